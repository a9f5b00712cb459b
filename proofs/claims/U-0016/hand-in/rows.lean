section
/-! pure rows to paste: stores, nI and lN arithmetic, masks, shifts, narrowing, branches by naturals (pk_le, pk_lt, pk_eq), loops (lp1 .. lp16: the measure of the state; rp1 ..: recursion), negatives. Take what you need -/
theorem pk_us {f : Nat → Int32} {k : Nat} {x : Int32} : upd f k x k = x := if_pos rfl
theorem pk_un {f : Nat → Int32} {k j : Nat} {x : Int32} (h : j ≠ k) : upd f k x j = f j := if_neg h
theorem pk_uLs {f : Nat → Int64} {k : Nat} {x : Int64} : vp_updL f k x k = x := if_pos rfl
theorem pk_uLn {f : Nat → Int64} {k j : Nat} {x : Int64} (h : j ≠ k) : vp_updL f k x j = f j := if_neg h
theorem pk_sub {a b : Nat} (h : b ≤ a) : nI a - nI b = nI (a - b) := by
  obtain ⟨c, rfl⟩ : ∃ c, a = c + b := ⟨a - b, by omega⟩
  rw [← nI_add, Int32.add_sub_cancel, Nat.add_sub_cancel]
theorem pk_m1 (n : Nat) : nI (n + 1) + (-1) = nI n := by
  rw [← nI_1, Int32.add_assoc, show (1 : Int32) + (-1) = 0 from rfl, Int32.add_zero]
theorem pk_mul (a b : Nat) : nI a * nI b = nI (a * b) := (Int32.ofNat_mul a b).symm
theorem pk_div {a d : Nat} (ha : a < 2 ^ 31) (h0 : 0 < d) (hd : d < 2 ^ 31) : nI a / nI d = nI (a / d) := by
  apply Int32.toInt_inj.mp
  rw [lg_idiv_nonneg (by rw [nI_toInt ha]; omega) (by rw [nI_toInt hd]; omega), nI_toInt ha, nI_toInt hd, nI_toInt (Nat.lt_of_le_of_lt (Nat.div_le_self a d) ha)]
  first | rfl | exact (Int.natCast_ediv _ _).symm
theorem pk_rem {a d : Nat} (ha : a < 2 ^ 31) (h0 : 0 < d) (hd : d < 2 ^ 31) : nI a - nI a / nI d * nI d = nI (a % d) := by
  rw [pk_div ha h0 hd, pk_mul, pk_sub (Nat.div_mul_le_self a d)]
  exact congrArg nI (by have := Nat.div_add_mod' a d; omega)
theorem pk_sub_toInt {a b : Nat} (ha : a < 2 ^ 30) (hb : b < 2 ^ 30) : (nI a - nI b).toInt = (a : Int) - b := by
  rw [Int32.toInt_sub, nI_toInt (by omega), nI_toInt (by omega)]
  exact Int.bmod_eq_of_le (by omega) (by omega)
theorem pk_sneg {a b : Nat} (hb : b < 2 ^ 30) (h : a < b) : nI a - nI b < 0 := by
  rw [Int32.lt_iff_toInt_lt, pk_sub_toInt (by omega) hb, show (0 : Int32).toInt = 0 from by decide]
  omega
theorem pk_ix (x : Int32) {n : Nat} (hn : n < 2 ^ 31) : x < 0 ∨ nI n ≤ x ∨ ∃ j : Nat, j < n ∧ x = nI j := by
  by_cases h : x < 0
  · exact Or.inl h
  · obtain ⟨j, hj, rfl⟩ := nI_of h
    by_cases h2 : j < n
    · exact Or.inr (Or.inr ⟨j, h2, rfl⟩)
    · exact Or.inr (Or.inl (nI_le (by omega) hj))
theorem pk_le {x y : Int32} {A B : Prop} (a b : Nat) (f : a ≤ b → A) (g : b < a → B) (hx : x = nI a := by rfl) (hy : y = nI b := by rfl) (ha : a < 2 ^ 31 := by omega) (hb : b < 2 ^ 31 := by omega) : (x ≤ y → A) ∧ (¬ x ≤ y → B) := by
  subst hx hy
  rw [nI_leI ha hb]
  exact ⟨f, fun z => g (by omega)⟩
theorem pk_lt {x y : Int32} {A B : Prop} (a b : Nat) (f : a < b → A) (g : b ≤ a → B) (hx : x = nI a := by rfl) (hy : y = nI b := by rfl) (ha : a < 2 ^ 31 := by omega) (hb : b < 2 ^ 31 := by omega) : (x < y → A) ∧ (¬ x < y → B) := by
  subst hx hy
  rw [nI_ltI ha hb]
  exact ⟨f, fun z => g (by omega)⟩
theorem pk_eq {x y : Int32} {A B : Prop} (a b : Nat) (f : a = b → A) (g : a ≠ b → B) (hx : x = nI a := by rfl) (hy : y = nI b := by rfl) (ha : a < 2 ^ 31 := by omega) (hb : b < 2 ^ 31 := by omega) : (x = y → A) ∧ (¬ x = y → B) := by
  subst hx hy
  rw [nI_eq ha hb]
  exact ⟨f, g⟩
theorem pk_in {x : Int32} (n N : Nat) (h : n < N) (hx : x = nI n := by rfl) (hN : N < 2 ^ 31 := by omega) : vp_in x N := by
  subst hx
  exact vp_in_nI h hN
theorem pk_cl {x : Int32} (n : Nat) (hx : x = nI n := by rfl) (h : n < 2 ^ 31 := by omega) : x.toNatClampNeg = n := by
  subst hx
  exact nI_clamp h
theorem pk_tn {n : Nat} (h : n < 2 ^ 32) : (nI n).toBitVec.toNat = n := Nat.mod_eq_of_lt h
theorem pk_and (x : Int32) {m : Int32} (k : Nat) (hm : m.toBitVec.toNat = 2 ^ k - 1) : x &&& m = nI (x.toBitVec.toNat % 2 ^ k) := by
  apply Int32.toBitVec_inj.mp
  apply BitVec.eq_of_toNat_eq
  rw [Int32.toBitVec_and, BitVec.toNat_and, hm, Nat.and_two_pow_sub_one_eq_mod]
  show _ = (BitVec.ofNat 32 _).toNat
  rw [BitVec.toNat_ofNat]
  exact (Nat.mod_eq_of_lt (Nat.lt_of_le_of_lt (Nat.mod_le _ _) x.toBitVec.isLt)).symm
theorem pk_andN {n : Nat} (h : n < 2 ^ 32) {m : Int32} (k : Nat) (hm : m.toBitVec.toNat = 2 ^ k - 1) : nI n &&& m = nI (n % 2 ^ k) := by
  rw [pk_and _ k hm, pk_tn h]
theorem pk_andE (x : Int32) {m : Int32} (k : Nat) (hm : m.toBitVec.toNat = 2 ^ k - 1) : ∃ j : Nat, j < 2 ^ k ∧ x &&& m = nI j := ⟨_, Nat.mod_lt _ (Nat.two_pow_pos k), pk_and x k hm⟩
theorem pk_andIn (x : Int32) {m : Int32} (k : Nat) (hm : m.toBitVec.toNat = 2 ^ k - 1) (hk : k ≤ 30) : vp_in (x &&& m) (2 ^ k) := by
  obtain ⟨j, hj, e⟩ := pk_andE x k hm
  rw [e]
  exact vp_in_nI hj (Nat.lt_of_le_of_lt (Nat.pow_le_pow_right (by decide) hk) (by decide))
theorem pk_shl (a s : Int32) (k : Nat) (hs : (s.toBitVec.smod 32).toNat = k) : (a <<< s).toBitVec.toNat = a.toBitVec.toNat * 2 ^ k % 2 ^ 32 := by
  show (a.toBitVec <<< (s.toBitVec.smod 32).toNat).toNat = _
  rw [hs, BitVec.toNat_shiftLeft, Nat.shiftLeft_eq]
theorem pk_shlN {n : Nat} (s : Int32) (k : Nat) (hs : (s.toBitVec.smod 32).toNat = k) (h : n * 2 ^ k < 2 ^ 32) : nI n <<< s = nI (n * 2 ^ k) := by
  apply Int32.toBitVec_inj.mp
  apply BitVec.eq_of_toNat_eq
  have hn : n < 2 ^ 32 := Nat.lt_of_le_of_lt (Nat.le_mul_of_pos_right n (Nat.two_pow_pos k)) h
  rw [pk_shl _ _ k hs, pk_tn hn, pk_tn h, Nat.mod_eq_of_lt h]
theorem pk_shr (a s : Int32) (k : Nat) (hs : (s.toBitVec.smod 32).toNat = k) : (a >>> s).toInt = a.toInt >>> k := by
  show (a.toBitVec.sshiftRight (s.toBitVec.smod 32).toNat).toInt = _
  rw [hs, BitVec.toInt_sshiftRight]
  rfl
theorem pk_shrN {n : Nat} (h : n < 2 ^ 31) (s : Int32) (k : Nat) (hs : (s.toBitVec.smod 32).toNat = k) : nI n >>> s = nI (n / 2 ^ k) := by
  apply Int32.toInt_inj.mp
  have h2 : n / 2 ^ k ≤ n := Nat.div_le_self _ _
  rw [pk_shr _ _ k hs, nI_toInt h, nI_toInt (by omega), Int.shiftRight_eq_div_pow]
  rfl
theorem pk_ushr (x s : Int32) (k : Nat) (hs : ((s.toUInt32 &&& Int32.toUInt32 31).toBitVec % 32).toNat = k) : (x.toUInt32 >>> (s.toUInt32 &&& Int32.toUInt32 31)).toInt32.toBitVec.toNat = x.toBitVec.toNat / 2 ^ k := by
  have e : (x.toUInt32 >>> (s.toUInt32 &&& Int32.toUInt32 31)).toInt32.toBitVec = x.toBitVec >>> k := by
    rw [← hs]
    exact UInt32.toBitVec_shiftRight _ _
  rw [e, BitVec.toNat_ushiftRight, Nat.shiftRight_eq_div_pow]
theorem pk_ushrN {n : Nat} (hn : n < 2 ^ 32) (s : Int32) (k : Nat) (hs : ((s.toUInt32 &&& Int32.toUInt32 31).toBitVec % 32).toNat = k) : ((nI n).toUInt32 >>> (s.toUInt32 &&& Int32.toUInt32 31)).toInt32 = nI (n / 2 ^ k) := by
  apply Int32.toBitVec_inj.mp
  apply BitVec.eq_of_toNat_eq
  rw [pk_ushr _ s k hs, pk_tn hn, pk_tn (Nat.lt_of_le_of_lt (Nat.div_le_self _ _) hn)]
theorem pk_nb (z : Int32) : narrow .byte (.int z.toInt8.toInt32) = .int z.toInt8.toInt32 := congrArg Value.int (by simp)
theorem pk_ns (z : Int32) : narrow .short (.int z.toInt16.toInt32) = .int z.toInt16.toInt32 := congrArg Value.int (by simp)
theorem pk_fb (r : Int32) : fits .byte (.int r.toInt8.toInt32) = true := by
  have ⟨a, b⟩ := lg_i2b_range r
  have h1 : (-128 : Int32).toInt = -128 := by decide
  have h2 : (127 : Int32).toInt = 127 := by decide
  simp only [fits, Bool.and_eq_true, decide_eq_true_eq, Int32.le_iff_toInt_le, h1, h2]
  omega
theorem pk_fs (r : Int32) : fits .short (.int r.toInt16.toInt32) = true := by
  have ⟨a, b⟩ := lg_i2s_range r
  have h1 : (-32768 : Int32).toInt = -32768 := by decide
  have h2 : (32767 : Int32).toInt = 32767 := by decide
  simp only [fits, Bool.and_eq_true, decide_eq_true_eq, Int32.le_iff_toInt_le, h1, h2]
  omega
theorem pk_charN {q : Nat} (hq : q < 65536) : narrow .char (.int (nI q)) = .int (nI q) ∧ fits .char (.int (nI q)) = true := by
  constructor
  · have e : (nI q).toUInt32.toUInt16.toUInt32.toInt32 = nI q := by
      apply Int32.toBitVec_inj.mp
      apply BitVec.eq_of_toNat_eq
      show (nI q).toUInt32.toUInt16.toUInt32.toNat = q % 2 ^ 32
      rw [UInt16.toNat_toUInt32, UInt32.toNat_toUInt16, show (nI q).toUInt32.toNat = q % 2 ^ 32 from rfl]
      omega
    exact congrArg Value.int e
  · have a : (0 : Int32) ≤ nI q := nI_pos' (by omega)
    have b : nI q ≤ 65535 := nI_le (b := 65535) (by omega) (by decide)
    show (decide ((0 : Int32) ≤ nI q) && decide (nI q ≤ 65535)) = true
    rw [decide_eq_true a, decide_eq_true b]
    rfl
theorem pk_char (x : Int32) : (x.toUInt32 % 65536).toInt32 = nI (x.toBitVec.toNat % 65536) := by
  apply Int32.toBitVec_inj.mp
  apply BitVec.eq_of_toNat_eq
  rw [pk_tn (by omega)]
  show (x.toUInt32 % 65536).toNat = _
  rw [UInt32.toNat_mod]
  rfl
theorem pk_nc (x : Int32) : narrow .char (.int (x.toUInt32 % 65536).toInt32) = .int (x.toUInt32 % 65536).toInt32 := by
  rw [pk_char]
  exact (pk_charN (Nat.mod_lt _ (by decide))).1
theorem pk_fc (x : Int32) : fits .char (.int (x.toUInt32 % 65536).toInt32) = true := by
  rw [pk_char]
  exact (pk_charN (Nat.mod_lt _ (by decide))).2
theorem pk_vb (z : Int32) : vp_nar .byte z.toInt8.toInt32 = z.toInt8.toInt32 := by rw [vp_nar_byte]; simp
theorem pk_vs (z : Int32) : vp_nar .short z.toInt16.toInt32 = z.toInt16.toInt32 := by rw [vp_nar_short]; simp
theorem pk_vc (z : Int32) : vp_nar .char (z.toUInt32 % 65536).toInt32 = (z.toUInt32 % 65536).toInt32 := Value.int.inj (pk_nc z)
theorem pk_lT {n : Nat} (h : n < 2 ^ 63) : (lN n).toInt = (n : Int) := lg_ofNat_toInt h
theorem pk_lLT {a b : Nat} (ha : a < 2 ^ 63) (hb : b < 2 ^ 63) : lN a < lN b ↔ a < b := by
  rw [Int64.lt_iff_toInt_lt, pk_lT ha, pk_lT hb]; omega
theorem pk_lLE {a b : Nat} (ha : a < 2 ^ 63) (hb : b < 2 ^ 63) : lN a ≤ lN b ↔ a ≤ b := by
  rw [Int64.le_iff_toInt_le, pk_lT ha, pk_lT hb]; omega
theorem pk_lEQ {a b : Nat} (ha : a < 2 ^ 63) (hb : b < 2 ^ 63) : lN a = lN b ↔ a = b := by
  rw [← Int64.toInt_inj, pk_lT ha, pk_lT hb]; omega
theorem pk_lOf {x : Int64} (h : ¬ x < 0) : ∃ k : Nat, k < 2 ^ 63 ∧ x = lN k := by
  rw [Int64.lt_iff_toInt_lt] at h
  have h0 : (0 : Int64).toInt = 0 := by decide
  have hx := Int64.toInt_lt x
  refine ⟨x.toInt.toNat, by omega, Int64.toInt_inj.mp ?_⟩
  rw [pk_lT (by omega)]
  omega
theorem pk_lDiv {a b : Nat} (ha : a < 2 ^ 63) (h0 : 0 < b) (hb : b < 2 ^ 63) : lN a / lN b = lN (a / b) := by
  apply Int64.toInt_inj.mp
  rw [lg_ldiv_nonneg (by rw [pk_lT ha]; omega) (by rw [pk_lT hb]; omega), pk_lT ha, pk_lT hb, pk_lT (Nat.lt_of_le_of_lt (Nat.div_le_self a b) ha)]
  rfl
theorem pk_lRem {a b : Nat} (ha : a < 2 ^ 63) (h0 : 0 < b) (hb : b < 2 ^ 63) : lN a - lN a / lN b * lN b = lN (a % b) := by
  rw [pk_lDiv ha h0 hb, lN_mul, lN_sub (Nat.div_mul_le_self a b)]
  exact congrArg lN (by have := Nat.div_add_mod' a b; omega)
theorem pk_loop {σ : Type} (W : Nat → Nat → σ → Prop) (I : Nat → σ → Prop) (e i0 : Nat) (s : σ) (hi : i0 ≤ e) (h0 : I i0 s) (hx : ∀ n s, I e s → W (n + 1) e s)
    (hs : ∀ n i s, i < e → I i s → (∀ s', I (i + 1) s' → W n (i + 1) s') → W (n + 1) i s) : ∃ n, W n i0 s :=
  ⟨e + 1, loop_i W I e hx hs (e + 1) i0 s hi (by omega) h0⟩
theorem pk_loopD {σ : Type} (W : Nat → Nat → σ → Prop) (I : Nat → σ → Prop) (hx : ∀ n s, I 0 s → W (n + 1) 0 s)
    (hs : ∀ n i s, I (i + 1) s → (∀ s', I i s' → W n i s') → W (n + 1) (i + 1) s) : ∀ (e : Nat) (s : σ), I e s → W (e + 1) e s := by
  intro e
  induction e with
  | zero => exact fun s h => hx 0 s h
  | succ e ih => exact fun s h => hs (e + 1) e s h (fun s' h' => ih s' h')
theorem lp1 {A1 : Type} (W : Nat → A1 → Prop) (I : A1 → Prop) (μ : A1 → Nat) (hs : ∀ (n : Nat) (a1 : A1), I a1 → (∀ (b1 : A1), I b1 → μ b1 < μ a1 → W n b1) → W (n + 1) a1) (a1 : A1) (h : I a1) : ∃ n, W n a1 :=
  loop_m (σ := A1) (fun n s => W n s) (fun s => I s) (fun s => μ s) (fun n s hI hk => hs n s hI (fun b1 h9 hm => hk b1 h9 hm)) a1 h
theorem lp2 {A1 A2 : Type} (W : Nat → A1 → A2 → Prop) (I : A1 → A2 → Prop) (μ : A1 → A2 → Nat) (hs : ∀ (n : Nat) (a1 : A1) (a2 : A2), I a1 a2 → (∀ (b1 : A1) (b2 : A2), I b1 b2 → μ b1 b2 < μ a1 a2 → W n b1 b2) → W (n + 1) a1 a2) (a1 : A1) (a2 : A2) (h : I a1 a2) : ∃ n, W n a1 a2 :=
  loop_m (σ := A1 × A2) (fun n s => W n s.1 s.2) (fun s => I s.1 s.2) (fun s => μ s.1 s.2) (fun n s hI hk => hs n s.1 s.2 hI (fun b1 b2 h9 hm => hk (b1, b2) h9 hm)) (a1, a2) h
theorem lp3 {A1 A2 A3 : Type} (W : Nat → A1 → A2 → A3 → Prop) (I : A1 → A2 → A3 → Prop) (μ : A1 → A2 → A3 → Nat) (hs : ∀ (n : Nat) (a1 : A1) (a2 : A2) (a3 : A3), I a1 a2 a3 → (∀ (b1 : A1) (b2 : A2) (b3 : A3), I b1 b2 b3 → μ b1 b2 b3 < μ a1 a2 a3 → W n b1 b2 b3) → W (n + 1) a1 a2 a3) (a1 : A1) (a2 : A2) (a3 : A3) (h : I a1 a2 a3) : ∃ n, W n a1 a2 a3 :=
  loop_m (σ := A1 × A2 × A3) (fun n s => W n s.1 s.2.1 s.2.2) (fun s => I s.1 s.2.1 s.2.2) (fun s => μ s.1 s.2.1 s.2.2) (fun n s hI hk => hs n s.1 s.2.1 s.2.2 hI (fun b1 b2 b3 h9 hm => hk (b1, b2, b3) h9 hm)) (a1, a2, a3) h
theorem lp4 {A1 A2 A3 A4 : Type} (W : Nat → A1 → A2 → A3 → A4 → Prop) (I : A1 → A2 → A3 → A4 → Prop) (μ : A1 → A2 → A3 → A4 → Nat) (hs : ∀ (n : Nat) (a1 : A1) (a2 : A2) (a3 : A3) (a4 : A4), I a1 a2 a3 a4 → (∀ (b1 : A1) (b2 : A2) (b3 : A3) (b4 : A4), I b1 b2 b3 b4 → μ b1 b2 b3 b4 < μ a1 a2 a3 a4 → W n b1 b2 b3 b4) → W (n + 1) a1 a2 a3 a4) (a1 : A1) (a2 : A2) (a3 : A3) (a4 : A4) (h : I a1 a2 a3 a4) : ∃ n, W n a1 a2 a3 a4 :=
  loop_m (σ := A1 × A2 × A3 × A4) (fun n s => W n s.1 s.2.1 s.2.2.1 s.2.2.2) (fun s => I s.1 s.2.1 s.2.2.1 s.2.2.2) (fun s => μ s.1 s.2.1 s.2.2.1 s.2.2.2) (fun n s hI hk => hs n s.1 s.2.1 s.2.2.1 s.2.2.2 hI (fun b1 b2 b3 b4 h9 hm => hk (b1, b2, b3, b4) h9 hm)) (a1, a2, a3, a4) h
theorem lp5 {A1 A2 A3 A4 A5 : Type} (W : Nat → A1 → A2 → A3 → A4 → A5 → Prop) (I : A1 → A2 → A3 → A4 → A5 → Prop) (μ : A1 → A2 → A3 → A4 → A5 → Nat) (hs : ∀ (n : Nat) (a1 : A1) (a2 : A2) (a3 : A3) (a4 : A4) (a5 : A5), I a1 a2 a3 a4 a5 → (∀ (b1 : A1) (b2 : A2) (b3 : A3) (b4 : A4) (b5 : A5), I b1 b2 b3 b4 b5 → μ b1 b2 b3 b4 b5 < μ a1 a2 a3 a4 a5 → W n b1 b2 b3 b4 b5) → W (n + 1) a1 a2 a3 a4 a5) (a1 : A1) (a2 : A2) (a3 : A3) (a4 : A4) (a5 : A5) (h : I a1 a2 a3 a4 a5) : ∃ n, W n a1 a2 a3 a4 a5 :=
  loop_m (σ := A1 × A2 × A3 × A4 × A5) (fun n s => W n s.1 s.2.1 s.2.2.1 s.2.2.2.1 s.2.2.2.2) (fun s => I s.1 s.2.1 s.2.2.1 s.2.2.2.1 s.2.2.2.2) (fun s => μ s.1 s.2.1 s.2.2.1 s.2.2.2.1 s.2.2.2.2) (fun n s hI hk => hs n s.1 s.2.1 s.2.2.1 s.2.2.2.1 s.2.2.2.2 hI (fun b1 b2 b3 b4 b5 h9 hm => hk (b1, b2, b3, b4, b5) h9 hm)) (a1, a2, a3, a4, a5) h
theorem lp6 {A1 A2 A3 A4 A5 A6 : Type} (W : Nat → A1 → A2 → A3 → A4 → A5 → A6 → Prop) (I : A1 → A2 → A3 → A4 → A5 → A6 → Prop) (μ : A1 → A2 → A3 → A4 → A5 → A6 → Nat) (hs : ∀ (n : Nat) (a1 : A1) (a2 : A2) (a3 : A3) (a4 : A4) (a5 : A5) (a6 : A6), I a1 a2 a3 a4 a5 a6 → (∀ (b1 : A1) (b2 : A2) (b3 : A3) (b4 : A4) (b5 : A5) (b6 : A6), I b1 b2 b3 b4 b5 b6 → μ b1 b2 b3 b4 b5 b6 < μ a1 a2 a3 a4 a5 a6 → W n b1 b2 b3 b4 b5 b6) → W (n + 1) a1 a2 a3 a4 a5 a6) (a1 : A1) (a2 : A2) (a3 : A3) (a4 : A4) (a5 : A5) (a6 : A6) (h : I a1 a2 a3 a4 a5 a6) : ∃ n, W n a1 a2 a3 a4 a5 a6 :=
  loop_m (σ := A1 × A2 × A3 × A4 × A5 × A6) (fun n s => W n s.1 s.2.1 s.2.2.1 s.2.2.2.1 s.2.2.2.2.1 s.2.2.2.2.2) (fun s => I s.1 s.2.1 s.2.2.1 s.2.2.2.1 s.2.2.2.2.1 s.2.2.2.2.2) (fun s => μ s.1 s.2.1 s.2.2.1 s.2.2.2.1 s.2.2.2.2.1 s.2.2.2.2.2) (fun n s hI hk => hs n s.1 s.2.1 s.2.2.1 s.2.2.2.1 s.2.2.2.2.1 s.2.2.2.2.2 hI (fun b1 b2 b3 b4 b5 b6 h9 hm => hk (b1, b2, b3, b4, b5, b6) h9 hm)) (a1, a2, a3, a4, a5, a6) h
theorem lp7 {A1 A2 A3 A4 A5 A6 A7 : Type} (W : Nat → A1 → A2 → A3 → A4 → A5 → A6 → A7 → Prop) (I : A1 → A2 → A3 → A4 → A5 → A6 → A7 → Prop) (μ : A1 → A2 → A3 → A4 → A5 → A6 → A7 → Nat) (hs : ∀ (n : Nat) (a1 : A1) (a2 : A2) (a3 : A3) (a4 : A4) (a5 : A5) (a6 : A6) (a7 : A7), I a1 a2 a3 a4 a5 a6 a7 → (∀ (b1 : A1) (b2 : A2) (b3 : A3) (b4 : A4) (b5 : A5) (b6 : A6) (b7 : A7), I b1 b2 b3 b4 b5 b6 b7 → μ b1 b2 b3 b4 b5 b6 b7 < μ a1 a2 a3 a4 a5 a6 a7 → W n b1 b2 b3 b4 b5 b6 b7) → W (n + 1) a1 a2 a3 a4 a5 a6 a7) (a1 : A1) (a2 : A2) (a3 : A3) (a4 : A4) (a5 : A5) (a6 : A6) (a7 : A7) (h : I a1 a2 a3 a4 a5 a6 a7) : ∃ n, W n a1 a2 a3 a4 a5 a6 a7 :=
  loop_m (σ := A1 × A2 × A3 × A4 × A5 × A6 × A7) (fun n s => W n s.1 s.2.1 s.2.2.1 s.2.2.2.1 s.2.2.2.2.1 s.2.2.2.2.2.1 s.2.2.2.2.2.2) (fun s => I s.1 s.2.1 s.2.2.1 s.2.2.2.1 s.2.2.2.2.1 s.2.2.2.2.2.1 s.2.2.2.2.2.2) (fun s => μ s.1 s.2.1 s.2.2.1 s.2.2.2.1 s.2.2.2.2.1 s.2.2.2.2.2.1 s.2.2.2.2.2.2) (fun n s hI hk => hs n s.1 s.2.1 s.2.2.1 s.2.2.2.1 s.2.2.2.2.1 s.2.2.2.2.2.1 s.2.2.2.2.2.2 hI (fun b1 b2 b3 b4 b5 b6 b7 h9 hm => hk (b1, b2, b3, b4, b5, b6, b7) h9 hm)) (a1, a2, a3, a4, a5, a6, a7) h
theorem lp8 {A1 A2 A3 A4 A5 A6 A7 A8 : Type} (W : Nat → A1 → A2 → A3 → A4 → A5 → A6 → A7 → A8 → Prop) (I : A1 → A2 → A3 → A4 → A5 → A6 → A7 → A8 → Prop) (μ : A1 → A2 → A3 → A4 → A5 → A6 → A7 → A8 → Nat) (hs : ∀ (n : Nat) (a1 : A1) (a2 : A2) (a3 : A3) (a4 : A4) (a5 : A5) (a6 : A6) (a7 : A7) (a8 : A8), I a1 a2 a3 a4 a5 a6 a7 a8 → (∀ (b1 : A1) (b2 : A2) (b3 : A3) (b4 : A4) (b5 : A5) (b6 : A6) (b7 : A7) (b8 : A8), I b1 b2 b3 b4 b5 b6 b7 b8 → μ b1 b2 b3 b4 b5 b6 b7 b8 < μ a1 a2 a3 a4 a5 a6 a7 a8 → W n b1 b2 b3 b4 b5 b6 b7 b8) → W (n + 1) a1 a2 a3 a4 a5 a6 a7 a8) (a1 : A1) (a2 : A2) (a3 : A3) (a4 : A4) (a5 : A5) (a6 : A6) (a7 : A7) (a8 : A8) (h : I a1 a2 a3 a4 a5 a6 a7 a8) : ∃ n, W n a1 a2 a3 a4 a5 a6 a7 a8 :=
  loop_m (σ := A1 × A2 × A3 × A4 × A5 × A6 × A7 × A8) (fun n s => W n s.1 s.2.1 s.2.2.1 s.2.2.2.1 s.2.2.2.2.1 s.2.2.2.2.2.1 s.2.2.2.2.2.2.1 s.2.2.2.2.2.2.2) (fun s => I s.1 s.2.1 s.2.2.1 s.2.2.2.1 s.2.2.2.2.1 s.2.2.2.2.2.1 s.2.2.2.2.2.2.1 s.2.2.2.2.2.2.2) (fun s => μ s.1 s.2.1 s.2.2.1 s.2.2.2.1 s.2.2.2.2.1 s.2.2.2.2.2.1 s.2.2.2.2.2.2.1 s.2.2.2.2.2.2.2) (fun n s hI hk => hs n s.1 s.2.1 s.2.2.1 s.2.2.2.1 s.2.2.2.2.1 s.2.2.2.2.2.1 s.2.2.2.2.2.2.1 s.2.2.2.2.2.2.2 hI (fun b1 b2 b3 b4 b5 b6 b7 b8 h9 hm => hk (b1, b2, b3, b4, b5, b6, b7, b8) h9 hm)) (a1, a2, a3, a4, a5, a6, a7, a8) h
theorem lp9 {A1 A2 A3 A4 A5 A6 A7 A8 A9 : Type} (W : Nat → A1 → A2 → A3 → A4 → A5 → A6 → A7 → A8 → A9 → Prop) (I : A1 → A2 → A3 → A4 → A5 → A6 → A7 → A8 → A9 → Prop) (μ : A1 → A2 → A3 → A4 → A5 → A6 → A7 → A8 → A9 → Nat) (hs : ∀ (n : Nat) (a1 : A1) (a2 : A2) (a3 : A3) (a4 : A4) (a5 : A5) (a6 : A6) (a7 : A7) (a8 : A8) (a9 : A9), I a1 a2 a3 a4 a5 a6 a7 a8 a9 → (∀ (b1 : A1) (b2 : A2) (b3 : A3) (b4 : A4) (b5 : A5) (b6 : A6) (b7 : A7) (b8 : A8) (b9 : A9), I b1 b2 b3 b4 b5 b6 b7 b8 b9 → μ b1 b2 b3 b4 b5 b6 b7 b8 b9 < μ a1 a2 a3 a4 a5 a6 a7 a8 a9 → W n b1 b2 b3 b4 b5 b6 b7 b8 b9) → W (n + 1) a1 a2 a3 a4 a5 a6 a7 a8 a9) (a1 : A1) (a2 : A2) (a3 : A3) (a4 : A4) (a5 : A5) (a6 : A6) (a7 : A7) (a8 : A8) (a9 : A9) (h : I a1 a2 a3 a4 a5 a6 a7 a8 a9) : ∃ n, W n a1 a2 a3 a4 a5 a6 a7 a8 a9 :=
  loop_m (σ := A1 × A2 × A3 × A4 × A5 × A6 × A7 × A8 × A9) (fun n s => W n s.1 s.2.1 s.2.2.1 s.2.2.2.1 s.2.2.2.2.1 s.2.2.2.2.2.1 s.2.2.2.2.2.2.1 s.2.2.2.2.2.2.2.1 s.2.2.2.2.2.2.2.2) (fun s => I s.1 s.2.1 s.2.2.1 s.2.2.2.1 s.2.2.2.2.1 s.2.2.2.2.2.1 s.2.2.2.2.2.2.1 s.2.2.2.2.2.2.2.1 s.2.2.2.2.2.2.2.2) (fun s => μ s.1 s.2.1 s.2.2.1 s.2.2.2.1 s.2.2.2.2.1 s.2.2.2.2.2.1 s.2.2.2.2.2.2.1 s.2.2.2.2.2.2.2.1 s.2.2.2.2.2.2.2.2) (fun n s hI hk => hs n s.1 s.2.1 s.2.2.1 s.2.2.2.1 s.2.2.2.2.1 s.2.2.2.2.2.1 s.2.2.2.2.2.2.1 s.2.2.2.2.2.2.2.1 s.2.2.2.2.2.2.2.2 hI (fun b1 b2 b3 b4 b5 b6 b7 b8 b9 h9 hm => hk (b1, b2, b3, b4, b5, b6, b7, b8, b9) h9 hm)) (a1, a2, a3, a4, a5, a6, a7, a8, a9) h
theorem lp10 {A1 A2 A3 A4 A5 A6 A7 A8 A9 A10 : Type} (W : Nat → A1 → A2 → A3 → A4 → A5 → A6 → A7 → A8 → A9 → A10 → Prop) (I : A1 → A2 → A3 → A4 → A5 → A6 → A7 → A8 → A9 → A10 → Prop) (μ : A1 → A2 → A3 → A4 → A5 → A6 → A7 → A8 → A9 → A10 → Nat) (hs : ∀ (n : Nat) (a1 : A1) (a2 : A2) (a3 : A3) (a4 : A4) (a5 : A5) (a6 : A6) (a7 : A7) (a8 : A8) (a9 : A9) (a10 : A10), I a1 a2 a3 a4 a5 a6 a7 a8 a9 a10 → (∀ (b1 : A1) (b2 : A2) (b3 : A3) (b4 : A4) (b5 : A5) (b6 : A6) (b7 : A7) (b8 : A8) (b9 : A9) (b10 : A10), I b1 b2 b3 b4 b5 b6 b7 b8 b9 b10 → μ b1 b2 b3 b4 b5 b6 b7 b8 b9 b10 < μ a1 a2 a3 a4 a5 a6 a7 a8 a9 a10 → W n b1 b2 b3 b4 b5 b6 b7 b8 b9 b10) → W (n + 1) a1 a2 a3 a4 a5 a6 a7 a8 a9 a10) (a1 : A1) (a2 : A2) (a3 : A3) (a4 : A4) (a5 : A5) (a6 : A6) (a7 : A7) (a8 : A8) (a9 : A9) (a10 : A10) (h : I a1 a2 a3 a4 a5 a6 a7 a8 a9 a10) : ∃ n, W n a1 a2 a3 a4 a5 a6 a7 a8 a9 a10 :=
  loop_m (σ := A1 × A2 × A3 × A4 × A5 × A6 × A7 × A8 × A9 × A10) (fun n s => W n s.1 s.2.1 s.2.2.1 s.2.2.2.1 s.2.2.2.2.1 s.2.2.2.2.2.1 s.2.2.2.2.2.2.1 s.2.2.2.2.2.2.2.1 s.2.2.2.2.2.2.2.2.1 s.2.2.2.2.2.2.2.2.2) (fun s => I s.1 s.2.1 s.2.2.1 s.2.2.2.1 s.2.2.2.2.1 s.2.2.2.2.2.1 s.2.2.2.2.2.2.1 s.2.2.2.2.2.2.2.1 s.2.2.2.2.2.2.2.2.1 s.2.2.2.2.2.2.2.2.2) (fun s => μ s.1 s.2.1 s.2.2.1 s.2.2.2.1 s.2.2.2.2.1 s.2.2.2.2.2.1 s.2.2.2.2.2.2.1 s.2.2.2.2.2.2.2.1 s.2.2.2.2.2.2.2.2.1 s.2.2.2.2.2.2.2.2.2) (fun n s hI hk => hs n s.1 s.2.1 s.2.2.1 s.2.2.2.1 s.2.2.2.2.1 s.2.2.2.2.2.1 s.2.2.2.2.2.2.1 s.2.2.2.2.2.2.2.1 s.2.2.2.2.2.2.2.2.1 s.2.2.2.2.2.2.2.2.2 hI (fun b1 b2 b3 b4 b5 b6 b7 b8 b9 b10 h9 hm => hk (b1, b2, b3, b4, b5, b6, b7, b8, b9, b10) h9 hm)) (a1, a2, a3, a4, a5, a6, a7, a8, a9, a10) h
theorem lp11 {A1 A2 A3 A4 A5 A6 A7 A8 A9 A10 A11 : Type} (W : Nat → A1 → A2 → A3 → A4 → A5 → A6 → A7 → A8 → A9 → A10 → A11 → Prop) (I : A1 → A2 → A3 → A4 → A5 → A6 → A7 → A8 → A9 → A10 → A11 → Prop) (μ : A1 → A2 → A3 → A4 → A5 → A6 → A7 → A8 → A9 → A10 → A11 → Nat) (hs : ∀ (n : Nat) (a1 : A1) (a2 : A2) (a3 : A3) (a4 : A4) (a5 : A5) (a6 : A6) (a7 : A7) (a8 : A8) (a9 : A9) (a10 : A10) (a11 : A11), I a1 a2 a3 a4 a5 a6 a7 a8 a9 a10 a11 → (∀ (b1 : A1) (b2 : A2) (b3 : A3) (b4 : A4) (b5 : A5) (b6 : A6) (b7 : A7) (b8 : A8) (b9 : A9) (b10 : A10) (b11 : A11), I b1 b2 b3 b4 b5 b6 b7 b8 b9 b10 b11 → μ b1 b2 b3 b4 b5 b6 b7 b8 b9 b10 b11 < μ a1 a2 a3 a4 a5 a6 a7 a8 a9 a10 a11 → W n b1 b2 b3 b4 b5 b6 b7 b8 b9 b10 b11) → W (n + 1) a1 a2 a3 a4 a5 a6 a7 a8 a9 a10 a11) (a1 : A1) (a2 : A2) (a3 : A3) (a4 : A4) (a5 : A5) (a6 : A6) (a7 : A7) (a8 : A8) (a9 : A9) (a10 : A10) (a11 : A11) (h : I a1 a2 a3 a4 a5 a6 a7 a8 a9 a10 a11) : ∃ n, W n a1 a2 a3 a4 a5 a6 a7 a8 a9 a10 a11 :=
  loop_m (σ := A1 × A2 × A3 × A4 × A5 × A6 × A7 × A8 × A9 × A10 × A11) (fun n s => W n s.1 s.2.1 s.2.2.1 s.2.2.2.1 s.2.2.2.2.1 s.2.2.2.2.2.1 s.2.2.2.2.2.2.1 s.2.2.2.2.2.2.2.1 s.2.2.2.2.2.2.2.2.1 s.2.2.2.2.2.2.2.2.2.1 s.2.2.2.2.2.2.2.2.2.2) (fun s => I s.1 s.2.1 s.2.2.1 s.2.2.2.1 s.2.2.2.2.1 s.2.2.2.2.2.1 s.2.2.2.2.2.2.1 s.2.2.2.2.2.2.2.1 s.2.2.2.2.2.2.2.2.1 s.2.2.2.2.2.2.2.2.2.1 s.2.2.2.2.2.2.2.2.2.2) (fun s => μ s.1 s.2.1 s.2.2.1 s.2.2.2.1 s.2.2.2.2.1 s.2.2.2.2.2.1 s.2.2.2.2.2.2.1 s.2.2.2.2.2.2.2.1 s.2.2.2.2.2.2.2.2.1 s.2.2.2.2.2.2.2.2.2.1 s.2.2.2.2.2.2.2.2.2.2) (fun n s hI hk => hs n s.1 s.2.1 s.2.2.1 s.2.2.2.1 s.2.2.2.2.1 s.2.2.2.2.2.1 s.2.2.2.2.2.2.1 s.2.2.2.2.2.2.2.1 s.2.2.2.2.2.2.2.2.1 s.2.2.2.2.2.2.2.2.2.1 s.2.2.2.2.2.2.2.2.2.2 hI (fun b1 b2 b3 b4 b5 b6 b7 b8 b9 b10 b11 h9 hm => hk (b1, b2, b3, b4, b5, b6, b7, b8, b9, b10, b11) h9 hm)) (a1, a2, a3, a4, a5, a6, a7, a8, a9, a10, a11) h
theorem lp12 {A1 A2 A3 A4 A5 A6 A7 A8 A9 A10 A11 A12 : Type} (W : Nat → A1 → A2 → A3 → A4 → A5 → A6 → A7 → A8 → A9 → A10 → A11 → A12 → Prop) (I : A1 → A2 → A3 → A4 → A5 → A6 → A7 → A8 → A9 → A10 → A11 → A12 → Prop) (μ : A1 → A2 → A3 → A4 → A5 → A6 → A7 → A8 → A9 → A10 → A11 → A12 → Nat) (hs : ∀ (n : Nat) (a1 : A1) (a2 : A2) (a3 : A3) (a4 : A4) (a5 : A5) (a6 : A6) (a7 : A7) (a8 : A8) (a9 : A9) (a10 : A10) (a11 : A11) (a12 : A12), I a1 a2 a3 a4 a5 a6 a7 a8 a9 a10 a11 a12 → (∀ (b1 : A1) (b2 : A2) (b3 : A3) (b4 : A4) (b5 : A5) (b6 : A6) (b7 : A7) (b8 : A8) (b9 : A9) (b10 : A10) (b11 : A11) (b12 : A12), I b1 b2 b3 b4 b5 b6 b7 b8 b9 b10 b11 b12 → μ b1 b2 b3 b4 b5 b6 b7 b8 b9 b10 b11 b12 < μ a1 a2 a3 a4 a5 a6 a7 a8 a9 a10 a11 a12 → W n b1 b2 b3 b4 b5 b6 b7 b8 b9 b10 b11 b12) → W (n + 1) a1 a2 a3 a4 a5 a6 a7 a8 a9 a10 a11 a12) (a1 : A1) (a2 : A2) (a3 : A3) (a4 : A4) (a5 : A5) (a6 : A6) (a7 : A7) (a8 : A8) (a9 : A9) (a10 : A10) (a11 : A11) (a12 : A12) (h : I a1 a2 a3 a4 a5 a6 a7 a8 a9 a10 a11 a12) : ∃ n, W n a1 a2 a3 a4 a5 a6 a7 a8 a9 a10 a11 a12 :=
  loop_m (σ := A1 × A2 × A3 × A4 × A5 × A6 × A7 × A8 × A9 × A10 × A11 × A12) (fun n s => W n s.1 s.2.1 s.2.2.1 s.2.2.2.1 s.2.2.2.2.1 s.2.2.2.2.2.1 s.2.2.2.2.2.2.1 s.2.2.2.2.2.2.2.1 s.2.2.2.2.2.2.2.2.1 s.2.2.2.2.2.2.2.2.2.1 s.2.2.2.2.2.2.2.2.2.2.1 s.2.2.2.2.2.2.2.2.2.2.2) (fun s => I s.1 s.2.1 s.2.2.1 s.2.2.2.1 s.2.2.2.2.1 s.2.2.2.2.2.1 s.2.2.2.2.2.2.1 s.2.2.2.2.2.2.2.1 s.2.2.2.2.2.2.2.2.1 s.2.2.2.2.2.2.2.2.2.1 s.2.2.2.2.2.2.2.2.2.2.1 s.2.2.2.2.2.2.2.2.2.2.2) (fun s => μ s.1 s.2.1 s.2.2.1 s.2.2.2.1 s.2.2.2.2.1 s.2.2.2.2.2.1 s.2.2.2.2.2.2.1 s.2.2.2.2.2.2.2.1 s.2.2.2.2.2.2.2.2.1 s.2.2.2.2.2.2.2.2.2.1 s.2.2.2.2.2.2.2.2.2.2.1 s.2.2.2.2.2.2.2.2.2.2.2) (fun n s hI hk => hs n s.1 s.2.1 s.2.2.1 s.2.2.2.1 s.2.2.2.2.1 s.2.2.2.2.2.1 s.2.2.2.2.2.2.1 s.2.2.2.2.2.2.2.1 s.2.2.2.2.2.2.2.2.1 s.2.2.2.2.2.2.2.2.2.1 s.2.2.2.2.2.2.2.2.2.2.1 s.2.2.2.2.2.2.2.2.2.2.2 hI (fun b1 b2 b3 b4 b5 b6 b7 b8 b9 b10 b11 b12 h9 hm => hk (b1, b2, b3, b4, b5, b6, b7, b8, b9, b10, b11, b12) h9 hm)) (a1, a2, a3, a4, a5, a6, a7, a8, a9, a10, a11, a12) h
theorem lp13 {A1 A2 A3 A4 A5 A6 A7 A8 A9 A10 A11 A12 A13 : Type} (W : Nat → A1 → A2 → A3 → A4 → A5 → A6 → A7 → A8 → A9 → A10 → A11 → A12 → A13 → Prop) (I : A1 → A2 → A3 → A4 → A5 → A6 → A7 → A8 → A9 → A10 → A11 → A12 → A13 → Prop) (μ : A1 → A2 → A3 → A4 → A5 → A6 → A7 → A8 → A9 → A10 → A11 → A12 → A13 → Nat) (hs : ∀ (n : Nat) (a1 : A1) (a2 : A2) (a3 : A3) (a4 : A4) (a5 : A5) (a6 : A6) (a7 : A7) (a8 : A8) (a9 : A9) (a10 : A10) (a11 : A11) (a12 : A12) (a13 : A13), I a1 a2 a3 a4 a5 a6 a7 a8 a9 a10 a11 a12 a13 → (∀ (b1 : A1) (b2 : A2) (b3 : A3) (b4 : A4) (b5 : A5) (b6 : A6) (b7 : A7) (b8 : A8) (b9 : A9) (b10 : A10) (b11 : A11) (b12 : A12) (b13 : A13), I b1 b2 b3 b4 b5 b6 b7 b8 b9 b10 b11 b12 b13 → μ b1 b2 b3 b4 b5 b6 b7 b8 b9 b10 b11 b12 b13 < μ a1 a2 a3 a4 a5 a6 a7 a8 a9 a10 a11 a12 a13 → W n b1 b2 b3 b4 b5 b6 b7 b8 b9 b10 b11 b12 b13) → W (n + 1) a1 a2 a3 a4 a5 a6 a7 a8 a9 a10 a11 a12 a13) (a1 : A1) (a2 : A2) (a3 : A3) (a4 : A4) (a5 : A5) (a6 : A6) (a7 : A7) (a8 : A8) (a9 : A9) (a10 : A10) (a11 : A11) (a12 : A12) (a13 : A13) (h : I a1 a2 a3 a4 a5 a6 a7 a8 a9 a10 a11 a12 a13) : ∃ n, W n a1 a2 a3 a4 a5 a6 a7 a8 a9 a10 a11 a12 a13 :=
  loop_m (σ := A1 × A2 × A3 × A4 × A5 × A6 × A7 × A8 × A9 × A10 × A11 × A12 × A13) (fun n s => W n s.1 s.2.1 s.2.2.1 s.2.2.2.1 s.2.2.2.2.1 s.2.2.2.2.2.1 s.2.2.2.2.2.2.1 s.2.2.2.2.2.2.2.1 s.2.2.2.2.2.2.2.2.1 s.2.2.2.2.2.2.2.2.2.1 s.2.2.2.2.2.2.2.2.2.2.1 s.2.2.2.2.2.2.2.2.2.2.2.1 s.2.2.2.2.2.2.2.2.2.2.2.2) (fun s => I s.1 s.2.1 s.2.2.1 s.2.2.2.1 s.2.2.2.2.1 s.2.2.2.2.2.1 s.2.2.2.2.2.2.1 s.2.2.2.2.2.2.2.1 s.2.2.2.2.2.2.2.2.1 s.2.2.2.2.2.2.2.2.2.1 s.2.2.2.2.2.2.2.2.2.2.1 s.2.2.2.2.2.2.2.2.2.2.2.1 s.2.2.2.2.2.2.2.2.2.2.2.2) (fun s => μ s.1 s.2.1 s.2.2.1 s.2.2.2.1 s.2.2.2.2.1 s.2.2.2.2.2.1 s.2.2.2.2.2.2.1 s.2.2.2.2.2.2.2.1 s.2.2.2.2.2.2.2.2.1 s.2.2.2.2.2.2.2.2.2.1 s.2.2.2.2.2.2.2.2.2.2.1 s.2.2.2.2.2.2.2.2.2.2.2.1 s.2.2.2.2.2.2.2.2.2.2.2.2) (fun n s hI hk => hs n s.1 s.2.1 s.2.2.1 s.2.2.2.1 s.2.2.2.2.1 s.2.2.2.2.2.1 s.2.2.2.2.2.2.1 s.2.2.2.2.2.2.2.1 s.2.2.2.2.2.2.2.2.1 s.2.2.2.2.2.2.2.2.2.1 s.2.2.2.2.2.2.2.2.2.2.1 s.2.2.2.2.2.2.2.2.2.2.2.1 s.2.2.2.2.2.2.2.2.2.2.2.2 hI (fun b1 b2 b3 b4 b5 b6 b7 b8 b9 b10 b11 b12 b13 h9 hm => hk (b1, b2, b3, b4, b5, b6, b7, b8, b9, b10, b11, b12, b13) h9 hm)) (a1, a2, a3, a4, a5, a6, a7, a8, a9, a10, a11, a12, a13) h
theorem lp14 {A1 A2 A3 A4 A5 A6 A7 A8 A9 A10 A11 A12 A13 A14 : Type} (W : Nat → A1 → A2 → A3 → A4 → A5 → A6 → A7 → A8 → A9 → A10 → A11 → A12 → A13 → A14 → Prop) (I : A1 → A2 → A3 → A4 → A5 → A6 → A7 → A8 → A9 → A10 → A11 → A12 → A13 → A14 → Prop) (μ : A1 → A2 → A3 → A4 → A5 → A6 → A7 → A8 → A9 → A10 → A11 → A12 → A13 → A14 → Nat) (hs : ∀ (n : Nat) (a1 : A1) (a2 : A2) (a3 : A3) (a4 : A4) (a5 : A5) (a6 : A6) (a7 : A7) (a8 : A8) (a9 : A9) (a10 : A10) (a11 : A11) (a12 : A12) (a13 : A13) (a14 : A14), I a1 a2 a3 a4 a5 a6 a7 a8 a9 a10 a11 a12 a13 a14 → (∀ (b1 : A1) (b2 : A2) (b3 : A3) (b4 : A4) (b5 : A5) (b6 : A6) (b7 : A7) (b8 : A8) (b9 : A9) (b10 : A10) (b11 : A11) (b12 : A12) (b13 : A13) (b14 : A14), I b1 b2 b3 b4 b5 b6 b7 b8 b9 b10 b11 b12 b13 b14 → μ b1 b2 b3 b4 b5 b6 b7 b8 b9 b10 b11 b12 b13 b14 < μ a1 a2 a3 a4 a5 a6 a7 a8 a9 a10 a11 a12 a13 a14 → W n b1 b2 b3 b4 b5 b6 b7 b8 b9 b10 b11 b12 b13 b14) → W (n + 1) a1 a2 a3 a4 a5 a6 a7 a8 a9 a10 a11 a12 a13 a14) (a1 : A1) (a2 : A2) (a3 : A3) (a4 : A4) (a5 : A5) (a6 : A6) (a7 : A7) (a8 : A8) (a9 : A9) (a10 : A10) (a11 : A11) (a12 : A12) (a13 : A13) (a14 : A14) (h : I a1 a2 a3 a4 a5 a6 a7 a8 a9 a10 a11 a12 a13 a14) : ∃ n, W n a1 a2 a3 a4 a5 a6 a7 a8 a9 a10 a11 a12 a13 a14 :=
  loop_m (σ := A1 × A2 × A3 × A4 × A5 × A6 × A7 × A8 × A9 × A10 × A11 × A12 × A13 × A14) (fun n s => W n s.1 s.2.1 s.2.2.1 s.2.2.2.1 s.2.2.2.2.1 s.2.2.2.2.2.1 s.2.2.2.2.2.2.1 s.2.2.2.2.2.2.2.1 s.2.2.2.2.2.2.2.2.1 s.2.2.2.2.2.2.2.2.2.1 s.2.2.2.2.2.2.2.2.2.2.1 s.2.2.2.2.2.2.2.2.2.2.2.1 s.2.2.2.2.2.2.2.2.2.2.2.2.1 s.2.2.2.2.2.2.2.2.2.2.2.2.2) (fun s => I s.1 s.2.1 s.2.2.1 s.2.2.2.1 s.2.2.2.2.1 s.2.2.2.2.2.1 s.2.2.2.2.2.2.1 s.2.2.2.2.2.2.2.1 s.2.2.2.2.2.2.2.2.1 s.2.2.2.2.2.2.2.2.2.1 s.2.2.2.2.2.2.2.2.2.2.1 s.2.2.2.2.2.2.2.2.2.2.2.1 s.2.2.2.2.2.2.2.2.2.2.2.2.1 s.2.2.2.2.2.2.2.2.2.2.2.2.2) (fun s => μ s.1 s.2.1 s.2.2.1 s.2.2.2.1 s.2.2.2.2.1 s.2.2.2.2.2.1 s.2.2.2.2.2.2.1 s.2.2.2.2.2.2.2.1 s.2.2.2.2.2.2.2.2.1 s.2.2.2.2.2.2.2.2.2.1 s.2.2.2.2.2.2.2.2.2.2.1 s.2.2.2.2.2.2.2.2.2.2.2.1 s.2.2.2.2.2.2.2.2.2.2.2.2.1 s.2.2.2.2.2.2.2.2.2.2.2.2.2) (fun n s hI hk => hs n s.1 s.2.1 s.2.2.1 s.2.2.2.1 s.2.2.2.2.1 s.2.2.2.2.2.1 s.2.2.2.2.2.2.1 s.2.2.2.2.2.2.2.1 s.2.2.2.2.2.2.2.2.1 s.2.2.2.2.2.2.2.2.2.1 s.2.2.2.2.2.2.2.2.2.2.1 s.2.2.2.2.2.2.2.2.2.2.2.1 s.2.2.2.2.2.2.2.2.2.2.2.2.1 s.2.2.2.2.2.2.2.2.2.2.2.2.2 hI (fun b1 b2 b3 b4 b5 b6 b7 b8 b9 b10 b11 b12 b13 b14 h9 hm => hk (b1, b2, b3, b4, b5, b6, b7, b8, b9, b10, b11, b12, b13, b14) h9 hm)) (a1, a2, a3, a4, a5, a6, a7, a8, a9, a10, a11, a12, a13, a14) h
theorem lp15 {A1 A2 A3 A4 A5 A6 A7 A8 A9 A10 A11 A12 A13 A14 A15 : Type} (W : Nat → A1 → A2 → A3 → A4 → A5 → A6 → A7 → A8 → A9 → A10 → A11 → A12 → A13 → A14 → A15 → Prop) (I : A1 → A2 → A3 → A4 → A5 → A6 → A7 → A8 → A9 → A10 → A11 → A12 → A13 → A14 → A15 → Prop) (μ : A1 → A2 → A3 → A4 → A5 → A6 → A7 → A8 → A9 → A10 → A11 → A12 → A13 → A14 → A15 → Nat) (hs : ∀ (n : Nat) (a1 : A1) (a2 : A2) (a3 : A3) (a4 : A4) (a5 : A5) (a6 : A6) (a7 : A7) (a8 : A8) (a9 : A9) (a10 : A10) (a11 : A11) (a12 : A12) (a13 : A13) (a14 : A14) (a15 : A15), I a1 a2 a3 a4 a5 a6 a7 a8 a9 a10 a11 a12 a13 a14 a15 → (∀ (b1 : A1) (b2 : A2) (b3 : A3) (b4 : A4) (b5 : A5) (b6 : A6) (b7 : A7) (b8 : A8) (b9 : A9) (b10 : A10) (b11 : A11) (b12 : A12) (b13 : A13) (b14 : A14) (b15 : A15), I b1 b2 b3 b4 b5 b6 b7 b8 b9 b10 b11 b12 b13 b14 b15 → μ b1 b2 b3 b4 b5 b6 b7 b8 b9 b10 b11 b12 b13 b14 b15 < μ a1 a2 a3 a4 a5 a6 a7 a8 a9 a10 a11 a12 a13 a14 a15 → W n b1 b2 b3 b4 b5 b6 b7 b8 b9 b10 b11 b12 b13 b14 b15) → W (n + 1) a1 a2 a3 a4 a5 a6 a7 a8 a9 a10 a11 a12 a13 a14 a15) (a1 : A1) (a2 : A2) (a3 : A3) (a4 : A4) (a5 : A5) (a6 : A6) (a7 : A7) (a8 : A8) (a9 : A9) (a10 : A10) (a11 : A11) (a12 : A12) (a13 : A13) (a14 : A14) (a15 : A15) (h : I a1 a2 a3 a4 a5 a6 a7 a8 a9 a10 a11 a12 a13 a14 a15) : ∃ n, W n a1 a2 a3 a4 a5 a6 a7 a8 a9 a10 a11 a12 a13 a14 a15 :=
  loop_m (σ := A1 × A2 × A3 × A4 × A5 × A6 × A7 × A8 × A9 × A10 × A11 × A12 × A13 × A14 × A15) (fun n s => W n s.1 s.2.1 s.2.2.1 s.2.2.2.1 s.2.2.2.2.1 s.2.2.2.2.2.1 s.2.2.2.2.2.2.1 s.2.2.2.2.2.2.2.1 s.2.2.2.2.2.2.2.2.1 s.2.2.2.2.2.2.2.2.2.1 s.2.2.2.2.2.2.2.2.2.2.1 s.2.2.2.2.2.2.2.2.2.2.2.1 s.2.2.2.2.2.2.2.2.2.2.2.2.1 s.2.2.2.2.2.2.2.2.2.2.2.2.2.1 s.2.2.2.2.2.2.2.2.2.2.2.2.2.2) (fun s => I s.1 s.2.1 s.2.2.1 s.2.2.2.1 s.2.2.2.2.1 s.2.2.2.2.2.1 s.2.2.2.2.2.2.1 s.2.2.2.2.2.2.2.1 s.2.2.2.2.2.2.2.2.1 s.2.2.2.2.2.2.2.2.2.1 s.2.2.2.2.2.2.2.2.2.2.1 s.2.2.2.2.2.2.2.2.2.2.2.1 s.2.2.2.2.2.2.2.2.2.2.2.2.1 s.2.2.2.2.2.2.2.2.2.2.2.2.2.1 s.2.2.2.2.2.2.2.2.2.2.2.2.2.2) (fun s => μ s.1 s.2.1 s.2.2.1 s.2.2.2.1 s.2.2.2.2.1 s.2.2.2.2.2.1 s.2.2.2.2.2.2.1 s.2.2.2.2.2.2.2.1 s.2.2.2.2.2.2.2.2.1 s.2.2.2.2.2.2.2.2.2.1 s.2.2.2.2.2.2.2.2.2.2.1 s.2.2.2.2.2.2.2.2.2.2.2.1 s.2.2.2.2.2.2.2.2.2.2.2.2.1 s.2.2.2.2.2.2.2.2.2.2.2.2.2.1 s.2.2.2.2.2.2.2.2.2.2.2.2.2.2) (fun n s hI hk => hs n s.1 s.2.1 s.2.2.1 s.2.2.2.1 s.2.2.2.2.1 s.2.2.2.2.2.1 s.2.2.2.2.2.2.1 s.2.2.2.2.2.2.2.1 s.2.2.2.2.2.2.2.2.1 s.2.2.2.2.2.2.2.2.2.1 s.2.2.2.2.2.2.2.2.2.2.1 s.2.2.2.2.2.2.2.2.2.2.2.1 s.2.2.2.2.2.2.2.2.2.2.2.2.1 s.2.2.2.2.2.2.2.2.2.2.2.2.2.1 s.2.2.2.2.2.2.2.2.2.2.2.2.2.2 hI (fun b1 b2 b3 b4 b5 b6 b7 b8 b9 b10 b11 b12 b13 b14 b15 h9 hm => hk (b1, b2, b3, b4, b5, b6, b7, b8, b9, b10, b11, b12, b13, b14, b15) h9 hm)) (a1, a2, a3, a4, a5, a6, a7, a8, a9, a10, a11, a12, a13, a14, a15) h
theorem lp16 {A1 A2 A3 A4 A5 A6 A7 A8 A9 A10 A11 A12 A13 A14 A15 A16 : Type} (W : Nat → A1 → A2 → A3 → A4 → A5 → A6 → A7 → A8 → A9 → A10 → A11 → A12 → A13 → A14 → A15 → A16 → Prop) (I : A1 → A2 → A3 → A4 → A5 → A6 → A7 → A8 → A9 → A10 → A11 → A12 → A13 → A14 → A15 → A16 → Prop) (μ : A1 → A2 → A3 → A4 → A5 → A6 → A7 → A8 → A9 → A10 → A11 → A12 → A13 → A14 → A15 → A16 → Nat) (hs : ∀ (n : Nat) (a1 : A1) (a2 : A2) (a3 : A3) (a4 : A4) (a5 : A5) (a6 : A6) (a7 : A7) (a8 : A8) (a9 : A9) (a10 : A10) (a11 : A11) (a12 : A12) (a13 : A13) (a14 : A14) (a15 : A15) (a16 : A16), I a1 a2 a3 a4 a5 a6 a7 a8 a9 a10 a11 a12 a13 a14 a15 a16 → (∀ (b1 : A1) (b2 : A2) (b3 : A3) (b4 : A4) (b5 : A5) (b6 : A6) (b7 : A7) (b8 : A8) (b9 : A9) (b10 : A10) (b11 : A11) (b12 : A12) (b13 : A13) (b14 : A14) (b15 : A15) (b16 : A16), I b1 b2 b3 b4 b5 b6 b7 b8 b9 b10 b11 b12 b13 b14 b15 b16 → μ b1 b2 b3 b4 b5 b6 b7 b8 b9 b10 b11 b12 b13 b14 b15 b16 < μ a1 a2 a3 a4 a5 a6 a7 a8 a9 a10 a11 a12 a13 a14 a15 a16 → W n b1 b2 b3 b4 b5 b6 b7 b8 b9 b10 b11 b12 b13 b14 b15 b16) → W (n + 1) a1 a2 a3 a4 a5 a6 a7 a8 a9 a10 a11 a12 a13 a14 a15 a16) (a1 : A1) (a2 : A2) (a3 : A3) (a4 : A4) (a5 : A5) (a6 : A6) (a7 : A7) (a8 : A8) (a9 : A9) (a10 : A10) (a11 : A11) (a12 : A12) (a13 : A13) (a14 : A14) (a15 : A15) (a16 : A16) (h : I a1 a2 a3 a4 a5 a6 a7 a8 a9 a10 a11 a12 a13 a14 a15 a16) : ∃ n, W n a1 a2 a3 a4 a5 a6 a7 a8 a9 a10 a11 a12 a13 a14 a15 a16 :=
  loop_m (σ := A1 × A2 × A3 × A4 × A5 × A6 × A7 × A8 × A9 × A10 × A11 × A12 × A13 × A14 × A15 × A16) (fun n s => W n s.1 s.2.1 s.2.2.1 s.2.2.2.1 s.2.2.2.2.1 s.2.2.2.2.2.1 s.2.2.2.2.2.2.1 s.2.2.2.2.2.2.2.1 s.2.2.2.2.2.2.2.2.1 s.2.2.2.2.2.2.2.2.2.1 s.2.2.2.2.2.2.2.2.2.2.1 s.2.2.2.2.2.2.2.2.2.2.2.1 s.2.2.2.2.2.2.2.2.2.2.2.2.1 s.2.2.2.2.2.2.2.2.2.2.2.2.2.1 s.2.2.2.2.2.2.2.2.2.2.2.2.2.2.1 s.2.2.2.2.2.2.2.2.2.2.2.2.2.2.2) (fun s => I s.1 s.2.1 s.2.2.1 s.2.2.2.1 s.2.2.2.2.1 s.2.2.2.2.2.1 s.2.2.2.2.2.2.1 s.2.2.2.2.2.2.2.1 s.2.2.2.2.2.2.2.2.1 s.2.2.2.2.2.2.2.2.2.1 s.2.2.2.2.2.2.2.2.2.2.1 s.2.2.2.2.2.2.2.2.2.2.2.1 s.2.2.2.2.2.2.2.2.2.2.2.2.1 s.2.2.2.2.2.2.2.2.2.2.2.2.2.1 s.2.2.2.2.2.2.2.2.2.2.2.2.2.2.1 s.2.2.2.2.2.2.2.2.2.2.2.2.2.2.2) (fun s => μ s.1 s.2.1 s.2.2.1 s.2.2.2.1 s.2.2.2.2.1 s.2.2.2.2.2.1 s.2.2.2.2.2.2.1 s.2.2.2.2.2.2.2.1 s.2.2.2.2.2.2.2.2.1 s.2.2.2.2.2.2.2.2.2.1 s.2.2.2.2.2.2.2.2.2.2.1 s.2.2.2.2.2.2.2.2.2.2.2.1 s.2.2.2.2.2.2.2.2.2.2.2.2.1 s.2.2.2.2.2.2.2.2.2.2.2.2.2.1 s.2.2.2.2.2.2.2.2.2.2.2.2.2.2.1 s.2.2.2.2.2.2.2.2.2.2.2.2.2.2.2) (fun n s hI hk => hs n s.1 s.2.1 s.2.2.1 s.2.2.2.1 s.2.2.2.2.1 s.2.2.2.2.2.1 s.2.2.2.2.2.2.1 s.2.2.2.2.2.2.2.1 s.2.2.2.2.2.2.2.2.1 s.2.2.2.2.2.2.2.2.2.1 s.2.2.2.2.2.2.2.2.2.2.1 s.2.2.2.2.2.2.2.2.2.2.2.1 s.2.2.2.2.2.2.2.2.2.2.2.2.1 s.2.2.2.2.2.2.2.2.2.2.2.2.2.1 s.2.2.2.2.2.2.2.2.2.2.2.2.2.2.1 s.2.2.2.2.2.2.2.2.2.2.2.2.2.2.2 hI (fun b1 b2 b3 b4 b5 b6 b7 b8 b9 b10 b11 b12 b13 b14 b15 b16 h9 hm => hk (b1, b2, b3, b4, b5, b6, b7, b8, b9, b10, b11, b12, b13, b14, b15, b16) h9 hm)) (a1, a2, a3, a4, a5, a6, a7, a8, a9, a10, a11, a12, a13, a14, a15, a16) h
theorem pk_least (P : Nat → Prop) (h : ∃ k, P k) : ∃ k, P k ∧ ∀ j, j < k → ¬ P j := by
  obtain ⟨k, hk⟩ := h
  induction k using Nat.strongRecOn with
  | ind k ih =>
    by_cases e : ∃ j, j < k ∧ P j
    · obtain ⟨j, hj, pj⟩ := e
      exact ih j hj pj
    · exact ⟨k, hk, fun j hj pj => e ⟨j, hj, pj⟩⟩
theorem rp1 {ρ A1 : Type} (W : Nat → (ρ → Prop) → A1 → Prop) (ok : A1 → Prop) (μ : A1 → Nat) (val : A1 → ρ)
    (hs : ∀ (d : Nat) (post : ρ → Prop) (a1 : A1), ok a1 → post (val a1) → (∀ (post' : ρ → Prop) (b1 : A1), ok b1 → μ b1 < μ a1 → post' (val b1) → W d post' b1) → W (d + 1) post a1) :
    ∀ (d : Nat) (post : ρ → Prop) (a1 : A1), ok a1 → μ a1 < d → post (val a1) → W d post a1 := by
  intro d
  induction d with
  | zero => intro post a1 _ h; omega
  | succ d ih =>
    intro post a1 ho hm hp
    exact hs d post a1 ho hp (fun post' b1 ho' hm' hp' => ih post' b1 ho' (by omega) hp')
theorem rp2 {ρ A1 A2 : Type} (W : Nat → (ρ → Prop) → A1 → A2 → Prop) (ok : A1 → A2 → Prop) (μ : A1 → A2 → Nat) (val : A1 → A2 → ρ)
    (hs : ∀ (d : Nat) (post : ρ → Prop) (a1 : A1) (a2 : A2), ok a1 a2 → post (val a1 a2) → (∀ (post' : ρ → Prop) (b1 : A1) (b2 : A2), ok b1 b2 → μ b1 b2 < μ a1 a2 → post' (val b1 b2) → W d post' b1 b2) → W (d + 1) post a1 a2) :
    ∀ (d : Nat) (post : ρ → Prop) (a1 : A1) (a2 : A2), ok a1 a2 → μ a1 a2 < d → post (val a1 a2) → W d post a1 a2 := by
  intro d
  induction d with
  | zero => intro post a1 a2 _ h; omega
  | succ d ih =>
    intro post a1 a2 ho hm hp
    exact hs d post a1 a2 ho hp (fun post' b1 b2 ho' hm' hp' => ih post' b1 b2 ho' (by omega) hp')
theorem rp3 {ρ A1 A2 A3 : Type} (W : Nat → (ρ → Prop) → A1 → A2 → A3 → Prop) (ok : A1 → A2 → A3 → Prop) (μ : A1 → A2 → A3 → Nat) (val : A1 → A2 → A3 → ρ)
    (hs : ∀ (d : Nat) (post : ρ → Prop) (a1 : A1) (a2 : A2) (a3 : A3), ok a1 a2 a3 → post (val a1 a2 a3) → (∀ (post' : ρ → Prop) (b1 : A1) (b2 : A2) (b3 : A3), ok b1 b2 b3 → μ b1 b2 b3 < μ a1 a2 a3 → post' (val b1 b2 b3) → W d post' b1 b2 b3) → W (d + 1) post a1 a2 a3) :
    ∀ (d : Nat) (post : ρ → Prop) (a1 : A1) (a2 : A2) (a3 : A3), ok a1 a2 a3 → μ a1 a2 a3 < d → post (val a1 a2 a3) → W d post a1 a2 a3 := by
  intro d
  induction d with
  | zero => intro post a1 a2 a3 _ h; omega
  | succ d ih =>
    intro post a1 a2 a3 ho hm hp
    exact hs d post a1 a2 a3 ho hp (fun post' b1 b2 b3 ho' hm' hp' => ih post' b1 b2 b3 ho' (by omega) hp')
theorem rp4 {ρ A1 A2 A3 A4 : Type} (W : Nat → (ρ → Prop) → A1 → A2 → A3 → A4 → Prop) (ok : A1 → A2 → A3 → A4 → Prop) (μ : A1 → A2 → A3 → A4 → Nat) (val : A1 → A2 → A3 → A4 → ρ)
    (hs : ∀ (d : Nat) (post : ρ → Prop) (a1 : A1) (a2 : A2) (a3 : A3) (a4 : A4), ok a1 a2 a3 a4 → post (val a1 a2 a3 a4) → (∀ (post' : ρ → Prop) (b1 : A1) (b2 : A2) (b3 : A3) (b4 : A4), ok b1 b2 b3 b4 → μ b1 b2 b3 b4 < μ a1 a2 a3 a4 → post' (val b1 b2 b3 b4) → W d post' b1 b2 b3 b4) → W (d + 1) post a1 a2 a3 a4) :
    ∀ (d : Nat) (post : ρ → Prop) (a1 : A1) (a2 : A2) (a3 : A3) (a4 : A4), ok a1 a2 a3 a4 → μ a1 a2 a3 a4 < d → post (val a1 a2 a3 a4) → W d post a1 a2 a3 a4 := by
  intro d
  induction d with
  | zero => intro post a1 a2 a3 a4 _ h; omega
  | succ d ih =>
    intro post a1 a2 a3 a4 ho hm hp
    exact hs d post a1 a2 a3 a4 ho hp (fun post' b1 b2 b3 b4 ho' hm' hp' => ih post' b1 b2 b3 b4 ho' (by omega) hp')
theorem rp5 {ρ A1 A2 A3 A4 A5 : Type} (W : Nat → (ρ → Prop) → A1 → A2 → A3 → A4 → A5 → Prop) (ok : A1 → A2 → A3 → A4 → A5 → Prop) (μ : A1 → A2 → A3 → A4 → A5 → Nat) (val : A1 → A2 → A3 → A4 → A5 → ρ)
    (hs : ∀ (d : Nat) (post : ρ → Prop) (a1 : A1) (a2 : A2) (a3 : A3) (a4 : A4) (a5 : A5), ok a1 a2 a3 a4 a5 → post (val a1 a2 a3 a4 a5) → (∀ (post' : ρ → Prop) (b1 : A1) (b2 : A2) (b3 : A3) (b4 : A4) (b5 : A5), ok b1 b2 b3 b4 b5 → μ b1 b2 b3 b4 b5 < μ a1 a2 a3 a4 a5 → post' (val b1 b2 b3 b4 b5) → W d post' b1 b2 b3 b4 b5) → W (d + 1) post a1 a2 a3 a4 a5) :
    ∀ (d : Nat) (post : ρ → Prop) (a1 : A1) (a2 : A2) (a3 : A3) (a4 : A4) (a5 : A5), ok a1 a2 a3 a4 a5 → μ a1 a2 a3 a4 a5 < d → post (val a1 a2 a3 a4 a5) → W d post a1 a2 a3 a4 a5 := by
  intro d
  induction d with
  | zero => intro post a1 a2 a3 a4 a5 _ h; omega
  | succ d ih =>
    intro post a1 a2 a3 a4 a5 ho hm hp
    exact hs d post a1 a2 a3 a4 a5 ho hp (fun post' b1 b2 b3 b4 b5 ho' hm' hp' => ih post' b1 b2 b3 b4 b5 ho' (by omega) hp')
theorem rp6 {ρ A1 A2 A3 A4 A5 A6 : Type} (W : Nat → (ρ → Prop) → A1 → A2 → A3 → A4 → A5 → A6 → Prop) (ok : A1 → A2 → A3 → A4 → A5 → A6 → Prop) (μ : A1 → A2 → A3 → A4 → A5 → A6 → Nat) (val : A1 → A2 → A3 → A4 → A5 → A6 → ρ)
    (hs : ∀ (d : Nat) (post : ρ → Prop) (a1 : A1) (a2 : A2) (a3 : A3) (a4 : A4) (a5 : A5) (a6 : A6), ok a1 a2 a3 a4 a5 a6 → post (val a1 a2 a3 a4 a5 a6) → (∀ (post' : ρ → Prop) (b1 : A1) (b2 : A2) (b3 : A3) (b4 : A4) (b5 : A5) (b6 : A6), ok b1 b2 b3 b4 b5 b6 → μ b1 b2 b3 b4 b5 b6 < μ a1 a2 a3 a4 a5 a6 → post' (val b1 b2 b3 b4 b5 b6) → W d post' b1 b2 b3 b4 b5 b6) → W (d + 1) post a1 a2 a3 a4 a5 a6) :
    ∀ (d : Nat) (post : ρ → Prop) (a1 : A1) (a2 : A2) (a3 : A3) (a4 : A4) (a5 : A5) (a6 : A6), ok a1 a2 a3 a4 a5 a6 → μ a1 a2 a3 a4 a5 a6 < d → post (val a1 a2 a3 a4 a5 a6) → W d post a1 a2 a3 a4 a5 a6 := by
  intro d
  induction d with
  | zero => intro post a1 a2 a3 a4 a5 a6 _ h; omega
  | succ d ih =>
    intro post a1 a2 a3 a4 a5 a6 ho hm hp
    exact hs d post a1 a2 a3 a4 a5 a6 ho hp (fun post' b1 b2 b3 b4 b5 b6 ho' hm' hp' => ih post' b1 b2 b3 b4 b5 b6 ho' (by omega) hp')
theorem rec_p {σ ρ : Type} (W : Nat → (ρ → Prop) → σ → Prop) (ok : σ → Prop) (μ : σ → Nat) (val : σ → ρ)
    (hs : ∀ d s post, ok s → post (val s) → (∀ s' post', ok s' → μ s' < μ s → post' (val s') → W d post' s') → W (d + 1) post s) :
    ∀ d s post, ok s → μ s < d → post (val s) → W d post s := by
  intro d
  induction d with
  | zero => intro s post _ h; omega
  | succ d ih =>
    intro s post ho hm hp
    exact hs d s post ho hp (fun s' post' ho' hm' hp' => ih s' post' ho' (by omega) hp')
theorem rec_q {σ ρ : Type} (W : Nat → (ρ → Prop) → σ → Prop) (ok : σ → Prop) (μ : σ → Nat) (Q : σ → ρ → Prop)
    (hs : ∀ d s post, ok s → (∀ r, Q s r → post r) → (∀ s' post', ok s' → μ s' < μ s → (∀ r, Q s' r → post' r) → W d post' s') → W (d + 1) post s) :
    ∀ d s post, ok s → μ s < d → (∀ r, Q s r → post r) → W d post s := by
  intro d
  induction d with
  | zero => intro s post _ h; omega
  | succ d ih =>
    intro s post ho hm hp
    exact hs d s post ho hp (fun s' post' ho' hm' hp' => ih s' post' ho' (by omega) hp')
def bx_sum (f : Nat → Int32) : Nat → Int32
  | 0 => 0
  | n + 1 => bx_sum f n + f n
theorem ek_u {A : Prop} {B : Nat → Prop} {k N : Nat} (hk : k < N) (h : B k) : (some k = none → A) ∧ (∀ y : Nat, some k = some y → (y < N ∧ B y)) :=
  ⟨fun z => absurd z (Option.some_ne_none k), fun _ e => (by cases e; exact ⟨hk, h⟩)⟩
theorem ek_nu {A : Prop} {B : Nat → Prop} (h : A) : ((none : Option Nat) = none → A) ∧ (∀ y : Nat, (none : Option Nat) = some y → B y) :=
  ⟨fun _ => h, fun _ e => (by cases e)⟩
theorem ek_if {c d A B : Prop} (e : c ↔ d) (f : d → A) (g : ¬ d → B) : (c → A) ∧ (¬ c → B) :=
  ⟨fun z => f (e.mp z), fun z => g (fun y => z (e.mpr y))⟩
theorem ek_v {α : Sort _} {P : α → Prop} {a b : α} (e : a = b) (h : P b) : P a := e ▸ h
theorem co_some {x : Option Nat} {A : Prop} {B : Nat → Prop} (i : Nat) (h : B i) (hx : x = some i := by rfl) : (x = none → A) ∧ (∀ y : Nat, x = some y → B y) := by
  subst hx
  exact ⟨fun e => (nomatch e), fun y e => Option.some.inj e ▸ h⟩
theorem co_none {x : Option Nat} {A : Prop} {B : Nat → Prop} (h : A) (hx : x = none := by rfl) : (x = none → A) ∧ (∀ y : Nat, x = some y → B y) := by
  subst hx
  exact ⟨fun _ => h, fun y e => (nomatch e)⟩
theorem co_any {x : Option Nat} {A : Prop} {B : Nat → Prop} (hn : x = none → A) (hs : ∀ i : Nat, x = some i → B i) : (x = none → A) ∧ (∀ y : Nat, x = some y → B y) := ⟨hn, hs⟩
theorem co_2 {P : Nat → Prop} (h0 : P 0) (h1 : P 1) {i : Nat} (hi : i < 2) : P i :=
  match i, hi with
  | 0, _ => h0
  | 1, _ => h1
theorem co_3 {P : Nat → Prop} (h0 : P 0) (h1 : P 1) (h2 : P 2) {i : Nat} (hi : i < 3) : P i :=
  match i, hi with
  | 0, _ => h0
  | 1, _ => h1
  | 2, _ => h2
theorem co_4 {P : Nat → Prop} (h0 : P 0) (h1 : P 1) (h2 : P 2) (h3 : P 3) {i : Nat} (hi : i < 4) : P i :=
  match i, hi with
  | 0, _ => h0
  | 1, _ => h1
  | 2, _ => h2
  | 3, _ => h3
theorem co_dec {N : Nat} {P : Nat → Prop} [DecidablePred P] (h : (List.range N).all (fun i => decide (P i)) = true) {i : Nat} (hi : i < N) : P i := by
  have := List.all_eq_true.mp h i (List.mem_range.mpr hi)
  exact of_decide_eq_true this
theorem co_tab {α : Type} {l : List α} {d : α} {P : α → Prop} (h : ∀ a, a ∈ l → P a) {i : Nat} (hi : i < l.length) : P (l.getD i d) := by
  rw [List.getD_eq_getElem?_getD, List.getElem?_eq_getElem hi]
  exact h _ (List.getElem_mem hi)
theorem pk_mu {x : Int32} {L : Nat} (h0 : ¬ x < 0) (h : ¬ nI L ≤ x) (hL : L < 2 ^ 31) : ∃ j : Nat, j < L ∧ x = nI j ∧ x + 1 = nI (j + 1) ∧ x.toNatClampNeg = j ∧ L - (x + 1).toNatClampNeg < L - x.toNatClampNeg := by
  obtain ⟨j, hj, rfl⟩ := nI_of h0
  have hl : j < L := Nat.not_le.mp fun q => h (nI_le q hj)
  refine ⟨j, hl, rfl, nI_1 j, nI_clamp hj, ?_⟩
  rw [nI_1, nI_clamp (by omega), nI_clamp hj]
  omega
theorem op_s {α : Type} {r : Option α} {A : Prop} {B : α → Prop} {y : α} (h : r = some y) (b : B y) : (r = none → A) ∧ ∀ z, r = some z → B z :=
  ⟨fun e => (by rw [h] at e; cases e), fun z e => (by rw [h] at e; cases e; exact b)⟩
def l_holds {α : Type} (a : Nat → Option Nat) (LP : List Nat) (p : Nat → α) (c : Nat) (b : Nat → α) : Prop :=
  ∀ j, j < c → ∃ y, a j = some y ∧ y ∈ LP ∧ p y = b j
theorem l_holds_0 {α : Type} {a : Nat → Option Nat} {LP : List Nat} {p b : Nat → α} : l_holds a LP p 0 b := fun j h => absurd h (Nat.not_lt_zero j)
theorem l_in_new (LP : List Nat) (q : Nat) : q ∈ LP ++ [q] := List.mem_append.mpr (Or.inr (List.mem_singleton.mpr rfl))
def l_sum (b : Nat → Int32) : Nat → Int32
  | 0 => 0
  | k + 1 => l_sum b k + b k
theorem sb_shr0 (x : Int32) : x >>> ((0 : Int32) &&& 31) = x := by
  rw [show ((0 : Int32) &&& 31) = 0 by decide]
  simp
theorem sb_shl0 (x : Int32) : x <<< ((0 : Int32) &&& 31) = x := by
  rw [show ((0 : Int32) &&& 31) = 0 by decide]
  simp
theorem sb_cl0 : (0 : Int32).toNatClampNeg = 0 := by decide
theorem sb_m1 {p : Nat} (h : 0 < p) : nI p + (-1) = nI (p - 1) := by
  obtain ⟨q, rfl⟩ : ∃ q, p = q + 1 := ⟨p - 1, by omega⟩
  exact pk_m1 q
def sb_b (c : Nat) : Int32 := (nI c).toInt8.toInt32
theorem sb_byte : ∀ c, c < 256 → sb_b c &&& 255 = nI c ∧ ((nI c).toUInt32 % 65536).toInt32 = nI c ∧ nI c ≤ 255 := by decide +kernel
def sb_Fit (a : Nat → Int32) : Prop := ∀ j, fits .byte (.int (a j)) = true
def sb_Lat (t : Nat → Nat) (n : Nat) (a : Nat → Int32) : Prop := ∀ j, j < n → t j < 256 ∧ a j = sb_b (t j)
theorem sb_fitB (c : Nat) : fits .byte (.int (sb_b c)) = true := pk_fb _
theorem sb_fit0 : sb_Fit (fun _ => 0) := fun _ => by
  show fits .byte (.int 0) = true
  decide
theorem sb_fitU {a : Nat → Int32} {k : Nat} {x : Int32} (h : sb_Fit a) (hx : fits .byte (.int x) = true) : sb_Fit (upd a k x) := by
  intro j
  by_cases e : j = k
  · subst e
    rw [pk_us]
    exact hx
  · rw [pk_un e]
    exact h j
def sb_cat (t : Nat → Nat) (n : Nat) (s : Nat → Nat) : Nat → Nat := fun j => if j < n then t j else s (j - n)
theorem sb_cat_lo {t s : Nat → Nat} {n j : Nat} (h : j < n) : sb_cat t n s j = t j := if_pos h
theorem sb_cat_hi {t s : Nat → Nat} {n j : Nat} : sb_cat t n s (n + j) = s j := by
  show (if n + j < n then t (n + j) else s (n + j - n)) = s j
  rw [if_neg (by omega), Nat.add_sub_cancel_left]
theorem sb_latPut {t s : Nat → Nat} {n w : Nat} {a a' : Nat → Int32} (h : sb_Lat t n a) (hk : ∀ j, j < n → a' j = a j) (hs : ∀ i, i < w → s i < 256 ∧ a' (n + i) = sb_b (s i)) : sb_Lat (sb_cat t n s) (n + w) a' := by
  intro j hj
  by_cases e : j < n
  · rw [sb_cat_lo e, hk j e]
    exact h j e
  · obtain ⟨i, rfl⟩ : ∃ i, j = n + i := ⟨j - n, by omega⟩
    rw [sb_cat_hi]
    exact hs i (by omega)
theorem sb_latKeep {t : Nat → Nat} {n : Nat} {a a' : Nat → Int32} (h : sb_Lat t n a) (hk : ∀ j, j < n → a' j = a j) : sb_Lat t n a' := fun j hj => by
  rw [hk j hj]
  exact h j hj
def sb_cap (q m : Nat) : Nat := if q ≤ m then m else if 2 * m + 2 < q then q else 2 * m + 2
def sb_Room (q m mc ms : Nat) : Prop := q ≤ m ∨ (1 ≤ mc ∧ sb_cap q m ≤ ms ∧ sb_cap q m ≤ 65536)
theorem sb_cap_ge (q m : Nat) : q ≤ sb_cap q m := by
  unfold sb_cap
  split
  · omega
  · split <;> omega
theorem sb_cap_gem (q m : Nat) : m ≤ sb_cap q m := by
  unfold sb_cap
  split
  · omega
  · split <;> omega
theorem sb_cap_le {q m mc ms : Nat} (hm : m ≤ 65536) (hr : sb_Room q m mc ms) : sb_cap q m ≤ 65536 := by
  rcases hr with h | h
  · rw [sb_cap, if_pos h]
    exact hm
  · exact h.2.2
theorem sb_at {P : Int32 → Prop} {x y : Int32} (e : x = y) (h : P y) : P x := e ▸ h
def sb_dg (w : Nat) : Nat := if w < 10 then 1 else if w < 100 then 2 else if w < 1000 then 3 else if w < 10000 then 4 else if w < 100000 then 5 else if w < 1000000 then 6 else if w < 10000000 then 7 else if w < 100000000 then 8 else if w < 1000000000 then 9 else 10
def sb_dec (v : Nat) : Nat → Nat := fun i => 48 + v / 10 ^ (sb_dg v - 1 - i) % 10
theorem sb_dg_in (w : Nat) : 1 ≤ sb_dg w ∧ sb_dg w ≤ 10 := by
  unfold sb_dg
  constructor <;> (repeat' split) <;> omega
theorem sb_dg100 {w : Nat} (h : 100 ≤ w) (hw : w < 2 ^ 31) : sb_dg w = sb_dg (w / 100) + 2 := by
  rw [sb_dg, sb_dg, if_neg (show ¬ w < 10 by omega), if_neg (show ¬ w < 100 by omega)]
  by_cases h3 : w < 1000
  · rw [if_pos h3, if_pos (show w / 100 < 10 by omega)]
  rw [if_neg h3, if_neg (show ¬ w / 100 < 10 by omega)]
  by_cases h4 : w < 10000
  · rw [if_pos h4, if_pos (show w / 100 < 100 by omega)]
  rw [if_neg h4, if_neg (show ¬ w / 100 < 100 by omega)]
  by_cases h5 : w < 100000
  · rw [if_pos h5, if_pos (show w / 100 < 1000 by omega)]
  rw [if_neg h5, if_neg (show ¬ w / 100 < 1000 by omega)]
  by_cases h6 : w < 1000000
  · rw [if_pos h6, if_pos (show w / 100 < 10000 by omega)]
  rw [if_neg h6, if_neg (show ¬ w / 100 < 10000 by omega)]
  by_cases h7 : w < 10000000
  · rw [if_pos h7, if_pos (show w / 100 < 100000 by omega)]
  rw [if_neg h7, if_neg (show ¬ w / 100 < 100000 by omega)]
  by_cases h8 : w < 100000000
  · rw [if_pos h8, if_pos (show w / 100 < 1000000 by omega)]
  rw [if_neg h8, if_neg (show ¬ w / 100 < 1000000 by omega)]
  by_cases h9 : w < 1000000000
  · rw [if_pos h9, if_pos (show w / 100 < 10000000 by omega)]
  rw [if_neg h9, if_neg (show ¬ w / 100 < 10000000 by omega)]
  rw [if_pos (show w / 100 < 100000000 by omega)]
theorem sb_negT {w : Nat} (h : w < 2 ^ 31) : (-nI w).toInt = -(w : Int) := by
  rw [Int32.toInt_neg, nI_toInt h]
  exact Int.bmod_eq_of_le (by omega) (by omega)
theorem sb_nle {a b : Nat} (ha : a < 2 ^ 31) (hb : b < 2 ^ 31) : -nI a ≤ -nI b ↔ b ≤ a := by
  rw [Int32.le_iff_toInt_le, sb_negT ha, sb_negT hb]
  omega
theorem sb_nlt {a b : Nat} (ha : a < 2 ^ 31) (hb : b < 2 ^ 31) : -nI a < -nI b ↔ b < a := by
  rw [Int32.lt_iff_toInt_lt, sb_negT ha, sb_negT hb]
  omega
theorem sb_cmp {A B : Prop} {x : Int32} (v c : Nat) (f : c ≤ v → A) (g : v < c → B) (hv : v < 2 ^ 31) (hx : x = -nI c := by rfl) (hc : c < 2 ^ 31 := by omega) : (-nI v ≤ x → A) ∧ (¬ -nI v ≤ x → B) := by
  subst hx
  rw [sb_nle hv hc]
  exact ⟨f, fun z => g (by omega)⟩
theorem sb_ndiv {w : Nat} (hw : w < 2 ^ 31) : (-nI w) / 100 = -nI (w / 100) := by
  apply Int32.toInt_inj.mp
  have h100 : (100 : Int32).toInt = 100 := by decide
  rw [Int32.toInt_div, sb_negT hw, h100, sb_negT (by omega), Int.neg_tdiv, Int.tdiv_eq_ediv_of_nonneg (by omega), Int.bmod_eq_of_le (by omega) (by omega)]
  omega
theorem sb_nrem {w : Nat} (hw : w < 2 ^ 31) : (-nI (w / 100)) * 100 - (-nI w) = nI (w % 100) := by
  have h := pk_rem (a := w) (d := 100) hw (by decide) (by decide)
  rw [pk_div hw (by decide) (by decide)] at h
  rw [← h]
  show (-nI (w / 100)) * nI 100 - (-nI w) = nI w - nI (w / 100) * nI 100
  rw [Int32.neg_mul, Int32.sub_neg, Int32.add_comm, ← Int32.sub_eq_add_neg]
end
section
/-! rows on bits, shifts and unsigned numbers, to paste: each family out of a closed proof of our own, whole with what it rests on; each by itself clean at Lean in its own claim (generation 39, form 5). Take a family whole -/
/-! ===== Int32 by its bits: bt x i ===== -/
def bt (x : Int32) (i : Nat) : Bool := x.toBitVec.getLsbD i
theorem b_ext {x y : Int32} (h : ∀ i, i < 32 → bt x i = bt y i) : x = y := Int32.toBitVec_inj.mp (BitVec.eq_of_getLsbD_eq (fun i hi => h i hi))
theorem b_or (x y : Int32) (i : Nat) : bt (x ||| y) i = (bt x i || bt y i) := by unfold bt; rw [Int32.toBitVec_or, BitVec.getLsbD_or]
theorem b_and (x y : Int32) (i : Nat) : bt (x &&& y) i = (bt x i && bt y i) := by unfold bt; rw [Int32.toBitVec_and, BitVec.getLsbD_and]
theorem b_xor (x y : Int32) (i : Nat) : bt (x ^^^ y) i = (bt x i ^^ bt y i) := by unfold bt; rw [Int32.toBitVec_xor, BitVec.getLsbD_xor]
theorem b_big {x : Int32} {i : Nat} (h : 32 ≤ i) : bt x i = false := BitVec.getLsbD_of_ge _ _ h
theorem b_255 (i : Nat) : bt 255 i = decide (i < 8) := by
  rcases Nat.lt_or_ge i 32 with h | h
  · exact (by decide +kernel : ∀ i, i < 32 → bt 255 i = decide (i < 8)) i h
  · rw [b_big h, decide_eq_false (by omega)]
theorem b_65535 (i : Nat) : bt 65535 i = decide (i < 16) := by
  rcases Nat.lt_or_ge i 32 with h | h
  · exact (by decide +kernel : ∀ i, i < 32 → bt 65535 i = decide (i < 16)) i h
  · rw [b_big h, decide_eq_false (by omega)]
theorem b_m1 : ∀ i, i < 32 → bt (-1) i = true := by decide +kernel
theorem b_0 (i : Nat) : bt 0 i = false := BitVec.getLsbD_zero
theorem s_l : ∀ n, n < 32 → ((nI n &&& 31).toBitVec.smod 32).toNat = n := by decide +kernel
theorem s_u : ∀ n, n < 32 → (((nI n).toUInt32 &&& Int32.toUInt32 31).toBitVec % 32).toNat = n := by decide +kernel
theorem b_shl (n : Nat) (hn : n < 32) (x : Int32) {i : Nat} (hi : i < 32) : bt (x <<< (nI n &&& 31)) i = (decide (n ≤ i) && bt x (i - n)) := by
  unfold bt
  rw [Int32.toBitVec_shiftLeft]
  show (x.toBitVec <<< ((nI n &&& 31).toBitVec.smod 32).toNat).getLsbD i = _
  rw [s_l n hn, BitVec.getLsbD_shiftLeft]
  rcases Nat.lt_or_ge i n with h | h
  · simp [h, Nat.not_le.mpr h]
  · simp [hi, h, Nat.not_lt.mpr h]
theorem b_ushr (n : Nat) (hn : n < 32) (x : Int32) (i : Nat) : bt ((x.toUInt32 >>> ((nI n).toUInt32 &&& Int32.toUInt32 31)).toInt32) i = bt x (n + i) := by
  show (x.toUInt32 >>> ((nI n).toUInt32 &&& Int32.toUInt32 31)).toBitVec.getLsbD i = x.toUInt32.toBitVec.getLsbD (n + i)
  rw [UInt32.toBitVec_shiftRight]
  show (x.toUInt32.toBitVec >>> (((nI n).toUInt32 &&& Int32.toUInt32 31).toBitVec % 32).toNat).getLsbD i = _
  rw [s_u n hn, BitVec.getLsbD_ushiftRight]
theorem b_sshr (n : Nat) (hn : n < 32) (x : Int32) {i : Nat} (hi : i < 32) : bt (x >>> (nI n &&& 31)) i = if n + i < 32 then bt x (n + i) else bt x 31 := by
  unfold bt
  rw [Int32.toBitVec_shiftRight]
  show (x.toBitVec.sshiftRight ((nI n &&& 31).toBitVec.smod 32).toNat).getLsbD i = _
  rw [s_l n hn, BitVec.getLsbD_sshiftRight, BitVec.msb_eq_getLsbD_last]
  simp [hi]
theorem b_shl8 (x : Int32) {i : Nat} (hi : i < 32) : bt (x <<< ((8 : Int32) &&& 31)) i = (decide (8 ≤ i) && bt x (i - 8)) := b_shl 8 (by omega) x hi
theorem b_shl16 (x : Int32) {i : Nat} (hi : i < 32) : bt (x <<< ((16 : Int32) &&& 31)) i = (decide (16 ≤ i) && bt x (i - 16)) := b_shl 16 (by omega) x hi
theorem b_shl24 (x : Int32) {i : Nat} (hi : i < 32) : bt (x <<< ((24 : Int32) &&& 31)) i = (decide (24 ≤ i) && bt x (i - 24)) := b_shl 24 (by omega) x hi
theorem b_sshr8 (x : Int32) {i : Nat} (hi : i < 32) : bt (x >>> ((8 : Int32) &&& 31)) i = if 8 + i < 32 then bt x (8 + i) else bt x 31 := b_sshr 8 (by omega) x hi
theorem wb_of32 (x : Int32) : ∃ n, n < 2 ^ 32 ∧ x = nI n := ⟨x.toBitVec.toNat, x.toBitVec.isLt, Int32.toBitVec_inj.mp (by show _ = BitVec.ofNat 32 _; simp)⟩
end
section
/-! plain numbers: rows and columns, the pure pictures of the operations -/
abbrev sp_X (h w pc st r c pen pd ins tp bo gr gc gp gpd : Nat) (C G P : Nat → Int32) : SX :=
  (nI h, nI w, nI pc, nI st, nI r, nI c, nI pen, nI pd, nI ins, nI tp, nI bo, nI gr, nI gc, nI gp, nI gpd, C, G, P)
abbrev sp_Y (h w pc st r c pen tp bo pd ins gr gc gp gpd : Nat) (C G B D P : Nat → Int32) : SY :=
  (nI h, nI w, nI pc, nI st, nI r, nI c, nI pen, nI tp, nI bo, nI pd, nI ins, nI gr, nI gc, nI gp, nI gpd, C, G, B, D, P)
theorem ar_dec {n : Nat} (h : 0 < n) : nI n - 1 = nI (n - 1) := by
  obtain ⟨m, rfl⟩ : ∃ m, n = m + 1 := ⟨n - 1, by omega⟩
  exact nI_pred m
theorem ar_m1 {n : Nat} (h : 0 < n) : nI n + (-1) = nI (n - 1) := by
  obtain ⟨m, rfl⟩ : ∃ m, n = m + 1 := ⟨n - 1, by omega⟩
  exact pk_m1 m
theorem ar_row {i j w z : Nat} (hj : j < w) : i * w + j < z * w + w ↔ i ≤ z := by
  constructor
  · intro h
    rcases Nat.lt_or_ge z i with q | q
    · have := Nat.mul_le_mul_right w (show z + 1 ≤ i from q)
      rw [Nat.succ_mul] at this
      omega
    · exact q
  · intro h
    have := Nat.mul_le_mul_right w h
    omega
theorem ar_row2 {i j w a : Nat} (hj : j < w) : a * w ≤ i * w + j ↔ a ≤ i := by
  constructor
  · intro h
    rcases Nat.lt_or_ge i a with q | q
    · have := Nat.mul_le_mul_right w (show i + 1 ≤ a from q)
      rw [Nat.succ_mul] at this
      omega
    · exact q
  · intro h
    have := Nat.mul_le_mul_right w h
    omega
theorem ar_bw {z h w : Nat} (hz : z < h) : z * w + w ≤ h * w := by
  have := Nat.mul_le_mul_right w (show z + 1 ≤ h from hz)
  rw [Nat.succ_mul] at this
  omega
theorem ar_hw {h w : Nat} (hh : h ≤ 8) (hw : w ≤ 12) : h * w ≤ 96 := Nat.mul_le_mul hh hw
theorem ar_bw96 {z h w : Nat} (hz : z < h) (hh : h ≤ 8) (hw : w ≤ 12) : z * w + w ≤ 96 := Nat.le_trans (ar_bw hz) (ar_hw hh hw)
theorem ar_ix {r c h w : Nat} (hr : r < h) (hc : c < w) : r * w + c < h * w := by
  have := ar_bw (w := w) hr
  omega
theorem ar_ix96 {r c h w : Nat} (hr : r < h) (hc : c < w) (hh : h ≤ 8) (hw : w ≤ 12) : r * w + c < 96 := by
  have := ar_bw96 hr hh hw
  omega
theorem ar_aw {a z w : Nat} (h : a ≤ z) : a * w ≤ z * w := Nat.mul_le_mul_right w h
/-- the order of two places is the same in both layouts -/
theorem ar_lex {r c i j w : Nat} (hc : c < w) (hj : j < w) (hw : w ≤ 12) : r * w + c ≤ i * w + j ↔ 12 * r + c ≤ 12 * i + j := by
  rcases Nat.lt_trichotomy r i with q | q | q
  · have := ar_bw (w := w) q
    constructor <;> intro _ <;> omega
  · subst q
    constructor <;> intro _ <;> omega
  · have := ar_bw (w := w) q
    constructor <;> intro _ <;> omega
theorem ar_inj {r c i j w : Nat} (hc : c < w) (hj : j < w) : r * w + c = i * w + j ↔ r = i ∧ c = j := by
  constructor
  · intro e
    have h1 : r ≤ i := (ar_row (z := i) hc).mp (by omega)
    have h2 : i ≤ r := (ar_row (z := r) hj).mp (by omega)
    have h3 : r = i := by omega
    subst h3
    exact ⟨rfl, by omega⟩
  · rintro ⟨rfl, rfl⟩
    rfl
/-! the clamp -/
def sp_cl (x lo hi : Int32) : Int32 := if lo ≤ x then (if x ≤ hi then x else hi) else lo
def sp_cz (z : Int) (m : Nat) : Nat := if z < 0 then 0 else if z ≤ (m : Int) then z.toNat else m
theorem sp_cz_le (z : Int) (m : Nat) : sp_cz z m ≤ m := by
  unfold sp_cz
  split
  · omega
  · split <;> omega
theorem sp_cz_n (j m : Nat) : sp_cz (j : Int) m = if j ≤ m then j else m := by
  unfold sp_cz
  rw [if_neg (by omega)]
  by_cases q : j ≤ m
  · rw [if_pos (by omega), if_pos q]
    exact Int.toNat_natCast j
  · rw [if_neg (by omega), if_neg q]
theorem sp_cl0 {x hi : Int32} {m : Nat} (hm : m < 2 ^ 31) (he : hi = nI m) : sp_cl x 0 hi = nI (sp_cz x.toInt m) := by
  subst he
  unfold sp_cl sp_cz
  by_cases h0 : (0 : Int32) ≤ x
  · rw [if_pos h0]
    obtain ⟨j, hj, rfl⟩ := nI_of (x := x) (Int32.not_lt.mpr h0)
    rw [nI_toInt hj]
    by_cases h1 : j ≤ m
    · rw [if_pos ((nI_leI hj hm).mpr h1), if_neg (by omega), if_pos (by omega), Int.toNat_natCast]
    · rw [if_neg (fun z => h1 ((nI_leI hj hm).mp z)), if_neg (by omega), if_neg (by omega)]
  · rw [if_neg h0, if_pos (Int.lt_of_not_ge (fun z => h0 (Int32.le_iff_toInt_le.mpr (by rw [show (0 : Int32).toInt = 0 from by decide]; exact z))))]
    exact nI_0.symm
theorem sp_clr {x : Int32} (a b : Nat) (hab : a ≤ b) (hb : b < 2 ^ 31) : ∃ m, a ≤ m ∧ m ≤ b ∧ sp_cl x (nI a) (nI b) = nI m := by
  unfold sp_cl
  by_cases h0 : nI a ≤ x
  · rw [if_pos h0]
    by_cases h1 : x ≤ nI b
    · rw [if_pos h1]
      have hx : ¬ x < 0 := by
        intro z
        have := Int32.le_iff_toInt_le.mp h0
        rw [nI_toInt (by omega)] at this
        have z2 := Int32.lt_iff_toInt_lt.mp z
        rw [show (0 : Int32).toInt = 0 from by decide] at z2
        omega
      obtain ⟨j, hj, rfl⟩ := nI_of hx
      exact ⟨j, (nI_leI (by omega) hj).mp h0, (nI_leI hj hb).mp h1, rfl⟩
    · rw [if_neg h1]
      exact ⟨b, hab, Nat.le_refl b, rfl⟩
  · rw [if_neg h0]
    exact ⟨a, Nat.le_refl a, hab, rfl⟩
/-! what the operations do to the component's cells -/
def sp_up (low high off : Nat) (bl : Int32) (C : Nat → Int32) : Nat → Int32 := fun i => if low ≤ i ∧ i < high then (if i + off < high then C (i + off) else bl) else C i
def sp_dn (low k off : Nat) (bl : Int32) (C : Nat → Int32) : Nat → Int32 := fun i => if low ≤ i ∧ i < k then (if low + off ≤ i then C (i - off) else bl) else C i
def sp_fill (lo hi : Nat) (v : Int32) (C : Nat → Int32) : Nat → Int32 := fun i => if lo ≤ i ∧ i < hi then v else C i
/-- the cells from lo + 1 up to k - 1 are moved up by one -/
def sp_sh (lo k : Nat) (C : Nat → Int32) : Nat → Int32 := fun i => if lo < i ∧ i < k then C (i - 1) else C i
def sp_cp (n : Nat) (S C : Nat → Int32) : Nat → Int32 := fun i => if i < n then S i else C i
theorem sp_up_0 {high off : Nat} {bl : Int32} {C : Nat → Int32} : sp_up high high off bl C = C := by
  funext j; simp only [sp_up]; rw [if_neg (by omega)]
theorem sp_up_1 {i high off : Nat} {bl : Int32} {C : Nat → Int32} (h : i < high) (h2 : high ≤ i + off) : sp_up (i + 1) high off bl (upd C i bl) = sp_up i high off bl C := by
  funext j; simp only [sp_up, upd]
  repeat' split
  all_goals first | rfl | omega
theorem sp_up_2 {i high off : Nat} {bl : Int32} {C : Nat → Int32} (h0 : 0 < off) (h2 : i + off < high) : sp_up (i + 1) high off bl (upd C i (C (i + off))) = sp_up i high off bl C := by
  funext j; simp only [sp_up, upd]
  repeat' split
  all_goals first | rfl | omega | (congr 1; omega)
theorem sp_dn_0 {low off : Nat} {bl : Int32} {C : Nat → Int32} : sp_dn low low off bl C = C := by
  funext j; simp only [sp_dn]; rw [if_neg (by omega)]
theorem sp_dn_1 {low k off : Nat} {bl : Int32} {C : Nat → Int32} (h : low ≤ k) (h2 : k < low + off) : sp_dn low k off bl (upd C k bl) = sp_dn low (k + 1) off bl C := by
  funext j; simp only [sp_dn, upd]
  repeat' split
  all_goals first | rfl | omega
theorem sp_dn_2 {low k off : Nat} {bl : Int32} {C : Nat → Int32} (h0 : 0 < off) (h2 : low + off ≤ k) : sp_dn low k off bl (upd C k (C (k - off))) = sp_dn low (k + 1) off bl C := by
  funext j; simp only [sp_dn, upd]
  repeat' split
  all_goals first | rfl | omega | (congr 1; omega)
theorem sp_fill_0 {i : Nat} {v : Int32} {C : Nat → Int32} : sp_fill i i v C = C := by
  funext j; simp only [sp_fill]; rw [if_neg (by omega)]
theorem sp_fill_1 {i hi : Nat} {v : Int32} {C : Nat → Int32} (h : i < hi) : sp_fill (i + 1) hi v (upd C i v) = sp_fill i hi v C := by
  funext j; simp only [sp_fill, upd]
  repeat' split
  all_goals first | rfl | omega
theorem sp_sh_0 {lo : Nat} {C : Nat → Int32} : sp_sh lo (lo + 1) C = C := by
  funext j; simp only [sp_sh]; rw [if_neg (by omega)]
theorem sp_sh_1 {lo k : Nat} {C : Nat → Int32} (h : lo < k) : sp_sh lo k (upd C k (C (k - 1))) = sp_sh lo (k + 1) C := by
  funext j; simp only [sp_sh, upd]
  repeat' split
  all_goals first | rfl | omega | (congr 1; omega)
theorem sp_cp_0 {S C : Nat → Int32} : sp_cp 0 S C = C := by
  funext j; simp only [sp_cp]; rw [if_neg (by omega)]
theorem sp_cp_1 {n : Nat} {S C : Nat → Int32} : upd (sp_cp n S C) n (S n) = sp_cp (n + 1) S C := by
  funext j; simp only [sp_cp, upd]
  repeat' split
  all_goals first | rfl | omega | (congr 1; omega)
end
section
/-! the component's operations: one row a method, a general post -/
section
variable {post : SX → Prop} {h w pc st r c pen pd ins tp bo gr gc gp gpd : Nat} {C G P : Nat → Int32}
theorem xm_limit {po : Int32 → Prop} {u : SX} {x lo hi : Int32} (hp : po (sp_cl x lo hi)) : wpX_limit po u x lo hi := by
  obtain ⟨a1, a2, a3, a4, a5, a6, a7, a8, a9, a10, a11, a12, a13, a14, a15, a16, a17, a18⟩ := u
  unfold sp_cl at hp
  refine br_c (fun h1 => br_c (fun h2 => ?_) (fun h2 => ?_)) (fun h1 => ?_)
  · rw [if_pos h1, if_pos h2] at hp; exact hp
  · rw [if_pos h1, if_neg h2] at hp; exact hp
  · rw [if_neg h1] at hp; exact hp
theorem xm_place (hh : 0 < h) (h8 : h ≤ 8) (hw : 0 < w) (w12 : w ≤ 12) {x y : Int32}
    (hp : post (sp_X h w pc st (sp_cz x.toInt (h - 1)) (sp_cz y.toInt (w - 1)) pen 0 ins tp bo gr gc gp gpd C G P)) : wpX_place post (sp_X h w pc st r c pen pd ins tp bo gr gc gp gpd C G P) x y := by
  unfold wpX_place
  refine xm_limit ?_
  refine xm_limit ?_
  rw [sp_cl0 (m := h - 1) (by omega) (ar_dec hh), sp_cl0 (m := w - 1) (by omega) (ar_dec hw)]
  exact hp
def sp_nt (w c : Nat) : Nat := if w - 1 ≤ 4 * (c / 4 + 1) then w - 1 else 4 * (c / 4 + 1)
theorem ar_tab {c : Nat} (hc : c < 100) : (4 : Int32) * ((nI c / 4) + 1) = nI (4 * (c / 4 + 1)) := by
  have e : nI c / 4 = nI (c / 4) := pk_div (d := 4) (by omega) (by omega) (by omega)
  rw [e, nI_1]
  exact pk_mul 4 _
theorem xm_nextTab {po : Int32 → Prop} {k : Nat} (hw : 0 < w) (w12 : w ≤ 12) (hk : k < 100) (hp : po (nI (sp_nt w k))) : wpX_nextTab po (sp_X h w pc st r c pen pd ins tp bo gr gc gp gpd C G P) (nI k) := by
  refine And.intro (by decide) (nm_r (ar_tab hk) ?_)
  unfold sp_nt at hp
  refine pk_le (w - 1) (4 * (k / 4 + 1)) (fun q => ?_) (fun q => ?_) (ar_dec hw) rfl
  · rw [if_pos q] at hp; rw [ar_dec hw]; exact hp
  · rw [if_neg (by omega)] at hp; exact hp
theorem xl_scroll47 {high off : Nat} {bl : Int32} (hi : high ≤ 96) (h0 : 0 < off) (ho : off < 10000) : ∀ d i n (C : Nat → Int32), i + d = high → d < n → post (sp_X h w pc st r c pen pd ins tp bo gr gc gp gpd (sp_up i high off bl C) G P) → wX_scroll_47 post (nI high) (nI off) bl (nI h) (nI w) (nI pc) (nI st) (nI r) (nI c) (nI pen) (nI pd) (nI ins) (nI tp) (nI bo) (nI gr) (nI gc) (nI gp) (nI gpd) n (nI i) C G P := by
  intro d
  induction d with
  | zero =>
    intro i n C e hn hp
    obtain ⟨n, rfl⟩ : ∃ m, n = m + 1 := ⟨n - 1, by omega⟩
    have e2 : i = high := by omega
    subst e2
    rw [sp_up_0] at hp
    exact pk_le i i (fun _ => hp) (fun q => absurd q (by omega))
  | succ d ih =>
    intro i n C e hn hp
    obtain ⟨n, rfl⟩ : ∃ m, n = m + 1 := ⟨n - 1, by omega⟩
    refine pk_le high i (fun q => absurd q (by omega)) (fun _ => ?_)
    refine pk_le high (i + off) (fun q => ?_) (fun q => ?_) rfl (nI_add i off)
    · refine And.intro (pk_in i 96 (by omega)) (nm_r (e' := upd C i bl) (by rw [nI_clamp (by omega)]) (nm_r (nI_1 i) ?_))
      refine ih (i + 1) n _ (by omega) (by omega) ?_
      rw [sp_up_1 (by omega) q]
      exact hp
    · refine And.intro (pk_in (i + off) 96 (by omega) (nI_add i off)) (And.intro (pk_in i 96 (by omega)) (nm_r (e' := upd C i (C (i + off))) (by rw [nI_add, nI_clamp (by omega), nI_clamp (by omega)]) (nm_r (nI_1 i) ?_)))
      refine ih (i + 1) n _ (by omega) (by omega) ?_
      rw [sp_up_2 h0 q]
      exact hp
theorem ar_nadd {i off : Nat} (hi : i < 10000) (ho : off < 10000) : (nI i + -nI off).toInt = (i : Int) - off := by
  rw [Int32.toInt_add, nI_toInt (by omega), sb_negT (by omega)]
  exact Int.bmod_eq_of_le (by omega) (by omega)
theorem ar_nsub {i off : Nat} (ho : off ≤ i) : nI i + -nI off = nI (i - off) := by
  rw [← pk_sub ho, Int32.sub_eq_add_neg]
theorem xl_scroll101 {low off : Nat} {bl : Int32} (h0 : 0 < off) (ho : off < 5000) : ∀ d k n (C : Nat → Int32), k = low + d → k ≤ 96 → d < n → post (sp_X h w pc st r c pen pd ins tp bo gr gc gp gpd (sp_dn low k off bl C) G P) → wX_scroll_101 post (nI low) (-nI off) bl (nI h) (nI w) (nI pc) (nI st) (nI r) (nI c) (nI pen) (nI pd) (nI ins) (nI tp) (nI bo) (nI gr) (nI gc) (nI gp) (nI gpd) n (nI k + (-1)) C G P := by
  intro d
  induction d with
  | zero =>
    intro k n C e hk hn hp
    obtain ⟨n, rfl⟩ : ∃ m, n = m + 1 := ⟨n - 1, by omega⟩
    have e2 : k = low := by omega
    subst e2
    rw [sp_dn_0] at hp
    refine br_t ?_ hp
    rw [Int32.lt_iff_toInt_lt, nI_toInt (by omega)]
    have := ar_nadd (i := k) (off := 1) (by omega) (by omega)
    have e3 : (nI k + (-1)).toInt = (k : Int) - 1 := this
    rw [e3]
    omega
  | succ d ih =>
    intro k n C e hk hn hp
    obtain ⟨n, rfl⟩ : ∃ m, n = m + 1 := ⟨n - 1, by omega⟩
    obtain ⟨i, rfl⟩ : ∃ i, k = i + 1 := ⟨k - 1, by omega⟩
    rw [pk_m1]
    refine pk_lt i low (fun q => absurd q (by omega)) (fun _ => ?_)
    have hc : (nI i + -nI off < nI low) ↔ i < low + off := by
      rw [Int32.lt_iff_toInt_lt, nI_toInt (by omega), ar_nadd (by omega) (by omega)]
      omega
    refine br_c (fun q => ?_) (fun q => ?_)
    · rw [hc] at q
      refine And.intro (pk_in i 96 (by omega)) (nm_r (e' := upd C i bl) (by rw [nI_clamp (by omega)]) (nm_e ?_))
      refine ih i n _ (by omega) (by omega) (by omega) ?_
      rw [sp_dn_1 (by omega) q]
      exact hp
    · rw [hc] at q
      refine And.intro (pk_in (i - off) 96 (by omega) (ar_nsub (by omega))) (And.intro (pk_in i 96 (by omega)) (nm_r (e' := upd C i (C (i - off))) (by rw [ar_nsub (by omega), nI_clamp (by omega), nI_clamp (by omega)]) (nm_e ?_)))
      refine ih i n _ (by omega) (by omega) (by omega) ?_
      rw [sp_dn_2 h0 (by omega)]
      exact hp
theorem ar_256 (pen : Nat) : (256 : Int32) + nI pen = nI (256 + pen) := nI_add 256 pen
theorem ar_off {n w : Nat} (hn : n ≤ 99) (w12 : w ≤ 12) : n * w < 5000 := by
  have := Nat.mul_le_mul hn w12
  omega
/-- the cells behind a scroll by n rows, up or down -/
def sp_su (w a z n pen : Nat) (C : Nat → Int32) : Nat → Int32 := sp_up (a * w) (z * w + w) (n * w) (nI (256 + pen)) C
def sp_sd (w a z n pen : Nat) (C : Nat → Int32) : Nat → Int32 := sp_dn (a * w) (z * w + w) (n * w) (nI (256 + pen)) C
theorem xm_scrollU {a z n : Nat} {p2 : Int32} (e2 : p2 = nI n) (haz : a ≤ z) (hz : z < h) (h8 : h ≤ 8) (hw : 0 < w) (w12 : w ≤ 12) (hn : 0 < n) (hn9 : n ≤ 99) (hp : post (sp_X h w pc st r c pen pd ins tp bo gr gc gp gpd (sp_su w a z n pen C) G P)) : wpX_scroll post (sp_X h w pc st r c pen pd ins tp bo gr gc gp gpd C G P) (nI a) (nI z) p2 := by
  subst e2
  have b1 := ar_bw96 hz h8 w12
  have b2 := ar_aw (w := w) haz
  have b3 := ar_off hn9 w12
  have b4 : 0 < n * w := Nat.mul_pos hn hw
  refine nm_r (pk_mul a w) (nm_r (e' := nI (z * w + w)) (by rw [pk_mul, nI_add]) (nm_r (pk_mul n w) (nm_r (ar_256 pen) ?_)))
  refine br_f (nI_nle hn (by omega)) ?_
  exact ⟨_, xl_scroll47 b1 b4 (by omega) (z * w + w - a * w) (a * w) _ C (by omega) (Nat.lt_succ_self _) hp⟩
theorem ar_neg1 (x : Int32) : x - 1 = x + (-1) := Int32.sub_eq_add_neg x 1
theorem ar_nmul (n w : Nat) : -nI n * nI w = -nI (n * w) := by rw [← pk_mul, Int32.neg_mul]
theorem xm_scrollD {a z n : Nat} {p2 : Int32} (e2 : p2 = -nI n) (haz : a ≤ z) (hz : z < h) (h8 : h ≤ 8) (hw : 0 < w) (w12 : w ≤ 12) (hn : 0 < n) (hn9 : n ≤ 99) (hp : post (sp_X h w pc st r c pen pd ins tp bo gr gc gp gpd (sp_sd w a z n pen C) G P)) : wpX_scroll post (sp_X h w pc st r c pen pd ins tp bo gr gc gp gpd C G P) (nI a) (nI z) p2 := by
  subst e2
  have b1 := ar_bw96 hz h8 w12
  have b2 := ar_aw (w := w) haz
  have b3 := ar_off hn9 w12
  have b4 : 0 < n * w := Nat.mul_pos hn hw
  refine nm_r (pk_mul a w) (nm_r (e' := nI (z * w + w)) (by rw [pk_mul, nI_add]) (nm_r (ar_nmul n w) (nm_r (ar_256 pen) ?_)))
  refine br_t ?_ (nm_r (ar_neg1 _) ?_)
  · rw [Int32.le_iff_toInt_le, sb_negT (by omega), show (0 : Int32).toInt = 0 from by decide]
    omega
  exact ⟨_, xl_scroll101 b4 b3 (z * w + w - a * w) (z * w + w) _ C (by omega) b1 (Nat.lt_succ_self _) hp⟩
def sp_lr (h bo r : Nat) : Nat := if r = bo then r else if h - 1 ≤ r then r else r + 1
def sp_lc (w tp bo pen r : Nat) (C : Nat → Int32) : Nat → Int32 := if r = bo then sp_su w tp bo 1 pen C else C
theorem xm_lineStep (hr : r < h) (ht : tp ≤ bo) (hb : bo < h) (h8 : h ≤ 8) (hw : 0 < w) (w12 : w ≤ 12) (hp : post (sp_X h w pc st (sp_lr h bo r) c pen pd ins tp bo gr gc gp gpd (sp_lc w tp bo pen r C) G P)) : wpX_lineStep post (sp_X h w pc st r c pen pd ins tp bo gr gc gp gpd C G P) := by
  unfold sp_lr sp_lc at hp
  refine pk_eq r bo (fun q => ?_) (fun q => ?_)
  · rw [if_pos q, if_pos q] at hp
    exact xm_scrollU (n := 1) rfl ht hb h8 hw w12 (by omega) (by omega) hp
  · rw [if_neg q, if_neg q] at hp
    refine pk_le (h - 1) r (fun q2 => ?_) (fun q2 => ?_) (ar_dec (by omega)) rfl
    · rw [if_pos q2] at hp; exact hp
    · rw [if_neg (by omega)] at hp
      exact nm_r (nI_1 r) hp
theorem sp_lr_lt (hr : r < h) (hb : bo < h) : sp_lr h bo r < h := by
  unfold sp_lr
  repeat' split
  all_goals omega
/-! print -/
def sp_c2 (w c : Nat) : Nat := if c = w - 1 then c else c + 1
def sp_p2 (w c : Nat) : Nat := if c = w - 1 then 1 else 0
theorem xl_print77 {b : Nat} (hr : r < h) (hc : c < w) (h8 : h ≤ 8) (w12 : w ≤ 12) (hb : b < 1000) (hpen : pen < 8) (hp : post (sp_X h w pc st r (sp_c2 w c) pen (sp_p2 w c) ins tp bo gr gc gp gpd (upd C (r * w + c) (nI (8 * b + pen))) G P)) : wX_print_77 post (nI b) (nI (r * w)) (nI h) (nI w) (nI pc) (nI st) (nI r) (nI c) (nI pen) (nI 0) (nI ins) (nI tp) (nI bo) (nI gr) (nI gc) (nI gp) (nI gpd) C G P := by
  have b1 := ar_ix96 hr hc h8 w12
  unfold sp_c2 sp_p2 at hp
  refine And.intro (pk_in (r * w + c) 96 b1 (nI_add _ _)) (nm_r (e' := upd C (r * w + c) (nI (8 * b + pen))) ?_ ?_)
  · rw [nI_add, nI_clamp (by omega)]
    congr 1
    rw [show (8 : Int32) = nI 8 from rfl, pk_mul, nI_add]
  refine pk_eq c (w - 1) (fun q => ?_) (fun q => ?_) rfl (ar_dec (by omega))
  · rw [if_pos q, if_pos q] at hp; exact hp
  · rw [if_neg q, if_neg q] at hp
    exact nm_r (nI_1 c) hp
theorem xl_print45 {b R : Nat} (hR : R + w ≤ 96) : ∀ d k n (C : Nat → Int32), k = c + d → k < w → d < n → wX_print_77 post (nI b) (nI R) (nI h) (nI w) (nI pc) (nI st) (nI r) (nI c) (nI pen) (nI 0) (nI ins) (nI tp) (nI bo) (nI gr) (nI gc) (nI gp) (nI gpd) (sp_sh (R + c) (R + k + 1) C) G P → wX_print_45 post (nI b) (nI R) (nI h) (nI w) (nI pc) (nI st) (nI r) (nI c) (nI pen) (nI 0) (nI ins) (nI tp) (nI bo) (nI gr) (nI gc) (nI gp) (nI gpd) n (nI k) C G P := by
  intro d
  induction d with
  | zero =>
    intro k n C e hk hn hp
    obtain ⟨n, rfl⟩ : ∃ m, n = m + 1 := ⟨n - 1, by omega⟩
    have e2 : k = c := by omega
    subst e2
    rw [sp_sh_0] at hp
    exact pk_le k k (fun _ => hp) (fun q => absurd q (by omega))
  | succ d ih =>
    intro k n C e hk hn hp
    obtain ⟨n, rfl⟩ : ∃ m, n = m + 1 := ⟨n - 1, by omega⟩
    refine pk_le k c (fun q => absurd q (by omega)) (fun _ => ?_)
    have e1 : nI R + nI k - 1 = nI (R + k - 1) := by rw [nI_add, ar_dec (by omega)]
    refine And.intro (pk_in (R + k - 1) 96 (by omega) e1) (And.intro (pk_in (R + k) 96 (by omega) (nI_add _ _)) (nm_r (e' := upd C (R + k) (C (R + k - 1))) ?_ (nm_r (ar_m1 (by omega)) ?_)))
    · rw [e1, nI_add, nI_clamp (by omega), nI_clamp (by omega)]
    · refine ih (k - 1) n _ (by omega) (by omega) (by omega) ?_
      rw [show R + (k - 1) + 1 = R + k by omega, sp_sh_1 (by omega)]
      exact hp
/-- the cells behind a print at (r, c) -/
def sp_pc (w ins r c v : Nat) (C : Nat → Int32) : Nat → Int32 := upd (if ins = 0 then C else sp_sh (r * w + c) (r * w + w) C) (r * w + c) (nI v)
theorem xl_print21 {b : Nat} (hr : r < h) (hc : c < w) (h8 : h ≤ 8) (w12 : w ≤ 12) (hb : b < 1000) (hpen : pen < 8) (hi : ins < 2) (hp : post (sp_X h w pc st r (sp_c2 w c) pen (sp_p2 w c) ins tp bo gr gc gp gpd (sp_pc w ins r c (8 * b + pen) C) G P)) : wX_print_21 post (nI b) (nI h) (nI w) (nI pc) (nI st) (nI r) (nI c) (nI pen) (nI 0) (nI ins) (nI tp) (nI bo) (nI gr) (nI gc) (nI gp) (nI gpd) C G P := by
  have b1 := ar_bw96 hr h8 w12
  unfold sp_pc at hp
  refine nm_r (pk_mul r w) (pk_eq ins 0 (fun q => ?_) (fun q => ?_))
  · rw [if_pos q] at hp
    exact xl_print77 hr hc h8 w12 hb hpen hp
  · rw [if_neg q] at hp
    refine nm_r (ar_dec (by omega)) ⟨w - 1 - c + 1, ?_⟩
    refine xl_print45 b1 (w - 1 - c) (w - 1) _ C (by omega) (by omega) (Nat.lt_succ_self _) ?_
    rw [show r * w + (w - 1) + 1 = r * w + w by omega]
    exact xl_print77 hr hc h8 w12 hb hpen hp
theorem xm_print0 {b : Nat} (hr : r < h) (hc : c < w) (h8 : h ≤ 8) (w12 : w ≤ 12) (hb : b < 1000) (hpen : pen < 8) (hi : ins < 2) (hp : post (sp_X h w pc st r (sp_c2 w c) pen (sp_p2 w c) ins tp bo gr gc gp gpd (sp_pc w ins r c (8 * b + pen) C) G P)) : wpX_print post (sp_X h w pc st r c pen 0 ins tp bo gr gc gp gpd C G P) (nI b) :=
  br_t rfl (xl_print21 hr hc h8 w12 hb hpen hi hp)
theorem xm_print1 {b : Nat} (hr : r < h) (hw : 0 < w) (ht : tp ≤ bo) (hbo : bo < h) (h8 : h ≤ 8) (w12 : w ≤ 12) (hb : b < 1000) (hpen : pen < 8) (hi : ins < 2) (hp : post (sp_X h w pc st (sp_lr h bo r) (sp_c2 w 0) pen (sp_p2 w 0) ins tp bo gr gc gp gpd (sp_pc w ins (sp_lr h bo r) 0 (8 * b + pen) (sp_lc w tp bo pen r C)) G P)) : wpX_print post (sp_X h w pc st r c pen 1 ins tp bo gr gc gp gpd C G P) (nI b) :=
  br_f (by decide) (xm_lineStep (c := 0) (pd := 0) hr ht hbo h8 hw w12 (xl_print21 (c := 0) (sp_lr_lt hr hbo) hw h8 w12 hb hpen hi hp))
/-! erase -/
theorem xl_erase51 {to : Nat} (hto : to < 96) : ∀ d i n (C : Nat → Int32), i + d = to + 1 → d < n → post (sp_X h w pc st r c pen pd ins tp bo gr gc gp gpd (sp_fill i (to + 1) (nI (256 + pen)) C) G P) → wX_erase_51 post (nI to) (nI h) (nI w) (nI pc) (nI st) (nI r) (nI c) (nI pen) (nI pd) (nI ins) (nI tp) (nI bo) (nI gr) (nI gc) (nI gp) (nI gpd) n (nI i) C G P := by
  intro d
  induction d with
  | zero =>
    intro i n C e hn hp
    obtain ⟨n, rfl⟩ : ∃ m, n = m + 1 := ⟨n - 1, by omega⟩
    have e2 : i = to + 1 := by omega
    subst e2
    rw [sp_fill_0] at hp
    exact pk_lt to (to + 1) (fun _ => hp) (fun q => absurd q (by omega))
  | succ d ih =>
    intro i n C e hn hp
    obtain ⟨n, rfl⟩ : ∃ m, n = m + 1 := ⟨n - 1, by omega⟩
    refine pk_lt to i (fun q => absurd q (by omega)) (fun _ => ?_)
    refine And.intro (pk_in i 96 (by omega)) (nm_r (e' := upd C i (nI (256 + pen))) (by rw [nI_clamp (by omega), ar_256]) (nm_r (nI_1 i) ?_))
    refine ih (i + 1) n _ (by omega) (by omega) ?_
    rw [sp_fill_1 (by omega)]
    exact hp
def sp_er (w r c p first last pen : Nat) (C : Nat → Int32) : Nat → Int32 := if p ≤ 2 then sp_fill (if p = 0 then r * w + c else first) ((if p = 1 then r * w + c else last) + 1) (nI (256 + pen)) C else C
theorem xm_erase {p first last : Nat} {x1 x2 : Int32} (e1 : x1 = nI first) (e2 : x2 = nI last) (hp9 : p ≤ 99) (hf : first ≤ r * w + c) (hl : r * w + c ≤ last) (hl6 : last < 96) (hp : post (sp_X h w pc st r c pen pd ins tp bo gr gc gp gpd (sp_er w r c p first last pen C) G P)) : wpX_erase post (sp_X h w pc st r c pen pd ins tp bo gr gc gp gpd C G P) (nI p) x1 x2 := by
  subst e1 e2
  unfold sp_er at hp
  refine pk_le p 2 (fun q => ?_) (fun q => ?_)
  · rw [if_pos q] at hp
    refine nm_r (e' := nI (r * w + c)) (by rw [pk_mul, nI_add]) ?_
    refine pk_eq p 0 (fun q0 => ?_) (fun q0 => ?_)
    · rw [if_pos q0, if_neg (by omega)] at hp
      refine pk_eq p 1 (fun q1 => absurd q1 (by omega)) (fun q1 => ?_)
      exact ⟨_, xl_erase51 hl6 (last + 1 - (r * w + c)) (r * w + c) _ C (by omega) (Nat.lt_succ_self _) hp⟩
    · rw [if_neg q0] at hp
      refine pk_eq p 1 (fun q1 => ?_) (fun q1 => ?_)
      · rw [if_pos q1] at hp
        exact ⟨_, xl_erase51 (by omega) (r * w + c + 1 - first) first _ C (by omega) (Nat.lt_succ_self _) hp⟩
      · rw [if_neg q1] at hp
        exact ⟨_, xl_erase51 hl6 (last + 1 - first) first _ C (by omega) (Nat.lt_succ_self _) hp⟩
  · rw [if_neg (by omega)] at hp
    exact hp
end
end
section
/-! the component: pens, margins, commands -/
theorem ar_ne {b k : Nat} (h : b ≠ k) (hb : b < 200) (hk : k < 200) : ¬ nI b = nI k := fun z => h ((nI_eq (by omega) (by omega)).mp z)
def sp_b1 (k v p : Nat) : Nat := if v = 1 + 3 * k then p ||| 2 ^ k else if v = 22 + 5 * k / 2 then p &&& (7 - 2 ^ k) else p
def sp_at (v p : Nat) : Nat := if v = 0 then 0 else if v = 1 then p ||| 1 else if v = 4 then p ||| 2 else if v = 7 then p ||| 4 else if v = 22 then p &&& 6 else if v = 24 then p &&& 5 else if v = 27 then p &&& 3 else p
theorem sp_b1_lt : ∀ k, k < 3 → ∀ v, v < 100 → ∀ p, p < 8 → sp_b1 k v p < 8 := by decide +kernel
theorem sp_at_b : ∀ v, v < 100 → ∀ p, p < 8 → sp_b1 2 v (sp_b1 1 v (sp_b1 0 v (if v = 0 then 0 else p))) = sp_at v p := by decide +kernel
theorem sp_at_lt : ∀ v, v < 100 → ∀ p, p < 8 → sp_at v p < 8 := by decide +kernel
def sp_pens (V : Nat → Nat) : Nat → Nat → Nat → Nat
  | _, 0, p => p
  | i, d + 1, p => sp_pens V (i + 1) d (sp_at (V i) p)
theorem ar_or : ∀ k, k < 3 → ∀ p, p < 8 → nI p ||| ((1 : Int32) <<< (nI k &&& 31)) = nI (p ||| 2 ^ k) := by decide +kernel
theorem ar_an : ∀ k, k < 3 → ∀ p, p < 8 → nI p &&& (((1 : Int32) <<< (nI k &&& 31)) ^^^ (-1)) = nI (p &&& (7 - 2 ^ k)) := by decide +kernel
theorem ar_13 : ∀ k, k < 3 → (1 : Int32) + (3 * nI k) = nI (1 + 3 * k) := by decide +kernel
theorem ar_22 : ∀ k, k < 3 → (22 : Int32) + ((5 * nI k) / 2) = nI (22 + 5 * k / 2) := by decide +kernel
theorem ar_hw1 {h w : Nat} (hh : 0 < h) (hw : 0 < w) : nI h * nI w - 1 = nI (h * w - 1) := by rw [pk_mul, ar_dec (Nat.mul_pos hh hw)]
theorem ar_last {r c h w : Nat} (hr : r < h) (hc : c < w) : r * w + c ≤ h * w - 1 := by
  have := ar_ix hr hc
  omega
theorem ar_last96 {h w : Nat} (hh : 0 < h) (h8 : h ≤ 8) (hw : 0 < w) (w12 : w ≤ 12) : h * w - 1 < 96 := by
  have := ar_hw h8 w12
  omega
theorem ar_rw1 {r w : Nat} (hw : 0 < w) : nI r * nI w + nI w - 1 = nI (r * w + w - 1) := by rw [pk_mul, nI_add, ar_dec (by omega)]
theorem ar_rlast {r c w : Nat} (hc : c < w) : r * w + c ≤ r * w + w - 1 := by omega
theorem ar_rlast96 {r h w : Nat} (hr : r < h) (h8 : h ≤ 8) (hw : 0 < w) (w12 : w ≤ 12) : r * w + w - 1 < 96 := by
  have := ar_bw96 hr h8 w12
  omega
theorem sp_cz0 (m : Nat) : sp_cz (0 : Int32).toInt m = 0 := by
  rw [show (0 : Int32).toInt = ((0 : Nat) : Int) from by decide, sp_cz_n]
  rw [if_pos (Nat.zero_le _)]
section
variable {post : SX → Prop} {h w pc st r c pen pd ins tp bo gr gc gp gpd : Nat} {C G P : Nat → Int32}
theorem xl_pen28 {J : Int32 → Int32 → Prop} {v k p n : Nat} {x1 : Int32} (hk : k < 3) (hv : v ≤ 99) (hpn : p < 8) (H : wX_changePen_28 post J x1 (nI v) (nI h) (nI w) (nI pc) (nI st) (nI r) (nI c) (nI pd) (nI ins) (nI tp) (nI bo) (nI gr) (nI gc) (nI gp) (nI gpd) C G P n (nI (k + 1)) (nI (sp_b1 k v p))) : wX_changePen_28 post J x1 (nI v) (nI h) (nI w) (nI pc) (nI st) (nI r) (nI c) (nI pd) (nI ins) (nI tp) (nI bo) (nI gr) (nI gc) (nI gp) (nI gpd) C G P (n + 1) (nI k) (nI p) := by
  unfold sp_b1 at H
  refine pk_le 3 k (fun q => absurd q (by omega)) (fun _ => ?_)
  refine pk_eq v (1 + 3 * k) (fun q => ?_) (fun q => ?_) rfl (ar_13 k hk)
  · rw [if_pos q] at H
    exact nm_r (ar_or k hk p hpn) (nm_r (nI_1 k) H)
  · rw [if_neg q] at H
    refine And.intro (by decide) (pk_eq v (22 + 5 * k / 2) (fun q2 => ?_) (fun q2 => ?_) rfl (ar_22 k hk))
    · rw [if_pos q2] at H
      exact nm_r (ar_an k hk p hpn) (nm_r (nI_1 k) H)
    · rw [if_neg q2] at H
      exact nm_r (nI_1 k) H
theorem xl_pen28a {J : Int32 → Int32 → Prop} {v p i : Nat} (hv : v ≤ 99) (hpn : p < 8) (H : J (nI (i + 1)) (nI (sp_b1 2 v (sp_b1 1 v (sp_b1 0 v p))))) : wX_changePen_28 post J (nI i) (nI v) (nI h) (nI w) (nI pc) (nI st) (nI r) (nI c) (nI pd) (nI ins) (nI tp) (nI bo) (nI gr) (nI gc) (nI gp) (nI gpd) C G P 4 (nI 0) (nI p) := by
  have h0 := sp_b1_lt 0 (by omega) v (by omega) p hpn
  have h1 := sp_b1_lt 1 (by omega) v (by omega) _ h0
  exact xl_pen28 (by omega) hv hpn (xl_pen28 (by omega) hv h0 (xl_pen28 (by omega) hv h1 (br_t (by decide) (nm_r (nI_1 i) H))))
theorem xl_pen2 {V : Nat → Nat} (hV : ∀ i, i < pc → P i = nI (V i) ∧ V i ≤ 99) (hpc : pc ≤ 4) : ∀ d i n p, i + d = pc → d < n → p < 8 → post (sp_X h w pc st r c (sp_pens V i d p) pd ins tp bo gr gc gp gpd C G P) → wX_changePen_2 post (nI h) (nI w) (nI pc) (nI st) (nI r) (nI c) (nI pd) (nI ins) (nI tp) (nI bo) (nI gr) (nI gc) (nI gp) (nI gpd) C G P n (nI i) (nI p) := by
  intro d
  induction d with
  | zero =>
    intro i n p e hn hpn hp
    obtain ⟨n, rfl⟩ : ∃ m, n = m + 1 := ⟨n - 1, by omega⟩
    exact pk_le pc i (fun _ => hp) (fun q => absurd q (by omega))
  | succ d ih =>
    intro i n p e hn hpn hp
    obtain ⟨n, rfl⟩ : ∃ m, n = m + 1 := ⟨n - 1, by omega⟩
    obtain ⟨hv1, hv2⟩ := hV i (by omega)
    have ha := sp_at_lt (V i) (by omega) p hpn
    have hb := sp_at_b (V i) (by omega) p hpn
    have K := ih (i + 1) n (sp_at (V i) p) (by omega) (by omega) ha hp
    rw [← hb] at K
    refine pk_le pc i (fun q => absurd q (by omega)) (fun _ => ?_)
    refine And.intro (pk_in i 4 (by omega)) (nm_r (e' := nI (V i)) (by rw [nI_clamp (by omega)]; exact hv1) ?_)
    refine pk_eq (V i) 0 (fun q => ?_) (fun q => ?_)
    · rw [if_pos q] at K
      exact ⟨4, xl_pen28a (p := 0) hv2 (by omega) K⟩
    · rw [if_neg q] at K
      exact ⟨4, xl_pen28a hv2 hpn K⟩
theorem xm_changePen {V : Nat → Nat} (hV : ∀ i, i < pc → P i = nI (V i) ∧ V i ≤ 99) (hpc : pc ≤ 4) (hpen : pen < 8) (hp : post (sp_X h w pc st r c (sp_pens V 0 pc pen) pd ins tp bo gr gc gp gpd C G P)) : wpX_changePen post (sp_X h w pc st r c pen pd ins tp bo gr gc gp gpd C G P) :=
  ⟨pc + 1, xl_pen2 hV hpc pc 0 (pc + 1) pen (by omega) (by omega) hpen hp⟩
def sp_mu (h q : Nat) : Nat := if q = 0 then h else if q ≤ h then q else h
theorem xl_setMargins20 {t z : Nat} (hh : 0 < h) (h8 : h ≤ 8) (hw : 0 < w) (w12 : w ≤ 12) (hn : 0 < t) (hn9 : t ≤ 99) (hz : z ≤ 99) (hp1 : t < z → post (sp_X h w pc st 0 0 pen 0 ins (t - 1) (z - 1) gr gc gp gpd C G P)) (hp2 : ¬ t < z → post (sp_X h w pc st r c pen pd ins tp bo gr gc gp gpd C G P)) : wX_setMargins_20 post (nI t) (nI z) (nI h) (nI w) (nI pc) (nI st) (nI r) (nI c) (nI pen) (nI pd) (nI ins) (nI tp) (nI bo) (nI gr) (nI gc) (nI gp) (nI gpd) C G P := by
  refine pk_le z t (fun q => hp2 (by omega)) (fun q => ?_)
  refine nm_r (ar_dec hn) (nm_r (ar_dec (by omega)) ?_)
  refine xm_place hh h8 hw w12 ?_
  rw [sp_cz0, sp_cz0]
  exact hp1 q
theorem xm_setMargins {t q : Nat} (hh : 0 < h) (h8 : h ≤ 8) (hw : 0 < w) (w12 : w ≤ 12) (hn : 0 < t) (hn9 : t ≤ 99) (hq : q ≤ 99) (hp1 : t < sp_mu h q → post (sp_X h w pc st 0 0 pen 0 ins (t - 1) (sp_mu h q - 1) gr gc gp gpd C G P)) (hp2 : ¬ t < sp_mu h q → post (sp_X h w pc st r c pen pd ins tp bo gr gc gp gpd C G P)) : wpX_setMargins post (sp_X h w pc st r c pen pd ins tp bo gr gc gp gpd C G P) (nI t) (nI q) := by
  unfold sp_mu at hp1 hp2
  refine pk_eq q 0 (fun e => ?_) (fun e => pk_le q h (fun e2 => ?_) (fun e2 => ?_))
  · rw [if_pos e] at hp1 hp2
    exact xl_setMargins20 hh h8 hw w12 hn hn9 (by omega) hp1 hp2
  · rw [if_neg e, if_pos e2] at hp1 hp2
    exact xl_setMargins20 hh h8 hw w12 hn hn9 hq hp1 hp2
  · rw [if_neg e, if_neg (by omega)] at hp1 hp2
    exact xl_setMargins20 hh h8 hw w12 hn hn9 (by omega) hp1 hp2
theorem xc_A {p q n : Nat} (hh : 0 < h) (h8 : h ≤ 8) (hw : 0 < w) (w12 : w ≤ 12) (hp : post (sp_X h w pc st (sp_cz (nI r - nI n).toInt (h - 1)) (sp_cz (nI c).toInt (w - 1)) pen 0 ins tp bo gr gc gp gpd C G P)) : wX_command_35 post (nI 65) (nI p) (nI q) (nI n) (nI h) (nI w) (nI pc) (nI st) (nI r) (nI c) (nI pen) (nI pd) (nI ins) (nI tp) (nI bo) (nI gr) (nI gc) (nI gp) (nI gpd) C G P :=
  br_f (by decide) (br_f (by decide) (br_t (by decide) (xm_place hh h8 hw w12 hp)))
theorem xc_B {p q n : Nat} (hh : 0 < h) (h8 : h ≤ 8) (hw : 0 < w) (w12 : w ≤ 12) (hp : post (sp_X h w pc st (sp_cz (nI r + nI n).toInt (h - 1)) (sp_cz (nI c).toInt (w - 1)) pen 0 ins tp bo gr gc gp gpd C G P)) : wX_command_35 post (nI 66) (nI p) (nI q) (nI n) (nI h) (nI w) (nI pc) (nI st) (nI r) (nI c) (nI pen) (nI pd) (nI ins) (nI tp) (nI bo) (nI gr) (nI gc) (nI gp) (nI gpd) C G P :=
  br_f (by decide) (br_f (by decide) (br_f (by decide) (br_t (by decide) (xm_place hh h8 hw w12 hp))))
theorem xc_C {p q n : Nat} (hh : 0 < h) (h8 : h ≤ 8) (hw : 0 < w) (w12 : w ≤ 12) (hp : post (sp_X h w pc st (sp_cz (nI r).toInt (h - 1)) (sp_cz (nI c + nI n).toInt (w - 1)) pen 0 ins tp bo gr gc gp gpd C G P)) : wX_command_35 post (nI 67) (nI p) (nI q) (nI n) (nI h) (nI w) (nI pc) (nI st) (nI r) (nI c) (nI pen) (nI pd) (nI ins) (nI tp) (nI bo) (nI gr) (nI gc) (nI gp) (nI gpd) C G P :=
  br_f (by decide) (br_f (by decide) (br_f (by decide) (br_f (by decide) (br_t (by decide) (xm_place hh h8 hw w12 hp)))))
theorem xc_D {p q n : Nat} (hh : 0 < h) (h8 : h ≤ 8) (hw : 0 < w) (w12 : w ≤ 12) (hp : post (sp_X h w pc st (sp_cz (nI r).toInt (h - 1)) (sp_cz (nI c - nI n).toInt (w - 1)) pen 0 ins tp bo gr gc gp gpd C G P)) : wX_command_35 post (nI 68) (nI p) (nI q) (nI n) (nI h) (nI w) (nI pc) (nI st) (nI r) (nI c) (nI pen) (nI pd) (nI ins) (nI tp) (nI bo) (nI gr) (nI gc) (nI gp) (nI gpd) C G P :=
  br_f (by decide) (br_f (by decide) (br_f (by decide) (br_f (by decide) (br_f (by decide) (br_t (by decide) (xm_place hh h8 hw w12 hp))))))
theorem xc_H {p q n : Nat} (hh : 0 < h) (h8 : h ≤ 8) (hw : 0 < w) (w12 : w ≤ 12) (hq : q ≤ 99) (hp : post (sp_X h w pc st (sp_cz (nI n - 1).toInt (h - 1)) (sp_cz (nI (q - 1)).toInt (w - 1)) pen 0 ins tp bo gr gc gp gpd C G P)) : wX_command_35 post (nI 72) (nI p) (nI q) (nI n) (nI h) (nI w) (nI pc) (nI st) (nI r) (nI c) (nI pen) (nI pd) (nI ins) (nI tp) (nI bo) (nI gr) (nI gc) (nI gp) (nI gpd) C G P :=
  br_f (by decide) (br_f (by decide) (br_f (by decide) (br_f (by decide) (br_f (by decide) (br_f (by decide) (br_f (by decide) (br_f (by decide) (br_f (by decide) (br_t (by decide) (pk_eq q 0 (fun e => xm_place (y := 0) hh h8 hw w12 (by subst e; exact hp)) (fun e => xm_place hh h8 hw w12 (by rw [ar_dec (n := q) (by omega)]; exact hp))))))))))))
theorem xc_J {p q n : Nat} (hh : 0 < h) (h8 : h ≤ 8) (hw : 0 < w) (w12 : w ≤ 12) (hr : r < h) (hc : c < w) (hp9 : p ≤ 99) (hp : post (sp_X h w pc st r c pen pd ins tp bo gr gc gp gpd (sp_er w r c p 0 (h * w - 1) pen C) G P)) : wX_command_35 post (nI 74) (nI p) (nI q) (nI n) (nI h) (nI w) (nI pc) (nI st) (nI r) (nI c) (nI pen) (nI pd) (nI ins) (nI tp) (nI bo) (nI gr) (nI gc) (nI gp) (nI gpd) C G P :=
  br_f (by decide) (br_f (by decide) (br_f (by decide) (br_f (by decide) (br_f (by decide) (br_f (by decide) (br_f (by decide) (br_f (by decide) (br_f (by decide) (br_f (by decide) (br_f (by decide) (br_t (by decide) (xm_erase (first := 0) (last := h * w - 1) rfl (ar_hw1 hh hw) hp9 (Nat.zero_le _) (ar_last hr hc) (ar_last96 hh h8 hw w12) hp))))))))))))
theorem xc_K {p q n : Nat} (hh : 0 < h) (h8 : h ≤ 8) (hw : 0 < w) (w12 : w ≤ 12) (hr : r < h) (hc : c < w) (hp9 : p ≤ 99) (hp : post (sp_X h w pc st r c pen pd ins tp bo gr gc gp gpd (sp_er w r c p (r * w) (r * w + w - 1) pen C) G P)) : wX_command_35 post (nI 75) (nI p) (nI q) (nI n) (nI h) (nI w) (nI pc) (nI st) (nI r) (nI c) (nI pen) (nI pd) (nI ins) (nI tp) (nI bo) (nI gr) (nI gc) (nI gp) (nI gpd) C G P :=
  br_f (by decide) (br_f (by decide) (br_f (by decide) (br_f (by decide) (br_f (by decide) (br_f (by decide) (br_f (by decide) (br_f (by decide) (br_f (by decide) (br_f (by decide) (br_f (by decide) (br_f (by decide) (br_t (by decide) (xm_erase (first := r * w) (last := r * w + w - 1) (pk_mul r w) (ar_rw1 hw) hp9 (Nat.le_add_right _ _) (ar_rlast hc) (ar_rlast96 hr h8 hw w12) hp)))))))))))))
theorem xc_L {p q n : Nat} (h8 : h ≤ 8) (hw : 0 < w) (w12 : w ≤ 12) (hn : 0 < n) (hn9 : n ≤ 99) (hb : bo < h) (hr : r < h) (hp1 : tp ≤ r → r ≤ bo → post (sp_X h w pc st r c pen 0 ins tp bo gr gc gp gpd (sp_sd w r bo n pen C) G P)) (hp2 : ¬ (tp ≤ r ∧ r ≤ bo) → post (sp_X h w pc st r c pen pd ins tp bo gr gc gp gpd C G P)) (ht : tp < h) : wX_command_35 post (nI 76) (nI p) (nI q) (nI n) (nI h) (nI w) (nI pc) (nI st) (nI r) (nI c) (nI pen) (nI pd) (nI ins) (nI tp) (nI bo) (nI gr) (nI gc) (nI gp) (nI gpd) C G P :=
  br_f (by decide) (br_f (by decide) (br_f (by decide) (br_f (by decide) (br_f (by decide) (br_f (by decide) (br_f (by decide) (br_f (by decide) (br_f (by decide) (br_f (by decide) (br_f (by decide) (br_f (by decide) (br_f (by decide) (br_t (by decide) (pk_lt r tp (fun e => hp2 (by omega)) (fun e => pk_lt bo r (fun e2 => hp2 (by omega)) (fun e2 => xm_scrollD rfl e2 hb h8 hw w12 hn hn9 (hp1 e e2)))))))))))))))))
theorem xc_M {p q n : Nat} (h8 : h ≤ 8) (hw : 0 < w) (w12 : w ≤ 12) (hn : 0 < n) (hn9 : n ≤ 99) (hb : bo < h) (hr : r < h) (hp1 : tp ≤ r → r ≤ bo → post (sp_X h w pc st r c pen 0 ins tp bo gr gc gp gpd (sp_su w r bo n pen C) G P)) (hp2 : ¬ (tp ≤ r ∧ r ≤ bo) → post (sp_X h w pc st r c pen pd ins tp bo gr gc gp gpd C G P)) (ht : tp < h) : wX_command_35 post (nI 77) (nI p) (nI q) (nI n) (nI h) (nI w) (nI pc) (nI st) (nI r) (nI c) (nI pen) (nI pd) (nI ins) (nI tp) (nI bo) (nI gr) (nI gc) (nI gp) (nI gpd) C G P :=
  br_f (by decide) (br_f (by decide) (br_f (by decide) (br_f (by decide) (br_f (by decide) (br_f (by decide) (br_f (by decide) (br_f (by decide) (br_f (by decide) (br_f (by decide) (br_f (by decide) (br_f (by decide) (br_f (by decide) (br_f (by decide) (br_t (by decide) (pk_lt r tp (fun e => hp2 (by omega)) (fun e => pk_lt bo r (fun e2 => hp2 (by omega)) (fun e2 => xm_scrollU rfl e2 hb h8 hw w12 hn hn9 (hp1 e e2))))))))))))))))))
theorem xc_S {p q n : Nat} (h8 : h ≤ 8) (hw : 0 < w) (w12 : w ≤ 12) (hn : 0 < n) (hn9 : n ≤ 99) (hb : bo < h) (ht : tp ≤ bo) (hp : post (sp_X h w pc st r c pen pd ins tp bo gr gc gp gpd (sp_su w tp bo n pen C) G P)) : wX_command_35 post (nI 83) (nI p) (nI q) (nI n) (nI h) (nI w) (nI pc) (nI st) (nI r) (nI c) (nI pen) (nI pd) (nI ins) (nI tp) (nI bo) (nI gr) (nI gc) (nI gp) (nI gpd) C G P :=
  br_f (by decide) (br_f (by decide) (br_f (by decide) (br_f (by decide) (br_f (by decide) (br_f (by decide) (br_f (by decide) (br_f (by decide) (br_f (by decide) (br_f (by decide) (br_f (by decide) (br_f (by decide) (br_f (by decide) (br_f (by decide) (br_f (by decide) (br_f (by decide) (br_f (by decide) (br_f (by decide) (br_f (by decide) (br_f (by decide) (br_t (by decide) (xm_scrollU rfl ht hb h8 hw w12 hn hn9 hp)))))))))))))))))))))
theorem xc_T {p q n : Nat} (h8 : h ≤ 8) (hw : 0 < w) (w12 : w ≤ 12) (hn : 0 < n) (hn9 : n ≤ 99) (hb : bo < h) (ht : tp ≤ bo) (hp : post (sp_X h w pc st r c pen pd ins tp bo gr gc gp gpd (sp_sd w tp bo n pen C) G P)) : wX_command_35 post (nI 84) (nI p) (nI q) (nI n) (nI h) (nI w) (nI pc) (nI st) (nI r) (nI c) (nI pen) (nI pd) (nI ins) (nI tp) (nI bo) (nI gr) (nI gc) (nI gp) (nI gpd) C G P :=
  br_f (by decide) (br_f (by decide) (br_f (by decide) (br_f (by decide) (br_f (by decide) (br_f (by decide) (br_f (by decide) (br_f (by decide) (br_f (by decide) (br_f (by decide) (br_f (by decide) (br_f (by decide) (br_f (by decide) (br_f (by decide) (br_f (by decide) (br_f (by decide) (br_f (by decide) (br_f (by decide) (br_f (by decide) (br_f (by decide) (br_f (by decide) (br_t (by decide) (xm_scrollD rfl ht hb h8 hw w12 hn hn9 hp))))))))))))))))))))))
theorem xc_h {p q n : Nat} (hi : ins < 2) (hp9 : p ≤ 99) (hp : post (sp_X h w pc st r c pen pd (if p = 4 then 1 else ins) tp bo gr gc gp gpd C G P)) : wX_command_35 post (nI 104) (nI p) (nI q) (nI n) (nI h) (nI w) (nI pc) (nI st) (nI r) (nI c) (nI pen) (nI pd) (nI ins) (nI tp) (nI bo) (nI gr) (nI gc) (nI gp) (nI gpd) C G P :=
  br_f (by decide) (br_f (by decide) (br_f (by decide) (br_f (by decide) (br_f (by decide) (br_f (by decide) (br_f (by decide) (br_f (by decide) (br_f (by decide) (br_f (by decide) (br_f (by decide) (br_f (by decide) (br_f (by decide) (br_f (by decide) (br_f (by decide) (br_f (by decide) (br_f (by decide) (br_f (by decide) (br_f (by decide) (br_f (by decide) (br_f (by decide) (br_f (by decide) (br_f (by decide) (br_f (by decide) (br_f (by decide) (br_f (by decide) (br_f (by decide) (br_f (by decide) (br_f (by decide) (br_f (by decide) (br_f (by decide) (br_f (by decide) (br_f (by decide) (br_f (by decide) (br_f (by decide) (br_f (by decide) (br_f (by decide) (br_f (by decide) (br_f (by decide) (br_f (by decide) (br_f (by decide) (br_t (by decide) (pk_eq ins 0 (fun e => pk_eq p 4 (fun e2 => by rw [if_pos e2] at hp; exact hp) (fun e2 => by rw [if_neg e2, e] at hp; exact hp)) (fun e => by have e3 : (if p = 4 then 1 else ins) = 1 := (by split <;> omega); rw [e3] at hp; exact hp)))))))))))))))))))))))))))))))))))))))))))
theorem xc_l {p q n : Nat} (hi : ins < 2) (hp9 : p ≤ 99) (hp : post (sp_X h w pc st r c pen pd (if p = 4 then 0 else ins) tp bo gr gc gp gpd C G P)) : wX_command_35 post (nI 108) (nI p) (nI q) (nI n) (nI h) (nI w) (nI pc) (nI st) (nI r) (nI c) (nI pen) (nI pd) (nI ins) (nI tp) (nI bo) (nI gr) (nI gc) (nI gp) (nI gpd) C G P :=
  br_f (by decide) (br_f (by decide) (br_f (by decide) (br_f (by decide) (br_f (by decide) (br_f (by decide) (br_f (by decide) (br_f (by decide) (br_f (by decide) (br_f (by decide) (br_f (by decide) (br_f (by decide) (br_f (by decide) (br_f (by decide) (br_f (by decide) (br_f (by decide) (br_f (by decide) (br_f (by decide) (br_f (by decide) (br_f (by decide) (br_f (by decide) (br_f (by decide) (br_f (by decide) (br_f (by decide) (br_f (by decide) (br_f (by decide) (br_f (by decide) (br_f (by decide) (br_f (by decide) (br_f (by decide) (br_f (by decide) (br_f (by decide) (br_f (by decide) (br_f (by decide) (br_f (by decide) (br_f (by decide) (br_f (by decide) (br_f (by decide) (br_f (by decide) (br_f (by decide) (br_f (by decide) (br_f (by decide) (br_f (by decide) (br_f (by decide) (br_f (by decide) (br_t (by decide) (pk_eq ins 0 (fun e => by have e3 : (if p = 4 then 0 else ins) = 0 := (by split <;> omega); rw [e3] at hp; exact hp) (fun e => pk_eq p 4 (fun e2 => by rw [if_pos e2] at hp; exact hp) (fun e2 => by have e4 : ins = 1 := (by omega); rw [if_neg e2, e4] at hp; exact hp))))))))))))))))))))))))))))))))))))))))))))))))
theorem xc_m {p q n : Nat} {V : Nat → Nat} (hV : ∀ i, i < pc → P i = nI (V i) ∧ V i ≤ 99) (hpc : pc ≤ 4) (hpen : pen < 8) (hp : post (sp_X h w pc st r c (sp_pens V 0 pc pen) pd ins tp bo gr gc gp gpd C G P)) : wX_command_35 post (nI 109) (nI p) (nI q) (nI n) (nI h) (nI w) (nI pc) (nI st) (nI r) (nI c) (nI pen) (nI pd) (nI ins) (nI tp) (nI bo) (nI gr) (nI gc) (nI gp) (nI gpd) C G P :=
  br_f (by decide) (br_f (by decide) (br_f (by decide) (br_f (by decide) (br_f (by decide) (br_f (by decide) (br_f (by decide) (br_f (by decide) (br_f (by decide) (br_f (by decide) (br_f (by decide) (br_f (by decide) (br_f (by decide) (br_f (by decide) (br_f (by decide) (br_f (by decide) (br_f (by decide) (br_f (by decide) (br_f (by decide) (br_f (by decide) (br_f (by decide) (br_f (by decide) (br_f (by decide) (br_f (by decide) (br_f (by decide) (br_f (by decide) (br_f (by decide) (br_f (by decide) (br_f (by decide) (br_f (by decide) (br_f (by decide) (br_f (by decide) (br_f (by decide) (br_f (by decide) (br_f (by decide) (br_f (by decide) (br_f (by decide) (br_f (by decide) (br_f (by decide) (br_f (by decide) (br_f (by decide) (br_f (by decide) (br_f (by decide) (br_f (by decide) (br_f (by decide) (br_f (by decide) (br_t (by decide) (xm_changePen hV hpc hpen hp)))))))))))))))))))))))))))))))))))))))))))))))
theorem xc_r {p q n : Nat} (hh : 0 < h) (h8 : h ≤ 8) (hw : 0 < w) (w12 : w ≤ 12) (hn : 0 < n) (hn9 : n ≤ 99) (hq : q ≤ 99) (hp1 : n < sp_mu h q → post (sp_X h w pc st 0 0 pen 0 ins (n - 1) (sp_mu h q - 1) gr gc gp gpd C G P)) (hp2 : ¬ n < sp_mu h q → post (sp_X h w pc st r c pen pd ins tp bo gr gc gp gpd C G P)) : wX_command_35 post (nI 114) (nI p) (nI q) (nI n) (nI h) (nI w) (nI pc) (nI st) (nI r) (nI c) (nI pen) (nI pd) (nI ins) (nI tp) (nI bo) (nI gr) (nI gc) (nI gp) (nI gpd) C G P :=
  br_f (by decide) (br_f (by decide) (br_f (by decide) (br_f (by decide) (br_f (by decide) (br_f (by decide) (br_f (by decide) (br_f (by decide) (br_f (by decide) (br_f (by decide) (br_f (by decide) (br_f (by decide) (br_f (by decide) (br_f (by decide) (br_f (by decide) (br_f (by decide) (br_f (by decide) (br_f (by decide) (br_f (by decide) (br_f (by decide) (br_f (by decide) (br_f (by decide) (br_f (by decide) (br_f (by decide) (br_f (by decide) (br_f (by decide) (br_f (by decide) (br_f (by decide) (br_f (by decide) (br_f (by decide) (br_f (by decide) (br_f (by decide) (br_f (by decide) (br_f (by decide) (br_f (by decide) (br_f (by decide) (br_f (by decide) (br_f (by decide) (br_f (by decide) (br_f (by decide) (br_f (by decide) (br_f (by decide) (br_f (by decide) (br_f (by decide) (br_f (by decide) (br_f (by decide) (br_f (by decide) (br_f (by decide) (br_f (by decide) (br_f (by decide) (br_f (by decide) (br_t (by decide) (xm_setMargins hh h8 hw w12 hn hn9 hq hp1 hp2))))))))))))))))))))))))))))))))))))))))))))))))))))
theorem xc_0 {b p q n : Nat} (hb : ∀ k, k ∈ [65, 66, 67, 68, 72, 74, 75, 76, 77, 83, 84, 104, 108, 109, 114] → b ≠ k) (hb9 : b < 200) (hp : post (sp_X h w pc st r c pen pd ins tp bo gr gc gp gpd C G P)) : wX_command_35 post (nI b) (nI p) (nI q) (nI n) (nI h) (nI w) (nI pc) (nI st) (nI r) (nI c) (nI pen) (nI pd) (nI ins) (nI tp) (nI bo) (nI gr) (nI gc) (nI gp) (nI gpd) C G P :=
  pk_lt b 65 (fun _ => hp) (fun _ => pk_lt 114 b (fun _ => hp) (fun _ => br_f (ar_ne (k := 65) (hb 65 (by decide)) hb9 (by decide)) (br_f (ar_ne (k := 66) (hb 66 (by decide)) hb9 (by decide)) (br_f (ar_ne (k := 67) (hb 67 (by decide)) hb9 (by decide)) (br_f (ar_ne (k := 68) (hb 68 (by decide)) hb9 (by decide)) (br_c (fun _ => hp) (fun _ => br_c (fun _ => hp) (fun _ => br_c (fun _ => hp) (fun _ => br_f (ar_ne (k := 72) (hb 72 (by decide)) hb9 (by decide)) (br_c (fun _ => hp) (fun _ => br_f (ar_ne (k := 74) (hb 74 (by decide)) hb9 (by decide)) (br_f (ar_ne (k := 75) (hb 75 (by decide)) hb9 (by decide)) (br_f (ar_ne (k := 76) (hb 76 (by decide)) hb9 (by decide)) (br_f (ar_ne (k := 77) (hb 77 (by decide)) hb9 (by decide)) (br_c (fun _ => hp) (fun _ => br_c (fun _ => hp) (fun _ => br_c (fun _ => hp) (fun _ => br_c (fun _ => hp) (fun _ => br_c (fun _ => hp) (fun _ => br_f (ar_ne (k := 83) (hb 83 (by decide)) hb9 (by decide)) (br_f (ar_ne (k := 84) (hb 84 (by decide)) hb9 (by decide)) (br_c (fun _ => hp) (fun _ => br_c (fun _ => hp) (fun _ => br_c (fun _ => hp) (fun _ => br_c (fun _ => hp) (fun _ => br_c (fun _ => hp) (fun _ => br_c (fun _ => hp) (fun _ => br_c (fun _ => hp) (fun _ => br_c (fun _ => hp) (fun _ => br_c (fun _ => hp) (fun _ => br_c (fun _ => hp) (fun _ => br_c (fun _ => hp) (fun _ => br_c (fun _ => hp) (fun _ => br_c (fun _ => hp) (fun _ => br_c (fun _ => hp) (fun _ => br_c (fun _ => hp) (fun _ => br_c (fun _ => hp) (fun _ => br_c (fun _ => hp) (fun _ => br_c (fun _ => hp) (fun _ => br_c (fun _ => hp) (fun _ => br_f (ar_ne (k := 104) (hb 104 (by decide)) hb9 (by decide)) (br_c (fun _ => hp) (fun _ => br_c (fun _ => hp) (fun _ => br_c (fun _ => hp) (fun _ => br_f (ar_ne (k := 108) (hb 108 (by decide)) hb9 (by decide)) (br_f (ar_ne (k := 109) (hb 109 (by decide)) hb9 (by decide)) (br_c (fun _ => hp) (fun _ => br_c (fun _ => hp) (fun _ => br_c (fun _ => hp) (fun _ => br_c (fun _ => hp) (fun _ => br_f (ar_ne (k := 114) (hb 114 (by decide)) hb9 (by decide)) (trivial))))))))))))))))))))))))))))))))))))))))))))))))))))
end
end
section
/-! the component: one byte -/
def sp_dg (v b : Nat) : Nat := if 10 * v + b - 48 ≤ 99 then 10 * v + b - 48 else 99
section
variable {post : SX → Prop} {h w pc st r c pen pd ins tp bo gr gc gp gpd : Nat} {C G P : Nat → Int32}
theorem sp_czr {r h : Nat} (hr : r < h) (h8 : h ≤ 8) : sp_cz (nI r).toInt (h - 1) = r := by
  rw [nI_toInt (by omega), sp_cz_n, if_pos (by omega)]
theorem sp_czc {c w : Nat} (hc : c < w) (w12 : w ≤ 12) : sp_cz (nI c).toInt (w - 1) = c := by
  rw [nI_toInt (by omega), sp_cz_n, if_pos (by omega)]
theorem xk_8 (hr : r < h) (h8 : h ≤ 8) (hc : c < w) (w12 : w ≤ 12) (hp : post (sp_X h w pc st r (c - 1) pen 0 ins tp bo gr gc gp gpd C G P)) : wpX_control post (sp_X h w pc st r c pen pd ins tp bo gr gc gp gpd C G P) (nI 8) := by
  refine br_f (by decide) (br_f (by decide) (br_t (by decide) (xm_place (by omega) h8 (by omega) w12 ?_)))
  have e : sp_cz (nI c - 1).toInt (w - 1) = c - 1 := by
    have e1 : (nI c - 1).toInt = (c : Int) - 1 := pk_sub_toInt (b := 1) (by omega) (by omega)
    rw [e1]
    unfold sp_cz
    by_cases q : c = 0
    · subst q; rfl
    · rw [if_neg (by omega), if_pos (by omega)]; omega
  rw [sp_czr hr h8, e]
  exact hp
theorem xk_9 (hc : c < w) (w12 : w ≤ 12) (hp : post (sp_X h w pc st r (sp_nt w c) pen 0 ins tp bo gr gc gp gpd C G P)) : wpX_control post (sp_X h w pc st r c pen pd ins tp bo gr gc gp gpd C G P) (nI 9) :=
  br_f (by decide) (br_f (by decide) (br_f (by decide) (br_t (by decide) (xm_nextTab (by omega) w12 (by omega) hp))))
theorem xk_10 (hr : r < h) (ht : tp ≤ bo) (hb : bo < h) (h8 : h ≤ 8) (hw : 0 < w) (w12 : w ≤ 12) (hp : post (sp_X h w pc st (sp_lr h bo r) c pen 0 ins tp bo gr gc gp gpd (sp_lc w tp bo pen r C) G P)) : wpX_control post (sp_X h w pc st r c pen pd ins tp bo gr gc gp gpd C G P) (nI 10) :=
  br_f (by decide) (br_f (by decide) (br_f (by decide) (br_f (by decide) (br_t (by decide) (xm_lineStep (pd := 0) hr ht hb h8 hw w12 hp)))))
theorem xk_13 (hr : r < h) (h8 : h ≤ 8) (hw : 0 < w) (w12 : w ≤ 12) (hp : post (sp_X h w pc st r 0 pen 0 ins tp bo gr gc gp gpd C G P)) : wpX_control post (sp_X h w pc st r c pen pd ins tp bo gr gc gp gpd C G P) (nI 13) := by
  refine br_f (by decide) (br_f (by decide) (br_f (by decide) (br_f (by decide) (br_f (by decide) (br_f (by decide) (br_f (by decide) (br_t (by decide) (xm_place (by omega) h8 hw w12 ?_))))))))
  rw [sp_czr hr h8, sp_cz0]
  exact hp
theorem xk_0 {b : Nat} (hb : b < 32) (h8 : b ≠ 8) (h9 : b ≠ 9) (h10 : b ≠ 10) (h13 : b ≠ 13) (hp : post (sp_X h w pc st r c pen pd ins tp bo gr gc gp gpd C G P)) : wpX_control post (sp_X h w pc st r c pen pd ins tp bo gr gc gp gpd C G P) (nI b) :=
  pk_lt b 8 (fun _ => hp) (fun _ => pk_lt 13 b (fun _ => hp) (fun _ => br_f (ar_ne (k := 8) h8 (by omega) (by decide)) (br_f (ar_ne (k := 9) h9 (by omega) (by decide)) (br_f (ar_ne (k := 10) h10 (by omega) (by decide)) (br_c (fun _ => hp) (fun _ => br_c (fun _ => hp) (fun _ => br_f (ar_ne (k := 13) h13 (by omega) (by decide)) trivial)))))))
/-! sequences -/
theorem xs_dig {b v : Nat} (h48 : 48 ≤ b) (h57 : b ≤ 57) (hpc : 0 < pc) (hpc4 : pc ≤ 4) (hv : P (pc - 1) = nI v) (hv9 : v ≤ 99) (hp : post (sp_X h w pc st r c pen pd ins tp bo gr gc gp gpd C G (upd P (pc - 1) (nI (sp_dg v b))))) : wpX_continueSequence post (sp_X h w pc st r c pen pd ins tp bo gr gc gp gpd C G P) (nI b) := by
  have e0 : (nI pc - 1).toNatClampNeg = pc - 1 := by rw [ar_dec hpc, nI_clamp (by omega)]
  have e1 : (10 : Int32) * P (nI pc - 1).toNatClampNeg + nI b - 48 = nI (10 * v + b - 48) := by
    rw [e0, hv, show (10 : Int32) = nI 10 from rfl, show (48 : Int32) = nI 48 from rfl, pk_mul, nI_add, pk_sub (by omega)]
  unfold sp_dg at hp
  refine pk_lt b 48 (fun q => absurd q (by omega)) (fun _ => pk_lt 57 b (fun q => absurd q (by omega)) (fun _ => ?_))
  refine And.intro (pk_in (pc - 1) 4 (by omega) (ar_dec hpc)) (nm_r e1 ?_)
  refine pk_le (10 * v + b - 48) 99 (fun q => ?_) (fun q => ?_)
  · rw [if_pos q] at hp
    exact And.intro (pk_in (pc - 1) 4 (by omega) (ar_dec hpc)) (nm_r (e' := upd P (pc - 1) (nI (10 * v + b - 48))) (by rw [e0]) hp)
  · rw [if_neg (by omega)] at hp
    exact And.intro (pk_in (pc - 1) 4 (by omega) (ar_dec hpc)) (nm_r (e' := upd P (pc - 1) (nI 99)) (by rw [e0]; rfl) hp)
theorem xs_semi (hpc4 : pc < 4) (hp : post (sp_X h w (pc + 1) st r c pen pd ins tp bo gr gc gp gpd C G (upd P pc (nI 0)))) : wpX_continueSequence post (sp_X h w pc st r c pen pd ins tp bo gr gc gp gpd C G P) (nI 59) := by
  refine br_f (by decide) (br_t (by decide) ?_)
  unfold wX_continueSequence_58
  refine br_t (by decide) (pk_le 4 pc (fun q => absurd q (by omega)) (fun _ => ?_))
  exact And.intro (pk_in pc 4 (by omega)) (nm_r (e' := upd P pc (nI 0)) (by rw [nI_clamp (by omega)]; rfl) (nm_r (nI_1 pc) hp))
theorem xs_ign {b : Nat} (hb : b < 64) (hd : b < 48 ∨ 57 < b) (hs : b = 59 → 4 ≤ pc) (hpc : pc < 100) (hp : post (sp_X h w pc 3 r c pen pd ins tp bo gr gc gp gpd C G P)) : wpX_continueSequence post (sp_X h w pc st r c pen pd ins tp bo gr gc gp gpd C G P) (nI b) := by
  have H95 : wX_continueSequence_95 post (nI b) (nI h) (nI w) (nI pc) (nI st) (nI r) (nI c) (nI pen) (nI pd) (nI ins) (nI tp) (nI bo) (nI gr) (nI gc) (nI gp) (nI gpd) C G P := pk_lt b 64 (fun _ => hp) (fun q => absurd q (by omega))
  have H58 : wX_continueSequence_58 post (nI b) (nI h) (nI w) (nI pc) (nI st) (nI r) (nI c) (nI pen) (nI pd) (nI ins) (nI tp) (nI bo) (nI gr) (nI gc) (nI gp) (nI gpd) C G P := pk_eq b 59 (fun q => pk_le 4 pc (fun _ => H95) (fun q2 => absurd (hs q) (by omega))) (fun _ => H95)
  exact pk_lt b 48 (fun _ => H58) (fun q => pk_lt 57 b (fun _ => H58) (fun q2 => absurd hd (by omega)))
theorem xs_cmd {b : Nat} {u' : SX} (hb : 64 ≤ b) (hb2 : b < 127) (H : ∀ po : SX → Prop, po u' → wpX_command po (sp_X h w pc 0 r c pen pd ins tp bo gr gc gp gpd C G P) (nI b)) (hp : post u') : wpX_continueSequence post (sp_X h w pc st r c pen pd ins tp bo gr gc gp gpd C G P) (nI b) := by
  obtain ⟨a1, a2, a3, a4, a5, a6, a7, a8, a9, a10, a11, a12, a13, a14, a15, a16, a17, a18⟩ := u'
  have H95 : wX_continueSequence_95 post (nI b) (nI h) (nI w) (nI pc) (nI st) (nI r) (nI c) (nI pen) (nI pd) (nI ins) (nI tp) (nI bo) (nI gr) (nI gc) (nI gp) (nI gpd) C G P := pk_lt b 64 (fun q => absurd q (by omega)) (fun _ => H _ hp)
  have H58 : wX_continueSequence_58 post (nI b) (nI h) (nI w) (nI pc) (nI st) (nI r) (nI c) (nI pen) (nI pd) (nI ins) (nI tp) (nI bo) (nI gr) (nI gc) (nI gp) (nI gpd) C G P := pk_eq b 59 (fun q => absurd q (by omega)) (fun _ => H95)
  exact pk_lt b 48 (fun q => absurd q (by omega)) (fun q => pk_lt 57 b (fun _ => H58) (fun q2 => absurd q2 (by omega)))
theorem xm_cmd {b p q : Nat} (hP : P 0 = nI p) (hp9 : p ≤ 99) (hq : (pc ≤ 1 ∧ q = 0) ∨ (1 < pc ∧ P 1 = nI q)) (hpc : pc < 100) (H : wX_command_35 post (nI b) (nI p) (nI q) (nI (if p = 0 then 1 else p)) (nI h) (nI w) (nI pc) (nI st) (nI r) (nI c) (nI pen) (nI pd) (nI ins) (nI tp) (nI bo) (nI gr) (nI gc) (nI gp) (nI gpd) C G P) : wpX_command post (sp_X h w pc st r c pen pd ins tp bo gr gc gp gpd C G P) (nI b) := by
  have H25 : wX_command_25 post (nI b) (nI p) (nI q) (nI h) (nI w) (nI pc) (nI st) (nI r) (nI c) (nI pen) (nI pd) (nI ins) (nI tp) (nI bo) (nI gr) (nI gc) (nI gp) (nI gpd) C G P := by
    refine pk_eq p 0 (fun e => ?_) (fun e => ?_)
    · rw [if_pos e] at H; exact H
    · rw [if_neg e] at H; exact H
  refine nm_r hP (pk_le pc 1 (fun e => ?_) (fun e => ?_))
  · rcases hq with ⟨_, hq⟩ | ⟨hq, _⟩
    · subst hq; exact H25
    · exact absurd hq (by omega)
  · rcases hq with ⟨hq, _⟩ | ⟨_, hq⟩
    · exact absurd hq (by omega)
    · rw [hq]; exact H25
/-! take -/
theorem xt_24 (hp : post (sp_X h w pc 0 r c pen pd ins tp bo gr gc gp gpd C G P)) : wpX_take post (sp_X h w pc st r c pen pd ins tp bo gr gc gp gpd C G P) (nI 24) := br_t (by decide) hp
theorem xt_27 (hp : post (sp_X h w pc 1 r c pen pd ins tp bo gr gc gp gpd C G P)) : wpX_take post (sp_X h w pc st r c pen pd ins tp bo gr gc gp gpd C G P) (nI 27) := br_f (by decide) (br_t (by decide) hp)
theorem xt_ctl {b : Nat} {u' : SX} (hb : b < 32) (h24 : b ≠ 24) (h27 : b ≠ 27) (H : ∀ po : SX → Prop, po u' → wpX_control po (sp_X h w pc st r c pen pd ins tp bo gr gc gp gpd C G P) (nI b)) (hp : post u') : wpX_take post (sp_X h w pc st r c pen pd ins tp bo gr gc gp gpd C G P) (nI b) := by
  obtain ⟨a1, a2, a3, a4, a5, a6, a7, a8, a9, a10, a11, a12, a13, a14, a15, a16, a17, a18⟩ := u'
  exact br_f (ar_ne (k := 24) h24 (by omega) (by decide)) (br_f (ar_ne (k := 27) h27 (by omega) (by decide)) (pk_le 32 b (fun q => absurd q (by omega)) (fun _ => H _ hp)))
theorem xt_big {b : Nat} (hb : 127 ≤ b) (hb2 : b < 256) (hp : post (sp_X h w pc st r c pen pd ins tp bo gr gc gp gpd C G P)) : wpX_take post (sp_X h w pc st r c pen pd ins tp bo gr gc gp gpd C G P) (nI b) :=
  pk_eq b 24 (fun q => absurd q (by omega)) (fun _ => pk_eq b 27 (fun q => absurd q (by omega)) (fun _ => pk_le 32 b (fun _ => pk_le 127 b (fun _ => hp) (fun q => absurd q (by omega))) (fun q => absurd q (by omega))))
theorem xt_gr {b : Nat} {u' : SX} (hb : 32 ≤ b) (hb2 : b < 127) (H : ∀ po : SX → Prop, po u' → wpX_graphic po (sp_X h w pc st r c pen pd ins tp bo gr gc gp gpd C G P) (nI b)) (hp : post u') : wpX_take post (sp_X h w pc st r c pen pd ins tp bo gr gc gp gpd C G P) (nI b) := by
  obtain ⟨a1, a2, a3, a4, a5, a6, a7, a8, a9, a10, a11, a12, a13, a14, a15, a16, a17, a18⟩ := u'
  exact pk_eq b 24 (fun q => absurd q (by omega)) (fun _ => pk_eq b 27 (fun q => absurd q (by omega)) (fun _ => pk_le 32 b (fun _ => pk_le 127 b (fun q => absurd q (by omega)) (fun _ => H _ hp)) (fun q => absurd q (by omega))))
theorem xt_prn {b : Nat} {u' : SX} (hb : 32 ≤ b) (hb2 : b < 127) (H : ∀ po : SX → Prop, po u' → wpX_print po (sp_X h w pc 0 r c pen pd ins tp bo gr gc gp gpd C G P) (nI b)) (hp : post u') : wpX_take post (sp_X h w pc 0 r c pen pd ins tp bo gr gc gp gpd C G P) (nI b) := by
  obtain ⟨a1, a2, a3, a4, a5, a6, a7, a8, a9, a10, a11, a12, a13, a14, a15, a16, a17, a18⟩ := u'
  exact xt_gr hb hb2 (fun po hpo => br_f (by decide) (br_f (by decide) (br_t (by decide) (H _ hpo)))) hp
theorem xt_esc {b : Nat} (hb : 32 ≤ b) (hb2 : b < 127) (h91 : b ≠ 91) (hp : post (sp_X h w pc 0 r c pen pd ins tp bo gr gc gp gpd C G P)) : wpX_take post (sp_X h w pc 1 r c pen pd ins tp bo gr gc gp gpd C G P) (nI b) :=
  xt_gr hb hb2 (fun po hpo => br_f (by decide) (br_f (by decide) (br_f (by decide) (br_t (by decide) (br_f (ar_ne (k := 91) h91 (by omega) (by decide)) hpo))))) hp
theorem xt_91 (hp : post (sp_X h w 1 2 r c pen pd ins tp bo gr gc gp gpd C G (upd P 0 (nI 0)))) : wpX_take post (sp_X h w pc 1 r c pen pd ins tp bo gr gc gp gpd C G P) (nI 91) :=
  xt_gr (by omega) (by omega) (fun po hpo => br_f (by decide) (br_f (by decide) (br_f (by decide) (br_t (by decide) (br_t (by decide) (nm_e hpo)))))) hp
theorem xt_seq {b : Nat} {u' : SX} (hb : 32 ≤ b) (hb2 : b < 127) (H : ∀ po : SX → Prop, po u' → wpX_continueSequence po (sp_X h w pc 2 r c pen pd ins tp bo gr gc gp gpd C G P) (nI b)) (hp : post u') : wpX_take post (sp_X h w pc 2 r c pen pd ins tp bo gr gc gp gpd C G P) (nI b) := by
  obtain ⟨a1, a2, a3, a4, a5, a6, a7, a8, a9, a10, a11, a12, a13, a14, a15, a16, a17, a18⟩ := u'
  exact xt_gr hb hb2 (fun po hpo => br_f (by decide) (br_f (by decide) (br_f (by decide) (br_f (by decide) (br_t (by decide) (H _ hpo)))))) hp
theorem xt_ign {b : Nat} (hb : 32 ≤ b) (hb2 : b < 127) (hp : post (sp_X h w pc (if b < 64 then 3 else 0) r c pen pd ins tp bo gr gc gp gpd C G P)) : wpX_take post (sp_X h w pc 3 r c pen pd ins tp bo gr gc gp gpd C G P) (nI b) :=
  xt_gr hb hb2 (fun po hpo => br_f (by decide) (br_t (by decide) (pk_lt b 64 (fun q => by rw [if_pos q] at hpo; exact hpo) (fun q => by rw [if_neg (by omega)] at hpo; exact hpo)))) hp
end
end
section
/-! the component: the price of motions -/
def sp_mn (a b : Nat) : Nat := if a ≤ b then a else b
def sp_jc (d : Nat) : Nat := if d = 1 then 3 else if 10 ≤ d then 5 else 4
def sp_hop (f t : Nat) : Nat := if f = t then 0 else if t ≤ f then sp_mn (sp_jc (f - t)) (f - t) else sp_jc (t - f)
def sp_tb (w f t : Nat) : Nat := sp_mn (sp_mn (sp_mn (sp_hop f t) (1 + sp_hop (sp_nt w f) t)) (2 + sp_hop (sp_nt w (sp_nt w f)) t)) (3 + sp_hop (sp_nt w (sp_nt w (sp_nt w f))) t)
def sp_ac (w f t : Nat) : Nat := sp_mn (sp_tb w f t) (1 + sp_tb w 0 t)
def sp_lf (bo f t : Nat) : Nat := if t ≤ f then 0 else if bo < f then 1 else if bo < t then 0 else 1
def sp_vc (bo f t : Nat) : Nat := if f = t then 0 else if sp_lf bo f t = 0 then sp_jc (if t ≤ f then f - t else t - f) else sp_mn (sp_jc (if t ≤ f then f - t else t - f)) (if t ≤ f then f - t else t - f)
def sp_cf (c : Nat) : Nat := if c = 0 then 0 else if 9 ≤ c then 3 else 2
def sp_ad (w r c : Nat) : Nat := 3 + (if r ≤ 0 then 0 else 1) + sp_mn (sp_cf c) (sp_ac w 0 c)
theorem sp_mn_l (a b : Nat) : sp_mn a b ≤ a := by unfold sp_mn; split <;> omega
theorem sp_mn_r (a b : Nat) : sp_mn a b ≤ b := by unfold sp_mn; split <;> omega
theorem sp_jc_le (d : Nat) : sp_jc d ≤ 5 := by
  unfold sp_jc
  repeat' split
  all_goals omega
theorem sp_hop_le (f t : Nat) : sp_hop f t ≤ 5 := by
  unfold sp_hop
  have h1 := sp_jc_le (f - t)
  have h2 := sp_jc_le (t - f)
  have h3 := sp_mn_l (sp_jc (f - t)) (f - t)
  repeat' split
  all_goals omega
theorem sp_tb_le (w f t : Nat) : sp_tb w f t ≤ 5 := by
  unfold sp_tb
  have h1 := sp_hop_le f t
  have := sp_mn_l (sp_mn (sp_mn (sp_hop f t) (1 + sp_hop (sp_nt w f) t)) (2 + sp_hop (sp_nt w (sp_nt w f)) t)) (3 + sp_hop (sp_nt w (sp_nt w (sp_nt w f))) t)
  have := sp_mn_l (sp_mn (sp_hop f t) (1 + sp_hop (sp_nt w f) t)) (2 + sp_hop (sp_nt w (sp_nt w f)) t)
  have := sp_mn_l (sp_hop f t) (1 + sp_hop (sp_nt w f) t)
  omega
theorem sp_ac_le (w f t : Nat) : sp_ac w f t ≤ 5 := Nat.le_trans (sp_mn_l _ _) (sp_tb_le w f t)
theorem sp_vc_le (bo f t : Nat) : sp_vc bo f t ≤ 5 := by
  unfold sp_vc
  have h1 := sp_jc_le (if t ≤ f then f - t else t - f)
  have h3 := sp_mn_l (sp_jc (if t ≤ f then f - t else t - f)) (if t ≤ f then f - t else t - f)
  generalize (if t ≤ f then f - t else t - f) = d at *
  repeat' split
  all_goals omega
theorem sp_cf_le (c : Nat) : sp_cf c ≤ 3 := by
  unfold sp_cf
  repeat' split
  all_goals omega
theorem sp_nt_lt {w c : Nat} (hw : 0 < w) : sp_nt w c < w := by
  unfold sp_nt
  split <;> omega
section
variable {post : SX → Prop} {h w pc st r c pen pd ins tp bo gr gc gp gpd : Nat} {C G P : Nat → Int32}
variable {po : Int32 → Prop}
theorem xm_jumpCost {d : Nat} (hd : d < 1000) (hp : po (nI (sp_jc d))) : wpX_jumpCost po (sp_X h w pc st r c pen pd ins tp bo gr gc gp gpd C G P) (nI d) := by
  unfold sp_jc at hp
  refine pk_eq d 1 (fun q => ?_) (fun q => pk_le 10 d (fun q2 => ?_) (fun q2 => ?_))
  · rw [if_pos q] at hp; exact hp
  · rw [if_neg q, if_pos q2] at hp; exact hp
  · rw [if_neg q, if_neg (by omega)] at hp; exact hp
theorem xm_hopCost {f t : Nat} (hf : f < 100) (ht : t < 100) (hp : po (nI (sp_hop f t))) : wpX_hopCost po (sp_X h w pc st r c pen pd ins tp bo gr gc gp gpd C G P) (nI f) (nI t) := by
  unfold sp_hop at hp
  refine pk_eq f t (fun q => ?_) (fun q => pk_le t f (fun q2 => ?_) (fun q2 => ?_))
  · rw [if_pos q] at hp; exact hp
  · rw [if_neg q, if_pos q2] at hp
    rw [pk_sub q2]
    unfold wX_hopCost_21
    refine xm_jumpCost (by omega) ?_
    have := sp_jc_le (f - t)
    unfold sp_mn at hp
    refine pk_le f t (fun q3 => absurd q3 (by omega)) (fun _ => pk_le (sp_jc (f - t)) (f - t) (fun q4 => ?_) (fun q4 => ?_))
    · rw [if_pos q4] at hp; exact hp
    · rw [if_neg (by omega)] at hp; exact hp
  · rw [if_neg q, if_neg (by omega)] at hp
    rw [pk_sub (by omega)]
    unfold wX_hopCost_21
    refine xm_jumpCost (by omega) ?_
    exact pk_le f t (fun _ => hp) (fun q3 => absurd q3 (by omega))
theorem xl_tab13 {t b a k n : Nat} (hw : 0 < w) (w12 : w ≤ 12) (ha : a < 100) (ht : t < 100) (hk : k ≤ 3) (hb : b ≤ 5) (H : wX_tabbedCost_13 po (nI t) (nI h) (nI w) (nI pc) (nI st) (nI r) (nI c) (nI pen) (nI pd) (nI ins) (nI tp) (nI bo) (nI gr) (nI gc) (nI gp) (nI gpd) C G P n (nI (sp_mn b (k + sp_hop (sp_nt w a) t))) (nI (sp_nt w a)) (nI (k + 1))) : wX_tabbedCost_13 po (nI t) (nI h) (nI w) (nI pc) (nI st) (nI r) (nI c) (nI pen) (nI pd) (nI ins) (nI tp) (nI bo) (nI gr) (nI gc) (nI gp) (nI gpd) C G P (n + 1) (nI b) (nI a) (nI k) := by
  have hn := sp_nt_lt (c := a) hw
  have hh := sp_hop_le (sp_nt w a) t
  refine pk_lt 3 k (fun q => absurd q (by omega)) (fun _ => ?_)
  refine xm_nextTab hw w12 ha ?_
  refine xm_hopCost (by omega) ht ?_
  refine nm_r (nI_add k _) ?_
  unfold sp_mn at H
  refine pk_le b (k + sp_hop (sp_nt w a) t) (fun q => ?_) (fun q => ?_)
  · rw [if_pos q] at H; exact nm_r (nI_1 k) H
  · rw [if_neg (by omega)] at H; exact nm_r (nI_1 k) H
theorem xm_tabbedCost {f t : Nat} (hw : 0 < w) (w12 : w ≤ 12) (hf : f < 100) (ht : t < 100) (hp : po (nI (sp_tb w f t))) : wpX_tabbedCost po (sp_X h w pc st r c pen pd ins tp bo gr gc gp gpd C G P) (nI f) (nI t) := by
  have n1 := sp_nt_lt (c := f) hw
  have n2 := sp_nt_lt (c := sp_nt w f) hw
  have h0 := sp_hop_le f t
  have m1 := sp_mn_l (sp_hop f t) (1 + sp_hop (sp_nt w f) t)
  have m2 := sp_mn_l (sp_mn (sp_hop f t) (1 + sp_hop (sp_nt w f) t)) (2 + sp_hop (sp_nt w (sp_nt w f)) t)
  unfold wpX_tabbedCost
  refine xm_hopCost hf ht ⟨4, ?_⟩
  refine xl_tab13 (k := 1) hw w12 hf ht (by omega) h0 ?_
  refine xl_tab13 (k := 2) hw w12 (by omega) ht (by omega) (by omega) ?_
  refine xl_tab13 (k := 3) hw w12 (by omega) ht (by omega) (by omega) ?_
  exact br_t (by decide) hp
theorem xm_acrossCost {f t : Nat} (hw : 0 < w) (w12 : w ≤ 12) (hf : f < 100) (ht : t < 100) (hp : po (nI (sp_ac w f t))) : wpX_acrossCost po (sp_X h w pc st r c pen pd ins tp bo gr gc gp gpd C G P) (nI f) (nI t) := by
  have h1 := sp_tb_le w f t
  have h2 := sp_tb_le w 0 t
  unfold wpX_acrossCost
  refine xm_tabbedCost hw w12 hf ht ?_
  refine xm_tabbedCost (f := 0) hw w12 (by omega) ht ?_
  refine nm_r (nI_add 1 _) ?_
  unfold sp_ac sp_mn at hp
  refine pk_le (sp_tb w f t) (1 + sp_tb w 0 t) (fun q => ?_) (fun q => ?_)
  · rw [if_pos q] at hp; exact hp
  · rw [if_neg (by omega)] at hp; exact hp
theorem xm_canLineFeed {f t : Nat} (hf : f < 100) (ht : t < 100) (hb : bo < 100) (hp : po (nI (sp_lf bo f t))) : wpX_canLineFeed po (sp_X h w pc st r c pen pd ins tp bo gr gc gp gpd C G P) (nI f) (nI t) := by
  unfold sp_lf at hp
  refine pk_le t f (fun q => ?_) (fun q => pk_lt bo f (fun q2 => ?_) (fun q2 => pk_lt bo t (fun q3 => ?_) (fun q3 => ?_)))
  · rw [if_pos q] at hp; exact hp
  · rw [if_neg (by omega), if_pos q2] at hp; exact hp
  · rw [if_neg (by omega), if_neg (by omega), if_pos q3] at hp; exact hp
  · rw [if_neg (by omega), if_neg (by omega), if_neg (by omega)] at hp; exact hp
theorem xl_vc21 {f t d : Nat} (hf : f < 100) (ht : t < 100) (hd : d < 1000) (hb : bo < 100) (hp : po (nI (if sp_lf bo f t = 0 then sp_jc d else sp_mn (sp_jc d) d))) : wX_verticalCost_21 po (nI f) (nI t) (nI d) (nI h) (nI w) (nI pc) (nI st) (nI r) (nI c) (nI pen) (nI pd) (nI ins) (nI tp) (nI bo) (nI gr) (nI gc) (nI gp) (nI gpd) C G P := by
  unfold wX_verticalCost_21
  refine xm_jumpCost hd ?_
  refine xm_canLineFeed hf ht hb ?_
  have h1 := sp_jc_le d
  have h2 : sp_lf bo f t < 2 := by
    unfold sp_lf
    repeat' split
    all_goals omega
  refine pk_eq (sp_lf bo f t) 0 (fun q => ?_) (fun q => ?_)
  · rw [if_pos q] at hp; exact hp
  · rw [if_neg q] at hp
    unfold sp_mn at hp
    refine pk_le (sp_jc d) d (fun q4 => ?_) (fun q4 => ?_)
    · rw [if_pos q4] at hp; exact hp
    · rw [if_neg (by omega)] at hp; exact hp
theorem xm_verticalCost {f t : Nat} (hf : f < 100) (ht : t < 100) (hb : bo < 100) (hp : po (nI (sp_vc bo f t))) : wpX_verticalCost po (sp_X h w pc st r c pen pd ins tp bo gr gc gp gpd C G P) (nI f) (nI t) := by
  unfold sp_vc at hp
  refine pk_eq f t (fun q => ?_) (fun q => pk_le t f (fun q2 => ?_) (fun q2 => ?_))
  · rw [if_pos q] at hp; exact hp
  · rw [if_neg q, if_pos q2] at hp
    rw [pk_sub q2]
    exact xl_vc21 hf ht (by omega) hb hp
  · have q3 : ¬ t ≤ f := by omega
    rw [if_neg q, if_neg q3] at hp
    rw [pk_sub (by omega)]
    exact xl_vc21 hf ht (by omega) hb hp
theorem xm_relativeCost {y x : Nat} (hw : 0 < w) (w12 : w ≤ 12) (hr : r < 100) (hc : c < 100) (hy : y < 100) (hx : x < 100) (hb : bo < 100) (hp : po (nI (sp_vc bo r y + sp_ac w c x))) : wpX_relativeCost po (sp_X h w pc st r c pen pd ins tp bo gr gc gp gpd C G P) (nI y) (nI x) := by
  unfold wpX_relativeCost
  refine xm_verticalCost hr hy hb ?_
  refine xm_acrossCost hw w12 hc hx ?_
  rw [nI_add]
  exact hp
theorem xm_columnFieldCost {x : Nat} (hx : x < 100) (hp : po (nI (sp_cf x))) : wpX_columnFieldCost po (sp_X h w pc st r c pen pd ins tp bo gr gc gp gpd C G P) (nI x) := by
  unfold sp_cf at hp
  refine pk_eq x 0 (fun q => ?_) (fun q => pk_le 9 x (fun q2 => ?_) (fun q2 => ?_))
  · rw [if_pos q] at hp; exact hp
  · rw [if_neg q, if_pos q2] at hp; exact hp
  · rw [if_neg q, if_neg (by omega)] at hp; exact hp
theorem xl_ad24 {k a b : Nat} (ha : a < 100) (hb : b < 100) (hp : po (nI (3 + k + sp_mn a b))) : wX_addressCost_24 po (nI a) (nI b) (nI k) (nI 3) (nI h) (nI w) (nI pc) (nI st) (nI r) (nI c) (nI pen) (nI pd) (nI ins) (nI tp) (nI bo) (nI gr) (nI gc) (nI gp) (nI gpd) C G P := by
  unfold sp_mn at hp
  refine pk_le a b (fun q => ?_) (fun q => ?_)
  · rw [if_pos q] at hp; rw [nI_add, nI_add]; exact hp
  · rw [if_neg (by omega)] at hp; rw [nI_add, nI_add]; exact hp
theorem xm_addressCost {y x : Nat} (hw : 0 < w) (w12 : w ≤ 12) (hy : y < 100) (hx : x < 100) (hp : po (nI (sp_ad w y x))) : wpX_addressCost po (sp_X h w pc st r c pen pd ins tp bo gr gc gp gpd C G P) (nI y) (nI x) := by
  have h1 := sp_cf_le x
  have h2 := sp_ac_le w 0 x
  unfold sp_ad at hp
  unfold wpX_addressCost
  refine xm_columnFieldCost hx ?_
  refine xm_acrossCost (f := 0) hw w12 (by omega) hx ?_
  refine pk_le y 0 (fun q => ?_) (fun q => ?_)
  · rw [if_pos q] at hp
    exact xl_ad24 (k := 0) (by omega) (by omega) hp
  · rw [if_neg (by omega)] at hp
    exact xl_ad24 (k := 1) (by omega) (by omega) hp
end
end
section
/-! the component's printer: sequences, motions -/
theorem ar_upd2 {P : Nat → Int32} {k : Nat} {x y : Int32} : upd (upd P k x) k y = upd P k y := by
  funext j; simp only [upd]
  repeat' split
  all_goals rfl
section
variable {post : SX → Prop} {h w pc st r c pen pd ins tp bo gr gc gp gpd : Nat} {C G P : Nat → Int32}
theorem xp_dig {b v : Nat} (h48 : 48 ≤ b) (h57 : b ≤ 57) (hpc : 0 < pc) (hpc4 : pc ≤ 4) (hv : P (pc - 1) = nI v) (hv9 : v ≤ 99) (hp : post (sp_X h w pc 2 r c pen pd ins tp bo gr gc gp gpd C G (upd P (pc - 1) (nI (sp_dg v b))))) : wpX_take post (sp_X h w pc 2 r c pen pd ins tp bo gr gc gp gpd C G P) (nI b) :=
  xt_seq (by omega) (by omega) (fun _ hpo => xs_dig h48 h57 hpc hpc4 hv hv9 hpo) hp
theorem xp_num {n : Nat} (hn : n ≤ 99) (hpc : 0 < pc) (hpc4 : pc ≤ 4) (hz : P (pc - 1) = nI 0) (hp : post (sp_X h w pc 2 r c pen pd ins tp bo gr gc gp gpd C G (upd P (pc - 1) (nI n)))) : wpX_sendNumber post (sp_X h w pc 2 r c pen pd ins tp bo gr gc gp gpd C G P) (nI n) := by
  have e1 : (48 : Int32) + nI n / 10 = nI (48 + n / 10) := by
    have e : nI n / 10 = nI (n / 10) := pk_div (d := 10) (by omega) (by omega) (by omega)
    rw [e]; exact nI_add 48 _
  have e2 : (48 : Int32) + (nI n - nI n / 10 * 10) = nI (48 + n % 10) := by
    have e : nI n - nI n / 10 * 10 = nI (n % 10) := pk_rem (d := 10) (by omega) (by omega) (by omega)
    rw [e]; exact nI_add 48 _
  refine pk_le n 9 (fun q => ?_) (fun q => ?_)
  · refine And.intro (by decide) ?_
    rw [e2]
    refine xp_dig (v := 0) (by omega) (by omega) hpc hpc4 hz (by omega) ?_
    have e3 : sp_dg 0 (48 + n % 10) = n := by unfold sp_dg; rw [if_pos (by omega)]; omega
    rw [e3]; exact hp
  · refine And.intro (by decide) ?_
    rw [e1]
    refine xp_dig (v := 0) (by omega) (by omega) hpc hpc4 hz (by omega) ?_
    have e3 : sp_dg 0 (48 + n / 10) = n / 10 := by unfold sp_dg; rw [if_pos (by omega)]; omega
    rw [e3]
    refine And.intro (by decide) ?_
    rw [e2]
    refine xp_dig (P := upd P (pc - 1) (nI (n / 10))) (v := n / 10) (by omega) (by omega) hpc hpc4 pk_us (by omega) ?_
    have e4 : sp_dg (n / 10) (48 + n % 10) = n := by unfold sp_dg; rw [if_pos (by omega)]; omega
    rw [e4, ar_upd2]; exact hp
theorem xp_cmd {b : Nat} {u' : SX} (hb : 64 ≤ b) (hb2 : b < 127) (H : ∀ po : SX → Prop, po u' → wpX_command po (sp_X h w pc 0 r c pen pd ins tp bo gr gc gp gpd C G P) (nI b)) (hp : post u') : wpX_take post (sp_X h w pc 2 r c pen pd ins tp bo gr gc gp gpd C G P) (nI b) :=
  xt_seq (by omega) hb2 (fun _ hpo => xs_cmd (st := 2) hb hb2 H hpo) hp
theorem xp_csi {n b : Nat} {u' : SX} (hn : n ≤ 99) (hb : 64 ≤ b) (hb2 : b < 127) (H : ∀ po : SX → Prop, po u' → wpX_command po (sp_X h w 1 0 r c pen pd ins tp bo gr gc gp gpd C G (upd P 0 (nI n))) (nI b)) (hp : post u') : wpX_csi post (sp_X h w pc st r c pen pd ins tp bo gr gc gp gpd C G P) (nI n) (nI b) := by
  obtain ⟨a1, a2, a3, a4, a5, a6, a7, a8, a9, a10, a11, a12, a13, a14, a15, a16, a17, a18⟩ := u'
  unfold wpX_csi
  refine xt_27 ?_
  refine xt_91 ?_
  refine pk_le n 0 (fun q => ?_) (fun q => ?_)
  · have e : n = 0 := by omega
    subst e
    unfold wX_csi_21
    exact xp_cmd (pc := 1) hb hb2 H hp
  · refine xp_num (pc := 1) hn (by omega) (by omega) pk_us ?_
    unfold wX_csi_21
    refine xp_cmd (pc := 1) hb hb2 (u' := (a1, a2, a3, a4, a5, a6, a7, a8, a9, a10, a11, a12, a13, a14, a15, a16, a17, a18)) ?_ hp
    rw [show (1 : Nat) - 1 = 0 from rfl, ar_upd2]
    exact H
theorem xp_jump {d b : Nat} {u' : SX} (hd : 0 < d) (hd9 : d ≤ 99) (hb : 64 ≤ b) (hb2 : b < 127) (H : ∀ po : SX → Prop, po u' → wX_command_35 po (nI b) (nI (if d = 1 then 0 else d)) (nI 0) (nI d) (nI h) (nI w) (nI 1) (nI 0) (nI r) (nI c) (nI pen) (nI pd) (nI ins) (nI tp) (nI bo) (nI gr) (nI gc) (nI gp) (nI gpd) C G (upd P 0 (nI (if d = 1 then 0 else d)))) (hp : post u') : wpX_jump post (sp_X h w pc st r c pen pd ins tp bo gr gc gp gpd C G P) (nI d) (nI b) := by
  have K : ∀ po : SX → Prop, po u' → wpX_command po (sp_X h w 1 0 r c pen pd ins tp bo gr gc gp gpd C G (upd P 0 (nI (if d = 1 then 0 else d)))) (nI b) := by
    intro po hpo
    have h1 : (if d = 1 then 0 else d) ≤ 99 := by split <;> omega
    have h2 : (if (if d = 1 then 0 else d) = 0 then 1 else (if d = 1 then 0 else d)) = d := by
      by_cases q : d = 1
      · subst q; rfl
      · rw [if_neg q, if_neg (by omega)]
    refine xm_cmd (p := if d = 1 then 0 else d) (q := 0) pk_us h1 (Or.inl ⟨by omega, rfl⟩) (by omega) ?_
    rw [h2]
    exact H po hpo
  obtain ⟨a1, a2, a3, a4, a5, a6, a7, a8, a9, a10, a11, a12, a13, a14, a15, a16, a17, a18⟩ := u'
  refine pk_eq d 1 (fun q => ?_) (fun q => ?_)
  · rw [if_pos q] at K
    unfold wX_jump_11
    exact xp_csi (n := 0) (by omega) hb hb2 K hp
  · rw [if_neg q] at K
    unfold wX_jump_11
    exact xp_csi hd9 hb hb2 K hp
theorem xp_jA {d : Nat} (hr : r < h) (h8 : h ≤ 8) (hc : c < w) (w12 : w ≤ 12) (hd : 0 < d) (hd2 : d ≤ r) (hp : post (sp_X h w 1 0 (r - d) c pen 0 ins tp bo gr gc gp gpd C G (upd P 0 (nI (if d = 1 then 0 else d))))) : wpX_jump post (sp_X h w pc st r c pen pd ins tp bo gr gc gp gpd C G P) (nI d) (nI 65) := by
  refine xp_jump hd (by omega) (by omega) (by omega) (fun po hpo => xc_A (by omega) h8 (by omega) w12 ?_) hp
  rw [sp_czc hc w12, pk_sub hd2, sp_czr (show r - d < h by omega) h8]
  exact hpo
theorem xp_jB {d : Nat} (h8 : h ≤ 8) (hc : c < w) (w12 : w ≤ 12) (hd : 0 < d) (hd2 : r + d < h) (hp : post (sp_X h w 1 0 (r + d) c pen 0 ins tp bo gr gc gp gpd C G (upd P 0 (nI (if d = 1 then 0 else d))))) : wpX_jump post (sp_X h w pc st r c pen pd ins tp bo gr gc gp gpd C G P) (nI d) (nI 66) := by
  refine xp_jump hd (by omega) (by omega) (by omega) (fun po hpo => xc_B (by omega) h8 (by omega) w12 ?_) hp
  rw [sp_czc hc w12, nI_add, sp_czr hd2 h8]
  exact hpo
theorem xp_jC {d : Nat} (hr : r < h) (h8 : h ≤ 8) (w12 : w ≤ 12) (hd : 0 < d) (hd2 : c + d < w) (hp : post (sp_X h w 1 0 r (c + d) pen 0 ins tp bo gr gc gp gpd C G (upd P 0 (nI (if d = 1 then 0 else d))))) : wpX_jump post (sp_X h w pc st r c pen pd ins tp bo gr gc gp gpd C G P) (nI d) (nI 67) := by
  refine xp_jump hd (by omega) (by omega) (by omega) (fun po hpo => xc_C (by omega) h8 (by omega) w12 ?_) hp
  rw [sp_czr hr h8, nI_add, sp_czc hd2 w12]
  exact hpo
theorem xp_jD {d : Nat} (hr : r < h) (h8 : h ≤ 8) (hc : c < w) (w12 : w ≤ 12) (hd : 0 < d) (hd2 : d ≤ c) (hp : post (sp_X h w 1 0 r (c - d) pen 0 ins tp bo gr gc gp gpd C G (upd P 0 (nI (if d = 1 then 0 else d))))) : wpX_jump post (sp_X h w pc st r c pen pd ins tp bo gr gc gp gpd C G P) (nI d) (nI 68) := by
  refine xp_jump hd (by omega) (by omega) (by omega) (fun po hpo => xc_D (by omega) h8 (by omega) w12 ?_) hp
  rw [sp_czr hr h8, pk_sub hd2, sp_czc (show c - d < w by omega) w12]
  exact hpo
theorem xp_jS {d : Nat} (h8 : h ≤ 8) (hw : 0 < w) (w12 : w ≤ 12) (hb : bo < h) (ht : tp ≤ bo) (hd : 0 < d) (hd2 : d ≤ 99) (hp : post (sp_X h w 1 0 r c pen pd ins tp bo gr gc gp gpd (sp_su w tp bo d pen C) G (upd P 0 (nI (if d = 1 then 0 else d))))) : wpX_jump post (sp_X h w pc st r c pen pd ins tp bo gr gc gp gpd C G P) (nI d) (nI 83) :=
  xp_jump hd hd2 (by omega) (by omega) (fun _ hpo => xc_S h8 hw w12 hd hd2 hb ht hpo) hp
theorem xp_jT {d : Nat} (h8 : h ≤ 8) (hw : 0 < w) (w12 : w ≤ 12) (hb : bo < h) (ht : tp ≤ bo) (hd : 0 < d) (hd2 : d ≤ 99) (hp : post (sp_X h w 1 0 r c pen pd ins tp bo gr gc gp gpd (sp_sd w tp bo d pen C) G (upd P 0 (nI (if d = 1 then 0 else d))))) : wpX_jump post (sp_X h w pc st r c pen pd ins tp bo gr gc gp gpd C G P) (nI d) (nI 84) :=
  xp_jump hd hd2 (by omega) (by omega) (fun _ hpo => xc_T h8 hw w12 hd hd2 hb ht hpo) hp
theorem xp_10 (hr : r + 1 < h) (hrb : r ≠ bo) (ht : tp ≤ bo) (hb : bo < h) (h8 : h ≤ 8) (hw : 0 < w) (w12 : w ≤ 12) (hp : post (sp_X h w pc st (r + 1) c pen 0 ins tp bo gr gc gp gpd C G P)) : wpX_take post (sp_X h w pc st r c pen pd ins tp bo gr gc gp gpd C G P) (nI 10) := by
  refine xt_ctl (by omega) (by omega) (by omega) (fun po hpo => xk_10 (by omega) ht hb h8 hw w12 ?_) hp
  unfold sp_lr sp_lc
  rw [if_neg hrb, if_neg (by omega), if_neg hrb]
  exact hpo
theorem xl_mv64 {y D : Nat} (hy : y < h) (ht : tp ≤ bo) (hb : bo < h) (h8 : h ≤ 8) (hw : 0 < w) (w12 : w ≤ 12) (hD : D < 100) : ∀ d i n r pd, y = r + d → i + d = D → (bo < r ∨ y ≤ bo) → d < n → post (sp_X h w pc st y c pen (if d = 0 then pd else 0) ins tp bo gr gc gp gpd C G P) → wX_moveVertically_64 post (nI D) n (nI i) (nI h) (nI w) (nI pc) (nI st) (nI r) (nI c) (nI pen) (nI pd) (nI ins) (nI tp) (nI bo) (nI gr) (nI gc) (nI gp) (nI gpd) C G P := by
  intro d
  induction d with
  | zero =>
    intro i n r pd e1 e2 hbo hn hp
    obtain ⟨n, rfl⟩ : ∃ m, n = m + 1 := ⟨n - 1, by omega⟩
    have e3 : y = r := by omega
    subst e3
    exact pk_le D i (fun _ => hp) (fun q => absurd q (by omega))
  | succ d ih =>
    intro i n r pd e1 e2 hbo hn hp
    obtain ⟨n, rfl⟩ : ∃ m, n = m + 1 := ⟨n - 1, by omega⟩
    refine pk_le D i (fun q => absurd q (by omega)) (fun _ => ?_)
    refine xp_10 (by omega) (by omega) ht hb h8 hw w12 ?_
    refine nm_r (nI_1 i) ?_
    refine ih (i + 1) n (r + 1) 0 (by omega) (by omega) (by omega) (by omega) ?_
    rw [if_neg (by omega)] at hp
    have e : (if d = 0 then 0 else 0) = 0 := by split <;> rfl
    rw [e]
    exact hp
theorem ar_nsubn {a b : Nat} (h : a ≤ b) : -(nI a - nI b) = nI (b - a) := by rw [Int32.neg_sub, pk_sub h]
theorem xp_mv {y : Nat} (hr : r < h) (hy : y < h) (hc : c < w) (ht : tp ≤ bo) (hb : bo < h) (h8 : h ≤ 8) (w12 : w ≤ 12) : ∃ pc' P', ∀ post : SX → Prop, post (sp_X h w pc' 0 y c pen (if y = r then pd else 0) ins tp bo gr gc gp gpd C G P') → wpX_moveVertically post (sp_X h w pc 0 r c pen pd ins tp bo gr gc gp gpd C G P) (nI y) := by
  have h0 : (0 : Int32).toInt = 0 := by decide
  rcases Nat.lt_trichotomy y r with q | q | q
  · refine ⟨1, upd P 0 (nI (if r - y = 1 then 0 else r - y)), fun post hp => ?_⟩
    rw [if_neg (by omega)] at hp
    refine nm_e (br_f ?_ ?_)
    · rw [Int32.le_iff_toInt_le, pk_sub_toInt (by omega) (by omega), h0]
      omega
    · rw [ar_nsubn (by omega)]
      refine xp_jA (d := r - y) hr h8 hc w12 (by omega) (by omega) ?_
      rw [show r - (r - y) = y by omega]
      exact hp
  · subst q
    refine ⟨pc, P, fun post hp => ?_⟩
    rw [if_pos rfl] at hp
    refine nm_r (e' := nI 0) (by rw [pk_sub (Nat.le_refl _), Nat.sub_self]) (br_t (by decide) (br_t (by decide) hp))
  · have e1 : nI y - nI r = nI (y - r) := pk_sub (by omega)
    have hj := sp_jc_le (y - r)
    have hl : sp_lf bo r y < 2 := by
      unfold sp_lf
      repeat' split
      all_goals omega
    have hB : ∀ post : SX → Prop, post (sp_X h w 1 0 y c pen 0 ins tp bo gr gc gp gpd C G (upd P 0 (nI (if y - r = 1 then 0 else y - r)))) → wX_moveVertically_53 post (nI (y - r)) (nI h) (nI w) (nI pc) (nI 0) (nI r) (nI c) (nI pen) (nI pd) (nI ins) (nI tp) (nI bo) (nI gr) (nI gc) (nI gp) (nI gpd) C G P := by
      intro post hp
      unfold wX_moveVertically_53
      refine xp_jB (d := y - r) h8 hc w12 (by omega) (by omega) ?_
      rw [show r + (y - r) = y by omega]
      exact hp
    by_cases q2 : sp_lf bo r y = 0 ∨ ¬ (y - r < sp_jc (y - r))
    · refine ⟨1, upd P 0 (nI (if y - r = 1 then 0 else y - r)), fun post hp => ?_⟩
      rw [if_neg (by omega)] at hp
      refine nm_r e1 (br_t (nI_pos' (by omega)) (br_f (nI_nle (by omega) (by omega)) ?_))
      refine xm_canLineFeed (by omega) (by omega) (by omega) ?_
      refine xm_jumpCost (by omega) ?_
      refine pk_eq (sp_lf bo r y) 0 (fun _ => hB post hp) (fun q3 => pk_lt (y - r) (sp_jc (y - r)) (fun q4 => absurd q2 (by omega)) (fun _ => hB post hp))
    · refine ⟨pc, P, fun post hp => ?_⟩
      rw [if_neg (by omega)] at hp
      refine nm_r e1 (br_t (nI_pos' (by omega)) (br_f (nI_nle (by omega) (by omega)) ?_))
      refine xm_canLineFeed (by omega) (by omega) (by omega) ?_
      refine xm_jumpCost (by omega) ?_
      refine pk_eq (sp_lf bo r y) 0 (fun q3 => absurd q2 (by omega)) (fun q3 => pk_lt (y - r) (sp_jc (y - r)) (fun q4 => ?_) (fun q4 => absurd q2 (by omega)))
      have hlf : bo < r ∨ y ≤ bo := by
        unfold sp_lf at q3
        rw [if_neg (by omega)] at q3
        by_cases z : bo < r
        · exact Or.inl z
        · rw [if_neg z] at q3
          by_cases z2 : bo < y
          · rw [if_pos z2] at q3; exact absurd rfl q3
          · exact Or.inr (by omega)
      refine ⟨y - r + 1, xl_mv64 hy ht hb h8 (by omega) w12 (by omega) (y - r) 0 _ r pd (by omega) (by omega) hlf (Nat.lt_succ_self _) ?_⟩
      rw [if_neg (by omega)]
      exact hp
end
end
section
/-! the component's printer: addressing, walking along a row, the pen -/
section
variable {post : SX → Prop} {h w pc st r c pen pd ins tp bo gr gc gp gpd : Nat} {C G P : Nat → Int32}
theorem xp_semi (hpc4 : pc < 4) (hp : post (sp_X h w (pc + 1) 2 r c pen pd ins tp bo gr gc gp gpd C G (upd P pc (nI 0)))) : wpX_take post (sp_X h w pc 2 r c pen pd ins tp bo gr gc gp gpd C G P) (nI 59) :=
  xt_seq (by omega) (by omega) (fun _ hpo => xs_semi hpc4 hpo) hp
theorem xl_addr60 {p q y x : Nat} (h8 : h ≤ 8) (w12 : w ≤ 12) (hy : y < h) (hx : x < w) (hP : P 0 = nI p) (hpy : (if p = 0 then 1 else p) = y + 1) (hq : (pc ≤ 1 ∧ q = 0) ∨ (1 < pc ∧ P 1 = nI q)) (hpc : pc < 100) (hqx : q - 1 = x) (hp : post (sp_X h w pc 0 y x pen 0 ins tp bo gr gc gp gpd C G P)) : wX_address_60 post (nI h) (nI w) (nI pc) (nI 2) (nI r) (nI c) (nI pen) (nI pd) (nI ins) (nI tp) (nI bo) (nI gr) (nI gc) (nI gp) (nI gpd) C G P := by
  have hp9 : p ≤ 99 := by
    by_cases z : p = 0
    · omega
    · rw [if_neg z] at hpy; omega
  unfold wX_address_60
  refine xp_cmd (b := 72) (u' := (sp_X h w pc 0 y x pen 0 ins tp bo gr gc gp gpd C G P)) (by omega) (by omega) (fun po hpo => xm_cmd hP hp9 hq hpc (xc_H (by omega) h8 (by omega) w12 (by omega) ?_)) hp
  rw [hpy, hqx, show nI (y + 1) - 1 = nI y from nI_pred y, sp_czr hy h8, sp_czc hx w12]
  exact hpo
theorem xl_addr37 {p y x f a : Nat} (h8 : h ≤ 8) (w12 : w ≤ 12) (hy : y < h) (hx : x < w) (hf : f < 100) (ha : a < 100) (hpc1 : pc = 1) (hP : P 0 = nI p) (hpy : (if p = 0 then 1 else p) = y + 1) : ∃ pc' P' c', c' < w ∧ ∀ post : SX → Prop, post (sp_X h w pc' 0 y c' pen 0 ins tp bo gr gc gp gpd C G P') → wX_address_37 post (nI x) (nI f) (nI a) (nI h) (nI w) (nI pc) (nI 2) (nI r) (nI c) (nI pen) (nI pd) (nI ins) (nI tp) (nI bo) (nI gr) (nI gc) (nI gp) (nI gpd) C G P := by
  by_cases q : x = 0 ∨ a < f
  · refine ⟨pc, P, 0, by omega, fun post hp => ?_⟩
    have H60 : wX_address_60 post (nI h) (nI w) (nI pc) (nI 2) (nI r) (nI c) (nI pen) (nI pd) (nI ins) (nI tp) (nI bo) (nI gr) (nI gc) (nI gp) (nI gpd) C G P := xl_addr60 (q := 0) h8 w12 hy (by omega) hP hpy (Or.inl ⟨by omega, rfl⟩) (by omega) rfl hp
    exact pk_le x 0 (fun _ => H60) (fun q1 => pk_lt a f (fun _ => H60) (fun q2 => absurd q (by omega)))
  · refine ⟨2, upd P 1 (nI (x + 1)), x, hx, fun post hp => ?_⟩
    refine pk_le x 0 (fun q1 => absurd q (by omega)) (fun q1 => pk_lt a f (fun q2 => absurd q (by omega)) (fun q2 => ?_))
    subst hpc1
    refine xp_semi (pc := 1) (by omega) ?_
    rw [nI_1]
    refine xp_num (pc := 2) (by omega) (by omega) (by omega) pk_us ?_
    rw [show (2 : Nat) - 1 = 1 from rfl, ar_upd2]
    exact xl_addr60 (q := x + 1) h8 w12 hy hx (by rw [pk_un (by omega)]; exact hP) hpy (Or.inr ⟨by omega, pk_us⟩) (by omega) rfl hp
theorem xp_addr {y x : Nat} (h8 : h ≤ 8) (hw : 0 < w) (w12 : w ≤ 12) (hy : y < h) (hx : x < w) : ∃ pc' P' c', c' < w ∧ ∀ post : SX → Prop, post (sp_X h w pc' 0 y c' pen 0 ins tp bo gr gc gp gpd C G P') → wpX_address post (sp_X h w pc st r c pen pd ins tp bo gr gc gp gpd C G P) (nI y) (nI x) := by
  have h1 := sp_cf_le x
  have h2 := sp_ac_le w 0 x
  by_cases q : y = 0
  · obtain ⟨pc', P', c', hc', H⟩ := xl_addr37 (r := r) (c := c) (pen := pen) (pd := pd) (ins := ins) (tp := tp) (bo := bo) (gr := gr) (gc := gc) (gp := gp) (gpd := gpd) (C := C) (G := G) (P := upd P 0 (nI 0)) (pc := 1) (p := 0) (y := y) (x := x) (f := sp_cf x) (a := sp_ac w 0 x) h8 w12 hy hx (by omega) (by omega) rfl pk_us (by rw [if_pos rfl, q])
    refine ⟨pc', P', c', hc', fun post hp => ?_⟩
    unfold wpX_address
    refine xm_columnFieldCost (by omega) ?_
    refine xm_acrossCost (f := 0) hw w12 (by omega) (by omega) ?_
    refine xt_27 ?_
    refine xt_91 ?_
    exact pk_le y 0 (fun _ => H post hp) (fun q1 => absurd q1 (by omega))
  · obtain ⟨pc', P', c', hc', H⟩ := xl_addr37 (r := r) (c := c) (pen := pen) (pd := pd) (ins := ins) (tp := tp) (bo := bo) (gr := gr) (gc := gc) (gp := gp) (gpd := gpd) (C := C) (G := G) (P := upd P 0 (nI (y + 1))) (pc := 1) (p := y + 1) (y := y) (x := x) (f := sp_cf x) (a := sp_ac w 0 x) h8 w12 hy hx (by omega) (by omega) rfl pk_us (by rw [if_neg (by omega)])
    refine ⟨pc', P', c', hc', fun post hp => ?_⟩
    unfold wpX_address
    refine xm_columnFieldCost (by omega) ?_
    refine xm_acrossCost (f := 0) hw w12 (by omega) (by omega) ?_
    refine xt_27 ?_
    refine xt_91 ?_
    refine pk_le y 0 (fun q1 => absurd q1 (by omega)) (fun _ => ?_)
    rw [nI_1]
    refine xp_num (pc := 1) (by omega) (by omega) (by omega) pk_us ?_
    rw [show (1 : Nat) - 1 = 0 from rfl, ar_upd2]
    exact H post hp
theorem sp_ac0 : ∀ w, w < 13 → ∀ f, f < 12 → ∀ t, t < 12 → f ≠ t → 0 < sp_ac w f t := by decide +kernel
theorem xl_step72 {x e : Nat} (hr : r < h) (h8 : h ≤ 8) (hc : c < w) (w12 : w ≤ 12) (hx : x < w) (hne : c ≠ x) (he : e < sp_ac w c x) : ∃ pc' P' c', c' < w ∧ (c' = x ∨ sp_ac w c' x < sp_ac w c x) ∧ ∀ post : SX → Prop, post (sp_X h w pc' 0 r c' pen 0 ins tp bo gr gc gp gpd C G P') → wX_stepAcross_72 post (nI x) (nI e) (nI h) (nI w) (nI pc) (nI 0) (nI r) (nI c) (nI pen) (nI pd) (nI ins) (nI tp) (nI bo) (nI gr) (nI gc) (nI gp) (nI gpd) C G P := by
  have h2 := sp_ac_le w 0 x
  have h3 := sp_ac_le w c x
  by_cases q : sp_ac w 0 x = e
  · refine ⟨pc, P, 0, by omega, Or.inr (by omega), fun post hp => ?_⟩
    unfold wX_stepAcross_72
    refine xm_acrossCost (f := 0) (by omega) w12 (by omega) (by omega) ?_
    refine pk_eq (sp_ac w 0 x) e (fun _ => ?_) (fun q1 => absurd q q1)
    exact xt_ctl (b := 13) (by omega) (by omega) (by omega) (fun _ hpo => xk_13 hr h8 (by omega) w12 hpo) hp
  · rcases Nat.lt_or_ge c x with z | z
    · refine ⟨1, upd P 0 (nI (if x - c = 1 then 0 else x - c)), x, hx, Or.inl rfl, fun post hp => ?_⟩
      unfold wX_stepAcross_72
      refine xm_acrossCost (f := 0) (by omega) w12 (by omega) (by omega) ?_
      refine pk_eq (sp_ac w 0 x) e (fun q1 => absurd q1 q) (fun _ => pk_le x c (fun q2 => absurd q2 (by omega)) (fun _ => ?_))
      rw [pk_sub (show c ≤ x by omega)]
      refine xp_jC (d := x - c) hr h8 w12 (by omega) (by omega) ?_
      rw [show c + (x - c) = x by omega]
      exact hp
    · refine ⟨1, upd P 0 (nI (if c - x = 1 then 0 else c - x)), x, hx, Or.inl rfl, fun post hp => ?_⟩
      unfold wX_stepAcross_72
      refine xm_acrossCost (f := 0) (by omega) w12 (by omega) (by omega) ?_
      refine pk_eq (sp_ac w 0 x) e (fun q1 => absurd q1 q) (fun _ => pk_le x c (fun _ => ?_) (fun q2 => absurd q2 (by omega)))
      rw [pk_sub z]
      refine xp_jD (d := c - x) hr h8 hc w12 (by omega) (by omega) ?_
      rw [show c - (c - x) = x by omega]
      exact hp
theorem xp_step {x : Nat} (hr : r < h) (h8 : h ≤ 8) (hc : c < w) (w12 : w ≤ 12) (hx : x < w) (hne : c ≠ x) : ∃ pc' P' c', c' < w ∧ (c' = x ∨ sp_ac w c' x < sp_ac w c x) ∧ ∀ post : SX → Prop, post (sp_X h w pc' 0 r c' pen 0 ins tp bo gr gc gp gpd C G P') → wpX_stepAcross post (sp_X h w pc 0 r c pen pd ins tp bo gr gc gp gpd C G P) (nI x) := by
  have hpos := sp_ac0 w (by omega) c (by omega) x (by omega) hne
  have h3 := sp_ac_le w c x
  have hnt := sp_nt_lt (c := c) (show 0 < w by omega)
  have h4 := sp_ac_le w (sp_nt w c) x
  have h5 := sp_ac_le w (c - 1) x
  obtain ⟨pc', P', c', hc', hd', H⟩ := xl_step72 (h := h) (w := w) (pc := pc) (r := r) (c := c) (pen := pen) (pd := pd) (ins := ins) (tp := tp) (bo := bo) (gr := gr) (gc := gc) (gp := gp) (gpd := gpd) (C := C) (G := G) (P := P) (x := x) (e := sp_ac w c x - 1) hr h8 hc w12 hx hne (by omega)
  by_cases q1 : sp_ac w (sp_nt w c) x = sp_ac w c x - 1
  · refine ⟨pc, P, sp_nt w c, hnt, Or.inr (by omega), fun post hp => ?_⟩
    unfold wpX_stepAcross
    refine xm_acrossCost (by omega) w12 (by omega) (by omega) ?_
    refine nm_r (ar_dec hpos) ?_
    refine xm_nextTab (by omega) w12 (by omega) ?_
    refine xm_acrossCost (by omega) w12 (by omega) (by omega) ?_
    refine pk_eq (sp_ac w (sp_nt w c) x) (sp_ac w c x - 1) (fun _ => ?_) (fun z => absurd q1 z)
    exact xt_ctl (b := 9) (by omega) (by omega) (by omega) (fun _ hpo => xk_9 hc w12 hpo) hp
  · by_cases q2 : x < c ∧ sp_ac w (c - 1) x = sp_ac w c x - 1
    · refine ⟨pc, P, c - 1, by omega, Or.inr (by omega), fun post hp => ?_⟩
      unfold wpX_stepAcross
      refine xm_acrossCost (by omega) w12 (by omega) (by omega) ?_
      refine nm_r (ar_dec hpos) ?_
      refine xm_nextTab (by omega) w12 (by omega) ?_
      refine xm_acrossCost (by omega) w12 (by omega) (by omega) ?_
      refine pk_eq (sp_ac w (sp_nt w c) x) (sp_ac w c x - 1) (fun z => absurd z q1) (fun _ => pk_le c x (fun z => absurd z (by omega)) (fun _ => ?_))
      rw [ar_dec (show 0 < c by omega)]
      refine xm_acrossCost (by omega) w12 (by omega) (by omega) ?_
      refine pk_eq (sp_ac w (c - 1) x) (sp_ac w c x - 1) (fun _ => ?_) (fun z => absurd q2.2 z)
      exact xt_ctl (b := 8) (by omega) (by omega) (by omega) (fun _ hpo => xk_8 hr h8 hc w12 hpo) hp
    · refine ⟨pc', P', c', hc', hd', fun post hp => ?_⟩
      unfold wpX_stepAcross
      refine xm_acrossCost (by omega) w12 (by omega) (by omega) ?_
      refine nm_r (ar_dec hpos) ?_
      refine xm_nextTab (by omega) w12 (by omega) ?_
      refine xm_acrossCost (by omega) w12 (by omega) (by omega) ?_
      refine pk_eq (sp_ac w (sp_nt w c) x) (sp_ac w c x - 1) (fun z => absurd z q1) (fun _ => pk_le c x (fun _ => H post hp) (fun z => ?_))
      rw [ar_dec (show 0 < c by omega)]
      refine xm_acrossCost (by omega) w12 (by omega) (by omega) ?_
      exact pk_eq (sp_ac w (c - 1) x) (sp_ac w c x - 1) (fun z2 => absurd ⟨z, z2⟩ q2) (fun _ => H post hp)
theorem xl_ma2 {x : Nat} (hr : r < h) (h8 : h ≤ 8) (w12 : w ≤ 12) (hx : x < w) : ∀ m i n c pd pc (P : Nat → Int32), sp_ac w c x ≤ m → c < w → i + m < 12 → m + 1 < n → ∃ pc' P', ∀ post : SX → Prop, post (sp_X h w pc' 0 r x pen (if c = x then pd else 0) ins tp bo gr gc gp gpd C G P') → wX_moveAcross_2 post (nI x) n (nI i) (nI h) (nI w) (nI pc) (nI 0) (nI r) (nI c) (nI pen) (nI pd) (nI ins) (nI tp) (nI bo) (nI gr) (nI gc) (nI gp) (nI gpd) C G P := by
  intro m
  induction m with
  | zero =>
    intro i n c pd pc P hm hc hi hn
    obtain ⟨n, rfl⟩ : ∃ m, n = m + 1 := ⟨n - 1, by omega⟩
    by_cases q : c = x
    · subst q
      refine ⟨pc, P, fun post hp => ?_⟩
      rw [if_pos rfl] at hp
      exact pk_le 12 i (fun _ => hp) (fun _ => pk_eq c c (fun _ => hp) (fun z => absurd rfl z))
    · have := sp_ac0 w (by omega) c (by omega) x (by omega) q
      omega
  | succ m ih =>
    intro i n c pd pc P hm hc hi hn
    obtain ⟨n, rfl⟩ : ∃ m, n = m + 1 := ⟨n - 1, by omega⟩
    by_cases q : c = x
    · subst q
      refine ⟨pc, P, fun post hp => ?_⟩
      rw [if_pos rfl] at hp
      exact pk_le 12 i (fun _ => hp) (fun _ => pk_eq c c (fun _ => hp) (fun z => absurd rfl z))
    · obtain ⟨pc1, P1, c1, hc1, hd1, H1⟩ := xp_step (h := h) (w := w) (pc := pc) (r := r) (c := c) (pen := pen) (pd := pd) (ins := ins) (tp := tp) (bo := bo) (gr := gr) (gc := gc) (gp := gp) (gpd := gpd) (C := C) (G := G) (P := P) (x := x) hr h8 hc w12 hx q
      have hac : sp_ac w c1 x ≤ m := by
        rcases hd1 with e | e
        · subst e
          have : sp_ac w c1 c1 = 0 := by unfold sp_ac sp_tb sp_hop sp_mn; simp
          omega
        · omega
      obtain ⟨pc2, P2, H2⟩ := ih (i + 1) n c1 0 pc1 P1 hac hc1 (by omega) (by omega)
      refine ⟨pc2, P2, fun post hp => ?_⟩
      rw [if_neg q] at hp
      have e0 : (if c1 = x then 0 else 0) = 0 := by split <;> rfl
      rw [e0] at H2
      refine pk_le 12 i (fun z => absurd z (by omega)) (fun _ => pk_eq c x (fun z => absurd z q) (fun _ => ?_))
      exact H1 _ (nm_r (nI_1 i) (H2 post hp))
theorem xp_ma {x : Nat} (hr : r < h) (h8 : h ≤ 8) (w12 : w ≤ 12) (hc : c < w) (hx : x < w) : ∃ pc' P', ∀ post : SX → Prop, post (sp_X h w pc' 0 r x pen (if c = x then pd else 0) ins tp bo gr gc gp gpd C G P') → wpX_moveAcross post (sp_X h w pc 0 r c pen pd ins tp bo gr gc gp gpd C G P) (nI x) := by
  obtain ⟨pc', P', H⟩ := xl_ma2 (h := h) (w := w) (r := r) (pen := pen) (ins := ins) (tp := tp) (bo := bo) (gr := gr) (gc := gc) (gp := gp) (gpd := gpd) (C := C) (G := G) (x := x) hr h8 w12 hx 5 0 7 c pd pc P (sp_ac_le w c x) hc (by omega) (by omega)
  exact ⟨pc', P', fun post hp => ⟨7, H post hp⟩⟩
theorem xl_mt30 {y x : Nat} (hr : r < h) (hc : c < w) (ht : tp ≤ bo) (hb : bo < h) (h8 : h ≤ 8) (w12 : w ≤ 12) (hy : y < h) (hx : x < w) (hne : ¬ (y = r ∧ x = c)) : ∃ pc' P', ∀ post : SX → Prop, post (sp_X h w pc' 0 y x pen 0 ins tp bo gr gc gp gpd C G P') → wX_moveTo_30 post (nI y) (nI x) (nI h) (nI w) (nI pc) (nI 0) (nI r) (nI c) (nI pen) (nI pd) (nI ins) (nI tp) (nI bo) (nI gr) (nI gc) (nI gp) (nI gpd) C G P := by
  have h1 := sp_vc_le bo r y
  have h2 := sp_ac_le w c x
  have h3 := sp_ac_le w 0 x
  have h4 : sp_ad w y x ≤ 20 := by
    have := sp_mn_l (sp_cf x) (sp_ac w 0 x)
    have := sp_cf_le x
    unfold sp_ad
    split <;> omega
  by_cases q : sp_ad w y x < sp_vc bo r y + sp_ac w c x
  · obtain ⟨pc1, P1, c1, hc1, H1⟩ := xp_addr (h := h) (w := w) (st := 0) (pc := pc) (r := r) (c := c) (pen := pen) (pd := pd) (ins := ins) (tp := tp) (bo := bo) (gr := gr) (gc := gc) (gp := gp) (gpd := gpd) (C := C) (G := G) (P := P) (y := y) (x := x) h8 (by omega) w12 hy hx
    obtain ⟨pc2, P2, H2⟩ := xp_ma (h := h) (w := w) (pc := pc1) (r := y) (c := c1) (pen := pen) (pd := 0) (ins := ins) (tp := tp) (bo := bo) (gr := gr) (gc := gc) (gp := gp) (gpd := gpd) (C := C) (G := G) (P := P1) (x := x) hy h8 w12 hc1 hx
    refine ⟨pc2, P2, fun post hp => ?_⟩
    unfold wX_moveTo_30
    refine xm_relativeCost (by omega) w12 (by omega) (by omega) (by omega) (by omega) (by omega) ?_
    refine xm_addressCost (by omega) w12 (by omega) (by omega) ?_
    refine pk_lt (sp_ad w y x) (sp_vc bo r y + sp_ac w c x) (fun _ => ?_) (fun z => absurd q (by omega))
    have e0 : (if c1 = x then 0 else 0) = 0 := by split <;> rfl
    rw [e0] at H2
    exact H1 _ (H2 _ hp)
  · obtain ⟨pc1, P1, H1⟩ := xp_mv (h := h) (w := w) (pc := pc) (r := r) (c := c) (pen := pen) (pd := pd) (ins := ins) (tp := tp) (bo := bo) (gr := gr) (gc := gc) (gp := gp) (gpd := gpd) (C := C) (G := G) (P := P) (y := y) hr hy hc ht hb h8 w12
    obtain ⟨pc2, P2, H2⟩ := xp_ma (h := h) (w := w) (pc := pc1) (r := y) (c := c) (pen := pen) (pd := if y = r then pd else 0) (ins := ins) (tp := tp) (bo := bo) (gr := gr) (gc := gc) (gp := gp) (gpd := gpd) (C := C) (G := G) (P := P1) (x := x) hy h8 w12 hc hx
    refine ⟨pc2, P2, fun post hp => ?_⟩
    unfold wX_moveTo_30
    refine xm_relativeCost (by omega) w12 (by omega) (by omega) (by omega) (by omega) (by omega) ?_
    refine xm_addressCost (by omega) w12 (by omega) (by omega) ?_
    refine pk_lt (sp_ad w y x) (sp_vc bo r y + sp_ac w c x) (fun z => absurd z q) (fun _ => ?_)
    have e0 : (if c = x then (if y = r then pd else 0) else 0) = 0 := by
      by_cases z1 : c = x
      · rw [if_pos z1, if_neg (fun z2 => hne ⟨z2, z1.symm⟩)]
      · rw [if_neg z1]
    rw [e0] at H2
    exact H1 _ (H2 _ hp)
theorem xp_to {y x : Nat} (hr : r < h) (hc : c < w) (ht : tp ≤ bo) (hb : bo < h) (h8 : h ≤ 8) (w12 : w ≤ 12) (hy : y < h) (hx : x < w) (hpd : pd < 2) (hpc : pd = 1 → c + 1 = w) : ∃ pc' P', ∀ post : SX → Prop, post (sp_X h w pc' 0 y x pen 0 ins tp bo gr gc gp gpd C G P') → wpX_moveTo post (sp_X h w pc 0 r c pen pd ins tp bo gr gc gp gpd C G P) (nI y) (nI x) := by
  by_cases q : y = r ∧ x = c
  · obtain ⟨rfl, rfl⟩ := q
    refine ⟨pc, P, fun post hp => ?_⟩
    refine pk_eq y y (fun _ => pk_eq x x (fun _ => pk_eq pd 0 (fun z => ?_) (fun z => ?_)) (fun z => absurd rfl z)) (fun z => absurd rfl z)
    · subst z; exact hp
    · have e : sp_nt w x = x := by unfold sp_nt; rw [if_pos (by omega)]; omega
      refine xt_ctl (b := 9) (by omega) (by omega) (by omega) (fun po hpo => xk_9 hc w12 hpo) ?_
      rw [e]
      exact hp
  · obtain ⟨pc', P', H⟩ := xl_mt30 (h := h) (w := w) (pc := pc) (r := r) (c := c) (pen := pen) (pd := pd) (ins := ins) (tp := tp) (bo := bo) (gr := gr) (gc := gc) (gp := gp) (gpd := gpd) (C := C) (G := G) (P := P) (y := y) (x := x) hr hc ht hb h8 w12 hy hx q
    refine ⟨pc', P', fun post hp => ?_⟩
    exact pk_eq y r (fun z1 => pk_eq x c (fun z2 => absurd ⟨z1, z2⟩ q) (fun _ => H post hp)) (fun _ => H post hp)
end
end
section
/-! the component's printer: the pen -/
def sp_mix (k a p : Nat) : Nat := a % 2 ^ k + p / 2 ^ k * 2 ^ k
def sp_pv (k a : Nat) : Nat := if a / 2 ^ k % 2 = 0 then 22 + 5 * k / 2 else 1 + 3 * k
theorem ar_x0 : ∀ k, k < 3 → ∀ a, a < 8 → ∀ p, p < 8 → ((nI a ^^^ nI p) &&& ((1 : Int32) <<< (nI k &&& 31)) = 0 ↔ a / 2 ^ k % 2 = p / 2 ^ k % 2) := by decide +kernel
theorem ar_a0 : ∀ k, k < 3 → ∀ a, a < 8 → (nI a &&& ((1 : Int32) <<< (nI k &&& 31)) = 0 ↔ a / 2 ^ k % 2 = 0) := by decide +kernel
theorem sp_mix_s : ∀ k, k < 3 → ∀ a, a < 8 → ∀ p, p < 8 → a / 2 ^ k % 2 = p / 2 ^ k % 2 → sp_mix (k + 1) a p = sp_mix k a p := by decide +kernel
theorem sp_mix_d : ∀ k, k < 3 → ∀ a, a < 8 → ∀ p, p < 8 → a / 2 ^ k % 2 ≠ p / 2 ^ k % 2 → sp_at (sp_pv k a) (sp_mix k a p) = sp_mix (k + 1) a p := by decide +kernel
theorem sp_mix_0 : ∀ a, a < 8 → ∀ p, p < 8 → sp_mix 0 a p = p := by decide +kernel
theorem sp_mix_3 : ∀ a, a < 8 → ∀ p, p < 8 → sp_mix 3 a p = a := by decide +kernel
theorem sp_pv_le : ∀ k, k < 3 → ∀ a, a < 8 → sp_pv k a ≤ 99 := by decide +kernel
theorem sp_pens_c {V U : Nat → Nat} : ∀ d i p, (∀ j, i ≤ j → j < i + d → V j = U j) → sp_pens V i d p = sp_pens U i d p := by
  intro d
  induction d with
  | zero => intro i p _; rfl
  | succ d ih =>
    intro i p hh
    show sp_pens V (i + 1) d (sp_at (V i) p) = sp_pens U (i + 1) d (sp_at (U i) p)
    rw [hh i (Nat.le_refl i) (by omega)]
    exact ih (i + 1) _ (fun j h1 h2 => hh j (by omega) (by omega))
theorem sp_pens_s {V : Nat → Nat} : ∀ d i p, sp_pens V i (d + 1) p = sp_at (V (i + d)) (sp_pens V i d p) := by
  intro d
  induction d with
  | zero => intro i p; rfl
  | succ d ih =>
    intro i p
    show sp_pens V (i + 1) (d + 1) (sp_at (V i) p) = sp_at (V (i + (d + 1))) (sp_pens V (i + 1) d (sp_at (V i) p))
    rw [ih (i + 1), show i + 1 + d = i + (d + 1) by omega]
/-- the sequence so far: V its numbers; sep: whether one stands -/
def sp_si (a pen k sep pc : Nat) (P : Nat → Int32) : Prop := ∃ V : Nat → Nat, (∀ i, i < pc → P i = nI (V i) ∧ V i ≤ 99) ∧ 0 < pc ∧ ((sep = 0 ∧ pc = 1 ∧ V 0 = 0 ∧ sp_mix k a pen = pen) ∨ (sep = 1 ∧ pc ≤ k ∧ sp_pens V 0 pc pen = sp_mix k a pen))
theorem sp_si_s {a pen k sep pc : Nat} {P : Nat → Int32} (hk : k < 3) (ha : a < 8) (hpn : pen < 8) (he : a / 2 ^ k % 2 = pen / 2 ^ k % 2) (I : sp_si a pen k sep pc P) : sp_si a pen (k + 1) sep pc P := by
  have e := sp_mix_s k hk a ha pen hpn he
  obtain ⟨V, hV, h0, hc⟩ := I
  refine ⟨V, hV, h0, ?_⟩
  rcases hc with ⟨h1, h2, h3, h4⟩ | ⟨h1, h2, h3⟩
  · exact Or.inl ⟨h1, h2, h3, by rw [e]; exact h4⟩
  · exact Or.inr ⟨h1, by omega, by rw [e]; exact h3⟩
theorem sp_si_d {a pen k pc : Nat} {P : Nat → Int32} (hk : k < 3) (ha : a < 8) (hpn : pen < 8) (he : a / 2 ^ k % 2 ≠ pen / 2 ^ k % 2) (I : sp_si a pen k 0 pc P) : pc = 1 ∧ P (pc - 1) = nI 0 ∧ sp_si a pen (k + 1) 1 pc (upd P (pc - 1) (nI (sp_pv k a))) := by
  have e := sp_mix_d k hk a ha pen hpn he
  obtain ⟨V, hV, h0, hc⟩ := I
  rcases hc with ⟨_, h2, h3, h4⟩ | ⟨h1, _, _⟩
  · subst h2
    have hv0 := hV 0 (by omega)
    rw [h3] at hv0
    refine ⟨rfl, hv0.1, fun _ => sp_pv k a, ?_, by omega, Or.inr ⟨rfl, by omega, ?_⟩⟩
    · intro i hi
      have : i = 0 := by omega
      subst this
      exact ⟨pk_us, sp_pv_le k hk a ha⟩
    · show sp_at (sp_pv k a) pen = _
      rw [← e, h4]
  · exact absurd h1 (by omega)
theorem sp_si_e {a pen k pc : Nat} {P : Nat → Int32} (hk : k < 3) (ha : a < 8) (hpn : pen < 8) (he : a / 2 ^ k % 2 ≠ pen / 2 ^ k % 2) (I : sp_si a pen k 1 pc P) : pc ≤ k ∧ sp_si a pen (k + 1) 1 (pc + 1) (upd P pc (nI (sp_pv k a))) := by
  have e := sp_mix_d k hk a ha pen hpn he
  obtain ⟨V, hV, h0, hc⟩ := I
  rcases hc with ⟨h1, _, _, _⟩ | ⟨_, h2, h3⟩
  · exact absurd h1 (by omega)
  · refine ⟨h2, fun j => if j = pc then sp_pv k a else V j, ?_, by omega, Or.inr ⟨rfl, by omega, ?_⟩⟩
    · intro i hi
      by_cases z : i = pc
      · subst z
        dsimp only
        rw [if_pos rfl]
        exact ⟨pk_us, sp_pv_le k hk a ha⟩
      · dsimp only
        rw [if_neg z, pk_un z]
        exact hV i (by omega)
    · rw [sp_pens_s]
      have e2 : sp_pens (fun j => if j = pc then sp_pv k a else V j) 0 pc pen = sp_pens V 0 pc pen := sp_pens_c pc 0 pen (fun j _ hj => if_neg (by omega))
      rw [e2, h3, if_pos (by omega)]
      exact e
section
variable {post : SX → Prop} {h w pc st r c pen pd ins tp bo gr gc gp gpd : Nat} {C G P : Nat → Int32}
theorem xl_sp69 {J : Int32 → Int32 → Int32 → Int32 → Int32 → Int32 → Int32 → Int32 → Int32 → Int32 → Int32 → Int32 → Int32 → Int32 → Int32 → Int32 → Int32 → (Nat → Int32) → (Nat → Int32) → (Nat → Int32) → Prop} {a k : Nat} (hk : k < 3) (ha : a < 8) (hpc : 0 < pc) (hpc4 : pc ≤ 4) (hz : P (pc - 1) = nI 0) (H : J (nI 1) (nI (k + 1)) (nI h) (nI w) (nI pc) (nI 2) (nI r) (nI c) (nI pen) (nI pd) (nI ins) (nI tp) (nI bo) (nI gr) (nI gc) (nI gp) (nI gpd) C G (upd P (pc - 1) (nI (sp_pv k a)))) : wX_setPen_69 post J (nI a) (nI k) ((1 : Int32) <<< (nI k &&& 31)) (nI h) (nI w) (nI pc) (nI 2) (nI r) (nI c) (nI pen) (nI pd) (nI ins) (nI tp) (nI bo) (nI gr) (nI gc) (nI gp) (nI gpd) C G P := by
  have hv := sp_pv_le k hk a ha
  unfold sp_pv at H hv
  refine br_c (fun q => ?_) (fun q => ?_)
  · rw [ar_a0 k hk a ha] at q
    rw [if_pos q] at H hv
    refine And.intro (by decide) ?_
    rw [ar_22 k hk]
    unfold wX_setPen_93
    exact xp_num hv hpc hpc4 hz (nm_r (nI_1 k) H)
  · rw [ar_a0 k hk a ha] at q
    rw [if_neg q] at H hv
    rw [ar_13 k hk]
    unfold wX_setPen_93
    exact xp_num hv hpc hpc4 hz (nm_r (nI_1 k) H)
theorem xl_sp37 {a : Nat} (ha : a < 8) (hpen : pen < 8) (hne : a ≠ pen) : ∀ d k sep n pc (P : Nat → Int32), k + d = 3 → d < n → sp_si a pen k sep pc P → ∃ pc' P', ∀ post : SX → Prop, post (sp_X h w pc' 0 r c a pd ins tp bo gr gc gp gpd C G P') → wX_setPen_37 post (nI a) n (nI sep) (nI k) (nI h) (nI w) (nI pc) (nI 2) (nI r) (nI c) (nI pen) (nI pd) (nI ins) (nI tp) (nI bo) (nI gr) (nI gc) (nI gp) (nI gpd) C G P := by
  intro d
  induction d with
  | zero =>
    intro k sep n pc P e hn I
    obtain ⟨n, rfl⟩ : ∃ m, n = m + 1 := ⟨n - 1, by omega⟩
    have e3 : k = 3 := by omega
    subst e3
    obtain ⟨V, hV, h0, hc⟩ := I
    rw [sp_mix_3 a ha pen hpen] at hc
    refine ⟨pc, P, fun post hp => ?_⟩
    rcases hc with ⟨_, _, _, h4⟩ | ⟨h1, h2, h3⟩
    · exact absurd h4 hne
    · refine br_t (by decide) ?_
      rw [← h3] at hp
      have hq : (pc ≤ 1 ∧ (if pc ≤ 1 then 0 else V 1) = 0) ∨ (1 < pc ∧ P 1 = nI (if pc ≤ 1 then 0 else V 1)) := by
        by_cases z : pc ≤ 1
        · exact Or.inl ⟨z, if_pos z⟩
        · rw [if_neg z]
          exact Or.inr ⟨by omega, (hV 1 (by omega)).1⟩
      exact xp_cmd (b := 109) (by omega) (by omega) (fun po hpo => xm_cmd (hV 0 h0).1 (hV 0 h0).2 hq (by omega) (xc_m hV (by omega) hpen hpo)) hp
  | succ d ih =>
    intro k sep n pc P e hn I
    obtain ⟨n, rfl⟩ : ∃ m, n = m + 1 := ⟨n - 1, by omega⟩
    have hk : k < 3 := by omega
    by_cases q : a / 2 ^ k % 2 = pen / 2 ^ k % 2
    · obtain ⟨pc', P', H⟩ := ih (k + 1) sep n pc P (by omega) (by omega) (sp_si_s hk ha hpen q I)
      refine ⟨pc', P', fun post hp => ?_⟩
      refine pk_le 3 k (fun z => absurd z (by omega)) (fun _ => nm_e ?_)
      exact br_t ((ar_x0 k hk a ha pen hpen).mpr q) (nm_r (nI_1 k) (H post hp))
    · by_cases hs : sep = 0
      · subst hs
        obtain ⟨hpc, hz, I2⟩ := sp_si_d hk ha hpen q I
        obtain ⟨pc', P', H⟩ := ih (k + 1) 1 n pc _ (by omega) (by omega) I2
        refine ⟨pc', P', fun post hp => ?_⟩
        refine pk_le 3 k (fun z => absurd z (by omega)) (fun _ => nm_e ?_)
        refine br_f (fun z => q ((ar_x0 k hk a ha pen hpen).mp z)) (br_t (by decide) ?_)
        exact xl_sp69 hk ha (by omega) (by omega) hz (H post hp)
      · have hs1 : sep = 1 := by
          obtain ⟨V, _, _, hc⟩ := I
          rcases hc with ⟨h1, _⟩ | ⟨h1, _⟩
          · exact absurd h1 hs
          · exact h1
        subst hs1
        obtain ⟨hpc, I2⟩ := sp_si_e hk ha hpen q I
        obtain ⟨pc', P', H⟩ := ih (k + 1) 1 n (pc + 1) _ (by omega) (by omega) I2
        refine ⟨pc', P', fun post hp => ?_⟩
        refine pk_le 3 k (fun z => absurd z (by omega)) (fun _ => nm_e ?_)
        refine br_f (fun z => q ((ar_x0 k hk a ha pen hpen).mp z)) (br_f (by decide) ?_)
        refine xp_semi (by omega) ?_
        refine xl_sp69 (pc := pc + 1) (P := upd P pc (nI 0)) hk ha (by omega) (by omega) pk_us ?_
        rw [show pc + 1 - 1 = pc from rfl, ar_upd2]
        exact H post hp
theorem xp_pen {a : Nat} (ha : a < 8) (hpen : pen < 8) : ∃ pc' P', ∀ post : SX → Prop, post (sp_X h w pc' 0 r c a pd ins tp bo gr gc gp gpd C G P') → wpX_setPen post (sp_X h w pc 0 r c pen pd ins tp bo gr gc gp gpd C G P) (nI a) := by
  by_cases q : a = pen
  · subst q
    exact ⟨pc, P, fun post hp => pk_eq a a (fun _ => hp) (fun z => absurd rfl z)⟩
  · by_cases q0 : a = 0
    · subst q0
      refine ⟨1, upd P 0 (nI 0), fun post hp => ?_⟩
      refine pk_eq 0 pen (fun z => absurd z q) (fun _ => br_t rfl ?_)
      have hV : ∀ i, i < 1 → upd P 0 (nI 0) i = nI ((fun _ => 0 : Nat → Nat) i) ∧ (fun _ => 0 : Nat → Nat) i ≤ 99 := by
        intro i hi
        have : i = 0 := by omega
        subst this
        exact ⟨pk_us, Nat.zero_le 99⟩
      exact xp_csi (n := 0) (b := 109) (by omega) (by omega) (by omega) (fun po hpo => xm_cmd (p := 0) (q := 0) pk_us (by omega) (Or.inl ⟨by omega, rfl⟩) (by omega) (xc_m (V := fun _ => 0) hV (by omega) hpen hpo)) hp
    · have I : sp_si a pen 0 0 1 (upd P 0 (nI 0)) := by
        refine ⟨fun _ => 0, ?_, by omega, Or.inl ⟨rfl, rfl, rfl, sp_mix_0 a ha pen hpen⟩⟩
        intro i hi
        have : i = 0 := by omega
        subst this
        exact ⟨pk_us, Nat.zero_le 99⟩
      obtain ⟨pc', P', H⟩ := xl_sp37 (h := h) (w := w) (r := r) (c := c) (pen := pen) (pd := pd) (ins := ins) (tp := tp) (bo := bo) (gr := gr) (gc := gc) (gp := gp) (gpd := gpd) (C := C) (G := G) ha hpen q 3 0 0 4 1 _ (by omega) (by omega) I
      refine ⟨pc', P', fun post hp => ?_⟩
      refine pk_eq a pen (fun z => absurd z q) (fun _ => pk_eq a 0 (fun z => absurd z q0) (fun _ => ?_))
      refine xt_27 ?_
      refine xt_91 ?_
      exact ⟨4, H post hp⟩
end
end
section
/-! the component's printer: one cell, one row -/
def sp_ok (x : Int32) : Prop := ∃ m : Nat, 256 ≤ m ∧ m < 1016 ∧ x = nI m
def sp_pg (h w r c pen pd : Nat) : Prop := r < h ∧ c < w ∧ pen < 8 ∧ pd < 2 ∧ (pd = 1 → c + 1 = w)
def sp_kp (G C K : Nat → Int32) : Prop := ∀ i, C i = G i → K i = G i
theorem ar_shr {m : Nat} (hm : m < 1016) : nI m >>> ((3 : Int32) &&& 31) = nI (m / 8) := pk_shrN (by omega) _ 3 (by decide)
theorem ar_and7 {m : Nat} (hm : m < 1016) : nI m &&& 7 = nI (m % 8) := pk_andN (by omega) 3 (by decide)
section
variable {post : SX → Prop} {h w pc st r c pen pd ins tp bo gr gc gp gpd : Nat} {C G P : Nat → Int32}
theorem xp_put {y x m : Nat} (hr : r < h) (hc : c < w) (ht : tp ≤ bo) (hb : bo < h) (h8 : h ≤ 8) (w12 : w ≤ 12) (hpen : pen < 8) (hpd : pd < 2) (hpc : pd = 1 → c + 1 = w) (hy : y < h) (hx : x < w) (hm1 : 256 ≤ m) (hm2 : m < 1016) (hG : G (y * w + x) = nI m) : ∃ pc' P', ∀ post : SX → Prop, post (sp_X h w pc' 0 y (sp_c2 w x) (m % 8) (sp_p2 w x) 0 tp bo gr gc gp gpd (upd C (y * w + x) (G (y * w + x))) G P') → wpX_putCell post (sp_X h w pc 0 r c pen pd 0 tp bo gr gc gp gpd C G P) (nI y) (nI x) := by
  have b1 := ar_ix96 hy hx h8 w12
  obtain ⟨pc1, P1, H1⟩ := xp_to (h := h) (w := w) (pc := pc) (r := r) (c := c) (pen := pen) (pd := pd) (ins := 0) (tp := tp) (bo := bo) (gr := gr) (gc := gc) (gp := gp) (gpd := gpd) (C := C) (G := G) (P := P) (y := y) (x := x) hr hc ht hb h8 w12 hy hx hpd hpc
  obtain ⟨pc2, P2, H2⟩ := xp_pen (h := h) (w := w) (pc := pc1) (r := y) (c := x) (pen := pen) (pd := 0) (ins := 0) (tp := tp) (bo := bo) (gr := gr) (gc := gc) (gp := gp) (gpd := gpd) (C := C) (G := G) (P := P1) (a := m % 8) (by omega) hpen
  refine ⟨pc2, P2, fun post hp => ?_⟩
  have e1 : nI y * nI w + nI x = nI (y * w + x) := by rw [pk_mul, nI_add]
  refine And.intro (pk_in (y * w + x) 96 b1 e1) (nm_r (e' := nI m) (by rw [e1, nI_clamp (by omega)]; exact hG) ?_)
  rw [ar_shr hm2, ar_and7 hm2]
  refine H1 _ (H2 _ ?_)
  refine xt_prn (b := m / 8) (by omega) (by omega) (fun po hpo => xm_print0 (pen := m % 8) (b := m / 8) hy hx h8 w12 (by omega) (by omega) (by omega) hpo) ?_
  have e2 : sp_pc w 0 y x (8 * (m / 8) + m % 8) C = upd C (y * w + x) (G (y * w + x)) := by
    unfold sp_pc
    rw [if_pos rfl, hG, show 8 * (m / 8) + m % 8 = m by omega]
  rw [e2]
  exact hp
theorem xl_et47 {y R m : Nat} (hR : R + w ≤ 96) (hw : w ≤ 12) (hm : m < 1016) : ∀ k n s q, k ≤ w → k < n → q + k ≤ w → (∀ j, k ≤ j → j < w → G (R + j) = nI m) → ((q = 0 ∧ s = w) ∨ (k ≤ s ∧ s < w)) → ∃ s' q', q' < 100 ∧ s' ≤ w ∧ (3 < q' → s' < w ∧ ∀ j, s' ≤ j → j < w → G (R + j) = nI m) ∧ ∀ post : SX → Prop, wX_eraseTail_91 post (nI y) (nI m) (nI s') (nI q') (nI h) (nI w) (nI pc) (nI st) (nI r) (nI c) (nI pen) (nI pd) (nI ins) (nI tp) (nI bo) (nI gr) (nI gc) (nI gp) (nI gpd) C G P → wX_eraseTail_47 post (nI y) (nI R) (nI m) (nI h) (nI w) (nI pc) (nI st) (nI r) (nI c) (nI pen) (nI pd) (nI ins) (nI tp) (nI bo) (nI gr) (nI gc) (nI gp) (nI gpd) C G P n (nI s) (nI q) (nI k + (-1)) := by
  intro k
  induction k with
  | zero =>
    intro n s q hk hn hq hG hs
    obtain ⟨n, rfl⟩ : ∃ m, n = m + 1 := ⟨n - 1, by omega⟩
    refine ⟨s, q, by omega, by omega, fun h3 => ⟨by omega, fun j h1 h2 => hG j (by omega) h2⟩, fun post hp => ?_⟩
    exact br_t (by decide) hp
  | succ k ih =>
    intro n s q hk hn hq hG hs
    obtain ⟨n, rfl⟩ : ∃ m, n = m + 1 := ⟨n - 1, by omega⟩
    have e1 : nI R + nI k = nI (R + k) := nI_add R k
    have e2 : (nI R + nI k).toNatClampNeg = R + k := by rw [e1, nI_clamp (by omega)]
    rw [pk_m1]
    by_cases g : G (R + k) = nI m
    · have hG2 : ∀ j, k ≤ j → j < w → G (R + j) = nI m := by
        intro j h1 h2
        rcases Nat.lt_or_ge k j with z | z
        · exact hG j (by omega) h2
        · have : j = k := by omega
          subst this
          exact g
      by_cases g2 : C (R + k) = nI m
      · obtain ⟨s', q', h1, h2, h3, H⟩ := ih n s q (by omega) (by omega) (by omega) hG2 (by omega)
        refine ⟨s', q', h1, h2, h3, fun post hp => ?_⟩
        refine br_f (nI_pos (by omega)) (And.intro (pk_in (R + k) 96 (by omega) e1) (br_t (by rw [e2]; exact g) (And.intro (pk_in (R + k) 96 (by omega) e1) (br_t (by rw [e2]; exact g2) (nm_e (H post hp))))))
      · obtain ⟨s', q', h1, h2, h3, H⟩ := ih n k (q + 1) (by omega) (by omega) (by omega) hG2 (by omega)
        refine ⟨s', q', h1, h2, h3, fun post hp => ?_⟩
        refine br_f (nI_pos (by omega)) (And.intro (pk_in (R + k) 96 (by omega) e1) (br_t (by rw [e2]; exact g) (And.intro (pk_in (R + k) 96 (by omega) e1) (br_f (by rw [e2]; exact g2) (nm_r (nI_1 q) (nm_e (H post hp)))))))
    · refine ⟨s, q, by omega, by omega, fun h3 => ⟨by omega, fun j h1 h2 => hG j (by omega) h2⟩, fun post hp => ?_⟩
      exact br_f (nI_pos (by omega)) (And.intro (pk_in (R + k) 96 (by omega) e1) (br_f (by rw [e2]; exact g) hp))
theorem xl_et91 {y m s q : Nat} (hr : r < h) (hc : c < w) (ht : tp ≤ bo) (hb : bo < h) (h8 : h ≤ 8) (w12 : w ≤ 12) (hpen : pen < 8) (hpd : pd < 2) (hpc : pd = 1 → c + 1 = w) (hy : y < h) (hm : m / 8 = 32) (hq : q < 100) (hs : 3 < q → s < w ∧ ∀ j, s ≤ j → j < w → G (y * w + j) = nI m) : ∃ pc' P' r' c' pen' pd' C', sp_pg h w r' c' pen' pd' ∧ sp_kp G C C' ∧ ∀ post : SX → Prop, post (sp_X h w pc' 0 r' c' pen' pd' ins tp bo gr gc gp gpd C' G P') → wX_eraseTail_91 post (nI y) (nI m) (nI s) (nI q) (nI h) (nI w) (nI pc) (nI 0) (nI r) (nI c) (nI pen) (nI pd) (nI ins) (nI tp) (nI bo) (nI gr) (nI gc) (nI gp) (nI gpd) C G P := by
  by_cases z : q ≤ 3
  · exact ⟨pc, P, r, c, pen, pd, C, ⟨hr, hc, hpen, hpd, hpc⟩, fun _ h => h, fun post hp => pk_le q 3 (fun _ => hp) (fun z2 => absurd z (by omega))⟩
  · obtain ⟨hs1, hs2⟩ := hs (by omega)
    obtain ⟨pc1, P1, H1⟩ := xp_to (h := h) (w := w) (pc := pc) (r := r) (c := c) (pen := pen) (pd := pd) (ins := ins) (tp := tp) (bo := bo) (gr := gr) (gc := gc) (gp := gp) (gpd := gpd) (C := C) (G := G) (P := P) (y := y) (x := s) hr hc ht hb h8 w12 hy hs1 hpd hpc
    obtain ⟨pc2, P2, H2⟩ := xp_pen (h := h) (w := w) (pc := pc1) (r := y) (c := s) (pen := pen) (pd := 0) (ins := ins) (tp := tp) (bo := bo) (gr := gr) (gc := gc) (gp := gp) (gpd := gpd) (C := C) (G := G) (P := P1) (a := m % 8) (by omega) hpen
    refine ⟨1, upd P2 0 (nI 0), y, s, m % 8, 0, sp_er w y s 0 (y * w) (y * w + w - 1) (m % 8) C, ⟨hy, hs1, by omega, by omega, by omega⟩, ?_, fun post hp => ?_⟩
    · intro i hi
      unfold sp_er
      rw [if_pos (by omega), if_pos rfl, if_neg (by omega)]
      unfold sp_fill
      by_cases zi : y * w + s ≤ i ∧ i < y * w + w - 1 + 1
      · rw [if_pos zi]
        have := hs2 (i - y * w) (by omega) (by omega)
        rw [show y * w + (i - y * w) = i by omega] at this
        rw [this, show 256 + m % 8 = m by omega]
      · rw [if_neg zi]
        exact hi
    · refine pk_le q 3 (fun z2 => absurd z2 z) (fun _ => ?_)
      rw [ar_and7 (by omega)]
      refine H1 _ (H2 _ ?_)
      exact xp_csi (n := 0) (b := 75) (by omega) (by omega) (by omega) (fun po hpo => xm_cmd (p := 0) (q := 0) pk_us (by omega) (Or.inl ⟨by omega, rfl⟩) (by omega) (xc_K (by omega) h8 (by omega) w12 hy hs1 (by omega) hpo)) hp
theorem xp_tail {y : Nat} (hr : r < h) (hc : c < w) (ht : tp ≤ bo) (hb : bo < h) (h8 : h ≤ 8) (w12 : w ≤ 12) (hpen : pen < 8) (hpd : pd < 2) (hpc : pd = 1 → c + 1 = w) (hy : y < h) (hG : ∀ i, i < h * w → sp_ok (G i)) : ∃ pc' P' r' c' pen' pd' C', sp_pg h w r' c' pen' pd' ∧ sp_kp G C C' ∧ ∀ post : SX → Prop, post (sp_X h w pc' 0 r' c' pen' pd' ins tp bo gr gc gp gpd C' G P') → wpX_eraseTail post (sp_X h w pc 0 r c pen pd ins tp bo gr gc gp gpd C G P) (nI y) := by
  have b1 := ar_bw96 hy h8 w12
  have b2 := ar_bw (w := w) hy
  obtain ⟨m, hm1, hm2, hm3⟩ := hG (y * w + w - 1) (by omega)
  have e1 : nI (y * w) + nI w - 1 = nI (y * w + w - 1) := by rw [nI_add, ar_dec (by omega)]
  have e2 : G (nI (y * w) + nI w - 1).toNatClampNeg = nI m := by rw [e1, nI_clamp (by omega)]; exact hm3
  by_cases q : m / 8 = 32
  · obtain ⟨s', q', h1, h2, h3, H47⟩ := xl_et47 (h := h) (w := w) (pc := pc) (st := 0) (r := r) (c := c) (pen := pen) (pd := pd) (ins := ins) (tp := tp) (bo := bo) (gr := gr) (gc := gc) (gp := gp) (gpd := gpd) (C := C) (G := G) (P := P) (y := y) (R := y * w) (m := m) b1 w12 hm2 w (w + 1) w 0 (Nat.le_refl _) (by omega) (by omega) (fun j h1 h2 => absurd h1 (by omega)) (Or.inl ⟨rfl, rfl⟩)
    obtain ⟨pc', P', r', c', pen', pd', C', hg, hk, H⟩ := xl_et91 (h := h) (w := w) (pc := pc) (r := r) (c := c) (pen := pen) (pd := pd) (ins := ins) (tp := tp) (bo := bo) (gr := gr) (gc := gc) (gp := gp) (gpd := gpd) (C := C) (G := G) (P := P) (y := y) (m := m) (s := s') (q := q') hr hc ht hb h8 w12 hpen hpd hpc hy q h1 h3
    refine ⟨pc', P', r', c', pen', pd', C', hg, hk, fun post hp => ?_⟩
    refine nm_r (pk_mul y w) (And.intro (pk_in (y * w + w - 1) 96 (by omega) e1) (nm_r e2 ?_))
    refine br_t (by rw [ar_shr hm2, q]; rfl) (nm_r (ar_neg1 _) ⟨w + 1, H47 post (H post hp)⟩)
  · refine ⟨pc, P, r, c, pen, pd, C, ⟨hr, hc, hpen, hpd, hpc⟩, fun _ h => h, fun post hp => ?_⟩
    refine nm_r (pk_mul y w) (And.intro (pk_in (y * w + w - 1) 96 (by omega) e1) (nm_r e2 ?_))
    refine br_f (fun z => q ?_) hp
    rw [ar_shr hm2] at z
    exact (nI_eq (b := 32) (by omega) (by omega)).mp z
theorem xl_rr7 {y : Nat} (ht : tp ≤ bo) (hb : bo < h) (h8 : h ≤ 8) (w12 : w ≤ 12) (hy : y < h) (hG : ∀ i, i < h * w → sp_ok (G i)) : ∀ d x n r c pen pd pc (P C : Nat → Int32), x + d = w → d < n → sp_pg h w r c pen pd → ∃ pc' P' r' c' pen' pd' C', sp_pg h w r' c' pen' pd' ∧ sp_kp G C C' ∧ (∀ j, x ≤ j → j < w → C' (y * w + j) = G (y * w + j)) ∧ ∀ post : SX → Prop, post (sp_X h w pc' 0 r' c' pen' pd' 0 tp bo gr gc gp gpd C' G P') → wX_repairRow_7 post (nI y) n (nI x) (nI h) (nI w) (nI pc) (nI 0) (nI r) (nI c) (nI pen) (nI pd) (nI 0) (nI tp) (nI bo) (nI gr) (nI gc) (nI gp) (nI gpd) C G P := by
  intro d
  induction d with
  | zero =>
    intro x n r c pen pd pc P C e hn hg
    obtain ⟨n, rfl⟩ : ∃ m, n = m + 1 := ⟨n - 1, by omega⟩
    refine ⟨pc, P, r, c, pen, pd, C, hg, fun _ h => h, fun j h1 h2 => absurd h1 (by omega), fun post hp => ?_⟩
    exact pk_le w x (fun _ => hp) (fun z => absurd z (by omega))
  | succ d ih =>
    intro x n r c pen pd pc P C e hn hg
    obtain ⟨n, rfl⟩ : ∃ m, n = m + 1 := ⟨n - 1, by omega⟩
    have b1 := ar_ix96 hy (show x < w by omega) h8 w12
    have b2 := ar_ix hy (show x < w by omega)
    have e1 : nI y * nI w + nI x = nI (y * w + x) := by rw [pk_mul, nI_add]
    have e2 : (nI y * nI w + nI x).toNatClampNeg = y * w + x := by rw [e1, nI_clamp (by omega)]
    by_cases q : C (y * w + x) = G (y * w + x)
    · obtain ⟨pc', P', r', c', pen', pd', C', hg', hk', hr', H⟩ := ih (x + 1) n r c pen pd pc P C (by omega) (by omega) hg
      refine ⟨pc', P', r', c', pen', pd', C', hg', hk', ?_, fun post hp => ?_⟩
      · intro j h1 h2
        rcases Nat.lt_or_ge x j with z | z
        · exact hr' j (by omega) h2
        · have : j = x := by omega
          subst this
          exact hk' _ q
      · refine pk_le w x (fun z => absurd z (by omega)) (fun _ => And.intro (pk_in (y * w + x) 96 b1 e1) (And.intro (pk_in (y * w + x) 96 b1 e1) (br_t (by rw [e2]; exact q) (nm_r (nI_1 x) (H post hp)))))
    · obtain ⟨hr, hc, hpen, hpd, hpc⟩ := hg
      obtain ⟨m, hm1, hm2, hm3⟩ := hG (y * w + x) b2
      obtain ⟨pc1, P1, H1⟩ := xp_put (h := h) (w := w) (pc := pc) (r := r) (c := c) (pen := pen) (pd := pd) (tp := tp) (bo := bo) (gr := gr) (gc := gc) (gp := gp) (gpd := gpd) (C := C) (G := G) (P := P) (y := y) (x := x) (m := m) hr hc ht hb h8 w12 hpen hpd hpc hy (by omega) hm1 hm2 hm3
      have hg1 : sp_pg h w y (sp_c2 w x) (m % 8) (sp_p2 w x) := by
        unfold sp_c2 sp_p2
        by_cases z : x = w - 1
        · rw [if_pos z, if_pos z]; exact ⟨hy, by omega, by omega, by omega, by omega⟩
        · rw [if_neg z, if_neg z]; exact ⟨hy, by omega, by omega, by omega, by omega⟩
      obtain ⟨pc', P', r', c', pen', pd', C', hg', hk', hr', H⟩ := ih (x + 1) n y (sp_c2 w x) (m % 8) (sp_p2 w x) pc1 P1 (upd C (y * w + x) (G (y * w + x))) (by omega) (by omega) hg1
      have hk1 : sp_kp G C (upd C (y * w + x) (G (y * w + x))) := by
        intro i hi
        by_cases z : i = y * w + x
        · subst z; exact pk_us
        · rw [pk_un z]; exact hi
      refine ⟨pc', P', r', c', pen', pd', C', hg', fun i hi => hk' i (hk1 i hi), ?_, fun post hp => ?_⟩
      · intro j h1 h2
        rcases Nat.lt_or_ge x j with z | z
        · exact hr' j (by omega) h2
        · have : j = x := by omega
          subst this
          exact hk' _ pk_us
      · refine pk_le w x (fun z => absurd z (by omega)) (fun _ => And.intro (pk_in (y * w + x) 96 b1 e1) (And.intro (pk_in (y * w + x) 96 b1 e1) (br_f (by rw [e2]; exact q) ?_)))
        exact H1 _ (nm_r (nI_1 x) (H post hp))
theorem xp_row {y : Nat} (ht : tp ≤ bo) (hb : bo < h) (h8 : h ≤ 8) (w12 : w ≤ 12) (hy : y < h) (hG : ∀ i, i < h * w → sp_ok (G i)) (hg : sp_pg h w r c pen pd) : ∃ pc' P' r' c' pen' pd' C', sp_pg h w r' c' pen' pd' ∧ sp_kp G C C' ∧ (∀ j, j < w → C' (y * w + j) = G (y * w + j)) ∧ ∀ post : SX → Prop, post (sp_X h w pc' 0 r' c' pen' pd' 0 tp bo gr gc gp gpd C' G P') → wpX_repairRow post (sp_X h w pc 0 r c pen pd 0 tp bo gr gc gp gpd C G P) (nI y) := by
  obtain ⟨hr, hc, hpen, hpd, hpc⟩ := hg
  obtain ⟨pc1, P1, r1, c1, pen1, pd1, C1, hg1, hk1, H1⟩ := xp_tail (h := h) (w := w) (pc := pc) (r := r) (c := c) (pen := pen) (pd := pd) (ins := 0) (tp := tp) (bo := bo) (gr := gr) (gc := gc) (gp := gp) (gpd := gpd) (C := C) (G := G) (P := P) (y := y) hr hc ht hb h8 w12 hpen hpd hpc hy hG
  obtain ⟨pc2, P2, r2, c2, pen2, pd2, C2, hg2, hk2, hr2, H2⟩ := xl_rr7 (h := h) (w := w) (tp := tp) (bo := bo) (gr := gr) (gc := gc) (gp := gp) (gpd := gpd) (G := G) (y := y) ht hb h8 w12 hy hG w 0 (w + 1) r1 c1 pen1 pd1 pc1 P1 C1 (by omega) (by omega) hg1
  refine ⟨pc2, P2, r2, c2, pen2, pd2, C2, hg2, fun i hi => hk2 i (hk1 i hi), fun j hj => hr2 j (by omega) hj, fun post hp => ?_⟩
  unfold wpX_repairRow
  exact H1 _ ⟨w + 1, H2 post hp⟩
end
end
section
/-! the component: differing, the scroll toward the goal, patch -/
def sp_cn (C G : Nat → Int32) : Nat → Nat
  | 0 => 0
  | n + 1 => sp_cn C G n + (if C n = G n then 0 else 1)
theorem sp_cn_le (C G : Nat → Int32) : ∀ n, sp_cn C G n ≤ n := by
  intro n
  induction n with
  | zero => exact Nat.le_refl _
  | succ n ih =>
    show sp_cn C G n + (if C n = G n then 0 else 1) ≤ n + 1
    split <;> omega
section
variable {post : SX → Prop} {h w pc st r c pen pd ins tp bo gr gc gp gpd : Nat} {C G P : Nat → Int32}
variable {po : Int32 → Prop}
theorem xl_df4 {N : Nat} (hN : h * w = N) (hN6 : N ≤ 96) (hp : po (nI (sp_cn C G N))) : ∀ d i n, i + d = N → d < n → wX_differing_4 po (nI h) (nI w) (nI pc) (nI st) (nI r) (nI c) (nI pen) (nI pd) (nI ins) (nI tp) (nI bo) (nI gr) (nI gc) (nI gp) (nI gpd) C G P n (nI (sp_cn C G i)) (nI i) := by
  intro d
  induction d with
  | zero =>
    intro i n e hn
    obtain ⟨n, rfl⟩ : ∃ m, n = m + 1 := ⟨n - 1, by omega⟩
    have e2 : i = N := by omega
    subst e2
    exact pk_le i i (fun _ => hp) (fun z => absurd z (by omega)) (by rw [pk_mul, hN])
  | succ d ih =>
    intro i n e hn
    obtain ⟨n, rfl⟩ : ∃ m, n = m + 1 := ⟨n - 1, by omega⟩
    have K := ih (i + 1) n (by omega) (by omega)
    have hc := sp_cn_le C G i
    have e3 : (nI i).toNatClampNeg = i := nI_clamp (by omega)
    refine pk_le N i (fun z => absurd z (by omega)) (fun _ => ?_) (by rw [pk_mul, hN])
    refine And.intro (pk_in i 96 (by omega)) (And.intro (pk_in i 96 (by omega)) ?_)
    have e4 : sp_cn C G (i + 1) = sp_cn C G i + (if C i = G i then 0 else 1) := rfl
    refine br_c (fun q => ?_) (fun q => ?_)
    · rw [e3] at q
      rw [e4, if_pos q] at K
      exact nm_r (nI_1 i) K
    · rw [e3] at q
      rw [e4, if_neg q] at K
      exact nm_r (nI_1 _) (nm_r (nI_1 i) K)
theorem xm_differing (h8 : h ≤ 8) (w12 : w ≤ 12) (hp : po (nI (sp_cn C G (h * w)))) : wpX_differing po (sp_X h w pc st r c pen pd ins tp bo gr gc gp gpd C G P) :=
  ⟨h * w + 1, xl_df4 rfl (ar_hw h8 w12) hp (h * w) 0 (h * w + 1) (by omega) (by omega)⟩
theorem xl_ma90 {i : Nat} {x1 x2 x3 x4 z0 : Int32} (hi : i < 96) : ∃ x4', ∀ (po : Int32 → Prop) (J : Int32 → Int32 → Prop), J x4' (nI (i + 1)) → wX_matches_90 po J x1 x2 x3 x4 (nI i) z0 (nI h) (nI w) (nI pc) (nI st) (nI r) (nI c) (nI pen) (nI pd) (nI ins) (nI tp) (nI bo) (nI gr) (nI gc) (nI gp) (nI gpd) C G P := by
  by_cases q : z0 = G (nI i).toNatClampNeg
  · exact ⟨x4 + 1, fun po J H => And.intro (pk_in i 96 hi) (br_t q (nm_e (nm_r (nI_1 i) H)))⟩
  · exact ⟨x4, fun po J H => And.intro (pk_in i 96 hi) (br_f q (nm_r (nI_1 i) H))⟩
theorem xl_ma31 {low high : Nat} {x1 : Int32} (hhi : high ≤ 96) (hlo : low ≤ high) : ∀ d i n x4, i + d = high → d < n → ∃ v : Int32, ∀ po : Int32 → Prop, po v → wX_matches_31 po x1 (nI low) (nI high) (nI h) (nI w) (nI pc) (nI st) (nI r) (nI c) (nI pen) (nI pd) (nI ins) (nI tp) (nI bo) (nI gr) (nI gc) (nI gp) (nI gpd) C G P n x4 (nI i) := by
  intro d
  induction d with
  | zero =>
    intro i n x4 e hn
    obtain ⟨n, rfl⟩ : ∃ m, n = m + 1 := ⟨n - 1, by omega⟩
    exact ⟨x4, fun po hp => pk_le high i (fun _ => hp) (fun z => absurd z (by omega))⟩
  | succ d ih =>
    intro i n x4 e hn
    obtain ⟨n, rfl⟩ : ∃ m, n = m + 1 := ⟨n - 1, by omega⟩
    by_cases q : nI i + x1 * nI w < nI low
    · obtain ⟨x4', H9⟩ := xl_ma90 (h := h) (w := w) (pc := pc) (st := st) (r := r) (c := c) (pen := pen) (pd := pd) (ins := ins) (tp := tp) (bo := bo) (gr := gr) (gc := gc) (gp := gp) (gpd := gpd) (C := C) (G := G) (P := P) (i := i) (x1 := x1) (x2 := nI low) (x3 := nI high) (x4 := x4) (z0 := 256 + nI pen) (by omega)
      obtain ⟨v, H⟩ := ih (i + 1) n x4' (by omega) (by omega)
      refine ⟨v, fun po hp => pk_le high i (fun z => absurd z (by omega)) (fun _ => nm_e (br_t q ?_))⟩
      unfold wX_matches_64 wX_matches_65
      exact br_t rfl (H9 po _ (H po hp))
    · by_cases q2 : nI high ≤ nI i + x1 * nI w
      · obtain ⟨x4', H9⟩ := xl_ma90 (h := h) (w := w) (pc := pc) (st := st) (r := r) (c := c) (pen := pen) (pd := pd) (ins := ins) (tp := tp) (bo := bo) (gr := gr) (gc := gc) (gp := gp) (gpd := gpd) (C := C) (G := G) (P := P) (i := i) (x1 := x1) (x2 := nI low) (x3 := nI high) (x4 := x4) (z0 := 256 + nI pen) (by omega)
        obtain ⟨v, H⟩ := ih (i + 1) n x4' (by omega) (by omega)
        refine ⟨v, fun po hp => pk_le high i (fun z => absurd z (by omega)) (fun _ => nm_e (br_f q (br_t q2 ?_)))⟩
        unfold wX_matches_64 wX_matches_65
        exact br_t rfl (H9 po _ (H po hp))
      · have hin : vp_in (nI i + x1 * nI w) 96 := by
          generalize nI i + x1 * nI w = s at *
          rw [Int32.lt_iff_toInt_lt, nI_toInt (by omega)] at q
          rw [Int32.le_iff_toInt_le, nI_toInt (by omega)] at q2
          rw [vp_in_iff]
          omega
        obtain ⟨x4', H9⟩ := xl_ma90 (h := h) (w := w) (pc := pc) (st := st) (r := r) (c := c) (pen := pen) (pd := pd) (ins := ins) (tp := tp) (bo := bo) (gr := gr) (gc := gc) (gp := gp) (gpd := gpd) (C := C) (G := G) (P := P) (i := i) (x1 := x1) (x2 := nI low) (x3 := nI high) (x4 := x4) (z0 := C (nI i + x1 * nI w).toNatClampNeg) (by omega)
        obtain ⟨v, H⟩ := ih (i + 1) n x4' (by omega) (by omega)
        refine ⟨v, fun po hp => pk_le high i (fun z => absurd z (by omega)) (fun _ => nm_e (br_f q (br_f q2 ?_)))⟩
        unfold wX_matches_65
        exact br_f (by decide) (And.intro hin (H9 po _ (H po hp)))
theorem xp_matches {x1 : Int32} (ht : tp ≤ bo) (hb : bo < h) (h8 : h ≤ 8) (w12 : w ≤ 12) : ∃ v : Int32, ∀ po : Int32 → Prop, po v → wpX_matches po (sp_X h w pc st r c pen pd ins tp bo gr gc gp gpd C G P) x1 := by
  have b1 := ar_bw96 hb h8 w12
  have b2 := ar_aw (w := w) ht
  obtain ⟨v, H⟩ := xl_ma31 (h := h) (w := w) (pc := pc) (st := st) (r := r) (c := c) (pen := pen) (pd := pd) (ins := ins) (tp := tp) (bo := bo) (gr := gr) (gc := gc) (gp := gp) (gpd := gpd) (C := C) (G := G) (P := P) (low := tp * w) (high := bo * w + w) (x1 := x1) b1 (by omega) (bo * w + w - tp * w) (tp * w) (bo * w + w - tp * w + 1) 0 (by omega) (by omega)
  exact ⟨v, fun po hp => nm_r (pk_mul tp w) (nm_r (e' := nI (bo * w + w)) (by rw [pk_mul, nI_add]) ⟨_, H po hp⟩)⟩
theorem ar_s1 (j s : Nat) : nI j - nI s + 1 = nI (j + 1) - nI s := by
  rw [nI_succ]
  generalize nI j = a
  generalize nI s = b
  grind
theorem xl_sg24 {s : Nat} (ht : tp ≤ bo) (hb : bo < h) (h8 : h ≤ 8) (hw : 0 < w) (w12 : w ≤ 12) (hs : s ≤ 8) : ∀ d j n b x2, j + d = 2 * s + 1 → b ≤ 2 * s → d < n → ∃ pc' P' C', ∀ post : SX → Prop, post (sp_X h w pc' 0 r c pen pd ins tp bo gr gc gp gpd C' G P') → wX_scrollTowardGoal_24 post (nI s) (nI h) (nI w) (nI pc) (nI 0) (nI r) (nI c) (nI pen) (nI pd) (nI ins) (nI tp) (nI bo) (nI gr) (nI gc) (nI gp) (nI gpd) C G P n (nI b - nI s) x2 (nI j - nI s) := by
  have h0 : (0 : Int32).toInt = 0 := by decide
  intro d
  induction d with
  | zero =>
    intro j n b x2 e hb2 hn
    obtain ⟨n, rfl⟩ : ∃ m, n = m + 1 := ⟨n - 1, by omega⟩
    have hx : nI s < nI j - nI s := by
      rw [Int32.lt_iff_toInt_lt, nI_toInt (by omega), pk_sub_toInt (by omega) (by omega)]
      omega
    rcases Nat.lt_trichotomy b s with z | z | z
    · refine ⟨1, upd P 0 (nI (if s - b = 1 then 0 else s - b)), sp_sd w tp bo (s - b) pen C, fun post hp => ?_⟩
      refine br_t hx (br_t ?_ (br_f ?_ ?_))
      · rw [Int32.le_iff_toInt_le, pk_sub_toInt (by omega) (by omega), h0]; omega
      · rw [Int32.le_iff_toInt_le, pk_sub_toInt (by omega) (by omega), h0]; omega
      · rw [ar_nsubn (by omega)]
        exact xp_jT (d := s - b) h8 hw w12 hb ht (by omega) (by omega) hp
    · refine ⟨pc, P, C, fun post hp => ?_⟩
      refine br_t hx (br_t ?_ (br_t ?_ hp))
      · rw [Int32.le_iff_toInt_le, pk_sub_toInt (by omega) (by omega), h0]; omega
      · rw [Int32.le_iff_toInt_le, pk_sub_toInt (by omega) (by omega), h0]; omega
    · refine ⟨1, upd P 0 (nI (if b - s = 1 then 0 else b - s)), sp_su w tp bo (b - s) pen C, fun post hp => ?_⟩
      refine br_t hx (br_f ?_ ?_)
      · rw [Int32.le_iff_toInt_le, pk_sub_toInt (by omega) (by omega), h0]; omega
      · rw [pk_sub (show s ≤ b by omega)]
        exact xp_jS (d := b - s) h8 hw w12 hb ht (by omega) (by omega) hp
  | succ d ih =>
    intro j n b x2 e hb2 hn
    obtain ⟨n, rfl⟩ : ∃ m, n = m + 1 := ⟨n - 1, by omega⟩
    have hx : ¬ nI s < nI j - nI s := by
      rw [Int32.lt_iff_toInt_lt, nI_toInt (by omega), pk_sub_toInt (by omega) (by omega)]
      omega
    obtain ⟨v, Hv⟩ := xp_matches (h := h) (w := w) (pc := pc) (st := 0) (r := r) (c := c) (pen := pen) (pd := pd) (ins := ins) (tp := tp) (bo := bo) (gr := gr) (gc := gc) (gp := gp) (gpd := gpd) (C := C) (G := G) (P := P) (x1 := nI j - nI s) ht hb h8 w12
    by_cases q : v ≤ x2
    · obtain ⟨pc', P', C', H⟩ := ih (j + 1) n b x2 (by omega) hb2 (by omega)
      refine ⟨pc', P', C', fun post hp => br_f hx (Hv _ (br_t q (nm_r (ar_s1 j s) (H post hp))))⟩
    · obtain ⟨pc', P', C', H⟩ := ih (j + 1) n j v (by omega) (by omega) (by omega)
      refine ⟨pc', P', C', fun post hp => br_f hx (Hv _ (br_f q (nm_r (ar_s1 j s) (H post hp))))⟩
theorem xp_stg (ht : tp ≤ bo) (hb : bo < h) (h8 : h ≤ 8) (hw : 0 < w) (w12 : w ≤ 12) : ∃ pc' P' C', ∀ post : SX → Prop, post (sp_X h w pc' 0 r c pen pd ins tp bo gr gc gp gpd C' G P') → wpX_scrollTowardGoal post (sp_X h w pc 0 r c pen pd ins tp bo gr gc gp gpd C G P) := by
  obtain ⟨v, Hv⟩ := xp_matches (h := h) (w := w) (pc := pc) (st := 0) (r := r) (c := c) (pen := pen) (pd := pd) (ins := ins) (tp := tp) (bo := bo) (gr := gr) (gc := gc) (gp := gp) (gpd := gpd) (C := C) (G := G) (P := P) (x1 := 0) ht hb h8 w12
  obtain ⟨pc', P', C', H⟩ := xl_sg24 (h := h) (w := w) (pc := pc) (r := r) (c := c) (pen := pen) (pd := pd) (ins := ins) (tp := tp) (bo := bo) (gr := gr) (gc := gc) (gp := gp) (gpd := gpd) (C := C) (G := G) (P := P) (s := bo - tp) ht hb h8 hw w12 (by omega) (2 * (bo - tp) + 1) 0 (2 * (bo - tp) + 2) (bo - tp) (4 + v) (by omega) (by omega) (by omega)
  refine ⟨pc', P', C', fun post hp => ?_⟩
  unfold wpX_scrollTowardGoal
  refine Hv _ (nm_e (nm_r (pk_sub ht) (nm_r (e' := nI 0 - nI (bo - tp)) ?_ ⟨2 * (bo - tp) + 2, ?_⟩)))
  · show -nI (bo - tp) = 0 - nI (bo - tp)
    rw [Int32.zero_sub]
  · have K := H post hp
    rw [show nI (bo - tp) - nI (bo - tp) = 0 from by rw [pk_sub (Nat.le_refl _), Nat.sub_self]; rfl] at K
    exact K
theorem xp_settle (ht : tp ≤ bo) (hb : bo < h) (h8 : h ≤ 8) (w12 : w ≤ 12) (hG : ∀ i, i < h * w → sp_ok (G i)) (hg : sp_pg h w r c pen pd) (hgr : gr < h) (hgc : gc < w) (hgp : gp < 8) (hgd : gpd < 2) (hgw : gpd = 1 → gc + 1 = w) : ∃ pc' P' C', sp_kp G C C' ∧ ∀ post : SX → Prop, post (sp_X h w pc' 0 gr gc gp gpd 0 tp bo gr gc gp gpd C' G P') → wpX_settleCursor post (sp_X h w pc 0 r c pen pd 0 tp bo gr gc gp gpd C G P) := by
  obtain ⟨hr, hc, hpen, hpd, hpc⟩ := hg
  by_cases q : gpd = 0
  · subst q
    obtain ⟨pc1, P1, H1⟩ := xp_to (h := h) (w := w) (pc := pc) (r := r) (c := c) (pen := pen) (pd := pd) (ins := 0) (tp := tp) (bo := bo) (gr := gr) (gc := gc) (gp := gp) (gpd := 0) (C := C) (G := G) (P := P) (y := gr) (x := gc) hr hc ht hb h8 w12 hgr hgc hpd hpc
    obtain ⟨pc2, P2, H2⟩ := xp_pen (h := h) (w := w) (pc := pc1) (r := gr) (c := gc) (pen := pen) (pd := 0) (ins := 0) (tp := tp) (bo := bo) (gr := gr) (gc := gc) (gp := gp) (gpd := 0) (C := C) (G := G) (P := P1) (a := gp) hgp hpen
    exact ⟨pc2, P2, C, fun _ h => h, fun post hp => br_t (by decide) (H1 _ (H2 _ hp))⟩
  · have q1 : gpd = 1 := by omega
    subst q1
    have hgw2 := hgw rfl
    by_cases q2 : pd = 0 ∨ r ≠ gr
    · have b2 := ar_ix hgr hgc
      obtain ⟨m, hm1, hm2, hm3⟩ := hG (gr * w + gc) b2
      obtain ⟨pc1, P1, H1⟩ := xp_put (h := h) (w := w) (pc := pc) (r := r) (c := c) (pen := pen) (pd := pd) (tp := tp) (bo := bo) (gr := gr) (gc := gc) (gp := gp) (gpd := 1) (C := C) (G := G) (P := P) (y := gr) (x := gc) (m := m) hr hc ht hb h8 w12 hpen hpd hpc hgr hgc hm1 hm2 hm3
      have e1 : sp_c2 w gc = gc := if_pos (by omega)
      have e2 : sp_p2 w gc = 1 := if_pos (by omega)
      rw [e1, e2] at H1
      obtain ⟨pc2, P2, H2⟩ := xp_pen (h := h) (w := w) (pc := pc1) (r := gr) (c := gc) (pen := m % 8) (pd := 1) (ins := 0) (tp := tp) (bo := bo) (gr := gr) (gc := gc) (gp := gp) (gpd := 1) (C := upd C (gr * w + gc) (G (gr * w + gc))) (G := G) (P := P1) (a := gp) hgp (by omega)
      refine ⟨pc2, P2, upd C (gr * w + gc) (G (gr * w + gc)), ?_, fun post hp => ?_⟩
      · intro i hi
        by_cases z : i = gr * w + gc
        · subst z; exact pk_us
        · rw [pk_un z]; exact hi
      · have K : wX_settleCursor_40 post (nI h) (nI w) (nI pc) (nI 0) (nI r) (nI c) (nI pen) (nI pd) (nI 0) (nI tp) (nI bo) (nI gr) (nI gc) (nI gp) (nI 1) C G P := by
          unfold wX_settleCursor_40
          exact H1 _ (H2 _ hp)
        refine br_f (by decide) (pk_eq pd 0 (fun _ => K) (fun z => pk_eq r gr (fun z2 => absurd q2 (by omega)) (fun _ => K)))
    · have e1 : pd = 1 := by omega
      have e2 : r = gr := by omega
      subst e1 e2
      have e3 : c = gc := by have := hpc rfl; omega
      subst e3
      obtain ⟨pc2, P2, H2⟩ := xp_pen (h := h) (w := w) (pc := pc) (r := r) (c := c) (pen := pen) (pd := 1) (ins := 0) (tp := tp) (bo := bo) (gr := r) (gc := c) (gp := gp) (gpd := 1) (C := C) (G := G) (P := P) (a := gp) hgp hpen
      refine ⟨pc2, P2, C, fun _ h => h, fun post hp => ?_⟩
      refine br_f (by decide) (br_f (by decide) (pk_eq r r (fun _ => ?_) (fun z => absurd rfl z)))
      unfold wX_settleCursor_52
      exact H2 _ hp
theorem xl_pa33 {x1 x2 : Int32} (ht : tp ≤ bo) (hb : bo < h) (h8 : h ≤ 8) (w12 : w ≤ 12) (hG : ∀ i, i < h * w → sp_ok (G i)) : ∀ d i r c pen pd pc (P C : Nat → Int32), i + d = h → sp_pg h w r c pen pd → (∀ y j, y < i → j < w → C (y * w + j) = G (y * w + j)) → ∃ pc' P' r' c' pen' pd' C', sp_pg h w r' c' pen' pd' ∧ (∀ y j, y < h → j < w → C' (y * w + j) = G (y * w + j)) ∧ ∀ post : Int32 → SX → Prop, wX_patch_33 post x1 x2 1 (nI h) (nI h) (nI w) (nI pc') (nI 0) (nI r') (nI c') (nI pen') (nI pd') (nI 0) (nI tp) (nI bo) (nI gr) (nI gc) (nI gp) (nI gpd) C' G P' → wX_patch_33 post x1 x2 (d + 1) (nI i) (nI h) (nI w) (nI pc) (nI 0) (nI r) (nI c) (nI pen) (nI pd) (nI 0) (nI tp) (nI bo) (nI gr) (nI gc) (nI gp) (nI gpd) C G P := by
  intro d
  induction d with
  | zero =>
    intro i r c pen pd pc P C e hg hC
    have e2 : i = h := by omega
    subst e2
    exact ⟨pc, P, r, c, pen, pd, C, hg, hC, fun post H => H⟩
  | succ d ih =>
    intro i r c pen pd pc P C e hg hC
    obtain ⟨pc1, P1, r1, c1, pen1, pd1, C1, hg1, hk1, hr1, H1⟩ := xp_row (h := h) (w := w) (pc := pc) (r := r) (c := c) (pen := pen) (pd := pd) (tp := tp) (bo := bo) (gr := gr) (gc := gc) (gp := gp) (gpd := gpd) (C := C) (G := G) (P := P) (y := i) ht hb h8 w12 (by omega) hG hg
    obtain ⟨pc2, P2, r2, c2, pen2, pd2, C2, hg2, hC2, H2⟩ := ih (i + 1) r1 c1 pen1 pd1 pc1 P1 C1 (by omega) hg1 (by
      intro y j hy hj
      rcases Nat.lt_or_ge y i with z | z
      · exact hk1 _ (hC y j z hj)
      · have : y = i := by omega
        subst this
        exact hr1 j hj)
    refine ⟨pc2, P2, r2, c2, pen2, pd2, C2, hg2, hC2, fun post H => ?_⟩
    refine pk_le h i (fun z => absurd z (by omega)) (fun _ => ?_)
    exact H1 _ (nm_r (nI_1 i) (H2 post H))
theorem xl_pa27 {x1 : Int32} {i0 : Nat} (hi0 : i0 < 2) (ht : tp ≤ bo) (hb : bo < h) (h8 : h ≤ 8) (w12 : w ≤ 12) (hG : ∀ i, i < h * w → sp_ok (G i)) (hg : sp_pg h w r c pen pd) (hgr : gr < h) (hgc : gc < w) (hgp : gp < 8) (hgd : gpd < 2) (hgw : gpd = 1 → gc + 1 = w) : ∃ pc' P' C', (∀ y j, y < h → j < w → C' (y * w + j) = G (y * w + j)) ∧ ∀ post : Int32 → SX → Prop, post x1 (sp_X h w pc' 0 gr gc gp gpd i0 tp bo gr gc gp gpd C' G P') → wX_patch_27 post x1 (nI i0) (nI h) (nI w) (nI pc) (nI 0) (nI r) (nI c) (nI pen) (nI pd) (nI 0) (nI tp) (nI bo) (nI gr) (nI gc) (nI gp) (nI gpd) C G P := by
  have hw : 0 < w := by omega
  obtain ⟨pc1, P1, C1, H1⟩ := xp_stg (h := h) (w := w) (pc := pc) (r := r) (c := c) (pen := pen) (pd := pd) (ins := 0) (tp := tp) (bo := bo) (gr := gr) (gc := gc) (gp := gp) (gpd := gpd) (C := C) (G := G) (P := P) ht hb h8 hw w12
  obtain ⟨pc2, P2, r2, c2, pen2, pd2, C2, hg2, hC2, H2⟩ := xl_pa33 (h := h) (w := w) (tp := tp) (bo := bo) (gr := gr) (gc := gc) (gp := gp) (gpd := gpd) (G := G) (x1 := x1) (x2 := nI i0) ht hb h8 w12 hG h 0 r c pen pd pc1 P1 C1 (by omega) hg (fun y j hy _ => absurd hy (by omega))
  obtain ⟨pc3, P3, C3, hk3, H3⟩ := xp_settle (h := h) (w := w) (pc := pc2) (r := r2) (c := c2) (pen := pen2) (pd := pd2) (tp := tp) (bo := bo) (gr := gr) (gc := gc) (gp := gp) (gpd := gpd) (C := C2) (G := G) (P := P2) ht hb h8 w12 hG hg2 hgr hgc hgp hgd hgw
  by_cases q : i0 = 0
  · subst q
    refine ⟨pc3, P3, C3, fun y j hy hj => hk3 _ (hC2 y j hy hj), fun post hp => ?_⟩
    unfold wX_patch_27
    refine H1 _ ⟨_, H2 post ?_⟩
    refine pk_le h h (fun _ => ?_) (fun z => absurd z (by omega))
    exact H3 _ (br_t rfl hp)
  · have q1 : i0 = 1 := by omega
    subst q1
    refine ⟨1, upd P3 0 (nI 4), C3, fun y j hy hj => hk3 _ (hC2 y j hy hj), fun post hp => ?_⟩
    unfold wX_patch_27
    refine H1 _ ⟨_, H2 post ?_⟩
    refine pk_le h h (fun _ => ?_) (fun z => absurd z (by omega))
    refine H3 _ (br_f (by decide) ?_)
    exact xp_csi (n := 4) (b := 104) (by omega) (by omega) (by omega) (fun po hpo => xm_cmd (p := 4) (q := 0) pk_us (by omega) (Or.inl ⟨by omega, rfl⟩) (by omega) (xc_h (ins := 0) (by omega) (by omega) hpo)) hp
theorem xp_patch (hi : ins < 2) (ht : tp ≤ bo) (hb : bo < h) (h8 : h ≤ 8) (w12 : w ≤ 12) (hG : ∀ i, i < h * w → sp_ok (G i)) (hg : sp_pg h w r c pen pd) (hgr : gr < h) (hgc : gc < w) (hgp : gp < 8) (hgd : gpd < 2) (hgw : gpd = 1 → gc + 1 = w) : ∃ pc' P' C', (∀ y j, y < h → j < w → C' (y * w + j) = G (y * w + j)) ∧ ∀ post : Int32 → SX → Prop, post (nI (sp_cn C G (h * w))) (sp_X h w pc' 0 gr gc gp gpd ins tp bo gr gc gp gpd C' G P') → wpX_patch post (sp_X h w pc st r c pen pd ins tp bo gr gc gp gpd C G P) := by
  by_cases q : ins = 0
  · subst q
    obtain ⟨pc1, P1, C1, hC1, H1⟩ := xl_pa27 (h := h) (w := w) (pc := pc) (r := r) (c := c) (pen := pen) (pd := pd) (tp := tp) (bo := bo) (gr := gr) (gc := gc) (gp := gp) (gpd := gpd) (C := C) (G := G) (P := P) (x1 := nI (sp_cn C G (h * w))) (i0 := 0) hi ht hb h8 w12 hG hg hgr hgc hgp hgd hgw
    refine ⟨pc1, P1, C1, hC1, fun post hp => ?_⟩
    unfold wpX_patch
    refine xm_differing h8 w12 ?_
    refine xt_24 ?_
    exact br_t rfl (H1 post hp)
  · have q1 : ins = 1 := by omega
    subst q1
    obtain ⟨pc1, P1, C1, hC1, H1⟩ := xl_pa27 (h := h) (w := w) (pc := 1) (r := r) (c := c) (pen := pen) (pd := pd) (tp := tp) (bo := bo) (gr := gr) (gc := gc) (gp := gp) (gpd := gpd) (C := C) (G := G) (P := upd P 0 (nI 4)) (x1 := nI (sp_cn C G (h * w))) (i0 := 1) hi ht hb h8 w12 hG hg hgr hgc hgp hgd hgw
    refine ⟨pc1, P1, C1, hC1, fun post hp => ?_⟩
    unfold wpX_patch
    refine xm_differing h8 w12 ?_
    refine xt_24 ?_
    refine br_f (by decide) ?_
    exact xp_csi (n := 4) (b := 108) (by omega) (by omega) (by omega) (fun po hpo => xm_cmd (p := 4) (q := 0) pk_us (by omega) (Or.inl ⟨by omega, rfl⟩) (by omega) (xc_l (ins := 1) (by omega) (by omega) hpo)) (H1 post hp)
end
end
section
/-! the reference's operations -/
/-- columns j .. w - 1 of row i are written from S -/
def sp_wr (i j w : Nat) (S : Nat → Int32) (C : Nat → Int32) : Nat → Int32 := fun k => if 12 * i + j ≤ k ∧ k < 12 * i + w then S (k - 12 * i) else C k
/-- rows i .. z are written from S -/
def sp_yr (i z w : Nat) (S : Nat → Nat → Int32) (C : Nat → Int32) : Nat → Int32 := fun k => if i ≤ k / 12 ∧ k / 12 ≤ z ∧ k % 12 < w then S (k / 12) (k % 12) else C k
theorem sp_wr_0 {i w : Nat} {S C : Nat → Int32} : sp_wr i w w S C = C := by
  funext k; simp only [sp_wr]; rw [if_neg (by omega)]
theorem sp_wr_1 {i j w : Nat} {S C : Nat → Int32} (hj : j < w) : sp_wr i (j + 1) w S (upd C (12 * i + j) (S j)) = sp_wr i j w S C := by
  funext k; simp only [sp_wr, upd]
  repeat' split
  all_goals first | rfl | omega | (congr 1; omega)
theorem sp_yr_0 {z w : Nat} {S : Nat → Nat → Int32} {C : Nat → Int32} : sp_yr (z + 1) z w S C = C := by
  funext k; simp only [sp_yr]; rw [if_neg (by omega)]
theorem sp_yr_1 {i z w : Nat} {S : Nat → Nat → Int32} {C : Nat → Int32} (hi : i ≤ z) (hw : w ≤ 12) : sp_yr (i + 1) z w S (sp_wr i 0 w (S i) C) = sp_yr i z w S C := by
  funext k; simp only [sp_wr, sp_yr]
  by_cases q : k / 12 = i ∧ k % 12 < w
  · rw [if_neg (by omega), if_pos (by omega), if_pos (by omega), q.1, show k - 12 * i = k % 12 by omega]
  · by_cases q2 : i ≤ k / 12 ∧ k / 12 ≤ z ∧ k % 12 < w
    · rw [if_pos (by omega), if_pos q2]
    · rw [if_neg (by omega), if_neg (by omega), if_neg q2]
section
variable {post : SY → Prop} {h w pc st r c pen tp bo pd ins gr gc gp gpd : Nat} {C G B D P : Nat → Int32}
theorem ym_clamp {po : Int32 → Prop} {u : SY} {x lo hi : Int32} (hp : po (sp_cl x lo hi)) : wpY_clamp po u x lo hi := by
  obtain ⟨a1, a2, a3, a4, a5, a6, a7, a8, a9, a10, a11, a12, a13, a14, a15, a16, a17, a18, a19, a20⟩ := u
  unfold sp_cl at hp
  refine br_c (fun h1 => br_c (fun h2 => ?_) (fun h2 => ?_)) (fun h1 => ?_)
  · rw [if_pos h1, if_pos h2] at hp; exact hp
  · rw [if_pos h1, if_neg h2] at hp; exact hp
  · rw [if_neg h1] at hp; exact hp
theorem ym_move (hh : 0 < h) (h8 : h ≤ 8) (hw : 0 < w) (w12 : w ≤ 12) {x y : Int32}
    (hp : post (sp_Y h w pc st (sp_cz x.toInt (h - 1)) (sp_cz y.toInt (w - 1)) pen tp bo 0 ins gr gc gp gpd C G B D P)) : wpY_move post (sp_Y h w pc st r c pen tp bo pd ins gr gc gp gpd C G B D P) x y := by
  unfold wpY_move
  refine ym_clamp ?_
  refine ym_clamp ?_
  rw [sp_cl0 (m := h - 1) (by omega) (ar_dec hh), sp_cl0 (m := w - 1) (by omega) (ar_dec hw)]
  exact hp
theorem ar_12 (i j : Nat) : (12 : Int32) * nI i + nI j = nI (12 * i + j) := by
  rw [show (12 : Int32) = nI 12 from rfl, pk_mul, nI_add]
theorem yl_sc67a {J : Int32 → (Nat → Int32) → (Nat → Int32) → (Nat → Int32) → (Nat → Int32) → (Nat → Int32) → Prop} {a z i : Nat} {x4 x6 : Int32} (hx : x6 < nI a ∨ nI z < x6) (hi : i < 8) (w12 : w ≤ 12) : ∀ d j n (C : Nat → Int32), j + d = w → d < n → J (nI (i + 1)) (sp_wr i j w (fun _ => nI (256 + pen)) C) G B D P → wY_scroll_67 post J (nI a) (nI z) x4 (nI i) x6 (nI h) (nI w) (nI pc) (nI st) (nI r) (nI c) (nI pen) (nI tp) (nI bo) (nI pd) (nI ins) (nI gr) (nI gc) (nI gp) (nI gpd) n (nI j) C G B D P := by
  intro d
  induction d with
  | zero =>
    intro j n C e hn hp
    obtain ⟨n, rfl⟩ : ∃ m, n = m + 1 := ⟨n - 1, by omega⟩
    have e2 : j = w := by omega
    subst e2
    rw [sp_wr_0] at hp
    exact pk_le j j (fun _ => nm_r (nI_1 i) hp) (fun q => absurd q (by omega))
  | succ d ih =>
    intro j n C e hn hp
    obtain ⟨n, rfl⟩ : ∃ m, n = m + 1 := ⟨n - 1, by omega⟩
    have K : wY_scroll_117 post J (wY_scroll_67 post J (nI a) (nI z) x4 (nI i) x6 (nI h) (nI w) (nI pc) (nI st) (nI r) (nI c) (nI pen) (nI tp) (nI bo) (nI pd) (nI ins) (nI gr) (nI gc) (nI gp) (nI gpd) n) (nI a) (nI z) x4 (nI i) x6 (nI j) (nI h) (nI w) (nI pc) (nI st) (nI r) (nI c) (nI pen) (nI tp) (nI bo) (nI pd) (nI ins) (nI gr) (nI gc) (nI gp) (nI gpd) C G B D P := by
      refine And.intro (pk_in (12 * i + j) 96 (by omega) (ar_12 i j)) (nm_r (e' := upd C (12 * i + j) (nI (256 + pen))) (by rw [ar_12, nI_clamp (by omega), ar_256]) (nm_r (nI_1 j) ?_))
      refine ih (j + 1) n _ (by omega) (by omega) ?_
      have e3 := sp_wr_1 (i := i) (j := j) (w := w) (S := fun _ => nI (256 + pen)) (C := C) (by omega)
      rw [e3]
      exact hp
    refine pk_le w j (fun q => absurd q (by omega)) (fun _ => br_c (fun _ => K) (fun q1 => br_c (fun _ => K) (fun q2 => ?_)))
    exact absurd hx (fun z => z.elim q1 q2)
theorem yl_sc67b {J : Int32 → (Nat → Int32) → (Nat → Int32) → (Nat → Int32) → (Nat → Int32) → (Nat → Int32) → Prop} {a z i f : Nat} {x4 : Int32} (haf : a ≤ f) (hfz : f ≤ z) (hz : z < 8) (hi : i < 8) (w12 : w ≤ 12) : ∀ d j n (C : Nat → Int32), j + d = w → d < n → J (nI (i + 1)) (sp_wr i j w (fun k => B (12 * f + k)) C) G B D P → wY_scroll_67 post J (nI a) (nI z) x4 (nI i) (nI f) (nI h) (nI w) (nI pc) (nI st) (nI r) (nI c) (nI pen) (nI tp) (nI bo) (nI pd) (nI ins) (nI gr) (nI gc) (nI gp) (nI gpd) n (nI j) C G B D P := by
  intro d
  induction d with
  | zero =>
    intro j n C e hn hp
    obtain ⟨n, rfl⟩ : ∃ m, n = m + 1 := ⟨n - 1, by omega⟩
    have e2 : j = w := by omega
    subst e2
    rw [sp_wr_0] at hp
    exact pk_le j j (fun _ => nm_r (nI_1 i) hp) (fun q => absurd q (by omega))
  | succ d ih =>
    intro j n C e hn hp
    obtain ⟨n, rfl⟩ : ∃ m, n = m + 1 := ⟨n - 1, by omega⟩
    refine pk_le w j (fun q => absurd q (by omega)) (fun _ => pk_lt f a (fun q => absurd q (by omega)) (fun _ => pk_lt z f (fun q => absurd q (by omega)) (fun _ => ?_)))
    refine And.intro (pk_in (12 * f + j) 96 (by omega) (ar_12 f j)) (And.intro (pk_in (12 * i + j) 96 (by omega) (ar_12 i j)) (nm_r (e' := upd C (12 * i + j) (B (12 * f + j))) (by rw [ar_12, ar_12, nI_clamp (by omega), nI_clamp (by omega)]) (nm_r (nI_1 j) ?_)))
    refine ih (j + 1) n _ (by omega) (by omega) ?_
    have e3 := sp_wr_1 (i := i) (j := j) (w := w) (S := fun k => B (12 * f + k)) (C := C) (by omega)
    rw [e3]
    exact hp
/-- rows i .. z: each is blank or a row of 'before' -/
theorem yl_sc51 {a z : Nat} {x4 : Int32} {S : Nat → Nat → Int32} (hz : z < 8) (w12 : w ≤ 12)
    (hS : ∀ i, a ≤ i → i ≤ z → ((nI i + x4 < nI a ∨ nI z < nI i + x4) ∧ S i = fun _ => nI (256 + pen)) ∨ (∃ f, a ≤ f ∧ f ≤ z ∧ nI i + x4 = nI f ∧ S i = fun k => B (12 * f + k))) :
    ∀ d i n (C : Nat → Int32), i + d = z + 1 → a ≤ i → d < n → post (sp_Y h w pc st r c pen tp bo pd ins gr gc gp gpd (sp_yr i z w S C) G B D P) → wY_scroll_51 post (nI a) (nI z) x4 (nI h) (nI w) (nI pc) (nI st) (nI r) (nI c) (nI pen) (nI tp) (nI bo) (nI pd) (nI ins) (nI gr) (nI gc) (nI gp) (nI gpd) n (nI i) C G B D P := by
  intro d
  induction d with
  | zero =>
    intro i n C e hai hn hp
    obtain ⟨n, rfl⟩ : ∃ m, n = m + 1 := ⟨n - 1, by omega⟩
    have e2 : i = z + 1 := by omega
    subst e2
    rw [sp_yr_0] at hp
    exact pk_lt z (z + 1) (fun _ => hp) (fun q => absurd q (by omega))
  | succ d ih =>
    intro i n C e hai hn hp
    obtain ⟨n, rfl⟩ : ∃ m, n = m + 1 := ⟨n - 1, by omega⟩
    have K := ih (i + 1) n (sp_wr i 0 w (S i) C) (by omega) (by omega) (by omega)
    rw [sp_yr_1 (by omega) w12] at K
    have K2 := K hp
    refine pk_lt z i (fun q => absurd q (by omega)) (fun _ => ?_)
    rcases hS i hai (by omega) with ⟨hx, hs⟩ | ⟨f, h1, h2, hx, hs⟩
    · rw [hs] at K2
      exact nm_e ⟨w + 1, yl_sc67a hx (by omega) w12 w 0 (w + 1) C (by omega) (by omega) K2⟩
    · rw [hs] at K2
      exact nm_r hx ⟨w + 1, yl_sc67b h1 h2 hz (by omega) w12 w 0 (w + 1) C (by omega) (by omega) K2⟩
theorem yl_sc21 {x1 x2 x4 : Int32} : ∀ d i n (B : Nat → Int32), i + d = 96 → d < n → (∃ n51, wY_scroll_51 post x1 x2 x4 (nI h) (nI w) (nI pc) (nI st) (nI r) (nI c) (nI pen) (nI tp) (nI bo) (nI pd) (nI ins) (nI gr) (nI gc) (nI gp) (nI gpd) n51 x1 C G (sp_cp 96 C (sp_cp i C B)) D P) → wY_scroll_21 post x1 x2 x4 (nI h) (nI w) (nI pc) (nI st) (nI r) (nI c) (nI pen) (nI tp) (nI bo) (nI pd) (nI ins) (nI gr) (nI gc) (nI gp) (nI gpd) n (nI i) C G (sp_cp i C B) D P := by
  intro d
  induction d with
  | zero =>
    intro i n B e hn hp
    obtain ⟨n, rfl⟩ : ∃ m, n = m + 1 := ⟨n - 1, by omega⟩
    have e2 : i = 96 := by omega
    subst e2
    have e3 : sp_cp 96 C (sp_cp 96 C B) = sp_cp 96 C B := by
      funext j; simp only [sp_cp]
      repeat' split
      all_goals rfl
    rw [e3] at hp
    exact br_t (by decide) hp
  | succ d ih =>
    intro i n B e hn hp
    obtain ⟨n, rfl⟩ : ∃ m, n = m + 1 := ⟨n - 1, by omega⟩
    refine pk_le 96 i (fun q => absurd q (by omega)) (fun _ => ?_)
    refine And.intro (pk_in i 96 (by omega)) (And.intro (pk_in i 96 (by omega)) (nm_r (e' := sp_cp (i + 1) C B) (by rw [nI_clamp (by omega), sp_cp_1]) (nm_r (nI_1 i) ?_)))
    refine ih (i + 1) n B (by omega) (by omega) ?_
    have e3 : sp_cp 96 C (sp_cp (i + 1) C B) = sp_cp 96 C (sp_cp i C B) := by
      funext j; simp only [sp_cp]
      repeat' split
      all_goals first | rfl | omega
    rw [e3]
    exact hp
theorem sp_cp_cp {n i : Nat} {S C : Nat → Int32} (h : i ≤ n) : sp_cp n S (sp_cp i S C) = sp_cp n S C := by
  funext j; simp only [sp_cp]
  repeat' split
  all_goals first | rfl | omega
/-- the reference's cells behind a scroll by n rows, up or down -/
def sp_yu (w a z n pen : Nat) (C : Nat → Int32) : Nat → Int32 := sp_yr a z w (fun i k => if i + n ≤ z then C (12 * (i + n) + k) else nI (256 + pen)) C
def sp_yd (w a z n pen : Nat) (C : Nat → Int32) : Nat → Int32 := sp_yr a z w (fun i k => if a + n ≤ i then C (12 * (i - n) + k) else nI (256 + pen)) C
theorem ar_span {a z : Nat} (h : a ≤ z) : nI z - nI a + 1 = nI (z - a + 1) := by rw [pk_sub h, nI_1]
theorem sp_clU {n L : Nat} (hn : n < 1000) (hL : L < 1000) : sp_cl (nI n) (-nI L) (nI L) = nI (sp_mn n L) := by
  unfold sp_cl sp_mn
  rw [if_pos (by rw [Int32.le_iff_toInt_le, sb_negT (by omega), nI_toInt (by omega)]; omega)]
  by_cases q : n ≤ L
  · rw [if_pos q, if_pos ((nI_leI (by omega) (by omega)).mpr q)]
  · rw [if_neg q, if_neg (fun z => q ((nI_leI (by omega) (by omega)).mp z))]
theorem sp_clD {n L : Nat} (hn : n < 1000) (hL : L < 1000) : sp_cl (-nI n) (-nI L) (nI L) = -nI (sp_mn n L) := by
  unfold sp_cl sp_mn
  by_cases q : n ≤ L
  · rw [if_pos q, if_pos ((sb_nle (by omega) (by omega)).mpr q), if_pos (by rw [Int32.le_iff_toInt_le, sb_negT (by omega), nI_toInt (by omega)]; omega)]
  · rw [if_neg q, if_neg (fun z => q ((sb_nle (by omega) (by omega)).mp z))]
theorem ym_scroll {a z : Nat} {p2 x4 : Int32} {S : Nat → Nat → Int32} (haz : a ≤ z) (hz : z < 8) (w12 : w ≤ 12) (he : sp_cl p2 (-nI (z - a + 1)) (nI (z - a + 1)) = x4)
    (hS : ∀ i, a ≤ i → i ≤ z → ((nI i + x4 < nI a ∨ nI z < nI i + x4) ∧ S i = fun _ => nI (256 + pen)) ∨ (∃ f, a ≤ f ∧ f ≤ z ∧ nI i + x4 = nI f ∧ S i = fun k => sp_cp 96 C B (12 * f + k)))
    (hp : post (sp_Y h w pc st r c pen tp bo pd ins gr gc gp gpd (sp_yr a z w S C) G (sp_cp 96 C B) D P)) : wpY_scroll post (sp_Y h w pc st r c pen tp bo pd ins gr gc gp gpd C G B D P) (nI a) (nI z) p2 := by
  unfold wpY_scroll
  refine ym_clamp ?_
  rw [ar_span haz, he]
  refine ⟨97, ?_⟩
  have K := yl_sc21 (post := post) (h := h) (w := w) (pc := pc) (st := st) (r := r) (c := c) (pen := pen) (tp := tp) (bo := bo) (pd := pd) (ins := ins) (gr := gr) (gc := gc) (gp := gp) (gpd := gpd) (C := C) (G := G) (D := D) (P := P) (x1 := nI a) (x2 := nI z) (x4 := x4) 96 0 97 B (by omega) (by omega)
  rw [sp_cp_0] at K
  refine K ⟨z + 2 - a, ?_⟩
  exact yl_sc51 hz w12 hS (z + 1 - a) a _ C (by omega) (Nat.le_refl _) (by omega) hp
theorem sp_yu_cp {w a z n pen : Nat} {C B : Nat → Int32} (hz : z < 8) : sp_yr a z w (fun i k => if i + n ≤ z then sp_cp 96 C B (12 * (i + n) + k) else nI (256 + pen)) C = sp_yu w a z n pen C := by
  funext k
  simp only [sp_yr, sp_yu, sp_cp]
  repeat' split
  all_goals first | rfl | omega
theorem sp_yd_cp {w a z n pen : Nat} {C B : Nat → Int32} (hz : z < 8) : sp_yr a z w (fun i k => if a + n ≤ i then sp_cp 96 C B (12 * (i - n) + k) else nI (256 + pen)) C = sp_yd w a z n pen C := by
  funext k
  simp only [sp_yr, sp_yd, sp_cp]
  repeat' split
  all_goals first | rfl | omega
theorem ym_scrollU {a z n : Nat} {p2 : Int32} (e2 : p2 = nI n) (haz : a ≤ z) (hz : z < h) (h8 : h ≤ 8) (w12 : w ≤ 12) (hn : 0 < n) (hn9 : n ≤ 99) (hp : post (sp_Y h w pc st r c pen tp bo pd ins gr gc gp gpd (sp_yu w a z n pen C) G (sp_cp 96 C B) D P)) : wpY_scroll post (sp_Y h w pc st r c pen tp bo pd ins gr gc gp gpd C G B D P) (nI a) (nI z) p2 := by
  subst e2
  rw [← sp_yu_cp (B := B) (show z < 8 by omega)] at hp
  have hm : sp_mn n (z - a + 1) < 1000 := by unfold sp_mn; split <;> omega
  refine ym_scroll haz (by omega) w12 (sp_clU (by omega) (by omega)) ?_ hp
  intro i h1 h2
  by_cases q : i + n ≤ z
  · refine Or.inr ⟨i + n, by omega, q, ?_, ?_⟩
    · have : sp_mn n (z - a + 1) = n := if_pos (by omega)
      rw [this, nI_add]
    · funext k
      rw [if_pos q]
  · refine Or.inl ⟨Or.inr ?_, ?_⟩
    · rw [nI_add, nI_ltI (by omega) (by omega)]
      unfold sp_mn
      split <;> omega
    · funext k
      rw [if_neg q]
theorem ym_scrollD {a z n : Nat} {p2 : Int32} (e2 : p2 = -nI n) (haz : a ≤ z) (hz : z < h) (h8 : h ≤ 8) (w12 : w ≤ 12) (hn : 0 < n) (hn9 : n ≤ 99) (hp : post (sp_Y h w pc st r c pen tp bo pd ins gr gc gp gpd (sp_yd w a z n pen C) G (sp_cp 96 C B) D P)) : wpY_scroll post (sp_Y h w pc st r c pen tp bo pd ins gr gc gp gpd C G B D P) (nI a) (nI z) p2 := by
  subst e2
  rw [← sp_yd_cp (B := B) (show z < 8 by omega)] at hp
  have hm : sp_mn n (z - a + 1) < 1000 := by unfold sp_mn; split <;> omega
  refine ym_scroll haz (by omega) w12 (sp_clD (by omega) (by omega)) ?_ hp
  intro i h1 h2
  by_cases q : a + n ≤ i
  · refine Or.inr ⟨i - n, by omega, by omega, ?_, ?_⟩
    · have : sp_mn n (z - a + 1) = n := if_pos (by omega)
      rw [this, ar_nsub (by omega)]
    · funext k
      rw [if_pos q]
  · refine Or.inl ⟨Or.inl ?_, ?_⟩
    · rw [Int32.lt_iff_toInt_lt, ar_nadd (by omega) (by omega), nI_toInt (by omega)]
      unfold sp_mn
      split <;> omega
    · funext k
      rw [if_neg q]
def sp_ylc (w tp bo pen r : Nat) (C : Nat → Int32) : Nat → Int32 := if r = bo then sp_yu w tp bo 1 pen C else C
def sp_ylb (bo r : Nat) (C B : Nat → Int32) : Nat → Int32 := if r = bo then sp_cp 96 C B else B
theorem ym_lineStep (hr : r < h) (ht : tp ≤ bo) (hb : bo < h) (h8 : h ≤ 8) (w12 : w ≤ 12) (hp : post (sp_Y h w pc st (sp_lr h bo r) c pen tp bo pd ins gr gc gp gpd (sp_ylc w tp bo pen r C) G (sp_ylb bo r C B) D P)) : wpY_lineStep post (sp_Y h w pc st r c pen tp bo pd ins gr gc gp gpd C G B D P) := by
  unfold sp_lr sp_ylc sp_ylb at hp
  refine pk_eq r bo (fun q => ?_) (fun q => ?_)
  · rw [if_pos q, if_pos q, if_pos q] at hp
    exact ym_scrollU (n := 1) rfl ht hb h8 w12 (by omega) (by omega) hp
  · rw [if_neg q, if_neg q, if_neg q] at hp
    refine pk_le (h - 1) r (fun q2 => ?_) (fun q2 => ?_) (ar_dec (by omega)) rfl
    · rw [if_pos q2] at hp; exact hp
    · rw [if_neg (by omega)] at hp
      exact nm_r (nI_1 r) hp
/-! print -/
theorem yl_print79 {b : Nat} (hr : r < h) (hc : c < w) (h8 : h ≤ 8) (w12 : w ≤ 12) (hb : b < 1000) (hpen : pen < 8) (hp : post (sp_Y h w pc st r (sp_c2 w c) pen tp bo (sp_p2 w c) ins gr gc gp gpd (upd C (12 * r + c) (nI (8 * b + pen))) G B D P)) : wY_print_79 post (nI b) (nI h) (nI w) (nI pc) (nI st) (nI r) (nI c) (nI pen) (nI tp) (nI bo) (nI 0) (nI ins) (nI gr) (nI gc) (nI gp) (nI gpd) C G B D P := by
  unfold sp_c2 sp_p2 at hp
  refine And.intro (pk_in (12 * r + c) 96 (by omega) (ar_12 r c)) (nm_r (e' := upd C (12 * r + c) (nI (8 * b + pen))) ?_ ?_)
  · rw [ar_12, nI_clamp (by omega)]
    congr 1
    rw [show (8 : Int32) = nI 8 from rfl, pk_mul, nI_add]
  refine pk_eq c (w - 1) (fun q => ?_) (fun q => ?_) rfl (ar_dec (by omega))
  · rw [if_pos q, if_pos q] at hp; exact hp
  · rw [if_neg q, if_neg q] at hp
    exact nm_r (nI_1 c) hp
theorem yl_print35 {b : Nat} (hr : r < 8) (w12 : w ≤ 12) : ∀ d k n (C : Nat → Int32), k = c + d → k < w → d < n → wY_print_79 post (nI b) (nI h) (nI w) (nI pc) (nI st) (nI r) (nI c) (nI pen) (nI tp) (nI bo) (nI 0) (nI ins) (nI gr) (nI gc) (nI gp) (nI gpd) (sp_sh (12 * r + c) (12 * r + k + 1) C) G B D P → wY_print_35 post (nI b) (nI h) (nI w) (nI pc) (nI st) (nI r) (nI c) (nI pen) (nI tp) (nI bo) (nI 0) (nI ins) (nI gr) (nI gc) (nI gp) (nI gpd) n (nI k) C G B D P := by
  intro d
  induction d with
  | zero =>
    intro k n C e hk hn hp
    obtain ⟨n, rfl⟩ : ∃ m, n = m + 1 := ⟨n - 1, by omega⟩
    have e2 : k = c := by omega
    subst e2
    rw [sp_sh_0] at hp
    exact pk_le k k (fun _ => hp) (fun q => absurd q (by omega))
  | succ d ih =>
    intro k n C e hk hn hp
    obtain ⟨n, rfl⟩ : ∃ m, n = m + 1 := ⟨n - 1, by omega⟩
    refine pk_le k c (fun q => absurd q (by omega)) (fun _ => ?_)
    have e1 : (12 : Int32) * nI r + nI k - 1 = nI (12 * r + k - 1) := by rw [ar_12, ar_dec (by omega)]
    refine And.intro (pk_in (12 * r + k - 1) 96 (by omega) e1) (And.intro (pk_in (12 * r + k) 96 (by omega) (ar_12 r k)) (nm_r (e' := upd C (12 * r + k) (C (12 * r + k - 1))) ?_ (nm_r (ar_m1 (by omega)) ?_)))
    · rw [e1, ar_12, nI_clamp (by omega), nI_clamp (by omega)]
    · refine ih (k - 1) n _ (by omega) (by omega) (by omega) ?_
      rw [show 12 * r + (k - 1) + 1 = 12 * r + k by omega, sp_sh_1 (by omega)]
      exact hp
def sp_py (w ins r c v : Nat) (C : Nat → Int32) : Nat → Int32 := upd (if ins = 0 then C else sp_sh (12 * r + c) (12 * r + w) C) (12 * r + c) (nI v)
theorem yl_print21 {b : Nat} (hr : r < h) (hc : c < w) (h8 : h ≤ 8) (w12 : w ≤ 12) (hb : b < 1000) (hpen : pen < 8) (hi : ins < 2) (hp : post (sp_Y h w pc st r (sp_c2 w c) pen tp bo (sp_p2 w c) ins gr gc gp gpd (sp_py w ins r c (8 * b + pen) C) G B D P)) : wY_print_21 post (nI b) (nI h) (nI w) (nI pc) (nI st) (nI r) (nI c) (nI pen) (nI tp) (nI bo) (nI 0) (nI ins) (nI gr) (nI gc) (nI gp) (nI gpd) C G B D P := by
  unfold sp_py at hp
  refine pk_eq ins 0 (fun q => ?_) (fun q => ?_)
  · rw [if_pos q] at hp
    exact yl_print79 hr hc h8 w12 hb hpen hp
  · rw [if_neg q] at hp
    refine nm_r (ar_dec (by omega)) ⟨w - 1 - c + 1, ?_⟩
    refine yl_print35 (by omega) w12 (w - 1 - c) (w - 1) _ C (by omega) (by omega) (Nat.lt_succ_self _) ?_
    rw [show 12 * r + (w - 1) + 1 = 12 * r + w by omega]
    exact yl_print79 hr hc h8 w12 hb hpen hp
theorem ym_print0 {b : Nat} (hr : r < h) (hc : c < w) (h8 : h ≤ 8) (w12 : w ≤ 12) (hb : b < 1000) (hpen : pen < 8) (hi : ins < 2) (hp : post (sp_Y h w pc st r (sp_c2 w c) pen tp bo (sp_p2 w c) ins gr gc gp gpd (sp_py w ins r c (8 * b + pen) C) G B D P)) : wpY_print post (sp_Y h w pc st r c pen tp bo 0 ins gr gc gp gpd C G B D P) (nI b) :=
  br_t rfl (yl_print21 hr hc h8 w12 hb hpen hi hp)
theorem ym_print1 {b : Nat} (hr : r < h) (hw : 0 < w) (ht : tp ≤ bo) (hbo : bo < h) (h8 : h ≤ 8) (w12 : w ≤ 12) (hb : b < 1000) (hpen : pen < 8) (hi : ins < 2) (hp : post (sp_Y h w pc st (sp_lr h bo r) (sp_c2 w 0) pen tp bo (sp_p2 w 0) ins gr gc gp gpd (sp_py w ins (sp_lr h bo r) 0 (8 * b + pen) (sp_ylc w tp bo pen r C)) G (sp_ylb bo r C B) D P)) : wpY_print post (sp_Y h w pc st r c pen tp bo 1 ins gr gc gp gpd C G B D P) (nI b) :=
  br_f (by decide) (ym_lineStep (c := 0) (pd := 0) hr ht hbo h8 w12 (yl_print21 (c := 0) (sp_lr_lt hr hbo) hw h8 w12 hb hpen hi hp))
end
end
section
/-! the reference: erase, pens -/
def sp_T (p ev r here k : Nat) : Prop := (p = 2 ∨ (p = 0 ∧ here ≤ k) ∨ (p = 1 ∧ k ≤ here)) ∧ (ev = 1 ∨ k / 12 = r)
noncomputable def sp_wt (p ev r here i j w : Nat) (v : Int32) (C : Nat → Int32) : Nat → Int32 := fun k => @ite _ (12 * i + j ≤ k ∧ k < 12 * i + w ∧ sp_T p ev r here k) (Classical.propDecidable _) v (C k)
noncomputable def sp_ye (p ev r here i h w : Nat) (v : Int32) (C : Nat → Int32) : Nat → Int32 := fun k => @ite _ (i ≤ k / 12 ∧ k / 12 < h ∧ k % 12 < w ∧ sp_T p ev r here k) (Classical.propDecidable _) v (C k)
theorem sp_wt_0 {p ev r here i w : Nat} {v : Int32} {C : Nat → Int32} : sp_wt p ev r here i w w v C = C := by
  funext k; simp only [sp_wt]; rw [if_neg (by omega)]
theorem sp_wt_1 {p ev r here i j w : Nat} {v : Int32} {C : Nat → Int32} (hj : j < w) (hT : sp_T p ev r here (12 * i + j)) : sp_wt p ev r here i (j + 1) w v (upd C (12 * i + j) v) = sp_wt p ev r here i j w v C := by
  funext k; simp only [sp_wt, upd]
  by_cases q : k = 12 * i + j
  · subst q
    rw [if_neg (by omega), if_pos rfl, if_pos ⟨by omega, by omega, hT⟩]
  · by_cases q2 : 12 * i + j ≤ k ∧ k < 12 * i + w ∧ sp_T p ev r here k
    · rw [if_pos ⟨by omega, q2.2⟩, if_pos q2]
    · rw [if_neg (fun z => q2 ⟨by omega, z.2⟩), if_neg q2, if_neg q]
theorem sp_wt_2 {p ev r here i j w : Nat} {v : Int32} {C : Nat → Int32} (hT : ¬ sp_T p ev r here (12 * i + j)) : sp_wt p ev r here i (j + 1) w v C = sp_wt p ev r here i j w v C := by
  funext k; simp only [sp_wt]
  by_cases q : k = 12 * i + j
  · subst q
    rw [if_neg (by omega), if_neg (fun z => hT z.2.2)]
  · by_cases q2 : 12 * i + j ≤ k ∧ k < 12 * i + w ∧ sp_T p ev r here k
    · rw [if_pos ⟨by omega, q2.2⟩, if_pos q2]
    · rw [if_neg (fun z => q2 ⟨by omega, z.2⟩), if_neg q2]
theorem sp_ye_0 {p ev r here h w : Nat} {v : Int32} {C : Nat → Int32} : sp_ye p ev r here h h w v C = C := by
  funext k; simp only [sp_ye]; rw [if_neg (by omega)]
theorem sp_ye_1 {p ev r here i h w : Nat} {v : Int32} {C : Nat → Int32} (hi : i < h) (hw : w ≤ 12) : sp_ye p ev r here (i + 1) h w v (sp_wt p ev r here i 0 w v C) = sp_ye p ev r here i h w v C := by
  funext k; simp only [sp_wt, sp_ye]
  by_cases t : sp_T p ev r here k
  · by_cases q : k / 12 = i ∧ k % 12 < w
    · rw [if_neg (by omega), if_pos ⟨by omega, by omega, t⟩, if_pos ⟨by omega, by omega, by omega, t⟩]
    · by_cases q2 : i ≤ k / 12 ∧ k / 12 < h ∧ k % 12 < w
      · rw [if_pos ⟨by omega, by omega, by omega, t⟩, if_pos ⟨by omega, by omega, by omega, t⟩]
      · rw [if_neg (fun z => q2 ⟨by omega, by omega, by omega⟩), if_neg (by omega), if_neg (fun z => q2 ⟨by omega, by omega, by omega⟩)]
  · rw [if_neg (fun z => t z.2.2.2), if_neg (fun z => t z.2.2), if_neg (fun z => t z.2.2.2)]
section
variable {post : SY → Prop} {h w pc st r c pen tp bo pd ins gr gc gp gpd : Nat} {C G B D P : Nat → Int32}
theorem yl_er78 {J K : Int32 → (Nat → Int32) → (Nat → Int32) → (Nat → Int32) → (Nat → Int32) → (Nat → Int32) → Prop} {p ev here i j z : Nat} (hp9 : p ≤ 99) (hi : i < 8) (hj : j < 12) (hr : r < 8) (hev : ev < 2) (hz : z < 2)
    (H1 : z = 1 → (ev = 1 ∨ i = r) → K (nI (j + 1)) (upd C (12 * i + j) (nI (256 + pen))) G B D P) (H2 : ¬ (z = 1 ∧ (ev = 1 ∨ i = r)) → K (nI (j + 1)) C G B D P) :
    wY_erase_78 post J K (nI p) (nI ev) (nI here) (nI i) (nI j) (nI (12 * i + j)) (nI z) (nI h) (nI w) (nI pc) (nI st) (nI r) (nI c) (nI pen) (nI tp) (nI bo) (nI pd) (nI ins) (nI gr) (nI gc) (nI gp) (nI gpd) C G B D P := by
  have K98 : z = 1 → (ev = 1 ∨ i = r) → wY_erase_98 post J K (nI p) (nI ev) (nI here) (nI i) (nI j) (nI (12 * i + j)) (nI h) (nI w) (nI pc) (nI st) (nI r) (nI c) (nI pen) (nI tp) (nI bo) (nI pd) (nI ins) (nI gr) (nI gc) (nI gp) (nI gpd) C G B D P := by
    intro h1 h2
    exact And.intro (pk_in (12 * i + j) 96 (by omega)) (nm_r (e' := upd C (12 * i + j) (nI (256 + pen))) (by rw [nI_clamp (by omega), ar_256]) (nm_r (nI_1 j) (H1 h1 h2)))
  refine pk_eq z 0 (fun q => nm_r (nI_1 j) (H2 (by omega))) (fun q => pk_eq ev 0 (fun q1 => pk_eq i r (fun q2 => K98 (by omega) (Or.inr q2)) (fun q2 => nm_r (nI_1 j) (H2 (by omega)))) (fun q1 => K98 (by omega) (Or.inl (by omega))))
theorem yl_er28 {J : Int32 → (Nat → Int32) → (Nat → Int32) → (Nat → Int32) → (Nat → Int32) → (Nat → Int32) → Prop} {p ev here i : Nat} (hp9 : p ≤ 99) (hi : i < 8) (hr : r < 8) (hev : ev < 2) (hh : here < 96) (w12 : w ≤ 12) :
    ∀ d j n (C : Nat → Int32), j + d = w → d < n → J (nI (i + 1)) (sp_wt p ev r here i j w (nI (256 + pen)) C) G B D P → wY_erase_28 post J (nI p) (nI ev) (nI here) (nI i) (nI h) (nI w) (nI pc) (nI st) (nI r) (nI c) (nI pen) (nI tp) (nI bo) (nI pd) (nI ins) (nI gr) (nI gc) (nI gp) (nI gpd) n (nI j) C G B D P := by
  intro d
  induction d with
  | zero =>
    intro j n C e hn hp
    obtain ⟨n, rfl⟩ : ∃ m, n = m + 1 := ⟨n - 1, by omega⟩
    have e2 : j = w := by omega
    subst e2
    rw [sp_wt_0] at hp
    exact pk_le j j (fun _ => nm_r (nI_1 i) hp) (fun q => absurd q (by omega))
  | succ d ih =>
    intro j n C e hn hp
    obtain ⟨n, rfl⟩ : ∃ m, n = m + 1 := ⟨n - 1, by omega⟩
    have hk : (12 * i + j) / 12 = i := by omega
    have K1 : sp_T p ev r here (12 * i + j) → wY_erase_28 post J (nI p) (nI ev) (nI here) (nI i) (nI h) (nI w) (nI pc) (nI st) (nI r) (nI c) (nI pen) (nI tp) (nI bo) (nI pd) (nI ins) (nI gr) (nI gc) (nI gp) (nI gpd) n (nI (j + 1)) (upd C (12 * i + j) (nI (256 + pen))) G B D P := by
      intro t
      refine ih (j + 1) n _ (by omega) (by omega) ?_
      rw [sp_wt_1 (by omega) t]
      exact hp
    have K0 : ¬ sp_T p ev r here (12 * i + j) → wY_erase_28 post J (nI p) (nI ev) (nI here) (nI i) (nI h) (nI w) (nI pc) (nI st) (nI r) (nI c) (nI pen) (nI tp) (nI bo) (nI pd) (nI ins) (nI gr) (nI gc) (nI gp) (nI gpd) n (nI (j + 1)) C G B D P := by
      intro t
      refine ih (j + 1) n _ (by omega) (by omega) ?_
      rw [sp_wt_2 t]
      exact hp
    have K73 : (p = 2 ∨ (p = 0 ∧ here ≤ 12 * i + j) ∨ (p = 1 ∧ 12 * i + j ≤ here)) → wY_erase_73 post J (wY_erase_28 post J (nI p) (nI ev) (nI here) (nI i) (nI h) (nI w) (nI pc) (nI st) (nI r) (nI c) (nI pen) (nI tp) (nI bo) (nI pd) (nI ins) (nI gr) (nI gc) (nI gp) (nI gpd) n) (nI p) (nI ev) (nI here) (nI i) (nI j) (nI (12 * i + j)) (nI h) (nI w) (nI pc) (nI st) (nI r) (nI c) (nI pen) (nI tp) (nI bo) (nI pd) (nI ins) (nI gr) (nI gc) (nI gp) (nI gpd) C G B D P := by
      intro t
      exact yl_er78 (z := 1) hp9 hi (by omega) hr hev (by omega) (fun _ h2 => K1 ⟨t, by rw [hk]; exact h2⟩) (fun h2 => K0 (fun t2 => h2 ⟨rfl, by have := t2.2; rw [hk] at this; exact this⟩))
    have K77 : ¬ (p = 2 ∨ (p = 0 ∧ here ≤ 12 * i + j) ∨ (p = 1 ∧ 12 * i + j ≤ here)) → wY_erase_77 post J (wY_erase_28 post J (nI p) (nI ev) (nI here) (nI i) (nI h) (nI w) (nI pc) (nI st) (nI r) (nI c) (nI pen) (nI tp) (nI bo) (nI pd) (nI ins) (nI gr) (nI gc) (nI gp) (nI gpd) n) (nI p) (nI ev) (nI here) (nI i) (nI j) (nI (12 * i + j)) (nI h) (nI w) (nI pc) (nI st) (nI r) (nI c) (nI pen) (nI tp) (nI bo) (nI pd) (nI ins) (nI gr) (nI gc) (nI gp) (nI gpd) C G B D P := by
      intro t
      exact yl_er78 (z := 0) hp9 hi (by omega) hr hev (by omega) (fun h1 _ => absurd h1 (by omega)) (fun _ => K0 (fun t2 => t t2.1))
    have K62 : p ≠ 2 → ¬ (p = 0 ∧ here ≤ 12 * i + j) → wY_erase_62 post J (wY_erase_28 post J (nI p) (nI ev) (nI here) (nI i) (nI h) (nI w) (nI pc) (nI st) (nI r) (nI c) (nI pen) (nI tp) (nI bo) (nI pd) (nI ins) (nI gr) (nI gc) (nI gp) (nI gpd) n) (nI p) (nI ev) (nI here) (nI i) (nI j) (nI (12 * i + j)) (nI h) (nI w) (nI pc) (nI st) (nI r) (nI c) (nI pen) (nI tp) (nI bo) (nI pd) (nI ins) (nI gr) (nI gc) (nI gp) (nI gpd) C G B D P := by
      intro t1 t2
      exact pk_eq p 1 (fun q => pk_lt here (12 * i + j) (fun q2 => K77 (by omega)) (fun q2 => K73 (by omega))) (fun q => K77 (by omega))
    refine pk_le w j (fun q => absurd q (by omega)) (fun _ => nm_r (ar_12 i j) ?_)
    exact pk_eq p 2 (fun q => K73 (by omega)) (fun q => pk_eq p 0 (fun q2 => pk_le here (12 * i + j) (fun q3 => K73 (by omega)) (fun q3 => K62 q (by omega))) (fun q2 => K62 q (by omega)))
theorem yl_er16 {p ev here : Nat} (hp9 : p ≤ 99) (h8 : h ≤ 8) (hr : r < 8) (hev : ev < 2) (hh : here < 96) (w12 : w ≤ 12) :
    ∀ d i n (C : Nat → Int32), i + d = h → d < n → post (sp_Y h w pc st r c pen tp bo pd ins gr gc gp gpd (sp_ye p ev r here i h w (nI (256 + pen)) C) G B D P) → wY_erase_16 post (nI p) (nI ev) (nI here) (nI h) (nI w) (nI pc) (nI st) (nI r) (nI c) (nI pen) (nI tp) (nI bo) (nI pd) (nI ins) (nI gr) (nI gc) (nI gp) (nI gpd) n (nI i) C G B D P := by
  intro d
  induction d with
  | zero =>
    intro i n C e hn hp
    obtain ⟨n, rfl⟩ : ∃ m, n = m + 1 := ⟨n - 1, by omega⟩
    have e2 : i = h := by omega
    subst e2
    rw [sp_ye_0] at hp
    exact pk_le i i (fun _ => hp) (fun q => absurd q (by omega))
  | succ d ih =>
    intro i n C e hn hp
    obtain ⟨n, rfl⟩ : ∃ m, n = m + 1 := ⟨n - 1, by omega⟩
    refine pk_le h i (fun q => absurd q (by omega)) (fun _ => ⟨w + 1, ?_⟩)
    refine yl_er28 hp9 (by omega) hr hev hh w12 w 0 (w + 1) C (by omega) (by omega) ?_
    refine ih (i + 1) n _ (by omega) (by omega) ?_
    rw [sp_ye_1 (by omega) w12]
    exact hp
theorem ym_erase {p ev : Nat} {x : Int32} (ex : x = nI ev) (hp9 : p ≤ 99) (h8 : h ≤ 8) (hr : r < h) (hc : c < w) (hev : ev < 2) (w12 : w ≤ 12) (hp : post (sp_Y h w pc st r c pen tp bo pd ins gr gc gp gpd (sp_ye p ev r (12 * r + c) 0 h w (nI (256 + pen)) C) G B D P)) : wpY_erase post (sp_Y h w pc st r c pen tp bo pd ins gr gc gp gpd C G B D P) (nI p) x := by
  subst ex
  exact nm_r (ar_12 r c) ⟨h + 1, yl_er16 hp9 h8 (by omega) hev (by omega) w12 h 0 (h + 1) C (by omega) (by omega) hp⟩
theorem ar_ya : ∀ p, p < 8 → nI p ||| 1 = nI (p ||| 1) ∧ nI p ||| 2 = nI (p ||| 2) ∧ nI p ||| 4 = nI (p ||| 4) ∧ nI p &&& 6 = nI (p &&& 6) ∧ nI p &&& 5 = nI (p &&& 5) ∧ nI p &&& 3 = nI (p &&& 3) := by decide +kernel
theorem ar_yb : ∀ p, p < 8 → p ||| 1 < 8 ∧ p ||| 2 < 8 ∧ p ||| 4 < 8 ∧ p &&& 6 < 8 ∧ p &&& 5 < 8 ∧ p &&& 3 < 8 := by decide +kernel
theorem yl_at88 {v : Nat} (hv : v ≤ 99) (hpen : pen < 8) (hp : post (sp_Y h w pc st r c (if v = 27 then pen &&& 3 else pen) tp bo pd ins gr gc gp gpd C G B D P)) : wY_attribute_88 post (nI v) (nI h) (nI w) (nI pc) (nI st) (nI r) (nI c) (nI pen) (nI tp) (nI bo) (nI pd) (nI ins) (nI gr) (nI gc) (nI gp) (nI gpd) C G B D P :=
  pk_eq v 27 (fun q => nm_r (ar_ya pen hpen).2.2.2.2.2 (by rw [if_pos q] at hp; exact hp)) (fun q => by rw [if_neg q] at hp; exact hp)
theorem yl_at72 {v : Nat} (hv : v ≤ 99) (hpen : pen < 8) (hp : post (sp_Y h w pc st r c (if v = 24 then pen &&& 5 else if v = 27 then pen &&& 3 else pen) tp bo pd ins gr gc gp gpd C G B D P)) : wY_attribute_72 post (nI v) (nI h) (nI w) (nI pc) (nI st) (nI r) (nI c) (nI pen) (nI tp) (nI bo) (nI pd) (nI ins) (nI gr) (nI gc) (nI gp) (nI gpd) C G B D P :=
  pk_eq v 24 (fun q => nm_r (ar_ya pen hpen).2.2.2.2.1 (yl_at88 hv (ar_yb pen hpen).2.2.2.2.1 (by rw [if_pos q] at hp; rw [if_neg (by omega)]; exact hp))) (fun q => yl_at88 hv hpen (by rw [if_neg q] at hp; exact hp))
theorem yl_at55 {v : Nat} (hv : v ≤ 99) (hpen : pen < 8) (hp : post (sp_Y h w pc st r c (if v = 22 then pen &&& 6 else if v = 24 then pen &&& 5 else if v = 27 then pen &&& 3 else pen) tp bo pd ins gr gc gp gpd C G B D P)) : wY_attribute_55 post (nI v) (nI h) (nI w) (nI pc) (nI st) (nI r) (nI c) (nI pen) (nI tp) (nI bo) (nI pd) (nI ins) (nI gr) (nI gc) (nI gp) (nI gpd) C G B D P :=
  pk_eq v 22 (fun q => nm_r (ar_ya pen hpen).2.2.2.1 (yl_at72 hv (ar_yb pen hpen).2.2.2.1 (by rw [if_pos q] at hp; rw [if_neg (by omega), if_neg (by omega)]; exact hp))) (fun q => yl_at72 hv hpen (by rw [if_neg q] at hp; exact hp))
theorem yl_at39 {v : Nat} (hv : v ≤ 99) (hpen : pen < 8) (hp : post (sp_Y h w pc st r c (if v = 7 then pen ||| 4 else if v = 22 then pen &&& 6 else if v = 24 then pen &&& 5 else if v = 27 then pen &&& 3 else pen) tp bo pd ins gr gc gp gpd C G B D P)) : wY_attribute_39 post (nI v) (nI h) (nI w) (nI pc) (nI st) (nI r) (nI c) (nI pen) (nI tp) (nI bo) (nI pd) (nI ins) (nI gr) (nI gc) (nI gp) (nI gpd) C G B D P :=
  pk_eq v 7 (fun q => nm_r (ar_ya pen hpen).2.2.1 (yl_at55 hv (ar_yb pen hpen).2.2.1 (by rw [if_pos q] at hp; rw [if_neg (by omega), if_neg (by omega), if_neg (by omega)]; exact hp))) (fun q => yl_at55 hv hpen (by rw [if_neg q] at hp; exact hp))
theorem yl_at24 {v : Nat} (hv : v ≤ 99) (hpen : pen < 8) (hp : post (sp_Y h w pc st r c (if v = 4 then pen ||| 2 else if v = 7 then pen ||| 4 else if v = 22 then pen &&& 6 else if v = 24 then pen &&& 5 else if v = 27 then pen &&& 3 else pen) tp bo pd ins gr gc gp gpd C G B D P)) : wY_attribute_24 post (nI v) (nI h) (nI w) (nI pc) (nI st) (nI r) (nI c) (nI pen) (nI tp) (nI bo) (nI pd) (nI ins) (nI gr) (nI gc) (nI gp) (nI gpd) C G B D P :=
  pk_eq v 4 (fun q => nm_r (ar_ya pen hpen).2.1 (yl_at39 hv (ar_yb pen hpen).2.1 (by rw [if_pos q] at hp; rw [if_neg (by omega), if_neg (by omega), if_neg (by omega), if_neg (by omega)]; exact hp))) (fun q => yl_at39 hv hpen (by rw [if_neg q] at hp; exact hp))
theorem yl_at9 {v : Nat} (hv : v ≤ 99) (hpen : pen < 8) (hp : post (sp_Y h w pc st r c (if v = 1 then pen ||| 1 else if v = 4 then pen ||| 2 else if v = 7 then pen ||| 4 else if v = 22 then pen &&& 6 else if v = 24 then pen &&& 5 else if v = 27 then pen &&& 3 else pen) tp bo pd ins gr gc gp gpd C G B D P)) : wY_attribute_9 post (nI v) (nI h) (nI w) (nI pc) (nI st) (nI r) (nI c) (nI pen) (nI tp) (nI bo) (nI pd) (nI ins) (nI gr) (nI gc) (nI gp) (nI gpd) C G B D P :=
  pk_eq v 1 (fun q => nm_r (ar_ya pen hpen).1 (yl_at24 hv (ar_yb pen hpen).1 (by rw [if_pos q] at hp; rw [if_neg (by omega), if_neg (by omega), if_neg (by omega), if_neg (by omega), if_neg (by omega)]; exact hp))) (fun q => yl_at24 hv hpen (by rw [if_neg q] at hp; exact hp))
theorem ym_attribute {v : Nat} (hv : v ≤ 99) (hpen : pen < 8) (hp : post (sp_Y h w pc st r c (sp_at v pen) tp bo pd ins gr gc gp gpd C G B D P)) : wpY_attribute post (sp_Y h w pc st r c pen tp bo pd ins gr gc gp gpd C G B D P) (nI v) := by
  unfold sp_at at hp
  refine pk_eq v 0 (fun q => ?_) (fun q => ?_)
  · rw [if_pos q] at hp
    refine yl_at9 (pen := 0) hv (by omega) ?_
    rw [if_neg (by omega), if_neg (by omega), if_neg (by omega), if_neg (by omega), if_neg (by omega), if_neg (by omega)]
    exact hp
  · rw [if_neg q] at hp
    exact yl_at9 hv hpen hp
end
end
section
/-! the reference: commands. yz_k: no letter from stage k on is b -/
section
variable {post : SY → Prop} {h w pc st r c pen tp bo pd ins gr gc gp gpd : Nat} {C G B D P : Nat → Int32}
theorem yz_361 {b q n : Nat} (hb : b < 127) (h1 : b ≠ 114) (hp : post (sp_Y h w pc st r c pen tp bo pd ins gr gc gp gpd C G B D P)) : wY_command_361 post (nI b) (nI q) (nI n) (nI h) (nI w) (nI pc) (nI st) (nI r) (nI c) (nI pen) (nI tp) (nI bo) (nI pd) (nI ins) (nI gr) (nI gc) (nI gp) (nI gpd) C G B D P :=
  pk_eq b 114 (fun z => absurd z h1) (fun _ => hp)
theorem yz_320 {b q n : Nat} (hb : b < 127) (h2 : b ≠ 109) (h1 : b ≠ 114) (hp : post (sp_Y h w pc st r c pen tp bo pd ins gr gc gp gpd C G B D P)) : wY_command_320 post (nI b) (nI q) (nI n) (nI h) (nI w) (nI pc) (nI st) (nI r) (nI c) (nI pen) (nI tp) (nI bo) (nI pd) (nI ins) (nI gr) (nI gc) (nI gp) (nI gpd) C G B D P :=
  pk_eq b 109 (fun z => absurd z h2) (fun _ => yz_361 hb h1 hp)
theorem yz_304 {b p q n : Nat} (hb : b < 127) (h3 : b ≠ 108) (h2 : b ≠ 109) (h1 : b ≠ 114) (hp : post (sp_Y h w pc st r c pen tp bo pd ins gr gc gp gpd C G B D P)) : wY_command_304 post (nI b) (nI p) (nI q) (nI n) (nI h) (nI w) (nI pc) (nI st) (nI r) (nI c) (nI pen) (nI tp) (nI bo) (nI pd) (nI ins) (nI gr) (nI gc) (nI gp) (nI gpd) C G B D P :=
  pk_eq b 108 (fun z => absurd z h3) (fun _ => yz_320 hb h2 h1 hp)
theorem yz_288 {b p q n : Nat} (hb : b < 127) (h4 : b ≠ 104) (h3 : b ≠ 108) (h2 : b ≠ 109) (h1 : b ≠ 114) (hp : post (sp_Y h w pc st r c pen tp bo pd ins gr gc gp gpd C G B D P)) : wY_command_288 post (nI b) (nI p) (nI q) (nI n) (nI h) (nI w) (nI pc) (nI st) (nI r) (nI c) (nI pen) (nI tp) (nI bo) (nI pd) (nI ins) (nI gr) (nI gc) (nI gp) (nI gpd) C G B D P :=
  pk_eq b 104 (fun z => absurd z h4) (fun _ => yz_304 hb h3 h2 h1 hp)
theorem yz_267 {b p q n : Nat} (hb : b < 104) (h5 : b ≠ 84) (hp : post (sp_Y h w pc st r c pen tp bo pd ins gr gc gp gpd C G B D P)) : wY_command_267 post (nI b) (nI p) (nI q) (nI n) (nI h) (nI w) (nI pc) (nI st) (nI r) (nI c) (nI pen) (nI tp) (nI bo) (nI pd) (nI ins) (nI gr) (nI gc) (nI gp) (nI gpd) C G B D P :=
  pk_eq b 84 (fun z => absurd z h5) (fun _ => yz_288 (by omega) (by omega) (by omega) (by omega) (by omega) hp)
theorem yz_247 {b p q n : Nat} (hb : b < 83) (hp : post (sp_Y h w pc st r c pen tp bo pd ins gr gc gp gpd C G B D P)) : wY_command_247 post (nI b) (nI p) (nI q) (nI n) (nI h) (nI w) (nI pc) (nI st) (nI r) (nI c) (nI pen) (nI tp) (nI bo) (nI pd) (nI ins) (nI gr) (nI gc) (nI gp) (nI gpd) C G B D P :=
  pk_eq b 83 (fun z => absurd z (by omega)) (fun _ => yz_267 (by omega) (by omega) hp)
theorem yz_199 {b p q n : Nat} {x5 : Int32} (hb : b < 76) (hp : post (sp_Y h w pc st r c pen tp bo pd ins gr gc gp gpd C G B D P)) : wY_command_199 post (nI b) (nI p) (nI q) (nI n) x5 (nI h) (nI w) (nI pc) (nI st) (nI r) (nI c) (nI pen) (nI tp) (nI bo) (nI pd) (nI ins) (nI gr) (nI gc) (nI gp) (nI gpd) C G B D P :=
  pk_eq b 76 (fun z => absurd z (by omega)) (fun _ => pk_eq b 77 (fun z => absurd z (by omega)) (fun _ => yz_247 (by omega) hp))
theorem yz_187 {b p q n : Nat} {x5 : Int32} (hb : b < 75) (hp : post (sp_Y h w pc st r c pen tp bo pd ins gr gc gp gpd C G B D P)) : wY_command_187 post (nI b) (nI p) (nI q) (nI n) x5 (nI h) (nI w) (nI pc) (nI st) (nI r) (nI c) (nI pen) (nI tp) (nI bo) (nI pd) (nI ins) (nI gr) (nI gc) (nI gp) (nI gpd) C G B D P :=
  pk_eq b 75 (fun z => absurd z (by omega)) (fun _ => yz_199 (by omega) hp)
theorem yz_175 {b p q n : Nat} {x5 : Int32} (hb : b < 74) (hp : post (sp_Y h w pc st r c pen tp bo pd ins gr gc gp gpd C G B D P)) : wY_command_175 post (nI b) (nI p) (nI q) (nI n) x5 (nI h) (nI w) (nI pc) (nI st) (nI r) (nI c) (nI pen) (nI tp) (nI bo) (nI pd) (nI ins) (nI gr) (nI gc) (nI gp) (nI gpd) C G B D P :=
  pk_eq b 74 (fun z => absurd z (by omega)) (fun _ => yz_187 (by omega) hp)
theorem yz_150 {b p q n : Nat} {x5 : Int32} (hb : b < 72) (hp : post (sp_Y h w pc st r c pen tp bo pd ins gr gc gp gpd C G B D P)) : wY_command_150 post (nI b) (nI p) (nI q) (nI n) x5 (nI h) (nI w) (nI pc) (nI st) (nI r) (nI c) (nI pen) (nI tp) (nI bo) (nI pd) (nI ins) (nI gr) (nI gc) (nI gp) (nI gpd) C G B D P :=
  pk_eq b 72 (fun z => absurd z (by omega)) (fun _ => yz_175 (by omega) hp)
theorem yz_129 {b p q n : Nat} {x5 : Int32} (hb : b < 68) (hp : post (sp_Y h w pc st r c pen tp bo pd ins gr gc gp gpd C G B D P)) : wY_command_129 post (nI b) (nI p) (nI q) (nI n) x5 (nI h) (nI w) (nI pc) (nI st) (nI r) (nI c) (nI pen) (nI tp) (nI bo) (nI pd) (nI ins) (nI gr) (nI gc) (nI gp) (nI gpd) C G B D P :=
  pk_eq b 68 (fun z => absurd z (by omega)) (fun _ => yz_150 (by omega) hp)
theorem yz_108 {b p q n : Nat} {x5 : Int32} (hb : b < 67) (hp : post (sp_Y h w pc st r c pen tp bo pd ins gr gc gp gpd C G B D P)) : wY_command_108 post (nI b) (nI p) (nI q) (nI n) x5 (nI h) (nI w) (nI pc) (nI st) (nI r) (nI c) (nI pen) (nI tp) (nI bo) (nI pd) (nI ins) (nI gr) (nI gc) (nI gp) (nI gpd) C G B D P :=
  pk_eq b 67 (fun z => absurd z (by omega)) (fun _ => yz_129 (by omega) hp)
theorem yz_87 {b p q n : Nat} {x5 : Int32} (hb : b < 66) (hp : post (sp_Y h w pc st r c pen tp bo pd ins gr gc gp gpd C G B D P)) : wY_command_87 post (nI b) (nI p) (nI q) (nI n) x5 (nI h) (nI w) (nI pc) (nI st) (nI r) (nI c) (nI pen) (nI tp) (nI bo) (nI pd) (nI ins) (nI gr) (nI gc) (nI gp) (nI gpd) C G B D P :=
  pk_eq b 66 (fun z => absurd z (by omega)) (fun _ => yz_108 (by omega) hp)
/-! yw_k: from stage 64 to stage k nothing happens -/
theorem yw_87 {b p q n : Nat} {x5 : Int32} (h1 : b ≠ 65) (hb : b < 127) (H : wY_command_87 post (nI b) (nI p) (nI q) (nI n) x5 (nI h) (nI w) (nI pc) (nI st) (nI r) (nI c) (nI pen) (nI tp) (nI bo) (nI pd) (nI ins) (nI gr) (nI gc) (nI gp) (nI gpd) C G B D P) : wY_command_64 post (nI b) (nI p) (nI q) (nI n) x5 (nI h) (nI w) (nI pc) (nI st) (nI r) (nI c) (nI pen) (nI tp) (nI bo) (nI pd) (nI ins) (nI gr) (nI gc) (nI gp) (nI gpd) C G B D P :=
  pk_eq b 65 (fun z => absurd z h1) (fun _ => H)
theorem yw_108 {b p q n : Nat} {x5 : Int32} (h1 : b ≠ 65) (h2 : b ≠ 66) (hb : b < 127) (H : wY_command_108 post (nI b) (nI p) (nI q) (nI n) x5 (nI h) (nI w) (nI pc) (nI st) (nI r) (nI c) (nI pen) (nI tp) (nI bo) (nI pd) (nI ins) (nI gr) (nI gc) (nI gp) (nI gpd) C G B D P) : wY_command_64 post (nI b) (nI p) (nI q) (nI n) x5 (nI h) (nI w) (nI pc) (nI st) (nI r) (nI c) (nI pen) (nI tp) (nI bo) (nI pd) (nI ins) (nI gr) (nI gc) (nI gp) (nI gpd) C G B D P :=
  yw_87 h1 hb (pk_eq b 66 (fun z => absurd z h2) (fun _ => H))
theorem yw_129 {b p q n : Nat} {x5 : Int32} (h1 : b ≠ 65) (h2 : b ≠ 66) (h3 : b ≠ 67) (hb : b < 127) (H : wY_command_129 post (nI b) (nI p) (nI q) (nI n) x5 (nI h) (nI w) (nI pc) (nI st) (nI r) (nI c) (nI pen) (nI tp) (nI bo) (nI pd) (nI ins) (nI gr) (nI gc) (nI gp) (nI gpd) C G B D P) : wY_command_64 post (nI b) (nI p) (nI q) (nI n) x5 (nI h) (nI w) (nI pc) (nI st) (nI r) (nI c) (nI pen) (nI tp) (nI bo) (nI pd) (nI ins) (nI gr) (nI gc) (nI gp) (nI gpd) C G B D P :=
  yw_108 h1 h2 hb (pk_eq b 67 (fun z => absurd z h3) (fun _ => H))
theorem yw_150 {b p q n : Nat} {x5 : Int32} (h1 : b < 65 ∨ 68 < b) (hb : b < 127) (H : wY_command_150 post (nI b) (nI p) (nI q) (nI n) x5 (nI h) (nI w) (nI pc) (nI st) (nI r) (nI c) (nI pen) (nI tp) (nI bo) (nI pd) (nI ins) (nI gr) (nI gc) (nI gp) (nI gpd) C G B D P) : wY_command_64 post (nI b) (nI p) (nI q) (nI n) x5 (nI h) (nI w) (nI pc) (nI st) (nI r) (nI c) (nI pen) (nI tp) (nI bo) (nI pd) (nI ins) (nI gr) (nI gc) (nI gp) (nI gpd) C G B D P :=
  yw_129 (by omega) (by omega) (by omega) hb (pk_eq b 68 (fun z => absurd z (by omega)) (fun _ => H))
theorem yw_175 {b p q n : Nat} {x5 : Int32} (h1 : b < 65 ∨ 68 < b) (h2 : b ≠ 72) (hb : b < 127) (H : wY_command_175 post (nI b) (nI p) (nI q) (nI n) x5 (nI h) (nI w) (nI pc) (nI st) (nI r) (nI c) (nI pen) (nI tp) (nI bo) (nI pd) (nI ins) (nI gr) (nI gc) (nI gp) (nI gpd) C G B D P) : wY_command_64 post (nI b) (nI p) (nI q) (nI n) x5 (nI h) (nI w) (nI pc) (nI st) (nI r) (nI c) (nI pen) (nI tp) (nI bo) (nI pd) (nI ins) (nI gr) (nI gc) (nI gp) (nI gpd) C G B D P :=
  yw_150 h1 hb (pk_eq b 72 (fun z => absurd z h2) (fun _ => H))
theorem yw_187 {b p q n : Nat} {x5 : Int32} (h1 : b < 65 ∨ 68 < b) (h2 : b ≠ 72) (h3 : b ≠ 74) (hb : b < 127) (H : wY_command_187 post (nI b) (nI p) (nI q) (nI n) x5 (nI h) (nI w) (nI pc) (nI st) (nI r) (nI c) (nI pen) (nI tp) (nI bo) (nI pd) (nI ins) (nI gr) (nI gc) (nI gp) (nI gpd) C G B D P) : wY_command_64 post (nI b) (nI p) (nI q) (nI n) x5 (nI h) (nI w) (nI pc) (nI st) (nI r) (nI c) (nI pen) (nI tp) (nI bo) (nI pd) (nI ins) (nI gr) (nI gc) (nI gp) (nI gpd) C G B D P :=
  yw_175 h1 h2 hb (pk_eq b 74 (fun z => absurd z h3) (fun _ => H))
theorem yw_199 {b p q n : Nat} {x5 : Int32} (h1 : b < 65 ∨ 68 < b) (h2 : b ≠ 72) (h3 : b ≠ 74) (h4 : b ≠ 75) (hb : b < 127) (H : wY_command_199 post (nI b) (nI p) (nI q) (nI n) x5 (nI h) (nI w) (nI pc) (nI st) (nI r) (nI c) (nI pen) (nI tp) (nI bo) (nI pd) (nI ins) (nI gr) (nI gc) (nI gp) (nI gpd) C G B D P) : wY_command_64 post (nI b) (nI p) (nI q) (nI n) x5 (nI h) (nI w) (nI pc) (nI st) (nI r) (nI c) (nI pen) (nI tp) (nI bo) (nI pd) (nI ins) (nI gr) (nI gc) (nI gp) (nI gpd) C G B D P :=
  yw_187 h1 h2 h3 hb (pk_eq b 75 (fun z => absurd z h4) (fun _ => H))
theorem yw_247 {b p q n : Nat} {x5 : Int32} (h1 : b < 65 ∨ 68 < b) (h2 : b ≠ 72) (h3 : b ≠ 74) (h4 : b ≠ 75) (h5 : b ≠ 76) (h6 : b ≠ 77) (hb : b < 127) (H : wY_command_247 post (nI b) (nI p) (nI q) (nI n) (nI h) (nI w) (nI pc) (nI st) (nI r) (nI c) (nI pen) (nI tp) (nI bo) (nI pd) (nI ins) (nI gr) (nI gc) (nI gp) (nI gpd) C G B D P) : wY_command_64 post (nI b) (nI p) (nI q) (nI n) x5 (nI h) (nI w) (nI pc) (nI st) (nI r) (nI c) (nI pen) (nI tp) (nI bo) (nI pd) (nI ins) (nI gr) (nI gc) (nI gp) (nI gpd) C G B D P :=
  yw_199 h1 h2 h3 h4 hb (pk_eq b 76 (fun z => absurd z h5) (fun _ => pk_eq b 77 (fun z => absurd z h6) (fun _ => H)))
theorem yw_267 {b p q n : Nat} {x5 : Int32} (h1 : b < 65 ∨ 68 < b) (h2 : b ≠ 72) (h3 : b ≠ 74) (h4 : b ≠ 75) (h5 : b ≠ 76) (h6 : b ≠ 77) (h7 : b ≠ 83) (hb : b < 127) (H : wY_command_267 post (nI b) (nI p) (nI q) (nI n) (nI h) (nI w) (nI pc) (nI st) (nI r) (nI c) (nI pen) (nI tp) (nI bo) (nI pd) (nI ins) (nI gr) (nI gc) (nI gp) (nI gpd) C G B D P) : wY_command_64 post (nI b) (nI p) (nI q) (nI n) x5 (nI h) (nI w) (nI pc) (nI st) (nI r) (nI c) (nI pen) (nI tp) (nI bo) (nI pd) (nI ins) (nI gr) (nI gc) (nI gp) (nI gpd) C G B D P :=
  yw_247 h1 h2 h3 h4 h5 h6 hb (pk_eq b 83 (fun z => absurd z h7) (fun _ => H))
theorem yw_288 {b p q n : Nat} {x5 : Int32} (h1 : b < 65 ∨ 68 < b) (h2 : b ≠ 72) (h3 : b ≠ 74) (h4 : b ≠ 75) (h5 : b ≠ 76) (h6 : b ≠ 77) (h7 : b ≠ 83) (h8 : b ≠ 84) (hb : b < 127) (H : wY_command_288 post (nI b) (nI p) (nI q) (nI n) (nI h) (nI w) (nI pc) (nI st) (nI r) (nI c) (nI pen) (nI tp) (nI bo) (nI pd) (nI ins) (nI gr) (nI gc) (nI gp) (nI gpd) C G B D P) : wY_command_64 post (nI b) (nI p) (nI q) (nI n) x5 (nI h) (nI w) (nI pc) (nI st) (nI r) (nI c) (nI pen) (nI tp) (nI bo) (nI pd) (nI ins) (nI gr) (nI gc) (nI gp) (nI gpd) C G B D P :=
  yw_267 h1 h2 h3 h4 h5 h6 h7 hb (pk_eq b 84 (fun z => absurd z h8) (fun _ => H))
theorem yw_304 {b p q n : Nat} {x5 : Int32} (h1 : 84 < b) (h4 : b ≠ 104) (hb : b < 127) (H : wY_command_304 post (nI b) (nI p) (nI q) (nI n) (nI h) (nI w) (nI pc) (nI st) (nI r) (nI c) (nI pen) (nI tp) (nI bo) (nI pd) (nI ins) (nI gr) (nI gc) (nI gp) (nI gpd) C G B D P) : wY_command_64 post (nI b) (nI p) (nI q) (nI n) x5 (nI h) (nI w) (nI pc) (nI st) (nI r) (nI c) (nI pen) (nI tp) (nI bo) (nI pd) (nI ins) (nI gr) (nI gc) (nI gp) (nI gpd) C G B D P :=
  yw_288 (by omega) (by omega) (by omega) (by omega) (by omega) (by omega) (by omega) (by omega) hb (pk_eq b 104 (fun z => absurd z h4) (fun _ => H))
theorem yw_320 {b p q n : Nat} {x5 : Int32} (h1 : 84 < b) (h4 : b ≠ 104) (h5 : b ≠ 108) (hb : b < 127) (H : wY_command_320 post (nI b) (nI q) (nI n) (nI h) (nI w) (nI pc) (nI st) (nI r) (nI c) (nI pen) (nI tp) (nI bo) (nI pd) (nI ins) (nI gr) (nI gc) (nI gp) (nI gpd) C G B D P) : wY_command_64 post (nI b) (nI p) (nI q) (nI n) x5 (nI h) (nI w) (nI pc) (nI st) (nI r) (nI c) (nI pen) (nI tp) (nI bo) (nI pd) (nI ins) (nI gr) (nI gc) (nI gp) (nI gpd) C G B D P :=
  yw_304 h1 h4 hb (pk_eq b 108 (fun z => absurd z h5) (fun _ => H))
theorem yw_361 {b p q n : Nat} {x5 : Int32} (h1 : 84 < b) (h4 : b ≠ 104) (h5 : b ≠ 108) (h6 : b ≠ 109) (hb : b < 127) (H : wY_command_361 post (nI b) (nI q) (nI n) (nI h) (nI w) (nI pc) (nI st) (nI r) (nI c) (nI pen) (nI tp) (nI bo) (nI pd) (nI ins) (nI gr) (nI gc) (nI gp) (nI gpd) C G B D P) : wY_command_64 post (nI b) (nI p) (nI q) (nI n) x5 (nI h) (nI w) (nI pc) (nI st) (nI r) (nI c) (nI pen) (nI tp) (nI bo) (nI pd) (nI ins) (nI gr) (nI gc) (nI gp) (nI gpd) C G B D P :=
  yw_320 h1 h4 h5 hb (pk_eq b 109 (fun z => absurd z h6) (fun _ => H))
/-! the letters; x5: whether the cursor is within the margins -/
theorem yc_A {p q n : Nat} {x5 : Int32} (hh : 0 < h) (h8 : h ≤ 8) (hw : 0 < w) (w12 : w ≤ 12) (hp : post (sp_Y h w pc st (sp_cz (nI r - nI n).toInt (h - 1)) (sp_cz (nI c).toInt (w - 1)) pen tp bo 0 ins gr gc gp gpd C G B D P)) : wY_command_64 post (nI 65) (nI p) (nI q) (nI n) x5 (nI h) (nI w) (nI pc) (nI st) (nI r) (nI c) (nI pen) (nI tp) (nI bo) (nI pd) (nI ins) (nI gr) (nI gc) (nI gp) (nI gpd) C G B D P :=
  br_t (by decide) (ym_move hh h8 hw w12 (yz_87 (by omega) hp))
theorem yc_B {p q n : Nat} {x5 : Int32} (hh : 0 < h) (h8 : h ≤ 8) (hw : 0 < w) (w12 : w ≤ 12) (hp : post (sp_Y h w pc st (sp_cz (nI r + nI n).toInt (h - 1)) (sp_cz (nI c).toInt (w - 1)) pen tp bo 0 ins gr gc gp gpd C G B D P)) : wY_command_64 post (nI 66) (nI p) (nI q) (nI n) x5 (nI h) (nI w) (nI pc) (nI st) (nI r) (nI c) (nI pen) (nI tp) (nI bo) (nI pd) (nI ins) (nI gr) (nI gc) (nI gp) (nI gpd) C G B D P :=
  yw_87 (by omega) (by omega) (br_t (by decide) (ym_move hh h8 hw w12 (yz_108 (by omega) hp)))
theorem yc_C {p q n : Nat} {x5 : Int32} (hh : 0 < h) (h8 : h ≤ 8) (hw : 0 < w) (w12 : w ≤ 12) (hp : post (sp_Y h w pc st (sp_cz (nI r).toInt (h - 1)) (sp_cz (nI c + nI n).toInt (w - 1)) pen tp bo 0 ins gr gc gp gpd C G B D P)) : wY_command_64 post (nI 67) (nI p) (nI q) (nI n) x5 (nI h) (nI w) (nI pc) (nI st) (nI r) (nI c) (nI pen) (nI tp) (nI bo) (nI pd) (nI ins) (nI gr) (nI gc) (nI gp) (nI gpd) C G B D P :=
  yw_108 (by omega) (by omega) (by omega) (br_t (by decide) (ym_move hh h8 hw w12 (yz_129 (by omega) hp)))
theorem yc_D {p q n : Nat} {x5 : Int32} (hh : 0 < h) (h8 : h ≤ 8) (hw : 0 < w) (w12 : w ≤ 12) (hp : post (sp_Y h w pc st (sp_cz (nI r).toInt (h - 1)) (sp_cz (nI c - nI n).toInt (w - 1)) pen tp bo 0 ins gr gc gp gpd C G B D P)) : wY_command_64 post (nI 68) (nI p) (nI q) (nI n) x5 (nI h) (nI w) (nI pc) (nI st) (nI r) (nI c) (nI pen) (nI tp) (nI bo) (nI pd) (nI ins) (nI gr) (nI gc) (nI gp) (nI gpd) C G B D P :=
  yw_129 (by omega) (by omega) (by omega) (by omega) (br_t (by decide) (ym_move hh h8 hw w12 (yz_150 (by omega) hp)))
theorem yc_H {p q n : Nat} {x5 : Int32} (hh : 0 < h) (h8 : h ≤ 8) (hw : 0 < w) (w12 : w ≤ 12) (hq : q ≤ 99) (hp : post (sp_Y h w pc st (sp_cz (nI n - 1).toInt (h - 1)) (sp_cz (nI (q - 1)).toInt (w - 1)) pen tp bo 0 ins gr gc gp gpd C G B D P)) : wY_command_64 post (nI 72) (nI p) (nI q) (nI n) x5 (nI h) (nI w) (nI pc) (nI st) (nI r) (nI c) (nI pen) (nI tp) (nI bo) (nI pd) (nI ins) (nI gr) (nI gc) (nI gp) (nI gpd) C G B D P := by
  refine yw_150 (by omega) (by omega) (br_t (by decide) (pk_eq q 0 (fun e => ?_) (fun e => ?_)))
  · subst e
    refine ym_move (y := nI 0) hh h8 hw w12 (yz_175 (by omega) hp)
  · have e2 : nI q - 1 = nI (q - 1) := ar_dec (by omega)
    unfold wY_command_170
    rw [e2]
    exact ym_move hh h8 hw w12 (yz_175 (by omega) hp)
theorem yc_J {p q n : Nat} {x5 : Int32} (hp9 : p ≤ 99) (h8 : h ≤ 8) (hr : r < h) (hc : c < w) (w12 : w ≤ 12) (hp : post (sp_Y h w pc st r c pen tp bo pd ins gr gc gp gpd (sp_ye p 1 r (12 * r + c) 0 h w (nI (256 + pen)) C) G B D P)) : wY_command_64 post (nI 74) (nI p) (nI q) (nI n) x5 (nI h) (nI w) (nI pc) (nI st) (nI r) (nI c) (nI pen) (nI tp) (nI bo) (nI pd) (nI ins) (nI gr) (nI gc) (nI gp) (nI gpd) C G B D P :=
  yw_175 (by omega) (by omega) (by omega) (br_t (by decide) (ym_erase (ev := 1) rfl hp9 h8 hr hc (by omega) w12 (yz_187 (by omega) hp)))
theorem yc_K {p q n : Nat} {x5 : Int32} (hp9 : p ≤ 99) (h8 : h ≤ 8) (hr : r < h) (hc : c < w) (w12 : w ≤ 12) (hp : post (sp_Y h w pc st r c pen tp bo pd ins gr gc gp gpd (sp_ye p 0 r (12 * r + c) 0 h w (nI (256 + pen)) C) G B D P)) : wY_command_64 post (nI 75) (nI p) (nI q) (nI n) x5 (nI h) (nI w) (nI pc) (nI st) (nI r) (nI c) (nI pen) (nI tp) (nI bo) (nI pd) (nI ins) (nI gr) (nI gc) (nI gp) (nI gpd) C G B D P :=
  yw_187 (by omega) (by omega) (by omega) (by omega) (br_t (by decide) (ym_erase (ev := 0) rfl hp9 h8 hr hc (by omega) w12 (yz_199 (by omega) hp)))
theorem yc_L1 {p q n : Nat} (h8 : h ≤ 8) (w12 : w ≤ 12) (hn : 0 < n) (hn9 : n ≤ 99) (hb : bo < h) (hrb : r ≤ bo) (hp : post (sp_Y h w pc st r c pen tp bo 0 ins gr gc gp gpd (sp_yd w r bo n pen C) G (sp_cp 96 C B) D P)) : wY_command_64 post (nI 76) (nI p) (nI q) (nI n) (nI 1) (nI h) (nI w) (nI pc) (nI st) (nI r) (nI c) (nI pen) (nI tp) (nI bo) (nI pd) (nI ins) (nI gr) (nI gc) (nI gp) (nI gpd) C G B D P :=
  yw_199 (by omega) (by omega) (by omega) (by omega) (by omega) (br_t (by decide) (br_f (by decide) (br_t (by decide) (ym_scrollD rfl hrb hb h8 w12 hn hn9 (yz_247 (pd := 0) (by omega) hp)))))
theorem yc_L0 {p q n : Nat} (hp : post (sp_Y h w pc st r c pen tp bo pd ins gr gc gp gpd C G B D P)) : wY_command_64 post (nI 76) (nI p) (nI q) (nI n) (nI 0) (nI h) (nI w) (nI pc) (nI st) (nI r) (nI c) (nI pen) (nI tp) (nI bo) (nI pd) (nI ins) (nI gr) (nI gc) (nI gp) (nI gpd) C G B D P :=
  yw_199 (by omega) (by omega) (by omega) (by omega) (by omega) (br_t (by decide) (br_t (by decide) (yz_247 (by omega) hp)))
theorem yc_M1 {p q n : Nat} (h8 : h ≤ 8) (w12 : w ≤ 12) (hn : 0 < n) (hn9 : n ≤ 99) (hb : bo < h) (hrb : r ≤ bo) (hp : post (sp_Y h w pc st r c pen tp bo 0 ins gr gc gp gpd (sp_yu w r bo n pen C) G (sp_cp 96 C B) D P)) : wY_command_64 post (nI 77) (nI p) (nI q) (nI n) (nI 1) (nI h) (nI w) (nI pc) (nI st) (nI r) (nI c) (nI pen) (nI tp) (nI bo) (nI pd) (nI ins) (nI gr) (nI gc) (nI gp) (nI gpd) C G B D P :=
  yw_199 (by omega) (by omega) (by omega) (by omega) (by omega) (br_f (by decide) (br_t (by decide) (br_f (by decide) (br_f (by decide) (ym_scrollU rfl hrb hb h8 w12 hn hn9 (yz_247 (pd := 0) (by omega) hp))))))
theorem yc_M0 {p q n : Nat} (hp : post (sp_Y h w pc st r c pen tp bo pd ins gr gc gp gpd C G B D P)) : wY_command_64 post (nI 77) (nI p) (nI q) (nI n) (nI 0) (nI h) (nI w) (nI pc) (nI st) (nI r) (nI c) (nI pen) (nI tp) (nI bo) (nI pd) (nI ins) (nI gr) (nI gc) (nI gp) (nI gpd) C G B D P :=
  yw_199 (by omega) (by omega) (by omega) (by omega) (by omega) (br_f (by decide) (br_t (by decide) (br_t (by decide) (yz_247 (by omega) hp))))
theorem yc_S {p q n : Nat} {x5 : Int32} (h8 : h ≤ 8) (w12 : w ≤ 12) (hn : 0 < n) (hn9 : n ≤ 99) (hb : bo < h) (ht : tp ≤ bo) (hp : post (sp_Y h w pc st r c pen tp bo pd ins gr gc gp gpd (sp_yu w tp bo n pen C) G (sp_cp 96 C B) D P)) : wY_command_64 post (nI 83) (nI p) (nI q) (nI n) x5 (nI h) (nI w) (nI pc) (nI st) (nI r) (nI c) (nI pen) (nI tp) (nI bo) (nI pd) (nI ins) (nI gr) (nI gc) (nI gp) (nI gpd) C G B D P :=
  yw_247 (by omega) (by omega) (by omega) (by omega) (by omega) (by omega) (by omega) (br_t (by decide) (ym_scrollU rfl ht hb h8 w12 hn hn9 (yz_267 (by omega) (by omega) hp)))
theorem yc_T {p q n : Nat} {x5 : Int32} (h8 : h ≤ 8) (w12 : w ≤ 12) (hn : 0 < n) (hn9 : n ≤ 99) (hb : bo < h) (ht : tp ≤ bo) (hp : post (sp_Y h w pc st r c pen tp bo pd ins gr gc gp gpd (sp_yd w tp bo n pen C) G (sp_cp 96 C B) D P)) : wY_command_64 post (nI 84) (nI p) (nI q) (nI n) x5 (nI h) (nI w) (nI pc) (nI st) (nI r) (nI c) (nI pen) (nI tp) (nI bo) (nI pd) (nI ins) (nI gr) (nI gc) (nI gp) (nI gpd) C G B D P :=
  yw_267 (by omega) (by omega) (by omega) (by omega) (by omega) (by omega) (by omega) (by omega) (br_t (by decide) (ym_scrollD rfl ht hb h8 w12 hn hn9 (yz_288 (by omega) (by omega) (by omega) (by omega) (by omega) hp)))
theorem yc_h {p q n : Nat} {x5 : Int32} (hp9 : p ≤ 99) (hp : post (sp_Y h w pc st r c pen tp bo pd (if p = 4 then 1 else ins) gr gc gp gpd C G B D P)) : wY_command_64 post (nI 104) (nI p) (nI q) (nI n) x5 (nI h) (nI w) (nI pc) (nI st) (nI r) (nI c) (nI pen) (nI tp) (nI bo) (nI pd) (nI ins) (nI gr) (nI gc) (nI gp) (nI gpd) C G B D P :=
  yw_288 (by omega) (by omega) (by omega) (by omega) (by omega) (by omega) (by omega) (by omega) (by omega) (br_t (by decide) (pk_eq p 4 (fun e => yz_304 (ins := 1) (by omega) (by omega) (by omega) (by omega) (by rw [if_pos e] at hp; exact hp)) (fun e => yz_304 (by omega) (by omega) (by omega) (by omega) (by rw [if_neg e] at hp; exact hp))))
theorem yc_l {p q n : Nat} {x5 : Int32} (hp9 : p ≤ 99) (hp : post (sp_Y h w pc st r c pen tp bo pd (if p = 4 then 0 else ins) gr gc gp gpd C G B D P)) : wY_command_64 post (nI 108) (nI p) (nI q) (nI n) x5 (nI h) (nI w) (nI pc) (nI st) (nI r) (nI c) (nI pen) (nI tp) (nI bo) (nI pd) (nI ins) (nI gr) (nI gc) (nI gp) (nI gpd) C G B D P :=
  yw_304 (by omega) (by omega) (by omega) (br_t (by decide) (pk_eq p 4 (fun e => yz_320 (ins := 0) (by omega) (by omega) (by omega) (by rw [if_pos e] at hp; exact hp)) (fun e => yz_320 (by omega) (by omega) (by omega) (by rw [if_neg e] at hp; exact hp))))
theorem yl_329 {V : Nat → Nat} {q n : Nat} (hV : ∀ i, i < pc → P i = nI (V i) ∧ V i ≤ 99) (hpc : pc ≤ 4) : ∀ d i m pen, i + d = 4 → d < m → pen < 8 → post (sp_Y h w pc st r c (sp_pens V i (pc - i) pen) tp bo pd ins gr gc gp gpd C G B D P) → wY_command_329 post (nI 109) (nI q) (nI n) m (nI i) (nI h) (nI w) (nI pc) (nI st) (nI r) (nI c) (nI pen) (nI tp) (nI bo) (nI pd) (nI ins) (nI gr) (nI gc) (nI gp) (nI gpd) C G B D P := by
  intro d
  induction d with
  | zero =>
    intro i m pen e hn hpn hp
    obtain ⟨m, rfl⟩ : ∃ k, m = k + 1 := ⟨m - 1, by omega⟩
    rw [show pc - i = 0 by omega] at hp
    exact pk_le 4 i (fun _ => yz_361 (by omega) (by omega) hp) (fun z => absurd z (by omega))
  | succ d ih =>
    intro i m pen e hn hpn hp
    obtain ⟨m, rfl⟩ : ∃ k, m = k + 1 := ⟨m - 1, by omega⟩
    refine pk_le 4 i (fun z => absurd z (by omega)) (fun _ => pk_le pc i (fun z => ?_) (fun z => ?_))
    · rw [show pc - i = 0 by omega] at hp
      refine nm_r (nI_1 i) (ih (i + 1) m pen (by omega) (by omega) hpn ?_)
      rw [show pc - (i + 1) = 0 by omega]
      exact hp
    · obtain ⟨h1, h2⟩ := hV i z
      rw [show pc - i = (pc - (i + 1)) + 1 by omega] at hp
      refine And.intro (pk_in i 4 (by omega)) ?_
      rw [show P (nI i).toNatClampNeg = nI (V i) from by rw [nI_clamp (by omega)]; exact h1]
      refine ym_attribute h2 hpn ?_
      exact nm_r (nI_1 i) (ih (i + 1) m (sp_at (V i) pen) (by omega) (by omega) (sp_at_lt (V i) (by omega) pen hpn) hp)
theorem yc_m {V : Nat → Nat} {p q n : Nat} {x5 : Int32} (hV : ∀ i, i < pc → P i = nI (V i) ∧ V i ≤ 99) (hpc : pc ≤ 4) (hpen : pen < 8) (hp : post (sp_Y h w pc st r c (sp_pens V 0 pc pen) tp bo pd ins gr gc gp gpd C G B D P)) : wY_command_64 post (nI 109) (nI p) (nI q) (nI n) x5 (nI h) (nI w) (nI pc) (nI st) (nI r) (nI c) (nI pen) (nI tp) (nI bo) (nI pd) (nI ins) (nI gr) (nI gc) (nI gp) (nI gpd) C G B D P :=
  yw_320 (by omega) (by omega) (by omega) (by omega) (br_t (by decide) ⟨5, yl_329 hV hpc 4 0 5 pen (by omega) (by omega) hpen hp⟩)
theorem yl_387 {z n : Nat} (hh : 0 < h) (h8 : h ≤ 8) (hw : 0 < w) (w12 : w ≤ 12) (hn : 0 < n) (hn9 : n ≤ 99) (hz : z ≤ 99) (hp1 : n < z → post (sp_Y h w pc st 0 0 pen (n - 1) (z - 1) 0 ins gr gc gp gpd C G B D P)) (hp2 : ¬ n < z → post (sp_Y h w pc st r c pen tp bo pd ins gr gc gp gpd C G B D P)) : wY_command_387 post (nI n) (nI z) (nI h) (nI w) (nI pc) (nI st) (nI r) (nI c) (nI pen) (nI tp) (nI bo) (nI pd) (nI ins) (nI gr) (nI gc) (nI gp) (nI gpd) C G B D P := by
  refine pk_le z n (fun q => hp2 (by omega)) (fun q => ?_)
  refine nm_r (ar_dec hn) (nm_r (ar_dec (by omega)) ?_)
  refine ym_move hh h8 hw w12 ?_
  rw [sp_cz0, sp_cz0]
  exact hp1 q
theorem yc_r {p q n : Nat} {x5 : Int32} (hh : 0 < h) (h8 : h ≤ 8) (hw : 0 < w) (w12 : w ≤ 12) (hn : 0 < n) (hn9 : n ≤ 99) (hq : q ≤ 99) (hp1 : n < sp_mu h q → post (sp_Y h w pc st 0 0 pen (n - 1) (sp_mu h q - 1) 0 ins gr gc gp gpd C G B D P)) (hp2 : ¬ n < sp_mu h q → post (sp_Y h w pc st r c pen tp bo pd ins gr gc gp gpd C G B D P)) : wY_command_64 post (nI 114) (nI p) (nI q) (nI n) x5 (nI h) (nI w) (nI pc) (nI st) (nI r) (nI c) (nI pen) (nI tp) (nI bo) (nI pd) (nI ins) (nI gr) (nI gc) (nI gp) (nI gpd) C G B D P := by
  unfold sp_mu at hp1 hp2
  refine yw_361 (by omega) (by omega) (by omega) (by omega) (by omega) (br_t (by decide) (pk_eq q 0 (fun e => ?_) (fun e => pk_le q h (fun e2 => ?_) (fun e2 => ?_))))
  · rw [if_pos e] at hp1 hp2
    exact yl_387 hh h8 hw w12 hn hn9 (by omega) hp1 hp2
  · rw [if_neg e, if_pos e2] at hp1 hp2
    exact yl_387 hh h8 hw w12 hn hn9 hq hp1 hp2
  · rw [if_neg e, if_neg (by omega)] at hp1 hp2
    exact yl_387 hh h8 hw w12 hn hn9 (by omega) hp1 hp2
theorem yc_0 {b p q n : Nat} {x5 : Int32} (hb : ∀ k, k ∈ [65, 66, 67, 68, 72, 74, 75, 76, 77, 83, 84, 104, 108, 109, 114] → b ≠ k) (hb9 : b < 127) (hp : post (sp_Y h w pc st r c pen tp bo pd ins gr gc gp gpd C G B D P)) : wY_command_64 post (nI b) (nI p) (nI q) (nI n) x5 (nI h) (nI w) (nI pc) (nI st) (nI r) (nI c) (nI pen) (nI tp) (nI bo) (nI pd) (nI ins) (nI gr) (nI gc) (nI gp) (nI gpd) C G B D P :=
  yw_129 (hb 65 (by decide)) (hb 66 (by decide)) (hb 67 (by decide)) hb9 (pk_eq b 68 (fun z => absurd z (hb 68 (by decide))) (fun _ => pk_eq b 72 (fun z => absurd z (hb 72 (by decide))) (fun _ => pk_eq b 74 (fun z => absurd z (hb 74 (by decide))) (fun _ => pk_eq b 75 (fun z => absurd z (hb 75 (by decide))) (fun _ => pk_eq b 76 (fun z => absurd z (hb 76 (by decide))) (fun _ => pk_eq b 77 (fun z => absurd z (hb 77 (by decide))) (fun _ => pk_eq b 83 (fun z => absurd z (hb 83 (by decide))) (fun _ => pk_eq b 84 (fun z => absurd z (hb 84 (by decide))) (fun _ => yz_288 hb9 (hb 104 (by decide)) (hb 108 (by decide)) (hb 109 (by decide)) (hb 114 (by decide)) hp))))))))) 
end
end
section
/-! the reference: one byte -/
section
variable {post : SY → Prop} {h w pc st r c pen tp bo pd ins gr gc gp gpd : Nat} {C G B D P : Nat → Int32}
theorem ym_cmd {b p q : Nat} (hP : P 0 = nI p) (hp9 : p ≤ 99) (hq : (pc ≤ 1 ∧ q = 0) ∨ (1 < pc ∧ P 1 = nI q)) (hpc : pc < 100) (hr : r < 100) (hb : bo < 100) (ht : tp < 100) (H : wY_command_64 post (nI b) (nI p) (nI q) (nI (if p = 0 then 1 else p)) (nI (if tp ≤ r ∧ r ≤ bo then 1 else 0)) (nI h) (nI w) (nI pc) (nI st) (nI r) (nI c) (nI pen) (nI tp) (nI bo) (nI pd) (nI ins) (nI gr) (nI gc) (nI gp) (nI gpd) C G B D P) : wpY_command post (sp_Y h w pc st r c pen tp bo pd ins gr gc gp gpd C G B D P) (nI b) := by
  have H35 : wY_command_35 post (nI b) (nI p) (nI q) (nI (if p = 0 then 1 else p)) (nI h) (nI w) (nI pc) (nI st) (nI r) (nI c) (nI pen) (nI tp) (nI bo) (nI pd) (nI ins) (nI gr) (nI gc) (nI gp) (nI gpd) C G B D P := by
    refine pk_lt r tp (fun e => ?_) (fun e => pk_lt bo r (fun e2 => ?_) (fun e2 => ?_))
    · rw [if_neg (show ¬ (tp ≤ r ∧ r ≤ bo) by omega)] at H; exact H
    · rw [if_neg (show ¬ (tp ≤ r ∧ r ≤ bo) by omega)] at H; exact H
    · rw [if_pos (show tp ≤ r ∧ r ≤ bo by omega)] at H; exact H
  have H25 : wY_command_25 post (nI b) (nI p) (nI q) (nI h) (nI w) (nI pc) (nI st) (nI r) (nI c) (nI pen) (nI tp) (nI bo) (nI pd) (nI ins) (nI gr) (nI gc) (nI gp) (nI gpd) C G B D P := by
    refine pk_eq p 0 (fun e => ?_) (fun e => ?_)
    · rw [if_pos e] at H35; exact H35
    · rw [if_neg e] at H35; exact H35
  refine nm_r hP (pk_le pc 1 (fun e => ?_) (fun e => ?_))
  · rcases hq with ⟨_, hq⟩ | ⟨hq, _⟩
    · subst hq; exact H25
    · exact absurd hq (by omega)
  · rcases hq with ⟨hq, _⟩ | ⟨_, hq⟩
    · exact absurd hq (by omega)
    · rw [hq]; exact H25
theorem yk_59 {b : Nat} (hb : b < 32) (h13 : b ≠ 13) (hp : post (sp_Y h w pc st r c pen tp bo pd ins gr gc gp gpd C G B D P)) : wY_control_59 post (nI b) (nI h) (nI w) (nI pc) (nI st) (nI r) (nI c) (nI pen) (nI tp) (nI bo) (nI pd) (nI ins) (nI gr) (nI gc) (nI gp) (nI gpd) C G B D P :=
  pk_eq b 13 (fun z => absurd z h13) (fun _ => hp)
theorem yk_44 {b : Nat} (hb : b < 32) (h10 : b ≠ 10) (h13 : b ≠ 13) (hp : post (sp_Y h w pc st r c pen tp bo pd ins gr gc gp gpd C G B D P)) : wY_control_44 post (nI b) (nI h) (nI w) (nI pc) (nI st) (nI r) (nI c) (nI pen) (nI tp) (nI bo) (nI pd) (nI ins) (nI gr) (nI gc) (nI gp) (nI gpd) C G B D P :=
  pk_eq b 10 (fun z => absurd z h10) (fun _ => yk_59 hb h13 hp)
theorem yk_20 {b : Nat} (hb : b < 32) (h9 : b ≠ 9) (h10 : b ≠ 10) (h13 : b ≠ 13) (hp : post (sp_Y h w pc st r c pen tp bo pd ins gr gc gp gpd C G B D P)) : wY_control_20 post (nI b) (nI h) (nI w) (nI pc) (nI st) (nI r) (nI c) (nI pen) (nI tp) (nI bo) (nI pd) (nI ins) (nI gr) (nI gc) (nI gp) (nI gpd) C G B D P :=
  pk_eq b 9 (fun z => absurd z h9) (fun _ => yk_44 hb h10 h13 hp)
theorem yk_0 {b : Nat} (hb : b < 32) (h8 : b ≠ 8) (h9 : b ≠ 9) (h10 : b ≠ 10) (h13 : b ≠ 13) (hp : post (sp_Y h w pc st r c pen tp bo pd ins gr gc gp gpd C G B D P)) : wpY_control post (sp_Y h w pc st r c pen tp bo pd ins gr gc gp gpd C G B D P) (nI b) :=
  pk_eq b 8 (fun z => absurd z h8) (fun _ => yk_20 hb h9 h10 h13 hp)
theorem yk_8 (hr : r < h) (h8 : h ≤ 8) (hc : c < w) (w12 : w ≤ 12) (hp : post (sp_Y h w pc st r (c - 1) pen tp bo 0 ins gr gc gp gpd C G B D P)) : wpY_control post (sp_Y h w pc st r c pen tp bo pd ins gr gc gp gpd C G B D P) (nI 8) := by
  refine br_t (by decide) (ym_move (by omega) h8 (by omega) w12 (yk_20 (by omega) (by omega) (by omega) (by omega) ?_))
  have e : sp_cz (nI c - 1).toInt (w - 1) = c - 1 := by
    have e1 : (nI c - 1).toInt = (c : Int) - 1 := pk_sub_toInt (b := 1) (by omega) (by omega)
    rw [e1]
    unfold sp_cz
    by_cases q : c = 0
    · subst q; rfl
    · rw [if_neg (by omega), if_pos (by omega)]; omega
  rw [sp_czr hr h8, e]
  exact hp
theorem yk_9 (hr : r < h) (h8 : h ≤ 8) (hc : c < w) (w12 : w ≤ 12) (hp : post (sp_Y h w pc st r (sp_nt w c) pen tp bo 0 ins gr gc gp gpd C G B D P)) : wpY_control post (sp_Y h w pc st r c pen tp bo pd ins gr gc gp gpd C G B D P) (nI 9) := by
  refine br_f (by decide) (br_t (by decide) (And.intro (by decide) (ym_move (by omega) h8 (by omega) w12 (yk_44 (by omega) (by omega) (by omega) ?_))))
  have e : sp_cz ((4 : Int32) * ((nI c / 4) + 1)).toInt (w - 1) = sp_nt w c := by
    rw [ar_tab (by omega), nI_toInt (by omega), sp_cz_n]
    unfold sp_nt
    by_cases q : w - 1 ≤ 4 * (c / 4 + 1)
    · rw [if_pos q]
      by_cases q2 : 4 * (c / 4 + 1) ≤ w - 1
      · rw [if_pos q2]; omega
      · rw [if_neg q2]
    · rw [if_neg q, if_pos (by omega)]
  rw [sp_czr hr h8, e]
  exact hp
theorem yk_10 (hr : r < h) (ht : tp ≤ bo) (hb : bo < h) (h8 : h ≤ 8) (w12 : w ≤ 12) (hp : post (sp_Y h w pc st (sp_lr h bo r) c pen tp bo 0 ins gr gc gp gpd (sp_ylc w tp bo pen r C) G (sp_ylb bo r C B) D P)) : wpY_control post (sp_Y h w pc st r c pen tp bo pd ins gr gc gp gpd C G B D P) (nI 10) :=
  br_f (by decide) (br_f (by decide) (br_t (by decide) (ym_lineStep (pd := 0) hr ht hb h8 w12 (yk_59 (by omega) (by omega) hp))))
theorem yk_13 (hr : r < h) (h8 : h ≤ 8) (hw : 0 < w) (w12 : w ≤ 12) (hp : post (sp_Y h w pc st r 0 pen tp bo 0 ins gr gc gp gpd C G B D P)) : wpY_control post (sp_Y h w pc st r c pen tp bo pd ins gr gc gp gpd C G B D P) (nI 13) := by
  refine br_f (by decide) (br_f (by decide) (br_f (by decide) (br_t (by decide) (ym_move (by omega) h8 hw w12 ?_))))
  rw [sp_czr hr h8, sp_cz0]
  exact hp
/-! sequences -/
theorem ys_dig {b v : Nat} (h48 : 48 ≤ b) (h57 : b ≤ 57) (hpc : 0 < pc) (hpc4 : pc ≤ 4) (hv : P (pc - 1) = nI v) (hv9 : v ≤ 99) (hp : post (sp_Y h w pc st r c pen tp bo pd ins gr gc gp gpd C G B D (upd P (pc - 1) (nI (sp_dg v b))))) : wpY_sequence post (sp_Y h w pc st r c pen tp bo pd ins gr gc gp gpd C G B D P) (nI b) := by
  have e0 : (nI pc - 1).toNatClampNeg = pc - 1 := by rw [ar_dec hpc, nI_clamp (by omega)]
  have e1 : (10 : Int32) * P (nI pc - 1).toNatClampNeg + nI b - 48 = nI (10 * v + b - 48) := by
    rw [e0, hv, show (10 : Int32) = nI 10 from rfl, show (48 : Int32) = nI 48 from rfl, pk_mul, nI_add, pk_sub (by omega)]
  have e2 : sp_cl (nI (10 * v + b - 48)) 0 99 = nI (sp_dg v b) := by
    unfold sp_cl sp_dg
    rw [if_pos (nI_pos' (by omega))]
    by_cases q : 10 * v + b - 48 ≤ 99
    · have z : nI (10 * v + b - 48) ≤ 99 := nI_le (b := 99) q (by omega)
      rw [if_pos q, if_pos z]
    · have z : ¬ nI (10 * v + b - 48) ≤ 99 := nI_ge (a := 99) (b := 10 * v + b - 48) (by omega) (by omega)
      rw [if_neg q, if_neg z]; rfl
  refine pk_lt b 48 (fun q => absurd q (by omega)) (fun _ => pk_lt 57 b (fun q => absurd q (by omega)) (fun _ => ?_))
  refine And.intro (pk_in (pc - 1) 4 (by omega) (ar_dec hpc)) (ym_clamp ?_)
  rw [e1, e2]
  exact And.intro (pk_in (pc - 1) 4 (by omega) (ar_dec hpc)) (nm_r (e' := upd P (pc - 1) (nI (sp_dg v b))) (by rw [e0]) hp)
theorem ys_semi (hpc4 : pc < 4) (hp : post (sp_Y h w (pc + 1) st r c pen tp bo pd ins gr gc gp gpd C G B D (upd P pc (nI 0)))) : wpY_sequence post (sp_Y h w pc st r c pen tp bo pd ins gr gc gp gpd C G B D P) (nI 59) := by
  refine br_f (by decide) (br_t (by decide) ?_)
  unfold wY_sequence_52
  refine br_t (by decide) (pk_le 4 pc (fun q => absurd q (by omega)) (fun _ => ?_))
  exact And.intro (pk_in pc 4 (by omega)) (nm_r (e' := upd P pc (nI 0)) (by rw [nI_clamp (by omega)]; rfl) (nm_r (nI_1 pc) hp))
theorem ys_ign {b : Nat} (hb : b < 64) (hd : b < 48 ∨ 57 < b) (hs : b = 59 → 4 ≤ pc) (hpc : pc < 100) (hp : post (sp_Y h w pc 3 r c pen tp bo pd ins gr gc gp gpd C G B D P)) : wpY_sequence post (sp_Y h w pc st r c pen tp bo pd ins gr gc gp gpd C G B D P) (nI b) := by
  have H89 : wY_sequence_89 post (nI b) (nI h) (nI w) (nI pc) (nI st) (nI r) (nI c) (nI pen) (nI tp) (nI bo) (nI pd) (nI ins) (nI gr) (nI gc) (nI gp) (nI gpd) C G B D P := pk_lt b 64 (fun _ => hp) (fun q => absurd q (by omega))
  have H52 : wY_sequence_52 post (nI b) (nI h) (nI w) (nI pc) (nI st) (nI r) (nI c) (nI pen) (nI tp) (nI bo) (nI pd) (nI ins) (nI gr) (nI gc) (nI gp) (nI gpd) C G B D P := pk_eq b 59 (fun q => pk_le 4 pc (fun _ => H89) (fun q2 => absurd (hs q) (by omega))) (fun _ => H89)
  exact pk_lt b 48 (fun _ => H52) (fun q => pk_lt 57 b (fun _ => H52) (fun q2 => absurd hd (by omega)))
theorem ys_cmd {b : Nat} {u' : SY} (hb : 64 ≤ b) (hb2 : b < 127) (H : ∀ po : SY → Prop, po u' → wpY_command po (sp_Y h w pc 0 r c pen tp bo pd ins gr gc gp gpd C G B D P) (nI b)) (hp : post u') : wpY_sequence post (sp_Y h w pc st r c pen tp bo pd ins gr gc gp gpd C G B D P) (nI b) := by
  obtain ⟨a1, a2, a3, a4, a5, a6, a7, a8, a9, a10, a11, a12, a13, a14, a15, a16, a17, a18, a19, a20⟩ := u'
  have H89 : wY_sequence_89 post (nI b) (nI h) (nI w) (nI pc) (nI st) (nI r) (nI c) (nI pen) (nI tp) (nI bo) (nI pd) (nI ins) (nI gr) (nI gc) (nI gp) (nI gpd) C G B D P := pk_lt b 64 (fun q => absurd q (by omega)) (fun _ => H _ hp)
  have H52 : wY_sequence_52 post (nI b) (nI h) (nI w) (nI pc) (nI st) (nI r) (nI c) (nI pen) (nI tp) (nI bo) (nI pd) (nI ins) (nI gr) (nI gc) (nI gp) (nI gpd) C G B D P := pk_eq b 59 (fun q => absurd q (by omega)) (fun _ => H89)
  exact pk_lt b 48 (fun q => absurd q (by omega)) (fun q => pk_lt 57 b (fun _ => H52) (fun q2 => absurd q2 (by omega)))
/-! feed -/
variable {pq : Int32 → SY → Prop}
theorem yt_24 (hp : pq (nI 1) (sp_Y h w pc 0 r c pen tp bo pd ins gr gc gp gpd C G B D P)) : wpY_feed pq (sp_Y h w pc st r c pen tp bo pd ins gr gc gp gpd C G B D P) (nI 24) := br_f (by decide) (br_t (by decide) (br_t (by decide) hp))
theorem yt_27 (hp : pq (nI 1) (sp_Y h w pc 1 r c pen tp bo pd ins gr gc gp gpd C G B D P)) : wpY_feed pq (sp_Y h w pc st r c pen tp bo pd ins gr gc gp gpd C G B D P) (nI 27) := br_f (by decide) (br_t (by decide) (br_f (by decide) (br_t (by decide) hp)))
theorem yt_ctl {b : Nat} {u' : SY} (hb : b < 32) (h24 : b ≠ 24) (h27 : b ≠ 27) (H : ∀ po : SY → Prop, po u' → wpY_control po (sp_Y h w pc st r c pen tp bo pd ins gr gc gp gpd C G B D P) (nI b)) (hp : pq (nI 1) u') : wpY_feed pq (sp_Y h w pc st r c pen tp bo pd ins gr gc gp gpd C G B D P) (nI b) := by
  obtain ⟨a1, a2, a3, a4, a5, a6, a7, a8, a9, a10, a11, a12, a13, a14, a15, a16, a17, a18, a19, a20⟩ := u'
  exact br_f (nI_pos (by omega)) (pk_le b 255 (fun _ => br_f (ar_ne (k := 24) h24 (by omega) (by decide)) (br_f (ar_ne (k := 27) h27 (by omega) (by decide)) (pk_le 32 b (fun q => absurd q (by omega)) (fun _ => H _ hp)))) (fun q => absurd q (by omega)))
theorem yt_big {b : Nat} (hb : 127 ≤ b) (hb2 : b < 256) (hp : pq (nI 1) (sp_Y h w pc st r c pen tp bo pd ins gr gc gp gpd C G B D P)) : wpY_feed pq (sp_Y h w pc st r c pen tp bo pd ins gr gc gp gpd C G B D P) (nI b) :=
  br_f (nI_pos (by omega)) (pk_le b 255 (fun _ => pk_eq b 24 (fun q => absurd q (by omega)) (fun _ => pk_eq b 27 (fun q => absurd q (by omega)) (fun _ => pk_le 32 b (fun _ => pk_lt b 127 (fun q => absurd q (by omega)) (fun _ => hp)) (fun q => absurd q (by omega))))) (fun q => absurd q (by omega)))
theorem yt_prn {b : Nat} {u' : SY} (hb : 32 ≤ b) (hb2 : b < 127) (H : ∀ po : SY → Prop, po u' → wpY_print po (sp_Y h w pc 0 r c pen tp bo pd ins gr gc gp gpd C G B D P) (nI b)) (hp : pq (nI 1) u') : wpY_feed pq (sp_Y h w pc 0 r c pen tp bo pd ins gr gc gp gpd C G B D P) (nI b) := by
  obtain ⟨a1, a2, a3, a4, a5, a6, a7, a8, a9, a10, a11, a12, a13, a14, a15, a16, a17, a18, a19, a20⟩ := u'
  exact br_f (nI_pos (by omega)) (pk_le b 255 (fun _ => pk_eq b 24 (fun q => absurd q (by omega)) (fun _ => pk_eq b 27 (fun q => absurd q (by omega)) (fun _ => pk_le 32 b (fun _ => pk_lt b 127 (fun _ => br_t (by decide) (H _ hp)) (fun q => absurd q (by omega))) (fun q => absurd q (by omega))))) (fun q => absurd q (by omega)))
theorem yt_esc {b : Nat} (hb : 32 ≤ b) (hb2 : b < 127) (hp : pq (nI 1) (sp_Y h w 1 (if b = 91 then 2 else 0) r c pen tp bo pd ins gr gc gp gpd C G B D (upd P 0 (nI 0)))) : wpY_feed pq (sp_Y h w pc 1 r c pen tp bo pd ins gr gc gp gpd C G B D P) (nI b) := by
  refine br_f (nI_pos (by omega)) (pk_le b 255 (fun _ => pk_eq b 24 (fun q => absurd q (by omega)) (fun _ => pk_eq b 27 (fun q => absurd q (by omega)) (fun _ => pk_le 32 b (fun _ => pk_lt b 127 (fun _ => br_f (by decide) (br_t (by decide) (pk_eq b 91 (fun q => ?_) (fun q => ?_)))) (fun q => absurd q (by omega))) (fun q => absurd q (by omega))))) (fun q => absurd q (by omega)))
  · rw [if_pos q] at hp; exact nm_e hp
  · rw [if_neg q] at hp; exact nm_e hp
theorem yt_seq {b : Nat} {u' : SY} (hb : 32 ≤ b) (hb2 : b < 127) (H : ∀ po : SY → Prop, po u' → wpY_sequence po (sp_Y h w pc 2 r c pen tp bo pd ins gr gc gp gpd C G B D P) (nI b)) (hp : pq (nI 1) u') : wpY_feed pq (sp_Y h w pc 2 r c pen tp bo pd ins gr gc gp gpd C G B D P) (nI b) := by
  obtain ⟨a1, a2, a3, a4, a5, a6, a7, a8, a9, a10, a11, a12, a13, a14, a15, a16, a17, a18, a19, a20⟩ := u'
  exact br_f (nI_pos (by omega)) (pk_le b 255 (fun _ => pk_eq b 24 (fun q => absurd q (by omega)) (fun _ => pk_eq b 27 (fun q => absurd q (by omega)) (fun _ => pk_le 32 b (fun _ => pk_lt b 127 (fun _ => br_f (by decide) (br_f (by decide) (br_t (by decide) (H _ hp)))) (fun q => absurd q (by omega))) (fun q => absurd q (by omega))))) (fun q => absurd q (by omega)))
theorem yt_ign {b : Nat} (hb : 32 ≤ b) (hb2 : b < 127) (hp : pq (nI 1) (sp_Y h w pc (if b < 64 then 3 else 0) r c pen tp bo pd ins gr gc gp gpd C G B D P)) : wpY_feed pq (sp_Y h w pc 3 r c pen tp bo pd ins gr gc gp gpd C G B D P) (nI b) := by
  refine br_f (nI_pos (by omega)) (pk_le b 255 (fun _ => pk_eq b 24 (fun q => absurd q (by omega)) (fun _ => pk_eq b 27 (fun q => absurd q (by omega)) (fun _ => pk_le 32 b (fun _ => pk_lt b 127 (fun _ => br_f (by decide) (br_f (by decide) (br_f (by decide) (pk_lt b 64 (fun q => ?_) (fun q => ?_))))) (fun q => absurd q (by omega))) (fun q => absurd q (by omega))))) (fun q => absurd q (by omega)))
  · rw [if_pos q] at hp; exact hp
  · rw [if_neg (by omega)] at hp; exact hp
end
end
section
/-! the relation of the two states -/
def sp_bd (h w st r c pen pd ins tp bo gr gc gp gpd : Nat) : Prop := 2 ≤ h ∧ h ≤ 8 ∧ 4 ≤ w ∧ w ≤ 12 ∧ st < 4 ∧ r < h ∧ c < w ∧ pen < 8 ∧ pd < 2 ∧ ins < 2 ∧ tp < bo ∧ bo < h ∧ gr < h ∧ gc < w ∧ gp < 8 ∧ gpd < 2 ∧ (pd = 1 → c + 1 = w) ∧ (gpd = 1 → gc + 1 = w)
def sp_gr (h w : Nat) (C K : Nat → Int32) : Prop := ∀ i j, i < h → j < w → C (i * w + j) = K (12 * i + j) ∧ sp_ok (C (i * w + j))
def sp_pr (st pc qc : Nat) (P Q : Nat → Int32) : Prop := st = 2 → qc = pc ∧ 0 < pc ∧ pc ≤ 4 ∧ ∃ V : Nat → Nat, ∀ i, i < pc → P i = nI (V i) ∧ Q i = nI (V i) ∧ V i ≤ 99
def sp_R (h w pc qc st r c pen pd ins tp bo gr gc gp gpd : Nat) (C G P K L Q : Nat → Int32) : Prop := sp_bd h w st r c pen pd ins tp bo gr gc gp gpd ∧ sp_gr h w C K ∧ sp_gr h w G L ∧ sp_pr st pc qc P Q
def sp_rl (u : SX) (v : SY) : Prop := ∃ (h w pc qc st r c pen pd ins tp bo gr gc gp gpd : Nat) (C G P K L B D Q : Nat → Int32), u = (sp_X h w pc st r c pen pd ins tp bo gr gc gp gpd C G P) ∧ v = (sp_Y h w qc st r c pen tp bo pd ins gr gc gp gpd K L B D Q) ∧ (sp_R h w pc qc st r c pen pd ins tp bo gr gc gp gpd C G P K L Q)
section
variable {h w pc qc st r c pen pd ins tp bo gr gc gp gpd : Nat} {C G P K L B D Q : Nat → Int32}
theorem sp_mk (I : (sp_R h w pc qc st r c pen pd ins tp bo gr gc gp gpd C G P K L Q)) : sp_rl (sp_X h w pc st r c pen pd ins tp bo gr gc gp gpd C G P) (sp_Y h w qc st r c pen tp bo pd ins gr gc gp gpd K L B D Q) := ⟨h, w, pc, qc, st, r, c, pen, pd, ins, tp, bo, gr, gc, gp, gpd, C, G, P, K, L, B, D, Q, rfl, rfl, I⟩
end
theorem sp_el {T : SX → SY → Prop} (H : ∀ (h w pc qc st r c pen pd ins tp bo gr gc gp gpd : Nat) (C G P K L B D Q : Nat → Int32), (sp_R h w pc qc st r c pen pd ins tp bo gr gc gp gpd C G P K L Q) → T (sp_X h w pc st r c pen pd ins tp bo gr gc gp gpd C G P) (sp_Y h w qc st r c pen tp bo pd ins gr gc gp gpd K L B D Q)) {u : SX} {v : SY} (I : sp_rl u v) : T u v := by
  obtain ⟨h, w, pc, qc, st, r, c, pen, pd, ins, tp, bo, gr, gc, gp, gpd, C, G, P, K, L, B, D, Q, e1, e2, hR⟩ := I
  rw [e1, e2]
  exact H h w pc qc st r c pen pd ins tp bo gr gc gp gpd C G P K L B D Q hR
theorem sp_okb {pen : Nat} (h : pen < 8) : sp_ok (nI (256 + pen)) := ⟨256 + pen, by omega, by omega, rfl⟩
theorem ar_d12 {i j : Nat} (hj : j < 12) : (12 * i + j) / 12 = i ∧ (12 * i + j) % 12 = j := by omega
section
variable {h w : Nat} {C K G L : Nat → Int32}
theorem gr_up {a z n pen : Nat} (hw : w ≤ 12) (hz : z < h) (hpen : pen < 8) (I : sp_gr h w C K) : sp_gr h w (sp_su w a z n pen C) (sp_yu w a z n pen K) := by
  intro i j hi hj
  obtain ⟨d1, d2⟩ := ar_d12 (i := i) (show j < 12 by omega)
  unfold sp_su sp_yu sp_up sp_yr
  dsimp only
  rw [d1, d2]
  by_cases q : a ≤ i ∧ i ≤ z
  · rw [if_pos ⟨(ar_row2 hj).mpr q.1, (ar_row hj).mpr q.2⟩, if_pos (show a ≤ i ∧ i ≤ z ∧ j < w from ⟨q.1, q.2, hj⟩)]
    have e : i * w + j + n * w = (i + n) * w + j := by rw [Nat.add_mul]; omega
    rw [e]
    by_cases q2 : i + n ≤ z
    · rw [if_pos ((ar_row hj).mpr q2), if_pos q2]
      exact I (i + n) j (by omega) hj
    · rw [if_neg (fun y => q2 ((ar_row hj).mp y)), if_neg q2]
      exact ⟨rfl, sp_okb hpen⟩
  · rw [if_neg (fun y => q ⟨(ar_row2 hj).mp y.1, (ar_row hj).mp y.2⟩), if_neg (fun y => q ⟨y.1, y.2.1⟩)]
    exact I i j hi hj
theorem gr_dn {a z n pen : Nat} (hw : w ≤ 12) (hz : z < h) (hpen : pen < 8) (I : sp_gr h w C K) : sp_gr h w (sp_sd w a z n pen C) (sp_yd w a z n pen K) := by
  intro i j hi hj
  obtain ⟨d1, d2⟩ := ar_d12 (i := i) (show j < 12 by omega)
  unfold sp_sd sp_yd sp_dn sp_yr
  dsimp only
  rw [d1, d2]
  by_cases q : a ≤ i ∧ i ≤ z
  · rw [if_pos ⟨(ar_row2 hj).mpr q.1, (ar_row hj).mpr q.2⟩, if_pos (show a ≤ i ∧ i ≤ z ∧ j < w from ⟨q.1, q.2, hj⟩)]
    have e : a * w + n * w = (a + n) * w := by rw [Nat.add_mul]
    rw [e]
    by_cases q2 : a + n ≤ i
    · rw [if_pos ((ar_row2 hj).mpr q2), if_pos q2]
      have e2 : i * w + j - n * w = (i - n) * w + j := by
        have e3 : (i - n) * w + n * w = i * w := by rw [← Nat.add_mul, Nat.sub_add_cancel (by omega)]
        omega
      rw [e2]
      exact I (i - n) j (by omega) hj
    · rw [if_neg (fun y => q2 ((ar_row2 hj).mp y)), if_neg q2]
      exact ⟨rfl, sp_okb hpen⟩
  · rw [if_neg (fun y => q ⟨(ar_row2 hj).mp y.1, (ar_row hj).mp y.2⟩), if_neg (fun y => q ⟨y.1, y.2.1⟩)]
    exact I i j hi hj
theorem gr_lc {tp bo pen r : Nat} (hw : w ≤ 12) (hz : bo < h) (hpen : pen < 8) (I : sp_gr h w C K) : sp_gr h w (sp_lc w tp bo pen r C) (sp_ylc w tp bo pen r K) := by
  unfold sp_lc sp_ylc
  by_cases q : r = bo
  · rw [if_pos q, if_pos q]; exact gr_up hw hz hpen I
  · rw [if_neg q, if_neg q]; exact I
theorem gr_upd {y x : Nat} {v : Int32} (hw : w ≤ 12) (hx : x < w) (hv : sp_ok v) (I : sp_gr h w C K) : sp_gr h w (upd C (y * w + x) v) (upd K (12 * y + x) v) := by
  intro i j hi hj
  by_cases q : i = y ∧ j = x
  · obtain ⟨rfl, rfl⟩ := q
    rw [pk_us, pk_us]
    exact ⟨rfl, hv⟩
  · rw [pk_un (fun e => q ((ar_inj hj hx).mp e)), pk_un (by omega)]
    exact I i j hi hj
theorem gr_sh {r c : Nat} (hw : w ≤ 12) (hr : r < h) (hc : c < w) (I : sp_gr h w C K) : sp_gr h w (sp_sh (r * w + c) (r * w + w) C) (sp_sh (12 * r + c) (12 * r + w) K) := by
  intro i j hi hj
  unfold sp_sh
  by_cases q : i = r ∧ c < j
  · obtain ⟨rfl, q2⟩ := q
    rw [if_pos (by omega), if_pos (by omega), show i * w + j - 1 = i * w + (j - 1) by omega, show 12 * i + j - 1 = 12 * i + (j - 1) by omega]
    exact I i (j - 1) hi (by omega)
  · have e : ¬ (r * w + c < i * w + j ∧ i * w + j < r * w + w) := by
      intro y
      have h1 : i ≤ r := (ar_row hj).mp y.2
      have h2 : r ≤ i := (ar_row2 (a := r) hj).mp (by omega)
      have h3 : i = r := by omega
      subst h3
      exact q ⟨rfl, by omega⟩
    rw [if_neg e, if_neg (by omega)]
    exact I i j hi hj
theorem gr_pc {ins r c v : Nat} (hw : w ≤ 12) (hr : r < h) (hc : c < w) (hv1 : 256 ≤ v) (hv2 : v < 1016) (I : sp_gr h w C K) : sp_gr h w (sp_pc w ins r c v C) (sp_py w ins r c v K) := by
  unfold sp_pc sp_py
  by_cases q : ins = 0
  · rw [if_pos q, if_pos q]; exact gr_upd hw hc ⟨v, hv1, hv2, rfl⟩ I
  · rw [if_neg q, if_neg q]; exact gr_upd hw hc ⟨v, hv1, hv2, rfl⟩ (gr_sh hw hr hc I)
/-- erasing: the places from 'first' to 'last' that the mode takes -/
theorem gr_er {p ev r c first last pen : Nat} (hw : w ≤ 12) (hr : r < h) (hc : c < w) (hpen : pen < 8)
    (hfl : ∀ i j, i < h → j < w → ((first ≤ i * w + j ∧ i * w + j ≤ last) ↔ (ev = 1 ∨ i = r))) (hf : first ≤ r * w + c) (hl : r * w + c ≤ last)
    (I : sp_gr h w C K) :
    sp_gr h w (sp_er w r c p first last pen C) (sp_ye p ev r (12 * r + c) 0 h w (nI (256 + pen)) K) := by
  intro i j hi hj
  obtain ⟨d1, d2⟩ := ar_d12 (i := i) (show j < 12 by omega)
  have l1 := ar_lex (r := r) (i := i) hc hj hw
  have l2 := ar_lex (r := i) (i := r) hj hc hw
  have fl := hfl i j hi hj
  have key : (p ≤ 2 ∧ (if p = 0 then r * w + c else first) ≤ i * w + j ∧ i * w + j < (if p = 1 then r * w + c else last) + 1) ↔ (0 ≤ (12 * i + j) / 12 ∧ (12 * i + j) / 12 < h ∧ (12 * i + j) % 12 < w ∧ sp_T p ev r (12 * r + c) (12 * i + j)) := by
    unfold sp_T
    rw [d1, d2]
    by_cases p0 : p = 0
    · subst p0
      rw [if_pos rfl, if_neg (by omega)]
      constructor
      · rintro ⟨_, h1, h2⟩
        exact ⟨by omega, hi, hj, Or.inr (Or.inl ⟨rfl, l1.mp h1⟩), fl.mp ⟨by omega, by omega⟩⟩
      · rintro ⟨_, _, _, h1, h2⟩
        have h3 := fl.mpr h2
        have h4 : 12 * r + c ≤ 12 * i + j := by omega
        exact ⟨by omega, l1.mpr h4, by omega⟩
    · rw [if_neg p0]
      by_cases p1 : p = 1
      · subst p1
        rw [if_pos rfl]
        constructor
        · rintro ⟨_, h1, h2⟩
          have h3 : i * w + j ≤ r * w + c := by omega
          exact ⟨by omega, hi, hj, Or.inr (Or.inr ⟨rfl, l2.mp h3⟩), fl.mp ⟨by omega, by omega⟩⟩
        · rintro ⟨_, _, _, h1, h2⟩
          have h3 := fl.mpr h2
          have h4 : 12 * i + j ≤ 12 * r + c := by omega
          have h5 := l2.mpr h4
          exact ⟨by omega, by omega, by omega⟩
      · rw [if_neg p1]
        constructor
        · rintro ⟨h0, h1, h2⟩
          exact ⟨by omega, hi, hj, Or.inl (by omega), fl.mp ⟨by omega, by omega⟩⟩
        · rintro ⟨_, _, _, h1, h2⟩
          have h3 := fl.mpr h2
          exact ⟨by omega, by omega, by omega⟩
  unfold sp_er sp_ye sp_fill
  by_cases q : p ≤ 2
  · rw [if_pos q]
    by_cases q2 : (if p = 0 then r * w + c else first) ≤ i * w + j ∧ i * w + j < (if p = 1 then r * w + c else last) + 1
    · rw [if_pos q2, if_pos (key.mp ⟨q, q2⟩)]
      exact ⟨rfl, sp_okb hpen⟩
    · rw [if_neg q2, if_neg (fun y => q2 (key.mpr y).2)]
      exact I i j hi hj
  · rw [if_neg q, if_neg (fun y => q (key.mpr y).1)]
    exact I i j hi hj
theorem gr_J {p r c pen : Nat} (hw : w ≤ 12) (hr : r < h) (hc : c < w) (hpen : pen < 8) (I : sp_gr h w C K) : sp_gr h w (sp_er w r c p 0 (h * w - 1) pen C) (sp_ye p 1 r (12 * r + c) 0 h w (nI (256 + pen)) K) := by
  refine gr_er hw hr hc hpen (fun i j hi hj => ⟨fun _ => Or.inl rfl, fun _ => ⟨Nat.zero_le _, ?_⟩⟩) (Nat.zero_le _) (ar_last hr hc) I
  exact ar_last hi hj
theorem gr_K {p r c pen : Nat} (hw : w ≤ 12) (hr : r < h) (hc : c < w) (hpen : pen < 8) (I : sp_gr h w C K) : sp_gr h w (sp_er w r c p (r * w) (r * w + w - 1) pen C) (sp_ye p 0 r (12 * r + c) 0 h w (nI (256 + pen)) K) := by
  refine gr_er hw hr hc hpen (fun i j hi hj => ⟨fun y => Or.inr ?_, fun y => ?_⟩) (Nat.le_add_right _ _) (ar_rlast hc) I
  · have h1 : r ≤ i := (ar_row2 hj).mp y.1
    have h2 : i ≤ r := (ar_row hj).mp (by omega)
    omega
  · rcases y with y | y
    · exact absurd y (by omega)
    · subst y; exact ⟨by omega, by omega⟩
theorem gr_cp (hh : h ≤ 8) (hw : w ≤ 12) (I : sp_gr h w C K) : sp_gr h w (sp_cp (h * w) C G) (sp_cp 96 K L) := by
  intro i j hi hj
  unfold sp_cp
  rw [if_pos (ar_ix hi hj), if_pos (by omega)]
  exact I i j hi hj
end
end
section
/-! one byte in lockstep -/
theorem sp_pens_lt {V : Nat → Nat} : ∀ d i p, (∀ j, i ≤ j → j < i + d → V j ≤ 99) → p < 8 → sp_pens V i d p < 8 := by
  intro d
  induction d with
  | zero => intro i p _ hp; exact hp
  | succ d ih =>
    intro i p hV hp
    exact ih (i + 1) (sp_at (V i) p) (fun j h1 h2 => hV j (by omega) (by omega)) (sp_at_lt (V i) (by have := hV i (Nat.le_refl i) (by omega); omega) p hp)
theorem sp_mu_le (h q : Nat) : sp_mu h q ≤ h := by
  unfold sp_mu
  repeat' split
  all_goals omega
def sp_st (u : SX) (v : SY) (b : Nat) : Prop := ∃ (u' : SX) (v' : SY), sp_rl u' v' ∧ (∀ post : SX → Prop, post u' → wpX_take post u (nI b)) ∧ (∀ pq : Int32 → SY → Prop, pq (nI 1) v' → wpY_feed pq v (nI b))
section
variable {h w pc qc st r c pen pd ins tp bo gr gc gp gpd : Nat} {C G P K L B D Q : Nat → Int32}
theorem sc_A {p q n : Nat} {V : Nat → Nat} (I : (sp_R h w pc qc 0 r c pen pd ins tp bo gr gc gp gpd C G P K L Q)) (hV : ∀ i, i < pc → P i = nI (V i) ∧ Q i = nI (V i) ∧ V i ≤ 99) (hpc : 0 < pc ∧ pc ≤ 4) (hqc : qc = pc) (hp9 : p ≤ 99) (hq9 : q ≤ 99) (hn : 0 < n) (hn9 : n ≤ 99) : ∃ (u' : SX) (v' : SY), sp_rl u' v' ∧ (∀ post : SX → Prop, post u' → wX_command_35 post (nI 65) (nI p) (nI q) (nI n) (nI h) (nI w) (nI pc) (nI 0) (nI r) (nI c) (nI pen) (nI pd) (nI ins) (nI tp) (nI bo) (nI gr) (nI gc) (nI gp) (nI gpd) C G P) ∧ (∀ post : SY → Prop, post v' → wY_command_64 post (nI 65) (nI p) (nI q) (nI n) (nI (if tp ≤ r ∧ r ≤ bo then 1 else 0)) (nI h) (nI w) (nI qc) (nI 0) (nI r) (nI c) (nI pen) (nI tp) (nI bo) (nI pd) (nI ins) (nI gr) (nI gc) (nI gp) (nI gpd) K L B D Q) := by
  obtain ⟨hb, h1, h2, h3⟩ := I
  unfold sp_bd at hb
  have z1 := sp_cz_le (nI r - nI n).toInt (h - 1)
  have z2 := sp_cz_le (nI c).toInt (w - 1)
  refine ⟨(sp_X h w pc 0 (sp_cz (nI r - nI n).toInt (h - 1)) (sp_cz (nI c).toInt (w - 1)) pen 0 ins tp bo gr gc gp gpd C G P), (sp_Y h w qc 0 (sp_cz (nI r - nI n).toInt (h - 1)) (sp_cz (nI c).toInt (w - 1)) pen tp bo 0 ins gr gc gp gpd K L B D Q), sp_mk ⟨?_, h1, h2, fun z => absurd z (by decide)⟩, fun post hp => ?_, fun post hp => ?_⟩
  · unfold sp_bd
    omega
  · exact xc_A (by omega) (by omega) (by omega) (by omega) hp
  · exact yc_A (by omega) (by omega) (by omega) (by omega) hp
theorem sc_B {p q n : Nat} {V : Nat → Nat} (I : (sp_R h w pc qc 0 r c pen pd ins tp bo gr gc gp gpd C G P K L Q)) (hV : ∀ i, i < pc → P i = nI (V i) ∧ Q i = nI (V i) ∧ V i ≤ 99) (hpc : 0 < pc ∧ pc ≤ 4) (hqc : qc = pc) (hp9 : p ≤ 99) (hq9 : q ≤ 99) (hn : 0 < n) (hn9 : n ≤ 99) : ∃ (u' : SX) (v' : SY), sp_rl u' v' ∧ (∀ post : SX → Prop, post u' → wX_command_35 post (nI 66) (nI p) (nI q) (nI n) (nI h) (nI w) (nI pc) (nI 0) (nI r) (nI c) (nI pen) (nI pd) (nI ins) (nI tp) (nI bo) (nI gr) (nI gc) (nI gp) (nI gpd) C G P) ∧ (∀ post : SY → Prop, post v' → wY_command_64 post (nI 66) (nI p) (nI q) (nI n) (nI (if tp ≤ r ∧ r ≤ bo then 1 else 0)) (nI h) (nI w) (nI qc) (nI 0) (nI r) (nI c) (nI pen) (nI tp) (nI bo) (nI pd) (nI ins) (nI gr) (nI gc) (nI gp) (nI gpd) K L B D Q) := by
  obtain ⟨hb, h1, h2, h3⟩ := I
  unfold sp_bd at hb
  have z1 := sp_cz_le (nI r + nI n).toInt (h - 1)
  have z2 := sp_cz_le (nI c).toInt (w - 1)
  refine ⟨(sp_X h w pc 0 (sp_cz (nI r + nI n).toInt (h - 1)) (sp_cz (nI c).toInt (w - 1)) pen 0 ins tp bo gr gc gp gpd C G P), (sp_Y h w qc 0 (sp_cz (nI r + nI n).toInt (h - 1)) (sp_cz (nI c).toInt (w - 1)) pen tp bo 0 ins gr gc gp gpd K L B D Q), sp_mk ⟨?_, h1, h2, fun z => absurd z (by decide)⟩, fun post hp => ?_, fun post hp => ?_⟩
  · unfold sp_bd
    omega
  · exact xc_B (by omega) (by omega) (by omega) (by omega) hp
  · exact yc_B (by omega) (by omega) (by omega) (by omega) hp
theorem sc_C {p q n : Nat} {V : Nat → Nat} (I : (sp_R h w pc qc 0 r c pen pd ins tp bo gr gc gp gpd C G P K L Q)) (hV : ∀ i, i < pc → P i = nI (V i) ∧ Q i = nI (V i) ∧ V i ≤ 99) (hpc : 0 < pc ∧ pc ≤ 4) (hqc : qc = pc) (hp9 : p ≤ 99) (hq9 : q ≤ 99) (hn : 0 < n) (hn9 : n ≤ 99) : ∃ (u' : SX) (v' : SY), sp_rl u' v' ∧ (∀ post : SX → Prop, post u' → wX_command_35 post (nI 67) (nI p) (nI q) (nI n) (nI h) (nI w) (nI pc) (nI 0) (nI r) (nI c) (nI pen) (nI pd) (nI ins) (nI tp) (nI bo) (nI gr) (nI gc) (nI gp) (nI gpd) C G P) ∧ (∀ post : SY → Prop, post v' → wY_command_64 post (nI 67) (nI p) (nI q) (nI n) (nI (if tp ≤ r ∧ r ≤ bo then 1 else 0)) (nI h) (nI w) (nI qc) (nI 0) (nI r) (nI c) (nI pen) (nI tp) (nI bo) (nI pd) (nI ins) (nI gr) (nI gc) (nI gp) (nI gpd) K L B D Q) := by
  obtain ⟨hb, h1, h2, h3⟩ := I
  unfold sp_bd at hb
  have z1 := sp_cz_le (nI r).toInt (h - 1)
  have z2 := sp_cz_le (nI c + nI n).toInt (w - 1)
  refine ⟨(sp_X h w pc 0 (sp_cz (nI r).toInt (h - 1)) (sp_cz (nI c + nI n).toInt (w - 1)) pen 0 ins tp bo gr gc gp gpd C G P), (sp_Y h w qc 0 (sp_cz (nI r).toInt (h - 1)) (sp_cz (nI c + nI n).toInt (w - 1)) pen tp bo 0 ins gr gc gp gpd K L B D Q), sp_mk ⟨?_, h1, h2, fun z => absurd z (by decide)⟩, fun post hp => ?_, fun post hp => ?_⟩
  · unfold sp_bd
    omega
  · exact xc_C (by omega) (by omega) (by omega) (by omega) hp
  · exact yc_C (by omega) (by omega) (by omega) (by omega) hp
theorem sc_D {p q n : Nat} {V : Nat → Nat} (I : (sp_R h w pc qc 0 r c pen pd ins tp bo gr gc gp gpd C G P K L Q)) (hV : ∀ i, i < pc → P i = nI (V i) ∧ Q i = nI (V i) ∧ V i ≤ 99) (hpc : 0 < pc ∧ pc ≤ 4) (hqc : qc = pc) (hp9 : p ≤ 99) (hq9 : q ≤ 99) (hn : 0 < n) (hn9 : n ≤ 99) : ∃ (u' : SX) (v' : SY), sp_rl u' v' ∧ (∀ post : SX → Prop, post u' → wX_command_35 post (nI 68) (nI p) (nI q) (nI n) (nI h) (nI w) (nI pc) (nI 0) (nI r) (nI c) (nI pen) (nI pd) (nI ins) (nI tp) (nI bo) (nI gr) (nI gc) (nI gp) (nI gpd) C G P) ∧ (∀ post : SY → Prop, post v' → wY_command_64 post (nI 68) (nI p) (nI q) (nI n) (nI (if tp ≤ r ∧ r ≤ bo then 1 else 0)) (nI h) (nI w) (nI qc) (nI 0) (nI r) (nI c) (nI pen) (nI tp) (nI bo) (nI pd) (nI ins) (nI gr) (nI gc) (nI gp) (nI gpd) K L B D Q) := by
  obtain ⟨hb, h1, h2, h3⟩ := I
  unfold sp_bd at hb
  have z1 := sp_cz_le (nI r).toInt (h - 1)
  have z2 := sp_cz_le (nI c - nI n).toInt (w - 1)
  refine ⟨(sp_X h w pc 0 (sp_cz (nI r).toInt (h - 1)) (sp_cz (nI c - nI n).toInt (w - 1)) pen 0 ins tp bo gr gc gp gpd C G P), (sp_Y h w qc 0 (sp_cz (nI r).toInt (h - 1)) (sp_cz (nI c - nI n).toInt (w - 1)) pen tp bo 0 ins gr gc gp gpd K L B D Q), sp_mk ⟨?_, h1, h2, fun z => absurd z (by decide)⟩, fun post hp => ?_, fun post hp => ?_⟩
  · unfold sp_bd
    omega
  · exact xc_D (by omega) (by omega) (by omega) (by omega) hp
  · exact yc_D (by omega) (by omega) (by omega) (by omega) hp
theorem sc_H {p q n : Nat} {V : Nat → Nat} (I : (sp_R h w pc qc 0 r c pen pd ins tp bo gr gc gp gpd C G P K L Q)) (hV : ∀ i, i < pc → P i = nI (V i) ∧ Q i = nI (V i) ∧ V i ≤ 99) (hpc : 0 < pc ∧ pc ≤ 4) (hqc : qc = pc) (hp9 : p ≤ 99) (hq9 : q ≤ 99) (hn : 0 < n) (hn9 : n ≤ 99) : ∃ (u' : SX) (v' : SY), sp_rl u' v' ∧ (∀ post : SX → Prop, post u' → wX_command_35 post (nI 72) (nI p) (nI q) (nI n) (nI h) (nI w) (nI pc) (nI 0) (nI r) (nI c) (nI pen) (nI pd) (nI ins) (nI tp) (nI bo) (nI gr) (nI gc) (nI gp) (nI gpd) C G P) ∧ (∀ post : SY → Prop, post v' → wY_command_64 post (nI 72) (nI p) (nI q) (nI n) (nI (if tp ≤ r ∧ r ≤ bo then 1 else 0)) (nI h) (nI w) (nI qc) (nI 0) (nI r) (nI c) (nI pen) (nI tp) (nI bo) (nI pd) (nI ins) (nI gr) (nI gc) (nI gp) (nI gpd) K L B D Q) := by
  obtain ⟨hb, h1, h2, h3⟩ := I
  unfold sp_bd at hb
  have z1 := sp_cz_le (nI n - 1).toInt (h - 1)
  have z2 := sp_cz_le (nI (q - 1)).toInt (w - 1)
  refine ⟨(sp_X h w pc 0 (sp_cz (nI n - 1).toInt (h - 1)) (sp_cz (nI (q - 1)).toInt (w - 1)) pen 0 ins tp bo gr gc gp gpd C G P), (sp_Y h w qc 0 (sp_cz (nI n - 1).toInt (h - 1)) (sp_cz (nI (q - 1)).toInt (w - 1)) pen tp bo 0 ins gr gc gp gpd K L B D Q), sp_mk ⟨?_, h1, h2, fun z => absurd z (by decide)⟩, fun post hp => ?_, fun post hp => ?_⟩
  · unfold sp_bd
    omega
  · exact xc_H (by omega) (by omega) (by omega) (by omega) hq9 hp
  · exact yc_H (by omega) (by omega) (by omega) (by omega) hq9 hp
theorem sc_J {p q n : Nat} {V : Nat → Nat} (I : (sp_R h w pc qc 0 r c pen pd ins tp bo gr gc gp gpd C G P K L Q)) (hV : ∀ i, i < pc → P i = nI (V i) ∧ Q i = nI (V i) ∧ V i ≤ 99) (hpc : 0 < pc ∧ pc ≤ 4) (hqc : qc = pc) (hp9 : p ≤ 99) (hq9 : q ≤ 99) (hn : 0 < n) (hn9 : n ≤ 99) : ∃ (u' : SX) (v' : SY), sp_rl u' v' ∧ (∀ post : SX → Prop, post u' → wX_command_35 post (nI 74) (nI p) (nI q) (nI n) (nI h) (nI w) (nI pc) (nI 0) (nI r) (nI c) (nI pen) (nI pd) (nI ins) (nI tp) (nI bo) (nI gr) (nI gc) (nI gp) (nI gpd) C G P) ∧ (∀ post : SY → Prop, post v' → wY_command_64 post (nI 74) (nI p) (nI q) (nI n) (nI (if tp ≤ r ∧ r ≤ bo then 1 else 0)) (nI h) (nI w) (nI qc) (nI 0) (nI r) (nI c) (nI pen) (nI tp) (nI bo) (nI pd) (nI ins) (nI gr) (nI gc) (nI gp) (nI gpd) K L B D Q) := by
  obtain ⟨hb, h1, h2, h3⟩ := I
  unfold sp_bd at hb
  refine ⟨(sp_X h w pc 0 r c pen pd ins tp bo gr gc gp gpd (sp_er w r c p 0 (h * w - 1) pen C) G P), (sp_Y h w qc 0 r c pen tp bo pd ins gr gc gp gpd (sp_ye p 1 r (12 * r + c) 0 h w (nI (256 + pen)) K) L B D Q), sp_mk ⟨?_, gr_J (by omega) (by omega) (by omega) (by omega) h1, h2, fun z => absurd z (by decide)⟩, fun post hp => ?_, fun post hp => ?_⟩
  · unfold sp_bd
    omega
  · exact xc_J (by omega) (by omega) (by omega) (by omega) (by omega) (by omega) hp9 hp
  · exact yc_J hp9 (by omega) (by omega) (by omega) (by omega) hp
theorem sc_K {p q n : Nat} {V : Nat → Nat} (I : (sp_R h w pc qc 0 r c pen pd ins tp bo gr gc gp gpd C G P K L Q)) (hV : ∀ i, i < pc → P i = nI (V i) ∧ Q i = nI (V i) ∧ V i ≤ 99) (hpc : 0 < pc ∧ pc ≤ 4) (hqc : qc = pc) (hp9 : p ≤ 99) (hq9 : q ≤ 99) (hn : 0 < n) (hn9 : n ≤ 99) : ∃ (u' : SX) (v' : SY), sp_rl u' v' ∧ (∀ post : SX → Prop, post u' → wX_command_35 post (nI 75) (nI p) (nI q) (nI n) (nI h) (nI w) (nI pc) (nI 0) (nI r) (nI c) (nI pen) (nI pd) (nI ins) (nI tp) (nI bo) (nI gr) (nI gc) (nI gp) (nI gpd) C G P) ∧ (∀ post : SY → Prop, post v' → wY_command_64 post (nI 75) (nI p) (nI q) (nI n) (nI (if tp ≤ r ∧ r ≤ bo then 1 else 0)) (nI h) (nI w) (nI qc) (nI 0) (nI r) (nI c) (nI pen) (nI tp) (nI bo) (nI pd) (nI ins) (nI gr) (nI gc) (nI gp) (nI gpd) K L B D Q) := by
  obtain ⟨hb, h1, h2, h3⟩ := I
  unfold sp_bd at hb
  refine ⟨(sp_X h w pc 0 r c pen pd ins tp bo gr gc gp gpd (sp_er w r c p (r * w) (r * w + w - 1) pen C) G P), (sp_Y h w qc 0 r c pen tp bo pd ins gr gc gp gpd (sp_ye p 0 r (12 * r + c) 0 h w (nI (256 + pen)) K) L B D Q), sp_mk ⟨?_, gr_K (by omega) (by omega) (by omega) (by omega) h1, h2, fun z => absurd z (by decide)⟩, fun post hp => ?_, fun post hp => ?_⟩
  · unfold sp_bd
    omega
  · exact xc_K (by omega) (by omega) (by omega) (by omega) (by omega) (by omega) hp9 hp
  · exact yc_K hp9 (by omega) (by omega) (by omega) (by omega) hp
theorem sc_L1 {p q n : Nat} {V : Nat → Nat} (I : (sp_R h w pc qc 0 r c pen pd ins tp bo gr gc gp gpd C G P K L Q)) (hV : ∀ i, i < pc → P i = nI (V i) ∧ Q i = nI (V i) ∧ V i ≤ 99) (hpc : 0 < pc ∧ pc ≤ 4) (hqc : qc = pc) (hp9 : p ≤ 99) (hq9 : q ≤ 99) (hn : 0 < n) (hn9 : n ≤ 99) (hin : tp ≤ r ∧ r ≤ bo) : ∃ (u' : SX) (v' : SY), sp_rl u' v' ∧ (∀ post : SX → Prop, post u' → wX_command_35 post (nI 76) (nI p) (nI q) (nI n) (nI h) (nI w) (nI pc) (nI 0) (nI r) (nI c) (nI pen) (nI pd) (nI ins) (nI tp) (nI bo) (nI gr) (nI gc) (nI gp) (nI gpd) C G P) ∧ (∀ post : SY → Prop, post v' → wY_command_64 post (nI 76) (nI p) (nI q) (nI n) (nI (if tp ≤ r ∧ r ≤ bo then 1 else 0)) (nI h) (nI w) (nI qc) (nI 0) (nI r) (nI c) (nI pen) (nI tp) (nI bo) (nI pd) (nI ins) (nI gr) (nI gc) (nI gp) (nI gpd) K L B D Q) := by
  obtain ⟨hb, h1, h2, h3⟩ := I
  unfold sp_bd at hb
  refine ⟨(sp_X h w pc 0 r c pen 0 ins tp bo gr gc gp gpd (sp_sd w r bo n pen C) G P), (sp_Y h w qc 0 r c pen tp bo 0 ins gr gc gp gpd (sp_yd w r bo n pen K) L (sp_cp 96 K B) D Q), sp_mk ⟨?_, gr_dn (by omega) (by omega) (by omega) h1, h2, fun z => absurd z (by decide)⟩, fun post hp => ?_, fun post hp => ?_⟩
  · unfold sp_bd
    omega
  · exact xc_L (by omega) (by omega) (by omega) hn hn9 (by omega) (by omega) (fun _ _ => hp) (fun z => absurd hin z) (by omega)
  · exact (by rw [if_pos hin]; exact yc_L1 (by omega) (by omega) hn hn9 (by omega) (by omega) hp)
theorem sc_L0 {p q n : Nat} {V : Nat → Nat} (I : (sp_R h w pc qc 0 r c pen pd ins tp bo gr gc gp gpd C G P K L Q)) (hV : ∀ i, i < pc → P i = nI (V i) ∧ Q i = nI (V i) ∧ V i ≤ 99) (hpc : 0 < pc ∧ pc ≤ 4) (hqc : qc = pc) (hp9 : p ≤ 99) (hq9 : q ≤ 99) (hn : 0 < n) (hn9 : n ≤ 99) (hin : ¬ (tp ≤ r ∧ r ≤ bo)) : ∃ (u' : SX) (v' : SY), sp_rl u' v' ∧ (∀ post : SX → Prop, post u' → wX_command_35 post (nI 76) (nI p) (nI q) (nI n) (nI h) (nI w) (nI pc) (nI 0) (nI r) (nI c) (nI pen) (nI pd) (nI ins) (nI tp) (nI bo) (nI gr) (nI gc) (nI gp) (nI gpd) C G P) ∧ (∀ post : SY → Prop, post v' → wY_command_64 post (nI 76) (nI p) (nI q) (nI n) (nI (if tp ≤ r ∧ r ≤ bo then 1 else 0)) (nI h) (nI w) (nI qc) (nI 0) (nI r) (nI c) (nI pen) (nI tp) (nI bo) (nI pd) (nI ins) (nI gr) (nI gc) (nI gp) (nI gpd) K L B D Q) := by
  obtain ⟨hb, h1, h2, h3⟩ := I
  unfold sp_bd at hb
  refine ⟨(sp_X h w pc 0 r c pen pd ins tp bo gr gc gp gpd C G P), (sp_Y h w qc 0 r c pen tp bo pd ins gr gc gp gpd K L B D Q), sp_mk ⟨?_, h1, h2, fun z => absurd z (by decide)⟩, fun post hp => ?_, fun post hp => ?_⟩
  · unfold sp_bd
    omega
  · exact xc_L (by omega) (by omega) (by omega) hn hn9 (by omega) (by omega) (fun z1 z2 => absurd ⟨z1, z2⟩ hin) (fun _ => hp) (by omega)
  · exact (by rw [if_neg hin]; exact yc_L0 hp)
theorem sc_M1 {p q n : Nat} {V : Nat → Nat} (I : (sp_R h w pc qc 0 r c pen pd ins tp bo gr gc gp gpd C G P K L Q)) (hV : ∀ i, i < pc → P i = nI (V i) ∧ Q i = nI (V i) ∧ V i ≤ 99) (hpc : 0 < pc ∧ pc ≤ 4) (hqc : qc = pc) (hp9 : p ≤ 99) (hq9 : q ≤ 99) (hn : 0 < n) (hn9 : n ≤ 99) (hin : tp ≤ r ∧ r ≤ bo) : ∃ (u' : SX) (v' : SY), sp_rl u' v' ∧ (∀ post : SX → Prop, post u' → wX_command_35 post (nI 77) (nI p) (nI q) (nI n) (nI h) (nI w) (nI pc) (nI 0) (nI r) (nI c) (nI pen) (nI pd) (nI ins) (nI tp) (nI bo) (nI gr) (nI gc) (nI gp) (nI gpd) C G P) ∧ (∀ post : SY → Prop, post v' → wY_command_64 post (nI 77) (nI p) (nI q) (nI n) (nI (if tp ≤ r ∧ r ≤ bo then 1 else 0)) (nI h) (nI w) (nI qc) (nI 0) (nI r) (nI c) (nI pen) (nI tp) (nI bo) (nI pd) (nI ins) (nI gr) (nI gc) (nI gp) (nI gpd) K L B D Q) := by
  obtain ⟨hb, h1, h2, h3⟩ := I
  unfold sp_bd at hb
  refine ⟨(sp_X h w pc 0 r c pen 0 ins tp bo gr gc gp gpd (sp_su w r bo n pen C) G P), (sp_Y h w qc 0 r c pen tp bo 0 ins gr gc gp gpd (sp_yu w r bo n pen K) L (sp_cp 96 K B) D Q), sp_mk ⟨?_, gr_up (by omega) (by omega) (by omega) h1, h2, fun z => absurd z (by decide)⟩, fun post hp => ?_, fun post hp => ?_⟩
  · unfold sp_bd
    omega
  · exact xc_M (by omega) (by omega) (by omega) hn hn9 (by omega) (by omega) (fun _ _ => hp) (fun z => absurd hin z) (by omega)
  · exact (by rw [if_pos hin]; exact yc_M1 (by omega) (by omega) hn hn9 (by omega) (by omega) hp)
theorem sc_M0 {p q n : Nat} {V : Nat → Nat} (I : (sp_R h w pc qc 0 r c pen pd ins tp bo gr gc gp gpd C G P K L Q)) (hV : ∀ i, i < pc → P i = nI (V i) ∧ Q i = nI (V i) ∧ V i ≤ 99) (hpc : 0 < pc ∧ pc ≤ 4) (hqc : qc = pc) (hp9 : p ≤ 99) (hq9 : q ≤ 99) (hn : 0 < n) (hn9 : n ≤ 99) (hin : ¬ (tp ≤ r ∧ r ≤ bo)) : ∃ (u' : SX) (v' : SY), sp_rl u' v' ∧ (∀ post : SX → Prop, post u' → wX_command_35 post (nI 77) (nI p) (nI q) (nI n) (nI h) (nI w) (nI pc) (nI 0) (nI r) (nI c) (nI pen) (nI pd) (nI ins) (nI tp) (nI bo) (nI gr) (nI gc) (nI gp) (nI gpd) C G P) ∧ (∀ post : SY → Prop, post v' → wY_command_64 post (nI 77) (nI p) (nI q) (nI n) (nI (if tp ≤ r ∧ r ≤ bo then 1 else 0)) (nI h) (nI w) (nI qc) (nI 0) (nI r) (nI c) (nI pen) (nI tp) (nI bo) (nI pd) (nI ins) (nI gr) (nI gc) (nI gp) (nI gpd) K L B D Q) := by
  obtain ⟨hb, h1, h2, h3⟩ := I
  unfold sp_bd at hb
  refine ⟨(sp_X h w pc 0 r c pen pd ins tp bo gr gc gp gpd C G P), (sp_Y h w qc 0 r c pen tp bo pd ins gr gc gp gpd K L B D Q), sp_mk ⟨?_, h1, h2, fun z => absurd z (by decide)⟩, fun post hp => ?_, fun post hp => ?_⟩
  · unfold sp_bd
    omega
  · exact xc_M (by omega) (by omega) (by omega) hn hn9 (by omega) (by omega) (fun z1 z2 => absurd ⟨z1, z2⟩ hin) (fun _ => hp) (by omega)
  · exact (by rw [if_neg hin]; exact yc_M0 hp)
theorem sc_S {p q n : Nat} {V : Nat → Nat} (I : (sp_R h w pc qc 0 r c pen pd ins tp bo gr gc gp gpd C G P K L Q)) (hV : ∀ i, i < pc → P i = nI (V i) ∧ Q i = nI (V i) ∧ V i ≤ 99) (hpc : 0 < pc ∧ pc ≤ 4) (hqc : qc = pc) (hp9 : p ≤ 99) (hq9 : q ≤ 99) (hn : 0 < n) (hn9 : n ≤ 99) : ∃ (u' : SX) (v' : SY), sp_rl u' v' ∧ (∀ post : SX → Prop, post u' → wX_command_35 post (nI 83) (nI p) (nI q) (nI n) (nI h) (nI w) (nI pc) (nI 0) (nI r) (nI c) (nI pen) (nI pd) (nI ins) (nI tp) (nI bo) (nI gr) (nI gc) (nI gp) (nI gpd) C G P) ∧ (∀ post : SY → Prop, post v' → wY_command_64 post (nI 83) (nI p) (nI q) (nI n) (nI (if tp ≤ r ∧ r ≤ bo then 1 else 0)) (nI h) (nI w) (nI qc) (nI 0) (nI r) (nI c) (nI pen) (nI tp) (nI bo) (nI pd) (nI ins) (nI gr) (nI gc) (nI gp) (nI gpd) K L B D Q) := by
  obtain ⟨hb, h1, h2, h3⟩ := I
  unfold sp_bd at hb
  refine ⟨(sp_X h w pc 0 r c pen pd ins tp bo gr gc gp gpd (sp_su w tp bo n pen C) G P), (sp_Y h w qc 0 r c pen tp bo pd ins gr gc gp gpd (sp_yu w tp bo n pen K) L (sp_cp 96 K B) D Q), sp_mk ⟨?_, gr_up (by omega) (by omega) (by omega) h1, h2, fun z => absurd z (by decide)⟩, fun post hp => ?_, fun post hp => ?_⟩
  · unfold sp_bd
    omega
  · exact xc_S (by omega) (by omega) (by omega) hn hn9 (by omega) (by omega) hp
  · exact yc_S (by omega) (by omega) hn hn9 (by omega) (by omega) hp
theorem sc_T {p q n : Nat} {V : Nat → Nat} (I : (sp_R h w pc qc 0 r c pen pd ins tp bo gr gc gp gpd C G P K L Q)) (hV : ∀ i, i < pc → P i = nI (V i) ∧ Q i = nI (V i) ∧ V i ≤ 99) (hpc : 0 < pc ∧ pc ≤ 4) (hqc : qc = pc) (hp9 : p ≤ 99) (hq9 : q ≤ 99) (hn : 0 < n) (hn9 : n ≤ 99) : ∃ (u' : SX) (v' : SY), sp_rl u' v' ∧ (∀ post : SX → Prop, post u' → wX_command_35 post (nI 84) (nI p) (nI q) (nI n) (nI h) (nI w) (nI pc) (nI 0) (nI r) (nI c) (nI pen) (nI pd) (nI ins) (nI tp) (nI bo) (nI gr) (nI gc) (nI gp) (nI gpd) C G P) ∧ (∀ post : SY → Prop, post v' → wY_command_64 post (nI 84) (nI p) (nI q) (nI n) (nI (if tp ≤ r ∧ r ≤ bo then 1 else 0)) (nI h) (nI w) (nI qc) (nI 0) (nI r) (nI c) (nI pen) (nI tp) (nI bo) (nI pd) (nI ins) (nI gr) (nI gc) (nI gp) (nI gpd) K L B D Q) := by
  obtain ⟨hb, h1, h2, h3⟩ := I
  unfold sp_bd at hb
  refine ⟨(sp_X h w pc 0 r c pen pd ins tp bo gr gc gp gpd (sp_sd w tp bo n pen C) G P), (sp_Y h w qc 0 r c pen tp bo pd ins gr gc gp gpd (sp_yd w tp bo n pen K) L (sp_cp 96 K B) D Q), sp_mk ⟨?_, gr_dn (by omega) (by omega) (by omega) h1, h2, fun z => absurd z (by decide)⟩, fun post hp => ?_, fun post hp => ?_⟩
  · unfold sp_bd
    omega
  · exact xc_T (by omega) (by omega) (by omega) hn hn9 (by omega) (by omega) hp
  · exact yc_T (by omega) (by omega) hn hn9 (by omega) (by omega) hp
theorem sc_h {p q n : Nat} {V : Nat → Nat} (I : (sp_R h w pc qc 0 r c pen pd ins tp bo gr gc gp gpd C G P K L Q)) (hV : ∀ i, i < pc → P i = nI (V i) ∧ Q i = nI (V i) ∧ V i ≤ 99) (hpc : 0 < pc ∧ pc ≤ 4) (hqc : qc = pc) (hp9 : p ≤ 99) (hq9 : q ≤ 99) (hn : 0 < n) (hn9 : n ≤ 99) : ∃ (u' : SX) (v' : SY), sp_rl u' v' ∧ (∀ post : SX → Prop, post u' → wX_command_35 post (nI 104) (nI p) (nI q) (nI n) (nI h) (nI w) (nI pc) (nI 0) (nI r) (nI c) (nI pen) (nI pd) (nI ins) (nI tp) (nI bo) (nI gr) (nI gc) (nI gp) (nI gpd) C G P) ∧ (∀ post : SY → Prop, post v' → wY_command_64 post (nI 104) (nI p) (nI q) (nI n) (nI (if tp ≤ r ∧ r ≤ bo then 1 else 0)) (nI h) (nI w) (nI qc) (nI 0) (nI r) (nI c) (nI pen) (nI tp) (nI bo) (nI pd) (nI ins) (nI gr) (nI gc) (nI gp) (nI gpd) K L B D Q) := by
  obtain ⟨hb, h1, h2, h3⟩ := I
  unfold sp_bd at hb
  have z1 : (if p = 4 then 1 else ins) < 2 := by split <;> omega
  refine ⟨(sp_X h w pc 0 r c pen pd (if p = 4 then 1 else ins) tp bo gr gc gp gpd C G P), (sp_Y h w qc 0 r c pen tp bo pd (if p = 4 then 1 else ins) gr gc gp gpd K L B D Q), sp_mk ⟨?_, h1, h2, fun z => absurd z (by decide)⟩, fun post hp => ?_, fun post hp => ?_⟩
  · unfold sp_bd
    omega
  · exact xc_h (by omega) hp9 hp
  · exact yc_h hp9 hp
theorem sc_l {p q n : Nat} {V : Nat → Nat} (I : (sp_R h w pc qc 0 r c pen pd ins tp bo gr gc gp gpd C G P K L Q)) (hV : ∀ i, i < pc → P i = nI (V i) ∧ Q i = nI (V i) ∧ V i ≤ 99) (hpc : 0 < pc ∧ pc ≤ 4) (hqc : qc = pc) (hp9 : p ≤ 99) (hq9 : q ≤ 99) (hn : 0 < n) (hn9 : n ≤ 99) : ∃ (u' : SX) (v' : SY), sp_rl u' v' ∧ (∀ post : SX → Prop, post u' → wX_command_35 post (nI 108) (nI p) (nI q) (nI n) (nI h) (nI w) (nI pc) (nI 0) (nI r) (nI c) (nI pen) (nI pd) (nI ins) (nI tp) (nI bo) (nI gr) (nI gc) (nI gp) (nI gpd) C G P) ∧ (∀ post : SY → Prop, post v' → wY_command_64 post (nI 108) (nI p) (nI q) (nI n) (nI (if tp ≤ r ∧ r ≤ bo then 1 else 0)) (nI h) (nI w) (nI qc) (nI 0) (nI r) (nI c) (nI pen) (nI tp) (nI bo) (nI pd) (nI ins) (nI gr) (nI gc) (nI gp) (nI gpd) K L B D Q) := by
  obtain ⟨hb, h1, h2, h3⟩ := I
  unfold sp_bd at hb
  have z1 : (if p = 4 then 0 else ins) < 2 := by split <;> omega
  refine ⟨(sp_X h w pc 0 r c pen pd (if p = 4 then 0 else ins) tp bo gr gc gp gpd C G P), (sp_Y h w qc 0 r c pen tp bo pd (if p = 4 then 0 else ins) gr gc gp gpd K L B D Q), sp_mk ⟨?_, h1, h2, fun z => absurd z (by decide)⟩, fun post hp => ?_, fun post hp => ?_⟩
  · unfold sp_bd
    omega
  · exact xc_l (by omega) hp9 hp
  · exact yc_l hp9 hp
theorem sc_m {p q n : Nat} {V : Nat → Nat} (I : (sp_R h w pc qc 0 r c pen pd ins tp bo gr gc gp gpd C G P K L Q)) (hV : ∀ i, i < pc → P i = nI (V i) ∧ Q i = nI (V i) ∧ V i ≤ 99) (hpc : 0 < pc ∧ pc ≤ 4) (hqc : qc = pc) (hp9 : p ≤ 99) (hq9 : q ≤ 99) (hn : 0 < n) (hn9 : n ≤ 99) : ∃ (u' : SX) (v' : SY), sp_rl u' v' ∧ (∀ post : SX → Prop, post u' → wX_command_35 post (nI 109) (nI p) (nI q) (nI n) (nI h) (nI w) (nI pc) (nI 0) (nI r) (nI c) (nI pen) (nI pd) (nI ins) (nI tp) (nI bo) (nI gr) (nI gc) (nI gp) (nI gpd) C G P) ∧ (∀ post : SY → Prop, post v' → wY_command_64 post (nI 109) (nI p) (nI q) (nI n) (nI (if tp ≤ r ∧ r ≤ bo then 1 else 0)) (nI h) (nI w) (nI qc) (nI 0) (nI r) (nI c) (nI pen) (nI tp) (nI bo) (nI pd) (nI ins) (nI gr) (nI gc) (nI gp) (nI gpd) K L B D Q) := by
  obtain ⟨hb, h1, h2, h3⟩ := I
  unfold sp_bd at hb
  have z1 : sp_pens V 0 pc pen < 8 := sp_pens_lt pc 0 pen (fun j _ hj => (hV j (by omega)).2.2) (by omega)
  have hqd := hqc.symm
  subst hqd
  refine ⟨(sp_X h w pc 0 r c (sp_pens V 0 pc pen) pd ins tp bo gr gc gp gpd C G P), (sp_Y h w pc 0 r c (sp_pens V 0 pc pen) tp bo pd ins gr gc gp gpd K L B D Q), sp_mk ⟨?_, h1, h2, fun z => absurd z (by decide)⟩, fun post hp => ?_, fun post hp => ?_⟩
  · unfold sp_bd
    omega
  · exact xc_m (fun i hi => ⟨(hV i hi).1, (hV i hi).2.2⟩) (by omega) (by omega) hp
  · exact yc_m (fun i hi => ⟨(hV i hi).2.1, (hV i hi).2.2⟩) (by omega) (by omega) hp
theorem sc_r1 {p q n : Nat} {V : Nat → Nat} (I : (sp_R h w pc qc 0 r c pen pd ins tp bo gr gc gp gpd C G P K L Q)) (hV : ∀ i, i < pc → P i = nI (V i) ∧ Q i = nI (V i) ∧ V i ≤ 99) (hpc : 0 < pc ∧ pc ≤ 4) (hqc : qc = pc) (hp9 : p ≤ 99) (hq9 : q ≤ 99) (hn : 0 < n) (hn9 : n ≤ 99) (hin : n < sp_mu h q) : ∃ (u' : SX) (v' : SY), sp_rl u' v' ∧ (∀ post : SX → Prop, post u' → wX_command_35 post (nI 114) (nI p) (nI q) (nI n) (nI h) (nI w) (nI pc) (nI 0) (nI r) (nI c) (nI pen) (nI pd) (nI ins) (nI tp) (nI bo) (nI gr) (nI gc) (nI gp) (nI gpd) C G P) ∧ (∀ post : SY → Prop, post v' → wY_command_64 post (nI 114) (nI p) (nI q) (nI n) (nI (if tp ≤ r ∧ r ≤ bo then 1 else 0)) (nI h) (nI w) (nI qc) (nI 0) (nI r) (nI c) (nI pen) (nI tp) (nI bo) (nI pd) (nI ins) (nI gr) (nI gc) (nI gp) (nI gpd) K L B D Q) := by
  obtain ⟨hb, h1, h2, h3⟩ := I
  unfold sp_bd at hb
  have z1 := sp_mu_le h q
  refine ⟨(sp_X h w pc 0 0 0 pen 0 ins (n - 1) (sp_mu h q - 1) gr gc gp gpd C G P), (sp_Y h w qc 0 0 0 pen (n - 1) (sp_mu h q - 1) 0 ins gr gc gp gpd K L B D Q), sp_mk ⟨?_, h1, h2, fun z => absurd z (by decide)⟩, fun post hp => ?_, fun post hp => ?_⟩
  · unfold sp_bd
    omega
  · exact xc_r (by omega) (by omega) (by omega) (by omega) hn hn9 hq9 (fun _ => hp) (fun z => absurd hin z)
  · exact yc_r (by omega) (by omega) (by omega) (by omega) hn hn9 hq9 (fun _ => hp) (fun z => absurd hin z)
theorem sc_r0 {p q n : Nat} {V : Nat → Nat} (I : (sp_R h w pc qc 0 r c pen pd ins tp bo gr gc gp gpd C G P K L Q)) (hV : ∀ i, i < pc → P i = nI (V i) ∧ Q i = nI (V i) ∧ V i ≤ 99) (hpc : 0 < pc ∧ pc ≤ 4) (hqc : qc = pc) (hp9 : p ≤ 99) (hq9 : q ≤ 99) (hn : 0 < n) (hn9 : n ≤ 99) (hin : ¬ n < sp_mu h q) : ∃ (u' : SX) (v' : SY), sp_rl u' v' ∧ (∀ post : SX → Prop, post u' → wX_command_35 post (nI 114) (nI p) (nI q) (nI n) (nI h) (nI w) (nI pc) (nI 0) (nI r) (nI c) (nI pen) (nI pd) (nI ins) (nI tp) (nI bo) (nI gr) (nI gc) (nI gp) (nI gpd) C G P) ∧ (∀ post : SY → Prop, post v' → wY_command_64 post (nI 114) (nI p) (nI q) (nI n) (nI (if tp ≤ r ∧ r ≤ bo then 1 else 0)) (nI h) (nI w) (nI qc) (nI 0) (nI r) (nI c) (nI pen) (nI tp) (nI bo) (nI pd) (nI ins) (nI gr) (nI gc) (nI gp) (nI gpd) K L B D Q) := by
  obtain ⟨hb, h1, h2, h3⟩ := I
  unfold sp_bd at hb
  refine ⟨(sp_X h w pc 0 r c pen pd ins tp bo gr gc gp gpd C G P), (sp_Y h w qc 0 r c pen tp bo pd ins gr gc gp gpd K L B D Q), sp_mk ⟨?_, h1, h2, fun z => absurd z (by decide)⟩, fun post hp => ?_, fun post hp => ?_⟩
  · unfold sp_bd
    omega
  · exact xc_r (by omega) (by omega) (by omega) (by omega) hn hn9 hq9 (fun z => absurd z hin) (fun _ => hp)
  · exact yc_r (by omega) (by omega) (by omega) (by omega) hn hn9 hq9 (fun z => absurd z hin) (fun _ => hp)

theorem sc_0 {b p q n : Nat} (I : (sp_R h w pc qc 0 r c pen pd ins tp bo gr gc gp gpd C G P K L Q)) (hb : ∀ k, k ∈ [65, 66, 67, 68, 72, 74, 75, 76, 77, 83, 84, 104, 108, 109, 114] → b ≠ k) (hb9 : b < 127) : ∃ (u' : SX) (v' : SY), sp_rl u' v' ∧ (∀ post : SX → Prop, post u' → wX_command_35 post (nI b) (nI p) (nI q) (nI n) (nI h) (nI w) (nI pc) (nI 0) (nI r) (nI c) (nI pen) (nI pd) (nI ins) (nI tp) (nI bo) (nI gr) (nI gc) (nI gp) (nI gpd) C G P) ∧ (∀ post : SY → Prop, post v' → wY_command_64 post (nI b) (nI p) (nI q) (nI n) (nI (if tp ≤ r ∧ r ≤ bo then 1 else 0)) (nI h) (nI w) (nI qc) (nI 0) (nI r) (nI c) (nI pen) (nI tp) (nI bo) (nI pd) (nI ins) (nI gr) (nI gc) (nI gp) (nI gpd) K L B D Q) :=
  ⟨(sp_X h w pc 0 r c pen pd ins tp bo gr gc gp gpd C G P), (sp_Y h w qc 0 r c pen tp bo pd ins gr gc gp gpd K L B D Q), sp_mk I, fun _ hp => xc_0 hb (by omega) hp, fun _ hp => yc_0 hb hb9 hp⟩
theorem sc_all {b p q n : Nat} {V : Nat → Nat} (I : (sp_R h w pc qc 0 r c pen pd ins tp bo gr gc gp gpd C G P K L Q)) (hV : ∀ i, i < pc → P i = nI (V i) ∧ Q i = nI (V i) ∧ V i ≤ 99) (hpc : 0 < pc ∧ pc ≤ 4) (hqc : qc = pc) (hp9 : p ≤ 99) (hq9 : q ≤ 99) (hn : 0 < n) (hn9 : n ≤ 99) (hb9 : b < 127) : ∃ (u' : SX) (v' : SY), sp_rl u' v' ∧ (∀ post : SX → Prop, post u' → wX_command_35 post (nI b) (nI p) (nI q) (nI n) (nI h) (nI w) (nI pc) (nI 0) (nI r) (nI c) (nI pen) (nI pd) (nI ins) (nI tp) (nI bo) (nI gr) (nI gc) (nI gp) (nI gpd) C G P) ∧ (∀ post : SY → Prop, post v' → wY_command_64 post (nI b) (nI p) (nI q) (nI n) (nI (if tp ≤ r ∧ r ≤ bo then 1 else 0)) (nI h) (nI w) (nI qc) (nI 0) (nI r) (nI c) (nI pen) (nI tp) (nI bo) (nI pd) (nI ins) (nI gr) (nI gc) (nI gp) (nI gpd) K L B D Q) := by
  by_cases e : b = 65
  · subst e; exact sc_A I hV hpc hqc hp9 hq9 hn hn9
  by_cases e : b = 66
  · subst e; exact sc_B I hV hpc hqc hp9 hq9 hn hn9
  by_cases e : b = 67
  · subst e; exact sc_C I hV hpc hqc hp9 hq9 hn hn9
  by_cases e : b = 68
  · subst e; exact sc_D I hV hpc hqc hp9 hq9 hn hn9
  by_cases e : b = 72
  · subst e; exact sc_H I hV hpc hqc hp9 hq9 hn hn9
  by_cases e : b = 74
  · subst e; exact sc_J I hV hpc hqc hp9 hq9 hn hn9
  by_cases e : b = 75
  · subst e; exact sc_K I hV hpc hqc hp9 hq9 hn hn9
  by_cases e : b = 76
  · subst e
    by_cases z : tp ≤ r ∧ r ≤ bo
    · exact sc_L1 I hV hpc hqc hp9 hq9 hn hn9 z
    · exact sc_L0 I hV hpc hqc hp9 hq9 hn hn9 z
  by_cases e : b = 77
  · subst e
    by_cases z : tp ≤ r ∧ r ≤ bo
    · exact sc_M1 I hV hpc hqc hp9 hq9 hn hn9 z
    · exact sc_M0 I hV hpc hqc hp9 hq9 hn hn9 z
  by_cases e : b = 83
  · subst e; exact sc_S I hV hpc hqc hp9 hq9 hn hn9
  by_cases e : b = 84
  · subst e; exact sc_T I hV hpc hqc hp9 hq9 hn hn9
  by_cases e : b = 104
  · subst e; exact sc_h I hV hpc hqc hp9 hq9 hn hn9
  by_cases e : b = 108
  · subst e; exact sc_l I hV hpc hqc hp9 hq9 hn hn9
  by_cases e : b = 109
  · subst e; exact sc_m I hV hpc hqc hp9 hq9 hn hn9
  by_cases e : b = 114
  · subst e
    by_cases z : n < sp_mu h q
    · exact sc_r1 I hV hpc hqc hp9 hq9 hn hn9 z
    · exact sc_r0 I hV hpc hqc hp9 hq9 hn hn9 z
  refine sc_0 I ?_ hb9
  intro k hk
  simp only [List.mem_cons, List.not_mem_nil, or_false] at hk
  omega
theorem sf_cmd {b : Nat} (I : (sp_R h w pc qc 2 r c pen pd ins tp bo gr gc gp gpd C G P K L Q)) (hb1 : 64 ≤ b) (hb9 : b < 127) : sp_st (sp_X h w pc 2 r c pen pd ins tp bo gr gc gp gpd C G P) (sp_Y h w qc 2 r c pen tp bo pd ins gr gc gp gpd K L B D Q) b := by
  obtain ⟨hb, h1, h2, h3⟩ := I
  obtain ⟨hqc, hpc0, hpc4, V, hV⟩ := h3 rfl
  have hb' := hb
  unfold sp_bd at hb'
  have I0 : (sp_R h w pc qc 0 r c pen pd ins tp bo gr gc gp gpd C G P K L Q) := ⟨by unfold sp_bd; omega, h1, h2, fun z => absurd z (by decide)⟩
  have v0 := hV 0 hpc0
  have hq9 : (if pc ≤ 1 then 0 else V 1) ≤ 99 := by
    by_cases z : pc ≤ 1
    · rw [if_pos z]; omega
    · rw [if_neg z]; exact (hV 1 (by omega)).2.2
  have hqX : (pc ≤ 1 ∧ (if pc ≤ 1 then 0 else V 1) = 0) ∨ (1 < pc ∧ P 1 = nI (if pc ≤ 1 then 0 else V 1)) := by
    by_cases z : pc ≤ 1
    · exact Or.inl ⟨z, if_pos z⟩
    · rw [if_neg z]; exact Or.inr ⟨by omega, (hV 1 (by omega)).1⟩
  have hqY : (qc ≤ 1 ∧ (if pc ≤ 1 then 0 else V 1) = 0) ∨ (1 < qc ∧ Q 1 = nI (if pc ≤ 1 then 0 else V 1)) := by
    by_cases z : pc ≤ 1
    · exact Or.inl ⟨by omega, if_pos z⟩
    · rw [if_neg z]; exact Or.inr ⟨by omega, (hV 1 (by omega)).2.1⟩
  have hn : 0 < (if V 0 = 0 then 1 else V 0) ∧ (if V 0 = 0 then 1 else V 0) ≤ 99 := by split <;> omega
  obtain ⟨u', v', hr, HX, HY⟩ := sc_all (B := B) (D := D) (b := b) (p := V 0) (q := if pc ≤ 1 then 0 else V 1) I0 hV ⟨hpc0, hpc4⟩ hqc v0.2.2 hq9 hn.1 hn.2 hb9
  refine ⟨u', v', hr, fun post hp => ?_, fun pq hp => ?_⟩
  · exact xp_cmd hb1 hb9 (fun po hpo => xm_cmd v0.1 v0.2.2 hqX (by omega) (HX po hpo)) hp
  · exact yt_seq (by omega) hb9 (fun po hpo => ys_cmd hb1 hb9 (fun po2 hpo2 => ym_cmd v0.2.1 v0.2.2 hqY (by omega) (by omega) (by omega) (by omega) (HY po2 hpo2)) hpo) hp
theorem sf_dig {b : Nat} (I : (sp_R h w pc qc 2 r c pen pd ins tp bo gr gc gp gpd C G P K L Q)) (hb1 : 48 ≤ b) (hb9 : b ≤ 57) : sp_st (sp_X h w pc 2 r c pen pd ins tp bo gr gc gp gpd C G P) (sp_Y h w qc 2 r c pen tp bo pd ins gr gc gp gpd K L B D Q) b := by
  obtain ⟨hb, h1, h2, h3⟩ := I
  obtain ⟨hqc, hpc0, hpc4, V, hV⟩ := h3 rfl
  subst hqc
  obtain ⟨w1, w2, w3⟩ := hV (qc - 1) (by omega)
  refine ⟨(sp_X h w qc 2 r c pen pd ins tp bo gr gc gp gpd C G (upd P (qc - 1) (nI (sp_dg (V (qc - 1)) b)))), (sp_Y h w qc 2 r c pen tp bo pd ins gr gc gp gpd K L B D (upd Q (qc - 1) (nI (sp_dg (V (qc - 1)) b)))), sp_mk ⟨hb, h1, h2, fun _ => ⟨rfl, hpc0, hpc4, fun i => if i = qc - 1 then sp_dg (V (qc - 1)) b else V i, ?_⟩⟩, fun post hp => xp_dig hb1 hb9 hpc0 hpc4 w1 w3 hp, fun pq hp => yt_seq (by omega) (by omega) (fun po hpo => ys_dig hb1 hb9 hpc0 hpc4 w2 w3 hpo) hp⟩
  intro i hi
  by_cases z : i = qc - 1
  · subst z
    dsimp only
    rw [if_pos rfl, pk_us, pk_us]
    exact ⟨rfl, rfl, by unfold sp_dg; split <;> omega⟩
  · dsimp only
    rw [if_neg z, pk_un z, pk_un z]
    exact hV i hi
theorem sf_semi (I : (sp_R h w pc qc 2 r c pen pd ins tp bo gr gc gp gpd C G P K L Q)) (hlt : pc < 4) : sp_st (sp_X h w pc 2 r c pen pd ins tp bo gr gc gp gpd C G P) (sp_Y h w qc 2 r c pen tp bo pd ins gr gc gp gpd K L B D Q) 59 := by
  obtain ⟨hb, h1, h2, h3⟩ := I
  obtain ⟨hqc, hpc0, hpc4, V, hV⟩ := h3 rfl
  subst hqc
  refine ⟨(sp_X h w (qc + 1) 2 r c pen pd ins tp bo gr gc gp gpd C G (upd P qc (nI 0))), (sp_Y h w (qc + 1) 2 r c pen tp bo pd ins gr gc gp gpd K L B D (upd Q qc (nI 0))), sp_mk ⟨hb, h1, h2, fun _ => ⟨rfl, by omega, by omega, fun i => if i = qc then 0 else V i, ?_⟩⟩, fun post hp => xp_semi hlt hp, fun pq hp => yt_seq (by omega) (by omega) (fun po hpo => ys_semi hlt hpo) hp⟩
  intro i hi
  by_cases z : i = qc
  · subst z
    dsimp only
    rw [if_pos rfl, pk_us, pk_us]
    exact ⟨rfl, rfl, by omega⟩
  · dsimp only
    rw [if_neg z, pk_un z, pk_un z]
    exact hV i (by omega)
theorem sf_ign {b : Nat} (I : (sp_R h w pc qc 2 r c pen pd ins tp bo gr gc gp gpd C G P K L Q)) (hb0 : 32 ≤ b) (hb1 : b < 64) (hd : b < 48 ∨ 57 < b) (hs : b = 59 → 4 ≤ pc) : sp_st (sp_X h w pc 2 r c pen pd ins tp bo gr gc gp gpd C G P) (sp_Y h w qc 2 r c pen tp bo pd ins gr gc gp gpd K L B D Q) b := by
  obtain ⟨hb, h1, h2, h3⟩ := I
  obtain ⟨hqc, hpc0, hpc4, V, hV⟩ := h3 rfl
  subst hqc
  have hb' := hb
  unfold sp_bd at hb'
  refine ⟨(sp_X h w qc 3 r c pen pd ins tp bo gr gc gp gpd C G P), (sp_Y h w qc 3 r c pen tp bo pd ins gr gc gp gpd K L B D Q), sp_mk ⟨by unfold sp_bd; omega, h1, h2, fun z => absurd z (by decide)⟩, fun post hp => xt_seq hb0 (by omega) (fun po hpo => xs_ign hb1 hd hs (by omega) hpo) hp, fun pq hp => yt_seq hb0 (by omega) (fun po hpo => ys_ign hb1 hd hs (by omega) hpo) hp⟩
theorem sf_i3 {b : Nat} (I : (sp_R h w pc qc 3 r c pen pd ins tp bo gr gc gp gpd C G P K L Q)) (hb0 : 32 ≤ b) (hb1 : b < 127) : sp_st (sp_X h w pc 3 r c pen pd ins tp bo gr gc gp gpd C G P) (sp_Y h w qc 3 r c pen tp bo pd ins gr gc gp gpd K L B D Q) b := by
  obtain ⟨hb, h1, h2, h3⟩ := I
  have hb' := hb
  unfold sp_bd at hb'
  have z1 : (if b < 64 then 3 else 0) < 4 := by split <;> omega
  have z2 : (if b < 64 then 3 else 0) ≠ 2 := by split <;> omega
  exact ⟨(sp_X h w pc (if b < 64 then 3 else 0) r c pen pd ins tp bo gr gc gp gpd C G P), (sp_Y h w qc (if b < 64 then 3 else 0) r c pen tp bo pd ins gr gc gp gpd K L B D Q), sp_mk ⟨by unfold sp_bd; omega, h1, h2, fun z => absurd z z2⟩, fun post hp => xt_ign hb0 hb1 hp, fun pq hp => yt_ign hb0 hb1 hp⟩
theorem sf_esc {b : Nat} (I : (sp_R h w pc qc 1 r c pen pd ins tp bo gr gc gp gpd C G P K L Q)) (hb0 : 32 ≤ b) (hb1 : b < 127) : sp_st (sp_X h w pc 1 r c pen pd ins tp bo gr gc gp gpd C G P) (sp_Y h w qc 1 r c pen tp bo pd ins gr gc gp gpd K L B D Q) b := by
  obtain ⟨hb, h1, h2, h3⟩ := I
  have hb' := hb
  unfold sp_bd at hb'
  by_cases q : b = 91
  · subst q
    refine ⟨(sp_X h w 1 2 r c pen pd ins tp bo gr gc gp gpd C G (upd P 0 (nI 0))), (sp_Y h w 1 2 r c pen tp bo pd ins gr gc gp gpd K L B D (upd Q 0 (nI 0))), sp_mk ⟨by unfold sp_bd; omega, h1, h2, fun _ => ⟨rfl, by omega, by omega, fun _ => 0, ?_⟩⟩, fun post hp => xt_91 hp, fun pq hp => yt_esc hb0 hb1 hp⟩
    intro i hi
    have : i = 0 := by omega
    subst this
    exact ⟨pk_us, pk_us, Nat.zero_le 99⟩
  · refine ⟨(sp_X h w pc 0 r c pen pd ins tp bo gr gc gp gpd C G P), (sp_Y h w 1 0 r c pen tp bo pd ins gr gc gp gpd K L B D (upd Q 0 (nI 0))), sp_mk ⟨by unfold sp_bd; omega, h1, h2, fun z => absurd z (by decide)⟩, fun post hp => xt_esc hb0 hb1 q hp, fun pq hp => yt_esc hb0 hb1 ?_⟩
    rw [if_neg q]
    exact hp
theorem sf_p0 {b : Nat} (I : (sp_R h w pc qc 0 r c pen 0 ins tp bo gr gc gp gpd C G P K L Q)) (hb0 : 32 ≤ b) (hb1 : b < 127) : sp_st (sp_X h w pc 0 r c pen 0 ins tp bo gr gc gp gpd C G P) (sp_Y h w qc 0 r c pen tp bo 0 ins gr gc gp gpd K L B D Q) b := by
  obtain ⟨hb, h1, h2, h3⟩ := I
  have hb' := hb
  unfold sp_bd at hb'
  refine ⟨(sp_X h w pc 0 r (sp_c2 w c) pen (sp_p2 w c) ins tp bo gr gc gp gpd (sp_pc w ins r c (8 * b + pen) C) G P), (sp_Y h w qc 0 r (sp_c2 w c) pen tp bo (sp_p2 w c) ins gr gc gp gpd (sp_py w ins r c (8 * b + pen) K) L B D Q), sp_mk ⟨?_, gr_pc (by omega) (by omega) (by omega) (by omega) (by omega) h1, h2, fun z => absurd z (by decide)⟩, fun post hp => xt_prn hb0 hb1 (fun po hpo => xm_print0 (by omega) (by omega) (by omega) (by omega) (by omega) (by omega) (by omega) hpo) hp, fun pq hp => yt_prn hb0 hb1 (fun po hpo => ym_print0 (by omega) (by omega) (by omega) (by omega) (by omega) (by omega) (by omega) hpo) hp⟩
  unfold sp_bd sp_c2 sp_p2
  by_cases z : c = w - 1
  · rw [if_pos z, if_pos z]; omega
  · rw [if_neg z, if_neg z]; omega
theorem sf_p1 {b : Nat} (I : (sp_R h w pc qc 0 r c pen 1 ins tp bo gr gc gp gpd C G P K L Q)) (hb0 : 32 ≤ b) (hb1 : b < 127) : sp_st (sp_X h w pc 0 r c pen 1 ins tp bo gr gc gp gpd C G P) (sp_Y h w qc 0 r c pen tp bo 1 ins gr gc gp gpd K L B D Q) b := by
  obtain ⟨hb, h1, h2, h3⟩ := I
  have hb' := hb
  unfold sp_bd at hb'
  have hlr := sp_lr_lt (show r < h by omega) (show bo < h by omega)
  refine ⟨(sp_X h w pc 0 (sp_lr h bo r) (sp_c2 w 0) pen (sp_p2 w 0) ins tp bo gr gc gp gpd (sp_pc w ins (sp_lr h bo r) 0 (8 * b + pen) (sp_lc w tp bo pen r C)) G P), (sp_Y h w qc 0 (sp_lr h bo r) (sp_c2 w 0) pen tp bo (sp_p2 w 0) ins gr gc gp gpd (sp_py w ins (sp_lr h bo r) 0 (8 * b + pen) (sp_ylc w tp bo pen r K)) L (sp_ylb bo r K B) D Q), sp_mk ⟨?_, gr_pc (by omega) hlr (by omega) (by omega) (by omega) (gr_lc (by omega) (by omega) (by omega) h1), h2, fun z => absurd z (by decide)⟩, fun post hp => xt_prn hb0 hb1 (fun po hpo => xm_print1 (by omega) (by omega) (by omega) (by omega) (by omega) (by omega) (by omega) (by omega) (by omega) hpo) hp, fun pq hp => yt_prn hb0 hb1 (fun po hpo => ym_print1 (by omega) (by omega) (by omega) (by omega) (by omega) (by omega) (by omega) (by omega) (by omega) hpo) hp⟩
  unfold sp_bd sp_c2 sp_p2
  rw [if_neg (by omega), if_neg (by omega)]
  omega
theorem sf_24 (I : (sp_R h w pc qc st r c pen pd ins tp bo gr gc gp gpd C G P K L Q)) : sp_st (sp_X h w pc st r c pen pd ins tp bo gr gc gp gpd C G P) (sp_Y h w qc st r c pen tp bo pd ins gr gc gp gpd K L B D Q) 24 := by
  obtain ⟨hb, h1, h2, h3⟩ := I
  exact ⟨(sp_X h w pc 0 r c pen pd ins tp bo gr gc gp gpd C G P), (sp_Y h w qc 0 r c pen tp bo pd ins gr gc gp gpd K L B D Q), sp_mk ⟨by unfold sp_bd at *; omega, h1, h2, fun z => absurd z (by decide)⟩, fun post hp => xt_24 hp, fun pq hp => yt_24 hp⟩
theorem sf_27 (I : (sp_R h w pc qc st r c pen pd ins tp bo gr gc gp gpd C G P K L Q)) : sp_st (sp_X h w pc st r c pen pd ins tp bo gr gc gp gpd C G P) (sp_Y h w qc st r c pen tp bo pd ins gr gc gp gpd K L B D Q) 27 := by
  obtain ⟨hb, h1, h2, h3⟩ := I
  exact ⟨(sp_X h w pc 1 r c pen pd ins tp bo gr gc gp gpd C G P), (sp_Y h w qc 1 r c pen tp bo pd ins gr gc gp gpd K L B D Q), sp_mk ⟨by unfold sp_bd at *; omega, h1, h2, fun z => absurd z (by decide)⟩, fun post hp => xt_27 hp, fun pq hp => yt_27 hp⟩
theorem sf_8 (I : (sp_R h w pc qc st r c pen pd ins tp bo gr gc gp gpd C G P K L Q)) : sp_st (sp_X h w pc st r c pen pd ins tp bo gr gc gp gpd C G P) (sp_Y h w qc st r c pen tp bo pd ins gr gc gp gpd K L B D Q) 8 := by
  obtain ⟨hb, h1, h2, h3⟩ := I
  unfold sp_bd at hb
  exact ⟨(sp_X h w pc st r (c - 1) pen 0 ins tp bo gr gc gp gpd C G P), (sp_Y h w qc st r (c - 1) pen tp bo 0 ins gr gc gp gpd K L B D Q), sp_mk ⟨by unfold sp_bd; omega, h1, h2, h3⟩, fun post hp => xt_ctl (by omega) (by omega) (by omega) (fun _ hpo => xk_8 (by omega) (by omega) (by omega) (by omega) hpo) hp, fun pq hp => yt_ctl (by omega) (by omega) (by omega) (fun _ hpo => yk_8 (by omega) (by omega) (by omega) (by omega) hpo) hp⟩
theorem sf_9 (I : (sp_R h w pc qc st r c pen pd ins tp bo gr gc gp gpd C G P K L Q)) : sp_st (sp_X h w pc st r c pen pd ins tp bo gr gc gp gpd C G P) (sp_Y h w qc st r c pen tp bo pd ins gr gc gp gpd K L B D Q) 9 := by
  obtain ⟨hb, h1, h2, h3⟩ := I
  unfold sp_bd at hb
  have hn := sp_nt_lt (w := w) (c := c) (by omega)
  exact ⟨(sp_X h w pc st r (sp_nt w c) pen 0 ins tp bo gr gc gp gpd C G P), (sp_Y h w qc st r (sp_nt w c) pen tp bo 0 ins gr gc gp gpd K L B D Q), sp_mk ⟨by unfold sp_bd; omega, h1, h2, h3⟩, fun post hp => xt_ctl (by omega) (by omega) (by omega) (fun _ hpo => xk_9 (by omega) (by omega) hpo) hp, fun pq hp => yt_ctl (by omega) (by omega) (by omega) (fun _ hpo => yk_9 (by omega) (by omega) (by omega) (by omega) hpo) hp⟩
theorem sf_10 (I : (sp_R h w pc qc st r c pen pd ins tp bo gr gc gp gpd C G P K L Q)) : sp_st (sp_X h w pc st r c pen pd ins tp bo gr gc gp gpd C G P) (sp_Y h w qc st r c pen tp bo pd ins gr gc gp gpd K L B D Q) 10 := by
  obtain ⟨hb, h1, h2, h3⟩ := I
  unfold sp_bd at hb
  have hlr := sp_lr_lt (show r < h by omega) (show bo < h by omega)
  exact ⟨(sp_X h w pc st (sp_lr h bo r) c pen 0 ins tp bo gr gc gp gpd (sp_lc w tp bo pen r C) G P), (sp_Y h w qc st (sp_lr h bo r) c pen tp bo 0 ins gr gc gp gpd (sp_ylc w tp bo pen r K) L (sp_ylb bo r K B) D Q), sp_mk ⟨by unfold sp_bd; omega, gr_lc (by omega) (by omega) (by omega) h1, h2, h3⟩, fun post hp => xt_ctl (by omega) (by omega) (by omega) (fun _ hpo => xk_10 (by omega) (by omega) (by omega) (by omega) (by omega) (by omega) hpo) hp, fun pq hp => yt_ctl (by omega) (by omega) (by omega) (fun _ hpo => yk_10 (by omega) (by omega) (by omega) (by omega) (by omega) hpo) hp⟩
theorem sf_13 (I : (sp_R h w pc qc st r c pen pd ins tp bo gr gc gp gpd C G P K L Q)) : sp_st (sp_X h w pc st r c pen pd ins tp bo gr gc gp gpd C G P) (sp_Y h w qc st r c pen tp bo pd ins gr gc gp gpd K L B D Q) 13 := by
  obtain ⟨hb, h1, h2, h3⟩ := I
  unfold sp_bd at hb
  exact ⟨(sp_X h w pc st r 0 pen 0 ins tp bo gr gc gp gpd C G P), (sp_Y h w qc st r 0 pen tp bo 0 ins gr gc gp gpd K L B D Q), sp_mk ⟨by unfold sp_bd; omega, h1, h2, h3⟩, fun post hp => xt_ctl (by omega) (by omega) (by omega) (fun _ hpo => xk_13 (by omega) (by omega) (by omega) (by omega) hpo) hp, fun pq hp => yt_ctl (by omega) (by omega) (by omega) (fun _ hpo => yk_13 (by omega) (by omega) (by omega) (by omega) hpo) hp⟩
theorem sf_ctl {b : Nat} (I : (sp_R h w pc qc st r c pen pd ins tp bo gr gc gp gpd C G P K L Q)) (hb : b < 32) (h24 : b ≠ 24) (h27 : b ≠ 27) : sp_st (sp_X h w pc st r c pen pd ins tp bo gr gc gp gpd C G P) (sp_Y h w qc st r c pen tp bo pd ins gr gc gp gpd K L B D Q) b := by
  by_cases e : b = 8
  · subst e; exact sf_8 I
  by_cases e : b = 9
  · subst e; exact sf_9 I
  by_cases e : b = 10
  · subst e; exact sf_10 I
  by_cases e : b = 13
  · subst e; exact sf_13 I
  exact ⟨(sp_X h w pc st r c pen pd ins tp bo gr gc gp gpd C G P), (sp_Y h w qc st r c pen tp bo pd ins gr gc gp gpd K L B D Q), sp_mk I, fun post hp => xt_ctl hb h24 h27 (fun _ hpo => xk_0 hb (by omega) (by omega) (by omega) (by omega) hpo) hp, fun pq hp => yt_ctl hb h24 h27 (fun _ hpo => yk_0 hb (by omega) (by omega) (by omega) (by omega) hpo) hp⟩
theorem sf_big {b : Nat} (I : (sp_R h w pc qc st r c pen pd ins tp bo gr gc gp gpd C G P K L Q)) (hb : 127 ≤ b) (hb2 : b < 256) : sp_st (sp_X h w pc st r c pen pd ins tp bo gr gc gp gpd C G P) (sp_Y h w qc st r c pen tp bo pd ins gr gc gp gpd K L B D Q) b :=
  ⟨(sp_X h w pc st r c pen pd ins tp bo gr gc gp gpd C G P), (sp_Y h w qc st r c pen tp bo pd ins gr gc gp gpd K L B D Q), sp_mk I, fun post hp => xt_big hb hb2 hp, fun pq hp => yt_big hb hb2 hp⟩
theorem sf_all {b : Nat} (I : (sp_R h w pc qc st r c pen pd ins tp bo gr gc gp gpd C G P K L Q)) (hb : b < 256) : sp_st (sp_X h w pc st r c pen pd ins tp bo gr gc gp gpd C G P) (sp_Y h w qc st r c pen tp bo pd ins gr gc gp gpd K L B D Q) b := by
  by_cases e : b = 24
  · subst e; exact sf_24 I
  by_cases e27 : b = 27
  · subst e27; exact sf_27 I
  by_cases e32 : b < 32
  · exact sf_ctl I e32 e e27
  by_cases e127 : 127 ≤ b
  · exact sf_big I e127 hb
  have hb' := I.1
  unfold sp_bd at hb'
  by_cases s0 : st = 0
  · subst s0
    by_cases p0 : pd = 0
    · subst p0; exact sf_p0 I (by omega) (by omega)
    · have p1 : pd = 1 := by omega
      subst p1; exact sf_p1 I (by omega) (by omega)
  by_cases s1 : st = 1
  · subst s1; exact sf_esc I (by omega) (by omega)
  by_cases s2 : st = 2
  · subst s2
    by_cases d : 48 ≤ b ∧ b ≤ 57
    · exact sf_dig I d.1 d.2
    by_cases d2 : 64 ≤ b
    · exact sf_cmd I d2 (by omega)
    by_cases d3 : b = 59 ∧ pc < 4
    · obtain ⟨d4, d5⟩ := d3
      subst d4
      exact sf_semi I d5
    · exact sf_ign I (by omega) (by omega) (by omega) (by omega)
  have s3 : st = 3 := by omega
  subst s3
  exact sf_i3 I (by omega) (by omega)
end
theorem sf_rl {u : SX} {v : SY} (I : sp_rl u v) {b : Nat} (hb : b < 256) : sp_st u v b :=
  sp_el (T := fun u v => sp_st u v b) (fun _ _ _ _ _ _ _ _ _ _ _ _ _ _ _ _ _ _ _ _ _ _ _ _ hR => sf_all hR hb) I
end
section
/-! the search: plain numbers -/
def sp_di (k : Nat) : Nat := if k = 0 then 0 else if 10 ≤ k then 2 else 1
def sp_nn (k : Nat) : Nat := if k = 0 then 1 else k
/-- one piece along the row, x to x2 with k bytes -/
def sp_ct (w x x2 k : Nat) : Prop := (k = 1 ∧ (x2 = x - 1 ∨ x2 = sp_nt w x ∨ x2 = 0)) ∨ ∃ m, m < 13 ∧ k = 3 + sp_di m ∧ (x2 = sp_mn (x + sp_nn m) (w - 1) ∨ x2 = x - sp_nn m)
/-- one piece along the column -/
def sp_rt (h bo y y2 k : Nat) : Prop := (k = 1 ∧ y ≠ bo ∧ y2 = sp_mn (y + 1) (h - 1)) ∨ ∃ m, m < 13 ∧ k = 3 + sp_di m ∧ (y2 = sp_mn (y + sp_nn m) (h - 1) ∨ y2 = y - sp_nn m)
def sp_W (w x : Nat) : Nat := sp_mn (sp_cf x) (sp_ac w 0 x)
/-- the tables, a width at a time -/
def sp_ckA (w : Nat) : Bool := (List.range w).all fun c => (List.range w).all fun x => let a := sp_ac w c x; (sp_ac w c (x - 1) ≤ a + 1 && sp_ac w c (sp_nt w x) ≤ a + 1 && sp_ac w c 0 ≤ a + 1) && (List.range 13).all fun m => (sp_ac w c (sp_mn (x + sp_nn m) (w - 1)) ≤ a + (3 + sp_di m) && sp_ac w c (x - sp_nn m) ≤ a + (3 + sp_di m))
def sp_ckW (w : Nat) : Bool := (List.range w).all fun x => let a := sp_W w x; (sp_W w (x - 1) ≤ a + 1 && sp_W w (sp_nt w x) ≤ a + 1 && sp_W w 0 ≤ a + 1) && (List.range 13).all fun m => (sp_W w (sp_mn (x + sp_nn m) (w - 1)) ≤ a + (3 + sp_di m) && sp_W w (x - sp_nn m) ≤ a + (3 + sp_di m))
def sp_ckP (w : Nat) : Bool := (List.range w).all fun c => (List.range w).all fun x => x == c || (List.range w).any fun x1 => (sp_ac w c x1 + 1 == sp_ac w c x && (x == x1 - 1 || x == sp_nt w x1 || x == 0)) || (List.range 13).any fun m => sp_ac w c x1 + (3 + sp_di m) == sp_ac w c x && (x == sp_mn (x1 + sp_nn m) (w - 1) || x == x1 - sp_nn m)
def sp_ckV (h : Nat) : Bool := (List.range h).all fun bo => (List.range h).all fun r => (List.range h).all fun y => let a := sp_vc bo r y; (y == bo || sp_vc bo r (sp_mn (y + 1) (h - 1)) ≤ a + 1) && (List.range 13).all fun m => (sp_vc bo r (sp_mn (y + sp_nn m) (h - 1)) ≤ a + (3 + sp_di m) && sp_vc bo r (y - sp_nn m) ≤ a + (3 + sp_di m))
def sp_ckQ (h : Nat) : Bool := (List.range h).all fun bo => (List.range h).all fun r => (List.range h).all fun y => y == r || (List.range h).any fun y1 => (sp_vc bo r y1 + 1 == sp_vc bo r y && (y1 != bo && y == sp_mn (y1 + 1) (h - 1))) || (List.range 13).any fun m => sp_vc bo r y1 + (3 + sp_di m) == sp_vc bo r y && (y == sp_mn (y1 + sp_nn m) (h - 1) || y == y1 - sp_nn m)
theorem ck_A : ∀ w, w < 13 → sp_ckA w = true := by decide +kernel
theorem ck_W : ∀ w, w < 13 → sp_ckW w = true := by decide +kernel
theorem ck_P : ∀ w, w < 13 → sp_ckP w = true := by decide +kernel
theorem ck_V : ∀ h, h < 9 → sp_ckV h = true := by decide +kernel
theorem ck_Q : ∀ h, h < 9 → sp_ckQ h = true := by decide +kernel
end
section
/-! the search: its invariant -/
theorem sp_LA {w c x x2 k : Nat} (w12 : w ≤ 12) (hc : c < w) (hx : x < w) (t : sp_ct w x x2 k) : sp_ac w c x2 ≤ sp_ac w c x + k := by
  have H := ck_A w (by omega)
  simp only [sp_ckA, List.all_eq_true, List.mem_range, Bool.and_eq_true, decide_eq_true_eq] at H
  obtain ⟨⟨⟨h1, h2⟩, h3⟩, h4⟩ := H c hc x hx
  rcases t with ⟨rfl, (rfl | rfl | rfl)⟩ | ⟨m, hm, rfl, (rfl | rfl)⟩
  · exact h1
  · exact h2
  · exact h3
  · exact (h4 m hm).1
  · exact (h4 m hm).2
theorem sp_LW {w x x2 k : Nat} (w12 : w ≤ 12) (hx : x < w) (t : sp_ct w x x2 k) : sp_W w x2 ≤ sp_W w x + k := by
  have H := ck_W w (by omega)
  simp only [sp_ckW, List.all_eq_true, List.mem_range, Bool.and_eq_true, decide_eq_true_eq] at H
  obtain ⟨⟨⟨h1, h2⟩, h3⟩, h4⟩ := H x hx
  rcases t with ⟨rfl, (rfl | rfl | rfl)⟩ | ⟨m, hm, rfl, (rfl | rfl)⟩
  · exact h1
  · exact h2
  · exact h3
  · exact (h4 m hm).1
  · exact (h4 m hm).2
theorem sp_LV {h bo r y y2 k : Nat} (h8 : h ≤ 8) (hb : bo < h) (hr : r < h) (hy : y < h) (t : sp_rt h bo y y2 k) : sp_vc bo r y2 ≤ sp_vc bo r y + k := by
  have H := ck_V h (by omega)
  simp only [sp_ckV, List.all_eq_true, List.mem_range, Bool.and_eq_true, Bool.or_eq_true, beq_iff_eq, decide_eq_true_eq] at H
  obtain ⟨h1, h4⟩ := H bo hb r hr y hy
  rcases t with ⟨rfl, hne, rfl⟩ | ⟨m, hm, rfl, (rfl | rfl)⟩
  · rcases h1 with h1 | h1
    · exact absurd h1 hne
    · exact h1
  · exact (h4 m hm).1
  · exact (h4 m hm).2
theorem sp_PA {w c x : Nat} (w12 : w ≤ 12) (hc : c < w) (hx : x < w) (hne : x ≠ c) : ∃ x1 k, x1 < w ∧ sp_ct w x1 x k ∧ sp_ac w c x1 + k = sp_ac w c x := by
  have H := ck_P w (by omega)
  simp only [sp_ckP, List.all_eq_true, List.any_eq_true, List.mem_range, Bool.and_eq_true, Bool.or_eq_true, beq_iff_eq] at H
  rcases H c hc x hx with e | ⟨x1, hx1, ⟨e, ht⟩ | ⟨m, hm, e, ht⟩⟩
  · exact absurd e hne
  · exact ⟨x1, 1, hx1, Or.inl ⟨rfl, by omega⟩, e⟩
  · exact ⟨x1, 3 + sp_di m, hx1, Or.inr ⟨m, hm, rfl, ht⟩, e⟩
theorem sp_PV {h bo r y : Nat} (h8 : h ≤ 8) (hb : bo < h) (hr : r < h) (hy : y < h) (hne : y ≠ r) : ∃ y1 k, y1 < h ∧ sp_rt h bo y1 y k ∧ sp_vc bo r y1 + k = sp_vc bo r y := by
  have H := ck_Q h (by omega)
  simp only [sp_ckQ, List.all_eq_true, List.any_eq_true, List.mem_range, Bool.and_eq_true, Bool.or_eq_true, beq_iff_eq, bne_iff_ne] at H
  rcases H bo hb r hr y hy with e | ⟨y1, hy1, ⟨e, h1, h2⟩ | ⟨m, hm, e, ht⟩⟩
  · exact absurd e hne
  · exact ⟨y1, 1, hy1, Or.inl ⟨rfl, h1, h2⟩, e⟩
  · exact ⟨y1, 3 + sp_di m, hy1, Or.inr ⟨m, hm, rfl, ht⟩, e⟩
theorem sp_nn_pos (m : Nat) : 0 < sp_nn m := by unfold sp_nn; split <;> omega
theorem sp_ct_in {w x x2 k : Nat} (hx : x < w) (t : sp_ct w x x2 k) : x2 < w ∧ 0 < k := by
  have hw : 0 < w := by omega
  have hn := sp_nt_lt (c := x) hw
  rcases t with ⟨rfl, ht⟩ | ⟨m, hm, rfl, ht⟩
  · exact ⟨by omega, by omega⟩
  · have := sp_mn_r (x + sp_nn m) (w - 1)
    exact ⟨by omega, by omega⟩
theorem sp_rt_in {h bo y y2 k : Nat} (hy : y < h) (t : sp_rt h bo y y2 k) : y2 < h ∧ 0 < k := by
  rcases t with ⟨rfl, _, ht⟩ | ⟨m, hm, rfl, ht⟩
  · have := sp_mn_r (y + 1) (h - 1)
    exact ⟨by omega, by omega⟩
  · have := sp_mn_r (y + sp_nn m) (h - 1)
    exact ⟨by omega, by omega⟩
/-! the price -/
def sp_F (w bo r c y x : Nat) : Nat := sp_mn (sp_ad w y x) (sp_vc bo r y + sp_ac w c x)
def sp_Fp (w bo r c pd y x : Nat) : Nat := if y = r ∧ x = c then pd else sp_F w bo r c y x
theorem sp_ad_W (w y x : Nat) : sp_ad w y x = 3 + (if y ≤ 0 then 0 else 1) + sp_W w x := rfl
theorem sp_F_col {w bo r c y x x2 k : Nat} (w12 : w ≤ 12) (hc : c < w) (hx : x < w) (t : sp_ct w x x2 k) : sp_F w bo r c y x2 ≤ sp_F w bo r c y x + k := by
  have h1 := sp_LA w12 hc hx t
  have h2 := sp_LW w12 hx t
  unfold sp_F
  rw [sp_ad_W, sp_ad_W]
  generalize (3 + if y ≤ 0 then 0 else 1) = a
  unfold sp_mn
  split <;> split <;> omega
theorem sp_F_row {h w bo r c y x y2 k : Nat} (h8 : h ≤ 8) (hb : bo < h) (hr : r < h) (hy : y < h) (t : sp_rt h bo y y2 k) : sp_F w bo r c y2 x ≤ sp_F w bo r c y x + k := by
  have h1 := sp_LV h8 hb hr hy t
  have h2 := (sp_rt_in hy t).2
  have h3 : (if y2 ≤ 0 then 0 else 1) ≤ (if y ≤ 0 then 0 else 1) + k := by split <;> split <;> omega
  unfold sp_F
  rw [sp_ad_W, sp_ad_W]
  generalize (if y ≤ 0 then 0 else 1) = a at *
  generalize (if y2 ≤ 0 then 0 else 1) = a2 at *
  unfold sp_mn
  split <;> split <;> omega
theorem sp_ac_s (w c : Nat) : sp_ac w c c = 0 := by unfold sp_ac sp_tb sp_hop sp_mn; simp
theorem sp_F_st (w bo r c : Nat) : sp_F w bo r c r c = 0 := by
  have h1 : sp_vc bo r r = 0 := if_pos rfl
  unfold sp_F
  rw [h1, sp_ac_s]
  exact Nat.le_zero.mp (sp_mn_r _ _)
theorem sp_Fp_ge {w bo r c pd y x : Nat} : sp_F w bo r c y x ≤ sp_Fp w bo r c pd y x := by
  unfold sp_Fp
  by_cases q : y = r ∧ x = c
  · obtain ⟨rfl, rfl⟩ := q
    rw [sp_F_st]
    exact Nat.zero_le _
  · rw [if_neg q]
    exact Nat.le_refl _
theorem sp_Fp_le {w bo r c pd y x k : Nat} (hpd : pd < 2) (hk : 0 < k) (hF : sp_F w bo r c y x ≤ k) : sp_Fp w bo r c pd y x ≤ k := by
  unfold sp_Fp
  by_cases q : y = r ∧ x = c
  · rw [if_pos q]; omega
  · rw [if_neg q]; exact hF
theorem sp_F_7 (w bo r c y x : Nat) : sp_F w bo r c y x ≤ 7 := by
  have h1 := sp_mn_l (sp_ad w y x) (sp_vc bo r y + sp_ac w c x)
  have h2 := sp_mn_l (sp_cf x) (sp_ac w 0 x)
  have h3 := sp_cf_le x
  unfold sp_F
  unfold sp_ad at *
  have h4 : (if y ≤ 0 then 0 else 1) ≤ 1 := by split <;> omega
  omega
/-- where a price comes from -/
theorem sp_pred {h w bo r c y x : Nat} (h8 : h ≤ 8) (w12 : w ≤ 12) (hb : bo < h) (hr : r < h) (hc : c < w) (hy : y < h) (hx : x < w) (hne : ¬ (y = r ∧ x = c)) :
    3 + (if y ≤ 0 then 0 else 1) + sp_cf x ≤ sp_F w bo r c y x ∨ (∃ x1 k, x1 < w ∧ sp_ct w x1 x k ∧ sp_F w bo r c y x1 + k ≤ sp_F w bo r c y x) ∨ (∃ y1 k, y1 < h ∧ sp_rt h bo y1 y k ∧ sp_F w bo r c y1 x + k ≤ sp_F w bo r c y x) := by
  by_cases q : sp_ad w y x ≤ sp_vc bo r y + sp_ac w c x
  · have e : sp_F w bo r c y x = sp_ad w y x := if_pos q
    by_cases q2 : sp_cf x ≤ sp_ac w 0 x
    · left
      have e2 : sp_W w x = sp_cf x := if_pos q2
      rw [e, sp_ad_W, e2]
      exact Nat.le_refl _
    · right; left
      have e2 : sp_W w x = sp_ac w 0 x := if_neg q2
      have hx0 : x ≠ 0 := by
        intro z
        subst z
        exact q2 (Nat.zero_le _)
      obtain ⟨x1, k, hx1, ht, he⟩ := sp_PA (c := 0) w12 (by omega) hx hx0
      refine ⟨x1, k, hx1, ht, ?_⟩
      have h1 : sp_F w bo r c y x1 ≤ sp_ad w y x1 := sp_mn_l _ _
      have h2 : sp_W w x1 ≤ sp_ac w 0 x1 := sp_mn_r _ _
      rw [sp_ad_W] at h1
      rw [e, sp_ad_W, e2]
      omega
  · right
    have e : sp_F w bo r c y x = sp_vc bo r y + sp_ac w c x := if_neg q
    by_cases q2 : x = c
    · right
      subst q2
      obtain ⟨y1, k, hy1, ht, he⟩ := sp_PV h8 hb hr hy (fun z => hne ⟨z, rfl⟩)
      refine ⟨y1, k, hy1, ht, ?_⟩
      have h1 : sp_F w bo r x y1 x ≤ sp_vc bo r y1 + sp_ac w x x := sp_mn_r _ _
      rw [e]
      omega
    · left
      obtain ⟨x1, k, hx1, ht, he⟩ := sp_PA w12 hc hx q2
      refine ⟨x1, k, hx1, ht, ?_⟩
      have h1 : sp_F w bo r c y x1 ≤ sp_vc bo r y + sp_ac w c x1 := sp_mn_r _ _
      rw [e]
      omega
/-! the pieces, in the order in which they are tried -/
def sp_ps (h w y x : Nat) : Nat → List (Nat × Nat)
  | 0 => []
  | j + 1 => (12 * (y - sp_nn (12 - j)) + x, 3 + sp_di (12 - j)) :: (12 * sp_mn (y + sp_nn (12 - j)) (h - 1) + x, 3 + sp_di (12 - j)) :: (12 * y + sp_mn (x + sp_nn (12 - j)) (w - 1), 3 + sp_di (12 - j)) :: (12 * y + (x - sp_nn (12 - j)), 3 + sp_di (12 - j)) :: sp_ps h w y x j
def sp_pl (h w bo y x : Nat) : List (Nat × Nat) := (12 * y + (x - 1), 1) :: (12 * y + sp_nt w x, 1) :: (12 * y + 0, 1) :: (if y = bo then sp_ps h w y x 13 else (12 * sp_mn (y + 1) (h - 1) + x, 1) :: sp_ps h w y x 13)
theorem sp_ps_m {h w y x p k : Nat} : ∀ j, j ≤ 13 → ((p, k) ∈ sp_ps h w y x j ↔ ∃ m, 13 - j ≤ m ∧ m < 13 ∧ k = 3 + sp_di m ∧ (p = 12 * (y - sp_nn m) + x ∨ p = 12 * sp_mn (y + sp_nn m) (h - 1) + x ∨ p = 12 * y + sp_mn (x + sp_nn m) (w - 1) ∨ p = 12 * y + (x - sp_nn m))) := by
  intro j
  induction j with
  | zero =>
    intro _
    constructor
    · intro z; exact absurd z (List.not_mem_nil)
    · rintro ⟨m, h1, h2, _⟩; omega
  | succ j ih =>
    intro hj
    unfold sp_ps
    simp only [List.mem_cons, Prod.mk.injEq]
    rw [ih (by omega)]
    constructor
    · rintro (⟨h1, h2⟩ | ⟨h1, h2⟩ | ⟨h1, h2⟩ | ⟨h1, h2⟩ | ⟨m, h1, h2, h3, h4⟩)
      · exact ⟨12 - j, by omega, by omega, h2, Or.inl h1⟩
      · exact ⟨12 - j, by omega, by omega, h2, Or.inr (Or.inl h1)⟩
      · exact ⟨12 - j, by omega, by omega, h2, Or.inr (Or.inr (Or.inl h1))⟩
      · exact ⟨12 - j, by omega, by omega, h2, Or.inr (Or.inr (Or.inr h1))⟩
      · exact ⟨m, by omega, h2, h3, h4⟩
    · rintro ⟨m, h1, h2, h3, h4⟩
      by_cases q : m = 12 - j
      · subst q
        rcases h4 with h4 | h4 | h4 | h4
        · exact Or.inl ⟨h4, h3⟩
        · exact Or.inr (Or.inl ⟨h4, h3⟩)
        · exact Or.inr (Or.inr (Or.inl ⟨h4, h3⟩))
        · exact Or.inr (Or.inr (Or.inr (Or.inl ⟨h4, h3⟩)))
      · exact Or.inr (Or.inr (Or.inr (Or.inr ⟨m, by omega, h2, h3, h4⟩)))
theorem sp_pl_1 {h w bo y x p k : Nat} (hm : (p, k) ∈ sp_pl h w bo y x) : (∃ x2, sp_ct w x x2 k ∧ p = 12 * y + x2) ∨ (∃ y2, sp_rt h bo y y2 k ∧ p = 12 * y2 + x) := by
  have hs : (p, k) ∈ sp_ps h w y x 13 → (∃ x2, sp_ct w x x2 k ∧ p = 12 * y + x2) ∨ (∃ y2, sp_rt h bo y y2 k ∧ p = 12 * y2 + x) := by
    intro z
    obtain ⟨m, _, h2, h3, h4⟩ := (sp_ps_m 13 (Nat.le_refl _)).mp z
    rcases h4 with h4 | h4 | h4 | h4
    · exact Or.inr ⟨_, Or.inr ⟨m, h2, h3, Or.inr rfl⟩, h4⟩
    · exact Or.inr ⟨_, Or.inr ⟨m, h2, h3, Or.inl rfl⟩, h4⟩
    · exact Or.inl ⟨_, Or.inr ⟨m, h2, h3, Or.inl rfl⟩, h4⟩
    · exact Or.inl ⟨_, Or.inr ⟨m, h2, h3, Or.inr rfl⟩, h4⟩
  unfold sp_pl at hm
  rcases List.mem_cons.mp hm with e | hm
  · obtain ⟨rfl, rfl⟩ := Prod.mk.inj e
    exact Or.inl ⟨_, Or.inl ⟨rfl, Or.inl rfl⟩, rfl⟩
  rcases List.mem_cons.mp hm with e | hm
  · obtain ⟨rfl, rfl⟩ := Prod.mk.inj e
    exact Or.inl ⟨_, Or.inl ⟨rfl, Or.inr (Or.inl rfl)⟩, rfl⟩
  rcases List.mem_cons.mp hm with e | hm
  · obtain ⟨rfl, rfl⟩ := Prod.mk.inj e
    exact Or.inl ⟨_, Or.inl ⟨rfl, Or.inr (Or.inr rfl)⟩, rfl⟩
  by_cases q : y = bo
  · rw [if_pos q] at hm
    exact hs hm
  · rw [if_neg q] at hm
    rcases List.mem_cons.mp hm with e | hm
    · obtain ⟨rfl, rfl⟩ := Prod.mk.inj e
      exact Or.inr ⟨_, Or.inl ⟨rfl, q, rfl⟩, rfl⟩
    · exact hs hm
theorem sp_pl_s {h w bo y x p k : Nat} (hm : (p, k) ∈ sp_ps h w y x 13) : (p, k) ∈ sp_pl h w bo y x := by
  unfold sp_pl
  refine List.mem_cons_of_mem _ (List.mem_cons_of_mem _ (List.mem_cons_of_mem _ ?_))
  by_cases q : y = bo
  · rw [if_pos q]; exact hm
  · rw [if_neg q]; exact List.mem_cons_of_mem _ hm
theorem sp_pl_c {h w bo y x x2 k : Nat} (t : sp_ct w x x2 k) : (12 * y + x2, k) ∈ sp_pl h w bo y x := by
  rcases t with ⟨rfl, (rfl | rfl | rfl)⟩ | ⟨m, hm, rfl, ht⟩
  · exact List.mem_cons_self
  · exact List.mem_cons_of_mem _ List.mem_cons_self
  · exact List.mem_cons_of_mem _ (List.mem_cons_of_mem _ List.mem_cons_self)
  · refine sp_pl_s ((sp_ps_m 13 (Nat.le_refl _)).mpr ⟨m, by omega, hm, rfl, ?_⟩)
    rcases ht with rfl | rfl
    · exact Or.inr (Or.inr (Or.inl rfl))
    · exact Or.inr (Or.inr (Or.inr rfl))
theorem sp_pl_r {h w bo y x y2 k : Nat} (t : sp_rt h bo y y2 k) : (12 * y2 + x, k) ∈ sp_pl h w bo y x := by
  rcases t with ⟨rfl, hne, rfl⟩ | ⟨m, hm, rfl, ht⟩
  · unfold sp_pl
    rw [if_neg hne]
    exact List.mem_cons_of_mem _ (List.mem_cons_of_mem _ (List.mem_cons_of_mem _ List.mem_cons_self))
  · refine sp_pl_s ((sp_ps_m 13 (Nat.le_refl _)).mpr ⟨m, by omega, hm, rfl, ?_⟩)
    rcases ht with rfl | rfl
    · exact Or.inr (Or.inl rfl)
    · exact Or.inl rfl
/-- a piece leads to a place of the screen, and the price there is at most the price here and the piece's -/
theorem sp_pl_F {h w bo r c pd y x p k : Nat} (h8 : h ≤ 8) (w12 : w ≤ 12) (hb : bo < h) (hr : r < h) (hc : c < w) (hpd : pd < 2) (hy : y < h) (hx : x < w) (hm : (p, k) ∈ sp_pl h w bo y x) :
    ∃ y2 x2, y2 < h ∧ x2 < w ∧ p = 12 * y2 + x2 ∧ 0 < k ∧ sp_Fp w bo r c pd y2 x2 ≤ sp_F w bo r c y x + k := by
  rcases sp_pl_1 hm with ⟨x2, t, e⟩ | ⟨y2, t, e⟩
  · obtain ⟨h1, h2⟩ := sp_ct_in hx t
    exact ⟨y, x2, hy, h1, e, h2, sp_Fp_le hpd (by omega) (sp_F_col w12 hc hx t)⟩
  · obtain ⟨h1, h2⟩ := sp_rt_in hy t
    exact ⟨y2, x, h1, hx, e, h2, sp_Fp_le hpd (by omega) (sp_F_row h8 hb hr hy t)⟩
/-! reaching -/
def sp_rc (d : Nat → Nat) (p b : Nat) : Nat → Nat := fun j => if j = p then sp_mn (d p) b else d j
def sp_fd (b : Nat) : List (Nat × Nat) → (Nat → Nat) → (Nat → Nat)
  | [], d => d
  | e :: l, d => sp_fd b l (sp_rc d e.1 (b + e.2))
theorem sp_rc_le (d : Nat → Nat) (p b j : Nat) : sp_rc d p b j ≤ d j := by
  unfold sp_rc
  by_cases q : j = p
  · rw [if_pos q, q]; exact sp_mn_l _ _
  · rw [if_neg q]; exact Nat.le_refl _
theorem sp_rc_p (d : Nat → Nat) (p b : Nat) : sp_rc d p b p ≤ b := by
  unfold sp_rc
  rw [if_pos rfl]; exact sp_mn_r _ _
theorem sp_rc_or (d : Nat → Nat) (p b j : Nat) : sp_rc d p b j = d j ∨ (j = p ∧ sp_rc d p b j = b) := by
  unfold sp_rc
  by_cases q : j = p
  · rw [if_pos q]
    unfold sp_mn
    by_cases q2 : d p ≤ b
    · rw [if_pos q2, q]; exact Or.inl rfl
    · rw [if_neg q2]; exact Or.inr ⟨q, rfl⟩
  · rw [if_neg q]; exact Or.inl rfl
theorem sp_fd_le (b : Nat) : ∀ (l : List (Nat × Nat)) (d : Nat → Nat) j, sp_fd b l d j ≤ d j := by
  intro l
  induction l with
  | nil => intro d j; exact Nat.le_refl _
  | cons e l ih => intro d j; exact Nat.le_trans (ih _ j) (sp_rc_le d e.1 (b + e.2) j)
theorem sp_fd_m (b : Nat) : ∀ (l : List (Nat × Nat)) (d : Nat → Nat) p k, (p, k) ∈ l → sp_fd b l d p ≤ b + k := by
  intro l
  induction l with
  | nil => intro d p k hm; exact absurd hm List.not_mem_nil
  | cons e l ih =>
    intro d p k hm
    rcases List.mem_cons.mp hm with z | z
    · subst z
      exact Nat.le_trans (sp_fd_le b l _ p) (sp_rc_p d p (b + k))
    · exact ih _ p k z
theorem sp_fd_or (b : Nat) : ∀ (l : List (Nat × Nat)) (d : Nat → Nat) p, sp_fd b l d p = d p ∨ ∃ k, (p, k) ∈ l ∧ sp_fd b l d p = b + k := by
  intro l
  induction l with
  | nil => intro d p; exact Or.inl rfl
  | cons e l ih =>
    intro d p
    rcases ih (sp_rc d e.1 (b + e.2)) p with z | ⟨k, h1, h2⟩
    · rcases sp_rc_or d e.1 (b + e.2) p with y | ⟨y1, y2⟩
      · exact Or.inl (by show sp_fd b l (sp_rc d e.1 (b + e.2)) p = d p; rw [z, y])
      · refine Or.inr ⟨e.2, ?_, by show sp_fd b l (sp_rc d e.1 (b + e.2)) p = b + e.2; rw [z, y2]⟩
        rw [y1]
        exact List.mem_cons_self
    · exact Or.inr ⟨k, List.mem_cons_of_mem _ h1, h2⟩
theorem sp_fd_app (b : Nat) : ∀ (l1 l2 : List (Nat × Nat)) (d : Nat → Nat), sp_fd b (l1 ++ l2) d = sp_fd b l2 (sp_fd b l1 d) := by
  intro l1
  induction l1 with
  | nil => intro l2 d; rfl
  | cons e l1 ih => intro l2 d; exact ih l2 _
/-! the invariant: round b, the places before i are done -/
def sp_I0 (h w bo r c pd : Nat) (d : Nat → Nat) : Prop := (∀ y x, y < h → x < w → sp_Fp w bo r c pd y x ≤ d (12 * y + x)) ∧ (∀ p, p < 97 → d p ≤ 99) ∧ (∀ p, p < 96 → ¬ (p / 12 < h ∧ p % 12 < w) → d p = 99) ∧ d 96 = (if pd = 1 then 0 else 99) ∧ (pd = 0 → d (12 * r + c) = 0)
def sp_I5 (h w : Nat) (d : Nat → Nat) : Prop := ∀ y x, y < h → x < w → d (12 * y + x) ≤ 3 + (if y ≤ 0 then 0 else 1) + sp_cf x
def sp_I7 (h w bo r c pd b i : Nat) (d : Nat → Nat) : Prop := (∀ y x, y < h → x < w → (sp_Fp w bo r c pd y x < b ∨ (sp_Fp w bo r c pd y x = b ∧ 12 * y + x < i)) → ∀ p k, (p, k) ∈ sp_pl h w bo y x → d p ≤ sp_Fp w bo r c pd y x + k) ∧ (pd = 1 → (0 < b ∨ 96 < i) → ∀ p k, (p, k) ∈ sp_pl h w bo r c → d p ≤ k)
def sp_Iv (h w bo r c pd b i : Nat) (d : Nat → Nat) : Prop := sp_I0 h w bo r c pd d ∧ sp_I5 h w d ∧ sp_I7 h w bo r c pd b i d
/-- what is nearer than b, or as near, is known -/
theorem sp_cmp {h w bo r c pd b i : Nat} {d : Nat → Nat} (h8 : h ≤ 8) (w12 : w ≤ 12) (hb : bo < h) (hr : r < h) (hc : c < w) (hpd : pd < 2) (hpw : pd = 1 → c + 1 = w) (I : sp_Iv h w bo r c pd b i d) {y x : Nat} (hy : y < h) (hx : x < w) (hF : sp_Fp w bo r c pd y x ≤ b) : d (12 * y + x) = sp_Fp w bo r c pd y x := by
  obtain ⟨⟨i1, i2, i3, i4, i6⟩, i5, i7, i8⟩ := I
  have lo := i1 y x hy hx
  have hi : d (12 * y + x) ≤ sp_Fp w bo r c pd y x := by
    by_cases q : y = r ∧ x = c
    · obtain ⟨rfl, rfl⟩ := q
      have e : sp_Fp w bo y x pd y x = pd := if_pos ⟨rfl, rfl⟩
      rw [e] at hF ⊢
      by_cases q2 : pd = 0
      · rw [i6 q2, q2]; exact Nat.le_refl _
      · have q3 : pd = 1 := by omega
        have hnt : sp_nt w x = x := by
          have := hpw q3
          unfold sp_nt
          rw [if_pos (by omega)]
          omega
        have hm : (12 * y + x, 1) ∈ sp_pl h w bo y x := sp_pl_c (Or.inl ⟨rfl, Or.inr (Or.inl hnt.symm)⟩)
        rw [q3]
        exact i8 q3 (Or.inl (by omega)) _ _ hm
    · have e : sp_Fp w bo r c pd y x = sp_F w bo r c y x := if_neg q
      rw [e] at hF ⊢
      have key : ∀ y1 x1 k, y1 < h → x1 < w → 0 < k → (12 * y + x, k) ∈ sp_pl h w bo y1 x1 → sp_F w bo r c y1 x1 + k ≤ sp_F w bo r c y x → d (12 * y + x) ≤ sp_F w bo r c y x := by
        intro y1 x1 k hy1 hx1 hk hm hle
        by_cases z : y1 = r ∧ x1 = c
        · obtain ⟨rfl, rfl⟩ := z
          rw [sp_F_st] at hle
          by_cases q2 : pd = 1
          · have := i8 q2 (Or.inl (by omega)) _ _ hm
            omega
          · have e0 : sp_Fp w bo y1 x1 pd y1 x1 = pd := if_pos ⟨rfl, rfl⟩
            have := i7 y1 x1 hy1 hx1 (Or.inl (by omega)) _ _ hm
            omega
        · have e1 : sp_Fp w bo r c pd y1 x1 = sp_F w bo r c y1 x1 := if_neg z
          have := i7 y1 x1 hy1 hx1 (Or.inl (by omega)) _ _ hm
          omega
      rcases sp_pred h8 w12 hb hr hc hy hx q with z | ⟨x1, k, hx1, t, z⟩ | ⟨y1, k, hy1, t, z⟩
      · exact Nat.le_trans (i5 y x hy hx) z
      · exact key y x1 k hy hx1 (sp_ct_in hx1 t).2 (sp_pl_c t) z
      · exact key y1 x k hy1 hx (sp_rt_in hy1 t).2 (sp_pl_r t) z
  omega
/-- reaching by the pieces of a place keeps the bounds -/
theorem sp_I0_fd {h w bo r c pd b y x : Nat} {d : Nat → Nat} (h8 : h ≤ 8) (w12 : w ≤ 12) (hb : bo < h) (hr : r < h) (hc : c < w) (hpd : pd < 2) (hy : y < h) (hx : x < w) (hF : sp_F w bo r c y x ≤ b) (I : sp_I0 h w bo r c pd d) : sp_I0 h w bo r c pd (sp_fd b (sp_pl h w bo y x) d) := by
  obtain ⟨i1, i2, i3, i4, i6⟩ := I
  have le := sp_fd_le b (sp_pl h w bo y x) d
  have keep : ∀ p, (∀ y2 x2, y2 < h → x2 < w → p ≠ 12 * y2 + x2) → sp_fd b (sp_pl h w bo y x) d p = d p := by
    intro p hp
    rcases sp_fd_or b (sp_pl h w bo y x) d p with z | ⟨k, h1, _⟩
    · exact z
    · obtain ⟨y2, x2, a1, a2, a3, _, _⟩ := sp_pl_F (pd := pd) h8 w12 hb hr hc hpd hy hx h1
      exact absurd a3 (hp y2 x2 a1 a2)
  refine ⟨?_, fun p hp => Nat.le_trans (le p) (i2 p hp), ?_, ?_, ?_⟩
  · intro y1 x1 hy1 hx1
    rcases sp_fd_or b (sp_pl h w bo y x) d (12 * y1 + x1) with z | ⟨k, h1, h2⟩
    · rw [z]; exact i1 y1 x1 hy1 hx1
    · obtain ⟨y2, x2, a1, a2, a3, _, a5⟩ := sp_pl_F (pd := pd) h8 w12 hb hr hc hpd hy hx h1
      have e1 : y1 = y2 := by omega
      have e2 : x1 = x2 := by omega
      subst e1 e2
      rw [h2]
      omega
  · intro p hp hv
    rw [keep p (fun y2 x2 a1 a2 a3 => hv (by omega))]
    exact i3 p hp hv
  · rw [keep 96 (fun y2 x2 a1 a2 a3 => by omega)]
    exact i4
  · intro q
    have := le (12 * r + c)
    rw [i6 q] at this
    omega
theorem sp_I5_le {h w : Nat} {d e : Nat → Nat} (le : ∀ j, e j ≤ d j) (I : sp_I5 h w d) : sp_I5 h w e := fun y x hy hx => Nat.le_trans (le _) (I y x hy hx)
/-- a place that the round takes -/
theorem sp_Iv_t {h w bo r c pd b i : Nat} {d : Nat → Nat} (h8 : h ≤ 8) (w12 : w ≤ 12) (hb : bo < h) (hr : r < h) (hc : c < w) (hpd : pd < 2) (hi : i < 97) (hb8 : b < 8) (he : d i = b) (I : sp_Iv h w bo r c pd b i d) : sp_Iv h w bo r c pd b (i + 1) (sp_fd b (sp_pl h w bo (if i = 96 then r else i / 12) (if i = 96 then c else i % 12)) d) := by
  obtain ⟨I0, I5, i7, i8⟩ := I
  have I0' := I0
  obtain ⟨i1, i2, i3, i4, i6⟩ := I0'
  by_cases q : i = 96
  · rw [if_pos q, if_pos q]
    subst q
    have hp1 : pd = 1 ∧ b = 0 := by
      rw [i4] at he
      by_cases z : pd = 1
      · rw [if_pos z] at he; exact ⟨z, he.symm⟩
      · rw [if_neg z] at he; omega
    obtain ⟨hp1, hb0⟩ := hp1
    have le := sp_fd_le b (sp_pl h w bo r c) d
    refine ⟨sp_I0_fd h8 w12 hb hr hc hpd hr hc (by rw [sp_F_st]; omega) I0, sp_I5_le le I5, ?_, ?_⟩
    · intro y x hy hx hz p k hm
      have hxx : 12 * y + x < 96 := by omega
      exact Nat.le_trans (le p) (i7 y x hy hx (by omega) p k hm)
    · intro _ _ p k hm
      have := sp_fd_m b (sp_pl h w bo r c) d p k hm
      omega
  · rw [if_neg q, if_neg q]
    have hv : i / 12 < h ∧ i % 12 < w := by
      by_cases z : i / 12 < h ∧ i % 12 < w
      · exact z
      · have := i3 i (by omega) z
        omega
    have e1 : 12 * (i / 12) + i % 12 = i := by omega
    have lo := i1 (i / 12) (i % 12) hv.1 hv.2
    rw [e1, he] at lo
    have le := sp_fd_le b (sp_pl h w bo (i / 12) (i % 12)) d
    refine ⟨sp_I0_fd h8 w12 hb hr hc hpd hv.1 hv.2 (Nat.le_trans sp_Fp_ge lo) I0, sp_I5_le le I5, ?_, ?_⟩
    · intro y x hy hx hz p k hm
      by_cases z : sp_Fp w bo r c pd y x < b ∨ (sp_Fp w bo r c pd y x = b ∧ 12 * y + x < i)
      · exact Nat.le_trans (le p) (i7 y x hy hx z p k hm)
      · have e2 : sp_Fp w bo r c pd y x = b := by omega
        have e3 : y = i / 12 := by omega
        have e4 : x = i % 12 := by omega
        rw [e3, e4] at hm
        rw [e2]
        exact sp_fd_m b _ d p k hm
    · intro a1 a2 p k hm
      exact Nat.le_trans (le p) (i8 a1 (by omega) p k hm)
/-- a place that the round leaves -/
theorem sp_Iv_n {h w bo r c pd b i : Nat} {d : Nat → Nat} (h8 : h ≤ 8) (w12 : w ≤ 12) (hb : bo < h) (hr : r < h) (hc : c < w) (hpd : pd < 2) (hpw : pd = 1 → c + 1 = w) (hi : i < 97) (he : d i ≠ b) (I : sp_Iv h w bo r c pd b i d) : sp_Iv h w bo r c pd b (i + 1) d := by
  have I' := I
  obtain ⟨I0, I5, i7, i8⟩ := I'
  refine ⟨I0, I5, ?_, ?_⟩
  · intro y x hy hx hz p k hm
    by_cases z : sp_Fp w bo r c pd y x < b ∨ (sp_Fp w bo r c pd y x = b ∧ 12 * y + x < i)
    · exact i7 y x hy hx z p k hm
    · have e2 : sp_Fp w bo r c pd y x = b := by omega
      have e3 : 12 * y + x = i := by omega
      have := sp_cmp h8 w12 hb hr hc hpd hpw I hy hx (by omega)
      rw [e3, e2] at this
      exact absurd this he
  · intro a1 a2 p k hm
    by_cases z : 0 < b ∨ 96 < i
    · exact i8 a1 z p k hm
    · have hi96 : i = 96 := by omega
      have hb0 : b = 0 := by omega
      obtain ⟨_, _, _, i4, _⟩ := I0
      rw [if_pos a1] at i4
      rw [hi96, i4, hb0] at he
      exact absurd rfl he
theorem sp_Iv_s {h w bo r c pd b : Nat} {d : Nat → Nat} (h8 : h ≤ 8) (w12 : w ≤ 12) (I : sp_Iv h w bo r c pd b 97 d) : sp_Iv h w bo r c pd (b + 1) 0 d := by
  obtain ⟨I0, I5, i7, i8⟩ := I
  refine ⟨I0, I5, ?_, ?_⟩
  · intro y x hy hx hz p k hm
    exact i7 y x hy hx (by omega) p k hm
  · intro a1 a2 p k hm
    exact i8 a1 (by omega) p k hm
end
section
/-! the reference's search: its walk -/
def sp_D (d : Nat → Nat) : Nat → Int32 := fun i => nI (d i)
theorem ar_czs {a n m : Nat} (ha : a ≤ m) (hm : m < 1000) (hn : n < 1000) : sp_cz (nI a - nI n).toInt m = a - n := by
  rw [pk_sub_toInt (by omega) (by omega)]
  unfold sp_cz
  by_cases q : a < n
  · rw [if_pos (by omega)]; omega
  · rw [if_neg (by omega), if_pos (by omega)]; omega
theorem ar_czp {a n m : Nat} (ha : a < 1000) (hn : n < 1000) : sp_cz (nI a + nI n).toInt m = sp_mn (a + n) m := by
  rw [nI_add, nI_toInt (by omega), sp_cz_n]
  rfl
theorem sp_di_le (k : Nat) : sp_di k ≤ 2 := by
  unfold sp_di
  repeat' split
  all_goals omega
theorem sp_nn_le {k : Nat} (hk : k < 13) : sp_nn k < 13 := by
  unfold sp_nn
  split <;> omega
theorem sp_hd_rc {d : Nat → Nat} {p b : Nat} (hd : ∀ q, q < 97 → d q ≤ 99) : ∀ q, q < 97 → sp_rc d p b q ≤ 99 := fun q hq => Nat.le_trans (sp_rc_le d p b q) (hd q hq)
section
variable {post : SY → Prop} {h w pc st r c pen tp bo pd ins gr gc gp gpd : Nat} {C G B D P : Nat → Int32}
theorem ym_digits {po : Int32 → Prop} {k : Nat} (hk : k < 1000) (hp : po (nI (sp_di k))) : wpY_digits po (sp_Y h w pc st r c pen tp bo pd ins gr gc gp gpd C G B D P) (nI k) := by
  unfold sp_di at hp
  refine pk_eq k 0 (fun q => ?_) (fun q => pk_le 10 k (fun q2 => ?_) (fun q2 => ?_))
  · rw [if_pos q] at hp; exact hp
  · rw [if_neg q, if_pos q2] at hp; exact hp
  · rw [if_neg q, if_neg (by omega)] at hp; exact hp
theorem ym_reach {u v x : Int32} {b y' x' : Nat} {d : Nat → Nat} (e : x = nI b) (hh : 0 < h) (h8 : h ≤ 8) (hw : 0 < w) (w12 : w ≤ 12) (ey : sp_cz u.toInt (h - 1) = y') (ex : sp_cz v.toInt (w - 1) = x') (hd : ∀ q, q < 97 → d q ≤ 99) (hb : b < 1000) (hp : post (sp_Y h w pc st r c pen tp bo pd ins gr gc gp gpd C G B (sp_D (sp_rc d (12 * y' + x') b)) P)) : wpY_reach post (sp_Y h w pc st r c pen tp bo pd ins gr gc gp gpd C G B (sp_D d) P) u v x := by
  subst e
  have z1 := sp_cz_le u.toInt (h - 1)
  have z2 := sp_cz_le v.toInt (w - 1)
  rw [ey] at z1
  rw [ex] at z2
  have z3 := hd (12 * y' + x') (by omega)
  unfold wpY_reach
  refine ym_clamp ?_
  refine ym_clamp ?_
  rw [sp_cl0 (m := h - 1) (by omega) (ar_dec hh), sp_cl0 (m := w - 1) (by omega) (ar_dec hw), ey, ex]
  have e1 : (12 : Int32) * nI y' + nI x' = nI (12 * y' + x') := ar_12 y' x'
  have e2 : ((12 : Int32) * nI y' + nI x').toNatClampNeg = 12 * y' + x' := by rw [e1, nI_clamp (by omega)]
  refine And.intro (pk_in (12 * y' + x') 97 (by omega) e1) (pk_le (d (12 * y' + x')) b (fun q => ?_) (fun q => And.intro (pk_in (12 * y' + x') 97 (by omega) e1) (nm_r (e' := sp_D (sp_rc d (12 * y' + x') b)) ?_ hp)) (by rw [e2]; rfl))
  · have e3 : sp_rc d (12 * y' + x') b = d := by
      funext j
      rcases sp_rc_or d (12 * y' + x') b j with z | ⟨z1, _⟩
      · exact z
      · subst z1
        unfold sp_rc sp_mn
        rw [if_pos rfl, if_pos q]
    rw [e3] at hp
    exact hp
  · rw [e2]
    funext j
    unfold sp_D sp_rc sp_mn upd
    by_cases z : j = 12 * y' + x'
    · rw [if_pos z, if_pos z, if_neg (by omega)]
    · rw [if_neg z, if_neg z]
theorem yl_pc75 {J : Int32 → Int32 → Int32 → Int32 → Int32 → Int32 → Int32 → Int32 → Int32 → Int32 → Int32 → Int32 → Int32 → Int32 → Int32 → Int32 → (Nat → Int32) → (Nat → Int32) → (Nat → Int32) → (Nat → Int32) → (Nat → Int32) → Prop} {y x b k : Nat} {d : Nat → Nat} (h8 : h ≤ 8) (w12 : w ≤ 12) (hy : y < h) (hx : x < w) (hb : b < 100) (hk : k < 13) (hd : ∀ q, q < 97 → d q ≤ 99)
    (H : J (nI (k + 1)) (nI h) (nI w) (nI pc) (nI st) (nI r) (nI c) (nI pen) (nI tp) (nI bo) (nI pd) (nI ins) (nI gr) (nI gc) (nI gp) (nI gpd) C G B (sp_D (sp_rc (sp_rc (sp_rc (sp_rc d (12 * (y - sp_nn k) + x) (b + (3 + sp_di k))) (12 * sp_mn (y + sp_nn k) (h - 1) + x) (b + (3 + sp_di k))) (12 * y + sp_mn (x + sp_nn k) (w - 1)) (b + (3 + sp_di k))) (12 * y + (x - sp_nn k)) (b + (3 + sp_di k)))) P) :
    wY_pieces_75 post J (nI y) (nI x) (nI b) (nI k) (nI (sp_nn k)) (nI h) (nI w) (nI pc) (nI st) (nI r) (nI c) (nI pen) (nI tp) (nI bo) (nI pd) (nI ins) (nI gr) (nI gc) (nI gp) (nI gpd) C G B (sp_D d) P := by
  have hdi := sp_di_le k
  have hnn := sp_nn_le hk
  unfold wY_pieces_75
  refine ym_digits (by omega) ?_
  refine nm_r (e' := nI (b + (3 + sp_di k))) (by rw [show (3 : Int32) = nI 3 from rfl, nI_add, nI_add, Nat.add_assoc]) ?_
  have c1 := ar_czs (a := y) (n := sp_nn k) (m := h - 1) (by omega) (by omega) (by omega)
  have c2 := ar_czp (a := y) (n := sp_nn k) (m := h - 1) (by omega) (by omega)
  have c3 := ar_czp (a := x) (n := sp_nn k) (m := w - 1) (by omega) (by omega)
  have c4 := ar_czs (a := x) (n := sp_nn k) (m := w - 1) (by omega) (by omega) (by omega)
  have c5 := sp_czr hy h8
  have c6 := sp_czc hx w12
  refine ym_reach rfl (by omega) h8 (by omega) w12 c1 c6 hd (by omega) ?_
  refine ym_reach rfl (by omega) h8 (by omega) w12 c2 c6 (sp_hd_rc hd) (by omega) ?_
  refine ym_reach rfl (by omega) h8 (by omega) w12 c5 c3 (sp_hd_rc (sp_hd_rc hd)) (by omega) ?_
  refine ym_reach rfl (by omega) h8 (by omega) w12 c5 c4 (sp_hd_rc (sp_hd_rc (sp_hd_rc hd))) (by omega) ?_
  exact nm_r (nI_1 k) H
theorem yl_pc57 {y x b : Nat} (h8 : h ≤ 8) (w12 : w ≤ 12) (hy : y < h) (hx : x < w) (hb : b < 100) : ∀ j k n (d : Nat → Nat), k + j = 13 → j < n → (∀ q, q < 97 → d q ≤ 99) → post (sp_Y h w pc st r c pen tp bo pd ins gr gc gp gpd C G B (sp_D (sp_fd b (sp_ps h w y x j) d)) P) → wY_pieces_57 post (nI y) (nI x) (nI b) n (nI k) (nI h) (nI w) (nI pc) (nI st) (nI r) (nI c) (nI pen) (nI tp) (nI bo) (nI pd) (nI ins) (nI gr) (nI gc) (nI gp) (nI gpd) C G B (sp_D d) P := by
  intro j
  induction j with
  | zero =>
    intro k n d e hn hd hp
    obtain ⟨n, rfl⟩ : ∃ m, n = m + 1 := ⟨n - 1, by omega⟩
    exact pk_lt 12 k (fun _ => hp) (fun z => absurd z (by omega))
  | succ j ih =>
    intro k n d e hn hd hp
    obtain ⟨n, rfl⟩ : ∃ m, n = m + 1 := ⟨n - 1, by omega⟩
    have hk : 12 - j = k := by omega
    unfold sp_ps at hp
    rw [hk] at hp
    have K : wY_pieces_75 post (wY_pieces_57 post (nI y) (nI x) (nI b) n) (nI y) (nI x) (nI b) (nI k) (nI (sp_nn k)) (nI h) (nI w) (nI pc) (nI st) (nI r) (nI c) (nI pen) (nI tp) (nI bo) (nI pd) (nI ins) (nI gr) (nI gc) (nI gp) (nI gpd) C G B (sp_D d) P :=
      yl_pc75 h8 w12 hy hx hb (by omega) hd (ih (k + 1) n _ (by omega) (by omega) (sp_hd_rc (sp_hd_rc (sp_hd_rc (sp_hd_rc hd)))) hp)
    unfold sp_nn at K
    refine pk_lt 12 k (fun z => absurd z (by omega)) (fun _ => pk_eq k 0 (fun z => ?_) (fun z => ?_))
    · rw [if_pos z] at K; exact K
    · rw [if_neg z] at K; exact K
theorem ym_pieces {y x b : Nat} {d : Nat → Nat} (h8 : h ≤ 8) (w12 : w ≤ 12) (hy : y < h) (hx : x < w) (hbo : bo < h) (hb : b < 90) (hd : ∀ q, q < 97 → d q ≤ 99) (hp : post (sp_Y h w pc st r c pen tp bo pd ins gr gc gp gpd C G B (sp_D (sp_fd b (sp_pl h w bo y x) d)) P)) : wpY_pieces post (sp_Y h w pc st r c pen tp bo pd ins gr gc gp gpd C G B (sp_D d) P) (nI y) (nI x) (nI b) := by
  have c1 : sp_cz (nI x - 1).toInt (w - 1) = x - 1 := ar_czs (n := 1) (by omega) (by omega) (by omega)
  have c2 : sp_cz ((4 : Int32) * ((nI x / 4) + 1)).toInt (w - 1) = sp_nt w x := by
    rw [ar_tab (by omega), nI_toInt (by omega), sp_cz_n]
    unfold sp_nt
    by_cases q : w - 1 ≤ 4 * (x / 4 + 1)
    · rw [if_pos q]
      by_cases q2 : 4 * (x / 4 + 1) ≤ w - 1
      · rw [if_pos q2]; omega
      · rw [if_neg q2]
    · rw [if_neg q, if_pos (by omega)]
  have c3 : sp_cz (0 : Int32).toInt (w - 1) = 0 := sp_cz0 _
  have c4 : sp_cz (nI y + 1).toInt (h - 1) = sp_mn (y + 1) (h - 1) := ar_czp (n := 1) (by omega) (by omega)
  have c5 := sp_czr hy h8
  have c6 := sp_czc hx w12
  have e1 : nI b + 1 = nI (b + 1) := nI_1 b
  unfold sp_pl at hp
  unfold wpY_pieces
  refine ym_reach e1 (by omega) h8 (by omega) w12 c5 c1 hd (by omega) ?_
  refine And.intro (by decide) ?_
  refine ym_reach e1 (by omega) h8 (by omega) w12 c5 c2 (sp_hd_rc hd) (by omega) ?_
  refine ym_reach e1 (by omega) h8 (by omega) w12 c5 c3 (sp_hd_rc (sp_hd_rc hd)) (by omega) ?_
  refine pk_eq y bo (fun q => ?_) (fun q => ?_)
  · rw [if_pos q] at hp
    exact ⟨14, yl_pc57 h8 w12 hy hx (by omega) 13 0 14 _ (by omega) (by omega) (sp_hd_rc (sp_hd_rc (sp_hd_rc hd))) hp⟩
  · rw [if_neg q] at hp
    refine ym_reach e1 (by omega) h8 (by omega) w12 c4 c6 (sp_hd_rc (sp_hd_rc (sp_hd_rc hd))) (by omega) ?_
    exact ⟨14, yl_pc57 h8 w12 hy hx (by omega) 13 0 14 _ (by omega) (by omega) (sp_hd_rc (sp_hd_rc (sp_hd_rc (sp_hd_rc hd)))) hp⟩
variable {pq : Int32 → SY → Prop}
theorem yl_mo159 {J : Int32 → Int32 → Int32 → Int32 → Int32 → Int32 → Int32 → Int32 → Int32 → Int32 → Int32 → Int32 → Int32 → Int32 → Int32 → Int32 → (Nat → Int32) → (Nat → Int32) → (Nat → Int32) → (Nat → Int32) → (Nat → Int32) → Prop} {x1 x2 : Int32} {b : Nat} (h8 : h ≤ 8) (w12 : w ≤ 12) (hbo : bo < h) (hr : r < h) (hc : c < w) (hpd : pd < 2) (hpw : pd = 1 → c + 1 = w) (hb8 : b < 8)
    (H : ∀ d, sp_Iv h w bo r c pd (b + 1) 0 d → J (nI (b + 1)) (nI h) (nI w) (nI pc) (nI st) (nI r) (nI c) (nI pen) (nI tp) (nI bo) (nI pd) (nI ins) (nI gr) (nI gc) (nI gp) (nI gpd) C G B (sp_D d) P) :
    ∀ j i n (d : Nat → Nat), i + j = 97 → j < n → sp_Iv h w bo r c pd b i d → wY_motion_159 pq J x1 x2 (nI b) n (nI i) (nI h) (nI w) (nI pc) (nI st) (nI r) (nI c) (nI pen) (nI tp) (nI bo) (nI pd) (nI ins) (nI gr) (nI gc) (nI gp) (nI gpd) C G B (sp_D d) P := by
  intro j
  induction j with
  | zero =>
    intro i n d e hn I
    obtain ⟨n, rfl⟩ : ∃ m, n = m + 1 := ⟨n - 1, by omega⟩
    have e2 : i = 97 := by omega
    subst e2
    exact br_t (by decide) (nm_r (nI_1 b) (H d (sp_Iv_s h8 w12 I)))
  | succ j ih =>
    intro i n d e hn I
    obtain ⟨n, rfl⟩ : ∃ m, n = m + 1 := ⟨n - 1, by omega⟩
    have hd : ∀ q, q < 97 → d q ≤ 99 := I.1.2.1
    have hdi := hd i (by omega)
    have e3 : sp_D d (nI i).toNatClampNeg = nI (d i) := by rw [nI_clamp (by omega)]; rfl
    refine pk_le 97 i (fun z => absurd z (by omega)) (fun _ => And.intro (pk_in i 97 (by omega)) (pk_eq (d i) b (fun q => ?_) (fun q => ?_) e3))
    · have K := ih (i + 1) n _ (by omega) (by omega) (sp_Iv_t h8 w12 hbo hr hc hpd (by omega) hb8 q I)
      by_cases z : i = 96
      · rw [if_pos z, if_pos z] at K
        subst z
        refine br_t (by decide) ?_
        unfold wY_motion_197
        refine br_t (by decide) ?_
        unfold wY_motion_216
        exact ym_pieces h8 w12 hr hc hbo (by omega) hd (nm_r (nI_1 96) K)
      · rw [if_neg z, if_neg z] at K
        have hv : i / 12 < h ∧ i % 12 < w := by
          by_cases z2 : i / 12 < h ∧ i % 12 < w
          · exact z2
          · have := I.1.2.2.1 i (by omega) z2
            omega
        have d1 : nI i / 12 = nI (i / 12) := pk_div (d := 12) (by omega) (by omega) (by omega)
        have d2 : nI i - nI i / 12 * 12 = nI (i % 12) := pk_rem (d := 12) (by omega) (by omega) (by omega)
        refine pk_eq i 96 (fun z2 => absurd z2 z) (fun _ => And.intro (by decide) ?_)
        unfold wY_motion_197
        refine pk_eq i 96 (fun z2 => absurd z2 z) (fun _ => And.intro (by decide) ?_)
        rw [d2, d1]
        unfold wY_motion_216
        exact ym_pieces h8 w12 hv.1 hv.2 hbo (by omega) hd (nm_r (nI_1 i) K)
    · exact nm_r (nI_1 i) (ih (i + 1) n d (by omega) (by omega) (sp_Iv_n h8 w12 hbo hr hc hpd hpw (by omega) q I))
theorem yl_mo150 {y x : Nat} (h8 : h ≤ 8) (w12 : w ≤ 12) (hbo : bo < h) (hr : r < h) (hc : c < w) (hpd : pd < 2) (hpw : pd = 1 → c + 1 = w) (hy : y < h) (hx : x < w)
    (H : ∀ d, pq (nI (sp_Fp w bo r c pd y x)) (sp_Y h w pc st r c pen tp bo pd ins gr gc gp gpd C G B (sp_D d) P)) :
    ∀ j b n (d : Nat → Nat), b + j = 8 → j < n → sp_Iv h w bo r c pd b 0 d → wY_motion_150 pq (nI y) (nI x) n (nI b) (nI h) (nI w) (nI pc) (nI st) (nI r) (nI c) (nI pen) (nI tp) (nI bo) (nI pd) (nI ins) (nI gr) (nI gc) (nI gp) (nI gpd) C G B (sp_D d) P := by
  intro j
  induction j with
  | zero =>
    intro b n d e hn I
    obtain ⟨n, rfl⟩ : ∃ m, n = m + 1 := ⟨n - 1, by omega⟩
    have e2 : b = 8 := by omega
    subst e2
    have hF : sp_Fp w bo r c pd y x ≤ 8 := sp_Fp_le hpd (by omega) (Nat.le_trans (sp_F_7 w bo r c y x) (by omega))
    have e3 := sp_cmp h8 w12 hbo hr hc hpd hpw I hy hx hF
    refine br_t (by decide) (And.intro (pk_in (12 * y + x) 97 (by omega) (ar_12 y x)) ?_)
    have e4 : sp_D d ((12 : Int32) * nI y + nI x).toNatClampNeg = nI (sp_Fp w bo r c pd y x) := by
      rw [ar_12, nI_clamp (by omega), ← e3]; rfl
    rw [e4]
    exact H d
  | succ j ih =>
    intro b n d e hn I
    obtain ⟨n, rfl⟩ : ∃ m, n = m + 1 := ⟨n - 1, by omega⟩
    refine pk_le 8 b (fun z => absurd z (by omega)) (fun _ => ⟨98, ?_⟩)
    exact yl_mo159 h8 w12 hbo hr hc hpd hpw (by omega) (fun d' I' => ih (b + 1) n d' (by omega) (by omega) I') 97 0 98 d (by omega) (by omega) I
end
end
section
/-! the reference's search: its beginning -/
def sp_hc (k m : Nat) : Nat := (if m = 0 then 3 else 4) + sp_di k + sp_di m
def sp_h2 (h w k : Nat) : Nat → List (Nat × Nat)
  | 0 => []
  | j + 1 => (12 * sp_mn (sp_nn k - 1) (h - 1) + sp_mn (sp_nn (12 - j) - 1) (w - 1), sp_hc k (12 - j)) :: sp_h2 h w k j
def sp_h1 (h w : Nat) : Nat → List (Nat × Nat)
  | 0 => []
  | j + 1 => sp_h2 h w (12 - j) 13 ++ sp_h1 h w j
theorem sp_h2_m {h w k p e : Nat} : ∀ j, j ≤ 13 → ((p, e) ∈ sp_h2 h w k j ↔ ∃ m, 13 - j ≤ m ∧ m < 13 ∧ p = 12 * sp_mn (sp_nn k - 1) (h - 1) + sp_mn (sp_nn m - 1) (w - 1) ∧ e = sp_hc k m) := by
  intro j
  induction j with
  | zero =>
    intro _
    constructor
    · intro z; exact absurd z List.not_mem_nil
    · rintro ⟨m, h1, h2, _⟩; omega
  | succ j ih =>
    intro hj
    unfold sp_h2
    simp only [List.mem_cons, Prod.mk.injEq]
    rw [ih (by omega)]
    constructor
    · rintro (⟨h1, h2⟩ | ⟨m, h1, h2, h3, h4⟩)
      · exact ⟨12 - j, by omega, by omega, h1, h2⟩
      · exact ⟨m, by omega, h2, h3, h4⟩
    · rintro ⟨m, h1, h2, h3, h4⟩
      by_cases q : m = 12 - j
      · subst q; exact Or.inl ⟨h3, h4⟩
      · exact Or.inr ⟨m, by omega, h2, h3, h4⟩
theorem sp_h1_m {h w p e : Nat} : ∀ j, j ≤ 13 → ((p, e) ∈ sp_h1 h w j ↔ ∃ k m, 13 - j ≤ k ∧ k < 13 ∧ m < 13 ∧ p = 12 * sp_mn (sp_nn k - 1) (h - 1) + sp_mn (sp_nn m - 1) (w - 1) ∧ e = sp_hc k m) := by
  intro j
  induction j with
  | zero =>
    intro _
    constructor
    · intro z; exact absurd z List.not_mem_nil
    · rintro ⟨k, m, h1, h2, _⟩; omega
  | succ j ih =>
    intro hj
    unfold sp_h1
    rw [List.mem_append, sp_h2_m 13 (Nat.le_refl _), ih (by omega)]
    constructor
    · rintro (⟨m, _, h2, h3, h4⟩ | ⟨k, m, h1, h2, h3, h4, h5⟩)
      · exact ⟨12 - j, m, by omega, by omega, h2, h3, h4⟩
      · exact ⟨k, m, by omega, h2, h3, h4, h5⟩
    · rintro ⟨k, m, h1, h2, h3, h4, h5⟩
      by_cases q : k = 12 - j
      · subst q; exact Or.inl ⟨m, by omega, h3, h4, h5⟩
      · exact Or.inr ⟨k, m, by omega, h2, h3, h4, h5⟩
theorem sp_hA {k y : Nat} (hy : y ≤ sp_nn k - 1) : (if y ≤ 0 then 0 else 1) ≤ sp_di k := by
  unfold sp_nn at hy
  unfold sp_di
  by_cases q : k = 0
  · rw [if_pos q] at hy
    rw [if_pos (by omega)]
    exact Nat.zero_le _
  · rw [if_neg q] at hy ⊢
    split <;> split <;> omega
theorem sp_hB {m x : Nat} (hx : x ≤ sp_nn m - 1) : sp_cf x ≤ (if m = 0 then 0 else 1 + sp_di m) := by
  unfold sp_nn at hx
  unfold sp_di sp_cf
  by_cases q : m = 0
  · rw [if_pos q] at hx
    rw [if_pos (by omega)]
    exact Nat.zero_le _
  · rw [if_neg q] at hx ⊢
    rw [if_neg q]
    split
    · omega
    · split <;> split <;> omega
theorem sp_hc_F {w bo r c pd y x k m : Nat} (hpd : pd < 2) (hy : y ≤ sp_nn k - 1) (hx : x ≤ sp_nn m - 1) : sp_Fp w bo r c pd y x ≤ sp_hc k m := by
  have h1 := sp_hA hy
  have h2 := sp_hB hx
  have h3 : sp_F w bo r c y x ≤ sp_ad w y x := sp_mn_l _ _
  have h4 : sp_W w x ≤ sp_cf x := sp_mn_l _ _
  rw [sp_ad_W] at h3
  have h5 : sp_hc k m = 3 + sp_di k + (if m = 0 then 0 else 1 + sp_di m) := by
    unfold sp_hc
    by_cases q : m = 0
    · rw [if_pos q, if_pos q, q]; rfl
    · rw [if_neg q, if_neg q]; omega
  rw [h5]
  generalize (if m = 0 then 0 else 1 + sp_di m) = a at *
  generalize (if y ≤ 0 then 0 else 1) = a2 at *
  exact sp_Fp_le hpd (by omega) (by omega)
theorem sp_mn_eq {a b : Nat} (h : a ≤ b) : sp_mn a b = a := if_pos h
theorem sp_di_s {k : Nat} (hk : 0 < k) : sp_di k = if 10 ≤ k then 2 else 1 := if_neg (by omega)
theorem sp_hc_e {y x : Nat} (hy : y < 8) : sp_hc (if y = 0 then 0 else y + 1) (if x = 0 then 0 else x + 1) = 3 + (if y ≤ 0 then 0 else 1) + sp_cf x := by
  by_cases q : y = 0
  · rw [if_pos q, if_pos (show y ≤ 0 by omega)]
    by_cases q2 : x = 0
    · rw [if_pos q2, q2]; rfl
    · rw [if_neg q2]
      unfold sp_hc sp_cf
      rw [if_neg (show ¬ x + 1 = 0 by omega), sp_di_s (show 0 < x + 1 by omega), if_neg q2, show sp_di 0 = 0 from rfl]
      split <;> split <;> omega
  · rw [if_neg q, if_neg (show ¬ y ≤ 0 by omega)]
    have e : sp_di (y + 1) = 1 := by rw [sp_di_s (by omega), if_neg (by omega)]
    by_cases q2 : x = 0
    · rw [if_pos q2, q2]
      unfold sp_hc
      rw [e]; rfl
    · rw [if_neg q2]
      unfold sp_hc sp_cf
      rw [if_neg (show ¬ x + 1 = 0 by omega), sp_di_s (show 0 < x + 1 by omega), if_neg q2, e]
      split <;> split <;> omega
/-- the invariant holds where the rounds begin -/
theorem sp_Iv_0 {h w bo r c pd : Nat} {e : Nat → Nat} (hh : 0 < h) (h8 : h ≤ 8) (hw : 0 < w) (w12 : w ≤ 12) (hr : r < h) (hc : c < w) (hpd : pd < 2) (he : ∀ q, q < 97 → e q = 99) : sp_Iv h w bo r c pd 0 0 (sp_fd 0 (sp_h1 h w 13) (fun j => if j = (if pd = 1 then 96 else 12 * r + c) then 0 else e j)) := by
  generalize hd : (fun j => if j = (if pd = 1 then 96 else 12 * r + c) then 0 else e j) = d
  have hdj : ∀ j, d j = if j = (if pd = 1 then 96 else 12 * r + c) then 0 else e j := fun j => by rw [← hd]
  have le := sp_fd_le 0 (sp_h1 h w 13) d
  have tg : ∀ p k, (p, k) ∈ sp_h1 h w 13 → ∃ y2 x2, y2 < h ∧ x2 < w ∧ p = 12 * y2 + x2 ∧ sp_Fp w bo r c pd y2 x2 ≤ k := by
    intro p k hm
    obtain ⟨a, m, _, _, _, h3, h4⟩ := (sp_h1_m 13 (Nat.le_refl _)).mp hm
    have m1 := sp_mn_r (sp_nn a - 1) (h - 1)
    have m2 := sp_mn_r (sp_nn m - 1) (w - 1)
    refine ⟨_, _, by omega, by omega, h3, ?_⟩
    rw [h4]
    exact sp_hc_F hpd (sp_mn_l _ _) (sp_mn_l _ _)
  have keep : ∀ p, (∀ y2 x2, y2 < h → x2 < w → p ≠ 12 * y2 + x2) → sp_fd 0 (sp_h1 h w 13) d p = d p := by
    intro p hp
    rcases sp_fd_or 0 (sp_h1 h w 13) d p with z | ⟨k, h1, _⟩
    · exact z
    · obtain ⟨y2, x2, a1, a2, a3, _⟩ := tg p k h1
      exact absurd a3 (hp y2 x2 a1 a2)
  have d99 : ∀ p, p < 97 → d p ≤ 99 := by
    intro p hp
    rw [hdj p]
    by_cases z : p = (if pd = 1 then 96 else 12 * r + c)
    · rw [if_pos z]; omega
    · rw [if_neg z, he p hp]; exact Nat.le_refl _
  refine ⟨⟨?_, fun p hp => Nat.le_trans (le p) (d99 p hp), ?_, ?_, ?_⟩, ?_, ?_, ?_⟩
  · intro y x hy hx
    rcases sp_fd_or 0 (sp_h1 h w 13) d (12 * y + x) with z | ⟨k, h1, h2⟩
    · rw [z, hdj]
      by_cases q : 12 * y + x = (if pd = 1 then 96 else 12 * r + c)
      · rw [if_pos q]
        by_cases q1 : pd = 1
        · rw [if_pos q1] at q; omega
        · rw [if_neg q1] at q
          have e1 : y = r := by omega
          have e2 : x = c := by omega
          unfold sp_Fp
          rw [if_pos ⟨e1, e2⟩]
          omega
      · rw [if_neg q, he _ (by omega)]
        exact sp_Fp_le hpd (by omega) (Nat.le_trans (sp_F_7 w bo r c y x) (by omega))
    · obtain ⟨y2, x2, a1, a2, a3, a4⟩ := tg _ _ h1
      have e1 : y = y2 := by omega
      have e2 : x = x2 := by omega
      subst e1 e2
      rw [h2]
      omega
  · intro p hp hv
    rw [keep p (fun y2 x2 a1 a2 a3 => hv (by omega)), hdj, if_neg, he p (by omega)]
    intro q
    by_cases q1 : pd = 1
    · rw [if_pos q1] at q; omega
    · rw [if_neg q1] at q
      exact hv (by omega)
  · rw [keep 96 (fun y2 x2 a1 a2 a3 => by omega), hdj]
    by_cases q1 : pd = 1
    · rw [if_pos q1, if_pos rfl, if_pos q1]
    · rw [if_neg q1, if_neg (by omega), if_neg q1, he 96 (by omega)]
  · intro q
    have := le (12 * r + c)
    have e0 : d (12 * r + c) = 0 := by rw [hdj, if_neg (show ¬ pd = 1 by omega), if_pos rfl]
    omega
  · intro y x hy hx
    have hm : (12 * y + x, sp_hc (if y = 0 then 0 else y + 1) (if x = 0 then 0 else x + 1)) ∈ sp_h1 h w 13 := by
      refine (sp_h1_m 13 (Nat.le_refl _)).mpr ⟨if y = 0 then 0 else y + 1, if x = 0 then 0 else x + 1, by omega, by split <;> omega, by split <;> omega, ?_, rfl⟩
      have e1 : sp_nn (if y = 0 then 0 else y + 1) - 1 = y := by
        unfold sp_nn
        by_cases q : y = 0
        · rw [if_pos q, if_pos rfl]; omega
        · rw [if_neg q, if_neg (by omega)]; omega
      have e2 : sp_nn (if x = 0 then 0 else x + 1) - 1 = x := by
        unfold sp_nn
        by_cases q : x = 0
        · rw [if_pos q, if_pos rfl]; omega
        · rw [if_neg q, if_neg (by omega)]; omega
      rw [e1, e2, sp_mn_eq (by omega), sp_mn_eq (by omega)]
    have h1 := sp_fd_m 0 (sp_h1 h w 13) d _ _ hm
    have h2 : sp_hc (if y = 0 then 0 else y + 1) (if x = 0 then 0 else x + 1) = 3 + (if y ≤ 0 then 0 else 1) + sp_cf x := by
      exact sp_hc_e (by omega)
    omega
  · intro y x hy hx hz
    omega
  · intro _ hz
    omega
theorem ar_czd {k m : Nat} (hk : 0 < k) (hk2 : k < 1000) : sp_cz (nI k - 1).toInt m = sp_mn (k - 1) m := by
  rw [ar_dec hk, nI_toInt (by omega), sp_cz_n]
  rfl
theorem ar_nat (x : Int32) : nI x.toBitVec.toNat = x := Int32.toBitVec_inj.mp (by show BitVec.ofNat 32 _ = _; simp)
section
variable {post : SY → Prop} {h w pc st r c pen tp bo pd ins gr gc gp gpd : Nat} {C G B D P : Nat → Int32}
variable {pq : Int32 → SY → Prop}
theorem yl_mo91 {J M : Int32 → Int32 → Int32 → Int32 → Int32 → Int32 → Int32 → Int32 → Int32 → Int32 → Int32 → Int32 → Int32 → Int32 → Int32 → Int32 → (Nat → Int32) → (Nat → Int32) → (Nat → Int32) → (Nat → Int32) → (Nat → Int32) → Prop} {x1 x2 : Int32} {k m : Nat} {d : Nat → Nat} (hh : 0 < h) (h8 : h ≤ 8) (hw : 0 < w) (w12 : w ≤ 12) (hk : k < 13) (hm : m < 13) (hd : ∀ q, q < 97 → d q ≤ 99)
    (H : M (nI (m + 1)) (nI h) (nI w) (nI pc) (nI st) (nI r) (nI c) (nI pen) (nI tp) (nI bo) (nI pd) (nI ins) (nI gr) (nI gc) (nI gp) (nI gpd) C G B (sp_D (sp_rc d (12 * sp_mn (sp_nn k - 1) (h - 1) + sp_mn (sp_nn m - 1) (w - 1)) (0 + sp_hc k m))) P) :
    wY_motion_91 pq J M x1 x2 (nI k) (nI m) (nI (if m = 0 then 3 else 4)) (nI h) (nI w) (nI pc) (nI st) (nI r) (nI c) (nI pen) (nI tp) (nI bo) (nI pd) (nI ins) (nI gr) (nI gc) (nI gp) (nI gpd) C G B (sp_D d) P := by
  have d1 := sp_di_le k
  have d2 := sp_di_le m
  have n1 := sp_nn_le hk
  have n2 := sp_nn_le hm
  have n3 := sp_nn_pos k
  have n4 := sp_nn_pos m
  have h5 : sp_hc k m ≤ 8 := by unfold sp_hc; split <;> omega
  have K : wY_motion_129 pq J M x1 x2 (nI k) (nI m) (nI (0 + sp_hc k m)) (nI (sp_nn m)) (nI (sp_nn k) - 1) (nI h) (nI w) (nI pc) (nI st) (nI r) (nI c) (nI pen) (nI tp) (nI bo) (nI pd) (nI ins) (nI gr) (nI gc) (nI gp) (nI gpd) C G B (sp_D d) P := by
    unfold wY_motion_129
    exact ym_reach rfl hh h8 hw w12 (ar_czd n3 (by omega)) (ar_czd n4 (by omega)) hd (by omega) (nm_r (nI_1 m) H)
  have K2 : wY_motion_116 pq J M x1 x2 (nI k) (nI m) (nI (0 + sp_hc k m)) (nI (sp_nn k)) (nI h) (nI w) (nI pc) (nI st) (nI r) (nI c) (nI pen) (nI tp) (nI bo) (nI pd) (nI ins) (nI gr) (nI gc) (nI gp) (nI gpd) C G B (sp_D d) P := by
    generalize nI (sp_nn k) = z at *
    unfold sp_nn at K
    refine pk_eq m 0 (fun q => ?_) (fun q => ?_)
    · rw [if_pos q] at K; exact K
    · rw [if_neg q] at K; exact K
  unfold wY_motion_91
  refine ym_digits (by omega) ?_
  refine ym_digits (by omega) ?_
  refine nm_r (e' := nI (0 + sp_hc k m)) (by rw [nI_add, nI_add, Nat.zero_add]; rfl) ?_
  unfold sp_nn at K2
  refine pk_eq k 0 (fun q => ?_) (fun q => ?_)
  · rw [if_pos q] at K2; exact K2
  · rw [if_neg q] at K2; exact K2
theorem yl_mo74 {J : Int32 → Int32 → Int32 → Int32 → Int32 → Int32 → Int32 → Int32 → Int32 → Int32 → Int32 → Int32 → Int32 → Int32 → Int32 → Int32 → (Nat → Int32) → (Nat → Int32) → (Nat → Int32) → (Nat → Int32) → (Nat → Int32) → Prop} {x1 x2 : Int32} {k : Nat} (hh : 0 < h) (h8 : h ≤ 8) (hw : 0 < w) (w12 : w ≤ 12) (hk : k < 13) : ∀ j m n (d : Nat → Nat), m + j = 13 → j < n → (∀ q, q < 97 → d q ≤ 99) → J (nI (k + 1)) (nI h) (nI w) (nI pc) (nI st) (nI r) (nI c) (nI pen) (nI tp) (nI bo) (nI pd) (nI ins) (nI gr) (nI gc) (nI gp) (nI gpd) C G B (sp_D (sp_fd 0 (sp_h2 h w k j) d)) P → wY_motion_74 pq J x1 x2 (nI k) n (nI m) (nI h) (nI w) (nI pc) (nI st) (nI r) (nI c) (nI pen) (nI tp) (nI bo) (nI pd) (nI ins) (nI gr) (nI gc) (nI gp) (nI gpd) C G B (sp_D d) P := by
  intro j
  induction j with
  | zero =>
    intro m n d e hn hd hp
    obtain ⟨n, rfl⟩ : ∃ m, n = m + 1 := ⟨n - 1, by omega⟩
    exact pk_lt 12 m (fun _ => nm_r (nI_1 k) hp) (fun z => absurd z (by omega))
  | succ j ih =>
    intro m n d e hn hd hp
    obtain ⟨n, rfl⟩ : ∃ m, n = m + 1 := ⟨n - 1, by omega⟩
    have hm : 12 - j = m := by omega
    unfold sp_h2 at hp
    rw [hm] at hp
    have K := yl_mo91 (pq := pq) (J := J) (M := wY_motion_74 pq J x1 x2 (nI k) n) (x1 := x1) (x2 := x2) hh h8 hw w12 hk (show m < 13 by omega) hd (ih (m + 1) n _ (by omega) (by omega) (sp_hd_rc hd) hp)
    refine pk_lt 12 m (fun z => absurd z (by omega)) (fun _ => pk_eq m 0 (fun q => ?_) (fun q => ?_))
    · rw [if_pos q] at K; exact K
    · rw [if_neg q] at K; exact K
theorem sp_hd_fd {d : Nat → Nat} {b : Nat} {l : List (Nat × Nat)} (hd : ∀ q, q < 97 → d q ≤ 99) : ∀ q, q < 97 → sp_fd b l d q ≤ 99 := fun q hq => Nat.le_trans (sp_fd_le b l d q) (hd q hq)
theorem yl_mo65 {x1 x2 : Int32} (hh : 0 < h) (h8 : h ≤ 8) (hw : 0 < w) (w12 : w ≤ 12) : ∀ j k n (d : Nat → Nat), k + j = 13 → j < n → (∀ q, q < 97 → d q ≤ 99) → (∃ n150, wY_motion_150 pq x1 x2 n150 0 (nI h) (nI w) (nI pc) (nI st) (nI r) (nI c) (nI pen) (nI tp) (nI bo) (nI pd) (nI ins) (nI gr) (nI gc) (nI gp) (nI gpd) C G B (sp_D (sp_fd 0 (sp_h1 h w j) d)) P) → wY_motion_65 pq x1 x2 n (nI k) (nI h) (nI w) (nI pc) (nI st) (nI r) (nI c) (nI pen) (nI tp) (nI bo) (nI pd) (nI ins) (nI gr) (nI gc) (nI gp) (nI gpd) C G B (sp_D d) P := by
  intro j
  induction j with
  | zero =>
    intro k n d e hn hd hp
    obtain ⟨n, rfl⟩ : ∃ m, n = m + 1 := ⟨n - 1, by omega⟩
    exact pk_lt 12 k (fun _ => hp) (fun z => absurd z (by omega))
  | succ j ih =>
    intro k n d e hn hd hp
    obtain ⟨n, rfl⟩ : ∃ m, n = m + 1 := ⟨n - 1, by omega⟩
    have hk : 12 - j = k := by omega
    unfold sp_h1 at hp
    rw [hk, sp_fd_app] at hp
    refine pk_lt 12 k (fun z => absurd z (by omega)) (fun _ => ⟨14, ?_⟩)
    exact yl_mo74 hh h8 hw w12 (by omega) 13 0 14 d (by omega) (by omega) hd (ih (k + 1) n _ (by omega) (by omega) (sp_hd_fd hd) hp)
theorem yl_mo13 {y x : Nat} (hh : 0 < h) (h8 : h ≤ 8) (hw : 0 < w) (w12 : w ≤ 12) (hbo : bo < h) (hr : r < h) (hc : c < w) (hpd : pd < 2) (hpw : pd = 1 → c + 1 = w) (hy : y < h) (hx : x < w)
    (H : ∀ d, pq (nI (sp_Fp w bo r c pd y x)) (sp_Y h w pc st r c pen tp bo pd ins gr gc gp gpd C G B (sp_D d) P)) :
    ∀ j i n (D : Nat → Int32), i + j = 97 → j < n → wY_motion_13 pq (nI y) (nI x) (nI h) (nI w) (nI pc) (nI st) (nI r) (nI c) (nI pen) (nI tp) (nI bo) (nI pd) (nI ins) (nI gr) (nI gc) (nI gp) (nI gpd) n (nI i) C G B (sp_cp i (fun _ => nI 99) D) P := by
  intro j
  induction j with
  | zero =>
    intro i n D e hn
    obtain ⟨n, rfl⟩ : ∃ m, n = m + 1 := ⟨n - 1, by omega⟩
    have e2 : i = 97 := by omega
    subst e2
    obtain ⟨e0, hE, eD⟩ : ∃ e0 : Nat → Nat, (∀ q, q < 97 → e0 q = 99) ∧ ∀ s, upd (sp_cp 97 (fun _ => nI 99) D) s 0 = sp_D (fun j => if j = s then 0 else e0 j) := by
      refine ⟨fun j => if j < 97 then 99 else (D j).toBitVec.toNat, fun q hq => if_pos hq, ?_⟩
      intro s
      funext j
      unfold upd sp_cp sp_D
      dsimp only
      by_cases q : j = s
      · rw [if_pos q, if_pos q]; rfl
      · rw [if_neg q, if_neg q]
        by_cases q2 : j < 97
        · rw [if_pos q2, if_pos q2]
        · rw [if_neg q2, if_neg q2, ar_nat]
    have I := sp_Iv_0 (bo := bo) (e := e0) hh h8 hw w12 hr hc hpd hE
    have hd : ∀ q, q < 97 → (fun j => if j = (if pd = 1 then 96 else 12 * r + c) then 0 else e0 j) q ≤ 99 := by
      intro q hq
      have := hE q hq
      by_cases z : q = (if pd = 1 then 96 else 12 * r + c)
      · show (if q = (if pd = 1 then 96 else 12 * r + c) then 0 else e0 q) ≤ 99
        rw [if_pos z]; omega
      · show (if q = (if pd = 1 then 96 else 12 * r + c) then 0 else e0 q) ≤ 99
        rw [if_neg z]; omega
    have K := yl_mo65 (pq := pq) (pc := pc) (st := st) (r := r) (c := c) (pen := pen) (tp := tp) (bo := bo) (pd := pd) (ins := ins) (gr := gr) (gc := gc) (gp := gp) (gpd := gpd) (C := C) (G := G) (B := B) (P := P) (x1 := nI y) (x2 := nI x) hh h8 hw w12 13 0 14 _ (by omega) (by omega) hd ⟨9, yl_mo150 h8 w12 hbo hr hc hpd hpw hy hx H 8 0 9 _ (by omega) (by omega) I⟩
    refine br_t (by decide) (pk_eq pd 0 (fun q => ?_) (fun q => ?_))
    · rw [if_neg (show ¬ pd = 1 by omega)] at K
      refine And.intro (pk_in (12 * r + c) 97 (by omega) (ar_12 r c)) (nm_r (e' := sp_D (fun j => if j = 12 * r + c then 0 else e0 j)) ?_ ⟨14, K⟩)
      rw [ar_12, nI_clamp (by omega)]
      exact eD _
    · rw [if_pos (show pd = 1 by omega)] at K
      exact nm_r (eD 96) ⟨14, K⟩
  | succ j ih =>
    intro i n D e hn
    obtain ⟨n, rfl⟩ : ∃ m, n = m + 1 := ⟨n - 1, by omega⟩
    refine pk_le 97 i (fun z => absurd z (by omega)) (fun _ => And.intro (pk_in i 97 (by omega)) (nm_r (e' := sp_cp (i + 1) (fun _ => nI 99) D) ?_ (nm_r (nI_1 i) (ih (i + 1) n D (by omega) (by omega)))))
    rw [nI_clamp (by omega)]
    exact sp_cp_1 (S := fun _ => nI 99)
end
end
section
/-! the other methods -/
section
variable {post : SX → Prop} {h w pc st r c pen pd ins tp bo gr gc gp gpd : Nat} {C G P : Nat → Int32}
theorem xm_in1 {po : Int32 → Prop} {y x : Nat} (h8 : h ≤ 8) (w12 : w ≤ 12) (hy : y < h) (hx : x < w) (hp : po 1) : wpX_inside po (sp_X h w pc st r c pen pd ins tp bo gr gc gp gpd C G P) (nI y) (nI x) :=
  br_f (nI_pos (by omega)) (pk_le h y (fun z => absurd z (by omega)) (fun _ => br_f (nI_pos (by omega)) (pk_le w x (fun z => absurd z (by omega)) (fun _ => hp))))
theorem xm_in0 {po : Int32 → Prop} {u v : Int32} (hn : u < 0 ∨ nI h ≤ u ∨ v < 0 ∨ nI w ≤ v) (hp : po 0) : wpX_inside po (sp_X h w pc st r c pen pd ins tp bo gr gc gp gpd C G P) u v :=
  br_c (fun _ => hp) (fun z1 => br_c (fun _ => hp) (fun z2 => br_c (fun _ => hp) (fun z3 => br_c (fun _ => hp) (fun z4 => absurd hn (fun z => z.elim z1 (fun z => z.elim z2 (fun z => z.elim z3 z4)))))))
theorem xl_ws2 {N : Nat} (hN : h * w = N) (hN6 : N ≤ 96) (hpd : pd < 2) (hp : post (sp_X h w pc st r c pen pd ins tp bo r c pen pd C (sp_cp N C G) P)) : ∀ d i n, i + d = N → d < n → wX_wantScreen_2 post (nI h) (nI w) (nI pc) (nI st) (nI r) (nI c) (nI pen) (nI pd) (nI ins) (nI tp) (nI bo) (nI gr) (nI gc) (nI gp) (nI gpd) n (nI i) C (sp_cp i C G) P := by
  intro d
  induction d with
  | zero =>
    intro i n e hn
    obtain ⟨n, rfl⟩ : ∃ m, n = m + 1 := ⟨n - 1, by omega⟩
    have e2 : i = N := by omega
    subst e2
    refine pk_le i i (fun _ => ?_) (fun z => absurd z (by omega)) (by rw [pk_mul, hN])
    have hpd2 : pd = 0 ∨ pd = 1 := by omega
    rcases hpd2 with rfl | rfl
    · exact And.intro rfl (And.intro rfl hp)
    · exact And.intro rfl (And.intro rfl hp)
  | succ d ih =>
    intro i n e hn
    obtain ⟨n, rfl⟩ : ∃ m, n = m + 1 := ⟨n - 1, by omega⟩
    have K := ih (i + 1) n (by omega) (by omega)
    refine pk_le N i (fun z => absurd z (by omega)) (fun _ => ?_) (by rw [pk_mul, hN])
    exact And.intro (pk_in i 96 (by omega)) (And.intro (pk_in i 96 (by omega)) (nm_r (e' := sp_cp (i + 1) C G) (by rw [nI_clamp (by omega), sp_cp_1]) (nm_r (nI_1 i) K)))
theorem xm_wantScreen (h8 : h ≤ 8) (w12 : w ≤ 12) (hpd : pd < 2) (hp : post (sp_X h w pc st r c pen pd ins tp bo r c pen pd C (sp_cp (h * w) C G) P)) : wpX_wantScreen post (sp_X h w pc st r c pen pd ins tp bo gr gc gp gpd C G P) := by
  have K := xl_ws2 (gr := gr) (gc := gc) (gp := gp) (gpd := gpd) rfl (ar_hw h8 w12) hpd hp (h * w) 0 (h * w + 1) (by omega) (by omega)
  rw [sp_cp_0] at K
  exact ⟨h * w + 1, K⟩
theorem xl_in63 (hp : post (sp_X h w pc st r c pen pd ins tp bo gr gc gp gpd (sp_cp 96 (fun _ => nI 256) C) (sp_cp 96 (fun _ => nI 256) G) P)) : ∀ d i n, i + d = 96 → d < n → wX_init_63 post (nI h) (nI w) (nI pc) (nI st) (nI r) (nI c) (nI pen) (nI pd) (nI ins) (nI tp) (nI bo) (nI gr) (nI gc) (nI gp) (nI gpd) n (nI i) (sp_cp i (fun _ => nI 256) C) (sp_cp i (fun _ => nI 256) G) P := by
  intro d
  induction d with
  | zero =>
    intro i n e hn
    obtain ⟨n, rfl⟩ : ∃ m, n = m + 1 := ⟨n - 1, by omega⟩
    have e2 : i = 96 := by omega
    subst e2
    exact br_t (by decide) hp
  | succ d ih =>
    intro i n e hn
    obtain ⟨n, rfl⟩ : ∃ m, n = m + 1 := ⟨n - 1, by omega⟩
    have K := ih (i + 1) n (by omega) (by omega)
    refine pk_le 96 i (fun z => absurd z (by omega)) (fun _ => ?_)
    exact And.intro (pk_in i 96 (by omega)) (nm_r (e' := sp_cp (i + 1) (fun _ => nI 256) C) (by rw [nI_clamp (by omega)]; exact sp_cp_1 (S := fun _ => nI 256)) (And.intro (pk_in i 96 (by omega)) (nm_r (e' := sp_cp (i + 1) (fun _ => nI 256) G) (by rw [nI_clamp (by omega)]; exact sp_cp_1 (S := fun _ => nI 256)) (nm_r (nI_1 i) K))))
theorem xm_motion {po : Int32 → Prop} {y x : Nat} (h8 : h ≤ 8) (w12 : w ≤ 12) (hr : r < h) (hc : c < w) (hb : bo < h) (hpd : pd < 2) (hy : y < h) (hx : x < w) (hp : po (nI (sp_Fp w bo r c pd y x))) : wpX_motion po (sp_X h w pc st r c pen pd ins tp bo gr gc gp gpd C G P) (nI y) (nI x) := by
  have h1 := sp_vc_le bo r y
  have h2 := sp_ac_le w c x
  have h4 : sp_ad w y x ≤ 20 := by
    have := sp_mn_l (sp_cf x) (sp_ac w 0 x)
    have := sp_cf_le x
    unfold sp_ad
    split <;> omega
  unfold wpX_motion
  refine xm_in1 h8 w12 hy hx (br_f (by decide) ?_)
  have K : ¬ (y = r ∧ x = c) → wX_motion_40 po (nI y) (nI x) (nI h) (nI w) (nI pc) (nI st) (nI r) (nI c) (nI pen) (nI pd) (nI ins) (nI tp) (nI bo) (nI gr) (nI gc) (nI gp) (nI gpd) C G P := by
    intro q
    have e : sp_Fp w bo r c pd y x = sp_F w bo r c y x := if_neg q
    rw [e] at hp
    unfold sp_F sp_mn at hp
    unfold wX_motion_40
    refine xm_relativeCost (by omega) w12 (by omega) (by omega) (by omega) (by omega) (by omega) ?_
    refine xm_addressCost (by omega) w12 (by omega) (by omega) ?_
    refine pk_le (sp_ad w y x) (sp_vc bo r y + sp_ac w c x) (fun z => ?_) (fun z => ?_)
    · rw [if_pos z] at hp; exact hp
    · rw [if_neg (by omega)] at hp; exact hp
  refine pk_eq y r (fun z1 => pk_eq x c (fun z2 => ?_) (fun z2 => K (fun z => z2 z.2))) (fun z1 => K (fun z => z1 z.1))
  have e : sp_Fp w bo r c pd y x = pd := if_pos ⟨z1, z2⟩
  rw [e] at hp
  refine pk_eq pd 0 (fun q => ?_) (fun q => ?_)
  · rw [q] at hp; exact hp
  · rw [show pd = 1 by omega] at hp; exact hp
end
section
variable {post : SY → Prop} {h w pc st r c pen tp bo pd ins gr gc gp gpd : Nat} {C G B D P : Nat → Int32}
theorem ym_in1 {po : Int32 → Prop} {y x : Nat} (h8 : h ≤ 8) (w12 : w ≤ 12) (hy : y < h) (hx : x < w) (hp : po 1) : wpY_inside po (sp_Y h w pc st r c pen tp bo pd ins gr gc gp gpd C G B D P) (nI y) (nI x) :=
  br_f (nI_pos (by omega)) (pk_le h y (fun z => absurd z (by omega)) (fun _ => br_f (nI_pos (by omega)) (pk_le w x (fun z => absurd z (by omega)) (fun _ => hp))))
theorem ym_in0 {po : Int32 → Prop} {u v : Int32} (hn : u < 0 ∨ nI h ≤ u ∨ v < 0 ∨ nI w ≤ v) (hp : po 0) : wpY_inside po (sp_Y h w pc st r c pen tp bo pd ins gr gc gp gpd C G B D P) u v :=
  br_c (fun _ => hp) (fun z1 => br_c (fun _ => hp) (fun z2 => br_c (fun _ => hp) (fun z3 => br_c (fun _ => hp) (fun z4 => absurd hn (fun z => z.elim z1 (fun z => z.elim z2 (fun z => z.elim z3 z4)))))))
theorem yl_ws2 (hpd : pd < 2) (hp : post (sp_Y h w pc st r c pen tp bo pd ins r c pen pd C (sp_cp 96 C G) B D P)) : ∀ d i n, i + d = 96 → d < n → wY_wantScreen_2 post (nI h) (nI w) (nI pc) (nI st) (nI r) (nI c) (nI pen) (nI tp) (nI bo) (nI pd) (nI ins) (nI gr) (nI gc) (nI gp) (nI gpd) n (nI i) C (sp_cp i C G) B D P := by
  intro d
  induction d with
  | zero =>
    intro i n e hn
    obtain ⟨n, rfl⟩ : ∃ m, n = m + 1 := ⟨n - 1, by omega⟩
    have e2 : i = 96 := by omega
    subst e2
    refine br_t (by decide) ?_
    have hpd2 : pd = 0 ∨ pd = 1 := by omega
    rcases hpd2 with rfl | rfl
    · exact And.intro rfl (And.intro rfl hp)
    · exact And.intro rfl (And.intro rfl hp)
  | succ d ih =>
    intro i n e hn
    obtain ⟨n, rfl⟩ : ∃ m, n = m + 1 := ⟨n - 1, by omega⟩
    have K := ih (i + 1) n (by omega) (by omega)
    refine pk_le 96 i (fun z => absurd z (by omega)) (fun _ => ?_)
    exact And.intro (pk_in i 96 (by omega)) (And.intro (pk_in i 96 (by omega)) (nm_r (e' := sp_cp (i + 1) C G) (by rw [nI_clamp (by omega), sp_cp_1]) (nm_r (nI_1 i) K)))
theorem ym_wantScreen (hpd : pd < 2) (hp : post (sp_Y h w pc st r c pen tp bo pd ins r c pen pd C (sp_cp 96 C G) B D P)) : wpY_wantScreen post (sp_Y h w pc st r c pen tp bo pd ins gr gc gp gpd C G B D P) := by
  have K := yl_ws2 (gr := gr) (gc := gc) (gp := gp) (gpd := gpd) (B := B) (D := D) (P := P) hpd hp 96 0 97 (by omega) (by omega)
  rw [sp_cp_0] at K
  exact ⟨97, K⟩
theorem yl_in84 (hp : post (sp_Y h w pc st r c pen tp bo pd ins gr gc gp gpd (sp_cp 96 (fun _ => nI 256) C) (sp_cp 96 (fun _ => nI 256) G) B D P)) : ∀ d i n, i + d = 96 → d < n → wY_init_84 post (nI h) (nI w) (nI pc) (nI st) (nI r) (nI c) (nI pen) (nI tp) (nI bo) (nI pd) (nI ins) (nI gr) (nI gc) (nI gp) (nI gpd) n (nI i) (sp_cp i (fun _ => nI 256) C) (sp_cp i (fun _ => nI 256) G) B D P := by
  intro d
  induction d with
  | zero =>
    intro i n e hn
    obtain ⟨n, rfl⟩ : ∃ m, n = m + 1 := ⟨n - 1, by omega⟩
    have e2 : i = 96 := by omega
    subst e2
    exact br_t (by decide) hp
  | succ d ih =>
    intro i n e hn
    obtain ⟨n, rfl⟩ : ∃ m, n = m + 1 := ⟨n - 1, by omega⟩
    have K := ih (i + 1) n (by omega) (by omega)
    refine pk_le 96 i (fun z => absurd z (by omega)) (fun _ => ?_)
    exact And.intro (pk_in i 96 (by omega)) (nm_r (e' := sp_cp (i + 1) (fun _ => nI 256) C) (by rw [nI_clamp (by omega)]; exact sp_cp_1 (S := fun _ => nI 256)) (And.intro (pk_in i 96 (by omega)) (nm_r (e' := sp_cp (i + 1) (fun _ => nI 256) G) (by rw [nI_clamp (by omega)]; exact sp_cp_1 (S := fun _ => nI 256)) (nm_r (nI_1 i) K))))
variable {pq : Int32 → SY → Prop}
theorem yl_pa7 {x1 : Int32} (hpd : gpd < 2) (hp : pq x1 (sp_Y h w pc 0 gr gc gp tp bo gpd ins gr gc gp gpd (sp_cp 96 G C) G B D P)) : ∀ d i n, i + d = 96 → d < n → wY_patch_7 pq x1 (nI h) (nI w) (nI pc) (nI st) (nI r) (nI c) (nI pen) (nI tp) (nI bo) (nI pd) (nI ins) (nI gr) (nI gc) (nI gp) (nI gpd) n (nI i) (sp_cp i G C) G B D P := by
  intro d
  induction d with
  | zero =>
    intro i n e hn
    obtain ⟨n, rfl⟩ : ∃ m, n = m + 1 := ⟨n - 1, by omega⟩
    have e2 : i = 96 := by omega
    subst e2
    refine br_t (by decide) ?_
    have hpd2 : gpd = 0 ∨ gpd = 1 := by omega
    rcases hpd2 with rfl | rfl
    · exact And.intro rfl (And.intro rfl hp)
    · exact And.intro rfl (And.intro rfl hp)
  | succ d ih =>
    intro i n e hn
    obtain ⟨n, rfl⟩ : ∃ m, n = m + 1 := ⟨n - 1, by omega⟩
    have K := ih (i + 1) n (by omega) (by omega)
    refine pk_le 96 i (fun z => absurd z (by omega)) (fun _ => ?_)
    exact And.intro (pk_in i 96 (by omega)) (And.intro (pk_in i 96 (by omega)) (nm_r (e' := sp_cp (i + 1) G C) (by rw [nI_clamp (by omega), sp_cp_1]) (nm_r (nI_1 i) K)))
/-- the reference's count is the component's -/
theorem yl_df14 {po : Int32 → Prop} {J : Int32 → Int32 → Prop} {K L : Nat → Int32} {i : Nat} (h8 : h ≤ 8) (w12 : w ≤ 12) (hi : i < h) (hk : sp_gr h w K C) (hl : sp_gr h w L G) (H : J (nI (sp_cn K L (i * w + w))) (nI (i + 1))) : ∀ d j n, j + d = w → d < n → wY_differing_14 po J (nI i) (nI h) (nI w) (nI pc) (nI st) (nI r) (nI c) (nI pen) (nI tp) (nI bo) (nI pd) (nI ins) (nI gr) (nI gc) (nI gp) (nI gpd) C G B D P n (nI (sp_cn K L (i * w + j))) (nI j) := by
  intro d
  induction d with
  | zero =>
    intro j n e hn
    obtain ⟨n, rfl⟩ : ∃ m, n = m + 1 := ⟨n - 1, by omega⟩
    have e2 : j = w := by omega
    subst e2
    exact pk_le j j (fun _ => nm_r (nI_1 i) H) (fun z => absurd z (by omega))
  | succ d ih =>
    intro j n e hn
    obtain ⟨n, rfl⟩ : ∃ m, n = m + 1 := ⟨n - 1, by omega⟩
    have M := ih (j + 1) n (by omega) (by omega)
    have e3 : ((12 : Int32) * nI i + nI j).toNatClampNeg = 12 * i + j := by rw [ar_12, nI_clamp (by omega)]
    have e4 : sp_cn K L (i * w + (j + 1)) = sp_cn K L (i * w + j) + (if K (i * w + j) = L (i * w + j) then 0 else 1) := rfl
    have k1 := (hk i j hi (by omega)).1
    have k2 := (hl i j hi (by omega)).1
    refine pk_le w j (fun z => absurd z (by omega)) (fun _ => And.intro (pk_in (12 * i + j) 96 (by omega) (ar_12 i j)) (And.intro (pk_in (12 * i + j) 96 (by omega) (ar_12 i j)) (br_c (fun q => ?_) (fun q => ?_))))
    · rw [e3, ← k1, ← k2] at q
      rw [e4, if_pos q] at M
      exact nm_r (nI_1 j) M
    · rw [e3, ← k1, ← k2] at q
      rw [e4, if_neg q] at M
      exact nm_r (nI_1 _) (nm_r (nI_1 j) M)
theorem yl_df4 {po : Int32 → Prop} {K L : Nat → Int32} (h8 : h ≤ 8) (w12 : w ≤ 12) (hk : sp_gr h w K C) (hl : sp_gr h w L G) (hp : po (nI (sp_cn K L (h * w)))) : ∀ d i n, i + d = h → d < n → wY_differing_4 po (nI h) (nI w) (nI pc) (nI st) (nI r) (nI c) (nI pen) (nI tp) (nI bo) (nI pd) (nI ins) (nI gr) (nI gc) (nI gp) (nI gpd) C G B D P n (nI (sp_cn K L (i * w))) (nI i) := by
  intro d
  induction d with
  | zero =>
    intro i n e hn
    obtain ⟨n, rfl⟩ : ∃ m, n = m + 1 := ⟨n - 1, by omega⟩
    have e2 : i = h := by omega
    subst e2
    exact pk_le i i (fun _ => hp) (fun z => absurd z (by omega))
  | succ d ih =>
    intro i n e hn
    obtain ⟨n, rfl⟩ : ∃ m, n = m + 1 := ⟨n - 1, by omega⟩
    have M := ih (i + 1) n (by omega) (by omega)
    rw [Nat.succ_mul] at M
    exact pk_le h i (fun z => absurd z (by omega)) (fun _ => ⟨w + 1, yl_df14 h8 w12 (by omega) hk hl M w 0 (w + 1) (by omega) (by omega)⟩)
theorem ym_differing {po : Int32 → Prop} {K L : Nat → Int32} (h8 : h ≤ 8) (w12 : w ≤ 12) (hk : sp_gr h w K C) (hl : sp_gr h w L G) (hp : po (nI (sp_cn K L (h * w)))) : wpY_differing po (sp_Y h w pc st r c pen tp bo pd ins gr gc gp gpd C G B D P) := by
  have M := yl_df4 (pc := pc) (st := st) (r := r) (c := c) (pen := pen) (tp := tp) (bo := bo) (pd := pd) (ins := ins) (gr := gr) (gc := gc) (gp := gp) (gpd := gpd) (B := B) (D := D) (P := P) h8 w12 hk hl hp h 0 (h + 1) (by omega) (by omega)
  rw [Nat.zero_mul] at M
  exact ⟨h + 1, M⟩
theorem ym_patch {K L : Nat → Int32} (h8 : h ≤ 8) (w12 : w ≤ 12) (hpd : gpd < 2) (hk : sp_gr h w K C) (hl : sp_gr h w L G) (hp : pq (nI (sp_cn K L (h * w))) (sp_Y h w pc 0 gr gc gp tp bo gpd ins gr gc gp gpd (sp_cp 96 G C) G B D P)) : wpY_patch pq (sp_Y h w pc st r c pen tp bo pd ins gr gc gp gpd C G B D P) := by
  unfold wpY_patch
  refine ym_differing h8 w12 hk hl ⟨97, ?_⟩
  have M := yl_pa7 (st := st) (r := r) (c := c) (pen := pen) (pd := pd) (C := C) (B := B) (D := D) (P := P) hpd hp 96 0 97 (by omega) (by omega)
  rw [sp_cp_0] at M
  exact M
theorem ym_motion {y x : Nat} (hh : 0 < h) (h8 : h ≤ 8) (hw : 0 < w) (w12 : w ≤ 12) (hbo : bo < h) (hr : r < h) (hc : c < w) (hpd : pd < 2) (hpw : pd = 1 → c + 1 = w) (hy : y < h) (hx : x < w) (H : ∀ d, pq (nI (sp_Fp w bo r c pd y x)) (sp_Y h w pc st r c pen tp bo pd ins gr gc gp gpd C G B (sp_D d) P)) : wpY_motion pq (sp_Y h w pc st r c pen tp bo pd ins gr gc gp gpd C G B D P) (nI y) (nI x) := by
  unfold wpY_motion
  refine ym_in1 h8 w12 hy hx (br_f (by decide) ⟨98, ?_⟩)
  have M := yl_mo13 (pc := pc) (st := st) (pen := pen) (tp := tp) (ins := ins) (gr := gr) (gc := gc) (gp := gp) (gpd := gpd) (C := C) (G := G) (B := B) (P := P) hh h8 hw w12 hbo hr hc hpd hpw hy hx H 97 0 98 D (by omega) (by omega)
  rw [sp_cp_0] at M
  exact M
end
end
section
/-! what is owed -/
def i_Rel (k : Nat) (u : SX) (v : SY) : Prop := sp_rl u v
theorem i_up {k : Nat} {u : SX} {v : SY} (h : i_Rel k u v) : i_Rel (k + 5) u v := h
theorem ic_gr {h w : Nat} (hh : h ≤ 8) (hw : w ≤ 12) (C K : Nat → Int32) : sp_gr h w (sp_cp 96 (fun _ => nI 256) C) (sp_cp 96 (fun _ => nI 256) K) := by
  intro i j hi hj
  unfold sp_cp
  rw [if_pos (ar_ix96 hi hj hh hw), if_pos (by omega)]
  exact ⟨rfl, 256, by omega, by omega, rfl⟩
theorem i_vc0 (k0 : Int32) (k1 : Int32) : wpX_init (fun u => wpY_init (fun v => i_Rel 2 u v) k0 k1) k0 k1 := by
  obtain ⟨h, hh1, hh2, eh⟩ := sp_clr (x := k0) 2 8 (by omega) (by omega)
  obtain ⟨w, hw1, hw2, ew⟩ := sp_clr (x := k1) 4 12 (by omega) (by omega)
  have eh2 : sp_cl k0 2 8 = nI h := eh
  have ew2 : sp_cl k1 4 12 = nI w := ew
  have hY : wpY_init (fun v => sp_rl (sp_X h w 0 0 0 0 0 0 0 0 (h - 1) 0 0 0 0 (sp_cp 96 (fun _ => nI 256) (fun _ => 0)) (sp_cp 96 (fun _ => nI 256) (fun _ => 0)) (fun _ => 0)) v) k0 k1 := by
    unfold wpY_init
    refine ym_clamp ?_
    refine ym_clamp ?_
    rw [eh2, ew2]
    refine nm_r (ar_dec (by omega)) ⟨97, ?_⟩
    have K := yl_in84 (post := fun v => sp_rl (sp_X h w 0 0 0 0 0 0 0 0 (h - 1) 0 0 0 0 (sp_cp 96 (fun _ => nI 256) (fun _ => 0)) (sp_cp 96 (fun _ => nI 256) (fun _ => 0)) (fun _ => 0)) v) (h := h) (w := w) (pc := 1) (st := 0) (r := 0) (c := 0) (pen := 0) (tp := 0) (bo := h - 1) (pd := 0) (ins := 0) (gr := 0) (gc := 0) (gp := 0) (gpd := 0) (C := fun _ => 0) (G := fun _ => 0) (B := fun _ => 0) (D := fun _ => 0) (P := fun _ => 0)
      (sp_mk ⟨by unfold sp_bd; omega, ic_gr hh2 hw2 _ _, ic_gr hh2 hw2 _ _, fun z => absurd z (by decide)⟩) 96 0 97 (by omega) (by omega)
    rw [sp_cp_0] at K
    exact K
  unfold wpX_init
  refine xm_limit ?_
  refine xm_limit ?_
  rw [eh2, ew2]
  refine nm_r (ar_dec (by omega)) ⟨97, ?_⟩
  have K := xl_in63 (post := fun u => wpY_init (fun v => i_Rel 2 u v) k0 k1) (h := h) (w := w) (pc := 0) (st := 0) (r := 0) (c := 0) (pen := 0) (pd := 0) (ins := 0) (tp := 0) (bo := h - 1) (gr := 0) (gc := 0) (gp := 0) (gpd := 0) (C := fun _ => 0) (G := fun _ => 0) (P := fun _ => 0) hY 96 0 97 (by omega) (by omega)
  rw [sp_cp_0] at K
  exact K
theorem ic_feed {u : SX} {v : SY} (I : sp_rl u v) (v1 : Int32) : ∃ (r : Int32) (u' : SX) (v' : SY), sp_rl u' v' ∧ (∀ po : Int32 → SX → Prop, po r u' → wpX_feed po u v1) ∧ (∀ pq : Int32 → SY → Prop, pq r v' → wpY_feed pq v v1) := by
  have I' := I
  refine sp_el (T := fun u v => ∃ (r : Int32) (u' : SX) (v' : SY), sp_rl u' v' ∧ (∀ po : Int32 → SX → Prop, po r u' → wpX_feed po u v1) ∧ (∀ pq : Int32 → SY → Prop, pq r v' → wpY_feed pq v v1)) ?_ I
  intro h w pc qc st r c pen pd ins tp bo gr gc gp gpd C G P K L B D Q hR
  by_cases q : v1 < 0
  · exact ⟨0, _, _, sp_mk hR, fun po hp => br_t q hp, fun pq hp => br_t q hp⟩
  · by_cases q2 : v1 ≤ 255
    · obtain ⟨b, hb, rfl⟩ := nI_of2 (n := 255) (by decide) q q2
      obtain ⟨u', v', hr, HX, HY⟩ := sf_all (B := B) (D := D) hR (show b < 256 by omega)
      refine ⟨nI 1, u', v', hr, fun po hp => ?_, fun pq hp => HY pq hp⟩
      obtain ⟨a1, a2, a3, a4, a5, a6, a7, a8, a9, a10, a11, a12, a13, a14, a15, a16, a17, a18⟩ := u'
      exact br_f q (br_t q2 (HX _ hp))
    · exact ⟨0, _, _, sp_mk hR, fun po hp => br_f q (br_f q2 hp), fun pq hp => br_f q (br_f q2 hp)⟩
theorem i_vc_feed {k : Nat} {u : SX} {v : SY} (I : i_Rel k u v) (hk : k + 5 ≤ 2562) (v1 : Int32) : wpX_feed (fun r u' => wpY_feed (fun r' v' => r' = r ∧ i_Rel (k + 5) u' v') v v1) u v1 := by
  obtain ⟨r, u', v', hr, HX, HY⟩ := ic_feed I v1
  exact HX _ (HY _ ⟨rfl, hr⟩)
theorem ic_sh (x : Int32) (n : Nat) (hn : n ≤ 24) : ((x.toUInt32 >>> ((nI n).toUInt32 &&& Int32.toUInt32 31)).toInt32) &&& 255 = (x >>> (nI n &&& 31)) &&& 255 := by
  apply b_ext
  intro i hi
  rw [b_and, b_and, b_255, b_ushr n (by omega), b_sshr n (by omega) x hi]
  by_cases q : i < 8
  · rw [if_pos (by omega)]
  · rw [decide_eq_false q, Bool.and_false, Bool.and_false]
theorem i_vc_feed4 {k : Nat} {u : SX} {v : SY} (I : i_Rel k u v) (hk : k + 5 ≤ 2562) (v1 : Int32) : wpX_feed4 (fun u' => wpY_feed4 (fun v' => i_Rel (k + 5) u' v') v v1) u v1 := by
  have e1 : ((v1.toUInt32 >>> ((24 : Int32).toUInt32 &&& Int32.toUInt32 31)).toInt32) &&& 255 = (v1 >>> ((24 : Int32) &&& 31)) &&& 255 := ic_sh v1 24 (by omega)
  have e2 : ((v1.toUInt32 >>> ((16 : Int32).toUInt32 &&& Int32.toUInt32 31)).toInt32) &&& 255 = (v1 >>> ((16 : Int32) &&& 31)) &&& 255 := ic_sh v1 16 (by omega)
  have e3 : ((v1.toUInt32 >>> ((8 : Int32).toUInt32 &&& Int32.toUInt32 31)).toInt32) &&& 255 = (v1 >>> ((8 : Int32) &&& 31)) &&& 255 := ic_sh v1 8 (by omega)
  obtain ⟨b1, hb1, f1⟩ := pk_andE (v1 >>> ((24 : Int32) &&& 31)) (m := 255) 8 (by decide)
  obtain ⟨b2, hb2, f2⟩ := pk_andE (v1 >>> ((16 : Int32) &&& 31)) (m := 255) 8 (by decide)
  obtain ⟨b3, hb3, f3⟩ := pk_andE (v1 >>> ((8 : Int32) &&& 31)) (m := 255) 8 (by decide)
  obtain ⟨b4, hb4, f4⟩ := pk_andE v1 (m := 255) 8 (by decide)
  obtain ⟨u1, w1, r1, X1, Y1⟩ := sf_rl I (b := b1) (by omega)
  obtain ⟨u2, w2, r2, X2, Y2⟩ := sf_rl r1 (b := b2) (by omega)
  obtain ⟨u3, w3, r3, X3, Y3⟩ := sf_rl r2 (b := b3) (by omega)
  obtain ⟨u4, w4, r4, X4, Y4⟩ := sf_rl r3 (b := b4) (by omega)
  have hX : ∀ po : SX → Prop, po u4 → wpX_feed4 po u v1 := by
    intro po hp
    obtain ⟨z1, z2, z3, z4, z5, z6, z7, z8, z9, z10, z11, z12, z13, z14, z15, z16, z17, z18⟩ := u
    obtain ⟨a1, a2, a3, a4, a5, a6, a7, a8, a9, a10, a11, a12, a13, a14, a15, a16, a17, a18⟩ := u1
    obtain ⟨g1, g2, g3, g4, g5, g6, g7, g8, g9, g10, g11, g12, g13, g14, g15, g16, g17, g18⟩ := u2
    obtain ⟨d1, d2, d3, d4, d5, d6, d7, d8, d9, d10, d11, d12, d13, d14, d15, d16, d17, d18⟩ := u3
    obtain ⟨m1, m2, m3, m4, m5, m6, m7, m8, m9, m10, m11, m12, m13, m14, m15, m16, m17, m18⟩ := u4
    unfold wpX_feed4
    dsimp only
    rw [e1, e2, e3, f1, f2, f3, f4]
    exact X1 _ (X2 _ (X3 _ (X4 _ hp)))
  have hY : ∀ pq : SY → Prop, pq w4 → wpY_feed4 pq v v1 := by
    intro po hp
    obtain ⟨z1, z2, z3, z4, z5, z6, z7, z8, z9, z10, z11, z12, z13, z14, z15, z16, z17, z18, z19, z20⟩ := v
    obtain ⟨a1, a2, a3, a4, a5, a6, a7, a8, a9, a10, a11, a12, a13, a14, a15, a16, a17, a18, a19, a20⟩ := w1
    obtain ⟨g1, g2, g3, g4, g5, g6, g7, g8, g9, g10, g11, g12, g13, g14, g15, g16, g17, g18, g19, g20⟩ := w2
    obtain ⟨d1, d2, d3, d4, d5, d6, d7, d8, d9, d10, d11, d12, d13, d14, d15, d16, d17, d18, d19, d20⟩ := w3
    obtain ⟨m1, m2, m3, m4, m5, m6, m7, m8, m9, m10, m11, m12, m13, m14, m15, m16, m17, m18, m19, m20⟩ := w4
    unfold wpY_feed4
    dsimp only
    rw [f1, f2, f3, f4]
    exact Y1 _ (Y2 _ (Y3 _ (Y4 _ hp)))
  exact hX _ (hY _ r4)
section
variable {h w pc qc st r c pen pd ins tp bo gr gc gp gpd : Nat} {C G P K L B D Q : Nat → Int32}
theorem ic_in (u v : Int32) (h8 : h ≤ 8) (w12 : w ≤ 12) : (u < 0 ∨ nI h ≤ u ∨ v < 0 ∨ nI w ≤ v) ∨ ∃ y x, y < h ∧ x < w ∧ u = nI y ∧ v = nI x := by
  rcases pk_ix u (n := h) (by omega) with z | z | ⟨y, hy, ey⟩
  · exact Or.inl (Or.inl z)
  · exact Or.inl (Or.inr (Or.inl z))
  · rcases pk_ix v (n := w) (by omega) with z | z | ⟨x, hx, ex⟩
    · exact Or.inl (Or.inr (Or.inr (Or.inl z)))
    · exact Or.inl (Or.inr (Or.inr (Or.inr z)))
    · exact Or.inr ⟨y, x, hy, hx, ey, ex⟩
theorem ic_xw {po : Int32 → SX → Prop} {y x m a : Nat} (h8 : h ≤ 8) (w12 : w ≤ 12) (hy : y < h) (hx : x < w) (hm1 : 32 ≤ m) (hm2 : m ≤ 126) (ha : a ≤ 7) (hp : po 1 (sp_X h w pc st r c pen pd ins tp bo gr gc gp gpd C (upd G (y * w + x) (nI (8 * m + a))) P)) : wpX_want po (sp_X h w pc st r c pen pd ins tp bo gr gc gp gpd C G P) (nI y) (nI x) (nI m) (nI a) := by
  have b1 := ar_ix96 hy hx h8 w12
  have e1 : nI y * nI w + nI x = nI (y * w + x) := by rw [pk_mul, nI_add]
  have e2 : (8 : Int32) * nI m + nI a = nI (8 * m + a) := by rw [show (8 : Int32) = nI 8 from rfl, pk_mul, nI_add]
  unfold wpX_want
  refine xm_in1 h8 w12 hy hx (br_f (by decide) (pk_lt m 32 (fun z => absurd z (by omega)) (fun _ => pk_lt 126 m (fun z => absurd z (by omega)) (fun _ => br_f (nI_pos (by omega)) (pk_le a 7 (fun _ => ?_) (fun z => absurd z (by omega)))))))
  exact And.intro (pk_in (y * w + x) 96 b1 e1) (nm_r (e' := upd G (y * w + x) (nI (8 * m + a))) (by rw [e1, e2, nI_clamp (by omega)]) hp)
theorem ic_yw {pq : Int32 → SY → Prop} {y x m a : Nat} (h8 : h ≤ 8) (w12 : w ≤ 12) (hy : y < h) (hx : x < w) (hm1 : 32 ≤ m) (hm2 : m ≤ 126) (ha : a ≤ 7) (hp : pq 1 (sp_Y h w qc st r c pen tp bo pd ins gr gc gp gpd K (upd L (12 * y + x) (nI (8 * m + a))) B D Q)) : wpY_want pq (sp_Y h w qc st r c pen tp bo pd ins gr gc gp gpd K L B D Q) (nI y) (nI x) (nI m) (nI a) := by
  have e2 : (8 : Int32) * nI m + nI a = nI (8 * m + a) := by rw [show (8 : Int32) = nI 8 from rfl, pk_mul, nI_add]
  unfold wpY_want
  refine ym_in1 h8 w12 hy hx (br_f (by decide) (pk_lt m 32 (fun z => absurd z (by omega)) (fun _ => pk_lt 126 m (fun z => absurd z (by omega)) (fun _ => br_f (nI_pos (by omega)) (pk_le a 7 (fun _ => ?_) (fun z => absurd z (by omega)))))))
  exact And.intro (pk_in (12 * y + x) 96 (by omega) (ar_12 y x)) (nm_r (e' := upd L (12 * y + x) (nI (8 * m + a))) (by rw [ar_12, e2, nI_clamp (by omega)]) hp)
theorem ic_want (I : (sp_R h w pc qc st r c pen pd ins tp bo gr gc gp gpd C G P K L Q)) (v1 v2 v3 v4 : Int32) : ∃ (r' : Int32) (u' : SX) (v' : SY), sp_rl u' v' ∧ (∀ po : Int32 → SX → Prop, po r' u' → wpX_want po (sp_X h w pc st r c pen pd ins tp bo gr gc gp gpd C G P) v1 v2 v3 v4) ∧ (∀ pq : Int32 → SY → Prop, pq r' v' → wpY_want pq (sp_Y h w qc st r c pen tp bo pd ins gr gc gp gpd K L B D Q) v1 v2 v3 v4) := by
  have hb := I.1
  unfold sp_bd at hb
  rcases ic_in (h := h) (w := w) v1 v2 (by omega) (by omega) with hn | ⟨y, x, hy, hx, rfl, rfl⟩
  · refine ⟨0, (sp_X h w pc st r c pen pd ins tp bo gr gc gp gpd C G P), (sp_Y h w qc st r c pen tp bo pd ins gr gc gp gpd K L B D Q), sp_mk I, fun po hp => ?_, fun pq hp => ?_⟩
    · unfold wpX_want; exact xm_in0 hn (br_t rfl hp)
    · unfold wpY_want; exact ym_in0 hn (br_t rfl hp)
  · by_cases q1 : v3 < 32
    · refine ⟨0, (sp_X h w pc st r c pen pd ins tp bo gr gc gp gpd C G P), (sp_Y h w qc st r c pen tp bo pd ins gr gc gp gpd K L B D Q), sp_mk I, fun po hp => ?_, fun pq hp => ?_⟩
      · unfold wpX_want; exact xm_in1 (by omega) (by omega) hy hx (br_f (by decide) (br_t q1 hp))
      · unfold wpY_want; exact ym_in1 (by omega) (by omega) hy hx (br_f (by decide) (br_t q1 hp))
    by_cases q2 : 126 < v3
    · refine ⟨0, (sp_X h w pc st r c pen pd ins tp bo gr gc gp gpd C G P), (sp_Y h w qc st r c pen tp bo pd ins gr gc gp gpd K L B D Q), sp_mk I, fun po hp => ?_, fun pq hp => ?_⟩
      · unfold wpX_want; exact xm_in1 (by omega) (by omega) hy hx (br_f (by decide) (br_f q1 (br_t q2 hp)))
      · unfold wpY_want; exact ym_in1 (by omega) (by omega) hy hx (br_f (by decide) (br_f q1 (br_t q2 hp)))
    by_cases q3 : v4 < 0
    · refine ⟨0, (sp_X h w pc st r c pen pd ins tp bo gr gc gp gpd C G P), (sp_Y h w qc st r c pen tp bo pd ins gr gc gp gpd K L B D Q), sp_mk I, fun po hp => ?_, fun pq hp => ?_⟩
      · unfold wpX_want; exact xm_in1 (by omega) (by omega) hy hx (br_f (by decide) (br_f q1 (br_f q2 (br_t q3 hp))))
      · unfold wpY_want; exact ym_in1 (by omega) (by omega) hy hx (br_f (by decide) (br_f q1 (br_f q2 (br_t q3 hp))))
    by_cases q4 : v4 ≤ 7
    · obtain ⟨a, ha, rfl⟩ := nI_of2 (n := 7) (by decide) q3 q4
      have q5 : ¬ v3 < 0 := by
        intro z
        rw [Int32.lt_iff_toInt_lt] at q1 z
        rw [show (0 : Int32).toInt = 0 from by decide] at z
        rw [show (32 : Int32).toInt = 32 from by decide] at q1
        omega
      obtain ⟨m, hm, rfl⟩ := nI_of q5
      have hm1 : 32 ≤ m := by
        rw [show (32 : Int32) = nI 32 from rfl, nI_ltI hm (by omega)] at q1
        omega
      have hm2 : m ≤ 126 := by
        rw [show (126 : Int32) = nI 126 from rfl, nI_ltI (by omega) hm] at q2
        omega
      obtain ⟨_, h1, h2, h3⟩ := I
      refine ⟨1, (sp_X h w pc st r c pen pd ins tp bo gr gc gp gpd C (upd G (y * w + x) (nI (8 * m + a))) P), (sp_Y h w qc st r c pen tp bo pd ins gr gc gp gpd K (upd L (12 * y + x) (nI (8 * m + a))) B D Q), sp_mk ⟨by unfold sp_bd; omega, h1, gr_upd (by omega) hx ⟨8 * m + a, by omega, by omega, rfl⟩ h2, h3⟩, fun po hp => ?_, fun pq hp => ?_⟩
      · exact ic_xw (by omega) (by omega) hy hx hm1 hm2 ha hp
      · exact ic_yw (by omega) (by omega) hy hx hm1 hm2 ha hp
    · refine ⟨0, (sp_X h w pc st r c pen pd ins tp bo gr gc gp gpd C G P), (sp_Y h w qc st r c pen tp bo pd ins gr gc gp gpd K L B D Q), sp_mk I, fun po hp => ?_, fun pq hp => ?_⟩
      · unfold wpX_want; exact xm_in1 (by omega) (by omega) hy hx (br_f (by decide) (br_f q1 (br_f q2 (br_f q3 (br_f q4 hp)))))
      · unfold wpY_want; exact ym_in1 (by omega) (by omega) hy hx (br_f (by decide) (br_f q1 (br_f q2 (br_f q3 (br_f q4 hp)))))
theorem ic_wc (I : (sp_R h w pc qc st r c pen pd ins tp bo gr gc gp gpd C G P K L Q)) (v1 v2 v3 : Int32) : ∃ (r' : Int32) (u' : SX) (v' : SY), sp_rl u' v' ∧ (∀ po : Int32 → SX → Prop, po r' u' → wpX_wantCursor po (sp_X h w pc st r c pen pd ins tp bo gr gc gp gpd C G P) v1 v2 v3) ∧ (∀ pq : Int32 → SY → Prop, pq r' v' → wpY_wantCursor pq (sp_Y h w qc st r c pen tp bo pd ins gr gc gp gpd K L B D Q) v1 v2 v3) := by
  have hb := I.1
  unfold sp_bd at hb
  rcases ic_in (h := h) (w := w) v1 v2 (by omega) (by omega) with hn | ⟨y, x, hy, hx, rfl, rfl⟩
  · refine ⟨0, (sp_X h w pc st r c pen pd ins tp bo gr gc gp gpd C G P), (sp_Y h w qc st r c pen tp bo pd ins gr gc gp gpd K L B D Q), sp_mk I, fun po hp => ?_, fun pq hp => ?_⟩
    · unfold wpX_wantCursor; exact xm_in0 hn (br_t rfl hp)
    · unfold wpY_wantCursor; exact ym_in0 hn (br_t rfl hp)
  · by_cases q3 : v3 < 0
    · refine ⟨0, (sp_X h w pc st r c pen pd ins tp bo gr gc gp gpd C G P), (sp_Y h w qc st r c pen tp bo pd ins gr gc gp gpd K L B D Q), sp_mk I, fun po hp => ?_, fun pq hp => ?_⟩
      · unfold wpX_wantCursor; exact xm_in1 (by omega) (by omega) hy hx (br_f (by decide) (br_t q3 hp))
      · unfold wpY_wantCursor; exact ym_in1 (by omega) (by omega) hy hx (br_f (by decide) (br_t q3 hp))
    by_cases q4 : v3 ≤ 7
    · obtain ⟨a, ha, rfl⟩ := nI_of2 (n := 7) (by decide) q3 q4
      obtain ⟨_, h1, h2, h3⟩ := I
      refine ⟨1, (sp_X h w pc st r c pen pd ins tp bo y x a 0 C G P), (sp_Y h w qc st r c pen tp bo pd ins y x a 0 K L B D Q), sp_mk ⟨by unfold sp_bd; omega, h1, h2, h3⟩, fun po hp => ?_, fun pq hp => ?_⟩
      · unfold wpX_wantCursor; exact xm_in1 (by omega) (by omega) hy hx (br_f (by decide) (br_f q3 (br_t q4 hp)))
      · unfold wpY_wantCursor; exact ym_in1 (by omega) (by omega) hy hx (br_f (by decide) (br_f q3 (br_t q4 hp)))
    · refine ⟨0, (sp_X h w pc st r c pen pd ins tp bo gr gc gp gpd C G P), (sp_Y h w qc st r c pen tp bo pd ins gr gc gp gpd K L B D Q), sp_mk I, fun po hp => ?_, fun pq hp => ?_⟩
      · unfold wpX_wantCursor; exact xm_in1 (by omega) (by omega) hy hx (br_f (by decide) (br_f q3 (br_f q4 hp)))
      · unfold wpY_wantCursor; exact ym_in1 (by omega) (by omega) hy hx (br_f (by decide) (br_f q3 (br_f q4 hp)))
theorem ic_ws (I : (sp_R h w pc qc st r c pen pd ins tp bo gr gc gp gpd C G P K L Q)) : ∃ (u' : SX) (v' : SY), sp_rl u' v' ∧ (∀ po : SX → Prop, po u' → wpX_wantScreen po (sp_X h w pc st r c pen pd ins tp bo gr gc gp gpd C G P)) ∧ (∀ pq : SY → Prop, pq v' → wpY_wantScreen pq (sp_Y h w qc st r c pen tp bo pd ins gr gc gp gpd K L B D Q)) := by
  have hb := I.1
  unfold sp_bd at hb
  obtain ⟨_, h1, h2, h3⟩ := I
  exact ⟨(sp_X h w pc st r c pen pd ins tp bo r c pen pd C (sp_cp (h * w) C G) P), (sp_Y h w qc st r c pen tp bo pd ins r c pen pd K (sp_cp 96 K L) B D Q), sp_mk ⟨by unfold sp_bd; omega, h1, gr_cp (by omega) (by omega) h1, h3⟩, fun po hp => xm_wantScreen (by omega) (by omega) (by omega) hp, fun pq hp => ym_wantScreen (by omega) hp⟩
theorem ic_pa (I : (sp_R h w pc qc st r c pen pd ins tp bo gr gc gp gpd C G P K L Q)) : ∃ (r' : Int32) (u' : SX) (v' : SY), sp_rl u' v' ∧ (∀ po : Int32 → SX → Prop, po r' u' → wpX_patch po (sp_X h w pc st r c pen pd ins tp bo gr gc gp gpd C G P)) ∧ (∀ pq : Int32 → SY → Prop, pq r' v' → wpY_patch pq (sp_Y h w qc st r c pen tp bo pd ins gr gc gp gpd K L B D Q)) := by
  have hb := I.1
  unfold sp_bd at hb
  obtain ⟨_, h1, h2, h3⟩ := I
  have hG : ∀ i, i < h * w → sp_ok (G i) := by
    intro i hi
    have hw0 : 0 < w := by omega
    have d1 : i / w < h := Nat.div_lt_of_lt_mul (by rw [Nat.mul_comm]; exact hi)
    have d2 : i % w < w := Nat.mod_lt _ hw0
    have d3 : i / w * w + i % w = i := by rw [Nat.mul_comm]; exact Nat.div_add_mod i w
    have := (h2 (i / w) (i % w) d1 d2).2
    rw [d3] at this
    exact this
  obtain ⟨pc', P', C', hC, HX⟩ := xp_patch (h := h) (w := w) (pc := pc) (st := st) (r := r) (c := c) (pen := pen) (pd := pd) (ins := ins) (tp := tp) (bo := bo) (gr := gr) (gc := gc) (gp := gp) (gpd := gpd) (C := C) (G := G) (P := P) (by omega) (by omega) (by omega) (by omega) (by omega) hG ⟨by omega, by omega, by omega, by omega, by omega⟩ (by omega) (by omega) (by omega) (by omega) (by omega)
  refine ⟨nI (sp_cn C G (h * w)), (sp_X h w pc' 0 gr gc gp gpd ins tp bo gr gc gp gpd C' G P'), (sp_Y h w qc 0 gr gc gp tp bo gpd ins gr gc gp gpd (sp_cp 96 L K) L B D Q), sp_mk ⟨by unfold sp_bd; omega, ?_, h2, fun z => absurd z (by decide)⟩, fun po hp => HX po hp, fun pq hp => ym_patch (by omega) (by omega) (by omega) h1 h2 hp⟩
  intro i j hi hj
  rw [hC i j hi hj]
  have e : sp_cp 96 L K (12 * i + j) = L (12 * i + j) := if_pos (by omega)
  rw [e]
  exact h2 i j hi hj
theorem ic_df (I : (sp_R h w pc qc st r c pen pd ins tp bo gr gc gp gpd C G P K L Q)) : ∃ (r' : Int32), (∀ po : Int32 → Prop, po r' → wpX_differing po (sp_X h w pc st r c pen pd ins tp bo gr gc gp gpd C G P)) ∧ (∀ po : Int32 → Prop, po r' → wpY_differing po (sp_Y h w qc st r c pen tp bo pd ins gr gc gp gpd K L B D Q)) := by
  have hb := I.1
  unfold sp_bd at hb
  exact ⟨nI (sp_cn C G (h * w)), fun po hp => xm_differing (by omega) (by omega) hp, fun po hp => ym_differing (by omega) (by omega) I.2.1 I.2.2.1 hp⟩
theorem ic_mo (I : (sp_R h w pc qc st r c pen pd ins tp bo gr gc gp gpd C G P K L Q)) (v1 v2 : Int32) : ∃ (r' : Int32), (∀ po : Int32 → Prop, po r' → wpX_motion po (sp_X h w pc st r c pen pd ins tp bo gr gc gp gpd C G P) v1 v2) ∧ (∀ pq : Int32 → SY → Prop, (∀ v', sp_rl (sp_X h w pc st r c pen pd ins tp bo gr gc gp gpd C G P) v' → pq r' v') → wpY_motion pq (sp_Y h w qc st r c pen tp bo pd ins gr gc gp gpd K L B D Q) v1 v2) := by
  have hb := I.1
  unfold sp_bd at hb
  rcases ic_in (h := h) (w := w) v1 v2 (by omega) (by omega) with hn | ⟨y, x, hy, hx, rfl, rfl⟩
  · refine ⟨-1, fun po hp => ?_, fun pq hp => ?_⟩
    · unfold wpX_motion; exact xm_in0 hn (br_t rfl hp)
    · unfold wpY_motion; exact ym_in0 hn (br_t rfl (hp _ (sp_mk I)))
  · refine ⟨nI (sp_Fp w bo r c pd y x), fun po hp => ?_, fun pq hp => ?_⟩
    · exact xm_motion (by omega) (by omega) (by omega) (by omega) (by omega) (by omega) hy hx hp
    · exact ym_motion (by omega) (by omega) (by omega) (by omega) (by omega) (by omega) (by omega) (by omega) (by omega) hy hx (fun d => hp _ (sp_mk I))
theorem ic_ce (I : (sp_R h w pc qc st r c pen pd ins tp bo gr gc gp gpd C G P K L Q)) (v1 v2 : Int32) : ∃ (r' : Int32), (∀ po : Int32 → Prop, po r' → wpX_cell po (sp_X h w pc st r c pen pd ins tp bo gr gc gp gpd C G P) v1 v2) ∧ (∀ po : Int32 → Prop, po r' → wpY_cell po (sp_Y h w qc st r c pen tp bo pd ins gr gc gp gpd K L B D Q) v1 v2) := by
  have hb := I.1
  unfold sp_bd at hb
  rcases ic_in (h := h) (w := w) v1 v2 (by omega) (by omega) with hn | ⟨y, x, hy, hx, rfl, rfl⟩
  · refine ⟨-1, fun po hp => ?_, fun pq hp => ?_⟩
    · unfold wpX_cell; exact xm_in0 hn (br_t rfl hp)
    · unfold wpY_cell; exact ym_in0 hn (br_t rfl hp)
  · have b1 := ar_ix96 (r := y) (c := x) (h := h) (w := w) hy hx (by omega) (by omega)
    have e1 : nI y * nI w + nI x = nI (y * w + x) := by rw [pk_mul, nI_add]
    have e2 := (I.2.1 y x hy hx).1
    refine ⟨C (y * w + x), fun po hp => ?_, fun pq hp => ?_⟩
    · unfold wpX_cell
      refine xm_in1 (by omega) (by omega) hy hx (br_f (by decide) (And.intro (pk_in (y * w + x) 96 b1 e1) ?_))
      rw [e1, nI_clamp (by omega)]
      exact hp
    · unfold wpY_cell
      refine ym_in1 (by omega) (by omega) hy hx (br_f (by decide) (And.intro (pk_in (12 * y + x) 96 (by omega) (ar_12 y x)) ?_))
      rw [ar_12, nI_clamp (by omega), ← e2]
      exact hp
theorem ic_wa (I : (sp_R h w pc qc st r c pen pd ins tp bo gr gc gp gpd C G P K L Q)) (v1 v2 : Int32) : ∃ (r' : Int32), (∀ po : Int32 → Prop, po r' → wpX_wanted po (sp_X h w pc st r c pen pd ins tp bo gr gc gp gpd C G P) v1 v2) ∧ (∀ po : Int32 → Prop, po r' → wpY_wanted po (sp_Y h w qc st r c pen tp bo pd ins gr gc gp gpd K L B D Q) v1 v2) := by
  have hb := I.1
  unfold sp_bd at hb
  rcases ic_in (h := h) (w := w) v1 v2 (by omega) (by omega) with hn | ⟨y, x, hy, hx, rfl, rfl⟩
  · refine ⟨-1, fun po hp => ?_, fun pq hp => ?_⟩
    · unfold wpX_wanted; exact xm_in0 hn (br_t rfl hp)
    · unfold wpY_wanted; exact ym_in0 hn (br_t rfl hp)
  · have b1 := ar_ix96 (r := y) (c := x) (h := h) (w := w) hy hx (by omega) (by omega)
    have e1 : nI y * nI w + nI x = nI (y * w + x) := by rw [pk_mul, nI_add]
    have e2 := (I.2.2.1 y x hy hx).1
    refine ⟨G (y * w + x), fun po hp => ?_, fun pq hp => ?_⟩
    · unfold wpX_wanted
      refine xm_in1 (by omega) (by omega) hy hx (br_f (by decide) (And.intro (pk_in (y * w + x) 96 b1 e1) ?_))
      rw [e1, nI_clamp (by omega)]
      exact hp
    · unfold wpY_wanted
      refine ym_in1 (by omega) (by omega) hy hx (br_f (by decide) (And.intro (pk_in (12 * y + x) 96 (by omega) (ar_12 y x)) ?_))
      rw [ar_12, nI_clamp (by omega), ← e2]
      exact hp
theorem ic_cu : ∃ (r' : Int32), (∀ po : Int32 → Prop, po r' → wpX_cursor po (sp_X h w pc st r c pen pd ins tp bo gr gc gp gpd C G P)) ∧ (∀ po : Int32 → Prop, po r' → wpY_cursor po (sp_Y h w qc st r c pen tp bo pd ins gr gc gp gpd K L B D Q)) := by
  by_cases q : nI pd = 0
  · exact ⟨_, fun po hp => br_t q hp, fun po hp => br_t q hp⟩
  · exact ⟨_, fun po hp => br_f q hp, fun po hp => br_f q hp⟩
theorem ic_wu : ∃ (r' : Int32), (∀ po : Int32 → Prop, po r' → wpX_wantedCursor po (sp_X h w pc st r c pen pd ins tp bo gr gc gp gpd C G P)) ∧ (∀ po : Int32 → Prop, po r' → wpY_wantedCursor po (sp_Y h w qc st r c pen tp bo pd ins gr gc gp gpd K L B D Q)) := by
  by_cases q : nI gpd = 0
  · exact ⟨_, fun po hp => br_t q hp, fun po hp => br_t q hp⟩
  · exact ⟨_, fun po hp => br_f q hp, fun po hp => br_f q hp⟩
theorem ic_su : ∃ (r' : Int32), (∀ po : Int32 → Prop, po r' → wpX_status po (sp_X h w pc st r c pen pd ins tp bo gr gc gp gpd C G P)) ∧ (∀ po : Int32 → Prop, po r' → wpY_status po (sp_Y h w qc st r c pen tp bo pd ins gr gc gp gpd K L B D Q)) := by
  by_cases q : nI ins = 0
  · exact ⟨_, fun po hp => br_t q hp, fun po hp => br_t q hp⟩
  · exact ⟨_, fun po hp => br_f q hp, fun po hp => br_f q hp⟩
theorem ic_pm (I : (sp_R h w pc qc st r c pen pd ins tp bo gr gc gp gpd C G P K L Q)) (v1 : Int32) : ∃ (r' : Int32), (∀ po : Int32 → Prop, po r' → wpX_param po (sp_X h w pc st r c pen pd ins tp bo gr gc gp gpd C G P) v1) ∧ (∀ po : Int32 → Prop, po r' → wpY_param po (sp_Y h w qc st r c pen tp bo pd ins gr gc gp gpd K L B D Q) v1) := by
  have hb := I.1
  unfold sp_bd at hb
  by_cases s : st = 2
  · subst s
    obtain ⟨hqc, hpc0, hpc4, V, hV⟩ := I.2.2.2 rfl
    by_cases q : v1 < 0
    · exact ⟨-1, fun po hp => br_t (by decide) (br_t q hp), fun po hp => br_t (by decide) (br_t q hp)⟩
    · obtain ⟨j, hj, rfl⟩ := nI_of q
      by_cases q2 : j < pc
      · obtain ⟨w1, w2, w3⟩ := hV j q2
        refine ⟨nI (V j), fun po hp => br_t (by decide) (br_f q (pk_lt j pc (fun _ => And.intro (pk_in j 4 (by omega)) ?_) (fun z => absurd z (by omega)))), fun po hp => br_t (by decide) (br_f q (pk_le qc j (fun z => absurd z (by omega)) (fun _ => And.intro (pk_in j 4 (by omega)) ?_)))⟩
        · rw [nI_clamp (by omega), w1]; exact hp
        · rw [nI_clamp (by omega), w2]; exact hp
      · exact ⟨-1, fun po hp => br_t (by decide) (br_f q (pk_lt j pc (fun z => absurd z q2) (fun _ => hp))), fun po hp => br_t (by decide) (br_f q (pk_le qc j (fun _ => hp) (fun z => absurd z (by omega))))⟩
  · have s2 : ¬ nI st = 2 := fun z => s ((nI_eq (b := 2) (by omega) (by omega)).mp z)
    exact ⟨-1, fun po hp => br_f s2 hp, fun po hp => br_f s2 hp⟩
end
theorem i_vc_want {k : Nat} {u : SX} {v : SY} (I : i_Rel k u v) (hk : k + 5 ≤ 2562) (v1 : Int32) (v2 : Int32) (v3 : Int32) (v4 : Int32) : wpX_want (fun r u' => wpY_want (fun r' v' => r' = r ∧ i_Rel (k + 5) u' v') v v1 v2 v3 v4) u v1 v2 v3 v4 := by
  refine sp_el (T := fun u v => wpX_want (fun r u' => wpY_want (fun r' v' => r' = r ∧ i_Rel (k + 5) u' v') v v1 v2 v3 v4) u v1 v2 v3 v4) ?_ I
  intro h w pc qc st r c pen pd ins tp bo gr gc gp gpd C G P K L B D Q hR
  obtain ⟨r', u', v', hr, HX, HY⟩ := ic_want (B := B) (D := D) hR v1 v2 v3 v4
  exact HX _ (HY _ ⟨rfl, hr⟩)
theorem i_vc_wantCursor {k : Nat} {u : SX} {v : SY} (I : i_Rel k u v) (hk : k + 5 ≤ 2562) (v1 : Int32) (v2 : Int32) (v3 : Int32) : wpX_wantCursor (fun r u' => wpY_wantCursor (fun r' v' => r' = r ∧ i_Rel (k + 5) u' v') v v1 v2 v3) u v1 v2 v3 := by
  refine sp_el (T := fun u v => wpX_wantCursor (fun r u' => wpY_wantCursor (fun r' v' => r' = r ∧ i_Rel (k + 5) u' v') v v1 v2 v3) u v1 v2 v3) ?_ I
  intro h w pc qc st r c pen pd ins tp bo gr gc gp gpd C G P K L B D Q hR
  obtain ⟨r', u', v', hr, HX, HY⟩ := ic_wc (B := B) (D := D) hR v1 v2 v3
  exact HX _ (HY _ ⟨rfl, hr⟩)
theorem i_vc_wantScreen {k : Nat} {u : SX} {v : SY} (I : i_Rel k u v) (hk : k + 5 ≤ 2562) : wpX_wantScreen (fun u' => wpY_wantScreen (fun v' => i_Rel (k + 5) u' v') v) u := by
  refine sp_el (T := fun u v => wpX_wantScreen (fun u' => wpY_wantScreen (fun v' => i_Rel (k + 5) u' v') v) u) ?_ I
  intro h w pc qc st r c pen pd ins tp bo gr gc gp gpd C G P K L B D Q hR
  obtain ⟨u', v', hr, HX, HY⟩ := ic_ws (B := B) (D := D) hR
  exact HX _ (HY _ hr)
theorem i_vc_patch {k : Nat} {u : SX} {v : SY} (I : i_Rel k u v) (hk : k + 5 ≤ 2562) : wpX_patch (fun r u' => wpY_patch (fun r' v' => r' = r ∧ i_Rel (k + 5) u' v') v) u := by
  refine sp_el (T := fun u v => wpX_patch (fun r u' => wpY_patch (fun r' v' => r' = r ∧ i_Rel (k + 5) u' v') v) u) ?_ I
  intro h w pc qc st r c pen pd ins tp bo gr gc gp gpd C G P K L B D Q hR
  obtain ⟨r', u', v', hr, HX, HY⟩ := ic_pa (B := B) (D := D) hR
  exact HX _ (HY _ ⟨rfl, hr⟩)
theorem i_vc_differing {k : Nat} {u : SX} {v : SY} (I : i_Rel k u v) (hk : k + 5 ≤ 2562) : wpX_differing (fun r => wpY_differing (fun r' => r' = r ∧ i_Rel (k + 5) u v) v) u := by
  refine sp_el (T := fun u v => wpX_differing (fun r => wpY_differing (fun r' => r' = r ∧ i_Rel (k + 5) u v) v) u) ?_ I
  intro h w pc qc st r c pen pd ins tp bo gr gc gp gpd C G P K L B D Q hR
  obtain ⟨r', HX, HY⟩ := ic_df (B := B) (D := D) hR
  exact HX _ (HY _ ⟨rfl, sp_mk hR⟩)
theorem i_vc_motion {k : Nat} {u : SX} {v : SY} (I : i_Rel k u v) (hk : k + 5 ≤ 2562) (v1 : Int32) (v2 : Int32) : wpX_motion (fun r => wpY_motion (fun r' v' => r' = r ∧ i_Rel (k + 5) u v') v v1 v2) u v1 v2 := by
  refine sp_el (T := fun u v => wpX_motion (fun r => wpY_motion (fun r' v' => r' = r ∧ i_Rel (k + 5) u v') v v1 v2) u v1 v2) ?_ I
  intro h w pc qc st r c pen pd ins tp bo gr gc gp gpd C G P K L B D Q hR
  obtain ⟨r', HX, HY⟩ := ic_mo (B := B) (D := D) hR v1 v2
  exact HX _ (HY _ (fun v' hv => ⟨rfl, hv⟩))
theorem i_vc_cell {k : Nat} {u : SX} {v : SY} (I : i_Rel k u v) (hk : k + 5 ≤ 2562) (v1 : Int32) (v2 : Int32) : wpX_cell (fun r => wpY_cell (fun r' => r' = r ∧ i_Rel (k + 5) u v) v v1 v2) u v1 v2 := by
  refine sp_el (T := fun u v => wpX_cell (fun r => wpY_cell (fun r' => r' = r ∧ i_Rel (k + 5) u v) v v1 v2) u v1 v2) ?_ I
  intro h w pc qc st r c pen pd ins tp bo gr gc gp gpd C G P K L B D Q hR
  obtain ⟨r', HX, HY⟩ := ic_ce (B := B) (D := D) hR v1 v2
  exact HX _ (HY _ ⟨rfl, sp_mk hR⟩)
theorem i_vc_wanted {k : Nat} {u : SX} {v : SY} (I : i_Rel k u v) (hk : k + 5 ≤ 2562) (v1 : Int32) (v2 : Int32) : wpX_wanted (fun r => wpY_wanted (fun r' => r' = r ∧ i_Rel (k + 5) u v) v v1 v2) u v1 v2 := by
  refine sp_el (T := fun u v => wpX_wanted (fun r => wpY_wanted (fun r' => r' = r ∧ i_Rel (k + 5) u v) v v1 v2) u v1 v2) ?_ I
  intro h w pc qc st r c pen pd ins tp bo gr gc gp gpd C G P K L B D Q hR
  obtain ⟨r', HX, HY⟩ := ic_wa (B := B) (D := D) hR v1 v2
  exact HX _ (HY _ ⟨rfl, sp_mk hR⟩)
theorem i_vc_cursor {k : Nat} {u : SX} {v : SY} (I : i_Rel k u v) (hk : k + 5 ≤ 2562) : wpX_cursor (fun r => wpY_cursor (fun r' => r' = r ∧ i_Rel (k + 5) u v) v) u := by
  refine sp_el (T := fun u v => wpX_cursor (fun r => wpY_cursor (fun r' => r' = r ∧ i_Rel (k + 5) u v) v) u) ?_ I
  intro h w pc qc st r c pen pd ins tp bo gr gc gp gpd C G P K L B D Q hR
  obtain ⟨r', HX, HY⟩ := ic_cu (h := h) (w := w) (pc := pc) (qc := qc) (st := st) (r := r) (c := c) (pen := pen) (pd := pd) (ins := ins) (tp := tp) (bo := bo) (gr := gr) (gc := gc) (gp := gp) (gpd := gpd) (C := C) (G := G) (P := P) (K := K) (L := L) (B := B) (D := D) (Q := Q)
  exact HX _ (HY _ ⟨rfl, sp_mk hR⟩)
theorem i_vc_wantedCursor {k : Nat} {u : SX} {v : SY} (I : i_Rel k u v) (hk : k + 5 ≤ 2562) : wpX_wantedCursor (fun r => wpY_wantedCursor (fun r' => r' = r ∧ i_Rel (k + 5) u v) v) u := by
  refine sp_el (T := fun u v => wpX_wantedCursor (fun r => wpY_wantedCursor (fun r' => r' = r ∧ i_Rel (k + 5) u v) v) u) ?_ I
  intro h w pc qc st r c pen pd ins tp bo gr gc gp gpd C G P K L B D Q hR
  obtain ⟨r', HX, HY⟩ := ic_wu (h := h) (w := w) (pc := pc) (qc := qc) (st := st) (r := r) (c := c) (pen := pen) (pd := pd) (ins := ins) (tp := tp) (bo := bo) (gr := gr) (gc := gc) (gp := gp) (gpd := gpd) (C := C) (G := G) (P := P) (K := K) (L := L) (B := B) (D := D) (Q := Q)
  exact HX _ (HY _ ⟨rfl, sp_mk hR⟩)
theorem i_vc_status {k : Nat} {u : SX} {v : SY} (I : i_Rel k u v) (hk : k + 5 ≤ 2562) : wpX_status (fun r => wpY_status (fun r' => r' = r ∧ i_Rel (k + 5) u v) v) u := by
  refine sp_el (T := fun u v => wpX_status (fun r => wpY_status (fun r' => r' = r ∧ i_Rel (k + 5) u v) v) u) ?_ I
  intro h w pc qc st r c pen pd ins tp bo gr gc gp gpd C G P K L B D Q hR
  obtain ⟨r', HX, HY⟩ := ic_su (h := h) (w := w) (pc := pc) (qc := qc) (st := st) (r := r) (c := c) (pen := pen) (pd := pd) (ins := ins) (tp := tp) (bo := bo) (gr := gr) (gc := gc) (gp := gp) (gpd := gpd) (C := C) (G := G) (P := P) (K := K) (L := L) (B := B) (D := D) (Q := Q)
  exact HX _ (HY _ ⟨rfl, sp_mk hR⟩)
theorem i_vc_param {k : Nat} {u : SX} {v : SY} (I : i_Rel k u v) (hk : k + 5 ≤ 2562) (v1 : Int32) : wpX_param (fun r => wpY_param (fun r' => r' = r ∧ i_Rel (k + 5) u v) v v1) u v1 := by
  refine sp_el (T := fun u v => wpX_param (fun r => wpY_param (fun r' => r' = r ∧ i_Rel (k + 5) u v) v v1) u v1) ?_ I
  intro h w pc qc st r c pen pd ins tp bo gr gc gp gpd C G P K L B D Q hR
  obtain ⟨r', HX, HY⟩ := ic_pm (B := B) (D := D) hR v1
  exact HX _ (HY _ ⟨rfl, sp_mk hR⟩)
end
