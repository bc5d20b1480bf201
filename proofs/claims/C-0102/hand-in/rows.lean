section
/-! pure rows to paste: stores, nI and lN arithmetic, masks, shifts, narrowing, branches by naturals (pk_le, pk_lt, pk_eq), loops (lp1 .. lp16: the measure of the state; rp1 ..: recursion), negatives. Take what you need -/
theorem pk_us {f : Nat → Int32} {k : Nat} {x : Int32} : upd f k x k = x := if_pos rfl
theorem pk_un {f : Nat → Int32} {k j : Nat} {x : Int32} (h : j ≠ k) : upd f k x j = f j := if_neg h
theorem pk_uLs {f : Nat → Int64} {k : Nat} {x : Int64} : vp_updL f k x k = x := if_pos rfl
theorem pk_uLn {f : Nat → Int64} {k j : Nat} {x : Int64} (h : j ≠ k) : vp_updL f k x j = f j := if_neg h
theorem pk_sub {a b : Nat} (h : b ≤ a) : nI a - nI b = nI (a - b) := by
  obtain ⟨c, rfl⟩ : ∃ c, a = c + b := ⟨a - b, by omega⟩
  rw [← nI_add, Int32.add_sub_cancel, Nat.add_sub_cancel]
theorem pk_m1 (n : Nat) : nI (n + 1) + (-1) = nI n := by
  rw [← nI_1, Int32.add_assoc, show (1 : Int32) + (-1) = 0 from rfl, Int32.add_zero]
theorem pk_mul (a b : Nat) : nI a * nI b = nI (a * b) := (Int32.ofNat_mul a b).symm
theorem pk_div {a d : Nat} (ha : a < 2 ^ 31) (h0 : 0 < d) (hd : d < 2 ^ 31) : nI a / nI d = nI (a / d) := by
  apply Int32.toInt_inj.mp
  rw [lg_idiv_nonneg (by rw [nI_toInt ha]; omega) (by rw [nI_toInt hd]; omega), nI_toInt ha, nI_toInt hd, nI_toInt (Nat.lt_of_le_of_lt (Nat.div_le_self a d) ha)]
  first | rfl | exact (Int.natCast_ediv _ _).symm
theorem pk_rem {a d : Nat} (ha : a < 2 ^ 31) (h0 : 0 < d) (hd : d < 2 ^ 31) : nI a - nI a / nI d * nI d = nI (a % d) := by
  rw [pk_div ha h0 hd, pk_mul, pk_sub (Nat.div_mul_le_self a d)]
  exact congrArg nI (by have := Nat.div_add_mod' a d; omega)
theorem pk_sub_toInt {a b : Nat} (ha : a < 2 ^ 30) (hb : b < 2 ^ 30) : (nI a - nI b).toInt = (a : Int) - b := by
  rw [Int32.toInt_sub, nI_toInt (by omega), nI_toInt (by omega)]
  exact Int.bmod_eq_of_le (by omega) (by omega)
theorem pk_sneg {a b : Nat} (hb : b < 2 ^ 30) (h : a < b) : nI a - nI b < 0 := by
  rw [Int32.lt_iff_toInt_lt, pk_sub_toInt (by omega) hb, show (0 : Int32).toInt = 0 from by decide]
  omega
theorem pk_ix (x : Int32) {n : Nat} (hn : n < 2 ^ 31) : x < 0 ∨ nI n ≤ x ∨ ∃ j : Nat, j < n ∧ x = nI j := by
  by_cases h : x < 0
  · exact Or.inl h
  · obtain ⟨j, hj, rfl⟩ := nI_of h
    by_cases h2 : j < n
    · exact Or.inr (Or.inr ⟨j, h2, rfl⟩)
    · exact Or.inr (Or.inl (nI_le (by omega) hj))
theorem pk_le {x y : Int32} {A B : Prop} (a b : Nat) (f : a ≤ b → A) (g : b < a → B) (hx : x = nI a := by rfl) (hy : y = nI b := by rfl) (ha : a < 2 ^ 31 := by omega) (hb : b < 2 ^ 31 := by omega) : (x ≤ y → A) ∧ (¬ x ≤ y → B) := by
  subst hx hy
  rw [nI_leI ha hb]
  exact ⟨f, fun z => g (by omega)⟩
theorem pk_lt {x y : Int32} {A B : Prop} (a b : Nat) (f : a < b → A) (g : b ≤ a → B) (hx : x = nI a := by rfl) (hy : y = nI b := by rfl) (ha : a < 2 ^ 31 := by omega) (hb : b < 2 ^ 31 := by omega) : (x < y → A) ∧ (¬ x < y → B) := by
  subst hx hy
  rw [nI_ltI ha hb]
  exact ⟨f, fun z => g (by omega)⟩
theorem pk_eq {x y : Int32} {A B : Prop} (a b : Nat) (f : a = b → A) (g : a ≠ b → B) (hx : x = nI a := by rfl) (hy : y = nI b := by rfl) (ha : a < 2 ^ 31 := by omega) (hb : b < 2 ^ 31 := by omega) : (x = y → A) ∧ (¬ x = y → B) := by
  subst hx hy
  rw [nI_eq ha hb]
  exact ⟨f, g⟩
theorem pk_in {x : Int32} (n N : Nat) (h : n < N) (hx : x = nI n := by rfl) (hN : N < 2 ^ 31 := by omega) : vp_in x N := by
  subst hx
  exact vp_in_nI h hN
theorem pk_cl {x : Int32} (n : Nat) (hx : x = nI n := by rfl) (h : n < 2 ^ 31 := by omega) : x.toNatClampNeg = n := by
  subst hx
  exact nI_clamp h
theorem pk_tn {n : Nat} (h : n < 2 ^ 32) : (nI n).toBitVec.toNat = n := Nat.mod_eq_of_lt h
theorem pk_and (x : Int32) {m : Int32} (k : Nat) (hm : m.toBitVec.toNat = 2 ^ k - 1) : x &&& m = nI (x.toBitVec.toNat % 2 ^ k) := by
  apply Int32.toBitVec_inj.mp
  apply BitVec.eq_of_toNat_eq
  rw [Int32.toBitVec_and, BitVec.toNat_and, hm, Nat.and_two_pow_sub_one_eq_mod]
  show _ = (BitVec.ofNat 32 _).toNat
  rw [BitVec.toNat_ofNat]
  exact (Nat.mod_eq_of_lt (Nat.lt_of_le_of_lt (Nat.mod_le _ _) x.toBitVec.isLt)).symm
theorem pk_andN {n : Nat} (h : n < 2 ^ 32) {m : Int32} (k : Nat) (hm : m.toBitVec.toNat = 2 ^ k - 1) : nI n &&& m = nI (n % 2 ^ k) := by
  rw [pk_and _ k hm, pk_tn h]
theorem pk_andE (x : Int32) {m : Int32} (k : Nat) (hm : m.toBitVec.toNat = 2 ^ k - 1) : ∃ j : Nat, j < 2 ^ k ∧ x &&& m = nI j := ⟨_, Nat.mod_lt _ (Nat.two_pow_pos k), pk_and x k hm⟩
theorem pk_andIn (x : Int32) {m : Int32} (k : Nat) (hm : m.toBitVec.toNat = 2 ^ k - 1) (hk : k ≤ 30) : vp_in (x &&& m) (2 ^ k) := by
  obtain ⟨j, hj, e⟩ := pk_andE x k hm
  rw [e]
  exact vp_in_nI hj (Nat.lt_of_le_of_lt (Nat.pow_le_pow_right (by decide) hk) (by decide))
theorem pk_shl (a s : Int32) (k : Nat) (hs : (s.toBitVec.smod 32).toNat = k) : (a <<< s).toBitVec.toNat = a.toBitVec.toNat * 2 ^ k % 2 ^ 32 := by
  show (a.toBitVec <<< (s.toBitVec.smod 32).toNat).toNat = _
  rw [hs, BitVec.toNat_shiftLeft, Nat.shiftLeft_eq]
theorem pk_shlN {n : Nat} (s : Int32) (k : Nat) (hs : (s.toBitVec.smod 32).toNat = k) (h : n * 2 ^ k < 2 ^ 32) : nI n <<< s = nI (n * 2 ^ k) := by
  apply Int32.toBitVec_inj.mp
  apply BitVec.eq_of_toNat_eq
  have hn : n < 2 ^ 32 := Nat.lt_of_le_of_lt (Nat.le_mul_of_pos_right n (Nat.two_pow_pos k)) h
  rw [pk_shl _ _ k hs, pk_tn hn, pk_tn h, Nat.mod_eq_of_lt h]
theorem pk_shr (a s : Int32) (k : Nat) (hs : (s.toBitVec.smod 32).toNat = k) : (a >>> s).toInt = a.toInt >>> k := by
  show (a.toBitVec.sshiftRight (s.toBitVec.smod 32).toNat).toInt = _
  rw [hs, BitVec.toInt_sshiftRight]
  rfl
theorem pk_shrN {n : Nat} (h : n < 2 ^ 31) (s : Int32) (k : Nat) (hs : (s.toBitVec.smod 32).toNat = k) : nI n >>> s = nI (n / 2 ^ k) := by
  apply Int32.toInt_inj.mp
  have h2 : n / 2 ^ k ≤ n := Nat.div_le_self _ _
  rw [pk_shr _ _ k hs, nI_toInt h, nI_toInt (by omega), Int.shiftRight_eq_div_pow]
  rfl
theorem pk_ushr (x s : Int32) (k : Nat) (hs : ((s.toUInt32 &&& Int32.toUInt32 31).toBitVec % 32).toNat = k) : (x.toUInt32 >>> (s.toUInt32 &&& Int32.toUInt32 31)).toInt32.toBitVec.toNat = x.toBitVec.toNat / 2 ^ k := by
  have e : (x.toUInt32 >>> (s.toUInt32 &&& Int32.toUInt32 31)).toInt32.toBitVec = x.toBitVec >>> k := by
    rw [← hs]
    exact UInt32.toBitVec_shiftRight _ _
  rw [e, BitVec.toNat_ushiftRight, Nat.shiftRight_eq_div_pow]
theorem pk_ushrN {n : Nat} (hn : n < 2 ^ 32) (s : Int32) (k : Nat) (hs : ((s.toUInt32 &&& Int32.toUInt32 31).toBitVec % 32).toNat = k) : ((nI n).toUInt32 >>> (s.toUInt32 &&& Int32.toUInt32 31)).toInt32 = nI (n / 2 ^ k) := by
  apply Int32.toBitVec_inj.mp
  apply BitVec.eq_of_toNat_eq
  rw [pk_ushr _ s k hs, pk_tn hn, pk_tn (Nat.lt_of_le_of_lt (Nat.div_le_self _ _) hn)]
theorem pk_nb (z : Int32) : narrow .byte (.int z.toInt8.toInt32) = .int z.toInt8.toInt32 := congrArg Value.int (by simp)
theorem pk_ns (z : Int32) : narrow .short (.int z.toInt16.toInt32) = .int z.toInt16.toInt32 := congrArg Value.int (by simp)
theorem pk_fb (r : Int32) : fits .byte (.int r.toInt8.toInt32) = true := by
  have ⟨a, b⟩ := lg_i2b_range r
  have h1 : (-128 : Int32).toInt = -128 := by decide
  have h2 : (127 : Int32).toInt = 127 := by decide
  simp only [fits, Bool.and_eq_true, decide_eq_true_eq, Int32.le_iff_toInt_le, h1, h2]
  omega
theorem pk_fs (r : Int32) : fits .short (.int r.toInt16.toInt32) = true := by
  have ⟨a, b⟩ := lg_i2s_range r
  have h1 : (-32768 : Int32).toInt = -32768 := by decide
  have h2 : (32767 : Int32).toInt = 32767 := by decide
  simp only [fits, Bool.and_eq_true, decide_eq_true_eq, Int32.le_iff_toInt_le, h1, h2]
  omega
theorem pk_charN {q : Nat} (hq : q < 65536) : narrow .char (.int (nI q)) = .int (nI q) ∧ fits .char (.int (nI q)) = true := by
  constructor
  · have e : (nI q).toUInt32.toUInt16.toUInt32.toInt32 = nI q := by
      apply Int32.toBitVec_inj.mp
      apply BitVec.eq_of_toNat_eq
      show (nI q).toUInt32.toUInt16.toUInt32.toNat = q % 2 ^ 32
      rw [UInt16.toNat_toUInt32, UInt32.toNat_toUInt16, show (nI q).toUInt32.toNat = q % 2 ^ 32 from rfl]
      omega
    exact congrArg Value.int e
  · have a : (0 : Int32) ≤ nI q := nI_pos' (by omega)
    have b : nI q ≤ 65535 := nI_le (b := 65535) (by omega) (by decide)
    show (decide ((0 : Int32) ≤ nI q) && decide (nI q ≤ 65535)) = true
    rw [decide_eq_true a, decide_eq_true b]
    rfl
theorem pk_char (x : Int32) : (x.toUInt32 % 65536).toInt32 = nI (x.toBitVec.toNat % 65536) := by
  apply Int32.toBitVec_inj.mp
  apply BitVec.eq_of_toNat_eq
  rw [pk_tn (by omega)]
  show (x.toUInt32 % 65536).toNat = _
  rw [UInt32.toNat_mod]
  rfl
theorem pk_nc (x : Int32) : narrow .char (.int (x.toUInt32 % 65536).toInt32) = .int (x.toUInt32 % 65536).toInt32 := by
  rw [pk_char]
  exact (pk_charN (Nat.mod_lt _ (by decide))).1
theorem pk_fc (x : Int32) : fits .char (.int (x.toUInt32 % 65536).toInt32) = true := by
  rw [pk_char]
  exact (pk_charN (Nat.mod_lt _ (by decide))).2
theorem pk_vb (z : Int32) : vp_nar .byte z.toInt8.toInt32 = z.toInt8.toInt32 := by rw [vp_nar_byte]; simp
theorem pk_vs (z : Int32) : vp_nar .short z.toInt16.toInt32 = z.toInt16.toInt32 := by rw [vp_nar_short]; simp
theorem pk_vc (z : Int32) : vp_nar .char (z.toUInt32 % 65536).toInt32 = (z.toUInt32 % 65536).toInt32 := Value.int.inj (pk_nc z)
theorem pk_lT {n : Nat} (h : n < 2 ^ 63) : (lN n).toInt = (n : Int) := lg_ofNat_toInt h
theorem pk_lLT {a b : Nat} (ha : a < 2 ^ 63) (hb : b < 2 ^ 63) : lN a < lN b ↔ a < b := by
  rw [Int64.lt_iff_toInt_lt, pk_lT ha, pk_lT hb]; omega
theorem pk_lLE {a b : Nat} (ha : a < 2 ^ 63) (hb : b < 2 ^ 63) : lN a ≤ lN b ↔ a ≤ b := by
  rw [Int64.le_iff_toInt_le, pk_lT ha, pk_lT hb]; omega
theorem pk_lEQ {a b : Nat} (ha : a < 2 ^ 63) (hb : b < 2 ^ 63) : lN a = lN b ↔ a = b := by
  rw [← Int64.toInt_inj, pk_lT ha, pk_lT hb]; omega
theorem pk_lOf {x : Int64} (h : ¬ x < 0) : ∃ k : Nat, k < 2 ^ 63 ∧ x = lN k := by
  rw [Int64.lt_iff_toInt_lt] at h
  have h0 : (0 : Int64).toInt = 0 := by decide
  have hx := Int64.toInt_lt x
  refine ⟨x.toInt.toNat, by omega, Int64.toInt_inj.mp ?_⟩
  rw [pk_lT (by omega)]
  omega
theorem pk_lDiv {a b : Nat} (ha : a < 2 ^ 63) (h0 : 0 < b) (hb : b < 2 ^ 63) : lN a / lN b = lN (a / b) := by
  apply Int64.toInt_inj.mp
  rw [lg_ldiv_nonneg (by rw [pk_lT ha]; omega) (by rw [pk_lT hb]; omega), pk_lT ha, pk_lT hb, pk_lT (Nat.lt_of_le_of_lt (Nat.div_le_self a b) ha)]
  rfl
theorem pk_lRem {a b : Nat} (ha : a < 2 ^ 63) (h0 : 0 < b) (hb : b < 2 ^ 63) : lN a - lN a / lN b * lN b = lN (a % b) := by
  rw [pk_lDiv ha h0 hb, lN_mul, lN_sub (Nat.div_mul_le_self a b)]
  exact congrArg lN (by have := Nat.div_add_mod' a b; omega)
theorem pk_loop {σ : Type} (W : Nat → Nat → σ → Prop) (I : Nat → σ → Prop) (e i0 : Nat) (s : σ) (hi : i0 ≤ e) (h0 : I i0 s) (hx : ∀ n s, I e s → W (n + 1) e s)
    (hs : ∀ n i s, i < e → I i s → (∀ s', I (i + 1) s' → W n (i + 1) s') → W (n + 1) i s) : ∃ n, W n i0 s :=
  ⟨e + 1, loop_i W I e hx hs (e + 1) i0 s hi (by omega) h0⟩
theorem pk_loopD {σ : Type} (W : Nat → Nat → σ → Prop) (I : Nat → σ → Prop) (hx : ∀ n s, I 0 s → W (n + 1) 0 s)
    (hs : ∀ n i s, I (i + 1) s → (∀ s', I i s' → W n i s') → W (n + 1) (i + 1) s) : ∀ (e : Nat) (s : σ), I e s → W (e + 1) e s := by
  intro e
  induction e with
  | zero => exact fun s h => hx 0 s h
  | succ e ih => exact fun s h => hs (e + 1) e s h (fun s' h' => ih s' h')
theorem pk_least (P : Nat → Prop) (h : ∃ k, P k) : ∃ k, P k ∧ ∀ j, j < k → ¬ P j := by
  obtain ⟨k, hk⟩ := h
  induction k using Nat.strongRecOn with
  | ind k ih =>
    by_cases e : ∃ j, j < k ∧ P j
    · obtain ⟨j, hj, pj⟩ := e
      exact ih j hj pj
    · exact ⟨k, hk, fun j hj pj => e ⟨j, hj, pj⟩⟩
theorem s_l : ∀ n, n < 32 → ((nI n &&& 31).toBitVec.smod 32).toNat = n := by decide +kernel
theorem nx_and (a b : Nat) : nI a &&& nI b = nI (a &&& b) := by
  apply Int32.toBitVec_inj.1
  show BitVec.ofNat 32 a &&& BitVec.ofNat 32 b = BitVec.ofNat 32 (a &&& b)
  apply BitVec.eq_of_getLsbD_eq
  intro i hi
  simp [hi]
theorem wb_tb (n : Nat) : (lN n).toBitVec = BitVec.ofNat 64 n := rfl
theorem wb_inj {a b : Int64} (h : a.toBitVec = b.toBitVec) : a = b := Int64.toBitVec_inj.mp h
theorem wb_tn {n : Nat} (h : n < 2 ^ 64) : (lN n).toBitVec.toNat = n := by rw [wb_tb, BitVec.toNat_ofNat, Nat.mod_eq_of_lt h]
theorem wb_of (x : Int64) : ∃ n, n < 2 ^ 64 ∧ x = lN n := ⟨x.toBitVec.toNat, x.toBitVec.isLt, wb_inj (by rw [wb_tb]; simp)⟩
theorem wb_of32 (x : Int32) : ∃ n, n < 2 ^ 32 ∧ x = nI n := ⟨x.toBitVec.toNat, x.toBitVec.isLt, Int32.toBitVec_inj.mp (by show _ = BitVec.ofNat 32 _; simp)⟩
theorem wb_c : ∀ k, k < 64 → ((nI k).toInt64 &&& 63) = lN k := by decide +kernel
theorem wb_cu : ∀ k, k < 64 → ((nI k).toInt64.toUInt64 &&& Int64.toUInt64 63) = UInt64.ofNat k := by decide +kernel
theorem wb_sm : ∀ k, k < 64 → (BitVec.ofNat 64 k).smod 64 = BitVec.ofNat 64 k := by decide +kernel
end
section
/-! bits of a long: zb_t x i -/
def zb_t (x : Int64) (i : Nat) : Bool := x.toBitVec.getLsbD i
theorem zb_ext {x y : Int64} (h : ∀ i, i < 64 → zb_t x i = zb_t y i) : x = y := Int64.toBitVec_inj.mp (BitVec.eq_of_getLsbD_eq (fun i hi => h i hi))
theorem zb_or (x y : Int64) (i : Nat) : zb_t (x ||| y) i = (zb_t x i || zb_t y i) := by unfold zb_t; rw [Int64.toBitVec_or, BitVec.getLsbD_or]
theorem zb_and (x y : Int64) (i : Nat) : zb_t (x &&& y) i = (zb_t x i && zb_t y i) := by unfold zb_t; rw [Int64.toBitVec_and, BitVec.getLsbD_and]
theorem zb_0 (i : Nat) : zb_t 0 i = false := BitVec.getLsbD_zero
theorem zb_big {x : Int64} {i : Nat} (h : 64 ≤ i) : zb_t x i = false := BitVec.getLsbD_of_ge _ _ h
theorem zb_lt {x : Int64} {i : Nat} (h : zb_t x i = true) : i < 64 := by
  rcases Nat.lt_or_ge i 64 with h1 | h1
  · exact h1
  · rw [zb_big h1] at h; exact absurd h (by decide)
theorem zb_shl (k : Nat) (hk : k < 64) (x : Int64) (i : Nat) : zb_t (x <<< ((nI k).toInt64 &&& 63)) i = true ↔ i < 64 ∧ k ≤ i ∧ zb_t x (i - k) = true := by
  unfold zb_t
  rw [wb_c k hk, Int64.toBitVec_shiftLeft, wb_tb, wb_sm k hk, BitVec.shiftLeft_eq', BitVec.toNat_ofNat, Nat.mod_eq_of_lt (show k < 2 ^ 64 by omega), BitVec.getLsbD_shiftLeft]
  rcases Nat.lt_or_ge i k with h | h
  · simp [h, Nat.not_le.mpr h]
  · simp [h, Nat.not_lt.mpr h]
theorem zb_1 (i : Nat) : zb_t 1 i = true ↔ i = 0 := by
  rcases Nat.lt_or_ge i 64 with h | h
  · exact (by decide +kernel : ∀ i, i < 64 → (zb_t 1 i = true ↔ i = 0)) i h
  · rw [zb_big h]; constructor
    · intro z; exact absurd z (by decide)
    · intro z; omega
theorem zb_2 (i : Nat) : zb_t 2 i = true ↔ i = 1 := by
  rcases Nat.lt_or_ge i 64 with h | h
  · exact (by decide +kernel : ∀ i, i < 64 → (zb_t 2 i = true ↔ i = 1)) i h
  · rw [zb_big h]; constructor
    · intro z; exact absurd z (by decide)
    · intro z; omega
theorem zb_one (k : Nat) (hk : k < 64) (i : Nat) : zb_t ((1 : Int64) <<< ((nI k).toInt64 &&& 63)) i = true ↔ i = k := by
  rw [zb_shl k hk, zb_1]; omega
theorem zb_tst (x : Int64) (k : Nat) (hk : k < 64) : ((x.toUInt64 >>> ((nI k).toInt64.toUInt64 &&& Int64.toUInt64 63)).toInt64 &&& 1) = 1 ↔ zb_t x k = true := by
  rw [wb_cu k hk]
  have h1 : (UInt64.ofNat k).toNat = k := by
    show (BitVec.ofNat 64 k).toNat = k
    rw [BitVec.toNat_ofNat, Nat.mod_eq_of_lt (by omega)]
  have e : (x.toUInt64 >>> UInt64.ofNat k).toInt64.toBitVec = x.toBitVec >>> k := by
    apply BitVec.eq_of_toNat_eq
    show (x.toUInt64 >>> UInt64.ofNat k).toNat = _
    rw [UInt64.toNat_shiftRight, h1, Nat.mod_eq_of_lt hk, BitVec.toNat_ushiftRight]
    rfl
  have e2 : ∀ i, zb_t ((x.toUInt64 >>> UInt64.ofNat k).toInt64 &&& 1) i = true ↔ i = 0 ∧ zb_t x k = true := by
    intro i
    rw [zb_and, Bool.and_eq_true, zb_1]
    constructor
    · rintro ⟨h, rfl⟩
      unfold zb_t at h
      rw [e, BitVec.getLsbD_ushiftRight] at h
      exact ⟨rfl, h⟩
    · rintro ⟨rfl, h⟩
      refine ⟨?_, rfl⟩
      unfold zb_t
      rw [e, BitVec.getLsbD_ushiftRight]
      exact h
  constructor
  · intro h
    rw [h] at e2
    exact ((e2 0).mp ((zb_1 0).mpr rfl)).2
  · intro h
    apply zb_ext
    intro i _
    rw [Bool.eq_iff_iff, e2, zb_1]
    exact ⟨fun z => z.1, fun z => ⟨z, h⟩⟩
theorem zb_ne0 {x : Int64} : ¬ x = 0 ↔ ∃ i, i < 64 ∧ zb_t x i = true := by
  constructor
  · intro h
    apply Classical.byContradiction
    intro hn
    apply h
    apply zb_ext
    intro i hi
    rw [zb_0]
    cases hb : zb_t x i with
    | false => rfl
    | true => exact absurd ⟨i, hi, hb⟩ hn
  · rintro ⟨i, _, h⟩ e
    rw [e, zb_0] at h
    exact absurd h (by decide)
theorem zb_eq0 {x : Int64} : x = 0 ↔ ∀ i, ¬ zb_t x i = true := by
  constructor
  · intro e i h; rw [e, zb_0] at h; exact absurd h (by decide)
  · intro h; apply zb_ext; intro i _; rw [zb_0]; exact Bool.eq_false_iff.mpr (h i)
/-! bits of naturals: a part of a set taken away -/
theorem zb_sub : ∀ (i s q : Nat), (∀ j, q.testBit j = true → s.testBit j = true) → q ≤ s ∧ (s - q).testBit i = (s.testBit i && !q.testBit i) := by
  have key : ∀ (s q : Nat), (∀ j, q.testBit j = true → s.testBit j = true) → q % 2 ≤ s % 2 := by
    intro s q h
    have h0 := h 0
    rw [Nat.testBit_zero, Nat.testBit_zero, decide_eq_true_eq, decide_eq_true_eq] at h0
    omega
  have hle : ∀ (n s q : Nat), s ≤ n → (∀ j, q.testBit j = true → s.testBit j = true) → q ≤ s := by
    intro n
    induction n with
    | zero =>
      intro s q hs h
      have e : s = 0 := by omega
      subst e
      rcases Nat.eq_zero_or_pos q with hq | hq
      · omega
      · obtain ⟨j, hj⟩ := Nat.exists_testBit_of_ne_zero (show q ≠ 0 by omega)
        have := h j hj
        rw [Nat.zero_testBit] at this
        exact absurd this (by decide)
    | succ n ih =>
      intro s q hs h
      have k := key s q h
      have h2 : q / 2 ≤ s / 2 := by
        rcases Nat.eq_zero_or_pos s with h0 | h0
        · subst h0
          rcases Nat.eq_zero_or_pos q with hq | hq
          · omega
          · obtain ⟨j, hj⟩ := Nat.exists_testBit_of_ne_zero (show q ≠ 0 by omega)
            have := h j hj
            rw [Nat.zero_testBit] at this
            exact absurd this (by decide)
        · exact ih (s / 2) (q / 2) (by omega) (fun j hj => by
            rw [← Nat.testBit_succ] at hj ⊢
            exact h (j + 1) hj)
      omega
  intro i
  induction i with
  | zero =>
    intro s q h
    have k := key s q h
    have l := hle s s q (Nat.le_refl s) h
    refine ⟨l, ?_⟩
    rw [Nat.testBit_zero, Nat.testBit_zero, Nat.testBit_zero]
    have c1 : s % 2 = 0 ∨ s % 2 = 1 := by omega
    have c2 : q % 2 = 0 ∨ q % 2 = 1 := by omega
    rcases c1 with c1 | c1 <;> rcases c2 with c2 | c2
    · have e : (s - q) % 2 = 0 := by omega
      rw [c1, c2, e]; rfl
    · omega
    · have e : (s - q) % 2 = 1 := by omega
      rw [c1, c2, e]; rfl
    · have e : (s - q) % 2 = 0 := by omega
      rw [c1, c2, e]; rfl
  | succ i ih =>
    intro s q h
    have k := key s q h
    have l := hle s s q (Nat.le_refl s) h
    refine ⟨l, ?_⟩
    have h2 : ∀ j, (q / 2).testBit j = true → (s / 2).testBit j = true := fun j hj => by
      rw [← Nat.testBit_succ] at hj ⊢
      exact h (j + 1) hj
    have e : (s - q) / 2 = s / 2 - q / 2 := by
      have := hle (s / 2) (s / 2) (q / 2) (Nat.le_refl _) h2
      omega
    rw [Nat.testBit_succ, Nat.testBit_succ, Nat.testBit_succ, e]
    exact (ih (s / 2) (q / 2) h2).2
end
section
/-! languages, acceptance, extensions -/
abbrev zl_L : Type := List Nat → Prop
def zl_ev (k : Nat) : zl_L := fun w => w = [k]
def zl_skip : zl_L := fun w => w = []
def zl_seq (A B : zl_L) : zl_L := fun w => ∃ u v, w = u ++ v ∧ A u ∧ B v
def zl_ch (A B : zl_L) : zl_L := fun w => A w ∨ B w
def zl_Sh : List Nat → List Nat → List Nat → Prop
  | [], u, v => u = [] ∧ v = []
  | a :: w, u, v => (∃ u', u = a :: u' ∧ zl_Sh w u' v) ∨ (∃ v', v = a :: v' ∧ zl_Sh w u v')
def zl_both (A B : zl_L) : zl_L := fun w => ∃ u v, zl_Sh w u v ∧ A u ∧ B v
def zl_star (A : zl_L) : zl_L := fun w => ∃ ws : List (List Nat), (∀ x, x ∈ ws → A x) ∧ w = ws.flatten
def zl_opt (A : zl_L) : zl_L := fun w => w = [] ∨ A w
def zl_Acc (E : Nat → Nat → Nat → Prop) (F : Nat → Prop) : List Nat → Nat → Prop
  | [], s => F s
  | a :: w, s => ∃ t, E s a t ∧ zl_Acc E F w t
/-- w can be brought into L by exactly d further letters, all of them allowed -/
def zl_Ext (L : zl_L) (al : Nat → Prop) (w : List Nat) (d : Nat) : Prop := ∃ v : List Nat, v.length = d ∧ (∀ a, a ∈ v → al a) ∧ L (w ++ v)
/-- c is the least number of further letters, cut at 100 -/
def zl_C (L : zl_L) (al : Nat → Prop) (w : List Nat) (c : Nat) : Prop := c ≤ 100 ∧ (c < 100 → zl_Ext L al w c) ∧ ∀ d, d < c → ¬ zl_Ext L al w d
/-! the star -/
theorem zl_star_nil (A : zl_L) : zl_star A [] := ⟨[], fun _ h => absurd h List.not_mem_nil, rfl⟩
theorem zl_star_cons {A : zl_L} {u v : List Nat} (hu : A u) (hv : zl_star A v) : zl_star A (u ++ v) := by
  obtain ⟨ws, h, rfl⟩ := hv
  refine ⟨u :: ws, ?_, by rw [List.flatten_cons]⟩
  intro x hx
  rcases List.mem_cons.mp hx with e | e
  · rw [e]; exact hu
  · exact h x e
theorem zl_star_one {A : zl_L} {u : List Nat} (hu : A u) : zl_star A u := by
  have := zl_star_cons hu (zl_star_nil A)
  rwa [List.append_nil] at this
/-- a nonempty word of the star begins with a nonempty word -/
theorem zl_star_split {A : zl_L} {w : List Nat} (h : zl_star A w) (hw : w ≠ []) : ∃ u v, w = u ++ v ∧ u ≠ [] ∧ A u ∧ zl_star A v := by
  obtain ⟨ws, ha, e⟩ := h
  induction ws with
  | nil => exact absurd e hw
  | cons x ws ih =>
    rw [List.flatten_cons] at e
    by_cases hx : x = []
    · subst hx
      exact ih (fun y hy => ha y (List.mem_cons_of_mem _ hy)) e
    · exact ⟨x, ws.flatten, e, hx, ha x List.mem_cons_self, ws, fun y hy => ha y (List.mem_cons_of_mem _ hy), rfl⟩
/-! the shuffle -/
theorem zl_Sh_append : ∀ (w1 w2 u v : List Nat), zl_Sh (w1 ++ w2) u v ↔ ∃ u1 u2 v1 v2, u = u1 ++ u2 ∧ v = v1 ++ v2 ∧ zl_Sh w1 u1 v1 ∧ zl_Sh w2 u2 v2 := by
  intro w1
  induction w1 with
  | nil =>
    intro w2 u v
    constructor
    · intro h; exact ⟨[], u, [], v, rfl, rfl, ⟨rfl, rfl⟩, h⟩
    · rintro ⟨u1, u2, v1, v2, e1, e2, ⟨rfl, rfl⟩, h⟩
      subst e1 e2
      exact h
  | cons a w1 ih =>
    intro w2 u v
    constructor
    · intro h
      rcases h with ⟨u', e, h⟩ | ⟨v', e, h⟩
      · obtain ⟨u1, u2, v1, v2, e1, e2, h1, h2⟩ := (ih w2 u' v).mp h
        exact ⟨a :: u1, u2, v1, v2, by rw [e, e1]; rfl, e2, Or.inl ⟨u1, rfl, h1⟩, h2⟩
      · obtain ⟨u1, u2, v1, v2, e1, e2, h1, h2⟩ := (ih w2 u v').mp h
        exact ⟨u1, u2, a :: v1, v2, e1, by rw [e, e2]; rfl, Or.inr ⟨v1, rfl, h1⟩, h2⟩
    · rintro ⟨u1, u2, v1, v2, e1, e2, h1, h2⟩
      rcases h1 with ⟨u', e, h⟩ | ⟨v', e, h⟩
      · refine Or.inl ⟨u' ++ u2, by rw [e1, e]; rfl, (ih w2 _ _).mpr ⟨u', u2, v1, v2, rfl, e2, h, h2⟩⟩
      · refine Or.inr ⟨v' ++ v2, by rw [e2, e]; rfl, (ih w2 _ _).mpr ⟨u1, u2, v', v2, e1, rfl, h, h2⟩⟩
theorem zl_Sh_left : ∀ w : List Nat, zl_Sh w w [] := by
  intro w
  induction w with
  | nil => exact ⟨rfl, rfl⟩
  | cons a w ih => exact Or.inl ⟨w, rfl, ih⟩
theorem zl_Sh_right : ∀ w : List Nat, zl_Sh w [] w := by
  intro w
  induction w with
  | nil => exact ⟨rfl, rfl⟩
  | cons a w ih => exact Or.inr ⟨w, rfl, ih⟩
theorem zl_Sh_len : ∀ (w u v : List Nat), zl_Sh w u v → w.length = u.length + v.length ∧ (∀ a, a ∈ u → a ∈ w) ∧ (∀ a, a ∈ v → a ∈ w) := by
  intro w
  induction w with
  | nil =>
    rintro u v ⟨rfl, rfl⟩
    exact ⟨rfl, fun _ h => h, fun _ h => h⟩
  | cons a w ih =>
    intro u v h
    rcases h with ⟨u', e, h⟩ | ⟨v', e, h⟩
    · obtain ⟨h1, h2, h3⟩ := ih _ _ h
      subst e
      refine ⟨by simp only [List.length_cons]; omega, ?_, fun b hb => List.mem_cons_of_mem _ (h3 b hb)⟩
      intro b hb
      rcases List.mem_cons.mp hb with e | e
      · rw [e]; exact List.mem_cons_self
      · exact List.mem_cons_of_mem _ (h2 b e)
    · obtain ⟨h1, h2, h3⟩ := ih _ _ h
      subst e
      refine ⟨by simp only [List.length_cons]; omega, fun b hb => List.mem_cons_of_mem _ (h2 b hb), ?_⟩
      intro b hb
      rcases List.mem_cons.mp hb with e | e
      · rw [e]; exact List.mem_cons_self
      · exact List.mem_cons_of_mem _ (h3 b e)
/-! the cells of the table: one law an operation -/
theorem zl_C_uniq {L : zl_L} {al : Nat → Prop} {w : List Nat} {c d : Nat} (hc : zl_C L al w c) (hd : zl_Ext L al w d) (hm : ∀ d', d' < d → ¬ zl_Ext L al w d') (h : d < 100) : c = d := by
  obtain ⟨_, h2, h3⟩ := hc
  rcases Nat.lt_trichotomy c d with z | z | z
  · exact absurd (h2 (by omega)) (hm c z)
  · exact z
  · exact absurd hd (h3 d z)
theorem zl_C_none {L : zl_L} {al : Nat → Prop} {w : List Nat} {c : Nat} (hc : zl_C L al w c) (hm : ∀ d, ¬ zl_Ext L al w d) : c = 100 := by
  obtain ⟨h1, h2, _⟩ := hc
  rcases Nat.lt_or_ge c 100 with z | z
  · exact absurd (h2 z) (hm c)
  · omega
theorem zl_C_le {L : zl_L} {al : Nat → Prop} {w : List Nat} {c d : Nat} (hc : zl_C L al w c) (hd : zl_Ext L al w d) : c ≤ d := by
  rcases Nat.lt_or_ge d c with z | z
  · exact absurd hd (hc.2.2 d z)
  · exact z
theorem zl_Ext0 {L : zl_L} {al : Nat → Prop} {w : List Nat} : zl_Ext L al w 0 ↔ L w := by
  constructor
  · rintro ⟨v, h, _, hL⟩
    have : v = [] := List.length_eq_zero_iff.mp h
    subst this
    rwa [List.append_nil] at hL
  · intro h
    exact ⟨[], rfl, fun _ h => absurd h List.not_mem_nil, by rw [List.append_nil]; exact h⟩
theorem zl_C0 {L : zl_L} {al : Nat → Prop} {w : List Nat} {c : Nat} (hc : zl_C L al w c) : c = 0 ↔ L w := by
  constructor
  · rintro rfl
    exact zl_Ext0.mp (hc.2.1 (by omega))
  · intro h
    have := zl_C_le hc (zl_Ext0.mpr h)
    omega
/-- what is cut at 100: a reachable bound and a lower bound make a cell -/
theorem zl_C_mk {L : zl_L} {al : Nat → Prop} {w : List Nat} {c : Nat} (h1 : c < 100 → zl_Ext L al w c) (h2 : ∀ d, zl_Ext L al w d → c ≤ d) : zl_C L al w (if c < 100 then c else 100) := by
  by_cases h : c < 100
  · rw [if_pos h]
    exact ⟨by omega, fun _ => h1 h, fun d hd he => by have := h2 d he; omega⟩
  · rw [if_neg h]
    exact ⟨by omega, fun z => by omega, fun d hd he => by have := h2 d he; omega⟩
/-! event, skip -/
theorem zl_ev_nil {al : Nat → Prop} {k : Nat} (h : al k) : zl_C (zl_ev k) al [] 1 := by
  refine ⟨by omega, fun _ => ⟨[k], rfl, fun a ha => by rw [List.mem_singleton.mp ha]; exact h, rfl⟩, ?_⟩
  intro d hd he
  have : d = 0 := by omega
  subst this
  have := zl_Ext0.mp he
  exact absurd this (by unfold zl_ev; simp)
theorem zl_ev_bar {al : Nat → Prop} {k : Nat} (h : ¬ al k) : zl_C (zl_ev k) al [] 100 := by
  refine ⟨by omega, fun z => by omega, ?_⟩
  rintro d _ ⟨v, _, ha, hL⟩
  have e : v = [k] := hL
  exact h (ha k (by rw [e]; exact List.mem_singleton.mpr rfl))
theorem zl_ev_one {al : Nat → Prop} {k : Nat} : zl_C (zl_ev k) al [k] 0 :=
  ⟨by omega, fun _ => zl_Ext0.mpr rfl, fun d hd => by omega⟩
theorem zl_ev_no {al : Nat → Prop} {k : Nat} {w : List Nat} (h0 : w ≠ []) (h1 : w ≠ [k]) : zl_C (zl_ev k) al w 100 := by
  refine ⟨by omega, fun z => by omega, ?_⟩
  rintro d _ ⟨v, _, ha, hL⟩
  have e : w ++ v = [k] := hL
  cases w with
  | nil => exact h0 rfl
  | cons a w =>
    rw [List.cons_append] at e
    injection e with e1 e2
    obtain ⟨e3, _⟩ := List.append_eq_nil_iff.mp e2
    exact h1 (by rw [e1, e3])
theorem zl_skip_nil {al : Nat → Prop} : zl_C zl_skip al [] 0 := ⟨by omega, fun _ => zl_Ext0.mpr rfl, fun d hd => by omega⟩
theorem zl_skip_no {al : Nat → Prop} {w : List Nat} (h0 : w ≠ []) : zl_C zl_skip al w 100 := by
  refine ⟨by omega, fun z => by omega, ?_⟩
  rintro d _ ⟨v, _, ha, hL⟩
  exact h0 (List.append_eq_nil_iff.mp (show w ++ v = [] from hL)).1
/-! seq -/
theorem zl_seq_up1 {A B : zl_L} {al : Nat → Prop} {w : List Nat} {a b : Nat} (ha : zl_Ext A al w a) (hb : zl_Ext B al [] b) : zl_Ext (zl_seq A B) al w (a + b) := by
  obtain ⟨v1, l1, h1, r1⟩ := ha
  obtain ⟨v2, l2, h2, r2⟩ := hb
  refine ⟨v1 ++ v2, by rw [List.length_append, l1, l2], ?_, w ++ v1, v2, by rw [List.append_assoc], r1, r2⟩
  intro x hx
  rcases List.mem_append.mp hx with z | z
  · exact h1 x z
  · exact h2 x z
theorem zl_seq_up2 {A B : zl_L} {al : Nat → Prop} {u v : List Nat} {b : Nat} (ha : A u) (hb : zl_Ext B al v b) : zl_Ext (zl_seq A B) al (u ++ v) b := by
  obtain ⟨v2, l2, h2, r2⟩ := hb
  exact ⟨v2, l2, h2, u, v ++ v2, by rw [List.append_assoc], ha, r2⟩
theorem zl_seq_lo {A B : zl_L} {al : Nat → Prop} {w : List Nat} {d : Nat} (h : zl_Ext (zl_seq A B) al w d) :
    (∃ a b, a + b = d ∧ zl_Ext A al w a ∧ zl_Ext B al [] b) ∨ (∃ u v, w = u ++ v ∧ A u ∧ zl_Ext B al v d) := by
  obtain ⟨e, le, ha, u, v, ew, hu, hv⟩ := h
  rcases List.append_eq_append_iff.mp ew with ⟨x, e1, e2⟩ | ⟨x, e1, e2⟩
  · refine Or.inl ⟨x.length, v.length, ?_, ⟨x, rfl, ?_, by rw [← e1]; exact hu⟩, ⟨v, rfl, ?_, hv⟩⟩
    · rw [← le, e2, List.length_append]
    · intro y hy; exact ha y (by rw [e2]; exact List.mem_append_left _ hy)
    · intro y hy; exact ha y (by rw [e2]; exact List.mem_append_right _ hy)
  · exact Or.inr ⟨u, x, e1, hu, e, le, ha, by rw [← e2]; exact hv⟩
/-! choice, option -/
theorem zl_ch_ext {A B : zl_L} {al : Nat → Prop} {w : List Nat} {d : Nat} : zl_Ext (zl_ch A B) al w d ↔ zl_Ext A al w d ∨ zl_Ext B al w d := by
  constructor
  · rintro ⟨v, l, h, r | r⟩
    · exact Or.inl ⟨v, l, h, r⟩
    · exact Or.inr ⟨v, l, h, r⟩
  · rintro (⟨v, l, h, r⟩ | ⟨v, l, h, r⟩)
    · exact ⟨v, l, h, Or.inl r⟩
    · exact ⟨v, l, h, Or.inr r⟩
theorem zl_ch_C {A B : zl_L} {al : Nat → Prop} {w : List Nat} {a b : Nat} (ha : zl_C A al w a) (hb : zl_C B al w b) : zl_C (zl_ch A B) al w (if b ≤ a then b else a) := by
  obtain ⟨a1, a2, a3⟩ := ha
  obtain ⟨b1, b2, b3⟩ := hb
  by_cases h : b ≤ a
  · rw [if_pos h]
    refine ⟨b1, fun z => zl_ch_ext.mpr (Or.inr (b2 z)), fun d hd he => ?_⟩
    rcases zl_ch_ext.mp he with z | z
    · exact a3 d (by omega) z
    · exact b3 d hd z
  · rw [if_neg h]
    refine ⟨a1, fun z => zl_ch_ext.mpr (Or.inl (a2 z)), fun d hd he => ?_⟩
    rcases zl_ch_ext.mp he with z | z
    · exact a3 d hd z
    · exact b3 d (by omega) z
theorem zl_opt_nil {A : zl_L} {al : Nat → Prop} : zl_C (zl_opt A) al [] 0 := ⟨by omega, fun _ => zl_Ext0.mpr (Or.inl rfl), fun d hd => by omega⟩
theorem zl_opt_ext {A : zl_L} {al : Nat → Prop} {w : List Nat} (hw : w ≠ []) {d : Nat} : zl_Ext (zl_opt A) al w d ↔ zl_Ext A al w d := by
  constructor
  · rintro ⟨v, l, h, r | r⟩
    · exact absurd (List.append_eq_nil_iff.mp r).1 hw
    · exact ⟨v, l, h, r⟩
  · rintro ⟨v, l, h, r⟩
    exact ⟨v, l, h, Or.inr r⟩
theorem zl_opt_C {A : zl_L} {al : Nat → Prop} {w : List Nat} (hw : w ≠ []) {a : Nat} (ha : zl_C A al w a) : zl_C (zl_opt A) al w a :=
  ⟨ha.1, fun z => (zl_opt_ext hw).mpr (ha.2.1 z), fun d hd he => ha.2.2 d hd ((zl_opt_ext hw).mp he)⟩
/-! both -/
theorem zl_both_up {A B : zl_L} {al : Nat → Prop} {w u v : List Nat} {a b : Nat} (hs : zl_Sh w u v) (ha : zl_Ext A al u a) (hb : zl_Ext B al v b) : zl_Ext (zl_both A B) al w (a + b) := by
  obtain ⟨v1, l1, h1, r1⟩ := ha
  obtain ⟨v2, l2, h2, r2⟩ := hb
  refine ⟨v1 ++ v2, by rw [List.length_append, l1, l2], ?_, u ++ v1, v ++ v2, ?_, r1, r2⟩
  · intro x hx
    rcases List.mem_append.mp hx with z | z
    · exact h1 x z
    · exact h2 x z
  · refine (zl_Sh_append _ _ _ _).mpr ⟨u, v1, v, v2, rfl, rfl, hs, ?_⟩
    exact (zl_Sh_append _ _ _ _).mpr ⟨v1, [], [], v2, (List.append_nil _).symm, rfl, zl_Sh_left _, zl_Sh_right _⟩
theorem zl_both_lo {A B : zl_L} {al : Nat → Prop} {w : List Nat} {d : Nat} (h : zl_Ext (zl_both A B) al w d) : ∃ u v a b, zl_Sh w u v ∧ a + b = d ∧ zl_Ext A al u a ∧ zl_Ext B al v b := by
  obtain ⟨e, le, ha, u, v, hs, hu, hv⟩ := h
  obtain ⟨u1, u2, v1, v2, e1, e2, h1, h2⟩ := (zl_Sh_append _ _ _ _).mp hs
  obtain ⟨l, m1, m2⟩ := zl_Sh_len _ _ _ h2
  refine ⟨u1, v1, u2.length, v2.length, h1, by omega, ⟨u2, rfl, fun x hx => ha x (m1 x hx), by rw [← e1]; exact hu⟩, ⟨v2, rfl, fun x hx => ha x (m2 x hx), by rw [← e2]; exact hv⟩⟩
/-! star -/
theorem zl_star_C0 {A : zl_L} {al : Nat → Prop} : zl_C (zl_star A) al [] 0 := ⟨by omega, fun _ => zl_Ext0.mpr (zl_star_nil A), fun d hd => by omega⟩
theorem zl_star_up1 {A : zl_L} {al : Nat → Prop} {w : List Nat} {a : Nat} (ha : zl_Ext A al w a) : zl_Ext (zl_star A) al w a := by
  obtain ⟨v, l, h, r⟩ := ha
  exact ⟨v, l, h, zl_star_one r⟩
theorem zl_star_up2 {A : zl_L} {al : Nat → Prop} {u v : List Nat} {b : Nat} (ha : A u) (hb : zl_Ext (zl_star A) al v b) : zl_Ext (zl_star A) al (u ++ v) b := by
  obtain ⟨x, l, h, r⟩ := hb
  exact ⟨x, l, h, by rw [List.append_assoc]; exact zl_star_cons ha r⟩
theorem zl_star_lo {A : zl_L} {al : Nat → Prop} {w : List Nat} {d : Nat} (hw : w ≠ []) (h : zl_Ext (zl_star A) al w d) :
    (∃ a, a ≤ d ∧ zl_Ext A al w a) ∨ (∃ u v, w = u ++ v ∧ u ≠ [] ∧ v ≠ [] ∧ A u ∧ zl_Ext (zl_star A) al v d) := by
  obtain ⟨e, le, ha, hs⟩ := h
  obtain ⟨u, y, ew, hu0, hu, hy⟩ := zl_star_split hs (fun z => hw (List.append_eq_nil_iff.mp z).1)
  rcases List.append_eq_append_iff.mp ew with ⟨x, e1, e2⟩ | ⟨x, e1, e2⟩
  · refine Or.inl ⟨x.length, ?_, x, rfl, ?_, by rw [← e1]; exact hu⟩
    · rw [← le, e2, List.length_append]; omega
    · intro z hz; exact ha z (by rw [e2]; exact List.mem_append_left _ hz)
  · by_cases hx : x = []
    · subst hx
      rw [List.append_nil] at e1
      refine Or.inl ⟨0, by omega, zl_Ext0.mpr (by rw [e1]; exact hu)⟩
    · exact Or.inr ⟨u, x, e1, hu0, hx, hu, e, le, ha, by rw [← e2]; exact hy⟩
end
section
/-! machines: n states, edges into 1 .. n-1 alone, every state can come to an end, from 0 it accepts L -/
def zm_M (n : Nat) (E : Nat → Nat → Nat → Prop) (F : Nat → Prop) (L : zl_L) : Prop :=
  1 ≤ n ∧ (∀ s, s < n → ∀ a t, E s a t → a < 4 ∧ 1 ≤ t ∧ t < n) ∧ (∀ s, s < n → ∃ w, zl_Acc E F w s) ∧ ∀ w, zl_Acc E F w 0 ↔ L w
theorem zm_acc_cong {n : Nat} {E E' : Nat → Nat → Nat → Prop} {F F' : Nat → Prop} (hc : ∀ s, s < n → ∀ a t, E s a t → t < n)
    (hE : ∀ s, s < n → ∀ a t, E' s a t ↔ E s a t) (hF : ∀ s, s < n → (F' s ↔ F s)) : ∀ w s, s < n → (zl_Acc E' F' w s ↔ zl_Acc E F w s) := by
  intro w
  induction w with
  | nil => exact fun s hs => hF s hs
  | cons a w ih =>
    intro s hs
    constructor
    · rintro ⟨t, h1, h2⟩
      have h1' := (hE s hs a t).mp h1
      exact ⟨t, h1', (ih t (hc s hs a t h1')).mp h2⟩
    · rintro ⟨t, h1, h2⟩
      exact ⟨t, (hE s hs a t).mpr h1, (ih t (hc s hs a t h1)).mpr h2⟩
theorem zm_cong {n : Nat} {E E' : Nat → Nat → Nat → Prop} {F F' : Nat → Prop} {L : zl_L} (h : zm_M n E F L)
    (hE : ∀ s, s < n → ∀ a t, E' s a t ↔ E s a t) (hF : ∀ s, s < n → (F' s ↔ F s)) : zm_M n E' F' L := by
  obtain ⟨h1, h2, h3, h4⟩ := h
  have c := zm_acc_cong (fun s hs a t z => (h2 s hs a t z).2.2) hE hF
  refine ⟨h1, fun s hs a t z => h2 s hs a t ((hE s hs a t).mp z), ?_, fun w => (c w 0 h1).trans (h4 w)⟩
  intro s hs
  obtain ⟨w, hw⟩ := h3 s hs
  exact ⟨w, (c w s hs).mpr hw⟩
theorem zm_ev {k : Nat} (hk : k < 4) {E : Nat → Nat → Nat → Prop} {F : Nat → Prop} (h0 : ∀ a t, E 0 a t ↔ a = k ∧ t = 1) (h1 : ∀ a t, ¬ E 1 a t) (f0 : ¬ F 0) (f1 : F 1) : zm_M 2 E F (zl_ev k) := by
  have a1 : ∀ w, zl_Acc E F w 1 ↔ w = [] := by
    intro w
    cases w with
    | nil => exact ⟨fun _ => rfl, fun _ => f1⟩
    | cons a w => exact ⟨fun ⟨t, h, _⟩ => absurd h (h1 a t), fun z => by cases z⟩
  have a0 : ∀ w, zl_Acc E F w 0 ↔ w = [k] := by
    intro w
    cases w with
    | nil => exact ⟨fun z => absurd z f0, fun z => by cases z⟩
    | cons a w =>
      constructor
      · rintro ⟨t, h, h2⟩
        obtain ⟨rfl, rfl⟩ := (h0 a t).mp h
        rw [(a1 w).mp h2]
      · intro z
        injection z with z1 z2
        exact ⟨1, (h0 a 1).mpr ⟨z1, rfl⟩, (a1 w).mpr z2⟩
  refine ⟨by omega, ?_, ?_, a0⟩
  · intro s hs a t h
    have c : s = 0 ∨ s = 1 := by omega
    rcases c with rfl | rfl
    · obtain ⟨rfl, rfl⟩ := (h0 a t).mp h
      exact ⟨hk, by omega, by omega⟩
    · exact absurd h (h1 a t)
  · intro s hs
    have c : s = 0 ∨ s = 1 := by omega
    rcases c with rfl | rfl
    · exact ⟨[k], (a0 _).mpr rfl⟩
    · exact ⟨[], (a1 _).mpr rfl⟩
theorem zm_skip {E : Nat → Nat → Nat → Prop} {F : Nat → Prop} (h0 : ∀ a t, ¬ E 0 a t) (f0 : F 0) : zm_M 1 E F zl_skip := by
  have a0 : ∀ w, zl_Acc E F w 0 ↔ w = [] := by
    intro w
    cases w with
    | nil => exact ⟨fun _ => rfl, fun _ => f0⟩
    | cons a w => exact ⟨fun ⟨t, h, _⟩ => absurd h (h0 a t), fun z => by cases z⟩
  refine ⟨by omega, ?_, ?_, a0⟩
  · intro s hs a t h
    have c : s = 0 := by omega
    subst c
    exact absurd h (h0 a t)
  · intro s hs
    have c : s = 0 := by omega
    subst c
    exact ⟨[], f0⟩
/-- the appended tail accepts as the top machine does -/
theorem zm_tail {up ny : Nat} {E2 E' : Nat → Nat → Nat → Prop} {F2 F' : Nat → Prop} (hc : ∀ s, s < ny → ∀ a t, E2 s a t → a < 4 ∧ 1 ≤ t ∧ t < ny)
    (e2 : ∀ s, 1 ≤ s → s < ny → ∀ a t, E' (up + s) a t ↔ up ≤ t ∧ E2 s a (t - up)) (f2 : ∀ s, 1 ≤ s → s < ny → (F' (up + s) ↔ F2 s)) :
    ∀ w s, 1 ≤ s → s < ny → (zl_Acc E' F' w (up + s) ↔ zl_Acc E2 F2 w s) := by
  intro w
  induction w with
  | nil => exact fun s h1 hs => f2 s h1 hs
  | cons a w ih =>
    intro s h1 hs
    constructor
    · rintro ⟨t, h, h2⟩
      obtain ⟨hu, he⟩ := (e2 s h1 hs a t).mp h
      obtain ⟨_, c1, c2⟩ := hc s hs a _ he
      refine ⟨t - up, he, (ih (t - up) c1 c2).mp ?_⟩
      rw [Nat.add_sub_of_le hu]
      exact h2
    · rintro ⟨t, h, h2⟩
      obtain ⟨_, c1, c2⟩ := hc s hs a _ h
      refine ⟨up + t, (e2 s h1 hs a _).mpr ⟨by omega, ?_⟩, (ih t c1 c2).mpr h2⟩
      rw [Nat.add_sub_cancel_left]
      exact h
theorem zm_seq {up ny : Nat} {E1 E2 E' : Nat → Nat → Nat → Prop} {F1 F2 F' : Nat → Prop} {A B : zl_L} (hA : zm_M (up + 1) E1 F1 A) (hB : zm_M ny E2 F2 B)
    (e1 : ∀ s, s < up + 1 → ∀ a t, E' s a t ↔ (E1 s a t ∨ (F1 s ∧ up ≤ t ∧ E2 0 a (t - up))))
    (e2 : ∀ s, 1 ≤ s → s < ny → ∀ a t, E' (up + s) a t ↔ up ≤ t ∧ E2 s a (t - up))
    (f1 : ∀ s, s < up + 1 → (F' s ↔ F1 s ∧ F2 0)) (f2 : ∀ s, 1 ≤ s → s < ny → (F' (up + s) ↔ F2 s)) : zm_M (up + ny) E' F' (zl_seq A B) := by
  obtain ⟨x1, x2, x3, x4⟩ := hA
  obtain ⟨y1, y2, y3, y4⟩ := hB
  have tl := zm_tail (up := up) y2 e2 f2
  have hd : ∀ w s, s < up + 1 → (zl_Acc E' F' w s ↔ ∃ u v, w = u ++ v ∧ zl_Acc E1 F1 u s ∧ zl_Acc E2 F2 v 0) := by
    intro w
    induction w with
    | nil =>
      intro s hs
      constructor
      · intro h
        obtain ⟨p, q⟩ := (f1 s hs).mp h
        exact ⟨[], [], rfl, p, q⟩
      · rintro ⟨u, v, e, hu, hv⟩
        obtain ⟨rfl, rfl⟩ := List.append_eq_nil_iff.mp e.symm
        exact (f1 s hs).mpr ⟨hu, hv⟩
    | cons a w ih =>
      intro s hs
      constructor
      · rintro ⟨t, h, h2⟩
        rcases (e1 s hs a t).mp h with p | ⟨p, q, r⟩
        · obtain ⟨_, c1, c2⟩ := x2 s hs a t p
          obtain ⟨u, v, e, hu, hv⟩ := (ih t c2).mp h2
          exact ⟨a :: u, v, by rw [e]; rfl, ⟨t, p, hu⟩, hv⟩
        · obtain ⟨_, c1, c2⟩ := y2 0 (by omega) a _ r
          refine ⟨[], a :: w, rfl, p, t - up, r, (tl w (t - up) c1 c2).mp ?_⟩
          rw [Nat.add_sub_of_le q]
          exact h2
      · rintro ⟨u, v, e, hu, hv⟩
        cases u with
        | nil =>
          have e' : v = a :: w := e.symm
          subst e'
          obtain ⟨t, h, h2⟩ := hv
          obtain ⟨_, c1, c2⟩ := y2 0 (by omega) a _ h
          refine ⟨up + t, (e1 s hs a _).mpr (Or.inr ⟨hu, by omega, ?_⟩), (tl w t c1 c2).mpr h2⟩
          rw [Nat.add_sub_cancel_left]
          exact h
        | cons b u =>
          rw [List.cons_append] at e
          injection e with ea ew
          subst ea
          obtain ⟨t, h, h2⟩ := hu
          obtain ⟨_, c1, c2⟩ := x2 s hs a t h
          exact ⟨t, (e1 s hs a t).mpr (Or.inl h), (ih t c2).mpr ⟨u, v, ew, h2, hv⟩⟩
  refine ⟨by omega, ?_, ?_, ?_⟩
  · intro s hs a t h
    rcases Nat.lt_or_ge s (up + 1) with c | c
    · rcases (e1 s c a t).mp h with p | ⟨p, q, r⟩
      · obtain ⟨c0, c1, c2⟩ := x2 s c a t p
        exact ⟨c0, c1, by omega⟩
      · obtain ⟨c0, c1, c2⟩ := y2 0 (by omega) a _ r
        exact ⟨c0, by omega, by omega⟩
    · obtain ⟨j, rfl⟩ : ∃ j, s = up + j := ⟨s - up, by omega⟩
      obtain ⟨q, r⟩ := (e2 j (by omega) (by omega) a t).mp h
      obtain ⟨c0, c1, c2⟩ := y2 j (by omega) a _ r
      exact ⟨c0, by omega, by omega⟩
  · intro s hs
    rcases Nat.lt_or_ge s (up + 1) with c | c
    · obtain ⟨u, hu⟩ := x3 s c
      obtain ⟨v, hv⟩ := y3 0 (by omega)
      exact ⟨u ++ v, (hd _ s c).mpr ⟨u, v, rfl, hu, hv⟩⟩
    · obtain ⟨j, rfl⟩ : ∃ j, s = up + j := ⟨s - up, by omega⟩
      obtain ⟨v, hv⟩ := y3 j (by omega)
      exact ⟨v, (tl v j (by omega) (by omega)).mpr hv⟩
  · intro w
    rw [hd w 0 (by omega)]
    constructor
    · rintro ⟨u, v, e, hu, hv⟩
      exact ⟨u, v, e, (x4 u).mp hu, (y4 v).mp hv⟩
    · rintro ⟨u, v, e, hu, hv⟩
      exact ⟨u, v, e, (x4 u).mpr hu, (y4 v).mpr hv⟩
theorem zm_ch {up ny : Nat} {E1 E2 E' : Nat → Nat → Nat → Prop} {F1 F2 F' : Nat → Prop} {A B : zl_L} (hA : zm_M (up + 1) E1 F1 A) (hB : zm_M ny E2 F2 B)
    (e0 : ∀ a t, E' 0 a t ↔ (E1 0 a t ∨ (up ≤ t ∧ E2 0 a (t - up))))
    (e1 : ∀ s, 1 ≤ s → s < up + 1 → ∀ a t, E' s a t ↔ E1 s a t)
    (e2 : ∀ s, 1 ≤ s → s < ny → ∀ a t, E' (up + s) a t ↔ up ≤ t ∧ E2 s a (t - up))
    (f0 : F' 0 ↔ F1 0 ∨ F2 0) (f1 : ∀ s, 1 ≤ s → s < up + 1 → (F' s ↔ F1 s)) (f2 : ∀ s, 1 ≤ s → s < ny → (F' (up + s) ↔ F2 s)) : zm_M (up + ny) E' F' (zl_ch A B) := by
  obtain ⟨x1, x2, x3, x4⟩ := hA
  obtain ⟨y1, y2, y3, y4⟩ := hB
  have tl := zm_tail (up := up) y2 e2 f2
  have hm : ∀ w s, 1 ≤ s → s < up + 1 → (zl_Acc E' F' w s ↔ zl_Acc E1 F1 w s) := by
    intro w
    induction w with
    | nil => exact fun s h1 hs => f1 s h1 hs
    | cons a w ih =>
      intro s h1 hs
      constructor
      · rintro ⟨t, h, h2⟩
        have h' := (e1 s h1 hs a t).mp h
        obtain ⟨_, c1, c2⟩ := x2 s hs a t h'
        exact ⟨t, h', (ih t c1 c2).mp h2⟩
      · rintro ⟨t, h, h2⟩
        obtain ⟨_, c1, c2⟩ := x2 s hs a t h
        exact ⟨t, (e1 s h1 hs a t).mpr h, (ih t c1 c2).mpr h2⟩
  have hd : ∀ w, zl_Acc E' F' w 0 ↔ zl_Acc E1 F1 w 0 ∨ zl_Acc E2 F2 w 0 := by
    intro w
    cases w with
    | nil => exact f0
    | cons a w =>
      constructor
      · rintro ⟨t, h, h2⟩
        rcases (e0 a t).mp h with p | ⟨q, r⟩
        · obtain ⟨_, c1, c2⟩ := x2 0 (by omega) a t p
          exact Or.inl ⟨t, p, (hm w t c1 c2).mp h2⟩
        · obtain ⟨_, c1, c2⟩ := y2 0 (by omega) a _ r
          refine Or.inr ⟨t - up, r, (tl w (t - up) c1 c2).mp ?_⟩
          rw [Nat.add_sub_of_le q]
          exact h2
      · rintro (⟨t, h, h2⟩ | ⟨t, h, h2⟩)
        · obtain ⟨_, c1, c2⟩ := x2 0 (by omega) a t h
          exact ⟨t, (e0 a t).mpr (Or.inl h), (hm w t c1 c2).mpr h2⟩
        · obtain ⟨_, c1, c2⟩ := y2 0 (by omega) a _ h
          refine ⟨up + t, (e0 a _).mpr (Or.inr ⟨by omega, ?_⟩), (tl w t c1 c2).mpr h2⟩
          rw [Nat.add_sub_cancel_left]
          exact h
  refine ⟨by omega, ?_, ?_, ?_⟩
  · intro s hs a t h
    rcases Nat.lt_or_ge s (up + 1) with c | c
    · rcases Nat.eq_zero_or_pos s with z | z
      · subst z
        rcases (e0 a t).mp h with p | ⟨q, r⟩
        · obtain ⟨c0, c1, c2⟩ := x2 0 c a t p
          exact ⟨c0, c1, by omega⟩
        · obtain ⟨c0, c1, c2⟩ := y2 0 (by omega) a _ r
          exact ⟨c0, by omega, by omega⟩
      · obtain ⟨c0, c1, c2⟩ := x2 s c a t ((e1 s z c a t).mp h)
        exact ⟨c0, c1, by omega⟩
    · obtain ⟨j, rfl⟩ : ∃ j, s = up + j := ⟨s - up, by omega⟩
      obtain ⟨q, r⟩ := (e2 j (by omega) (by omega) a t).mp h
      obtain ⟨c0, c1, c2⟩ := y2 j (by omega) a _ r
      exact ⟨c0, by omega, by omega⟩
  · intro s hs
    rcases Nat.lt_or_ge s (up + 1) with c | c
    · obtain ⟨u, hu⟩ := x3 s c
      rcases Nat.eq_zero_or_pos s with z | z
      · subst z
        exact ⟨u, (hd u).mpr (Or.inl hu)⟩
      · exact ⟨u, (hm u s z c).mpr hu⟩
    · obtain ⟨j, rfl⟩ : ∃ j, s = up + j := ⟨s - up, by omega⟩
      obtain ⟨v, hv⟩ := y3 j (by omega)
      exact ⟨v, (tl v j (by omega) (by omega)).mpr hv⟩
  · intro w
    rw [hd w, x4 w, y4 w]
    exact Iff.rfl
theorem zm_pair {ny s t s' t' : Nat} (ht : t < ny) (ht' : t' < ny) (h : s * ny + t = s' * ny + t') : s = s' ∧ t = t' := by
  have h1 : (s * ny + t) / ny = s := by
    rw [Nat.mul_comm, Nat.mul_add_div (by omega), Nat.div_eq_of_lt ht, Nat.add_zero]
  have h2 : (s' * ny + t') / ny = s' := by
    rw [Nat.mul_comm, Nat.mul_add_div (by omega), Nat.div_eq_of_lt ht', Nat.add_zero]
  have e : s = s' := by rw [← h1, h, h2]
  subst e
  exact ⟨rfl, by omega⟩
theorem zm_pairlt {nx ny s t : Nat} (hs : s < nx) (ht : t < ny) : s * ny + t < nx * ny := by
  have h1 : (s + 1) * ny ≤ nx * ny := Nat.mul_le_mul_right ny hs
  rw [Nat.add_mul, Nat.one_mul] at h1
  omega
theorem zm_unpair {nx ny i : Nat} (h : i < nx * ny) : ∃ s t, s < nx ∧ t < ny ∧ i = s * ny + t := by
  have hy : 0 < ny := by
    rcases Nat.eq_zero_or_pos ny with z | z
    · subst z; omega
    · exact z
  refine ⟨i / ny, i % ny, ?_, Nat.mod_lt _ hy, ?_⟩
  · rw [Nat.mul_comm] at h
    exact Nat.div_lt_of_lt_mul h
  · have := Nat.div_add_mod i ny
    rw [Nat.mul_comm] at this
    exact this.symm
theorem zm_both {nx ny : Nat} {E1 E2 E' : Nat → Nat → Nat → Prop} {F1 F2 F' : Nat → Prop} {A B : zl_L} (hA : zm_M nx E1 F1 A) (hB : zm_M ny E2 F2 B)
    (e : ∀ s, s < nx → ∀ t, t < ny → ∀ a r, E' (s * ny + t) a r ↔ ((∃ i, E1 s a i ∧ r = i * ny + t) ∨ (∃ j, E2 t a j ∧ r = s * ny + j)))
    (f : ∀ s, s < nx → ∀ t, t < ny → (F' (s * ny + t) ↔ F1 s ∧ F2 t)) : zm_M (nx * ny) E' F' (zl_both A B) := by
  obtain ⟨x1, x2, x3, x4⟩ := hA
  obtain ⟨y1, y2, y3, y4⟩ := hB
  have hd : ∀ w s t, s < nx → t < ny → (zl_Acc E' F' w (s * ny + t) ↔ ∃ u v, zl_Sh w u v ∧ zl_Acc E1 F1 u s ∧ zl_Acc E2 F2 v t) := by
    intro w
    induction w with
    | nil =>
      intro s t hs ht
      constructor
      · intro h
        obtain ⟨p, q⟩ := (f s hs t ht).mp h
        exact ⟨[], [], ⟨rfl, rfl⟩, p, q⟩
      · rintro ⟨u, v, ⟨rfl, rfl⟩, hu, hv⟩
        exact (f s hs t ht).mpr ⟨hu, hv⟩
    | cons a w ih =>
      intro s t hs ht
      constructor
      · rintro ⟨r, h, h2⟩
        rcases (e s hs t ht a r).mp h with ⟨i, p, rfl⟩ | ⟨j, p, rfl⟩
        · obtain ⟨_, c1, c2⟩ := x2 s hs a i p
          obtain ⟨u, v, sh, hu, hv⟩ := (ih i t c2 ht).mp h2
          exact ⟨a :: u, v, Or.inl ⟨u, rfl, sh⟩, ⟨i, p, hu⟩, hv⟩
        · obtain ⟨_, c1, c2⟩ := y2 t ht a j p
          obtain ⟨u, v, sh, hu, hv⟩ := (ih s j hs c2).mp h2
          exact ⟨u, a :: v, Or.inr ⟨v, rfl, sh⟩, hu, ⟨j, p, hv⟩⟩
      · rintro ⟨u, v, sh, hu, hv⟩
        rcases sh with ⟨u', rfl, sh⟩ | ⟨v', rfl, sh⟩
        · obtain ⟨i, p, hu⟩ := hu
          obtain ⟨_, c1, c2⟩ := x2 s hs a i p
          exact ⟨i * ny + t, (e s hs t ht a _).mpr (Or.inl ⟨i, p, rfl⟩), (ih i t c2 ht).mpr ⟨u', v, sh, hu, hv⟩⟩
        · obtain ⟨j, p, hv⟩ := hv
          obtain ⟨_, c1, c2⟩ := y2 t ht a j p
          exact ⟨s * ny + j, (e s hs t ht a _).mpr (Or.inr ⟨j, p, rfl⟩), (ih s j hs c2).mpr ⟨u, v', sh, hu, hv⟩⟩
  refine ⟨Nat.mul_pos x1 y1, ?_, ?_, ?_⟩
  · intro i hi a r h
    obtain ⟨s, t, hs, ht, rfl⟩ := zm_unpair hi
    rcases (e s hs t ht a r).mp h with ⟨i, p, rfl⟩ | ⟨j, p, rfl⟩
    · obtain ⟨c0, c1, c2⟩ := x2 s hs a i p
      refine ⟨c0, ?_, zm_pairlt c2 ht⟩
      have := Nat.mul_pos c1 y1
      omega
    · obtain ⟨c0, c1, c2⟩ := y2 t ht a j p
      exact ⟨c0, by omega, zm_pairlt hs c2⟩
  · intro i hi
    obtain ⟨s, t, hs, ht, rfl⟩ := zm_unpair hi
    obtain ⟨u, hu⟩ := x3 s hs
    obtain ⟨v, hv⟩ := y3 t ht
    refine ⟨u ++ v, (hd _ s t hs ht).mpr ⟨u, v, ?_, hu, hv⟩⟩
    exact (zl_Sh_append _ _ _ _).mpr ⟨u, [], [], v, (List.append_nil _).symm, rfl, zl_Sh_left _, zl_Sh_right _⟩
  · intro w
    have h0 := hd w 0 0 x1 y1
    rw [Nat.zero_mul, Nat.zero_add] at h0
    rw [h0]
    constructor
    · rintro ⟨u, v, sh, hu, hv⟩
      exact ⟨u, v, sh, (x4 u).mp hu, (y4 v).mp hv⟩
    · rintro ⟨u, v, sh, hu, hv⟩
      exact ⟨u, v, sh, (x4 u).mpr hu, (y4 v).mpr hv⟩
theorem zm_loop {n : Nat} {E E' : Nat → Nat → Nat → Prop} {F F' : Nat → Prop} {A : zl_L} (hA : zm_M n E F A)
    (e0 : ∀ a t, E' 0 a t ↔ E 0 a t)
    (e : ∀ s, 1 ≤ s → s < n → ∀ a t, E' s a t ↔ (E s a t ∨ (F s ∧ E 0 a t)))
    (f0 : F' 0) (f : ∀ s, 1 ≤ s → s < n → (F' s ↔ F s)) : zm_M n E' F' (zl_star A) := by
  obtain ⟨x1, x2, x3, x4⟩ := hA
  have z0 : ∀ a w, (∃ t, E 0 a t ∧ ∃ u v, w = u ++ v ∧ zl_Acc E F u t ∧ zl_star A v) ↔ zl_star A (a :: w) := by
    intro a w
    constructor
    · rintro ⟨t, h, u, v, ew, hu, hv⟩
      rw [ew]
      exact zl_star_cons (u := a :: u) ((x4 _).mp ⟨t, h, hu⟩) hv
    · intro h
      obtain ⟨u, v, ew, hu0, hu, hv⟩ := zl_star_split h (fun z => by cases z)
      cases u with
      | nil => exact absurd rfl hu0
      | cons b u =>
        rw [List.cons_append] at ew
        injection ew with ea ew
        subst ea
        obtain ⟨t, p, q⟩ := (x4 _).mpr hu
        exact ⟨t, p, u, v, ew, q, hv⟩
  have hd : ∀ w s, 1 ≤ s → s < n → (zl_Acc E' F' w s ↔ ∃ u v, w = u ++ v ∧ zl_Acc E F u s ∧ zl_star A v) := by
    intro w
    induction w with
    | nil =>
      intro s h1 hs
      constructor
      · intro h
        exact ⟨[], [], rfl, (f s h1 hs).mp h, zl_star_nil A⟩
      · rintro ⟨u, v, ew, hu, hv⟩
        obtain ⟨rfl, rfl⟩ := List.append_eq_nil_iff.mp ew.symm
        exact (f s h1 hs).mpr hu
    | cons a w ih =>
      intro s h1 hs
      constructor
      · rintro ⟨t, h, h2⟩
        rcases (e s h1 hs a t).mp h with p | ⟨p, q⟩
        · obtain ⟨_, c1, c2⟩ := x2 s hs a t p
          obtain ⟨u, v, ew, hu, hv⟩ := (ih t c1 c2).mp h2
          exact ⟨a :: u, v, by rw [ew]; rfl, ⟨t, p, hu⟩, hv⟩
        · obtain ⟨_, c1, c2⟩ := x2 0 (by omega) a t q
          exact ⟨[], a :: w, rfl, p, (z0 a w).mp ⟨t, q, (ih t c1 c2).mp h2⟩⟩
      · rintro ⟨u, v, ew, hu, hv⟩
        cases u with
        | nil =>
          have e' : v = a :: w := ew.symm
          subst e'
          obtain ⟨t, p, h3⟩ := (z0 a w).mpr hv
          obtain ⟨_, c1, c2⟩ := x2 0 (by omega) a t p
          exact ⟨t, (e s h1 hs a t).mpr (Or.inr ⟨hu, p⟩), (ih t c1 c2).mpr h3⟩
        | cons b u =>
          rw [List.cons_append] at ew
          injection ew with ea ew
          subst ea
          obtain ⟨t, p, q⟩ := hu
          obtain ⟨_, c1, c2⟩ := x2 s hs a t p
          exact ⟨t, (e s h1 hs a t).mpr (Or.inl p), (ih t c1 c2).mpr ⟨u, v, ew, q, hv⟩⟩
  have h0 : ∀ w, zl_Acc E' F' w 0 ↔ zl_star A w := by
    intro w
    cases w with
    | nil => exact ⟨fun _ => zl_star_nil A, fun _ => f0⟩
    | cons a w =>
      rw [← z0 a w]
      constructor
      · rintro ⟨t, h, h2⟩
        have p := (e0 a t).mp h
        obtain ⟨_, c1, c2⟩ := x2 0 (by omega) a t p
        exact ⟨t, p, (hd w t c1 c2).mp h2⟩
      · rintro ⟨t, p, h2⟩
        obtain ⟨_, c1, c2⟩ := x2 0 (by omega) a t p
        exact ⟨t, (e0 a t).mpr p, (hd w t c1 c2).mpr h2⟩
  refine ⟨x1, ?_, ?_, h0⟩
  · intro s hs a t h
    rcases Nat.eq_zero_or_pos s with z | z
    · subst z
      exact x2 0 hs a t ((e0 a t).mp h)
    · rcases (e s z hs a t).mp h with p | ⟨_, q⟩
      · exact x2 s hs a t p
      · exact x2 0 (by omega) a t q
  · intro s hs
    rcases Nat.eq_zero_or_pos s with z | z
    · subst z
      exact ⟨[], f0⟩
    · obtain ⟨u, hu⟩ := x3 s hs
      exact ⟨u, (hd u s z hs).mpr ⟨u, [], (List.append_nil _).symm, hu, zl_star_nil A⟩⟩
theorem zm_opt {n : Nat} {E E' : Nat → Nat → Nat → Prop} {F F' : Nat → Prop} {A : zl_L} (hA : zm_M n E F A)
    (e : ∀ s, s < n → ∀ a t, E' s a t ↔ E s a t)
    (f0 : F' 0) (f : ∀ s, 1 ≤ s → s < n → (F' s ↔ F s)) : zm_M n E' F' (zl_opt A) := by
  obtain ⟨x1, x2, x3, x4⟩ := hA
  have hd : ∀ w s, 1 ≤ s → s < n → (zl_Acc E' F' w s ↔ zl_Acc E F w s) := by
    intro w
    induction w with
    | nil => exact fun s h1 hs => f s h1 hs
    | cons a w ih =>
      intro s h1 hs
      constructor
      · rintro ⟨t, h, h2⟩
        have p := (e s hs a t).mp h
        obtain ⟨_, c1, c2⟩ := x2 s hs a t p
        exact ⟨t, p, (ih t c1 c2).mp h2⟩
      · rintro ⟨t, p, h2⟩
        obtain ⟨_, c1, c2⟩ := x2 s hs a t p
        exact ⟨t, (e s hs a t).mpr p, (ih t c1 c2).mpr h2⟩
  have h0 : ∀ w, zl_Acc E' F' w 0 ↔ zl_opt A w := by
    intro w
    cases w with
    | nil => exact ⟨fun _ => Or.inl rfl, fun _ => f0⟩
    | cons a w =>
      constructor
      · rintro ⟨t, h, h2⟩
        have p := (e 0 (by omega) a t).mp h
        obtain ⟨_, c1, c2⟩ := x2 0 (by omega) a t p
        exact Or.inr ((x4 _).mp ⟨t, p, (hd w t c1 c2).mp h2⟩)
      · rintro (h | h)
        · cases h
        · obtain ⟨t, p, q⟩ := (x4 _).mpr h
          obtain ⟨_, c1, c2⟩ := x2 0 (by omega) a t p
          exact ⟨t, (e 0 (by omega) a t).mpr p, (hd w t c1 c2).mpr q⟩
  refine ⟨x1, fun s hs a t h => x2 s hs a t ((e s hs a t).mp h), ?_, h0⟩
  intro s hs
  rcases Nat.eq_zero_or_pos s with z | z
  · subst z
    exact ⟨[], f0⟩
  · obtain ⟨u, hu⟩ := x3 s hs
    exact ⟨u, (hd u s z hs).mpr hu⟩
/-! sets of states after a word -/
def zm_R (n : Nat) (E : Nat → Nat → Nat → Prop) (F : Nat → Prop) (L : zl_L) (R : Nat → Prop) (w : List Nat) : Prop :=
  (∀ t, R t → t < n) ∧ ∀ v, (∃ t, R t ∧ zl_Acc E F v t) ↔ L (w ++ v)
theorem zm_R0 {n : Nat} {E : Nat → Nat → Nat → Prop} {F : Nat → Prop} {L : zl_L} {R : Nat → Prop} (h : zm_M n E F L) (hR : ∀ t, R t ↔ t = 0) : zm_R n E F L R [] := by
  obtain ⟨x1, x2, x3, x4⟩ := h
  refine ⟨fun t ht => by rw [(hR t).mp ht]; exact x1, fun v => ?_⟩
  rw [List.nil_append, ← x4 v]
  constructor
  · rintro ⟨t, ht, h⟩
    rw [← (hR t).mp ht]
    exact h
  · intro h
    exact ⟨0, (hR 0).mpr rfl, h⟩
theorem zm_Rstep {n : Nat} {E : Nat → Nat → Nat → Prop} {F : Nat → Prop} {L : zl_L} {R R' : Nat → Prop} {w : List Nat} {k : Nat} (h : zm_M n E F L) (hR : zm_R n E F L R w)
    (hR' : ∀ t, R' t ↔ ∃ s, R s ∧ E s k t) : zm_R n E F L R' (w ++ [k]) := by
  obtain ⟨r1, r2⟩ := hR
  refine ⟨?_, fun v => ?_⟩
  · intro t ht
    obtain ⟨s, hs, he⟩ := (hR' t).mp ht
    exact (h.2.1 s (r1 s hs) k t he).2.2
  · rw [List.append_assoc, List.singleton_append, ← r2 (k :: v)]
    constructor
    · rintro ⟨t, ht, hv⟩
      obtain ⟨s, hs, he⟩ := (hR' t).mp ht
      exact ⟨s, hs, t, he, hv⟩
    · rintro ⟨s, hs, t, he, hv⟩
      exact ⟨t, (hR' t).mpr ⟨s, hs, he⟩, hv⟩
/-- near d: the states from which an allowed word of length at most d is accepted -/
def zm_near (n : Nat) (E : Nat → Nat → Nat → Prop) (F : Nat → Prop) (al : Nat → Prop) (d : Nat) (s : Nat) : Prop :=
  s < n ∧ ∃ v : List Nat, v.length ≤ d ∧ (∀ a, a ∈ v → al a) ∧ zl_Acc E F v s
theorem zm_near0 {n : Nat} {E : Nat → Nat → Nat → Prop} {F : Nat → Prop} {al : Nat → Prop} (s : Nat) : zm_near n E F al 0 s ↔ s < n ∧ F s := by
  constructor
  · rintro ⟨hs, v, hl, _, h⟩
    have : v = [] := List.length_eq_zero_iff.mp (by omega)
    subst this
    exact ⟨hs, h⟩
  · rintro ⟨hs, h⟩
    exact ⟨hs, [], Nat.le_refl 0, fun _ z => absurd z List.not_mem_nil, h⟩
theorem zm_nearS {n : Nat} {E : Nat → Nat → Nat → Prop} {F : Nat → Prop} {al : Nat → Prop} (hc : ∀ s, s < n → ∀ a t, E s a t → t < n) (d : Nat) (s : Nat) :
    zm_near n E F al (d + 1) s ↔ zm_near n E F al d s ∨ (s < n ∧ ∃ a t, al a ∧ E s a t ∧ zm_near n E F al d t) := by
  constructor
  · rintro ⟨hs, v, hl, ha, h⟩
    cases v with
    | nil => exact Or.inl ⟨hs, [], Nat.zero_le _, ha, h⟩
    | cons a v =>
      obtain ⟨t, he, h2⟩ := h
      rw [List.length_cons] at hl
      exact Or.inr ⟨hs, a, t, ha a List.mem_cons_self, he, hc s hs a t he, v, by omega, fun b hb => ha b (List.mem_cons_of_mem _ hb), h2⟩
  · rintro (⟨hs, v, hl, ha, h⟩ | ⟨hs, a, t, h1, he, ht, v, hl, ha, h⟩)
    · exact ⟨hs, v, by omega, ha, h⟩
    · refine ⟨hs, a :: v, by rw [List.length_cons]; omega, ?_, t, he, h⟩
      intro b hb
      rcases List.mem_cons.mp hb with z | z
      · rw [z]; exact h1
      · exact ha b z
/-- once a round adds nothing, no later round does -/
theorem zm_stuck {n : Nat} {E : Nat → Nat → Nat → Prop} {F : Nat → Prop} {al : Nat → Prop} (hc : ∀ s, s < n → ∀ a t, E s a t → t < n) {d : Nat}
    (h : ∀ s, zm_near n E F al (d + 1) s → zm_near n E F al d s) : ∀ j s, zm_near n E F al (d + j) s → zm_near n E F al d s := by
  intro j
  induction j with
  | zero => exact fun s z => z
  | succ j ih =>
    intro s z
    rcases (zm_nearS hc (d + j) s).mp z with p | ⟨hs, a, t, h1, he, ht⟩
    · exact ih s p
    · exact h s ((zm_nearS hc d s).mpr (Or.inr ⟨hs, a, t, h1, he, ih t ht⟩))
/-- what the search answers, in words of the language -/
theorem zm_ext {n : Nat} {E : Nat → Nat → Nat → Prop} {F : Nat → Prop} {L : zl_L} {R : Nat → Prop} {w : List Nat} {al : Nat → Prop} (hR : zm_R n E F L R w) (d : Nat) :
    (∃ d', d' ≤ d ∧ zl_Ext L al w d') ↔ ∃ s, R s ∧ zm_near n E F al d s := by
  obtain ⟨r1, r2⟩ := hR
  constructor
  · rintro ⟨d', hd, v, hl, ha, h⟩
    obtain ⟨t, ht, hv⟩ := (r2 v).mpr h
    exact ⟨t, ht, r1 t ht, v, by omega, ha, hv⟩
  · rintro ⟨t, ht, _, v, hl, ha, hv⟩
    exact ⟨v.length, hl, v, rfl, ha, (r2 v).mp ⟨t, ht, hv⟩⟩
/-- the answer of the search: d if d is the least, at most 64; or none at all -/
def zm_Ans (L : zl_L) (al : Nat → Prop) (w : List Nat) (r : Int32) : Prop :=
  (∃ d, d ≤ 64 ∧ r = nI d ∧ zl_Ext L al w d ∧ ∀ d', d' < d → ¬ zl_Ext L al w d') ∨ (r = -4 ∧ ∀ d, ¬ zl_Ext L al w d)
end
section
/-! the word at the places of a set -/
def zw_w (lg : Nat → Nat) : Nat → Nat → List Nat
  | 0, _ => []
  | p + 1, s => zw_w lg p s ++ (if s.testBit p = true then [lg p] else [])
theorem zw_s1 {lg : Nat → Nat} {p s : Nat} (h : s.testBit p = true) : zw_w lg (p + 1) s = zw_w lg p s ++ [lg p] := by
  show zw_w lg p s ++ (if s.testBit p = true then [lg p] else []) = _
  rw [if_pos h]
theorem zw_s0 {lg : Nat → Nat} {p s : Nat} (h : s.testBit p = false) : zw_w lg (p + 1) s = zw_w lg p s := by
  show zw_w lg p s ++ (if s.testBit p = true then [lg p] else []) = _
  rw [h, if_neg (by decide), List.append_nil]
theorem zw_congr {lg : Nat → Nat} : ∀ {p s s' : Nat}, (∀ i, i < p → s.testBit i = s'.testBit i) → zw_w lg p s = zw_w lg p s' := by
  intro p
  induction p with
  | zero => intro s s' _; rfl
  | succ p ih =>
    intro s s' h
    have e := ih (s := s) (s' := s') (fun i hi => h i (by omega))
    cases hb : s.testBit p with
    | true => rw [zw_s1 hb, zw_s1 ((h p (by omega)).symm.trans hb), e]
    | false => rw [zw_s0 hb, zw_s0 ((h p (by omega)).symm.trans hb), e]
theorem zw_lgc {lg lg' : Nat → Nat} : ∀ {p s : Nat}, (∀ i, i < p → lg i = lg' i) → zw_w lg p s = zw_w lg' p s := by
  intro p
  induction p with
  | zero => intro s _; rfl
  | succ p ih =>
    intro s h
    have e := ih (s := s) (fun i hi => h i (by omega))
    cases hb : s.testBit p with
    | true => rw [zw_s1 hb, zw_s1 hb, e, h p (by omega)]
    | false => rw [zw_s0 hb, zw_s0 hb, e]
theorem zw_sub {s p : Nat} : ∀ j, (s % 2 ^ p).testBit j = true → s.testBit j = true := by
  intro j h
  rw [Nat.testBit_mod_two_pow, Bool.and_eq_true] at h
  exact h.2
theorem zw_hi {s p : Nat} (i : Nat) : (s - s % 2 ^ p).testBit i = (decide (p ≤ i) && s.testBit i) := by
  rw [(zb_sub i s (s % 2 ^ p) zw_sub).2, Nat.testBit_mod_two_pow]
  by_cases h : i < p
  · rw [decide_eq_true h, decide_eq_false (Nat.not_le.mpr h)]
    cases s.testBit i <;> rfl
  · rw [decide_eq_false h, decide_eq_true (Nat.not_lt.mp h)]
    cases s.testBit i <;> rfl
theorem zw_lo {lg : Nat → Nat} {s p : Nat} : ∀ j, zw_w lg (p + j) (s % 2 ^ p) = zw_w lg p s := by
  intro j
  induction j with
  | zero =>
    apply zw_congr
    intro i hi
    rw [Nat.testBit_mod_two_pow, decide_eq_true (show i < p by omega), Bool.true_and]
  | succ j ih =>
    rw [← Nat.add_assoc, zw_s0, ih]
    rw [Nat.testBit_mod_two_pow, decide_eq_false (by omega), Bool.false_and]
theorem zw_split {lg : Nat → Nat} {s p : Nat} : ∀ j, zw_w lg (p + j) s = zw_w lg p s ++ zw_w lg (p + j) (s - s % 2 ^ p) := by
  intro j
  induction j with
  | zero =>
    have e : zw_w lg (p + 0) (s - s % 2 ^ p) = [] := by
      have : zw_w lg p (s - s % 2 ^ p) = zw_w lg p 0 := zw_congr (fun i hi => by
        rw [zw_hi, decide_eq_false (Nat.not_le.mpr hi), Bool.false_and, Nat.zero_testBit])
      rw [Nat.add_zero, this]
      clear this
      induction p with
      | zero => rfl
      | succ p ih => rw [zw_s0 (Nat.zero_testBit p), ih]
    rw [e, List.append_nil, Nat.add_zero]
  | succ j ih =>
    have hb : (s - s % 2 ^ p).testBit (p + j) = s.testBit (p + j) := by
      rw [zw_hi, decide_eq_true (by omega), Bool.true_and]
    rw [← Nat.add_assoc]
    cases h : s.testBit (p + j) with
    | true => rw [zw_s1 h, zw_s1 (hb.trans h), ih, List.append_assoc]
    | false => rw [zw_s0 h, zw_s0 (hb.trans h), ih]
theorem zw_pre {lg : Nat → Nat} {s : Nat} : ∀ (P : Nat) (u v : List Nat), zw_w lg P s = u ++ v → ∃ p, p ≤ P ∧ u = zw_w lg p s := by
  intro P
  induction P with
  | zero =>
    intro u v h
    exact ⟨0, Nat.le_refl 0, (List.append_eq_nil_iff.mp h.symm).1⟩
  | succ P ih =>
    intro u v h
    cases hb : s.testBit P with
    | false =>
      rw [zw_s0 hb] at h
      obtain ⟨p, hp, e⟩ := ih u v h
      exact ⟨p, by omega, e⟩
    | true =>
      by_cases hv : v = []
      · subst hv
        rw [List.append_nil] at h
        exact ⟨P + 1, Nat.le_refl _, h.symm⟩
      · rw [zw_s1 hb] at h
        obtain ⟨v', x, rfl⟩ : ∃ v' x, v = v' ++ [x] := ⟨v.dropLast, v.getLast hv, (List.dropLast_concat_getLast hv).symm⟩
        rw [← List.append_assoc] at h
        obtain ⟨e1, _⟩ := List.append_inj' h rfl
        obtain ⟨p, hp, e⟩ := ih u v' e1
        exact ⟨p, by omega, e⟩
/-- every way of parting the word in two is one of the ways of parting the places -/
theorem zw_part {lg : Nat → Nat} {s P : Nat} {u v : List Nat} (h : zw_w lg P s = u ++ v) : ∃ p, p ≤ P ∧ u = zw_w lg P (s % 2 ^ p) ∧ v = zw_w lg P (s - s % 2 ^ p) := by
  obtain ⟨p, hp, e⟩ := zw_pre P u v h
  obtain ⟨j, rfl⟩ : ∃ j, P = p + j := ⟨P - p, by omega⟩
  refine ⟨p, hp, by rw [zw_lo, e], ?_⟩
  rw [zw_split j, e] at h
  exact (List.append_cancel_left h).symm
theorem zw_cat {lg : Nat → Nat} {s p P : Nat} (hp : p ≤ P) : zw_w lg P s = zw_w lg P (s % 2 ^ p) ++ zw_w lg P (s - s % 2 ^ p) := by
  obtain ⟨j, rfl⟩ : ∃ j, P = p + j := ⟨P - p, by omega⟩
  rw [zw_lo]
  exact zw_split j
theorem zw_0 {lg : Nat → Nat} : ∀ P, zw_w lg P 0 = [] := by
  intro P
  induction P with
  | zero => rfl
  | succ P ih => rw [zw_s0 (Nat.zero_testBit P), ih]
theorem zw_nil {lg : Nat → Nat} : ∀ {P s : Nat}, zw_w lg P s = [] → ∀ i, i < P → s.testBit i = false := by
  intro P
  induction P with
  | zero => intro s _ i hi; omega
  | succ P ih =>
    intro s h i hi
    cases hb : s.testBit P with
    | true =>
      rw [zw_s1 hb] at h
      exact absurd (List.append_eq_nil_iff.mp h).2 (by simp)
    | false =>
      rw [zw_s0 hb] at h
      rcases Nat.lt_or_ge i P with c | c
      · exact ih h i c
      · have : i = P := by omega
        rw [this]; exact hb
theorem zw_ne {lg : Nat → Nat} {P s : Nat} (hs : s < 2 ^ P) (h0 : s ≠ 0) : zw_w lg P s ≠ [] := by
  intro h
  apply h0
  apply Nat.eq_of_testBit_eq
  intro i
  rw [Nat.zero_testBit]
  rcases Nat.lt_or_ge i P with c | c
  · exact zw_nil h i c
  · exact Nat.testBit_lt_two_pow (Nat.lt_of_lt_of_le hs (Nat.pow_le_pow_right (by decide) c))
theorem zw_one {lg : Nat → Nat} {p : Nat} : ∀ P, p < P → zw_w lg P (2 ^ p) = [lg p] := by
  intro P
  induction P with
  | zero => intro h; omega
  | succ P ih =>
    intro h
    by_cases e : p = P
    · subst e
      rw [zw_s1 Nat.testBit_two_pow_self]
      have : zw_w lg p (2 ^ p) = zw_w lg p 0 := zw_congr (fun i hi => by
        rw [Nat.testBit_two_pow_of_ne (by omega), Nat.zero_testBit])
      rw [this, zw_0]; rfl
    · rw [zw_s0 (Nat.testBit_two_pow_of_ne e), ih (by omega)]
theorem zw_single {lg : Nat → Nat} {k : Nat} : ∀ {P s : Nat}, s < 2 ^ P → zw_w lg P s = [k] → ∃ p, p < P ∧ s = 2 ^ p ∧ lg p = k := by
  intro P
  induction P with
  | zero => intro s _ h; exact absurd h (by unfold zw_w; simp)
  | succ P ih =>
    intro s hs h
    cases hb : s.testBit P with
    | true =>
      rw [zw_s1 hb] at h
      have h1 : zw_w lg P s ++ [lg P] = [] ++ [k] := h
      obtain ⟨e1, e2⟩ := List.append_inj' h1 rfl
      refine ⟨P, by omega, ?_, by injection e2⟩
      apply Nat.eq_of_testBit_eq
      intro i
      rcases Nat.lt_trichotomy i P with c | c | c
      · rw [zw_nil e1 i c, Nat.testBit_two_pow_of_ne (by omega)]
      · subst c; rw [hb, Nat.testBit_two_pow_self]
      · rw [Nat.testBit_two_pow_of_ne (by omega)]
        exact Nat.testBit_lt_two_pow (Nat.lt_of_lt_of_le hs (Nat.pow_le_pow_right (by decide) c))
    | false =>
      rw [zw_s0 hb] at h
      have hs' : s < 2 ^ P := by
        apply Nat.lt_pow_two_of_testBit
        intro i hi
        rcases Nat.eq_or_lt_of_le hi with c | c
        · rw [← c]; exact hb
        · exact Nat.testBit_lt_two_pow (Nat.lt_of_lt_of_le hs (Nat.pow_le_pow_right (by decide) c))
      obtain ⟨p, hp, e1, e2⟩ := ih hs' h
      exact ⟨p, by omega, e1, e2⟩
theorem zw_full {lg : Nat → Nat} (P Q : Nat) (hQ : P ≤ Q) : zw_w lg P (2 ^ Q - 1) = (List.range P).map lg := by
  induction P with
  | zero => rfl
  | succ P ih =>
    rw [zw_s1 (by rw [Nat.testBit_two_pow_sub_one, decide_eq_true (by omega)]), ih (by omega), List.range_succ, List.map_append]
    rfl
/-! parts of a set: shuffles -/
theorem zw_sh {lg : Nat → Nat} {s q : Nat} (h : ∀ j, q.testBit j = true → s.testBit j = true) : ∀ P, zl_Sh (zw_w lg P s) (zw_w lg P q) (zw_w lg P (s - q)) := by
  intro P
  induction P with
  | zero => exact ⟨rfl, rfl⟩
  | succ P ih =>
    have hb := (zb_sub P s q h).2
    cases hs : s.testBit P with
    | false =>
      have hq : q.testBit P = false := by
        cases c : q.testBit P with
        | false => rfl
        | true => rw [h P c] at hs; exact absurd hs (by decide)
      rw [hs, hq] at hb
      rw [zw_s0 hs, zw_s0 hq, zw_s0 hb]
      exact ih
    | true =>
      rw [hs] at hb
      rw [zw_s1 hs]
      cases hq : q.testBit P with
      | true =>
        rw [hq] at hb
        rw [zw_s1 hq, zw_s0 hb]
        exact (zl_Sh_append _ _ _ _).mpr ⟨_, [lg P], _, [], rfl, (List.append_nil _).symm, ih, zl_Sh_left _⟩
      | false =>
        rw [hq] at hb
        rw [zw_s0 hq, zw_s1 hb]
        exact (zl_Sh_append _ _ _ _).mpr ⟨_, [], _, [lg P], (List.append_nil _).symm, rfl, ih, zl_Sh_right _⟩
theorem zw_shc {lg : Nat → Nat} {s : Nat} : ∀ (P : Nat) (u v : List Nat), zl_Sh (zw_w lg P s) u v →
    ∃ q, q < 2 ^ P ∧ (∀ j, q.testBit j = true → s.testBit j = true) ∧ u = zw_w lg P q ∧ v = zw_w lg P (s - q) := by
  intro P
  induction P with
  | zero =>
    rintro u v ⟨rfl, rfl⟩
    exact ⟨0, by decide, fun j hj => by rw [Nat.zero_testBit] at hj; exact absurd hj (by decide), rfl, rfl⟩
  | succ P ih =>
    intro u v h
    cases hs : s.testBit P with
    | false =>
      rw [zw_s0 hs] at h
      obtain ⟨q, hq, hsub, e1, e2⟩ := ih u v h
      have b0 : q.testBit P = false := Nat.testBit_lt_two_pow hq
      have hb := (zb_sub P s q hsub).2
      rw [hs, b0] at hb
      refine ⟨q, by rw [Nat.pow_succ]; omega, hsub, ?_, ?_⟩
      · rw [zw_s0 b0]; exact e1
      · rw [zw_s0 hb]; exact e2
    | true =>
      rw [zw_s1 hs] at h
      obtain ⟨u1, u2, v1, v2, e1, e2, h1, h2⟩ := (zl_Sh_append _ _ _ _).mp h
      obtain ⟨q, hq, hsub, f1, f2⟩ := ih u1 v1 h1
      have b0 : q.testBit P = false := Nat.testBit_lt_two_pow hq
      rcases h2 with ⟨u', g1, g2, g3⟩ | ⟨v', g1, g2, g3⟩
      · subst g2 g3 g1
        have hsub' : ∀ j, (q ||| 2 ^ P).testBit j = true → s.testBit j = true := by
          intro j hj
          rw [Nat.testBit_or, Bool.or_eq_true] at hj
          rcases hj with c | c
          · exact hsub j c
          · rw [Nat.testBit_two_pow, decide_eq_true_eq] at c
            rw [← c]; exact hs
        have b1 : (q ||| 2 ^ P).testBit P = true := by rw [Nat.testBit_or, Nat.testBit_two_pow_self, Bool.or_true]
        have hb := (zb_sub P s _ hsub').2
        rw [hs, b1] at hb
        refine ⟨q ||| 2 ^ P, Nat.or_lt_two_pow (by rw [Nat.pow_succ]; omega) (Nat.pow_lt_pow_right (by decide) (by omega)), hsub', ?_, ?_⟩
        · rw [zw_s1 b1, e1, f1]
          congr 1
          apply zw_congr
          intro i hi
          rw [Nat.testBit_or, Nat.testBit_two_pow_of_ne (by omega), Bool.or_false]
        · rw [zw_s0 hb, e2, List.append_nil, f2]
          apply zw_congr
          intro i hi
          rw [(zb_sub i s _ hsub').2, (zb_sub i s _ hsub).2, Nat.testBit_or, Nat.testBit_two_pow_of_ne (by omega), Bool.or_false]
      · subst g2 g3 g1
        have hb := (zb_sub P s q hsub).2
        rw [hs, b0] at hb
        refine ⟨q, by rw [Nat.pow_succ]; omega, hsub, ?_, ?_⟩
        · rw [zw_s0 b0, e1, List.append_nil]; exact f1
        · rw [zw_s1 hb, e2, f2]
end
section
/-! small numbers; the growth of the stack of X: clearEdges and the method that pushes -/
theorem zn_ix (s i : Nat) : nI s * 4 + nI i = nI (s * 4 + i) := by
  show nI s * nI 4 + nI i = _
  rw [pk_mul, nI_add]
theorem zn_nb01 (x : Int32) : vp_nar .boolean x = 0 ∨ vp_nar .boolean x = 1 := by
  obtain ⟨j, hj, e⟩ := pk_andE x (m := 1) 1 (by decide)
  have e' : vp_nar .boolean x = nI j := e
  have c : j = 0 ∨ j = 1 := by omega
  rcases c with rfl | rfl
  · exact Or.inl e'
  · exact Or.inr e'
theorem zn_nbk {x : Int32} (h : x = 0 ∨ x = 1) : vp_nar .boolean x = x := by
  rcases h with rfl | rfl <;> rfl
theorem zn_b0 : vp_nar .boolean 0 = 0 := rfl
theorem zn_b1 : vp_nar .boolean 1 = 1 := rfl
theorem zn_10 : ¬ (1 : Int32) = 0 := by decide
def zx_B (a : Nat → Int32) : Prop := ∀ j, a j = 0 ∨ a j = 1
theorem zx_Bu {a : Nat → Int32} {k : Nat} {x : Int32} (h : zx_B a) : zx_B (upd a k (vp_nar .boolean x)) := by
  intro j
  by_cases e : j = k
  · subst e; rw [pk_us]; exact zn_nb01 x
  · rw [pk_un e]; exact h j
section
variable {f_height f_made f_events f_joined f_states f_logged : Int32} {f_finals : Int64} {a_base a_size a_ends a_joinEnds a_log : Nat → Int32} {a_edge a_joinEdge a_move a_reach : Nat → Int64}
theorem zx_clear {post : SX → Prop} {p0 : Int32} (s : Nat) (e0 : p0 = nI s) (hs : s < 80)
    (K : ∀ e' : Nat → Int64, (∀ k, k < 4 → e' (s * 4 + k) = 0) → (∀ j, (j < s * 4 ∨ s * 4 + 4 ≤ j) → e' j = a_edge j) → post (f_height, f_made, f_events, f_joined, f_states, f_finals, f_logged, a_base, a_size, e', a_ends, a_joinEdge, a_joinEnds, a_move, a_log, a_reach)) :
    wpX_clearEdges post (f_height, f_made, f_events, f_joined, f_states, f_finals, f_logged, a_base, a_size, a_edge, a_ends, a_joinEdge, a_joinEnds, a_move, a_log, a_reach) p0 := by
  subst e0
  show ∃ n, wX_clearEdges_2 post (nI s) f_height f_made f_events f_joined f_states f_finals f_logged n 0 a_base a_size a_edge a_ends a_joinEdge a_joinEnds a_move a_log a_reach
  refine loop_0 (fun n i e => wX_clearEdges_2 post (nI s) f_height f_made f_events f_joined f_states f_finals f_logged n (nI i) a_base a_size e a_ends a_joinEdge a_joinEnds a_move a_log a_reach) (fun i e => (∀ k, k < i → e (s * 4 + k) = 0) ∧ (∀ j, (j < s * 4 ∨ s * 4 + i ≤ j) → e j = a_edge j)) 4 a_edge ?_ ?_ ?_
  · exact ⟨fun k hk => by omega, fun j _ => rfl⟩
  · intro n e h
    exact br_t (by decide : (4 : Int32) ≤ nI 4) (K e h.1 h.2)
  · intro n i e hi h ih
    have ix := zn_ix s i
    refine br_f (nI_ge (b := 4) hi (by decide)) ⟨by rw [ix]; exact vp_in_nI (by omega) (by decide), ?_⟩
    refine nm_r (e' := vp_updL e (s * 4 + i) 0) (by rw [ix, nI_clamp (by omega)]) (nm_r (nI_1 i) (ih _ ⟨?_, ?_⟩))
    · intro k hk
      by_cases c : k = i
      · subst c; exact pk_uLs
      · rw [pk_uLn (by omega)]; exact h.1 k (by omega)
    · intro j hj
      rw [pk_uLn (by omega)]; exact h.2 j (by omega)
theorem zx_open65 {post : Int32 → SX → Prop} (c top : Nat) (ht : top + c ≤ 80)
    (K : ∀ (e' : Nat → Int64) (n' : Nat → Int32), (∀ j, top ≤ j → j < top + c → n' j = 0) → (∀ j, (j < top ∨ top + c ≤ j) → n' j = a_ends j) →
      (∀ j, top * 4 ≤ j → j < (top + c) * 4 → e' j = 0) → (∀ j, (j < top * 4 ∨ (top + c) * 4 ≤ j) → e' j = a_edge j) → post (nI top) (f_height, f_made, f_events, f_joined, f_states, f_finals, f_logged, a_base, a_size, e', n', a_joinEdge, a_joinEnds, a_move, a_log, a_reach)) :
    ∃ n, wX_open_65 post (nI c) (nI top) n (nI top) f_height f_made f_events f_joined f_states f_finals f_logged a_base a_size a_edge a_ends a_joinEdge a_joinEnds a_move a_log a_reach := by
  refine loop_0 (fun n i (σ : (Nat → Int64) × (Nat → Int32)) => wX_open_65 post (nI c) (nI top) n (nI (top + i)) f_height f_made f_events f_joined f_states f_finals f_logged a_base a_size σ.1 σ.2 a_joinEdge a_joinEnds a_move a_log a_reach)
    (fun i σ => (∀ j, top ≤ j → j < top + i → σ.2 j = 0) ∧ (∀ j, (j < top ∨ top + i ≤ j) → σ.2 j = a_ends j) ∧
      (∀ j, top * 4 ≤ j → j < (top + i) * 4 → σ.1 j = 0) ∧ (∀ j, (j < top * 4 ∨ (top + i) * 4 ≤ j) → σ.1 j = a_edge j)) c (a_edge, a_ends) ?_ ?_ ?_
  · exact ⟨fun j h1 h2 => by omega, fun j _ => rfl, fun j h1 h2 => by omega, fun j _ => rfl⟩
  · rintro n ⟨e, m⟩ ⟨h1, h2, h3, h4⟩
    exact br_t (by rw [nI_add]; exact nI_le (Nat.le_refl _) (by omega)) (K e m h1 h2 h3 h4)
  · rintro n i ⟨e, m⟩ hi ⟨h1, h2, h3, h4⟩ ih
    dsimp only at h1 h2 h3 h4
    refine br_f (by rw [nI_add]; exact nI_ge (by omega) (by omega)) ⟨vp_in_nI (by omega) (by decide), ?_⟩
    refine nm_r (e' := upd m (top + i) 0) (by rw [nI_clamp (by omega), zn_b0]) ?_
    refine zx_clear (top + i) rfl (by omega) (fun e' k1 k2 => ?_)
    refine nm_r (nI_1 (top + i)) (ih (e', upd m (top + i) 0) ⟨?_, ?_, ?_, ?_⟩)
    · intro j a b
      show upd m (top + i) 0 j = 0
      by_cases z : j = top + i
      · subst z; exact pk_us
      · rw [pk_un z]; exact h1 j a (by omega)
    · intro j a
      show upd m (top + i) 0 j = a_ends j
      rw [pk_un (by omega)]; exact h2 j (by omega)
    · intro j a b
      show e' j = 0
      rcases Nat.lt_or_ge j ((top + i) * 4) with z | z
      · rw [k2 j (Or.inl z)]; exact h3 j a z
      · obtain ⟨k, rfl⟩ : ∃ k, j = (top + i) * 4 + k := ⟨j - (top + i) * 4, by omega⟩
        exact k1 k (by omega)
    · intro j a
      show e' j = a_edge j
      rw [k2 j (by omega)]; exact h4 j (by omega)
theorem zx_open33 {post : Int32 → SX → Prop} {x2 : Int32} (c h top : Nat) (e2 : x2 = nI top) (hh : h < 8) (ht : top + c ≤ 80)
    (K : ∀ (e' : Nat → Int64) (n' : Nat → Int32), (∀ j, top ≤ j → j < top + c → n' j = 0) → (∀ j, (j < top ∨ top + c ≤ j) → n' j = a_ends j) →
      (∀ j, top * 4 ≤ j → j < (top + c) * 4 → e' j = 0) → (∀ j, (j < top * 4 ∨ (top + c) * 4 ≤ j) → e' j = a_edge j) →
      post (nI top) (nI (h + 1), f_made, f_events, f_joined, f_states, f_finals, f_logged, upd a_base h (nI top), upd a_size h (nI c), e', n', a_joinEdge, a_joinEnds, a_move, a_log, a_reach)) :
    wX_open_33 post (nI c) x2 (nI h) f_made f_events f_joined f_states f_finals f_logged a_base a_size a_edge a_ends a_joinEdge a_joinEnds a_move a_log a_reach := by
  subst e2
  unfold wX_open_33
  refine ⟨vp_in_nI hh (by decide), nm_r (e' := upd a_base h (nI top)) (by rw [nI_clamp (by omega)]) ⟨vp_in_nI hh (by decide), nm_r (e' := upd a_size h (nI c)) (by rw [nI_clamp (by omega)]) (nm_r (nI_1 h) ?_)⟩⟩
  exact zx_open65 c top ht K
theorem zx_open {post : Int32 → SX → Prop} {p0 : Int32} (c h top : Nat) (e0 : p0 = nI c) (hh : h < 8) (ht : top + c ≤ 80) (h0 : h = 0 → top = 0)
    (h1 : ∀ h', h = h' + 1 → ∃ b n, a_base h' = nI b ∧ a_size h' = nI n ∧ top = b + n)
    (K : ∀ (e' : Nat → Int64) (n' : Nat → Int32), (∀ j, top ≤ j → j < top + c → n' j = 0) → (∀ j, (j < top ∨ top + c ≤ j) → n' j = a_ends j) →
      (∀ j, top * 4 ≤ j → j < (top + c) * 4 → e' j = 0) → (∀ j, (j < top * 4 ∨ (top + c) * 4 ≤ j) → e' j = a_edge j) →
      post (nI top) (nI (h + 1), f_made, f_events, f_joined, f_states, f_finals, f_logged, upd a_base h (nI top), upd a_size h (nI c), e', n', a_joinEdge, a_joinEnds, a_move, a_log, a_reach)) :
    wpX_open post (nI h, f_made, f_events, f_joined, f_states, f_finals, f_logged, a_base, a_size, a_edge, a_ends, a_joinEdge, a_joinEnds, a_move, a_log, a_reach) p0 := by
  subst e0
  unfold wpX_open
  rcases Nat.eq_zero_or_pos h with z | z
  · subst z
    exact br_t (by decide : nI 0 ≤ (0 : Int32)) (zx_open33 c 0 top (by rw [h0 rfl]; rfl) hh ht K)
  · obtain ⟨h', rfl⟩ : ∃ h', h = h' + 1 := ⟨h - 1, by omega⟩
    obtain ⟨b, n, eb, en, et⟩ := h1 h' rfl
    have hi : vp_in (nI (h' + 1) - 1) 8 := by rw [nI_pred]; exact vp_in_nI (by omega) (by decide)
    refine br_f (nI_nle (by omega) (by omega)) ⟨hi, hi, nm_r (e' := nI top) ?_ (zx_open33 c (h' + 1) top rfl hh ht K)⟩
    rw [nI_pred, nI_clamp (by omega), eb, en, nI_add, et]
end
end
section
/-! the stack of machines of X and the code of Y -/
def zr_E (edge : Nat → Int64) (b : Nat) (s a t : Nat) : Prop := a < 4 ∧ zb_t (edge ((b + s) * 4 + a)) t = true
def zr_F (ends : Nat → Int32) (b : Nat) (s : Nat) : Prop := ¬ ends (b + s) = 0
def zr_Stk (base size : Nat → Int32) (edge : Nat → Int64) (ends : Nat → Int32) : List zl_L → Nat → Nat → Prop
  | [], top, _ => top = 0
  | L :: Ls, top, ev => ∃ b n e ev', base Ls.length = nI b ∧ size Ls.length = nI n ∧ top = b + n ∧ n ≤ 2 ^ e ∧ e + ev' ≤ ev ∧ zm_M n (zr_E edge b) (zr_F ends b) L ∧ zr_Stk base size edge ends Ls b ev'
theorem zr_Mfr {edge edge' : Nat → Int64} {ends ends' : Nat → Int32} {b n : Nat} {L : zl_L} (h : zm_M n (zr_E edge b) (zr_F ends b) L)
    (h1 : ∀ j, b * 4 ≤ j → j < (b + n) * 4 → edge' j = edge j) (h2 : ∀ j, b ≤ j → j < b + n → ends' j = ends j) : zm_M n (zr_E edge' b) (zr_F ends' b) L := by
  refine zm_cong h ?_ ?_
  · intro s hs a t
    constructor
    · rintro ⟨ha, hb⟩
      rw [h1 _ (by omega) (by omega)] at hb
      exact ⟨ha, hb⟩
    · rintro ⟨ha, hb⟩
      refine ⟨ha, ?_⟩
      rw [h1 _ (by omega) (by omega)]
      exact hb
  · intro s hs
    unfold zr_F
    rw [h2 _ (by omega) (by omega)]
theorem zr_Stk_fr {base size base' size' : Nat → Int32} {edge edge' : Nat → Int64} {ends ends' : Nat → Int32} : ∀ (Ls : List zl_L) (top ev : Nat), zr_Stk base size edge ends Ls top ev →
    (∀ j, j < Ls.length → base' j = base j) → (∀ j, j < Ls.length → size' j = size j) → (∀ j, j < top * 4 → edge' j = edge j) → (∀ j, j < top → ends' j = ends j) →
    zr_Stk base' size' edge' ends' Ls top ev := by
  intro Ls
  induction Ls with
  | nil => intro top ev h _ _ _ _; exact h
  | cons L Ls ih =>
    intro top ev h hb hs he hn
    obtain ⟨b, n, e, ev', q1, q2, q3, q4, q5, q6, q7⟩ := h
    rw [List.length_cons] at hb hs
    refine ⟨b, n, e, ev', by rw [hb _ (by omega)]; exact q1, by rw [hs _ (by omega)]; exact q2, q3, q4, q5, ?_, ?_⟩
    · exact zr_Mfr q6 (fun j _ h2 => he j (by omega)) (fun j _ h2 => hn j (by omega))
    · exact ih b ev' q7 (fun j hj => hb j (by omega)) (fun j hj => hs j (by omega)) (fun j hj => he j (by omega)) (fun j hj => hn j (by omega))
theorem zr_Stk_up {base size : Nat → Int32} {edge : Nat → Int64} {ends : Nat → Int32} {Ls : List zl_L} {top ev ev2 : Nat} (h : zr_Stk base size edge ends Ls top ev) (hle : ev ≤ ev2) : zr_Stk base size edge ends Ls top ev2 := by
  cases Ls with
  | nil => exact h
  | cons L Ls =>
    obtain ⟨b, n, e, ev', q1, q2, q3, q4, q5, q6, q7⟩ := h
    exact ⟨b, n, e, ev', q1, q2, q3, q4, by omega, q6, q7⟩
theorem zr_pw (a b : Nat) : 2 ^ a + 2 ^ b ≤ 2 ^ (a + b) + 1 := by
  rw [Nat.pow_add]
  obtain ⟨x, hx⟩ : ∃ x, 2 ^ a = x + 1 := ⟨2 ^ a - 1, by have := Nat.two_pow_pos a; omega⟩
  obtain ⟨y, hy⟩ : ∃ y, 2 ^ b = y + 1 := ⟨2 ^ b - 1, by have := Nat.two_pow_pos b; omega⟩
  rw [hx, hy, Nat.add_mul, Nat.mul_add]
  generalize x * y = z
  omega
theorem zr_cap {base size : Nat → Int32} {edge : Nat → Int64} {ends : Nat → Int32} : ∀ (Ls : List zl_L) (top ev : Nat), zr_Stk base size edge ends Ls top ev → top + 1 ≤ 2 ^ ev + Ls.length := by
  intro Ls
  induction Ls with
  | nil =>
    intro top ev h
    have h' : top = 0 := h
    have := Nat.two_pow_pos ev
    rw [List.length_nil]
    omega
  | cons L Ls ih =>
    intro top ev h
    obtain ⟨b, n, e, ev', q1, q2, q3, q4, q5, q6, q7⟩ := h
    have k1 := ih b ev' q7
    have k2 := zr_pw e ev'
    have k3 : 2 ^ (e + ev') ≤ 2 ^ ev := Nat.pow_le_pow_right (by decide) q5
    rw [List.length_cons]
    omega
theorem zr_le64 {ev : Nat} (h : ev ≤ 6) : 2 ^ ev ≤ 64 := Nat.pow_le_pow_right (n := 2) (by decide) h
theorem zr_top {base size : Nat → Int32} {edge : Nat → Int64} {ends : Nat → Int32} {Ls : List zl_L} {top ev : Nat} (h : zr_Stk base size edge ends Ls top ev) :
    (Ls.length = 0 → top = 0) ∧ (∀ h', Ls.length = h' + 1 → ∃ b n, base h' = nI b ∧ size h' = nI n ∧ top = b + n) := by
  cases Ls with
  | nil => exact ⟨fun _ => h, fun h' z => by rw [List.length_nil] at z; omega⟩
  | cons L Ls =>
    obtain ⟨b, n, e, ev', q1, q2, q3, _⟩ := h
    rw [List.length_cons]
    refine ⟨fun z => by omega, fun h' z => ?_⟩
    have : h' = Ls.length := by omega
    subst this
    exact ⟨b, n, q1, q2, q3⟩
def zr_XA (base size : Nat → Int32) (edge : Nat → Int64) (ends joinEnds : Nat → Int32) (Ls : List zl_L) (ev : Nat) : Prop :=
  (∃ top, zr_Stk base size edge ends Ls top ev) ∧ zx_B ends ∧ zx_B joinEnds
def zl_Op (op : Int32) (A B : List zl_L) : Prop :=
  (∃ k, k < 4 ∧ op = nI k ∧ B = zl_ev k :: A) ∨ (op = 4 ∧ B = zl_skip :: A) ∨ (∃ x y r, op = 5 ∧ A = y :: x :: r ∧ B = zl_seq x y :: r) ∨
  (∃ x y r, op = 6 ∧ A = y :: x :: r ∧ B = zl_ch x y :: r) ∨ (∃ x y r, op = 7 ∧ A = y :: x :: r ∧ B = zl_both x y :: r) ∨
  (∃ y r, op = 8 ∧ A = y :: r ∧ B = zl_star y :: r) ∨ (∃ y r, op = 9 ∧ A = y :: r ∧ B = zl_opt y :: r)
def zl_Run (d : Nat → Int32) : Nat → List zl_L → Prop
  | 0, A => A = []
  | n + 1, B => ∃ A, zl_Run d n A ∧ zl_Op (d n) A B
theorem zl_Run_c {d d' : Nat → Int32} : ∀ (n : Nat) (A : List zl_L), zl_Run d n A → (∀ i, i < n → d' i = d i) → zl_Run d' n A := by
  intro n
  induction n with
  | zero => intro A h _; exact h
  | succ n ih =>
    rintro A ⟨B, h, ho⟩ e
    exact ⟨B, ih B h (fun i hi => e i (by omega)), by rw [e n (by omega)]; exact ho⟩
theorem zl_Run_s {d : Nat → Int32} {n : Nat} {A B : List zl_L} {op : Int32} (h : zl_Run d n A) (ho : zl_Op op A B) : zl_Run (upd d n op) (n + 1) B :=
  ⟨A, zl_Run_c n A h (fun i hi => pk_un (by omega)), by rw [pk_us]; exact ho⟩
theorem zl_Run_len {d : Nat → Int32} : ∀ (n : Nat) (A : List zl_L), zl_Run d n A → A.length ≤ n := by
  intro n
  induction n with
  | zero => intro A h; rw [show A = [] from h]; exact Nat.le_refl 0
  | succ n ih =>
    rintro A ⟨B, h, ho⟩
    have := ih B h
    rcases ho with ⟨k, _, _, e⟩ | ⟨_, e⟩ | ⟨x, y, r, _, e1, e⟩ | ⟨x, y, r, _, e1, e⟩ | ⟨x, y, r, _, e1, e⟩ | ⟨y, r, _, e1, e⟩ | ⟨y, r, _, e1, e⟩
    all_goals
      first
        | (subst e1; subst e; simp only [List.length_cons] at this ⊢; omega)
        | (subst e; simp only [List.length_cons]; omega)
section
variable {f_height f_made f_events f_joined f_states f_logged : Int32} {f_finals : Int64} {a_base a_size a_ends a_joinEnds a_log : Nat → Int32} {a_edge a_joinEdge a_move a_reach : Nat → Int64}
theorem zx_event {post : Int32 → SX → Prop} {p0 : Int32} {Ls : List zl_L} {k m ev : Nat} (e0 : p0 = nI k) (hk : k < 4) (hm : m < 16) (hl : Ls.length < 8) (hev : ev < 6)
    (hA : zr_XA a_base a_size a_edge a_ends a_joinEnds Ls ev)
    (K : ∀ (base' size' : Nat → Int32) (edge' : Nat → Int64) (ends' : Nat → Int32), zr_XA base' size' edge' ends' a_joinEnds (zl_ev k :: Ls) (ev + 1) →
      post (nI (Ls.length + 1)) (nI (Ls.length + 1), nI (m + 1), nI (ev + 1), f_joined, f_states, f_finals, f_logged, base', size', edge', ends', a_joinEdge, a_joinEnds, a_move, a_log, a_reach)) :
    wpX_event post (nI Ls.length, nI m, nI ev, f_joined, f_states, f_finals, f_logged, a_base, a_size, a_edge, a_ends, a_joinEdge, a_joinEnds, a_move, a_log, a_reach) p0 := by
  subst e0
  obtain ⟨⟨top, hS⟩, hB, hJ⟩ := hA
  have cap := zr_cap Ls top ev hS
  have hev2 : 2 ^ ev ≤ 64 := zr_le64 (by omega)
  obtain ⟨t0, t1⟩ := zr_top hS
  have c1 : ¬ nI m = 16 := fun z => by have := (nI_eq (b := 16) (by omega) (by decide)).mp z; omega
  have c2 : ¬ nI Ls.length = 8 := fun z => by have := (nI_eq (b := 8) (by omega) (by decide)).mp z; omega
  have c3 : ¬ nI ev = 6 := fun z => by have := (nI_eq (b := 6) (by omega) (by decide)).mp z; omega
  unfold wpX_event
  refine br_f (nI_pos (by omega)) (br_t (nI_le (b := 3) (by omega) (by decide)) (br_f c1 (br_f c2 (br_f c3 (zx_open 2 Ls.length top rfl hl (by omega) t0 t1 (fun e' n' q1 q2 q3 q4 => ?_))))))
  refine ⟨by rw [zn_ix]; exact vp_in_nI (by omega) (by decide), nm_r (e' := vp_updL e' (top * 4 + k) 2) (by rw [zn_ix, nI_clamp (by omega)])
    ⟨by rw [nI_1]; exact vp_in_nI (by omega) (by decide), nm_r (e' := upd n' (top + 1) 1) (by rw [nI_1, nI_clamp (by omega)]; rfl) (nm_r (nI_1 ev) (nm_r (nI_1 m) (K _ _ _ _ ⟨⟨top + 2, ?_⟩, ?_, hJ⟩)))⟩⟩
  · refine ⟨top, 2, 1, ev, pk_us, pk_us, rfl, by decide, by omega, ?_, ?_⟩
    · refine zm_ev hk ?_ ?_ ?_ ?_
      · intro a t
        unfold zr_E
        constructor
        · rintro ⟨ha, hb⟩
          by_cases c : a = k
          · subst c
            rw [Nat.add_zero, pk_uLs, zb_2] at hb
            exact ⟨rfl, hb⟩
          · rw [pk_uLn (by omega), q3 _ (by omega) (by omega), zb_0] at hb
            exact absurd hb (by decide)
        · rintro ⟨rfl, rfl⟩
          refine ⟨hk, ?_⟩
          rw [Nat.add_zero, pk_uLs, zb_2]
      · rintro a t ⟨ha, hb⟩
        rw [pk_uLn (by omega), q3 _ (by omega) (by omega), zb_0] at hb
        exact absurd hb (by decide)
      · intro z
        apply z
        rw [pk_un (by omega)]
        exact q1 _ (by omega) (by omega)
      · unfold zr_F
        rw [pk_us]
        exact zn_10
    · refine zr_Stk_fr Ls top ev hS ?_ ?_ ?_ ?_
      · exact fun j hj => pk_un (by omega)
      · exact fun j hj => pk_un (by omega)
      · intro j hj
        rw [pk_uLn (by omega)]
        exact q4 j (Or.inl hj)
      · intro j hj
        rw [pk_un (by omega)]
        exact q2 j (Or.inl hj)
  · intro j
    by_cases z : j = top + 1
    · subst z; rw [pk_us]; exact Or.inr rfl
    · rw [pk_un z]
      by_cases z2 : j = top
      · rw [q1 j (by omega) (by omega)]; exact Or.inl rfl
      · rw [q2 j (by omega)]; exact hB j
theorem zx_skip {post : Int32 → SX → Prop} {Ls : List zl_L} {m ev : Nat} (hm : m < 16) (hl : Ls.length < 8) (hev : ev ≤ 6)
    (hA : zr_XA a_base a_size a_edge a_ends a_joinEnds Ls ev)
    (K : ∀ (base' size' : Nat → Int32) (edge' : Nat → Int64) (ends' : Nat → Int32), zr_XA base' size' edge' ends' a_joinEnds (zl_skip :: Ls) ev →
      post (nI (Ls.length + 1)) (nI (Ls.length + 1), nI (m + 1), f_events, f_joined, f_states, f_finals, f_logged, base', size', edge', ends', a_joinEdge, a_joinEnds, a_move, a_log, a_reach)) :
    wpX_skip post (nI Ls.length, nI m, f_events, f_joined, f_states, f_finals, f_logged, a_base, a_size, a_edge, a_ends, a_joinEdge, a_joinEnds, a_move, a_log, a_reach) := by
  obtain ⟨⟨top, hS⟩, hB, hJ⟩ := hA
  have cap := zr_cap Ls top ev hS
  have hev2 : 2 ^ ev ≤ 64 := zr_le64 (by omega)
  obtain ⟨t0, t1⟩ := zr_top hS
  have c1 : ¬ nI m = 16 := fun z => by have := (nI_eq (b := 16) (by omega) (by decide)).mp z; omega
  have c2 : ¬ nI Ls.length = 8 := fun z => by have := (nI_eq (b := 8) (by omega) (by decide)).mp z; omega
  unfold wpX_skip
  refine br_f c1 (br_f c2 (zx_open 1 Ls.length top rfl hl (by omega) t0 t1 (fun e' n' q1 q2 q3 q4 => ?_)))
  refine ⟨vp_in_nI (by omega) (by decide), nm_r (e' := upd n' top 1) (by rw [nI_clamp (by omega)]; rfl) (nm_r (nI_1 m) (K _ _ _ _ ⟨⟨top + 1, ?_⟩, ?_, hJ⟩))⟩
  · refine ⟨top, 1, 0, ev, pk_us, pk_us, rfl, by decide, by omega, ?_, ?_⟩
    · refine zm_skip ?_ ?_
      · rintro a t ⟨ha, hb⟩
        rw [q3 _ (by omega) (by omega), zb_0] at hb
        exact absurd hb (by decide)
      · unfold zr_F
        rw [Nat.add_zero, pk_us]
        exact zn_10
    · refine zr_Stk_fr Ls top ev hS ?_ ?_ ?_ ?_
      · exact fun j hj => pk_un (by omega)
      · exact fun j hj => pk_un (by omega)
      · exact fun j hj => q4 j (Or.inl hj)
      · intro j hj
        rw [pk_un (by omega)]
        exact q2 j (Or.inl hj)
  · intro j
    by_cases z : j = top
    · subst z; rw [pk_us]; exact Or.inr rfl
    · rw [pk_un z, q2 j (by omega)]; exact hB j
end
end
section
/-! joining two machines: copyEdges, addEdges, appendTail, settle -/
theorem zn_m2 (n : Nat) : nI (n + 2) - 2 = nI n := by
  show nI (n + 2) - nI 2 = nI n
  rw [pk_sub (by omega)]
  rfl
section
variable {f_height f_made f_events f_joined f_states f_logged : Int32} {f_finals : Int64} {a_base a_size a_ends a_joinEnds a_log : Nat → Int32} {a_edge a_joinEdge a_move a_reach : Nat → Int64}
theorem zx_copy {post : SX → Prop} {p0 p1 p2 : Int32} (fr to up : Nat) (e0 : p0 = nI fr) (e1 : p1 = nI to) (e2 : p2 = nI up) (h0 : fr < 80) (h1 : to < 64)
    (K : ∀ je : Nat → Int64, (∀ k, k < 4 → je (to * 4 + k) = a_edge (fr * 4 + k) <<< ((nI up).toInt64 &&& 63)) → (∀ j, (j < to * 4 ∨ to * 4 + 4 ≤ j) → je j = a_joinEdge j) → post (f_height, f_made, f_events, f_joined, f_states, f_finals, f_logged, a_base, a_size, a_edge, a_ends, je, a_joinEnds, a_move, a_log, a_reach)) :
    wpX_copyEdges post (f_height, f_made, f_events, f_joined, f_states, f_finals, f_logged, a_base, a_size, a_edge, a_ends, a_joinEdge, a_joinEnds, a_move, a_log, a_reach) p0 p1 p2 := by
  subst e0 e1 e2
  show ∃ n, wX_copyEdges_3 post (nI fr) (nI to) (nI up) f_height f_made f_events f_joined f_states f_finals f_logged n 0 a_base a_size a_edge a_ends a_joinEdge a_joinEnds a_move a_log a_reach
  refine loop_0 (fun n i e => wX_copyEdges_3 post (nI fr) (nI to) (nI up) f_height f_made f_events f_joined f_states f_finals f_logged n (nI i) a_base a_size a_edge a_ends e a_joinEnds a_move a_log a_reach)
    (fun i e => (∀ k, k < i → e (to * 4 + k) = a_edge (fr * 4 + k) <<< ((nI up).toInt64 &&& 63)) ∧ (∀ j, (j < to * 4 ∨ to * 4 + i ≤ j) → e j = a_joinEdge j)) 4 a_joinEdge ?_ ?_ ?_
  · exact ⟨fun k hk => by omega, fun j _ => rfl⟩
  · intro n e h
    exact br_t (by decide : (4 : Int32) ≤ nI 4) (K e h.1 h.2)
  · intro n i e hi h ih
    have ix := zn_ix fr i
    have iy := zn_ix to i
    refine br_f (nI_ge (b := 4) hi (by decide)) ⟨by rw [ix]; exact vp_in_nI (by omega) (by decide), by rw [iy]; exact vp_in_nI (by omega) (by decide), ?_⟩
    refine nm_r (e' := vp_updL e (to * 4 + i) (a_edge (fr * 4 + i) <<< ((nI up).toInt64 &&& 63))) (by rw [ix, iy, nI_clamp (by omega), nI_clamp (by omega)]) (nm_r (nI_1 i) (ih _ ⟨?_, ?_⟩))
    · intro k hk
      by_cases c : k = i
      · subst c; exact pk_uLs
      · rw [pk_uLn (by omega)]; exact h.1 k (by omega)
    · intro j hj
      rw [pk_uLn (by omega)]; exact h.2 j (by omega)
theorem zx_add {post : SX → Prop} {p0 p1 p2 : Int32} (fr to up : Nat) (e0 : p0 = nI fr) (e1 : p1 = nI to) (e2 : p2 = nI up) (h0 : fr < 80) (h1 : to < 64)
    (K : ∀ je : Nat → Int64, (∀ k, k < 4 → je (to * 4 + k) = a_joinEdge (to * 4 + k) ||| (a_edge (fr * 4 + k) <<< ((nI up).toInt64 &&& 63))) → (∀ j, (j < to * 4 ∨ to * 4 + 4 ≤ j) → je j = a_joinEdge j) → post (f_height, f_made, f_events, f_joined, f_states, f_finals, f_logged, a_base, a_size, a_edge, a_ends, je, a_joinEnds, a_move, a_log, a_reach)) :
    wpX_addEdges post (f_height, f_made, f_events, f_joined, f_states, f_finals, f_logged, a_base, a_size, a_edge, a_ends, a_joinEdge, a_joinEnds, a_move, a_log, a_reach) p0 p1 p2 := by
  subst e0 e1 e2
  show ∃ n, wX_addEdges_3 post (nI fr) (nI to) (nI up) f_height f_made f_events f_joined f_states f_finals f_logged n 0 a_base a_size a_edge a_ends a_joinEdge a_joinEnds a_move a_log a_reach
  refine loop_0 (fun n i e => wX_addEdges_3 post (nI fr) (nI to) (nI up) f_height f_made f_events f_joined f_states f_finals f_logged n (nI i) a_base a_size a_edge a_ends e a_joinEnds a_move a_log a_reach)
    (fun i e => (∀ k, k < i → e (to * 4 + k) = a_joinEdge (to * 4 + k) ||| (a_edge (fr * 4 + k) <<< ((nI up).toInt64 &&& 63))) ∧ (∀ j, (j < to * 4 ∨ to * 4 + i ≤ j) → e j = a_joinEdge j)) 4 a_joinEdge ?_ ?_ ?_
  · exact ⟨fun k hk => by omega, fun j _ => rfl⟩
  · intro n e h
    exact br_t (by decide : (4 : Int32) ≤ nI 4) (K e h.1 h.2)
  · intro n i e hi h ih
    have ix := zn_ix fr i
    have iy := zn_ix to i
    have vy : vp_in (nI to * 4 + nI i) 256 := by rw [iy]; exact vp_in_nI (by omega) (by decide)
    refine br_f (nI_ge (b := 4) hi (by decide)) ⟨vy, by rw [ix]; exact vp_in_nI (by omega) (by decide), vy, ?_⟩
    refine nm_r (e' := vp_updL e (to * 4 + i) (a_joinEdge (to * 4 + i) ||| (a_edge (fr * 4 + i) <<< ((nI up).toInt64 &&& 63)))) (by rw [ix, iy, nI_clamp (by omega), nI_clamp (by omega), h.2 (to * 4 + i) (by omega)]) (nm_r (nI_1 i) (ih _ ⟨?_, ?_⟩))
    · intro k hk
      by_cases c : k = i
      · subst c; exact pk_uLs
      · rw [pk_uLn (by omega)]; exact h.1 k (by omega)
    · intro j hj
      rw [pk_uLn (by omega)]; exact h.2 j (by omega)
theorem zx_tail {post : SX → Prop} {p0 p1 : Int32} (y up ny h : Nat) (e0 : p0 = nI y) (e1 : p1 = nI up) (hh : h < 8) (hsz : a_size h = nI ny) (h1 : 1 ≤ ny) (hy : y + ny ≤ 80) (hu : up + ny ≤ 64)
    (hE : zx_B a_ends) (hJ : zx_B a_joinEnds)
    (K : ∀ (je : Nat → Int64) (jn : Nat → Int32), (∀ s, 1 ≤ s → s < ny → ∀ k, k < 4 → je ((up + s) * 4 + k) = a_edge ((y + s) * 4 + k) <<< ((nI up).toInt64 &&& 63)) →
      (∀ s, 1 ≤ s → s < ny → jn (up + s) = a_ends (y + s)) → (∀ j, j < (up + 1) * 4 → je j = a_joinEdge j) → (∀ j, j < up + 1 → jn j = a_joinEnds j) → zx_B jn →
      post (nI (h + 1), f_made, f_events, nI (up + ny), f_states, f_finals, f_logged, a_base, a_size, a_edge, a_ends, je, jn, a_move, a_log, a_reach)) :
    wpX_appendTail post (nI (h + 1), f_made, f_events, f_joined, f_states, f_finals, f_logged, a_base, a_size, a_edge, a_ends, a_joinEdge, a_joinEnds, a_move, a_log, a_reach) p0 p1 := by
  subst e0 e1
  unfold wpX_appendTail
  refine ⟨by rw [nI_pred]; exact vp_in_nI hh (by decide), nm_r (e' := nI ny) (by rw [nI_pred, nI_clamp (by omega), hsz]) ?_⟩
  refine pk_loop (fun n i (σ : (Nat → Int64) × (Nat → Int32)) => wX_appendTail_15 post (nI y) (nI up) (nI ny) n (nI i) (nI (h + 1)) f_made f_events f_joined f_states f_finals f_logged a_base a_size a_edge a_ends σ.1 σ.2 a_move a_log a_reach)
    (fun i σ => 1 ≤ i ∧ (∀ s, 1 ≤ s → s < i → ∀ k, k < 4 → σ.1 ((up + s) * 4 + k) = a_edge ((y + s) * 4 + k) <<< ((nI up).toInt64 &&& 63)) ∧
      (∀ s, 1 ≤ s → s < i → σ.2 (up + s) = a_ends (y + s)) ∧ (∀ j, j < (up + 1) * 4 → σ.1 j = a_joinEdge j) ∧ (∀ j, j < up + 1 → σ.2 j = a_joinEnds j) ∧ zx_B σ.2) ny 1 (a_joinEdge, a_joinEnds) h1 ?_ ?_ ?_
  · exact ⟨Nat.le_refl 1, fun s a b => by omega, fun s a b => by omega, fun j _ => rfl, fun j _ => rfl, hJ⟩
  · rintro n ⟨je, jn⟩ ⟨_, q1, q2, q3, q4, q5⟩
    exact br_t (nI_le (Nat.le_refl _) (by omega)) (nm_r (nI_add up ny) (K je jn q1 q2 q3 q4 q5))
  · rintro n i ⟨je, jn⟩ hi ⟨q0, q1, q2, q3, q4, q5⟩ ih
    dsimp only at q1 q2 q3 q4 q5
    have a1 := nI_add y i
    have a2 := nI_add up i
    refine br_f (nI_ge (by omega) (by omega)) ⟨by rw [a1]; exact vp_in_nI (by omega) (by decide), by rw [a2]; exact vp_in_nI (by omega) (by decide), ?_⟩
    refine nm_r (e' := upd jn (up + i) (a_ends (y + i))) (by rw [a1, a2, nI_clamp (by omega), nI_clamp (by omega), zn_nbk (hE (y + i))]) ?_
    refine zx_copy (y + i) (up + i) up a1 a2 rfl (by omega) (by omega) (fun je' k1 k2 => ?_)
    refine nm_r (nI_1 i) (ih (je', upd jn (up + i) (a_ends (y + i))) ⟨by omega, ?_, ?_, ?_, ?_, ?_⟩)
    · intro s b1 b2 k hk
      show je' ((up + s) * 4 + k) = _
      by_cases c : s = i
      · subst c; exact k1 k hk
      · rw [k2 _ (by omega)]; exact q1 s b1 (by omega) k hk
    · intro s b1 b2
      show upd jn (up + i) (a_ends (y + i)) (up + s) = _
      by_cases c : s = i
      · subst c; exact pk_us
      · rw [pk_un (by omega)]; exact q2 s b1 (by omega)
    · intro j hj
      show je' j = _
      rw [k2 _ (by omega)]; exact q3 j hj
    · intro j hj
      show upd jn (up + i) (a_ends (y + i)) j = _
      rw [pk_un (by omega)]; exact q4 j hj
    · have := zx_Bu (k := up + i) (x := a_ends (y + i)) q5
      rw [zn_nbk (hE (y + i))] at this
      exact this
theorem zx_set73 {post : Int32 → SX → Prop} {J : Int32 → (Nat → Int32) → (Nat → Int32) → (Nat → Int64) → (Nat → Int32) → (Nat → Int64) → (Nat → Int32) → (Nat → Int64) → (Nat → Int32) → (Nat → Int64) → Prop} (x s : Nat) (hx : x + s < 80) (hs : s < 64)
    (K : ∀ e' : Nat → Int64, (∀ k, k < 4 → e' ((x + s) * 4 + k) = a_joinEdge (s * 4 + k)) → (∀ j, (j < (x + s) * 4 ∨ (x + s) * 4 + 4 ≤ j) → e' j = a_edge j) → J (nI (s + 1)) a_base a_size e' a_ends a_joinEdge a_joinEnds a_move a_log a_reach) :
    ∃ n, wX_settle_73 post J (nI x) (nI s) f_height f_made f_events f_joined f_states f_finals f_logged n 0 a_base a_size a_edge a_ends a_joinEdge a_joinEnds a_move a_log a_reach := by
  refine loop_0 (fun n i e => wX_settle_73 post J (nI x) (nI s) f_height f_made f_events f_joined f_states f_finals f_logged n (nI i) a_base a_size e a_ends a_joinEdge a_joinEnds a_move a_log a_reach)
    (fun i e => (∀ k, k < i → e ((x + s) * 4 + k) = a_joinEdge (s * 4 + k)) ∧ (∀ j, (j < (x + s) * 4 ∨ (x + s) * 4 + i ≤ j) → e j = a_edge j)) 4 a_edge ?_ ?_ ?_
  · exact ⟨fun k hk => by omega, fun j _ => rfl⟩
  · intro n e h
    exact br_t (by decide : (4 : Int32) ≤ nI 4) (nm_r (nI_1 s) (K e h.1 h.2))
  · intro n i e hi h ih
    have ix := zn_ix s i
    have iy : (nI x + nI s) * 4 + nI i = nI ((x + s) * 4 + i) := by rw [nI_add]; exact zn_ix (x + s) i
    refine br_f (nI_ge (b := 4) hi (by decide)) ⟨by rw [ix]; exact vp_in_nI (by omega) (by decide), by rw [iy]; exact vp_in_nI (by omega) (by decide), ?_⟩
    refine nm_r (e' := vp_updL e ((x + s) * 4 + i) (a_joinEdge (s * 4 + i))) (by rw [ix, iy, nI_clamp (by omega), nI_clamp (by omega)]) (nm_r (nI_1 i) (ih _ ⟨?_, ?_⟩))
    · intro k hk
      by_cases c : k = i
      · subst c; exact pk_uLs
      · rw [pk_uLn (by omega)]; exact h.1 k (by omega)
    · intro j hj
      rw [pk_uLn (by omega)]; exact h.2 j (by omega)
theorem zx_set49 {post : Int32 → SX → Prop} (x j : Nat) (hj : j ≤ 64) (hx : x + j ≤ 80) (hE : zx_B a_ends) (hJ : zx_B a_joinEnds)
    (K : ∀ (e' : Nat → Int64) (n' : Nat → Int32), (∀ s, s < j → n' (x + s) = a_joinEnds s) → (∀ i, (i < x ∨ x + j ≤ i) → n' i = a_ends i) →
      (∀ s, s < j → ∀ k, k < 4 → e' ((x + s) * 4 + k) = a_joinEdge (s * 4 + k)) → (∀ i, (i < x * 4 ∨ (x + j) * 4 ≤ i) → e' i = a_edge i) → zx_B n' →
      post f_height (f_height, f_made, f_events, nI j, f_states, f_finals, f_logged, a_base, a_size, e', n', a_joinEdge, a_joinEnds, a_move, a_log, a_reach)) :
    ∃ n, wX_settle_49 post (nI x) f_height f_made f_events (nI j) f_states f_finals f_logged n 0 a_base a_size a_edge a_ends a_joinEdge a_joinEnds a_move a_log a_reach := by
  refine loop_0 (fun n i (σ : (Nat → Int64) × (Nat → Int32)) => wX_settle_49 post (nI x) f_height f_made f_events (nI j) f_states f_finals f_logged n (nI i) a_base a_size σ.1 σ.2 a_joinEdge a_joinEnds a_move a_log a_reach)
    (fun i σ => (∀ s, s < i → σ.2 (x + s) = a_joinEnds s) ∧ (∀ q, (q < x ∨ x + i ≤ q) → σ.2 q = a_ends q) ∧
      (∀ s, s < i → ∀ k, k < 4 → σ.1 ((x + s) * 4 + k) = a_joinEdge (s * 4 + k)) ∧ (∀ q, (q < x * 4 ∨ (x + i) * 4 ≤ q) → σ.1 q = a_edge q) ∧ zx_B σ.2) j (a_edge, a_ends) ?_ ?_ ?_
  · exact ⟨fun s a => by omega, fun q _ => rfl, fun s a => by omega, fun q _ => rfl, hE⟩
  · rintro n ⟨e, m⟩ ⟨q1, q2, q3, q4, q5⟩
    exact br_t (nI_le (Nat.le_refl _) (by omega)) (K e m q1 q2 q3 q4 q5)
  · rintro n i ⟨e, m⟩ hi ⟨q1, q2, q3, q4, q5⟩ ih
    dsimp only at q1 q2 q3 q4 q5
    have a1 := nI_add x i
    refine br_f (nI_ge (by omega) (by omega)) ⟨vp_in_nI (by omega) (by decide), by rw [a1]; exact vp_in_nI (by omega) (by decide), ?_⟩
    refine nm_r (e' := upd m (x + i) (a_joinEnds i)) (by rw [a1, nI_clamp (by omega), nI_clamp (by omega), zn_nbk (hJ i)]) ?_
    refine zx_set73 x i (by omega) (by omega) (fun e' k1 k2 => ?_)
    refine ih (e', upd m (x + i) (a_joinEnds i)) ⟨?_, ?_, ?_, ?_, ?_⟩
    · intro s b
      show upd m (x + i) (a_joinEnds i) (x + s) = _
      by_cases c : s = i
      · subst c; exact pk_us
      · rw [pk_un (by omega)]; exact q1 s (by omega)
    · intro q b
      show upd m (x + i) (a_joinEnds i) q = _
      rw [pk_un (by omega)]; exact q2 q (by omega)
    · intro s b k hk
      show e' ((x + s) * 4 + k) = _
      by_cases c : s = i
      · subst c; exact k1 k hk
      · rw [k2 _ (by omega)]; exact q3 s (by omega) k hk
    · intro q b
      show e' q = _
      rw [k2 _ (by omega)]; exact q4 q (by omega)
    · have := zx_Bu (k := x + i) (x := a_joinEnds i) q5
      rw [zn_nbk (hJ i)] at this
      exact this
theorem zx_settle {post : Int32 → SX → Prop} {r : List zl_L} {L : zl_L} {x j m e ev1 ev : Nat} (hl : r.length < 7) (hb : a_base r.length = nI x) (hS : zr_Stk a_base a_size a_edge a_ends r x ev1) (hj : j ≤ 64) (hx : x + j ≤ 80)
    (hje : j ≤ 2 ^ e) (hev : e + ev1 ≤ ev) (hE : zx_B a_ends) (hJ : zx_B a_joinEnds) (hM : zm_M j (zr_E a_joinEdge 0) (zr_F a_joinEnds 0) L)
    (K : ∀ (size' : Nat → Int32) (edge' : Nat → Int64) (ends' : Nat → Int32), zr_XA a_base size' edge' ends' a_joinEnds (L :: r) ev →
      post (nI (r.length + 1)) (nI (r.length + 1), nI (m + 1), f_events, nI j, f_states, f_finals, f_logged, a_base, size', edge', ends', a_joinEdge, a_joinEnds, a_move, a_log, a_reach)) :
    wpX_settle post (nI (r.length + 2), nI m, f_events, nI j, f_states, f_finals, f_logged, a_base, a_size, a_edge, a_ends, a_joinEdge, a_joinEnds, a_move, a_log, a_reach) := by
  unfold wpX_settle
  have hi : vp_in (nI (r.length + 1) - 1) 8 := by rw [nI_pred]; exact vp_in_nI (by omega) (by decide)
  refine nm_r (nI_pred (r.length + 1)) (nm_r (nI_1 m) ⟨hi, nm_r (e' := nI x) (by rw [nI_pred, nI_clamp (by omega), hb]) ⟨hi, nm_r (e' := upd a_size r.length (nI j)) (by rw [nI_pred, nI_clamp (by omega)]) ?_⟩⟩)
  refine zx_set49 x j hj hx hE hJ (fun e' n' q1 q2 q3 q4 q5 => K _ _ _ ⟨⟨x + j, x, j, e, ev1, hb, pk_us, rfl, hje, hev, ?_, ?_⟩, q5, hJ⟩)
  · refine zm_cong hM ?_ ?_
    · intro s hs a t
      unfold zr_E
      constructor
      · rintro ⟨ha, hz⟩
        rw [q3 s hs a ha] at hz
        rw [Nat.zero_add]
        exact ⟨ha, hz⟩
      · rintro ⟨ha, hz⟩
        rw [Nat.zero_add] at hz
        rw [q3 s hs a ha]
        exact ⟨ha, hz⟩
    · intro s hs
      unfold zr_F
      rw [q1 s hs, Nat.zero_add]
  · exact zr_Stk_fr r x ev1 hS (fun _ _ => rfl) (fun i hi => pk_un (by omega)) (fun i hi => q4 i (Or.inl hi)) (fun i hi => q2 i (Or.inl hi))
end
/-- the two topmost machines, and the room for what they are joined to -/
theorem zr_two {base size : Nat → Int32} {edge : Nat → Int64} {ends : Nat → Int32} {A B : zl_L} {r : List zl_L} {top ev : Nat} (h : zr_Stk base size edge ends (B :: A :: r) top ev) (hev : ev ≤ 6) (hl : r.length ≤ 6) :
    ∃ x y up ny e1 e2 ev1, base r.length = nI x ∧ base (r.length + 1) = nI y ∧ size r.length = nI (up + 1) ∧ size (r.length + 1) = nI ny ∧ y = x + (up + 1) ∧
      zm_M (up + 1) (zr_E edge x) (zr_F ends x) A ∧ zm_M ny (zr_E edge y) (zr_F ends y) B ∧ zr_Stk base size edge ends r x ev1 ∧ up + 1 ≤ 2 ^ e1 ∧ ny ≤ 2 ^ e2 ∧
      (e1 + e2) + ev1 ≤ ev ∧ y + ny ≤ 80 ∧ (∀ j, j ≤ 2 ^ (e1 + e2) → j ≤ 64 ∧ x + j ≤ 80) ∧ up + ny ≤ 2 ^ (e1 + e2) := by
  have cap := zr_cap _ _ _ h
  have h64 := zr_le64 hev
  obtain ⟨y, ny, e2, ev2, b1, s1, t1, l1, v1, MB, x, nx, e1, ev1, b0, s0, t0, l0, v0, MA, hr⟩ := h
  have cap0 := zr_cap _ _ _ hr
  rw [List.length_cons, List.length_cons] at cap
  obtain ⟨up, rfl⟩ : ∃ up, nx = up + 1 := ⟨nx - 1, by have := MA.1; omega⟩
  have p1 := zr_pw e1 e2
  have p2 := zr_pw (e1 + e2) ev1
  have p3 : 2 ^ (e1 + e2 + ev1) ≤ 2 ^ ev := Nat.pow_le_pow_right (by decide) (by omega)
  have p4 : 2 ^ (e1 + e2) ≤ 2 ^ ev := Nat.pow_le_pow_right (by decide) (by omega)
  refine ⟨x, y, up, ny, e1, e2, ev1, b0, b1, s0, s1, t0, MA, MB, hr, l0, l1, by omega, by omega, ?_, by omega⟩
  intro j hj
  omega
end
section
/-! seq, choice -/
theorem zb_sh0 (x : Int64) (i : Nat) : zb_t (x <<< ((nI 0).toInt64 &&& 63)) i = true ↔ zb_t x i = true := by
  rw [zb_shl 0 (by decide)]
  constructor
  · rintro ⟨_, _, h⟩
    exact h
  · intro h
    exact ⟨zb_lt h, Nat.zero_le _, h⟩
section
variable {f_height f_made f_events f_joined f_states f_logged : Int32} {f_finals : Int64} {a_base a_size a_ends a_joinEnds a_log : Nat → Int32} {a_edge a_joinEdge a_move a_reach : Nat → Int64}
theorem zx_refused {post : Int32 → Prop} {p0 : Int32} {m h c : Nat} (e0 : p0 = nI c) (hm : m < 16) (hh : h < 2 ^ 31) (hc : c ≤ h) (K : post 0) : wpX_refused post (nI h, nI m, f_events, f_joined, f_states, f_finals, f_logged, a_base, a_size, a_edge, a_ends, a_joinEdge, a_joinEnds, a_move, a_log, a_reach) p0 := by
  subst e0
  unfold wpX_refused
  have c1 : ¬ nI m = 16 := fun z => by have := (nI_eq (b := 16) (by omega) (by decide)).mp z; omega
  exact br_f c1 (br_t (nI_le hc hh) K)
theorem zx_seq108 {post : Int32 → SX → Prop} {J : Int32 → Int32 → Int32 → Int32 → Int32 → Int32 → Int64 → Int32 → (Nat → Int32) → (Nat → Int32) → (Nat → Int64) → (Nat → Int32) → (Nat → Int64) → (Nat → Int32) → (Nat → Int64) → (Nat → Int32) → (Nat → Int64) → Prop}
    (x y up s : Nat) (z : Int32) (hz : z = 0 ∨ z = 1) (hx : x + s < 80) (hy : y < 80) (hs : s < 64) (hu : up < 64)
    (K : ∀ je : Nat → Int64, (∀ k, k < 4 → ∀ t, zb_t (je (s * 4 + k)) t = true ↔ (zb_t (a_edge ((x + s) * 4 + k)) t = true ∨ (¬ a_ends (x + s) = 0 ∧ t < 64 ∧ up ≤ t ∧ zb_t (a_edge (y * 4 + k)) (t - up) = true))) →
      (∀ j, (j < s * 4 ∨ s * 4 + 4 ≤ j) → je j = a_joinEdge j) → J (nI (s + 1)) f_height f_made f_events f_joined f_states f_finals f_logged a_base a_size a_edge a_ends je (upd a_joinEnds s z) a_move a_log a_reach) :
    wX_seq_108 post J (nI x) (nI y) (nI up) (nI s) z (nI s) f_height f_made f_events f_joined f_states f_finals f_logged a_base a_size a_edge a_ends a_joinEdge a_joinEnds a_move a_log a_reach := by
  unfold wX_seq_108
  have a1 := nI_add x s
  refine ⟨vp_in_nI hs (by decide), nm_r (e' := upd a_joinEnds s z) (by rw [nI_clamp (by omega), zn_nbk hz]) ?_⟩
  refine zx_copy (x + s) s 0 a1 rfl rfl hx hs (fun je k1 k2 => ?_)
  refine ⟨by rw [a1]; exact vp_in_nI hx (by decide), ?_⟩
  have cl : (nI x + nI s).toNatClampNeg = x + s := by rw [a1, nI_clamp (by omega)]
  by_cases c : a_ends (x + s) = 0
  · refine br_t (by rw [cl]; exact c) (nm_r (nI_1 s) (K je ?_ k2))
    intro k hk t
    rw [k1 k hk, zb_sh0]
    constructor
    · exact fun q => Or.inl q
    · rintro (q | ⟨q, _⟩)
      · exact q
      · exact absurd c q
  · refine br_f (by rw [cl]; exact c) (zx_add y s up rfl rfl rfl hy hs (fun je' g1 g2 => nm_r (nI_1 s) (K je' ?_ ?_)))
    · intro k hk t
      rw [g1 k hk, zb_or, Bool.or_eq_true, k1 k hk, zb_sh0, zb_shl up hu]
      constructor
      · rintro (q | q)
        · exact Or.inl q
        · exact Or.inr ⟨c, q⟩
      · rintro (q | ⟨_, q⟩)
        · exact Or.inl q
        · exact Or.inr q
    · intro j hj
      rw [g2 j hj, k2 j hj]
theorem zx_seq {post : Int32 → SX → Prop} {A B : zl_L} {r : List zl_L} {m ev : Nat} (hm : m < 16) (hl : r.length ≤ 6) (hev : ev ≤ 6)
    (hA : zr_XA a_base a_size a_edge a_ends a_joinEnds (B :: A :: r) ev)
    (K : ∀ (joined' : Int32) (base' size' : Nat → Int32) (edge' : Nat → Int64) (ends' : Nat → Int32) (je' : Nat → Int64) (jn' : Nat → Int32), zr_XA base' size' edge' ends' jn' (zl_seq A B :: r) ev →
      post (nI (r.length + 1)) (nI (r.length + 1), nI (m + 1), f_events, joined', f_states, f_finals, f_logged, base', size', edge', ends', je', jn', a_move, a_log, a_reach)) :
    wpX_seq post (nI (r.length + 2), nI m, f_events, f_joined, f_states, f_finals, f_logged, a_base, a_size, a_edge, a_ends, a_joinEdge, a_joinEnds, a_move, a_log, a_reach) := by
  obtain ⟨⟨top, hS⟩, hE, hJ⟩ := hA
  obtain ⟨x, y, up, ny, e1, e2, ev1, b0, b1, s0, s1, ey, MA, MB, hr, l0, l1, lev, hy80, hroom, hj⟩ := zr_two hS hev hl
  obtain ⟨j64, j80⟩ := hroom _ hj
  have ny1 : 1 ≤ ny := MB.1
  unfold wpX_seq
  refine zx_refused (c := 2) rfl hm (by omega) (by omega) (br_t (by decide) ?_)
  have i2 : vp_in (nI (r.length + 2) - 2) 8 := by rw [zn_m2]; exact vp_in_nI (by omega) (by decide)
  have i1 : vp_in (nI (r.length + 2) - 1) 8 := by rw [nI_pred]; exact vp_in_nI (by omega) (by decide)
  have cl2 : (nI (r.length + 2) - 2).toNatClampNeg = r.length := by rw [zn_m2, nI_clamp (by omega)]
  have cl1 : (nI (r.length + 2) - 1).toNatClampNeg = r.length + 1 := by rw [nI_pred, nI_clamp (by omega)]
  refine ⟨i2, nm_r (e' := nI x) (by rw [cl2, b0]) ⟨i1, nm_r (e' := nI y) (by rw [cl1, b1]) ⟨i2, nm_r (e' := nI up) (by rw [cl2, s0, nI_pred]) ⟨i2, nm_r (e' := nI (up + 1)) (by rw [cl2, s0]) ?_⟩⟩⟩⟩
  refine loop_0 (fun n s (σ : (Nat → Int64) × (Nat → Int32)) => wX_seq_69 post (nI x) (nI y) (nI up) n (nI s) (nI (r.length + 2)) (nI m) f_events (nI (up + 1)) f_states f_finals f_logged a_base a_size a_edge a_ends σ.1 σ.2 a_move a_log a_reach)
    (fun s σ => (∀ s', s' < s → ∀ k, k < 4 → ∀ t, zb_t (σ.1 (s' * 4 + k)) t = true ↔ (zb_t (a_edge ((x + s') * 4 + k)) t = true ∨ (¬ a_ends (x + s') = 0 ∧ t < 64 ∧ up ≤ t ∧ zb_t (a_edge (y * 4 + k)) (t - up) = true))) ∧
      (∀ s', s' < s → (¬ σ.2 s' = 0 ↔ (¬ a_ends (x + s') = 0 ∧ ¬ a_ends y = 0))) ∧ zx_B σ.2) (up + 1) (a_joinEdge, a_joinEnds) ?_ ?_ ?_
  · exact ⟨fun s' a => by omega, fun s' a => by omega, hJ⟩
  · rintro n ⟨je, jn⟩ ⟨q1, q2, q3⟩
    dsimp only at q1 q2 q3
    refine br_t (nI_lt (Nat.lt_succ_self _) (by omega)) (zx_tail y up ny (r.length + 1) rfl rfl (by omega) s1 ny1 hy80 (by omega) hE q3 (fun je' jn' t1 t2 t3 t4 t5 => ?_))
    refine zx_settle (e := e1 + e2) (ev1 := ev1) (ev := ev) (by omega) b0 hr j64 j80 hj lev hE t5 ?_ (fun size' edge' ends' hX => K _ _ _ _ _ _ _ hX)
    refine zm_seq MA MB ?_ ?_ ?_ ?_
    · intro s hs a t
      unfold zr_E
      rw [Nat.zero_add]
      constructor
      · rintro ⟨ha, hz⟩
        rw [t3 _ (by omega)] at hz
        rcases (q1 s hs a ha t).mp hz with p | ⟨p1, _, p2, p3⟩
        · exact Or.inl ⟨ha, p⟩
        · exact Or.inr ⟨p1, p2, ha, p3⟩
      · rintro (⟨ha, p⟩ | ⟨p1, p2, ha, p3⟩)
        · refine ⟨ha, ?_⟩
          rw [t3 _ (by omega)]
          exact (q1 s hs a ha t).mpr (Or.inl p)
        · refine ⟨ha, ?_⟩
          rw [t3 _ (by omega)]
          have := (MB.2.1 0 (by omega) a (t - up) ⟨ha, p3⟩).2.2
          exact (q1 s hs a ha t).mpr (Or.inr ⟨p1, by omega, p2, p3⟩)
    · intro s h1 hs a t
      unfold zr_E
      rw [Nat.zero_add]
      constructor
      · rintro ⟨ha, hz⟩
        rw [t1 s h1 hs a ha, zb_shl up (by omega)] at hz
        exact ⟨hz.2.1, ha, hz.2.2⟩
      · rintro ⟨p2, ha, p3⟩
        have := (MB.2.1 s hs a (t - up) ⟨ha, p3⟩).2.2
        refine ⟨ha, ?_⟩
        rw [t1 s h1 hs a ha, zb_shl up (by omega)]
        exact ⟨by omega, p2, p3⟩
    · intro s hs
      unfold zr_F
      rw [Nat.zero_add, t4 s hs, Nat.add_zero]
      exact q2 s hs
    · intro s h1 hs
      unfold zr_F
      rw [Nat.zero_add, t2 s h1 hs]
  · rintro n s ⟨je, jn⟩ hs ⟨q1, q2, q3⟩ ih
    dsimp only at q1 q2 q3
    have a1 := nI_add x s
    have cl : (nI x + nI s).toNatClampNeg = x + s := by rw [a1, nI_clamp (by omega)]
    have cly : (nI y).toNatClampNeg = y := nI_clamp (by omega)
    have go : ∀ z : Int32, (z = 0 ∨ z = 1) → (¬ z = 0 ↔ (¬ a_ends (x + s) = 0 ∧ ¬ a_ends y = 0)) →
        wX_seq_108 post (wX_seq_69 post (nI x) (nI y) (nI up) n) (nI x) (nI y) (nI up) (nI s) z (nI s) (nI (r.length + 2)) (nI m) f_events (nI (up + 1)) f_states f_finals f_logged a_base a_size a_edge a_ends je jn a_move a_log a_reach := by
      intro z hz hzz
      refine zx_seq108 x y up s z hz (by omega) (by omega) (by omega) (by omega) (fun je' k1 k2 => ih (je', upd jn s z) ⟨?_, ?_, ?_⟩)
      · intro s' h' k hk t
        show zb_t (je' (s' * 4 + k)) t = true ↔ _
        by_cases c : s' = s
        · subst c; exact k1 k hk t
        · rw [k2 _ (by omega)]; exact q1 s' (by omega) k hk t
      · intro s' h'
        show ¬ upd jn s z s' = 0 ↔ _
        by_cases c : s' = s
        · subst c; rw [pk_us]; exact hzz
        · rw [pk_un c]; exact q2 s' (by omega)
      · have := zx_Bu (k := s) (x := z) q3
        rw [zn_nbk hz] at this
        exact this
    refine br_f (nI_nlt (by omega) (by omega)) ⟨by rw [a1]; exact vp_in_nI (by omega) (by decide), ?_⟩
    by_cases c : a_ends (x + s) = 0
    · refine br_t (by rw [cl]; exact c) ?_
      unfold wX_seq_107
      exact go 0 (Or.inl rfl) ⟨fun z => absurd rfl z, fun z => absurd c z.1⟩
    · refine br_f (by rw [cl]; exact c) ⟨vp_in_nI (by omega) (by decide), ?_⟩
      by_cases c2 : a_ends y = 0
      · refine br_t (by rw [cly]; exact c2) ?_
        unfold wX_seq_107
        exact go 0 (Or.inl rfl) ⟨fun z => absurd rfl z, fun z => absurd c2 z.2⟩
      · refine br_f (by rw [cly]; exact c2) (go 1 (Or.inr rfl) ⟨fun _ => ⟨c, c2⟩, fun _ => zn_10⟩)
theorem zx_ch137 {post : Int32 → SX → Prop} {A B : zl_L} {r : List zl_L} {m ev : Nat} (hl : r.length ≤ 6)
    {x y up ny e1 e2 ev1 : Nat} {z : Int32} (hz : z = 0 ∨ z = 1) (hzz : ¬ z = 0 ↔ (¬ a_ends x = 0 ∨ ¬ a_ends y = 0))
    (b0 : a_base r.length = nI x) (s1 : a_size (r.length + 1) = nI ny) (MA : zm_M (up + 1) (zr_E a_edge x) (zr_F a_ends x) A) (MB : zm_M ny (zr_E a_edge y) (zr_F a_ends y) B)
    (hr : zr_Stk a_base a_size a_edge a_ends r x ev1) (lev : (e1 + e2) + ev1 ≤ ev) (hy80 : y + ny ≤ 80) (hj : up + ny ≤ 2 ^ (e1 + e2)) (j64 : up + ny ≤ 64) (j80 : x + (up + ny) ≤ 80) (hE : zx_B a_ends) (hJ : zx_B a_joinEnds)
    (q1 : ∀ s', s' < up + 1 → ∀ k, k < 4 → ∀ t, zb_t (a_joinEdge (s' * 4 + k)) t = true ↔ zb_t (a_edge ((x + s') * 4 + k)) t = true) (q2 : ∀ s', s' < up + 1 → a_joinEnds s' = a_ends (x + s'))
    (K : ∀ (joined' : Int32) (base' size' : Nat → Int32) (edge' : Nat → Int64) (ends' : Nat → Int32) (je' : Nat → Int64) (jn' : Nat → Int32), zr_XA base' size' edge' ends' jn' (zl_ch A B :: r) ev →
      post (nI (r.length + 1)) (nI (r.length + 1), nI (m + 1), f_events, joined', f_states, f_finals, f_logged, base', size', edge', ends', je', jn', a_move, a_log, a_reach)) :
    wX_choice_137 post (nI y) (nI up) z 0 (nI (r.length + 2)) (nI m) f_events f_joined f_states f_finals f_logged a_base a_size a_edge a_ends a_joinEdge a_joinEnds a_move a_log a_reach := by
  have ny1 : 1 ≤ ny := MB.1
  unfold wX_choice_137
  refine ⟨vp_in_nI (n := 0) (by decide) (by decide), nm_r (e' := upd a_joinEnds 0 z) (by rw [zn_nbk hz]; rfl) ?_⟩
  have hJ' : zx_B (upd a_joinEnds 0 z) := by
    have := zx_Bu (k := 0) (x := z) hJ
    rw [zn_nbk hz] at this
    exact this
  refine zx_add y 0 up rfl rfl rfl (by omega) (by decide) (fun je g1 g2 => ?_)
  refine zx_tail y up ny (r.length + 1) rfl rfl (by omega) s1 ny1 hy80 j64 hE hJ' (fun je' jn' t1 t2 t3 t4 t5 => ?_)
  refine zx_settle (e := e1 + e2) (ev1 := ev1) (ev := ev) (by omega) b0 hr j64 j80 hj lev hE t5 ?_ (fun size' edge' ends' hX => K _ _ _ _ _ _ _ hX)
  refine zm_ch MA MB ?_ ?_ ?_ ?_ ?_ ?_
  · intro a t
    have hh : a < 4 → (zb_t (je' ((0 + 0) * 4 + a)) t = true ↔ (zb_t (a_joinEdge (0 * 4 + a)) t = true ∨ (t < 64 ∧ up ≤ t ∧ zb_t (a_edge (y * 4 + a)) (t - up) = true))) := by
      intro ha
      rw [t3 _ (by omega), show (0 + 0) * 4 + a = 0 * 4 + a from rfl, g1 a ha, zb_or, Bool.or_eq_true, zb_shl up (by omega)]
    unfold zr_E
    constructor
    · rintro ⟨ha, hz⟩
      rcases (hh ha).mp hz with p | p
      · exact Or.inl ⟨ha, (q1 0 (by omega) a ha t).mp p⟩
      · exact Or.inr ⟨p.2.1, ha, p.2.2⟩
    · rintro (⟨ha, p⟩ | ⟨p2, ha, p3⟩)
      · exact ⟨ha, (hh ha).mpr (Or.inl ((q1 0 (by omega) a ha t).mpr p))⟩
      · have := (MB.2.1 0 (by omega) a (t - up) ⟨ha, p3⟩).2.2
        exact ⟨ha, (hh ha).mpr (Or.inr ⟨by omega, p2, p3⟩)⟩
  · intro s h1 hs a t
    unfold zr_E
    rw [Nat.zero_add]
    constructor
    · rintro ⟨ha, hz⟩
      rw [t3 _ (by omega), g2 _ (by omega)] at hz
      exact ⟨ha, (q1 s hs a ha t).mp hz⟩
    · rintro ⟨ha, hz⟩
      refine ⟨ha, ?_⟩
      rw [t3 _ (by omega), g2 _ (by omega)]
      exact (q1 s hs a ha t).mpr hz
  · intro s h1 hs a t
    unfold zr_E
    rw [Nat.zero_add]
    constructor
    · rintro ⟨ha, hz⟩
      rw [t1 s h1 hs a ha, zb_shl up (by omega)] at hz
      exact ⟨hz.2.1, ha, hz.2.2⟩
    · rintro ⟨p2, ha, p3⟩
      have := (MB.2.1 s hs a (t - up) ⟨ha, p3⟩).2.2
      refine ⟨ha, ?_⟩
      rw [t1 s h1 hs a ha, zb_shl up (by omega)]
      exact ⟨by omega, p2, p3⟩
  · unfold zr_F
    rw [Nat.zero_add, t4 0 (by omega), pk_us, Nat.add_zero, Nat.add_zero]
    exact hzz
  · intro s h1 hs
    unfold zr_F
    rw [Nat.zero_add, t4 s hs, pk_un (by omega), q2 s hs]
  · intro s h1 hs
    unfold zr_F
    rw [Nat.zero_add, t2 s h1 hs]
theorem zx_choice {post : Int32 → SX → Prop} {A B : zl_L} {r : List zl_L} {m ev : Nat} (hm : m < 16) (hl : r.length ≤ 6) (hev : ev ≤ 6)
    (hA : zr_XA a_base a_size a_edge a_ends a_joinEnds (B :: A :: r) ev)
    (K : ∀ (joined' : Int32) (base' size' : Nat → Int32) (edge' : Nat → Int64) (ends' : Nat → Int32) (je' : Nat → Int64) (jn' : Nat → Int32), zr_XA base' size' edge' ends' jn' (zl_ch A B :: r) ev →
      post (nI (r.length + 1)) (nI (r.length + 1), nI (m + 1), f_events, joined', f_states, f_finals, f_logged, base', size', edge', ends', je', jn', a_move, a_log, a_reach)) :
    wpX_choice post (nI (r.length + 2), nI m, f_events, f_joined, f_states, f_finals, f_logged, a_base, a_size, a_edge, a_ends, a_joinEdge, a_joinEnds, a_move, a_log, a_reach) := by
  obtain ⟨⟨top, hS⟩, hE, hJ⟩ := hA
  obtain ⟨x, y, up, ny, e1, e2, ev1, b0, b1, s0, s1, ey, MA, MB, hr, l0, l1, lev, hy80, hroom, hj⟩ := zr_two hS hev hl
  obtain ⟨j64, j80⟩ := hroom _ hj
  have ny1 : 1 ≤ ny := MB.1
  unfold wpX_choice
  refine zx_refused (c := 2) rfl hm (by omega) (by omega) (br_t (by decide) ?_)
  have i2 : vp_in (nI (r.length + 2) - 2) 8 := by rw [zn_m2]; exact vp_in_nI (by omega) (by decide)
  have i1 : vp_in (nI (r.length + 2) - 1) 8 := by rw [nI_pred]; exact vp_in_nI (by omega) (by decide)
  have cl2 : (nI (r.length + 2) - 2).toNatClampNeg = r.length := by rw [zn_m2, nI_clamp (by omega)]
  have cl1 : (nI (r.length + 2) - 1).toNatClampNeg = r.length + 1 := by rw [nI_pred, nI_clamp (by omega)]
  refine ⟨i2, nm_r (e' := nI x) (by rw [cl2, b0]) ⟨i1, nm_r (e' := nI y) (by rw [cl1, b1]) ⟨i2, nm_r (e' := nI up) (by rw [cl2, s0, nI_pred]) ⟨i2, nm_r (e' := nI (up + 1)) (by rw [cl2, s0]) ?_⟩⟩⟩⟩
  refine loop_0 (fun n s (σ : (Nat → Int64) × (Nat → Int32)) => wX_choice_69 post (nI x) (nI y) (nI up) n (nI s) (nI (r.length + 2)) (nI m) f_events (nI (up + 1)) f_states f_finals f_logged a_base a_size a_edge a_ends σ.1 σ.2 a_move a_log a_reach)
    (fun s σ => (∀ s', s' < s → ∀ k, k < 4 → ∀ t, zb_t (σ.1 (s' * 4 + k)) t = true ↔ zb_t (a_edge ((x + s') * 4 + k)) t = true) ∧
      (∀ s', s' < s → σ.2 s' = a_ends (x + s')) ∧ zx_B σ.2) (up + 1) (a_joinEdge, a_joinEnds) ?_ ?_ ?_
  · exact ⟨fun s' a => by omega, fun s' a => by omega, hJ⟩
  · rintro n ⟨je, jn⟩ ⟨q1, q2, q3⟩
    dsimp only at q1 q2 q3
    have clx : (nI x).toNatClampNeg = x := nI_clamp (by omega)
    have cly : (nI y).toNatClampNeg = y := nI_clamp (by omega)
    have vx : vp_in (nI x) 80 := vp_in_nI (by omega) (by decide)
    have vy : vp_in (nI y) 80 := vp_in_nI (by omega) (by decide)
    refine br_t (nI_lt (Nat.lt_succ_self _) (by omega)) ⟨vx, ?_⟩
    by_cases c : a_ends x = 0
    · refine br_t (by rw [clx]; exact c) ⟨vy, ?_⟩
      by_cases c2 : a_ends y = 0
      · refine br_t (by rw [cly]; exact c2) ?_
        exact zx_ch137 hl (Or.inl rfl) ⟨fun z => absurd rfl z, fun z => z.elim (fun w => absurd c w) (fun w => absurd c2 w)⟩ b0 s1 MA MB hr lev hy80 hj j64 j80 hE q3 q1 q2 K
      · refine br_f (by rw [cly]; exact c2) ?_
        unfold wX_choice_132
        exact zx_ch137 hl (Or.inr rfl) ⟨fun _ => Or.inr c2, fun _ => zn_10⟩ b0 s1 MA MB hr lev hy80 hj j64 j80 hE q3 q1 q2 K
    · refine br_f (by rw [clx]; exact c) ?_
      unfold wX_choice_132
      exact zx_ch137 hl (Or.inr rfl) ⟨fun _ => Or.inl c, fun _ => zn_10⟩ b0 s1 MA MB hr lev hy80 hj j64 j80 hE q3 q1 q2 K
  · rintro n s ⟨je, jn⟩ hs ⟨q1, q2, q3⟩ ih
    dsimp only at q1 q2 q3
    have a1 := nI_add x s
    refine br_f (nI_nlt (by omega) (by omega)) ⟨by rw [a1]; exact vp_in_nI (by omega) (by decide), vp_in_nI (by omega) (by decide), ?_⟩
    refine nm_r (e' := upd jn s (a_ends (x + s))) (by rw [a1, nI_clamp (by omega), nI_clamp (by omega), zn_nbk (hE (x + s))]) ?_
    refine zx_copy (x + s) s 0 a1 rfl rfl (by omega) (by omega) (fun je' k1 k2 => nm_r (nI_1 s) (ih (je', upd jn s (a_ends (x + s))) ⟨?_, ?_, ?_⟩))
    · intro s' h' k hk t
      show zb_t (je' (s' * 4 + k)) t = true ↔ _
      by_cases c : s' = s
      · subst c; rw [k1 k hk, zb_sh0]
      · rw [k2 _ (by omega)]; exact q1 s' (by omega) k hk t
    · intro s' h'
      show upd jn s (a_ends (x + s)) s' = _
      by_cases c : s' = s
      · subst c; exact pk_us
      · rw [pk_un c]; exact q2 s' (by omega)
    · have := zx_Bu (k := s) (x := a_ends (x + s)) q3
      rw [zn_nbk (hE (x + s))] at this
      exact this
end
end
section
/-! both: spread, pair; loop, option -/
def zx_Q (edge : Nat → Int64) (ends : Nat → Int32) (x y nx ny : Nat) (je : Nat → Int64) (jn : Nat → Int32) (q : Nat) : Prop :=
  ∀ s, s < nx → ∀ t, t < ny → s * ny + t < q →
    (∀ k, k < 4 → ∀ z, zb_t (je ((s * ny + t) * 4 + k)) z = true ↔ ((∃ b, zb_t (edge ((x + s) * 4 + k)) b = true ∧ z = b * ny + t) ∨ (∃ b, zb_t (edge ((y + t) * 4 + k)) b = true ∧ z = s * ny + b))) ∧
    (¬ jn (s * ny + t) = 0 ↔ (¬ ends (x + s) = 0 ∧ ¬ ends (y + t) = 0))
section
variable {f_height f_made f_events f_joined f_states f_logged : Int32} {f_finals : Int64} {a_base a_size a_ends a_joinEnds a_log : Nat → Int32} {a_edge a_joinEdge a_move a_reach : Nat → Int64}
theorem zx_spread {post : Int64 → Prop} {p1 p2 : Int32} {set : Int64} (sc pl : Nat) (e1 : p1 = nI sc) (e2 : p2 = nI pl) (hb : ∀ b, zb_t set b = true → b * sc + pl < 64)
    (K : ∀ r, (∀ j, zb_t r j = true ↔ ∃ b, zb_t set b = true ∧ j = b * sc + pl) → post r) : wpX_spread post (f_height, f_made, f_events, f_joined, f_states, f_finals, f_logged, a_base, a_size, a_edge, a_ends, a_joinEdge, a_joinEnds, a_move, a_log, a_reach) set p1 p2 := by
  subst e1 e2
  show ∃ n, wX_spread_6 post set (nI sc) (nI pl) f_height f_made f_events f_joined f_states f_finals f_logged a_base a_size a_edge a_ends a_joinEdge a_joinEnds a_move a_log a_reach n 0 0
  refine loop_0 (fun n i out => wX_spread_6 post set (nI sc) (nI pl) f_height f_made f_events f_joined f_states f_finals f_logged a_base a_size a_edge a_ends a_joinEdge a_joinEnds a_move a_log a_reach n out (nI i)) (fun i out => ∀ j, zb_t out j = true ↔ ∃ b, b < i ∧ zb_t set b = true ∧ j = b * sc + pl) 64 0 ?_ ?_ ?_
  · intro j
    rw [zb_0]
    constructor
    · intro z; exact absurd z (by decide)
    · rintro ⟨b, h, _⟩; omega
  · intro n out h
    refine br_t (by decide : (64 : Int32) ≤ nI 64) (K out (fun j => (h j).trans ⟨?_, ?_⟩))
    · rintro ⟨b, _, q⟩; exact ⟨b, q⟩
    · rintro ⟨b, q1, q2⟩; exact ⟨b, zb_lt q1, q1, q2⟩
  · intro n i out hi h ih
    refine br_f (nI_ge (b := 64) hi (by decide)) ?_
    by_cases c : zb_t set i = true
    · have e : nI i * nI sc + nI pl = nI (i * sc + pl) := by rw [pk_mul, nI_add]
      refine br_t ((zb_tst set i hi).mpr c) (nm_r (e' := out ||| ((1 : Int64) <<< ((nI (i * sc + pl)).toInt64 &&& 63))) (by rw [e]) (nm_r (nI_1 i) (ih _ ?_)))
      intro j
      rw [zb_or, Bool.or_eq_true, h j, zb_one _ (hb i c)]
      constructor
      · rintro (⟨b, q1, q2⟩ | q)
        · exact ⟨b, by omega, q2⟩
        · exact ⟨i, by omega, c, q⟩
      · rintro ⟨b, q1, q2, q3⟩
        by_cases d : b = i
        · subst d; exact Or.inr q3
        · exact Or.inl ⟨b, by omega, q2, q3⟩
    · refine br_f (fun z => c ((zb_tst set i hi).mp z)) (nm_r (nI_1 i) (ih _ ?_))
      intro j
      rw [h j]
      constructor
      · rintro ⟨b, q1, q2⟩
        exact ⟨b, by omega, q2⟩
      · rintro ⟨b, q1, q2, q3⟩
        by_cases d : b = i
        · subst d; exact absurd q2 c
        · exact ⟨b, by omega, q2, q3⟩
theorem zx_pair72 {post : SX → Prop} (s t ny xs yt to : Nat) (hx : xs < 80) (hy : yt < 80) (hto : to < 64) (hsn : s * ny < 64)
    (hX : ∀ k, k < 4 → ∀ b, zb_t (a_edge (xs * 4 + k)) b = true → b * ny + t < 64)
    (K : ∀ je : Nat → Int64, (∀ k, k < 4 → ∀ z, zb_t (je (to * 4 + k)) z = true ↔ ((∃ b, zb_t (a_edge (xs * 4 + k)) b = true ∧ z = b * ny + t) ∨ (z < 64 ∧ s * ny ≤ z ∧ zb_t (a_edge (yt * 4 + k)) (z - s * ny) = true))) →
      (∀ j, (j < to * 4 ∨ to * 4 + 4 ≤ j) → je j = a_joinEdge j) → post (f_height, f_made, f_events, f_joined, f_states, f_finals, f_logged, a_base, a_size, a_edge, a_ends, je, a_joinEnds, a_move, a_log, a_reach)) :
    ∃ n, wX_pair_72 post (nI s) (nI t) (nI ny) (nI xs) (nI yt) (nI to) f_height f_made f_events f_joined f_states f_finals f_logged n 0 a_base a_size a_edge a_ends a_joinEdge a_joinEnds a_move a_log a_reach := by
  refine loop_0 (fun n i e => wX_pair_72 post (nI s) (nI t) (nI ny) (nI xs) (nI yt) (nI to) f_height f_made f_events f_joined f_states f_finals f_logged n (nI i) a_base a_size a_edge a_ends e a_joinEnds a_move a_log a_reach)
    (fun i e => (∀ k, k < i → ∀ z, zb_t (e (to * 4 + k)) z = true ↔ ((∃ b, zb_t (a_edge (xs * 4 + k)) b = true ∧ z = b * ny + t) ∨ (z < 64 ∧ s * ny ≤ z ∧ zb_t (a_edge (yt * 4 + k)) (z - s * ny) = true))) ∧
      (∀ j, (j < to * 4 ∨ to * 4 + i ≤ j) → e j = a_joinEdge j)) 4 a_joinEdge ?_ ?_ ?_
  · exact ⟨fun k hk => by omega, fun j _ => rfl⟩
  · intro n e h
    exact br_t (by decide : (4 : Int32) ≤ nI 4) (K e h.1 h.2)
  · intro n i e hi h ih
    have i1 := zn_ix xs i
    have i2 := zn_ix yt i
    have i3 := zn_ix to i
    refine br_f (nI_ge (b := 4) hi (by decide)) ⟨by rw [i1]; exact vp_in_nI (by omega) (by decide), ?_⟩
    refine zx_spread ny t rfl rfl (by rw [i1, nI_clamp (by omega)]; exact hX i hi) (fun r hr => ?_)
    rw [i1, nI_clamp (by omega)] at hr
    refine ⟨by rw [i2]; exact vp_in_nI (by omega) (by decide), nm_r (e' := a_edge (yt * 4 + i) <<< ((nI (s * ny)).toInt64 &&& 63)) (by rw [i2, nI_clamp (by omega), pk_mul]) ?_⟩
    refine ⟨by rw [i3]; exact vp_in_nI (by omega) (by decide), nm_r (e' := vp_updL e (to * 4 + i) (r ||| (a_edge (yt * 4 + i) <<< ((nI (s * ny)).toInt64 &&& 63)))) (by rw [i3, nI_clamp (by omega)]) (nm_r (nI_1 i) (ih _ ⟨?_, ?_⟩))⟩
    · intro k hk z
      by_cases c : k = i
      · subst c
        rw [pk_uLs, zb_or, Bool.or_eq_true, hr z, zb_shl _ hsn]
      · rw [pk_uLn (by omega)]; exact h.1 k (by omega) z
    · intro j hj
      rw [pk_uLn (by omega)]; exact h.2 j (by omega)
theorem zx_pair {post : SX → Prop} {p0 p1 p2 : Int32} {A B : zl_L} (h s t nx ny x y : Nat) (e0 : p0 = nI s) (e1 : p1 = nI t) (e2 : p2 = nI ny) (hh : h ≤ 6) (hs : s < nx) (ht : t < ny) (b0 : a_base h = nI x) (b1 : a_base (h + 1) = nI y)
    (hxn : x + nx ≤ 80) (hyn : y + ny ≤ 80) (hj : nx * ny ≤ 64) (MA : zm_M nx (zr_E a_edge x) (zr_F a_ends x) A) (MB : zm_M ny (zr_E a_edge y) (zr_F a_ends y) B)
    (K : ∀ (je : Nat → Int64) (z : Int32), (z = 0 ∨ z = 1) → (¬ z = 0 ↔ (¬ a_ends (x + s) = 0 ∧ ¬ a_ends (y + t) = 0)) →
      (∀ k, k < 4 → ∀ z, zb_t (je ((s * ny + t) * 4 + k)) z = true ↔ ((∃ b, zb_t (a_edge ((x + s) * 4 + k)) b = true ∧ z = b * ny + t) ∨ (∃ b, zb_t (a_edge ((y + t) * 4 + k)) b = true ∧ z = s * ny + b))) →
      (∀ j, (j < (s * ny + t) * 4 ∨ (s * ny + t) * 4 + 4 ≤ j) → je j = a_joinEdge j) → post (nI (h + 2), f_made, f_events, f_joined, f_states, f_finals, f_logged, a_base, a_size, a_edge, a_ends, je, upd a_joinEnds (s * ny + t) z, a_move, a_log, a_reach)) :
    wpX_pair post (nI (h + 2), f_made, f_events, f_joined, f_states, f_finals, f_logged, a_base, a_size, a_edge, a_ends, a_joinEdge, a_joinEnds, a_move, a_log, a_reach) p0 p1 p2 := by
  subst e0 e1 e2
  have hst := zm_pairlt hs ht
  have hsn : s * ny < 64 := by omega
  unfold wpX_pair
  refine ⟨by rw [zn_m2]; exact vp_in_nI (by omega) (by decide), nm_r (e' := nI (x + s)) (by rw [zn_m2, nI_clamp (by omega), b0, nI_add])
    ⟨by rw [nI_pred]; exact vp_in_nI (by omega) (by decide), nm_r (e' := nI (y + t)) (by rw [nI_pred, nI_clamp (by omega), b1, nI_add])
    (nm_r (e' := nI (s * ny + t)) (by rw [pk_mul, nI_add]) ⟨vp_in_nI (by omega) (by decide), ?_⟩)⟩⟩
  have clx : (nI (x + s)).toNatClampNeg = x + s := nI_clamp (by omega)
  have cly : (nI (y + t)).toNatClampNeg = y + t := nI_clamp (by omega)
  have clt : (nI (s * ny + t)).toNatClampNeg = s * ny + t := nI_clamp (by omega)
  have vt : vp_in (nI (s * ny + t)) 64 := vp_in_nI (by omega) (by decide)
  have go : ∀ z : Int32, (z = 0 ∨ z = 1) → (¬ z = 0 ↔ (¬ a_ends (x + s) = 0 ∧ ¬ a_ends (y + t) = 0)) →
      ∃ n, wX_pair_72 post (nI s) (nI t) (nI ny) (nI (x + s)) (nI (y + t)) (nI (s * ny + t)) (nI (h + 2)) f_made f_events f_joined f_states f_finals f_logged n 0 a_base a_size a_edge a_ends a_joinEdge (upd a_joinEnds (s * ny + t) z) a_move a_log a_reach := by
    intro z hz hzz
    refine zx_pair72 s t ny (x + s) (y + t) (s * ny + t) (by omega) (by omega) (by omega) hsn ?_ (fun je k1 k2 => K je z hz hzz ?_ k2)
    · intro k hk b q
      have := (MA.2.1 s hs k b ⟨hk, q⟩).2.2
      have := zm_pairlt this ht
      omega
    · intro k hk q
      rw [k1 k hk q]
      constructor
      · rintro (p | ⟨p1, p2, p3⟩)
        · exact Or.inl p
        · exact Or.inr ⟨q - s * ny, p3, by omega⟩
      · rintro (p | ⟨b, p1, p2⟩)
        · exact Or.inl p
        · have := (MB.2.1 t ht k b ⟨hk, p1⟩).2.2
          have := zm_pairlt hs this
          refine Or.inr ⟨by omega, by omega, ?_⟩
          rw [show q - s * ny = b by omega]
          exact p1
  by_cases c : a_ends (x + s) = 0
  · refine br_t (by rw [clx]; exact c) ⟨vt, nm_r (e' := upd a_joinEnds (s * ny + t) 0) (by rw [clt]; rfl) (go 0 (Or.inl rfl) ⟨fun z => absurd rfl z, fun z => absurd c z.1⟩)⟩
  · refine br_f (by rw [clx]; exact c) ⟨vp_in_nI (by omega) (by decide), ?_⟩
    by_cases c2 : a_ends (y + t) = 0
    · exact br_t (by rw [cly]; exact c2) ⟨vt, nm_r (e' := upd a_joinEnds (s * ny + t) 0) (by rw [clt]; rfl) (go 0 (Or.inl rfl) ⟨fun z => absurd rfl z, fun z => absurd c2 z.2⟩)⟩
    · exact br_f (by rw [cly]; exact c2) ⟨vt, nm_r (e' := upd a_joinEnds (s * ny + t) 1) (by rw [clt]; rfl) (go 1 (Or.inr rfl) ⟨fun _ => ⟨c, c2⟩, fun _ => zn_10⟩)⟩
theorem zx_both {post : Int32 → SX → Prop} {A B : zl_L} {r : List zl_L} {m ev : Nat} (hm : m < 16) (hl : r.length ≤ 6) (hev : ev ≤ 6)
    (hA : zr_XA a_base a_size a_edge a_ends a_joinEnds (B :: A :: r) ev)
    (K : ∀ (joined' : Int32) (base' size' : Nat → Int32) (edge' : Nat → Int64) (ends' : Nat → Int32) (je' : Nat → Int64) (jn' : Nat → Int32), zr_XA base' size' edge' ends' jn' (zl_both A B :: r) ev →
      post (nI (r.length + 1)) (nI (r.length + 1), nI (m + 1), f_events, joined', f_states, f_finals, f_logged, base', size', edge', ends', je', jn', a_move, a_log, a_reach)) :
    wpX_both post (nI (r.length + 2), nI m, f_events, f_joined, f_states, f_finals, f_logged, a_base, a_size, a_edge, a_ends, a_joinEdge, a_joinEnds, a_move, a_log, a_reach) := by
  obtain ⟨⟨top, hS⟩, hE, hJ⟩ := hA
  obtain ⟨x, y, up, ny, e1, e2, ev1, b0, b1, s0, s1, ey, MA, MB, hr, l0, l1, lev, hy80, hroom, _⟩ := zr_two hS hev hl
  have hj : (up + 1) * ny ≤ 2 ^ (e1 + e2) := by rw [Nat.pow_add]; exact Nat.mul_le_mul l0 l1
  obtain ⟨j64, j80⟩ := hroom _ hj
  have ny1 : 1 ≤ ny := MB.1
  generalize hnx : up + 1 = nx at *
  unfold wpX_both
  refine zx_refused (c := 2) rfl hm (by omega) (by omega) (br_t (by decide) ?_)
  have i2 : vp_in (nI (r.length + 2) - 2) 8 := by rw [zn_m2]; exact vp_in_nI (by omega) (by decide)
  have i1 : vp_in (nI (r.length + 2) - 1) 8 := by rw [nI_pred]; exact vp_in_nI (by omega) (by decide)
  have cl2 : (nI (r.length + 2) - 2).toNatClampNeg = r.length := by rw [zn_m2, nI_clamp (by omega)]
  have cl1 : (nI (r.length + 2) - 1).toNatClampNeg = r.length + 1 := by rw [nI_pred, nI_clamp (by omega)]
  refine ⟨i2, nm_r (e' := nI nx) (by rw [cl2, s0]) ⟨i1, nm_r (e' := nI ny) (by rw [cl1, s1]) ?_⟩⟩
  refine loop_0 (fun n s (σ : (Nat → Int64) × (Nat → Int32)) => wX_both_39 post (nI nx) (nI ny) n (nI s) (nI (r.length + 2)) (nI m) f_events f_joined f_states f_finals f_logged a_base a_size a_edge a_ends σ.1 σ.2 a_move a_log a_reach)
    (fun s σ => zx_Q a_edge a_ends x y nx ny σ.1 σ.2 (s * ny) ∧ zx_B σ.2) nx (a_joinEdge, a_joinEnds) ?_ ?_ ?_
  · exact ⟨fun s hs t ht h => by omega, hJ⟩
  · rintro n ⟨je, jn⟩ ⟨q1, q2⟩
    dsimp only at q1 q2
    refine br_t (nI_le (Nat.le_refl _) (by omega)) (nm_r (e' := nI (nx * ny)) (pk_mul nx ny) ?_)
    refine zx_settle (e := e1 + e2) (ev1 := ev1) (ev := ev) (by omega) b0 hr j64 j80 hj lev hE q2 ?_ (fun size' edge' ends' hX => K _ _ _ _ _ _ _ hX)
    refine zm_both MA MB ?_ ?_
    · intro s hs t ht a z
      have := zm_pairlt hs ht
      unfold zr_E
      rw [Nat.zero_add]
      constructor
      · rintro ⟨ha, hz⟩
        rcases ((q1 s hs t ht this).1 a ha z).mp hz with ⟨b, p1, p2⟩ | ⟨b, p1, p2⟩
        · exact Or.inl ⟨b, ⟨ha, p1⟩, p2⟩
        · exact Or.inr ⟨b, ⟨ha, p1⟩, p2⟩
      · rintro (⟨b, ⟨ha, p1⟩, p2⟩ | ⟨b, ⟨ha, p1⟩, p2⟩)
        · exact ⟨ha, ((q1 s hs t ht this).1 a ha z).mpr (Or.inl ⟨b, p1, p2⟩)⟩
        · exact ⟨ha, ((q1 s hs t ht this).1 a ha z).mpr (Or.inr ⟨b, p1, p2⟩)⟩
    · intro s hs t ht
      have := zm_pairlt hs ht
      unfold zr_F
      rw [Nat.zero_add]
      exact (q1 s hs t ht this).2
  · rintro n s ⟨je, jn⟩ hs ⟨q1, q2⟩ ih
    dsimp only at q1 q2
    refine br_f (nI_ge hs (by omega)) ?_
    refine loop_0 (fun n' t (σ : (Nat → Int64) × (Nat → Int32)) => wX_both_48 post (wX_both_39 post (nI nx) (nI ny) n) (nI nx) (nI ny) (nI s) n' (nI t) (nI (r.length + 2)) (nI m) f_events f_joined f_states f_finals f_logged a_base a_size a_edge a_ends σ.1 σ.2 a_move a_log a_reach)
      (fun t σ => zx_Q a_edge a_ends x y nx ny σ.1 σ.2 (s * ny + t) ∧ zx_B σ.2) ny (je, jn) ?_ ?_ ?_
    · exact ⟨q1, q2⟩
    · rintro n' ⟨je', jn'⟩ ⟨p1, p2⟩
      refine br_t (nI_le (Nat.le_refl _) (by omega)) (nm_r (nI_1 s) (ih (je', jn') ⟨?_, p2⟩))
      rw [Nat.add_mul, Nat.one_mul]
      exact p1
    · rintro n' t ⟨je', jn'⟩ ht ⟨p1, p2⟩ ih'
      dsimp only at p1 p2
      have hst := zm_pairlt hs ht
      refine br_f (nI_ge ht (by omega)) ?_
      refine zx_pair r.length s t nx ny x y rfl rfl rfl hl hs ht b0 b1 (by omega) hy80 j64 MA MB (fun je2 z hz hzz k1 k2 => nm_r (nI_1 t) (ih' (je2, upd jn' (s * ny + t) z) ⟨?_, ?_⟩))
      · intro s' hs' t' ht' hlt
        show (∀ k, k < 4 → ∀ z, zb_t (je2 ((s' * ny + t') * 4 + k)) z = true ↔ _) ∧ (¬ upd jn' (s * ny + t) z (s' * ny + t') = 0 ↔ _)
        by_cases c : s' * ny + t' = s * ny + t
        · obtain ⟨rfl, rfl⟩ := zm_pair ht' ht c
          refine ⟨k1, ?_⟩
          rw [pk_us]
          exact hzz
        · obtain ⟨g1, g2⟩ := p1 s' hs' t' ht' (by omega)
          refine ⟨?_, ?_⟩
          · intro k hk q
            rw [k2 _ (by omega)]
            exact g1 k hk q
          · rw [pk_un c]
            exact g2
      · have := zx_Bu (k := s * ny + t) (x := z) p2
        rw [zn_nbk hz] at this
        exact this
theorem zx_again {post : SX → Prop} {p0 p1 : Int32} (x s : Nat) (e0 : p0 = nI x) (e1 : p1 = nI s) (hx : x < s) (hs : s < 80)
    (K : ∀ e' : Nat → Int64, (∀ k, k < 4 → e' (s * 4 + k) = a_edge (s * 4 + k) ||| a_edge (x * 4 + k)) → (∀ j, (j < s * 4 ∨ s * 4 + 4 ≤ j) → e' j = a_edge j) → post (f_height, f_made, f_events, f_joined, f_states, f_finals, f_logged, a_base, a_size, e', a_ends, a_joinEdge, a_joinEnds, a_move, a_log, a_reach)) :
    wpX_again post (f_height, f_made, f_events, f_joined, f_states, f_finals, f_logged, a_base, a_size, a_edge, a_ends, a_joinEdge, a_joinEnds, a_move, a_log, a_reach) p0 p1 := by
  subst e0 e1
  show ∃ n, wX_again_2 post (nI x) (nI s) f_height f_made f_events f_joined f_states f_finals f_logged n 0 a_base a_size a_edge a_ends a_joinEdge a_joinEnds a_move a_log a_reach
  refine loop_0 (fun n i e => wX_again_2 post (nI x) (nI s) f_height f_made f_events f_joined f_states f_finals f_logged n (nI i) a_base a_size e a_ends a_joinEdge a_joinEnds a_move a_log a_reach)
    (fun i e => (∀ k, k < i → e (s * 4 + k) = a_edge (s * 4 + k) ||| a_edge (x * 4 + k)) ∧ (∀ j, (j < s * 4 ∨ s * 4 + i ≤ j) → e j = a_edge j)) 4 a_edge ?_ ?_ ?_
  · exact ⟨fun k hk => by omega, fun j _ => rfl⟩
  · intro n e h
    exact br_t (by decide : (4 : Int32) ≤ nI 4) (K e h.1 h.2)
  · intro n i e hi h ih
    have ix := zn_ix x i
    have iy := zn_ix s i
    have vy : vp_in (nI s * 4 + nI i) 320 := by rw [iy]; exact vp_in_nI (by omega) (by decide)
    refine br_f (nI_ge (b := 4) hi (by decide)) ⟨vy, by rw [ix]; exact vp_in_nI (by omega) (by decide), vy, ?_⟩
    refine nm_r (e' := vp_updL e (s * 4 + i) (a_edge (s * 4 + i) ||| a_edge (x * 4 + i))) (by rw [ix, iy, nI_clamp (by omega), nI_clamp (by omega), h.2 (s * 4 + i) (by omega), h.2 (x * 4 + i) (by omega)]) (nm_r (nI_1 i) (ih _ ⟨?_, ?_⟩))
    · intro k hk
      by_cases c : k = i
      · subst c; exact pk_uLs
      · rw [pk_uLn (by omega)]; exact h.1 k (by omega)
    · intro j hj
      rw [pk_uLn (by omega)]; exact h.2 j (by omega)
theorem zx_loop {post : Int32 → SX → Prop} {A : zl_L} {r : List zl_L} {m ev : Nat} (hm : m < 16) (hl : r.length ≤ 7) (hev : ev ≤ 6)
    (hA : zr_XA a_base a_size a_edge a_ends a_joinEnds (A :: r) ev)
    (K : ∀ (edge' : Nat → Int64) (ends' : Nat → Int32), zr_XA a_base a_size edge' ends' a_joinEnds (zl_star A :: r) ev →
      post (nI (r.length + 1)) (nI (r.length + 1), nI (m + 1), f_events, f_joined, f_states, f_finals, f_logged, a_base, a_size, edge', ends', a_joinEdge, a_joinEnds, a_move, a_log, a_reach)) :
    wpX_loop post (nI (r.length + 1), nI m, f_events, f_joined, f_states, f_finals, f_logged, a_base, a_size, a_edge, a_ends, a_joinEdge, a_joinEnds, a_move, a_log, a_reach) := by
  obtain ⟨⟨top, hS⟩, hE, hJ⟩ := hA
  have cap := zr_cap _ _ _ hS
  have h64 := zr_le64 hev
  rw [List.length_cons] at cap
  obtain ⟨x, c, e, ev1, b0, s0, t0, l0, v0, MA, hr⟩ := hS
  have c1 : 1 ≤ c := MA.1
  unfold wpX_loop
  refine zx_refused (c := 1) rfl hm (by omega) (by omega) (br_t (by decide) ?_)
  have i1 : vp_in (nI (r.length + 1) - 1) 8 := by rw [nI_pred]; exact vp_in_nI (by omega) (by decide)
  have cl1 : (nI (r.length + 1) - 1).toNatClampNeg = r.length := by rw [nI_pred, nI_clamp (by omega)]
  refine ⟨i1, nm_r (e' := nI x) (by rw [cl1, b0]) ?_⟩
  refine pk_loop (fun n i e => wX_loop_26 post (nI x) n (nI i) (nI (r.length + 1)) (nI m) f_events f_joined f_states f_finals f_logged a_base a_size e a_ends a_joinEdge a_joinEnds a_move a_log a_reach)
    (fun i e => 1 ≤ i ∧ (∀ s, 1 ≤ s → s < i → ∀ k, k < 4 → ∀ t, zb_t (e ((x + s) * 4 + k)) t = true ↔ (zb_t (a_edge ((x + s) * 4 + k)) t = true ∨ (¬ a_ends (x + s) = 0 ∧ zb_t (a_edge (x * 4 + k)) t = true))) ∧
      (∀ j, (j < (x + 1) * 4 ∨ (x + i) * 4 ≤ j) → e j = a_edge j)) c 1 a_edge c1 ?_ ?_ ?_
  · exact ⟨Nat.le_refl 1, fun s a b => by omega, fun j _ => rfl⟩
  · rintro n e' ⟨_, q1, q2⟩
    refine ⟨i1, br_t (by rw [cl1, s0]; exact nI_le (Nat.le_refl _) (by omega)) ⟨vp_in_nI (by omega) (by decide), nm_r (e' := upd a_ends x 1) (by rw [nI_clamp (by omega)]; rfl) (nm_r (nI_1 m) (K _ _ ⟨⟨top, x, c, e, ev1, b0, s0, t0, l0, v0, ?_, ?_⟩, ?_, hJ⟩))⟩⟩
    · refine zm_loop MA ?_ ?_ ?_ ?_
      · intro a t
        unfold zr_E
        constructor
        · rintro ⟨ha, hz⟩
          rw [q2 _ (by omega)] at hz
          exact ⟨ha, hz⟩
        · rintro ⟨ha, hz⟩
          refine ⟨ha, ?_⟩
          rw [q2 _ (by omega)]
          exact hz
      · intro s h1 hs a t
        unfold zr_E zr_F
        rw [Nat.add_zero]
        constructor
        · rintro ⟨ha, hz⟩
          rcases (q1 s h1 hs a ha t).mp hz with p | ⟨p1, p2⟩
          · exact Or.inl ⟨ha, p⟩
          · exact Or.inr ⟨p1, ha, p2⟩
        · rintro (⟨ha, p⟩ | ⟨p1, ha, p2⟩)
          · exact ⟨ha, (q1 s h1 hs a ha t).mpr (Or.inl p)⟩
          · exact ⟨ha, (q1 s h1 hs a ha t).mpr (Or.inr ⟨p1, p2⟩)⟩
      · unfold zr_F
        rw [Nat.add_zero, pk_us]
        exact zn_10
      · intro s h1 hs
        unfold zr_F
        rw [pk_un (by omega)]
    · exact zr_Stk_fr r x ev1 hr (fun _ _ => rfl) (fun _ _ => rfl) (fun j hj => q2 j (by omega)) (fun j hj => pk_un (by omega))
    · exact zx_Bu (k := x) (x := 1) hE
  · rintro n i e' hi ⟨q0, q1, q2⟩ ih
    have a1 := nI_add x i
    have cl : (nI x + nI i).toNatClampNeg = x + i := by rw [a1, nI_clamp (by omega)]
    refine ⟨i1, br_f (by rw [cl1, s0]; exact nI_ge hi (by omega)) ⟨by rw [a1]; exact vp_in_nI (by omega) (by decide), ?_⟩⟩
    by_cases z : a_ends (x + i) = 0
    · refine br_t (by rw [cl]; exact z) (nm_r (nI_1 i) (ih _ ⟨by omega, ?_, fun j hj => q2 j (by omega)⟩))
      intro s h1 hs k hk t
      by_cases d : s = i
      · subst d
        rw [q2 _ (by omega)]
        exact ⟨fun p => Or.inl p, fun p => p.elim (fun w => w) (fun w => absurd z w.1)⟩
      · exact q1 s h1 (by omega) k hk t
    · refine br_f (by rw [cl]; exact z) (zx_again x (x + i) rfl a1 (by omega) (by omega) (fun e2 k1 k2 => nm_r (nI_1 i) (ih _ ⟨by omega, ?_, ?_⟩)))
      · intro s h1 hs k hk t
        by_cases d : s = i
        · subst d
          rw [k1 k hk, zb_or, Bool.or_eq_true, q2 _ (by omega), q2 _ (by omega)]
          exact ⟨fun p => p.elim Or.inl (fun w => Or.inr ⟨z, w⟩), fun p => p.elim Or.inl (fun w => Or.inr w.2)⟩
        · rw [k2 _ (by omega)]
          exact q1 s h1 (by omega) k hk t
      · intro j hj
        rw [k2 j (by omega)]
        exact q2 j (by omega)
theorem zx_option {post : Int32 → SX → Prop} {A : zl_L} {r : List zl_L} {m ev : Nat} (hm : m < 16) (hl : r.length ≤ 7) (hev : ev ≤ 6)
    (hA : zr_XA a_base a_size a_edge a_ends a_joinEnds (A :: r) ev)
    (K : ∀ (ends' : Nat → Int32), zr_XA a_base a_size a_edge ends' a_joinEnds (zl_opt A :: r) ev →
      post (nI (r.length + 1)) (nI (r.length + 1), nI (m + 1), f_events, f_joined, f_states, f_finals, f_logged, a_base, a_size, a_edge, ends', a_joinEdge, a_joinEnds, a_move, a_log, a_reach)) :
    wpX_option post (nI (r.length + 1), nI m, f_events, f_joined, f_states, f_finals, f_logged, a_base, a_size, a_edge, a_ends, a_joinEdge, a_joinEnds, a_move, a_log, a_reach) := by
  obtain ⟨⟨top, hS⟩, hE, hJ⟩ := hA
  have cap := zr_cap _ _ _ hS
  have h64 := zr_le64 hev
  rw [List.length_cons] at cap
  obtain ⟨x, c, e, ev1, b0, s0, t0, l0, v0, MA, hr⟩ := hS
  have c1 : 1 ≤ c := MA.1
  unfold wpX_option
  refine zx_refused (c := 1) rfl hm (by omega) (by omega) (br_t (by decide) ?_)
  have i1 : vp_in (nI (r.length + 1) - 1) 8 := by rw [nI_pred]; exact vp_in_nI (by omega) (by decide)
  have cl1 : (nI (r.length + 1) - 1).toNatClampNeg = r.length := by rw [nI_pred, nI_clamp (by omega)]
  refine ⟨i1, by rw [cl1, b0]; exact vp_in_nI (by omega) (by decide), nm_r (e' := upd a_ends x 1) (by rw [cl1, b0, nI_clamp (by omega)]; rfl) (nm_r (nI_1 m) (K _ ⟨⟨top, x, c, e, ev1, b0, s0, t0, l0, v0, ?_, ?_⟩, ?_, hJ⟩))⟩
  · refine zm_opt MA (fun s hs a t => Iff.rfl) ?_ ?_
    · unfold zr_F
      rw [Nat.add_zero, pk_us]
      exact zn_10
    · intro s h1 hs
      unfold zr_F
      rw [pk_un (by omega)]
  · exact zr_Stk_fr r x ev1 hr (fun _ _ => rfl) (fun _ _ => rfl) (fun j hj => rfl) (fun j hj => pk_un (by omega))
  · exact zx_Bu (k := x) (x := 1) hE
end
end
section
/-! the count of the rounds; define, step, before, least of X -/
noncomputable def zm_cnt (P : Nat → Prop) : Nat → Nat
  | 0 => 0
  | n + 1 => zm_cnt P n + @ite Nat (P n) (Classical.propDecidable (P n)) 1 0
theorem zm_cnt_t {P : Nat → Prop} {n : Nat} (h : P n) : zm_cnt P (n + 1) = zm_cnt P n + 1 := by
  show zm_cnt P n + @ite Nat (P n) (Classical.propDecidable (P n)) 1 0 = _
  rw [if_pos h]
theorem zm_cnt_f {P : Nat → Prop} {n : Nat} (h : ¬ P n) : zm_cnt P (n + 1) = zm_cnt P n := by
  show zm_cnt P n + @ite Nat (P n) (Classical.propDecidable (P n)) 1 0 = _
  rw [if_neg h, Nat.add_zero]
theorem zm_cnt_le (P : Nat → Prop) : ∀ n, zm_cnt P n ≤ n := by
  intro n
  induction n with
  | zero => exact Nat.le_refl 0
  | succ n ih =>
    by_cases c : P n
    · rw [zm_cnt_t c]; omega
    · rw [zm_cnt_f c]; omega
theorem zm_cnt_mono {P Q : Nat → Prop} (h : ∀ i, P i → Q i) : ∀ n, zm_cnt P n ≤ zm_cnt Q n := by
  intro n
  induction n with
  | zero => exact Nat.le_refl 0
  | succ n ih =>
    by_cases c : P n
    · rw [zm_cnt_t c, zm_cnt_t (h n c)]; omega
    · by_cases d : Q n
      · rw [zm_cnt_f c, zm_cnt_t d]; omega
      · rw [zm_cnt_f c, zm_cnt_f d]; omega
theorem zm_cnt_lt {P Q : Nat → Prop} (h : ∀ i, P i → Q i) {j : Nat} (hj : ¬ P j) (hq : Q j) : ∀ n, j < n → zm_cnt P n < zm_cnt Q n := by
  intro n
  induction n with
  | zero => intro z; omega
  | succ n ih =>
    intro hn
    by_cases e : j = n
    · subst e
      have := zm_cnt_mono h j
      rw [zm_cnt_f hj, zm_cnt_t hq]; omega
    · have := ih (by omega)
      by_cases c : P n
      · rw [zm_cnt_t c, zm_cnt_t (h n c)]; omega
      · by_cases d : Q n
        · rw [zm_cnt_f c, zm_cnt_t d]; omega
        · rw [zm_cnt_f c, zm_cnt_f d]; omega
theorem zm_near_up {n : Nat} {E : Nat → Nat → Nat → Prop} {F : Nat → Prop} {al : Nat → Prop} {d d' s : Nat} (h : d ≤ d') (hn : zm_near n E F al d s) : zm_near n E F al d' s := by
  obtain ⟨h1, v, hl, ha, hv⟩ := hn
  exact ⟨h1, v, by omega, ha, hv⟩
theorem zm_stuck64 {n : Nat} {E : Nat → Nat → Nat → Prop} {F : Nat → Prop} {al : Nat → Prop} (hn : n ≤ 64) : ∃ d, d ≤ 64 ∧ ∀ s, zm_near n E F al (d + 1) s → zm_near n E F al d s := by
  apply Classical.byContradiction
  intro hno
  have hx : ∀ d, d ≤ 64 → ∃ s, zm_near n E F al (d + 1) s ∧ ¬ zm_near n E F al d s := by
    intro d hd
    apply Classical.byContradiction
    intro hno2
    apply hno
    refine ⟨d, hd, fun s hs => ?_⟩
    apply Classical.byContradiction
    intro h2
    exact hno2 ⟨s, hs, h2⟩
  have hc : ∀ d, d ≤ 65 → d ≤ zm_cnt (zm_near n E F al d) n := by
    intro d
    induction d with
    | zero => intro _; exact Nat.zero_le _
    | succ d ih =>
      intro hd
      obtain ⟨s, h1, h2⟩ := hx d (by omega)
      have := ih (by omega)
      have := zm_cnt_lt (P := zm_near n E F al d) (Q := zm_near n E F al (d + 1)) (fun i hi => zm_near_up (by omega : d ≤ d + 1) hi) h2 h1 n h1.1
      omega
  have h1 := hc 65 (by omega)
  have h2 := zm_cnt_le (zm_near n E F al 65) n
  omega
theorem zm_bound {n : Nat} {E : Nat → Nat → Nat → Prop} {F : Nat → Prop} {L : zl_L} {R : Nat → Prop} {w : List Nat} {al : Nat → Prop} (hn : n ≤ 64) (hM : zm_M n E F L) (hR : zm_R n E F L R w) {d : Nat} (h : zl_Ext L al w d) :
    ∃ d', d' ≤ 64 ∧ zl_Ext L al w d' := by
  obtain ⟨d0, h0, hst⟩ := zm_stuck64 (E := E) (F := F) (al := al) hn
  obtain ⟨s, hs, hne⟩ := (zm_ext hR d).mp ⟨d, Nat.le_refl _, h⟩
  have := zm_stuck (fun s hs a t z => (hM.2.1 s hs a t z).2.2) hst d s (zm_near_up (by omega) hne)
  obtain ⟨d', hd', he⟩ := (zm_ext hR d0).mpr ⟨s, hs, this⟩
  exact ⟨d', by omega, he⟩
theorem zn_bar {bar k : Nat} (hb : bar < 2 ^ 31) (hk : k < 31) : (nI bar >>> (nI k &&& 31)) &&& 1 = nI (bar / 2 ^ k % 2) := by
  rw [pk_shrN hb _ k (s_l k (by omega)), pk_andN (Nat.lt_of_le_of_lt (Nat.div_le_self _ _) (by omega)) 1 (by decide)]
theorem zn_bar0 {bar k : Nat} (hb : bar < 2 ^ 31) (hk : k < 31) : (nI bar >>> (nI k &&& 31)) &&& 1 = 0 ↔ bar.testBit k = false := by
  rw [zn_bar hb hk, Nat.testBit_eq_decide_div_mod_eq]
  have c : bar / 2 ^ k % 2 = 0 ∨ bar / 2 ^ k % 2 = 1 := by omega
  rcases c with c | c
  · rw [c]; exact ⟨fun _ => by decide, fun _ => rfl⟩
  · rw [c]; exact ⟨fun z => absurd z (by decide), fun z => absurd z (by decide)⟩
theorem zn_bar1 {bar k : Nat} (hb : bar < 2 ^ 31) (hk : k < 31) : (nI bar >>> (nI k &&& 31)) &&& 1 = 1 ↔ bar.testBit k = true := by
  rw [zn_bar hb hk, Nat.testBit_eq_decide_div_mod_eq]
  have c : bar / 2 ^ k % 2 = 0 ∨ bar / 2 ^ k % 2 = 1 := by omega
  rcases c with c | c
  · rw [c]; exact ⟨fun z => absurd z (by decide), fun z => absurd z (by decide)⟩
  · rw [c]; exact ⟨fun _ => by decide, fun _ => rfl⟩
def zr_al (bar : Nat) (a : Nat) : Prop := bar.testBit a = false
/-- the process of X: its machine accepts L -/
def zr_Pm (finals : Int64) (move : Nat → Int64) (n : Nat) (L : zl_L) : Prop :=
  n ≤ 64 ∧ zm_M n (zr_E move 0) (fun s => zb_t finals s = true) L ∧ ∀ s, zb_t finals s = true → s < n
section
variable {f_height f_made f_events f_joined f_states f_logged : Int32} {f_finals : Int64} {a_base a_size a_ends a_joinEnds a_log : Nat → Int32} {a_edge a_joinEdge a_move a_reach : Nat → Int64}
theorem zx_def59 {post : Int32 → SX → Prop} {J : Int32 → Int64 → (Nat → Int32) → (Nat → Int32) → (Nat → Int64) → (Nat → Int32) → (Nat → Int64) → (Nat → Int32) → (Nat → Int64) → (Nat → Int32) → (Nat → Int64) → Prop} (s : Nat) (hs : s < 64)
    (K : ∀ mv : Nat → Int64, (∀ k, k < 4 → mv (s * 4 + k) = a_edge (s * 4 + k)) → (∀ j, (j < s * 4 ∨ s * 4 + 4 ≤ j) → mv j = a_move j) → J (nI (s + 1)) f_finals a_base a_size a_edge a_ends a_joinEdge a_joinEnds mv a_log a_reach) :
    ∃ n, wX_define_59 post J (nI s) f_height f_made f_events f_joined f_states f_finals f_logged n 0 a_base a_size a_edge a_ends a_joinEdge a_joinEnds a_move a_log a_reach := by
  refine loop_0 (fun n i e => wX_define_59 post J (nI s) f_height f_made f_events f_joined f_states f_finals f_logged n (nI i) a_base a_size a_edge a_ends a_joinEdge a_joinEnds e a_log a_reach)
    (fun i e => (∀ k, k < i → e (s * 4 + k) = a_edge (s * 4 + k)) ∧ (∀ j, (j < s * 4 ∨ s * 4 + i ≤ j) → e j = a_move j)) 4 a_move ?_ ?_ ?_
  · exact ⟨fun k hk => by omega, fun j _ => rfl⟩
  · intro n e h
    exact br_t (by decide : (4 : Int32) ≤ nI 4) (nm_r (nI_1 s) (K e h.1 h.2))
  · intro n i e hi h ih
    have ix := zn_ix s i
    refine br_f (nI_ge (b := 4) hi (by decide)) ⟨by rw [ix]; exact vp_in_nI (by omega) (by decide), by rw [ix]; exact vp_in_nI (by omega) (by decide), ?_⟩
    refine nm_r (e' := vp_updL e (s * 4 + i) (a_edge (s * 4 + i))) (by rw [ix, nI_clamp (by omega)]) (nm_r (nI_1 i) (ih _ ⟨?_, ?_⟩))
    · intro k hk
      by_cases c : k = i
      · subst c; exact pk_uLs
      · rw [pk_uLn (by omega)]; exact h.1 k (by omega)
    · intro j hj
      rw [pk_uLn (by omega)]; exact h.2 j (by omega)
theorem zx_define {post : Int32 → SX → Prop} {L : zl_L} {ev : Nat} (hev : ev ≤ 6) (hA : zr_XA a_base a_size a_edge a_ends a_joinEnds [L] ev)
    (K : ∀ (n : Nat) (fin : Int64) (mv : Nat → Int64), zr_Pm fin mv n L → post 0 (0, 0, 0, f_joined, nI n, fin, 0, a_base, a_size, a_edge, a_ends, a_joinEdge, a_joinEnds, mv, a_log, a_reach)) :
    wpX_define post (nI 1, f_made, f_events, f_joined, f_states, f_finals, f_logged, a_base, a_size, a_edge, a_ends, a_joinEdge, a_joinEnds, a_move, a_log, a_reach) := by
  obtain ⟨⟨top, hS⟩, hE, hJ⟩ := hA
  have h64 := zr_le64 hev
  obtain ⟨b, c, e, ev1, b0, s0, t0, l0, v0, MA, hr⟩ := hS
  have hb : b = 0 := hr
  subst hb
  have p1 : 2 ^ e ≤ 2 ^ ev := Nat.pow_le_pow_right (by decide) (by omega)
  have s0' : a_size 0 = nI c := s0
  unfold wpX_define
  refine br_t rfl (nm_r (e' := nI c) s0' ?_)
  refine loop_0 (fun n i (σ : Int64 × (Nat → Int64)) => wX_define_28 post (nI 1) f_made f_events f_joined (nI c) f_logged n (nI i) σ.1 a_base a_size a_edge a_ends a_joinEdge a_joinEnds σ.2 a_log a_reach)
    (fun i σ => (∀ s, zb_t σ.1 s = true ↔ s < i ∧ ¬ a_ends s = 0) ∧ (∀ j, j < i * 4 → σ.2 j = a_edge j)) c (0, a_move) ?_ ?_ ?_
  · refine ⟨fun s => ?_, fun j hj => by omega⟩
    show zb_t 0 s = true ↔ _
    rw [zb_0]
    exact ⟨fun z => absurd z (by decide), fun z => by omega⟩
  · rintro n ⟨fin, mv⟩ ⟨q1, q2⟩
    dsimp only at q1 q2
    refine br_t (nI_le (Nat.le_refl _) (by omega)) ?_
    unfold wpX_discard
    refine K c fin mv ⟨by omega, zm_cong MA ?_ ?_, fun s z => ((q1 s).mp z).1⟩
    · intro s hs a t
      unfold zr_E
      constructor
      · rintro ⟨ha, hz⟩
        rw [q2 _ (by omega)] at hz
        exact ⟨ha, hz⟩
      · rintro ⟨ha, hz⟩
        rw [q2 _ (by omega)]
        exact ⟨ha, hz⟩
    · intro s hs
      unfold zr_F
      rw [q1 s, Nat.zero_add]
      exact ⟨fun z => z.2, fun z => ⟨hs, z⟩⟩
  · rintro n i ⟨fin, mv⟩ hi ⟨q1, q2⟩ ih
    dsimp only at q1 q2
    have cl : (nI i).toNatClampNeg = i := nI_clamp (by omega)
    refine br_f (nI_ge hi (by omega)) ⟨vp_in_nI (by omega) (by decide), ?_⟩
    have kp : ∀ mv' : Nat → Int64, (∀ k, k < 4 → mv' (i * 4 + k) = a_edge (i * 4 + k)) → (∀ j, (j < i * 4 ∨ i * 4 + 4 ≤ j) → mv' j = mv j) → ∀ j, j < (i + 1) * 4 → mv' j = a_edge j := by
      intro mv' k1 k2 j hj
      rcases Nat.lt_or_ge j (i * 4) with z | z
      · rw [k2 j (Or.inl z)]; exact q2 j z
      · obtain ⟨k, rfl⟩ : ∃ k, j = i * 4 + k := ⟨j - i * 4, by omega⟩
        exact k1 k (by omega)
    by_cases z : a_ends i = 0
    · refine br_t (by rw [cl]; exact z) (zx_def59 i (by omega) (fun mv' k1 k2 => ih (fin, mv') ⟨?_, kp mv' k1 k2⟩))
      intro s
      show zb_t fin s = true ↔ _
      rw [q1 s]
      constructor
      · rintro ⟨a, d⟩; exact ⟨by omega, d⟩
      · rintro ⟨a, d⟩
        by_cases g : s = i
        · subst g; exact absurd z d
        · exact ⟨by omega, d⟩
    · refine br_f (by rw [cl]; exact z) (nm_e (zx_def59 i (by omega) (fun mv' k1 k2 => ih (fin ||| ((1 : Int64) <<< ((nI i).toInt64 &&& 63)), mv') ⟨?_, kp mv' k1 k2⟩)))
      intro s
      show zb_t (fin ||| ((1 : Int64) <<< ((nI i).toInt64 &&& 63))) s = true ↔ _
      rw [zb_or, Bool.or_eq_true, zb_one i (by omega), q1 s]
      constructor
      · rintro (⟨a, d⟩ | rfl)
        · exact ⟨by omega, d⟩
        · exact ⟨by omega, z⟩
      · rintro ⟨a, d⟩
        by_cases g : s = i
        · exact Or.inr g
        · exact Or.inl ⟨by omega, d⟩
theorem zx_step {post : Int64 → Prop} {p1 : Int32} {set : Int64} (n k : Nat) (e1 : p1 = nI k) (hn : n ≤ 64) (hk : k < 4)
    (K : ∀ r, (∀ t, zb_t r t = true ↔ ∃ s, s < n ∧ zb_t set s = true ∧ zb_t (a_move (s * 4 + k)) t = true) → post r) : wpX_step post (f_height, f_made, f_events, f_joined, nI n, f_finals, f_logged, a_base, a_size, a_edge, a_ends, a_joinEdge, a_joinEnds, a_move, a_log, a_reach) set p1 := by
  subst e1
  show ∃ n', wX_step_6 post set (nI k) f_height f_made f_events f_joined (nI n) f_finals f_logged a_base a_size a_edge a_ends a_joinEdge a_joinEnds a_move a_log a_reach n' 0 0
  refine loop_0 (fun n' i out => wX_step_6 post set (nI k) f_height f_made f_events f_joined (nI n) f_finals f_logged a_base a_size a_edge a_ends a_joinEdge a_joinEnds a_move a_log a_reach n' out (nI i)) (fun i out => ∀ t, zb_t out t = true ↔ ∃ s, s < i ∧ zb_t set s = true ∧ zb_t (a_move (s * 4 + k)) t = true) n 0 ?_ ?_ ?_
  · intro t
    rw [zb_0]
    exact ⟨fun z => absurd z (by decide), fun ⟨s, h, _⟩ => by omega⟩
  · intro n' out h
    exact br_t (nI_le (Nat.le_refl _) (by omega)) (K out h)
  · intro n' i out hi h ih
    have ix := zn_ix i k
    refine br_f (nI_ge hi (by omega)) ?_
    by_cases c : zb_t set i = true
    · refine br_t ((zb_tst set i (by omega)).mpr c) ⟨by rw [ix]; exact vp_in_nI (by omega) (by decide), nm_r (e' := out ||| a_move (i * 4 + k)) (by rw [ix, nI_clamp (by omega)]) (nm_r (nI_1 i) (ih _ ?_))⟩
      intro t
      rw [zb_or, Bool.or_eq_true, h t]
      constructor
      · rintro (⟨s, q1, q2⟩ | q)
        · exact ⟨s, by omega, q2⟩
        · exact ⟨i, by omega, c, q⟩
      · rintro ⟨s, q1, q2, q3⟩
        by_cases d : s = i
        · subst d; exact Or.inr q3
        · exact Or.inl ⟨s, by omega, q2, q3⟩
    · refine br_f (fun z => c ((zb_tst set i (by omega)).mp z)) (nm_r (nI_1 i) (ih _ ?_))
      intro t
      rw [h t]
      constructor
      · rintro ⟨s, q1, q2⟩
        exact ⟨s, by omega, q2⟩
      · rintro ⟨s, q1, q2, q3⟩
        by_cases d : s = i
        · subst d; exact absurd q2 c
        · exact ⟨s, by omega, q2, q3⟩
theorem zx_stepR {post : Int64 → Prop} {p1 : Int32} {set : Int64} {n k : Nat} {L : zl_L} {w : List Nat} (e1 : p1 = nI k) (hk : k < 4) (hP : zr_Pm f_finals a_move n L)
    (hR : zm_R n (zr_E a_move 0) (fun s => zb_t f_finals s = true) L (fun t => zb_t set t = true) w)
    (K : ∀ r, zm_R n (zr_E a_move 0) (fun s => zb_t f_finals s = true) L (fun t => zb_t r t = true) (w ++ [k]) → post r) : wpX_step post (f_height, f_made, f_events, f_joined, nI n, f_finals, f_logged, a_base, a_size, a_edge, a_ends, a_joinEdge, a_joinEnds, a_move, a_log, a_reach) set p1 := by
  refine zx_step n k e1 hP.1 hk (fun r hr => K r (zm_Rstep hP.2.1 hR ?_))
  intro t
  rw [hr t]
  unfold zr_E
  constructor
  · rintro ⟨s, q1, q2, q3⟩
    exact ⟨s, q2, hk, by rw [Nat.zero_add]; exact q3⟩
  · rintro ⟨s, q2, _, q3⟩
    rw [Nat.zero_add] at q3
    exact ⟨s, hR.1 s q2, q2, q3⟩
theorem zx_before18 {post : Int64 → Prop} {J : Int64 → Int32 → Prop} {set out : Int64} (bar s : Nat) (hb : bar < 16) (hs : s < 64)
    (K : ∀ r, (∀ j, zb_t r j = true ↔ (zb_t out j = true ∨ (j = s ∧ ∃ k, k < 4 ∧ zr_al bar k ∧ ∃ t, zb_t (a_move (s * 4 + k)) t = true ∧ zb_t set t = true))) → J r (nI (s + 1))) :
    ∃ n, wX_before_18 post J set (nI bar) (nI s) f_height f_made f_events f_joined f_states f_finals f_logged a_base a_size a_edge a_ends a_joinEdge a_joinEnds a_move a_log a_reach n out 0 := by
  refine loop_0 (fun n i o => wX_before_18 post J set (nI bar) (nI s) f_height f_made f_events f_joined f_states f_finals f_logged a_base a_size a_edge a_ends a_joinEdge a_joinEnds a_move a_log a_reach n o (nI i))
    (fun i o => ∀ j, zb_t o j = true ↔ (zb_t out j = true ∨ (j = s ∧ ∃ k, k < i ∧ zr_al bar k ∧ ∃ t, zb_t (a_move (s * 4 + k)) t = true ∧ zb_t set t = true))) 4 out ?_ ?_ ?_
  · intro j
    exact ⟨fun z => Or.inl z, fun z => z.elim (fun w => w) (fun ⟨_, k, hk, _⟩ => by omega)⟩
  · intro n o h
    exact br_t (by decide : (4 : Int32) ≤ nI 4) (nm_r (nI_1 s) (K o h))
  · intro n i o hi h ih
    have ix := zn_ix s i
    have keep : (¬ (zr_al bar i ∧ ∃ t, zb_t (a_move (s * 4 + i)) t = true ∧ zb_t set t = true)) → ∀ j, zb_t o j = true ↔ (zb_t out j = true ∨ (j = s ∧ ∃ k, k < i + 1 ∧ zr_al bar k ∧ ∃ t, zb_t (a_move (s * 4 + k)) t = true ∧ zb_t set t = true)) := by
      intro hno j
      rw [h j]
      constructor
      · rintro (z | ⟨z, k, hk, q⟩)
        · exact Or.inl z
        · exact Or.inr ⟨z, k, by omega, q⟩
      · rintro (z | ⟨z, k, hk, q⟩)
        · exact Or.inl z
        · by_cases d : k = i
          · subst d; exact absurd q hno
          · exact Or.inr ⟨z, k, by omega, q⟩
    refine br_f (nI_ge (b := 4) hi (by decide)) ?_
    by_cases c : zr_al bar i
    · refine br_t ((zn_bar0 (by omega) (by omega)).mpr c) ⟨by rw [ix]; exact vp_in_nI (by omega) (by decide), ?_⟩
      have cl : (nI s * 4 + nI i).toNatClampNeg = s * 4 + i := by rw [ix, nI_clamp (by omega)]
      by_cases z : a_move (s * 4 + i) &&& set = 0
      · refine br_t (by rw [cl]; exact z) (nm_r (nI_1 i) (ih _ (keep ?_)))
        rintro ⟨_, t, q1, q2⟩
        have := zb_eq0.mp z t
        rw [zb_and, q1, q2] at this
        exact this rfl
      · refine br_f (by rw [cl]; exact z) (nm_e (nm_r (nI_1 i) (ih _ ?_)))
        obtain ⟨t, _, ht⟩ := zb_ne0.mp z
        rw [zb_and, Bool.and_eq_true] at ht
        intro j
        rw [zb_or, Bool.or_eq_true, zb_one s hs, h j]
        constructor
        · rintro ((q | ⟨q, k, hk, p⟩) | q)
          · exact Or.inl q
          · exact Or.inr ⟨q, k, by omega, p⟩
          · exact Or.inr ⟨q, i, by omega, c, t, ht⟩
        · rintro (q | ⟨q, _⟩)
          · exact Or.inl (Or.inl q)
          · exact Or.inr q
    · refine br_f (fun z => c ((zn_bar0 (by omega) (by omega)).mp z)) (nm_r (nI_1 i) (ih _ (keep (fun z => c z.1))))
theorem zx_before {post : Int64 → Prop} {p1 : Int32} {set : Int64} (n bar : Nat) (e1 : p1 = nI bar) (hb : bar < 16) (hn : n ≤ 64)
    (K : ∀ r, (∀ j, zb_t r j = true ↔ (zb_t set j = true ∨ (j < n ∧ ∃ k, k < 4 ∧ zr_al bar k ∧ ∃ t, zb_t (a_move (j * 4 + k)) t = true ∧ zb_t set t = true))) → post r) : wpX_before post (f_height, f_made, f_events, f_joined, nI n, f_finals, f_logged, a_base, a_size, a_edge, a_ends, a_joinEdge, a_joinEnds, a_move, a_log, a_reach) set p1 := by
  subst e1
  show ∃ n', wX_before_6 post set (nI bar) f_height f_made f_events f_joined (nI n) f_finals f_logged a_base a_size a_edge a_ends a_joinEdge a_joinEnds a_move a_log a_reach n' set 0
  refine loop_0 (fun n' i o => wX_before_6 post set (nI bar) f_height f_made f_events f_joined (nI n) f_finals f_logged a_base a_size a_edge a_ends a_joinEdge a_joinEnds a_move a_log a_reach n' o (nI i))
    (fun i o => ∀ j, zb_t o j = true ↔ (zb_t set j = true ∨ (j < i ∧ ∃ k, k < 4 ∧ zr_al bar k ∧ ∃ t, zb_t (a_move (j * 4 + k)) t = true ∧ zb_t set t = true))) n set ?_ ?_ ?_
  · intro j
    exact ⟨fun z => Or.inl z, fun z => z.elim (fun w => w) (fun ⟨w, _⟩ => by omega)⟩
  · intro n' o h
    exact br_t (nI_le (Nat.le_refl _) (by omega)) (K o h)
  · intro n' i o hi h ih
    refine br_f (nI_ge hi (by omega)) (zx_before18 bar i hb (by omega) (fun r hr => ih r ?_))
    intro j
    rw [hr j, h j]
    constructor
    · rintro ((q | ⟨q, p⟩) | ⟨q, p⟩)
      · exact Or.inl q
      · exact Or.inr ⟨by omega, p⟩
      · subst q; exact Or.inr ⟨by omega, p⟩
    · rintro (q | ⟨q, p⟩)
      · exact Or.inl (Or.inl q)
      · by_cases d : j = i
        · subst d; exact Or.inr ⟨rfl, p⟩
        · exact Or.inl (Or.inr ⟨by omega, p⟩)
theorem zx_least {post : Int32 → Prop} {p1 : Int32} {set : Int64} {n bar : Nat} {L : zl_L} {w : List Nat} (e1 : p1 = nI bar) (hb : bar < 16) (hP : zr_Pm f_finals a_move n L)
    (hR : zm_R n (zr_E a_move 0) (fun s => zb_t f_finals s = true) L (fun t => zb_t set t = true) w)
    (K : ∀ r, zm_Ans L (zr_al bar) w r → post r) : wpX_least post (f_height, f_made, f_events, f_joined, nI n, f_finals, f_logged, a_base, a_size, a_edge, a_ends, a_joinEdge, a_joinEnds, a_move, a_log, a_reach) set p1 := by
  subst e1
  obtain ⟨hn, hM, hF⟩ := hP
  have hc : ∀ s, s < n → ∀ a t, zr_E a_move 0 s a t → t < n := fun s hs a t z => (hM.2.1 s hs a t z).2.2
  show ∃ n', wX_least_9 post set (nI bar) f_height f_made f_events f_joined (nI n) f_finals f_logged a_base a_size a_edge a_ends a_joinEdge a_joinEnds a_move a_log a_reach n' f_finals 0
  refine loop_0 (fun n' d nr => wX_least_9 post set (nI bar) f_height f_made f_events f_joined (nI n) f_finals f_logged a_base a_size a_edge a_ends a_joinEdge a_joinEnds a_move a_log a_reach n' nr (nI d))
    (fun d nr => (∀ s, zb_t nr s = true ↔ zm_near n (zr_E a_move 0) (fun s => zb_t f_finals s = true) (zr_al bar) d s) ∧
      (∀ d', d' < d → ∀ s, zb_t set s = true → ¬ zm_near n (zr_E a_move 0) (fun s => zb_t f_finals s = true) (zr_al bar) d' s) ∧
      (∀ d', d' < d → ¬ ∀ s, zm_near n (zr_E a_move 0) (fun s => zb_t f_finals s = true) (zr_al bar) (d' + 1) s → zm_near n (zr_E a_move 0) (fun s => zb_t f_finals s = true) (zr_al bar) d' s)) 65 f_finals ?_ ?_ ?_
  · refine ⟨fun s => ?_, fun d' z => by omega, fun d' z => by omega⟩
    rw [zm_near0]
    exact ⟨fun z => ⟨hF s z, z⟩, fun z => z.2⟩
  · rintro n' nr ⟨_, _, q3⟩
    obtain ⟨d0, h0, hst⟩ := zm_stuck64 (E := zr_E a_move 0) (F := fun s => zb_t f_finals s = true) (al := zr_al bar) hn
    exact absurd hst (q3 d0 (by omega))
  · rintro n' d nr hd ⟨q1, q2, q3⟩ ih
    refine br_f (nI_ge (b := 65) hd (by decide)) ?_
    by_cases z : nr &&& set = 0
    · refine br_t z (zx_before n bar rfl hb hn (fun r hr => ?_))
      have hr' : ∀ s, zb_t r s = true ↔ zm_near n (zr_E a_move 0) (fun s => zb_t f_finals s = true) (zr_al bar) (d + 1) s := by
        intro s
        rw [hr s, zm_nearS hc, q1 s]
        constructor
        · rintro (p | ⟨p, k, hk, ha, t, t1, t2⟩)
          · exact Or.inl p
          · exact Or.inr ⟨p, k, t, ha, ⟨hk, by rw [Nat.zero_add]; exact t1⟩, (q1 t).mp t2⟩
        · rintro (p | ⟨p, k, t, ha, ⟨hk, t1⟩, t2⟩)
          · exact Or.inl p
          · rw [Nat.zero_add] at t1
            exact Or.inr ⟨p, k, hk, ha, t, t1, (q1 t).mpr t2⟩
      have hz : ∀ s, zb_t set s = true → ¬ zm_near n (zr_E a_move 0) (fun s => zb_t f_finals s = true) (zr_al bar) d s := by
        intro s h1 h2
        have := zb_eq0.mp z s
        rw [zb_and, h1, (q1 s).mpr h2] at this
        exact this rfl
      by_cases y : r = nr
      · refine br_t y (K _ (Or.inr ⟨rfl, fun d1 hx => ?_⟩))
        obtain ⟨s, hs, hne⟩ := (zm_ext hR d1).mp ⟨d1, Nat.le_refl _, hx⟩
        refine hz s hs (zm_stuck hc ?_ d1 s (zm_near_up (by omega) hne))
        intro s' h'
        rw [← q1 s', ← y]
        exact (hr' s').mpr h'
      · refine br_f y (nm_r (nI_1 d) (ih r ⟨hr', ?_, ?_⟩))
        · intro d' hd' s hs
          by_cases e : d' = d
          · subst e; exact hz s hs
          · exact q2 d' (by omega) s hs
        · intro d' hd'
          by_cases e : d' = d
          · subst e
            intro hall
            apply y
            apply zb_ext
            intro i _
            rw [Bool.eq_iff_iff, hr' i, q1 i]
            exact ⟨hall i, zm_near_up (by omega)⟩
          · exact q3 d' (by omega)
    · refine br_f z (K _ (Or.inl ⟨d, by omega, rfl, ?_⟩))
      obtain ⟨s, _, hs⟩ := zb_ne0.mp z
      rw [zb_and, Bool.and_eq_true] at hs
      have hmin : ∀ d', d' < d → ¬ zl_Ext L (zr_al bar) w d' := by
        intro d' hd' hx
        obtain ⟨s', h1, h2⟩ := (zm_ext hR d').mp ⟨d', Nat.le_refl _, hx⟩
        exact q2 d' hd' s' h1 h2
      obtain ⟨d', hd', hx⟩ := (zm_ext hR d).mpr ⟨s, hs.2, (q1 s).mp hs.1⟩
      have : d' = d := by
        rcases Nat.lt_or_ge d' d with c | c
        · exact absurd hx (hmin d' c)
        · omega
      subst this
      exact ⟨hx, hmin⟩
end
end
section
/-! the cost of one cell of Y's table -/
theorem zn_ix256 (x s : Nat) : nI x * 256 + nI s = nI (x * 256 + s) := by
  show nI x * nI 256 + nI s = _
  rw [pk_mul, nI_add]
theorem zn_ix2560 (x : Nat) : nI x * 256 = nI (x * 256 + 0) := by
  show nI x * nI 256 = _
  rw [pk_mul]; rfl
theorem zn_pow {q : Nat} (hq : q < 31) : (1 : Int32) <<< (nI q &&& 31) = nI (2 ^ q) := by
  have h1 : 2 ^ q < 2 ^ 32 := Nat.pow_lt_pow_right (by decide) (by omega)
  show nI 1 <<< (nI q &&& 31) = _
  rw [pk_shlN (n := 1) _ q (s_l q (by omega)) (by omega), Nat.one_mul]
theorem zn_first {s q : Nat} (hq : q < 31) : nI s &&& (((1 : Int32) <<< (nI q &&& 31)) - 1) = nI (s % 2 ^ q) := by
  rw [zn_pow hq]
  have h1 : nI (2 ^ q) - 1 = nI (2 ^ q - 1) := by
    show nI (2 ^ q) - nI 1 = _
    rw [pk_sub (Nat.two_pow_pos q)]
  rw [h1, nx_and, Nat.and_two_pow_sub_one_eq_mod]
theorem zn_p8 {p : Nat} (h : p ≤ 8) : 2 ^ p ≤ 256 := Nat.pow_le_pow_right (n := 2) (by decide) h
/-- a cost before it is cut at 100 -/
def zl_D (L : zl_L) (al : Nat → Prop) (w : List Nat) (c : Nat) : Prop := (c < 100 → zl_Ext L al w c) ∧ ∀ d, zl_Ext L al w d → c ≤ d
theorem zl_CD {L : zl_L} {al : Nat → Prop} {w : List Nat} {c : Nat} (h : zl_C L al w c) : zl_D L al w c := ⟨h.2.1, fun _ hd => zl_C_le h hd⟩
/-- row nd of the table holds the cells of L -/
def zy_T (lw : Nat → Nat) (bar p : Nat) (cost : Nat → Int32) (nd : Nat) (L : zl_L) (f : Nat → Nat) : Prop :=
  ∀ s, s < 2 ^ p → cost (nd * 256 + s) = nI (f s) ∧ zl_C L (zr_al bar) (zw_w lw p s) (f s)
section
variable {g_steps g_depth g_events g_size g_length : Int32} {b_draft b_process b_log b_cost b_open : Nat → Int32}
theorem zy_seq {post : Int32 → Prop} {lw : Nat → Nat} {bar p x y s : Nat} {A B : zl_L} {fA fB : Nat → Nat} (hA : zy_T lw bar p b_cost x A fA) (hB : zy_T lw bar p b_cost y B fB) (hx : x < 16) (hy : y < 16) (hp : p ≤ 8) (hs : s < 2 ^ p)
    (K : ∀ c, c ≤ 200 → zl_D (zl_seq A B) (zr_al bar) (zw_w lw p s) c → post (nI c)) : wpY_seqCost post (g_steps, g_depth, g_events, g_size, g_length, b_draft, b_process, b_log, b_cost, b_open) (nI x) (nI y) (nI s) (nI p) := by
  have h8 := zn_p8 hp
  have p0 := Nat.two_pow_pos p
  have i1 := zn_ix256 x s
  have i2 := zn_ix2560 y
  obtain ⟨as, aC⟩ := hA s hs
  obtain ⟨b0, bC⟩ := hB 0 p0
  unfold wpY_seqCost
  refine ⟨by rw [i1]; exact vp_in_nI (by omega) (by decide), by rw [i2]; exact vp_in_nI (by omega) (by decide), nm_r (e' := nI (fA s + fB 0)) (by rw [i1, i2, nI_clamp (by omega), nI_clamp (by omega), as, b0, nI_add]) ?_⟩
  refine loop_0 (fun n q b => wY_seqCost_28 post (nI x) (nI y) (nI s) (nI p) g_steps g_depth g_events g_size g_length b_draft b_process b_log b_cost b_open n (nI b) (nI q))
    (fun q b => b ≤ 200 ∧ (b < 100 → zl_Ext (zl_seq A B) (zr_al bar) (zw_w lw p s) b) ∧ b ≤ fA s + fB 0 ∧ ∀ q', q' < q → fA (s % 2 ^ q') = 0 → b ≤ fB (s - s % 2 ^ q')) (p + 1) (fA s + fB 0) ?_ ?_ ?_
  · refine ⟨by have := aC.1; have := bC.1; omega, ?_, Nat.le_refl _, fun q' z => by omega⟩
    intro h
    rw [zw_0] at bC
    exact zl_seq_up1 (aC.2.1 (by omega)) (bC.2.1 (by omega))
  · rintro n b ⟨q0, q1, q2, q3⟩
    refine br_t (nI_lt (Nat.lt_succ_self _) (by omega)) (K b q0 ⟨q1, fun d hd => ?_⟩)
    rcases zl_seq_lo hd with ⟨a, b', e, ha, hb⟩ | ⟨u, v, e, ha, hb⟩
    · rw [zw_0] at bC
      have := zl_C_le aC ha
      have := zl_C_le bC hb
      omega
    · obtain ⟨q, hq, e1, e2⟩ := zw_part e
      have hle : s % 2 ^ q ≤ s := Nat.mod_le _ _
      rw [e1] at ha
      rw [e2] at hb
      have z := (zl_C0 (hA (s % 2 ^ q) (by omega)).2).mpr ha
      have := zl_C_le (hB (s - s % 2 ^ q) (by omega)).2 hb
      have := q3 q (by omega) z
      omega
  · rintro n q b hq ⟨q0, q1, q2, q3⟩ ih
    have hle : s % 2 ^ q ≤ s := Nat.mod_le _ _
    obtain ⟨cf, Cf⟩ := hA (s % 2 ^ q) (by omega)
    obtain ⟨cg, Cg⟩ := hB (s - s % 2 ^ q) (by omega)
    have j1 := zn_ix256 x (s % 2 ^ q)
    have j2 : nI y * 256 + (nI s - nI (s % 2 ^ q)) = nI (y * 256 + (s - s % 2 ^ q)) := by rw [pk_sub hle, zn_ix256]
    have v2 : vp_in (nI y * 256 + (nI s - nI (s % 2 ^ q))) 4096 := by rw [j2]; exact vp_in_nI (by omega) (by decide)
    have k1 : b_cost (nI x * 256 + nI (s % 2 ^ q)).toNatClampNeg = nI (fA (s % 2 ^ q)) := by rw [j1, nI_clamp (by omega), cf]
    have k2 : b_cost (nI y * 256 + (nI s - nI (s % 2 ^ q))).toNatClampNeg = nI (fB (s - s % 2 ^ q)) := by rw [j2, nI_clamp (by omega), cg]
    have B1 := Cf.1
    have B2 := Cg.1
    refine br_f (nI_nlt (by omega) (by omega)) (nm_r (zn_first (by omega)) ⟨by rw [j1]; exact vp_in_nI (by omega) (by decide), ?_⟩)
    by_cases z : fA (s % 2 ^ q) = 0
    · refine br_t (by rw [k1, z]; rfl) ⟨v2, ?_⟩
      by_cases y2 : b ≤ fB (s - s % 2 ^ q)
      · refine br_t (by rw [k2]; exact nI_le y2 (by omega)) (nm_r (nI_1 q) (ih b ⟨q0, q1, q2, ?_⟩))
        intro q' h' z'
        by_cases e : q' = q
        · subst e; exact y2
        · exact q3 q' (by omega) z'
      · refine br_f (by rw [k2]; exact nI_ge (by omega) (by omega)) ⟨v2, nm_r (e' := nI (fB (s - s % 2 ^ q))) k2 (nm_r (nI_1 q) (ih _ ⟨by omega, ?_, by omega, ?_⟩))⟩
        · intro h
          rw [zw_cat (s := s) (p := q) (P := p) (by omega)]
          exact zl_seq_up2 ((zl_C0 Cf).mp z) (Cg.2.1 h)
        · intro q' h' z'
          by_cases e : q' = q
          · subst e; exact Nat.le_refl _
          · have := q3 q' (by omega) z'; omega
    · refine br_f (by rw [k1]; exact nI_ne0 (by omega) (by omega)) (nm_r (nI_1 q) (ih b ⟨q0, q1, q2, ?_⟩))
      intro q' h' z'
      by_cases e : q' = q
      · subst e; exact absurd z' z
      · exact q3 q' (by omega) z'
theorem zy_both {post : Int32 → Prop} {lw : Nat → Nat} {bar p x y s : Nat} {A B : zl_L} {fA fB : Nat → Nat} (hA : zy_T lw bar p b_cost x A fA) (hB : zy_T lw bar p b_cost y B fB) (hx : x < 16) (hy : y < 16) (hp : p ≤ 8) (hs : s < 2 ^ p)
    (K : ∀ c, c ≤ 200 → zl_D (zl_both A B) (zr_al bar) (zw_w lw p s) c → post (nI c)) : wpY_bothCost post (g_steps, g_depth, g_events, g_size, g_length, b_draft, b_process, b_log, b_cost, b_open) (nI x) (nI y) (nI s) := by
  have h8 := zn_p8 hp
  unfold wpY_bothCost
  refine loop_0 (fun n q b => wY_bothCost_7 post (nI x) (nI y) (nI s) g_steps g_depth g_events g_size g_length b_draft b_process b_log b_cost b_open n (nI b) (nI q))
    (fun q b => b ≤ 100 ∧ (b < 100 → zl_Ext (zl_both A B) (zr_al bar) (zw_w lw p s) b) ∧ ∀ q', q' < q → q' &&& s = q' → b ≤ fA q' + fB (s - q')) (s + 1) 100 ?_ ?_ ?_
  · exact ⟨Nat.le_refl _, fun h => by omega, fun q' z => by omega⟩
  · rintro n b ⟨q0, q1, q3⟩
    refine br_t (nI_lt (Nat.lt_succ_self _) (by omega)) (K b (by omega) ⟨q1, fun d hd => ?_⟩)
    obtain ⟨u, v, a, b', sh, e, ha, hb⟩ := zl_both_lo hd
    obtain ⟨q, hq, hsub, e1, e2⟩ := zw_shc p u v sh
    have hle := (zb_sub 0 s q hsub).1
    rw [e1] at ha
    rw [e2] at hb
    have := zl_C_le (hA q hq).2 ha
    have := zl_C_le (hB (s - q) (by omega)).2 hb
    have hand : q &&& s = q := by
      apply Nat.eq_of_testBit_eq
      intro i
      rw [Nat.testBit_and]
      cases hb : q.testBit i with
      | false => rfl
      | true => rw [hsub i hb]; rfl
    have := q3 q (by omega) hand
    omega
  · rintro n q b hq ⟨q0, q1, q3⟩ ih
    refine br_f (nI_nlt (by omega) (by omega)) ?_
    have hle : q &&& s ≤ q := Nat.and_le_left
    by_cases z : q &&& s = q
    · obtain ⟨cf, Cf⟩ := hA q (by omega)
      obtain ⟨cg, Cg⟩ := hB (s - q) (by omega)
      have j1 := zn_ix256 x q
      have j2 : nI y * 256 + (nI s - nI q) = nI (y * 256 + (s - q)) := by rw [pk_sub (by omega), zn_ix256]
      have B1 := Cf.1
      have B2 := Cg.1
      have hsub : ∀ j, q.testBit j = true → s.testBit j = true := by
        intro j hj
        rw [← z, Nat.testBit_and, Bool.and_eq_true] at hj
        exact hj.2
      refine br_t (by rw [nx_and, z]) ⟨by rw [j1]; exact vp_in_nI (by omega) (by decide), by rw [j2]; exact vp_in_nI (by omega) (by decide), nm_r (e' := nI (fA q + fB (s - q))) (by rw [j1, j2, nI_clamp (by omega), nI_clamp (by omega), cf, cg, nI_add]) ?_⟩
      by_cases y2 : b ≤ fA q + fB (s - q)
      · refine br_t (nI_le y2 (by omega)) (nm_r (nI_1 q) (ih b ⟨q0, q1, ?_⟩))
        intro q' h' z'
        by_cases e : q' = q
        · subst e; exact y2
        · exact q3 q' (by omega) z'
      · refine br_f (nI_ge (by omega) (by omega)) (nm_r (nI_1 q) (ih _ ⟨by omega, ?_, ?_⟩))
        · intro h
          exact zl_both_up (zw_sh hsub p) (Cf.2.1 (by omega)) (Cg.2.1 (by omega))
        · intro q' h' z'
          by_cases e : q' = q
          · subst e; exact Nat.le_refl _
          · have := q3 q' (by omega) z'; omega
    · refine br_f (by rw [nx_and]; exact fun w => z ((nI_eq (by omega) (by omega)).mp w)) (nm_r (nI_1 q) (ih b ⟨q0, q1, ?_⟩))
      intro q' h' z'
      by_cases e : q' = q
      · subst e; exact absurd z' z
      · exact q3 q' (by omega) z'
theorem zy_loop {post : Int32 → Prop} {lw : Nat → Nat} {bar p nd y s : Nat} {A : zl_L} {fA fN : Nat → Nat} (hA : zy_T lw bar p b_cost y A fA)
    (hN : ∀ s', s' < s → b_cost (nd * 256 + s') = nI (fN s') ∧ zl_C (zl_star A) (zr_al bar) (zw_w lw p s') (fN s')) (hn : nd < 16) (hy : y < 16) (hp : p ≤ 8) (hs : s < 2 ^ p)
    (K : ∀ c, c ≤ 200 → zl_D (zl_star A) (zr_al bar) (zw_w lw p s) c → post (nI c)) : wpY_loopCost post (g_steps, g_depth, g_events, g_size, g_length, b_draft, b_process, b_log, b_cost, b_open) (nI nd) (nI y) (nI s) (nI p) := by
  have h8 := zn_p8 hp
  unfold wpY_loopCost
  by_cases s0 : s = 0
  · subst s0
    refine br_t rfl (K 0 (by omega) ?_)
    rw [zw_0]
    exact zl_CD zl_star_C0
  have wne : zw_w lw p s ≠ [] := zw_ne hs s0
  have i1 := zn_ix256 y s
  obtain ⟨as, aC⟩ := hA s hs
  have aB := aC.1
  refine br_f (nI_ne0 (by omega) (by omega)) ⟨by rw [i1]; exact vp_in_nI (by omega) (by decide), nm_r (e' := nI (fA s)) (by rw [i1, nI_clamp (by omega), as]) ?_⟩
  refine loop_0 (fun n q b => wY_loopCost_23 post (nI nd) (nI y) (nI s) (nI p) g_steps g_depth g_events g_size g_length b_draft b_process b_log b_cost b_open n (nI b) (nI q))
    (fun q b => b ≤ 100 ∧ (b < 100 → zl_Ext (zl_star A) (zr_al bar) (zw_w lw p s) b) ∧ b ≤ fA s ∧ ∀ q', q' < q → s % 2 ^ q' ≠ 0 → s % 2 ^ q' ≠ s → fA (s % 2 ^ q') = 0 → b ≤ fN (s - s % 2 ^ q')) (p + 1) (fA s) ?_ ?_ ?_
  · exact ⟨aB, fun h => zl_star_up1 (aC.2.1 h), Nat.le_refl _, fun q' z => by omega⟩
  · rintro n b ⟨q0, q1, q2, q3⟩
    refine br_t (nI_lt (Nat.lt_succ_self _) (by omega)) (K b (by omega) ⟨q1, fun d hd => ?_⟩)
    rcases zl_star_lo wne hd with ⟨a, ha, he⟩ | ⟨u, v, e, hu, hv, ha, hb⟩
    · have := zl_C_le aC he
      omega
    · obtain ⟨q, hq, e1, e2⟩ := zw_part e
      have hle : s % 2 ^ q ≤ s := Nat.mod_le _ _
      have n1 : s % 2 ^ q ≠ 0 := fun z => by
        rw [z, zw_0] at e1; exact hu e1
      have n2 : s % 2 ^ q ≠ s := fun z => by
        rw [z, Nat.sub_self, zw_0] at e2; exact hv e2
      rw [e1] at ha
      rw [e2] at hb
      have z := (zl_C0 (hA (s % 2 ^ q) (by omega)).2).mpr ha
      have := zl_C_le (hN (s - s % 2 ^ q) (by omega)).2 hb
      have := q3 q (by omega) n1 n2 z
      omega
  · rintro n q b hq ⟨q0, q1, q2, q3⟩ ih
    have hle : s % 2 ^ q ≤ s := Nat.mod_le _ _
    refine br_f (nI_nlt (by omega) (by omega)) (nm_r (zn_first (by omega)) ?_)
    have skip : (s % 2 ^ q ≠ 0 → s % 2 ^ q ≠ s → fA (s % 2 ^ q) = 0 → b ≤ fN (s - s % 2 ^ q)) → ∀ q', q' < q + 1 → s % 2 ^ q' ≠ 0 → s % 2 ^ q' ≠ s → fA (s % 2 ^ q') = 0 → b ≤ fN (s - s % 2 ^ q') := by
      intro hh q' h' a1 a2 a3
      by_cases e : q' = q
      · subst e; exact hh a1 a2 a3
      · exact q3 q' (by omega) a1 a2 a3
    by_cases n1 : s % 2 ^ q = 0
    · refine br_t (by rw [n1]; rfl) (nm_r (nI_1 q) (ih b ⟨q0, q1, q2, skip (fun w => absurd n1 w)⟩))
    refine br_f (nI_ne0 (by omega) (by omega)) ?_
    by_cases n2 : s % 2 ^ q = s
    · refine br_t (by rw [n2]) (nm_r (nI_1 q) (ih b ⟨q0, q1, q2, skip (fun _ w => absurd n2 w)⟩))
    refine br_f (fun w => n2 ((nI_eq (by omega) (by omega)).mp w)) ?_
    obtain ⟨cf, Cf⟩ := hA (s % 2 ^ q) (by omega)
    obtain ⟨cg, Cg⟩ := hN (s - s % 2 ^ q) (by omega)
    have j1 := zn_ix256 y (s % 2 ^ q)
    have j2 : nI nd * 256 + (nI s - nI (s % 2 ^ q)) = nI (nd * 256 + (s - s % 2 ^ q)) := by rw [pk_sub hle, zn_ix256]
    have v2 : vp_in (nI nd * 256 + (nI s - nI (s % 2 ^ q))) 4096 := by rw [j2]; exact vp_in_nI (by omega) (by decide)
    have k1 : b_cost (nI y * 256 + nI (s % 2 ^ q)).toNatClampNeg = nI (fA (s % 2 ^ q)) := by rw [j1, nI_clamp (by omega), cf]
    have k2 : b_cost (nI nd * 256 + (nI s - nI (s % 2 ^ q))).toNatClampNeg = nI (fN (s - s % 2 ^ q)) := by rw [j2, nI_clamp (by omega), cg]
    have B1 := Cf.1
    have B2 := Cg.1
    refine ⟨by rw [j1]; exact vp_in_nI (by omega) (by decide), ?_⟩
    by_cases z : fA (s % 2 ^ q) = 0
    · refine br_t (by rw [k1, z]; rfl) ⟨v2, ?_⟩
      by_cases y2 : b ≤ fN (s - s % 2 ^ q)
      · exact br_t (by rw [k2]; exact nI_le y2 (by omega)) (nm_r (nI_1 q) (ih b ⟨q0, q1, q2, skip (fun _ _ _ => y2)⟩))
      · refine br_f (by rw [k2]; exact nI_ge (by omega) (by omega)) ⟨v2, nm_r (e' := nI (fN (s - s % 2 ^ q))) k2 (nm_r (nI_1 q) (ih _ ⟨by omega, ?_, by omega, ?_⟩))⟩
        · intro h
          rw [zw_cat (s := s) (p := q) (P := p) (by omega)]
          exact zl_star_up2 ((zl_C0 Cf).mp z) (Cg.2.1 h)
        · intro q' h' a1 a2 a3
          by_cases e : q' = q
          · subst e; exact Nat.le_refl _
          · have := q3 q' (by omega) a1 a2 a3; omega
    · exact br_f (by rw [k1]; exact nI_ne0 (by omega) (by omega)) (nm_r (nI_1 q) (ih b ⟨q0, q1, q2, skip (fun _ _ w => absurd w z)⟩))
theorem zy_event {post : Int32 → Prop} {lw : Nat → Nat} {bar p s k : Nat} (hk : k < 4) (hb : bar < 16) (hl : ∀ i, i < p → b_log i = nI (lw i) ∧ lw i < 4) (hp : p ≤ 8) (hs : s < 2 ^ p)
    (K : ∀ c, c ≤ 200 → zl_D (zl_ev k) (zr_al bar) (zw_w lw p s) c → post (nI c)) : wpY_eventCost post (g_steps, g_depth, g_events, g_size, g_length, b_draft, b_process, b_log, b_cost, b_open) (nI k) (nI s) (nI p) (nI bar) := by
  have h8 := zn_p8 hp
  unfold wpY_eventCost
  by_cases s0 : s = 0
  · subst s0
    rw [zw_0] at K
    refine br_t rfl ?_
    by_cases c : bar.testBit k = true
    · exact br_t ((zn_bar1 (by omega) (by omega)).mpr c) (K 100 (by omega) (zl_CD (zl_ev_bar (fun z => by unfold zr_al at z; rw [c] at z; exact absurd z (by decide)))))
    · exact br_f (fun z => c ((zn_bar1 (by omega) (by omega)).mp z)) (K 1 (by omega) (zl_CD (zl_ev_nil (Bool.eq_false_iff.mpr c))))
  refine br_f (nI_ne0 (by omega) (by omega)) ?_
  refine loop_0 (fun n q (_ : Unit) => wY_eventCost_24 post (nI k) (nI s) (nI p) g_steps g_depth g_events g_size g_length b_draft b_process b_log b_cost b_open n (nI q)) (fun q _ => ∀ q', q' < q → ¬ (s = 2 ^ q' ∧ lw q' = k)) p () ?_ ?_ ?_
  · intro q' z; omega
  · intro n _ h
    refine br_t (nI_le (Nat.le_refl _) (by omega)) (K 100 (by omega) (zl_CD (zl_ev_no (zw_ne hs s0) ?_)))
    intro e
    obtain ⟨q, hq, e1, e2⟩ := zw_single hs e
    exact h q hq ⟨e1, e2⟩
  · intro n q _ hq h ih
    have hpw : 2 ^ q < 2 ^ 31 := Nat.pow_lt_pow_right (by decide) (by omega)
    have nxt : ¬ (s = 2 ^ q ∧ lw q = k) → ∀ q', q' < q + 1 → ¬ (s = 2 ^ q' ∧ lw q' = k) := by
      intro hh q' h'
      by_cases e : q' = q
      · subst e; exact hh
      · exact h q' (by omega)
    refine br_f (nI_ge hq (by omega)) ?_
    by_cases c : s = 2 ^ q
    · obtain ⟨l1, l2⟩ := hl q hq
      refine br_t (by rw [zn_pow (by omega), c]) ⟨vp_in_nI (by omega) (by decide), ?_⟩
      have cl : b_log (nI q).toNatClampNeg = nI (lw q) := by rw [nI_clamp (by omega), l1]
      by_cases d : lw q = k
      · refine br_t (by rw [cl, d]) (K 0 (by omega) (zl_CD ?_))
        rw [c, zw_one p hq, d]
        exact zl_ev_one
      · exact br_f (by rw [cl]; exact fun w => d ((nI_eq (by omega) (by omega)).mp w)) (nm_r (nI_1 q) (ih () (nxt (fun w => d w.2))))
    · exact br_f (by rw [zn_pow (by omega)]; exact fun w => c ((nI_eq (by omega) hpw).mp w)) (nm_r (nI_1 q) (ih () (nxt (fun w => c w.1))))
theorem zy_choice {post : Int32 → Prop} {lw : Nat → Nat} {bar p x y s : Nat} {A B : zl_L} {fA fB : Nat → Nat} (hA : zy_T lw bar p b_cost x A fA) (hB : zy_T lw bar p b_cost y B fB) (hx : x < 16) (hy : y < 16) (hp : p ≤ 8) (hs : s < 2 ^ p)
    (K : ∀ c, c ≤ 200 → zl_D (zl_ch A B) (zr_al bar) (zw_w lw p s) c → post (nI c)) : wpY_choiceCost post (g_steps, g_depth, g_events, g_size, g_length, b_draft, b_process, b_log, b_cost, b_open) (nI x) (nI y) (nI s) := by
  have h8 := zn_p8 hp
  obtain ⟨as, aC⟩ := hA s hs
  obtain ⟨bs, bC⟩ := hB s hs
  have a1 := aC.1
  have b1 := bC.1
  have j1 := zn_ix256 x s
  have j2 := zn_ix256 y s
  have v1 : vp_in (nI x * 256 + nI s) 4096 := by rw [j1]; exact vp_in_nI (by omega) (by decide)
  have v2 : vp_in (nI y * 256 + nI s) 4096 := by rw [j2]; exact vp_in_nI (by omega) (by decide)
  have k1 : b_cost (nI x * 256 + nI s).toNatClampNeg = nI (fA s) := by rw [j1, nI_clamp (by omega), as]
  have k2 : b_cost (nI y * 256 + nI s).toNatClampNeg = nI (fB s) := by rw [j2, nI_clamp (by omega), bs]
  have hC := zl_ch_C aC bC
  unfold wpY_choiceCost
  refine ⟨v1, v2, ?_⟩
  rw [k1, k2]
  by_cases c : fB s ≤ fA s
  · rw [if_pos c] at hC
    exact br_t (nI_le c (by omega)) ⟨v2, K _ (by omega) (zl_CD hC)⟩
  · rw [if_neg c] at hC
    exact br_f (nI_ge (by omega) (by omega)) ⟨v1, K _ (by omega) (zl_CD hC)⟩
end
end
section
/-! Y's least: the table row by row -/
theorem zn_by100 : vp_nar .byte ((100 : Int32).toInt8.toInt32) = nI 100 := by rw [pk_vb]; decide
theorem zn_byk : ∀ c, c < 100 → (nI c).toInt8.toInt32 = nI c := by decide +kernel
theorem zn_byc {c : Nat} (h : c < 100) : vp_nar .byte (nI c).toInt8.toInt32 = nI c := by rw [pk_vb, zn_byk c h]
def zy_O (lw : Nat → Nat) (bar p : Nat) (opn cost : Nat → Int32) : List zl_L → Nat → Prop
  | [], _ => True
  | L :: Ls, nd => (∃ v f, opn Ls.length = nI v ∧ v < nd ∧ zy_T lw bar p cost v L f) ∧ zy_O lw bar p opn cost Ls nd
theorem zy_T_fr {lw : Nat → Nat} {bar p : Nat} {cost cost' : Nat → Int32} {v nd : Nat} {L : zl_L} {f : Nat → Nat} (hp : p ≤ 8) (h : zy_T lw bar p cost v L f) (hv : v < nd) (hc : ∀ j, j < nd * 256 → cost' j = cost j) : zy_T lw bar p cost' v L f := by
  intro s hs
  have h8 := zn_p8 hp
  rw [hc _ (by omega)]
  exact h s hs
theorem zy_O_fr {lw : Nat → Nat} {bar p : Nat} {opn opn' cost cost' : Nat → Int32} {nd nd' : Nat} (hp : p ≤ 8) (hle : nd ≤ nd') (hc : ∀ j, j < nd * 256 → cost' j = cost j) :
    ∀ Ls : List zl_L, zy_O lw bar p opn cost Ls nd → (∀ j, j < Ls.length → opn' j = opn j) → zy_O lw bar p opn' cost' Ls nd' := by
  intro Ls
  induction Ls with
  | nil => intro _ _; exact True.intro
  | cons L Ls ih =>
    rintro ⟨⟨v, f, h1, h2, h3⟩, h4⟩ ho
    rw [List.length_cons] at ho
    exact ⟨⟨v, f, by rw [ho _ (by omega)]; exact h1, by omega, zy_T_fr hp h3 h2 hc⟩, ih h4 (fun j hj => ho j (by omega))⟩
def zl_Rest (d : Nat → Int32) : Nat → Nat → List zl_L → List zl_L → Prop
  | 0, _, A, Z => A = Z
  | j + 1, i, A, Z => ∃ B, zl_Op (d i) A B ∧ zl_Rest d j (i + 1) B Z
theorem zl_Rest_s {d : Nat → Int32} : ∀ (j i : Nat) (A B Z : List zl_L), zl_Rest d j i A B → zl_Op (d (i + j)) B Z → zl_Rest d (j + 1) i A Z := by
  intro j
  induction j with
  | zero =>
    intro i A B Z h ho
    have e : A = B := h
    subst e
    exact ⟨Z, ho, rfl⟩
  | succ j ih =>
    rintro i A B Z ⟨C, h1, h2⟩ ho
    refine ⟨C, h1, ih (i + 1) C B Z h2 ?_⟩
    rw [show i + 1 + j = i + (j + 1) by omega]
    exact ho
theorem zl_Run_R {d : Nat → Int32} : ∀ (n : Nat) (Z : List zl_L), zl_Run d n Z → zl_Rest d n 0 [] Z := by
  intro n
  induction n with
  | zero => intro Z h; exact (show Z = [] from h).symm
  | succ n ih =>
    rintro Z ⟨A, h, ho⟩
    exact zl_Rest_s n 0 [] A Z (ih A h) (by rw [Nat.zero_add]; exact ho)
section
variable {g_steps g_depth g_events g_size g_length : Int32} {b_draft b_process b_log b_cost b_open : Nat → Int32}
/-! costOf, one row an operation -/
theorem zy_co_ev {post : Int32 → Prop} {xx yy nn : Int32} {lw : Nat → Nat} {bar p s k : Nat} (hk : k < 4) (hb : bar < 16) (hl : ∀ i, i < p → b_log i = nI (lw i) ∧ lw i < 4) (hp : p ≤ 8) (hs : s < 2 ^ p)
    (K : ∀ c, c ≤ 200 → zl_D (zl_ev k) (zr_al bar) (zw_w lw p s) c → post (nI c)) : wpY_costOf post (g_steps, g_depth, g_events, g_size, g_length, b_draft, b_process, b_log, b_cost, b_open) nn (nI k) xx yy (nI s) (nI p) (nI bar) := by
  unfold wpY_costOf
  exact br_f (nI_ge (b := 4) hk (by decide)) (zy_event hk hb hl hp hs K)
theorem zy_co_skip {post : Int32 → Prop} {xx yy nn pp bb : Int32} {lw : Nat → Nat} {bar p s : Nat} (hp : p ≤ 8) (hs : s < 2 ^ p)
    (K : ∀ c, c ≤ 200 → zl_D zl_skip (zr_al bar) (zw_w lw p s) c → post (nI c)) : wpY_costOf post (g_steps, g_depth, g_events, g_size, g_length, b_draft, b_process, b_log, b_cost, b_open) nn 4 xx yy (nI s) pp bb := by
  have h8 := zn_p8 hp
  unfold wpY_costOf
  refine br_t (by decide) (br_t rfl ?_)
  by_cases s0 : s = 0
  · subst s0
    rw [zw_0] at K
    exact br_t rfl (K 0 (by omega) (zl_CD zl_skip_nil))
  · exact br_f (nI_ne0 (by omega) (by omega)) (K 100 (by omega) (zl_CD (zl_skip_no (zw_ne hs s0))))
theorem zy_co_seq {post : Int32 → Prop} {nn bb : Int32} {lw : Nat → Nat} {bar p x y s : Nat} {A B : zl_L} {fA fB : Nat → Nat} (hA : zy_T lw bar p b_cost x A fA) (hB : zy_T lw bar p b_cost y B fB) (hx : x < 16) (hy : y < 16) (hp : p ≤ 8) (hs : s < 2 ^ p)
    (K : ∀ c, c ≤ 200 → zl_D (zl_seq A B) (zr_al bar) (zw_w lw p s) c → post (nI c)) : wpY_costOf post (g_steps, g_depth, g_events, g_size, g_length, b_draft, b_process, b_log, b_cost, b_open) nn 5 (nI x) (nI y) (nI s) (nI p) bb := by
  unfold wpY_costOf
  exact br_t (by decide) (br_f (by decide) (br_t rfl (zy_seq hA hB hx hy hp hs K)))
theorem zy_co_ch {post : Int32 → Prop} {nn pp bb : Int32} {lw : Nat → Nat} {bar p x y s : Nat} {A B : zl_L} {fA fB : Nat → Nat} (hA : zy_T lw bar p b_cost x A fA) (hB : zy_T lw bar p b_cost y B fB) (hx : x < 16) (hy : y < 16) (hp : p ≤ 8) (hs : s < 2 ^ p)
    (K : ∀ c, c ≤ 200 → zl_D (zl_ch A B) (zr_al bar) (zw_w lw p s) c → post (nI c)) : wpY_costOf post (g_steps, g_depth, g_events, g_size, g_length, b_draft, b_process, b_log, b_cost, b_open) nn 6 (nI x) (nI y) (nI s) pp bb := by
  unfold wpY_costOf
  exact br_t (by decide) (br_f (by decide) (br_f (by decide) (br_t rfl (zy_choice hA hB hx hy hp hs K))))
theorem zy_co_both {post : Int32 → Prop} {nn pp bb : Int32} {lw : Nat → Nat} {bar p x y s : Nat} {A B : zl_L} {fA fB : Nat → Nat} (hA : zy_T lw bar p b_cost x A fA) (hB : zy_T lw bar p b_cost y B fB) (hx : x < 16) (hy : y < 16) (hp : p ≤ 8) (hs : s < 2 ^ p)
    (K : ∀ c, c ≤ 200 → zl_D (zl_both A B) (zr_al bar) (zw_w lw p s) c → post (nI c)) : wpY_costOf post (g_steps, g_depth, g_events, g_size, g_length, b_draft, b_process, b_log, b_cost, b_open) nn 7 (nI x) (nI y) (nI s) pp bb := by
  unfold wpY_costOf
  exact br_t (by decide) (br_f (by decide) (br_f (by decide) (br_f (by decide) (br_t rfl (zy_both hA hB hx hy hp hs K)))))
theorem zy_co_loop {post : Int32 → Prop} {xx bb : Int32} {lw : Nat → Nat} {bar p nd y s : Nat} {A : zl_L} {fA fN : Nat → Nat} (hA : zy_T lw bar p b_cost y A fA)
    (hN : ∀ s', s' < s → b_cost (nd * 256 + s') = nI (fN s') ∧ zl_C (zl_star A) (zr_al bar) (zw_w lw p s') (fN s')) (hn : nd < 16) (hy : y < 16) (hp : p ≤ 8) (hs : s < 2 ^ p)
    (K : ∀ c, c ≤ 200 → zl_D (zl_star A) (zr_al bar) (zw_w lw p s) c → post (nI c)) : wpY_costOf post (g_steps, g_depth, g_events, g_size, g_length, b_draft, b_process, b_log, b_cost, b_open) (nI nd) 8 xx (nI y) (nI s) (nI p) bb := by
  unfold wpY_costOf
  exact br_t (by decide) (br_f (by decide) (br_f (by decide) (br_f (by decide) (br_f (by decide) (br_t rfl (zy_loop hA hN hn hy hp hs K))))))
theorem zy_co_opt {post : Int32 → Prop} {xx nn pp bb : Int32} {lw : Nat → Nat} {bar p y s : Nat} {A : zl_L} {fA : Nat → Nat} (hA : zy_T lw bar p b_cost y A fA) (hy : y < 16) (hp : p ≤ 8) (hs : s < 2 ^ p)
    (K : ∀ c, c ≤ 200 → zl_D (zl_opt A) (zr_al bar) (zw_w lw p s) c → post (nI c)) : wpY_costOf post (g_steps, g_depth, g_events, g_size, g_length, b_draft, b_process, b_log, b_cost, b_open) nn 9 xx (nI y) (nI s) pp bb := by
  have h8 := zn_p8 hp
  unfold wpY_costOf
  refine br_t (by decide) (br_f (by decide) (br_f (by decide) (br_f (by decide) (br_f (by decide) (br_f (by decide) ?_)))))
  by_cases s0 : s = 0
  · subst s0
    rw [zw_0] at K
    exact br_t rfl (K 0 (by omega) (zl_CD zl_opt_nil))
  · obtain ⟨as, aC⟩ := hA s hs
    have aB := aC.1
    have j1 := zn_ix256 y s
    refine br_f (nI_ne0 (by omega) (by omega)) ⟨by rw [j1]; exact vp_in_nI (by omega) (by decide), ?_⟩
    rw [j1, nI_clamp (by omega), as]
    exact K _ (by omega) (zl_CD (zl_opt_C (zw_ne hs s0) aC))
/-! one row of the table -/
theorem zy_73 {post : Int32 → SY → Prop} {J : Int32 → Int32 → (Nat → Int32) → (Nat → Int32) → (Nat → Int32) → (Nat → Int32) → (Nat → Int32) → Prop} {x3 op yy xx : Int32} {lw : Nat → Nat} {bar p nd : Nat} {L : zl_L} (hp : p ≤ 8) (hn : nd < 16)
    (hc : ∀ (cost' : Nat → Int32) (fN : Nat → Nat) (s : Nat), s < 2 ^ p → (∀ j, j < nd * 256 → cost' j = b_cost j) →
      (∀ s', s' < s → cost' (nd * 256 + s') = nI (fN s') ∧ zl_C L (zr_al bar) (zw_w lw p s') (fN s')) → ∀ post' : Int32 → Prop, (∀ c, c ≤ 200 → zl_D L (zr_al bar) (zw_w lw p s) c → post' (nI c)) →
      wpY_costOf post' (g_steps, g_depth, g_events, g_size, g_length, b_draft, b_process, b_log, cost', b_open) (nI nd) op xx yy (nI s) (nI p) (nI bar))
    (K : ∀ (cost' : Nat → Int32) (f : Nat → Nat), (∀ j, j < nd * 256 → cost' j = b_cost j) → zy_T lw bar p cost' nd L f →
      ((5 ≤ op → ((8 ≤ op → wY_least_160 post J (nI p) (nI bar) (nI nd) x3 g_steps g_depth g_events g_size g_length b_draft b_process b_log cost' b_open) ∧ (¬ 8 ≤ op → wY_least_160 post J (nI p) (nI bar) (nI nd) (x3 - 1) g_steps g_depth g_events g_size g_length b_draft b_process b_log cost' b_open))) ∧
       (¬ 5 ≤ op → wY_least_160 post J (nI p) (nI bar) (nI nd) (x3 + 1) g_steps g_depth g_events g_size g_length b_draft b_process b_log cost' b_open))) :
    ∃ n, wY_least_73 post J (nI p) (nI bar) x3 (nI nd) op yy xx g_steps g_depth g_events g_size g_length n 0 b_draft b_process b_log b_cost b_open := by
  have h8 := zn_p8 hp
  have pw := zn_pow (show p < 31 by omega)
  refine loop_0 (fun n s e => wY_least_73 post J (nI p) (nI bar) x3 (nI nd) op yy xx g_steps g_depth g_events g_size g_length n (nI s) b_draft b_process b_log e b_open)
    (fun s e => (∀ j, j < nd * 256 → e j = b_cost j) ∧ ∃ f : Nat → Nat, ∀ s', s' < s → e (nd * 256 + s') = nI (f s') ∧ zl_C L (zr_al bar) (zw_w lw p s') (f s')) (2 ^ p) b_cost ?_ ?_ ?_
  · exact ⟨fun _ _ => rfl, fun _ => 0, fun s' z => by omega⟩
  · rintro n e ⟨q1, f, q2⟩
    exact br_t (by rw [pw]; exact nI_le (Nat.le_refl _) (by omega)) (K e f q1 q2)
  · rintro n s e hs ⟨q1, f, q2⟩ ih
    have ix := zn_ix256 nd s
    have vi : vp_in (nI nd * 256 + nI s) 4096 := by rw [ix]; exact vp_in_nI (by omega) (by decide)
    have cl : (nI nd * 256 + nI s).toNatClampNeg = nd * 256 + s := by rw [ix, nI_clamp (by omega)]
    have put : ∀ c, zl_C L (zr_al bar) (zw_w lw p s) c → ((∀ j, j < nd * 256 → upd e (nd * 256 + s) (nI c) j = b_cost j) ∧
        ∃ f : Nat → Nat, ∀ s', s' < s + 1 → upd e (nd * 256 + s) (nI c) (nd * 256 + s') = nI (f s') ∧ zl_C L (zr_al bar) (zw_w lw p s') (f s')) := by
      intro c hC
      refine ⟨fun j hj => by rw [pk_un (by omega)]; exact q1 j hj, fun i => if i = s then c else f i, ?_⟩
      intro s' h'
      by_cases d : s' = s
      · have e1 : (if s' = s then c else f s') = c := if_pos d
        show upd e (nd * 256 + s) (nI c) (nd * 256 + s') = nI (if s' = s then c else f s') ∧ zl_C L (zr_al bar) (zw_w lw p s') (if s' = s then c else f s')
        rw [e1, d, pk_us]
        exact ⟨rfl, hC⟩
      · have e1 : (if s' = s then c else f s') = f s' := if_neg d
        show upd e (nd * 256 + s) (nI c) (nd * 256 + s') = nI (if s' = s then c else f s') ∧ zl_C L (zr_al bar) (zw_w lw p s') (if s' = s then c else f s')
        rw [e1, pk_un (by omega)]
        exact q2 s' (by omega)
    refine br_f (by rw [pw]; exact nI_ge hs (by omega)) (hc e f s hs q1 q2 _ (fun c c200 hD => ?_))
    have hC := zl_C_mk hD.1 hD.2
    by_cases d : c < 100
    · rw [if_pos d] at hC
      exact br_f (nI_ge (b := 100) d (by decide)) ⟨vi, nm_r (e' := upd e (nd * 256 + s) (nI c)) (by rw [cl, zn_byc d]) (nm_r (nI_1 s) (ih _ (put c hC)))⟩
    · rw [if_neg d] at hC
      exact br_t (nI_le (a := 100) (by omega) (by omega)) ⟨vi, nm_r (e' := upd e (nd * 256 + s) (nI 100)) (by rw [cl, zn_by100]) (nm_r (nI_1 s) (ih _ (put 100 hC)))⟩
theorem zy_160 {post : Int32 → SY → Prop} {J : Int32 → Int32 → (Nat → Int32) → (Nat → Int32) → (Nat → Int32) → (Nat → Int32) → (Nat → Int32) → Prop} {x1 x2 : Int32} {nd t : Nat} (ht : t < 16)
    (K : J (nI (t + 1)) (nI (nd + 1)) b_draft b_process b_log b_cost (upd b_open t (nI nd))) : wY_least_160 post J x1 x2 (nI nd) (nI (t + 1)) g_steps g_depth g_events g_size g_length b_draft b_process b_log b_cost b_open := by
  unfold wY_least_160
  exact ⟨by rw [nI_pred]; exact vp_in_nI ht (by decide), nm_r (e' := upd b_open t (nI nd)) (by rw [nI_pred, nI_clamp (by omega)]) (nm_r (nI_1 nd) K)⟩
theorem zy_least {post : Int32 → SY → Prop} {p0 p1 : Int32} {lw : Nat → Nat} {L : zl_L} {sz p bar : Nat} (e0 : p0 = nI p) (e1 : p1 = nI bar) (hRun : zl_Run b_process sz [L]) (hsz : sz ≤ 16) (hp : p ≤ 8) (hb : bar < 16)
    (hl : ∀ i, i < p → b_log i = nI (lw i) ∧ lw i < 4)
    (K : ∀ (c : Nat) (cost' opn' : Nat → Int32), zl_C L (zr_al bar) ((List.range p).map lw) c → post (nI c) (g_steps, g_depth, g_events, nI sz, g_length, b_draft, b_process, b_log, cost', opn')) :
    wpY_least post (g_steps, g_depth, g_events, nI sz, g_length, b_draft, b_process, b_log, b_cost, b_open) p0 p1 := by
  subst e0 e1
  have h8 := zn_p8 hp
  have p0 := Nat.two_pow_pos p
  have sz1 : 1 ≤ sz := by
    cases sz with
    | zero => exact absurd (show [L] = [] from hRun) (by simp)
    | succ sz => omega
  show ∃ n, wY_least_5 post (nI p) (nI bar) g_steps g_depth g_events (nI sz) g_length n 0 0 b_draft b_process b_log b_cost b_open
  refine loop_0 (fun n i (σ : List zl_L × (Nat → Int32) × (Nat → Int32)) => wY_least_5 post (nI p) (nI bar) g_steps g_depth g_events (nI sz) g_length n (nI σ.1.length) (nI i) b_draft b_process b_log σ.2.1 σ.2.2)
    (fun i σ => zl_Rest b_process (sz - i) i σ.1 [L] ∧ zy_O lw bar p σ.2.2 σ.2.1 σ.1 i ∧ σ.1.length ≤ i ∧ ∀ L' r, σ.1 = L' :: r → ∃ f, zy_T lw bar p σ.2.1 (i - 1) L' f) sz ([], b_cost, b_open) ?_ ?_ ?_
  · exact ⟨zl_Run_R sz [L] hRun, True.intro, Nat.le_refl 0, fun L' r e => absurd e (by simp)⟩
  · rintro n ⟨A, cost, opn⟩ ⟨q1, q2, q3, q4⟩
    dsimp only at q1 q2 q3 q4
    rw [Nat.sub_self] at q1
    obtain ⟨f, hf⟩ := q4 L [] q1
    obtain ⟨h1, h2⟩ := hf (2 ^ p - 1) (by omega)
    rw [zw_full p p (Nat.le_refl _)] at h2
    have ix : nI sz - 1 = nI (sz - 1) := by
      show nI sz - nI 1 = _
      rw [pk_sub sz1]
    have iy : (nI sz - 1) * 256 + ((1 : Int32) <<< (nI p &&& 31)) - 1 = nI ((sz - 1) * 256 + (2 ^ p - 1)) := by
      rw [ix, zn_pow (by omega), zn_ix256]
      show nI _ - nI 1 = _
      rw [pk_sub (by omega)]
      exact congrArg nI (by omega)
    show wY_least_5 post (nI p) (nI bar) g_steps g_depth g_events (nI sz) g_length (n + 1) (nI A.length) (nI sz) b_draft b_process b_log cost opn
    refine br_t (nI_le (Nat.le_refl _) (by omega)) ⟨by rw [iy]; exact vp_in_nI (by omega) (by decide), ?_⟩
    rw [iy, nI_clamp (by omega), h1]
    exact K _ _ _ h2
  · rintro n i ⟨A, cost, opn⟩ hi ⟨q1, q2, q3, q4⟩ ih
    dsimp only at q1 q2 q3 q4
    rw [show sz - i = (sz - (i + 1)) + 1 by omega] at q1
    obtain ⟨B, hop, hrest⟩ := q1
    have cli : (nI i).toNatClampNeg = i := nI_clamp (by omega)
    have fin : ∀ (Ln : zl_L) (r : List zl_L), B = Ln :: r → zy_O lw bar p opn cost r i → r.length ≤ i → ∀ (cost' : Nat → Int32) (f : Nat → Nat), (∀ j, j < i * 256 → cost' j = cost j) → zy_T lw bar p cost' i Ln f →
        wY_least_160 post (wY_least_5 post (nI p) (nI bar) g_steps g_depth g_events (nI sz) g_length n) (nI p) (nI bar) (nI i) (nI (r.length + 1)) g_steps g_depth g_events (nI sz) g_length b_draft b_process b_log cost' opn := by
      intro Ln r eB hO hr cost' f hcost hT
      subst eB
      refine zy_160 (by omega) (ih (Ln :: r, cost', upd opn r.length (nI i)) ⟨hrest, ?_, ?_, ?_⟩)
      · exact ⟨⟨i, f, pk_us, by omega, hT⟩, zy_O_fr hp (by omega) hcost r hO (fun j hj => pk_un (by omega))⟩
      · show (Ln :: r).length ≤ i + 1
        rw [List.length_cons]
        omega
      · intro L' r' e
        have e' : Ln :: r = L' :: r' := e
        injection e' with e1 e2
        subst e1
        exact ⟨f, hT⟩
    show wY_least_5 post (nI p) (nI bar) g_steps g_depth g_events (nI sz) g_length (n + 1) (nI A.length) (nI i) b_draft b_process b_log cost opn
    refine br_f (nI_ge hi (by omega)) ⟨vp_in_nI (by omega) (by decide), ?_⟩
    rcases hop with ⟨k, hk, ho, eB⟩ | ⟨ho, eB⟩ | ⟨x, y, r, ho, eA, eB⟩ | ⟨x, y, r, ho, eA, eB⟩ | ⟨x, y, r, ho, eA, eB⟩ | ⟨y, r, ho, eA, eB⟩ | ⟨y, r, ho, eA, eB⟩
    · refine nm_r (e' := nI k) (by rw [cli, ho]) (br_t (nI_le (b := 4) (by omega) (by decide)) ?_)
      unfold wY_least_41
      refine br_t (nI_le (b := 4) (by omega) (by decide)) (zy_73 (L := zl_ev k) hp (by omega) (fun cost' fN s hs _ _ post' K' => zy_co_ev hk hb hl hp hs K') (fun cost' f g1 g2 => br_f (nI_ge (b := 5) (by omega) (by decide)) ?_))
      rw [nI_1]
      exact fin _ _ eB q2 q3 cost' f g1 g2
    · refine nm_r (e' := 4) (by rw [cli, ho]) (br_t (by decide) ?_)
      unfold wY_least_41
      refine br_t (by decide) (zy_73 (lw := lw) (L := zl_skip) hp (by omega) (fun cost' fN s hs _ _ post' K' => zy_co_skip hp hs K') (fun cost' f g1 g2 => br_f (by decide) ?_))
      rw [nI_1]
      exact fin _ _ eB q2 q3 cost' f g1 g2
    · subst eA
      obtain ⟨⟨vy, fy, y1, y2, y3⟩, ⟨vx, fx, x1, x2, x3⟩, hr⟩ := q2
      have y1' : opn (r.length + 1) = nI vy := y1
      have q3' : r.length + 2 ≤ i := q3
      rw [show (y :: x :: r).length = r.length + 2 from rfl]
      refine nm_r (e' := 5) (by rw [cli, ho]) (br_f (by decide) ⟨by rw [nI_pred]; exact vp_in_nI (by omega) (by decide), ?_⟩)
      unfold wY_least_41
      refine br_f (by decide) (br_f (by decide) ⟨by rw [zn_m2]; exact vp_in_nI (by omega) (by decide), nm_r (e' := nI vx) (by rw [zn_m2, nI_clamp (by omega), x1]) ?_⟩)
      rw [nI_pred, nI_clamp (by omega), y1']
      refine zy_73 (L := zl_seq x y) hp (by omega) (fun cost' fN s hs hc1 _ post' K' => zy_co_seq (zy_T_fr hp x3 x2 hc1) (zy_T_fr hp y3 y2 hc1) (by omega) (by omega) hp hs K') (fun cost' f g1 g2 => br_t (by decide) (br_f (by decide) ?_))
      rw [nI_pred]
      exact fin _ _ eB hr (by omega) cost' f g1 g2
    · subst eA
      obtain ⟨⟨vy, fy, y1, y2, y3⟩, ⟨vx, fx, x1, x2, x3⟩, hr⟩ := q2
      have y1' : opn (r.length + 1) = nI vy := y1
      have q3' : r.length + 2 ≤ i := q3
      rw [show (y :: x :: r).length = r.length + 2 from rfl]
      refine nm_r (e' := 6) (by rw [cli, ho]) (br_f (by decide) ⟨by rw [nI_pred]; exact vp_in_nI (by omega) (by decide), ?_⟩)
      unfold wY_least_41
      refine br_f (by decide) (br_f (by decide) ⟨by rw [zn_m2]; exact vp_in_nI (by omega) (by decide), nm_r (e' := nI vx) (by rw [zn_m2, nI_clamp (by omega), x1]) ?_⟩)
      rw [nI_pred, nI_clamp (by omega), y1']
      refine zy_73 (L := zl_ch x y) hp (by omega) (fun cost' fN s hs hc1 _ post' K' => zy_co_ch (zy_T_fr hp x3 x2 hc1) (zy_T_fr hp y3 y2 hc1) (by omega) (by omega) hp hs K') (fun cost' f g1 g2 => br_t (by decide) (br_f (by decide) ?_))
      rw [nI_pred]
      exact fin _ _ eB hr (by omega) cost' f g1 g2
    · subst eA
      obtain ⟨⟨vy, fy, y1, y2, y3⟩, ⟨vx, fx, x1, x2, x3⟩, hr⟩ := q2
      have y1' : opn (r.length + 1) = nI vy := y1
      have q3' : r.length + 2 ≤ i := q3
      rw [show (y :: x :: r).length = r.length + 2 from rfl]
      refine nm_r (e' := 7) (by rw [cli, ho]) (br_f (by decide) ⟨by rw [nI_pred]; exact vp_in_nI (by omega) (by decide), ?_⟩)
      unfold wY_least_41
      refine br_f (by decide) (br_f (by decide) ⟨by rw [zn_m2]; exact vp_in_nI (by omega) (by decide), nm_r (e' := nI vx) (by rw [zn_m2, nI_clamp (by omega), x1]) ?_⟩)
      rw [nI_pred, nI_clamp (by omega), y1']
      refine zy_73 (L := zl_both x y) hp (by omega) (fun cost' fN s hs hc1 _ post' K' => zy_co_both (zy_T_fr hp x3 x2 hc1) (zy_T_fr hp y3 y2 hc1) (by omega) (by omega) hp hs K') (fun cost' f g1 g2 => br_t (by decide) (br_f (by decide) ?_))
      rw [nI_pred]
      exact fin _ _ eB hr (by omega) cost' f g1 g2
    · subst eA
      obtain ⟨⟨vy, fy, y1, y2, y3⟩, hr⟩ := q2
      have q3' : r.length + 1 ≤ i := q3
      rw [show (y :: r).length = r.length + 1 from rfl]
      refine nm_r (e' := 8) (by rw [cli, ho]) (br_f (by decide) ⟨by rw [nI_pred]; exact vp_in_nI (by omega) (by decide), ?_⟩)
      unfold wY_least_41
      refine br_f (by decide) (br_t (by decide) ?_)
      rw [nI_pred, nI_clamp (by omega), y1]
      refine zy_73 (L := zl_star y) hp (by omega) (fun cost' fN s hs hc1 hc2 post' K' => zy_co_loop (zy_T_fr hp y3 y2 hc1) hc2 (by omega) (by omega) hp hs K') (fun cost' f g1 g2 => br_t (by decide) (br_t (by decide) ?_))
      exact fin _ _ eB hr (by omega) cost' f g1 g2
    · subst eA
      obtain ⟨⟨vy, fy, y1, y2, y3⟩, hr⟩ := q2
      have q3' : r.length + 1 ≤ i := q3
      rw [show (y :: r).length = r.length + 1 from rfl]
      refine nm_r (e' := 9) (by rw [cli, ho]) (br_f (by decide) ⟨by rw [nI_pred]; exact vp_in_nI (by omega) (by decide), ?_⟩)
      unfold wY_least_41
      refine br_f (by decide) (br_t (by decide) ?_)
      rw [nI_pred, nI_clamp (by omega), y1]
      refine zy_73 (L := zl_opt y) hp (by omega) (fun cost' fN s hs hc1 hc2 post' K' => zy_co_opt (zy_T_fr hp y3 y2 hc1) (by omega) hp hs K') (fun cost' f g1 g2 => br_t (by decide) (br_t (by decide) ?_))
      exact fin _ _ eB hr (by omega) cost' f g1 g2
end
end
section
/-! the answers: each side against one pure picture -/
def zl_Pth (E : Nat → Nat → Nat → Prop) : List Nat → Nat → Nat → Prop
  | [], s, t => s = t
  | a :: w, s, t => ∃ q, E s a q ∧ zl_Pth E w q t
theorem zl_Pth_acc {E : Nat → Nat → Nat → Prop} {F : Nat → Prop} {v : List Nat} : ∀ (w : List Nat) (s : Nat), zl_Acc E F (w ++ v) s ↔ ∃ t, zl_Pth E w s t ∧ zl_Acc E F v t := by
  intro w
  induction w with
  | nil =>
    intro s
    constructor
    · intro h; exact ⟨s, rfl, h⟩
    · rintro ⟨t, e, h⟩
      have e' : s = t := e
      rw [e']; exact h
  | cons a w ih =>
    intro s
    constructor
    · rintro ⟨q, h1, h2⟩
      obtain ⟨t, h3, h4⟩ := (ih q).mp h2
      exact ⟨t, ⟨q, h1, h3⟩, h4⟩
    · rintro ⟨t, ⟨q, h1, h3⟩, h4⟩
      exact ⟨q, h1, (ih q).mpr ⟨t, h3, h4⟩⟩
theorem zl_Pth_lt {n : Nat} {E : Nat → Nat → Nat → Prop} (hc : ∀ s, s < n → ∀ a t, E s a t → t < n) : ∀ (w : List Nat) (s t : Nat), s < n → zl_Pth E w s t → t < n := by
  intro w
  induction w with
  | nil =>
    intro s t hs h
    have e : s = t := h
    omega
  | cons a w ih =>
    rintro s t hs ⟨q, h1, h2⟩
    exact ih q t (hc s hs a q h1) h2
theorem zm_Rall {n : Nat} {E : Nat → Nat → Nat → Prop} {F : Nat → Prop} {L : zl_L} (h : zm_M n E F L) (w : List Nat) : zm_R n E F L (fun t => zl_Pth E w 0 t) w := by
  obtain ⟨x1, x2, x3, x4⟩ := h
  exact ⟨fun t ht => zl_Pth_lt (fun s hs a t z => (x2 s hs a t z).2.2) w 0 t x1 ht, fun v => by rw [← x4, zl_Pth_acc]⟩
/-- what can be completed at all can be completed by at most 64 letters -/
def zv_Bd (L : zl_L) : Prop := ∀ al w d, zl_Ext L al w d → ∃ d', d' ≤ 64 ∧ zl_Ext L al w d'
theorem zv_Bd_of {n : Nat} {E : Nat → Nat → Nat → Prop} {F : Nat → Prop} {L : zl_L} (hn : n ≤ 64) (h : zm_M n E F L) : zv_Bd L := fun _ w _ he => zm_bound hn h (zm_Rall h w) he
def zv_mn (L : zl_L) (al : Nat → Prop) (w : List Nat) (d : Nat) : Prop := zl_Ext L al w d ∧ ∀ d', d' < d → ¬ zl_Ext L al w d'
theorem zv_mn_u {L : zl_L} {al : Nat → Prop} {w : List Nat} {d d' : Nat} (h : zv_mn L al w d) (h' : zv_mn L al w d') : d = d' := by
  rcases Nat.lt_trichotomy d d' with c | c | c
  · exact absurd h.1 (h'.2 d c)
  · exact c
  · exact absurd h'.1 (h.2 d' c)
theorem zv_C {L : zl_L} {al : Nat → Prop} {w : List Nat} {c : Nat} (hB : zv_Bd L) (h : zl_C L al w c) : (c ≤ 64 ∧ zv_mn L al w c) ∨ (c = 100 ∧ ∀ d, ¬ zl_Ext L al w d) := by
  by_cases e : ∃ d, zl_Ext L al w d
  · obtain ⟨d, hd⟩ := e
    obtain ⟨d', h1, h2⟩ := hB al w d hd
    have := zl_C_le h h2
    exact Or.inl ⟨by omega, h.2.1 (by omega), h.2.2⟩
  · have hno : ∀ d, ¬ zl_Ext L al w d := fun d hd => e ⟨d, hd⟩
    exact Or.inr ⟨zl_C_none h hno, hno⟩
theorem zn_ng {d : Nat} {x : Int32} (hd : d < 2 ^ 31) (hx : x < 0) : ¬ nI d = x := by
  intro e
  have := nI_pos hd
  rw [e] at this
  exact this hx
theorem zn_or (a b : Nat) : nI a ||| nI b = nI (a ||| b) := by
  apply Int32.toBitVec_inj.1
  show BitVec.ofNat 32 a ||| BitVec.ofNat 32 b = BitVec.ofNat 32 (a ||| b)
  apply BitVec.eq_of_getLsbD_eq
  intro i hi
  simp [hi]
/-! masks of names -/
def zv_Msk (G : Nat → Prop) (k b : Nat) : Prop := b < 2 ^ k ∧ ∀ j, j < k → (b.testBit j = true ↔ G j)
theorem zv_msk0 {G : Nat → Prop} {k b : Nat} (h : zv_Msk G k b) (hg : ¬ G k) : zv_Msk G (k + 1) b := by
  refine ⟨by have := h.1; rw [Nat.pow_succ]; omega, fun j hj => ?_⟩
  by_cases e : j = k
  · subst e
    rw [Nat.testBit_lt_two_pow h.1]
    exact ⟨fun z => absurd z (by decide), fun z => absurd z hg⟩
  · exact h.2 j (by omega)
theorem zv_msk1 {G : Nat → Prop} {k b : Nat} (h : zv_Msk G k b) (hg : G k) : zv_Msk G (k + 1) (b ||| 2 ^ k) := by
  refine ⟨Nat.or_lt_two_pow (by have := h.1; rw [Nat.pow_succ]; omega) (Nat.pow_lt_pow_right (by decide) (by omega)), fun j hj => ?_⟩
  rw [Nat.testBit_or]
  by_cases e : j = k
  · subst e
    rw [Nat.testBit_two_pow_self, Bool.or_true]
    exact ⟨fun _ => hg, fun _ => rfl⟩
  · rw [Nat.testBit_two_pow_of_ne (by omega), Bool.or_false]
    exact h.2 j (by omega)
theorem zv_msku {G : Nat → Prop} {k b b' : Nat} (h : zv_Msk G k b) (h' : zv_Msk G k b') : b = b' := by
  apply Nat.eq_of_testBit_eq
  intro i
  rcases Nat.lt_or_ge i k with c | c
  · rw [Bool.eq_iff_iff, h.2 i c, h'.2 i c]
  · have p : 2 ^ k ≤ 2 ^ i := Nat.pow_le_pow_right (by decide) c
    rw [Nat.testBit_lt_two_pow (Nat.lt_of_lt_of_le h.1 p), Nat.testBit_lt_two_pow (Nat.lt_of_lt_of_le h'.1 p)]
theorem zv_plus {k b : Nat} (h : b < 2 ^ k) : b + 2 ^ k = b ||| 2 ^ k := by
  have h' := Nat.two_pow_add_eq_or_of_lt h 1
  rw [Nat.mul_one] at h'
  rw [Nat.or_comm, ← h', Nat.add_comm]
def zv_Gn (L : zl_L) (w : List Nat) (k : Nat) : Prop := ∃ d, zl_Ext L (zr_al 0) (w ++ [k]) d
def zv_Gd (L : zl_L) (w : List Nat) (k : Nat) : Prop := ∀ d, ¬ zl_Ext L (zr_al (2 ^ k)) w d
def zv_Hit (L : zl_L) (w : List Nat) (k : Nat) : Prop := ∃ d, zv_mn L (zr_al 0) (w ++ [k]) d ∧ zv_mn L (zr_al 0) w (d + 1)
def zv_Adv (L : zl_L) (w : List Nat) (r : Int32) : Prop := (∃ k, k < 4 ∧ r = nI k ∧ zv_Hit L w k ∧ ∀ j, j < k → ¬ zv_Hit L w j) ∨ (r = -4 ∧ ∀ k, k < 4 → ¬ zv_Hit L w k)
theorem zv_Adv_u {L : zl_L} {w : List Nat} {r r' : Int32} (h : zv_Adv L w r) (h' : zv_Adv L w r') : r' = r := by
  rcases h with ⟨k, k4, e, h1, h2⟩ | ⟨e, h1⟩ <;> rcases h' with ⟨k', k4', e', h1', h2'⟩ | ⟨e', h1'⟩
  · have : k = k' := by
      rcases Nat.lt_trichotomy k k' with c | c | c
      · exact absurd h1 (h2' k c)
      · exact c
      · exact absurd h1' (h2 k' c)
    rw [e, e', this]
  · exact absurd h1 (h1' k k4)
  · exact absurd h1' (h1 k' k4')
  · rw [e, e']
theorem zr_al0 (a : Nat) : zr_al 0 a := Nat.zero_testBit a
theorem zn_24 {k : Nat} (hk : k < 4) : 2 ^ k < 16 := Nat.pow_lt_pow_right (a := 2) (m := k) (n := 4) (by decide) hk
/-- the process and the log of X -/
def zv_X (finals : Int64) (move reach : Nat → Int64) (n lg : Nat) (L : zl_L) (lw : Nat → Nat) : Prop :=
  zr_Pm finals move n L ∧ lg ≤ 7 ∧ reach 0 = 1 ∧ ∀ i, i ≤ lg → zm_R n (zr_E move 0) (fun s => zb_t finals s = true) L (fun t => zb_t (reach i) t = true) ((List.range i).map lw)
/-- the same of Y -/
def zv_Y (process log : Nat → Int32) (sz lg : Nat) (L : zl_L) (lw : Nat → Nat) : Prop :=
  zl_Run process sz [L] ∧ sz ≤ 16 ∧ lg ≤ 7 ∧ ∀ i, i < lg → log i = nI (lw i) ∧ lw i < 4
theorem zv_ext0 {n : Nat} {E : Nat → Nat → Nat → Prop} {F : Nat → Prop} {L : zl_L} {R : Nat → Prop} {w : List Nat} (h : zm_M n E F L) (hR : zm_R n E F L R w) : (∃ t, R t) ↔ ∃ d, zl_Ext L (zr_al 0) w d := by
  constructor
  · rintro ⟨t, ht⟩
    obtain ⟨v, hv⟩ := h.2.2.1 t (hR.1 t ht)
    exact ⟨v.length, v, rfl, fun a _ => zr_al0 a, (hR.2 v).mp ⟨t, ht, hv⟩⟩
  · rintro ⟨d, hd⟩
    obtain ⟨s, hs, _⟩ := (zm_ext hR d).mp ⟨d, Nat.le_refl _, hd⟩
    exact ⟨s, hs⟩
section
variable {f_height f_made f_events f_joined f_states f_logged : Int32} {f_finals : Int64} {a_base a_size a_ends a_joinEnds a_log : Nat → Int32} {a_edge a_joinEdge a_move a_reach : Nat → Int64}
theorem zx_mayStop {post : Int32 → Prop} {n lg : Nat} {L : zl_L} {lw : Nat → Nat} (h : zv_X f_finals a_move a_reach n lg L lw) (K1 : L ((List.range lg).map lw) → post 1) (K0 : ¬ L ((List.range lg).map lw) → post 0) :
    wpX_mayStop post (f_height, f_made, f_events, f_joined, nI n, f_finals, nI lg, a_base, a_size, a_edge, a_ends, a_joinEdge, a_joinEnds, a_move, a_log, a_reach) := by
  obtain ⟨hP, hl, _, hR⟩ := h
  have h2 := (hR lg (Nat.le_refl _)).2 []
  rw [List.append_nil] at h2
  unfold wpX_mayStop
  refine ⟨vp_in_nI (by omega) (by decide), ?_⟩
  rw [nI_clamp (by omega)]
  by_cases z : a_reach lg &&& f_finals = 0
  · refine br_t z (K0 (fun hL => ?_))
    obtain ⟨t, t1, t2⟩ := h2.mpr hL
    have t2' : zb_t f_finals t = true := t2
    have := zb_eq0.mp z t
    rw [zb_and, t1, t2'] at this
    exact this rfl
  · obtain ⟨t, _, ht⟩ := zb_ne0.mp z
    rw [zb_and, Bool.and_eq_true] at ht
    exact br_f z (K1 (h2.mp ⟨t, ht.1, ht.2⟩))
theorem zx_next {post : Int32 → Prop} {n lg : Nat} {L : zl_L} {lw : Nat → Nat} (h : zv_X f_finals a_move a_reach n lg L lw) (K : ∀ b, zv_Msk (zv_Gn L ((List.range lg).map lw)) 4 b → post (nI b)) :
    wpX_next post (f_height, f_made, f_events, f_joined, nI n, f_finals, nI lg, a_base, a_size, a_edge, a_ends, a_joinEdge, a_joinEnds, a_move, a_log, a_reach) := by
  obtain ⟨hP, hl, _, hR⟩ := h
  show ∃ n', wX_next_4 post f_height f_made f_events f_joined (nI n) f_finals (nI lg) a_base a_size a_edge a_ends a_joinEdge a_joinEnds a_move a_log a_reach n' 0 0
  refine loop_0 (fun n' i b => wX_next_4 post f_height f_made f_events f_joined (nI n) f_finals (nI lg) a_base a_size a_edge a_ends a_joinEdge a_joinEnds a_move a_log a_reach n' (nI b) (nI i)) (fun i b => zv_Msk (zv_Gn L ((List.range lg).map lw)) i b) 4 0 ?_ ?_ ?_
  · exact ⟨by decide, fun j hj => by omega⟩
  · intro n' b hb
    exact br_t (by decide : (4 : Int32) ≤ nI 4) (K b hb)
  · intro n' i b hi hb ih
    refine br_f (nI_ge (b := 4) hi (by decide)) ⟨vp_in_nI (by omega) (by decide), ?_⟩
    rw [nI_clamp (by omega)]
    refine zx_stepR rfl hi hP (hR lg (Nat.le_refl _)) (fun r hr => ?_)
    have hx := zv_ext0 hP.2.1 hr
    by_cases z : r = 0
    · refine br_t z (nm_r (nI_1 i) (ih b (zv_msk0 hb (fun hg => ?_))))
      obtain ⟨t, ht⟩ := hx.mpr hg
      exact zb_eq0.mp z t ht
    · obtain ⟨t, _, ht⟩ := zb_ne0.mp z
      exact br_f z (nm_r (e' := nI (b ||| 2 ^ i)) (by rw [zn_pow (by omega), zn_or]) (nm_r (nI_1 i) (ih _ (zv_msk1 hb (hx.mp ⟨t, ht⟩)))))
theorem zx_needed {post : Int32 → Prop} {n lg : Nat} {L : zl_L} {lw : Nat → Nat} (h : zv_X f_finals a_move a_reach n lg L lw) (K : ∀ b, zv_Msk (zv_Gd L ((List.range lg).map lw)) 4 b → post (nI b)) :
    wpX_needed post (f_height, f_made, f_events, f_joined, nI n, f_finals, nI lg, a_base, a_size, a_edge, a_ends, a_joinEdge, a_joinEnds, a_move, a_log, a_reach) := by
  obtain ⟨hP, hl, _, hR⟩ := h
  show ∃ n', wX_needed_4 post f_height f_made f_events f_joined (nI n) f_finals (nI lg) a_base a_size a_edge a_ends a_joinEdge a_joinEnds a_move a_log a_reach n' 0 0
  refine loop_0 (fun n' i b => wX_needed_4 post f_height f_made f_events f_joined (nI n) f_finals (nI lg) a_base a_size a_edge a_ends a_joinEdge a_joinEnds a_move a_log a_reach n' (nI b) (nI i)) (fun i b => zv_Msk (zv_Gd L ((List.range lg).map lw)) i b) 4 0 ?_ ?_ ?_
  · exact ⟨by decide, fun j hj => by omega⟩
  · intro n' b hb
    exact br_t (by decide : (4 : Int32) ≤ nI 4) (K b hb)
  · intro n' i b hi hb ih
    refine br_f (nI_ge (b := 4) hi (by decide)) ⟨vp_in_nI (by omega) (by decide), ?_⟩
    rw [nI_clamp (by omega)]
    refine zx_least (zn_pow (by omega)) (zn_24 hi) hP (hR lg (Nat.le_refl _)) (fun r hr => ?_)
    rcases hr with ⟨d, hd, e, h1, _⟩ | ⟨e, h1⟩
    · exact br_f (by rw [e]; exact zn_ng (by omega) (by decide)) (nm_r (nI_1 i) (ih b (zv_msk0 hb (fun hg => hg d h1))))
    · exact br_t e (nm_r (e' := nI (b ||| 2 ^ i)) (by rw [zn_pow (by omega), zn_or]) (nm_r (nI_1 i) (ih _ (zv_msk1 hb h1))))
theorem zx_advice {post : Int32 → Prop} {n lg : Nat} {L : zl_L} {lw : Nat → Nat} (h : zv_X f_finals a_move a_reach n lg L lw) (K : ∀ r, zv_Adv L ((List.range lg).map lw) r → post r) :
    wpX_advice post (f_height, f_made, f_events, f_joined, nI n, f_finals, nI lg, a_base, a_size, a_edge, a_ends, a_joinEdge, a_joinEnds, a_move, a_log, a_reach) := by
  unfold wpX_advice
  refine zx_mayStop h (fun hL => ?_) (fun hL => ?_)
  · refine br_f (by decide) (K _ (Or.inr ⟨rfl, fun k hk => ?_⟩))
    rintro ⟨d, _, h2⟩
    exact h2.2 0 (by omega) (zl_Ext0.mpr hL)
  · obtain ⟨hP, hl, _, hR⟩ := h
    refine br_t rfl ⟨vp_in_nI (by omega) (by decide), ?_⟩
    rw [nI_clamp (by omega)]
    refine zx_least (bar := 0) rfl (by decide) hP (hR lg (Nat.le_refl _)) (fun r0 hr0 => ?_)
    refine loop_0 (fun n' i (_ : Unit) => wX_advice_27 post r0 f_height f_made f_events f_joined (nI n) f_finals (nI lg) a_base a_size a_edge a_ends a_joinEdge a_joinEnds a_move a_log a_reach n' (nI i)) (fun i _ => ∀ k, k < i → ¬ zv_Hit L ((List.range lg).map lw) k) 4 () ?_ ?_ ?_
    · intro k hk; omega
    · intro n' _ hh
      exact br_t (by decide : (4 : Int32) ≤ nI 4) (K _ (Or.inr ⟨rfl, hh⟩))
    · intro n' i _ hi hh ih
      refine br_f (nI_ge (b := 4) hi (by decide)) ⟨vp_in_nI (by omega) (by decide), ?_⟩
      rw [nI_clamp (by omega)]
      refine zx_stepR rfl hi hP (hR lg (Nat.le_refl _)) (fun r1 hr1 => zx_least (bar := 0) rfl (by decide) hP hr1 (fun r hr => ?_))
      have nxt : ¬ zv_Hit L ((List.range lg).map lw) i → ∀ k, k < i + 1 → ¬ zv_Hit L ((List.range lg).map lw) k := by
        intro hn k hk
        by_cases e : k = i
        · subst e; exact hn
        · exact hh k (by omega)
      rcases hr0 with ⟨d0, hd0, e0, m0⟩ | ⟨e0, m0⟩
      · have d1 : d0 ≠ 0 := by
          intro z
          subst z
          exact hL (zl_Ext0.mp m0.1)
        obtain ⟨e, rfl⟩ : ∃ e, d0 = e + 1 := ⟨d0 - 1, by omega⟩
        have x1 : r0 - 1 = nI e := by rw [e0, nI_pred]
        rcases hr with ⟨d, hd, er, m⟩ | ⟨er, m⟩
        · by_cases c : d = e
          · subst c
            exact br_t (by rw [er, x1]) (K _ (Or.inl ⟨i, hi, rfl, ⟨d, m, m0⟩, hh⟩))
          · refine br_f (by rw [er, x1]; exact fun z => c ((nI_eq (by omega) (by omega)).mp z)) (nm_r (nI_1 i) (ih () (nxt ?_)))
            rintro ⟨d', g1, g2⟩
            have a1 := zv_mn_u g1 m
            have a2 := zv_mn_u g2 m0
            omega
        · refine br_f (by rw [er, x1]; exact fun z => zn_ng (d := e) (by omega) (by decide) z.symm) (nm_r (nI_1 i) (ih () (nxt ?_)))
          rintro ⟨d', g1, g2⟩
          exact m d' g1.1
      · have x1 : r0 - 1 = -5 := by rw [e0]; decide
        have hno : ¬ zv_Hit L ((List.range lg).map lw) i := by
          rintro ⟨d', g1, g2⟩
          exact m0 _ g2.1
        refine br_f ?_ (nm_r (nI_1 i) (ih () (nxt hno)))
        rw [x1]
        rcases hr with ⟨d, hd, er, m⟩ | ⟨er, m⟩
        · rw [er]; exact zn_ng (by omega) (by decide)
        · rw [er]; decide
end
section
variable {g_steps g_depth g_events g_size g_length : Int32} {b_draft b_process b_log b_cost b_open : Nat → Int32}
theorem zv_lw {lw : Nat → Nat} {lg k : Nat} : (List.range (lg + 1)).map (fun i => if i = lg then k else lw i) = (List.range lg).map lw ++ [k] := by
  rw [List.range_succ, List.map_append]
  congr 1
  · apply List.map_congr_left
    intro a ha
    have := List.mem_range.mp ha
    exact if_neg (by omega)
  · show [if lg = lg then k else lw lg] = [k]
    rw [if_pos rfl]
theorem zy_after {post : Int32 → SY → Prop} {p0 : Int32} {sz lg k : Nat} {L : zl_L} {lw : Nat → Nat} (e0 : p0 = nI k) (hk : k < 4) (h : zv_Y b_process b_log sz lg L lw)
    (K : ∀ (c : Nat) (cost' opn' : Nat → Int32), zl_C L (zr_al 0) ((List.range lg).map lw ++ [k]) c → post (nI c) (g_steps, g_depth, g_events, nI sz, nI lg, b_draft, b_process, upd b_log lg (nI k), cost', opn')) :
    wpY_leastAfter post (g_steps, g_depth, g_events, nI sz, nI lg, b_draft, b_process, b_log, b_cost, b_open) p0 := by
  subst e0
  obtain ⟨hRun, hsz, hl, hlog⟩ := h
  unfold wpY_leastAfter
  refine ⟨vp_in_nI (by omega) (by decide), nm_r (e' := upd b_log lg (nI k)) (by rw [nI_clamp (by omega)]) ?_⟩
  refine zy_least (lw := fun i => if i = lg then k else lw i) (p := lg + 1) (bar := 0) (nI_1 lg) rfl hRun hsz (by omega) (by decide) ?_ (fun c cost' opn' hC => K c cost' opn' ?_)
  · intro i hi
    show upd b_log lg (nI k) i = nI (if i = lg then k else lw i) ∧ (if i = lg then k else lw i) < 4
    by_cases e : i = lg
    · rw [if_pos e, e, pk_us]
      exact ⟨rfl, hk⟩
    · rw [if_neg e, pk_un e]
      exact hlog i (by omega)
  · rw [zv_lw] at hC
    exact hC
theorem zv_Ylog {process log log' : Nat → Int32} {sz lg : Nat} {L : zl_L} {lw : Nat → Nat} (h : zv_Y process log sz lg L lw) (e : ∀ i, i < lg → log' i = log i) : zv_Y process log' sz lg L lw :=
  ⟨h.1, h.2.1, h.2.2.1, fun i hi => by rw [e i hi]; exact h.2.2.2 i hi⟩
theorem zy_now {post : Int32 → SY → Prop} {p1 : Int32} {sz lg bar : Nat} {L : zl_L} {lw : Nat → Nat} (e1 : p1 = nI bar) (hb : bar < 16) (h : zv_Y b_process b_log sz lg L lw)
    (K : ∀ (c : Nat) (cost' opn' : Nat → Int32), zl_C L (zr_al bar) ((List.range lg).map lw) c → post (nI c) (g_steps, g_depth, g_events, nI sz, nI lg, b_draft, b_process, b_log, cost', opn')) :
    wpY_least post (g_steps, g_depth, g_events, nI sz, nI lg, b_draft, b_process, b_log, b_cost, b_open) (nI lg) p1 := by
  obtain ⟨hRun, hsz, hl, hlog⟩ := h
  exact zy_least rfl e1 hRun hsz (by omega) hb hlog K
theorem zy_mayStop {post : Int32 → SY → Prop} {sz lg : Nat} {L : zl_L} {lw : Nat → Nat} (h : zv_Y b_process b_log sz lg L lw)
    (K : ∀ (r : Int32) (cost' opn' : Nat → Int32), (L ((List.range lg).map lw) → r = 1) → (¬ L ((List.range lg).map lw) → r = 0) → post r (g_steps, g_depth, g_events, nI sz, nI lg, b_draft, b_process, b_log, cost', opn')) :
    wpY_mayStop post (g_steps, g_depth, g_events, nI sz, nI lg, b_draft, b_process, b_log, b_cost, b_open) := by
  unfold wpY_mayStop
  refine zy_now (bar := 0) rfl (by decide) h (fun c cost' opn' hC => ?_)
  have c0 := zl_C0 hC
  have cB := hC.1
  by_cases z : c = 0
  · exact br_t (by rw [z]; rfl) (K 1 _ _ (fun _ => rfl) (fun hn => absurd (c0.mp z) hn))
  · exact br_f (nI_ne0 (by omega) (by omega)) (K 0 _ _ (fun hn => absurd (c0.mpr hn) z) (fun _ => rfl))
theorem zy_next {post : Int32 → SY → Prop} {sz lg : Nat} {L : zl_L} {lw : Nat → Nat} (hB : zv_Bd L) (h : zv_Y b_process b_log sz lg L lw)
    (K : ∀ (b : Nat) (log' cost' opn' : Nat → Int32), zv_Msk (zv_Gn L ((List.range lg).map lw)) 4 b → (∀ i, i < lg → log' i = b_log i) → post (nI b) (g_steps, g_depth, g_events, nI sz, nI lg, b_draft, b_process, log', cost', opn')) :
    wpY_next post (g_steps, g_depth, g_events, nI sz, nI lg, b_draft, b_process, b_log, b_cost, b_open) := by
  show ∃ n', wY_next_4 post n' 0 0 g_steps g_depth g_events (nI sz) (nI lg) b_draft b_process b_log b_cost b_open
  refine loop_0 (fun n' i (σ : Nat × (Nat → Int32) × (Nat → Int32) × (Nat → Int32)) => wY_next_4 post n' (nI σ.1) (nI i) g_steps g_depth g_events (nI sz) (nI lg) b_draft b_process σ.2.1 σ.2.2.1 σ.2.2.2)
    (fun i σ => zv_Msk (zv_Gn L ((List.range lg).map lw)) i σ.1 ∧ ∀ i, i < lg → σ.2.1 i = b_log i) 4 (0, b_log, b_cost, b_open) ?_ ?_ ?_
  · exact ⟨⟨(by decide : 0 < 2 ^ 0), fun j hj => by omega⟩, fun _ _ => rfl⟩
  · rintro n' ⟨b, log, cost, opn⟩ ⟨hb, hlog⟩
    exact br_t (by decide : (4 : Int32) ≤ nI 4) (K b log cost opn hb hlog)
  · rintro n' i ⟨b, log, cost, opn⟩ hi ⟨hb, hlog⟩ ih
    dsimp only at hb hlog
    refine br_f (nI_ge (b := 4) hi (by decide)) ?_
    refine zy_after rfl hi (zv_Ylog h hlog) (fun c cost' opn' hC => ?_)
    have hlog' : ∀ i', i' < lg → upd log lg (nI i) i' = b_log i' := fun i' hi' => by rw [pk_un (by omega)]; exact hlog i' hi'
    rcases zv_C hB hC with ⟨c64, m⟩ | ⟨c100, m⟩
    · exact br_f (nI_ge (b := 100) (by omega) (by decide)) (nm_r (e' := nI (b ||| 2 ^ i)) (by rw [zn_pow (by omega), nI_add, zv_plus hb.1]) (nm_r (nI_1 i) (ih (b ||| 2 ^ i, _, cost', opn') ⟨zv_msk1 hb ⟨c, m.1⟩, hlog'⟩)))
    · exact br_t (by rw [c100]; decide) (nm_r (nI_1 i) (ih (b, _, cost', opn') ⟨zv_msk0 hb (fun ⟨d, hd⟩ => m d hd), hlog'⟩))
theorem zy_needed {post : Int32 → SY → Prop} {sz lg : Nat} {L : zl_L} {lw : Nat → Nat} (hB : zv_Bd L) (h : zv_Y b_process b_log sz lg L lw)
    (K : ∀ (b : Nat) (cost' opn' : Nat → Int32), zv_Msk (zv_Gd L ((List.range lg).map lw)) 4 b → post (nI b) (g_steps, g_depth, g_events, nI sz, nI lg, b_draft, b_process, b_log, cost', opn')) :
    wpY_needed post (g_steps, g_depth, g_events, nI sz, nI lg, b_draft, b_process, b_log, b_cost, b_open) := by
  show ∃ n', wY_needed_4 post n' 0 0 g_steps g_depth g_events (nI sz) (nI lg) b_draft b_process b_log b_cost b_open
  refine loop_0 (fun n' i (σ : Nat × (Nat → Int32) × (Nat → Int32)) => wY_needed_4 post n' (nI σ.1) (nI i) g_steps g_depth g_events (nI sz) (nI lg) b_draft b_process b_log σ.2.1 σ.2.2)
    (fun i σ => zv_Msk (zv_Gd L ((List.range lg).map lw)) i σ.1) 4 (0, b_cost, b_open) ?_ ?_ ?_
  · exact ⟨(by decide : 0 < 2 ^ 0), fun j hj => by omega⟩
  · rintro n' ⟨b, cost, opn⟩ hb
    exact br_t (by decide : (4 : Int32) ≤ nI 4) (K b cost opn hb)
  · rintro n' i ⟨b, cost, opn⟩ hi hb ih
    dsimp only at hb
    refine br_f (nI_ge (b := 4) hi (by decide)) ?_
    refine zy_now (zn_pow (by omega)) (zn_24 hi) h (fun c cost' opn' hC => ?_)
    rcases zv_C hB hC with ⟨c64, m⟩ | ⟨c100, m⟩
    · exact br_f (fun z => by have := (nI_eq (b := 100) (by omega) (by decide)).mp z; omega) (nm_r (nI_1 i) (ih (b, cost', opn') (zv_msk0 hb (fun hg => hg c m.1))))
    · exact br_t (by rw [c100]; rfl) (nm_r (e' := nI (b ||| 2 ^ i)) (by rw [zn_pow (by omega), nI_add, zv_plus hb.1]) (nm_r (nI_1 i) (ih (b ||| 2 ^ i, cost', opn') (zv_msk1 hb m))))
theorem zy_advice {post : Int32 → SY → Prop} {sz lg : Nat} {L : zl_L} {lw : Nat → Nat} (hB : zv_Bd L) (h : zv_Y b_process b_log sz lg L lw)
    (K : ∀ (r : Int32) (log' cost' opn' : Nat → Int32), zv_Adv L ((List.range lg).map lw) r → (∀ i, i < lg → log' i = b_log i) → post r (g_steps, g_depth, g_events, nI sz, nI lg, b_draft, b_process, log', cost', opn')) :
    wpY_advice post (g_steps, g_depth, g_events, nI sz, nI lg, b_draft, b_process, b_log, b_cost, b_open) := by
  unfold wpY_advice
  refine zy_now (bar := 0) rfl (by decide) h (fun c0 cost0 opn0 hC0 => ?_)
  refine loop_0 (fun n' i (σ : (Nat → Int32) × (Nat → Int32) × (Nat → Int32)) => wY_advice_12 post (nI c0) n' (nI i) g_steps g_depth g_events (nI sz) (nI lg) b_draft b_process σ.1 σ.2.1 σ.2.2)
    (fun i σ => (∀ k, k < i → ¬ zv_Hit L ((List.range lg).map lw) k) ∧ ∀ i, i < lg → σ.1 i = b_log i) 4 (b_log, cost0, opn0) ?_ ?_ ?_
  · exact ⟨fun k hk => by omega, fun _ _ => rfl⟩
  · rintro n' ⟨log, cost, opn⟩ ⟨hh, hlog⟩
    exact br_t (by decide : (4 : Int32) ≤ nI 4) (K _ log cost opn (Or.inr ⟨rfl, hh⟩) hlog)
  · rintro n' i ⟨log, cost, opn⟩ hi ⟨hh, hlog⟩ ih
    dsimp only at hh hlog
    refine br_f (nI_ge (b := 4) hi (by decide)) ?_
    refine zy_after rfl hi (zv_Ylog h hlog) (fun c cost' opn' hC => ?_)
    have hlog' : ∀ i', i' < lg → upd log lg (nI i) i' = b_log i' := fun i' hi' => by rw [pk_un (by omega)]; exact hlog i' hi'
    have nxt : ¬ zv_Hit L ((List.range lg).map lw) i → ∀ k, k < i + 1 → ¬ zv_Hit L ((List.range lg).map lw) k := by
      intro hn k hk
      by_cases e : k = i
      · subst e; exact hn
      · exact hh k (by omega)
    rcases zv_C hB hC0 with ⟨c064, m0⟩ | ⟨c0100, m0⟩
    · rcases Nat.eq_zero_or_pos c0 with z | z
      · subst z
        have hno : ¬ zv_Hit L ((List.range lg).map lw) i := by
          rintro ⟨d', g1, g2⟩
          have := zv_mn_u g2 m0
          omega
        exact br_f (zn_ng (by have := hC.1; omega) (by decide)) (nm_r (nI_1 i) (ih (_, cost', opn') ⟨nxt hno, hlog'⟩))
      · obtain ⟨e, rfl⟩ : ∃ e, c0 = e + 1 := ⟨c0 - 1, by omega⟩
        have x1 : nI (e + 1) - 1 = nI e := nI_pred e
        by_cases d : c = e
        · subst d
          rcases zv_C hB hC with ⟨c64, m⟩ | ⟨c100, m⟩
          · exact br_t (by rw [x1]) (K _ _ _ _ (Or.inl ⟨i, hi, rfl, ⟨c, m, m0⟩, hh⟩) hlog')
          · omega
        · have hno : ¬ zv_Hit L ((List.range lg).map lw) i := by
            rintro ⟨d', g1, g2⟩
            have a2 := zv_mn_u g2 m0
            rcases zv_C hB hC with ⟨c64, m⟩ | ⟨c100, m⟩
            · have a1 := zv_mn_u g1 m
              omega
            · exact m d' g1.1
          exact br_f (by rw [x1]; exact fun z => d ((nI_eq (by have := hC.1; omega) (by omega)).mp z)) (nm_r (nI_1 i) (ih (_, cost', opn') ⟨nxt hno, hlog'⟩))
    · subst c0100
      have x1 : nI 100 - 1 = nI 99 := nI_pred 99
      have hno : ¬ zv_Hit L ((List.range lg).map lw) i := by
        rintro ⟨d', g1, g2⟩
        exact m0 _ g2.1
      refine br_f ?_ (nm_r (nI_1 i) (ih (_, cost', opn') ⟨nxt hno, hlog'⟩))
      rw [x1]
      intro z
      have z' := (nI_eq (by have := hC.1; omega) (by decide)).mp z
      rcases zv_C hB hC with ⟨c64, m⟩ | ⟨c100, m⟩ <;> omega
end
end
section
/-! the relation's two halves; refusals; the small walks of Y -/
def zr_A (height made events : Int32) (base size : Nat → Int32) (edge : Nat → Int64) (ends jn : Nat → Int32) (steps depth events2 : Int32) (draft : Nat → Int32) : Prop :=
  ∃ (Ls : List zl_L) (m ev : Nat), (height = nI Ls.length ∧ made = nI m ∧ events = nI ev ∧ steps = nI m ∧ depth = nI Ls.length ∧ events2 = nI ev) ∧
    m ≤ 16 ∧ Ls.length ≤ 8 ∧ ev ≤ 6 ∧ zr_XA base size edge ends jn Ls ev ∧ zl_Run draft m Ls
def zr_P (states : Int32) (finals : Int64) (logged : Int32) (move : Nat → Int64) (log : Nat → Int32) (reach : Nat → Int64) (size length : Int32) (process log2 : Nat → Int32) : Prop :=
  ∃ (L : zl_L) (n sz lg : Nat) (lw : Nat → Nat), (states = nI n ∧ logged = nI lg ∧ size = nI sz ∧ length = nI lg) ∧ zv_X finals move reach n lg L lw ∧ zv_Y process log2 sz lg L lw ∧ ∀ i, i < lg → log i = nI (lw i)
def i_Rel (_ : Nat) (u : SX) (v : SY) : Prop := match u, v with
  | (f_height, f_made, f_events, f_joined, f_states, f_finals, f_logged, a_base, a_size, a_edge, a_ends, a_joinEdge, a_joinEnds, a_move, a_log, a_reach), (g_steps, g_depth, g_events, g_size, g_length, b_draft, b_process, b_log, b_cost, b_open) => zr_A f_height f_made f_events a_base a_size a_edge a_ends a_joinEnds g_steps g_depth g_events b_draft ∧ zr_P f_states f_finals f_logged a_move a_log a_reach g_size g_length b_process b_log
theorem i_up {k : Nat} {u : SX} {v : SY} (h : i_Rel k u v) : i_Rel (k + 2) u v := h
theorem i_vc0 : wpX_init (fun u => wpY_init (fun v => i_Rel 0 u v)) := by
  refine nm_e (nm_e ⟨⟨[], 0, 0, ⟨rfl, rfl, rfl, rfl, rfl, rfl⟩, by decide, by decide, by decide, ⟨⟨0, rfl⟩, fun _ => Or.inl rfl, fun _ => Or.inl rfl⟩, rfl⟩, ?_⟩)
  have hM : zm_M 1 (zr_E (fun _ => 0) 0) (fun s => zb_t 1 s = true) zl_skip := by
    refine zm_skip ?_ ((zb_1 0).mpr rfl)
    rintro a t ⟨_, h⟩
    rw [zb_0] at h
    exact absurd h (by decide)
  refine ⟨zl_skip, 1, 1, 0, fun _ => 0, ⟨rfl, rfl, rfl, rfl⟩, ⟨⟨by decide, hM, fun s h => by rw [zb_1] at h; omega⟩, by decide, pk_uLs, ?_⟩, ⟨⟨[], rfl, Or.inr (Or.inl ⟨pk_us, rfl⟩)⟩, by decide, by decide, fun i hi => by omega⟩, fun i hi => by omega⟩
  intro i hi
  have : i = 0 := by omega
  subst this
  refine zm_R0 hM (fun t => ?_)
  rw [pk_uLs, zb_1]
section
variable {f_height f_made f_events f_joined f_states f_logged : Int32} {f_finals : Int64} {a_base a_size a_ends a_joinEnds a_log : Nat → Int32} {a_edge a_joinEdge a_move a_reach : Nat → Int64}
theorem zx_refF {post : Int32 → Prop} {p0 : Int32} (K : post (-2)) : wpX_refused post (f_height, nI 16, f_events, f_joined, f_states, f_finals, f_logged, a_base, a_size, a_edge, a_ends, a_joinEdge, a_joinEnds, a_move, a_log, a_reach) p0 := by
  unfold wpX_refused
  exact br_t rfl K
theorem zx_refB {post : Int32 → Prop} {p0 : Int32} {m h c : Nat} (e0 : p0 = nI c) (hm : m < 16) (hc : c < 2 ^ 31) (hh : h < c) (K : post (-3)) : wpX_refused post (nI h, nI m, f_events, f_joined, f_states, f_finals, f_logged, a_base, a_size, a_edge, a_ends, a_joinEdge, a_joinEnds, a_move, a_log, a_reach) p0 := by
  subst e0
  unfold wpX_refused
  have c1 : ¬ nI m = 16 := fun z => by have := (nI_eq (b := 16) (by omega) (by decide)).mp z; omega
  exact br_f c1 (br_f (nI_ge hh hc) K)
end
section
variable {g_steps g_depth g_events g_size g_length : Int32} {b_draft b_process b_log b_cost b_open : Nat → Int32}
theorem zy_note {post : Int32 → SY → Prop} {p0 p1 : Int32} {m d d' : Nat} (hm : m < 16) (hd : nI d + p1 = nI d') (K : post (nI d') (nI (m + 1), nI d', g_events, g_size, g_length, upd b_draft m p0, b_process, b_log, b_cost, b_open)) :
    wpY_note post (nI m, nI d, g_events, g_size, g_length, b_draft, b_process, b_log, b_cost, b_open) p0 p1 := by
  unfold wpY_note
  exact ⟨vp_in_nI hm (by decide), nm_r (e' := upd b_draft m p0) (by rw [nI_clamp (by omega)]) (nm_r (nI_1 m) (nm_r hd K))⟩
theorem zy_joinF {post : Int32 → SY → Prop} {p0 : Int32} (K : post (-2) (nI 16, g_depth, g_events, g_size, g_length, b_draft, b_process, b_log, b_cost, b_open)) : wpY_join post (nI 16, g_depth, g_events, g_size, g_length, b_draft, b_process, b_log, b_cost, b_open) p0 := by
  unfold wpY_join
  exact br_t rfl K
theorem zy_joinB {post : Int32 → SY → Prop} {p0 : Int32} {m d : Nat} (hm : m < 16) (hd : d < 2) (K : post (-3) (nI m, nI d, g_events, g_size, g_length, b_draft, b_process, b_log, b_cost, b_open)) : wpY_join post (nI m, nI d, g_events, g_size, g_length, b_draft, b_process, b_log, b_cost, b_open) p0 := by
  unfold wpY_join
  have c1 : ¬ nI m = 16 := fun z => by have := (nI_eq (b := 16) (by omega) (by decide)).mp z; omega
  exact br_f c1 (br_f (nI_ge (b := 2) hd (by decide)) K)
theorem zy_join {post : Int32 → SY → Prop} {p0 : Int32} {m d : Nat} (hm : m < 16) (hd : d < 16) (K : post (nI (d + 1)) (nI (m + 1), nI (d + 1), g_events, g_size, g_length, upd b_draft m p0, b_process, b_log, b_cost, b_open)) : wpY_join post (nI m, nI (d + 2), g_events, g_size, g_length, b_draft, b_process, b_log, b_cost, b_open) p0 := by
  unfold wpY_join
  have c1 : ¬ nI m = 16 := fun z => by have := (nI_eq (b := 16) (by omega) (by decide)).mp z; omega
  exact br_f c1 (br_t (nI_le (a := 2) (by omega) (by omega)) (zy_note hm (pk_m1 (d + 1)) K))
theorem zy_changeF {post : Int32 → SY → Prop} {p0 : Int32} (K : post (-2) (nI 16, g_depth, g_events, g_size, g_length, b_draft, b_process, b_log, b_cost, b_open)) : wpY_change post (nI 16, g_depth, g_events, g_size, g_length, b_draft, b_process, b_log, b_cost, b_open) p0 := by
  unfold wpY_change
  exact br_t rfl K
theorem zy_changeB {post : Int32 → SY → Prop} {p0 : Int32} {m : Nat} (hm : m < 16) (K : post (-3) (nI m, nI 0, g_events, g_size, g_length, b_draft, b_process, b_log, b_cost, b_open)) : wpY_change post (nI m, nI 0, g_events, g_size, g_length, b_draft, b_process, b_log, b_cost, b_open) p0 := by
  unfold wpY_change
  have c1 : ¬ nI m = 16 := fun z => by have := (nI_eq (b := 16) (by omega) (by decide)).mp z; omega
  exact br_f c1 (br_t rfl K)
theorem zy_change {post : Int32 → SY → Prop} {p0 : Int32} {m d : Nat} (hm : m < 16) (hd : d < 16) (K : post (nI (d + 1)) (nI (m + 1), nI (d + 1), g_events, g_size, g_length, upd b_draft m p0, b_process, b_log, b_cost, b_open)) : wpY_change post (nI m, nI (d + 1), g_events, g_size, g_length, b_draft, b_process, b_log, b_cost, b_open) p0 := by
  unfold wpY_change
  have c1 : ¬ nI m = 16 := fun z => by have := (nI_eq (b := 16) (by omega) (by decide)).mp z; omega
  exact br_f c1 (br_f (nI_ne0 (by omega) (by omega)) (zy_note hm (Int32.add_zero _) K))
theorem zy_define {post : Int32 → SY → Prop} {m : Nat} (hm : m ≤ 16)
    (K : ∀ proc' : Nat → Int32, (∀ i, i < m → proc' i = b_draft i) → post 0 (0, 0, 0, nI m, 0, b_draft, proc', b_log, b_cost, b_open)) :
    wpY_define post (nI m, nI 1, g_events, g_size, g_length, b_draft, b_process, b_log, b_cost, b_open) := by
  unfold wpY_define
  refine br_t rfl ?_
  refine loop_0 (fun n i e => wY_define_13 post (nI m) (nI 1) g_events g_size g_length n (nI i) b_draft e b_log b_cost b_open) (fun i e => ∀ j, j < i → e j = b_draft j) m b_process ?_ ?_ ?_
  · intro j hj; omega
  · intro n e h
    refine br_t (nI_le (Nat.le_refl _) (by omega)) ?_
    unfold wpY_discard
    exact K e h
  · intro n i e hi h ih
    have vi : vp_in (nI i) 16 := vp_in_nI (by omega) (by decide)
    refine br_f (nI_ge hi (by omega)) ⟨vi, vi, nm_r (e' := upd e i (b_draft i)) (by rw [nI_clamp (by omega)]) (nm_r (nI_1 i) (ih _ ?_))⟩
    intro j hj
    by_cases c : j = i
    · subst c; exact pk_us
    · rw [pk_un c]; exact h j (by omega)
end
end
section
/-! what is owed: building expressions -/
theorem i_vc_event {k : Nat} {u : SX} {v : SY} (I : i_Rel k u v) (hk : k + 2 ≤ 1024) (v1 : Int32) : wpX_event (fun r u' => wpY_event (fun r' v' => r' = r ∧ i_Rel (k + 2) u' v') v v1) u v1 := by
  obtain ⟨f_height, f_made, f_events, f_joined, f_states, f_finals, f_logged, a_base, a_size, a_edge, a_ends, a_joinEdge, a_joinEnds, a_move, a_log, a_reach⟩ := u
  obtain ⟨g_steps, g_depth, g_events, g_size, g_length, b_draft, b_process, b_log, b_cost, b_open⟩ := v
  have I0 : i_Rel (k + 2) (f_height, f_made, f_events, f_joined, f_states, f_finals, f_logged, a_base, a_size, a_edge, a_ends, a_joinEdge, a_joinEnds, a_move, a_log, a_reach) (g_steps, g_depth, g_events, g_size, g_length, b_draft, b_process, b_log, b_cost, b_open) := I
  obtain ⟨⟨Ls, m, ev, ⟨rfl, rfl, rfl, rfl, rfl, rfl⟩, hm, hl, hev, hX, hRun⟩, hP⟩ := I
  by_cases h0 : v1 < 0
  · exact br_t h0 (br_t h0 ⟨rfl, I0⟩)
  by_cases h3 : v1 ≤ 3
  · obtain ⟨c, hc, rfl⟩ := nI_of2 (M := 3) (n := 3) (by decide) h0 h3
    by_cases m16 : m = 16
    · subst m16
      exact br_f h0 (br_t h3 (br_t rfl (br_f h0 (br_t h3 (br_t rfl ⟨rfl, I0⟩)))))
    have c1 : ¬ nI m = 16 := fun z => by have := (nI_eq (b := 16) (by omega) (by decide)).mp z; omega
    by_cases l8 : Ls.length = 8
    · have e8 : nI Ls.length = 8 := by rw [l8]; rfl
      exact br_f h0 (br_t h3 (br_f c1 (br_t e8 (br_f h0 (br_t h3 (br_f c1 (br_t e8 ⟨rfl, I0⟩)))))))
    have c2 : ¬ nI Ls.length = 8 := fun z => by have := (nI_eq (b := 8) (by omega) (by decide)).mp z; omega
    by_cases e6 : ev = 6
    · subst e6
      exact br_f h0 (br_t h3 (br_f c1 (br_f c2 (br_t rfl (br_f h0 (br_t h3 (br_f c1 (br_f c2 (br_t rfl ⟨rfl, I0⟩)))))))))
    have c3 : ¬ nI ev = 6 := fun z => by have := (nI_eq (b := 6) (by omega) (by decide)).mp z; omega
    refine zx_event rfl (by omega) (by omega) (by omega) (by omega) hX (fun base' size' edge' ends' hX' => ?_)
    refine br_f h0 (br_t h3 (br_f c1 (br_f c2 (br_f c3 (nm_r (nI_1 ev) (zy_note (by omega) (nI_1 Ls.length) ?_))))))
    exact ⟨rfl, ⟨zl_ev c :: Ls, m + 1, ev + 1, ⟨rfl, rfl, rfl, rfl, rfl, rfl⟩, by omega, by show Ls.length + 1 ≤ 8; omega, by omega, hX', zl_Run_s hRun (Or.inl ⟨c, by omega, rfl, rfl⟩)⟩, hP⟩
  · exact br_f h0 (br_f h3 (br_f h0 (br_f h3 ⟨rfl, I0⟩)))
theorem i_vc_skip {k : Nat} {u : SX} {v : SY} (I : i_Rel k u v) (hk : k + 2 ≤ 1024) : wpX_skip (fun r u' => wpY_skip (fun r' v' => r' = r ∧ i_Rel (k + 2) u' v') v) u := by
  obtain ⟨f_height, f_made, f_events, f_joined, f_states, f_finals, f_logged, a_base, a_size, a_edge, a_ends, a_joinEdge, a_joinEnds, a_move, a_log, a_reach⟩ := u
  obtain ⟨g_steps, g_depth, g_events, g_size, g_length, b_draft, b_process, b_log, b_cost, b_open⟩ := v
  have I0 : i_Rel (k + 2) (f_height, f_made, f_events, f_joined, f_states, f_finals, f_logged, a_base, a_size, a_edge, a_ends, a_joinEdge, a_joinEnds, a_move, a_log, a_reach) (g_steps, g_depth, g_events, g_size, g_length, b_draft, b_process, b_log, b_cost, b_open) := I
  obtain ⟨⟨Ls, m, ev, ⟨rfl, rfl, rfl, rfl, rfl, rfl⟩, hm, hl, hev, hX, hRun⟩, hP⟩ := I
  by_cases m16 : m = 16
  · subst m16
    exact br_t rfl (br_t rfl ⟨rfl, I0⟩)
  have c1 : ¬ nI m = 16 := fun z => by have := (nI_eq (b := 16) (by omega) (by decide)).mp z; omega
  by_cases l8 : Ls.length = 8
  · have e8 : nI Ls.length = 8 := by rw [l8]; rfl
    exact br_f c1 (br_t e8 (br_f c1 (br_t e8 ⟨rfl, I0⟩)))
  have c2 : ¬ nI Ls.length = 8 := fun z => by have := (nI_eq (b := 8) (by omega) (by decide)).mp z; omega
  refine zx_skip (by omega) (by omega) (by omega) hX (fun base' size' edge' ends' hX' => ?_)
  refine br_f c1 (br_f c2 (zy_note (by omega) (nI_1 Ls.length) ?_))
  exact ⟨rfl, ⟨zl_skip :: Ls, m + 1, ev, ⟨rfl, rfl, rfl, rfl, rfl, rfl⟩, by omega, by show Ls.length + 1 ≤ 8; omega, by omega, hX', zl_Run_s hRun (Or.inr (Or.inl ⟨rfl, rfl⟩))⟩, hP⟩
theorem i_vc_seq {k : Nat} {u : SX} {v : SY} (I : i_Rel k u v) (hk : k + 2 ≤ 1024) : wpX_seq (fun r u' => wpY_seq (fun r' v' => r' = r ∧ i_Rel (k + 2) u' v') v) u := by
  obtain ⟨f_height, f_made, f_events, f_joined, f_states, f_finals, f_logged, a_base, a_size, a_edge, a_ends, a_joinEdge, a_joinEnds, a_move, a_log, a_reach⟩ := u
  obtain ⟨g_steps, g_depth, g_events, g_size, g_length, b_draft, b_process, b_log, b_cost, b_open⟩ := v
  have I0 : i_Rel (k + 2) (f_height, f_made, f_events, f_joined, f_states, f_finals, f_logged, a_base, a_size, a_edge, a_ends, a_joinEdge, a_joinEnds, a_move, a_log, a_reach) (g_steps, g_depth, g_events, g_size, g_length, b_draft, b_process, b_log, b_cost, b_open) := I
  obtain ⟨⟨Ls, m, ev, ⟨rfl, rfl, rfl, rfl, rfl, rfl⟩, hm, hl, hev, hX, hRun⟩, hP⟩ := I
  by_cases m16 : m = 16
  · subst m16
    unfold wpX_seq
    refine zx_refF (br_f (by decide) ?_)
    unfold wpY_seq
    exact zy_joinF ⟨rfl, I0⟩
  rcases Ls with _ | ⟨B, _ | ⟨A, r⟩⟩
  · unfold wpX_seq
    refine zx_refB (h := 0) (c := 2) rfl (by omega) (by decide) (by decide) (br_f (by decide) ?_)
    unfold wpY_seq
    exact zy_joinB (d := 0) (by omega) (by decide) ⟨rfl, I0⟩
  · unfold wpX_seq
    refine zx_refB (h := 1) (c := 2) rfl (by omega) (by decide) (by decide) (br_f (by decide) ?_)
    unfold wpY_seq
    exact zy_joinB (d := 1) (by omega) (by decide) ⟨rfl, I0⟩
  · have hl' : r.length + 2 ≤ 8 := hl
    refine zx_seq (by omega) (by omega) hev hX (fun joined' base' size' edge' ends' je' jn' hX' => ?_)
    unfold wpY_seq
    refine zy_join (d := r.length) (by omega) (by omega) ?_
    exact ⟨rfl, ⟨zl_seq A B :: r, m + 1, ev, ⟨rfl, rfl, rfl, rfl, rfl, rfl⟩, by omega, by show r.length + 1 ≤ 8; omega, hev, hX', zl_Run_s hRun (Or.inr (Or.inr (Or.inl ⟨A, B, r, rfl, rfl, rfl⟩)))⟩, hP⟩
theorem i_vc_choice {k : Nat} {u : SX} {v : SY} (I : i_Rel k u v) (hk : k + 2 ≤ 1024) : wpX_choice (fun r u' => wpY_choice (fun r' v' => r' = r ∧ i_Rel (k + 2) u' v') v) u := by
  obtain ⟨f_height, f_made, f_events, f_joined, f_states, f_finals, f_logged, a_base, a_size, a_edge, a_ends, a_joinEdge, a_joinEnds, a_move, a_log, a_reach⟩ := u
  obtain ⟨g_steps, g_depth, g_events, g_size, g_length, b_draft, b_process, b_log, b_cost, b_open⟩ := v
  have I0 : i_Rel (k + 2) (f_height, f_made, f_events, f_joined, f_states, f_finals, f_logged, a_base, a_size, a_edge, a_ends, a_joinEdge, a_joinEnds, a_move, a_log, a_reach) (g_steps, g_depth, g_events, g_size, g_length, b_draft, b_process, b_log, b_cost, b_open) := I
  obtain ⟨⟨Ls, m, ev, ⟨rfl, rfl, rfl, rfl, rfl, rfl⟩, hm, hl, hev, hX, hRun⟩, hP⟩ := I
  by_cases m16 : m = 16
  · subst m16
    unfold wpX_choice
    refine zx_refF (br_f (by decide) ?_)
    unfold wpY_choice
    exact zy_joinF ⟨rfl, I0⟩
  rcases Ls with _ | ⟨B, _ | ⟨A, r⟩⟩
  · unfold wpX_choice
    refine zx_refB (h := 0) (c := 2) rfl (by omega) (by decide) (by decide) (br_f (by decide) ?_)
    unfold wpY_choice
    exact zy_joinB (d := 0) (by omega) (by decide) ⟨rfl, I0⟩
  · unfold wpX_choice
    refine zx_refB (h := 1) (c := 2) rfl (by omega) (by decide) (by decide) (br_f (by decide) ?_)
    unfold wpY_choice
    exact zy_joinB (d := 1) (by omega) (by decide) ⟨rfl, I0⟩
  · have hl' : r.length + 2 ≤ 8 := hl
    refine zx_choice (by omega) (by omega) hev hX (fun joined' base' size' edge' ends' je' jn' hX' => ?_)
    unfold wpY_choice
    refine zy_join (d := r.length) (by omega) (by omega) ?_
    exact ⟨rfl, ⟨zl_ch A B :: r, m + 1, ev, ⟨rfl, rfl, rfl, rfl, rfl, rfl⟩, by omega, by show r.length + 1 ≤ 8; omega, hev, hX', zl_Run_s hRun (Or.inr (Or.inr (Or.inr (Or.inl ⟨A, B, r, rfl, rfl, rfl⟩))))⟩, hP⟩
theorem i_vc_both {k : Nat} {u : SX} {v : SY} (I : i_Rel k u v) (hk : k + 2 ≤ 1024) : wpX_both (fun r u' => wpY_both (fun r' v' => r' = r ∧ i_Rel (k + 2) u' v') v) u := by
  obtain ⟨f_height, f_made, f_events, f_joined, f_states, f_finals, f_logged, a_base, a_size, a_edge, a_ends, a_joinEdge, a_joinEnds, a_move, a_log, a_reach⟩ := u
  obtain ⟨g_steps, g_depth, g_events, g_size, g_length, b_draft, b_process, b_log, b_cost, b_open⟩ := v
  have I0 : i_Rel (k + 2) (f_height, f_made, f_events, f_joined, f_states, f_finals, f_logged, a_base, a_size, a_edge, a_ends, a_joinEdge, a_joinEnds, a_move, a_log, a_reach) (g_steps, g_depth, g_events, g_size, g_length, b_draft, b_process, b_log, b_cost, b_open) := I
  obtain ⟨⟨Ls, m, ev, ⟨rfl, rfl, rfl, rfl, rfl, rfl⟩, hm, hl, hev, hX, hRun⟩, hP⟩ := I
  by_cases m16 : m = 16
  · subst m16
    unfold wpX_both
    refine zx_refF (br_f (by decide) ?_)
    unfold wpY_both
    exact zy_joinF ⟨rfl, I0⟩
  rcases Ls with _ | ⟨B, _ | ⟨A, r⟩⟩
  · unfold wpX_both
    refine zx_refB (h := 0) (c := 2) rfl (by omega) (by decide) (by decide) (br_f (by decide) ?_)
    unfold wpY_both
    exact zy_joinB (d := 0) (by omega) (by decide) ⟨rfl, I0⟩
  · unfold wpX_both
    refine zx_refB (h := 1) (c := 2) rfl (by omega) (by decide) (by decide) (br_f (by decide) ?_)
    unfold wpY_both
    exact zy_joinB (d := 1) (by omega) (by decide) ⟨rfl, I0⟩
  · have hl' : r.length + 2 ≤ 8 := hl
    refine zx_both (by omega) (by omega) hev hX (fun joined' base' size' edge' ends' je' jn' hX' => ?_)
    unfold wpY_both
    refine zy_join (d := r.length) (by omega) (by omega) ?_
    exact ⟨rfl, ⟨zl_both A B :: r, m + 1, ev, ⟨rfl, rfl, rfl, rfl, rfl, rfl⟩, by omega, by show r.length + 1 ≤ 8; omega, hev, hX', zl_Run_s hRun (Or.inr (Or.inr (Or.inr (Or.inr (Or.inl ⟨A, B, r, rfl, rfl, rfl⟩)))))⟩, hP⟩
theorem i_vc_loop {k : Nat} {u : SX} {v : SY} (I : i_Rel k u v) (hk : k + 2 ≤ 1024) : wpX_loop (fun r u' => wpY_loop (fun r' v' => r' = r ∧ i_Rel (k + 2) u' v') v) u := by
  obtain ⟨f_height, f_made, f_events, f_joined, f_states, f_finals, f_logged, a_base, a_size, a_edge, a_ends, a_joinEdge, a_joinEnds, a_move, a_log, a_reach⟩ := u
  obtain ⟨g_steps, g_depth, g_events, g_size, g_length, b_draft, b_process, b_log, b_cost, b_open⟩ := v
  have I0 : i_Rel (k + 2) (f_height, f_made, f_events, f_joined, f_states, f_finals, f_logged, a_base, a_size, a_edge, a_ends, a_joinEdge, a_joinEnds, a_move, a_log, a_reach) (g_steps, g_depth, g_events, g_size, g_length, b_draft, b_process, b_log, b_cost, b_open) := I
  obtain ⟨⟨Ls, m, ev, ⟨rfl, rfl, rfl, rfl, rfl, rfl⟩, hm, hl, hev, hX, hRun⟩, hP⟩ := I
  by_cases m16 : m = 16
  · subst m16
    unfold wpX_loop
    refine zx_refF (br_f (by decide) ?_)
    unfold wpY_loop
    exact zy_changeF ⟨rfl, I0⟩
  rcases Ls with _ | ⟨A, r⟩
  · unfold wpX_loop
    refine zx_refB (h := 0) (c := 1) rfl (by omega) (by decide) (by decide) (br_f (by decide) ?_)
    unfold wpY_loop
    exact zy_changeB (by omega) ⟨rfl, I0⟩
  · have hl' : r.length + 1 ≤ 8 := hl
    refine zx_loop (by omega) (by omega) hev hX (fun edge' ends' hX' => ?_)
    unfold wpY_loop
    refine zy_change (d := r.length) (by omega) (by omega) ?_
    exact ⟨rfl, ⟨zl_star A :: r, m + 1, ev, ⟨rfl, rfl, rfl, rfl, rfl, rfl⟩, by omega, hl, hev, hX', zl_Run_s hRun (Or.inr (Or.inr (Or.inr (Or.inr (Or.inr (Or.inl ⟨A, r, rfl, rfl, rfl⟩))))))⟩, hP⟩
theorem i_vc_option {k : Nat} {u : SX} {v : SY} (I : i_Rel k u v) (hk : k + 2 ≤ 1024) : wpX_option (fun r u' => wpY_option (fun r' v' => r' = r ∧ i_Rel (k + 2) u' v') v) u := by
  obtain ⟨f_height, f_made, f_events, f_joined, f_states, f_finals, f_logged, a_base, a_size, a_edge, a_ends, a_joinEdge, a_joinEnds, a_move, a_log, a_reach⟩ := u
  obtain ⟨g_steps, g_depth, g_events, g_size, g_length, b_draft, b_process, b_log, b_cost, b_open⟩ := v
  have I0 : i_Rel (k + 2) (f_height, f_made, f_events, f_joined, f_states, f_finals, f_logged, a_base, a_size, a_edge, a_ends, a_joinEdge, a_joinEnds, a_move, a_log, a_reach) (g_steps, g_depth, g_events, g_size, g_length, b_draft, b_process, b_log, b_cost, b_open) := I
  obtain ⟨⟨Ls, m, ev, ⟨rfl, rfl, rfl, rfl, rfl, rfl⟩, hm, hl, hev, hX, hRun⟩, hP⟩ := I
  by_cases m16 : m = 16
  · subst m16
    unfold wpX_option
    refine zx_refF (br_f (by decide) ?_)
    unfold wpY_option
    exact zy_changeF ⟨rfl, I0⟩
  rcases Ls with _ | ⟨A, r⟩
  · unfold wpX_option
    refine zx_refB (h := 0) (c := 1) rfl (by omega) (by decide) (by decide) (br_f (by decide) ?_)
    unfold wpY_option
    exact zy_changeB (by omega) ⟨rfl, I0⟩
  · have hl' : r.length + 1 ≤ 8 := hl
    refine zx_option (by omega) (by omega) hev hX (fun ends' hX' => ?_)
    unfold wpY_option
    refine zy_change (d := r.length) (by omega) (by omega) ?_
    exact ⟨rfl, ⟨zl_opt A :: r, m + 1, ev, ⟨rfl, rfl, rfl, rfl, rfl, rfl⟩, by omega, hl, hev, hX', zl_Run_s hRun (Or.inr (Or.inr (Or.inr (Or.inr (Or.inr (Or.inr ⟨A, r, rfl, rfl, rfl⟩))))))⟩, hP⟩
theorem i_vc_steps {k : Nat} {u : SX} {v : SY} (I : i_Rel k u v) (hk : k + 2 ≤ 1024) : wpX_steps (fun r => wpY_steps (fun r' => r' = r ∧ i_Rel (k + 2) u v) v) u := by
  obtain ⟨f_height, f_made, f_events, f_joined, f_states, f_finals, f_logged, a_base, a_size, a_edge, a_ends, a_joinEdge, a_joinEnds, a_move, a_log, a_reach⟩ := u
  obtain ⟨g_steps, g_depth, g_events, g_size, g_length, b_draft, b_process, b_log, b_cost, b_open⟩ := v
  have I0 : i_Rel (k + 2) (f_height, f_made, f_events, f_joined, f_states, f_finals, f_logged, a_base, a_size, a_edge, a_ends, a_joinEdge, a_joinEnds, a_move, a_log, a_reach) (g_steps, g_depth, g_events, g_size, g_length, b_draft, b_process, b_log, b_cost, b_open) := I
  obtain ⟨⟨Ls, m, ev, ⟨rfl, rfl, rfl, rfl, rfl, rfl⟩, hm, hl, hev, hX, hRun⟩, hP⟩ := I
  exact ⟨rfl, I0⟩
theorem i_vc_depth {k : Nat} {u : SX} {v : SY} (I : i_Rel k u v) (hk : k + 2 ≤ 1024) : wpX_depth (fun r => wpY_depth (fun r' => r' = r ∧ i_Rel (k + 2) u v) v) u := by
  obtain ⟨f_height, f_made, f_events, f_joined, f_states, f_finals, f_logged, a_base, a_size, a_edge, a_ends, a_joinEdge, a_joinEnds, a_move, a_log, a_reach⟩ := u
  obtain ⟨g_steps, g_depth, g_events, g_size, g_length, b_draft, b_process, b_log, b_cost, b_open⟩ := v
  have I0 : i_Rel (k + 2) (f_height, f_made, f_events, f_joined, f_states, f_finals, f_logged, a_base, a_size, a_edge, a_ends, a_joinEdge, a_joinEnds, a_move, a_log, a_reach) (g_steps, g_depth, g_events, g_size, g_length, b_draft, b_process, b_log, b_cost, b_open) := I
  obtain ⟨⟨Ls, m, ev, ⟨rfl, rfl, rfl, rfl, rfl, rfl⟩, hm, hl, hev, hX, hRun⟩, hP⟩ := I
  exact ⟨rfl, I0⟩
theorem i_vc_discard {k : Nat} {u : SX} {v : SY} (I : i_Rel k u v) (hk : k + 2 ≤ 1024) : wpX_discard (fun u' => wpY_discard (fun v' => i_Rel (k + 2) u' v') v) u := by
  obtain ⟨f_height, f_made, f_events, f_joined, f_states, f_finals, f_logged, a_base, a_size, a_edge, a_ends, a_joinEdge, a_joinEnds, a_move, a_log, a_reach⟩ := u
  obtain ⟨g_steps, g_depth, g_events, g_size, g_length, b_draft, b_process, b_log, b_cost, b_open⟩ := v
  have I0 : i_Rel (k + 2) (f_height, f_made, f_events, f_joined, f_states, f_finals, f_logged, a_base, a_size, a_edge, a_ends, a_joinEdge, a_joinEnds, a_move, a_log, a_reach) (g_steps, g_depth, g_events, g_size, g_length, b_draft, b_process, b_log, b_cost, b_open) := I
  obtain ⟨⟨Ls, m, ev, ⟨rfl, rfl, rfl, rfl, rfl, rfl⟩, hm, hl, hev, hX, hRun⟩, hP⟩ := I
  exact ⟨⟨[], 0, 0, ⟨rfl, rfl, rfl, rfl, rfl, rfl⟩, by decide, by decide, by decide, ⟨⟨0, rfl⟩, hX.2⟩, rfl⟩, hP⟩
theorem i_vc_define {k : Nat} {u : SX} {v : SY} (I : i_Rel k u v) (hk : k + 2 ≤ 1024) : wpX_define (fun r u' => wpY_define (fun r' v' => r' = r ∧ i_Rel (k + 2) u' v') v) u := by
  obtain ⟨f_height, f_made, f_events, f_joined, f_states, f_finals, f_logged, a_base, a_size, a_edge, a_ends, a_joinEdge, a_joinEnds, a_move, a_log, a_reach⟩ := u
  obtain ⟨g_steps, g_depth, g_events, g_size, g_length, b_draft, b_process, b_log, b_cost, b_open⟩ := v
  have I0 : i_Rel (k + 2) (f_height, f_made, f_events, f_joined, f_states, f_finals, f_logged, a_base, a_size, a_edge, a_ends, a_joinEdge, a_joinEnds, a_move, a_log, a_reach) (g_steps, g_depth, g_events, g_size, g_length, b_draft, b_process, b_log, b_cost, b_open) := I
  obtain ⟨⟨Ls, m, ev, ⟨rfl, rfl, rfl, rfl, rfl, rfl⟩, hm, hl, hev, hX, hRun⟩, hP⟩ := I
  rcases Ls with _ | ⟨L, _ | ⟨A, r⟩⟩
  · exact br_f (by decide : ¬ nI 0 = 1) (br_f (by decide : ¬ nI 0 = 1) ⟨rfl, I0⟩)
  · refine zx_define hev hX (fun n fin mv hPm => zy_define hm (fun proc' hp => ⟨rfl, ⟨[], 0, 0, ⟨rfl, rfl, rfl, rfl, rfl, rfl⟩, by decide, by decide, by decide, ⟨⟨0, rfl⟩, hX.2⟩, rfl⟩, ?_⟩))
    obtain ⟨_, _, _, _, _, _, hX0, _, _⟩ := hP
    refine ⟨L, n, m, 0, fun _ => 0, ⟨rfl, rfl, rfl, rfl⟩, ⟨hPm, by decide, hX0.2.2.1, ?_⟩, ⟨zl_Run_c m [L] hRun hp, hm, by decide, fun i hi => by omega⟩, fun i hi => by omega⟩
    intro i hi
    have : i = 0 := by omega
    subst this
    refine zm_R0 hPm.2.1 (fun t => ?_)
    rw [hX0.2.2.1, zb_1]
  · have hl' : r.length + 2 ≤ 8 := hl
    have c1 : ¬ nI (r.length + 2) = 1 := fun z => by have := (nI_eq (b := 1) (by omega) (by decide)).mp z; omega
    exact br_f c1 (br_f c1 ⟨rfl, I0⟩)
end
section
/-! what is owed: the log and the answers -/
theorem i_vc_feed {k : Nat} {u : SX} {v : SY} (I : i_Rel k u v) (hk : k + 2 ≤ 1024) (v1 : Int32) : wpX_feed (fun r u' => wpY_feed (fun r' v' => r' = r ∧ i_Rel (k + 2) u' v') v v1) u v1 := by
  obtain ⟨f_height, f_made, f_events, f_joined, f_states, f_finals, f_logged, a_base, a_size, a_edge, a_ends, a_joinEdge, a_joinEnds, a_move, a_log, a_reach⟩ := u
  obtain ⟨g_steps, g_depth, g_events, g_size, g_length, b_draft, b_process, b_log, b_cost, b_open⟩ := v
  have I0 : i_Rel (k + 2) (f_height, f_made, f_events, f_joined, f_states, f_finals, f_logged, a_base, a_size, a_edge, a_ends, a_joinEdge, a_joinEnds, a_move, a_log, a_reach) (g_steps, g_depth, g_events, g_size, g_length, b_draft, b_process, b_log, b_cost, b_open) := I
  obtain ⟨hA, L, n, sz, lg, lw, ⟨rfl, rfl, rfl, rfl⟩, hX, hY, hlog⟩ := I
  have hB : zv_Bd L := zv_Bd_of hX.1.1 hX.1.2.1
  have hl : lg ≤ 7 := hX.2.1
  by_cases h0 : v1 < 0
  · exact br_t h0 (br_t h0 ⟨rfl, I0⟩)
  by_cases h3 : v1 ≤ 3
  · obtain ⟨c, hc, rfl⟩ := nI_of2 (M := 3) (n := 3) (by decide) h0 h3
    by_cases l7 : lg = 7
    · subst l7
      exact br_f h0 (br_t h3 (br_t rfl (br_f h0 (br_t h3 (br_t rfl ⟨rfl, I0⟩)))))
    have c1 : ¬ nI lg = 7 := fun z => by have := (nI_eq (b := 7) (by omega) (by decide)).mp z; omega
    have vi : vp_in (nI lg) 8 := vp_in_nI (by omega) (by decide)
    have cl : (nI lg).toNatClampNeg = lg := nI_clamp (by omega)
    refine br_f h0 (br_t h3 (br_f c1 ⟨vi, ?_⟩))
    obtain ⟨hPm, _, hr0, hR⟩ := hX
    rw [cl]
    refine zx_stepR rfl (by omega) hPm (hR lg (Nat.le_refl _)) (fun r hr => ?_)
    have hx := zv_ext0 hPm.2.1 hr
    by_cases z : r = 0
    · refine br_t z (br_f h0 (br_t h3 (br_f c1 (zy_after rfl (by omega) hY (fun c' cost' opn' hC => ?_)))))
      rcases zv_C hB hC with ⟨c64, mn⟩ | ⟨c100, mn⟩
      · obtain ⟨t, ht⟩ := hx.mpr ⟨c', mn.1⟩
        exact absurd ht (zb_eq0.mp z t)
      · refine br_t (by rw [c100]; rfl) ⟨rfl, hA, L, n, sz, lg, lw, ⟨rfl, rfl, rfl, rfl⟩, ⟨hPm, hl, hr0, hR⟩, zv_Ylog hY (fun i hi => pk_un (by omega)), hlog⟩
    · obtain ⟨t, _, ht⟩ := zb_ne0.mp z
      obtain ⟨d, hd⟩ := hx.mp ⟨t, ht⟩
      refine br_f z ⟨vi, nm_e (nm_r (nI_1 lg) ⟨vp_in_nI (by omega) (by decide), nm_r (e' := vp_updL a_reach (lg + 1) r) (by rw [nI_clamp (by omega)]) ?_⟩)⟩
      refine br_f h0 (br_t h3 (br_f c1 (zy_after rfl (by omega) hY (fun c' cost' opn' hC => ?_))))
      rcases zv_C hB hC with ⟨c64, mn⟩ | ⟨c100, mn⟩
      · have hne : ¬ nI c' = 100 := fun w => by have := (nI_eq (b := 100) (by omega) (by decide)).mp w; omega
        refine br_f hne (nm_r (nI_1 lg) ⟨rfl, hA, L, n, sz, lg + 1, fun i => if i = lg then c else lw i, ⟨rfl, rfl, rfl, rfl⟩, ⟨hPm, by omega, ?_, ?_⟩, ⟨hY.1, hY.2.1, by omega, ?_⟩, ?_⟩)
        · rw [pk_uLn (by omega)]
          exact hr0
        · intro i hi
          by_cases e : i = lg + 1
          · subst e
            rw [pk_uLs, zv_lw]
            exact hr
          · have e2 : (List.range i).map (fun i => if i = lg then c else lw i) = (List.range i).map lw := by
              apply List.map_congr_left
              intro a ha
              have := List.mem_range.mp ha
              exact if_neg (by omega)
            rw [pk_uLn e, e2]
            exact hR i (by omega)
        · intro i hi
          show upd b_log lg (nI c) i = nI (if i = lg then c else lw i) ∧ (if i = lg then c else lw i) < 4
          by_cases e : i = lg
          · rw [if_pos e, e, pk_us]
            exact ⟨rfl, by omega⟩
          · rw [if_neg e, pk_un e]
            exact hY.2.2.2 i (by omega)
        · intro i hi
          show upd a_log lg (nI c) i = nI (if i = lg then c else lw i)
          by_cases e : i = lg
          · rw [if_pos e, e, pk_us]
          · rw [if_neg e, pk_un e]
            exact hlog i (by omega)
      · exact absurd hd (mn d)
  · exact br_f h0 (br_f h3 (br_f h0 (br_f h3 ⟨rfl, I0⟩)))
theorem i_vc_undo {k : Nat} {u : SX} {v : SY} (I : i_Rel k u v) (hk : k + 2 ≤ 1024) : wpX_undo (fun r u' => wpY_undo (fun r' v' => r' = r ∧ i_Rel (k + 2) u' v') v) u := by
  obtain ⟨f_height, f_made, f_events, f_joined, f_states, f_finals, f_logged, a_base, a_size, a_edge, a_ends, a_joinEdge, a_joinEnds, a_move, a_log, a_reach⟩ := u
  obtain ⟨g_steps, g_depth, g_events, g_size, g_length, b_draft, b_process, b_log, b_cost, b_open⟩ := v
  have I0 : i_Rel (k + 2) (f_height, f_made, f_events, f_joined, f_states, f_finals, f_logged, a_base, a_size, a_edge, a_ends, a_joinEdge, a_joinEnds, a_move, a_log, a_reach) (g_steps, g_depth, g_events, g_size, g_length, b_draft, b_process, b_log, b_cost, b_open) := I
  obtain ⟨hA, L, n, sz, lg, lw, ⟨rfl, rfl, rfl, rfl⟩, hX, hY, hlog⟩ := I
  have hB : zv_Bd L := zv_Bd_of hX.1.1 hX.1.2.1
  have hl : lg ≤ 7 := hX.2.1
  rcases Nat.eq_zero_or_pos lg with z | z
  · subst z
    exact br_t rfl (br_t rfl ⟨rfl, I0⟩)
  · obtain ⟨q, rfl⟩ : ∃ q, lg = q + 1 := ⟨lg - 1, by omega⟩
    have c1 : ¬ nI (q + 1) = 0 := nI_ne0 (by omega) (by omega)
    have vi : vp_in (nI q) 8 := vp_in_nI (by omega) (by decide)
    have cl : (nI q).toNatClampNeg = q := nI_clamp (by omega)
    refine br_f c1 (nm_r (nI_pred q) ⟨vi, br_f c1 (nm_r (nI_pred q) ⟨vi, ?_, hA, L, n, sz, q, lw, ⟨rfl, rfl, rfl, rfl⟩, ⟨hX.1, by omega, hX.2.2.1, fun i hi => hX.2.2.2 i (by omega)⟩, ⟨hY.1, hY.2.1, by omega, fun i hi => hY.2.2.2 i (by omega)⟩, fun i hi => hlog i (by omega)⟩)⟩)
    rw [cl, hlog q (by omega), (hY.2.2.2 q (by omega)).1]
theorem i_vc_restart {k : Nat} {u : SX} {v : SY} (I : i_Rel k u v) (hk : k + 2 ≤ 1024) : wpX_restart (fun u' => wpY_restart (fun v' => i_Rel (k + 2) u' v') v) u := by
  obtain ⟨f_height, f_made, f_events, f_joined, f_states, f_finals, f_logged, a_base, a_size, a_edge, a_ends, a_joinEdge, a_joinEnds, a_move, a_log, a_reach⟩ := u
  obtain ⟨g_steps, g_depth, g_events, g_size, g_length, b_draft, b_process, b_log, b_cost, b_open⟩ := v
  have I0 : i_Rel (k + 2) (f_height, f_made, f_events, f_joined, f_states, f_finals, f_logged, a_base, a_size, a_edge, a_ends, a_joinEdge, a_joinEnds, a_move, a_log, a_reach) (g_steps, g_depth, g_events, g_size, g_length, b_draft, b_process, b_log, b_cost, b_open) := I
  obtain ⟨hA, L, n, sz, lg, lw, ⟨rfl, rfl, rfl, rfl⟩, hX, hY, hlog⟩ := I
  have hB : zv_Bd L := zv_Bd_of hX.1.1 hX.1.2.1
  have hl : lg ≤ 7 := hX.2.1
  exact ⟨hA, L, n, sz, 0, lw, ⟨rfl, rfl, rfl, rfl⟩, ⟨hX.1, by omega, hX.2.2.1, fun i hi => hX.2.2.2 i (by omega)⟩, ⟨hY.1, hY.2.1, by omega, fun i hi => by omega⟩, fun i hi => by omega⟩
theorem i_vc_length {k : Nat} {u : SX} {v : SY} (I : i_Rel k u v) (hk : k + 2 ≤ 1024) : wpX_length (fun r => wpY_length (fun r' => r' = r ∧ i_Rel (k + 2) u v) v) u := by
  obtain ⟨f_height, f_made, f_events, f_joined, f_states, f_finals, f_logged, a_base, a_size, a_edge, a_ends, a_joinEdge, a_joinEnds, a_move, a_log, a_reach⟩ := u
  obtain ⟨g_steps, g_depth, g_events, g_size, g_length, b_draft, b_process, b_log, b_cost, b_open⟩ := v
  have I0 : i_Rel (k + 2) (f_height, f_made, f_events, f_joined, f_states, f_finals, f_logged, a_base, a_size, a_edge, a_ends, a_joinEdge, a_joinEnds, a_move, a_log, a_reach) (g_steps, g_depth, g_events, g_size, g_length, b_draft, b_process, b_log, b_cost, b_open) := I
  obtain ⟨hA, L, n, sz, lg, lw, ⟨rfl, rfl, rfl, rfl⟩, hX, hY, hlog⟩ := I
  have hB : zv_Bd L := zv_Bd_of hX.1.1 hX.1.2.1
  have hl : lg ≤ 7 := hX.2.1
  exact ⟨rfl, I0⟩
theorem i_vc_at {k : Nat} {u : SX} {v : SY} (I : i_Rel k u v) (hk : k + 2 ≤ 1024) (v1 : Int32) : wpX_at (fun r => wpY_at (fun r' => r' = r ∧ i_Rel (k + 2) u v) v v1) u v1 := by
  obtain ⟨f_height, f_made, f_events, f_joined, f_states, f_finals, f_logged, a_base, a_size, a_edge, a_ends, a_joinEdge, a_joinEnds, a_move, a_log, a_reach⟩ := u
  obtain ⟨g_steps, g_depth, g_events, g_size, g_length, b_draft, b_process, b_log, b_cost, b_open⟩ := v
  have I0 : i_Rel (k + 2) (f_height, f_made, f_events, f_joined, f_states, f_finals, f_logged, a_base, a_size, a_edge, a_ends, a_joinEdge, a_joinEnds, a_move, a_log, a_reach) (g_steps, g_depth, g_events, g_size, g_length, b_draft, b_process, b_log, b_cost, b_open) := I
  obtain ⟨hA, L, n, sz, lg, lw, ⟨rfl, rfl, rfl, rfl⟩, hX, hY, hlog⟩ := I
  have hB : zv_Bd L := zv_Bd_of hX.1.1 hX.1.2.1
  have hl : lg ≤ 7 := hX.2.1
  by_cases h0 : v1 < 0
  · exact br_t h0 (br_t h0 ⟨rfl, I0⟩)
  obtain ⟨j, hj, rfl⟩ := nI_of h0
  by_cases h1 : nI j < nI lg
  · have h2 := (nI_ltI hj (by omega)).mp h1
    have vi : vp_in (nI j) 8 := vp_in_nI (by omega) (by decide)
    refine br_f h0 (br_t h1 ⟨vi, br_f h0 (br_t h1 ⟨vi, ?_, I0⟩)⟩)
    rw [nI_clamp hj, hlog j h2, (hY.2.2.2 j h2).1]
  · exact br_f h0 (br_f h1 (br_f h0 (br_f h1 ⟨rfl, I0⟩)))
theorem i_vc_mayStop {k : Nat} {u : SX} {v : SY} (I : i_Rel k u v) (hk : k + 2 ≤ 1024) : wpX_mayStop (fun r => wpY_mayStop (fun r' v' => r' = r ∧ i_Rel (k + 2) u v') v) u := by
  obtain ⟨f_height, f_made, f_events, f_joined, f_states, f_finals, f_logged, a_base, a_size, a_edge, a_ends, a_joinEdge, a_joinEnds, a_move, a_log, a_reach⟩ := u
  obtain ⟨g_steps, g_depth, g_events, g_size, g_length, b_draft, b_process, b_log, b_cost, b_open⟩ := v
  have I0 : i_Rel (k + 2) (f_height, f_made, f_events, f_joined, f_states, f_finals, f_logged, a_base, a_size, a_edge, a_ends, a_joinEdge, a_joinEnds, a_move, a_log, a_reach) (g_steps, g_depth, g_events, g_size, g_length, b_draft, b_process, b_log, b_cost, b_open) := I
  obtain ⟨hA, L, n, sz, lg, lw, ⟨rfl, rfl, rfl, rfl⟩, hX, hY, hlog⟩ := I
  have hB : zv_Bd L := zv_Bd_of hX.1.1 hX.1.2.1
  have hl : lg ≤ 7 := hX.2.1
  refine zx_mayStop hX (fun hL => zy_mayStop hY (fun r cost' opn' h1 h2 => ⟨h1 hL, hA, ?_⟩)) (fun hL => zy_mayStop hY (fun r cost' opn' h1 h2 => ⟨h2 hL, hA, ?_⟩))
  · exact ⟨L, n, sz, lg, lw, ⟨rfl, rfl, rfl, rfl⟩, hX, hY, hlog⟩
  · exact ⟨L, n, sz, lg, lw, ⟨rfl, rfl, rfl, rfl⟩, hX, hY, hlog⟩
theorem i_vc_next {k : Nat} {u : SX} {v : SY} (I : i_Rel k u v) (hk : k + 2 ≤ 1024) : wpX_next (fun r => wpY_next (fun r' v' => r' = r ∧ i_Rel (k + 2) u v') v) u := by
  obtain ⟨f_height, f_made, f_events, f_joined, f_states, f_finals, f_logged, a_base, a_size, a_edge, a_ends, a_joinEdge, a_joinEnds, a_move, a_log, a_reach⟩ := u
  obtain ⟨g_steps, g_depth, g_events, g_size, g_length, b_draft, b_process, b_log, b_cost, b_open⟩ := v
  have I0 : i_Rel (k + 2) (f_height, f_made, f_events, f_joined, f_states, f_finals, f_logged, a_base, a_size, a_edge, a_ends, a_joinEdge, a_joinEnds, a_move, a_log, a_reach) (g_steps, g_depth, g_events, g_size, g_length, b_draft, b_process, b_log, b_cost, b_open) := I
  obtain ⟨hA, L, n, sz, lg, lw, ⟨rfl, rfl, rfl, rfl⟩, hX, hY, hlog⟩ := I
  have hB : zv_Bd L := zv_Bd_of hX.1.1 hX.1.2.1
  have hl : lg ≤ 7 := hX.2.1
  refine zx_next hX (fun b hb => zy_next hB hY (fun b' log' cost' opn' hb' hl' => ⟨by rw [zv_msku hb hb'], hA, L, n, sz, lg, lw, ⟨rfl, rfl, rfl, rfl⟩, hX, zv_Ylog hY hl', hlog⟩))
theorem i_vc_remaining {k : Nat} {u : SX} {v : SY} (I : i_Rel k u v) (hk : k + 2 ≤ 1024) (v1 : Int32) : wpX_remaining (fun r => wpY_remaining (fun r' v' => r' = r ∧ i_Rel (k + 2) u v') v v1) u v1 := by
  obtain ⟨f_height, f_made, f_events, f_joined, f_states, f_finals, f_logged, a_base, a_size, a_edge, a_ends, a_joinEdge, a_joinEnds, a_move, a_log, a_reach⟩ := u
  obtain ⟨g_steps, g_depth, g_events, g_size, g_length, b_draft, b_process, b_log, b_cost, b_open⟩ := v
  have I0 : i_Rel (k + 2) (f_height, f_made, f_events, f_joined, f_states, f_finals, f_logged, a_base, a_size, a_edge, a_ends, a_joinEdge, a_joinEnds, a_move, a_log, a_reach) (g_steps, g_depth, g_events, g_size, g_length, b_draft, b_process, b_log, b_cost, b_open) := I
  obtain ⟨hA, L, n, sz, lg, lw, ⟨rfl, rfl, rfl, rfl⟩, hX, hY, hlog⟩ := I
  have hB : zv_Bd L := zv_Bd_of hX.1.1 hX.1.2.1
  have hl : lg ≤ 7 := hX.2.1
  by_cases h0 : v1 < 0
  · exact br_t h0 (br_t h0 ⟨rfl, I0⟩)
  by_cases h15 : v1 ≤ 15
  · obtain ⟨c, hc, rfl⟩ := nI_of2 (M := 15) (n := 15) (by decide) h0 h15
    refine br_f h0 (br_t h15 ⟨vp_in_nI (by omega) (by decide), ?_⟩)
    rw [nI_clamp (by omega)]
    refine zx_least rfl (by omega) hX.1 (hX.2.2.2 lg (Nat.le_refl _)) (fun r hr => ?_)
    refine br_f h0 (br_t h15 (zy_now rfl (by omega) hY (fun c' cost' opn' hC => ?_)))
    have hP : zr_P (nI n) f_finals (nI lg) a_move a_log a_reach (nI sz) (nI lg) b_process b_log := ⟨L, n, sz, lg, lw, ⟨rfl, rfl, rfl, rfl⟩, hX, hY, hlog⟩
    rcases hr with ⟨d, hd, e, h1, h2⟩ | ⟨e, h1⟩
    · have e2 := zl_C_uniq hC h1 h2 (by omega)
      subst e2
      exact br_f (fun w => by have := (nI_eq (b := 100) (by omega) (by decide)).mp w; omega) ⟨e.symm, hA, hP⟩
    · have e2 := zl_C_none hC h1
      exact br_t (by rw [e2]; rfl) ⟨e.symm, hA, hP⟩
  · exact br_f h0 (br_f h15 (br_f h0 (br_f h15 ⟨rfl, I0⟩)))
theorem i_vc_advice {k : Nat} {u : SX} {v : SY} (I : i_Rel k u v) (hk : k + 2 ≤ 1024) : wpX_advice (fun r => wpY_advice (fun r' v' => r' = r ∧ i_Rel (k + 2) u v') v) u := by
  obtain ⟨f_height, f_made, f_events, f_joined, f_states, f_finals, f_logged, a_base, a_size, a_edge, a_ends, a_joinEdge, a_joinEnds, a_move, a_log, a_reach⟩ := u
  obtain ⟨g_steps, g_depth, g_events, g_size, g_length, b_draft, b_process, b_log, b_cost, b_open⟩ := v
  have I0 : i_Rel (k + 2) (f_height, f_made, f_events, f_joined, f_states, f_finals, f_logged, a_base, a_size, a_edge, a_ends, a_joinEdge, a_joinEnds, a_move, a_log, a_reach) (g_steps, g_depth, g_events, g_size, g_length, b_draft, b_process, b_log, b_cost, b_open) := I
  obtain ⟨hA, L, n, sz, lg, lw, ⟨rfl, rfl, rfl, rfl⟩, hX, hY, hlog⟩ := I
  have hB : zv_Bd L := zv_Bd_of hX.1.1 hX.1.2.1
  have hl : lg ≤ 7 := hX.2.1
  refine zx_advice hX (fun r hr => zy_advice hB hY (fun r' log' cost' opn' hr' hl' => ⟨zv_Adv_u hr hr', hA, L, n, sz, lg, lw, ⟨rfl, rfl, rfl, rfl⟩, hX, zv_Ylog hY hl', hlog⟩))
theorem i_vc_needed {k : Nat} {u : SX} {v : SY} (I : i_Rel k u v) (hk : k + 2 ≤ 1024) : wpX_needed (fun r => wpY_needed (fun r' v' => r' = r ∧ i_Rel (k + 2) u v') v) u := by
  obtain ⟨f_height, f_made, f_events, f_joined, f_states, f_finals, f_logged, a_base, a_size, a_edge, a_ends, a_joinEdge, a_joinEnds, a_move, a_log, a_reach⟩ := u
  obtain ⟨g_steps, g_depth, g_events, g_size, g_length, b_draft, b_process, b_log, b_cost, b_open⟩ := v
  have I0 : i_Rel (k + 2) (f_height, f_made, f_events, f_joined, f_states, f_finals, f_logged, a_base, a_size, a_edge, a_ends, a_joinEdge, a_joinEnds, a_move, a_log, a_reach) (g_steps, g_depth, g_events, g_size, g_length, b_draft, b_process, b_log, b_cost, b_open) := I
  obtain ⟨hA, L, n, sz, lg, lw, ⟨rfl, rfl, rfl, rfl⟩, hX, hY, hlog⟩ := I
  have hB : zv_Bd L := zv_Bd_of hX.1.1 hX.1.2.1
  have hl : lg ≤ 7 := hX.2.1
  refine zx_needed hX (fun b hb => zy_needed hB hY (fun b' cost' opn' hb' => ⟨by rw [zv_msku hb hb'], hA, L, n, sz, lg, lw, ⟨rfl, rfl, rfl, rfl⟩, hX, hY, hlog⟩))
end
