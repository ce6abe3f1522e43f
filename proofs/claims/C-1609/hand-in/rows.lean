section
theorem pk_us {f : Nat → Int32} {k : Nat} {x : Int32} : upd f k x k = x := if_pos rfl
theorem pk_un {f : Nat → Int32} {k j : Nat} {x : Int32} (h : j ≠ k) : upd f k x j = f j := if_neg h
theorem pk_sub {a b : Nat} (h : b ≤ a) : nI a - nI b = nI (a - b) := by
  obtain ⟨c, rfl⟩ : ∃ c, a = c + b := ⟨a - b, by omega⟩
  rw [← nI_add, Int32.add_sub_cancel, Nat.add_sub_cancel]
theorem pk_m1 (n : Nat) : nI (n + 1) + (-1) = nI n := by
  rw [← nI_1, Int32.add_assoc, show (1 : Int32) + (-1) = 0 from rfl, Int32.add_zero]
theorem pk_mul (a b : Nat) : nI a * nI b = nI (a * b) := (Int32.ofNat_mul a b).symm
theorem pk_div {a d : Nat} (ha : a < 2 ^ 31) (h0 : 0 < d) (hd : d < 2 ^ 31) : nI a / nI d = nI (a / d) := by
  apply Int32.toInt_inj.mp
  rw [lg_idiv_nonneg (by rw [nI_toInt ha]; omega) (by rw [nI_toInt hd]; omega), nI_toInt ha, nI_toInt hd, nI_toInt (Nat.lt_of_le_of_lt (Nat.div_le_self a d) ha)]
  first | rfl | exact (Int.natCast_ediv _ _).symm
theorem pk_rem {a d : Nat} (ha : a < 2 ^ 31) (h0 : 0 < d) (hd : d < 2 ^ 31) : nI a - nI a / nI d * nI d = nI (a % d) := by
  rw [pk_div ha h0 hd, pk_mul, pk_sub (Nat.div_mul_le_self a d)]
  exact congrArg nI (by have := Nat.div_add_mod' a d; omega)
theorem pk_sub_toInt {a b : Nat} (ha : a < 2 ^ 30) (hb : b < 2 ^ 30) : (nI a - nI b).toInt = (a : Int) - b := by
  rw [Int32.toInt_sub, nI_toInt (by omega), nI_toInt (by omega)]
  exact Int.bmod_eq_of_le (by omega) (by omega)
theorem pk_sneg {a b : Nat} (hb : b < 2 ^ 30) (h : a < b) : nI a - nI b < 0 := by
  rw [Int32.lt_iff_toInt_lt, pk_sub_toInt (by omega) hb, show (0 : Int32).toInt = 0 from by decide]
  omega
theorem pk_ix (x : Int32) {n : Nat} (hn : n < 2 ^ 31) : x < 0 ∨ nI n ≤ x ∨ ∃ j : Nat, j < n ∧ x = nI j := by
  by_cases h : x < 0
  · exact Or.inl h
  · obtain ⟨j, hj, rfl⟩ := nI_of h
    by_cases h2 : j < n
    · exact Or.inr (Or.inr ⟨j, h2, rfl⟩)
    · exact Or.inr (Or.inl (nI_le (by omega) hj))
theorem pk_le {x y : Int32} {A B : Prop} (a b : Nat) (f : a ≤ b → A) (g : b < a → B) (hx : x = nI a := by rfl) (hy : y = nI b := by rfl) (ha : a < 2 ^ 31 := by omega) (hb : b < 2 ^ 31 := by omega) : (x ≤ y → A) ∧ (¬ x ≤ y → B) := by
  subst hx hy
  rw [nI_leI ha hb]
  exact ⟨f, fun z => g (by omega)⟩
theorem pk_lt {x y : Int32} {A B : Prop} (a b : Nat) (f : a < b → A) (g : b ≤ a → B) (hx : x = nI a := by rfl) (hy : y = nI b := by rfl) (ha : a < 2 ^ 31 := by omega) (hb : b < 2 ^ 31 := by omega) : (x < y → A) ∧ (¬ x < y → B) := by
  subst hx hy
  rw [nI_ltI ha hb]
  exact ⟨f, fun z => g (by omega)⟩
theorem pk_eq {x y : Int32} {A B : Prop} (a b : Nat) (f : a = b → A) (g : a ≠ b → B) (hx : x = nI a := by rfl) (hy : y = nI b := by rfl) (ha : a < 2 ^ 31 := by omega) (hb : b < 2 ^ 31 := by omega) : (x = y → A) ∧ (¬ x = y → B) := by
  subst hx hy
  rw [nI_eq ha hb]
  exact ⟨f, g⟩
theorem pk_in {x : Int32} (n N : Nat) (h : n < N) (hx : x = nI n := by rfl) (hN : N < 2 ^ 31 := by omega) : vp_in x N := by
  subst hx
  exact vp_in_nI h hN
theorem pk_cl {x : Int32} (n : Nat) (hx : x = nI n := by rfl) (h : n < 2 ^ 31 := by omega) : x.toNatClampNeg = n := by
  subst hx
  exact nI_clamp h
theorem pk_tn {n : Nat} (h : n < 2 ^ 32) : (nI n).toBitVec.toNat = n := Nat.mod_eq_of_lt h
theorem pk_and (x : Int32) {m : Int32} (k : Nat) (hm : m.toBitVec.toNat = 2 ^ k - 1) : x &&& m = nI (x.toBitVec.toNat % 2 ^ k) := by
  apply Int32.toBitVec_inj.mp
  apply BitVec.eq_of_toNat_eq
  rw [Int32.toBitVec_and, BitVec.toNat_and, hm, Nat.and_two_pow_sub_one_eq_mod]
  show _ = (BitVec.ofNat 32 _).toNat
  rw [BitVec.toNat_ofNat]
  exact (Nat.mod_eq_of_lt (Nat.lt_of_le_of_lt (Nat.mod_le _ _) x.toBitVec.isLt)).symm
theorem pk_andN {n : Nat} (h : n < 2 ^ 32) {m : Int32} (k : Nat) (hm : m.toBitVec.toNat = 2 ^ k - 1) : nI n &&& m = nI (n % 2 ^ k) := by
  rw [pk_and _ k hm, pk_tn h]
theorem pk_andE (x : Int32) {m : Int32} (k : Nat) (hm : m.toBitVec.toNat = 2 ^ k - 1) : ∃ j : Nat, j < 2 ^ k ∧ x &&& m = nI j := ⟨_, Nat.mod_lt _ (Nat.two_pow_pos k), pk_and x k hm⟩
theorem pk_andIn (x : Int32) {m : Int32} (k : Nat) (hm : m.toBitVec.toNat = 2 ^ k - 1) (hk : k ≤ 30) : vp_in (x &&& m) (2 ^ k) := by
  obtain ⟨j, hj, e⟩ := pk_andE x k hm
  rw [e]
  exact vp_in_nI hj (Nat.lt_of_le_of_lt (Nat.pow_le_pow_right (by decide) hk) (by decide))
theorem pk_shl (a s : Int32) (k : Nat) (hs : (s.toBitVec.smod 32).toNat = k) : (a <<< s).toBitVec.toNat = a.toBitVec.toNat * 2 ^ k % 2 ^ 32 := by
  show (a.toBitVec <<< (s.toBitVec.smod 32).toNat).toNat = _
  rw [hs, BitVec.toNat_shiftLeft, Nat.shiftLeft_eq]
theorem pk_shlN {n : Nat} (s : Int32) (k : Nat) (hs : (s.toBitVec.smod 32).toNat = k) (h : n * 2 ^ k < 2 ^ 32) : nI n <<< s = nI (n * 2 ^ k) := by
  apply Int32.toBitVec_inj.mp
  apply BitVec.eq_of_toNat_eq
  have hn : n < 2 ^ 32 := Nat.lt_of_le_of_lt (Nat.le_mul_of_pos_right n (Nat.two_pow_pos k)) h
  rw [pk_shl _ _ k hs, pk_tn hn, pk_tn h, Nat.mod_eq_of_lt h]
theorem pk_shr (a s : Int32) (k : Nat) (hs : (s.toBitVec.smod 32).toNat = k) : (a >>> s).toInt = a.toInt >>> k := by
  show (a.toBitVec.sshiftRight (s.toBitVec.smod 32).toNat).toInt = _
  rw [hs, BitVec.toInt_sshiftRight]
  rfl
theorem pk_shrN {n : Nat} (h : n < 2 ^ 31) (s : Int32) (k : Nat) (hs : (s.toBitVec.smod 32).toNat = k) : nI n >>> s = nI (n / 2 ^ k) := by
  apply Int32.toInt_inj.mp
  have h2 : n / 2 ^ k ≤ n := Nat.div_le_self _ _
  rw [pk_shr _ _ k hs, nI_toInt h, nI_toInt (by omega), Int.shiftRight_eq_div_pow]
  rfl
theorem pk_least (P : Nat → Prop) (h : ∃ k, P k) : ∃ k, P k ∧ ∀ j, j < k → ¬ P j := by
  obtain ⟨k, hk⟩ := h
  induction k using Nat.strongRecOn with
  | ind k ih =>
    by_cases e : ∃ j, j < k ∧ P j
    · obtain ⟨j, hj, pj⟩ := e
      exact ih j hj pj
    · exact ⟨k, hk, fun j hj pj => e ⟨j, hj, pj⟩⟩
/-! ===== Int32 by its bits: bt x i ===== -/
def bt (x : Int32) (i : Nat) : Bool := x.toBitVec.getLsbD i
theorem b_ext {x y : Int32} (h : ∀ i, i < 32 → bt x i = bt y i) : x = y := Int32.toBitVec_inj.mp (BitVec.eq_of_getLsbD_eq (fun i hi => h i hi))
theorem b_or (x y : Int32) (i : Nat) : bt (x ||| y) i = (bt x i || bt y i) := by unfold bt; rw [Int32.toBitVec_or, BitVec.getLsbD_or]
theorem b_and (x y : Int32) (i : Nat) : bt (x &&& y) i = (bt x i && bt y i) := by unfold bt; rw [Int32.toBitVec_and, BitVec.getLsbD_and]
theorem b_xor (x y : Int32) (i : Nat) : bt (x ^^^ y) i = (bt x i ^^ bt y i) := by unfold bt; rw [Int32.toBitVec_xor, BitVec.getLsbD_xor]
theorem b_big {x : Int32} {i : Nat} (h : 32 ≤ i) : bt x i = false := BitVec.getLsbD_of_ge _ _ h
theorem b_255 (i : Nat) : bt 255 i = decide (i < 8) := by
  rcases Nat.lt_or_ge i 32 with h | h
  · exact (by decide +kernel : ∀ i, i < 32 → bt 255 i = decide (i < 8)) i h
  · rw [b_big h, decide_eq_false (by omega)]
theorem b_65535 (i : Nat) : bt 65535 i = decide (i < 16) := by
  rcases Nat.lt_or_ge i 32 with h | h
  · exact (by decide +kernel : ∀ i, i < 32 → bt 65535 i = decide (i < 16)) i h
  · rw [b_big h, decide_eq_false (by omega)]
theorem b_m1 : ∀ i, i < 32 → bt (-1) i = true := by decide +kernel
theorem b_0 (i : Nat) : bt 0 i = false := BitVec.getLsbD_zero
theorem s_l : ∀ n, n < 32 → ((nI n &&& 31).toBitVec.smod 32).toNat = n := by decide +kernel
theorem s_u : ∀ n, n < 32 → (((nI n).toUInt32 &&& Int32.toUInt32 31).toBitVec % 32).toNat = n := by decide +kernel
theorem b_shl (n : Nat) (hn : n < 32) (x : Int32) {i : Nat} (hi : i < 32) : bt (x <<< (nI n &&& 31)) i = (decide (n ≤ i) && bt x (i - n)) := by
  unfold bt
  rw [Int32.toBitVec_shiftLeft]
  show (x.toBitVec <<< ((nI n &&& 31).toBitVec.smod 32).toNat).getLsbD i = _
  rw [s_l n hn, BitVec.getLsbD_shiftLeft]
  rcases Nat.lt_or_ge i n with h | h
  · simp [h, Nat.not_le.mpr h]
  · simp [hi, h, Nat.not_lt.mpr h]
theorem b_ushr (n : Nat) (hn : n < 32) (x : Int32) (i : Nat) : bt ((x.toUInt32 >>> ((nI n).toUInt32 &&& Int32.toUInt32 31)).toInt32) i = bt x (n + i) := by
  show (x.toUInt32 >>> ((nI n).toUInt32 &&& Int32.toUInt32 31)).toBitVec.getLsbD i = x.toUInt32.toBitVec.getLsbD (n + i)
  rw [UInt32.toBitVec_shiftRight]
  show (x.toUInt32.toBitVec >>> (((nI n).toUInt32 &&& Int32.toUInt32 31).toBitVec % 32).toNat).getLsbD i = _
  rw [s_u n hn, BitVec.getLsbD_ushiftRight]
theorem b_sshr (n : Nat) (hn : n < 32) (x : Int32) {i : Nat} (hi : i < 32) : bt (x >>> (nI n &&& 31)) i = if n + i < 32 then bt x (n + i) else bt x 31 := by
  unfold bt
  rw [Int32.toBitVec_shiftRight]
  show (x.toBitVec.sshiftRight ((nI n &&& 31).toBitVec.smod 32).toNat).getLsbD i = _
  rw [s_l n hn, BitVec.getLsbD_sshiftRight, BitVec.msb_eq_getLsbD_last]
  simp [hi]
theorem b_shl8 (x : Int32) {i : Nat} (hi : i < 32) : bt (x <<< ((8 : Int32) &&& 31)) i = (decide (8 ≤ i) && bt x (i - 8)) := b_shl 8 (by omega) x hi
theorem b_shl16 (x : Int32) {i : Nat} (hi : i < 32) : bt (x <<< ((16 : Int32) &&& 31)) i = (decide (16 ≤ i) && bt x (i - 16)) := b_shl 16 (by omega) x hi
theorem b_shl24 (x : Int32) {i : Nat} (hi : i < 32) : bt (x <<< ((24 : Int32) &&& 31)) i = (decide (24 ≤ i) && bt x (i - 24)) := b_shl 24 (by omega) x hi
theorem b_sshr8 (x : Int32) {i : Nat} (hi : i < 32) : bt (x >>> ((8 : Int32) &&& 31)) i = if 8 + i < 32 then bt x (8 + i) else bt x 31 := b_sshr 8 (by omega) x hi
/-! ===== nI under and, xor, >>>, one bit, 65535 ===== -/
theorem nx_and (a b : Nat) : nI a &&& nI b = nI (a &&& b) := by
  apply Int32.toBitVec_inj.1
  show BitVec.ofNat 32 a &&& BitVec.ofNat 32 b = BitVec.ofNat 32 (a &&& b)
  apply BitVec.eq_of_getLsbD_eq
  intro i hi
  simp [hi]
theorem nx_xor (a b : Nat) : nI a ^^^ nI b = nI (a ^^^ b) := by
  apply Int32.toBitVec_inj.1
  show BitVec.ofNat 32 a ^^^ BitVec.ofNat 32 b = BitVec.ofNat 32 (a ^^^ b)
  apply BitVec.eq_of_getLsbD_eq
  intro i hi
  simp [hi]
theorem wb_of32 (x : Int32) : ∃ n, n < 2 ^ 32 ∧ x = nI n := ⟨x.toBitVec.toNat, x.toBitVec.isLt, Int32.toBitVec_inj.mp (by show _ = BitVec.ofNat 32 _; simp)⟩
end
section
/-! bits of words; sets of units are words -/
def pa_na (f : Nat → Nat) : Nat → Int32 := fun u => nI (f u)
theorem pa_b1 (i : Nat) : bt 1 i = decide (i = 0) := by
  rcases Nat.lt_or_ge i 32 with h | h
  · exact (by decide +kernel : ∀ i, i < 32 → bt 1 i = decide (i = 0)) i h
  · rw [b_big h, decide_eq_false (by omega)]
theorem pa_one {u : Nat} (hu : u < 32) (i : Nat) : bt ((1 : Int32) <<< (nI u &&& 31)) i = decide (i = u) := by
  rcases Nat.lt_or_ge i 32 with h | h
  · rw [b_shl u hu _ h, pa_b1]
    by_cases e : i = u
    · subst e
      simp
    · by_cases h2 : u ≤ i
      · have h3 : ¬ i - u = 0 := by omega
        simp [e, h3]
      · simp [e, h2]
  · rw [b_big h, decide_eq_false (by omega)]
theorem pa_bit (x : Int32) {j : Nat} (hj : j < 32) : (x >>> (nI j &&& 31)) &&& 1 = if bt x j = true then 1 else 0 := by
  apply b_ext
  intro i hi
  rw [b_and, pa_b1, b_sshr j hj x hi]
  by_cases e : i = 0
  · subst e
    rw [if_pos (show j + 0 < 32 by omega)]
    show (bt x j && decide (0 = 0)) = _
    cases h : bt x j
    · simp [b_0]
    · simp [pa_b1]
  · rw [decide_eq_false e, Bool.and_false]
    cases h : bt x j
    · simp [b_0]
    · simp [pa_b1, e]
theorem pa_bit1 {x : Int32} {j : Nat} (hj : j < 32) : (x >>> (nI j &&& 31)) &&& 1 = 1 ↔ bt x j = true := by
  rw [pa_bit x hj]
  cases bt x j <;> decide
theorem pa_bit0 {x : Int32} {j : Nat} (hj : j < 32) : (x >>> (nI j &&& 31)) &&& 1 = 0 ↔ bt x j = false := by
  rw [pa_bit x hj]
  cases bt x j <;> decide
theorem pa_add (a : Nat) (x : Int32) {j : Nat} (hj : j < 32) : nI a + ((x >>> (nI j &&& 31)) &&& 1) = nI (a + if bt x j = true then 1 else 0) := by
  rw [pa_bit x hj]
  cases bt x j
  · rw [if_neg (by decide), if_neg (by decide), Int32.add_zero]; rfl
  · rw [if_pos rfl, if_pos rfl, nI_1]
theorem pa_not (x : Int32) {i : Nat} (hi : i < 32) : bt (x ^^^ (-1)) i = !bt x i := by
  rw [b_xor, b_m1 i hi]
  cases bt x i <;> rfl
theorem pa_lt {x : Int32} {i : Nat} (h : bt x i = true) : i < 32 := by
  rcases Nat.lt_or_ge i 32 with h2 | h2
  · exact h2
  · rw [b_big h2] at h; cases h
theorem pa_nott {x : Int32} {i : Nat} (h : bt (x ^^^ (-1)) i = true) : bt x i = false := by
  rw [pa_not x (pa_lt h)] at h
  cases e : bt x i
  · rfl
  · rw [e] at h; cases h
theorem pa_z {x : Int32} : x = 0 ↔ ∀ i, bt x i = true → False := by
  constructor
  · intro h i hi
    rw [h, b_0] at hi; cases hi
  · intro h
    apply b_ext
    intro i _
    rw [b_0]
    cases e : bt x i
    · rfl
    · exact (h i e).elim
theorem pa_az {x y : Int32} : x &&& y = 0 ↔ ∀ i, bt x i = true → bt y i = true → False := by
  rw [pa_z]
  constructor
  · intro h i h1 h2
    exact h i (by rw [b_and, h1, h2]; rfl)
  · intro h i hi
    rw [b_and] at hi
    cases h1 : bt x i
    · rw [h1] at hi; cases hi
    · rw [h1] at hi; exact h i h1 hi
theorem pa_anz {x y : Int32} : ¬ x &&& y = 0 ↔ ∃ i, bt x i = true ∧ bt y i = true := by
  rw [pa_az]
  constructor
  · intro h
    exact Classical.byContradiction fun g => h fun i h1 h2 => g ⟨i, h1, h2⟩
  · rintro ⟨i, h1, h2⟩ h
    exact h i h1 h2
theorem pa_axz {x y : Int32} : x &&& (y ^^^ (-1)) = 0 ↔ ∀ i, bt x i = true → bt y i = true := by
  rw [pa_az]
  constructor
  · intro h i hx
    cases e : bt y i
    · exact (h i hx (by rw [pa_not y (pa_lt hx), e]; rfl)).elim
    · rfl
  · intro h i hx hy
    have := pa_nott hy
    rw [h i hx] at this; cases this
theorem pa_nn (x : Int32) : (x ^^^ (-1)) ^^^ (-1) = x := by
  apply b_ext
  intro i hi
  rw [pa_not _ hi, pa_not _ hi, Bool.not_not]
theorem pa_eqx {x y : Int32} : x &&& y = y ↔ ∀ i, bt y i = true → bt x i = true := by
  constructor
  · intro h i hi
    rw [← h, b_and] at hi
    cases e : bt x i
    · rw [e] at hi; cases hi
    · rfl
  · intro h
    apply b_ext
    intro i _
    rw [b_and]
    cases e : bt y i
    · rw [Bool.and_false]
    · rw [h i e]; rfl
/-- within n -/
def pa_wi (n : Nat) (x : Int32) : Prop := ∀ i, bt x i = true → i < n
theorem pa_wi_or {n : Nat} {x y : Int32} (hx : pa_wi n x) (hy : pa_wi n y) : pa_wi n (x ||| y) := by
  intro i h
  rw [b_or] at h
  cases e : bt x i
  · rw [e] at h; exact hy i h
  · exact hx i e
theorem pa_wi_and {n : Nat} {x y : Int32} (hx : pa_wi n x) : pa_wi n (x &&& y) := by
  intro i h
  rw [b_and] at h
  cases e : bt x i
  · rw [e] at h; cases h
  · exact hx i e
theorem pa_wi_le {n m : Nat} {x : Int32} (hx : pa_wi n x) (h : n ≤ m) : pa_wi m x := fun i hi => Nat.lt_of_lt_of_le (hx i hi) h
theorem pa_wi_one {n u : Nat} (hu : u < n) (hn : n ≤ 32) : pa_wi n ((1 : Int32) <<< (nI u &&& 31)) := by
  intro i h
  rw [pa_one (by omega)] at h
  have := of_decide_eq_true h
  omega
theorem pa_wi_0 {n : Nat} : pa_wi n 0 := by
  intro i h
  rw [b_0] at h; cases h
theorem pa_nI (s i : Nat) : bt (nI s) i = (decide (i < 32) && s.testBit i) := by
  show (BitVec.ofNat 32 s).getLsbD i = _
  rw [BitVec.getLsbD_ofNat]
theorem pa_wiof {n s : Nat} (h : s < 2 ^ n) : pa_wi n (nI s) := by
  intro i hi
  rcases Nat.lt_or_ge i n with g | g
  · exact g
  · rw [pa_nI, Nat.testBit_lt_two_pow (Nat.lt_of_lt_of_le h (Nat.pow_le_pow_right (by decide) g)), Bool.and_false] at hi
    cases hi
theorem pa_ofwi {n : Nat} {x : Int32} (h : pa_wi n x) : ∃ s, s < 2 ^ n ∧ x = nI s := by
  obtain ⟨s, hs, rfl⟩ := wb_of32 x
  refine ⟨s, ?_, rfl⟩
  apply Nat.lt_pow_two_of_testBit
  intro i hi
  cases e : s.testBit i
  · rfl
  · rcases Nat.lt_or_ge i 32 with g | g
    · have := h i (by rw [pa_nI, e, decide_eq_true g]; rfl)
      omega
    · rw [Nat.testBit_lt_two_pow (Nat.lt_of_lt_of_le hs (Nat.pow_le_pow_right (by decide) g))] at e
      cases e
theorem pa_shn {n : Nat} (hn : n ≤ 10) : (1 : Int32) <<< (nI n &&& 31) = nI (2 ^ n) :=
  (by decide +kernel : ∀ n, n < 11 → (1 : Int32) <<< (nI n &&& 31) = nI (2 ^ n)) n (by omega)
theorem pa_p10 {n : Nat} (hn : n ≤ 10) : 2 ^ n ≤ 1024 := Nat.pow_le_pow_right (n := 2) (by decide) hn
theorem pa_inj {a b : Nat} (ha : a < 2 ^ 31) (hb : b < 2 ^ 31) (h : nI a = nI b) : a = b := (nI_eq ha hb).mp h
theorem pa_pow2 : ∀ s, s < 1024 → s &&& (s - 1) = 0 → s = 0 ∨ ∃ k, k < 10 ∧ s = 2 ^ k := by decide +kernel
theorem pa_sb {x : Int32} (hx : pa_wi 10 x) (h : x &&& (x - 1) = 0) {i j : Nat} (hi : bt x i = true) (hj : bt x j = true) : i = j := by
  obtain ⟨s, hs, rfl⟩ := pa_ofwi hx
  have hs' : s < 1024 := hs
  by_cases h0 : s = 0
  · subst h0
    rw [nI_0, b_0] at hi; cases hi
  · have e1 : nI s - 1 = nI (s - 1) := by
      have := pk_sub (a := s) (b := 1) (by omega)
      exact this
    rw [e1, nx_and] at h
    have h1 : s &&& (s - 1) ≤ s := Nat.and_le_left
    have h2 : s &&& (s - 1) = 0 := pa_inj (by omega) (by omega) (h.trans nI_0.symm)
    rcases pa_pow2 s hs' h2 with g | ⟨k, hk, g⟩
    · exact absurd g h0
    · subst g
      rw [pa_nI, Nat.testBit_two_pow] at hi hj
      have a1 : k = i := by
        cases e : decide (k = i)
        · rw [e, Bool.and_false] at hi; cases hi
        · exact of_decide_eq_true e
      have a2 : k = j := by
        cases e : decide (k = j)
        · rw [e, Bool.and_false] at hj; cases hj
        · exact of_decide_eq_true e
      omega
/-- a word built bit by bit -/
def pa_ws (p : Nat → Bool) : Nat → Int32
  | 0 => 0
  | k + 1 => if p k = true then pa_ws p k ||| ((1 : Int32) <<< (nI k &&& 31)) else pa_ws p k
theorem pa_ws_bt (p : Nat → Bool) : ∀ k, k ≤ 32 → ∀ i, bt (pa_ws p k) i = true ↔ i < k ∧ p i = true := by
  intro k
  induction k with
  | zero =>
    intro _ i
    show bt 0 i = true ↔ _
    rw [b_0]
    constructor
    · intro h; cases h
    · intro h; omega
  | succ k ih =>
    intro hk i
    have ih' := ih (by omega) i
    unfold pa_ws
    by_cases e : p k = true
    · rw [if_pos e, b_or, pa_one (by omega), Bool.or_eq_true, ih', decide_eq_true_eq]
      constructor
      · rintro (⟨h1, h2⟩ | h)
        · exact ⟨by omega, h2⟩
        · subst h; exact ⟨by omega, e⟩
      · rintro ⟨h1, h2⟩
        by_cases h : i = k
        · exact Or.inr h
        · exact Or.inl ⟨by omega, h2⟩
    · rw [if_neg e, ih']
      constructor
      · rintro ⟨h1, h2⟩
        exact ⟨by omega, h2⟩
      · rintro ⟨h1, h2⟩
        refine ⟨?_, h2⟩
        by_cases h : i = k
        · subst h; exact absurd h2 e
        · omega
theorem pa_ws_wi (p : Nat → Bool) {n : Nat} (hn : n ≤ 32) : pa_wi n (pa_ws p n) := fun i hi => ((pa_ws_bt p n hn i).mp hi).1
theorem pa_bext {x y : Int32} (h : ∀ i, bt x i = true ↔ bt y i = true) : x = y := by
  apply b_ext
  intro i _
  cases e : bt x i
  · cases e2 : bt y i
    · rfl
    · rw [← h i, e] at e2; cases e2
  · exact ((h i).mp e).symm
end
section
/-! sums -/
def pa_sum (f : Nat → Nat) : Nat → Nat
  | 0 => 0
  | k + 1 => pa_sum f k + f k
theorem pa_sum_le {f g : Nat → Nat} : ∀ {N : Nat}, (∀ k, k < N → f k ≤ g k) → pa_sum f N ≤ pa_sum g N
  | 0, _ => Nat.le_refl _
  | N + 1, h => by
    have a := pa_sum_le (f := f) (g := g) (N := N) (fun k hk => h k (by omega))
    have b := h N (by omega)
    simp only [pa_sum]; omega
theorem pa_sum_eq {f g : Nat → Nat} {N : Nat} (h : ∀ k, k < N → f k = g k) : pa_sum f N = pa_sum g N :=
  Nat.le_antisymm (pa_sum_le fun k hk => Nat.le_of_eq (h k hk)) (pa_sum_le fun k hk => Nat.le_of_eq (h k hk).symm)
theorem pa_sum_lt {f g : Nat → Nat} {a : Nat} (hg : f a < g a) : ∀ {N : Nat}, (∀ k, k < N → f k ≤ g k) → a < N → pa_sum f N < pa_sum g N
  | 0, _, h => by omega
  | N + 1, h, ha => by
    simp only [pa_sum]
    rcases Nat.lt_or_ge a N with z | z
    · have x := pa_sum_lt hg (N := N) (fun k hk => h k (by omega)) z
      have b := h N (by omega)
      omega
    · have e : a = N := by omega
      subst e
      have x := pa_sum_le (f := f) (g := g) (N := a) (fun k hk => h k (by omega))
      omega
theorem pa_sum_add (f g : Nat → Nat) : ∀ N, pa_sum (fun k => f k + g k) N = pa_sum f N + pa_sum g N
  | 0 => rfl
  | N + 1 => by
    have := pa_sum_add f g N
    simp only [pa_sum]; omega
theorem pa_sum_mul (c : Nat) (f : Nat → Nat) : ∀ N, pa_sum (fun k => c * f k) N = c * pa_sum f N
  | 0 => rfl
  | N + 1 => by
    have := pa_sum_mul c f N
    simp only [pa_sum]; rw [this, Nat.mul_add]
theorem pa_sum_bd {f : Nat → Nat} {b : Nat} : ∀ {N : Nat}, (∀ k, k < N → f k ≤ b) → pa_sum f N ≤ N * b
  | 0, _ => by simp [pa_sum]
  | N + 1, h => by
    have a := pa_sum_bd (f := f) (b := b) (N := N) (fun k hk => h k (by omega))
    have c := h N (by omega)
    simp only [pa_sum]; rw [Nat.add_mul, Nat.one_mul]; omega
theorem pa_sum_ext {f : Nat → Nat} {n : Nat} : ∀ {d : Nat}, (∀ k, n ≤ k → k < n + d → f k = 0) → pa_sum f (n + d) = pa_sum f n
  | 0, _ => rfl
  | d + 1, h => by
    have a := pa_sum_ext (f := f) (n := n) (d := d) (fun k h1 h2 => h k h1 (by omega))
    have b := h (n + d) (by omega) (by omega)
    show pa_sum f (n + d) + f (n + d) = _
    omega
theorem pa_sum_to {f : Nat → Nat} {n N : Nat} (hN : n ≤ N) (h : ∀ k, n ≤ k → k < N → f k = 0) : pa_sum f N = pa_sum f n := by
  obtain ⟨d, rfl⟩ : ∃ d, N = n + d := ⟨N - n, by omega⟩
  exact pa_sum_ext h
theorem pa_sum_3 (f : Nat → Nat) : ∀ N, pa_sum f (3 * N) = pa_sum (fun u => pa_sum (fun i => f (3 * u + i)) 3) N
  | 0 => rfl
  | N + 1 => by
    have := pa_sum_3 f N
    show pa_sum f (3 * N + 3) = _
    simp only [pa_sum] at this ⊢
    rw [this]
    simp only [Nat.add_zero, Nat.zero_add]
    omega
/-- how many of the ten lowest bits are set -/
def pa_on (x : Int32) : Nat := pa_sum (fun j => if bt x j = true then 1 else 0) 10
theorem pa_on_le {x y : Int32} (h : ∀ i, bt x i = true → bt y i = true) : pa_on x ≤ pa_on y := by
  apply pa_sum_le
  intro k _
  by_cases e : bt x k = true
  · rw [if_pos e, if_pos (h k e)]; omega
  · rw [if_neg e]; omega
theorem pa_on_lt {x y : Int32} (h : ∀ i, bt x i = true → bt y i = true) {a : Nat} (ha : a < 10) (hx : ¬ bt x a = true) (hy : bt y a = true) : pa_on x < pa_on y := by
  refine pa_sum_lt (a := a) ?_ ?_ ha
  · rw [if_neg hx, if_pos hy]; omega
  · intro k _
    by_cases e : bt x k = true
    · rw [if_pos e, if_pos (h k e)]; omega
    · rw [if_neg e]; omega
theorem pa_on_wi {n : Nat} {x : Int32} (hn : n ≤ 10) (h : pa_wi n x) : pa_on x = pa_sum (fun j => if bt x j = true then 1 else 0) n := by
  refine pa_sum_to hn ?_
  intro k h1 _
  rw [if_neg]
  intro hk
  have := h k hk
  omega
theorem pa_on_n {n : Nat} {x : Int32} (hn : n ≤ 10) (h : pa_wi n x) : pa_on x ≤ n := by
  rw [pa_on_wi hn h]
  have := pa_sum_bd (f := fun j => if bt x j = true then 1 else 0) (b := 1) (N := n) (by
    intro k _
    show (if bt x k = true then 1 else 0) ≤ 1
    by_cases e : bt x k = true
    · rw [if_pos e]; omega
    · rw [if_neg e]; omega)
  omega
/-! the problem -/
/-- S agrees with what is in and out -/
def pa_C (a b S : Int32) : Prop := (∀ i, bt a i = true → bt S i = true) ∧ ∀ i, bt b i = true → bt S i = true → False
def pa_So (n : Nat) (dN : Nat → Nat) (R M : Nat → Int32) (ma : Nat → Bool) (S : Int32) : Prop :=
  ∀ u, u < n → bt S u = true → R u &&& S = 0 ∧ ∀ i, i < dN u → ma (3 * u + i) = true → ¬ M (3 * u + i) &&& S = 0
/-- an optional need that is left open costs two -/
def pa_g (M : Nat → Int32) (oa : Nat → Bool) (b : Int32) (k : Nat) : Nat := if oa k = true ∧ M k &&& (b ^^^ (-1)) = 0 then 2 else 0
def pa_lc (dN : Nat → Nat) (M : Nat → Int32) (oa : Nat → Bool) (b : Int32) (u : Nat) : Nat := pa_sum (fun i => pa_g M oa b (3 * u + i)) (dN u)
def pa_h (dN L : Nat → Nat) (M : Nat → Int32) (oa : Nat → Bool) (a b : Int32) (u : Nat) : Nat := if bt a u = true then L u + pa_lc dN M oa b u else 0
def pa_co (n : Nat) (dN L : Nat → Nat) (M : Nat → Int32) (oa : Nat → Bool) (cu a b : Int32) : Nat :=
  5 * pa_on (a &&& (cu ^^^ (-1))) + 3 * pa_on (cu &&& b) + pa_sum (pa_h dN L M oa a b) n
theorem pa_g_le {M : Nat → Int32} {oa : Nat → Bool} {a b S : Int32} (h : pa_C a b S) (k : Nat) : pa_g M oa b k ≤ pa_g M oa (S ^^^ (-1)) k := by
  unfold pa_g
  by_cases e : oa k = true ∧ M k &&& (b ^^^ (-1)) = 0
  · rw [if_pos e, if_pos]
    · exact Nat.le_refl _
    · refine ⟨e.1, ?_⟩
      rw [pa_nn, pa_az]
      intro i h1 h2
      exact h.2 i (pa_axz.mp e.2 i h1) h2
  · rw [if_neg e]; omega
theorem pa_h_le {dN L : Nat → Nat} {M : Nat → Int32} {oa : Nat → Bool} {a b S : Int32} (h : pa_C a b S) (u : Nat) : pa_h dN L M oa a b u ≤ pa_h dN L M oa S (S ^^^ (-1)) u := by
  unfold pa_h
  by_cases e : bt a u = true
  · rw [if_pos e, if_pos (h.1 u e)]
    have : pa_lc dN M oa b u ≤ pa_lc dN M oa (S ^^^ (-1)) u := pa_sum_le fun i _ => pa_g_le h _
    omega
  · rw [if_neg e]; omega
theorem pa_co_le {n : Nat} {dN L : Nat → Nat} {M : Nat → Int32} {oa : Nat → Bool} {cu a b S : Int32} (h : pa_C a b S) : pa_co n dN L M oa cu a b ≤ pa_co n dN L M oa cu S (S ^^^ (-1)) := by
  unfold pa_co
  have h1 : pa_on (a &&& (cu ^^^ (-1))) ≤ pa_on (S &&& (cu ^^^ (-1))) := by
    apply pa_on_le
    intro i hi
    rw [b_and, Bool.and_eq_true] at hi ⊢
    exact ⟨h.1 i hi.1, hi.2⟩
  have h2 : pa_on (cu &&& b) ≤ pa_on (cu &&& (S ^^^ (-1))) := by
    apply pa_on_le
    intro i hi
    rw [b_and, Bool.and_eq_true] at hi ⊢
    refine ⟨hi.1, ?_⟩
    rw [pa_not _ (pa_lt hi.1)]
    cases e : bt S i
    · rfl
    · exact (h.2 i hi.2 e).elim
  have h3 : pa_sum (pa_h dN L M oa a b) n ≤ pa_sum (pa_h dN L M oa S (S ^^^ (-1))) n := pa_sum_le fun u _ => pa_h_le h u
  omega
theorem pa_on_10 (x : Int32) : pa_on x ≤ 10 := by
  have := pa_sum_bd (f := fun j => if bt x j = true then 1 else 0) (b := 1) (N := 10) (by
    intro k _
    show (if bt x k = true then 1 else 0) ≤ 1
    by_cases e : bt x k = true
    · rw [if_pos e]; omega
    · rw [if_neg e]; omega)
  exact this
theorem pa_co_bd {n : Nat} {dN L : Nat → Nat} {M : Nat → Int32} {oa : Nat → Bool} {cu a b : Int32} (hn : n ≤ 10) (hd : ∀ u, dN u ≤ 3) (hL : ∀ u, L u ≤ 9) : pa_co n dN L M oa cu a b ≤ 230 := by
  unfold pa_co
  have h1 := pa_on_10 (a &&& (cu ^^^ (-1)))
  have h2 := pa_on_10 (cu &&& b)
  have h3 : pa_sum (pa_h dN L M oa a b) n ≤ n * 15 := by
    apply pa_sum_bd
    intro u _
    have h4 : pa_lc dN M oa b u ≤ dN u * 2 := by
      apply pa_sum_bd
      intro i _
      show pa_g M oa b (3 * u + i) ≤ 2
      unfold pa_g
      by_cases e : oa (3 * u + i) = true ∧ M (3 * u + i) &&& (b ^^^ (-1)) = 0
      · rw [if_pos e]; omega
      · rw [if_neg e]; omega
    have h5 := hd u
    have h6 := hL u
    unfold pa_h
    by_cases e : bt a u = true
    · rw [if_pos e]; omega
    · rw [if_neg e]; omega
  omega
/-! the best among the feasible -/
def pa_lx (c : Nat → Nat) (s t : Nat) : Prop := c s < c t ∨ (c s = c t ∧ s ≤ t)
def pa_BB (Fe Q : Nat → Prop) (c : Nat → Nat) (bs bc : Int32) : Prop :=
  (bs = -1 ∧ ∀ s, Fe s → Q s → False) ∨ ∃ s, Fe s ∧ bs = nI s ∧ bc = nI (c s) ∧ ∀ t, Fe t → Q t → pa_lx c s t
theorem pa_BB_mono {Fe Q Q' : Nat → Prop} {c : Nat → Nat} {bs bc : Int32} (h : pa_BB Fe Q c bs bc) (hq : ∀ t, Fe t → Q' t → Q t) : pa_BB Fe Q' c bs bc := by
  rcases h with ⟨h1, h2⟩ | ⟨s, h1, h2, h3, h4⟩
  · exact Or.inl ⟨h1, fun s a b => h2 s a (hq s a b)⟩
  · exact Or.inr ⟨s, h1, h2, h3, fun t a b => h4 t a (hq t a b)⟩
/-- the answer of a plan: r, and its cost w -/
def pa_An (Fe : Nat → Prop) (c : Nat → Nat) (r w : Int32) : Prop :=
  (r = -2 ∧ w = -2 ∧ ∀ s, ¬ Fe s) ∨ ∃ s, Fe s ∧ r = nI s ∧ w = nI (c s) ∧ ∀ t, Fe t → pa_lx c s t
theorem pa_An_u {Fe : Nat → Prop} {c : Nat → Nat} {r w r' w' : Int32} (h : pa_An Fe c r w) (h' : pa_An Fe c r' w') : r' = r ∧ w' = w := by
  rcases h with ⟨h1, h2, h3⟩ | ⟨s, h1, h2, h3, h4⟩
  · rcases h' with ⟨g1, g2, g3⟩ | ⟨t, g1, g2, g3, g4⟩
    · exact ⟨g1.trans h1.symm, g2.trans h2.symm⟩
    · exact absurd g1 (h3 t)
  · rcases h' with ⟨g1, g2, g3⟩ | ⟨t, g1, g2, g3, g4⟩
    · exact absurd h1 (g3 s)
    · have a := h4 t g1
      have b := g4 s h1
      unfold pa_lx at a b
      have e : s = t := by omega
      subst e
      exact ⟨g2.trans h2.symm, g3.trans h3.symm⟩
end
section
/-! what is reckoned from the units, offers and needs -/
def pa_mx (f : Nat → Nat) : Nat → Nat
  | 0 => 0
  | k + 1 => if pa_mx f k ≤ f k then f k else pa_mx f k
theorem pa_mx_s (f : Nat → Nat) (k : Nat) : pa_mx f (k + 1) = if pa_mx f k ≤ f k then f k else pa_mx f k := rfl
theorem pa_mx_bd {f : Nat → Nat} {b : Nat} (h : ∀ k, f k ≤ b) : ∀ N, pa_mx f N ≤ b
  | 0 => Nat.zero_le _
  | N + 1 => by
    have a := pa_mx_bd h N
    have c := h N
    rw [pa_mx_s]
    by_cases e : pa_mx f N ≤ f N
    · rw [if_pos e]; exact c
    · rw [if_neg e]; exact a
theorem pa_mx_ge {f : Nat → Nat} : ∀ {N k : Nat}, k < N → f k ≤ pa_mx f N
  | 0, k, h => by omega
  | N + 1, k, h => by
    rw [pa_mx_s]
    by_cases e : k = N
    · subst e
      by_cases g : pa_mx f k ≤ f k
      · rw [if_pos g]; exact Nat.le_refl _
      · rw [if_neg g]; omega
    · have a := pa_mx_ge (f := f) (N := N) (k := k) (by omega)
      by_cases g : pa_mx f N ≤ f N
      · rw [if_pos g]; omega
      · rw [if_neg g]; exact a
def pa_ex (p : Nat → Bool) : Nat → Bool
  | 0 => false
  | k + 1 => pa_ex p k || p k
theorem pa_ex_iff (p : Nat → Bool) : ∀ k, pa_ex p k = true ↔ ∃ i, i < k ∧ p i = true
  | 0 => by
    constructor
    · intro h; cases h
    · rintro ⟨i, h, _⟩; omega
  | k + 1 => by
    show (pa_ex p k || p k) = true ↔ _
    rw [Bool.or_eq_true, pa_ex_iff p k]
    constructor
    · rintro (⟨i, h1, h2⟩ | h)
      · exact ⟨i, by omega, h2⟩
      · exact ⟨k, by omega, h⟩
    · rintro ⟨i, h1, h2⟩
      by_cases e : i = k
      · subst e; exact Or.inr h2
      · exact Or.inl ⟨i, by omega, h2⟩
def pa_rv (nm sg : Nat → Int32) (u v : Nat) : Bool := decide (u ≠ v) && decide (nm u = nm v) && (decide (sg u ≠ 0) || decide (sg v ≠ 0))
theorem pa_rv_iff {nm sg : Nat → Int32} {u v : Nat} : pa_rv nm sg u v = true ↔ u ≠ v ∧ nm u = nm v ∧ (sg u ≠ 0 ∨ sg v ≠ 0) := by
  unfold pa_rv
  rw [Bool.and_eq_true, Bool.and_eq_true, Bool.or_eq_true, decide_eq_true_eq, decide_eq_true_eq, decide_eq_true_eq, decide_eq_true_eq, and_assoc]
def pa_R (n : Nat) (nm sg : Nat → Int32) (u : Nat) : Int32 := pa_ws (pa_rv nm sg u) n
def pa_lf (nm : Nat → Int32) (vN : Nat → Nat) (u v : Nat) : Nat := if nm u = nm v then vN v - vN u else 0
def pa_L (n : Nat) (nm : Nat → Int32) (vN : Nat → Nat) (u : Nat) : Nat := pa_mx (pa_lf nm vN u) n
def pa_fi (ow ov : Nat → Int32) (kN : Nat → Nat) (nl nh : Nat → Int32) (k j : Nat) : Bool := decide (¬ ov j < nl k) && decide (¬ nh k < ov j) && decide (ow j = nI (kN k % 8))
theorem pa_fi_iff {ow ov : Nat → Int32} {kN : Nat → Nat} {nl nh : Nat → Int32} {k j : Nat} : pa_fi ow ov kN nl nh k j = true ↔ ¬ ov j < nl k ∧ ¬ nh k < ov j ∧ ow j = nI (kN k % 8) := by
  unfold pa_fi
  rw [Bool.and_eq_true, Bool.and_eq_true, decide_eq_true_eq, decide_eq_true_eq, decide_eq_true_eq, and_assoc]
def pa_mq (oN : Nat → Nat) (ow ov : Nat → Int32) (kN : Nat → Nat) (nl nh : Nat → Int32) (k v : Nat) : Bool := pa_ex (fun i => pa_fi ow ov kN nl nh k (3 * v + i)) (oN v)
def pa_M (n : Nat) (oN : Nat → Nat) (ow ov : Nat → Int32) (kN : Nat → Nat) (nl nh : Nat → Int32) (k : Nat) : Int32 := pa_ws (pa_mq oN ow ov kN nl nh k) n
def pa_ap (bi : Int32) (kN : Nat → Nat) (k : Nat) : Bool := decide (kN k / 8 % 4 = 0) || decide ((bi >>> ((nI (kN k / 8 % 4) - 1) &&& 31)) &&& 1 = 1)
def pa_ma (bi : Int32) (kN : Nat → Nat) (k : Nat) : Bool := decide (kN k < 32) && pa_ap bi kN k
def pa_oa (bi : Int32) (kN : Nat → Nat) (k : Nat) : Bool := !decide (kN k < 32) && pa_ap bi kN k
theorem pa_ma_t {bi : Int32} {kN : Nat → Nat} {k : Nat} (h1 : kN k < 32) (h2 : pa_ap bi kN k = true) : pa_ma bi kN k = true := by
  unfold pa_ma; rw [h2, decide_eq_true h1]; rfl
theorem pa_ma_i {bi : Int32} {kN : Nat → Nat} {k : Nat} (h : pa_ma bi kN k = true) : kN k < 32 ∧ pa_ap bi kN k = true := by
  unfold pa_ma at h
  rw [Bool.and_eq_true, decide_eq_true_eq] at h
  exact h
theorem pa_oa_t {bi : Int32} {kN : Nat → Nat} {k : Nat} (h1 : ¬ kN k < 32) (h2 : pa_ap bi kN k = true) : pa_oa bi kN k = true := by
  unfold pa_oa; rw [h2, decide_eq_false h1]; rfl
theorem pa_oa_i {bi : Int32} {kN : Nat → Nat} {k : Nat} (h : pa_oa bi kN k = true) : ¬ kN k < 32 ∧ pa_ap bi kN k = true := by
  unfold pa_oa at h
  rw [Bool.and_eq_true] at h
  refine ⟨fun g => ?_, h.2⟩
  rw [decide_eq_true g] at h
  exact absurd h.1 (by decide)
theorem pa_R_wi {n : Nat} {nm sg : Nat → Int32} (hn : n ≤ 10) (u : Nat) : pa_wi n (pa_R n nm sg u) := pa_ws_wi _ (by omega)
theorem pa_M_wi {n : Nat} {oN : Nat → Nat} {ow ov : Nat → Int32} {kN : Nat → Nat} {nl nh : Nat → Int32} (hn : n ≤ 10) (k : Nat) : pa_wi n (pa_M n oN ow ov kN nl nh k) := pa_ws_wi _ (by omega)
theorem pa_L_bd {n : Nat} {nm : Nat → Int32} {vN : Nat → Nat} (hv : ∀ u, vN u ≤ 9) (u : Nat) : pa_L n nm vN u ≤ 9 := by
  apply pa_mx_bd
  intro k
  unfold pa_lf
  have := hv k
  by_cases e : nm u = nm k
  · rw [if_pos e]; omega
  · rw [if_neg e]; omega
theorem pa_R_bt {n : Nat} {nm sg : Nat → Int32} (hn : n ≤ 10) {u v : Nat} : bt (pa_R n nm sg u) v = true ↔ v < n ∧ u ≠ v ∧ nm u = nm v ∧ (sg u ≠ 0 ∨ sg v ≠ 0) := by
  unfold pa_R
  rw [pa_ws_bt _ _ (by omega), pa_rv_iff]
theorem pa_M_bt {n : Nat} {oN : Nat → Nat} {ow ov : Nat → Int32} {kN : Nat → Nat} {nl nh : Nat → Int32} (hn : n ≤ 10) {k v : Nat} : bt (pa_M n oN ow ov kN nl nh k) v = true ↔ v < n ∧ ∃ i, i < oN v ∧ pa_fi ow ov kN nl nh k (3 * v + i) = true := by
  unfold pa_M
  rw [pa_ws_bt _ _ (by omega)]
  unfold pa_mq
  rw [pa_ex_iff]
/-! numbers -/
theorem pa_e3 {f : Nat → Nat} {u : Nat} (hu : u < 2 ^ 31) : 3 * nI u + pa_na f (nI u).toNatClampNeg = nI (3 * u + f u) := by
  rw [nI_clamp hu]
  show nI 3 * nI u + nI (f u) = _
  rw [pk_mul, nI_add]
theorem pa_m3 (u : Nat) : 3 * nI u = nI (3 * u) := pk_mul 3 u
theorem pa_and7 : ∀ q, q < 64 → nI q &&& 7 = nI (q % 8) := by decide +kernel
theorem pa_cond : ∀ q, q < 64 → (nI q >>> ((3 : Int32) &&& 31)) &&& 3 = nI (q / 8 % 4) := by decide +kernel
theorem pa_dif : ∀ a, a < 10 → ∀ b, b < 10 → ∀ l, l < 10 → (nI a - nI b ≤ nI l ↔ a - b ≤ l) := by decide +kernel
/-- or with B once any of the first i holds -/
def pa_wx (p : Nat → Bool) (s B : Int32) (i : Nat) : Int32 := if pa_ex p i = true then s ||| B else s
theorem pa_wx_0 (p : Nat → Bool) (s B : Int32) : pa_wx p s B 0 = s := rfl
theorem pa_wx_t {p : Nat → Bool} {s B : Int32} {i : Nat} (h : p i = true) : pa_wx p s B i ||| B = pa_wx p s B (i + 1) := by
  unfold pa_wx
  have e : pa_ex p (i + 1) = true := by
    show (pa_ex p i || p i) = true
    rw [h, Bool.or_true]
  rw [if_pos e]
  by_cases g : pa_ex p i = true
  · rw [if_pos g]
    apply b_ext
    intro j _
    rw [b_or, b_or]
    cases bt s j <;> cases bt B j <;> rfl
  · rw [if_neg g]
theorem pa_wx_f {p : Nat → Bool} {s B : Int32} {i : Nat} (h : p i = false) : pa_wx p s B i = pa_wx p s B (i + 1) := by
  unfold pa_wx
  have e : pa_ex p (i + 1) = pa_ex p i := by
    show (pa_ex p i || p i) = _
    rw [h, Bool.or_false]
  rw [e]
/-- what prepare has reckoned for the units below m -/
def pa_PR (m : Nat) (dN L : Nat → Nat) (R M : Nat → Int32) (me ri la : Nat → Int32) : Prop :=
  ∀ w, w < m → ri w = R w ∧ la w = nI (L w) ∧ ∀ i, i < dN w → me (3 * w + i) = M (3 * w + i)
end
section
/-! X: findMeeters and prepare -/
section
variable {n : Nat} {vN oN dN kN : Nat → Nat} {bi cu nt sp xi xo bc bs : Int32} {nm sg ow ov nl nh me ri la gI gO tu jo hx tc hp hy : Nat → Int32}
theorem pa_x_fm69t {post : Int32 → Prop} {J4 J17 : Int32 → Int32 → Prop} {k v j : Nat} {s : Int32} (hk : k < 30) (hj : j < 30) (hq : kN k ≤ 63)
    (ht : ow j = nI (kN k % 8) → J17 (s ||| ((1 : Int32) <<< (nI v &&& 31))) (nI (j + 1))) (hf : ¬ ow j = nI (kN k % 8) → J17 s (nI (j + 1))) :
    wX_findMeeters_69 post J4 J17 (nI k) s (nI v) (nI j) 1 (nI n) bi cu nt sp xi xo bc bs nm (pa_na vN) sg (pa_na oN) (pa_na dN) ow ov (pa_na kN) nl nh me ri la gI gO tu jo hx tc := by
  unfold wX_findMeeters_69
  have ck : (nI k).toNatClampNeg = k := nI_clamp (by omega)
  have cj : (nI j).toNatClampNeg = j := nI_clamp (by omega)
  have e7 : pa_na kN k &&& 7 = nI (kN k % 8) := pa_and7 (kN k) (by omega)
  rw [ck, cj, e7]
  refine br_f (by decide) ⟨vp_in_nI hj (by decide), vp_in_nI hk (by decide), br_c (fun h => nm_e (nm_r (nI_1 j) (ht h))) (fun h => nm_r (nI_1 j) (hf h))⟩
theorem pa_x_fm68 {post : Int32 → Prop} {J4 J17 : Int32 → Int32 → Prop} {k v j : Nat} {s : Int32} (h : J17 s (nI (j + 1))) :
    wX_findMeeters_68 post J4 J17 (nI k) s (nI v) (nI j) (nI n) bi cu nt sp xi xo bc bs nm (pa_na vN) sg (pa_na oN) (pa_na dN) ow ov (pa_na kN) nl nh me ri la gI gO tu jo hx tc := by
  unfold wX_findMeeters_68 wX_findMeeters_69
  exact br_t rfl (nm_r (nI_1 j) h)
theorem pa_x_fm17 {post : Int32 → Prop} {J4 : Int32 → Int32 → Prop} {k v : Nat} {s : Int32} (hk : k < 30) (hv : v < 10) (ho : oN v ≤ 3) (hq : kN k ≤ 63) :
    ∀ f i, oN v < f + i → i ≤ oN v → J4 (pa_wx (fun i => pa_fi ow ov kN nl nh k (3 * v + i)) s ((1 : Int32) <<< (nI v &&& 31)) (oN v)) (nI (v + 1)) →
    wX_findMeeters_17 post J4 (nI k) (nI v) (nI n) bi cu nt sp xi xo bc bs nm (pa_na vN) sg (pa_na oN) (pa_na dN) ow ov (pa_na kN) nl nh me ri la gI gO tu jo hx tc f (pa_wx (fun i => pa_fi ow ov kN nl nh k (3 * v + i)) s ((1 : Int32) <<< (nI v &&& 31)) i) (nI (3 * v + i)) := by
  intro f
  induction f with
  | zero => intro i h1 h2; omega
  | succ f ih =>
    intro i h1 h2 K
    rw [wX_findMeeters_17]; try dsimp only
    have ck : (nI k).toNatClampNeg = k := nI_clamp (by omega)
    have cj : (nI (3 * v + i)).toNatClampNeg = 3 * v + i := nI_clamp (by omega)
    rw [pa_e3 (show v < 2 ^ 31 by omega), ck, cj]
    refine ⟨vp_in_nI hv (by decide), pk_le (3 * v + oN v) (3 * v + i) (fun h => ?_) (fun h => ?_)⟩
    · have e : i = oN v := by omega
      rw [e]
      exact nm_r (nI_1 v) K
    · have hj : 3 * v + i < 30 := by omega
      have ihf : ¬ pa_fi ow ov kN nl nh k (3 * v + i) = true → wX_findMeeters_17 post J4 (nI k) (nI v) (nI n) bi cu nt sp xi xo bc bs nm (pa_na vN) sg (pa_na oN) (pa_na dN) ow ov (pa_na kN) nl nh me ri la gI gO tu jo hx tc f (pa_wx (fun i => pa_fi ow ov kN nl nh k (3 * v + i)) s ((1 : Int32) <<< (nI v &&& 31)) i) (nI (3 * v + i + 1)) := by
        intro g
        have g' : (fun i => pa_fi ow ov kN nl nh k (3 * v + i)) i = false := by
          show pa_fi ow ov kN nl nh k (3 * v + i) = false
          cases e : pa_fi ow ov kN nl nh k (3 * v + i)
          · rfl
          · exact absurd e g
        rw [pa_wx_f (p := fun i => pa_fi ow ov kN nl nh k (3 * v + i)) (i := i) g']
        exact ih (i + 1) (by omega) (by omega) K
      refine ⟨vp_in_nI hj (by decide), vp_in_nI hk (by decide), br_c (fun g => ?_) (fun g => ⟨vp_in_nI hj (by decide), vp_in_nI hk (by decide), br_c (fun g2 => ?_) (fun g2 => ?_)⟩)⟩
      · exact pa_x_fm68 (ihf (fun z => (pa_fi_iff.mp z).1 g))
      · exact pa_x_fm68 (ihf (fun z => (pa_fi_iff.mp z).2.1 g2))
      · refine pa_x_fm69t hk hj hq (fun g3 => ?_) (fun g3 => ihf (fun z => g3 (pa_fi_iff.mp z).2.2))
        have g' : (fun i => pa_fi ow ov kN nl nh k (3 * v + i)) i = true := pa_fi_iff.mpr ⟨g, g2, g3⟩
        rw [pa_wx_t (p := fun i => pa_fi ow ov kN nl nh k (3 * v + i)) (i := i) g']
        exact ih (i + 1) (by omega) (by omega) K
theorem pa_x_fm4 {post : Int32 → Prop} {k : Nat} (hn : n ≤ 10) (hk : k < 30) (ho : ∀ u, oN u ≤ 3) (hq : ∀ k, kN k ≤ 63) (K : post ((pa_M n oN ow ov kN nl nh) k)) :
    ∀ f v, n < f + v → v ≤ n → wX_findMeeters_4 post (nI k) (nI n) bi cu nt sp xi xo bc bs nm (pa_na vN) sg (pa_na oN) (pa_na dN) ow ov (pa_na kN) nl nh me ri la gI gO tu jo hx tc f (pa_ws (pa_mq oN ow ov kN nl nh k) v) (nI v) := by
  intro f
  induction f with
  | zero => intro v h1 h2; omega
  | succ f ih =>
    intro v h1 h2
    rw [wX_findMeeters_4]; try dsimp only
    refine pk_le n v (fun h => ?_) (fun h => ?_)
    · have e : v = n := by omega
      rw [e]
      exact K
    · have H := pa_x_fm17 (post := post) (J4 := wX_findMeeters_4 post (nI k) (nI n) bi cu nt sp xi xo bc bs nm (pa_na vN) sg (pa_na oN) (pa_na dN) ow ov (pa_na kN) nl nh me ri la gI gO tu jo hx tc f) (k := k) (v := v) (s := pa_ws (pa_mq oN ow ov kN nl nh k) v) (vN := vN) (dN := dN) (oN := oN) (kN := kN) (n := n) (bi := bi) (cu := cu) (nt := nt) (sp := sp) (xi := xi) (xo := xo) (bc := bc) (bs := bs) (nm := nm) (sg := sg) (ow := ow) (ov := ov) (nl := nl) (nh := nh) (me := me) (ri := ri) (la := la) (gI := gI) (gO := gO) (tu := tu) (jo := jo) (hx := hx) (tc := tc) hk (by omega) (ho v) (hq k) (oN v + 1) 0 (by omega) (by omega) (ih (v + 1) (by omega) (by omega))
      rw [pa_wx_0] at H
      exact nm_r (pa_m3 v) ⟨oN v + 1, H⟩
theorem pa_x_fm {post : Int32 → Prop} {k : Nat} (hn : n ≤ 10) (hk : k < 30) (ho : ∀ u, oN u ≤ 3) (hq : ∀ k, kN k ≤ 63) (K : post ((pa_M n oN ow ov kN nl nh) k)) : wpX_findMeeters post ((nI n), bi, cu, nt, sp, xi, xo, bc, bs, nm, (pa_na vN), sg, (pa_na oN), (pa_na dN), ow, ov, (pa_na kN), nl, nh, me, ri, la, gI, gO, tu, jo, hx, tc) (nI k) := by
  unfold wpX_findMeeters
  exact ⟨n + 1, pa_x_fm4 hn hk ho hq K (n + 1) 0 (by omega) (by omega)⟩
theorem pa_x_138 {post : SX → Prop} {J2 : _} {u : Nat} {me0 : Nat → Int32} (hn : n ≤ 10) (hu : u < n) (hd : ∀ u, dN u ≤ 3) (ho : ∀ u, oN u ≤ 3) (hq : ∀ k, kN k ≤ 63)
    (K : ∀ me, (∀ i, i < dN u → me (3 * u + i) = (pa_M n oN ow ov kN nl nh) (3 * u + i)) → (∀ k, k < 3 * u → me k = me0 k) → J2 (nI (u + 1)) nm (pa_na vN) sg (pa_na oN) (pa_na dN) ow ov (pa_na kN) nl nh me ri la gI gO tu jo hx tc) :
    ∀ f i me, dN u < f + i → i ≤ dN u → (∀ j, j < i → me (3 * u + j) = (pa_M n oN ow ov kN nl nh) (3 * u + j)) → (∀ k, k < 3 * u → me k = me0 k) →
    wX_prepare_138 post J2 (nI u) (nI n) bi cu nt sp xi xo bc bs f (nI (3 * u + i)) nm (pa_na vN) sg (pa_na oN) (pa_na dN) ow ov (pa_na kN) nl nh me ri la gI gO tu jo hx tc := by
  intro f
  induction f with
  | zero => intro i me h1 h2; omega
  | succ f ih =>
    intro i me h1 h2 h3 h4
    have hdu := hd u
    rw [wX_prepare_138]; try dsimp only
    have cj : (nI (3 * u + i)).toNatClampNeg = 3 * u + i := nI_clamp (by omega)
    rw [pa_e3 (show u < 2 ^ 31 by omega), cj]
    refine ⟨vp_in_nI (by omega) (by decide), pk_le (3 * u + dN u) (3 * u + i) (fun h => ?_) (fun h => ?_)⟩
    · have e : i = dN u := by omega
      subst e
      exact nm_r (nI_1 u) (K me h3 h4)
    · refine pa_x_fm hn (by omega) ho hq ⟨vp_in_nI (by omega) (by decide), nm_e (nm_r (nI_1 _) (ih (i + 1) _ (by omega) (by omega) (fun j hj => ?_) (fun k hk => ?_)))⟩
      · by_cases e : j = i
        · subst e; exact pk_us
        · rw [pk_un (by omega)]
          exact h3 j (by omega)
      · rw [pk_un (by omega)]
        exact h4 k hk
theorem pa_x_112 {post : SX → Prop} {J2 J26 : _} {u v : Nat} (hu : u < 10)
    (K : J26 (nI (v + 1)) nm (pa_na vN) sg (pa_na oN) (pa_na dN) ow ov (pa_na kN) nl nh me (upd ri u (ri u ||| ((1 : Int32) <<< (nI v &&& 31)))) la gI gO tu jo hx tc) : wX_prepare_112 post J2 J26 (nI u) (nI v) (nI n) bi cu nt sp xi xo bc bs nm (pa_na vN) sg (pa_na oN) (pa_na dN) ow ov (pa_na kN) nl nh me ri la gI gO tu jo hx tc := by
  unfold wX_prepare_112
  have c : (nI u).toNatClampNeg = u := nI_clamp (by omega)
  rw [c]
  exact ⟨vp_in_nI hu (by decide), vp_in_nI hu (by decide), nm_e (nm_r (nI_1 v) K)⟩
theorem pa_x_88 {post : SX → Prop} {J2 J26 : _} {u v : Nat} {z : Int32} (hu : u < 10) (hv : v < 10) (hs : nm u = nm v)
    (h1 : pa_rv nm sg u v = true → J26 (nI (v + 1)) nm (pa_na vN) sg (pa_na oN) (pa_na dN) ow ov (pa_na kN) nl nh me (upd ri u (ri u ||| ((1 : Int32) <<< (nI v &&& 31)))) (upd la u z) gI gO tu jo hx tc)
    (h0 : ¬ pa_rv nm sg u v = true → J26 (nI (v + 1)) nm (pa_na vN) sg (pa_na oN) (pa_na dN) ow ov (pa_na kN) nl nh me ri (upd la u z) gI gO tu jo hx tc) : wX_prepare_88 post J2 J26 (nI u) (nI v) z (nI u) (nI n) bi cu nt sp xi xo bc bs nm (pa_na vN) sg (pa_na oN) (pa_na dN) ow ov (pa_na kN) nl nh me ri la gI gO tu jo hx tc := by
  unfold wX_prepare_88
  have c : (nI u).toNatClampNeg = u := nI_clamp (by omega)
  have cv : (nI v).toNatClampNeg = v := nI_clamp (by omega)
  rw [c, cv]
  refine ⟨vp_in_nI hu (by decide), nm_e (pk_eq u v (fun e => nm_r (nI_1 v) (h0 (fun g => (pa_rv_iff.mp g).1 e))) (fun e => ⟨vp_in_nI hu (by decide), br_c (fun g => ⟨vp_in_nI hv (by decide), br_c (fun g2 => ?_) (fun g2 => ?_)⟩) (fun g => ?_)⟩))⟩
  · refine nm_r (nI_1 v) (h0 (fun z => ?_))
    rcases (pa_rv_iff.mp z).2.2 with q | q
    · exact q g
    · exact q g2
  · exact pa_x_112 hu (h1 (pa_rv_iff.mpr ⟨e, hs, Or.inr g2⟩))
  · exact pa_x_112 hu (h1 (pa_rv_iff.mpr ⟨e, hs, Or.inl g⟩))
theorem pa_x_26 {post : SX → Prop} {J2 : _} {u : Nat} {ri0 la0 : Nat → Int32} (hn : n ≤ 10) (hu : u < n) (hv : ∀ u, vN u ≤ 9)
    (K : ∀ ri la, ri u = (pa_R n nm sg) u → la u = nI ((pa_L n nm vN) u) → (∀ w, w ≠ u → ri w = ri0 w) → (∀ w, w ≠ u → la w = la0 w) → ∃ f, wX_prepare_138 post J2 (nI u) (nI n) bi cu nt sp xi xo bc bs f (nI (3 * u)) nm (pa_na vN) sg (pa_na oN) (pa_na dN) ow ov (pa_na kN) nl nh me ri la gI gO tu jo hx tc) :
    ∀ f v ri la, n < f + v → v ≤ n → ri u = pa_ws (pa_rv nm sg u) v → la u = nI (pa_mx (pa_lf nm vN u) v) → (∀ w, w ≠ u → ri w = ri0 w) → (∀ w, w ≠ u → la w = la0 w) →
    wX_prepare_26 post J2 (nI u) (nI n) bi cu nt sp xi xo bc bs f (nI v) nm (pa_na vN) sg (pa_na oN) (pa_na dN) ow ov (pa_na kN) nl nh me ri la gI gO tu jo hx tc := by
  intro f
  induction f with
  | zero => intro v ri la h1 h2; omega
  | succ f ih =>
    intro v ri la h1 h2 h3 h4 h5 h6
    rw [wX_prepare_26]; try dsimp only
    have c : (nI u).toNatClampNeg = u := nI_clamp (by omega)
    have cv : (nI v).toNatClampNeg = v := nI_clamp (by omega)
    rw [c, cv]
    refine pk_le n v (fun h => ?_) (fun h => ?_)
    · have e : v = n := by omega
      subst e
      exact nm_r (pa_m3 u) (K ri la h3 h4 h5 h6)
    · have hlf : pa_lf nm vN u v ≤ 9 := by
        unfold pa_lf
        have := hv v
        by_cases e : nm u = nm v
        · rw [if_pos e]; omega
        · rw [if_neg e]; omega
      have hmx : pa_mx (pa_lf nm vN u) v ≤ 9 := by
        apply pa_mx_bd
        intro k
        unfold pa_lf
        have := hv k
        by_cases e : nm u = nm k
        · rw [if_pos e]; omega
        · rw [if_neg e]; omega
      have hvu := hv u
      have hvv := hv v
      refine ⟨vp_in_nI (by omega) (by decide), vp_in_nI (by omega) (by decide), br_c (fun g => ?_) (fun g => ?_)⟩
      · have e1 : pa_lf nm vN u v = vN v - vN u := if_pos g
        have H : ∀ z, z = nI (pa_mx (pa_lf nm vN u) (v + 1)) → wX_prepare_88 post J2 (wX_prepare_26 post J2 (nI u) (nI n) bi cu nt sp xi xo bc bs f) (nI u) (nI v) z (nI u) (nI n) bi cu nt sp xi xo bc bs nm (pa_na vN) sg (pa_na oN) (pa_na dN) ow ov (pa_na kN) nl nh me ri la gI gO tu jo hx tc := by
          intro z hz
          refine pa_x_88 (by omega) (by omega) g (fun q => ?_) (fun q => ?_)
          · refine ih (v + 1) _ _ (by omega) (by omega) ?_ ?_ (fun w hw => ?_) (fun w hw => ?_)
            · rw [pk_us, h3]
              exact (if_pos q).symm
            · rw [pk_us]; exact hz
            · rw [pk_un hw]; exact h5 w hw
            · rw [pk_un hw]; exact h6 w hw
          · refine ih (v + 1) _ _ (by omega) (by omega) ?_ ?_ h5 (fun w hw => ?_)
            · rw [h3]
              exact (if_neg q).symm
            · rw [pk_us]; exact hz
            · rw [pk_un hw]; exact h6 w hw
        have D := pa_dif (vN v) (by omega) (vN u) (by omega) (pa_mx (pa_lf nm vN u) v) (by omega)
        refine ⟨vp_in_nI (by omega) (by decide), vp_in_nI (by omega) (by decide), nm_e ⟨vp_in_nI (by omega) (by decide), br_c (fun g2 => ⟨vp_in_nI (by omega) (by decide), H _ ?_⟩) (fun g2 => H _ ?_)⟩⟩
        · rw [h4] at g2 ⊢
          have g3 := D.mp g2
          rw [pa_mx_s, e1]
          by_cases e : pa_mx (pa_lf nm vN u) v ≤ vN v - vN u
          · rw [if_pos e]; exact congrArg nI (by omega)
          · rw [if_neg e]
        · rw [h4] at g2
          have g3 : ¬ vN v - vN u ≤ pa_mx (pa_lf nm vN u) v := fun z => g2 (D.mpr z)
          rw [pa_mx_s, e1, if_pos (by omega)]
          exact pk_sub (by omega)
      · have e1 : pa_lf nm vN u v = 0 := if_neg g
        refine nm_r (nI_1 v) (ih (v + 1) ri la (by omega) (by omega) ?_ ?_ h5 h6)
        · rw [h3]
          refine (if_neg ?_).symm
          intro q
          exact g (pa_rv_iff.mp q).2.1
        · rw [h4, pa_mx_s, e1]
          by_cases e : pa_mx (pa_lf nm vN u) v ≤ 0
          · rw [if_pos e]; exact congrArg nI (by omega)
          · rw [if_neg e]
theorem pa_x_p2 {post : SX → Prop} (hn : n ≤ 10) (hv : ∀ u, vN u ≤ 9) (hd : ∀ u, dN u ≤ 3) (ho : ∀ u, oN u ≤ 3) (hq : ∀ k, kN k ≤ 63)
    (K : ∀ me ri la, pa_PR n dN (pa_L n nm vN) (pa_R n nm sg) (pa_M n oN ow ov kN nl nh) me ri la → post ((nI n), bi, cu, nt, sp, xi, xo, bc, bs, nm, (pa_na vN), sg, (pa_na oN), (pa_na dN), ow, ov, (pa_na kN), nl, nh, me, ri, la, gI, gO, tu, jo, hx, tc)) :
    ∀ f u me ri la, n < f + u → u ≤ n → pa_PR u dN (pa_L n nm vN) (pa_R n nm sg) (pa_M n oN ow ov kN nl nh) me ri la → wX_prepare_2 post (nI n) bi cu nt sp xi xo bc bs f (nI u) nm (pa_na vN) sg (pa_na oN) (pa_na dN) ow ov (pa_na kN) nl nh me ri la gI gO tu jo hx tc := by
  intro f
  induction f with
  | zero => intro u me ri la h1 h2; omega
  | succ f ih =>
    intro u me ri la h1 h2 h3
    rw [wX_prepare_2]; try dsimp only
    have c : (nI u).toNatClampNeg = u := nI_clamp (by omega)
    rw [c]
    refine pk_le n u (fun h => ?_) (fun h => ⟨vp_in_nI (by omega) (by decide), nm_e ⟨vp_in_nI (by omega) (by decide), nm_e ⟨n + 1, ?_⟩⟩⟩)
    · have e : u = n := by omega
      subst e
      exact K me ri la h3
    · refine pa_x_26 (ri0 := ri) (la0 := la) hn h hv (fun ri1 la1 k1 k2 k3 k4 => ?_) (n + 1) 0 _ _ (by omega) (by omega) pk_us pk_us (fun w hw => pk_un hw) (fun w hw => pk_un hw)
      refine ⟨dN u + 1, pa_x_138 (me0 := me) hn h hd ho hq (fun me1 k5 k6 => ?_) (dN u + 1) 0 me (by omega) (by omega) (fun j hj => by omega) (fun k _ => rfl)⟩
      refine ih (u + 1) me1 ri1 la1 (by omega) (by omega) (fun w hw => ?_)
      by_cases e : w = u
      · subst e
        exact ⟨k1, k2, k5⟩
      · obtain ⟨q1, q2, q3⟩ := h3 w (by omega)
        have hdw := hd w
        refine ⟨(k3 w e).trans q1, (k4 w e).trans q2, fun i hi => (k6 _ (by omega)).trans (q3 i hi)⟩
theorem pa_x_prep {post : SX → Prop} (hn : n ≤ 10) (hv : ∀ u, vN u ≤ 9) (hd : ∀ u, dN u ≤ 3) (ho : ∀ u, oN u ≤ 3) (hq : ∀ k, kN k ≤ 63)
    (K : ∀ me ri la, pa_PR n dN (pa_L n nm vN) (pa_R n nm sg) (pa_M n oN ow ov kN nl nh) me ri la → post ((nI n), bi, cu, nt, sp, xi, xo, bc, bs, nm, (pa_na vN), sg, (pa_na oN), (pa_na dN), ow, ov, (pa_na kN), nl, nh, me, ri, la, gI, gO, tu, jo, hx, tc)) : wpX_prepare post ((nI n), bi, cu, nt, sp, xi, xo, bc, bs, nm, (pa_na vN), sg, (pa_na oN), (pa_na dN), ow, ov, (pa_na kN), nl, nh, me, ri, la, gI, gO, tu, jo, hx, tc) := by
  unfold wpX_prepare
  exact ⟨n + 1, pa_x_p2 hn hv hd ho hq K (n + 1) 0 me ri la (by omega) (by omega) (fun w hw => by omega)⟩
end
end
section
/-! X: isOptional, applies, isSound, ones, costOf -/
section
variable {n : Nat} {vN oN dN kN : Nat → Nat} {bi cu nt sp xi xo bc bs : Int32} {nm sg ow ov nl nh me ri la gI gO tu jo hx tc hp hy : Nat → Int32}
theorem pa_x_opt {post : Int32 → Prop} {k : Nat} (hk : k < 30) (hq : kN k ≤ 63) (h1 : kN k < 32 → post 0) (h2 : ¬ kN k < 32 → post 1) : wpX_isOptional post ((nI n), bi, cu, nt, sp, xi, xo, bc, bs, nm, (pa_na vN), sg, (pa_na oN), (pa_na dN), ow, ov, (pa_na kN), nl, nh, me, ri, la, gI, gO, tu, jo, hx, tc) (nI k) := by
  unfold wpX_isOptional
  have ck : (nI k).toNatClampNeg = k := nI_clamp (by omega)
  rw [ck]
  exact ⟨vp_in_nI hk (by decide), pk_lt (kN k) 32 h1 (fun h => h2 (by omega))⟩
theorem pa_x_app {post : Int32 → Prop} {k : Nat} (hk : k < 30) (hq : kN k ≤ 63) (h1 : pa_ap bi kN k = true → post 1) (h2 : ¬ pa_ap bi kN k = true → post 0) : wpX_applies post ((nI n), bi, cu, nt, sp, xi, xo, bc, bs, nm, (pa_na vN), sg, (pa_na oN), (pa_na dN), ow, ov, (pa_na kN), nl, nh, me, ri, la, gI, gO, tu, jo, hx, tc) (nI k) := by
  unfold wpX_applies
  have ck : (nI k).toNatClampNeg = k := nI_clamp (by omega)
  rw [ck]
  have e : (pa_na kN k >>> ((3 : Int32) &&& 31)) &&& 3 = nI (kN k / 8 % 4) := pa_cond (kN k) (by omega)
  refine ⟨vp_in_nI hk (by decide), nm_r e (pk_eq (kN k / 8 % 4) 0 (fun h => h1 ?_) (fun h => br_c (fun g => h1 ?_) (fun g => h2 ?_)))⟩
  · unfold pa_ap; rw [decide_eq_true h]; rfl
  · unfold pa_ap; rw [decide_eq_true g, Bool.or_true]
  · unfold pa_ap; rw [decide_eq_false h, decide_eq_false g]; decide
theorem pa_x_s36 {post : Int32 → Prop} {J2 : Int32 → Prop} {R M : Nat → Int32} {L : Nat → Nat} {S : Int32} {u : Nat} (hn : n ≤ 10) (hu : u < n) (hd : ∀ u, dN u ≤ 3) (hq : ∀ k, kN k ≤ 63) (hP : pa_PR n dN L R M me ri la)
    (hbad : ∀ i, i < dN u → (pa_ma bi kN) (3 * u + i) = true → M (3 * u + i) &&& S = 0 → post 0)
    (hok : (∀ i, i < dN u → (pa_ma bi kN) (3 * u + i) = true → ¬ M (3 * u + i) &&& S = 0) → J2 (nI (u + 1))) :
    ∀ f i, dN u < f + i → i ≤ dN u → (∀ j, j < i → (pa_ma bi kN) (3 * u + j) = true → ¬ M (3 * u + j) &&& S = 0) → wX_isSound_36 post J2 S (nI u) (nI n) bi cu nt sp xi xo bc bs nm (pa_na vN) sg (pa_na oN) (pa_na dN) ow ov (pa_na kN) nl nh me ri la gI gO tu jo hx tc f (nI (3 * u + i)) := by
  intro f
  induction f with
  | zero => intro i h1 h2; omega
  | succ f ih =>
    intro i h1 h2 h3
    have hdu := hd u
    rw [wX_isSound_36]; try dsimp only
    have cj : (nI (3 * u + i)).toNatClampNeg = 3 * u + i := nI_clamp (by omega)
    rw [pa_e3 (show u < 2 ^ 31 by omega), cj]
    refine ⟨vp_in_nI (by omega) (by decide), pk_le (3 * u + dN u) (3 * u + i) (fun h => ?_) (fun h => ?_)⟩
    · have e : i = dN u := by omega
      subst e
      exact nm_r (nI_1 u) (hok h3)
    · have hk := hq (3 * u + i)
      have em : me (3 * u + i) = M (3 * u + i) := (hP u hu).2.2 i (by omega)
      have nx : (¬ (pa_ma bi kN) (3 * u + i) = true ∨ ¬ M (3 * u + i) &&& S = 0) → wX_isSound_36 post J2 S (nI u) (nI n) bi cu nt sp xi xo bc bs nm (pa_na vN) sg (pa_na oN) (pa_na dN) ow ov (pa_na kN) nl nh me ri la gI gO tu jo hx tc f (nI (3 * u + i + 1)) := by
        intro g
        refine ih (i + 1) (by omega) (by omega) (fun j hj => ?_)
        by_cases e : j = i
        · subst e
          intro q
          rcases g with g | g
          · exact absurd q g
          · exact g
        · exact h3 j (by omega)
      refine pa_x_opt (by omega) hk (fun o => br_t rfl (pa_x_app (by omega) hk (fun a => br_f (by decide) ⟨vp_in_nI (by omega) (by decide), br_c (fun g => ?_) (fun g => ?_)⟩) (fun a => br_t rfl ?_))) (fun o => br_f (by decide) ?_)
      · rw [em] at g
        exact hbad i (by omega) (pa_ma_t o a) g
      · rw [em] at g
        exact nm_r (nI_1 _) (nx (Or.inr g))
      · exact nm_r (nI_1 _) (nx (Or.inl fun z => a (pa_ma_i z).2))
      · exact nm_r (nI_1 _) (nx (Or.inl fun z => o (pa_ma_i z).1))
theorem pa_x_s2 {post : Int32 → Prop} {R M : Nat → Int32} {L : Nat → Nat} {S : Int32} (hn : n ≤ 10) (hd : ∀ u, dN u ≤ 3) (hq : ∀ k, kN k ≤ 63) (hP : pa_PR n dN L R M me ri la)
    (h1 : pa_So n dN R M (pa_ma bi kN) S → post 1) (h0 : ¬ pa_So n dN R M (pa_ma bi kN) S → post 0) :
    ∀ f u, n < f + u → u ≤ n → pa_So u dN R M (pa_ma bi kN) S → wX_isSound_2 post S (nI n) bi cu nt sp xi xo bc bs nm (pa_na vN) sg (pa_na oN) (pa_na dN) ow ov (pa_na kN) nl nh me ri la gI gO tu jo hx tc f (nI u) := by
  intro f
  induction f with
  | zero => intro u h1 h2; omega
  | succ f ih =>
    intro u g1 g2 g3
    rw [wX_isSound_2]; try dsimp only
    have c : (nI u).toNatClampNeg = u := nI_clamp (by omega)
    rw [c, pa_bit1 (by omega)]
    refine pk_le n u (fun h => ?_) (fun h => br_c (fun b => ⟨vp_in_nI (by omega) (by decide), ?_⟩) (fun b => ?_))
    · have e : u = n := by omega
      subst e
      exact h1 g3
    · rw [(hP u h).1]
      refine br_c (fun r => nm_r (pa_m3 u) ⟨dN u + 1, ?_⟩) (fun r => ?_)
      · refine pa_x_s36 hn h hd hq hP (fun i hi ha hz => ?_) (fun hall => ?_) (dN u + 1) 0 (by omega) (by omega) (fun j hj => by omega)
        · exact h0 fun so => (so u h b).2 i hi ha hz
        · refine ih (u + 1) (by omega) (by omega) (fun w hw hb => ?_)
          by_cases e : w = u
          · subst e; exact ⟨r, hall⟩
          · exact g3 w (by omega) hb
      · exact h0 fun so => r (so u h b).1
    · refine nm_r (nI_1 u) (ih (u + 1) (by omega) (by omega) (fun w hw hb => ?_))
      by_cases e : w = u
      · subst e; exact absurd hb b
      · exact g3 w (by omega) hb
theorem pa_x_so {post : Int32 → Prop} {R M : Nat → Int32} {L : Nat → Nat} {S : Int32} (hn : n ≤ 10) (hd : ∀ u, dN u ≤ 3) (hq : ∀ k, kN k ≤ 63) (hP : pa_PR n dN L R M me ri la)
    (h1 : pa_So n dN R M (pa_ma bi kN) S → post 1) (h0 : ¬ pa_So n dN R M (pa_ma bi kN) S → post 0) : wpX_isSound post ((nI n), bi, cu, nt, sp, xi, xo, bc, bs, nm, (pa_na vN), sg, (pa_na oN), (pa_na dN), ow, ov, (pa_na kN), nl, nh, me, ri, la, gI, gO, tu, jo, hx, tc) S := by
  unfold wpX_isSound
  exact ⟨n + 1, pa_x_s2 hn hd hq hP h1 h0 (n + 1) 0 (by omega) (by omega) (fun w hw => by omega)⟩
theorem pa_x_o4 {post : Int32 → Prop} {x : Int32} (K : post (nI (pa_on x))) : ∀ f j, 10 < f + j → j ≤ 10 → wX_ones_4 post x f (nI (pa_sum (fun j => if bt x j = true then 1 else 0) j)) (nI j) := by
  intro f
  induction f with
  | zero => intro j h1 h2; omega
  | succ f ih =>
    intro j h1 h2
    rw [wX_ones_4]; try dsimp only
    refine pk_le 10 j (fun h => ?_) (fun h => nm_r (pa_add _ x (by omega)) (nm_r (nI_1 j) (ih (j + 1) (by omega) (by omega))))
    have e : j = 10 := by omega
    subst e
    exact K
theorem pa_x_ones {post : Int32 → Prop} {x : Int32} (K : post (nI (pa_on x))) : wpX_ones post x := by
  unfold wpX_ones
  exact ⟨11, pa_x_o4 K 11 0 (by omega) (by omega)⟩
theorem pa_x_c64 {post : Int32 → Prop} {J29 : Int32 → Int32 → Prop} {R M : Nat → Int32} {L : Nat → Nat} {a b : Int32} {u c : Nat} (hn : n ≤ 10) (hu : u < n) (hd : ∀ u, dN u ≤ 3) (hq : ∀ k, kN k ≤ 63) (hP : pa_PR n dN L R M me ri la)
    (K : J29 (nI (c + pa_lc dN M (pa_oa bi kN) b u)) (nI (u + 1))) :
    ∀ f i, dN u < f + i → i ≤ dN u → wX_costOf_64 post J29 a b (nI u) (nI n) bi cu nt sp xi xo bc bs nm (pa_na vN) sg (pa_na oN) (pa_na dN) ow ov (pa_na kN) nl nh me ri la gI gO tu jo hx tc f (nI (c + pa_sum (fun i => pa_g M (pa_oa bi kN) b (3 * u + i)) i)) (nI (3 * u + i)) := by
  intro f
  induction f with
  | zero => intro i h1 h2; omega
  | succ f ih =>
    intro i h1 h2
    have hdu := hd u
    rw [wX_costOf_64]; try dsimp only
    have cj : (nI (3 * u + i)).toNatClampNeg = 3 * u + i := nI_clamp (by omega)
    rw [pa_e3 (show u < 2 ^ 31 by omega), cj]
    refine ⟨vp_in_nI (by omega) (by decide), pk_le (3 * u + dN u) (3 * u + i) (fun h => ?_) (fun h => ?_)⟩
    · have e : i = dN u := by omega
      subst e
      exact nm_r (nI_1 u) K
    · have hk := hq (3 * u + i)
      have em : me (3 * u + i) = M (3 * u + i) := (hP u hu).2.2 i (by omega)
      have nx : ∀ g : Nat, pa_g M (pa_oa bi kN) b (3 * u + i) = g → wX_costOf_64 post J29 a b (nI u) (nI n) bi cu nt sp xi xo bc bs nm (pa_na vN) sg (pa_na oN) (pa_na dN) ow ov (pa_na kN) nl nh me ri la gI gO tu jo hx tc f (nI (c + pa_sum (fun i => pa_g M (pa_oa bi kN) b (3 * u + i)) i + g)) (nI (3 * u + i + 1)) := by
        intro g hg
        have H := ih (i + 1) (by omega) (by omega)
        have e : c + pa_sum (fun i => pa_g M (pa_oa bi kN) b (3 * u + i)) i + g = c + pa_sum (fun i => pa_g M (pa_oa bi kN) b (3 * u + i)) (i + 1) := by
          subst hg
          exact Nat.add_assoc _ _ _
        rw [e]
        exact H
      have z0 : nI (c + pa_sum (fun i => pa_g M (pa_oa bi kN) b (3 * u + i)) i) + 0 = nI (c + pa_sum (fun i => pa_g M (pa_oa bi kN) b (3 * u + i)) i + 0) := by rw [Int32.add_zero, Nat.add_zero]
      refine pa_x_opt (by omega) hk (fun o => br_t rfl ?_) (fun o => br_f (by decide) (pa_x_app (by omega) hk (fun p => br_f (by decide) ⟨vp_in_nI (by omega) (by decide), br_c (fun g => ?_) (fun g => ?_)⟩) (fun p => br_t rfl ?_)))
      · exact nm_r z0 (nm_r (nI_1 _) (nx 0 (if_neg fun z => (pa_oa_i z.1).1 o)))
      · rw [em] at g
        exact nm_r (nI_add _ 2) (nm_r (nI_1 _) (nx 2 (if_pos ⟨pa_oa_t o p, g⟩)))
      · rw [em] at g
        exact nm_r z0 (nm_r (nI_1 _) (nx 0 (if_neg fun z => g z.2)))
      · exact nm_r z0 (nm_r (nI_1 _) (nx 0 (if_neg fun z => p (pa_oa_i z.1).2)))
theorem pa_x_c29 {post : Int32 → Prop} {R M : Nat → Int32} {L : Nat → Nat} {a b : Int32} {c : Nat} (hn : n ≤ 10) (hd : ∀ u, dN u ≤ 3) (hq : ∀ k, kN k ≤ 63) (hP : pa_PR n dN L R M me ri la)
    (K : post (nI (c + pa_sum (pa_h dN L M (pa_oa bi kN) a b) n))) :
    ∀ f u, n < f + u → u ≤ n → wX_costOf_29 post a b (nI n) bi cu nt sp xi xo bc bs nm (pa_na vN) sg (pa_na oN) (pa_na dN) ow ov (pa_na kN) nl nh me ri la gI gO tu jo hx tc f (nI (c + pa_sum (pa_h dN L M (pa_oa bi kN) a b) u)) (nI u) := by
  intro f
  induction f with
  | zero => intro u h1 h2; omega
  | succ f ih =>
    intro u h1 h2
    rw [wX_costOf_29]; try dsimp only
    have cc : (nI u).toNatClampNeg = u := nI_clamp (by omega)
    rw [cc, pa_bit1 (by omega)]
    refine pk_le n u (fun h => ?_) (fun h => ?_)
    · have e : u = n := by omega
      subst e
      exact K
    · have H := ih (u + 1) (by omega) (by omega)
      refine br_c (fun g => ⟨vp_in_nI (by omega) (by decide), ?_⟩) (fun g => ?_)
      · rw [(hP u h).2.1]
        refine nm_r (nI_add _ _) (nm_r (pa_m3 u) ⟨dN u + 1, ?_⟩)
        refine pa_x_c64 (c := c + pa_sum (pa_h dN L M (pa_oa bi kN) a b) u + L u) hn h hd hq hP ?_ (dN u + 1) 0 (by omega) (by omega)
        have e : c + pa_sum (pa_h dN L M (pa_oa bi kN) a b) u + L u + pa_lc dN M (pa_oa bi kN) b u = c + pa_sum (pa_h dN L M (pa_oa bi kN) a b) (u + 1) := by
          have e2 : pa_h dN L M (pa_oa bi kN) a b u = L u + pa_lc dN M (pa_oa bi kN) b u := if_pos g
          show _ = c + (pa_sum (pa_h dN L M (pa_oa bi kN) a b) u + pa_h dN L M (pa_oa bi kN) a b u)
          omega
        rw [e]
        exact H
      · have e : c + pa_sum (pa_h dN L M (pa_oa bi kN) a b) u = c + pa_sum (pa_h dN L M (pa_oa bi kN) a b) (u + 1) := by
          have e2 : pa_h dN L M (pa_oa bi kN) a b u = 0 := if_neg g
          show _ = c + (pa_sum (pa_h dN L M (pa_oa bi kN) a b) u + pa_h dN L M (pa_oa bi kN) a b u)
          omega
        rw [e]
        exact nm_r (nI_1 u) H
theorem pa_x_cost {post : Int32 → Prop} {R M : Nat → Int32} {L : Nat → Nat} {a b : Int32} (hn : n ≤ 10) (hd : ∀ u, dN u ≤ 3) (hq : ∀ k, kN k ≤ 63) (hP : pa_PR n dN L R M me ri la)
    (K : post (nI (pa_co n dN L M (pa_oa bi kN) cu a b))) : wpX_costOf post ((nI n), bi, cu, nt, sp, xi, xo, bc, bs, nm, (pa_na vN), sg, (pa_na oN), (pa_na dN), ow, ov, (pa_na kN), nl, nh, me, ri, la, gI, gO, tu, jo, hx, tc) a b := by
  unfold wpX_costOf
  refine pa_x_ones (pa_x_ones ?_)
  have e : 5 * nI (pa_on (a &&& (cu ^^^ (-1)))) + 3 * nI (pa_on (cu &&& b)) = nI (5 * pa_on (a &&& (cu ^^^ (-1))) + 3 * pa_on (cu &&& b)) := by
    show nI 5 * nI _ + nI 3 * nI _ = _
    rw [pk_mul, pk_mul, nI_add]
  exact nm_r e ⟨n + 1, pa_x_c29 hn hd hq hP K (n + 1) 0 (by omega) (by omega)⟩
end
end
section
/-! X: force -/
def pa_sub (a b : Int32) : Prop := ∀ i, bt a i = true → bt b i = true
theorem pa_sub_r (a : Int32) : pa_sub a a := fun _ h => h
theorem pa_sub_t {a b c : Int32} (h : pa_sub a b) (g : pa_sub b c) : pa_sub a c := fun i q => g i (h i q)
theorem pa_sub_or {a b : Int32} : pa_sub a (a ||| b) := by
  intro i h
  rw [b_or, h]; rfl
theorem pa_sub_orr {a b : Int32} : pa_sub b (a ||| b) := by
  intro i h
  rw [b_or, h, Bool.or_true]
theorem pa_sub_a {a b : Int32} (h : pa_sub a b) (g : pa_sub b a) : a = b := pa_bext fun i => ⟨h i, g i⟩
theorem pa_or_e {a b : Int32} {i : Nat} (h : bt (a ||| b) i = true) : bt a i = true ∨ bt b i = true := by
  rw [b_or, Bool.or_eq_true] at h; exact h
def pa_kp (P : Int32 → Prop) (xi xo : Int32) : Prop := ∀ S, P S → pa_C xi xo S
def pa_nok (dN : Nat → Nat) (M : Nat → Int32) (ma : Nat → Bool) (xo : Int32) (w m : Nat) : Prop := ∀ i, i < m → ma (3 * w + i) = true → ¬ M (3 * w + i) &&& (xo ^^^ (-1)) = 0
def pa_Fx (m : Nat) (dN : Nat → Nat) (R M : Nat → Int32) (ma : Nat → Bool) (xi xo : Int32) : Prop :=
  ∀ w, w < m → bt xi w = true → pa_sub (R w) xo ∧ pa_nok dN M ma xo w (dN w)
theorem pa_pack {a b c d : Int32} (ha : pa_wi 10 a) (hb : pa_wi 10 b) (hc : pa_wi 10 c) (hd : pa_wi 10 d) (h : a ||| (b <<< ((10 : Int32) &&& 31)) = c ||| (d <<< ((10 : Int32) &&& 31))) : a = c ∧ b = d := by
  have sh : ∀ (x : Int32) {i : Nat}, i < 32 → bt (x <<< ((10 : Int32) &&& 31)) i = (decide (10 ≤ i) && bt x (i - 10)) := fun x i hi => b_shl 10 (by omega) x hi
  have key : ∀ (p q : Int32) (i : Nat), i < 10 → bt (p ||| (q <<< ((10 : Int32) &&& 31))) i = bt p i := by
    intro p q i hi
    rw [b_or, sh q (by omega), decide_eq_false (by omega), Bool.false_and, Bool.or_false]
  have key2 : ∀ (p q : Int32) (i : Nat), pa_wi 10 p → i < 10 → bt (p ||| (q <<< ((10 : Int32) &&& 31))) (i + 10) = bt q i := by
    intro p q i hp hi
    have e : bt p (i + 10) = false := by
      cases z : bt p (i + 10)
      · rfl
      · have := hp _ z; omega
    rw [b_or, sh q (by omega), decide_eq_true (by omega), Bool.true_and, e, Bool.false_or, Nat.add_sub_cancel]
  have half : ∀ x y : Int32, pa_wi 10 x → pa_wi 10 y → (∀ i, i < 10 → bt x i = bt y i) → x = y := by
    intro x y hx hy g
    apply pa_bext
    intro i
    constructor
    · intro q
      rw [← g i (hx i q)]; exact q
    · intro q
      rw [g i (hy i q)]; exact q
  constructor
  · refine half a c ha hc (fun i hi => ?_)
    rw [← key a b i hi, h, key c d i hi]
  · refine half b d hb hd (fun i hi => ?_)
    rw [← key2 a b i ha hi, h, key2 c d i hc hi]
section
variable {n : Nat} {vN oN dN kN : Nat → Nat} {bi cu nt sp xi xo bc bs : Int32} {nm sg ow ov nl nh me ri la gI gO tu jo hx tc hp hy : Nat → Int32}
theorem pa_x_fn4 {post : Int32 → SX → Prop} {P : Int32 → Prop} {R M : Nat → Int32} {L : Nat → Nat} {u : Nat} (hn : n ≤ 10) (hu : u < n) (hd : ∀ u, dN u ≤ 3) (hq : ∀ k, kN k ≤ 63) (hP : pa_PR n dN L R M me ri la)
    (hM : ∀ k, pa_wi n (M k)) (hS : ∀ S, P S → pa_So n dN R M (pa_ma bi kN) S)
    (hbad : (∀ S, P S → False) → ∀ xi, post 0 ((nI n), bi, cu, nt, sp, xi, xo, bc, bs, nm, (pa_na vN), sg, (pa_na oN), (pa_na dN), ow, ov, (pa_na kN), nl, nh, me, ri, la, gI, gO, tu, jo, hx, tc)) :
    ∀ f i xi, dN u < f + i → i ≤ dN u → bt xi u = true → pa_wi n xi → pa_kp P xi xo → pa_nok dN M (pa_ma bi kN) xo u i →
    (∀ xi', pa_wi n xi' → pa_sub xi xi' → pa_kp P xi' xo → pa_nok dN M (pa_ma bi kN) xo u (dN u) → post 1 ((nI n), bi, cu, nt, sp, xi', xo, bc, bs, nm, (pa_na vN), sg, (pa_na oN), (pa_na dN), ow, ov, (pa_na kN), nl, nh, me, ri, la, gI, gO, tu, jo, hx, tc)) →
    wX_forceNeeds_4 post (nI u) (nI n) bi cu nt sp xo bc bs nm (pa_na vN) sg (pa_na oN) (pa_na dN) ow ov (pa_na kN) nl nh me ri la gI gO tu jo hx tc f (nI (3 * u + i)) xi := by
  intro f
  induction f with
  | zero => intro i xi h1 h2; omega
  | succ f ih =>
    intro i xi h1 h2 hb hw hk hno hok
    have hdu := hd u
    rw [wX_forceNeeds_4]; try dsimp only
    have cj : (nI (3 * u + i)).toNatClampNeg = 3 * u + i := nI_clamp (by omega)
    rw [pa_e3 (show u < 2 ^ 31 by omega), cj]
    refine ⟨vp_in_nI (by omega) (by decide), pk_le (3 * u + dN u) (3 * u + i) (fun h => ?_) (fun h => ?_)⟩
    · have e : i = dN u := by omega
      subst e
      exact hok xi hw (pa_sub_r xi) hk hno
    · have hk6 := hq (3 * u + i)
      have em : me (3 * u + i) = M (3 * u + i) := (hP u hu).2.2 i (by omega)
      have nx : (¬ (pa_ma bi kN) (3 * u + i) = true ∨ ¬ M (3 * u + i) &&& (xo ^^^ (-1)) = 0) → ∀ xi', pa_wi n xi' → pa_sub xi xi' → pa_kp P xi' xo →
          wX_forceNeeds_4 post (nI u) (nI n) bi cu nt sp xo bc bs nm (pa_na vN) sg (pa_na oN) (pa_na dN) ow ov (pa_na kN) nl nh me ri la gI gO tu jo hx tc f (nI (3 * u + i + 1)) xi' := by
        intro g xi' q1 q2 q3
        refine ih (i + 1) xi' (by omega) (by omega) (q2 u hb) q1 q3 (fun j hj => ?_) (fun x3 w1 w2 w3 w4 => hok x3 w1 (pa_sub_t q2 w2) w3 w4)
        by_cases e : j = i
        · subst e
          intro q
          rcases g with g | g
          · exact absurd q g
          · exact g
        · exact hno j (by omega)
      refine pa_x_opt (by omega) hk6 (fun o => br_t rfl (pa_x_app (by omega) hk6 (fun a => br_f (by decide) ⟨vp_in_nI (by omega) (by decide), nm_r (e' := M (3 * u + i) &&& (xo ^^^ (-1))) (by rw [em]) ?_⟩) (fun a => br_t rfl ?_))) (fun o => br_f (by decide) ?_)
      · have hma := pa_ma_t o a
        have hex : ∀ S, P S → ∃ j, bt (M (3 * u + i)) j = true ∧ bt S j = true ∧ bt (M (3 * u + i) &&& (xo ^^^ (-1))) j = true := by
          intro S pS
          have c := hk S pS
          obtain ⟨j, j1, j2⟩ := pa_anz.mp ((hS S pS u hu (c.1 u hb)).2 i (by omega) hma)
          refine ⟨j, j1, j2, ?_⟩
          rw [b_and, j1, pa_not _ (pa_lt j1)]
          cases e : bt xo j
          · rfl
          · exact (c.2 j e j2).elim
        refine br_c (fun z => ?_) (fun z => br_c (fun z2 => br_c (fun z3 => ?_) (fun z3 => ?_)) (fun z2 => ?_))
        · refine hbad (fun S pS => ?_) xi
          obtain ⟨j, _, _, j3⟩ := hex S pS
          rw [z, b_0] at j3; cases j3
        · refine nm_e (nm_r (nI_1 _) (nx (Or.inr z) _ (pa_wi_or hw (pa_wi_and (hM _))) pa_sub_or (fun S pS => ⟨fun j hj => ?_, (hk S pS).2⟩)))
          rcases pa_or_e hj with q | q
          · exact (hk S pS).1 j q
          · obtain ⟨j', _, j2, j3⟩ := hex S pS
            have e : j = j' := pa_sb (pa_wi_le (pa_wi_and (hM _)) hn) z3 q j3
            rw [e]; exact j2
        · exact nm_r (nI_1 _) (nx (Or.inr z) xi hw (pa_sub_r xi) hk)
        · exact nm_r (nI_1 _) (nx (Or.inr z) xi hw (pa_sub_r xi) hk)
      · exact nm_r (nI_1 _) (nx (Or.inl fun z => a (pa_ma_i z).2) xi hw (pa_sub_r xi) hk)
      · exact nm_r (nI_1 _) (nx (Or.inl fun z => o (pa_ma_i z).1) xi hw (pa_sub_r xi) hk)
theorem pa_x_fn {post : Int32 → SX → Prop} {P : Int32 → Prop} {R M : Nat → Int32} {L : Nat → Nat} {u : Nat} (hn : n ≤ 10) (hu : u < n) (hd : ∀ u, dN u ≤ 3) (hq : ∀ k, kN k ≤ 63) (hP : pa_PR n dN L R M me ri la)
    (hM : ∀ k, pa_wi n (M k)) (hS : ∀ S, P S → pa_So n dN R M (pa_ma bi kN) S)
    (hbad : (∀ S, P S → False) → ∀ xi, post 0 ((nI n), bi, cu, nt, sp, xi, xo, bc, bs, nm, (pa_na vN), sg, (pa_na oN), (pa_na dN), ow, ov, (pa_na kN), nl, nh, me, ri, la, gI, gO, tu, jo, hx, tc)) (hb : bt xi u = true) (hw : pa_wi n xi) (hk : pa_kp P xi xo)
    (hok : ∀ xi', pa_wi n xi' → pa_sub xi xi' → pa_kp P xi' xo → pa_nok dN M (pa_ma bi kN) xo u (dN u) → post 1 ((nI n), bi, cu, nt, sp, xi', xo, bc, bs, nm, (pa_na vN), sg, (pa_na oN), (pa_na dN), ow, ov, (pa_na kN), nl, nh, me, ri, la, gI, gO, tu, jo, hx, tc)) :
    wpX_forceNeeds post ((nI n), bi, cu, nt, sp, xi, xo, bc, bs, nm, (pa_na vN), sg, (pa_na oN), (pa_na dN), ow, ov, (pa_na kN), nl, nh, me, ri, la, gI, gO, tu, jo, hx, tc) (nI u) := by
  unfold wpX_forceNeeds
  exact nm_r (pa_m3 u) ⟨dN u + 1, pa_x_fn4 hn hu hd hq hP hM hS hbad (dN u + 1) 0 xi (by omega) (by omega) hb hw hk (fun j hj => by omega) hok⟩
theorem pa_x_f23 {post : Int32 → SX → Prop} {J2 : _} {P : Int32 → Prop} {R M : Nat → Int32} {L : Nat → Nat} {r xb ob : Int32} (hn : n ≤ 10) (hd : ∀ u, dN u ≤ 3) (hq : ∀ k, kN k ≤ 63) (hP : pa_PR n dN L R M me ri la)
    (hM : ∀ k, pa_wi n (M k)) (hR : ∀ k, pa_wi n (R k)) (hS : ∀ S, P S → pa_So n dN R M (pa_ma bi kN) S) (hxb : pa_wi n xb) (hob : pa_wi n ob)
    (hbad : (∀ S, P S → False) → ∀ xi xo, post 0 ((nI n), bi, cu, nt, sp, xi, xo, bc, bs, nm, (pa_na vN), sg, (pa_na oN), (pa_na dN), ow, ov, (pa_na kN), nl, nh, me, ri, la, gI, gO, tu, jo, hx, tc))
    (hok : ∀ xi xo, pa_wi n xi → pa_wi n xo → pa_sub xb xi → pa_sub ob xo → pa_kp P xi xo → xi &&& xo = 0 → pa_Fx n dN R M (pa_ma bi kN) xi xo → post 1 ((nI n), bi, cu, nt, sp, xi, xo, bc, bs, nm, (pa_na vN), sg, (pa_na oN), (pa_na dN), ow, ov, (pa_na kN), nl, nh, me, ri, la, gI, gO, tu, jo, hx, tc))
    (hJ : ∀ xi xo, pa_wi n xi → pa_wi n xo → pa_sub xb xi → pa_sub ob xo → pa_kp P xi xo → xi &&& xo = 0 → ¬ (xi = xb ∧ xo = ob) → J2 (r + 1) (nI n) bi cu nt sp xi xo bc bs nm (pa_na vN) sg (pa_na oN) (pa_na dN) ow ov (pa_na kN) nl nh me ri la gI gO tu jo hx tc) :
    ∀ f v xi xo, n < f + v → v ≤ n → pa_wi n xi → pa_wi n xo → pa_sub xb xi → pa_sub ob xo → pa_kp P xi xo → (xi = xb → xo = ob → pa_Fx v dN R M (pa_ma bi kN) xi xo) →
    wX_force_23 post J2 r (xb ||| (ob <<< ((10 : Int32) &&& 31))) f (nI v) (nI n) bi cu nt sp xi xo bc bs nm (pa_na vN) sg (pa_na oN) (pa_na dN) ow ov (pa_na kN) nl nh me ri la gI gO tu jo hx tc := by
  intro f
  induction f with
  | zero => intro v xi xo h1 h2; omega
  | succ f ih =>
    intro v xi xo h1 h2 hw ho hsb hso hk hF
    rw [wX_force_23]; try dsimp only
    have c : (nI v).toNatClampNeg = v := nI_clamp (by omega)
    rw [c, pa_bit1 (by omega)]
    refine pk_le n v (fun h => br_c (fun z => br_c (fun e => ?_) (fun e => nm_e ?_)) (fun z => ?_)) (fun h => br_c (fun b => ⟨vp_in_nI (by omega) (by decide), ?_⟩) (fun b => ?_))
    · have ev : v = n := by omega
      subst ev
      obtain ⟨e1, e2⟩ := pa_pack (pa_wi_le hxb hn) (pa_wi_le hob hn) (pa_wi_le hw hn) (pa_wi_le ho hn) e
      exact hok xi xo hw ho hsb hso hk z (hF e1.symm e2.symm)
    · exact hJ xi xo hw ho hsb hso hk z (fun q => e (by rw [q.1, q.2]))
    · refine hbad (fun S pS => ?_) xi xo
      obtain ⟨j, j1, j2⟩ := pa_anz.mp z
      exact (hk S pS).2 j j2 ((hk S pS).1 j j1)
    · have er := (hP v h).1
      rw [er]
      refine nm_e ?_
      have hk' : pa_kp P xi (xo ||| R v) := by
        intro S pS
        refine ⟨(hk S pS).1, fun j j1 j2 => ?_⟩
        rcases pa_or_e j1 with q | q
        · exact (hk S pS).2 j q j2
        · exact pa_az.mp (hS S pS v h ((hk S pS).1 v b)).1 j q j2
      refine pa_x_fn (P := P) hn h hd hq hP hM hS (fun q xi' => br_t rfl (hbad q _ _)) b hw hk' (fun xi' w1 w2 w3 w4 => br_f (by decide) (nm_r (nI_1 v) ?_))
      refine ih (v + 1) xi' (xo ||| R v) (by omega) (by omega) w1 (pa_wi_or ho (hR v)) (pa_sub_t hsb w2) (pa_sub_t hso pa_sub_or) w3 (fun e1 e2 => ?_)
      have e3 : xi = xb := pa_sub_a (by rw [← e1]; exact w2) hsb
      have e4 : xo = ob := pa_sub_a (by rw [← e2]; exact pa_sub_or) hso
      have e5 : xi' = xi := e1.trans e3.symm
      have e6 : xo ||| R v = xo := e2.trans e4.symm
      intro w hw2 hbw
      by_cases ew : w = v
      · subst ew
        exact ⟨pa_sub_orr, w4⟩
      · rw [e5] at hbw
        rw [e6]
        exact hF e3 e4 w (by omega) hbw
    · refine nm_r (nI_1 v) (ih (v + 1) xi xo (by omega) (by omega) hw ho hsb hso hk (fun e1 e2 => ?_))
      intro w hw2 hbw
      by_cases ew : w = v
      · subst ew; exact absurd hbw b
      · exact hF e1 e2 w (by omega) hbw
theorem pa_on_up {n : Nat} {xi xo xb ob : Int32} (hn : n ≤ 10) (hw : pa_wi n xi) (ho : pa_wi n xo) (h1 : pa_sub xb xi) (h2 : pa_sub ob xo) (hz : xi &&& xo = 0) (hne : ¬ (xi = xb ∧ xo = ob)) : pa_on (xb ||| ob) < pa_on (xi ||| xo) := by
  have hs : pa_sub (xb ||| ob) (xi ||| xo) := by
    intro i hi
    rcases pa_or_e hi with q | q
    · exact pa_sub_or i (h1 i q)
    · exact pa_sub_orr i (h2 i q)
  have key : ∃ a, bt (xi ||| xo) a = true ∧ ¬ bt (xb ||| ob) a = true := by
    refine Classical.byContradiction fun g => hne ⟨?_, ?_⟩
    · refine (pa_sub_a h1 (fun i hi => Classical.byContradiction fun q => g ⟨i, pa_sub_or i hi, fun z => ?_⟩)).symm
      rcases pa_or_e z with w | w
      · exact q w
      · exact pa_az.mp hz i hi (h2 i w)
    · refine (pa_sub_a h2 (fun i hi => Classical.byContradiction fun q => g ⟨i, pa_sub_orr i hi, fun z => ?_⟩)).symm
      rcases pa_or_e z with w | w
      · exact pa_az.mp hz i (h1 i w) hi
      · exact q w
  obtain ⟨a, a1, a2⟩ := key
  have := pa_wi_or hw ho a a1
  exact pa_on_lt hs (by omega) a2 a1
theorem pa_x_f2 {post : Int32 → SX → Prop} {P : Int32 → Prop} {R M : Nat → Int32} {L : Nat → Nat} {a0 b0 : Int32} (hn : n ≤ 10) (hd : ∀ u, dN u ≤ 3) (hq : ∀ k, kN k ≤ 63) (hP : pa_PR n dN L R M me ri la)
    (hM : ∀ k, pa_wi n (M k)) (hR : ∀ k, pa_wi n (R k)) (hS : ∀ S, P S → pa_So n dN R M (pa_ma bi kN) S)
    (hbad : (∀ S, P S → False) → ∀ xi xo, post 0 ((nI n), bi, cu, nt, sp, xi, xo, bc, bs, nm, (pa_na vN), sg, (pa_na oN), (pa_na dN), ow, ov, (pa_na kN), nl, nh, me, ri, la, gI, gO, tu, jo, hx, tc))
    (hok : ∀ xi xo, pa_wi n xi → pa_wi n xo → pa_sub a0 xi → pa_sub b0 xo → pa_kp P xi xo → xi &&& xo = 0 → pa_Fx n dN R M (pa_ma bi kN) xi xo → post 1 ((nI n), bi, cu, nt, sp, xi, xo, bc, bs, nm, (pa_na vN), sg, (pa_na oN), (pa_na dN), ow, ov, (pa_na kN), nl, nh, me, ri, la, gI, gO, tu, jo, hx, tc)) :
    ∀ f r xi xo, 10 < f + r → r ≤ pa_on (xi ||| xo) → pa_wi n xi → pa_wi n xo → pa_sub a0 xi → pa_sub b0 xo → pa_kp P xi xo → wX_force_2 post f (nI r) (nI n) bi cu nt sp xi xo bc bs nm (pa_na vN) sg (pa_na oN) (pa_na dN) ow ov (pa_na kN) nl nh me ri la gI gO tu jo hx tc := by
  intro f
  induction f with
  | zero =>
    intro r xi xo h1 h2 hw ho
    have := pa_on_n hn (pa_wi_or hw ho)
    omega
  | succ f ih =>
    intro r xi xo h1 h2 hw ho hsa hsb hk
    have h10 := pa_on_n hn (pa_wi_or hw ho)
    rw [wX_force_2]; try dsimp only
    refine pk_lt 10 r (fun h => by omega) (fun h => nm_e ⟨n + 1, ?_⟩)
    refine pa_x_f23 (P := P) hn hd hq hP hM hR hS hw ho hbad (fun x y w1 w2 w3 w4 w5 w6 w7 => hok x y w1 w2 (pa_sub_t hsa w3) (pa_sub_t hsb w4) w5 w6 w7) (fun x y w1 w2 w3 w4 w5 w6 w7 => ?_) (n + 1) 0 xi xo (by omega) (by omega) hw ho (pa_sub_r _) (pa_sub_r _) hk (fun _ _ w hw => by omega)
    have h9 := pa_on_up hn w1 w2 w3 w4 w6 w7
    rw [nI_1]
    exact ih (r + 1) x y (by omega) (by omega) w1 w2 (pa_sub_t hsa w3) (pa_sub_t hsb w4) w5
theorem pa_x_force {post : Int32 → SX → Prop} {P : Int32 → Prop} {R M : Nat → Int32} {L : Nat → Nat} (hn : n ≤ 10) (hd : ∀ u, dN u ≤ 3) (hq : ∀ k, kN k ≤ 63) (hP : pa_PR n dN L R M me ri la)
    (hM : ∀ k, pa_wi n (M k)) (hR : ∀ k, pa_wi n (R k)) (hS : ∀ S, P S → pa_So n dN R M (pa_ma bi kN) S) (hw : pa_wi n xi) (ho : pa_wi n xo) (hk : pa_kp P xi xo)
    (hbad : (∀ S, P S → False) → ∀ xi xo, post 0 ((nI n), bi, cu, nt, sp, xi, xo, bc, bs, nm, (pa_na vN), sg, (pa_na oN), (pa_na dN), ow, ov, (pa_na kN), nl, nh, me, ri, la, gI, gO, tu, jo, hx, tc))
    (hok : ∀ xi' xo', pa_wi n xi' → pa_wi n xo' → pa_sub xi xi' → pa_sub xo xo' → pa_kp P xi' xo' → xi' &&& xo' = 0 → pa_Fx n dN R M (pa_ma bi kN) xi' xo' → post 1 ((nI n), bi, cu, nt, sp, xi', xo', bc, bs, nm, (pa_na vN), sg, (pa_na oN), (pa_na dN), ow, ov, (pa_na kN), nl, nh, me, ri, la, gI, gO, tu, jo, hx, tc)) :
    wpX_force post ((nI n), bi, cu, nt, sp, xi, xo, bc, bs, nm, (pa_na vN), sg, (pa_na oN), (pa_na dN), ow, ov, (pa_na kN), nl, nh, me, ri, la, gI, gO, tu, jo, hx, tc) := by
  unfold wpX_force
  exact ⟨11, pa_x_f2 hn hd hq hP hM hR hS hbad hok 11 0 xi xo (by omega) (by omega) hw ho (pa_sub_r _) (pa_sub_r _) hk⟩
end
end
section
/-! X: keep, firstOpen, offerBest; the node of the search -/
def pa_Fe (n : Nat) (dN : Nat → Nat) (R M : Nat → Int32) (ma : Nat → Bool) (w b : Int32) (t : Nat) : Prop := t < 2 ^ n ∧ pa_So n dN R M ma (nI t) ∧ pa_C w b (nI t)
def pa_cs (n : Nat) (dN L : Nat → Nat) (M : Nat → Int32) (oa : Nat → Bool) (cu : Int32) (t : Nat) : Nat := pa_co n dN L M oa cu (nI t) (nI t ^^^ (-1))
def pa_Nd (n : Nat) (dN : Nat → Nat) (R M : Nat → Int32) (ma : Nat → Bool) (w b xi xo : Int32) : Prop :=
  pa_wi n xi ∧ pa_wi n xo ∧ xi &&& xo = 0 ∧ pa_Fx n dN R M ma xi xo ∧ pa_sub w xi ∧ pa_sub b xo
def pa_T : Nat → Nat
  | 0 => 1
  | r + 1 => 2 * pa_T r + 3
def pa_NP (post : SX → Prop) (n : Nat) (vN oN dN kN : Nat → Nat) (bi cu nt sp : Int32) (nm sg ow ov nl nh me ri la jo hx tc : Nat → Int32) (R M : Nat → Int32) (L : Nat → Nat) (w b : Int32) (r : Nat) : Prop :=
  ∀ (d t f : Nat) (gI gO tu : Nat → Int32) (xi xo bc bs : Int32) (Q : Nat → Prop), d + r ≤ 10 → n ≤ pa_on (gI d ||| gO d) + r →
  pa_Nd n dN R M (pa_ma bi kN) w b (gI d) (gO d) → tu d = 0 → t + pa_T r ≤ 8000 → f + t = 9000 →
  pa_BB (pa_Fe n dN R M (pa_ma bi kN) w b) Q (pa_cs n dN L M (pa_oa bi kN) cu) bs bc →
  (∀ (t' f' : Nat) (gI' gO' tu' : Nat → Int32) (xi' xo' bc' bs' : Int32), t' ≤ t + pa_T r → f' + t' = 9000 → (∀ j, j < d → gI' j = gI j ∧ gO' j = gO j ∧ tu' j = tu j) →
    pa_BB (pa_Fe n dN R M (pa_ma bi kN) w b) (fun s => Q s ∨ pa_C (gI d) (gO d) (nI s)) (pa_cs n dN L M (pa_oa bi kN) cu) bs' bc' →
    wX_search_42 post f' (nI d + (-1)) (nI t') (nI n) bi cu nt sp xi' xo' bc' bs' nm (pa_na vN) sg (pa_na oN) (pa_na dN) ow ov (pa_na kN) nl nh me ri la gI' gO' tu' jo hx tc) →
  wX_search_42 post f (nI d) (nI t) (nI n) bi cu nt sp xi xo bc bs nm (pa_na vN) sg (pa_na oN) (pa_na dN) ow ov (pa_na kN) nl nh me ri la gI gO tu jo hx tc
theorem pa_on_ltn {n u : Nat} {x : Int32} (hn : n ≤ 10) (hx : pa_wi n x) (hu : u < n) (h : bt x u = false) : pa_on x < n := by
  rw [pa_on_wi hn hx]
  have h1 : pa_sum (fun _ => 1) n = n := by
    have : ∀ m, pa_sum (fun _ => 1) m = m := by
      intro m
      induction m with
      | zero => rfl
      | succ m ih => show pa_sum (fun _ => 1) m + 1 = m + 1; rw [ih]
    exact this n
  have h2 : pa_sum (fun j => if bt x j = true then 1 else 0) n < pa_sum (fun _ => 1) n := by
    refine pa_sum_lt (a := u) ?_ ?_ hu
    · show (if bt x u = true then 1 else 0) < 1
      rw [h]; decide
    · intro k _
      show (if bt x k = true then 1 else 0) ≤ 1
      by_cases e : bt x k = true
      · rw [if_pos e]; omega
      · rw [if_neg e]; omega
  omega
section
variable {n : Nat} {vN oN dN kN : Nat → Nat} {bi cu nt sp xi xo bc bs : Int32} {nm sg ow ov nl nh me ri la gI gO tu jo hx tc hp hy : Nat → Int32}
theorem pa_x_keep {post : SX → Prop} {d : Nat} (hd : d < 12) (K : post ((nI n), bi, cu, nt, sp, xi, xo, bc, bs, nm, (pa_na vN), sg, (pa_na oN), (pa_na dN), ow, ov, (pa_na kN), nl, nh, me, ri, la, (upd gI d xi), (upd gO d xo), (upd tu d 0), jo, hx, tc)) : wpX_keep post ((nI n), bi, cu, nt, sp, xi, xo, bc, bs, nm, (pa_na vN), sg, (pa_na oN), (pa_na dN), ow, ov, (pa_na kN), nl, nh, me, ri, la, gI, gO, tu, jo, hx, tc) (nI d) := by
  unfold wpX_keep
  have c : (nI d).toNatClampNeg = d := nI_clamp (by omega)
  rw [c]
  exact ⟨vp_in_nI hd (by decide), nm_e ⟨vp_in_nI hd (by decide), nm_e ⟨vp_in_nI hd (by decide), nm_e K⟩⟩⟩
theorem pa_x_foa {post : Int32 → Prop} {x : Int32} {u : Nat} (hn : n ≤ 10) (hu : u < n) (h0 : bt x u = false) (h1 : ∀ w, w < u → bt x w = true) (K : post (nI u)) :
    ∀ f v, u < f + v → v ≤ u → wX_firstOpen_2 post x (nI n) bi cu nt sp xi xo bc bs nm (pa_na vN) sg (pa_na oN) (pa_na dN) ow ov (pa_na kN) nl nh me ri la gI gO tu jo hx tc f (nI v) := by
  intro f
  induction f with
  | zero => intro v h1 h2; omega
  | succ f ih =>
    intro v g1 g2
    rw [wX_firstOpen_2]; try dsimp only
    rw [pa_bit0 (by omega)]
    refine pk_le n v (fun h => by omega) (fun h => ?_)
    by_cases e : v = u
    · subst e
      exact br_t h0 K
    · exact br_f (by rw [h1 v (by omega)]; decide) (nm_r (nI_1 v) (ih (v + 1) (by omega) (by omega)))
theorem pa_x_fob {post : Int32 → Prop} {x : Int32} (hn : n ≤ 10) (h1 : ∀ w, w < n → bt x w = true) (K : post (-1)) :
    ∀ f v, n < f + v → v ≤ n → wX_firstOpen_2 post x (nI n) bi cu nt sp xi xo bc bs nm (pa_na vN) sg (pa_na oN) (pa_na dN) ow ov (pa_na kN) nl nh me ri la gI gO tu jo hx tc f (nI v) := by
  intro f
  induction f with
  | zero => intro v h1 h2; omega
  | succ f ih =>
    intro v g1 g2
    rw [wX_firstOpen_2]; try dsimp only
    rw [pa_bit0 (by omega)]
    refine pk_le n v (fun h => K) (fun h => ?_)
    exact br_f (by rw [h1 v h]; decide) (nm_r (nI_1 v) (ih (v + 1) (by omega) (by omega)))
theorem pa_x_fo1 {post : Int32 → Prop} {x : Int32} {u : Nat} (hn : n ≤ 10) (hu : u < n) (h0 : bt x u = false) (h1 : ∀ w, w < u → bt x w = true) (K : post (nI u)) : wpX_firstOpen post ((nI n), bi, cu, nt, sp, xi, xo, bc, bs, nm, (pa_na vN), sg, (pa_na oN), (pa_na dN), ow, ov, (pa_na kN), nl, nh, me, ri, la, gI, gO, tu, jo, hx, tc) x := by
  unfold wpX_firstOpen
  exact ⟨u + 1, pa_x_foa hn hu h0 h1 K (u + 1) 0 (by omega) (by omega)⟩
theorem pa_x_fo0 {post : Int32 → Prop} {x : Int32} (hn : n ≤ 10) (h1 : ∀ w, w < n → bt x w = true) (K : post (-1)) : wpX_firstOpen post ((nI n), bi, cu, nt, sp, xi, xo, bc, bs, nm, (pa_na vN), sg, (pa_na oN), (pa_na dN), ow, ov, (pa_na kN), nl, nh, me, ri, la, gI, gO, tu, jo, hx, tc) x := by
  unfold wpX_firstOpen
  exact ⟨n + 1, pa_x_fob hn h1 K (n + 1) 0 (by omega) (by omega)⟩
theorem pa_x_ob {post : SX → Prop} {R M : Nat → Int32} {L : Nat → Nat} {Fe Q : Nat → Prop} {s : Nat} (hn : n ≤ 10) (hd : ∀ u, dN u ≤ 3) (hq : ∀ k, kN k ≤ 63) (hP : pa_PR n dN L R M me ri la) (hL : ∀ u, L u ≤ 9)
    (hF : ∀ t, Fe t → t < 2 ^ n) (hs : Fe s) (hB : pa_BB Fe Q (pa_cs n dN L M (pa_oa bi kN) cu) bs bc)
    (K : ∀ bc bs, pa_BB Fe (fun t => Q t ∨ t = s) (pa_cs n dN L M (pa_oa bi kN) cu) bs bc → post ((nI n), bi, cu, nt, sp, xi, xo, bc, bs, nm, (pa_na vN), sg, (pa_na oN), (pa_na dN), ow, ov, (pa_na kN), nl, nh, me, ri, la, gI, gO, tu, jo, hx, tc)) : wpX_offerBest post ((nI n), bi, cu, nt, sp, xi, xo, bc, bs, nm, (pa_na vN), sg, (pa_na oN), (pa_na dN), ow, ov, (pa_na kN), nl, nh, me, ri, la, gI, gO, tu, jo, hx, tc) (nI s) := by
  unfold wpX_offerBest
  refine pa_x_cost hn hd hq hP ?_
  have p10 := pa_p10 hn
  have s31 := hF s hs
  have hc : ∀ t, pa_cs n dN L M (pa_oa bi kN) cu t ≤ 230 := fun t => pa_co_bd hn hd hL
  have e : nI (pa_co n dN L M (pa_oa bi kN) cu (nI s) (nI s ^^^ (-1))) = nI (pa_cs n dN L M (pa_oa bi kN) cu s) := rfl
  rw [e]
  rcases hB with ⟨h1, h2⟩ | ⟨s0, h1, h2, h3, h4⟩
  · subst h1
    refine br_t (by decide) (K _ _ (Or.inr ⟨s, hs, rfl, rfl, fun t ft q => ?_⟩))
    rcases q with q | q
    · exact (h2 t ft q).elim
    · subst q; exact Or.inr ⟨rfl, Nat.le_refl _⟩
  · subst h2 h3
    have s0l := hF s0 h1
    have c1 := hc s
    have c2 := hc s0
    have new : pa_lx (pa_cs n dN L M (pa_oa bi kN) cu) s s0 → pa_BB Fe (fun t => Q t ∨ t = s) (pa_cs n dN L M (pa_oa bi kN) cu) (nI s) (nI (pa_cs n dN L M (pa_oa bi kN) cu s)) := by
      intro lx
      refine Or.inr ⟨s, hs, rfl, rfl, fun t ft q => ?_⟩
      rcases q with q | q
      · have := h4 t ft q
        unfold pa_lx at this lx ⊢
        omega
      · subst q; exact Or.inr ⟨rfl, Nat.le_refl _⟩
    have old : pa_lx (pa_cs n dN L M (pa_oa bi kN) cu) s0 s → pa_BB Fe (fun t => Q t ∨ t = s) (pa_cs n dN L M (pa_oa bi kN) cu) (nI s0) (nI (pa_cs n dN L M (pa_oa bi kN) cu s0)) := by
      intro lx
      refine Or.inr ⟨s0, h1, rfl, rfl, fun t ft q => ?_⟩
      rcases q with q | q
      · exact h4 t ft q
      · subst q; exact lx
    refine br_f (nI_pos (by omega)) (pk_lt (pa_cs n dN L M (pa_oa bi kN) cu s) (pa_cs n dN L M (pa_oa bi kN) cu s0) (fun h => K _ _ (new (Or.inl h))) (fun h => pk_eq (pa_cs n dN L M (pa_oa bi kN) cu s) (pa_cs n dN L M (pa_oa bi kN) cu s0) (fun g => pk_le s0 s (fun q => K _ _ (old (Or.inr ⟨g.symm, q⟩))) (fun q => K _ _ (new (Or.inr ⟨g, by omega⟩)))) (fun g => K _ _ (old (Or.inl (by omega))))))
end
end
section
/-! X: search -/
section
variable {n : Nat} {vN oN dN kN : Nat → Nat} {bi cu nt sp xi xo bc bs : Int32} {nm sg ow ov nl nh me ri la gI gO tu jo hx tc hp hy : Nat → Int32}
theorem pa_x_212 {post : SX → Prop} {R M : Nat → Int32} {L : Nat → Nat} {w b : Int32} {r d t f : Nat} {Q Q' : Nat → Prop} (hn : n ≤ 10)
    (ih : pa_NP post n vN oN dN kN bi cu nt sp nm sg ow ov nl nh me ri la jo hx tc R M L w b r)
    (hdr : d + 1 + r ≤ 10) (htt : t + 1 + pa_T r ≤ 8000) (hft : f + (t + 1) = 9000)
    (hN : pa_Nd n dN R M (pa_ma bi kN) w b xi xo) (hc : n ≤ pa_on (xi ||| xo) + r) (hB : pa_BB (pa_Fe n dN R M (pa_ma bi kN) w b) Q (pa_cs n dN L M (pa_oa bi kN) cu) bs bc)
    (hQ : ∀ s, pa_Fe n dN R M (pa_ma bi kN) w b s → Q' s → Q s ∨ pa_C xi xo (nI s))
    (K : ∀ (t' f' : Nat) (gI' gO' tu' : Nat → Int32) (xi' xo' bc' bs' : Int32), t' ≤ t + 1 + pa_T r → f' + t' = 9000 → (∀ j, j < d + 1 → gI' j = gI j ∧ gO' j = gO j ∧ tu' j = tu j) →
      pa_BB (pa_Fe n dN R M (pa_ma bi kN) w b) Q' (pa_cs n dN L M (pa_oa bi kN) cu) bs' bc' →
      wX_search_42 post f' (nI d) (nI t') (nI n) bi cu nt sp xi' xo' bc' bs' nm (pa_na vN) sg (pa_na oN) (pa_na dN) ow ov (pa_na kN) nl nh me ri la gI' gO' tu' jo hx tc) :
    wX_search_212 post (wX_search_42 post f) (nI d) (nI t) (nI n) bi cu nt sp xi xo bc bs nm (pa_na vN) sg (pa_na oN) (pa_na dN) ow ov (pa_na kN) nl nh me ri la gI gO tu jo hx tc := by
  unfold wX_search_212
  refine nm_r (nI_1 d) (pa_x_keep (by omega) (nm_r (nI_1 t) ?_))
  refine ih (d + 1) (t + 1) f _ _ _ _ _ _ _ Q hdr ?_ ?_ pk_us htt hft hB (fun t' f' gI' gO' tu' xi' xo' bc' bs' k1 k2 k3 k4 => ?_)
  · rw [pk_us, pk_us]; exact hc
  · rw [pk_us, pk_us]; exact hN
  · rw [pk_m1]
    rw [pk_us, pk_us] at k4
    refine K t' f' gI' gO' tu' xi' xo' bc' bs' k1 k2 (fun j hj => ?_) (pa_BB_mono k4 hQ)
    obtain ⟨a1, a2, a3⟩ := k3 j hj
    have ne : j ≠ d + 1 := by omega
    rw [pk_un ne] at a1 a2 a3
    exact ⟨a1, a2, a3⟩
theorem pa_x_169 {post : SX → Prop} {R M : Nat → Int32} {L : Nat → Nat} {w b : Int32} {r d t f : Nat} {Q : Nat → Prop} (hn : n ≤ 10) (hd : ∀ u, dN u ≤ 3) (hq : ∀ k, kN k ≤ 63) (hP : pa_PR n dN L R M me ri la)
    (hM : ∀ k, pa_wi n (M k)) (hR : ∀ k, pa_wi n (R k)) (hL : ∀ u, L u ≤ 9)
    (ih : pa_NP post n vN oN dN kN bi cu nt sp nm sg ow ov nl nh me ri la jo hx tc R M L w b r)
    (hdr : d + 1 + r ≤ 10) (htt : t + 1 + pa_T r ≤ 8000) (hft : f + (t + 1) = 9000)
    (hw1 : pa_wi n xi) (hw2 : pa_wi n xo) (hsw : pa_sub w xi) (hsb : pa_sub b xo) (hc : n ≤ pa_on (xi ||| xo) + r)
    (hB : pa_BB (pa_Fe n dN R M (pa_ma bi kN) w b) Q (pa_cs n dN L M (pa_oa bi kN) cu) bs bc)
    (K : ∀ (t' f' : Nat) (gI' gO' tu' : Nat → Int32) (xi' xo' bc' bs' : Int32), t' ≤ t + 1 + pa_T r → f' + t' = 9000 → (∀ j, j < d → gI' j = gI j ∧ gO' j = gO j ∧ tu' j = tu j) →
      gI' d = gI d → gO' d = gO d → tu' d = tu d + 1 →
      pa_BB (pa_Fe n dN R M (pa_ma bi kN) w b) (fun s => Q s ∨ pa_C xi xo (nI s)) (pa_cs n dN L M (pa_oa bi kN) cu) bs' bc' →
      wX_search_42 post f' (nI d) (nI t') (nI n) bi cu nt sp xi' xo' bc' bs' nm (pa_na vN) sg (pa_na oN) (pa_na dN) ow ov (pa_na kN) nl nh me ri la gI' gO' tu' jo hx tc) :
    wX_search_169 post (wX_search_42 post f) (nI d) (nI t) (nI n) bi cu nt sp xi xo bc bs nm (pa_na vN) sg (pa_na oN) (pa_na dN) ow ov (pa_na kN) nl nh me ri la gI gO tu jo hx tc := by
  unfold wX_search_169
  have c : (nI d).toNatClampNeg = d := nI_clamp (by omega)
  rw [c]
  have kt : ∀ j, j < d → gI j = gI j ∧ gO j = gO j ∧ upd tu d (tu d + 1) j = tu j := fun j hj => ⟨rfl, rfl, pk_un (by omega)⟩
  refine ⟨vp_in_nI (by omega) (by decide), vp_in_nI (by omega) (by decide), nm_e ?_⟩
  refine pa_x_force (P := fun S => pa_So n dN R M (pa_ma bi kN) S ∧ pa_C xi xo S) hn hd hq hP hM hR (fun S h => h.1) hw1 hw2 (fun S h => h.2) (fun q xi' xo' => br_t rfl (nm_r (nI_1 t) ?_)) (fun xi' xo' w1 w2 w3 w4 w5 w6 w7 => br_f (by decide) ?_)
  · refine K (t + 1) f gI gO _ xi' xo' bc bs (by omega) hft kt rfl rfl pk_us (pa_BB_mono hB (fun s fs h => ?_))
    rcases h with h | h
    · exact h
    · exact (q _ ⟨fs.2.1, h⟩).elim
  · have sub2 : ∀ s, pa_Fe n dN R M (pa_ma bi kN) w b s → pa_C xi xo (nI s) → pa_C xi' xo' (nI s) := fun s fs cs => w5 _ ⟨fs.2.1, cs⟩
    have hc2 : n ≤ pa_on (xi' ||| xo') + r := by
      have : pa_on (xi ||| xo) ≤ pa_on (xi' ||| xo') := by
        apply pa_on_le
        intro i hi
        rcases pa_or_e hi with z | z
        · exact pa_sub_or i (w3 i z)
        · exact pa_sub_orr i (w4 i z)
      omega
    have H : wX_search_212 post (wX_search_42 post f) (nI d) (nI t) (nI n) bi cu nt sp xi' xo' bc bs nm (pa_na vN) sg (pa_na oN) (pa_na dN) ow ov (pa_na kN) nl nh me ri la gI gO (upd tu d (tu d + 1)) jo hx tc := by
      refine pa_x_212 (Q := Q) (Q' := fun s => Q s ∨ pa_C xi xo (nI s)) hn ih hdr htt hft ⟨w1, w2, w6, w7, pa_sub_t hsw w3, pa_sub_t hsb w4⟩ hc2 hB (fun s fs h => ?_) (fun t' f' gI' gO' tu' xi2 xo2 bc' bs' k1 k2 k3 k4 => ?_)
      · rcases h with h | h
        · exact Or.inl h
        · exact Or.inr (sub2 s fs h)
      · refine K t' f' gI' gO' tu' xi2 xo2 bc' bs' k1 k2 (fun j hj => ?_) (k3 d (by omega)).1 (k3 d (by omega)).2.1 ((k3 d (by omega)).2.2.trans pk_us) k4
        obtain ⟨a1, a2, a3⟩ := k3 j (by omega)
        exact ⟨a1, a2, a3.trans (pk_un (by omega))⟩
    rcases hB with ⟨h1, h2⟩ | ⟨s0, h1, h2, h3, h4⟩
    · exact br_t (by rw [h1]; decide) H
    · have p10 := pa_p10 hn
      have l0 := h1.1
      have c1 : pa_cs n dN L M (pa_oa bi kN) cu s0 ≤ 230 := pa_co_bd hn hd hL
      have c2 : pa_co n dN L M (pa_oa bi kN) cu xi' xo' ≤ 230 := pa_co_bd hn hd hL
      refine br_f (by rw [h2]; exact nI_pos (by omega)) (pa_x_cost hn hd hq hP (pk_lt (pa_cs n dN L M (pa_oa bi kN) cu s0) (pa_co n dN L M (pa_oa bi kN) cu xi' xo') (fun h => nm_r (nI_1 t) ?_) (fun h => H) h3 rfl))
      refine K (t + 1) f gI gO _ xi' xo' bc bs (by omega) hft kt rfl rfl pk_us (Or.inr ⟨s0, h1, h2, h3, fun s fs q => ?_⟩)
      rcases q with q | q
      · exact h4 s fs q
      · have g : pa_co n dN L M (pa_oa bi kN) cu xi' xo' ≤ pa_cs n dN L M (pa_oa bi kN) cu s := pa_co_le (sub2 s fs q)
        exact Or.inl (by omega)
theorem pa_x_t0 {post : SX → Prop} {d t f u : Nat} (hn : n ≤ 10) (hd : d < 12) (ht : t < 8192) (hu : u < n) (h0 : bt (gI d ||| gO d) u = false) (h1 : ∀ w, w < u → bt (gI d ||| gO d) w = true) (ht0 : tu d = 0)
    (H : wX_search_169 post (wX_search_42 post f) (nI d) (nI t) (nI n) bi cu nt sp (gI d) (gO d ||| ((1 : Int32) <<< (nI u &&& 31))) bc bs nm (pa_na vN) sg (pa_na oN) (pa_na dN) ow ov (pa_na kN) nl nh me ri la gI gO tu jo hx tc) : wX_search_42 post (f + 1) (nI d) (nI t) (nI n) bi cu nt sp xi xo bc bs nm (pa_na vN) sg (pa_na oN) (pa_na dN) ow ov (pa_na kN) nl nh me ri la gI gO tu jo hx tc := by
  rw [wX_search_42]; try dsimp only
  have c : (nI d).toNatClampNeg = d := nI_clamp (by omega)
  rw [c]
  have vi : vp_in (nI d) 12 := vp_in_nI hd (by decide)
  refine pk_le 8192 t (fun h => by omega) (fun h => br_f (nI_pos (by omega)) ⟨vi, vi, pa_x_fo1 hn hu h0 h1 (br_f ?_ ⟨vi, br_f (by rw [ht0]; decide) ⟨vi, nm_e ⟨vi, nm_e ⟨vi, br_t ht0 (nm_e H)⟩⟩⟩⟩)⟩)
  intro z
  exact nI_pos (n := u) (by omega) (by rw [z]; decide)
theorem pa_x_t1 {post : SX → Prop} {d t f u : Nat} (hn : n ≤ 10) (hd : d < 12) (ht : t < 8192) (hu : u < n) (h0 : bt (gI d ||| gO d) u = false) (h1 : ∀ w, w < u → bt (gI d ||| gO d) w = true) (ht1 : tu d = 1)
    (H : wX_search_169 post (wX_search_42 post f) (nI d) (nI t) (nI n) bi cu nt sp (gI d ||| ((1 : Int32) <<< (nI u &&& 31))) (gO d) bc bs nm (pa_na vN) sg (pa_na oN) (pa_na dN) ow ov (pa_na kN) nl nh me ri la gI gO tu jo hx tc) : wX_search_42 post (f + 1) (nI d) (nI t) (nI n) bi cu nt sp xi xo bc bs nm (pa_na vN) sg (pa_na oN) (pa_na dN) ow ov (pa_na kN) nl nh me ri la gI gO tu jo hx tc := by
  rw [wX_search_42]; try dsimp only
  have c : (nI d).toNatClampNeg = d := nI_clamp (by omega)
  rw [c]
  have vi : vp_in (nI d) 12 := vp_in_nI hd (by decide)
  refine pk_le 8192 t (fun h => by omega) (fun h => br_f (nI_pos (by omega)) ⟨vi, vi, pa_x_fo1 hn hu h0 h1 (br_f ?_ ⟨vi, br_f (by rw [ht1]; decide) ⟨vi, nm_e ⟨vi, nm_e ⟨vi, br_f (by rw [ht1]; decide) (nm_e H)⟩⟩⟩⟩)⟩)
  intro z
  exact nI_pos (n := u) (by omega) (by rw [z]; decide)
theorem pa_x_t2 {post : SX → Prop} {d t f u : Nat} (hn : n ≤ 10) (hd : d < 12) (ht : t < 8192) (hu : u < n) (h0 : bt (gI d ||| gO d) u = false) (h1 : ∀ w, w < u → bt (gI d ||| gO d) w = true) (ht2 : tu d = 2)
    (H : wX_search_42 post f (nI d + (-1)) (nI (t + 1)) (nI n) bi cu nt sp xi xo bc bs nm (pa_na vN) sg (pa_na oN) (pa_na dN) ow ov (pa_na kN) nl nh me ri la gI gO tu jo hx tc) : wX_search_42 post (f + 1) (nI d) (nI t) (nI n) bi cu nt sp xi xo bc bs nm (pa_na vN) sg (pa_na oN) (pa_na dN) ow ov (pa_na kN) nl nh me ri la gI gO tu jo hx tc := by
  rw [wX_search_42]; try dsimp only
  have c : (nI d).toNatClampNeg = d := nI_clamp (by omega)
  rw [c]
  have vi : vp_in (nI d) 12 := vp_in_nI hd (by decide)
  refine pk_le 8192 t (fun h => by omega) (fun h => br_f (nI_pos (by omega)) ⟨vi, vi, pa_x_fo1 hn hu h0 h1 (br_f ?_ ⟨vi, br_t ht2 (nm_e (nm_r (nI_1 t) H))⟩)⟩)
  intro z
  exact nI_pos (n := u) (by omega) (by rw [z]; decide)
theorem pa_x_leaf {post : SX → Prop} {R M : Nat → Int32} {L : Nat → Nat} {w b : Int32} {d t f : Nat} {Q : Nat → Prop} (hn : n ≤ 10) (hd : ∀ u, dN u ≤ 3) (hq : ∀ k, kN k ≤ 63) (hP : pa_PR n dN L R M me ri la)
    (hM : ∀ k, pa_wi n (M k)) (hL : ∀ u, L u ≤ 9) (hd12 : d < 12) (ht : t < 8192)
    (hN : pa_Nd n dN R M (pa_ma bi kN) w b (gI d) (gO d)) (hB : pa_BB (pa_Fe n dN R M (pa_ma bi kN) w b) Q (pa_cs n dN L M (pa_oa bi kN) cu) bs bc)
    (hall : ∀ u, u < n → bt (gI d ||| gO d) u = true)
    (K : ∀ (bc' bs' : Int32), pa_BB (pa_Fe n dN R M (pa_ma bi kN) w b) (fun s => Q s ∨ pa_C (gI d) (gO d) (nI s)) (pa_cs n dN L M (pa_oa bi kN) cu) bs' bc' →
      wX_search_42 post f (nI d + (-1)) (nI (t + 1)) (nI n) bi cu nt sp xi xo bc' bs' nm (pa_na vN) sg (pa_na oN) (pa_na dN) ow ov (pa_na kN) nl nh me ri la gI gO tu jo hx tc) :
    wX_search_42 post (f + 1) (nI d) (nI t) (nI n) bi cu nt sp xi xo bc bs nm (pa_na vN) sg (pa_na oN) (pa_na dN) ow ov (pa_na kN) nl nh me ri la gI gO tu jo hx tc := by
  rw [wX_search_42]; try dsimp only
  have c : (nI d).toNatClampNeg = d := nI_clamp (by omega)
  rw [c]
  have vi : vp_in (nI d) 12 := vp_in_nI hd12 (by decide)
  obtain ⟨n1, n2, n3, n4, n5, n6⟩ := hN
  have hz := pa_az.mp n3
  obtain ⟨s, hs, es⟩ := pa_ofwi n1
  have hfe : pa_Fe n dN R M (pa_ma bi kN) w b s := by
    refine ⟨hs, ?_, ?_, ?_⟩
    · rw [← es]
      intro u hu hbu
      obtain ⟨a1, a2⟩ := n4 u hu hbu
      refine ⟨pa_az.mpr fun i b1 b2 => hz i b2 (a1 i b1), fun i hi hma => ?_⟩
      obtain ⟨j, j1, j2⟩ := pa_anz.mp (a2 i hi hma)
      refine pa_anz.mpr ⟨j, j1, ?_⟩
      rcases pa_or_e (hall j (hM _ j j1)) with q | q
      · exact q
      · rw [pa_nott j2] at q; cases q
    · rw [← es]; exact n5
    · rw [← es]; exact fun i b1 b2 => hz i b2 (n6 i b1)
  have p10 := pa_p10 hn
  refine pk_le 8192 t (fun h => by omega) (fun h => br_f (nI_pos (by omega)) ⟨vi, vi, pa_x_fo0 hn hall (br_t rfl ⟨vi, ?_⟩)⟩)
  rw [es]
  refine pa_x_ob (Fe := pa_Fe n dN R M (pa_ma bi kN) w b) (Q := Q) hn hd hq hP hL (fun t ft => ft.1) hfe hB (fun bc' bs' hB' => nm_e (nm_r (nI_1 t) (K bc' bs' (pa_BB_mono hB' (fun t ft q => ?_)))))
  rcases q with q | q
  · exact Or.inl q
  · refine Or.inr ?_
    have e : nI t = nI s := by
      rw [← es]
      refine pa_bext fun i => ⟨fun hi => ?_, fun hi => q.1 i hi⟩
      rcases pa_or_e (hall i (pa_wiof ft.1 i hi)) with z | z
      · exact z
      · exact (q.2 i z hi).elim
    have l1 := ft.1
    exact pa_inj (by omega) (by omega) e
theorem pa_x_node {post : SX → Prop} {R M : Nat → Int32} {L : Nat → Nat} {w b : Int32} (hn : n ≤ 10) (hd : ∀ u, dN u ≤ 3) (hq : ∀ k, kN k ≤ 63) (hP : pa_PR n dN L R M me ri la)
    (hM : ∀ k, pa_wi n (M k)) (hR : ∀ k, pa_wi n (R k)) (hL : ∀ u, L u ≤ 9) :
    ∀ r, pa_NP post n vN oN dN kN bi cu nt sp nm sg ow ov nl nh me ri la jo hx tc R M L w b r := by
  intro r
  induction r with
  | zero =>
    intro d t f gI gO tu xi xo bc bs Q hdr hc hN ht0 htt hft hB K
    have htt' : t + 1 ≤ 8000 := htt
    obtain ⟨f, rfl⟩ : ∃ g, f = g + 1 := ⟨f - 1, by omega⟩
    have hall : ∀ u, u < n → bt (gI d ||| gO d) u = true := by
      intro u hu
      cases e : bt (gI d ||| gO d) u
      · have := pa_on_ltn hn (pa_wi_or hN.1 hN.2.1) hu e
        omega
      · rfl
    refine pa_x_leaf hn hd hq hP hM hL (by omega) (by omega) hN hB hall (fun bc' bs' hB' => K (t + 1) f gI gO tu xi xo bc' bs' (Nat.le_refl _) (by omega) (fun j _ => ⟨rfl, rfl, rfl⟩) hB')
  | succ r ih =>
    intro d t f gI gO tu xi xo bc bs Q hdr hc hN ht0 htt hft hB K
    have hT : pa_T (r + 1) = 2 * pa_T r + 3 := rfl
    have hT1 : 1 ≤ pa_T r := by
      cases r with
      | zero => exact Nat.le_refl _
      | succ r => show 1 ≤ 2 * pa_T r + 3; omega
    obtain ⟨f, rfl⟩ : ∃ g, f = g + 1 := ⟨f - 1, by omega⟩
    by_cases hall : ∀ u, u < n → bt (gI d ||| gO d) u = true
    · refine pa_x_leaf hn hd hq hP hM hL (by omega) (by omega) hN hB hall (fun bc' bs' hB' => K (t + 1) f gI gO tu xi xo bc' bs' (by omega) (by omega) (fun j _ => ⟨rfl, rfl, rfl⟩) hB')
    · have hex : ∃ u, u < n ∧ bt (gI d ||| gO d) u = false := by
        refine Classical.byContradiction fun g => hall fun u hu => ?_
        cases e : bt (gI d ||| gO d) u
        · exact (g ⟨u, hu, e⟩).elim
        · rfl
      obtain ⟨u, ⟨hu, h0⟩, hmin⟩ := pk_least _ hex
      have h1 : ∀ w, w < u → bt (gI d ||| gO d) w = true := by
        intro w hw
        cases e : bt (gI d ||| gO d) w
        · exact (hmin w hw ⟨by omega, e⟩).elim
        · rfl
      obtain ⟨n1, n2, n3, n4, n5, n6⟩ := hN
      have wu : pa_wi n ((1 : Int32) <<< (nI u &&& 31)) := pa_wi_one hu (by omega)
      have bu : bt ((1 : Int32) <<< (nI u &&& 31)) u = true := by rw [pa_one (by omega)]; exact decide_eq_true rfl
      have up : ∀ x : Int32, pa_sub (gI d ||| gO d) x → bt x u = true → n ≤ pa_on x + r := by
        intro x hx hxu
        have := pa_on_lt (x := gI d ||| gO d) (y := x) hx (a := u) (by omega) (by rw [h0]; decide) hxu
        omega
      refine pa_x_t0 hn (by omega) (by omega) hu h0 h1 ht0 ?_
      refine pa_x_169 (w := w) (b := b) (R := R) (M := M) (L := L) (Q := Q) (r := r) hn hd hq hP hM hR hL ih (by omega) (by omega) (by omega) n1 (pa_wi_or n2 wu) n5 (pa_sub_t n6 pa_sub_or) (up _ ?_ ?_) hB (fun t1 f1 gI1 gO1 tu1 xi1 xo1 bc1 bs1 k1 k2 k3 k4 k5 k6 k7 => ?_)
      · intro i hi
        rcases pa_or_e hi with z | z
        · exact pa_sub_or i z
        · exact pa_sub_orr i (pa_sub_or i z)
      · exact pa_sub_orr u (pa_sub_orr u bu)
      obtain ⟨f1, rfl⟩ : ∃ g, f1 = g + 1 := ⟨f1 - 1, by omega⟩
      refine pa_x_t1 (u := u) hn (by omega) (by omega) hu (by rw [k4, k5]; exact h0) (by rw [k4, k5]; exact h1) (by rw [k6, ht0]; decide) ?_
      rw [k4, k5]
      refine pa_x_169 (w := w) (b := b) (R := R) (M := M) (L := L) (r := r) hn hd hq hP hM hR hL ih (by omega) (by omega) (by omega) (pa_wi_or n1 wu) n2 (pa_sub_t n5 pa_sub_or) n6 (up _ ?_ ?_) k7 (fun t2 f2 gI2 gO2 tu2 xi2 xo2 bc2 bs2 q1 q2 q3 q4 q5 q6 q7 => ?_)
      · intro i hi
        rcases pa_or_e hi with z | z
        · exact pa_sub_or i (pa_sub_or i z)
        · exact pa_sub_orr i z
      · exact pa_sub_or u (pa_sub_orr u bu)
      obtain ⟨f2, rfl⟩ : ∃ g, f2 = g + 1 := ⟨f2 - 1, by omega⟩
      refine pa_x_t2 (u := u) hn (by omega) (by omega) hu (by rw [q4, q5, k4, k5]; exact h0) (by rw [q4, q5, k4, k5]; exact h1) (by rw [q6, k6, ht0]; decide) ?_
      refine K (t2 + 1) f2 gI2 gO2 tu2 xi2 xo2 bc2 bs2 (by omega) (by omega) (fun j hj => ?_) (pa_BB_mono q7 (fun s fs h => ?_))
      · obtain ⟨a1, a2, a3⟩ := k3 j hj
        obtain ⟨c1, c2, c3⟩ := q3 j hj
        exact ⟨c1.trans a1, c2.trans a2, c3.trans a3⟩
      · rcases h with h | h
        · exact Or.inl (Or.inl h)
        · cases e : bt (nI s) u
          · refine Or.inl (Or.inr ⟨h.1, fun i hi hs => ?_⟩)
            rcases pa_or_e hi with z | z
            · exact h.2 i z hs
            · rw [pa_one (by omega)] at z
              have ei := of_decide_eq_true z
              subst ei
              rw [e] at hs; cases hs
          · refine Or.inr ⟨fun i hi => ?_, h.2⟩
            rcases pa_or_e hi with z | z
            · exact h.1 i z
            · rw [pa_one (by omega)] at z
              have ei := of_decide_eq_true z
              subst ei
              exact e
theorem pa_x_search {post : SX → Prop} {w b : Int32} (hn : n ≤ 10) (hv : ∀ u, vN u ≤ 9) (hd : ∀ u, dN u ≤ 3) (ho : ∀ u, oN u ≤ 3) (hq : ∀ k, kN k ≤ 63) (hw : pa_wi n w) (hb : pa_wi n b)
    (K : ∀ me ri la gI gO tu xi xo bc bs, pa_BB (pa_Fe n dN (pa_R n nm sg) (pa_M n oN ow ov kN nl nh) (pa_ma bi kN) w b) (fun _ => True) (pa_cs n dN (pa_L n nm vN) (pa_M n oN ow ov kN nl nh) (pa_oa bi kN) cu) bs bc → post ((nI n), bi, cu, nt, sp, xi, xo, bc, bs, nm, (pa_na vN), sg, (pa_na oN), (pa_na dN), ow, ov, (pa_na kN), nl, nh, me, ri, la, gI, gO, tu, jo, hx, tc)) : wpX_search post ((nI n), bi, cu, nt, sp, xi, xo, bc, bs, nm, (pa_na vN), sg, (pa_na oN), (pa_na dN), ow, ov, (pa_na kN), nl, nh, me, ri, la, gI, gO, tu, jo, hx, tc) w b := by
  unfold wpX_search
  refine pa_x_prep hn hv hd ho hq (fun me ri la hP => ?_)
  have hR := pa_R_wi (nm := nm) (sg := sg) hn
  have hM := pa_M_wi (oN := oN) (ow := ow) (ov := ov) (kN := kN) (nl := nl) (nh := nh) hn
  have hL := pa_L_bd (n := n) (nm := nm) hv
  refine pa_x_force (P := fun S => pa_So n dN (pa_R n nm sg) (pa_M n oN ow ov kN nl nh) (pa_ma bi kN) S ∧ pa_C w b S) hn hd hq hP hM hR (fun S h => h.1) hw hb (fun S h => h.2) (fun q xi xo => br_t rfl ?_) (fun xi xo w1 w2 w3 w4 w5 w6 w7 => br_f (by decide) ?_)
  · exact K me ri la gI gO tu xi xo 0 (-1) (Or.inl ⟨rfl, fun s fs _ => q _ ⟨fs.2.1, fs.2.2⟩⟩)
  · refine pa_x_keep (d := 0) (by omega) ⟨9000, ?_⟩
    refine pa_x_node (w := w) (b := b) hn hd hq hP hM hR hL 10 0 0 9000 _ _ _ xi xo 0 (-1) (fun _ => False) (by omega) (by omega) ?_ pk_us (by decide) (by omega) (Or.inl ⟨rfl, fun s _ z => z⟩) (fun t f gI gO tu xi2 xo2 bc bs k1 k2 k3 k4 => ?_)
    · rw [pk_us, pk_us]; exact ⟨w1, w2, w6, w7, w3, w4⟩
    · have hT : pa_T 10 = 4093 := by decide
      obtain ⟨f, rfl⟩ : ∃ g, f = g + 1 := ⟨f - 1, by omega⟩
      rw [wX_search_42]; try dsimp only
      rw [pk_us, pk_us] at k4
      refine pk_le 8192 t (fun h => by omega) (fun h => br_t (by decide) (K me ri la gI gO tu xi2 xo2 bc bs (pa_BB_mono k4 (fun s fs _ => Or.inr (w5 _ ⟨fs.2.1, fs.2.2⟩)))))
end
end
section
/-! Y: in, look, applies, isSound -/
theorem pa_comm (x y : Int32) : x &&& y = y &&& x := by
  apply b_ext
  intro i _
  rw [b_and, b_and, Bool.and_comm]
def pa_Hb (n : Nat) (oN : Nat → Nat) (ow ov : Nat → Int32) (kN : Nat → Nat) (nl nh : Nat → Int32) (i m v : Nat) : Prop :=
  ∃ j, j < m ∧ j / 3 = v ∧ j / 3 < n ∧ j % 3 < oN (j / 3) ∧ pa_fi ow ov kN nl nh i j = true
section
variable {n : Nat} {vN oN dN kN : Nat → Nat} {bi cu nt sp xi xo bc bs : Int32} {nm sg ow ov nl nh me ri la gI gO tu jo hx tc hp hy : Nat → Int32}
theorem pa_y_in {post : Int32 → Prop} {x : Int32} {j : Nat} (hj : j < 32) (h1 : bt x j = true → post 1) (h0 : ¬ bt x j = true → post 0) : wpY_in post ((nI n), bi, cu, nt, nm, (pa_na vN), sg, (pa_na oN), ow, ov, (pa_na dN), (pa_na kN), nl, nh, hp, hy, tc) x (nI j) := by
  unfold wpY_in
  rw [pa_bit1 hj]
  exact br_c h1 h0
theorem pa_y_l106 {post : SY → Prop} {J2 J17 : _} {i j : Nat} {z : Int32} (K : J17 (nI (j + 1)) nm (pa_na vN) sg (pa_na oN) ow ov (pa_na dN) (pa_na kN) nl nh hp hy tc) : wY_look_106 post J2 J17 (nI i) (nI j) 0 z (nI n) bi cu nt nm (pa_na vN) sg (pa_na oN) ow ov (pa_na dN) (pa_na kN) nl nh hp hy tc := by
  unfold wY_look_106
  exact br_t rfl (nm_r (nI_1 j) K)
theorem pa_y_l105 {post : SY → Prop} {J2 J17 : _} {i j : Nat} {z : Int32} (K : J17 (nI (j + 1)) nm (pa_na vN) sg (pa_na oN) ow ov (pa_na dN) (pa_na kN) nl nh hp hy tc) : wY_look_105 post J2 J17 (nI i) (nI j) z (nI n) bi cu nt nm (pa_na vN) sg (pa_na oN) ow ov (pa_na dN) (pa_na kN) nl nh hp hy tc := by
  unfold wY_look_105 wY_look_106
  exact br_c (fun _ => nm_r (nI_1 j) K) (fun _ => br_t rfl (nm_r (nI_1 j) K))
theorem pa_y_l52a {post : SY → Prop} {J2 J17 : _} {i j : Nat} (hi : i < 30) (hj : j < 30) (K : J17 (nI (j + 1)) nm (pa_na vN) sg (pa_na oN) ow ov (pa_na dN) (pa_na kN) nl nh hp hy tc) : wY_look_52 post J2 J17 (nI i) (nI j) 0 (nI n) bi cu nt nm (pa_na vN) sg (pa_na oN) ow ov (pa_na dN) (pa_na kN) nl nh hp hy tc := by
  unfold wY_look_52
  have vi : vp_in (nI i) 30 := vp_in_nI hi (by decide)
  have vj : vp_in (nI j) 30 := vp_in_nI hj (by decide)
  exact ⟨vj, vi, by decide, br_c (fun _ => ⟨vj, vi, br_c (fun _ => pa_y_l105 K) (fun _ => ⟨vj, vi, br_c (fun _ => pa_y_l105 K) (fun _ => pa_y_l106 K)⟩)⟩) (fun _ => pa_y_l105 K)⟩
theorem pa_y_l52b {post : SY → Prop} {J2 J17 : _} {i j : Nat} (hi : i < 30) (hj : j < 30) (hq : kN i ≤ 63)
    (h1 : pa_fi ow ov kN nl nh i j = true → J17 (nI (j + 1)) nm (pa_na vN) sg (pa_na oN) ow ov (pa_na dN) (pa_na kN) nl nh (upd hp i (hp i ||| ((1 : Int32) <<< (nI (j / 3) &&& 31)))) hy tc)
    (h0 : ¬ pa_fi ow ov kN nl nh i j = true → J17 (nI (j + 1)) nm (pa_na vN) sg (pa_na oN) ow ov (pa_na dN) (pa_na kN) nl nh hp hy tc) : wY_look_52 post J2 J17 (nI i) (nI j) 1 (nI n) bi cu nt nm (pa_na vN) sg (pa_na oN) ow ov (pa_na dN) (pa_na kN) nl nh hp hy tc := by
  unfold wY_look_52
  have vi : vp_in (nI i) 30 := vp_in_nI hi (by decide)
  have vj : vp_in (nI j) 30 := vp_in_nI hj (by decide)
  have ci : (nI i).toNatClampNeg = i := nI_clamp (by omega)
  have cj : (nI j).toNatClampNeg = j := nI_clamp (by omega)
  have e8 : pa_na kN i - pa_na kN i / 8 * 8 = nI (kN i % 8) := pk_rem (a := kN i) (d := 8) (by omega) (by omega) (by omega)
  rw [ci, cj, e8]
  refine ⟨vj, vi, by decide, br_c (fun g => ⟨vj, vi, br_c (fun g2 => pa_y_l105 (h0 ?_)) (fun g2 => ⟨vj, vi, br_c (fun g3 => pa_y_l105 (h0 ?_)) (fun g3 => ?_)⟩)⟩) (fun g => pa_y_l105 (h0 ?_))⟩
  · exact fun z => (pa_fi_iff.mp z).1 g2
  · exact fun z => (pa_fi_iff.mp z).2.1 g3
  · unfold wY_look_106
    have ed : nI j / 3 = nI (j / 3) := pk_div (a := j) (d := 3) (by omega) (by omega) (by omega)
    rw [ed, ci]
    exact br_f (by decide) (br_f (by decide) ⟨vi, by decide, vi, nm_e (nm_r (nI_1 j) (h1 (pa_fi_iff.mpr ⟨g2, g3, g⟩)))⟩)
  · exact fun z => g (pa_fi_iff.mp z).2.2
theorem pa_y_l17 {post : SY → Prop} {J2 : _} {i : Nat} {hp0 : Nat → Int32} (hn : n ≤ 10) (hi : i < 30) (ho : ∀ u, oN u ≤ 3) (hq : ∀ k, kN k ≤ 63)
    (K : ∀ hp, hp i = (pa_M n oN ow ov kN nl nh) i → (∀ k, k ≠ i → hp k = hp0 k) → J2 (nI (i + 1)) nm (pa_na vN) sg (pa_na oN) ow ov (pa_na dN) (pa_na kN) nl nh hp hy tc) :
    ∀ f j hp, 30 < f + j → j ≤ 30 → (∀ v, bt (hp i) v = true ↔ pa_Hb n oN ow ov kN nl nh i j v) → (∀ k, k ≠ i → hp k = hp0 k) →
    wY_look_17 post J2 (nI i) (nI n) bi cu nt f (nI j) nm (pa_na vN) sg (pa_na oN) ow ov (pa_na dN) (pa_na kN) nl nh hp hy tc := by
  intro f
  induction f with
  | zero => intro j hp h1 h2; omega
  | succ f ih =>
    intro j hp h1 h2 h3 h4
    rw [wY_look_17]; try dsimp only
    have cd : (nI (j / 3)).toNatClampNeg = j / 3 := nI_clamp (by omega)
    have er : nI j - nI j / 3 * 3 = nI (j % 3) := pk_rem (a := j) (d := 3) (by omega) (by omega) (by omega)
    have ed : nI j / 3 = nI (j / 3) := pk_div (a := j) (d := 3) (by omega) (by omega) (by omega)
    rw [er, ed, cd]
    refine pk_le 30 j (fun h => ?_) (fun h => ?_)
    · have e : j = 30 := by omega
      subst e
      refine nm_r (nI_1 i) (K hp ?_ h4)
      apply pa_bext
      intro v
      rw [h3 v, pa_M_bt hn]
      constructor
      · rintro ⟨j, j1, j2, j3, j4, j5⟩
        subst j2
        refine ⟨j3, j % 3, j4, ?_⟩
        have e : 3 * (j / 3) + j % 3 = j := by omega
        rw [e]; exact j5
      · rintro ⟨v1, a, a1, a2⟩
        have := ho v
        have e1 : (3 * v + a) / 3 = v := by omega
        have e2 : (3 * v + a) % 3 = a := by omega
        refine ⟨3 * v + a, by omega, e1, by omega, ?_, a2⟩
        rw [e1, e2]; exact a1
    · have keep : ¬ (j / 3 < n ∧ j % 3 < oN (j / 3) ∧ pa_fi ow ov kN nl nh i j = true) → wY_look_17 post J2 (nI i) (nI n) bi cu nt f (nI (j + 1)) nm (pa_na vN) sg (pa_na oN) ow ov (pa_na dN) (pa_na kN) nl nh hp hy tc := by
        intro g
        refine ih (j + 1) hp (by omega) (by omega) (fun v => ?_) h4
        rw [h3 v]
        constructor
        · rintro ⟨a, a1, a2⟩
          exact ⟨a, by omega, a2⟩
        · rintro ⟨a, a1, a2, a3, a4, a5⟩
          by_cases e : a = j
          · subst e
            exact (g ⟨a3, a4, a5⟩).elim
          · exact ⟨a, by omega, a2, a3, a4, a5⟩
      have hoj := ho (j / 3)
      refine ⟨by decide, pk_le n (j / 3) (fun g => ?_) (fun g => ⟨by decide, by decide, vp_in_nI (by omega) (by decide), pk_le (oN (j / 3)) (j % 3) (fun g2 => ?_) (fun g2 => ?_)⟩)⟩
      · unfold wY_look_51
        exact pa_y_l52a hi h (keep fun z => by omega)
      · unfold wY_look_51
        exact pa_y_l52a hi h (keep fun z => by omega)
      · refine pa_y_l52b hi h (hq i) (fun g3 => ?_) (fun g3 => keep fun z => g3 z.2.2)
        refine ih (j + 1) _ (by omega) (by omega) (fun v => ?_) (fun k hk => ?_)
        · rw [pk_us, b_or, Bool.or_eq_true, h3 v, pa_one (by omega), decide_eq_true_eq]
          constructor
          · rintro (⟨a, a1, a2⟩ | e)
            · exact ⟨a, by omega, a2⟩
            · exact ⟨j, by omega, e.symm, g, g2, g3⟩
          · rintro ⟨a, a1, a2, a3, a4, a5⟩
            by_cases e : a = j
            · subst e
              exact Or.inr a2.symm
            · exact Or.inl ⟨a, by omega, a2, a3, a4, a5⟩
        · rw [pk_un hk]; exact h4 k hk
theorem pa_y_l2 {post : SY → Prop} (hn : n ≤ 10) (ho : ∀ u, oN u ≤ 3) (hq : ∀ k, kN k ≤ 63) (K : ∀ hp, (∀ k, k < 30 → hp k = (pa_M n oN ow ov kN nl nh) k) → post ((nI n), bi, cu, nt, nm, (pa_na vN), sg, (pa_na oN), ow, ov, (pa_na dN), (pa_na kN), nl, nh, hp, hy, tc)) :
    ∀ f i hp, 30 < f + i → i ≤ 30 → (∀ k, k < i → hp k = (pa_M n oN ow ov kN nl nh) k) → wY_look_2 post (nI n) bi cu nt f (nI i) nm (pa_na vN) sg (pa_na oN) ow ov (pa_na dN) (pa_na kN) nl nh hp hy tc := by
  intro f
  induction f with
  | zero => intro i hp h1 h2; omega
  | succ f ih =>
    intro i hp h1 h2 h3
    rw [wY_look_2]; try dsimp only
    have ci : (nI i).toNatClampNeg = i := nI_clamp (by omega)
    rw [ci]
    refine pk_le 30 i (fun h => ?_) (fun h => ⟨vp_in_nI h (by decide), nm_e ⟨31, ?_⟩⟩)
    · have e : i = 30 := by omega
      subst e
      exact K hp h3
    · refine pa_y_l17 (hp0 := hp) hn h ho hq (fun hp1 k1 k2 => ?_) 31 0 _ (by omega) (by omega) (fun v => ?_) (fun k hk => pk_un hk)
      · refine ih (i + 1) hp1 (by omega) (by omega) (fun k hk => ?_)
        by_cases e : k = i
        · subst e; exact k1
        · exact (k2 k e).trans (h3 k (by omega))
      · rw [pk_us, b_0]
        constructor
        · intro z; cases z
        · rintro ⟨a, a1, _⟩; omega
theorem pa_y_look {post : SY → Prop} (hn : n ≤ 10) (ho : ∀ u, oN u ≤ 3) (hq : ∀ k, kN k ≤ 63) (K : ∀ hp, (∀ k, k < 30 → hp k = (pa_M n oN ow ov kN nl nh) k) → post ((nI n), bi, cu, nt, nm, (pa_na vN), sg, (pa_na oN), ow, ov, (pa_na dN), (pa_na kN), nl, nh, hp, hy, tc)) : wpY_look post ((nI n), bi, cu, nt, nm, (pa_na vN), sg, (pa_na oN), ow, ov, (pa_na dN), (pa_na kN), nl, nh, hp, hy, tc) := by
  unfold wpY_look
  exact ⟨31, pa_y_l2 hn ho hq K 31 0 hp (by omega) (by omega) (fun k hk => by omega)⟩
theorem pa_y_app {post : Int32 → Prop} {k : Nat} (hn : n ≤ 10) (hk : k < 30) (hd : ∀ u, dN u ≤ 3) (hq : ∀ k, kN k ≤ 63)
    (h1 : k / 3 < n → k % 3 < dN (k / 3) → pa_ap bi kN k = true → post 1) (h0 : ¬ (k / 3 < n ∧ k % 3 < dN (k / 3) ∧ pa_ap bi kN k = true) → post 0) : wpY_applies post ((nI n), bi, cu, nt, nm, (pa_na vN), sg, (pa_na oN), ow, ov, (pa_na dN), (pa_na kN), nl, nh, hp, hy, tc) (nI k) := by
  unfold wpY_applies
  have hk6 := hq k
  have hdk := hd (k / 3)
  have ck : (nI k).toNatClampNeg = k := nI_clamp (by omega)
  have cd : (nI (k / 3)).toNatClampNeg = k / 3 := nI_clamp (by omega)
  have er : nI k - nI k / 3 * 3 = nI (k % 3) := pk_rem (a := k) (d := 3) (by omega) (by omega) (by omega)
  have ed : nI k / 3 = nI (k / 3) := pk_div (a := k) (d := 3) (by omega) (by omega) (by omega)
  have e8 : pa_na kN k / 8 = nI (kN k / 8) := pk_div (a := kN k) (d := 8) (by omega) (by omega) (by omega)
  have e4 : nI (kN k / 8) - nI (kN k / 8) / 4 * 4 = nI (kN k / 8 % 4) := pk_rem (a := kN k / 8) (d := 4) (by omega) (by omega) (by omega)
  have e84 : pa_na kN k / 8 - pa_na kN k / 8 / 4 * 4 = nI (kN k / 8 % 4) := by rw [e8]; exact e4
  rw [er, ed, cd, ck]
  refine ⟨by decide, pk_le n (k / 3) (fun h => h0 fun z => by omega) (fun h => ⟨by decide, by decide, vp_in_nI (by omega) (by decide), pk_lt (k % 3) (dN (k / 3)) (fun h2 => ⟨vp_in_nI hk (by decide), by decide, by decide, nm_r e84 (pk_eq (kN k / 8 % 4) 0 (fun g => h1 h h2 ?_) (fun g => br_c (fun g2 => h1 h h2 ?_) (fun g2 => h0 fun z => ?_)))⟩) (fun h2 => h0 fun z => by omega)⟩)⟩
  · unfold pa_ap; rw [decide_eq_true g]; rfl
  · unfold pa_ap; rw [decide_eq_true g2, Bool.or_true]
  · have z3 := z.2.2
    unfold pa_ap at z3
    rw [decide_eq_false g, decide_eq_false g2] at z3
    exact absurd z3 (by decide)
theorem pa_y_s46 {post : Int32 → Prop} {J2 : Int32 → Prop} {S : Int32} {i : Nat} (hn : n ≤ 10) (hi : i < 30) (hd : ∀ u, dN u ≤ 3) (hq : ∀ k, kN k ≤ 63)
    (h1 : i / 3 < n → i % 3 < dN (i / 3) → pa_ap bi kN i = true → post 0) (h0 : ¬ (i / 3 < n ∧ i % 3 < dN (i / 3) ∧ pa_ap bi kN i = true) → J2 (nI (i + 1))) : wY_isSound_46 post J2 S (nI i) 1 (nI n) bi cu nt nm (pa_na vN) sg (pa_na oN) ow ov (pa_na dN) (pa_na kN) nl nh hp hy tc := by
  unfold wY_isSound_46
  exact br_f (by decide) (pa_y_app hn hi hd hq (fun a b c => br_f (by decide) (h1 a b c)) (fun a => br_t rfl (nm_r (nI_1 i) (h0 a))))
theorem pa_y_s45 {post : Int32 → Prop} {J2 : Int32 → Prop} {S : Int32} {i : Nat} (h0 : J2 (nI (i + 1))) : wY_isSound_45 post J2 S (nI i) (nI n) bi cu nt nm (pa_na vN) sg (pa_na oN) ow ov (pa_na dN) (pa_na kN) nl nh hp hy tc := by
  unfold wY_isSound_45 wY_isSound_46
  exact br_t rfl (nm_r (nI_1 i) h0)
theorem pa_y_s85 {post : Int32 → Prop} {J69 : Int32 → Prop} {S : Int32} {u : Nat} (hu : u < 10)
    (hbad : ∀ v, v < u → bt S u = true → bt S v = true → nm u = nm v → (sg u ≠ 0 ∨ sg v ≠ 0) → post 0)
    (hok : (∀ v, v < u → bt S u = true → bt S v = true → nm u = nm v → (sg u ≠ 0 ∨ sg v ≠ 0) → False) → J69 (nI (u + 1))) :
    ∀ f v, u < f + v → v ≤ u → (∀ w, w < v → bt S u = true → bt S w = true → nm u = nm w → (sg u ≠ 0 ∨ sg w ≠ 0) → False) → wY_isSound_85 post J69 S (nI u) (nI n) bi cu nt nm (pa_na vN) sg (pa_na oN) ow ov (pa_na dN) (pa_na kN) nl nh hp hy tc f (nI v) := by
  intro f
  induction f with
  | zero => intro v h1 h2; omega
  | succ f ih =>
    intro v h1 h2 h3
    rw [wY_isSound_85]; try dsimp only
    have cu' : (nI u).toNatClampNeg = u := nI_clamp (by omega)
    have cv : (nI v).toNatClampNeg = v := nI_clamp (by omega)
    rw [cu', cv]
    refine pk_le u v (fun h => ?_) (fun h => ?_)
    · have e : v = u := by omega
      subst e
      exact nm_r (nI_1 v) (hok h3)
    · have nx : ((bt S u = true → bt S v = true → nm u = nm v → (sg u ≠ 0 ∨ sg v ≠ 0) → False)) → wY_isSound_85 post J69 S (nI u) (nI n) bi cu nt nm (pa_na vN) sg (pa_na oN) ow ov (pa_na dN) (pa_na kN) nl nh hp hy tc f (nI (v + 1)) := by
        intro g
        refine ih (v + 1) (by omega) (by omega) (fun w hw => ?_)
        by_cases e : w = v
        · subst e; exact g
        · exact h3 w (by omega)
      have vu : vp_in (nI u) 10 := vp_in_nI hu (by decide)
      have vv : vp_in (nI v) 10 := vp_in_nI (by omega) (by decide)
      refine pa_y_in (by omega) (fun b1 => br_f (by decide) (pa_y_in (by omega) (fun b2 => br_f (by decide) ⟨vu, vv, br_c (fun e => ⟨vu, br_c (fun s1 => ⟨vv, br_c (fun s2 => ?_) (fun s2 => ?_)⟩) (fun s1 => ?_)⟩) (fun e => ?_)⟩) (fun b2 => br_t rfl ?_))) (fun b1 => br_t rfl ?_)
      · exact nm_r (nI_1 v) (nx fun _ _ _ z => z.elim (fun q => q s1) (fun q => q s2))
      · exact hbad v h b1 b2 e (Or.inr s2)
      · exact hbad v h b1 b2 e (Or.inl s1)
      · exact nm_r (nI_1 v) (nx fun _ _ z _ => e z)
      · exact nm_r (nI_1 v) (nx fun _ z _ _ => b2 z)
      · exact nm_r (nI_1 v) (nx fun z _ _ _ => b1 z)
theorem pa_y_s69 {post : Int32 → Prop} {S : Int32} (hn : n ≤ 10)
    (hbad : ∀ u v, u < n → v < u → bt S u = true → bt S v = true → nm u = nm v → (sg u ≠ 0 ∨ sg v ≠ 0) → post 0)
    (hok : (∀ u v, u < n → v < u → bt S u = true → bt S v = true → nm u = nm v → (sg u ≠ 0 ∨ sg v ≠ 0) → False) → post 1) :
    ∀ f u, n < f + u → u ≤ n → (∀ w v, w < u → v < w → bt S w = true → bt S v = true → nm w = nm v → (sg w ≠ 0 ∨ sg v ≠ 0) → False) → wY_isSound_69 post S (nI n) bi cu nt nm (pa_na vN) sg (pa_na oN) ow ov (pa_na dN) (pa_na kN) nl nh hp hy tc f (nI u) := by
  intro f
  induction f with
  | zero => intro u h1 h2; omega
  | succ f ih =>
    intro u h1 h2 h3
    rw [wY_isSound_69]; try dsimp only
    refine pk_le n u (fun h => ?_) (fun h => pk_le 10 u (fun g => by omega) (fun g => ⟨u + 1, ?_⟩))
    · have e : u = n := by omega
      subst e
      exact hok h3
    · refine pa_y_s85 (by omega) (fun v hv => hbad u v h hv) (fun hu => ?_) (u + 1) 0 (by omega) (by omega) (fun w hw => by omega)
      refine ih (u + 1) (by omega) (by omega) (fun w v hw hv => ?_)
      by_cases e : w = u
      · subst e; exact hu v hv
      · exact h3 w v (by omega) hv
theorem pa_y_s2 {post : Int32 → Prop} {S : Int32} (hn : n ≤ 10) (hd : ∀ u, dN u ≤ 3) (hq : ∀ k, kN k ≤ 63) (hH : ∀ k, k < 30 → hp k = (pa_M n oN ow ov kN nl nh) k)
    (h1 : pa_So n dN (pa_R n nm sg) (pa_M n oN ow ov kN nl nh) (pa_ma bi kN) S → post 1) (h0 : ¬ pa_So n dN (pa_R n nm sg) (pa_M n oN ow ov kN nl nh) (pa_ma bi kN) S → post 0) :
    ∀ f i, 30 < f + i → i ≤ 30 → (∀ k, k < i → bt S (k / 3) = true → k / 3 < n → k % 3 < dN (k / 3) → (pa_ma bi kN) k = true → ¬ (pa_M n oN ow ov kN nl nh) k &&& S = 0) → wY_isSound_2 post S (nI n) bi cu nt nm (pa_na vN) sg (pa_na oN) ow ov (pa_na dN) (pa_na kN) nl nh hp hy tc f (nI i) := by
  intro f
  induction f with
  | zero => intro i h1 h2; omega
  | succ f ih =>
    intro i g1 g2 g3
    rw [wY_isSound_2]; try dsimp only
    have ci : (nI i).toNatClampNeg = i := nI_clamp (by omega)
    have ed : nI i / 3 = nI (i / 3) := pk_div (a := i) (d := 3) (by omega) (by omega) (by omega)
    rw [ci, ed]
    refine pk_le 30 i (fun h => ⟨n + 1, ?_⟩) (fun h => ⟨by decide, ?_⟩)
    · have e : i = 30 := by omega
      subst e
      refine pa_y_s69 hn (fun u v hu hv b1 b2 e s => h0 fun so => ?_) (fun hall => h1 ?_) (n + 1) 0 (by omega) (by omega) (fun w v hw => by omega)
      · exact pa_az.mp (so u hu b1).1 v ((pa_R_bt hn).mpr ⟨by omega, by omega, e, s⟩) b2
      · intro u hu b
        refine ⟨pa_az.mpr fun v b1 b2 => ?_, fun i hi hma => ?_⟩
        · obtain ⟨q1, q2, q3, q4⟩ := (pa_R_bt hn).mp b1
          rcases Nat.lt_or_ge v u with z | z
          · exact hall u v hu z b b2 q3 q4
          · exact hall v u q1 (by omega) b2 b q3.symm q4.symm
        · have hdu := hd u
          have e1 : (3 * u + i) / 3 = u := by omega
          have e2 : (3 * u + i) % 3 = i := by omega
          refine g3 (3 * u + i) (by omega) ?_ ?_ ?_ hma
          · rw [e1]; exact b
          · rw [e1]; exact hu
          · rw [e1, e2]; exact hi
    · have hk := hq i
      have nx : (bt S (i / 3) = true → i / 3 < n → i % 3 < dN (i / 3) → (pa_ma bi kN) i = true → ¬ (pa_M n oN ow ov kN nl nh) i &&& S = 0) → wY_isSound_2 post S (nI n) bi cu nt nm (pa_na vN) sg (pa_na oN) ow ov (pa_na dN) (pa_na kN) nl nh hp hy tc f (nI (i + 1)) := by
        intro g
        refine ih (i + 1) (by omega) (by omega) (fun k hk => ?_)
        by_cases e : k = i
        · subst e; exact g
        · exact g3 k (by omega)
      have vi : vp_in (nI i) 30 := vp_in_nI h (by decide)
      rw [hH i h, pa_comm S]
      refine pa_y_in (by omega) (fun b => br_f (by decide) ⟨vi, pk_le 32 (kN i) (fun o => ?_) (fun o => ⟨vi, br_c (fun z => ?_) (fun z => ?_)⟩)⟩) (fun b => br_t rfl ?_)
      · exact pa_y_s45 (nx fun _ _ _ z => absurd (pa_ma_i z).1 (by omega))
      · refine pa_y_s46 hn h hd hq (fun a1 a2 a3 => h0 fun so => ?_) (fun a => nx fun _ a1 a2 a3 => (a ⟨a1, a2, (pa_ma_i a3).2⟩).elim)
        have e1 : 3 * (i / 3) + i % 3 = i := by omega
        have := (so (i / 3) a1 b).2 (i % 3) a2
        rw [e1] at this
        exact this (pa_ma_t o a3) z
      · exact pa_y_s45 (nx fun _ _ _ _ => z)
      · exact pa_y_s45 (nx fun z => absurd z b)
theorem pa_y_so {post : Int32 → Prop} {S : Int32} (hn : n ≤ 10) (hd : ∀ u, dN u ≤ 3) (hq : ∀ k, kN k ≤ 63) (hH : ∀ k, k < 30 → hp k = (pa_M n oN ow ov kN nl nh) k)
    (h1 : pa_So n dN (pa_R n nm sg) (pa_M n oN ow ov kN nl nh) (pa_ma bi kN) S → post 1) (h0 : ¬ pa_So n dN (pa_R n nm sg) (pa_M n oN ow ov kN nl nh) (pa_ma bi kN) S → post 0) : wpY_isSound post ((nI n), bi, cu, nt, nm, (pa_na vN), sg, (pa_na oN), ow, ov, (pa_na dN), (pa_na kN), nl, nh, hp, hy, tc) S := by
  unfold wpY_isSound
  exact ⟨31, pa_y_s2 hn hd hq hH h1 h0 31 0 (by omega) (by omega) (fun k hk => by omega)⟩
end
end
section
/-! Y: newest, price, best -/
def pa_nw (nm : Nat → Int32) (vN : Nat → Nat) (u v : Nat) : Nat := if nm u = nm v then vN v else 0
theorem pa_nw_L {nm : Nat → Int32} {vN : Nat → Nat} {u : Nat} : ∀ N, pa_mx (pa_lf nm vN u) N = pa_mx (pa_nw nm vN u) N - vN u
  | 0 => (Nat.zero_sub _).symm
  | N + 1 => by
    have ih := pa_nw_L (nm := nm) (vN := vN) (u := u) N
    rw [pa_mx_s, pa_mx_s, ih]
    have e : pa_lf nm vN u N = pa_nw nm vN u N - vN u := by
      unfold pa_lf pa_nw
      by_cases h : nm u = nm N
      · rw [if_pos h, if_pos h]
      · rw [if_neg h, if_neg h, Nat.zero_sub]
    rw [e]
    by_cases h1 : pa_mx (pa_nw nm vN u) N ≤ pa_nw nm vN u N
    · rw [if_pos h1, if_pos (by omega)]
    · rw [if_neg h1]
      by_cases h2 : pa_mx (pa_nw nm vN u) N - vN u ≤ pa_nw nm vN u N - vN u
      · rw [if_pos h2]; omega
      · rw [if_neg h2]
def pa_y4 (nm : Nat → Int32) (L : Nat → Nat) (cu S : Int32) (u : Nat) : Nat :=
  (if bt S u = true ∧ ¬ bt cu u = true then 5 else 0) + (if bt cu u = true ∧ ¬ bt S u = true then 3 else 0) + (if bt S u = true then L u else 0)
def pa_y9 (n : Nat) (dN kN : Nat → Nat) (M : Nat → Int32) (bi S : Int32) (k : Nat) : Nat :=
  if bt S (k / 3) = true ∧ ¬ kN k < 32 ∧ M k &&& S = 0 ∧ k / 3 < n ∧ k % 3 < dN (k / 3) ∧ pa_ap bi kN k = true then 2 else 0
theorem pa_y_sum {n : Nat} {dN kN L : Nat → Nat} {nm M : Nat → Int32} {bi cu S : Int32} (hn : n ≤ 10) (hd : ∀ u, dN u ≤ 3) (hS : pa_wi n S) (hc : pa_wi n cu) :
    pa_sum (pa_y4 nm L cu S) n + pa_sum (pa_y9 n dN kN M bi S) 30 = pa_co n dN L M (pa_oa bi kN) cu S (S ^^^ (-1)) := by
  have e1 : pa_on (S &&& (cu ^^^ (-1))) = pa_sum (fun u => if bt S u = true ∧ ¬ bt cu u = true then 1 else 0) n := by
    rw [pa_on_wi hn (pa_wi_and hS)]
    refine pa_sum_eq fun u hu => ?_
    rw [b_and, pa_not cu (by omega)]
    cases bt S u <;> cases bt cu u <;> rfl
  have e2 : pa_on (cu &&& (S ^^^ (-1))) = pa_sum (fun u => if bt cu u = true ∧ ¬ bt S u = true then 1 else 0) n := by
    rw [pa_on_wi hn (pa_wi_and hc)]
    refine pa_sum_eq fun u hu => ?_
    rw [b_and, pa_not S (by omega)]
    cases bt S u <;> cases bt cu u <;> rfl
  have e3 : pa_sum (pa_y9 n dN kN M bi S) 30 = pa_sum (fun u => if bt S u = true then pa_lc dN M (pa_oa bi kN) (S ^^^ (-1)) u else 0) n := by
    have h := pa_sum_3 (pa_y9 n dN kN M bi S) 10
    have h' : pa_sum (pa_y9 n dN kN M bi S) 30 = pa_sum (fun u => pa_sum (fun i => pa_y9 n dN kN M bi S (3 * u + i)) 3) 10 := h
    rw [h']
    have hz : pa_sum (fun u => pa_sum (fun i => pa_y9 n dN kN M bi S (3 * u + i)) 3) 10 = pa_sum (fun u => pa_sum (fun i => pa_y9 n dN kN M bi S (3 * u + i)) 3) n := by
      refine pa_sum_to hn fun u h1 h2 => ?_
      have : ∀ i, i < 3 → pa_y9 n dN kN M bi S (3 * u + i) = 0 := by
        intro i hi
        refine if_neg fun z => ?_
        have := z.2.2.2.1
        omega
      show pa_sum (fun i => pa_y9 n dN kN M bi S (3 * u + i)) 3 = 0
      rw [pa_sum_to (n := 0) (by omega) (fun k _ hk => this k hk)]
      rfl
    rw [hz]
    refine pa_sum_eq fun u hu => ?_
    have hdu := hd u
    have hk : ∀ i, i < 3 → pa_y9 n dN kN M bi S (3 * u + i) = if bt S u = true ∧ i < dN u then pa_g M (pa_oa bi kN) (S ^^^ (-1)) (3 * u + i) else 0 := by
      intro i hi
      have d1 : (3 * u + i) / 3 = u := by omega
      have d2 : (3 * u + i) % 3 = i := by omega
      unfold pa_y9 pa_g
      rw [d1, d2, pa_nn]
      by_cases c1 : bt S u = true ∧ i < dN u
      · rw [if_pos c1]
        by_cases c2 : pa_oa bi kN (3 * u + i) = true ∧ M (3 * u + i) &&& S = 0
        · rw [if_pos c2, if_pos ⟨c1.1, (pa_oa_i c2.1).1, c2.2, hu, c1.2, (pa_oa_i c2.1).2⟩]
        · rw [if_neg c2, if_neg]
          rintro ⟨q1, q2, q3, q4, q5, q6⟩
          exact c2 ⟨pa_oa_t q2 q6, q3⟩
      · rw [if_neg c1, if_neg]
        rintro ⟨q1, q2, q3, q4, q5, q6⟩
        exact c1 ⟨q1, q5⟩
    show pa_sum (fun i => pa_y9 n dN kN M bi S (3 * u + i)) 3 = if bt S u = true then pa_lc dN M (pa_oa bi kN) (S ^^^ (-1)) u else 0
    rw [pa_sum_eq (g := fun i => if bt S u = true ∧ i < dN u then pa_g M (pa_oa bi kN) (S ^^^ (-1)) (3 * u + i) else 0) hk]
    rw [pa_sum_to (n := dN u) hdu (fun k h1 _ => if_neg fun z => by have := z.2; omega)]
    by_cases c1 : bt S u = true
    · rw [if_pos c1]
      refine pa_sum_eq fun i hi => ?_
      rw [if_pos ⟨c1, hi⟩]
    · rw [if_neg c1]
      rw [pa_sum_to (n := 0) (by omega) (fun k _ _ => if_neg fun z => c1 z.1)]
      rfl
  have e4 : pa_sum (pa_y4 nm L cu S) n = 5 * pa_on (S &&& (cu ^^^ (-1))) + 3 * pa_on (cu &&& (S ^^^ (-1))) + pa_sum (fun u => if bt S u = true then L u else 0) n := by
    rw [e1, e2, ← pa_sum_mul, ← pa_sum_mul, ← pa_sum_add, ← pa_sum_add]
    refine pa_sum_eq fun u _ => ?_
    unfold pa_y4
    by_cases c1 : bt S u = true ∧ ¬ bt cu u = true
    · by_cases c2 : bt cu u = true ∧ ¬ bt S u = true
      · exact absurd c1.1 c2.2
      · rw [if_pos c1, if_neg c2, if_pos c1, if_neg c2]
    · by_cases c2 : bt cu u = true ∧ ¬ bt S u = true
      · rw [if_neg c1, if_pos c2, if_neg c1, if_pos c2]
      · rw [if_neg c1, if_neg c2, if_neg c1, if_neg c2]
  have e5 : pa_sum (pa_h dN L M (pa_oa bi kN) S (S ^^^ (-1))) n = pa_sum (fun u => if bt S u = true then L u else 0) n + pa_sum (fun u => if bt S u = true then pa_lc dN M (pa_oa bi kN) (S ^^^ (-1)) u else 0) n := by
    rw [← pa_sum_add]
    refine pa_sum_eq fun u _ => ?_
    unfold pa_h
    by_cases c1 : bt S u = true
    · rw [if_pos c1, if_pos c1, if_pos c1]
    · rw [if_neg c1, if_neg c1, if_neg c1]
  unfold pa_co
  rw [e3, e4, e5]
  omega
section
variable {n : Nat} {vN oN dN kN : Nat → Nat} {bi cu nt sp xi xo bc bs : Int32} {nm sg ow ov nl nh me ri la gI gO tu jo hx tc hp hy : Nat → Int32}
theorem pa_y_n4 {post : Int32 → Prop} {u : Nat} (hn : n ≤ 10) (hu : u < 10) (hv : ∀ u, vN u ≤ 9) (K : post (nI (pa_mx (pa_nw nm vN u) n))) :
    ∀ f v, n < f + v → v ≤ n → wY_newest_4 post (nI u) (nI n) bi cu nt nm (pa_na vN) sg (pa_na oN) ow ov (pa_na dN) (pa_na kN) nl nh hp hy tc f (nI (pa_mx (pa_nw nm vN u) v)) (nI v) := by
  intro f
  induction f with
  | zero => intro v h1 h2; omega
  | succ f ih =>
    intro v h1 h2
    rw [wY_newest_4]; try dsimp only
    have c : (nI u).toNatClampNeg = u := nI_clamp (by omega)
    have cv : (nI v).toNatClampNeg = v := nI_clamp (by omega)
    rw [c, cv]
    have hm : pa_mx (pa_nw nm vN u) v ≤ 9 := by
      apply pa_mx_bd
      intro k
      unfold pa_nw
      have := hv k
      by_cases e : nm u = nm k
      · rw [if_pos e]; exact this
      · rw [if_neg e]; omega
    have hvv := hv v
    have H := ih (v + 1)
    rw [pa_mx_s] at H
    refine pk_le n v (fun h => ?_) (fun h => pk_le 10 v (fun g => by omega) (fun g => ⟨vp_in_nI g (by decide), vp_in_nI hu (by decide), br_c (fun e => ⟨vp_in_nI g (by decide), pk_le (vN v) (pa_mx (pa_nw nm vN u) v) (fun q => ?_) (fun q => ⟨vp_in_nI g (by decide), nm_r (e' := nI (vN v)) rfl ?_⟩)⟩) (fun e => ?_)⟩))
    · have e : v = n := by omega
      subst e
      exact K
    · have e2 : pa_nw nm vN u v = vN v := if_pos e.symm
      rw [e2] at H
      have H2 := H (by omega) (by omega)
      by_cases z : pa_mx (pa_nw nm vN u) v ≤ vN v
      · rw [if_pos z] at H2
        have e3 : pa_mx (pa_nw nm vN u) v = vN v := by omega
        rw [e3]
        exact nm_r (nI_1 v) H2
      · rw [if_neg z] at H2
        exact nm_r (nI_1 v) H2
    · have e2 : pa_nw nm vN u v = vN v := if_pos e.symm
      rw [e2, if_pos (by omega)] at H
      exact nm_r (nI_1 v) (H (by omega) (by omega))
    · have e2 : pa_nw nm vN u v = 0 := if_neg fun z => e z.symm
      rw [e2] at H
      have H2 := H (by omega) (by omega)
      by_cases z : pa_mx (pa_nw nm vN u) v ≤ 0
      · rw [if_pos z] at H2
        have e3 : pa_mx (pa_nw nm vN u) v = 0 := by omega
        rw [e3]
        exact nm_r (nI_1 v) H2
      · rw [if_neg z] at H2
        exact nm_r (nI_1 v) H2
theorem pa_y_new {post : Int32 → Prop} {u : Nat} (hn : n ≤ 10) (hu : u < 10) (hv : ∀ u, vN u ≤ 9) (K : post (nI (pa_mx (pa_nw nm vN u) n))) : wpY_newest post ((nI n), bi, cu, nt, nm, (pa_na vN), sg, (pa_na oN), ow, ov, (pa_na dN), (pa_na kN), nl, nh, hp, hy, tc) (nI u) := by
  unfold wpY_newest
  exact ⟨n + 1, pa_y_n4 hn hu hv K (n + 1) 0 (by omega) (by omega)⟩
theorem pa_y_p66 {post : Int32 → Prop} {J4 : Int32 → Int32 → Prop} {S : Int32} {u c : Nat} (hn : n ≤ 10) (hu : u < n) (hv : ∀ u, vN u ≤ 9) (K : J4 (nI (c + if bt S u = true then (pa_L n nm vN) u else 0)) (nI (u + 1))) :
    wY_price_66 post J4 S (nI c) (nI u) (nI n) bi cu nt nm (pa_na vN) sg (pa_na oN) ow ov (pa_na dN) (pa_na kN) nl nh hp hy tc := by
  unfold wY_price_66
  have cc : (nI u).toNatClampNeg = u := nI_clamp (by omega)
  rw [cc]
  refine pa_y_in (by omega) (fun b => br_f (by decide) (pa_y_new hn (by omega) hv ⟨vp_in_nI (by omega) (by decide), nm_r (e' := nI (c + (pa_L n nm vN) u)) ?_ (nm_r (nI_1 u) ?_)⟩)) (fun b => br_t rfl (nm_r (nI_1 u) ?_))
  · have h1 : vN u ≤ pa_mx (pa_nw nm vN u) n := by
      have := pa_mx_ge (f := pa_nw nm vN u) (N := n) (k := u) hu
      have e : pa_nw nm vN u u = vN u := if_pos rfl
      rw [e] at this
      exact this
    show nI c + (nI (pa_mx (pa_nw nm vN u) n) - nI (vN u)) = nI (c + (pa_L n nm vN) u)
    rw [pk_sub h1, nI_add]
    unfold pa_L
    rw [pa_nw_L]
  · rw [if_pos b] at K; exact K
  · rw [if_neg b] at K; exact K
theorem pa_y_p42 {post : Int32 → Prop} {J4 : Int32 → Int32 → Prop} {S : Int32} {u c : Nat} (hn : n ≤ 10) (hu : u < n) (hv : ∀ u, vN u ≤ 9)
    (K : J4 (nI (c + (if bt cu u = true ∧ ¬ bt S u = true then 3 else 0) + if bt S u = true then (pa_L n nm vN) u else 0)) (nI (u + 1))) :
    wY_price_42 post J4 S (nI c) (nI u) (nI n) bi cu nt nm (pa_na vN) sg (pa_na oN) ow ov (pa_na dN) (pa_na kN) nl nh hp hy tc := by
  unfold wY_price_42
  refine pa_y_in (by omega) (fun b => br_f (by decide) (pa_y_in (by omega) (fun b2 => br_f (by decide) ?_) (fun b2 => br_t rfl ?_))) (fun b => br_t rfl ?_)
  · rw [if_neg (fun z => z.2 b2)] at K
    exact pa_y_p66 hn hu hv K
  · rw [if_pos ⟨b, b2⟩] at K
    exact nm_r (nI_add c 3) (pa_y_p66 hn hu hv K)
  · rw [if_neg (fun z => b z.1)] at K
    exact pa_y_p66 hn hu hv K
theorem pa_y_p98 {post : Int32 → Prop} {S : Int32} {c : Nat} (hn : n ≤ 10) (hd : ∀ u, dN u ≤ 3) (hq : ∀ k, kN k ≤ 63) (hH : ∀ k, k < 30 → hp k = (pa_M n oN ow ov kN nl nh) k)
    (K : post (nI (c + pa_sum (pa_y9 n dN kN (pa_M n oN ow ov kN nl nh) bi S) 30))) :
    ∀ f k, 30 < f + k → k ≤ 30 → wY_price_98 post S (nI n) bi cu nt nm (pa_na vN) sg (pa_na oN) ow ov (pa_na dN) (pa_na kN) nl nh hp hy tc f (nI (c + pa_sum (pa_y9 n dN kN (pa_M n oN ow ov kN nl nh) bi S) k)) (nI k) := by
  intro f
  induction f with
  | zero => intro k h1 h2; omega
  | succ f ih =>
    intro k h1 h2
    rw [wY_price_98]; try dsimp only
    have ck : (nI k).toNatClampNeg = k := nI_clamp (by omega)
    have ed : nI k / 3 = nI (k / 3) := pk_div (a := k) (d := 3) (by omega) (by omega) (by omega)
    rw [ck, ed]
    refine pk_le 30 k (fun h => ?_) (fun h => ⟨by decide, ?_⟩)
    · have e : k = 30 := by omega
      subst e
      exact K
    · have H := ih (k + 1) (by omega) (by omega)
      have hk := hq k
      have hs : pa_sum (pa_y9 n dN kN (pa_M n oN ow ov kN nl nh) bi S) (k + 1) = pa_sum (pa_y9 n dN kN (pa_M n oN ow ov kN nl nh) bi S) k + pa_y9 n dN kN (pa_M n oN ow ov kN nl nh) bi S k := rfl
      have vk : vp_in (nI k) 30 := vp_in_nI h (by decide)
      rw [hH k h, pa_comm S]
      have z0 : pa_y9 n dN kN (pa_M n oN ow ov kN nl nh) bi S k = 0 → wY_price_98 post S (nI n) bi cu nt nm (pa_na vN) sg (pa_na oN) ow ov (pa_na dN) (pa_na kN) nl nh hp hy tc f (nI (c + pa_sum (pa_y9 n dN kN (pa_M n oN ow ov kN nl nh) bi S) k)) (nI (k + 1)) := by
        intro e
        rw [hs, e] at H
        exact H
      have z1 : pa_y9 n dN kN (pa_M n oN ow ov kN nl nh) bi S k = 0 → wY_price_141 post (wY_price_98 post S (nI n) bi cu nt nm (pa_na vN) sg (pa_na oN) ow ov (pa_na dN) (pa_na kN) nl nh hp hy tc f) S (nI (c + pa_sum (pa_y9 n dN kN (pa_M n oN ow ov kN nl nh) bi S) k)) (nI k) (nI n) bi cu nt nm (pa_na vN) sg (pa_na oN) ow ov (pa_na dN) (pa_na kN) nl nh hp hy tc := by
        intro e
        unfold wY_price_141 wY_price_142
        exact br_t rfl (nm_r (nI_1 k) (z0 e))
      refine pa_y_in (by omega) (fun b => br_f (by decide) ⟨vk, pk_le (kN k) 31 (fun o => z1 (if_neg fun z => z.2.1 (by omega))) (fun o => ⟨vk, br_c (fun q => ?_) (fun q => z1 (if_neg fun z => q z.2.2.1))⟩)⟩) (fun b => br_t rfl (z1 (if_neg fun z => b z.1)))
      unfold wY_price_142
      refine br_f (by decide) (pa_y_app hn h hd hq (fun a1 a2 a3 => br_f (by decide) (nm_r (nI_add _ 2) (nm_r (nI_1 k) ?_))) (fun a => br_t rfl (nm_r (nI_1 k) (z0 (if_neg fun z => a z.2.2.2)))))
      have e : pa_y9 n dN kN (pa_M n oN ow ov kN nl nh) bi S k = 2 := if_pos ⟨b, by omega, q, a1, a2, a3⟩
      rw [hs, e] at H
      exact H
theorem pa_y_p4 {post : Int32 → Prop} {S : Int32} (hn : n ≤ 10) (hv : ∀ u, vN u ≤ 9) (K : ∃ f, wY_price_98 post S (nI n) bi cu nt nm (pa_na vN) sg (pa_na oN) ow ov (pa_na dN) (pa_na kN) nl nh hp hy tc f (nI (pa_sum (pa_y4 nm (pa_L n nm vN) cu S) n)) 0) :
    ∀ f u, n < f + u → u ≤ n → wY_price_4 post S (nI n) bi cu nt nm (pa_na vN) sg (pa_na oN) ow ov (pa_na dN) (pa_na kN) nl nh hp hy tc f (nI (pa_sum (pa_y4 nm (pa_L n nm vN) cu S) u)) (nI u) := by
  intro f
  induction f with
  | zero => intro u h1 h2; omega
  | succ f ih =>
    intro u h1 h2
    rw [wY_price_4]; try dsimp only
    refine pk_le n u (fun h => ?_) (fun h => pk_le 10 u (fun g => by omega) (fun g => ?_))
    · have e : u = n := by omega
      subst e
      exact K
    · have H := ih (u + 1) (by omega) (by omega)
      have hs : pa_sum (pa_y4 nm (pa_L n nm vN) cu S) (u + 1) = pa_sum (pa_y4 nm (pa_L n nm vN) cu S) u + ((if bt S u = true ∧ ¬ bt cu u = true then 5 else 0) + (if bt cu u = true ∧ ¬ bt S u = true then 3 else 0) + (if bt S u = true then (pa_L n nm vN) u else 0)) := rfl
      rw [hs, ← Nat.add_assoc, ← Nat.add_assoc] at H
      refine pa_y_in (by omega) (fun b => br_f (by decide) (pa_y_in (by omega) (fun b2 => br_f (by decide) ?_) (fun b2 => br_t rfl ?_))) (fun b => br_t rfl ?_)
      · rw [if_neg (fun z => z.2 b2)] at H
        exact pa_y_p42 hn h hv H
      · rw [if_pos ⟨b, b2⟩] at H
        exact nm_r (nI_add _ 5) (pa_y_p42 hn h hv H)
      · rw [if_neg (fun z => b z.1)] at H
        exact pa_y_p42 hn h hv H
theorem pa_y_price {post : Int32 → Prop} {S : Int32} (hn : n ≤ 10) (hv : ∀ u, vN u ≤ 9) (hd : ∀ u, dN u ≤ 3) (hq : ∀ k, kN k ≤ 63) (hH : ∀ k, k < 30 → hp k = (pa_M n oN ow ov kN nl nh) k) (hS : pa_wi n S) (hc : pa_wi n cu)
    (K : post (nI (pa_co n dN (pa_L n nm vN) (pa_M n oN ow ov kN nl nh) (pa_oa bi kN) cu S (S ^^^ (-1))))) : wpY_price post ((nI n), bi, cu, nt, nm, (pa_na vN), sg, (pa_na oN), ow, ov, (pa_na dN), (pa_na kN), nl, nh, hp, hy, tc) S := by
  unfold wpY_price
  rw [← pa_y_sum (nm := nm) hn hd hS hc] at K
  exact ⟨n + 1, pa_y_p4 hn hv ⟨31, pa_y_p98 hn hd hq hH K 31 0 (by omega) (by omega)⟩ (n + 1) 0 (by omega) (by omega)⟩
theorem pa_y_b13 {post : Int32 → SY → Prop} {w b : Int32} (hn : n ≤ 10) (hv : ∀ u, vN u ≤ 9) (hd : ∀ u, dN u ≤ 3) (hq : ∀ k, kN k ≤ 63) (hH : ∀ k, k < 30 → hp k = (pa_M n oN ow ov kN nl nh) k) (hc : pa_wi n cu)
    (K : ∀ r, pa_An (pa_Fe n dN (pa_R n nm sg) (pa_M n oN ow ov kN nl nh) (pa_ma bi kN) w b) (pa_cs n dN (pa_L n nm vN) (pa_M n oN ow ov kN nl nh) (pa_oa bi kN) cu) r (if r = -2 then -2 else nI (pa_cs n dN (pa_L n nm vN) (pa_M n oN ow ov kN nl nh) (pa_oa bi kN) cu r.toNatClampNeg)) → post r ((nI n), bi, cu, nt, nm, (pa_na vN), sg, (pa_na oN), ow, ov, (pa_na dN), (pa_na kN), nl, nh, hp, hy, tc)) :
    ∀ f s x y, 2 ^ n < f + s → s ≤ 2 ^ n →
    ((x = -2 ∧ ∀ t, t < s → ¬ pa_Fe n dN (pa_R n nm sg) (pa_M n oN ow ov kN nl nh) (pa_ma bi kN) w b t) ∨ ∃ c, c < s ∧ pa_Fe n dN (pa_R n nm sg) (pa_M n oN ow ov kN nl nh) (pa_ma bi kN) w b c ∧ x = nI c ∧ y = nI (pa_cs n dN (pa_L n nm vN) (pa_M n oN ow ov kN nl nh) (pa_oa bi kN) cu c) ∧ ∀ t, t < s → pa_Fe n dN (pa_R n nm sg) (pa_M n oN ow ov kN nl nh) (pa_ma bi kN) w b t → pa_lx (pa_cs n dN (pa_L n nm vN) (pa_M n oN ow ov kN nl nh) (pa_oa bi kN) cu) c t) →
    wY_best_13 post w b (nI n) bi cu nt nm (pa_na vN) sg (pa_na oN) ow ov (pa_na dN) (pa_na kN) nl nh hp hy tc f x y (nI s) := by
  intro f
  have p10 := pa_p10 hn
  induction f with
  | zero => intro s x y h1 h2; omega
  | succ f ih =>
    intro s x y h1 h2 h3
    have hcs : ∀ t, pa_cs n dN (pa_L n nm vN) (pa_M n oN ow ov kN nl nh) (pa_oa bi kN) cu t ≤ 230 := fun t => pa_co_bd hn hd (pa_L_bd hv)
    rw [wY_best_13]; try dsimp only
    rw [pa_shn hn]
    refine pk_le (2 ^ n) s (fun h => ?_) (fun h => ?_)
    · have e : s = 2 ^ n := by omega
      subst e
      apply K
      rcases h3 with ⟨a1, a2⟩ | ⟨c, c1, c2, c3, c4, c5⟩
      · refine Or.inl ⟨a1, ?_, fun t ft => a2 t ft.1 ft⟩
        rw [if_pos a1]
      · refine Or.inr ⟨c, c2, c3, ?_, fun t ft => c5 t ft.1 ft⟩
        rw [if_neg, c3, nI_clamp (by omega)]
        rw [c3]
        intro z
        exact nI_pos (n := c) (by omega) (by rw [z]; decide)
    · have skip : ¬ pa_Fe n dN (pa_R n nm sg) (pa_M n oN ow ov kN nl nh) (pa_ma bi kN) w b s → wY_best_13 post w b (nI n) bi cu nt nm (pa_na vN) sg (pa_na oN) ow ov (pa_na dN) (pa_na kN) nl nh hp hy tc f x y (nI (s + 1)) := by
        intro g
        refine ih (s + 1) x y (by omega) (by omega) ?_
        rcases h3 with ⟨a1, a2⟩ | ⟨c, c1, c2, c3, c4, c5⟩
        · refine Or.inl ⟨a1, fun t ht => ?_⟩
          by_cases e : t = s
          · subst e; exact g
          · exact a2 t (by omega)
        · refine Or.inr ⟨c, by omega, c2, c3, c4, fun t ht ft => ?_⟩
          by_cases e : t = s
          · subst e; exact absurd ft g
          · exact c5 t (by omega) ft
      have take : pa_Fe n dN (pa_R n nm sg) (pa_M n oN ow ov kN nl nh) (pa_ma bi kN) w b s → (∀ t, t < s → pa_Fe n dN (pa_R n nm sg) (pa_M n oN ow ov kN nl nh) (pa_ma bi kN) w b t → pa_lx (pa_cs n dN (pa_L n nm vN) (pa_M n oN ow ov kN nl nh) (pa_oa bi kN) cu) s t) → wY_best_13 post w b (nI n) bi cu nt nm (pa_na vN) sg (pa_na oN) ow ov (pa_na dN) (pa_na kN) nl nh hp hy tc f (nI s) (nI (pa_cs n dN (pa_L n nm vN) (pa_M n oN ow ov kN nl nh) (pa_oa bi kN) cu s)) (nI (s + 1)) := by
        intro g g2
        refine ih (s + 1) _ _ (by omega) (by omega) (Or.inr ⟨s, by omega, g, rfl, rfl, fun t ht ft => ?_⟩)
        by_cases e : t = s
        · subst e; exact Or.inr ⟨rfl, Nat.le_refl _⟩
        · exact g2 t (by omega) ft
      refine br_c (fun q1 => br_c (fun q2 => ?_) (fun q2 => ?_)) (fun q1 => ?_)
      · have cC : pa_C w b (nI s) := ⟨pa_eqx.mp q1, fun i b1 b2 => pa_az.mp q2 i b2 b1⟩
        refine pa_y_so hn hd hq hH (fun so => br_f (by decide) ?_) (fun so => br_t rfl (nm_r (nI_1 s) (skip fun z => so z.2.1)))
        have fs : pa_Fe n dN (pa_R n nm sg) (pa_M n oN ow ov kN nl nh) (pa_ma bi kN) w b s := ⟨h, so, cC⟩
        refine pa_y_price hn hv hd hq hH (pa_wiof h) hc ?_
        have e : nI (pa_co n dN (pa_L n nm vN) (pa_M n oN ow ov kN nl nh) (pa_oa bi kN) cu (nI s) (nI s ^^^ (-1))) = nI (pa_cs n dN (pa_L n nm vN) (pa_M n oN ow ov kN nl nh) (pa_oa bi kN) cu s) := rfl
        rw [e]
        have hcs1 := hcs s
        rcases h3 with ⟨a1, a2⟩ | ⟨c, c1, c2, c3, c4, c5⟩
        · subst a1
          exact br_t (by decide) (nm_r (nI_1 s) (take fs fun t ht ft => absurd ft (a2 t ht)))
        · have hcs2 := hcs c
          refine br_f (by rw [c3]; exact nI_pos (by omega)) (pk_le (pa_cs n dN (pa_L n nm vN) (pa_M n oN ow ov kN nl nh) (pa_oa bi kN) cu c) (pa_cs n dN (pa_L n nm vN) (pa_M n oN ow ov kN nl nh) (pa_oa bi kN) cu s) (fun q => nm_r (nI_1 s) ?_) (fun q => nm_r (nI_1 s) (take fs fun t ht ft => ?_)) c4 rfl)
          · refine ih (s + 1) x y (by omega) (by omega) (Or.inr ⟨c, by omega, c2, c3, c4, fun t ht ft => ?_⟩)
            by_cases e : t = s
            · subst e
              unfold pa_lx
              omega
            · exact c5 t (by omega) ft
          · have := c5 t ht ft
            unfold pa_lx at this ⊢
            omega
      · exact nm_r (nI_1 s) (skip fun z => q2 (pa_az.mpr fun i b1 b2 => z.2.2.2 i b2 b1))
      · exact nm_r (nI_1 s) (skip fun z => q1 (pa_eqx.mpr z.2.2.1))
theorem pa_y_best {post : Int32 → SY → Prop} {w b : Int32} (hn : n ≤ 10) (hv : ∀ u, vN u ≤ 9) (hd : ∀ u, dN u ≤ 3) (ho : ∀ u, oN u ≤ 3) (hq : ∀ k, kN k ≤ 63) (hc : pa_wi n cu)
    (K : ∀ hp r, (∀ k, k < 30 → hp k = (pa_M n oN ow ov kN nl nh) k) → pa_An (pa_Fe n dN (pa_R n nm sg) (pa_M n oN ow ov kN nl nh) (pa_ma bi kN) w b) (pa_cs n dN (pa_L n nm vN) (pa_M n oN ow ov kN nl nh) (pa_oa bi kN) cu) r (if r = -2 then -2 else nI (pa_cs n dN (pa_L n nm vN) (pa_M n oN ow ov kN nl nh) (pa_oa bi kN) cu r.toNatClampNeg)) → post r ((nI n), bi, cu, nt, nm, (pa_na vN), sg, (pa_na oN), ow, ov, (pa_na dN), (pa_na kN), nl, nh, hp, hy, tc)) : wpY_best post ((nI n), bi, cu, nt, nm, (pa_na vN), sg, (pa_na oN), ow, ov, (pa_na dN), (pa_na kN), nl, nh, hp, hy, tc) w b := by
  unfold wpY_best
  have p10 := pa_p10 hn
  refine pa_y_look hn ho hq (fun hp hH => ⟨2 ^ n + 1, ?_⟩)
  exact pa_y_b13 hn hv hd hq hH hc (fun r hr => K hp r hH hr) (2 ^ n + 1) 0 (-2) 0 (Nat.lt_succ_self _) (Nat.zero_le _) (Or.inl ⟨rfl, fun t ht => by omega⟩)
theorem pa_y_z4 {post : Int32 → Prop} {x : Int32} (K : post (nI (pa_on x))) : ∀ f j, 10 < f + j → j ≤ 10 → wY_size_4 post x (nI n) bi cu nt nm (pa_na vN) sg (pa_na oN) ow ov (pa_na dN) (pa_na kN) nl nh hp hy tc f (nI (pa_sum (fun j => if bt x j = true then 1 else 0) j)) (nI j) := by
  intro f
  induction f with
  | zero => intro j h1 h2; omega
  | succ f ih =>
    intro j h1 h2
    rw [wY_size_4]; try dsimp only
    refine pk_le 10 j (fun h => ?_) (fun h => nm_r (pa_add _ x (by omega)) (nm_r (nI_1 j) (ih (j + 1) (by omega) (by omega))))
    have e : j = 10 := by omega
    subst e
    exact K
theorem pa_y_size {post : Int32 → Prop} {x : Int32} (K : post (nI (pa_on x))) : wpY_size post ((nI n), bi, cu, nt, nm, (pa_na vN), sg, (pa_na oN), ow, ov, (pa_na dN), (pa_na kN), nl, nh, hp, hy, tc) x := by
  unfold wpY_size
  exact ⟨11, pa_y_z4 K 11 0 (by omega) (by omega)⟩
end
end
section
/-! the steps of a change, as lists -/
def pa_dl (p : Nat → Bool) : Nat → List Nat
  | 0 => []
  | u + 1 => if p u = true then u :: pa_dl p u else pa_dl p u
def pa_al (p : Nat → Bool) : Nat → Nat → List Nat
  | 0, _ => []
  | d + 1, u => if p u = true then u :: pa_al p d (u + 1) else pa_al p d (u + 1)
def pa_ct (v : Nat) : List Nat → Nat
  | [] => 0
  | u :: l => (if u = v then 1 else 0) + pa_ct v l
theorem pa_ct_app (v : Nat) : ∀ a b, pa_ct v (a ++ b) = pa_ct v a + pa_ct v b
  | [], b => (Nat.zero_add _).symm
  | u :: a, b => by
    have ih := pa_ct_app v a b
    show (if u = v then 1 else 0) + pa_ct v (a ++ b) = (if u = v then 1 else 0) + pa_ct v a + pa_ct v b
    omega
theorem pa_ct_rev (v : Nat) : ∀ a, pa_ct v a.reverse = pa_ct v a
  | [] => rfl
  | u :: a => by
    have ih := pa_ct_rev v a
    rw [List.reverse_cons, pa_ct_app, ih]
    show pa_ct v a + ((if u = v then 1 else 0) + 0) = (if u = v then 1 else 0) + pa_ct v a
    omega
theorem pa_dl_ct (p : Nat → Bool) (v : Nat) : ∀ u, pa_ct v (pa_dl p u) = if v < u ∧ p v = true then 1 else 0
  | 0 => by rw [if_neg (fun z => by omega)]; rfl
  | u + 1 => by
    have ih := pa_dl_ct p v u
    unfold pa_dl
    by_cases h : p u = true
    · rw [if_pos h]
      show (if u = v then 1 else 0) + pa_ct v (pa_dl p u) = _
      rw [ih]
      by_cases e : u = v
      · subst e
        rw [if_pos rfl, if_neg (fun z => by omega), if_pos ⟨by omega, h⟩]
      · rw [if_neg e]
        by_cases g : v < u ∧ p v = true
        · rw [if_pos g, if_pos ⟨by omega, g.2⟩]
        · rw [if_neg g, if_neg (fun z => g ⟨by omega, z.2⟩)]
    · rw [if_neg h, ih]
      by_cases g : v < u ∧ p v = true
      · rw [if_pos g, if_pos ⟨by omega, g.2⟩]
      · rw [if_neg g, if_neg]
        intro z
        by_cases e : v = u
        · subst e; exact h z.2
        · exact g ⟨by omega, z.2⟩
theorem pa_al_ct (p : Nat → Bool) (v : Nat) : ∀ d u, pa_ct v (pa_al p d u) = if u ≤ v ∧ v < u + d ∧ p v = true then 1 else 0
  | 0, u => by rw [if_neg (fun z => by omega)]; rfl
  | d + 1, u => by
    have ih := pa_al_ct p v d (u + 1)
    unfold pa_al
    by_cases h : p u = true
    · rw [if_pos h]
      show (if u = v then 1 else 0) + pa_ct v (pa_al p d (u + 1)) = _
      rw [ih]
      by_cases e : u = v
      · subst e
        rw [if_pos rfl, if_neg (fun z => by omega), if_pos ⟨by omega, by omega, h⟩]
      · rw [if_neg e]
        by_cases g : u + 1 ≤ v ∧ v < u + 1 + d ∧ p v = true
        · rw [if_pos g, if_pos ⟨by omega, by omega, g.2.2⟩]
        · rw [if_neg g, if_neg (fun z => g ⟨by omega, by omega, z.2.2⟩)]
    · rw [if_neg h, ih]
      by_cases g : u + 1 ≤ v ∧ v < u + 1 + d ∧ p v = true
      · rw [if_pos g, if_pos ⟨by omega, by omega, g.2.2⟩]
      · rw [if_neg g, if_neg]
        intro z
        by_cases e : v = u
        · subst e; exact h z.2.2
        · exact g ⟨by omega, by omega, z.2.2⟩
theorem pa_dl_len (p : Nat → Bool) : ∀ u, (pa_dl p u).length = pa_sum (fun v => if p v = true then 1 else 0) u
  | 0 => rfl
  | u + 1 => by
    have ih := pa_dl_len p u
    show (if p u = true then u :: pa_dl p u else pa_dl p u).length = pa_sum (fun v => if p v = true then 1 else 0) u + (if p u = true then 1 else 0)
    by_cases h : p u = true
    · rw [if_pos h, if_pos h, List.length_cons, ih]
    · rw [if_neg h, if_neg h, ih]; rfl
theorem pa_al_len (p : Nat → Bool) : ∀ d u, pa_sum (fun v => if p v = true then 1 else 0) u + (pa_al p d u).length = pa_sum (fun v => if p v = true then 1 else 0) (u + d)
  | 0, u => rfl
  | d + 1, u => by
    have ih := pa_al_len p d (u + 1)
    have e : u + (d + 1) = u + 1 + d := by omega
    rw [e, ← ih]
    show _ + (if p u = true then u :: pa_al p d (u + 1) else pa_al p d (u + 1)).length = pa_sum (fun v => if p v = true then 1 else 0) u + (if p u = true then 1 else 0) + _
    by_cases h : p u = true
    · rw [if_pos h, if_pos h, List.length_cons]; omega
    · rw [if_neg h, if_neg h]; omega
theorem pa_dl_mem (p : Nat → Bool) {v : Nat} : ∀ u, v ∈ pa_dl p u → v < u
  | 0, h => by cases h
  | u + 1, h => by
    unfold pa_dl at h
    by_cases g : p u = true
    · rw [if_pos g] at h
      rcases List.mem_cons.mp h with e | e
      · omega
      · have := pa_dl_mem p u e; omega
    · rw [if_neg g] at h
      have := pa_dl_mem p u h; omega
theorem pa_al_mem (p : Nat → Bool) {v : Nat} : ∀ d u, v ∈ pa_al p d u → v < u + d
  | 0, u, h => by cases h
  | d + 1, u, h => by
    unfold pa_al at h
    by_cases g : p u = true
    · rw [if_pos g] at h
      rcases List.mem_cons.mp h with e | e
      · omega
      · have := pa_al_mem p d (u + 1) e; omega
    · rw [if_neg g] at h
      have := pa_al_mem p d (u + 1) h; omega
theorem pa_dl_to (p : Nat → Bool) {n : Nat} : ∀ d, (∀ v, n ≤ v → p v = false) → pa_dl p (n + d) = pa_dl p n
  | 0, _ => rfl
  | d + 1, h => by
    have ih := pa_dl_to p (n := n) d h
    show (if p (n + d) = true then (n + d) :: pa_dl p (n + d) else pa_dl p (n + d)) = _
    rw [h (n + d) (by omega), if_neg (by decide), ih]
theorem pa_al_nil (p : Nat → Bool) : ∀ d u, (∀ v, u ≤ v → p v = false) → pa_al p d u = []
  | 0, _, _ => rfl
  | d + 1, u, h => by
    show (if p u = true then u :: pa_al p d (u + 1) else pa_al p d (u + 1)) = _
    rw [h u (by omega), if_neg (by decide), pa_al_nil p d (u + 1) (fun v hv => h v (by omega))]
theorem pa_al_to (p : Nat → Bool) (e : Nat) : ∀ d u, (∀ v, u + d ≤ v → p v = false) → pa_al p (d + e) u = pa_al p d u
  | 0, u, h => by
    rw [Nat.zero_add]
    exact pa_al_nil p e u (fun v hv => h v (by omega))
  | d + 1, u, h => by
    have ih := pa_al_to p e d (u + 1) (fun v hv => h v (by omega))
    have e1 : d + 1 + e = d + e + 1 := by omega
    rw [e1]
    show (if p u = true then u :: pa_al p (d + e) (u + 1) else pa_al p (d + e) (u + 1)) = (if p u = true then u :: pa_al p d (u + 1) else pa_al p d (u + 1))
    rw [ih]
def pa_rm (g c : Int32) (v : Nat) : Bool := bt (c &&& (g ^^^ (-1))) v
def pa_ad (g c : Int32) (v : Nat) : Bool := bt (g &&& (c ^^^ (-1))) v
def pa_TT (n : Nat) (g c : Int32) : List Nat := pa_dl (pa_rm g c) n ++ pa_al (pa_ad g c) n 0
theorem pa_rm_e {g c : Int32} {v : Nat} (hv : v < 32) : pa_rm g c v = (bt c v && !bt g v) := by
  unfold pa_rm; rw [b_and, pa_not g hv]
theorem pa_ad_e {g c : Int32} {v : Nat} (hv : v < 32) : pa_ad g c v = (bt g v && !bt c v) := by
  unfold pa_ad; rw [b_and, pa_not c hv]
theorem pa_wi_f {n v : Nat} {x : Int32} (h : pa_wi n x) (hv : n ≤ v) : bt x v = false := by
  cases e : bt x v
  · rfl
  · have := h v e; omega
theorem pa_TT_10 {n : Nat} {g c : Int32} (hn : n ≤ 10) (hg : pa_wi n g) (hc : pa_wi n c) : pa_TT 10 g c = pa_TT n g c := by
  unfold pa_TT
  obtain ⟨d, hd⟩ : ∃ d, 10 = n + d := ⟨10 - n, by omega⟩
  have h1 : ∀ v, n ≤ v → pa_rm g c v = false := fun v hv => pa_wi_f (pa_wi_and hc) hv
  have h2 : ∀ v, 0 + n ≤ v → pa_ad g c v = false := fun v hv => pa_wi_f (pa_wi_and hg) (by omega)
  rw [hd, pa_dl_to _ d h1, pa_al_to _ d n 0 h2]
theorem pa_TT_len {n : Nat} {g c : Int32} (hn : n ≤ 10) (hg : pa_wi n g) (hc : pa_wi n c) : (pa_TT n g c).length = pa_on (g ^^^ c) := by
  have hx : pa_wi n (g ^^^ c) := by
    intro i hi
    rw [b_xor] at hi
    cases e1 : bt g i
    · rw [e1] at hi
      cases e2 : bt c i
      · rw [e2] at hi; cases hi
      · exact hc i e2
    · exact hg i e1
  unfold pa_TT
  have h2 := pa_al_len (pa_ad g c) n 0
  rw [Nat.zero_add] at h2
  have h2' : (pa_al (pa_ad g c) n 0).length = pa_sum (fun v => if pa_ad g c v = true then 1 else 0) n := by
    rw [← h2]
    show _ = 0 + _
    omega
  rw [List.length_append, pa_dl_len, h2', ← pa_sum_add, pa_on_wi hn hx]
  refine pa_sum_eq fun v hv => ?_
  rw [pa_rm_e (by omega), pa_ad_e (by omega), b_xor]
  cases bt g v <;> cases bt c v <;> rfl
theorem pa_TT_mem {n v : Nat} {g c : Int32} (h : v ∈ pa_TT n g c) : v < n := by
  unfold pa_TT at h
  rcases List.mem_append.mp h with e | e
  · exact pa_dl_mem _ _ e
  · have := pa_al_mem _ _ _ e; omega
theorem pa_TT_ct {n v : Nat} {g c : Int32} (hv : v < n) : pa_ct v (pa_TT n g c) = (if pa_rm g c v = true then 1 else 0) + (if pa_ad g c v = true then 1 else 0) := by
  unfold pa_TT
  rw [pa_ct_app, pa_dl_ct, pa_al_ct]
  have e1 : (if v < n ∧ pa_rm g c v = true then 1 else 0) = if pa_rm g c v = true then 1 else 0 := by
    by_cases h : pa_rm g c v = true
    · rw [if_pos h, if_pos ⟨hv, h⟩]
    · rw [if_neg h, if_neg fun z => h z.2]
  have e2 : (if 0 ≤ v ∧ v < 0 + n ∧ pa_ad g c v = true then 1 else 0) = if pa_ad g c v = true then 1 else 0 := by
    by_cases h : pa_ad g c v = true
    · rw [if_pos h, if_pos ⟨by omega, by omega, h⟩]
    · rw [if_neg h, if_neg fun z => h z.2.2]
  rw [e1, e2]
theorem pa_TT_ct0 {n v : Nat} {g c : Int32} (hv : n ≤ v) : pa_ct v (pa_TT n g c) = 0 := by
  unfold pa_TT
  rw [pa_ct_app, pa_dl_ct, pa_al_ct, if_neg (fun z => by omega), if_neg (fun z => by omega)]
def pa_xl (c : Int32) : List Nat → Int32
  | [] => c
  | u :: D => pa_xl c D ^^^ ((1 : Int32) <<< (nI u &&& 31))
theorem pa_xl_bt (c : Int32) (i : Nat) : ∀ D : List Nat, (∀ u, u ∈ D → u < 32) → bt (pa_xl c D) i = (bt c i ^^ decide (pa_ct i D % 2 = 1))
  | [], _ => by
    show bt c i = (bt c i ^^ decide (0 % 2 = 1))
    cases bt c i <;> rfl
  | u :: D, h => by
    have ih := pa_xl_bt c i D (fun v hv => h v (List.mem_cons_of_mem _ hv))
    show bt (pa_xl c D ^^^ ((1 : Int32) <<< (nI u &&& 31))) i = (bt c i ^^ decide (((if u = i then 1 else 0) + pa_ct i D) % 2 = 1))
    rw [b_xor, ih, pa_one (h u List.mem_cons_self)]
    by_cases e : u = i
    · subst e
      rw [if_pos rfl, decide_eq_true rfl]
      by_cases g : pa_ct u D % 2 = 1
      · rw [decide_eq_true g, decide_eq_false (by omega)]
        cases bt c u <;> rfl
      · rw [decide_eq_false g, decide_eq_true (by omega)]
        cases bt c u <;> rfl
    · rw [if_neg e, decide_eq_false (p := i = u) (fun z => e z.symm), Nat.zero_add, Bool.xor_false]
theorem pa_xl_full {n : Nat} {g c : Int32} {D : List Nat} (hn : n ≤ 10) (hg : pa_wi n g) (hc : pa_wi n c) (hD : D.reverse = pa_TT n g c) : pa_xl c D = g := by
  apply b_ext
  intro i hi
  have hm : ∀ u, u ∈ D → u < 32 := by
    intro u hu
    have : u ∈ D.reverse := List.mem_reverse.mpr hu
    rw [hD] at this
    have := pa_TT_mem this
    omega
  rw [pa_xl_bt c i D hm, ← pa_ct_rev, hD]
  rcases Nat.lt_or_ge i n with h | h
  · rw [pa_TT_ct h, pa_rm_e hi, pa_ad_e hi]
    cases bt g i <;> cases bt c i <;> rfl
  · rw [pa_TT_ct0 h, pa_wi_f hg h, pa_wi_f hc h]
    rfl
def pa_Jn (jo : Nat → Int32) : List Nat → Prop
  | [] => True
  | u :: D => jo D.length = nI u ∧ u < 10 ∧ pa_Jn jo D
theorem pa_Jn_u {jo : Nat → Int32} {x : Int32} : ∀ {D : List Nat} {k : Nat}, D.length ≤ k → pa_Jn jo D → pa_Jn (upd jo k x) D
  | [], _, _, _ => trivial
  | u :: D, k, h, g => by
    have hl : D.length + 1 ≤ k := h
    refine ⟨?_, g.2.1, pa_Jn_u (by omega) g.2.2⟩
    rw [pk_un (by omega)]
    exact g.1
def pa_tt (t : Nat → Int32) (m : Nat) (l : List Nat) : Nat → Int32 := fun v => t v + nI (m * pa_ct v l)
theorem pa_tt_nil (t : Nat → Int32) (m : Nat) : pa_tt t m [] = t := by
  funext v
  show t v + nI (m * 0) = t v
  rw [Nat.mul_zero, nI_0, Int32.add_zero]
theorem pa_tt_s (t : Nat → Int32) (m u : Nat) (D : List Nat) : upd (pa_tt t m D) u (pa_tt t m D u + nI m) = pa_tt t m (u :: D) := by
  funext v
  by_cases e : v = u
  · subst e
    rw [pk_us]
    show t v + nI (m * pa_ct v D) + nI m = t v + nI (m * ((if v = v then 1 else 0) + pa_ct v D))
    rw [if_pos rfl, Int32.add_assoc, nI_add, Nat.mul_add, Nat.mul_one, Nat.add_comm]
  · rw [pk_un e]
    show t v + nI (m * pa_ct v D) = t v + nI (m * ((if u = v then 1 else 0) + pa_ct v D))
    rw [if_neg (fun z => e z.symm), Nat.zero_add]
theorem pa_tt_c {t : Nat → Int32} {m m' : Nat} {a b : List Nat} (h : ∀ v, m * pa_ct v a = m' * pa_ct v b) : pa_tt t m a = pa_tt t m' b := by
  funext v
  show t v + nI (m * pa_ct v a) = t v + nI (m' * pa_ct v b)
  rw [h v]
def pa_tk (y : Nat) : List Nat → List Nat
  | [] => []
  | u :: D => if D.length < y then u :: pa_tk y D else pa_tk y D
theorem pa_tk_all {y : Nat} : ∀ {D : List Nat}, D.length ≤ y → pa_tk y D = D
  | [], _ => rfl
  | u :: D, h => by
    have h' : D.length + 1 ≤ y := h
    show (if D.length < y then u :: pa_tk y D else pa_tk y D) = _
    rw [if_pos (by omega), pa_tk_all (by omega)]
theorem pa_tk_app {y : Nat} {D : List Nat} (h : D.length = y) : ∀ L : List Nat, pa_tk y (L ++ D) = D
  | [] => pa_tk_all (D := D) (Nat.le_of_eq h)
  | u :: L => by
    show (if (L ++ D).length < y then u :: pa_tk y (L ++ D) else pa_tk y (L ++ D)) = _
    rw [if_neg (by rw [List.length_append]; omega), pa_tk_app h L]
def pa_p : Nat → Int32
  | 0 => -1
  | k + 1 => nI k
theorem pa_pm (k : Nat) : nI k + (-1) = pa_p k := by
  cases k with
  | zero => decide
  | succ k => exact pk_m1 k
theorem pa_ps (k : Nat) : nI k - 1 = pa_p k := by
  cases k with
  | zero => decide
  | succ k => exact nI_pred k
theorem pa_xx (x y : Int32) : (x ^^^ y) ^^^ y = x := by
  apply b_ext
  intro i _
  rw [b_xor, b_xor]
  cases bt x i <;> cases bt y i <;> rfl
def pa_nh (m : Nat) (h : Nat → Int32) (g : Int32) (i : Nat) : Int32 := if m = 8 then (if i < 7 then h (i + 1) else g) else (if i = m then g else h i)
def pa_mm (m : Nat) : Nat := if m = 8 then 8 else m + 1
end
section
/-! X: doStep, undo, changeTo; Y: step, change -/
section
variable {n : Nat} {vN oN dN kN : Nat → Nat} {bi cu nt sp xi xo bc bs : Int32} {nm sg ow ov nl nh me ri la gI gO tu jo hx tc hp hy : Nat → Int32}
variable {t : Nat → Int32} {c : Int32}
theorem pa_x_u7 {post : SX → Prop} : ∀ (D : List Nat) (f : Nat) (Z : List Nat), D.length < f → D.length ≤ 10 → pa_Jn jo D → post ((nI n), bi, c, nt, sp, xi, xo, bc, bs, nm, (pa_na vN), sg, (pa_na oN), (pa_na dN), ow, ov, (pa_na kN), nl, nh, me, ri, la, gI, gO, tu, jo, hx, (pa_tt t 1 (D ++ Z))) →
    wX_undo_7 post (nI n) bi nt sp xi xo bc bs f (pa_p D.length) (pa_xl c D) nm (pa_na vN) sg (pa_na oN) (pa_na dN) ow ov (pa_na kN) nl nh me ri la gI gO tu jo hx (pa_tt t 1 Z) := by
  intro D
  induction D with
  | nil =>
    intro f Z h1 h2 h3 K
    obtain ⟨f, rfl⟩ : ∃ g, f = g + 1 := ⟨f - 1, by have : ([] : List Nat).length = 0 := rfl; omega⟩
    rw [wX_undo_7]; try dsimp only
    exact br_t (show (-1 : Int32) < 0 by decide) K
  | cons u D ih =>
    intro f Z h1 h2 h3 K
    have hl : (u :: D).length = D.length + 1 := rfl
    obtain ⟨f, rfl⟩ : ∃ g, f = g + 1 := ⟨f - 1, by omega⟩
    obtain ⟨j1, j2, j3⟩ := h3
    rw [hl]
    show wX_undo_7 post (nI n) bi nt sp xi xo bc bs (f + 1) (nI D.length) (pa_xl c D ^^^ ((1 : Int32) <<< (nI u &&& 31))) nm (pa_na vN) sg (pa_na oN) (pa_na dN) ow ov (pa_na kN) nl nh me ri la gI gO tu jo hx (pa_tt t 1 Z)
    rw [wX_undo_7]; try dsimp only
    have cl : (nI D.length).toNatClampNeg = D.length := nI_clamp (by omega)
    have cu' : (nI u).toNatClampNeg = u := nI_clamp (by omega)
    rw [cl, j1, cu']
    have vl : vp_in (nI D.length) 10 := vp_in_nI (by omega) (by decide)
    have vu : vp_in (nI u) 10 := vp_in_nI j2 (by decide)
    refine br_f (nI_pos (by omega)) ⟨vl, nm_r (pa_xx _ _) ⟨vl, vu, vu, nm_r (pa_tt_s t 1 u Z) (nm_r (pa_pm D.length) (ih f (u :: Z) (by omega) (by omega) j3 ?_))⟩⟩
    have e : pa_tt t 1 (D ++ u :: Z) = pa_tt t 1 (u :: D ++ Z) := by
      apply pa_tt_c
      intro v
      rw [pa_ct_app, pa_ct_app]
      show 1 * (pa_ct v D + ((if u = v then 1 else 0) + pa_ct v Z)) = 1 * (((if u = v then 1 else 0) + pa_ct v D) + pa_ct v Z)
      omega
    rw [e]
    exact K
theorem pa_x_undo {post : SX → Prop} {D : List Nat} (hl : D.length ≤ 10) (hJ : pa_Jn jo D) (K : post ((nI n), bi, c, nt, (nI D.length), xi, xo, bc, bs, nm, (pa_na vN), sg, (pa_na oN), (pa_na dN), ow, ov, (pa_na kN), nl, nh, me, ri, la, gI, gO, tu, jo, hx, (pa_tt t 2 D))) : wpX_undo post ((nI n), bi, (pa_xl c D), nt, (nI D.length), xi, xo, bc, bs, nm, (pa_na vN), sg, (pa_na oN), (pa_na dN), ow, ov, (pa_na kN), nl, nh, me, ri, la, gI, gO, tu, jo, hx, (pa_tt t 1 D)) := by
  unfold wpX_undo
  refine nm_r (pa_ps D.length) ⟨D.length + 1, pa_x_u7 D (D.length + 1) D (by omega) hl hJ ?_⟩
  have e : pa_tt t 1 (D ++ D) = pa_tt t 2 D := by
    apply pa_tt_c
    intro v
    rw [pa_ct_app]
    omega
  rw [e]
  exact K
theorem pa_x_step {post : SX → Prop} {u : Nat} {D : List Nat} (hu : u < 10) (hl : D.length < 10)
    (K : post ((nI n), bi, (pa_xl c (u :: D)), nt, (nI (u :: D).length), xi, xo, bc, bs, nm, (pa_na vN), sg, (pa_na oN), (pa_na dN), ow, ov, (pa_na kN), nl, nh, me, ri, la, gI, gO, tu, (upd jo D.length (nI u)), hx, (pa_tt t 1 (u :: D)))) : wpX_doStep post ((nI n), bi, (pa_xl c D), nt, (nI D.length), xi, xo, bc, bs, nm, (pa_na vN), sg, (pa_na oN), (pa_na dN), ow, ov, (pa_na kN), nl, nh, me, ri, la, gI, gO, tu, jo, hx, (pa_tt t 1 D)) (nI u) := by
  unfold wpX_doStep
  have cl : (nI D.length).toNatClampNeg = D.length := nI_clamp (by omega)
  have cu' : (nI u).toNatClampNeg = u := nI_clamp (by omega)
  have vu : vp_in (nI u) 10 := vp_in_nI hu (by decide)
  rw [cu']
  refine nm_e ⟨vu, vu, nm_r (pa_tt_s t 1 u D) ⟨vp_in_nI hl (by decide), nm_r (e' := upd jo D.length (nI u)) (by rw [cl]) (nm_r (nI_1 _) K)⟩⟩
theorem pa_x_161 {post : Int32 → SX → Prop} {hx0 : Nat → Int32} (K : ∀ hx, (∀ i, i < 8 → hx i = pa_nh 8 hx0 cu i) → post sp ((nI n), bi, cu, (nI 8), sp, xi, xo, bc, bs, nm, (pa_na vN), sg, (pa_na oN), (pa_na dN), ow, ov, (pa_na kN), nl, nh, me, ri, la, gI, gO, tu, jo, hx, tc)) :
    ∀ (d f k : Nat) (hx : Nat → Int32), k + d = 7 → d < f → (∀ i, i < k → hx i = hx0 (i + 1)) → (∀ i, k ≤ i → hx i = hx0 i) → wX_changeTo_161 post (nI n) bi cu (nI 8) sp xi xo bc bs f (nI (k + 1)) nm (pa_na vN) sg (pa_na oN) (pa_na dN) ow ov (pa_na kN) nl nh me ri la gI gO tu jo hx tc := by
  intro d
  induction d with
  | zero =>
    intro f k hx h1 h2 h3 h4
    obtain ⟨f, rfl⟩ : ∃ g, f = g + 1 := ⟨f - 1, by omega⟩
    have e : k = 7 := by omega
    subst e
    rw [wX_changeTo_161]; try dsimp only
    refine br_t (by decide) (nm_r (e' := nI 7) (by decide) ?_)
    unfold wX_changeTo_200
    refine ⟨vp_in_nI (by omega) (by decide), nm_e (nm_r (e' := nI 8) (by decide) (K _ (fun i hi => ?_)))⟩
    have c7 : (nI 7).toNatClampNeg = 7 := nI_clamp (by omega)
    rw [c7]
    unfold pa_nh
    rw [if_pos rfl]
    by_cases g : i < 7
    · rw [if_pos g, pk_un (by omega)]
      exact h3 i g
    · have e : i = 7 := by omega
      rw [if_neg g, e, pk_us]
  | succ d ih =>
    intro f k hx h1 h2 h3 h4
    obtain ⟨f, rfl⟩ : ∃ g, f = g + 1 := ⟨f - 1, by omega⟩
    rw [wX_changeTo_161]; try dsimp only
    have c1 : (nI (k + 1)).toNatClampNeg = k + 1 := nI_clamp (by omega)
    have c2 : (nI k).toNatClampNeg = k := nI_clamp (by omega)
    rw [nI_pred k, c1, c2]
    refine pk_le 8 (k + 1) (fun h => by omega) (fun h => ⟨vp_in_nI h (by decide), vp_in_nI (by omega) (by decide), nm_e (nm_r (nI_1 _) (ih f (k + 1) _ (by omega) (by omega) (fun i hi => ?_) (fun i hi => ?_)))⟩)
    · by_cases e : i = k
      · subst e
        rw [pk_us]
        exact h4 (i + 1) (by omega)
      · rw [pk_un e]
        exact h3 i (by omega)
    · rw [pk_un (by omega)]
      exact h4 i (by omega)
theorem pa_x_end {post : Int32 → SX → Prop} {m : Nat} (hm : m ≤ 8) (K : ∀ hx', (∀ i, i < pa_mm m → hx' i = pa_nh m hx cu i) → post sp ((nI n), bi, cu, (nI (pa_mm m)), sp, xi, xo, bc, bs, nm, (pa_na vN), sg, (pa_na oN), (pa_na dN), ow, ov, (pa_na kN), nl, nh, me, ri, la, gI, gO, tu, jo, hx', tc)) :
    (nI m = 8 → ∃ f, wX_changeTo_161 post (nI n) bi cu (nI m) sp xi xo bc bs f 1 nm (pa_na vN) sg (pa_na oN) (pa_na dN) ow ov (pa_na kN) nl nh me ri la gI gO tu jo hx tc) ∧ (¬ nI m = 8 → wX_changeTo_200 post (nI n) bi cu (nI m) sp xi xo bc bs nm (pa_na vN) sg (pa_na oN) (pa_na dN) ow ov (pa_na kN) nl nh me ri la gI gO tu jo hx tc) := by
  refine pk_eq m 8 (fun e => ?_) (fun e => ?_)
  · subst e
    exact ⟨8, pa_x_161 (hx0 := hx) K 7 8 0 hx (by omega) (by omega) (fun i hi => by omega) (fun i _ => rfl)⟩
  · have em : pa_mm m = m + 1 := if_neg e
    rw [em] at K
    unfold wX_changeTo_200
    have c : (nI m).toNatClampNeg = m := nI_clamp (by omega)
    rw [c]
    refine ⟨vp_in_nI (by omega) (by decide), nm_e (nm_r (nI_1 m) (K _ (fun i hi => ?_)))⟩
    unfold pa_nh
    rw [if_neg e]
    by_cases g : i = m
    · rw [if_pos g, g, pk_us]
    · rw [if_neg g, pk_un g]
theorem pa_x_c83 {post : Int32 → SX → Prop} {g fl : Int32} {m : Nat} {T : List Nat} (hn : n ≤ 10) (hm : m ≤ 8) (hT : T.length ≤ 10)
    (hF : ∀ D l jo, D.reverse ++ l = T → l ≠ [] → fl = nI D.length → post 0 ((nI n), bi, c, (nI m), (nI D.length), xi, xo, bc, bs, nm, (pa_na vN), sg, (pa_na oN), (pa_na dN), ow, ov, (pa_na kN), nl, nh, me, ri, la, gI, gO, tu, jo, hx, (pa_tt t 2 D)))
    (hE : ∀ D jo hx', D.reverse = T → (∀ j, j < D.length → ¬ nI j = fl) → (∀ i, i < pa_mm m → hx' i = pa_nh m hx (pa_xl c D) i) → post (nI D.length) ((nI n), bi, (pa_xl c D), (nI (pa_mm m)), (nI D.length), xi, xo, bc, bs, nm, (pa_na vN), sg, (pa_na oN), (pa_na dN), ow, ov, (pa_na kN), nl, nh, me, ri, la, gI, gO, tu, jo, hx', (pa_tt t 1 D))) :
    ∀ (d f u : Nat) (D : List Nat) (jo : Nat → Int32), u + d = n → d < f → D.reverse ++ pa_al (pa_ad g c) d u = T → pa_Jn jo D → (∀ j, j < D.length → ¬ nI j = fl) →
    wX_changeTo_83 post g fl c f (nI u) (nI n) bi (pa_xl c D) (nI m) (nI D.length) xi xo bc bs nm (pa_na vN) sg (pa_na oN) (pa_na dN) ow ov (pa_na kN) nl nh me ri la gI gO tu jo hx (pa_tt t 1 D) := by
  intro d
  induction d with
  | zero =>
    intro f u D jo h1 h2 h3 h4 h5
    obtain ⟨f, rfl⟩ : ∃ g, f = g + 1 := ⟨f - 1, by omega⟩
    have e : u = n := by omega
    subst e
    have e2 : D.reverse = T := by rw [← h3]; exact (List.append_nil _).symm
    rw [wX_changeTo_83]; try dsimp only
    exact br_t (nI_le (Nat.le_refl _) (by omega)) (pa_x_end hm (fun hx' q => hE D jo hx' e2 h5 q))
  | succ d ih =>
    intro f u D jo h1 h2 h3 h4 h5
    obtain ⟨f, rfl⟩ : ∃ g, f = g + 1 := ⟨f - 1, by omega⟩
    rw [wX_changeTo_83]; try dsimp only
    rw [pa_bit1 (show u < 32 by omega)]
    have hal : pa_al (pa_ad g c) (d + 1) u = if pa_ad g c u = true then u :: pa_al (pa_ad g c) d (u + 1) else pa_al (pa_ad g c) d (u + 1) := rfl
    rw [hal] at h3
    refine br_f (nI_ge (by omega) (by omega)) (br_c (fun b => ?_) (fun b => ?_))
    · have b' : pa_ad g c u = true := b
      rw [if_pos b'] at h3
      have hlen : D.length < 10 := by
        have := congrArg List.length h3
        rw [List.length_append, List.length_reverse, List.length_cons] at this
        omega
      have nex : ¬ nI D.length = fl → ∀ j, j < (u :: D).length → ¬ nI j = fl := by
        intro e j hj
        have hj' : j < D.length + 1 := hj
        by_cases q : j = D.length
        · rw [q]; exact e
        · exact h5 j (by omega)
      refine br_c (fun e => ?_) (fun e => ?_)
      · unfold wX_changeTo_123
        refine br_t ((pa_bit1 (by omega)).mpr b) (pa_x_undo (by omega) h4 ?_)
        exact hF D _ jo h3 (by intro z; cases z) e.symm
      · refine pa_x_step (by omega) hlen (nm_r (nI_1 u) (ih f (u + 1) (u :: D) _ (by omega) (by omega) ?_ ⟨pk_us, by omega, pa_Jn_u (Nat.le_refl _) h4⟩ (nex e)))
        rw [List.reverse_cons, List.append_assoc]
        exact h3
    · have b' : ¬ pa_ad g c u = true := b
      rw [if_neg b'] at h3
      unfold wX_changeTo_123
      exact br_f (fun z => b ((pa_bit1 (by omega)).mp z)) (nm_r (nI_1 u) (ih f (u + 1) D jo (by omega) (by omega) h3 h4 h5))
theorem pa_x_c18 {post : Int32 → SX → Prop} {g fl : Int32} {m : Nat} {T : List Nat} (hn : n ≤ 10) (hm : m ≤ 8) (hT : T.length ≤ 10)
    (hF : ∀ D l jo, D.reverse ++ l = T → l ≠ [] → fl = nI D.length → post 0 ((nI n), bi, c, (nI m), (nI D.length), xi, xo, bc, bs, nm, (pa_na vN), sg, (pa_na oN), (pa_na dN), ow, ov, (pa_na kN), nl, nh, me, ri, la, gI, gO, tu, jo, hx, (pa_tt t 2 D)))
    (hE : ∀ D jo hx', D.reverse = T → (∀ j, j < D.length → ¬ nI j = fl) → (∀ i, i < pa_mm m → hx' i = pa_nh m hx (pa_xl c D) i) → post (nI D.length) ((nI n), bi, (pa_xl c D), (nI (pa_mm m)), (nI D.length), xi, xo, bc, bs, nm, (pa_na vN), sg, (pa_na oN), (pa_na dN), ow, ov, (pa_na kN), nl, nh, me, ri, la, gI, gO, tu, jo, hx', (pa_tt t 1 D))) :
    ∀ (u f : Nat) (D : List Nat) (jo : Nat → Int32), u ≤ n → u < f → D.reverse ++ (pa_dl (pa_rm g c) u ++ pa_al (pa_ad g c) n 0) = T → pa_Jn jo D → (∀ j, j < D.length → ¬ nI j = fl) →
    wX_changeTo_18 post g fl c f (pa_p u) (nI n) bi (pa_xl c D) (nI m) (nI D.length) xi xo bc bs nm (pa_na vN) sg (pa_na oN) (pa_na dN) ow ov (pa_na kN) nl nh me ri la gI gO tu jo hx (pa_tt t 1 D) := by
  intro u
  induction u with
  | zero =>
    intro f D jo h1 h2 h3 h4 h5
    obtain ⟨f, rfl⟩ : ∃ g, f = g + 1 := ⟨f - 1, by omega⟩
    rw [wX_changeTo_18]; try dsimp only
    exact br_t (show (-1 : Int32) < 0 by decide) ⟨n + 1, pa_x_c83 hn hm hT hF hE n (n + 1) 0 D jo (by omega) (by omega) h3 h4 h5⟩
  | succ u ih =>
    intro f D jo h1 h2 h3 h4 h5
    obtain ⟨f, rfl⟩ : ∃ g, f = g + 1 := ⟨f - 1, by omega⟩
    show wX_changeTo_18 post g fl c (f + 1) (nI u) (nI n) bi (pa_xl c D) (nI m) (nI D.length) xi xo bc bs nm (pa_na vN) sg (pa_na oN) (pa_na dN) ow ov (pa_na kN) nl nh me ri la gI gO tu jo hx (pa_tt t 1 D)
    rw [wX_changeTo_18]; try dsimp only
    rw [pa_bit1 (show u < 32 by omega)]
    have hal : pa_dl (pa_rm g c) (u + 1) = if pa_rm g c u = true then u :: pa_dl (pa_rm g c) u else pa_dl (pa_rm g c) u := rfl
    rw [hal] at h3
    refine br_f (nI_pos (by omega)) (br_c (fun b => ?_) (fun b => ?_))
    · have b' : pa_rm g c u = true := b
      rw [if_pos b'] at h3
      have hlen : D.length < 10 := by
        have := congrArg List.length h3
        rw [List.length_append, List.length_reverse, List.length_append, List.length_cons] at this
        omega
      have nex : ¬ nI D.length = fl → ∀ j, j < (u :: D).length → ¬ nI j = fl := by
        intro e j hj
        have hj' : j < D.length + 1 := hj
        by_cases q : j = D.length
        · rw [q]; exact e
        · exact h5 j (by omega)
      refine br_c (fun e => ?_) (fun e => ?_)
      · unfold wX_changeTo_54
        refine br_t ((pa_bit1 (by omega)).mpr b) (pa_x_undo (by omega) h4 ?_)
        exact hF D _ jo h3 (by intro z; cases z) e.symm
      · refine pa_x_step (by omega) hlen (nm_r (pa_pm u) (ih f (u :: D) _ (by omega) (by omega) ?_ ⟨pk_us, by omega, pa_Jn_u (Nat.le_refl _) h4⟩ (nex e)))
        rw [List.reverse_cons, List.append_assoc]
        exact h3
    · have b' : ¬ pa_rm g c u = true := b
      rw [if_neg b'] at h3
      unfold wX_changeTo_54
      exact br_f (fun z => b ((pa_bit1 (by omega)).mp z)) (nm_r (pa_pm u) (ih f D jo (by omega) (by omega) h3 h4 h5))
theorem pa_x_change {post : Int32 → SX → Prop} {g fl : Int32} {m : Nat} (hn : n ≤ 10) (hm : m ≤ 8) (hg : pa_wi n g) (hc : pa_wi n cu)
    (hF : ∀ D l jo, D.reverse ++ l = pa_TT n g cu → l ≠ [] → fl = nI D.length → post 0 ((nI n), bi, cu, (nI m), (nI D.length), xi, xo, bc, bs, nm, (pa_na vN), sg, (pa_na oN), (pa_na dN), ow, ov, (pa_na kN), nl, nh, me, ri, la, gI, gO, tu, jo, hx, (pa_tt tc 2 D)))
    (hE : ∀ D jo hx', D.reverse = pa_TT n g cu → (∀ j, j < D.length → ¬ nI j = fl) → (∀ i, i < pa_mm m → hx' i = pa_nh m hx g i) → post (nI D.length) ((nI n), bi, g, (nI (pa_mm m)), (nI D.length), xi, xo, bc, bs, nm, (pa_na vN), sg, (pa_na oN), (pa_na dN), ow, ov, (pa_na kN), nl, nh, me, ri, la, gI, gO, tu, jo, hx', (pa_tt tc 1 D))) :
    wpX_changeTo post ((nI n), bi, cu, (nI m), sp, xi, xo, bc, bs, nm, (pa_na vN), sg, (pa_na oN), (pa_na dN), ow, ov, (pa_na kN), nl, nh, me, ri, la, gI, gO, tu, jo, hx, tc) g fl := by
  unfold wpX_changeTo
  refine nm_r (pa_ps n) ⟨n + 1, ?_⟩
  have hT : (pa_TT n g cu).length ≤ 10 := by
    rw [pa_TT_len hn hg hc]; exact pa_on_10 _
  have H := pa_x_c18 (post := post) (g := g) (fl := fl) (m := m) (c := cu) (t := tc) (n := n) (vN := vN) (oN := oN) (dN := dN) (kN := kN) (bi := bi) (xi := xi) (xo := xo) (bc := bc) (bs := bs) (nm := nm) (sg := sg) (ow := ow) (ov := ov) (nl := nl) (nh := nh) (me := me) (ri := ri) (la := la) (gI := gI) (gO := gO) (tu := tu) (hx := hx)
    hn hm hT hF (fun D jo hx' e e9 q => by
      have e2 := pa_xl_full hn hg hc e
      rw [e2] at q ⊢
      exact hE D jo hx' e e9 q) n (n + 1) [] jo (Nat.le_refl _) (by omega) rfl trivial (fun j hj => absurd hj (Nat.not_lt_zero j))
  rw [pa_tt_nil] at H
  exact H
theorem pa_y_t64 {post : Int32 → SY → Prop} {g : Int32} {y m : Nat} {T : List Nat} (hyl : y < 2 ^ 31) (hT : T.length ≤ 20)
    (K : ∀ D, D.reverse = T → post (nI D.length) ((nI n), bi, cu, nt, nm, (pa_na vN), sg, (pa_na oN), ow, ov, (pa_na dN), (pa_na kN), nl, nh, hp, hy, (pa_tt t m (pa_tk y D)))) :
    ∀ (d f u : Nat) (D : List Nat), u + d = 10 → d < f → D.reverse ++ pa_al (pa_ad g cu) d u = T →
    wY_step_64 post g (nI y) (nI m) (nI n) bi cu nt f (nI D.length) (nI u) nm (pa_na vN) sg (pa_na oN) ow ov (pa_na dN) (pa_na kN) nl nh hp hy (pa_tt t m (pa_tk y D)) := by
  intro d
  induction d with
  | zero =>
    intro f u D h1 h2 h3
    obtain ⟨f, rfl⟩ : ∃ g, f = g + 1 := ⟨f - 1, by omega⟩
    have e : u = 10 := by omega
    subst e
    have e2 : D.reverse = T := by rw [← h3]; exact (List.append_nil _).symm
    rw [wY_step_64]; try dsimp only
    exact br_t (by decide) (K D e2)
  | succ d ih =>
    intro f u D h1 h2 h3
    obtain ⟨f, rfl⟩ : ∃ g, f = g + 1 := ⟨f - 1, by omega⟩
    rw [wY_step_64]; try dsimp only
    have cu' : (nI u).toNatClampNeg = u := nI_clamp (by omega)
    rw [cu']
    have hal : pa_al (pa_ad g cu) (d + 1) u = if pa_ad g cu u = true then u :: pa_al (pa_ad g cu) d (u + 1) else pa_al (pa_ad g cu) d (u + 1) := rfl
    rw [hal] at h3
    have skip : ¬ pa_ad g cu u = true → wY_step_64 post g (nI y) (nI m) (nI n) bi cu nt f (nI D.length) (nI (u + 1)) nm (pa_na vN) sg (pa_na oN) ow ov (pa_na dN) (pa_na kN) nl nh hp hy (pa_tt t m (pa_tk y D)) := by
      intro b
      rw [if_neg b] at h3
      exact ih f (u + 1) D (by omega) (by omega) h3
    refine pk_le 10 u (fun h => by omega) (fun h => pa_y_in (by omega) (fun b1 => br_f (by decide) (pa_y_in (by omega) (fun b2 => br_f (by decide) (nm_r (nI_1 u) (skip ?_))) (fun b2 => br_t rfl ?_))) (fun b1 => br_t rfl (nm_r (nI_1 u) (skip ?_))))
    · rw [pa_ad_e (by omega), b2]
      intro z
      rw [Bool.not_true, Bool.and_false] at z
      cases z
    · have b : pa_ad g cu u = true := by
        rw [pa_ad_e (by omega), b1]
        cases e : bt cu u
        · rfl
        · exact absurd e b2
      rw [if_pos b] at h3
      have hlen : D.length < 20 := by
        have := congrArg List.length h3
        rw [List.length_append, List.length_reverse, List.length_cons] at this
        omega
      have H := ih f (u + 1) (u :: D) (by omega) (by omega) (by rw [List.reverse_cons, List.append_assoc]; exact h3)
      have hk : pa_tk y (u :: D) = if D.length < y then u :: pa_tk y D else pa_tk y D := rfl
      rw [hk] at H
      refine pk_le y D.length (fun q => ?_) (fun q => ⟨vp_in_nI h (by decide), vp_in_nI h (by decide), nm_r (pa_tt_s t m u _) ?_⟩)
      · rw [if_neg (by omega)] at H
        exact nm_r (nI_1 _) (nm_r (nI_1 u) H)
      · rw [if_pos q] at H
        exact nm_r (nI_1 _) (nm_r (nI_1 u) H)
    · rw [pa_ad_e (by omega)]
      intro z
      rw [Bool.and_eq_true] at z
      exact b1 z.1
theorem pa_y_t7 {post : Int32 → SY → Prop} {g : Int32} {y m : Nat} {T : List Nat} (hyl : y < 2 ^ 31) (hT : T.length ≤ 20)
    (K : ∀ D, D.reverse = T → post (nI D.length) ((nI n), bi, cu, nt, nm, (pa_na vN), sg, (pa_na oN), ow, ov, (pa_na dN), (pa_na kN), nl, nh, hp, hy, (pa_tt t m (pa_tk y D)))) :
    ∀ (u f : Nat) (D : List Nat), u ≤ 10 → u < f → D.reverse ++ (pa_dl (pa_rm g cu) u ++ pa_al (pa_ad g cu) 10 0) = T →
    wY_step_7 post g (nI y) (nI m) (nI n) bi cu nt f (nI D.length) (pa_p u) nm (pa_na vN) sg (pa_na oN) ow ov (pa_na dN) (pa_na kN) nl nh hp hy (pa_tt t m (pa_tk y D)) := by
  intro u
  induction u with
  | zero =>
    intro f D h1 h2 h3
    obtain ⟨f, rfl⟩ : ∃ g, f = g + 1 := ⟨f - 1, by omega⟩
    rw [wY_step_7]; try dsimp only
    exact br_t (show (-1 : Int32) < 0 by decide) ⟨11, pa_y_t64 hyl hT K 10 11 0 D (by omega) (by omega) h3⟩
  | succ u ih =>
    intro f D h1 h2 h3
    obtain ⟨f, rfl⟩ : ∃ g, f = g + 1 := ⟨f - 1, by omega⟩
    show wY_step_7 post g (nI y) (nI m) (nI n) bi cu nt (f + 1) (nI D.length) (nI u) nm (pa_na vN) sg (pa_na oN) ow ov (pa_na dN) (pa_na kN) nl nh hp hy (pa_tt t m (pa_tk y D))
    rw [wY_step_7]; try dsimp only
    have cu' : (nI u).toNatClampNeg = u := nI_clamp (by omega)
    rw [cu']
    have hal : pa_dl (pa_rm g cu) (u + 1) = if pa_rm g cu u = true then u :: pa_dl (pa_rm g cu) u else pa_dl (pa_rm g cu) u := rfl
    rw [hal] at h3
    have skip : ¬ pa_rm g cu u = true → wY_step_7 post g (nI y) (nI m) (nI n) bi cu nt f (nI D.length) (pa_p u) nm (pa_na vN) sg (pa_na oN) ow ov (pa_na dN) (pa_na kN) nl nh hp hy (pa_tt t m (pa_tk y D)) := by
      intro b
      rw [if_neg b] at h3
      exact ih f D (by omega) (by omega) h3
    refine br_f (nI_pos (by omega)) (pa_y_in (by omega) (fun b1 => br_f (by decide) (pa_y_in (by omega) (fun b2 => br_f (by decide) (nm_r (pa_pm u) (skip ?_))) (fun b2 => br_t rfl ?_))) (fun b1 => br_t rfl (nm_r (pa_pm u) (skip ?_))))
    · rw [pa_rm_e (by omega), b2]
      intro z
      rw [Bool.not_true, Bool.and_false] at z
      cases z
    · have b : pa_rm g cu u = true := by
        rw [pa_rm_e (by omega), b1]
        cases e : bt g u
        · rfl
        · exact absurd e b2
      rw [if_pos b] at h3
      have hlen : D.length < 20 := by
        have := congrArg List.length h3
        rw [List.length_append, List.length_reverse, List.length_append, List.length_cons] at this
        omega
      have H := ih f (u :: D) (by omega) (by omega) (by rw [List.reverse_cons, List.append_assoc]; exact h3)
      have hk : pa_tk y (u :: D) = if D.length < y then u :: pa_tk y D else pa_tk y D := rfl
      rw [hk] at H
      refine pk_le y D.length (fun q => ?_) (fun q => ⟨vp_in_nI (by omega) (by decide), vp_in_nI (by omega) (by decide), nm_r (pa_tt_s t m u _) ?_⟩)
      · rw [if_neg (by omega)] at H
        exact nm_r (nI_1 _) (nm_r (pa_pm u) H)
      · rw [if_pos q] at H
        exact nm_r (nI_1 _) (nm_r (pa_pm u) H)
    · rw [pa_rm_e (by omega)]
      intro z
      rw [Bool.and_eq_true] at z
      exact b1 z.1
theorem pa_y_step {post : Int32 → SY → Prop} {g : Int32} {y m : Nat} (hn : n ≤ 10) (hg : pa_wi n g) (hc : pa_wi n cu) (hyl : y < 2 ^ 31)
    (K : ∀ D, D.reverse = pa_TT n g cu → post (nI D.length) ((nI n), bi, cu, nt, nm, (pa_na vN), sg, (pa_na oN), ow, ov, (pa_na dN), (pa_na kN), nl, nh, hp, hy, (pa_tt tc m (pa_tk y D)))) : wpY_step post ((nI n), bi, cu, nt, nm, (pa_na vN), sg, (pa_na oN), ow, ov, (pa_na dN), (pa_na kN), nl, nh, hp, hy, tc) g (nI y) (nI m) := by
  unfold wpY_step
  have hT : (pa_TT n g cu).length ≤ 20 := by
    rw [pa_TT_len hn hg hc]
    have := pa_on_10 (g ^^^ cu)
    omega
  rw [← pa_TT_10 hn hg hc] at K hT
  have H := pa_y_t7 (post := post) (g := g) (y := y) (m := m) (t := tc) (n := n) (vN := vN) (oN := oN) (dN := dN) (kN := kN) (bi := bi) (cu := cu) (nt := nt) (nm := nm) (sg := sg) (ow := ow) (ov := ov) (nl := nl) (nh := nh) (hp := hp) (hy := hy)
    hyl hT K 10 11 [] (by omega) (by omega) rfl
  have e : pa_tk y [] = [] := rfl
  rw [e, pa_tt_nil] at H
  exact ⟨11, H⟩
theorem pa_y_45 {post : Int32 → SY → Prop} {r : Int32} {hy0 : Nat → Int32} (K : ∀ hy, (∀ i, i < 8 → hy i = hy0 (i + 1)) → post r ((nI n), bi, cu, (nI 8), nm, (pa_na vN), sg, (pa_na oN), ow, ov, (pa_na dN), (pa_na kN), nl, nh, hp, hy, tc)) :
    ∀ (d f k : Nat) (hy : Nat → Int32), k + d = 8 → d < f → (∀ i, i < k → hy i = hy0 (i + 1)) → (∀ i, k ≤ i → hy i = hy0 i) → wY_change_45 post r (nI n) bi cu nt f (nI k) nm (pa_na vN) sg (pa_na oN) ow ov (pa_na dN) (pa_na kN) nl nh hp hy tc := by
  intro d
  induction d with
  | zero =>
    intro f k hy h1 h2 h3 h4
    obtain ⟨f, rfl⟩ : ∃ g, f = g + 1 := ⟨f - 1, by omega⟩
    have e : k = 8 := by omega
    subst e
    rw [wY_change_45]; try dsimp only
    exact br_t (by decide) (K hy h3)
  | succ d ih =>
    intro f k hy h1 h2 h3 h4
    obtain ⟨f, rfl⟩ : ∃ g, f = g + 1 := ⟨f - 1, by omega⟩
    rw [wY_change_45]; try dsimp only
    have c1 : (nI (k + 1)).toNatClampNeg = k + 1 := nI_clamp (by omega)
    have c2 : (nI k).toNatClampNeg = k := nI_clamp (by omega)
    rw [nI_1 k, c1, c2]
    refine pk_le 8 k (fun h => by omega) (fun h => ⟨vp_in_nI (by omega) (by decide), vp_in_nI (by omega) (by decide), nm_e (nm_e (ih f (k + 1) _ (by omega) (by omega) (fun i hi => ?_) (fun i hi => ?_)))⟩)
    · by_cases e : i = k
      · subst e
        rw [pk_us]
        exact h4 (i + 1) (by omega)
      · rw [pk_un e]
        exact h3 i (by omega)
    · rw [pk_un (by omega)]
      exact h4 i (by omega)
theorem pa_y_change {post : Int32 → SY → Prop} {g : Int32} {m : Nat} (hn : n ≤ 10) (hm : m ≤ 8) (hg : pa_wi n g) (hc : pa_wi n cu)
    (K : ∀ D hy', D.reverse = pa_TT n g cu → (∀ i, i < pa_mm m → hy' i = pa_nh m hy g i) → post (nI D.length) ((nI n), bi, g, (nI (pa_mm m)), nm, (pa_na vN), sg, (pa_na oN), ow, ov, (pa_na dN), (pa_na kN), nl, nh, hp, hy', (pa_tt tc 1 D))) : wpY_change post ((nI n), bi, cu, (nI m), nm, (pa_na vN), sg, (pa_na oN), ow, ov, (pa_na dN), (pa_na kN), nl, nh, hp, hy, tc) g := by
  unfold wpY_change
  refine pa_y_step (y := 20) (m := 1) hn hg hc (by omega) (fun D hD => ?_)
  have hl : D.length ≤ 20 := by
    have h1 := pa_TT_len hn hg hc
    rw [← hD, List.length_reverse] at h1
    have := pa_on_10 (g ^^^ cu)
    omega
  rw [pa_tk_all hl]
  have c : (nI m).toNatClampNeg = m := nI_clamp (by omega)
  refine ⟨vp_in_nI (by omega) (by decide), nm_r (e' := upd hy m g) (by rw [c]) (nm_r (nI_1 m) (pk_le (m + 1) 8 (fun h => ?_) (fun h => ?_)))⟩
  · have em : pa_mm m = m + 1 := if_neg (by omega)
    rw [em] at K
    refine K D _ hD (fun i hi => ?_)
    unfold pa_nh
    rw [if_neg (by omega)]
    by_cases e : i = m
    · rw [if_pos e, e, pk_us]
    · rw [if_neg e, pk_un e]
  · have e8 : m = 8 := by omega
    subst e8
    refine ⟨9, pa_y_45 (hy0 := upd hy 8 g) (fun hy' q => K D hy' hD (fun i hi => ?_)) 8 9 0 _ (by omega) (by omega) (fun i hi => by omega) (fun i _ => rfl)⟩
    have hi8 : i < 8 := hi
    rw [q i hi8]
    unfold pa_nh
    rw [if_pos rfl]
    by_cases e : i < 7
    · rw [if_pos e, pk_un (by omega)]
    · have e7 : i = 7 := by omega
      subst e7
      rw [if_neg e, pk_us]
end
end
section
/-! methods, each side by itself -/
def pa_st (n : Nat) (x : Int32) : Prop := ∃ s, s < 2 ^ n ∧ x = nI s
theorem pa_st_wi {n : Nat} {x : Int32} (h : pa_st n x) : pa_wi n x := by
  obtain ⟨s, hs, rfl⟩ := h
  exact pa_wiof hs
theorem pa_An_ne {Fe : Nat → Prop} {c : Nat → Nat} {r w : Int32} {n : Nat} (hn : n ≤ 10) (hF : ∀ t, Fe t → t < 2 ^ n) (h : pa_An Fe c r w) : (r = -2 ∧ w = -2) ∨ ∃ s, s < 2 ^ n ∧ r = nI s := by
  rcases h with ⟨h1, h2, _⟩ | ⟨s, h1, h2, _⟩
  · exact Or.inl ⟨h1, h2⟩
  · exact Or.inr ⟨s, hF s h1, h2⟩
def pa_gv (w b : Int32) (t : Nat) : Nat := pa_on (w &&& (nI t ^^^ (-1))) + pa_on (b &&& nI t)
section
variable {n : Nat} {vN oN dN kN : Nat → Nat} {bi cu nt sp xi xo bc bs : Int32} {nm sg ow ov nl nh me ri la gI gO tu jo hx tc hp hy : Nat → Int32}
theorem pa_x_isSet {post : Int32 → Prop} {x : Int32} (hn : n ≤ 10) (h1 : pa_st n x → post 1) (h0 : ¬ pa_st n x → post 0) : wpX_isSet post ((nI n), bi, cu, nt, sp, xi, xo, bc, bs, nm, (pa_na vN), sg, (pa_na oN), (pa_na dN), ow, ov, (pa_na kN), nl, nh, me, ri, la, gI, gO, tu, jo, hx, tc) x := by
  unfold wpX_isSet
  dsimp only
  rw [pa_shn hn]
  have p10 := pa_p10 hn
  have ns : ∀ s, s < 2 ^ n → s < 2 ^ 31 := fun s hs => by omega
  refine br_c (fun g => h0 ?_) (fun g => br_c (fun g2 => h0 ?_) (fun g2 => h1 ?_))
  · rintro ⟨s, hs, rfl⟩
    exact nI_pos (ns s hs) g
  · rintro ⟨s, hs, rfl⟩
    exact nI_ge hs (by omega) g2
  · rcases pk_ix x (n := 2 ^ n) (by omega) with q | q | q
    · exact absurd q g
    · exact absurd q g2
    · exact q
theorem pa_y_bS {post : Int32 → Prop} {x : Int32} (hn : n ≤ 10) (h1 : pa_st n x → post 0) (h0 : ¬ pa_st n x → post 1) : wpY_badSet post ((nI n), bi, cu, nt, nm, (pa_na vN), sg, (pa_na oN), ow, ov, (pa_na dN), (pa_na kN), nl, nh, hp, hy, tc) x := by
  unfold wpY_badSet
  dsimp only
  rw [pa_shn hn]
  have p10 := pa_p10 hn
  have ns : ∀ s, s < 2 ^ n → s < 2 ^ 31 := fun s hs => by omega
  refine br_c (fun g => h0 ?_) (fun g => br_c (fun g2 => h1 ?_) (fun g2 => h0 ?_))
  · rintro ⟨s, hs, rfl⟩
    exact nI_pos (ns s hs) g
  · rcases pk_ix x (n := 2 ^ n) (by omega) with q | q | q
    · exact absurd q g
    · exact absurd g2 (Int32.not_lt.mpr q)
    · exact q
  · rintro ⟨s, hs, rfl⟩
    exact g2 (nI_lt hs (by omega))
theorem pa_x_s {post : Int32 → SX → Prop} {w b : Int32} (hn : n ≤ 10) (hv : ∀ u, vN u ≤ 9) (hd : ∀ u, dN u ≤ 3) (ho : ∀ u, oN u ≤ 3) (hq : ∀ k, kN k ≤ 63)
    (hbad : ¬ (pa_st n w ∧ pa_st n b) → post (-1) ((nI n), bi, cu, nt, sp, xi, xo, bc, bs, nm, (pa_na vN), sg, (pa_na oN), (pa_na dN), ow, ov, (pa_na kN), nl, nh, me, ri, la, gI, gO, tu, jo, hx, tc))
    (hok : pa_st n w → pa_st n b → ∀ me ri la gI gO tu xi xo bc bs r z, pa_An (pa_Fe n dN (pa_R n nm sg) (pa_M n oN ow ov kN nl nh) (pa_ma bi kN) w b) (pa_cs n dN (pa_L n nm vN) (pa_M n oN ow ov kN nl nh) (pa_oa bi kN) cu) r z → post r ((nI n), bi, cu, nt, sp, xi, xo, bc, bs, nm, (pa_na vN), sg, (pa_na oN), (pa_na dN), ow, ov, (pa_na kN), nl, nh, me, ri, la, gI, gO, tu, jo, hx, tc)) : wpX_plan post ((nI n), bi, cu, nt, sp, xi, xo, bc, bs, nm, (pa_na vN), sg, (pa_na oN), (pa_na dN), ow, ov, (pa_na kN), nl, nh, me, ri, la, gI, gO, tu, jo, hx, tc) w b := by
  unfold wpX_plan
  have p10 := pa_p10 hn
  refine pa_x_isSet hn (fun sw => br_f (by decide) (pa_x_isSet hn (fun sb => br_f (by decide) ?_) (fun q => br_t rfl (hbad fun z => q z.2)))) (fun q => br_t rfl (hbad fun z => q z.1))
  refine pa_x_search hn hv hd ho hq (pa_st_wi sw) (pa_st_wi sb) (fun me ri la gI gO tu xi xo bc bs hB => ?_)
  rcases hB with ⟨h1, h2⟩ | ⟨s, h1, h2, h3, h4⟩
  · subst h1
    exact br_f (by decide) (hok sw sb me ri la gI gO tu xi xo bc (-1) (-2) (-2) (Or.inl ⟨rfl, rfl, fun s fs => h2 s fs trivial⟩))
  · subst h2 h3
    have l := h1.1
    exact br_t (nI_pos' (by omega)) (hok sw sb me ri la gI gO tu xi xo _ _ _ _ (Or.inr ⟨s, h1, rfl, rfl, fun t ft => h4 t ft trivial⟩))
theorem pa_x_sc {post : Int32 → SX → Prop} {w b : Int32} (hn : n ≤ 10) (hv : ∀ u, vN u ≤ 9) (hd : ∀ u, dN u ≤ 3) (ho : ∀ u, oN u ≤ 3) (hq : ∀ k, kN k ≤ 63)
    (hbad : ¬ (pa_st n w ∧ pa_st n b) → post (-1) ((nI n), bi, cu, nt, sp, xi, xo, bc, bs, nm, (pa_na vN), sg, (pa_na oN), (pa_na dN), ow, ov, (pa_na kN), nl, nh, me, ri, la, gI, gO, tu, jo, hx, tc))
    (hok : pa_st n w → pa_st n b → ∀ me ri la gI gO tu xi xo bc bs r z, pa_An (pa_Fe n dN (pa_R n nm sg) (pa_M n oN ow ov kN nl nh) (pa_ma bi kN) w b) (pa_cs n dN (pa_L n nm vN) (pa_M n oN ow ov kN nl nh) (pa_oa bi kN) cu) r z → post z ((nI n), bi, cu, nt, sp, xi, xo, bc, bs, nm, (pa_na vN), sg, (pa_na oN), (pa_na dN), ow, ov, (pa_na kN), nl, nh, me, ri, la, gI, gO, tu, jo, hx, tc)) : wpX_planCost post ((nI n), bi, cu, nt, sp, xi, xo, bc, bs, nm, (pa_na vN), sg, (pa_na oN), (pa_na dN), ow, ov, (pa_na kN), nl, nh, me, ri, la, gI, gO, tu, jo, hx, tc) w b := by
  unfold wpX_planCost
  have p10 := pa_p10 hn
  refine pa_x_isSet hn (fun sw => br_f (by decide) (pa_x_isSet hn (fun sb => br_f (by decide) ?_) (fun q => br_t rfl (hbad fun z => q z.2)))) (fun q => br_t rfl (hbad fun z => q z.1))
  refine pa_x_search hn hv hd ho hq (pa_st_wi sw) (pa_st_wi sb) (fun me ri la gI gO tu xi xo bc bs hB => ?_)
  rcases hB with ⟨h1, h2⟩ | ⟨s, h1, h2, h3, h4⟩
  · subst h1
    exact br_f (by decide) (hok sw sb me ri la gI gO tu xi xo bc (-1) (-2) (-2) (Or.inl ⟨rfl, rfl, fun s fs => h2 s fs trivial⟩))
  · subst h2 h3
    have l := h1.1
    exact br_t (nI_pos' (by omega)) (hok sw sb me ri la gI gO tu xi xo _ _ _ _ (Or.inr ⟨s, h1, rfl, rfl, fun t ft => h4 t ft trivial⟩))
theorem pa_x_ex35 {post : Int32 → SX → Prop} {w b : Int32} {R M : Nat → Int32} {L : Nat → Nat} (hn : n ≤ 10) (hd : ∀ u, dN u ≤ 3) (hq : ∀ k, kN k ≤ 63) (hP : pa_PR n dN L R M me ri la)
    (K : ∀ l, (∀ t, t < 2 ^ n → pa_So n dN R M (pa_ma bi kN) (nI t) → l ≤ pa_gv w b t) → (∃ t, t < 2 ^ n ∧ pa_So n dN R M (pa_ma bi kN) (nI t) ∧ pa_gv w b t = l) → post (nI l) ((nI n), bi, cu, nt, sp, xi, xo, bc, bs, nm, (pa_na vN), sg, (pa_na oN), (pa_na dN), ow, ov, (pa_na kN), nl, nh, me, ri, la, gI, gO, tu, jo, hx, tc)) :
    ∀ f s l, 2 ^ n < f + s → s ≤ 2 ^ n → l ≤ 99 → (∀ t, t < s → pa_So n dN R M (pa_ma bi kN) (nI t) → l ≤ pa_gv w b t) → ((∃ t, t < 2 ^ n ∧ pa_So n dN R M (pa_ma bi kN) (nI t) ∧ pa_gv w b t = l) ∨ (s = 0 ∧ pa_gv w b 0 ≤ l)) →
    wX_excess_35 post w b (nI n) bi cu nt sp xi xo bc bs nm (pa_na vN) sg (pa_na oN) (pa_na dN) ow ov (pa_na kN) nl nh me ri la gI gO tu jo hx tc f (nI l) (nI s) := by
  intro f
  have p10 := pa_p10 hn
  have p0 : 0 < 2 ^ n := Nat.two_pow_pos n
  induction f with
  | zero => intro s l h1 h2; omega
  | succ f ih =>
    intro s l h1 h2 h3 h4 h5
    rw [wX_excess_35]; try dsimp only
    rw [pa_shn hn]
    have hg : pa_gv w b s ≤ 20 := by
      have a1 := pa_on_10 (w &&& (nI s ^^^ (-1)))
      have a2 := pa_on_10 (b &&& nI s)
      unfold pa_gv
      omega
    have so0 : pa_So n dN R M (pa_ma bi kN) (nI 0) := by
      intro u hu hb
      rw [nI_0, b_0] at hb; cases hb
    refine pk_le (2 ^ n) s (fun h => ?_) (fun h => pa_x_ones (pa_x_ones (nm_r (nI_add _ _) ?_)))
    · have e : s = 2 ^ n := by omega
      subst e
      rcases h5 with h5 | h5
      · exact K l h4 h5
      · omega
    · have keep : (pa_So n dN R M (pa_ma bi kN) (nI s) → l ≤ pa_gv w b s) → (s = 0 → l ≤ pa_gv w b 0) → wX_excess_35 post w b (nI n) bi cu nt sp xi xo bc bs nm (pa_na vN) sg (pa_na oN) (pa_na dN) ow ov (pa_na kN) nl nh me ri la gI gO tu jo hx tc f (nI l) (nI (s + 1)) := by
        intro g g0
        refine ih (s + 1) l (by omega) (by omega) h3 (fun t ht so => ?_) ?_
        · by_cases e : t = s
          · subst e; exact g so
          · exact h4 t (by omega) so
        · rcases h5 with h5 | ⟨e, h5⟩
          · exact Or.inl h5
          · exact Or.inl ⟨0, p0, so0, Nat.le_antisymm h5 (g0 e)⟩
      refine pk_le l (pa_gv w b s) (fun g => nm_r (nI_1 s) (keep (fun _ => g) (fun e => by rw [e] at g; exact g))) (fun g => pa_x_so hn hd hq hP (fun so => br_f (by decide) (nm_r (nI_1 s) ?_)) (fun so => br_t rfl (nm_r (nI_1 s) (keep (fun z => absurd z so) (fun e => absurd so0 (by rw [e] at so; exact so))))))
      refine ih (s + 1) (pa_gv w b s) (by omega) (by omega) (by omega) (fun t ht st => ?_) (Or.inl ⟨s, h, so, rfl⟩)
      by_cases e : t = s
      · subst e; exact Nat.le_refl _
      · have := h4 t (by omega) st
        omega
theorem pa_y_ex28 {post : Int32 → SY → Prop} {w b : Int32} (hn : n ≤ 10) (hd : ∀ u, dN u ≤ 3) (hq : ∀ k, kN k ≤ 63) (hH : ∀ k, k < 30 → hp k = (pa_M n oN ow ov kN nl nh) k)
    (K : ∀ l, (∀ t, t < 2 ^ n → pa_So n dN (pa_R n nm sg) (pa_M n oN ow ov kN nl nh) (pa_ma bi kN) (nI t) → l ≤ pa_gv w b t) → (∃ t, t < 2 ^ n ∧ pa_So n dN (pa_R n nm sg) (pa_M n oN ow ov kN nl nh) (pa_ma bi kN) (nI t) ∧ pa_gv w b t = l) → post (nI l) ((nI n), bi, cu, nt, nm, (pa_na vN), sg, (pa_na oN), ow, ov, (pa_na dN), (pa_na kN), nl, nh, hp, hy, tc)) :
    ∀ f s l, 2 ^ n < f + s → s ≤ 2 ^ n → l ≤ 99 → (∀ t, t < s → pa_So n dN (pa_R n nm sg) (pa_M n oN ow ov kN nl nh) (pa_ma bi kN) (nI t) → l ≤ pa_gv w b t) → ((∃ t, t < 2 ^ n ∧ pa_So n dN (pa_R n nm sg) (pa_M n oN ow ov kN nl nh) (pa_ma bi kN) (nI t) ∧ pa_gv w b t = l) ∨ (s = 0 ∧ pa_gv w b 0 ≤ l)) →
    wY_excess_28 post w b (nI n) bi cu nt nm (pa_na vN) sg (pa_na oN) ow ov (pa_na dN) (pa_na kN) nl nh hp hy tc f (nI l) (nI s) := by
  intro f
  have p10 := pa_p10 hn
  have p0 : 0 < 2 ^ n := Nat.two_pow_pos n
  induction f with
  | zero => intro s l h1 h2; omega
  | succ f ih =>
    intro s l h1 h2 h3 h4 h5
    rw [wY_excess_28]; try dsimp only
    rw [pa_shn hn]
    have hg : pa_gv w b s ≤ 20 := by
      have a1 := pa_on_10 (w &&& (nI s ^^^ (-1)))
      have a2 := pa_on_10 (b &&& nI s)
      unfold pa_gv
      omega
    have so0 : pa_So n dN (pa_R n nm sg) (pa_M n oN ow ov kN nl nh) (pa_ma bi kN) (nI 0) := by
      intro u hu hb
      rw [nI_0, b_0] at hb; cases hb
    refine pk_le (2 ^ n) s (fun h => ?_) (fun h => pa_y_size (pa_y_size (nm_r (nI_add _ _) ?_)))
    · have e : s = 2 ^ n := by omega
      subst e
      rcases h5 with h5 | h5
      · exact K l h4 h5
      · omega
    · have keep : (pa_So n dN (pa_R n nm sg) (pa_M n oN ow ov kN nl nh) (pa_ma bi kN) (nI s) → l ≤ pa_gv w b s) → (s = 0 → l ≤ pa_gv w b 0) → wY_excess_28 post w b (nI n) bi cu nt nm (pa_na vN) sg (pa_na oN) ow ov (pa_na dN) (pa_na kN) nl nh hp hy tc f (nI l) (nI (s + 1)) := by
        intro g g0
        refine ih (s + 1) l (by omega) (by omega) h3 (fun t ht so => ?_) ?_
        · by_cases e : t = s
          · subst e; exact g so
          · exact h4 t (by omega) so
        · rcases h5 with h5 | ⟨e, h5⟩
          · exact Or.inl h5
          · exact Or.inl ⟨0, p0, so0, Nat.le_antisymm h5 (g0 e)⟩
      refine pk_le l (pa_gv w b s) (fun g => nm_r (nI_1 s) (keep (fun _ => g) (fun e => by rw [e] at g; exact g))) (fun g => pa_y_so hn hd hq hH (fun so => br_f (by decide) (nm_r (nI_1 s) ?_)) (fun so => br_t rfl (nm_r (nI_1 s) (keep (fun z => absurd z so) (fun e => absurd so0 (by rw [e] at so; exact so))))))
      refine ih (s + 1) (pa_gv w b s) (by omega) (by omega) (by omega) (fun t ht st => ?_) (Or.inl ⟨s, h, so, rfl⟩)
      by_cases e : t = s
      · subst e; exact Nat.le_refl _
      · have := h4 t (by omega) st
        omega
theorem pa_x_isU {post : Int32 → Prop} {x : Int32} (hn : n ≤ 10) (h1 : ∀ u, u < n → x = nI u → post 1) (h0 : ¬ (∃ u, u < n ∧ x = nI u) → post 0) : wpX_isUnit post ((nI n), bi, cu, nt, sp, xi, xo, bc, bs, nm, (pa_na vN), sg, (pa_na oN), (pa_na dN), ow, ov, (pa_na kN), nl, nh, me, ri, la, gI, gO, tu, jo, hx, tc) x := by
  unfold wpX_isUnit
  refine br_c (fun g => h0 ?_) (fun g => br_c (fun g2 => h0 ?_) (fun g2 => ?_))
  · rintro ⟨s, hs, rfl⟩
    exact nI_pos (by omega) g
  · rintro ⟨s, hs, rfl⟩
    exact nI_ge hs (by omega) g2
  · rcases pk_ix x (n := n) (by omega) with q | q | ⟨u, q1, q2⟩
    · exact absurd q g
    · exact absurd q g2
    · exact h1 u q1 q2
theorem pa_y_bad {post : Int32 → Prop} {x : Int32} (hn : n ≤ 10) (h1 : ∀ u, u < n → x = nI u → post 0) (h0 : ¬ (∃ u, u < n ∧ x = nI u) → post 1) : wpY_bad post ((nI n), bi, cu, nt, nm, (pa_na vN), sg, (pa_na oN), ow, ov, (pa_na dN), (pa_na kN), nl, nh, hp, hy, tc) x := by
  unfold wpY_bad
  refine br_c (fun g => h0 ?_) (fun g => br_c (fun g2 => h0 ?_) (fun g2 => ?_))
  · rintro ⟨s, hs, rfl⟩
    exact nI_pos (by omega) g
  · rintro ⟨s, hs, rfl⟩
    exact nI_ge hs (by omega) g2
  · rcases pk_ix x (n := n) (by omega) with q | q | ⟨u, q1, q2⟩
    · exact absurd q g
    · exact absurd q g2
    · subst q2
      exact pk_le u 9 (fun _ => h1 u q1 rfl) (fun z => by omega)
theorem pa_x_ud {post : Int32 → SX → Prop} {a b z : Int32} {w : Nat} (hn : n ≤ 10) (hw : w < n) (h1 : nm w = a) (h2 : pa_na vN w = b) (K : post (-3) ((nI n), bi, cu, nt, sp, xi, xo, bc, bs, nm, (pa_na vN), sg, (pa_na oN), (pa_na dN), ow, ov, (pa_na kN), nl, nh, me, ri, la, gI, gO, tu, jo, hx, tc)) :
    ∀ f u, n < f + u → u ≤ w → wX_unit_28 post a b z (nI n) bi cu nt sp xi xo bc bs nm (pa_na vN) sg (pa_na oN) (pa_na dN) ow ov (pa_na kN) nl nh me ri la gI gO tu jo hx tc f (nI u) := by
  intro f
  induction f with
  | zero => intro u h1 h2; omega
  | succ f ih =>
    intro u g1 g2
    rw [wX_unit_28]; try dsimp only
    have c : (nI u).toNatClampNeg = u := nI_clamp (by omega)
    rw [c]
    have nx : ¬ u = w → wX_unit_28 post a b z (nI n) bi cu nt sp xi xo bc bs nm (pa_na vN) sg (pa_na oN) (pa_na dN) ow ov (pa_na kN) nl nh me ri la gI gO tu jo hx tc f (nI (u + 1)) := fun e => ih (u + 1) (by omega) (by omega)
    refine br_f (nI_ge (by omega) (by omega)) ⟨vp_in_nI (by omega) (by decide), br_c (fun q => ⟨vp_in_nI (by omega) (by decide), br_c (fun q2 => K) (fun q2 => nm_r (nI_1 u) (nx ?_))⟩) (fun q => nm_r (nI_1 u) (nx ?_))⟩
    · intro e; subst e; exact q2 h2
    · intro e; subst e; exact q h1
theorem pa_x_un {post : Int32 → SX → Prop} {a b z : Int32} (hn : n ≤ 10) (hno : ∀ w, w < n → nm w = a → pa_na vN w = b → False)
    (hfull : n = 10 → post (-4) ((nI n), bi, cu, nt, sp, xi, xo, bc, bs, nm, (pa_na vN), sg, (pa_na oN), (pa_na dN), ow, ov, (pa_na kN), nl, nh, me, ri, la, gI, gO, tu, jo, hx, tc))
    (hnew : n < 10 → post (nI n) ((nI (n + 1)), bi, cu, nt, sp, xi, xo, bc, bs, (upd nm n a), (upd (pa_na vN) n b), (upd sg n (vp_nar .boolean (if z = 0 then 0 else 1))), (upd (pa_na oN) n 0), (upd (pa_na dN) n 0), ow, ov, (pa_na kN), nl, nh, me, ri, la, gI, gO, tu, jo, hx, tc)) :
    ∀ f u, n < f + u → u ≤ n → wX_unit_28 post a b z (nI n) bi cu nt sp xi xo bc bs nm (pa_na vN) sg (pa_na oN) (pa_na dN) ow ov (pa_na kN) nl nh me ri la gI gO tu jo hx tc f (nI u) := by
  intro f
  induction f with
  | zero => intro u h1 h2; omega
  | succ f ih =>
    intro u g1 g2
    rw [wX_unit_28]; try dsimp only
    have c : (nI u).toNatClampNeg = u := nI_clamp (by omega)
    have cn' : (nI n).toNatClampNeg = n := nI_clamp (by omega)
    rw [c, cn']
    refine pk_le n u (fun h => pk_eq n 10 hfull (fun h2 => ?_)) (fun h => ⟨vp_in_nI (by omega) (by decide), br_c (fun q => ⟨vp_in_nI (by omega) (by decide), br_c (fun q2 => (hno u h q q2).elim) (fun q2 => nm_r (nI_1 u) (ih (u + 1) (by omega) (by omega)))⟩) (fun q => nm_r (nI_1 u) (ih (u + 1) (by omega) (by omega)))⟩)
    have hn10 : n < 10 := by omega
    have vi : vp_in (nI n) 10 := vp_in_nI hn10 (by decide)
    have K := hnew hn10
    refine ⟨vi, nm_e ⟨vi, nm_e (br_c (fun q => ?_) (fun q => ?_))⟩⟩
    · rw [if_pos q] at K
      unfold wX_unit_117
      rw [cn']
      refine ⟨vi, nm_e ⟨vi, nm_e ⟨vi, nm_e (nm_r (nI_1 n) ?_)⟩⟩⟩
      rw [nI_pred]
      exact K
    · rw [if_neg q] at K
      unfold wX_unit_117
      rw [cn']
      refine ⟨vi, nm_e ⟨vi, nm_e ⟨vi, nm_e (nm_r (nI_1 n) ?_)⟩⟩⟩
      rw [nI_pred]
      exact K
theorem pa_y_ud {post : Int32 → SY → Prop} {a b z : Int32} {w : Nat} (hn : n ≤ 10) (hw : w < n) (h1 : nm w = a) (h2 : pa_na vN w = b) (K : post (-3) ((nI n), bi, cu, nt, nm, (pa_na vN), sg, (pa_na oN), ow, ov, (pa_na dN), (pa_na kN), nl, nh, hp, hy, tc)) :
    ∀ f u, n < f + u → u ≤ w → wY_unit_28 post a b z (nI n) bi cu nt nm (pa_na vN) sg (pa_na oN) ow ov (pa_na dN) (pa_na kN) nl nh hp hy tc f (nI u) := by
  intro f
  induction f with
  | zero => intro u h1 h2; omega
  | succ f ih =>
    intro u g1 g2
    rw [wY_unit_28]; try dsimp only
    have c : (nI u).toNatClampNeg = u := nI_clamp (by omega)
    rw [c]
    have nx : ¬ u = w → wY_unit_28 post a b z (nI n) bi cu nt nm (pa_na vN) sg (pa_na oN) ow ov (pa_na dN) (pa_na kN) nl nh hp hy tc f (nI (u + 1)) := fun e => ih (u + 1) (by omega) (by omega)
    refine br_f (nI_ge (by omega) (by omega)) (br_f (nI_ge (b := 10) (by omega) (by omega)) ⟨vp_in_nI (by omega) (by decide), br_c (fun q => ⟨vp_in_nI (by omega) (by decide), br_c (fun q2 => K) (fun q2 => nm_r (nI_1 u) (nx ?_))⟩) (fun q => nm_r (nI_1 u) (nx ?_))⟩)
    · intro e; subst e; exact q2 h2
    · intro e; subst e; exact q h1
theorem pa_y_un {post : Int32 → SY → Prop} {a b z : Int32} (hn : n ≤ 10) (hno : ∀ w, w < n → nm w = a → pa_na vN w = b → False)
    (hfull : n = 10 → post (-4) ((nI n), bi, cu, nt, nm, (pa_na vN), sg, (pa_na oN), ow, ov, (pa_na dN), (pa_na kN), nl, nh, hp, hy, tc))
    (hnew : n < 10 → post (nI n) ((nI (n + 1)), bi, cu, nt, (upd nm n a), (upd (pa_na vN) n b), (upd sg n (vp_nar .boolean (if z = 0 then 0 else 1))), (pa_na oN), ow, ov, (pa_na dN), (pa_na kN), nl, nh, hp, hy, tc)) :
    ∀ f u, n < f + u → u ≤ n → wY_unit_28 post a b z (nI n) bi cu nt nm (pa_na vN) sg (pa_na oN) ow ov (pa_na dN) (pa_na kN) nl nh hp hy tc f (nI u) := by
  intro f
  induction f with
  | zero => intro u h1 h2; omega
  | succ f ih =>
    intro u g1 g2
    rw [wY_unit_28]; try dsimp only
    have c : (nI u).toNatClampNeg = u := nI_clamp (by omega)
    have cn' : (nI n).toNatClampNeg = n := nI_clamp (by omega)
    rw [c]
    refine pk_le n u (fun h => ?_) (fun h => pk_le 10 u (fun h2 => by omega) (fun h2 => ⟨vp_in_nI (by omega) (by decide), br_c (fun q => ⟨vp_in_nI (by omega) (by decide), br_c (fun q2 => (hno u h q q2).elim) (fun q2 => nm_r (nI_1 u) (ih (u + 1) (by omega) (by omega)))⟩) (fun q => nm_r (nI_1 u) (ih (u + 1) (by omega) (by omega)))⟩))
    unfold wY_unit_75
    rw [cn']
    refine pk_le n 9 (fun h2 => ?_) (fun h2 => hfull (by omega))
    have hn10 : n < 10 := by omega
    have vi : vp_in (nI n) 10 := vp_in_nI hn10 (by decide)
    have K := hnew hn10
    refine ⟨vi, nm_e ⟨vi, nm_e (br_c (fun q => ?_) (fun q => ?_))⟩⟩
    · rw [if_pos q] at K
      unfold wY_unit_122
      rw [cn']
      exact ⟨vi, nm_e (nm_r (nI_1 n) K)⟩
    · rw [if_neg q] at K
      unfold wY_unit_122
      rw [cn']
      exact ⟨vi, nm_e (nm_r (nI_1 n) K)⟩
end
end
section
/-! the relation -/
def pa_F (n m : Nat) (vN oN dN kN : Nat → Nat) (cu : Int32) (hx hy : Nat → Int32) : Prop :=
  n ≤ 10 ∧ m ≤ 8 ∧ (∀ u, vN u ≤ 9) ∧ (∀ u, dN u ≤ 3) ∧ (∀ u, oN u ≤ 3) ∧ (∀ k, kN k ≤ 63) ∧ (∀ u, n ≤ u → dN u = 0 ∧ oN u = 0) ∧ pa_wi n cu ∧ ∀ i, i < m → hx i = hy i ∧ pa_wi n (hx i)
/-- the two objects hold the same units, offers, needs, environment, profile, touches and the same notes -/
def i_Rel (k : Nat) (u : SX) (v : SY) : Prop :=
  ∃ (n m : Nat) (vN oN dN kN : Nat → Nat) (bi cu sp xi xo bc bs : Int32) (nm sg ow ov nl nh me ri la gI gO tu jo hx tc hp hy : Nat → Int32), u = ((nI n), bi, cu, (nI m), sp, xi, xo, bc, bs, nm, (pa_na vN), sg, (pa_na oN), (pa_na dN), ow, ov, (pa_na kN), nl, nh, me, ri, la, gI, gO, tu, jo, hx, tc) ∧ v = ((nI n), bi, cu, (nI m), nm, (pa_na vN), sg, (pa_na oN), ow, ov, (pa_na dN), (pa_na kN), nl, nh, hp, hy, tc) ∧ pa_F n m vN oN dN kN cu hx hy
theorem pa_in {k n m : Nat} {vN oN dN kN : Nat → Nat} {bi cu sp xi xo bc bs : Int32} {nm sg ow ov nl nh me ri la gI gO tu jo hx tc hp hy : Nat → Int32} (F : pa_F n m vN oN dN kN cu hx hy) : i_Rel k ((nI n), bi, cu, (nI m), sp, xi, xo, bc, bs, nm, (pa_na vN), sg, (pa_na oN), (pa_na dN), ow, ov, (pa_na kN), nl, nh, me, ri, la, gI, gO, tu, jo, hx, tc) ((nI n), bi, cu, (nI m), nm, (pa_na vN), sg, (pa_na oN), ow, ov, (pa_na dN), (pa_na kN), nl, nh, hp, hy, tc) :=
  ⟨n, m, vN, oN, dN, kN, bi, cu, sp, xi, xo, bc, bs, nm, sg, ow, ov, nl, nh, me, ri, la, gI, gO, tu, jo, hx, tc, hp, hy, rfl, rfl, F⟩
theorem pa_el {k : Nat} {u : SX} {v : SY} {P : SX → SY → Prop} (h : ∀ (n m : Nat) (vN oN dN kN : Nat → Nat) (bi cu sp xi xo bc bs : Int32) (nm sg ow ov nl nh me ri la gI gO tu jo hx tc hp hy : Nat → Int32), pa_F n m vN oN dN kN cu hx hy → P ((nI n), bi, cu, (nI m), sp, xi, xo, bc, bs, nm, (pa_na vN), sg, (pa_na oN), (pa_na dN), ow, ov, (pa_na kN), nl, nh, me, ri, la, gI, gO, tu, jo, hx, tc) ((nI n), bi, cu, (nI m), nm, (pa_na vN), sg, (pa_na oN), ow, ov, (pa_na dN), (pa_na kN), nl, nh, hp, hy, tc)) (I : i_Rel k u v) : P u v :=
  Exists.elim I fun n I => Exists.elim I fun m I => Exists.elim I fun vN I => Exists.elim I fun oN I => Exists.elim I fun dN I => Exists.elim I fun kN I => Exists.elim I fun bi I => Exists.elim I fun cu I => Exists.elim I fun sp I => Exists.elim I fun xi I => Exists.elim I fun xo I => Exists.elim I fun bc I => Exists.elim I fun bs I => Exists.elim I fun nm I => Exists.elim I fun sg I => Exists.elim I fun ow I => Exists.elim I fun ov I => Exists.elim I fun nl I => Exists.elim I fun nh I => Exists.elim I fun me I => Exists.elim I fun ri I => Exists.elim I fun la I => Exists.elim I fun gI I => Exists.elim I fun gO I => Exists.elim I fun tu I => Exists.elim I fun jo I => Exists.elim I fun hx I => Exists.elim I fun tc I => Exists.elim I fun hp I => Exists.elim I fun hy I => I.1.symm ▸ I.2.1.symm ▸ h n m vN oN dN kN bi cu sp xi xo bc bs nm sg ow ov nl nh me ri la gI gO tu jo hx tc hp hy I.2.2
theorem pa_F_g {n m : Nat} {vN oN dN kN : Nat → Nat} {cu g : Int32} {hx hy hx' hy' : Nat → Int32} (F : pa_F n m vN oN dN kN cu hx hy) (hg : pa_wi n g)
    (h1 : ∀ i, i < pa_mm m → hx' i = pa_nh m hx g i) (h2 : ∀ i, i < pa_mm m → hy' i = pa_nh m hy g i) : pa_F n (pa_mm m) vN oN dN kN g hx' hy' := by
  obtain ⟨f1, f2, f3, f4, f5, f6, f7, f8, f9⟩ := F
  have hm : pa_mm m ≤ 8 := by
    unfold pa_mm
    by_cases e : m = 8
    · rw [if_pos e]; omega
    · rw [if_neg e]; omega
  refine ⟨f1, hm, f3, f4, f5, f6, f7, hg, fun i hi => ?_⟩
  rw [h1 i hi, h2 i hi]
  unfold pa_nh
  unfold pa_mm at hi
  by_cases e : m = 8
  · rw [if_pos e] at hi
    rw [if_pos e, if_pos e]
    by_cases q : i < 7
    · rw [if_pos q, if_pos q]
      exact f9 (i + 1) (by omega)
    · rw [if_neg q, if_neg q]
      exact ⟨rfl, hg⟩
  · rw [if_neg e] at hi
    rw [if_neg e, if_neg e]
    by_cases q : i = m
    · rw [if_pos q, if_pos q]
      exact ⟨rfl, hg⟩
    · rw [if_neg q, if_neg q]
      exact f9 i (by omega)
def pa_uN (f : Nat → Nat) (k x : Nat) : Nat → Nat := fun j => if j = k then x else f j
theorem pa_uN_na (f : Nat → Nat) (k x : Nat) : upd (pa_na f) k (nI x) = pa_na (pa_uN f k x) := by
  funext j
  show (if j = k then nI x else nI (f j)) = nI (if j = k then x else f j)
  by_cases e : j = k
  · rw [if_pos e, if_pos e]
  · rw [if_neg e, if_neg e]
theorem pa_uN_bd {f : Nat → Nat} {k x b : Nat} (h : ∀ u, f u ≤ b) (hx : x ≤ b) (u : Nat) : pa_uN f k x u ≤ b := by
  unfold pa_uN
  by_cases e : u = k
  · rw [if_pos e]; exact hx
  · rw [if_neg e]; exact h u
theorem pa_uN_n {f : Nat → Nat} {k x u : Nat} (h : u ≠ k) : pa_uN f k x u = f u := if_neg h
theorem pa_na_0 {f : Nat → Nat} {k : Nat} (h : f k = 0) : upd (pa_na f) k 0 = pa_na f := by
  funext j
  by_cases e : j = k
  · subst e
    rw [pk_us]
    show 0 = nI (f j)
    rw [h]; rfl
  · rw [pk_un e]
theorem i_up {k : Nat} {u : SX} {v : SY} (h : i_Rel k u v) : i_Rel (k + 5) u v := h
theorem i_vc0 : wpX_init (fun u => wpY_init (fun v => i_Rel 0 u v)) := by
  unfold wpX_init wpY_init
  exact pa_in (n := 0) (m := 0) (vN := fun _ => 0) (oN := fun _ => 0) (dN := fun _ => 0) (kN := fun _ => 0) ⟨by omega, by omega, fun _ => Nat.zero_le _, fun _ => Nat.zero_le _, fun _ => Nat.zero_le _, fun _ => Nat.zero_le _, fun _ _ => ⟨rfl, rfl⟩, pa_wi_0, fun i hi => by omega⟩
end
section
/-! the owed statements: the small methods -/
theorem i_vc_units {k : Nat} {u : SX} {v : SY} (I : i_Rel k u v) (hk : k + 5 ≤ 2560) : wpX_units (fun r => wpY_units (fun r' => r' = r ∧ i_Rel (k + 5) u v) v) u := by
  refine pa_el (P := fun u v => wpX_units (fun r => wpY_units (fun r' => r' = r ∧ i_Rel (k + 5) u v) v) u) ?_ I
  intro n m vN oN dN kN bi cu sp xi xo bc bs nm sg ow ov nl nh me ri la gI gO tu jo hx tc hp hy F
  obtain ⟨f1, f2, f3, f4, f5, f6, f7, f8, f9⟩ := id F
  exact ⟨rfl, pa_in F⟩
theorem i_vc_profile {k : Nat} {u : SX} {v : SY} (I : i_Rel k u v) (hk : k + 5 ≤ 2560) : wpX_profile (fun r => wpY_profile (fun r' => r' = r ∧ i_Rel (k + 5) u v) v) u := by
  refine pa_el (P := fun u v => wpX_profile (fun r => wpY_profile (fun r' => r' = r ∧ i_Rel (k + 5) u v) v) u) ?_ I
  intro n m vN oN dN kN bi cu sp xi xo bc bs nm sg ow ov nl nh me ri la gI gO tu jo hx tc hp hy F
  obtain ⟨f1, f2, f3, f4, f5, f6, f7, f8, f9⟩ := id F
  exact ⟨rfl, pa_in F⟩
theorem i_vc_notes {k : Nat} {u : SX} {v : SY} (I : i_Rel k u v) (hk : k + 5 ≤ 2560) : wpX_notes (fun r => wpY_notes (fun r' => r' = r ∧ i_Rel (k + 5) u v) v) u := by
  refine pa_el (P := fun u v => wpX_notes (fun r => wpY_notes (fun r' => r' = r ∧ i_Rel (k + 5) u v) v) u) ?_ I
  intro n m vN oN dN kN bi cu sp xi xo bc bs nm sg ow ov nl nh me ri la gI gO tu jo hx tc hp hy F
  obtain ⟨f1, f2, f3, f4, f5, f6, f7, f8, f9⟩ := id F
  exact ⟨rfl, pa_in F⟩
theorem i_vc_environment {k : Nat} {u : SX} {v : SY} (I : i_Rel k u v) (hk : k + 5 ≤ 2560) (v1 : Int32) : wpX_environment (fun r u' => wpY_environment (fun r' v' => r' = r ∧ i_Rel (k + 5) u' v') v v1) u v1 := by
  refine pa_el (P := fun u v => wpX_environment (fun r u' => wpY_environment (fun r' v' => r' = r ∧ i_Rel (k + 5) u' v') v v1) u v1) ?_ I
  intro n m vN oN dN kN bi cu sp xi xo bc bs nm sg ow ov nl nh me ri la gI gO tu jo hx tc hp hy F
  obtain ⟨f1, f2, f3, f4, f5, f6, f7, f8, f9⟩ := id F
  unfold wpX_environment wpY_environment
  by_cases h1 : v1 < 0
  · exact br_t h1 (br_t h1 ⟨rfl, pa_in F⟩)
  · by_cases h2 : v1 ≤ 7
    · exact br_f h1 (br_t h2 (br_f h1 (br_t h2 ⟨rfl, pa_in F⟩)))
    · exact br_f h1 (br_f h2 (br_f h1 (br_f h2 ⟨rfl, pa_in F⟩)))
theorem i_vc_note {k : Nat} {u : SX} {v : SY} (I : i_Rel k u v) (hk : k + 5 ≤ 2560) (v1 : Int32) : wpX_note (fun r => wpY_note (fun r' => r' = r ∧ i_Rel (k + 5) u v) v v1) u v1 := by
  refine pa_el (P := fun u v => wpX_note (fun r => wpY_note (fun r' => r' = r ∧ i_Rel (k + 5) u v) v v1) u v1) ?_ I
  intro n m vN oN dN kN bi cu sp xi xo bc bs nm sg ow ov nl nh me ri la gI gO tu jo hx tc hp hy F
  obtain ⟨f1, f2, f3, f4, f5, f6, f7, f8, f9⟩ := id F
  unfold wpX_note wpY_note
  rcases pk_ix v1 (n := m) (by omega) with h | h | ⟨j, hj, rfl⟩
  · exact br_t h (br_t h ⟨rfl, pa_in F⟩)
  · have h0 : ¬ v1 < 0 := fun z => by
      have a := Int32.lt_iff_toInt_lt.mp z
      have b := Int32.le_iff_toInt_le.mp h
      rw [nI_toInt (by omega)] at b
      have c : (0 : Int32).toInt = 0 := by decide
      omega
    exact br_f h0 (br_t h (br_f h0 (br_t h ⟨rfl, pa_in F⟩)))
  · have c : (nI j).toNatClampNeg = j := nI_clamp (by omega)
    have g : ¬ nI m ≤ nI j := nI_ge hj (by omega)
    have g0 : ¬ nI j < 0 := nI_pos (by omega)
    have e : hy (nI j).toNatClampNeg = hx (nI j).toNatClampNeg := by rw [c]; exact (f9 j hj).1.symm
    exact br_f g0 (br_f g ⟨vp_in_nI (by omega) (by decide), br_f g0 (br_f g (br_t (nI_le (b := 8) (by omega) (by omega)) ⟨vp_in_nI (by omega) (by decide), e, pa_in F⟩))⟩)
theorem i_vc_touched {k : Nat} {u : SX} {v : SY} (I : i_Rel k u v) (hk : k + 5 ≤ 2560) (v1 : Int32) : wpX_touched (fun r => wpY_touched (fun r' => r' = r ∧ i_Rel (k + 5) u v) v v1) u v1 := by
  refine pa_el (P := fun u v => wpX_touched (fun r => wpY_touched (fun r' => r' = r ∧ i_Rel (k + 5) u v) v v1) u v1) ?_ I
  intro n m vN oN dN kN bi cu sp xi xo bc bs nm sg ow ov nl nh me ri la gI gO tu jo hx tc hp hy F
  obtain ⟨f1, f2, f3, f4, f5, f6, f7, f8, f9⟩ := id F
  unfold wpX_touched wpY_touched
  refine pa_x_isU f1 (fun u hu e => br_f (by decide) ?_) (fun q => br_t rfl ?_)
  · subst e
    exact ⟨vp_in_nI (by omega) (by decide), pa_y_bad f1 (fun u' hu' e' => br_t rfl ⟨vp_in_nI (by omega) (by decide), rfl, pa_in F⟩) (fun q => absurd ⟨u, hu, rfl⟩ q)⟩
  · exact pa_y_bad f1 (fun u' hu' e' => absurd ⟨u', hu', e'⟩ q) (fun _ => br_f (by decide) ⟨rfl, pa_in F⟩)
theorem i_vc_sound {k : Nat} {u : SX} {v : SY} (I : i_Rel k u v) (hk : k + 5 ≤ 2560) (v1 : Int32) : wpX_sound (fun r u' => wpY_sound (fun r' v' => r' = r ∧ i_Rel (k + 5) u' v') v v1) u v1 := by
  refine pa_el (P := fun u v => wpX_sound (fun r u' => wpY_sound (fun r' v' => r' = r ∧ i_Rel (k + 5) u' v') v v1) u v1) ?_ I
  intro n m vN oN dN kN bi cu sp xi xo bc bs nm sg ow ov nl nh me ri la gI gO tu jo hx tc hp hy F
  obtain ⟨f1, f2, f3, f4, f5, f6, f7, f8, f9⟩ := id F
  unfold wpX_sound
  refine pa_x_isSet f1 (fun sw => br_f (by decide) (pa_x_prep f1 f3 f4 f5 f6 (fun me ri la hP => pa_x_so f1 f4 f6 hP (fun so => br_f (by decide) ?_) (fun so => br_t rfl ?_)))) (fun q => br_t rfl ?_)
  · unfold wpY_sound
    exact pa_y_bS f1 (fun _ => br_t rfl (pa_y_look f1 f5 f6 (fun hp hH => pa_y_so f1 f4 f6 hH (fun _ => br_f (by decide) ⟨rfl, pa_in F⟩) (fun z => absurd so z)))) (fun z => absurd sw z)
  · unfold wpY_sound
    exact pa_y_bS f1 (fun _ => br_t rfl (pa_y_look f1 f5 f6 (fun hp hH => pa_y_so f1 f4 f6 hH (fun z => absurd z so) (fun _ => br_t rfl ⟨rfl, pa_in F⟩)))) (fun z => absurd sw z)
  · unfold wpY_sound
    exact pa_y_bS f1 (fun z => absurd z q) (fun _ => br_f (by decide) ⟨rfl, pa_in F⟩)
theorem i_vc_cost {k : Nat} {u : SX} {v : SY} (I : i_Rel k u v) (hk : k + 5 ≤ 2560) (v1 : Int32) : wpX_cost (fun r u' => wpY_cost (fun r' v' => r' = r ∧ i_Rel (k + 5) u' v') v v1) u v1 := by
  refine pa_el (P := fun u v => wpX_cost (fun r u' => wpY_cost (fun r' v' => r' = r ∧ i_Rel (k + 5) u' v') v v1) u v1) ?_ I
  intro n m vN oN dN kN bi cu sp xi xo bc bs nm sg ow ov nl nh me ri la gI gO tu jo hx tc hp hy F
  obtain ⟨f1, f2, f3, f4, f5, f6, f7, f8, f9⟩ := id F
  unfold wpX_cost
  refine pa_x_isSet f1 (fun sw => br_f (by decide) (pa_x_prep f1 f3 f4 f5 f6 (fun me ri la hP => pa_x_cost f1 f4 f6 hP ?_))) (fun q => br_t rfl ?_)
  · unfold wpY_cost
    exact pa_y_bS f1 (fun _ => br_t rfl (pa_y_look f1 f5 f6 (fun hp hH => pa_y_price f1 f3 f4 f6 hH (pa_st_wi sw) f8 ⟨rfl, pa_in F⟩))) (fun z => absurd sw z)
  · unfold wpY_cost
    exact pa_y_bS f1 (fun z => absurd z q) (fun _ => br_f (by decide) ⟨rfl, pa_in F⟩)
theorem pa_n1 {x : Int32} (h : ¬ x < 1) : ¬ x < 0 := fun z => by
  have a := Int32.lt_iff_toInt_lt.mp z
  have c0 : (0 : Int32).toInt = 0 := by decide
  have c1 : (1 : Int32).toInt = 1 := by decide
  exact h (Int32.lt_iff_toInt_lt.mpr (by omega))
theorem i_vc_unit {k : Nat} {u : SX} {v : SY} (I : i_Rel k u v) (hk : k + 5 ≤ 2560) (v1 : Int32) (v2 : Int32) (v3 : Int32) : wpX_unit (fun r u' => wpY_unit (fun r' v' => r' = r ∧ i_Rel (k + 5) u' v') v v1 v2 v3) u v1 v2 v3 := by
  refine pa_el (P := fun u v => wpX_unit (fun r u' => wpY_unit (fun r' v' => r' = r ∧ i_Rel (k + 5) u' v') v v1 v2 v3) u v1 v2 v3) ?_ I
  intro n m vN oN dN kN bi cu sp xi xo bc bs nm sg ow ov nl nh me ri la gI gO tu jo hx tc hp hy F
  obtain ⟨f1, f2, f3, f4, f5, f6, f7, f8, f9⟩ := id F
  unfold wpX_unit wpY_unit
  by_cases h1 : v1 < 0
  · exact br_t h1 (br_t h1 ⟨rfl, pa_in F⟩)
  · by_cases h2 : v1 ≤ 4
    · by_cases h3 : v2 < 1
      · exact br_f h1 (br_t h2 (br_t h3 (br_f h1 (br_t h2 (br_t h3 ⟨rfl, pa_in F⟩)))))
      · by_cases h4 : v2 ≤ 9
        · refine br_f h1 (br_t h2 (br_f h3 (br_t h4 ⟨n + 1, ?_⟩)))
          by_cases hd : ∃ w, w < n ∧ nm w = v1 ∧ pa_na vN w = v2
          · obtain ⟨w, w1, w2, w3⟩ := hd
            refine pa_x_ud f1 w1 w2 w3 ?_ (n + 1) 0 (by omega) (by omega)
            exact br_f h1 (br_t h2 (br_f h3 (br_t h4 ⟨n + 1, pa_y_ud f1 w1 w2 w3 ⟨rfl, pa_in F⟩ (n + 1) 0 (by omega) (by omega)⟩)))
          · have hno : ∀ w, w < n → nm w = v1 → pa_na vN w = v2 → False := fun w w1 w2 w3 => hd ⟨w, w1, w2, w3⟩
            refine pa_x_un f1 hno (fun h10 => ?_) (fun h10 => ?_) (n + 1) 0 (by omega) (by omega)
            · exact br_f h1 (br_t h2 (br_f h3 (br_t h4 ⟨n + 1, pa_y_un f1 hno (fun _ => ⟨rfl, pa_in F⟩) (fun z => by omega) (n + 1) 0 (by omega) (by omega)⟩)))
            · refine br_f h1 (br_t h2 (br_f h3 (br_t h4 ⟨n + 1, pa_y_un f1 hno (fun z => by omega) (fun _ => ⟨rfl, ?_⟩) (n + 1) 0 (by omega) (by omega)⟩)))
              obtain ⟨b, hb, rfl⟩ := nI_of2 (x := v2) (M := 9) (n := 9) (by decide) (pa_n1 h3) h4
              rw [pa_na_0 (f7 n (Nat.le_refl _)).2, pa_na_0 (f7 n (Nat.le_refl _)).1, pa_uN_na]
              exact pa_in ⟨by omega, f2, pa_uN_bd f3 hb, f4, f5, f6, fun u hu => f7 u (by omega), pa_wi_le f8 (by omega), fun i hi => ⟨(f9 i hi).1, pa_wi_le (f9 i hi).2 (by omega)⟩⟩
        · exact br_f h1 (br_t h2 (br_f h3 (br_f h4 (br_f h1 (br_t h2 (br_f h3 (br_f h4 ⟨rfl, pa_in F⟩)))))))
    · exact br_f h1 (br_f h2 (br_f h1 (br_f h2 ⟨rfl, pa_in F⟩)))
theorem i_vc_offer {k : Nat} {u : SX} {v : SY} (I : i_Rel k u v) (hk : k + 5 ≤ 2560) (v1 : Int32) (v2 : Int32) (v3 : Int32) : wpX_offer (fun r u' => wpY_offer (fun r' v' => r' = r ∧ i_Rel (k + 5) u' v') v v1 v2 v3) u v1 v2 v3 := by
  refine pa_el (P := fun u v => wpX_offer (fun r u' => wpY_offer (fun r' v' => r' = r ∧ i_Rel (k + 5) u' v') v v1 v2 v3) u v1 v2 v3) ?_ I
  intro n m vN oN dN kN bi cu sp xi xo bc bs nm sg ow ov nl nh me ri la gI gO tu jo hx tc hp hy F
  obtain ⟨f1, f2, f3, f4, f5, f6, f7, f8, f9⟩ := id F
  unfold wpX_offer
  refine pa_x_isU f1 (fun u hu e => br_f (by decide) ?_) (fun q => br_t rfl ?_)
  · subst e
    have hex : ∃ u', u' < n ∧ nI u = nI u' := ⟨u, hu, rfl⟩
    have c : (nI u).toNatClampNeg = u := nI_clamp (by omega)
    have vi : vp_in (nI u) 10 := vp_in_nI (by omega) (by decide)
    by_cases h1 : v2 < 0
    · refine br_t h1 ?_
      unfold wpY_offer
      exact pa_y_bad f1 (fun _ _ _ => br_t rfl (br_t h1 ⟨rfl, pa_in F⟩)) (fun q => absurd hex q)
    · by_cases h2 : v2 ≤ 5
      · by_cases h3 : v3 < 1
        · refine br_f h1 (br_t h2 (br_t h3 ?_))
          unfold wpY_offer
          exact pa_y_bad f1 (fun _ _ _ => br_t rfl (br_f h1 (br_t h2 (br_t h3 ⟨rfl, pa_in F⟩)))) (fun q => absurd hex q)
        · by_cases h4 : v3 ≤ 9
          · have hou := f5 u
            have eo : upd (pa_na oN) u (pa_na oN u + 1) = pa_na (pa_uN oN u (oN u + 1)) := by
              rw [← pa_uN_na, ← nI_1]; rfl
            have er : pa_na (pa_uN oN u (oN u + 1)) u = nI (oN u + 1) := congrArg nI (if_pos rfl)
            have e3 : 3 * nI u + nI (oN u) = nI (3 * u + oN u) := by rw [pa_m3, nI_add]
            have c3 : (nI (3 * u + oN u)).toNatClampNeg = 3 * u + oN u := nI_clamp (by omega)
            have v3u : oN u < 3 → vp_in (nI (3 * u + oN u)) 30 := fun _ => vp_in_nI (by omega) (by decide)
            refine br_f h1 (br_t h2 (br_f h3 (br_t h4 ?_)))
            rw [pa_e3 (show u < 2 ^ 31 by omega), c]
            refine ⟨vi, pk_eq (oN u) 3 (fun e => ?_) (fun e => ⟨vi, nm_e ⟨v3u (by omega), nm_r (e' := upd ow (3 * u + oN u) v2) (by rw [c3]) ⟨v3u (by omega), nm_r (e' := upd ov (3 * u + oN u) v3) (by rw [c3]) ⟨vi, vi, nm_r eo ⟨vi, ?_⟩⟩⟩⟩⟩)⟩
            · unfold wpY_offer
              refine pa_y_bad f1 (fun _ _ _ => br_t rfl (br_f h1 (br_t h2 (br_f h3 (br_t h4 ⟨vi, nm_r (e' := nI (oN u)) (by rw [c]; rfl) ?_⟩))))) (fun q => absurd hex q)
              exact pk_le (oN u) 2 (fun z => by omega) (fun z => ⟨rfl, pa_in F⟩)
            · unfold wpY_offer
              refine pa_y_bad f1 (fun _ _ _ => br_t rfl (br_f h1 (br_t h2 (br_f h3 (br_t h4 ⟨vi, nm_r (e' := nI (oN u)) (by rw [c]; rfl) ?_⟩))))) (fun q => absurd hex q)
              rw [e3, c3, c]
              refine pk_le (oN u) 2 (fun z => ⟨v3u (by omega), nm_e ⟨v3u (by omega), nm_e ⟨vi, nm_r eo ⟨?_, ?_⟩⟩⟩⟩) (fun z => by omega)
              · rw [er, nI_1]
              · exact pa_in ⟨f1, f2, f3, f4, pa_uN_bd f5 (by omega), f6, fun w hw => ⟨(f7 w hw).1, (pa_uN_n (by omega)).trans (f7 w hw).2⟩, f8, f9⟩
          · refine br_f h1 (br_t h2 (br_f h3 (br_f h4 ?_)))
            unfold wpY_offer
            exact pa_y_bad f1 (fun _ _ _ => br_t rfl (br_f h1 (br_t h2 (br_f h3 (br_f h4 ⟨rfl, pa_in F⟩))))) (fun q => absurd hex q)
      · refine br_f h1 (br_f h2 ?_)
        unfold wpY_offer
        exact pa_y_bad f1 (fun _ _ _ => br_t rfl (br_f h1 (br_f h2 ⟨rfl, pa_in F⟩))) (fun q => absurd hex q)
  · unfold wpY_offer
    exact pa_y_bad f1 (fun u hu e => absurd ⟨u, hu, e⟩ q) (fun _ => br_f (by decide) ⟨rfl, pa_in F⟩)
theorem i_vc_need {k : Nat} {u : SX} {v : SY} (I : i_Rel k u v) (hk : k + 5 ≤ 2560) (v1 : Int32) (v2 : Int32) (v3 : Int32) (v4 : Int32) : wpX_need (fun r u' => wpY_need (fun r' v' => r' = r ∧ i_Rel (k + 5) u' v') v v1 v2 v3 v4) u v1 v2 v3 v4 := by
  refine pa_el (P := fun u v => wpX_need (fun r u' => wpY_need (fun r' v' => r' = r ∧ i_Rel (k + 5) u' v') v v1 v2 v3 v4) u v1 v2 v3 v4) ?_ I
  intro n m vN oN dN kN bi cu sp xi xo bc bs nm sg ow ov nl nh me ri la gI gO tu jo hx tc hp hy F
  obtain ⟨f1, f2, f3, f4, f5, f6, f7, f8, f9⟩ := id F
  unfold wpX_need
  refine pa_x_isU f1 (fun u hu e => br_f (by decide) ?_) (fun q => br_t rfl ?_)
  · subst e
    have hex : ∃ u', u' < n ∧ nI u = nI u' := ⟨u, hu, rfl⟩
    have c : (nI u).toNatClampNeg = u := nI_clamp (by omega)
    have vi : vp_in (nI u) 10 := vp_in_nI (by omega) (by decide)
    by_cases h1 : v2 < 0
    · refine br_t h1 ?_
      unfold wpY_need
      exact pa_y_bad f1 (fun _ _ _ => br_t rfl (br_t h1 ⟨rfl, pa_in F⟩)) (fun q => absurd hex q)
    · by_cases h2 : 63 < v2
      · refine br_f h1 (br_t h2 ?_)
        unfold wpY_need
        exact pa_y_bad f1 (fun _ _ _ => br_t rfl (br_f h1 (br_t h2 ⟨rfl, pa_in F⟩))) (fun q => absurd hex q)
      · obtain ⟨q, hq, rfl⟩ := nI_of2 (x := v2) (M := 63) (n := 63) (by decide) h1 (Int32.not_lt.mp h2)
        have e7 : nI q &&& 7 = nI (q % 8) := pa_and7 q (by omega)
        have e8 : nI q - nI q / 8 * 8 = nI (q % 8) := pk_rem (a := q) (d := 8) (by omega) (by omega) (by omega)
        refine br_f h1 (br_f h2 ?_)
        rw [e7]
        by_cases h3 : nI (q % 8) ≤ 5
        · by_cases h4 : v3 < 1
          · refine br_t h3 (br_t h4 ?_)
            unfold wpY_need
            refine pa_y_bad f1 (fun _ _ _ => br_t rfl (br_f h1 (br_f h2 ⟨by decide, ?_⟩))) (fun q => absurd hex q)
            rw [e8]
            exact br_t h3 (br_t h4 ⟨rfl, pa_in F⟩)
          · by_cases h5 : v4 < v3
            · refine br_t h3 (br_f h4 (br_t h5 ?_))
              unfold wpY_need
              refine pa_y_bad f1 (fun _ _ _ => br_t rfl (br_f h1 (br_f h2 ⟨by decide, ?_⟩))) (fun q => absurd hex q)
              rw [e8]
              exact br_t h3 (br_f h4 (br_t h5 ⟨rfl, pa_in F⟩))
            · by_cases h6 : v4 ≤ 9
              · have hdu := f4 u
                have eo : upd (pa_na dN) u (pa_na dN u + 1) = pa_na (pa_uN dN u (dN u + 1)) := by
                  rw [← pa_uN_na, ← nI_1]; rfl
                have er : pa_na (pa_uN dN u (dN u + 1)) u = nI (dN u + 1) := congrArg nI (if_pos rfl)
                have e3 : 3 * nI u + nI (dN u) = nI (3 * u + dN u) := by rw [pa_m3, nI_add]
                have c3 : (nI (3 * u + dN u)).toNatClampNeg = 3 * u + dN u := nI_clamp (by omega)
                have v3u : dN u < 3 → vp_in (nI (3 * u + dN u)) 30 := fun _ => vp_in_nI (by omega) (by decide)
                refine br_t h3 (br_f h4 (br_f h5 (br_t h6 ?_)))
                rw [pa_e3 (show u < 2 ^ 31 by omega), c]
                refine ⟨vi, pk_eq (dN u) 3 (fun e => ?_) (fun e => ⟨vi, nm_e ⟨v3u (by omega), nm_r (e' := pa_na (pa_uN kN (3 * u + dN u) q)) (by rw [c3, pa_uN_na]) ⟨v3u (by omega), nm_r (e' := upd nl (3 * u + dN u) v3) (by rw [c3]) ⟨v3u (by omega), nm_r (e' := upd nh (3 * u + dN u) v4) (by rw [c3]) ⟨vi, vi, nm_r eo ⟨vi, ?_⟩⟩⟩⟩⟩⟩)⟩
                · unfold wpY_need
                  refine pa_y_bad f1 (fun _ _ _ => br_t rfl (br_f h1 (br_f h2 ⟨by decide, ?_⟩))) (fun q => absurd hex q)
                  rw [e8]
                  refine br_t h3 (br_f h4 (br_f h5 (br_t h6 ⟨vi, nm_r (e' := nI (dN u)) (by rw [c]; rfl) ?_⟩)))
                  exact pk_le (dN u) 2 (fun z => by omega) (fun z => ⟨rfl, pa_in F⟩)
                · unfold wpY_need
                  refine pa_y_bad f1 (fun _ _ _ => br_t rfl (br_f h1 (br_f h2 ⟨by decide, ?_⟩))) (fun q => absurd hex q)
                  rw [e8]
                  refine br_t h3 (br_f h4 (br_f h5 (br_t h6 ⟨vi, nm_r (e' := nI (dN u)) (by rw [c]; rfl) ?_⟩)))
                  rw [e3, c3, c]
                  refine pk_le (dN u) 2 (fun z => ⟨v3u (by omega), nm_r (pa_uN_na _ _ _) ⟨v3u (by omega), nm_e ⟨v3u (by omega), nm_e ⟨vi, nm_r eo ⟨?_, ?_⟩⟩⟩⟩⟩) (fun z => by omega)
                  · rw [er, nI_1]
                  · exact pa_in ⟨f1, f2, f3, pa_uN_bd f4 (by omega), f5, pa_uN_bd f6 hq, fun w hw => ⟨(pa_uN_n (by omega)).trans (f7 w hw).1, (f7 w hw).2⟩, f8, f9⟩
              · refine br_t h3 (br_f h4 (br_f h5 (br_f h6 ?_)))
                unfold wpY_need
                refine pa_y_bad f1 (fun _ _ _ => br_t rfl (br_f h1 (br_f h2 ⟨by decide, ?_⟩))) (fun q => absurd hex q)
                rw [e8]
                exact br_t h3 (br_f h4 (br_f h5 (br_f h6 ⟨rfl, pa_in F⟩)))
        · refine br_f h3 ?_
          unfold wpY_need
          refine pa_y_bad f1 (fun _ _ _ => br_t rfl (br_f h1 (br_f h2 ⟨by decide, ?_⟩))) (fun q => absurd hex q)
          rw [e8]
          exact br_f h3 ⟨rfl, pa_in F⟩
  · unfold wpY_need
    exact pa_y_bad f1 (fun u hu e => absurd ⟨u, hu, e⟩ q) (fun _ => br_f (by decide) ⟨rfl, pa_in F⟩)
end
section
/-! the owed statements: plan, planCost, excess, apply, fail, revert -/
section
variable {n : Nat} {vN oN dN kN : Nat → Nat} {bi cu nt sp xi xo bc bs : Int32} {nm sg ow ov nl nh me ri la gI gO tu jo hx tc hp hy : Nat → Int32}
theorem pa_y_pl {A B : Prop} {w b : Int32} (hn : n ≤ 10) (hbad : ¬ (pa_st n w ∧ pa_st n b) → B) (hok : pa_st n w → pa_st n b → A) :
    wpY_badSet (fun r => (r = 0 → wpY_badSet (fun r' => (r' = 0 → A) ∧ (¬ r' = 0 → B)) ((nI n), bi, cu, nt, nm, (pa_na vN), sg, (pa_na oN), ow, ov, (pa_na dN), (pa_na kN), nl, nh, hp, hy, tc) b) ∧ (¬ r = 0 → B)) ((nI n), bi, cu, nt, nm, (pa_na vN), sg, (pa_na oN), ow, ov, (pa_na dN), (pa_na kN), nl, nh, hp, hy, tc) w :=
  pa_y_bS hn (fun sw => br_t rfl (pa_y_bS hn (fun sb => br_t rfl (hok sw sb)) (fun q => br_f (by decide) (hbad fun z => q z.2)))) (fun q => br_f (by decide) (hbad fun z => q z.1))
end
theorem i_vc_plan {k : Nat} {u : SX} {v : SY} (I : i_Rel k u v) (hk : k + 5 ≤ 2560) (v1 : Int32) (v2 : Int32) : wpX_plan (fun r u' => wpY_plan (fun r' v' => r' = r ∧ i_Rel (k + 5) u' v') v v1 v2) u v1 v2 := by
  refine pa_el (P := fun u v => wpX_plan (fun r u' => wpY_plan (fun r' v' => r' = r ∧ i_Rel (k + 5) u' v') v v1 v2) u v1 v2) ?_ I
  intro n m vN oN dN kN bi cu sp xi xo bc bs nm sg ow ov nl nh me ri la gI gO tu jo hx tc hp hy F
  obtain ⟨f1, f2, f3, f4, f5, f6, f7, f8, f9⟩ := id F
  refine pa_x_s f1 f3 f4 f5 f6 (fun q => ?_) (fun sw sb me ri la gI gO tu xi xo bc bs r z hA => ?_)
  · unfold wpY_plan
    exact pa_y_pl f1 (fun _ => ⟨rfl, pa_in F⟩) (fun sw sb => absurd ⟨sw, sb⟩ q)
  · unfold wpY_plan
    refine pa_y_pl f1 (fun q => absurd ⟨sw, sb⟩ q) (fun _ _ => pa_y_best f1 f3 f4 f5 f6 f8 (fun hp r' hH hA' => ?_))
    exact ⟨(pa_An_u hA hA').1, pa_in F⟩
theorem i_vc_planCost {k : Nat} {u : SX} {v : SY} (I : i_Rel k u v) (hk : k + 5 ≤ 2560) (v1 : Int32) (v2 : Int32) : wpX_planCost (fun r u' => wpY_planCost (fun r' v' => r' = r ∧ i_Rel (k + 5) u' v') v v1 v2) u v1 v2 := by
  refine pa_el (P := fun u v => wpX_planCost (fun r u' => wpY_planCost (fun r' v' => r' = r ∧ i_Rel (k + 5) u' v') v v1 v2) u v1 v2) ?_ I
  intro n m vN oN dN kN bi cu sp xi xo bc bs nm sg ow ov nl nh me ri la gI gO tu jo hx tc hp hy F
  obtain ⟨f1, f2, f3, f4, f5, f6, f7, f8, f9⟩ := id F
  refine pa_x_sc f1 f3 f4 f5 f6 (fun q => ?_) (fun sw sb me ri la gI gO tu xi xo bc bs r z hA => ?_)
  · unfold wpY_planCost
    exact pa_y_pl f1 (fun _ => ⟨rfl, pa_in F⟩) (fun sw sb => absurd ⟨sw, sb⟩ q)
  · unfold wpY_planCost
    refine pa_y_pl f1 (fun q => absurd ⟨sw, sb⟩ q) (fun _ _ => pa_y_best f1 f3 f4 f5 f6 f8 (fun hp r' hH hA' => ?_))
    have p10 := pa_p10 f1
    have e := (pa_An_u hA hA').1
    subst e
    rcases hA with ⟨a1, a2, a3⟩ | ⟨s, a1, a2, a3, a4⟩
    · subst a1 a2
      exact br_f (by decide) ⟨rfl, pa_in F⟩
    · subst a2 a3
      have l := a1.1
      exact br_t (nI_pos' (by omega)) (pa_y_price f1 f3 f4 f6 hH (pa_wiof l) f8 ⟨rfl, pa_in F⟩)
theorem i_vc_excess {k : Nat} {u : SX} {v : SY} (I : i_Rel k u v) (hk : k + 5 ≤ 2560) (v1 : Int32) (v2 : Int32) : wpX_excess (fun r u' => wpY_excess (fun r' v' => r' = r ∧ i_Rel (k + 5) u' v') v v1 v2) u v1 v2 := by
  refine pa_el (P := fun u v => wpX_excess (fun r u' => wpY_excess (fun r' v' => r' = r ∧ i_Rel (k + 5) u' v') v v1 v2) u v1 v2) ?_ I
  intro n m vN oN dN kN bi cu sp xi xo bc bs nm sg ow ov nl nh me ri la gI gO tu jo hx tc hp hy F
  obtain ⟨f1, f2, f3, f4, f5, f6, f7, f8, f9⟩ := id F
  unfold wpX_excess
  have p10 := pa_p10 f1
  have p0 : 0 < 2 ^ n := Nat.two_pow_pos n
  have g0 : pa_gv v1 v2 0 ≤ pa_on v1 + pa_on v2 := by
    unfold pa_gv
    have a1 : pa_on (v1 &&& (nI 0 ^^^ (-1))) ≤ pa_on v1 := pa_on_le fun i hi => by
      rw [b_and, Bool.and_eq_true] at hi; exact hi.1
    have a2 : pa_on (v2 &&& nI 0) ≤ pa_on v2 := pa_on_le fun i hi => by
      rw [b_and, Bool.and_eq_true] at hi; exact hi.1
    omega
  have o1 := pa_on_10 v1
  have o2 := pa_on_10 v2
  refine pa_x_isSet f1 (fun sw => br_f (by decide) (pa_x_isSet f1 (fun sb => br_f (by decide) (pa_x_prep f1 f3 f4 f5 f6 (fun me ri la hP => pa_x_ones (pa_x_ones (nm_r (nI_add _ _) ⟨2 ^ n + 1, ?_⟩))))) (fun q => br_t rfl ?_))) (fun q => br_t rfl ?_)
  · refine pa_x_ex35 f1 f4 f6 hP (fun l m1 m2 => ?_) (2 ^ n + 1) 0 (pa_on v1 + pa_on v2) (Nat.lt_succ_self _) (Nat.zero_le _) (by omega) (fun t ht => absurd ht (Nat.not_lt_zero t)) (Or.inr ⟨rfl, g0⟩)
    unfold wpY_excess
    refine pa_y_pl f1 (fun q => absurd ⟨sw, sb⟩ q) (fun _ _ => pa_y_look f1 f5 f6 (fun hp hH => ⟨2 ^ n + 1, ?_⟩))
    refine pa_y_ex28 f1 f4 f6 hH (fun l' m1' m2' => ⟨?_, pa_in F⟩) (2 ^ n + 1) 0 99 (Nat.lt_succ_self _) (Nat.zero_le _) (by omega) (fun t ht => absurd ht (Nat.not_lt_zero t)) (Or.inr ⟨rfl, by omega⟩)
    obtain ⟨t, t1, t2, t3⟩ := m2
    obtain ⟨t', t1', t2', t3'⟩ := m2'
    have b1 := m1 t' t1' t2'
    have b2 := m1' t t1 t2
    have e : l' = l := by omega
    rw [e]
  · unfold wpY_excess
    exact pa_y_pl f1 (fun _ => ⟨rfl, pa_in F⟩) (fun sw sb => absurd sb q)
  · unfold wpY_excess
    exact pa_y_pl f1 (fun _ => ⟨rfl, pa_in F⟩) (fun sw sb => absurd sw q)
theorem pa_nne (k : Nat) (hk : k < 2 ^ 31) : ¬ (-1 : Int32) = nI k := fun z => nI_pos hk (by rw [← z]; decide)
theorem i_vc_apply {k : Nat} {u : SX} {v : SY} (I : i_Rel k u v) (hk : k + 5 ≤ 2560) (v1 : Int32) (v2 : Int32) : wpX_apply (fun r u' => wpY_apply (fun r' v' => r' = r ∧ i_Rel (k + 5) u' v') v v1 v2) u v1 v2 := by
  refine pa_el (P := fun u v => wpX_apply (fun r u' => wpY_apply (fun r' v' => r' = r ∧ i_Rel (k + 5) u' v') v v1 v2) u v1 v2) ?_ I
  intro n m vN oN dN kN bi cu sp xi xo bc bs nm sg ow ov nl nh me ri la gI gO tu jo hx tc hp hy F
  obtain ⟨f1, f2, f3, f4, f5, f6, f7, f8, f9⟩ := id F
  unfold wpX_apply
  have p10 := pa_p10 f1
  refine pa_x_s f1 f3 f4 f5 f6 (fun q => br_f (by decide) ?_) (fun sw sb me ri la gI gO tu xi xo bc bs r z hA => ?_)
  · unfold wpY_apply
    exact pa_y_pl f1 (fun _ => ⟨rfl, pa_in F⟩) (fun sw sb => absurd ⟨sw, sb⟩ q)
  · rcases id hA with ⟨a1, a2, a3⟩ | ⟨s, a1, a2, a3, a4⟩
    · subst a1
      refine br_f (by decide) ?_
      unfold wpY_apply
      refine pa_y_pl f1 (fun q => absurd ⟨sw, sb⟩ q) (fun _ _ => pa_y_best f1 f3 f4 f5 f6 f8 (fun hp r' hH hA' => ?_))
      have e := (pa_An_u hA hA').1
      subst e
      exact br_f (by decide) ⟨rfl, pa_in F⟩
    · subst a2
      have l := a1.1
      have hg : pa_wi n (nI s) := pa_wiof l
      refine br_t (nI_pos' (by omega)) (pa_x_change f1 f2 hg f8 (fun D l' jo e1 e2 e3 => ?_) (fun D jo hx' e1 e2 e3 => ?_))
      · have hl : D.length ≤ 10 := by
          have h1 := pa_TT_len f1 hg f8
          rw [← e1, List.length_append, List.length_reverse] at h1
          have := pa_on_10 (nI s ^^^ cu)
          omega
        exact absurd e3 (pa_nne D.length (by omega))
      · unfold wpY_apply
        refine pa_y_pl f1 (fun q => absurd ⟨sw, sb⟩ q) (fun _ _ => pa_y_best f1 f3 f4 f5 f6 f8 (fun hp r' hH hA' => ?_))
        have e := (pa_An_u hA hA').1
        subst e
        refine br_t (nI_pos' (by omega)) (pa_y_change f1 f2 hg f8 (fun D' hy' e1' e3' => ?_))
        have ed : D = D' := List.reverse_inj.mp (e1.trans e1'.symm)
        subst ed
        exact ⟨rfl, pa_in (pa_F_g F hg e3 e3')⟩
theorem i_vc_fail {k : Nat} {u : SX} {v : SY} (I : i_Rel k u v) (hk : k + 5 ≤ 2560) (v1 : Int32) (v2 : Int32) (v3 : Int32) : wpX_fail (fun r u' => wpY_fail (fun r' v' => r' = r ∧ i_Rel (k + 5) u' v') v v1 v2 v3) u v1 v2 v3 := by
  refine pa_el (P := fun u v => wpX_fail (fun r u' => wpY_fail (fun r' v' => r' = r ∧ i_Rel (k + 5) u' v') v v1 v2 v3) u v1 v2 v3) ?_ I
  intro n m vN oN dN kN bi cu sp xi xo bc bs nm sg ow ov nl nh me ri la gI gO tu jo hx tc hp hy F
  obtain ⟨f1, f2, f3, f4, f5, f6, f7, f8, f9⟩ := id F
  unfold wpX_fail
  have p10 := pa_p10 f1
  refine pa_x_s f1 f3 f4 f5 f6 (fun q => br_f (by decide) ?_) (fun sw sb me ri la gI gO tu xi xo bc bs r z hA => ?_)
  · unfold wpY_fail
    exact pa_y_pl f1 (fun _ => ⟨rfl, pa_in F⟩) (fun sw sb => absurd ⟨sw, sb⟩ q)
  · rcases id hA with ⟨a1, a2, a3⟩ | ⟨s, a1, a2, a3, a4⟩
    · subst a1
      refine br_f (by decide) ?_
      unfold wpY_fail
      refine pa_y_pl f1 (fun q => absurd ⟨sw, sb⟩ q) (fun _ _ => pa_y_best f1 f3 f4 f5 f6 f8 (fun hp r' hH hA' => ?_))
      have e := (pa_An_u hA hA').1
      subst e
      exact br_f (by decide) ⟨rfl, pa_in F⟩
    · subst a2
      have l := a1.1
      have hg : pa_wi n (nI s) := pa_wiof l
      have ho := pa_on_10 (nI s ^^^ cu)
      have hT := pa_TT_len f1 hg f8
      refine br_t (nI_pos' (by omega)) ?_
      by_cases h3 : v3 < 0
      · refine br_t h3 ?_
        unfold wpY_fail
        refine pa_y_pl f1 (fun q => absurd ⟨sw, sb⟩ q) (fun _ _ => pa_y_best f1 f3 f4 f5 f6 f8 (fun hp r' hH hA' => ?_))
        have e := (pa_An_u hA hA').1
        subst e
        exact br_t (nI_pos' (by omega)) (pa_y_size (br_t h3 ⟨rfl, pa_in F⟩))
      · obtain ⟨q, hq, rfl⟩ := nI_of h3
        refine br_f h3 (pa_x_ones (pk_lt q (pa_on (nI s ^^^ cu)) (fun hlt => ?_) (fun hge => ?_)))
        · refine pa_x_change f1 f2 hg f8 (fun D l' jo e1 e2 e3 => ?_) (fun D jo hx' e1 e2 e3 => ?_)
          · have hl : D.length ≤ 10 := by
              have h1 := hT
              rw [← e1, List.length_append, List.length_reverse] at h1
              omega
            have eq : q = D.length := pa_inj hq (by omega) e3
            unfold wpY_fail
            refine pa_y_pl f1 (fun q => absurd ⟨sw, sb⟩ q) (fun _ _ => pa_y_best f1 f3 f4 f5 f6 f8 (fun hp r' hH hA' => ?_))
            have e := (pa_An_u hA hA').1
            subst e
            refine br_t (nI_pos' (by omega)) (pa_y_size (br_f h3 (br_t (nI_lt hlt (by omega)) (pa_y_step (y := q) (m := 2) f1 hg f8 hq (fun D' e1' => ⟨rfl, ?_⟩)))))
            have ed : D' = l'.reverse ++ D := by
              have h9 : D'.reverse = (l'.reverse ++ D).reverse := by
                rw [List.reverse_append, List.reverse_reverse, e1, e1']
              exact List.reverse_inj.mp h9
            rw [ed, pa_tk_app eq.symm]
            exact pa_in F
          · have h1 := hT
            rw [← e1, List.length_reverse] at h1
            exact absurd rfl (e2 q (by omega))
        · unfold wpY_fail
          refine pa_y_pl f1 (fun q => absurd ⟨sw, sb⟩ q) (fun _ _ => pa_y_best f1 f3 f4 f5 f6 f8 (fun hp r' hH hA' => ?_))
          have e := (pa_An_u hA hA').1
          subst e
          exact br_t (nI_pos' (by omega)) (pa_y_size (br_f h3 (br_f (nI_nlt hge (by omega)) ⟨rfl, pa_in F⟩)))
theorem i_vc_revert {k : Nat} {u : SX} {v : SY} (I : i_Rel k u v) (hk : k + 5 ≤ 2560) (v1 : Int32) : wpX_revert (fun r u' => wpY_revert (fun r' v' => r' = r ∧ i_Rel (k + 5) u' v') v v1) u v1 := by
  refine pa_el (P := fun u v => wpX_revert (fun r u' => wpY_revert (fun r' v' => r' = r ∧ i_Rel (k + 5) u' v') v v1) u v1) ?_ I
  intro n m vN oN dN kN bi cu sp xi xo bc bs nm sg ow ov nl nh me ri la gI gO tu jo hx tc hp hy F
  obtain ⟨f1, f2, f3, f4, f5, f6, f7, f8, f9⟩ := id F
  unfold wpX_revert
  rcases pk_ix v1 (n := m) (by omega) with h | h | ⟨j, hj, rfl⟩
  · refine br_t h ?_
    unfold wpY_revert
    exact br_t h ⟨rfl, pa_in F⟩
  · have h0 : ¬ v1 < 0 := fun z => by
      have a := Int32.lt_iff_toInt_lt.mp z
      have b := Int32.le_iff_toInt_le.mp h
      rw [nI_toInt (by omega)] at b
      have c : (0 : Int32).toInt = 0 := by decide
      omega
    refine br_f h0 (br_f (Int32.not_lt.mpr h) ?_)
    unfold wpY_revert
    exact br_f h0 (br_t h ⟨rfl, pa_in F⟩)
  · have c : (nI j).toNatClampNeg = j := nI_clamp (by omega)
    have g0 : ¬ nI j < 0 := nI_pos (by omega)
    obtain ⟨q1, q2⟩ := f9 j hj
    refine br_f g0 (br_t (nI_lt hj (by omega)) ⟨vp_in_nI (by omega) (by decide), ?_⟩)
    rw [c]
    refine pa_x_change f1 f2 q2 f8 (fun D l' jo e1 e2 e3 => ?_) (fun D jo hx' e1 e2 e3 => ?_)
    · have hl : D.length ≤ 10 := by
        have h1 := pa_TT_len f1 q2 f8
        rw [← e1, List.length_append, List.length_reverse] at h1
        have := pa_on_10 (hx j ^^^ cu)
        omega
      exact absurd e3 (pa_nne D.length (by omega))
    · unfold wpY_revert
      refine br_f g0 (br_f (nI_ge hj (by omega)) (br_t (nI_le (b := 8) (by omega) (by omega)) ⟨vp_in_nI (by omega) (by decide), ?_⟩))
      rw [c, ← q1]
      refine pa_y_change f1 f2 q2 f8 (fun D' hy' e1' e3' => ?_)
      have ed : D = D' := List.reverse_inj.mp (e1.trans e1'.symm)
      subst ed
      exact ⟨rfl, pa_in (pa_F_g F q2 e3 e3')⟩
end
