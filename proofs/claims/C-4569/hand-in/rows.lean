section
/-! rows pasted from kit/rows (pk_, bt, b_, s_l) -/
theorem pk_us {f : Nat → Int32} {k : Nat} {x : Int32} : upd f k x k = x := if_pos rfl
theorem pk_un {f : Nat → Int32} {k j : Nat} {x : Int32} (h : j ≠ k) : upd f k x j = f j := if_neg h
theorem pk_sub {a b : Nat} (h : b ≤ a) : nI a - nI b = nI (a - b) := by
  obtain ⟨c, rfl⟩ : ∃ c, a = c + b := ⟨a - b, by omega⟩
  rw [← nI_add, Int32.add_sub_cancel, Nat.add_sub_cancel]
theorem pk_m1 (n : Nat) : nI (n + 1) + (-1) = nI n := by
  rw [← nI_1, Int32.add_assoc, show (1 : Int32) + (-1) = 0 from rfl, Int32.add_zero]
theorem pk_mul (a b : Nat) : nI a * nI b = nI (a * b) := (Int32.ofNat_mul a b).symm
theorem pk_div {a d : Nat} (ha : a < 2 ^ 31) (h0 : 0 < d) (hd : d < 2 ^ 31) : nI a / nI d = nI (a / d) := by
  apply Int32.toInt_inj.mp
  rw [lg_idiv_nonneg (by rw [nI_toInt ha]; omega) (by rw [nI_toInt hd]; omega), nI_toInt ha, nI_toInt hd, nI_toInt (Nat.lt_of_le_of_lt (Nat.div_le_self a d) ha)]
  first | rfl | exact (Int.natCast_ediv _ _).symm
theorem pk_rem {a d : Nat} (ha : a < 2 ^ 31) (h0 : 0 < d) (hd : d < 2 ^ 31) : nI a - nI a / nI d * nI d = nI (a % d) := by
  rw [pk_div ha h0 hd, pk_mul, pk_sub (Nat.div_mul_le_self a d)]
  exact congrArg nI (by have := Nat.div_add_mod' a d; omega)
theorem pk_sub_toInt {a b : Nat} (ha : a < 2 ^ 30) (hb : b < 2 ^ 30) : (nI a - nI b).toInt = (a : Int) - b := by
  rw [Int32.toInt_sub, nI_toInt (by omega), nI_toInt (by omega)]
  exact Int.bmod_eq_of_le (by omega) (by omega)
theorem pk_sneg {a b : Nat} (hb : b < 2 ^ 30) (h : a < b) : nI a - nI b < 0 := by
  rw [Int32.lt_iff_toInt_lt, pk_sub_toInt (by omega) hb, show (0 : Int32).toInt = 0 from by decide]
  omega
theorem pk_ix (x : Int32) {n : Nat} (hn : n < 2 ^ 31) : x < 0 ∨ nI n ≤ x ∨ ∃ j : Nat, j < n ∧ x = nI j := by
  by_cases h : x < 0
  · exact Or.inl h
  · obtain ⟨j, hj, rfl⟩ := nI_of h
    by_cases h2 : j < n
    · exact Or.inr (Or.inr ⟨j, h2, rfl⟩)
    · exact Or.inr (Or.inl (nI_le (by omega) hj))
theorem pk_le {x y : Int32} {A B : Prop} (a b : Nat) (f : a ≤ b → A) (g : b < a → B) (hx : x = nI a := by rfl) (hy : y = nI b := by rfl) (ha : a < 2 ^ 31 := by omega) (hb : b < 2 ^ 31 := by omega) : (x ≤ y → A) ∧ (¬ x ≤ y → B) := by
  subst hx hy
  rw [nI_leI ha hb]
  exact ⟨f, fun z => g (by omega)⟩
theorem pk_lt {x y : Int32} {A B : Prop} (a b : Nat) (f : a < b → A) (g : b ≤ a → B) (hx : x = nI a := by rfl) (hy : y = nI b := by rfl) (ha : a < 2 ^ 31 := by omega) (hb : b < 2 ^ 31 := by omega) : (x < y → A) ∧ (¬ x < y → B) := by
  subst hx hy
  rw [nI_ltI ha hb]
  exact ⟨f, fun z => g (by omega)⟩
theorem pk_eq {x y : Int32} {A B : Prop} (a b : Nat) (f : a = b → A) (g : a ≠ b → B) (hx : x = nI a := by rfl) (hy : y = nI b := by rfl) (ha : a < 2 ^ 31 := by omega) (hb : b < 2 ^ 31 := by omega) : (x = y → A) ∧ (¬ x = y → B) := by
  subst hx hy
  rw [nI_eq ha hb]
  exact ⟨f, g⟩
theorem pk_in {x : Int32} (n N : Nat) (h : n < N) (hx : x = nI n := by rfl) (hN : N < 2 ^ 31 := by omega) : vp_in x N := by
  subst hx
  exact vp_in_nI h hN
theorem pk_cl {x : Int32} (n : Nat) (hx : x = nI n := by rfl) (h : n < 2 ^ 31 := by omega) : x.toNatClampNeg = n := by
  subst hx
  exact nI_clamp h
theorem pk_tn {n : Nat} (h : n < 2 ^ 32) : (nI n).toBitVec.toNat = n := Nat.mod_eq_of_lt h
theorem pk_and (x : Int32) {m : Int32} (k : Nat) (hm : m.toBitVec.toNat = 2 ^ k - 1) : x &&& m = nI (x.toBitVec.toNat % 2 ^ k) := by
  apply Int32.toBitVec_inj.mp
  apply BitVec.eq_of_toNat_eq
  rw [Int32.toBitVec_and, BitVec.toNat_and, hm, Nat.and_two_pow_sub_one_eq_mod]
  show _ = (BitVec.ofNat 32 _).toNat
  rw [BitVec.toNat_ofNat]
  exact (Nat.mod_eq_of_lt (Nat.lt_of_le_of_lt (Nat.mod_le _ _) x.toBitVec.isLt)).symm
theorem pk_andN {n : Nat} (h : n < 2 ^ 32) {m : Int32} (k : Nat) (hm : m.toBitVec.toNat = 2 ^ k - 1) : nI n &&& m = nI (n % 2 ^ k) := by
  rw [pk_and _ k hm, pk_tn h]
theorem pk_andE (x : Int32) {m : Int32} (k : Nat) (hm : m.toBitVec.toNat = 2 ^ k - 1) : ∃ j : Nat, j < 2 ^ k ∧ x &&& m = nI j := ⟨_, Nat.mod_lt _ (Nat.two_pow_pos k), pk_and x k hm⟩
theorem pk_andIn (x : Int32) {m : Int32} (k : Nat) (hm : m.toBitVec.toNat = 2 ^ k - 1) (hk : k ≤ 30) : vp_in (x &&& m) (2 ^ k) := by
  obtain ⟨j, hj, e⟩ := pk_andE x k hm
  rw [e]
  exact vp_in_nI hj (Nat.lt_of_le_of_lt (Nat.pow_le_pow_right (by decide) hk) (by decide))
theorem pk_shl (a s : Int32) (k : Nat) (hs : (s.toBitVec.smod 32).toNat = k) : (a <<< s).toBitVec.toNat = a.toBitVec.toNat * 2 ^ k % 2 ^ 32 := by
  show (a.toBitVec <<< (s.toBitVec.smod 32).toNat).toNat = _
  rw [hs, BitVec.toNat_shiftLeft, Nat.shiftLeft_eq]
theorem pk_shlN {n : Nat} (s : Int32) (k : Nat) (hs : (s.toBitVec.smod 32).toNat = k) (h : n * 2 ^ k < 2 ^ 32) : nI n <<< s = nI (n * 2 ^ k) := by
  apply Int32.toBitVec_inj.mp
  apply BitVec.eq_of_toNat_eq
  have hn : n < 2 ^ 32 := Nat.lt_of_le_of_lt (Nat.le_mul_of_pos_right n (Nat.two_pow_pos k)) h
  rw [pk_shl _ _ k hs, pk_tn hn, pk_tn h, Nat.mod_eq_of_lt h]
theorem pk_shr (a s : Int32) (k : Nat) (hs : (s.toBitVec.smod 32).toNat = k) : (a >>> s).toInt = a.toInt >>> k := by
  show (a.toBitVec.sshiftRight (s.toBitVec.smod 32).toNat).toInt = _
  rw [hs, BitVec.toInt_sshiftRight]
  rfl
theorem pk_shrN {n : Nat} (h : n < 2 ^ 31) (s : Int32) (k : Nat) (hs : (s.toBitVec.smod 32).toNat = k) : nI n >>> s = nI (n / 2 ^ k) := by
  apply Int32.toInt_inj.mp
  have h2 : n / 2 ^ k ≤ n := Nat.div_le_self _ _
  rw [pk_shr _ _ k hs, nI_toInt h, nI_toInt (by omega), Int.shiftRight_eq_div_pow]
  rfl
theorem pk_least (P : Nat → Prop) (h : ∃ k, P k) : ∃ k, P k ∧ ∀ j, j < k → ¬ P j := by
  obtain ⟨k, hk⟩ := h
  induction k using Nat.strongRecOn with
  | ind k ih =>
    by_cases e : ∃ j, j < k ∧ P j
    · obtain ⟨j, hj, pj⟩ := e
      exact ih j hj pj
    · exact ⟨k, hk, fun j hj pj => e ⟨j, hj, pj⟩⟩
def bt (x : Int32) (i : Nat) : Bool := x.toBitVec.getLsbD i
theorem b_ext {x y : Int32} (h : ∀ i, i < 32 → bt x i = bt y i) : x = y := Int32.toBitVec_inj.mp (BitVec.eq_of_getLsbD_eq (fun i hi => h i hi))
theorem b_or (x y : Int32) (i : Nat) : bt (x ||| y) i = (bt x i || bt y i) := by unfold bt; rw [Int32.toBitVec_or, BitVec.getLsbD_or]
theorem b_and (x y : Int32) (i : Nat) : bt (x &&& y) i = (bt x i && bt y i) := by unfold bt; rw [Int32.toBitVec_and, BitVec.getLsbD_and]
theorem b_xor (x y : Int32) (i : Nat) : bt (x ^^^ y) i = (bt x i ^^ bt y i) := by unfold bt; rw [Int32.toBitVec_xor, BitVec.getLsbD_xor]
theorem b_big {x : Int32} {i : Nat} (h : 32 ≤ i) : bt x i = false := BitVec.getLsbD_of_ge _ _ h
theorem b_255 (i : Nat) : bt 255 i = decide (i < 8) := by
  rcases Nat.lt_or_ge i 32 with h | h
  · exact (by decide +kernel : ∀ i, i < 32 → bt 255 i = decide (i < 8)) i h
  · rw [b_big h, decide_eq_false (by omega)]
theorem b_65535 (i : Nat) : bt 65535 i = decide (i < 16) := by
  rcases Nat.lt_or_ge i 32 with h | h
  · exact (by decide +kernel : ∀ i, i < 32 → bt 65535 i = decide (i < 16)) i h
  · rw [b_big h, decide_eq_false (by omega)]
theorem b_m1 : ∀ i, i < 32 → bt (-1) i = true := by decide +kernel
theorem b_0 (i : Nat) : bt 0 i = false := BitVec.getLsbD_zero
theorem s_l : ∀ n, n < 32 → ((nI n &&& 31).toBitVec.smod 32).toNat = n := by decide +kernel
theorem s_u : ∀ n, n < 32 → (((nI n).toUInt32 &&& Int32.toUInt32 31).toBitVec % 32).toNat = n := by decide +kernel
theorem b_shl (n : Nat) (hn : n < 32) (x : Int32) {i : Nat} (hi : i < 32) : bt (x <<< (nI n &&& 31)) i = (decide (n ≤ i) && bt x (i - n)) := by
  unfold bt
  rw [Int32.toBitVec_shiftLeft]
  show (x.toBitVec <<< ((nI n &&& 31).toBitVec.smod 32).toNat).getLsbD i = _
  rw [s_l n hn, BitVec.getLsbD_shiftLeft]
  rcases Nat.lt_or_ge i n with h | h
  · simp [h, Nat.not_le.mpr h]
  · simp [hi, h, Nat.not_lt.mpr h]
theorem b_ushr (n : Nat) (hn : n < 32) (x : Int32) (i : Nat) : bt ((x.toUInt32 >>> ((nI n).toUInt32 &&& Int32.toUInt32 31)).toInt32) i = bt x (n + i) := by
  show (x.toUInt32 >>> ((nI n).toUInt32 &&& Int32.toUInt32 31)).toBitVec.getLsbD i = x.toUInt32.toBitVec.getLsbD (n + i)
  rw [UInt32.toBitVec_shiftRight]
  show (x.toUInt32.toBitVec >>> (((nI n).toUInt32 &&& Int32.toUInt32 31).toBitVec % 32).toNat).getLsbD i = _
  rw [s_u n hn, BitVec.getLsbD_ushiftRight]
theorem b_sshr (n : Nat) (hn : n < 32) (x : Int32) {i : Nat} (hi : i < 32) : bt (x >>> (nI n &&& 31)) i = if n + i < 32 then bt x (n + i) else bt x 31 := by
  unfold bt
  rw [Int32.toBitVec_shiftRight]
  show (x.toBitVec.sshiftRight ((nI n &&& 31).toBitVec.smod 32).toNat).getLsbD i = _
  rw [s_l n hn, BitVec.getLsbD_sshiftRight, BitVec.msb_eq_getLsbD_last]
  simp [hi]
theorem b_shl8 (x : Int32) {i : Nat} (hi : i < 32) : bt (x <<< ((8 : Int32) &&& 31)) i = (decide (8 ≤ i) && bt x (i - 8)) := b_shl 8 (by omega) x hi
theorem b_shl16 (x : Int32) {i : Nat} (hi : i < 32) : bt (x <<< ((16 : Int32) &&& 31)) i = (decide (16 ≤ i) && bt x (i - 16)) := b_shl 16 (by omega) x hi
theorem b_shl24 (x : Int32) {i : Nat} (hi : i < 32) : bt (x <<< ((24 : Int32) &&& 31)) i = (decide (24 ≤ i) && bt x (i - 24)) := b_shl 24 (by omega) x hi
theorem b_sshr8 (x : Int32) {i : Nat} (hi : i < 32) : bt (x >>> ((8 : Int32) &&& 31)) i = if 8 + i < 32 then bt x (8 + i) else bt x 31 := b_sshr 8 (by omega) x hi
end
section
/-! Int32 by Int, bits by masks: helpers of this claim -/
def iI (z : Int) : Int32 := Int32.ofInt z
theorem iI_t {z : Int} (h1 : -2147483648 ≤ z) (h2 : z < 2147483648) : (iI z).toInt = z := by
  unfold iI
  rw [Int32.toInt_ofInt, show (Int32.size : Nat) = 4294967296 from rfl]
  exact Int.bmod_eq_of_le (by omega) (by omega)
theorem iI_lt {a b : Int} (a1 : -2147483648 ≤ a) (a2 : a < 2147483648) (b1 : -2147483648 ≤ b) (b2 : b < 2147483648) : iI a < iI b ↔ a < b := by
  rw [Int32.lt_iff_toInt_lt, iI_t a1 a2, iI_t b1 b2]
theorem iI_le {a b : Int} (a1 : -2147483648 ≤ a) (a2 : a < 2147483648) (b1 : -2147483648 ≤ b) (b2 : b < 2147483648) : iI a ≤ iI b ↔ a ≤ b := by
  rw [Int32.le_iff_toInt_le, iI_t a1 a2, iI_t b1 b2]
theorem iI_eq {a b : Int} (a1 : -2147483648 ≤ a) (a2 : a < 2147483648) (b1 : -2147483648 ≤ b) (b2 : b < 2147483648) : iI a = iI b ↔ a = b := by
  rw [← Int32.toInt_inj, iI_t a1 a2, iI_t b1 b2]
theorem iI_n {k : Nat} (h : k < 2147483648) : nI k = iI (k : Int) := by
  apply Int32.toInt_inj.mp
  rw [nI_toInt (by omega), iI_t (by omega) (by omega)]
theorem iI_sub {a b : Int} (h1 : -1000000 ≤ a) (h2 : a < 1000000) (h3 : -1000000 ≤ b) (h4 : b < 1000000) : iI a - iI b = iI (a - b) := by
  apply Int32.toInt_inj.mp
  rw [Int32.toInt_sub, iI_t (by omega) (by omega), iI_t (by omega) (by omega), iI_t (by omega) (by omega)]
  exact Int.bmod_eq_of_le (by omega) (by omega)
theorem iI_m1000 : (-1000 : Int32) = iI (-1000) := by decide
theorem iI_far : (100000 : Int32) = iI 100000 := by decide
theorem iI_mfar : (-100000 : Int32) = iI (-100000) := by decide
/-- one bit -/
theorem ib_1 : ∀ i, i < 32 → bt 1 i = decide (i = 0) := by decide +kernel
theorem ib_and1 (x : Int32) {i : Nat} (hi : i < 32) : bt (x &&& 1) i = (decide (i = 0) && bt x 0) := by
  rw [b_and, ib_1 i hi]
  by_cases h : i = 0
  · subst h; simp
  · simp [h]
theorem ib_tst1 (x : Int32) {k : Nat} (hk : k < 32) : ((x >>> (nI k &&& 31)) &&& 1) = 1 ↔ bt x k = true := by
  have e0 : bt (x >>> (nI k &&& 31)) 0 = bt x k := by
    rw [b_sshr k hk x (by omega), if_pos (by omega)]
    rfl
  constructor
  · intro h
    have h1 := congrArg (fun y => bt y 0) h
    rw [ib_and1 _ (by omega), e0, ib_1 0 (by omega)] at h1
    simpa using h1
  · intro h
    apply b_ext
    intro i hi
    rw [ib_and1 _ hi, e0, ib_1 i hi, h]
    simp
theorem ib_tst0 (x : Int32) {k : Nat} (hk : k < 32) : ((x >>> (nI k &&& 31)) &&& 1) = 0 ↔ bt x k = false := by
  have e0 : bt (x >>> (nI k &&& 31)) 0 = bt x k := by
    rw [b_sshr k hk x (by omega), if_pos (by omega)]
    rfl
  constructor
  · intro h
    have h1 := congrArg (fun y => bt y 0) h
    rw [ib_and1 _ (by omega), e0, b_0] at h1
    simpa using h1
  · intro h
    apply b_ext
    intro i hi
    rw [ib_and1 _ hi, e0, b_0, h]
    simp
theorem ib_one (k : Nat) (hk : k < 32) {i : Nat} (hi : i < 32) : bt ((1 : Int32) <<< (nI k &&& 31)) i = decide (i = k) := by
  rw [b_shl k hk 1 hi, ib_1 (i - k) (by omega)]
  by_cases h : i = k
  · subst h; simp
  · by_cases h2 : k ≤ i
    · have : i - k ≠ 0 := by omega
      simp [h, this]
    · simp [h, h2]
theorem ib_clr (x : Int32) (k : Nat) (hk : k < 32) {i : Nat} (hi : i < 32) : bt (x &&& (((1 : Int32) <<< (nI k &&& 31)) ^^^ (-1))) i = (bt x i && !decide (i = k)) := by
  rw [b_and, b_xor, ib_one k hk hi, b_m1 i hi]
  simp
theorem ib_set (x : Int32) (k : Nat) (hk : k < 32) {i : Nat} (hi : i < 32) : bt (x ||| ((1 : Int32) <<< (nI k &&& 31))) i = (bt x i || decide (i = k)) := by
  rw [b_or, ib_one k hk hi]
theorem ib_sub (x y : Int32) : (x &&& (y ^^^ (-1))) = 0 ↔ ∀ i, bt x i = true → bt y i = true := by
  constructor
  · intro h i hx
    have hi : i < 32 := by
      rcases Nat.lt_or_ge i 32 with h | h
      · exact h
      · rw [b_big h] at hx; cases hx
    have h1 := congrArg (fun z => bt z i) h
    rw [b_and, b_xor, b_m1 i hi, b_0, hx] at h1
    simpa using h1
  · intro h
    apply b_ext
    intro i hi
    rw [b_and, b_xor, b_m1 i hi, b_0]
    cases hx : bt x i
    · rfl
    · rw [h i hx]; rfl
theorem ib_eq0 (x : Int32) : x = 0 ↔ ∀ i, i < 32 → bt x i = false := by
  constructor
  · intro h i _; rw [h, b_0]
  · intro h; apply b_ext; intro i hi; rw [h i hi, b_0]
end
section
/-! pure part 1: sums, maxima, first fits; the given problem; starts by the serial scheme -/
def ps_sm (f : Nat → Nat) : Nat → Nat
  | 0 => 0
  | k + 1 => ps_sm f k + f k
theorem ps_sm_le {f g : Nat → Nat} : ∀ k, (∀ i, i < k → f i ≤ g i) → ps_sm f k ≤ ps_sm g k := by
  intro k
  induction k with
  | zero => intro _; exact Nat.le_refl _
  | succ k ih =>
    intro h
    have h1 := ih (fun i hi => h i (by omega))
    have h2 := h k (by omega)
    show ps_sm f k + f k ≤ ps_sm g k + g k
    omega
theorem ps_sm_eq {f g : Nat → Nat} (k : Nat) (h : ∀ i, i < k → f i = g i) : ps_sm f k = ps_sm g k :=
  Nat.le_antisymm (ps_sm_le k (fun i hi => Nat.le_of_eq (h i hi))) (ps_sm_le k (fun i hi => Nat.le_of_eq (h i hi).symm))
/-- two functions that differ (one way) but at t: the sums' difference is that at t -/
theorem ps_sm_pt {f g : Nat → Nat} (t : Nat) : ∀ k, t < k → (∀ i, i < k → i ≠ t → f i ≤ g i) → ps_sm f k + g t ≤ ps_sm g k + f t := by
  intro k
  induction k with
  | zero => intro h; omega
  | succ k ih =>
    intro ht h
    show ps_sm f k + f k + g t ≤ ps_sm g k + g k + f t
    by_cases e : t = k
    · subst e
      have h1 := ps_sm_le (f := f) (g := g) t (fun i hi => h i (by omega) (by omega))
      omega
    · have h1 := ih (by omega) (fun i hi hn => h i (by omega) hn)
      have h2 := h k (by omega) (fun z => e z.symm)
      omega
theorem ps_sm_pe {f g : Nat → Nat} (t k : Nat) (ht : t < k) (h : ∀ i, i < k → i ≠ t → f i = g i) : ps_sm f k + g t = ps_sm g k + f t :=
  Nat.le_antisymm (ps_sm_pt t k ht (fun i hi hn => Nat.le_of_eq (h i hi hn))) (ps_sm_pt t k ht (fun i hi hn => Nat.le_of_eq (h i hi hn).symm))
theorem ps_sm_pos {f : Nat → Nat} : ∀ k, 0 < ps_sm f k → ∃ i, i < k ∧ 0 < f i := by
  intro k
  induction k with
  | zero => intro h; exact absurd h (Nat.lt_irrefl 0)
  | succ k ih =>
    intro h
    have h : 0 < ps_sm f k + f k := h
    by_cases e : 0 < f k
    · exact ⟨k, by omega, e⟩
    · obtain ⟨i, hi, hp⟩ := ih (by omega)
      exact ⟨i, by omega, hp⟩
theorem ps_sm_ge {f : Nat → Nat} : ∀ k i, i < k → f i ≤ ps_sm f k := by
  intro k
  induction k with
  | zero => intro i h; omega
  | succ k ih =>
    intro i hi
    show f i ≤ ps_sm f k + f k
    by_cases e : i = k
    · subst e; omega
    · have := ih i (by omega); omega
theorem ps_sm_ub {f : Nat → Nat} {B : Nat} : ∀ k, (∀ i, i < k → f i ≤ B) → ps_sm f k ≤ k * B := by
  intro k
  induction k with
  | zero => intro _; exact Nat.zero_le _
  | succ k ih =>
    intro h
    have h1 := ih (fun i hi => h i (by omega))
    have h2 := h k (by omega)
    show ps_sm f k + f k ≤ (k + 1) * B
    rw [Nat.succ_mul]
    omega
theorem ps_sm_lb {f : Nat → Nat} {B : Nat} : ∀ k, (∀ i, i < k → B ≤ f i) → k * B ≤ ps_sm f k := by
  intro k
  induction k with
  | zero => intro _; rw [Nat.zero_mul]; exact Nat.zero_le _
  | succ k ih =>
    intro h
    have h1 := ih (fun i hi => h i (by omega))
    have h2 := h k (by omega)
    show (k + 1) * B ≤ ps_sm f k + f k
    rw [Nat.succ_mul]
    omega
theorem ps_sm_split (f : Nat → Nat) (a : Nat) : ∀ b, ps_sm f (a + b) = ps_sm f a + ps_sm (fun i => f (a + i)) b := by
  intro b
  induction b with
  | zero => rfl
  | succ b ih =>
    show ps_sm f (a + b) + f (a + b) = ps_sm f a + (ps_sm (fun i => f (a + i)) b + f (a + b))
    omega
theorem ps_sm_add (f g : Nat → Nat) : ∀ k, ps_sm (fun i => f i + g i) k = ps_sm f k + ps_sm g k := by
  intro k
  induction k with
  | zero => rfl
  | succ k ih =>
    show ps_sm (fun i => f i + g i) k + (f k + g k) = ps_sm f k + f k + (ps_sm g k + g k)
    omega
theorem ps_sm_zero : ∀ k, ps_sm (fun _ => 0) k = 0 := by
  intro k
  induction k with
  | zero => rfl
  | succ k ih => show ps_sm (fun _ => 0) k + 0 = 0; omega
theorem ps_sm_comm (f : Nat → Nat → Nat) (l : Nat) : ∀ k, ps_sm (fun i => ps_sm (fun j => f i j) k) l = ps_sm (fun j => ps_sm (fun i => f i j) l) k := by
  intro k
  induction k with
  | zero => exact ps_sm_zero l
  | succ k ih =>
    show ps_sm (fun i => ps_sm (fun j => f i j) k + f i k) l = ps_sm (fun j => ps_sm (fun i => f i j) l) k + ps_sm (fun i => f i k) l
    rw [ps_sm_add, ih]
/-- the greatest of b and of f i where c i, i < k, as the loops take it -/
def ps_mx (b : Nat) (c : Nat → Bool) (f : Nat → Nat) : Nat → Nat
  | 0 => b
  | k + 1 => if c k = true ∧ ps_mx b c f k < f k then f k else ps_mx b c f k
theorem ps_mx_s (b : Nat) (c : Nat → Bool) (f : Nat → Nat) (k : Nat) : ps_mx b c f (k + 1) = if c k = true ∧ ps_mx b c f k < f k then f k else ps_mx b c f k := rfl
theorem ps_mx_b {b : Nat} {c : Nat → Bool} {f : Nat → Nat} : ∀ k, b ≤ ps_mx b c f k := by
  intro k
  induction k with
  | zero => exact Nat.le_refl _
  | succ k ih => rw [ps_mx_s]; split <;> omega
theorem ps_mx_le {b : Nat} {c : Nat → Bool} {f : Nat → Nat} : ∀ k i, i < k → c i = true → f i ≤ ps_mx b c f k := by
  intro k
  induction k with
  | zero => intro i h; omega
  | succ k ih =>
    intro i hi hc
    rw [ps_mx_s]
    by_cases e : i = k
    · subst e
      by_cases h : ps_mx b c f i < f i
      · rw [if_pos ⟨hc, h⟩]; exact Nat.le_refl _
      · rw [if_neg (fun z => h z.2)]; omega
    · have h1 := ih i (by omega) hc
      split <;> omega
theorem ps_mx_ub {b : Nat} {c : Nat → Bool} {f : Nat → Nat} {B : Nat} (hb : b ≤ B) : ∀ k, (∀ i, i < k → c i = true → f i ≤ B) → ps_mx b c f k ≤ B := by
  intro k
  induction k with
  | zero => intro _; exact hb
  | succ k ih =>
    intro h
    have h1 := ih (fun i hi hc => h i (by omega) hc)
    rw [ps_mx_s]
    split
    · rename_i z; exact h k (by omega) z.1
    · exact h1
theorem ps_mx_eq {b : Nat} {c c' : Nat → Bool} {f f' : Nat → Nat} : ∀ k, (∀ i, i < k → c i = c' i) → (∀ i, i < k → c i = true → f i = f' i) → ps_mx b c f k = ps_mx b c' f' k := by
  intro k h1 h2
  apply Nat.le_antisymm
  · refine ps_mx_ub (ps_mx_b k) k (fun i hi hc => ?_)
    rw [h2 i hi hc]
    exact ps_mx_le k i hi (by rw [← h1 i hi]; exact hc)
  · refine ps_mx_ub (ps_mx_b k) k (fun i hi hc => ?_)
    have hc' : c i = true := by rw [h1 i hi]; exact hc
    rw [← h2 i hi hc']
    exact ps_mx_le k i hi hc'
/-- the same over Int, with no condition -/
def ps_mz (b : Int) (f : Nat → Int) : Nat → Int
  | 0 => b
  | k + 1 => if ps_mz b f k < f k then f k else ps_mz b f k
theorem ps_mz_s (b : Int) (f : Nat → Int) (k : Nat) : ps_mz b f (k + 1) = if ps_mz b f k < f k then f k else ps_mz b f k := rfl
theorem ps_mz_b {b : Int} {f : Nat → Int} : ∀ k, b ≤ ps_mz b f k := by
  intro k
  induction k with
  | zero => exact Int.le_refl _
  | succ k ih => rw [ps_mz_s]; split <;> omega
theorem ps_mz_le {b : Int} {f : Nat → Int} : ∀ k i, i < k → f i ≤ ps_mz b f k := by
  intro k
  induction k with
  | zero => intro i h; omega
  | succ k ih =>
    intro i hi
    rw [ps_mz_s]
    by_cases e : i = k
    · subst e; split <;> omega
    · have h1 := ih i (by omega)
      split <;> omega
theorem ps_mz_ub {b : Int} {f : Nat → Int} {B : Int} (hb : b ≤ B) : ∀ k, (∀ i, i < k → f i ≤ B) → ps_mz b f k ≤ B := by
  intro k
  induction k with
  | zero => intro _; exact hb
  | succ k ih =>
    intro h
    have h1 := ih (fun i hi => h i (by omega))
    have h2 := h k (by omega)
    rw [ps_mz_s]
    split <;> omega
/-- the first place from s on where f holds, k places tried -/
def ps_fn (f : Nat → Bool) : Nat → Nat → Nat
  | 0, s => s
  | k + 1, s => if f s = true then s else ps_fn f k (s + 1)
theorem ps_fn_s (f : Nat → Bool) (k s : Nat) : ps_fn f (k + 1) s = if f s = true then s else ps_fn f k (s + 1) := rfl
theorem ps_fn_ge {f : Nat → Bool} : ∀ k s, s ≤ ps_fn f k s := by
  intro k
  induction k with
  | zero => intro s; exact Nat.le_refl _
  | succ k ih =>
    intro s
    rw [ps_fn_s]
    split
    · exact Nat.le_refl _
    · have := ih (s + 1); omega
theorem ps_fn_le {f : Nat → Bool} {x : Nat} (hx : f x = true) : ∀ k s, s ≤ x → ps_fn f k s ≤ x := by
  intro k
  induction k with
  | zero => intro s h; exact h
  | succ k ih =>
    intro s h
    rw [ps_fn_s]
    split
    · exact h
    · rename_i hn
      have : s ≠ x := fun e => hn (e ▸ hx)
      exact ih (s + 1) (by omega)
theorem ps_fn_ok {f : Nat → Bool} {x : Nat} (hx : f x = true) : ∀ k s, s ≤ x → x ≤ s + k → f (ps_fn f k s) = true := by
  intro k
  induction k with
  | zero => intro s h h2; have : s = x := by omega
            subst this; exact hx
  | succ k ih =>
    intro s h h2
    rw [ps_fn_s]
    split
    · assumption
    · rename_i hn
      have : s ≠ x := fun e => hn (e ▸ hx)
      exact ih (s + 1) (by omega) (by omega)
/-- the given problem: tasks, durations, needs (at t * 2 + means), releases, dues, capacities, masks of those before -/
abbrev ps_I : Type := Nat × (Nat → Nat) × (Nat → Nat) × (Nat → Nat) × (Nat → Nat) × (Nat → Nat) × (Nat → Int32)
def ps_n (P : ps_I) : Nat := P.1
def ps_d (P : ps_I) : Nat → Nat := P.2.1
def ps_w (P : ps_I) : Nat → Nat := P.2.2.1
def ps_r (P : ps_I) : Nat → Nat := P.2.2.2.1
def ps_u (P : ps_I) : Nat → Nat := P.2.2.2.2.1
def ps_c (P : ps_I) : Nat → Nat := P.2.2.2.2.2.1
def ps_f (P : ps_I) : Nat → Int32 := P.2.2.2.2.2.2
def ps_b (P : ps_I) (t i : Nat) : Bool := bt (ps_f P t) i
/-- what task t has in use of means m at x -/
def ps_on (P : ps_I) (S : Nat → Nat) (p : List Nat) (m x t : Nat) : Nat := if t ∈ p ∧ S t ≤ x ∧ x < S t + ps_d P t then ps_w P (t * 2 + m) else 0
def ps_us (P : ps_I) (S : Nat → Nat) (p : List Nat) (m x : Nat) : Nat := ps_sm (ps_on P S p m x) (ps_n P)
/-- within the capacities at x -/
def ps_at (P : ps_I) (S : Nat → Nat) (p : List Nat) (t x : Nat) : Prop := ps_us P S p 0 x + ps_w P (t * 2) ≤ ps_c P 0 ∧ ps_us P S p 1 x + ps_w P (t * 2 + 1) ≤ ps_c P 1
def ps_fd (P : ps_I) (S : Nat → Nat) (p : List Nat) (t x : Nat) : Bool := decide (∀ i, i < ps_d P t → ps_us P S p 0 (x + i) + ps_w P (t * 2) ≤ ps_c P 0 ∧ ps_us P S p 1 (x + i) + ps_w P (t * 2 + 1) ≤ ps_c P 1)
theorem ps_fd_t {P : ps_I} {S : Nat → Nat} {p : List Nat} {t x : Nat} : ps_fd P S p t x = true ↔ ∀ i, i < ps_d P t → ps_at P S p t (x + i) := decide_eq_true_iff
/-- the earliest time by release and by those placed that come before -/
def ps_rd (P : ps_I) (S : Nat → Nat) (p : List Nat) (t : Nat) : Nat := ps_mx (ps_r P t) (fun i => ps_b P t i && decide (i ∈ p)) (fun i => S i + ps_d P i) t
def ps_er (P : ps_I) (S : Nat → Nat) (p : List Nat) (t : Nat) : Nat := ps_fn (ps_fd P S p t) 100 (ps_rd P S p t)
def ps_st (P : ps_I) : List Nat → Nat → Nat
  | [] => fun _ => 0
  | t :: p => fun x => if x = t then ps_er P (ps_st P p) p t else ps_st P p x
theorem ps_st_h (P : ps_I) (t : Nat) (p : List Nat) : ps_st P (t :: p) t = ps_er P (ps_st P p) p t := if_pos rfl
theorem ps_st_n (P : ps_I) {t x : Nat} (p : List Nat) (h : x ≠ t) : ps_st P (t :: p) x = ps_st P p x := if_neg h
/-- t can come behind p -/
def ps_cd (P : ps_I) (p : List Nat) (t : Nat) : Prop := t < ps_n P ∧ t ∉ p ∧ ∀ i, ps_b P t i = true → i ∈ p
def ps_vl (P : ps_I) : List Nat → Prop
  | [] => True
  | t :: p => ps_cd P p t ∧ ps_vl P p
/-- what task t with end e counts for the aim: 0 length, 1 lateness, a + 2 the end of task a -/
def ps_wt (P : ps_I) (am t e : Nat) : Int := if am = 0 then (e : Int) else if am = 1 then (e : Int) - (ps_u P t : Int) else if am = t + 2 then (e : Int) else -100000
def ps_wr (P : ps_I) (am : Nat) : List Nat → Int
  | [] => -100000
  | t :: p => if ps_wr P am p < ps_wt P am t (ps_er P (ps_st P p) p t + ps_d P t) then ps_wt P am t (ps_er P (ps_st P p) p t + ps_d P t) else ps_wr P am p
theorem ps_wr_s (P : ps_I) (am t : Nat) (p : List Nat) : ps_wr P am (t :: p) = if ps_wr P am p < ps_wt P am t (ps_er P (ps_st P p) p t + ps_d P t) then ps_wt P am t (ps_er P (ps_st P p) p t + ps_d P t) else ps_wr P am p := rfl
def ps_ok1 (P : ps_I) (t : Nat) : Prop := 1 ≤ ps_d P t ∧ ps_d P t ≤ 10 ∧ ps_w P (t * 2) ≤ 4 ∧ ps_w P (t * 2 + 1) ≤ 4 ∧ ps_r P t ≤ 20 ∧ ps_u P t ≤ 99 ∧ ∀ i, ps_b P t i = true → i < t
def ps_ok (P : ps_I) : Prop := ps_n P ≤ 6 ∧ (∀ t, t < ps_n P → ps_ok1 P t) ∧ 1 ≤ ps_c P 0 ∧ ps_c P 0 ≤ 100 ∧ 1 ≤ ps_c P 1 ∧ ps_c P 1 ≤ 100
/-- feasible -/
def ps_fe (P : ps_I) : Prop := 0 < ps_n P ∧ ∀ t, t < ps_n P → ps_w P (t * 2) ≤ ps_c P 0 ∧ ps_w P (t * 2 + 1) ≤ ps_c P 1
def ps_fl (P : ps_I) (q : List Nat) : Prop := ps_vl P q ∧ q.length = ps_n P
def ps_mn (P : ps_I) (am : Nat) (r : Int) : Prop := (∃ q, ps_fl P q ∧ ps_wr P am q = r) ∧ ∀ q, ps_fl P q → r ≤ ps_wr P am q
def ps_as (P : ps_I) (am : Nat) (r : Int) : Prop := (¬ ps_fe P ∧ r = -1000) ∨ (ps_fe P ∧ ps_mn P am r)
theorem ps_as_u {P : ps_I} {am : Nat} {r r' : Int} (h : ps_as P am r) (h' : ps_as P am r') : r = r' := by
  rcases h with ⟨a, b⟩ | ⟨a, ⟨q, b, c⟩, e⟩
  · rcases h' with ⟨a', b'⟩ | ⟨a', _⟩
    · rw [b, b']
    · exact absurd a' a
  · rcases h' with ⟨a', _⟩ | ⟨a', ⟨q', b', c'⟩, e'⟩
    · exact absurd a a'
    · have h1 := e q' b'
      have h2 := e' q b
      omega
/-- the answer -/
noncomputable def ps_vv (P : ps_I) (am : Nat) : Int := Classical.epsilon (fun r => ps_as P am r)
theorem ps_vv_e {P : ps_I} {am : Nat} {r : Int} (h : ps_as P am r) : r = ps_vv P am :=
  ps_as_u h (Classical.epsilon_spec (p := fun r => ps_as P am r) ⟨r, h⟩)
end
section
/-! pure part 2: orders: members, counts, starts that stay, bounds on ends, usage within the capacities -/
theorem ps_vl_m {P : ps_I} : ∀ {p : List Nat}, ps_vl P p → ∀ t, t ∈ p → t < ps_n P := by
  intro p
  induction p with
  | nil => intro _ t h; exact absurd h List.not_mem_nil
  | cons x p ih =>
    intro h t ht
    rcases List.mem_cons.mp ht with e | e
    · rw [e]; exact h.1.1
    · exact ih h.2 t e
theorem ps_vl_sfx {P : ps_I} : ∀ {s p : List Nat}, ps_vl P (s ++ p) → ps_vl P p := by
  intro s
  induction s with
  | nil => intro p h; exact h
  | cons x s ih => intro p h; exact ih (p := p) h.2
theorem ps_vl_cd {P : ps_I} {s p : List Nat} {t : Nat} (h : ps_vl P (s ++ t :: p)) : ps_cd P p t := (ps_vl_sfx (p := t :: p) h).1
/-- unplaced tasks from nx on -/
def ps_ct (P : ps_I) (nx : Nat) (p : List Nat) : Nat := ps_sm (fun t => if nx ≤ t ∧ t ∉ p then 1 else 0) (ps_n P)
theorem ps_ct_c {P : ps_I} {p : List Nat} {t : Nat} (ht : t < ps_n P) (hp : t ∉ p) : ps_ct P 0 (t :: p) + 1 = ps_ct P 0 p := by
  have h := ps_sm_pe (f := fun i => if 0 ≤ i ∧ i ∉ t :: p then 1 else 0) (g := fun i => if 0 ≤ i ∧ i ∉ p then 1 else 0) t (ps_n P) ht (fun i _ hi => by
    by_cases e : i ∈ p
    · rw [if_neg (fun z => z.2 (List.mem_cons_of_mem _ e)), if_neg (fun z => z.2 e)]
    · rw [if_pos ⟨Nat.zero_le _, fun z => (List.mem_cons.mp z).elim hi e⟩, if_pos ⟨Nat.zero_le _, e⟩])
  try dsimp only at h
  rw [if_pos ⟨Nat.zero_le _, hp⟩, if_neg (fun z => z.2 List.mem_cons_self)] at h
  exact h
theorem ps_ct_0 {P : ps_I} : ps_ct P 0 [] = ps_n P := by
  have h1 := ps_sm_ub (f := fun t => if 0 ≤ t ∧ t ∉ ([] : List Nat) then 1 else 0) (B := 1) (ps_n P) (fun i _ => by (try dsimp only); split <;> omega)
  have h2 := ps_sm_lb (f := fun t => if 0 ≤ t ∧ t ∉ ([] : List Nat) then 1 else 0) (B := 1) (ps_n P) (fun i _ => by (try dsimp only); rw [if_pos ⟨Nat.zero_le _, List.not_mem_nil⟩]; exact Nat.le_refl _)
  unfold ps_ct
  omega
theorem ps_ct_l {P : ps_I} : ∀ {p : List Nat}, ps_vl P p → ps_ct P 0 p + p.length = ps_n P := by
  intro p
  induction p with
  | nil => intro _; rw [ps_ct_0]; rfl
  | cons t p ih =>
    intro h
    have h1 := ih h.2
    have h2 := ps_ct_c h.1.1 h.1.2.1
    rw [List.length_cons]
    omega
theorem ps_vl_len {P : ps_I} {p : List Nat} (h : ps_vl P p) : p.length ≤ ps_n P := by have := ps_ct_l h; omega
theorem ps_full {P : ps_I} {q : List Nat} (h : ps_fl P q) : ∀ t, t < ps_n P → t ∈ q := by
  intro t ht
  have h1 := ps_ct_l h.1
  have h2 := h.2
  have h3 := ps_sm_ge (f := fun t => if 0 ≤ t ∧ t ∉ q then 1 else 0) (ps_n P) t ht
  try dsimp only at h3
  by_cases e : t ∈ q
  · exact e
  · rw [if_pos ⟨Nat.zero_le _, e⟩] at h3
    unfold ps_ct at h1
    omega
theorem ps_more {P : ps_I} {p : List Nat} (h : ps_vl P p) (hl : p.length < ps_n P) : ∃ t, t < ps_n P ∧ t ∉ p := by
  have h1 := ps_ct_l h
  obtain ⟨i, hi, hp⟩ := ps_sm_pos (f := fun t => if 0 ≤ t ∧ t ∉ p then 1 else 0) (ps_n P) (by unfold ps_ct at h1; omega)
  try dsimp only at hp
  refine ⟨i, hi, fun z => ?_⟩
  rw [if_neg (fun y => y.2 z)] at hp
  omega
theorem ps_cd_len {P : ps_I} {p : List Nat} {t : Nat} (h : ps_vl P p) (hc : ps_cd P p t) : p.length < ps_n P := by
  have := ps_vl_len (P := P) (p := t :: p) ⟨hc, h⟩
  rw [List.length_cons] at this
  omega
/-- every order can be gone on with to a whole one -/
theorem ps_ext {P : ps_I} (hk : ps_ok P) : ∀ k p, ps_vl P p → p.length + k = ps_n P → ∃ s, ps_fl P (s ++ p) := by
  intro k
  induction k with
  | zero => intro p h hl; exact ⟨[], h, hl⟩
  | succ k ih =>
    intro p h hl
    obtain ⟨t, ⟨ht, hp⟩, hmin⟩ := pk_least (fun t => t < ps_n P ∧ t ∉ p) (ps_more h (by omega))
    have hc : ps_cd P p t := ⟨ht, hp, fun i hb => by
      have hi := (hk.2.1 t ht).2.2.2.2.2.2 i hb
      by_cases e : i ∈ p
      · exact e
      · exact absurd ⟨by omega, e⟩ (hmin i hi)⟩
    obtain ⟨s, hs⟩ := ih (t :: p) ⟨hc, h⟩ (by rw [List.length_cons]; omega)
    exact ⟨s ++ [t], by rw [List.append_assoc]; exact hs⟩
theorem ps_ext' {P : ps_I} (hk : ps_ok P) {p : List Nat} (h : ps_vl P p) : ∃ s, ps_fl P (s ++ p) :=
  ps_ext hk (ps_n P - p.length) p h (by have := ps_vl_len h; omega)
/-- starts stay -/
theorem ps_st_s {P : ps_I} : ∀ {s p : List Nat}, ps_vl P (s ++ p) → ∀ t, t ∈ p → ps_st P (s ++ p) t = ps_st P p t := by
  intro s
  induction s with
  | nil => intro p _ t _; rfl
  | cons x s ih =>
    intro p h t ht
    have hn : t ≠ x := fun e => h.1.2.1 (e ▸ List.mem_append_right s ht)
    show ps_st P (x :: (s ++ p)) t = _
    rw [ps_st_n P _ hn]
    exact ih h.2 t ht
theorem ps_us_c {P : ps_I} {p : List Nat} {t : Nat} (hc : ps_cd P p t) (m x : Nat) : ps_us P (ps_st P (t :: p)) (t :: p) m x = ps_us P (ps_st P p) p m x + (if ps_er P (ps_st P p) p t ≤ x ∧ x < ps_er P (ps_st P p) p t + ps_d P t then ps_w P (t * 2 + m) else 0) := by
  have h := ps_sm_pe (f := ps_on P (ps_st P (t :: p)) (t :: p) m x) (g := ps_on P (ps_st P p) p m x) t (ps_n P) hc.1 (fun i _ hi => by
    unfold ps_on
    rw [ps_st_n P p hi]
    have e : (i ∈ t :: p) = (i ∈ p) := propext ⟨fun z => (List.mem_cons.mp z).elim (fun y => absurd y hi) id, fun z => List.mem_cons_of_mem _ z⟩
    simp only [e])
  have h1 : ps_on P (ps_st P p) p m x t = 0 := if_neg (fun z => hc.2.1 z.1)
  have h2 : ps_on P (ps_st P (t :: p)) (t :: p) m x t = if ps_er P (ps_st P p) p t ≤ x ∧ x < ps_er P (ps_st P p) p t + ps_d P t then ps_w P (t * 2 + m) else 0 := by
    unfold ps_on
    rw [ps_st_h]
    by_cases e : ps_er P (ps_st P p) p t ≤ x ∧ x < ps_er P (ps_st P p) p t + ps_d P t
    · rw [if_pos e, if_pos ⟨List.mem_cons_self, e⟩]
    · rw [if_neg e, if_neg (fun z => e z.2)]
  rw [h1, h2] at h
  exact h
theorem ps_us_0 {P : ps_I} (S : Nat → Nat) (m x : Nat) : ps_us P S [] m x = 0 := by
  have h := ps_sm_ub (f := ps_on P S [] m x) (B := 0) (ps_n P) (fun i _ => by
    unfold ps_on
    rw [if_neg (fun z => absurd z.1 List.not_mem_nil)]
    exact Nat.le_refl _)
  unfold ps_us
  omega
/-- at 20 + 10 for each task placed everything fits -/
theorem ps_fd_far {P : ps_I} (hf : ps_fe P) {p : List Nat} {t B : Nat} (ht : t < ps_n P) (hB : ∀ x, x ∈ p → ps_st P p x + ps_d P x ≤ B) : ps_fd P (ps_st P p) p t B = true := by
  rw [ps_fd_t]
  intro i _
  have h0 : ∀ m, ps_us P (ps_st P p) p m (B + i) = 0 := by
    intro m
    have h := ps_sm_ub (f := ps_on P (ps_st P p) p m (B + i)) (B := 0) (ps_n P) (fun j _ => by
      unfold ps_on
      rw [if_neg (fun z => by have := hB j z.1; have := z.2.2; omega)]
      exact Nat.le_refl _)
    unfold ps_us
    omega
  have h := hf.2 t ht
  unfold ps_at
  rw [h0, h0]
  omega
theorem ps_rd_ub {P : ps_I} (hk : ps_ok P) {S : Nat → Nat} {p : List Nat} {t B : Nat} (ht : t < ps_n P) (h0 : 20 ≤ B) (hB : ∀ x, x ∈ p → S x + ps_d P x ≤ B) : ps_rd P S p t ≤ B := by
  refine ps_mx_ub (by have := (hk.2.1 t ht).2.2.2.2.1; omega) t (fun i _ hc => hB i ?_)
  simp only [Bool.and_eq_true, decide_eq_true_eq] at hc
  exact hc.2
theorem ps_end_ub {P : ps_I} (hk : ps_ok P) (hf : ps_fe P) : ∀ {p : List Nat}, ps_vl P p → ∀ x, x ∈ p → ps_st P p x + ps_d P x ≤ 20 + 10 * p.length := by
  intro p
  induction p with
  | nil => intro _ x h; exact absurd h List.not_mem_nil
  | cons t p ih =>
    intro h x hx
    have hB := ih h.2
    have ht := h.1.1
    rw [List.length_cons]
    by_cases e : x = t
    · subst e
      rw [ps_st_h]
      have h1 := ps_fn_le (ps_fd_far hf ht hB) 100 (ps_rd P (ps_st P p) p x) (ps_rd_ub hk ht (by omega) hB)
      have h2 := (hk.2.1 x ht).2.1
      unfold ps_er
      omega
    · rw [ps_st_n P p e]
      have := hB x ((List.mem_cons.mp hx).elim (fun y => absurd y e) id)
      omega
theorem ps_er_ub {P : ps_I} (hk : ps_ok P) (hf : ps_fe P) {p : List Nat} {t : Nat} (h : ps_vl P p) (ht : t < ps_n P) : ps_er P (ps_st P p) p t ≤ 20 + 10 * p.length :=
  ps_fn_le (ps_fd_far hf ht (ps_end_ub hk hf h)) 100 _ (ps_rd_ub hk ht (by omega) (ps_end_ub hk hf h))
theorem ps_rd_ub' {P : ps_I} (hk : ps_ok P) (hf : ps_fe P) {p : List Nat} {t : Nat} (h : ps_vl P p) (ht : t < ps_n P) : ps_rd P (ps_st P p) p t ≤ 20 + 10 * p.length :=
  ps_rd_ub hk ht (by omega) (ps_end_ub hk hf h)
theorem ps_er_ok {P : ps_I} (hk : ps_ok P) (hf : ps_fe P) {p : List Nat} {t : Nat} (h : ps_vl P p) (ht : t < ps_n P) : ps_fd P (ps_st P p) p t (ps_er P (ps_st P p) p t) = true :=
  ps_fn_ok (ps_fd_far hf ht (ps_end_ub hk hf h)) 100 _ (ps_rd_ub hk ht (by omega) (ps_end_ub hk hf h)) (by
    have h1 := ps_vl_len h
    have h2 := hk.1
    omega)
theorem ps_er_ge {P : ps_I} (S : Nat → Nat) (p : List Nat) (t : Nat) : ps_rd P S p t ≤ ps_er P S p t := ps_fn_ge _ _
/-- in use: within the capacities -/
theorem ps_us_le {P : ps_I} (hk : ps_ok P) (hf : ps_fe P) : ∀ {p : List Nat}, ps_vl P p → ∀ x, ps_us P (ps_st P p) p 0 x ≤ ps_c P 0 ∧ ps_us P (ps_st P p) p 1 x ≤ ps_c P 1 := by
  intro p
  induction p with
  | nil => intro _ x; rw [ps_us_0, ps_us_0]; exact ⟨Nat.zero_le _, Nat.zero_le _⟩
  | cons t p ih =>
    intro h x
    have h1 := ih h.2 x
    rw [ps_us_c h.1, ps_us_c h.1]
    have h2 := ps_fd_t.mp (ps_er_ok hk hf h.2 h.1.1)
    generalize ps_er P (ps_st P p) p t = e at *
    by_cases hx : e ≤ x ∧ x < e + ps_d P t
    · have h3 := h2 (x - e) (by omega)
      rw [show e + (x - e) = x by omega] at h3
      unfold ps_at at h3
      rw [if_pos hx, if_pos hx]
      exact h3
    · rw [if_neg hx, if_neg hx]
      exact h1
/-- those before have ended -/
theorem ps_prec {P : ps_I} (hk : ps_ok P) : ∀ {p : List Nat}, ps_vl P p → ∀ t i, t ∈ p → ps_b P t i = true → i ∈ p ∧ ps_st P p i + ps_d P i ≤ ps_st P p t := by
  intro p
  induction p with
  | nil => intro _ t i h; exact absurd h List.not_mem_nil
  | cons x p ih =>
    intro h t i ht hb
    by_cases e : t = x
    · subst e
      have hi := h.1.2.2 i hb
      have hlt := (hk.2.1 t h.1.1).2.2.2.2.2.2 i hb
      refine ⟨List.mem_cons_of_mem _ hi, ?_⟩
      rw [ps_st_h, ps_st_n P p (by omega)]
      refine Nat.le_trans ?_ (ps_er_ge _ _ _)
      exact ps_mx_le (f := fun i => ps_st P p i + ps_d P i) t i hlt (by simp only [Bool.and_eq_true, decide_eq_true_eq]; exact ⟨hb, hi⟩)
    · have ht' : t ∈ p := (List.mem_cons.mp ht).elim (fun y => absurd y e) id
      obtain ⟨h1, h2⟩ := ih h.2 t i ht' hb
      refine ⟨List.mem_cons_of_mem _ h1, ?_⟩
      rw [ps_st_n P p e, ps_st_n P p (show i ≠ x from fun z => h.1.2.1 (z ▸ h1))]
      exact h2
/-- a task not placed yet will start at its ready time or later -/
theorem ps_rd_lb {P : ps_I} (hk : ps_ok P) : ∀ {s p : List Nat}, ps_vl P (s ++ p) → ∀ t, t ∈ s ++ p → t ∉ p → ps_rd P (ps_st P p) p t ≤ ps_st P (s ++ p) t := by
  intro s
  induction s with
  | nil => intro p _ t h1 h2; exact absurd h1 h2
  | cons x s ih =>
    intro p h t ht hn
    show _ ≤ ps_st P (x :: (s ++ p)) t
    by_cases e : t = x
    · subst e
      rw [ps_st_h]
      refine Nat.le_trans ?_ (ps_er_ge _ _ _)
      refine ps_mx_ub (ps_mx_b t) t (fun i hi hc => ?_)
      simp only [Bool.and_eq_true, decide_eq_true_eq] at hc
      have hm : i ∈ s ++ p := List.mem_append_right s hc.2
      show ps_st P p i + ps_d P i ≤ _
      rw [← ps_st_s (P := P) (s := s) (p := p) h.2 i hc.2]
      exact ps_mx_le (f := fun i => ps_st P (s ++ p) i + ps_d P i) t i hi (by simp only [Bool.and_eq_true, decide_eq_true_eq]; exact ⟨hc.1, hm⟩)
    · rw [ps_st_n P _ e]
      exact ih h.2 t ((List.mem_cons.mp ht).elim (fun y => absurd y e) id) hn
/-- the worst: a bound of all, reached -/
theorem ps_wr_le {P : ps_I} {am : Nat} : ∀ {p : List Nat}, ps_vl P p → ∀ t, t ∈ p → ps_wt P am t (ps_st P p t + ps_d P t) ≤ ps_wr P am p := by
  intro p
  induction p with
  | nil => intro _ t h; exact absurd h List.not_mem_nil
  | cons x p ih =>
    intro h t ht
    rw [ps_wr_s]
    by_cases e : t = x
    · subst e
      rw [ps_st_h]
      split <;> omega
    · have h1 := ih h.2 t ((List.mem_cons.mp ht).elim (fun y => absurd y e) id)
      rw [ps_st_n P p e]
      split <;> omega
theorem ps_wr_re {P : ps_I} {am : Nat} : ∀ {p : List Nat}, ps_vl P p → ps_wr P am p = -100000 ∨ ∃ t, t ∈ p ∧ ps_wr P am p = ps_wt P am t (ps_st P p t + ps_d P t) := by
  intro p
  induction p with
  | nil => intro _; exact Or.inl rfl
  | cons x p ih =>
    intro h
    rw [ps_wr_s]
    split
    · exact Or.inr ⟨x, List.mem_cons_self, by rw [ps_st_h]⟩
    · rcases ih h.2 with e | ⟨t, ht, e⟩
      · exact Or.inl e
      · refine Or.inr ⟨t, List.mem_cons_of_mem _ ht, ?_⟩
        rw [ps_st_n P p (show t ≠ x from fun z => h.1.2.1 (z ▸ ht))]
        exact e
theorem ps_wr_mo {P : ps_I} {am : Nat} : ∀ (s p : List Nat), ps_wr P am p ≤ ps_wr P am (s ++ p) := by
  intro s p
  induction s with
  | nil => exact Int.le_refl _
  | cons x s ih =>
    show _ ≤ ps_wr P am (x :: (s ++ p))
    rw [ps_wr_s]
    split <;> omega
theorem ps_wr_lo {P : ps_I} {am : Nat} (p : List Nat) : -100000 ≤ ps_wr P am p := by
  have := ps_wr_mo (P := P) (am := am) p []
  rw [List.append_nil] at this
  exact this
theorem ps_wr_hi {P : ps_I} {am : Nat} (hk : ps_ok P) (hf : ps_fe P) {p : List Nat} (h : ps_vl P p) : ps_wr P am p ≤ 80 := by
  rcases ps_wr_re (am := am) h with e | ⟨t, ht, e⟩
  · omega
  · have h1 := ps_end_ub hk hf h t ht
    have h2 := ps_vl_len h
    have h3 := hk.1
    rw [e]
    unfold ps_wt
    split
    · omega
    · split
      · omega
      · split <;> omega
/-- the length of a whole order is at least 1 -/
theorem ps_wr_1 {P : ps_I} (hk : ps_ok P) (hf : ps_fe P) {q : List Nat} (h : ps_fl P q) : 1 ≤ ps_wr P 0 q := by
  have h1 := ps_wr_le (am := 0) h.1 0 (ps_full h 0 hf.1)
  have h2 := (hk.2.1 0 hf.1).1
  unfold ps_wt at h1
  rw [if_pos rfl] at h1
  omega
end
section
/-! pure part 3: what is still to come, steps left, the search's invariant -/
def ps_up (nx : Nat) (p q : List Nat) : Prop := ∃ t s, nx ≤ t ∧ q = s ++ t :: p
def ps_fr : List Nat → List Nat → Prop
  | [], _ => False
  | x :: p, q => ps_up (x + 1) p q ∨ ps_fr p q
theorem ps_up_s {P : ps_I} {nx t : Nat} {p q : List Nat} (hq : ps_vl P q) (h : ps_up nx p q) (hn : ∀ i, nx ≤ i → i < t → ¬ ps_cd P p i) : (∃ s, q = s ++ t :: p) ∨ ps_up (t + 1) p q := by
  obtain ⟨i, s, hi, rfl⟩ := h
  have hc := ps_vl_cd hq
  rcases Nat.lt_trichotomy i t with h1 | h1 | h1
  · exact absurd hc (hn i hi h1)
  · subst h1; exact Or.inl ⟨s, rfl⟩
  · exact Or.inr ⟨i, s, h1, rfl⟩
theorem ps_up_n {P : ps_I} {nx : Nat} {p q : List Nat} (hq : ps_vl P q) (h : ps_up nx p q) (hn : ∀ i, nx ≤ i → ¬ ps_cd P p i) : False := by
  obtain ⟨i, s, hi, rfl⟩ := h
  exact hn i hi (ps_vl_cd hq)
theorem ps_up_0 {s p : List Nat} (h : p.length < (s ++ p).length) : ps_up 0 p (s ++ p) := by
  rcases List.eq_nil_or_concat s with e | ⟨s', t, e⟩
  · subst e; exact absurd h (Nat.lt_irrefl _)
  · subst e
    exact ⟨t, s', Nat.zero_le _, by rw [List.concat_eq_append, List.append_assoc]; rfl⟩
theorem ps_up_w {P : ps_I} {am nx : Nat} {p q : List Nat} (h : ps_up nx p q) : ps_wr P am p ≤ ps_wr P am q := by
  obtain ⟨t, s, _, rfl⟩ := h
  have := ps_wr_mo (P := P) (am := am) (s ++ [t]) p
  rw [List.append_assoc] at this
  exact this
theorem ps_up_l {nx : Nat} {p q : List Nat} (h : ps_up nx p q) : p.length < q.length := by
  obtain ⟨t, s, _, rfl⟩ := h
  rw [List.length_append, List.length_cons]
  omega
/-- steps that a level with k tasks to try may cost -/
def ps_T : Nat → Nat
  | 0 => 1
  | k + 1 => (k + 1) * (1 + ps_T k) + 1
def ps_Rr (P : ps_I) : List Nat → Nat
  | [] => 0
  | x :: p => ps_ct P (x + 1) p * (1 + ps_T (ps_n P - p.length - 1)) + 1 + ps_Rr P p
def ps_R (P : ps_I) (nx : Nat) (p : List Nat) : Nat := ps_ct P nx p * (1 + ps_T (ps_n P - p.length - 1)) + 1 + ps_Rr P p
theorem ps_Rr_c (P : ps_I) (x : Nat) (p : List Nat) : ps_Rr P (x :: p) = ps_R P (x + 1) p := rfl
theorem ps_R_b (P : ps_I) (nx : Nat) (p : List Nat) : ps_Rr P p + 1 ≤ ps_R P nx p := by unfold ps_R; omega
theorem ps_ct_s {P : ps_I} {nx t : Nat} {p : List Nat} (ht : t < ps_n P) (hp : t ∉ p) (hn : nx ≤ t) : ps_ct P (t + 1) p + 1 ≤ ps_ct P nx p := by
  have h := ps_sm_pt (f := fun i => if t + 1 ≤ i ∧ i ∉ p then 1 else 0) (g := fun i => if nx ≤ i ∧ i ∉ p then 1 else 0) t (ps_n P) ht (fun i _ _ => by
    try dsimp only
    by_cases e : t + 1 ≤ i ∧ i ∉ p
    · rw [if_pos e, if_pos ⟨by omega, e.2⟩]; exact Nat.le_refl _
    · rw [if_neg e]; exact Nat.zero_le _)
  try dsimp only at h
  rw [if_pos ⟨hn, hp⟩, if_neg (fun z => by omega)] at h
  exact h
theorem ps_R_s {P : ps_I} {nx t : Nat} {p : List Nat} (hv : ps_vl P p) (hc : ps_cd P p t) (hn : nx ≤ t) : ps_R P 0 (t :: p) + 1 ≤ ps_R P nx p ∧ ps_R P (t + 1) p + 1 ≤ ps_R P nx p := by
  have h1 := ps_ct_s hc.1 hc.2.1 hn
  have h2 := ps_ct_l (P := P) (p := t :: p) ⟨hc, hv⟩
  rw [List.length_cons] at h2
  have h3 : ps_R P 0 (t :: p) = ps_T (ps_n P - p.length - 1) + ps_R P (t + 1) p := by
    show ps_ct P 0 (t :: p) * (1 + ps_T (ps_n P - (t :: p).length - 1)) + 1 + ps_R P (t + 1) p = _
    rw [List.length_cons]
    have h4 : ps_ct P 0 (t :: p) = ps_n P - p.length - 1 := by omega
    rw [h4]
    cases e : ps_n P - p.length - 1 with
    | zero => rw [Nat.zero_mul]; rfl
    | succ k =>
      rw [Nat.add_sub_cancel]
      rfl
  have h5 : (ps_ct P (t + 1) p + 1) * (1 + ps_T (ps_n P - p.length - 1)) ≤ ps_ct P nx p * (1 + ps_T (ps_n P - p.length - 1)) := Nat.mul_le_mul_right _ h1
  rw [Nat.succ_mul] at h5
  have h6 : ps_R P (t + 1) p = ps_ct P (t + 1) p * (1 + ps_T (ps_n P - p.length - 1)) + 1 + ps_Rr P p := rfl
  have h7 : ps_R P nx p = ps_ct P nx p * (1 + ps_T (ps_n P - p.length - 1)) + 1 + ps_Rr P p := rfl
  omega
theorem ps_T6 : ∀ k, k ≤ 6 → k * (1 + ps_T (k - 1)) + 1 ≤ 3913 := by decide
theorem ps_R_0 {P : ps_I} (hk : ps_ok P) : ps_R P 0 [] ≤ 3913 := by
  unfold ps_R
  rw [ps_ct_0]
  exact ps_T6 (ps_n P) hk.1
/-- best so far: none, or reached -/
def ps_b1 (P : ps_I) (am : Nat) (b : Int) : Prop := -100000 ≤ b ∧ b ≤ 100000 ∧ (b = 100000 ∨ ∃ q, ps_fl P q ∧ ps_wr P am q = b)
/-- all others are no better, or still to come -/
def ps_iv (P : ps_I) (am : Nat) (b : Int) (nx : Nat) (p : List Nat) : Prop := ps_b1 P am b ∧ ∀ q, ps_fl P q → b ≤ ps_wr P am q ∨ ps_up nx p q ∨ ps_fr p q
def ps_ie (P : ps_I) (am : Nat) (b : Int) : Prop := ps_b1 P am b ∧ ∀ q, ps_fl P q → b ≤ ps_wr P am q
theorem ps_ie_as {P : ps_I} {am : Nat} {b : Int} (hk : ps_ok P) (hf : ps_fe P) (h : ps_ie P am b) : b = ps_vv P am := by
  apply ps_vv_e
  refine Or.inr ⟨hf, ?_, h.2⟩
  rcases h.1.2.2 with e | e
  · obtain ⟨s, hs⟩ := ps_ext' hk (p := []) trivial
    have h1 := h.2 _ hs
    have h2 := ps_wr_hi (am := am) hk hf hs.1
    omega
  · exact e
theorem ps_iv_0 {P : ps_I} {am : Nat} (hf : ps_fe P) : ps_iv P am 100000 0 [] := by
  refine ⟨⟨by omega, by omega, Or.inl rfl⟩, fun q hq => Or.inr (Or.inl ?_)⟩
  have h := ps_up_0 (s := q) (p := []) (by rw [List.append_nil, hq.2]; exact hf.1)
  rw [List.append_nil] at h
  exact h
/-- a level is left: nothing to try, or nothing better behind it -/
theorem ps_iv_back {P : ps_I} {am nx x : Nat} {b : Int} {p : List Nat} (h : ps_iv P am b nx (x :: p)) (hn : (∀ i, nx ≤ i → ¬ ps_cd P (x :: p) i) ∨ b ≤ ps_wr P am (x :: p)) : ps_iv P am b (x + 1) p := by
  refine ⟨h.1, fun q hq => ?_⟩
  rcases h.2 q hq with e | e | e
  · exact Or.inl e
  · rcases hn with hn | hn
    · exact (ps_up_n hq.1 e hn).elim
    · have := ps_up_w (P := P) (am := am) e
      exact Or.inl (by omega)
  · exact Or.inr e
theorem ps_iv_end {P : ps_I} {am nx : Nat} {b : Int} (h : ps_iv P am b nx []) (hn : (∀ i, nx ≤ i → ¬ ps_cd P [] i) ∨ b ≤ ps_wr P am []) : ps_ie P am b := by
  refine ⟨h.1, fun q hq => ?_⟩
  rcases h.2 q hq with e | e | e
  · exact e
  · rcases hn with hn | hn
    · exact (ps_up_n hq.1 e hn).elim
    · have := ps_up_w (P := P) (am := am) e
      omega
  · exact e.elim
/-- a task is placed, and its level opened -/
theorem ps_iv_open {P : ps_I} {am nx t : Nat} {b : Int} {p : List Nat} (h : ps_iv P am b nx p) (hn : ∀ i, nx ≤ i → i < t → ¬ ps_cd P p i) (hl : p.length + 1 < ps_n P) : ps_iv P am b 0 (t :: p) := by
  refine ⟨h.1, fun q hq => ?_⟩
  rcases h.2 q hq with e | e | e
  · exact Or.inl e
  · rcases ps_up_s hq.1 e hn with ⟨s, e2⟩ | e2
    · subst e2
      exact Or.inr (Or.inl (ps_up_0 (by rw [hq.2, List.length_cons]; exact hl)))
    · exact Or.inr (Or.inr (Or.inl e2))
  · exact Or.inr (Or.inr (Or.inr e))
/-- a task is placed, and given up or settled: best is B then, and nothing behind it is better -/
theorem ps_iv_skip {P : ps_I} {am nx t : Nat} {b b' : Int} {p : List Nat} (h : ps_iv P am b nx p) (hn : ∀ i, nx ≤ i → i < t → ¬ ps_cd P p i) (hb : b' ≤ b) (h1 : ps_b1 P am b') (hq : ∀ s, ps_fl P (s ++ t :: p) → b' ≤ ps_wr P am (s ++ t :: p)) : ps_iv P am b' (t + 1) p := by
  refine ⟨h1, fun q hf => ?_⟩
  rcases h.2 q hf with e | e | e
  · exact Or.inl (by omega)
  · rcases ps_up_s hf.1 e hn with ⟨s, e2⟩ | e2
    · subst e2
      exact Or.inl (hq s hf)
    · exact Or.inr (Or.inl e2)
  · exact Or.inr (Or.inr e)
/-- Y's leaf -/
theorem ps_iv_leaf {P : ps_I} {am nx t : Nat} {b b' : Int} {p : List Nat} (h : ps_iv P am b nx p) (hn : ∀ i, nx ≤ i → i < t → ¬ ps_cd P p i) (hb : b' ≤ b) (h1 : ps_b1 P am b') (hl : p.length + 1 = ps_n P) (hw : b' ≤ ps_wr P am (t :: p)) : ps_iv P am b' 0 (t :: p) := by
  refine ⟨h1, fun q hf => ?_⟩
  rcases h.2 q hf with e | e | e
  · exact Or.inl (by omega)
  · rcases ps_up_s hf.1 e hn with ⟨s, e2⟩ | e2
    · subst e2
      refine Or.inl (Int.le_trans hw (ps_wr_mo s (t :: p)))
    · exact Or.inr (Or.inr (Or.inl e2))
  · exact Or.inr (Or.inr (Or.inr e))
end
section
/-! pure part 4: X's bounds hold for every whole order behind a node -/
/-- tails: no more than a row of tasks one before the other -/
def ps_tl (P : ps_I) (tl : Nat → Nat) : Prop := ∀ t, t < ps_n P → tl t ≤ 60 ∧ (tl t ≤ ps_d P t ∨ ∃ i, i < ps_n P ∧ t < i ∧ ps_b P i t = true ∧ tl t ≤ ps_d P t + tl i)
theorem ps_end_le {P : ps_I} {q : List Nat} (h : ps_fl P q) {t : Nat} (ht : t < ps_n P) : ((ps_st P q t + ps_d P t : Nat) : Int) ≤ ps_wr P 0 q := by
  have h1 := ps_wr_le (am := 0) h.1 t (ps_full h t ht)
  unfold ps_wt at h1
  rw [if_pos rfl] at h1
  exact h1
theorem ps_tl_le {P : ps_I} (hk : ps_ok P) {tl : Nat → Nat} (hT : ps_tl P tl) {q : List Nat} (h : ps_fl P q) : ∀ k t, t < ps_n P → ps_n P - t ≤ k → ((ps_st P q t + tl t : Nat) : Int) ≤ ps_wr P 0 q := by
  intro k
  induction k with
  | zero => intro t h1 h2; omega
  | succ k ih =>
    intro t ht hd
    have he := ps_end_le h ht
    rcases (hT t ht).2 with e | ⟨i, hi, hti, hb, e⟩
    · omega
    · have h1 := ih i hi (by omega)
      have h2 := (ps_prec hk h.1 i t (ps_full h i hi) hb).2
      omega
/-- all work of means m -/
def ps_wk (P : ps_I) (m : Nat) : Nat := ps_sm (fun t => ps_d P t * ps_w P (t * 2 + m)) (ps_n P)
theorem ps_wk_1 (S d w L : Nat) (h : S + d ≤ L) : d * w ≤ ps_sm (fun x => if S ≤ x ∧ x < S + d then w else 0) L := by
  obtain ⟨e, rfl⟩ : ∃ e, L = S + (d + e) := ⟨L - S - d, by omega⟩
  rw [ps_sm_split, ps_sm_split]
  have h1 := ps_sm_lb (f := fun i => if S ≤ S + i ∧ S + i < S + d then w else 0) (B := w) d (fun i hi => by
    try dsimp only
    rw [if_pos ⟨by omega, by omega⟩]
    exact Nat.le_refl _)
  omega
theorem ps_wk_le {P : ps_I} {q : List Nat} (h : ps_fl P q) {m L : Nat} (hu : ∀ x, ps_us P (ps_st P q) q m x ≤ ps_c P m) (hL : ∀ t, t < ps_n P → ps_st P q t + ps_d P t ≤ L) : ps_wk P m ≤ L * ps_c P m := by
  have h1 : ps_sm (fun x => ps_us P (ps_st P q) q m x) L ≤ L * ps_c P m := ps_sm_ub L (fun x _ => hu x)
  have h2 : ps_sm (fun x => ps_us P (ps_st P q) q m x) L = ps_sm (fun t => ps_sm (fun x => ps_on P (ps_st P q) q m x t) L) (ps_n P) := ps_sm_comm (fun x t => ps_on P (ps_st P q) q m x t) L (ps_n P)
  have h3 : ps_wk P m ≤ ps_sm (fun t => ps_sm (fun x => ps_on P (ps_st P q) q m x t) L) (ps_n P) := by
    refine ps_sm_le (ps_n P) (fun t ht => ?_)
    refine Nat.le_trans (ps_wk_1 (ps_st P q t) (ps_d P t) (ps_w P (t * 2 + m)) L (hL t ht)) ?_
    refine ps_sm_le L (fun x _ => ?_)
    try dsimp only
    unfold ps_on
    by_cases e : ps_st P q t ≤ x ∧ x < ps_st P q t + ps_d P t
    · rw [if_pos e, if_pos ⟨ps_full h t ht, e⟩]; exact Nat.le_refl _
    · rw [if_neg e]; exact Nat.zero_le _
  omega
def ps_wq (P : ps_I) (m : Nat) : Nat := (ps_wk P m + ps_c P m - 1) / ps_c P m
theorem ps_wq_le {P : ps_I} {m L : Nat} (hc : 1 ≤ ps_c P m) (h : ps_wk P m ≤ L * ps_c P m) : ps_wq P m ≤ L := by
  unfold ps_wq
  apply Nat.le_of_lt_succ
  apply Nat.div_lt_of_lt_mul
  rw [Nat.mul_succ, Nat.mul_comm]
  omega
theorem ps_wq_lb {P : ps_I} (hk : ps_ok P) (hf : ps_fe P) {q : List Nat} (h : ps_fl P q) : (ps_wq P 0 : Int) ≤ ps_wr P 0 q ∧ (ps_wq P 1 : Int) ≤ ps_wr P 0 q := by
  have h1 := ps_wr_1 hk hf h
  have hL : ∀ t, t < ps_n P → ps_st P q t + ps_d P t ≤ (ps_wr P 0 q).toNat := by
    intro t ht
    have := ps_end_le h ht
    omega
  have h2 := ps_wq_le (P := P) (m := 0) hk.2.2.1 (ps_wk_le h (fun x => (ps_us_le hk hf h.1 x).1) hL)
  have h3 := ps_wq_le (P := P) (m := 1) hk.2.2.2.2.1 (ps_wk_le h (fun x => (ps_us_le hk hf h.1 x).2) hL)
  omega
theorem ps_wk_ub {P : ps_I} (hk : ps_ok P) : ps_wk P 0 ≤ 240 ∧ ps_wk P 1 ≤ 240 := by
  have hn := hk.1
  constructor
  · have h := ps_sm_ub (f := fun t => ps_d P t * ps_w P (t * 2 + 0)) (B := 40) (ps_n P) (fun t ht => by
      have h1 := hk.2.1 t ht
      exact Nat.mul_le_mul h1.2.1 h1.2.2.1)
    unfold ps_wk
    omega
  · have h := ps_sm_ub (f := fun t => ps_d P t * ps_w P (t * 2 + 1)) (B := 40) (ps_n P) (fun t ht => by
      have h1 := hk.2.1 t ht
      exact Nat.mul_le_mul h1.2.1 h1.2.2.2.1)
    unfold ps_wk
    omega
/-- end of t at node p, or ready time and g behind it -/
def ps_el (P : ps_I) (g : Nat → Nat) (p : List Nat) (t : Nat) : Nat := if t ∈ p then ps_st P p t + ps_d P t else ps_rd P (ps_st P p) p t + g t
theorem ps_el_ub {P : ps_I} (hk : ps_ok P) (hf : ps_fe P) {g : Nat → Nat} {p : List Nat} (h : ps_vl P p) {t : Nat} (ht : t < ps_n P) (hg : g t ≤ 60) : ps_el P g p t ≤ 140 := by
  have h1 := ps_vl_len h
  have h2 := hk.1
  unfold ps_el
  split
  · rename_i z
    have := ps_end_ub hk hf h t z
    omega
  · have := ps_rd_ub' hk hf h ht
    omega
theorem ps_el_d {P : ps_I} (hk : ps_ok P) {s p : List Nat} (h : ps_fl P (s ++ p)) {t : Nat} (ht : t < ps_n P) : ps_el P (ps_d P) p t ≤ ps_st P (s ++ p) t + ps_d P t := by
  unfold ps_el
  split
  · rename_i z
    rw [ps_st_s h.1 t z]
    exact Nat.le_refl _
  · rename_i z
    have := ps_rd_lb hk h.1 t (ps_full h t ht) z
    omega
theorem ps_el_t {P : ps_I} (hk : ps_ok P) {tl : Nat → Nat} (hT : ps_tl P tl) {s p : List Nat} (h : ps_fl P (s ++ p)) {t : Nat} (ht : t < ps_n P) : (ps_el P tl p t : Int) ≤ ps_wr P 0 (s ++ p) := by
  unfold ps_el
  split
  · rename_i z
    rw [← ps_st_s h.1 t z]
    exact ps_end_le h ht
  · rename_i z
    have h1 := ps_rd_lb hk h.1 t (ps_full h t ht) z
    have h2 := ps_tl_le hk hT h (ps_n P - t) t ht (Nat.le_refl _)
    omega
/-- settled: whole, or the task that is asked about is placed -/
def ps_se (P : ps_I) (am : Nat) (p : List Nat) : Prop := if am < 2 then p.length = ps_n P else am - 2 ∈ p
/-- what boundNow answers at node p: a bound, and the value where the aim is settled -/
def ps_bd (P : ps_I) (am : Nat) (p : List Nat) (B : Int) : Prop := -100000 ≤ B ∧ B ≤ 1000 ∧ (∀ s, ps_fl P (s ++ p) → B ≤ ps_wr P am (s ++ p)) ∧ (ps_se P am p → ∀ s, ps_fl P (s ++ p) → ps_wr P am (s ++ p) = B)
theorem ps_app_nil {P : ps_I} {s p : List Nat} (h : ps_fl P (s ++ p)) (hl : p.length = ps_n P) : s = [] := by
  have := h.2
  rw [List.length_append] at this
  exact List.length_eq_zero_iff.mp (by omega)
/-- the length's bound as X takes it -/
def ps_lbA (P : ps_I) (tl : Nat → Nat) (p : List Nat) : Nat := ps_mx 0 (fun _ => true) (ps_el P tl p) (ps_n P)
def ps_wbA (P : ps_I) : Nat := ps_mx 0 (fun _ => true) (ps_wq P) 2
def ps_lb (P : ps_I) (tl : Nat → Nat) (p : List Nat) : Nat := if ps_lbA P tl p ≤ ps_wbA P then ps_wbA P else ps_lbA P tl p
theorem ps_wq_ub {P : ps_I} (hk : ps_ok P) {m : Nat} (hm : m < 2) : ps_wq P m ≤ 240 := by
  have h := ps_wk_ub hk
  have h1 := hk.2.2
  have h2 : m = 0 ∨ m = 1 := by omega
  rcases h2 with e | e
  · subst e
    exact ps_wq_le h1.1 (Nat.le_trans h.1 (Nat.le_mul_of_pos_right _ h1.1))
  · subst e
    exact ps_wq_le h1.2.2.1 (Nat.le_trans h.2 (Nat.le_mul_of_pos_right _ h1.2.2.1))
theorem ps_bd_0 {P : ps_I} (hk : ps_ok P) (hf : ps_fe P) {tl : Nat → Nat} (hT : ps_tl P tl) {p : List Nat} (hv : ps_vl P p) : ps_bd P 0 p (ps_lb P tl p : Int) := by
  have hA : ps_lbA P tl p ≤ 140 := ps_mx_ub (by omega) _ (fun i hi _ => ps_el_ub hk hf hv hi (hT i hi).1)
  have hW : ps_wbA P ≤ 240 := ps_mx_ub (by omega) 2 (fun i hi _ => ps_wq_ub hk hi)
  have hlow : ∀ s, ps_fl P (s ++ p) → (ps_lb P tl p : Int) ≤ ps_wr P 0 (s ++ p) := by
    intro s h
    have h1 := ps_wr_1 hk hf h
    have h2 : ps_lbA P tl p ≤ (ps_wr P 0 (s ++ p)).toNat := ps_mx_ub (Nat.zero_le _) _ (fun i hi _ => by have := ps_el_t hk hT h hi; omega)
    have h3 : ps_wbA P ≤ (ps_wr P 0 (s ++ p)).toNat := ps_mx_ub (Nat.zero_le _) 2 (fun i hi _ => by
      have h4 := ps_wq_lb hk hf h
      have h5 : i = 0 ∨ i = 1 := by omega
      rcases h5 with e | e
      · subst e; omega
      · subst e; omega)
    unfold ps_lb
    split <;> omega
  refine ⟨by omega, ?_, hlow, ?_⟩
  · unfold ps_lb
    split <;> omega
  · intro hs s h
    have hs : p.length = ps_n P := hs
    have e := ps_app_nil h hs
    subst e
    have h1 := hlow [] h
    have h2 : ps_lbA P tl p ≤ ps_lb P tl p := by unfold ps_lb; split <;> omega
    rcases ps_wr_re (am := 0) hv with e | ⟨t, ht, e⟩
    · show ps_wr P 0 p = _
      have h1 : (ps_lb P tl p : Int) ≤ ps_wr P 0 p := h1
      omega
    · have h1 : (ps_lb P tl p : Int) ≤ ps_wr P 0 p := h1
      have h3 : ps_el P tl p t ≤ ps_lbA P tl p := ps_mx_le (f := ps_el P tl p) (ps_n P) t (ps_vl_m hv t ht) rfl
      unfold ps_el at h3
      rw [if_pos ht] at h3
      unfold ps_wt at e
      rw [if_pos rfl] at e
      show ps_wr P 0 p = _
      omega
/-- the lateness' bound -/
def ps_la (P : ps_I) (p : List Nat) : Int := ps_mz (-100000) (fun t => (ps_el P (ps_d P) p t : Int) - (ps_u P t : Int)) (ps_n P)
theorem ps_wt_1 (P : ps_I) (t e : Nat) : ps_wt P 1 t e = (e : Int) - (ps_u P t : Int) := by
  unfold ps_wt
  rw [if_neg (by omega), if_pos rfl]
theorem ps_bd_1 {P : ps_I} (hk : ps_ok P) (hf : ps_fe P) {p : List Nat} (hv : ps_vl P p) : ps_bd P 1 p (ps_la P p) := by
  have hlow : ∀ s, ps_fl P (s ++ p) → ps_la P p ≤ ps_wr P 1 (s ++ p) := by
    intro s h
    refine ps_mz_ub (ps_wr_lo _) _ (fun t ht => ?_)
    have h1 := ps_wr_le (am := 1) h.1 t (ps_full h t ht)
    rw [ps_wt_1] at h1
    have h2 := ps_el_d hk h ht
    omega
  refine ⟨ps_mz_b _, ?_, hlow, ?_⟩
  · refine ps_mz_ub (by omega) _ (fun t ht => ?_)
    have h1 := ps_el_ub hk hf (g := ps_d P) hv ht (by have := (hk.2.1 t ht).2.1; omega)
    omega
  · intro hs s h
    have hs : p.length = ps_n P := hs
    have e := ps_app_nil h hs
    subst e
    have h1 : ps_la P p ≤ ps_wr P 1 p := hlow [] h
    show ps_wr P 1 p = _
    rcases ps_wr_re (am := 1) hv with e | ⟨t, ht, e⟩
    · have := ps_mz_b (b := -100000) (f := fun t => (ps_el P (ps_d P) p t : Int) - (ps_u P t : Int)) (ps_n P)
      unfold ps_la at *
      omega
    · have h3 := ps_mz_le (b := -100000) (f := fun t => (ps_el P (ps_d P) p t : Int) - (ps_u P t : Int)) (ps_n P) t (ps_vl_m hv t ht)
      rw [ps_wt_1] at e
      have h4 : ps_el P (ps_d P) p t = ps_st P p t + ps_d P t := if_pos ht
      try dsimp only at h3
      rw [h4] at h3
      unfold ps_la at *
      omega
theorem ps_wt_a (P : ps_I) (a e : Nat) : ps_wt P (a + 2) a e = (e : Int) := by
  unfold ps_wt
  rw [if_neg (by omega), if_neg (by omega), if_pos rfl]
theorem ps_wt_o (P : ps_I) {a t : Nat} (e : Nat) (h : t ≠ a) : ps_wt P (a + 2) t e = -100000 := by
  unfold ps_wt
  rw [if_neg (by omega), if_neg (by omega), if_neg (by omega)]
theorem ps_bd_a {P : ps_I} (hk : ps_ok P) (hf : ps_fe P) {p : List Nat} {a : Nat} (ha : a < ps_n P) (hv : ps_vl P p) : ps_bd P (a + 2) p (ps_el P (ps_d P) p a : Int) := by
  have hlow : ∀ s, ps_fl P (s ++ p) → (ps_el P (ps_d P) p a : Int) ≤ ps_wr P (a + 2) (s ++ p) := by
    intro s h
    have h1 := ps_wr_le (am := a + 2) h.1 a (ps_full h a ha)
    rw [ps_wt_a] at h1
    have h2 := ps_el_d hk h ha
    omega
  refine ⟨by omega, ?_, hlow, ?_⟩
  · have h1 := ps_el_ub hk hf (g := ps_d P) hv ha (by have := (hk.2.1 a ha).2.1; omega)
    omega
  · intro hs s h
    unfold ps_se at hs
    rw [if_neg (by omega)] at hs
    have hs : a ∈ p := hs
    have h1 := hlow s h
    have h4 : ps_el P (ps_d P) p a = ps_st P p a + ps_d P a := if_pos hs
    rcases ps_wr_re (am := a + 2) h.1 with e | ⟨t, ht, e⟩
    · omega
    · by_cases z : t = a
      · subst z
        rw [ps_wt_a, ps_st_s h.1 t hs] at e
        omega
      · rw [ps_wt_o P _ z] at e
        omega
end
section
/-! pure part 5: with no less of each means the best length is no greater -/
def ps_sc (P : ps_I) (c : Nat → Nat) : ps_I := (ps_n P, ps_d P, ps_w P, ps_r P, ps_u P, c, ps_f P)
theorem ps_arg (A : Nat → Prop) (S : Nat → Nat) : ∀ k t, A t → S t ≤ k → ∃ t, A t ∧ ∀ i, A i → S t ≤ S i := by
  intro k
  induction k with
  | zero => intro t h h0; exact ⟨t, h, fun i _ => by omega⟩
  | succ k ih =>
    intro t h h0
    by_cases e : ∃ i, A i ∧ S i < S t
    · obtain ⟨i, hi, hl⟩ := e
      exact ih i hi (by omega)
    · exact ⟨t, h, fun i hi => by
        rcases Nat.lt_or_ge (S i) (S t) with z | z
        · exact absurd ⟨i, hi, z⟩ e
        · exact z⟩
/-- what S has in use of means m at x, all tasks -/
theorem ps_dom_us {P P' : ps_I} (en : ps_n P' = ps_n P) (ed : ps_d P' = ps_d P) (ew : ps_w P' = ps_w P) {q p : List Nat} (hq : ∀ t, t < ps_n P → t ∈ q) {S S' : Nat → Nat} {t x m : Nat} (ht : t < ps_n P) (hp : t ∉ p) (h1 : ∀ i, i ∈ p → S i ≤ S t) (h2 : ∀ i, i ∈ p → S' i ≤ S i) (hx : S t ≤ x) (hx2 : x < S t + ps_d P t) : ps_us P' S' p m x + ps_w P (t * 2 + m) ≤ ps_us P S q m x := by
  have h := ps_sm_pt (f := ps_on P' S' p m x) (g := ps_on P S q m x) t (ps_n P) ht (fun i hi _ => by
    unfold ps_on
    rw [ed, ew]
    by_cases e : i ∈ p ∧ S' i ≤ x ∧ x < S' i + ps_d P i
    · have h3 := h1 i e.1
      have h4 := h2 i e.1
      rw [if_pos e, if_pos ⟨hq i hi, by omega, by omega⟩]
      exact Nat.le_refl _
    · rw [if_neg e]; exact Nat.zero_le _)
  have h3 : ps_on P S q m x t = ps_w P (t * 2 + m) := if_pos ⟨hq t ht, hx, hx2⟩
  have h4 : ps_on P' S' p m x t = 0 := if_neg (fun z => hp z.1)
  unfold ps_us
  rw [en]
  omega
theorem ps_dom_k {P P' : ps_I} (hk : ps_ok P) (hf : ps_fe P) (en : ps_n P' = ps_n P) (ed : ps_d P' = ps_d P) (ew : ps_w P' = ps_w P) (er : ps_r P' = ps_r P) (ef : ps_f P' = ps_f P) (h0 : ps_c P 0 ≤ ps_c P' 0) (h1 : ps_c P 1 ≤ ps_c P' 1) {q : List Nat} (hq : ps_fl P q) : ∀ k, k ≤ ps_n P → ∃ p, ps_vl P' p ∧ p.length = k ∧ (∀ i, i ∈ p → ∀ j, j < ps_n P → j ∉ p → ps_st P q i ≤ ps_st P q j) ∧ ∀ i, i ∈ p → ps_st P' p i ≤ ps_st P q i := by
  intro k
  induction k with
  | zero => intro _; exact ⟨[], trivial, rfl, fun i hi => absurd hi List.not_mem_nil, fun i hi => absurd hi List.not_mem_nil⟩
  | succ k ih =>
    intro hkn
    obtain ⟨p, hv, hl, hs, hS⟩ := ih (by omega)
    obtain ⟨t0, ht0, hp0⟩ := ps_more hv (by omega)
    obtain ⟨t, ⟨ht, hp⟩, hmin⟩ := ps_arg (fun t => t < ps_n P ∧ t ∉ p) (ps_st P q) (ps_st P q t0) t0 ⟨by omega, hp0⟩ (Nat.le_refl _)
    have hb : ∀ i, ps_b P' t i = true → ps_b P t i = true := fun i h => by unfold ps_b at *; rw [ef] at h; exact h
    have hpr : ∀ i, ps_b P' t i = true → i ∈ p ∧ ps_st P q i + ps_d P i ≤ ps_st P q t := by
      intro i h
      obtain ⟨a, b⟩ := ps_prec hk hq.1 t i (ps_full hq t ht) (hb i h)
      have hi := ps_vl_m hq.1 i a
      have hd := (hk.2.1 i hi).1
      refine ⟨?_, b⟩
      by_cases e : i ∈ p
      · exact e
      · have := hmin i ⟨hi, e⟩
        omega
    have hc : ps_cd P' p t := ⟨by omega, hp, fun i h => (hpr i h).1⟩
    have hr : ps_rd P' (ps_st P' p) p t ≤ ps_st P q t := by
      refine ps_mx_ub ?_ t (fun i hi hc => ?_)
      · rw [er]
        have h2 := ps_rd_lb hk (s := q) (p := []) (by rw [List.append_nil]; exact hq.1) t (by rw [List.append_nil]; exact ps_full hq t ht) List.not_mem_nil
        rw [List.append_nil] at h2
        exact Nat.le_trans (ps_mx_b t) h2
      · simp only [Bool.and_eq_true, decide_eq_true_eq] at hc
        obtain ⟨a, b⟩ := hpr i hc.1
        have := hS i a
        show ps_st P' p i + ps_d P' i ≤ _
        rw [ed]
        omega
    have hfd : ps_fd P' (ps_st P' p) p t (ps_st P q t) = true := by
      rw [ps_fd_t]
      intro i hi
      rw [ed] at hi
      have hu := ps_us_le hk hf hq.1 (ps_st P q t + i)
      have g0 := ps_dom_us en ed ew (ps_full hq) (S := ps_st P q) (S' := ps_st P' p) (p := p) (x := ps_st P q t + i) (m := 0) ht hp (fun j hj => hs j hj t ht hp) hS (by omega) (by omega)
      have g1 := ps_dom_us en ed ew (ps_full hq) (S := ps_st P q) (S' := ps_st P' p) (p := p) (x := ps_st P q t + i) (m := 1) ht hp (fun j hj => hs j hj t ht hp) hS (by omega) (by omega)
      rw [Nat.add_zero] at g0
      unfold ps_at
      rw [ew]
      omega
    have her : ps_er P' (ps_st P' p) p t ≤ ps_st P q t := ps_fn_le hfd 100 _ hr
    refine ⟨t :: p, ⟨hc, hv⟩, by rw [List.length_cons]; omega, ?_, ?_⟩
    · intro i hi j hj hjn
      have hjp : j ∉ p := fun z => hjn (List.mem_cons_of_mem _ z)
      rcases List.mem_cons.mp hi with e | e
      · subst e
        exact hmin j ⟨hj, hjp⟩
      · exact hs i e j hj hjp
    · intro i hi
      by_cases e : i = t
      · subst e
        rw [ps_st_h]
        exact her
      · rw [ps_st_n P' p e]
        exact hS i ((List.mem_cons.mp hi).elim (fun y => absurd y e) id)
theorem ps_dom {P P' : ps_I} (hk : ps_ok P) (hf : ps_fe P) (en : ps_n P' = ps_n P) (ed : ps_d P' = ps_d P) (ew : ps_w P' = ps_w P) (er : ps_r P' = ps_r P) (ef : ps_f P' = ps_f P) (h0 : ps_c P 0 ≤ ps_c P' 0) (h1 : ps_c P 1 ≤ ps_c P' 1) {q : List Nat} (hq : ps_fl P q) : ∃ q', ps_fl P' q' ∧ ps_wr P' 0 q' ≤ ps_wr P 0 q := by
  obtain ⟨p, hv, hl, _, hS⟩ := ps_dom_k hk hf en ed ew er ef h0 h1 hq (ps_n P) (Nat.le_refl _)
  refine ⟨p, ⟨hv, by omega⟩, ?_⟩
  have h2 := ps_wr_1 hk hf hq
  rcases ps_wr_re (am := 0) hv with e | ⟨t, ht, e⟩
  · omega
  · have h3 := hS t ht
    have h4 := ps_end_le hq (t := t) (by have := ps_vl_m hv t ht; omega)
    unfold ps_wt at e
    rw [if_pos rfl, ed] at e
    omega
/-- answers: feasible with less means feasible with more, and the length with more is no greater -/
theorem ps_as_mono {P P' : ps_I} (hk : ps_ok P) (en : ps_n P' = ps_n P) (ed : ps_d P' = ps_d P) (ew : ps_w P' = ps_w P) (er : ps_r P' = ps_r P) (ef : ps_f P' = ps_f P) (h0 : ps_c P 0 ≤ ps_c P' 0) (h1 : ps_c P 1 ≤ ps_c P' 1) {r r' : Int} (h : ps_as P 0 r) (h' : ps_as P' 0 r') (hn : r ≠ -1000) : r' ≤ r := by
  rcases h with ⟨_, e⟩ | ⟨hf, ⟨q, hq, e⟩, _⟩
  · exact absurd e hn
  · obtain ⟨q', hq', hl⟩ := ps_dom hk hf en ed ew er ef h0 h1 hq
    rcases h' with ⟨hf', _⟩ | ⟨_, _, h3⟩
    · refine absurd ⟨by rw [en]; exact hf.1, fun t ht => ?_⟩ hf'
      have h5 := hf.2 t (by omega)
      rw [ew]
      omega
    · have := h3 q' hq'
      omega
/-- an answer: -1000 or a length from 1 on -/
theorem ps_as_0 {P : ps_I} (hk : ps_ok P) {r : Int} (h : ps_as P 0 r) : (¬ ps_fe P ∧ r = -1000) ∨ (ps_fe P ∧ 1 ≤ r ∧ r ≤ 80) := by
  rcases h with h | ⟨hf, ⟨q, hq, e⟩, _⟩
  · exact Or.inl h
  · have h1 := ps_wr_1 hk hf hq
    have h2 := ps_wr_hi (am := 0) hk hf hq.1
    exact Or.inr ⟨hf, by omega, by omega⟩
/-- there is always an answer -/
theorem ps_as_x {P : ps_I} (hk : ps_ok P) (am : Nat) : ps_as P am (ps_vv P am) := by
  suffices h : ∃ r, ps_as P am r by
    obtain ⟨r, hr⟩ := h
    rw [← ps_vv_e hr]
    exact hr
  by_cases hf : ps_fe P
  · obtain ⟨s, hs⟩ := ps_ext' hk (p := []) trivial
    have hA := pk_least (fun k => ∃ q, ps_fl P q ∧ (ps_wr P am q + 100000).toNat = k) ⟨_, s ++ [], hs, rfl⟩
    obtain ⟨k, ⟨q, hq, e⟩, hm⟩ := hA
    refine ⟨ps_wr P am q, Or.inr ⟨hf, ⟨q, hq, rfl⟩, fun q' hq' => ?_⟩⟩
    have h1 := ps_wr_lo (P := P) (am := am) q
    have h2 := ps_wr_lo (P := P) (am := am) q'
    rcases Nat.lt_or_ge (ps_wr P am q' + 100000).toNat k with z | z
    · exact absurd ⟨q', hq', rfl⟩ (hm _ z)
    · omega
  · exact ⟨-1000, Or.inl ⟨hf, rfl⟩⟩
/-- ranges of any answer -/
theorem ps_vv_r {P : ps_I} (hk : ps_ok P) (am : Nat) : -100000 ≤ ps_vv P am ∧ ps_vv P am ≤ 100000 := by
  rcases ps_as_x hk am with ⟨_, e⟩ | ⟨hf, ⟨q, hq, e⟩, _⟩
  · omega
  · have h1 := ps_wr_lo (P := P) (am := am) q
    have h2 := ps_wr_hi (am := am) hk hf hq.1
    omega
end
section
/-! X's walk: methods that only read -/
def xs_D (P : ps_I) : Nat → Int32 := fun i => nI (ps_d P i)
def xs_W (P : ps_I) : Nat → Int32 := fun i => nI (ps_w P i)
def xs_R (P : ps_I) : Nat → Int32 := fun i => nI (ps_r P i)
def xs_U (P : ps_I) : Nat → Int32 := fun i => nI (ps_u P i)
def xs_C (P : ps_I) : Nat → Int32 := fun i => nI (ps_c P i)
theorem xb_if {c d A B : Prop} (e : c ↔ d) (f : d → A) (g : ¬ d → B) : (c → A) ∧ (¬ c → B) := ⟨fun h => f (e.mp h), fun h => g (fun z => h (e.mpr z))⟩
theorem xb_sc {m k : Nat} (h : k < m) : ∃ m', m = m' + 1 ∧ k ≤ m' := ⟨m - 1, by omega, by omega⟩
/-- placed tasks as bits -/
def xs_B (p : List Nat) (fp : Int32) : Prop := ∀ i, i < 32 → bt fp i = decide (i ∈ p)
section
variable {P : ps_I} {p : List Nat} {S : Nat → Nat} {ft fp fl fa fb : Int32} {ad an ar au ab ac pa st us tt tl : Nat → Int32}
theorem xs_endOf {post : Int32 → Prop} {t : Nat} (h6 : t < 6) (h : post (st t + xs_D P t)) : wpX_endOf post ((nI (ps_n P)), fp, fl, fa, fb, (xs_D P), (xs_W P), (xs_R P), (xs_U P), (ps_f P), (xs_C P), pa, st, us, tt, tl) (nI t) := by
  have e : (nI t).toNatClampNeg = t := nI_clamp (by omega)
  have g : post (st (nI t).toNatClampNeg + xs_D P (nI t).toNatClampNeg) := by rw [e]; exact h
  exact And.intro (vp_in_nI h6 (by omega)) (And.intro (vp_in_nI h6 (by omega)) g)
theorem xs_noTask {post : Int32 → Prop} {x : Int32} (hn : ps_n P ≤ 6) (h1 : ∀ t, t < ps_n P → x = nI t → post 0) (h2 : (∀ t, t < ps_n P → x ≠ nI t) → post 1) : wpX_noTask post ((nI (ps_n P)), fp, fl, fa, fb, (xs_D P), (xs_W P), (xs_R P), (xs_U P), (ps_f P), (xs_C P), pa, st, us, tt, tl) x := by
  by_cases h0 : x < 0
  · refine br_t h0 (h2 (fun t ht e => ?_))
    rw [e] at h0
    exact nI_pos (by omega) h0
  · obtain ⟨j, hj, rfl⟩ := nI_of h0
    refine br_f h0 ?_
    refine xb_if (nI_ltI hj (by omega)) (fun h => h1 j h rfl) (fun h => h2 (fun t ht e => h ?_))
    rw [nI_eq hj (by omega)] at e
    omega
theorem xs_isPlaced {post : Int32 → Prop} {t : Nat} (h6 : t < 6) (hp : xs_B p fp) (h1 : t ∈ p → post 1) (h0 : t ∉ p → post 0) : wpX_isPlaced post ((nI (ps_n P)), fp, fl, fa, fb, (xs_D P), (xs_W P), (xs_R P), (xs_U P), (ps_f P), (xs_C P), pa, st, us, tt, tl) (nI t) := by
  have e : ((fp >>> (nI t &&& 31)) &&& 1) = 1 ↔ t ∈ p := by
    rw [ib_tst1 _ (by omega), hp t (by omega), decide_eq_true_iff]
  exact xb_if e h1 h0
theorem xs_ready_9 {post : Int32 → Prop} (hk : ps_ok P) {t : Nat} (ht : t < ps_n P) (hp : xs_B p fp) (hs : ∀ i, i ∈ p → st i = nI (S i)) (hS : ∀ i, i ∈ p → S i + ps_d P i ≤ 1000) (h : post (nI (ps_rd P S p t))) : ∀ k i m, i + k = t → k < m → wX_ready_9 post (nI t) (nI (ps_n P)) fp fl fa fb (xs_D P) (xs_W P) (xs_R P) (xs_U P) (ps_f P) (xs_C P) pa st us tt tl m (nI (ps_mx (ps_r P t) (fun i => ps_b P t i && decide (i ∈ p)) (fun i => S i + ps_d P i) i)) (nI i) := by
  have hn := hk.1
  have hr := (hk.2.1 t ht).2.2.2.2.1
  have hM : ∀ i, ps_mx (ps_r P t) (fun i => ps_b P t i && decide (i ∈ p)) (fun i => S i + ps_d P i) i ≤ 1000 := fun i => ps_mx_ub (by omega) i (fun j _ hc => hS j (by simp only [Bool.and_eq_true, decide_eq_true_eq] at hc; exact hc.2))
  intro k
  induction k with
  | zero =>
    intro i m hi hm
    obtain ⟨m, rfl, _⟩ := xb_sc hm
    have e : i = t := by omega
    subst e
    exact br_t (nI_le (Nat.le_refl _) (by omega)) h
  | succ k ih =>
    intro i m hi hm
    obtain ⟨m, rfl, hm'⟩ := xb_sc hm
    have hb : ((((ps_f P (nI t).toNatClampNeg) &&& fp) >>> (nI i &&& 31)) &&& 1) = 1 ↔ (ps_b P t i && decide (i ∈ p)) = true := by
      rw [nI_clamp (by omega), ib_tst1 _ (by omega), b_and, hp i (by omega)]
      exact Iff.rfl
    have I := ih (i + 1) m (by omega) (by omega)
    rw [ps_mx_s] at I
    refine br_f (nI_ge (by omega) (by omega)) ⟨vp_in_nI (by omega) (by omega), xb_if hb (fun c => ?_) (fun c => ?_)⟩
    · have hm : i ∈ p := by simp only [Bool.and_eq_true, decide_eq_true_eq] at c; exact c.2
      have ev : st i + xs_D P i = nI (S i + ps_d P i) := by rw [hs i hm]; exact nI_add _ _
      have hM1 := hM i
      have hS1 := hS i hm
      refine xs_endOf (by omega) ?_
      try dsimp only
      rw [ev]
      refine pk_le _ _ (fun z => ?_) (fun z => ?_)
      · rw [if_neg (fun y => by omega)] at I
        exact nm_r (nI_1 i) I
      · refine xs_endOf (by omega) ?_
        try dsimp only
        rw [ev]
        rw [if_pos ⟨c, z⟩] at I
        exact nm_r (nI_1 i) I
    · rw [if_neg (fun y => c y.1)] at I
      exact nm_r (nI_1 i) I
theorem xs_ready {post : Int32 → Prop} (hk : ps_ok P) {t : Nat} (ht : t < ps_n P) (hp : xs_B p fp) (hs : ∀ i, i ∈ p → st i = nI (S i)) (hS : ∀ i, i ∈ p → S i + ps_d P i ≤ 1000) (h : post (nI (ps_rd P S p t))) : wpX_ready post ((nI (ps_n P)), fp, fl, fa, fb, (xs_D P), (xs_W P), (xs_R P), (xs_U P), (ps_f P), (xs_C P), pa, st, us, tt, tl) (nI t) := by
  have hn := hk.1
  refine And.intro (vp_in_nI (by omega) (by omega)) ?_
  have e : xs_R P (nI t).toNatClampNeg = nI (ps_r P t) := by rw [nI_clamp (by omega)]; rfl
  exact nm_r e ⟨t + 1, xs_ready_9 hk ht hp hs hS h t 0 (t + 1) (by omega) (by omega)⟩
theorem xs_fits_2 {post : Int32 → Prop} (hk : ps_ok P) {t a : Nat} (ht : t < ps_n P) (ha : a + ps_d P t ≤ 128) (hu : ∀ x, x < 128 → us x = nI (ps_us P S p 0 x) ∧ us (128 + x) = nI (ps_us P S p 1 x)) (hU : ∀ x, ps_us P S p 0 x ≤ 1000 ∧ ps_us P S p 1 x ≤ 1000) (h1 : ps_fd P S p t a = true → post 1) (h0 : ps_fd P S p t a = false → post 0) : ∀ k x m, x + k = a + ps_d P t → k < m → a ≤ x → (∀ y, a ≤ y → y < x → ps_at P S p t y) → wX_fits_2 post (nI t) (nI a) (nI (ps_n P)) fp fl fa fb (xs_D P) (xs_W P) (xs_R P) (xs_U P) (ps_f P) (xs_C P) pa st us tt tl m (nI x) := by
  have hn := hk.1
  obtain ⟨_, _, hw0, hw1, _, _, _⟩ := hk.2.1 t ht
  have hc := hk.2.2
  have e2 : nI t * 2 = nI (t * 2) := pk_mul t 2
  have e21 : nI t * 2 + 1 = nI (t * 2 + 1) := by rw [e2]; exact nI_1 _
  have ed : nI a + xs_D P (nI t).toNatClampNeg = nI (a + ps_d P t) := by rw [nI_clamp (by omega)]; exact nI_add _ _
  intro k
  induction k with
  | zero =>
    intro x m hx hm hax hall
    obtain ⟨m, rfl, _⟩ := xb_sc hm
    refine And.intro (vp_in_nI (by omega) (by omega)) (br_t ?_ (h1 (ps_fd_t.mpr (fun i hi => hall _ (by omega) (by omega)))))
    rw [ed]
    exact nI_le (by omega) (by omega)
  | succ k ih =>
    intro x m hx hm hax hall
    obtain ⟨m, rfl, hm'⟩ := xb_sc hm
    have e128 : 128 + nI x = nI (128 + x) := nI_add 128 x
    have hux := hu x (by omega)
    have hUx := hU x
    have y0 : us (nI x).toNatClampNeg + xs_W P (nI t * 2).toNatClampNeg = nI (ps_us P S p 0 x + ps_w P (t * 2)) := by
      rw [e2, nI_clamp (by omega), nI_clamp (by omega), hux.1]; exact nI_add _ _
    have y1 : us (128 + nI x).toNatClampNeg + xs_W P (nI t * 2 + 1).toNatClampNeg = nI (ps_us P S p 1 x + ps_w P (t * 2 + 1)) := by
      rw [e21, e128, nI_clamp (by omega), nI_clamp (by omega), hux.2]; exact nI_add _ _
    have hfal : ¬ ps_at P S p t x → ps_fd P S p t a = false := by
      intro hn
      cases e : ps_fd P S p t a
      · rfl
      · have := ps_fd_t.mp e (x - a) (by omega)
        rw [show a + (x - a) = x by omega] at this
        exact absurd this hn
    have hge : ¬ nI a + xs_D P (nI t).toNatClampNeg ≤ nI x := by
      rw [ed]
      exact nI_ge (by omega) (by omega)
    refine And.intro (vp_in_nI (by omega) (by omega)) (br_f hge ⟨vp_in_nI (by omega) (by omega), pk_in (t * 2) 12 (by omega) e2, ?_⟩)
    refine pk_lt (ps_c P 0) _ (fun z => h0 (hfal (fun y => ?_))) (fun z => ?_) rfl y0 (by omega) (by omega)
    · have := y.1; omega
    · refine ⟨pk_in (128 + x) 256 (by omega) e128, pk_in (t * 2 + 1) 12 (by omega) e21, ?_⟩
      refine pk_le _ (ps_c P 1) (fun z1 => ?_) (fun z1 => h0 (hfal (fun y => ?_))) y1 rfl (by omega) (by omega)
      · refine nm_r (nI_1 x) (ih (x + 1) m (by omega) (by omega) (by omega) (fun y hy1 hy2 => ?_))
        by_cases e : y = x
        · subst e; exact ⟨z, z1⟩
        · exact hall y hy1 (by omega)
      · have := y.2; omega
theorem xs_fits {post : Int32 → Prop} (hk : ps_ok P) {t a : Nat} (ht : t < ps_n P) (ha : a + ps_d P t ≤ 128) (hu : ∀ x, x < 128 → us x = nI (ps_us P S p 0 x) ∧ us (128 + x) = nI (ps_us P S p 1 x)) (hU : ∀ x, ps_us P S p 0 x ≤ 1000 ∧ ps_us P S p 1 x ≤ 1000) (h1 : ps_fd P S p t a = true → post 1) (h0 : ps_fd P S p t a = false → post 0) : wpX_fits post ((nI (ps_n P)), fp, fl, fa, fb, (xs_D P), (xs_W P), (xs_R P), (xs_U P), (ps_f P), (xs_C P), pa, st, us, tt, tl) (nI t) (nI a) :=
  Exists.intro (ps_d P t + 1) (xs_fits_2 hk ht ha hu hU h1 h0 (ps_d P t) a (ps_d P t + 1) rfl (by omega) (Nat.le_refl _) (fun y h1 h2 => by omega))
theorem xs_imp_2 {post : Int32 → Prop} (hk : ps_ok P) (h1 : ¬ ps_fe P → post 1) (h0 : ps_fe P → post 0) : ∀ k i m, i + k = ps_n P → k < m → (∀ t, t < i → ps_w P (t * 2) ≤ ps_c P 0 ∧ ps_w P (t * 2 + 1) ≤ ps_c P 1) → wX_impossible_2 post (nI (ps_n P)) fp fl fa fb (xs_D P) (xs_W P) (xs_R P) (xs_U P) (ps_f P) (xs_C P) pa st us tt tl m (nI i) := by
  have hn := hk.1
  have hc := hk.2.2
  intro k
  induction k with
  | zero =>
    intro i m hi hm hall
    obtain ⟨m, rfl, _⟩ := xb_sc hm
    have e : i = ps_n P := by omega
    subst e
    refine br_t (nI_le (Nat.le_refl _) (by omega)) ?_
    refine pk_eq (ps_n P) 0 (fun z => h1 (fun y => ?_)) (fun z => h0 ⟨by omega, hall⟩)
    have := y.1; omega
  | succ k ih =>
    intro i m hi hm hall
    obtain ⟨m, rfl, hm'⟩ := xb_sc hm
    obtain ⟨_, _, hw0, hw1, _, _, _⟩ := hk.2.1 i (by omega)
    have e2 : nI i * 2 = nI (i * 2) := pk_mul i 2
    have e21 : nI i * 2 + 1 = nI (i * 2 + 1) := by rw [e2]; exact nI_1 _
    have y0 : xs_W P (nI i * 2).toNatClampNeg = nI (ps_w P (i * 2)) := by rw [e2, nI_clamp (by omega)]; rfl
    have y1 : xs_W P (nI i * 2 + 1).toNatClampNeg = nI (ps_w P (i * 2 + 1)) := by rw [e21, nI_clamp (by omega)]; rfl
    refine br_f (nI_ge (by omega) (by omega)) ⟨pk_in (i * 2) 12 (by omega) e2, ?_⟩
    refine pk_lt (ps_c P 0) _ (fun z => h1 (fun y => ?_)) (fun z => ?_) rfl y0 (by omega) (by omega)
    · have := (y.2 i (by omega)).1; omega
    · refine ⟨pk_in (i * 2 + 1) 12 (by omega) e21, ?_⟩
      refine pk_le _ (ps_c P 1) (fun z1 => ?_) (fun z1 => h1 (fun y => ?_)) y1 rfl (by omega) (by omega)
      · refine nm_r (nI_1 i) (ih (i + 1) m (by omega) (by omega) (fun t ht => ?_))
        by_cases e : t = i
        · subst e; exact ⟨z, z1⟩
        · exact hall t (by omega)
      · have := (y.2 i (by omega)).2; omega
theorem xs_impossible {post : Int32 → Prop} (hk : ps_ok P) (h1 : ¬ ps_fe P → post 1) (h0 : ps_fe P → post 0) : wpX_impossible post ((nI (ps_n P)), fp, fl, fa, fb, (xs_D P), (xs_W P), (xs_R P), (xs_U P), (ps_f P), (xs_C P), pa, st, us, tt, tl) :=
  Exists.intro (ps_n P + 1) (xs_imp_2 hk h1 h0 (ps_n P) 0 (ps_n P + 1) (by omega) (by omega) (fun t ht => by omega))
/-- tasks that can come behind p, from nx on, as bits -/
def xs_M (P : ps_I) (p : List Nat) (nx : Nat) (x : Int32) : Prop := ∀ i, i < 32 → (bt x i = true ↔ nx ≤ i ∧ ps_cd P p i)
theorem xs_open_4 {post : Int32 → Prop} (hk : ps_ok P) (hv : ps_vl P p) (hp : xs_B p fp) (h : ∀ x, xs_M P p 0 x → post x) : ∀ k i m x, i + k = ps_n P → k < m → (∀ j, j < 32 → (bt x j = true ↔ j < i ∧ ps_cd P p j)) → wX_open_4 post (nI (ps_n P)) fp fl fa fb (xs_D P) (xs_W P) (xs_R P) (xs_U P) (ps_f P) (xs_C P) pa st us tt tl m x (nI i) := by
  have hn := hk.1
  intro k
  induction k with
  | zero =>
    intro i m x hi hm hx
    obtain ⟨m, rfl, _⟩ := xb_sc hm
    refine br_t (nI_le (by omega) (by omega)) (h x (fun j hj => ?_))
    rw [hx j hj]
    exact ⟨fun z => ⟨Nat.zero_le _, z.2⟩, fun z => ⟨by have := z.2.1; omega, z.2⟩⟩
  | succ k ih =>
    intro i m x hi hm hx
    obtain ⟨m, rfl, hm'⟩ := xb_sc hm
    have hskip : ¬ ps_cd P p i → wX_open_4 post (nI (ps_n P)) fp fl fa fb (xs_D P) (xs_W P) (xs_R P) (xs_U P) (ps_f P) (xs_C P) pa st us tt tl m x (nI (i + 1)) := fun hc => ih (i + 1) m x (by omega) (by omega) (fun j hj => by
      rw [hx j hj]
      constructor
      · intro z; exact ⟨by omega, z.2⟩
      · intro z
        refine ⟨?_, z.2⟩
        have : j ≠ i := fun e => hc (e ▸ z.2)
        omega)
    refine br_f (nI_ge (by omega) (by omega)) (xs_isPlaced (by omega) hp (fun hm => ?_) (fun hm => ?_))
    · exact br_f (by decide) (nm_r (nI_1 i) (hskip (fun z => z.2.1 hm)))
    · refine br_t rfl ⟨vp_in_nI (by omega) (by omega), ?_⟩
      have hb : (ps_f P (nI i).toNatClampNeg &&& (fp ^^^ (-1))) = 0 ↔ ps_cd P p i := by
        rw [nI_clamp (by omega), ib_sub]
        constructor
        · intro z
          refine ⟨by omega, hm, fun j hj => ?_⟩
          have h1 := (hk.2.1 i (by omega)).2.2.2.2.2.2 j hj
          have h2 := z j hj
          rw [hp j (by omega), decide_eq_true_iff] at h2
          exact h2
        · intro z j hj
          have h1 := (hk.2.1 i (by omega)).2.2.2.2.2.2 j hj
          rw [hp j (by omega), decide_eq_true_iff]
          exact z.2.2 j hj
      refine xb_if hb (fun c => ?_) (fun c => nm_r (nI_1 i) (hskip c))
      refine nm_e (nm_r (nI_1 i) (ih (i + 1) m _ (by omega) (by omega) (fun j hj => ?_)))
      rw [ib_set x i (by omega) hj, Bool.or_eq_true, hx j hj, decide_eq_true_iff]
      constructor
      · rintro (z | z)
        · exact ⟨by omega, z.2⟩
        · subst z; exact ⟨by omega, c⟩
      · intro z
        by_cases e : j = i
        · exact Or.inr e
        · exact Or.inl ⟨by omega, z.2⟩
theorem xs_open {post : Int32 → Prop} (hk : ps_ok P) (hv : ps_vl P p) (hp : xs_B p fp) (h : ∀ x, xs_M P p 0 x → post x) : wpX_open post ((nI (ps_n P)), fp, fl, fa, fb, (xs_D P), (xs_W P), (xs_R P), (xs_U P), (ps_f P), (xs_C P), pa, st, us, tt, tl) :=
  Exists.intro (ps_n P + 1) (xs_open_4 hk hv hp h (ps_n P) 0 (ps_n P + 1) 0 (by omega) (by omega) (fun j _ => by
    rw [b_0]
    exact ⟨fun z => absurd z (by decide), fun z => absurd z.1 (Nat.not_lt_zero _)⟩))
end
theorem xs_lowest_2 {post : Int32 → Prop} {x : Int32} {t : Nat} (ht : t < 6) (hb : bt x t = true) (hl : ∀ i, i < t → bt x i = false) (h : post (nI t)) : ∀ k i m, i + k = t → k < m → wX_lowest_2 post x m (nI i) := by
  intro k
  induction k with
  | zero =>
    intro i m hi hm
    obtain ⟨m, rfl, _⟩ := xb_sc hm
    have e : i = t := by omega
    subst e
    refine pk_le 5 i (fun _ => h) (fun _ => br_f ?_ h)
    rw [ib_tst0 x (by omega), hb]
    decide
  | succ k ih =>
    intro i m hi hm
    obtain ⟨m, rfl, hm'⟩ := xb_sc hm
    refine br_f (nI_ge (b := 5) (by omega) (by decide)) (br_t ?_ (nm_r (nI_1 i) (ih (i + 1) m (by omega) (by omega))))
    rw [ib_tst0 x (by omega)]
    exact hl i (by omega)
theorem xs_lowest {post : Int32 → Prop} {x : Int32} {t : Nat} (ht : t < 6) (hb : bt x t = true) (hl : ∀ i, i < t → bt x i = false) (h : post (nI t)) : wpX_lowest post x :=
  Exists.intro (t + 1) (xs_lowest_2 ht hb hl h t 0 (t + 1) (by omega) (by omega))
end
section
/-! X's walk: occupy, place, takeBack, findTails -/
def xs_O (us u1 : Nat → Int32) (a x : Nat) (v0 v1 : Int32) : Prop := ∀ y, y < 128 → u1 y = (if a ≤ y ∧ y < x then us y + v0 else us y) ∧ u1 (128 + y) = (if a ≤ y ∧ y < x then us (128 + y) + v1 else us (128 + y))
theorem xs_O_0 (us : Nat → Int32) (a : Nat) (v0 v1 : Int32) : xs_O us us a a v0 v1 := by
  intro y _
  rw [if_neg (fun z => by omega), if_neg (fun z => by omega)]
  exact ⟨rfl, rfl⟩
theorem xs_O_s {us u1 : Nat → Int32} {a x : Nat} {v0 v1 : Int32} (h : xs_O us u1 a x v0 v1) (ha : a ≤ x) (hx : x < 128) : xs_O us (upd (upd u1 x (u1 x + v0)) (128 + x) ((upd u1 x (u1 x + v0)) (128 + x) + v1)) a (x + 1) v0 v1 := by
  intro y hy
  have h1 := h y hy
  have h2 := h x hx
  have e1 : (upd u1 x (u1 x + v0)) (128 + x) = u1 (128 + x) := pk_un (by omega)
  rw [e1]
  by_cases e : y = x
  · subst e
    constructor
    · rw [pk_un (by omega), pk_us, if_pos ⟨ha, by omega⟩, h1.1, if_neg (fun z => by omega)]
    · rw [pk_us, if_pos ⟨ha, by omega⟩, h1.2, if_neg (fun z => by omega)]
  · have e2 : (a ≤ y ∧ y < x + 1) = (a ≤ y ∧ y < x) := propext ⟨fun z => ⟨z.1, by omega⟩, fun z => ⟨z.1, by omega⟩⟩
    constructor
    · rw [pk_un (by omega), pk_un e, h1.1]
      simp only [e2]
    · rw [pk_un (by omega), pk_un (by omega), h1.2]
      simp only [e2]
/-- the arrays of a plan under way stand for node p -/
def xs_N (P : ps_I) (p : List Nat) (fp : Int32) (st us : Nat → Int32) : Prop := xs_B p fp ∧ (∀ i, i ∈ p → st i = nI (ps_st P p i)) ∧ ∀ x, x < 128 → us x = nI (ps_us P (ps_st P p) p 0 x) ∧ us (128 + x) = nI (ps_us P (ps_st P p) p 1 x)
theorem xs_1m (a b : Nat) : nI a + 1 * nI b = nI (a + b) := by
  rw [Int32.one_mul, nI_add]
theorem xs_m1m (a b : Nat) : nI (a + b) + (-1) * nI b = nI a := by
  rw [← nI_add]
  generalize nI a = x
  generalize nI b = y
  grind
theorem xs_N_push {P : ps_I} {p : List Nat} {fp : Int32} {st us u1 : Nat → Int32} {t : Nat} (hk : ps_ok P) (h : xs_N P p fp st us) (hc : ps_cd P p t) (hO : xs_O us u1 (ps_er P (ps_st P p) p t) (ps_er P (ps_st P p) p t + ps_d P t) (1 * nI (ps_w P (t * 2))) (1 * nI (ps_w P (t * 2 + 1)))) : xs_N P (t :: p) (fp ||| ((1 : Int32) <<< (nI t &&& 31))) (upd st t (nI (ps_er P (ps_st P p) p t))) u1 := by
  have ht := hc.1
  have hn := hk.1
  refine ⟨fun i hi => ?_, fun i hi => ?_, fun x hx => ?_⟩
  · rw [ib_set fp t (by omega) hi, h.1 i hi]
    by_cases e : i = t
    · subst e; simp
    · simp [e]
  · by_cases e : i = t
    · subst e
      rw [pk_us, ps_st_h]
    · rw [pk_un e, ps_st_n P p e]
      exact h.2.1 i ((List.mem_cons.mp hi).elim (fun y => absurd y e) id)
  · have h1 := h.2.2 x hx
    have h2 := hO x hx
    rw [ps_us_c hc, ps_us_c hc, h2.1, h2.2, h1.1, h1.2]
    by_cases e : ps_er P (ps_st P p) p t ≤ x ∧ x < ps_er P (ps_st P p) p t + ps_d P t
    · rw [if_pos e, if_pos e, if_pos e, if_pos e, xs_1m, xs_1m]
      exact ⟨rfl, rfl⟩
    · rw [if_neg e, if_neg e, if_neg e, if_neg e]
      exact ⟨rfl, rfl⟩
theorem xs_N_pop {P : ps_I} {p : List Nat} {fp : Int32} {st us u1 : Nat → Int32} {t : Nat} (hk : ps_ok P) (h : xs_N P (t :: p) fp st us) (hc : ps_cd P p t) (hO : xs_O us u1 (ps_er P (ps_st P p) p t) (ps_er P (ps_st P p) p t + ps_d P t) ((-1) * nI (ps_w P (t * 2))) ((-1) * nI (ps_w P (t * 2 + 1)))) : xs_N P p (fp &&& (((1 : Int32) <<< (nI t &&& 31)) ^^^ (-1))) st u1 := by
  have ht := hc.1
  have hn := hk.1
  refine ⟨fun i hi => ?_, fun i hi => ?_, fun x hx => ?_⟩
  · rw [ib_clr fp t (by omega) hi, h.1 i hi]
    by_cases e : i = t
    · subst e
      rw [decide_eq_false hc.2.1]
      simp
    · simp [e]
  · have e : i ≠ t := fun z => hc.2.1 (z ▸ hi)
    rw [h.2.1 i (List.mem_cons_of_mem _ hi), ps_st_n P p e]
  · have h1 := h.2.2 x hx
    have h2 := hO x hx
    rw [ps_us_c hc, ps_us_c hc] at h1
    rw [h2.1, h2.2, h1.1, h1.2]
    by_cases e : ps_er P (ps_st P p) p t ≤ x ∧ x < ps_er P (ps_st P p) p t + ps_d P t
    · rw [if_pos e, if_pos e, if_pos e, if_pos e]
      exact ⟨xs_m1m _ _, xs_m1m _ _⟩
    · rw [if_neg e, if_neg e, if_neg e, if_neg e]
      exact ⟨rfl, rfl⟩
section
variable {P : ps_I} {p : List Nat} {ft fp fl fa fb : Int32} {ad an ar au ab ac pa st us tt tl : Nat → Int32}
theorem xs_occ_7 {post : SX → Prop} {s : Int32} (hk : ps_ok P) {t a : Nat} (ht : t < ps_n P) (hst : st t = nI a) (ha : a + ps_d P t ≤ 128) (h : ∀ u1, xs_O us u1 a (a + ps_d P t) (s * nI (ps_w P (t * 2))) (s * nI (ps_w P (t * 2 + 1))) → post ((nI (ps_n P)), fp, fl, fa, fb, (xs_D P), (xs_W P), (xs_R P), (xs_U P), (ps_f P), (xs_C P), pa, st, u1, tt, tl)) : ∀ k x m u1, x + k = a + ps_d P t → k < m → a ≤ x → xs_O us u1 a x (s * nI (ps_w P (t * 2))) (s * nI (ps_w P (t * 2 + 1))) → wX_occupy_7 post (nI t) s (nI (ps_n P)) fp fl fa fb m (nI x) (xs_D P) (xs_W P) (xs_R P) (xs_U P) (ps_f P) (xs_C P) pa st u1 tt tl := by
  have hn := hk.1
  have e2 : nI t * 2 = nI (t * 2) := pk_mul t 2
  have e21 : nI t * 2 + 1 = nI (t * 2 + 1) := by rw [e2]; exact nI_1 _
  have ev : st t + xs_D P t = nI (a + ps_d P t) := by rw [hst]; exact nI_add _ _
  intro k
  induction k with
  | zero =>
    intro x m u1 hx hm hax hO
    obtain ⟨m, rfl, _⟩ := xb_sc hm
    have e : x = a + ps_d P t := by omega
    subst e
    rw [wX_occupy_7]
    refine xs_endOf (t := t) (us := u1) (by omega) ?_
    try dsimp only
    rw [ev]
    exact br_t (nI_le (Nat.le_refl _) (by omega)) (h u1 hO)
  | succ k ih =>
    intro x m u1 hx hm hax hO
    obtain ⟨m, rfl, hm'⟩ := xb_sc hm
    have e128 : 128 + nI x = nI (128 + x) := nI_add 128 x
    have hin : vp_in (nI x) 256 := vp_in_nI (by omega) (by omega)
    have hin2 : vp_in (128 + nI x) 256 := pk_in (128 + x) 256 (by omega) e128
    have y0 : upd u1 (nI x).toNatClampNeg (u1 (nI x).toNatClampNeg + s * xs_W P (nI t * 2).toNatClampNeg) = upd u1 x (u1 x + s * nI (ps_w P (t * 2))) := by
      rw [e2, nI_clamp (by omega), nI_clamp (by omega)]; rfl
    have y1 : upd (upd u1 x (u1 x + s * nI (ps_w P (t * 2)))) (128 + nI x).toNatClampNeg ((upd u1 x (u1 x + s * nI (ps_w P (t * 2)))) (128 + nI x).toNatClampNeg + s * xs_W P (nI t * 2 + 1).toNatClampNeg) = upd (upd u1 x (u1 x + s * nI (ps_w P (t * 2)))) (128 + x) ((upd u1 x (u1 x + s * nI (ps_w P (t * 2)))) (128 + x) + s * nI (ps_w P (t * 2 + 1))) := by
      rw [e21, e128, nI_clamp (by omega), nI_clamp (by omega)]; rfl
    rw [wX_occupy_7]
    refine xs_endOf (t := t) (us := u1) (by omega) ?_
    try dsimp only
    rw [ev]
    refine br_f (nI_ge (by omega) (by omega)) ⟨hin, pk_in (t * 2) 12 (by omega) e2, hin, nm_r y0 ⟨hin2, pk_in (t * 2 + 1) 12 (by omega) e21, hin2, nm_r y1 (nm_r (nI_1 x) ?_)⟩⟩
    exact ih (x + 1) m _ (by omega) (by omega) (by omega) (xs_O_s hO hax (by omega))
theorem xs_occupy {post : SX → Prop} {s : Int32} (hk : ps_ok P) {t a : Nat} (ht : t < ps_n P) (hst : st t = nI a) (ha : a + ps_d P t ≤ 128) (h : ∀ u1, xs_O us u1 a (a + ps_d P t) (s * nI (ps_w P (t * 2))) (s * nI (ps_w P (t * 2 + 1))) → post ((nI (ps_n P)), fp, fl, fa, fb, (xs_D P), (xs_W P), (xs_R P), (xs_U P), (ps_f P), (xs_C P), pa, st, u1, tt, tl)) : wpX_occupy post ((nI (ps_n P)), fp, fl, fa, fb, (xs_D P), (xs_W P), (xs_R P), (xs_U P), (ps_f P), (xs_C P), pa, st, us, tt, tl) (nI t) s := by
  have hn := hk.1
  have e : st (nI t).toNatClampNeg = nI a := by rw [nI_clamp (by omega)]; exact hst
  exact And.intro (vp_in_nI (by omega) (by omega)) (nm_r e ⟨ps_d P t + 1, xs_occ_7 hk ht hst ha h (ps_d P t) a (ps_d P t + 1) us rfl (by omega) (Nat.le_refl _) (xs_O_0 us a _ _)⟩)
theorem xs_place_27 {post : SX → Prop} (hk : ps_ok P) (hf : ps_fe P) {t : Nat} (hv : ps_vl P p) (hc : ps_cd P p t) (hN : xs_N P p fp st us) (h : ∀ fp' st' us', xs_N P (t :: p) fp' st' us' → post ((nI (ps_n P)), fp', (nI p.length), fa, fb, (xs_D P), (xs_W P), (xs_R P), (xs_U P), (ps_f P), (xs_C P), (upd pa p.length (nI t)), st', us', tt, tl)) : wX_place_27 post (nI t) (nI (ps_er P (ps_st P p) p t)) (nI (ps_n P)) fp (nI p.length) fa fb (xs_D P) (xs_W P) (xs_R P) (xs_U P) (ps_f P) (xs_C P) pa st us tt tl := by
  have hn := hk.1
  have ht := hc.1
  have hl := ps_cd_len hv hc
  have he := ps_er_ub hk hf hv ht
  have hd := (hk.2.1 t ht).2.1
  have e : upd st (nI t).toNatClampNeg (nI (ps_er P (ps_st P p) p t)) = upd st t (nI (ps_er P (ps_st P p) p t)) := by rw [nI_clamp (by omega)]
  refine And.intro (vp_in_nI (by omega) (by omega)) (nm_r e (xs_occupy (a := ps_er P (ps_st P p) p t) hk ht pk_us (by omega) (fun u1 hO => ?_)))
  try dsimp only
  have e3 : upd pa (nI p.length).toNatClampNeg (nI t) = upd pa p.length (nI t) := by rw [nI_clamp (by omega)]
  exact nm_e ⟨vp_in_nI (by omega) (by omega), nm_r e3 (h _ _ _ (xs_N_push hk hN hc hO))⟩
theorem xs_place_6 {post : SX → Prop} (hk : ps_ok P) (hf : ps_fe P) {t : Nat} (hv : ps_vl P p) (hc : ps_cd P p t) (hN : xs_N P p fp st us) (h : ∀ fp' st' us', xs_N P (t :: p) fp' st' us' → post ((nI (ps_n P)), fp', (nI p.length), fa, fb, (xs_D P), (xs_W P), (xs_R P), (xs_U P), (ps_f P), (xs_C P), (upd pa p.length (nI t)), st', us', tt, tl)) : ∀ k x m, x + k = ps_er P (ps_st P p) p t → k < m → ps_rd P (ps_st P p) p t ≤ x → wX_place_6 post (nI t) (nI (ps_n P)) fp (nI p.length) fa fb (xs_D P) (xs_W P) (xs_R P) (xs_U P) (ps_f P) (xs_C P) pa st us tt tl m (nI x) := by
  have hn := hk.1
  have ht := hc.1
  have hl := ps_cd_len hv hc
  have he := ps_er_ub hk hf hv ht
  have hd := (hk.2.1 t ht).2.1
  have hok := ps_er_ok hk hf hv ht
  have hcc := hk.2.2
  have hU : ∀ x, ps_us P (ps_st P p) p 0 x ≤ 1000 ∧ ps_us P (ps_st P p) p 1 x ≤ 1000 := fun x => by have := ps_us_le hk hf hv x; omega
  intro k
  induction k with
  | zero =>
    intro x m hx hm hr
    obtain ⟨m, rfl, _⟩ := xb_sc hm
    have e : x = ps_er P (ps_st P p) p t := by omega
    subst e
    refine br_f (nI_ge (b := 90) (by omega) (by decide)) (xs_fits hk ht (by omega) hN.2.2 hU (fun _ => ?_) (fun z => ?_))
    · exact br_f (by decide) (xs_place_27 hk hf hv hc hN h)
    · rw [hok] at z; cases z
  | succ k ih =>
    intro x m hx hm hr
    obtain ⟨m, rfl, hm'⟩ := xb_sc hm
    refine br_f (nI_ge (b := 90) (by omega) (by decide)) (xs_fits hk ht (by omega) hN.2.2 hU (fun z => ?_) (fun _ => ?_))
    · have h1 : ps_er P (ps_st P p) p t ≤ x := ps_fn_le z 100 _ hr
      omega
    · exact br_t rfl (nm_r (nI_1 x) (ih (x + 1) m (by omega) (by omega) (by omega)))
theorem xs_place {post : SX → Prop} (hk : ps_ok P) (hf : ps_fe P) {t : Nat} (hv : ps_vl P p) (hc : ps_cd P p t) (hN : xs_N P p fp st us) (h : ∀ fp' st' us', xs_N P (t :: p) fp' st' us' → post ((nI (ps_n P)), fp', (nI p.length), fa, fb, (xs_D P), (xs_W P), (xs_R P), (xs_U P), (ps_f P), (xs_C P), (upd pa p.length (nI t)), st', us', tt, tl)) : wpX_place post ((nI (ps_n P)), fp, (nI p.length), fa, fb, (xs_D P), (xs_W P), (xs_R P), (xs_U P), (ps_f P), (xs_C P), pa, st, us, tt, tl) (nI t) := by
  have hn := hk.1
  have hl := ps_cd_len hv hc
  refine xs_ready (S := ps_st P p) hk hc.1 hN.1 hN.2.1 (fun i hi => by have := ps_end_ub hk hf hv i hi; omega) ?_
  have h1 := ps_er_ge (P := P) (ps_st P p) p t
  exact ⟨100000, xs_place_6 hk hf hv hc hN h (ps_er P (ps_st P p) p t - ps_rd P (ps_st P p) p t) _ 100000 (by omega) (by have := ps_er_ub hk hf hv hc.1; omega) (Nat.le_refl _)⟩
theorem xs_takeBack {post : SX → Prop} (hk : ps_ok P) (hf : ps_fe P) {t : Nat} (hv : ps_vl P p) (hc : ps_cd P p t) (hN : xs_N P (t :: p) fp st us) (hpa : pa p.length = nI t) (h : ∀ fp' us', xs_N P p fp' st us' → post ((nI (ps_n P)), fp', (nI p.length), fa, fb, (xs_D P), (xs_W P), (xs_R P), (xs_U P), (ps_f P), (xs_C P), pa, st, us', tt, tl)) : wpX_takeBack post ((nI (ps_n P)), fp, (nI p.length), fa, fb, (xs_D P), (xs_W P), (xs_R P), (xs_U P), (ps_f P), (xs_C P), pa, st, us, tt, tl) := by
  have hn := hk.1
  have ht := hc.1
  have hl := ps_cd_len hv hc
  have he := ps_er_ub hk hf hv ht
  have hd := (hk.2.1 t ht).2.1
  have e : pa (nI p.length).toNatClampNeg = nI t := by rw [nI_clamp (by omega)]; exact hpa
  have hs : st t = nI (ps_er P (ps_st P p) p t) := by rw [hN.2.1 t List.mem_cons_self, ps_st_h]
  refine And.intro (vp_in_nI (by omega) (by omega)) (nm_r e (xs_occupy (a := ps_er P (ps_st P p) p t) hk ht hs (by omega) (fun u1 hO => ?_)))
  try dsimp only
  exact nm_e (h _ _ (xs_N_pop hk hN hc hO))
/-- tails from j on -/
def xs_TL (P : ps_I) (j : Nat) (tl : Nat → Int32) (g : Nat → Nat) : Prop := ∀ i, j ≤ i → i < ps_n P → tl i = nI (g i) ∧ g i ≤ 10 * (ps_n P - i) ∧ (g i ≤ ps_d P i ∨ ∃ x, x < ps_n P ∧ i < x ∧ ps_b P x i = true ∧ g i ≤ ps_d P i + g x)
/-- 0, or the tail of one behind t -/
def xs_Th (P : ps_I) (g : Nat → Nat) (t b : Nat) : Prop := b = 0 ∨ ∃ x, x < ps_n P ∧ t < x ∧ ps_b P x t = true ∧ b ≤ g x
theorem xs_tails_17 {post : SX → Prop} {J : Int32 → (Nat → Int32) → (Nat → Int32) → (Nat → Int32) → (Nat → Int32) → (Nat → Int32) → (Nat → Int32) → (Nat → Int32) → (Nat → Int32) → (Nat → Int32) → (Nat → Int32) → (Nat → Int32) → Prop} (hk : ps_ok P) {t : Nat} {g : Nat → Nat} (ht : t < ps_n P) (hT : xs_TL P (t + 1) tl g) (h : ∀ tl' g', xs_TL P t tl' g' → J (nI t + (-1)) (xs_D P) (xs_W P) (xs_R P) (xs_U P) (ps_f P) (xs_C P) pa st us tt tl') : ∀ k i m b, i + k = ps_n P → t < i → k < m → b ≤ 10 * (ps_n P - t - 1) → xs_Th P g t b → wX_findTails_17 post J (nI t) (nI (ps_n P)) fp fl fa fb (xs_D P) (xs_W P) (xs_R P) (xs_U P) (ps_f P) (xs_C P) pa st us tt tl m (nI b) (nI i) := by
  have hn := hk.1
  have hd := (hk.2.1 t ht).2.1
  intro k
  induction k with
  | zero =>
    intro i m b hi hti hm hb hx
    obtain ⟨m, rfl, _⟩ := xb_sc hm
    have e : upd tl (nI t).toNatClampNeg (xs_D P (nI t).toNatClampNeg + nI b) = upd tl t (nI (ps_d P t + b)) := by
      rw [nI_clamp (by omega)]
      show upd tl t (nI (ps_d P t) + nI b) = _
      rw [nI_add]
    refine br_t (nI_le (by omega) (by omega)) ⟨vp_in_nI (by omega) (by omega), vp_in_nI (by omega) (by omega), nm_r e (nm_e (h _ (fun j => if j = t then ps_d P t + b else g j) ?_))⟩
    intro j hj hjn
    by_cases e : j = t
    · subst e
      rw [pk_us]
      try dsimp only
      rw [if_pos rfl]
      refine ⟨rfl, by omega, ?_⟩
      rcases hx with z | ⟨x, h1, h2, h3, h4⟩
      · exact Or.inl (by omega)
      · refine Or.inr ⟨x, h1, h2, h3, ?_⟩
        rw [if_neg (by omega)]
        omega
    · rw [pk_un e]
      try dsimp only
      rw [if_neg e]
      obtain ⟨h1, h2, h3⟩ := hT j (by omega) hjn
      refine ⟨h1, h2, ?_⟩
      rcases h3 with z | ⟨x, a1, a2, a3, a4⟩
      · exact Or.inl z
      · refine Or.inr ⟨x, a1, a2, a3, ?_⟩
        rw [if_neg (by omega)]
        exact a4
  | succ k ih =>
    intro i m b hi hti hm hb hx
    obtain ⟨m, rfl, hm'⟩ := xb_sc hm
    obtain ⟨h1, h2, _⟩ := hT i (by omega) (by omega)
    have hgb : g i ≤ 10 * (ps_n P - t - 1) := by omega
    have hgs : g i < 2 ^ 31 := by omega
    have hbs : b < 2 ^ 31 := by omega
    have hbit : ((ps_f P (nI i).toNatClampNeg >>> (nI t &&& 31)) &&& 1) = 1 ↔ ps_b P i t = true := by
      rw [nI_clamp (by omega), ib_tst1 _ (by omega)]
      exact Iff.rfl
    have et : tl (nI i).toNatClampNeg = nI (g i) := by rw [nI_clamp (by omega)]; exact h1
    have hin : vp_in (nI i) 6 := vp_in_nI (by omega) (by omega)
    refine br_f (nI_ge (by omega) (by omega)) ⟨hin, xb_if hbit (fun c => ⟨hin, ?_⟩) (fun c => nm_r (nI_1 i) (ih (i + 1) m b (by omega) (by omega) (by omega) hb hx))⟩
    refine pk_le (g i) b (fun z => nm_r (nI_1 i) (ih (i + 1) m b (by omega) (by omega) (by omega) hb hx)) (fun z => ⟨hin, nm_r et (nm_r (nI_1 i) (ih (i + 1) m (g i) (by omega) (by omega) (by omega) hgb (Or.inr ⟨i, by omega, hti, c, Nat.le_refl _⟩)))⟩) et rfl hgs hbs
theorem xs_tails_7 {post : SX → Prop} (hk : ps_ok P) (h : ∀ tl' g, xs_TL P 0 tl' g → post ((nI (ps_n P)), fp, fl, fa, fb, (xs_D P), (xs_W P), (xs_R P), (xs_U P), (ps_f P), (xs_C P), pa, st, us, tt, tl')) : ∀ j m tl g, j ≤ ps_n P → j < m → xs_TL P j tl g → wX_findTails_7 post (nI (ps_n P)) fp fl fa fb m (nI j + (-1)) (xs_D P) (xs_W P) (xs_R P) (xs_U P) (ps_f P) (xs_C P) pa st us tt tl := by
  have hn := hk.1
  intro j
  induction j with
  | zero =>
    intro m tl g hj hm hT
    obtain ⟨m, rfl, _⟩ := xb_sc hm
    exact br_t (by decide) (h tl g hT)
  | succ t ih =>
    intro m tl g hj hm hT
    obtain ⟨m, rfl, hm'⟩ := xb_sc hm
    rw [pk_m1]
    refine br_f (nI_pos (by omega)) (nm_r (nI_1 t) ⟨ps_n P + 1, ?_⟩)
    exact xs_tails_17 hk (by omega) hT (fun tl' g' hT' => ih m tl' g' (by omega) (by omega) hT') (ps_n P - (t + 1)) (t + 1) (ps_n P + 1) 0 (by omega) (by omega) (by omega) (by omega) (Or.inl rfl)
theorem xs_findTails {post : SX → Prop} (hk : ps_ok P) (h : ∀ tl' g, (∀ i, i < ps_n P → tl' i = nI (g i)) → ps_tl P g → post ((nI (ps_n P)), fp, fl, fa, fb, (xs_D P), (xs_W P), (xs_R P), (xs_U P), (ps_f P), (xs_C P), pa, st, us, tt, tl')) : wpX_findTails post ((nI (ps_n P)), fp, fl, fa, fb, (xs_D P), (xs_W P), (xs_R P), (xs_U P), (ps_f P), (xs_C P), pa, st, us, tt, tl) := by
  have hn := hk.1
  refine nm_r (Int32.sub_eq_add_neg (nI (ps_n P)) 1) ⟨ps_n P + 1, xs_tails_7 hk (fun tl' g hT => h tl' g (fun i hi => (hT i (Nat.zero_le _) hi).1) (fun i hi => ?_)) (ps_n P) (ps_n P + 1) tl (fun _ => 0) (Nat.le_refl _) (by omega) (fun i h1 h2 => by omega)⟩
  obtain ⟨h1, h2, h3⟩ := hT i (Nat.zero_le _) hi
  exact ⟨by omega, h3⟩
end
end
section
/-! X's walk: bounds, settled, enter -/
section
variable {P : ps_I} {p : List Nat} {ft fp fl fa fb : Int32} {ad an ar au ab ac pa st us tt tl : Nat → Int32}
theorem xs_work_70 {post : Int32 → Prop} {J : Int32 → Int32 → Prop} {b i w c : Nat} {z : Int32} (ez : z = nI c) (hc : 1 ≤ c) (hc2 : c ≤ 1000) (hw : w ≤ 100000) (hb : b < 2147483648) (h : J (nI (if b < (w + c - 1) / c then (w + c - 1) / c else b)) (nI (i + 1))) : wX_workBound_70 post J (nI b) (nI i) (nI w) z (nI (ps_n P)) fp fl fa fb (xs_D P) (xs_W P) (xs_R P) (xs_U P) (ps_f P) (xs_C P) pa st us tt tl := by
  subst ez
  have e : (nI w + nI c - 1) / nI c = nI ((w + c - 1) / c) := by
    rw [nI_add, show (1 : Int32) = nI 1 from rfl, pk_sub (by omega), pk_div (by omega) (by omega) (by omega)]
  have hd : (w + c - 1) / c ≤ w + c - 1 := Nat.div_le_self _ _
  refine And.intro (nI_ne0 (by omega) (by omega)) (nm_r e ?_)
  refine pk_le ((w + c - 1) / c) b (fun y => ?_) (fun y => ?_) rfl rfl (by omega) (by omega)
  · rw [if_neg (by omega)] at h
    exact nm_r (nI_1 i) h
  · rw [if_pos (by omega)] at h
    exact nm_r (nI_1 i) h
theorem xs_work_14 {post : Int32 → Prop} {J : Int32 → Int32 → Prop} (hk : ps_ok P) {b m : Nat} (hm2 : m < 2) (hb : b ≤ 1000) (h : J (nI (if b < ps_wq P m then ps_wq P m else b)) (nI (m + 1))) : ∀ k i f, i + k = ps_n P → k < f → wX_workBound_14 post J (nI b) (nI m) (nI (ps_n P)) fp fl fa fb (xs_D P) (xs_W P) (xs_R P) (xs_U P) (ps_f P) (xs_C P) pa st us tt tl f (nI (ps_sm (fun t => ps_d P t * ps_w P (t * 2 + m)) i)) (nI i) := by
  have hn := hk.1
  have hcm : 1 ≤ ps_c P m ∧ ps_c P m ≤ 100 := by
    have h2 : m = 0 ∨ m = 1 := by omega
    rcases h2 with e | e
    · subst e; exact ⟨hk.2.2.1, hk.2.2.2.1⟩
    · subst e; exact ⟨hk.2.2.2.2.1, hk.2.2.2.2.2⟩
  have hwk : ps_wk P m ≤ 240 := by
    have h2 : m = 0 ∨ m = 1 := by omega
    rcases h2 with e | e
    · subst e; exact (ps_wk_ub hk).1
    · subst e; exact (ps_wk_ub hk).2
  intro k
  induction k with
  | zero =>
    intro i f hi hf
    obtain ⟨f, rfl, _⟩ := xb_sc hf
    have e : i = ps_n P := by omega
    subst e
    have ec : xs_C P (nI m).toNatClampNeg = nI (ps_c P m) := by rw [nI_clamp (by omega)]; rfl
    have hin : vp_in (nI m) 2 := vp_in_nI hm2 (by omega)
    refine br_t (nI_le (Nat.le_refl _) (by omega)) ⟨hin, br_f ?_ ⟨hin, ?_⟩⟩
    · rw [ec]
      exact nI_nle (by omega) (by omega)
    · exact xs_work_70 ec hcm.1 (by omega) (Nat.le_trans hwk (by omega)) (by omega) h
  | succ k ih =>
    intro i f hi hf
    obtain ⟨f, rfl, hf'⟩ := xb_sc hf
    have e2 : nI i * 2 + nI m = nI (i * 2 + m) := by
      rw [show nI i * 2 = nI (i * 2) from pk_mul i 2]; exact nI_add _ _
    have ev : nI (ps_sm (fun t => ps_d P t * ps_w P (t * 2 + m)) i) + xs_D P (nI i).toNatClampNeg * xs_W P (nI i * 2 + nI m).toNatClampNeg = nI (ps_sm (fun t => ps_d P t * ps_w P (t * 2 + m)) (i + 1)) := by
      rw [e2, nI_clamp (by omega), nI_clamp (by omega)]
      show _ + nI (ps_d P i) * nI (ps_w P (i * 2 + m)) = _
      rw [pk_mul, nI_add]
      rfl
    exact br_f (nI_ge (by omega) (by omega)) ⟨vp_in_nI (by omega) (by omega), pk_in (i * 2 + m) 12 (by omega) e2, nm_r ev (nm_r (nI_1 i) (ih (i + 1) f (by omega) (by omega)))⟩
theorem xs_work_4 {post : Int32 → Prop} (hk : ps_ok P) (h : post (nI (ps_wbA P))) : ∀ k m f, m + k = 2 → k < f → wX_workBound_4 post (nI (ps_n P)) fp fl fa fb (xs_D P) (xs_W P) (xs_R P) (xs_U P) (ps_f P) (xs_C P) pa st us tt tl f (nI (ps_mx 0 (fun _ => true) (ps_wq P) m)) (nI m) := by
  have hn := hk.1
  intro k
  induction k with
  | zero =>
    intro m f hm hf
    obtain ⟨f, rfl, _⟩ := xb_sc hf
    have e : m = 2 := by omega
    subst e
    exact br_t (by decide) h
  | succ k ih =>
    intro m f hm hf
    obtain ⟨f, rfl, hf'⟩ := xb_sc hf
    have hb : ps_mx 0 (fun _ => true) (ps_wq P) m ≤ 1000 := ps_mx_ub (by omega) m (fun i hi _ => by have := ps_wq_ub hk (m := i) (by omega); omega)
    refine br_f (nI_ge (b := 2) (by omega) (by decide)) ⟨ps_n P + 1, xs_work_14 hk (by omega) hb ?_ (ps_n P) 0 (ps_n P + 1) (by omega) (by omega)⟩
    have I := ih (m + 1) f (by omega) (by omega)
    rw [ps_mx_s] at I
    by_cases e : ps_mx 0 (fun _ => true) (ps_wq P) m < ps_wq P m
    · rw [if_pos e]
      rw [if_pos ⟨rfl, e⟩] at I
      exact I
    · rw [if_neg e]
      rw [if_neg (fun z => e z.2)] at I
      exact I
theorem xs_workBound {post : Int32 → Prop} (hk : ps_ok P) (h : post (nI (ps_wbA P))) : wpX_workBound post ((nI (ps_n P)), fp, fl, fa, fb, (xs_D P), (xs_W P), (xs_R P), (xs_U P), (ps_f P), (xs_C P), pa, st, us, tt, tl) :=
  Exists.intro 3 (xs_work_4 hk h 2 0 3 rfl (by omega))
theorem xs_len_4 {post : Int32 → Prop} (hk : ps_ok P) (hf : ps_fe P) (hv : ps_vl P p) (hN : xs_N P p fp st us) {g : Nat → Nat} (hT : ps_tl P g) (hg : ∀ i, i < ps_n P → tl i = nI (g i)) (h : post (nI (ps_lb P g p))) : ∀ k i m, i + k = ps_n P → k < m → wX_lengthBound_4 post (nI (ps_n P)) fp fl fa fb (xs_D P) (xs_W P) (xs_R P) (xs_U P) (ps_f P) (xs_C P) pa st us tt tl m (nI (ps_mx 0 (fun _ => true) (ps_el P g p) i)) (nI i) := by
  have hn := hk.1
  have hl := ps_vl_len hv
  have hM : ∀ i, i ≤ ps_n P → ps_mx 0 (fun _ => true) (ps_el P g p) i ≤ 140 := fun i hi => ps_mx_ub (by omega) i (fun j hj _ => ps_el_ub hk hf hv (by omega) (hT j (by omega)).1)
  have hS : ∀ i, i ∈ p → ps_st P p i + ps_d P i ≤ 1000 := fun i hi => by have := ps_end_ub hk hf hv i hi; omega
  intro k
  induction k with
  | zero =>
    intro i m hi hm
    obtain ⟨m, rfl, _⟩ := xb_sc hm
    have e : i = ps_n P := by omega
    subst e
    have hM1 := hM _ (Nat.le_refl (ps_n P))
    have hW : ps_wbA P ≤ 240 := ps_mx_ub (by omega) 2 (fun i hi _ => ps_wq_ub hk hi)
    refine br_t (nI_le (Nat.le_refl _) (by omega)) (xs_workBound hk ?_)
    try dsimp only
    unfold ps_lb at h
    refine pk_le _ _ (fun z => ?_) (fun z => ?_)
    · have z' : ps_lbA P g p ≤ ps_wbA P := z
      rw [if_pos z'] at h; exact h
    · have z' : ¬ ps_lbA P g p ≤ ps_wbA P := Nat.not_le.mpr z
      rw [if_neg z'] at h; exact h
  | succ k ih =>
    intro i m hi hm
    obtain ⟨m, rfl, hm'⟩ := xb_sc hm
    have I := ih (i + 1) m (by omega) (by omega)
    rw [ps_mx_s] at I
    have hM1 := hM i (by omega)
    have hE := ps_el_ub hk hf hv (t := i) (by omega) (hT i (by omega)).1
    have hJ : wX_lengthBound_40 post (wX_lengthBound_4 post (nI (ps_n P)) fp fl fa fb (xs_D P) (xs_W P) (xs_R P) (xs_U P) (ps_f P) (xs_C P) pa st us tt tl m) (nI (ps_mx 0 (fun _ => true) (ps_el P g p) i)) (nI i) (nI (ps_el P g p i)) (nI (ps_n P)) fp fl fa fb (xs_D P) (xs_W P) (xs_R P) (xs_U P) (ps_f P) (xs_C P) pa st us tt tl := by
      refine pk_le (ps_el P g p i) (ps_mx 0 (fun _ => true) (ps_el P g p) i) (fun z => ?_) (fun z => ?_) rfl rfl (by omega) (by omega)
      · rw [if_neg (fun y => by omega)] at I
        exact nm_r (nI_1 i) I
      · rw [if_pos ⟨rfl, z⟩] at I
        exact nm_r (nI_1 i) I
    refine br_f (nI_ge (by omega) (by omega)) (xs_isPlaced (by omega) hN.1 (fun c => ?_) (fun c => ?_))
    · refine br_f (by decide) (xs_endOf (by omega) ?_)
      have ev : st i + xs_D P i = nI (ps_el P g p i) := by
        rw [hN.2.1 i c]
        unfold ps_el
        rw [if_pos c]
        exact nI_add _ _
      rw [ev]
      exact hJ
    · refine br_t rfl (xs_ready (S := ps_st P p) hk (by omega) hN.1 hN.2.1 hS ⟨vp_in_nI (by omega) (by omega), ?_⟩)
      have ev : nI (ps_rd P (ps_st P p) p i) + tl (nI i).toNatClampNeg = nI (ps_el P g p i) := by
        rw [nI_clamp (by omega), hg i (by omega)]
        unfold ps_el
        rw [if_neg c]
        exact nI_add _ _
      rw [ev]
      exact hJ
theorem xs_lengthBound {post : Int32 → Prop} (hk : ps_ok P) (hf : ps_fe P) (hv : ps_vl P p) (hN : xs_N P p fp st us) {g : Nat → Nat} (hT : ps_tl P g) (hg : ∀ i, i < ps_n P → tl i = nI (g i)) (h : post (nI (ps_lb P g p))) : wpX_lengthBound post ((nI (ps_n P)), fp, fl, fa, fb, (xs_D P), (xs_W P), (xs_R P), (xs_U P), (ps_f P), (xs_C P), pa, st, us, tt, tl) :=
  Exists.intro (ps_n P + 1) (xs_len_4 hk hf hv hN hT hg h (ps_n P) 0 (ps_n P + 1) (by omega) (by omega))
theorem xs_late_5 {post : Int32 → Prop} (hk : ps_ok P) (hf : ps_fe P) (hv : ps_vl P p) (hN : xs_N P p fp st us) (h : post (iI (ps_la P p))) : ∀ k i m, i + k = ps_n P → k < m → wX_latenessBound_5 post (nI (ps_n P)) fp fl fa fb (xs_D P) (xs_W P) (xs_R P) (xs_U P) (ps_f P) (xs_C P) pa st us tt tl m (iI (ps_mz (-100000) (fun t => (ps_el P (ps_d P) p t : Int) - (ps_u P t : Int)) i)) (nI i) := by
  have hn := hk.1
  have hl := ps_vl_len hv
  have hE : ∀ i, i < ps_n P → ps_el P (ps_d P) p i ≤ 140 := fun i hi => ps_el_ub hk hf hv hi (by have := (hk.2.1 i hi).2.1; omega)
  have hM : ∀ i, i ≤ ps_n P → ps_mz (-100000) (fun t => (ps_el P (ps_d P) p t : Int) - (ps_u P t : Int)) i ≤ 1000 := fun i hi => ps_mz_ub (by omega) i (fun j hj => by have := hE j (by omega); omega)
  have hS : ∀ i, i ∈ p → ps_st P p i + ps_d P i ≤ 1000 := fun i hi => by have := ps_end_ub hk hf hv i hi; omega
  intro k
  induction k with
  | zero =>
    intro i m hi hm
    obtain ⟨m, rfl, _⟩ := xb_sc hm
    have e : i = ps_n P := by omega
    subst e
    exact br_t (nI_le (Nat.le_refl _) (by omega)) h
  | succ k ih =>
    intro i m hi hm
    obtain ⟨m, rfl, hm'⟩ := xb_sc hm
    have I := ih (i + 1) m (by omega) (by omega)
    rw [ps_mz_s] at I
    have hM1 := hM i (by omega)
    have hM0 := ps_mz_b (b := -100000) (f := fun t => (ps_el P (ps_d P) p t : Int) - (ps_u P t : Int)) i
    have hE1 := hE i (by omega)
    have hu1 := (hk.2.1 i (by omega)).2.2.2.2.2.1
    have hin : vp_in (nI i) 6 := vp_in_nI (by omega) (by omega)
    have hJ : wX_latenessBound_41 post (wX_latenessBound_5 post (nI (ps_n P)) fp fl fa fb (xs_D P) (xs_W P) (xs_R P) (xs_U P) (ps_f P) (xs_C P) pa st us tt tl m) (iI (ps_mz (-100000) (fun t => (ps_el P (ps_d P) p t : Int) - (ps_u P t : Int)) i)) (nI i) (nI (ps_el P (ps_d P) p i)) (nI (ps_n P)) fp fl fa fb (xs_D P) (xs_W P) (xs_R P) (xs_U P) (ps_f P) (xs_C P) pa st us tt tl := by
      have ev : nI (ps_el P (ps_d P) p i) - xs_U P (nI i).toNatClampNeg = iI ((ps_el P (ps_d P) p i : Int) - (ps_u P i : Int)) := by
        rw [nI_clamp (by omega)]
        show nI _ - nI _ = _
        rw [iI_n (by omega), iI_n (by omega), iI_sub (by omega) (by omega) (by omega) (by omega)]
      refine And.intro hin ?_
      rw [ev]
      refine xb_if (iI_le (by omega) (by omega) (by omega) (by omega)) (fun z => ?_) (fun z => ⟨hin, nm_e ?_⟩)
      · rw [if_neg (by omega)] at I
        exact nm_r (nI_1 i) I
      · rw [if_pos (by omega)] at I
        exact nm_r (nI_1 i) I
    refine br_f (nI_ge (by omega) (by omega)) (xs_isPlaced (by omega) hN.1 (fun c => ?_) (fun c => ?_))
    · refine br_f (by decide) (xs_endOf (by omega) ?_)
      have ev : st i + xs_D P i = nI (ps_el P (ps_d P) p i) := by
        rw [hN.2.1 i c]
        unfold ps_el
        rw [if_pos c]
        exact nI_add _ _
      rw [ev]
      exact hJ
    · refine br_t rfl (xs_ready (S := ps_st P p) hk (by omega) hN.1 hN.2.1 hS ⟨hin, ?_⟩)
      have ev : nI (ps_rd P (ps_st P p) p i) + xs_D P (nI i).toNatClampNeg = nI (ps_el P (ps_d P) p i) := by
        rw [nI_clamp (by omega)]
        unfold ps_el
        rw [if_neg c]
        exact nI_add _ _
      rw [ev]
      exact hJ
theorem xs_latenessBound {post : Int32 → Prop} (hk : ps_ok P) (hf : ps_fe P) (hv : ps_vl P p) (hN : xs_N P p fp st us) (h : post (iI (ps_la P p))) : wpX_latenessBound post ((nI (ps_n P)), fp, fl, fa, fb, (xs_D P), (xs_W P), (xs_R P), (xs_U P), (ps_f P), (xs_C P), pa, st, us, tt, tl) :=
  Exists.intro (ps_n P + 1) (xs_late_5 hk hf hv hN h (ps_n P) 0 (ps_n P + 1) (by omega) (by omega))
/-- the aim as an int -/
def xs_A (am : Nat) : Int32 := if am = 0 then -1 else if am = 1 then -2 else nI (am - 2)
theorem xs_A0 : xs_A 0 = -1 := rfl
theorem xs_A1 : xs_A 1 = -2 := rfl
theorem xs_A2 (a : Nat) : xs_A (a + 2) = nI a := by
  unfold xs_A
  rw [if_neg (by omega), if_neg (by omega)]
  rfl
theorem xs_ne1 {a : Nat} (h : a < 2147483648) : ¬ nI a = -1 := by
  rw [show (-1 : Int32) = iI (-1) from by decide, iI_n h, iI_eq (by omega) (by omega) (by omega) (by omega)]
  omega
theorem xs_ne2 {a : Nat} (h : a < 2147483648) : ¬ nI a = -2 := by
  rw [show (-2 : Int32) = iI (-2) from by decide, iI_n h, iI_eq (by omega) (by omega) (by omega) (by omega)]
  omega
theorem xs_boundNow {post : Int32 → Prop} (hk : ps_ok P) (hf : ps_fe P) (hv : ps_vl P p) (hN : xs_N P p fp st us) {g : Nat → Nat} (hT : ps_tl P g) (hg : ∀ i, i < ps_n P → tl i = nI (g i)) {am : Nat} (ham : am < ps_n P + 2) (h : ∀ B, ps_bd P am p B → post (iI B)) : wpX_boundNow post ((nI (ps_n P)), fp, fl, (xs_A am), fb, (xs_D P), (xs_W P), (xs_R P), (xs_U P), (ps_f P), (xs_C P), pa, st, us, tt, tl) := by
  have hn := hk.1
  have hl := ps_vl_len hv
  have hcase : am = 0 ∨ am = 1 ∨ ∃ a, am = a + 2 := by
    rcases am with _ | _ | a
    · exact Or.inl rfl
    · exact Or.inr (Or.inl rfl)
    · exact Or.inr (Or.inr ⟨a, rfl⟩)
  rcases hcase with e | e | ⟨a, e⟩
  · subst e
    have hb := ps_bd_0 hk hf hT hv
    refine br_t xs_A0 (xs_lengthBound hk hf hv hN hT hg ?_)
    rw [iI_n (by have := hb.2.1; omega)]
    exact h _ hb
  · subst e
    exact br_f (by rw [xs_A1]; decide) (br_t xs_A1 (xs_latenessBound hk hf hv hN (h _ (ps_bd_1 hk hf hv))))
  · subst e
    have ha : a < ps_n P := by omega
    have hb := ps_bd_a hk hf ha hv
    have hE : ps_el P (ps_d P) p a ≤ 140 := ps_el_ub hk hf hv ha (by have := (hk.2.1 a ha).2.1; omega)
    have hS : ∀ i, i ∈ p → ps_st P p i + ps_d P i ≤ 1000 := fun i hi => by have := ps_end_ub hk hf hv i hi; omega
    have hp : post (nI (ps_el P (ps_d P) p a)) := by
      rw [iI_n (by omega)]
      exact h _ hb
    rw [xs_A2]
    refine br_f (xs_ne1 (by omega)) (br_f (xs_ne2 (by omega)) (xs_isPlaced (by omega) hN.1 (fun c => ?_) (fun c => ?_)))
    · refine br_f (by decide) (xs_endOf (by omega) ?_)
      have ev : st a + xs_D P a = nI (ps_el P (ps_d P) p a) := by
        rw [hN.2.1 a c]
        unfold ps_el
        rw [if_pos c]
        exact nI_add _ _
      rw [ev]
      exact hp
    · refine br_t rfl (xs_ready (S := ps_st P p) hk ha hN.1 hN.2.1 hS ⟨vp_in_nI (by omega) (by omega), ?_⟩)
      have ev : nI (ps_rd P (ps_st P p) p a) + xs_D P (nI a).toNatClampNeg = nI (ps_el P (ps_d P) p a) := by
        rw [nI_clamp (by omega)]
        unfold ps_el
        rw [if_neg c]
        exact nI_add _ _
      rw [ev]
      exact hp
theorem xs_settled {post : Int32 → Prop} (hk : ps_ok P) (hv : ps_vl P p) (hp : xs_B p fp) {am : Nat} (ham : am < ps_n P + 2) (h1 : ps_se P am p → post 1) (h0 : ¬ ps_se P am p → post 0) : wpX_settled post ((nI (ps_n P)), fp, (nI p.length), (xs_A am), fb, (xs_D P), (xs_W P), (xs_R P), (xs_U P), (ps_f P), (xs_C P), pa, st, us, tt, tl) := by
  have hn := hk.1
  have hl := ps_vl_len hv
  have hcase : am < 2 ∨ ∃ a, am = a + 2 := by
    rcases am with _ | _ | a
    · exact Or.inl (by omega)
    · exact Or.inl (by omega)
    · exact Or.inr ⟨a, rfl⟩
  rcases hcase with e | ⟨a, e⟩
  · have hs : ps_se P am p ↔ p.length = ps_n P := by unfold ps_se; rw [if_pos e]
    rw [hs] at h1 h0
    have hneg : xs_A am < 0 := by
      have : am = 0 ∨ am = 1 := by omega
      rcases this with z | z
      · subst z; decide
      · subst z; decide
    exact br_t hneg (xb_if (nI_eq (by omega) (by omega)) h1 h0)
  · subst e
    have hs : ps_se P (a + 2) p ↔ a ∈ p := by unfold ps_se; rw [if_neg (by omega)]; exact Iff.rfl
    rw [hs] at h1 h0
    rw [xs_A2]
    exact br_f (nI_pos (by omega)) (xs_isPlaced (by omega) hp (fun c => ⟨rfl, h1 c⟩) (fun c => ⟨rfl, h0 c⟩))
/-- what enter does at node p: given up or settled (best may fall), or opened -/
theorem xs_enter {post : Int32 → SX → Prop} (hk : ps_ok P) (hf : ps_fe P) (hv : ps_vl P p) (hN : xs_N P p fp st us) {g : Nat → Nat} (hT : ps_tl P g) (hg : ∀ i, i < ps_n P → tl i = nI (g i)) {am : Nat} (ham : am < ps_n P + 2) {b : Int} (hb : ps_b1 P am b)
    (h0 : ∀ b', b' ≤ b → ps_b1 P am b' → (∀ s, ps_fl P (s ++ p) → b' ≤ ps_wr P am (s ++ p)) → post 0 ((nI (ps_n P)), fp, (nI p.length), (xs_A am), (iI b'), (xs_D P), (xs_W P), (xs_R P), (xs_U P), (ps_f P), (xs_C P), pa, st, us, tt, tl))
    (h1 : ∀ x, ¬ p.length = ps_n P → xs_M P p 0 x → post 1 ((nI (ps_n P)), fp, (nI p.length), (xs_A am), (iI b), (xs_D P), (xs_W P), (xs_R P), (xs_U P), (ps_f P), (xs_C P), pa, st, us, (upd tt p.length x), tl)) : wpX_enter post ((nI (ps_n P)), fp, (nI p.length), (xs_A am), (iI b), (xs_D P), (xs_W P), (xs_R P), (xs_U P), (ps_f P), (xs_C P), pa, st, us, tt, tl) := by
  have hn := hk.1
  have hl := ps_vl_len hv
  refine xs_boundNow hk hf hv hN hT hg ham (fun B hB => ?_)
  try dsimp only
  obtain ⟨B1, B2, B3, B4⟩ := hB
  have hb1 := hb.1
  have hb2 := hb.2.1
  refine xb_if (iI_lt (by omega) (by omega) (by omega) (by omega)) (fun c => ?_) (fun c => ?_)
  · refine xs_settled hk hv hN.1 ham (fun z => ?_) (fun z => ?_)
    · refine br_f (by decide) (h0 B (by omega) ⟨by omega, by omega, Or.inr ?_⟩ B3)
      obtain ⟨s, hs⟩ := ps_ext' hk hv
      exact ⟨s ++ p, hs, B4 z s hs⟩
    · refine br_t rfl (xs_open hk hv hN.1 (fun x hx => ?_))
      have e : upd tt (nI p.length).toNatClampNeg x = upd tt p.length x := by rw [nI_clamp (by omega)]
      refine ⟨vp_in_nI (by omega) (by omega), nm_r e (h1 x (fun y => z ?_) hx)⟩
      unfold ps_se
      by_cases e2 : am < 2
      · rw [if_pos e2]; exact y
      · rw [if_neg e2]
        exact ps_full ⟨hv, y⟩ _ (by omega)
  · exact h0 b (Int.le_refl _) hb (fun s hs => by have := B3 s hs; omega)
end
end
section
/-! X's walk: the search -/
def xs_Kr (P : ps_I) (pa tt : Nat → Int32) : List Nat → Prop
  | [] => True
  | x :: p => pa p.length = nI x ∧ xs_M P p (x + 1) (tt p.length) ∧ xs_Kr P pa tt p
theorem xs_Kr_c {P : ps_I} {pa tt pa' tt' : Nat → Int32} : ∀ {p : List Nat}, (∀ i, i < p.length → pa' i = pa i ∧ tt' i = tt i) → xs_Kr P pa tt p → xs_Kr P pa' tt' p := by
  intro p
  induction p with
  | nil => intro _ _; trivial
  | cons x p ih =>
    intro h hK
    have h1 := h p.length (by rw [List.length_cons]; omega)
    refine ⟨by rw [h1.1]; exact hK.1, by rw [h1.2]; exact hK.2.1, ih (fun i hi => h i (by rw [List.length_cons]; omega)) hK.2.2⟩
theorem xs_M_none {P : ps_I} {p : List Nat} {nx : Nat} (hn : ps_n P ≤ 6) (h : xs_M P p nx 0) : ∀ i, nx ≤ i → ¬ ps_cd P p i := by
  intro i hi hc
  have h1 := hc.1
  have h2 := (h i (by omega)).mpr ⟨hi, hc⟩
  rw [b_0] at h2
  cases h2
theorem xs_M_some {P : ps_I} {p : List Nat} {nx : Nat} {x : Int32} (hn : ps_n P ≤ 6) (h : xs_M P p nx x) (h0 : ¬ x = 0) : ∃ t, nx ≤ t ∧ ps_cd P p t ∧ t < 6 ∧ bt x t = true ∧ (∀ i, i < t → bt x i = false) ∧ ∀ i, nx ≤ i → i < t → ¬ ps_cd P p i := by
  have h1 : ∃ i, i < 32 ∧ bt x i = true := by
    refine Classical.byContradiction (fun hne => h0 ((ib_eq0 x).mpr (fun i hi => ?_)))
    cases e : bt x i
    · rfl
    · exact absurd ⟨i, hi, e⟩ hne
  obtain ⟨t, ⟨ht, hb⟩, hm⟩ := pk_least (fun i => i < 32 ∧ bt x i = true) h1
  have hc := (h t ht).mp hb
  have hlt := hc.2.1
  have hz : ∀ i, i < t → bt x i = false := by
    intro i hi
    cases e : bt x i
    · rfl
    · exact absurd ⟨by omega, e⟩ (hm i hi)
  refine ⟨t, hc.1, hc.2, by omega, hb, hz, fun i h2 h3 h4 => ?_⟩
  have h5 := (h i (by omega)).mpr ⟨h2, h4⟩
  rw [hz i h3] at h5
  cases h5
theorem xs_M_clr {P : ps_I} {p : List Nat} {nx t : Nat} {x : Int32} (h : xs_M P p nx x) (hnx : nx ≤ t) (ht : t < 32) (hm : ∀ i, nx ≤ i → i < t → ¬ ps_cd P p i) : xs_M P p (t + 1) (x &&& (((1 : Int32) <<< (nI t &&& 31)) ^^^ (-1))) := by
  intro i hi
  rw [ib_clr x t ht hi, Bool.and_eq_true, h i hi]
  constructor
  · rintro ⟨⟨a, b⟩, c⟩
    have hne : i ≠ t := by
      intro e
      rw [decide_eq_true e] at c
      cases c
    refine ⟨?_, b⟩
    rcases Nat.lt_or_ge i t with z | z
    · exact absurd b (hm i a z)
    · omega
  · rintro ⟨a, b⟩
    refine ⟨⟨by omega, b⟩, ?_⟩
    rw [decide_eq_false (by omega)]
    rfl
section
variable {P : ps_I} {fa : Int32} {tl : Nat → Int32}
theorem xs_search_65 {post : Int32 → SX → Prop} (hk : ps_ok P) (hf : ps_fe P) {g : Nat → Nat} (hT : ps_tl P g) (hg : ∀ i, i < ps_n P → tl i = nI (g i)) {am : Nat} (ham : am < ps_n P + 2)
    (H : ∀ b fp fl pa st us tt, ps_ie P am b → post (iI b) ((nI (ps_n P)), fp, fl, (xs_A am), (iI b), (xs_D P), (xs_W P), (xs_R P), (xs_U P), (ps_f P), (xs_C P), pa, st, us, tt, tl)) : ∀ k x m nx p b fp pa st us tt, ps_R P nx p ≤ k → x + k ≤ 5990 → k + 2 ≤ m → ps_vl P p → xs_N P p fp st us → xs_M P p nx (tt p.length) → xs_Kr P pa tt p → ps_iv P am b nx p → wX_search_65 post m 1 (nI x) (nI (ps_n P)) fp (nI p.length) (xs_A am) (iI b) (xs_D P) (xs_W P) (xs_R P) (xs_U P) (ps_f P) (xs_C P) pa st us tt tl := by
  have hn := hk.1
  intro k
  induction k with
  | zero =>
    intro x m nx p b fp pa st us tt hR
    have := ps_R_b P nx p
    omega
  | succ k ih =>
    intro x m nx p b fp pa st us tt hR hx hm hv hN hM hK hI
    obtain ⟨m, rfl⟩ : ∃ m', m = m' + 1 := ⟨m - 1, by omega⟩
    have hl := ps_vl_len hv
    have hin : vp_in (nI p.length) 7 := vp_in_nI (by omega) (by omega)
    have ecl : (nI p.length).toNatClampNeg = p.length := nI_clamp (by omega)
    refine br_f (nI_ge (b := 6000) (by omega) (by decide)) (br_f (by decide) ⟨hin, ?_⟩)
    by_cases z : tt p.length = 0
    · refine br_t (by rw [ecl]; exact z) ?_
      have hnone := xs_M_none hn (z ▸ hM)
      cases p with
      | nil =>
        refine br_t rfl (nm_r (nI_1 x) ?_)
        obtain ⟨m, rfl⟩ : ∃ m', m = m' + 1 := ⟨m - 1, by omega⟩
        exact br_f (nI_ge (b := 6000) (by omega) (by decide)) (br_t rfl (H _ _ _ _ _ _ _ (ps_iv_end hI (Or.inl hnone))))
      | cons t p =>
        have hR2 := ps_R_b P nx (t :: p)
        rw [ps_Rr_c] at hR2
        rw [List.length_cons] at *
        refine br_f (nI_ne0 (by omega) (by omega)) (nm_r (nI_pred p.length) (xs_takeBack hk hf hv.2 hv.1 hN hK.1 (fun fp' us' hN' => ?_)))
        exact nm_r (nI_1 x) (ih (x + 1) m (t + 1) p b fp' pa st us' tt (by omega) (by omega) (by omega) hv.2 hN' hK.2.1 hK.2.2 (ps_iv_back hI (Or.inl hnone)))
    · refine br_f (by rw [ecl]; exact z) ⟨hin, ?_⟩
      rw [ecl]
      obtain ⟨t, htn, hc, ht6, hbt, hbl, hmin⟩ := xs_M_some hn hM z
      have hRs := ps_R_s hv hc htn
      have hlt := ps_cd_len hv hc
      have hv' : ps_vl P (t :: p) := ⟨hc, hv⟩
      have hM1 := xs_M_clr hM htn (by omega) hmin
      refine xs_lowest ht6 hbt hbl ⟨hin, hin, nm_e (xs_place hk hf hv hc hN (fun fp' st' us' hN' => nm_r (nI_1 p.length) ?_))⟩
      refine xs_enter (p := t :: p) hk hf hv' hN' hT hg ham hI.1 (fun b' hb' hb1 hq => ?_) (fun y hy hMy => ?_)
      · refine br_t rfl (nm_r (nI_pred p.length) (xs_takeBack hk hf hv hc hN' pk_us (fun fp2 us2 hN2 => nm_r (nI_1 x) ?_)))
        refine ih (x + 1) m (t + 1) p b' fp2 _ st' us2 _ (by omega) (by omega) (by omega) hv ?_ ?_ ?_ (ps_iv_skip hI hmin hb' hb1 hq)
        · exact hN2
        · rw [pk_us]; exact hM1
        · exact xs_Kr_c (fun i hi => ⟨pk_un (by omega), pk_un (by omega)⟩) hK
      · refine br_f (by decide) (nm_r (nI_1 x) ?_)
        have hy' : p.length + 1 < ps_n P := by rw [List.length_cons] at hy; omega
        refine ih (x + 1) m 0 (t :: p) b fp' _ st' us' _ (by omega) (by omega) (by omega) hv' hN' ?_ ?_ (ps_iv_open hI hmin hy')
        · rw [pk_us]; exact hMy
        · refine ⟨pk_us, ?_, ?_⟩
          · rw [pk_un (by rw [List.length_cons]; omega), pk_us]
            exact hM1
          · refine xs_Kr_c (fun i hi => ⟨pk_un (by omega), ?_⟩) hK
            rw [pk_un (by rw [List.length_cons]; omega), pk_un (by omega)]
theorem xs_N_0 {P : ps_I} {st us : Nat → Int32} (h : ∀ y, y < 256 → us y = 0) : xs_N P [] 0 st us := by
  refine ⟨fun i _ => ?_, fun i hi => absurd hi List.not_mem_nil, fun x hx => ?_⟩
  · rw [b_0]
    simp
  · rw [ps_us_0, ps_us_0, h x (by omega), h (128 + x) (by omega)]
    exact ⟨rfl, rfl⟩
theorem xs_search_34 {post : Int32 → SX → Prop} (hk : ps_ok P) (hf : ps_fe P) {am : Nat} (ham : am < ps_n P + 2)
    (H : ∀ b fp fl pa st us tt tl, ps_ie P am b → post (iI b) ((nI (ps_n P)), fp, fl, (xs_A am), (iI b), (xs_D P), (xs_W P), (xs_R P), (xs_U P), (ps_f P), (xs_C P), pa, st, us, tt, tl)) (pa st tt : Nat → Int32) : ∀ k x m us, x + k = 256 → k < m → (∀ y, y < x → us y = 0) → wX_search_34 post (nI (ps_n P)) 0 (nI ([] : List Nat).length) (xs_A am) (iI 100000) m (nI x) (xs_D P) (xs_W P) (xs_R P) (xs_U P) (ps_f P) (xs_C P) pa st us tt tl := by
  have hn := hk.1
  intro k
  induction k with
  | zero =>
    intro x m us hx hm hz
    obtain ⟨m, rfl, _⟩ := xb_sc hm
    refine br_t (nI_le (a := 256) (by omega) (by omega)) (xs_findTails hk (fun tl' g hg hT => ?_))
    have hN : xs_N P [] 0 st us := xs_N_0 (fun y hy => hz y (by omega))
    have hI := ps_iv_0 (am := am) hf
    refine xs_enter (p := []) (b := 100000) hk hf trivial hN hT hg ham hI.1 (fun b' hb' hb1 hq => ?_) (fun y hy hMy => ?_)
    · refine ⟨1, br_f (by decide) (br_t rfl (H _ _ _ _ _ _ _ _ ⟨hb1, fun q hfq => ?_⟩))⟩
      have := hq q (by rw [List.append_nil]; exact hfq)
      rw [List.append_nil] at this
      exact this
    · refine ⟨3915, xs_search_65 hk hf hT hg ham (fun b fp fl pa st us tt hb => H b fp fl pa st us tt tl' hb) 3913 0 3915 0 [] 100000 0 pa st us _ (ps_R_0 hk) (by omega) (by omega) trivial hN ?_ trivial hI⟩
      rw [pk_us]
      exact hMy
  | succ k ih =>
    intro x m us hx hm hz
    obtain ⟨m, rfl, hm'⟩ := xb_sc hm
    have e : upd us (nI x).toNatClampNeg 0 = upd us x 0 := by rw [nI_clamp (by omega)]
    refine br_f (nI_ge (b := 256) (by omega) (by decide)) ⟨vp_in_nI (by omega) (by omega), nm_r e (nm_r (nI_1 x) (ih (x + 1) m _ (by omega) (by omega) (fun y hy => ?_)))⟩
    by_cases e : y = x
    · subst e; exact pk_us
    · rw [pk_un e]; exact hz y (by omega)
end
section
variable {P : ps_I} {fp fl fa fb : Int32} {pa st us tt tl : Nat → Int32}
theorem xs_search {post : Int32 → SX → Prop} (hk : ps_ok P) {am : Nat} (ham : am < ps_n P + 2) (h : ∀ fp fl fa fb pa st us tt tl, post (iI (ps_vv P am)) ((nI (ps_n P)), fp, fl, fa, fb, (xs_D P), (xs_W P), (xs_R P), (xs_U P), (ps_f P), (xs_C P), pa, st, us, tt, tl)) : wpX_search post ((nI (ps_n P)), fp, fl, fa, fb, (xs_D P), (xs_W P), (xs_R P), (xs_U P), (ps_f P), (xs_C P), pa, st, us, tt, tl) (xs_A am) := by
  refine xs_impossible hk (fun c => ?_) (fun c => ?_)
  · refine br_f (by decide) ?_
    have e : (-1000 : Int) = ps_vv P am := ps_vv_e (Or.inl ⟨c, rfl⟩)
    have h1 := h fp fl fa fb pa st us tt tl
    rw [← e, ← iI_m1000] at h1
    exact h1
  · refine br_t rfl ⟨257, ?_⟩
    rw [iI_far]
    exact xs_search_34 hk c ham (fun b fp fl pa st us tt tl hb => by
      rw [ps_ie_as hk c hb]
      exact h fp fl _ _ pa st us tt tl) pa st tt 256 0 257 us rfl (by omega) (fun y hy => by omega)
end
end
section
/-! Y's walk: methods below its search -/
/-- capacities as P has them, or none and P's are 100 -/
def ys_L (P : ps_I) (gl : Int32) (gc : Nat → Int32) : Prop := (gl = 1 ∧ gc 0 = nI (ps_c P 0) ∧ gc 1 = nI (ps_c P 1)) ∨ (gl = 0 ∧ ps_c P 0 = 100 ∧ ps_c P 1 = 100)
def ys_N (P : ps_I) (p : List Nat) (gp : Int32) (ss : Nat → Int32) : Prop := xs_B p gp ∧ ∀ i, i ∈ p → ss i = nI (ps_st P p i)
section
variable {P : ps_I} {p : List Nat} {S : Nat → Nat} {gp gl : Int32} {gc od ss ws : Nat → Int32}
theorem ys_bad {post : Int32 → Prop} {x : Int32} (hn : ps_n P ≤ 6) (h1 : ∀ t, t < ps_n P → x = nI t → post 0) (h2 : (∀ t, t < ps_n P → x ≠ nI t) → post 1) : wpY_bad post ((nI (ps_n P)), gp, gl, (xs_D P), (xs_W P), gc, (ps_f P), (xs_R P), (xs_U P), od, ss, ws) x := by
  by_cases h0 : x < 0
  · refine br_t h0 (h2 (fun t ht e => ?_))
    rw [e] at h0
    exact nI_pos (by omega) h0
  · obtain ⟨j, hj, rfl⟩ := nI_of h0
    refine br_f h0 ?_
    refine xb_if (nI_ltI hj (by omega)) (fun h => h1 j h rfl) (fun h => h2 (fun t ht e => h ?_))
    rw [nI_eq hj (by omega)] at e
    omega
theorem ys_fea_2 {post : Int32 → Prop} (hk : ps_ok P) (h1 : ps_fe P → post 1) (h0 : ¬ ps_fe P → post 0) : ∀ k i m, i + k = ps_n P → k < m → (∀ t, t < i → ps_w P (t * 2) ≤ ps_c P 0 ∧ ps_w P (t * 2 + 1) ≤ ps_c P 1) → wY_feasible_2 post (nI (ps_n P)) gp gl (xs_D P) (xs_W P) (xs_C P) (ps_f P) (xs_R P) (xs_U P) od ss ws m (nI i) := by
  have hn := hk.1
  have hc := hk.2.2
  intro k
  induction k with
  | zero =>
    intro i m hi hm hall
    obtain ⟨m, rfl, _⟩ := xb_sc hm
    have e : i = ps_n P := by omega
    subst e
    refine br_t (nI_le (Nat.le_refl _) (by omega)) ?_
    refine pk_le (ps_n P) 0 (fun z => h0 (fun y => ?_)) (fun z => h1 ⟨by omega, hall⟩)
    have := y.1; omega
  | succ k ih =>
    intro i m hi hm hall
    obtain ⟨m, rfl, hm'⟩ := xb_sc hm
    obtain ⟨_, _, hw0, hw1, _, _, _⟩ := hk.2.1 i (by omega)
    have e2 : nI i * 2 = nI (i * 2) := pk_mul i 2
    have e21 : nI i * 2 + 1 = nI (i * 2 + 1) := by rw [e2]; exact nI_1 _
    have y0 : xs_W P (nI i * 2).toNatClampNeg = nI (ps_w P (i * 2)) := by rw [e2, nI_clamp (by omega)]; rfl
    have y1 : xs_W P (nI i * 2 + 1).toNatClampNeg = nI (ps_w P (i * 2 + 1)) := by rw [e21, nI_clamp (by omega)]; rfl
    refine br_f (nI_ge (by omega) (by omega)) ⟨pk_in (i * 2) 12 (by omega) e2, ?_⟩
    refine pk_lt (ps_c P 0) _ (fun z => h0 (fun y => ?_)) (fun z => ?_) rfl y0 (by omega) (by omega)
    · have := (y.2 i (by omega)).1; omega
    · refine ⟨pk_in (i * 2 + 1) 12 (by omega) e21, ?_⟩
      refine pk_le _ (ps_c P 1) (fun z1 => ?_) (fun z1 => h0 (fun y => ?_)) y1 rfl (by omega) (by omega)
      · refine nm_r (nI_1 i) (ih (i + 1) m (by omega) (by omega) (fun t ht => ?_))
        by_cases e : t = i
        · subst e; exact ⟨z, z1⟩
        · exact hall t (by omega)
      · have := (y.2 i (by omega)).2; omega
theorem ys_feasible {post : Int32 → Prop} (hk : ps_ok P) (h1 : ps_fe P → post 1) (h0 : ¬ ps_fe P → post 0) : wpY_feasible post ((nI (ps_n P)), gp, gl, (xs_D P), (xs_W P), (xs_C P), (ps_f P), (xs_R P), (xs_U P), od, ss, ws) :=
  Exists.intro (ps_n P + 1) (ys_fea_2 hk h1 h0 (ps_n P) 0 (ps_n P + 1) (by omega) (by omega) (fun t ht => by omega))
theorem ys_used_5 {post : Int32 → Prop} (hk : ps_ok P) {mm x : Nat} (hmm : mm < 2) (hx : x ≤ 1000) (hp : xs_B p gp) (hs : ∀ i, i ∈ p → ss i = nI (S i)) (hS : ∀ i, i ∈ p → S i + ps_d P i ≤ 1000) (h : post (nI (ps_us P S p mm x))) : ∀ k i m, i + k = ps_n P → k < m → wY_used_5 post (nI mm) (nI x) (nI (ps_n P)) gp gl (xs_D P) (xs_W P) gc (ps_f P) (xs_R P) (xs_U P) od ss ws m (nI (ps_sm (ps_on P S p mm x) i)) (nI i) := by
  have hn := hk.1
  intro k
  induction k with
  | zero =>
    intro i m hi hm
    obtain ⟨m, rfl, _⟩ := xb_sc hm
    have e : i = ps_n P := by omega
    subst e
    exact br_t (nI_le (Nat.le_refl _) (by omega)) h
  | succ k ih =>
    intro i m hi hm
    obtain ⟨m, rfl, hm'⟩ := xb_sc hm
    have I := ih (i + 1) m (by omega) (by omega)
    have es : ps_sm (ps_on P S p mm x) (i + 1) = ps_sm (ps_on P S p mm x) i + ps_on P S p mm x i := rfl
    have hskip : ps_on P S p mm x i = 0 → wY_used_5 post (nI mm) (nI x) (nI (ps_n P)) gp gl (xs_D P) (xs_W P) gc (ps_f P) (xs_R P) (xs_U P) od ss ws m (nI (ps_sm (ps_on P S p mm x) i)) (nI (i + 1)) := by
      intro z
      rw [es, z] at I
      exact I
    have ecl : (nI i).toNatClampNeg = i := nI_clamp (by omega)
    have hin : vp_in (nI i) 6 := vp_in_nI (by omega) (by omega)
    have hb : ((gp >>> (nI i &&& 31)) &&& 1) = 1 ↔ i ∈ p := by
      rw [ib_tst1 _ (by omega), hp i (by omega), decide_eq_true_iff]
    refine br_f (nI_ge (by omega) (by omega)) (xb_if hb (fun c => ⟨hin, ?_⟩) (fun c => nm_r (nI_1 i) (hskip (if_neg (fun z => c z.1)))))
    have hS1 := hS i c
    have e1 : ss (nI i).toNatClampNeg = nI (S i) := by rw [ecl]; exact hs i c
    have e2 : ss (nI i).toNatClampNeg + xs_D P (nI i).toNatClampNeg = nI (S i + ps_d P i) := by rw [e1, ecl]; exact nI_add _ _
    have e3 : nI i * 2 + nI mm = nI (i * 2 + mm) := by
      rw [show nI i * 2 = nI (i * 2) from pk_mul i 2]; exact nI_add _ _
    refine pk_lt x (S i) (fun z => nm_r (nI_1 i) (hskip (if_neg (fun y => by omega)))) (fun z => ⟨hin, hin, ?_⟩) rfl e1 (by omega) (by omega)
    refine pk_le (S i + ps_d P i) x (fun z1 => nm_r (nI_1 i) (hskip (if_neg (fun y => by omega)))) (fun z1 => ⟨pk_in (i * 2 + mm) 12 (by omega) e3, ?_⟩) e2 rfl (by omega) (by omega)
    have e4 : nI (ps_sm (ps_on P S p mm x) i) + xs_W P (nI i * 2 + nI mm).toNatClampNeg = nI (ps_sm (ps_on P S p mm x) (i + 1)) := by
      have e5 : ps_on P S p mm x i = ps_w P (i * 2 + mm) := if_pos ⟨c, z, z1⟩
      rw [e3, nI_clamp (by omega), es, e5]
      exact nI_add _ _
    exact nm_r e4 (nm_r (nI_1 i) I)
theorem ys_used {post : Int32 → Prop} (hk : ps_ok P) {mm x : Nat} (hmm : mm < 2) (hx : x ≤ 1000) (hp : xs_B p gp) (hs : ∀ i, i ∈ p → ss i = nI (S i)) (hS : ∀ i, i ∈ p → S i + ps_d P i ≤ 1000) (h : post (nI (ps_us P S p mm x))) : wpY_used post ((nI (ps_n P)), gp, gl, (xs_D P), (xs_W P), gc, (ps_f P), (xs_R P), (xs_U P), od, ss, ws) (nI mm) (nI x) :=
  Exists.intro (ps_n P + 1) (ys_used_5 hk hmm hx hp hs hS h (ps_n P) 0 (ps_n P + 1) (by omega) (by omega))
theorem ys_us24 (hk : ps_ok P) (x : Nat) : ps_us P S p 0 x ≤ 24 ∧ ps_us P S p 1 x ≤ 24 := by
  have hn := hk.1
  constructor
  · have h := ps_sm_ub (f := ps_on P S p 0 x) (B := 4) (ps_n P) (fun t ht => by
      unfold ps_on
      split
      · exact (hk.2.1 t ht).2.2.1
      · omega)
    unfold ps_us
    omega
  · have h := ps_sm_ub (f := ps_on P S p 1 x) (B := 4) (ps_n P) (fun t ht => by
      unfold ps_on
      split
      · exact (hk.2.1 t ht).2.2.2.1
      · omega)
    unfold ps_us
    omega
theorem ys_fits_2 {post : Int32 → Prop} (hk : ps_ok P) (hL : ys_L P gl gc) {t a : Nat} (ht : t < ps_n P) (ha : a + ps_d P t ≤ 1000) (hp : xs_B p gp) (hs : ∀ i, i ∈ p → ss i = nI (S i)) (hS : ∀ i, i ∈ p → S i + ps_d P i ≤ 1000) (h1 : ps_fd P S p t a = true → post 1) (h0 : ps_fd P S p t a = false → post 0) : ∀ k x m, x + k = a + ps_d P t → k < m → a ≤ x → (∀ y, a ≤ y → y < x → ps_at P S p t y) → wY_fits_2 post (nI t) (nI a) (nI (ps_n P)) gp gl (xs_D P) (xs_W P) gc (ps_f P) (xs_R P) (xs_U P) od ss ws m (nI x) := by
  have hn := hk.1
  obtain ⟨_, _, hw0, hw1, _, _, _⟩ := hk.2.1 t ht
  have hc := hk.2.2
  have e2 : nI t * 2 = nI (t * 2) := pk_mul t 2
  have e21 : nI t * 2 + 1 = nI (t * 2 + 1) := by rw [e2]; exact nI_1 _
  have ed : nI a + xs_D P (nI t).toNatClampNeg = nI (a + ps_d P t) := by rw [nI_clamp (by omega)]; exact nI_add _ _
  intro k
  induction k with
  | zero =>
    intro x m hx hm hax hall
    obtain ⟨m, rfl, _⟩ := xb_sc hm
    refine And.intro (vp_in_nI (by omega) (by omega)) (br_t ?_ (h1 (ps_fd_t.mpr (fun i hi => hall _ (by omega) (by omega)))))
    rw [ed]
    exact nI_le (by omega) (by omega)
  | succ k ih =>
    intro x m hx hm hax hall
    obtain ⟨m, rfl, hm'⟩ := xb_sc hm
    have hU := ys_us24 (S := S) (p := p) hk x
    have y0 : nI (ps_us P S p 0 x) + xs_W P (nI t * 2).toNatClampNeg = nI (ps_us P S p 0 x + ps_w P (t * 2)) := by
      rw [e2, nI_clamp (by omega)]; exact nI_add _ _
    have y1 : nI (ps_us P S p 1 x) + xs_W P (nI t * 2 + 1).toNatClampNeg = nI (ps_us P S p 1 x + ps_w P (t * 2 + 1)) := by
      rw [e21, nI_clamp (by omega)]; exact nI_add _ _
    have hfal : ¬ ps_at P S p t x → ps_fd P S p t a = false := by
      intro hn
      cases e : ps_fd P S p t a
      · rfl
      · have := ps_fd_t.mp e (x - a) (by omega)
        rw [show a + (x - a) = x by omega] at this
        exact absurd this hn
    have hge : ¬ nI a + xs_D P (nI t).toNatClampNeg ≤ nI x := by
      rw [ed]
      exact nI_ge (by omega) (by omega)
    have hnext : ps_at P S p t x → wY_fits_2 post (nI t) (nI a) (nI (ps_n P)) gp gl (xs_D P) (xs_W P) gc (ps_f P) (xs_R P) (xs_U P) od ss ws m (nI (x + 1)) := fun z => ih (x + 1) m (by omega) (by omega) (by omega) (fun y hy1 hy2 => by
      by_cases e : y = x
      · subst e; exact z
      · exact hall y hy1 (by omega))
    refine And.intro (vp_in_nI (by omega) (by omega)) (br_f hge ?_)
    refine ys_used (mm := 0) hk (by omega) (by omega) hp hs hS ?_
    refine ys_used (mm := 1) hk (by omega) (by omega) hp hs hS ?_
    try dsimp only
    rcases hL with ⟨g1, g2, g3⟩ | ⟨g1, g2, g3⟩
    · subst g1
      refine br_f (by decide) ⟨pk_in (t * 2) 12 (by omega) e2, ?_⟩
      refine pk_lt (ps_c P 0) _ (fun z => h0 (hfal (fun y => ?_))) (fun z => ?_) g2 y0 (by omega) (by omega)
      · have := y.1; omega
      · refine ⟨pk_in (t * 2 + 1) 12 (by omega) e21, ?_⟩
        refine pk_le _ (ps_c P 1) (fun z1 => ?_) (fun z1 => h0 (hfal (fun y => ?_))) y1 g3 (by omega) (by omega)
        · exact nm_r (nI_1 x) (hnext ⟨z, z1⟩)
        · have := y.2; omega
    · subst g1
      refine br_t rfl (nm_r (nI_1 x) (hnext ⟨by omega, by omega⟩))
theorem ys_fits {post : Int32 → Prop} (hk : ps_ok P) (hL : ys_L P gl gc) {t a : Nat} (ht : t < ps_n P) (ha : a + ps_d P t ≤ 1000) (hp : xs_B p gp) (hs : ∀ i, i ∈ p → ss i = nI (S i)) (hS : ∀ i, i ∈ p → S i + ps_d P i ≤ 1000) (h1 : ps_fd P S p t a = true → post 1) (h0 : ps_fd P S p t a = false → post 0) : wpY_fits post ((nI (ps_n P)), gp, gl, (xs_D P), (xs_W P), gc, (ps_f P), (xs_R P), (xs_U P), od, ss, ws) (nI t) (nI a) :=
  Exists.intro (ps_d P t + 1) (ys_fits_2 hk hL ht ha hp hs hS h1 h0 (ps_d P t) a (ps_d P t + 1) rfl (by omega) (Nat.le_refl _) (fun y h1 h2 => by omega))
theorem ys_N_push {t : Nat} (hk : ps_ok P) (h : ys_N P p gp ss) (hc : ps_cd P p t) : ys_N P (t :: p) (gp ||| ((1 : Int32) <<< (nI t &&& 31))) (upd ss t (nI (ps_er P (ps_st P p) p t))) := by
  have ht := hc.1
  have hn := hk.1
  refine ⟨fun i hi => ?_, fun i hi => ?_⟩
  · rw [ib_set gp t (by omega) hi, h.1 i hi]
    by_cases e : i = t
    · subst e; simp
    · simp [e]
  · by_cases e : i = t
    · subst e
      rw [pk_us, ps_st_h]
    · rw [pk_un e, ps_st_n P p e]
      exact h.2 i ((List.mem_cons.mp hi).elim (fun y => absurd y e) id)
theorem ys_N_pop {t : Nat} (hk : ps_ok P) (h : ys_N P (t :: p) gp ss) (hc : ps_cd P p t) : ys_N P p (gp &&& (((1 : Int32) <<< (nI t &&& 31)) ^^^ (-1))) ss := by
  have ht := hc.1
  have hn := hk.1
  refine ⟨fun i hi => ?_, fun i hi => ?_⟩
  · rw [ib_clr gp t (by omega) hi, h.1 i hi]
    by_cases e : i = t
    · subst e
      rw [decide_eq_false hc.2.1]
      simp
    · simp [e]
  · have e : i ≠ t := fun z => hc.2.1 (z ▸ hi)
    rw [h.2 i (List.mem_cons_of_mem _ hi), ps_st_n P p e]
theorem ys_place_60 {post : SY → Prop} (hk : ps_ok P) (hf : ps_fe P) (hL : ys_L P gl gc) {t : Nat} (hv : ps_vl P p) (hc : ps_cd P p t) (hN : ys_N P p gp ss) (h : ∀ gp' ss', ys_N P (t :: p) gp' ss' → post ((nI (ps_n P)), gp', gl, (xs_D P), (xs_W P), gc, (ps_f P), (xs_R P), (xs_U P), od, ss', ws)) : ∀ k j m s, j + k = 100 → k < m → ps_rd P (ps_st P p) p t ≤ s → s ≤ ps_er P (ps_st P p) p t → ps_er P (ps_st P p) p t ≤ s + k → wY_place_60 post (nI t) (nI (ps_n P)) gp gl (xs_D P) (xs_W P) gc (ps_f P) (xs_R P) (xs_U P) od ss ws m (nI s) (nI j) := by
  have hn := hk.1
  have ht := hc.1
  have hl := ps_cd_len hv hc
  have he := ps_er_ub hk hf hv ht
  have hd := (hk.2.1 t ht).2.1
  have hok := ps_er_ok hk hf hv ht
  have hS : ∀ i, i ∈ p → ps_st P p i + ps_d P i ≤ 1000 := fun i hi => by have := ps_end_ub hk hf hv i hi; omega
  intro k
  induction k with
  | zero =>
    intro j m s hj hm h1 h2 h3
    obtain ⟨m, rfl, _⟩ := xb_sc hm
    have e : s = ps_er P (ps_st P p) p t := by omega
    subst e
    have e1 : upd ss (nI t).toNatClampNeg (nI (ps_er P (ps_st P p) p t)) = upd ss t (nI (ps_er P (ps_st P p) p t)) := by rw [nI_clamp (by omega)]
    exact br_t (nI_le (a := 100) (by omega) (by omega)) ⟨vp_in_nI (by omega) (by omega), nm_r e1 (nm_e (h _ _ (ys_N_push hk hN hc)))⟩
  | succ k ih =>
    intro j m s hj hm h1 h2 h3
    obtain ⟨m, rfl, hm'⟩ := xb_sc hm
    refine br_f (nI_ge (b := 100) (by omega) (by decide)) (ys_fits hk hL ht (by omega) hN.1 hN.2 hS (fun z => ?_) (fun z => ?_))
    · have h4 : ps_er P (ps_st P p) p t ≤ s := ps_fn_le z 100 _ h1
      exact br_f (by decide) (nm_r (nI_1 j) (ih (j + 1) m s (by omega) (by omega) h1 h2 (by omega)))
    · have h4 : s ≠ ps_er P (ps_st P p) p t := by
        intro e
        rw [e, hok] at z
        cases z
      exact br_t rfl (nm_r (nI_1 s) (nm_r (nI_1 j) (ih (j + 1) m (s + 1) (by omega) (by omega) (by omega) (by omega) (by omega))))
theorem ys_place_9 {post : SY → Prop} (hk : ps_ok P) (hf : ps_fe P) (hL : ys_L P gl gc) {t : Nat} (hv : ps_vl P p) (hc : ps_cd P p t) (hN : ys_N P p gp ss) (h : ∀ gp' ss', ys_N P (t :: p) gp' ss' → post ((nI (ps_n P)), gp', gl, (xs_D P), (xs_W P), gc, (ps_f P), (xs_R P), (xs_U P), od, ss', ws)) : ∀ k i m, i + k = t → k < m → wY_place_9 post (nI t) (nI (ps_n P)) gp gl (xs_D P) (xs_W P) gc (ps_f P) (xs_R P) (xs_U P) od ss ws m (nI (ps_mx (ps_r P t) (fun i => ps_b P t i && decide (i ∈ p)) (fun i => ps_st P p i + ps_d P i) i)) (nI i) := by
  have hn := hk.1
  have ht := hc.1
  have hl := ps_cd_len hv hc
  have hr := (hk.2.1 t ht).2.2.2.2.1
  have hS : ∀ i, i ∈ p → ps_st P p i + ps_d P i ≤ 1000 := fun i hi => by have := ps_end_ub hk hf hv i hi; omega
  have hM : ∀ i, ps_mx (ps_r P t) (fun i => ps_b P t i && decide (i ∈ p)) (fun i => ps_st P p i + ps_d P i) i ≤ 1000 := fun i => ps_mx_ub (by omega) i (fun j _ hc => hS j (by simp only [Bool.and_eq_true, decide_eq_true_eq] at hc; exact hc.2))
  intro k
  induction k with
  | zero =>
    intro i m hi hm
    obtain ⟨m, rfl, _⟩ := xb_sc hm
    have e : i = t := by omega
    subst e
    have he := ps_er_ub hk hf hv ht
    have hg := ps_er_ge (P := P) (ps_st P p) p i
    exact br_t (nI_le (Nat.le_refl _) (by omega)) ⟨101, ys_place_60 hk hf hL hv hc hN h 100 0 101 (ps_rd P (ps_st P p) p i) rfl (by omega) (Nat.le_refl _) hg (by omega)⟩
  | succ k ih =>
    intro i m hi hm
    obtain ⟨m, rfl, hm'⟩ := xb_sc hm
    have hb : ((ps_f P (nI t).toNatClampNeg >>> (nI i &&& 31)) &&& 1) = 1 ↔ ps_b P t i = true := by
      rw [nI_clamp (by omega), ib_tst1 _ (by omega)]
      exact Iff.rfl
    have I := ih (i + 1) m (by omega) (by omega)
    rw [ps_mx_s] at I
    have hin : vp_in (nI i) 6 := vp_in_nI (by omega) (by omega)
    refine br_f (nI_ge (by omega) (by omega)) ⟨hin, hin, fun y ey => ⟨vp_in_nI (by omega) (by omega), xb_if hb (fun c => ?_) (fun c => ?_)⟩⟩
    · have hm : i ∈ p := hc.2.2 i c
      have hM1 := hM i
      have hS1 := hS i hm
      have ev : y = nI (ps_st P p i + ps_d P i) := by
        rw [ey, nI_clamp (by omega), hN.2 i hm]; exact nI_add _ _
      have hcc : (ps_b P t i && decide (i ∈ p)) = true := by
        rw [c, decide_eq_true hm]; rfl
      refine pk_le _ _ (fun z => ?_) (fun z => ?_) ev rfl (by omega) (by omega)
      · rw [if_neg (fun y => by omega)] at I
        exact nm_r (nI_1 i) I
      · rw [if_pos ⟨hcc, z⟩] at I
        rw [ev]
        exact nm_r (nI_1 i) I
    · have hcc : ¬ ((ps_b P t i && decide (i ∈ p)) = true) := by
        intro z
        rw [Bool.and_eq_true] at z
        exact c z.1
      rw [if_neg (fun y => hcc y.1)] at I
      exact nm_r (nI_1 i) I
theorem ys_place {post : SY → Prop} (hk : ps_ok P) (hf : ps_fe P) (hL : ys_L P gl gc) {t : Nat} (hv : ps_vl P p) (hc : ps_cd P p t) (hN : ys_N P p gp ss) (h : ∀ gp' ss', ys_N P (t :: p) gp' ss' → post ((nI (ps_n P)), gp', gl, (xs_D P), (xs_W P), gc, (ps_f P), (xs_R P), (xs_U P), od, ss', ws)) : wpY_place post ((nI (ps_n P)), gp, gl, (xs_D P), (xs_W P), gc, (ps_f P), (xs_R P), (xs_U P), od, ss, ws) (nI t) := by
  have hn := hk.1
  have ht := hc.1
  have e : xs_R P (nI t).toNatClampNeg = nI (ps_r P t) := by rw [nI_clamp (by omega)]; rfl
  exact And.intro (vp_in_nI (by omega) (by omega)) (nm_r e ⟨t + 1, ys_place_9 hk hf hL hv hc hN h t 0 (t + 1) (by omega) (by omega)⟩)
theorem ys_worth {post : Int32 → Prop} (hk : ps_ok P) {am t e : Nat} (ham : am < ps_n P + 2) (ht : t < ps_n P) (he : ss t + xs_D P t = nI e) (he2 : e ≤ 1000) (h : post (iI (ps_wt P am t e))) : wpY_worth post ((nI (ps_n P)), gp, gl, (xs_D P), (xs_W P), gc, (ps_f P), (xs_R P), (xs_U P), od, ss, ws) (nI t) (xs_A am) := by
  have hn := hk.1
  have hu := (hk.2.1 t ht).2.2.2.2.2.1
  have ecl : (nI t).toNatClampNeg = t := nI_clamp (by omega)
  have ev : ss (nI t).toNatClampNeg + xs_D P (nI t).toNatClampNeg = nI e := by rw [ecl]; exact he
  have hin : vp_in (nI t) 6 := vp_in_nI (by omega) (by omega)
  refine And.intro hin (And.intro hin (nm_r ev ?_))
  have hcase : am = 0 ∨ am = 1 ∨ ∃ a, am = a + 2 := by
    rcases am with _ | _ | a
    · exact Or.inl rfl
    · exact Or.inr (Or.inl rfl)
    · exact Or.inr (Or.inr ⟨a, rfl⟩)
  rcases hcase with z | z | ⟨a, z⟩
  · subst z
    refine br_t xs_A0 ?_
    unfold ps_wt at h
    rw [if_pos rfl, ← iI_n (by omega)] at h
    exact h
  · subst z
    refine br_f (by rw [xs_A1]; decide) (br_t xs_A1 ⟨hin, ?_⟩)
    rw [ps_wt_1] at h
    have e2 : nI e - xs_U P (nI t).toNatClampNeg = iI ((e : Int) - (ps_u P t : Int)) := by
      rw [ecl]
      show nI _ - nI _ = _
      rw [iI_n (by omega), iI_n (by omega), iI_sub (by omega) (by omega) (by omega) (by omega)]
    rw [e2]
    exact h
  · subst z
    rw [xs_A2]
    refine br_f (xs_ne1 (by omega)) (br_f (xs_ne2 (by omega)) (xb_if (nI_eq (by omega) (by omega)) (fun c => ?_) (fun c => ?_)))
    · subst c
      rw [ps_wt_a, ← iI_n (by omega)] at h
      exact h
    · rw [ps_wt_o P e (fun y => c y.symm), ← iI_mfar] at h
      exact h
theorem ys_cand_9 {post : Int32 → Prop} (hk : ps_ok P) (hv : ps_vl P p) (hp : xs_B p gp) {nx : Nat} (h1 : ∀ t, nx ≤ t → ps_cd P p t → (∀ i, nx ≤ i → i < t → ¬ ps_cd P p i) → post (nI t)) (h0 : (∀ i, nx ≤ i → ¬ ps_cd P p i) → post (nI (ps_n P))) : ∀ k i m, i + k = ps_n P → k < m → nx ≤ i → (∀ j, nx ≤ j → j < i → ¬ ps_cd P p j) → wY_candidate_9 post (nI (ps_n P)) gp gl (xs_D P) (xs_W P) gc (ps_f P) (xs_R P) (xs_U P) od ss ws m (nI i) := by
  have hn := hk.1
  intro k
  induction k with
  | zero =>
    intro i m hi hm hx hall
    obtain ⟨m, rfl, _⟩ := xb_sc hm
    refine br_t (nI_le (by omega) (by omega)) (h0 (fun j hj hc => hall j hj ?_ hc))
    have := hc.1
    omega
  | succ k ih =>
    intro i m hi hm hx hall
    obtain ⟨m, rfl, hm'⟩ := xb_sc hm
    have hskip : ¬ ps_cd P p i → wY_candidate_9 post (nI (ps_n P)) gp gl (xs_D P) (xs_W P) gc (ps_f P) (xs_R P) (xs_U P) od ss ws m (nI (i + 1)) := fun hc => ih (i + 1) m (by omega) (by omega) (by omega) (fun j hj1 hj2 => by
      by_cases e : j = i
      · subst e; exact hc
      · exact hall j hj1 (by omega))
    have hb0 : ((gp >>> (nI i &&& 31)) &&& 1) = 0 ↔ i ∉ p := by
      rw [ib_tst0 _ (by omega), hp i (by omega), decide_eq_false_iff_not]
    refine br_f (nI_ge (by omega) (by omega)) (xb_if hb0 (fun hm => ⟨vp_in_nI (by omega) (by omega), ?_⟩) (fun hm => nm_r (nI_1 i) (hskip (fun z => hm z.2.1))))
    have hb : (ps_f P (nI i).toNatClampNeg &&& (gp ^^^ (-1))) = 0 ↔ ps_cd P p i := by
      rw [nI_clamp (by omega), ib_sub]
      constructor
      · intro z
        refine ⟨by omega, hm, fun j hj => ?_⟩
        have h1 := (hk.2.1 i (by omega)).2.2.2.2.2.2 j hj
        have h2 := z j hj
        rw [hp j (by omega), decide_eq_true_iff] at h2
        exact h2
      · intro z j hj
        have h1 := (hk.2.1 i (by omega)).2.2.2.2.2.2 j hj
        rw [hp j (by omega), decide_eq_true_iff]
        exact z.2.2 j hj
    exact xb_if hb (fun c => h1 i hx c hall) (fun c => nm_r (nI_1 i) (hskip c))
theorem ys_candidate {post : Int32 → Prop} (hk : ps_ok P) (hv : ps_vl P p) (hp : xs_B p gp) {nx : Nat} (hx : nx ≤ ps_n P) (ho : od p.length + 1 = nI nx) (h1 : ∀ t, nx ≤ t → ps_cd P p t → (∀ i, nx ≤ i → i < t → ¬ ps_cd P p i) → post (nI t)) (h0 : (∀ i, nx ≤ i → ¬ ps_cd P p i) → post (nI (ps_n P))) : wpY_candidate post ((nI (ps_n P)), gp, gl, (xs_D P), (xs_W P), gc, (ps_f P), (xs_R P), (xs_U P), od, ss, ws) (nI p.length) := by
  have hn := hk.1
  have hl := ps_vl_len hv
  have e : od (nI p.length).toNatClampNeg + 1 = nI nx := by rw [nI_clamp (by omega)]; exact ho
  exact And.intro (vp_in_nI (by omega) (by omega)) (nm_r e ⟨ps_n P + 1, ys_cand_9 hk hv hp h1 h0 (ps_n P - nx) nx (ps_n P + 1) (by omega) (by omega) (Nat.le_refl _) (fun j h2 h3 => by omega)⟩)
end
end
section
/-! Y's walk: the search -/
def ys_Kr (P : ps_I) (am : Nat) (od ws : Nat → Int32) : List Nat → Prop
  | [] => True
  | x :: p => od p.length = nI x ∧ ws p.length = iI (ps_wr P am p) ∧ ys_Kr P am od ws p
theorem ys_Kr_c {P : ps_I} {am : Nat} {od ws od' ws' : Nat → Int32} : ∀ {p : List Nat}, (∀ i, i < p.length → od' i = od i ∧ ws' i = ws i) → ys_Kr P am od ws p → ys_Kr P am od' ws' p := by
  intro p
  induction p with
  | nil => intro _ _; trivial
  | cons x p ih =>
    intro h hK
    have h1 := h p.length (by rw [List.length_cons]; omega)
    refine ⟨by rw [h1.1]; exact hK.1, by rw [h1.2]; exact hK.2.1, ih (fun i hi => h i (by rw [List.length_cons]; omega)) hK.2.2⟩
theorem ys_neg1 : nI 0 - 1 < 0 := by decide
section
variable {P : ps_I} {gl : Int32} {gc : Nat → Int32}
/-- what the loop is asked at (p, nx, b) with k steps left -/
def ys_Q (P : ps_I) (am : Nat) (gl : Int32) (gc : Nat → Int32) (post : Int32 → SY → Prop) (k : Nat) : Prop := ∀ x m nx p b gp od ss ws, ps_R P nx p ≤ k → x + k ≤ 7990 → k + 2 ≤ m → ps_vl P p → nx ≤ ps_n P → ys_N P p gp ss → od p.length + 1 = nI nx → ws p.length = iI (ps_wr P am p) → ys_Kr P am od ws p → ps_iv P am b nx p → wY_search_28 post (xs_A am) m (iI b) (nI p.length) (nI x) (nI (ps_n P)) gp gl (xs_D P) (xs_W P) gc (ps_f P) (xs_R P) (xs_U P) od ss ws
theorem ys_back {post : Int32 → SY → Prop} (hk : ps_ok P) {am : Nat} (H : ∀ b gp od ss ws, ps_ie P am b → post (iI b) ((nI (ps_n P)), gp, gl, (xs_D P), (xs_W P), gc, (ps_f P), (xs_R P), (xs_U P), od, ss, ws)) {k : Nat} (ih : ys_Q P am gl gc post k) {x m nx : Nat} {p : List Nat} {b : Int} {gp : Int32} {od ss ws : Nat → Int32} (hR : ps_R P nx p ≤ k + 1) (hx : x + (k + 1) ≤ 7990) (hm : k + 2 ≤ m) (hv : ps_vl P p) (hN : ys_N P p gp ss) (hK : ys_Kr P am od ws p) (hI : ps_iv P am b nx p) (hn' : (∀ i, nx ≤ i → ¬ ps_cd P p i) ∨ b ≤ ps_wr P am p) : wY_search_70 post (wY_search_28 post (xs_A am) m) (xs_A am) (iI b) (nI p.length) (nI x) (nI (ps_n P)) (nI (ps_n P)) gp gl (xs_D P) (xs_W P) gc (ps_f P) (xs_R P) (xs_U P) od ss ws := by
  have hn := hk.1
  have hl := ps_vl_len hv
  refine br_t (nI_le (Nat.le_refl _) (by omega)) ?_
  cases p with
  | nil =>
    refine nm_e (br_t ys_neg1 (nm_r (nI_1 x) ?_))
    obtain ⟨m, rfl⟩ : ∃ m', m = m' + 1 := ⟨m - 1, by omega⟩
    exact br_f (nI_ge (b := 8000) (by omega) (by decide)) (br_t ys_neg1 (H _ _ _ _ _ (ps_iv_end hI hn')))
  | cons t p =>
    have hR2 := ps_R_b P nx (t :: p)
    rw [ps_Rr_c] at hR2
    rw [List.length_cons] at *
    have ht := hv.1.1
    have e : gp &&& (((1 : Int32) <<< ((od (nI p.length).toNatClampNeg) &&& 31)) ^^^ (-1)) = gp &&& (((1 : Int32) <<< (nI t &&& 31)) ^^^ (-1)) := by
      rw [nI_clamp (by omega), hK.1]
    refine nm_r (nI_pred p.length) (br_f (nI_pos (by omega)) ⟨vp_in_nI (by omega) (by omega), nm_r e (nm_r (nI_1 x) ?_)⟩)
    refine ih (x + 1) m (t + 1) p b _ od ss ws (by omega) (by omega) (by omega) hv.2 (by omega) (ys_N_pop hk hN hv.1) ?_ hK.2.1 hK.2.2 (ps_iv_back hI hn')
    rw [hK.1]
    exact nI_1 t
theorem ys_146 {post : Int32 → SY → Prop} (hk : ps_ok P) (hf : ps_fe P) {am : Nat} {k : Nat} (ih : ys_Q P am gl gc post k) {x m nx t : Nat} {p : List Nat} {b : Int} {gp : Int32} {od ss ws : Nat → Int32} (hR : ps_R P nx p ≤ k + 1) (hx : x + (k + 1) ≤ 7990) (hm : k + 2 ≤ m) (hv : ps_vl P p) (hnt : nx ≤ t) (hc : ps_cd P p t) (hmin : ∀ i, nx ≤ i → i < t → ¬ ps_cd P p i) (hN : ys_N P (t :: p) gp ss) (hw : ws p.length = iI (ps_wr P am p)) (hK : ys_Kr P am od ws p) (hI : ps_iv P am b nx p) {z : Int32} (hz : z = iI (ps_wr P am (t :: p))) : wY_search_146 post (wY_search_28 post (xs_A am) m) (xs_A am) (iI b) (nI (p.length + 1)) (nI x) z (nI (p.length + 1)) (nI (ps_n P)) gp gl (xs_D P) (xs_W P) gc (ps_f P) (xs_R P) (xs_U P) (upd (upd od p.length (nI t)) (p.length + 1) (-1)) ss ws := by
  have hn := hk.1
  have hl := ps_cd_len hv hc
  have hRs := ps_R_s hv hc hnt
  have hv' : ps_vl P (t :: p) := ⟨hc, hv⟩
  have hb1 := hI.1.1
  have hb2 := hI.1.2.1
  have hw1 := ps_wr_lo (P := P) (am := am) (t :: p)
  have hw2 := ps_wr_hi (am := am) hk hf hv'
  have hin : vp_in (nI (p.length + 1)) 7 := vp_in_nI (by omega) (by omega)
  have ecl : (nI (p.length + 1)).toNatClampNeg = p.length + 1 := nI_clamp (by omega)
  have e1 : upd ws (nI (p.length + 1)).toNatClampNeg z = upd ws (p.length + 1) (iI (ps_wr P am (t :: p))) := by rw [ecl, hz]
  have hKn : ys_Kr P am (upd (upd od p.length (nI t)) (p.length + 1) (-1)) (upd ws (p.length + 1) (iI (ps_wr P am (t :: p)))) (t :: p) := by
    refine ⟨?_, ?_, ys_Kr_c (fun i hi => ⟨?_, ?_⟩) hK⟩
    · rw [pk_un (by omega), pk_us]
    · rw [pk_un (by omega)]; exact hw
    · rw [pk_un (by omega), pk_un (by omega)]
    · rw [pk_un (by omega)]
  have hgo : ∀ b', ps_iv P am b' 0 (t :: p) → wY_search_28 post (xs_A am) m (iI b') (nI (p.length + 1)) (nI (x + 1)) (nI (ps_n P)) gp gl (xs_D P) (xs_W P) gc (ps_f P) (xs_R P) (xs_U P) (upd (upd od p.length (nI t)) (p.length + 1) (-1)) ss (upd ws (p.length + 1) (iI (ps_wr P am (t :: p)))) := by
    intro b' hb'
    refine ih (x + 1) m 0 (t :: p) b' gp _ ss _ (by omega) (by omega) (by omega) hv' (Nat.zero_le _) hN ?_ ?_ hKn hb'
    · rw [List.length_cons, pk_us]
      decide
    · rw [List.length_cons, pk_us]
  have eread : (upd ws (p.length + 1) (iI (ps_wr P am (t :: p)))) (nI (p.length + 1)).toNatClampNeg = iI (ps_wr P am (t :: p)) := by rw [ecl, pk_us]
  refine And.intro hin (nm_r e1 (xb_if (nI_eq (by omega) (by omega)) (fun c => ⟨hin, ?_⟩) (fun c => nm_r (nI_1 x) (hgo b (ps_iv_open hI hmin (by omega))))))
  rw [eread]
  refine xb_if (iI_le (by omega) (by omega) (by omega) (by omega)) (fun y => nm_r (nI_1 x) (hgo b (ps_iv_leaf hI hmin (Int.le_refl _) hI.1 c y))) (fun y => ⟨hin, nm_e (nm_r (nI_1 x) (hgo _ (ps_iv_leaf hI hmin (by omega) ⟨hw1, by omega, Or.inr ⟨t :: p, ⟨hv', ?_⟩, rfl⟩⟩ c (Int.le_refl _))))⟩)
  rw [List.length_cons]
  exact c
theorem ys_search_28 {post : Int32 → SY → Prop} (hk : ps_ok P) (hf : ps_fe P) (hL : ys_L P gl gc) {am : Nat} (ham : am < ps_n P + 2) (H : ∀ b gp od ss ws, ps_ie P am b → post (iI b) ((nI (ps_n P)), gp, gl, (xs_D P), (xs_W P), gc, (ps_f P), (xs_R P), (xs_U P), od, ss, ws)) : ∀ k, ys_Q P am gl gc post k := by
  have hn := hk.1
  intro k
  induction k with
  | zero =>
    intro x m nx p b gp od ss ws hR
    have := ps_R_b P nx p
    omega
  | succ k ih =>
    intro x m nx p b gp od ss ws hR hx hm hv hnx hN ho hw hK hI
    obtain ⟨m, rfl⟩ : ∃ m', m = m' + 1 := ⟨m - 1, by omega⟩
    have hl := ps_vl_len hv
    have hin : vp_in (nI p.length) 7 := vp_in_nI (by omega) (by omega)
    have ecl : (nI p.length).toNatClampNeg = p.length := nI_clamp (by omega)
    have hb1 := hI.1.1
    have hb2 := hI.1.2.1
    have hw1 := ps_wr_lo (P := P) (am := am) p
    have hw2 := ps_wr_hi (am := am) hk hf hv
    have hback := fun hn' => ys_back (x := x) (m := m) hk H ih hR hx (by omega) hv hN hK hI hn'
    refine br_f (nI_ge (b := 8000) (by omega) (by decide)) (br_f (nI_pos (by omega)) (xb_if (nI_eq (by omega) (by omega)) (fun c => ?_) (fun c => ⟨hin, ?_⟩)))
    · refine hback (Or.inl (fun i _ hc => ?_))
      have := ps_cd_len hv hc
      omega
    · rw [ecl, hw]
      refine xb_if (iI_lt (by omega) (by omega) (by omega) (by omega)) (fun y => ?_) (fun y => hback (Or.inr (by omega)))
      refine ys_candidate hk hv hN.1 hnx ho (fun t hnt hc hmin => ?_) (fun hnone => hback (Or.inl hnone))
      have ht := hc.1
      have hlt := ps_cd_len hv hc
      have hv' : ps_vl P (t :: p) := ⟨hc, hv⟩
      refine br_f (nI_ge (by omega) (by omega)) (ys_place hk hf hL hv hc hN (fun gp' ss' hN' => ?_))
      have he := ps_end_ub hk hf hv' t List.mem_cons_self
      rw [List.length_cons] at he
      have hev : ss' t + xs_D P t = nI (ps_er P (ps_st P p) p t + ps_d P t) := by
        rw [hN'.2 t List.mem_cons_self, ps_st_h]
        exact nI_add _ _
      rw [ps_st_h] at he
      refine ys_worth (e := ps_er P (ps_st P p) p t + ps_d P t) hk ham ht hev (by omega) ?_
      have e1 : upd od (nI p.length).toNatClampNeg (nI t) = upd od p.length (nI t) := by rw [ecl]
      have e2 : upd (upd od p.length (nI t)) (nI (p.length + 1)).toNatClampNeg (-1) = upd (upd od p.length (nI t)) (p.length + 1) (-1) := by rw [nI_clamp (by omega)]
      have e3 : nI (p.length + 1) - 1 = nI p.length := nI_pred _
      have e4 : ws (nI p.length).toNatClampNeg = iI (ps_wr P am p) := by rw [ecl]; exact hw
      refine ⟨hin, nm_r e1 (nm_r (nI_1 p.length) ⟨vp_in_nI (by omega) (by omega), nm_r e2 ?_⟩)⟩
      have hwt1 : -100000 ≤ ps_wt P am t (ps_er P (ps_st P p) p t + ps_d P t) := by
        have hu := (hk.2.1 t ht).2.2.2.2.2.1
        unfold ps_wt
        split
        · omega
        · split
          · omega
          · split <;> omega
      have hwt2 : ps_wt P am t (ps_er P (ps_st P p) p t + ps_d P t) ≤ 1000 := by
        unfold ps_wt
        split
        · omega
        · split
          · omega
          · split <;> omega
      rw [e3, e4]
      refine ⟨hin, xb_if (iI_le (by omega) (by omega) (by omega) (by omega)) (fun z => ⟨hin, ?_⟩) (fun z => ?_)⟩
      · exact ys_146 hk hf ih hR hx (by omega) hv hnt hc hmin hN' hw hK hI (by rw [ps_wr_s, if_neg (by omega)])
      · exact ys_146 hk hf ih hR hx (by omega) hv hnt hc hmin hN' hw hK hI (by rw [ps_wr_s, if_pos (by omega)])
end
section
variable {P : ps_I} {gp gl : Int32} {gc od ss ws : Nat → Int32}
theorem ys_N_0 {P : ps_I} {ss : Nat → Int32} : ys_N P [] 0 ss := by
  refine ⟨fun i _ => ?_, fun i hi => absurd hi List.not_mem_nil⟩
  rw [b_0]
  simp
theorem ys_search {post : Int32 → SY → Prop} (hk : ps_ok P) (hf : ps_fe P) (hL : ys_L P gl gc) {am : Nat} (ham : am < ps_n P + 2) (h : ∀ gp od ss ws, post (iI (ps_vv P am)) ((nI (ps_n P)), gp, gl, (xs_D P), (xs_W P), gc, (ps_f P), (xs_R P), (xs_U P), od, ss, ws)) : wpY_search post ((nI (ps_n P)), gp, gl, (xs_D P), (xs_W P), gc, (ps_f P), (xs_R P), (xs_U P), od, ss, ws) (xs_A am) := by
  refine nm_e (nm_e ⟨3915, ?_⟩)
  rw [iI_mfar, iI_far]
  refine ys_search_28 hk hf hL ham (fun b gp od ss ws hb => ?_) 3913 0 3915 0 [] 100000 0 _ ss _ (ps_R_0 hk) (by omega) (by omega) trivial (Nat.zero_le _) ys_N_0 ?_ ?_ trivial (ps_iv_0 hf)
  · rw [ps_ie_as hk hf hb]
    exact h gp od ss ws
  · show upd od 0 (-1) 0 + 1 = nI 0
    rw [pk_us]
    decide
  · show upd ws 0 (iI (-100000)) 0 = _
    rw [pk_us]
    rfl
theorem ys_shortest {post : Int32 → SY → Prop} (hk : ps_ok P) (h : ∀ gp od ss ws, post (iI (ps_vv P 0)) ((nI (ps_n P)), gp, 1, (xs_D P), (xs_W P), (xs_C P), (ps_f P), (xs_R P), (xs_U P), od, ss, ws)) : wpY_shortest post ((nI (ps_n P)), gp, 1, (xs_D P), (xs_W P), (xs_C P), (ps_f P), (xs_R P), (xs_U P), od, ss, ws) := by
  refine ys_feasible hk (fun c => ?_) (fun c => ?_)
  · exact br_f (by decide) (ys_search (am := 0) hk c (Or.inl ⟨rfl, rfl, rfl⟩) (by omega) (fun gp od ss ws => h gp od ss ws))
  · refine br_t rfl ?_
    have e : (-1000 : Int) = ps_vv P 0 := ps_vv_e (Or.inl ⟨c, rfl⟩)
    have h1 := h gp od ss ws
    rw [← e, ← iI_m1000] at h1
    exact h1
end
end
section
/-! the relation, changes of the given problem -/
def ps_ud (f : Nat → Nat) (k v : Nat) : Nat → Nat := fun j => if j = k then v else f j
theorem ps_ud_s (f : Nat → Nat) (k v : Nat) : ps_ud f k v k = v := if_pos rfl
theorem ps_ud_n {f : Nat → Nat} {k v j : Nat} (h : j ≠ k) : ps_ud f k v j = f j := if_neg h
theorem xs_ud (f : Nat → Nat) (k v : Nat) : upd (fun i => nI (f i)) k (nI v) = fun i => nI (ps_ud f k v i) := by
  funext j
  show (if j = k then nI v else nI (f j)) = nI (if j = k then v else f j)
  split <;> rfl
def ps_sd (P : ps_I) (d : Nat → Nat) : ps_I := (ps_n P, d, ps_w P, ps_r P, ps_u P, ps_c P, ps_f P)
def ps_sw (P : ps_I) (w : Nat → Nat) : ps_I := (ps_n P, ps_d P, w, ps_r P, ps_u P, ps_c P, ps_f P)
def ps_sn (P : ps_I) (n : Nat) : ps_I := (n, ps_d P, ps_w P, ps_r P, ps_u P, ps_c P, ps_f P)
def ps_st2 (P : ps_I) (r u : Nat → Nat) : ps_I := (ps_n P, ps_d P, ps_w P, r, u, ps_c P, ps_f P)
def ps_sf (P : ps_I) (f : Nat → Int32) : ps_I := (ps_n P, ps_d P, ps_w P, ps_r P, ps_u P, ps_c P, f)
def ps_new (P : ps_I) (d a b : Nat) : ps_I := (ps_n P + 1, ps_ud (ps_d P) (ps_n P) d, ps_ud (ps_ud (ps_w P) (ps_n P * 2) a) (ps_n P * 2 + 1) b, ps_ud (ps_r P) (ps_n P) 0, ps_ud (ps_u P) (ps_n P) 99, ps_c P, upd (ps_f P) (ps_n P) 0)
/-- the ranges between calls -/
def rl_ok (P : ps_I) : Prop := ps_ok P ∧ (∀ t, t < ps_n P → ps_d P t ≤ 9) ∧ ps_c P 0 ≤ 8 ∧ ps_c P 1 ≤ 8
def i_Rel (_ : Nat) (u : SX) (v : SY) : Prop := ∃ P, rl_ok P ∧ ∃ fp fl fa fb pa st us tt tl gp od ss ws, u = ((nI (ps_n P)), fp, fl, fa, fb, (xs_D P), (xs_W P), (xs_R P), (xs_U P), (ps_f P), (xs_C P), pa, st, us, tt, tl) ∧ v = ((nI (ps_n P)), gp, 1, (xs_D P), (xs_W P), (xs_C P), (ps_f P), (xs_R P), (xs_U P), od, ss, ws)
theorem i_up {k : Nat} {u : SX} {v : SY} (h : i_Rel k u v) : i_Rel (k + 4) u v := h
theorem rl_el {k : Nat} {u : SX} {v : SY} {Q : SX → SY → Prop} (h : ∀ P, rl_ok P → ∀ fp fl fa fb pa st us tt tl gp od ss ws, Q ((nI (ps_n P)), fp, fl, fa, fb, (xs_D P), (xs_W P), (xs_R P), (xs_U P), (ps_f P), (xs_C P), pa, st, us, tt, tl) ((nI (ps_n P)), gp, 1, (xs_D P), (xs_W P), (xs_C P), (ps_f P), (xs_R P), (xs_U P), od, ss, ws)) (I : i_Rel k u v) : Q u v := by
  obtain ⟨P, hP, fp, fl, fa, fb, pa, st, us, tt, tl, gp, od, ss, ws, e1, e2⟩ := I
  rw [e1, e2]
  exact h P hP fp fl fa fb pa st us tt tl gp od ss ws
theorem rl_in {k : Nat} {P : ps_I} (h : rl_ok P) (fp fl fa fb : Int32) (pa st us tt tl : Nat → Int32) (gp : Int32) (od ss ws : Nat → Int32) : i_Rel k ((nI (ps_n P)), fp, fl, fa, fb, (xs_D P), (xs_W P), (xs_R P), (xs_U P), (ps_f P), (xs_C P), pa, st, us, tt, tl) ((nI (ps_n P)), gp, 1, (xs_D P), (xs_W P), (xs_C P), (ps_f P), (xs_R P), (xs_U P), od, ss, ws) :=
  ⟨P, h, fp, fl, fa, fb, pa, st, us, tt, tl, gp, od, ss, ws, rfl, rfl⟩
theorem rl_new {P : ps_I} (h : rl_ok P) (hn : ps_n P < 6) {d a b : Nat} (h1 : 1 ≤ d) (h2 : d ≤ 9) (ha : a ≤ 4) (hb : b ≤ 4) : rl_ok (ps_new P d a b) := by
  refine ⟨⟨?_, fun t ht => ?_, h.1.2.2⟩, fun t ht => ?_, h.2.2⟩
  · show ps_n P + 1 ≤ 6
    omega
  · have ht : t < ps_n P + 1 := ht
    by_cases e : t = ps_n P
    · subst e
      refine ⟨?_, ?_, ?_, ?_, ?_, ?_, fun i hi => ?_⟩
      · show 1 ≤ ps_ud (ps_d P) (ps_n P) d (ps_n P)
        rw [ps_ud_s]; exact h1
      · show ps_ud (ps_d P) (ps_n P) d (ps_n P) ≤ 10
        rw [ps_ud_s]; omega
      · show ps_ud (ps_ud (ps_w P) (ps_n P * 2) a) (ps_n P * 2 + 1) b (ps_n P * 2) ≤ 4
        rw [ps_ud_n (by omega), ps_ud_s]; exact ha
      · show ps_ud (ps_ud (ps_w P) (ps_n P * 2) a) (ps_n P * 2 + 1) b (ps_n P * 2 + 1) ≤ 4
        rw [ps_ud_s]; exact hb
      · show ps_ud (ps_r P) (ps_n P) 0 (ps_n P) ≤ 20
        rw [ps_ud_s]; omega
      · show ps_ud (ps_u P) (ps_n P) 99 (ps_n P) ≤ 99
        rw [ps_ud_s]; omega
      · have hi : bt (upd (ps_f P) (ps_n P) 0 (ps_n P)) i = true := hi
        rw [pk_us, b_0] at hi
        cases hi
    · obtain ⟨g1, g2, g3, g4, g5, g6, g7⟩ := h.1.2.1 t (by omega)
      refine ⟨?_, ?_, ?_, ?_, ?_, ?_, fun i hi => ?_⟩
      · show 1 ≤ ps_ud (ps_d P) (ps_n P) d t
        rw [ps_ud_n e]; exact g1
      · show ps_ud (ps_d P) (ps_n P) d t ≤ 10
        rw [ps_ud_n e]; exact g2
      · show ps_ud (ps_ud (ps_w P) (ps_n P * 2) a) (ps_n P * 2 + 1) b (t * 2) ≤ 4
        rw [ps_ud_n (by omega), ps_ud_n (by omega)]; exact g3
      · show ps_ud (ps_ud (ps_w P) (ps_n P * 2) a) (ps_n P * 2 + 1) b (t * 2 + 1) ≤ 4
        rw [ps_ud_n (by omega), ps_ud_n (by omega)]; exact g4
      · show ps_ud (ps_r P) (ps_n P) 0 t ≤ 20
        rw [ps_ud_n e]; exact g5
      · show ps_ud (ps_u P) (ps_n P) 99 t ≤ 99
        rw [ps_ud_n e]; exact g6
      · have hi : bt (upd (ps_f P) (ps_n P) 0 t) i = true := hi
        rw [pk_un e] at hi
        exact g7 i hi
  · have ht : t < ps_n P + 1 := ht
    show ps_ud (ps_d P) (ps_n P) d t ≤ 9
    by_cases e : t = ps_n P
    · subst e
      rw [ps_ud_s]; exact h2
    · rw [ps_ud_n e]
      exact h.2.1 t (by omega)
theorem rl_sc {P : ps_I} (h : ps_ok P) {c : Nat → Nat} (h0 : 1 ≤ c 0) (h1 : c 0 ≤ 100) (h2 : 1 ≤ c 1) (h3 : c 1 ≤ 100) : ps_ok (ps_sc P c) := ⟨h.1, h.2.1, h0, h1, h2, h3⟩
theorem rl_sd {P : ps_I} (h : rl_ok P) {t v : Nat} (h1 : 1 ≤ v) (h2 : v ≤ 10) : ps_ok (ps_sd P (ps_ud (ps_d P) t v)) := by
  refine ⟨h.1.1, fun i hi => ?_, h.1.2.2⟩
  obtain ⟨g1, g2, g3, g4, g5, g6, g7⟩ := h.1.2.1 i hi
  by_cases e : i = t
  · subst e
    refine ⟨?_, ?_, g3, g4, g5, g6, g7⟩
    · show 1 ≤ ps_ud (ps_d P) i v i
      rw [ps_ud_s]; exact h1
    · show ps_ud (ps_d P) i v i ≤ 10
      rw [ps_ud_s]; exact h2
  · refine ⟨?_, ?_, g3, g4, g5, g6, g7⟩
    · show 1 ≤ ps_ud (ps_d P) t v i
      rw [ps_ud_n e]; exact g1
    · show ps_ud (ps_d P) t v i ≤ 10
      rw [ps_ud_n e]; exact g2
theorem rl_sd9 {P : ps_I} (h : rl_ok P) {t v : Nat} (h1 : 1 ≤ v) (h2 : v ≤ 9) : rl_ok (ps_sd P (ps_ud (ps_d P) t v)) := by
  refine ⟨rl_sd h h1 (by omega), fun i hi => ?_, h.2.2⟩
  show ps_ud (ps_d P) t v i ≤ 9
  by_cases e : i = t
  · subst e; rw [ps_ud_s]; exact h2
  · rw [ps_ud_n e]; exact h.2.1 i hi
theorem rl_sn {P : ps_I} (h : rl_ok P) {m : Nat} (hm : m ≤ ps_n P) : rl_ok (ps_sn P m) := by
  refine ⟨⟨?_, fun t ht => ?_, h.1.2.2⟩, fun t ht => ?_, h.2.2⟩
  · have := h.1.1
    show m ≤ 6
    omega
  · have ht : t < m := ht
    exact h.1.2.1 t (by omega)
  · have ht : t < m := ht
    exact h.2.1 t (by omega)
theorem rl_st2 {P : ps_I} (h : rl_ok P) {t r u : Nat} (h1 : r ≤ 20) (h2 : u ≤ 99) : rl_ok (ps_st2 P (ps_ud (ps_r P) t r) (ps_ud (ps_u P) t u)) := by
  refine ⟨⟨h.1.1, fun i hi => ?_, h.1.2.2⟩, h.2.1, h.2.2⟩
  obtain ⟨g1, g2, g3, g4, g5, g6, g7⟩ := h.1.2.1 i hi
  refine ⟨g1, g2, g3, g4, ?_, ?_, g7⟩
  · show ps_ud (ps_r P) t r i ≤ 20
    by_cases e : i = t
    · subst e; rw [ps_ud_s]; exact h1
    · rw [ps_ud_n e]; exact g5
  · show ps_ud (ps_u P) t u i ≤ 99
    by_cases e : i = t
    · subst e; rw [ps_ud_s]; exact h2
    · rw [ps_ud_n e]; exact g6
theorem rl_sf {P : ps_I} (h : rl_ok P) {t : Nat} {x : Int32} (hx : ∀ i, bt x i = true → i < t) : rl_ok (ps_sf P (upd (ps_f P) t x)) := by
  refine ⟨⟨h.1.1, fun i hi => ?_, h.1.2.2⟩, h.2.1, h.2.2⟩
  obtain ⟨g1, g2, g3, g4, g5, g6, g7⟩ := h.1.2.1 i hi
  refine ⟨g1, g2, g3, g4, g5, g6, fun j hj => ?_⟩
  have hj : bt (upd (ps_f P) t x i) j = true := hj
  by_cases e : i = t
  · subst e; rw [pk_us] at hj; exact hx j hj
  · rw [pk_un e] at hj; exact g7 j hj
theorem rl_sw {P : ps_I} (h : ps_ok P) {t : Nat} : ps_ok (ps_sw P (ps_ud (ps_ud (ps_w P) (t * 2) 0) (t * 2 + 1) 0)) := by
  refine ⟨h.1, fun i hi => ?_, h.2.2⟩
  obtain ⟨g1, g2, g3, g4, g5, g6, g7⟩ := h.2.1 i hi
  have hle : ∀ j, ps_ud (ps_ud (ps_w P) (t * 2) 0) (t * 2 + 1) 0 j ≤ ps_w P j := by
    intro j
    unfold ps_ud
    split
    · omega
    · split <;> omega
  exact ⟨g1, g2, Nat.le_trans (hle _) g3, Nat.le_trans (hle _) g4, g5, g6, g7⟩
end
section
/-! the owed rows: constructors and the calls that do not search -/
theorem i_vc0 : wpX_init (fun u => wpY_init (fun v => i_Rel 0 u v)) := by
  have e : upd (upd (fun _ => 0) 0 4) 1 4 = xs_C (0, (fun _ => 0), (fun _ => 0), (fun _ => 0), (fun _ => 0), (ps_ud (ps_ud (fun _ => 0) 0 4) 1 4), (fun _ => 0)) := by
    have e1 : upd (fun _ => 0) 0 4 = fun i => nI (ps_ud (fun _ => 0) 0 4 i) := xs_ud (fun _ => 0) 0 4
    rw [e1]
    exact xs_ud (ps_ud (fun _ => 0) 0 4) 1 4
  refine nm_e (nm_r e (nm_e (nm_r e ?_)))
  refine rl_in (P := (0, (fun _ => 0), (fun _ => 0), (fun _ => 0), (fun _ => 0), (ps_ud (ps_ud (fun _ => 0) 0 4) 1 4), (fun _ => 0))) ?_ 0 0 0 0 (fun _ => 0) (fun _ => 0) (fun _ => 0) (fun _ => 0) (fun _ => 0) 0 (fun _ => 0) (fun _ => 0) (fun _ => 0)
  refine ⟨⟨Nat.zero_le _, fun t ht => absurd ht (Nat.not_lt_zero _), by decide, by decide, by decide, by decide⟩, fun t ht => absurd ht (Nat.not_lt_zero _), by decide, by decide⟩
theorem rl_rng {x : Int32} (a b : Nat) (hb : b < 2147483648) (hab : a ≤ b) (h1 : ¬ x < nI a) (h2 : x ≤ nI b) : ∃ j, a ≤ j ∧ j ≤ b ∧ x = nI j := by
  rw [Int32.lt_iff_toInt_lt, nI_toInt (by omega)] at h1
  rw [Int32.le_iff_toInt_le, nI_toInt hb] at h2
  refine ⟨x.toInt.toNat, by omega, by omega, Int32.toInt_inj.mp ?_⟩
  rw [nI_toInt (by omega)]
  omega
theorem i_vc_task {k : Nat} {u : SX} {v : SY} (I : i_Rel k u v) (hk : k + 4 ≤ 2048) (v1 : Int32) (v2 : Int32) : wpX_task (fun r u' => wpY_task (fun r' v' => r' = r ∧ i_Rel (k + 4) u' v') v v1 v2) u v1 v2 := by
  refine rl_el (Q := fun u v => wpX_task (fun r u' => wpY_task (fun r' v' => r' = r ∧ i_Rel (k + 4) u' v') v v1 v2) u v1 v2) ?_ I
  intro P hP fp fl fa fb pa st us tt tl gp od ss ws
  have hR := rl_in (k := k + 4) hP fp fl fa fb pa st us tt tl gp od ss ws
  have hn := hP.1.1
  refine nm_e (nm_e ?_)
  by_cases h1 : v1 < 1
  · exact br_t h1 (br_t h1 ⟨rfl, hR⟩)
  by_cases h2 : 9 < v1
  · exact br_f h1 (br_t h2 (br_f h1 (br_t h2 ⟨rfl, hR⟩)))
  by_cases h3 : 4 < v2 &&& 7
  · exact br_f h1 (br_f h2 (br_t h3 (br_f h1 (br_f h2 (br_t h3 ⟨rfl, hR⟩)))))
  by_cases h4 : (v2 >>> ((3 : Int32) &&& 31)) &&& 7 ≤ 4
  rotate_left
  · exact br_f h1 (br_f h2 (br_f h3 (br_f h4 (br_f h1 (br_f h2 (br_f h3 (br_f h4 ⟨rfl, hR⟩)))))))
  refine br_f h1 (br_f h2 (br_f h3 (br_t h4 ?_)))
  obtain ⟨d, hd1, hd2, rfl⟩ := rl_rng (x := v1) 1 9 (by omega) (by omega) h1 (Int32.not_lt.mp h2)
  obtain ⟨a, _, ea⟩ := pk_andE v2 (m := 7) 3 (by decide)
  obtain ⟨b, _, eb⟩ := pk_andE (v2 >>> ((3 : Int32) &&& 31)) (m := 7) 3 (by decide)
  have ha : a ≤ 4 := by
    rw [ea] at h3
    rcases Nat.lt_or_ge 4 a with z | z
    · exact absurd (nI_lt (a := 4) z (by omega)) h3
    · exact z
  have hb : b ≤ 4 := by
    rw [eb] at h4
    rcases Nat.lt_or_ge 4 b with z | z
    · exact absurd h4 (nI_ge (a := 4) z (by omega))
    · exact z
  by_cases h5 : ps_n P = 6
  · have e6 : nI (ps_n P) = 6 := by rw [h5]; rfl
    refine br_f (by rw [e6]; decide) ?_
    exact br_f h1 (br_f h2 (br_f h3 (br_t h4 (br_t e6 ⟨rfl, hR⟩))))
  have hN := rl_new hP (by omega) hd1 hd2 ha hb
  have ecl : (nI (ps_n P)).toNatClampNeg = ps_n P := nI_clamp (by omega)
  have e2 : nI (ps_n P) * 2 = nI (ps_n P * 2) := pk_mul _ 2
  have e21 : nI (ps_n P) * 2 + 1 = nI (ps_n P * 2 + 1) := by rw [e2]; exact nI_1 _
  have i6 : vp_in (nI (ps_n P)) 6 := vp_in_nI (by omega) (by omega)
  have i2 : vp_in (nI (ps_n P) * 2) 12 := pk_in (ps_n P * 2) 12 (by omega) e2
  have i21 : vp_in (nI (ps_n P) * 2 + 1) 12 := pk_in (ps_n P * 2 + 1) 12 (by omega) e21
  have eD : upd (xs_D P) (nI (ps_n P)).toNatClampNeg (nI d) = xs_D (ps_new P d a b) := by rw [ecl]; exact xs_ud _ _ _
  have eW1 : upd (xs_W P) (nI (ps_n P) * 2).toNatClampNeg (v2 &&& 7) = fun i => nI (ps_ud (ps_w P) (ps_n P * 2) a i) := by rw [e2, nI_clamp (by omega), ea]; exact xs_ud _ _ _
  have eW2 : upd (fun i => nI (ps_ud (ps_w P) (ps_n P * 2) a i)) (nI (ps_n P) * 2 + 1).toNatClampNeg ((v2 >>> ((3 : Int32) &&& 31)) &&& 7) = xs_W (ps_new P d a b) := by rw [e21, nI_clamp (by omega), eb]; exact xs_ud _ _ _
  have eR : upd (xs_R P) (nI (ps_n P)).toNatClampNeg 0 = xs_R (ps_new P d a b) := by rw [ecl]; exact xs_ud _ _ 0
  have eU : upd (xs_U P) (nI (ps_n P)).toNatClampNeg 99 = xs_U (ps_new P d a b) := by rw [ecl]; exact xs_ud _ _ 99
  have eF : upd (ps_f P) (nI (ps_n P)).toNatClampNeg 0 = ps_f (ps_new P d a b) := by rw [ecl]; rfl
  have eN : nI (ps_n P) + 1 = nI (ps_n (ps_new P d a b)) := nI_1 _
  have hlt : nI (ps_n P) < 6 := nI_lt (b := 6) (by omega) (by decide)
  have hne : ¬ nI (ps_n P) = 6 := fun z => by rw [show (6 : Int32) = nI 6 from rfl, nI_eq (by omega) (by omega)] at z; exact h5 z
  refine br_t hlt ⟨i6, nm_r eD ⟨i2, nm_r eW1 ⟨i21, nm_r eW2 ⟨i6, nm_r eR ⟨i6, nm_r eU ⟨i6, nm_r eF (nm_r eN ?_)⟩⟩⟩⟩⟩⟩
  refine br_f h1 (br_f h2 (br_f h3 (br_t h4 (br_f hne ⟨i6, nm_r eD ⟨i2, nm_r eW1 ⟨i21, nm_r eW2 ⟨i6, nm_r eF ⟨i6, nm_r eR ⟨i6, nm_r eU (nm_r eN ⟨?_, ?_⟩)⟩⟩⟩⟩⟩⟩))))
  · exact nI_pred _
  · exact rl_in hN fp fl fa fb pa st us tt tl gp od ss ws
theorem i_vc_capacity {k : Nat} {u : SX} {v : SY} (I : i_Rel k u v) (hk : k + 4 ≤ 2048) (v1 : Int32) (v2 : Int32) : wpX_capacity (fun r u' => wpY_capacity (fun r' v' => r' = r ∧ i_Rel (k + 4) u' v') v v1 v2) u v1 v2 := by
  refine rl_el (Q := fun u v => wpX_capacity (fun r u' => wpY_capacity (fun r' v' => r' = r ∧ i_Rel (k + 4) u' v') v v1 v2) u v1 v2) ?_ I
  intro P hP fp fl fa fb pa st us tt tl gp od ss ws
  have hR := rl_in (k := k + 4) hP fp fl fa fb pa st us tt tl gp od ss ws
  by_cases h1 : v1 < 0
  · exact br_t h1 (br_t h1 ⟨rfl, hR⟩)
  by_cases h2 : 1 < v1
  · exact br_f h1 (br_t h2 (br_f h1 (br_t h2 ⟨rfl, hR⟩)))
  by_cases h3 : v2 < 1
  · exact br_f h1 (br_f h2 (br_t h3 (br_f h1 (br_f h2 (br_t h3 ⟨rfl, hR⟩)))))
  by_cases h4 : v2 ≤ 8
  rotate_left
  · exact br_f h1 (br_f h2 (br_f h3 (br_f h4 (br_f h1 (br_f h2 (br_f h3 (br_f h4 ⟨rfl, hR⟩)))))))
  obtain ⟨m, _, hm, rfl⟩ := rl_rng (x := v1) 0 1 (by omega) (by omega) h1 (Int32.not_lt.mp h2)
  obtain ⟨c, hc1, hc2, rfl⟩ := rl_rng (x := v2) 1 8 (by omega) (by omega) h3 h4
  have hin : vp_in (nI m) 2 := vp_in_nI (by omega) (by omega)
  have eC : upd (xs_C P) (nI m).toNatClampNeg (nI c) = xs_C (ps_sc P (ps_ud (ps_c P) m c)) := by rw [nI_clamp (by omega)]; exact xs_ud _ _ _
  have hN : rl_ok (ps_sc P (ps_ud (ps_c P) m c)) := by
    have hc := hP.1.2.2
    have hc8 := hP.2.2
    have g : ∀ i, i < 2 → 1 ≤ ps_ud (ps_c P) m c i ∧ ps_ud (ps_c P) m c i ≤ 8 := by
      intro i hi
      by_cases e : i = m
      · subst e; rw [ps_ud_s]; exact ⟨hc1, hc2⟩
      · rw [ps_ud_n e]
        have : i = 0 ∨ i = 1 := by omega
        rcases this with z | z
        · subst z; omega
        · subst z; omega
    have g0 := g 0 (by omega)
    have g1 := g 1 (by omega)
    exact ⟨rl_sc hP.1 g0.1 (by omega) g1.1 (by omega), hP.2.1, g0.2, g1.2⟩
  refine br_f h1 (br_f h2 (br_f h3 (br_t h4 ⟨hin, nm_e ⟨hin, nm_r eC ?_⟩⟩)))
  exact br_f h1 (br_f h2 (br_f h3 (br_t h4 ⟨hin, nm_e ⟨hin, nm_r eC ⟨rfl, rl_in hN fp fl fa fb pa st us tt tl gp od ss ws⟩⟩⟩)))
theorem rl_orm (x y : Int32) : (x &&& (y ^^^ (-1))) ||| y = x ||| y := by
  apply b_ext
  intro i hi
  rw [b_or, b_and, b_xor, b_or, b_m1 i hi]
  cases bt x i <;> cases bt y i <;> rfl
theorem rl_uu (f : Nat → Int32) (k : Nat) (x y : Int32) : upd (upd f k x) k y = upd f k y := by
  funext j
  show (if j = k then y else if j = k then x else f j) = if j = k then y else f j
  split <;> rfl
theorem i_vc_precede {k : Nat} {u : SX} {v : SY} (I : i_Rel k u v) (hk : k + 4 ≤ 2048) (v1 : Int32) (v2 : Int32) (v3 : Int32) : wpX_precede (fun r u' => wpY_precede (fun r' v' => r' = r ∧ i_Rel (k + 4) u' v') v v1 v2 (lw_bz v3)) u v1 v2 (lw_bz v3) := by
  refine rl_el (Q := fun u v => wpX_precede (fun r u' => wpY_precede (fun r' v' => r' = r ∧ i_Rel (k + 4) u' v') v v1 v2 (lw_bz v3)) u v1 v2 (lw_bz v3)) ?_ I
  intro P hP fp fl fa fb pa st us tt tl gp od ss ws
  have hR := rl_in (k := k + 4) hP fp fl fa fb pa st us tt tl gp od ss ws
  have hn := hP.1.1
  generalize lw_bz v3 = on
  by_cases h1 : v1 < 0
  · exact br_t h1 (br_t h1 ⟨rfl, hR⟩)
  by_cases h2 : v2 ≤ v1
  · exact br_f h1 (br_t h2 (br_f h1 (br_t h2 ⟨rfl, hR⟩)))
  refine br_f h1 (br_f h2 (xs_noTask hn (fun t ht et => ?_) (fun hno => ?_)))
  rotate_left
  · refine br_f (by decide) (br_f h1 (br_f h2 (ys_bad hn (fun t ht et => absurd et (hno t ht)) (fun _ => br_f (by decide) ⟨rfl, hR⟩))))
  subst et
  obtain ⟨a, ha, rfl⟩ := nI_of h1
  have hat : a < t := by
    rcases Nat.lt_or_ge a t with z | z
    · exact z
    · exact absurd (nI_le z ha) h2
  have ecl : (nI t).toNatClampNeg = t := nI_clamp (by omega)
  have hin : vp_in (nI t) 6 := vp_in_nI (by omega) (by omega)
  have hold := (hP.1.2.1 t ht).2.2.2.2.2.2
  have hN0 : rl_ok (ps_sf P (upd (ps_f P) t (ps_f P t &&& (((1 : Int32) <<< (nI a &&& 31)) ^^^ (-1))))) := by
    refine rl_sf hP (fun i hi => hold i ?_)
    rw [b_and, Bool.and_eq_true] at hi
    exact hi.1
  have hN1 : rl_ok (ps_sf P (upd (ps_f P) t (ps_f P t ||| ((1 : Int32) <<< (nI a &&& 31))))) := by
    refine rl_sf hP (fun i hi => ?_)
    rcases Nat.lt_or_ge i 32 with z | z
    · rw [ib_set _ a (by omega) z, Bool.or_eq_true, decide_eq_true_iff] at hi
      rcases hi with y | y
      · exact hold i y
      · omega
    · rw [b_big z] at hi; cases hi
  have e0 : upd (ps_f P) (nI t).toNatClampNeg ((ps_f P (nI t).toNatClampNeg) &&& (((1 : Int32) <<< (nI a &&& 31)) ^^^ (-1))) = upd (ps_f P) t (ps_f P t &&& (((1 : Int32) <<< (nI a &&& 31)) ^^^ (-1))) := by rw [ecl]
  have e1 : upd (upd (ps_f P) t (ps_f P t &&& (((1 : Int32) <<< (nI a &&& 31)) ^^^ (-1)))) (nI t).toNatClampNeg ((upd (ps_f P) t (ps_f P t &&& (((1 : Int32) <<< (nI a &&& 31)) ^^^ (-1)))) (nI t).toNatClampNeg ||| ((1 : Int32) <<< (nI a &&& 31))) = upd (ps_f P) t (ps_f P t ||| ((1 : Int32) <<< (nI a &&& 31))) := by
    rw [ecl, pk_us, rl_orm, rl_uu]
  have e2 : upd (ps_f P) (nI t).toNatClampNeg ((ps_f P (nI t).toNatClampNeg) ||| ((1 : Int32) <<< (nI a &&& 31))) = upd (ps_f P) t (ps_f P t ||| ((1 : Int32) <<< (nI a &&& 31))) := by rw [ecl]
  refine br_t rfl ⟨hin, nm_e ⟨hin, hin, nm_r e0 ?_⟩⟩
  by_cases ho : on = 0
  · refine br_t ho (br_f h1 (br_f h2 (ys_bad hn (fun t' ht' et' => ?_) (fun hno => absurd rfl (hno t ht)))))
    exact br_t rfl ⟨hin, nm_e (br_t ho ⟨hin, hin, nm_r e0 ⟨rfl, rl_in hN0 fp fl fa fb pa st us tt tl gp od ss ws⟩⟩)⟩
  · refine br_f ho ⟨hin, hin, nm_r e1 (br_f h1 (br_f h2 (ys_bad hn (fun t' ht' et' => ?_) (fun hno => absurd rfl (hno t ht)))))⟩
    exact br_t rfl ⟨hin, nm_e (br_f ho ⟨hin, hin, nm_r e2 ⟨rfl, rl_in hN1 fp fl fa fb pa st us tt tl gp od ss ws⟩⟩)⟩
theorem i_vc_times {k : Nat} {u : SX} {v : SY} (I : i_Rel k u v) (hk : k + 4 ≤ 2048) (v1 : Int32) (v2 : Int32) (v3 : Int32) : wpX_times (fun r u' => wpY_times (fun r' v' => r' = r ∧ i_Rel (k + 4) u' v') v v1 v2 v3) u v1 v2 v3 := by
  refine rl_el (Q := fun u v => wpX_times (fun r u' => wpY_times (fun r' v' => r' = r ∧ i_Rel (k + 4) u' v') v v1 v2 v3) u v1 v2 v3) ?_ I
  intro P hP fp fl fa fb pa st us tt tl gp od ss ws
  have hR := rl_in (k := k + 4) hP fp fl fa fb pa st us tt tl gp od ss ws
  have hn := hP.1.1
  unfold wpX_times wpY_times
  refine xs_noTask hn (fun t ht et => ?_) (fun hno => ?_)
  rotate_left
  · exact br_f (by decide) (ys_bad hn (fun t ht et => absurd et (hno t ht)) (fun _ => br_f (by decide) ⟨rfl, hR⟩))
  subst et
  refine br_t rfl ?_
  by_cases h1 : v2 < 0
  · exact br_t h1 (ys_bad hn (fun t' ht' et' => br_t rfl (br_t h1 ⟨rfl, hR⟩)) (fun hno => absurd rfl (hno t ht)))
  by_cases h2 : 20 < v2
  · exact br_f h1 (br_t h2 (ys_bad hn (fun t' ht' et' => br_t rfl (br_f h1 (br_t h2 ⟨rfl, hR⟩))) (fun hno => absurd rfl (hno t ht))))
  by_cases h3 : v3 < 0
  · exact br_f h1 (br_f h2 (br_t h3 (ys_bad hn (fun t' ht' et' => br_t rfl (br_f h1 (br_f h2 (br_t h3 ⟨rfl, hR⟩)))) (fun hno => absurd rfl (hno t ht)))))
  by_cases h4 : v3 ≤ 99
  rotate_left
  · exact br_f h1 (br_f h2 (br_f h3 (br_f h4 (ys_bad hn (fun t' ht' et' => br_t rfl (br_f h1 (br_f h2 (br_f h3 (br_f h4 ⟨rfl, hR⟩))))) (fun hno => absurd rfl (hno t ht))))))
  obtain ⟨r, _, hr, rfl⟩ := rl_rng (x := v2) 0 20 (by omega) (by omega) h1 (Int32.not_lt.mp h2)
  obtain ⟨d, _, hd, rfl⟩ := rl_rng (x := v3) 0 99 (by omega) (by omega) h3 h4
  have hin : vp_in (nI t) 6 := vp_in_nI (by omega) (by omega)
  have hN := rl_st2 (t := t) hP hr hd
  have eR : upd (xs_R P) (nI t).toNatClampNeg (nI r) = xs_R (ps_st2 P (ps_ud (ps_r P) t r) (ps_ud (ps_u P) t d)) := by rw [nI_clamp (by omega)]; exact xs_ud _ _ _
  have eU : upd (xs_U P) (nI t).toNatClampNeg (nI d) = xs_U (ps_st2 P (ps_ud (ps_r P) t r) (ps_ud (ps_u P) t d)) := by rw [nI_clamp (by omega)]; exact xs_ud _ _ _
  refine br_f h1 (br_f h2 (br_f h3 (br_t h4 ⟨hin, nm_r eR ⟨hin, nm_r eU (ys_bad hn (fun t' ht' et' => ?_) (fun hno => absurd rfl (hno t ht)))⟩⟩)))
  exact br_t rfl (br_f h1 (br_f h2 (br_f h3 (br_t h4 ⟨hin, nm_r eR ⟨hin, nm_r eU ⟨rfl, rl_in hN fp fl fa fb pa st us tt tl gp od ss ws⟩⟩⟩))))
theorem i_vc_stretch {k : Nat} {u : SX} {v : SY} (I : i_Rel k u v) (hk : k + 4 ≤ 2048) (v1 : Int32) (v2 : Int32) : wpX_stretch (fun r u' => wpY_stretch (fun r' v' => r' = r ∧ i_Rel (k + 4) u' v') v v1 v2) u v1 v2 := by
  refine rl_el (Q := fun u v => wpX_stretch (fun r u' => wpY_stretch (fun r' v' => r' = r ∧ i_Rel (k + 4) u' v') v v1 v2) u v1 v2) ?_ I
  intro P hP fp fl fa fb pa st us tt tl gp od ss ws
  have hR := rl_in (k := k + 4) hP fp fl fa fb pa st us tt tl gp od ss ws
  have hn := hP.1.1
  unfold wpX_stretch wpY_stretch
  refine xs_noTask hn (fun t ht et => ?_) (fun hno => ?_)
  rotate_left
  · exact br_f (by decide) (ys_bad hn (fun t ht et => absurd et (hno t ht)) (fun _ => br_f (by decide) ⟨rfl, hR⟩))
  subst et
  refine br_t rfl ?_
  by_cases h1 : v2 < 1
  · exact br_t h1 (ys_bad hn (fun t' ht' et' => br_t rfl (br_t h1 ⟨rfl, hR⟩)) (fun hno => absurd rfl (hno t ht)))
  by_cases h4 : v2 ≤ 9
  rotate_left
  · exact br_f h1 (br_f h4 (ys_bad hn (fun t' ht' et' => br_t rfl (br_f h1 (br_f h4 ⟨rfl, hR⟩))) (fun hno => absurd rfl (hno t ht))))
  obtain ⟨d, hd1, hd2, rfl⟩ := rl_rng (x := v2) 1 9 (by omega) (by omega) h1 h4
  have hin : vp_in (nI t) 6 := vp_in_nI (by omega) (by omega)
  have hN := rl_sd9 (t := t) hP hd1 hd2
  have eD : upd (xs_D P) (nI t).toNatClampNeg (nI d) = xs_D (ps_sd P (ps_ud (ps_d P) t d)) := by rw [nI_clamp (by omega)]; exact xs_ud _ _ _
  refine br_f h1 (br_t h4 ⟨hin, nm_e ⟨hin, nm_r eD (ys_bad hn (fun t' ht' et' => ?_) (fun hno => absurd rfl (hno t ht)))⟩⟩)
  exact br_t rfl (br_f h1 (br_t h4 ⟨hin, nm_e ⟨hin, nm_r eD ⟨rfl, rl_in hN fp fl fa fb pa st us tt tl gp od ss ws⟩⟩⟩))
theorem i_vc_drop {k : Nat} {u : SX} {v : SY} (I : i_Rel k u v) (hk : k + 4 ≤ 2048) : wpX_drop (fun r u' => wpY_drop (fun r' v' => r' = r ∧ i_Rel (k + 4) u' v') v) u := by
  refine rl_el (Q := fun u v => wpX_drop (fun r u' => wpY_drop (fun r' v' => r' = r ∧ i_Rel (k + 4) u' v') v) u) ?_ I
  intro P hP fp fl fa fb pa st us tt tl gp od ss ws
  have hR := rl_in (k := k + 4) hP fp fl fa fb pa st us tt tl gp od ss ws
  have hn := hP.1.1
  by_cases h : nI (ps_n P) = 0
  · exact br_t h (br_t h ⟨rfl, hR⟩)
  have h0 : 0 < ps_n P := by
    rcases Nat.eq_zero_or_pos (ps_n P) with z | z
    · rw [z] at h; exact absurd rfl h
    · exact z
  have e : nI (ps_n P) - 1 = nI (ps_n (ps_sn P (ps_n P - 1))) := pk_sub (b := 1) h0
  have hN := rl_sn hP (m := ps_n P - 1) (by omega)
  exact br_f h (nm_r e (br_f h (nm_r e ⟨rfl, rl_in hN fp fl fa fb pa st us tt tl gp od ss ws⟩)))
end
section
/-! the owed rows: calls that search once or twice -/
section
variable {P : ps_I} {fp fl fa fb : Int32} {pa st us tt tl : Nat → Int32}
theorem xs_search0 {post : Int32 → SX → Prop} (hk : ps_ok P) (h : ∀ fp fl fa fb pa st us tt tl, post (iI (ps_vv P 0)) ((nI (ps_n P)), fp, fl, fa, fb, (xs_D P), (xs_W P), (xs_R P), (xs_U P), (ps_f P), (xs_C P), pa, st, us, tt, tl)) : wpX_search post ((nI (ps_n P)), fp, fl, fa, fb, (xs_D P), (xs_W P), (xs_R P), (xs_U P), (ps_f P), (xs_C P), pa, st, us, tt, tl) (-1) := xs_search (am := 0) hk (by omega) h
end
theorem i_vc_shortest {k : Nat} {u : SX} {v : SY} (I : i_Rel k u v) (hk : k + 4 ≤ 2048) : wpX_shortest (fun r u' => wpY_shortest (fun r' v' => r' = r ∧ i_Rel (k + 4) u' v') v) u := by
  refine rl_el (Q := fun u v => wpX_shortest (fun r u' => wpY_shortest (fun r' v' => r' = r ∧ i_Rel (k + 4) u' v') v) u) ?_ I
  intro P hP fp fl fa fb pa st us tt tl gp od ss ws
  unfold wpX_shortest
  refine xs_search0 hP.1 (fun fp fl fa fb pa st us tt tl => ?_)
  exact ys_shortest hP.1 (fun gp od ss ws => ⟨rfl, rl_in hP fp fl fa fb pa st us tt tl gp od ss ws⟩)
theorem i_vc_leastLateness {k : Nat} {u : SX} {v : SY} (I : i_Rel k u v) (hk : k + 4 ≤ 2048) : wpX_leastLateness (fun r u' => wpY_leastLateness (fun r' v' => r' = r ∧ i_Rel (k + 4) u' v') v) u := by
  refine rl_el (Q := fun u v => wpX_leastLateness (fun r u' => wpY_leastLateness (fun r' v' => r' = r ∧ i_Rel (k + 4) u' v') v) u) ?_ I
  intro P hP fp fl fa fb pa st us tt tl gp od ss ws
  unfold wpX_leastLateness wpY_leastLateness
  refine xs_search (am := 1) hP.1 (by omega) (fun fp fl fa fb pa st us tt tl => ?_)
  refine ys_feasible hP.1 (fun c => ?_) (fun c => ?_)
  · exact br_f (by decide) (ys_search (am := 1) hP.1 c (Or.inl ⟨rfl, rfl, rfl⟩) (by omega) (fun gp od ss ws => ⟨rfl, rl_in hP fp fl fa fb pa st us tt tl gp od ss ws⟩))
  · have e : (-1000 : Int) = ps_vv P 1 := ps_vv_e (Or.inl ⟨c, rfl⟩)
    exact br_t rfl ⟨by rw [← e]; exact iI_m1000, rl_in hP fp fl fa fb pa st us tt tl gp od ss ws⟩
theorem i_vc_earliestEnd {k : Nat} {u : SX} {v : SY} (I : i_Rel k u v) (hk : k + 4 ≤ 2048) (v1 : Int32) : wpX_earliestEnd (fun r u' => wpY_earliestEnd (fun r' v' => r' = r ∧ i_Rel (k + 4) u' v') v v1) u v1 := by
  refine rl_el (Q := fun u v => wpX_earliestEnd (fun r u' => wpY_earliestEnd (fun r' v' => r' = r ∧ i_Rel (k + 4) u' v') v v1) u v1) ?_ I
  intro P hP fp fl fa fb pa st us tt tl gp od ss ws
  have hn := hP.1.1
  unfold wpX_earliestEnd wpY_earliestEnd
  refine xs_noTask hn (fun t ht et => ?_) (fun hno => ?_)
  rotate_left
  · exact br_f (by decide) (ys_bad hn (fun t ht et => absurd et (hno t ht)) (fun _ => br_f (by decide) ⟨rfl, rl_in hP fp fl fa fb pa st us tt tl gp od ss ws⟩))
  subst et
  rw [← xs_A2 t]
  refine br_t rfl (xs_search (am := t + 2) hP.1 (by omega) (fun fp fl fa fb pa st us tt tl => ?_))
  refine ys_bad hn (fun t' ht' et' => ?_) (fun hno => absurd (xs_A2 t) (hno t ht))
  refine br_t rfl (ys_feasible hP.1 (fun c => ?_) (fun c => ?_))
  · exact br_f (by decide) (ys_search (am := t + 2) hP.1 c (Or.inl ⟨rfl, rfl, rfl⟩) (by omega) (fun gp od ss ws => ⟨rfl, rl_in hP fp fl fa fb pa st us tt tl gp od ss ws⟩))
  · have e : (-1000 : Int) = ps_vv P (t + 2) := ps_vv_e (Or.inl ⟨c, rfl⟩)
    exact br_t rfl ⟨by rw [← e]; exact iI_m1000, rl_in hP fp fl fa fb pa st us tt tl gp od ss ws⟩
theorem i_vc_withoutLimits {k : Nat} {u : SX} {v : SY} (I : i_Rel k u v) (hk : k + 4 ≤ 2048) : wpX_withoutLimits (fun r u' => wpY_withoutLimits (fun r' v' => r' = r ∧ i_Rel (k + 4) u' v') v) u := by
  refine rl_el (Q := fun u v => wpX_withoutLimits (fun r u' => wpY_withoutLimits (fun r' v' => r' = r ∧ i_Rel (k + 4) u' v') v) u) ?_ I
  intro P hP fp fl fa fb pa st us tt tl gp od ss ws
  unfold wpX_withoutLimits wpY_withoutLimits
  refine xs_impossible hP.1 (fun c => ?_) (fun c => ?_)
  · exact br_f (by decide) (ys_feasible hP.1 (fun c' => absurd c' c) (fun _ => br_t rfl ⟨rfl, rl_in hP fp fl fa fb pa st us tt tl gp od ss ws⟩))
  have eC : upd (upd (xs_C P) 0 100) 1 100 = xs_C (ps_sc P (ps_ud (ps_ud (ps_c P) 0 100) 1 100)) := by
    have e1 : upd (xs_C P) 0 100 = fun i => nI (ps_ud (ps_c P) 0 100 i) := xs_ud (ps_c P) 0 100
    rw [e1]
    exact xs_ud (ps_ud (ps_c P) 0 100) 1 100
  have eB : upd (upd (xs_C (ps_sc P (ps_ud (ps_ud (ps_c P) 0 100) 1 100))) 0 (xs_C P 0)) 1 (xs_C P 1) = xs_C P := by
    rw [← eC]
    funext j
    by_cases e1 : j = 1
    · subst e1; rw [pk_us]
    · rw [pk_un e1]
      by_cases e0 : j = 0
      · subst e0; rw [pk_us]
      · rw [pk_un e0, pk_un e1, pk_un e0]
  have hk' : ps_ok (ps_sc P (ps_ud (ps_ud (ps_c P) 0 100) 1 100)) := rl_sc hP.1 (show 1 ≤ 100 by decide) (show 100 ≤ 100 by decide) (show 1 ≤ 100 by decide) (show 100 ≤ 100 by decide)
  have hf' : ps_fe (ps_sc P (ps_ud (ps_ud (ps_c P) 0 100) 1 100)) := by
    refine ⟨c.1, fun t ht => ?_⟩
    obtain ⟨_, _, h1, h2, _, _, _⟩ := hP.1.2.1 t ht
    exact ⟨Nat.le_trans h1 (show 4 ≤ 100 by decide), Nat.le_trans h2 (show 4 ≤ 100 by decide)⟩
  refine br_t rfl (nm_e (nm_e (nm_e (nm_r eC (xs_search0 (P := ps_sc P (ps_ud (ps_ud (ps_c P) 0 100) 1 100)) hk' (fun fp fl fa fb pa st us tt tl => nm_e (nm_r eB ?_)))))))
  refine ys_feasible hP.1 (fun _ => ?_) (fun c' => absurd c c')
  exact br_f (by decide) (ys_search (P := ps_sc P (ps_ud (ps_ud (ps_c P) 0 100) 1 100)) (am := 0) hk' hf' (Or.inr ⟨rfl, rfl, rfl⟩) (by omega) (fun gp od ss ws => ⟨rfl, rl_in hP fp fl fa fb pa st us tt tl gp od ss ws⟩))
theorem i_vc_burden {k : Nat} {u : SX} {v : SY} (I : i_Rel k u v) (hk : k + 4 ≤ 2048) (v1 : Int32) : wpX_burden (fun r u' => wpY_burden (fun r' v' => r' = r ∧ i_Rel (k + 4) u' v') v v1) u v1 := by
  refine rl_el (Q := fun u v => wpX_burden (fun r u' => wpY_burden (fun r' v' => r' = r ∧ i_Rel (k + 4) u' v') v v1) u v1) ?_ I
  intro P hP fp fl fa fb pa st us tt tl gp od ss ws
  have hn := hP.1.1
  unfold wpX_burden wpY_burden
  refine xs_noTask hn (fun t ht et => ?_) (fun hno => ?_)
  rotate_left
  · exact br_f (by decide) (ys_bad hn (fun t ht et => absurd et (hno t ht)) (fun _ => br_f (by decide) ⟨rfl, rl_in hP fp fl fa fb pa st us tt tl gp od ss ws⟩))
  subst et
  refine br_t rfl (xs_search0 hP.1 (fun fp fl fa fb pa st us tt tl => ?_))
  by_cases z : iI (ps_vv P 0) = -1000
  · refine br_t z (ys_bad hn (fun t' ht' et' => br_t rfl ?_) (fun hno => absurd rfl (hno t ht)))
    exact ys_shortest hP.1 (fun gp od ss ws => br_t z ⟨rfl, rl_in hP fp fl fa fb pa st us tt tl gp od ss ws⟩)
  have e2 : nI t * 2 = nI (t * 2) := pk_mul _ 2
  have e21 : nI t * 2 + 1 = nI (t * 2 + 1) := by rw [e2]; exact nI_1 _
  have i2 : vp_in (nI t * 2) 12 := pk_in (t * 2) 12 (by omega) e2
  have i21 : vp_in (nI t * 2 + 1) 12 := pk_in (t * 2 + 1) 12 (by omega) e21
  have c2 : (nI t * 2).toNatClampNeg = t * 2 := by rw [e2]; exact nI_clamp (by omega)
  have c21 : (nI t * 2 + 1).toNatClampNeg = t * 2 + 1 := by rw [e21]; exact nI_clamp (by omega)
  have hk' : ps_ok (ps_sw P (ps_ud (ps_ud (ps_w P) (t * 2) 0) (t * 2 + 1) 0)) := rl_sw hP.1
  have eW1 : upd (xs_W P) (nI t * 2).toNatClampNeg 0 = fun i => nI (ps_ud (ps_w P) (t * 2) 0 i) := by rw [c2]; exact xs_ud (ps_w P) (t * 2) 0
  have eW2 : upd (fun i => nI (ps_ud (ps_w P) (t * 2) 0 i)) (nI t * 2 + 1).toNatClampNeg 0 = xs_W (ps_sw P (ps_ud (ps_ud (ps_w P) (t * 2) 0) (t * 2 + 1) 0)) := by rw [c21]; exact xs_ud (ps_ud (ps_w P) (t * 2) 0) (t * 2 + 1) 0
  have eB : upd (upd (xs_W (ps_sw P (ps_ud (ps_ud (ps_w P) (t * 2) 0) (t * 2 + 1) 0))) (nI t * 2).toNatClampNeg (xs_W P (nI t * 2).toNatClampNeg)) (nI t * 2 + 1).toNatClampNeg (xs_W P (nI t * 2 + 1).toNatClampNeg) = xs_W P := by
    rw [← eW2, ← eW1, c2, c21]
    funext j
    by_cases e1 : j = t * 2 + 1
    · subst e1; rw [pk_us]
    · rw [pk_un e1]
      by_cases e0 : j = t * 2
      · subst e0; rw [pk_us]
      · rw [pk_un e0, pk_un e1, pk_un e0]
  refine br_f z ⟨i2, nm_e ⟨i21, nm_e ⟨i2, nm_r eW1 ⟨i21, nm_r eW2 (xs_search0 (P := ps_sw P (ps_ud (ps_ud (ps_w P) (t * 2) 0) (t * 2 + 1) 0)) hk' (fun fp fl fa fb pa st us tt tl => ⟨i2, nm_e ⟨i21, nm_r eB ?_⟩⟩))⟩⟩⟩⟩
  refine ys_bad hn (fun t' ht' et' => br_t rfl ?_) (fun hno => absurd rfl (hno t ht))
  refine ys_shortest hP.1 (fun gp od ss ws => br_f z ⟨i2, nm_e ⟨i21, nm_e ⟨i2, nm_r eW1 ⟨i21, nm_r eW2 ?_⟩⟩⟩⟩)
  exact ys_shortest (P := ps_sw P (ps_ud (ps_ud (ps_w P) (t * 2) 0) (t * 2 + 1) 0)) hk' (fun gp od ss ws => ⟨i2, nm_e ⟨i21, nm_r eB ⟨rfl, rl_in hP fp fl fa fb pa st us tt tl gp od ss ws⟩⟩⟩)
end
section
/-! the owed rows: critical -/
/-- task t one longer -/
def rl_P1 (P : ps_I) (t : Nat) : ps_I := ps_sd P (ps_ud (ps_d P) t (ps_d P t + 1))
noncomputable def rl_cn (P : ps_I) (now : Int) : Nat → Nat := ps_sm (fun t => if now < ps_vv (rl_P1 P t) 0 then 1 else 0)
theorem rl_cn_s (P : ps_I) (now : Int) (i : Nat) : rl_cn P now (i + 1) = rl_cn P now i + if now < ps_vv (rl_P1 P i) 0 then 1 else 0 := rfl
theorem rl_P1_ok {P : ps_I} (hP : rl_ok P) {t : Nat} (ht : t < ps_n P) : ps_ok (rl_P1 P t) := by
  have := hP.2.1 t ht
  exact rl_sd hP (by omega) (by omega)
theorem rl_P1_u {P : ps_I} {i : Nat} (hi : i < 6) : upd (xs_D P) (nI i).toNatClampNeg (xs_D P (nI i).toNatClampNeg + 1) = xs_D (rl_P1 P i) := by
  rw [nI_clamp (by omega)]
  have e : xs_D P i + 1 = nI (ps_d P i + 1) := nI_1 _
  rw [e]
  exact xs_ud (ps_d P) i (ps_d P i + 1)
theorem rl_P1_b {P : ps_I} {i : Nat} (hi : i < 6) : upd (xs_D (rl_P1 P i)) (nI i).toNatClampNeg (xs_D (rl_P1 P i) (nI i).toNatClampNeg - 1) = xs_D P := by
  rw [← rl_P1_u hi, nI_clamp (by omega), pk_us]
  have e : xs_D P i + 1 - 1 = xs_D P i := Int32.add_sub_cancel _ _
  rw [e]
  funext j
  by_cases e1 : j = i
  · subst e1; rw [pk_us]
  · rw [pk_un e1, pk_un e1]
theorem xs_crit {P : ps_I} {post : Int32 → SX → Prop} (hP : rl_ok P) {now : Int} (n1 : -100000 ≤ now) (n2 : now ≤ 100000) (H : ∀ fp fl fa fb pa st us tt tl, post (nI (rl_cn P now (ps_n P))) ((nI (ps_n P)), fp, fl, fa, fb, (xs_D P), (xs_W P), (xs_R P), (xs_U P), (ps_f P), (xs_C P), pa, st, us, tt, tl)) : ∀ k i m fp fl fa fb pa st us tt tl, i + k = ps_n P → k < m → wX_critical_21 post (iI now) m (nI (rl_cn P now i)) (nI i) (nI (ps_n P)) fp fl fa fb (xs_D P) (xs_W P) (xs_R P) (xs_U P) (ps_f P) (xs_C P) pa st us tt tl := by
  have hn := hP.1.1
  intro k
  induction k with
  | zero =>
    intro i m fp fl fa fb pa st us tt tl hi hm
    obtain ⟨m, rfl, _⟩ := xb_sc hm
    have e : i = ps_n P := by omega
    subst e
    exact br_t (nI_le (Nat.le_refl _) (by omega)) (H _ _ _ _ _ _ _ _ _)
  | succ k ih =>
    intro i m fp fl fa fb pa st us tt tl hi hm
    obtain ⟨m, rfl, hm'⟩ := xb_sc hm
    have hin : vp_in (nI i) 6 := vp_in_nI (by omega) (by omega)
    have hk1 := rl_P1_ok hP (t := i) (by omega)
    have hr := ps_vv_r hk1 0
    refine br_f (nI_ge (by omega) (by omega)) ⟨hin, hin, nm_r (rl_P1_u (by omega)) (xs_search0 (P := rl_P1 P i) hk1 (fun fp fl fa fb pa st us tt tl => ?_))⟩
    have I := ih (i + 1) m fp fl fa fb pa st us tt tl (by omega) (by omega)
    rw [rl_cn_s] at I
    refine xb_if (iI_le (by omega) (by omega) (by omega) (by omega)) (fun z => ?_) (fun z => ?_)
    · rw [if_neg (by omega)] at I
      exact And.intro hin (And.intro hin (nm_r (rl_P1_b (by omega)) (nm_r (nI_1 i) I)))
    · rw [if_pos (by omega)] at I
      exact nm_r (nI_1 _) (And.intro hin (And.intro hin (nm_r (rl_P1_b (by omega)) (nm_r (nI_1 i) I))))
theorem ys_crit {P : ps_I} {post : Int32 → SY → Prop} (hP : rl_ok P) {now : Int} (n1 : -100000 ≤ now) (n2 : now ≤ 100000) (H : ∀ gp od ss ws, post (nI (rl_cn P now (ps_n P))) ((nI (ps_n P)), gp, 1, (xs_D P), (xs_W P), (xs_C P), (ps_f P), (xs_R P), (xs_U P), od, ss, ws)) : ∀ k i m gp od ss ws, i + k = ps_n P → k < m → wY_critical_20 post (iI now) m (nI (rl_cn P now i)) (nI i) (nI (ps_n P)) gp 1 (xs_D P) (xs_W P) (xs_C P) (ps_f P) (xs_R P) (xs_U P) od ss ws := by
  have hn := hP.1.1
  intro k
  induction k with
  | zero =>
    intro i m gp od ss ws hi hm
    obtain ⟨m, rfl, _⟩ := xb_sc hm
    have e : i = ps_n P := by omega
    subst e
    exact br_t (nI_le (Nat.le_refl _) (by omega)) (H _ _ _ _)
  | succ k ih =>
    intro i m gp od ss ws hi hm
    obtain ⟨m, rfl, hm'⟩ := xb_sc hm
    have hin : vp_in (nI i) 6 := vp_in_nI (by omega) (by omega)
    have hk1 := rl_P1_ok hP (t := i) (by omega)
    have hr := ps_vv_r hk1 0
    refine br_f (nI_ge (by omega) (by omega)) ⟨hin, hin, nm_r (rl_P1_u (by omega)) (ys_shortest (P := rl_P1 P i) hk1 (fun gp od ss ws => ?_))⟩
    have I := ih (i + 1) m gp od ss ws (by omega) (by omega)
    rw [rl_cn_s] at I
    refine xb_if (iI_le (by omega) (by omega) (by omega) (by omega)) (fun z => ?_) (fun z => ?_)
    · rw [if_neg (by omega)] at I
      exact And.intro hin (And.intro hin (nm_r (rl_P1_b (by omega)) (nm_r (nI_1 i) I)))
    · rw [if_pos (by omega)] at I
      exact nm_r (nI_1 _) (And.intro hin (And.intro hin (nm_r (rl_P1_b (by omega)) (nm_r (nI_1 i) I))))
theorem i_vc_critical {k : Nat} {u : SX} {v : SY} (I : i_Rel k u v) (hk : k + 4 ≤ 2048) : wpX_critical (fun r u' => wpY_critical (fun r' v' => r' = r ∧ i_Rel (k + 4) u' v') v) u := by
  refine rl_el (Q := fun u v => wpX_critical (fun r u' => wpY_critical (fun r' v' => r' = r ∧ i_Rel (k + 4) u' v') v) u) ?_ I
  intro P hP fp fl fa fb pa st us tt tl gp od ss ws
  have hr := ps_vv_r hP.1 0
  unfold wpX_critical wpY_critical
  refine xs_search0 hP.1 (fun fp fl fa fb pa st us tt tl => ?_)
  by_cases z : iI (ps_vv P 0) = -1000
  · exact br_t z (ys_shortest hP.1 (fun gp od ss ws => br_t z ⟨rfl, rl_in hP fp fl fa fb pa st us tt tl gp od ss ws⟩))
  · refine br_f z ⟨ps_n P + 1, xs_crit hP hr.1 hr.2 (fun fp fl fa fb pa st us tt tl => ?_) (ps_n P) 0 (ps_n P + 1) fp fl fa fb pa st us tt tl (by omega) (by omega)⟩
    refine ys_shortest hP.1 (fun gp od ss ws => br_f z ⟨ps_n P + 1, ys_crit hP hr.1 hr.2 (fun gp od ss ws => ?_) (ps_n P) 0 (ps_n P + 1) gp od ss ws (by omega) (by omega)⟩)
    exact ⟨rfl, rl_in hP fp fl fa fb pa st us tt tl gp od ss ws⟩
end
section
/-! the owed rows: leastCapacity -/
def rl_PC (P : ps_I) (m c : Nat) : ps_I := ps_sc P (ps_ud (ps_c P) m c)
theorem rl_PC_ok {P : ps_I} (hP : rl_ok P) {m c : Nat} (h1 : 1 ≤ c) (h2 : c ≤ 8) : ps_ok (rl_PC P m c) := by
  have hc := hP.1.2.2
  have g : ∀ i, (1 ≤ ps_c P i ∧ ps_c P i ≤ 100) → 1 ≤ ps_ud (ps_c P) m c i ∧ ps_ud (ps_c P) m c i ≤ 100 := by
    intro i hi
    by_cases e : i = m
    · subst e; rw [ps_ud_s]; omega
    · rw [ps_ud_n e]; exact hi
  have g0 := g 0 ⟨hc.1, hc.2.1⟩
  have g1 := g 1 ⟨hc.2.2.1, hc.2.2.2⟩
  exact rl_sc hP.1 g0.1 g0.2 g1.1 g1.2
theorem rl_PC_own (P : ps_I) (m : Nat) : rl_PC P m (ps_c P m) = P := by
  have e : ps_ud (ps_c P) m (ps_c P m) = ps_c P := by
    funext j
    by_cases z : j = m
    · subst z; rw [ps_ud_s]
    · rw [ps_ud_n z]
  unfold rl_PC
  rw [e]
  rfl
theorem rl_PC_u {P : ps_I} {m c c' : Nat} (hm : m < 2) : upd (xs_C (rl_PC P m c)) (nI m).toNatClampNeg (nI c') = xs_C (rl_PC P m c') := by
  rw [nI_clamp (by omega)]
  funext j
  by_cases z : j = m
  · subst z
    rw [pk_us]
    show _ = nI (ps_ud (ps_c P) j c' j)
    rw [ps_ud_s]
  · rw [pk_un z]
    show nI (ps_ud (ps_c P) m c j) = nI (ps_ud (ps_c P) m c' j)
    rw [ps_ud_n z, ps_ud_n z]
theorem rl_PC_b {P : ps_I} {m c : Nat} (hm : m < 2) : upd (xs_C (rl_PC P m c)) (nI m).toNatClampNeg (nI (ps_c P m)) = xs_C P := by
  rw [rl_PC_u hm, rl_PC_own]
/-- the length with capacity c of means m -/
noncomputable def rl_V (P : ps_I) (m c : Nat) : Int := ps_vv (rl_PC P m c) 0
theorem rl_V_own (P : ps_I) (m : Nat) : rl_V P m (ps_c P m) = ps_vv P 0 := by unfold rl_V; rw [rl_PC_own]
theorem rl_V_mono {P : ps_I} (hP : rl_ok P) {m c c' : Nat} (h1 : 1 ≤ c) (h : c ≤ c') (h2 : c' ≤ 8) (hv : rl_V P m c ≠ -1000) : rl_V P m c' ≠ -1000 ∧ rl_V P m c' ≤ rl_V P m c := by
  have hk := rl_PC_ok hP (m := m) h1 (show c ≤ 8 by omega)
  have hk' := rl_PC_ok hP (m := m) (show 1 ≤ c' by omega) h2
  have hle : ∀ i, ps_c (rl_PC P m c) i ≤ ps_c (rl_PC P m c') i := by
    intro i
    show ps_ud (ps_c P) m c i ≤ ps_ud (ps_c P) m c' i
    by_cases e : i = m
    · subst e; rw [ps_ud_s, ps_ud_s]; exact h
    · rw [ps_ud_n e, ps_ud_n e]; exact Nat.le_refl _
  have ha := ps_as_x hk 0
  have ha' := ps_as_x hk' 0
  have hmo := ps_as_mono hk (P' := rl_PC P m c') rfl rfl rfl rfl rfl (hle 0) (hle 1) ha ha' hv
  refine ⟨?_, hmo⟩
  rcases ps_as_0 hk ha with ⟨_, e⟩ | ⟨hf, _⟩
  · exact absurd e hv
  · have hf' : ps_fe (rl_PC P m c') := ⟨hf.1, fun t ht => ⟨Nat.le_trans (hf.2 t ht).1 (hle 0), Nat.le_trans (hf.2 t ht).2 (hle 1)⟩⟩
    rcases ps_as_0 hk' ha' with ⟨hn, _⟩ | ⟨_, h3, _⟩
    · exact absurd hf' hn
    · unfold rl_V
      omega
/-- X's answer: down to l all hold, and no further -/
def rl_XL (P : ps_I) (m l : Nat) : Prop := 1 ≤ l ∧ l ≤ ps_c P m ∧ (∀ c, l ≤ c → c ≤ ps_c P m → rl_V P m c = ps_vv P 0) ∧ (l = 1 ∨ rl_V P m (l - 1) ≠ ps_vv P 0)
/-- Y's answer among those above j: the least that holds -/
def rl_YL (P : ps_I) (m j : Nat) (x : Int32) : Prop := j < ps_c P m → ∃ l, x = nI l ∧ j < l ∧ l ≤ ps_c P m ∧ rl_V P m l = ps_vv P 0 ∧ ∀ c, j < c → c ≤ ps_c P m → rl_V P m c = ps_vv P 0 → l ≤ c
theorem rl_XY {P : ps_I} (hP : rl_ok P) {m l : Nat} {x : Int32} (hc : 1 ≤ ps_c P m ∧ ps_c P m ≤ 8) (hv : ps_vv P 0 ≠ -1000) (hx : rl_XL P m l) (hy : rl_YL P m 0 x) : x = nI l := by
  obtain ⟨a, e, a1, a2, a3, a4⟩ := hy (by omega)
  obtain ⟨b1, b2, b3, b4⟩ := hx
  have h1 : a ≤ l := a4 l (by omega) b2 (b3 l (Nat.le_refl _) b2)
  have h2 : ¬ a < l := by
    intro z
    rcases b4 with y | y
    · omega
    · apply y
      have c1 := rl_V_mono hP (m := m) (c := a) (c' := l - 1) (by omega) (by omega) (by omega) (by rw [a3]; exact hv)
      have c2 := rl_V_mono hP (m := m) (c := l - 1) (c' := ps_c P m) (by omega) (by omega) (by omega) c1.1
      rw [rl_V_own] at c2
      rw [a3] at c1
      exact Int.le_antisymm c1.2 c2.2
  have h3 : a = l := by omega
  rw [e, h3]
theorem xs_lc {P : ps_I} {post : Int32 → SX → Prop} (hP : rl_ok P) {m : Nat} (hm : m < 2) (hc : 1 ≤ ps_c P m ∧ ps_c P m ≤ 8) (H : ∀ l fp fl fa fb pa st us tt tl, rl_XL P m l → post (nI l) ((nI (ps_n P)), fp, fl, fa, fb, (xs_D P), (xs_W P), (xs_R P), (xs_U P), (ps_f P), (xs_C P), pa, st, us, tt, tl)) : ∀ l f c fp fl fa fb pa st us tt tl, 1 ≤ l → l ≤ ps_c P m → l + 1 < f → (∀ c, l ≤ c → c ≤ ps_c P m → rl_V P m c = ps_vv P 0) → wX_leastCapacity_42 post (nI m) (iI (ps_vv P 0)) (nI (ps_c P m)) f (nI l) 1 (nI (ps_n P)) fp fl fa fb (xs_D P) (xs_W P) (xs_R P) (xs_U P) (ps_f P) (xs_C (rl_PC P m c)) pa st us tt tl := by
  have hin : vp_in (nI m) 2 := vp_in_nI hm (by omega)
  intro l
  induction l with
  | zero => intro f c fp fl fa fb pa st us tt tl h; omega
  | succ l ih =>
    intro f c fp fl fa fb pa st us tt tl h1 h2 hf hall
    obtain ⟨f, rfl⟩ : ∃ f', f = f' + 1 := ⟨f - 1, by omega⟩
    refine br_f (by decide) (pk_le (l + 1) 1 (fun z => ⟨hin, nm_r (rl_PC_b hm) (H _ _ _ _ _ _ _ _ _ _ ⟨h1, h2, hall, Or.inl (by omega)⟩)⟩) (fun z => ⟨hin, ?_⟩))
    have hk1 := rl_PC_ok hP (m := m) (c := l) (by omega) (by omega)
    have hr := ps_vv_r hk1 0
    have hr0 := ps_vv_r hP.1 0
    have eS : upd (xs_C (rl_PC P m c)) (nI m).toNatClampNeg (nI (l + 1) - 1) = xs_C (rl_PC P m l) := by rw [nI_pred]; exact rl_PC_u hm
    refine nm_r eS (xs_search0 (P := rl_PC P m l) hk1 (fun fp fl fa fb pa st us tt tl => ?_))
    refine xb_if (iI_eq (by omega) (by omega) (by omega) (by omega)) (fun y => ?_) (fun y => ?_)
    · refine br_f (by decide) (nm_r (pk_m1 l) ?_)
      refine ih f l fp fl fa fb pa st us tt tl (by omega) (by omega) (by omega) (fun c hc1 hc2 => ?_)
      by_cases e : c = l
      · subst e; exact y
      · exact hall c (by omega) hc2
    · refine br_t rfl ?_
      obtain ⟨f, rfl⟩ : ∃ f', f = f' + 1 := ⟨f - 1, by omega⟩
      exact br_t rfl ⟨hin, nm_r (rl_PC_b hm) (H _ _ _ _ _ _ _ _ _ _ ⟨h1, h2, hall, Or.inr y⟩)⟩
theorem ys_lc {P : ps_I} {post : Int32 → SY → Prop} (hP : rl_ok P) {m : Nat} (hm : m < 2) (hc : 1 ≤ ps_c P m ∧ ps_c P m ≤ 8) (hv : ¬ iI (ps_vv P 0) = -1000) (H : ∀ x gp od ss ws, rl_YL P m 0 x → post x ((nI (ps_n P)), gp, 1, (xs_D P), (xs_W P), (xs_C P), (ps_f P), (xs_R P), (xs_U P), od, ss, ws)) : ∀ j f c x gp od ss ws, j ≤ 8 → j < f → rl_YL P m j x → wY_leastCapacity_33 post (nI m) (iI (ps_vv P 0)) (nI (ps_c P m)) f x (nI j) (nI (ps_n P)) gp 1 (xs_D P) (xs_W P) (xs_C (rl_PC P m c)) (ps_f P) (xs_R P) (xs_U P) od ss ws := by
  have hin : vp_in (nI m) 2 := vp_in_nI hm (by omega)
  intro j
  induction j with
  | zero =>
    intro f c x gp od ss ws h8 hf hx
    obtain ⟨f, rfl, _⟩ := xb_sc hf
    exact br_t (by decide) ⟨hin, nm_r (rl_PC_b hm) (H _ _ _ _ _ hx)⟩
  | succ j ih =>
    intro f c x gp od ss ws h8 hf hx
    obtain ⟨f, rfl, hf'⟩ := xb_sc hf
    have hr0 := ps_vv_r hP.1 0
    refine br_f (nI_nle (by omega) (by omega)) ⟨hin, nm_r (rl_PC_u hm) (br_f hv (pk_lt (ps_c P m) (j + 1) (fun z => ?_) (fun z => ?_) rfl rfl (by omega) (by omega)))⟩
    · exact nm_r (pk_m1 j) (ih f (j + 1) x gp od ss ws (by omega) (by omega) (fun y => by omega))
    · have hk1 := rl_PC_ok hP (m := m) (c := j + 1) (by omega) (by omega)
      have hr := ps_vv_r hk1 0
      refine ys_shortest (P := rl_PC P m (j + 1)) hk1 (fun gp od ss ws => ?_)
      refine xb_if (iI_eq (by omega) (by omega) (by omega) (by omega)) (fun y => nm_r (pk_m1 j) (ih f (j + 1) _ gp od ss ws (by omega) (by omega) (fun _ => ?_))) (fun y => nm_r (pk_m1 j) (ih f (j + 1) x gp od ss ws (by omega) (by omega) (fun _ => ?_)))
      · exact ⟨j + 1, rfl, by omega, z, y, fun c h1 _ _ => h1⟩
      · have hne : j + 1 ≠ ps_c P m := fun e => y (by rw [e]; exact rl_V_own P m)
        obtain ⟨l, e, a1, a2, a3, a4⟩ := hx (by omega)
        refine ⟨l, e, by omega, a2, a3, fun c h1 h2 h3 => ?_⟩
        by_cases e1 : c = j + 1
        · subst e1; exact absurd h3 y
        · exact a4 c (by omega) h2 h3
theorem ys_lc0 {P : ps_I} {post : Int32 → SY → Prop} {m : Nat} (hm : m < 2) {r : Int32} (hv : r = -1000) (H : ∀ gp od ss ws, post (-1000) ((nI (ps_n P)), gp, 1, (xs_D P), (xs_W P), (xs_C P), (ps_f P), (xs_R P), (xs_U P), od, ss, ws)) : ∀ j f c gp od ss ws, j ≤ 8 → j < f → wY_leastCapacity_33 post (nI m) r (nI (ps_c P m)) f (-1000) (nI j) (nI (ps_n P)) gp 1 (xs_D P) (xs_W P) (xs_C (rl_PC P m c)) (ps_f P) (xs_R P) (xs_U P) od ss ws := by
  have hin : vp_in (nI m) 2 := vp_in_nI hm (by omega)
  intro j
  induction j with
  | zero =>
    intro f c gp od ss ws h8 hf
    obtain ⟨f, rfl, _⟩ := xb_sc hf
    exact br_t (by decide) ⟨hin, nm_r (rl_PC_b hm) (H _ _ _ _)⟩
  | succ j ih =>
    intro f c gp od ss ws h8 hf
    obtain ⟨f, rfl, hf'⟩ := xb_sc hf
    exact br_f (nI_nle (by omega) (by omega)) ⟨hin, nm_r (rl_PC_u hm) (br_t hv (nm_r (pk_m1 j) (ih f (j + 1) gp od ss ws (by omega) (by omega))))⟩
theorem i_vc_leastCapacity {k : Nat} {u : SX} {v : SY} (I : i_Rel k u v) (hk : k + 4 ≤ 2048) (v1 : Int32) : wpX_leastCapacity (fun r u' => wpY_leastCapacity (fun r' v' => r' = r ∧ i_Rel (k + 4) u' v') v v1) u v1 := by
  refine rl_el (Q := fun u v => wpX_leastCapacity (fun r u' => wpY_leastCapacity (fun r' v' => r' = r ∧ i_Rel (k + 4) u' v') v v1) u v1) ?_ I
  intro P hP fp fl fa fb pa st us tt tl gp od ss ws
  by_cases h1 : v1 < 0
  · exact br_t h1 (br_t h1 ⟨rfl, rl_in hP fp fl fa fb pa st us tt tl gp od ss ws⟩)
  by_cases h2 : v1 ≤ 1
  rotate_left
  · exact br_f h1 (br_f h2 (br_f h1 (br_f h2 ⟨rfl, rl_in hP fp fl fa fb pa st us tt tl gp od ss ws⟩)))
  obtain ⟨m, _, hm, rfl⟩ := rl_rng (x := v1) 0 1 (by omega) (by omega) h1 h2
  have hm2 : m < 2 := by omega
  have hin : vp_in (nI m) 2 := vp_in_nI hm2 (by omega)
  have hc : 1 ≤ ps_c P m ∧ ps_c P m ≤ 8 := by
    have a := hP.1.2.2
    have b := hP.2.2
    have : m = 0 ∨ m = 1 := by omega
    rcases this with e | e
    · subst e; omega
    · subst e; omega
  have hr0 := ps_vv_r hP.1 0
  have eO : xs_C P (nI m).toNatClampNeg = nI (ps_c P m) := by rw [nI_clamp (by omega)]; rfl
  have eP : xs_C P = xs_C (rl_PC P m (ps_c P m)) := by rw [rl_PC_own]
  refine br_f h1 (br_t h2 (xs_search0 hP.1 (fun fp fl fa fb pa st us tt tl => ?_)))
  by_cases z : iI (ps_vv P 0) = -1000
  · refine br_t z (br_f h1 (br_t h2 (ys_shortest hP.1 (fun gp od ss ws => ⟨hin, nm_r eO ⟨9, ?_⟩⟩))))
    have Y := ys_lc0 (P := P) (post := fun r' v' => r' = (-1000 : Int32) ∧ i_Rel (k + 4) ((nI (ps_n P)), fp, fl, fa, fb, (xs_D P), (xs_W P), (xs_R P), (xs_U P), (ps_f P), (xs_C P), pa, st, us, tt, tl) v') hm2 z (fun gp od ss ws => ⟨rfl, rl_in hP fp fl fa fb pa st us tt tl gp od ss ws⟩) 8 9 (ps_c P m) gp od ss ws (by omega) (by omega)
    rw [← eP] at Y
    exact Y
  · refine br_f z ⟨hin, nm_r eO ⟨ps_c P m + 2, ?_⟩⟩
    have hv : ps_vv P 0 ≠ -1000 := fun e => z (by rw [e]; exact iI_m1000.symm)
    have X := xs_lc (P := P) (post := fun r u' => wpY_leastCapacity (fun r' v' => r' = r ∧ i_Rel (k + 4) u' v') ((nI (ps_n P)), gp, 1, (xs_D P), (xs_W P), (xs_C P), (ps_f P), (xs_R P), (xs_U P), od, ss, ws) (nI m)) hP hm2 hc (fun l fp fl fa fb pa st us tt tl hx => br_f h1 (br_t h2 (ys_shortest hP.1 (fun gp od ss ws => ⟨hin, nm_r eO ⟨9, by
      have Y := ys_lc (P := P) (post := fun r' v' => r' = nI l ∧ i_Rel (k + 4) ((nI (ps_n P)), fp, fl, fa, fb, (xs_D P), (xs_W P), (xs_R P), (xs_U P), (ps_f P), (xs_C P), pa, st, us, tt, tl) v') hP hm2 hc z (fun x gp od ss ws hy => ⟨rl_XY hP hc hv hx hy, rl_in hP fp fl fa fb pa st us tt tl gp od ss ws⟩) 8 9 (ps_c P m) (-1000) gp od ss ws (by omega) (by omega) (fun y => by omega)
      rw [← eP] at Y
      exact Y⟩⟩)))) (ps_c P m) (ps_c P m + 2) (ps_c P m) fp fl fa fb pa st us tt tl hc.1 (Nat.le_refl _) (by omega) (fun c h3 h4 => by
        have e : c = ps_c P m := by omega
        rw [e]
        exact rl_V_own P m)
    rw [← eP] at X
    exact X
end
