/-! numbers: ints by their Nats, sets as Nats below 256 -/
section NUM
def bI (b : Bool) : Int32 := if b then 1 else 0
theorem bI_t : bI true = 1 := rfl
theorem bI_f : bI false = 0 := rfl
theorem bI_eq0 {b : Bool} : bI b = 0 ↔ b = false := by cases b <;> decide
theorem bI_ne0 {b : Bool} : ¬ bI b = 0 ↔ b = true := by cases b <;> decide
theorem bI_nar {b : Bool} : narrow .boolean (.int (bI b)) = .int (bI b) := by cases b <;> rfl
theorem bI_N (b : Bool) : bI b = nI (if b then 1 else 0) := by cases b <;> rfl
theorem n_and (a b : Nat) : nI a &&& nI b = nI (a &&& b) := by
  apply Int32.toBitVec_inj.1
  show BitVec.ofNat 32 a &&& BitVec.ofNat 32 b = BitVec.ofNat 32 (a &&& b)
  apply BitVec.eq_of_getLsbD_eq
  intro i hi
  simp [hi]
theorem n_or (a b : Nat) : nI a ||| nI b = nI (a ||| b) := by
  apply Int32.toBitVec_inj.1
  show BitVec.ofNat 32 a ||| BitVec.ofNat 32 b = BitVec.ofNat 32 (a ||| b)
  apply BitVec.eq_of_getLsbD_eq
  intro i hi
  simp [hi]
theorem n_s31 : ∀ k, k < 32 → ((nI k &&& 31).toBitVec.smod 32).toNat = k := by decide +kernel
theorem n_u31 : ∀ k, k < 32 → (((nI k).toUInt32 &&& Int32.toUInt32 31).toBitVec % 32).toNat = k := by decide +kernel
theorem n_shl {a k : Nat} (h : k < 32) : nI a <<< (nI k &&& 31) = nI (a <<< k) := by
  apply Int32.toBitVec_inj.mp
  apply BitVec.eq_of_toNat_eq
  rw [pk_shl _ _ k (n_s31 k h), Nat.shiftLeft_eq]
  show (a % 2 ^ 32) * 2 ^ k % 2 ^ 32 = (a * 2 ^ k) % 2 ^ 32
  rw [Nat.mod_mul_mod]
theorem n_shr {a k : Nat} (ha : a < 2 ^ 31) (h : k < 32) : nI a >>> (nI k &&& 31) = nI (a >>> k) := by
  rw [pk_shrN ha _ k (n_s31 k h), Nat.shiftRight_eq_div_pow]
theorem n_ushr {a k : Nat} (ha : a < 2 ^ 31) (h : k < 32) : ((nI a).toUInt32 >>> ((nI k).toUInt32 &&& Int32.toUInt32 31)).toInt32 = nI (a >>> k) := by
  rw [pk_ushrN (by omega) _ k (n_u31 k h), Nat.shiftRight_eq_div_pow]
/-- a less what lies in b -/
def ndf (a b : Nat) : Nat := a ^^^ (a &&& b)
theorem ndf_bit (a b i : Nat) : (ndf a b).testBit i = (a.testBit i && !b.testBit i) := by
  unfold ndf
  rw [Nat.testBit_xor, Nat.testBit_and]
  cases a.testBit i <;> cases b.testBit i <;> rfl
theorem n_andn {a b : Nat} (ha : a < 2 ^ 31) (hb : b < 2 ^ 31) : nI a &&& (nI b ^^^ -1) = nI (ndf a b) := by
  apply Int32.toBitVec_inj.1
  show BitVec.ofNat 32 a &&& (BitVec.ofNat 32 b ^^^ (-1 : Int32).toBitVec) = BitVec.ofNat 32 (ndf a b)
  apply BitVec.eq_of_getLsbD_eq
  intro i hi
  have e : ((-1 : Int32).toBitVec).getLsbD i = true := by
    have h := BitVec.getLsbD_allOnes (v := 32) (i := i)
    have h2 : (-1 : Int32).toBitVec = BitVec.allOnes 32 := by decide
    rw [h2, h]
    exact decide_eq_true hi
  rw [BitVec.getLsbD_and, BitVec.getLsbD_xor, e, BitVec.getLsbD_ofNat, BitVec.getLsbD_ofNat, BitVec.getLsbD_ofNat, ndf_bit]
  simp [hi]
theorem n_eq0 {a : Nat} (h : a < 2 ^ 31) : nI a = 0 ↔ a = 0 := nI_eq (b := 0) h (by decide)
theorem n_gt0 {a : Nat} (h : a < 2 ^ 31) : 0 < nI a ↔ 0 < a := nI_ltI (a := 0) (by decide) h
theorem n_le0 {a : Nat} (h : a < 2 ^ 31) : nI a ≤ 0 ↔ a ≤ 0 := nI_leI (b := 0) h (by decide)
theorem n_lt0 {a : Nat} (h : a < 2 ^ 31) : nI a < 0 ↔ a < 0 := nI_ltI (b := 0) h (by decide)
theorem n_ge0 {a : Nat} (h : a < 2 ^ 31) : 0 ≤ nI a ↔ 0 ≤ a := nI_leI (a := 0) (by decide) h
theorem n_dec {a : Nat} (h : 1 ≤ a) : nI a + -1 = nI (a - 1) := by
  obtain ⟨b, rfl⟩ : ∃ b, a = b + 1 := ⟨a - 1, by omega⟩
  rw [Nat.add_sub_cancel]
  exact pk_m1 b
theorem n_lne0 {a : Nat} (h0 : 0 < a) (h : a < 2 ^ 63) : ¬ lN a = 0 := by
  intro e
  have := (pk_lEQ (b := 0) h (by decide)).mp e
  omega
/-- the number of a set's members (below 8), its least member -/
def cnt (s : Nat) : Nat := (List.range 8).countP fun i => s.testBit i
def lst (s : Nat) : Nat := ((List.range 8).find? fun i => s.testBit i).getD 8
theorem cnt_step : ∀ s, s < 256 → cnt s = (s &&& 1) + cnt (s >>> 1) := by decide +kernel
theorem cnt_le : ∀ s, s < 256 → cnt s ≤ 8 := by decide +kernel
theorem cnt_pos : ∀ s, s < 256 → 0 < s → 0 < cnt s := by decide +kernel
theorem lst_lt : ∀ s, s < 256 → 0 < s → lst s < 8 := by decide +kernel
theorem lst_bit : ∀ s, s < 256 → 0 < s → s.testBit (lst s) = true := by decide +kernel
theorem lst_min : ∀ s, s < 256 → ∀ k, k < 8 → s.testBit k = true → lst s ≤ k := by decide +kernel
theorem tb_and1 (s k : Nat) : (s >>> k) &&& 1 = if s.testBit k then 1 else 0 := by
  have h := Nat.and_one_is_mod (s >>> k)
  rw [h, Nat.testBit, Nat.one_and_eq_mod_two]
  rcases Nat.mod_two_eq_zero_or_one (s >>> k) with e | e <;> rw [e] <;> rfl
theorem tb_lt {s n k : Nat} (h : s < 2 ^ n) (hb : s.testBit k = true) : k < n := by
  rcases Nat.lt_or_ge k n with q | q
  · exact q
  · rw [Nat.testBit_lt_two_pow (Nat.lt_of_lt_of_le h (Nat.pow_le_pow_right (by decide) q))] at hb
    cases hb
theorem lt_two_pow_of_tb {s n : Nat} (h : ∀ k, n ≤ k → s.testBit k = false) : s < 2 ^ n := Nat.lt_pow_two_of_testBit s fun i hi => h i hi
theorem ndf_le (a b : Nat) : ndf a b ≤ a := by
  apply Nat.le_of_testBit
  intro i hi
  rw [ndf_bit] at hi
  cases h : a.testBit i with
  | true => rfl
  | false => rw [h] at hi; cases hi
theorem shl1_bit (k i : Nat) : (1 <<< k).testBit i = decide (i = k) := by
  rw [Nat.one_shiftLeft, Nat.testBit_two_pow]
  by_cases h : k = i <;> simp [h, eq_comm]
theorem shl1_lt {k n : Nat} (h : k < n) : 1 <<< k < 2 ^ n := by
  rw [Nat.one_shiftLeft]
  exact Nat.pow_lt_pow_right (by decide) h
theorem or_lt {a b n : Nat} (ha : a < 2 ^ n) (hb : b < 2 ^ n) : a ||| b < 2 ^ n := Nat.or_lt_two_pow ha hb
theorem and_lt_r {a b n : Nat} (hb : b < n) : a &&& b < n := Nat.lt_of_le_of_lt Nat.and_le_right hb
theorem and_lt_l {a b n : Nat} (ha : a < n) : a &&& b < n := Nat.lt_of_le_of_lt Nat.and_le_left ha
theorem shr_lt {a k n : Nat} (ha : a < n) : a >>> k < n := Nat.lt_of_le_of_lt (by rw [Nat.shiftRight_eq_div_pow]; exact Nat.div_le_self _ _) ha
theorem and1_lt (a : Nat) : a &&& 1 < 2 ^ 31 := Nat.lt_of_le_of_lt Nat.and_le_right (by decide)
/-- 1, the bits below n -/
theorem n_full (n : Nat) (h : n < 31) : nI (1 <<< n) - nI 1 = nI (2 ^ n - 1) := by
  rw [Nat.one_shiftLeft]
  exact pk_sub (Nat.one_le_two_pow)
theorem full_bit (n i : Nat) : (2 ^ n - 1).testBit i = decide (i < n) := Nat.testBit_two_pow_sub_one n i
def isP (n : Nat) (p : Int32) : Bool := decide (0 ≤ p) && decide (p < nI n)
theorem isP_t {n : Nat} (hn : n < 2 ^ 31) {p : Int32} (h : isP n p = true) : ∃ j, j < n ∧ p = nI j := by
  unfold isP at h
  rw [Bool.and_eq_true, decide_eq_true_eq, decide_eq_true_eq] at h
  rcases pk_ix p hn with a | a | a
  · exact absurd a (Int32.not_lt.mpr h.1)
  · exact absurd h.2 (Int32.not_lt.mpr a)
  · exact a
theorem isP_N {n j : Nat} (hn : n < 2 ^ 31) (hj : j < 2 ^ 31) : isP n (nI j) = decide (j < n) := by
  unfold isP
  have h1 : decide ((0 : Int32) ≤ nI j) = true := decide_eq_true (nI_pos' hj)
  rw [h1, Bool.true_and]
  exact decide_eq_decide.mpr (nI_ltI hj hn)
end NUM
