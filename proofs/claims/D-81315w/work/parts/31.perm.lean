/-! other names by a number: how they are found -/
section PERM
def fct : Nat → Nat
  | 0 => 1
  | n + 1 => (n + 1) * fct n
/-- the j-th member of a set -/
def kth : Nat → Nat → Nat
  | s, 0 => lst s
  | s, j + 1 => kth (ndf s (1 <<< lst s)) j
theorem kth_ok : ∀ s, s < 256 → ∀ j, j < 8 → j < cnt s → kth s j < 8 ∧ s.testBit (kth s j) = true := by decide +kernel
theorem kth_nx1 : ∀ s, s < 256 → ∀ j, j < 8 → j + 1 < cnt s → kth s j < kth s (j + 1) := by decide +kernel
theorem kth_nx2 : ∀ s, s < 256 → ∀ j, j < 8 → ∀ x, x < 8 → ¬ (j + 1 < cnt s ∧ kth s j < x ∧ x < kth s (j + 1) ∧ s.testBit x = true) := by decide +kernel
theorem kth_nx (s : Nat) (h : s < 256) (j : Nat) (hj : j < 8) (hc : j + 1 < cnt s) : kth s j < kth s (j + 1) ∧ ∀ x, x < 8 → kth s j < x → x < kth s (j + 1) → s.testBit x = false :=
  ⟨kth_nx1 s h j hj hc, fun x hx h1 h2 => by
    cases hb : s.testBit x with
    | false => rfl
    | true => exact absurd ⟨hc, h1, h2, hb⟩ (kth_nx2 s h j hj x hx)⟩
/-- the number and the free names ahead of post p -/
def nst (n k : Nat) : Nat → Nat × Nat
  | 0 => (k, 2 ^ n - 1)
  | p + 1 => ((nst n k p).1 / (n - p), ndf (nst n k p).2 (1 <<< kth (nst n k p).2 ((nst n k p).1 % (n - p))))
def nmf (n k p : Nat) : Nat := kth (nst n k p).2 ((nst n k p).1 % (n - p))
theorem nst_ok {n k : Nat} (h8 : n ≤ 8) : ∀ p, p ≤ n → (nst n k p).2 < 2 ^ n ∧ cnt (nst n k p).2 = n - p ∧ (nst n k p).1 ≤ k := by
  intro p
  induction p with
  | zero => intro _; exact ⟨by show 2 ^ n - 1 < 2 ^ n; have := Nat.two_pow_pos n; omega, cnt_full n (by omega), Nat.le_refl k⟩
  | succ p ih =>
    intro hp
    obtain ⟨h1, h2, h3⟩ := ih (by omega)
    have h256 : (nst n k p).2 < 256 := Nat.lt_of_lt_of_le h1 (pow_n8 h8)
    have hm : (nst n k p).1 % (n - p) < n - p := Nat.mod_lt _ (by omega)
    obtain ⟨h4, h5⟩ := kth_ok _ h256 ((nst n k p).1 % (n - p)) (by omega) (by omega)
    have h6 := cnt_ndf _ h256 _ h4 h5
    refine ⟨Nat.lt_of_le_of_lt (ndf_le _ _) h1, ?_, Nat.le_trans (Nat.div_le_self _ _) h3⟩
    show cnt (ndf _ (1 <<< kth _ _)) = _
    omega
theorem nmf_lt {n k p : Nat} (h8 : n ≤ 8) (hp : p < n) : nmf n k p < n := by
  obtain ⟨h1, h2, -⟩ := nst_ok (k := k) h8 p (by omega)
  have hm : (nst n k p).1 % (n - p) < n - p := Nat.mod_lt _ (by omega)
  exact tb_lt h1 (kth_ok _ (Nat.lt_of_lt_of_le h1 (pow_n8 h8)) _ (by omega) (by omega)).2
/-- by other names twigs go to the same posts -/
def isA (n : Nat) (tw σ : Nat → Nat) : Bool := allN n fun p => decide ((orN n fun q => if (tw p).testBit q then 1 <<< σ q else 0) = tw (σ p))
def cntN : Nat → (Nat → Bool) → Nat
  | 0, _ => 0
  | n + 1, P => cntN n P + (if P n then 1 else 0)
theorem cntN_le (n : Nat) (P : Nat → Bool) : cntN n P ≤ n := by
  induction n with
  | zero => exact Nat.le_refl 0
  | succ n ih =>
    show cntN n P + (if P n then 1 else 0) ≤ n + 1
    split <;> omega
theorem cntN_pos {n k : Nat} {P : Nat → Bool} (hk : k < n) (h : P k = true) : 0 < cntN n P := by
  induction n with
  | zero => omega
  | succ n ih =>
    show 0 < cntN n P + (if P n then 1 else 0)
    by_cases e : k = n
    · subst e; rw [if_pos h]; omega
    · have := ih (by omega); omega
/-- how often the vine comes to lie on itself -/
def autc (n : Nat) (tw : Nat → Nat) : Nat := cntN (fct n) fun k => isA n tw (nmf n k)
theorem nmf_0 : ∀ n, n < 9 → ∀ p, p < n → nmf n 0 p = p := by decide +kernel
theorem fct_pos : ∀ n, 0 < fct n := by
  intro n
  induction n with
  | zero => decide
  | succ n ih => exact Nat.mul_pos (Nat.succ_pos n) ih
theorem fct_le : ∀ n, n < 9 → fct n ≤ 40320 := by decide +kernel
theorem isA_id {n : Nat} {tw σ : Nat → Nat} (h : ∀ p, p < n → tw p < 2 ^ n) (hσ : ∀ p, p < n → σ p = p) : isA n tw σ = true := allN_t fun p hp => by
  refine decide_eq_true ?_
  rw [hσ p hp]
  refine set_ext fun i => ?_
  rw [Bool.eq_iff_iff, orN_bit]
  constructor
  · rintro ⟨q, hq, hb⟩
    by_cases hx : (tw p).testBit q = true
    · rw [if_pos hx, hσ q hq, shl1_bit, decide_eq_true_eq] at hb
      rw [hb]; exact hx
    · rw [if_neg hx, Nat.zero_testBit] at hb; cases hb
  · intro hb
    have hi := tb_lt (h p hp) hb
    exact ⟨i, hi, by rw [if_pos hb, hσ i hi, shl1_bit]; exact decide_eq_true rfl⟩
theorem autc_pos {n : Nat} {tw : Nat → Nat} (h8 : n ≤ 8) (h : ∀ p, p < n → tw p < 2 ^ n) : 0 < autc n tw := cntN_pos (k := 0) (fct_pos n) (isA_id h fun p hp => nmf_0 n (by omega) p hp)
def aAlike (n : Nat) (tw : Nat → Nat) : Int32 := if n = 0 then -3 else nI (fct n / autc n tw)
end PERM
