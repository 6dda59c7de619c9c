/-! sheets and parts: the answers -/
section SHS
def aSheet (k sort n : Int32) : Int32 × Int32 := if wi k (nI 0) (nI 3) then (if wi sort (nI 0) (nI 2) && decide (n ≤ nI 60) then (if n < 0 then (-14, 4) else (1, 0)) else (-2, 0)) else (-1, 0)
def shOk (k sort n : Int32) : Bool := wi k (nI 0) (nI 3) && (wi sort (nI 0) (nI 2) && decide (n ≤ nI 60)) && !decide (n < 0)
def aLose (so : Nat → Nat) (k : Int32) : Int32 := if wi k (nI 0) (nI 3) then (if so (ix k) = 3 then 0 else 1) else -1
def aPut (so sl : Nat → Nat) (k i : Int32) : Int32 × Int32 := if wi k (nI 0) (nI 3) then (if so (ix k) = 3 then (-11, 1) else if wi i (nI 0) (nI (sl (ix k)) - nI 1) then (1, 0) else (-13, 3)) else (-1, 0)
def ptOk (so sl : Nat → Nat) (k i : Int32) : Bool := wi k (nI 0) (nI 3) && !decide (so (ix k) = 3) && wi i (nI 0) (nI (sl (ix k)) - nI 1)
def nar (s : Nat) (v : Int32) : Int32 := if s = 0 then v.toInt8.toInt32 else if s = 1 then v.toInt16.toInt32 else v
def scU (sc : Nat → Nat → Int32) (k i : Nat) (v : Int32) : Nat → Nat → Int32 := fun j q => if j = k ∧ q = i then v else sc j q
def aCell (so sl : Nat → Nat) (sc : Nat → Nat → Int32) (k i sort : Int32) : Int64 × Int32 := if wi k (nI 0) (nI 3) && wi sort (nI 0) (nI 2) then (if so (ix k) ≠ 3 ∧ soI (so (ix k)) ≠ sort then (-9223372036854775808, 2) else if so (ix k) = 3 then (-9223372036854775808, 1) else if wi i (nI 0) (nI (sl (ix k)) - nI 1) then ((sc (ix k) (ix i)).toInt64, 0) else (-9223372036854775808, 3)) else (-9223372036854775808, 0)
def cpOk (a b : Nat) (i j n : Int32) : Bool := decide (0 ≤ i) && decide (0 ≤ j) && decide (0 ≤ n) && decide (i ≤ nI a) && decide (j ≤ nI b) && decide (n ≤ nI a - i) && decide (n ≤ nI b - j)
def aCopy (so sl : Nat → Nat) (k i o j n : Int32) : Int32 × Int32 := if wi k (nI 0) (nI 3) && wi o (nI 0) (nI 3) then (if so (ix k) = 3 ∨ so (ix o) = 3 then (-11, 1) else if so (ix k) ≠ so (ix o) then (-12, 2) else if cpOk (sl (ix k)) (sl (ix o)) i j n then (n, 0) else (-13, 3)) else (-1, 0)
def cyOk (so sl : Nat → Nat) (k i o j n : Int32) : Bool := (wi k (nI 0) (nI 3) && wi o (nI 0) (nI 3)) && !(decide (so (ix k) = 3) || decide (so (ix o) = 3)) && decide (so (ix k) = so (ix o)) && cpOk (sl (ix k)) (sl (ix o)) i j n
def scC (sc : Nat → Nat → Int32) (k i o j n : Nat) : Nat → Nat → Int32 := fun x q => if x = o ∧ j ≤ q ∧ q < j + n then sc k (i + (q - j)) else sc x q
def tr1 (t : Int32) (b : Nat) : Int32 := nI 31 * t + nI b
def aTl (n : Nat) (kd ld : Nat → Nat) (p : Int32) : Int32 := if isP n p then (if kd (ix p) = 0 then nI (ld (ix p)) else if kd (ix p) = 1 then nI (ld (ix p) + 100) else nI (2 * ld (ix p) + 100)) else -1
def tTl (n : Nat) (kd : Nat → Nat) (t p : Int32) : Int32 := if isP n p then (if kd (ix p) = 0 then tr1 t 1 else if kd (ix p) = 1 then tr1 (tr1 t 2) 1 else tr1 (tr1 (tr1 (tr1 t 3) 2) 1) 1) else t
def aKn (n : Nat) (tw kd : Nat → Nat) (p : Int32) : Int32 := if isP n p then (if kd (ix p) = 2 then nI 80 else nI (cnt (tw (ix p)))) else -1
def tKn (n : Nat) (kd : Nat → Nat) (t p : Int32) : Int32 := if isP n p then (if kd (ix p) = 2 then tr1 t 5 else tr1 t 4) else t
def aAs (n : Nat) (kd : Nat → Nat) (p s : Int32) : Int32 × Int32 := if isP n p then (if wi s (nI 0) (nI 2) then (if ix s ≤ kd (ix p) then (1, 0) else (-12, 2)) else (-2, 0)) else (-1, 0)
def aReading (n rn : Nat) (a b v : Int32) : Int32 := if isP n a && isP n b then (if wi v (nI 0) (nI 200) then (if rn = 8 then -4 else nI rn) else -2) else -1
def rdOk (n rn : Nat) (a b v : Int32) : Bool := isP n a && isP n b && wi v (nI 0) (nI 200) && !decide (rn = 8)
def aBack (rn : Nat) (k : Int32) : Int32 := if wi k (nI 0) (nI rn) then nI (rn - ix k) else -2
theorem wi_i {i : Int32} {s : Nat} (hs : s ≤ 60) (h : wi i (nI 0) (nI s - nI 1) = true) : ∃ j, j < s ∧ i = nI j := by
  rcases Nat.eq_zero_or_pos s with e | e
  · subst e
    unfold wi at h
    rw [Bool.and_eq_true, decide_eq_true_eq, decide_eq_true_eq, Int32.le_iff_toInt_le, Int32.le_iff_toInt_le] at h
    have h1 : (nI 0 - nI 1).toInt = -1 := by decide
    have h2 : (nI 0).toInt = 0 := by decide
    omega
  · rw [pk_sub e] at h
    obtain ⟨j, -, hj, rfl⟩ := wi_t (by decide) (by omega) h
    exact ⟨j, by omega, rfl⟩
theorem soI_3 {s : Nat} (h : s ≤ 3) : soI s = -9 ↔ s = 3 := by
  have : ∀ s, s ≤ 3 → (soI s = -9 ↔ s = 3) := by decide
  exact this s h
theorem soI_in {s t : Nat} (h : s ≤ 3) (h2 : t ≤ 3) : soI s = soI t ↔ s = t := by
  have : ∀ s, s < 4 → ∀ t, t < 4 → (soI s = soI t ↔ s = t) := by decide
  exact this s (by omega) t (by omega)
theorem soI_N {s : Nat} (h : s ≤ 3) (h2 : s ≠ 3) : soI s = nI s := if_neg h2
end SHS
