/-! the answers, as both sides give them -/
section ANS
def ix (x : Int32) : Nat := x.toNatClampNeg
theorem ix_nI {j : Nat} (h : j < 2 ^ 31) : ix (nI j) = j := nI_clamp h
theorem wi_N {v a b : Nat} (hv : v < 2 ^ 31) (ha : a < 2 ^ 31) (hb : b < 2 ^ 31) : wi (nI v) (nI a) (nI b) = (decide (a ≤ v) && decide (v ≤ b)) := by
  unfold wi
  rw [decide_eq_decide.mpr (nI_leI ha hv), decide_eq_decide.mpr (nI_leI hv hb)]
theorem wi_t {v : Int32} {a b : Nat} (ha : a < 2 ^ 31) (hb : b < 2 ^ 31) (h : wi v (nI a) (nI b) = true) : ∃ j, a ≤ j ∧ j ≤ b ∧ v = nI j := by
  unfold wi at h
  rw [Bool.and_eq_true, decide_eq_true_eq, decide_eq_true_eq] at h
  have h0 : ¬ v < 0 := by
    intro hv
    have h1 := h.1
    rw [Int32.le_iff_toInt_le, nI_toInt ha] at h1
    rw [Int32.lt_iff_toInt_lt, Int32.toInt_zero] at hv
    omega
  obtain ⟨j, hj, rfl⟩ := nI_of h0
  exact ⟨j, (nI_leI ha hj).mp h.1, (nI_leI hj hb).mp h.2, rfl⟩
/-- a switch's cases -/
theorem sw_in (x : Int32) (m : Nat) (hm : m < 2 ^ 30) : (x.toInt < 0 ∨ (m : Int) < x.toInt) ∨ ∃ j, j ≤ m ∧ x = nI j := by
  rcases Int.lt_or_le x.toInt 0 with a | a
  · exact Or.inl (Or.inl a)
  · rcases Int.lt_or_le (m : Int) x.toInt with b | b
    · exact Or.inl (Or.inr b)
    · obtain ⟨j, hj, rfl⟩ := nI_of (x := x) (by rw [Int32.lt_iff_toInt_lt, Int32.toInt_zero]; omega)
      rw [nI_toInt hj] at b
      exact Or.inr ⟨j, by omega, rfl⟩
theorem sw_out {x : Int32} {m : Nat} (h : x.toInt < 0 ∨ (m : Int) < x.toInt) {j : Nat} (hj : j ≤ m) (hm : m < 2 ^ 30) : x ≠ nI j := by
  rintro rfl
  rw [nI_toInt (by omega)] at h
  omega
def aRow (n : Nat) (tw : Nat → Nat) (k : Int32) : Int32 := if wi k (nI 0) (nI 5) then (if n = 0 then -3 else if ix k < n - 2 then nI (rwv n tw (ix k)) else -9) else -2
def aNumber (n : Nat) (tw : Nat → Nat) : Int32 := if n = 0 then -3 else nI (rnum n tw (n - 2))
def aFar (n : Nat) (d : Nat → Nat → Nat) (a b : Int32) : Int32 := if isP n a && isP n b then nI (d (ix a) (ix b)) else -1
def fstN (n : Nat) (P : Nat → Bool) : Option Nat := (List.range n).find? P
theorem fstN_some {n p : Nat} {P : Nat → Bool} (hp : p < n) (h : P p = true) (hm : ∀ q, q < p → P q = false) : fstN n P = some p := by
  unfold fstN
  rw [List.find?_range_eq_some]
  exact ⟨h, List.mem_range.mpr hp, fun q hq => by rw [hm q hq]; rfl⟩
theorem fstN_none {n : Nat} {P : Nat → Bool} (hm : ∀ q, q < n → P q = false) : fstN n P = none := by
  unfold fstN
  rw [List.find?_eq_none]
  intro q hq
  rw [hm q (List.mem_range.mp hq)]
  decide
def oI : Option Nat → Int32
  | none => -9
  | some p => nI p
def aWay (n : Nat) (d : Nat → Nat → Nat) (a b k : Int32) : Int32 := if isP n a && isP n b then (if wi k (nI 0) (nI 7) then oI (fstN n fun p => decide (d (ix a) p = ix k) && decide (d (ix a) p + d p (ix b) = d (ix a) (ix b))) else -2) else -1
def ecc (n : Nat) (d : Nat → Nat → Nat) (p : Nat) : Nat := maxN n (d p)
def mid (n : Nat) (d : Nat → Nat → Nat) : Nat → Nat × Nat
  | 0 => (0, 8)
  | p + 1 => (if ecc n d p < (mid n d p).2 then 1 <<< p else if ecc n d p = (mid n d p).2 then (mid n d p).1 ||| 1 <<< p else (mid n d p).1, if ecc n d p < (mid n d p).2 then ecc n d p else (mid n d p).2)
def aMiddle (n : Nat) (d : Nat → Nat → Nat) (what : Int32) : Int32 := if wi what (nI 0) (nI 1) then (if n = 0 then -3 else if what = nI 1 then nI (maxN n fun p => maxN n (d p)) else nI (mid n d n).1) else -2
def aPart (n : Nat) (tw kd ld : Nat → Nat) (d : Nat → Nat → Nat) (a b : Int32) : Int32 := if isP n a && isP n b && !decide (a = b) then (if (tw (ix a)).testBit (ix b) then nI (ws n kd ld (setN n fun p => decide (d p (ix a) < d p (ix b)))) else -3) else -1
def aOfPost (n : Nat) (tw kd ld : Nat → Nat) (d : Nat → Nat → Nat) (p what : Int32) : Int32 := if isP n p then (if what = nI 0 then nI (kd (ix p)) else if what = nI 1 then nI (ld (ix p)) else if what = nI 2 then nI (wv kd ld (ix p)) else if what = nI 3 then nI (cnt (tw (ix p))) else if what = nI 4 then nI (tw (ix p)) else if what = nI 5 then nI (maxN n (d (ix p))) else -2) else -1
/-- the posts on a way -/
def wy (n : Nat) (d : Nat → Nat → Nat) (a b : Nat) : Nat := setN n fun p => decide (d a p + d p b = d a b)
def allN : Nat → (Nat → Bool) → Bool
  | 0, _ => true
  | n + 1, P => allN n P && P n
theorem allN_t {n : Nat} {P : Nat → Bool} (h : ∀ q, q < n → P q = true) : allN n P = true := by
  induction n with
  | zero => rfl
  | succ n ih =>
    show (allN n P && P n) = true
    rw [ih (fun q hq => h q (by omega)), h n (by omega)]
    rfl
theorem allN_f {n q : Nat} {P : Nat → Bool} (hq : q < n) (h : P q = false) : allN n P = false := by
  induction n with
  | zero => omega
  | succ n ih =>
    show (allN n P && P n) = false
    by_cases e : q = n
    · subst e; rw [h, Bool.and_false]
    · rw [ih (by omega), Bool.false_and]
/-- the readings: how many, from where to where, how much -/
def sso (n : Nat) (kd ld : Nat → Nat) (d : Nat → Nat → Nat) (rn : Nat) (ra rb rw : Nat → Nat) : Bool := allN rn fun q => decide (ws n kd ld (wy n d (ra q) (rb q)) = rw q)
def fup (f : Nat → Nat) (p v : Nat) : Nat → Nat := fun j => if j = p then v else f j
def aLoadings (n : Nat) (kd ld : Nat → Nat) (d : Nat → Nat → Nat) (rn : Nat) (ra rb rw : Nat → Nat) (p : Int32) : Int32 := if isP n p then nI (setN 10 fun v => sso n kd (fup ld (ix p) v) d rn ra rb rw) else -1
def aKinds (n : Nat) (kd ld : Nat → Nat) (d : Nat → Nat → Nat) (rn : Nat) (ra rb rw : Nat → Nat) (p : Int32) : Int32 := if isP n p then nI (setN 3 fun v => sso n (fup kd (ix p) v) ld d rn ra rb rw) else -1
/-- pairs no farther than k, pairs at all -/
def prK (n : Nat) (d : Nat → Nat → Nat) (k a b : Nat) : Nat := sumN b fun c => if a < c ∧ d a c ≤ k then 1 else 0
def prA (a b : Nat) : Nat := sumN b fun c => if a < c then 1 else 0
def aOdds (n : Nat) (d : Nat → Nat → Nat) (k which : Int32) : Int64 := if wi k (nI 0) (nI 7) && wi which (nI 0) (nI 1) && !decide (n = 0) then lN ((if which = nI 0 then sumN n (fun a => prK n d (ix k) a n) else sumN n (fun a => prA a n)) / Nat.gcd (sumN n fun a => prK n d (ix k) a n) (sumN n fun a => prA a n)) else -9223372036854775808
def aMany (n : Nat) (tw : Nat → Nat) (gr : Int32) (rn : Nat) (what : Int32) : Int32 := if what = nI 0 then nI n else if what = nI 1 then gr else if what = nI 2 then nI (cnt (lvs n tw)) else if what = nI 3 then nI rn else -2
/-- sets of posts of which no two touch, the best: the first of the most worth -/
def aprt (n : Nat) (tw : Nat → Nat) (s : Nat) : Bool := decide ((orN n fun p => if s.testBit p then tw p else 0) &&& s = 0)
def lon (n : Nat) (tw kd ld : Nat → Nat) : Nat → Nat × Nat
  | 0 => (0, 0)
  | s + 1 => if aprt n tw s && decide ((lon n tw kd ld s).2 < ws n kd ld s) then (s, ws n kd ld s) else lon n tw kd ld s
def aLoners (n : Nat) (tw kd ld : Nat → Nat) (what : Int32) : Int32 := if wi what (nI 0) (nI 1) then (if n = 0 then -3 else if what = nI 0 then nI (lon n tw kd ld (2 ^ n)).2 else nI (lon n tw kd ld (2 ^ n)).1) else -2
/-- scratch arrays apart, two states of the reference are the same -/
def mEq (S S' : mS) : Prop := (∀ k, k ≠ 10 → k ≠ 11 → S'.1 k = S.1 k) ∧ S'.2 2 = S.2 2 ∧ S'.2 3 = S.2 3 ∧ S'.2 4 = S.2 4 ∧ S'.2 7 = S.2 7 ∧ S'.2 8 = S.2 8 ∧ S'.2 9 = S.2 9 ∧ S'.2 24 = S.2 24 ∧ S'.2 25 = S.2 25 ∧ S'.2 26 = S.2 26
theorem mEq.rf (S : mS) : mEq S S := ⟨fun _ _ _ => rfl, rfl, rfl, rfl, rfl, rfl, rfl, rfl, rfl, rfl⟩
theorem mEq.arr (S : mS) {k : Nat} (fa : Nat → Int32) (h : k ≠ 2 ∧ k ≠ 3 ∧ k ≠ 4 ∧ k ≠ 7 ∧ k ≠ 8 ∧ k ≠ 9 ∧ k ≠ 24 ∧ k ≠ 25 ∧ k ≠ 26) : mEq S (mArr S k fa) := by
  have e : ∀ j, k ≠ j → (mArr S k fa).2 j = S.2 j := fun j hj => by
    show va_up S.2 k fa j = S.2 j
    unfold va_up
    rw [if_neg (Ne.symm hj)]
  exact ⟨fun _ _ _ => rfl, e 2 h.1, e 3 h.2.1, e 4 h.2.2.1, e 7 h.2.2.2.1, e 8 h.2.2.2.2.1, e 9 h.2.2.2.2.2.1, e 24 h.2.2.2.2.2.2.1, e 25 h.2.2.2.2.2.2.2.1, e 26 h.2.2.2.2.2.2.2.2⟩
theorem mEq.tr {S S' S'' : mS} (h : mEq S S') (h' : mEq S' S'') : mEq S S'' :=
  ⟨fun k a b => (h'.1 k a b).trans (h.1 k a b), h'.2.1.trans h.2.1, h'.2.2.1.trans h.2.2.1, h'.2.2.2.1.trans h.2.2.2.1, h'.2.2.2.2.1.trans h.2.2.2.2.1, h'.2.2.2.2.2.1.trans h.2.2.2.2.2.1, h'.2.2.2.2.2.2.1.trans h.2.2.2.2.2.2.1, h'.2.2.2.2.2.2.2.1.trans h.2.2.2.2.2.2.2.1, h'.2.2.2.2.2.2.2.2.1.trans h.2.2.2.2.2.2.2.2.1, h'.2.2.2.2.2.2.2.2.2.trans h.2.2.2.2.2.2.2.2.2⟩
theorem mEq.v {S S' : mS} {n : Nat} {tw kd ld : Nat → Nat} (h : mEq S S') (hV : mV S n tw kd ld) : mV S' n tw kd ld := hV.mv (h.1 5 (by decide) (by decide)) (fun p _ => by rw [h.2.2.2.2.1]) (fun p _ => by rw [h.2.2.2.2.2.1]) (fun p _ => by rw [h.2.2.2.2.2.2.1])
end ANS
