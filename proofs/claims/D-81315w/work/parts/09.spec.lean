/-! what both sides compute: numbers and sets over the posts -/
section SPEC
def sumN : Nat → (Nat → Nat) → Nat
  | 0, _ => 0
  | n + 1, f => sumN n f + f n
def orN : Nat → (Nat → Nat) → Nat
  | 0, _ => 0
  | n + 1, f => orN n f ||| f n
def maxN : Nat → (Nat → Nat) → Nat
  | 0, _ => 0
  | n + 1, f => max (maxN n f) (f n)
theorem sumN_le {n b : Nat} {f : Nat → Nat} (h : ∀ p, p < n → f p ≤ b) : sumN n f ≤ n * b := by
  induction n with
  | zero => exact Nat.zero_le _
  | succ n ih =>
    have h1 := ih (fun p hp => h p (by omega))
    have h2 := h n (by omega)
    show sumN n f + f n ≤ _
    rw [Nat.succ_mul]
    omega
theorem orN_lt {n k : Nat} {f : Nat → Nat} (h : ∀ p, p < n → f p < 2 ^ k) : orN n f < 2 ^ k := by
  induction n with
  | zero => exact Nat.two_pow_pos k
  | succ n ih => exact or_lt (ih (fun p hp => h p (by omega))) (h n (by omega))
theorem orN_bit {n : Nat} {f : Nat → Nat} (i : Nat) : (orN n f).testBit i = true ↔ ∃ p, p < n ∧ (f p).testBit i = true := by
  induction n with
  | zero => simp [orN]
  | succ n ih =>
    show (orN n f ||| f n).testBit i = true ↔ _
    rw [Nat.testBit_or, Bool.or_eq_true, ih]
    constructor
    · rintro (⟨p, hp, h⟩ | h)
      · exact ⟨p, by omega, h⟩
      · exact ⟨n, by omega, h⟩
    · rintro ⟨p, hp, h⟩
      rcases Nat.lt_or_ge p n with q | q
      · exact Or.inl ⟨p, q, h⟩
      · have : p = n := by omega
        subst this
        exact Or.inr h
theorem maxN_lt {n b : Nat} {f : Nat → Nat} (hb : 0 < b) (h : ∀ p, p < n → f p < b) : maxN n f < b := by
  induction n with
  | zero => exact hb
  | succ n ih =>
    have h1 := ih (fun p hp => h p (by omega))
    have h2 := h n (by omega)
    exact Nat.max_lt.mpr ⟨h1, h2⟩
theorem sumN_congr {n : Nat} {f g : Nat → Nat} (h : ∀ p, p < n → f p = g p) : sumN n f = sumN n g := by
  induction n with
  | zero => rfl
  | succ n ih =>
    show sumN n f + f n = sumN n g + g n
    rw [ih (fun p hp => h p (by omega)), h n (by omega)]
theorem orN_congr {n : Nat} {f g : Nat → Nat} (h : ∀ p, p < n → f p = g p) : orN n f = orN n g := by
  induction n with
  | zero => rfl
  | succ n ih =>
    show orN n f ||| f n = orN n g ||| g n
    rw [ih (fun p hp => h p (by omega)), h n (by omega)]
theorem maxN_congr {n : Nat} {f g : Nat → Nat} (h : ∀ p, p < n → f p = g p) : maxN n f = maxN n g := by
  induction n with
  | zero => rfl
  | succ n ih =>
    show max (maxN n f) (f n) = max (maxN n g) (g n)
    rw [ih (fun p hp => h p (by omega)), h n (by omega)]
theorem maxN_t {q : Nat} {f : Nat → Nat} {m : Nat} (hm : m = maxN q f) (h : ¬ f q ≤ m) : f q = maxN (q + 1) f := by
  show f q = max (maxN q f) (f q)
  rw [Nat.max_eq_right (by omega)]
theorem maxN_f {q : Nat} {f : Nat → Nat} {m : Nat} (hm : m = maxN q f) (h : f q ≤ m) : m = maxN (q + 1) f := by
  show m = max (maxN q f) (f q)
  rw [Nat.max_eq_left (by omega)]
  exact hm
/-- what a post is worth -/
def wv (kd ld : Nat → Nat) (p : Nat) : Nat := if kd p = 0 then ld p else if kd p = 1 then ld p + 1 else 2 * ld p
theorem wv_le {kd ld : Nat → Nat} {p : Nat} (h : ld p ≤ 9) : wv kd ld p ≤ 18 := by
  unfold wv
  split
  · omega
  · split <;> omega
/-- what a set of posts is worth together -/
def ws (n : Nat) (kd ld : Nat → Nat) (s : Nat) : Nat := sumN n fun p => if s.testBit p then wv kd ld p else 0
theorem ws_le {n : Nat} {kd ld : Nat → Nat} (h : ∀ p, p < n → ld p ≤ 9) (s : Nat) : ws n kd ld s ≤ n * 18 := sumN_le fun p hp => by
  have := wv_le (kd := kd) (h p hp)
  split <;> omega
def lvs (n : Nat) (tw : Nat → Nat) : Nat := orN n fun p => if cnt (tw p) = 1 then 1 <<< p else 0
/-- a twig more, a twig less -/
def jn (tw : Nat → Nat) (a b : Nat) : Nat → Nat := fun p => if p = b then tw b ||| 1 <<< a else if p = a then tw a ||| 1 <<< b else tw p
def uj (tw : Nat → Nat) (a b : Nat) : Nat → Nat := fun p => if p = b then ndf (tw b) (1 <<< a) else if p = a then ndf (tw a) (1 <<< b) else tw p
end SPEC
section MV
/-- the reference's arrays of one kind replaced -/
def mArr (S : mS) (k : Nat) (fa : Nat → Int32) : mS := (S.1, va_up S.2 k fa)
theorem mPut_arr (S : mS) (k : Nat) (fa : Nat → Int32) (i : Nat) (x : Int32) : mPut (mArr S k fa) k i x = mArr S k (upd fa i x) := by
  unfold mPut mArr
  refine Prod.ext rfl ?_
  show va_up (va_up S.2 k fa) k (upd (va_up S.2 k fa k) i x) = va_up S.2 k (upd fa i x)
  rw [bx_uu]
  congr 1
  unfold va_up
  rw [if_pos rfl]
theorem mArr_0 (S : mS) (k : Nat) : mArr S k (S.2 k) = S := by
  unfold mArr
  refine Prod.ext rfl ?_
  funext j
  show va_up S.2 k (S.2 k) j = S.2 j
  unfold va_up
  split
  · rename_i h; rw [h]
  · rfl
theorem mArr_arr (S : mS) (k : Nat) (fa fb : Nat → Int32) : mArr (mArr S k fa) k fb = mArr S k fb := Prod.ext rfl (bx_uu _ _ _ _)
theorem mArr_s (S : mS) (k : Nat) (fa : Nat → Int32) : (mArr S k fa).2 k = fa := by
  show va_up S.2 k fa k = fa
  unfold va_up
  rw [if_pos rfl]
/-- the reference holds a vine: n posts, their twigs, kinds, loads -/
def mV (S : mS) (n : Nat) (tw kd ld : Nat → Nat) : Prop := S.1 5 = nI n ∧ n ≤ 8 ∧ ∀ p, p < n → S.2 7 p = nI (tw p) ∧ tw p < 2 ^ n ∧ S.2 8 p = nI (kd p) ∧ kd p ≤ 2 ∧ S.2 9 p = nI (ld p) ∧ ld p ≤ 9
theorem pow_n8 {n : Nat} (h : n ≤ 8) : 2 ^ n ≤ 256 := Nat.pow_le_pow_right (by decide) h
theorem mV.tw {S : mS} {n : Nat} {tw kd ld : Nat → Nat} (h : mV S n tw kd ld) {p : Nat} (hp : p < n) : S.2 7 p = nI (tw p) := (h.2.2 p hp).1
theorem mV.t8 {S : mS} {n : Nat} {tw kd ld : Nat → Nat} (h : mV S n tw kd ld) {p : Nat} (hp : p < n) : tw p < 256 := Nat.lt_of_lt_of_le (h.2.2 p hp).2.1 (pow_n8 h.2.1)
theorem mV.kd {S : mS} {n : Nat} {tw kd ld : Nat → Nat} (h : mV S n tw kd ld) {p : Nat} (hp : p < n) : S.2 8 p = nI (kd p) := (h.2.2 p hp).2.2.1
theorem mV.k2 {S : mS} {n : Nat} {tw kd ld : Nat → Nat} (h : mV S n tw kd ld) {p : Nat} (hp : p < n) : kd p ≤ 2 := (h.2.2 p hp).2.2.2.1
theorem mV.ld {S : mS} {n : Nat} {tw kd ld : Nat → Nat} (h : mV S n tw kd ld) {p : Nat} (hp : p < n) : S.2 9 p = nI (ld p) := (h.2.2 p hp).2.2.2.2.1
theorem mV.l9 {S : mS} {n : Nat} {tw kd ld : Nat → Nat} (h : mV S n tw kd ld) {p : Nat} (hp : p < n) : ld p ≤ 9 := (h.2.2 p hp).2.2.2.2.2
theorem mV.mv {S S' : mS} {n : Nat} {tw kd ld : Nat → Nat} (h : mV S n tw kd ld) (h5 : S'.1 5 = S.1 5) (h7 : ∀ p, p < n → S'.2 7 p = S.2 7 p) (h8 : ∀ p, p < n → S'.2 8 p = S.2 8 p) (h9 : ∀ p, p < n → S'.2 9 p = S.2 9 p) : mV S' n tw kd ld :=
  ⟨h5.trans h.1, h.2.1, fun p hp => ⟨(h7 p hp).trans (h.tw hp), (h.2.2 p hp).2.1, (h8 p hp).trans (h.kd hp), h.k2 hp, (h9 p hp).trans (h.ld hp), h.l9 hp⟩⟩
/-- the ways' lengths, as the reference has found them -/
def mFar (S : mS) (n : Nat) (d : Nat → Nat → Nat) : Prop := ∀ a, a < n → ∀ b, b < n → S.2 15 (8 * a + b) = nI (d a b) ∧ d a b < 8
end MV
