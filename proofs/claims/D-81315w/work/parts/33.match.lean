/-! the most twigs of which no two touch -/
section MATCH
theorem sumN_add (n : Nat) (f g : Nat → Nat) : sumN n (fun a => f a + g a) = sumN n f + sumN n g := by
  induction n with
  | zero => rfl
  | succ n ih =>
    show sumN n (fun a => f a + g a) + (f n + g n) = (sumN n f + f n) + (sumN n g + g n)
    rw [ih]; omega
theorem sumN_0 (n : Nat) : sumN n (fun _ => 0) = 0 := by
  induction n with
  | zero => rfl
  | succ n ih => show sumN n _ + 0 = 0; rw [ih]
/-- pairs a < b -/
def tri (n : Nat) (G : Nat → Nat → Nat) : Nat := sumN n fun a => sumN n fun b => if a < b then G a b else 0
theorem tri_s (n : Nat) (G : Nat → Nat → Nat) : tri (n + 1) G = tri n G + sumN n fun a => G a n := by
  show sumN n (fun a => sumN n (fun b => if a < b then G a b else 0) + (if a < n then G a n else 0)) + (sumN n (fun b => if n < b then G n b else 0) + (if n < n then G n n else 0)) = _
  have e1 : sumN n (fun b => if n < b then G n b else 0) = 0 := by
    rw [sumN_congr (g := fun _ => 0) (fun p hp => if_neg (by omega))]
    exact sumN_0 n
  rw [sumN_add, e1, if_neg (Nat.lt_irrefl n), sumN_congr (n := n) (f := fun a => if a < n then G a n else 0) (g := fun a => G a n) (fun p hp => if_pos hp)]
  rfl
theorem tri_sym (n : Nat) (F : Nat → Nat → Nat) : tri n (fun a b => F a b + F b a) = sumN n fun a => sumN n fun b => if a = b then 0 else F a b := by
  induction n with
  | zero => rfl
  | succ n ih =>
    rw [tri_s, ih, sumN_add]
    show _ = sumN n (fun a => sumN n (fun b => if a = b then 0 else F a b) + (if a = n then 0 else F a n)) + (sumN n (fun b => if n = b then 0 else F n b) + (if n = n then 0 else F n n))
    rw [sumN_add, if_pos rfl, sumN_congr (n := n) (f := fun a => if a = n then 0 else F a n) (g := fun a => F a n) (fun p hp => if_neg (by omega)), sumN_congr (n := n) (f := fun b => if n = b then 0 else F n b) (g := fun b => F n b) (fun p hp => if_neg (by omega))]
    have e9 : (sumN n fun b => F n b) = sumN n (F n) := rfl
    omega
theorem tri_congr {n : Nat} {F G : Nat → Nat → Nat} (h : ∀ a, a < n → ∀ b, b < n → a < b → F a b = G a b) : tri n F = tri n G := sumN_congr fun a ha => sumN_congr fun b hb => by
  by_cases hab : a < b
  · rw [if_pos hab, if_pos hab]; exact h a ha b hb hab
  · rw [if_neg hab, if_neg hab]
/-- one place alone counts -/
theorem sumN_one {n x : Nat} {f : Nat → Nat} (hx : x < n) (h : ∀ q, q < n → q ≠ x → f q = 0) : sumN n f = f x := by
  induction n with
  | zero => omega
  | succ n ih =>
    show sumN n f + f n = f x
    by_cases e : x = n
    · subst e
      rw [sumN_congr (g := fun _ => 0) (fun p hp => h p (by omega) (by omega)), sumN_0]
      omega
    · rw [ih (by omega) (fun q hq => h q (by omega)), h n (by omega) (Ne.symm e)]
      rfl
variable {n : Nat} {tw : Nat → Nat} {d : Nat → Nat → Nat}
/-- some child has none: seen from post 0 -/
def mayF (n : Nat) (d : Nat → Nat → Nat) : Nat → Nat → Bool
  | 0, _ => false
  | k + 1, v => (List.range n).any fun c => decide (d v c = 1) && decide (d c 0 = d v 0 + 1) && !mayF n d k c
def may (n : Nat) (d : Nat → Nat → Nat) (v : Nat) : Bool := mayF n d (n - d v 0) v
theorem may_iff (T : TM n tw d) (h0 : 0 < n) {v : Nat} (hv : v < n) : may n d v = true ↔ ∃ c, c < n ∧ d v c = 1 ∧ d c 0 = d v 0 + 1 ∧ may n d c = false := by
  have hl := T.dl hv h0
  unfold may
  obtain ⟨k, hk⟩ : ∃ k, n - d v 0 = k + 1 := ⟨n - d v 0 - 1, by omega⟩
  rw [hk]
  show ((List.range n).any fun c => decide (d v c = 1) && decide (d c 0 = d v 0 + 1) && !mayF n d k c) = true ↔ _
  rw [List.any_eq_true]
  constructor
  · rintro ⟨c, hc, h⟩
    simp only [Bool.and_eq_true, decide_eq_true_eq, Bool.not_eq_true'] at h
    exact ⟨c, List.mem_range.mp hc, h.1.1, h.1.2, by rw [show n - d c 0 = k by omega]; exact h.2⟩
  · rintro ⟨c, hc, h1, h2, h3⟩
    refine ⟨c, List.mem_range.mpr hc, ?_⟩
    simp only [Bool.and_eq_true, decide_eq_true_eq, Bool.not_eq_true']
    exact ⟨⟨h1, h2⟩, by rw [show n - d c 0 = k by omega] at h3; exact h3⟩
def mw (n : Nat) (d : Nat → Nat → Nat) (x : Nat) : Nat := if may n d x then 1 else 0
def nu (n : Nat) (d : Nat → Nat → Nat) : Nat := sumN n (mw n d)
/-- of two neighbours one lies behind the other -/
theorem par_or (T : TM n tw d) (h0 : 0 < n) {a b : Nat} (ha : a < n) (hb : b < n) (h : d a b = 1) : (d b 0 = d a 0 + 1) ∨ (d a 0 = d b 0 + 1) := by
  rcases T.nb ha h0 hb h with q | q <;> omega
/-- a twig has an end that may -/
theorem may_edge (T : TM n tw d) (h0 : 0 < n) {a b : Nat} (ha : a < n) (hb : b < n) (h : d a b = 1) : 1 ≤ mw n d a + mw n d b := by
  have key : ∀ {x y}, x < n → y < n → d x y = 1 → d y 0 = d x 0 + 1 → 1 ≤ mw n d x + mw n d y := fun {x y} hx hy h1 h2 => by
    unfold mw
    cases hm : may n d y with
    | true => simp
    | false =>
      have : may n d x = true := (may_iff T h0 hx).mpr ⟨y, hy, h1, h2, hm⟩
      rw [this]; simp
  rcases par_or T h0 ha hb h with q | q
  · exact key ha hb h q
  · have := key hb ha (by rw [T.s hb ha]; exact h) q
    omega
/-- the child that a post which may is paired with -/
def chd (n : Nat) (d : Nat → Nat → Nat) (v : Nat) : Nat := (fstN n fun c => decide (d v c = 1) && decide (d c 0 = d v 0 + 1) && !may n d c).getD n
theorem chd_ok (T : TM n tw d) (h0 : 0 < n) {v : Nat} (hv : v < n) (h : may n d v = true) : chd n d v < n ∧ d v (chd n d v) = 1 ∧ d (chd n d v) 0 = d v 0 + 1 ∧ may n d (chd n d v) = false := by
  obtain ⟨c, hc, h1, h2, h3⟩ := (may_iff T h0 hv).mp h
  cases hf : fstN n (fun c => decide (d v c = 1) && decide (d c 0 = d v 0 + 1) && !may n d c) with
  | none =>
    have := List.find?_eq_none.mp hf c (List.mem_range.mpr hc)
    simp [h1, h2, h3] at this
  | some x =>
    have hx := List.find?_range_eq_some.mp hf
    have h5 := hx.1
    simp only [Bool.and_eq_true, decide_eq_true_eq, Bool.not_eq_true'] at h5
    unfold chd
    rw [hf]
    exact ⟨List.mem_range.mp hx.2.1, h5.1.1, h5.1.2, h5.2⟩
/-- which twigs are taken -/
def tk1 (n : Nat) (d : Nat → Nat → Nat) (a b : Nat) : Bool := may n d a && decide (b = chd n d a)
def tk2 (n : Nat) (d : Nat → Nat → Nat) (a b : Nat) : Bool := tk1 n d a b || tk1 n d b a
theorem tk1_d (T : TM n tw d) (h0 : 0 < n) {a b : Nat} (ha : a < n) (h : tk1 n d a b = true) : b < n ∧ d a b = 1 ∧ d b 0 = d a 0 + 1 ∧ may n d a = true ∧ may n d b = false := by
  unfold tk1 at h
  rw [Bool.and_eq_true, decide_eq_true_eq] at h
  obtain ⟨h1, rfl⟩ := h
  obtain ⟨a1, a2, a3, a4⟩ := chd_ok T h0 ha h1
  exact ⟨a1, a2, a3, h1, a4⟩
/-- two taken twigs that share an end are one -/
theorem tk_share (T : TM n tw d) (h0 : 0 < n) {a b c e x : Nat} (ha : a < n) (hc : c < n) (h1 : tk1 n d a b = true) (h2 : tk1 n d c e = true) (hx : x = a ∨ x = b) (hy : x = c ∨ x = e) : a = c ∧ b = e := by
  obtain ⟨b1, b2, b3, b4, b5⟩ := tk1_d T h0 ha h1
  obtain ⟨e1, e2, e3, e4, e5⟩ := tk1_d T h0 hc h2
  have fin : a = c → a = c ∧ b = e := fun q => by
    subst q
    unfold tk1 at h1 h2
    rw [Bool.and_eq_true, decide_eq_true_eq] at h1 h2
    exact ⟨rfl, h1.2.trans h2.2.symm⟩
  rcases hx with rfl | rfl <;> rcases hy with rfl | rfl
  · exact fin rfl
  · rw [b4] at e5; cases e5
  · rw [b5] at e4; cases e4
  · apply fin
    have hne : x ≠ 0 := by
      intro q
      rw [q, T.d0 h0] at b3
      omega
    obtain ⟨z, hz, z1, z2, z3⟩ := T.nx b1 h0 hne
    have p1 : a = z := by
      rcases Classical.em (a = z) with q | q
      · exact q
      · have := z3 a ha (by rw [T.s b1 ha]; exact b2) q; omega
    have p2 : c = z := by
      rcases Classical.em (c = z) with q | q
      · exact q
      · have := z3 c hc (by rw [T.s b1 hc]; exact e2) q; omega
    rw [p1, p2]
theorem tk_sum (T : TM n tw d) (h0 : 0 < n) : tri n (fun a b => if d a b = 1 ∧ tk2 n d a b = true then 1 else 0) = nu n d := by
  rw [tri_congr (G := fun a b => (if tk1 n d a b = true then 1 else 0) + (if tk1 n d b a = true then 1 else 0)) (fun a ha b hb hab => ?_), tri_sym]
  · refine sumN_congr fun a ha => ?_
    unfold mw
    cases hm : may n d a with
    | true =>
      obtain ⟨c1, c2, c3, c4⟩ := chd_ok T h0 ha hm
      have hne : a ≠ chd n d a := fun q => by rw [← q, T.d0 ha] at c2; omega
      rw [sumN_one c1 (fun q _ hq => ?_)]
      · rw [if_neg hne, if_pos (by unfold tk1; rw [hm, decide_eq_true rfl]; rfl)]; rfl
      · split
        · rfl
        · rw [if_neg]
          unfold tk1
          rw [decide_eq_false hq, Bool.and_false]
          decide
    | false =>
      rw [sumN_congr (g := fun _ => 0) (fun q hq => ?_), sumN_0]
      · rfl
      · split
        · rfl
        · rw [if_neg]
          unfold tk1
          rw [hm]
          simp
  · show (if d a b = 1 ∧ tk2 n d a b = true then 1 else 0) = _
    unfold tk2
    cases h1 : tk1 n d a b with
    | true =>
      obtain ⟨b1, b2, b3, b4, b5⟩ := tk1_d T h0 ha h1
      have h2 : tk1 n d b a = false := by
        unfold tk1
        rw [b5]; rfl
      rw [h2, if_pos ⟨b2, rfl⟩]
      rfl
    | false =>
      cases h2 : tk1 n d b a with
      | true =>
        obtain ⟨b1, b2, b3, b4, b5⟩ := tk1_d T h0 hb h2
        rw [if_pos ⟨by rw [T.s ha hb]; exact b2, rfl⟩]
        rfl
      | false =>
        rw [if_neg (by simp)]
        rfl
/-- a tree has one twig less than posts -/
theorem edge_sum (T : TM n tw d) (h0 : 0 < n) : tri n (fun a b => if d a b = 1 then 1 else 0) = n - 1 := by
  rw [tri_congr (G := fun a b => (if d a b = 1 ∧ d a 0 = d b 0 + 1 then 1 else 0) + (if d b a = 1 ∧ d b 0 = d a 0 + 1 then 1 else 0)) (fun a ha b hb hab => ?_), tri_sym]
  · have e : ∀ a, a < n → (sumN n fun b => if a = b then 0 else if d a b = 1 ∧ d a 0 = d b 0 + 1 then 1 else 0) = if a = 0 then 0 else 1 := fun a ha => by
      by_cases z : a = 0
      · subst z
        rw [if_pos rfl, sumN_congr (g := fun _ => 0) (fun q hq => ?_), sumN_0]
        split
        · rfl
        · rw [if_neg]
          rw [T.d0 h0]
          omega
      · rw [if_neg z]
        obtain ⟨c, hc, c1, c2, c3⟩ := T.nx ha h0 z
        have hne : a ≠ c := fun q => by rw [← q, T.d0 ha] at c1; omega
        rw [sumN_one hc (fun q hq hqc => ?_)]
        · rw [if_neg hne, if_pos ⟨c1, c2.symm⟩]
        · split
          · rfl
          · rw [if_neg]
            rintro ⟨q1, q2⟩
            have := c3 q hq q1 hqc
            omega
    rw [sumN_congr e]
    have : ∀ m, sumN m (fun a => if a = 0 then 0 else 1) = m - 1 := by
      intro m
      induction m with
      | zero => rfl
      | succ m ih =>
        show sumN m _ + (if m = 0 then 0 else 1) = m + 1 - 1
        rw [ih]
        split <;> omega
    exact this n
  · show (if d a b = 1 then 1 else 0) = _
    by_cases h : d a b = 1
    · rw [if_pos h, T.s hb ha]
      rcases par_or T h0 ha hb h with q | q
      · rw [if_neg (by omega), if_pos ⟨h, q⟩]
      · rw [if_pos ⟨h, q⟩, if_neg (by omega)]
    · rw [if_neg h, T.s hb ha, if_neg (fun q => h q.1), if_neg (fun q => h q.1)]
/-- the twigs by number: ends A j, B j; sets of numbers -/
def eb (A B : Nat → Nat) (s j : Nat) : Nat := if s.testBit j then 1 <<< A j ||| 1 <<< B j else 0
def tkm (A B : Nat → Nat) (s k : Nat) : Nat := orN k (eb A B s)
def mt (A B : Nat → Nat) (s k : Nat) : Bool := allN k fun j => decide (tkm A B s j &&& eb A B s j = 0)
/-- the worth of a set of posts: how many may -/
def wm (n : Nat) (d : Nat → Nat → Nat) (t : Nat) : Nat := sumN n fun x => if t.testBit x then mw n d x else 0
theorem wm_or {s t : Nat} (h : s &&& t = 0) : wm n d (s ||| t) = wm n d s + wm n d t := by
  unfold wm
  rw [← sumN_add]
  refine sumN_congr fun x _ => ?_
  have hb : (s &&& t).testBit x = false := by rw [h, Nat.zero_testBit]
  rw [Nat.testBit_and] at hb
  rw [Nat.testBit_or]
  cases h1 : s.testBit x <;> cases h2 : t.testBit x
  · rfl
  · simp
  · simp
  · rw [h1, h2] at hb; cases hb
theorem wm_one {x : Nat} (hx : x < n) : wm n d (1 <<< x) = mw n d x := by
  unfold wm
  rw [sumN_one hx (fun q _ hq => by rw [shl1_bit, decide_eq_false hq]; rfl), shl1_bit, decide_eq_true rfl]
  rfl
theorem wm_le (t : Nat) : wm n d t ≤ nu n d := by
  have : ∀ m, sumN m (fun x => if t.testBit x then mw n d x else 0) ≤ sumN m (mw n d) := by
    intro m
    induction m with
    | zero => exact Nat.le_refl 0
    | succ m ih =>
      show sumN m _ + (if t.testBit m then mw n d m else 0) ≤ sumN m _ + mw n d m
      split <;> omega
  exact this n
/-- how many of the first k numbers are in s -/
def cb (s k : Nat) : Nat := cntN k fun j => s.testBit j
theorem mt_le (T : TM n tw d) (h0 : 0 < n) {A B : Nat → Nat} {s : Nat} : ∀ k, (∀ j, j < k → A j < n ∧ B j < n ∧ A j ≠ B j ∧ d (A j) (B j) = 1) → mt A B s k = true → cb s k ≤ wm n d (tkm A B s k) := by
  intro k
  induction k with
  | zero => intro _ _; exact Nat.zero_le _
  | succ k ih =>
    intro h hm
    have hm2 : (mt A B s k && decide (tkm A B s k &&& eb A B s k = 0)) = true := hm
    rw [Bool.and_eq_true, decide_eq_true_eq] at hm2
    have h1 := ih (fun j hj => h j (by omega)) hm2.1
    show cb s k + (if s.testBit k then 1 else 0) ≤ wm n d (tkm A B s k ||| eb A B s k)
    rw [wm_or hm2.2]
    obtain ⟨a1, a2, a3, a4⟩ := h k (by omega)
    by_cases hb : s.testBit k = true
    · rw [if_pos hb]
      have e : eb A B s k = 1 <<< A k ||| 1 <<< B k := if_pos hb
      have h2 := may_edge T h0 a1 a2 a4
      rw [e, wm_or (by
        refine set_ext fun i => ?_
        rw [Nat.testBit_and, shl1_bit, shl1_bit, Nat.zero_testBit, Bool.and_eq_false_iff, decide_eq_false_iff_not, decide_eq_false_iff_not]
        omega), wm_one a1, wm_one a2]
      omega
    · rw [if_neg hb]
      omega
/-- the set of the taken twigs -/
def ts (n : Nat) (d : Nat → Nat → Nat) (A B : Nat → Nat) (m : Nat) : Nat := setN m fun j => tk2 n d (A j) (B j)
theorem ts_mt (T : TM n tw d) (h0 : 0 < n) {A B : Nat → Nat} {m : Nat} (h : ∀ j, j < m → A j < n ∧ B j < n ∧ A j ≠ B j ∧ d (A j) (B j) = 1) (hi : ∀ i, i < m → ∀ j, j < m → (A i = A j ∧ B i = B j) ∨ (A i = B j ∧ B i = A j) → i = j) : mt A B (ts n d A B m) m = true := by
  unfold mt
  refine allN_t fun k hk => decide_eq_true (set_ext fun x => ?_)
  rw [Nat.zero_testBit, Nat.testBit_and, Bool.and_eq_false_iff]
  cases hx : (eb A B (ts n d A B m) k).testBit x with
  | false => exact Or.inr rfl
  | true =>
    refine Or.inl ?_
    cases hy : (tkm A B (ts n d A B m) k).testBit x with
    | false => rfl
    | true =>
      exfalso
      have inb : ∀ j, j < m → (eb A B (ts n d A B m) j).testBit x = true → tk2 n d (A j) (B j) = true ∧ (x = A j ∨ x = B j) := fun j hj hb => by
        unfold eb at hb
        by_cases hs : (ts n d A B m).testBit j = true
        · rw [if_pos hs, Nat.testBit_or, shl1_bit, shl1_bit, Bool.or_eq_true, decide_eq_true_eq, decide_eq_true_eq] at hb
          rw [ts, setN_bit, Bool.and_eq_true] at hs
          exact ⟨hs.2, hb⟩
        · rw [if_neg hs, Nat.zero_testBit] at hb; cases hb
      obtain ⟨q, hq, hb⟩ := (orN_bit x).mp hy
      obtain ⟨k1, k2⟩ := inb k hk hx
      obtain ⟨q1, q2⟩ := inb q (by omega) hb
      obtain ⟨a1, a2, a3, a4⟩ := h k hk
      obtain ⟨c1, c2, c3, c4⟩ := h q (by omega)
      unfold tk2 at k1 q1
      rw [Bool.or_eq_true] at k1 q1
      have : k = q := by
        rcases k1 with k1 | k1 <;> rcases q1 with q1 | q1
        · have := tk_share T h0 a1 c1 k1 q1 k2 q2
          exact hi k hk q (by omega) (Or.inl this)
        · have := tk_share T h0 a1 c2 k1 q1 k2 q2.symm
          exact hi k hk q (by omega) (Or.inr this)
        · have := tk_share T h0 a2 c1 k1 q1 k2.symm q2
          exact hi k hk q (by omega) (Or.inr ⟨this.2, this.1⟩)
        · have := tk_share T h0 a2 c2 k1 q1 k2.symm q2.symm
          exact hi k hk q (by omega) (Or.inl ⟨this.2, this.1⟩)
      omega
def sumA (m : Nat) (A B : Nat → Nat) (f : Nat → Nat → Nat) : Nat := sumN m fun j => f (A j) (B j)
theorem ts_cb {A B : Nat → Nat} {m : Nat} : cb (ts n d A B m) m = sumA m A B fun a b => if tk2 n d a b = true then 1 else 0 := by
  have : ∀ k, k ≤ m → cb (ts n d A B m) k = sumN k fun j => if tk2 n d (A j) (B j) = true then 1 else 0 := by
    intro k
    induction k with
    | zero => intro _; rfl
    | succ k ih =>
      intro hk
      show cb _ k + (if (ts n d A B m).testBit k then 1 else 0) = sumN k _ + (if tk2 n d (A k) (B k) = true then 1 else 0)
      rw [ih (by omega), ts, setN_bit, decide_eq_true (show k < m by omega), Bool.true_and]
  exact this m (Nat.le_refl m)
theorem cb_cnt : ∀ s, s < 128 → cb s 7 = cnt s := by decide +kernel
theorem cb_le (s : Nat) : ∀ k, cb s k ≤ k := fun k => cntN_le k _
theorem cb_hi {s k : Nat} (h : s < 2 ^ k) : ∀ m, k ≤ m → cb s m = cb s k := by
  intro m
  induction m with
  | zero => intro hk; rw [show k = 0 by omega]
  | succ m ih =>
    intro hk
    by_cases e : k = m + 1
    · rw [e]
    · show cb s m + (if s.testBit m then 1 else 0) = _
      rw [ih (by omega), if_neg]
      · rfl
      · rw [Nat.testBit_lt_two_pow (Nat.lt_of_lt_of_le h (Nat.pow_le_pow_right (by decide) (show k ≤ m by omega)))]
        decide
/-- the best of the sets ahead of s -/
def mbest (A B : Nat → Nat) (m : Nat) : Nat → Nat
  | 0 => 0
  | s + 1 => if mt A B s m && decide (mbest A B m s < cnt s) then cnt s else mbest A B m s
theorem mbest_ge {A B : Nat → Nat} {m : Nat} : ∀ s t, t < s → mt A B t m = true → cnt t ≤ mbest A B m s := by
  intro s
  induction s with
  | zero => intro t ht; omega
  | succ s ih =>
    intro t ht hm
    show cnt t ≤ (if mt A B s m && decide (mbest A B m s < cnt s) then cnt s else mbest A B m s)
    by_cases e : t = s
    · subst e
      rw [hm, Bool.true_and]
      by_cases h : mbest A B m t < cnt t
      · rw [decide_eq_true h, if_pos rfl]; exact Nat.le_refl _
      · rw [decide_eq_false h, if_neg (by decide)]; omega
    · have := ih t (by omega) hm
      split
      · rename_i h
        rw [Bool.and_eq_true, decide_eq_true_eq] at h
        omega
      · exact this
theorem mbest_le {A B : Nat → Nat} {m v : Nat} (h : ∀ s, s < 2 ^ m → mt A B s m = true → cnt s ≤ v) : ∀ s, s ≤ 2 ^ m → mbest A B m s ≤ v := by
  intro s
  induction s with
  | zero => intro _; exact Nat.zero_le _
  | succ s ih =>
    intro hs
    show (if mt A B s m && decide (mbest A B m s < cnt s) then cnt s else mbest A B m s) ≤ v
    split
    · rename_i q
      rw [Bool.and_eq_true] at q
      exact h s (by omega) q.1
    · exact ih (by omega)
theorem mbest_nu (T : TM n tw d) (h0 : 0 < n) {A B : Nat → Nat} {m : Nat} (hm : m ≤ 7) (h : ∀ j, j < m → A j < n ∧ B j < n ∧ A j ≠ B j ∧ d (A j) (B j) = 1) (hi : ∀ i, i < m → ∀ j, j < m → (A i = A j ∧ B i = B j) ∨ (A i = B j ∧ B i = A j) → i = j) (hs : ∀ f, sumA m A B f = tri n (fun a b => if d a b = 1 then f a b else 0)) : mbest A B m (2 ^ m) = nu n d := by
  have hp : 2 ^ m ≤ 128 := Nat.pow_le_pow_right (show 0 < 2 by decide) hm
  apply Nat.le_antisymm
  · refine mbest_le (fun s hs2 hmt => ?_) _ (Nat.le_refl _)
    rw [← cb_cnt s (by omega), cb_hi hs2 7 hm]
    exact Nat.le_trans (mt_le T h0 m h hmt) (wm_le _)
  · have hts : ts n d A B m < 2 ^ m := setN_lt _ _
    have h1 := mbest_ge (2 ^ m) (ts n d A B m) hts (ts_mt T h0 h hi)
    rw [← cb_cnt _ (by omega), cb_hi hts 7 hm, ts_cb, hs, tri_congr (G := fun a b => if d a b = 1 ∧ tk2 n d a b = true then 1 else 0) (fun a _ b _ _ => ?_), tk_sum T h0] at h1
    · exact h1
    · show (if d a b = 1 then (if tk2 n d a b = true then 1 else 0) else 0) = _
      by_cases q : d a b = 1
      · rw [if_pos q]
        by_cases q2 : tk2 n d a b = true
        · rw [if_pos q2, if_pos ⟨q, q2⟩]
        · rw [if_neg q2, if_neg (fun z => q2 z.2)]
      · rw [if_neg q, if_neg (fun z => q z.1)]
def aPairs (n : Nat) (d : Nat → Nat → Nat) : Int32 := if n = 0 then -3 else nI (nu n d)
end MATCH
