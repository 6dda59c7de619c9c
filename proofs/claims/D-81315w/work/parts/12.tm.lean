/-! trees by their metric: d a b twigs lie between a and b -/
section TMX
def TM (n : Nat) (tw : Nat → Nat) (d : Nat → Nat → Nat) : Prop :=
  (∀ a, a < n → tw a < 2 ^ n) ∧ (∀ a, a < n → ∀ b, b < n → (d a b = 0 ↔ a = b)) ∧ (∀ a, a < n → ∀ b, b < n → d a b = d b a) ∧ (∀ a, a < n → ∀ b, b < n → ((tw a).testBit b = true ↔ d a b = 1)) ∧
    ∀ a, a < n → ∀ b, b < n → a ≠ b → ∃ c, c < n ∧ d a c = 1 ∧ d c b + 1 = d a b ∧ ∀ c', c' < n → d a c' = 1 → c' ≠ c → d c' b = d a b + 1
variable {n : Nat} {tw : Nat → Nat} {d : Nat → Nat → Nat}
theorem TM.lt (T : TM n tw d) {a : Nat} (ha : a < n) : tw a < 2 ^ n := T.1 a ha
theorem TM.z (T : TM n tw d) {a b : Nat} (ha : a < n) (hb : b < n) : d a b = 0 ↔ a = b := T.2.1 a ha b hb
theorem TM.s (T : TM n tw d) {a b : Nat} (ha : a < n) (hb : b < n) : d a b = d b a := T.2.2.1 a ha b hb
theorem TM.adj (T : TM n tw d) {a b : Nat} (ha : a < n) (hb : b < n) : (tw a).testBit b = true ↔ d a b = 1 := T.2.2.2.1 a ha b hb
theorem TM.bl (T : TM n tw d) {a b : Nat} (ha : a < n) (h : (tw a).testBit b = true) : b < n := tb_lt (T.lt ha) h
theorem TM.nx (T : TM n tw d) {a b : Nat} (ha : a < n) (hb : b < n) (h : a ≠ b) : ∃ c, c < n ∧ d a c = 1 ∧ d c b + 1 = d a b ∧ ∀ c', c' < n → d a c' = 1 → c' ≠ c → d c' b = d a b + 1 := T.2.2.2.2 a ha b hb h
theorem TM.d0 (T : TM n tw d) {a : Nat} (ha : a < n) : d a a = 0 := (T.z ha ha).mpr rfl
/-- a neighbour lies one nearer or one farther -/
theorem TM.nb (T : TM n tw d) {a b c : Nat} (ha : a < n) (hb : b < n) (hc : c < n) (h : d a c = 1) : d c b + 1 = d a b ∨ d c b = d a b + 1 := by
  by_cases hab : a = b
  · subst hab
    right
    rw [T.d0 ha, ← T.s ha hc, h]
  · obtain ⟨x, hx, h1, h2, h3⟩ := T.nx ha hb hab
    by_cases hcx : c = x
    · subst hcx; exact Or.inl h2
    · exact Or.inr (h3 c hc h hcx)
theorem TM.lev (T : TM n tw d) {a : Nat} (ha : a < n) (k : Nat) : ∀ m p, p < n → d a p = m + k → ∃ c, c < n ∧ d a c = k := by
  intro m
  induction m with
  | zero => intro p hp h; exact ⟨p, hp, by omega⟩
  | succ m ih =>
    intro p hp h
    have hpa : p ≠ a := by
      intro e
      subst e
      rw [T.d0 ha] at h
      omega
    obtain ⟨c, hc, h1, h2, -⟩ := T.nx hp ha hpa
    refine ih c hc ?_
    rw [T.s ha hc]
    rw [T.s ha hp] at h
    omega
/-- numbers below k, each met by f below n: k is no more than n -/
theorem pigeon : ∀ (n k : Nat) (f : Nat → Nat), (∀ j, j < k → ∃ c, c < n ∧ f c = j) → k ≤ n := by
  intro n
  induction n with
  | zero =>
    intro k f h
    rcases Nat.eq_zero_or_pos k with e | e
    · omega
    · obtain ⟨c, hc, -⟩ := h 0 e
      omega
  | succ n ih =>
    intro k f h
    by_cases hk : f n < k
    · have := ih (k - 1) (fun c => if f n < f c then f c - 1 else f c) (fun j hj => by
        by_cases hjn : j < f n
        · obtain ⟨c, hc, e⟩ := h j (by omega)
          have hcn : c ≠ n := by intro e2; subst e2; omega
          refine ⟨c, by omega, ?_⟩
          show (if f n < f c then f c - 1 else f c) = j
          rw [if_neg (by omega)]
          exact e
        · obtain ⟨c, hc, e⟩ := h (j + 1) (by omega)
          have hcn : c ≠ n := by intro e2; subst e2; omega
          refine ⟨c, by omega, ?_⟩
          show (if f n < f c then f c - 1 else f c) = j
          rw [if_pos (by omega)]
          omega)
      omega
    · have := ih k f (fun j hj => by
        obtain ⟨c, hc, e⟩ := h j hj
        have hcn : c ≠ n := by intro e2; subst e2; omega
        exact ⟨c, by omega, e⟩)
      omega
theorem TM.dl (T : TM n tw d) {a b : Nat} (ha : a < n) (hb : b < n) : d a b < n := by
  have := pigeon n (d a b + 1) (d a) (fun j hj => T.lev ha j (d a b - j) b hb (by omega))
  omega
/-- the posts for which P holds, as a set -/
def setN (n : Nat) (P : Nat → Bool) : Nat := orN n fun p => if P p then 1 <<< p else 0
theorem setN_bit (n : Nat) (P : Nat → Bool) (i : Nat) : (setN n P).testBit i = (decide (i < n) && P i) := by
  rw [Bool.eq_iff_iff, setN, orN_bit, Bool.and_eq_true, decide_eq_true_eq]
  constructor
  · rintro ⟨p, hp, h⟩
    by_cases hP : P p = true
    · rw [if_pos hP, shl1_bit, decide_eq_true_eq] at h
      subst h
      exact ⟨hp, hP⟩
    · rw [if_neg hP, Nat.zero_testBit] at h
      cases h
  · rintro ⟨hi, hP⟩
    exact ⟨i, hi, by rw [if_pos hP, shl1_bit, decide_eq_true_eq]⟩
theorem setN_lt (n : Nat) (P : Nat → Bool) : setN n P < 2 ^ n := orN_lt fun p hp => by
  split
  · exact shl1_lt hp
  · exact Nat.two_pow_pos n
theorem setN_s (n : Nat) (P : Nat → Bool) : setN (n + 1) P = setN n P ||| (if P n then 1 <<< n else 0) := rfl
theorem set_ext {a b : Nat} (h : ∀ i, a.testBit i = b.testBit i) : a = b := Nat.eq_of_testBit_eq h
/-- the posts at a distance, the posts nearer -/
def lvl (n : Nat) (d : Nat → Nat → Nat) (a D : Nat) : Nat := setN n fun p => decide (d a p = D)
def ltl (n : Nat) (d : Nat → Nat → Nat) (a D : Nat) : Nat := setN n fun p => decide (d a p < D)
theorem lvl_0 (T : TM n tw d) {a : Nat} (ha : a < n) : 1 <<< a = lvl n d a 0 := set_ext fun i => by
  rw [shl1_bit, lvl, setN_bit, Bool.eq_iff_iff, Bool.and_eq_true, decide_eq_true_eq, decide_eq_true_eq, decide_eq_true_eq]
  constructor
  · rintro rfl; exact ⟨ha, T.d0 ha⟩
  · rintro ⟨h1, h2⟩; exact ((T.z ha h1).mp h2).symm
theorem ltl_0 (n : Nat) (d : Nat → Nat → Nat) (a : Nat) : 0 = ltl n d a 0 := set_ext fun i => by
  rw [Nat.zero_testBit, ltl, setN_bit]
  simp
theorem ltl_s (n : Nat) (d : Nat → Nat → Nat) (a D : Nat) : ltl n d a D ||| lvl n d a D = ltl n d a (D + 1) := set_ext fun i => by
  rw [Nat.testBit_or, ltl, lvl, ltl, setN_bit, setN_bit, setN_bit, ← Bool.and_or_distrib_left]
  congr 1
  rw [Bool.eq_iff_iff, Bool.or_eq_true, decide_eq_true_eq, decide_eq_true_eq, decide_eq_true_eq]
  omega
theorem lvl_tb (n : Nat) (d : Nat → Nat → Nat) (a D i : Nat) : (lvl n d a D).testBit i = (decide (i < n) && decide (d a i = D)) := setN_bit _ _ _
theorem ltl_tb (n : Nat) (d : Nat → Nat → Nat) (a D i : Nat) : (ltl n d a D).testBit i = (decide (i < n) && decide (d a i < D)) := setN_bit _ _ _
/-- what the twigs of a level reach -/
def thn (tw : Nat → Nat) (s p : Nat) : Nat := orN p fun q => if s.testBit q then tw q else 0
theorem lvl_s (T : TM n tw d) {a : Nat} (ha : a < n) (D : Nat) : ndf (thn tw (lvl n d a D) n) (ltl n d a (D + 1)) = lvl n d a (D + 1) := set_ext fun i => by
  rw [ndf_bit, ltl_tb, lvl_tb n d a (D + 1), Bool.eq_iff_iff, Bool.and_eq_true, Bool.and_eq_true, Bool.not_eq_true', Bool.and_eq_false_iff, decide_eq_true_eq, decide_eq_false_iff_not, decide_eq_false_iff_not, decide_eq_true_eq, thn, orN_bit]
  constructor
  · rintro ⟨⟨q, hq, h⟩, h2⟩
    by_cases hl : (lvl n d a D).testBit q = true
    · rw [if_pos hl] at h
      have hi := T.bl hq h
      rw [lvl_tb, Bool.and_eq_true, decide_eq_true_eq, decide_eq_true_eq] at hl
      have h1 := (T.adj hq hi).mp h
      rcases h2 with h2 | h2
      · exact absurd hi h2
      · have := T.nb hq ha hi h1
        rw [T.s hq ha, T.s hi ha] at this
        exact ⟨hi, by omega⟩
    · rw [if_neg hl, Nat.zero_testBit] at h
      cases h
  · rintro ⟨hi, h⟩
    have hne : i ≠ a := by
      intro e
      subst e
      rw [T.d0 ha] at h
      omega
    obtain ⟨c, hc, h1, h2, -⟩ := T.nx hi ha hne
    rw [T.s hc ha, T.s hi ha] at h2
    refine ⟨⟨c, hc, ?_⟩, Or.inr (by omega)⟩
    have hl : (lvl n d a D).testBit c = true := by
      rw [lvl, setN_bit, Bool.and_eq_true, decide_eq_true_eq, decide_eq_true_eq]
      exact ⟨hc, by omega⟩
    rw [if_pos hl]
    exact (T.adj hc hi).mpr (by rw [T.s hc hi]; exact h1)
theorem lvl_bit {a D p : Nat} (hp : p < n) : (lvl n d a D).testBit p = decide (d a p = D) := by
  rw [lvl, setN_bit, decide_eq_true hp, Bool.true_and]
theorem lvl_pos {a D : Nat} (h : lvl n d a D ≠ 0) : ∃ p, p < n ∧ d a p = D := by
  rcases Classical.em (∃ p, p < n ∧ d a p = D) with q | q
  · exact q
  · refine absurd (set_ext fun i => ?_) h
    rw [Nat.zero_testBit, lvl, setN_bit, Bool.and_eq_false_iff, decide_eq_false_iff_not, decide_eq_false_iff_not]
    by_cases hi : i < n
    · exact Or.inr fun e => q ⟨i, hi, e⟩
    · exact Or.inl hi
theorem lvl_end (T : TM n tw d) {a D : Nat} (ha : a < n) (h : lvl n d a D = 0) {p : Nat} (hp : p < n) : d a p < D := by
  rcases Nat.lt_or_ge (d a p) D with q | q
  · exact q
  · obtain ⟨c, hc, e⟩ := T.lev ha D (d a p - D) p hp (by omega)
    have h1 : (lvl n d a D).testBit c = true := by
      rw [lvl_bit hc]; exact decide_eq_true e
    rw [h, Nat.zero_testBit] at h1
    cases h1
/-- the search from each post: what the array holds on the way -/
def ffI (n : Nat) (d : Nat → Nat → Nat) (a D : Nat) (fa : Nat → Int32) : Prop := (∀ a', a' < a → ∀ b, b < n → fa (8 * a' + b) = nI (d a' b)) ∧ ∀ b, b < n → d a b < D → fa (8 * a + b) = nI (d a b)
def ffJ (n : Nat) (d : Nat → Nat → Nat) (a D p : Nat) (fa : Nat → Int32) : Prop := ffI n d a D fa ∧ ∀ q, q < p → d a q = D → fa (8 * a + q) = nI D
theorem ffJ_0 {a D : Nat} {fa : Nat → Int32} (h : ffI n d a D fa) : ffJ n d a D 0 fa := ⟨h, fun q hq => absurd hq (Nat.not_lt_zero q)⟩
theorem ffJ_t (hn : n ≤ 8) {a D p : Nat} {fa : Nat → Int32} (h : ffJ n d a D p fa) (hp : p < n) (hd : d a p = D) : ffJ n d a D (p + 1) (upd fa (8 * a + p) (nI D)) := by
  refine ⟨⟨fun a' ha' b hb => ?_, fun b hb hl => ?_⟩, fun q hq he => ?_⟩
  · rw [pk_un (by omega)]; exact h.1.1 a' ha' b hb
  · rw [pk_un (by intro e; have : b = p := by omega
                  subst this; omega)]
    exact h.1.2 b hb hl
  · by_cases hqp : q = p
    · subst hqp; exact pk_us
    · rw [pk_un (by omega)]
      exact h.2 q (by omega) he
theorem ffJ_f {a D p : Nat} {fa : Nat → Int32} (h : ffJ n d a D p fa) (hd : ¬ d a p = D) : ffJ n d a D (p + 1) fa := ⟨h.1, fun q hq he => by
  by_cases hqp : q = p
  · subst hqp; exact absurd he hd
  · exact h.2 q (by omega) he⟩
theorem ffJ_e {a D : Nat} {fa : Nat → Int32} (h : ffJ n d a D n fa) : ffI n d a (D + 1) fa := ⟨h.1.1, fun b hb hl => by
  by_cases he : d a b = D
  · rw [he]; exact h.2 b hb he
  · exact h.1.2 b hb (by omega)⟩
theorem ffI_e {a D : Nat} {fa : Nat → Int32} (h : ffI n d a D fa) (hl : ∀ p, p < n → d a p < D) : ffI n d (a + 1) 0 fa := ⟨fun a' ha' b hb => by
  by_cases he : a' = a
  · subst he; exact h.2 b hb (hl b hb)
  · exact h.1 a' (by omega) b hb, fun b _ h => absurd h (Nat.not_lt_zero _)⟩
end TMX
