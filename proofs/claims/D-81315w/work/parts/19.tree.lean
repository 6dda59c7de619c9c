/-! trees grow and are grafted -/
section TREE
def TMS (P : Nat → Prop) (tw : Nat → Nat) (d : Nat → Nat → Nat) : Prop :=
  (∀ a, P a → ∀ i, (tw a).testBit i = true → P i) ∧ (∀ a, P a → ∀ b, P b → (d a b = 0 ↔ a = b)) ∧ (∀ a, P a → ∀ b, P b → d a b = d b a) ∧ (∀ a, P a → ∀ b, P b → ((tw a).testBit b = true ↔ d a b = 1)) ∧
    ∀ a, P a → ∀ b, P b → a ≠ b → ∃ c, P c ∧ d a c = 1 ∧ d c b + 1 = d a b ∧ ∀ c', P c' → d a c' = 1 → c' ≠ c → d c' b = d a b + 1
theorem TMS.tm {n : Nat} {P : Nat → Prop} {tw : Nat → Nat} {d : Nat → Nat → Nat} (h : TMS P tw d) (hP : ∀ a, P a ↔ a < n) : TM n tw d := by
  refine ⟨fun a ha => lt_two_pow_of_tb fun k hk => ?_, fun a ha b hb => h.2.1 a ((hP a).mpr ha) b ((hP b).mpr hb), fun a ha b hb => h.2.2.1 a ((hP a).mpr ha) b ((hP b).mpr hb), fun a ha b hb => h.2.2.2.1 a ((hP a).mpr ha) b ((hP b).mpr hb), fun a ha b hb hab => ?_⟩
  · cases hb : (tw a).testBit k with
    | false => rfl
    | true =>
      have := (hP k).mp (h.1 a ((hP a).mpr ha) k hb)
      omega
  · obtain ⟨c, h1, h2, h3, h4⟩ := h.2.2.2.2 a ((hP a).mpr ha) b ((hP b).mpr hb) hab
    exact ⟨c, (hP c).mp h1, h2, h3, fun c' hc' => h4 c' ((hP c').mpr hc')⟩
theorem TMS.cg {P Q : Nat → Prop} {tw tw' : Nat → Nat} {d : Nat → Nat → Nat} (h : TMS P tw d) (hP : ∀ a, Q a ↔ P a) (ht : ∀ a, P a → tw' a = tw a) : TMS Q tw' d := by
  have e : Q = P := funext fun a => propext (hP a)
  subst e
  refine ⟨fun a ha => ?_, h.2.1, h.2.2.1, fun a ha b hb => ?_, h.2.2.2.2⟩
  · rw [ht a ha]; exact h.1 a ha
  · rw [ht a ha]; exact h.2.2.2.1 a ha b hb
theorem jn_bit {tw : Nat → Nat} {a b : Nat} (hab : a ≠ b) (x i : Nat) : (jn tw a b x).testBit i = ((tw x).testBit i || (decide (x = b) && decide (i = a)) || (decide (x = a) && decide (i = b))) := by
  unfold jn
  by_cases h1 : x = b
  · subst h1
    rw [if_pos rfl, Nat.testBit_or, shl1_bit]
    simp [Ne.symm hab]
  · rw [if_neg h1]
    by_cases h2 : x = a
    · subst h2
      rw [if_pos rfl, Nat.testBit_or, shl1_bit]
      simp [h1]
    · rw [if_neg h2]
      simp [h1, h2]
theorem jn_or {tw : Nat → Nat} {a b : Nat} (hab : a ≠ b) (x : Nat) : jn tw a b x = tw x ||| jn (fun _ => 0) a b x := set_ext fun i => by
  rw [Nat.testBit_or, jn_bit hab, jn_bit hab, Nat.zero_testBit, Bool.false_or, Bool.or_assoc]
/-- a leaf p hung on r -/
def dL (d : Nat → Nat → Nat) (p r : Nat) : Nat → Nat → Nat := fun a b => if a = p then (if b = p then 0 else d r b + 1) else if b = p then d a r + 1 else d a b
theorem TMS.add {P : Nat → Prop} {tw : Nat → Nat} {d : Nat → Nat → Nat} (h : TMS P tw d) {p r : Nat} (hp : ¬ P p) (hr : P r) (h0 : tw p = 0) : TMS (fun x => P x ∨ x = p) (jn tw p r) (dL d p r) := by
  have hpr : p ≠ r := by
    intro e
    subst e
    exact hp hr
  have ne : ∀ {x}, P x → x ≠ p := fun hx e => by
    subst e
    exact hp hx
  have pp : dL d p r p p = 0 := by simp [dL]
  have px : ∀ {x}, P x → dL d p r p x = d r x + 1 := fun hx => by simp [dL, ne hx]
  have xp : ∀ {x}, P x → dL d p r x p = d x r + 1 := fun hx => by simp [dL, ne hx]
  have xx : ∀ {x y}, P x → P y → dL d p r x y = d x y := fun hx hy => by simp [dL, ne hx, ne hy]
  refine ⟨?_, ?_, ?_, ?_, ?_⟩
  · intro a ha i hi
    rw [jn_bit hpr, Bool.or_eq_true, Bool.or_eq_true, Bool.and_eq_true, Bool.and_eq_true, decide_eq_true_eq, decide_eq_true_eq, decide_eq_true_eq, decide_eq_true_eq] at hi
    rcases hi with (hi | ⟨-, hi⟩) | ⟨-, hi⟩
    · rcases ha with ha | ha
      · exact Or.inl (h.1 a ha i hi)
      · rw [ha, h0, Nat.zero_testBit] at hi; cases hi
    · exact Or.inr hi
    · rw [hi]; exact Or.inl hr
  · rintro a (ha | rfl) b (hb | rfl)
    · rw [xx ha hb]; exact h.2.1 a ha b hb
    · rw [xp ha]; exact ⟨fun e => by omega, fun e => absurd e (ne ha)⟩
    · rw [px hb]; exact ⟨fun e => by omega, fun e => absurd e.symm (ne hb)⟩
    · rw [pp]; exact ⟨fun _ => rfl, fun _ => rfl⟩
  · rintro a (ha | rfl) b (hb | rfl)
    · rw [xx ha hb, xx hb ha]; exact h.2.2.1 a ha b hb
    · rw [xp ha, px ha, h.2.2.1 a ha r hr]
    · rw [px hb, xp hb, h.2.2.1 b hb r hr]
    · rfl
  · rintro a (ha | rfl) b (hb | rfl)
    · rw [xx ha hb, jn_bit hpr, decide_eq_false (ne ha), decide_eq_false (ne hb)]
      simp only [Bool.and_false, Bool.or_false, Bool.false_and]
      exact h.2.2.2.1 a ha b hb
    · rw [xp ha, jn_bit hpr]
      have hbit : (tw a).testBit b = false := by
        cases hq : (tw a).testBit b with
        | false => rfl
        | true => exact absurd (h.1 a ha b hq) hp
      rw [hbit, decide_eq_false (ne ha)]
      simp only [Bool.false_or, Bool.false_and, Bool.or_false, decide_true, Bool.and_true, decide_eq_true_eq]
      rw [Nat.add_eq_right, h.2.1 a ha r hr]
    · rw [px hb, jn_bit hpr, h0, Nat.zero_testBit]
      have e1 : decide (a = r) = false := decide_eq_false hpr
      rw [e1]
      simp only [Bool.false_or, Bool.false_and, decide_true, Bool.true_and, decide_eq_true_eq]
      rw [Nat.add_eq_right, h.2.1 r hr b hb]
      exact ⟨Eq.symm, Eq.symm⟩
    · rw [pp, jn_bit hpr, h0, Nat.zero_testBit]
      have e1 := decide_eq_false hpr
      rw [e1]
      simp
  · rintro a (ha | rfl) b (hb | rfl) hab
    · obtain ⟨c, hc, c1, c2, c3⟩ := h.2.2.2.2 a ha b hb hab
      refine ⟨c, Or.inl hc, by rw [xx ha hc]; exact c1, by rw [xx hc hb, xx ha hb]; exact c2, ?_⟩
      rintro c' (hc' | rfl) h1 h2
      · rw [xx ha hc'] at h1
        rw [xx hc' hb, xx ha hb]
        exact c3 c' hc' h1 h2
      · rw [xp ha] at h1
        have e := (h.2.1 a ha r hr).mp (by omega)
        subst e
        rw [px hb, xx ha hb]
    · by_cases har : a = r
      · subst har
        refine ⟨b, Or.inr rfl, by rw [xp ha, (h.2.1 a ha a ha).mpr rfl], by rw [pp, xp ha, (h.2.1 a ha a ha).mpr rfl], ?_⟩
        rintro c' (hc' | rfl) h1 h2
        · rw [xx ha hc'] at h1
          rw [xp hc', xp ha, (h.2.1 a ha a ha).mpr rfl, h.2.2.1 c' hc' a ha, h1]
        · exact absurd rfl h2
      · obtain ⟨c, hc, c1, c2, c3⟩ := h.2.2.2.2 a ha r hr har
        refine ⟨c, Or.inl hc, by rw [xx ha hc]; exact c1, by rw [xp hc, xp ha]; omega, ?_⟩
        rintro c' (hc' | rfl) h1 h2
        · rw [xx ha hc'] at h1
          have := c3 c' hc' h1 h2
          rw [xp hc', xp ha]; omega
        · rw [xp ha] at h1
          exact absurd ((h.2.1 a ha r hr).mp (by omega)) har
    · refine ⟨r, Or.inl hr, by rw [px hr, (h.2.1 r hr r hr).mpr rfl], by rw [xx hr hb, px hb], ?_⟩
      rintro c' (hc' | rfl) h1 h2
      · rw [px hc'] at h1
        exact absurd ((h.2.1 r hr c' hc').mp (by omega)).symm h2
      · rw [pp] at h1; omega
    · exact absurd rfl hab
theorem uj_bit {tw : Nat → Nat} {a b : Nat} (hab : a ≠ b) (x i : Nat) : (uj tw a b x).testBit i = ((tw x).testBit i && !(decide (x = b) && decide (i = a)) && !(decide (x = a) && decide (i = b))) := by
  unfold uj
  by_cases h1 : x = b
  · subst h1
    rw [if_pos rfl, ndf_bit, shl1_bit]
    simp [Ne.symm hab]
  · rw [if_neg h1]
    by_cases h2 : x = a
    · subst h2
      rw [if_pos rfl, ndf_bit, shl1_bit]
      simp [h1]
    · rw [if_neg h2]
      simp [h1, h2]
/-- a leaf taken away -/
theorem TM.cut {n : Nat} {tw : Nat → Nat} {d : Nat → Nat → Nat} (T : TM n tw d) {p r : Nat} (hp : p < n) (h1 : tw p = 1 <<< r) : r < n ∧ r ≠ p ∧ uj tw p r p = 0 ∧ TMS (fun x => x < n ∧ x ≠ p) (uj tw p r) d := by
  have hb : (tw p).testBit r = true := by rw [h1, shl1_bit]; exact decide_eq_true rfl
  have hr := T.bl hp hb
  have hpr := (T.adj hp hr).mp hb
  have hne : r ≠ p := by
    intro e
    subst e
    rw [T.d0 hr] at hpr
    omega
  have one : ∀ x, x < n → d p x = 1 → x = r := fun x hx hd => by
    have h2 := (T.adj hp hx).mpr hd
    rw [h1, shl1_bit, decide_eq_true_eq] at h2
    exact h2
  refine ⟨hr, hne, ?_, ?_, fun a ha b hb => T.z ha.1 hb.1, fun a ha b hb => T.s ha.1 hb.1, ?_, ?_⟩
  · refine set_ext fun i => ?_
    rw [uj_bit (Ne.symm hne), h1, shl1_bit, Nat.zero_testBit]
    by_cases hi : i = r <;> simp [hi]
  · intro a ha i hi
    rw [uj_bit (Ne.symm hne), Bool.and_eq_true, Bool.and_eq_true, Bool.not_eq_true', Bool.and_eq_false_iff, decide_eq_false_iff_not, decide_eq_false_iff_not] at hi
    have hin := T.bl ha.1 hi.1.1
    refine ⟨hin, fun e => ?_⟩
    subst e
    have h3 := (T.adj ha.1 hin).mp hi.1.1
    rw [T.s ha.1 hin] at h3
    have := one a ha.1 h3
    rcases hi.1.2 with q | q
    · exact q this
    · exact q rfl
  · intro a ha b hb
    rw [uj_bit (Ne.symm hne), decide_eq_false ha.2, decide_eq_false hb.2]
    simp only [Bool.and_false, Bool.false_and, Bool.not_false, Bool.and_true]
    exact T.adj ha.1 hb.1
  · intro a ha b hb hab
    obtain ⟨c, hc, c1, c2, c3⟩ := T.nx ha.1 hb.1 hab
    refine ⟨c, ⟨hc, fun e => ?_⟩, c1, c2, fun c' hc' => c3 c' hc'.1⟩
    subst e
    obtain ⟨x, hx, x1, x2, -⟩ := T.nx hc hb.1 (Ne.symm hb.2)
    have e1 := one x hx x1
    have e2 := one a ha.1 (by rw [T.s hc ha.1]; exact c1)
    rw [e1, ← e2] at x2
    omega
/-- a graft: the leaf p hangs on q now -/
def grf (tw : Nat → Nat) (p q : Nat) : Nat → Nat := jn (uj tw p (lst (tw p))) p q
theorem TM.graft {n : Nat} {tw : Nat → Nat} {d : Nat → Nat → Nat} (T : TM n tw d) (hn8 : n ≤ 8) {p q : Nat} (hp : p < n) (hq : q < n) (hpq : p ≠ q) (h1 : cnt (tw p) = 1) : TM n (grf tw p q) (dL d p q) := by
  have h8 : tw p < 256 := Nat.lt_of_lt_of_le (T.lt hp) (pow_n8 hn8)
  obtain ⟨-, -, h0, hS⟩ := T.cut hp (cnt_one _ h8 h1)
  refine (hS.add (p := p) (r := q) (fun h => h.2 rfl) ⟨hq, Ne.symm hpq⟩ h0).tm fun a => ?_
  constructor
  · rintro (h | h)
    · exact h.1
    · rw [h]; exact hp
  · intro h
    by_cases e : a = p
    · exact Or.inr e
    · exact Or.inl ⟨h, e⟩
theorem cnt_mono {a b : Nat} (h : ∀ i, i < 8 → a.testBit i = true → b.testBit i = true) : cnt a ≤ cnt b := by
  unfold cnt
  exact List.countP_mono_left fun x hx hx2 => h x (List.mem_range.mp hx) hx2
theorem cnt_or : ∀ s, s < 256 → ∀ k, k < 8 → cnt (s ||| 1 <<< k) ≤ cnt s + 1 := by decide +kernel
/-- what is told from place k on -/
def told (rw : Nat → Nat) (k e : Nat) : Nat := orN e fun q => if k ≤ q then 1 <<< rw q else 0
theorem told_0 (rw : Nat → Nat) (k : Nat) : told rw k k = 0 := by
  have : ∀ e, e ≤ k → told rw k e = 0 := by
    intro e
    induction e with
    | zero => intro _; rfl
    | succ e ih =>
      intro he
      show told rw k e ||| (if k ≤ e then 1 <<< rw e else 0) = 0
      rw [ih (by omega), if_neg (by omega)]
      rfl
  exact this k (Nat.le_refl k)
theorem told_s {rw : Nat → Nat} {k e : Nat} (h : k ≤ e) : told rw k (e + 1) = told rw k e ||| 1 <<< rw e := by
  show told rw k e ||| (if k ≤ e then 1 <<< rw e else 0) = _
  rw [if_pos h]
theorem told_bit {rw : Nat → Nat} {k e i : Nat} : (told rw k e).testBit i = true ↔ ∃ q, k ≤ q ∧ q < e ∧ rw q = i := by
  unfold told
  rw [orN_bit]
  constructor
  · rintro ⟨q, hq, h⟩
    by_cases hk : k ≤ q
    · rw [if_pos hk, shl1_bit, decide_eq_true_eq] at h
      exact ⟨q, hk, hq, h.symm⟩
    · rw [if_neg hk, Nat.zero_testBit] at h; cases h
  · rintro ⟨q, hk, hq, rfl⟩
    exact ⟨q, hq, by rw [if_pos hk, shl1_bit]; exact decide_eq_true rfl⟩
theorem told_lt {rw : Nat → Nat} {k e : Nat} (h : ∀ q, q < e → rw q < 8) : told rw k e < 256 := orN_lt (k := 8) fun q hq => by
  split
  · exact shl1_lt (h q hq)
  · decide
theorem told_cnt {rw : Nat → Nat} {k : Nat} : ∀ e, (∀ q, q < e → rw q < 8) → k ≤ e → cnt (told rw k e) ≤ e - k := by
  intro e
  induction e with
  | zero =>
    intro _ hk
    have : k = 0 := by omega
    subst this
    rw [told_0]
    decide
  | succ e ih =>
    intro h hk
    by_cases he : k ≤ e
    · have h1 := ih (fun q hq => h q (by omega)) he
      have h2 := cnt_or (told rw k e) (told_lt fun q hq => h q (by omega)) (rw e) (h e (by omega))
      rw [told_s he]
      omega
    · have : k = e + 1 := by omega
      subst this
      rw [told_0]
      have : cnt 0 = 0 := by decide
      omega
/-- the vine of a row: from place k on, on the posts L that are there; m places are left -/
def grw (rw : Nat → Nat) (e : Nat) : Nat → Nat → Nat → Nat → Nat
  | 0, _, L => jn (fun _ => 0) (lst L) (lst (ndf L (1 <<< lst L)))
  | m + 1, k, L => jn (grw rw e m (k + 1) (ndf L (1 <<< lst (ndf L (told rw k e))))) (lst (ndf L (told rw k e))) (rw k)
theorem grw_p {rw : Nat → Nat} {e k L : Nat} (hL : L < 256) (he : ∀ q, q < e → rw q < 8) (hk : k ≤ e) (hc : e - k < cnt L) : 0 < ndf L (told rw k e) ∧ L.testBit (lst (ndf L (told rw k e))) = true ∧ (told rw k e).testBit (lst (ndf L (told rw k e))) = false := by
  have h0 : 0 < ndf L (told rw k e) := by
    rcases Nat.eq_zero_or_pos (ndf L (told rw k e)) with z | z
    · have h1 : cnt L ≤ cnt (told rw k e) := cnt_mono fun i _ hi => by
        cases hb : (told rw k e).testBit i with
        | true => rfl
        | false =>
          have : (ndf L (told rw k e)).testBit i = true := by rw [ndf_bit, hi, hb]; rfl
          rw [z, Nat.zero_testBit] at this
          cases this
      have h2 := told_cnt (rw := rw) (k := k) e he hk
      omega
    · exact z
  have hb := lst_bit _ (Nat.lt_of_le_of_lt (ndf_le _ _) hL) h0
  rw [ndf_bit, Bool.and_eq_true, Bool.not_eq_true'] at hb
  exact ⟨h0, hb.1, hb.2⟩
theorem grw_ok {rw : Nat → Nat} {e : Nat} (he : ∀ q, q < e → rw q < 8) : ∀ m k L, L < 256 → k + m = e → cnt L = m + 2 → (∀ q, k ≤ q → q < e → L.testBit (rw q) = true) → (∃ d, TMS (fun x => L.testBit x = true) (grw rw e m k L) d) ∧ ∀ x, L.testBit x = false → grw rw e m k L x = 0 := by
  intro m
  induction m with
  | zero =>
    intro k L hL hk hc hr
    have hL0 : 0 < L := by
      rcases Nat.eq_zero_or_pos L with z | z
      · subst z; exact absurd hc (by decide)
      · exact z
    have h1 := lst_bit L hL hL0
    have hf8 := lst_lt L hL hL0
    have h2 := cnt_ndf L hL (lst L) hf8 h1
    have hN : ndf L (1 <<< lst L) < 256 := Nat.lt_of_le_of_lt (ndf_le _ _) hL
    have e2 := cnt_one _ hN (by omega)
    have hx : ∀ i, L.testBit i = true ↔ i = lst L ∨ i = lst (ndf L (1 <<< lst L)) := fun i => by
      have h3 : (ndf L (1 <<< lst L)).testBit i = decide (i = lst (ndf L (1 <<< lst L))) := cnt1_bit hN (by omega)
      rw [ndf_bit, shl1_bit] at h3
      by_cases hi : i = lst L
      · rw [hi]; exact ⟨fun _ => Or.inl rfl, fun _ => h1⟩
      · rw [decide_eq_false hi, Bool.not_false, Bool.and_true] at h3
        rw [h3, decide_eq_true_eq]
        exact ⟨Or.inr, fun q => q.elim (fun z => absurd z hi) id⟩
    have hne : lst L ≠ lst (ndf L (1 <<< lst L)) := by
      intro z
      have h3 : (ndf L (1 <<< lst L)).testBit (lst (ndf L (1 <<< lst L))) = true := by
        rw [cnt1_bit hN (by omega)]; exact decide_eq_true rfl
      rw [← z, ndf_bit, shl1_bit] at h3
      simp at h3
    have e0 : grw rw e 0 k L = jn (fun _ => 0) (lst L) (lst (ndf L (1 <<< lst L))) := rfl
    rw [e0]
    generalize lst (ndf L (1 <<< lst L)) = s at *
    generalize lst L = f at *
    refine ⟨?_, fun x hxx => ?_⟩
    · have base : TMS (fun x => x = s) (fun _ => 0) (fun _ _ => 0) := by
        refine ⟨fun a _ i hi => ?_, fun a ha b hb => ⟨fun _ => ha.trans hb.symm, fun _ => rfl⟩, fun _ _ _ _ => rfl, fun a ha b hb => ?_, fun a ha b hb hab => absurd (ha.trans hb.symm) hab⟩
        · rw [Nat.zero_testBit] at hi; cases hi
        · rw [Nat.zero_testBit]; simp
      exact ⟨_, (base.add (p := f) (r := s) hne rfl rfl).cg (fun a => (hx a).trans or_comm) (fun _ _ => rfl)⟩
    · have h3 : ¬ (x = f ∨ x = s) := fun q => by rw [(hx x).mpr q] at hxx; cases hxx
      unfold jn
      rw [if_neg (fun q => h3 (Or.inr q)), if_neg (fun q => h3 (Or.inl q))]
  | succ m ih =>
    intro k L hL hk hc hr
    obtain ⟨h0, hp1, hp2⟩ := grw_p hL he (k := k) (by omega) (by omega)
    have hN : ndf L (told rw k e) < 256 := Nat.lt_of_le_of_lt (ndf_le _ _) hL
    have hp8 := lst_lt _ hN h0
    have e0 : grw rw e (m + 1) k L = jn (grw rw e m (k + 1) (ndf L (1 <<< lst (ndf L (told rw k e))))) (lst (ndf L (told rw k e))) (rw k) := rfl
    rw [e0]
    generalize lst (ndf L (told rw k e)) = p at *
    have hcn := cnt_ndf L hL p hp8 hp1
    have nb : ∀ i, (ndf L (1 <<< p)).testBit i = true ↔ L.testBit i = true ∧ i ≠ p := fun i => by
      rw [ndf_bit, shl1_bit, Bool.and_eq_true, Bool.not_eq_true', decide_eq_false_iff_not]
    have hrp : ∀ q, k ≤ q → q < e → rw q ≠ p := fun q h1 h2 z => by
      have : (told rw k e).testBit p = true := told_bit.mpr ⟨q, h1, h2, z⟩
      rw [hp2] at this
      cases this
    obtain ⟨⟨d, hT⟩, hz⟩ := ih (k + 1) (ndf L (1 <<< p)) (Nat.lt_of_le_of_lt (ndf_le _ _) hL) (by omega) (by omega) (fun q h1 h2 => (nb _).mpr ⟨hr q (by omega) h2, hrp q (by omega) h2⟩)
    have hpn : (ndf L (1 <<< p)).testBit p = false := by
      rw [ndf_bit, shl1_bit]; simp
    have hrk := (nb _).mpr ⟨hr k (Nat.le_refl k) (by omega), hrp k (Nat.le_refl k) (by omega)⟩
    refine ⟨⟨_, (hT.add (p := p) (r := rw k) (by rw [hpn]; decide) hrk (hz p hpn)).cg (fun a => ?_) (fun _ _ => rfl)⟩, fun x hx => ?_⟩
    · show L.testBit a = true ↔ (ndf L (1 <<< p)).testBit a = true ∨ a = p
      rw [nb]
      by_cases hap : a = p
      · rw [hap]; exact ⟨fun _ => Or.inr rfl, fun _ => hp1⟩
      · exact ⟨fun q => Or.inl ⟨q, hap⟩, fun q => q.elim (fun z => z.1) (fun z => absurd z hap)⟩
    · have hx1 : (ndf L (1 <<< p)).testBit x = false := by rw [ndf_bit, hx]; rfl
      have hxp : x ≠ p := fun z => by rw [z, hp1] at hx; cases hx
      have hxr : x ≠ rw k := fun z => by rw [z, hr k (Nat.le_refl k) (by omega)] at hx; cases hx
      unfold jn
      rw [if_neg hxr, if_neg hxp]
      exact hz x hx1
/-- the vine of a row of n - 2 posts below n -/
def vin (n : Nat) (rw : Nat → Nat) : Nat → Nat := grw rw (n - 2) (n - 2) 0 (2 ^ n - 1)
theorem vin_tm {n : Nat} {rw : Nat → Nat} (h2 : 2 ≤ n) (h8 : n ≤ 8) (hr : ∀ q, q < n - 2 → rw q < n) : ∃ d, TM n (vin n rw) d := by
  have hL : 2 ^ n - 1 < 256 := by have := pow_n8 h8; have := Nat.two_pow_pos n; omega
  obtain ⟨⟨d, hT⟩, -⟩ := grw_ok (rw := rw) (e := n - 2) (fun q hq => by have := hr q hq; omega) (n - 2) 0 (2 ^ n - 1) hL (by omega) (by rw [cnt_full n (by omega)]; omega) (fun q _ hq => by rw [full_bit]; exact decide_eq_true (hr q hq))
  exact ⟨d, hT.tm fun a => by rw [full_bit, decide_eq_true_eq]⟩
end TREE
