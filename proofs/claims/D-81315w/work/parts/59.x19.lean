/-! the component: sums along twigs -/
set_option maxRecDepth 100000
section XX19
/-- what lies ahead, seen from p, coming from fr: its sum -/
def sbS (n : Nat) (d : Nat → Nat → Nat) (fr : Option Nat) (p : Nat) (w : Nat → Nat) : Nat := sumN n fun x => if aheadB d fr p x then w x else 0
/-- p itself, and what lies behind twigs that are done -/
def dnB (n : Nat) (d : Nat → Nat → Nat) (fr : Option Nat) (p left x : Nat) : Bool := decide (x = p) || (List.range n).any fun c => decide (d p c = 1) && !left.testBit c && decide (fr ≠ some c) && decide (d p x = d c x + 1)
def sD (n : Nat) (d : Nat → Nat → Nat) (fr : Option Nat) (p left : Nat) (w : Nat → Nat) : Nat := sumN n fun x => if dnB n d fr p left x then w x else 0
theorem dnB_t {n : Nat} {d : Nat → Nat → Nat} {fr : Option Nat} {p left x : Nat} : dnB n d fr p left x = true ↔ x = p ∨ ∃ c, c < n ∧ d p c = 1 ∧ left.testBit c = false ∧ fr ≠ some c ∧ d p x = d c x + 1 := by
  unfold dnB
  rw [Bool.or_eq_true, decide_eq_true_eq, List.any_eq_true]
  constructor
  · rintro (h | ⟨c, hc, h⟩)
    · exact Or.inl h
    · simp only [Bool.and_eq_true, decide_eq_true_eq, Bool.not_eq_true'] at h
      exact Or.inr ⟨c, List.mem_range.mp hc, h.1.1.1, h.1.1.2, h.1.2, h.2⟩
  · rintro (h | ⟨c, hc, h1, h2, h3, h4⟩)
    · exact Or.inl h
    · refine Or.inr ⟨c, List.mem_range.mpr hc, ?_⟩
      simp only [Bool.and_eq_true, decide_eq_true_eq, Bool.not_eq_true']
      exact ⟨⟨⟨h1, h2⟩, h3⟩, h4⟩
theorem sumN_ge {n p : Nat} {f : Nat → Nat} (hp : p < n) : f p ≤ sumN n f := by
  induction n with
  | zero => omega
  | succ n ih =>
    show f p ≤ sumN n f + f n
    rcases Nat.lt_or_ge p n with h | h
    · have := ih h; omega
    · have : p = n := by omega
      subst this; omega
section
variable {n : Nat} {tw : Nat → Nat} {d : Nat → Nat → Nat}
theorem sD_0 (T : TM n tw d) {fr : Option Nat} {p : Nat} (hp : p < n) (w : Nat → Nat) : sD n d fr p (tw p) w = w p := by
  unfold sD
  rw [sumN_one hp]
  · rw [if_pos (dnB_t.mpr (Or.inl rfl))]
  · intro q hq hne
    rw [if_neg]
    intro h
    rcases dnB_t.mp h with h | ⟨c, hc, h1, h2, -⟩
    · exact hne h
    · rw [(T.adj hp hc).mpr h1] at h2; cases h2
theorem sD_end (T : TM n tw d) {fr : Option Nat} {p : Nat} (hp : p < n) (hf : ∀ q, fr = some q → q < n ∧ d q p = 1) (w : Nat → Nat) : sD n d fr p 0 w = sbS n d fr p w := sumN_congr fun x hx => by
  have e : dnB n d fr p 0 x = aheadB d fr p x := by
    rw [Bool.eq_iff_iff, dnB_t, aheadB_t]
    constructor
    · rintro (h | ⟨c, hc, h1, -, h3, h4⟩)
      · subst h
        intro q hq
        rw [T.d0 hp]
        exact (hf q hq).2
      · exact (ff_up T hp hc hx h1 h3 hf (fun q hq => by cases hq; exact h4)).1
    · intro h
      rcases Classical.em (x = p) with e | e
      · exact Or.inl e
      · obtain ⟨c, hc, h1, h2, -⟩ := T.nx hp hx (Ne.symm e)
        refine Or.inr ⟨c, hc, h1, Nat.zero_testBit c, fun z => ?_, h2.symm⟩
        have := h c z
        omega
  show (if dnB n d fr p 0 x = true then w x else 0) = if aheadB d fr p x = true then w x else 0
  rw [e]
theorem dn_no (T : TM n tw d) {fr : Option Nat} {p left c x : Nat} (hp : p < n) (hc : c < n) (hx : x < n) (h1 : d p c = 1) (hb : left.testBit c = true) (h : dnB n d fr p left x = true) : ¬ d p x = d c x + 1 := by
  intro h4
  rcases dnB_t.mp h with e | ⟨b, hb', b1, b2, -, b4⟩
  · subst e
    rw [T.d0 hp] at h4
    omega
  · have hne : p ≠ x := fun e => by rw [← e, T.d0 hp] at h4; omega
    obtain ⟨k, hk, k1, k2, k3⟩ := T.nx hp hx hne
    have hbk : b = k := Classical.byContradiction fun z => by have := k3 b hb' b1 z; omega
    have hck : c = k := Classical.byContradiction fun z => by have := k3 c hc h1 z; omega
    rw [hbk, ← hck, hb] at b2
    cases b2
theorem cl_bit {left i : Nat} (h : left < 256) (h0 : left ≠ 0) (hi : i < 8) : (cl1 left).testBit i = false ↔ left.testBit i = false ∨ i = lst left := by
  obtain ⟨-, -, q, -⟩ := cl1_ok left h h0
  rw [q i hi, Bool.and_eq_false_iff, decide_eq_false_iff_not, Classical.not_not]
theorem sD_step (T : TM n tw d) (hn8 : n ≤ 8) {fr : Option Nat} {p left : Nat} (hp : p < n) (hl : left < 256) (h0 : left ≠ 0) (hc : lst left < n) (h1 : d p (lst left) = 1) (hfr : fr ≠ some (lst left)) (w : Nat → Nat) : sD n d fr p (cl1 left) w = sD n d fr p left w + sbS n d (some p) (lst left) w := by
  unfold sD sbS
  rw [← sumN_add]
  refine sumN_congr fun x hx => ?_
  obtain ⟨hx8, hxb, -, -⟩ := cl1_ok left hl h0
  have hA : aheadB d (some p) (lst left) x = true ↔ d p x = d (lst left) x + 1 := aheadB_t.trans ⟨fun h => h p rfl, fun h q hq => by cases hq; exact h⟩
  have e1 : dnB n d fr p (cl1 left) x = true ↔ dnB n d fr p left x = true ∨ d p x = d (lst left) x + 1 := by
    rw [dnB_t, dnB_t]
    constructor
    · rintro (h | ⟨c, hc', c1, c2, c3, c4⟩)
      · exact Or.inl (Or.inl h)
      · rcases (cl_bit hl h0 (by omega)).mp c2 with z | z
        · exact Or.inl (Or.inr ⟨c, hc', c1, z, c3, c4⟩)
        · rw [z] at c4; exact Or.inr c4
    · rintro ((h | ⟨c, hc', c1, c2, c3, c4⟩) | h)
      · exact Or.inl h
      · exact Or.inr ⟨c, hc', c1, (cl_bit hl h0 (by omega)).mpr (Or.inl c2), c3, c4⟩
      · exact Or.inr ⟨lst left, hc, h1, (cl_bit hl h0 (by omega)).mpr (Or.inr rfl), hfr, h⟩
  show (if dnB n d fr p (cl1 left) x = true then w x else 0) = (if dnB n d fr p left x = true then w x else 0) + if aheadB d (some p) (lst left) x = true then w x else 0
  by_cases ha : dnB n d fr p left x = true
  · have hb : ¬ d p x = d (lst left) x + 1 := dn_no T hp hc hx h1 hxb ha
    rw [if_pos (e1.mpr (Or.inl ha)), if_pos ha, if_neg (fun z => hb (hA.mp z))]
    rfl
  · by_cases hb : d p x = d (lst left) x + 1
    · rw [if_pos (e1.mpr (Or.inr hb)), if_neg ha, if_pos (hA.mpr hb), Nat.zero_add]
    · rw [if_neg (fun z => (e1.mp z).elim ha hb), if_neg ha, if_neg (fun z => hb (hA.mp z))]
theorem sD_skip (hn8 : n ≤ 8) {fr : Option Nat} {p left : Nat} (hl : left < 256) (h0 : left ≠ 0) (hfr : fr = some (lst left)) (w : Nat → Nat) : sD n d fr p (cl1 left) w = sD n d fr p left w := sumN_congr fun x hx => by
  have e1 : dnB n d fr p (cl1 left) x = dnB n d fr p left x := by
    rw [Bool.eq_iff_iff, dnB_t, dnB_t]
    constructor
    · rintro (h | ⟨c, hc', c1, c2, c3, c4⟩)
      · exact Or.inl h
      · rcases (cl_bit hl h0 (by omega)).mp c2 with z | z
        · exact Or.inr ⟨c, hc', c1, z, c3, c4⟩
        · rw [z] at c3; exact absurd hfr c3
    · rintro (h | ⟨c, hc', c1, c2, c3, c4⟩)
      · exact Or.inl h
      · exact Or.inr ⟨c, hc', c1, (cl_bit hl h0 (by omega)).mpr (Or.inl c2), c3, c4⟩
  show (if dnB n d fr p (cl1 left) x = true then w x else 0) = _
  rw [e1]
theorem sbS_none (p : Nat) (w : Nat → Nat) : sbS n d none p w = sumN n w := sumN_congr fun x _ => if_pos rfl
theorem sbS_ge (T : TM n tw d) {fr : Option Nat} {p : Nat} (hp : p < n) (hf : ∀ q, fr = some q → q < n ∧ d q p = 1) (w : Nat → Nat) : w p ≤ sbS n d fr p w := by
  have h := sumN_ge (f := fun x => if aheadB d fr p x then w x else 0) hp
  rw [if_pos (aheadB_t.mpr (fun q hq => by rw [T.d0 hp]; exact (hf q hq).2))] at h
  exact h
/-- what is a's side of the twig to b -/
theorem sbS_part (T : TM n tw d) {a b : Nat} (ha : a < n) (hb : b < n) (hab : d a b = 1) (kd ld : Nat → Nat) : sbS n d (some b) a (wv kd ld) = ws n kd ld (setN n fun p => decide (d p a < d p b)) := sumN_congr fun x hx => by
  show (if aheadB d (some b) a x = true then wv kd ld x else 0) = if (setN n fun p => decide (d p a < d p b)).testBit x = true then wv kd ld x else 0
  rw [setN_bit, decide_eq_true hx, Bool.true_and]
  have h1 := T.nb hb hx ha (by rw [T.s hb ha]; exact hab)
  have h2 := T.s hx ha
  have h3 := T.s hx hb
  have e : aheadB d (some b) a x = decide (d x a < d x b) := by
    show decide (d b x = d a x + 1) = _
    rw [decide_eq_decide]
    omega
  rw [e]
end
set_option maxHeartbeats 4000000 in
theorem xM_X0_worthBelow {l : Launch} {g : fG} {A : Nat → Prop} {En : State → Prop} {zd : Nat} (hX : fX zd g A En) {f : fH} {o : Nat} {tr gr fa : Int32} {rn lr sh : Nat} {L : xLs} {pa kd ld tw : Nat → Nat} {lk tk : Nat → Int32} (hO : f o = some (.inr (1, xF tr gr L.a rn lr fa sh))) (hP : xP g f o L pa kd ld tw lk tk) {d : Nat → Nat → Nat} (T : TM L.n tw d) : ∀ (e at_ : Nat) (fr : Option Nat), at_ < L.n → (∀ p, fr = some p → p < L.n ∧ d p at_ = 1) → (∀ y, y < L.n → ahead d fr at_ y → d at_ y < e) → fC l g A En yX0_worthBelow cX0_worthBelow 6 (some .int) (fR (e + 3)) [.ref o, .int (nI at_), .int (frI fr)] f (fun v f' => f' = f ∧ v = some (.int (nI (sbS L.n d fr at_ (wv kd ld))))) := by
  have hE := hX.E
  have hn8 := hP.2.1
  intro e
  induction e with
  | zero => intro at_ fr  ha hf hd ; exact absurd (hd at_ ha (fun p hp => by rw [T.d0 ha]; exact (hf p hp).2)) (Nat.not_lt_zero _)
  | succ e ih =>
    intro at_ fr  ha hf hd 
    refine fC.of (by decide) hX.E [some (.ref o), some (.int (nI at_)), some (.int (frI fr)), none, none, none] rfl rfl (fun K G => ?_)
    have G : fGood l g A En RX0 "worthBelow" cX0_worthBelow 6 (some .int) (fR (e + 1 + 3)) _ K := G
    have htw := hP.t8 at_ ha
    refine r_aload_n G dX0_worthBelow_0 rfl ?_
    refine r_getf G xCl1 (fs := [.int tr, .int gr, .ref L.a, .ref rn, .ref lr, .int fa, .ref sh]) hO 2 (by decide) q142 rfl rfl dX0_worthBelow_1 ?_
    refine r_iload_n G dX0_worthBelow_4 rfl ?_
    refine s_callF (b := L.a) G [.int (nI at_)] (xM_J2_get hX hP.1 at_ ha) (lw_F q186 q189 q191 q73 q193) (hX.fw 1 _ rfl) fx_1 rfl ⟨by simp only [fR, xR]; omega, by simp only [fR, xR]; omega⟩ (fs := [.int L.mc, .ref L.ea, .int (nI L.n)]) hP.1.1 (ci := 2) rfl rfl (Nat.le_of_ble_eq_true rfl) rfl rfl ⟨Nat.zero_le _, Nat.zero_le _⟩ dX0_worthBelow_5 ?_
    show K f 0 0 10 [some (.ref o), some (.int (nI at_)), some (.int (frI fr)), none, none, none] [va_rf ((L.el at_))]
    rw [show va_rf (L.el at_) = .ref (pa at_) from by rw [(hP.2.2.2 at_ ha).1]; rfl]
    refine r_castP hX G (hP.2.2.2 at_ ha).2.2.1 (hP.2.2.2 at_ ha).2.1 q204 dX0_worthBelow_10 ?_
    refine r_callK G (hP.2.2.2 at_ ha).2.2.1 (hP.2.2.2 at_ ha).2.1 [] (fun h => xM_wt0 hX h (hP.2.2.2 at_ ha).2.1) (fun h => xM_wt1 hX h (hP.2.2.2 at_ ha).2.1) (fun h => xM_wt2 hX h (hP.2.2.2 at_ ha).2.1) (lw_O q216 q219 q217 q218 q217 q90 q231) (lw_O q216 q219 q217 q220 q221 q91 q222) (lw_O q216 q219 q217 q232 q233 q92 q234) q231 (by decide +kernel) rfl ⟨⟨by simp only [fR, xR]; omega, by simp only [fR, xR]; omega⟩, ⟨by simp only [fR, xR]; omega, by simp only [fR, xR]; omega⟩, by simp only [fR, xR]; omega, by simp only [fR, xR]; omega⟩ rfl (Nat.le_of_ble_eq_true rfl) ⟨Nat.zero_le _, Nat.zero_le _⟩ dX0_worthBelow_13 (fun v13 f13 hp13 => ?_)
    obtain ⟨hf13, rfl⟩ := hp13
    rw [hf13]
    show K f 0 0 16 [some (.ref o), some (.int (nI at_)), some (.int (frI fr)), none, none, none] [.int (nI (wv kd ld at_))]
    refine r_istore_n G (lo' := [some (.ref o), some (.int (nI at_)), some (.int (frI fr)), some (.int (nI (wv kd ld at_))), none, none]) dX0_worthBelow_16 rfl rfl ?_
    refine r_aload_n G dX0_worthBelow_17 rfl ?_
    refine r_getf G xCl1 (fs := [.int tr, .int gr, .ref L.a, .ref rn, .ref lr, .int fa, .ref sh]) hO 2 (by decide) q142 rfl rfl dX0_worthBelow_18 ?_
    refine r_iload_n G dX0_worthBelow_21 rfl ?_
    refine s_callF (b := L.a) G [.int (nI at_)] (xM_J2_get hX hP.1 at_ ha) (lw_F q186 q189 q191 q73 q193) (hX.fw 1 _ rfl) fx_1 rfl ⟨by simp only [fR, xR]; omega, by simp only [fR, xR]; omega⟩ (fs := [.int L.mc, .ref L.ea, .int (nI L.n)]) hP.1.1 (ci := 2) rfl rfl (Nat.le_of_ble_eq_true rfl) rfl rfl ⟨Nat.zero_le _, Nat.zero_le _⟩ dX0_worthBelow_22 ?_
    show K f 0 0 27 [some (.ref o), some (.int (nI at_)), some (.int (frI fr)), some (.int (nI (wv kd ld at_))), none, none] [va_rf ((L.el at_))]
    rw [show va_rf (L.el at_) = .ref (pa at_) from by rw [(hP.2.2.2 at_ ha).1]; rfl]
    refine r_castP hX G (hP.2.2.2 at_ ha).2.2.1 (hP.2.2.2 at_ ha).2.1 q204 dX0_worthBelow_27 ?_
    refine r_pget G (hP.2.2.2 at_ ha).2.2.1 (he := (hP.2.2.2 at_ ha).2.1) 1 (by decide) q538 pO_g1 dX0_worthBelow_30 ?_
    refine r_istore G (lo' := [some (.ref o), some (.int (nI at_)), some (.int (frI fr)), some (.int (nI (wv kd ld at_))), some (.int (nI (tw at_))), none]) dX0_worthBelow_33 rfl rfl ?_
    have L35 : ∀ (fu : Nat) (left m : Nat), (left < 256) → (∀ i, left.testBit i = true → (tw at_).testBit i = true) → (m = sD L.n d fr at_ left (wv kd ld)) → left < fu → K f 0 0 35 [some (.ref o), some (.int (nI at_)), some (.int (frI fr)), some (.int (nI m)), some (.int (nI left)), none] [] := by
      intro fu
      induction fu with
      | zero => intro left m hl hsub hm hm35; exact absurd hm35 (Nat.not_lt_zero _)
      | succ fu35 ih35 =>
        intro left m hl hsub hm hm35
        refine r_iload G dX0_worthBelow_35 rfl ?_
        refine r_if_eq G 79 (n_eq0 (by omega)) dX0_worthBelow_37 (by decide) (fun h37 => ?_) (fun h37 => ?_)
        · refine r_iload_n G dX0_worthBelow_79 rfl ?_
          exact r_iret G rfl ⟨Nat.zero_le _, Nat.zero_le _⟩ dX0_worthBelow_80 ⟨rfl, rv (by rw [hm, h37, sD_end T ha hf])⟩
        · obtain ⟨hx8, hxb, hcl, hclt⟩ := cl1_ok left hl h37
          have hxt := hsub _ hxb
          have hxn := T.bl ha hxt
          have hx1 := (T.adj ha hxn).mp hxt
          refine r_iload G dX0_worthBelow_40 rfl ?_
          refine s_callS G [.int (nI left)] (sX_X0_least hE left (by omega) h37) (lw_S q253 q254 q70 q255) fy_yX0_least rfl ⟨by simp only [fR, xR]; omega, by simp only [fR, xR]; omega⟩ rfl (Nat.le_of_ble_eq_true rfl) rfl rfl ⟨Nat.zero_le _, Nat.zero_le _⟩ dX0_worthBelow_42 ?_
          show K f 0 0 45 [some (.ref o), some (.int (nI at_)), some (.int (frI fr)), some (.int (nI m)), some (.int (nI left)), none] [.int (nI (lst left))]
          refine r_istore G (lo' := [some (.ref o), some (.int (nI at_)), some (.int (frI fr)), some (.int (nI m)), some (.int (nI left)), some (.int (nI (lst left)))]) dX0_worthBelow_45 rfl rfl ?_
          refine r_iload_n G dX0_worthBelow_47 rfl ?_
          refine r_iload G dX0_worthBelow_48 rfl ?_
          refine r_iload_n G dX0_worthBelow_50 rfl ?_
          refine r_icmp_ne G 58 (frI_ne (by omega) (fun p hp => by have := (hf p hp).1; omega)) dX0_worthBelow_51 (by decide) (fun h51 => ?_) (fun h51 => ?_)
          · refine r_aload_n G dX0_worthBelow_58 rfl ?_
            refine r_iload G dX0_worthBelow_59 rfl ?_
            refine r_iload_n G dX0_worthBelow_61 rfl ?_
            refine s_callV (b := o) G [.int (nI (lst left)), .int (nI at_)] (ih (lst left) (some at_) hxn (fun p hp => by cases hp; exact ⟨ha, hx1⟩) (fun y hy h => by obtain ⟨q1, q2⟩ := ff_up T ha hxn hy hx1 h51 hf h; have := hd y hy q1; omega)) (lw_V q397 q399 qs18 q70 q400) fy_yX0_worthBelow rfl ⟨by simp only [fR, xR]; omega, by simp only [fR, xR]; omega⟩ (fs := [.int tr, .int gr, .ref L.a, .ref rn, .ref lr, .int fa, .ref sh]) hO (ci := 1) rfl rfl rfl (Nat.le_of_ble_eq_true rfl) rfl rfl ⟨Nat.zero_le _, Nat.zero_le _⟩ dX0_worthBelow_62 ?_
            show K f 0 0 65 [some (.ref o), some (.int (nI at_)), some (.int (frI fr)), some (.int (nI m)), some (.int (nI left)), some (.int (nI (lst left)))] [.int (nI (sbS L.n d (some at_) (lst left) (wv kd ld))), .int (nI m)]
            refine r_iadd G (v := (nI (m + (sbS L.n d (some at_) (lst left) (wv kd ld))))) dX0_worthBelow_65 (nI_add m (sbS L.n d (some at_) (lst left) (wv kd ld))) ?_
            refine r_istore_n G (lo' := [some (.ref o), some (.int (nI at_)), some (.int (frI fr)), some (.int (nI (m + (sbS L.n d (some at_) (lst left) (wv kd ld))))), some (.int (nI left)), some (.int (nI (lst left)))]) dX0_worthBelow_66 rfl rfl ?_
            refine r_iload G dX0_worthBelow_67 rfl ?_
            refine r_iload G dX0_worthBelow_69 rfl ?_
            refine r_iconst G (v := nI 1) dX0_worthBelow_71 (by decide) ?_
            refine r_isub G (v := (nI (left - 1))) dX0_worthBelow_72 (pk_sub (by omega)) ?_
            refine r_iand G (v := (nI (left &&& (left - 1)))) dX0_worthBelow_73 (n_and left (left - 1)) ?_
            refine r_istore G (lo' := [some (.ref o), some (.int (nI at_)), some (.int (frI fr)), some (.int (nI (m + (sbS L.n d (some at_) (lst left) (wv kd ld))))), some (.int (nI (left &&& (left - 1)))), some (.int (nI (lst left)))]) dX0_worthBelow_74 rfl rfl ?_
            refine r_goto G 35 dX0_worthBelow_76 (by decide) ?_
            refine r_drop G 5 (lo' := [some (.ref o), some (.int (nI at_)), some (.int (frI fr)), some (.int (nI (m + (sbS L.n d (some at_) (lst left) (wv kd ld))))), some (.int (nI (left &&& (left - 1)))), none]) rfl ?_
            exact ih35 _ _ (by show cl1 left < 256; omega) (fun i h => hsub i (cl_sub hl h37 h)) (by rw [hm]; exact (sD_step T hn8 ha hl h37 hxn hx1 h51 _).symm) (by show cl1 left < _; omega)
          · refine r_iconst G (v := nI 0) dX0_worthBelow_54 (by decide) ?_
            refine r_goto G 65 dX0_worthBelow_55 (by decide) ?_
            refine r_iadd G (v := (nI (m + 0))) dX0_worthBelow_65 (nI_add m 0) ?_
            refine r_istore_n G (lo' := [some (.ref o), some (.int (nI at_)), some (.int (frI fr)), some (.int (nI (m + 0))), some (.int (nI left)), some (.int (nI (lst left)))]) dX0_worthBelow_66 rfl rfl ?_
            refine r_iload G dX0_worthBelow_67 rfl ?_
            refine r_iload G dX0_worthBelow_69 rfl ?_
            refine r_iconst G (v := nI 1) dX0_worthBelow_71 (by decide) ?_
            refine r_isub G (v := (nI (left - 1))) dX0_worthBelow_72 (pk_sub (by omega)) ?_
            refine r_iand G (v := (nI (left &&& (left - 1)))) dX0_worthBelow_73 (n_and left (left - 1)) ?_
            refine r_istore G (lo' := [some (.ref o), some (.int (nI at_)), some (.int (frI fr)), some (.int (nI (m + 0))), some (.int (nI (left &&& (left - 1)))), some (.int (nI (lst left)))]) dX0_worthBelow_74 rfl rfl ?_
            refine r_goto G 35 dX0_worthBelow_76 (by decide) ?_
            refine r_drop G 5 (lo' := [some (.ref o), some (.int (nI at_)), some (.int (frI fr)), some (.int (nI (m + 0))), some (.int (nI (left &&& (left - 1)))), none]) rfl ?_
            exact ih35 _ _ (by show cl1 left < 256; omega) (fun i h => hsub i (cl_sub hl h37 h)) (by rw [hm]; exact (sD_skip hn8 hl h37 h51 _).symm) (by show cl1 left < _; omega)
    exact L35 (tw at_ + 1) (tw at_) (wv kd ld at_) htw (fun i h => h) (sD_0 T ha _).symm (by omega)
set_option maxHeartbeats 4000000 in
theorem xM_X0_part {l : Launch} {g : fG} {A : Nat → Prop} {En : State → Prop} {zd : Nat} (hX : fX zd g A En) {f : fH} {o : Nat} {tr gr fa : Int32} {rn lr sh : Nat} {L : xLs} {pa kd ld tw : Nat → Nat} {lk tk : Nat → Int32} (hO : f o = some (.inr (1, xF tr gr L.a rn lr fa sh))) (hP : xP g f o L pa kd ld tw lk tk) {d : Nat → Nat → Nat} (hT : L.n ≠ 0 → 2 ≤ L.n ∧ TM L.n tw d) (a b : Int32): fC l g A En yX0_part cX0_part 3 (some .int) (fR 12) [.ref o, .int a, .int b] f (fun v f' => f' = f ∧ v = some (.int (aPart L.n tw kd ld d a b))) := by
  have hE := hX.E
  refine fC.of (by decide) hX.E [some (.ref o), some (.int a), some (.int b)] rfl rfl (fun K G => ?_)
  have G : fGood l g A En RX0 "part" cX0_part 3 (some .int) (fR 12) _ K := G
  have hn8 := hP.2.1
  refine r_aload_n G dX0_part_0 rfl ?_
  refine r_iload_n G dX0_part_1 rfl ?_
  refine r_iload_n G dX0_part_2 rfl ?_
  refine s_callV (b := o) G [.int a, .int b] (xM_X0_noTwo hX hO hP a b) (lw_V q297 q299 qs5 q70 q300) fy_yX0_noTwo rfl ⟨Nat.le_of_ble_eq_true rfl, Nat.le_of_ble_eq_true rfl⟩ (fs := [.int tr, .int gr, .ref L.a, .ref rn, .ref lr, .int fa, .ref sh]) hO (ci := 1) rfl rfl rfl (Nat.le_of_ble_eq_true rfl) rfl rfl ⟨Nat.zero_le _, Nat.zero_le _⟩ dX0_part_3 ?_
  show K f 0 0 6 [some (.ref o), some (.int a), some (.int b)] [.int (bI (!(isP L.n a && isP L.n b && !decide (a = b))))]
  refine r_ifb_eq G 11  dX0_part_6 (by decide) (fun h6 => ?_) (fun h6 => ?_)
  · have q6 : (isP L.n a && isP L.n b && !decide (a = b)) = true := nt_f h6
    have q6s := q6
    rw [Bool.and_eq_true, Bool.and_eq_true] at q6s
    obtain ⟨⟨q6a, q6b⟩, q6c⟩ := q6s
    obtain ⟨ja, hja, rfl⟩ := isP_t (by omega) q6a
    obtain ⟨jb, hjb, rfl⟩ := isP_t (by omega) q6b
    have eja : ix (nI ja) = ja := ix_nI (by omega)
    have ejb : ix (nI jb) = jb := ix_nI (by omega)
    obtain ⟨h2n, T⟩ := hT (by omega)
    refine r_aload_n G dX0_part_11 rfl ?_
    refine r_getf G xCl1 (fs := [.int tr, .int gr, .ref L.a, .ref rn, .ref lr, .int fa, .ref sh]) hO 2 (by decide) q142 rfl rfl dX0_part_12 ?_
    refine r_iload_n G dX0_part_15 rfl ?_
    refine s_callF (b := L.a) G [.int (nI ja)] (xM_J2_get hX hP.1 ja hja) (lw_F q186 q189 q191 q73 q193) (hX.fw 1 _ rfl) fx_1 rfl ⟨Nat.le_of_ble_eq_true rfl, Nat.le_of_ble_eq_true rfl⟩ (fs := [.int L.mc, .ref L.ea, .int (nI L.n)]) hP.1.1 (ci := 2) rfl rfl (Nat.le_of_ble_eq_true rfl) rfl rfl ⟨Nat.zero_le _, Nat.zero_le _⟩ dX0_part_16 ?_
    show K f 0 0 21 [some (.ref o), some (.int (nI ja)), some (.int (nI jb))] [va_rf ((L.el ja))]
    rw [show va_rf (L.el ja) = .ref (pa ja) from by rw [(hP.2.2.2 ja hja).1]; rfl]
    refine r_castP hX G (hP.2.2.2 ja hja).2.2.1 (hP.2.2.2 ja hja).2.1 q204 dX0_part_21 ?_
    refine r_pget G (hP.2.2.2 ja hja).2.2.1 (he := (hP.2.2.2 ja hja).2.1) 1 (by decide) q538 pO_g1 dX0_part_24 ?_
    refine r_iload_n G dX0_part_27 rfl ?_
    refine s_callS G [.int (nI (tw ja)), .int (nI jb)] (sX_X0_isIn hE (tw ja) jb (by have := hP.t8 ja hja; omega) (by omega)) (lw_S q290 q291 q70 q292) fy_yX0_isIn rfl ⟨Nat.le_of_ble_eq_true rfl, Nat.le_of_ble_eq_true rfl⟩ rfl (Nat.le_of_ble_eq_true rfl) rfl rfl ⟨Nat.zero_le _, Nat.zero_le _⟩ dX0_part_28 ?_
    show K f 0 0 31 [some (.ref o), some (.int (nI ja)), some (.int (nI jb))] [.int (bI ((tw ja).testBit jb))]
    refine r_ifb_eq G 43  dX0_part_31 (by decide) (fun h31 => ?_) (fun h31 => ?_)
    · refine r_bipush G (v := -3) dX0_part_43 (by decide) ?_
      exact r_iret G rfl ⟨Nat.zero_le _, Nat.zero_le _⟩ dX0_part_45 ⟨rfl, rI (by rw [aPart, if_pos q6, eja, ejb, if_neg (by rw [h31]; decide)])⟩
    · have hab1 := (T.adj hja hjb).mp h31
      refine r_aload_n G dX0_part_34 rfl ?_
      refine r_iload_n G dX0_part_35 rfl ?_
      refine r_iload_n G dX0_part_36 rfl ?_
      refine s_callV (b := o) G [.int (nI ja), .int (nI jb)] (xM_X0_worthBelow hX hO hP T 8 ja (some jb) hja (fun p hp => by cases hp; exact ⟨hjb, by rw [T.s hjb hja]; exact hab1⟩) (fun y hy _ => by have := T.dl hja hy; omega)) (lw_V q397 q399 qs18 q70 q400) fy_yX0_worthBelow rfl ⟨Nat.le_of_ble_eq_true rfl, Nat.le_of_ble_eq_true rfl⟩ (fs := [.int tr, .int gr, .ref L.a, .ref rn, .ref lr, .int fa, .ref sh]) hO (ci := 1) rfl rfl rfl (Nat.le_of_ble_eq_true rfl) rfl rfl ⟨Nat.zero_le _, Nat.zero_le _⟩ dX0_part_37 ?_
      show K f 0 0 40 [some (.ref o), some (.int (nI ja)), some (.int (nI jb))] [.int (nI (sbS L.n d (some jb) ja (wv kd ld)))]
      refine r_goto G 45 dX0_part_40 (by decide) ?_
      exact r_iret G rfl ⟨Nat.zero_le _, Nat.zero_le _⟩ dX0_part_45 ⟨rfl, rI (by rw [aPart, if_pos q6, eja, ejb, if_pos h31, sbS_part T hja hjb hab1])⟩
  · have q6 : (isP L.n a && isP L.n b && !decide (a = b)) = false := nt_t h6
    refine r_iconst G (v := -1) dX0_part_9 (by decide) ?_
    exact r_iret G rfl ⟨Nat.zero_le _, Nat.zero_le _⟩ dX0_part_10 ⟨rfl, rI (by rw [aPart, if_neg (by rw [q6]; decide)])⟩
theorem bI_or1 (b : Bool) : bI b ||| nI 1 = bI true := by cases b <;> decide
theorem bI_or0 (b : Bool) : bI b ||| nI 0 = bI b := by cases b <;> decide
theorem bI_and1 (b : Bool) : bI b &&& nI 1 = bI b := by cases b <;> decide
theorem bI_and0 (b : Bool) : bI b &&& nI 0 = bI false := by cases b <;> decide
/-- some child that is done has none of its own -/
def pbI (n : Nat) (d : Nat → Nat → Nat) (fr : Option Nat) (p left : Nat) (mb : Bool) : Prop := mb = true ↔ ∃ c, c < n ∧ d p c = 1 ∧ fr ≠ some c ∧ left.testBit c = false ∧ may n d c = false
def pbR (d : Nat → Nat → Nat) (fr : Option Nat) (p : Nat) : Prop := (fr = none → p = 0) ∧ ∀ q, fr = some q → d q 0 + 1 = d p 0
theorem mw_le1 (n : Nat) (d : Nat → Nat → Nat) (x : Nat) : mw n d x ≤ 1 := by unfold mw; split <;> omega
theorem sbS_lt {n : Nat} {d : Nat → Nat → Nat} {fr : Option Nat} {p : Nat} (hn8 : n ≤ 8) : sbS n d fr p (mw n d) < 2 ^ 31 := by
  have : sbS n d fr p (mw n d) ≤ n * 1 := sumN_le fun x hx => by
    split
    · exact mw_le1 n d x
    · omega
  omega
section
variable {n : Nat} {tw : Nat → Nat} {d : Nat → Nat → Nat} {fr : Option Nat} {p left c : Nat} {mb : Bool}
theorem pb_ch (T : TM n tw d) (h0 : 0 < n) (hp : p < n) (hc : c < n) (h1 : d p c = 1) (hf : ∀ q, fr = some q → q < n ∧ d q p = 1) (hr : pbR d fr p) : fr ≠ some c ↔ d c 0 = d p 0 + 1 := by
  have h2 := T.nb hp h0 hc h1
  constructor
  · intro h
    rcases Classical.em (p = 0) with e | e
    · subst e
      rw [T.d0 h0] at h2 ⊢
      omega
    · obtain ⟨k, hk, k1, k2, k3⟩ := T.nx hp h0 e
      cases hfr : fr with
      | none => exact absurd (hr.1 hfr) e
      | some q =>
        have hq := hr.2 q hfr
        obtain ⟨hqn, hq1⟩ := hf q hfr
        have hqk : q = k := Classical.byContradiction fun z => by
          have := k3 q hqn (by rw [T.s hp hqn]; exact hq1) z
          omega
        rcases Classical.em (c = k) with z | z
        · exact absurd (by rw [hfr, hqk, z]) h
        · exact k3 c hc h1 z
  · intro h e
    have := hr.2 c e
    omega
theorem pb_up (T : TM n tw d) (h0 : 0 < n) (hp : p < n) (hc : c < n) (h1 : d p c = 1) (hfr : fr ≠ some c) (hf : ∀ q, fr = some q → q < n ∧ d q p = 1) (hr : pbR d fr p) : d p 0 + 1 = d c 0 := ((pb_ch T h0 hp hc h1 hf hr).mp hfr).symm
theorem pb_init (T : TM n tw d) (hp : p < n) : pbI n d fr p (tw p) false := ⟨fun h => by (cases h), fun ⟨c, hc, h1, _, h2, _⟩ => by rw [(T.adj hp hc).mpr h1] at h2; cases h2⟩
theorem pb_skip (hn8 : n ≤ 8) (hl : left < 256) (h0 : left ≠ 0) (hfr : fr = some (lst left)) (h : pbI n d fr p left mb) : pbI n d fr p (cl1 left) mb := by
  refine h.trans ⟨?_, ?_⟩
  · rintro ⟨c, hc, h1, h2, h3, h4⟩
    exact ⟨c, hc, h1, h2, (cl_bit hl h0 (by omega)).mpr (Or.inl h3), h4⟩
  · rintro ⟨c, hc, h1, h2, h3, h4⟩
    rcases (cl_bit hl h0 (by omega)).mp h3 with z | z
    · exact ⟨c, hc, h1, h2, z, h4⟩
    · rw [z] at h2; exact absurd hfr h2
theorem pb_yes (T : TM n tw d) (hn8 : n ≤ 8) (hl : left < 256) (h0 : left ≠ 0) (hc : lst left < n) (h1 : d p (lst left) = 1) (hfr : fr ≠ some (lst left)) (hm : may n d (lst left) = false) : pbI n d fr p (cl1 left) true := ⟨fun _ => ⟨lst left, hc, h1, hfr, (cl_bit hl h0 (by omega)).mpr (Or.inr rfl), hm⟩, fun _ => rfl⟩
theorem pb_not (hn8 : n ≤ 8) (hl : left < 256) (h0 : left ≠ 0) (hm : ¬ may n d (lst left) = false) (h : pbI n d fr p left mb) : pbI n d fr p (cl1 left) mb := by
  refine h.trans ⟨?_, ?_⟩
  · rintro ⟨c, hc, h1, h2, h3, h4⟩
    exact ⟨c, hc, h1, h2, (cl_bit hl h0 (by omega)).mpr (Or.inl h3), h4⟩
  · rintro ⟨c, hc, h1, h2, h3, h4⟩
    rcases (cl_bit hl h0 (by omega)).mp h3 with z | z
    · exact ⟨c, hc, h1, h2, z, h4⟩
    · rw [z] at h4; exact absurd h4 hm
theorem pb_end (T : TM n tw d) (h0 : 0 < n) (hp : p < n) (hf : ∀ q, fr = some q → q < n ∧ d q p = 1) (hr : pbR d fr p) (h : pbI n d fr p 0 mb) : mb = may n d p := by
  rw [Bool.eq_iff_iff, may_iff T h0 hp]
  refine h.trans ⟨?_, ?_⟩
  · rintro ⟨c, hc, h1, h2, -, h4⟩
    exact ⟨c, hc, h1, (pb_ch T h0 hp hc h1 hf hr).mp h2, h4⟩
  · rintro ⟨c, hc, h1, h2, h4⟩
    exact ⟨c, hc, h1, (pb_ch T h0 hp hc h1 hf hr).mpr h2, Nat.zero_testBit c, h4⟩
theorem pb_eq (T : TM n tw d) (hp : p < n) (hc : c < n) (h1 : d p c = 1) : (sbS n d (some p) c (mw n d) - (if 1 = 0 then 0 else mw n d c) = sbS n d (some p) c (mw n d) - (if 0 = 0 then 0 else mw n d c)) ↔ may n d c = false := by
  have hge := sbS_ge T hc (fr := some p) (fun q hq => by cases hq; exact ⟨hp, h1⟩) (mw n d)
  rw [if_neg (by decide), if_pos rfl]
  unfold mw at hge ⊢
  cases hm : may n d c with
  | true => 
    rw [hm, if_pos rfl] at hge
    rw [if_pos rfl]
    exact ⟨fun h => by omega, fun h => by cases h⟩
  | false => exact ⟨fun _ => rfl, fun _ => rfl⟩
end
set_option maxHeartbeats 4000000 in
theorem xM_X0_pairsBelow {l : Launch} {g : fG} {A : Nat → Prop} {En : State → Prop} {zd : Nat} (hX : fX zd g A En) {f : fH} {o : Nat} {tr gr fa : Int32} {rn lr sh : Nat} {L : xLs} {pa kd ld tw : Nat → Nat} {lk tk : Nat → Int32} (hO : f o = some (.inr (1, xF tr gr L.a rn lr fa sh))) (hP : xP g f o L pa kd ld tw lk tk) {d : Nat → Nat → Nat} (T : TM L.n tw d) : ∀ (e at_ : Nat) (fr : Option Nat) (fv : Nat), at_ < L.n → (∀ p, fr = some p → p < L.n ∧ d p at_ = 1) → (∀ y, y < L.n → ahead d fr at_ y → d at_ y < e) → fv ≤ 1 → pbR d fr at_ → fC l g A En yX0_pairsBelow cX0_pairsBelow 9 (some .int) (fR (e + 3)) [.ref o, .int (nI at_), .int (frI fr), .int (nI fv)] f (fun v f' => f' = f ∧ v = some (.int (nI (sbS L.n d fr at_ (mw L.n d) - (if fv = 0 then 0 else mw L.n d at_))))) := by
  have hE := hX.E
  have hn8 := hP.2.1
  intro e
  induction e with
  | zero => intro at_ fr fv ha hf hd hfv hr; exact absurd (hd at_ ha (fun p hp => by rw [T.d0 ha]; exact (hf p hp).2)) (Nat.not_lt_zero _)
  | succ e ih =>
    intro at_ fr fv ha hf hd hfv hr
    refine fC.of (by decide) hX.E [some (.ref o), some (.int (nI at_)), some (.int (frI fr)), some (.int (nI fv)), none, none, none, none, none] rfl rfl (fun K G => ?_)
    have G : fGood l g A En RX0 "pairsBelow" cX0_pairsBelow 9 (some .int) (fR (e + 1 + 3)) _ K := G
    have htw := hP.t8 at_ ha
    have h0 : 0 < L.n := by omega
    refine r_iconst G (v := nI 0) dX0_pairsBelow_0 (by decide) ?_
    refine r_istore G (lo' := [some (.ref o), some (.int (nI at_)), some (.int (frI fr)), some (.int (nI fv)), some (.int (nI 0)), none, none, none, none]) dX0_pairsBelow_1 rfl rfl ?_
    refine r_iconst G (v := nI 0) dX0_pairsBelow_3 (by decide) ?_
    refine r_istore G (lo' := [some (.ref o), some (.int (nI at_)), some (.int (frI fr)), some (.int (nI fv)), some (.int (nI 0)), some (.int (nI 0)), none, none, none]) dX0_pairsBelow_4 rfl rfl ?_
    refine r_aload_n G dX0_pairsBelow_6 rfl ?_
    refine r_getf G xCl1 (fs := [.int tr, .int gr, .ref L.a, .ref rn, .ref lr, .int fa, .ref sh]) hO 2 (by decide) q142 rfl rfl dX0_pairsBelow_7 ?_
    refine r_iload_n G dX0_pairsBelow_10 rfl ?_
    refine s_callF (b := L.a) G [.int (nI at_)] (xM_J2_get hX hP.1 at_ ha) (lw_F q186 q189 q191 q73 q193) (hX.fw 1 _ rfl) fx_1 rfl ⟨by simp only [fR, xR]; omega, by simp only [fR, xR]; omega⟩ (fs := [.int L.mc, .ref L.ea, .int (nI L.n)]) hP.1.1 (ci := 2) rfl rfl (Nat.le_of_ble_eq_true rfl) rfl rfl ⟨Nat.zero_le _, Nat.zero_le _⟩ dX0_pairsBelow_11 ?_
    show K f 0 0 16 [some (.ref o), some (.int (nI at_)), some (.int (frI fr)), some (.int (nI fv)), some (.int (nI 0)), some (.int (nI 0)), none, none, none] [va_rf ((L.el at_))]
    rw [show va_rf (L.el at_) = .ref (pa at_) from by rw [(hP.2.2.2 at_ ha).1]; rfl]
    refine r_castP hX G (hP.2.2.2 at_ ha).2.2.1 (hP.2.2.2 at_ ha).2.1 q204 dX0_pairsBelow_16 ?_
    refine r_pget G (hP.2.2.2 at_ ha).2.2.1 (he := (hP.2.2.2 at_ ha).2.1) 1 (by decide) q538 pO_g1 dX0_pairsBelow_19 ?_
    refine r_istore G (lo' := [some (.ref o), some (.int (nI at_)), some (.int (frI fr)), some (.int (nI fv)), some (.int (nI 0)), some (.int (nI 0)), some (.int (nI (tw at_))), none, none]) dX0_pairsBelow_22 rfl rfl ?_
    have L24 : ∀ (fu : Nat) (left m : Nat) (mb : Bool), (left < 256) → (∀ i, left.testBit i = true → (tw at_).testBit i = true) → (m + mw L.n d at_ = sD L.n d fr at_ left (mw L.n d)) → (pbI L.n d fr at_ left mb) → left < fu → K f 0 0 24 [some (.ref o), some (.int (nI at_)), some (.int (frI fr)), some (.int (nI fv)), some (.int (nI m)), some (.int (bI mb)), some (.int (nI left)), none, none] [] := by
      intro fu
      induction fu with
      | zero => intro left m mb hl hsub hm hmb hm24; exact absurd hm24 (Nat.not_lt_zero _)
      | succ fu24 ih24 =>
        intro left m mb hl hsub hm hmb hm24
        refine r_iload G dX0_pairsBelow_24 rfl ?_
        refine r_if_eq G 94 (n_eq0 (by omega)) dX0_pairsBelow_26 (by decide) (fun h26 => ?_) (fun h26 => ?_)
        · refine r_iload G dX0_pairsBelow_94 rfl ?_
          refine r_iload G dX0_pairsBelow_96 rfl ?_
          refine r_ifb_eq G 109  dX0_pairsBelow_98 (by decide) (fun h98 => ?_) (fun h98 => ?_)
          · refine r_iconst G (v := nI 0) dX0_pairsBelow_109 (by decide) ?_
            refine r_iadd G (v := (nI (m + 0))) dX0_pairsBelow_110 (nI_add m 0) ?_
            have hq := pb_end T h0 ha hf hr (h26 ▸ hmb)
            have h9 : m + mw L.n d at_ = sbS L.n d fr at_ (mw L.n d) := by rw [← sD_end T ha hf, ← h26]; exact hm
            have h8 : mw L.n d at_ = 0 := by unfold mw; rw [← hq, h98]; rfl
            exact r_iret G rfl ⟨Nat.zero_le _, Nat.zero_le _⟩ dX0_pairsBelow_111 ⟨rfl, rv (by rw [h8] at h9 ⊢; split <;> omega)⟩
          · refine r_iload_n G dX0_pairsBelow_101 rfl ?_
            refine r_if_ne G 109 (n_eq0 (by omega)) dX0_pairsBelow_102 (by decide) (fun h102 => ?_) (fun h102 => ?_)
            · refine r_iconst G (v := nI 0) dX0_pairsBelow_109 (by decide) ?_
              refine r_iadd G (v := (nI (m + 0))) dX0_pairsBelow_110 (nI_add m 0) ?_
              have hq := pb_end T h0 ha hf hr (h26 ▸ hmb)
              have h9 : m + mw L.n d at_ = sbS L.n d fr at_ (mw L.n d) := by rw [← sD_end T ha hf, ← h26]; exact hm
              have h8 : mw L.n d at_ = 1 := by unfold mw; rw [← hq, h98]; rfl
              exact r_iret G rfl ⟨Nat.zero_le _, Nat.zero_le _⟩ dX0_pairsBelow_111 ⟨rfl, rv (by rw [h8] at h9 ⊢; split <;> omega)⟩
            · refine r_iconst G (v := nI 1) dX0_pairsBelow_105 (by decide) ?_
              refine r_goto G 110 dX0_pairsBelow_106 (by decide) ?_
              refine r_iadd G (v := (nI (m + 1))) dX0_pairsBelow_110 (nI_add m 1) ?_
              have hq := pb_end T h0 ha hf hr (h26 ▸ hmb)
              have h9 : m + mw L.n d at_ = sbS L.n d fr at_ (mw L.n d) := by rw [← sD_end T ha hf, ← h26]; exact hm
              have h8 : mw L.n d at_ = 1 := by unfold mw; rw [← hq, h98]; rfl
              exact r_iret G rfl ⟨Nat.zero_le _, Nat.zero_le _⟩ dX0_pairsBelow_111 ⟨rfl, rv (by rw [h8] at h9 ⊢; split <;> omega)⟩
        · obtain ⟨hx8, hxb, hcl, hclt⟩ := cl1_ok left hl h26
          have hxt := hsub _ hxb
          have hxn := T.bl ha hxt
          have hx1 := (T.adj ha hxn).mp hxt
          refine r_iload G dX0_pairsBelow_29 rfl ?_
          refine s_callS G [.int (nI left)] (sX_X0_least hE left (by omega) h26) (lw_S q253 q254 q70 q255) fy_yX0_least rfl ⟨by simp only [fR, xR]; omega, by simp only [fR, xR]; omega⟩ rfl (Nat.le_of_ble_eq_true rfl) rfl rfl ⟨Nat.zero_le _, Nat.zero_le _⟩ dX0_pairsBelow_31 ?_
          show K f 0 0 34 [some (.ref o), some (.int (nI at_)), some (.int (frI fr)), some (.int (nI fv)), some (.int (nI m)), some (.int (bI mb)), some (.int (nI left)), none, none] [.int (nI (lst left))]
          refine r_istore G (lo' := [some (.ref o), some (.int (nI at_)), some (.int (frI fr)), some (.int (nI fv)), some (.int (nI m)), some (.int (bI mb)), some (.int (nI left)), some (.int (nI (lst left))), none]) dX0_pairsBelow_34 rfl rfl ?_
          refine r_iload G dX0_pairsBelow_36 rfl ?_
          refine r_iload_n G dX0_pairsBelow_38 rfl ?_
          refine r_icmp_eq G 82 (frI_ne (by omega) (fun p hp => by have := (hf p hp).1; omega)) dX0_pairsBelow_39 (by decide) (fun h39 => ?_) (fun h39 => ?_)
          · refine r_iload G dX0_pairsBelow_82 rfl ?_
            refine r_iload G dX0_pairsBelow_84 rfl ?_
            refine r_iconst G (v := nI 1) dX0_pairsBelow_86 (by decide) ?_
            refine r_isub G (v := (nI (left - 1))) dX0_pairsBelow_87 (pk_sub (by omega)) ?_
            refine r_iand G (v := (nI (left &&& (left - 1)))) dX0_pairsBelow_88 (n_and left (left - 1)) ?_
            refine r_istore G (lo' := [some (.ref o), some (.int (nI at_)), some (.int (frI fr)), some (.int (nI fv)), some (.int (nI m)), some (.int (bI mb)), some (.int (nI (left &&& (left - 1)))), some (.int (nI (lst left))), none]) dX0_pairsBelow_89 rfl rfl ?_
            refine r_goto G 24 dX0_pairsBelow_91 (by decide) ?_
            refine r_drop G 7 (lo' := [some (.ref o), some (.int (nI at_)), some (.int (frI fr)), some (.int (nI fv)), some (.int (nI m)), some (.int (bI mb)), some (.int (nI (left &&& (left - 1)))), none, none]) rfl ?_
            exact ih24 _ _ _ (by show cl1 left < 256; omega) (fun i h => hsub i (cl_sub hl h26 h)) (hm.trans (sD_skip hn8 hl h26 h39 _).symm) (pb_skip hn8 hl h26 h39 hmb) (by show cl1 left < _; omega)
          · refine r_aload_n G dX0_pairsBelow_42 rfl ?_
            refine r_iload G dX0_pairsBelow_43 rfl ?_
            refine r_iload_n G dX0_pairsBelow_45 rfl ?_
            refine r_iconst G (v := nI 0) dX0_pairsBelow_46 (by decide) ?_
            refine s_callV (b := o) G [.int (nI (lst left)), .int (nI at_), .int (nI 0)] (ih (lst left) (some at_) 0 hxn (fun p hp => by cases hp; exact ⟨ha, hx1⟩) (fun y hy h => by obtain ⟨q1, q2⟩ := ff_up T ha hxn hy hx1 h39 hf h; have := hd y hy q1; omega) (by decide) ⟨fun z => (by cases z), fun q z => (by cases z; exact pb_up T h0 ha hxn hx1 h39 hf hr)⟩) (lw_V q377 q379 qs15 q70 q380) fy_yX0_pairsBelow rfl ⟨by simp only [fR, xR]; omega, by simp only [fR, xR]; omega⟩ (fs := [.int tr, .int gr, .ref L.a, .ref rn, .ref lr, .int fa, .ref sh]) hO (ci := 1) rfl rfl rfl (Nat.le_of_ble_eq_true rfl) rfl rfl ⟨Nat.zero_le _, Nat.zero_le _⟩ dX0_pairsBelow_47 ?_
            show K f 0 0 50 [some (.ref o), some (.int (nI at_)), some (.int (frI fr)), some (.int (nI fv)), some (.int (nI m)), some (.int (bI mb)), some (.int (nI left)), some (.int (nI (lst left))), none] [.int (nI (sbS L.n d (some at_) (lst left) (mw L.n d) - (if 0 = 0 then 0 else mw L.n d (lst left))))]
            refine r_istore G (lo' := [some (.ref o), some (.int (nI at_)), some (.int (frI fr)), some (.int (nI fv)), some (.int (nI m)), some (.int (bI mb)), some (.int (nI left)), some (.int (nI (lst left))), some (.int (nI (sbS L.n d (some at_) (lst left) (mw L.n d) - (if 0 = 0 then 0 else mw L.n d (lst left)))))]) dX0_pairsBelow_50 rfl rfl ?_
            refine r_iload G dX0_pairsBelow_52 rfl ?_
            refine r_iload G dX0_pairsBelow_54 rfl ?_
            refine r_iadd G (v := (nI (m + (sbS L.n d (some at_) (lst left) (mw L.n d) - (if 0 = 0 then 0 else mw L.n d (lst left)))))) dX0_pairsBelow_56 (nI_add m (sbS L.n d (some at_) (lst left) (mw L.n d) - (if 0 = 0 then 0 else mw L.n d (lst left)))) ?_
            refine r_istore G (lo' := [some (.ref o), some (.int (nI at_)), some (.int (frI fr)), some (.int (nI fv)), some (.int (nI (m + (sbS L.n d (some at_) (lst left) (mw L.n d) - (if 0 = 0 then 0 else mw L.n d (lst left)))))), some (.int (bI mb)), some (.int (nI left)), some (.int (nI (lst left))), some (.int (nI (sbS L.n d (some at_) (lst left) (mw L.n d) - (if 0 = 0 then 0 else mw L.n d (lst left)))))]) dX0_pairsBelow_57 rfl rfl ?_
            refine r_iload G dX0_pairsBelow_59 rfl ?_
            refine r_aload_n G dX0_pairsBelow_61 rfl ?_
            refine r_iload G dX0_pairsBelow_62 rfl ?_
            refine r_iload_n G dX0_pairsBelow_64 rfl ?_
            refine r_iconst G (v := nI 1) dX0_pairsBelow_65 (by decide) ?_
            refine s_callV (b := o) G [.int (nI (lst left)), .int (nI at_), .int (nI 1)] (ih (lst left) (some at_) 1 hxn (fun p hp => by cases hp; exact ⟨ha, hx1⟩) (fun y hy h => by obtain ⟨q1, q2⟩ := ff_up T ha hxn hy hx1 h39 hf h; have := hd y hy q1; omega) (by decide) ⟨fun z => (by cases z), fun q z => (by cases z; exact pb_up T h0 ha hxn hx1 h39 hf hr)⟩) (lw_V q377 q379 qs15 q70 q380) fy_yX0_pairsBelow rfl ⟨by simp only [fR, xR]; omega, by simp only [fR, xR]; omega⟩ (fs := [.int tr, .int gr, .ref L.a, .ref rn, .ref lr, .int fa, .ref sh]) hO (ci := 1) rfl rfl rfl (Nat.le_of_ble_eq_true rfl) rfl rfl ⟨Nat.zero_le _, Nat.zero_le _⟩ dX0_pairsBelow_66 ?_
            show K f 0 0 69 [some (.ref o), some (.int (nI at_)), some (.int (frI fr)), some (.int (nI fv)), some (.int (nI (m + (sbS L.n d (some at_) (lst left) (mw L.n d) - (if 0 = 0 then 0 else mw L.n d (lst left)))))), some (.int (bI mb)), some (.int (nI left)), some (.int (nI (lst left))), some (.int (nI (sbS L.n d (some at_) (lst left) (mw L.n d) - (if 0 = 0 then 0 else mw L.n d (lst left)))))] [.int (nI (sbS L.n d (some at_) (lst left) (mw L.n d) - (if 1 = 0 then 0 else mw L.n d (lst left)))), .int (bI mb)]
            refine r_iload G dX0_pairsBelow_69 rfl ?_
            refine r_icmp_ne G 78 (nI_eq (Nat.lt_of_le_of_lt (Nat.sub_le _ _) (sbS_lt hn8)) (Nat.lt_of_le_of_lt (Nat.sub_le _ _) (sbS_lt hn8))) dX0_pairsBelow_71 (by decide) (fun h71 => ?_) (fun h71 => ?_)
            · refine r_iconst G (v := nI 0) dX0_pairsBelow_78 (by decide) ?_
              refine r_ior G (v := (bI mb)) dX0_pairsBelow_79 (bI_or0 mb) ?_
              refine r_istore G (lo' := [some (.ref o), some (.int (nI at_)), some (.int (frI fr)), some (.int (nI fv)), some (.int (nI (m + (sbS L.n d (some at_) (lst left) (mw L.n d) - (if 0 = 0 then 0 else mw L.n d (lst left)))))), some (.int (bI mb)), some (.int (nI left)), some (.int (nI (lst left))), some (.int (nI (sbS L.n d (some at_) (lst left) (mw L.n d) - (if 0 = 0 then 0 else mw L.n d (lst left)))))]) dX0_pairsBelow_80 rfl rfl ?_
              refine r_iload G dX0_pairsBelow_82 rfl ?_
              refine r_iload G dX0_pairsBelow_84 rfl ?_
              refine r_iconst G (v := nI 1) dX0_pairsBelow_86 (by decide) ?_
              refine r_isub G (v := (nI (left - 1))) dX0_pairsBelow_87 (pk_sub (by omega)) ?_
              refine r_iand G (v := (nI (left &&& (left - 1)))) dX0_pairsBelow_88 (n_and left (left - 1)) ?_
              refine r_istore G (lo' := [some (.ref o), some (.int (nI at_)), some (.int (frI fr)), some (.int (nI fv)), some (.int (nI (m + (sbS L.n d (some at_) (lst left) (mw L.n d) - (if 0 = 0 then 0 else mw L.n d (lst left)))))), some (.int (bI mb)), some (.int (nI (left &&& (left - 1)))), some (.int (nI (lst left))), some (.int (nI (sbS L.n d (some at_) (lst left) (mw L.n d) - (if 0 = 0 then 0 else mw L.n d (lst left)))))]) dX0_pairsBelow_89 rfl rfl ?_
              refine r_goto G 24 dX0_pairsBelow_91 (by decide) ?_
              refine r_drop G 7 (lo' := [some (.ref o), some (.int (nI at_)), some (.int (frI fr)), some (.int (nI fv)), some (.int (nI (m + (sbS L.n d (some at_) (lst left) (mw L.n d) - (if 0 = 0 then 0 else mw L.n d (lst left)))))), some (.int (bI mb)), some (.int (nI (left &&& (left - 1)))), none, some (.int (nI (sbS L.n d (some at_) (lst left) (mw L.n d) - (if 0 = 0 then 0 else mw L.n d (lst left)))))]) rfl ?_
              refine r_drop G 8 (lo' := [some (.ref o), some (.int (nI at_)), some (.int (frI fr)), some (.int (nI fv)), some (.int (nI (m + (sbS L.n d (some at_) (lst left) (mw L.n d) - (if 0 = 0 then 0 else mw L.n d (lst left)))))), some (.int (bI mb)), some (.int (nI (left &&& (left - 1)))), none, none]) rfl ?_
              exact ih24 _ _ _ (by show cl1 left < 256; omega) (fun i h => hsub i (cl_sub hl h26 h)) (by have h9 := sD_step T hn8 ha hl h26 hxn hx1 h39 (mw L.n d); show _ = sD L.n d fr at_ (cl1 left) (mw L.n d); rw [h9, ← hm]; simp only [if_true, Nat.sub_zero]; omega) (pb_not hn8 hl h26 (fun z => h71 ((pb_eq T ha hxn hx1).mpr z)) hmb) (by show cl1 left < _; omega)
            · refine r_iconst G (v := nI 1) dX0_pairsBelow_74 (by decide) ?_
              refine r_goto G 79 dX0_pairsBelow_75 (by decide) ?_
              refine r_ior G (v := (bI true)) dX0_pairsBelow_79 (bI_or1 mb) ?_
              refine r_istore G (lo' := [some (.ref o), some (.int (nI at_)), some (.int (frI fr)), some (.int (nI fv)), some (.int (nI (m + (sbS L.n d (some at_) (lst left) (mw L.n d) - (if 0 = 0 then 0 else mw L.n d (lst left)))))), some (.int (bI true)), some (.int (nI left)), some (.int (nI (lst left))), some (.int (nI (sbS L.n d (some at_) (lst left) (mw L.n d) - (if 0 = 0 then 0 else mw L.n d (lst left)))))]) dX0_pairsBelow_80 rfl rfl ?_
              refine r_iload G dX0_pairsBelow_82 rfl ?_
              refine r_iload G dX0_pairsBelow_84 rfl ?_
              refine r_iconst G (v := nI 1) dX0_pairsBelow_86 (by decide) ?_
              refine r_isub G (v := (nI (left - 1))) dX0_pairsBelow_87 (pk_sub (by omega)) ?_
              refine r_iand G (v := (nI (left &&& (left - 1)))) dX0_pairsBelow_88 (n_and left (left - 1)) ?_
              refine r_istore G (lo' := [some (.ref o), some (.int (nI at_)), some (.int (frI fr)), some (.int (nI fv)), some (.int (nI (m + (sbS L.n d (some at_) (lst left) (mw L.n d) - (if 0 = 0 then 0 else mw L.n d (lst left)))))), some (.int (bI true)), some (.int (nI (left &&& (left - 1)))), some (.int (nI (lst left))), some (.int (nI (sbS L.n d (some at_) (lst left) (mw L.n d) - (if 0 = 0 then 0 else mw L.n d (lst left)))))]) dX0_pairsBelow_89 rfl rfl ?_
              refine r_goto G 24 dX0_pairsBelow_91 (by decide) ?_
              refine r_drop G 7 (lo' := [some (.ref o), some (.int (nI at_)), some (.int (frI fr)), some (.int (nI fv)), some (.int (nI (m + (sbS L.n d (some at_) (lst left) (mw L.n d) - (if 0 = 0 then 0 else mw L.n d (lst left)))))), some (.int (bI true)), some (.int (nI (left &&& (left - 1)))), none, some (.int (nI (sbS L.n d (some at_) (lst left) (mw L.n d) - (if 0 = 0 then 0 else mw L.n d (lst left)))))]) rfl ?_
              refine r_drop G 8 (lo' := [some (.ref o), some (.int (nI at_)), some (.int (frI fr)), some (.int (nI fv)), some (.int (nI (m + (sbS L.n d (some at_) (lst left) (mw L.n d) - (if 0 = 0 then 0 else mw L.n d (lst left)))))), some (.int (bI true)), some (.int (nI (left &&& (left - 1)))), none, none]) rfl ?_
              exact ih24 _ _ _ (by show cl1 left < 256; omega) (fun i h => hsub i (cl_sub hl h26 h)) (by have h9 := sD_step T hn8 ha hl h26 hxn hx1 h39 (mw L.n d); show _ = sD L.n d fr at_ (cl1 left) (mw L.n d); rw [h9, ← hm]; simp only [if_true, Nat.sub_zero]; omega) (pb_yes T hn8 hl h26 hxn hx1 h39 ((pb_eq T ha hxn hx1).mp h71)) (by show cl1 left < _; omega)
    exact L24 (tw at_ + 1) (tw at_) 0 false htw (fun i h => h) (by rw [sD_0 T ha, Nat.zero_add]) (pb_init T ha) (by omega)
set_option maxHeartbeats 4000000 in
theorem xM_X0_pairs {l : Launch} {g : fG} {A : Nat → Prop} {En : State → Prop} {zd : Nat} (hX : fX zd g A En) {f : fH} {o : Nat} {tr gr fa : Int32} {rn lr sh : Nat} {L : xLs} {pa kd ld tw : Nat → Nat} {lk tk : Nat → Int32} (hO : f o = some (.inr (1, xF tr gr L.a rn lr fa sh))) (hP : xP g f o L pa kd ld tw lk tk) {d : Nat → Nat → Nat} (hT : L.n ≠ 0 → 2 ≤ L.n ∧ TM L.n tw d): fC l g A En yX0_pairs cX0_pairs 1 (some .int) (fR 12) [.ref o] f (fun v f' => f' = f ∧ v = some (.int (aPairs L.n d))) := by
  have hE := hX.E
  refine fC.of (by decide) hX.E [some (.ref o)] rfl rfl (fun K G => ?_)
  have G : fGood l g A En RX0 "pairs" cX0_pairs 1 (some .int) (fR 12) _ K := G
  have hn8 := hP.2.1
  refine r_aload_n G dX0_pairs_0 rfl ?_
  refine s_callV (b := o) G [] (xM_X0_noVine hX hO hP) (lw_V q273 q275 qs3 q70 q276) fy_yX0_noVine rfl ⟨Nat.le_of_ble_eq_true rfl, Nat.le_of_ble_eq_true rfl⟩ (fs := [.int tr, .int gr, .ref L.a, .ref rn, .ref lr, .int fa, .ref sh]) hO (ci := 1) rfl rfl rfl (Nat.le_of_ble_eq_true rfl) rfl rfl ⟨Nat.zero_le _, Nat.zero_le _⟩ dX0_pairs_1 ?_
  show K f 0 0 4 [some (.ref o)] [.int (bI (decide (L.n = 0)))]
  refine r_ifb_eq G 12  dX0_pairs_4 (by decide) (fun h4 => ?_) (fun h4 => ?_)
  · have h4q : ¬ L.n = 0 := of_decide_eq_false h4
    obtain ⟨h2n, T⟩ := hT h4q
    refine r_aload_n G dX0_pairs_12 rfl ?_
    refine r_iconst G (v := nI 0) dX0_pairs_13 (by decide) ?_
    refine r_bipush G (v := -9) dX0_pairs_14 (by decide) ?_
    refine r_iconst G (v := nI 0) dX0_pairs_16 (by decide) ?_
    refine s_callV (b := o) G [.int (nI 0), .int (-9), .int (nI 0)] (xM_X0_pairsBelow hX hO hP T 8 0 none 0 (by omega) (fun p hp => by cases hp) (fun y hy _ => by have := T.dl (show 0 < L.n by omega) hy; omega) (by decide) ⟨fun _ => rfl, fun q hq => by cases hq⟩) (lw_V q377 q379 qs15 q70 q380) fy_yX0_pairsBelow rfl ⟨Nat.le_of_ble_eq_true rfl, Nat.le_of_ble_eq_true rfl⟩ (fs := [.int tr, .int gr, .ref L.a, .ref rn, .ref lr, .int fa, .ref sh]) hO (ci := 1) rfl rfl rfl (Nat.le_of_ble_eq_true rfl) rfl rfl ⟨Nat.zero_le _, Nat.zero_le _⟩ dX0_pairs_17 ?_
    show K f 0 0 20 [some (.ref o)] [.int (nI (sbS L.n d none 0 (mw L.n d) - (if 0 = 0 then 0 else mw L.n d 0)))]
    exact r_iret G rfl ⟨Nat.zero_le _, Nat.zero_le _⟩ dX0_pairs_20 ⟨rfl, rI (by rw [aPairs, if_neg h4q, sbS_none]; rfl)⟩
  · have h4q : L.n = 0 := of_decide_eq_true h4
    refine r_bipush G (v := -3) dX0_pairs_7 (by decide) ?_
    refine r_goto G 20 dX0_pairs_9 (by decide) ?_
    exact r_iret G rfl ⟨Nat.zero_le _, Nat.zero_le _⟩ dX0_pairs_20 ⟨rfl, rI (by rw [aPairs, if_pos h4q])⟩
theorem aprt_all {n s : Nat} {tw : Nat → Nat} : allN n (fun p => !s.testBit p || decide (tw p &&& s = 0)) = aprt n tw s := by
  unfold aprt
  rw [Bool.eq_iff_iff, decide_eq_true_eq]
  have hA : ∀ (P : Nat → Bool), allN n P = true ↔ ∀ p, p < n → P p = true := fun P => by
    refine ⟨fun h p hp => ?_, allN_t⟩
    cases hb : P p with
    | true => rfl
    | false => rw [allN_f hp hb] at h; cases h
  rw [hA]
  constructor
  · intro h
    refine Nat.eq_of_testBit_eq fun i => ?_
    rw [Nat.testBit_and, Nat.zero_testBit]
    cases hb : (orN n fun p => if s.testBit p = true then tw p else 0).testBit i with
    | false => rfl
    | true =>
      obtain ⟨p, hp, h1⟩ := (orN_bit i).mp hb
      by_cases hs : s.testBit p = true
      · rw [if_pos hs] at h1
        have := h p hp
        rw [hs, Bool.not_true, Bool.false_or, decide_eq_true_eq] at this
        have h2 : (tw p &&& s).testBit i = false := by rw [this]; exact Nat.zero_testBit i
        rw [Nat.testBit_and, h1] at h2
        exact h2
      · rw [if_neg hs, Nat.zero_testBit] at h1; cases h1
  · intro h p hp
    cases hs : s.testBit p with
    | false => rfl
    | true =>
      rw [Bool.not_true, Bool.false_or, decide_eq_true_eq]
      refine Nat.eq_of_testBit_eq fun i => ?_
      rw [Nat.testBit_and, Nat.zero_testBit]
      cases hi : s.testBit i with
      | false => rw [Bool.and_false]
      | true =>
        rw [Bool.and_true]
        cases hb : (tw p).testBit i with
        | false => rfl
        | true =>
          have h2 : ((orN n fun p => if s.testBit p = true then tw p else 0) &&& s).testBit i = true := by
            rw [Nat.testBit_and, hi, Bool.and_true, orN_bit]
            exact ⟨p, hp, by rw [if_pos hs]; exact hb⟩
          rw [h, Nat.zero_testBit] at h2
          cases h2
set_option maxHeartbeats 4000000 in
theorem xM_X0_areApart {l : Launch} {g : fG} {A : Nat → Prop} {En : State → Prop} {zd : Nat} (hX : fX zd g A En) {f : fH} {o : Nat} {tr gr fa : Int32} {rn lr sh : Nat} {L : xLs} {pa kd ld tw : Nat → Nat} {lk tk : Nat → Int32} (hO : f o = some (.inr (1, xF tr gr L.a rn lr fa sh))) (hP : xP g f o L pa kd ld tw lk tk) (s : Nat) (hs : s < 256): fC l g A En yX0_areApart cX0_areApart 4 (some .boolean) (fR 3) [.ref o, .int (nI s)] f (fun v f' => f' = f ∧ v = some (.int (bI (aprt L.n tw s)))) := by
  have hE := hX.E
  refine fC.of (by decide) hX.E [some (.ref o), some (.int (nI s)), none, none] rfl rfl (fun K G => ?_)
  have G : fGood l g A En RX0 "areApart" cX0_areApart 4 (some .boolean) (fR 3) _ K := G
  have hn8 := hP.2.1
  refine r_iconst G (v := nI 1) dX0_areApart_0 (by decide) ?_
  refine r_istore_n G (lo' := [some (.ref o), some (.int (nI s)), some (.int (nI 1)), none]) dX0_areApart_1 rfl rfl ?_
  refine r_iconst G (v := nI 0) dX0_areApart_2 (by decide) ?_
  refine r_istore_n G (lo' := [some (.ref o), some (.int (nI s)), some (.int (nI 1)), some (.int (nI 0))]) dX0_areApart_3 rfl rfl ?_
  have L4 : ∀ (fu : Nat) (p : Nat) (mb : Bool), (p ≤ L.n) → (mb = allN p (fun p => !s.testBit p || decide (tw p &&& s = 0))) → L.n - p < fu → K f 0 0 4 [some (.ref o), some (.int (nI s)), some (.int (bI mb)), some (.int (nI p))] [] := by
    intro fu
    induction fu with
    | zero => intro p mb hp hmb hm4; exact absurd hm4 (Nat.not_lt_zero _)
    | succ fu4 ih4 =>
      intro p mb hp hmb hm4
      refine r_iload_n G dX0_areApart_4 rfl ?_
      refine r_aload_n G dX0_areApart_5 rfl ?_
      refine r_getf G xCl1 (fs := [.int tr, .int gr, .ref L.a, .ref rn, .ref lr, .int fa, .ref sh]) hO 2 (by decide) q142 rfl rfl dX0_areApart_6 ?_
      refine s_callF (b := L.a) G [] (xM_J2_size hX hP.1) (lw_F q173 q177 q179 q73 q181) (hX.fw 0 _ rfl) fx_0 rfl ⟨Nat.le_of_ble_eq_true rfl, Nat.le_of_ble_eq_true rfl⟩ (fs := [.int L.mc, .ref L.ea, .int (nI L.n)]) hP.1.1 (ci := 2) rfl rfl (Nat.le_of_ble_eq_true rfl) rfl rfl ⟨Nat.zero_le _, Nat.zero_le _⟩ dX0_areApart_9 ?_
      show K f 0 0 14 [some (.ref o), some (.int (nI s)), some (.int (bI mb)), some (.int (nI p))] [.int (nI L.n), .int (nI p)]
      refine r_icmp_ge G 60 (nI_leI (by omega) (by omega)) dX0_areApart_14 (by decide) (fun h14 => ?_) (fun h14 => ?_)
      · refine r_iload_n G dX0_areApart_60 rfl ?_
        exact r_zret G rfl bI_nar ⟨Nat.zero_le _, Nat.zero_le _⟩ dX0_areApart_61 ⟨rfl, rBB (by rw [hmb, show p = L.n by omega]; exact aprt_all)⟩
      · refine r_iload_n G dX0_areApart_17 rfl ?_
        refine r_iload_n G dX0_areApart_18 rfl ?_
        refine r_iload_n G dX0_areApart_19 rfl ?_
        refine s_callS G [.int (nI s), .int (nI p)] (sX_X0_isIn hE s p (by omega) (by omega)) (lw_S q290 q291 q70 q292) fy_yX0_isIn rfl ⟨Nat.le_of_ble_eq_true rfl, Nat.le_of_ble_eq_true rfl⟩ rfl (Nat.le_of_ble_eq_true rfl) rfl rfl ⟨Nat.zero_le _, Nat.zero_le _⟩ dX0_areApart_20 ?_
        show K f 0 0 23 [some (.ref o), some (.int (nI s)), some (.int (bI mb)), some (.int (nI p))] [.int (bI (s.testBit p)), .int (bI mb)]
        refine r_ifb_eq G 47  dX0_areApart_23 (by decide) (fun h23 => ?_) (fun h23 => ?_)
        · refine r_iconst G (v := nI 1) dX0_areApart_47 (by decide) ?_
          refine r_goto G 52 dX0_areApart_48 (by decide) ?_
          refine r_iand G (v := (bI mb)) dX0_areApart_52 (bI_and1 mb) ?_
          refine r_istore_n G (lo' := [some (.ref o), some (.int (nI s)), some (.int (bI mb)), some (.int (nI p))]) dX0_areApart_53 rfl rfl ?_
          refine r_iinc G (v := (nI (p + 1))) (lo' := [some (.ref o), some (.int (nI s)), some (.int (bI mb)), some (.int (nI (p + 1)))]) dX0_areApart_54 rfl (nI_add p 1) rfl rfl ?_
          refine r_goto G 4 dX0_areApart_57 (by decide) ?_
          exact ih4 _ _ (by omega) (by show _ = (allN p (fun p => !s.testBit p || decide (tw p &&& s = 0)) && (!s.testBit p || decide (tw p &&& s = 0))); rw [← hmb, h23]; first | (rw [decide_eq_true h44]; cases mb <;> rfl) | (rw [decide_eq_false h44]; cases mb <;> rfl) | (cases mb <;> rfl)) (by omega)
        · refine r_aload_n G dX0_areApart_26 rfl ?_
          refine r_getf G xCl1 (fs := [.int tr, .int gr, .ref L.a, .ref rn, .ref lr, .int fa, .ref sh]) hO 2 (by decide) q142 rfl rfl dX0_areApart_27 ?_
          refine r_iload_n G dX0_areApart_30 rfl ?_
          refine s_callF (b := L.a) G [.int (nI p)] (xM_J2_get hX hP.1 p (by omega)) (lw_F q186 q189 q191 q73 q193) (hX.fw 1 _ rfl) fx_1 rfl ⟨Nat.le_of_ble_eq_true rfl, Nat.le_of_ble_eq_true rfl⟩ (fs := [.int L.mc, .ref L.ea, .int (nI L.n)]) hP.1.1 (ci := 2) rfl rfl (Nat.le_of_ble_eq_true rfl) rfl rfl ⟨Nat.zero_le _, Nat.zero_le _⟩ dX0_areApart_31 ?_
          show K f 0 0 36 [some (.ref o), some (.int (nI s)), some (.int (bI mb)), some (.int (nI p))] [va_rf ((L.el p)), .int (bI mb)]
          rw [show va_rf (L.el p) = .ref (pa p) from by rw [(hP.2.2.2 p (by omega)).1]; rfl]
          refine r_castP hX G (hP.2.2.2 p (by omega)).2.2.1 (hP.2.2.2 p (by omega)).2.1 q204 dX0_areApart_36 ?_
          refine r_pget G (hP.2.2.2 p (by omega)).2.2.1 (he := (hP.2.2.2 p (by omega)).2.1) 1 (by decide) q538 pO_g1 dX0_areApart_39 ?_
          refine r_iload_n G dX0_areApart_42 rfl ?_
          refine r_iand G (v := (nI ((tw p) &&& s))) dX0_areApart_43 (n_and (tw p) s) ?_
          refine r_if_ne G 51 (n_eq0 (Nat.lt_trans (and_lt_r hs) (by decide))) dX0_areApart_44 (by decide) (fun h44 => ?_) (fun h44 => ?_)
          · refine r_iconst G (v := nI 0) dX0_areApart_51 (by decide) ?_
            refine r_iand G (v := (bI false)) dX0_areApart_52 (bI_and0 mb) ?_
            refine r_istore_n G (lo' := [some (.ref o), some (.int (nI s)), some (.int (bI false)), some (.int (nI p))]) dX0_areApart_53 rfl rfl ?_
            refine r_iinc G (v := (nI (p + 1))) (lo' := [some (.ref o), some (.int (nI s)), some (.int (bI false)), some (.int (nI (p + 1)))]) dX0_areApart_54 rfl (nI_add p 1) rfl rfl ?_
            refine r_goto G 4 dX0_areApart_57 (by decide) ?_
            exact ih4 _ _ (by omega) (by show _ = (allN p (fun p => !s.testBit p || decide (tw p &&& s = 0)) && (!s.testBit p || decide (tw p &&& s = 0))); rw [← hmb, h23]; first | (rw [decide_eq_true h44]; cases mb <;> rfl) | (rw [decide_eq_false h44]; cases mb <;> rfl) | (cases mb <;> rfl)) (by omega)
          · refine r_iconst G (v := nI 1) dX0_areApart_47 (by decide) ?_
            refine r_goto G 52 dX0_areApart_48 (by decide) ?_
            refine r_iand G (v := (bI mb)) dX0_areApart_52 (bI_and1 mb) ?_
            refine r_istore_n G (lo' := [some (.ref o), some (.int (nI s)), some (.int (bI mb)), some (.int (nI p))]) dX0_areApart_53 rfl rfl ?_
            refine r_iinc G (v := (nI (p + 1))) (lo' := [some (.ref o), some (.int (nI s)), some (.int (bI mb)), some (.int (nI (p + 1)))]) dX0_areApart_54 rfl (nI_add p 1) rfl rfl ?_
            refine r_goto G 4 dX0_areApart_57 (by decide) ?_
            exact ih4 _ _ (by omega) (by show _ = (allN p (fun p => !s.testBit p || decide (tw p &&& s = 0)) && (!s.testBit p || decide (tw p &&& s = 0))); rw [← hmb, h23]; first | (rw [decide_eq_true h44]; cases mb <;> rfl) | (rw [decide_eq_false h44]; cases mb <;> rfl) | (cases mb <;> rfl)) (by omega)
  exact L4 (L.n + 1) 0 true (Nat.zero_le _) rfl (by omega)
theorem lon_1 {n : Nat} {tw kd ld : Nat → Nat} : lon n tw kd ld 1 = (0, 0) := by
  show (if aprt n tw 0 && decide (0 < ws n kd ld 0) then (0, ws n kd ld 0) else (0, 0)) = (0, 0)
  have h0 : ws n kd ld 0 = 0 := by
    unfold ws
    rw [sumN_congr (g := fun _ => 0) (fun p _ => if_neg (by rw [Nat.zero_testBit]; decide)), sumN_0]
  rw [h0]
  simp
theorem ws_0 {n : Nat} {kd ld : Nat → Nat} : ws n kd ld 0 = 0 := by
  unfold ws
  rw [sumN_congr (g := fun _ => 0) (fun p _ => if_neg (by rw [Nat.zero_testBit]; decide)), sumN_0]
theorem lon_y {n s : Nat} {tw kd ld : Nat → Nat} (h1 : aprt n tw s = true) (h2 : (lon n tw kd ld s).2 < ws n kd ld s) : s = (lon n tw kd ld (s + 1)).1 ∧ ws n kd ld s = (lon n tw kd ld (s + 1)).2 := by
  have e : lon n tw kd ld (s + 1) = (s, ws n kd ld s) := by
    show (if aprt n tw s && decide ((lon n tw kd ld s).2 < ws n kd ld s) then (s, ws n kd ld s) else lon n tw kd ld s) = _
    rw [h1, decide_eq_true h2]; rfl
  rw [e]
  exact ⟨rfl, rfl⟩
theorem lon_n {n s : Nat} {tw kd ld : Nat → Nat} (h : aprt n tw s = false ∨ ¬ (lon n tw kd ld s).2 < ws n kd ld s) : lon n tw kd ld (s + 1) = lon n tw kd ld s := by
  show (if aprt n tw s && decide ((lon n tw kd ld s).2 < ws n kd ld s) then (s, ws n kd ld s) else lon n tw kd ld s) = _
  rcases h with h | h
  · rw [h]; rfl
  · rw [decide_eq_false h, Bool.and_false]; rfl
set_option maxHeartbeats 4000000 in
theorem xM_X0_loners {l : Launch} {g : fG} {A : Nat → Prop} {En : State → Prop} {zd : Nat} (hX : fX zd g A En) {f : fH} {o : Nat} {tr gr fa : Int32} {rn lr sh : Nat} {L : xLs} {pa kd ld tw : Nat → Nat} {lk tk : Nat → Int32} (hO : f o = some (.inr (1, xF tr gr L.a rn lr fa sh))) (hP : xP g f o L pa kd ld tw lk tk) {d : Nat → Nat → Nat} (hT : L.n ≠ 0 → 2 ≤ L.n ∧ TM L.n tw d) (what : Int32): fC l g A En yX0_loners cX0_loners 4 (some .int) (fR 6) [.ref o, .int what] f (fun v f' => f' = f ∧ v = some (.int (aLoners L.n tw kd ld what))) := by
  have hE := hX.E
  refine fC.of (by decide) hX.E [some (.ref o), some (.int what), none, none] rfl rfl (fun K G => ?_)
  have G : fGood l g A En RX0 "loners" cX0_loners 4 (some .int) (fR 6) _ K := G
  have hn8 := hP.2.1
  refine r_iload_n G dX0_loners_0 rfl ?_
  refine r_i2l G dX0_loners_1 rfl ?_
  refine r_lconst G (v := lN 0) dX0_loners_2 (by decide) ?_
  refine r_lconst G (v := lN 1) dX0_loners_3 (by decide) ?_
  refine s_callS G [.long what.toInt64, .long (lN 0), .long (lN 1)] (sX_X0_inI hE what 0 1 (by decide) (by decide)) (lw_S q182 q183 q70 q184) fy_yX0_in rfl ⟨Nat.le_of_ble_eq_true rfl, Nat.le_of_ble_eq_true rfl⟩ rfl (Nat.le_of_ble_eq_true rfl) rfl rfl ⟨Nat.zero_le _, Nat.zero_le _⟩ dX0_loners_4 ?_
  show K f 0 0 7 [some (.ref o), some (.int what), none, none] [.int (bI (wi what (nI 0) (nI 1)))]
  refine r_ifb_ne G 13  dX0_loners_7 (by decide) (fun h7 => ?_) (fun h7 => ?_)
  · obtain ⟨jw, hjw0, hjw, rfl⟩ := wi_t (by decide) (by decide) h7
    have ejw : ix (nI jw) = jw := ix_nI (by omega)
    refine r_aload_n G dX0_loners_13 rfl ?_
    refine s_callV (b := o) G [] (xM_X0_noVine hX hO hP) (lw_V q273 q275 qs3 q70 q276) fy_yX0_noVine rfl ⟨Nat.le_of_ble_eq_true rfl, Nat.le_of_ble_eq_true rfl⟩ (fs := [.int tr, .int gr, .ref L.a, .ref rn, .ref lr, .int fa, .ref sh]) hO (ci := 1) rfl rfl rfl (Nat.le_of_ble_eq_true rfl) rfl rfl ⟨Nat.zero_le _, Nat.zero_le _⟩ dX0_loners_14 ?_
    show K f 0 0 17 [some (.ref o), some (.int (nI jw)), none, none] [.int (bI (decide (L.n = 0)))]
    refine r_ifb_eq G 23  dX0_loners_17 (by decide) (fun h17 => ?_) (fun h17 => ?_)
    · have h17q : ¬ L.n = 0 := of_decide_eq_false h17
      have hpw : 2 ^ L.n ≤ 256 := pow_n8 hn8
      have hp1 : 1 ≤ 2 ^ L.n := Nat.one_le_two_pow
      have hsh : 1 <<< L.n = 2 ^ L.n := Nat.one_shiftLeft L.n
      have hld9 : ∀ p, p < L.n → ld p ≤ 9 := fun p hp => hP.ld9 hp
      refine r_iconst G (v := nI 0) dX0_loners_23 (by decide) ?_
      refine r_istore_n G (lo' := [some (.ref o), some (.int (nI jw)), some (.int (nI 0)), none]) dX0_loners_24 rfl rfl ?_
      refine r_iconst G (v := nI 1) dX0_loners_25 (by decide) ?_
      refine r_istore_n G (lo' := [some (.ref o), some (.int (nI jw)), some (.int (nI 0)), some (.int (nI 1))]) dX0_loners_26 rfl rfl ?_
      have L27 : ∀ (fu : Nat) (s b : Nat), (1 ≤ s) → (s ≤ 2 ^ L.n) → (b = (lon L.n tw kd ld s).1) → (ws L.n kd ld b = (lon L.n tw kd ld s).2) → (b < s) → 2 ^ L.n - s < fu → K f 0 0 27 [some (.ref o), some (.int (nI jw)), some (.int (nI b)), some (.int (nI s))] [] := by
        intro fu
        induction fu with
        | zero => intro s b hs1 hs hb hw hbs hm27; exact absurd hm27 (Nat.not_lt_zero _)
        | succ fu27 ih27 =>
          intro s b hs1 hs hb hw hbs hm27
          refine r_iload_n G dX0_loners_27 rfl ?_
          refine r_iconst G (v := nI 1) dX0_loners_28 (by decide) ?_
          refine r_aload_n G dX0_loners_29 rfl ?_
          refine r_getf G xCl1 (fs := [.int tr, .int gr, .ref L.a, .ref rn, .ref lr, .int fa, .ref sh]) hO 2 (by decide) q142 rfl rfl dX0_loners_30 ?_
          refine s_callF (b := L.a) G [] (xM_J2_size hX hP.1) (lw_F q173 q177 q179 q73 q181) (hX.fw 0 _ rfl) fx_0 rfl ⟨Nat.le_of_ble_eq_true rfl, Nat.le_of_ble_eq_true rfl⟩ (fs := [.int L.mc, .ref L.ea, .int (nI L.n)]) hP.1.1 (ci := 2) rfl rfl (Nat.le_of_ble_eq_true rfl) rfl rfl ⟨Nat.zero_le _, Nat.zero_le _⟩ dX0_loners_33 ?_
          show K f 0 0 38 [some (.ref o), some (.int (nI jw)), some (.int (nI b)), some (.int (nI s))] [.int (nI L.n), .int (nI 1), .int (nI s)]
          refine r_ishl G (v := (nI (1 <<< L.n))) dX0_loners_38 (n_shl (by omega)) ?_
          refine r_icmp_ge G 75 (nI_leI (by omega) (by omega)) dX0_loners_39 (by decide) (fun h39 => ?_) (fun h39 => ?_)
          · have hse : s = 2 ^ L.n := by omega
            refine r_iload_n G dX0_loners_75 rfl ?_
            refine r_if_ne G 87 (n_eq0 (by omega)) dX0_loners_76 (by decide) (fun h76 => ?_) (fun h76 => ?_)
            · refine r_iload_n G dX0_loners_87 rfl ?_
              exact r_iret G rfl ⟨Nat.zero_le _, Nat.zero_le _⟩ dX0_loners_88 ⟨rfl, rI (by obtain rfl : jw = 1 := (by omega); rw [aLoners, h7, if_pos rfl, if_neg h17q, if_neg (by decide), hb, hse])⟩
            · refine r_aload_n G dX0_loners_79 rfl ?_
              refine r_iload_n G dX0_loners_80 rfl ?_
              refine s_callV (b := o) G [.int (nI b)] (xM_X0_worthOf hX hO hP b (by omega)) (lw_V q389 q391 qs17 q70 q392) fy_yX0_worthOf rfl ⟨Nat.le_of_ble_eq_true rfl, Nat.le_of_ble_eq_true rfl⟩ (fs := [.int tr, .int gr, .ref L.a, .ref rn, .ref lr, .int fa, .ref sh]) hO (ci := 1) rfl rfl rfl (Nat.le_of_ble_eq_true rfl) rfl rfl ⟨Nat.zero_le _, Nat.zero_le _⟩ dX0_loners_81 ?_
              show K f 0 0 84 [some (.ref o), some (.int (nI jw)), some (.int (nI b)), some (.int (nI s))] [.int (nI (ws L.n kd ld b))]
              refine r_goto G 88 dX0_loners_84 (by decide) ?_
              exact r_iret G rfl ⟨Nat.zero_le _, Nat.zero_le _⟩ dX0_loners_88 ⟨rfl, rI (by subst h76; rw [aLoners, h7, if_pos rfl, if_neg h17q, if_pos rfl, hw, hse])⟩
          · refine r_aload_n G dX0_loners_42 rfl ?_
            refine r_iload_n G dX0_loners_43 rfl ?_
            refine s_callV (b := o) G [.int (nI s)] (xM_X0_areApart hX hO hP s (by omega)) (lw_V q385 q387 qs16 q70 q388) fy_yX0_areApart rfl ⟨Nat.le_of_ble_eq_true rfl, Nat.le_of_ble_eq_true rfl⟩ (fs := [.int tr, .int gr, .ref L.a, .ref rn, .ref lr, .int fa, .ref sh]) hO (ci := 1) rfl rfl rfl (Nat.le_of_ble_eq_true rfl) rfl rfl ⟨Nat.zero_le _, Nat.zero_le _⟩ dX0_loners_44 ?_
            show K f 0 0 47 [some (.ref o), some (.int (nI jw)), some (.int (nI b)), some (.int (nI s))] [.int (bI (aprt L.n tw s))]
            refine r_ifb_eq G 67  dX0_loners_47 (by decide) (fun h47 => ?_) (fun h47 => ?_)
            · refine r_iload_n G dX0_loners_67 rfl ?_
              refine r_istore_n G (lo' := [some (.ref o), some (.int (nI jw)), some (.int (nI b)), some (.int (nI s))]) dX0_loners_68 rfl rfl ?_
              refine r_iinc G (v := (nI (s + 1))) (lo' := [some (.ref o), some (.int (nI jw)), some (.int (nI b)), some (.int (nI (s + 1)))]) dX0_loners_69 rfl (nI_add s 1) rfl rfl ?_
              refine r_goto G 27 dX0_loners_72 (by decide) ?_
              exact ih27 _ _ (by omega) (by omega) (by rw [lon_n (Or.inl h47)]; exact hb) (by rw [lon_n (Or.inl h47)]; exact hw) (by omega) (by omega)
            · refine r_aload_n G dX0_loners_50 rfl ?_
              refine r_iload_n G dX0_loners_51 rfl ?_
              refine s_callV (b := o) G [.int (nI s)] (xM_X0_worthOf hX hO hP s (by omega)) (lw_V q389 q391 qs17 q70 q392) fy_yX0_worthOf rfl ⟨Nat.le_of_ble_eq_true rfl, Nat.le_of_ble_eq_true rfl⟩ (fs := [.int tr, .int gr, .ref L.a, .ref rn, .ref lr, .int fa, .ref sh]) hO (ci := 1) rfl rfl rfl (Nat.le_of_ble_eq_true rfl) rfl rfl ⟨Nat.zero_le _, Nat.zero_le _⟩ dX0_loners_52 ?_
              show K f 0 0 55 [some (.ref o), some (.int (nI jw)), some (.int (nI b)), some (.int (nI s))] [.int (nI (ws L.n kd ld s))]
              refine r_aload_n G dX0_loners_55 rfl ?_
              refine r_iload_n G dX0_loners_56 rfl ?_
              refine s_callV (b := o) G [.int (nI b)] (xM_X0_worthOf hX hO hP b (by omega)) (lw_V q389 q391 qs17 q70 q392) fy_yX0_worthOf rfl ⟨Nat.le_of_ble_eq_true rfl, Nat.le_of_ble_eq_true rfl⟩ (fs := [.int tr, .int gr, .ref L.a, .ref rn, .ref lr, .int fa, .ref sh]) hO (ci := 1) rfl rfl rfl (Nat.le_of_ble_eq_true rfl) rfl rfl ⟨Nat.zero_le _, Nat.zero_le _⟩ dX0_loners_57 ?_
              show K f 0 0 60 [some (.ref o), some (.int (nI jw)), some (.int (nI b)), some (.int (nI s))] [.int (nI (ws L.n kd ld b)), .int (nI (ws L.n kd ld s))]
              refine r_icmp_le G 67 (nI_leI (by have := ws_le (kd := kd) hld9 s; omega) (by have := ws_le (kd := kd) hld9 b; omega)) dX0_loners_60 (by decide) (fun h60 => ?_) (fun h60 => ?_)
              · refine r_iload_n G dX0_loners_67 rfl ?_
                refine r_istore_n G (lo' := [some (.ref o), some (.int (nI jw)), some (.int (nI b)), some (.int (nI s))]) dX0_loners_68 rfl rfl ?_
                refine r_iinc G (v := (nI (s + 1))) (lo' := [some (.ref o), some (.int (nI jw)), some (.int (nI b)), some (.int (nI (s + 1)))]) dX0_loners_69 rfl (nI_add s 1) rfl rfl ?_
                refine r_goto G 27 dX0_loners_72 (by decide) ?_
                exact ih27 _ _ (by omega) (by omega) (by rw [lon_n (Or.inr (by rw [← hw]; omega))]; exact hb) (by rw [lon_n (Or.inr (by rw [← hw]; omega))]; exact hw) (by omega) (by omega)
              · refine r_iload_n G dX0_loners_63 rfl ?_
                refine r_goto G 68 dX0_loners_64 (by decide) ?_
                refine r_istore_n G (lo' := [some (.ref o), some (.int (nI jw)), some (.int (nI s)), some (.int (nI s))]) dX0_loners_68 rfl rfl ?_
                refine r_iinc G (v := (nI (s + 1))) (lo' := [some (.ref o), some (.int (nI jw)), some (.int (nI s)), some (.int (nI (s + 1)))]) dX0_loners_69 rfl (nI_add s 1) rfl rfl ?_
                refine r_goto G 27 dX0_loners_72 (by decide) ?_
                exact ih27 _ _ (by omega) (by omega) (lon_y h47 (by rw [← hw]; omega)).1 (lon_y h47 (by rw [← hw]; omega)).2 (by omega) (by omega)
      exact L27 (2 ^ L.n + 1) 1 0 (Nat.le_refl _) (by omega) (by rw [lon_1]) (by rw [lon_1, ws_0]) (by decide) (by omega)
    · have h17q : L.n = 0 := of_decide_eq_true h17
      refine r_bipush G (v := -3) dX0_loners_20 (by decide) ?_
      exact r_iret G rfl ⟨Nat.zero_le _, Nat.zero_le _⟩ dX0_loners_22 ⟨rfl, rI (by rw [aLoners, h7, if_pos rfl, if_pos h17q])⟩
  · refine r_bipush G (v := -2) dX0_loners_10 (by decide) ?_
    exact r_iret G rfl ⟨Nat.zero_le _, Nat.zero_le _⟩ dX0_loners_12 ⟨rfl, rI (by simp [aLoners, h7])⟩
end XX19
