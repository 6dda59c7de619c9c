/-! the component: how far, along twigs -/
set_option maxRecDepth 100000
section XX12
def frI : Option Nat → Int32
  | none => -9
  | some p => nI p
/-- seen from at, coming from fr, to lies ahead -/
def ahead (d : Nat → Nat → Nat) (fr : Option Nat) (at_ to : Nat) : Prop := ∀ p, fr = some p → d p to = d at_ to + 1
def aheadB (d : Nat → Nat → Nat) (fr : Option Nat) (at_ to : Nat) : Bool := match fr with
  | none => true
  | some p => decide (d p to = d at_ to + 1)
theorem aheadB_t {d : Nat → Nat → Nat} {fr : Option Nat} {at_ to : Nat} : aheadB d fr at_ to = true ↔ ahead d fr at_ to := by
  cases fr with
  | none => exact ⟨fun _ p h => (by cases h), fun _ => rfl⟩
  | some p => exact ⟨fun h q hq => by cases hq; exact of_decide_eq_true h, fun h => decide_eq_true (h p rfl)⟩
def ffv (d : Nat → Nat → Nat) (fr : Option Nat) (at_ to : Nat) : Int32 := if aheadB d fr at_ to then nI (d at_ to) else -9
def cl1 (s : Nat) : Nat := s &&& (s - 1)
theorem cl1_ok : ∀ s, s < 256 → s ≠ 0 → lst s < 8 ∧ s.testBit (lst s) = true ∧ (∀ i, i < 8 → (cl1 s).testBit i = (s.testBit i && decide (i ≠ lst s))) ∧ cl1 s < s := by decide +kernel
theorem frI_ne {fr : Option Nat} {x : Nat} (hx : x < 8) (hf : ∀ p, fr = some p → p < 8) : nI x = frI fr ↔ fr = some x := by
  cases fr with
  | none => exact ⟨fun h => absurd h (n9 (by omega)), fun h => by cases h⟩
  | some p =>
    have := hf p rfl
    show nI x = nI p ↔ _
    rw [nI_eq (by omega) (by omega)]
    exact ⟨fun h => by rw [h], fun h => by cases h; rfl⟩
variable {n : Nat} {tw : Nat → Nat} {d : Nat → Nat → Nat}
theorem ff_hit (T : TM n tw d) {at_ to x : Nat} {fr : Option Nat} (ha : at_ < n) (ht : to < n) (hx : x < n) (hne : at_ ≠ to) (hax : d at_ x = 1) (hfx : fr ≠ some x) (hf : ∀ p, fr = some p → p < n ∧ d p at_ = 1) (h : ahead d (some at_) x to) : d x to + 1 = d at_ to ∧ ahead d fr at_ to := by
  obtain ⟨c, hc, c1, c2, c3⟩ := T.nx ha ht hne
  have h1 := h at_ rfl
  refine ⟨h1.symm, fun p hp => ?_⟩
  obtain ⟨hp1, hp2⟩ := hf p hp
  have hxc : x = c := by
    rcases Classical.em (x = c) with q | q
    · exact q
    · have := c3 x hx hax q; omega
  exact c3 p hp1 (by rw [T.s ha hp1]; exact hp2) (fun q => hfx (by rw [hp, q, hxc]))
theorem ff_end (T : TM n tw d) {at_ to : Nat} {fr : Option Nat} (ha : at_ < n) (ht : to < n) (hne : at_ ≠ to) (h : ∀ x, x < n → d at_ x = 1 → fr = some x ∨ ¬ ahead d (some at_) x to) : ¬ ahead d fr at_ to := by
  obtain ⟨c, hc, c1, c2, c3⟩ := T.nx ha ht hne
  intro hah
  rcases h c hc c1 with q | q
  · have := hah c q; omega
  · exact q (fun p hp => by cases hp; exact c2.symm)
theorem ff_up (T : TM n tw d) {at_ x y : Nat} {fr : Option Nat} (ha : at_ < n) (hx : x < n) (hy : y < n) (hax : d at_ x = 1) (hfx : fr ≠ some x) (hf : ∀ p, fr = some p → p < n ∧ d p at_ = 1) (h : ahead d (some at_) x y) : ahead d fr at_ y ∧ d at_ y = d x y + 1 := by
  have h1 := h at_ rfl
  refine ⟨fun p hp => ?_, h1⟩
  obtain ⟨hp1, hp2⟩ := hf p hp
  have hne : at_ ≠ y := fun e => by rw [e, T.d0 hy] at h1; omega
  obtain ⟨c, hc, c1, c2, c3⟩ := T.nx ha hy hne
  have hxc : x = c := by
    rcases Classical.em (x = c) with q | q
    · exact q
    · have := c3 x hx hax q; omega
  exact c3 p hp1 (by rw [T.s ha hp1]; exact hp2) (fun q => hfx (by rw [hp, q, hxc]))
theorem ffv_neg {d : Nat → Nat → Nat} {fr : Option Nat} {a t : Nat} (h : d a t < 2 ^ 31) : ffv d fr a t < 0 ↔ ¬ ahead d fr a t := by
  unfold ffv
  by_cases q : aheadB d fr a t = true
  · rw [if_pos q]
    exact ⟨fun z => absurd z (nI_pos h), fun z => absurd (aheadB_t.mp q) z⟩
  · rw [if_neg q]
    exact ⟨fun _ z => q (aheadB_t.mpr z), fun _ => by decide⟩
theorem ffv_t {d : Nat → Nat → Nat} {fr : Option Nat} {a t : Nat} (h : ahead d fr a t) : ffv d fr a t = nI (d a t) := if_pos (aheadB_t.mpr h)
theorem ffv_f {d : Nat → Nat → Nat} {fr : Option Nat} {a t : Nat} (h : ¬ ahead d fr a t) : ffv d fr a t = -9 := if_neg (fun z => h (aheadB_t.mp z))
theorem ff_ret {n : Nat} {tw : Nat → Nat} {d : Nat → Nat → Nat} (T : TM n tw d) {at_ to x : Nat} {fr : Option Nat} (ha : at_ < n) (ht : to < n) (hx : x < n) (hne : ¬ at_ = to) (hax : d at_ x = 1) (hfx : ¬ fr = some x) (hf : ∀ p, fr = some p → p < n ∧ d p at_ = 1) (h : ahead d (some at_) x to) : ffv d (some at_) x to + nI 1 = ffv d fr at_ to := by
  obtain ⟨q1, q2⟩ := ff_hit T ha ht hx hne hax hfx hf h
  rw [ffv_t h, ffv_t q2, ← q1]
  exact nI_add _ _
theorem cl_sub {s i : Nat} (hs : s < 256) (h0 : ¬ s = 0) (h : (cl1 s).testBit i = true) : s.testBit i = true := by
  unfold cl1 at h
  rw [Nat.testBit_and, Bool.and_eq_true] at h
  exact h.1
theorem cl_done {n s at_ to : Nat} {d : Nat → Nat → Nat} {fr : Option Nat} (hs : s < 256) (h0 : ¬ s = 0) (h : ∀ x, x < n → d at_ x = 1 → s.testBit x = false → fr = some x ∨ ¬ ahead d (some at_) x to) (hn8 : n ≤ 8) (hr : fr = some (lst s) ∨ ¬ ahead d (some at_) (lst s) to) : ∀ x, x < n → d at_ x = 1 → (cl1 s).testBit x = false → fr = some x ∨ ¬ ahead d (some at_) x to := by
  intro x hx h1 h2
  obtain ⟨-, -, q, -⟩ := cl1_ok s hs h0
  rw [q x (by omega), Bool.and_eq_false_iff] at h2
  rcases h2 with h2 | h2
  · exact h x hx h1 h2
  · have : x = lst s := by
      have := of_decide_eq_false h2
      exact Classical.not_not.mp this
    rw [this]; exact hr
set_option maxHeartbeats 4000000 in
theorem xM_X0_farFrom {l : Launch} {g : fG} {A : Nat → Prop} {En : State → Prop} {zd : Nat} (hX : fX zd g A En) {f : fH} {o : Nat} {tr gr fa : Int32} {rn lr sh : Nat} {L : xLs} {pa kd ld tw : Nat → Nat} {lk tk : Nat → Int32} (hO : f o = some (.inr (1, xF tr gr L.a rn lr fa sh))) (hP : xP g f o L pa kd ld tw lk tk) {d : Nat → Nat → Nat} (T : TM L.n tw d) {to : Nat} (hto : to < L.n) : ∀ (e at_ : Nat) (fr : Option Nat), at_ < L.n → (∀ p, fr = some p → p < L.n ∧ d p at_ = 1) → (∀ y, y < L.n → ahead d fr at_ y → d at_ y < e) → fC l g A En yX0_farFrom cX0_farFrom 7 (some .int) (fR (e + 3)) [.ref o, .int (nI at_), .int (frI fr), .int (nI to)] f (fun v f' => f' = f ∧ v = some (.int (ffv d fr at_ to))) := by
  have hE := hX.E
  have hn8 := hP.2.1
  intro e
  induction e with
  | zero => intro at_ fr ha hf hd; exact absurd (hd at_ ha (fun p hp => by rw [T.d0 ha]; exact (hf p hp).2)) (Nat.not_lt_zero _)
  | succ e ih =>
    intro at_ fr ha hf hd
    refine fC.of (by decide) hX.E [some (.ref o), some (.int (nI at_)), some (.int (frI fr)), some (.int (nI to)), none, none, none] rfl rfl (fun K G => ?_)
    have G : fGood l g A En RX0 "farFrom" cX0_farFrom 7 (some .int) (fR (e + 1 + 3)) _ K := G
    have htw := hP.t8 at_ ha
    refine r_iload_n G dX0_farFrom_0 rfl ?_
    refine r_iload_n G dX0_farFrom_1 rfl ?_
    refine r_icmp_ne G 7 (nI_eq (by omega) (by omega)) dX0_farFrom_2 (by decide) (fun h2 => ?_) (fun h2 => ?_)
    · refine r_aload_n G dX0_farFrom_7 rfl ?_
      refine r_getf G xCl1 (fs := [.int tr, .int gr, .ref L.a, .ref rn, .ref lr, .int fa, .ref sh]) hO 2 (by decide) q142 rfl rfl dX0_farFrom_8 ?_
      refine r_iload_n G dX0_farFrom_11 rfl ?_
      refine s_callF (b := L.a) G [.int (nI at_)] (xM_J2_get hX hP.1 at_ ha) (lw_F q186 q189 q191 q73 q193) (hX.fw 1 _ rfl) fx_1 rfl ⟨by simp only [fR]; omega, by simp only [fR]; omega⟩ (fs := [.int L.mc, .ref L.ea, .int (nI L.n)]) hP.1.1 (ci := 2) rfl rfl (Nat.le_of_ble_eq_true rfl) rfl rfl ⟨Nat.zero_le _, Nat.zero_le _⟩ dX0_farFrom_12 ?_
      show K f 0 0 17 [some (.ref o), some (.int (nI at_)), some (.int (frI fr)), some (.int (nI to)), none, none, none] [va_rf ((L.el at_))]
      rw [show va_rf (L.el at_) = .ref (pa at_) from by rw [(hP.2.2.2 at_ ha).1]; rfl]
      refine r_castP hX G (hP.2.2.2 at_ ha).2.2.1 (hP.2.2.2 at_ ha).2.1 q204 dX0_farFrom_17 ?_
      refine r_pget G (hP.2.2.2 at_ ha).2.2.1 (he := (hP.2.2.2 at_ ha).2.1) 1 (by decide) q538 pO_g1 dX0_farFrom_20 ?_
      refine r_istore G (lo' := [some (.ref o), some (.int (nI at_)), some (.int (frI fr)), some (.int (nI to)), some (.int (nI (tw at_))), none, none]) dX0_farFrom_23 rfl rfl ?_
      have L25 : ∀ (fu : Nat) (left : Nat), (left < 256) → (∀ i, left.testBit i = true → (tw at_).testBit i = true) → (∀ x, x < L.n → d at_ x = 1 → left.testBit x = false → fr = some x ∨ ¬ ahead d (some at_) x to) → left < fu → K f 0 0 25 [some (.ref o), some (.int (nI at_)), some (.int (frI fr)), some (.int (nI to)), some (.int (nI left)), none, none] [] := by
        intro fu
        induction fu with
        | zero => intro left hl hsub hdone hm25; exact absurd hm25 (Nat.not_lt_zero _)
        | succ fu25 ih25 =>
          intro left hl hsub hdone hm25
          refine r_iload G dX0_farFrom_25 rfl ?_
          refine r_if_eq G 80 (n_eq0 (by omega)) dX0_farFrom_27 (by decide) (fun h27 => ?_) (fun h27 => ?_)
          · refine r_bipush G (v := -9) dX0_farFrom_80 (by decide) ?_
            exact r_iret G rfl ⟨Nat.zero_le _, Nat.zero_le _⟩ dX0_farFrom_82 ⟨rfl, by rw [ffv_f (ff_end T ha hto h2 (fun x hx h1 => hdone x hx h1 (by rw [h27, Nat.zero_testBit])))]⟩
          · obtain ⟨hx8, hxb, hcl, hclt⟩ := cl1_ok left hl h27
            have hxt := hsub _ hxb
            have hxn := T.bl ha hxt
            have hx1 := (T.adj ha hxn).mp hxt
            refine r_iload G dX0_farFrom_30 rfl ?_
            refine s_callS G [.int (nI left)] (sX_X0_least hE left (by omega) h27) (lw_S q253 q254 q70 q255) fy_yX0_least rfl ⟨by simp only [fR]; omega, by simp only [fR]; omega⟩ rfl (Nat.le_of_ble_eq_true rfl) rfl rfl ⟨Nat.zero_le _, Nat.zero_le _⟩ dX0_farFrom_32 ?_
            show K f 0 0 35 [some (.ref o), some (.int (nI at_)), some (.int (frI fr)), some (.int (nI to)), some (.int (nI left)), none, none] [.int (nI (lst left))]
            refine r_istore G (lo' := [some (.ref o), some (.int (nI at_)), some (.int (frI fr)), some (.int (nI to)), some (.int (nI left)), some (.int (nI (lst left))), none]) dX0_farFrom_35 rfl rfl ?_
            refine r_iload G dX0_farFrom_37 rfl ?_
            refine r_iload_n G dX0_farFrom_39 rfl ?_
            refine r_icmp_ne G 48 (frI_ne (by omega) (fun p hp => by have := (hf p hp).1; omega)) dX0_farFrom_40 (by decide) (fun h40 => ?_) (fun h40 => ?_)
            · refine r_aload_n G dX0_farFrom_48 rfl ?_
              refine r_iload G dX0_farFrom_49 rfl ?_
              refine r_iload_n G dX0_farFrom_51 rfl ?_
              refine r_iload_n G dX0_farFrom_52 rfl ?_
              refine s_callV (b := o) G [.int (nI (lst left)), .int (nI at_), .int (nI to)] (ih (lst left) (some at_) hxn (fun p hp => by cases hp; exact ⟨ha, hx1⟩) (fun y hy h => by obtain ⟨q1, q2⟩ := ff_up T ha hxn hy hx1 h40 hf h; have := hd y hy q1; omega)) (lw_V q249 q251 qs2 q70 q252) fy_yX0_farFrom rfl ⟨by simp only [fR]; omega, by simp only [fR]; omega⟩ (fs := [.int tr, .int gr, .ref L.a, .ref rn, .ref lr, .int fa, .ref sh]) hO (ci := 1) rfl rfl rfl (Nat.le_of_ble_eq_true rfl) rfl rfl ⟨Nat.zero_le _, Nat.zero_le _⟩ dX0_farFrom_53 ?_
              show K f 0 0 56 [some (.ref o), some (.int (nI at_)), some (.int (frI fr)), some (.int (nI to)), some (.int (nI left)), some (.int (nI (lst left))), none] [.int (ffv d (some at_) (lst left) to)]
              refine r_istore G (lo' := [some (.ref o), some (.int (nI at_)), some (.int (frI fr)), some (.int (nI to)), some (.int (nI left)), some (.int (nI (lst left))), some (.int (ffv d (some at_) (lst left) to))]) dX0_farFrom_56 rfl rfl ?_
              refine r_iload G dX0_farFrom_58 rfl ?_
              refine r_if_lt G 68 (ffv_neg (by have := T.dl hxn hto; omega)) dX0_farFrom_60 (by decide) (fun h60 => ?_) (fun h60 => ?_)
              · have hres : fr = some (lst left) ∨ ¬ ahead d (some at_) (lst left) to := Or.inr h60
                refine r_iload G dX0_farFrom_68 rfl ?_
                refine r_iload G dX0_farFrom_70 rfl ?_
                refine r_iconst G (v := nI 1) dX0_farFrom_72 (by decide) ?_
                refine r_isub G (v := (nI (left - 1))) dX0_farFrom_73 (pk_sub (by omega)) ?_
                refine r_iand G (v := (nI (left &&& (left - 1)))) dX0_farFrom_74 (n_and left (left - 1)) ?_
                refine r_istore G (lo' := [some (.ref o), some (.int (nI at_)), some (.int (frI fr)), some (.int (nI to)), some (.int (nI (left &&& (left - 1)))), some (.int (nI (lst left))), some (.int (ffv d (some at_) (lst left) to))]) dX0_farFrom_75 rfl rfl ?_
                refine r_goto G 25 dX0_farFrom_77 (by decide) ?_
                refine r_drop G 5 (lo' := [some (.ref o), some (.int (nI at_)), some (.int (frI fr)), some (.int (nI to)), some (.int (nI (left &&& (left - 1)))), none, some (.int (ffv d (some at_) (lst left) to))]) rfl ?_
                refine r_drop G 6 (lo' := [some (.ref o), some (.int (nI at_)), some (.int (frI fr)), some (.int (nI to)), some (.int (nI (left &&& (left - 1)))), none, none]) rfl ?_
                exact ih25 _ (by show cl1 left < 256; omega) (fun i h => hsub i (cl_sub hl h27 h)) (cl_done hl h27 hdone hn8 hres) (by show cl1 left < _; omega)
              · refine r_iload G dX0_farFrom_63 rfl ?_
                refine r_iconst G (v := nI 1) dX0_farFrom_65 (by decide) ?_
                refine r_iadd G (v := (ffv d fr at_ to)) dX0_farFrom_66 (ff_ret T ha hto hxn h2 hx1 h40 hf (Classical.not_not.mp h60)) ?_
                exact r_iret G rfl ⟨Nat.zero_le _, Nat.zero_le _⟩ dX0_farFrom_67 ⟨rfl, rfl⟩
            · refine r_bipush G (v := -9) dX0_farFrom_43 (by decide) ?_
              refine r_goto G 56 dX0_farFrom_45 (by decide) ?_
              refine r_istore G (lo' := [some (.ref o), some (.int (nI at_)), some (.int (frI fr)), some (.int (nI to)), some (.int (nI left)), some (.int (nI (lst left))), some (.int (-9))]) dX0_farFrom_56 rfl rfl ?_
              refine r_iload G dX0_farFrom_58 rfl ?_
              refine r_if_lt G 68 Iff.rfl dX0_farFrom_60 (by decide) (fun h60 => ?_) (fun h60 => False.elim (h60 (by decide)))
              have hres : fr = some (lst left) ∨ ¬ ahead d (some at_) (lst left) to := Or.inl h40
              refine r_iload G dX0_farFrom_68 rfl ?_
              refine r_iload G dX0_farFrom_70 rfl ?_
              refine r_iconst G (v := nI 1) dX0_farFrom_72 (by decide) ?_
              refine r_isub G (v := (nI (left - 1))) dX0_farFrom_73 (pk_sub (by omega)) ?_
              refine r_iand G (v := (nI (left &&& (left - 1)))) dX0_farFrom_74 (n_and left (left - 1)) ?_
              refine r_istore G (lo' := [some (.ref o), some (.int (nI at_)), some (.int (frI fr)), some (.int (nI to)), some (.int (nI (left &&& (left - 1)))), some (.int (nI (lst left))), some (.int (-9))]) dX0_farFrom_75 rfl rfl ?_
              refine r_goto G 25 dX0_farFrom_77 (by decide) ?_
              refine r_drop G 5 (lo' := [some (.ref o), some (.int (nI at_)), some (.int (frI fr)), some (.int (nI to)), some (.int (nI (left &&& (left - 1)))), none, some (.int (-9))]) rfl ?_
              refine r_drop G 6 (lo' := [some (.ref o), some (.int (nI at_)), some (.int (frI fr)), some (.int (nI to)), some (.int (nI (left &&& (left - 1)))), none, none]) rfl ?_
              exact ih25 _ (by show cl1 left < 256; omega) (fun i h => hsub i (cl_sub hl h27 h)) (cl_done hl h27 hdone hn8 hres) (by show cl1 left < _; omega)
      exact L25 (tw at_ + 1) (tw at_) htw (fun i h => h) (fun x hx h1 h2 => by rw [(T.adj ha hx).mpr h1] at h2; cases h2) (by omega)
    · refine r_iconst G (v := nI 0) dX0_farFrom_5 (by decide) ?_
      exact r_iret G rfl ⟨Nat.zero_le _, Nat.zero_le _⟩ dX0_farFrom_6 ⟨rfl, by subst h2; rw [ffv_t (fun p hp => by rw [T.d0 ha]; exact (hf p hp).2), T.d0 ha]⟩
end XX12
