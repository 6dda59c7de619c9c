/-! the reference: made -/
set_option maxRecDepth 100000
section MM16
def iW (g : fG) (f : fH) (o : Nat) (fs : List Value) (L : List (Nat × Nat × (Nat → Int32))) : fH := fun q => if q = o then some (.inr (0, fs)) else match L.find? (fun p => p.1 == q) with
  | some p => some (.inl (g.2 0, p.2.1, .inl p.2.2))
  | none => f q
/-- made so far: the places are all different -/
def iK (o : Nat) (A : Nat → Prop) (f : fH) (L : List (Nat × Nat × (Nat → Int32))) : Prop := A o ∧ (∀ p ∈ L, A p.1 ∧ p.1 ≠ o ∧ f p.1 = none) ∧ L.Pairwise fun p q => p.1 ≠ q.1
theorem iW_o (g : fG) (f : fH) (o : Nat) (fs : List Value) (L : List (Nat × Nat × (Nat → Int32))) : iW g f o fs L o = some (.inr (0, fs)) := if_pos rfl
theorem iW_none {g : fG} {f : fH} {o : Nat} {fs : List Value} {L : List (Nat × Nat × (Nat → Int32))} {q : Nat} (h : iW g f o fs L q = none) : q ≠ o ∧ (∀ p ∈ L, p.1 ≠ q) ∧ f q = none := by
  unfold iW at h
  have h1 : q ≠ o := fun e => by rw [if_pos e] at h; cases h
  rw [if_neg h1] at h
  cases hf : L.find? (fun p => p.1 == q) with
  | some p => rw [hf] at h; cases h
  | none =>
    rw [hf] at h
    exact ⟨h1, fun p hp e => by have := List.find?_eq_none.mp hf p hp; simp [e] at this, h⟩
theorem iW_old {g : fG} {f : fH} {o : Nat} {fs : List Value} {A : Nat → Prop} {L : List (Nat × Nat × (Nat → Int32))} (hL : iK o A f L) {q : Nat} (h : q ≠ o) (hq : f q ≠ none) : iW g f o fs L q = f q := by
  unfold iW
  rw [if_neg h]
  cases hf : L.find? (fun p => p.1 == q) with
  | none => rfl
  | some p =>
    have h1 := List.mem_of_find?_eq_some hf
    have h2 : p.1 = q := by have := List.find?_some hf; simpa using this
    exact absurd (h2 ▸ (hL.2.1 p h1).2.2) hq
theorem iW_at {g : fG} {f : fH} {o : Nat} {fs : List Value} {A : Nat → Prop} {L : List (Nat × Nat × (Nat → Int32))} (hL : iK o A f L) {p : Nat × Nat × (Nat → Int32)} (hp : p ∈ L) : iW g f o fs L p.1 = some (.inl (g.2 0, p.2.1, .inl p.2.2)) := by
  have : L.find? (fun r => r.1 == p.1) = some p := by
    obtain ⟨-, -, h⟩ := hL
    induction L with
    | nil => cases hp
    | cons x L ih =>
      rw [List.pairwise_cons] at h
      rw [List.find?_cons]
      rcases List.mem_cons.mp hp with rfl | hp'
      · simp
      · have : (x.1 == p.1) = false := by
          have := h.1 p hp'
          simp [this]
        rw [this]
        exact ih hp' h.2
  unfold iW
  rw [if_neg (hL.2.1 p hp).2.1, this]
theorem iK_new {g : fG} {f : fH} {o : Nat} {fs : List Value} {A : Nat → Prop} {L : List (Nat × Nat × (Nat → Int32))} (hL : iK o A f L) {q N : Nat} {fn : Nat → Int32} (h : iW g f o fs L q = none) (hA : A q) : iK o A f ((q, N, fn) :: L) := by
  obtain ⟨h1, h2, h3⟩ := iW_none h
  refine ⟨hL.1, fun p hp => ?_, List.pairwise_cons.mpr ⟨fun p hp => Ne.symm (h2 p hp), hL.2.2⟩⟩
  rcases List.mem_cons.mp hp with rfl | hp
  · exact ⟨hA, h1, h3⟩
  · exact hL.2.1 p hp
theorem iW_new {g : fG} {f : fH} {o : Nat} {fs : List Value} {L : List (Nat × Nat × (Nat → Int32))} {q N : Nat} {fn : Nat → Int32} (h : q ≠ o) : fU (iW g f o fs L) q (.inl (g.2 0, N, .inl fn)) = iW g f o fs ((q, N, fn) :: L) := by
  funext x
  by_cases e : x = q
  · subst e
    rw [fU_s]
    unfold iW
    rw [if_neg h, List.find?_cons_of_pos (by simp)]
  · rw [fU_n _ _ e]
    unfold iW
    rw [List.find?_cons_of_neg (by simpa using Ne.symm e)]
theorem iW_ast {g : fG} {f : fH} {o : Nat} {fs : List Value} {L : List (Nat × Nat × (Nat → Int32))} {q N : Nat} {fn fn' : Nat → Int32} (h : q ≠ o) : fU (iW g f o fs ((q, N, fn) :: L)) q (.inl (g.2 0, N, .inl fn')) = iW g f o fs ((q, N, fn') :: L) := by
  funext x
  by_cases e : x = q
  · subst e
    rw [fU_s]
    unfold iW
    rw [if_neg h, List.find?_cons_of_pos (by simp)]
  · rw [fU_n _ _ e]
    unfold iW
    rw [List.find?_cons_of_neg (by simpa using Ne.symm e), List.find?_cons_of_neg (by simpa using Ne.symm e)]
theorem iW_put {g : fG} {f : fH} {o : Nat} {fs fs' : List Value} {L : List (Nat × Nat × (Nat → Int32))} : fU (iW g f o fs L) o (.inr (0, fs')) = iW g f o fs' L := by
  funext x
  by_cases e : x = o
  · subst e; rw [fU_s, iW_o]
  · rw [fU_n _ _ e]
    unfold iW
    rw [if_neg e, if_neg e]
section
variable {l : Launch} {g : fG} {A : Nat → Prop} {En : State → Prop} {nm : String} {cc : ByteArray} {nL : Nat} {ret : Option FieldType} {rm : Room} {Post : Option Value → fH → Prop} {K : fKt} {f : fH} {o : Nat} {fs : List Value} {L : List (Nat × Nat × (Nat → Int32))} {cs ss pc : Nat} {lo : fL} {st : List Value}
theorem i_new (G : fGood l g A En RX1 nm cc nL ret rm Post K) (hq : Cond.arrayClass .int ∈ lw_all) (hAn : ∀ U, En U → ∀ q, U.heap.size ≤ q → A q) (hL : iK o A f L) (n N : Nat) (hn : n = N) (hby : N ≤ 65536) {cs' ss' : Nat} (hcs : cs + 1 = cs') (hss : ss + N = ss') (hc : cs' ≤ rm.cells ∧ ss' ≤ rm.slots) (d : decode cc pc = .ok (.newarray .int, 2)) (kk : ∀ q : Nat, iK o A f ((q, N, fun _ => 0) :: L) → K (iW g f o fs ((q, N, fun _ => 0) :: L)) cs' ss' (pc + 2) lo (.ref q :: st)) : K (iW g f o fs L) cs ss pc lo (.int (nI n) :: st) := by
  subst hn
  refine r_newa_i G hq hAn n (by rw [Int32.lt_iff_toInt_lt, nI_toInt (by omega), Int32.toInt_zero]; omega) (nI_clamp (by omega)) hby hcs hss hc d (fun q h hA => ?_)
  rw [iW_new (iW_none h).1]
  exact kk q (iK_new hL h hA)
theorem i_ast (G : fGood l g A En RX1 nm cc nL ret rm Post K) {q N : Nat} {fn : Nat → Int32} (hL : iK o A f ((q, N, fn) :: L)) {i : Nat} (hi : i < N) (hN : N ≤ 1000) {x : Int32} (d : decode cc pc = .ok (.iastore, 1)) (kk : iK o A f ((q, N, upd fn i x) :: L) → K (iW g f o fs ((q, N, upd fn i x) :: L)) cs ss (pc + 1) lo st) : K (iW g f o fs ((q, N, fn) :: L)) cs ss pc lo (.int x :: .int (nI i) :: .ref q :: st) := by
  have h0 := hL.2.1 (q, N, fn) (List.mem_cons_self ..)
  have h1 : iW g f o fs ((q, N, fn) :: L) q = some (.inl (g.2 0, N, .inl fn)) := iW_at hL (p := (q, N, fn)) (List.mem_cons_self ..)
  refine r_iast G h1 h0.1 (vp_in_nI hi (by omega)) ?_ d (kk ⟨hL.1, fun p hp => ?_, ?_⟩)
  · rw [nI_clamp (by omega)]
    exact iW_ast h0.2.1
  · rcases List.mem_cons.mp hp with rfl | hp
    · exact h0
    · exact hL.2.1 p (List.mem_cons_of_mem _ hp)
  · have := List.pairwise_cons.mp hL.2.2
    exact List.pairwise_cons.mpr ⟨this.1, this.2⟩
theorem i_put (G : fGood l g A En RX1 nm cc nL ret rm Post K) (hL : iK o A f L) (k : Nat) (hk : k ∈ mAr) (hk2 : k < 27) {index : Nat} {ref : String} (hq : Cond.fieldLink RX1 index ref (TX1 k).2.1 (TX1 k).2.2.1 ∈ lw_all) (href : ref = (TX1 k).1) (hfin : (TX1 k).2.2.2 = true) (hinit : nm = "<init>") (hdecl : (TX1 k).1 = RX1) (hty : tyX1 k = .array .int) {q : Nat} {fs' : List Value} (hfs : fs.set k (.ref q) = fs') (hlen : k < fs.length) (d : decode cc pc = .ok (.putfield index, 3)) (kk : K (iW g f o fs' L) cs ss (pc + 3) lo st) : K (iW g f o fs L) cs ss pc lo (.ref q :: .ref o :: st) := by
  subst hfs
  exact r_putfF G mCls (iW_o g f o fs L) hL.1 k hk2 hq href hfin hinit hdecl (by rw [hty]; rfl) (by rw [hty]; rfl) hlen iW_put d kk
end
/-- the reference as it is made -/
def mS0 : mS := (fun _ => 0, fun k => if k = 2 then fun i => if i < 4 then -9 else 0 else fun _ => 0)
def mF0 : List Value := [.int 0, .int 0, .null, .null, .null, .int 0, .int 0, .null, .null, .null, .int 0, .int 0, .null, .null, .null, .null, .null, .null, .null, .null, .null, .null, .null, .int 0, .null, .null, .null]
def iAd (L : List Nat) : Nat → Nat := fun k => match mAr.findIdx? (fun j => j == k) with
  | some i => L.getD i 0
  | none => 0
theorem s0_u : upd (upd (upd (upd (fun _ => 0) 0 (-9)) 1 (-9)) 2 (-9)) 3 (-9) = fun i => if i < 4 then (-9 : Int32) else 0 := by
  funext i
  unfold upd
  by_cases h3 : i = 3
  · rw [if_pos h3, if_pos (by omega)]
  · rw [if_neg h3]
    by_cases h2 : i = 2
    · rw [if_pos h2, if_pos (by omega)]
    · rw [if_neg h2]
      by_cases h1 : i = 1
      · rw [if_pos h1, if_pos (by omega)]
      · rw [if_neg h1]
        by_cases h0 : i = 0
        · rw [if_pos h0, if_pos (by omega)]
        · rw [if_neg h0, if_neg (by omega)]
/-- the made cells, in the fields' order -/
def iLs (qs : List Nat) : List (Nat × Nat × (Nat → Int32)) := (mAr.zip qs).map fun p => (p.2, mN p.1, mS0.2 p.1)
theorem i_mem {o : Nat} {A : Nat → Prop} {f : fH} {L : List (Nat × Nat × (Nat → Int32))} {k : Nat} (hk : k ∈ mAr) {qs : List Nat} (_ : iK o A f L) (hL : L = (iLs qs).reverse) (hq : qs.length = 20) : (iAd qs k, mN k, mS0.2 k) ∈ L := by
  subst hL
  rw [List.mem_reverse]
  unfold iLs
  rw [List.mem_map]
  match qs, hq with
  | [a0, a1, a2, a3, a4, a5, a6, a7, a8, a9, a10, a11, a12, a13, a14, a15, a16, a17, a18, a19], _ =>
    simp only [mAr, List.mem_cons, List.not_mem_nil, or_false] at hk
    refine ⟨(k, iAd _ k), ?_, rfl⟩
    rcases hk with rfl | rfl | rfl | rfl | rfl | rfl | rfl | rfl | rfl | rfl | rfl | rfl | rfl | rfl | rfl | rfl | rfl | rfl | rfl | rfl <;> simp [mAr, iAd, List.findIdx?_cons]
theorem i_pw {L : List (Nat × Nat × (Nat → Int32))} (h : L.Pairwise fun p q => p.1 ≠ q.1) {p q : Nat × Nat × (Nat → Int32)} (hp : p ∈ L) (hq : q ∈ L) (e : p.1 = q.1) : p = q := by
  induction L with
  | nil => cases hp
  | cons x L ih =>
    rw [List.pairwise_cons] at h
    rcases List.mem_cons.mp hp with rfl | hp' <;> rcases List.mem_cons.mp hq with rfl | hq'
    · rfl
    · exact absurd e (h.1 q hq')
    · exact absurd e.symm (h.1 p hp')
    · exact ih h.2 hp' hq'
theorem i_idx {k : Nat} (hk : k ∈ mAr) : ∃ i, mAr.findIdx? (fun j => j == k) = some i ∧ i < 20 ∧ mAr.getD i 0 = k := by
  simp only [mAr, List.mem_cons, List.not_mem_nil, or_false] at hk
  rcases hk with rfl | rfl | rfl | rfl | rfl | rfl | rfl | rfl | rfl | rfl | rfl | rfl | rfl | rfl | rfl | rfl | rfl | rfl | rfl | rfl <;> exact ⟨_, rfl, by decide, rfl⟩
theorem iLs_len {qs : List Nat} (hq : qs.length = 20) : (iLs qs).length = 20 := by
  unfold iLs
  rw [List.length_map, List.length_zip, hq]
  rfl
theorem iLs_get {qs : List Nat} (hq : qs.length = 20) {i : Nat} (hi : i < 20) : ((iLs qs).getD i (0, 0, fun _ => 0)).1 = qs.getD i 0 := by
  have h1 : i < (iLs qs).length := by rw [iLs_len hq]; exact hi
  rw [List.getD_eq_getElem?_getD, List.getElem?_eq_getElem h1, List.getD_eq_getElem?_getD, List.getElem?_eq_getElem (by omega)]
  have h2 : ∀ (h : i < (iLs qs).length), ((iLs qs)[i]'h).1 = qs[i]'(by omega) := by
    unfold iLs
    intro h
    rw [List.getElem_map, List.getElem_zip]
  exact h2 h1
theorem i_inj {o : Nat} {A : Nat → Prop} {f : fH} {L : List (Nat × Nat × (Nat → Int32))} (hK : iK o A f L) {qs : List Nat} (hL : L = (iLs qs).reverse) (hq : qs.length = 20) {j k : Nat} (hj : j ∈ mAr) (hk : k ∈ mAr) (e : iAd qs j = iAd qs k) : j = k := by
  obtain ⟨a, ha, ha2, ha3⟩ := i_idx hj
  obtain ⟨b, hb, hb2, hb3⟩ := i_idx hk
  have e1 : iAd qs j = qs.getD a 0 := by unfold iAd; rw [ha]
  have e2 : iAd qs k = qs.getD b 0 := by unfold iAd; rw [hb]
  have hP : (iLs qs).Pairwise fun p q => p.1 ≠ q.1 := by
    have := hK.2.2
    rw [hL, List.pairwise_reverse] at this
    exact this.imp fun h => Ne.symm h
  have : a = b := by
    rcases Nat.lt_trichotomy a b with h | h | h
    · exfalso
      have := List.pairwise_iff_getElem.mp hP a b (by rw [iLs_len hq]; exact ha2) (by rw [iLs_len hq]; exact hb2) h
      apply this
      have p1 := iLs_get hq ha2
      have p2 := iLs_get hq hb2
      rw [List.getD_eq_getElem?_getD, List.getElem?_eq_getElem (by rw [iLs_len hq]; exact ha2)] at p1
      rw [List.getD_eq_getElem?_getD, List.getElem?_eq_getElem (by rw [iLs_len hq]; exact hb2)] at p2
      exact p1.trans ((e1.symm.trans (e.trans e2)).trans p2.symm)
    · exact h
    · exfalso
      have := List.pairwise_iff_getElem.mp hP b a (by rw [iLs_len hq]; exact hb2) (by rw [iLs_len hq]; exact ha2) h
      apply this
      have p1 := iLs_get hq ha2
      have p2 := iLs_get hq hb2
      rw [List.getD_eq_getElem?_getD, List.getElem?_eq_getElem (by rw [iLs_len hq]; exact ha2)] at p1
      rw [List.getD_eq_getElem?_getD, List.getElem?_eq_getElem (by rw [iLs_len hq]; exact hb2)] at p2
      exact p2.trans ((e1.symm.trans (e.trans e2)).symm.trans p1.symm)
  rw [← ha3, ← hb3, this]
theorem i_mH {g : fG} {o : Nat} {A : Nat → Prop} {f : fH} {L : List (Nat × Nat × (Nat → Int32))} (hK : iK o A f L) {qs : List Nat} (hL : L = (iLs qs).reverse) (hq : qs.length = 20) {q : Nat} {e : va_E} (h : mH g o (iAd qs) mS0 q = some e) : iW g f o (mF (iAd qs) mS0) L q = some e := by
  unfold mH at h
  by_cases ho : q = o
  · rw [if_pos ho] at h
    rw [ho, iW_o]; exact h
  · rw [if_neg ho] at h
    cases hf : mAr.find? (fun k => iAd qs k == q) with
    | none => rw [hf] at h; cases h
    | some k =>
      rw [hf] at h
      have hk := List.mem_of_find?_eq_some hf
      have h2 : iAd qs k = q := by have := List.find?_some hf; simpa using this
      have := iW_at (g := g) (fs := mF (iAd qs) mS0) hK (i_mem hk hK hL hq)
      rw [← h2]
      exact this.trans h
set_option maxHeartbeats 4000000 in
theorem mM_init {l : Launch} {g : fG} {A : Nat → Prop} {En : State → Prop} (hE : fEnv g A En) (hAn : ∀ U, En U → ∀ q, U.heap.size ≤ q → A q) {o : Nat} (hA : A o) (f : fH) (hf : f o = some (.inr (0, mF0))) : fC l g A En yX1_init cX1_init 1 none { frames := 1, cells := 20, slots := 434, locals := 64 } [.ref o] f (fun v f' => v = none ∧ ∃ ad : Nat → Nat, mD A o ad ∧ (∀ q e, mH g o ad mS0 q = some e → f' q = some e) ∧ (∀ k ∈ mAr, f (ad k) = none) ∧ ∀ q, q ≠ o → f q ≠ none → f' q = f q) := by
  have hE' := hE
  refine fC.of (by decide) hE [some (.ref o)] rfl rfl (fun K G => ?_)
  have G : fGood l g A En RX1 "<init>" cX1_init 1 none { frames := 1, cells := 20, slots := 434, locals := 64 } _ K := G
  have hL0 : iK o A f [] := ⟨hA, (fun p hp => nomatch hp), List.Pairwise.nil⟩
  rw [show f = iW g f o mF0 [] from by
    funext x
    unfold iW
    by_cases e : x = o
    · rw [if_pos e, e, hf]
    · rw [if_neg e]; rfl]
  unfold mF0
  refine r_aload_n G dX1_init_0 rfl ?_
  refine r_objInit G q1189 q109 q110 ⟨by decide, by decide⟩ (by decide) dX1_init_1 ?_
  refine r_aload_n G dX1_init_4 rfl ?_
  refine r_iconst G (v := nI 4) dX1_init_5 (by decide) ?_
  refine i_new G q163 hAn hL0 4 4 rfl (by decide) (cs' := 1) (ss' := 4) rfl rfl ⟨by decide, by decide⟩ dX1_init_6 (fun q1 hL1 => ?_)
  refine r_dup G dX1_init_8 rfl ?_
  refine r_iconst G (v := nI 0) dX1_init_9 (by decide) ?_
  refine r_bipush G (v := -9) dX1_init_10 (by decide) ?_
  refine i_ast G hL1 (i := 0) (by decide) (by decide) dX1_init_12 (fun hL1_12 => ?_)
  refine r_dup G dX1_init_13 rfl ?_
  refine r_iconst G (v := nI 1) dX1_init_14 (by decide) ?_
  refine r_bipush G (v := -9) dX1_init_15 (by decide) ?_
  refine i_ast G hL1_12 (i := 1) (by decide) (by decide) dX1_init_17 (fun hL1_17 => ?_)
  refine r_dup G dX1_init_18 rfl ?_
  refine r_iconst G (v := nI 2) dX1_init_19 (by decide) ?_
  refine r_bipush G (v := -9) dX1_init_20 (by decide) ?_
  refine i_ast G hL1_17 (i := 2) (by decide) (by decide) dX1_init_22 (fun hL1_22 => ?_)
  refine r_dup G dX1_init_23 rfl ?_
  refine r_iconst G (v := nI 3) dX1_init_24 (by decide) ?_
  refine r_bipush G (v := -9) dX1_init_25 (by decide) ?_
  refine i_ast G hL1_22 (i := 3) (by decide) (by decide) dX1_init_27 (fun hL1_27 => ?_)
  refine i_put G hL1_27 2 (by decide) (by decide) q1192 rfl rfl rfl rfl rfl (fs' := [.int 0, .int 0, .ref q1, .null, .null, .int 0, .int 0, .null, .null, .null, .int 0, .int 0, .null, .null, .null, .null, .null, .null, .null, .null, .null, .null, .null, .int 0, .null, .null, .null]) rfl (Nat.le_of_ble_eq_true rfl) dX1_init_28 ?_
  refine r_aload_n G dX1_init_31 rfl ?_
  refine r_iconst G (v := nI 4) dX1_init_32 (by decide) ?_
  refine i_new G q163 hAn hL1_27 4 4 rfl (by decide) (cs' := 2) (ss' := 8) rfl rfl ⟨by decide, by decide⟩ dX1_init_33 (fun q2 hL2 => ?_)
  refine i_put G hL2 3 (by decide) (by decide) q1193 rfl rfl rfl rfl rfl (fs' := [.int 0, .int 0, .ref q1, .ref q2, .null, .int 0, .int 0, .null, .null, .null, .int 0, .int 0, .null, .null, .null, .null, .null, .null, .null, .null, .null, .null, .null, .int 0, .null, .null, .null]) rfl (Nat.le_of_ble_eq_true rfl) dX1_init_35 ?_
  refine r_aload_n G dX1_init_38 rfl ?_
  refine r_sipush G (v := nI 240) dX1_init_39 (by decide) ?_
  refine i_new G q163 hAn hL2 240 240 rfl (by decide) (cs' := 3) (ss' := 248) rfl rfl ⟨by decide, by decide⟩ dX1_init_42 (fun q3 hL3 => ?_)
  refine i_put G hL3 4 (by decide) (by decide) q1194 rfl rfl rfl rfl rfl (fs' := [.int 0, .int 0, .ref q1, .ref q2, .ref q3, .int 0, .int 0, .null, .null, .null, .int 0, .int 0, .null, .null, .null, .null, .null, .null, .null, .null, .null, .null, .null, .int 0, .null, .null, .null]) rfl (Nat.le_of_ble_eq_true rfl) dX1_init_44 ?_
  refine r_aload_n G dX1_init_47 rfl ?_
  refine r_bipush G (v := nI 8) dX1_init_48 (by decide) ?_
  refine i_new G q163 hAn hL3 8 8 rfl (by decide) (cs' := 4) (ss' := 256) rfl rfl ⟨by decide, by decide⟩ dX1_init_50 (fun q4 hL4 => ?_)
  refine i_put G hL4 7 (by decide) (by decide) q1197 rfl rfl rfl rfl rfl (fs' := [.int 0, .int 0, .ref q1, .ref q2, .ref q3, .int 0, .int 0, .ref q4, .null, .null, .int 0, .int 0, .null, .null, .null, .null, .null, .null, .null, .null, .null, .null, .null, .int 0, .null, .null, .null]) rfl (Nat.le_of_ble_eq_true rfl) dX1_init_52 ?_
  refine r_aload_n G dX1_init_55 rfl ?_
  refine r_bipush G (v := nI 8) dX1_init_56 (by decide) ?_
  refine i_new G q163 hAn hL4 8 8 rfl (by decide) (cs' := 5) (ss' := 264) rfl rfl ⟨by decide, by decide⟩ dX1_init_58 (fun q5 hL5 => ?_)
  refine i_put G hL5 8 (by decide) (by decide) q1198 rfl rfl rfl rfl rfl (fs' := [.int 0, .int 0, .ref q1, .ref q2, .ref q3, .int 0, .int 0, .ref q4, .ref q5, .null, .int 0, .int 0, .null, .null, .null, .null, .null, .null, .null, .null, .null, .null, .null, .int 0, .null, .null, .null]) rfl (Nat.le_of_ble_eq_true rfl) dX1_init_60 ?_
  refine r_aload_n G dX1_init_63 rfl ?_
  refine r_bipush G (v := nI 8) dX1_init_64 (by decide) ?_
  refine i_new G q163 hAn hL5 8 8 rfl (by decide) (cs' := 6) (ss' := 272) rfl rfl ⟨by decide, by decide⟩ dX1_init_66 (fun q6 hL6 => ?_)
  refine i_put G hL6 9 (by decide) (by decide) q1199 rfl rfl rfl rfl rfl (fs' := [.int 0, .int 0, .ref q1, .ref q2, .ref q3, .int 0, .int 0, .ref q4, .ref q5, .ref q6, .int 0, .int 0, .null, .null, .null, .null, .null, .null, .null, .null, .null, .null, .null, .int 0, .null, .null, .null]) rfl (Nat.le_of_ble_eq_true rfl) dX1_init_68 ?_
  refine r_aload_n G dX1_init_71 rfl ?_
  refine r_bipush G (v := nI 6) dX1_init_72 (by decide) ?_
  refine i_new G q163 hAn hL6 6 6 rfl (by decide) (cs' := 7) (ss' := 278) rfl rfl ⟨by decide, by decide⟩ dX1_init_74 (fun q7 hL7 => ?_)
  refine i_put G hL7 12 (by decide) (by decide) q1202 rfl rfl rfl rfl rfl (fs' := [.int 0, .int 0, .ref q1, .ref q2, .ref q3, .int 0, .int 0, .ref q4, .ref q5, .ref q6, .int 0, .int 0, .ref q7, .null, .null, .null, .null, .null, .null, .null, .null, .null, .null, .int 0, .null, .null, .null]) rfl (Nat.le_of_ble_eq_true rfl) dX1_init_76 ?_
  refine r_aload_n G dX1_init_79 rfl ?_
  refine r_bipush G (v := nI 8) dX1_init_80 (by decide) ?_
  refine i_new G q163 hAn hL7 8 8 rfl (by decide) (cs' := 8) (ss' := 286) rfl rfl ⟨by decide, by decide⟩ dX1_init_82 (fun q8 hL8 => ?_)
  refine i_put G hL8 13 (by decide) (by decide) q1203 rfl rfl rfl rfl rfl (fs' := [.int 0, .int 0, .ref q1, .ref q2, .ref q3, .int 0, .int 0, .ref q4, .ref q5, .ref q6, .int 0, .int 0, .ref q7, .ref q8, .null, .null, .null, .null, .null, .null, .null, .null, .null, .int 0, .null, .null, .null]) rfl (Nat.le_of_ble_eq_true rfl) dX1_init_84 ?_
  refine r_aload_n G dX1_init_87 rfl ?_
  refine r_bipush G (v := nI 8) dX1_init_88 (by decide) ?_
  refine i_new G q163 hAn hL8 8 8 rfl (by decide) (cs' := 9) (ss' := 294) rfl rfl ⟨by decide, by decide⟩ dX1_init_90 (fun q9 hL9 => ?_)
  refine i_put G hL9 14 (by decide) (by decide) q1204 rfl rfl rfl rfl rfl (fs' := [.int 0, .int 0, .ref q1, .ref q2, .ref q3, .int 0, .int 0, .ref q4, .ref q5, .ref q6, .int 0, .int 0, .ref q7, .ref q8, .ref q9, .null, .null, .null, .null, .null, .null, .null, .null, .int 0, .null, .null, .null]) rfl (Nat.le_of_ble_eq_true rfl) dX1_init_92 ?_
  refine r_aload_n G dX1_init_95 rfl ?_
  refine r_bipush G (v := nI 64) dX1_init_96 (by decide) ?_
  refine i_new G q163 hAn hL9 64 64 rfl (by decide) (cs' := 10) (ss' := 358) rfl rfl ⟨by decide, by decide⟩ dX1_init_98 (fun q10 hL10 => ?_)
  refine i_put G hL10 15 (by decide) (by decide) q1205 rfl rfl rfl rfl rfl (fs' := [.int 0, .int 0, .ref q1, .ref q2, .ref q3, .int 0, .int 0, .ref q4, .ref q5, .ref q6, .int 0, .int 0, .ref q7, .ref q8, .ref q9, .ref q10, .null, .null, .null, .null, .null, .null, .null, .int 0, .null, .null, .null]) rfl (Nat.le_of_ble_eq_true rfl) dX1_init_100 ?_
  refine r_aload_n G dX1_init_103 rfl ?_
  refine r_bipush G (v := nI 6) dX1_init_104 (by decide) ?_
  refine i_new G q163 hAn hL10 6 6 rfl (by decide) (cs' := 11) (ss' := 364) rfl rfl ⟨by decide, by decide⟩ dX1_init_106 (fun q11 hL11 => ?_)
  refine i_put G hL11 16 (by decide) (by decide) q1206 rfl rfl rfl rfl rfl (fs' := [.int 0, .int 0, .ref q1, .ref q2, .ref q3, .int 0, .int 0, .ref q4, .ref q5, .ref q6, .int 0, .int 0, .ref q7, .ref q8, .ref q9, .ref q10, .ref q11, .null, .null, .null, .null, .null, .null, .int 0, .null, .null, .null]) rfl (Nat.le_of_ble_eq_true rfl) dX1_init_108 ?_
  refine r_aload_n G dX1_init_111 rfl ?_
  refine r_bipush G (v := nI 8) dX1_init_112 (by decide) ?_
  refine i_new G q163 hAn hL11 8 8 rfl (by decide) (cs' := 12) (ss' := 372) rfl rfl ⟨by decide, by decide⟩ dX1_init_114 (fun q12 hL12 => ?_)
  refine i_put G hL12 17 (by decide) (by decide) q1207 rfl rfl rfl rfl rfl (fs' := [.int 0, .int 0, .ref q1, .ref q2, .ref q3, .int 0, .int 0, .ref q4, .ref q5, .ref q6, .int 0, .int 0, .ref q7, .ref q8, .ref q9, .ref q10, .ref q11, .ref q12, .null, .null, .null, .null, .null, .int 0, .null, .null, .null]) rfl (Nat.le_of_ble_eq_true rfl) dX1_init_116 ?_
  refine r_aload_n G dX1_init_119 rfl ?_
  refine r_bipush G (v := nI 8) dX1_init_120 (by decide) ?_
  refine i_new G q163 hAn hL12 8 8 rfl (by decide) (cs' := 13) (ss' := 380) rfl rfl ⟨by decide, by decide⟩ dX1_init_122 (fun q13 hL13 => ?_)
  refine i_put G hL13 18 (by decide) (by decide) q1208 rfl rfl rfl rfl rfl (fs' := [.int 0, .int 0, .ref q1, .ref q2, .ref q3, .int 0, .int 0, .ref q4, .ref q5, .ref q6, .int 0, .int 0, .ref q7, .ref q8, .ref q9, .ref q10, .ref q11, .ref q12, .ref q13, .null, .null, .null, .null, .int 0, .null, .null, .null]) rfl (Nat.le_of_ble_eq_true rfl) dX1_init_124 ?_
  refine r_aload_n G dX1_init_127 rfl ?_
  refine r_bipush G (v := nI 8) dX1_init_128 (by decide) ?_
  refine i_new G q163 hAn hL13 8 8 rfl (by decide) (cs' := 14) (ss' := 388) rfl rfl ⟨by decide, by decide⟩ dX1_init_130 (fun q14 hL14 => ?_)
  refine i_put G hL14 19 (by decide) (by decide) q1209 rfl rfl rfl rfl rfl (fs' := [.int 0, .int 0, .ref q1, .ref q2, .ref q3, .int 0, .int 0, .ref q4, .ref q5, .ref q6, .int 0, .int 0, .ref q7, .ref q8, .ref q9, .ref q10, .ref q11, .ref q12, .ref q13, .ref q14, .null, .null, .null, .int 0, .null, .null, .null]) rfl (Nat.le_of_ble_eq_true rfl) dX1_init_132 ?_
  refine r_aload_n G dX1_init_135 rfl ?_
  refine r_bipush G (v := nI 8) dX1_init_136 (by decide) ?_
  refine i_new G q163 hAn hL14 8 8 rfl (by decide) (cs' := 15) (ss' := 396) rfl rfl ⟨by decide, by decide⟩ dX1_init_138 (fun q15 hL15 => ?_)
  refine i_put G hL15 20 (by decide) (by decide) q1210 rfl rfl rfl rfl rfl (fs' := [.int 0, .int 0, .ref q1, .ref q2, .ref q3, .int 0, .int 0, .ref q4, .ref q5, .ref q6, .int 0, .int 0, .ref q7, .ref q8, .ref q9, .ref q10, .ref q11, .ref q12, .ref q13, .ref q14, .ref q15, .null, .null, .int 0, .null, .null, .null]) rfl (Nat.le_of_ble_eq_true rfl) dX1_init_140 ?_
  refine r_aload_n G dX1_init_143 rfl ?_
  refine r_bipush G (v := nI 7) dX1_init_144 (by decide) ?_
  refine i_new G q163 hAn hL15 7 7 rfl (by decide) (cs' := 16) (ss' := 403) rfl rfl ⟨by decide, by decide⟩ dX1_init_146 (fun q16 hL16 => ?_)
  refine i_put G hL16 21 (by decide) (by decide) q1211 rfl rfl rfl rfl rfl (fs' := [.int 0, .int 0, .ref q1, .ref q2, .ref q3, .int 0, .int 0, .ref q4, .ref q5, .ref q6, .int 0, .int 0, .ref q7, .ref q8, .ref q9, .ref q10, .ref q11, .ref q12, .ref q13, .ref q14, .ref q15, .ref q16, .null, .int 0, .null, .null, .null]) rfl (Nat.le_of_ble_eq_true rfl) dX1_init_148 ?_
  refine r_aload_n G dX1_init_151 rfl ?_
  refine r_bipush G (v := nI 7) dX1_init_152 (by decide) ?_
  refine i_new G q163 hAn hL16 7 7 rfl (by decide) (cs' := 17) (ss' := 410) rfl rfl ⟨by decide, by decide⟩ dX1_init_154 (fun q17 hL17 => ?_)
  refine i_put G hL17 22 (by decide) (by decide) q1212 rfl rfl rfl rfl rfl (fs' := [.int 0, .int 0, .ref q1, .ref q2, .ref q3, .int 0, .int 0, .ref q4, .ref q5, .ref q6, .int 0, .int 0, .ref q7, .ref q8, .ref q9, .ref q10, .ref q11, .ref q12, .ref q13, .ref q14, .ref q15, .ref q16, .ref q17, .int 0, .null, .null, .null]) rfl (Nat.le_of_ble_eq_true rfl) dX1_init_156 ?_
  refine r_aload_n G dX1_init_159 rfl ?_
  refine r_bipush G (v := nI 8) dX1_init_160 (by decide) ?_
  refine i_new G q163 hAn hL17 8 8 rfl (by decide) (cs' := 18) (ss' := 418) rfl rfl ⟨by decide, by decide⟩ dX1_init_162 (fun q18 hL18 => ?_)
  refine i_put G hL18 24 (by decide) (by decide) q1214 rfl rfl rfl rfl rfl (fs' := [.int 0, .int 0, .ref q1, .ref q2, .ref q3, .int 0, .int 0, .ref q4, .ref q5, .ref q6, .int 0, .int 0, .ref q7, .ref q8, .ref q9, .ref q10, .ref q11, .ref q12, .ref q13, .ref q14, .ref q15, .ref q16, .ref q17, .int 0, .ref q18, .null, .null]) rfl (Nat.le_of_ble_eq_true rfl) dX1_init_164 ?_
  refine r_aload_n G dX1_init_167 rfl ?_
  refine r_bipush G (v := nI 8) dX1_init_168 (by decide) ?_
  refine i_new G q163 hAn hL18 8 8 rfl (by decide) (cs' := 19) (ss' := 426) rfl rfl ⟨by decide, by decide⟩ dX1_init_170 (fun q19 hL19 => ?_)
  refine i_put G hL19 25 (by decide) (by decide) q1215 rfl rfl rfl rfl rfl (fs' := [.int 0, .int 0, .ref q1, .ref q2, .ref q3, .int 0, .int 0, .ref q4, .ref q5, .ref q6, .int 0, .int 0, .ref q7, .ref q8, .ref q9, .ref q10, .ref q11, .ref q12, .ref q13, .ref q14, .ref q15, .ref q16, .ref q17, .int 0, .ref q18, .ref q19, .null]) rfl (Nat.le_of_ble_eq_true rfl) dX1_init_172 ?_
  refine r_aload_n G dX1_init_175 rfl ?_
  refine r_bipush G (v := nI 8) dX1_init_176 (by decide) ?_
  refine i_new G q163 hAn hL19 8 8 rfl (by decide) (cs' := 20) (ss' := 434) rfl rfl ⟨by decide, by decide⟩ dX1_init_178 (fun q20 hL20 => ?_)
  refine i_put G hL20 26 (by decide) (by decide) q1216 rfl rfl rfl rfl rfl (fs' := [.int 0, .int 0, .ref q1, .ref q2, .ref q3, .int 0, .int 0, .ref q4, .ref q5, .ref q6, .int 0, .int 0, .ref q7, .ref q8, .ref q9, .ref q10, .ref q11, .ref q12, .ref q13, .ref q14, .ref q15, .ref q16, .ref q17, .int 0, .ref q18, .ref q19, .ref q20]) rfl (Nat.le_of_ble_eq_true rfl) dX1_init_180 ?_
  have hLe : [(q20, 8, fun _ => 0), (q19, 8, fun _ => 0), (q18, 8, fun _ => 0), (q17, 7, fun _ => 0), (q16, 7, fun _ => 0), (q15, 8, fun _ => 0), (q14, 8, fun _ => 0), (q13, 8, fun _ => 0), (q12, 8, fun _ => 0), (q11, 6, fun _ => 0), (q10, 64, fun _ => 0), (q9, 8, fun _ => 0), (q8, 8, fun _ => 0), (q7, 6, fun _ => 0), (q6, 8, fun _ => 0), (q5, 8, fun _ => 0), (q4, 8, fun _ => 0), (q3, 240, fun _ => 0), (q2, 4, fun _ => 0), (q1, 4, upd (upd (upd (upd (fun _ => 0) 0 (-9)) 1 (-9)) 2 (-9)) 3 (-9))] = (iLs [q1, q2, q3, q4, q5, q6, q7, q8, q9, q10, q11, q12, q13, q14, q15, q16, q17, q18, q19, q20]).reverse := by
    rw [s0_u]; rfl
  refine r_vret G rfl ⟨by decide, by decide⟩ dX1_init_183 ⟨rfl, iAd [q1, q2, q3, q4, q5, q6, q7, q8, q9, q10, q11, q12, q13, q14, q15, q16, q17, q18, q19, q20], ⟨hA, ?_, ?_, ?_⟩, ?_, ?_, ?_⟩
  · intro k hk
    have h := i_mem hk hL20 hLe rfl
    exact (hL20.2.1 _ h).1
  · intro k hk
    have h := i_mem hk hL20 hLe rfl
    exact (hL20.2.1 _ h).2.1
  · intro j hj k hk e
    exact i_inj hL20 hLe rfl hj hk e
  · intro q e hq
    exact i_mH hL20 hLe rfl hq
  · intro k hk
    have h := i_mem hk hL20 hLe rfl
    exact (hL20.2.1 _ h).2.2
  · intro q h1 h2
    exact iW_old hL20 h1 h2
end MM16
