/-! the component: its environment; lists -/
set_option maxRecDepth 100000
section XX2
def xNw : List Cond := [.fieldLinkNest "VineRows$Plain" 32 "VineRows" "trace" "I" "VineRows",
  .fieldLinkNest "VineRows$Act" 15 "VineRows" "fault" "I" "VineRows",
  .fieldLinkNest "VineRows" 242 "VineRows$Reading" "a" "I" "VineRows",
  .fieldLinkNest "VineRows" 245 "VineRows$Reading" "b" "I" "VineRows",
  .fieldLinkNest "VineRows" 248 "VineRows$Reading" "v" "I" "VineRows",
  .methodLinkNest "VineRows$Looking" 7 ({ cls := "VineRows$Act", name := "<init>", desc := "(LVineRows;)V" } : MethodName) "VineRows",
  .methodLinkNest "VineRows$Copying" 29 ({ cls := "VineRows", name := "rowIn", desc := "(I)Ljava/lang/Object;" } : MethodName) "VineRows",
  .methodLinkNest "VineRows$Looking" 26 ({ cls := "VineRows", name := "rowIn", desc := "(I)Ljava/lang/Object;" } : MethodName) "VineRows",
  .methodLinkNest "VineRows$Looking" 32 ({ cls := "VineRows", name := "cellsOf", desc := "(Ljava/lang/Object;III)[I" } : MethodName) "VineRows",
  .methodLinkNest "VineRows$Founding" 13 ({ cls := "VineRows", name := "newVine", desc := "([I)I" } : MethodName) "VineRows",
  .methodLinkNest "VineRows$Telling" 17 ({ cls := "VineRows", name := "pairsBarred", desc := "([I)I" } : MethodName) "VineRows",
  .methodLinkNest "VineRows$Telling" 23 ({ cls := "VineRows", name := "dayBy", desc := "([II)I" } : MethodName) "VineRows",
  .methodLinkNest "VineRows$Act" 25 ({ cls := "VineRows", name := "fails", desc := "(I)I" } : MethodName) "VineRows",
  .methodLinkNest "VineRows$Copying" 7 ({ cls := "VineRows$Act", name := "<init>", desc := "(LVineRows;)V" } : MethodName) "VineRows",
  .methodLinkNest "VineRows$Taking" 7 ({ cls := "VineRows$Act", name := "<init>", desc := "(LVineRows;)V" } : MethodName) "VineRows",
  .castable "java/util/ArrayList" "java/util/List",
  .castable "java/util/ArrayList" "java/util/Collection",
  .castable "VineRows$Broad" "VineRows$Knocked",
  .castable "VineRows$Doubled" "VineRows$Knocked",
  .castable "VineRows$Plain" "VineRows$Knocked",
  .castable "VineRows$Broad" "VineRows$Plain",
  .castable "VineRows$Doubled" "VineRows$Plain",
  .castable "VineRows$Doubled" "VineRows$Broad",
  .castable "VineRows$Sheet" "java/lang/Object",
  .castable "java/util/ArrayList" "java/lang/Object",
  .castable "VineRows$Founding" "java/lang/Object",
  .castable "VineRows$Plain" "java/lang/Object",
  .castable "VineRows$Broad" "java/lang/Object",
  .castable "VineRows$Doubled" "java/lang/Object",
  .castable "VineRows$Telling" "java/lang/Object",
  .castable "VineRows$Reading" "java/lang/Object",
  .castable "VineRows$Copying" "java/lang/Object",
  .castable "VineRows$Taking" "java/lang/Object"]
def xFw : List (String × MethodName × MethodName) := [("java/util/ArrayList", ({ cls := "java/util/List", name := "size", desc := "()I" } : MethodName), ({ cls := "java/util/ArrayList", name := "size", desc := "()I" } : MethodName)),
  ("java/util/ArrayList", ({ cls := "java/util/List", name := "get", desc := "(I)Ljava/lang/Object;" } : MethodName), ({ cls := "java/util/ArrayList", name := "get", desc := "(I)Ljava/lang/Object;" } : MethodName)),
  ("java/util/ArrayList", ({ cls := "java/util/List", name := "isEmpty", desc := "()Z" } : MethodName), ({ cls := "java/util/ArrayList", name := "isEmpty", desc := "()Z" } : MethodName)),
  ("java/util/ArrayList", ({ cls := "java/util/List", name := "add", desc := "(Ljava/lang/Object;)Z" } : MethodName), ({ cls := "java/util/ArrayList", name := "add", desc := "(Ljava/lang/Object;)Z" } : MethodName)),
  ("java/util/ArrayList", ({ cls := "java/util/List", name := "remove", desc := "(I)Ljava/lang/Object;" } : MethodName), ({ cls := "java/util/ArrayList", name := "remove", desc := "(I)Ljava/lang/Object;" } : MethodName)),
  ("java/util/ArrayList", ({ cls := "java/util/List", name := "set", desc := "(ILjava/lang/Object;)Ljava/lang/Object;" } : MethodName), ({ cls := "java/util/ArrayList", name := "set", desc := "(ILjava/lang/Object;)Ljava/lang/Object;" } : MethodName)),
  ("java/util/ArrayList", ({ cls := "java/util/List", name := "clear", desc := "()V" } : MethodName), ({ cls := "java/util/ArrayList", name := "clear", desc := "()V" } : MethodName)),
  ("java/util/ArrayList", ({ cls := "java/util/List", name := "addAll", desc := "(Ljava/util/Collection;)Z" } : MethodName), ({ cls := "java/util/ArrayList", name := "addAll", desc := "(Ljava/util/Collection;)Z" } : MethodName)),
  ("java/util/ArrayList", ({ cls := "java/util/Collection", name := "toArray", desc := "()[Ljava/lang/Object;" } : MethodName), ({ cls := "java/util/ArrayList", name := "toArray", desc := "()[Ljava/lang/Object;" } : MethodName)),
  ("VineRows$Plain", ({ cls := "VineRows$Knocked", name := "knocked", desc := "()I" } : MethodName), ({ cls := "VineRows$Knocked", name := "knocked", desc := "()I" } : MethodName)),
  ("VineRows$Plain", ({ cls := "VineRows$Knocked", name := "tracedBy", desc := "(I)I" } : MethodName), ({ cls := "VineRows$Plain", name := "tracedBy", desc := "(I)I" } : MethodName)),
  ("VineRows$Plain", ({ cls := "VineRows$Knocked", name := "twigs", desc := "()I" } : MethodName), ({ cls := "VineRows$Plain", name := "twigs", desc := "()I" } : MethodName)),
  ("VineRows$Broad", ({ cls := "VineRows$Knocked", name := "knocked", desc := "()I" } : MethodName), ({ cls := "VineRows$Knocked", name := "knocked", desc := "()I" } : MethodName)),
  ("VineRows$Broad", ({ cls := "VineRows$Knocked", name := "tracedBy", desc := "(I)I" } : MethodName), ({ cls := "VineRows$Plain", name := "tracedBy", desc := "(I)I" } : MethodName)),
  ("VineRows$Broad", ({ cls := "VineRows$Knocked", name := "twigs", desc := "()I" } : MethodName), ({ cls := "VineRows$Plain", name := "twigs", desc := "()I" } : MethodName)),
  ("VineRows$Doubled", ({ cls := "VineRows$Knocked", name := "knocked", desc := "()I" } : MethodName), ({ cls := "VineRows$Doubled", name := "knocked", desc := "()I" } : MethodName))]
def fX (zd : Nat) (g : fG) (A : Nat → Prop) (En : State → Prop) : Prop :=
  fEnv g A En ∧ (∀ U, En U → ∀ q, U.heap.size ≤ q → A q) ∧ (∀ (i : Nat) (w : Cond), xNw[i]? = some w → ∀ U, En U → va_Nw w U) ∧ (∀ (i : Nat) (t : String × MethodName × MethodName), xFw[i]? = some t → ∀ U, En U → va_Fw t.1 t.2.1 t.2.2 U) ∧
    (∀ C : String, C = "VineRows$Sheet" ∨ C = "java/lang/Object" → ∀ U, En U → va_AO C U) ∧ (∀ U, En U → va_Z "java/util/ArrayList" "DEFAULTCAPACITY_EMPTY_ELEMENTDATA" "[Ljava/lang/Object;" (.ref zd) A U U.heap) ∧
    (∃ mi : Nat, ∀ U, En U → va_Mi "[Ljava/lang/Object;" mi U) ∧ ∀ U, En U → va_Dc U
theorem fX.mi {zd : Nat} {g : fG} {A : Nat → Prop} {En : State → Prop} (h : fX zd g A En) : ∃ mi : Nat, ∀ U, En U → va_Mi "[Ljava/lang/Object;" mi U := h.2.2.2.2.2.2.1
theorem fX.dc {zd : Nat} {g : fG} {A : Nat → Prop} {En : State → Prop} (h : fX zd g A En) : ∀ U, En U → va_Dc U := h.2.2.2.2.2.2.2
theorem fX.E {zd : Nat} {g : fG} {A : Nat → Prop} {En : State → Prop} (h : fX zd g A En) : fEnv g A En := h.1
theorem fX.an {zd : Nat} {g : fG} {A : Nat → Prop} {En : State → Prop} (h : fX zd g A En) : ∀ U, En U → ∀ q, U.heap.size ≤ q → A q := h.2.1
theorem fX.nw {zd : Nat} {g : fG} {A : Nat → Prop} {En : State → Prop} (h : fX zd g A En) : ∀ (i : Nat) (w : Cond), xNw[i]? = some w → ∀ U, En U → va_Nw w U := h.2.2.1
theorem fX.fw {zd : Nat} {g : fG} {A : Nat → Prop} {En : State → Prop} (h : fX zd g A En) : ∀ (i : Nat) (t : String × MethodName × MethodName), xFw[i]? = some t → ∀ U, En U → va_Fw t.1 t.2.1 t.2.2 U := h.2.2.2.1
theorem fX.ao {zd : Nat} {g : fG} {A : Nat → Prop} {En : State → Prop} (h : fX zd g A En) : ∀ C : String, C = "VineRows$Sheet" ∨ C = "java/lang/Object" → ∀ U, En U → va_AO C U := h.2.2.2.2.1
theorem fX.z {zd : Nat} {g : fG} {A : Nat → Prop} {En : State → Prop} (h : fX zd g A En) : ∀ U, En U → va_Z "java/util/ArrayList" "DEFAULTCAPACITY_EMPTY_ELEMENTDATA" "[Ljava/lang/Object;" (.ref zd) A U U.heap := h.2.2.2.2.2.1
def xR (d c s : Nat) : Room := { frames := d, cells := c, slots := s, locals := 64 * d }
theorem fx_0 : fyX ({ cls := "java/util/List", name := "size", desc := "()I" } : MethodName) 0 := ⟨by decide +kernel, by decide +kernel, by decide +kernel⟩
theorem fx_1 : fyX ({ cls := "java/util/List", name := "get", desc := "(I)Ljava/lang/Object;" } : MethodName) 1 := ⟨by decide +kernel, by decide +kernel, by decide +kernel⟩
theorem fx_2 : fyX ({ cls := "java/util/List", name := "isEmpty", desc := "()Z" } : MethodName) 0 := ⟨by decide +kernel, by decide +kernel, by decide +kernel⟩
theorem fx_3 : fyX ({ cls := "java/util/List", name := "add", desc := "(Ljava/lang/Object;)Z" } : MethodName) 1 := ⟨by decide +kernel, by decide +kernel, by decide +kernel⟩
theorem fx_4 : fyX ({ cls := "java/util/List", name := "remove", desc := "(I)Ljava/lang/Object;" } : MethodName) 1 := ⟨by decide +kernel, by decide +kernel, by decide +kernel⟩
theorem fx_5 : fyX ({ cls := "java/util/List", name := "set", desc := "(ILjava/lang/Object;)Ljava/lang/Object;" } : MethodName) 2 := ⟨by decide +kernel, by decide +kernel, by decide +kernel⟩
theorem fx_6 : fyX ({ cls := "java/util/List", name := "clear", desc := "()V" } : MethodName) 0 := ⟨by decide +kernel, by decide +kernel, by decide +kernel⟩
theorem fx_7 : fyX ({ cls := "java/util/List", name := "addAll", desc := "(Ljava/util/Collection;)Z" } : MethodName) 1 := ⟨by decide +kernel, by decide +kernel, by decide +kernel⟩
theorem fx_8 : fyX ({ cls := "java/util/Collection", name := "toArray", desc := "()[Ljava/lang/Object;" } : MethodName) 0 := ⟨by decide +kernel, by decide +kernel, by decide +kernel⟩
theorem fx_9 : fyX ({ cls := "VineRows$Knocked", name := "knocked", desc := "()I" } : MethodName) 0 := ⟨by decide +kernel, by decide +kernel, by decide +kernel⟩
theorem fx_10 : fyX ({ cls := "VineRows$Knocked", name := "tracedBy", desc := "(I)I" } : MethodName) 1 := ⟨by decide +kernel, by decide +kernel, by decide +kernel⟩
theorem fx_11 : fyX ({ cls := "VineRows$Knocked", name := "twigs", desc := "()I" } : MethodName) 0 := ⟨by decide +kernel, by decide +kernel, by decide +kernel⟩
theorem fx_12 : fyX ({ cls := "VineRows$Knocked", name := "knocked", desc := "()I" } : MethodName) 0 := ⟨by decide +kernel, by decide +kernel, by decide +kernel⟩
theorem fx_13 : fyX ({ cls := "VineRows$Knocked", name := "tracedBy", desc := "(I)I" } : MethodName) 1 := ⟨by decide +kernel, by decide +kernel, by decide +kernel⟩
theorem fx_14 : fyX ({ cls := "VineRows$Knocked", name := "twigs", desc := "()I" } : MethodName) 0 := ⟨by decide +kernel, by decide +kernel, by decide +kernel⟩
theorem fx_15 : fyX ({ cls := "VineRows$Knocked", name := "knocked", desc := "()I" } : MethodName) 0 := ⟨by decide +kernel, by decide +kernel, by decide +kernel⟩
theorem lw_F {own : String} {idx : Nat} {C : String} {x y : MethodName} {b : ByteArray} {L : Nat} {r : Option FieldType} (h1 : Cond.methodLink own idx x ∈ lw_all) (h2 : Cond.selects C x y ∈ lw_all) (h3 : Cond.instanceMethod y ∈ lw_all) (h4 : Cond.initialized y.cls ∈ lw_all) (h5 : Cond.code y b L r ∈ lw_all) : GoodIn lw_all (va_wsF own idx C x y (ws_ y b L r)) := by
  refine lw_app ?_ (lw_meth h5)
  intro w hw
  simp only [List.mem_cons, List.not_mem_nil, or_false] at hw
  rcases hw with rfl | rfl | rfl | rfl
  · exact h1
  · exact h2
  · exact h3
  · exact h4
theorem rf_or (r : Option Nat) : va_rf r = .null ∨ ∃ a, va_rf r = .ref a := by
  cases r with
  | none => exact Or.inl rfl
  | some a => exact Or.inr ⟨a, rfl⟩
section
variable {l : Launch} {g : fG} {A : Nat → Prop} {En : State → Prop} {own nm : String} {cc : ByteArray} {nL : Nat} {ret : Option FieldType} {rm : Room} {Post : Option Value → fH → Prop} {K : fKt} {f : fH} {cs ss pc : Nat} {lo : fL} {st : List Value}
theorem s_callV (G : fGood l g A En own nm cc nL ret rm Post K) {y : MethodName} {cc' : ByteArray} {nL' : Nat} {ret' : Option FieldType} {rm' : Room} {r : Option Value} {n index : Nat} {st0 rest : List Value} (As : List Value) {b ci : Nat} {fs : List Value} {q : vw_C} (M : fC l g A En y cc' nL' ret' rm' (.ref b :: As) f (fun v f' => f' = f ∧ v = r)) (w : GoodIn lw_all (wsV own index y.cls y (ws_ y cc' nL' ret'))) (hy : fyN y n) (hn : As.length = n) (hR : rm'.frames + 1 ≤ rm.frames ∧ 8 + (nL' + 11) + rm'.locals ≤ rm.locals) (he : f b = some (.inr (ci, fs))) (hci : fCl[ci]? = some q) (hcy : q.1 = y.cls) (hs : st0 = As.reverse ++ .ref b :: rest) (hst : (rest.map fun v => v.category).sum ≤ 8) {cs' ss' : Nat} (hcs : cs + rm'.cells = cs') (hss : ss + rm'.slots = ss') (hc : cs' ≤ rm.cells ∧ ss' ≤ rm.slots) (d : decode cc pc = .ok (.invokevirtual index, 3)) (kk : K f cs' ss' (pc + 3) lo (r.toList ++ rest)) : K f cs ss pc lo st0 :=
  r_callV G As M w hy hn hR he hci hcy hs hst hcs hss hc d (fun v f' hp => by obtain ⟨rfl, rfl⟩ := hp; exact kk)
theorem s_callF (G : fGood l g A En own nm cc nL ret rm Post K) {y : MethodName} {cc' : ByteArray} {nL' : Nat} {ret' : Option FieldType} {rm' : Room} {r : Option Value} {n index : Nat} {st0 rest : List Value} (As : List Value) {count : Nat} {x : MethodName} {b ci : Nat} {fs : List Value} {q : vw_C} (M : fC l g A En y cc' nL' ret' rm' (.ref b :: As) f (fun v f' => f' = f ∧ v = r)) (w : GoodIn lw_all (va_wsF own index q.1 x y (ws_ y cc' nL' ret'))) (hF : ∀ U, En U → va_Fw q.1 x y U) (hy : fyX x n) (hn : As.length = n) (hR : rm'.frames + 1 ≤ rm.frames ∧ 8 + (nL' + 11) + rm'.locals ≤ rm.locals) (he : f b = some (.inr (ci, fs))) (hci : fCl[ci]? = some q) (hs : st0 = As.reverse ++ .ref b :: rest) (hst : (rest.map fun v => v.category).sum ≤ 8) {cs' ss' : Nat} (hcs : cs + rm'.cells = cs') (hss : ss + rm'.slots = ss') (hc : cs' ≤ rm.cells ∧ ss' ≤ rm.slots) (d : decode cc pc = .ok (.invokeinterface index count, 5)) (kk : K f cs' ss' (pc + 5) lo (r.toList ++ rest)) : K f cs ss pc lo st0 :=
  r_callF G As M w hF hy hn hR he hci hs hst hcs hss hc d (fun v f' hp => by obtain ⟨rfl, rfl⟩ := hp; exact kk)
end
/-- a list: its object, its array, how often it was changed, room, length, elements -/
def xLs : Type := Nat × Nat × Int32 × Nat × Nat × (Nat → Option Nat)
def xLs.a (L : xLs) : Nat := L.1
def xLs.ea (L : xLs) : Nat := L.2.1
def xLs.mc (L : xLs) : Int32 := L.2.2.1
def xLs.cap (L : xLs) : Nat := L.2.2.2.1
def xLs.n (L : xLs) : Nat := L.2.2.2.2.1
def xLs.el (L : xLs) : Nat → Option Nat := L.2.2.2.2.2
def mkL (a ea : Nat) (mc : Int32) (cap n : Nat) (el : Nat → Option Nat) : xLs := (a, ea, mc, cap, n, el)
def xL (g : fG) (f : fH) (L : xLs) : Prop := f L.a = some (.inr (2, [.int L.mc, .ref L.ea, .int (nI L.n)])) ∧ f L.ea = some (.inl (g.2 3, rfA L.cap L.el)) ∧ L.n ≤ L.cap ∧ L.cap ≤ 10
theorem xL.ne {g : fG} {f : fH} {L : xLs} (h : xL g f L) : L.a ≠ L.ea := fun e => by
  have h1 := h.1
  rw [e, h.2.1] at h1
  cases h1
set_option maxHeartbeats 4000000 in
theorem xM_J2_size {l : Launch} {g : fG} {A : Nat → Prop} {En : State → Prop} {zd : Nat} (hX : fX zd g A En) {f : fH} {L : xLs} (hL : xL g f L): fC l g A En yJ2_size cJ2_size 1 (some .int) (fR 0) [.ref L.a] f (fun v f' => f' = f ∧ v = some (.int (nI L.n))) := by
  have hE := hX.E
  refine fC.of (by decide) hX.E [some (.ref L.a)] rfl rfl (fun K G => ?_)
  have G : fGood l g A En RJ2 "size" cJ2_size 1 (some .int) (fR 0) _ K := G
  refine r_aload_n G dJ2_size_0 rfl ?_
  refine r_getf G xCl2 (fs := [.int L.mc, .ref L.ea, .int (nI L.n)]) hL.1 2 (by decide) q126 rfl rfl dJ2_size_1 ?_
  exact r_iret G rfl ⟨Nat.zero_le _, Nat.zero_le _⟩ dJ2_size_4 ⟨rfl, rfl⟩
set_option maxHeartbeats 4000000 in
theorem xM_J2_isEmpty {l : Launch} {g : fG} {A : Nat → Prop} {En : State → Prop} {zd : Nat} (hX : fX zd g A En) {f : fH} {L : xLs} (hL : xL g f L): fC l g A En yJ2_isEmpty cJ2_isEmpty 1 (some .boolean) (fR 0) [.ref L.a] f (fun v f' => f' = f ∧ v = some (.int (bI (decide (L.n = 0))))) := by
  have hE := hX.E
  refine fC.of (by decide) hX.E [some (.ref L.a)] rfl rfl (fun K G => ?_)
  have G : fGood l g A En RJ2 "isEmpty" cJ2_isEmpty 1 (some .boolean) (fR 0) _ K := G
  refine r_aload_n G dJ2_isEmpty_0 rfl ?_
  refine r_getf G xCl2 (fs := [.int L.mc, .ref L.ea, .int (nI L.n)]) hL.1 2 (by decide) q126 rfl rfl dJ2_isEmpty_1 ?_
  refine r_if_ne G 11 (n_eq0 (by have := hL.2.2; omega)) dJ2_isEmpty_4 (by decide) (fun h4 => ?_) (fun h4 => ?_)
  · refine r_iconst G (v := nI 0) dJ2_isEmpty_11 (by decide) ?_
    exact r_zret G rfl (by decide) ⟨Nat.zero_le _, Nat.zero_le _⟩ dJ2_isEmpty_12 ⟨rfl, rb (by rw [decide_eq_false h4]; rfl)⟩
  · refine r_iconst G (v := nI 1) dJ2_isEmpty_7 (by decide) ?_
    refine r_goto G 12 dJ2_isEmpty_8 (by decide) ?_
    exact r_zret G rfl (by decide) ⟨Nat.zero_le _, Nat.zero_le _⟩ dJ2_isEmpty_12 ⟨rfl, rb (by rw [decide_eq_true h4]; rfl)⟩
set_option maxHeartbeats 4000000 in
theorem xM_J2_elementData {l : Launch} {g : fG} {A : Nat → Prop} {En : State → Prop} {zd : Nat} (hX : fX zd g A En) {f : fH} {L : xLs} (hL : xL g f L) (i : Nat) (hi : i < L.cap): fC l g A En yJ2_elementData cJ2_elementData 2 (some (.object "java/lang/Object")) (fR 0) [.ref L.a, .int (nI i)] f (fun v f' => f' = f ∧ v = some (va_rf (L.el i))) := by
  have hE := hX.E
  refine fC.of (by decide) hX.E [some (.ref L.a), some (.int (nI i))] rfl rfl (fun K G => ?_)
  have G : fGood l g A En RJ2 "elementData" cJ2_elementData 2 (some (.object "java/lang/Object")) (fR 0) _ K := G
  refine r_aload_n G dJ2_elementData_0 rfl ?_
  refine r_getf G xCl2 (fs := [.int L.mc, .ref L.ea, .int (nI L.n)]) hL.1 1 (by decide) q125 rfl rfl dJ2_elementData_1 ?_
  refine r_iload_n G dJ2_elementData_4 rfl ?_
  refine r_aald G (t := 3) (n := L.cap) (fn := L.el) hL.2.1 rfl (vp_in_nI hi (by have := hL.2.2.2; omega)) (v := va_rf ((L.el i))) (by rw [nI_clamp (by have := hL.2.2; omega)]) dJ2_elementData_5 ?_
  exact r_aret G rfl (Or.inl ⟨_, rfl⟩) (rf_or _) ⟨Nat.zero_le _, Nat.zero_le _⟩ dJ2_elementData_6 ⟨rfl, rfl⟩
set_option maxHeartbeats 4000000 in
theorem xM_J2_get {l : Launch} {g : fG} {A : Nat → Prop} {En : State → Prop} {zd : Nat} (hX : fX zd g A En) {f : fH} {L : xLs} (hL : xL g f L) (i : Nat) (hi : i < L.n): fC l g A En yJ2_get cJ2_get 2 (some (.object "java/lang/Object")) (fR 2) [.ref L.a, .int (nI i)] f (fun v f' => f' = f ∧ v = some (va_rf (L.el i))) := by
  have hE := hX.E
  refine fC.of (by decide) hX.E [some (.ref L.a), some (.int (nI i))] rfl rfl (fun K G => ?_)
  have G : fGood l g A En RJ2 "get" cJ2_get 2 (some (.object "java/lang/Object")) (fR 2) _ K := G
  refine r_iload_n G dJ2_get_0 rfl ?_
  refine r_aload_n G dJ2_get_1 rfl ?_
  refine r_getf G xCl2 (fs := [.int L.mc, .ref L.ea, .int (nI L.n)]) hL.1 2 (by decide) q126 rfl rfl dJ2_get_2 ?_
  refine s_callS G [.int (nI i), .int (nI L.n)] (sX_J17_checkIndex hE i L.n hi (by have := hL.2.2; omega)) (lw_S q194 q195 q96 q196) fy_yJ17_checkIndex rfl ⟨Nat.le_of_ble_eq_true rfl, Nat.le_of_ble_eq_true rfl⟩ rfl (Nat.le_of_ble_eq_true rfl) rfl rfl ⟨Nat.zero_le _, Nat.zero_le _⟩ dJ2_get_5 ?_
  show K f 0 0 8 [some (.ref L.a), some (.int (nI i))] [.int (nI i)]
  refine r_pop G dJ2_get_8 rfl ?_
  refine r_aload_n G dJ2_get_9 rfl ?_
  refine r_iload_n G dJ2_get_10 rfl ?_
  refine s_callV (b := L.a) G [.int (nI i)] (xM_J2_elementData hX hL i (by have := hL.2.2; omega)) (lw_V q200 q201 q202 q73 q203) fy_yJ2_elementData rfl ⟨Nat.le_of_ble_eq_true rfl, Nat.le_of_ble_eq_true rfl⟩ (fs := [.int L.mc, .ref L.ea, .int (nI L.n)]) hL.1 (ci := 2) rfl rfl rfl (Nat.le_of_ble_eq_true rfl) rfl rfl ⟨Nat.zero_le _, Nat.zero_le _⟩ dJ2_get_11 ?_
  show K f 0 0 14 [some (.ref L.a), some (.int (nI i))] [va_rf ((L.el i))]
  exact r_aret G rfl (Or.inl ⟨_, rfl⟩) (rf_or _) ⟨Nat.zero_le _, Nat.zero_le _⟩ dJ2_get_14 ⟨rfl, rfl⟩
end XX2
