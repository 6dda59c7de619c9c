/-! FL: rows for the component's side -/
set_option maxRecDepth 100000
section FLX
variable {l : Launch} {g : fG} {A : Nat → Prop} {En : State → Prop} {own nm : String} {cc : ByteArray} {nL : Nat} {ret : Option FieldType} {rm : Room} {Post : Option Value → fH → Prop} {K : fKt} {f : fH} {cs ss pc : Nat} {lo : fL} {st : List Value}
abbrev rfA (n : Nat) (fn : Nat → Option Nat) : vp_A := (n, .inr (.inr (.inr (.inr fn))))
theorem r_sub (G : fGood l g A En own nm cc nL ret rm Post K) {f' : fH} (h : ∀ a e, f' a = some e → f a = some e) (kk : K f' cs ss pc lo st) : K f cs ss pc lo st := by
  obtain ⟨p, e, s, m, args, below, meth, c, Q, ⟨hx, hb, hr, hlk, hml, hown, hnm, hts⟩, hE, hQ, rfl⟩ := G
  exact fun H locs ls hW hS hl hn => kk H locs ls (fun a e he => hW a e (h a e he)) hS hl hn
theorem r_aald (G : fGood l g A En own nm cc nL ret rm Post K) {a n t : Nat} {cA : ClassId} {C : String} {fn : Nat → Option Nat} (he : f a = some (.inl (cA, rfA n fn))) (ht : (fTy g.2)[t]? = some (cA, .object C)) {i : Int32} {v : Value} (hin : vp_in i n) (hv : va_rf (fn i.toNatClampNeg) = v) (d : decode cc pc = .ok (.aaload, 1)) (kk : K f cs ss (pc + 1) lo (v :: st)) : K f cs ss pc lo (.int i :: .ref a :: st) := by
  obtain ⟨p, e, s, m, args, below, meth, c, Q, ⟨hx, hb, hr, hlk, hml, hown, hnm, hts⟩, hE, hQ, rfl⟩ := G
  subst hv
  exact fun H locs ls hW hS hl hn => va_aldq (D := g.1) (cl := fCl) (tys := fTy g.2) (ws := [(a, .inl (cA, rfA n fn))]) hx hb (hE.1.1 s hE.2) (hW.one he) 0 t rfl ht hin d (kk H locs ls hW hS hl hn)
theorem r_aast (G : fGood l g A En own nm cc nL ret rm Post K) {a n t v ci : Nat} {fs : List Value} {r : vw_C} {cA : ClassId} {C : String} {fn : Nat → Option Nat} (he : f a = some (.inl (cA, rfA n fn))) (ht : (fTy g.2)[t]? = some (cA, .object C)) (hA : A a) (hv : f v = some (.inr (ci, fs))) (hc : fCl[ci]? = some r) (hasg : r.1 = C ∨ ∀ U, En U → va_Nw (.castable r.1 C) U) {i : Int32} (hin : vp_in i n) {f' : fH} (hf' : fU f a (.inl (cA, rfA n (va_up fn i.toNatClampNeg (some v)))) = f') (d : decode cc pc = .ok (.aastore, 1)) (kk : K f' cs ss (pc + 1) lo st) : K f cs ss pc lo (.ref v :: .int i :: .ref a :: st) := by
  obtain ⟨p, e, s, m, args, below, meth, c, Q, ⟨hx, hb, hr, hlk, hml, hown, hnm, hts⟩, hE, hQ, rfl⟩ := G
  subst hf'
  intro H locs ls hW hS hl hn
  have hK := hE.1.1 s hE.2
  have hP := hW a _ he
  have hlt : i.toNatClampNeg < n := Nat.not_le.mp fun q => hin (Or.inr q)
  have h0 : ¬ i < 0 := fun q => hin (Or.inl q)
  obtain ⟨cellV, g1, g3, g2⟩ := va_recv (D := g.1) hK (hW.one hv) hc (q0 := 0) rfl
  obtain ⟨kA, comp, k1, k2, k3, -⟩ := (hK.2 t _ ht).2
  obtain ⟨kE, hkE, -⟩ := Vm.findClass_spec k3
  obtain ⟨kC, hkC, -⟩ := Vm.findClass_spec g2
  have hag : s.vm.assignable cellV.cls comp = true := by
    rcases hasg with q | q
    · rw [q] at g2
      exact vb_asgS _ _ k3 g2
    · exact vb_asgC (q s hE.2) _ _ k3 g2
  refine W.aast hx hb hP (fun q h => by cases h) (fun h => by cases h) k1 k2 rfl hkE ⟨h0, by show _ < (arrV _ _ _).slots.size; rw [arrV_size]; exact hlt⟩ g1 (fun q h => by rw [h] at g3; cases g3) hkC hag rfl rfl d fun H1 e1 z oq => ?_
  refine kk H1 _ ls (hW.set ?_ oq) (hS.put z oq hA) hl hn
  show H1[a]? = some (vp_cell _ _)
  rw [e1]
  rw [vp_cell_q, vp_cell_q, arrV_store]
  congr 2
  funext q
  by_cases hq : q = i.toNatClampNeg
  · subst hq
    simp [updV, va_up, va_rf]
  · simp [updV, va_up, hq]
theorem r_aastN (G : fGood l g A En own nm cc nL ret rm Post K) {a n t : Nat} {cA : ClassId} {C : String} {fn : Nat → Option Nat} (he : f a = some (.inl (cA, rfA n fn))) (ht : (fTy g.2)[t]? = some (cA, .object C)) (hA : A a) {i : Int32} (hin : vp_in i n) {f' : fH} (hf' : fU f a (.inl (cA, rfA n (va_up fn i.toNatClampNeg none))) = f') (d : decode cc pc = .ok (.aastore, 1)) (kk : K f' cs ss (pc + 1) lo st) : K f cs ss pc lo (.null :: .int i :: .ref a :: st) := by
  obtain ⟨p, e, s, m, args, below, meth, c, Q, ⟨hx, hb, hr, hlk, hml, hown, hnm, hts⟩, hE, hQ, rfl⟩ := G
  subst hf'
  intro H locs ls hW hS hl hn
  have hK := hE.1.1 s hE.2
  have hP := hW a _ he
  refine va_WaastN (C := C) hx hb hP ((hK.2 t _ ht).1 n (fun j => va_rf (fn j))) (fun h => by cases h) (by show ¬ (i < 0 ∨ (arrV _ _ _).slots.size ≤ _); rw [arrV_size]; exact hin) rfl rfl d fun H1 e1 z oq => ?_
  refine kk H1 _ ls (hW.set ?_ oq) (hS.put z oq hA) hl hn
  show H1[a]? = some (vp_cell _ _)
  rw [e1]
  rw [vp_cell_q, vp_cell_q, arrV_store]
  congr 2
  funext q
  by_cases hq : q = i.toNatClampNeg
  · subst hq
    simp [updV, va_up, va_rf]
  · simp [updV, va_up, hq]
theorem r_newq (G : fGood l g A En own nm cc nL ret rm Post K) {C : String} {t index : Nat} {cA0 : ClassId} (ht : (fTy g.2)[t]? = some (cA0, .object C)) (hq : Cond.classLink own index C ∈ lw_all) (hov : ∀ U, En U → va_AO C U) (hAn : ∀ U, En U → ∀ q, U.heap.size ≤ q → A q) {n : Int32} (N : Nat) (hn0 : ¬ n < 0) (hN : n.toNatClampNeg = N) (hby : N ≤ 65536) {cs' ss' : Nat} (hcs : cs + 1 = cs') (hss : ss + N = ss') (hc : cs' ≤ rm.cells ∧ ss' ≤ rm.slots) (d : decode cc pc = .ok (.anewarray index, 3)) (kk : ∀ q : Nat, f q = none → A q → K (fU f q (.inl (cA0, rfA N (fun _ => none)))) cs' ss' (pc + 3) lo (.ref q :: st)) : K f cs ss pc lo (.int n :: st) := by
  obtain ⟨p, e, s, m, args, below, meth, c, Q, ⟨hx, hb, hr, hlk, hml, hown, hnm, hts⟩, hE, hQ, rfl⟩ := G
  subst hcs; subst hss; subst hN
  intro H locs ls hW hS hl hn
  have hK := hE.1.1 s hE.2
  refine W.anew hx hb hown (hts _ hq) (va_AO.use (hov s hE.2)) rfl d rfl hn0 (by omega) hc.1 hc.2 fun cA kA comp f1 f2 f3 f4 => ?_
  obtain ⟨-, -, -, -, -, f5⟩ := (hK.2 t _ ht).2
  have hcA : cA = cA0 := Option.some.inj (f1.symm.trans f5)
  subst hcA
  generalize hH1 : H.push ({ cls := cA, slots := Array.replicate n.toNatClampNeg .null, vm := .none } : Cell) = H1
  have z1 : H1.size = H.size + 1 := by rw [← hH1, Array.size_push]
  have e1 : H1[H.size]? = some (arrV cA n.toNatClampNeg (fun _ => .null)) := by rw [← hH1, Array.getElem?_push_size, ← arrV_new]
  have o1 : ∀ q : Nat, q < H.size → H1[q]? = H[q]? := fun q hq => by rw [← hH1, Array.getElem?_push, if_neg (Nat.ne_of_lt hq)]
  exact kk H.size hW.fresh (hAn s hE.2 _ hS.1) H1 locs ls (hW.new (by show H1[H.size]? = some (vp_cell _ _); rw [vp_cell_q]; exact e1) rfl o1) ⟨Nat.le_trans hS.1 (by omega), fun x h1 h2 => (o1 x (Nat.lt_of_lt_of_le h1 hS.1)).trans (hS.2.1 x h1 h2), hS.2.2⟩ hl hn
theorem r_gets (G : fGood l g A En own nm cc nL ret rm Post K) {C n d' : String} {v : Value} {index : Nat} (hz : ∀ U, En U → va_Z C n d' v A U U.heap) (hq : Cond.fieldLink own index C n d' ∈ lw_all) (d : decode cc pc = .ok (.getstatic index, 3)) (kk : K f cs ss (pc + 3) lo (v :: st)) : K f cs ss pc lo st := by
  obtain ⟨p, e, s, m, args, below, meth, c, Q, ⟨hx, hb, hr, hlk, hml, hown, hnm, hts⟩, hE, hQ, rfl⟩ := G
  exact fun H locs ls hW hS hl hn => va_gets hx hb (hz s hE.2) hS hown (hts _ hq) (fun _ h9 => h9) d (kk H locs ls hW hS hl hn)
theorem r_cast (G : fGood l g A En own nm cc nL ret rm Post K) {a ci index : Nat} {fs : List Value} {r : vw_C} {C : String} (hv : f a = some (.inr (ci, fs))) (hc : fCl[ci]? = some r) (hasg : r.1 = C ∨ ∀ U, En U → va_Nw (.castable r.1 C) U) (hq : Cond.classLink own index C ∈ lw_all) (d : decode cc pc = .ok (.checkcast index, 3)) (kk : K f cs ss (pc + 3) lo (.ref a :: st)) : K f cs ss pc lo (.ref a :: st) := by
  obtain ⟨p, e, s, m, args, below, meth, c, Q, ⟨hx, hb, hr, hlk, hml, hown, hnm, hts⟩, hE, hQ, rfl⟩ := G
  intro H locs ls hW hS hl hn
  have hK := hE.1.1 s hE.2
  rcases hasg with q | q
  · subst q
    exact va_castS hx hb hown (hts _ hq) (hK.1 ci r hc).2 (va_recv (D := g.1) hK (hW.one hv) hc (q0 := 0) rfl) d (kk H locs ls hW hS hl hn)
  · exact va_castY hx hb hown (hts _ hq) (q s hE.2) (va_recv (D := g.1) hK (hW.one hv) hc (q0 := 0) rfl) d (kk H locs ls hW hS hl hn)
theorem r_castA (G : fGood l g A En own nm cc nL ret rm Post K) {a index t : Nat} {C : String} {cA : ClassId} {x : vp_A} {ty : FieldType} (hv : f a = some (.inl (cA, x))) (ht : (fTy g.2)[t]? = some (cA, ty)) (hty : ∀ C, ty ≠ .object C) (hn' : "[" ++ ty.toString = C) (hq : Cond.classLink own index C ∈ lw_all) (d : decode cc pc = .ok (.checkcast index, 3)) (kk : K f cs ss (pc + 3) lo (.ref a :: st)) : K f cs ss pc lo (.ref a :: st) := by
  obtain ⟨p, e, s, m, args, below, meth, c, Q, ⟨hx, hb, hr, hlk, hml, hown, hnm, hts⟩, hE, hQ, rfl⟩ := G
  intro H locs ls hW hS hl hn
  have hK := hE.1.1 s hE.2
  have h1 := (hK.2 t _ ht).2
  have h2 : s.vm.findClass C = some cA := by
    rw [← hn']
    unfold va_RA at h1
    cases ty with
    | object C' => exact absurd rfl (hty C')
    | _ => exact h1
  exact va_castA (D := g.1) (cl := fCl) (ws := [(a, .inl (cA, x))]) hx hb hown (hts _ hq) (hW.one hv) 0 rfl h2 d (kk H locs ls hW hS hl hn)
theorem fK_call5 {p : Program} {e : Env} {R : Room} {s : State} {m : MethodId} {args a : Array Value} {below : List Frame} {meth : Method} {c : Code} {H : Heap} {locs : List Loc} {mc ms : Nat} {ls : Array Slot} {st0 rest : List Value} {Q : State → Prop} {Post' : Option Value → fH → Prop} (hr : va_Run5 p l e R s m args below meth c H locs cs ss mc ms (F0 m pc ls st0) rest (fQ g A En Post' a) A) (hS : va_S A s.heap H locs)
    (kk : ∀ (v : Option Value) (f' : fH) (H1 : Heap) (locs1 : List Loc), fW g f' H1 → Post' v f' → va_S A s.heap H1 locs1 → W p l e R s m args below meth c H1 locs1 (cs + mc) (ss + ms) Q (F0 m (pc + 5) ls (v.toList ++ rest))) : W p l e R s m args below meth c H locs cs ss Q (F0 m pc ls st0) := by
  intro T hT X
  obtain ⟨v, st₀, t, T', L, h0, X', hL, e1, e2, ⟨⟨r, f', hv, hp, hW, hEn⟩, hz, hk⟩, st⟩ := hr T hT X
  cases hv
  rw [h0] at hz hk
  obtain ⟨t2, a1, b1⟩ := kk v f' T'.heap (locs ++ L) (by rw [e1]; exact hW) hp
    ⟨Nat.le_trans hS.1 (by rw [e1]; exact hz), fun q h1 h2 => by rw [e1, hk q (Nat.lt_of_lt_of_le h1 hS.1) h2]; exact hS.2.1 q h1 h2, fun q hq => by
      rcases List.mem_append.mp hq with h | h
      · exact hS.2.2 q h
      · exact hL q h⟩ T' rfl X'
  exact ⟨t2, st t2 a1, b1⟩
def fyX (x : MethodName) (n : Nat) : Prop := x.cls ≠ "java/lang/invoke/MethodHandle" ∧ x.cls ≠ "java/lang/invoke/VarHandle" ∧ (parseMethodDescriptor x.desc).map (fun d => d.parameters.length) = some n
theorem r_callF (G : fGood l g A En own nm cc nL ret rm Post K) {y : MethodName} {cc' : ByteArray} {nL' : Nat} {ret' : Option FieldType} {rm' : Room} {Post' : Option Value → fH → Prop} {n index : Nat} {st0 rest : List Value} (As : List Value) {count : Nat} {x : MethodName} {b ci : Nat} {fs : List Value} {q : vw_C} (M : fC l g A En y cc' nL' ret' rm' (.ref b :: As) f Post') (w : GoodIn lw_all (va_wsF own index q.1 x y (ws_ y cc' nL' ret'))) (hF : ∀ U, En U → va_Fw q.1 x y U) (hy : fyX x n) (hn : As.length = n) (hR : rm'.frames + 1 ≤ rm.frames ∧ 8 + (nL' + 11) + rm'.locals ≤ rm.locals) (he : f b = some (.inr (ci, fs))) (hci : fCl[ci]? = some q) (hs : st0 = As.reverse ++ .ref b :: rest) (hst : (rest.map fun v => v.category).sum ≤ 8) {cs' ss' : Nat} (hcs : cs + rm'.cells = cs') (hss : ss + rm'.slots = ss') (hc : cs' ≤ rm.cells ∧ ss' ≤ rm.slots) (d : decode cc pc = .ok (.invokeinterface index count, 5)) (kk : ∀ (v : Option Value) (f' : fH), Post' v f' → K f' cs' ss' (pc + 5) lo (v.toList ++ rest)) : K f cs ss pc lo st0 := by
  obtain ⟨p, e, s, m, args, below, meth, c, Q, ⟨hx, hb, hr, hlk, hml, hown, hnm, hts⟩, hE, hQ, rfl⟩ := G
  subst hcs; subst hss; subst hs
  intro H locs ls hW hS hl hn0
  have hK := hE.1.1 s hE.2
  exact fK_call5 (va_runF (As := As) (rest := rest) (hK.1 ci q hci).2 ⟨hx, hb, hml, hown, hts⟩ M (va_cwF n hts w rfl rfl rfl (hF s hE.2) hy hR) ⟨fC_blind hE.1, va_recv (D := g.1) hK (hW.one he) hci (q0 := 0) rfl, fun U hU hWm => ⟨rfl, by rw [hU]; exact hW, hE.1.2 s U (fE0.of hS hU hWm) hE.2⟩⟩ rfl hn (by rw [← hn0]; exact hl.1) rfl (lv_room hst) d hc) hS (fun v f' H1 locs1 hW1 hp hS1 => kk v f' hp H1 locs1 ls hW1 hS1 hl hn0)
theorem r_callU (G : fGood l g A En own nm cc nL ret rm Post K) {y : MethodName} {cc' : ByteArray} {nL' : Nat} {ret' : Option FieldType} {rm' : Room} {Post' : Option Value → fH → Prop} {n index : Nat} {st0 rest : List Value} (As : List Value) {owner : String} {x : MethodName} {b ci : Nat} {fs : List Value} {q : vw_C} (M : fC l g A En y cc' nL' ret' rm' (.ref b :: As) f Post') (w : GoodIn lw_all (va_wsU own index q.1 owner x y (ws_ y cc' nL' ret'))) (hyx : y = ⟨owner, x.name, x.desc⟩) (hy : owner ≠ "java/lang/invoke/MethodHandle" ∧ owner ≠ "java/lang/invoke/VarHandle" ∧ (parseMethodDescriptor x.desc).map (fun d => d.parameters.length) = some n) (hn : As.length = n) (hR : rm'.frames + 1 ≤ rm.frames ∧ 8 + (nL' + 11) + rm'.locals ≤ rm.locals) (he : f b = some (.inr (ci, fs))) (hci : fCl[ci]? = some q) (hs : st0 = As.reverse ++ .ref b :: rest) (hst : (rest.map fun v => v.category).sum ≤ 8) {cs' ss' : Nat} (hcs : cs + rm'.cells = cs') (hss : ss + rm'.slots = ss') (hc : cs' ≤ rm.cells ∧ ss' ≤ rm.slots) (d : decode cc pc = .ok (.invokevirtual index, 3)) (kk : ∀ (v : Option Value) (f' : fH), Post' v f' → K f' cs' ss' (pc + 3) lo (v.toList ++ rest)) : K f cs ss pc lo st0 := by
  obtain ⟨p, e, s, m, args, below, meth, c, Q, ⟨hx, hb, hr, hlk, hml, hown, hnm, hts⟩, hE, hQ, rfl⟩ := G
  subst hcs; subst hss; subst hs
  intro H locs ls hW hS hl hn0
  have hK := hE.1.1 s hE.2
  exact fK_call (va_runU (As := As) (rest := rest) ⟨hx, hb, hml, hown, hts⟩ M (va_cwU n hts w rfl rfl rfl hyx hy hR) ⟨fC_blind hE.1, va_recv (D := g.1) hK (hW.one he) hci (q0 := 0) rfl, fun U hU hWm => ⟨rfl, by rw [hU]; exact hW, hE.1.2 s U (fE0.of hS hU hWm) hE.2⟩⟩ rfl hn (by rw [← hn0]; exact hl.1) rfl (lv_room hst) d hc) hS (fun v f' H1 locs1 hW1 hp hS1 => kk v f' hp H1 locs1 ls hW1 hS1 hl hn0)
theorem r_callO (G : fGood l g A En own nm cc nL ret rm Post K) {y : MethodName} {cc' : ByteArray} {nL' : Nat} {ret' : Option FieldType} {rm' : Room} {Post' : Option Value → fH → Prop} {n index : Nat} {st0 rest : List Value} (As : List Value) {owner : String} {x : MethodName} {b ci : Nat} {fs : List Value} {q : vw_C} (M : fC l g A En y cc' nL' ret' rm' (.ref b :: As) f Post') (w : GoodIn lw_all (va_wsO own index q.1 owner x y (ws_ y cc' nL' ret'))) {b0 : ByteArray} {n0 : Nat} {r0 : Option FieldType} (hcode : Cond.code ⟨owner, x.name, x.desc⟩ b0 n0 r0 ∈ lw_all) (hy : owner ≠ "java/lang/invoke/MethodHandle" ∧ owner ≠ "java/lang/invoke/VarHandle" ∧ (parseMethodDescriptor x.desc).map (fun d => d.parameters.length) = some n) (hn : As.length = n) (hR : rm'.frames + 1 ≤ rm.frames ∧ 8 + (nL' + 11) + rm'.locals ≤ rm.locals) (he : f b = some (.inr (ci, fs))) (hci : fCl[ci]? = some q) (hs : st0 = As.reverse ++ .ref b :: rest) (hst : (rest.map fun v => v.category).sum ≤ 8) {cs' ss' : Nat} (hcs : cs + rm'.cells = cs') (hss : ss + rm'.slots = ss') (hc : cs' ≤ rm.cells ∧ ss' ≤ rm.slots) (d : decode cc pc = .ok (.invokevirtual index, 3)) (kk : ∀ (v : Option Value) (f' : fH), Post' v f' → K f' cs' ss' (pc + 3) lo (v.toList ++ rest)) : K f cs ss pc lo st0 := by
  obtain ⟨p, e, s, m, args, below, meth, c, Q, ⟨hx, hb, hr, hlk, hml, hown, hnm, hts⟩, hE, hQ, rfl⟩ := G
  subst hcs; subst hss; subst hs
  intro H locs ls hW hS hl hn0
  have hK := hE.1.1 s hE.2
  exact fK_call (va_runU (As := As) (rest := rest) ⟨hx, hb, hml, hown, hts⟩ M (va_cwO n hts w rfl rfl rfl hcode hy hR) ⟨fC_blind hE.1, va_recv (D := g.1) hK (hW.one he) hci (q0 := 0) rfl, fun U hU hWm => ⟨rfl, by rw [hU]; exact hW, hE.1.2 s U (fE0.of hS hU hWm) hE.2⟩⟩ rfl hn (by rw [← hn0]; exact hl.1) rfl (lv_room hst) d hc) hS (fun v f' H1 locs1 hW1 hp hS1 => kk v f' hp H1 locs1 ls hW1 hS1 hl hn0)
theorem r_callSU (G : fGood l g A En own nm cc nL ret rm Post K) {y : MethodName} {cc' : ByteArray} {nL' : Nat} {ret' : Option FieldType} {rm' : Room} {Post' : Option Value → fH → Prop} {n index : Nat} {st0 rest : List Value} (As : List Value) {b ci : Nat} {fs : List Value} {q : vw_C} (M : fC l g A En y cc' nL' ret' rm' (.ref b :: As) f Post') (w : GoodIn lw_all (va_wsSU own index y (ws_ y cc' nL' ret'))) (hy : y.name ≠ "<init>" ∧ (parseMethodDescriptor y.desc).map (fun d => d.parameters.length) = some n) (hn : As.length = n) (hR : rm'.frames + 1 ≤ rm.frames ∧ 8 + (nL' + 11) + rm'.locals ≤ rm.locals) (he : f b = some (.inr (ci, fs))) (hci : fCl[ci]? = some q) (hs : st0 = As.reverse ++ .ref b :: rest) (hst : (rest.map fun v => v.category).sum ≤ 8) {cs' ss' : Nat} (hcs : cs + rm'.cells = cs') (hss : ss + rm'.slots = ss') (hc : cs' ≤ rm.cells ∧ ss' ≤ rm.slots) (d : decode cc pc = .ok (.invokespecial index, 3)) (kk : ∀ (v : Option Value) (f' : fH), Post' v f' → K f' cs' ss' (pc + 3) lo (v.toList ++ rest)) : K f cs ss pc lo st0 := by
  obtain ⟨p, e, s, m, args, below, meth, c, Q, ⟨hx, hb, hr, hlk, hml, hown, hnm, hts⟩, hE, hQ, rfl⟩ := G
  subst hcs; subst hss; subst hs
  intro H locs ls hW hS hl hn0
  have hK := hE.1.1 s hE.2
  exact fK_call (va_runSU (As := As) (rest := rest) (hK.1 ci q hci).2 ⟨hx, hb, hml, hown, hts⟩ M (va_cwSU n hts w rfl rfl rfl hy hR) ⟨fC_blind hE.1, va_recv (D := g.1) hK (hW.one he) hci (q0 := 0) rfl, fun U hU hWm => ⟨rfl, by rw [hU]; exact hW, hE.1.2 s U (fE0.of hS hU hWm) hE.2⟩⟩ rfl hn (by rw [← hn0]; exact hl.1) rfl (lv_room hst) d hc) hS (fun v f' H1 locs1 hW1 hp hS1 => kk v f' hp H1 locs1 ls hW1 hS1 hl hn0)
theorem r_callVN (G : fGood l g A En own nm cc nL ret rm Post K) {y : MethodName} {cc' : ByteArray} {nL' : Nat} {ret' : Option FieldType} {rm' : Room} {Post' : Option Value → fH → Prop} {n index : Nat} {st0 rest : List Value} (As : List Value) {host : String} {b ci : Nat} {fs : List Value} {q : vw_C} (M : fC l g A En y cc' nL' ret' rm' (.ref b :: As) f Post') (h1 : Cond.code y cc' nL' ret' ∈ lw_all) (h2 : Cond.initialized y.cls ∈ lw_all) (h3 : ∀ U, En U → va_Nw (.methodLinkNest own index y host) U) (h4 : Cond.instanceMethod y ∈ lw_all) (h5 : Cond.selects q.1 y y ∈ lw_all) (hy : fyN y n) (hn : As.length = n) (hR : rm'.frames + 1 ≤ rm.frames ∧ 8 + (nL' + 11) + rm'.locals ≤ rm.locals) (he : f b = some (.inr (ci, fs))) (hci : fCl[ci]? = some q) (hs : st0 = As.reverse ++ .ref b :: rest) (hst : (rest.map fun v => v.category).sum ≤ 8) {cs' ss' : Nat} (hcs : cs + rm'.cells = cs') (hss : ss + rm'.slots = ss') (hc : cs' ≤ rm.cells ∧ ss' ≤ rm.slots) (d : decode cc pc = .ok (.invokevirtual index, 3)) (kk : ∀ (v : Option Value) (f' : fH), Post' v f' → K f' cs' ss' (pc + 3) lo (v.toList ++ rest)) : K f cs ss pc lo st0 := by
  obtain ⟨p, e, s, m, args, below, meth, c, Q, ⟨hx, hb, hr, hlk, hml, hown, hnm, hts⟩, hE, hQ, rfl⟩ := G
  subst hcs; subst hss; subst hs
  intro H locs ls hW hS hl hn0
  have hK := hE.1.1 s hE.2
  exact fK_call (va_runVN (As := As) (rest := rest) ⟨hx, hb, hml, hown, hts⟩ M ⟨va_cnB n hts (lw_meth h1) rfl rfl rfl (h3 s hE.2) (hts _ h2) hy hR, hts _ h4, hts _ h5⟩ ⟨fC_blind hE.1, va_recv (D := g.1) hK (hW.one he) hci (q0 := 0) rfl, fun U hU hWm => ⟨rfl, by rw [hU]; exact hW, hE.1.2 s U (fE0.of hS hU hWm) hE.2⟩⟩ rfl hn (by rw [← hn0]; exact hl.1) rfl (lv_room hst) d hc) hS (fun v f' H1 locs1 hW1 hp hS1 => kk v f' hp H1 locs1 ls hW1 hS1 hl hn0)
theorem r_callSN (G : fGood l g A En own nm cc nL ret rm Post K) {y : MethodName} {cc' : ByteArray} {nL' : Nat} {ret' : Option FieldType} {rm' : Room} {Post' : Option Value → fH → Prop} {n index : Nat} {st0 rest : List Value} (As : List Value) {host : String} (M : fC l g A En y cc' nL' ret' rm' As f Post') (h1 : Cond.code y cc' nL' ret' ∈ lw_all) (h2 : Cond.initialized y.cls ∈ lw_all) (h3 : ∀ U, En U → va_Nw (.methodLinkNest own index y host) U) (h4 : Cond.static y ∈ lw_all) (hy : fyN y n) (hn : As.length = n) (hR : rm'.frames + 1 ≤ rm.frames ∧ 8 + (nL' + 11) + rm'.locals ≤ rm.locals) (hs : st0 = As.reverse ++ rest) (hst : (rest.map fun v => v.category).sum ≤ 8) {cs' ss' : Nat} (hcs : cs + rm'.cells = cs') (hss : ss + rm'.slots = ss') (hc : cs' ≤ rm.cells ∧ ss' ≤ rm.slots) (d : decode cc pc = .ok (.invokestatic index, 3)) (kk : ∀ (v : Option Value) (f' : fH), Post' v f' → K f' cs' ss' (pc + 3) lo (v.toList ++ rest)) : K f cs ss pc lo st0 := by
  obtain ⟨p, e, s, m, args, below, meth, c, Q, ⟨hx, hb, hr, hlk, hml, hown, hnm, hts⟩, hE, hQ, rfl⟩ := G
  subst hcs; subst hss; subst hs
  intro H locs ls hW hS hl hn0
  have hK := hE.1.1 s hE.2
  exact fK_call (va_runSN (As := As) (rest := rest) ⟨hx, hb, hml, hown, hts⟩ M ⟨va_cnB n hts (lw_meth h1) rfl rfl rfl (h3 s hE.2) (hts _ h2) hy hR, hts _ h4, trivial⟩ ⟨fC_blind hE.1, fun U hU hWm => ⟨rfl, by rw [hU]; exact hW, hE.1.2 s U (fE0.of hS hU hWm) hE.2⟩⟩ rfl hn (by rw [← hn0]; exact hl.1) rfl (lv_room hst) d hc) hS (fun v f' H1 locs1 hW1 hp hS1 => kk v f' hp H1 locs1 ls hW1 hS1 hl hn0)
theorem r_callIN (G : fGood l g A En own nm cc nL ret rm Post K) {y : MethodName} {cc' : ByteArray} {nL' : Nat} {rm' : Room} {Post' : Option Value → fH → Prop} {n index : Nat} {st0 rest : List Value} (As : List Value) {host : String} {b : Nat} (M : fC l g A En y cc' nL' none rm' (.ref b :: As) f Post') (h1 : Cond.code y cc' nL' none ∈ lw_all) (h2 : Cond.initialized y.cls ∈ lw_all) (h3 : ∀ U, En U → va_Nw (.methodLinkNest own index y host) U) (h4 : Cond.instanceMethod y ∈ lw_all) (h5 : y.name = "<init>") (hy : fyN y n) (hn : As.length = n) (hR : rm'.frames + 1 ≤ rm.frames ∧ 8 + (nL' + 11) + rm'.locals ≤ rm.locals) (hs : st0 = As.reverse ++ .ref b :: rest) (hst : (rest.map fun v => v.category).sum ≤ 8) {cs' ss' : Nat} (hcs : cs + rm'.cells = cs') (hss : ss + rm'.slots = ss') (hc : cs' ≤ rm.cells ∧ ss' ≤ rm.slots) (d : decode cc pc = .ok (.invokespecial index, 3)) (kk : ∀ (v : Option Value) (f' : fH), Post' v f' → K f' cs' ss' (pc + 3) lo (v.toList ++ rest)) : K f cs ss pc lo st0 := by
  obtain ⟨p, e, s, m, args, below, meth, c, Q, ⟨hx, hb, hr, hlk, hml, hown, hnm, hts⟩, hE, hQ, rfl⟩ := G
  subst hcs; subst hss; subst hs
  intro H locs ls hW hS hl hn0
  have hK := hE.1.1 s hE.2
  exact fK_call (va_runIN (As := As) (rest := rest) ⟨hx, hb, hml, hown, hts⟩ M ⟨va_cnB n hts (lw_meth h1) rfl rfl rfl (h3 s hE.2) (hts _ h2) hy hR, h5, hts _ h4⟩ ⟨fC_blind hE.1, fun U hU hWm => ⟨rfl, by rw [hU]; exact hW, hE.1.2 s U (fE0.of hS hU hWm) hE.2⟩⟩ rfl hn (by rw [← hn0]; exact hl.1) rfl (lv_room hst) d hc) hS (fun v f' H1 locs1 hW1 hp hS1 => kk v f' hp H1 locs1 ls hW1 hS1 hl hn0)
theorem r_ldcw (G : fGood l g A En own nm cc nL ret rm Post K) {index : Nat} {v : Int32} (hq : Cond.constant own index v ∈ lw_all) (d : decode cc pc = .ok (.ldc_w index, 3)) (kk : K f cs ss (pc + 3) lo (.int v :: st)) : K f cs ss pc lo st := by
  obtain ⟨p, e, s, m, args, below, meth, c, Q, ⟨hx, hb, hr, hlk, hml, hown, hnm, hts⟩, hE, hQ, rfl⟩ := G
  exact fun H locs ls hW hS hl hn => lv_ldcw hx hb hown (hts _ hq) d (kk H locs ls hW hS hl hn)
theorem r_mmax (G : fGood l g A En own nm cc nL ret rm Post K) {index : Nat} {x y v : Int32} (h1 : Cond.methodLink own index Lib.Math.max.name ∈ lw_all) (h2 : Cond.static Lib.Math.max.name ∈ lw_all) (h3 : Cond.initialized "java/lang/Math" ∈ lw_all) (h4 : Cond.code Lib.Math.max.name Lib.Math.max.code 2 (some .int) ∈ lw_all) (hR : 1 ≤ rm.frames ∧ 21 ≤ rm.locals) (hst : (st.map fun v => v.category).sum ≤ 8) (hc : cs ≤ rm.cells ∧ ss ≤ rm.slots) (hv : (if x < y then y else x) = v) (d : decode cc pc = .ok (.invokestatic index, 3)) (kk : K f cs ss (pc + 3) lo (.int v :: st)) : K f cs ss pc lo (.int y :: .int x :: st) := by
  obtain ⟨p, e, s, m, args, below, meth, c, Q, ⟨hx, hb, hr, hlk, hml, hown, hnm, hts⟩, hE, hQ, rfl⟩ := G
  subst hv
  exact fun H locs ls hW hS hl hn => va_mmax hx hb (by rw [hml, ← hn]; exact hl.1.symm) hown (hts _ h1) (hts _ h2) (hts _ h3) (hts _ h4) hR.1 (by have := hR.2; omega) hc.1 hc.2 d (kk H locs ls hW hS hl hn)
theorem r_mmin (G : fGood l g A En own nm cc nL ret rm Post K) {index : Nat} {x y v : Int32} (h1 : Cond.methodLink own index Lib.Math.min.name ∈ lw_all) (h2 : Cond.static Lib.Math.min.name ∈ lw_all) (h3 : Cond.initialized "java/lang/Math" ∈ lw_all) (h4 : Cond.code Lib.Math.min.name Lib.Math.min.code 2 (some .int) ∈ lw_all) (hR : 1 ≤ rm.frames ∧ 21 ≤ rm.locals) (hst : (st.map fun v => v.category).sum ≤ 8) (hc : cs ≤ rm.cells ∧ ss ≤ rm.slots) (hv : (if y < x then y else x) = v) (d : decode cc pc = .ok (.invokestatic index, 3)) (kk : K f cs ss (pc + 3) lo (.int v :: st)) : K f cs ss pc lo (.int y :: .int x :: st) := by
  obtain ⟨p, e, s, m, args, below, meth, c, Q, ⟨hx, hb, hr, hlk, hml, hown, hnm, hts⟩, hE, hQ, rfl⟩ := G
  subst hv
  exact fun H locs ls hW hS hl hn => va_mmin hx hb (by rw [hml, ← hn]; exact hl.1.symm) hown (hts _ h1) (hts _ h2) (hts _ h3) (hts _ h4) hR.1 (by have := hR.2; omega) hc.1 hc.2 d (kk H locs ls hW hS hl hn)
theorem mmaxN {a b : Nat} (ha : a < 2 ^ 31) (hb : b < 2 ^ 31) : (if nI a < nI b then nI b else nI a) = nI (max a b) := by
  by_cases h : a < b
  · rw [if_pos (nI_lt h hb), show max a b = b by omega]
  · rw [if_neg (nI_nlt (by omega) ha), show max a b = a by omega]
theorem mminN {a b : Nat} (ha : a < 2 ^ 31) (hb : b < 2 ^ 31) : (if nI b < nI a then nI b else nI a) = nI (min a b) := by
  by_cases h : b < a
  · rw [if_pos (nI_lt h ha), show min a b = b by omega]
  · rw [if_neg (nI_nlt (by omega) hb), show min a b = a by omega]
theorem mmax_code : Cond.code Lib.Math.max.name Lib.Math.max.code 2 (some .int) ∈ lw_all := q262
theorem mmin_code : Cond.code Lib.Math.min.name Lib.Math.min.code 2 (some .int) ∈ lw_all := q340
theorem r_astore_nQ (G : fGood l g A En own nm cc nL ret rm Post K) {r : Option Nat} {k : Fin 4} {lo' : fL} (d : decode cc pc = .ok (.astore_n k, 1)) (hk : fok lo (k : Nat) = true) (hv : lo.set (k : Nat) (some (va_rf r)) = lo') (kk : K f cs ss (pc + 1) lo' st) : K f cs ss pc lo (va_rf r :: st) := by
  cases r with
  | none => exact r_astore_nN G d hk hv kk
  | some x => exact r_astore_n G d hk hv kk
theorem r_aload_nQ (G : fGood l g A En own nm cc nL ret rm Post K) {r : Option Nat} {k : Fin 4} (d : decode cc pc = .ok (.aload_n k, 1)) (hv : lo[(k : Nat)]? = some (some (va_rf r))) (kk : K f cs ss (pc + 1) lo (va_rf r :: st)) : K f cs ss pc lo st := by
  cases r with
  | none => exact r_aload_nN G d hv kk
  | some x => exact r_aload_n G d hv kk
theorem r_astoreQ (G : fGood l g A En own nm cc nL ret rm Post K) {r : Option Nat} {i : Nat} {lo' : fL} (d : decode cc pc = .ok (.astore i, 2)) (hk : fok lo i = true) (hv : lo.set i (some (va_rf r)) = lo') (kk : K f cs ss (pc + 2) lo' st) : K f cs ss pc lo (va_rf r :: st) := by
  cases r with
  | none => exact r_astoreN G d hk hv kk
  | some x => exact r_astore G d hk hv kk
theorem r_aloadQ (G : fGood l g A En own nm cc nL ret rm Post K) {r : Option Nat} {i : Nat} (d : decode cc pc = .ok (.aload i, 2)) (hv : lo[i]? = some (some (va_rf r))) (kk : K f cs ss (pc + 2) lo (va_rf r :: st)) : K f cs ss pc lo st := by
  cases r with
  | none => exact r_aloadN G d hv kk
  | some x => exact r_aload G d hv kk
theorem r_getfS (G : fGood l g A En own nm cc nL ret rm Post K) {ci : Nat} {C : String} {T : u_T} {N : Nat} {ty : Nat → FieldType} (hc : fCls ci C T N ty) {a index : Nat} {fs : List Value} (he : f a = some (.inr (ci, fs))) {ref : String} (k : Nat) (hk : k < N) (hq : Cond.fieldLink own index ref (T k).2.1 (T k).2.2.1 ∈ lw_all) (hs : Cond.sameField ref (T k).1 (T k).2.1 (T k).2.2.1 ∈ lw_all) {v : Value} (hv : fs[k]? = some v) (d : decode cc pc = .ok (.getfield index, 3)) (kk : K f cs ss (pc + 3) lo (v :: st)) : K f cs ss pc lo (.ref a :: st) := by
  obtain ⟨p, e, s, m, args, below, meth, c, Q, ⟨hx, hb, hr, hlk, hml, hown, hnm, hts⟩, hE, hQ, rfl⟩ := G
  exact fun H locs ls hW hS hl hn => va_get (D := g.1) (ws := [(a, .inr (ci, fs))]) hx hb hts hc.2.1 hown (hE.1.1 s hE.2) (hW.one he) 0 rfl hc.1 k hk (hts _ hq) (u_same (hts _ hs)) hv d (kk H locs ls hW hS hl hn)
theorem r_putfS (G : fGood l g A En own nm cc nL ret rm Post K) {ci : Nat} {C : String} {T : u_T} {N : Nat} {ty : Nat → FieldType} (hc : fCls ci C T N ty) {a index : Nat} {fs : List Value} (he : f a = some (.inr (ci, fs))) (hA : A a) {ref : String} (k : Nat) (hk : k < N) (hq : Cond.fieldLink own index ref (T k).2.1 (T k).2.2.1 ∈ lw_all) (hs : Cond.sameField ref (T k).1 (T k).2.1 (T k).2.2.1 ∈ lw_all) (hfin : (T k).2.2.2 = false) {v : Value} (hn : narrow (ty k) v = v) (hfit : fits (ty k) v = true) (hl : k < fs.length) {f' : fH} (hf' : fU f a (.inr (ci, fs.set k v)) = f') (d : decode cc pc = .ok (.putfield index, 3)) (kk : K f' cs ss (pc + 3) lo st) : K f cs ss pc lo (v :: .ref a :: st) := by
  obtain ⟨p, e, s, m, args, below, meth, c, Q, ⟨hx, hb, hr, hlk, hml, hown, hnm, hts⟩, hE, hQ, rfl⟩ := G
  subst hf'
  intro H locs ls hW hS hl0 hn0
  have hK := hE.1.1 s hE.2
  obtain ⟨h0, hin, hty, hnmT⟩ := hc
  have hap := fl_apart hts hin ty hty hnmT hK h0
  obtain ⟨r, h1, cell, q1, q2, q3, q4⟩ := hW a _ he
  have hr : r = (C, T, N) := Option.some.inj (h1.symm.trans h0)
  subst hr
  obtain ⟨hSl, hfc, kC, hkC, hkind⟩ := hK.1 ci _ h0
  obtain ⟨cf, kf, fi, fd, hi, hsl⟩ := hSl k hk
  have hlay := hts _ (hin _ (u_in_lay hk))
  unfold u_lay at hlay
  rw [if_neg (by rw [hfin]; decide)] at hlay
  have hst := (u_facts hfc hkC (u_lays hts hin hk) hi).1
  have h6 := u_store hfc hkC hkind hlay hi (hty k hk) hn hfit
  refine W.putK hx hb (f := fd) ⟨hown, hts _ hq, ⟨_, _, _, u_same (hts _ hs) _ hi⟩, hst⟩ (by rw [q2]; exact h6) q1 q3 (by rw [hsl]; exact k2_hasslot (q4 k hk)) rfl rfl d fun H' e1 e2 e3 => ?_
  rw [hsl] at e1 ⊢
  exact kk H' _ ls (hW.set ⟨_, h0, t_OB.to (V := updV (vp_V fs) k v) ⟨_, e1, q2, q3, t_set q4 hap hk v⟩ (fun j _ => vp_updV_set hl v j)⟩ e3) (hS.put e2 e3 hA) hl0 hn0
theorem r_ldcM (G : fGood l g A En own nm cc nL ret rm Post K) {C : String} {index mi : Nat} (hM : ∀ U, En U → va_Mi C mi U) (hq : Cond.classLink own index C ∈ lw_all) (d : decode cc pc = .ok (.ldc index, 2)) (kk : K f cs ss (pc + 2) lo (.ref mi :: st)) : K f cs ss pc lo st := by
  obtain ⟨p, e, s, m, args, below, meth, c, Q, ⟨hx, hb, hr, hlk, hml, hown, hnm, hts⟩, hE, hQ, rfl⟩ := G
  exact fun H locs ls hW hS hl hn => va_ldcM hx hb hown (hts _ hq) (hM s hE.2) d (kk H locs ls hW hS hl hn)
theorem r_getC (G : fGood l g A En own nm cc nL ret rm Post K) {C nm' : String} {index mi t a : Nat} {cA : ClassId} {x : vp_A} (hM : ∀ U, En U → va_Mi nm' mi U) (hDc : ∀ U, En U → va_Dc U) (he : f a = some (.inl (cA, x))) (ht : (fTy g.2)[t]? = some (cA, .object C)) (hnm' : "[" ++ (FieldType.object C).toString = nm') (h1 : Cond.methodLink own index ⟨"java/lang/Object", "getClass", "()Ljava/lang/Class;"⟩ ∈ lw_all) (h2 : Cond.selects nm' ⟨"java/lang/Object", "getClass", "()Ljava/lang/Class;"⟩ ⟨"java/lang/Object", "getClass", "()Ljava/lang/Class;"⟩ ∈ lw_all) (h3 : Cond.instanceMethod ⟨"java/lang/Object", "getClass", "()Ljava/lang/Class;"⟩ ∈ lw_all) (h4 : Cond.native ⟨"java/lang/Object", "getClass", "()Ljava/lang/Class;"⟩ ∈ lw_all) (hR : 1 ≤ rm.frames ∧ 22 ≤ rm.locals) (hst : (st.map fun v => v.category).sum ≤ 8) (d : decode cc pc = .ok (.invokevirtual index, 3)) (kk : K f cs ss (pc + 3) lo (.ref mi :: st)) : K f cs ss pc lo (.ref a :: st) := by
  obtain ⟨p, e, s, m, args, below, meth, c, Q, ⟨hx, hb, hr, hlk, hml, hown, hnm, hts⟩, hE, hQ, rfl⟩ := G
  intro H locs ls hW hS hl hn
  have hK := hE.1.1 s hE.2
  have hP : H[a]? = some (vp_cell cA x) := hW a _ he
  have hvm0 : (vp_cell cA x).vm.isStatics = false := by
    obtain ⟨n, f | f | f | f | f⟩ := x <;> rfl
  have hcl0 : (vp_cell cA x).cls = cA := by
    obtain ⟨n, f | f | f | f | f⟩ := x <;> rfl
  exact va_getC hx hb (by rw [hml, ← hn]; exact hl.1.symm) hown (hts _ h1) ((hDc s hE.2).use) (hts _ h2) (hts _ h3) (hts _ h4) (hM s hE.2) ⟨_, hP, hvm0, by rw [hcl0]; exact va_nmO (hK.2 t _ ht).2 hnm'⟩ hR.1 (by have := hR.2; omega) d (kk H locs ls hW hS hl hn)
theorem r_copyq (G : fGood l g A En own nm cc nL ret rm Post K) {a a0 t0 t1 n0 n1 index : Nat} {c0 c1 : ClassId} {fn gn : Nat → Option Nat} {E0 E1 : String} (ha0 : f a0 = some (.inl (c0, rfA n0 fn))) (ha1 : f a = some (.inl (c1, rfA n1 gn))) (ht0 : (fTy g.2)[t0]? = some (c0, .object E0)) (ht1 : (fTy g.2)[t1]? = some (c1, .object E1)) (hA : A a) (sp dp n : Nat) (h4 : sp + n ≤ n0) (h5 : dp + n ≤ n1) (hb' : n0 < 2 ^ 31 ∧ n1 < 2 ^ 31) (hel : ∀ i : Nat, i < n → ∀ y : Nat, fn (sp + i) = some y → ∃ (ci : Nat) (fs : List Value) (r : vw_C), f y = some (.inr (ci, fs)) ∧ fCl[ci]? = some r ∧ (r.1 = E1 ∨ ∀ U, En U → va_Nw (.castable r.1 E1) U)) (w1 : Cond.methodLink own index arraycopyName ∈ lw_all) (w2 : Cond.native arraycopyName ∈ lw_all) (w3 : Cond.static arraycopyName ∈ lw_all) (w4 : Cond.initialized "java/lang/System" ∈ lw_all) (hR : 1 ≤ rm.frames ∧ 30 ≤ rm.locals) (hst : (st.map fun v => v.category).sum ≤ 8) {f' : fH} (hf' : fU f a (.inl (c1, rfA n1 (va_cpy fn gn sp dp n))) = f') (d : decode cc pc = .ok (.invokestatic index, 3)) (kk : K f' cs ss (pc + 3) lo st) : K f cs ss pc lo (.int (nI n) :: .int (nI dp) :: .ref a :: .int (nI sp) :: .ref a0 :: st) := by
  obtain ⟨p, e, s, m, args, below, meth, c, Q, ⟨hx, hb, hr, hlk, hml, hown, hnm, hts⟩, hE, hQ, rfl⟩ := G
  subst hf'
  intro H locs ls hW hS hl hn
  have hK := hE.1.1 s hE.2
  have esp : (nI sp).toNatClampNeg = sp := nI_clamp (by omega)
  have edp : (nI dp).toNatClampNeg = dp := nI_clamp (by omega)
  have en : (nI n).toNatClampNeg = n := nI_clamp (by omega)
  intro T hT X
  have hc0 : H[a0]? = some (vp_cell c0 (rfA n0 fn)) := hW a0 _ ha0
  have hc1 : H[a]? = some (vp_cell c1 (rfA n1 gn)) := hW a _ ha1
  obtain ⟨-, k0, hk0, cm0, hkk0⟩ := (hK.2 t0 _ ht0).1 n0 (fun j => va_rf (fn j))
  obtain ⟨-, k1, hk1, cm1, hkk1⟩ := (hK.2 t1 _ ht1).1 n1 (fun j => va_rf (gn j))
  obtain ⟨vm', X', step⟩ := X.arraycopy hx hown (hts _ w1) (hts _ w2) (hts _ w3) (hts _ w4) (src := a0) (dst := a) (cs := vp_cell c0 (rfA n0 fn)) (cd := vp_cell c1 (rfA n1 gn)) (srcPos := nI sp) (destPos := nI dp) (n := nI n) (by rw [hT]; exact hc0) (by rw [hT]; exact hc1)
    (fun _ h => by cases h) (fun _ h => by cases h) (fun h => by cases h) (fun h => by cases h) hk0 hk1 hkk0 hkk1 rfl (nI_pos (by omega)) (nI_pos (by omega)) (nI_pos (by omega))
    (by rw [nI_toInt (by omega), nI_toInt (by omega)]; show ¬ _ > ((arrV c0 n0 (fun j => va_rf (fn j))).slots.size : Int); rw [arrV_size]; omega)
    (by rw [nI_toInt (by omega), nI_toInt (by omega)]; show ¬ _ > ((arrV c1 n1 (fun j => va_rf (gn j))).slots.size : Int); rw [arrV_size]; omega)
    (fun vm₁ hal i hi => by
      rw [esp]
      rw [en] at hi
      have e : (vp_cell c0 (rfA n0 fn)).slots.getD (sp + i) .null = va_rf (fn (sp + i)) := by
        show (arrV c0 n0 (fun j => va_rf (fn j))).slots.getD _ _ = _
        rw [Array.getD_eq_getD_getElem?, arrV_read _ _ (by omega)]
        rfl
      rw [e]
      cases hy : fn (sp + i) with
      | none => exact ⟨rfl, trivial⟩
      | some y =>
        obtain ⟨ci, fs, r, hv, hc, hasg⟩ := hel i hi y hy
        obtain ⟨cellV, g1, g2, g3⟩ := va_recv (D := g.1) hK (hW.one hv) hc (q0 := 0) rfl
        obtain ⟨kA, comp, r1, r2, r3, -⟩ := (hK.2 t1 _ ht1).2
        cases hk1.symm.trans r1
        cases hkk1.symm.trans r2
        obtain ⟨kC, hkC, -⟩ := Vm.findClass_spec g3
        obtain ⟨kE, hkE, -⟩ := Vm.findClass_spec r3
        obtain ⟨kC', hkC', -⟩ := hal.2.2 _ _ hkC
        obtain ⟨kE', hkE', -⟩ := hal.2.2 _ _ hkE
        refine ⟨rfl, cellV, (show T.heap[y]? = some cellV by rw [hT]; exact g1), (fun q h => by rw [h] at g2; cases g2), ⟨kC', hkC'⟩, ⟨kE', hkE'⟩, ?_⟩
        show vm₁.assignable _ _ = true
        rw [hal.assignable]
        rcases hasg with q | q
        · rw [q] at g3
          exact vb_asgS _ _ r3 g3
        · exact vb_asgC (q s hE.2) _ _ r3 g3)
    (g := F0 m pc ls (.int (nI n) :: .int (nI dp) :: .ref a :: .int (nI sp) :: .ref a0 :: st)) rfl (by rw [hml, ← hn]; exact hl.1) (rest := st) rfl (by rw [hb]; exact d) hR.1 (by show 2 * 0 + _ + _ ≤ _; have := hR.2; have hw : nativeFrameWords "java/lang/System" "arraycopy" 5 ≤ 11 := (by decide); omega)
  have e1 : copied (vp_cell c0 (rfA n0 fn)) (vp_cell c1 (rfA n1 gn)) (nI sp) (nI dp) (nI n) = vp_cell c1 (rfA n1 (va_cpy fn gn sp dp n)) := by
    rw [vp_cell_q, vp_cell_q, vp_cell_q]
    show (arrV c1 n1 (fun j => va_rf (gn j))).storeRun (nI dp).toNatClampNeg ((arrV c0 n0 (fun j => va_rf (fn j))).stretch (nI sp).toNatClampNeg (nI n).toNatClampNeg) = _
    rw [esp, edp, en]
    exact va_copied (fun z => va_rf z) c0 c1 fn gn h4
  rw [e1] at X' step
  have hl2 : a < H.size := (Array.getElem?_eq_some_iff.mp hc1).1
  have hheap : ((T.setVm vm').setCell a (vp_cell c1 (rfA n1 (va_cpy fn gn sp dp n)))).heap = H.setIfInBounds a (vp_cell c1 (rfA n1 (va_cpy fn gn sp dp n))) := by rw [← hT]; rfl
  have oq : ∀ q : Nat, q ≠ a → (H.setIfInBounds a (vp_cell c1 (rfA n1 (va_cpy fn gn sp dp n))))[q]? = H[q]? := fun q hq => by simp [Array.getElem?_setIfInBounds, Ne.symm hq]
  obtain ⟨t, a1, b1⟩ := kk _ _ ls (hW.set (show (H.setIfInBounds a _)[a]? = some _ by simp [Array.getElem?_setIfInBounds, hl2]) oq) ⟨by simp; exact hS.1, fun q g1 g2 => by
      rw [oq q (fun e => g2 (by rw [e]; exact hA))]
      exact hS.2.1 q g1 g2, fun q hq => by
      rcases List.mem_append.mp hq with h | h
      · exact hS.2.2 q h
      · obtain ⟨z, -, hz⟩ := List.mem_map.mp h
        rw [← hz]
        exact hA⟩ hl hn _ hheap X'
  exact ⟨t, step t a1, b1⟩
theorem r_putfN (G : fGood l g A En own nm cc nL ret rm Post K) {ci : Nat} {C : String} {T : u_T} {N : Nat} {ty : Nat → FieldType} (hc : fCls ci C T N ty) {a index : Nat} {fs : List Value} (he : f a = some (.inr (ci, fs))) (hA : A a) {ref host : String} (k : Nat) (hk : k < N) (hq : ∀ U, En U → va_Nw (.fieldLinkNest own index ref (T k).2.1 (T k).2.2.1 host) U) (href : ref = (T k).1) (hfin : (T k).2.2.2 = false) {v : Value} (hn : narrow (ty k) v = v) (hfit : fits (ty k) v = true) (hl : k < fs.length) {f' : fH} (hf' : fU f a (.inr (ci, fs.set k v)) = f') (d : decode cc pc = .ok (.putfield index, 3)) (kk : K f' cs ss (pc + 3) lo st) : K f cs ss pc lo (v :: .ref a :: st) := by
  obtain ⟨p, e, s, m, args, below, meth, c, Q, ⟨hx, hb, hr, hlk, hml, hown, hnm, hts⟩, hE, hQ, rfl⟩ := G
  subst href; subst hf'
  intro H locs ls hW hS hl0 hn0
  have hK := hE.1.1 s hE.2
  obtain ⟨h0, hin, hty, hnmT⟩ := hc
  have hap := fl_apart hts hin ty hty hnmT hK h0
  obtain ⟨r, h1, cell, q1, q2, q3, q4⟩ := hW a _ he
  have hr : r = (C, T, N) := Option.some.inj (h1.symm.trans h0)
  subst hr
  obtain ⟨hSl, hfc, kC, hkC, hkind⟩ := hK.1 ci _ h0
  obtain ⟨cf, kf, fi, fd, hi, hsl⟩ := hSl k hk
  have hlay := hts _ (hin _ (u_in_lay hk))
  unfold u_lay at hlay
  rw [if_neg (by rw [hfin]; decide)] at hlay
  have hst := (u_facts hfc hkC (u_lays hts hin hk) hi).1
  have h6 := u_store hfc hkC hkind hlay hi (hty k hk) hn hfit
  refine va_WputK hx hb (f := fd) hown ((hq s hE.2).use rfl) hi hst (by rw [q2]; exact h6) q1 q3 (by rw [hsl]; exact k2_hasslot (q4 k hk)) rfl rfl d fun H' e1 e2 e3 => ?_
  rw [hsl] at e1 ⊢
  exact kk H' _ ls (hW.set ⟨_, h0, t_OB.to (V := updV (vp_V fs) k v) ⟨_, e1, q2, q3, t_set q4 hap hk v⟩ (fun j _ => vp_updV_set hl v j)⟩ e3) (hS.put e2 e3 hA) hl0 hn0
theorem rf_cat (r : Option Nat) : (va_rf r).category = 1 := by cases r <;> rfl
end FLX
