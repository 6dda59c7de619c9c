/-! FL: a functional world (address ↦ what lies there), and walks over an abstract predicate K (world, cells, slots, pc, locals, stack) -/
set_option maxRecDepth 100000
section FL0
abbrev fH : Type := Nat → Option va_E
abbrev fL : Type := List (Option Value)
abbrev fG : Type := va_G × (Nat → ClassId)
abbrev fKt : Type := fH → Nat → Nat → Nat → fL → List Value → Prop
/-- every class whose objects a world may hold -/
def fCl : List vw_C := [(RX1, TX1, 27), (RX0, TX0, 7), (RJ2, TJ2, 3), (RX5, TX5, 5), (RX6, TX6, 6), (RX7, TX7, 7), (RX4, TX4, 7), (RX8, TX8, 8), (RX9, TX9, 3), (RX10, TX10, 1), (RX11, TX11, 7), (RX12, TX12, 4)]
def fTy (d : Nat → ClassId) : List (ClassId × FieldType) := [(d 0, .int), (d 1, .byte), (d 2, .short), (d 3, .object "java/lang/Object"), (d 4, .object "VineRows$Sheet")]
def fW (g : fG) (f : fH) (H : Heap) : Prop := ∀ (a : Nat) (e : va_E), f a = some e → va_at g.1 fCl (a, e) H
def fU (f : fH) (a : Nat) (e : va_E) : fH := fun q => if q = a then some e else f q
theorem fU_s (f : fH) (a : Nat) (e : va_E) : fU f a e a = some e := if_pos rfl
theorem fU_n (f : fH) {a q : Nat} (e : va_E) (h : q ≠ a) : fU f a e q = f q := if_neg h
theorem fU_uu (f : fH) (a : Nat) (e e' : va_E) : fU (fU f a e) a e' = fU f a e' := by
  funext q
  by_cases h : q = a
  · subst h; rw [fU_s, fU_s]
  · rw [fU_n _ _ h, fU_n _ _ h, fU_n _ _ h]
theorem fU_same {f : fH} {a : Nat} {e : va_E} (h : f a = some e) : fU f a e = f := by
  funext q
  by_cases hq : q = a
  · subst hq; rw [fU_s, h]
  · rw [fU_n _ _ hq]
theorem fW.set {g : fG} {f : fH} {H H1 : Heap} {a : Nat} {e : va_E} (h : fW g f H) (he : va_at g.1 fCl (a, e) H1) (oq : ∀ q : Nat, q ≠ a → H1[q]? = H[q]?) : fW g (fU f a e) H1 := by
  intro q e' hq
  by_cases hqa : q = a
  · subst hqa
    rw [fU_s] at hq
    cases hq
    exact he
  · rw [fU_n _ _ hqa] at hq
    exact (h q e' hq).kept (oq q hqa)
theorem fW.new {g : fG} {f : fH} {H H1 : Heap} {a : Nat} {e : va_E} (h : fW g f H) (he : va_at g.1 fCl (a, e) H1) (ha : H.size = a) (oq : ∀ q : Nat, q < a → H1[q]? = H[q]?) : fW g (fU f a e) H1 := by
  intro q e' hq
  by_cases hqa : q = a
  · subst hqa
    rw [fU_s] at hq
    cases hq
    exact he
  · rw [fU_n _ _ hqa] at hq
    have hl := (h q e' hq).lt
    exact (h q e' hq).kept (oq q (by rw [← ha]; exact hl))
theorem fW.lt {g : fG} {f : fH} {H : Heap} (h : fW g f H) {a : Nat} {e : va_E} (ha : f a = some e) : a < H.size := (h a e ha).lt
theorem fW.fresh {g : fG} {f : fH} {H : Heap} (h : fW g f H) : f H.size = none := by
  cases hf : f H.size with
  | none => rfl
  | some e => exact absurd (h.lt hf) (Nat.lt_irrefl _)
theorem fW.kept {g : fG} {f : fH} {H H1 : Heap} (h : fW g f H) (hq : ∀ a e, f a = some e → H1[a]? = H[a]?) : fW g f H1 := fun a e he => (h a e he).kept (hq a e he)
/-- one cell as a list-world -/
theorem fW.one {g : fG} {f : fH} {H : Heap} (h : fW g f H) {a : Nat} {e : va_E} (ha : f a = some e) : va_P g.1 fCl [(a, e)] H := by
  intro k q hk
  match k, hk with
  | 0, hk => cases hk; exact h a e ha
  | k + 1, hk => simp at hk
/-- locals, a place each -/
def fls (ls : Array Slot) (l : fL) : Prop := ls.size = l.length ∧ lv_wf ls ∧ ∀ (i : Nat) (v : Value), l[i]? = some (some v) → ls[i]? = some (.val v)
def fal (l : fL) : List (Nat × Value) := (List.range l.length).filterMap fun i => (l.getD i none).map fun v => (i, v)
theorem fal_mem {l : fL} {i : Nat} {v : Value} : (i, v) ∈ fal l ↔ l[i]? = some (some v) := by
  unfold fal
  rw [List.mem_filterMap]
  constructor
  · rintro ⟨j, hj, h⟩
    have hj' := List.mem_range.mp hj
    cases ho : l.getD j none with
    | none => rw [ho] at h; cases h
    | some w =>
      rw [ho] at h
      simp only [Option.map_some, Option.some.injEq, Prod.mk.injEq] at h
      obtain ⟨rfl, rfl⟩ := h
      rw [List.getD_eq_getElem?_getD, List.getElem?_eq_getElem hj'] at ho
      rw [List.getElem?_eq_getElem hj']
      simpa using ho
  · intro h
    have hl := (List.getElem?_eq_some_iff.mp h).1
    refine ⟨i, List.mem_range.mpr hl, ?_⟩
    rw [List.getD_eq_getElem?_getD, h]
    rfl
theorem fls_has {ls : Array Slot} {l : fL} (h : fls ls l) : lv_has ls l.length (fal l) := ⟨h.1, h.2.1, fun q hq => h.2.2 q.1 q.2 (fal_mem.mp hq)⟩
theorem fls_of {ls : Array Slot} {n : Nat} {al : List (Nat × Value)} {l : fL} (h : lv_has ls n al) (hn : l.length = n) (hm : ∀ (i : Nat) (v : Value), l[i]? = some (some v) → (i, v) ∈ al) : fls ls l :=
  ⟨h.1.trans hn.symm, h.2.1, fun i v hi => h.2.2 (i, v) (hm i v hi)⟩
def f2at (l : fL) (i : Nat) : Bool := match l[i]? with
  | some (some v) => v.category == 2
  | _ => false
theorem fls_le {ls : Array Slot} {l l' : fL} (h : fls ls l) (hl : l'.length = l.length) (hm : ∀ (i : Nat) (v : Value), l'[i]? = some (some v) → l[i]? = some (some v)) : fls ls l' := ⟨h.1.trans hl.symm, h.2.1, fun i v hi => h.2.2 i v (hm i v hi)⟩
/-- the place i is given up -/
theorem fls_drop {ls : Array Slot} {l : fL} (i : Nat) (h : fls ls l) : fls ls (l.set i none) := by
  refine fls_le h (List.length_set ..) fun j v hj => ?_
  by_cases hji : j = i
  · subst hji
    by_cases hl : j < l.length
    · rw [List.getElem?_set_self hl] at hj; cases hj
    · rw [List.getElem?_eq_none (by rw [List.length_set]; omega)] at hj; cases hj
  · rwa [List.getElem?_set_ne (Ne.symm hji)] at hj
/-- the locals at a method's entry -/
def fargs : List Value → fL
  | [] => []
  | v :: vs => if v.category = 2 then some v :: none :: fargs vs else some v :: fargs vs
end FL0
/-! FL: contracts and the walk's predicate -/
set_option maxRecDepth 100000
section FL1
def fE0 (A : Nat → Prop) (u U : State) : Prop := u.WarmedH U.vm ∧ u.heap.size ≤ U.heap.size ∧ ∀ q : Nat, q < u.heap.size → ¬ A q → U.heap[q]? = u.heap[q]?
/-- what a family of contracts takes as given beside its world, and what keeps it -/
def fEnv (g : fG) (A : Nat → Prop) (En : State → Prop) : Prop := (∀ U, En U → va_K g.1 fCl (fTy g.2) U) ∧ ∀ u U : State, fE0 A u U → En u → En U
def fQ (g : fG) (A : Nat → Prop) (En : State → Prop) (Post : Option Value → fH → Prop) : Array Value → State → Outcome → State → Prop := fun _ st oc t => (∃ (r : Option Value) (f' : fH), oc = .returned r ∧ Post r f' ∧ fW g f' t.heap ∧ En t) ∧ va_F A st t
/-- a contract: with arguments av in world f -/
def fC (l : Launch) (g : fG) (A : Nat → Prop) (En : State → Prop) (y : MethodName) (cc : ByteArray) (nL : Nat) (ret : Option FieldType) (rm : Room) (av : List Value) (f : fH) (Post : Option Value → fH → Prop) : Prop :=
  Met l y (ws_ y cc nL ret) rm (va_Pc av (fun U => fW g f U.heap ∧ En U)) (fQ g A En Post) rm.cells rm.slots A
def fK (p : Program) (l : Launch) (e : Env) (R : Room) (s : State) (m : MethodId) (args : Array Value) (below : List Frame) (meth : Method) (c : Code) (g : fG) (A : Nat → Prop) (nL : Nat) (Q : State → Prop) : fKt :=
  fun f cs ss pc lo st => ∀ (H : Heap) (locs : List Loc) (ls : Array Slot), fW g f H → va_S A s.heap H locs → fls ls lo → lo.length = nL → W p l e R s m args below meth c H locs cs ss Q (F0 m pc ls st)
def fGood (l : Launch) (g : fG) (A : Nat → Prop) (En : State → Prop) (own nm : String) (cc : ByteArray) (nL : Nat) (ret : Option FieldType) (rm : Room) (Post : Option Value → fH → Prop) (K : fKt) : Prop :=
  ∃ (p : Program) (e : Env) (s : State) (m : MethodId) (args : Array Value) (below : List Frame) (meth : Method) (c : Code) (Q : State → Prop),
    (p.tables.exec = Jvm.exec ∧ c.code = cc ∧ meth.sig.returnType = ret ∧ meth.locks = false ∧ c.maxLocals = nL ∧ s.vm.findClass own = some m.cls ∧ meth.name = nm ∧ ∀ w ∈ lw_all, w.before args s = true) ∧
    (fEnv g A En ∧ En s) ∧ (∀ t, MQ below (fQ g A En Post) args s rm.cells rm.slots A t → Q t) ∧ K = fK p l e rm s m args below meth c g A nL Q
def fok (lo : fL) (i : Nat) : Bool := decide (i < lo.length) && (i == 0 || !f2at lo (i - 1))
theorem fok_lt {lo : fL} {i : Nat} (h : fok lo i = true) : i < lo.length := by
  unfold fok at h
  rw [Bool.and_eq_true] at h
  exact of_decide_eq_true h.1
theorem fok_2 {lo : fL} {i : Nat} (h : fok lo i = true) : ∀ j, j + 1 = i → f2at lo j = false := by
  intro j hj
  subst hj
  unfold fok at h
  rw [Bool.and_eq_true] at h
  have h2 := h.2
  simpa using h2
def fsub (lo lo' : fL) : Bool := lo'.length == lo.length
theorem fsub_l {lo lo' : fL} (h : fsub lo lo' = true) : lo'.length = lo.length := by
  unfold fsub at h
  exact eq_of_beq h
theorem fls_s1 {ls' : Array Slot} {l : fL} {i : Nat} {v : Value} (h3 : lv_has ls' l.length ((i, v) :: (fal l).filter (fun q => !(q.1 == i) && !(q.1 + 1 == i && q.2.category == 2)))) (hi : i < l.length) (h2 : ∀ j, j + 1 = i → f2at l j = false) : fls ls' (l.set i (some v)) := by
  refine fls_of h3 (List.length_set ..) fun j w hj => ?_
  by_cases hji : j = i
  · subst hji
    rw [List.getElem?_set_self hi] at hj
    simp only [Option.some.injEq] at hj
    subst hj
    exact List.mem_cons_self
  · rw [List.getElem?_set_ne (Ne.symm hji)] at hj
    refine List.mem_cons_of_mem _ (List.mem_filter.mpr ⟨fal_mem.mpr hj, ?_⟩)
    have e1 : (j == i) = false := by simpa using hji
    have e2 : (j + 1 == i && w.category == 2) = false := by
      by_cases hj2 : j + 1 = i
      · have e3 := h2 j hj2
        unfold f2at at e3
        rw [hj] at e3
        simp only at e3
        rw [e3, Bool.and_false]
      · have e3 : (j + 1 == i) = false := by simpa using hj2
        rw [e3, Bool.false_and]
    show (!(j == i) && !(j + 1 == i && w.category == 2)) = true
    rw [e1, e2]
    rfl
theorem fls_s2 {ls' : Array Slot} {l : fL} {i : Nat} {v : Value} (h3 : lv_has ls' l.length ((i, v) :: (fal l).filter (fun q => !(q.1 == i) && (!(q.1 == i + 1) && !(q.1 + 1 == i && q.2.category == 2))))) (hi : i + 1 < l.length) (h2 : ∀ j, j + 1 = i → f2at l j = false) : fls ls' ((l.set i (some v)).set (i + 1) none) := by
  refine fls_of h3 (by rw [List.length_set, List.length_set]) fun j w hj => ?_
  have hj1 : j ≠ i + 1 := by
    intro e
    subst e
    rw [List.getElem?_set_self (by rw [List.length_set]; exact hi)] at hj
    cases hj
  rw [List.getElem?_set_ne (Ne.symm hj1)] at hj
  by_cases hji : j = i
  · subst hji
    rw [List.getElem?_set_self (by omega)] at hj
    simp only [Option.some.injEq] at hj
    subst hj
    exact List.mem_cons_self
  · rw [List.getElem?_set_ne (Ne.symm hji)] at hj
    refine List.mem_cons_of_mem _ (List.mem_filter.mpr ⟨fal_mem.mpr hj, ?_⟩)
    have e1 : (j == i) = false := by simpa using hji
    have e1' : (j == i + 1) = false := by simpa using hj1
    have e2 : (j + 1 == i && w.category == 2) = false := by
      by_cases hj2 : j + 1 = i
      · have e3 := h2 j hj2
        unfold f2at at e3
        rw [hj] at e3
        simp only at e3
        rw [e3, Bool.and_false]
      · have e3 : (j + 1 == i) = false := by simpa using hj2
        rw [e3, Bool.false_and]
    show (!(j == i) && (!(j == i + 1) && !(j + 1 == i && w.category == 2))) = true
    rw [e1, e1', e2]
    rfl
theorem fE0.of {A : Nat → Prop} {s t : State} {H : Heap} {locs : List Loc} (hS : va_S A s.heap H locs) (ht : t.heap = H) (hvm : s.WarmedH t.vm) : fE0 A s t := ⟨hvm, by rw [ht]; exact hS.1, fun q h1 h2 => by rw [ht]; exact hS.2.1 q h1 h2⟩
theorem W.monoQ {p : Program} {l : Launch} {e : Env} {R : Room} {s : State} {m : MethodId} {args : Array Value} {below : List Frame} {meth : Method} {c : Code} {H : Heap} {locs : List Loc} {cs ss : Nat} {Q Q' : State → Prop} {gf : JFrame} (h : ∀ t, Q t → Q' t) (k : W p l e R s m args below meth c H locs cs ss Q gf) : W p l e R s m args below meth c H locs cs ss Q' gf := by
  intro T hT X
  obtain ⟨t, a, b⟩ := k T hT X
  exact ⟨t, a, h t b⟩
end FL1
section FLR
variable {l : Launch} {g : fG} {A : Nat → Prop} {En : State → Prop} {own nm : String} {cc : ByteArray} {nL : Nat} {ret : Option FieldType} {rm : Room} {Post : Option Value → fH → Prop} {K : fKt} {f : fH} {cs ss pc : Nat} {lo : fL} {st : List Value}
theorem r_iconst (G : fGood l g A En own nm cc nL ret rm Post K) {n : Int} {v : Int32} (d : decode cc pc = .ok (.iconst n, 1)) (hv : Int32.ofInt n = v) (kk : K f cs ss (pc + 1) lo (.int v :: st)) : K f cs ss pc lo (st) := by
  obtain ⟨p, e, s, m, args, below, meth, c, Q, ⟨hx, hb, hr, hlk, hml, hown, hnm, hts⟩, hE, hQ, rfl⟩ := G
  exact fun H locs ls hW hS hl hn => lv_iconst hx hb d hv (kk H locs ls hW hS hl hn)
theorem r_bipush (G : fGood l g A En own nm cc nL ret rm Post K) {n : Int} {v : Int32} (d : decode cc pc = .ok (.bipush n, 2)) (hv : (Int8.ofInt n).toInt32 = v) (kk : K f cs ss (pc + 2) lo (.int v :: st)) : K f cs ss pc lo (st) := by
  obtain ⟨p, e, s, m, args, below, meth, c, Q, ⟨hx, hb, hr, hlk, hml, hown, hnm, hts⟩, hE, hQ, rfl⟩ := G
  exact fun H locs ls hW hS hl hn => lv_bipush hx hb d hv (kk H locs ls hW hS hl hn)
theorem r_sipush (G : fGood l g A En own nm cc nL ret rm Post K) {n : Int} {v : Int32} (d : decode cc pc = .ok (.sipush n, 3)) (hv : (Int16.ofInt n).toInt32 = v) (kk : K f cs ss (pc + 3) lo (.int v :: st)) : K f cs ss pc lo (st) := by
  obtain ⟨p, e, s, m, args, below, meth, c, Q, ⟨hx, hb, hr, hlk, hml, hown, hnm, hts⟩, hE, hQ, rfl⟩ := G
  exact fun H locs ls hW hS hl hn => lv_sipush hx hb d hv (kk H locs ls hW hS hl hn)
theorem r_lconst (G : fGood l g A En own nm cc nL ret rm Post K) {n : Fin 2} {v : Int64} (d : decode cc pc = .ok (.lconst n, 1)) (hv : Int64.ofNat (n : Nat) = v) (kk : K f cs ss (pc + 1) lo (.long v :: st)) : K f cs ss pc lo (st) := by
  obtain ⟨p, e, s, m, args, below, meth, c, Q, ⟨hx, hb, hr, hlk, hml, hown, hnm, hts⟩, hE, hQ, rfl⟩ := G
  exact fun H locs ls hW hS hl hn => lv_lconst hx hb d hv (kk H locs ls hW hS hl hn)
theorem r_null (G : fGood l g A En own nm cc nL ret rm Post K) (d : decode cc pc = .ok (.aconst_null, 1)) (kk : K f cs ss (pc + 1) lo (.null :: st)) : K f cs ss pc lo (st) := by
  obtain ⟨p, e, s, m, args, below, meth, c, Q, ⟨hx, hb, hr, hlk, hml, hown, hnm, hts⟩, hE, hQ, rfl⟩ := G
  exact fun H locs ls hW hS hl hn => lv_null hx hb d (kk H locs ls hW hS hl hn)
theorem r_iload_n (G : fGood l g A En own nm cc nL ret rm Post K) {k : Fin 4} {x : Int32} (d : decode cc pc = .ok (.iload_n k, 1)) (hv : lo[(k : Nat)]? = some (some (.int x))) (kk : K f cs ss (pc + 1) lo (.int x :: st)) : K f cs ss pc lo (st) := by
  obtain ⟨p, e, s, m, args, below, meth, c, Q, ⟨hx, hb, hr, hlk, hml, hown, hnm, hts⟩, hE, hQ, rfl⟩ := G
  exact fun H locs ls hW hS hl hn => lv_iload_n hx hb d rfl (hl.2.2 _ _ hv) (kk H locs ls hW hS hl hn)
theorem r_iload (G : fGood l g A En own nm cc nL ret rm Post K) {i : Nat} {x : Int32} (d : decode cc pc = .ok (.iload i, 2)) (hv : lo[i]? = some (some (.int x))) (kk : K f cs ss (pc + 2) lo (.int x :: st)) : K f cs ss pc lo (st) := by
  obtain ⟨p, e, s, m, args, below, meth, c, Q, ⟨hx, hb, hr, hlk, hml, hown, hnm, hts⟩, hE, hQ, rfl⟩ := G
  exact fun H locs ls hW hS hl hn => lv_iload hx hb d (hl.2.2 _ _ hv) (kk H locs ls hW hS hl hn)
theorem r_lload_n (G : fGood l g A En own nm cc nL ret rm Post K) {k : Fin 4} {x : Int64} (d : decode cc pc = .ok (.lload_n k, 1)) (hv : lo[(k : Nat)]? = some (some (.long x))) (kk : K f cs ss (pc + 1) lo (.long x :: st)) : K f cs ss pc lo (st) := by
  obtain ⟨p, e, s, m, args, below, meth, c, Q, ⟨hx, hb, hr, hlk, hml, hown, hnm, hts⟩, hE, hQ, rfl⟩ := G
  exact fun H locs ls hW hS hl hn => lv_lload_n hx hb d rfl (hl.2.2 _ _ hv) (kk H locs ls hW hS hl hn)
theorem r_lload (G : fGood l g A En own nm cc nL ret rm Post K) {i : Nat} {x : Int64} (d : decode cc pc = .ok (.lload i, 2)) (hv : lo[i]? = some (some (.long x))) (kk : K f cs ss (pc + 2) lo (.long x :: st)) : K f cs ss pc lo (st) := by
  obtain ⟨p, e, s, m, args, below, meth, c, Q, ⟨hx, hb, hr, hlk, hml, hown, hnm, hts⟩, hE, hQ, rfl⟩ := G
  exact fun H locs ls hW hS hl hn => lv_lload hx hb d (hl.2.2 _ _ hv) (kk H locs ls hW hS hl hn)
theorem r_aload_n (G : fGood l g A En own nm cc nL ret rm Post K) {k : Fin 4} {x : Nat} (d : decode cc pc = .ok (.aload_n k, 1)) (hv : lo[(k : Nat)]? = some (some (.ref x))) (kk : K f cs ss (pc + 1) lo (.ref x :: st)) : K f cs ss pc lo (st) := by
  obtain ⟨p, e, s, m, args, below, meth, c, Q, ⟨hx, hb, hr, hlk, hml, hown, hnm, hts⟩, hE, hQ, rfl⟩ := G
  exact fun H locs ls hW hS hl hn => lv_aload_n hx hb d rfl (hl.2.2 _ _ hv) (kk H locs ls hW hS hl hn)
theorem r_aload (G : fGood l g A En own nm cc nL ret rm Post K) {i : Nat} {x : Nat} (d : decode cc pc = .ok (.aload i, 2)) (hv : lo[i]? = some (some (.ref x))) (kk : K f cs ss (pc + 2) lo (.ref x :: st)) : K f cs ss pc lo (st) := by
  obtain ⟨p, e, s, m, args, below, meth, c, Q, ⟨hx, hb, hr, hlk, hml, hown, hnm, hts⟩, hE, hQ, rfl⟩ := G
  exact fun H locs ls hW hS hl hn => lv_aload hx hb d (hl.2.2 _ _ hv) (kk H locs ls hW hS hl hn)
theorem r_aload_nN (G : fGood l g A En own nm cc nL ret rm Post K) {k : Fin 4} (d : decode cc pc = .ok (.aload_n k, 1)) (hv : lo[(k : Nat)]? = some (some .null)) (kk : K f cs ss (pc + 1) lo (.null :: st)) : K f cs ss pc lo (st) := by
  obtain ⟨p, e, s, m, args, below, meth, c, Q, ⟨hx, hb, hr, hlk, hml, hown, hnm, hts⟩, hE, hQ, rfl⟩ := G
  exact fun H locs ls hW hS hl hn => lv_aload_nN hx hb d rfl (hl.2.2 _ _ hv) (kk H locs ls hW hS hl hn)
theorem r_aloadN (G : fGood l g A En own nm cc nL ret rm Post K) {i : Nat} (d : decode cc pc = .ok (.aload i, 2)) (hv : lo[i]? = some (some .null)) (kk : K f cs ss (pc + 2) lo (.null :: st)) : K f cs ss pc lo (st) := by
  obtain ⟨p, e, s, m, args, below, meth, c, Q, ⟨hx, hb, hr, hlk, hml, hown, hnm, hts⟩, hE, hQ, rfl⟩ := G
  exact fun H locs ls hW hS hl hn => lv_aloadN hx hb d (hl.2.2 _ _ hv) (kk H locs ls hW hS hl hn)
theorem r_iadd (G : fGood l g A En own nm cc nL ret rm Post K) {x y v : Int32} (d : decode cc pc = .ok (.iadd, 1)) (hv : x + y = v) (kk : K f cs ss (pc + 1) lo (.int v :: st)) : K f cs ss pc lo (.int y :: .int x :: st) := by
  obtain ⟨p, e, s, m, args, below, meth, c, Q, ⟨hx, hb, hr, hlk, hml, hown, hnm, hts⟩, hE, hQ, rfl⟩ := G
  exact fun H locs ls hW hS hl hn => lv_iadd hx hb d (hv ▸ kk H locs ls hW hS hl hn)
theorem r_isub (G : fGood l g A En own nm cc nL ret rm Post K) {x y v : Int32} (d : decode cc pc = .ok (.isub, 1)) (hv : x - y = v) (kk : K f cs ss (pc + 1) lo (.int v :: st)) : K f cs ss pc lo (.int y :: .int x :: st) := by
  obtain ⟨p, e, s, m, args, below, meth, c, Q, ⟨hx, hb, hr, hlk, hml, hown, hnm, hts⟩, hE, hQ, rfl⟩ := G
  exact fun H locs ls hW hS hl hn => lv_isub hx hb d (hv ▸ kk H locs ls hW hS hl hn)
theorem r_imul (G : fGood l g A En own nm cc nL ret rm Post K) {x y v : Int32} (d : decode cc pc = .ok (.imul, 1)) (hv : x * y = v) (kk : K f cs ss (pc + 1) lo (.int v :: st)) : K f cs ss pc lo (.int y :: .int x :: st) := by
  obtain ⟨p, e, s, m, args, below, meth, c, Q, ⟨hx, hb, hr, hlk, hml, hown, hnm, hts⟩, hE, hQ, rfl⟩ := G
  exact fun H locs ls hW hS hl hn => lv_imul hx hb d (hv ▸ kk H locs ls hW hS hl hn)
theorem r_iand (G : fGood l g A En own nm cc nL ret rm Post K) {x y v : Int32} (d : decode cc pc = .ok (.iand, 1)) (hv : x &&& y = v) (kk : K f cs ss (pc + 1) lo (.int v :: st)) : K f cs ss pc lo (.int y :: .int x :: st) := by
  obtain ⟨p, e, s, m, args, below, meth, c, Q, ⟨hx, hb, hr, hlk, hml, hown, hnm, hts⟩, hE, hQ, rfl⟩ := G
  exact fun H locs ls hW hS hl hn => lv_iand hx hb d (hv ▸ kk H locs ls hW hS hl hn)
theorem r_ior (G : fGood l g A En own nm cc nL ret rm Post K) {x y v : Int32} (d : decode cc pc = .ok (.ior, 1)) (hv : x ||| y = v) (kk : K f cs ss (pc + 1) lo (.int v :: st)) : K f cs ss pc lo (.int y :: .int x :: st) := by
  obtain ⟨p, e, s, m, args, below, meth, c, Q, ⟨hx, hb, hr, hlk, hml, hown, hnm, hts⟩, hE, hQ, rfl⟩ := G
  exact fun H locs ls hW hS hl hn => lv_ior hx hb d (hv ▸ kk H locs ls hW hS hl hn)
theorem r_ixor (G : fGood l g A En own nm cc nL ret rm Post K) {x y v : Int32} (d : decode cc pc = .ok (.ixor, 1)) (hv : x ^^^ y = v) (kk : K f cs ss (pc + 1) lo (.int v :: st)) : K f cs ss pc lo (.int y :: .int x :: st) := by
  obtain ⟨p, e, s, m, args, below, meth, c, Q, ⟨hx, hb, hr, hlk, hml, hown, hnm, hts⟩, hE, hQ, rfl⟩ := G
  exact fun H locs ls hW hS hl hn => lv_ixor hx hb d (hv ▸ kk H locs ls hW hS hl hn)
theorem r_ishl (G : fGood l g A En own nm cc nL ret rm Post K) {x y v : Int32} (d : decode cc pc = .ok (.ishl, 1)) (hv : x <<< (y &&& 31) = v) (kk : K f cs ss (pc + 1) lo (.int v :: st)) : K f cs ss pc lo (.int y :: .int x :: st) := by
  obtain ⟨p, e, s, m, args, below, meth, c, Q, ⟨hx, hb, hr, hlk, hml, hown, hnm, hts⟩, hE, hQ, rfl⟩ := G
  exact fun H locs ls hW hS hl hn => lv_ishl hx hb d (hv ▸ kk H locs ls hW hS hl hn)
theorem r_ishr (G : fGood l g A En own nm cc nL ret rm Post K) {x y v : Int32} (d : decode cc pc = .ok (.ishr, 1)) (hv : x >>> (y &&& 31) = v) (kk : K f cs ss (pc + 1) lo (.int v :: st)) : K f cs ss pc lo (.int y :: .int x :: st) := by
  obtain ⟨p, e, s, m, args, below, meth, c, Q, ⟨hx, hb, hr, hlk, hml, hown, hnm, hts⟩, hE, hQ, rfl⟩ := G
  exact fun H locs ls hW hS hl hn => lv_ishr hx hb d (hv ▸ kk H locs ls hW hS hl hn)
theorem r_iushr (G : fGood l g A En own nm cc nL ret rm Post K) {x y v : Int32} (d : decode cc pc = .ok (.iushr, 1)) (hv : (x.toUInt32 >>> (y.toUInt32 &&& Int32.toUInt32 31)).toInt32 = v) (kk : K f cs ss (pc + 1) lo (.int v :: st)) : K f cs ss pc lo (.int y :: .int x :: st) := by
  obtain ⟨p, e, s, m, args, below, meth, c, Q, ⟨hx, hb, hr, hlk, hml, hown, hnm, hts⟩, hE, hQ, rfl⟩ := G
  exact fun H locs ls hW hS hl hn => lv_iushr hx hb d hv (kk H locs ls hW hS hl hn)
theorem r_idiv (G : fGood l g A En own nm cc nL ret rm Post K) {x y v : Int32} (d : decode cc pc = .ok (.idiv, 1)) (hne : ¬ y = 0) (hv : x / y = v) (kk : K f cs ss (pc + 1) lo (.int v :: st)) : K f cs ss pc lo (.int y :: .int x :: st) := by
  obtain ⟨p, e, s, m, args, below, meth, c, Q, ⟨hx, hb, hr, hlk, hml, hown, hnm, hts⟩, hE, hQ, rfl⟩ := G
  exact fun H locs ls hW hS hl hn => lv_idiv hx hb d hne (hv ▸ kk H locs ls hW hS hl hn)
theorem r_irem (G : fGood l g A En own nm cc nL ret rm Post K) {x y v : Int32} (d : decode cc pc = .ok (.irem, 1)) (hne : ¬ y = 0) (hv : x - x / y * y = v) (kk : K f cs ss (pc + 1) lo (.int v :: st)) : K f cs ss pc lo (.int y :: .int x :: st) := by
  obtain ⟨p, e, s, m, args, below, meth, c, Q, ⟨hx, hb, hr, hlk, hml, hown, hnm, hts⟩, hE, hQ, rfl⟩ := G
  exact fun H locs ls hW hS hl hn => lv_irem hx hb d hne (hv ▸ kk H locs ls hW hS hl hn)
theorem r_ineg (G : fGood l g A En own nm cc nL ret rm Post K) {x : Int32} (d : decode cc pc = .ok (.ineg, 1)) (kk : K f cs ss (pc + 1) lo (.int (-x) :: st)) : K f cs ss pc lo (.int x :: st) := by
  obtain ⟨p, e, s, m, args, below, meth, c, Q, ⟨hx, hb, hr, hlk, hml, hown, hnm, hts⟩, hE, hQ, rfl⟩ := G
  exact fun H locs ls hW hS hl hn => lv_ineg hx hb d (kk H locs ls hW hS hl hn)
theorem r_ladd (G : fGood l g A En own nm cc nL ret rm Post K) {x y v : Int64} (d : decode cc pc = .ok (.ladd, 1)) (hv : x + y = v) (kk : K f cs ss (pc + 1) lo (.long v :: st)) : K f cs ss pc lo (.long y :: .long x :: st) := by
  obtain ⟨p, e, s, m, args, below, meth, c, Q, ⟨hx, hb, hr, hlk, hml, hown, hnm, hts⟩, hE, hQ, rfl⟩ := G
  exact fun H locs ls hW hS hl hn => lv_ladd hx hb d (hv ▸ kk H locs ls hW hS hl hn)
theorem r_lsub (G : fGood l g A En own nm cc nL ret rm Post K) {x y v : Int64} (d : decode cc pc = .ok (.lsub, 1)) (hv : x - y = v) (kk : K f cs ss (pc + 1) lo (.long v :: st)) : K f cs ss pc lo (.long y :: .long x :: st) := by
  obtain ⟨p, e, s, m, args, below, meth, c, Q, ⟨hx, hb, hr, hlk, hml, hown, hnm, hts⟩, hE, hQ, rfl⟩ := G
  exact fun H locs ls hW hS hl hn => lv_lsub hx hb d (hv ▸ kk H locs ls hW hS hl hn)
theorem r_lmul (G : fGood l g A En own nm cc nL ret rm Post K) {x y v : Int64} (d : decode cc pc = .ok (.lmul, 1)) (hv : x * y = v) (kk : K f cs ss (pc + 1) lo (.long v :: st)) : K f cs ss pc lo (.long y :: .long x :: st) := by
  obtain ⟨p, e, s, m, args, below, meth, c, Q, ⟨hx, hb, hr, hlk, hml, hown, hnm, hts⟩, hE, hQ, rfl⟩ := G
  exact fun H locs ls hW hS hl hn => lv_lmul hx hb d (hv ▸ kk H locs ls hW hS hl hn)
theorem r_ldiv (G : fGood l g A En own nm cc nL ret rm Post K) {x y v : Int64} (d : decode cc pc = .ok (.ldiv, 1)) (hne : ¬ y = 0) (hv : x / y = v) (kk : K f cs ss (pc + 1) lo (.long v :: st)) : K f cs ss pc lo (.long y :: .long x :: st) := by
  obtain ⟨p, e, s, m, args, below, meth, c, Q, ⟨hx, hb, hr, hlk, hml, hown, hnm, hts⟩, hE, hQ, rfl⟩ := G
  exact fun H locs ls hW hS hl hn => lv_ldiv hx hb d hne (hv ▸ kk H locs ls hW hS hl hn)
theorem r_lrem (G : fGood l g A En own nm cc nL ret rm Post K) {x y v : Int64} (d : decode cc pc = .ok (.lrem, 1)) (hne : ¬ y = 0) (hv : x - x / y * y = v) (kk : K f cs ss (pc + 1) lo (.long v :: st)) : K f cs ss pc lo (.long y :: .long x :: st) := by
  obtain ⟨p, e, s, m, args, below, meth, c, Q, ⟨hx, hb, hr, hlk, hml, hown, hnm, hts⟩, hE, hQ, rfl⟩ := G
  exact fun H locs ls hW hS hl hn => lv_lrem hx hb d hne (hv ▸ kk H locs ls hW hS hl hn)
theorem r_lcmp (G : fGood l g A En own nm cc nL ret rm Post K) {x y : Int64} (d : decode cc pc = .ok (.lcmp, 1)) (kk : K f cs ss (pc + 1) lo (.int (lg_cmp x y) :: st)) : K f cs ss pc lo (.long y :: .long x :: st) := by
  obtain ⟨p, e, s, m, args, below, meth, c, Q, ⟨hx, hb, hr, hlk, hml, hown, hnm, hts⟩, hE, hQ, rfl⟩ := G
  exact fun H locs ls hW hS hl hn => W.lcmp hx hb d (kk H locs ls hW hS hl hn)
theorem r_i2l (G : fGood l g A En own nm cc nL ret rm Post K) {x : Int32} {v : Int64} (d : decode cc pc = .ok (.i2l, 1)) (hv : x.toInt64 = v) (kk : K f cs ss (pc + 1) lo (.long v :: st)) : K f cs ss pc lo (.int x :: st) := by
  obtain ⟨p, e, s, m, args, below, meth, c, Q, ⟨hx, hb, hr, hlk, hml, hown, hnm, hts⟩, hE, hQ, rfl⟩ := G
  exact fun H locs ls hW hS hl hn => lv_i2l hx hb d hv (kk H locs ls hW hS hl hn)
theorem r_l2i (G : fGood l g A En own nm cc nL ret rm Post K) {x : Int64} {v : Int32} (d : decode cc pc = .ok (.l2i, 1)) (hv : x.toInt32 = v) (kk : K f cs ss (pc + 1) lo (.int v :: st)) : K f cs ss pc lo (.long x :: st) := by
  obtain ⟨p, e, s, m, args, below, meth, c, Q, ⟨hx, hb, hr, hlk, hml, hown, hnm, hts⟩, hE, hQ, rfl⟩ := G
  exact fun H locs ls hW hS hl hn => lv_l2i hx hb d hv (kk H locs ls hW hS hl hn)
theorem r_i2b (G : fGood l g A En own nm cc nL ret rm Post K) {x v : Int32} (d : decode cc pc = .ok (.i2b, 1)) (hv : x.toInt8.toInt32 = v) (kk : K f cs ss (pc + 1) lo (.int v :: st)) : K f cs ss pc lo (.int x :: st) := by
  obtain ⟨p, e, s, m, args, below, meth, c, Q, ⟨hx, hb, hr, hlk, hml, hown, hnm, hts⟩, hE, hQ, rfl⟩ := G
  exact fun H locs ls hW hS hl hn => lv_i2b hx hb d hv (kk H locs ls hW hS hl hn)
theorem r_i2s (G : fGood l g A En own nm cc nL ret rm Post K) {x v : Int32} (d : decode cc pc = .ok (.i2s, 1)) (hv : x.toInt16.toInt32 = v) (kk : K f cs ss (pc + 1) lo (.int v :: st)) : K f cs ss pc lo (.int x :: st) := by
  obtain ⟨p, e, s, m, args, below, meth, c, Q, ⟨hx, hb, hr, hlk, hml, hown, hnm, hts⟩, hE, hQ, rfl⟩ := G
  exact fun H locs ls hW hS hl hn => lv_i2s hx hb d hv (kk H locs ls hW hS hl hn)
theorem r_dup (G : fGood l g A En own nm cc nL ret rm Post K) {v : Value} (d : decode cc pc = .ok (.dup, 1)) (hc : v.category = 1) (kk : K f cs ss (pc + 1) lo (v :: v :: st)) : K f cs ss pc lo (v :: st) := by
  obtain ⟨p, e, s, m, args, below, meth, c, Q, ⟨hx, hb, hr, hlk, hml, hown, hnm, hts⟩, hE, hQ, rfl⟩ := G
  exact fun H locs ls hW hS hl hn => lv_dup hx hb d hc (kk H locs ls hW hS hl hn)
theorem r_pop (G : fGood l g A En own nm cc nL ret rm Post K) {v : Value} (d : decode cc pc = .ok (.pop, 1)) (hc : v.category = 1) (kk : K f cs ss (pc + 1) lo (st)) : K f cs ss pc lo (v :: st) := by
  obtain ⟨p, e, s, m, args, below, meth, c, Q, ⟨hx, hb, hr, hlk, hml, hown, hnm, hts⟩, hE, hQ, rfl⟩ := G
  exact fun H locs ls hW hS hl hn => lv_pop hx hb d hc (kk H locs ls hW hS hl hn)
theorem r_dup_x1 (G : fGood l g A En own nm cc nL ret rm Post K) {v w : Value} (d : decode cc pc = .ok (.dup_x1, 1)) (hc : v.category = 1) (hc2 : w.category = 1) (kk : K f cs ss (pc + 1) lo (v :: w :: v :: st)) : K f cs ss pc lo (v :: w :: st) := by
  obtain ⟨p, e, s, m, args, below, meth, c, Q, ⟨hx, hb, hr, hlk, hml, hown, hnm, hts⟩, hE, hQ, rfl⟩ := G
  exact fun H locs ls hW hS hl hn => lv_dup_x1 hx hb d hc hc2 (kk H locs ls hW hS hl hn)
theorem r_dup2_11 (G : fGood l g A En own nm cc nL ret rm Post K) {v w : Value} (d : decode cc pc = .ok (.dup2, 1)) (hc : v.category = 1) (hc2 : w.category = 1) (kk : K f cs ss (pc + 1) lo (v :: w :: v :: w :: st)) : K f cs ss pc lo (v :: w :: st) := by
  obtain ⟨p, e, s, m, args, below, meth, c, Q, ⟨hx, hb, hr, hlk, hml, hown, hnm, hts⟩, hE, hQ, rfl⟩ := G
  exact fun H locs ls hW hS hl hn => lv_dup2_11 hx hb d hc hc2 (kk H locs ls hW hS hl hn)
theorem r_istore_n (G : fGood l g A En own nm cc nL ret rm Post K) {k : Fin 4} {x : Int32} {lo' : fL} (d : decode cc pc = .ok (.istore_n k, 1)) (hk : fok lo (k : Nat) = true) (hv : lo.set (k : Nat) (some (.int x)) = lo') (kk : K f cs ss (pc + 1) lo' st) : K f cs ss pc lo (.int x :: st) := by
  obtain ⟨p, e, s, m, args, below, meth, c, Q, ⟨hx, hb, hr, hlk, hml, hown, hnm, hts⟩, hE, hQ, rfl⟩ := G
  subst hv
  intro H locs ls hW hS hl hn
  exact lv_istore_n hx hb d rfl (fls_has hl) (fok_lt hk) rfl (fun ls' h' => kk H locs ls' hW hS (fls_s1 h' (fok_lt hk) (fok_2 hk)) ((List.length_set ..).trans hn))
theorem r_istore (G : fGood l g A En own nm cc nL ret rm Post K) {i : Nat} {x : Int32} {lo' : fL} (d : decode cc pc = .ok (.istore i, 2)) (hk : fok lo i = true) (hv : lo.set i (some (.int x)) = lo') (kk : K f cs ss (pc + 2) lo' st) : K f cs ss pc lo (.int x :: st) := by
  obtain ⟨p, e, s, m, args, below, meth, c, Q, ⟨hx, hb, hr, hlk, hml, hown, hnm, hts⟩, hE, hQ, rfl⟩ := G
  subst hv
  intro H locs ls hW hS hl hn
  exact lv_istore hx hb d (fls_has hl) (fok_lt hk) rfl (fun ls' h' => kk H locs ls' hW hS (fls_s1 h' (fok_lt hk) (fok_2 hk)) ((List.length_set ..).trans hn))
theorem r_astore_n (G : fGood l g A En own nm cc nL ret rm Post K) {k : Fin 4} {x : Nat} {lo' : fL} (d : decode cc pc = .ok (.astore_n k, 1)) (hk : fok lo (k : Nat) = true) (hv : lo.set (k : Nat) (some (.ref x)) = lo') (kk : K f cs ss (pc + 1) lo' st) : K f cs ss pc lo (.ref x :: st) := by
  obtain ⟨p, e, s, m, args, below, meth, c, Q, ⟨hx, hb, hr, hlk, hml, hown, hnm, hts⟩, hE, hQ, rfl⟩ := G
  subst hv
  intro H locs ls hW hS hl hn
  exact lv_astore_n hx hb d rfl (fls_has hl) (fok_lt hk) rfl (fun ls' h' => kk H locs ls' hW hS (fls_s1 h' (fok_lt hk) (fok_2 hk)) ((List.length_set ..).trans hn))
theorem r_astore (G : fGood l g A En own nm cc nL ret rm Post K) {i : Nat} {x : Nat} {lo' : fL} (d : decode cc pc = .ok (.astore i, 2)) (hk : fok lo i = true) (hv : lo.set i (some (.ref x)) = lo') (kk : K f cs ss (pc + 2) lo' st) : K f cs ss pc lo (.ref x :: st) := by
  obtain ⟨p, e, s, m, args, below, meth, c, Q, ⟨hx, hb, hr, hlk, hml, hown, hnm, hts⟩, hE, hQ, rfl⟩ := G
  subst hv
  intro H locs ls hW hS hl hn
  exact lv_astore hx hb d (fls_has hl) (fok_lt hk) rfl (fun ls' h' => kk H locs ls' hW hS (fls_s1 h' (fok_lt hk) (fok_2 hk)) ((List.length_set ..).trans hn))
theorem r_astore_nN (G : fGood l g A En own nm cc nL ret rm Post K) {k : Fin 4} {lo' : fL} (d : decode cc pc = .ok (.astore_n k, 1)) (hk : fok lo (k : Nat) = true) (hv : lo.set (k : Nat) (some .null) = lo') (kk : K f cs ss (pc + 1) lo' st) : K f cs ss pc lo (.null :: st) := by
  obtain ⟨p, e, s, m, args, below, meth, c, Q, ⟨hx, hb, hr, hlk, hml, hown, hnm, hts⟩, hE, hQ, rfl⟩ := G
  subst hv
  intro H locs ls hW hS hl hn
  exact lv_astore_nN hx hb d rfl (fls_has hl) (fok_lt hk) rfl (fun ls' h' => kk H locs ls' hW hS (fls_s1 h' (fok_lt hk) (fok_2 hk)) ((List.length_set ..).trans hn))
theorem r_astoreN (G : fGood l g A En own nm cc nL ret rm Post K) {i : Nat} {lo' : fL} (d : decode cc pc = .ok (.astore i, 2)) (hk : fok lo i = true) (hv : lo.set i (some .null) = lo') (kk : K f cs ss (pc + 2) lo' st) : K f cs ss pc lo (.null :: st) := by
  obtain ⟨p, e, s, m, args, below, meth, c, Q, ⟨hx, hb, hr, hlk, hml, hown, hnm, hts⟩, hE, hQ, rfl⟩ := G
  subst hv
  intro H locs ls hW hS hl hn
  exact lv_astoreN hx hb d (fls_has hl) (fok_lt hk) rfl (fun ls' h' => kk H locs ls' hW hS (fls_s1 h' (fok_lt hk) (fok_2 hk)) ((List.length_set ..).trans hn))
theorem r_lstore_n (G : fGood l g A En own nm cc nL ret rm Post K) {k : Fin 4} {x : Int64} {lo' : fL} (d : decode cc pc = .ok (.lstore_n k, 1)) (hk : fok lo (k : Nat) = true) (hk2 : decide ((k : Nat) + 1 < lo.length) = true) (hv : (lo.set (k : Nat) (some (.long x))).set ((k : Nat) + 1) none = lo') (kk : K f cs ss (pc + 1) lo' st) : K f cs ss pc lo (.long x :: st) := by
  obtain ⟨p, e, s, m, args, below, meth, c, Q, ⟨hx, hb, hr, hlk, hml, hown, hnm, hts⟩, hE, hQ, rfl⟩ := G
  subst hv
  intro H locs ls hW hS hl hn
  exact lv_lstore_n hx hb d rfl (fls_has hl) (of_decide_eq_true hk2) rfl (fun ls' h' => kk H locs ls' hW hS (fls_s2 h' (of_decide_eq_true hk2) (fok_2 hk)) (by rw [List.length_set, List.length_set]; exact hn))
theorem r_lstore (G : fGood l g A En own nm cc nL ret rm Post K) {i : Nat} {x : Int64} {lo' : fL} (d : decode cc pc = .ok (.lstore i, 2)) (hk : fok lo i = true) (hk2 : decide (i + 1 < lo.length) = true) (hv : (lo.set i (some (.long x))).set (i + 1) none = lo') (kk : K f cs ss (pc + 2) lo' st) : K f cs ss pc lo (.long x :: st) := by
  obtain ⟨p, e, s, m, args, below, meth, c, Q, ⟨hx, hb, hr, hlk, hml, hown, hnm, hts⟩, hE, hQ, rfl⟩ := G
  subst hv
  intro H locs ls hW hS hl hn
  exact lv_lstore hx hb d (fls_has hl) (of_decide_eq_true hk2) rfl (fun ls' h' => kk H locs ls' hW hS (fls_s2 h' (of_decide_eq_true hk2) (fok_2 hk)) (by rw [List.length_set, List.length_set]; exact hn))
theorem r_iinc (G : fGood l g A En own nm cc nL ret rm Post K) {i : Nat} {n : Int} {x v : Int32} {lo' : fL} (d : decode cc pc = .ok (.iinc i n, 3)) (hx0 : lo[i]? = some (some (.int x))) (he : x + Int32.ofInt n = v) (hk : fok lo i = true) (hv : lo.set i (some (.int v)) = lo') (kk : K f cs ss (pc + 3) lo' st) : K f cs ss pc lo st := by
  obtain ⟨p, e, s, m, args, below, meth, c, Q, ⟨hx, hb, hr, hlk, hml, hown, hnm, hts⟩, hE, hQ, rfl⟩ := G
  subst hv
  intro H locs ls hW hS hl hn
  have hl2 : lv_has ls lo.length ((i, .int x) :: fal lo) := ⟨hl.1, hl.2.1, fun q hq => (List.mem_cons.mp hq).elim (fun e0 => by rw [e0]; exact hl.2.2 _ _ hx0) (fun h => (fls_has hl).2.2 q h)⟩
  refine lv_iinc hx hb d hl2 (k := 0) rfl he (fok_lt hk) rfl (fun ls' h' => kk H locs ls' hW hS (fls_s1 (l := lo) ⟨h'.1, h'.2.1, fun q hq => h'.2.2 q ?_⟩ (fok_lt hk) (fok_2 hk)) ((List.length_set ..).trans hn))
  rcases List.mem_cons.mp hq with e0 | h
  · rw [e0]; exact List.mem_cons_self
  · refine List.mem_cons_of_mem _ (List.mem_filter.mpr ⟨List.mem_cons_of_mem _ (List.mem_filter.mp h).1, (List.mem_filter.mp h).2⟩)
theorem r_drop (G : fGood l g A En own nm cc nL ret rm Post K) (i : Nat) {lo' : fL} (hv : lo.set i none = lo') (kk : K f cs ss pc lo' st) : K f cs ss pc lo st := by
  obtain ⟨p, e, s, m, args, below, meth, c, Q, ⟨hx, hb, hr, hlk, hml, hown, hnm, hts⟩, hE, hQ, rfl⟩ := G
  subst hv
  exact fun H locs ls hW hS hl hn => kk H locs ls hW hS (fls_drop i hl) ((List.length_set ..).trans hn)
theorem r_locs (G : fGood l g A En own nm cc nL ret rm Post K) {lo' : fL} (hv : fsub lo lo' = true) (he : ∀ (i : Nat) (v : Value), lo'[i]? = some (some v) → lo[i]? = some (some v)) (kk : K f cs ss pc lo' st) : K f cs ss pc lo st := by
  obtain ⟨p, e, s, m, args, below, meth, c, Q, ⟨hx, hb, hr, hlk, hml, hown, hnm, hts⟩, hE, hQ, rfl⟩ := G
  exact fun H locs ls hW hS hl hn => kk H locs ls hW hS (fls_le hl (fsub_l hv) he) ((fsub_l hv).trans hn)
theorem r_if_eq (G : fGood l g A En own nm cc nL ret rm Post K) {x : Int32} {off : Int} (tgt : Nat) {B : Prop} (hp : x = 0 ↔ B) (d : decode cc pc = .ok (.ifCond .eq off, 3)) (ht : (pc : Int) + off = (tgt : Int)) (kt : B → K f cs ss tgt lo st) (kf : ¬ B → K f cs ss (pc + 3) lo st) : K f cs ss pc lo (.int x :: st) := by
  obtain ⟨p, e, s, m, args, below, meth, c, Q, ⟨hx, hb, hr, hlk, hml, hown, hnm, hts⟩, hE, hQ, rfl⟩ := G
  exact fun H locs ls hW hS hl hn => lv_if_eq hx hb d ht (fun h => kt (hp.mp h) H locs ls hW hS hl hn) (fun h => kf (fun b => h (hp.mpr b)) H locs ls hW hS hl hn)
theorem r_icmp_eq (G : fGood l g A En own nm cc nL ret rm Post K) {x y : Int32} {off : Int} (tgt : Nat) {B : Prop} (hp : x = y ↔ B) (d : decode cc pc = .ok (.if_icmp .eq off, 3)) (ht : (pc : Int) + off = (tgt : Int)) (kt : B → K f cs ss tgt lo st) (kf : ¬ B → K f cs ss (pc + 3) lo st) : K f cs ss pc lo (.int y :: .int x :: st) := by
  obtain ⟨p, e, s, m, args, below, meth, c, Q, ⟨hx, hb, hr, hlk, hml, hown, hnm, hts⟩, hE, hQ, rfl⟩ := G
  exact fun H locs ls hW hS hl hn => lv_icmp_eq hx hb d ht (fun h => kt (hp.mp h) H locs ls hW hS hl hn) (fun h => kf (fun b => h (hp.mpr b)) H locs ls hW hS hl hn)
theorem r_if_ne (G : fGood l g A En own nm cc nL ret rm Post K) {x : Int32} {off : Int} (tgt : Nat) {B : Prop} (hp : x = 0 ↔ B) (d : decode cc pc = .ok (.ifCond .ne off, 3)) (ht : (pc : Int) + off = (tgt : Int)) (kt : ¬ B → K f cs ss tgt lo st) (kf : B → K f cs ss (pc + 3) lo st) : K f cs ss pc lo (.int x :: st) := by
  obtain ⟨p, e, s, m, args, below, meth, c, Q, ⟨hx, hb, hr, hlk, hml, hown, hnm, hts⟩, hE, hQ, rfl⟩ := G
  exact fun H locs ls hW hS hl hn => lv_if_ne hx hb d ht (fun h => kt (fun b => h (hp.mpr b)) H locs ls hW hS hl hn) (fun h => kf (hp.mp h) H locs ls hW hS hl hn)
theorem r_icmp_ne (G : fGood l g A En own nm cc nL ret rm Post K) {x y : Int32} {off : Int} (tgt : Nat) {B : Prop} (hp : x = y ↔ B) (d : decode cc pc = .ok (.if_icmp .ne off, 3)) (ht : (pc : Int) + off = (tgt : Int)) (kt : ¬ B → K f cs ss tgt lo st) (kf : B → K f cs ss (pc + 3) lo st) : K f cs ss pc lo (.int y :: .int x :: st) := by
  obtain ⟨p, e, s, m, args, below, meth, c, Q, ⟨hx, hb, hr, hlk, hml, hown, hnm, hts⟩, hE, hQ, rfl⟩ := G
  exact fun H locs ls hW hS hl hn => lv_icmp_ne hx hb d ht (fun h => kt (fun b => h (hp.mpr b)) H locs ls hW hS hl hn) (fun h => kf (hp.mp h) H locs ls hW hS hl hn)
theorem r_if_lt (G : fGood l g A En own nm cc nL ret rm Post K) {x : Int32} {off : Int} (tgt : Nat) {B : Prop} (hp : x < 0 ↔ B) (d : decode cc pc = .ok (.ifCond .lt off, 3)) (ht : (pc : Int) + off = (tgt : Int)) (kt : B → K f cs ss tgt lo st) (kf : ¬ B → K f cs ss (pc + 3) lo st) : K f cs ss pc lo (.int x :: st) := by
  obtain ⟨p, e, s, m, args, below, meth, c, Q, ⟨hx, hb, hr, hlk, hml, hown, hnm, hts⟩, hE, hQ, rfl⟩ := G
  exact fun H locs ls hW hS hl hn => lv_if_lt hx hb d ht (fun h => kt (hp.mp h) H locs ls hW hS hl hn) (fun h => kf (fun b => h (hp.mpr b)) H locs ls hW hS hl hn)
theorem r_icmp_lt (G : fGood l g A En own nm cc nL ret rm Post K) {x y : Int32} {off : Int} (tgt : Nat) {B : Prop} (hp : x < y ↔ B) (d : decode cc pc = .ok (.if_icmp .lt off, 3)) (ht : (pc : Int) + off = (tgt : Int)) (kt : B → K f cs ss tgt lo st) (kf : ¬ B → K f cs ss (pc + 3) lo st) : K f cs ss pc lo (.int y :: .int x :: st) := by
  obtain ⟨p, e, s, m, args, below, meth, c, Q, ⟨hx, hb, hr, hlk, hml, hown, hnm, hts⟩, hE, hQ, rfl⟩ := G
  exact fun H locs ls hW hS hl hn => lv_icmp_lt hx hb d ht (fun h => kt (hp.mp h) H locs ls hW hS hl hn) (fun h => kf (fun b => h (hp.mpr b)) H locs ls hW hS hl hn)
theorem r_if_ge (G : fGood l g A En own nm cc nL ret rm Post K) {x : Int32} {off : Int} (tgt : Nat) {B : Prop} (hp : 0 ≤ x ↔ B) (d : decode cc pc = .ok (.ifCond .ge off, 3)) (ht : (pc : Int) + off = (tgt : Int)) (kt : B → K f cs ss tgt lo st) (kf : ¬ B → K f cs ss (pc + 3) lo st) : K f cs ss pc lo (.int x :: st) := by
  obtain ⟨p, e, s, m, args, below, meth, c, Q, ⟨hx, hb, hr, hlk, hml, hown, hnm, hts⟩, hE, hQ, rfl⟩ := G
  exact fun H locs ls hW hS hl hn => lv_if_ge hx hb d ht (fun h => kt (hp.mp h) H locs ls hW hS hl hn) (fun h => kf (fun b => h (hp.mpr b)) H locs ls hW hS hl hn)
theorem r_icmp_ge (G : fGood l g A En own nm cc nL ret rm Post K) {x y : Int32} {off : Int} (tgt : Nat) {B : Prop} (hp : y ≤ x ↔ B) (d : decode cc pc = .ok (.if_icmp .ge off, 3)) (ht : (pc : Int) + off = (tgt : Int)) (kt : B → K f cs ss tgt lo st) (kf : ¬ B → K f cs ss (pc + 3) lo st) : K f cs ss pc lo (.int y :: .int x :: st) := by
  obtain ⟨p, e, s, m, args, below, meth, c, Q, ⟨hx, hb, hr, hlk, hml, hown, hnm, hts⟩, hE, hQ, rfl⟩ := G
  exact fun H locs ls hW hS hl hn => lv_icmp_ge hx hb d ht (fun h => kt (hp.mp h) H locs ls hW hS hl hn) (fun h => kf (fun b => h (hp.mpr b)) H locs ls hW hS hl hn)
theorem r_if_gt (G : fGood l g A En own nm cc nL ret rm Post K) {x : Int32} {off : Int} (tgt : Nat) {B : Prop} (hp : 0 < x ↔ B) (d : decode cc pc = .ok (.ifCond .gt off, 3)) (ht : (pc : Int) + off = (tgt : Int)) (kt : B → K f cs ss tgt lo st) (kf : ¬ B → K f cs ss (pc + 3) lo st) : K f cs ss pc lo (.int x :: st) := by
  obtain ⟨p, e, s, m, args, below, meth, c, Q, ⟨hx, hb, hr, hlk, hml, hown, hnm, hts⟩, hE, hQ, rfl⟩ := G
  exact fun H locs ls hW hS hl hn => lv_if_gt hx hb d ht (fun h => kt (hp.mp h) H locs ls hW hS hl hn) (fun h => kf (fun b => h (hp.mpr b)) H locs ls hW hS hl hn)
theorem r_icmp_gt (G : fGood l g A En own nm cc nL ret rm Post K) {x y : Int32} {off : Int} (tgt : Nat) {B : Prop} (hp : y < x ↔ B) (d : decode cc pc = .ok (.if_icmp .gt off, 3)) (ht : (pc : Int) + off = (tgt : Int)) (kt : B → K f cs ss tgt lo st) (kf : ¬ B → K f cs ss (pc + 3) lo st) : K f cs ss pc lo (.int y :: .int x :: st) := by
  obtain ⟨p, e, s, m, args, below, meth, c, Q, ⟨hx, hb, hr, hlk, hml, hown, hnm, hts⟩, hE, hQ, rfl⟩ := G
  exact fun H locs ls hW hS hl hn => lv_icmp_gt hx hb d ht (fun h => kt (hp.mp h) H locs ls hW hS hl hn) (fun h => kf (fun b => h (hp.mpr b)) H locs ls hW hS hl hn)
theorem r_if_le (G : fGood l g A En own nm cc nL ret rm Post K) {x : Int32} {off : Int} (tgt : Nat) {B : Prop} (hp : x ≤ 0 ↔ B) (d : decode cc pc = .ok (.ifCond .le off, 3)) (ht : (pc : Int) + off = (tgt : Int)) (kt : B → K f cs ss tgt lo st) (kf : ¬ B → K f cs ss (pc + 3) lo st) : K f cs ss pc lo (.int x :: st) := by
  obtain ⟨p, e, s, m, args, below, meth, c, Q, ⟨hx, hb, hr, hlk, hml, hown, hnm, hts⟩, hE, hQ, rfl⟩ := G
  exact fun H locs ls hW hS hl hn => lv_if_le hx hb d ht (fun h => kt (hp.mp h) H locs ls hW hS hl hn) (fun h => kf (fun b => h (hp.mpr b)) H locs ls hW hS hl hn)
theorem r_icmp_le (G : fGood l g A En own nm cc nL ret rm Post K) {x y : Int32} {off : Int} (tgt : Nat) {B : Prop} (hp : x ≤ y ↔ B) (d : decode cc pc = .ok (.if_icmp .le off, 3)) (ht : (pc : Int) + off = (tgt : Int)) (kt : B → K f cs ss tgt lo st) (kf : ¬ B → K f cs ss (pc + 3) lo st) : K f cs ss pc lo (.int y :: .int x :: st) := by
  obtain ⟨p, e, s, m, args, below, meth, c, Q, ⟨hx, hb, hr, hlk, hml, hown, hnm, hts⟩, hE, hQ, rfl⟩ := G
  exact fun H locs ls hW hS hl hn => lv_icmp_le hx hb d ht (fun h => kt (hp.mp h) H locs ls hW hS hl hn) (fun h => kf (fun b => h (hp.mpr b)) H locs ls hW hS hl hn)
theorem r_ifb_eq (G : fGood l g A En own nm cc nL ret rm Post K) {b : Bool} {off : Int} (tgt : Nat) (d : decode cc pc = .ok (.ifCond .eq off, 3)) (ht : (pc : Int) + off = (tgt : Int)) (kt : b = false → K f cs ss tgt lo st) (kf : b = true → K f cs ss (pc + 3) lo st) : K f cs ss pc lo (.int (bI b) :: st) := r_if_eq G tgt bI_eq0 d ht kt (fun h => kf (eq_true_of_ne_false h))
theorem r_ifb_ne (G : fGood l g A En own nm cc nL ret rm Post K) {b : Bool} {off : Int} (tgt : Nat) (d : decode cc pc = .ok (.ifCond .ne off, 3)) (ht : (pc : Int) + off = (tgt : Int)) (kt : b = true → K f cs ss tgt lo st) (kf : b = false → K f cs ss (pc + 3) lo st) : K f cs ss pc lo (.int (bI b) :: st) := r_if_ne G tgt bI_eq0 d ht (fun h => kt (eq_true_of_ne_false h)) kf
theorem r_goto (G : fGood l g A En own nm cc nL ret rm Post K) {off : Int} (tgt : Nat) (d : decode cc pc = .ok (.goto off, 3)) (ht : (pc : Int) + off = (tgt : Int)) (kk : K f cs ss tgt lo st) : K f cs ss pc lo st := by
  obtain ⟨p, e, s, m, args, below, meth, c, Q, ⟨hx, hb, hr, hlk, hml, hown, hnm, hts⟩, hE, hQ, rfl⟩ := G
  exact fun H locs ls hW hS hl hn => lv_goto hx hb d ht (kk H locs ls hW hS hl hn)
theorem r_acmp_eq (G : fGood l g A En own nm cc nL ret rm Post K) {rx ry : Option Nat} {off : Int} (tgt : Nat) (d : decode cc pc = .ok (.if_acmp .eq off, 3)) (ht : (pc : Int) + off = (tgt : Int)) (kt : rx = ry → K f cs ss tgt lo st) (kf : ¬ (rx = ry) → K f cs ss (pc + 3) lo st) : K f cs ss pc lo (va_rf ry :: va_rf rx :: st) := by
  obtain ⟨p, e, s, m, args, below, meth, c, Q, ⟨hx, hb, hr, hlk, hml, hown, hnm, hts⟩, hE, hQ, rfl⟩ := G
  exact fun H locs ls hW hS hl hn => lv_acmp_eq hx hb d ht (fun h => kt h H locs ls hW hS hl hn) (fun h => kf h H locs ls hW hS hl hn)
theorem r_acmp_ne (G : fGood l g A En own nm cc nL ret rm Post K) {rx ry : Option Nat} {off : Int} (tgt : Nat) (d : decode cc pc = .ok (.if_acmp .ne off, 3)) (ht : (pc : Int) + off = (tgt : Int)) (kt : ¬ rx = ry → K f cs ss tgt lo st) (kf : ¬ (¬ rx = ry) → K f cs ss (pc + 3) lo st) : K f cs ss pc lo (va_rf ry :: va_rf rx :: st) := by
  obtain ⟨p, e, s, m, args, below, meth, c, Q, ⟨hx, hb, hr, hlk, hml, hown, hnm, hts⟩, hE, hQ, rfl⟩ := G
  exact fun H locs ls hW hS hl hn => lv_acmp_ne hx hb d ht (fun h => kt h H locs ls hW hS hl hn) (fun h => kf (fun b => b h) H locs ls hW hS hl hn)
theorem r_ifnull (G : fGood l g A En own nm cc nL ret rm Post K) {x : Nat} {off : Int} (d : decode cc pc = .ok (.ifnull off, 3)) (kk : K f cs ss (pc + 3) lo st) : K f cs ss pc lo (.ref x :: st) := by
  obtain ⟨p, e, s, m, args, below, meth, c, Q, ⟨hx, hb, hr, hlk, hml, hown, hnm, hts⟩, hE, hQ, rfl⟩ := G
  exact fun H locs ls hW hS hl hn => lv_ifnull hx hb d (kk H locs ls hW hS hl hn)
theorem r_ifnullN (G : fGood l g A En own nm cc nL ret rm Post K) {off : Int} (tgt : Nat) (d : decode cc pc = .ok (.ifnull off, 3)) (ht : (pc : Int) + off = (tgt : Int)) (kk : K f cs ss tgt lo st) : K f cs ss pc lo (.null :: st) := by
  obtain ⟨p, e, s, m, args, below, meth, c, Q, ⟨hx, hb, hr, hlk, hml, hown, hnm, hts⟩, hE, hQ, rfl⟩ := G
  exact fun H locs ls hW hS hl hn => lv_ifnullN hx hb d ht (kk H locs ls hW hS hl hn)
theorem r_ifnonnull (G : fGood l g A En own nm cc nL ret rm Post K) {x : Nat} {off : Int} (tgt : Nat) (d : decode cc pc = .ok (.ifnonnull off, 3)) (ht : (pc : Int) + off = (tgt : Int)) (kk : K f cs ss tgt lo st) : K f cs ss pc lo (.ref x :: st) := by
  obtain ⟨p, e, s, m, args, below, meth, c, Q, ⟨hx, hb, hr, hlk, hml, hown, hnm, hts⟩, hE, hQ, rfl⟩ := G
  exact fun H locs ls hW hS hl hn => lv_ifnonnull hx hb d ht (kk H locs ls hW hS hl hn)
theorem r_ifnonnullN (G : fGood l g A En own nm cc nL ret rm Post K) {off : Int} (d : decode cc pc = .ok (.ifnonnull off, 3)) (kk : K f cs ss (pc + 3) lo st) : K f cs ss pc lo (.null :: st) := by
  obtain ⟨p, e, s, m, args, below, meth, c, Q, ⟨hx, hb, hr, hlk, hml, hown, hnm, hts⟩, hE, hQ, rfl⟩ := G
  exact fun H locs ls hW hS hl hn => lv_ifnonnullN hx hb d (kk H locs ls hW hS hl hn)
theorem r_tableOut (G : fGood l g A En own nm cc nL ret rm Post K) {dflt lo0 hi : Int} {offs : Array Int} {len : Nat} {x : Int32} (tgt : Nat) (d : decode cc pc = .ok (.tableswitch dflt lo0 hi offs, len)) (h : x.toInt < lo0 ∨ hi < x.toInt) (ht : (pc : Int) + dflt = (tgt : Int)) (kk : K f cs ss tgt lo st) : K f cs ss pc lo (.int x :: st) := by
  obtain ⟨p, e, s, m, args, below, meth, c, Q, ⟨hx, hb, hr, hlk, hml, hown, hnm, hts⟩, hE, hQ, rfl⟩ := G
  exact fun H locs ls hW hS hl hn => lv_tableOut hx hb d h ht (kk H locs ls hW hS hl hn)
theorem r_tableIn (G : fGood l g A En own nm cc nL ret rm Post K) {dflt lo0 hi off : Int} {offs : Array Int} {len : Nat} {x : Int32} (tgt : Nat) (d : decode cc pc = .ok (.tableswitch dflt lo0 hi offs, len)) (h1 : ¬ x.toInt < lo0) (h2 : ¬ hi < x.toInt) (ho : offs[(x.toInt - lo0).toNat]? = some off) (ht : (pc : Int) + off = (tgt : Int)) (kk : K f cs ss tgt lo st) : K f cs ss pc lo (.int x :: st) := by
  obtain ⟨p, e, s, m, args, below, meth, c, Q, ⟨hx, hb, hr, hlk, hml, hown, hnm, hts⟩, hE, hQ, rfl⟩ := G
  exact fun H locs ls hW hS hl hn => lv_tableIn hx hb d h1 h2 ho ht (kk H locs ls hW hS hl hn)
theorem r_lookup (G : fGood l g A En own nm cc nL ret rm Post K) {dflt off : Int} {ps : Array (Int × Int)} {len : Nat} {x : Int32} (tgt : Nat) (d : decode cc pc = .ok (.lookupswitch dflt ps, len)) (hp : (ps.toList.zip (ps.toList.drop 1)).all (fun (a, next) => a.1 < next.1) = true) (ho : Op.lookupswitch.offset ps.toList dflt x.toInt = off) (ht : (pc : Int) + off = (tgt : Int)) (kk : K f cs ss tgt lo st) : K f cs ss pc lo (.int x :: st) := by
  obtain ⟨p, e, s, m, args, below, meth, c, Q, ⟨hx, hb, hr, hlk, hml, hown, hnm, hts⟩, hE, hQ, rfl⟩ := G
  exact fun H locs ls hW hS hl hn => lv_lookup hx hb d hp ho ht (kk H locs ls hW hS hl hn)
theorem r_ldc (G : fGood l g A En own nm cc nL ret rm Post K) {index : Nat} {v : Int32} (hq : Cond.constant own index v ∈ lw_all) (d : decode cc pc = .ok (.ldc index, 2)) (kk : K f cs ss (pc + 2) lo (.int v :: st)) : K f cs ss pc lo st := by
  obtain ⟨p, e, s, m, args, below, meth, c, Q, ⟨hx, hb, hr, hlk, hml, hown, hnm, hts⟩, hE, hQ, rfl⟩ := G
  exact fun H locs ls hW hS hl hn => lv_ldc hx hb hown (hts _ hq) d (kk H locs ls hW hS hl hn)
theorem r_ldc2 (G : fGood l g A En own nm cc nL ret rm Post K) {index : Nat} {v : Int64} (hq : Cond.constantLong own index v ∈ lw_all) (d : decode cc pc = .ok (.ldc2_w index, 3)) (kk : K f cs ss (pc + 3) lo (.long v :: st)) : K f cs ss pc lo st := by
  obtain ⟨p, e, s, m, args, below, meth, c, Q, ⟨hx, hb, hr, hlk, hml, hown, hnm, hts⟩, hE, hQ, rfl⟩ := G
  exact fun H locs ls hW hS hl hn => lv_ldc2 hx hb hown (hts _ hq) d (kk H locs ls hW hS hl hn)
theorem r_int (G : fGood l g A En own nm cc nL ret rm Post K) {x : Int32} (v : Int32) (hv : x = v) (kk : K f cs ss pc lo (.int v :: st)) : K f cs ss pc lo (.int x :: st) := hv ▸ kk
end FLR
section FLH
variable {l : Launch} {g : fG} {A : Nat → Prop} {En : State → Prop} {own nm : String} {cc : ByteArray} {nL : Nat} {ret : Option FieldType} {rm : Room} {Post : Option Value → fH → Prop} {K : fKt} {f : fH} {cs ss pc : Nat} {lo : fL} {st : List Value}
theorem fl_apart {D : va_G} {s : State} {args : Array Value} {cl : List vw_C} {tys : List (ClassId × FieldType)} {C : String} {T : u_T} {N ci : Nat} {Ts : List Cond} (hts : ∀ w ∈ Ts, w.before args s = true) (hin : ∀ w ∈ u_ws C T N, w ∈ Ts) (ty : Nat → FieldType) (hty : ∀ k, k < N → parseFieldDescriptor (T k).2.2.1 = some (ty k)) (hnm : ∀ a, a < N → ∀ b, b < N → a ≠ b → (T a).2.1 ≠ (T b).2.1 ∨ (T a).1 ≠ (T b).1 ∧ (T a).2.2.2 = true ∧ (T b).2.2.2 = true) (hK : va_K D cl tys s) (hc : cl[ci]? = some (C, T, N)) : ∀ x y, x < N → y < N → x ≠ y → (D.2 ci) x ≠ (D.2 ci) y := by
  intro x y hx hy hne
  obtain ⟨hS, -⟩ := hK.1 ci _ hc
  obtain ⟨cfa, kfa, ia, fa, hia, ea⟩ := hS x hx
  obtain ⟨cfb, kfb, ib, fb, hib, eb⟩ := hS y hy
  rw [← ea, ← eb]
  rcases hnm x hx y hy hne with q | ⟨q1, q2, q3⟩
  · refine u_apart (u_lays hts hin hx) (u_lays hts hin hy) hia hib ?_
    rw [(State.fieldFound?_type hia (hty x hx)).1, (State.fieldFound?_type hib (hty y hy)).1]
    exact q
  · have h1 := hts _ (hin _ (u_in_lay hx))
    have h2 := hts _ (hin _ (u_in_lay hy))
    unfold u_lay at h1 h2
    rw [if_pos q2] at h1
    rw [if_pos q3] at h2
    obtain ⟨c1, k1, c1', k1', i1, f1, r1, r2, r3, -, -, -, r4, -, d1, r5, r6, -⟩ := Cond.laysFinal_spec h1
    obtain ⟨c2, k2, c2', k2', i2, f2, t1, t2, t3, -, -, -, t4, -, d2, t5, t6, -⟩ := Cond.laysFinal_spec h2
    cases hia.symm.trans r3
    cases hib.symm.trans t3
    cases r1.symm.trans t1
    obtain ⟨z1, z2, z3⟩ := Vm.findClass_spec r4
    obtain ⟨w1, w2, w3⟩ := Vm.findClass_spec t4
    have e1 := (State.fieldFound?_spec hia).1
    have e2 := (State.fieldFound?_spec hib).1
    cases z2.symm.trans e1
    cases w2.symm.trans e2
    intro hs
    rw [hs] at r5
    cases r5.symm.trans t5
    apply q1
    rw [← z3, ← w3, ← r6, ← t6]
def fCls (ci : Nat) (C : String) (T : u_T) (N : Nat) (ty : Nat → FieldType) : Prop := fCl[ci]? = some (C, T, N) ∧ (∀ w ∈ u_ws C T N, w ∈ lw_all) ∧ (∀ k, k < N → parseFieldDescriptor (T k).2.2.1 = some (ty k)) ∧ ∀ a, a < N → ∀ b, b < N → a ≠ b → (T a).2.1 ≠ (T b).2.1 ∨ (T a).1 ≠ (T b).1 ∧ (T a).2.2.2 = true ∧ (T b).2.2.2 = true
theorem r_getf (G : fGood l g A En own nm cc nL ret rm Post K) {ci : Nat} {C : String} {T : u_T} {N : Nat} {ty : Nat → FieldType} (hc : fCls ci C T N ty) {a index : Nat} {fs : List Value} (he : f a = some (.inr (ci, fs))) {ref : String} (k : Nat) (hk : k < N) (hq : Cond.fieldLink own index ref (T k).2.1 (T k).2.2.1 ∈ lw_all) (href : ref = (T k).1) {v : Value} (hv : fs[k]? = some v) (d : decode cc pc = .ok (.getfield index, 3)) (kk : K f cs ss (pc + 3) lo (v :: st)) : K f cs ss pc lo (.ref a :: st) := by
  obtain ⟨p, e, s, m, args, below, meth, c, Q, ⟨hx, hb, hr, hlk, hml, hown, hnm, hts⟩, hE, hQ, rfl⟩ := G
  subst href
  exact fun H locs ls hW hS hl hn => va_get (D := g.1) (ws := [(a, .inr (ci, fs))]) hx hb hts hc.2.1 hown (hE.1.1 s hE.2) (hW.one he) 0 rfl hc.1 k hk (hts _ hq) (fun _ h9 => h9) hv d (kk H locs ls hW hS hl hn)
theorem r_getfN (G : fGood l g A En own nm cc nL ret rm Post K) {ci : Nat} {C : String} {T : u_T} {N : Nat} {ty : Nat → FieldType} (hc : fCls ci C T N ty) {a index : Nat} {fs : List Value} (he : f a = some (.inr (ci, fs))) {ref host : String} (k : Nat) (hk : k < N) (hq : ∀ U, En U → va_Nw (.fieldLinkNest own index ref (T k).2.1 (T k).2.2.1 host) U) (href : ref = (T k).1) {v : Value} (hv : fs[k]? = some v) (d : decode cc pc = .ok (.getfield index, 3)) (kk : K f cs ss (pc + 3) lo (v :: st)) : K f cs ss pc lo (.ref a :: st) := by
  obtain ⟨p, e, s, m, args, below, meth, c, Q, ⟨hx, hb, hr, hlk, hml, hown, hnm, hts⟩, hE, hQ, rfl⟩ := G
  subst href
  exact fun H locs ls hW hS hl hn => va_getN (D := g.1) (ws := [(a, .inr (ci, fs))]) hx hb hts hc.2.1 hown (hE.1.1 s hE.2) (hW.one he) 0 rfl hc.1 k hk ((hq s hE.2).use rfl) (fun _ h9 => h9) hv d (kk H locs ls hW hS hl hn)
theorem r_putf (G : fGood l g A En own nm cc nL ret rm Post K) {ci : Nat} {C : String} {T : u_T} {N : Nat} {ty : Nat → FieldType} (hc : fCls ci C T N ty) {a index : Nat} {fs : List Value} (he : f a = some (.inr (ci, fs))) (hA : A a) {ref : String} (k : Nat) (hk : k < N) (hq : Cond.fieldLink own index ref (T k).2.1 (T k).2.2.1 ∈ lw_all) (href : ref = (T k).1) (hfin : (T k).2.2.2 = false) {v : Value} (hn : narrow (ty k) v = v) (hfit : fits (ty k) v = true) (hl : k < fs.length) {f' : fH} (hf' : fU f a (.inr (ci, fs.set k v)) = f') (d : decode cc pc = .ok (.putfield index, 3)) (kk : K f' cs ss (pc + 3) lo st) : K f cs ss pc lo (v :: .ref a :: st) := by
  obtain ⟨p, e, s, m, args, below, meth, c, Q, ⟨hx, hb, hr, hlk, hml, hown, hnm, hts⟩, hE, hQ, rfl⟩ := G
  subst href; subst hf'
  intro H locs ls hW hS hl0 hn0
  have hK := hE.1.1 s hE.2
  obtain ⟨h0, hin, hty, hnmT⟩ := hc
  have hap := fl_apart hts hin ty hty hnmT hK h0
  obtain ⟨r, h1, cell, q1, q2, q3, q4⟩ := hW a _ he
  have hr : r = (C, T, N) := Option.some.inj (h1.symm.trans h0)
  subst hr
  obtain ⟨hSl, hfc, kC, hkC, hkind⟩ := hK.1 ci _ h0
  obtain ⟨cf, kf, fi, fd, hi, hsl⟩ := hSl k hk
  have hlay := hts _ (hin _ (u_in_lay hk))
  unfold u_lay at hlay
  rw [if_neg (by rw [hfin]; decide)] at hlay
  have hst := (u_facts hfc hkC (u_lays hts hin hk) hi).1
  have h6 := u_store hfc hkC hkind hlay hi (hty k hk) hn hfit
  refine W.putK hx hb (f := fd) ⟨hown, hts _ hq, ⟨_, _, _, hi⟩, hst⟩ (by rw [q2]; exact h6) q1 q3 (by rw [hsl]; exact k2_hasslot (q4 k hk)) rfl rfl d fun H' e1 e2 e3 => ?_
  rw [hsl] at e1 ⊢
  exact kk H' _ ls (hW.set ⟨_, h0, t_OB.to (V := updV (vp_V fs) k v) ⟨_, e1, q2, q3, t_set q4 hap hk v⟩ (fun j _ => vp_updV_set hl v j)⟩ e3) (hS.put e2 e3 hA) hl0 hn0
theorem r_putfF (G : fGood l g A En own nm cc nL ret rm Post K) {ci : Nat} {C : String} {T : u_T} {N : Nat} {ty : Nat → FieldType} (hc : fCls ci C T N ty) {a index : Nat} {fs : List Value} (he : f a = some (.inr (ci, fs))) (hA : A a) {ref : String} (k : Nat) (hk : k < N) (hq : Cond.fieldLink own index ref (T k).2.1 (T k).2.2.1 ∈ lw_all) (href : ref = (T k).1) (hfin : (T k).2.2.2 = true) (hinit : nm = "<init>") (hdecl : (T k).1 = own) {v : Value} (hn : narrow (ty k) v = v) (hfit : fits (ty k) v = true) (hl : k < fs.length) {f' : fH} (hf' : fU f a (.inr (ci, fs.set k v)) = f') (d : decode cc pc = .ok (.putfield index, 3)) (kk : K f' cs ss (pc + 3) lo st) : K f cs ss pc lo (v :: .ref a :: st) := by
  obtain ⟨p, e, s, m, args, below, meth, c, Q, ⟨hx, hb, hr, hlk, hml, hown, hnm, hts⟩, hE, hQ, rfl⟩ := G
  subst href; subst hf'
  intro H locs ls hW hS hl0 hn0
  have hK := hE.1.1 s hE.2
  obtain ⟨h0, hin, hty, hnmT⟩ := hc
  have hap := fl_apart hts hin ty hty hnmT hK h0
  obtain ⟨r, h1, cell, q1, q2, q3, q4⟩ := hW a _ he
  have hr : r = (C, T, N) := Option.some.inj (h1.symm.trans h0)
  subst hr
  obtain ⟨hSl, hfc, kC, hkC, hkind⟩ := hK.1 ci _ h0
  obtain ⟨cf, kf, fi, fd, hi, hsl⟩ := hSl k hk
  have hlay := hts _ (hin _ (u_in_lay hk))
  unfold u_lay at hlay
  rw [if_pos hfin] at hlay
  have hst := (u_facts hfc hkC (u_lays hts hin hk) hi).1
  have hcf : m.cls = cf := by
    obtain ⟨_, _, c', _, _, _, -, -, hf', -, -, -, hown2, -⟩ := Cond.laysFinal_spec hlay
    have e1 : c' = cf := by have := hi.symm.trans hf'; simp at this; exact this.1.symm
    rw [hdecl] at hown2
    rw [← e1]; exact Option.some.inj (hown.symm.trans hown2)
  have h6 := u_fits hfc hkC hkind (Or.inr hlay) hi (hty k hk) hn hfit
  refine W.putFinK hx hb hown (hts _ hq) hi hst hcf (hnm.trans hinit) (by rw [q2]; exact h6) q1 q3 (by rw [hsl]; exact k2_hasslot (q4 k hk)) rfl rfl d fun H' e1 e2 e3 => ?_
  rw [hsl] at e1 ⊢
  exact kk H' _ ls (hW.set ⟨_, h0, t_OB.to (V := updV (vp_V fs) k v) ⟨_, e1, q2, q3, t_set q4 hap hk v⟩ (fun j _ => vp_updV_set hl v j)⟩ e3) (hS.put e2 e3 hA) hl0 hn0
theorem r_iald (G : fGood l g A En own nm cc nL ret rm Post K) {a n : Nat} {fn : Nat → Int32} (he : f a = some (.inl (g.2 0, n, .inl fn))) {i v : Int32} (hin : vp_in i n) (hv : fn i.toNatClampNeg = v) (d : decode cc pc = .ok (.iaload, 1)) (kk : K f cs ss (pc + 1) lo (.int v :: st)) : K f cs ss pc lo (.int i :: .ref a :: st) := by
  obtain ⟨p, e, s, m, args, below, meth, c, Q, ⟨hx, hb, hr, hlk, hml, hown, hnm, hts⟩, hE, hQ, rfl⟩ := G
  subst hv
  exact fun H locs ls hW hS hl hn => va_iald (D := g.1) (cl := fCl) (tys := fTy g.2) (ws := [(a, .inl (g.2 0, n, .inl fn))]) hx hb (hE.1.1 s hE.2) (hW.one he) 0 0 rfl rfl hin d (kk H locs ls hW hS hl hn)
theorem r_iast (G : fGood l g A En own nm cc nL ret rm Post K) {a n : Nat} {fn : Nat → Int32} (he : f a = some (.inl (g.2 0, n, .inl fn))) (hA : A a) {i x : Int32} (hin : vp_in i n) {f' : fH} (hf' : fU f a (.inl (g.2 0, n, .inl (upd fn i.toNatClampNeg x))) = f') (d : decode cc pc = .ok (.iastore, 1)) (kk : K f' cs ss (pc + 1) lo st) : K f cs ss pc lo (.int x :: .int i :: .ref a :: st) := by
  obtain ⟨p, e, s, m, args, below, meth, c, Q, ⟨hx, hb, hr, hlk, hml, hown, hnm, hts⟩, hE, hQ, rfl⟩ := G
  subst hf'
  intro H locs ls hW hS hl hn
  have hK := hE.1.1 s hE.2
  have hP := hW a _ he
  refine W.iast hx hb hP ((hK.2 0 _ rfl).1 n (fun j => .int (fn j))) (fun q => by cases q) (by show ¬ (i < 0 ∨ (arrV _ _ _).slots.size ≤ _); rw [arrV_size]; exact hin) rfl rfl d fun H1 e1 z oq => ?_
  refine kk H1 _ ls (hW.set ?_ oq) (hS.put z oq hA) hl hn
  show H1[a]? = some (vp_cell _ _)
  rw [e1]
  rw [vp_cell_i, vp_cell_i, arrV_store]
  congr 2
  funext q
  by_cases hq : q = i.toNatClampNeg
  · subst hq
    simp [updV, upd]
    
  · simp [updV, upd, hq]
theorem r_bald (G : fGood l g A En own nm cc nL ret rm Post K) {a n : Nat} {fn : Nat → Int32} (he : f a = some (.inl (g.2 1, n, .inl fn))) {i v : Int32} (hin : vp_in i n) (hv : fn i.toNatClampNeg = v) (d : decode cc pc = .ok (.baload, 1)) (kk : K f cs ss (pc + 1) lo (.int v :: st)) : K f cs ss pc lo (.int i :: .ref a :: st) := by
  obtain ⟨p, e, s, m, args, below, meth, c, Q, ⟨hx, hb, hr, hlk, hml, hown, hnm, hts⟩, hE, hQ, rfl⟩ := G
  subst hv
  exact fun H locs ls hW hS hl hn => va_bald (D := g.1) (cl := fCl) (tys := fTy g.2) (ws := [(a, .inl (g.2 1, n, .inl fn))]) hx hb (hE.1.1 s hE.2) (hW.one he) 0 1 rfl rfl hin d (kk H locs ls hW hS hl hn)
theorem r_bast (G : fGood l g A En own nm cc nL ret rm Post K) {a n : Nat} {fn : Nat → Int32} (he : f a = some (.inl (g.2 1, n, .inl fn))) (hA : A a) {i x : Int32} (hin : vp_in i n) {f' : fH} (hf' : fU f a (.inl (g.2 1, n, .inl (upd fn i.toNatClampNeg (vp_nar .byte x)))) = f') (d : decode cc pc = .ok (.bastore, 1)) (kk : K f' cs ss (pc + 1) lo st) : K f cs ss pc lo (.int x :: .int i :: .ref a :: st) := by
  obtain ⟨p, e, s, m, args, below, meth, c, Q, ⟨hx, hb, hr, hlk, hml, hown, hnm, hts⟩, hE, hQ, rfl⟩ := G
  subst hf'
  intro H locs ls hW hS hl hn
  have hK := hE.1.1 s hE.2
  have hP := hW a _ he
  refine W.bast hx hb hP ((hK.2 1 _ rfl).1 n (fun j => .int (fn j))) (fun q => by cases q) (by show ¬ (i < 0 ∨ (arrV _ _ _).slots.size ≤ _); rw [arrV_size]; exact hin) rfl rfl d fun H1 e1 z oq => ?_
  refine kk H1 _ ls (hW.set ?_ oq) (hS.put z oq hA) hl hn
  show H1[a]? = some (vp_cell _ _)
  rw [e1]
  rw [vp_cell_i, vp_cell_i, arrV_store]
  congr 2
  funext q
  by_cases hq : q = i.toNatClampNeg
  · subst hq
    simp [updV, upd, vp_nar]
    try rfl
  · simp [updV, upd, hq]
theorem r_sald (G : fGood l g A En own nm cc nL ret rm Post K) {a n : Nat} {fn : Nat → Int32} (he : f a = some (.inl (g.2 2, n, .inl fn))) {i v : Int32} (hin : vp_in i n) (hv : fn i.toNatClampNeg = v) (d : decode cc pc = .ok (.saload, 1)) (kk : K f cs ss (pc + 1) lo (.int v :: st)) : K f cs ss pc lo (.int i :: .ref a :: st) := by
  obtain ⟨p, e, s, m, args, below, meth, c, Q, ⟨hx, hb, hr, hlk, hml, hown, hnm, hts⟩, hE, hQ, rfl⟩ := G
  subst hv
  exact fun H locs ls hW hS hl hn => va_sald (D := g.1) (cl := fCl) (tys := fTy g.2) (ws := [(a, .inl (g.2 2, n, .inl fn))]) hx hb (hE.1.1 s hE.2) (hW.one he) 0 2 rfl rfl hin d (kk H locs ls hW hS hl hn)
theorem r_sast (G : fGood l g A En own nm cc nL ret rm Post K) {a n : Nat} {fn : Nat → Int32} (he : f a = some (.inl (g.2 2, n, .inl fn))) (hA : A a) {i x : Int32} (hin : vp_in i n) {f' : fH} (hf' : fU f a (.inl (g.2 2, n, .inl (upd fn i.toNatClampNeg (vp_nar .short x)))) = f') (d : decode cc pc = .ok (.sastore, 1)) (kk : K f' cs ss (pc + 1) lo st) : K f cs ss pc lo (.int x :: .int i :: .ref a :: st) := by
  obtain ⟨p, e, s, m, args, below, meth, c, Q, ⟨hx, hb, hr, hlk, hml, hown, hnm, hts⟩, hE, hQ, rfl⟩ := G
  subst hf'
  intro H locs ls hW hS hl hn
  have hK := hE.1.1 s hE.2
  have hP := hW a _ he
  refine W.sast hx hb hP ((hK.2 2 _ rfl).1 n (fun j => .int (fn j))) (fun q => by cases q) (by show ¬ (i < 0 ∨ (arrV _ _ _).slots.size ≤ _); rw [arrV_size]; exact hin) rfl rfl d fun H1 e1 z oq => ?_
  refine kk H1 _ ls (hW.set ?_ oq) (hS.put z oq hA) hl hn
  show H1[a]? = some (vp_cell _ _)
  rw [e1]
  rw [vp_cell_i, vp_cell_i, arrV_store]
  congr 2
  funext q
  by_cases hq : q = i.toNatClampNeg
  · subst hq
    simp [updV, upd, vp_nar]
    try rfl
  · simp [updV, upd, hq]
theorem r_alen (G : fGood l g A En own nm cc nL ret rm Post K) {a : Nat} {x : vp_A} (t0 : Nat) {cA : ClassId} {ty : FieldType} (ht : (fTy g.2)[t0]? = some (cA, ty)) (he : f a = some (.inl (cA, x))) {v : Int32} (hv : Int32.ofNat x.1 = v) (d : decode cc pc = .ok (.arraylength, 1)) (kk : K f cs ss (pc + 1) lo (.int v :: st)) : K f cs ss pc lo (.ref a :: st) := by
  obtain ⟨p, e, s, m, args, below, meth, c, Q, ⟨hx, hb, hr, hlk, hml, hown, hnm, hts⟩, hE, hQ, rfl⟩ := G
  exact fun H locs ls hW hS hl hn => va_alen (D := g.1) (cl := fCl) (tys := fTy g.2) (ws := [(a, .inl (cA, x))]) hx hb (hE.1.1 s hE.2) (hW.one he) 0 t0 rfl ht hv d (kk H locs ls hW hS hl hn)
theorem r_newa_i (G : fGood l g A En own nm cc nL ret rm Post K) (hq : Cond.arrayClass .int ∈ lw_all) (hAn : ∀ U, En U → ∀ q, U.heap.size ≤ q → A q) {n : Int32} (N : Nat) (hn0 : ¬ n < 0) (hN : n.toNatClampNeg = N) (hby : N ≤ 65536) {cs' ss' : Nat} (hcs : cs + 1 = cs') (hss : ss + N = ss') (hc : cs' ≤ rm.cells ∧ ss' ≤ rm.slots) (d : decode cc pc = .ok (.newarray .int, 2)) (kk : ∀ q : Nat, f q = none → A q → K (fU f q (.inl (g.2 0, N, .inl (fun _ => 0)))) cs' ss' (pc + 2) lo (.ref q :: st)) : K f cs ss pc lo (.int n :: st) := by
  obtain ⟨p, e, s, m, args, below, meth, c, Q, ⟨hx, hb, hr, hlk, hml, hown, hnm, hts⟩, hE, hQ, rfl⟩ := G
  subst hcs; subst hss
  intro H locs ls hW hS hl hn
  have hK := hE.1.1 s hE.2
  refine va_newaK (atype := .int) hx hb (hts _ hq) rfl d rfl hn0 hN (by show N * componentBytes .int ≤ _; simp only [componentBytes]; omega) hc.1 hc.2 rfl fun H1 cA e1 z1 o1 hAr hNm => ?_
  have hcA : cA = g.2 0 := Option.some.inj (hNm.symm.trans (hK.2 0 _ rfl).2)
  subst hcA
  exact kk H.size hW.fresh (hAn s hE.2 _ hS.1) H1 locs ls (hW.new e1 rfl o1) ⟨Nat.le_trans hS.1 (by omega), fun x h1 h2 => (o1 x (Nat.lt_of_lt_of_le h1 hS.1)).trans (hS.2.1 x h1 h2), hS.2.2⟩ hl hn
theorem r_newa_b (G : fGood l g A En own nm cc nL ret rm Post K) (hq : Cond.arrayClass .byte ∈ lw_all) (hAn : ∀ U, En U → ∀ q, U.heap.size ≤ q → A q) {n : Int32} (N : Nat) (hn0 : ¬ n < 0) (hN : n.toNatClampNeg = N) (hby : N ≤ 65536) {cs' ss' : Nat} (hcs : cs + 1 = cs') (hss : ss + N = ss') (hc : cs' ≤ rm.cells ∧ ss' ≤ rm.slots) (d : decode cc pc = .ok (.newarray .byte, 2)) (kk : ∀ q : Nat, f q = none → A q → K (fU f q (.inl (g.2 1, N, .inl (fun _ => 0)))) cs' ss' (pc + 2) lo (.ref q :: st)) : K f cs ss pc lo (.int n :: st) := by
  obtain ⟨p, e, s, m, args, below, meth, c, Q, ⟨hx, hb, hr, hlk, hml, hown, hnm, hts⟩, hE, hQ, rfl⟩ := G
  subst hcs; subst hss
  intro H locs ls hW hS hl hn
  have hK := hE.1.1 s hE.2
  refine va_newaK (atype := .byte) hx hb (hts _ hq) rfl d rfl hn0 hN (by show N * componentBytes .byte ≤ _; simp only [componentBytes]; omega) hc.1 hc.2 rfl fun H1 cA e1 z1 o1 hAr hNm => ?_
  have hcA : cA = g.2 1 := Option.some.inj (hNm.symm.trans (hK.2 1 _ rfl).2)
  subst hcA
  exact kk H.size hW.fresh (hAn s hE.2 _ hS.1) H1 locs ls (hW.new e1 rfl o1) ⟨Nat.le_trans hS.1 (by omega), fun x h1 h2 => (o1 x (Nat.lt_of_lt_of_le h1 hS.1)).trans (hS.2.1 x h1 h2), hS.2.2⟩ hl hn
theorem r_newa_s (G : fGood l g A En own nm cc nL ret rm Post K) (hq : Cond.arrayClass .short ∈ lw_all) (hAn : ∀ U, En U → ∀ q, U.heap.size ≤ q → A q) {n : Int32} (N : Nat) (hn0 : ¬ n < 0) (hN : n.toNatClampNeg = N) (hby : N ≤ 65536) {cs' ss' : Nat} (hcs : cs + 1 = cs') (hss : ss + N = ss') (hc : cs' ≤ rm.cells ∧ ss' ≤ rm.slots) (d : decode cc pc = .ok (.newarray .short, 2)) (kk : ∀ q : Nat, f q = none → A q → K (fU f q (.inl (g.2 2, N, .inl (fun _ => 0)))) cs' ss' (pc + 2) lo (.ref q :: st)) : K f cs ss pc lo (.int n :: st) := by
  obtain ⟨p, e, s, m, args, below, meth, c, Q, ⟨hx, hb, hr, hlk, hml, hown, hnm, hts⟩, hE, hQ, rfl⟩ := G
  subst hcs; subst hss
  intro H locs ls hW hS hl hn
  have hK := hE.1.1 s hE.2
  refine va_newaK (atype := .short) hx hb (hts _ hq) rfl d rfl hn0 hN (by show N * componentBytes .short ≤ _; simp only [componentBytes]; omega) hc.1 hc.2 rfl fun H1 cA e1 z1 o1 hAr hNm => ?_
  have hcA : cA = g.2 2 := Option.some.inj (hNm.symm.trans (hK.2 2 _ rfl).2)
  subst hcA
  exact kk H.size hW.fresh (hAn s hE.2 _ hS.1) H1 locs ls (hW.new e1 rfl o1) ⟨Nat.le_trans hS.1 (by omega), fun x h1 h2 => (o1 x (Nat.lt_of_lt_of_le h1 hS.1)).trans (hS.2.1 x h1 h2), hS.2.2⟩ hl hn
theorem r_new (G : fGood l g A En own nm cc nL ret rm Post K) {ci : Nat} {C : String} {T : u_T} {N : Nat} {ty : Nat → FieldType} (hc : fCls ci C T N ty) {index : Nat} (hq : Cond.classLink own index C ∈ lw_all) (hq2 : Cond.instantiable C N ∈ lw_all) (hq3 : Cond.initialized C ∈ lw_all) (hAn : ∀ U, En U → ∀ q, U.heap.size ≤ q → A q) (fs : List Value) (hfs : ∀ j, j < N → defaultValue (ty j) = vp_V fs j) {cs' ss' : Nat} (hcs : cs + 1 = cs') (hss : ss + N = ss') (hcc : cs' ≤ rm.cells ∧ ss' ≤ rm.slots) (d : decode cc pc = .ok (.new index, 3)) (kk : ∀ q : Nat, f q = none → A q → K (fU f q (.inr (ci, fs))) cs' ss' (pc + 3) lo (.ref q :: st)) : K f cs ss pc lo st := by
  obtain ⟨p, e, s, m, args, below, meth, c, Q, ⟨hx, hb, hr, hlk, hml, hown, hnm, hts⟩, hE, hQ, rfl⟩ := G
  subst hcs; subst hss
  intro H locs ls hW hS hl hn
  have hK := hE.1.1 s hE.2
  obtain ⟨h0, hin, hty, hnmT⟩ := hc
  have hKn := hK.1 ci _ h0
  refine W.newcK hx hb hown (hts _ hq) (hts _ hq2) (hts _ hq3) rfl d hcc.1 hcc.2 hKn.2.1 rfl fun H1 kC hkC e1 z1 o1 => ?_
  exact kk H.size hW.fresh (hAn s hE.2 _ hS.1) H1 locs ls (hW.new ⟨_, h0, (u_born ty hts hin hKn hkC e1 hty).to hfs⟩ rfl o1) ⟨Nat.le_trans hS.1 (by omega), fun x h1 h2 => (o1 x (Nat.lt_of_lt_of_le h1 hS.1)).trans (hS.2.1 x h1 h2), hS.2.2⟩ hl hn
theorem r_objInit (G : fGood l g A En own nm cc nL ret rm Post K) {a idx : Nat} (h1 : Cond.methodLink own idx objectInit ∈ lw_all) (h2 : Cond.instanceMethod objectInit ∈ lw_all) (h3 : Cond.code objectInit ⟨#[0xb1]⟩ 1 none ∈ lw_all) (hR : 1 ≤ rm.frames ∧ 20 ≤ rm.locals) (hst : (st.map fun v => v.category).sum ≤ 8) (d : decode cc pc = .ok (.invokespecial idx, 3)) (kk : K f cs ss (pc + 3) lo st) : K f cs ss pc lo (.ref a :: st) := by
  obtain ⟨p, e, s, m, args, below, meth, c, Q, ⟨hx, hb, hr, hlk, hml, hown, hnm, hts⟩, hE, hQ, rfl⟩ := G
  intro H locs ls hW hS hl hn
  refine W.objInit hx hb hown (hts _ h1) (hts _ h2) (hts _ h3) rfl (by rw [hml, ← hn]; exact hl.1) rfl d hR.1 (by show 2 * 0 + _ + 12 ≤ _; omega) ?_
  exact kk H locs ls hW hS hl hn
theorem r_iret (G : fGood l g A En own nm cc nL ret rm Post K) {v : Int32} (hret : ret = some .int) (hc : cs ≤ rm.cells ∧ ss ≤ rm.slots) (d : decode cc pc = .ok (.ireturn, 1)) (hp : Post (some (.int v)) f) : K f cs ss pc lo [.int v] := by
  obtain ⟨p, e, s, m, args, below, meth, c, Q, ⟨hx, hb, hr, hlk, hml, hown, hnm, hts⟩, hE, hQ, rfl⟩ := G
  exact fun H locs ls hW hS hl hn => W.monoQ hQ (W.widen hc.1 hc.2 (W.iret hx hb (hr.trans hret) (fun t ht hWm => ⟨⟨_, f, rfl, hp, by rw [ht]; exact hW, hE.1.2 s t (fE0.of hS ht hWm) hE.2⟩, hS.F ht⟩) hS.2.2 d hlk))
theorem r_lret (G : fGood l g A En own nm cc nL ret rm Post K) {v : Int64} (hret : ret = some .long) (hc : cs ≤ rm.cells ∧ ss ≤ rm.slots) (d : decode cc pc = .ok (.lreturn, 1)) (hp : Post (some (.long v)) f) : K f cs ss pc lo [.long v] := by
  obtain ⟨p, e, s, m, args, below, meth, c, Q, ⟨hx, hb, hr, hlk, hml, hown, hnm, hts⟩, hE, hQ, rfl⟩ := G
  exact fun H locs ls hW hS hl hn => W.monoQ hQ (W.widen hc.1 hc.2 (W.lret hx hb (hr.trans hret) (fun t ht hWm => ⟨⟨_, f, rfl, hp, by rw [ht]; exact hW, hE.1.2 s t (fE0.of hS ht hWm) hE.2⟩, hS.F ht⟩) hS.2.2 d hlk))
theorem r_zret (G : fGood l g A En own nm cc nL ret rm Post K) {v : Int32} (hret : ret = some .boolean) (hz : narrow .boolean (.int v) = .int v) (hc : cs ≤ rm.cells ∧ ss ≤ rm.slots) (d : decode cc pc = .ok (.ireturn, 1)) (hp : Post (some (.int v)) f) : K f cs ss pc lo [.int v] := by
  obtain ⟨p, e, s, m, args, below, meth, c, Q, ⟨hx, hb, hr, hlk, hml, hown, hnm, hts⟩, hE, hQ, rfl⟩ := G
  exact fun H locs ls hW hS hl hn => W.monoQ hQ (W.widen hc.1 hc.2 (W.zret hx hb (hr.trans hret) hz (fun t ht hWm => ⟨⟨_, f, rfl, hp, by rw [ht]; exact hW, hE.1.2 s t (fE0.of hS ht hWm) hE.2⟩, hS.F ht⟩) hS.2.2 d hlk))
theorem r_vret (G : fGood l g A En own nm cc nL ret rm Post K) (hret : ret = none) (hc : cs ≤ rm.cells ∧ ss ≤ rm.slots) (d : decode cc pc = .ok (.return_, 1)) (hp : Post none f) : K f cs ss pc lo [] := by
  obtain ⟨p, e, s, m, args, below, meth, c, Q, ⟨hx, hb, hr, hlk, hml, hown, hnm, hts⟩, hE, hQ, rfl⟩ := G
  exact fun H locs ls hW hS hl hn => W.monoQ hQ (W.widen hc.1 hc.2 (W.vret hx hb (hr.trans hret) (fun t ht hWm => ⟨⟨_, f, rfl, hp, by rw [ht]; exact hW, hE.1.2 s t (fE0.of hS ht hWm) hE.2⟩, hS.F ht⟩) hS.2.2 d hlk))
theorem r_aret (G : fGood l g A En own nm cc nL ret rm Post K) {v : Value} {rt : FieldType} (hret : ret = some rt) (hrt : (∃ n, rt = .object n) ∨ ∃ t, rt = .array t) (hv : v = .null ∨ ∃ a, v = .ref a) (hc : cs ≤ rm.cells ∧ ss ≤ rm.slots) (d : decode cc pc = .ok (.areturn, 1)) (hp : Post (some v) f) : K f cs ss pc lo [v] := by
  obtain ⟨p, e, s, m, args, below, meth, c, Q, ⟨hx, hb, hr, hlk, hml, hown, hnm, hts⟩, hE, hQ, rfl⟩ := G
  exact fun H locs ls hW hS hl hn => W.monoQ hQ (W.widen hc.1 hc.2 (W.aret hx hb (hr.trans hret) hrt hv (fun t ht hWm => ⟨⟨_, f, rfl, hp, by rw [ht]; exact hW, hE.1.2 s t (fE0.of hS ht hWm) hE.2⟩, hS.F ht⟩) hS.2.2 d hlk))
theorem fK_call {p : Program} {e : Env} {R : Room} {s : State} {m : MethodId} {args a : Array Value} {below : List Frame} {meth : Method} {c : Code} {H : Heap} {locs : List Loc} {mc ms : Nat} {ls : Array Slot} {st0 rest : List Value} {Q : State → Prop} {Post' : Option Value → fH → Prop} (hr : va_Run p l e R s m args below meth c H locs cs ss mc ms (F0 m pc ls st0) rest (fQ g A En Post' a) A) (hS : va_S A s.heap H locs)
    (kk : ∀ (v : Option Value) (f' : fH) (H1 : Heap) (locs1 : List Loc), fW g f' H1 → Post' v f' → va_S A s.heap H1 locs1 → W p l e R s m args below meth c H1 locs1 (cs + mc) (ss + ms) Q (F0 m (pc + 3) ls (v.toList ++ rest))) : W p l e R s m args below meth c H locs cs ss Q (F0 m pc ls st0) := by
  intro T hT X
  obtain ⟨v, st₀, t, T', L, h0, X', hL, e1, e2, ⟨⟨r, f', hv, hp, hW, hEn⟩, hz, hk⟩, st⟩ := hr T hT X
  cases hv
  rw [h0] at hz hk
  obtain ⟨t2, a1, b1⟩ := kk v f' T'.heap (locs ++ L) (by rw [e1]; exact hW) hp
    ⟨Nat.le_trans hS.1 (by rw [e1]; exact hz), fun q h1 h2 => by rw [e1, hk q (Nat.lt_of_lt_of_le h1 hS.1) h2]; exact hS.2.1 q h1 h2, fun q hq => by
      rcases List.mem_append.mp hq with h | h
      · exact hS.2.2 q h
      · exact hL q h⟩ T' rfl X'
  exact ⟨t2, st t2 a1, b1⟩
theorem fC_blind {av : List Value} (hE : fEnv g A En) : FrameBlind (va_Pc av (fun U => fW g f U.heap ∧ En U)) := fun a U gf mk h => ⟨h.1, h.2.1, hE.2 U (U.calling gf mk a) ⟨State.WarmedH.refl U, Nat.le_refl _, fun _ _ _ => rfl⟩ h.2.2⟩
def fyN (y : MethodName) (n : Nat) : Prop := y.cls ≠ "java/lang/invoke/MethodHandle" ∧ y.cls ≠ "java/lang/invoke/VarHandle" ∧ (parseMethodDescriptor y.desc).map (fun d => d.parameters.length) = some n
theorem r_callV (G : fGood l g A En own nm cc nL ret rm Post K) {y : MethodName} {cc' : ByteArray} {nL' : Nat} {ret' : Option FieldType} {rm' : Room} {Post' : Option Value → fH → Prop} {n index : Nat} {st0 rest : List Value} (As : List Value) {b ci : Nat} {fs : List Value} (M : fC l g A En y cc' nL' ret' rm' (.ref b :: As) f Post') (w : GoodIn lw_all (wsV own index y.cls y (ws_ y cc' nL' ret'))) (hy : fyN y n) (hn : As.length = n) (hR : rm'.frames + 1 ≤ rm.frames ∧ 8 + (nL' + 11) + rm'.locals ≤ rm.locals) (he : f b = some (.inr (ci, fs))) {q : vw_C} (hci : fCl[ci]? = some q) (hcy : q.1 = y.cls) (hs : st0 = As.reverse ++ .ref b :: rest) (hst : (rest.map fun v => v.category).sum ≤ 8) {cs' ss' : Nat} (hcs : cs + rm'.cells = cs') (hss : ss + rm'.slots = ss') (hc : cs' ≤ rm.cells ∧ ss' ≤ rm.slots) (d : decode cc pc = .ok (.invokevirtual index, 3)) (kk : ∀ (v : Option Value) (f' : fH), Post' v f' → K f' cs' ss' (pc + 3) lo (v.toList ++ rest)) : K f cs ss pc lo st0 := by
  obtain ⟨p, e, s, m, args, below, meth, c, Q, ⟨hx, hb, hr, hlk, hml, hown, hnm, hts⟩, hE, hQ, rfl⟩ := G
  subst hcs; subst hss; subst hs
  intro H locs ls hW hS hl hn0
  have hK := hE.1.1 s hE.2
  exact fK_call (va_runV (As := As) (rest := rest) ⟨hx, hb, hml, hown, hts⟩ M (cwV n hts w rfl rfl rfl ⟨rfl, hy⟩ hR) ⟨fC_blind hE.1, hcy ▸ va_recv (D := g.1) hK (hW.one he) hci (q0 := 0) rfl, fun U hU hWm => ⟨rfl, by rw [hU]; exact hW, hE.1.2 s U (fE0.of hS hU hWm) hE.2⟩⟩ rfl hn (by rw [← hn0]; exact hl.1) rfl (lv_room hst) d hc) hS (fun v f' H1 locs1 hW1 hp hS1 => kk v f' hp H1 locs1 ls hW1 hS1 hl hn0)
theorem r_callS (G : fGood l g A En own nm cc nL ret rm Post K) {y : MethodName} {cc' : ByteArray} {nL' : Nat} {ret' : Option FieldType} {rm' : Room} {Post' : Option Value → fH → Prop} {n index : Nat} {st0 rest : List Value} (As : List Value) (M : fC l g A En y cc' nL' ret' rm' As f Post') (w : GoodIn lw_all (va_wsS own index y (ws_ y cc' nL' ret'))) (hy : fyN y n) (hn : As.length = n) (hR : rm'.frames + 1 ≤ rm.frames ∧ 8 + (nL' + 11) + rm'.locals ≤ rm.locals) (hs : st0 = As.reverse ++ rest) (hst : (rest.map fun v => v.category).sum ≤ 8) {cs' ss' : Nat} (hcs : cs + rm'.cells = cs') (hss : ss + rm'.slots = ss') (hc : cs' ≤ rm.cells ∧ ss' ≤ rm.slots) (d : decode cc pc = .ok (.invokestatic index, 3)) (kk : ∀ (v : Option Value) (f' : fH), Post' v f' → K f' cs' ss' (pc + 3) lo (v.toList ++ rest)) : K f cs ss pc lo st0 := by
  obtain ⟨p, e, s, m, args, below, meth, c, Q, ⟨hx, hb, hr, hlk, hml, hown, hnm, hts⟩, hE, hQ, rfl⟩ := G
  subst hcs; subst hss; subst hs
  intro H locs ls hW hS hl hn0
  have hK := hE.1.1 s hE.2
  exact fK_call (va_runS (As := As) (rest := rest) ⟨hx, hb, hml, hown, hts⟩ M (va_cwS n hts w rfl rfl rfl hy hR) ⟨fC_blind hE.1, fun U hU hWm => ⟨rfl, by rw [hU]; exact hW, hE.1.2 s U (fE0.of hS hU hWm) hE.2⟩⟩ rfl hn (by rw [← hn0]; exact hl.1) rfl (lv_room hst) d hc) hS (fun v f' H1 locs1 hW1 hp hS1 => kk v f' hp H1 locs1 ls hW1 hS1 hl hn0)
theorem r_callI (G : fGood l g A En own nm cc nL ret rm Post K) {y : MethodName} {cc' : ByteArray} {nL' : Nat} {rm' : Room} {Post' : Option Value → fH → Prop} {n index : Nat} {st0 rest : List Value} (As : List Value) {b : Nat} (M : fC l g A En y cc' nL' none rm' (.ref b :: As) f Post') (h1 : Cond.code y cc' nL' none ∈ lw_all) (h2 : Cond.initialized y.cls ∈ lw_all) (h3 : Cond.methodLink own index y ∈ lw_all) (h4 : Cond.instanceMethod y ∈ lw_all) (h5 : y.name = "<init>") (hy : fyN y n) (hn : As.length = n) (hR : rm'.frames + 1 ≤ rm.frames ∧ 8 + (nL' + 11) + rm'.locals ≤ rm.locals) (hs : st0 = As.reverse ++ .ref b :: rest) (hst : (rest.map fun v => v.category).sum ≤ 8) {cs' ss' : Nat} (hcs : cs + rm'.cells = cs') (hss : ss + rm'.slots = ss') (hc : cs' ≤ rm.cells ∧ ss' ≤ rm.slots) (d : decode cc pc = .ok (.invokespecial index, 3)) (kk : ∀ (v : Option Value) (f' : fH), Post' v f' → K f' cs' ss' (pc + 3) lo (v.toList ++ rest)) : K f cs ss pc lo st0 := by
  obtain ⟨p, e, s, m, args, below, meth, c, Q, ⟨hx, hb, hr, hlk, hml, hown, hnm, hts⟩, hE, hQ, rfl⟩ := G
  subst hcs; subst hss; subst hs
  intro H locs ls hW hS hl hn0
  have hK := hE.1.1 s hE.2
  exact fK_call (va_runI (As := As) (rest := rest) ⟨hx, hb, hml, hown, hts⟩ M (cwI n hts (lw_meth h1) rfl rfl rfl (hts _ h2) (hts _ h3) (hts _ h4) h5 hy hR) ⟨fC_blind hE.1, fun U hU hWm => ⟨rfl, by rw [hU]; exact hW, hE.1.2 s U (fE0.of hS hU hWm) hE.2⟩⟩ rfl hn (by rw [← hn0]; exact hl.1) rfl (lv_room hst) d hc) hS (fun v f' H1 locs1 hW1 hp hS1 => kk v f' hp H1 locs1 ls hW1 hS1 hl hn0)
theorem fargs_mem : ∀ (vs : List Value) (k o i : Nat) (v : Value), (fargs vs ++ List.replicate k (none : Option Value))[i]? = some (some v) → (o + i, v) ∈ lv_args o vs
  | [], k, o, i, v, h => by
    rw [fargs, List.nil_append, List.getElem?_replicate] at h
    split at h <;> simp at h
  | w :: vs, k, o, i, v, h => by
    unfold fargs at h
    unfold lv_args
    by_cases hc : w.category = 2
    · rw [if_pos hc] at h
      rw [if_pos hc]
      match i, h with
      | 0, h =>
        simp only [List.cons_append, List.getElem?_cons_zero, Option.some.injEq] at h
        subst h
        exact List.mem_cons_self
      | 1, h => simp at h
      | i + 2, h =>
        simp only [List.cons_append, List.getElem?_cons_succ] at h
        have := fargs_mem vs k (o + 2) i v h
        rw [show o + (i + 2) = o + 2 + i by omega]
        exact List.mem_cons_of_mem _ this
    · rw [if_neg hc] at h
      rw [if_neg hc]
      match i, h with
      | 0, h =>
        simp only [List.cons_append, List.getElem?_cons_zero, Option.some.injEq] at h
        subst h
        exact List.mem_cons_self
      | i + 1, h =>
        simp only [List.cons_append, List.getElem?_cons_succ] at h
        have := fargs_mem vs k (o + 1) i v h
        rw [show o + (i + 1) = o + 1 + i by omega]
        exact List.mem_cons_of_mem _ this
theorem fargs_len : ∀ (vs : List Value), (lg_sl vs).length = (fargs vs).length
  | [] => rfl
  | w :: vs => by
    have ih := fargs_len vs
    have e : fargs (w :: vs) = if w.category = 2 then some w :: none :: fargs vs else some w :: fargs vs := rfl
    have e2 : lg_sl (w :: vs) = (if w.category = 2 then [.val w, .second] else [.val w]) ++ lg_sl vs := rfl
    rw [e, e2]
    by_cases hc : w.category = 2
    · rw [if_pos hc, if_pos hc, List.length_append, ih]; simp only [List.length_cons, List.length_nil]; omega
    · rw [if_neg hc, if_neg hc, List.length_append, ih]; simp only [List.length_cons, List.length_nil]; omega
theorem fC.of {y : MethodName} {av : List Value} (hy : plainName y.cls = true) (hE : fEnv g A En) (lo0 : fL) (hlo : fargs av ++ List.replicate (nL - (fargs av).length) (none : Option Value) = lo0) (hlen : lo0.length = nL) (body : ∀ K : fKt, fGood l g A En y.cls y.name cc nL ret rm Post K → K f 0 0 0 lo0 []) : fC l g A En y cc nL ret rm av f Post := by
  refine Met.ofW (cc := cc) (maxL := nL) (ret := ret) hy rfl ?_
  intro p e s m args below meth c s₁ B hml hv
  obtain ⟨rfl, hW, hEn⟩ := hv
  have hts := atoms_spec (ws := ws_ y cc nL ret) B.pre
  have k := body _ ⟨p, e, s, m, av.toArray, below, meth, c, _, ⟨B.exec, B.bytes, B.returns, B.notSynchronized, hml, findClass_of_methodNamed B.named, (name_of_methodNamed B.named B.method).1, fun w h => hts w (List.mem_cons_of_mem _ h)⟩, ⟨hE, hEn⟩, fun t h => h, rfl⟩
  have hle : (lg_sl av).length ≤ nL := by
    rw [fargs_len, ← hlen, ← hlo, List.length_append]; omega
  have hl := lv_entry av (n := nL) hle
  rw [lg_entry_eq]
  refine k s.heap [] _ hW va_S.rf ?_ hlen
  refine fls_of hl hlen fun i v hi => ?_
  rw [← hlo] at hi
  have := fargs_mem av _ 0 i v hi
  rwa [Nat.zero_add] at this
end FLH
