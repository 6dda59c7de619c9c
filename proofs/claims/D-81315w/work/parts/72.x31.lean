/-! the component: contracts of what may throw -/
set_option maxRecDepth 100000
section XX31
abbrev fXt : Type := fH → Nat → Nat → Nat → fL → String → Prop
def fXC (g : fG) (A : Nat → Prop) (PX : String → fH → Prop) : String → State → State → Prop := fun E st t => (∃ f', PX E f' ∧ fW g f' t.heap) ∧ va_F A st t
/-- a contract of a method that returns or throws -/
def fT (l : Launch) (g : fG) (A : Nat → Prop) (En : State → Prop) (y : MethodName) (cc : ByteArray) (nL : Nat) (ret : Option FieldType) (rm : Room) (av : List Value) (f : fH) (Post : Option Value → fH → Prop) (PX : String → fH → Prop) : Prop :=
  vx_Met l y (ws_ y cc nL ret) rm (va_Pc av (fun U => fW g f U.heap ∧ En U)) (fQ g A En Post) (fXC g A PX) rm.cells rm.slots A
/-- .. of one with handlers -/
def fTH (l : Launch) (g : fG) (A : Nat → Prop) (En : State → Prop) (y : MethodName) (cc : ByteArray) (nL : Nat) (ret : Option FieldType) (hh : List (Nat × Nat × Nat × Nat)) (rm : Room) (av : List Value) (f : fH) (Post : Option Value → fH → Prop) (PX : String → fH → Prop) : Prop :=
  vx_Met l y (wsW_ y cc nL ret hh) rm (va_Pc av (fun U => fW g f U.heap ∧ En U)) (fQ g A En Post) (fXC g A PX) rm.cells rm.slots A
def fKX (p : Program) (l : Launch) (e : Env) (R : Room) (s : State) (m : MethodId) (args : Array Value) (below : List Frame) (meth : Method) (c : Code) (g : fG) (A : Nat → Prop) (nL : Nat) (Q : State → Prop) : fXt :=
  fun f cs ss pc lo E => ∀ (H : Heap) (locs : List Loc) (ls : Array Slot) (rest : List Value) (q : Addr) (ce : Cell), fW g f H → va_S A s.heap H locs → fls ls lo → lo.length = nL → H[q]? = some ce → ce.vm = .none → s.vm.findClass E = some ce.cls → vx_W p l e R s m args below meth c H locs cs ss Q (F0 m pc ls rest) q
def fGoodX (l : Launch) (g : fG) (A : Nat → Prop) (En : State → Prop) (own nm : String) (cc : ByteArray) (nL : Nat) (ret : Option FieldType) (rm : Room) (hh : List (Nat × Nat × Nat × Nat)) (Post : Option Value → fH → Prop) (PX : String → fH → Prop) (K : fKt) (KX : fXt) : Prop :=
  ∃ (p : Program) (e : Env) (s : State) (m : MethodId) (args : Array Value) (below : List Frame) (meth : Method) (c : Code) (Q : State → Prop),
    (p.tables.exec = Jvm.exec ∧ c.code = cc ∧ meth.sig.returnType = ret ∧ meth.locks = false ∧ c.maxLocals = nL ∧ s.vm.findClass own = some m.cls ∧ meth.name = nm ∧ ∀ w ∈ lw_all, w.before args s = true) ∧
    (fEnv g A En ∧ En s) ∧ (∀ t, vx_MQ below (fQ g A En Post) (fXC g A PX) args s rm.cells rm.slots A t → Q t) ∧ c.exceptionTable.toList = tableOf hh ∧ K = fK p l e rm s m args below meth c g A nL Q ∧ KX = fKX p l e rm s m args below meth c g A nL Q
/-- from the machine's note of a throw to the thrown -/
theorem vx_note {p : Program} {l : Launch} {e : Env} {R : Room} {s : State} {m : MethodId} {args : Array Value} {below : List Frame} {meth : Method} {c : Code} {g : fG} {A : Nat → Prop} {En : State → Prop} {nL : Nat} {Q : State → Prop} {f : fH} {cs ss pc : Nat} {lo : fL} {H : Heap} {locs : List Loc} {ls : Array Slot} {rest : List Value} {cls text : String} {names : List String}
    (hx : p.tables.exec = Jvm.exec) (hlk : meth.locks = false) (hml : c.maxLocals = nL) (hts : ∀ w ∈ lw_all, w.before args s = true) (hE : En s) (hY : fY l A En) (hM : exM cls names) (htext : (text == notModelled) = false) (hnb : (stringBytes (stringToUtf16 text)).size ≤ 1000)
    (hW : fW g f H) (hS : va_S A s.heap H locs) (hl : fls ls lo) (hn : lo.length = nL) (hst : (rest.map fun v => v.category).sum ≤ 8) (hR : 8 ≤ R.frames ∧ 10248 ≤ R.locals) (hc : cs + 3 ≤ R.cells ∧ ss + 1010 ≤ R.slots) (k : fKX p l e R s m args below meth c g A nL Q f (cs + 3) (ss + 1010) pc lo cls) : vx_Note p l e R s m args below meth c H locs cs ss Q (F0 m pc ls rest) cls text := by
  obtain ⟨m1, m2, m3, m4, m5, m6, m7, m8⟩ := hM
  refine vx_vm (nb := 1000) (A := A) hx hY.tr m1 m2 m3 m4 (vx_hat (fun w hw => hts w (m6 w hw)) m7 (hY.exs hE args)) m8 (hY.u s hE) (hY.n s hE) hS (by rw [hml, ← hn]; exact hl.1) htext hnb (Nat.le_refl _) (by omega) (by omega) (by omega) hc.1 hc.2 hlk ?_
  intro H1 q9 ce h1 h2 hS1 hce hcv hcl
  exact k H1 locs ls rest q9 ce (hW.kept fun a z hz => h2 a (hW.lt hz)) hS1 hl hn hce hcv hcl
theorem vx_noteN {p : Program} {l : Launch} {e : Env} {R : Room} {s : State} {m : MethodId} {args : Array Value} {below : List Frame} {meth : Method} {c : Code} {g : fG} {A : Nat → Prop} {En : State → Prop} {nL : Nat} {Q : State → Prop} {f : fH} {cs ss pc : Nat} {lo : fL} {H : Heap} {locs : List Loc} {ls : Array Slot} {rest : List Value}
    (hx : p.tables.exec = Jvm.exec) (hlk : meth.locks = false) (hml : c.maxLocals = nL) (hts : ∀ w ∈ lw_all, w.before args s = true) (hE : En s) (hY : fY l A En)
    (hW : fW g f H) (hS : va_S A s.heap H locs) (hl : fls ls lo) (hn : lo.length = nL) (hst : (rest.map fun v => v.category).sum ≤ 8) (hR : 8 ≤ R.frames ∧ 10248 ≤ R.locals) (hc : cs + 1 ≤ R.cells ∧ ss + 8 ≤ R.slots) (k : fKX p l e R s m args below meth c g A nL Q f (cs + 1) (ss + 8) pc lo "java/lang/NullPointerException") : vx_NoteN p l e R s m args below meth c H locs cs ss Q (F0 m pc ls rest) := by
  refine vx_npe (nb := 8) (A := A) hx hY.tr (vx_hat (fun w hw => hts w (exw_npe w hw)) exb_npe (hY.exs hE args)) exo_npe (hY.u s hE) (hY.n s hE) hS (by rw [hml, ← hn]; exact hl.1) (by omega) (by omega) hc.1 hc.2 hlk ?_
  intro H1 q9 ce h1 h2 hS1 hce hcv hcl
  exact k H1 locs ls rest q9 ce (hW.kept fun a z hz => h2 a (hW.lt hz)) hS1 hl hn hce hcv hcl
theorem int_text_bytes (i : Int32) : (stringBytes (stringToUtf16 (toString i))).size ≤ 1000 := by
  have b1 := stringBytes_size_le (stringToUtf16 (toString i))
  have b2 := utf16_size_le (toString i)
  have b3 := int32_print i
  omega
theorem idx_text_bytes (i : Int32) {n : Nat} (h : n < 2 ^ 31) : (stringBytes (stringToUtf16 (toString "Index " ++ toString i ++ toString " out of bounds for length " ++ toString n : String))).size ≤ 1000 := Nat.le_trans (index_text_bytes i h) (by decide)
theorem idx_text_modelled (i : Int32) (n : Nat) : ((toString "Index " ++ toString i ++ toString " out of bounds for length " ++ toString n : String) == notModelled) = false := index_text_modelled i n
theorem neg_text {x : Int32} (h : x < 0) : ∃ r : List Char, (toString x).toList = '-' :: r := by
  show ∃ r : List Char, (toString x.toInt).toList = '-' :: r
  rw [Int32.lt_iff_toInt_lt, Int32.toInt_zero] at h
  cases hx : x.toInt with
  | ofNat n => rw [hx] at h; exact absurd h (by simp)
  | negSucc n =>
    refine ⟨(toString n.succ).toList, ?_⟩
    show ("-" ++ toString n.succ).toList = _
    rw [String.toList_append]
    rfl
theorem int_text_modelled {x : Int32} (h0 : x < 0) : (toString x == notModelled) = false := by
  rw [beq_eq_false_iff_ne]
  intro h
  have h2 := congrArg String.toList h
  obtain ⟨r, hr⟩ := neg_text h0
  rw [hr] at h2
  have h4 : notModelled.toList = '\u0000' :: " a message that is not modelled".toList := by decide
  rw [h4] at h2
  simp at h2
section
variable {l : Launch} {g : fG} {A : Nat → Prop} {En : State → Prop} {own nm : String} {cc : ByteArray} {nL : Nat} {ret : Option FieldType} {rm : Room} {hh : List (Nat × Nat × Nat × Nat)} {Post : Option Value → fH → Prop} {PX : String → fH → Prop} {K : fKt} {KX : fXt} {f : fH} {cs ss pc : Nat} {lo : fL} {st : List Value}
theorem fGoodX.good (GX : fGoodX l g A En own nm cc nL ret rm hh Post PX K KX) : fGood l g A En own nm cc nL ret rm Post K := by
  obtain ⟨p, e, s, m, args, below, meth, c, Q, ⟨hx, hb, hr, hlk, hml, hown, hnm, hts⟩, hE, hQ, htb, rfl, rfl⟩ := GX
  exact ⟨p, e, s, m, args, below, meth, c, Q, ⟨hx, hb, hr, hlk, hml, hown, hnm, hts⟩, hE, fun t ⟨o, b1, b2, b3, b4⟩ => hQ t ⟨o, b1, b2, Or.inl ⟨b3, b4⟩⟩, rfl⟩
theorem fT.of {y : MethodName} {av : List Value} (hy : plainName y.cls = true) (hE : fEnv g A En) (lo0 : fL) (hlo : fargs av ++ List.replicate (nL - (fargs av).length) (none : Option Value) = lo0) (hlen : lo0.length = nL) (body : ∀ (K : fKt) (KX : fXt), fGoodX l g A En y.cls y.name cc nL ret rm [] Post PX K KX → K f 0 0 0 lo0 []) : fT l g A En y cc nL ret rm av f Post PX := by
  refine vx_ofW (cc := cc) (maxL := nL) (ret := ret) hy rfl ?_
  intro p e s m args below meth c s₁ B hml htb hv
  obtain ⟨rfl, hW, hEn⟩ := hv
  have hts := atoms_spec (ws := ws_ y cc nL ret) B.pre
  have htb2 : c.exceptionTable.toList = tableOf [] := List.eq_nil_iff_forall_not_mem.mpr fun x hx => htb x hx
  have k := body _ _ ⟨p, e, s, m, av.toArray, below, meth, c, _, ⟨B.exec, B.bytes, B.returns, B.notSynchronized, hml, findClass_of_methodNamed B.named, (name_of_methodNamed B.named B.method).1, fun w h => hts w (List.mem_cons_of_mem _ h)⟩, ⟨hE, hEn⟩, fun t h => h, htb2, rfl, rfl⟩
  have hle : (lg_sl av).length ≤ nL := by
    rw [fargs_len, ← hlen, ← hlo, List.length_append]; omega
  have hl := lv_entry av (n := nL) hle
  rw [lg_entry_eq]
  refine k s.heap [] _ hW va_S.rf ?_ hlen
  refine fls_of hl hlen fun i v hi => ?_
  rw [← hlo] at hi
  have := fargs_mem av _ 0 i v hi
  rwa [Nat.zero_add] at this
theorem fTH.of {y : MethodName} {av : List Value} (hy : plainName y.cls = true) (hE : fEnv g A En) (lo0 : fL) (hlo : fargs av ++ List.replicate (nL - (fargs av).length) (none : Option Value) = lo0) (hlen : lo0.length = nL) (body : ∀ (K : fKt) (KX : fXt), fGoodX l g A En y.cls y.name cc nL ret rm hh Post PX K KX → K f 0 0 0 lo0 []) : fTH l g A En y cc nL ret hh rm av f Post PX := by
  refine vx_ofWH (cc := cc) (maxL := nL) (ret := ret) (hh := hh) hy rfl ?_
  intro p e s m args below meth c s₁ B hml hv
  obtain ⟨rfl, hW, hEn⟩ := hv
  have hts := atoms_spec (ws := wsW_ y cc nL ret hh) B.pre
  have htb2 := vx_table (x := y) B (hts _ List.mem_cons_self)
  have k := body _ _ ⟨p, e, s, m, av.toArray, below, meth, c, _, ⟨B.exec, B.bytes, B.returns, B.notSynchronized, hml, findClass_of_methodNamed B.named, (name_of_methodNamed B.named B.method).1, fun w h => hts w (List.mem_cons_of_mem _ h)⟩, ⟨hE, hEn⟩, fun t h => h, htb2, rfl, rfl⟩
  have hle : (lg_sl av).length ≤ nL := by
    rw [fargs_len, ← hlen, ← hlo, List.length_append]; omega
  have hl := lv_entry av (n := nL) hle
  rw [lg_entry_eq]
  refine k s.heap [] _ hW va_S.rf ?_ hlen
  refine fls_of hl hlen fun i v hi => ?_
  rw [← hlo] at hi
  have := fargs_mem av _ 0 i v hi
  rwa [Nat.zero_add] at this
/-- what was thrown leaves the method -/
theorem rX_out (GX : fGoodX l g A En own nm cc nL ret rm hh Post PX K KX) {E : String} (hcov : ∀ x ∈ tableOf hh, covers x pc = false) (hc : cs ≤ rm.cells ∧ ss ≤ rm.slots) (hp : PX E f) : KX f cs ss pc lo E := by
  obtain ⟨p, e, s, m, args, below, meth, c, Q, ⟨hx, hb, hr, hlk, hml, hown, hnm, hts⟩, hE, hQ, htb, rfl, rfl⟩ := GX
  intro H locs ls rest q ce hW hS hl hn hce hcv hcl T hT X
  obtain ⟨t, a1, b1⟩ := vx_out (Qc := fQ g A En Post) (XC := fXC g A PX) (mc := rm.cells) (ms := rm.slots) (free := A) (ls := ls) (rest := rest) (pc := pc) (by rw [htb]; exact hcov) hlk hce hcv hcl (fun t ht ha => ⟨⟨f, hp, by rw [ht]; exact hW⟩, hS.F ht⟩) hS.2.2 hc.1 hc.2 T hT X
  exact ⟨t, a1, hQ t b1⟩
/-- caught here -/
theorem rX_catch (GX : fGoodX l g A En own nm cc nL ret rm hh Post PX K KX) {E name : String} (pre : List ExceptionTableEntry) (x : ExceptionTableEntry) (suf : List ExceptionTableEntry) (hsplit : tableOf hh = pre ++ x :: suf) (hpass : ∀ z ∈ pre, covers z pc = false ∨ (z.catchType ≠ 0 ∧ ∃ nm : String, Cond.classLink own z.catchType nm ∈ lw_all ∧ ∀ U, En U → va_Nc E nm U)) (hx9 : covers x pc = true) (h0 : x.catchType ≠ 0) (hlink : Cond.classLink own x.catchType name ∈ lw_all) (hcast : ∀ U, En U → va_Nw (.castable E name) U) (kk : ∀ q : Nat, K f cs ss x.handlerPc lo [.ref q]) : KX f cs ss pc lo E := by
  obtain ⟨p, e, s, m, args, below, meth, c, Q, ⟨hx, hb, hr, hlk, hml, hown, hnm, hts⟩, hE, hQ, htb, rfl, rfl⟩ := GX
  intro H locs ls rest q ce hW hS hl hn hce hcv hcl
  exact vx_catch hown pre x suf (by rw [htb]; exact hsplit) (fun z hz => (hpass z hz).imp id (fun ⟨h1, nm, h2, h3⟩ => ⟨h1, nm, hts _ h2, h3 s hE.2⟩)) hx9 h0 (hts _ hlink) (va_any rfl (hcast s hE.2)) hce hcv hcl (kk q H locs ls hW hS hl hn)
theorem fK_callX {p : Program} {e : Env} {R : Room} {s : State} {m : MethodId} {args a : Array Value} {below : List Frame} {meth : Method} {c : Code} {H : Heap} {locs : List Loc} {mc ms : Nat} {ls : Array Slot} {st0 rest : List Value} {Q : State → Prop} {Post' : Option Value → fH → Prop} {PX' : String → fH → Prop} (hr : vx_Run p l e R s m args below meth c H locs cs ss mc ms (F0 m pc ls st0) rest (fQ g A En Post' a) (fXC g A PX') A) (hS : va_S A s.heap H locs)
    (kk : ∀ (v : Option Value) (f' : fH) (H1 : Heap) (locs1 : List Loc), fW g f' H1 → Post' v f' → va_S A s.heap H1 locs1 → W p l e R s m args below meth c H1 locs1 (cs + mc) (ss + ms) Q (F0 m (pc + 3) ls (v.toList ++ rest)))
    (kx : ∀ (E : String) (f' : fH) (H1 : Heap) (locs1 : List Loc) (q : Addr) (ce : Cell), fW g f' H1 → PX' E f' → va_S A s.heap H1 locs1 → H1[q]? = some ce → ce.vm = .none → s.vm.findClass E = some ce.cls → vx_W p l e R s m args below meth c H1 locs1 (cs + mc) (ss + ms) Q (F0 m pc ls rest) q) : W p l e R s m args below meth c H locs cs ss Q (F0 m pc ls st0) := by
  intro T hT X
  rcases hr T hT X with ⟨v, st₀, t, T', L, h0, X', hL, e1, e2, ⟨⟨r, f', hv, hp, hW, hEn⟩, hF⟩, st⟩ | ⟨q, st₀, t, T', L, E, ce, h0, X', hL, e1, e2, ⟨⟨f', hp, hW⟩, hF⟩, hce, hcv, hcl, st⟩
  · cases hv
    obtain ⟨-, -, k3⟩ := vx_keep h0 e1 hS (fun _ _ h => h) (fun _ h => h) hL hF
    obtain ⟨t2, a1, b1⟩ := kk v f' T'.heap (locs ++ L) (by rw [e1]; exact hW) hp k3 T' rfl X'
    exact ⟨t2, st t2 a1, b1⟩
  · obtain ⟨-, -, k3⟩ := vx_keep h0 e1 hS (fun _ _ h => h) (fun _ h => h) hL hF
    obtain ⟨t2, a1, b1⟩ := kx E f' T'.heap (locs ++ L) q ce (by rw [e1]; exact hW) hp k3 (by rw [e1]; exact hce) hcv hcl T' rfl X'
    exact ⟨t2, st.trans a1, b1⟩
theorem rX_callS (GX : fGoodX l g A En own nm cc nL ret rm hh Post PX K KX) {y : MethodName} {cc' : ByteArray} {nL' : Nat} {ret' : Option FieldType} {rm' : Room} {Post' : Option Value → fH → Prop} {PX' : String → fH → Prop} {n index : Nat} {st0 rest : List Value} (As : List Value) (M : fT l g A En y cc' nL' ret' rm' As f Post' PX') (w : GoodIn lw_all (va_wsS own index y (ws_ y cc' nL' ret'))) (hy : fyN y n) (hn : As.length = n) (hR : rm'.frames + 1 ≤ rm.frames ∧ 8 + (nL' + 11) + rm'.locals ≤ rm.locals) (hs : st0 = As.reverse ++ rest) (hst : (rest.map fun v => v.category).sum ≤ 8) {cs' ss' : Nat} (hcs : cs + rm'.cells = cs') (hss : ss + rm'.slots = ss') (hc : cs' ≤ rm.cells ∧ ss' ≤ rm.slots) (d : decode cc pc = .ok (.invokestatic index, 3)) (kk : ∀ (v : Option Value) (f' : fH), Post' v f' → K f' cs' ss' (pc + 3) lo (v.toList ++ rest)) (kx : ∀ (E : String) (f' : fH), PX' E f' → KX f' cs' ss' pc lo E) : K f cs ss pc lo st0 := by
  obtain ⟨p, e, s, m, args, below, meth, c, Q, ⟨hx, hb, hr, hlk, hml, hown, hnm, hts⟩, hE, hQ, htb, rfl, rfl⟩ := GX
  subst hcs; subst hss; subst hs
  intro H locs ls hW hS hl hn0
  exact fK_callX (vx_runS (As := As) (rest := rest) ⟨hx, hb, hml, hown, hts⟩ M (va_cwS n hts w rfl rfl rfl hy hR) ⟨fC_blind hE.1, fun U hU hWm => ⟨rfl, by rw [hU]; exact hW, hE.1.2 s U (fE0.of hS hU hWm) hE.2⟩⟩ rfl hn (by rw [← hn0]; exact hl.1) rfl (lv_room hst) d hc) hS (fun v f' H1 locs1 hW1 hp hS1 => kk v f' hp H1 locs1 ls hW1 hS1 hl hn0) (fun E f' H1 locs1 q ce hW1 hp hS1 hce hcv hcl => kx E f' hp H1 locs1 ls rest q ce hW1 hS1 hl hn0 hce hcv hcl)
theorem rX_newaZ (GX : fGoodX l g A En own nm cc nL ret rm hh Post PX K KX) (hY : fY l A En) {atype : ArrayType} {n : Int32} (h0 : n < 0) (hst : (st.map fun v => v.category).sum ≤ 8) (hR : 8 ≤ rm.frames ∧ 10248 ≤ rm.locals) {cs' ss' : Nat} (hcs : cs + 3 = cs') (hss : ss + 1010 = ss') (hc : cs' ≤ rm.cells ∧ ss' ≤ rm.slots) (d : decode cc pc = .ok (.newarray atype, 2)) (k : KX f cs' ss' pc lo "java/lang/NegativeArraySizeException") : K f cs ss pc lo (.int n :: st) := by
  obtain ⟨p, e, s, m, args, below, meth, c, Q, ⟨hx, hb, hr, hlk, hml, hown, hnm, hts⟩, hE, hQ, htb, rfl, rfl⟩ := GX
  subst hcs; subst hss
  intro H locs ls hW hS hl hn
  exact vx_newarrayZ hx hb h0 d fun tx htx => by
    subst htx
    exact vx_note hx hlk hml hts hE.2 hY exM_nas (int_text_modelled h0) (int_text_bytes n) hW hS hl hn hst hR hc k
theorem rX_baldZ (GX : fGoodX l g A En own nm cc nL ret rm hh Post PX K KX) (hY : fY l A En) {a n : Nat} {fn : Nat → Int32} (he : f a = some (.inl (g.2 1, n, .inl fn))) (hn31 : n < 2 ^ 31) {i : Int32} (hout : ¬ vp_in i n) (hst : (st.map fun v => v.category).sum ≤ 8) (hR : 8 ≤ rm.frames ∧ 10248 ≤ rm.locals) {cs' ss' : Nat} (hcs : cs + 3 = cs') (hss : ss + 1010 = ss') (hc : cs' ≤ rm.cells ∧ ss' ≤ rm.slots) (d : decode cc pc = .ok (.baload, 1)) (k : KX f cs' ss' pc lo "java/lang/ArrayIndexOutOfBoundsException") : K f cs ss pc lo (.int i :: .ref a :: st) := by
  obtain ⟨p, e, s, m, args, below, meth, c, Q, ⟨hx, hb, hr, hlk, hml, hown, hnm, hts⟩, hE, hQ, htb, rfl, rfl⟩ := GX
  subst hcs; subst hss
  intro H locs ls hW hS hl hn
  exact vx_baldZ (D := g.1) (cl := fCl) (tys := fTy g.2) (ws := [(a, .inl (g.2 1, n, .inl fn))]) hx hb (hE.1.1 s hE.2) (hW.one he) 0 1 rfl rfl hout d fun tx htx => by
    subst htx
    exact vx_note hx hlk hml hts hE.2 hY exM_aio (idx_text_modelled i n) (idx_text_bytes i hn31) hW hS hl hn hst hR hc k
theorem rX_saldZ (GX : fGoodX l g A En own nm cc nL ret rm hh Post PX K KX) (hY : fY l A En) {a n : Nat} {fn : Nat → Int32} (he : f a = some (.inl (g.2 2, n, .inl fn))) (hn31 : n < 2 ^ 31) {i : Int32} (hout : ¬ vp_in i n) (hst : (st.map fun v => v.category).sum ≤ 8) (hR : 8 ≤ rm.frames ∧ 10248 ≤ rm.locals) {cs' ss' : Nat} (hcs : cs + 3 = cs') (hss : ss + 1010 = ss') (hc : cs' ≤ rm.cells ∧ ss' ≤ rm.slots) (d : decode cc pc = .ok (.saload, 1)) (k : KX f cs' ss' pc lo "java/lang/ArrayIndexOutOfBoundsException") : K f cs ss pc lo (.int i :: .ref a :: st) := by
  obtain ⟨p, e, s, m, args, below, meth, c, Q, ⟨hx, hb, hr, hlk, hml, hown, hnm, hts⟩, hE, hQ, htb, rfl, rfl⟩ := GX
  subst hcs; subst hss
  intro H locs ls hW hS hl hn
  exact vx_saldZ (D := g.1) (cl := fCl) (tys := fTy g.2) (ws := [(a, .inl (g.2 2, n, .inl fn))]) hx hb (hE.1.1 s hE.2) (hW.one he) 0 2 rfl rfl hout d fun tx htx => by
    subst htx
    exact vx_note hx hlk hml hts hE.2 hY exM_aio (idx_text_modelled i n) (idx_text_bytes i hn31) hW hS hl hn hst hR hc k
theorem rX_ialdZ (GX : fGoodX l g A En own nm cc nL ret rm hh Post PX K KX) (hY : fY l A En) {a n : Nat} {fn : Nat → Int32} (he : f a = some (.inl (g.2 0, n, .inl fn))) (hn31 : n < 2 ^ 31) {i : Int32} (hout : ¬ vp_in i n) (hst : (st.map fun v => v.category).sum ≤ 8) (hR : 8 ≤ rm.frames ∧ 10248 ≤ rm.locals) {cs' ss' : Nat} (hcs : cs + 3 = cs') (hss : ss + 1010 = ss') (hc : cs' ≤ rm.cells ∧ ss' ≤ rm.slots) (d : decode cc pc = .ok (.iaload, 1)) (k : KX f cs' ss' pc lo "java/lang/ArrayIndexOutOfBoundsException") : K f cs ss pc lo (.int i :: .ref a :: st) := by
  obtain ⟨p, e, s, m, args, below, meth, c, Q, ⟨hx, hb, hr, hlk, hml, hown, hnm, hts⟩, hE, hQ, htb, rfl, rfl⟩ := GX
  subst hcs; subst hss
  intro H locs ls hW hS hl hn
  exact vx_ialdZ (D := g.1) (cl := fCl) (tys := fTy g.2) (ws := [(a, .inl (g.2 0, n, .inl fn))]) hx hb (hE.1.1 s hE.2) (hW.one he) 0 0 rfl rfl hout d fun tx htx => by
    subst htx
    exact vx_note hx hlk hml hts hE.2 hY exM_aio (idx_text_modelled i n) (idx_text_bytes i hn31) hW hS hl hn hst hR hc k
theorem rX_bastZ (GX : fGoodX l g A En own nm cc nL ret rm hh Post PX K KX) (hY : fY l A En) {a n : Nat} {fn : Nat → Int32} (he : f a = some (.inl (g.2 1, n, .inl fn))) (hn31 : n < 2 ^ 31) {i x : Int32} (hout : ¬ vp_in i n) (hst : (st.map fun v => v.category).sum ≤ 8) (hR : 8 ≤ rm.frames ∧ 10248 ≤ rm.locals) {cs' ss' : Nat} (hcs : cs + 3 = cs') (hss : ss + 1010 = ss') (hc : cs' ≤ rm.cells ∧ ss' ≤ rm.slots) (d : decode cc pc = .ok (.bastore, 1)) (k : KX f cs' ss' pc lo "java/lang/ArrayIndexOutOfBoundsException") : K f cs ss pc lo (.int x :: .int i :: .ref a :: st) := by
  obtain ⟨p, e, s, m, args, below, meth, c, Q, ⟨hx, hb, hr, hlk, hml, hown, hnm, hts⟩, hE, hQ, htb, rfl, rfl⟩ := GX
  subst hcs; subst hss
  intro H locs ls hW hS hl hn
  exact vx_bastZ (D := g.1) (cl := fCl) (tys := fTy g.2) (ws := [(a, .inl (g.2 1, n, .inl fn))]) hx hb (hE.1.1 s hE.2) (hW.one he) 0 1 rfl rfl hout d fun tx htx => by
    subst htx
    exact vx_note hx hlk hml hts hE.2 hY exM_aio (idx_text_modelled i n) (idx_text_bytes i hn31) hW hS hl hn hst hR hc k
theorem rX_sastZ (GX : fGoodX l g A En own nm cc nL ret rm hh Post PX K KX) (hY : fY l A En) {a n : Nat} {fn : Nat → Int32} (he : f a = some (.inl (g.2 2, n, .inl fn))) (hn31 : n < 2 ^ 31) {i x : Int32} (hout : ¬ vp_in i n) (hst : (st.map fun v => v.category).sum ≤ 8) (hR : 8 ≤ rm.frames ∧ 10248 ≤ rm.locals) {cs' ss' : Nat} (hcs : cs + 3 = cs') (hss : ss + 1010 = ss') (hc : cs' ≤ rm.cells ∧ ss' ≤ rm.slots) (d : decode cc pc = .ok (.sastore, 1)) (k : KX f cs' ss' pc lo "java/lang/ArrayIndexOutOfBoundsException") : K f cs ss pc lo (.int x :: .int i :: .ref a :: st) := by
  obtain ⟨p, e, s, m, args, below, meth, c, Q, ⟨hx, hb, hr, hlk, hml, hown, hnm, hts⟩, hE, hQ, htb, rfl, rfl⟩ := GX
  subst hcs; subst hss
  intro H locs ls hW hS hl hn
  exact vx_sastZ (D := g.1) (cl := fCl) (tys := fTy g.2) (ws := [(a, .inl (g.2 2, n, .inl fn))]) hx hb (hE.1.1 s hE.2) (hW.one he) 0 2 rfl rfl hout d fun tx htx => by
    subst htx
    exact vx_note hx hlk hml hts hE.2 hY exM_aio (idx_text_modelled i n) (idx_text_bytes i hn31) hW hS hl hn hst hR hc k
theorem rX_iastZ (GX : fGoodX l g A En own nm cc nL ret rm hh Post PX K KX) (hY : fY l A En) {a n : Nat} {fn : Nat → Int32} (he : f a = some (.inl (g.2 0, n, .inl fn))) (hn31 : n < 2 ^ 31) {i x : Int32} (hout : ¬ vp_in i n) (hst : (st.map fun v => v.category).sum ≤ 8) (hR : 8 ≤ rm.frames ∧ 10248 ≤ rm.locals) {cs' ss' : Nat} (hcs : cs + 3 = cs') (hss : ss + 1010 = ss') (hc : cs' ≤ rm.cells ∧ ss' ≤ rm.slots) (d : decode cc pc = .ok (.iastore, 1)) (k : KX f cs' ss' pc lo "java/lang/ArrayIndexOutOfBoundsException") : K f cs ss pc lo (.int x :: .int i :: .ref a :: st) := by
  obtain ⟨p, e, s, m, args, below, meth, c, Q, ⟨hx, hb, hr, hlk, hml, hown, hnm, hts⟩, hE, hQ, htb, rfl, rfl⟩ := GX
  subst hcs; subst hss
  intro H locs ls hW hS hl hn
  exact vx_iastZ (D := g.1) (cl := fCl) (tys := fTy g.2) (ws := [(a, .inl (g.2 0, n, .inl fn))]) hx hb (hE.1.1 s hE.2) (hW.one he) 0 0 rfl rfl hout d fun tx htx => by
    subst htx
    exact vx_note hx hlk hml hts hE.2 hY exM_aio (idx_text_modelled i n) (idx_text_bytes i hn31) hW hS hl hn hst hR hc k
theorem rX_arraylengthN (GX : fGoodX l g A En own nm cc nL ret rm hh Post PX K KX) (hY : fY l A En) (hst : (st.map fun v => v.category).sum ≤ 8) (hR : 8 ≤ rm.frames ∧ 10248 ≤ rm.locals) {cs' ss' : Nat} (hcs : cs + 1 = cs') (hss : ss + 8 = ss') (hc : cs' ≤ rm.cells ∧ ss' ≤ rm.slots) (d : decode cc pc = .ok (.arraylength, 1)) (k : KX f cs' ss' pc lo "java/lang/NullPointerException") : K f cs ss pc lo (.null :: st) := by
  obtain ⟨p, e, s, m, args, below, meth, c, Q, ⟨hx, hb, hr, hlk, hml, hown, hnm, hts⟩, hE, hQ, htb, rfl, rfl⟩ := GX
  subst hcs; subst hss
  intro H locs ls hW hS hl hn
  exact vx_arraylengthN hx hb d (vx_noteN hx hlk hml hts hE.2 hY hW hS hl hn hst hR hc k)
theorem rX_baloadN (GX : fGoodX l g A En own nm cc nL ret rm hh Post PX K KX) (hY : fY l A En) {i : Int32} (hst : (st.map fun v => v.category).sum ≤ 8) (hR : 8 ≤ rm.frames ∧ 10248 ≤ rm.locals) {cs' ss' : Nat} (hcs : cs + 1 = cs') (hss : ss + 8 = ss') (hc : cs' ≤ rm.cells ∧ ss' ≤ rm.slots) (d : decode cc pc = .ok (.baload, 1)) (k : KX f cs' ss' pc lo "java/lang/NullPointerException") : K f cs ss pc lo (.int i :: .null :: st) := by
  obtain ⟨p, e, s, m, args, below, meth, c, Q, ⟨hx, hb, hr, hlk, hml, hown, hnm, hts⟩, hE, hQ, htb, rfl, rfl⟩ := GX
  subst hcs; subst hss
  intro H locs ls hW hS hl hn
  exact vx_baloadN hx hb d (vx_noteN hx hlk hml hts hE.2 hY hW hS hl hn hst hR hc k)
theorem rX_saloadN (GX : fGoodX l g A En own nm cc nL ret rm hh Post PX K KX) (hY : fY l A En) {i : Int32} (hst : (st.map fun v => v.category).sum ≤ 8) (hR : 8 ≤ rm.frames ∧ 10248 ≤ rm.locals) {cs' ss' : Nat} (hcs : cs + 1 = cs') (hss : ss + 8 = ss') (hc : cs' ≤ rm.cells ∧ ss' ≤ rm.slots) (d : decode cc pc = .ok (.saload, 1)) (k : KX f cs' ss' pc lo "java/lang/NullPointerException") : K f cs ss pc lo (.int i :: .null :: st) := by
  obtain ⟨p, e, s, m, args, below, meth, c, Q, ⟨hx, hb, hr, hlk, hml, hown, hnm, hts⟩, hE, hQ, htb, rfl, rfl⟩ := GX
  subst hcs; subst hss
  intro H locs ls hW hS hl hn
  exact vx_saloadN hx hb d (vx_noteN hx hlk hml hts hE.2 hY hW hS hl hn hst hR hc k)
theorem rX_ialoadN (GX : fGoodX l g A En own nm cc nL ret rm hh Post PX K KX) (hY : fY l A En) {i : Int32} (hst : (st.map fun v => v.category).sum ≤ 8) (hR : 8 ≤ rm.frames ∧ 10248 ≤ rm.locals) {cs' ss' : Nat} (hcs : cs + 1 = cs') (hss : ss + 8 = ss') (hc : cs' ≤ rm.cells ∧ ss' ≤ rm.slots) (d : decode cc pc = .ok (.iaload, 1)) (k : KX f cs' ss' pc lo "java/lang/NullPointerException") : K f cs ss pc lo (.int i :: .null :: st) := by
  obtain ⟨p, e, s, m, args, below, meth, c, Q, ⟨hx, hb, hr, hlk, hml, hown, hnm, hts⟩, hE, hQ, htb, rfl, rfl⟩ := GX
  subst hcs; subst hss
  intro H locs ls hW hS hl hn
  exact vx_ialoadN hx hb d (vx_noteN hx hlk hml hts hE.2 hY hW hS hl hn hst hR hc k)
theorem rX_bastoreN (GX : fGoodX l g A En own nm cc nL ret rm hh Post PX K KX) (hY : fY l A En) {i x : Int32} (hst : (st.map fun v => v.category).sum ≤ 8) (hR : 8 ≤ rm.frames ∧ 10248 ≤ rm.locals) {cs' ss' : Nat} (hcs : cs + 1 = cs') (hss : ss + 8 = ss') (hc : cs' ≤ rm.cells ∧ ss' ≤ rm.slots) (d : decode cc pc = .ok (.bastore, 1)) (k : KX f cs' ss' pc lo "java/lang/NullPointerException") : K f cs ss pc lo (.int x :: .int i :: .null :: st) := by
  obtain ⟨p, e, s, m, args, below, meth, c, Q, ⟨hx, hb, hr, hlk, hml, hown, hnm, hts⟩, hE, hQ, htb, rfl, rfl⟩ := GX
  subst hcs; subst hss
  intro H locs ls hW hS hl hn
  exact vx_bastoreN hx hb d (vx_noteN hx hlk hml hts hE.2 hY hW hS hl hn hst hR hc k)
theorem rX_sastoreN (GX : fGoodX l g A En own nm cc nL ret rm hh Post PX K KX) (hY : fY l A En) {i x : Int32} (hst : (st.map fun v => v.category).sum ≤ 8) (hR : 8 ≤ rm.frames ∧ 10248 ≤ rm.locals) {cs' ss' : Nat} (hcs : cs + 1 = cs') (hss : ss + 8 = ss') (hc : cs' ≤ rm.cells ∧ ss' ≤ rm.slots) (d : decode cc pc = .ok (.sastore, 1)) (k : KX f cs' ss' pc lo "java/lang/NullPointerException") : K f cs ss pc lo (.int x :: .int i :: .null :: st) := by
  obtain ⟨p, e, s, m, args, below, meth, c, Q, ⟨hx, hb, hr, hlk, hml, hown, hnm, hts⟩, hE, hQ, htb, rfl, rfl⟩ := GX
  subst hcs; subst hss
  intro H locs ls hW hS hl hn
  exact vx_sastoreN hx hb d (vx_noteN hx hlk hml hts hE.2 hY hW hS hl hn hst hR hc k)
theorem rX_iastoreN (GX : fGoodX l g A En own nm cc nL ret rm hh Post PX K KX) (hY : fY l A En) {i x : Int32} (hst : (st.map fun v => v.category).sum ≤ 8) (hR : 8 ≤ rm.frames ∧ 10248 ≤ rm.locals) {cs' ss' : Nat} (hcs : cs + 1 = cs') (hss : ss + 8 = ss') (hc : cs' ≤ rm.cells ∧ ss' ≤ rm.slots) (d : decode cc pc = .ok (.iastore, 1)) (k : KX f cs' ss' pc lo "java/lang/NullPointerException") : K f cs ss pc lo (.int x :: .int i :: .null :: st) := by
  obtain ⟨p, e, s, m, args, below, meth, c, Q, ⟨hx, hb, hr, hlk, hml, hown, hnm, hts⟩, hE, hQ, htb, rfl, rfl⟩ := GX
  subst hcs; subst hss
  intro H locs ls hW hS hl hn
  exact vx_iastoreN hx hb d (vx_noteN hx hlk hml hts hE.2 hY hW hS hl hn hst hR hc k)
theorem rX_getfNN (GX : fGoodX l g A En own nm cc nL ret rm hh Post PX K KX) (hY : fY l A En) {ci : Nat} {C : String} {T : u_T} {N : Nat} {ty : Nat → FieldType} (hc9 : fCls ci C T N ty) {index : Nat} {ref host : String} (k : Nat) (hk : k < N) (hq : ∀ U, En U → va_Nw (.fieldLinkNest own index ref (T k).2.1 (T k).2.2.1 host) U) (href : ref = (T k).1) (hst : (st.map fun v => v.category).sum ≤ 8) (hR : 8 ≤ rm.frames ∧ 10248 ≤ rm.locals) {cs' ss' : Nat} (hcs : cs + 1 = cs') (hss : ss + 8 = ss') (hc : cs' ≤ rm.cells ∧ ss' ≤ rm.slots) (d : decode cc pc = .ok (.getfield index, 3)) (kx : KX f cs' ss' pc lo "java/lang/NullPointerException") : K f cs ss pc lo (.null :: st) := by
  obtain ⟨p, e, s, m, args, below, meth, c, Q, ⟨hx, hb, hr, hlk, hml, hown, hnm, hts⟩, hE, hQ, htb, rfl, rfl⟩ := GX
  subst hcs; subst hss; subst href
  intro H locs ls hW hS hl hn
  exact vx_getfNN (D := g.1) (cl := fCl) (tys := fTy g.2) hx hb hts hc9.2.1 hown (hE.1.1 s hE.2) hc9.1 k hk ((hq s hE.2).use rfl) (fun _ h => h) d (vx_noteN hx hlk hml hts hE.2 hY hW hS hl hn hst hR hc kx)
end
end XX31
