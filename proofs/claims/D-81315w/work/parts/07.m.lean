/-! the reference's world: one object, twenty int arrays of fixed lengths -/
set_option maxRecDepth 100000
section ML
def mSc : List Nat := [0, 1, 5, 6, 10, 11, 23]
def mAr : List Nat := [2, 3, 4, 7, 8, 9, 12, 13, 14, 15, 16, 17, 18, 19, 20, 21, 22, 24, 25, 26]
def mN : Nat → Nat := fun k => match k with
  | 2 => 4
  | 3 => 4
  | 4 => 240
  | 12 => 6
  | 15 => 64
  | 16 => 6
  | 21 => 7
  | 22 => 7
  | _ => 8
abbrev mS : Type := (Nat → Int32) × (Nat → Nat → Int32)
def mF (ad : Nat → Nat) (S : mS) : List Value := [.int (S.1 0), .int (S.1 1), .ref (ad 2), .ref (ad 3), .ref (ad 4), .int (S.1 5), .int (S.1 6), .ref (ad 7), .ref (ad 8), .ref (ad 9), .int (S.1 10), .int (S.1 11), .ref (ad 12), .ref (ad 13), .ref (ad 14), .ref (ad 15), .ref (ad 16), .ref (ad 17), .ref (ad 18), .ref (ad 19), .ref (ad 20), .ref (ad 21), .ref (ad 22), .int (S.1 23), .ref (ad 24), .ref (ad 25), .ref (ad 26)]
def mH (g : fG) (o : Nat) (ad : Nat → Nat) (S : mS) : fH := fun q => if q = o then some (.inr (0, mF ad S)) else (mAr.find? (fun k => ad k == q)).map fun k => .inl (g.2 0, mN k, .inl (S.2 k))
def mD (A : Nat → Prop) (o : Nat) (ad : Nat → Nat) : Prop := A o ∧ (∀ k ∈ mAr, A (ad k)) ∧ (∀ k ∈ mAr, ad k ≠ o) ∧ ∀ j ∈ mAr, ∀ k ∈ mAr, ad j = ad k → j = k
def mSet (S : mS) (k : Nat) (x : Int32) : mS := (va_up S.1 k x, S.2)
def mPut (S : mS) (k i : Nat) (x : Int32) : mS := (S.1, va_up S.2 k (upd (S.2 k) i x))
theorem mCls : fCls 0 RX1 TX1 27 tyX1 := ⟨rfl, in_X1, tyX1_ok, fun a ha b hb h => Or.inl (nmX1 a ha b hb h)⟩
theorem mH_o (g : fG) (o : Nat) (ad : Nat → Nat) (S : mS) : mH g o ad S o = some (.inr (0, mF ad S)) := if_pos rfl
theorem mH_find {A : Nat → Prop} {o : Nat} {ad : Nat → Nat} (hD : mD A o ad) {k : Nat} (hk : k ∈ mAr) : mAr.find? (fun j => ad j == ad k) = some k := by
  cases h : mAr.find? (fun j => ad j == ad k) with
  | none => exact absurd (List.find?_eq_none.mp h k hk) (by simp)
  | some j =>
    have h1 := List.mem_of_find?_eq_some h
    have h2 := List.find?_some h
    rw [hD.2.2.2 j h1 k hk (eq_of_beq h2)]
theorem mH_a {A : Nat → Prop} {o : Nat} {ad : Nat → Nat} (g : fG) (hD : mD A o ad) (S : mS) {k : Nat} (hk : k ∈ mAr) : mH g o ad S (ad k) = some (.inl (g.2 0, mN k, .inl (S.2 k))) := by
  unfold mH
  rw [if_neg (hD.2.2.1 k hk), mH_find hD hk]
  rfl
theorem mF_s (ad : Nat → Nat) (S : mS) : ∀ k ∈ mSc, (mF ad S)[k]? = some (.int (S.1 k)) := by
  intro k hk
  simp only [mSc, List.mem_cons, List.not_mem_nil, or_false] at hk
  rcases hk with rfl | rfl | rfl | rfl | rfl | rfl | rfl <;> rfl
theorem mF_a (ad : Nat → Nat) (S : mS) : ∀ k ∈ mAr, (mF ad S)[k]? = some (.ref (ad k)) := by
  intro k hk
  simp only [mAr, List.mem_cons, List.not_mem_nil, or_false] at hk
  rcases hk with rfl | rfl | rfl | rfl | rfl | rfl | rfl | rfl | rfl | rfl | rfl | rfl | rfl | rfl | rfl | rfl | rfl | rfl | rfl | rfl <;> rfl
theorem mF_set (ad : Nat → Nat) (S : mS) (x : Int32) : ∀ k ∈ mSc, (mF ad S).set k (.int x) = mF ad (mSet S k x) := by
  intro k hk
  simp only [mSc, List.mem_cons, List.not_mem_nil, or_false] at hk
  rcases hk with rfl | rfl | rfl | rfl | rfl | rfl | rfl <;> rfl
theorem mH_set (g : fG) (o : Nat) (ad : Nat → Nat) (S : mS) (x : Int32) {k : Nat} (hk : k ∈ mSc) : fU (mH g o ad S) o (.inr (0, (mF ad S).set k (.int x))) = mH g o ad (mSet S k x) := by
  funext q
  rw [mF_set ad S x k hk]
  by_cases hq : q = o
  · subst hq
    rw [fU_s, mH_o]
  · rw [fU_n _ _ hq]
    unfold mH
    rw [if_neg hq, if_neg hq]
    rfl
theorem mH_put {A : Nat → Prop} {o : Nat} {ad : Nat → Nat} (g : fG) (hD : mD A o ad) (S : mS) (i : Nat) (x : Int32) {k : Nat} (hk : k ∈ mAr) : fU (mH g o ad S) (ad k) (.inl (g.2 0, mN k, .inl (upd (S.2 k) i x))) = mH g o ad (mPut S k i x) := by
  funext q
  by_cases hq : q = ad k
  · subst hq
    rw [fU_s, mH_a g hD _ hk]
    show _ = some (Sum.inl (g.2 0, mN k, Sum.inl (va_up S.2 k (upd (S.2 k) i x) k)))
    unfold va_up
    rw [if_pos rfl]
  · rw [fU_n _ _ hq]
    unfold mH
    by_cases hqo : q = o
    · rw [if_pos hqo, if_pos hqo]
      rfl
    · rw [if_neg hqo, if_neg hqo]
      cases h : mAr.find? (fun j => ad j == q) with
      | none => rfl
      | some j =>
        have h2 := List.find?_some h
        have hj : j ≠ k := by
          intro e
          subst e
          exact hq (eq_of_beq h2).symm
        show some (Sum.inl (g.2 0, mN j, Sum.inl (S.2 j))) = some (Sum.inl (g.2 0, mN j, Sum.inl (va_up S.2 k (upd (S.2 k) i x) j)))
        unfold va_up
        rw [if_neg hj]
theorem mPut_s (S : mS) (k i : Nat) (x : Int32) : (mPut S k i x).2 k i = x := by
  show va_up S.2 k (upd (S.2 k) i x) k i = x
  unfold va_up upd
  rw [if_pos rfl, if_pos rfl]
theorem mPut_i (S : mS) (k i : Nat) (x : Int32) {j : Nat} (h : j ≠ i) : (mPut S k i x).2 k j = S.2 k j := by
  show va_up S.2 k (upd (S.2 k) i x) k j = _
  unfold va_up upd
  rw [if_pos rfl, if_neg h]
theorem mPut_k (S : mS) (k i : Nat) (x : Int32) {k' : Nat} (h : k' ≠ k) (j : Nat) : (mPut S k i x).2 k' j = S.2 k' j := by
  show va_up S.2 k (upd (S.2 k) i x) k' j = _
  unfold va_up
  rw [if_neg h]
theorem mPut_1 (S : mS) (k i : Nat) (x : Int32) : (mPut S k i x).1 = S.1 := rfl
theorem mSet_s (S : mS) (k : Nat) (x : Int32) : (mSet S k x).1 k = x := by
  show va_up S.1 k x k = x
  unfold va_up
  rw [if_pos rfl]
theorem mSet_n (S : mS) (k : Nat) (x : Int32) {j : Nat} (h : j ≠ k) : (mSet S k x).1 j = S.1 j := by
  show va_up S.1 k x j = _
  unfold va_up
  rw [if_neg h]
theorem mSet_2 (S : mS) (k : Nat) (x : Int32) : (mSet S k x).2 = S.2 := rfl
theorem mk_s : ∀ k ∈ mSc, k < 27 := by decide
theorem mk_a : ∀ k ∈ mAr, k < 27 := by decide
theorem mk_n : ∀ k ∈ mAr, mN k ≤ 240 := by decide
theorem mN_le {k : Nat} (h : k ∈ mAr) : mN k ≤ 240 := mk_n k h
def fR (d : Nat) : Room := { frames := d, cells := 0, slots := 0, locals := 64 * d }
end ML
section MR
variable {l : Launch} {g : fG} {A : Nat → Prop} {En : State → Prop} {nm : String} {cc : ByteArray} {nL : Nat} {ret : Option FieldType} {rm : Room} {Post : Option Value → fH → Prop} {K : fKt} {S : mS} {o : Nat} {ad : Nat → Nat} {cs ss pc : Nat} {lo : fL} {st : List Value}
theorem m_gets (G : fGood l g A En RX1 nm cc nL ret rm Post K) (k : Nat) (hk : k ∈ mSc) {index : Nat} {ref : String} (hq : Cond.fieldLink RX1 index ref (TX1 k).2.1 (TX1 k).2.2.1 ∈ lw_all) (href : ref = (TX1 k).1) {v : Int32} (hv : S.1 k = v) (d : decode cc pc = .ok (.getfield index, 3)) (kk : K (mH g o ad S) cs ss (pc + 3) lo (.int v :: st)) : K (mH g o ad S) cs ss pc lo (.ref o :: st) := by
  subst hv
  have hlt : k < 27 := mk_s k hk
  exact r_getf G mCls (mH_o g o ad S) k hlt hq href (mF_s ad S k hk) d kk
theorem m_geta (G : fGood l g A En RX1 nm cc nL ret rm Post K) (k : Nat) (hk : k ∈ mAr) {index : Nat} {ref : String} (hq : Cond.fieldLink RX1 index ref (TX1 k).2.1 (TX1 k).2.2.1 ∈ lw_all) (href : ref = (TX1 k).1) (d : decode cc pc = .ok (.getfield index, 3)) (kk : K (mH g o ad S) cs ss (pc + 3) lo (.ref (ad k) :: st)) : K (mH g o ad S) cs ss pc lo (.ref o :: st) := by
  have hlt : k < 27 := mk_a k hk
  exact r_getf G mCls (mH_o g o ad S) k hlt hq href (mF_a ad S k hk) d kk
theorem m_puts (G : fGood l g A En RX1 nm cc nL ret rm Post K) (hD : mD A o ad) (k : Nat) (hk : k ∈ mSc) {index : Nat} {ref : String} (hq : Cond.fieldLink RX1 index ref (TX1 k).2.1 (TX1 k).2.2.1 ∈ lw_all) (href : ref = (TX1 k).1) (hfin : (TX1 k).2.2.2 = false) (hty : tyX1 k = .int) {x : Int32} (d : decode cc pc = .ok (.putfield index, 3)) (kk : K (mH g o ad (mSet S k x)) cs ss (pc + 3) lo st) : K (mH g o ad S) cs ss pc lo (.int x :: .ref o :: st) := by
  have hlt : k < 27 := mk_s k hk
  exact r_putf G mCls (mH_o g o ad S) hD.1 k hlt hq href hfin (by rw [hty]; rfl) (by rw [hty]; rfl) (by show k < (mF ad S).length; exact hlt) (mH_set g o ad S x hk) d kk
theorem m_ald (G : fGood l g A En RX1 nm cc nL ret rm Post K) (hD : mD A o ad) (k : Nat) (hk : k ∈ mAr) {i : Nat} (hi : i < mN k) {v : Int32} (hv : S.2 k i = v) (d : decode cc pc = .ok (.iaload, 1)) (kk : K (mH g o ad S) cs ss (pc + 1) lo (.int v :: st)) : K (mH g o ad S) cs ss pc lo (.int (nI i) :: .ref (ad k) :: st) := by
  have hlt : mN k ≤ 240 := mN_le hk
  exact r_iald G (mH_a g hD S hk) (vp_in_nI hi (by omega)) (by rw [nI_clamp (by omega)]; exact hv) d kk
theorem m_ast (G : fGood l g A En RX1 nm cc nL ret rm Post K) (hD : mD A o ad) (k : Nat) (hk : k ∈ mAr) {i : Nat} (hi : i < mN k) {x : Int32} (d : decode cc pc = .ok (.iastore, 1)) (kk : K (mH g o ad (mPut S k i x)) cs ss (pc + 1) lo st) : K (mH g o ad S) cs ss pc lo (.int x :: .int (nI i) :: .ref (ad k) :: st) := by
  have hlt : mN k ≤ 240 := mN_le hk
  refine r_iast G (mH_a g hD S hk) (hD.2.1 k hk) (vp_in_nI hi (by omega)) ?_ d kk
  rw [nI_clamp (by omega)]
  exact mH_put g hD S i x hk
/-- a contract of the reference: instance methods -/
def mC (l : Launch) (g : fG) (A : Nat → Prop) (En : State → Prop) (o : Nat) (ad : Nat → Nat) (y : MethodName) (cc : ByteArray) (nL : Nat) (ret : Option FieldType) (rm : Room) (av : List Value) (S : mS) (Post : Option Value → mS → Prop) : Prop :=
  fC l g A En y cc nL ret rm (.ref o :: av) (mH g o ad S) (fun v f' => ∃ S', f' = mH g o ad S' ∧ Post v S')
/-- a contract of a method that leaves the world as it is -/
def sC (l : Launch) (g : fG) (A : Nat → Prop) (En : State → Prop) (y : MethodName) (cc : ByteArray) (nL : Nat) (ret : Option FieldType) (rm : Room) (av : List Value) (r : Value) : Prop :=
  ∀ f : fH, fC l g A En y cc nL ret rm av f (fun v f' => f' = f ∧ v = some r)
theorem m_callV (G : fGood l g A En RX1 nm cc nL ret rm Post K) {y : MethodName} {cc' : ByteArray} {nL' : Nat} {ret' : Option FieldType} {rm' : Room} {Post' : Option Value → mS → Prop} {n index : Nat} {st0 rest : List Value} (As : List Value) (M : mC l g A En o ad y cc' nL' ret' rm' As S Post') (w : GoodIn lw_all (wsV RX1 index y.cls y (ws_ y cc' nL' ret'))) (hy : fyN y n) (hyc : y.cls = RX1) (hn : As.length = n) (hR : rm'.frames + 1 ≤ rm.frames ∧ 8 + (nL' + 11) + rm'.locals ≤ rm.locals) (hs : st0 = As.reverse ++ .ref o :: rest) (hst : (rest.map fun v => v.category).sum ≤ 8) {cs' ss' : Nat} (hcs : cs + rm'.cells = cs') (hss : ss + rm'.slots = ss') (hc : cs' ≤ rm.cells ∧ ss' ≤ rm.slots) (d : decode cc pc = .ok (.invokevirtual index, 3)) (kk : ∀ (v : Option Value) (S' : mS), Post' v S' → K (mH g o ad S') cs' ss' (pc + 3) lo (v.toList ++ rest)) : K (mH g o ad S) cs ss pc lo st0 := by
  refine r_callV G As M w hy hn hR (mH_o g o ad S) (q := (RX1, TX1, 27)) rfl hyc.symm hs hst hcs hss hc d ?_
  rintro v f' ⟨S', rfl, hp⟩
  exact kk v S' hp
theorem s_callS {own : String} {f : fH} (G : fGood l g A En own nm cc nL ret rm Post K) {y : MethodName} {cc' : ByteArray} {nL' : Nat} {ret' : Option FieldType} {rm' : Room} {r : Value} {n index : Nat} {st0 rest : List Value} (As : List Value) (M : sC l g A En y cc' nL' ret' rm' As r) (w : GoodIn lw_all (va_wsS own index y (ws_ y cc' nL' ret'))) (hy : fyN y n) (hn : As.length = n) (hR : rm'.frames + 1 ≤ rm.frames ∧ 8 + (nL' + 11) + rm'.locals ≤ rm.locals) (hs : st0 = As.reverse ++ rest) (hst : (rest.map fun v => v.category).sum ≤ 8) {cs' ss' : Nat} (hcs : cs + rm'.cells = cs') (hss : ss + rm'.slots = ss') (hc : cs' ≤ rm.cells ∧ ss' ≤ rm.slots) (d : decode cc pc = .ok (.invokestatic index, 3)) (kk : K f cs' ss' (pc + 3) lo (r :: rest)) : K f cs ss pc lo st0 := by
  refine r_callS G As (M f) w hy hn hR hs hst hcs hss hc d ?_
  rintro v f' ⟨rfl, rfl⟩
  exact kk
end MR
