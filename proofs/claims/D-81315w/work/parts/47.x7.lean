/-! the component: what posts' objects do -/
set_option maxRecDepth 100000
section XX7
set_option maxHeartbeats 4000000 in
theorem xM_X5_isLeaf {l : Launch} {g : fG} {A : Nat → Prop} {En : State → Prop} {zd : Nat} (hX : fX zd g A En) {f : fH} {kd o ld tw : Nat} {lk tk : Int32} (hk : kd ≤ 2) {a : Nat} (hP : f a = some (.inr (3 + kd, pO kd o ld tw lk tk))) (ht : tw < 256): fC l g A En yX5_isLeaf cX5_isLeaf 1 (some .boolean) (fR 1) [.ref a] f (fun v f' => f' = f ∧ v = some (.int (bI (decide (cnt tw = 1))))) := by
  have hE := hX.E
  refine fC.of (by decide) hX.E [some (.ref a)] rfl rfl (fun K G => ?_)
  have G : fGood l g A En RX5 "isLeaf" cX5_isLeaf 1 (some .boolean) (fR 1) _ K := G
  refine r_aload_n G dX5_isLeaf_0 rfl ?_
  refine r_pget G hk (he := hP) 1 (by decide) q537 pO_g1 dX5_isLeaf_1 ?_
  refine s_callS G [.int (nI tw)] (sX_J16_bitCount hE tw ht) (lw_S q312 q240 q95 q241) fy_yJ16_bitCount rfl ⟨Nat.le_of_ble_eq_true rfl, Nat.le_of_ble_eq_true rfl⟩ rfl (Nat.le_of_ble_eq_true rfl) rfl rfl ⟨Nat.zero_le _, Nat.zero_le _⟩ dX5_isLeaf_4 ?_
  show K f 0 0 7 [some (.ref a)] [.int (nI (cnt tw))]
  refine r_iconst G (v := nI 1) dX5_isLeaf_7 (by decide) ?_
  refine r_icmp_ne G 15 (nI_eq (by have := cnt_le tw ht; omega) (by decide)) dX5_isLeaf_8 (by decide) (fun h8 => ?_) (fun h8 => ?_)
  · refine r_iconst G (v := nI 0) dX5_isLeaf_15 (by decide) ?_
    exact r_zret G rfl (by decide) ⟨Nat.zero_le _, Nat.zero_le _⟩ dX5_isLeaf_16 ⟨rfl, rb (by rw [decide_eq_false h8]; rfl)⟩
  · refine r_iconst G (v := nI 1) dX5_isLeaf_11 (by decide) ?_
    refine r_goto G 16 dX5_isLeaf_12 (by decide) ?_
    exact r_zret G rfl (by decide) ⟨Nat.zero_le _, Nat.zero_le _⟩ dX5_isLeaf_16 ⟨rfl, rb (by rw [decide_eq_true h8]; rfl)⟩
set_option maxHeartbeats 4000000 in
theorem xM_X5_twigs {l : Launch} {g : fG} {A : Nat → Prop} {En : State → Prop} {zd : Nat} (hX : fX zd g A En) {f : fH} {kd o ld tw : Nat} {lk tk : Int32} (hk : kd ≤ 2) {a : Nat} (hP : f a = some (.inr (3 + kd, pO kd o ld tw lk tk))): fC l g A En yX5_twigs cX5_twigs 1 (some .int) (fR 0) [.ref a] f (fun v f' => f' = f ∧ v = some (.int (nI tw))) := by
  have hE := hX.E
  refine fC.of (by decide) hX.E [some (.ref a)] rfl rfl (fun K G => ?_)
  have G : fGood l g A En RX5 "twigs" cX5_twigs 1 (some .int) (fR 0) _ K := G
  refine r_aload_n G dX5_twigs_0 rfl ?_
  refine r_pget G hk (he := hP) 1 (by decide) q537 pO_g1 dX5_twigs_1 ?_
  exact r_iret G rfl ⟨Nat.zero_le _, Nat.zero_le _⟩ dX5_twigs_4 ⟨rfl, rfl⟩
set_option maxHeartbeats 4000000 in
theorem xM_X5_worth {l : Launch} {g : fG} {A : Nat → Prop} {En : State → Prop} {zd : Nat} (hX : fX zd g A En) {f : fH} {kd o ld tw : Nat} {lk tk : Int32} (hk : kd ≤ 2) {a : Nat} (hP : f a = some (.inr (3 + kd, pO kd o ld tw lk tk))): fC l g A En yX5_worth cX5_worth 1 (some .int) (fR 0) [.ref a] f (fun v f' => f' = f ∧ v = some (.int (nI ld))) := by
  have hE := hX.E
  refine fC.of (by decide) hX.E [some (.ref a)] rfl rfl (fun K G => ?_)
  have G : fGood l g A En RX5 "worth" cX5_worth 1 (some .int) (fR 0) _ K := G
  refine r_aload_n G dX5_worth_0 rfl ?_
  refine r_pget G hk (he := hP) 0 (by decide) q530 pO_g0 dX5_worth_1 ?_
  exact r_iret G rfl ⟨Nat.zero_le _, Nat.zero_le _⟩ dX5_worth_4 ⟨rfl, rfl⟩
set_option maxHeartbeats 4000000 in
theorem xM_X5_kind {l : Launch} {g : fG} {A : Nat → Prop} {En : State → Prop} {zd : Nat} (hX : fX zd g A En) {f : fH} {a : Nat}: fC l g A En yX5_kind cX5_kind 1 (some .int) (fR 0) [.ref a] f (fun v f' => f' = f ∧ v = some (.int (nI 0))) := by
  have hE := hX.E
  refine fC.of (by decide) hX.E [some (.ref a)] rfl rfl (fun K G => ?_)
  have G : fGood l g A En RX5 "kind" cX5_kind 1 (some .int) (fR 0) _ K := G
  refine r_iconst G (v := nI 0) dX5_kind_0 (by decide) ?_
  exact r_iret G rfl ⟨Nat.zero_le _, Nat.zero_le _⟩ dX5_kind_1 ⟨rfl, rfl⟩
set_option maxHeartbeats 4000000 in
theorem xM_X6_kind {l : Launch} {g : fG} {A : Nat → Prop} {En : State → Prop} {zd : Nat} (hX : fX zd g A En) {f : fH} {a : Nat}: fC l g A En yX6_kind cX6_kind 1 (some .int) (fR 0) [.ref a] f (fun v f' => f' = f ∧ v = some (.int (nI 1))) := by
  have hE := hX.E
  refine fC.of (by decide) hX.E [some (.ref a)] rfl rfl (fun K G => ?_)
  have G : fGood l g A En RX6 "kind" cX6_kind 1 (some .int) (fR 0) _ K := G
  refine r_iconst G (v := nI 1) dX6_kind_0 (by decide) ?_
  exact r_iret G rfl ⟨Nat.zero_le _, Nat.zero_le _⟩ dX6_kind_1 ⟨rfl, rfl⟩
set_option maxHeartbeats 4000000 in
theorem xM_X7_kind {l : Launch} {g : fG} {A : Nat → Prop} {En : State → Prop} {zd : Nat} (hX : fX zd g A En) {f : fH} {a : Nat}: fC l g A En yX7_kind cX7_kind 1 (some .int) (fR 0) [.ref a] f (fun v f' => f' = f ∧ v = some (.int (nI 2))) := by
  have hE := hX.E
  refine fC.of (by decide) hX.E [some (.ref a)] rfl rfl (fun K G => ?_)
  have G : fGood l g A En RX7 "kind" cX7_kind 1 (some .int) (fR 0) _ K := G
  refine r_iconst G (v := nI 2) dX7_kind_0 (by decide) ?_
  exact r_iret G rfl ⟨Nat.zero_le _, Nat.zero_le _⟩ dX7_kind_1 ⟨rfl, rfl⟩
set_option maxHeartbeats 4000000 in
theorem xM_X5_kept {l : Launch} {g : fG} {A : Nat → Prop} {En : State → Prop} {zd : Nat} (hX : fX zd g A En) {f : fH} {kd o ld tw : Nat} {lk tk : Int32} (hk : kd ≤ 2) {a : Nat} (hA : A a) (hP : f a = some (.inr (3 + kd, pO kd o ld tw lk tk))): fC l g A En yX5_kept cX5_kept 1 none (fR 0) [.ref a] f (fun v f' => v = none ∧ fU f a (.inr (3 + kd, pO kd o ld tw (nI ld) (nI tw))) = f') := by
  have hE := hX.E
  refine fC.of (by decide) hX.E [some (.ref a)] rfl rfl (fun K G => ?_)
  have G : fGood l g A En RX5 "kept" cX5_kept 1 none (fR 0) _ K := G
  refine r_aload_n G dX5_kept_0 rfl ?_
  refine r_aload_n G dX5_kept_1 rfl ?_
  refine r_pget G hk (he := hP) 0 (by decide) q530 pO_g0 dX5_kept_2 ?_
  refine r_pput G hk (he := hP) hA 2 (by decide) q539 (f' := fU f a (.inr (3 + kd, pO kd o ld tw (nI ld) tk))) (by rw [pO_s2]) dX5_kept_5 ?_
  show K (fU f a (.inr (3 + kd, pO kd o ld tw (nI ld) tk))) 0 0 8 [some (.ref a)] []
  refine r_aload_n G dX5_kept_8 rfl ?_
  refine r_aload_n G dX5_kept_9 rfl ?_
  refine r_pget G hk (he := fU_s _ _ _) 1 (by decide) q537 pO_g1 dX5_kept_10 ?_
  refine r_pput G hk (he := fU_s _ _ _) hA 3 (by decide) q540 (f' := fU f a (.inr (3 + kd, pO kd o ld tw (nI ld) (nI tw)))) (by rw [pO_s3]; exact fU_uu _ _ _ _) dX5_kept_13 ?_
  show K (fU f a (.inr (3 + kd, pO kd o ld tw (nI ld) (nI tw)))) 0 0 16 [some (.ref a)] []
  exact r_vret G rfl ⟨Nat.zero_le _, Nat.zero_le _⟩ dX5_kept_16 ⟨rfl, rfl⟩
set_option maxHeartbeats 4000000 in
theorem xM_X5_broughtBack {l : Launch} {g : fG} {A : Nat → Prop} {En : State → Prop} {zd : Nat} (hX : fX zd g A En) {f : fH} {kd o ld tw : Nat} {l0 t0 : Nat} (hk : kd ≤ 2) {a : Nat} (hA : A a) (hP : f a = some (.inr (3 + kd, pO kd o ld tw (nI l0) (nI t0)))): fC l g A En yX5_broughtBack cX5_broughtBack 1 none (fR 0) [.ref a] f (fun v f' => v = none ∧ fU f a (.inr (3 + kd, pO kd o l0 t0 (nI l0) (nI t0))) = f') := by
  have hE := hX.E
  refine fC.of (by decide) hX.E [some (.ref a)] rfl rfl (fun K G => ?_)
  have G : fGood l g A En RX5 "broughtBack" cX5_broughtBack 1 none (fR 0) _ K := G
  refine r_aload_n G dX5_broughtBack_0 rfl ?_
  refine r_aload_n G dX5_broughtBack_1 rfl ?_
  refine r_pget G hk (he := hP) 2 (by decide) q539 pO_g2 dX5_broughtBack_2 ?_
  refine r_pput G hk (he := hP) hA 0 (by decide) q530 (f' := fU f a (.inr (3 + kd, pO kd o l0 tw (nI l0) (nI t0)))) (by rw [pO_s0]) dX5_broughtBack_5 ?_
  show K (fU f a (.inr (3 + kd, pO kd o l0 tw (nI l0) (nI t0)))) 0 0 8 [some (.ref a)] []
  refine r_aload_n G dX5_broughtBack_8 rfl ?_
  refine r_aload_n G dX5_broughtBack_9 rfl ?_
  refine r_pget G hk (he := fU_s _ _ _) 3 (by decide) q540 pO_g3 dX5_broughtBack_10 ?_
  refine r_pput G hk (he := fU_s _ _ _) hA 1 (by decide) q537 (f' := fU f a (.inr (3 + kd, pO kd o l0 t0 (nI l0) (nI t0)))) (by rw [pO_s1]; exact fU_uu _ _ _ _) dX5_broughtBack_13 ?_
  show K (fU f a (.inr (3 + kd, pO kd o l0 t0 (nI l0) (nI t0)))) 0 0 16 [some (.ref a)] []
  exact r_vret G rfl ⟨Nat.zero_le _, Nat.zero_le _⟩ dX5_broughtBack_16 ⟨rfl, rfl⟩
/-- the component's own object -/
def xF (tr gr : Int32) (lp rn lr : Nat) (fa : Int32) (sh : Nat) : List Value := [.int tr, .int gr, .ref lp, .ref rn, .ref lr, .int fa, .ref sh]
set_option maxHeartbeats 4000000 in
theorem xM_X5_tracedBy {l : Launch} {g : fG} {A : Nat → Prop} {En : State → Prop} {zd : Nat} (hX : fX zd g A En) {f : fH} {kd o ld tw : Nat} {lk tk : Int32} (hk : kd ≤ 2) {a : Nat} (hP : f a = some (.inr (3 + kd, pO kd o ld tw lk tk))) {tr gr fa : Int32} {lp rn lr sh : Nat} (hAo : A o) (hO : f o = some (.inr (1, xF tr gr lp rn lr fa sh))) (n : Int32): fC l g A En yX5_tracedBy cX5_tracedBy 2 (some .int) (fR 0) [.ref a, .int n] f (fun v f' => v = some (.int 0) ∧ fU f o (.inr (1, xF (nI 31 * tr + n) gr lp rn lr fa sh)) = f') := by
  have hE := hX.E
  refine fC.of (by decide) hX.E [some (.ref a), some (.int n)] rfl rfl (fun K G => ?_)
  have G : fGood l g A En RX5 "tracedBy" cX5_tracedBy 2 (some .int) (fR 0) _ K := G
  refine r_aload_n G dX5_tracedBy_0 rfl ?_
  refine r_pget G hk (he := hP) 4 (by decide) q541 pO_g4 dX5_tracedBy_1 ?_
  refine r_bipush G (v := nI 31) dX5_tracedBy_4 (by decide) ?_
  refine r_aload_n G dX5_tracedBy_6 rfl ?_
  refine r_pget G hk (he := hP) 4 (by decide) q541 pO_g4 dX5_tracedBy_7 ?_
  refine r_getfN G xCl1 (fs := [.int tr, .int gr, .ref lp, .ref rn, .ref lr, .int fa, .ref sh]) hO 0 (by decide) (hX.nw 0 _ rfl) rfl rfl dX5_tracedBy_10 ?_
  refine r_imul G (v := ((nI 31) * tr)) dX5_tracedBy_13 rfl ?_
  refine r_iload_n G dX5_tracedBy_14 rfl ?_
  refine r_iadd G (v := (((nI 31) * tr) + n)) dX5_tracedBy_15 rfl ?_
  refine r_putfN G xCl1 (fs := [.int tr, .int gr, .ref lp, .ref rn, .ref lr, .int fa, .ref sh]) hO hAo 0 (by decide) (hX.nw 0 _ rfl) rfl rfl rfl rfl (Nat.le_of_ble_eq_true rfl) (f' := fU f o (.inr (1, [.int (((nI 31) * tr) + n), .int gr, .ref lp, .ref rn, .ref lr, .int fa, .ref sh]))) rfl dX5_tracedBy_16 ?_
  show K (fU f o (.inr (1, [.int (((nI 31) * tr) + n), .int gr, .ref lp, .ref rn, .ref lr, .int fa, .ref sh]))) 0 0 19 [some (.ref a), some (.int n)] []
  refine r_iconst G (v := nI 0) dX5_tracedBy_19 (by decide) ?_
  exact r_iret G rfl ⟨Nat.zero_le _, Nat.zero_le _⟩ dX5_tracedBy_20 ⟨rfl, rfl⟩
theorem lw_O {own : String} {idx : Nat} {C owner : String} {x y : MethodName} {b : ByteArray} {L : Nat} {r : Option FieldType} (h1 : Cond.methodLink own idx x ∈ lw_all) (h2 : Cond.sameMethod x.cls owner x.name x.desc ∈ lw_all) (h3 : Cond.instanceMethod ⟨owner, x.name, x.desc⟩ ∈ lw_all) (h4 : Cond.selects C x y ∈ lw_all) (h5 : Cond.instanceMethod y ∈ lw_all) (h6 : Cond.initialized y.cls ∈ lw_all) (h7 : Cond.code y b L r ∈ lw_all) : GoodIn lw_all (va_wsO own idx C owner x y (ws_ y b L r)) := by
  refine lw_app ?_ (lw_meth h7)
  intro w hw
  simp only [List.mem_cons, List.not_mem_nil, or_false] at hw
  rcases hw with rfl | rfl | rfl | rfl | rfl | rfl
  · exact h1
  · exact h2
  · exact h3
  · exact h4
  · exact h5
  · exact h6
/-- a call on a post, whatever its kind -/
theorem r_callK {l : Launch} {g : fG} {A : Nat → Prop} {En : State → Prop} {own nm : String} {cc : ByteArray} {nL : Nat} {ret : Option FieldType} {rm : Room} {Post : Option Value → fH → Prop} {K : fKt} {f : fH} {cs ss pc : Nat} {lo : fL} (G : fGood l g A En own nm cc nL ret rm Post K) {kd : Nat} (hk : kd ≤ 2) {b : Nat} {fs : List Value} (he : f b = some (.inr (3 + kd, fs))) (As : List Value) {Post' : Option Value → fH → Prop} {index n : Nat} {x : MethodName} {st0 rest : List Value} {y0 y1 y2 : MethodName} {c0 c1 c2 : ByteArray} {n0 n1 n2 d0 d1 d2 : Nat} {ret' : Option FieldType}
    (M0 : kd = 0 → fC l g A En y0 c0 n0 ret' (fR d0) (.ref b :: As) f Post') (M1 : kd = 1 → fC l g A En y1 c1 n1 ret' (fR d1) (.ref b :: As) f Post') (M2 : kd = 2 → fC l g A En y2 c2 n2 ret' (fR d2) (.ref b :: As) f Post')
    (w0 : GoodIn lw_all (va_wsO own index "VineRows$Plain" "VineRows$Plain" x y0 (ws_ y0 c0 n0 ret'))) (w1 : GoodIn lw_all (va_wsO own index "VineRows$Broad" "VineRows$Plain" x y1 (ws_ y1 c1 n1 ret'))) (w2 : GoodIn lw_all (va_wsO own index "VineRows$Doubled" "VineRows$Plain" x y2 (ws_ y2 c2 n2 ret')))
    {cx : ByteArray} {nx : Nat} {rx : Option FieldType} (hcode : Cond.code ⟨"VineRows$Plain", x.name, x.desc⟩ cx nx rx ∈ lw_all) (hy : (parseMethodDescriptor x.desc).map (fun d => d.parameters.length) = some n) (hn : As.length = n) (hR : (d0 + 1 ≤ rm.frames ∧ 8 + (n0 + 11) + 64 * d0 ≤ rm.locals) ∧ (d1 + 1 ≤ rm.frames ∧ 8 + (n1 + 11) + 64 * d1 ≤ rm.locals) ∧ d2 + 1 ≤ rm.frames ∧ 8 + (n2 + 11) + 64 * d2 ≤ rm.locals) (hs : st0 = As.reverse ++ .ref b :: rest) (hst : (rest.map fun v => v.category).sum ≤ 8) (hc : cs ≤ rm.cells ∧ ss ≤ rm.slots) (d : decode cc pc = .ok (.invokevirtual index, 3)) (kk : ∀ (v : Option Value) (f' : fH), Post' v f' → K f' cs ss (pc + 3) lo (v.toList ++ rest)) : K f cs ss pc lo st0 := by
  have ho : ("VineRows$Plain" : String) ≠ "java/lang/invoke/MethodHandle" ∧ ("VineRows$Plain" : String) ≠ "java/lang/invoke/VarHandle" ∧ (parseMethodDescriptor x.desc).map (fun d => d.parameters.length) = some n := ⟨by decide, by decide, hy⟩
  match kd, hk with
  | 0, _ => exact r_callO G As (M0 rfl) (q := (RX5, TX5, 5)) w0 hcode ho hn hR.1 he rfl hs hst rfl rfl hc d kk
  | 1, _ => exact r_callO G As (M1 rfl) (q := (RX6, TX6, 6)) w1 hcode ho hn hR.2.1 he rfl hs hst rfl rfl hc d kk
  | 2, _ => exact r_callO G As (M2 rfl) (q := (RX7, TX7, 7)) w2 hcode ho hn hR.2.2 he rfl hs hst rfl rfl hc d kk
end XX7
