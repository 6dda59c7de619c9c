/-! the component: leaves, worth of sets -/
set_option maxRecDepth 100000
section XX10
theorem r_castP {zd : Nat} {l : Launch} {g : fG} {A : Nat → Prop} {En : State → Prop} (hX : fX zd g A En) {own nm : String} {cc : ByteArray} {nL : Nat} {ret : Option FieldType} {rm : Room} {Post : Option Value → fH → Prop} {K : fKt} {f : fH} {cs ss pc : Nat} {lo : fL} {st : List Value} (G : fGood l g A En own nm cc nL ret rm Post K) {kd : Nat} (hk : kd ≤ 2) {a index : Nat} {fs : List Value} (he : f a = some (.inr (3 + kd, fs))) (hq : Cond.classLink own index "VineRows$Plain" ∈ lw_all) (d : decode cc pc = .ok (.checkcast index, 3)) (kk : K f cs ss (pc + 3) lo (.ref a :: st)) : K f cs ss pc lo (.ref a :: st) := by
  match kd, hk with
  | 0, _ => exact r_cast G he (r := (RX5, TX5, 5)) rfl (Or.inl rfl) hq d kk
  | 1, _ => exact r_cast G he (r := (RX6, TX6, 6)) rfl (Or.inr (hX.nw 20 _ rfl)) hq d kk
  | 2, _ => exact r_cast G he (r := (RX7, TX7, 7)) rfl (Or.inr (hX.nw 21 _ rfl)) hq d kk
theorem xP.t8 {g : fG} {f : fH} {o : Nat} {L : xLs} {pa kd ld tw : Nat → Nat} {lk tk : Nat → Int32} (h : xP g f o L pa kd ld tw lk tk) (p : Nat) (hp : p < L.n) : tw p < 256 := Nat.lt_of_lt_of_le (h.2.2.2 p hp).2.2.2.2 (pow_n8 h.2.1)
theorem xM_wt0 {l : Launch} {g : fG} {A : Nat → Prop} {En : State → Prop} {zd : Nat} (hX : fX zd g A En) {f : fH} {kd ld : Nat → Nat} {p o t : Nat} {lk tk : Int32} {a : Nat} (h : kd p = 0) (he : f a = some (.inr (3 + kd p, pO (kd p) o (ld p) t lk tk))) : fC l g A En yX5_worth cX5_worth 1 (some .int) (fR 0) [.ref a] f (fun v f' => f' = f ∧ v = some (.int (nI (wv kd ld p)))) := by
  rw [h] at he
  have e : wv kd ld p = ld p := by unfold wv; simp [h]
  rw [e]
  exact xM_X5_worth hX (kd := 0) (by decide) he
theorem xM_wt1 {l : Launch} {g : fG} {A : Nat → Prop} {En : State → Prop} {zd : Nat} (hX : fX zd g A En) {f : fH} {kd ld : Nat → Nat} {p o t : Nat} {lk tk : Int32} {a : Nat} (h : kd p = 1) (he : f a = some (.inr (3 + kd p, pO (kd p) o (ld p) t lk tk))) : fC l g A En yX6_worth cX6_worth 1 (some .int) (fR 2) [.ref a] f (fun v f' => f' = f ∧ v = some (.int (nI (wv kd ld p)))) := by
  rw [h] at he
  have e : wv kd ld p = ld p + 1 := by unfold wv; simp [h]
  rw [e]
  exact xM_X6_worth hX  he
theorem xM_wt2 {l : Launch} {g : fG} {A : Nat → Prop} {En : State → Prop} {zd : Nat} (hX : fX zd g A En) {f : fH} {kd ld : Nat → Nat} {p o t : Nat} {lk tk : Int32} {a : Nat} (h : kd p = 2) (he : f a = some (.inr (3 + kd p, pO (kd p) o (ld p) t lk tk))) : fC l g A En yX7_worth cX7_worth 1 (some .int) (fR 2) [.ref a] f (fun v f' => f' = f ∧ v = some (.int (nI (wv kd ld p)))) := by
  rw [h] at he
  have e : wv kd ld p = 2 * ld p := by unfold wv; simp [h]
  rw [e]
  exact xM_X7_worth hX  he
set_option maxHeartbeats 4000000 in
theorem xM_X0_leaves {l : Launch} {g : fG} {A : Nat → Prop} {En : State → Prop} {zd : Nat} (hX : fX zd g A En) {f : fH} {o : Nat} {tr gr fa : Int32} {rn lr sh : Nat} {L : xLs} {pa kd ld tw : Nat → Nat} {lk tk : Nat → Int32} (hO : f o = some (.inr (1, xF tr gr L.a rn lr fa sh))) (hP : xP g f o L pa kd ld tw lk tk): fC l g A En yX0_leaves cX0_leaves 3 (some .int) (fR 4) [.ref o] f (fun v f' => f' = f ∧ v = some (.int (nI (lvs L.n tw)))) := by
  have hE := hX.E
  refine fC.of (by decide) hX.E [some (.ref o), none, none] rfl rfl (fun K G => ?_)
  have G : fGood l g A En RX0 "leaves" cX0_leaves 3 (some .int) (fR 4) _ K := G
  have hn8 := hP.2.1
  refine r_iconst G (v := nI 0) dX0_leaves_0 (by decide) ?_
  refine r_istore_n G (lo' := [some (.ref o), some (.int (nI 0)), none]) dX0_leaves_1 rfl rfl ?_
  refine r_iconst G (v := nI 0) dX0_leaves_2 (by decide) ?_
  refine r_istore_n G (lo' := [some (.ref o), some (.int (nI 0)), some (.int (nI 0))]) dX0_leaves_3 rfl rfl ?_
  have L4 : ∀ (fu : Nat) (p m : Nat), (p ≤ L.n) → (m = lvs p tw) → L.n - p < fu → K f 0 0 4 [some (.ref o), some (.int (nI m)), some (.int (nI p))] [] := by
    intro fu
    induction fu with
    | zero => intro p m hp hm hm4; exact absurd hm4 (Nat.not_lt_zero _)
    | succ fu4 ih4 =>
      intro p m hp hm hm4
      refine r_iload_n G dX0_leaves_4 rfl ?_
      refine r_aload_n G dX0_leaves_5 rfl ?_
      refine r_getf G xCl1 (fs := [.int tr, .int gr, .ref L.a, .ref rn, .ref lr, .int fa, .ref sh]) hO 2 (by decide) q142 rfl rfl dX0_leaves_6 ?_
      refine s_callF (b := L.a) G [] (xM_J2_size hX hP.1) (lw_F q173 q177 q179 q73 q181) (hX.fw 0 _ rfl) fx_0 rfl ⟨Nat.le_of_ble_eq_true rfl, Nat.le_of_ble_eq_true rfl⟩ (fs := [.int L.mc, .ref L.ea, .int (nI L.n)]) hP.1.1 (ci := 2) rfl rfl (Nat.le_of_ble_eq_true rfl) rfl rfl ⟨Nat.zero_le _, Nat.zero_le _⟩ dX0_leaves_9 ?_
      show K f 0 0 14 [some (.ref o), some (.int (nI m)), some (.int (nI p))] [.int (nI L.n), .int (nI p)]
      refine r_icmp_ge G 52 (nI_leI (by omega) (by omega)) dX0_leaves_14 (by decide) (fun h14 => ?_) (fun h14 => ?_)
      · refine r_iload_n G dX0_leaves_52 rfl ?_
        exact r_iret G rfl ⟨Nat.zero_le _, Nat.zero_le _⟩ dX0_leaves_53 ⟨rfl, rv (by rw [hm, show p = L.n by omega])⟩
      · refine r_iload_n G dX0_leaves_17 rfl ?_
        refine r_aload_n G dX0_leaves_18 rfl ?_
        refine r_getf G xCl1 (fs := [.int tr, .int gr, .ref L.a, .ref rn, .ref lr, .int fa, .ref sh]) hO 2 (by decide) q142 rfl rfl dX0_leaves_19 ?_
        refine r_iload_n G dX0_leaves_22 rfl ?_
        refine s_callF (b := L.a) G [.int (nI p)] (xM_J2_get hX hP.1 p (by omega)) (lw_F q186 q189 q191 q73 q193) (hX.fw 1 _ rfl) fx_1 rfl ⟨Nat.le_of_ble_eq_true rfl, Nat.le_of_ble_eq_true rfl⟩ (fs := [.int L.mc, .ref L.ea, .int (nI L.n)]) hP.1.1 (ci := 2) rfl rfl (Nat.le_of_ble_eq_true rfl) rfl rfl ⟨Nat.zero_le _, Nat.zero_le _⟩ dX0_leaves_23 ?_
        show K f 0 0 28 [some (.ref o), some (.int (nI m)), some (.int (nI p))] [va_rf ((L.el p)), .int (nI m)]
        rw [show va_rf (L.el p) = .ref (pa p) from by rw [(hP.2.2.2 p (by omega)).1]; rfl]
        refine r_castP hX G (hP.2.2.2 p (by omega)).2.2.1 (hP.2.2.2 p (by omega)).2.1 q204 dX0_leaves_28 ?_
        refine r_callK G (hP.2.2.2 p (by omega)).2.2.1 (hP.2.2.2 p (by omega)).2.1 [] (fun _ => xM_X5_isLeaf hX (hP.2.2.2 p (by omega)).2.2.1 (hP.2.2.2 p (by omega)).2.1 (hP.t8 p (by omega))) (fun _ => xM_X5_isLeaf hX (hP.2.2.2 p (by omega)).2.2.1 (hP.2.2.2 p (by omega)).2.1 (hP.t8 p (by omega))) (fun _ => xM_X5_isLeaf hX (hP.2.2.2 p (by omega)).2.2.1 (hP.2.2.2 p (by omega)).2.1 (hP.t8 p (by omega))) (lw_O q305 q308 q306 q307 q306 q90 q311) (lw_O q305 q308 q306 q309 q306 q90 q311) (lw_O q305 q308 q306 q310 q306 q90 q311) q311 (by decide +kernel) rfl ⟨⟨Nat.le_of_ble_eq_true rfl, Nat.le_of_ble_eq_true rfl⟩, ⟨Nat.le_of_ble_eq_true rfl, Nat.le_of_ble_eq_true rfl⟩, ⟨Nat.le_of_ble_eq_true rfl, Nat.le_of_ble_eq_true rfl⟩⟩ rfl (Nat.le_of_ble_eq_true rfl) ⟨Nat.zero_le _, Nat.zero_le _⟩ dX0_leaves_31 (fun v31 f31 hp31 => ?_)
        obtain ⟨hf31, rfl⟩ := hp31
        rw [hf31]
        show K f 0 0 34 [some (.ref o), some (.int (nI m)), some (.int (nI p))] [.int (bI (decide (cnt (tw p) = 1))), .int (nI m)]
        refine r_ifb_eq G 43  dX0_leaves_34 (by decide) (fun h34 => ?_) (fun h34 => ?_)
        · refine r_iconst G (v := nI 0) dX0_leaves_43 (by decide) ?_
          refine r_ior G (v := (nI (m ||| 0))) dX0_leaves_44 (n_or m 0) ?_
          refine r_istore_n G (lo' := [some (.ref o), some (.int (nI (m ||| 0))), some (.int (nI p))]) dX0_leaves_45 rfl rfl ?_
          refine r_iinc G (v := (nI (p + 1))) (lo' := [some (.ref o), some (.int (nI (m ||| 0))), some (.int (nI (p + 1)))]) dX0_leaves_46 rfl (nI_add p 1) rfl rfl ?_
          refine r_goto G 4 dX0_leaves_49 (by decide) ?_
          exact ih4 _ _ (by omega) (by rw [hm]; show _ = lvs p tw ||| (if cnt (tw p) = 1 then 1 <<< p else 0); first | rw [if_pos (of_decide_eq_true h34)] | rw [if_neg (of_decide_eq_false h34)]) (by omega)
        · refine r_iconst G (v := nI 1) dX0_leaves_37 (by decide) ?_
          refine r_iload_n G dX0_leaves_38 rfl ?_
          refine r_ishl G (v := (nI (1 <<< p))) dX0_leaves_39 (n_shl (by omega)) ?_
          refine r_goto G 44 dX0_leaves_40 (by decide) ?_
          refine r_ior G (v := (nI (m ||| (1 <<< p)))) dX0_leaves_44 (n_or m (1 <<< p)) ?_
          refine r_istore_n G (lo' := [some (.ref o), some (.int (nI (m ||| (1 <<< p)))), some (.int (nI p))]) dX0_leaves_45 rfl rfl ?_
          refine r_iinc G (v := (nI (p + 1))) (lo' := [some (.ref o), some (.int (nI (m ||| (1 <<< p)))), some (.int (nI (p + 1)))]) dX0_leaves_46 rfl (nI_add p 1) rfl rfl ?_
          refine r_goto G 4 dX0_leaves_49 (by decide) ?_
          exact ih4 _ _ (by omega) (by rw [hm]; show _ = lvs p tw ||| (if cnt (tw p) = 1 then 1 <<< p else 0); first | rw [if_pos (of_decide_eq_true h34)] | rw [if_neg (of_decide_eq_false h34)]) (by omega)
  exact L4 (L.n + 1) 0 0 (Nat.zero_le _) rfl (by omega)
set_option maxHeartbeats 4000000 in
theorem xM_X0_worthOf {l : Launch} {g : fG} {A : Nat → Prop} {En : State → Prop} {zd : Nat} (hX : fX zd g A En) {f : fH} {o : Nat} {tr gr fa : Int32} {rn lr sh : Nat} {L : xLs} {pa kd ld tw : Nat → Nat} {lk tk : Nat → Int32} (hO : f o = some (.inr (1, xF tr gr L.a rn lr fa sh))) (hP : xP g f o L pa kd ld tw lk tk) (s : Nat) (hs : s < 256): fC l g A En yX0_worthOf cX0_worthOf 4 (some .int) (fR 4) [.ref o, .int (nI s)] f (fun v f' => f' = f ∧ v = some (.int (nI (ws L.n kd ld s)))) := by
  have hE := hX.E
  refine fC.of (by decide) hX.E [some (.ref o), some (.int (nI s)), none, none] rfl rfl (fun K G => ?_)
  have G : fGood l g A En RX0 "worthOf" cX0_worthOf 4 (some .int) (fR 4) _ K := G
  have hn8 := hP.2.1
  refine r_iconst G (v := nI 0) dX0_worthOf_0 (by decide) ?_
  refine r_istore_n G (lo' := [some (.ref o), some (.int (nI s)), some (.int (nI 0)), none]) dX0_worthOf_1 rfl rfl ?_
  refine r_iconst G (v := nI 0) dX0_worthOf_2 (by decide) ?_
  refine r_istore_n G (lo' := [some (.ref o), some (.int (nI s)), some (.int (nI 0)), some (.int (nI 0))]) dX0_worthOf_3 rfl rfl ?_
  have L4 : ∀ (fu : Nat) (p m : Nat), (p ≤ L.n) → (m = sumN p (fun p => if s.testBit p then wv kd ld p else 0)) → L.n - p < fu → K f 0 0 4 [some (.ref o), some (.int (nI s)), some (.int (nI m)), some (.int (nI p))] [] := by
    intro fu
    induction fu with
    | zero => intro p m hp hm hm4; exact absurd hm4 (Nat.not_lt_zero _)
    | succ fu4 ih4 =>
      intro p m hp hm hm4
      refine r_iload_n G dX0_worthOf_4 rfl ?_
      refine r_aload_n G dX0_worthOf_5 rfl ?_
      refine r_getf G xCl1 (fs := [.int tr, .int gr, .ref L.a, .ref rn, .ref lr, .int fa, .ref sh]) hO 2 (by decide) q142 rfl rfl dX0_worthOf_6 ?_
      refine s_callF (b := L.a) G [] (xM_J2_size hX hP.1) (lw_F q173 q177 q179 q73 q181) (hX.fw 0 _ rfl) fx_0 rfl ⟨Nat.le_of_ble_eq_true rfl, Nat.le_of_ble_eq_true rfl⟩ (fs := [.int L.mc, .ref L.ea, .int (nI L.n)]) hP.1.1 (ci := 2) rfl rfl (Nat.le_of_ble_eq_true rfl) rfl rfl ⟨Nat.zero_le _, Nat.zero_le _⟩ dX0_worthOf_9 ?_
      show K f 0 0 14 [some (.ref o), some (.int (nI s)), some (.int (nI m)), some (.int (nI p))] [.int (nI L.n), .int (nI p)]
      refine r_icmp_ge G 54 (nI_leI (by omega) (by omega)) dX0_worthOf_14 (by decide) (fun h14 => ?_) (fun h14 => ?_)
      · refine r_iload_n G dX0_worthOf_54 rfl ?_
        exact r_iret G rfl ⟨Nat.zero_le _, Nat.zero_le _⟩ dX0_worthOf_55 ⟨rfl, rv (by rw [hm, show p = L.n by omega]; rfl)⟩
      · refine r_iload_n G dX0_worthOf_17 rfl ?_
        refine r_iload_n G dX0_worthOf_18 rfl ?_
        refine r_iload_n G dX0_worthOf_19 rfl ?_
        refine s_callS G [.int (nI s), .int (nI p)] (sX_X0_isIn hE s p (by omega) (by omega)) (lw_S q290 q291 q70 q292) fy_yX0_isIn rfl ⟨Nat.le_of_ble_eq_true rfl, Nat.le_of_ble_eq_true rfl⟩ rfl (Nat.le_of_ble_eq_true rfl) rfl rfl ⟨Nat.zero_le _, Nat.zero_le _⟩ dX0_worthOf_20 ?_
        show K f 0 0 23 [some (.ref o), some (.int (nI s)), some (.int (nI m)), some (.int (nI p))] [.int (bI (s.testBit p)), .int (nI m)]
        refine r_ifb_eq G 45  dX0_worthOf_23 (by decide) (fun h23 => ?_) (fun h23 => ?_)
        · refine r_iconst G (v := nI 0) dX0_worthOf_45 (by decide) ?_
          refine r_iadd G (v := (nI (m + 0))) dX0_worthOf_46 (nI_add m 0) ?_
          refine r_istore_n G (lo' := [some (.ref o), some (.int (nI s)), some (.int (nI (m + 0))), some (.int (nI p))]) dX0_worthOf_47 rfl rfl ?_
          refine r_iinc G (v := (nI (p + 1))) (lo' := [some (.ref o), some (.int (nI s)), some (.int (nI (m + 0))), some (.int (nI (p + 1)))]) dX0_worthOf_48 rfl (nI_add p 1) rfl rfl ?_
          refine r_goto G 4 dX0_worthOf_51 (by decide) ?_
          exact ih4 _ _ (by omega) (by rw [hm]; show _ = sumN p (fun p => if s.testBit p then wv kd ld p else 0) + (if s.testBit p then wv kd ld p else 0); first | rfl | rw [if_pos h23] | rw [if_neg (by rw [h23]; decide)]) (by omega)
        · refine r_aload_n G dX0_worthOf_26 rfl ?_
          refine r_getf G xCl1 (fs := [.int tr, .int gr, .ref L.a, .ref rn, .ref lr, .int fa, .ref sh]) hO 2 (by decide) q142 rfl rfl dX0_worthOf_27 ?_
          refine r_iload_n G dX0_worthOf_30 rfl ?_
          refine s_callF (b := L.a) G [.int (nI p)] (xM_J2_get hX hP.1 p (by omega)) (lw_F q186 q189 q191 q73 q193) (hX.fw 1 _ rfl) fx_1 rfl ⟨Nat.le_of_ble_eq_true rfl, Nat.le_of_ble_eq_true rfl⟩ (fs := [.int L.mc, .ref L.ea, .int (nI L.n)]) hP.1.1 (ci := 2) rfl rfl (Nat.le_of_ble_eq_true rfl) rfl rfl ⟨Nat.zero_le _, Nat.zero_le _⟩ dX0_worthOf_31 ?_
          show K f 0 0 36 [some (.ref o), some (.int (nI s)), some (.int (nI m)), some (.int (nI p))] [va_rf ((L.el p)), .int (nI m)]
          rw [show va_rf (L.el p) = .ref (pa p) from by rw [(hP.2.2.2 p (by omega)).1]; rfl]
          refine r_castP hX G (hP.2.2.2 p (by omega)).2.2.1 (hP.2.2.2 p (by omega)).2.1 q204 dX0_worthOf_36 ?_
          refine r_callK G (hP.2.2.2 p (by omega)).2.2.1 (hP.2.2.2 p (by omega)).2.1 [] (fun h => xM_wt0 hX h (hP.2.2.2 p (by omega)).2.1) (fun h => xM_wt1 hX h (hP.2.2.2 p (by omega)).2.1) (fun h => xM_wt2 hX h (hP.2.2.2 p (by omega)).2.1) (lw_O q216 q219 q217 q218 q217 q90 q231) (lw_O q216 q219 q217 q220 q221 q91 q222) (lw_O q216 q219 q217 q232 q233 q92 q234) q231 (by decide +kernel) rfl ⟨⟨Nat.le_of_ble_eq_true rfl, Nat.le_of_ble_eq_true rfl⟩, ⟨Nat.le_of_ble_eq_true rfl, Nat.le_of_ble_eq_true rfl⟩, ⟨Nat.le_of_ble_eq_true rfl, Nat.le_of_ble_eq_true rfl⟩⟩ rfl (Nat.le_of_ble_eq_true rfl) ⟨Nat.zero_le _, Nat.zero_le _⟩ dX0_worthOf_39 (fun v39 f39 hp39 => ?_)
          obtain ⟨hf39, rfl⟩ := hp39
          rw [hf39]
          show K f 0 0 42 [some (.ref o), some (.int (nI s)), some (.int (nI m)), some (.int (nI p))] [.int (nI (wv kd ld p)), .int (nI m)]
          refine r_goto G 46 dX0_worthOf_42 (by decide) ?_
          refine r_iadd G (v := (nI (m + (wv kd ld p)))) dX0_worthOf_46 (nI_add m (wv kd ld p)) ?_
          refine r_istore_n G (lo' := [some (.ref o), some (.int (nI s)), some (.int (nI (m + (wv kd ld p)))), some (.int (nI p))]) dX0_worthOf_47 rfl rfl ?_
          refine r_iinc G (v := (nI (p + 1))) (lo' := [some (.ref o), some (.int (nI s)), some (.int (nI (m + (wv kd ld p)))), some (.int (nI (p + 1)))]) dX0_worthOf_48 rfl (nI_add p 1) rfl rfl ?_
          refine r_goto G 4 dX0_worthOf_51 (by decide) ?_
          exact ih4 _ _ (by omega) (by rw [hm]; show _ = sumN p (fun p => if s.testBit p then wv kd ld p else 0) + (if s.testBit p then wv kd ld p else 0); first | rfl | rw [if_pos h23] | rw [if_neg (by rw [h23]; decide)]) (by omega)
  exact L4 (L.n + 1) 0 0 (Nat.zero_le _) rfl (by omega)
end XX10
