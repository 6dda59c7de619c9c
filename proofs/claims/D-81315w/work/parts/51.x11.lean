/-! the component: worth of all -/
set_option maxRecDepth 100000
section XX11
set_option maxHeartbeats 4000000 in
theorem xM_X0_worthOf_all {l : Launch} {g : fG} {A : Nat → Prop} {En : State → Prop} {zd : Nat} (hX : fX zd g A En) {f : fH} {o : Nat} {tr gr fa : Int32} {rn lr sh : Nat} {L : xLs} {pa kd ld tw : Nat → Nat} {lk tk : Nat → Int32} (hO : f o = some (.inr (1, xF tr gr L.a rn lr fa sh))) (hP : xP g f o L pa kd ld tw lk tk): fC l g A En yX0_worthOf cX0_worthOf 4 (some .int) (fR 4) [.ref o, .int (-1)] f (fun v f' => f' = f ∧ v = some (.int (nI (sumN L.n (wv kd ld))))) := by
  have hE := hX.E
  refine fC.of (by decide) hX.E [some (.ref o), some (.int (-1)), none, none] rfl rfl (fun K G => ?_)
  have G : fGood l g A En RX0 "worthOf" cX0_worthOf 4 (some .int) (fR 4) _ K := G
  have hn8 := hP.2.1
  refine r_iconst G (v := nI 0) dX0_worthOf_0 (by decide) ?_
  refine r_istore_n G (lo' := [some (.ref o), some (.int (-1)), some (.int (nI 0)), none]) dX0_worthOf_1 rfl rfl ?_
  refine r_iconst G (v := nI 0) dX0_worthOf_2 (by decide) ?_
  refine r_istore_n G (lo' := [some (.ref o), some (.int (-1)), some (.int (nI 0)), some (.int (nI 0))]) dX0_worthOf_3 rfl rfl ?_
  have L4 : ∀ (fu : Nat) (p m : Nat), (p ≤ L.n) → (m = sumN p (wv kd ld)) → L.n - p < fu → K f 0 0 4 [some (.ref o), some (.int (-1)), some (.int (nI m)), some (.int (nI p))] [] := by
    intro fu
    induction fu with
    | zero => intro p m hp hm hm4; exact absurd hm4 (Nat.not_lt_zero _)
    | succ fu4 ih4 =>
      intro p m hp hm hm4
      refine r_iload_n G dX0_worthOf_4 rfl ?_
      refine r_aload_n G dX0_worthOf_5 rfl ?_
      refine r_getf G xCl1 (fs := [.int tr, .int gr, .ref L.a, .ref rn, .ref lr, .int fa, .ref sh]) hO 2 (by decide) q142 rfl rfl dX0_worthOf_6 ?_
      refine s_callF (b := L.a) G [] (xM_J2_size hX hP.1) (lw_F q173 q177 q179 q73 q181) (hX.fw 0 _ rfl) fx_0 rfl ⟨Nat.le_of_ble_eq_true rfl, Nat.le_of_ble_eq_true rfl⟩ (fs := [.int L.mc, .ref L.ea, .int (nI L.n)]) hP.1.1 (ci := 2) rfl rfl (Nat.le_of_ble_eq_true rfl) rfl rfl ⟨Nat.zero_le _, Nat.zero_le _⟩ dX0_worthOf_9 ?_
      show K f 0 0 14 [some (.ref o), some (.int (-1)), some (.int (nI m)), some (.int (nI p))] [.int (nI L.n), .int (nI p)]
      refine r_icmp_ge G 54 (nI_leI (by omega) (by omega)) dX0_worthOf_14 (by decide) (fun h14 => ?_) (fun h14 => ?_)
      · refine r_iload_n G dX0_worthOf_54 rfl ?_
        exact r_iret G rfl ⟨Nat.zero_le _, Nat.zero_le _⟩ dX0_worthOf_55 ⟨rfl, rv (by rw [hm, show p = L.n by omega])⟩
      · refine r_iload_n G dX0_worthOf_17 rfl ?_
        refine r_iload_n G dX0_worthOf_18 rfl ?_
        refine r_iload_n G dX0_worthOf_19 rfl ?_
        refine s_callS G [.int (-1), .int (nI p)] (sX_X0_isIn_all hE p (by omega)) (lw_S q290 q291 q70 q292) fy_yX0_isIn rfl ⟨Nat.le_of_ble_eq_true rfl, Nat.le_of_ble_eq_true rfl⟩ rfl (Nat.le_of_ble_eq_true rfl) rfl rfl ⟨Nat.zero_le _, Nat.zero_le _⟩ dX0_worthOf_20 ?_
        show K f 0 0 23 [some (.ref o), some (.int (-1)), some (.int (nI m)), some (.int (nI p))] [.int (bI true), .int (nI m)]
        refine r_ifb_eq G 45  dX0_worthOf_23 (by decide) (fun h23 => False.elim (Bool.noConfusion (h23.symm.trans rfl))) (fun h23 => ?_)
        refine r_aload_n G dX0_worthOf_26 rfl ?_
        refine r_getf G xCl1 (fs := [.int tr, .int gr, .ref L.a, .ref rn, .ref lr, .int fa, .ref sh]) hO 2 (by decide) q142 rfl rfl dX0_worthOf_27 ?_
        refine r_iload_n G dX0_worthOf_30 rfl ?_
        refine s_callF (b := L.a) G [.int (nI p)] (xM_J2_get hX hP.1 p (by omega)) (lw_F q186 q189 q191 q73 q193) (hX.fw 1 _ rfl) fx_1 rfl ⟨Nat.le_of_ble_eq_true rfl, Nat.le_of_ble_eq_true rfl⟩ (fs := [.int L.mc, .ref L.ea, .int (nI L.n)]) hP.1.1 (ci := 2) rfl rfl (Nat.le_of_ble_eq_true rfl) rfl rfl ⟨Nat.zero_le _, Nat.zero_le _⟩ dX0_worthOf_31 ?_
        show K f 0 0 36 [some (.ref o), some (.int (-1)), some (.int (nI m)), some (.int (nI p))] [va_rf ((L.el p)), .int (nI m)]
        rw [show va_rf (L.el p) = .ref (pa p) from by rw [(hP.2.2.2 p (by omega)).1]; rfl]
        refine r_castP hX G (hP.2.2.2 p (by omega)).2.2.1 (hP.2.2.2 p (by omega)).2.1 q204 dX0_worthOf_36 ?_
        refine r_callK G (hP.2.2.2 p (by omega)).2.2.1 (hP.2.2.2 p (by omega)).2.1 [] (fun h => xM_wt0 hX h (hP.2.2.2 p (by omega)).2.1) (fun h => xM_wt1 hX h (hP.2.2.2 p (by omega)).2.1) (fun h => xM_wt2 hX h (hP.2.2.2 p (by omega)).2.1) (lw_O q216 q219 q217 q218 q217 q90 q231) (lw_O q216 q219 q217 q220 q221 q91 q222) (lw_O q216 q219 q217 q232 q233 q92 q234) q231 (by decide +kernel) rfl ⟨⟨Nat.le_of_ble_eq_true rfl, Nat.le_of_ble_eq_true rfl⟩, ⟨Nat.le_of_ble_eq_true rfl, Nat.le_of_ble_eq_true rfl⟩, ⟨Nat.le_of_ble_eq_true rfl, Nat.le_of_ble_eq_true rfl⟩⟩ rfl (Nat.le_of_ble_eq_true rfl) ⟨Nat.zero_le _, Nat.zero_le _⟩ dX0_worthOf_39 (fun v39 f39 hp39 => ?_)
        obtain ⟨hf39, rfl⟩ := hp39
        rw [hf39]
        show K f 0 0 42 [some (.ref o), some (.int (-1)), some (.int (nI m)), some (.int (nI p))] [.int (nI (wv kd ld p)), .int (nI m)]
        refine r_goto G 46 dX0_worthOf_42 (by decide) ?_
        refine r_iadd G (v := (nI (m + (wv kd ld p)))) dX0_worthOf_46 (nI_add m (wv kd ld p)) ?_
        refine r_istore_n G (lo' := [some (.ref o), some (.int (-1)), some (.int (nI (m + (wv kd ld p)))), some (.int (nI p))]) dX0_worthOf_47 rfl rfl ?_
        refine r_iinc G (v := (nI (p + 1))) (lo' := [some (.ref o), some (.int (-1)), some (.int (nI (m + (wv kd ld p)))), some (.int (nI (p + 1)))]) dX0_worthOf_48 rfl (nI_add p 1) rfl rfl ?_
        refine r_goto G 4 dX0_worthOf_51 (by decide) ?_
        exact ih4 _ _ (by omega) (by rw [hm]; rfl) (by omega)
  exact L4 (L.n + 1) 0 0 (Nat.zero_le _) rfl (by omega)
end XX11
