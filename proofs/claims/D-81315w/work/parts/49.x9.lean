/-! the component: its posts -/
set_option maxRecDepth 100000
section XX9
def xP (g : fG) (f : fH) (o : Nat) (L : xLs) (pa kd ld tw : Nat → Nat) (lk tk : Nat → Int32) : Prop :=
  xL g f L ∧ L.n ≤ 8 ∧ (∀ p, p < L.n → ∀ q, q < L.n → pa p = pa q → p = q) ∧ ∀ p, p < L.n → L.el p = some (pa p) ∧ f (pa p) = some (.inr (3 + kd p, pO (kd p) o (ld p) (tw p) (lk p) (tk p))) ∧ kd p ≤ 2 ∧ ld p ≤ 9 ∧ tw p < 2 ^ L.n
theorem np_n : ∀ n, n < 9 → (nI n - nI 1).toInt = (n : Int) - 1 := by decide +kernel
theorem np_ok {n : Nat} (hn : n ≤ 8) (p : Int32) : win p.toInt64 (lN 0) (nI n - nI 1).toInt64 = isP n p := by
  have h1 := np_n n (by omega)
  have h0 : (lN 0).toInt = 0 := by decide
  unfold win isP
  congr 1
  · rw [decide_eq_decide, Int64.le_iff_toInt_le, Int32.toInt_toInt64, h0, Int32.le_iff_toInt_le, Int32.toInt_zero]
  · rw [decide_eq_decide, Int64.le_iff_toInt_le, Int32.toInt_toInt64, Int32.toInt_toInt64, h1, Int32.lt_iff_toInt_lt, nI_toInt (by omega)]
    omega
set_option maxHeartbeats 4000000 in
theorem xM_X0_noVine {l : Launch} {g : fG} {A : Nat → Prop} {En : State → Prop} {zd : Nat} (hX : fX zd g A En) {f : fH} {o : Nat} {tr gr fa : Int32} {rn lr sh : Nat} {L : xLs} {pa kd ld tw : Nat → Nat} {lk tk : Nat → Int32} (hO : f o = some (.inr (1, xF tr gr L.a rn lr fa sh))) (hP : xP g f o L pa kd ld tw lk tk): fC l g A En yX0_noVine cX0_noVine 1 (some .boolean) (fR 1) [.ref o] f (fun v f' => f' = f ∧ v = some (.int (bI (decide (L.n = 0))))) := by
  have hE := hX.E
  refine fC.of (by decide) hX.E [some (.ref o)] rfl rfl (fun K G => ?_)
  have G : fGood l g A En RX0 "noVine" cX0_noVine 1 (some .boolean) (fR 1) _ K := G
  refine r_aload_n G dX0_noVine_0 rfl ?_
  refine r_getf G xCl1 (fs := [.int tr, .int gr, .ref L.a, .ref rn, .ref lr, .int fa, .ref sh]) hO 2 (by decide) q142 rfl rfl dX0_noVine_1 ?_
  refine s_callF (b := L.a) G [] (xM_J2_isEmpty hX hP.1) (lw_F q278 q281 q283 q73 q285) (hX.fw 2 _ rfl) fx_2 rfl ⟨Nat.le_of_ble_eq_true rfl, Nat.le_of_ble_eq_true rfl⟩ (fs := [.int L.mc, .ref L.ea, .int (nI L.n)]) hP.1.1 (ci := 2) rfl rfl (Nat.le_of_ble_eq_true rfl) rfl rfl ⟨Nat.zero_le _, Nat.zero_le _⟩ dX0_noVine_4 ?_
  show K f 0 0 9 [some (.ref o)] [.int (bI (decide (L.n = 0)))]
  exact r_zret G rfl bI_nar ⟨Nat.zero_le _, Nat.zero_le _⟩ dX0_noVine_9 ⟨rfl, rfl⟩
set_option maxHeartbeats 4000000 in
theorem xM_X0_noPost {l : Launch} {g : fG} {A : Nat → Prop} {En : State → Prop} {zd : Nat} (hX : fX zd g A En) {f : fH} {o : Nat} {tr gr fa : Int32} {rn lr sh : Nat} {L : xLs} {pa kd ld tw : Nat → Nat} {lk tk : Nat → Int32} (hO : f o = some (.inr (1, xF tr gr L.a rn lr fa sh))) (hP : xP g f o L pa kd ld tw lk tk) (p : Int32): fC l g A En yX0_noPost cX0_noPost 2 (some .boolean) (fR 2) [.ref o, .int p] f (fun v f' => f' = f ∧ v = some (.int (bI (!isP L.n p)))) := by
  have hE := hX.E
  refine fC.of (by decide) hX.E [some (.ref o), some (.int p)] rfl rfl (fun K G => ?_)
  have G : fGood l g A En RX0 "noPost" cX0_noPost 2 (some .boolean) (fR 2) _ K := G
  refine r_iload_n G dX0_noPost_0 rfl ?_
  refine r_i2l G dX0_noPost_1 rfl ?_
  refine r_lconst G (v := lN 0) dX0_noPost_2 (by decide) ?_
  refine r_aload_n G dX0_noPost_3 rfl ?_
  refine r_getf G xCl1 (fs := [.int tr, .int gr, .ref L.a, .ref rn, .ref lr, .int fa, .ref sh]) hO 2 (by decide) q142 rfl rfl dX0_noPost_4 ?_
  refine s_callF (b := L.a) G [] (xM_J2_size hX hP.1) (lw_F q173 q177 q179 q73 q181) (hX.fw 0 _ rfl) fx_0 rfl ⟨Nat.le_of_ble_eq_true rfl, Nat.le_of_ble_eq_true rfl⟩ (fs := [.int L.mc, .ref L.ea, .int (nI L.n)]) hP.1.1 (ci := 2) rfl rfl (Nat.le_of_ble_eq_true rfl) rfl rfl ⟨Nat.zero_le _, Nat.zero_le _⟩ dX0_noPost_7 ?_
  show K f 0 0 12 [some (.ref o), some (.int p)] [.int (nI L.n), .long (lN 0), .long p.toInt64]
  refine r_iconst G (v := nI 1) dX0_noPost_12 (by decide) ?_
  refine r_isub G (v := (nI L.n - nI 1)) dX0_noPost_13 rfl ?_
  refine r_i2l G dX0_noPost_14 rfl ?_
  refine s_callS G [.long p.toInt64, .long (lN 0), .long ((nI L.n - nI 1).toInt64)] (sX_X0_in hE p.toInt64 (lN 0) ((nI L.n - nI 1).toInt64)) (lw_S q182 q183 q70 q184) fy_yX0_in rfl ⟨Nat.le_of_ble_eq_true rfl, Nat.le_of_ble_eq_true rfl⟩ rfl (Nat.le_of_ble_eq_true rfl) rfl rfl ⟨Nat.zero_le _, Nat.zero_le _⟩ dX0_noPost_15 ?_
  show K f 0 0 18 [some (.ref o), some (.int p)] [.int (bI (win p.toInt64 (lN 0) ((nI L.n - nI 1).toInt64)))]
  refine r_ifb_ne G 25  dX0_noPost_18 (by decide) (fun h18 => ?_) (fun h18 => ?_)
  · rw [np_ok hP.2.1] at h18
    refine r_iconst G (v := nI 0) dX0_noPost_25 (by decide) ?_
    exact r_zret G rfl (by decide) ⟨Nat.zero_le _, Nat.zero_le _⟩ dX0_noPost_26 ⟨rfl, rb (by rw [h18]; rfl)⟩
  · rw [np_ok hP.2.1] at h18
    refine r_iconst G (v := nI 1) dX0_noPost_21 (by decide) ?_
    refine r_goto G 26 dX0_noPost_22 (by decide) ?_
    exact r_zret G rfl (by decide) ⟨Nat.zero_le _, Nat.zero_le _⟩ dX0_noPost_26 ⟨rfl, rb (by rw [h18]; rfl)⟩
set_option maxHeartbeats 4000000 in
theorem xM_X0_noTwo {l : Launch} {g : fG} {A : Nat → Prop} {En : State → Prop} {zd : Nat} (hX : fX zd g A En) {f : fH} {o : Nat} {tr gr fa : Int32} {rn lr sh : Nat} {L : xLs} {pa kd ld tw : Nat → Nat} {lk tk : Nat → Int32} (hO : f o = some (.inr (1, xF tr gr L.a rn lr fa sh))) (hP : xP g f o L pa kd ld tw lk tk) (p q : Int32): fC l g A En yX0_noTwo cX0_noTwo 3 (some .boolean) (fR 3) [.ref o, .int p, .int q] f (fun v f' => f' = f ∧ v = some (.int (bI (!(isP L.n p && isP L.n q && !decide (p = q)))))) := by
  have hE := hX.E
  refine fC.of (by decide) hX.E [some (.ref o), some (.int p), some (.int q)] rfl rfl (fun K G => ?_)
  have G : fGood l g A En RX0 "noTwo" cX0_noTwo 3 (some .boolean) (fR 3) _ K := G
  refine r_aload_n G dX0_noTwo_0 rfl ?_
  refine r_iload_n G dX0_noTwo_1 rfl ?_
  refine s_callV (b := o) G [.int p] (xM_X0_noPost hX hO hP p) (lw_V q168 q170 qs0 q70 q171) fy_yX0_noPost rfl ⟨Nat.le_of_ble_eq_true rfl, Nat.le_of_ble_eq_true rfl⟩ (fs := [.int tr, .int gr, .ref L.a, .ref rn, .ref lr, .int fa, .ref sh]) hO (ci := 1) rfl rfl rfl (Nat.le_of_ble_eq_true rfl) rfl rfl ⟨Nat.zero_le _, Nat.zero_le _⟩ dX0_noTwo_2 ?_
  show K f 0 0 5 [some (.ref o), some (.int p), some (.int q)] [.int (bI (!isP L.n p))]
  refine r_ifb_ne G 21  dX0_noTwo_5 (by decide) (fun h5 => ?_) (fun h5 => ?_)
  · refine r_iconst G (v := nI 1) dX0_noTwo_21 (by decide) ?_
    refine r_goto G 26 dX0_noTwo_22 (by decide) ?_
    exact r_zret G rfl (by decide) ⟨Nat.zero_le _, Nat.zero_le _⟩ dX0_noTwo_26 ⟨rfl, rb (by simp_all)⟩
  · refine r_aload_n G dX0_noTwo_8 rfl ?_
    refine r_iload_n G dX0_noTwo_9 rfl ?_
    refine s_callV (b := o) G [.int q] (xM_X0_noPost hX hO hP q) (lw_V q168 q170 qs0 q70 q171) fy_yX0_noPost rfl ⟨Nat.le_of_ble_eq_true rfl, Nat.le_of_ble_eq_true rfl⟩ (fs := [.int tr, .int gr, .ref L.a, .ref rn, .ref lr, .int fa, .ref sh]) hO (ci := 1) rfl rfl rfl (Nat.le_of_ble_eq_true rfl) rfl rfl ⟨Nat.zero_le _, Nat.zero_le _⟩ dX0_noTwo_10 ?_
    show K f 0 0 13 [some (.ref o), some (.int p), some (.int q)] [.int (bI (!isP L.n q))]
    refine r_ifb_ne G 21  dX0_noTwo_13 (by decide) (fun h13 => ?_) (fun h13 => ?_)
    · refine r_iconst G (v := nI 1) dX0_noTwo_21 (by decide) ?_
      refine r_goto G 26 dX0_noTwo_22 (by decide) ?_
      exact r_zret G rfl (by decide) ⟨Nat.zero_le _, Nat.zero_le _⟩ dX0_noTwo_26 ⟨rfl, rb (by simp_all)⟩
    · refine r_iload_n G dX0_noTwo_16 rfl ?_
      refine r_iload_n G dX0_noTwo_17 rfl ?_
      refine r_icmp_ne G 25 Iff.rfl dX0_noTwo_18 (by decide) (fun h18 => ?_) (fun h18 => ?_)
      · refine r_iconst G (v := nI 0) dX0_noTwo_25 (by decide) ?_
        exact r_zret G rfl (by decide) ⟨Nat.zero_le _, Nat.zero_le _⟩ dX0_noTwo_26 ⟨rfl, rb (by simp_all)⟩
      · refine r_iconst G (v := nI 1) dX0_noTwo_21 (by decide) ?_
        refine r_goto G 26 dX0_noTwo_22 (by decide) ?_
        exact r_zret G rfl (by decide) ⟨Nat.zero_le _, Nat.zero_le _⟩ dX0_noTwo_26 ⟨rfl, rb (by simp_all)⟩
end XX9
