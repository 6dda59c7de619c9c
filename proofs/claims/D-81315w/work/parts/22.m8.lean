/-! the reference: grafts, the pairs of a day -/
set_option maxRecDepth 100000
section MM8
set_option maxHeartbeats 4000000 in
theorem mM_graft {l : Launch} {g : fG} {A : Nat → Prop} {En : State → Prop} (hE : fEnv g A En) {o : Nat} {ad : Nat → Nat} (hD : mD A o ad) {S : mS} {n : Nat} {tw kd ld : Nat → Nat} {d : Nat → Nat → Nat} (hV : mV S n tw kd ld) (hT : n ≠ 0 → 2 ≤ n ∧ TM n tw d) (a b : Int32): mC l g A En o ad yX1_graft cX1_graft 4 (some .int) (fR 2) [.int a, .int b] S (fun v S' => v = some (.int (aGraft n tw a b)) ∧ (if graftOk n tw a b then (mEqX [6] [7] S S' ∧ mV S' n (grf tw (ix a) (ix b)) kd ld ∧ S'.1 6 = S.1 6 + nI 1) else mEqX [] [] S S')) := by
  refine fC.of (by decide) hE [some (.ref o), some (.int a), some (.int b), none] rfl rfl (fun K G => ?_)
  have G : fGood l g A En RX1 "graft" cX1_graft 4 (some .int) (fR 2) _ K := G
  have hn8 := hV.2.1
  refine r_aload_n G dX1_graft_0 rfl ?_
  refine r_iload_n G dX1_graft_1 rfl ?_
  refine r_iload_n G dX1_graft_2 rfl ?_
  refine m_callV G [.int a, .int b] (mM_areTwo hE hD n hV.1 a b) (lw_V q1358 q1360 qs51 q74 q1361) fy_yX1_areTwo rfl rfl ⟨Nat.le_of_ble_eq_true rfl, Nat.le_of_ble_eq_true rfl⟩ rfl (Nat.le_of_ble_eq_true rfl) rfl rfl ⟨Nat.zero_le _, Nat.zero_le _⟩ dX1_graft_3 (fun v3 S3 hp3 => ?_)
  obtain ⟨rfl, rfl⟩ := hp3
  show K (mH g o ad S) 0 0 6 [some (.ref o), some (.int a), some (.int b), none] [.int (bI (isP n a && isP n b && !decide (a = b)))]
  refine r_ifb_ne G 11  dX1_graft_6 (by decide) (fun h6 => ?_) (fun h6 => ?_)
  · rw [Bool.and_eq_true, Bool.and_eq_true] at h6
    obtain ⟨⟨h6a, h6b⟩, h6c⟩ := h6
    obtain ⟨ja, hja, rfl⟩ := isP_t (by omega) h6a
    obtain ⟨jb, hjb, rfl⟩ := isP_t (by omega) h6b
    have eja : ix (nI ja) = ja := ix_nI (by omega)
    have ejb : ix (nI jb) = jb := ix_nI (by omega)
    have hab : ja ≠ jb := fun z => by rw [z] at h6c; simp at h6c
    obtain ⟨h2n, T⟩ := hT (by omega)
    refine r_aload_n G dX1_graft_11 rfl ?_
    refine m_geta G 7 (by decide) q1197 rfl dX1_graft_12 ?_
    refine r_iload_n G dX1_graft_15 rfl ?_
    refine m_ald G hD 7 (by decide) (by simp only [mN]; omega) (v := (nI (tw ja))) (hV.tw hja) dX1_graft_16 ?_
    refine s_callS G [.int (nI (tw ja))] (sM_size hE (tw ja) (hV.t8 hja)) (lw_S q1331 q1332 q74 q1333) fy_yX1_size rfl ⟨Nat.le_of_ble_eq_true rfl, Nat.le_of_ble_eq_true rfl⟩ rfl (Nat.le_of_ble_eq_true rfl) rfl rfl ⟨Nat.zero_le _, Nat.zero_le _⟩ dX1_graft_17 ?_
    refine r_iconst G (v := nI 1) dX1_graft_20 (by decide) ?_
    refine r_icmp_eq G 27 (nI_eq (by have := cnt_le _ (hV.t8 (p := ja) hja); omega) (by decide)) dX1_graft_21 (by decide) (fun h21 => ?_) (fun h21 => ?_)
    · obtain ⟨hr, hrp, hu0, -⟩ := T.cut hja (cnt_one _ (hV.t8 hja) h21)
      have h0 : 0 < tw ja := Nat.pos_of_ne_zero fun z => by rw [z] at h21; exact absurd h21 (by decide)
      refine r_aload_n G dX1_graft_27 rfl ?_
      refine m_geta G 7 (by decide) q1197 rfl dX1_graft_28 ?_
      refine r_iload_n G dX1_graft_31 rfl ?_
      refine m_ald G hD 7 (by decide) (by simp only [mN]; omega) (v := (nI (tw ja))) (hV.tw hja) dX1_graft_32 ?_
      refine s_callS G [.int (nI (tw ja))] (sM_leastOf hE (tw ja) (hV.t8 hja) h0) (lw_S q1309 q1310 q74 q1311) fy_yX1_leastOf rfl ⟨Nat.le_of_ble_eq_true rfl, Nat.le_of_ble_eq_true rfl⟩ rfl (Nat.le_of_ble_eq_true rfl) rfl rfl ⟨Nat.zero_le _, Nat.zero_le _⟩ dX1_graft_33 ?_
      refine r_istore_n G (lo' := [some (.ref o), some (.int (nI ja)), some (.int (nI jb)), some (.int (nI (lst (tw ja))))]) dX1_graft_36 rfl rfl ?_
      refine r_aload_n G dX1_graft_37 rfl ?_
      refine r_iload_n G dX1_graft_38 rfl ?_
      refine r_iload_n G dX1_graft_39 rfl ?_
      refine m_callV G [.int (nI ja), .int (nI (lst (tw ja)))] (mM_unjoin hE hD (S := S) ja (lst (tw ja)) (tw ja) (tw (lst (tw ja))) (by omega) (by omega) (Ne.symm hrp) (hV.tw hja) (hV.tw hr) (hV.t8 hja) (hV.t8 hr)) (lw_V q1362 q1364 qs52 q74 q1365) fy_yX1_unjoin rfl rfl ⟨Nat.le_of_ble_eq_true rfl, Nat.le_of_ble_eq_true rfl⟩ rfl (Nat.le_of_ble_eq_true rfl) rfl rfl ⟨Nat.zero_le _, Nat.zero_le _⟩ dX1_graft_40 (fun v40 S40 hp40 => ?_)
      obtain ⟨rfl, rfl⟩ := hp40
      rw [show S = mArr S 7 (S.2 7) from (mArr_0 S 7).symm, mPut_arr, mPut_arr]
      try rw [mArr_arr]
      show K (mH g o ad (mArr S 7 (upd (upd (S.2 7) ja (nI (ndf (tw ja) (1 <<< lst (tw ja))))) (lst (tw ja)) (nI (ndf (tw (lst (tw ja))) (1 <<< ja)))))) 0 0 43 [some (.ref o), some (.int (nI ja)), some (.int (nI jb)), some (.int (nI (lst (tw ja))))] []
      refine r_aload_n G dX1_graft_43 rfl ?_
      refine r_iload_n G dX1_graft_44 rfl ?_
      refine r_iload_n G dX1_graft_45 rfl ?_
      refine m_callV G [.int (nI ja), .int (nI jb)] (mM_join hE hD (S := mArr S 7 (upd (upd (S.2 7) ja (nI (ndf (tw ja) (1 <<< lst (tw ja))))) (lst (tw ja)) (nI (ndf (tw (lst (tw ja))) (1 <<< ja))))) ja jb (uj tw ja (lst (tw ja)) ja) (uj tw ja (lst (tw ja)) jb) (by omega) (by omega) hab (by rw [mArr_s]; exact uj_fn (N := n) (fun y hy => hV.tw hy) hja) (by rw [mArr_s]; exact uj_fn (N := n) (fun y hy => hV.tw hy) hjb)) (lw_V q1315 q1317 qs45 q74 q1318) fy_yX1_join rfl rfl ⟨Nat.le_of_ble_eq_true rfl, Nat.le_of_ble_eq_true rfl⟩ rfl (Nat.le_of_ble_eq_true rfl) rfl rfl ⟨Nat.zero_le _, Nat.zero_le _⟩ dX1_graft_46 (fun v46 S46 hp46 => ?_)
      obtain ⟨rfl, rfl⟩ := hp46
      rw [mPut_arr, mPut_arr]
      show K (mH g o ad (mArr S 7 (gfa (S.2 7) tw ja jb))) 0 0 49 [some (.ref o), some (.int (nI ja)), some (.int (nI jb)), some (.int (nI (lst (tw ja))))] []
      refine r_aload_n G dX1_graft_49 rfl ?_
      refine r_dup G dX1_graft_50 rfl ?_
      refine m_gets G 6 (by decide) q1196 rfl (v := (S.1 6)) rfl dX1_graft_51 ?_
      refine r_iconst G (v := nI 1) dX1_graft_54 (by decide) ?_
      refine r_iadd G (v := ((S.1 6) + (nI 1))) dX1_graft_55 rfl ?_
      refine m_puts G hD 6 (by decide) q1196 rfl rfl rfl dX1_graft_56 ?_
      refine r_iload_n G dX1_graft_59 rfl ?_
      exact r_iret G rfl ⟨Nat.zero_le _, Nat.zero_le _⟩ dX1_graft_60 ⟨_, rfl, by rw [aGraft, h6a, h6b, h6c, eja, if_pos h21]; rfl, by rw [graftOk, h6a, h6b, h6c, eja, ejb, decide_eq_true h21]; exact ⟨(mEqX.arr S _ (by decide)).tr (mEqX.set _ _ (by decide)), mV_gf hV T hja hjb hab h21 rfl (mArr_s S 7 _) rfl rfl, mSet_s _ _ _⟩⟩
    · refine r_bipush G (v := -3) dX1_graft_24 (by decide) ?_
      exact r_iret G rfl ⟨Nat.zero_le _, Nat.zero_le _⟩ dX1_graft_26 ⟨_, rfl, by rw [aGraft, h6a, h6b, h6c, eja, if_neg h21]; rfl, by rw [graftOk, h6a, h6b, h6c, eja, decide_eq_false h21]; exact mEqX.rf _ _ _⟩
  · refine r_iconst G (v := -1) dX1_graft_9 (by decide) ?_
    exact r_iret G rfl ⟨Nat.zero_le _, Nat.zero_le _⟩ dX1_graft_10 ⟨_, rfl, by rw [aGraft, h6]; rfl, by rw [graftOk, h6]; exact mEqX.rf _ _ _⟩
theorem mPut_9 (S : mS) (i : Nat) (x : Int32) {k : Nat} : (mPut S k i x).2 k = upd (S.2 k) i x := by
  show va_up S.2 k (upd (S.2 k) i x) k = _
  unfold va_up
  rw [if_pos rfl]
set_option maxHeartbeats 4000000 in
theorem mM_does {l : Launch} {g : fG} {A : Nat → Prop} {En : State → Prop} (hE : fEnv g A En) {o : Nat} {ad : Nat → Nat} (hD : mD A o ad) {S : mS} {n : Nat} {tw kd ld : Nat → Nat} {d : Nat → Nat → Nat} (hV : mV S n tw kd ld) (hT : n ≠ 0 → 2 ≤ n ∧ TM n tw d) (hn0 : n ≠ 0) (a b : Int32) (hpre : nI 10 ≤ b → ∃ v, v ≤ 9 ∧ a = nI v): mC l g A En o ad yX1_does cX1_does 3 (some .boolean) (fR 2) [.int a, .int b] S (fun v S' => v = some (.int (bI (doOk n tw a b))) ∧ mEqX [] [7, 9] S S' ∧ mV S' n (doT n tw a b) kd (doL n ld a b)) := by
  refine fC.of (by decide) hE [some (.ref o), some (.int a), some (.int b)] rfl rfl (fun K G => ?_)
  have G : fGood l g A En RX1 "does" cX1_does 3 (some .boolean) (fR 2) _ K := G
  have hn8 := hV.2.1
  refine r_iload_n G dX1_does_0 rfl ?_
  refine r_bipush G (v := nI 10) dX1_does_1 (by decide) ?_
  refine r_icmp_lt G 31 Iff.rfl dX1_does_3 (by decide) (fun h3 => ?_) (fun h3 => ?_)
  · refine r_aload_n G dX1_does_31 rfl ?_
    refine r_iload_n G dX1_does_32 rfl ?_
    refine r_iload_n G dX1_does_33 rfl ?_
    refine m_callV G [.int a, .int b] (mM_areTwo hE hD n hV.1 a b) (lw_V q1358 q1360 qs51 q74 q1361) fy_yX1_areTwo rfl rfl ⟨Nat.le_of_ble_eq_true rfl, Nat.le_of_ble_eq_true rfl⟩ rfl (Nat.le_of_ble_eq_true rfl) rfl rfl ⟨Nat.zero_le _, Nat.zero_le _⟩ dX1_does_34 (fun v34 S34 hp34 => ?_)
    obtain ⟨rfl, rfl⟩ := hp34
    show K (mH g o ad S) 0 0 37 [some (.ref o), some (.int a), some (.int b)] [.int (bI (isP n a && isP n b && !decide (a = b)))]
    refine r_ifb_eq G 53  dX1_does_37 (by decide) (fun h37 => ?_) (fun h37 => ?_)
    · refine r_iconst G (v := nI 0) dX1_does_53 (by decide) ?_
      exact r_zret G rfl (by decide) ⟨Nat.zero_le _, Nat.zero_le _⟩ dX1_does_54 ⟨_, rfl, rb (by rw [doOk, if_neg (Int32.not_le.mpr h3), graftOk]; first | (rw [h37]; rfl) | (rw [h37a, h37b, h37c, eja, decide_eq_false h50]; rfl)), mEqX.rf _ _ _, by rw [doT, if_neg (Int32.not_le.mpr h3), doL, if_neg (Int32.not_le.mpr h3), graftOk]; first | (rw [h37]; exact hV) | (rw [h37a, h37b, h37c, eja, decide_eq_false h50]; exact hV)⟩
    · rw [Bool.and_eq_true, Bool.and_eq_true] at h37
      obtain ⟨⟨h37a, h37b⟩, h37c⟩ := h37
      obtain ⟨ja, hja, rfl⟩ := isP_t (by omega) h37a
      obtain ⟨jb, hjb, rfl⟩ := isP_t (by omega) h37b
      have eja : ix (nI ja) = ja := ix_nI (by omega)
      have ejb : ix (nI jb) = jb := ix_nI (by omega)
      have hab : ja ≠ jb := fun z => by rw [z] at h37c; simp at h37c
      obtain ⟨h2n, T⟩ := hT (by omega)
      refine r_aload_n G dX1_does_40 rfl ?_
      refine m_geta G 7 (by decide) q1197 rfl dX1_does_41 ?_
      refine r_iload_n G dX1_does_44 rfl ?_
      refine m_ald G hD 7 (by decide) (by simp only [mN]; omega) (v := (nI (tw ja))) (hV.tw hja) dX1_does_45 ?_
      refine s_callS G [.int (nI (tw ja))] (sM_size hE (tw ja) (hV.t8 hja)) (lw_S q1331 q1332 q74 q1333) fy_yX1_size rfl ⟨Nat.le_of_ble_eq_true rfl, Nat.le_of_ble_eq_true rfl⟩ rfl (Nat.le_of_ble_eq_true rfl) rfl rfl ⟨Nat.zero_le _, Nat.zero_le _⟩ dX1_does_46 ?_
      refine r_iconst G (v := nI 1) dX1_does_49 (by decide) ?_
      refine r_icmp_eq G 55 (nI_eq (by have := cnt_le _ (hV.t8 (p := ja) hja); omega) (by decide)) dX1_does_50 (by decide) (fun h50 => ?_) (fun h50 => ?_)
      · obtain ⟨hr, hrp, hu0, -⟩ := T.cut hja (cnt_one _ (hV.t8 hja) h50)
        have h0 : 0 < tw ja := Nat.pos_of_ne_zero fun z => by rw [z] at h50; exact absurd h50 (by decide)
        refine r_aload_n G dX1_does_55 rfl ?_
        refine r_iload_n G dX1_does_56 rfl ?_
        refine r_aload_n G dX1_does_57 rfl ?_
        refine m_geta G 7 (by decide) q1197 rfl dX1_does_58 ?_
        refine r_iload_n G dX1_does_61 rfl ?_
        refine m_ald G hD 7 (by decide) (by simp only [mN]; omega) (v := (nI (tw ja))) (hV.tw hja) dX1_does_62 ?_
        refine s_callS G [.int (nI (tw ja))] (sM_leastOf hE (tw ja) (hV.t8 hja) h0) (lw_S q1309 q1310 q74 q1311) fy_yX1_leastOf rfl ⟨Nat.le_of_ble_eq_true rfl, Nat.le_of_ble_eq_true rfl⟩ rfl (Nat.le_of_ble_eq_true rfl) rfl rfl ⟨Nat.zero_le _, Nat.zero_le _⟩ dX1_does_63 ?_
        refine m_callV G [.int (nI ja), .int (nI (lst (tw ja)))] (mM_unjoin hE hD (S := S) ja (lst (tw ja)) (tw ja) (tw (lst (tw ja))) (by omega) (by omega) (Ne.symm hrp) (hV.tw hja) (hV.tw hr) (hV.t8 hja) (hV.t8 hr)) (lw_V q1362 q1364 qs52 q74 q1365) fy_yX1_unjoin rfl rfl ⟨Nat.le_of_ble_eq_true rfl, Nat.le_of_ble_eq_true rfl⟩ rfl (Nat.le_of_ble_eq_true rfl) rfl rfl ⟨Nat.zero_le _, Nat.zero_le _⟩ dX1_does_66 (fun v66 S66 hp66 => ?_)
        obtain ⟨rfl, rfl⟩ := hp66
        rw [show S = mArr S 7 (S.2 7) from (mArr_0 S 7).symm, mPut_arr, mPut_arr]
        try rw [mArr_arr]
        show K (mH g o ad (mArr S 7 (upd (upd (S.2 7) ja (nI (ndf (tw ja) (1 <<< lst (tw ja))))) (lst (tw ja)) (nI (ndf (tw (lst (tw ja))) (1 <<< ja)))))) 0 0 69 [some (.ref o), some (.int (nI ja)), some (.int (nI jb))] []
        refine r_aload_n G dX1_does_69 rfl ?_
        refine r_iload_n G dX1_does_70 rfl ?_
        refine r_iload_n G dX1_does_71 rfl ?_
        refine m_callV G [.int (nI ja), .int (nI jb)] (mM_join hE hD (S := mArr S 7 (upd (upd (S.2 7) ja (nI (ndf (tw ja) (1 <<< lst (tw ja))))) (lst (tw ja)) (nI (ndf (tw (lst (tw ja))) (1 <<< ja))))) ja jb (uj tw ja (lst (tw ja)) ja) (uj tw ja (lst (tw ja)) jb) (by omega) (by omega) hab (by rw [mArr_s]; exact uj_fn (N := n) (fun y hy => hV.tw hy) hja) (by rw [mArr_s]; exact uj_fn (N := n) (fun y hy => hV.tw hy) hjb)) (lw_V q1315 q1317 qs45 q74 q1318) fy_yX1_join rfl rfl ⟨Nat.le_of_ble_eq_true rfl, Nat.le_of_ble_eq_true rfl⟩ rfl (Nat.le_of_ble_eq_true rfl) rfl rfl ⟨Nat.zero_le _, Nat.zero_le _⟩ dX1_does_72 (fun v72 S72 hp72 => ?_)
        obtain ⟨rfl, rfl⟩ := hp72
        rw [mPut_arr, mPut_arr]
        show K (mH g o ad (mArr S 7 (gfa (S.2 7) tw ja jb))) 0 0 75 [some (.ref o), some (.int (nI ja)), some (.int (nI jb))] []
        refine r_iconst G (v := nI 1) dX1_does_75 (by decide) ?_
        exact r_zret G rfl (by decide) ⟨Nat.zero_le _, Nat.zero_le _⟩ dX1_does_76 ⟨_, rfl, rb (by rw [doOk, if_neg (Int32.not_le.mpr h3), graftOk, h37a, h37b, h37c, eja, decide_eq_true h50]; rfl), mEqX.arr S _ (by decide), by rw [doT, if_neg (Int32.not_le.mpr h3), doL, if_neg (Int32.not_le.mpr h3), graftOk, h37a, h37b, h37c, eja, ejb, decide_eq_true h50]; exact mV_gf hV T hja hjb hab h50 rfl (mArr_s _ _ _) rfl rfl⟩
      · refine r_iconst G (v := nI 0) dX1_does_53 (by decide) ?_
        exact r_zret G rfl (by decide) ⟨Nat.zero_le _, Nat.zero_le _⟩ dX1_does_54 ⟨_, rfl, rb (by rw [doOk, if_neg (Int32.not_le.mpr h3), graftOk]; first | (rw [h37]; rfl) | (rw [h37a, h37b, h37c, eja, decide_eq_false h50]; rfl)), mEqX.rf _ _ _, by rw [doT, if_neg (Int32.not_le.mpr h3), doL, if_neg (Int32.not_le.mpr h3), graftOk]; first | (rw [h37]; exact hV) | (rw [h37a, h37b, h37c, eja, decide_eq_false h50]; exact hV)⟩
  · refine r_aload_n G dX1_does_6 rfl ?_
    refine r_iload_n G dX1_does_7 rfl ?_
    refine r_bipush G (v := nI 10) dX1_does_8 (by decide) ?_
    refine r_isub G (v := (b - (nI 10))) dX1_does_10 rfl ?_
    refine m_callV G [.int (b - (nI 10))] (mM_isPost hE hD n hV.1 (b - (nI 10))) (lw_V q1323 q1325 qs46 q74 q1326) fy_yX1_isPost rfl rfl ⟨Nat.le_of_ble_eq_true rfl, Nat.le_of_ble_eq_true rfl⟩ rfl (Nat.le_of_ble_eq_true rfl) rfl rfl ⟨Nat.zero_le _, Nat.zero_le _⟩ dX1_does_11 (fun v11 S11 hp11 => ?_)
    obtain ⟨rfl, rfl⟩ := hp11
    show K (mH g o ad S) 0 0 14 [some (.ref o), some (.int a), some (.int b)] [.int (bI (isP n (b - (nI 10))))]
    refine r_ifb_ne G 19  dX1_does_14 (by decide) (fun h14 => ?_) (fun h14 => ?_)
    · obtain ⟨j, hj, ej⟩ := isP_t (by omega) h14
      obtain ⟨v, hv9, rfl⟩ := hpre (Int32.not_lt.mp h3)
      have ejj : ix (b - nI 10) = j := by rw [ej]; exact ix_nI (by omega)
      have ev : ix (nI v) = v := ix_nI (by omega)
      refine r_aload_n G dX1_does_19 rfl ?_
      refine m_geta G 9 (by decide) q1199 rfl dX1_does_20 ?_
      refine r_iload_n G dX1_does_23 rfl ?_
      refine r_bipush G (v := nI 10) dX1_does_24 (by decide) ?_
      refine r_isub G (v := (nI j)) dX1_does_26 ej ?_
      refine r_iload_n G dX1_does_27 rfl ?_
      refine m_ast G hD 9 (by decide) (by simp only [mN]; omega) dX1_does_28 ?_
      refine r_iconst G (v := nI 1) dX1_does_29 (by decide) ?_
      exact r_zret G rfl (by decide) ⟨Nat.zero_le _, Nat.zero_le _⟩ dX1_does_30 ⟨_, rfl, rb (by rw [doOk, if_pos (Int32.not_lt.mp h3), h14]; rfl), mEqX.put S _ _ (by decide), by rw [doT, if_pos (Int32.not_lt.mp h3), doL, if_pos (Int32.not_lt.mp h3), h14, if_pos rfl, ejj, ev]; exact mV_ld hV hv9 rfl rfl rfl (mPut_9 S j (nI v)) (fun _ _ => rfl)⟩
    · refine r_iconst G (v := nI 0) dX1_does_17 (by decide) ?_
      exact r_zret G rfl (by decide) ⟨Nat.zero_le _, Nat.zero_le _⟩ dX1_does_18 ⟨_, rfl, rb (by rw [doOk, if_pos (Int32.not_lt.mp h3), h14]; rfl), mEqX.rf _ _ _, by rw [doT, if_pos (Int32.not_lt.mp h3), doL, if_pos (Int32.not_lt.mp h3), h14]; exact hV⟩
set_option maxHeartbeats 4000000 in
theorem mM_refusesPair {l : Launch} {g : fG} {A : Nat → Prop} {En : State → Prop} (hE : fEnv g A En) {o : Nat} {ad : Nat → Nat} (hD : mD A o ad) {S : mS} {n : Nat} {tw kd ld : Nat → Nat} {d : Nat → Nat → Nat} (hV : mV S n tw kd ld) (hT : n ≠ 0 → 2 ≤ n ∧ TM n tw d) (a b : Int32): mC l g A En o ad yX1_refusesPair cX1_refusesPair 4 (some .int) (fR 2) [.int a, .int b] S (fun v S' => v = some (.int (pRef n a b)) ∧ S = S') := by
  refine fC.of (by decide) hE [some (.ref o), some (.int a), some (.int b), none] rfl rfl (fun K G => ?_)
  have G : fGood l g A En RX1 "refusesPair" cX1_refusesPair 4 (some .int) (fR 2) _ K := G
  have hn8 := hV.2.1
  refine r_iload_n G dX1_refusesPair_0 rfl ?_
  refine r_bipush G (v := nI 10) dX1_refusesPair_1 (by decide) ?_
  refine r_bipush G (v := nI 17) dX1_refusesPair_3 (by decide) ?_
  refine s_callS G [.int b, .int (nI 10), .int (nI 17)] (sM_within hE b (nI 10) (nI 17)) (lw_S q1279 q1280 q74 q1281) fy_yX1_within rfl ⟨Nat.le_of_ble_eq_true rfl, Nat.le_of_ble_eq_true rfl⟩ rfl (Nat.le_of_ble_eq_true rfl) rfl rfl ⟨Nat.zero_le _, Nat.zero_le _⟩ dX1_refusesPair_5 ?_
  refine r_istore_n G (lo' := [some (.ref o), some (.int a), some (.int b), some (.int (bI (wi b (nI 10) (nI 17))))]) dX1_refusesPair_8 rfl rfl ?_
  refine r_iload_n G dX1_refusesPair_9 rfl ?_
  refine r_iconst G (v := nI 0) dX1_refusesPair_10 (by decide) ?_
  refine r_bipush G (v := nI 7) dX1_refusesPair_11 (by decide) ?_
  refine s_callS G [.int b, .int (nI 0), .int (nI 7)] (sM_within hE b (nI 0) (nI 7)) (lw_S q1279 q1280 q74 q1281) fy_yX1_within rfl ⟨Nat.le_of_ble_eq_true rfl, Nat.le_of_ble_eq_true rfl⟩ rfl (Nat.le_of_ble_eq_true rfl) rfl rfl ⟨Nat.zero_le _, Nat.zero_le _⟩ dX1_refusesPair_13 ?_
  refine r_ifb_ne G 23  dX1_refusesPair_16 (by decide) (fun h16 => ?_) (fun h16 => ?_)
  · refine r_iload_n G dX1_refusesPair_23 rfl ?_
    refine r_ifb_eq G 40  dX1_refusesPair_24 (by decide) (fun h24 => ?_) (fun h24 => ?_)
    · refine r_iload_n G dX1_refusesPair_40 rfl ?_
      refine r_ifb_ne G 56  dX1_refusesPair_41 (by decide) (fun h41 => False.elim (Bool.noConfusion (h41.symm.trans h24))) (fun h41 => ?_)
      refine r_aload_n G dX1_refusesPair_44 rfl ?_
      refine r_iload_n G dX1_refusesPair_45 rfl ?_
      refine m_callV G [.int a] (mM_isPost hE hD n hV.1 a) (lw_V q1323 q1325 qs46 q74 q1326) fy_yX1_isPost rfl rfl ⟨Nat.le_of_ble_eq_true rfl, Nat.le_of_ble_eq_true rfl⟩ rfl (Nat.le_of_ble_eq_true rfl) rfl rfl ⟨Nat.zero_le _, Nat.zero_le _⟩ dX1_refusesPair_46 (fun v46 S46 hp46 => ?_)
      obtain ⟨rfl, rfl⟩ := hp46
      show K (mH g o ad S) 0 0 49 [some (.ref o), some (.int a), some (.int b), some (.int (bI (wi b (nI 10) (nI 17))))] [.int (bI (isP n a))]
      refine r_ifb_ne G 56  dX1_refusesPair_49 (by decide) (fun h49 => ?_) (fun h49 => ?_)
      · refine r_iconst G (v := nI 0) dX1_refusesPair_56 (by decide) ?_
        exact r_iret G rfl ⟨Nat.zero_le _, Nat.zero_le _⟩ dX1_refusesPair_57 ⟨_, rfl, congrArg (fun x => some (Value.int x)) (by simp [pRef, *] <;> rfl), rfl⟩
      · refine r_iconst G (v := -1) dX1_refusesPair_52 (by decide) ?_
        refine r_goto G 57 dX1_refusesPair_53 (by decide) ?_
        exact r_iret G rfl ⟨Nat.zero_le _, Nat.zero_le _⟩ dX1_refusesPair_57 ⟨_, rfl, congrArg (fun x => some (Value.int x)) (by simp [pRef, *] <;> rfl), rfl⟩
    · refine r_iload_n G dX1_refusesPair_27 rfl ?_
      refine r_iconst G (v := nI 0) dX1_refusesPair_28 (by decide) ?_
      refine r_bipush G (v := nI 9) dX1_refusesPair_29 (by decide) ?_
      refine s_callS G [.int a, .int (nI 0), .int (nI 9)] (sM_within hE a (nI 0) (nI 9)) (lw_S q1279 q1280 q74 q1281) fy_yX1_within rfl ⟨Nat.le_of_ble_eq_true rfl, Nat.le_of_ble_eq_true rfl⟩ rfl (Nat.le_of_ble_eq_true rfl) rfl rfl ⟨Nat.zero_le _, Nat.zero_le _⟩ dX1_refusesPair_31 ?_
      refine r_ifb_ne G 40  dX1_refusesPair_34 (by decide) (fun h34 => ?_) (fun h34 => ?_)
      · refine r_iload_n G dX1_refusesPair_40 rfl ?_
        refine r_ifb_ne G 56  dX1_refusesPair_41 (by decide) (fun h41 => ?_) (fun h41 => False.elim (Bool.noConfusion (h41.symm.trans h24)))
        refine r_iconst G (v := nI 0) dX1_refusesPair_56 (by decide) ?_
        exact r_iret G rfl ⟨Nat.zero_le _, Nat.zero_le _⟩ dX1_refusesPair_57 ⟨_, rfl, congrArg (fun x => some (Value.int x)) (by simp [pRef, *] <;> rfl), rfl⟩
      · refine r_bipush G (v := -2) dX1_refusesPair_37 (by decide) ?_
        exact r_iret G rfl ⟨Nat.zero_le _, Nat.zero_le _⟩ dX1_refusesPair_39 ⟨_, rfl, congrArg (fun x => some (Value.int x)) (by simp [pRef, *] <;> rfl), rfl⟩
  · refine r_iload_n G dX1_refusesPair_19 rfl ?_
    refine r_ifb_eq G 37  dX1_refusesPair_20 (by decide) (fun h20 => ?_) (fun h20 => ?_)
    · refine r_bipush G (v := -2) dX1_refusesPair_37 (by decide) ?_
      exact r_iret G rfl ⟨Nat.zero_le _, Nat.zero_le _⟩ dX1_refusesPair_39 ⟨_, rfl, congrArg (fun x => some (Value.int x)) (by simp [pRef, *] <;> rfl), rfl⟩
    · refine r_iload_n G dX1_refusesPair_23 rfl ?_
      refine r_ifb_eq G 40  dX1_refusesPair_24 (by decide) (fun h24 => False.elim (Bool.noConfusion (h24.symm.trans h20))) (fun h24 => ?_)
      refine r_iload_n G dX1_refusesPair_27 rfl ?_
      refine r_iconst G (v := nI 0) dX1_refusesPair_28 (by decide) ?_
      refine r_bipush G (v := nI 9) dX1_refusesPair_29 (by decide) ?_
      refine s_callS G [.int a, .int (nI 0), .int (nI 9)] (sM_within hE a (nI 0) (nI 9)) (lw_S q1279 q1280 q74 q1281) fy_yX1_within rfl ⟨Nat.le_of_ble_eq_true rfl, Nat.le_of_ble_eq_true rfl⟩ rfl (Nat.le_of_ble_eq_true rfl) rfl rfl ⟨Nat.zero_le _, Nat.zero_le _⟩ dX1_refusesPair_31 ?_
      refine r_ifb_ne G 40  dX1_refusesPair_34 (by decide) (fun h34 => ?_) (fun h34 => ?_)
      · refine r_iload_n G dX1_refusesPair_40 rfl ?_
        refine r_ifb_ne G 56  dX1_refusesPair_41 (by decide) (fun h41 => ?_) (fun h41 => False.elim (Bool.noConfusion (h41.symm.trans h20)))
        refine r_iconst G (v := nI 0) dX1_refusesPair_56 (by decide) ?_
        exact r_iret G rfl ⟨Nat.zero_le _, Nat.zero_le _⟩ dX1_refusesPair_57 ⟨_, rfl, congrArg (fun x => some (Value.int x)) (by simp [pRef, *] <;> rfl), rfl⟩
      · refine r_bipush G (v := -2) dX1_refusesPair_37 (by decide) ?_
        exact r_iret G rfl ⟨Nat.zero_le _, Nat.zero_le _⟩ dX1_refusesPair_39 ⟨_, rfl, congrArg (fun x => some (Value.int x)) (by simp [pRef, *] <;> rfl), rfl⟩
set_option maxHeartbeats 4000000 in
theorem mM_tellDay {l : Launch} {g : fG} {A : Nat → Prop} {En : State → Prop} (hE : fEnv g A En) {o : Nat} {ad : Nat → Nat} (hD : mD A o ad) {S : mS} {n : Nat} {tw kd ld : Nat → Nat} {d : Nat → Nat → Nat} (hV : mV S n tw kd ld) (hT : n ≠ 0 → 2 ≤ n ∧ TM n tw d) (hn0 : n ≠ 0) (what : Int32): mC l g A En o ad yX1_tellDay cX1_tellDay 2 (some .int) (fR 4) [.int what] S (fun v S' => v = some (.int (aTell n tw kd ld d what)) ∧ mEqX [] [] S S') := by
  refine fC.of (by decide) hE [some (.ref o), some (.int what)] rfl rfl (fun K G => ?_)
  have G : fGood l g A En RX1 "tellDay" cX1_tellDay 2 (some .int) (fR 4) _ K := G
  have hn8 := hV.2.1
  obtain ⟨h2n, T⟩ := hT hn0
  have h10 : nI 10 = nI 10 := rfl
  refine r_iload_n G dX1_tellDay_0 rfl ?_
  refine r_bipush G (v := nI 10) dX1_tellDay_1 (by decide) ?_
  refine r_icmp_lt G 32 Iff.rfl dX1_tellDay_3 (by decide) (fun h3 => ?_) (fun h3 => ?_)
  · refine r_iload_n G dX1_tellDay_32 rfl ?_
    rcases sw_in what 3 (by decide) with h33 | ⟨j33, hj33, rfl⟩
    · refine r_tableOut G 83 dX1_tellDay_33 h33 (by decide) ?_
      refine r_aload_n G dX1_tellDay_83 rfl ?_
      refine r_iconst G (v := nI 1) dX1_tellDay_84 (by decide) ?_
      refine r_aload_n G dX1_tellDay_85 rfl ?_
      refine m_gets G 5 (by decide) q1195 rfl (v := (nI n)) hV.1 dX1_tellDay_86 ?_
      refine r_ishl G (v := (nI (1 <<< n))) dX1_tellDay_89 (n_shl (by omega)) ?_
      refine r_iconst G (v := nI 1) dX1_tellDay_90 (by decide) ?_
      refine r_isub G (v := (nI (2 ^ n - 1))) dX1_tellDay_91 (n_full n (by omega)) ?_
      refine m_callV G [.int (nI (2 ^ n - 1))] (mM_worthOfSet hE hD (S := S) hV (2 ^ n - 1) (by have := pow_n8 hn8; omega)) (lw_V q1398 q1400 qs60 q74 q1401) fy_yX1_worthOfSet rfl rfl ⟨Nat.le_of_ble_eq_true rfl, Nat.le_of_ble_eq_true rfl⟩ rfl (Nat.le_of_ble_eq_true rfl) rfl rfl ⟨Nat.zero_le _, Nat.zero_le _⟩ dX1_tellDay_92 (fun v92 S92 hp92 => ?_)
      obtain ⟨rfl, rfl⟩ := hp92
      show K (mH g o ad S) 0 0 95 [some (.ref o), some (.int what)] [.int (nI (ws n kd ld (2 ^ n - 1)))]
      exact r_iret G rfl ⟨Nat.zero_le _, Nat.zero_le _⟩ dX1_tellDay_95 ⟨_, rfl, by rw [aTell, if_neg (Int32.not_le.mpr h3), if_neg (sw_out h33 (j := 0) (by decide) (by decide)), if_neg (sw_out h33 (j := 2) (by decide) (by decide)), if_neg (sw_out h33 (j := 3) (by decide) (by decide))], mEqX.rf _ _ _⟩
    · have hc33 : j33 = 0 ∨ j33 = 1 ∨ j33 = 2 ∨ j33 = 3 := by omega
      rcases hc33 with rfl | rfl | rfl | rfl
      · refine r_tableIn G 64 dX1_tellDay_33 (by decide) (by decide) rfl (by decide) ?_
        refine r_aload_n G dX1_tellDay_64 rfl ?_
        refine m_callV G [] (mM_findFars hE hD hV T) (lw_V q1334 q1336 qs48 q74 q1337) fy_yX1_findFars rfl rfl ⟨Nat.le_of_ble_eq_true rfl, Nat.le_of_ble_eq_true rfl⟩ rfl (Nat.le_of_ble_eq_true rfl) rfl rfl ⟨Nat.zero_le _, Nat.zero_le _⟩ dX1_tellDay_65 (fun v65 S65 hp65 => ?_)
        obtain ⟨rfl, fa65, rfl, hF65⟩ := hp65
        show K (mH g o ad (mArr S 15 fa65)) 0 0 68 [some (.ref o), some (.int (nI 0))] []
        refine r_aload_n G dX1_tellDay_68 rfl ?_
        refine m_callV G [] (mM_longest hE hD (S := (mArr S 15 fa65)) hV.1 hn8 hF65) (lw_V q1386 q1388 qs57 q74 q1389) fy_yX1_longest rfl rfl ⟨Nat.le_of_ble_eq_true rfl, Nat.le_of_ble_eq_true rfl⟩ rfl (Nat.le_of_ble_eq_true rfl) rfl rfl ⟨Nat.zero_le _, Nat.zero_le _⟩ dX1_tellDay_69 (fun v69 S69 hp69 => ?_)
        obtain ⟨rfl, rfl⟩ := hp69
        show K (mH g o ad (mArr S 15 fa65)) 0 0 72 [some (.ref o), some (.int (nI 0))] [.int (nI (maxN n (fun p => maxN n (d p))))]
        exact r_iret G rfl ⟨Nat.zero_le _, Nat.zero_le _⟩ dX1_tellDay_72 ⟨_, rfl, by rw [aTell, if_neg (Int32.not_le.mpr h3)]; rfl, mEqX.arr S _ (by decide)⟩
      · refine r_tableIn G 83 dX1_tellDay_33 (by decide) (by decide) rfl (by decide) ?_
        refine r_aload_n G dX1_tellDay_83 rfl ?_
        refine r_iconst G (v := nI 1) dX1_tellDay_84 (by decide) ?_
        refine r_aload_n G dX1_tellDay_85 rfl ?_
        refine m_gets G 5 (by decide) q1195 rfl (v := (nI n)) hV.1 dX1_tellDay_86 ?_
        refine r_ishl G (v := (nI (1 <<< n))) dX1_tellDay_89 (n_shl (by omega)) ?_
        refine r_iconst G (v := nI 1) dX1_tellDay_90 (by decide) ?_
        refine r_isub G (v := (nI (2 ^ n - 1))) dX1_tellDay_91 (n_full n (by omega)) ?_
        refine m_callV G [.int (nI (2 ^ n - 1))] (mM_worthOfSet hE hD (S := S) hV (2 ^ n - 1) (by have := pow_n8 hn8; omega)) (lw_V q1398 q1400 qs60 q74 q1401) fy_yX1_worthOfSet rfl rfl ⟨Nat.le_of_ble_eq_true rfl, Nat.le_of_ble_eq_true rfl⟩ rfl (Nat.le_of_ble_eq_true rfl) rfl rfl ⟨Nat.zero_le _, Nat.zero_le _⟩ dX1_tellDay_92 (fun v92 S92 hp92 => ?_)
        obtain ⟨rfl, rfl⟩ := hp92
        show K (mH g o ad S) 0 0 95 [some (.ref o), some (.int (nI 1))] [.int (nI (ws n kd ld (2 ^ n - 1)))]
        exact r_iret G rfl ⟨Nat.zero_le _, Nat.zero_le _⟩ dX1_tellDay_95 ⟨_, rfl, by rw [aTell, if_neg (Int32.not_le.mpr h3)]; rfl, mEqX.rf _ _ _⟩
      · refine r_tableIn G 73 dX1_tellDay_33 (by decide) (by decide) rfl (by decide) ?_
        refine r_aload_n G dX1_tellDay_73 rfl ?_
        refine m_callV G [] (mM_numberOf hE hD hV T h2n) (lw_V q1390 q1392 qs58 q74 q1393) fy_yX1_numberOf rfl rfl ⟨Nat.le_of_ble_eq_true rfl, Nat.le_of_ble_eq_true rfl⟩ rfl (Nat.le_of_ble_eq_true rfl) rfl rfl ⟨Nat.zero_le _, Nat.zero_le _⟩ dX1_tellDay_74 (fun v74 S74 hp74 => ?_)
        obtain ⟨rfl, fl74, fr74, rfl⟩ := hp74
        show K (mH g o ad (mArr (mArr S 17 fl74) 16 fr74)) 0 0 77 [some (.ref o), some (.int (nI 2))] [.int (nI (rnum n tw (n - 2)))]
        exact r_iret G rfl ⟨Nat.zero_le _, Nat.zero_le _⟩ dX1_tellDay_77 ⟨_, rfl, by rw [aTell, if_neg (Int32.not_le.mpr h3)]; rfl, (mEqX.arr S _ (by decide)).tr (mEqX.arr _ _ (by decide))⟩
      · refine r_tableIn G 78 dX1_tellDay_33 (by decide) (by decide) rfl (by decide) ?_
        refine r_aload_n G dX1_tellDay_78 rfl ?_
        refine m_callV G [] (mM_ends hE hD (S := S) hV) (lw_V q1394 q1396 qs59 q74 q1397) fy_yX1_ends rfl rfl ⟨Nat.le_of_ble_eq_true rfl, Nat.le_of_ble_eq_true rfl⟩ rfl (Nat.le_of_ble_eq_true rfl) rfl rfl ⟨Nat.zero_le _, Nat.zero_le _⟩ dX1_tellDay_79 (fun v79 S79 hp79 => ?_)
        obtain ⟨rfl, rfl⟩ := hp79
        show K (mH g o ad S) 0 0 82 [some (.ref o), some (.int (nI 3))] [.int (nI (lvs n tw))]
        exact r_iret G rfl ⟨Nat.zero_le _, Nat.zero_le _⟩ dX1_tellDay_82 ⟨_, rfl, by rw [aTell, if_neg (Int32.not_le.mpr h3)]; rfl, mEqX.rf _ _ _⟩
  · refine r_aload_n G dX1_tellDay_6 rfl ?_
    refine r_iload_n G dX1_tellDay_7 rfl ?_
    refine r_bipush G (v := nI 10) dX1_tellDay_8 (by decide) ?_
    refine r_isub G (v := (what - (nI 10))) dX1_tellDay_10 rfl ?_
    refine m_callV G [.int (what - (nI 10))] (mM_isPost hE hD n hV.1 (what - (nI 10))) (lw_V q1323 q1325 qs46 q74 q1326) fy_yX1_isPost rfl rfl ⟨Nat.le_of_ble_eq_true rfl, Nat.le_of_ble_eq_true rfl⟩ rfl (Nat.le_of_ble_eq_true rfl) rfl rfl ⟨Nat.zero_le _, Nat.zero_le _⟩ dX1_tellDay_11 (fun v11 S11 hp11 => ?_)
    obtain ⟨rfl, rfl⟩ := hp11
    show K (mH g o ad S) 0 0 14 [some (.ref o), some (.int what)] [.int (bI (isP n (what - (nI 10))))]
    refine r_ifb_eq G 29  dX1_tellDay_14 (by decide) (fun h14 => ?_) (fun h14 => ?_)
    · refine r_bipush G (v := -9) dX1_tellDay_29 (by decide) ?_
      exact r_iret G rfl ⟨Nat.zero_le _, Nat.zero_le _⟩ dX1_tellDay_31 ⟨_, rfl, by rw [aTell, if_pos (Int32.not_lt.mp h3), h14]; rfl, mEqX.rf _ _ _⟩
    · obtain ⟨j, hj, ej⟩ := isP_t (by omega) h14
      have ejj : ix (what - nI 10) = j := by rw [ej]; exact ix_nI (by omega)
      refine r_aload_n G dX1_tellDay_17 rfl ?_
      refine m_geta G 7 (by decide) q1197 rfl dX1_tellDay_18 ?_
      refine r_iload_n G dX1_tellDay_21 rfl ?_
      refine r_bipush G (v := nI 10) dX1_tellDay_22 (by decide) ?_
      refine r_isub G (v := (nI j)) dX1_tellDay_24 ej ?_
      refine m_ald G hD 7 (by decide) (by simp only [mN]; omega) (v := (nI (tw j))) (hV.tw hj) dX1_tellDay_25 ?_
      refine r_goto G 31 dX1_tellDay_26 (by decide) ?_
      exact r_iret G rfl ⟨Nat.zero_le _, Nat.zero_le _⟩ dX1_tellDay_31 ⟨_, rfl, by rw [aTell, if_pos (Int32.not_lt.mp h3), h14, if_pos rfl, ejj], mEqX.rf _ _ _⟩
end MM8
