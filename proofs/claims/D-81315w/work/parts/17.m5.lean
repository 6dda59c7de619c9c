/-! the reference: what is asked -/
set_option maxRecDepth 100000
section MM5
set_option maxHeartbeats 4000000 in
theorem mM_row {l : Launch} {g : fG} {A : Nat → Prop} {En : State → Prop} (hE : fEnv g A En) {o : Nat} {ad : Nat → Nat} (hD : mD A o ad) {S : mS} {n : Nat} {tw kd ld : Nat → Nat} {d : Nat → Nat → Nat} (hV : mV S n tw kd ld) (hT : n ≠ 0 → 2 ≤ n ∧ TM n tw d) (k : Int32): mC l g A En o ad yX1_row cX1_row 2 (some .int) (fR 3) [.int k] S (fun v S' => v = some (.int (aRow n tw k)) ∧ mEq S S') := by
  refine fC.of (by decide) hE [some (.ref o), some (.int k)] rfl rfl (fun K G => ?_)
  have G : fGood l g A En RX1 "row" cX1_row 2 (some .int) (fR 3) _ K := G
  have hn8 := hV.2.1
  refine r_iload_n G dX1_row_0 rfl ?_
  refine r_iconst G (v := nI 0) dX1_row_1 (by decide) ?_
  refine r_iconst G (v := nI 5) dX1_row_2 (by decide) ?_
  refine s_callS G [.int k, .int (nI 0), .int (nI 5)] (sM_within hE k (nI 0) (nI 5)) (lw_S q1279 q1280 q74 q1281) fy_yX1_within rfl ⟨Nat.le_of_ble_eq_true rfl, Nat.le_of_ble_eq_true rfl⟩ rfl (Nat.le_of_ble_eq_true rfl) rfl rfl ⟨Nat.zero_le _, Nat.zero_le _⟩ dX1_row_3 ?_
  refine r_ifb_ne G 12  dX1_row_6 (by decide) (fun h6 => ?_) (fun h6 => ?_)
  · obtain ⟨j, hj0, hj, rfl⟩ := wi_t (by decide) (by decide) h6
    have ej : ix (nI j) = j := ix_nI (by omega)
    refine r_aload_n G dX1_row_12 rfl ?_
    refine m_gets G 5 (by decide) q1195 rfl (v := (nI n)) hV.1 dX1_row_13 ?_
    refine r_if_ne G 22 (n_eq0 (by have := hV.2.1; omega)) dX1_row_16 (by decide) (fun h16 => ?_) (fun h16 => ?_)
    · obtain ⟨h2n, T⟩ := hT h16
      refine r_aload_n G dX1_row_22 rfl ?_
      refine m_callV G [] (mM_findRow hE hD hV T h2n) (lw_V q1350 q1352 qs50 q74 q1353) fy_yX1_findRow rfl rfl ⟨Nat.le_of_ble_eq_true rfl, Nat.le_of_ble_eq_true rfl⟩ rfl (Nat.le_of_ble_eq_true rfl) rfl rfl ⟨Nat.zero_le _, Nat.zero_le _⟩ dX1_row_23 (fun v23 S23 hp23 => ?_)
      obtain ⟨rfl, fl23, fr23, rfl, hR23⟩ := hp23
      show K (mH g o ad (mArr (mArr S 17 fl23) 16 fr23)) 0 0 26 [some (.ref o), some (.int (nI j))] []
      refine r_iload_n G dX1_row_26 rfl ?_
      refine r_aload_n G dX1_row_27 rfl ?_
      refine m_gets G 5 (by decide) q1195 rfl (v := (nI n)) hV.1 dX1_row_28 ?_
      refine r_iconst G (v := nI 2) dX1_row_31 (by decide) ?_
      refine r_isub G (v := (nI (n - 2))) dX1_row_32 (pk_sub (by omega)) ?_
      refine r_icmp_ge G 45 (nI_leI (by omega) (by omega)) dX1_row_33 (by decide) (fun h33 => ?_) (fun h33 => ?_)
      · refine r_bipush G (v := -9) dX1_row_45 (by decide) ?_
        exact r_iret G rfl ⟨Nat.zero_le _, Nat.zero_le _⟩ dX1_row_47 ⟨_, rfl, by simp [aRow, h6, h16, ej, show ¬ j < n - 2 from by omega], (mEq.arr S _ (by decide)).tr (mEq.arr _ _ (by decide))⟩
      · refine r_aload_n G dX1_row_36 rfl ?_
        refine m_geta G 16 (by decide) q1206 rfl dX1_row_37 ?_
        refine r_iload_n G dX1_row_40 rfl ?_
        refine m_ald G hD 16 (by decide) (by simp only [mN]; omega) (v := (nI (rwv n tw j))) (hR23 _ (by omega)) dX1_row_41 ?_
        refine r_goto G 47 dX1_row_42 (by decide) ?_
        exact r_iret G rfl ⟨Nat.zero_le _, Nat.zero_le _⟩ dX1_row_47 ⟨_, rfl, by simp [aRow, h6, h16, ej, show j < n - 2 from by omega], (mEq.arr S _ (by decide)).tr (mEq.arr _ _ (by decide))⟩
    · refine r_bipush G (v := -3) dX1_row_19 (by decide) ?_
      exact r_iret G rfl ⟨Nat.zero_le _, Nat.zero_le _⟩ dX1_row_21 ⟨_, rfl, by simp [aRow, h6, h16], mEq.rf _⟩
  · refine r_bipush G (v := -2) dX1_row_9 (by decide) ?_
    exact r_iret G rfl ⟨Nat.zero_le _, Nat.zero_le _⟩ dX1_row_11 ⟨_, rfl, by simp [aRow, h6], mEq.rf _⟩
set_option maxHeartbeats 4000000 in
theorem mM_number {l : Launch} {g : fG} {A : Nat → Prop} {En : State → Prop} (hE : fEnv g A En) {o : Nat} {ad : Nat → Nat} (hD : mD A o ad) {S : mS} {n : Nat} {tw kd ld : Nat → Nat} {d : Nat → Nat → Nat} (hV : mV S n tw kd ld) (hT : n ≠ 0 → 2 ≤ n ∧ TM n tw d): mC l g A En o ad yX1_number cX1_number 1 (some .int) (fR 4) [] S (fun v S' => v = some (.int (aNumber n tw)) ∧ mEq S S') := by
  refine fC.of (by decide) hE [some (.ref o)] rfl rfl (fun K G => ?_)
  have G : fGood l g A En RX1 "number" cX1_number 1 (some .int) (fR 4) _ K := G
  have hn8 := hV.2.1
  refine r_aload_n G dX1_number_0 rfl ?_
  refine m_gets G 5 (by decide) q1195 rfl (v := (nI n)) hV.1 dX1_number_1 ?_
  refine r_if_ne G 12 (n_eq0 (by have := hV.2.1; omega)) dX1_number_4 (by decide) (fun h4 => ?_) (fun h4 => ?_)
  · obtain ⟨h2n, T⟩ := hT h4
    refine r_aload_n G dX1_number_12 rfl ?_
    refine m_callV G [] (mM_numberOf hE hD hV T h2n) (lw_V q1390 q1392 qs58 q74 q1393) fy_yX1_numberOf rfl rfl ⟨Nat.le_of_ble_eq_true rfl, Nat.le_of_ble_eq_true rfl⟩ rfl (Nat.le_of_ble_eq_true rfl) rfl rfl ⟨Nat.zero_le _, Nat.zero_le _⟩ dX1_number_13 (fun v13 S13 hp13 => ?_)
    obtain ⟨rfl, fl13, fr13, rfl⟩ := hp13
    show K (mH g o ad (mArr (mArr S 17 fl13) 16 fr13)) 0 0 16 [some (.ref o)] [.int (nI (rnum n tw (n - 2)))]
    exact r_iret G rfl ⟨Nat.zero_le _, Nat.zero_le _⟩ dX1_number_16 ⟨_, rfl, by simp [aNumber, h4], (mEq.arr S _ (by decide)).tr (mEq.arr _ _ (by decide))⟩
  · refine r_bipush G (v := -3) dX1_number_7 (by decide) ?_
    refine r_goto G 16 dX1_number_9 (by decide) ?_
    exact r_iret G rfl ⟨Nat.zero_le _, Nat.zero_le _⟩ dX1_number_16 ⟨_, rfl, by simp [aNumber, h4], mEq.rf _⟩
set_option maxHeartbeats 4000000 in
theorem mM_far {l : Launch} {g : fG} {A : Nat → Prop} {En : State → Prop} (hE : fEnv g A En) {o : Nat} {ad : Nat → Nat} (hD : mD A o ad) {S : mS} {n : Nat} {tw kd ld : Nat → Nat} {d : Nat → Nat → Nat} (hV : mV S n tw kd ld) (hT : n ≠ 0 → 2 ≤ n ∧ TM n tw d) (a b : Int32): mC l g A En o ad yX1_far cX1_far 3 (some .int) (fR 2) [.int a, .int b] S (fun v S' => v = some (.int (aFar n d a b)) ∧ mEq S S') := by
  refine fC.of (by decide) hE [some (.ref o), some (.int a), some (.int b)] rfl rfl (fun K G => ?_)
  have G : fGood l g A En RX1 "far" cX1_far 3 (some .int) (fR 2) _ K := G
  have hn8 := hV.2.1
  refine r_aload_n G dX1_far_0 rfl ?_
  refine r_iload_n G dX1_far_1 rfl ?_
  refine m_callV G [.int a] (mM_isPost hE hD n hV.1 a) (lw_V q1323 q1325 qs46 q74 q1326) fy_yX1_isPost rfl rfl ⟨Nat.le_of_ble_eq_true rfl, Nat.le_of_ble_eq_true rfl⟩ rfl (Nat.le_of_ble_eq_true rfl) rfl rfl ⟨Nat.zero_le _, Nat.zero_le _⟩ dX1_far_2 (fun v2 S2 hp2 => ?_)
  obtain ⟨rfl, rfl⟩ := hp2
  show K (mH g o ad S) 0 0 5 [some (.ref o), some (.int a), some (.int b)] [.int (bI (isP n a))]
  refine r_ifb_eq G 16  dX1_far_5 (by decide) (fun h5 => ?_) (fun h5 => ?_)
  · refine r_iconst G (v := -1) dX1_far_16 (by decide) ?_
    exact r_iret G rfl ⟨Nat.zero_le _, Nat.zero_le _⟩ dX1_far_17 ⟨_, rfl, (by first | simp [aFar, h13] | simp [aFar, h5]), mEq.rf _⟩
  · obtain ⟨ja, hja, rfl⟩ := isP_t (by omega) h5
    have eja : ix (nI ja) = ja := ix_nI (by omega)
    refine r_aload_n G dX1_far_8 rfl ?_
    refine r_iload_n G dX1_far_9 rfl ?_
    refine m_callV G [.int b] (mM_isPost hE hD n hV.1 b) (lw_V q1323 q1325 qs46 q74 q1326) fy_yX1_isPost rfl rfl ⟨Nat.le_of_ble_eq_true rfl, Nat.le_of_ble_eq_true rfl⟩ rfl (Nat.le_of_ble_eq_true rfl) rfl rfl ⟨Nat.zero_le _, Nat.zero_le _⟩ dX1_far_10 (fun v10 S10 hp10 => ?_)
    obtain ⟨rfl, rfl⟩ := hp10
    show K (mH g o ad S) 0 0 13 [some (.ref o), some (.int (nI ja)), some (.int b)] [.int (bI (isP n b))]
    refine r_ifb_ne G 18  dX1_far_13 (by decide) (fun h13 => ?_) (fun h13 => ?_)
    · obtain ⟨jb, hjb, rfl⟩ := isP_t (by omega) h13
      have ejb : ix (nI jb) = jb := ix_nI (by omega)
      obtain ⟨h2n, T⟩ := hT (by omega)
      refine r_aload_n G dX1_far_18 rfl ?_
      refine m_callV G [] (mM_findFars hE hD hV T) (lw_V q1334 q1336 qs48 q74 q1337) fy_yX1_findFars rfl rfl ⟨Nat.le_of_ble_eq_true rfl, Nat.le_of_ble_eq_true rfl⟩ rfl (Nat.le_of_ble_eq_true rfl) rfl rfl ⟨Nat.zero_le _, Nat.zero_le _⟩ dX1_far_19 (fun v19 S19 hp19 => ?_)
      obtain ⟨rfl, fa19, rfl, hF19⟩ := hp19
      show K (mH g o ad (mArr S 15 fa19)) 0 0 22 [some (.ref o), some (.int (nI ja)), some (.int (nI jb))] []
      refine r_aload_n G dX1_far_22 rfl ?_
      refine m_geta G 15 (by decide) q1205 rfl dX1_far_23 ?_
      refine r_bipush G (v := nI 8) dX1_far_26 (by decide) ?_
      refine r_iload_n G dX1_far_28 rfl ?_
      refine r_imul G (v := (nI (8 * ja))) dX1_far_29 (pk_mul 8 ja) ?_
      refine r_iload_n G dX1_far_30 rfl ?_
      refine r_iadd G (v := (nI ((8 * ja) + jb))) dX1_far_31 (nI_add (8 * ja) jb) ?_
      refine m_ald G hD 15 (by decide) (by simp only [mN]; omega) (v := (nI (d ja jb))) (hF19 ja (by omega) jb (by omega)).1 dX1_far_32 ?_
      exact r_iret G rfl ⟨Nat.zero_le _, Nat.zero_le _⟩ dX1_far_33 ⟨_, rfl, by simp [aFar, h5, h13, eja, ejb], mEq.arr S _ (by decide)⟩
    · refine r_iconst G (v := -1) dX1_far_16 (by decide) ?_
      exact r_iret G rfl ⟨Nat.zero_le _, Nat.zero_le _⟩ dX1_far_17 ⟨_, rfl, (by first | simp [aFar, h13] | simp [aFar, h5]), mEq.rf _⟩
theorem way_no {n : Nat} {d : Nat → Nat → Nat} {a b k : Nat} (h : ∀ p : Nat, p < n → d a b < k) : (fstN n fun p => decide (d a p = k) && decide (d a p + d p b = d a b)) = none := fstN_none fun q hq => by
  have := h q hq
  rw [Bool.and_eq_false_iff, decide_eq_false_iff_not, decide_eq_false_iff_not]
  omega
set_option maxHeartbeats 4000000 in
theorem mM_way {l : Launch} {g : fG} {A : Nat → Prop} {En : State → Prop} (hE : fEnv g A En) {o : Nat} {ad : Nat → Nat} (hD : mD A o ad) {S : mS} {n : Nat} {tw kd ld : Nat → Nat} {d : Nat → Nat → Nat} (hV : mV S n tw kd ld) (hT : n ≠ 0 → 2 ≤ n ∧ TM n tw d) (a b k : Int32): mC l g A En o ad yX1_way cX1_way 6 (some .int) (fR 2) [.int a, .int b, .int k] S (fun v S' => v = some (.int (aWay n d a b k)) ∧ mEq S S') := by
  refine fC.of (by decide) hE [some (.ref o), some (.int a), some (.int b), some (.int k), none, none] rfl rfl (fun K G => ?_)
  have G : fGood l g A En RX1 "way" cX1_way 6 (some .int) (fR 2) _ K := G
  have hn8 := hV.2.1
  refine r_aload_n G dX1_way_0 rfl ?_
  refine r_iload_n G dX1_way_1 rfl ?_
  refine m_callV G [.int a] (mM_isPost hE hD n hV.1 a) (lw_V q1323 q1325 qs46 q74 q1326) fy_yX1_isPost rfl rfl ⟨Nat.le_of_ble_eq_true rfl, Nat.le_of_ble_eq_true rfl⟩ rfl (Nat.le_of_ble_eq_true rfl) rfl rfl ⟨Nat.zero_le _, Nat.zero_le _⟩ dX1_way_2 (fun v2 S2 hp2 => ?_)
  obtain ⟨rfl, rfl⟩ := hp2
  show K (mH g o ad S) 0 0 5 [some (.ref o), some (.int a), some (.int b), some (.int k), none, none] [.int (bI (isP n a))]
  refine r_ifb_eq G 16  dX1_way_5 (by decide) (fun h5 => ?_) (fun h5 => ?_)
  · refine r_iconst G (v := -1) dX1_way_16 (by decide) ?_
    exact r_iret G rfl ⟨Nat.zero_le _, Nat.zero_le _⟩ dX1_way_17 ⟨_, rfl, (by first | simp [aWay, h13] | simp [aWay, h5]), mEq.rf _⟩
  · obtain ⟨ja, hja, rfl⟩ := isP_t (by omega) h5
    have eja : ix (nI ja) = ja := ix_nI (by omega)
    refine r_aload_n G dX1_way_8 rfl ?_
    refine r_iload_n G dX1_way_9 rfl ?_
    refine m_callV G [.int b] (mM_isPost hE hD n hV.1 b) (lw_V q1323 q1325 qs46 q74 q1326) fy_yX1_isPost rfl rfl ⟨Nat.le_of_ble_eq_true rfl, Nat.le_of_ble_eq_true rfl⟩ rfl (Nat.le_of_ble_eq_true rfl) rfl rfl ⟨Nat.zero_le _, Nat.zero_le _⟩ dX1_way_10 (fun v10 S10 hp10 => ?_)
    obtain ⟨rfl, rfl⟩ := hp10
    show K (mH g o ad S) 0 0 13 [some (.ref o), some (.int (nI ja)), some (.int b), some (.int k), none, none] [.int (bI (isP n b))]
    refine r_ifb_ne G 18  dX1_way_13 (by decide) (fun h13 => ?_) (fun h13 => ?_)
    · obtain ⟨jb, hjb, rfl⟩ := isP_t (by omega) h13
      have ejb : ix (nI jb) = jb := ix_nI (by omega)
      obtain ⟨h2n, T⟩ := hT (by omega)
      refine r_iload_n G dX1_way_18 rfl ?_
      refine r_iconst G (v := nI 0) dX1_way_19 (by decide) ?_
      refine r_bipush G (v := nI 7) dX1_way_20 (by decide) ?_
      refine s_callS G [.int k, .int (nI 0), .int (nI 7)] (sM_within hE k (nI 0) (nI 7)) (lw_S q1279 q1280 q74 q1281) fy_yX1_within rfl ⟨Nat.le_of_ble_eq_true rfl, Nat.le_of_ble_eq_true rfl⟩ rfl (Nat.le_of_ble_eq_true rfl) rfl rfl ⟨Nat.zero_le _, Nat.zero_le _⟩ dX1_way_22 ?_
      refine r_ifb_ne G 31  dX1_way_25 (by decide) (fun h25 => ?_) (fun h25 => ?_)
      · obtain ⟨jk, hjk0, hjk, rfl⟩ := wi_t (by decide) (by decide) h25
        have ejk : ix (nI jk) = jk := ix_nI (by omega)
        refine r_aload_n G dX1_way_31 rfl ?_
        refine m_callV G [] (mM_findFars hE hD hV T) (lw_V q1334 q1336 qs48 q74 q1337) fy_yX1_findFars rfl rfl ⟨Nat.le_of_ble_eq_true rfl, Nat.le_of_ble_eq_true rfl⟩ rfl (Nat.le_of_ble_eq_true rfl) rfl rfl ⟨Nat.zero_le _, Nat.zero_le _⟩ dX1_way_32 (fun v32 S32 hp32 => ?_)
        obtain ⟨rfl, fa32, rfl, hF32⟩ := hp32
        show K (mH g o ad (mArr S 15 fa32)) 0 0 35 [some (.ref o), some (.int (nI ja)), some (.int (nI jb)), some (.int (nI jk)), none, none] []
        refine r_aload_n G dX1_way_35 rfl ?_
        refine m_geta G 15 (by decide) q1205 rfl dX1_way_36 ?_
        refine r_bipush G (v := nI 8) dX1_way_39 (by decide) ?_
        refine r_iload_n G dX1_way_41 rfl ?_
        refine r_imul G (v := (nI (8 * ja))) dX1_way_42 (pk_mul 8 ja) ?_
        refine r_iload_n G dX1_way_43 rfl ?_
        refine r_iadd G (v := (nI ((8 * ja) + jb))) dX1_way_44 (nI_add (8 * ja) jb) ?_
        refine m_ald G hD 15 (by decide) (by simp only [mN]; omega) (v := (nI (d ja jb))) (hF32 ja (by omega) jb (by omega)).1 dX1_way_45 ?_
        refine r_istore G (lo' := [some (.ref o), some (.int (nI ja)), some (.int (nI jb)), some (.int (nI jk)), some (.int (nI (d ja jb))), none]) dX1_way_46 rfl rfl ?_
        refine r_iload_n G dX1_way_48 rfl ?_
        refine r_iload G dX1_way_49 rfl ?_
        refine r_icmp_le G 57 (nI_leI (by omega) (by have := (hF32 ja hja jb hjb).2; omega)) dX1_way_51 (by decide) (fun h51 => ?_) (fun h51 => ?_)
        · refine r_iconst G (v := nI 0) dX1_way_57 (by decide) ?_
          refine r_istore G (lo' := [some (.ref o), some (.int (nI ja)), some (.int (nI jb)), some (.int (nI jk)), some (.int (nI (d ja jb))), some (.int (nI 0))]) dX1_way_58 rfl rfl ?_
          have L60 : ∀ (fu : Nat) (p : Nat), (p ≤ n) → (∀ q, q < p → (decide (d ja q = jk) && decide (d ja q + d q jb = d ja jb)) = false) → n - p < fu → K (mH g o ad (mArr S 15 fa32)) 0 0 60 [some (.ref o), some (.int (nI ja)), some (.int (nI jb)), some (.int (nI jk)), some (.int (nI (d ja jb))), some (.int (nI p))] [] := by
            intro fu
            induction fu with
            | zero => intro p hp hq hm60; exact absurd hm60 (Nat.not_lt_zero _)
            | succ fu60 ih60 =>
              intro p hp hq hm60
              refine r_iload G dX1_way_60 rfl ?_
              refine r_aload_n G dX1_way_62 rfl ?_
              refine m_gets G 5 (by decide) q1195 rfl (v := (nI n)) hV.1 dX1_way_63 ?_
              refine r_icmp_ge G 113 (nI_leI (by have := hV.2.1; omega) (by omega)) dX1_way_66 (by decide) (fun h66 => ?_) (fun h66 => ?_)
              · refine r_bipush G (v := -9) dX1_way_113 (by decide) ?_
                exact r_iret G rfl ⟨Nat.zero_le _, Nat.zero_le _⟩ dX1_way_115 ⟨_, rfl, by rw [aWay, h5, h13, h25, eja, ejb, ejk, fstN_none (fun q h => hq q (by omega))]; rfl, mEq.arr S _ (by decide)⟩
              · refine r_aload_n G dX1_way_69 rfl ?_
                refine m_geta G 15 (by decide) q1205 rfl dX1_way_70 ?_
                refine r_bipush G (v := nI 8) dX1_way_73 (by decide) ?_
                refine r_iload_n G dX1_way_75 rfl ?_
                refine r_imul G (v := (nI (8 * ja))) dX1_way_76 (pk_mul 8 ja) ?_
                refine r_iload G dX1_way_77 rfl ?_
                refine r_iadd G (v := (nI ((8 * ja) + p))) dX1_way_79 (nI_add (8 * ja) p) ?_
                refine m_ald G hD 15 (by decide) (by simp only [mN]; omega) (v := (nI (d ja p))) (hF32 ja (by omega) p (by omega)).1 dX1_way_80 ?_
                refine r_iload_n G dX1_way_81 rfl ?_
                refine r_icmp_ne G 107 (nI_eq (Nat.lt_trans (hF32 ja (by omega) p (by omega)).2 (by decide)) (by omega)) dX1_way_82 (by decide) (fun h82 => ?_) (fun h82 => ?_)
                · refine r_iinc G (v := (nI (p + 1))) (lo' := [some (.ref o), some (.int (nI ja)), some (.int (nI jb)), some (.int (nI jk)), some (.int (nI (d ja jb))), some (.int (nI (p + 1)))]) dX1_way_107 rfl (nI_add p 1) rfl rfl ?_
                  refine r_goto G 60 dX1_way_110 (by decide) ?_
                  exact ih60 _ (by omega) (fun q hq2 => (Classical.em (q = p)).elim (fun e => by rw [e, Bool.and_eq_false_iff, decide_eq_false_iff_not, decide_eq_false_iff_not]; omega) (fun e => hq q (by omega))) (by omega)
                · refine r_aload_n G dX1_way_85 rfl ?_
                  refine m_geta G 15 (by decide) q1205 rfl dX1_way_86 ?_
                  refine r_bipush G (v := nI 8) dX1_way_89 (by decide) ?_
                  refine r_iload G dX1_way_91 rfl ?_
                  refine r_imul G (v := (nI (8 * p))) dX1_way_93 (pk_mul 8 p) ?_
                  refine r_iload_n G dX1_way_94 rfl ?_
                  refine r_iadd G (v := (nI ((8 * p) + jb))) dX1_way_95 (nI_add (8 * p) jb) ?_
                  refine m_ald G hD 15 (by decide) (by simp only [mN]; omega) (v := (nI (d p jb))) (hF32 p (by omega) jb (by omega)).1 dX1_way_96 ?_
                  refine r_iload G dX1_way_97 rfl ?_
                  refine r_iload_n G dX1_way_99 rfl ?_
                  refine r_isub G (v := (nI ((d ja jb) - jk))) dX1_way_100 (pk_sub (by omega)) ?_
                  refine r_icmp_ne G 107 (nI_eq (Nat.lt_trans (hF32 p (by omega) jb (by omega)).2 (by decide)) (by have := (hF32 ja hja jb hjb).2; omega)) dX1_way_101 (by decide) (fun h101 => ?_) (fun h101 => ?_)
                  · refine r_iinc G (v := (nI (p + 1))) (lo' := [some (.ref o), some (.int (nI ja)), some (.int (nI jb)), some (.int (nI jk)), some (.int (nI (d ja jb))), some (.int (nI (p + 1)))]) dX1_way_107 rfl (nI_add p 1) rfl rfl ?_
                    refine r_goto G 60 dX1_way_110 (by decide) ?_
                    exact ih60 _ (by omega) (fun q hq2 => (Classical.em (q = p)).elim (fun e => by rw [e, Bool.and_eq_false_iff, decide_eq_false_iff_not, decide_eq_false_iff_not]; omega) (fun e => hq q (by omega))) (by omega)
                  · refine r_iload G dX1_way_104 rfl ?_
                    exact r_iret G rfl ⟨Nat.zero_le _, Nat.zero_le _⟩ dX1_way_106 ⟨_, rfl, by rw [aWay, h5, h13, h25, eja, ejb, ejk, fstN_some (p := p) (by omega) (by rw [Bool.and_eq_true, decide_eq_true_eq, decide_eq_true_eq]; omega) hq]; rfl, mEq.arr S _ (by decide)⟩
          exact L60 (n + 1) 0 (Nat.zero_le _) (fun q h => absurd h (Nat.not_lt_zero _)) (by omega)
        · refine r_bipush G (v := -9) dX1_way_54 (by decide) ?_
          exact r_iret G rfl ⟨Nat.zero_le _, Nat.zero_le _⟩ dX1_way_56 ⟨_, rfl, by rw [aWay, h5, h13, h25, eja, ejb, ejk, way_no (a := ja) (b := jb) (k := jk) (fun _ _ => Nat.not_le.mp h51)]; rfl, mEq.arr S _ (by decide)⟩
      · refine r_bipush G (v := -2) dX1_way_28 (by decide) ?_
        exact r_iret G rfl ⟨Nat.zero_le _, Nat.zero_le _⟩ dX1_way_30 ⟨_, rfl, by simp [aWay, h5, h13, h25], mEq.rf _⟩
    · refine r_iconst G (v := -1) dX1_way_16 (by decide) ?_
      exact r_iret G rfl ⟨Nat.zero_le _, Nat.zero_le _⟩ dX1_way_17 ⟨_, rfl, (by first | simp [aWay, h13] | simp [aWay, h5]), mEq.rf _⟩
set_option maxHeartbeats 4000000 in
theorem mM_ofPost {l : Launch} {g : fG} {A : Nat → Prop} {En : State → Prop} (hE : fEnv g A En) {o : Nat} {ad : Nat → Nat} (hD : mD A o ad) {S : mS} {n : Nat} {tw kd ld : Nat → Nat} {d : Nat → Nat → Nat} (hV : mV S n tw kd ld) (hT : n ≠ 0 → 2 ≤ n ∧ TM n tw d) (p what : Int32): mC l g A En o ad yX1_ofPost cX1_ofPost 3 (some .int) (fR 2) [.int p, .int what] S (fun v S' => v = some (.int (aOfPost n tw kd ld d p what)) ∧ mEq S S') := by
  refine fC.of (by decide) hE [some (.ref o), some (.int p), some (.int what)] rfl rfl (fun K G => ?_)
  have G : fGood l g A En RX1 "ofPost" cX1_ofPost 3 (some .int) (fR 2) _ K := G
  have hn8 := hV.2.1
  refine r_aload_n G dX1_ofPost_0 rfl ?_
  refine r_iload_n G dX1_ofPost_1 rfl ?_
  refine m_callV G [.int p] (mM_isPost hE hD n hV.1 p) (lw_V q1323 q1325 qs46 q74 q1326) fy_yX1_isPost rfl rfl ⟨Nat.le_of_ble_eq_true rfl, Nat.le_of_ble_eq_true rfl⟩ rfl (Nat.le_of_ble_eq_true rfl) rfl rfl ⟨Nat.zero_le _, Nat.zero_le _⟩ dX1_ofPost_2 (fun v2 S2 hp2 => ?_)
  obtain ⟨rfl, rfl⟩ := hp2
  show K (mH g o ad S) 0 0 5 [some (.ref o), some (.int p), some (.int what)] [.int (bI (isP n p))]
  refine r_ifb_ne G 10  dX1_ofPost_5 (by decide) (fun h5 => ?_) (fun h5 => ?_)
  · obtain ⟨jp, hjp, rfl⟩ := isP_t (by omega) h5
    have ejp : ix (nI jp) = jp := ix_nI (by omega)
    obtain ⟨h2n, T⟩ := hT (by omega)
    refine r_iload_n G dX1_ofPost_10 rfl ?_
    rcases sw_in what 5 (by decide) with h11 | ⟨j11, hj11, rfl⟩
    · refine r_tableOut G 95 dX1_ofPost_11 h11 (by decide) ?_
      refine r_bipush G (v := -2) dX1_ofPost_95 (by decide) ?_
      exact r_iret G rfl ⟨Nat.zero_le _, Nat.zero_le _⟩ dX1_ofPost_97 ⟨_, rfl, by simp only [aOfPost, h5, if_true]; rw [if_neg (sw_out h11 (j := 0) (by decide) (by decide)), if_neg (sw_out h11 (j := 1) (by decide) (by decide)), if_neg (sw_out h11 (j := 2) (by decide) (by decide)), if_neg (sw_out h11 (j := 3) (by decide) (by decide)), if_neg (sw_out h11 (j := 4) (by decide) (by decide)), if_neg (sw_out h11 (j := 5) (by decide) (by decide))], mEq.rf _⟩
    · have hc11 : j11 = 0 ∨ j11 = 1 ∨ j11 = 2 ∨ j11 = 3 ∨ j11 = 4 ∨ j11 = 5 := by omega
      rcases hc11 with rfl | rfl | rfl | rfl | rfl | rfl
      · refine r_tableIn G 48 dX1_ofPost_11 (by decide) (by decide) rfl (by decide) ?_
        refine r_aload_n G dX1_ofPost_48 rfl ?_
        refine m_geta G 8 (by decide) q1198 rfl dX1_ofPost_49 ?_
        refine r_iload_n G dX1_ofPost_52 rfl ?_
        refine m_ald G hD 8 (by decide) (by simp only [mN]; omega) (v := (nI (kd jp))) (hV.kd hjp) dX1_ofPost_53 ?_
        exact r_iret G rfl ⟨Nat.zero_le _, Nat.zero_le _⟩ dX1_ofPost_54 ⟨_, rfl, by rw [aOfPost, h5, ejp]; rfl, mEq.rf _⟩
      · refine r_tableIn G 55 dX1_ofPost_11 (by decide) (by decide) rfl (by decide) ?_
        refine r_aload_n G dX1_ofPost_55 rfl ?_
        refine m_geta G 9 (by decide) q1199 rfl dX1_ofPost_56 ?_
        refine r_iload_n G dX1_ofPost_59 rfl ?_
        refine m_ald G hD 9 (by decide) (by simp only [mN]; omega) (v := (nI (ld jp))) (hV.ld hjp) dX1_ofPost_60 ?_
        exact r_iret G rfl ⟨Nat.zero_le _, Nat.zero_le _⟩ dX1_ofPost_61 ⟨_, rfl, by rw [aOfPost, h5, ejp]; rfl, mEq.rf _⟩
      · refine r_tableIn G 62 dX1_ofPost_11 (by decide) (by decide) rfl (by decide) ?_
        refine r_aload_n G dX1_ofPost_62 rfl ?_
        refine r_iload_n G dX1_ofPost_63 rfl ?_
        refine m_callV G [.int (nI jp)] (mM_worthOf hE hD (S := S) hV jp hjp) (lw_V q1327 q1329 qs47 q74 q1330) fy_yX1_worthOf rfl rfl ⟨Nat.le_of_ble_eq_true rfl, Nat.le_of_ble_eq_true rfl⟩ rfl (Nat.le_of_ble_eq_true rfl) rfl rfl ⟨Nat.zero_le _, Nat.zero_le _⟩ dX1_ofPost_64 (fun v64 S64 hp64 => ?_)
        obtain ⟨rfl, rfl⟩ := hp64
        show K (mH g o ad S) 0 0 67 [some (.ref o), some (.int (nI jp)), some (.int (nI 2))] [.int (nI (wv kd ld jp))]
        exact r_iret G rfl ⟨Nat.zero_le _, Nat.zero_le _⟩ dX1_ofPost_67 ⟨_, rfl, by rw [aOfPost, h5, ejp]; rfl, mEq.rf _⟩
      · refine r_tableIn G 68 dX1_ofPost_11 (by decide) (by decide) rfl (by decide) ?_
        refine r_aload_n G dX1_ofPost_68 rfl ?_
        refine m_geta G 7 (by decide) q1197 rfl dX1_ofPost_69 ?_
        refine r_iload_n G dX1_ofPost_72 rfl ?_
        refine m_ald G hD 7 (by decide) (by simp only [mN]; omega) (v := (nI (tw jp))) (hV.tw hjp) dX1_ofPost_73 ?_
        refine s_callS G [.int (nI (tw jp))] (sM_size hE (tw jp) (by have := hV.t8 (p := jp) hjp; omega)) (lw_S q1331 q1332 q74 q1333) fy_yX1_size rfl ⟨Nat.le_of_ble_eq_true rfl, Nat.le_of_ble_eq_true rfl⟩ rfl (Nat.le_of_ble_eq_true rfl) rfl rfl ⟨Nat.zero_le _, Nat.zero_le _⟩ dX1_ofPost_74 ?_
        exact r_iret G rfl ⟨Nat.zero_le _, Nat.zero_le _⟩ dX1_ofPost_77 ⟨_, rfl, by rw [aOfPost, h5, ejp]; rfl, mEq.rf _⟩
      · refine r_tableIn G 78 dX1_ofPost_11 (by decide) (by decide) rfl (by decide) ?_
        refine r_aload_n G dX1_ofPost_78 rfl ?_
        refine m_geta G 7 (by decide) q1197 rfl dX1_ofPost_79 ?_
        refine r_iload_n G dX1_ofPost_82 rfl ?_
        refine m_ald G hD 7 (by decide) (by simp only [mN]; omega) (v := (nI (tw jp))) (hV.tw hjp) dX1_ofPost_83 ?_
        exact r_iret G rfl ⟨Nat.zero_le _, Nat.zero_le _⟩ dX1_ofPost_84 ⟨_, rfl, by rw [aOfPost, h5, ejp]; rfl, mEq.rf _⟩
      · refine r_tableIn G 85 dX1_ofPost_11 (by decide) (by decide) rfl (by decide) ?_
        refine r_aload_n G dX1_ofPost_85 rfl ?_
        refine m_callV G [] (mM_findFars hE hD hV T) (lw_V q1334 q1336 qs48 q74 q1337) fy_yX1_findFars rfl rfl ⟨Nat.le_of_ble_eq_true rfl, Nat.le_of_ble_eq_true rfl⟩ rfl (Nat.le_of_ble_eq_true rfl) rfl rfl ⟨Nat.zero_le _, Nat.zero_le _⟩ dX1_ofPost_86 (fun v86 S86 hp86 => ?_)
        obtain ⟨rfl, fa86, rfl, hF86⟩ := hp86
        show K (mH g o ad (mArr S 15 fa86)) 0 0 89 [some (.ref o), some (.int (nI jp)), some (.int (nI 5))] []
        refine r_aload_n G dX1_ofPost_89 rfl ?_
        refine r_iload_n G dX1_ofPost_90 rfl ?_
        refine m_callV G [.int (nI jp)] (mM_farthestFrom hE hD (S := (mArr S 15 fa86)) hV.1 hn8 hF86 jp hjp) (lw_V q1338 q1340 qs49 q74 q1341) fy_yX1_farthestFrom rfl rfl ⟨Nat.le_of_ble_eq_true rfl, Nat.le_of_ble_eq_true rfl⟩ rfl (Nat.le_of_ble_eq_true rfl) rfl rfl ⟨Nat.zero_le _, Nat.zero_le _⟩ dX1_ofPost_91 (fun v91 S91 hp91 => ?_)
        obtain ⟨rfl, rfl⟩ := hp91
        show K (mH g o ad (mArr S 15 fa86)) 0 0 94 [some (.ref o), some (.int (nI jp)), some (.int (nI 5))] [.int (nI (maxN n (d jp)))]
        exact r_iret G rfl ⟨Nat.zero_le _, Nat.zero_le _⟩ dX1_ofPost_94 ⟨_, rfl, by rw [aOfPost, h5, ejp]; rfl, mEq.arr S _ (by decide)⟩
  · refine r_iconst G (v := -1) dX1_ofPost_8 (by decide) ?_
    exact r_iret G rfl ⟨Nat.zero_le _, Nat.zero_le _⟩ dX1_ofPost_9 ⟨_, rfl, by simp [aOfPost, h5], mEq.rf _⟩
set_option maxHeartbeats 4000000 in
theorem mM_part {l : Launch} {g : fG} {A : Nat → Prop} {En : State → Prop} (hE : fEnv g A En) {o : Nat} {ad : Nat → Nat} (hD : mD A o ad) {S : mS} {n : Nat} {tw kd ld : Nat → Nat} {d : Nat → Nat → Nat} (hV : mV S n tw kd ld) (hT : n ≠ 0 → 2 ≤ n ∧ TM n tw d) (a b : Int32): mC l g A En o ad yX1_part cX1_part 5 (some .int) (fR 2) [.int a, .int b] S (fun v S' => v = some (.int (aPart n tw kd ld d a b)) ∧ mEq S S') := by
  refine fC.of (by decide) hE [some (.ref o), some (.int a), some (.int b), none, none] rfl rfl (fun K G => ?_)
  have G : fGood l g A En RX1 "part" cX1_part 5 (some .int) (fR 2) _ K := G
  have hn8 := hV.2.1
  refine r_aload_n G dX1_part_0 rfl ?_
  refine r_iload_n G dX1_part_1 rfl ?_
  refine r_iload_n G dX1_part_2 rfl ?_
  refine m_callV G [.int a, .int b] (mM_areTwo hE hD n hV.1 a b) (lw_V q1358 q1360 qs51 q74 q1361) fy_yX1_areTwo rfl rfl ⟨Nat.le_of_ble_eq_true rfl, Nat.le_of_ble_eq_true rfl⟩ rfl (Nat.le_of_ble_eq_true rfl) rfl rfl ⟨Nat.zero_le _, Nat.zero_le _⟩ dX1_part_3 (fun v3 S3 hp3 => ?_)
  obtain ⟨rfl, rfl⟩ := hp3
  show K (mH g o ad S) 0 0 6 [some (.ref o), some (.int a), some (.int b), none, none] [.int (bI (isP n a && isP n b && !decide (a = b)))]
  refine r_ifb_ne G 11  dX1_part_6 (by decide) (fun h6 => ?_) (fun h6 => ?_)
  · rw [Bool.and_eq_true, Bool.and_eq_true] at h6
    obtain ⟨⟨h6a, h6b⟩, h6c⟩ := h6
    obtain ⟨ja, hja, rfl⟩ := isP_t (by omega) h6a
    obtain ⟨jb, hjb, rfl⟩ := isP_t (by omega) h6b
    have eja : ix (nI ja) = ja := ix_nI (by omega)
    have ejb : ix (nI jb) = jb := ix_nI (by omega)
    obtain ⟨h2n, T⟩ := hT (by omega)
    refine r_aload_n G dX1_part_11 rfl ?_
    refine m_geta G 7 (by decide) q1197 rfl dX1_part_12 ?_
    refine r_iload_n G dX1_part_15 rfl ?_
    refine m_ald G hD 7 (by decide) (by simp only [mN]; omega) (v := (nI (tw ja))) (hV.tw (by omega)) dX1_part_16 ?_
    refine r_iload_n G dX1_part_17 rfl ?_
    refine s_callS G [.int (nI (tw ja)), .int (nI jb)] (sM_isOf hE (tw ja) jb (by have := hV.t8 (p := ja) (by omega); omega) (by omega)) (lw_S q1312 q1313 q74 q1314) fy_yX1_isOf rfl ⟨Nat.le_of_ble_eq_true rfl, Nat.le_of_ble_eq_true rfl⟩ rfl (Nat.le_of_ble_eq_true rfl) rfl rfl ⟨Nat.zero_le _, Nat.zero_le _⟩ dX1_part_18 ?_
    refine r_ifb_ne G 27  dX1_part_21 (by decide) (fun h21 => ?_) (fun h21 => ?_)
    · refine r_aload_n G dX1_part_27 rfl ?_
      refine m_callV G [] (mM_findFars hE hD hV T) (lw_V q1334 q1336 qs48 q74 q1337) fy_yX1_findFars rfl rfl ⟨Nat.le_of_ble_eq_true rfl, Nat.le_of_ble_eq_true rfl⟩ rfl (Nat.le_of_ble_eq_true rfl) rfl rfl ⟨Nat.zero_le _, Nat.zero_le _⟩ dX1_part_28 (fun v28 S28 hp28 => ?_)
      obtain ⟨rfl, fa28, rfl, hF28⟩ := hp28
      show K (mH g o ad (mArr S 15 fa28)) 0 0 31 [some (.ref o), some (.int (nI ja)), some (.int (nI jb)), none, none] []
      refine r_iconst G (v := nI 0) dX1_part_31 (by decide) ?_
      refine r_istore_n G (lo' := [some (.ref o), some (.int (nI ja)), some (.int (nI jb)), some (.int (nI 0)), none]) dX1_part_32 rfl rfl ?_
      refine r_iconst G (v := nI 0) dX1_part_33 (by decide) ?_
      refine r_istore G (lo' := [some (.ref o), some (.int (nI ja)), some (.int (nI jb)), some (.int (nI 0)), some (.int (nI 0))]) dX1_part_34 rfl rfl ?_
      have L36 : ∀ (fu : Nat) (p m : Nat), (p ≤ n) → (m = setN p (fun q => decide (d q ja < d q jb))) → n - p < fu → K (mH g o ad (mArr S 15 fa28)) 0 0 36 [some (.ref o), some (.int (nI ja)), some (.int (nI jb)), some (.int (nI m)), some (.int (nI p))] [] := by
        intro fu
        induction fu with
        | zero => intro p m hp hm hm36; exact absurd hm36 (Nat.not_lt_zero _)
        | succ fu36 ih36 =>
          intro p m hp hm hm36
          refine r_iload G dX1_part_36 rfl ?_
          refine r_aload_n G dX1_part_38 rfl ?_
          refine m_gets G 5 (by decide) q1195 rfl (v := (nI n)) hV.1 dX1_part_39 ?_
          refine r_icmp_ge G 89 (nI_leI (by have := hV.2.1; omega) (by omega)) dX1_part_42 (by decide) (fun h42 => ?_) (fun h42 => ?_)
          · refine r_aload_n G dX1_part_89 rfl ?_
            refine r_iload_n G dX1_part_90 rfl ?_
            refine m_callV G [.int (nI m)] (mM_worthOfSet hE hD (S := (mArr S 15 fa28)) (mEq.v (mEq.arr S fa28 (by decide)) hV) m (by rw [hm]; exact Nat.lt_trans (Nat.lt_of_lt_of_le (setN_lt _ _) (Nat.pow_le_pow_right (by decide) (show p ≤ 8 by omega))) (by decide))) (lw_V q1398 q1400 qs60 q74 q1401) fy_yX1_worthOfSet rfl rfl ⟨Nat.le_of_ble_eq_true rfl, Nat.le_of_ble_eq_true rfl⟩ rfl (Nat.le_of_ble_eq_true rfl) rfl rfl ⟨Nat.zero_le _, Nat.zero_le _⟩ dX1_part_91 (fun v91 S91 hp91 => ?_)
            obtain ⟨rfl, rfl⟩ := hp91
            show K (mH g o ad (mArr S 15 fa28)) 0 0 94 [some (.ref o), some (.int (nI ja)), some (.int (nI jb)), some (.int (nI m)), some (.int (nI p))] [.int (nI (ws n kd ld m))]
            exact r_iret G rfl ⟨Nat.zero_le _, Nat.zero_le _⟩ dX1_part_94 ⟨_, rfl, by obtain rfl : p = n := (by omega); rw [aPart, h6a, h6b, h6c, eja, ejb, h21, hm]; rfl, mEq.arr S _ (by decide)⟩
          · refine r_iload_n G dX1_part_45 rfl ?_
            refine r_aload_n G dX1_part_46 rfl ?_
            refine m_geta G 15 (by decide) q1205 rfl dX1_part_47 ?_
            refine r_bipush G (v := nI 8) dX1_part_50 (by decide) ?_
            refine r_iload G dX1_part_52 rfl ?_
            refine r_imul G (v := (nI (8 * p))) dX1_part_54 (pk_mul 8 p) ?_
            refine r_iload_n G dX1_part_55 rfl ?_
            refine r_iadd G (v := (nI ((8 * p) + ja))) dX1_part_56 (nI_add (8 * p) ja) ?_
            refine m_ald G hD 15 (by decide) (by simp only [mN]; omega) (v := (nI (d p ja))) (hF28 p (by omega) ja (by omega)).1 dX1_part_57 ?_
            refine r_aload_n G dX1_part_58 rfl ?_
            refine m_geta G 15 (by decide) q1205 rfl dX1_part_59 ?_
            refine r_bipush G (v := nI 8) dX1_part_62 (by decide) ?_
            refine r_iload G dX1_part_64 rfl ?_
            refine r_imul G (v := (nI (8 * p))) dX1_part_66 (pk_mul 8 p) ?_
            refine r_iload_n G dX1_part_67 rfl ?_
            refine r_iadd G (v := (nI ((8 * p) + jb))) dX1_part_68 (nI_add (8 * p) jb) ?_
            refine m_ald G hD 15 (by decide) (by simp only [mN]; omega) (v := (nI (d p jb))) (hF28 p (by omega) jb (by omega)).1 dX1_part_69 ?_
            refine r_icmp_ge G 80 (nI_leI (Nat.lt_trans (hF28 p (by omega) jb (by omega)).2 (by decide)) (Nat.lt_trans (hF28 p (by omega) ja (by omega)).2 (by decide))) dX1_part_70 (by decide) (fun h70 => ?_) (fun h70 => ?_)
            · refine r_iconst G (v := nI 0) dX1_part_80 (by decide) ?_
              refine r_ior G (v := (nI (m ||| 0))) dX1_part_81 (n_or m 0) ?_
              refine r_istore_n G (lo' := [some (.ref o), some (.int (nI ja)), some (.int (nI jb)), some (.int (nI (m ||| 0))), some (.int (nI p))]) dX1_part_82 rfl rfl ?_
              refine r_iinc G (v := (nI (p + 1))) (lo' := [some (.ref o), some (.int (nI ja)), some (.int (nI jb)), some (.int (nI (m ||| 0))), some (.int (nI (p + 1)))]) dX1_part_83 rfl (nI_add p 1) rfl rfl ?_
              refine r_goto G 36 dX1_part_86 (by decide) ?_
              exact ih36 _ _ (by omega) (by rw [setN_s, hm]; first | simp [Nat.not_lt.mpr h70] | simp [Nat.not_le.mp h70]) (by omega)
            · refine r_iconst G (v := nI 1) dX1_part_73 (by decide) ?_
              refine r_iload G dX1_part_74 rfl ?_
              refine r_ishl G (v := (nI (1 <<< p))) dX1_part_76 (n_shl (by omega)) ?_
              refine r_goto G 81 dX1_part_77 (by decide) ?_
              refine r_ior G (v := (nI (m ||| (1 <<< p)))) dX1_part_81 (n_or m (1 <<< p)) ?_
              refine r_istore_n G (lo' := [some (.ref o), some (.int (nI ja)), some (.int (nI jb)), some (.int (nI (m ||| (1 <<< p)))), some (.int (nI p))]) dX1_part_82 rfl rfl ?_
              refine r_iinc G (v := (nI (p + 1))) (lo' := [some (.ref o), some (.int (nI ja)), some (.int (nI jb)), some (.int (nI (m ||| (1 <<< p)))), some (.int (nI (p + 1)))]) dX1_part_83 rfl (nI_add p 1) rfl rfl ?_
              refine r_goto G 36 dX1_part_86 (by decide) ?_
              exact ih36 _ _ (by omega) (by rw [setN_s, hm]; first | simp [Nat.not_lt.mpr h70] | simp [Nat.not_le.mp h70]) (by omega)
      exact L36 (n + 1) 0 0 (Nat.zero_le _) rfl (by omega)
    · refine r_bipush G (v := -3) dX1_part_24 (by decide) ?_
      exact r_iret G rfl ⟨Nat.zero_le _, Nat.zero_le _⟩ dX1_part_26 ⟨_, rfl, by rw [aPart, h6a, h6b, h6c, eja, ejb, h21]; rfl, mEq.rf _⟩
  · refine r_iconst G (v := -1) dX1_part_9 (by decide) ?_
    exact r_iret G rfl ⟨Nat.zero_le _, Nat.zero_le _⟩ dX1_part_10 ⟨_, rfl, by simp only [aPart, h6]; rfl, mEq.rf _⟩
set_option maxHeartbeats 4000000 in
theorem mM_wayOf {l : Launch} {g : fG} {A : Nat → Prop} {En : State → Prop} (hE : fEnv g A En) {o : Nat} {ad : Nat → Nat} (hD : mD A o ad) {S : mS} {n : Nat} {d : Nat → Nat → Nat} (hn : S.1 5 = nI n) (hn8 : n ≤ 8) (hF : mFar S n d) (a b : Nat) (ha : a < n) (hb : b < n): mC l g A En o ad yX1_wayOf cX1_wayOf 6 (some .int) (fR 0) [.int (nI a), .int (nI b)] S (fun v S' => v = some (.int (nI (wy n d a b))) ∧ S = S') := by
  refine fC.of (by decide) hE [some (.ref o), some (.int (nI a)), some (.int (nI b)), none, none, none] rfl rfl (fun K G => ?_)
  have G : fGood l g A En RX1 "wayOf" cX1_wayOf 6 (some .int) (fR 0) _ K := G
  refine r_iconst G (v := nI 0) dX1_wayOf_0 (by decide) ?_
  refine r_istore_n G (lo' := [some (.ref o), some (.int (nI a)), some (.int (nI b)), some (.int (nI 0)), none, none]) dX1_wayOf_1 rfl rfl ?_
  refine r_iconst G (v := nI 0) dX1_wayOf_2 (by decide) ?_
  refine r_istore G (lo' := [some (.ref o), some (.int (nI a)), some (.int (nI b)), some (.int (nI 0)), some (.int (nI 0)), none]) dX1_wayOf_3 rfl rfl ?_
  have L5 : ∀ (fu : Nat) (p m : Nat), (p ≤ n) → (m = setN p (fun q => decide (d a q + d q b = d a b))) → n - p < fu → K (mH g o ad S) 0 0 5 [some (.ref o), some (.int (nI a)), some (.int (nI b)), some (.int (nI m)), some (.int (nI p)), none] [] := by
    intro fu
    induction fu with
    | zero => intro p m hp hm hm5; exact absurd hm5 (Nat.not_lt_zero _)
    | succ fu5 ih5 =>
      intro p m hp hm hm5
      refine r_iload G dX1_wayOf_5 rfl ?_
      refine r_aload_n G dX1_wayOf_7 rfl ?_
      refine m_gets G 5 (by decide) q1195 rfl (v := (nI n)) hn dX1_wayOf_8 ?_
      refine r_icmp_ge G 82 (nI_leI (by omega) (by omega)) dX1_wayOf_11 (by decide) (fun h11 => ?_) (fun h11 => ?_)
      · refine r_iload_n G dX1_wayOf_82 rfl ?_
        exact r_iret G rfl ⟨Nat.zero_le _, Nat.zero_le _⟩ dX1_wayOf_83 ⟨_, rfl, rv (by obtain rfl : p = n := (by omega); exact hm), rfl⟩
      · refine r_aload_n G dX1_wayOf_14 rfl ?_
        refine m_geta G 15 (by decide) q1205 rfl dX1_wayOf_15 ?_
        refine r_bipush G (v := nI 8) dX1_wayOf_18 (by decide) ?_
        refine r_iload_n G dX1_wayOf_20 rfl ?_
        refine r_imul G (v := (nI (8 * a))) dX1_wayOf_21 (pk_mul 8 a) ?_
        refine r_iload G dX1_wayOf_22 rfl ?_
        refine r_iadd G (v := (nI ((8 * a) + p))) dX1_wayOf_24 (nI_add (8 * a) p) ?_
        refine m_ald G hD 15 (by decide) (by simp only [mN]; omega) (v := (nI (d a p))) (hF a ha p (by omega)).1 dX1_wayOf_25 ?_
        refine r_aload_n G dX1_wayOf_26 rfl ?_
        refine m_geta G 15 (by decide) q1205 rfl dX1_wayOf_27 ?_
        refine r_bipush G (v := nI 8) dX1_wayOf_30 (by decide) ?_
        refine r_iload G dX1_wayOf_32 rfl ?_
        refine r_imul G (v := (nI (8 * p))) dX1_wayOf_34 (pk_mul 8 p) ?_
        refine r_iload_n G dX1_wayOf_35 rfl ?_
        refine r_iadd G (v := (nI ((8 * p) + b))) dX1_wayOf_36 (nI_add (8 * p) b) ?_
        refine m_ald G hD 15 (by decide) (by simp only [mN]; omega) (v := (nI (d p b))) (hF p (by omega) b hb).1 dX1_wayOf_37 ?_
        refine r_iadd G (v := (nI ((d a p) + (d p b)))) dX1_wayOf_38 (nI_add (d a p) (d p b)) ?_
        refine r_aload_n G dX1_wayOf_39 rfl ?_
        refine m_geta G 15 (by decide) q1205 rfl dX1_wayOf_40 ?_
        refine r_bipush G (v := nI 8) dX1_wayOf_43 (by decide) ?_
        refine r_iload_n G dX1_wayOf_45 rfl ?_
        refine r_imul G (v := (nI (8 * a))) dX1_wayOf_46 (pk_mul 8 a) ?_
        refine r_iload_n G dX1_wayOf_47 rfl ?_
        refine r_iadd G (v := (nI ((8 * a) + b))) dX1_wayOf_48 (nI_add (8 * a) b) ?_
        refine m_ald G hD 15 (by decide) (by simp only [mN]; omega) (v := (nI (d a b))) (hF a ha b hb).1 dX1_wayOf_49 ?_
        refine r_icmp_ne G 57 (nI_eq (by have := (hF a ha p (by omega)).2; have := (hF p (by omega) b hb).2; omega) (Nat.lt_trans (hF a ha b hb).2 (by decide))) dX1_wayOf_50 (by decide) (fun h50 => ?_) (fun h50 => ?_)
        · refine r_iconst G (v := nI 0) dX1_wayOf_57 (by decide) ?_
          refine r_istore G (lo' := [some (.ref o), some (.int (nI a)), some (.int (nI b)), some (.int (nI m)), some (.int (nI p)), some (.int (nI 0))]) dX1_wayOf_58 rfl rfl ?_
          refine r_iload_n G dX1_wayOf_60 rfl ?_
          refine r_iload G dX1_wayOf_61 rfl ?_
          refine r_if_eq G 73 (n_eq0 (by decide)) dX1_wayOf_63 (by decide) (fun h63 => ?_) (fun h63 => False.elim (absurd h63 (by decide)))
          refine r_iconst G (v := nI 0) dX1_wayOf_73 (by decide) ?_
          refine r_ior G (v := (nI (m ||| 0))) dX1_wayOf_74 (n_or m 0) ?_
          refine r_istore_n G (lo' := [some (.ref o), some (.int (nI a)), some (.int (nI b)), some (.int (nI (m ||| 0))), some (.int (nI p)), some (.int (nI 0))]) dX1_wayOf_75 rfl rfl ?_
          refine r_iinc G (v := (nI (p + 1))) (lo' := [some (.ref o), some (.int (nI a)), some (.int (nI b)), some (.int (nI (m ||| 0))), some (.int (nI (p + 1))), some (.int (nI 0))]) dX1_wayOf_76 rfl (nI_add p 1) rfl rfl ?_
          refine r_goto G 5 dX1_wayOf_79 (by decide) ?_
          refine r_drop G 5 (lo' := [some (.ref o), some (.int (nI a)), some (.int (nI b)), some (.int (nI (m ||| 0))), some (.int (nI (p + 1))), none]) rfl ?_
          exact ih5 _ _ (by omega) (by rw [setN_s, hm]; simp [h50]) (by omega)
        · refine r_iconst G (v := nI 1) dX1_wayOf_53 (by decide) ?_
          refine r_goto G 58 dX1_wayOf_54 (by decide) ?_
          refine r_istore G (lo' := [some (.ref o), some (.int (nI a)), some (.int (nI b)), some (.int (nI m)), some (.int (nI p)), some (.int (nI 1))]) dX1_wayOf_58 rfl rfl ?_
          refine r_iload_n G dX1_wayOf_60 rfl ?_
          refine r_iload G dX1_wayOf_61 rfl ?_
          refine r_if_eq G 73 (n_eq0 (by decide)) dX1_wayOf_63 (by decide) (fun h63 => False.elim (absurd h63 (by decide))) (fun h63 => ?_)
          refine r_iconst G (v := nI 1) dX1_wayOf_66 (by decide) ?_
          refine r_iload G dX1_wayOf_67 rfl ?_
          refine r_ishl G (v := (nI (1 <<< p))) dX1_wayOf_69 (n_shl (by omega)) ?_
          refine r_goto G 74 dX1_wayOf_70 (by decide) ?_
          refine r_ior G (v := (nI (m ||| (1 <<< p)))) dX1_wayOf_74 (n_or m (1 <<< p)) ?_
          refine r_istore_n G (lo' := [some (.ref o), some (.int (nI a)), some (.int (nI b)), some (.int (nI (m ||| (1 <<< p)))), some (.int (nI p)), some (.int (nI 1))]) dX1_wayOf_75 rfl rfl ?_
          refine r_iinc G (v := (nI (p + 1))) (lo' := [some (.ref o), some (.int (nI a)), some (.int (nI b)), some (.int (nI (m ||| (1 <<< p)))), some (.int (nI (p + 1))), some (.int (nI 1))]) dX1_wayOf_76 rfl (nI_add p 1) rfl rfl ?_
          refine r_goto G 5 dX1_wayOf_79 (by decide) ?_
          refine r_drop G 5 (lo' := [some (.ref o), some (.int (nI a)), some (.int (nI b)), some (.int (nI (m ||| (1 <<< p)))), some (.int (nI (p + 1))), none]) rfl ?_
          exact ih5 _ _ (by omega) (by rw [setN_s, hm]; simp [h50]) (by omega)
  exact L5 (n + 1) 0 0 (Nat.zero_le _) rfl (by omega)
theorem lcmp0 {y : Nat} (h : y < 2 ^ 63) : lg_cmp (lN y) (lN 0) = 0 ↔ y = 0 := by
  unfold lg_cmp
  rcases Nat.eq_zero_or_pos y with e | e
  · subst e
    decide
  · constructor
    · intro hc
      have h1 : ¬ lN y < lN 0 := fun q => by have := (pk_lLT h (by decide)).mp q; omega
      have h2 : ¬ lN y = lN 0 := fun q => by have := (pk_lEQ h (by decide)).mp q; omega
      exfalso
      revert hc
      simp only [h1, h2, if_false, gt_iff_lt]
      split <;> decide
    · intro q; omega
set_option maxHeartbeats 4000000 in
theorem sM_inLeastTerms {l : Launch} {g : fG} {A : Nat → Prop} {En : State → Prop} (hE : fEnv g A En) (u v : Nat) (k : Int32) (hu : u < 2 ^ 31) (hv : v < 2 ^ 31) (hv0 : 0 < v): sC l g A En yX1_inLeastTerms cX1_inLeastTerms 11 (some .long) (fR 0) [.long (lN u), .long (lN v), .int k] (.long (lN ((if k = nI 0 then u else v) / Nat.gcd u v))) := by
  intro f
  refine fC.of (by decide) hE [some (.long (lN u)), none, some (.long (lN v)), none, some (.int k), none, none, none, none, none, none] rfl rfl (fun K G => ?_)
  have G : fGood l g A En RX1 "inLeastTerms" cX1_inLeastTerms 11 (some .long) (fR 0) _ K := G
  refine r_lload_n G dX1_inLeastTerms_0 rfl ?_
  refine r_lstore G (lo' := [some (.long (lN u)), none, some (.long (lN v)), none, some (.int k), some (.long (lN u)), none, none, none, none, none]) dX1_inLeastTerms_1 rfl rfl rfl ?_
  refine r_lload_n G dX1_inLeastTerms_3 rfl ?_
  refine r_lstore G (lo' := [some (.long (lN u)), none, some (.long (lN v)), none, some (.int k), some (.long (lN u)), none, some (.long (lN v)), none, none, none]) dX1_inLeastTerms_4 rfl rfl rfl ?_
  have L6 : ∀ (fu : Nat) (x y : Nat), (x < 2 ^ 31) → (y < 2 ^ 31) → (Nat.gcd x y = Nat.gcd u v) → y < fu → K f 0 0 6 [some (.long (lN u)), none, some (.long (lN v)), none, some (.int k), some (.long (lN x)), none, some (.long (lN y)), none, none, none] [] := by
    intro fu
    induction fu with
    | zero => intro x y hx hy hg hm6; exact absurd hm6 (Nat.not_lt_zero _)
    | succ fu6 ih6 =>
      intro x y hx hy hg hm6
      refine r_lload G dX1_inLeastTerms_6 rfl ?_
      refine r_lconst G (v := lN 0) dX1_inLeastTerms_8 (by decide) ?_
      refine r_lcmp G dX1_inLeastTerms_9 ?_
      refine r_if_eq G 31 (lcmp0 (by omega)) dX1_inLeastTerms_10 (by decide) (fun h10 => ?_) (fun h10 => ?_)
      · have hx0 : x = Nat.gcd u v := (by subst h10; rw [← hg, Nat.gcd_zero_right])
        have hxp : 0 < x := by rw [hx0]; exact Nat.gcd_pos_of_pos_right _ hv0
        refine r_iload G dX1_inLeastTerms_31 rfl ?_
        refine r_if_ne G 43 Iff.rfl dX1_inLeastTerms_33 (by decide) (fun h33 => ?_) (fun h33 => ?_)
        · refine r_lload_n G dX1_inLeastTerms_43 rfl ?_
          refine r_lload G dX1_inLeastTerms_44 rfl ?_
          refine r_ldiv G (v := (lN (v / x))) dX1_inLeastTerms_46 (n_lne0 (by omega) (by omega)) (pk_lDiv (by omega) (by omega) (by omega)) ?_
          exact r_lret G rfl ⟨Nat.zero_le _, Nat.zero_le _⟩ dX1_inLeastTerms_47 ⟨rfl, by rw [← hx0, if_neg (fun e => h33 (e.trans nI_0))]⟩
        · refine r_lload_n G dX1_inLeastTerms_36 rfl ?_
          refine r_lload G dX1_inLeastTerms_37 rfl ?_
          refine r_ldiv G (v := (lN (u / x))) dX1_inLeastTerms_39 (n_lne0 (by omega) (by omega)) (pk_lDiv (by omega) (by omega) (by omega)) ?_
          refine r_goto G 47 dX1_inLeastTerms_40 (by decide) ?_
          exact r_lret G rfl ⟨Nat.zero_le _, Nat.zero_le _⟩ dX1_inLeastTerms_47 ⟨rfl, by rw [← hx0, if_pos (h33.trans nI_0.symm)]⟩
      · refine r_lload G dX1_inLeastTerms_13 rfl ?_
        refine r_lload G dX1_inLeastTerms_15 rfl ?_
        refine r_lrem G (v := (lN (x % y))) dX1_inLeastTerms_17 (n_lne0 (by omega) (by omega)) (pk_lRem (by omega) (by omega) (by omega)) ?_
        refine r_lstore G (lo' := [some (.long (lN u)), none, some (.long (lN v)), none, some (.int k), some (.long (lN x)), none, some (.long (lN y)), none, some (.long (lN (x % y))), none]) dX1_inLeastTerms_18 rfl rfl rfl ?_
        refine r_lload G dX1_inLeastTerms_20 rfl ?_
        refine r_lstore G (lo' := [some (.long (lN u)), none, some (.long (lN v)), none, some (.int k), some (.long (lN y)), none, some (.long (lN y)), none, some (.long (lN (x % y))), none]) dX1_inLeastTerms_22 rfl rfl rfl ?_
        refine r_lload G dX1_inLeastTerms_24 rfl ?_
        refine r_lstore G (lo' := [some (.long (lN u)), none, some (.long (lN v)), none, some (.int k), some (.long (lN y)), none, some (.long (lN (x % y))), none, some (.long (lN (x % y))), none]) dX1_inLeastTerms_26 rfl rfl rfl ?_
        refine r_goto G 6 dX1_inLeastTerms_28 (by decide) ?_
        refine r_drop G 9 (lo' := [some (.long (lN u)), none, some (.long (lN v)), none, some (.int k), some (.long (lN y)), none, some (.long (lN (x % y))), none, none, none]) rfl ?_
        exact ih6 _ _ (by omega) (by have := Nat.mod_lt x (show y > 0 by omega); omega) (by rw [← hg, Nat.gcd_comm, ← Nat.gcd_rec, Nat.gcd_comm]) (by have := Nat.mod_lt x (show y > 0 by omega); omega)
  exact L6 (v + 1) u v (by omega) (by omega) rfl (by omega)
end MM5
