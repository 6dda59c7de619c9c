/-! the reference: readings, odds, loners -/
set_option maxRecDepth 100000
section MM6
def mRd (S : mS) (n rn : Nat) (ra rt rw : Nat → Nat) : Prop := S.1 23 = nI rn ∧ rn ≤ 8 ∧ ∀ q, q < rn → S.2 24 q = nI (ra q) ∧ ra q < n ∧ S.2 25 q = nI (rt q) ∧ rt q < n ∧ S.2 26 q = nI (rw q) ∧ rw q ≤ 200
theorem upd_all {f g : Nat → Int32} {p : Nat} {x : Int32} (h : ∀ q, q ≠ p → f q = g q) (hx : x = g p) : upd f p x = g := by
  funext q
  by_cases e : q = p
  · subst e; rw [pk_us, hx]
  · rw [pk_un e, h q e]
theorem upd_off {f g : Nat → Int32} {p : Nat} {x : Int32} (h : ∀ q, q ≠ p → f q = g q) : ∀ q, q ≠ p → upd f p x q = g q := fun q e => by rw [pk_un e, h q e]
theorem mV_ld {S : mS} {n : Nat} {tw kd ld : Nat → Nat} (hV : mV S n tw kd ld) {p v : Nat} (hv : v ≤ 9) {S' : mS} {fl : Nat → Int32} (h1 : S'.1 5 = S.1 5) (h7 : S'.2 7 = S.2 7) (h8 : S'.2 8 = S.2 8) (h9 : S'.2 9 = upd fl p (nI v)) (hl : ∀ q, q ≠ p → fl q = S.2 9 q) : mV S' n tw kd (fup ld p v) :=
  ⟨h1.trans hV.1, hV.2.1, fun q hq => ⟨by rw [h7]; exact hV.tw hq, (hV.2.2 q hq).2.1, by rw [h8]; exact hV.kd hq, hV.k2 hq, by
    rw [h9]
    unfold fup
    by_cases e : q = p
    · subst e; rw [pk_us, if_pos rfl]
    · rw [pk_un e, if_neg e, hl q e]; exact hV.ld hq, by
    unfold fup
    split
    · exact hv
    · exact hV.l9 hq⟩⟩
theorem mV_kd {S : mS} {n : Nat} {tw kd ld : Nat → Nat} (hV : mV S n tw kd ld) {p v : Nat} (hv : v ≤ 2) {S' : mS} {fl : Nat → Int32} (h1 : S'.1 5 = S.1 5) (h7 : S'.2 7 = S.2 7) (h9 : S'.2 9 = S.2 9) (h8 : S'.2 8 = upd fl p (nI v)) (hl : ∀ q, q ≠ p → fl q = S.2 8 q) : mV S' n tw (fup kd p v) ld :=
  ⟨h1.trans hV.1, hV.2.1, fun q hq => ⟨by rw [h7]; exact hV.tw hq, (hV.2.2 q hq).2.1, by
    rw [h8]
    unfold fup
    by_cases e : q = p
    · subst e; rw [pk_us, if_pos rfl]
    · rw [pk_un e, if_neg e, hl q e]; exact hV.kd hq, by
    unfold fup
    split
    · exact hv
    · exact hV.k2 hq, by rw [h9]; exact hV.ld hq, hV.l9 hq⟩⟩
set_option maxHeartbeats 4000000 in
theorem mM_areSo {l : Launch} {g : fG} {A : Nat → Prop} {En : State → Prop} (hE : fEnv g A En) {o : Nat} {ad : Nat → Nat} (hD : mD A o ad) {S : mS} {n : Nat} {tw kd ld : Nat → Nat} {d : Nat → Nat → Nat} (hV : mV S n tw kd ld) (hF : mFar S n d) {rn : Nat} {ra rt rw : Nat → Nat} (hRd : mRd S n rn ra rt rw): mC l g A En o ad yX1_areSo cX1_areSo 2 (some .boolean) (fR 2) [] S (fun v S' => v = some (.int (bI (sso n kd ld d rn ra rt rw))) ∧ S = S') := by
  refine fC.of (by decide) hE [some (.ref o), none] rfl rfl (fun K G => ?_)
  have G : fGood l g A En RX1 "areSo" cX1_areSo 2 (some .boolean) (fR 2) _ K := G
  have hn8 := hV.2.1
  have hr8 := hRd.2.1
  refine r_iconst G (v := nI 0) dX1_areSo_0 (by decide) ?_
  refine r_istore_n G (lo' := [some (.ref o), some (.int (nI 0))]) dX1_areSo_1 rfl rfl ?_
  have L2 : ∀ (fu : Nat) (q : Nat), (q ≤ rn) → (∀ t, t < q → decide (ws n kd ld (wy n d (ra t) (rt t)) = rw t) = true) → rn - q < fu → K (mH g o ad S) 0 0 2 [some (.ref o), some (.int (nI q))] [] := by
    intro fu
    induction fu with
    | zero => intro q hq hal hm2; exact absurd hm2 (Nat.not_lt_zero _)
    | succ fu2 ih2 =>
      intro q hq hal hm2
      refine r_iload_n G dX1_areSo_2 rfl ?_
      refine r_aload_n G dX1_areSo_3 rfl ?_
      refine m_gets G 23 (by decide) q1213 rfl (v := (nI rn)) hRd.1 dX1_areSo_4 ?_
      refine r_icmp_ge G 47 (nI_leI (by have := hRd.2.1; omega) (by omega)) dX1_areSo_7 (by decide) (fun h7 => ?_) (fun h7 => ?_)
      · refine r_iconst G (v := nI 1) dX1_areSo_47 (by decide) ?_
        exact r_zret G rfl (by decide) ⟨Nat.zero_le _, Nat.zero_le _⟩ dX1_areSo_48 ⟨_, rfl, rb (by rw [sso, allN_t (fun t ht => hal t (by omega))]; rfl), rfl⟩
      · refine r_aload_n G dX1_areSo_10 rfl ?_
        refine r_aload_n G dX1_areSo_11 rfl ?_
        refine r_aload_n G dX1_areSo_12 rfl ?_
        refine m_geta G 24 (by decide) q1214 rfl dX1_areSo_13 ?_
        refine r_iload_n G dX1_areSo_16 rfl ?_
        refine m_ald G hD 24 (by decide) (by simp only [mN]; omega) (v := (nI (ra q))) (hRd.2.2 q (by omega)).1 dX1_areSo_17 ?_
        refine r_aload_n G dX1_areSo_18 rfl ?_
        refine m_geta G 25 (by decide) q1215 rfl dX1_areSo_19 ?_
        refine r_iload_n G dX1_areSo_22 rfl ?_
        refine m_ald G hD 25 (by decide) (by simp only [mN]; omega) (v := (nI (rt q))) (hRd.2.2 q (by omega)).2.2.1 dX1_areSo_23 ?_
        refine m_callV G [.int (nI (ra q)), .int (nI (rt q))] (mM_wayOf hE hD (S := S) hV.1 hn8 hF (ra q) (rt q) (hRd.2.2 q (by omega)).2.1 (hRd.2.2 q (by omega)).2.2.2.1) (lw_V q1466 q1468 qs66 q74 q1469) fy_yX1_wayOf rfl rfl ⟨Nat.le_of_ble_eq_true rfl, Nat.le_of_ble_eq_true rfl⟩ rfl (Nat.le_of_ble_eq_true rfl) rfl rfl ⟨Nat.zero_le _, Nat.zero_le _⟩ dX1_areSo_24 (fun v24 S24 hp24 => ?_)
        obtain ⟨rfl, rfl⟩ := hp24
        show K (mH g o ad S) 0 0 27 [some (.ref o), some (.int (nI q))] [.int (nI (wy n d (ra q) (rt q))), .ref o]
        refine m_callV G [.int (nI (wy n d (ra q) (rt q)))] (mM_worthOfSet hE hD (S := S) hV (wy n d (ra q) (rt q)) (Nat.lt_trans (Nat.lt_of_lt_of_le (setN_lt n _) (pow_n8 hn8)) (by decide))) (lw_V q1398 q1400 qs60 q74 q1401) fy_yX1_worthOfSet rfl rfl ⟨Nat.le_of_ble_eq_true rfl, Nat.le_of_ble_eq_true rfl⟩ rfl (Nat.le_of_ble_eq_true rfl) rfl rfl ⟨Nat.zero_le _, Nat.zero_le _⟩ dX1_areSo_27 (fun v27 S27 hp27 => ?_)
        obtain ⟨rfl, rfl⟩ := hp27
        show K (mH g o ad S) 0 0 30 [some (.ref o), some (.int (nI q))] [.int (nI (ws n kd ld (wy n d (ra q) (rt q))))]
        refine r_aload_n G dX1_areSo_30 rfl ?_
        refine m_geta G 26 (by decide) q1216 rfl dX1_areSo_31 ?_
        refine r_iload_n G dX1_areSo_34 rfl ?_
        refine m_ald G hD 26 (by decide) (by simp only [mN]; omega) (v := (nI (rw q))) (hRd.2.2 q (by omega)).2.2.2.2.1 dX1_areSo_35 ?_
        refine r_icmp_eq G 41 (nI_eq (by have := ws_le (n := n) (kd := kd) (ld := ld) (fun p hp => hV.l9 hp) (wy n d (ra q) (rt q)); omega) (by have := (hRd.2.2 q (by omega)).2.2.2.2.2; omega)) dX1_areSo_36 (by decide) (fun h36 => ?_) (fun h36 => ?_)
        · refine r_iinc G (v := (nI (q + 1))) (lo' := [some (.ref o), some (.int (nI (q + 1)))]) dX1_areSo_41 rfl (nI_add q 1) rfl rfl ?_
          refine r_goto G 2 dX1_areSo_44 (by decide) ?_
          exact ih2 _ (by omega) (fun t ht => (Classical.em (t = q)).elim (fun e => by rw [e]; exact decide_eq_true h36) (fun e => hal t (by omega))) (by omega)
        · refine r_iconst G (v := nI 0) dX1_areSo_39 (by decide) ?_
          exact r_zret G rfl (by decide) ⟨Nat.zero_le _, Nat.zero_le _⟩ dX1_areSo_40 ⟨_, rfl, rb (by rw [sso, allN_f (q := q) (by omega) (decide_eq_false h36)]; rfl), rfl⟩
  exact L2 (rn + 1) 0 (Nat.zero_le _) (fun t h => absurd h (Nat.not_lt_zero _)) (by omega)
set_option maxHeartbeats 4000000 in
theorem mM_loadings {l : Launch} {g : fG} {A : Nat → Prop} {En : State → Prop} (hE : fEnv g A En) {o : Nat} {ad : Nat → Nat} (hD : mD A o ad) {S : mS} {n : Nat} {tw kd ld : Nat → Nat} {d : Nat → Nat → Nat} (hV : mV S n tw kd ld) (hT : n ≠ 0 → 2 ≤ n ∧ TM n tw d) {rn : Nat} {ra rt rw : Nat → Nat} (hRd : mRd S n rn ra rt rw) (p : Int32): mC l g A En o ad yX1_loadings cX1_loadings 5 (some .int) (fR 3) [.int p] S (fun v S' => v = some (.int (aLoadings n kd ld d rn ra rt rw p)) ∧ mEq S S') := by
  refine fC.of (by decide) hE [some (.ref o), some (.int p), none, none, none] rfl rfl (fun K G => ?_)
  have G : fGood l g A En RX1 "loadings" cX1_loadings 5 (some .int) (fR 3) _ K := G
  have hn8 := hV.2.1
  refine r_aload_n G dX1_loadings_0 rfl ?_
  refine r_iload_n G dX1_loadings_1 rfl ?_
  refine m_callV G [.int p] (mM_isPost hE hD n hV.1 p) (lw_V q1323 q1325 qs46 q74 q1326) fy_yX1_isPost rfl rfl ⟨Nat.le_of_ble_eq_true rfl, Nat.le_of_ble_eq_true rfl⟩ rfl (Nat.le_of_ble_eq_true rfl) rfl rfl ⟨Nat.zero_le _, Nat.zero_le _⟩ dX1_loadings_2 (fun v2 S2 hp2 => ?_)
  obtain ⟨rfl, rfl⟩ := hp2
  show K (mH g o ad S) 0 0 5 [some (.ref o), some (.int p), none, none, none] [.int (bI (isP n p))]
  refine r_ifb_ne G 10  dX1_loadings_5 (by decide) (fun h5 => ?_) (fun h5 => ?_)
  · obtain ⟨jp, hjp, rfl⟩ := isP_t (by omega) h5
    have ejp : ix (nI jp) = jp := ix_nI (by omega)
    obtain ⟨h2n, T⟩ := hT (by omega)
    refine r_aload_n G dX1_loadings_10 rfl ?_
    refine m_callV G [] (mM_findFars hE hD hV T) (lw_V q1334 q1336 qs48 q74 q1337) fy_yX1_findFars rfl rfl ⟨Nat.le_of_ble_eq_true rfl, Nat.le_of_ble_eq_true rfl⟩ rfl (Nat.le_of_ble_eq_true rfl) rfl rfl ⟨Nat.zero_le _, Nat.zero_le _⟩ dX1_loadings_11 (fun v11 S11 hp11 => ?_)
    obtain ⟨rfl, fa11, rfl, hF11⟩ := hp11
    show K (mH g o ad (mArr S 15 fa11)) 0 0 14 [some (.ref o), some (.int (nI jp)), none, none, none] []
    refine r_aload_n G dX1_loadings_14 rfl ?_
    refine m_geta G 9 (by decide) q1199 rfl dX1_loadings_15 ?_
    refine r_iload_n G dX1_loadings_18 rfl ?_
    refine m_ald G hD 9 (by decide) (by simp only [mN]; omega) (v := (nI (ld jp))) (hV.ld hjp) dX1_loadings_19 ?_
    refine r_istore_n G (lo' := [some (.ref o), some (.int (nI jp)), some (.int (nI (ld jp))), none, none]) dX1_loadings_20 rfl rfl ?_
    refine r_iconst G (v := nI 0) dX1_loadings_21 (by decide) ?_
    refine r_istore_n G (lo' := [some (.ref o), some (.int (nI jp)), some (.int (nI (ld jp))), some (.int (nI 0)), none]) dX1_loadings_22 rfl rfl ?_
    refine r_iconst G (v := nI 0) dX1_loadings_23 (by decide) ?_
    refine r_istore G (lo' := [some (.ref o), some (.int (nI jp)), some (.int (nI (ld jp))), some (.int (nI 0)), some (.int (nI 0))]) dX1_loadings_24 rfl rfl ?_
    have L26 : ∀ (fu : Nat) (x m : Nat) (fl : Nat → Int32), (x ≤ 10) → (m = setN x (fun v => sso n kd (fup ld jp v) d rn ra rt rw)) → (∀ q, q ≠ jp → fl q = S.2 9 q) → 10 - x < fu → K (mH g o ad (mArr (mArr S 15 fa11) 9 fl)) 0 0 26 [some (.ref o), some (.int (nI jp)), some (.int (nI (ld jp))), some (.int (nI m)), some (.int (nI x))] [] := by
      intro fu
      induction fu with
      | zero => intro x m fl hx hm hfl hm26; exact absurd hm26 (Nat.not_lt_zero _)
      | succ fu26 ih26 =>
        intro x m fl hx hm hfl hm26
        refine r_iload G dX1_loadings_26 rfl ?_
        refine r_bipush G (v := nI 9) dX1_loadings_28 (by decide) ?_
        refine r_icmp_gt G 65 (nI_ltI (by decide) (by omega)) dX1_loadings_30 (by decide) (fun h30 => ?_) (fun h30 => ?_)
        · refine r_aload_n G dX1_loadings_65 rfl ?_
          refine m_geta G 9 (by decide) q1199 rfl dX1_loadings_66 ?_
          refine r_iload_n G dX1_loadings_69 rfl ?_
          refine r_iload_n G dX1_loadings_70 rfl ?_
          refine m_ast G hD 9 (by decide) (by simp only [mN]; omega) dX1_loadings_71 ?_
          rw [mPut_arr]
          refine r_iload_n G dX1_loadings_72 rfl ?_
          exact r_iret G rfl ⟨Nat.zero_le _, Nat.zero_le _⟩ dX1_loadings_73 ⟨_, rfl, by obtain rfl : x = 10 := (by omega); rw [aLoadings, h5, ejp, hm]; rfl, by rw [upd_all hfl (hV.ld hjp).symm, show mArr (mArr S 15 fa11) 9 (S.2 9) = mArr S 15 fa11 from mArr_0 (mArr S 15 fa11) 9]; exact mEq.arr S _ (by decide)⟩
        · refine r_aload_n G dX1_loadings_33 rfl ?_
          refine m_geta G 9 (by decide) q1199 rfl dX1_loadings_34 ?_
          refine r_iload_n G dX1_loadings_37 rfl ?_
          refine r_iload G dX1_loadings_38 rfl ?_
          refine m_ast G hD 9 (by decide) (by simp only [mN]; omega) dX1_loadings_40 ?_
          rw [mPut_arr]
          refine r_iload_n G dX1_loadings_41 rfl ?_
          refine r_aload_n G dX1_loadings_42 rfl ?_
          refine m_callV G [] (mM_areSo hE hD (S := (mArr (mArr S 15 fa11) 9 (upd fl jp (nI x)))) (mV_ld hV (p := jp) (v := x) (by omega) rfl rfl rfl rfl hfl) hF11 hRd) (lw_V q1462 q1464 qs65 q74 q1465) fy_yX1_areSo rfl rfl ⟨Nat.le_of_ble_eq_true rfl, Nat.le_of_ble_eq_true rfl⟩ rfl (Nat.le_of_ble_eq_true rfl) rfl rfl ⟨Nat.zero_le _, Nat.zero_le _⟩ dX1_loadings_43 (fun v43 S43 hp43 => ?_)
          obtain ⟨rfl, rfl⟩ := hp43
          show K (mH g o ad (mArr (mArr S 15 fa11) 9 (upd fl jp (nI x)))) 0 0 46 [some (.ref o), some (.int (nI jp)), some (.int (nI (ld jp))), some (.int (nI m)), some (.int (nI x))] [.int (bI (sso n kd (fup ld jp x) d rn ra rt rw)), .int (nI m)]
          refine r_ifb_eq G 56  dX1_loadings_46 (by decide) (fun h46 => ?_) (fun h46 => ?_)
          · refine r_iconst G (v := nI 0) dX1_loadings_56 (by decide) ?_
            refine r_ior G (v := (nI (m ||| 0))) dX1_loadings_57 (n_or m 0) ?_
            refine r_istore_n G (lo' := [some (.ref o), some (.int (nI jp)), some (.int (nI (ld jp))), some (.int (nI (m ||| 0))), some (.int (nI x))]) dX1_loadings_58 rfl rfl ?_
            refine r_iinc G (v := (nI (x + 1))) (lo' := [some (.ref o), some (.int (nI jp)), some (.int (nI (ld jp))), some (.int (nI (m ||| 0))), some (.int (nI (x + 1)))]) dX1_loadings_59 rfl (nI_add x 1) rfl rfl ?_
            refine r_goto G 26 dX1_loadings_62 (by decide) ?_
            exact ih26 _ _ _ (by omega) (by rw [setN_s, hm, h46]; simp) (upd_off hfl) (by omega)
          · refine r_iconst G (v := nI 1) dX1_loadings_49 (by decide) ?_
            refine r_iload G dX1_loadings_50 rfl ?_
            refine r_ishl G (v := (nI (1 <<< x))) dX1_loadings_52 (n_shl (by omega)) ?_
            refine r_goto G 57 dX1_loadings_53 (by decide) ?_
            refine r_ior G (v := (nI (m ||| (1 <<< x)))) dX1_loadings_57 (n_or m (1 <<< x)) ?_
            refine r_istore_n G (lo' := [some (.ref o), some (.int (nI jp)), some (.int (nI (ld jp))), some (.int (nI (m ||| (1 <<< x)))), some (.int (nI x))]) dX1_loadings_58 rfl rfl ?_
            refine r_iinc G (v := (nI (x + 1))) (lo' := [some (.ref o), some (.int (nI jp)), some (.int (nI (ld jp))), some (.int (nI (m ||| (1 <<< x)))), some (.int (nI (x + 1)))]) dX1_loadings_59 rfl (nI_add x 1) rfl rfl ?_
            refine r_goto G 26 dX1_loadings_62 (by decide) ?_
            exact ih26 _ _ _ (by omega) (by rw [setN_s, hm, h46]; simp) (upd_off hfl) (by omega)
    rw [show mArr S 15 fa11 = mArr (mArr S 15 fa11) 9 (S.2 9) from (mArr_0 (mArr S 15 fa11) 9).symm]
    exact L26 11 0 0 (S.2 9) (Nat.zero_le _) rfl (fun q _ => rfl) (by omega)
  · refine r_iconst G (v := -1) dX1_loadings_8 (by decide) ?_
    exact r_iret G rfl ⟨Nat.zero_le _, Nat.zero_le _⟩ dX1_loadings_9 ⟨_, rfl, by simp [aLoadings, h5], mEq.rf _⟩
set_option maxHeartbeats 4000000 in
theorem mM_kinds {l : Launch} {g : fG} {A : Nat → Prop} {En : State → Prop} (hE : fEnv g A En) {o : Nat} {ad : Nat → Nat} (hD : mD A o ad) {S : mS} {n : Nat} {tw kd ld : Nat → Nat} {d : Nat → Nat → Nat} (hV : mV S n tw kd ld) (hT : n ≠ 0 → 2 ≤ n ∧ TM n tw d) {rn : Nat} {ra rt rw : Nat → Nat} (hRd : mRd S n rn ra rt rw) (p : Int32): mC l g A En o ad yX1_kinds cX1_kinds 5 (some .int) (fR 3) [.int p] S (fun v S' => v = some (.int (aKinds n kd ld d rn ra rt rw p)) ∧ mEq S S') := by
  refine fC.of (by decide) hE [some (.ref o), some (.int p), none, none, none] rfl rfl (fun K G => ?_)
  have G : fGood l g A En RX1 "kinds" cX1_kinds 5 (some .int) (fR 3) _ K := G
  have hn8 := hV.2.1
  refine r_aload_n G dX1_kinds_0 rfl ?_
  refine r_iload_n G dX1_kinds_1 rfl ?_
  refine m_callV G [.int p] (mM_isPost hE hD n hV.1 p) (lw_V q1323 q1325 qs46 q74 q1326) fy_yX1_isPost rfl rfl ⟨Nat.le_of_ble_eq_true rfl, Nat.le_of_ble_eq_true rfl⟩ rfl (Nat.le_of_ble_eq_true rfl) rfl rfl ⟨Nat.zero_le _, Nat.zero_le _⟩ dX1_kinds_2 (fun v2 S2 hp2 => ?_)
  obtain ⟨rfl, rfl⟩ := hp2
  show K (mH g o ad S) 0 0 5 [some (.ref o), some (.int p), none, none, none] [.int (bI (isP n p))]
  refine r_ifb_ne G 10  dX1_kinds_5 (by decide) (fun h5 => ?_) (fun h5 => ?_)
  · obtain ⟨jp, hjp, rfl⟩ := isP_t (by omega) h5
    have ejp : ix (nI jp) = jp := ix_nI (by omega)
    obtain ⟨h2n, T⟩ := hT (by omega)
    refine r_aload_n G dX1_kinds_10 rfl ?_
    refine m_callV G [] (mM_findFars hE hD hV T) (lw_V q1334 q1336 qs48 q74 q1337) fy_yX1_findFars rfl rfl ⟨Nat.le_of_ble_eq_true rfl, Nat.le_of_ble_eq_true rfl⟩ rfl (Nat.le_of_ble_eq_true rfl) rfl rfl ⟨Nat.zero_le _, Nat.zero_le _⟩ dX1_kinds_11 (fun v11 S11 hp11 => ?_)
    obtain ⟨rfl, fa11, rfl, hF11⟩ := hp11
    show K (mH g o ad (mArr S 15 fa11)) 0 0 14 [some (.ref o), some (.int (nI jp)), none, none, none] []
    refine r_aload_n G dX1_kinds_14 rfl ?_
    refine m_geta G 8 (by decide) q1198 rfl dX1_kinds_15 ?_
    refine r_iload_n G dX1_kinds_18 rfl ?_
    refine m_ald G hD 8 (by decide) (by simp only [mN]; omega) (v := (nI (kd jp))) (hV.kd hjp) dX1_kinds_19 ?_
    refine r_istore_n G (lo' := [some (.ref o), some (.int (nI jp)), some (.int (nI (kd jp))), none, none]) dX1_kinds_20 rfl rfl ?_
    refine r_iconst G (v := nI 0) dX1_kinds_21 (by decide) ?_
    refine r_istore_n G (lo' := [some (.ref o), some (.int (nI jp)), some (.int (nI (kd jp))), some (.int (nI 0)), none]) dX1_kinds_22 rfl rfl ?_
    refine r_iconst G (v := nI 0) dX1_kinds_23 (by decide) ?_
    refine r_istore G (lo' := [some (.ref o), some (.int (nI jp)), some (.int (nI (kd jp))), some (.int (nI 0)), some (.int (nI 0))]) dX1_kinds_24 rfl rfl ?_
    have L26 : ∀ (fu : Nat) (x m : Nat) (fl : Nat → Int32), (x ≤ 3) → (m = setN x (fun v => sso n (fup kd jp v) ld d rn ra rt rw)) → (∀ q, q ≠ jp → fl q = S.2 8 q) → 3 - x < fu → K (mH g o ad (mArr (mArr S 15 fa11) 8 fl)) 0 0 26 [some (.ref o), some (.int (nI jp)), some (.int (nI (kd jp))), some (.int (nI m)), some (.int (nI x))] [] := by
      intro fu
      induction fu with
      | zero => intro x m fl hx hm hfl hm26; exact absurd hm26 (Nat.not_lt_zero _)
      | succ fu26 ih26 =>
        intro x m fl hx hm hfl hm26
        refine r_iload G dX1_kinds_26 rfl ?_
        refine r_iconst G (v := nI 3) dX1_kinds_28 (by decide) ?_
        refine r_icmp_ge G 64 (nI_leI (by decide) (by omega)) dX1_kinds_29 (by decide) (fun h29 => ?_) (fun h29 => ?_)
        · refine r_aload_n G dX1_kinds_64 rfl ?_
          refine m_geta G 8 (by decide) q1198 rfl dX1_kinds_65 ?_
          refine r_iload_n G dX1_kinds_68 rfl ?_
          refine r_iload_n G dX1_kinds_69 rfl ?_
          refine m_ast G hD 8 (by decide) (by simp only [mN]; omega) dX1_kinds_70 ?_
          rw [mPut_arr]
          refine r_iload_n G dX1_kinds_71 rfl ?_
          exact r_iret G rfl ⟨Nat.zero_le _, Nat.zero_le _⟩ dX1_kinds_72 ⟨_, rfl, by obtain rfl : x = 3 := (by omega); rw [aKinds, h5, ejp, hm]; rfl, by rw [upd_all hfl (hV.kd hjp).symm, show mArr (mArr S 15 fa11) 8 (S.2 8) = mArr S 15 fa11 from mArr_0 (mArr S 15 fa11) 8]; exact mEq.arr S _ (by decide)⟩
        · refine r_aload_n G dX1_kinds_32 rfl ?_
          refine m_geta G 8 (by decide) q1198 rfl dX1_kinds_33 ?_
          refine r_iload_n G dX1_kinds_36 rfl ?_
          refine r_iload G dX1_kinds_37 rfl ?_
          refine m_ast G hD 8 (by decide) (by simp only [mN]; omega) dX1_kinds_39 ?_
          rw [mPut_arr]
          refine r_iload_n G dX1_kinds_40 rfl ?_
          refine r_aload_n G dX1_kinds_41 rfl ?_
          refine m_callV G [] (mM_areSo hE hD (S := (mArr (mArr S 15 fa11) 8 (upd fl jp (nI x)))) (mV_kd hV (p := jp) (v := x) (by omega) rfl rfl rfl rfl hfl) hF11 hRd) (lw_V q1462 q1464 qs65 q74 q1465) fy_yX1_areSo rfl rfl ⟨Nat.le_of_ble_eq_true rfl, Nat.le_of_ble_eq_true rfl⟩ rfl (Nat.le_of_ble_eq_true rfl) rfl rfl ⟨Nat.zero_le _, Nat.zero_le _⟩ dX1_kinds_42 (fun v42 S42 hp42 => ?_)
          obtain ⟨rfl, rfl⟩ := hp42
          show K (mH g o ad (mArr (mArr S 15 fa11) 8 (upd fl jp (nI x)))) 0 0 45 [some (.ref o), some (.int (nI jp)), some (.int (nI (kd jp))), some (.int (nI m)), some (.int (nI x))] [.int (bI (sso n (fup kd jp x) ld d rn ra rt rw)), .int (nI m)]
          refine r_ifb_eq G 55  dX1_kinds_45 (by decide) (fun h45 => ?_) (fun h45 => ?_)
          · refine r_iconst G (v := nI 0) dX1_kinds_55 (by decide) ?_
            refine r_ior G (v := (nI (m ||| 0))) dX1_kinds_56 (n_or m 0) ?_
            refine r_istore_n G (lo' := [some (.ref o), some (.int (nI jp)), some (.int (nI (kd jp))), some (.int (nI (m ||| 0))), some (.int (nI x))]) dX1_kinds_57 rfl rfl ?_
            refine r_iinc G (v := (nI (x + 1))) (lo' := [some (.ref o), some (.int (nI jp)), some (.int (nI (kd jp))), some (.int (nI (m ||| 0))), some (.int (nI (x + 1)))]) dX1_kinds_58 rfl (nI_add x 1) rfl rfl ?_
            refine r_goto G 26 dX1_kinds_61 (by decide) ?_
            exact ih26 _ _ _ (by omega) (by rw [setN_s, hm, h45]; simp) (upd_off hfl) (by omega)
          · refine r_iconst G (v := nI 1) dX1_kinds_48 (by decide) ?_
            refine r_iload G dX1_kinds_49 rfl ?_
            refine r_ishl G (v := (nI (1 <<< x))) dX1_kinds_51 (n_shl (by omega)) ?_
            refine r_goto G 56 dX1_kinds_52 (by decide) ?_
            refine r_ior G (v := (nI (m ||| (1 <<< x)))) dX1_kinds_56 (n_or m (1 <<< x)) ?_
            refine r_istore_n G (lo' := [some (.ref o), some (.int (nI jp)), some (.int (nI (kd jp))), some (.int (nI (m ||| (1 <<< x)))), some (.int (nI x))]) dX1_kinds_57 rfl rfl ?_
            refine r_iinc G (v := (nI (x + 1))) (lo' := [some (.ref o), some (.int (nI jp)), some (.int (nI (kd jp))), some (.int (nI (m ||| (1 <<< x)))), some (.int (nI (x + 1)))]) dX1_kinds_58 rfl (nI_add x 1) rfl rfl ?_
            refine r_goto G 26 dX1_kinds_61 (by decide) ?_
            exact ih26 _ _ _ (by omega) (by rw [setN_s, hm, h45]; simp) (upd_off hfl) (by omega)
    rw [show mArr S 15 fa11 = mArr (mArr S 15 fa11) 8 (S.2 8) from (mArr_0 (mArr S 15 fa11) 8).symm]
    exact L26 4 0 0 (S.2 8) (Nat.zero_le _) rfl (fun q _ => rfl) (by omega)
  · refine r_iconst G (v := -1) dX1_kinds_8 (by decide) ?_
    exact r_iret G rfl ⟨Nat.zero_le _, Nat.zero_le _⟩ dX1_kinds_9 ⟨_, rfl, by simp [aKinds, h5], mEq.rf _⟩
theorem prA_le {n : Nat} (h : n ≤ 8) (a : Nat) : prA a n ≤ 8 := by
  have := sumN_le (n := n) (b := 1) (f := fun c => if a < c then 1 else 0) (fun p _ => by split <;> omega)
  unfold prA
  omega
theorem prK_le {n k : Nat} {d : Nat → Nat → Nat} (h : n ≤ 8) (a : Nat) : prK n d k a n ≤ 8 := by
  have := sumN_le (n := n) (b := 1) (f := fun c => if a < c ∧ d a c ≤ k then 1 else 0) (fun p _ => by split <;> omega)
  unfold prK
  omega
theorem prA_0 (a : Nat) : prA a (a + 1) = 0 := by
  have := sumN_congr (n := a + 1) (f := fun c => if a < c then 1 else 0) (g := fun _ => 0) (fun p hp => if_neg (by omega))
  unfold prA
  rw [this]
  have := sumN_le (n := a + 1) (b := 0) (f := fun _ => 0) (fun _ _ => Nat.le_refl _)
  omega
theorem prK_0 {n k : Nat} {d : Nat → Nat → Nat} (a : Nat) : prK n d k a (a + 1) = 0 := by
  have := sumN_congr (n := a + 1) (f := fun c => if a < c ∧ d a c ≤ k then 1 else 0) (g := fun _ => 0) (fun p hp => if_neg (by omega))
  unfold prK
  rw [this]
  have := sumN_le (n := a + 1) (b := 0) (f := fun _ => 0) (fun _ _ => Nat.le_refl _)
  omega
theorem prA_s {a b : Nat} (h : a < b) : prA a (b + 1) = prA a b + 1 := by
  show prA a b + (if a < b then 1 else 0) = _
  rw [if_pos h]
theorem prK_s {n k a b : Nat} {d : Nat → Nat → Nat} (h : a < b) : prK n d k a (b + 1) = prK n d k a b + (if d a b ≤ k then 1 else 0) := by
  show prK n d k a b + (if a < b ∧ d a b ≤ k then 1 else 0) = _
  by_cases e : d a b ≤ k
  · rw [if_pos ⟨h, e⟩, if_pos e]
  · rw [if_neg (fun q => e q.2), if_neg e]
theorem prA_pos {n : Nat} (h : 2 ≤ n) : 0 < sumN n fun a => prA a n := by
  have : ∀ m, m + 1 ≤ n → 0 < sumN (m + 1) (fun a => prA a n) := by
    intro m
    induction m with
    | zero =>
      intro _
      show 0 < 0 + prA 0 n
      obtain ⟨k, rfl⟩ : ∃ k, n = k + 2 := ⟨n - 2, by omega⟩
      rw [prA_s (by omega)]
      omega
    | succ m ih =>
      intro hm
      have := ih (by omega)
      show 0 < sumN (m + 1) (fun a => prA a n) + prA (m + 1) n
      omega
  obtain ⟨k, rfl⟩ : ∃ k, n = k + 1 := ⟨n - 1, by omega⟩
  exact this k (Nat.le_refl _)
set_option maxHeartbeats 4000000 in
theorem mM_odds {l : Launch} {g : fG} {A : Nat → Prop} {En : State → Prop} (hE : fEnv g A En) {o : Nat} {ad : Nat → Nat} (hD : mD A o ad) {S : mS} {n : Nat} {tw kd ld : Nat → Nat} {d : Nat → Nat → Nat} (hV : mV S n tw kd ld) (hT : n ≠ 0 → 2 ≤ n ∧ TM n tw d) (k which : Int32): mC l g A En o ad yX1_odds cX1_odds 7 (some .long) (fR 2) [.int k, .int which] S (fun v S' => v = some (.long (aOdds n d k which)) ∧ mEq S S') := by
  refine fC.of (by decide) hE [some (.ref o), some (.int k), some (.int which), none, none, none, none] rfl rfl (fun K G => ?_)
  have G : fGood l g A En RX1 "odds" cX1_odds 7 (some .long) (fR 2) _ K := G
  have hn8 := hV.2.1
  refine r_iload_n G dX1_odds_0 rfl ?_
  refine r_iconst G (v := nI 0) dX1_odds_1 (by decide) ?_
  refine r_bipush G (v := nI 7) dX1_odds_2 (by decide) ?_
  refine s_callS G [.int k, .int (nI 0), .int (nI 7)] (sM_within hE k (nI 0) (nI 7)) (lw_S q1279 q1280 q74 q1281) fy_yX1_within rfl ⟨Nat.le_of_ble_eq_true rfl, Nat.le_of_ble_eq_true rfl⟩ rfl (Nat.le_of_ble_eq_true rfl) rfl rfl ⟨Nat.zero_le _, Nat.zero_le _⟩ dX1_odds_4 ?_
  refine r_ifb_eq G 26  dX1_odds_7 (by decide) (fun h7 => ?_) (fun h7 => ?_)
  · refine r_ldc2 G q1478 dX1_odds_26 ?_
    exact r_lret G rfl ⟨Nat.zero_le _, Nat.zero_le _⟩ dX1_odds_29 ⟨_, rfl, (by first | rw [aOdds, h7, h16, h23]; rfl | rw [aOdds, h7, h16]; rfl | rw [aOdds, h7]; rfl), mEq.rf _⟩
  · obtain ⟨jk, hjk0, hjk, rfl⟩ := wi_t (by decide) (by decide) h7
    have ejk : ix (nI jk) = jk := ix_nI (by omega)
    refine r_iload_n G dX1_odds_10 rfl ?_
    refine r_iconst G (v := nI 0) dX1_odds_11 (by decide) ?_
    refine r_iconst G (v := nI 1) dX1_odds_12 (by decide) ?_
    refine s_callS G [.int which, .int (nI 0), .int (nI 1)] (sM_within hE which (nI 0) (nI 1)) (lw_S q1279 q1280 q74 q1281) fy_yX1_within rfl ⟨Nat.le_of_ble_eq_true rfl, Nat.le_of_ble_eq_true rfl⟩ rfl (Nat.le_of_ble_eq_true rfl) rfl rfl ⟨Nat.zero_le _, Nat.zero_le _⟩ dX1_odds_13 ?_
    refine r_ifb_eq G 26  dX1_odds_16 (by decide) (fun h16 => ?_) (fun h16 => ?_)
    · refine r_ldc2 G q1478 dX1_odds_26 ?_
      exact r_lret G rfl ⟨Nat.zero_le _, Nat.zero_le _⟩ dX1_odds_29 ⟨_, rfl, (by first | rw [aOdds, h7, h16, h23]; rfl | rw [aOdds, h7, h16]; rfl | rw [aOdds, h7]; rfl), mEq.rf _⟩
    · obtain ⟨jw, hjw0, hjw, rfl⟩ := wi_t (by decide) (by decide) h16
      refine r_aload_n G dX1_odds_19 rfl ?_
      refine m_gets G 5 (by decide) q1195 rfl (v := (nI n)) hV.1 dX1_odds_20 ?_
      refine r_if_ne G 30 (n_eq0 (by have := hV.2.1; omega)) dX1_odds_23 (by decide) (fun h23 => ?_) (fun h23 => ?_)
      · obtain ⟨h2n, T⟩ := hT h23
        refine r_aload_n G dX1_odds_30 rfl ?_
        refine m_callV G [] (mM_findFars hE hD hV T) (lw_V q1334 q1336 qs48 q74 q1337) fy_yX1_findFars rfl rfl ⟨Nat.le_of_ble_eq_true rfl, Nat.le_of_ble_eq_true rfl⟩ rfl (Nat.le_of_ble_eq_true rfl) rfl rfl ⟨Nat.zero_le _, Nat.zero_le _⟩ dX1_odds_31 (fun v31 S31 hp31 => ?_)
        obtain ⟨rfl, fa31, rfl, hF31⟩ := hp31
        show K (mH g o ad (mArr S 15 fa31)) 0 0 34 [some (.ref o), some (.int (nI jk)), some (.int (nI jw)), none, none, none, none] []
        refine r_iconst G (v := nI 0) dX1_odds_34 (by decide) ?_
        refine r_istore_n G (lo' := [some (.ref o), some (.int (nI jk)), some (.int (nI jw)), some (.int (nI 0)), none, none, none]) dX1_odds_35 rfl rfl ?_
        refine r_iconst G (v := nI 0) dX1_odds_36 (by decide) ?_
        refine r_istore G (lo' := [some (.ref o), some (.int (nI jk)), some (.int (nI jw)), some (.int (nI 0)), some (.int (nI 0)), none, none]) dX1_odds_37 rfl rfl ?_
        refine r_iconst G (v := nI 0) dX1_odds_39 (by decide) ?_
        refine r_istore G (lo' := [some (.ref o), some (.int (nI jk)), some (.int (nI jw)), some (.int (nI 0)), some (.int (nI 0)), some (.int (nI 0)), none]) dX1_odds_40 rfl rfl ?_
        have L42 : ∀ (fu : Nat) (a x y : Nat), (a ≤ n) → (x = sumN a fun a => prA a n) → (y = sumN a fun a => prK n d jk a n) → n - a < fu → K (mH g o ad (mArr S 15 fa31)) 0 0 42 [some (.ref o), some (.int (nI jk)), some (.int (nI jw)), some (.int (nI x)), some (.int (nI y)), some (.int (nI a)), none] [] := by
          intro fu
          induction fu with
          | zero => intro a x y ha hx hy hm42; exact absurd hm42 (Nat.not_lt_zero _)
          | succ fu42 ih42 =>
            intro a x y ha hx hy hm42
            refine r_iload G dX1_odds_42 rfl ?_
            refine r_aload_n G dX1_odds_44 rfl ?_
            refine m_gets G 5 (by decide) q1195 rfl (v := (nI n)) hV.1 dX1_odds_45 ?_
            refine r_icmp_ge G 108 (nI_leI (by have := hV.2.1; omega) (by omega)) dX1_odds_48 (by decide) (fun h48 => ?_) (fun h48 => ?_)
            · refine r_iload G dX1_odds_108 rfl ?_
              refine r_i2l G (v := lN y) dX1_odds_110 (nI_l (by rw [hy]; have := sumN_le (n := a) (f := fun a => prK n d jk a n) (b := 8) (fun a _ => prK_le hn8 a); omega)) ?_
              refine r_iload_n G dX1_odds_111 rfl ?_
              refine r_i2l G (v := lN x) dX1_odds_112 (nI_l (by rw [hx]; have := sumN_le (n := a) (f := fun a => prA a n) (b := 8) (fun a _ => prA_le hn8 a); omega)) ?_
              refine r_iload_n G dX1_odds_113 rfl ?_
              refine s_callS G [.long (lN y), .long (lN x), .int (nI jw)] (sM_inLeastTerms hE y x (nI jw) (by rw [hy]; have := sumN_le (n := a) (f := fun a => prK n d jk a n) (b := 8) (fun a _ => prK_le hn8 a); omega) (by rw [hx]; have := sumN_le (n := a) (f := fun a => prA a n) (b := 8) (fun a _ => prA_le hn8 a); omega) (by have := prA_pos h2n; obtain rfl : a = n := (by omega); omega)) (lw_S q1479 q1480 q74 q1481) fy_yX1_inLeastTerms rfl ⟨Nat.le_of_ble_eq_true rfl, Nat.le_of_ble_eq_true rfl⟩ rfl (Nat.le_of_ble_eq_true rfl) rfl rfl ⟨Nat.zero_le _, Nat.zero_le _⟩ dX1_odds_114 ?_
              exact r_lret G rfl ⟨Nat.zero_le _, Nat.zero_le _⟩ dX1_odds_117 ⟨_, rfl, by obtain rfl : a = n := (by omega); rw [aOdds, h7, h16, ejk, decide_eq_false h23, ← hx, ← hy]; rfl, mEq.arr S _ (by decide)⟩
            · refine r_iload G dX1_odds_51 rfl ?_
              refine r_iconst G (v := nI 1) dX1_odds_53 (by decide) ?_
              refine r_iadd G (v := (nI (a + 1))) dX1_odds_54 (nI_add a 1) ?_
              refine r_istore G (lo' := [some (.ref o), some (.int (nI jk)), some (.int (nI jw)), some (.int (nI x)), some (.int (nI y)), some (.int (nI a)), some (.int (nI (a + 1)))]) dX1_odds_55 rfl rfl ?_
              have L57 : ∀ (fu : Nat) (b x2 y2 : Nat), (b ≤ n) → (a < b) → (x2 = x + prA a b) → (y2 = y + prK n d jk a b) → n - b < fu → K (mH g o ad (mArr S 15 fa31)) 0 0 57 [some (.ref o), some (.int (nI jk)), some (.int (nI jw)), some (.int (nI x2)), some (.int (nI y2)), some (.int (nI a)), some (.int (nI b))] [] := by
                intro fu
                induction fu with
                | zero => intro b x2 y2 hb hab hx2 hy2 hm57; exact absurd hm57 (Nat.not_lt_zero _)
                | succ fu57 ih57 =>
                  intro b x2 y2 hb hab hx2 hy2 hm57
                  refine r_iload G dX1_odds_57 rfl ?_
                  refine r_aload_n G dX1_odds_59 rfl ?_
                  refine m_gets G 5 (by decide) q1195 rfl (v := (nI n)) hV.1 dX1_odds_60 ?_
                  refine r_icmp_ge G 102 (nI_leI (by have := hV.2.1; omega) (by omega)) dX1_odds_63 (by decide) (fun h63 => ?_) (fun h63 => ?_)
                  · refine r_iinc G (v := (nI (a + 1))) (lo' := [some (.ref o), some (.int (nI jk)), some (.int (nI jw)), some (.int (nI x2)), some (.int (nI y2)), some (.int (nI (a + 1))), some (.int (nI b))]) dX1_odds_102 rfl (nI_add a 1) rfl rfl ?_
                    refine r_goto G 42 dX1_odds_105 (by decide) ?_
                    refine r_drop G 6 (lo' := [some (.ref o), some (.int (nI jk)), some (.int (nI jw)), some (.int (nI x2)), some (.int (nI y2)), some (.int (nI (a + 1))), none]) rfl ?_
                    exact ih42 _ _ _ (by omega) (by obtain rfl : b = n := (by omega); rw [hx2, hx]; rfl) (by obtain rfl : b = n := (by omega); rw [hy2, hy]; rfl) (by omega)
                  · refine r_iinc G (v := (nI (x2 + 1))) (lo' := [some (.ref o), some (.int (nI jk)), some (.int (nI jw)), some (.int (nI (x2 + 1))), some (.int (nI y2)), some (.int (nI a)), some (.int (nI b))]) dX1_odds_66 rfl (nI_add x2 1) rfl rfl ?_
                    refine r_iload G dX1_odds_69 rfl ?_
                    refine r_aload_n G dX1_odds_71 rfl ?_
                    refine m_geta G 15 (by decide) q1205 rfl dX1_odds_72 ?_
                    refine r_bipush G (v := nI 8) dX1_odds_75 (by decide) ?_
                    refine r_iload G dX1_odds_77 rfl ?_
                    refine r_imul G (v := (nI (8 * a))) dX1_odds_79 (pk_mul 8 a) ?_
                    refine r_iload G dX1_odds_80 rfl ?_
                    refine r_iadd G (v := (nI ((8 * a) + b))) dX1_odds_82 (nI_add (8 * a) b) ?_
                    refine m_ald G hD 15 (by decide) (by simp only [mN]; omega) (v := (nI (d a b))) (hF31 a (by omega) b (by omega)).1 dX1_odds_83 ?_
                    refine r_iload_n G dX1_odds_84 rfl ?_
                    refine r_icmp_gt G 92 (nI_ltI (by omega) (Nat.lt_trans (hF31 a (by omega) b (by omega)).2 (by decide))) dX1_odds_85 (by decide) (fun h85 => ?_) (fun h85 => ?_)
                    · refine r_iconst G (v := nI 0) dX1_odds_92 (by decide) ?_
                      refine r_iadd G (v := (nI (y2 + 0))) dX1_odds_93 (nI_add y2 0) ?_
                      refine r_istore G (lo' := [some (.ref o), some (.int (nI jk)), some (.int (nI jw)), some (.int (nI (x2 + 1))), some (.int (nI (y2 + 0))), some (.int (nI a)), some (.int (nI b))]) dX1_odds_94 rfl rfl ?_
                      refine r_iinc G (v := (nI (b + 1))) (lo' := [some (.ref o), some (.int (nI jk)), some (.int (nI jw)), some (.int (nI (x2 + 1))), some (.int (nI (y2 + 0))), some (.int (nI a)), some (.int (nI (b + 1)))]) dX1_odds_96 rfl (nI_add b 1) rfl rfl ?_
                      refine r_goto G 57 dX1_odds_99 (by decide) ?_
                      exact ih57 _ _ _ (by omega) (by omega) (by rw [prA_s hab, hx2]; rfl) (by rw [prK_s hab, hy2]; split <;> omega) (by omega)
                    · refine r_iconst G (v := nI 1) dX1_odds_88 (by decide) ?_
                      refine r_goto G 93 dX1_odds_89 (by decide) ?_
                      refine r_iadd G (v := (nI (y2 + 1))) dX1_odds_93 (nI_add y2 1) ?_
                      refine r_istore G (lo' := [some (.ref o), some (.int (nI jk)), some (.int (nI jw)), some (.int (nI (x2 + 1))), some (.int (nI (y2 + 1))), some (.int (nI a)), some (.int (nI b))]) dX1_odds_94 rfl rfl ?_
                      refine r_iinc G (v := (nI (b + 1))) (lo' := [some (.ref o), some (.int (nI jk)), some (.int (nI jw)), some (.int (nI (x2 + 1))), some (.int (nI (y2 + 1))), some (.int (nI a)), some (.int (nI (b + 1)))]) dX1_odds_96 rfl (nI_add b 1) rfl rfl ?_
                      refine r_goto G 57 dX1_odds_99 (by decide) ?_
                      exact ih57 _ _ _ (by omega) (by omega) (by rw [prA_s hab, hx2]; rfl) (by rw [prK_s hab, hy2]; split <;> omega) (by omega)
              exact L57 (n + 1) (a + 1) x y (by omega) (by omega) (by rw [prA_0]; rfl) (by rw [prK_0]; rfl) (by omega)
        exact L42 (n + 1) 0 0 0 (Nat.zero_le _) rfl rfl (by omega)
      · refine r_ldc2 G q1478 dX1_odds_26 ?_
        exact r_lret G rfl ⟨Nat.zero_le _, Nat.zero_le _⟩ dX1_odds_29 ⟨_, rfl, (by first | rw [aOdds, h7, h16, h23]; rfl | rw [aOdds, h7, h16]; rfl | rw [aOdds, h7]; rfl), mEq.rf _⟩
theorem lvs_lt {n : Nat} {tw : Nat → Nat} (h : n ≤ 8) : lvs n tw < 256 := by
  refine Nat.lt_of_lt_of_le (orN_lt (k := n) fun p hp => ?_) (pow_n8 h)
  split
  · exact shl1_lt hp
  · exact Nat.two_pow_pos n
set_option maxHeartbeats 4000000 in
theorem mM_many {l : Launch} {g : fG} {A : Nat → Prop} {En : State → Prop} (hE : fEnv g A En) {o : Nat} {ad : Nat → Nat} (hD : mD A o ad) {S : mS} {n : Nat} {tw kd ld : Nat → Nat} {d : Nat → Nat → Nat} (hV : mV S n tw kd ld) (hT : n ≠ 0 → 2 ≤ n ∧ TM n tw d) {rn : Nat} {gr : Int32} (hrn : S.1 23 = nI rn) (hr8' : rn ≤ 8) (hgr : S.1 6 = gr) (what : Int32): mC l g A En o ad yX1_many cX1_many 2 (some .int) (fR 2) [.int what] S (fun v S' => v = some (.int (aMany n tw gr rn what)) ∧ mEq S S') := by
  refine fC.of (by decide) hE [some (.ref o), some (.int what)] rfl rfl (fun K G => ?_)
  have G : fGood l g A En RX1 "many" cX1_many 2 (some .int) (fR 2) _ K := G
  have hn8 := hV.2.1
  have hr8 := hr8'
  refine r_iload_n G dX1_many_0 rfl ?_
  rcases sw_in what 3 (by decide) with h1 | ⟨j1, hj1, rfl⟩
  · refine r_tableOut G 55 dX1_many_1 h1 (by decide) ?_
    refine r_bipush G (v := -2) dX1_many_55 (by decide) ?_
    exact r_iret G rfl ⟨Nat.zero_le _, Nat.zero_le _⟩ dX1_many_57 ⟨_, rfl, by rw [aMany, if_neg (sw_out h1 (j := 0) (by decide) (by decide)), if_neg (sw_out h1 (j := 1) (by decide) (by decide)), if_neg (sw_out h1 (j := 2) (by decide) (by decide)), if_neg (sw_out h1 (j := 3) (by decide) (by decide))], mEq.rf _⟩
  · have hc1 : j1 = 0 ∨ j1 = 1 ∨ j1 = 2 ∨ j1 = 3 := by omega
    rcases hc1 with rfl | rfl | rfl | rfl
    · refine r_tableIn G 32 dX1_many_1 (by decide) (by decide) rfl (by decide) ?_
      refine r_aload_n G dX1_many_32 rfl ?_
      refine m_gets G 5 (by decide) q1195 rfl (v := (nI n)) hV.1 dX1_many_33 ?_
      exact r_iret G rfl ⟨Nat.zero_le _, Nat.zero_le _⟩ dX1_many_36 ⟨_, rfl, rfl, mEq.rf _⟩
    · refine r_tableIn G 37 dX1_many_1 (by decide) (by decide) rfl (by decide) ?_
      refine r_aload_n G dX1_many_37 rfl ?_
      refine m_gets G 6 (by decide) q1196 rfl (v := gr) hgr dX1_many_38 ?_
      exact r_iret G rfl ⟨Nat.zero_le _, Nat.zero_le _⟩ dX1_many_41 ⟨_, rfl, rfl, mEq.rf _⟩
    · refine r_tableIn G 42 dX1_many_1 (by decide) (by decide) rfl (by decide) ?_
      refine r_aload_n G dX1_many_42 rfl ?_
      refine m_callV G [] (mM_ends hE hD (S := S) hV) (lw_V q1394 q1396 qs59 q74 q1397) fy_yX1_ends rfl rfl ⟨Nat.le_of_ble_eq_true rfl, Nat.le_of_ble_eq_true rfl⟩ rfl (Nat.le_of_ble_eq_true rfl) rfl rfl ⟨Nat.zero_le _, Nat.zero_le _⟩ dX1_many_43 (fun v43 S43 hp43 => ?_)
      obtain ⟨rfl, rfl⟩ := hp43
      show K (mH g o ad S) 0 0 46 [some (.ref o), some (.int (nI 2))] [.int (nI (lvs n tw))]
      refine s_callS G [.int (nI (lvs n tw))] (sM_size hE (lvs n tw) (lvs_lt hn8)) (lw_S q1331 q1332 q74 q1333) fy_yX1_size rfl ⟨Nat.le_of_ble_eq_true rfl, Nat.le_of_ble_eq_true rfl⟩ rfl (Nat.le_of_ble_eq_true rfl) rfl rfl ⟨Nat.zero_le _, Nat.zero_le _⟩ dX1_many_46 ?_
      exact r_iret G rfl ⟨Nat.zero_le _, Nat.zero_le _⟩ dX1_many_49 ⟨_, rfl, rfl, mEq.rf _⟩
    · refine r_tableIn G 50 dX1_many_1 (by decide) (by decide) rfl (by decide) ?_
      refine r_aload_n G dX1_many_50 rfl ?_
      refine m_gets G 23 (by decide) q1213 rfl (v := (nI rn)) hrn dX1_many_51 ?_
      exact r_iret G rfl ⟨Nat.zero_le _, Nat.zero_le _⟩ dX1_many_54 ⟨_, rfl, rfl, mEq.rf _⟩
theorem near_lt {n p t : Nat} {tw : Nat → Nat} {d : Nat → Nat → Nat} {s : Nat} (T : TM n tw d) (hn8 : n ≤ 8) (hp : p ≤ n) (ht : t = orN p fun q => if s.testBit q then tw q else 0) : t < 2 ^ 31 := thn_lt T hn8 hp ht
theorem lon_t {n : Nat} {tw kd ld : Nat → Nat} {s : Nat} (h : aprt n tw s = true) (h2 : (lon n tw kd ld s).2 < ws n kd ld s) : lon n tw kd ld (s + 1) = (s, ws n kd ld s) := by
  show (if aprt n tw s && decide ((lon n tw kd ld s).2 < ws n kd ld s) then (s, ws n kd ld s) else lon n tw kd ld s) = _
  rw [h, decide_eq_true h2]
  rfl
theorem lon_f {n : Nat} {tw kd ld : Nat → Nat} {s : Nat} (h : aprt n tw s = false ∨ ¬ (lon n tw kd ld s).2 < ws n kd ld s) : lon n tw kd ld (s + 1) = lon n tw kd ld s := by
  show (if aprt n tw s && decide ((lon n tw kd ld s).2 < ws n kd ld s) then (s, ws n kd ld s) else lon n tw kd ld s) = _
  rcases h with h | h
  · rw [h]; rfl
  · rw [decide_eq_false h, Bool.and_false]; rfl
theorem lon_le {n : Nat} {tw kd ld : Nat → Nat} (h : ∀ p, p < n → ld p ≤ 9) : ∀ s, (lon n tw kd ld s).2 ≤ n * 18 := by
  intro s
  induction s with
  | zero => exact Nat.zero_le _
  | succ s ih =>
    by_cases a : aprt n tw s = true ∧ (lon n tw kd ld s).2 < ws n kd ld s
    · rw [lon_t a.1 a.2]; exact ws_le h s
    · rw [lon_f]
      · exact ih
      · cases e : aprt n tw s with
        | false => exact Or.inl rfl
        | true => exact Or.inr fun q => a ⟨e, q⟩
set_option maxHeartbeats 4000000 in
theorem mM_loners {l : Launch} {g : fG} {A : Nat → Prop} {En : State → Prop} (hE : fEnv g A En) {o : Nat} {ad : Nat → Nat} (hD : mD A o ad) {S : mS} {n : Nat} {tw kd ld : Nat → Nat} {d : Nat → Nat → Nat} (hV : mV S n tw kd ld) (hT : n ≠ 0 → 2 ≤ n ∧ TM n tw d) (what : Int32): mC l g A En o ad yX1_loners cX1_loners 7 (some .int) (fR 2) [.int what] S (fun v S' => v = some (.int (aLoners n tw kd ld what)) ∧ mEq S S') := by
  refine fC.of (by decide) hE [some (.ref o), some (.int what), none, none, none, none, none] rfl rfl (fun K G => ?_)
  have G : fGood l g A En RX1 "loners" cX1_loners 7 (some .int) (fR 2) _ K := G
  have hn8 := hV.2.1
  refine r_iload_n G dX1_loners_0 rfl ?_
  refine r_iconst G (v := nI 0) dX1_loners_1 (by decide) ?_
  refine r_iconst G (v := nI 1) dX1_loners_2 (by decide) ?_
  refine s_callS G [.int what, .int (nI 0), .int (nI 1)] (sM_within hE what (nI 0) (nI 1)) (lw_S q1279 q1280 q74 q1281) fy_yX1_within rfl ⟨Nat.le_of_ble_eq_true rfl, Nat.le_of_ble_eq_true rfl⟩ rfl (Nat.le_of_ble_eq_true rfl) rfl rfl ⟨Nat.zero_le _, Nat.zero_le _⟩ dX1_loners_3 ?_
  refine r_ifb_ne G 12  dX1_loners_6 (by decide) (fun h6 => ?_) (fun h6 => ?_)
  · obtain ⟨jw, hjw0, hjw, rfl⟩ := wi_t (by decide) (by decide) h6
    have ejw : ix (nI jw) = jw := ix_nI (by omega)
    refine r_aload_n G dX1_loners_12 rfl ?_
    refine m_gets G 5 (by decide) q1195 rfl (v := (nI n)) hV.1 dX1_loners_13 ?_
    refine r_if_ne G 22 (n_eq0 (by have := hV.2.1; omega)) dX1_loners_16 (by decide) (fun h16 => ?_) (fun h16 => ?_)
    · obtain ⟨h2n, T⟩ := hT h16
      have h256 := pow_n8 hn8
      refine r_iconst G (v := nI 0) dX1_loners_22 (by decide) ?_
      refine r_istore_n G (lo' := [some (.ref o), some (.int (nI jw)), some (.int (nI 0)), none, none, none, none]) dX1_loners_23 rfl rfl ?_
      refine r_iconst G (v := nI 0) dX1_loners_24 (by decide) ?_
      refine r_istore_n G (lo' := [some (.ref o), some (.int (nI jw)), some (.int (nI 0)), some (.int (nI 0)), none, none, none]) dX1_loners_25 rfl rfl ?_
      refine r_iconst G (v := nI 0) dX1_loners_26 (by decide) ?_
      refine r_istore G (lo' := [some (.ref o), some (.int (nI jw)), some (.int (nI 0)), some (.int (nI 0)), some (.int (nI 0)), none, none]) dX1_loners_27 rfl rfl ?_
      have L29 : ∀ (fu : Nat) (s b m : Nat), (s ≤ 2 ^ n) → (b = (lon n tw kd ld s).1) → (m = (lon n tw kd ld s).2) → 2 ^ n - s < fu → K (mH g o ad S) 0 0 29 [some (.ref o), some (.int (nI jw)), some (.int (nI b)), some (.int (nI m)), some (.int (nI s)), none, none] [] := by
        intro fu
        induction fu with
        | zero => intro s b m hs hb hm hm29; exact absurd hm29 (Nat.not_lt_zero _)
        | succ fu29 ih29 =>
          intro s b m hs hb hm hm29
          refine r_iload G dX1_loners_29 rfl ?_
          refine r_iconst G (v := nI 1) dX1_loners_31 (by decide) ?_
          refine r_aload_n G dX1_loners_32 rfl ?_
          refine m_gets G 5 (by decide) q1195 rfl (v := (nI n)) hV.1 dX1_loners_33 ?_
          refine r_ishl G (v := (nI (1 <<< n))) dX1_loners_36 (n_shl (by omega)) ?_
          refine r_icmp_ge G 121 (nI_leI (by rw [Nat.one_shiftLeft]; omega) (by omega)) dX1_loners_37 (by decide) (fun h37 => ?_) (fun h37 => ?_)
          · rw [Nat.one_shiftLeft] at h37
            refine r_iload_n G dX1_loners_121 rfl ?_
            refine r_if_ne G 129 (n_eq0 (by omega)) dX1_loners_122 (by decide) (fun h122 => ?_) (fun h122 => ?_)
            · refine r_iload_n G dX1_loners_129 rfl ?_
              exact r_iret G rfl ⟨Nat.zero_le _, Nat.zero_le _⟩ dX1_loners_130 ⟨_, rfl, by have hs2 : s = 2 ^ n := (by omega); rw [aLoners, h6, if_pos rfl, if_neg h16, if_neg (fun e => h122 ((nI_eq (by omega) (by decide)).mp e)), hb, hs2], mEq.rf _⟩
            · refine r_iload_n G dX1_loners_125 rfl ?_
              refine r_goto G 130 dX1_loners_126 (by decide) ?_
              exact r_iret G rfl ⟨Nat.zero_le _, Nat.zero_le _⟩ dX1_loners_130 ⟨_, rfl, by have hs2 : s = 2 ^ n := (by omega); rw [aLoners, h6, if_pos rfl, if_neg h16, if_pos (by rw [h122]), hm, hs2], mEq.rf _⟩
          · rw [Nat.one_shiftLeft] at h37
            refine r_iconst G (v := nI 0) dX1_loners_40 (by decide) ?_
            refine r_istore G (lo' := [some (.ref o), some (.int (nI jw)), some (.int (nI b)), some (.int (nI m)), some (.int (nI s)), some (.int (nI 0)), none]) dX1_loners_41 rfl rfl ?_
            refine r_iconst G (v := nI 0) dX1_loners_43 (by decide) ?_
            refine r_istore G (lo' := [some (.ref o), some (.int (nI jw)), some (.int (nI b)), some (.int (nI m)), some (.int (nI s)), some (.int (nI 0)), some (.int (nI 0))]) dX1_loners_44 rfl rfl ?_
            have L46 : ∀ (fu : Nat) (p near : Nat), (p ≤ n) → (near = orN p fun q => if s.testBit q then tw q else 0) → n - p < fu → K (mH g o ad S) 0 0 46 [some (.ref o), some (.int (nI jw)), some (.int (nI b)), some (.int (nI m)), some (.int (nI s)), some (.int (nI near)), some (.int (nI p))] [] := by
              intro fu
              induction fu with
              | zero => intro p near hp hnr hm46; exact absurd hm46 (Nat.not_lt_zero _)
              | succ fu46 ih46 =>
                intro p near hp hnr hm46
                refine r_iload G dX1_loners_46 rfl ?_
                refine r_aload_n G dX1_loners_48 rfl ?_
                refine m_gets G 5 (by decide) q1195 rfl (v := (nI n)) hV.1 dX1_loners_49 ?_
                refine r_icmp_ge G 87 (nI_leI (by have := hV.2.1; omega) (by omega)) dX1_loners_52 (by decide) (fun h52 => ?_) (fun h52 => ?_)
                · refine r_iload G dX1_loners_87 rfl ?_
                  refine r_iload G dX1_loners_89 rfl ?_
                  refine r_iand G (v := (nI (near &&& s))) dX1_loners_91 (n_and near s) ?_
                  refine r_if_ne G 115 (n_eq0 (and_lt_r (by omega))) dX1_loners_92 (by decide) (fun h92 => ?_) (fun h92 => ?_)
                  · have hap : aprt n tw s = false := by rw [aprt, show n = p by omega, ← hnr]; exact decide_eq_false h92
                    refine r_iinc G (v := (nI (s + 1))) (lo' := [some (.ref o), some (.int (nI jw)), some (.int (nI b)), some (.int (nI m)), some (.int (nI (s + 1))), some (.int (nI near)), some (.int (nI p))]) dX1_loners_115 rfl (nI_add s 1) rfl rfl ?_
                    refine r_goto G 29 dX1_loners_118 (by decide) ?_
                    refine r_drop G 5 (lo' := [some (.ref o), some (.int (nI jw)), some (.int (nI b)), some (.int (nI m)), some (.int (nI (s + 1))), none, some (.int (nI p))]) rfl ?_
                    refine r_drop G 6 (lo' := [some (.ref o), some (.int (nI jw)), some (.int (nI b)), some (.int (nI m)), some (.int (nI (s + 1))), none, none]) rfl ?_
                    exact ih29 _ _ _ (by omega) (by rw [lon_f (by first | exact Or.inl hap | exact Or.inr (by omega))]; exact hb) (by rw [lon_f (by first | exact Or.inl hap | exact Or.inr (by omega))]; exact hm) (by omega)
                  · have hap : aprt n tw s = true := by rw [aprt, show n = p by omega, ← hnr]; exact decide_eq_true h92
                    refine r_aload_n G dX1_loners_95 rfl ?_
                    refine r_iload G dX1_loners_96 rfl ?_
                    refine m_callV G [.int (nI s)] (mM_worthOfSet hE hD (S := S) hV s (by omega)) (lw_V q1398 q1400 qs60 q74 q1401) fy_yX1_worthOfSet rfl rfl ⟨Nat.le_of_ble_eq_true rfl, Nat.le_of_ble_eq_true rfl⟩ rfl (Nat.le_of_ble_eq_true rfl) rfl rfl ⟨Nat.zero_le _, Nat.zero_le _⟩ dX1_loners_98 (fun v98 S98 hp98 => ?_)
                    obtain ⟨rfl, rfl⟩ := hp98
                    show K (mH g o ad S) 0 0 101 [some (.ref o), some (.int (nI jw)), some (.int (nI b)), some (.int (nI m)), some (.int (nI s)), some (.int (nI near)), some (.int (nI p))] [.int (nI (ws n kd ld s))]
                    refine r_iload_n G dX1_loners_101 rfl ?_
                    refine r_icmp_le G 115 (nI_leI (by have := ws_le (n := n) (kd := kd) (ld := ld) (fun p hp => hV.l9 hp) s; omega) (by have := lon_le (n := n) (tw := tw) (kd := kd) (ld := ld) (fun p hp => hV.l9 hp) s; omega)) dX1_loners_102 (by decide) (fun h102 => ?_) (fun h102 => ?_)
                    · refine r_iinc G (v := (nI (s + 1))) (lo' := [some (.ref o), some (.int (nI jw)), some (.int (nI b)), some (.int (nI m)), some (.int (nI (s + 1))), some (.int (nI near)), some (.int (nI p))]) dX1_loners_115 rfl (nI_add s 1) rfl rfl ?_
                      refine r_goto G 29 dX1_loners_118 (by decide) ?_
                      refine r_drop G 5 (lo' := [some (.ref o), some (.int (nI jw)), some (.int (nI b)), some (.int (nI m)), some (.int (nI (s + 1))), none, some (.int (nI p))]) rfl ?_
                      refine r_drop G 6 (lo' := [some (.ref o), some (.int (nI jw)), some (.int (nI b)), some (.int (nI m)), some (.int (nI (s + 1))), none, none]) rfl ?_
                      exact ih29 _ _ _ (by omega) (by rw [lon_f (by first | exact Or.inl hap | exact Or.inr (by omega))]; exact hb) (by rw [lon_f (by first | exact Or.inl hap | exact Or.inr (by omega))]; exact hm) (by omega)
                    · refine r_iload G dX1_loners_105 rfl ?_
                      refine r_istore_n G (lo' := [some (.ref o), some (.int (nI jw)), some (.int (nI s)), some (.int (nI m)), some (.int (nI s)), some (.int (nI near)), some (.int (nI p))]) dX1_loners_107 rfl rfl ?_
                      refine r_aload_n G dX1_loners_108 rfl ?_
                      refine r_iload G dX1_loners_109 rfl ?_
                      refine m_callV G [.int (nI s)] (mM_worthOfSet hE hD (S := S) hV s (by omega)) (lw_V q1398 q1400 qs60 q74 q1401) fy_yX1_worthOfSet rfl rfl ⟨Nat.le_of_ble_eq_true rfl, Nat.le_of_ble_eq_true rfl⟩ rfl (Nat.le_of_ble_eq_true rfl) rfl rfl ⟨Nat.zero_le _, Nat.zero_le _⟩ dX1_loners_111 (fun v111 S111 hp111 => ?_)
                      obtain ⟨rfl, rfl⟩ := hp111
                      show K (mH g o ad S) 0 0 114 [some (.ref o), some (.int (nI jw)), some (.int (nI s)), some (.int (nI m)), some (.int (nI s)), some (.int (nI near)), some (.int (nI p))] [.int (nI (ws n kd ld s))]
                      refine r_istore_n G (lo' := [some (.ref o), some (.int (nI jw)), some (.int (nI s)), some (.int (nI (ws n kd ld s))), some (.int (nI s)), some (.int (nI near)), some (.int (nI p))]) dX1_loners_114 rfl rfl ?_
                      refine r_iinc G (v := (nI (s + 1))) (lo' := [some (.ref o), some (.int (nI jw)), some (.int (nI s)), some (.int (nI (ws n kd ld s))), some (.int (nI (s + 1))), some (.int (nI near)), some (.int (nI p))]) dX1_loners_115 rfl (nI_add s 1) rfl rfl ?_
                      refine r_goto G 29 dX1_loners_118 (by decide) ?_
                      refine r_drop G 5 (lo' := [some (.ref o), some (.int (nI jw)), some (.int (nI s)), some (.int (nI (ws n kd ld s))), some (.int (nI (s + 1))), none, some (.int (nI p))]) rfl ?_
                      refine r_drop G 6 (lo' := [some (.ref o), some (.int (nI jw)), some (.int (nI s)), some (.int (nI (ws n kd ld s))), some (.int (nI (s + 1))), none, none]) rfl ?_
                      exact ih29 _ _ _ (by omega) (by rw [lon_t hap (by omega)]) (by rw [lon_t hap (by omega)]) (by omega)
                · refine r_iload G dX1_loners_55 rfl ?_
                  refine r_iload G dX1_loners_57 rfl ?_
                  refine r_iload G dX1_loners_59 rfl ?_
                  refine s_callS G [.int (nI s), .int (nI p)] (sM_isOf hE s p (by omega) (by omega)) (lw_S q1312 q1313 q74 q1314) fy_yX1_isOf rfl ⟨Nat.le_of_ble_eq_true rfl, Nat.le_of_ble_eq_true rfl⟩ rfl (Nat.le_of_ble_eq_true rfl) rfl rfl ⟨Nat.zero_le _, Nat.zero_le _⟩ dX1_loners_61 ?_
                  refine r_ifb_eq G 77  dX1_loners_64 (by decide) (fun h64 => ?_) (fun h64 => ?_)
                  · refine r_iconst G (v := nI 0) dX1_loners_77 (by decide) ?_
                    refine r_ior G (v := (nI (near ||| 0))) dX1_loners_78 (n_or near 0) ?_
                    refine r_istore G (lo' := [some (.ref o), some (.int (nI jw)), some (.int (nI b)), some (.int (nI m)), some (.int (nI s)), some (.int (nI (near ||| 0))), some (.int (nI p))]) dX1_loners_79 rfl rfl ?_
                    refine r_iinc G (v := (nI (p + 1))) (lo' := [some (.ref o), some (.int (nI jw)), some (.int (nI b)), some (.int (nI m)), some (.int (nI s)), some (.int (nI (near ||| 0))), some (.int (nI (p + 1)))]) dX1_loners_81 rfl (nI_add p 1) rfl rfl ?_
                    refine r_goto G 46 dX1_loners_84 (by decide) ?_
                    exact ih46 _ _ (by omega) (by rw [hnr]; simp [orN, h64]) (by omega)
                  · refine r_aload_n G dX1_loners_67 rfl ?_
                    refine m_geta G 7 (by decide) q1197 rfl dX1_loners_68 ?_
                    refine r_iload G dX1_loners_71 rfl ?_
                    refine m_ald G hD 7 (by decide) (by simp only [mN]; omega) (v := (nI (tw p))) (hV.tw (by omega)) dX1_loners_73 ?_
                    refine r_goto G 78 dX1_loners_74 (by decide) ?_
                    refine r_ior G (v := (nI (near ||| (tw p)))) dX1_loners_78 (n_or near (tw p)) ?_
                    refine r_istore G (lo' := [some (.ref o), some (.int (nI jw)), some (.int (nI b)), some (.int (nI m)), some (.int (nI s)), some (.int (nI (near ||| (tw p)))), some (.int (nI p))]) dX1_loners_79 rfl rfl ?_
                    refine r_iinc G (v := (nI (p + 1))) (lo' := [some (.ref o), some (.int (nI jw)), some (.int (nI b)), some (.int (nI m)), some (.int (nI s)), some (.int (nI (near ||| (tw p)))), some (.int (nI (p + 1)))]) dX1_loners_81 rfl (nI_add p 1) rfl rfl ?_
                    refine r_goto G 46 dX1_loners_84 (by decide) ?_
                    exact ih46 _ _ (by omega) (by rw [hnr]; simp [orN, h64]) (by omega)
            exact L46 (n + 1) 0 0 (Nat.zero_le _) rfl (by omega)
      exact L29 (2 ^ n + 1) 0 0 0 (Nat.zero_le _) rfl rfl (Nat.lt_succ_of_le (Nat.sub_le _ _))
    · refine r_bipush G (v := -3) dX1_loners_19 (by decide) ?_
      exact r_iret G rfl ⟨Nat.zero_le _, Nat.zero_le _⟩ dX1_loners_21 ⟨_, rfl, by rw [aLoners, h6, h16]; rfl, mEq.rf _⟩
  · refine r_bipush G (v := -2) dX1_loners_9 (by decide) ?_
    exact r_iret G rfl ⟨Nat.zero_le _, Nat.zero_le _⟩ dX1_loners_11 ⟨_, rfl, by rw [aLoners, h6]; rfl, mEq.rf _⟩
end MM6
