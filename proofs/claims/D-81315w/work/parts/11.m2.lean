/-! the reference: twigs, worth, the farthest -/
set_option maxRecDepth 100000
section MM2
set_option maxHeartbeats 4000000 in
theorem mM_join {l : Launch} {g : fG} {A : Nat → Prop} {En : State → Prop} (hE : fEnv g A En) {o : Nat} {ad : Nat → Nat} (hD : mD A o ad) {S : mS} (a b x y : Nat) (ha : a < 8) (hb : b < 8) (hab : a ≠ b) (hx : S.2 7 a = nI x) (hy : S.2 7 b = nI y): mC l g A En o ad yX1_join cX1_join 3 none (fR 0) [.int (nI a), .int (nI b)] S (fun v S' => v = none ∧ mPut (mPut S 7 a (nI (x ||| (1 <<< b)))) 7 b (nI (y ||| (1 <<< a))) = S') := by
  refine fC.of (by decide) hE [some (.ref o), some (.int (nI a)), some (.int (nI b))] rfl rfl (fun K G => ?_)
  have G : fGood l g A En RX1 "join" cX1_join 3 none (fR 0) _ K := G
  refine r_aload_n G dX1_join_0 rfl ?_
  refine m_geta G 7 (by decide) q1197 rfl dX1_join_1 ?_
  refine r_iload_n G dX1_join_4 rfl ?_
  refine r_dup2_11 G dX1_join_5 rfl rfl ?_
  refine m_ald G hD 7 (by decide) (by exact ha) (v := (nI x)) hx dX1_join_6 ?_
  refine r_iconst G (v := nI 1) dX1_join_7 (by decide) ?_
  refine r_iload_n G dX1_join_8 rfl ?_
  refine r_ishl G (v := (nI (1 <<< b))) dX1_join_9 (n_shl (by omega)) ?_
  refine r_ior G (v := (nI (x ||| (1 <<< b)))) dX1_join_10 (n_or x (1 <<< b)) ?_
  refine m_ast G hD 7 (by decide) (by exact ha) dX1_join_11 ?_
  refine r_aload_n G dX1_join_12 rfl ?_
  refine m_geta G 7 (by decide) q1197 rfl dX1_join_13 ?_
  refine r_iload_n G dX1_join_16 rfl ?_
  refine r_dup2_11 G dX1_join_17 rfl rfl ?_
  refine m_ald G hD 7 (by decide) (by exact hb) (v := (nI y)) ((mPut_i _ _ _ _ (Ne.symm hab)).trans hy) dX1_join_18 ?_
  refine r_iconst G (v := nI 1) dX1_join_19 (by decide) ?_
  refine r_iload_n G dX1_join_20 rfl ?_
  refine r_ishl G (v := (nI (1 <<< a))) dX1_join_21 (n_shl (by omega)) ?_
  refine r_ior G (v := (nI (y ||| (1 <<< a)))) dX1_join_22 (n_or y (1 <<< a)) ?_
  refine m_ast G hD 7 (by decide) (by exact hb) dX1_join_23 ?_
  exact r_vret G rfl ⟨Nat.zero_le _, Nat.zero_le _⟩ dX1_join_24 ⟨_, rfl, rfl, rfl⟩
set_option maxHeartbeats 4000000 in
theorem mM_unjoin {l : Launch} {g : fG} {A : Nat → Prop} {En : State → Prop} (hE : fEnv g A En) {o : Nat} {ad : Nat → Nat} (hD : mD A o ad) {S : mS} (a b x y : Nat) (ha : a < 8) (hb : b < 8) (hab : a ≠ b) (hx : S.2 7 a = nI x) (hy : S.2 7 b = nI y) (hx8 : x < 256) (hy8 : y < 256): mC l g A En o ad yX1_unjoin cX1_unjoin 3 none (fR 0) [.int (nI a), .int (nI b)] S (fun v S' => v = none ∧ mPut (mPut S 7 a (nI (ndf x (1 <<< b)))) 7 b (nI (ndf y (1 <<< a))) = S') := by
  refine fC.of (by decide) hE [some (.ref o), some (.int (nI a)), some (.int (nI b))] rfl rfl (fun K G => ?_)
  have G : fGood l g A En RX1 "unjoin" cX1_unjoin 3 none (fR 0) _ K := G
  refine r_aload_n G dX1_unjoin_0 rfl ?_
  refine m_geta G 7 (by decide) q1197 rfl dX1_unjoin_1 ?_
  refine r_iload_n G dX1_unjoin_4 rfl ?_
  refine r_dup2_11 G dX1_unjoin_5 rfl rfl ?_
  refine m_ald G hD 7 (by decide) (by exact ha) (v := (nI x)) hx dX1_unjoin_6 ?_
  refine r_iconst G (v := nI 1) dX1_unjoin_7 (by decide) ?_
  refine r_iload_n G dX1_unjoin_8 rfl ?_
  refine r_ishl G (v := (nI (1 <<< b))) dX1_unjoin_9 (n_shl (by omega)) ?_
  refine r_iconst G (v := -1) dX1_unjoin_10 (by decide) ?_
  refine r_ixor G (v := (nI (1 <<< b) ^^^ -1)) dX1_unjoin_11 rfl ?_
  refine r_iand G (v := (nI (ndf x (1 <<< b)))) dX1_unjoin_12 (n_andn (by omega) (Nat.lt_of_lt_of_le (shl1_lt hb) (by decide))) ?_
  refine m_ast G hD 7 (by decide) (by exact ha) dX1_unjoin_13 ?_
  refine r_aload_n G dX1_unjoin_14 rfl ?_
  refine m_geta G 7 (by decide) q1197 rfl dX1_unjoin_15 ?_
  refine r_iload_n G dX1_unjoin_18 rfl ?_
  refine r_dup2_11 G dX1_unjoin_19 rfl rfl ?_
  refine m_ald G hD 7 (by decide) (by exact hb) (v := (nI y)) ((mPut_i _ _ _ _ (Ne.symm hab)).trans hy) dX1_unjoin_20 ?_
  refine r_iconst G (v := nI 1) dX1_unjoin_21 (by decide) ?_
  refine r_iload_n G dX1_unjoin_22 rfl ?_
  refine r_ishl G (v := (nI (1 <<< a))) dX1_unjoin_23 (n_shl (by omega)) ?_
  refine r_iconst G (v := -1) dX1_unjoin_24 (by decide) ?_
  refine r_ixor G (v := (nI (1 <<< a) ^^^ -1)) dX1_unjoin_25 rfl ?_
  refine r_iand G (v := (nI (ndf y (1 <<< a)))) dX1_unjoin_26 (n_andn (by omega) (Nat.lt_of_lt_of_le (shl1_lt ha) (by decide))) ?_
  refine m_ast G hD 7 (by decide) (by exact hb) dX1_unjoin_27 ?_
  exact r_vret G rfl ⟨Nat.zero_le _, Nat.zero_le _⟩ dX1_unjoin_28 ⟨_, rfl, rfl, rfl⟩
set_option maxHeartbeats 4000000 in
theorem mM_worthOf {l : Launch} {g : fG} {A : Nat → Prop} {En : State → Prop} (hE : fEnv g A En) {o : Nat} {ad : Nat → Nat} (hD : mD A o ad) {S : mS} {n : Nat} {tw kd ld : Nat → Nat} (hV : mV S n tw kd ld) (p : Nat) (hp : p < n): mC l g A En o ad yX1_worthOf cX1_worthOf 2 (some .int) (fR 0) [.int (nI p)] S (fun v S' => v = some (.int (nI (wv kd ld p))) ∧ S = S') := by
  refine fC.of (by decide) hE [some (.ref o), some (.int (nI p))] rfl rfl (fun K G => ?_)
  have G : fGood l g A En RX1 "worthOf" cX1_worthOf 2 (some .int) (fR 0) _ K := G
  refine r_aload_n G dX1_worthOf_0 rfl ?_
  refine m_geta G 8 (by decide) q1198 rfl dX1_worthOf_1 ?_
  refine r_iload_n G dX1_worthOf_4 rfl ?_
  refine m_ald G hD 8 (by decide) (by have := hV.2.1; simp only [mN]; omega) (v := (nI (kd p))) (hV.kd (by omega)) dX1_worthOf_5 ?_
  refine r_if_ne G 18 (n_eq0 (by have := hV.k2 (p := p) (by omega); omega)) dX1_worthOf_6 (by decide) (fun h6 => ?_) (fun h6 => ?_)
  · refine r_aload_n G dX1_worthOf_18 rfl ?_
    refine m_geta G 8 (by decide) q1198 rfl dX1_worthOf_19 ?_
    refine r_iload_n G dX1_worthOf_22 rfl ?_
    refine m_ald G hD 8 (by decide) (by have := hV.2.1; simp only [mN]; omega) (v := (nI (kd p))) (hV.kd (by omega)) dX1_worthOf_23 ?_
    refine r_iconst G (v := nI 1) dX1_worthOf_24 (by decide) ?_
    refine r_icmp_ne G 39 (nI_eq (by have := hV.k2 (p := p) (by omega); omega) (by decide)) dX1_worthOf_25 (by decide) (fun h25 => ?_) (fun h25 => ?_)
    · refine r_iconst G (v := nI 2) dX1_worthOf_39 (by decide) ?_
      refine r_aload_n G dX1_worthOf_40 rfl ?_
      refine m_geta G 9 (by decide) q1199 rfl dX1_worthOf_41 ?_
      refine r_iload_n G dX1_worthOf_44 rfl ?_
      refine m_ald G hD 9 (by decide) (by have := hV.2.1; simp only [mN]; omega) (v := (nI (ld p))) (hV.ld (by omega)) dX1_worthOf_45 ?_
      refine r_imul G (v := (nI (2 * (ld p)))) dX1_worthOf_46 (pk_mul 2 (ld p)) ?_
      exact r_iret G rfl ⟨Nat.zero_le _, Nat.zero_le _⟩ dX1_worthOf_47 ⟨_, rfl, rv (by unfold wv; simp [*]), rfl⟩
    · refine r_aload_n G dX1_worthOf_28 rfl ?_
      refine m_geta G 9 (by decide) q1199 rfl dX1_worthOf_29 ?_
      refine r_iload_n G dX1_worthOf_32 rfl ?_
      refine m_ald G hD 9 (by decide) (by have := hV.2.1; simp only [mN]; omega) (v := (nI (ld p))) (hV.ld (by omega)) dX1_worthOf_33 ?_
      refine r_iconst G (v := nI 1) dX1_worthOf_34 (by decide) ?_
      refine r_iadd G (v := (nI ((ld p) + 1))) dX1_worthOf_35 (nI_add (ld p) 1) ?_
      refine r_goto G 47 dX1_worthOf_36 (by decide) ?_
      exact r_iret G rfl ⟨Nat.zero_le _, Nat.zero_le _⟩ dX1_worthOf_47 ⟨_, rfl, rv (by unfold wv; simp [*]), rfl⟩
  · refine r_aload_n G dX1_worthOf_9 rfl ?_
    refine m_geta G 9 (by decide) q1199 rfl dX1_worthOf_10 ?_
    refine r_iload_n G dX1_worthOf_13 rfl ?_
    refine m_ald G hD 9 (by decide) (by have := hV.2.1; simp only [mN]; omega) (v := (nI (ld p))) (hV.ld (by omega)) dX1_worthOf_14 ?_
    refine r_goto G 47 dX1_worthOf_15 (by decide) ?_
    exact r_iret G rfl ⟨Nat.zero_le _, Nat.zero_le _⟩ dX1_worthOf_47 ⟨_, rfl, rv (by unfold wv; simp [*]), rfl⟩
set_option maxHeartbeats 4000000 in
theorem mM_worthOfSet {l : Launch} {g : fG} {A : Nat → Prop} {En : State → Prop} (hE : fEnv g A En) {o : Nat} {ad : Nat → Nat} (hD : mD A o ad) {S : mS} {n : Nat} {tw kd ld : Nat → Nat} (hV : mV S n tw kd ld) (s : Nat) (hs : s < 2 ^ 31): mC l g A En o ad yX1_worthOfSet cX1_worthOfSet 4 (some .int) (fR 1) [.int (nI s)] S (fun v S' => v = some (.int (nI (ws n kd ld s))) ∧ S = S') := by
  refine fC.of (by decide) hE [some (.ref o), some (.int (nI s)), none, none] rfl rfl (fun K G => ?_)
  have G : fGood l g A En RX1 "worthOfSet" cX1_worthOfSet 4 (some .int) (fR 1) _ K := G
  refine r_iconst G (v := nI 0) dX1_worthOfSet_0 (by decide) ?_
  refine r_istore_n G (lo' := [some (.ref o), some (.int (nI s)), some (.int (nI 0)), none]) dX1_worthOfSet_1 rfl rfl ?_
  refine r_iconst G (v := nI 0) dX1_worthOfSet_2 (by decide) ?_
  refine r_istore_n G (lo' := [some (.ref o), some (.int (nI s)), some (.int (nI 0)), some (.int (nI 0))]) dX1_worthOfSet_3 rfl rfl ?_
  have L4 : ∀ (fu : Nat) (p m : Nat), (p ≤ n) → (m = sumN p fun q => if s.testBit q then wv kd ld q else 0) → n - p < fu → K (mH g o ad S) 0 0 4 [some (.ref o), some (.int (nI s)), some (.int (nI m)), some (.int (nI p))] [] := by
    intro fu
    induction fu with
    | zero => intro p m hp hm hm4; exact absurd hm4 (Nat.not_lt_zero _)
    | succ fu4 ih4 =>
      intro p m hp hm hm4
      refine r_iload_n G dX1_worthOfSet_4 rfl ?_
      refine r_aload_n G dX1_worthOfSet_5 rfl ?_
      refine m_gets G 5 (by decide) q1195 rfl (v := (nI n)) hV.1 dX1_worthOfSet_6 ?_
      refine r_icmp_ge G 38 (nI_leI (by have := hV.2.1; omega) (by have := hV.2.1; omega)) dX1_worthOfSet_9 (by decide) (fun h9 => ?_) (fun h9 => ?_)
      · refine r_iload_n G dX1_worthOfSet_38 rfl ?_
        exact r_iret G rfl ⟨Nat.zero_le _, Nat.zero_le _⟩ dX1_worthOfSet_39 ⟨_, rfl, rv (by obtain rfl : p = n := (by omega); exact hm), rfl⟩
      · refine r_iload_n G dX1_worthOfSet_12 rfl ?_
        refine r_iload_n G dX1_worthOfSet_13 rfl ?_
        refine r_iload_n G dX1_worthOfSet_14 rfl ?_
        refine s_callS G [.int (nI s), .int (nI p)] (sM_isOf hE s p hs (by have := hV.2.1; omega)) (lw_S q1312 q1313 q74 q1314) fy_yX1_isOf rfl ⟨Nat.le_of_ble_eq_true rfl, Nat.le_of_ble_eq_true rfl⟩ rfl (Nat.le_of_ble_eq_true rfl) rfl rfl ⟨Nat.zero_le _, Nat.zero_le _⟩ dX1_worthOfSet_15 ?_
        refine r_ifb_eq G 29  dX1_worthOfSet_18 (by decide) (fun h18 => ?_) (fun h18 => ?_)
        · refine r_iconst G (v := nI 0) dX1_worthOfSet_29 (by decide) ?_
          refine r_iadd G (v := (nI (m + 0))) dX1_worthOfSet_30 (nI_add m 0) ?_
          refine r_istore_n G (lo' := [some (.ref o), some (.int (nI s)), some (.int (nI (m + 0))), some (.int (nI p))]) dX1_worthOfSet_31 rfl rfl ?_
          refine r_iinc G (v := (nI (p + 1))) (lo' := [some (.ref o), some (.int (nI s)), some (.int (nI (m + 0))), some (.int (nI (p + 1)))]) dX1_worthOfSet_32 rfl (nI_add p 1) rfl rfl ?_
          refine r_goto G 4 dX1_worthOfSet_35 (by decide) ?_
          exact ih4 _ _ (by omega) (by simp [sumN, hm, h18]) (by omega)
        · refine r_aload_n G dX1_worthOfSet_21 rfl ?_
          refine r_iload_n G dX1_worthOfSet_22 rfl ?_
          refine m_callV G [.int (nI p)] (mM_worthOf hE hD hV p (by omega)) (lw_V q1327 q1329 qs47 q74 q1330) fy_yX1_worthOf rfl rfl ⟨Nat.le_of_ble_eq_true rfl, Nat.le_of_ble_eq_true rfl⟩ rfl (Nat.le_of_ble_eq_true rfl) rfl rfl ⟨Nat.zero_le _, Nat.zero_le _⟩ dX1_worthOfSet_23 (fun v23 S23 hp23 => ?_)
          obtain ⟨rfl, rfl⟩ := hp23
          show K (mH g o ad S) 0 0 26 [some (.ref o), some (.int (nI s)), some (.int (nI m)), some (.int (nI p))] [.int (nI (wv kd ld p)), .int (nI m)]
          refine r_goto G 30 dX1_worthOfSet_26 (by decide) ?_
          refine r_iadd G (v := (nI (m + (wv kd ld p)))) dX1_worthOfSet_30 (nI_add m (wv kd ld p)) ?_
          refine r_istore_n G (lo' := [some (.ref o), some (.int (nI s)), some (.int (nI (m + (wv kd ld p)))), some (.int (nI p))]) dX1_worthOfSet_31 rfl rfl ?_
          refine r_iinc G (v := (nI (p + 1))) (lo' := [some (.ref o), some (.int (nI s)), some (.int (nI (m + (wv kd ld p)))), some (.int (nI (p + 1)))]) dX1_worthOfSet_32 rfl (nI_add p 1) rfl rfl ?_
          refine r_goto G 4 dX1_worthOfSet_35 (by decide) ?_
          exact ih4 _ _ (by omega) (by simp [sumN, hm, h18]) (by omega)
  exact L4 (n + 1) 0 0 (Nat.zero_le _) rfl (by omega)
set_option maxHeartbeats 4000000 in
theorem mM_ends {l : Launch} {g : fG} {A : Nat → Prop} {En : State → Prop} (hE : fEnv g A En) {o : Nat} {ad : Nat → Nat} (hD : mD A o ad) {S : mS} {n : Nat} {tw kd ld : Nat → Nat} (hV : mV S n tw kd ld): mC l g A En o ad yX1_ends cX1_ends 3 (some .int) (fR 1) [] S (fun v S' => v = some (.int (nI (lvs n tw))) ∧ S = S') := by
  refine fC.of (by decide) hE [some (.ref o), none, none] rfl rfl (fun K G => ?_)
  have G : fGood l g A En RX1 "ends" cX1_ends 3 (some .int) (fR 1) _ K := G
  refine r_iconst G (v := nI 0) dX1_ends_0 (by decide) ?_
  refine r_istore_n G (lo' := [some (.ref o), some (.int (nI 0)), none]) dX1_ends_1 rfl rfl ?_
  refine r_iconst G (v := nI 0) dX1_ends_2 (by decide) ?_
  refine r_istore_n G (lo' := [some (.ref o), some (.int (nI 0)), some (.int (nI 0))]) dX1_ends_3 rfl rfl ?_
  have L4 : ∀ (fu : Nat) (p m : Nat), (p ≤ n) → (m = orN p fun q => if cnt (tw q) = 1 then 1 <<< q else 0) → n - p < fu → K (mH g o ad S) 0 0 4 [some (.ref o), some (.int (nI m)), some (.int (nI p))] [] := by
    intro fu
    induction fu with
    | zero => intro p m hp hm hm4; exact absurd hm4 (Nat.not_lt_zero _)
    | succ fu4 ih4 =>
      intro p m hp hm hm4
      refine r_iload_n G dX1_ends_4 rfl ?_
      refine r_aload_n G dX1_ends_5 rfl ?_
      refine m_gets G 5 (by decide) q1195 rfl (v := (nI n)) hV.1 dX1_ends_6 ?_
      refine r_icmp_ge G 41 (nI_leI (by have := hV.2.1; omega) (by have := hV.2.1; omega)) dX1_ends_9 (by decide) (fun h9 => ?_) (fun h9 => ?_)
      · refine r_iload_n G dX1_ends_41 rfl ?_
        exact r_iret G rfl ⟨Nat.zero_le _, Nat.zero_le _⟩ dX1_ends_42 ⟨_, rfl, rv (by obtain rfl : p = n := (by omega); exact hm), rfl⟩
      · refine r_iload_n G dX1_ends_12 rfl ?_
        refine r_aload_n G dX1_ends_13 rfl ?_
        refine m_geta G 7 (by decide) q1197 rfl dX1_ends_14 ?_
        refine r_iload_n G dX1_ends_17 rfl ?_
        refine m_ald G hD 7 (by decide) (by have := hV.2.1; simp only [mN]; omega) (v := (nI (tw p))) (hV.tw (by omega)) dX1_ends_18 ?_
        refine s_callS G [.int (nI (tw p))] (sM_size hE (tw p) (hV.t8 (by omega))) (lw_S q1331 q1332 q74 q1333) fy_yX1_size rfl ⟨Nat.le_of_ble_eq_true rfl, Nat.le_of_ble_eq_true rfl⟩ rfl (Nat.le_of_ble_eq_true rfl) rfl rfl ⟨Nat.zero_le _, Nat.zero_le _⟩ dX1_ends_19 ?_
        refine r_iconst G (v := nI 1) dX1_ends_22 (by decide) ?_
        refine r_icmp_ne G 32 (nI_eq (by have := cnt_le _ (hV.t8 (p := p) (by omega)); omega) (by decide)) dX1_ends_23 (by decide) (fun h23 => ?_) (fun h23 => ?_)
        · refine r_iconst G (v := nI 0) dX1_ends_32 (by decide) ?_
          refine r_ior G (v := (nI (m ||| 0))) dX1_ends_33 (n_or m 0) ?_
          refine r_istore_n G (lo' := [some (.ref o), some (.int (nI (m ||| 0))), some (.int (nI p))]) dX1_ends_34 rfl rfl ?_
          refine r_iinc G (v := (nI (p + 1))) (lo' := [some (.ref o), some (.int (nI (m ||| 0))), some (.int (nI (p + 1)))]) dX1_ends_35 rfl (nI_add p 1) rfl rfl ?_
          refine r_goto G 4 dX1_ends_38 (by decide) ?_
          exact ih4 _ _ (by omega) (by simp [orN, hm, h23]) (by omega)
        · refine r_iconst G (v := nI 1) dX1_ends_26 (by decide) ?_
          refine r_iload_n G dX1_ends_27 rfl ?_
          refine r_ishl G (v := (nI (1 <<< p))) dX1_ends_28 (n_shl (by have := hV.2.1; omega)) ?_
          refine r_goto G 33 dX1_ends_29 (by decide) ?_
          refine r_ior G (v := (nI (m ||| (1 <<< p)))) dX1_ends_33 (n_or m (1 <<< p)) ?_
          refine r_istore_n G (lo' := [some (.ref o), some (.int (nI (m ||| (1 <<< p)))), some (.int (nI p))]) dX1_ends_34 rfl rfl ?_
          refine r_iinc G (v := (nI (p + 1))) (lo' := [some (.ref o), some (.int (nI (m ||| (1 <<< p)))), some (.int (nI (p + 1)))]) dX1_ends_35 rfl (nI_add p 1) rfl rfl ?_
          refine r_goto G 4 dX1_ends_38 (by decide) ?_
          exact ih4 _ _ (by omega) (by simp [orN, hm, h23]) (by omega)
  exact L4 (n + 1) 0 0 (Nat.zero_le _) rfl (by omega)
set_option maxHeartbeats 4000000 in
theorem mM_farthestFrom {l : Launch} {g : fG} {A : Nat → Prop} {En : State → Prop} (hE : fEnv g A En) {o : Nat} {ad : Nat → Nat} (hD : mD A o ad) {S : mS} {n : Nat} {d : Nat → Nat → Nat} (hn : S.1 5 = nI n) (hn8 : n ≤ 8) (hF : mFar S n d) (p : Nat) (hp : p < n): mC l g A En o ad yX1_farthestFrom cX1_farthestFrom 4 (some .int) (fR 0) [.int (nI p)] S (fun v S' => v = some (.int (nI (maxN n (d p)))) ∧ S = S') := by
  refine fC.of (by decide) hE [some (.ref o), some (.int (nI p)), none, none] rfl rfl (fun K G => ?_)
  have G : fGood l g A En RX1 "farthestFrom" cX1_farthestFrom 4 (some .int) (fR 0) _ K := G
  refine r_iconst G (v := nI 0) dX1_farthestFrom_0 (by decide) ?_
  refine r_istore_n G (lo' := [some (.ref o), some (.int (nI p)), some (.int (nI 0)), none]) dX1_farthestFrom_1 rfl rfl ?_
  refine r_iconst G (v := nI 0) dX1_farthestFrom_2 (by decide) ?_
  refine r_istore_n G (lo' := [some (.ref o), some (.int (nI p)), some (.int (nI 0)), some (.int (nI 0))]) dX1_farthestFrom_3 rfl rfl ?_
  have L4 : ∀ (fu : Nat) (q m : Nat), (q ≤ n) → (m = maxN q (d p)) → n - q < fu → K (mH g o ad S) 0 0 4 [some (.ref o), some (.int (nI p)), some (.int (nI m)), some (.int (nI q))] [] := by
    intro fu
    induction fu with
    | zero => intro q m hq hm hm4; exact absurd hm4 (Nat.not_lt_zero _)
    | succ fu4 ih4 =>
      intro q m hq hm hm4
      refine r_iload_n G dX1_farthestFrom_4 rfl ?_
      refine r_aload_n G dX1_farthestFrom_5 rfl ?_
      refine m_gets G 5 (by decide) q1195 rfl (v := (nI n)) hn dX1_farthestFrom_6 ?_
      refine r_icmp_ge G 49 (nI_leI (by omega) (by omega)) dX1_farthestFrom_9 (by decide) (fun h9 => ?_) (fun h9 => ?_)
      · refine r_iload_n G dX1_farthestFrom_49 rfl ?_
        exact r_iret G rfl ⟨Nat.zero_le _, Nat.zero_le _⟩ dX1_farthestFrom_50 ⟨_, rfl, rv (by obtain rfl : q = n := (by omega); exact hm), rfl⟩
      · refine r_aload_n G dX1_farthestFrom_12 rfl ?_
        refine m_geta G 15 (by decide) q1205 rfl dX1_farthestFrom_13 ?_
        refine r_bipush G (v := nI 8) dX1_farthestFrom_16 (by decide) ?_
        refine r_iload_n G dX1_farthestFrom_18 rfl ?_
        refine r_imul G (v := (nI (8 * p))) dX1_farthestFrom_19 (pk_mul 8 p) ?_
        refine r_iload_n G dX1_farthestFrom_20 rfl ?_
        refine r_iadd G (v := (nI ((8 * p) + q))) dX1_farthestFrom_21 (nI_add (8 * p) q) ?_
        refine m_ald G hD 15 (by decide) (by simp only [mN]; omega) (v := (nI (d p q))) (hF p hp q (by omega)).1 dX1_farthestFrom_22 ?_
        refine r_iload_n G dX1_farthestFrom_23 rfl ?_
        refine r_icmp_le G 41 (nI_leI (Nat.lt_trans (hF p hp q (by omega)).2 (by decide)) (by have := maxN_lt (n := q) (f := d p) (b := 8) (by decide) (fun r hr => (hF p hp r (by omega)).2); omega)) dX1_farthestFrom_24 (by decide) (fun h24 => ?_) (fun h24 => ?_)
        · refine r_iload_n G dX1_farthestFrom_41 rfl ?_
          refine r_istore_n G (lo' := [some (.ref o), some (.int (nI p)), some (.int (nI m)), some (.int (nI q))]) dX1_farthestFrom_42 rfl rfl ?_
          refine r_iinc G (v := (nI (q + 1))) (lo' := [some (.ref o), some (.int (nI p)), some (.int (nI m)), some (.int (nI (q + 1)))]) dX1_farthestFrom_43 rfl (nI_add q 1) rfl rfl ?_
          refine r_goto G 4 dX1_farthestFrom_46 (by decide) ?_
          exact ih4 _ _ (by omega) (maxN_f hm h24) (by omega)
        · refine r_aload_n G dX1_farthestFrom_27 rfl ?_
          refine m_geta G 15 (by decide) q1205 rfl dX1_farthestFrom_28 ?_
          refine r_bipush G (v := nI 8) dX1_farthestFrom_31 (by decide) ?_
          refine r_iload_n G dX1_farthestFrom_33 rfl ?_
          refine r_imul G (v := (nI (8 * p))) dX1_farthestFrom_34 (pk_mul 8 p) ?_
          refine r_iload_n G dX1_farthestFrom_35 rfl ?_
          refine r_iadd G (v := (nI ((8 * p) + q))) dX1_farthestFrom_36 (nI_add (8 * p) q) ?_
          refine m_ald G hD 15 (by decide) (by simp only [mN]; omega) (v := (nI (d p q))) (hF p hp q (by omega)).1 dX1_farthestFrom_37 ?_
          refine r_goto G 42 dX1_farthestFrom_38 (by decide) ?_
          refine r_istore_n G (lo' := [some (.ref o), some (.int (nI p)), some (.int (nI (d p q))), some (.int (nI q))]) dX1_farthestFrom_42 rfl rfl ?_
          refine r_iinc G (v := (nI (q + 1))) (lo' := [some (.ref o), some (.int (nI p)), some (.int (nI (d p q))), some (.int (nI (q + 1)))]) dX1_farthestFrom_43 rfl (nI_add q 1) rfl rfl ?_
          refine r_goto G 4 dX1_farthestFrom_46 (by decide) ?_
          exact ih4 _ _ (by omega) (maxN_t hm h24) (by omega)
  exact L4 (n + 1) 0 0 (Nat.zero_le _) rfl (by omega)
set_option maxHeartbeats 4000000 in
theorem mM_longest {l : Launch} {g : fG} {A : Nat → Prop} {En : State → Prop} (hE : fEnv g A En) {o : Nat} {ad : Nat → Nat} (hD : mD A o ad) {S : mS} {n : Nat} {d : Nat → Nat → Nat} (hn : S.1 5 = nI n) (hn8 : n ≤ 8) (hF : mFar S n d): mC l g A En o ad yX1_longest cX1_longest 3 (some .int) (fR 1) [] S (fun v S' => v = some (.int (nI (maxN n (fun p => maxN n (d p))))) ∧ S = S') := by
  refine fC.of (by decide) hE [some (.ref o), none, none] rfl rfl (fun K G => ?_)
  have G : fGood l g A En RX1 "longest" cX1_longest 3 (some .int) (fR 1) _ K := G
  refine r_iconst G (v := nI 0) dX1_longest_0 (by decide) ?_
  refine r_istore_n G (lo' := [some (.ref o), some (.int (nI 0)), none]) dX1_longest_1 rfl rfl ?_
  refine r_iconst G (v := nI 0) dX1_longest_2 (by decide) ?_
  refine r_istore_n G (lo' := [some (.ref o), some (.int (nI 0)), some (.int (nI 0))]) dX1_longest_3 rfl rfl ?_
  have L4 : ∀ (fu : Nat) (q m : Nat), (q ≤ n) → (m = maxN q (fun p => maxN n (d p))) → n - q < fu → K (mH g o ad S) 0 0 4 [some (.ref o), some (.int (nI m)), some (.int (nI q))] [] := by
    intro fu
    induction fu with
    | zero => intro q m hq hm hm4; exact absurd hm4 (Nat.not_lt_zero _)
    | succ fu4 ih4 =>
      intro q m hq hm hm4
      refine r_iload_n G dX1_longest_4 rfl ?_
      refine r_aload_n G dX1_longest_5 rfl ?_
      refine m_gets G 5 (by decide) q1195 rfl (v := (nI n)) hn dX1_longest_6 ?_
      refine r_icmp_ge G 37 (nI_leI (by omega) (by omega)) dX1_longest_9 (by decide) (fun h9 => ?_) (fun h9 => ?_)
      · refine r_iload_n G dX1_longest_37 rfl ?_
        exact r_iret G rfl ⟨Nat.zero_le _, Nat.zero_le _⟩ dX1_longest_38 ⟨_, rfl, rv (by obtain rfl : q = n := (by omega); exact hm), rfl⟩
      · refine r_aload_n G dX1_longest_12 rfl ?_
        refine r_iload_n G dX1_longest_13 rfl ?_
        refine m_callV G [.int (nI q)] (mM_farthestFrom hE hD hn hn8 hF q (by omega)) (lw_V q1338 q1340 qs49 q74 q1341) fy_yX1_farthestFrom rfl rfl ⟨Nat.le_of_ble_eq_true rfl, Nat.le_of_ble_eq_true rfl⟩ rfl (Nat.le_of_ble_eq_true rfl) rfl rfl ⟨Nat.zero_le _, Nat.zero_le _⟩ dX1_longest_14 (fun v14 S14 hp14 => ?_)
        obtain ⟨rfl, rfl⟩ := hp14
        show K (mH g o ad S) 0 0 17 [some (.ref o), some (.int (nI m)), some (.int (nI q))] [.int (nI (maxN n (d q)))]
        refine r_iload_n G dX1_longest_17 rfl ?_
        refine r_icmp_le G 29 (nI_leI (by have := maxN_lt (n := n) (f := d q) (b := 8) (by decide) (fun r hr => (hF q (by omega) r hr).2); omega) (by have := maxN_lt (n := q) (f := fun p => maxN n (d p)) (b := 8) (by decide) (fun r hr => maxN_lt (by decide) (fun t ht => (hF r (by omega) t ht).2)); omega)) dX1_longest_18 (by decide) (fun h18 => ?_) (fun h18 => ?_)
        · refine r_iload_n G dX1_longest_29 rfl ?_
          refine r_istore_n G (lo' := [some (.ref o), some (.int (nI m)), some (.int (nI q))]) dX1_longest_30 rfl rfl ?_
          refine r_iinc G (v := (nI (q + 1))) (lo' := [some (.ref o), some (.int (nI m)), some (.int (nI (q + 1)))]) dX1_longest_31 rfl (nI_add q 1) rfl rfl ?_
          refine r_goto G 4 dX1_longest_34 (by decide) ?_
          exact ih4 _ _ (by omega) (maxN_f hm h18) (by omega)
        · refine r_aload_n G dX1_longest_21 rfl ?_
          refine r_iload_n G dX1_longest_22 rfl ?_
          refine m_callV G [.int (nI q)] (mM_farthestFrom hE hD hn hn8 hF q (by omega)) (lw_V q1338 q1340 qs49 q74 q1341) fy_yX1_farthestFrom rfl rfl ⟨Nat.le_of_ble_eq_true rfl, Nat.le_of_ble_eq_true rfl⟩ rfl (Nat.le_of_ble_eq_true rfl) rfl rfl ⟨Nat.zero_le _, Nat.zero_le _⟩ dX1_longest_23 (fun v23 S23 hp23 => ?_)
          obtain ⟨rfl, rfl⟩ := hp23
          show K (mH g o ad S) 0 0 26 [some (.ref o), some (.int (nI m)), some (.int (nI q))] [.int (nI (maxN n (d q)))]
          refine r_goto G 30 dX1_longest_26 (by decide) ?_
          refine r_istore_n G (lo' := [some (.ref o), some (.int (nI (maxN n (d q)))), some (.int (nI q))]) dX1_longest_30 rfl rfl ?_
          refine r_iinc G (v := (nI (q + 1))) (lo' := [some (.ref o), some (.int (nI (maxN n (d q)))), some (.int (nI (q + 1)))]) dX1_longest_31 rfl (nI_add q 1) rfl rfl ?_
          refine r_goto G 4 dX1_longest_34 (by decide) ?_
          exact ih4 _ _ (by omega) (maxN_t hm h18) (by omega)
  exact L4 (n + 1) 0 0 (Nat.zero_le _) rfl (by omega)
end MM2
