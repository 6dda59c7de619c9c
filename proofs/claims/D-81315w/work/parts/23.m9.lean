/-! the reference: a day -/
set_option maxRecDepth 100000
section MM9
theorem dgo_s {n : Nat} {c : Nat → Int32} {m k : Nat} {s : (Nat → Nat) × (Nat → Nat)} (h : doOk n s.1 (c (2 * k)) (c (2 * k + 1)) = true) : dgo n c (m + 1) k s = dgo n c m (k + 1) (doT n s.1 (c (2 * k)) (c (2 * k + 1)), doL n s.2 (c (2 * k)) (c (2 * k + 1))) := by
  show (if doOk n s.1 (c (2 * k)) (c (2 * k + 1)) then _ else _) = _
  rw [if_pos h]
theorem dgo_f {n : Nat} {c : Nat → Int32} {m k : Nat} {s : (Nat → Nat) × (Nat → Nat)} (h : doOk n s.1 (c (2 * k)) (c (2 * k + 1)) = false) : dgo n c (m + 1) k s = (some k, s) := by
  show (if doOk n s.1 (c (2 * k)) (c (2 * k + 1)) then _ else _) = _
  rw [if_neg (by rw [h]; decide)]
theorem doT_no {n : Nat} {tw : Nat → Nat} {a c : Int32} (h : doOk n tw a c = false) : doT n tw a c = tw := by
  unfold doOk at h
  unfold doT
  split
  · rfl
  · rename_i q
    rw [if_neg q] at h
    rw [if_neg (by rw [h]; decide)]
theorem doL_no {n : Nat} {tw ld : Nat → Nat} {a c : Int32} (h : doOk n tw a c = false) : doL n ld a c = ld := by
  unfold doOk at h
  unfold doL
  split
  · rename_i q
    rw [if_pos q] at h
    rw [if_neg (by rw [h]; decide)]
  · rfl
set_option maxHeartbeats 4000000 in
theorem mM_goDay {l : Launch} {g : fG} {A : Nat → Prop} {En : State → Prop} (hE : fEnv g A En) {o : Nat} {ad : Nat → Nat} (hD : mD A o ad) {S : mS} {n : Nat} {tw kd ld : Nat → Nat} (hV : mV S n tw kd ld) (hT : ∃ d, TM n tw d) (hn0 : n ≠ 0) (h2n : 2 ≤ n) (first nn : Nat) (hc : first + 2 * nn ≤ 240) {c : Nat → Int32} (hcc : ∀ j, j < 2 * nn → S.2 4 (first + j) = c j) (hpre : ∀ k, k < nn → pRef n (c (2 * k)) (c (2 * k + 1)) = 0): mC l g A En o ad yX1_goDay cX1_goDay 4 (some .int) (fR 3) [.int (nI first), .int (nI nn)] S (fun v S' => v = some (.int (oI (dgo n c nn 0 (tw, ld)).1)) ∧ mEqX [] [7, 9] S S' ∧ mV S' n (dgo n c nn 0 (tw, ld)).2.1 kd (dgo n c nn 0 (tw, ld)).2.2) := by
  refine fC.of (by decide) hE [some (.ref o), some (.int (nI first)), some (.int (nI nn)), none] rfl rfl (fun K G => ?_)
  have G : fGood l g A En RX1 "goDay" cX1_goDay 4 (some .int) (fR 3) _ K := G
  have hn8 := hV.2.1
  refine r_iconst G (v := nI 0) dX1_goDay_0 (by decide) ?_
  refine r_istore_n G (lo' := [some (.ref o), some (.int (nI first)), some (.int (nI nn)), some (.int (nI 0))]) dX1_goDay_1 rfl rfl ?_
  have L2 : ∀ (fu : Nat) (k : Nat) (Sx : mS) (tx lx : Nat → Nat), (k ≤ nn) → (mEqX [] [7, 9] S Sx) → (mV Sx n tx kd lx) → (∃ d, TM n tx d) → (dgo n c nn 0 (tw, ld) = dgo n c (nn - k) k (tx, lx)) → nn - k < fu → K (mH g o ad Sx) 0 0 2 [some (.ref o), some (.int (nI first)), some (.int (nI nn)), some (.int (nI k))] [] := by
    intro fu
    induction fu with
    | zero => intro k Sx tx lx hk hX hVx hTx hG hm2; exact absurd hm2 (Nat.not_lt_zero _)
    | succ fu2 ih2 =>
      intro k Sx tx lx hk hX hVx hTx hG hm2
      refine r_iload_n G dX1_goDay_2 rfl ?_
      refine r_iload_n G dX1_goDay_3 rfl ?_
      refine r_icmp_ge G 44 (nI_leI (by omega) (by omega)) dX1_goDay_4 (by decide) (fun h4 => ?_) (fun h4 => ?_)
      · refine r_bipush G (v := -9) dX1_goDay_44 (by decide) ?_
        exact r_iret G rfl ⟨Nat.zero_le _, Nat.zero_le _⟩ dX1_goDay_46 ⟨_, rfl, by rw [hG, show nn - k = 0 by omega]; rfl, hX, by rw [hG, show nn - k = 0 by omega]; exact hVx⟩
      · obtain ⟨dx, Tx⟩ := hTx
        have hnk : nn - k = (nn - (k + 1)) + 1 := by omega
        refine r_aload_n G dX1_goDay_7 rfl ?_
        refine r_aload_n G dX1_goDay_8 rfl ?_
        refine m_geta G 4 (by decide) q1194 rfl dX1_goDay_9 ?_
        refine r_iload_n G dX1_goDay_12 rfl ?_
        refine r_iconst G (v := nI 2) dX1_goDay_13 (by decide) ?_
        refine r_iload_n G dX1_goDay_14 rfl ?_
        refine r_imul G (v := (nI (2 * k))) dX1_goDay_15 (pk_mul 2 k) ?_
        refine r_iadd G (v := (nI (first + (2 * k)))) dX1_goDay_16 (nI_add first (2 * k)) ?_
        refine m_ald G hD 4 (by decide) (by simp only [mN]; omega) (v := (c (2 * k))) ((congrFun (hX.2 4 (by decide) (by decide)) _).trans (hcc (2 * k) (by omega))) dX1_goDay_17 ?_
        refine r_aload_n G dX1_goDay_18 rfl ?_
        refine m_geta G 4 (by decide) q1194 rfl dX1_goDay_19 ?_
        refine r_iload_n G dX1_goDay_22 rfl ?_
        refine r_iconst G (v := nI 2) dX1_goDay_23 (by decide) ?_
        refine r_iload_n G dX1_goDay_24 rfl ?_
        refine r_imul G (v := (nI (2 * k))) dX1_goDay_25 (pk_mul 2 k) ?_
        refine r_iadd G (v := (nI (first + (2 * k)))) dX1_goDay_26 (nI_add first (2 * k)) ?_
        refine r_iconst G (v := nI 1) dX1_goDay_27 (by decide) ?_
        refine r_iadd G (v := (nI ((first + (2 * k)) + 1))) dX1_goDay_28 (nI_add (first + (2 * k)) 1) ?_
        refine m_ald G hD 4 (by decide) (by simp only [mN]; omega) (v := (c (2 * k + 1))) ((congrFun (hX.2 4 (by decide) (by decide)) _).trans (hcc (2 * k + 1) (by omega))) dX1_goDay_29 ?_
        refine m_callV G [.int (c (2 * k)), .int (c (2 * k + 1))] (mM_does hE hD (S := Sx) (d := dx) hVx (fun _ => ⟨h2n, Tx⟩) hn0 (c (2 * k)) (c (2 * k + 1)) (fun hc => pRef_0 (hpre k (by omega)) hc)) (lw_V q1378 q1380 qs55 q74 q1381) fy_yX1_does rfl rfl ⟨Nat.le_of_ble_eq_true rfl, Nat.le_of_ble_eq_true rfl⟩ rfl (Nat.le_of_ble_eq_true rfl) rfl rfl ⟨Nat.zero_le _, Nat.zero_le _⟩ dX1_goDay_30 (fun v30 S30 hp30 => ?_)
        obtain ⟨rfl, hY, hW⟩ := hp30
        show K (mH g o ad S30) 0 0 33 [some (.ref o), some (.int (nI first)), some (.int (nI nn)), some (.int (nI k))] [.int (bI (doOk n tx (c (2 * k)) (c (2 * k + 1))))]
        refine r_ifb_ne G 38  dX1_goDay_33 (by decide) (fun h33 => ?_) (fun h33 => ?_)
        · refine r_iinc G (v := (nI (k + 1))) (lo' := [some (.ref o), some (.int (nI first)), some (.int (nI nn)), some (.int (nI (k + 1)))]) dX1_goDay_38 rfl (nI_add k 1) rfl rfl ?_
          refine r_goto G 2 dX1_goDay_41 (by decide) ?_
          exact ih2 _ _ _ _ (by omega) (hX.tr hY) hW (doT_tm hn8 ⟨dx, Tx⟩ _ _) (by rw [hG, hnk]; exact dgo_s (s := (tx, lx)) h33) (by omega)
        · refine r_iload_n G dX1_goDay_36 rfl ?_
          exact r_iret G rfl ⟨Nat.zero_le _, Nat.zero_le _⟩ dX1_goDay_37 ⟨_, rfl, by rw [hG, hnk, dgo_f (s := (tx, lx)) h33]; rfl, hX.tr hY, by rw [hG, hnk, dgo_f (s := (tx, lx)) h33]; rw [doT_no h33, doL_no h33] at hW; exact hW⟩
  exact L2 (nn + 1) 0 S tw ld (Nat.zero_le _) (mEqX.rf _ _ _) hV hT (by rw [Nat.sub_zero]) (by omega)
/-- what the machine has against taking cells of a sheet: its lane sv, its length ln -/
def agn (sv : Int32) (ln : Nat) (sort i n : Int32) : Nat := if sv ≠ -9 ∧ sv ≠ sort then 2 else if sv = -9 then 1 else if n < 0 then 4 else if i < 0 ∨ nI ln < i ∨ nI ln - i < n then 3 else 0
set_option maxHeartbeats 4000000 in
theorem mM_against {l : Launch} {g : fG} {A : Nat → Prop} {En : State → Prop} (hE : fEnv g A En) {o : Nat} {ad : Nat → Nat} (hD : mD A o ad) {S : mS} (k : Nat) (hk : k < 4) {sv : Int32} {ln : Nat} (hs : S.2 2 k = sv) (hl : S.2 3 k = nI ln) (hl60 : ln ≤ 60) (b c e : Int32): mC l g A En o ad yX1_against cX1_against 5 (some .int) (fR 0) [.int (nI k), .int b, .int c, .int e] S (fun v S' => v = some (.int (nI (agn sv ln b c e))) ∧ S = S') := by
  refine fC.of (by decide) hE [some (.ref o), some (.int (nI k)), some (.int b), some (.int c), some (.int e)] rfl rfl (fun K G => ?_)
  have G : fGood l g A En RX1 "against" cX1_against 5 (some .int) (fR 0) _ K := G
  refine r_aload_n G dX1_against_0 rfl ?_
  refine m_geta G 2 (by decide) q1192 rfl dX1_against_1 ?_
  refine r_iload_n G dX1_against_4 rfl ?_
  refine m_ald G hD 2 (by decide) (by simp only [mN]; omega) (v := sv) hs dX1_against_5 ?_
  refine r_bipush G (v := -9) dX1_against_6 (by decide) ?_
  refine r_icmp_eq G 23 Iff.rfl dX1_against_8 (by decide) (fun h8 => ?_) (fun h8 => ?_)
  · have hA : ¬ (sv ≠ -9 ∧ sv ≠ b) := fun q => by first | exact q.1 h8 | exact q.2 h18
    refine r_aload_n G dX1_against_23 rfl ?_
    refine m_geta G 2 (by decide) q1192 rfl dX1_against_24 ?_
    refine r_iload_n G dX1_against_27 rfl ?_
    refine m_ald G hD 2 (by decide) (by simp only [mN]; omega) (v := sv) hs dX1_against_28 ?_
    refine r_bipush G (v := -9) dX1_against_29 (by decide) ?_
    refine r_icmp_ne G 36 Iff.rfl dX1_against_31 (by decide) (fun h31 => ?_) (fun h31 => ?_)
    · refine r_iload G dX1_against_36 rfl ?_
      refine r_if_ge G 43 Iff.rfl dX1_against_38 (by decide) (fun h38 => ?_) (fun h38 => ?_)
      · refine r_iload_n G dX1_against_43 rfl ?_
        refine r_if_lt G 70 Iff.rfl dX1_against_44 (by decide) (fun h44 => ?_) (fun h44 => ?_)
        · refine r_iconst G (v := nI 3) dX1_against_70 (by decide) ?_
          refine r_goto G 75 dX1_against_71 (by decide) ?_
          exact r_iret G rfl ⟨Nat.zero_le _, Nat.zero_le _⟩ dX1_against_75 ⟨_, rfl, rv (by rw [agn, if_neg hA, if_neg h31, if_neg (Int32.not_lt.mpr h38), if_pos (by first | exact Or.inl h44 | exact Or.inr (Or.inl h54) | exact Or.inr (Or.inr (Int32.not_le.mp h67)))]), rfl⟩
        · refine r_iload_n G dX1_against_47 rfl ?_
          refine r_aload_n G dX1_against_48 rfl ?_
          refine m_geta G 3 (by decide) q1193 rfl dX1_against_49 ?_
          refine r_iload_n G dX1_against_52 rfl ?_
          refine m_ald G hD 3 (by decide) (by simp only [mN]; omega) (v := (nI ln)) hl dX1_against_53 ?_
          refine r_icmp_gt G 70 Iff.rfl dX1_against_54 (by decide) (fun h54 => ?_) (fun h54 => ?_)
          · refine r_iconst G (v := nI 3) dX1_against_70 (by decide) ?_
            refine r_goto G 75 dX1_against_71 (by decide) ?_
            exact r_iret G rfl ⟨Nat.zero_le _, Nat.zero_le _⟩ dX1_against_75 ⟨_, rfl, rv (by rw [agn, if_neg hA, if_neg h31, if_neg (Int32.not_lt.mpr h38), if_pos (by first | exact Or.inl h44 | exact Or.inr (Or.inl h54) | exact Or.inr (Or.inr (Int32.not_le.mp h67)))]), rfl⟩
          · refine r_iload G dX1_against_57 rfl ?_
            refine r_aload_n G dX1_against_59 rfl ?_
            refine m_geta G 3 (by decide) q1193 rfl dX1_against_60 ?_
            refine r_iload_n G dX1_against_63 rfl ?_
            refine m_ald G hD 3 (by decide) (by simp only [mN]; omega) (v := (nI ln)) hl dX1_against_64 ?_
            refine r_iload_n G dX1_against_65 rfl ?_
            refine r_isub G (v := (nI ln - c)) dX1_against_66 rfl ?_
            refine r_icmp_le G 74 Iff.rfl dX1_against_67 (by decide) (fun h67 => ?_) (fun h67 => ?_)
            · refine r_iconst G (v := nI 0) dX1_against_74 (by decide) ?_
              exact r_iret G rfl ⟨Nat.zero_le _, Nat.zero_le _⟩ dX1_against_75 ⟨_, rfl, rv (by rw [agn, if_neg hA, if_neg h31, if_neg (Int32.not_lt.mpr h38), if_neg (fun q => q.elim (fun z => h44 z) (fun z => z.elim (fun y => h54 y) (fun y => absurd h67 (Int32.not_le.mpr y))))]), rfl⟩
            · refine r_iconst G (v := nI 3) dX1_against_70 (by decide) ?_
              refine r_goto G 75 dX1_against_71 (by decide) ?_
              exact r_iret G rfl ⟨Nat.zero_le _, Nat.zero_le _⟩ dX1_against_75 ⟨_, rfl, rv (by rw [agn, if_neg hA, if_neg h31, if_neg (Int32.not_lt.mpr h38), if_pos (by first | exact Or.inl h44 | exact Or.inr (Or.inl h54) | exact Or.inr (Or.inr (Int32.not_le.mp h67)))]), rfl⟩
      · refine r_iconst G (v := nI 4) dX1_against_41 (by decide) ?_
        exact r_iret G rfl ⟨Nat.zero_le _, Nat.zero_le _⟩ dX1_against_42 ⟨_, rfl, rv (by rw [agn, if_neg hA, if_neg h31, if_pos (Int32.not_le.mp h38)]), rfl⟩
    · refine r_iconst G (v := nI 1) dX1_against_34 (by decide) ?_
      exact r_iret G rfl ⟨Nat.zero_le _, Nat.zero_le _⟩ dX1_against_35 ⟨_, rfl, rv (by rw [agn, if_neg hA, if_pos h31]), rfl⟩
  · refine r_aload_n G dX1_against_11 rfl ?_
    refine m_geta G 2 (by decide) q1192 rfl dX1_against_12 ?_
    refine r_iload_n G dX1_against_15 rfl ?_
    refine m_ald G hD 2 (by decide) (by simp only [mN]; omega) (v := sv) hs dX1_against_16 ?_
    refine r_iload_n G dX1_against_17 rfl ?_
    refine r_icmp_eq G 23 Iff.rfl dX1_against_18 (by decide) (fun h18 => ?_) (fun h18 => ?_)
    · have hA : ¬ (sv ≠ -9 ∧ sv ≠ b) := fun q => by first | exact q.1 h8 | exact q.2 h18
      refine r_aload_n G dX1_against_23 rfl ?_
      refine m_geta G 2 (by decide) q1192 rfl dX1_against_24 ?_
      refine r_iload_n G dX1_against_27 rfl ?_
      refine m_ald G hD 2 (by decide) (by simp only [mN]; omega) (v := sv) hs dX1_against_28 ?_
      refine r_bipush G (v := -9) dX1_against_29 (by decide) ?_
      refine r_icmp_ne G 36 Iff.rfl dX1_against_31 (by decide) (fun h31 => ?_) (fun h31 => ?_)
      · refine r_iload G dX1_against_36 rfl ?_
        refine r_if_ge G 43 Iff.rfl dX1_against_38 (by decide) (fun h38 => ?_) (fun h38 => ?_)
        · refine r_iload_n G dX1_against_43 rfl ?_
          refine r_if_lt G 70 Iff.rfl dX1_against_44 (by decide) (fun h44 => ?_) (fun h44 => ?_)
          · refine r_iconst G (v := nI 3) dX1_against_70 (by decide) ?_
            refine r_goto G 75 dX1_against_71 (by decide) ?_
            exact r_iret G rfl ⟨Nat.zero_le _, Nat.zero_le _⟩ dX1_against_75 ⟨_, rfl, rv (by rw [agn, if_neg hA, if_neg h31, if_neg (Int32.not_lt.mpr h38), if_pos (by first | exact Or.inl h44 | exact Or.inr (Or.inl h54) | exact Or.inr (Or.inr (Int32.not_le.mp h67)))]), rfl⟩
          · refine r_iload_n G dX1_against_47 rfl ?_
            refine r_aload_n G dX1_against_48 rfl ?_
            refine m_geta G 3 (by decide) q1193 rfl dX1_against_49 ?_
            refine r_iload_n G dX1_against_52 rfl ?_
            refine m_ald G hD 3 (by decide) (by simp only [mN]; omega) (v := (nI ln)) hl dX1_against_53 ?_
            refine r_icmp_gt G 70 Iff.rfl dX1_against_54 (by decide) (fun h54 => ?_) (fun h54 => ?_)
            · refine r_iconst G (v := nI 3) dX1_against_70 (by decide) ?_
              refine r_goto G 75 dX1_against_71 (by decide) ?_
              exact r_iret G rfl ⟨Nat.zero_le _, Nat.zero_le _⟩ dX1_against_75 ⟨_, rfl, rv (by rw [agn, if_neg hA, if_neg h31, if_neg (Int32.not_lt.mpr h38), if_pos (by first | exact Or.inl h44 | exact Or.inr (Or.inl h54) | exact Or.inr (Or.inr (Int32.not_le.mp h67)))]), rfl⟩
            · refine r_iload G dX1_against_57 rfl ?_
              refine r_aload_n G dX1_against_59 rfl ?_
              refine m_geta G 3 (by decide) q1193 rfl dX1_against_60 ?_
              refine r_iload_n G dX1_against_63 rfl ?_
              refine m_ald G hD 3 (by decide) (by simp only [mN]; omega) (v := (nI ln)) hl dX1_against_64 ?_
              refine r_iload_n G dX1_against_65 rfl ?_
              refine r_isub G (v := (nI ln - c)) dX1_against_66 rfl ?_
              refine r_icmp_le G 74 Iff.rfl dX1_against_67 (by decide) (fun h67 => ?_) (fun h67 => ?_)
              · refine r_iconst G (v := nI 0) dX1_against_74 (by decide) ?_
                exact r_iret G rfl ⟨Nat.zero_le _, Nat.zero_le _⟩ dX1_against_75 ⟨_, rfl, rv (by rw [agn, if_neg hA, if_neg h31, if_neg (Int32.not_lt.mpr h38), if_neg (fun q => q.elim (fun z => h44 z) (fun z => z.elim (fun y => h54 y) (fun y => absurd h67 (Int32.not_le.mpr y))))]), rfl⟩
              · refine r_iconst G (v := nI 3) dX1_against_70 (by decide) ?_
                refine r_goto G 75 dX1_against_71 (by decide) ?_
                exact r_iret G rfl ⟨Nat.zero_le _, Nat.zero_le _⟩ dX1_against_75 ⟨_, rfl, rv (by rw [agn, if_neg hA, if_neg h31, if_neg (Int32.not_lt.mpr h38), if_pos (by first | exact Or.inl h44 | exact Or.inr (Or.inl h54) | exact Or.inr (Or.inr (Int32.not_le.mp h67)))]), rfl⟩
        · refine r_iconst G (v := nI 4) dX1_against_41 (by decide) ?_
          exact r_iret G rfl ⟨Nat.zero_le _, Nat.zero_le _⟩ dX1_against_42 ⟨_, rfl, rv (by rw [agn, if_neg hA, if_neg h31, if_pos (Int32.not_le.mp h38)]), rfl⟩
      · refine r_iconst G (v := nI 1) dX1_against_34 (by decide) ?_
        exact r_iret G rfl ⟨Nat.zero_le _, Nat.zero_le _⟩ dX1_against_35 ⟨_, rfl, rv (by rw [agn, if_neg hA, if_pos h31]), rfl⟩
    · refine r_iconst G (v := nI 2) dX1_against_21 (by decide) ?_
      exact r_iret G rfl ⟨Nat.zero_le _, Nat.zero_le _⟩ dX1_against_22 ⟨_, rfl, rv (by rw [agn, if_pos ⟨h8, h18⟩]), rfl⟩
end MM9
