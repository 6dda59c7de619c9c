/-! the reference: reading a vine, copying -/
set_option maxRecDepth 100000
section MM12
set_option maxHeartbeats 4000000 in
theorem mM_digit {l : Launch} {g : fG} {A : Nat → Prop} {En : State → Prop} (hE : fEnv g A En) {o : Nat} {ad : Nat → Nat} (hD : mD A o ad) {S : mS} {r : Int32} {fr fk fl : Nat → Int32} {c : Nat → Int32} (first m : Nat) (hcc : ∀ j, j < m → S.2 4 (first + j) = c j) (h240 : first + m ≤ 240) (a lo hi : Nat) (ha : a < 1000) (hlo : lo ≤ 10) (hhi : hi ≤ 10): mC l g A En o ad yX1_digit cX1_digit 4 (some .int) (fR 1) [.int (nI (first + m)), .int (nI lo), .int (nI hi)] (rS S (nI (first + a)) r fr fk fl) (fun v S' => (okD c m a lo hi = true ∧ v = some (.int (nI (dgv (c a)))) ∧ rS S (nI (first + a + 1)) r fr fk fl = S') ∨ (okD c m a lo hi = false ∧ v = some (.int (-9)) ∧ rS S (nI (first + a)) r fr fk fl = S')) := by
  refine fC.of (by decide) hE [some (.ref o), some (.int (nI (first + m))), some (.int (nI lo)), some (.int (nI hi))] rfl rfl (fun K G => ?_)
  have G : fGood l g A En RX1 "digit" cX1_digit 4 (some .int) (fR 1) _ K := G
  refine r_aload_n G dX1_digit_0 rfl ?_
  refine m_gets G 10 (by decide) q1200 rfl (v := (nI (first + a))) rfl dX1_digit_1 ?_
  refine r_iload_n G dX1_digit_4 rfl ?_
  refine r_icmp_ge G 31 (nI_leI (by omega) (by omega)) dX1_digit_5 (by decide) (fun h5 => ?_) (fun h5 => ?_)
  · refine r_bipush G (v := -9) dX1_digit_31 (by decide) ?_
    exact r_iret G rfl ⟨Nat.zero_le _, Nat.zero_le _⟩ dX1_digit_33 ⟨_, rfl, Or.inr ⟨by rw [okD, Bool.and_eq_false_iff, decide_eq_false_iff_not]; first | exact Or.inl (by omega) | exact Or.inr h28, rfl, rfl⟩⟩
  · refine r_aload_n G dX1_digit_8 rfl ?_
    refine m_geta G 4 (by decide) q1194 rfl dX1_digit_9 ?_
    refine r_aload_n G dX1_digit_12 rfl ?_
    refine m_gets G 10 (by decide) q1200 rfl (v := (nI (first + a))) rfl dX1_digit_13 ?_
    refine m_ald G hD 4 (by decide) (by simp only [mN]; omega) (v := (c a)) (hcc a (by omega)) dX1_digit_16 ?_
    refine r_bipush G (v := nI 48) dX1_digit_17 (by decide) ?_
    refine r_iload_n G dX1_digit_19 rfl ?_
    refine r_iadd G (v := (nI (48 + lo))) dX1_digit_20 (nI_add 48 lo) ?_
    refine r_bipush G (v := nI 48) dX1_digit_21 (by decide) ?_
    refine r_iload_n G dX1_digit_23 rfl ?_
    refine r_iadd G (v := (nI (48 + hi))) dX1_digit_24 (nI_add 48 hi) ?_
    refine s_callS G [.int (c a), .int (nI (48 + lo)), .int (nI (48 + hi))] (sM_within hE (c a) (nI (48 + lo)) (nI (48 + hi))) (lw_S q1279 q1280 q74 q1281) fy_yX1_within rfl ⟨Nat.le_of_ble_eq_true rfl, Nat.le_of_ble_eq_true rfl⟩ rfl (Nat.le_of_ble_eq_true rfl) rfl rfl ⟨Nat.zero_le _, Nat.zero_le _⟩ dX1_digit_25 ?_
    refine r_ifb_ne G 34  dX1_digit_28 (by decide) (fun h28 => ?_) (fun h28 => ?_)
    · have hok : okD c m a lo hi = true := by rw [okD, h28, decide_eq_true (show a < m by omega)]; rfl
      obtain ⟨-, v, hv1, hv2, hv3, hv4⟩ := okD_t (by omega) (by omega) hok
      refine r_aload_n G dX1_digit_34 rfl ?_
      refine r_dup G dX1_digit_35 rfl ?_
      refine m_gets G 10 (by decide) q1200 rfl (v := (nI (first + a))) rfl dX1_digit_36 ?_
      refine r_iconst G (v := nI 1) dX1_digit_39 (by decide) ?_
      refine r_iadd G (v := (nI ((first + a) + 1))) dX1_digit_40 (nI_add (first + a) 1) ?_
      refine m_puts G hD 10 (by decide) q1200 rfl rfl rfl dX1_digit_41 ?_
      rw [rS_10]
      refine r_aload_n G dX1_digit_44 rfl ?_
      refine m_geta G 4 (by decide) q1194 rfl dX1_digit_45 ?_
      refine r_aload_n G dX1_digit_48 rfl ?_
      refine m_gets G 10 (by decide) q1200 rfl (v := (nI (first + a + 1))) rfl dX1_digit_49 ?_
      refine r_iconst G (v := nI 1) dX1_digit_52 (by decide) ?_
      refine r_isub G (v := (nI (first + a))) dX1_digit_53 (pk_sub (b := 1) (by omega)) ?_
      refine m_ald G hD 4 (by decide) (by simp only [mN]; omega) (v := (c a)) (hcc a (by omega)) dX1_digit_54 ?_
      refine r_bipush G (v := nI 48) dX1_digit_55 (by decide) ?_
      refine r_isub G (v := (nI (dgv (c a)))) dX1_digit_57 (by rw [hv4, hv3]; exact (pk_sub (by omega)).trans (congrArg nI (by omega))) ?_
      exact r_iret G rfl ⟨Nat.zero_le _, Nat.zero_le _⟩ dX1_digit_58 ⟨_, rfl, Or.inl ⟨hok, rfl, rfl⟩⟩
    · refine r_bipush G (v := -9) dX1_digit_31 (by decide) ?_
      exact r_iret G rfl ⟨Nat.zero_le _, Nat.zero_le _⟩ dX1_digit_33 ⟨_, rfl, Or.inr ⟨by rw [okD, Bool.and_eq_false_iff, decide_eq_false_iff_not]; first | exact Or.inl (by omega) | exact Or.inr h28, rfl, rfl⟩⟩
theorem dgv_lt {c : Nat → Int32} {m a lo hi : Nat} (h : okD c m a lo hi = true) (hh : hi < 1000) (hl : lo < 1000 := by decide) : dgv (c a) < 2 ^ 31 := by
  obtain ⟨-, v, -, h2, -, h4⟩ := okD_t hl hh h
  omega
theorem n9 {v : Nat} (h : v < 2 ^ 31) : ¬ nI v = -9 := oI_ne v h
set_option maxHeartbeats 4000000 in
theorem mM_readPost {l : Launch} {g : fG} {A : Nat → Prop} {En : State → Prop} (hE : fEnv g A En) {o : Nat} {ad : Nat → Nat} (hD : mD A o ad) {S : mS} {r : Int32} {fr fk fl : Nat → Int32} {c : Nat → Int32} (first m : Nat) (hcc : ∀ j, j < m → S.2 4 (first + j) = c j) (h240 : first + m ≤ 240) (a p : Nat) (ha : a < 999) (hp : p < 8): mC l g A En o ad yX1_readPost cX1_readPost 4 (some .boolean) (fR 2) [.int (nI (first + m)), .int (nI p)] (rS S (nI (first + a)) r fr fk fl) (fun v S' => v = some (.int (bI (okK c m a && okD c m (a + 1) 0 9))) ∧ (((okK c m a && okD c m (a + 1) 0 9) = true ∧ rS S (nI (first + (a + 1) + 1)) r fr (upd fk p (nI (kdv (c a)))) (upd fl p (nI (dgv (c (a + 1))))) = S') ∨ ((okK c m a && okD c m (a + 1) 0 9) = false ∧ ∃ gk gl, rS S (nI (if okK c m a then first + (a + 1) else first + a)) r fr gk gl = S'))) := by
  refine fC.of (by decide) hE [some (.ref o), some (.int (nI (first + m))), some (.int (nI p)), none] rfl rfl (fun K G => ?_)
  have G : fGood l g A En RX1 "readPost" cX1_readPost 4 (some .boolean) (fR 2) _ K := G
  refine r_aload_n G dX1_readPost_0 rfl ?_
  refine m_gets G 10 (by decide) q1200 rfl (v := (nI (first + a))) rfl dX1_readPost_1 ?_
  refine r_iload_n G dX1_readPost_4 rfl ?_
  refine r_icmp_ge G 20 (nI_leI (by omega) (by omega)) dX1_readPost_5 (by decide) (fun h5 => ?_) (fun h5 => ?_)
  · refine r_iconst G (v := nI 0) dX1_readPost_20 (by decide) ?_
    refine r_istore_n G (lo' := [some (.ref o), some (.int (nI (first + m))), some (.int (nI p)), some (.int (nI 0))]) dX1_readPost_21 rfl rfl ?_
    refine r_aload_n G dX1_readPost_22 rfl ?_
    refine m_geta G 13 (by decide) q1203 rfl dX1_readPost_23 ?_
    refine r_iload_n G dX1_readPost_26 rfl ?_
    refine r_iload_n G dX1_readPost_27 rfl ?_
    refine r_bipush G (v := nI 112) dX1_readPost_28 (by decide) ?_
    refine r_icmp_ne G 37 (nI_eq (by decide) (by decide)) dX1_readPost_30 (by decide) (fun h30 => ?_) (fun h30 => False.elim (absurd h30 (by decide)))
    refine r_iload_n G dX1_readPost_37 rfl ?_
    refine r_bipush G (v := nI 98) dX1_readPost_38 (by decide) ?_
    refine r_icmp_ne G 47 (nI_eq (by decide) (by decide)) dX1_readPost_40 (by decide) (fun h40 => ?_) (fun h40 => False.elim (absurd h40 (by decide)))
    refine r_iload_n G dX1_readPost_47 rfl ?_
    refine r_bipush G (v := nI 100) dX1_readPost_48 (by decide) ?_
    refine r_icmp_ne G 57 (nI_eq (by decide) (by decide)) dX1_readPost_50 (by decide) (fun h50 => ?_) (fun h50 => False.elim (absurd h50 (by decide)))
    refine r_bipush G (v := -9) dX1_readPost_57 (by decide) ?_
    refine m_ast G hD 13 (by decide) (by simp only [mN]; omega) dX1_readPost_59 ?_
    rw [rS_13]
    refine r_aload_n G dX1_readPost_60 rfl ?_
    refine m_geta G 13 (by decide) q1203 rfl dX1_readPost_61 ?_
    refine r_iload_n G dX1_readPost_64 rfl ?_
    refine m_ald G hD 13 (by decide) (by simp only [mN]; omega) (v := (-9)) pk_us dX1_readPost_65 ?_
    refine r_bipush G (v := -9) dX1_readPost_66 (by decide) ?_
    refine r_icmp_ne G 73 Iff.rfl dX1_readPost_68 (by decide) (fun h68 => False.elim (absurd rfl h68)) (fun h68 => ?_)
    refine r_iconst G (v := nI 0) dX1_readPost_71 (by decide) ?_
    exact r_zret G rfl (by decide) ⟨Nat.zero_le _, Nat.zero_le _⟩ dX1_readPost_72 ⟨_, rfl, rb (by rw [(show okK c m a = false from by rw [okK]; first | (rw [decide_eq_false (show ¬ a < m by omega)]; rfl) | (rw [decide_eq_false h30, decide_eq_false h40, decide_eq_false h50]; simp))]; rfl), Or.inr ⟨by rw [(show okK c m a = false from by rw [okK]; first | (rw [decide_eq_false (show ¬ a < m by omega)]; rfl) | (rw [decide_eq_false h30, decide_eq_false h40, decide_eq_false h50]; simp))]; rfl, _, _, by rw [(show okK c m a = false from by rw [okK]; first | (rw [decide_eq_false (show ¬ a < m by omega)]; rfl) | (rw [decide_eq_false h30, decide_eq_false h40, decide_eq_false h50]; simp)), if_neg (by decide)]⟩⟩
  · refine r_aload_n G dX1_readPost_8 rfl ?_
    refine m_geta G 4 (by decide) q1194 rfl dX1_readPost_9 ?_
    refine r_aload_n G dX1_readPost_12 rfl ?_
    refine m_gets G 10 (by decide) q1200 rfl (v := (nI (first + a))) rfl dX1_readPost_13 ?_
    refine m_ald G hD 4 (by decide) (by simp only [mN]; omega) (v := (c a)) (hcc a (by omega)) dX1_readPost_16 ?_
    refine r_goto G 21 dX1_readPost_17 (by decide) ?_
    refine r_istore_n G (lo' := [some (.ref o), some (.int (nI (first + m))), some (.int (nI p)), some (.int (c a))]) dX1_readPost_21 rfl rfl ?_
    refine r_aload_n G dX1_readPost_22 rfl ?_
    refine m_geta G 13 (by decide) q1203 rfl dX1_readPost_23 ?_
    refine r_iload_n G dX1_readPost_26 rfl ?_
    refine r_iload_n G dX1_readPost_27 rfl ?_
    refine r_bipush G (v := nI 112) dX1_readPost_28 (by decide) ?_
    refine r_icmp_ne G 37 Iff.rfl dX1_readPost_30 (by decide) (fun h30 => ?_) (fun h30 => ?_)
    · refine r_iload_n G dX1_readPost_37 rfl ?_
      refine r_bipush G (v := nI 98) dX1_readPost_38 (by decide) ?_
      refine r_icmp_ne G 47 Iff.rfl dX1_readPost_40 (by decide) (fun h40 => ?_) (fun h40 => ?_)
      · refine r_iload_n G dX1_readPost_47 rfl ?_
        refine r_bipush G (v := nI 100) dX1_readPost_48 (by decide) ?_
        refine r_icmp_ne G 57 Iff.rfl dX1_readPost_50 (by decide) (fun h50 => ?_) (fun h50 => ?_)
        · refine r_bipush G (v := -9) dX1_readPost_57 (by decide) ?_
          refine m_ast G hD 13 (by decide) (by simp only [mN]; omega) dX1_readPost_59 ?_
          rw [rS_13]
          refine r_aload_n G dX1_readPost_60 rfl ?_
          refine m_geta G 13 (by decide) q1203 rfl dX1_readPost_61 ?_
          refine r_iload_n G dX1_readPost_64 rfl ?_
          refine m_ald G hD 13 (by decide) (by simp only [mN]; omega) (v := (-9)) pk_us dX1_readPost_65 ?_
          refine r_bipush G (v := -9) dX1_readPost_66 (by decide) ?_
          refine r_icmp_ne G 73 Iff.rfl dX1_readPost_68 (by decide) (fun h68 => False.elim (absurd rfl h68)) (fun h68 => ?_)
          refine r_iconst G (v := nI 0) dX1_readPost_71 (by decide) ?_
          exact r_zret G rfl (by decide) ⟨Nat.zero_le _, Nat.zero_le _⟩ dX1_readPost_72 ⟨_, rfl, rb (by rw [(show okK c m a = false from by rw [okK]; first | (rw [decide_eq_false (show ¬ a < m by omega)]; rfl) | (rw [decide_eq_false h30, decide_eq_false h40, decide_eq_false h50]; simp))]; rfl), Or.inr ⟨by rw [(show okK c m a = false from by rw [okK]; first | (rw [decide_eq_false (show ¬ a < m by omega)]; rfl) | (rw [decide_eq_false h30, decide_eq_false h40, decide_eq_false h50]; simp))]; rfl, _, _, by rw [(show okK c m a = false from by rw [okK]; first | (rw [decide_eq_false (show ¬ a < m by omega)]; rfl) | (rw [decide_eq_false h30, decide_eq_false h40, decide_eq_false h50]; simp)), if_neg (by decide)]⟩⟩
        · refine r_iconst G (v := nI 2) dX1_readPost_53 (by decide) ?_
          refine r_goto G 59 dX1_readPost_54 (by decide) ?_
          refine m_ast G hD 13 (by decide) (by simp only [mN]; omega) dX1_readPost_59 ?_
          rw [rS_13]
          refine r_aload_n G dX1_readPost_60 rfl ?_
          refine m_geta G 13 (by decide) q1203 rfl dX1_readPost_61 ?_
          refine r_iload_n G dX1_readPost_64 rfl ?_
          refine m_ald G hD 13 (by decide) (by simp only [mN]; omega) (v := (nI 2)) pk_us dX1_readPost_65 ?_
          refine r_bipush G (v := -9) dX1_readPost_66 (by decide) ?_
          refine r_icmp_ne G 73 Iff.rfl dX1_readPost_68 (by decide) (fun h68 => ?_) (fun h68 => False.elim (absurd h68 (n9 (by decide))))
          refine r_aload_n G dX1_readPost_73 rfl ?_
          refine r_dup G dX1_readPost_74 rfl ?_
          refine m_gets G 10 (by decide) q1200 rfl (v := (nI (first + a))) rfl dX1_readPost_75 ?_
          refine r_iconst G (v := nI 1) dX1_readPost_78 (by decide) ?_
          refine r_iadd G (v := (nI ((first + a) + 1))) dX1_readPost_79 (nI_add (first + a) 1) ?_
          refine m_puts G hD 10 (by decide) q1200 rfl rfl rfl dX1_readPost_80 ?_
          rw [rS_10]
          refine r_aload_n G dX1_readPost_83 rfl ?_
          refine m_geta G 14 (by decide) q1204 rfl dX1_readPost_84 ?_
          refine r_iload_n G dX1_readPost_87 rfl ?_
          refine r_aload_n G dX1_readPost_88 rfl ?_
          refine r_iload_n G dX1_readPost_89 rfl ?_
          refine r_iconst G (v := nI 0) dX1_readPost_90 (by decide) ?_
          refine r_bipush G (v := nI 9) dX1_readPost_91 (by decide) ?_
          refine m_callV G [.int (nI (first + m)), .int (nI 0), .int (nI 9)] (mM_digit hE hD (S := S) (r := r) (fr := fr) (fk := (upd fk p (nI 2))) (fl := fl) first m hcc h240 (a + 1) 0 9 (by omega) (by omega) (by omega)) (lw_V q1297 q1299 qs42 q74 q1300) fy_yX1_digit rfl rfl ⟨Nat.le_of_ble_eq_true rfl, Nat.le_of_ble_eq_true rfl⟩ rfl (Nat.le_of_ble_eq_true rfl) rfl rfl ⟨Nat.zero_le _, Nat.zero_le _⟩ dX1_readPost_93 (fun v93 S93 hp93 => ?_)
          rcases hp93 with ⟨hd93, rfl, rfl⟩ | ⟨hd93, rfl, rfl⟩
          · skip
            show K (mH g o ad (rS S (nI (first + (a + 1) + 1)) r fr (upd fk p (nI 2)) fl)) 0 0 96 [some (.ref o), some (.int (nI (first + m))), some (.int (nI p)), some (.int (c a))] [.int (nI (dgv (c (a + 1)))), .int (nI p), .ref (ad 14)]
            refine m_ast G hD 14 (by decide) (by simp only [mN]; omega) dX1_readPost_96 ?_
            rw [rS_14]
            refine r_aload_n G dX1_readPost_97 rfl ?_
            refine m_geta G 14 (by decide) q1204 rfl dX1_readPost_98 ?_
            refine r_iload_n G dX1_readPost_101 rfl ?_
            refine m_ald G hD 14 (by decide) (by simp only [mN]; omega) (v := (nI (dgv (c (a + 1))))) pk_us dX1_readPost_102 ?_
            refine r_bipush G (v := -9) dX1_readPost_103 (by decide) ?_
            refine r_icmp_eq G 112 Iff.rfl dX1_readPost_105 (by decide) (fun h105 => False.elim (absurd h105 (n9 (dgv_lt hd93 (by decide))))) (fun h105 => ?_)
            refine r_iconst G (v := nI 1) dX1_readPost_108 (by decide) ?_
            refine r_goto G 113 dX1_readPost_109 (by decide) ?_
            exact r_zret G rfl (by decide) ⟨Nat.zero_le _, Nat.zero_le _⟩ dX1_readPost_113 ⟨_, rfl, rb (by rw [(show okK c m a = true from by rw [okK, decide_eq_true (show a < m by omega), Bool.true_and, Bool.or_eq_true, Bool.or_eq_true, decide_eq_true_eq, decide_eq_true_eq, decide_eq_true_eq]; first | exact Or.inl (Or.inl h30) | exact Or.inl (Or.inr h40) | exact Or.inr h50), hd93]; rfl), Or.inl ⟨by rw [(show okK c m a = true from by rw [okK, decide_eq_true (show a < m by omega), Bool.true_and, Bool.or_eq_true, Bool.or_eq_true, decide_eq_true_eq, decide_eq_true_eq, decide_eq_true_eq]; first | exact Or.inl (Or.inl h30) | exact Or.inl (Or.inr h40) | exact Or.inr h50), hd93]; rfl, by rw [(show kdv (c a) = 2 from by unfold kdv; rw [if_neg h30, if_neg h40])]⟩⟩
          · skip
            show K (mH g o ad (rS S (nI (first + (a + 1))) r fr (upd fk p (nI 2)) fl)) 0 0 96 [some (.ref o), some (.int (nI (first + m))), some (.int (nI p)), some (.int (c a))] [.int (-9), .int (nI p), .ref (ad 14)]
            refine m_ast G hD 14 (by decide) (by simp only [mN]; omega) dX1_readPost_96 ?_
            rw [rS_14]
            refine r_aload_n G dX1_readPost_97 rfl ?_
            refine m_geta G 14 (by decide) q1204 rfl dX1_readPost_98 ?_
            refine r_iload_n G dX1_readPost_101 rfl ?_
            refine m_ald G hD 14 (by decide) (by simp only [mN]; omega) (v := (-9)) pk_us dX1_readPost_102 ?_
            refine r_bipush G (v := -9) dX1_readPost_103 (by decide) ?_
            refine r_icmp_eq G 112 Iff.rfl dX1_readPost_105 (by decide) (fun h105 => ?_) (fun h105 => False.elim (absurd rfl h105))
            refine r_iconst G (v := nI 0) dX1_readPost_112 (by decide) ?_
            exact r_zret G rfl (by decide) ⟨Nat.zero_le _, Nat.zero_le _⟩ dX1_readPost_113 ⟨_, rfl, rb (by rw [(show okK c m a = true from by rw [okK, decide_eq_true (show a < m by omega), Bool.true_and, Bool.or_eq_true, Bool.or_eq_true, decide_eq_true_eq, decide_eq_true_eq, decide_eq_true_eq]; first | exact Or.inl (Or.inl h30) | exact Or.inl (Or.inr h40) | exact Or.inr h50), hd93]; rfl), Or.inr ⟨by rw [(show okK c m a = true from by rw [okK, decide_eq_true (show a < m by omega), Bool.true_and, Bool.or_eq_true, Bool.or_eq_true, decide_eq_true_eq, decide_eq_true_eq, decide_eq_true_eq]; first | exact Or.inl (Or.inl h30) | exact Or.inl (Or.inr h40) | exact Or.inr h50), hd93]; rfl, _, _, by rw [(show okK c m a = true from by rw [okK, decide_eq_true (show a < m by omega), Bool.true_and, Bool.or_eq_true, Bool.or_eq_true, decide_eq_true_eq, decide_eq_true_eq, decide_eq_true_eq]; first | exact Or.inl (Or.inl h30) | exact Or.inl (Or.inr h40) | exact Or.inr h50), if_pos rfl]⟩⟩
      · refine r_iconst G (v := nI 1) dX1_readPost_43 (by decide) ?_
        refine r_goto G 59 dX1_readPost_44 (by decide) ?_
        refine m_ast G hD 13 (by decide) (by simp only [mN]; omega) dX1_readPost_59 ?_
        rw [rS_13]
        refine r_aload_n G dX1_readPost_60 rfl ?_
        refine m_geta G 13 (by decide) q1203 rfl dX1_readPost_61 ?_
        refine r_iload_n G dX1_readPost_64 rfl ?_
        refine m_ald G hD 13 (by decide) (by simp only [mN]; omega) (v := (nI 1)) pk_us dX1_readPost_65 ?_
        refine r_bipush G (v := -9) dX1_readPost_66 (by decide) ?_
        refine r_icmp_ne G 73 Iff.rfl dX1_readPost_68 (by decide) (fun h68 => ?_) (fun h68 => False.elim (absurd h68 (n9 (by decide))))
        refine r_aload_n G dX1_readPost_73 rfl ?_
        refine r_dup G dX1_readPost_74 rfl ?_
        refine m_gets G 10 (by decide) q1200 rfl (v := (nI (first + a))) rfl dX1_readPost_75 ?_
        refine r_iconst G (v := nI 1) dX1_readPost_78 (by decide) ?_
        refine r_iadd G (v := (nI ((first + a) + 1))) dX1_readPost_79 (nI_add (first + a) 1) ?_
        refine m_puts G hD 10 (by decide) q1200 rfl rfl rfl dX1_readPost_80 ?_
        rw [rS_10]
        refine r_aload_n G dX1_readPost_83 rfl ?_
        refine m_geta G 14 (by decide) q1204 rfl dX1_readPost_84 ?_
        refine r_iload_n G dX1_readPost_87 rfl ?_
        refine r_aload_n G dX1_readPost_88 rfl ?_
        refine r_iload_n G dX1_readPost_89 rfl ?_
        refine r_iconst G (v := nI 0) dX1_readPost_90 (by decide) ?_
        refine r_bipush G (v := nI 9) dX1_readPost_91 (by decide) ?_
        refine m_callV G [.int (nI (first + m)), .int (nI 0), .int (nI 9)] (mM_digit hE hD (S := S) (r := r) (fr := fr) (fk := (upd fk p (nI 1))) (fl := fl) first m hcc h240 (a + 1) 0 9 (by omega) (by omega) (by omega)) (lw_V q1297 q1299 qs42 q74 q1300) fy_yX1_digit rfl rfl ⟨Nat.le_of_ble_eq_true rfl, Nat.le_of_ble_eq_true rfl⟩ rfl (Nat.le_of_ble_eq_true rfl) rfl rfl ⟨Nat.zero_le _, Nat.zero_le _⟩ dX1_readPost_93 (fun v93 S93 hp93 => ?_)
        rcases hp93 with ⟨hd93, rfl, rfl⟩ | ⟨hd93, rfl, rfl⟩
        · skip
          show K (mH g o ad (rS S (nI (first + (a + 1) + 1)) r fr (upd fk p (nI 1)) fl)) 0 0 96 [some (.ref o), some (.int (nI (first + m))), some (.int (nI p)), some (.int (c a))] [.int (nI (dgv (c (a + 1)))), .int (nI p), .ref (ad 14)]
          refine m_ast G hD 14 (by decide) (by simp only [mN]; omega) dX1_readPost_96 ?_
          rw [rS_14]
          refine r_aload_n G dX1_readPost_97 rfl ?_
          refine m_geta G 14 (by decide) q1204 rfl dX1_readPost_98 ?_
          refine r_iload_n G dX1_readPost_101 rfl ?_
          refine m_ald G hD 14 (by decide) (by simp only [mN]; omega) (v := (nI (dgv (c (a + 1))))) pk_us dX1_readPost_102 ?_
          refine r_bipush G (v := -9) dX1_readPost_103 (by decide) ?_
          refine r_icmp_eq G 112 Iff.rfl dX1_readPost_105 (by decide) (fun h105 => False.elim (absurd h105 (n9 (dgv_lt hd93 (by decide))))) (fun h105 => ?_)
          refine r_iconst G (v := nI 1) dX1_readPost_108 (by decide) ?_
          refine r_goto G 113 dX1_readPost_109 (by decide) ?_
          exact r_zret G rfl (by decide) ⟨Nat.zero_le _, Nat.zero_le _⟩ dX1_readPost_113 ⟨_, rfl, rb (by rw [(show okK c m a = true from by rw [okK, decide_eq_true (show a < m by omega), Bool.true_and, Bool.or_eq_true, Bool.or_eq_true, decide_eq_true_eq, decide_eq_true_eq, decide_eq_true_eq]; first | exact Or.inl (Or.inl h30) | exact Or.inl (Or.inr h40) | exact Or.inr h50), hd93]; rfl), Or.inl ⟨by rw [(show okK c m a = true from by rw [okK, decide_eq_true (show a < m by omega), Bool.true_and, Bool.or_eq_true, Bool.or_eq_true, decide_eq_true_eq, decide_eq_true_eq, decide_eq_true_eq]; first | exact Or.inl (Or.inl h30) | exact Or.inl (Or.inr h40) | exact Or.inr h50), hd93]; rfl, by rw [(show kdv (c a) = 1 from by unfold kdv; rw [if_neg h30, if_pos h40])]⟩⟩
        · skip
          show K (mH g o ad (rS S (nI (first + (a + 1))) r fr (upd fk p (nI 1)) fl)) 0 0 96 [some (.ref o), some (.int (nI (first + m))), some (.int (nI p)), some (.int (c a))] [.int (-9), .int (nI p), .ref (ad 14)]
          refine m_ast G hD 14 (by decide) (by simp only [mN]; omega) dX1_readPost_96 ?_
          rw [rS_14]
          refine r_aload_n G dX1_readPost_97 rfl ?_
          refine m_geta G 14 (by decide) q1204 rfl dX1_readPost_98 ?_
          refine r_iload_n G dX1_readPost_101 rfl ?_
          refine m_ald G hD 14 (by decide) (by simp only [mN]; omega) (v := (-9)) pk_us dX1_readPost_102 ?_
          refine r_bipush G (v := -9) dX1_readPost_103 (by decide) ?_
          refine r_icmp_eq G 112 Iff.rfl dX1_readPost_105 (by decide) (fun h105 => ?_) (fun h105 => False.elim (absurd rfl h105))
          refine r_iconst G (v := nI 0) dX1_readPost_112 (by decide) ?_
          exact r_zret G rfl (by decide) ⟨Nat.zero_le _, Nat.zero_le _⟩ dX1_readPost_113 ⟨_, rfl, rb (by rw [(show okK c m a = true from by rw [okK, decide_eq_true (show a < m by omega), Bool.true_and, Bool.or_eq_true, Bool.or_eq_true, decide_eq_true_eq, decide_eq_true_eq, decide_eq_true_eq]; first | exact Or.inl (Or.inl h30) | exact Or.inl (Or.inr h40) | exact Or.inr h50), hd93]; rfl), Or.inr ⟨by rw [(show okK c m a = true from by rw [okK, decide_eq_true (show a < m by omega), Bool.true_and, Bool.or_eq_true, Bool.or_eq_true, decide_eq_true_eq, decide_eq_true_eq, decide_eq_true_eq]; first | exact Or.inl (Or.inl h30) | exact Or.inl (Or.inr h40) | exact Or.inr h50), hd93]; rfl, _, _, by rw [(show okK c m a = true from by rw [okK, decide_eq_true (show a < m by omega), Bool.true_and, Bool.or_eq_true, Bool.or_eq_true, decide_eq_true_eq, decide_eq_true_eq, decide_eq_true_eq]; first | exact Or.inl (Or.inl h30) | exact Or.inl (Or.inr h40) | exact Or.inr h50), if_pos rfl]⟩⟩
    · refine r_iconst G (v := nI 0) dX1_readPost_33 (by decide) ?_
      refine r_goto G 59 dX1_readPost_34 (by decide) ?_
      refine m_ast G hD 13 (by decide) (by simp only [mN]; omega) dX1_readPost_59 ?_
      rw [rS_13]
      refine r_aload_n G dX1_readPost_60 rfl ?_
      refine m_geta G 13 (by decide) q1203 rfl dX1_readPost_61 ?_
      refine r_iload_n G dX1_readPost_64 rfl ?_
      refine m_ald G hD 13 (by decide) (by simp only [mN]; omega) (v := (nI 0)) pk_us dX1_readPost_65 ?_
      refine r_bipush G (v := -9) dX1_readPost_66 (by decide) ?_
      refine r_icmp_ne G 73 Iff.rfl dX1_readPost_68 (by decide) (fun h68 => ?_) (fun h68 => False.elim (absurd h68 (n9 (by decide))))
      refine r_aload_n G dX1_readPost_73 rfl ?_
      refine r_dup G dX1_readPost_74 rfl ?_
      refine m_gets G 10 (by decide) q1200 rfl (v := (nI (first + a))) rfl dX1_readPost_75 ?_
      refine r_iconst G (v := nI 1) dX1_readPost_78 (by decide) ?_
      refine r_iadd G (v := (nI ((first + a) + 1))) dX1_readPost_79 (nI_add (first + a) 1) ?_
      refine m_puts G hD 10 (by decide) q1200 rfl rfl rfl dX1_readPost_80 ?_
      rw [rS_10]
      refine r_aload_n G dX1_readPost_83 rfl ?_
      refine m_geta G 14 (by decide) q1204 rfl dX1_readPost_84 ?_
      refine r_iload_n G dX1_readPost_87 rfl ?_
      refine r_aload_n G dX1_readPost_88 rfl ?_
      refine r_iload_n G dX1_readPost_89 rfl ?_
      refine r_iconst G (v := nI 0) dX1_readPost_90 (by decide) ?_
      refine r_bipush G (v := nI 9) dX1_readPost_91 (by decide) ?_
      refine m_callV G [.int (nI (first + m)), .int (nI 0), .int (nI 9)] (mM_digit hE hD (S := S) (r := r) (fr := fr) (fk := (upd fk p (nI 0))) (fl := fl) first m hcc h240 (a + 1) 0 9 (by omega) (by omega) (by omega)) (lw_V q1297 q1299 qs42 q74 q1300) fy_yX1_digit rfl rfl ⟨Nat.le_of_ble_eq_true rfl, Nat.le_of_ble_eq_true rfl⟩ rfl (Nat.le_of_ble_eq_true rfl) rfl rfl ⟨Nat.zero_le _, Nat.zero_le _⟩ dX1_readPost_93 (fun v93 S93 hp93 => ?_)
      rcases hp93 with ⟨hd93, rfl, rfl⟩ | ⟨hd93, rfl, rfl⟩
      · skip
        show K (mH g o ad (rS S (nI (first + (a + 1) + 1)) r fr (upd fk p (nI 0)) fl)) 0 0 96 [some (.ref o), some (.int (nI (first + m))), some (.int (nI p)), some (.int (c a))] [.int (nI (dgv (c (a + 1)))), .int (nI p), .ref (ad 14)]
        refine m_ast G hD 14 (by decide) (by simp only [mN]; omega) dX1_readPost_96 ?_
        rw [rS_14]
        refine r_aload_n G dX1_readPost_97 rfl ?_
        refine m_geta G 14 (by decide) q1204 rfl dX1_readPost_98 ?_
        refine r_iload_n G dX1_readPost_101 rfl ?_
        refine m_ald G hD 14 (by decide) (by simp only [mN]; omega) (v := (nI (dgv (c (a + 1))))) pk_us dX1_readPost_102 ?_
        refine r_bipush G (v := -9) dX1_readPost_103 (by decide) ?_
        refine r_icmp_eq G 112 Iff.rfl dX1_readPost_105 (by decide) (fun h105 => False.elim (absurd h105 (n9 (dgv_lt hd93 (by decide))))) (fun h105 => ?_)
        refine r_iconst G (v := nI 1) dX1_readPost_108 (by decide) ?_
        refine r_goto G 113 dX1_readPost_109 (by decide) ?_
        exact r_zret G rfl (by decide) ⟨Nat.zero_le _, Nat.zero_le _⟩ dX1_readPost_113 ⟨_, rfl, rb (by rw [(show okK c m a = true from by rw [okK, decide_eq_true (show a < m by omega), Bool.true_and, Bool.or_eq_true, Bool.or_eq_true, decide_eq_true_eq, decide_eq_true_eq, decide_eq_true_eq]; first | exact Or.inl (Or.inl h30) | exact Or.inl (Or.inr h40) | exact Or.inr h50), hd93]; rfl), Or.inl ⟨by rw [(show okK c m a = true from by rw [okK, decide_eq_true (show a < m by omega), Bool.true_and, Bool.or_eq_true, Bool.or_eq_true, decide_eq_true_eq, decide_eq_true_eq, decide_eq_true_eq]; first | exact Or.inl (Or.inl h30) | exact Or.inl (Or.inr h40) | exact Or.inr h50), hd93]; rfl, by rw [(show kdv (c a) = 0 from by unfold kdv; rw [if_pos h30])]⟩⟩
      · skip
        show K (mH g o ad (rS S (nI (first + (a + 1))) r fr (upd fk p (nI 0)) fl)) 0 0 96 [some (.ref o), some (.int (nI (first + m))), some (.int (nI p)), some (.int (c a))] [.int (-9), .int (nI p), .ref (ad 14)]
        refine m_ast G hD 14 (by decide) (by simp only [mN]; omega) dX1_readPost_96 ?_
        rw [rS_14]
        refine r_aload_n G dX1_readPost_97 rfl ?_
        refine m_geta G 14 (by decide) q1204 rfl dX1_readPost_98 ?_
        refine r_iload_n G dX1_readPost_101 rfl ?_
        refine m_ald G hD 14 (by decide) (by simp only [mN]; omega) (v := (-9)) pk_us dX1_readPost_102 ?_
        refine r_bipush G (v := -9) dX1_readPost_103 (by decide) ?_
        refine r_icmp_eq G 112 Iff.rfl dX1_readPost_105 (by decide) (fun h105 => ?_) (fun h105 => False.elim (absurd rfl h105))
        refine r_iconst G (v := nI 0) dX1_readPost_112 (by decide) ?_
        exact r_zret G rfl (by decide) ⟨Nat.zero_le _, Nat.zero_le _⟩ dX1_readPost_113 ⟨_, rfl, rb (by rw [(show okK c m a = true from by rw [okK, decide_eq_true (show a < m by omega), Bool.true_and, Bool.or_eq_true, Bool.or_eq_true, decide_eq_true_eq, decide_eq_true_eq, decide_eq_true_eq]; first | exact Or.inl (Or.inl h30) | exact Or.inl (Or.inr h40) | exact Or.inr h50), hd93]; rfl), Or.inr ⟨by rw [(show okK c m a = true from by rw [okK, decide_eq_true (show a < m by omega), Bool.true_and, Bool.or_eq_true, Bool.or_eq_true, decide_eq_true_eq, decide_eq_true_eq, decide_eq_true_eq]; first | exact Or.inl (Or.inl h30) | exact Or.inl (Or.inr h40) | exact Or.inr h50), hd93]; rfl, _, _, by rw [(show okK c m a = true from by rw [okK, decide_eq_true (show a < m by omega), Bool.true_and, Bool.or_eq_true, Bool.or_eq_true, decide_eq_true_eq, decide_eq_true_eq, decide_eq_true_eq]; first | exact Or.inl (Or.inl h30) | exact Or.inl (Or.inr h40) | exact Or.inr h50), if_pos rfl]⟩⟩
theorem pF_0 {c : Nat → Int32} {m : Nat} (h : ¬ (0 < m ∧ c 0 = nI 118)) : pF c m = some 0 := by
  unfold pF
  rw [if_neg]
  rw [Bool.and_eq_true, decide_eq_true_eq, decide_eq_true_eq]
  exact h
theorem pF_1 {c : Nat → Int32} {m : Nat} (h0 : 0 < m) (h1 : c 0 = nI 118) (h : okD c m 1 2 8 = false) : pF c m = some 1 := by
  unfold pF
  rw [decide_eq_true h0, decide_eq_true h1, Bool.and_self, if_pos rfl, h]
  rfl
theorem pF_r {c : Nat → Int32} {m k : Nat} (h0 : 0 < m) (h1 : c 0 = nI 118) (h2 : okD c m 1 2 8 = true) (hk : k < pN c - 2) (h : okD c m (2 + k) 0 (pN c - 1) = false) (hm : ∀ q, q < k → okD c m (2 + q) 0 (pN c - 1) = true) : pF c m = some (2 + k) := by
  unfold pF
  rw [decide_eq_true h0, decide_eq_true h1, Bool.and_self, if_pos rfl, h2, if_pos rfl, fstN_some (p := k) hk (by rw [h]; rfl) (fun q hq => by rw [hm q hq]; rfl)]
theorem pF_p {c : Nat → Int32} {m p : Nat} (h0 : 0 < m) (h1 : c 0 = nI 118) (h2 : okD c m 1 2 8 = true) (hm : ∀ q, q < pN c - 2 → okD c m (2 + q) 0 (pN c - 1) = true) (hp : p < pN c) (h : (okK c m (pN c + 2 * p) && okD c m (pN c + 2 * p + 1) 0 9) = false) (hq : ∀ q, q < p → (okK c m (pN c + 2 * q) && okD c m (pN c + 2 * q + 1) 0 9) = true) : pF c m = some (if okK c m (pN c + 2 * p) then pN c + 2 * p + 1 else pN c + 2 * p) := by
  unfold pF pEnd
  rw [decide_eq_true h0, decide_eq_true h1, Bool.and_self, if_pos rfl, h2, if_pos rfl, fstN_none (fun q hq => by rw [hm q hq]; rfl)]
  dsimp only
  rw [fstN_some (p := p) hp (by rw [h]; rfl) (fun q hq2 => by rw [hq q hq2]; rfl)]
theorem pF_e {c : Nat → Int32} {m : Nat} (h0 : 0 < m) (h1 : c 0 = nI 118) (h2 : okD c m 1 2 8 = true) (hm : ∀ q, q < pN c - 2 → okD c m (2 + q) 0 (pN c - 1) = true) (hq : ∀ q, q < pN c → (okK c m (pN c + 2 * q) && okD c m (pN c + 2 * q + 1) 0 9) = true) : pF c m = if 3 * pN c = m then none else some (3 * pN c) := by
  unfold pF pEnd
  rw [decide_eq_true h0, decide_eq_true h1, Bool.and_self, if_pos rfl, h2, if_pos rfl, fstN_none (fun q hq => by rw [hm q hq]; rfl)]
  dsimp only
  rw [fstN_none (fun q hq2 => by rw [hq q hq2]; rfl)]
theorem rdF {c : Nat → Int32} {m f x y : Nat} {P : Prop} (h : pF c m = some f) (hx : x = y + f) : (∀ g, pF c m = some g → x = y + g) ∧ (pF c m = none → P) := ⟨fun g hg => by rw [h] at hg; cases hg; exact hx, fun hn => by rw [h] at hn; cases hn⟩
set_option maxHeartbeats 4000000 in
theorem mM_readVine {l : Launch} {g : fG} {A : Nat → Prop} {En : State → Prop} (hE : fEnv g A En) {o : Nat} {ad : Nat → Nat} (hD : mD A o ad) {S : mS} {r : Int32} {fr fk fl : Nat → Int32} {c : Nat → Int32} (first m : Nat) (hcc : ∀ j, j < m → S.2 4 (first + j) = c j) (h240 : first + m ≤ 240): mC l g A En o ad yX1_readVine cX1_readVine 3 (some .boolean) (fR 3) [.int (nI (first + m))] (rS S (nI first) r fr fk fl) (fun v S' => v = some (.int (bI (decide (pF c m = none)))) ∧ ∃ x r' gr gk gl, rS S (nI x) r' gr gk gl = S' ∧ (∀ f, pF c m = some f → x = first + f) ∧ (pF c m = none → r' = nI (pN c) ∧ (∀ q, q < pN c - 2 → gr q = nI (pRw c q)) ∧ ∀ p, p < pN c → gk p = nI (pKd c p) ∧ gl p = nI (pLd c p))) := by
  refine fC.of (by decide) hE [some (.ref o), some (.int (nI (first + m))), none] rfl rfl (fun K G => ?_)
  have G : fGood l g A En RX1 "readVine" cX1_readVine 3 (some .boolean) (fR 3) _ K := G
  refine r_aload_n G dX1_readVine_0 rfl ?_
  refine m_gets G 10 (by decide) q1200 rfl (v := (nI first)) rfl dX1_readVine_1 ?_
  refine r_iload_n G dX1_readVine_4 rfl ?_
  refine r_icmp_ge G 22 (nI_leI (by omega) (by omega)) dX1_readVine_5 (by decide) (fun h5 => ?_) (fun h5 => ?_)
  · refine r_iconst G (v := nI 0) dX1_readVine_22 (by decide) ?_
    exact r_zret G rfl (by decide) ⟨Nat.zero_le _, Nat.zero_le _⟩ dX1_readVine_23 ⟨_, rfl, rb (by rw [pF_0 (fun z => by first | omega | exact h19 z.2)]; rfl), first, _, _, _, _, rfl, rdF (pF_0 (fun z => by first | omega | exact h19 z.2)) rfl⟩
  · refine r_aload_n G dX1_readVine_8 rfl ?_
    refine m_geta G 4 (by decide) q1194 rfl dX1_readVine_9 ?_
    refine r_aload_n G dX1_readVine_12 rfl ?_
    refine m_gets G 10 (by decide) q1200 rfl (v := (nI first)) rfl dX1_readVine_13 ?_
    refine m_ald G hD 4 (by decide) (by simp only [mN]; omega) (v := (c 0)) (hcc 0 (by omega)) dX1_readVine_16 ?_
    refine r_bipush G (v := nI 118) dX1_readVine_17 (by decide) ?_
    refine r_icmp_eq G 24 Iff.rfl dX1_readVine_19 (by decide) (fun h19 => ?_) (fun h19 => ?_)
    · refine r_aload_n G dX1_readVine_24 rfl ?_
      refine r_dup G dX1_readVine_25 rfl ?_
      refine m_gets G 10 (by decide) q1200 rfl (v := (nI first)) rfl dX1_readVine_26 ?_
      refine r_iconst G (v := nI 1) dX1_readVine_29 (by decide) ?_
      refine r_iadd G (v := (nI (first + 1))) dX1_readVine_30 (nI_add first 1) ?_
      refine m_puts G hD 10 (by decide) q1200 rfl rfl rfl dX1_readVine_31 ?_
      rw [rS_10]
      refine r_aload_n G dX1_readVine_34 rfl ?_
      refine r_aload_n G dX1_readVine_35 rfl ?_
      refine r_iload_n G dX1_readVine_36 rfl ?_
      refine r_iconst G (v := nI 2) dX1_readVine_37 (by decide) ?_
      refine r_bipush G (v := nI 8) dX1_readVine_38 (by decide) ?_
      refine m_callV G [.int (nI (first + m)), .int (nI 2), .int (nI 8)] (mM_digit hE hD (S := S) (r := r) (fr := fr) (fk := fk) (fl := fl) first m hcc h240 1 2 8 (by omega) (by omega) (by omega)) (lw_V q1297 q1299 qs42 q74 q1300) fy_yX1_digit rfl rfl ⟨Nat.le_of_ble_eq_true rfl, Nat.le_of_ble_eq_true rfl⟩ rfl (Nat.le_of_ble_eq_true rfl) rfl rfl ⟨Nat.zero_le _, Nat.zero_le _⟩ dX1_readVine_40 (fun v40 S40 hp40 => ?_)
      rcases hp40 with ⟨hd1, rfl, rfl⟩ | ⟨hd1, rfl, rfl⟩
      · obtain ⟨hm1, nv, hnv1, hnv2, -, hnv⟩ := okD_t (by decide) (by decide) hd1
        show K (mH g o ad (rS S (nI (first + 1 + 1)) r fr fk fl)) 0 0 43 [some (.ref o), some (.int (nI (first + m))), none] [.int (nI (dgv (c 1))), .ref o]
        refine m_puts G hD 11 (by decide) q1201 rfl rfl rfl dX1_readVine_43 ?_
        rw [rS_11]
        refine r_aload_n G dX1_readVine_46 rfl ?_
        refine m_gets G 11 (by decide) q1201 rfl (v := (nI (dgv (c 1)))) rfl dX1_readVine_47 ?_
        refine r_bipush G (v := -9) dX1_readVine_50 (by decide) ?_
        refine r_icmp_ne G 57 Iff.rfl dX1_readVine_52 (by decide) (fun h52 => ?_) (fun h52 => False.elim (absurd h52 (n9 (by omega))))
        refine r_iconst G (v := nI 0) dX1_readVine_57 (by decide) ?_
        refine r_istore_n G (lo' := [some (.ref o), some (.int (nI (first + m))), some (.int (nI 0))]) dX1_readVine_58 rfl rfl ?_
        have L59 : ∀ (fu : Nat) (k : Nat) (gr : Nat → Int32), (k ≤ dgv (c 1) - 2) → (∀ q, q < k → okD c m (2 + q) 0 (dgv (c 1) - 1) = true) → (∀ q, q < k → gr q = nI (pRw c q)) → dgv (c 1) - k < fu → K (mH g o ad (rS S (nI (first + (2 + k))) (nI (dgv (c 1))) gr fk fl)) 0 0 59 [some (.ref o), some (.int (nI (first + m))), some (.int (nI k))] [] := by
          intro fu
          induction fu with
          | zero => intro k gr hk hok hgr hm59; exact absurd hm59 (Nat.not_lt_zero _)
          | succ fu59 ih59 =>
            intro k gr hk hok hgr hm59
            refine r_iload_n G dX1_readVine_59 rfl ?_
            refine r_aload_n G dX1_readVine_60 rfl ?_
            refine m_gets G 11 (by decide) q1201 rfl (v := (nI (dgv (c 1)))) rfl dX1_readVine_61 ?_
            refine r_iconst G (v := nI 2) dX1_readVine_64 (by decide) ?_
            refine r_isub G (v := (nI ((dgv (c 1)) - 2))) dX1_readVine_65 (pk_sub (by omega)) ?_
            refine r_icmp_ge G 106 (nI_leI (by omega) (by omega)) dX1_readVine_66 (by decide) (fun h66 => ?_) (fun h66 => ?_)
            · rw [show first + (2 + k) = first + (dgv (c 1) + 2 * 0) by omega]
              refine r_iconst G (v := nI 0) dX1_readVine_106 (by decide) ?_
              refine r_istore_n G (lo' := [some (.ref o), some (.int (nI (first + m))), some (.int (nI 0))]) dX1_readVine_107 rfl rfl ?_
              have L108 : ∀ (fu : Nat) (p : Nat) (gk gl : Nat → Int32), (p ≤ dgv (c 1)) → (∀ q, q < p → (okK c m (dgv (c 1) + 2 * q) && okD c m (dgv (c 1) + 2 * q + 1) 0 9) = true) → (∀ q, q < p → gk q = nI (pKd c q) ∧ gl q = nI (pLd c q)) → dgv (c 1) - p < fu → K (mH g o ad (rS S (nI (first + (dgv (c 1) + 2 * p))) (nI (dgv (c 1))) gr gk gl)) 0 0 108 [some (.ref o), some (.int (nI (first + m))), some (.int (nI p))] [] := by
                intro fu
                induction fu with
                | zero => intro p gk gl hp hok2 hkl hm108; exact absurd hm108 (Nat.not_lt_zero _)
                | succ fu108 ih108 =>
                  intro p gk gl hp hok2 hkl hm108
                  refine r_iload_n G dX1_readVine_108 rfl ?_
                  refine r_aload_n G dX1_readVine_109 rfl ?_
                  refine m_gets G 11 (by decide) q1201 rfl (v := (nI (dgv (c 1)))) rfl dX1_readVine_110 ?_
                  refine r_icmp_ge G 133 (nI_leI (by omega) (by omega)) dX1_readVine_113 (by decide) (fun h113 => ?_) (fun h113 => ?_)
                  · refine r_aload_n G dX1_readVine_133 rfl ?_
                    refine m_gets G 10 (by decide) q1200 rfl (v := (nI (first + (dgv (c 1) + 2 * p)))) rfl dX1_readVine_134 ?_
                    refine r_iload_n G dX1_readVine_137 rfl ?_
                    refine r_icmp_ne G 145 (nI_eq (by omega) (by omega)) dX1_readVine_138 (by decide) (fun h138 => ?_) (fun h138 => ?_)
                    · refine r_iconst G (v := nI 0) dX1_readVine_145 (by decide) ?_
                      exact r_zret G rfl (by decide) ⟨Nat.zero_le _, Nat.zero_le _⟩ dX1_readVine_146 ⟨_, rfl, rb (by rw [(pF_e (show 0 < m by omega) h19 hd1 (fun q hq => hok q (by unfold pN at hq; omega)) (fun q hq => hok2 q (by unfold pN at hq; omega))), if_neg (show ¬ 3 * pN c = m by unfold pN; omega)]; rfl), _, _, _, _, _, rfl, rdF ((pF_e (show 0 < m by omega) h19 hd1 (fun q hq => hok q (by unfold pN at hq; omega)) (fun q hq => hok2 q (by unfold pN at hq; omega))).trans (if_neg (show ¬ 3 * pN c = m by unfold pN; omega))) (by unfold pN; omega)⟩
                    · refine r_iconst G (v := nI 1) dX1_readVine_141 (by decide) ?_
                      refine r_goto G 146 dX1_readVine_142 (by decide) ?_
                      exact r_zret G rfl (by decide) ⟨Nat.zero_le _, Nat.zero_le _⟩ dX1_readVine_146 ⟨_, rfl, rb (by rw [(pF_e (show 0 < m by omega) h19 hd1 (fun q hq => hok q (by unfold pN at hq; omega)) (fun q hq => hok2 q (by unfold pN at hq; omega))), if_pos (show 3 * pN c = m by unfold pN; omega)]; rfl), _, _, _, _, _, rfl, (fun f hf => by (rw [(pF_e (show 0 < m by omega) h19 hd1 (fun q hq => hok q (by unfold pN at hq; omega)) (fun q hq => hok2 q (by unfold pN at hq; omega))), if_pos (show 3 * pN c = m by unfold pN; omega)] at hf; cases hf)), fun _ => ⟨rfl, fun q hq => hgr q (by unfold pN at hq; omega), fun q hq => hkl q (by unfold pN at hq; omega)⟩⟩
                  · refine r_aload_n G dX1_readVine_116 rfl ?_
                    refine r_iload_n G dX1_readVine_117 rfl ?_
                    refine r_iload_n G dX1_readVine_118 rfl ?_
                    refine m_callV G [.int (nI (first + m)), .int (nI p)] (mM_readPost hE hD (S := S) (r := nI (dgv (c 1))) (fr := gr) (fk := gk) (fl := gl) first m hcc h240 (dgv (c 1) + 2 * p) p (by omega) (by omega)) (lw_V q1301 q1303 qs43 q74 q1304) fy_yX1_readPost rfl rfl ⟨Nat.le_of_ble_eq_true rfl, Nat.le_of_ble_eq_true rfl⟩ rfl (Nat.le_of_ble_eq_true rfl) rfl rfl ⟨Nat.zero_le _, Nat.zero_le _⟩ dX1_readVine_119 (fun v119 S119 hp119 => ?_)
                    obtain ⟨rfl, hp119⟩ := hp119
                    rcases hp119 with ⟨hd3, rfl⟩ | ⟨hd3, hk3, hl3, rfl⟩
                    · rw [hd3]
                      show K (mH g o ad (rS S (nI (first + (dgv (c 1) + 2 * p + 1) + 1)) (nI (dgv (c 1))) gr (upd gk p (nI (kdv (c (dgv (c 1) + 2 * p))))) (upd gl p (nI (dgv (c (dgv (c 1) + 2 * p + 1))))))) 0 0 122 [some (.ref o), some (.int (nI (first + m))), some (.int (nI p))] [.int (nI 1)]
                      refine r_if_ne G 127 (n_eq0 (by decide)) dX1_readVine_122 (by decide) (fun h122 => ?_) (fun h122 => False.elim (absurd h122 (by decide)))
                      refine r_iinc G (v := (nI (p + 1))) (lo' := [some (.ref o), some (.int (nI (first + m))), some (.int (nI (p + 1)))]) dX1_readVine_127 rfl (nI_add p 1) rfl rfl ?_
                      refine r_goto G 108 dX1_readVine_130 (by decide) ?_
                      rw [show first + (dgv (c 1) + 2 * p + 1) + 1 = first + (dgv (c 1) + 2 * (p + 1)) by omega]
                      exact ih108 _ _ _ (by omega) (fun q hq => (Classical.em (q = p)).elim (fun e => by rw [e]; exact hd3) (fun e => hok2 q (by omega))) (fun q hq => (Classical.em (q = p)).elim (fun e => by rw [e, pk_us, pk_us]; exact ⟨rfl, rfl⟩) (fun e => by rw [pk_un e, pk_un e]; exact hkl q (by omega))) (by omega)
                    · rw [hd3]
                      show K (mH g o ad (rS S (nI (if okK c m (dgv (c 1) + 2 * p) then first + (dgv (c 1) + 2 * p + 1) else first + (dgv (c 1) + 2 * p))) (nI (dgv (c 1))) gr hk3 hl3)) 0 0 122 [some (.ref o), some (.int (nI (first + m))), some (.int (nI p))] [.int (nI 0)]
                      refine r_if_ne G 127 (n_eq0 (by decide)) dX1_readVine_122 (by decide) (fun h122 => False.elim (absurd h122 (by decide))) (fun h122 => ?_)
                      refine r_iconst G (v := nI 0) dX1_readVine_125 (by decide) ?_
                      exact r_zret G rfl (by decide) ⟨Nat.zero_le _, Nat.zero_le _⟩ dX1_readVine_126 ⟨_, rfl, rb (by rw [(pF_p (show 0 < m by omega) h19 hd1 (fun q hq => hok q (by unfold pN at hq; omega)) (show p < pN c by unfold pN; omega) hd3 hok2)]; rfl), _, _, _, _, _, rfl, rdF (pF_p (show 0 < m by omega) h19 hd1 (fun q hq => hok q (by unfold pN at hq; omega)) (show p < pN c by unfold pN; omega) hd3 hok2) (by show _ = first + (if okK c m (dgv (c 1) + 2 * p) then dgv (c 1) + 2 * p + 1 else dgv (c 1) + 2 * p); split <;> rfl)⟩
              exact L108 (dgv (c 1) + 1) 0 fk fl (Nat.zero_le _) (fun q h => absurd h (Nat.not_lt_zero _)) (fun q h => absurd h (Nat.not_lt_zero _)) (by omega)
            · refine r_aload_n G dX1_readVine_69 rfl ?_
              refine m_geta G 12 (by decide) q1202 rfl dX1_readVine_70 ?_
              refine r_iload_n G dX1_readVine_73 rfl ?_
              refine r_aload_n G dX1_readVine_74 rfl ?_
              refine r_iload_n G dX1_readVine_75 rfl ?_
              refine r_iconst G (v := nI 0) dX1_readVine_76 (by decide) ?_
              refine r_aload_n G dX1_readVine_77 rfl ?_
              refine m_gets G 11 (by decide) q1201 rfl (v := (nI (dgv (c 1)))) rfl dX1_readVine_78 ?_
              refine r_iconst G (v := nI 1) dX1_readVine_81 (by decide) ?_
              refine r_isub G (v := (nI ((dgv (c 1)) - 1))) dX1_readVine_82 (pk_sub (by omega)) ?_
              refine m_callV G [.int (nI (first + m)), .int (nI 0), .int (nI ((dgv (c 1)) - 1))] (mM_digit hE hD (S := S) (r := nI (dgv (c 1))) (fr := gr) (fk := fk) (fl := fl) first m hcc h240 (2 + k) 0 (dgv (c 1) - 1) (by omega) (by omega) (by omega)) (lw_V q1297 q1299 qs42 q74 q1300) fy_yX1_digit rfl rfl ⟨Nat.le_of_ble_eq_true rfl, Nat.le_of_ble_eq_true rfl⟩ rfl (Nat.le_of_ble_eq_true rfl) rfl rfl ⟨Nat.zero_le _, Nat.zero_le _⟩ dX1_readVine_83 (fun v83 S83 hp83 => ?_)
              rcases hp83 with ⟨hd2, rfl, rfl⟩ | ⟨hd2, rfl, rfl⟩
              · skip
                show K (mH g o ad (rS S (nI (first + (2 + k) + 1)) (nI (dgv (c 1))) gr fk fl)) 0 0 86 [some (.ref o), some (.int (nI (first + m))), some (.int (nI k))] [.int (nI (dgv (c (2 + k)))), .int (nI k), .ref (ad 12)]
                refine m_ast G hD 12 (by decide) (by simp only [mN]; omega) dX1_readVine_86 ?_
                rw [rS_12]
                refine r_aload_n G dX1_readVine_87 rfl ?_
                refine m_geta G 12 (by decide) q1202 rfl dX1_readVine_88 ?_
                refine r_iload_n G dX1_readVine_91 rfl ?_
                refine m_ald G hD 12 (by decide) (by simp only [mN]; omega) (v := (nI (dgv (c (2 + k))))) pk_us dX1_readVine_92 ?_
                refine r_bipush G (v := -9) dX1_readVine_93 (by decide) ?_
                refine r_icmp_ne G 100 Iff.rfl dX1_readVine_95 (by decide) (fun h95 => ?_) (fun h95 => False.elim (absurd h95 (n9 (dgv_lt hd2 (by omega)))))
                refine r_iinc G (v := (nI (k + 1))) (lo' := [some (.ref o), some (.int (nI (first + m))), some (.int (nI (k + 1)))]) dX1_readVine_100 rfl (nI_add k 1) rfl rfl ?_
                refine r_goto G 59 dX1_readVine_103 (by decide) ?_
                exact ih59 (k + 1) (upd gr k (nI (dgv (c (2 + k))))) (by omega) (fun q hq => (Classical.em (q = k)).elim (fun e => by rw [e]; exact hd2) (fun e => hok q (by omega))) (fun q hq => (Classical.em (q = k)).elim (fun e => by rw [e]; exact pk_us) (fun e => by rw [pk_un e]; exact hgr q (by omega))) (by omega)
              · skip
                show K (mH g o ad (rS S (nI (first + (2 + k))) (nI (dgv (c 1))) gr fk fl)) 0 0 86 [some (.ref o), some (.int (nI (first + m))), some (.int (nI k))] [.int (-9), .int (nI k), .ref (ad 12)]
                refine m_ast G hD 12 (by decide) (by simp only [mN]; omega) dX1_readVine_86 ?_
                rw [rS_12]
                refine r_aload_n G dX1_readVine_87 rfl ?_
                refine m_geta G 12 (by decide) q1202 rfl dX1_readVine_88 ?_
                refine r_iload_n G dX1_readVine_91 rfl ?_
                refine m_ald G hD 12 (by decide) (by simp only [mN]; omega) (v := (-9)) pk_us dX1_readVine_92 ?_
                refine r_bipush G (v := -9) dX1_readVine_93 (by decide) ?_
                refine r_icmp_ne G 100 Iff.rfl dX1_readVine_95 (by decide) (fun h95 => False.elim (absurd rfl h95)) (fun h95 => ?_)
                refine r_iconst G (v := nI 0) dX1_readVine_98 (by decide) ?_
                exact r_zret G rfl (by decide) ⟨Nat.zero_le _, Nat.zero_le _⟩ dX1_readVine_99 ⟨_, rfl, rb (by rw [(pF_r (show 0 < m by omega) h19 hd1 (show k < pN c - 2 by unfold pN; omega) hd2 hok)]; rfl), first + (2 + k), _, _, _, _, rfl, rdF (pF_r (show 0 < m by omega) h19 hd1 (show k < pN c - 2 by unfold pN; omega) hd2 hok) rfl⟩
        exact L59 (dgv (c 1) + 1) 0 fr (Nat.zero_le _) (fun q h => absurd h (Nat.not_lt_zero _)) (fun q h => absurd h (Nat.not_lt_zero _)) (by omega)
      · skip
        show K (mH g o ad (rS S (nI (first + 1)) r fr fk fl)) 0 0 43 [some (.ref o), some (.int (nI (first + m))), none] [.int (-9), .ref o]
        refine m_puts G hD 11 (by decide) q1201 rfl rfl rfl dX1_readVine_43 ?_
        rw [rS_11]
        refine r_aload_n G dX1_readVine_46 rfl ?_
        refine m_gets G 11 (by decide) q1201 rfl (v := (-9)) rfl dX1_readVine_47 ?_
        refine r_bipush G (v := -9) dX1_readVine_50 (by decide) ?_
        refine r_icmp_ne G 57 Iff.rfl dX1_readVine_52 (by decide) (fun h52 => False.elim (absurd rfl h52)) (fun h52 => ?_)
        refine r_iconst G (v := nI 0) dX1_readVine_55 (by decide) ?_
        exact r_zret G rfl (by decide) ⟨Nat.zero_le _, Nat.zero_le _⟩ dX1_readVine_56 ⟨_, rfl, rb (by rw [pF_1 (show 0 < m by omega) h19 hd1]; rfl), first + 1, _, _, _, _, rfl, rdF (pF_1 (show 0 < m by omega) h19 hd1) rfl⟩
    · refine r_iconst G (v := nI 0) dX1_readVine_22 (by decide) ?_
      exact r_zret G rfl (by decide) ⟨Nat.zero_le _, Nat.zero_le _⟩ dX1_readVine_23 ⟨_, rfl, rb (by rw [pF_0 (fun z => by first | omega | exact h19 z.2)]; rfl), first, _, _, _, _, rfl, rdF (pF_0 (fun z => by first | omega | exact h19 z.2)) rfl⟩
end MM12
