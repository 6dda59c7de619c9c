/-! the reference: the row -/
set_option maxRecDepth 100000
section MM4
theorem mPut_a (S : mS) {j k : Nat} (fa fb : Nat → Int32) (h : k ≠ j) (i : Nat) (x : Int32) : mPut (mArr (mArr S j fa) k fb) j i x = mArr (mArr S j (upd fa i x)) k fb := by
  unfold mPut mArr
  refine Prod.ext rfl ?_
  funext q
  show va_up (va_up (va_up S.2 j fa) k fb) j (upd (va_up (va_up S.2 j fa) k fb j) i x) q = va_up (va_up S.2 j (upd fa i x)) k fb q
  have e : va_up (va_up S.2 j fa) k fb j = fa := by
    unfold va_up
    rw [if_neg (Ne.symm h), if_pos rfl]
  rw [e]
  unfold va_up
  by_cases h1 : q = j
  · subst h1
    rw [if_pos rfl, if_neg (Ne.symm h), if_pos rfl]
  · rw [if_neg h1]
    by_cases h2 : q = k
    · rw [if_pos h2, if_pos h2]
    · rw [if_neg h2, if_neg h2, if_neg h1, if_neg h1]
theorem mArr_2 (S : mS) (j k : Nat) (h : k ≠ j) : mArr (mArr S j (S.2 j)) k (S.2 k) = S := by
  rw [mArr_0, mArr_0]
/-- the row as a number -/
def rnum (n : Nat) (tw : Nat → Nat) : Nat → Nat
  | 0 => 0
  | k + 1 => rnum n tw k * n + rwv n tw k
theorem rnum_lt {n : Nat} {tw : Nat → Nat} {d : Nat → Nat → Nat} (T : TM n tw d) (hn8 : n ≤ 8) : ∀ k, k + 2 ≤ n → rnum n tw k < 8 ^ k := by
  intro k
  induction k with
  | zero => intro _; exact Nat.one_pos
  | succ k ih =>
    intro hk
    have h1 := ih (by omega)
    have h2 := (rwv_ok T hn8 (k := k) (by omega)).2.2.1
    show rnum n tw k * n + rwv n tw k < 8 ^ (k + 1)
    have h3 : rnum n tw k * n ≤ rnum n tw k * 8 := Nat.mul_le_mul_left _ hn8
    rw [Nat.pow_succ]
    omega
theorem rnum_lt31 {n : Nat} {tw : Nat → Nat} {d : Nat → Nat → Nat} (T : TM n tw d) (hn8 : n ≤ 8) {k : Nat} (hk : k + 2 ≤ n) : rnum n tw k < 2 ^ 21 := by
  have h1 := rnum_lt T hn8 k hk
  have h2 : 8 ^ k ≤ 8 ^ 6 := Nat.pow_le_pow_right (by decide) (by omega)
  have h3 : (8 : Nat) ^ 6 < 2 ^ 21 := by decide
  omega
theorem rwv_l {n : Nat} {tw : Nat → Nat} {d : Nat → Nat → Nat} (T : TM n tw d) (hn8 : n ≤ 8) {k : Nat} (hk : k + 2 ≤ n) : lst (lsv tw (lft n tw k) (lf n tw (lft n tw k))) = rwv n tw k := by
  obtain ⟨C, hc⟩ := lft_ok T hn8 k (by omega)
  rw [lsv_lf T hn8 C (by omega)]
  rfl
theorem fl_next {n : Nat} {fa : Nat → Int32} {w : Nat → Nat} {q p r : Nat} (h : ∀ q, q < n → fa q = nI (w q)) (hq : q < n) (hr : r ≠ p) : upd (upd fa r (nI (ndf (w r) (1 <<< p)))) p (nI 0) q = nI (if q = p then 0 else if q = r then ndf (w q) (1 <<< p) else w q) := by
  by_cases h1 : q = p
  · subst h1
    rw [pk_us, if_pos rfl]
  · rw [pk_un h1, if_neg h1]
    by_cases h2 : q = r
    · subst h2
      rw [pk_us, if_pos rfl]
    · rw [pk_un h2, if_neg h2, h q hq]
set_option maxHeartbeats 4000000 in
theorem mM_findRow {l : Launch} {g : fG} {A : Nat → Prop} {En : State → Prop} (hE : fEnv g A En) {o : Nat} {ad : Nat → Nat} (hD : mD A o ad) {S : mS} {n : Nat} {tw kd ld : Nat → Nat} {d : Nat → Nat → Nat} (hV : mV S n tw kd ld) (T : TM n tw d) (h2n : 2 ≤ n): mC l g A En o ad yX1_findRow cX1_findRow 3 none (fR 2) [] S (fun v S' => v = none ∧ ∃ fl fr, mArr (mArr S 17 fl) 16 fr = S' ∧ ∀ k, k + 2 < n → fr k = nI (rwv n tw k)) := by
  refine fC.of (by decide) hE [some (.ref o), none, none] rfl rfl (fun K G => ?_)
  have G : fGood l g A En RX1 "findRow" cX1_findRow 3 none (fR 2) _ K := G
  have hn8 := hV.2.1
  refine r_iconst G (v := nI 0) dX1_findRow_0 (by decide) ?_
  refine r_istore_n G (lo' := [some (.ref o), some (.int (nI 0)), none]) dX1_findRow_1 rfl rfl ?_
  rw [show S = mArr (mArr S 17 (S.2 17)) 16 (S.2 16) from (mArr_2 S 17 16 (by decide)).symm]
  have L2 : ∀ (fu : Nat) (p : Nat) (fl fr : Nat → Int32), (p ≤ n) → (∀ q, q < p → fl q = nI (tw q)) → n - p < fu → K (mH g o ad (mArr (mArr S 17 fl) 16 fr)) 0 0 2 [some (.ref o), some (.int (nI p)), none] [] := by
    intro fu
    induction fu with
    | zero => intro p fl fr hp hl hm2; exact absurd hm2 (Nat.not_lt_zero _)
    | succ fu2 ih2 =>
      intro p fl fr hp hl hm2
      refine r_iload_n G dX1_findRow_2 rfl ?_
      refine r_aload_n G dX1_findRow_3 rfl ?_
      refine m_gets G 5 (by decide) q1195 rfl (v := (nI n)) hV.1 dX1_findRow_4 ?_
      refine r_icmp_ge G 28 (nI_leI (by have := hV.2.1; omega) (by omega)) dX1_findRow_7 (by decide) (fun h7 => ?_) (fun h7 => ?_)
      · refine r_iconst G (v := nI 0) dX1_findRow_28 (by decide) ?_
        refine r_istore_n G (lo' := [some (.ref o), some (.int (nI 0)), none]) dX1_findRow_29 rfl rfl ?_
        have L30 : ∀ (fu : Nat) (k : Nat) (fa fb : Nat → Int32), (k + 2 ≤ n) → (∀ q, q < n → fa q = nI (lsv tw (lft n tw k) q)) → (∀ j, j < k → fb j = nI (rwv n tw j)) → n - k < fu → K (mH g o ad (mArr (mArr S 17 fa) 16 fb)) 0 0 30 [some (.ref o), some (.int (nI k)), none] [] := by
          intro fu
          induction fu with
          | zero => intro k fa fb hk hfa hfb hm30; exact absurd hm30 (Nat.not_lt_zero _)
          | succ fu30 ih30 =>
            intro k fa fb hk hfa hfb hm30
            refine r_iload_n G dX1_findRow_30 rfl ?_
            refine r_aload_n G dX1_findRow_31 rfl ?_
            refine m_gets G 5 (by decide) q1195 rfl (v := (nI n)) hV.1 dX1_findRow_32 ?_
            refine r_iconst G (v := nI 2) dX1_findRow_35 (by decide) ?_
            refine r_isub G (v := (nI (n - 2))) dX1_findRow_36 (pk_sub (by omega)) ?_
            refine r_icmp_ge G 108 (nI_leI (by omega) (by omega)) dX1_findRow_37 (by decide) (fun h37 => ?_) (fun h37 => ?_)
            · exact r_vret G rfl ⟨Nat.zero_le _, Nat.zero_le _⟩ dX1_findRow_108 ⟨_, rfl, rfl, fa, fb, rfl, fun j hj => hfb j (by omega)⟩
            · obtain ⟨C, hc⟩ := lft_ok T hn8 k (by omega)
              have hc2 : 2 ≤ cnt (lft n tw k) := by omega
              obtain ⟨r1, r2, r3, r4⟩ := rwv_ok T hn8 hk
              obtain ⟨f1, f2, f3⟩ := lf_ok T hn8 C hc2
              refine r_iconst G (v := nI 0) dX1_findRow_40 (by decide) ?_
              refine r_istore_n G (lo' := [some (.ref o), some (.int (nI k)), some (.int (nI 0))]) dX1_findRow_41 rfl rfl ?_
              have L42 : ∀ (fu : Nat) (p : Nat), (p ≤ lf n tw (lft n tw k)) → n - p < fu → K (mH g o ad (mArr (mArr S 17 fa) 16 fb)) 0 0 42 [some (.ref o), some (.int (nI k)), some (.int (nI p))] [] := by
                intro fu
                induction fu with
                | zero => intro p hpl hm42; exact absurd hm42 (Nat.not_lt_zero _)
                | succ fu42 ih42 =>
                  intro p hpl hm42
                  refine r_aload_n G dX1_findRow_42 rfl ?_
                  refine m_geta G 17 (by decide) q1207 rfl dX1_findRow_43 ?_
                  refine r_iload_n G dX1_findRow_46 rfl ?_
                  refine m_ald G hD 17 (by decide) (by simp only [mN]; omega) (v := (nI (lsv tw (lft n tw k) p))) (hfa _ (by omega)) dX1_findRow_47 ?_
                  refine s_callS G [.int (nI (lsv tw (lft n tw k) p))] (sM_size hE (lsv tw (lft n tw k) p) (lsv_lt C hn8 _)) (lw_S q1331 q1332 q74 q1333) fy_yX1_size rfl ⟨Nat.le_of_ble_eq_true rfl, Nat.le_of_ble_eq_true rfl⟩ rfl (Nat.le_of_ble_eq_true rfl) rfl rfl ⟨Nat.zero_le _, Nat.zero_le _⟩ dX1_findRow_48 ?_
                  refine r_iconst G (v := nI 1) dX1_findRow_51 (by decide) ?_
                  refine r_icmp_eq G 61 (nI_eq (Nat.lt_of_le_of_lt (cnt_le _ (lsv_lt C hn8 p)) (by decide)) (by decide)) dX1_findRow_52 (by decide) (fun h52 => ?_) (fun h52 => ?_)
                  · obtain ⟨q0, hq0⟩ : ∃ q0, q0 = lf n tw (lft n tw k) := ⟨_, rfl⟩
                    have e61 := lsv_one hn8 (by omega) hpl h52
                    rw [e61]
                    refine r_aload_n G dX1_findRow_61 rfl ?_
                    refine m_geta G 16 (by decide) q1206 rfl dX1_findRow_62 ?_
                    refine r_iload_n G dX1_findRow_65 rfl ?_
                    refine r_aload_n G dX1_findRow_66 rfl ?_
                    refine m_geta G 17 (by decide) q1207 rfl dX1_findRow_67 ?_
                    refine r_iload_n G dX1_findRow_70 rfl ?_
                    refine m_ald G hD 17 (by decide) (by simp only [mN]; omega) (v := (nI (lsv tw (lft n tw k) (lf n tw (lft n tw k))))) (hfa _ (by omega)) dX1_findRow_71 ?_
                    refine s_callS G [.int (nI (lsv tw (lft n tw k) (lf n tw (lft n tw k))))] (sM_leastOf hE (lsv tw (lft n tw k) (lf n tw (lft n tw k))) (lsv_lt C hn8 _) (by rw [lsv_lf T hn8 C hc2]; exact Nat.pos_of_ne_zero (fun e => by rw [e] at f2; exact absurd f2 (by decide)))) (lw_S q1309 q1310 q74 q1311) fy_yX1_leastOf rfl ⟨Nat.le_of_ble_eq_true rfl, Nat.le_of_ble_eq_true rfl⟩ rfl (Nat.le_of_ble_eq_true rfl) rfl rfl ⟨Nat.zero_le _, Nat.zero_le _⟩ dX1_findRow_72 ?_
                    refine m_ast G hD 16 (by decide) (by simp only [mN]; omega) dX1_findRow_75 ?_
                    rw [mPut_arr]
                    rw [rwv_l T hn8 hk]
                    refine r_aload_n G dX1_findRow_76 rfl ?_
                    refine m_geta G 17 (by decide) q1207 rfl dX1_findRow_77 ?_
                    refine r_aload_n G dX1_findRow_80 rfl ?_
                    refine m_geta G 16 (by decide) q1206 rfl dX1_findRow_81 ?_
                    refine r_iload_n G dX1_findRow_84 rfl ?_
                    refine m_ald G hD 16 (by decide) (by simp only [mN]; omega) (v := (nI (rwv n tw k))) pk_us dX1_findRow_85 ?_
                    refine r_dup2_11 G dX1_findRow_86 rfl rfl ?_
                    refine m_ald G hD 17 (by decide) (by simp only [mN]; omega) (v := (nI (lsv tw (lft n tw k) (rwv n tw k)))) (hfa _ r3) dX1_findRow_87 ?_
                    refine r_iconst G (v := nI 1) dX1_findRow_88 (by decide) ?_
                    refine r_iload_n G dX1_findRow_89 rfl ?_
                    refine r_ishl G (v := (nI (1 <<< (lf n tw (lft n tw k))))) dX1_findRow_90 (n_shl (by omega)) ?_
                    refine r_iconst G (v := -1) dX1_findRow_91 (by decide) ?_
                    refine r_ixor G (v := (nI (1 <<< (lf n tw (lft n tw k))) ^^^ -1)) dX1_findRow_92 rfl ?_
                    refine r_iand G (v := (nI (ndf (lsv tw (lft n tw k) (rwv n tw k)) (1 <<< (lf n tw (lft n tw k)))))) dX1_findRow_93 (n_andn (Nat.lt_trans (lsv_lt C hn8 _) (by decide)) (Nat.lt_of_lt_of_le (shl1_lt f3) (Nat.le_trans (pow_n8 hn8) (by decide)))) ?_
                    refine m_ast G hD 17 (by decide) (by simp only [mN]; omega) dX1_findRow_94 ?_
                    rw [mPut_a _ _ _ (by decide)]
                    refine r_aload_n G dX1_findRow_95 rfl ?_
                    refine m_geta G 17 (by decide) q1207 rfl dX1_findRow_96 ?_
                    refine r_iload_n G dX1_findRow_99 rfl ?_
                    refine r_iconst G (v := nI 0) dX1_findRow_100 (by decide) ?_
                    refine m_ast G hD 17 (by decide) (by simp only [mN]; omega) dX1_findRow_101 ?_
                    rw [mPut_a _ _ _ (by decide)]
                    refine r_iinc G (v := (nI (k + 1))) (lo' := [some (.ref o), some (.int (nI (k + 1))), some (.int (nI (lf n tw (lft n tw k))))]) dX1_findRow_102 rfl (nI_add k 1) rfl rfl ?_
                    refine r_goto G 30 dX1_findRow_105 (by decide) ?_
                    refine r_drop G 2 (lo' := [some (.ref o), some (.int (nI (k + 1))), none]) rfl ?_
                    exact ih30 _ _ _ (by omega) (fun q hq => by rw [lsv_next T hn8 (by omega) hq]; exact fl_next hfa hq r4) (fun j hj => (Classical.em (j = k)).elim (fun e => by rw [e, pk_us, ← rwv_l T hn8 (by omega)]) (fun e => by rw [pk_un e]; exact hfb j (by omega))) (by omega)
                  · refine r_iinc G (v := (nI (p + 1))) (lo' := [some (.ref o), some (.int (nI k)), some (.int (nI (p + 1)))]) dX1_findRow_55 rfl (nI_add p 1) rfl rfl ?_
                    refine r_goto G 42 dX1_findRow_58 (by decide) ?_
                    exact ih42 _ (lsv_not T hn8 C hc2 hpl h52) (by omega)
              exact L42 (n + 1) 0 (Nat.zero_le _) (by omega)
        exact L30 (n + 1) 0 fl fr h2n (fun q hq => by rw [hl q (by omega)]; exact congrArg nI (lsv_full T hq).symm) (fun j h => absurd h (Nat.not_lt_zero _)) (by omega)
      · refine r_aload_n G dX1_findRow_10 rfl ?_
        refine m_geta G 17 (by decide) q1207 rfl dX1_findRow_11 ?_
        refine r_iload_n G dX1_findRow_14 rfl ?_
        refine r_aload_n G dX1_findRow_15 rfl ?_
        refine m_geta G 7 (by decide) q1197 rfl dX1_findRow_16 ?_
        refine r_iload_n G dX1_findRow_19 rfl ?_
        refine m_ald G hD 7 (by decide) (by simp only [mN]; omega) (v := (nI (tw p))) (hV.tw (by omega)) dX1_findRow_20 ?_
        refine m_ast G hD 17 (by decide) (by simp only [mN]; omega) dX1_findRow_21 ?_
        rw [mPut_a _ _ _ (by decide)]
        refine r_iinc G (v := (nI (p + 1))) (lo' := [some (.ref o), some (.int (nI (p + 1))), none]) dX1_findRow_22 rfl (nI_add p 1) rfl rfl ?_
        refine r_goto G 2 dX1_findRow_25 (by decide) ?_
        exact ih2 _ _ _ (by omega) (fun q hq => (Classical.em (q = p)).elim (fun e => by rw [e]; exact pk_us) (fun e => by rw [pk_un e]; exact hl q (by omega))) (by omega)
  exact L2 (n + 1) 0 (S.2 17) (S.2 16) (Nat.zero_le _) (fun q h => absurd h (Nat.not_lt_zero _)) (by omega)
set_option maxHeartbeats 4000000 in
theorem mM_numberOf {l : Launch} {g : fG} {A : Nat → Prop} {En : State → Prop} (hE : fEnv g A En) {o : Nat} {ad : Nat → Nat} (hD : mD A o ad) {S : mS} {n : Nat} {tw kd ld : Nat → Nat} {d : Nat → Nat → Nat} (hV : mV S n tw kd ld) (T : TM n tw d) (h2n : 2 ≤ n): mC l g A En o ad yX1_numberOf cX1_numberOf 3 (some .int) (fR 3) [] S (fun v S' => v = some (.int (nI (rnum n tw (n - 2)))) ∧ ∃ fl fr, mArr (mArr S 17 fl) 16 fr = S') := by
  refine fC.of (by decide) hE [some (.ref o), none, none] rfl rfl (fun K G => ?_)
  have G : fGood l g A En RX1 "numberOf" cX1_numberOf 3 (some .int) (fR 3) _ K := G
  have hn8 := hV.2.1
  refine r_aload_n G dX1_numberOf_0 rfl ?_
  refine m_callV G [] (mM_findRow hE hD hV T h2n) (lw_V q1350 q1352 qs50 q74 q1353) fy_yX1_findRow rfl rfl ⟨Nat.le_of_ble_eq_true rfl, Nat.le_of_ble_eq_true rfl⟩ rfl (Nat.le_of_ble_eq_true rfl) rfl rfl ⟨Nat.zero_le _, Nat.zero_le _⟩ dX1_numberOf_1 (fun v1 S1 hp1 => ?_)
  obtain ⟨rfl, fl1, fr1, rfl, hR1⟩ := hp1
  show K (mH g o ad (mArr (mArr S 17 fl1) 16 fr1)) 0 0 4 [some (.ref o), none, none] []
  refine r_iconst G (v := nI 0) dX1_numberOf_4 (by decide) ?_
  refine r_istore_n G (lo' := [some (.ref o), some (.int (nI 0)), none]) dX1_numberOf_5 rfl rfl ?_
  refine r_iconst G (v := nI 0) dX1_numberOf_6 (by decide) ?_
  refine r_istore_n G (lo' := [some (.ref o), some (.int (nI 0)), some (.int (nI 0))]) dX1_numberOf_7 rfl rfl ?_
  have L8 : ∀ (fu : Nat) (k m : Nat), (k + 2 ≤ n) → (m = rnum n tw k) → n - k < fu → K (mH g o ad (mArr (mArr S 17 fl1) 16 fr1)) 0 0 8 [some (.ref o), some (.int (nI m)), some (.int (nI k))] [] := by
    intro fu
    induction fu with
    | zero => intro k m hk hm hm8; exact absurd hm8 (Nat.not_lt_zero _)
    | succ fu8 ih8 =>
      intro k m hk hm hm8
      refine r_iload_n G dX1_numberOf_8 rfl ?_
      refine r_aload_n G dX1_numberOf_9 rfl ?_
      refine m_gets G 5 (by decide) q1195 rfl (v := (nI n)) hV.1 dX1_numberOf_10 ?_
      refine r_iconst G (v := nI 2) dX1_numberOf_13 (by decide) ?_
      refine r_isub G (v := (nI (n - 2))) dX1_numberOf_14 (pk_sub (by omega)) ?_
      refine r_icmp_ge G 38 (nI_leI (by omega) (by omega)) dX1_numberOf_15 (by decide) (fun h15 => ?_) (fun h15 => ?_)
      · refine r_iload_n G dX1_numberOf_38 rfl ?_
        exact r_iret G rfl ⟨Nat.zero_le _, Nat.zero_le _⟩ dX1_numberOf_39 ⟨_, rfl, rv (by have : k = n - 2 := (by omega); rw [hm, this]), fl1, fr1, rfl⟩
      · refine r_iload_n G dX1_numberOf_18 rfl ?_
        refine r_aload_n G dX1_numberOf_19 rfl ?_
        refine m_gets G 5 (by decide) q1195 rfl (v := (nI n)) hV.1 dX1_numberOf_20 ?_
        refine r_imul G (v := (nI (m * n))) dX1_numberOf_23 (pk_mul m n) ?_
        refine r_aload_n G dX1_numberOf_24 rfl ?_
        refine m_geta G 16 (by decide) q1206 rfl dX1_numberOf_25 ?_
        refine r_iload_n G dX1_numberOf_28 rfl ?_
        refine m_ald G hD 16 (by decide) (by simp only [mN]; omega) (v := (nI (rwv n tw k))) (hR1 _ (by omega)) dX1_numberOf_29 ?_
        refine r_iadd G (v := (nI ((m * n) + (rwv n tw k)))) dX1_numberOf_30 (nI_add (m * n) (rwv n tw k)) ?_
        refine r_istore_n G (lo' := [some (.ref o), some (.int (nI ((m * n) + (rwv n tw k)))), some (.int (nI k))]) dX1_numberOf_31 rfl rfl ?_
        refine r_iinc G (v := (nI (k + 1))) (lo' := [some (.ref o), some (.int (nI ((m * n) + (rwv n tw k)))), some (.int (nI (k + 1)))]) dX1_numberOf_32 rfl (nI_add k 1) rfl rfl ?_
        refine r_goto G 8 dX1_numberOf_35 (by decide) ?_
        exact ih8 _ _ (by omega) (by rw [hm]; rfl) (by omega)
  exact L8 (n + 1) 0 0 h2n rfl (by omega)
end MM4
