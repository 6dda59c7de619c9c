/-! the reference: sheets, parts -/
set_option maxRecDepth 100000
section MM11
theorem sh_new {S : mS} {so sl : Nat → Nat} {sc : Nat → Nat → Int32} (hs : mSh S so sl sc) {k s n : Nat} {fa : Nat → Int32} (hk : k < 4) (h2 : s ≤ 2) (hn : n ≤ 60) (h0 : ∀ q, q < 60 → fa (60 * k + q) = 0) (hb : ∀ q, q < 60 * k ∨ 60 * k + 60 ≤ q → fa q = S.2 4 q) : mSh (mArr (mPut (mPut (mSet S 0 (nI 0)) 2 k (nI s)) 3 k (nI n)) 4 fa) (fup so k s) (fup sl k n) (fun j => if j = k then fun _ => 0 else sc j) := by
  intro j hj
  obtain ⟨a1, a2, a3, a4, a5⟩ := hs j hj
  show upd (S.2 2) k (nI s) j = soI (fup so k s j) ∧ _ ∧ upd (S.2 3) k (nI n) j = _ ∧ _ ∧ ∀ i, i < 60 → fa (60 * j + i) = (if j = k then fun _ => 0 else sc j) i
  unfold fup
  by_cases e : j = k
  · subst e
    rw [if_pos rfl, if_pos rfl, pk_us, pk_us, soI_N (by omega) (by omega), if_pos rfl]
    exact ⟨rfl, by omega, rfl, hn, fun i hi => h0 i hi⟩
  · rw [if_neg e, if_neg e, pk_un e, pk_un e, if_neg e]
    exact ⟨a1, a2, a3, a4, fun i hi => by rw [hb _ (by omega)]; exact a5 i hi⟩
set_option maxHeartbeats 4000000 in
theorem mM_sheet {l : Launch} {g : fG} {A : Nat → Prop} {En : State → Prop} (hE : fEnv g A En) {o : Nat} {ad : Nat → Nat} (hD : mD A o ad) {S : mS} {so sl : Nat → Nat} {sc : Nat → Nat → Int32} (hs : mSh S so sl sc) (k s n : Int32): mC l g A En o ad yX1_sheet cX1_sheet 5 (some .int) (fR 2) [.int k, .int s, .int n] S (fun v S' => v = some (.int (aSheet k s n).1) ∧ S'.1 0 = (aSheet k s n).2 ∧ (if shOk k s n then mSh S' (fup so (ix k) (ix s)) (fup sl (ix k) (ix n)) (fun j => if j = ix k then fun _ => 0 else sc j) else mSh S' so sl sc) ∧ mEqX [0] [2, 3, 4] S S') := by
  refine fC.of (by decide) hE [some (.ref o), some (.int k), some (.int s), some (.int n), none] rfl rfl (fun K G => ?_)
  have G : fGood l g A En RX1 "sheet" cX1_sheet 5 (some .int) (fR 2) _ K := G
  refine r_aload_n G dX1_sheet_0 rfl ?_
  refine r_iconst G (v := nI 0) dX1_sheet_1 (by decide) ?_
  refine m_puts G hD 0 (by decide) q1190 rfl rfl rfl dX1_sheet_2 ?_
  refine r_iload_n G dX1_sheet_5 rfl ?_
  refine s_callS G [.int k] (sM_isSheet hE k) (lw_S q1276 q1277 q74 q1278) fy_yX1_isSheet rfl ⟨Nat.le_of_ble_eq_true rfl, Nat.le_of_ble_eq_true rfl⟩ rfl (Nat.le_of_ble_eq_true rfl) rfl rfl ⟨Nat.zero_le _, Nat.zero_le _⟩ dX1_sheet_6 ?_
  refine r_ifb_ne G 14  dX1_sheet_9 (by decide) (fun h9 => ?_) (fun h9 => ?_)
  · obtain ⟨jk, hjk0, hjk, rfl⟩ := wi_t (by decide) (by decide) h9
    have ejk : ix (nI jk) = jk := ix_nI (by omega)
    have hjk4 : jk < 4 := by omega
    have hjk3 := (hs _ hjk4).2.1
    have hjkl := (hs _ hjk4).2.2.2.1
    refine r_iload_n G dX1_sheet_14 rfl ?_
    refine s_callS G [.int s] (sM_isSort hE s) (lw_S q1282 q1283 q74 q1284) fy_yX1_isSort rfl ⟨Nat.le_of_ble_eq_true rfl, Nat.le_of_ble_eq_true rfl⟩ rfl (Nat.le_of_ble_eq_true rfl) rfl rfl ⟨Nat.zero_le _, Nat.zero_le _⟩ dX1_sheet_15 ?_
    refine r_ifb_eq G 27  dX1_sheet_18 (by decide) (fun h18 => ?_) (fun h18 => ?_)
    · refine r_bipush G (v := -2) dX1_sheet_27 (by decide) ?_
      exact r_iret G rfl ⟨Nat.zero_le _, Nat.zero_le _⟩ dX1_sheet_29 ⟨_, rfl, by rw [aSheet, h9, (show (wi s (nI 0) (nI 2) && decide (n ≤ nI 60)) = false from by rw [Bool.and_eq_false_iff]; first | exact Or.inl h18 | exact Or.inr (decide_eq_false h24))]; rfl, by rw [aSheet, h9, (show (wi s (nI 0) (nI 2) && decide (n ≤ nI 60)) = false from by rw [Bool.and_eq_false_iff]; first | exact Or.inl h18 | exact Or.inr (decide_eq_false h24))]; exact mSet_s S 0 (nI 0), by rw [shOk, h9, (show (wi s (nI 0) (nI 2) && decide (n ≤ nI 60)) = false from by rw [Bool.and_eq_false_iff]; first | exact Or.inl h18 | exact Or.inr (decide_eq_false h24))]; exact hs, (mEqX.set S (nI 0) (by decide))⟩
    · obtain ⟨js, hjs0, hjs, rfl⟩ := wi_t (by decide) (by decide) h18
      have ejs : ix (nI js) = js := ix_nI (by omega)
      refine r_iload_n G dX1_sheet_21 rfl ?_
      refine r_bipush G (v := nI 60) dX1_sheet_22 (by decide) ?_
      refine r_icmp_le G 30 Iff.rfl dX1_sheet_24 (by decide) (fun h24 => ?_) (fun h24 => ?_)
      · refine r_iload_n G dX1_sheet_30 rfl ?_
        refine r_if_ge G 40 Iff.rfl dX1_sheet_31 (by decide) (fun h31 => ?_) (fun h31 => ?_)
        · obtain ⟨jn0, hjn0, rfl⟩ := nI_of (Int32.not_lt.mpr h31)
          have hjn : jn0 ≤ 60 := (nI_leI hjn0 (by decide)).mp h24
          have ejn : ix (nI jn0) = jn0 := ix_nI (by omega)
          refine r_aload_n G dX1_sheet_40 rfl ?_
          refine m_geta G 2 (by decide) q1192 rfl dX1_sheet_41 ?_
          refine r_iload_n G dX1_sheet_44 rfl ?_
          refine r_iload_n G dX1_sheet_45 rfl ?_
          refine m_ast G hD 2 (by decide) (by simp only [mN]; omega) dX1_sheet_46 ?_
          refine r_aload_n G dX1_sheet_47 rfl ?_
          refine m_geta G 3 (by decide) q1193 rfl dX1_sheet_48 ?_
          refine r_iload_n G dX1_sheet_51 rfl ?_
          refine r_iload_n G dX1_sheet_52 rfl ?_
          refine m_ast G hD 3 (by decide) (by simp only [mN]; omega) dX1_sheet_53 ?_
          refine r_iconst G (v := nI 0) dX1_sheet_54 (by decide) ?_
          refine r_istore G (lo' := [some (.ref o), some (.int (nI jk)), some (.int (nI js)), some (.int (nI jn0)), some (.int (nI 0))]) dX1_sheet_55 rfl rfl ?_
          have L57 : ∀ (fu : Nat) (i : Nat) (fa : Nat → Int32), (i ≤ 60) → (∀ q, q < i → fa (60 * jk + q) = 0) → (∀ q, q < 60 * jk ∨ 60 * jk + 60 ≤ q → fa q = S.2 4 q) → 60 - i < fu → K (mH g o ad (mArr (mPut (mPut (mSet S 0 (nI 0)) 2 jk (nI js)) 3 jk (nI jn0)) 4 fa)) 0 0 57 [some (.ref o), some (.int (nI jk)), some (.int (nI js)), some (.int (nI jn0)), some (.int (nI i))] [] := by
            intro fu
            induction fu with
            | zero => intro i fa hi hfa hfb hm57; exact absurd hm57 (Nat.not_lt_zero _)
            | succ fu57 ih57 =>
              intro i fa hi hfa hfb hm57
              refine r_iload G dX1_sheet_57 rfl ?_
              refine r_bipush G (v := nI 60) dX1_sheet_59 (by decide) ?_
              refine r_icmp_ge G 83 (nI_leI (by decide) (by omega)) dX1_sheet_61 (by decide) (fun h61 => ?_) (fun h61 => ?_)
              · refine r_iconst G (v := nI 1) dX1_sheet_83 (by decide) ?_
                exact r_iret G rfl ⟨Nat.zero_le _, Nat.zero_le _⟩ dX1_sheet_84 ⟨_, rfl, by rw [aSheet, h9, (show (wi (nI js) (nI 0) (nI 2) && decide ((nI jn0) ≤ nI 60)) = true from by rw [h18, decide_eq_true h24]; rfl), if_pos rfl, if_pos rfl, if_neg (Int32.not_lt.mpr h31)]; rfl, by rw [aSheet, h9, (show (wi (nI js) (nI 0) (nI 2) && decide ((nI jn0) ≤ nI 60)) = true from by rw [h18, decide_eq_true h24]; rfl), if_pos rfl, if_pos rfl, if_neg (Int32.not_lt.mpr h31)]; exact mSet_s S 0 (nI 0), by rw [shOk, h9, (show (wi (nI js) (nI 0) (nI 2) && decide ((nI jn0) ≤ nI 60)) = true from by rw [h18, decide_eq_true h24]; rfl), decide_eq_false (Int32.not_lt.mpr h31), ejk, ejs, ejn]; exact sh_new hs hjk4 hjs hjn (fun q hq => hfa q (by omega)) hfb, (mEqX.set S (nI 0) (by decide)).tr ((mEqX.put _ _ _ (by decide)).tr ((mEqX.put _ _ _ (by decide)).tr (mEqX.arr _ _ (by decide))))⟩
              · refine r_aload_n G dX1_sheet_64 rfl ?_
                refine m_geta G 4 (by decide) q1194 rfl dX1_sheet_65 ?_
                refine r_bipush G (v := nI 60) dX1_sheet_68 (by decide) ?_
                refine r_iload_n G dX1_sheet_70 rfl ?_
                refine r_imul G (v := (nI (60 * jk))) dX1_sheet_71 (pk_mul 60 jk) ?_
                refine r_iload G dX1_sheet_72 rfl ?_
                refine r_iadd G (v := (nI ((60 * jk) + i))) dX1_sheet_74 (nI_add (60 * jk) i) ?_
                refine r_iconst G (v := nI 0) dX1_sheet_75 (by decide) ?_
                refine m_ast G hD 4 (by decide) (by simp only [mN]; omega) dX1_sheet_76 ?_
                rw [mPut_arr]
                refine r_iinc G (v := (nI (i + 1))) (lo' := [some (.ref o), some (.int (nI jk)), some (.int (nI js)), some (.int (nI jn0)), some (.int (nI (i + 1)))]) dX1_sheet_77 rfl (nI_add i 1) rfl rfl ?_
                refine r_goto G 57 dX1_sheet_80 (by decide) ?_
                exact ih57 _ _ (by omega) (fun q hq => (Classical.em (q = i)).elim (fun e => by rw [e]; exact pk_us) (fun e => by rw [pk_un (by omega)]; exact hfa q (by omega))) (fun q hq => by rw [pk_un (by omega)]; exact hfb q hq) (by omega)
          rw [show (mPut (mPut (mSet S 0 (nI 0)) 2 jk (nI js)) 3 jk (nI jn0)) = mArr (mPut (mPut (mSet S 0 (nI 0)) 2 jk (nI js)) 3 jk (nI jn0)) 4 (S.2 4) from (mArr_0 (mPut (mPut (mSet S 0 (nI 0)) 2 jk (nI js)) 3 jk (nI jn0)) 4).symm]
          exact L57 61 0 (S.2 4) (Nat.zero_le _) (fun q h => absurd h (Nat.not_lt_zero _)) (fun q _ => rfl) (by omega)
        · refine r_aload_n G dX1_sheet_34 rfl ?_
          refine r_iconst G (v := nI 4) dX1_sheet_35 (by decide) ?_
          refine m_callV G [.int (nI 4)] (mM_fails hE hD (S := (mSet S 0 (nI 0))) (nI 4)) (lw_V q1289 q1291 qs40 q74 q1292) fy_yX1_fails rfl rfl ⟨Nat.le_of_ble_eq_true rfl, Nat.le_of_ble_eq_true rfl⟩ rfl (Nat.le_of_ble_eq_true rfl) rfl rfl ⟨Nat.zero_le _, Nat.zero_le _⟩ dX1_sheet_36 (fun v36 S36 hp36 => ?_)
          obtain ⟨rfl, rfl⟩ := hp36
          show K (mH g o ad (mSet (mSet S 0 (nI 0)) 0 (nI 4))) 0 0 39 [some (.ref o), some (.int (nI jk)), some (.int (nI js)), some (.int n), none] [.int (-10 - (nI 4))]
          exact r_iret G rfl ⟨Nat.zero_le _, Nat.zero_le _⟩ dX1_sheet_39 ⟨_, rfl, by rw [aSheet, h9, (show (wi (nI js) (nI 0) (nI 2) && decide (n ≤ nI 60)) = true from by rw [h18, decide_eq_true h24]; rfl), if_pos rfl, if_pos rfl, if_pos (Int32.not_le.mp h31)]; rfl, by rw [aSheet, h9, (show (wi (nI js) (nI 0) (nI 2) && decide (n ≤ nI 60)) = true from by rw [h18, decide_eq_true h24]; rfl), if_pos rfl, if_pos rfl, if_pos (Int32.not_le.mp h31)]; exact mSet_s _ 0 _, by rw [shOk, h9, (show (wi (nI js) (nI 0) (nI 2) && decide (n ≤ nI 60)) = true from by rw [h18, decide_eq_true h24]; rfl), decide_eq_true (Int32.not_le.mp h31)]; exact hs, (mEqX.set S (nI 0) (by decide)).tr (mEqX.set _ _ (by decide))⟩
      · refine r_bipush G (v := -2) dX1_sheet_27 (by decide) ?_
        exact r_iret G rfl ⟨Nat.zero_le _, Nat.zero_le _⟩ dX1_sheet_29 ⟨_, rfl, by rw [aSheet, h9, (show (wi (nI js) (nI 0) (nI 2) && decide (n ≤ nI 60)) = false from by rw [Bool.and_eq_false_iff]; first | exact Or.inl h18 | exact Or.inr (decide_eq_false h24))]; rfl, by rw [aSheet, h9, (show (wi (nI js) (nI 0) (nI 2) && decide (n ≤ nI 60)) = false from by rw [Bool.and_eq_false_iff]; first | exact Or.inl h18 | exact Or.inr (decide_eq_false h24))]; exact mSet_s S 0 (nI 0), by rw [shOk, h9, (show (wi (nI js) (nI 0) (nI 2) && decide (n ≤ nI 60)) = false from by rw [Bool.and_eq_false_iff]; first | exact Or.inl h18 | exact Or.inr (decide_eq_false h24))]; exact hs, (mEqX.set S (nI 0) (by decide))⟩
  · refine r_iconst G (v := -1) dX1_sheet_12 (by decide) ?_
    exact r_iret G rfl ⟨Nat.zero_le _, Nat.zero_le _⟩ dX1_sheet_13 ⟨_, rfl, by rw [aSheet, h9]; rfl, by rw [aSheet, h9]; exact mSet_s S 0 (nI 0), by rw [shOk, h9]; exact hs, (mEqX.set S (nI 0) (by decide))⟩
theorem sh_los {S : mS} {so sl : Nat → Nat} {sc : Nat → Nat → Int32} (hs : mSh S so sl sc) {k : Nat} (hk : k < 4) : mSh (mPut S 2 k (-9)) (fup so k 3) sl sc := by
  intro j hj
  obtain ⟨a1, a2, a3, a4, a5⟩ := hs j hj
  show upd (S.2 2) k (-9) j = soI (fup so k 3 j) ∧ fup so k 3 j ≤ 3 ∧ _
  unfold fup
  by_cases e : j = k
  · subst e
    rw [if_pos rfl, pk_us]
    exact ⟨rfl, Nat.le_refl 3, a3, a4, a5⟩
  · rw [if_neg e, pk_un e]
    exact ⟨a1, a2, a3, a4, a5⟩
set_option maxHeartbeats 4000000 in
theorem mM_lose {l : Launch} {g : fG} {A : Nat → Prop} {En : State → Prop} (hE : fEnv g A En) {o : Nat} {ad : Nat → Nat} (hD : mD A o ad) {S : mS} {so sl : Nat → Nat} {sc : Nat → Nat → Int32} (hs : mSh S so sl sc) (k : Int32): mC l g A En o ad yX1_lose cX1_lose 3 (some .int) (fR 2) [.int k] S (fun v S' => v = some (.int (aLose so k)) ∧ (if wi k (nI 0) (nI 3) then mSh S' (fup so (ix k) 3) sl sc else mSh S' so sl sc) ∧ mEqX [] [2] S S') := by
  refine fC.of (by decide) hE [some (.ref o), some (.int k), none] rfl rfl (fun K G => ?_)
  have G : fGood l g A En RX1 "lose" cX1_lose 3 (some .int) (fR 2) _ K := G
  refine r_iload_n G dX1_lose_0 rfl ?_
  refine s_callS G [.int k] (sM_isSheet hE k) (lw_S q1276 q1277 q74 q1278) fy_yX1_isSheet rfl ⟨Nat.le_of_ble_eq_true rfl, Nat.le_of_ble_eq_true rfl⟩ rfl (Nat.le_of_ble_eq_true rfl) rfl rfl ⟨Nat.zero_le _, Nat.zero_le _⟩ dX1_lose_1 ?_
  refine r_ifb_ne G 9  dX1_lose_4 (by decide) (fun h4 => ?_) (fun h4 => ?_)
  · obtain ⟨jk, hjk0, hjk, rfl⟩ := wi_t (by decide) (by decide) h4
    have ejk : ix (nI jk) = jk := ix_nI (by omega)
    have hjk4 : jk < 4 := by omega
    have hjk3 := (hs _ hjk4).2.1
    have hjkl := (hs _ hjk4).2.2.2.1
    refine r_aload_n G dX1_lose_9 rfl ?_
    refine m_geta G 2 (by decide) q1192 rfl dX1_lose_10 ?_
    refine r_iload_n G dX1_lose_13 rfl ?_
    refine m_ald G hD 2 (by decide) (by simp only [mN]; omega) (v := (soI (so jk))) (hs jk (by omega)).1 dX1_lose_14 ?_
    refine r_bipush G (v := -9) dX1_lose_15 (by decide) ?_
    refine r_icmp_ne G 24 (soI_3 hjk3) dX1_lose_17 (by decide) (fun h17 => ?_) (fun h17 => ?_)
    · refine r_iconst G (v := nI 1) dX1_lose_24 (by decide) ?_
      refine r_istore_n G (lo' := [some (.ref o), some (.int (nI jk)), some (.int (nI 1))]) dX1_lose_25 rfl rfl ?_
      refine r_aload_n G dX1_lose_26 rfl ?_
      refine m_geta G 2 (by decide) q1192 rfl dX1_lose_27 ?_
      refine r_iload_n G dX1_lose_30 rfl ?_
      refine r_bipush G (v := -9) dX1_lose_31 (by decide) ?_
      refine m_ast G hD 2 (by decide) (by simp only [mN]; omega) dX1_lose_33 ?_
      refine r_iload_n G dX1_lose_34 rfl ?_
      exact r_iret G rfl ⟨Nat.zero_le _, Nat.zero_le _⟩ dX1_lose_35 ⟨_, rfl, by rw [aLose, h4, ejk, if_pos rfl, if_neg h17]; rfl, by rw [h4, ejk]; exact sh_los hs hjk4, mEqX.put _ _ _ (by decide)⟩
    · refine r_iconst G (v := nI 0) dX1_lose_20 (by decide) ?_
      refine r_goto G 25 dX1_lose_21 (by decide) ?_
      refine r_istore_n G (lo' := [some (.ref o), some (.int (nI jk)), some (.int (nI 0))]) dX1_lose_25 rfl rfl ?_
      refine r_aload_n G dX1_lose_26 rfl ?_
      refine m_geta G 2 (by decide) q1192 rfl dX1_lose_27 ?_
      refine r_iload_n G dX1_lose_30 rfl ?_
      refine r_bipush G (v := -9) dX1_lose_31 (by decide) ?_
      refine m_ast G hD 2 (by decide) (by simp only [mN]; omega) dX1_lose_33 ?_
      refine r_iload_n G dX1_lose_34 rfl ?_
      exact r_iret G rfl ⟨Nat.zero_le _, Nat.zero_le _⟩ dX1_lose_35 ⟨_, rfl, by rw [aLose, h4, ejk, if_pos rfl, if_pos h17]; rfl, by rw [h4, ejk]; exact sh_los hs hjk4, mEqX.put _ _ _ (by decide)⟩
  · refine r_iconst G (v := -1) dX1_lose_7 (by decide) ?_
    exact r_iret G rfl ⟨Nat.zero_le _, Nat.zero_le _⟩ dX1_lose_8 ⟨_, rfl, by rw [aLose, h4]; rfl, by rw [h4]; exact hs, mEqX.rf _ _ _⟩
theorem sh_put {S : mS} {so sl : Nat → Nat} {sc : Nat → Nat → Int32} (hs : mSh S so sl sc) {k i : Nat} {x v : Int32} (hk : k < 4) (hi : i < 60) (hx : x = nar (so k) v) : mSh (mPut (mSet S 0 (nI 0)) 4 (60 * k + i) x) so sl (scU sc k i (nar (so k) v)) := by
  intro j hj
  obtain ⟨a1, a2, a3, a4, a5⟩ := hs j hj
  refine ⟨a1, a2, a3, a4, fun q hq => ?_⟩
  show upd (S.2 4) (60 * k + i) x (60 * j + q) = _
  unfold scU
  by_cases e : j = k ∧ q = i
  · rw [if_pos e, e.1, e.2, pk_us, hx]
  · rw [if_neg e, pk_un (fun z => e ⟨by omega, by omega⟩)]
    exact a5 q hq
set_option maxHeartbeats 4000000 in
theorem mM_put {l : Launch} {g : fG} {A : Nat → Prop} {En : State → Prop} (hE : fEnv g A En) {o : Nat} {ad : Nat → Nat} (hD : mD A o ad) {S : mS} {so sl : Nat → Nat} {sc : Nat → Nat → Int32} (hs : mSh S so sl sc) (k i v : Int32): mC l g A En o ad yX1_put cX1_put 4 (some .int) (fR 2) [.int k, .int i, .int v] S (fun w S' => w = some (.int (aPut so sl k i).1) ∧ S'.1 0 = (aPut so sl k i).2 ∧ (if ptOk so sl k i then mSh S' so sl (scU sc (ix k) (ix i) (nar (so (ix k)) v)) else mSh S' so sl sc) ∧ mEqX [0] [4] S S') := by
  refine fC.of (by decide) hE [some (.ref o), some (.int k), some (.int i), some (.int v)] rfl rfl (fun K G => ?_)
  have G : fGood l g A En RX1 "put" cX1_put 4 (some .int) (fR 2) _ K := G
  refine r_aload_n G dX1_put_0 rfl ?_
  refine r_iconst G (v := nI 0) dX1_put_1 (by decide) ?_
  refine m_puts G hD 0 (by decide) q1190 rfl rfl rfl dX1_put_2 ?_
  refine r_iload_n G dX1_put_5 rfl ?_
  refine s_callS G [.int k] (sM_isSheet hE k) (lw_S q1276 q1277 q74 q1278) fy_yX1_isSheet rfl ⟨Nat.le_of_ble_eq_true rfl, Nat.le_of_ble_eq_true rfl⟩ rfl (Nat.le_of_ble_eq_true rfl) rfl rfl ⟨Nat.zero_le _, Nat.zero_le _⟩ dX1_put_6 ?_
  refine r_ifb_ne G 14  dX1_put_9 (by decide) (fun h9 => ?_) (fun h9 => ?_)
  · obtain ⟨jk, hjk0, hjk, rfl⟩ := wi_t (by decide) (by decide) h9
    have ejk : ix (nI jk) = jk := ix_nI (by omega)
    have hjk4 : jk < 4 := by omega
    have hjk3 := (hs _ hjk4).2.1
    have hjkl := (hs _ hjk4).2.2.2.1
    refine r_aload_n G dX1_put_14 rfl ?_
    refine m_geta G 2 (by decide) q1192 rfl dX1_put_15 ?_
    refine r_iload_n G dX1_put_18 rfl ?_
    refine m_ald G hD 2 (by decide) (by simp only [mN]; omega) (v := (soI (so jk))) (hs jk (by omega)).1 dX1_put_19 ?_
    refine r_bipush G (v := -9) dX1_put_20 (by decide) ?_
    refine r_icmp_ne G 31 (soI_3 hjk3) dX1_put_22 (by decide) (fun h22 => ?_) (fun h22 => ?_)
    · refine r_iload_n G dX1_put_31 rfl ?_
      refine r_iconst G (v := nI 0) dX1_put_32 (by decide) ?_
      refine r_aload_n G dX1_put_33 rfl ?_
      refine m_geta G 3 (by decide) q1193 rfl dX1_put_34 ?_
      refine r_iload_n G dX1_put_37 rfl ?_
      refine m_ald G hD 3 (by decide) (by simp only [mN]; omega) (v := (nI (sl jk))) (hs jk (by omega)).2.2.1 dX1_put_38 ?_
      refine r_iconst G (v := nI 1) dX1_put_39 (by decide) ?_
      refine r_isub G (v := ((nI (sl jk)) - (nI 1))) dX1_put_40 rfl ?_
      refine s_callS G [.int i, .int (nI 0), .int ((nI (sl jk)) - (nI 1))] (sM_within hE i (nI 0) ((nI (sl jk)) - (nI 1))) (lw_S q1279 q1280 q74 q1281) fy_yX1_within rfl ⟨Nat.le_of_ble_eq_true rfl, Nat.le_of_ble_eq_true rfl⟩ rfl (Nat.le_of_ble_eq_true rfl) rfl rfl ⟨Nat.zero_le _, Nat.zero_le _⟩ dX1_put_41 ?_
      refine r_ifb_ne G 53  dX1_put_44 (by decide) (fun h44 => ?_) (fun h44 => ?_)
      · obtain ⟨ji, hji, rfl⟩ := wi_i hjkl h44
        have eji : ix (nI ji) = ji := ix_nI (by omega)
        have hsN := soI_N hjk3 h22
        refine r_aload_n G dX1_put_53 rfl ?_
        refine m_geta G 4 (by decide) q1194 rfl dX1_put_54 ?_
        refine r_bipush G (v := nI 60) dX1_put_57 (by decide) ?_
        refine r_iload_n G dX1_put_59 rfl ?_
        refine r_imul G (v := (nI (60 * jk))) dX1_put_60 (pk_mul 60 jk) ?_
        refine r_iload_n G dX1_put_61 rfl ?_
        refine r_iadd G (v := (nI ((60 * jk) + ji))) dX1_put_62 (nI_add (60 * jk) ji) ?_
        refine r_aload_n G dX1_put_63 rfl ?_
        refine m_geta G 2 (by decide) q1192 rfl dX1_put_64 ?_
        refine r_iload_n G dX1_put_67 rfl ?_
        refine m_ald G hD 2 (by decide) (by simp only [mN]; omega) (v := (nI (so jk))) ((hs jk hjk4).1.trans hsN) dX1_put_68 ?_
        refine r_if_ne G 77 (n_eq0 (by omega)) dX1_put_69 (by decide) (fun h69 => ?_) (fun h69 => ?_)
        · refine r_aload_n G dX1_put_77 rfl ?_
          refine m_geta G 2 (by decide) q1192 rfl dX1_put_78 ?_
          refine r_iload_n G dX1_put_81 rfl ?_
          refine m_ald G hD 2 (by decide) (by simp only [mN]; omega) (v := (nI (so jk))) ((hs jk hjk4).1.trans hsN) dX1_put_82 ?_
          refine r_iconst G (v := nI 1) dX1_put_83 (by decide) ?_
          refine r_icmp_ne G 92 (nI_eq (by omega) (by decide)) dX1_put_84 (by decide) (fun h84 => ?_) (fun h84 => ?_)
          · refine r_iload_n G dX1_put_92 rfl ?_
            refine m_ast G hD 4 (by decide) (by simp only [mN]; omega) dX1_put_93 ?_
            refine r_iconst G (v := nI 1) dX1_put_94 (by decide) ?_
            exact r_iret G rfl ⟨Nat.zero_le _, Nat.zero_le _⟩ dX1_put_95 ⟨_, rfl, by rw [aPut, h9, if_pos rfl, ejk, if_neg h22, h44]; rfl, by rw [aPut, h9, if_pos rfl, ejk, if_neg h22, h44]; exact mSet_s S 0 (nI 0), by rw [ptOk, h9, ejk, decide_eq_false h22, h44, eji]; exact sh_put hs hjk4 (show ji < 60 by omega) (by rw [nar, if_neg h69, if_neg h84]), (mEqX.set S (nI 0) (by decide)).tr (mEqX.put _ _ _ (by decide))⟩
          · refine r_iload_n G dX1_put_87 rfl ?_
            refine r_i2s G dX1_put_88 rfl ?_
            refine r_goto G 93 dX1_put_89 (by decide) ?_
            refine m_ast G hD 4 (by decide) (by simp only [mN]; omega) dX1_put_93 ?_
            refine r_iconst G (v := nI 1) dX1_put_94 (by decide) ?_
            exact r_iret G rfl ⟨Nat.zero_le _, Nat.zero_le _⟩ dX1_put_95 ⟨_, rfl, by rw [aPut, h9, if_pos rfl, ejk, if_neg h22, h44]; rfl, by rw [aPut, h9, if_pos rfl, ejk, if_neg h22, h44]; exact mSet_s S 0 (nI 0), by rw [ptOk, h9, ejk, decide_eq_false h22, h44, eji]; exact sh_put hs hjk4 (show ji < 60 by omega) (by rw [nar, if_neg h69, if_pos h84]), (mEqX.set S (nI 0) (by decide)).tr (mEqX.put _ _ _ (by decide))⟩
        · refine r_iload_n G dX1_put_72 rfl ?_
          refine r_i2b G dX1_put_73 rfl ?_
          refine r_goto G 93 dX1_put_74 (by decide) ?_
          refine m_ast G hD 4 (by decide) (by simp only [mN]; omega) dX1_put_93 ?_
          refine r_iconst G (v := nI 1) dX1_put_94 (by decide) ?_
          exact r_iret G rfl ⟨Nat.zero_le _, Nat.zero_le _⟩ dX1_put_95 ⟨_, rfl, by rw [aPut, h9, if_pos rfl, ejk, if_neg h22, h44]; rfl, by rw [aPut, h9, if_pos rfl, ejk, if_neg h22, h44]; exact mSet_s S 0 (nI 0), by rw [ptOk, h9, ejk, decide_eq_false h22, h44, eji]; exact sh_put hs hjk4 (show ji < 60 by omega) (by rw [nar, if_pos h69]), (mEqX.set S (nI 0) (by decide)).tr (mEqX.put _ _ _ (by decide))⟩
      · refine r_aload_n G dX1_put_47 rfl ?_
        refine r_iconst G (v := nI 3) dX1_put_48 (by decide) ?_
        refine m_callV G [.int (nI 3)] (mM_fails hE hD (S := (mSet S 0 (nI 0))) (nI 3)) (lw_V q1289 q1291 qs40 q74 q1292) fy_yX1_fails rfl rfl ⟨Nat.le_of_ble_eq_true rfl, Nat.le_of_ble_eq_true rfl⟩ rfl (Nat.le_of_ble_eq_true rfl) rfl rfl ⟨Nat.zero_le _, Nat.zero_le _⟩ dX1_put_49 (fun v49 S49 hp49 => ?_)
        obtain ⟨rfl, rfl⟩ := hp49
        show K (mH g o ad (mSet (mSet S 0 (nI 0)) 0 (nI 3))) 0 0 52 [some (.ref o), some (.int (nI jk)), some (.int i), some (.int v)] [.int (-10 - (nI 3))]
        exact r_iret G rfl ⟨Nat.zero_le _, Nat.zero_le _⟩ dX1_put_52 ⟨_, rfl, by rw [aPut, h9, if_pos rfl, ejk, if_neg h22, h44]; rfl, by rw [aPut, h9, if_pos rfl, ejk, if_neg h22, h44]; exact mSet_s _ 0 _, by rw [ptOk, h9, ejk, decide_eq_false h22, h44]; exact hs, (mEqX.set S (nI 0) (by decide)).tr (mEqX.set _ _ (by decide))⟩
    · refine r_aload_n G dX1_put_25 rfl ?_
      refine r_iconst G (v := nI 1) dX1_put_26 (by decide) ?_
      refine m_callV G [.int (nI 1)] (mM_fails hE hD (S := (mSet S 0 (nI 0))) (nI 1)) (lw_V q1289 q1291 qs40 q74 q1292) fy_yX1_fails rfl rfl ⟨Nat.le_of_ble_eq_true rfl, Nat.le_of_ble_eq_true rfl⟩ rfl (Nat.le_of_ble_eq_true rfl) rfl rfl ⟨Nat.zero_le _, Nat.zero_le _⟩ dX1_put_27 (fun v27 S27 hp27 => ?_)
      obtain ⟨rfl, rfl⟩ := hp27
      show K (mH g o ad (mSet (mSet S 0 (nI 0)) 0 (nI 1))) 0 0 30 [some (.ref o), some (.int (nI jk)), some (.int i), some (.int v)] [.int (-10 - (nI 1))]
      exact r_iret G rfl ⟨Nat.zero_le _, Nat.zero_le _⟩ dX1_put_30 ⟨_, rfl, by rw [aPut, h9, if_pos rfl, ejk, if_pos h22]; rfl, by rw [aPut, h9, if_pos rfl, ejk, if_pos h22]; exact mSet_s _ 0 _, by rw [ptOk, h9, ejk, decide_eq_true h22]; exact hs, (mEqX.set S (nI 0) (by decide)).tr (mEqX.set _ _ (by decide))⟩
  · refine r_iconst G (v := -1) dX1_put_12 (by decide) ?_
    exact r_iret G rfl ⟨Nat.zero_le _, Nat.zero_le _⟩ dX1_put_13 ⟨_, rfl, by rw [aPut, h9]; rfl, by rw [aPut, h9]; exact mSet_s S 0 (nI 0), by rw [ptOk, h9]; exact hs, (mEqX.set S (nI 0) (by decide))⟩
set_option maxHeartbeats 4000000 in
theorem mM_cell {l : Launch} {g : fG} {A : Nat → Prop} {En : State → Prop} (hE : fEnv g A En) {o : Nat} {ad : Nat → Nat} (hD : mD A o ad) {S : mS} {so sl : Nat → Nat} {sc : Nat → Nat → Int32} (hs : mSh S so sl sc) (k i s : Int32): mC l g A En o ad yX1_cell cX1_cell 4 (some .long) (fR 2) [.int k, .int i, .int s] S (fun v S' => v = some (.long (aCell so sl sc k i s).1) ∧ S'.1 0 = (aCell so sl sc k i s).2 ∧ mEqX [0] [] S S') := by
  refine fC.of (by decide) hE [some (.ref o), some (.int k), some (.int i), some (.int s)] rfl rfl (fun K G => ?_)
  have G : fGood l g A En RX1 "cell" cX1_cell 4 (some .long) (fR 2) _ K := G
  refine r_aload_n G dX1_cell_0 rfl ?_
  refine r_iconst G (v := nI 0) dX1_cell_1 (by decide) ?_
  refine m_puts G hD 0 (by decide) q1190 rfl rfl rfl dX1_cell_2 ?_
  refine r_iload_n G dX1_cell_5 rfl ?_
  refine s_callS G [.int k] (sM_isSheet hE k) (lw_S q1276 q1277 q74 q1278) fy_yX1_isSheet rfl ⟨Nat.le_of_ble_eq_true rfl, Nat.le_of_ble_eq_true rfl⟩ rfl (Nat.le_of_ble_eq_true rfl) rfl rfl ⟨Nat.zero_le _, Nat.zero_le _⟩ dX1_cell_6 ?_
  refine r_ifb_eq G 19  dX1_cell_9 (by decide) (fun h9 => ?_) (fun h9 => ?_)
  · refine r_ldc2 G q1478 dX1_cell_19 ?_
    exact r_lret G rfl ⟨Nat.zero_le _, Nat.zero_le _⟩ dX1_cell_22 ⟨_, rfl, by rw [aCell, (show (wi k (nI 0) (nI 3) && wi s (nI 0) (nI 2)) = false from by rw [Bool.and_eq_false_iff]; first | exact Or.inl h9 | exact Or.inr h16)]; rfl, by rw [aCell, (show (wi k (nI 0) (nI 3) && wi s (nI 0) (nI 2)) = false from by rw [Bool.and_eq_false_iff]; first | exact Or.inl h9 | exact Or.inr h16)]; exact mSet_s S 0 (nI 0), (mEqX.set S (nI 0) (by decide))⟩
  · obtain ⟨jk, hjk0, hjk, rfl⟩ := wi_t (by decide) (by decide) h9
    have ejk : ix (nI jk) = jk := ix_nI (by omega)
    have hjk4 : jk < 4 := by omega
    have hjk3 := (hs _ hjk4).2.1
    have hjkl := (hs _ hjk4).2.2.2.1
    refine r_iload_n G dX1_cell_12 rfl ?_
    refine s_callS G [.int s] (sM_isSort hE s) (lw_S q1282 q1283 q74 q1284) fy_yX1_isSort rfl ⟨Nat.le_of_ble_eq_true rfl, Nat.le_of_ble_eq_true rfl⟩ rfl (Nat.le_of_ble_eq_true rfl) rfl rfl ⟨Nat.zero_le _, Nat.zero_le _⟩ dX1_cell_13 ?_
    refine r_ifb_ne G 23  dX1_cell_16 (by decide) (fun h16 => ?_) (fun h16 => ?_)
    · refine r_aload_n G dX1_cell_23 rfl ?_
      refine m_geta G 2 (by decide) q1192 rfl dX1_cell_24 ?_
      refine r_iload_n G dX1_cell_27 rfl ?_
      refine m_ald G hD 2 (by decide) (by simp only [mN]; omega) (v := (soI (so jk))) (hs jk (by omega)).1 dX1_cell_28 ?_
      refine r_bipush G (v := -9) dX1_cell_29 (by decide) ?_
      refine r_icmp_eq G 50 (soI_3 hjk3) dX1_cell_31 (by decide) (fun h31 => ?_) (fun h31 => ?_)
      · have hA : ¬ (so jk ≠ 3 ∧ soI (so jk) ≠ s) := fun q => by first | exact q.1 h31 | exact q.2 h41
        refine r_aload_n G dX1_cell_50 rfl ?_
        refine m_geta G 2 (by decide) q1192 rfl dX1_cell_51 ?_
        refine r_iload_n G dX1_cell_54 rfl ?_
        refine m_ald G hD 2 (by decide) (by simp only [mN]; omega) (v := (soI (so jk))) (hs jk (by omega)).1 dX1_cell_55 ?_
        refine r_bipush G (v := -9) dX1_cell_56 (by decide) ?_
        refine r_icmp_ne G 67 (soI_3 hjk3) dX1_cell_58 (by decide) (fun h58 => ?_) (fun h58 => ?_)
        · refine r_iload_n G dX1_cell_67 rfl ?_
          refine r_iconst G (v := nI 0) dX1_cell_68 (by decide) ?_
          refine r_aload_n G dX1_cell_69 rfl ?_
          refine m_geta G 3 (by decide) q1193 rfl dX1_cell_70 ?_
          refine r_iload_n G dX1_cell_73 rfl ?_
          refine m_ald G hD 3 (by decide) (by simp only [mN]; omega) (v := (nI (sl jk))) (hs jk (by omega)).2.2.1 dX1_cell_74 ?_
          refine r_iconst G (v := nI 1) dX1_cell_75 (by decide) ?_
          refine r_isub G (v := ((nI (sl jk)) - (nI 1))) dX1_cell_76 rfl ?_
          refine s_callS G [.int i, .int (nI 0), .int ((nI (sl jk)) - (nI 1))] (sM_within hE i (nI 0) ((nI (sl jk)) - (nI 1))) (lw_S q1279 q1280 q74 q1281) fy_yX1_within rfl ⟨Nat.le_of_ble_eq_true rfl, Nat.le_of_ble_eq_true rfl⟩ rfl (Nat.le_of_ble_eq_true rfl) rfl rfl ⟨Nat.zero_le _, Nat.zero_le _⟩ dX1_cell_77 ?_
          refine r_ifb_ne G 89  dX1_cell_80 (by decide) (fun h80 => ?_) (fun h80 => ?_)
          · obtain ⟨ji, hji, rfl⟩ := wi_i hjkl h80
            have eji : ix (nI ji) = ji := ix_nI (by omega)
            refine r_aload_n G dX1_cell_89 rfl ?_
            refine m_geta G 4 (by decide) q1194 rfl dX1_cell_90 ?_
            refine r_bipush G (v := nI 60) dX1_cell_93 (by decide) ?_
            refine r_iload_n G dX1_cell_95 rfl ?_
            refine r_imul G (v := (nI (60 * jk))) dX1_cell_96 (pk_mul 60 jk) ?_
            refine r_iload_n G dX1_cell_97 rfl ?_
            refine r_iadd G (v := (nI ((60 * jk) + ji))) dX1_cell_98 (nI_add (60 * jk) ji) ?_
            refine m_ald G hD 4 (by decide) (by simp only [mN]; omega) (v := (sc jk ji)) ((hs jk hjk4).2.2.2.2 ji (by omega)) dX1_cell_99 ?_
            refine r_i2l G dX1_cell_100 rfl ?_
            exact r_lret G rfl ⟨Nat.zero_le _, Nat.zero_le _⟩ dX1_cell_101 ⟨_, rfl, by rw [aCell, h9, h16, ejk, Bool.and_self, if_pos rfl, if_neg hA, if_neg h58, h80, eji]; rfl, by rw [aCell, h9, h16, ejk, Bool.and_self, if_pos rfl, if_neg hA, if_neg h58, h80]; exact mSet_s S 0 (nI 0), (mEqX.set S (nI 0) (by decide))⟩
          · refine r_aload_n G dX1_cell_83 rfl ?_
            refine r_iconst G (v := nI 3) dX1_cell_84 (by decide) ?_
            refine m_callV G [.int (nI 3)] (mM_lost hE hD (S := (mSet S 0 (nI 0))) (nI 3)) (lw_V q1498 q1500 qs67 q74 q1501) fy_yX1_lost rfl rfl ⟨Nat.le_of_ble_eq_true rfl, Nat.le_of_ble_eq_true rfl⟩ rfl (Nat.le_of_ble_eq_true rfl) rfl rfl ⟨Nat.zero_le _, Nat.zero_le _⟩ dX1_cell_85 (fun v85 S85 hp85 => ?_)
            obtain ⟨rfl, rfl⟩ := hp85
            show K (mH g o ad (mSet (mSet S 0 (nI 0)) 0 (nI 3))) 0 0 88 [some (.ref o), some (.int (nI jk)), some (.int i), some (.int s)] [.long (-9223372036854775808)]
            exact r_lret G rfl ⟨Nat.zero_le _, Nat.zero_le _⟩ dX1_cell_88 ⟨_, rfl, by rw [aCell, h9, h16, ejk, Bool.and_self, if_pos rfl, if_neg hA, if_neg h58, h80]; rfl, by rw [aCell, h9, h16, ejk, Bool.and_self, if_pos rfl, if_neg hA, if_neg h58, h80]; exact mSet_s _ 0 _, (mEqX.set S (nI 0) (by decide)).tr (mEqX.set _ _ (by decide))⟩
        · refine r_aload_n G dX1_cell_61 rfl ?_
          refine r_iconst G (v := nI 1) dX1_cell_62 (by decide) ?_
          refine m_callV G [.int (nI 1)] (mM_lost hE hD (S := (mSet S 0 (nI 0))) (nI 1)) (lw_V q1498 q1500 qs67 q74 q1501) fy_yX1_lost rfl rfl ⟨Nat.le_of_ble_eq_true rfl, Nat.le_of_ble_eq_true rfl⟩ rfl (Nat.le_of_ble_eq_true rfl) rfl rfl ⟨Nat.zero_le _, Nat.zero_le _⟩ dX1_cell_63 (fun v63 S63 hp63 => ?_)
          obtain ⟨rfl, rfl⟩ := hp63
          show K (mH g o ad (mSet (mSet S 0 (nI 0)) 0 (nI 1))) 0 0 66 [some (.ref o), some (.int (nI jk)), some (.int i), some (.int s)] [.long (-9223372036854775808)]
          exact r_lret G rfl ⟨Nat.zero_le _, Nat.zero_le _⟩ dX1_cell_66 ⟨_, rfl, by rw [aCell, h9, h16, ejk, Bool.and_self, if_pos rfl, if_neg hA, if_pos h58], by rw [aCell, h9, h16, ejk, Bool.and_self, if_pos rfl, if_neg hA, if_pos h58]; exact mSet_s _ 0 _, (mEqX.set S (nI 0) (by decide)).tr (mEqX.set _ _ (by decide))⟩
      · refine r_aload_n G dX1_cell_34 rfl ?_
        refine m_geta G 2 (by decide) q1192 rfl dX1_cell_35 ?_
        refine r_iload_n G dX1_cell_38 rfl ?_
        refine m_ald G hD 2 (by decide) (by simp only [mN]; omega) (v := (soI (so jk))) (hs jk (by omega)).1 dX1_cell_39 ?_
        refine r_iload_n G dX1_cell_40 rfl ?_
        refine r_icmp_eq G 50 Iff.rfl dX1_cell_41 (by decide) (fun h41 => ?_) (fun h41 => ?_)
        · have hA : ¬ (so jk ≠ 3 ∧ soI (so jk) ≠ s) := fun q => by first | exact q.1 h31 | exact q.2 h41
          refine r_aload_n G dX1_cell_50 rfl ?_
          refine m_geta G 2 (by decide) q1192 rfl dX1_cell_51 ?_
          refine r_iload_n G dX1_cell_54 rfl ?_
          refine m_ald G hD 2 (by decide) (by simp only [mN]; omega) (v := (soI (so jk))) (hs jk (by omega)).1 dX1_cell_55 ?_
          refine r_bipush G (v := -9) dX1_cell_56 (by decide) ?_
          refine r_icmp_ne G 67 (soI_3 hjk3) dX1_cell_58 (by decide) (fun h58 => ?_) (fun h58 => ?_)
          · refine r_iload_n G dX1_cell_67 rfl ?_
            refine r_iconst G (v := nI 0) dX1_cell_68 (by decide) ?_
            refine r_aload_n G dX1_cell_69 rfl ?_
            refine m_geta G 3 (by decide) q1193 rfl dX1_cell_70 ?_
            refine r_iload_n G dX1_cell_73 rfl ?_
            refine m_ald G hD 3 (by decide) (by simp only [mN]; omega) (v := (nI (sl jk))) (hs jk (by omega)).2.2.1 dX1_cell_74 ?_
            refine r_iconst G (v := nI 1) dX1_cell_75 (by decide) ?_
            refine r_isub G (v := ((nI (sl jk)) - (nI 1))) dX1_cell_76 rfl ?_
            refine s_callS G [.int i, .int (nI 0), .int ((nI (sl jk)) - (nI 1))] (sM_within hE i (nI 0) ((nI (sl jk)) - (nI 1))) (lw_S q1279 q1280 q74 q1281) fy_yX1_within rfl ⟨Nat.le_of_ble_eq_true rfl, Nat.le_of_ble_eq_true rfl⟩ rfl (Nat.le_of_ble_eq_true rfl) rfl rfl ⟨Nat.zero_le _, Nat.zero_le _⟩ dX1_cell_77 ?_
            refine r_ifb_ne G 89  dX1_cell_80 (by decide) (fun h80 => ?_) (fun h80 => ?_)
            · obtain ⟨ji, hji, rfl⟩ := wi_i hjkl h80
              have eji : ix (nI ji) = ji := ix_nI (by omega)
              refine r_aload_n G dX1_cell_89 rfl ?_
              refine m_geta G 4 (by decide) q1194 rfl dX1_cell_90 ?_
              refine r_bipush G (v := nI 60) dX1_cell_93 (by decide) ?_
              refine r_iload_n G dX1_cell_95 rfl ?_
              refine r_imul G (v := (nI (60 * jk))) dX1_cell_96 (pk_mul 60 jk) ?_
              refine r_iload_n G dX1_cell_97 rfl ?_
              refine r_iadd G (v := (nI ((60 * jk) + ji))) dX1_cell_98 (nI_add (60 * jk) ji) ?_
              refine m_ald G hD 4 (by decide) (by simp only [mN]; omega) (v := (sc jk ji)) ((hs jk hjk4).2.2.2.2 ji (by omega)) dX1_cell_99 ?_
              refine r_i2l G dX1_cell_100 rfl ?_
              exact r_lret G rfl ⟨Nat.zero_le _, Nat.zero_le _⟩ dX1_cell_101 ⟨_, rfl, by rw [aCell, h9, h16, ejk, Bool.and_self, if_pos rfl, if_neg hA, if_neg h58, h80, eji]; rfl, by rw [aCell, h9, h16, ejk, Bool.and_self, if_pos rfl, if_neg hA, if_neg h58, h80]; exact mSet_s S 0 (nI 0), (mEqX.set S (nI 0) (by decide))⟩
            · refine r_aload_n G dX1_cell_83 rfl ?_
              refine r_iconst G (v := nI 3) dX1_cell_84 (by decide) ?_
              refine m_callV G [.int (nI 3)] (mM_lost hE hD (S := (mSet S 0 (nI 0))) (nI 3)) (lw_V q1498 q1500 qs67 q74 q1501) fy_yX1_lost rfl rfl ⟨Nat.le_of_ble_eq_true rfl, Nat.le_of_ble_eq_true rfl⟩ rfl (Nat.le_of_ble_eq_true rfl) rfl rfl ⟨Nat.zero_le _, Nat.zero_le _⟩ dX1_cell_85 (fun v85 S85 hp85 => ?_)
              obtain ⟨rfl, rfl⟩ := hp85
              show K (mH g o ad (mSet (mSet S 0 (nI 0)) 0 (nI 3))) 0 0 88 [some (.ref o), some (.int (nI jk)), some (.int i), some (.int s)] [.long (-9223372036854775808)]
              exact r_lret G rfl ⟨Nat.zero_le _, Nat.zero_le _⟩ dX1_cell_88 ⟨_, rfl, by rw [aCell, h9, h16, ejk, Bool.and_self, if_pos rfl, if_neg hA, if_neg h58, h80]; rfl, by rw [aCell, h9, h16, ejk, Bool.and_self, if_pos rfl, if_neg hA, if_neg h58, h80]; exact mSet_s _ 0 _, (mEqX.set S (nI 0) (by decide)).tr (mEqX.set _ _ (by decide))⟩
          · refine r_aload_n G dX1_cell_61 rfl ?_
            refine r_iconst G (v := nI 1) dX1_cell_62 (by decide) ?_
            refine m_callV G [.int (nI 1)] (mM_lost hE hD (S := (mSet S 0 (nI 0))) (nI 1)) (lw_V q1498 q1500 qs67 q74 q1501) fy_yX1_lost rfl rfl ⟨Nat.le_of_ble_eq_true rfl, Nat.le_of_ble_eq_true rfl⟩ rfl (Nat.le_of_ble_eq_true rfl) rfl rfl ⟨Nat.zero_le _, Nat.zero_le _⟩ dX1_cell_63 (fun v63 S63 hp63 => ?_)
            obtain ⟨rfl, rfl⟩ := hp63
            show K (mH g o ad (mSet (mSet S 0 (nI 0)) 0 (nI 1))) 0 0 66 [some (.ref o), some (.int (nI jk)), some (.int i), some (.int s)] [.long (-9223372036854775808)]
            exact r_lret G rfl ⟨Nat.zero_le _, Nat.zero_le _⟩ dX1_cell_66 ⟨_, rfl, by rw [aCell, h9, h16, ejk, Bool.and_self, if_pos rfl, if_neg hA, if_pos h58], by rw [aCell, h9, h16, ejk, Bool.and_self, if_pos rfl, if_neg hA, if_pos h58]; exact mSet_s _ 0 _, (mEqX.set S (nI 0) (by decide)).tr (mEqX.set _ _ (by decide))⟩
        · refine r_aload_n G dX1_cell_44 rfl ?_
          refine r_iconst G (v := nI 2) dX1_cell_45 (by decide) ?_
          refine m_callV G [.int (nI 2)] (mM_lost hE hD (S := (mSet S 0 (nI 0))) (nI 2)) (lw_V q1498 q1500 qs67 q74 q1501) fy_yX1_lost rfl rfl ⟨Nat.le_of_ble_eq_true rfl, Nat.le_of_ble_eq_true rfl⟩ rfl (Nat.le_of_ble_eq_true rfl) rfl rfl ⟨Nat.zero_le _, Nat.zero_le _⟩ dX1_cell_46 (fun v46 S46 hp46 => ?_)
          obtain ⟨rfl, rfl⟩ := hp46
          show K (mH g o ad (mSet (mSet S 0 (nI 0)) 0 (nI 2))) 0 0 49 [some (.ref o), some (.int (nI jk)), some (.int i), some (.int s)] [.long (-9223372036854775808)]
          exact r_lret G rfl ⟨Nat.zero_le _, Nat.zero_le _⟩ dX1_cell_49 ⟨_, rfl, by rw [aCell, h9, h16, ejk, Bool.and_self, if_pos rfl, if_pos ⟨h31, h41⟩], by rw [aCell, h9, h16, ejk, Bool.and_self, if_pos rfl, if_pos ⟨h31, h41⟩]; exact mSet_s _ 0 _, (mEqX.set S (nI 0) (by decide)).tr (mEqX.set _ _ (by decide))⟩
    · refine r_ldc2 G q1478 dX1_cell_19 ?_
      exact r_lret G rfl ⟨Nat.zero_le _, Nat.zero_le _⟩ dX1_cell_22 ⟨_, rfl, by rw [aCell, (show (wi (nI jk) (nI 0) (nI 3) && wi s (nI 0) (nI 2)) = false from by rw [Bool.and_eq_false_iff]; first | exact Or.inl h9 | exact Or.inr h16)]; rfl, by rw [aCell, (show (wi (nI jk) (nI 0) (nI 3) && wi s (nI 0) (nI 2)) = false from by rw [Bool.and_eq_false_iff]; first | exact Or.inl h9 | exact Or.inr h16)]; exact mSet_s S 0 (nI 0), (mEqX.set S (nI 0) (by decide))⟩
set_option maxHeartbeats 4000000 in
theorem mM_tell {l : Launch} {g : fG} {A : Nat → Prop} {En : State → Prop} (hE : fEnv g A En) {o : Nat} {ad : Nat → Nat} (hD : mD A o ad) {S : mS} {n : Nat} {tw kd ld : Nat → Nat} (hV : mV S n tw kd ld) (p : Int32): mC l g A En o ad yX1_tell cX1_tell 3 (some .int) (fR 1) [.int p] S (fun v S' => v = some (.int (aTl n kd ld p)) ∧ S'.1 1 = tTl n kd (S.1 1) p ∧ mEqX [1] [] S S') := by
  refine fC.of (by decide) hE [some (.ref o), some (.int p), none] rfl rfl (fun K G => ?_)
  have G : fGood l g A En RX1 "tell" cX1_tell 3 (some .int) (fR 1) _ K := G
  have hn8 := hV.2.1
  refine r_aload_n G dX1_tell_0 rfl ?_
  refine r_iload_n G dX1_tell_1 rfl ?_
  refine m_callV G [.int p] (mM_isPost hE hD (S := S) n hV.1 p) (lw_V q1323 q1325 qs46 q74 q1326) fy_yX1_isPost rfl rfl ⟨Nat.le_of_ble_eq_true rfl, Nat.le_of_ble_eq_true rfl⟩ rfl (Nat.le_of_ble_eq_true rfl) rfl rfl ⟨Nat.zero_le _, Nat.zero_le _⟩ dX1_tell_2 (fun v2 S2 hp2 => ?_)
  obtain ⟨rfl, rfl⟩ := hp2
  show K (mH g o ad S) 0 0 5 [some (.ref o), some (.int p), none] [.int (bI (isP n p))]
  refine r_ifb_ne G 10  dX1_tell_5 (by decide) (fun h5 => ?_) (fun h5 => ?_)
  · obtain ⟨jp, hjp, rfl⟩ := isP_t (by omega) h5
    have ejp : ix (nI jp) = jp := ix_nI (by omega)
    refine r_aload_n G dX1_tell_10 rfl ?_
    refine m_geta G 9 (by decide) q1199 rfl dX1_tell_11 ?_
    refine r_iload_n G dX1_tell_14 rfl ?_
    refine m_ald G hD 9 (by decide) (by simp only [mN]; omega) (v := (nI (ld jp))) (hV.ld hjp) dX1_tell_15 ?_
    refine r_istore_n G (lo' := [some (.ref o), some (.int (nI jp)), some (.int (nI (ld jp)))]) dX1_tell_16 rfl rfl ?_
    refine r_aload_n G dX1_tell_17 rfl ?_
    refine m_geta G 8 (by decide) q1198 rfl dX1_tell_18 ?_
    refine r_iload_n G dX1_tell_21 rfl ?_
    refine m_ald G hD 8 (by decide) (by simp only [mN]; omega) (v := (nI (kd jp))) (hV.kd hjp) dX1_tell_22 ?_
    have hk3 : kd jp = 0 ∨ kd jp = 1 ∨ kd jp = 2 := by have := hV.k2 hjp; omega
    rcases hk3 with ek | ek | ek
    · rw [ek]
      refine r_lookup G (off := 67) 90 dX1_tell_23 (by decide) (by decide) (by decide) ?_
      refine r_aload_n G dX1_tell_90 rfl ?_
      refine r_iconst G (v := nI 1) dX1_tell_91 (by decide) ?_
      refine m_callV G [.int (nI 1)] (mM_begins hE hD (S := S) (nI 1)) (lw_V q1510 q1512 qs68 q74 q1513) fy_yX1_begins rfl rfl ⟨Nat.le_of_ble_eq_true rfl, Nat.le_of_ble_eq_true rfl⟩ rfl (Nat.le_of_ble_eq_true rfl) rfl rfl ⟨Nat.zero_le _, Nat.zero_le _⟩ dX1_tell_92 (fun v92 S92 hp92 => ?_)
      obtain ⟨rfl, rfl⟩ := hp92
      show K (mH g o ad (mSet S 1 (nI 31 * S.1 1 + (nI 1)))) 0 0 95 [some (.ref o), some (.int (nI jp)), some (.int (nI (ld jp)))] []
      refine r_iload_n G dX1_tell_95 rfl ?_
      exact r_iret G rfl ⟨Nat.zero_le _, Nat.zero_le _⟩ dX1_tell_96 ⟨_, rfl, by rw [aTl, h5, ejp, ek]; rfl, by rw [tTl, h5, ejp, ek]; rfl, mEqX.set _ _ (by decide)⟩
    · rw [ek]
      refine r_lookup G (off := 25) 48 dX1_tell_23 (by decide) (by decide) (by decide) ?_
      refine r_aload_n G dX1_tell_48 rfl ?_
      refine r_iconst G (v := nI 2) dX1_tell_49 (by decide) ?_
      refine m_callV G [.int (nI 2)] (mM_begins hE hD (S := S) (nI 2)) (lw_V q1510 q1512 qs68 q74 q1513) fy_yX1_begins rfl rfl ⟨Nat.le_of_ble_eq_true rfl, Nat.le_of_ble_eq_true rfl⟩ rfl (Nat.le_of_ble_eq_true rfl) rfl rfl ⟨Nat.zero_le _, Nat.zero_le _⟩ dX1_tell_50 (fun v50 S50 hp50 => ?_)
      obtain ⟨rfl, rfl⟩ := hp50
      show K (mH g o ad (mSet S 1 (nI 31 * S.1 1 + (nI 2)))) 0 0 53 [some (.ref o), some (.int (nI jp)), some (.int (nI (ld jp)))] []
      refine r_aload_n G dX1_tell_53 rfl ?_
      refine r_iconst G (v := nI 1) dX1_tell_54 (by decide) ?_
      refine m_callV G [.int (nI 1)] (mM_begins hE hD (S := (mSet S 1 (nI 31 * S.1 1 + (nI 2)))) (nI 1)) (lw_V q1510 q1512 qs68 q74 q1513) fy_yX1_begins rfl rfl ⟨Nat.le_of_ble_eq_true rfl, Nat.le_of_ble_eq_true rfl⟩ rfl (Nat.le_of_ble_eq_true rfl) rfl rfl ⟨Nat.zero_le _, Nat.zero_le _⟩ dX1_tell_55 (fun v55 S55 hp55 => ?_)
      obtain ⟨rfl, rfl⟩ := hp55
      show K (mH g o ad (mSet (mSet S 1 (nI 31 * S.1 1 + (nI 2))) 1 (nI 31 * (mSet S 1 (nI 31 * S.1 1 + (nI 2))).1 1 + (nI 1)))) 0 0 58 [some (.ref o), some (.int (nI jp)), some (.int (nI (ld jp)))] []
      refine r_iload_n G dX1_tell_58 rfl ?_
      refine r_bipush G (v := nI 100) dX1_tell_59 (by decide) ?_
      refine r_iadd G (v := (nI ((ld jp) + 100))) dX1_tell_61 (nI_add (ld jp) 100) ?_
      exact r_iret G rfl ⟨Nat.zero_le _, Nat.zero_le _⟩ dX1_tell_62 ⟨_, rfl, by rw [aTl, h5, ejp, ek]; rfl, by rw [tTl, h5, ejp, ek]; rfl, (mEqX.set _ _ (by decide)).tr (mEqX.set _ _ (by decide))⟩
    · rw [ek]
      refine r_lookup G (off := 40) 63 dX1_tell_23 (by decide) (by decide) (by decide) ?_
      refine r_aload_n G dX1_tell_63 rfl ?_
      refine r_iconst G (v := nI 3) dX1_tell_64 (by decide) ?_
      refine m_callV G [.int (nI 3)] (mM_begins hE hD (S := S) (nI 3)) (lw_V q1510 q1512 qs68 q74 q1513) fy_yX1_begins rfl rfl ⟨Nat.le_of_ble_eq_true rfl, Nat.le_of_ble_eq_true rfl⟩ rfl (Nat.le_of_ble_eq_true rfl) rfl rfl ⟨Nat.zero_le _, Nat.zero_le _⟩ dX1_tell_65 (fun v65 S65 hp65 => ?_)
      obtain ⟨rfl, rfl⟩ := hp65
      show K (mH g o ad (mSet S 1 (nI 31 * S.1 1 + (nI 3)))) 0 0 68 [some (.ref o), some (.int (nI jp)), some (.int (nI (ld jp)))] []
      refine r_aload_n G dX1_tell_68 rfl ?_
      refine r_iconst G (v := nI 2) dX1_tell_69 (by decide) ?_
      refine m_callV G [.int (nI 2)] (mM_begins hE hD (S := (mSet S 1 (nI 31 * S.1 1 + (nI 3)))) (nI 2)) (lw_V q1510 q1512 qs68 q74 q1513) fy_yX1_begins rfl rfl ⟨Nat.le_of_ble_eq_true rfl, Nat.le_of_ble_eq_true rfl⟩ rfl (Nat.le_of_ble_eq_true rfl) rfl rfl ⟨Nat.zero_le _, Nat.zero_le _⟩ dX1_tell_70 (fun v70 S70 hp70 => ?_)
      obtain ⟨rfl, rfl⟩ := hp70
      show K (mH g o ad (mSet (mSet S 1 (nI 31 * S.1 1 + (nI 3))) 1 (nI 31 * (mSet S 1 (nI 31 * S.1 1 + (nI 3))).1 1 + (nI 2)))) 0 0 73 [some (.ref o), some (.int (nI jp)), some (.int (nI (ld jp)))] []
      refine r_aload_n G dX1_tell_73 rfl ?_
      refine r_iconst G (v := nI 1) dX1_tell_74 (by decide) ?_
      refine m_callV G [.int (nI 1)] (mM_begins hE hD (S := (mSet (mSet S 1 (nI 31 * S.1 1 + (nI 3))) 1 (nI 31 * (mSet S 1 (nI 31 * S.1 1 + (nI 3))).1 1 + (nI 2)))) (nI 1)) (lw_V q1510 q1512 qs68 q74 q1513) fy_yX1_begins rfl rfl ⟨Nat.le_of_ble_eq_true rfl, Nat.le_of_ble_eq_true rfl⟩ rfl (Nat.le_of_ble_eq_true rfl) rfl rfl ⟨Nat.zero_le _, Nat.zero_le _⟩ dX1_tell_75 (fun v75 S75 hp75 => ?_)
      obtain ⟨rfl, rfl⟩ := hp75
      show K (mH g o ad (mSet (mSet (mSet S 1 (nI 31 * S.1 1 + (nI 3))) 1 (nI 31 * (mSet S 1 (nI 31 * S.1 1 + (nI 3))).1 1 + (nI 2))) 1 (nI 31 * (mSet (mSet S 1 (nI 31 * S.1 1 + (nI 3))) 1 (nI 31 * (mSet S 1 (nI 31 * S.1 1 + (nI 3))).1 1 + (nI 2))).1 1 + (nI 1)))) 0 0 78 [some (.ref o), some (.int (nI jp)), some (.int (nI (ld jp)))] []
      refine r_aload_n G dX1_tell_78 rfl ?_
      refine r_iconst G (v := nI 1) dX1_tell_79 (by decide) ?_
      refine m_callV G [.int (nI 1)] (mM_begins hE hD (S := (mSet (mSet (mSet S 1 (nI 31 * S.1 1 + (nI 3))) 1 (nI 31 * (mSet S 1 (nI 31 * S.1 1 + (nI 3))).1 1 + (nI 2))) 1 (nI 31 * (mSet (mSet S 1 (nI 31 * S.1 1 + (nI 3))) 1 (nI 31 * (mSet S 1 (nI 31 * S.1 1 + (nI 3))).1 1 + (nI 2))).1 1 + (nI 1)))) (nI 1)) (lw_V q1510 q1512 qs68 q74 q1513) fy_yX1_begins rfl rfl ⟨Nat.le_of_ble_eq_true rfl, Nat.le_of_ble_eq_true rfl⟩ rfl (Nat.le_of_ble_eq_true rfl) rfl rfl ⟨Nat.zero_le _, Nat.zero_le _⟩ dX1_tell_80 (fun v80 S80 hp80 => ?_)
      obtain ⟨rfl, rfl⟩ := hp80
      show K (mH g o ad (mSet (mSet (mSet (mSet S 1 (nI 31 * S.1 1 + (nI 3))) 1 (nI 31 * (mSet S 1 (nI 31 * S.1 1 + (nI 3))).1 1 + (nI 2))) 1 (nI 31 * (mSet (mSet S 1 (nI 31 * S.1 1 + (nI 3))) 1 (nI 31 * (mSet S 1 (nI 31 * S.1 1 + (nI 3))).1 1 + (nI 2))).1 1 + (nI 1))) 1 (nI 31 * (mSet (mSet (mSet S 1 (nI 31 * S.1 1 + (nI 3))) 1 (nI 31 * (mSet S 1 (nI 31 * S.1 1 + (nI 3))).1 1 + (nI 2))) 1 (nI 31 * (mSet (mSet S 1 (nI 31 * S.1 1 + (nI 3))) 1 (nI 31 * (mSet S 1 (nI 31 * S.1 1 + (nI 3))).1 1 + (nI 2))).1 1 + (nI 1))).1 1 + (nI 1)))) 0 0 83 [some (.ref o), some (.int (nI jp)), some (.int (nI (ld jp)))] []
      refine r_iconst G (v := nI 2) dX1_tell_83 (by decide) ?_
      refine r_iload_n G dX1_tell_84 rfl ?_
      refine r_imul G (v := (nI (2 * (ld jp)))) dX1_tell_85 (pk_mul 2 (ld jp)) ?_
      refine r_bipush G (v := nI 100) dX1_tell_86 (by decide) ?_
      refine r_iadd G (v := (nI ((2 * (ld jp)) + 100))) dX1_tell_88 (nI_add (2 * (ld jp)) 100) ?_
      exact r_iret G rfl ⟨Nat.zero_le _, Nat.zero_le _⟩ dX1_tell_89 ⟨_, rfl, by rw [aTl, h5, ejp, ek]; rfl, by rw [tTl, h5, ejp, ek]; rfl, (mEqX.set _ _ (by decide)).tr ((mEqX.set _ _ (by decide)).tr ((mEqX.set _ _ (by decide)).tr (mEqX.set _ _ (by decide))))⟩
  · refine r_iconst G (v := -1) dX1_tell_8 (by decide) ?_
    exact r_iret G rfl ⟨Nat.zero_le _, Nat.zero_le _⟩ dX1_tell_9 ⟨_, rfl, by rw [aTl, h5]; rfl, by rw [tTl, h5]; rfl, mEqX.rf _ _ _⟩
set_option maxHeartbeats 4000000 in
theorem mM_knock {l : Launch} {g : fG} {A : Nat → Prop} {En : State → Prop} (hE : fEnv g A En) {o : Nat} {ad : Nat → Nat} (hD : mD A o ad) {S : mS} {n : Nat} {tw kd ld : Nat → Nat} (hV : mV S n tw kd ld) (p : Int32): mC l g A En o ad yX1_knock cX1_knock 2 (some .int) (fR 1) [.int p] S (fun v S' => v = some (.int (aKn n tw kd p)) ∧ S'.1 1 = tKn n kd (S.1 1) p ∧ mEqX [1] [] S S') := by
  refine fC.of (by decide) hE [some (.ref o), some (.int p)] rfl rfl (fun K G => ?_)
  have G : fGood l g A En RX1 "knock" cX1_knock 2 (some .int) (fR 1) _ K := G
  have hn8 := hV.2.1
  refine r_aload_n G dX1_knock_0 rfl ?_
  refine r_iload_n G dX1_knock_1 rfl ?_
  refine m_callV G [.int p] (mM_isPost hE hD (S := S) n hV.1 p) (lw_V q1323 q1325 qs46 q74 q1326) fy_yX1_isPost rfl rfl ⟨Nat.le_of_ble_eq_true rfl, Nat.le_of_ble_eq_true rfl⟩ rfl (Nat.le_of_ble_eq_true rfl) rfl rfl ⟨Nat.zero_le _, Nat.zero_le _⟩ dX1_knock_2 (fun v2 S2 hp2 => ?_)
  obtain ⟨rfl, rfl⟩ := hp2
  show K (mH g o ad S) 0 0 5 [some (.ref o), some (.int p)] [.int (bI (isP n p))]
  refine r_ifb_ne G 10  dX1_knock_5 (by decide) (fun h5 => ?_) (fun h5 => ?_)
  · obtain ⟨jp, hjp, rfl⟩ := isP_t (by omega) h5
    have ejp : ix (nI jp) = jp := ix_nI (by omega)
    refine r_aload_n G dX1_knock_10 rfl ?_
    refine r_aload_n G dX1_knock_11 rfl ?_
    refine m_geta G 8 (by decide) q1198 rfl dX1_knock_12 ?_
    refine r_iload_n G dX1_knock_15 rfl ?_
    refine m_ald G hD 8 (by decide) (by simp only [mN]; omega) (v := (nI (kd jp))) (hV.kd hjp) dX1_knock_16 ?_
    refine r_iconst G (v := nI 2) dX1_knock_17 (by decide) ?_
    refine r_icmp_ne G 25 (nI_eq (by have := hV.k2 hjp; omega) (by decide)) dX1_knock_18 (by decide) (fun h18 => ?_) (fun h18 => ?_)
    · refine r_iconst G (v := nI 4) dX1_knock_25 (by decide) ?_
      refine m_callV G [.int (nI 4)] (mM_begins hE hD (S := S) (nI 4)) (lw_V q1510 q1512 qs68 q74 q1513) fy_yX1_begins rfl rfl ⟨Nat.le_of_ble_eq_true rfl, Nat.le_of_ble_eq_true rfl⟩ rfl (Nat.le_of_ble_eq_true rfl) rfl rfl ⟨Nat.zero_le _, Nat.zero_le _⟩ dX1_knock_26 (fun v26 S26 hp26 => ?_)
      obtain ⟨rfl, rfl⟩ := hp26
      show K (mH g o ad (mSet S 1 (nI 31 * S.1 1 + (nI 4)))) 0 0 29 [some (.ref o), some (.int (nI jp))] []
      refine r_aload_n G dX1_knock_29 rfl ?_
      refine m_geta G 8 (by decide) q1198 rfl dX1_knock_30 ?_
      refine r_iload_n G dX1_knock_33 rfl ?_
      refine m_ald G hD 8 (by decide) (by simp only [mN]; omega) (v := (nI (kd jp))) (hV.kd hjp) dX1_knock_34 ?_
      refine r_iconst G (v := nI 2) dX1_knock_35 (by decide) ?_
      refine r_icmp_ne G 44 (nI_eq (by have := hV.k2 hjp; omega) (by decide)) dX1_knock_36 (by decide) (fun h36 => ?_) (fun h36 => ?_)
      · refine r_aload_n G dX1_knock_44 rfl ?_
        refine m_geta G 7 (by decide) q1197 rfl dX1_knock_45 ?_
        refine r_iload_n G dX1_knock_48 rfl ?_
        refine m_ald G hD 7 (by decide) (by simp only [mN]; omega) (v := (nI (tw jp))) (hV.tw hjp) dX1_knock_49 ?_
        refine s_callS G [.int (nI (tw jp))] (sM_size hE (tw jp) (hV.t8 hjp)) (lw_S q1331 q1332 q74 q1333) fy_yX1_size rfl ⟨Nat.le_of_ble_eq_true rfl, Nat.le_of_ble_eq_true rfl⟩ rfl (Nat.le_of_ble_eq_true rfl) rfl rfl ⟨Nat.zero_le _, Nat.zero_le _⟩ dX1_knock_50 ?_
        exact r_iret G rfl ⟨Nat.zero_le _, Nat.zero_le _⟩ dX1_knock_53 ⟨_, rfl, by rw [aKn, h5, ejp, if_pos rfl]; first | rw [if_pos h36] | rw [if_neg h36] | exact absurd h18 h36 | exact absurd h36 h18, by rw [tKn, h5, ejp, if_pos rfl]; first | (rw [if_pos h36]; first | rfl | exact absurd h36 h18) | (rw [if_neg h36]; first | rfl | exact absurd h18 h36), mEqX.set _ _ (by decide)⟩
      · refine r_bipush G (v := nI 80) dX1_knock_39 (by decide) ?_
        refine r_goto G 53 dX1_knock_41 (by decide) ?_
        exact r_iret G rfl ⟨Nat.zero_le _, Nat.zero_le _⟩ dX1_knock_53 ⟨_, rfl, by rw [aKn, h5, ejp, if_pos rfl]; first | rw [if_pos h36] | rw [if_neg h36] | exact absurd h18 h36 | exact absurd h36 h18, by rw [tKn, h5, ejp, if_pos rfl]; first | (rw [if_pos h36]; first | rfl | exact absurd h36 h18) | (rw [if_neg h36]; first | rfl | exact absurd h18 h36), mEqX.set _ _ (by decide)⟩
    · refine r_iconst G (v := nI 5) dX1_knock_21 (by decide) ?_
      refine r_goto G 26 dX1_knock_22 (by decide) ?_
      refine m_callV G [.int (nI 5)] (mM_begins hE hD (S := S) (nI 5)) (lw_V q1510 q1512 qs68 q74 q1513) fy_yX1_begins rfl rfl ⟨Nat.le_of_ble_eq_true rfl, Nat.le_of_ble_eq_true rfl⟩ rfl (Nat.le_of_ble_eq_true rfl) rfl rfl ⟨Nat.zero_le _, Nat.zero_le _⟩ dX1_knock_26 (fun v26 S26 hp26 => ?_)
      obtain ⟨rfl, rfl⟩ := hp26
      show K (mH g o ad (mSet S 1 (nI 31 * S.1 1 + (nI 5)))) 0 0 29 [some (.ref o), some (.int (nI jp))] []
      refine r_aload_n G dX1_knock_29 rfl ?_
      refine m_geta G 8 (by decide) q1198 rfl dX1_knock_30 ?_
      refine r_iload_n G dX1_knock_33 rfl ?_
      refine m_ald G hD 8 (by decide) (by simp only [mN]; omega) (v := (nI (kd jp))) (hV.kd hjp) dX1_knock_34 ?_
      refine r_iconst G (v := nI 2) dX1_knock_35 (by decide) ?_
      refine r_icmp_ne G 44 (nI_eq (by have := hV.k2 hjp; omega) (by decide)) dX1_knock_36 (by decide) (fun h36 => ?_) (fun h36 => ?_)
      · refine r_aload_n G dX1_knock_44 rfl ?_
        refine m_geta G 7 (by decide) q1197 rfl dX1_knock_45 ?_
        refine r_iload_n G dX1_knock_48 rfl ?_
        refine m_ald G hD 7 (by decide) (by simp only [mN]; omega) (v := (nI (tw jp))) (hV.tw hjp) dX1_knock_49 ?_
        refine s_callS G [.int (nI (tw jp))] (sM_size hE (tw jp) (hV.t8 hjp)) (lw_S q1331 q1332 q74 q1333) fy_yX1_size rfl ⟨Nat.le_of_ble_eq_true rfl, Nat.le_of_ble_eq_true rfl⟩ rfl (Nat.le_of_ble_eq_true rfl) rfl rfl ⟨Nat.zero_le _, Nat.zero_le _⟩ dX1_knock_50 ?_
        exact r_iret G rfl ⟨Nat.zero_le _, Nat.zero_le _⟩ dX1_knock_53 ⟨_, rfl, by rw [aKn, h5, ejp, if_pos rfl]; first | rw [if_pos h36] | rw [if_neg h36] | exact absurd h18 h36 | exact absurd h36 h18, by rw [tKn, h5, ejp, if_pos rfl]; first | (rw [if_pos h36]; first | rfl | exact absurd h36 h18) | (rw [if_neg h36]; first | rfl | exact absurd h18 h36), mEqX.set _ _ (by decide)⟩
      · refine r_bipush G (v := nI 80) dX1_knock_39 (by decide) ?_
        refine r_goto G 53 dX1_knock_41 (by decide) ?_
        exact r_iret G rfl ⟨Nat.zero_le _, Nat.zero_le _⟩ dX1_knock_53 ⟨_, rfl, by rw [aKn, h5, ejp, if_pos rfl]; first | rw [if_pos h36] | rw [if_neg h36] | exact absurd h18 h36 | exact absurd h36 h18, by rw [tKn, h5, ejp, if_pos rfl]; first | (rw [if_pos h36]; first | rfl | exact absurd h36 h18) | (rw [if_neg h36]; first | rfl | exact absurd h18 h36), mEqX.set _ _ (by decide)⟩
  · refine r_iconst G (v := -1) dX1_knock_8 (by decide) ?_
    exact r_iret G rfl ⟨Nat.zero_le _, Nat.zero_le _⟩ dX1_knock_9 ⟨_, rfl, by rw [aKn, h5]; rfl, by rw [tKn, h5]; rfl, mEqX.rf _ _ _⟩
set_option maxHeartbeats 4000000 in
theorem mM_as {l : Launch} {g : fG} {A : Nat → Prop} {En : State → Prop} (hE : fEnv g A En) {o : Nat} {ad : Nat → Nat} (hD : mD A o ad) {S : mS} {n : Nat} {tw kd ld : Nat → Nat} (hV : mV S n tw kd ld) (p s : Int32): mC l g A En o ad yX1_as cX1_as 3 (some .int) (fR 1) [.int p, .int s] S (fun v S' => v = some (.int (aAs n kd p s).1) ∧ S'.1 0 = (aAs n kd p s).2 ∧ mEqX [0] [] S S') := by
  refine fC.of (by decide) hE [some (.ref o), some (.int p), some (.int s)] rfl rfl (fun K G => ?_)
  have G : fGood l g A En RX1 "as" cX1_as 3 (some .int) (fR 1) _ K := G
  have hn8 := hV.2.1
  refine r_aload_n G dX1_as_0 rfl ?_
  refine r_iconst G (v := nI 0) dX1_as_1 (by decide) ?_
  refine m_puts G hD 0 (by decide) q1190 rfl rfl rfl dX1_as_2 ?_
  refine r_aload_n G dX1_as_5 rfl ?_
  refine r_iload_n G dX1_as_6 rfl ?_
  refine m_callV G [.int p] (mM_isPost hE hD (S := (mSet S 0 (nI 0))) n hV.1 p) (lw_V q1323 q1325 qs46 q74 q1326) fy_yX1_isPost rfl rfl ⟨Nat.le_of_ble_eq_true rfl, Nat.le_of_ble_eq_true rfl⟩ rfl (Nat.le_of_ble_eq_true rfl) rfl rfl ⟨Nat.zero_le _, Nat.zero_le _⟩ dX1_as_7 (fun v7 S7 hp7 => ?_)
  obtain ⟨rfl, rfl⟩ := hp7
  show K (mH g o ad (mSet S 0 (nI 0))) 0 0 10 [some (.ref o), some (.int p), some (.int s)] [.int (bI (isP n p))]
  refine r_ifb_ne G 15  dX1_as_10 (by decide) (fun h10 => ?_) (fun h10 => ?_)
  · obtain ⟨jp, hjp, rfl⟩ := isP_t (by omega) h10
    have ejp : ix (nI jp) = jp := ix_nI (by omega)
    refine r_iload_n G dX1_as_15 rfl ?_
    refine r_iconst G (v := nI 0) dX1_as_16 (by decide) ?_
    refine r_iconst G (v := nI 2) dX1_as_17 (by decide) ?_
    refine s_callS G [.int s, .int (nI 0), .int (nI 2)] (sM_within hE s (nI 0) (nI 2)) (lw_S q1279 q1280 q74 q1281) fy_yX1_within rfl ⟨Nat.le_of_ble_eq_true rfl, Nat.le_of_ble_eq_true rfl⟩ rfl (Nat.le_of_ble_eq_true rfl) rfl rfl ⟨Nat.zero_le _, Nat.zero_le _⟩ dX1_as_18 ?_
    refine r_ifb_ne G 27  dX1_as_21 (by decide) (fun h21 => ?_) (fun h21 => ?_)
    · obtain ⟨js, hjs0, hjs, rfl⟩ := wi_t (by decide) (by decide) h21
      have ejs : ix (nI js) = js := ix_nI (by omega)
      refine r_aload_n G dX1_as_27 rfl ?_
      refine m_geta G 8 (by decide) q1198 rfl dX1_as_28 ?_
      refine r_iload_n G dX1_as_31 rfl ?_
      refine m_ald G hD 8 (by decide) (by simp only [mN]; omega) (v := (nI (kd jp))) (hV.kd hjp) dX1_as_32 ?_
      refine r_iload_n G dX1_as_33 rfl ?_
      refine r_icmp_lt G 41 (nI_ltI (by have := hV.k2 hjp; omega) (by omega)) dX1_as_34 (by decide) (fun h34 => ?_) (fun h34 => ?_)
      · refine r_aload_n G dX1_as_41 rfl ?_
        refine r_iconst G (v := nI 2) dX1_as_42 (by decide) ?_
        refine m_callV G [.int (nI 2)] (mM_fails hE hD (S := (mSet S 0 (nI 0))) (nI 2)) (lw_V q1289 q1291 qs40 q74 q1292) fy_yX1_fails rfl rfl ⟨Nat.le_of_ble_eq_true rfl, Nat.le_of_ble_eq_true rfl⟩ rfl (Nat.le_of_ble_eq_true rfl) rfl rfl ⟨Nat.zero_le _, Nat.zero_le _⟩ dX1_as_43 (fun v43 S43 hp43 => ?_)
        obtain ⟨rfl, rfl⟩ := hp43
        show K (mH g o ad (mSet (mSet S 0 (nI 0)) 0 (nI 2))) 0 0 46 [some (.ref o), some (.int (nI jp)), some (.int (nI js))] [.int (-10 - (nI 2))]
        exact r_iret G rfl ⟨Nat.zero_le _, Nat.zero_le _⟩ dX1_as_46 ⟨_, rfl, by rw [aAs, h10, h21, ejp, ejs, if_pos rfl, if_pos rfl, if_neg (by omega)]; rfl, by rw [aAs, h10, h21, ejp, ejs, if_pos rfl, if_pos rfl, if_neg (by omega)]; exact mSet_s _ 0 _, (mEqX.set S (nI 0) (by decide)).tr (mEqX.set _ _ (by decide))⟩
      · refine r_iconst G (v := nI 1) dX1_as_37 (by decide) ?_
        refine r_goto G 46 dX1_as_38 (by decide) ?_
        exact r_iret G rfl ⟨Nat.zero_le _, Nat.zero_le _⟩ dX1_as_46 ⟨_, rfl, by rw [aAs, h10, h21, ejp, ejs, if_pos rfl, if_pos rfl, if_pos (by omega)]; rfl, by rw [aAs, h10, h21, ejp, ejs, if_pos rfl, if_pos rfl, if_pos (by omega)]; exact mSet_s S 0 (nI 0), (mEqX.set S (nI 0) (by decide))⟩
    · refine r_bipush G (v := -2) dX1_as_24 (by decide) ?_
      exact r_iret G rfl ⟨Nat.zero_le _, Nat.zero_le _⟩ dX1_as_26 ⟨_, rfl, by rw [aAs, h10, h21]; rfl, by rw [aAs, h10, h21]; exact mSet_s S 0 (nI 0), (mEqX.set S (nI 0) (by decide))⟩
  · refine r_iconst G (v := -1) dX1_as_13 (by decide) ?_
    exact r_iret G rfl ⟨Nat.zero_le _, Nat.zero_le _⟩ dX1_as_14 ⟨_, rfl, by rw [aAs, h10]; rfl, by rw [aAs, h10]; exact mSet_s S 0 (nI 0), (mEqX.set S (nI 0) (by decide))⟩
set_option maxHeartbeats 4000000 in
theorem mM_trace {l : Launch} {g : fG} {A : Nat → Prop} {En : State → Prop} (hE : fEnv g A En) {o : Nat} {ad : Nat → Nat} (hD : mD A o ad) {S : mS}: mC l g A En o ad yX1_trace cX1_trace 1 (some .int) (fR 0) [] S (fun v S' => v = some (.int (S.1 1)) ∧ S = S') := by
  refine fC.of (by decide) hE [some (.ref o)] rfl rfl (fun K G => ?_)
  have G : fGood l g A En RX1 "trace" cX1_trace 1 (some .int) (fR 0) _ K := G
  refine r_aload_n G dX1_trace_0 rfl ?_
  refine m_gets G 1 (by decide) q1191 rfl (v := (S.1 1)) rfl dX1_trace_1 ?_
  exact r_iret G rfl ⟨Nat.zero_le _, Nat.zero_le _⟩ dX1_trace_4 ⟨_, rfl, rfl, rfl⟩
set_option maxHeartbeats 4000000 in
theorem mM_fault {l : Launch} {g : fG} {A : Nat → Prop} {En : State → Prop} (hE : fEnv g A En) {o : Nat} {ad : Nat → Nat} (hD : mD A o ad) {S : mS}: mC l g A En o ad yX1_fault cX1_fault 1 (some .int) (fR 0) [] S (fun v S' => v = some (.int (S.1 0)) ∧ S = S') := by
  refine fC.of (by decide) hE [some (.ref o)] rfl rfl (fun K G => ?_)
  have G : fGood l g A En RX1 "fault" cX1_fault 1 (some .int) (fR 0) _ K := G
  refine r_aload_n G dX1_fault_0 rfl ?_
  refine m_gets G 0 (by decide) q1190 rfl (v := (S.1 0)) rfl dX1_fault_1 ?_
  exact r_iret G rfl ⟨Nat.zero_le _, Nat.zero_le _⟩ dX1_fault_4 ⟨_, rfl, rfl, rfl⟩
theorem rd_new {S : mS} {n rn : Nat} {ra rt rw : Nat → Nat} (h : mRd S n rn ra rt rw) (h8 : rn < 8) {a b v : Nat} (ha : a < n) (hb : b < n) (hv : v ≤ 200) : mRd (mSet (mPut (mPut (mPut S 24 rn (nI a)) 25 rn (nI b)) 26 rn (nI v)) 23 (nI (rn + 1))) n (rn + 1) (fup ra rn a) (fup rt rn b) (fup rw rn v) := by
  refine ⟨mSet_s _ _ _, by omega, fun q hq => ?_⟩
  show upd (S.2 24) rn (nI a) q = _ ∧ _ ∧ upd (S.2 25) rn (nI b) q = _ ∧ _ ∧ upd (S.2 26) rn (nI v) q = _ ∧ _
  unfold fup
  by_cases e : q = rn
  · subst e
    rw [if_pos rfl, if_pos rfl, if_pos rfl, pk_us, pk_us, pk_us]
    exact ⟨rfl, ha, rfl, hb, rfl, hv⟩
  · rw [if_neg e, if_neg e, if_neg e, pk_un e, pk_un e, pk_un e]
    exact h.2.2 q (by omega)
set_option maxHeartbeats 4000000 in
theorem mM_reading {l : Launch} {g : fG} {A : Nat → Prop} {En : State → Prop} (hE : fEnv g A En) {o : Nat} {ad : Nat → Nat} (hD : mD A o ad) {S : mS} {n : Nat} {tw kd ld : Nat → Nat} (hV : mV S n tw kd ld) {rn : Nat} {ra rt rw : Nat → Nat} (hRd : mRd S n rn ra rt rw) (a b v : Int32): mC l g A En o ad yX1_reading cX1_reading 4 (some .int) (fR 1) [.int a, .int b, .int v] S (fun w S' => w = some (.int (aReading n rn a b v)) ∧ (if rdOk n rn a b v then (mEqX [23] [24, 25, 26] S S' ∧ mRd S' n (rn + 1) (fup ra rn (ix a)) (fup rt rn (ix b)) (fup rw rn (ix v))) else mEqX [] [] S S')) := by
  refine fC.of (by decide) hE [some (.ref o), some (.int a), some (.int b), some (.int v)] rfl rfl (fun K G => ?_)
  have G : fGood l g A En RX1 "reading" cX1_reading 4 (some .int) (fR 1) _ K := G
  have hn8 := hV.2.1
  have hr8 := hRd.2.1
  refine r_aload_n G dX1_reading_0 rfl ?_
  refine r_iload_n G dX1_reading_1 rfl ?_
  refine m_callV G [.int a] (mM_isPost hE hD (S := S) n hV.1 a) (lw_V q1323 q1325 qs46 q74 q1326) fy_yX1_isPost rfl rfl ⟨Nat.le_of_ble_eq_true rfl, Nat.le_of_ble_eq_true rfl⟩ rfl (Nat.le_of_ble_eq_true rfl) rfl rfl ⟨Nat.zero_le _, Nat.zero_le _⟩ dX1_reading_2 (fun v2 S2 hp2 => ?_)
  obtain ⟨rfl, rfl⟩ := hp2
  show K (mH g o ad S) 0 0 5 [some (.ref o), some (.int a), some (.int b), some (.int v)] [.int (bI (isP n a))]
  refine r_ifb_eq G 16  dX1_reading_5 (by decide) (fun h5 => ?_) (fun h5 => ?_)
  · refine r_iconst G (v := -1) dX1_reading_16 (by decide) ?_
    exact r_iret G rfl ⟨Nat.zero_le _, Nat.zero_le _⟩ dX1_reading_17 ⟨_, rfl, (by first | rw [aReading, h5, h13]; rfl | rw [aReading, h5]; rfl), (by first | (rw [rdOk, h5, h13]; exact mEqX.rf _ _ _) | (rw [rdOk, h5]; exact mEqX.rf _ _ _))⟩
  · obtain ⟨ja, hja, rfl⟩ := isP_t (by omega) h5
    have eja : ix (nI ja) = ja := ix_nI (by omega)
    refine r_aload_n G dX1_reading_8 rfl ?_
    refine r_iload_n G dX1_reading_9 rfl ?_
    refine m_callV G [.int b] (mM_isPost hE hD (S := S) n hV.1 b) (lw_V q1323 q1325 qs46 q74 q1326) fy_yX1_isPost rfl rfl ⟨Nat.le_of_ble_eq_true rfl, Nat.le_of_ble_eq_true rfl⟩ rfl (Nat.le_of_ble_eq_true rfl) rfl rfl ⟨Nat.zero_le _, Nat.zero_le _⟩ dX1_reading_10 (fun v10 S10 hp10 => ?_)
    obtain ⟨rfl, rfl⟩ := hp10
    show K (mH g o ad S) 0 0 13 [some (.ref o), some (.int (nI ja)), some (.int b), some (.int v)] [.int (bI (isP n b))]
    refine r_ifb_ne G 18  dX1_reading_13 (by decide) (fun h13 => ?_) (fun h13 => ?_)
    · obtain ⟨jb, hjb, rfl⟩ := isP_t (by omega) h13
      have ejb : ix (nI jb) = jb := ix_nI (by omega)
      refine r_iload_n G dX1_reading_18 rfl ?_
      refine r_iconst G (v := nI 0) dX1_reading_19 (by decide) ?_
      refine r_sipush G (v := nI 200) dX1_reading_20 (by decide) ?_
      refine s_callS G [.int v, .int (nI 0), .int (nI 200)] (sM_within hE v (nI 0) (nI 200)) (lw_S q1279 q1280 q74 q1281) fy_yX1_within rfl ⟨Nat.le_of_ble_eq_true rfl, Nat.le_of_ble_eq_true rfl⟩ rfl (Nat.le_of_ble_eq_true rfl) rfl rfl ⟨Nat.zero_le _, Nat.zero_le _⟩ dX1_reading_23 ?_
      refine r_ifb_ne G 32  dX1_reading_26 (by decide) (fun h26 => ?_) (fun h26 => ?_)
      · obtain ⟨jv, hjv0, hjv, rfl⟩ := wi_t (by decide) (by decide) h26
        have ejv : ix (nI jv) = jv := ix_nI (by omega)
        refine r_aload_n G dX1_reading_32 rfl ?_
        refine m_gets G 23 (by decide) q1213 rfl (v := (nI rn)) hRd.1 dX1_reading_33 ?_
        refine r_bipush G (v := nI 8) dX1_reading_36 (by decide) ?_
        refine r_icmp_ne G 44 (nI_eq (by omega) (by decide)) dX1_reading_38 (by decide) (fun h38 => ?_) (fun h38 => ?_)
        · refine r_aload_n G dX1_reading_44 rfl ?_
          refine m_geta G 24 (by decide) q1214 rfl dX1_reading_45 ?_
          refine r_aload_n G dX1_reading_48 rfl ?_
          refine m_gets G 23 (by decide) q1213 rfl (v := (nI rn)) hRd.1 dX1_reading_49 ?_
          refine r_iload_n G dX1_reading_52 rfl ?_
          refine m_ast G hD 24 (by decide) (by simp only [mN]; omega) dX1_reading_53 ?_
          refine r_aload_n G dX1_reading_54 rfl ?_
          refine m_geta G 25 (by decide) q1215 rfl dX1_reading_55 ?_
          refine r_aload_n G dX1_reading_58 rfl ?_
          refine m_gets G 23 (by decide) q1213 rfl (v := (nI rn)) hRd.1 dX1_reading_59 ?_
          refine r_iload_n G dX1_reading_62 rfl ?_
          refine m_ast G hD 25 (by decide) (by simp only [mN]; omega) dX1_reading_63 ?_
          refine r_aload_n G dX1_reading_64 rfl ?_
          refine m_geta G 26 (by decide) q1216 rfl dX1_reading_65 ?_
          refine r_aload_n G dX1_reading_68 rfl ?_
          refine m_gets G 23 (by decide) q1213 rfl (v := (nI rn)) hRd.1 dX1_reading_69 ?_
          refine r_iload_n G dX1_reading_72 rfl ?_
          refine m_ast G hD 26 (by decide) (by simp only [mN]; omega) dX1_reading_73 ?_
          refine r_aload_n G dX1_reading_74 rfl ?_
          refine r_dup G dX1_reading_75 rfl ?_
          refine m_gets G 23 (by decide) q1213 rfl (v := (nI rn)) hRd.1 dX1_reading_76 ?_
          refine r_iconst G (v := nI 1) dX1_reading_79 (by decide) ?_
          refine r_iadd G (v := (nI (rn + 1))) dX1_reading_80 (nI_add rn 1) ?_
          refine m_puts G hD 23 (by decide) q1213 rfl rfl rfl dX1_reading_81 ?_
          refine r_aload_n G dX1_reading_84 rfl ?_
          refine m_gets G 23 (by decide) q1213 rfl (v := (nI (rn + 1))) (mSet_s _ _ _) dX1_reading_85 ?_
          refine r_iconst G (v := nI 1) dX1_reading_88 (by decide) ?_
          refine r_isub G (v := (nI ((rn + 1) - 1))) dX1_reading_89 (pk_sub (by omega)) ?_
          exact r_iret G rfl ⟨Nat.zero_le _, Nat.zero_le _⟩ dX1_reading_90 ⟨_, rfl, by rw [aReading, h5, h13, h26, Bool.and_self, if_pos rfl, if_pos rfl, if_neg h38, Nat.add_sub_cancel], by rw [rdOk, h5, h13, h26, decide_eq_false h38, eja, ejb, ejv]; exact ⟨(mEqX.put _ _ _ (by decide)).tr ((mEqX.put _ _ _ (by decide)).tr ((mEqX.put _ _ _ (by decide)).tr (mEqX.set _ _ (by decide)))), rd_new hRd (by omega) hja hjb hjv⟩⟩
        · refine r_bipush G (v := -4) dX1_reading_41 (by decide) ?_
          exact r_iret G rfl ⟨Nat.zero_le _, Nat.zero_le _⟩ dX1_reading_43 ⟨_, rfl, by rw [aReading, h5, h13, h26, Bool.and_self, if_pos rfl, if_pos rfl, if_pos h38], by rw [rdOk, h5, h13, h26, decide_eq_true h38]; exact mEqX.rf _ _ _⟩
      · refine r_bipush G (v := -2) dX1_reading_29 (by decide) ?_
        exact r_iret G rfl ⟨Nat.zero_le _, Nat.zero_le _⟩ dX1_reading_31 ⟨_, rfl, by rw [aReading, h5, h13, h26]; rfl, by rw [rdOk, h5, h13, h26]; exact mEqX.rf _ _ _⟩
    · refine r_iconst G (v := -1) dX1_reading_16 (by decide) ?_
      exact r_iret G rfl ⟨Nat.zero_le _, Nat.zero_le _⟩ dX1_reading_17 ⟨_, rfl, (by first | rw [aReading, h5, h13]; rfl | rw [aReading, h5]; rfl), (by first | (rw [rdOk, h5, h13]; exact mEqX.rf _ _ _) | (rw [rdOk, h5]; exact mEqX.rf _ _ _))⟩
set_option maxHeartbeats 4000000 in
theorem mM_back {l : Launch} {g : fG} {A : Nat → Prop} {En : State → Prop} (hE : fEnv g A En) {o : Nat} {ad : Nat → Nat} (hD : mD A o ad) {S : mS} {n : Nat} {rn : Nat} {ra rt rw : Nat → Nat} (hRd : mRd S n rn ra rt rw) (k : Int32): mC l g A En o ad yX1_back cX1_back 2 (some .int) (fR 1) [.int k] S (fun v S' => v = some (.int (aBack rn k)) ∧ (if wi k (nI 0) (nI rn) then mEqX [23] [] S S' ∧ mRd S' n (rn - ix k) ra rt rw else mEqX [] [] S S' ∧ mRd S' n rn ra rt rw)) := by
  refine fC.of (by decide) hE [some (.ref o), some (.int k)] rfl rfl (fun K G => ?_)
  have G : fGood l g A En RX1 "back" cX1_back 2 (some .int) (fR 1) _ K := G
  have hr8 := hRd.2.1
  refine r_iload_n G dX1_back_0 rfl ?_
  refine r_iconst G (v := nI 0) dX1_back_1 (by decide) ?_
  refine r_aload_n G dX1_back_2 rfl ?_
  refine m_gets G 23 (by decide) q1213 rfl (v := (nI rn)) hRd.1 dX1_back_3 ?_
  refine s_callS G [.int k, .int (nI 0), .int (nI rn)] (sM_within hE k (nI 0) (nI rn)) (lw_S q1279 q1280 q74 q1281) fy_yX1_within rfl ⟨Nat.le_of_ble_eq_true rfl, Nat.le_of_ble_eq_true rfl⟩ rfl (Nat.le_of_ble_eq_true rfl) rfl rfl ⟨Nat.zero_le _, Nat.zero_le _⟩ dX1_back_6 ?_
  refine r_ifb_ne G 15  dX1_back_9 (by decide) (fun h9 => ?_) (fun h9 => ?_)
  · obtain ⟨jk, hjk0, hjk, rfl⟩ := wi_t (by decide) (by omega) h9
    have ejk : ix (nI jk) = jk := ix_nI (by omega)
    refine r_aload_n G dX1_back_15 rfl ?_
    refine r_dup G dX1_back_16 rfl ?_
    refine m_gets G 23 (by decide) q1213 rfl (v := (nI rn)) hRd.1 dX1_back_17 ?_
    refine r_iload_n G dX1_back_20 rfl ?_
    refine r_isub G (v := (nI (rn - jk))) dX1_back_21 (pk_sub (by omega)) ?_
    refine m_puts G hD 23 (by decide) q1213 rfl rfl rfl dX1_back_22 ?_
    refine r_aload_n G dX1_back_25 rfl ?_
    refine m_gets G 23 (by decide) q1213 rfl (v := (nI (rn - jk))) (mSet_s _ _ _) dX1_back_26 ?_
    exact r_iret G rfl ⟨Nat.zero_le _, Nat.zero_le _⟩ dX1_back_29 ⟨_, rfl, by rw [aBack, h9, ejk]; rfl, by rw [h9, ejk]; exact ⟨mEqX.set _ _ (by decide), mSet_s _ _ _, by omega, fun q hq => hRd.2.2 q (by omega)⟩⟩
  · refine r_bipush G (v := -2) dX1_back_12 (by decide) ?_
    exact r_iret G rfl ⟨Nat.zero_le _, Nat.zero_le _⟩ dX1_back_14 ⟨_, rfl, by rw [aBack, h9]; rfl, by rw [h9]; exact ⟨mEqX.rf _ _ _, hRd⟩⟩
end MM11
