/-! the reference: vine, copy -/
set_option maxRecDepth 100000
section MM13
theorem pF_some {c : Nat → Int32} {m : Nat} (h : decide (pF c m = none) = false) : ∃ f, pF c m = some f := by
  cases hf : pF c m with
  | none => rw [hf] at h; exact absurd h (by decide)
  | some f => exact ⟨f, rfl⟩
theorem rS_eqX (S : mS) (x r : Int32) (fr fk fl : Nat → Int32) : mEqX [] [] S (rS S x r fr fk fl) := by
  refine ⟨fun k _ h1 h2 => ?_, fun a ha _ => ?_⟩
  · show (if k = 10 then x else if k = 11 then r else S.1 k) = S.1 k
    rw [if_neg h1, if_neg h2]
  · show (if a = 12 then fr else if a = 13 then fk else if a = 14 then fl else S.2 a) = S.2 a
    rw [if_neg (fun z => by rw [z] at ha; exact absurd ha (by decide)), if_neg (fun z => by rw [z] at ha; exact absurd ha (by decide)), if_neg (fun z => by rw [z] at ha; exact absurd ha (by decide))]
theorem vine_mV {S1 : mS} {f8 f9 ft : Nat → Int32} {N : Nat} {rw kd ld : Nat → Nat} (h2 : 2 ≤ N) (h8 : N ≤ 8) (hr : ∀ q, q < N - 2 → rw q < N) (hkl : ∀ p, p < N → kd p ≤ 2 ∧ ld p ≤ 9) (e5 : S1.1 5 = nI N) (hft : ∀ p, p < 8 → ft p = nI (vin N rw p)) (hk : ∀ p, p < N → f8 p = nI (kd p)) (hl : ∀ p, p < N → f9 p = nI (ld p)) : mV (mSet (mSet (mArr (mArr (mArr S1 8 f8) 9 f9) 7 ft) 6 (nI 0)) 23 (nI 0)) N (vin N rw) kd ld := by
  obtain ⟨d, T⟩ := vin_tm h2 h8 hr
  refine ⟨e5, h8, fun p hp => ⟨hft p (by omega), T.lt hp, hk p hp, (hkl p hp).1, hl p hp, (hkl p hp).2⟩⟩
set_option maxHeartbeats 4000000 in
theorem mM_vine {l : Launch} {g : fG} {A : Nat → Prop} {En : State → Prop} (hE : fEnv g A En) {o : Nat} {ad : Nat → Nat} (hD : mD A o ad) {S : mS} {so sl : Nat → Nat} {sc : Nat → Nat → Int32} (hs : mSh S so sl sc) (a b c0 e : Int32): mC l g A En o ad yX1_vine cX1_vine 8 (some .int) (fR 4) [.int a, .int b, .int c0, .int e] S (fun v S' => v = some (.int (aVine so sl sc a b c0 e).1) ∧ S'.1 0 = (aVine so sl sc a b c0 e).2 ∧ (if vnOk so sl sc a b c0 e then (mV S' (pN fun j => sc (ix a) (ix c0 + j)) (vin (pN fun j => sc (ix a) (ix c0 + j)) (pRw fun j => sc (ix a) (ix c0 + j))) (pKd fun j => sc (ix a) (ix c0 + j)) (pLd fun j => sc (ix a) (ix c0 + j)) ∧ S'.1 6 = nI 0 ∧ S'.1 23 = nI 0 ∧ vOk (pN fun j => sc (ix a) (ix c0 + j)) (vin (pN fun j => sc (ix a) (ix c0 + j)) (pRw fun j => sc (ix a) (ix c0 + j)))) else mEqX [0] [] S S') ∧ mEqX [0, 5, 6, 23] [7, 8, 9] S S') := by
  refine fC.of (by decide) hE [some (.ref o), some (.int a), some (.int b), some (.int c0), some (.int e), none, none, none] rfl rfl (fun K G => ?_)
  have G : fGood l g A En RX1 "vine" cX1_vine 8 (some .int) (fR 4) _ K := G
  refine r_aload_n G dX1_vine_0 rfl ?_
  refine r_iconst G (v := nI 0) dX1_vine_1 (by decide) ?_
  refine m_puts G hD 0 (by decide) q1190 rfl rfl rfl dX1_vine_2 ?_
  refine r_iload_n G dX1_vine_5 rfl ?_
  refine s_callS G [.int a] (sM_isSheet hE a) (lw_S q1276 q1277 q74 q1278) fy_yX1_isSheet rfl ⟨Nat.le_of_ble_eq_true rfl, Nat.le_of_ble_eq_true rfl⟩ rfl (Nat.le_of_ble_eq_true rfl) rfl rfl ⟨Nat.zero_le _, Nat.zero_le _⟩ dX1_vine_6 ?_
  refine r_ifb_ne G 14  dX1_vine_9 (by decide) (fun h9 => ?_) (fun h9 => ?_)
  · obtain ⟨ks, hks0, hks, rfl⟩ := wi_t (by decide) (by decide) h9
    have eks : ix (nI ks) = ks := ix_nI (by omega)
    have hks4 : ks < 4 := by omega
    have hks3 := (hs _ hks4).2.1
    have hksl := (hs _ hks4).2.2.2.1
    have hk4 := hks4
    refine r_iload_n G dX1_vine_14 rfl ?_
    refine s_callS G [.int b] (sM_isSort hE b) (lw_S q1282 q1283 q74 q1284) fy_yX1_isSort rfl ⟨Nat.le_of_ble_eq_true rfl, Nat.le_of_ble_eq_true rfl⟩ rfl (Nat.le_of_ble_eq_true rfl) rfl rfl ⟨Nat.zero_le _, Nat.zero_le _⟩ dX1_vine_15 ?_
    refine r_ifb_ne G 24  dX1_vine_18 (by decide) (fun h18 => ?_) (fun h18 => ?_)
    · refine r_aload_n G dX1_vine_24 rfl ?_
      refine r_iload_n G dX1_vine_25 rfl ?_
      refine r_iload_n G dX1_vine_26 rfl ?_
      refine r_iload_n G dX1_vine_27 rfl ?_
      refine r_iload G dX1_vine_28 rfl ?_
      refine m_callV G [.int (nI ks), .int b, .int c0, .int e] (mM_against hE hD (S := (mSet S 0 (nI 0))) ks (by omega) (hs _ hk4).1 (hs _ hk4).2.2.1 (hs _ hk4).2.2.2.1 b c0 e) (lw_V q1285 q1287 qs39 q74 q1288) fy_yX1_against rfl rfl ⟨Nat.le_of_ble_eq_true rfl, Nat.le_of_ble_eq_true rfl⟩ rfl (Nat.le_of_ble_eq_true rfl) rfl rfl ⟨Nat.zero_le _, Nat.zero_le _⟩ dX1_vine_30 (fun v30 S30 hp30 => ?_)
      obtain ⟨rfl, rfl⟩ := hp30
      show K (mH g o ad (mSet S 0 (nI 0))) 0 0 33 [some (.ref o), some (.int (nI ks)), some (.int b), some (.int c0), some (.int e), none, none, none] [.int (nI (agn (soI (so ks)) (sl ks) b c0 e))]
      refine r_istore G (lo' := [some (.ref o), some (.int (nI ks)), some (.int b), some (.int c0), some (.int e), some (.int (nI (agn (soI (so ks)) (sl ks) b c0 e))), none, none]) dX1_vine_33 rfl rfl ?_
      refine r_iload G dX1_vine_35 rfl ?_
      refine r_if_eq G 47 (n_eq0 (Nat.lt_of_le_of_lt (agn_le _ _ _ _ _) (by decide))) dX1_vine_37 (by decide) (fun h37 => ?_) (fun h37 => ?_)
      · obtain ⟨-, -, i0, m, rfl, rfl, hi0, hm0⟩ := agn_0 (hs _ hk4).2.2.2.1 h37
        have ei0 : ix (nI i0) = i0 := ix_nI (by omega)
        have em : ix (nI m) = m := ix_nI (by omega)
        obtain ⟨first, hfi⟩ : ∃ first, first = 60 * ks + i0 := ⟨_, rfl⟩
        obtain ⟨c, hc⟩ : ∃ c : Nat → Int32, c = fun j => sc ks (i0 + j) := ⟨_, rfl⟩
        have hcc : ∀ j, j < m → S.2 4 (first + j) = c j := fun j hj => by rw [hc, hfi, Nat.add_assoc]; exact (hs _ hk4).2.2.2.2 (i0 + j) (by omega)
        refine r_bipush G (v := nI 60) dX1_vine_47 (by decide) ?_
        refine r_iload_n G dX1_vine_49 rfl ?_
        refine r_imul G (v := (nI (60 * ks))) dX1_vine_50 (pk_mul 60 ks) ?_
        refine r_iload_n G dX1_vine_51 rfl ?_
        refine r_iadd G (v := (nI first)) dX1_vine_52 ((nI_add _ _).trans (congrArg nI hfi.symm)) ?_
        refine r_istore G (lo' := [some (.ref o), some (.int (nI ks)), some (.int b), some (.int (nI i0)), some (.int (nI m)), some (.int (nI (agn (soI (so ks)) (sl ks) b (nI i0) (nI m)))), some (.int (nI first)), none]) dX1_vine_53 rfl rfl ?_
        refine r_aload_n G dX1_vine_55 rfl ?_
        refine r_iload G dX1_vine_56 rfl ?_
        refine m_puts G hD 10 (by decide) q1200 rfl rfl rfl dX1_vine_58 ?_
        rw [show mSet (mSet S 0 (nI 0)) 10 (nI first) = rS (mSet S 0 (nI 0)) (nI first) (S.1 11) (S.2 12) (S.2 13) (S.2 14) from by rw [← rS_10 (mSet S 0 (nI 0)) (S.1 10)]; exact congrArg (fun z => mSet z 10 (nI first)) (rS_0 (mSet S 0 (nI 0))).symm]
        refine r_aload_n G dX1_vine_61 rfl ?_
        refine r_iload G dX1_vine_62 rfl ?_
        refine r_iload G dX1_vine_64 rfl ?_
        refine r_iadd G (v := (nI (first + m))) dX1_vine_66 (nI_add first m) ?_
        refine m_callV G [.int (nI (first + m))] (mM_readVine hE hD (S := (mSet S 0 (nI 0))) first m hcc (by omega)) (lw_V q1293 q1295 qs41 q74 q1296) fy_yX1_readVine rfl rfl ⟨Nat.le_of_ble_eq_true rfl, Nat.le_of_ble_eq_true rfl⟩ rfl (Nat.le_of_ble_eq_true rfl) rfl rfl ⟨Nat.zero_le _, Nat.zero_le _⟩ dX1_vine_67 (fun v67 S67 hp67 => ?_)
        obtain ⟨rfl, x, r', gr, gk, gl, rfl, hx1, hx2⟩ := hp67
        show K (mH g o ad (rS (mSet S 0 (nI 0)) (nI x) r' gr gk gl)) 0 0 70 [some (.ref o), some (.int (nI ks)), some (.int b), some (.int (nI i0)), some (.int (nI m)), some (.int (nI (agn (soI (so ks)) (sl ks) b (nI i0) (nI m)))), some (.int (nI first)), none] [.int (bI (decide (pF c m = none)))]
        refine r_ifb_ne G 84  dX1_vine_70 (by decide) (fun h70 => ?_) (fun h70 => ?_)
        · have hpf : pF c m = none := of_decide_eq_true h70
          obtain ⟨rfl, hgr, hkl⟩ := hx2 hpf
          obtain ⟨hN2, hN8, hrw, hkld⟩ := pF_ok hpf
          refine r_aload_n G dX1_vine_84 rfl ?_
          refine r_aload_n G dX1_vine_85 rfl ?_
          refine m_gets G 11 (by decide) q1201 rfl (v := (nI (pN c))) rfl dX1_vine_86 ?_
          refine m_puts G hD 5 (by decide) q1195 rfl rfl rfl dX1_vine_89 ?_
          obtain ⟨S1, hS1⟩ : ∃ S1, S1 = mSet (rS (mSet S 0 (nI 0)) (nI x) (nI (pN c)) gr gk gl) 5 (nI (pN c)) := ⟨_, rfl⟩
          rw [← hS1]
          have e5 : S1.1 5 = nI (pN c) := by rw [hS1]; exact mSet_s _ _ _
          have e0 : S1.1 0 = nI 0 := by rw [hS1]; rfl
          have e12 : S1.2 12 = gr := by rw [hS1]; rfl
          have e13 : S1.2 13 = gk := by rw [hS1]; rfl
          have e14 : S1.2 14 = gl := by rw [hS1]; rfl
          have hX1 : mEqX [0, 5, 6, 23] [7, 8, 9] S S1 := by rw [hS1]; exact (mEqX.set S (nI 0) (by decide)).tr (((rS_eqX (mSet S 0 (nI 0)) _ _ _ _ _).up (by decide) (by decide)).tr (mEqX.set _ _ (by decide)))
          clear hS1
          refine r_iconst G (v := nI 0) dX1_vine_92 (by decide) ?_
          refine r_istore G (lo' := [some (.ref o), some (.int (nI ks)), some (.int b), some (.int (nI i0)), some (.int (nI m)), some (.int (nI (agn (soI (so ks)) (sl ks) b (nI i0) (nI m)))), some (.int (nI first)), some (.int (nI 0))]) dX1_vine_93 rfl rfl ?_
          have L95 : ∀ (fu : Nat) (p : Nat) (f8 f9 : Nat → Int32), (p ≤ pN c) → (∀ q, q < p → f8 q = nI (pKd c q)) → (∀ q, q < p → f9 q = nI (pLd c q)) → pN c - p < fu → K (mH g o ad (mArr (mArr S1 8 f8) 9 f9)) 0 0 95 [some (.ref o), some (.int (nI ks)), some (.int b), some (.int (nI i0)), some (.int (nI m)), some (.int (nI (agn (soI (so ks)) (sl ks) b (nI i0) (nI m)))), some (.int (nI first)), some (.int (nI p))] [] := by
            intro fu
            induction fu with
            | zero => intro p f8 f9 hp h8 h9' hm95; exact absurd hm95 (Nat.not_lt_zero _)
            | succ fu95 ih95 =>
              intro p f8 f9 hp h8 h9' hm95
              refine r_iload G dX1_vine_95 rfl ?_
              refine r_aload_n G dX1_vine_97 rfl ?_
              refine m_gets G 5 (by decide) q1195 rfl (v := (nI (pN c))) e5 dX1_vine_98 ?_
              refine r_icmp_ge G 138 (nI_leI (by omega) (by omega)) dX1_vine_101 (by decide) (fun h101 => ?_) (fun h101 => ?_)
              · refine r_aload_n G dX1_vine_138 rfl ?_
                refine m_callV G [] (mM_growVine hE hD (S := (mArr (mArr S1 8 f8) 9 f9)) (rw := pRw c) e5 hN2 hN8 (fun q hq => ⟨by rw [show (mArr (mArr S1 8 f8) 9 f9).2 12 = S1.2 12 from rfl, e12]; exact hgr q hq, hrw q hq⟩)) (lw_V q1305 q1307 qs44 q74 q1308) fy_yX1_growVine rfl rfl ⟨Nat.le_of_ble_eq_true rfl, Nat.le_of_ble_eq_true rfl⟩ rfl (Nat.le_of_ble_eq_true rfl) rfl rfl ⟨Nat.zero_le _, Nat.zero_le _⟩ dX1_vine_139 (fun v139 S139 hp139 => ?_)
                obtain ⟨rfl, ft, rfl, hft⟩ := hp139
                show K (mH g o ad (mArr (mArr (mArr S1 8 f8) 9 f9) 7 ft)) 0 0 142 [some (.ref o), some (.int (nI ks)), some (.int b), some (.int (nI i0)), some (.int (nI m)), some (.int (nI (agn (soI (so ks)) (sl ks) b (nI i0) (nI m)))), some (.int (nI first)), some (.int (nI p))] []
                refine r_aload_n G dX1_vine_142 rfl ?_
                refine r_iconst G (v := nI 0) dX1_vine_143 (by decide) ?_
                refine m_puts G hD 6 (by decide) q1196 rfl rfl rfl dX1_vine_144 ?_
                refine r_aload_n G dX1_vine_147 rfl ?_
                refine r_iconst G (v := nI 0) dX1_vine_148 (by decide) ?_
                refine m_puts G hD 23 (by decide) q1213 rfl rfl rfl dX1_vine_149 ?_
                refine r_aload_n G dX1_vine_152 rfl ?_
                refine m_gets G 5 (by decide) q1195 rfl (v := (nI (pN c))) e5 dX1_vine_153 ?_
                exact r_iret G rfl ⟨Nat.zero_le _, Nat.zero_le _⟩ dX1_vine_156 ⟨_, rfl, by rw [aVine, h9, h18, if_pos rfl, if_pos rfl, eks, if_pos h37, ei0, em, ← hc, hpf], by rw [aVine, h9, h18, if_pos rfl, if_pos rfl, eks, if_pos h37, ei0, em, ← hc, hpf]; exact e0, by rw [vnOk, h9, h18, eks, decide_eq_true h37, ei0, em, ← hc, hpf]; exact ⟨vine_mV hN2 hN8 hrw hkld e5 hft (fun q hq => h8 q (by omega)) (fun q hq => h9' q (by omega)), rfl, mSet_s _ _ _, fun _ => ⟨hN2, vin_tm hN2 hN8 hrw⟩⟩, hX1.tr ((mEqX.arr _ _ (by decide)).tr ((mEqX.arr _ _ (by decide)).tr ((mEqX.arr _ _ (by decide)).tr ((mEqX.set _ _ (by decide)).tr (mEqX.set _ _ (by decide))))))⟩
              · refine r_aload_n G dX1_vine_104 rfl ?_
                refine m_geta G 8 (by decide) q1198 rfl dX1_vine_105 ?_
                refine r_iload G dX1_vine_108 rfl ?_
                refine r_aload_n G dX1_vine_110 rfl ?_
                refine m_geta G 13 (by decide) q1203 rfl dX1_vine_111 ?_
                refine r_iload G dX1_vine_114 rfl ?_
                refine m_ald G hD 13 (by decide) (by simp only [mN]; omega) (v := (nI (pKd c p))) ((congrFun e13 _).trans (hkl p (by omega)).1) dX1_vine_116 ?_
                refine m_ast G hD 8 (by decide) (by simp only [mN]; omega) dX1_vine_117 ?_
                rw [mPut_a _ _ _ (by decide)]
                refine r_aload_n G dX1_vine_118 rfl ?_
                refine m_geta G 9 (by decide) q1199 rfl dX1_vine_119 ?_
                refine r_iload G dX1_vine_122 rfl ?_
                refine r_aload_n G dX1_vine_124 rfl ?_
                refine m_geta G 14 (by decide) q1204 rfl dX1_vine_125 ?_
                refine r_iload G dX1_vine_128 rfl ?_
                refine m_ald G hD 14 (by decide) (by simp only [mN]; omega) (v := (nI (pLd c p))) ((congrFun e14 _).trans (hkl p (by omega)).2) dX1_vine_130 ?_
                refine m_ast G hD 9 (by decide) (by simp only [mN]; omega) dX1_vine_131 ?_
                rw [mPut_arr]
                refine r_iinc G (v := (nI (p + 1))) (lo' := [some (.ref o), some (.int (nI ks)), some (.int b), some (.int (nI i0)), some (.int (nI m)), some (.int (nI (agn (soI (so ks)) (sl ks) b (nI i0) (nI m)))), some (.int (nI first)), some (.int (nI (p + 1)))]) dX1_vine_132 rfl (nI_add p 1) rfl rfl ?_
                refine r_goto G 95 dX1_vine_135 (by decide) ?_
                exact ih95 _ _ _ (by omega) (fun q hq => (Classical.em (q = p)).elim (fun e => by rw [e]; exact pk_us) (fun e => by rw [pk_un e]; exact h8 q (by omega))) (fun q hq => (Classical.em (q = p)).elim (fun e => by rw [e]; exact pk_us) (fun e => by rw [pk_un e]; exact h9' q (by omega))) (by omega)
          rw [show S1 = mArr (mArr S1 8 (S1.2 8)) 9 (S1.2 9) from (mArr_2 S1 8 9 (by decide)).symm]
          exact L95 (pN c + 1) 0 (S1.2 8) (S1.2 9) (Nat.zero_le _) (fun q h => absurd h (Nat.not_lt_zero _)) (fun q h => absurd h (Nat.not_lt_zero _)) (by omega)
        · obtain ⟨f, hf⟩ := pF_some h70
          have hf30 := pF_le hf
          obtain rfl := hx1 f hf
          refine r_bipush G (v := -100) dX1_vine_73 (by decide) ?_
          refine r_aload_n G dX1_vine_75 rfl ?_
          refine m_gets G 10 (by decide) q1200 rfl (v := (nI (first + f))) rfl dX1_vine_76 ?_
          refine r_iload G dX1_vine_79 rfl ?_
          refine r_isub G (v := (nI f)) dX1_vine_81 ((pk_sub (by omega)).trans (congrArg nI (by omega))) ?_
          refine r_isub G (v := ((-100) - (nI f))) dX1_vine_82 rfl ?_
          exact r_iret G rfl ⟨Nat.zero_le _, Nat.zero_le _⟩ dX1_vine_83 ⟨_, rfl, by rw [aVine, h9, h18, if_pos rfl, if_pos rfl, eks, if_pos h37, ei0, em, ← hc, hf], by rw [aVine, h9, h18, if_pos rfl, if_pos rfl, eks, if_pos h37, ei0, em, ← hc, hf]; rfl, by rw [vnOk, h9, h18, eks, decide_eq_true h37, ei0, em, ← hc, hf]; exact (mEqX.set S (nI 0) (by decide)).tr (rS_eqX _ _ _ _ _ _ |>.up (by decide) (by decide)), (mEqX.set S (nI 0) (by decide)).tr ((rS_eqX _ _ _ _ _ _).up (by decide) (by decide))⟩
      · refine r_aload_n G dX1_vine_40 rfl ?_
        refine r_iload G dX1_vine_41 rfl ?_
        refine m_callV G [.int (nI (agn (soI (so ks)) (sl ks) b c0 e))] (mM_fails hE hD (S := (mSet S 0 (nI 0))) (nI (agn (soI (so ks)) (sl ks) b c0 e))) (lw_V q1289 q1291 qs40 q74 q1292) fy_yX1_fails rfl rfl ⟨Nat.le_of_ble_eq_true rfl, Nat.le_of_ble_eq_true rfl⟩ rfl (Nat.le_of_ble_eq_true rfl) rfl rfl ⟨Nat.zero_le _, Nat.zero_le _⟩ dX1_vine_43 (fun v43 S43 hp43 => ?_)
        obtain ⟨rfl, rfl⟩ := hp43
        show K (mH g o ad (mSet (mSet S 0 (nI 0)) 0 (nI (agn (soI (so ks)) (sl ks) b c0 e)))) 0 0 46 [some (.ref o), some (.int (nI ks)), some (.int b), some (.int c0), some (.int e), some (.int (nI (agn (soI (so ks)) (sl ks) b c0 e))), none, none] [.int (-10 - (nI (agn (soI (so ks)) (sl ks) b c0 e)))]
        exact r_iret G rfl ⟨Nat.zero_le _, Nat.zero_le _⟩ dX1_vine_46 ⟨_, rfl, by rw [aVine, h9, h18, if_pos rfl, if_pos rfl, eks, if_neg h37], by rw [aVine, h9, h18, if_pos rfl, if_pos rfl, eks, if_neg h37]; exact mSet_s _ 0 _, by rw [vnOk, h9, h18, eks, decide_eq_false h37]; exact (mEqX.set S (nI 0) (by decide)).tr (mEqX.set _ _ (by decide)), (mEqX.set S (nI 0) (by decide)).tr (mEqX.set _ _ (by decide))⟩
    · refine r_bipush G (v := -2) dX1_vine_21 (by decide) ?_
      exact r_iret G rfl ⟨Nat.zero_le _, Nat.zero_le _⟩ dX1_vine_23 ⟨_, rfl, by rw [aVine, h9, h18]; rfl, by rw [aVine, h9, h18]; exact mSet_s S 0 (nI 0), by rw [vnOk, h9, h18]; exact (mEqX.set S (nI 0) (by decide)), mEqX.set S (nI 0) (by decide)⟩
  · refine r_iconst G (v := -1) dX1_vine_12 (by decide) ?_
    exact r_iret G rfl ⟨Nat.zero_le _, Nat.zero_le _⟩ dX1_vine_13 ⟨_, rfl, by rw [aVine, h9]; rfl, by rw [aVine, h9]; exact mSet_s S 0 (nI 0), by rw [vnOk, h9]; exact (mEqX.set S (nI 0) (by decide)), mEqX.set S (nI 0) (by decide)⟩
theorem cpf {a b : Nat} {i j n : Int32} (h : i < 0 ∨ j < 0 ∨ n < 0 ∨ nI a < i ∨ nI b < j ∨ nI a - i < n ∨ nI b - j < n) : cpOk a b i j n = false := by
  cases hc : cpOk a b i j n with
  | false => rfl
  | true =>
    unfold cpOk at hc
    simp only [Bool.and_eq_true, decide_eq_true_eq] at hc
    obtain ⟨⟨⟨⟨⟨⟨h1, h2⟩, h3⟩, h4⟩, h5⟩, h6⟩, h7⟩ := hc
    exfalso
    rcases h with h | h | h | h | h | h | h
    · exact Int32.not_lt.mpr h1 h
    · exact Int32.not_lt.mpr h2 h
    · exact Int32.not_lt.mpr h3 h
    · exact Int32.not_lt.mpr h4 h
    · exact Int32.not_lt.mpr h5 h
    · exact Int32.not_lt.mpr h6 h
    · exact Int32.not_lt.mpr h7 h
theorem cpt {a b x y z : Nat} (h1 : x + z ≤ a) (h2 : y + z ≤ b) (ha : a ≤ 60) (hb : b ≤ 60) : cpOk a b (nI x) (nI y) (nI z) = true := by
  unfold cpOk
  simp only [Bool.and_eq_true, decide_eq_true_eq]
  rw [pk_sub (by omega), pk_sub (by omega)]
  exact ⟨⟨⟨⟨⟨⟨nI_pos' (by omega), nI_pos' (by omega)⟩, nI_pos' (by omega)⟩, nI_le (by omega) (by omega)⟩, nI_le (by omega) (by omega)⟩, nI_le (by omega) (by omega)⟩, nI_le (by omega) (by omega)⟩
theorem sh_cpy {S : mS} {so sl : Nat → Nat} {sc : Nat → Nat → Int32} (hs : mSh S so sl sc) {k t i j n : Nat} {fa : Nat → Int32} (ht : t < 4) (hj : j + n ≤ 60) (hA : ∀ c, c < n → fa (60 * t + j + c) = sc k (i + c)) (hB : ∀ x, (∀ c, c < n → x ≠ 60 * t + j + c) → fa x = S.2 4 x) : mSh (mArr (mSet S 0 (nI 0)) 4 fa) so sl (scC sc k i t j n) := by
  intro x hx
  obtain ⟨a1, a2, a3, a4, a5⟩ := hs x hx
  refine ⟨a1, a2, a3, a4, fun q hq => ?_⟩
  show fa (60 * x + q) = scC sc k i t j n x q
  unfold scC
  by_cases e : x = t ∧ j ≤ q ∧ q < j + n
  · rw [if_pos e, show 60 * x + q = 60 * t + j + (q - j) by omega]
    exact hA (q - j) (by omega)
  · rw [if_neg e, hB _ (fun c hc z => e ⟨by omega, by omega, by omega⟩)]
    exact a5 q hq
set_option maxHeartbeats 4000000 in
theorem mM_copy {l : Launch} {g : fG} {A : Nat → Prop} {En : State → Prop} (hE : fEnv g A En) {o : Nat} {ad : Nat → Nat} (hD : mD A o ad) {S : mS} {so sl : Nat → Nat} {sc : Nat → Nat → Int32} (hs : mSh S so sl sc) (k i t j n : Int32): mC l g A En o ad yX1_copy cX1_copy 10 (some .int) (fR 2) [.int k, .int i, .int t, .int j, .int n] S (fun v S' => v = some (.int (aCopy so sl k i t j n).1) ∧ S'.1 0 = (aCopy so sl k i t j n).2 ∧ (if cyOk so sl k i t j n then mSh S' so sl (scC sc (ix k) (ix i) (ix t) (ix j) (ix n)) else mSh S' so sl sc) ∧ mEqX [0] [4] S S') := by
  refine fC.of (by decide) hE [some (.ref o), some (.int k), some (.int i), some (.int t), some (.int j), some (.int n), none, none, none, none] rfl rfl (fun K G => ?_)
  have G : fGood l g A En RX1 "copy" cX1_copy 10 (some .int) (fR 2) _ K := G
  refine r_aload_n G dX1_copy_0 rfl ?_
  refine r_iconst G (v := nI 0) dX1_copy_1 (by decide) ?_
  refine m_puts G hD 0 (by decide) q1190 rfl rfl rfl dX1_copy_2 ?_
  refine r_iload_n G dX1_copy_5 rfl ?_
  refine s_callS G [.int k] (sM_isSheet hE k) (lw_S q1276 q1277 q74 q1278) fy_yX1_isSheet rfl ⟨Nat.le_of_ble_eq_true rfl, Nat.le_of_ble_eq_true rfl⟩ rfl (Nat.le_of_ble_eq_true rfl) rfl rfl ⟨Nat.zero_le _, Nat.zero_le _⟩ dX1_copy_6 ?_
  refine r_ifb_eq G 19  dX1_copy_9 (by decide) (fun h9 => ?_) (fun h9 => ?_)
  · refine r_iconst G (v := -1) dX1_copy_19 (by decide) ?_
    exact r_iret G rfl ⟨Nat.zero_le _, Nat.zero_le _⟩ dX1_copy_20 ⟨_, rfl, by rw [aCopy, (show (wi k (nI 0) (nI 3) && wi t (nI 0) (nI 3)) = false from by rw [Bool.and_eq_false_iff]; first | exact Or.inl h9 | exact Or.inr h16)]; rfl, by rw [aCopy, (show (wi k (nI 0) (nI 3) && wi t (nI 0) (nI 3)) = false from by rw [Bool.and_eq_false_iff]; first | exact Or.inl h9 | exact Or.inr h16)]; exact mSet_s S 0 (nI 0), by rw [cyOk, (show (wi k (nI 0) (nI 3) && wi t (nI 0) (nI 3)) = false from by rw [Bool.and_eq_false_iff]; first | exact Or.inl h9 | exact Or.inr h16)]; exact hs, (mEqX.set S (nI 0) (by decide))⟩
  · obtain ⟨jk, hjk0, hjk, rfl⟩ := wi_t (by decide) (by decide) h9
    have ejk : ix (nI jk) = jk := ix_nI (by omega)
    have hjk4 : jk < 4 := by omega
    have hjk3 := (hs _ hjk4).2.1
    have hjkl := (hs _ hjk4).2.2.2.1
    refine r_iload_n G dX1_copy_12 rfl ?_
    refine s_callS G [.int t] (sM_isSheet hE t) (lw_S q1276 q1277 q74 q1278) fy_yX1_isSheet rfl ⟨Nat.le_of_ble_eq_true rfl, Nat.le_of_ble_eq_true rfl⟩ rfl (Nat.le_of_ble_eq_true rfl) rfl rfl ⟨Nat.zero_le _, Nat.zero_le _⟩ dX1_copy_13 ?_
    refine r_ifb_ne G 21  dX1_copy_16 (by decide) (fun h16 => ?_) (fun h16 => ?_)
    · obtain ⟨jt, hjt0, hjt, rfl⟩ := wi_t (by decide) (by decide) h16
      have ejt : ix (nI jt) = jt := ix_nI (by omega)
      have hjt4 : jt < 4 := by omega
      have hjt3 := (hs _ hjt4).2.1
      have hjtl := (hs _ hjt4).2.2.2.1
      refine r_aload_n G dX1_copy_21 rfl ?_
      refine m_geta G 2 (by decide) q1192 rfl dX1_copy_22 ?_
      refine r_iload_n G dX1_copy_25 rfl ?_
      refine m_ald G hD 2 (by decide) (by simp only [mN]; omega) (v := (soI (so jk))) (hs jk (by omega)).1 dX1_copy_26 ?_
      refine r_bipush G (v := -9) dX1_copy_27 (by decide) ?_
      refine r_icmp_eq G 43 (soI_3 hjk3) dX1_copy_29 (by decide) (fun h29 => ?_) (fun h29 => ?_)
      · refine r_aload_n G dX1_copy_43 rfl ?_
        refine r_iconst G (v := nI 1) dX1_copy_44 (by decide) ?_
        refine m_callV G [.int (nI 1)] (mM_fails hE hD (S := (mSet S 0 (nI 0))) (nI 1)) (lw_V q1289 q1291 qs40 q74 q1292) fy_yX1_fails rfl rfl ⟨Nat.le_of_ble_eq_true rfl, Nat.le_of_ble_eq_true rfl⟩ rfl (Nat.le_of_ble_eq_true rfl) rfl rfl ⟨Nat.zero_le _, Nat.zero_le _⟩ dX1_copy_45 (fun v45 S45 hp45 => ?_)
        obtain ⟨rfl, rfl⟩ := hp45
        show K (mH g o ad (mSet (mSet S 0 (nI 0)) 0 (nI 1))) 0 0 48 [some (.ref o), some (.int (nI jk)), some (.int i), some (.int (nI jt)), some (.int j), some (.int n), none, none, none, none] [.int (-10 - (nI 1))]
        exact r_iret G rfl ⟨Nat.zero_le _, Nat.zero_le _⟩ dX1_copy_48 ⟨_, rfl, by rw [aCopy, h9, h16, ejk, ejt, Bool.and_self, if_pos rfl, if_pos (show so jk = 3 ∨ so jt = 3 from by first | exact Or.inl h29 | exact Or.inr h40)]; rfl, by rw [aCopy, h9, h16, ejk, ejt, Bool.and_self, if_pos rfl, if_pos (show so jk = 3 ∨ so jt = 3 from by first | exact Or.inl h29 | exact Or.inr h40)]; exact mSet_s _ 0 _, by rw [cyOk, h9, h16, ejk, ejt, Bool.and_self, show (decide (so jk = 3) || decide (so jt = 3)) = true from by rw [Bool.or_eq_true, decide_eq_true_eq, decide_eq_true_eq]; exact (show so jk = 3 ∨ so jt = 3 from by first | exact Or.inl h29 | exact Or.inr h40)]; exact hs, (mEqX.set S (nI 0) (by decide)).tr (mEqX.set _ _ (by decide))⟩
      · refine r_aload_n G dX1_copy_32 rfl ?_
        refine m_geta G 2 (by decide) q1192 rfl dX1_copy_33 ?_
        refine r_iload_n G dX1_copy_36 rfl ?_
        refine m_ald G hD 2 (by decide) (by simp only [mN]; omega) (v := (soI (so jt))) (hs jt (by omega)).1 dX1_copy_37 ?_
        refine r_bipush G (v := -9) dX1_copy_38 (by decide) ?_
        refine r_icmp_ne G 49 (soI_3 hjt3) dX1_copy_40 (by decide) (fun h40 => ?_) (fun h40 => ?_)
        · have h3n : ¬ (so jk = 3 ∨ so jt = 3) := fun q => q.elim h29 h40
          have h3b : (decide (so jk = 3) || decide (so jt = 3)) = false := by rw [decide_eq_false h29, decide_eq_false h40]; rfl
          refine r_aload_n G dX1_copy_49 rfl ?_
          refine m_geta G 2 (by decide) q1192 rfl dX1_copy_50 ?_
          refine r_iload_n G dX1_copy_53 rfl ?_
          refine m_ald G hD 2 (by decide) (by simp only [mN]; omega) (v := (soI (so jk))) (hs jk (by omega)).1 dX1_copy_54 ?_
          refine r_aload_n G dX1_copy_55 rfl ?_
          refine m_geta G 2 (by decide) q1192 rfl dX1_copy_56 ?_
          refine r_iload_n G dX1_copy_59 rfl ?_
          refine m_ald G hD 2 (by decide) (by simp only [mN]; omega) (v := (soI (so jt))) (hs jt (by omega)).1 dX1_copy_60 ?_
          refine r_icmp_eq G 70 (soI_in hjk3 hjt3) dX1_copy_61 (by decide) (fun h61 => ?_) (fun h61 => ?_)
          · refine r_iload_n G dX1_copy_70 rfl ?_
            refine r_if_lt G 109 Iff.rfl dX1_copy_71 (by decide) (fun h71 => ?_) (fun h71 => ?_)
            · refine r_iconst G (v := nI 0) dX1_copy_109 (by decide) ?_
              refine r_istore G (lo' := [some (.ref o), some (.int (nI jk)), some (.int i), some (.int (nI jt)), some (.int j), some (.int n), some (.int (nI 0)), none, none, none]) dX1_copy_110 rfl rfl ?_
              refine r_iload G dX1_copy_112 rfl ?_
              refine r_if_eq G 144 (n_eq0 (by decide)) dX1_copy_114 (by decide) (fun h114 => ?_) (fun h114 => False.elim (absurd h114 (by decide)))
              refine r_aload_n G dX1_copy_144 rfl ?_
              refine r_iconst G (v := nI 3) dX1_copy_145 (by decide) ?_
              refine m_callV G [.int (nI 3)] (mM_fails hE hD (S := (mSet S 0 (nI 0))) (nI 3)) (lw_V q1289 q1291 qs40 q74 q1292) fy_yX1_fails rfl rfl ⟨Nat.le_of_ble_eq_true rfl, Nat.le_of_ble_eq_true rfl⟩ rfl (Nat.le_of_ble_eq_true rfl) rfl rfl ⟨Nat.zero_le _, Nat.zero_le _⟩ dX1_copy_146 (fun v146 S146 hp146 => ?_)
              obtain ⟨rfl, rfl⟩ := hp146
              show K (mH g o ad (mSet (mSet S 0 (nI 0)) 0 (nI 3))) 0 0 149 [some (.ref o), some (.int (nI jk)), some (.int i), some (.int (nI jt)), some (.int j), some (.int n), some (.int (nI 0)), none, none, none] [.int (-10 - (nI 3))]
              exact r_iret G rfl ⟨Nat.zero_le _, Nat.zero_le _⟩ dX1_copy_149 ⟨_, rfl, by rw [aCopy, h9, h16, ejk, ejt, Bool.and_self, if_pos rfl, if_neg h3n, if_neg (fun z => z h61), (cpf (by first | exact Or.inl h71 | exact Or.inr (Or.inl h76) | exact Or.inr (Or.inr (Or.inl h81)) | exact Or.inr (Or.inr (Or.inr (Or.inl h91))) | exact Or.inr (Or.inr (Or.inr (Or.inr (Or.inl h102)))) | exact Or.inr (Or.inr (Or.inr (Or.inr (Or.inr (Or.inl h127))))) | exact Or.inr (Or.inr (Or.inr (Or.inr (Or.inr (Or.inr (Int32.not_le.mp h141))))))))]; rfl, by rw [aCopy, h9, h16, ejk, ejt, Bool.and_self, if_pos rfl, if_neg h3n, if_neg (fun z => z h61), (cpf (by first | exact Or.inl h71 | exact Or.inr (Or.inl h76) | exact Or.inr (Or.inr (Or.inl h81)) | exact Or.inr (Or.inr (Or.inr (Or.inl h91))) | exact Or.inr (Or.inr (Or.inr (Or.inr (Or.inl h102)))) | exact Or.inr (Or.inr (Or.inr (Or.inr (Or.inr (Or.inl h127))))) | exact Or.inr (Or.inr (Or.inr (Or.inr (Or.inr (Or.inr (Int32.not_le.mp h141))))))))]; exact mSet_s _ 0 _, by rw [cyOk, h9, h16, ejk, ejt, h3b, decide_eq_true h61, (cpf (by first | exact Or.inl h71 | exact Or.inr (Or.inl h76) | exact Or.inr (Or.inr (Or.inl h81)) | exact Or.inr (Or.inr (Or.inr (Or.inl h91))) | exact Or.inr (Or.inr (Or.inr (Or.inr (Or.inl h102)))) | exact Or.inr (Or.inr (Or.inr (Or.inr (Or.inr (Or.inl h127))))) | exact Or.inr (Or.inr (Or.inr (Or.inr (Or.inr (Or.inr (Int32.not_le.mp h141))))))))]; exact hs, (mEqX.set S (nI 0) (by decide)).tr (mEqX.set _ _ (by decide))⟩
            · refine r_iload G dX1_copy_74 rfl ?_
              refine r_if_lt G 109 Iff.rfl dX1_copy_76 (by decide) (fun h76 => ?_) (fun h76 => ?_)
              · refine r_iconst G (v := nI 0) dX1_copy_109 (by decide) ?_
                refine r_istore G (lo' := [some (.ref o), some (.int (nI jk)), some (.int i), some (.int (nI jt)), some (.int j), some (.int n), some (.int (nI 0)), none, none, none]) dX1_copy_110 rfl rfl ?_
                refine r_iload G dX1_copy_112 rfl ?_
                refine r_if_eq G 144 (n_eq0 (by decide)) dX1_copy_114 (by decide) (fun h114 => ?_) (fun h114 => False.elim (absurd h114 (by decide)))
                refine r_aload_n G dX1_copy_144 rfl ?_
                refine r_iconst G (v := nI 3) dX1_copy_145 (by decide) ?_
                refine m_callV G [.int (nI 3)] (mM_fails hE hD (S := (mSet S 0 (nI 0))) (nI 3)) (lw_V q1289 q1291 qs40 q74 q1292) fy_yX1_fails rfl rfl ⟨Nat.le_of_ble_eq_true rfl, Nat.le_of_ble_eq_true rfl⟩ rfl (Nat.le_of_ble_eq_true rfl) rfl rfl ⟨Nat.zero_le _, Nat.zero_le _⟩ dX1_copy_146 (fun v146 S146 hp146 => ?_)
                obtain ⟨rfl, rfl⟩ := hp146
                show K (mH g o ad (mSet (mSet S 0 (nI 0)) 0 (nI 3))) 0 0 149 [some (.ref o), some (.int (nI jk)), some (.int i), some (.int (nI jt)), some (.int j), some (.int n), some (.int (nI 0)), none, none, none] [.int (-10 - (nI 3))]
                exact r_iret G rfl ⟨Nat.zero_le _, Nat.zero_le _⟩ dX1_copy_149 ⟨_, rfl, by rw [aCopy, h9, h16, ejk, ejt, Bool.and_self, if_pos rfl, if_neg h3n, if_neg (fun z => z h61), (cpf (by first | exact Or.inl h71 | exact Or.inr (Or.inl h76) | exact Or.inr (Or.inr (Or.inl h81)) | exact Or.inr (Or.inr (Or.inr (Or.inl h91))) | exact Or.inr (Or.inr (Or.inr (Or.inr (Or.inl h102)))) | exact Or.inr (Or.inr (Or.inr (Or.inr (Or.inr (Or.inl h127))))) | exact Or.inr (Or.inr (Or.inr (Or.inr (Or.inr (Or.inr (Int32.not_le.mp h141))))))))]; rfl, by rw [aCopy, h9, h16, ejk, ejt, Bool.and_self, if_pos rfl, if_neg h3n, if_neg (fun z => z h61), (cpf (by first | exact Or.inl h71 | exact Or.inr (Or.inl h76) | exact Or.inr (Or.inr (Or.inl h81)) | exact Or.inr (Or.inr (Or.inr (Or.inl h91))) | exact Or.inr (Or.inr (Or.inr (Or.inr (Or.inl h102)))) | exact Or.inr (Or.inr (Or.inr (Or.inr (Or.inr (Or.inl h127))))) | exact Or.inr (Or.inr (Or.inr (Or.inr (Or.inr (Or.inr (Int32.not_le.mp h141))))))))]; exact mSet_s _ 0 _, by rw [cyOk, h9, h16, ejk, ejt, h3b, decide_eq_true h61, (cpf (by first | exact Or.inl h71 | exact Or.inr (Or.inl h76) | exact Or.inr (Or.inr (Or.inl h81)) | exact Or.inr (Or.inr (Or.inr (Or.inl h91))) | exact Or.inr (Or.inr (Or.inr (Or.inr (Or.inl h102)))) | exact Or.inr (Or.inr (Or.inr (Or.inr (Or.inr (Or.inl h127))))) | exact Or.inr (Or.inr (Or.inr (Or.inr (Or.inr (Or.inr (Int32.not_le.mp h141))))))))]; exact hs, (mEqX.set S (nI 0) (by decide)).tr (mEqX.set _ _ (by decide))⟩
              · refine r_iload G dX1_copy_79 rfl ?_
                refine r_if_lt G 109 Iff.rfl dX1_copy_81 (by decide) (fun h81 => ?_) (fun h81 => ?_)
                · refine r_iconst G (v := nI 0) dX1_copy_109 (by decide) ?_
                  refine r_istore G (lo' := [some (.ref o), some (.int (nI jk)), some (.int i), some (.int (nI jt)), some (.int j), some (.int n), some (.int (nI 0)), none, none, none]) dX1_copy_110 rfl rfl ?_
                  refine r_iload G dX1_copy_112 rfl ?_
                  refine r_if_eq G 144 (n_eq0 (by decide)) dX1_copy_114 (by decide) (fun h114 => ?_) (fun h114 => False.elim (absurd h114 (by decide)))
                  refine r_aload_n G dX1_copy_144 rfl ?_
                  refine r_iconst G (v := nI 3) dX1_copy_145 (by decide) ?_
                  refine m_callV G [.int (nI 3)] (mM_fails hE hD (S := (mSet S 0 (nI 0))) (nI 3)) (lw_V q1289 q1291 qs40 q74 q1292) fy_yX1_fails rfl rfl ⟨Nat.le_of_ble_eq_true rfl, Nat.le_of_ble_eq_true rfl⟩ rfl (Nat.le_of_ble_eq_true rfl) rfl rfl ⟨Nat.zero_le _, Nat.zero_le _⟩ dX1_copy_146 (fun v146 S146 hp146 => ?_)
                  obtain ⟨rfl, rfl⟩ := hp146
                  show K (mH g o ad (mSet (mSet S 0 (nI 0)) 0 (nI 3))) 0 0 149 [some (.ref o), some (.int (nI jk)), some (.int i), some (.int (nI jt)), some (.int j), some (.int n), some (.int (nI 0)), none, none, none] [.int (-10 - (nI 3))]
                  exact r_iret G rfl ⟨Nat.zero_le _, Nat.zero_le _⟩ dX1_copy_149 ⟨_, rfl, by rw [aCopy, h9, h16, ejk, ejt, Bool.and_self, if_pos rfl, if_neg h3n, if_neg (fun z => z h61), (cpf (by first | exact Or.inl h71 | exact Or.inr (Or.inl h76) | exact Or.inr (Or.inr (Or.inl h81)) | exact Or.inr (Or.inr (Or.inr (Or.inl h91))) | exact Or.inr (Or.inr (Or.inr (Or.inr (Or.inl h102)))) | exact Or.inr (Or.inr (Or.inr (Or.inr (Or.inr (Or.inl h127))))) | exact Or.inr (Or.inr (Or.inr (Or.inr (Or.inr (Or.inr (Int32.not_le.mp h141))))))))]; rfl, by rw [aCopy, h9, h16, ejk, ejt, Bool.and_self, if_pos rfl, if_neg h3n, if_neg (fun z => z h61), (cpf (by first | exact Or.inl h71 | exact Or.inr (Or.inl h76) | exact Or.inr (Or.inr (Or.inl h81)) | exact Or.inr (Or.inr (Or.inr (Or.inl h91))) | exact Or.inr (Or.inr (Or.inr (Or.inr (Or.inl h102)))) | exact Or.inr (Or.inr (Or.inr (Or.inr (Or.inr (Or.inl h127))))) | exact Or.inr (Or.inr (Or.inr (Or.inr (Or.inr (Or.inr (Int32.not_le.mp h141))))))))]; exact mSet_s _ 0 _, by rw [cyOk, h9, h16, ejk, ejt, h3b, decide_eq_true h61, (cpf (by first | exact Or.inl h71 | exact Or.inr (Or.inl h76) | exact Or.inr (Or.inr (Or.inl h81)) | exact Or.inr (Or.inr (Or.inr (Or.inl h91))) | exact Or.inr (Or.inr (Or.inr (Or.inr (Or.inl h102)))) | exact Or.inr (Or.inr (Or.inr (Or.inr (Or.inr (Or.inl h127))))) | exact Or.inr (Or.inr (Or.inr (Or.inr (Or.inr (Or.inr (Int32.not_le.mp h141))))))))]; exact hs, (mEqX.set S (nI 0) (by decide)).tr (mEqX.set _ _ (by decide))⟩
                · refine r_iload_n G dX1_copy_84 rfl ?_
                  refine r_aload_n G dX1_copy_85 rfl ?_
                  refine m_geta G 3 (by decide) q1193 rfl dX1_copy_86 ?_
                  refine r_iload_n G dX1_copy_89 rfl ?_
                  refine m_ald G hD 3 (by decide) (by simp only [mN]; omega) (v := (nI (sl jk))) (hs jk (by omega)).2.2.1 dX1_copy_90 ?_
                  refine r_icmp_gt G 109 Iff.rfl dX1_copy_91 (by decide) (fun h91 => ?_) (fun h91 => ?_)
                  · refine r_iconst G (v := nI 0) dX1_copy_109 (by decide) ?_
                    refine r_istore G (lo' := [some (.ref o), some (.int (nI jk)), some (.int i), some (.int (nI jt)), some (.int j), some (.int n), some (.int (nI 0)), none, none, none]) dX1_copy_110 rfl rfl ?_
                    refine r_iload G dX1_copy_112 rfl ?_
                    refine r_if_eq G 144 (n_eq0 (by decide)) dX1_copy_114 (by decide) (fun h114 => ?_) (fun h114 => False.elim (absurd h114 (by decide)))
                    refine r_aload_n G dX1_copy_144 rfl ?_
                    refine r_iconst G (v := nI 3) dX1_copy_145 (by decide) ?_
                    refine m_callV G [.int (nI 3)] (mM_fails hE hD (S := (mSet S 0 (nI 0))) (nI 3)) (lw_V q1289 q1291 qs40 q74 q1292) fy_yX1_fails rfl rfl ⟨Nat.le_of_ble_eq_true rfl, Nat.le_of_ble_eq_true rfl⟩ rfl (Nat.le_of_ble_eq_true rfl) rfl rfl ⟨Nat.zero_le _, Nat.zero_le _⟩ dX1_copy_146 (fun v146 S146 hp146 => ?_)
                    obtain ⟨rfl, rfl⟩ := hp146
                    show K (mH g o ad (mSet (mSet S 0 (nI 0)) 0 (nI 3))) 0 0 149 [some (.ref o), some (.int (nI jk)), some (.int i), some (.int (nI jt)), some (.int j), some (.int n), some (.int (nI 0)), none, none, none] [.int (-10 - (nI 3))]
                    exact r_iret G rfl ⟨Nat.zero_le _, Nat.zero_le _⟩ dX1_copy_149 ⟨_, rfl, by rw [aCopy, h9, h16, ejk, ejt, Bool.and_self, if_pos rfl, if_neg h3n, if_neg (fun z => z h61), (cpf (by first | exact Or.inl h71 | exact Or.inr (Or.inl h76) | exact Or.inr (Or.inr (Or.inl h81)) | exact Or.inr (Or.inr (Or.inr (Or.inl h91))) | exact Or.inr (Or.inr (Or.inr (Or.inr (Or.inl h102)))) | exact Or.inr (Or.inr (Or.inr (Or.inr (Or.inr (Or.inl h127))))) | exact Or.inr (Or.inr (Or.inr (Or.inr (Or.inr (Or.inr (Int32.not_le.mp h141))))))))]; rfl, by rw [aCopy, h9, h16, ejk, ejt, Bool.and_self, if_pos rfl, if_neg h3n, if_neg (fun z => z h61), (cpf (by first | exact Or.inl h71 | exact Or.inr (Or.inl h76) | exact Or.inr (Or.inr (Or.inl h81)) | exact Or.inr (Or.inr (Or.inr (Or.inl h91))) | exact Or.inr (Or.inr (Or.inr (Or.inr (Or.inl h102)))) | exact Or.inr (Or.inr (Or.inr (Or.inr (Or.inr (Or.inl h127))))) | exact Or.inr (Or.inr (Or.inr (Or.inr (Or.inr (Or.inr (Int32.not_le.mp h141))))))))]; exact mSet_s _ 0 _, by rw [cyOk, h9, h16, ejk, ejt, h3b, decide_eq_true h61, (cpf (by first | exact Or.inl h71 | exact Or.inr (Or.inl h76) | exact Or.inr (Or.inr (Or.inl h81)) | exact Or.inr (Or.inr (Or.inr (Or.inl h91))) | exact Or.inr (Or.inr (Or.inr (Or.inr (Or.inl h102)))) | exact Or.inr (Or.inr (Or.inr (Or.inr (Or.inr (Or.inl h127))))) | exact Or.inr (Or.inr (Or.inr (Or.inr (Or.inr (Or.inr (Int32.not_le.mp h141))))))))]; exact hs, (mEqX.set S (nI 0) (by decide)).tr (mEqX.set _ _ (by decide))⟩
                  · refine r_iload G dX1_copy_94 rfl ?_
                    refine r_aload_n G dX1_copy_96 rfl ?_
                    refine m_geta G 3 (by decide) q1193 rfl dX1_copy_97 ?_
                    refine r_iload_n G dX1_copy_100 rfl ?_
                    refine m_ald G hD 3 (by decide) (by simp only [mN]; omega) (v := (nI (sl jt))) (hs jt (by omega)).2.2.1 dX1_copy_101 ?_
                    refine r_icmp_gt G 109 Iff.rfl dX1_copy_102 (by decide) (fun h102 => ?_) (fun h102 => ?_)
                    · refine r_iconst G (v := nI 0) dX1_copy_109 (by decide) ?_
                      refine r_istore G (lo' := [some (.ref o), some (.int (nI jk)), some (.int i), some (.int (nI jt)), some (.int j), some (.int n), some (.int (nI 0)), none, none, none]) dX1_copy_110 rfl rfl ?_
                      refine r_iload G dX1_copy_112 rfl ?_
                      refine r_if_eq G 144 (n_eq0 (by decide)) dX1_copy_114 (by decide) (fun h114 => ?_) (fun h114 => False.elim (absurd h114 (by decide)))
                      refine r_aload_n G dX1_copy_144 rfl ?_
                      refine r_iconst G (v := nI 3) dX1_copy_145 (by decide) ?_
                      refine m_callV G [.int (nI 3)] (mM_fails hE hD (S := (mSet S 0 (nI 0))) (nI 3)) (lw_V q1289 q1291 qs40 q74 q1292) fy_yX1_fails rfl rfl ⟨Nat.le_of_ble_eq_true rfl, Nat.le_of_ble_eq_true rfl⟩ rfl (Nat.le_of_ble_eq_true rfl) rfl rfl ⟨Nat.zero_le _, Nat.zero_le _⟩ dX1_copy_146 (fun v146 S146 hp146 => ?_)
                      obtain ⟨rfl, rfl⟩ := hp146
                      show K (mH g o ad (mSet (mSet S 0 (nI 0)) 0 (nI 3))) 0 0 149 [some (.ref o), some (.int (nI jk)), some (.int i), some (.int (nI jt)), some (.int j), some (.int n), some (.int (nI 0)), none, none, none] [.int (-10 - (nI 3))]
                      exact r_iret G rfl ⟨Nat.zero_le _, Nat.zero_le _⟩ dX1_copy_149 ⟨_, rfl, by rw [aCopy, h9, h16, ejk, ejt, Bool.and_self, if_pos rfl, if_neg h3n, if_neg (fun z => z h61), (cpf (by first | exact Or.inl h71 | exact Or.inr (Or.inl h76) | exact Or.inr (Or.inr (Or.inl h81)) | exact Or.inr (Or.inr (Or.inr (Or.inl h91))) | exact Or.inr (Or.inr (Or.inr (Or.inr (Or.inl h102)))) | exact Or.inr (Or.inr (Or.inr (Or.inr (Or.inr (Or.inl h127))))) | exact Or.inr (Or.inr (Or.inr (Or.inr (Or.inr (Or.inr (Int32.not_le.mp h141))))))))]; rfl, by rw [aCopy, h9, h16, ejk, ejt, Bool.and_self, if_pos rfl, if_neg h3n, if_neg (fun z => z h61), (cpf (by first | exact Or.inl h71 | exact Or.inr (Or.inl h76) | exact Or.inr (Or.inr (Or.inl h81)) | exact Or.inr (Or.inr (Or.inr (Or.inl h91))) | exact Or.inr (Or.inr (Or.inr (Or.inr (Or.inl h102)))) | exact Or.inr (Or.inr (Or.inr (Or.inr (Or.inr (Or.inl h127))))) | exact Or.inr (Or.inr (Or.inr (Or.inr (Or.inr (Or.inr (Int32.not_le.mp h141))))))))]; exact mSet_s _ 0 _, by rw [cyOk, h9, h16, ejk, ejt, h3b, decide_eq_true h61, (cpf (by first | exact Or.inl h71 | exact Or.inr (Or.inl h76) | exact Or.inr (Or.inr (Or.inl h81)) | exact Or.inr (Or.inr (Or.inr (Or.inl h91))) | exact Or.inr (Or.inr (Or.inr (Or.inr (Or.inl h102)))) | exact Or.inr (Or.inr (Or.inr (Or.inr (Or.inr (Or.inl h127))))) | exact Or.inr (Or.inr (Or.inr (Or.inr (Or.inr (Or.inr (Int32.not_le.mp h141))))))))]; exact hs, (mEqX.set S (nI 0) (by decide)).tr (mEqX.set _ _ (by decide))⟩
                    · refine r_iconst G (v := nI 1) dX1_copy_105 (by decide) ?_
                      refine r_goto G 110 dX1_copy_106 (by decide) ?_
                      refine r_istore G (lo' := [some (.ref o), some (.int (nI jk)), some (.int i), some (.int (nI jt)), some (.int j), some (.int n), some (.int (nI 1)), none, none, none]) dX1_copy_110 rfl rfl ?_
                      refine r_iload G dX1_copy_112 rfl ?_
                      refine r_if_eq G 144 (n_eq0 (by decide)) dX1_copy_114 (by decide) (fun h114 => False.elim (absurd h114 (by decide))) (fun h114 => ?_)
                      refine r_iload G dX1_copy_117 rfl ?_
                      refine r_aload_n G dX1_copy_119 rfl ?_
                      refine m_geta G 3 (by decide) q1193 rfl dX1_copy_120 ?_
                      refine r_iload_n G dX1_copy_123 rfl ?_
                      refine m_ald G hD 3 (by decide) (by simp only [mN]; omega) (v := (nI (sl jk))) (hs jk (by omega)).2.2.1 dX1_copy_124 ?_
                      refine r_iload_n G dX1_copy_125 rfl ?_
                      refine r_isub G (v := ((nI (sl jk)) - i)) dX1_copy_126 rfl ?_
                      refine r_icmp_gt G 144 Iff.rfl dX1_copy_127 (by decide) (fun h127 => ?_) (fun h127 => ?_)
                      · refine r_aload_n G dX1_copy_144 rfl ?_
                        refine r_iconst G (v := nI 3) dX1_copy_145 (by decide) ?_
                        refine m_callV G [.int (nI 3)] (mM_fails hE hD (S := (mSet S 0 (nI 0))) (nI 3)) (lw_V q1289 q1291 qs40 q74 q1292) fy_yX1_fails rfl rfl ⟨Nat.le_of_ble_eq_true rfl, Nat.le_of_ble_eq_true rfl⟩ rfl (Nat.le_of_ble_eq_true rfl) rfl rfl ⟨Nat.zero_le _, Nat.zero_le _⟩ dX1_copy_146 (fun v146 S146 hp146 => ?_)
                        obtain ⟨rfl, rfl⟩ := hp146
                        show K (mH g o ad (mSet (mSet S 0 (nI 0)) 0 (nI 3))) 0 0 149 [some (.ref o), some (.int (nI jk)), some (.int i), some (.int (nI jt)), some (.int j), some (.int n), some (.int (nI 1)), none, none, none] [.int (-10 - (nI 3))]
                        exact r_iret G rfl ⟨Nat.zero_le _, Nat.zero_le _⟩ dX1_copy_149 ⟨_, rfl, by rw [aCopy, h9, h16, ejk, ejt, Bool.and_self, if_pos rfl, if_neg h3n, if_neg (fun z => z h61), (cpf (by first | exact Or.inl h71 | exact Or.inr (Or.inl h76) | exact Or.inr (Or.inr (Or.inl h81)) | exact Or.inr (Or.inr (Or.inr (Or.inl h91))) | exact Or.inr (Or.inr (Or.inr (Or.inr (Or.inl h102)))) | exact Or.inr (Or.inr (Or.inr (Or.inr (Or.inr (Or.inl h127))))) | exact Or.inr (Or.inr (Or.inr (Or.inr (Or.inr (Or.inr (Int32.not_le.mp h141))))))))]; rfl, by rw [aCopy, h9, h16, ejk, ejt, Bool.and_self, if_pos rfl, if_neg h3n, if_neg (fun z => z h61), (cpf (by first | exact Or.inl h71 | exact Or.inr (Or.inl h76) | exact Or.inr (Or.inr (Or.inl h81)) | exact Or.inr (Or.inr (Or.inr (Or.inl h91))) | exact Or.inr (Or.inr (Or.inr (Or.inr (Or.inl h102)))) | exact Or.inr (Or.inr (Or.inr (Or.inr (Or.inr (Or.inl h127))))) | exact Or.inr (Or.inr (Or.inr (Or.inr (Or.inr (Or.inr (Int32.not_le.mp h141))))))))]; exact mSet_s _ 0 _, by rw [cyOk, h9, h16, ejk, ejt, h3b, decide_eq_true h61, (cpf (by first | exact Or.inl h71 | exact Or.inr (Or.inl h76) | exact Or.inr (Or.inr (Or.inl h81)) | exact Or.inr (Or.inr (Or.inr (Or.inl h91))) | exact Or.inr (Or.inr (Or.inr (Or.inr (Or.inl h102)))) | exact Or.inr (Or.inr (Or.inr (Or.inr (Or.inr (Or.inl h127))))) | exact Or.inr (Or.inr (Or.inr (Or.inr (Or.inr (Or.inr (Int32.not_le.mp h141))))))))]; exact hs, (mEqX.set S (nI 0) (by decide)).tr (mEqX.set _ _ (by decide))⟩
                      · refine r_iload G dX1_copy_130 rfl ?_
                        refine r_aload_n G dX1_copy_132 rfl ?_
                        refine m_geta G 3 (by decide) q1193 rfl dX1_copy_133 ?_
                        refine r_iload_n G dX1_copy_136 rfl ?_
                        refine m_ald G hD 3 (by decide) (by simp only [mN]; omega) (v := (nI (sl jt))) (hs jt (by omega)).2.2.1 dX1_copy_137 ?_
                        refine r_iload G dX1_copy_138 rfl ?_
                        refine r_isub G (v := ((nI (sl jt)) - j)) dX1_copy_140 rfl ?_
                        refine r_icmp_le G 150 Iff.rfl dX1_copy_141 (by decide) (fun h141 => ?_) (fun h141 => ?_)
                        · obtain ⟨ji, jj, jn, rfl, rfl, rfl, hcp1, hcp2⟩ := cp_nat hjkl hjtl h71 h76 h81 h91 h102 h127 (Int32.not_lt.mpr h141)
                          refine r_iload_n G dX1_copy_150 rfl ?_
                          refine r_iload G dX1_copy_151 rfl ?_
                          refine r_icmp_ge G 160 (nI_leI (by omega) (by omega)) dX1_copy_153 (by decide) (fun h153 => ?_) (fun h153 => ?_)
                          · refine r_iconst G (v := nI 0) dX1_copy_160 (by decide) ?_
                            refine r_istore G (lo' := [some (.ref o), some (.int (nI jk)), some (.int (nI ji)), some (.int (nI jt)), some (.int (nI jj)), some (.int (nI jn)), some (.int (nI 1)), some (.int (nI 0)), none, none]) dX1_copy_161 rfl rfl ?_
                            refine r_iconst G (v := nI 0) dX1_copy_163 (by decide) ?_
                            refine r_istore G (lo' := [some (.ref o), some (.int (nI jk)), some (.int (nI ji)), some (.int (nI jt)), some (.int (nI jj)), some (.int (nI jn)), some (.int (nI 1)), some (.int (nI 0)), some (.int (nI 0)), none]) dX1_copy_164 rfl rfl ?_
                            have L166 : ∀ (fu : Nat) (q : Nat) (fa : Nat → Int32), (q ≤ jn) → (∀ c, c < jn → c < q → fa (60 * jt + jj + c) = sc jk (ji + c)) → (∀ x, (∀ c, c < jn → c < q → x ≠ 60 * jt + jj + c) → fa x = S.2 4 x) → jn - q < fu → K (mH g o ad (mArr (mSet S 0 (nI 0)) 4 fa)) 0 0 166 [some (.ref o), some (.int (nI jk)), some (.int (nI ji)), some (.int (nI jt)), some (.int (nI jj)), some (.int (nI jn)), some (.int (nI 1)), some (.int (nI 0)), some (.int (nI q)), none] [] := by
                              intro fu
                              induction fu with
                              | zero => intro q fa hq hA hB hm166; exact absurd hm166 (Nat.not_lt_zero _)
                              | succ fu166 ih166 =>
                                intro q fa hq hA hB hm166
                                refine r_iload G dX1_copy_166 rfl ?_
                                refine r_iload G dX1_copy_168 rfl ?_
                                refine r_icmp_ge G 227 (nI_leI (by omega) (by omega)) dX1_copy_170 (by decide) (fun h170 => ?_) (fun h170 => ?_)
                                · refine r_iload G dX1_copy_227 rfl ?_
                                  exact r_iret G rfl ⟨Nat.zero_le _, Nat.zero_le _⟩ dX1_copy_229 ⟨_, rfl, by rw [aCopy, h9, h16, ejk, ejt, Bool.and_self, if_pos rfl, if_neg h3n, if_neg (fun z => z h61), (cpt hcp1 hcp2 hjkl hjtl)]; rfl, by rw [aCopy, h9, h16, ejk, ejt, Bool.and_self, if_pos rfl, if_neg h3n, if_neg (fun z => z h61), (cpt hcp1 hcp2 hjkl hjtl)]; exact mSet_s S 0 (nI 0), by rw [cyOk, h9, h16, ejk, ejt, h3b, decide_eq_true h61, (cpt hcp1 hcp2 hjkl hjtl), ix_nI (show ji < 2 ^ 31 by omega), ix_nI (show jj < 2 ^ 31 by omega), ix_nI (show jn < 2 ^ 31 by omega)]; exact sh_cpy hs hjt4 (by omega) (fun c hc => hA c hc (by omega)) (fun x hx => hB x (fun c hc _ => hx c hc)), (mEqX.set S (nI 0) (by decide)).tr (mEqX.arr _ _ (by decide))⟩
                                · refine r_iload G dX1_copy_173 rfl ?_
                                  refine r_if_eq G 188 (n_eq0 (by decide)) dX1_copy_175 (by decide) (fun h175 => ?_) (fun h175 => False.elim (absurd h175 (by decide)))
                                  refine r_iload G dX1_copy_188 rfl ?_
                                  refine r_istore G (lo' := [some (.ref o), some (.int (nI jk)), some (.int (nI ji)), some (.int (nI jt)), some (.int (nI jj)), some (.int (nI jn)), some (.int (nI 1)), some (.int (nI 0)), some (.int (nI q)), some (.int (nI q))]) dX1_copy_190 rfl rfl ?_
                                  refine r_aload_n G dX1_copy_192 rfl ?_
                                  refine m_geta G 4 (by decide) q1194 rfl dX1_copy_193 ?_
                                  refine r_bipush G (v := nI 60) dX1_copy_196 (by decide) ?_
                                  refine r_iload_n G dX1_copy_198 rfl ?_
                                  refine r_imul G (v := (nI (60 * jt))) dX1_copy_199 (pk_mul 60 jt) ?_
                                  refine r_iload G dX1_copy_200 rfl ?_
                                  refine r_iadd G (v := (nI ((60 * jt) + jj))) dX1_copy_202 (nI_add (60 * jt) jj) ?_
                                  refine r_iload G dX1_copy_203 rfl ?_
                                  refine r_iadd G (v := (nI (((60 * jt) + jj) + q))) dX1_copy_205 (nI_add ((60 * jt) + jj) q) ?_
                                  refine r_aload_n G dX1_copy_206 rfl ?_
                                  refine m_geta G 4 (by decide) q1194 rfl dX1_copy_207 ?_
                                  refine r_bipush G (v := nI 60) dX1_copy_210 (by decide) ?_
                                  refine r_iload_n G dX1_copy_212 rfl ?_
                                  refine r_imul G (v := (nI (60 * jk))) dX1_copy_213 (pk_mul 60 jk) ?_
                                  refine r_iload_n G dX1_copy_214 rfl ?_
                                  refine r_iadd G (v := (nI ((60 * jk) + ji))) dX1_copy_215 (nI_add (60 * jk) ji) ?_
                                  refine r_iload G dX1_copy_216 rfl ?_
                                  refine r_iadd G (v := (nI (((60 * jk) + ji) + q))) dX1_copy_218 (nI_add ((60 * jk) + ji) q) ?_
                                  refine m_ald G hD 4 (by decide) (by simp only [mN]; omega) (v := (sc jk (ji + (q)))) ((hB _ (fun c hc hd => by omega)).trans (((congrArg (S.2 4) (Nat.add_assoc (60 * jk) ji (q)))).trans ((hs jk hjk4).2.2.2.2 (ji + (q)) (by omega)))) dX1_copy_219 ?_
                                  refine m_ast G hD 4 (by decide) (by simp only [mN]; omega) dX1_copy_220 ?_
                                  rw [mPut_arr]
                                  refine r_iinc G (v := (nI (q + 1))) (lo' := [some (.ref o), some (.int (nI jk)), some (.int (nI ji)), some (.int (nI jt)), some (.int (nI jj)), some (.int (nI jn)), some (.int (nI 1)), some (.int (nI 0)), some (.int (nI (q + 1))), some (.int (nI q))]) dX1_copy_221 rfl (nI_add q 1) rfl rfl ?_
                                  refine r_goto G 166 dX1_copy_224 (by decide) ?_
                                  refine r_drop G 9 (lo' := [some (.ref o), some (.int (nI jk)), some (.int (nI ji)), some (.int (nI jt)), some (.int (nI jj)), some (.int (nI jn)), some (.int (nI 1)), some (.int (nI 0)), some (.int (nI (q + 1))), none]) rfl ?_
                                  exact ih166 _ _ (by omega) (fun c hc hd => (Classical.em (c = q)).elim (fun e => by rw [e]; exact pk_us) (fun e => by rw [pk_un (by omega)]; exact hA c hc (by omega))) (fun x hx => by rw [pk_un (hx (q) (by omega) (by omega))]; exact hB x (fun c hc hd => hx c hc (by omega))) (by omega)
                            rw [show (mSet S 0 (nI 0)) = mArr (mSet S 0 (nI 0)) 4 (S.2 4) from (mArr_0 (mSet S 0 (nI 0)) 4).symm]
                            exact L166 (jn + 1) 0 (S.2 4) (Nat.zero_le _) (fun c hc hd => by omega) (fun x _ => rfl) (by omega)
                          · refine r_iconst G (v := nI 1) dX1_copy_156 (by decide) ?_
                            refine r_goto G 161 dX1_copy_157 (by decide) ?_
                            refine r_istore G (lo' := [some (.ref o), some (.int (nI jk)), some (.int (nI ji)), some (.int (nI jt)), some (.int (nI jj)), some (.int (nI jn)), some (.int (nI 1)), some (.int (nI 1)), none, none]) dX1_copy_161 rfl rfl ?_
                            refine r_iconst G (v := nI 0) dX1_copy_163 (by decide) ?_
                            refine r_istore G (lo' := [some (.ref o), some (.int (nI jk)), some (.int (nI ji)), some (.int (nI jt)), some (.int (nI jj)), some (.int (nI jn)), some (.int (nI 1)), some (.int (nI 1)), some (.int (nI 0)), none]) dX1_copy_164 rfl rfl ?_
                            have L166 : ∀ (fu : Nat) (q : Nat) (fa : Nat → Int32), (q ≤ jn) → (∀ c, c < jn → jn ≤ c + q → fa (60 * jt + jj + c) = sc jk (ji + c)) → (∀ x, (∀ c, c < jn → jn ≤ c + q → x ≠ 60 * jt + jj + c) → fa x = S.2 4 x) → jn - q < fu → K (mH g o ad (mArr (mSet S 0 (nI 0)) 4 fa)) 0 0 166 [some (.ref o), some (.int (nI jk)), some (.int (nI ji)), some (.int (nI jt)), some (.int (nI jj)), some (.int (nI jn)), some (.int (nI 1)), some (.int (nI 1)), some (.int (nI q)), none] [] := by
                              intro fu
                              induction fu with
                              | zero => intro q fa hq hA hB hm166; exact absurd hm166 (Nat.not_lt_zero _)
                              | succ fu166 ih166 =>
                                intro q fa hq hA hB hm166
                                refine r_iload G dX1_copy_166 rfl ?_
                                refine r_iload G dX1_copy_168 rfl ?_
                                refine r_icmp_ge G 227 (nI_leI (by omega) (by omega)) dX1_copy_170 (by decide) (fun h170 => ?_) (fun h170 => ?_)
                                · refine r_iload G dX1_copy_227 rfl ?_
                                  exact r_iret G rfl ⟨Nat.zero_le _, Nat.zero_le _⟩ dX1_copy_229 ⟨_, rfl, by rw [aCopy, h9, h16, ejk, ejt, Bool.and_self, if_pos rfl, if_neg h3n, if_neg (fun z => z h61), (cpt hcp1 hcp2 hjkl hjtl)]; rfl, by rw [aCopy, h9, h16, ejk, ejt, Bool.and_self, if_pos rfl, if_neg h3n, if_neg (fun z => z h61), (cpt hcp1 hcp2 hjkl hjtl)]; exact mSet_s S 0 (nI 0), by rw [cyOk, h9, h16, ejk, ejt, h3b, decide_eq_true h61, (cpt hcp1 hcp2 hjkl hjtl), ix_nI (show ji < 2 ^ 31 by omega), ix_nI (show jj < 2 ^ 31 by omega), ix_nI (show jn < 2 ^ 31 by omega)]; exact sh_cpy hs hjt4 (by omega) (fun c hc => hA c hc (by omega)) (fun x hx => hB x (fun c hc _ => hx c hc)), (mEqX.set S (nI 0) (by decide)).tr (mEqX.arr _ _ (by decide))⟩
                                · refine r_iload G dX1_copy_173 rfl ?_
                                  refine r_if_eq G 188 (n_eq0 (by decide)) dX1_copy_175 (by decide) (fun h175 => False.elim (absurd h175 (by decide))) (fun h175 => ?_)
                                  refine r_iload G dX1_copy_178 rfl ?_
                                  refine r_iconst G (v := nI 1) dX1_copy_180 (by decide) ?_
                                  refine r_isub G (v := (nI (jn - 1))) dX1_copy_181 (pk_sub (by omega)) ?_
                                  refine r_iload G dX1_copy_182 rfl ?_
                                  refine r_isub G (v := (nI ((jn - 1) - q))) dX1_copy_184 (pk_sub (by omega)) ?_
                                  refine r_goto G 190 dX1_copy_185 (by decide) ?_
                                  refine r_istore G (lo' := [some (.ref o), some (.int (nI jk)), some (.int (nI ji)), some (.int (nI jt)), some (.int (nI jj)), some (.int (nI jn)), some (.int (nI 1)), some (.int (nI 1)), some (.int (nI q)), some (.int (nI ((jn - 1) - q)))]) dX1_copy_190 rfl rfl ?_
                                  refine r_aload_n G dX1_copy_192 rfl ?_
                                  refine m_geta G 4 (by decide) q1194 rfl dX1_copy_193 ?_
                                  refine r_bipush G (v := nI 60) dX1_copy_196 (by decide) ?_
                                  refine r_iload_n G dX1_copy_198 rfl ?_
                                  refine r_imul G (v := (nI (60 * jt))) dX1_copy_199 (pk_mul 60 jt) ?_
                                  refine r_iload G dX1_copy_200 rfl ?_
                                  refine r_iadd G (v := (nI ((60 * jt) + jj))) dX1_copy_202 (nI_add (60 * jt) jj) ?_
                                  refine r_iload G dX1_copy_203 rfl ?_
                                  refine r_iadd G (v := (nI (((60 * jt) + jj) + ((jn - 1) - q)))) dX1_copy_205 (nI_add ((60 * jt) + jj) ((jn - 1) - q)) ?_
                                  refine r_aload_n G dX1_copy_206 rfl ?_
                                  refine m_geta G 4 (by decide) q1194 rfl dX1_copy_207 ?_
                                  refine r_bipush G (v := nI 60) dX1_copy_210 (by decide) ?_
                                  refine r_iload_n G dX1_copy_212 rfl ?_
                                  refine r_imul G (v := (nI (60 * jk))) dX1_copy_213 (pk_mul 60 jk) ?_
                                  refine r_iload_n G dX1_copy_214 rfl ?_
                                  refine r_iadd G (v := (nI ((60 * jk) + ji))) dX1_copy_215 (nI_add (60 * jk) ji) ?_
                                  refine r_iload G dX1_copy_216 rfl ?_
                                  refine r_iadd G (v := (nI (((60 * jk) + ji) + ((jn - 1) - q)))) dX1_copy_218 (nI_add ((60 * jk) + ji) ((jn - 1) - q)) ?_
                                  refine m_ald G hD 4 (by decide) (by simp only [mN]; omega) (v := (sc jk (ji + (jn - 1 - q)))) ((hB _ (fun c hc hd => by omega)).trans (((congrArg (S.2 4) (Nat.add_assoc (60 * jk) ji (jn - 1 - q)))).trans ((hs jk hjk4).2.2.2.2 (ji + (jn - 1 - q)) (by omega)))) dX1_copy_219 ?_
                                  refine m_ast G hD 4 (by decide) (by simp only [mN]; omega) dX1_copy_220 ?_
                                  rw [mPut_arr]
                                  refine r_iinc G (v := (nI (q + 1))) (lo' := [some (.ref o), some (.int (nI jk)), some (.int (nI ji)), some (.int (nI jt)), some (.int (nI jj)), some (.int (nI jn)), some (.int (nI 1)), some (.int (nI 1)), some (.int (nI (q + 1))), some (.int (nI ((jn - 1) - q)))]) dX1_copy_221 rfl (nI_add q 1) rfl rfl ?_
                                  refine r_goto G 166 dX1_copy_224 (by decide) ?_
                                  refine r_drop G 9 (lo' := [some (.ref o), some (.int (nI jk)), some (.int (nI ji)), some (.int (nI jt)), some (.int (nI jj)), some (.int (nI jn)), some (.int (nI 1)), some (.int (nI 1)), some (.int (nI (q + 1))), none]) rfl ?_
                                  exact ih166 _ _ (by omega) (fun c hc hd => (Classical.em (c = jn - 1 - q)).elim (fun e => by rw [e]; exact pk_us) (fun e => by rw [pk_un (by omega)]; exact hA c hc (by omega))) (fun x hx => by rw [pk_un (hx (jn - 1 - q) (by omega) (by omega))]; exact hB x (fun c hc hd => hx c hc (by omega))) (by omega)
                            rw [show (mSet S 0 (nI 0)) = mArr (mSet S 0 (nI 0)) 4 (S.2 4) from (mArr_0 (mSet S 0 (nI 0)) 4).symm]
                            exact L166 (jn + 1) 0 (S.2 4) (Nat.zero_le _) (fun c hc hd => by omega) (fun x _ => rfl) (by omega)
                        · refine r_aload_n G dX1_copy_144 rfl ?_
                          refine r_iconst G (v := nI 3) dX1_copy_145 (by decide) ?_
                          refine m_callV G [.int (nI 3)] (mM_fails hE hD (S := (mSet S 0 (nI 0))) (nI 3)) (lw_V q1289 q1291 qs40 q74 q1292) fy_yX1_fails rfl rfl ⟨Nat.le_of_ble_eq_true rfl, Nat.le_of_ble_eq_true rfl⟩ rfl (Nat.le_of_ble_eq_true rfl) rfl rfl ⟨Nat.zero_le _, Nat.zero_le _⟩ dX1_copy_146 (fun v146 S146 hp146 => ?_)
                          obtain ⟨rfl, rfl⟩ := hp146
                          show K (mH g o ad (mSet (mSet S 0 (nI 0)) 0 (nI 3))) 0 0 149 [some (.ref o), some (.int (nI jk)), some (.int i), some (.int (nI jt)), some (.int j), some (.int n), some (.int (nI 1)), none, none, none] [.int (-10 - (nI 3))]
                          exact r_iret G rfl ⟨Nat.zero_le _, Nat.zero_le _⟩ dX1_copy_149 ⟨_, rfl, by rw [aCopy, h9, h16, ejk, ejt, Bool.and_self, if_pos rfl, if_neg h3n, if_neg (fun z => z h61), (cpf (by first | exact Or.inl h71 | exact Or.inr (Or.inl h76) | exact Or.inr (Or.inr (Or.inl h81)) | exact Or.inr (Or.inr (Or.inr (Or.inl h91))) | exact Or.inr (Or.inr (Or.inr (Or.inr (Or.inl h102)))) | exact Or.inr (Or.inr (Or.inr (Or.inr (Or.inr (Or.inl h127))))) | exact Or.inr (Or.inr (Or.inr (Or.inr (Or.inr (Or.inr (Int32.not_le.mp h141))))))))]; rfl, by rw [aCopy, h9, h16, ejk, ejt, Bool.and_self, if_pos rfl, if_neg h3n, if_neg (fun z => z h61), (cpf (by first | exact Or.inl h71 | exact Or.inr (Or.inl h76) | exact Or.inr (Or.inr (Or.inl h81)) | exact Or.inr (Or.inr (Or.inr (Or.inl h91))) | exact Or.inr (Or.inr (Or.inr (Or.inr (Or.inl h102)))) | exact Or.inr (Or.inr (Or.inr (Or.inr (Or.inr (Or.inl h127))))) | exact Or.inr (Or.inr (Or.inr (Or.inr (Or.inr (Or.inr (Int32.not_le.mp h141))))))))]; exact mSet_s _ 0 _, by rw [cyOk, h9, h16, ejk, ejt, h3b, decide_eq_true h61, (cpf (by first | exact Or.inl h71 | exact Or.inr (Or.inl h76) | exact Or.inr (Or.inr (Or.inl h81)) | exact Or.inr (Or.inr (Or.inr (Or.inl h91))) | exact Or.inr (Or.inr (Or.inr (Or.inr (Or.inl h102)))) | exact Or.inr (Or.inr (Or.inr (Or.inr (Or.inr (Or.inl h127))))) | exact Or.inr (Or.inr (Or.inr (Or.inr (Or.inr (Or.inr (Int32.not_le.mp h141))))))))]; exact hs, (mEqX.set S (nI 0) (by decide)).tr (mEqX.set _ _ (by decide))⟩
          · refine r_aload_n G dX1_copy_64 rfl ?_
            refine r_iconst G (v := nI 2) dX1_copy_65 (by decide) ?_
            refine m_callV G [.int (nI 2)] (mM_fails hE hD (S := (mSet S 0 (nI 0))) (nI 2)) (lw_V q1289 q1291 qs40 q74 q1292) fy_yX1_fails rfl rfl ⟨Nat.le_of_ble_eq_true rfl, Nat.le_of_ble_eq_true rfl⟩ rfl (Nat.le_of_ble_eq_true rfl) rfl rfl ⟨Nat.zero_le _, Nat.zero_le _⟩ dX1_copy_66 (fun v66 S66 hp66 => ?_)
            obtain ⟨rfl, rfl⟩ := hp66
            show K (mH g o ad (mSet (mSet S 0 (nI 0)) 0 (nI 2))) 0 0 69 [some (.ref o), some (.int (nI jk)), some (.int i), some (.int (nI jt)), some (.int j), some (.int n), none, none, none, none] [.int (-10 - (nI 2))]
            exact r_iret G rfl ⟨Nat.zero_le _, Nat.zero_le _⟩ dX1_copy_69 ⟨_, rfl, by rw [aCopy, h9, h16, ejk, ejt, Bool.and_self, if_pos rfl, if_neg h3n, if_pos h61]; rfl, by rw [aCopy, h9, h16, ejk, ejt, Bool.and_self, if_pos rfl, if_neg h3n, if_pos h61]; exact mSet_s _ 0 _, by rw [cyOk, h9, h16, ejk, ejt, h3b, decide_eq_false h61]; exact hs, (mEqX.set S (nI 0) (by decide)).tr (mEqX.set _ _ (by decide))⟩
        · refine r_aload_n G dX1_copy_43 rfl ?_
          refine r_iconst G (v := nI 1) dX1_copy_44 (by decide) ?_
          refine m_callV G [.int (nI 1)] (mM_fails hE hD (S := (mSet S 0 (nI 0))) (nI 1)) (lw_V q1289 q1291 qs40 q74 q1292) fy_yX1_fails rfl rfl ⟨Nat.le_of_ble_eq_true rfl, Nat.le_of_ble_eq_true rfl⟩ rfl (Nat.le_of_ble_eq_true rfl) rfl rfl ⟨Nat.zero_le _, Nat.zero_le _⟩ dX1_copy_45 (fun v45 S45 hp45 => ?_)
          obtain ⟨rfl, rfl⟩ := hp45
          show K (mH g o ad (mSet (mSet S 0 (nI 0)) 0 (nI 1))) 0 0 48 [some (.ref o), some (.int (nI jk)), some (.int i), some (.int (nI jt)), some (.int j), some (.int n), none, none, none, none] [.int (-10 - (nI 1))]
          exact r_iret G rfl ⟨Nat.zero_le _, Nat.zero_le _⟩ dX1_copy_48 ⟨_, rfl, by rw [aCopy, h9, h16, ejk, ejt, Bool.and_self, if_pos rfl, if_pos (show so jk = 3 ∨ so jt = 3 from by first | exact Or.inl h29 | exact Or.inr h40)]; rfl, by rw [aCopy, h9, h16, ejk, ejt, Bool.and_self, if_pos rfl, if_pos (show so jk = 3 ∨ so jt = 3 from by first | exact Or.inl h29 | exact Or.inr h40)]; exact mSet_s _ 0 _, by rw [cyOk, h9, h16, ejk, ejt, Bool.and_self, show (decide (so jk = 3) || decide (so jt = 3)) = true from by rw [Bool.or_eq_true, decide_eq_true_eq, decide_eq_true_eq]; exact (show so jk = 3 ∨ so jt = 3 from by first | exact Or.inl h29 | exact Or.inr h40)]; exact hs, (mEqX.set S (nI 0) (by decide)).tr (mEqX.set _ _ (by decide))⟩
    · refine r_iconst G (v := -1) dX1_copy_19 (by decide) ?_
      exact r_iret G rfl ⟨Nat.zero_le _, Nat.zero_le _⟩ dX1_copy_20 ⟨_, rfl, by rw [aCopy, (show (wi (nI jk) (nI 0) (nI 3) && wi t (nI 0) (nI 3)) = false from by rw [Bool.and_eq_false_iff]; first | exact Or.inl h9 | exact Or.inr h16)]; rfl, by rw [aCopy, (show (wi (nI jk) (nI 0) (nI 3) && wi t (nI 0) (nI 3)) = false from by rw [Bool.and_eq_false_iff]; first | exact Or.inl h9 | exact Or.inr h16)]; exact mSet_s S 0 (nI 0), by rw [cyOk, (show (wi (nI jk) (nI 0) (nI 3) && wi t (nI 0) (nI 3)) = false from by rw [Bool.and_eq_false_iff]; first | exact Or.inl h9 | exact Or.inr h16)]; exact hs, (mEqX.set S (nI 0) (by decide))⟩
end MM13
