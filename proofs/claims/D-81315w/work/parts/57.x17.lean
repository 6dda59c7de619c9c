/-! the component: rows -/
set_option maxRecDepth 100000
section XX17
theorem ne20 {c : Nat} (h : c = 2 ∨ c = 21 ∨ nPost c = false) : c ≠ 20 := by
  rintro rfl
  rcases h with h | h | h
  · exact absurd h (by decide)
  · exact absurd h (by decide)
  · exact absurd h (by decide)
theorem TM.tw0 {n : Nat} {tw : Nat → Nat} {d : Nat → Nat → Nat} (T : TM n tw d) (h2 : 2 ≤ n) {p : Nat} (hp : p < n) : 0 < tw p := by
  obtain ⟨q, hq, hne⟩ : ∃ q, q < n ∧ p ≠ q := by
    rcases Nat.eq_zero_or_pos p with e | e
    · exact ⟨1, by omega, by omega⟩
    · exact ⟨0, by omega, by omega⟩
  obtain ⟨c, hc, h1, -⟩ := T.nx hp hq hne
  have hb := (T.adj hp hc).mpr h1
  rcases Nat.eq_zero_or_pos (tw p) with e | e
  · rw [e, Nat.zero_testBit] at hb; cases hb
  · exact e
theorem TM.nl {n : Nat} {tw : Nat → Nat} {d : Nat → Nat → Nat} (T : TM n tw d) : ∀ p, p < n → (tw p).testBit (lst (tw p)) = true → lst (tw p) ≠ p := by
  intro p hp hb e
  rw [e] at hb
  have := (T.adj hp hp).mp hb
  rw [T.d0 hp] at this
  cases this
theorem lfp {n : Nat} {tw : Nat → Nat} {d : Nat → Nat → Nat} {Lf p : Nat} (hn8 : n ≤ 8) (C : Cvx n d Lf) (hpl : p ≤ lf n tw Lf) (f1 : Lf.testBit (lf n tw Lf) = true) (f2 : cnt (tw (lf n tw Lf) &&& Lf) = 1) (h : Lf.testBit p = false ∨ ¬ cnt (tw p &&& Lf) = 1) : p + 1 ≤ lf n tw Lf := by
  rcases Nat.lt_or_ge p (lf n tw Lf) with q | q
  · exact q
  · have e : p = lf n tw Lf := by omega
    rcases h with h | h
    · rw [e, f1] at h; cases h
    · rw [e] at h; exact absurd f2 h
set_option maxHeartbeats 4000000 in
theorem xM_X0_writes {l : Launch} {g : fG} {A : Nat → Prop} {En : State → Prop} {zd : Nat} (hX : fX zd g A En) {f : fH} {o : Nat} {tr gr fa : Int32} {rn lr sh : Nat} {L : xLs} {pa kd ld tw : Nat → Nat} {lk tk : Nat → Int32} (hO : f o = some (.inr (1, xF tr gr L.a rn lr fa sh))) (hP : xP g f o L pa kd ld tw lk tk) {d : Nat → Nat → Nat} (T : TM L.n tw d) (h2n : 2 ≤ L.n) {fr0 : Nat → Int32} (hN : f rn = some (.inl (g.2 0, 6, .inl fr0))) (hAn : A rn): fC l g A En yX0_writes cX0_writes 4 none (fR 3) [.ref o] f (fun v f' => v = none ∧ ∃ fr, f' = fU f rn (.inl (g.2 0, 6, .inl fr)) ∧ ∀ k, k + 2 < L.n → fr k = nI (rwv L.n tw k)) := by
  have hE := hX.E
  refine fC.of (by decide) hX.E [some (.ref o), none, none, none] rfl rfl (fun K G => ?_)
  have G : fGood l g A En RX0 "writes" cX0_writes 4 none (fR 3) _ K := G
  have hn8 := hP.2.1
  refine r_iconst G (v := nI 1) dX0_writes_0 (by decide) ?_
  refine r_aload_n G dX0_writes_1 rfl ?_
  refine r_getf G xCl1 (fs := [.int tr, .int gr, .ref L.a, .ref rn, .ref lr, .int fa, .ref sh]) hO 2 (by decide) q142 rfl rfl dX0_writes_2 ?_
  refine s_callF (b := L.a) G [] (xM_J2_size hX hP.1) (lw_F q173 q177 q179 q73 q181) (hX.fw 0 _ rfl) fx_0 rfl ⟨Nat.le_of_ble_eq_true rfl, Nat.le_of_ble_eq_true rfl⟩ (fs := [.int L.mc, .ref L.ea, .int (nI L.n)]) hP.1.1 (ci := 2) rfl rfl (Nat.le_of_ble_eq_true rfl) rfl rfl ⟨Nat.zero_le _, Nat.zero_le _⟩ dX0_writes_5 ?_
  show K f 0 0 10 [some (.ref o), none, none, none] [.int (nI L.n), .int (nI 1)]
  refine r_ishl G (v := (nI (1 <<< L.n))) dX0_writes_10 (n_shl (by omega)) ?_
  refine r_iconst G (v := nI 1) dX0_writes_11 (by decide) ?_
  refine r_isub G (v := (nI (2 ^ L.n - 1))) dX0_writes_12 (n_full L.n (by omega)) ?_
  refine r_istore_n G (lo' := [some (.ref o), some (.int (nI (2 ^ L.n - 1))), none, none]) dX0_writes_13 rfl rfl ?_
  refine r_iconst G (v := nI 0) dX0_writes_14 (by decide) ?_
  refine r_istore_n G (lo' := [some (.ref o), some (.int (nI (2 ^ L.n - 1))), some (.int (nI 0)), none]) dX0_writes_15 rfl rfl ?_
  have L16 : ∀ (fu k : Nat) (fr : Nat → Int32), (k + 2 ≤ L.n) → (∀ j, j < k → fr j = nI (rwv L.n tw j)) → L.n - k < fu → K (fU f rn (.inl (g.2 0, 6, .inl fr))) 0 0 16 [some (.ref o), some (.int (nI (lft L.n tw k))), some (.int (nI k)), none] [] := by
    intro fu
    induction fu with
    | zero => intro k fr hk hfr hm16; exact absurd hm16 (Nat.not_lt_zero _)
    | succ fu16 ih16 =>
      intro k fr hk hfr hm16
      obtain ⟨C, hc⟩ := lft_ok T hn8 k (by omega)
      have hLl := C.1
      have hL8 : lft L.n tw k < 256 := Nat.lt_of_lt_of_le C.1 (pow_n8 hn8)
      have hO := kp.up (Q := fun _ e => cE e ≠ 20) (.inl (g.2 0, 6, .inl fr)) hN (fun z => z rfl) _ _ (by show (1 : Nat) ≠ 20; decide) hO
      have hP := hP.of (fun x e q he => kp.up (Q := fun _ e => cE e ≠ 20) (.inl (g.2 0, 6, .inl fr)) hN (fun z => z rfl) x e (ne20 q) he)
      have hN := fU_s f rn (.inl (g.2 0, 6, .inl fr))
      obtain ⟨fw, hfw⟩ : ∃ z, z = fU f rn (.inl (g.2 0, 6, .inl fr)) := ⟨_, rfl⟩
      rw [← hfw] at hO hP hN ⊢
      refine r_iload_n G dX0_writes_16 rfl ?_
      refine r_aload_n G dX0_writes_17 rfl ?_
      refine r_getf G xCl1 (fs := [.int tr, .int gr, .ref L.a, .ref rn, .ref lr, .int fa, .ref sh]) hO 2 (by decide) q142 rfl rfl dX0_writes_18 ?_
      refine s_callF (b := L.a) G [] (xM_J2_size hX hP.1) (lw_F q173 q177 q179 q73 q181) (hX.fw 0 _ rfl) fx_0 rfl ⟨Nat.le_of_ble_eq_true rfl, Nat.le_of_ble_eq_true rfl⟩ (fs := [.int L.mc, .ref L.ea, .int (nI L.n)]) hP.1.1 (ci := 2) rfl rfl (Nat.le_of_ble_eq_true rfl) rfl rfl ⟨Nat.zero_le _, Nat.zero_le _⟩ dX0_writes_21 ?_
      show K fw 0 0 26 [some (.ref o), some (.int (nI (lft L.n tw k))), some (.int (nI k)), none] [.int (nI L.n), .int (nI k)]
      refine r_iconst G (v := nI 2) dX0_writes_26 (by decide) ?_
      refine r_isub G (v := (nI (L.n - 2))) dX0_writes_27 (pk_sub (by omega)) ?_
      refine r_icmp_ge G 113 (nI_leI (by omega) (by omega)) dX0_writes_28 (by decide) (fun h28 => ?_) (fun h28 => ?_)
      · exact r_vret G rfl ⟨Nat.zero_le _, Nat.zero_le _⟩ dX0_writes_113 ⟨rfl, fr, hfw, fun j hj => hfr j (by omega)⟩
      · have hc2 : 2 ≤ cnt (lft L.n tw k) := by omega
        obtain ⟨r1, r2, r3, r4⟩ := rwv_ok T hn8 hk
        obtain ⟨f1, f2, f3⟩ := lf_ok T hn8 C hc2
        refine r_iconst G (v := nI 0) dX0_writes_31 (by decide) ?_
        refine r_istore_n G (lo' := [some (.ref o), some (.int (nI (lft L.n tw k))), some (.int (nI k)), some (.int (nI 0))]) dX0_writes_32 rfl rfl ?_
        have L33 : ∀ (fu : Nat) (p : Nat), (p ≤ lf L.n tw (lft L.n tw k)) → L.n - p < fu → K fw 0 0 33 [some (.ref o), some (.int (nI (lft L.n tw k))), some (.int (nI k)), some (.int (nI p))] [] := by
          intro fu
          induction fu with
          | zero => intro p hpl hm33; exact absurd hm33 (Nat.not_lt_zero _)
          | succ fu33 ih33 =>
            intro p hpl hm33
            refine r_iload_n G dX0_writes_33 rfl ?_
            refine r_iload_n G dX0_writes_34 rfl ?_
            refine s_callS G [.int (nI (lft L.n tw k)), .int (nI p)] (sX_X0_isIn hE (lft L.n tw k) p (by omega) (by omega)) (lw_S q290 q291 q70 q292) fy_yX0_isIn rfl ⟨Nat.le_of_ble_eq_true rfl, Nat.le_of_ble_eq_true rfl⟩ rfl (Nat.le_of_ble_eq_true rfl) rfl rfl ⟨Nat.zero_le _, Nat.zero_le _⟩ dX0_writes_35 ?_
            show K fw 0 0 38 [some (.ref o), some (.int (nI (lft L.n tw k))), some (.int (nI k)), some (.int (nI p))] [.int (bI ((lft L.n tw k).testBit p))]
            refine r_ifb_eq G 66  dX0_writes_38 (by decide) (fun h38 => ?_) (fun h38 => ?_)
            · have hpn : p < L.n := by omega
              refine r_iinc G (v := (nI (p + 1))) (lo' := [some (.ref o), some (.int (nI (lft L.n tw k))), some (.int (nI k)), some (.int (nI (p + 1)))]) dX0_writes_66 rfl (nI_add p 1) rfl rfl ?_
              refine r_goto G 33 dX0_writes_69 (by decide) ?_
              exact ih33 _ (lfp hn8 C hpl f1 f2 (Or.inl h38)) (by omega)
            · have hpn : p < L.n := by omega
              refine r_aload_n G dX0_writes_41 rfl ?_
              refine r_getf G xCl1 (fs := [.int tr, .int gr, .ref L.a, .ref rn, .ref lr, .int fa, .ref sh]) hO 2 (by decide) q142 rfl rfl dX0_writes_42 ?_
              refine r_iload_n G dX0_writes_45 rfl ?_
              refine s_callF (b := L.a) G [.int (nI p)] (xM_J2_get hX hP.1 p hpn) (lw_F q186 q189 q191 q73 q193) (hX.fw 1 _ rfl) fx_1 rfl ⟨Nat.le_of_ble_eq_true rfl, Nat.le_of_ble_eq_true rfl⟩ (fs := [.int L.mc, .ref L.ea, .int (nI L.n)]) hP.1.1 (ci := 2) rfl rfl (Nat.le_of_ble_eq_true rfl) rfl rfl ⟨Nat.zero_le _, Nat.zero_le _⟩ dX0_writes_46 ?_
              show K fw 0 0 51 [some (.ref o), some (.int (nI (lft L.n tw k))), some (.int (nI k)), some (.int (nI p))] [va_rf ((L.el p))]
              rw [show va_rf (L.el p) = .ref (pa p) from by rw [(hP.2.2.2 p hpn).1]; rfl]
              refine r_castP hX G (hP.2.2.2 p hpn).2.2.1 (hP.2.2.2 p hpn).2.1 q204 dX0_writes_51 ?_
              refine r_pget G (hP.2.2.2 p hpn).2.2.1 (he := (hP.2.2.2 p hpn).2.1) 1 (by decide) q538 pO_g1 dX0_writes_54 ?_
              refine r_iload_n G dX0_writes_57 rfl ?_
              refine r_iand G (v := (nI ((tw p) &&& (lft L.n tw k)))) dX0_writes_58 (n_and (tw p) (lft L.n tw k)) ?_
              refine s_callS G [.int (nI ((tw p) &&& (lft L.n tw k)))] (sX_J16_bitCount hE ((tw p) &&& (lft L.n tw k)) (and_lt_r hL8)) (lw_S q239 q240 q95 q241) fy_yJ16_bitCount rfl ⟨Nat.le_of_ble_eq_true rfl, Nat.le_of_ble_eq_true rfl⟩ rfl (Nat.le_of_ble_eq_true rfl) rfl rfl ⟨Nat.zero_le _, Nat.zero_le _⟩ dX0_writes_59 ?_
              show K fw 0 0 62 [some (.ref o), some (.int (nI (lft L.n tw k))), some (.int (nI k)), some (.int (nI p))] [.int (nI (cnt ((tw p) &&& (lft L.n tw k))))]
              refine r_iconst G (v := nI 1) dX0_writes_62 (by decide) ?_
              refine r_icmp_eq G 72 (nI_eq (Nat.lt_of_le_of_lt (cnt_le _ (and_lt_r hL8)) (by decide)) (by decide)) dX0_writes_63 (by decide) (fun h63 => ?_) (fun h63 => ?_)
              · have e63 : p = lf L.n tw (lft L.n tw k) := Nat.le_antisymm hpl (lf_min hn8 hpn h38 h63)
                refine r_aload_n G dX0_writes_72 rfl ?_
                refine r_getf G xCl1 (fs := [.int tr, .int gr, .ref L.a, .ref rn, .ref lr, .int fa, .ref sh]) hO 3 (by decide) q143 rfl rfl dX0_writes_73 ?_
                refine r_iload_n G dX0_writes_76 rfl ?_
                refine r_aload_n G dX0_writes_77 rfl ?_
                refine r_getf G xCl1 (fs := [.int tr, .int gr, .ref L.a, .ref rn, .ref lr, .int fa, .ref sh]) hO 2 (by decide) q142 rfl rfl dX0_writes_78 ?_
                refine r_iload_n G dX0_writes_81 rfl ?_
                refine s_callF (b := L.a) G [.int (nI p)] (xM_J2_get hX hP.1 p hpn) (lw_F q186 q189 q191 q73 q193) (hX.fw 1 _ rfl) fx_1 rfl ⟨Nat.le_of_ble_eq_true rfl, Nat.le_of_ble_eq_true rfl⟩ (fs := [.int L.mc, .ref L.ea, .int (nI L.n)]) hP.1.1 (ci := 2) rfl rfl (Nat.le_of_ble_eq_true rfl) rfl rfl ⟨Nat.zero_le _, Nat.zero_le _⟩ dX0_writes_82 ?_
                show K fw 0 0 87 [some (.ref o), some (.int (nI (lft L.n tw k))), some (.int (nI k)), some (.int (nI p))] [va_rf ((L.el p)), .int (nI k), .ref rn]
                rw [show va_rf (L.el p) = .ref (pa p) from by rw [(hP.2.2.2 p hpn).1]; rfl]
                refine r_castP hX G (hP.2.2.2 p hpn).2.2.1 (hP.2.2.2 p hpn).2.1 q204 dX0_writes_87 ?_
                refine r_pget G (hP.2.2.2 p hpn).2.2.1 (he := (hP.2.2.2 p hpn).2.1) 1 (by decide) q538 pO_g1 dX0_writes_90 ?_
                refine r_iload_n G dX0_writes_93 rfl ?_
                refine r_iand G (v := (nI ((tw p) &&& (lft L.n tw k)))) dX0_writes_94 (n_and (tw p) (lft L.n tw k)) ?_
                refine s_callS G [.int (nI ((tw p) &&& (lft L.n tw k)))] (sX_X0_least hE ((tw p) &&& (lft L.n tw k)) (and_lt_r hL8) (by rw [e63]; exact (fun e => by rw [e] at f2; exact absurd f2 (by decide)))) (lw_S q253 q254 q70 q255) fy_yX0_least rfl ⟨Nat.le_of_ble_eq_true rfl, Nat.le_of_ble_eq_true rfl⟩ rfl (Nat.le_of_ble_eq_true rfl) rfl rfl ⟨Nat.zero_le _, Nat.zero_le _⟩ dX0_writes_95 ?_
                show K fw 0 0 98 [some (.ref o), some (.int (nI (lft L.n tw k))), some (.int (nI k)), some (.int (nI p))] [.int (nI (lst ((tw p) &&& (lft L.n tw k)))), .int (nI k), .ref rn]
                refine r_iast G (n := 6) (fn := fr) hN hAn (vp_in_nI (by omega) (by omega)) (f' := fU fw rn (.inl (g.2 0, 6, .inl (upd fr ((nI k).toNatClampNeg) (nI (lst ((tw p) &&& (lft L.n tw k)))))))) rfl dX0_writes_98 ?_
                show K (fU fw rn (.inl (g.2 0, 6, .inl (upd fr ((nI k).toNatClampNeg) (nI (lst ((tw p) &&& (lft L.n tw k)))))))) 0 0 99 [some (.ref o), some (.int (nI (lft L.n tw k))), some (.int (nI k)), some (.int (nI p))] []
                refine r_iload_n G dX0_writes_99 rfl ?_
                refine r_iconst G (v := nI 1) dX0_writes_100 (by decide) ?_
                refine r_iload_n G dX0_writes_101 rfl ?_
                refine r_ishl G (v := (nI (1 <<< p))) dX0_writes_102 (n_shl (by omega)) ?_
                refine r_iconst G (v := -1) dX0_writes_103 (by decide) ?_
                refine r_ixor G (v := (nI (1 <<< p) ^^^ -1)) dX0_writes_104 rfl ?_
                refine r_iand G (v := (nI (ndf (lft L.n tw k) (1 <<< p)))) dX0_writes_105 (n_andn (by omega) (Nat.lt_trans (shl1_lt (show p < 8 by omega)) (by decide))) ?_
                refine r_istore_n G (lo' := [some (.ref o), some (.int (nI (ndf (lft L.n tw k) (1 <<< p)))), some (.int (nI k)), some (.int (nI p))]) dX0_writes_106 rfl rfl ?_
                rw [e63]
                show K (fU fw rn (.inl (g.2 0, 6, .inl (upd fr (nI k).toNatClampNeg (nI (rwv L.n tw k)))))) 0 0 107 [some (.ref o), some (.int (nI (lft L.n tw (k + 1)))), some (.int (nI k)), some (.int (nI (lf L.n tw (lft L.n tw k))))] []
                refine r_iinc G (v := (nI (k + 1))) (lo' := [some (.ref o), some (.int (nI (lft L.n tw (k + 1)))), some (.int (nI (k + 1))), some (.int (nI (lf L.n tw (lft L.n tw k))))]) dX0_writes_107 rfl (nI_add k 1) rfl rfl ?_
                refine r_goto G 16 dX0_writes_110 (by decide) ?_
                refine r_drop G 3 (lo' := [some (.ref o), some (.int (nI (lft L.n tw (k + 1)))), some (.int (nI (k + 1))), none]) rfl ?_
                rw [hfw, fU_uu]
                exact ih16 (k + 1) _ (by omega) (fun j hj => (Classical.em (j = k)).elim (fun e => by rw [e, nI_clamp (by omega), pk_us]) (fun e => by rw [nI_clamp (by omega), pk_un e]; exact hfr j (by omega))) (by omega)
              · refine r_iinc G (v := (nI (p + 1))) (lo' := [some (.ref o), some (.int (nI (lft L.n tw k))), some (.int (nI k)), some (.int (nI (p + 1)))]) dX0_writes_66 rfl (nI_add p 1) rfl rfl ?_
                refine r_goto G 33 dX0_writes_69 (by decide) ?_
                exact ih33 _ (lfp hn8 C hpl f1 f2 (Or.inr h63)) (by omega)
        exact L33 (L.n + 1) 0 (Nat.zero_le _) (by omega)
  have h16 := L16 (L.n + 1) 0 fr0 h2n (fun j h => absurd h (Nat.not_lt_zero _)) (by omega)
  rw [fU_same hN] at h16
  exact h16
set_option maxHeartbeats 4000000 in
theorem xM_X0_numberNow {l : Launch} {g : fG} {A : Nat → Prop} {En : State → Prop} {zd : Nat} (hX : fX zd g A En) {f : fH} {o : Nat} {tr gr fa : Int32} {rn lr sh : Nat} {L : xLs} {pa kd ld tw : Nat → Nat} {lk tk : Nat → Int32} (hO : f o = some (.inr (1, xF tr gr L.a rn lr fa sh))) (hP : xP g f o L pa kd ld tw lk tk) {d : Nat → Nat → Nat} (T : TM L.n tw d) (h2n : 2 ≤ L.n) {fr0 : Nat → Int32} (hN : f rn = some (.inl (g.2 0, 6, .inl fr0))) (hAn : A rn): fC l g A En yX0_numberNow cX0_numberNow 3 (some .int) (fR 4) [.ref o] f (fun v f' => v = some (.int (nI (rnum L.n tw (L.n - 2)))) ∧ ∃ fr, f' = fU f rn (.inl (g.2 0, 6, .inl fr))) := by
  have hE := hX.E
  refine fC.of (by decide) hX.E [some (.ref o), none, none] rfl rfl (fun K G => ?_)
  have G : fGood l g A En RX0 "numberNow" cX0_numberNow 3 (some .int) (fR 4) _ K := G
  have hn8 := hP.2.1
  refine r_aload_n G dX0_numberNow_0 rfl ?_
  refine r_callV (b := o) G [] (xM_X0_writes hX hO hP T h2n hN hAn) (lw_V q286 q288 qs4 q70 q289) fy_yX0_writes rfl ⟨Nat.le_of_ble_eq_true rfl, Nat.le_of_ble_eq_true rfl⟩ (fs := [.int tr, .int gr, .ref L.a, .ref rn, .ref lr, .int fa, .ref sh]) hO (ci := 1) rfl rfl rfl (Nat.le_of_ble_eq_true rfl) rfl rfl ⟨Nat.zero_le _, Nat.zero_le _⟩ dX0_numberNow_1 (fun v1 f1 hp1 => ?_)
  obtain ⟨rfl, fr1, rfl, hfr1⟩ := hp1
  have k1 := kp.up (Q := fun x _ => x ≠ rn) (.inl (g.2 0, 6, .inl fr1)) hN (fun z => z rfl)
  have kI1 := kp.up (Q := fun _ e => cE e ≠ 20) (.inl (g.2 0, 6, .inl fr1)) hN (fun z => z rfl)
  have hN1 := fU_s f rn (.inl (g.2 0, 6, .inl fr1))
  obtain ⟨f1, hf1⟩ : ∃ z, z = fU f rn (.inl (g.2 0, 6, .inl fr1)) := ⟨_, rfl⟩
  rw [← hf1] at k1 kI1 hN1 ⊢
  have hN := hN1
  have hO := kI1 _ _ (by show (1 : Nat) ≠ 20; decide) hO
  have hP := hP.of (fun x e q he => kI1 x e (ne20 q) he)
  show K f1 0 0 4 [some (.ref o), none, none] []
  refine r_iconst G (v := nI 0) dX0_numberNow_4 (by decide) ?_
  refine r_istore_n G (lo' := [some (.ref o), some (.int (nI 0)), none]) dX0_numberNow_5 rfl rfl ?_
  refine r_iconst G (v := nI 0) dX0_numberNow_6 (by decide) ?_
  refine r_istore_n G (lo' := [some (.ref o), some (.int (nI 0)), some (.int (nI 0))]) dX0_numberNow_7 rfl rfl ?_
  have L8 : ∀ (fu : Nat) (k m : Nat), (k + 2 ≤ L.n) → (m = rnum L.n tw k) → L.n - k < fu → K f1 0 0 8 [some (.ref o), some (.int (nI m)), some (.int (nI k))] [] := by
    intro fu
    induction fu with
    | zero => intro k m hk hm hm8; exact absurd hm8 (Nat.not_lt_zero _)
    | succ fu8 ih8 =>
      intro k m hk hm hm8
      refine r_iload_n G dX0_numberNow_8 rfl ?_
      refine r_aload_n G dX0_numberNow_9 rfl ?_
      refine r_getf G xCl1 (fs := [.int tr, .int gr, .ref L.a, .ref rn, .ref lr, .int fa, .ref sh]) hO 2 (by decide) q142 rfl rfl dX0_numberNow_10 ?_
      refine s_callF (b := L.a) G [] (xM_J2_size hX hP.1) (lw_F q173 q177 q179 q73 q181) (hX.fw 0 _ rfl) fx_0 rfl ⟨Nat.le_of_ble_eq_true rfl, Nat.le_of_ble_eq_true rfl⟩ (fs := [.int L.mc, .ref L.ea, .int (nI L.n)]) hP.1.1 (ci := 2) rfl rfl (Nat.le_of_ble_eq_true rfl) rfl rfl ⟨Nat.zero_le _, Nat.zero_le _⟩ dX0_numberNow_13 ?_
      show K f1 0 0 18 [some (.ref o), some (.int (nI m)), some (.int (nI k))] [.int (nI L.n), .int (nI k)]
      refine r_iconst G (v := nI 2) dX0_numberNow_18 (by decide) ?_
      refine r_isub G (v := (nI (L.n - 2))) dX0_numberNow_19 (pk_sub (by omega)) ?_
      refine r_icmp_ge G 48 (nI_leI (by omega) (by omega)) dX0_numberNow_20 (by decide) (fun h20 => ?_) (fun h20 => ?_)
      · refine r_iload_n G dX0_numberNow_48 rfl ?_
        exact r_iret G rfl ⟨Nat.zero_le _, Nat.zero_le _⟩ dX0_numberNow_49 ⟨rv (by rw [hm, show k = L.n - 2 by omega]), fr1, hf1⟩
      · refine r_iload_n G dX0_numberNow_23 rfl ?_
        refine r_aload_n G dX0_numberNow_24 rfl ?_
        refine r_getf G xCl1 (fs := [.int tr, .int gr, .ref L.a, .ref rn, .ref lr, .int fa, .ref sh]) hO 2 (by decide) q142 rfl rfl dX0_numberNow_25 ?_
        refine s_callF (b := L.a) G [] (xM_J2_size hX hP.1) (lw_F q173 q177 q179 q73 q181) (hX.fw 0 _ rfl) fx_0 rfl ⟨Nat.le_of_ble_eq_true rfl, Nat.le_of_ble_eq_true rfl⟩ (fs := [.int L.mc, .ref L.ea, .int (nI L.n)]) hP.1.1 (ci := 2) rfl rfl (Nat.le_of_ble_eq_true rfl) rfl rfl ⟨Nat.zero_le _, Nat.zero_le _⟩ dX0_numberNow_28 ?_
        show K f1 0 0 33 [some (.ref o), some (.int (nI m)), some (.int (nI k))] [.int (nI L.n), .int (nI m)]
        refine r_imul G (v := (nI (m * L.n))) dX0_numberNow_33 (pk_mul m L.n) ?_
        refine r_aload_n G dX0_numberNow_34 rfl ?_
        refine r_getf G xCl1 (fs := [.int tr, .int gr, .ref L.a, .ref rn, .ref lr, .int fa, .ref sh]) hO 3 (by decide) q143 rfl rfl dX0_numberNow_35 ?_
        refine r_iload_n G dX0_numberNow_38 rfl ?_
        refine r_iald G (n := 6) (fn := fr1) hN (vp_in_nI (by omega) (by omega)) (v := (nI (rwv L.n tw k))) (by rw [nI_clamp (by omega)]; exact hfr1 k (by omega)) dX0_numberNow_39 ?_
        refine r_iadd G (v := (nI ((m * L.n) + (rwv L.n tw k)))) dX0_numberNow_40 (nI_add (m * L.n) (rwv L.n tw k)) ?_
        refine r_istore_n G (lo' := [some (.ref o), some (.int (nI ((m * L.n) + (rwv L.n tw k)))), some (.int (nI k))]) dX0_numberNow_41 rfl rfl ?_
        refine r_iinc G (v := (nI (k + 1))) (lo' := [some (.ref o), some (.int (nI ((m * L.n) + (rwv L.n tw k)))), some (.int (nI (k + 1)))]) dX0_numberNow_42 rfl (nI_add k 1) rfl rfl ?_
        refine r_goto G 8 dX0_numberNow_45 (by decide) ?_
        exact ih8 _ _ (by omega) (by rw [hm]; rfl) (by omega)
  exact L8 (L.n + 1) 0 0 h2n rfl (by omega)
set_option maxHeartbeats 4000000 in
theorem xM_X0_number {l : Launch} {g : fG} {A : Nat → Prop} {En : State → Prop} {zd : Nat} (hX : fX zd g A En) {f : fH} {o : Nat} {tr gr fa : Int32} {rn lr sh : Nat} {L : xLs} {pa kd ld tw : Nat → Nat} {lk tk : Nat → Int32} (hO : f o = some (.inr (1, xF tr gr L.a rn lr fa sh))) (hP : xP g f o L pa kd ld tw lk tk) {d : Nat → Nat → Nat} (hT : L.n ≠ 0 → 2 ≤ L.n ∧ TM L.n tw d) {fr0 : Nat → Int32} (hN : f rn = some (.inl (g.2 0, 6, .inl fr0))) (hAn : A rn): fC l g A En yX0_number cX0_number 1 (some .int) (fR 5) [.ref o] f (fun v f' => v = some (.int (aNumber L.n tw)) ∧ ∃ fr, f' = fU f rn (.inl (g.2 0, 6, .inl fr))) := by
  have hE := hX.E
  refine fC.of (by decide) hX.E [some (.ref o)] rfl rfl (fun K G => ?_)
  have G : fGood l g A En RX0 "number" cX0_number 1 (some .int) (fR 5) _ K := G
  have hn8 := hP.2.1
  refine r_aload_n G dX0_number_0 rfl ?_
  refine s_callV (b := o) G [] (xM_X0_noVine hX hO hP) (lw_V q273 q275 qs3 q70 q276) fy_yX0_noVine rfl ⟨Nat.le_of_ble_eq_true rfl, Nat.le_of_ble_eq_true rfl⟩ (fs := [.int tr, .int gr, .ref L.a, .ref rn, .ref lr, .int fa, .ref sh]) hO (ci := 1) rfl rfl rfl (Nat.le_of_ble_eq_true rfl) rfl rfl ⟨Nat.zero_le _, Nat.zero_le _⟩ dX0_number_1 ?_
  show K f 0 0 4 [some (.ref o)] [.int (bI (decide (L.n = 0)))]
  refine r_ifb_eq G 12  dX0_number_4 (by decide) (fun h4 => ?_) (fun h4 => ?_)
  · have h4q : ¬ L.n = 0 := of_decide_eq_false h4
    obtain ⟨h2n, T⟩ := hT h4q
    refine r_aload_n G dX0_number_12 rfl ?_
    refine r_callV (b := o) G [] (xM_X0_numberNow hX hO hP T h2n hN hAn) (lw_V q349 q351 qs11 q70 q352) fy_yX0_numberNow rfl ⟨Nat.le_of_ble_eq_true rfl, Nat.le_of_ble_eq_true rfl⟩ (fs := [.int tr, .int gr, .ref L.a, .ref rn, .ref lr, .int fa, .ref sh]) hO (ci := 1) rfl rfl rfl (Nat.le_of_ble_eq_true rfl) rfl rfl ⟨Nat.zero_le _, Nat.zero_le _⟩ dX0_number_13 (fun v13 f13 hp13 => ?_)
    obtain ⟨rfl, fr13, rfl⟩ := hp13
    have k13 := kp.up (Q := fun x _ => x ≠ rn) (.inl (g.2 0, 6, .inl fr13)) hN (fun z => z rfl)
    have kI13 := kp.up (Q := fun _ e => cE e ≠ 20) (.inl (g.2 0, 6, .inl fr13)) hN (fun z => z rfl)
    have hN13 := fU_s f rn (.inl (g.2 0, 6, .inl fr13))
    obtain ⟨f13, hf13⟩ : ∃ z, z = fU f rn (.inl (g.2 0, 6, .inl fr13)) := ⟨_, rfl⟩
    rw [← hf13] at k13 kI13 hN13 ⊢
    have hN := hN13
    have hO := kI13 _ _ (by show (1 : Nat) ≠ 20; decide) hO
    have hP := hP.of (fun x e q he => kI13 x e (ne20 q) he)
    show K f13 0 0 16 [some (.ref o)] [.int (nI (rnum L.n tw (L.n - 2)))]
    exact r_iret G rfl ⟨Nat.zero_le _, Nat.zero_le _⟩ dX0_number_16 ⟨rI (by rw [aNumber, if_neg h4q]), fr13, hf13⟩
  · have h4q : L.n = 0 := of_decide_eq_true h4
    refine r_bipush G (v := -3) dX0_number_7 (by decide) ?_
    refine r_goto G 16 dX0_number_9 (by decide) ?_
    exact r_iret G rfl ⟨Nat.zero_le _, Nat.zero_le _⟩ dX0_number_16 ⟨rI (by rw [aNumber, if_pos h4q]), fr0, (fU_same hN).symm⟩
set_option maxHeartbeats 4000000 in
theorem xM_X0_row {l : Launch} {g : fG} {A : Nat → Prop} {En : State → Prop} {zd : Nat} (hX : fX zd g A En) {f : fH} {o : Nat} {tr gr fa : Int32} {rn lr sh : Nat} {L : xLs} {pa kd ld tw : Nat → Nat} {lk tk : Nat → Int32} (hO : f o = some (.inr (1, xF tr gr L.a rn lr fa sh))) (hP : xP g f o L pa kd ld tw lk tk) {d : Nat → Nat → Nat} (hT : L.n ≠ 0 → 2 ≤ L.n ∧ TM L.n tw d) {fr0 : Nat → Int32} (hN : f rn = some (.inl (g.2 0, 6, .inl fr0))) (hAn : A rn) (k : Int32): fC l g A En yX0_row cX0_row 2 (some .int) (fR 4) [.ref o, .int k] f (fun v f' => v = some (.int (aRow L.n tw k)) ∧ ∃ fr, f' = fU f rn (.inl (g.2 0, 6, .inl fr))) := by
  have hE := hX.E
  refine fC.of (by decide) hX.E [some (.ref o), some (.int k)] rfl rfl (fun K G => ?_)
  have G : fGood l g A En RX0 "row" cX0_row 2 (some .int) (fR 4) _ K := G
  have hn8 := hP.2.1
  refine r_iload_n G dX0_row_0 rfl ?_
  refine r_i2l G dX0_row_1 rfl ?_
  refine r_lconst G (v := lN 0) dX0_row_2 (by decide) ?_
  refine r_ldc2 G q272 dX0_row_3 ?_
  show K f 0 0 6 [some (.ref o), some (.int k)] [.long (lN 5), .long (lN 0), .long k.toInt64]
  refine s_callS G [.long k.toInt64, .long (lN 0), .long (lN 5)] (sX_X0_inI hE k 0 5 (by decide) (by decide)) (lw_S q182 q183 q70 q184) fy_yX0_in rfl ⟨Nat.le_of_ble_eq_true rfl, Nat.le_of_ble_eq_true rfl⟩ rfl (Nat.le_of_ble_eq_true rfl) rfl rfl ⟨Nat.zero_le _, Nat.zero_le _⟩ dX0_row_6 ?_
  show K f 0 0 9 [some (.ref o), some (.int k)] [.int (bI (wi k (nI 0) (nI 5)))]
  refine r_ifb_ne G 15  dX0_row_9 (by decide) (fun h9 => ?_) (fun h9 => ?_)
  · obtain ⟨j, hj0, hj, rfl⟩ := wi_t (by decide) (by decide) h9
    have ej : ix (nI j) = j := ix_nI (by omega)
    refine r_aload_n G dX0_row_15 rfl ?_
    refine s_callV (b := o) G [] (xM_X0_noVine hX hO hP) (lw_V q273 q275 qs3 q70 q276) fy_yX0_noVine rfl ⟨Nat.le_of_ble_eq_true rfl, Nat.le_of_ble_eq_true rfl⟩ (fs := [.int tr, .int gr, .ref L.a, .ref rn, .ref lr, .int fa, .ref sh]) hO (ci := 1) rfl rfl rfl (Nat.le_of_ble_eq_true rfl) rfl rfl ⟨Nat.zero_le _, Nat.zero_le _⟩ dX0_row_16 ?_
    show K f 0 0 19 [some (.ref o), some (.int (nI j))] [.int (bI (decide (L.n = 0)))]
    refine r_ifb_eq G 25  dX0_row_19 (by decide) (fun h19 => ?_) (fun h19 => ?_)
    · have h19q : ¬ L.n = 0 := of_decide_eq_false h19
      obtain ⟨h2n, T⟩ := hT h19q
      refine r_aload_n G dX0_row_25 rfl ?_
      refine r_callV (b := o) G [] (xM_X0_writes hX hO hP T h2n hN hAn) (lw_V q286 q288 qs4 q70 q289) fy_yX0_writes rfl ⟨Nat.le_of_ble_eq_true rfl, Nat.le_of_ble_eq_true rfl⟩ (fs := [.int tr, .int gr, .ref L.a, .ref rn, .ref lr, .int fa, .ref sh]) hO (ci := 1) rfl rfl rfl (Nat.le_of_ble_eq_true rfl) rfl rfl ⟨Nat.zero_le _, Nat.zero_le _⟩ dX0_row_26 (fun v26 f26 hp26 => ?_)
      obtain ⟨rfl, fr26, rfl, hfr26⟩ := hp26
      have k26 := kp.up (Q := fun x _ => x ≠ rn) (.inl (g.2 0, 6, .inl fr26)) hN (fun z => z rfl)
      have kI26 := kp.up (Q := fun _ e => cE e ≠ 20) (.inl (g.2 0, 6, .inl fr26)) hN (fun z => z rfl)
      have hN26 := fU_s f rn (.inl (g.2 0, 6, .inl fr26))
      obtain ⟨f26, hf26⟩ : ∃ z, z = fU f rn (.inl (g.2 0, 6, .inl fr26)) := ⟨_, rfl⟩
      rw [← hf26] at k26 kI26 hN26 ⊢
      have hN := hN26
      have hO := kI26 _ _ (by show (1 : Nat) ≠ 20; decide) hO
      have hP := hP.of (fun x e q he => kI26 x e (ne20 q) he)
      show K f26 0 0 29 [some (.ref o), some (.int (nI j))] []
      refine r_iload_n G dX0_row_29 rfl ?_
      refine r_aload_n G dX0_row_30 rfl ?_
      refine r_getf G xCl1 (fs := [.int tr, .int gr, .ref L.a, .ref rn, .ref lr, .int fa, .ref sh]) hO 2 (by decide) q142 rfl rfl dX0_row_31 ?_
      refine s_callF (b := L.a) G [] (xM_J2_size hX hP.1) (lw_F q173 q177 q179 q73 q181) (hX.fw 0 _ rfl) fx_0 rfl ⟨Nat.le_of_ble_eq_true rfl, Nat.le_of_ble_eq_true rfl⟩ (fs := [.int L.mc, .ref L.ea, .int (nI L.n)]) hP.1.1 (ci := 2) rfl rfl (Nat.le_of_ble_eq_true rfl) rfl rfl ⟨Nat.zero_le _, Nat.zero_le _⟩ dX0_row_34 ?_
      show K f26 0 0 39 [some (.ref o), some (.int (nI j))] [.int (nI L.n), .int (nI j)]
      refine r_iconst G (v := nI 2) dX0_row_39 (by decide) ?_
      refine r_isub G (v := (nI (L.n - 2))) dX0_row_40 (pk_sub (by omega)) ?_
      refine r_icmp_ge G 53 (nI_leI (by omega) (by omega)) dX0_row_41 (by decide) (fun h41 => ?_) (fun h41 => ?_)
      · refine r_bipush G (v := -9) dX0_row_53 (by decide) ?_
        exact r_iret G rfl ⟨Nat.zero_le _, Nat.zero_le _⟩ dX0_row_55 ⟨rI (by rw [aRow, h9, if_pos rfl, if_neg h19q, ej, if_neg (by omega)]), fr26, hf26⟩
      · refine r_aload_n G dX0_row_44 rfl ?_
        refine r_getf G xCl1 (fs := [.int tr, .int gr, .ref L.a, .ref rn, .ref lr, .int fa, .ref sh]) hO 3 (by decide) q143 rfl rfl dX0_row_45 ?_
        refine r_iload_n G dX0_row_48 rfl ?_
        refine r_iald G (n := 6) (fn := fr26) hN (vp_in_nI (by omega) (by omega)) (v := (nI (rwv L.n tw j))) (by rw [nI_clamp (by omega)]; exact hfr26 j (by omega)) dX0_row_49 ?_
        refine r_goto G 55 dX0_row_50 (by decide) ?_
        exact r_iret G rfl ⟨Nat.zero_le _, Nat.zero_le _⟩ dX0_row_55 ⟨rI (by rw [aRow, h9, if_pos rfl, if_neg h19q, ej, if_pos (by omega)]), fr26, hf26⟩
    · have h19q : L.n = 0 := of_decide_eq_true h19
      refine r_bipush G (v := -3) dX0_row_22 (by decide) ?_
      exact r_iret G rfl ⟨Nat.zero_le _, Nat.zero_le _⟩ dX0_row_24 ⟨rI (by simp [aRow, h9, h19q]), fr0, (fU_same hN).symm⟩
  · refine r_bipush G (v := -2) dX0_row_12 (by decide) ?_
    exact r_iret G rfl ⟨Nat.zero_le _, Nat.zero_le _⟩ dX0_row_14 ⟨rI (by simp [aRow, h9]), fr0, (fU_same hN).symm⟩
end XX17
