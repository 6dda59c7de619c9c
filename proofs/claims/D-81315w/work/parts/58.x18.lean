/-! the component: grafts and days -/
set_option maxRecDepth 100000
section XX18
theorem did_l {n : Nat} {ld : Nat → Nat} {a c : Int32} (h : ∃ v, v ≤ 9 ∧ a = nI v) (hc : nI 10 ≤ c) : (if ldA n (c - nI 10) a then fup ld (ix (c - nI 10)) (ix a) else ld) = doL n ld a c := by
  obtain ⟨v, hv, rfl⟩ := h
  have hw : wi (nI v) (nI 0) (nI 9) = true := by
    rw [wi_N (by omega) (by decide) (by decide), decide_eq_true (Nat.zero_le v), decide_eq_true hv]; rfl
  unfold ldA doL
  rw [if_pos hc, hw, Bool.and_true]
theorem did_s {n : Nat} {ld : Nat → Nat} {a p : Int32} (h : ∃ v, v ≤ 9 ∧ a = nI v) (hn8 : n ≤ 8) (hl : ∀ p, p < n → ld p ≤ 9) : aLoad n ld p a < 0 ↔ isP n p = false := by
  obtain ⟨v, hv, rfl⟩ := h
  have hw : wi (nI v) (nI 0) (nI 9) = true := by
    rw [wi_N (by omega) (by decide) (by decide), decide_eq_true (Nat.zero_le v), decide_eq_true hv]; rfl
  unfold aLoad
  cases hp : isP n p with
  | false => exact ⟨fun _ => rfl, fun _ => by show (-1 : Int32) < 0; decide⟩
  | true =>
    obtain ⟨j, hj, rfl⟩ := isP_t (by omega) hp
    rw [if_pos rfl, hw, if_pos rfl, ix_nI (by omega)]
    have := hl j hj
    exact ⟨fun z => absurd ((n_lt0 (by omega)).mp z) (by omega), fun z => by cases z⟩
theorem doOk_l {n : Nat} {tw : Nat → Nat} {a c : Int32} (hc : nI 10 ≤ c) : doOk n tw a c = isP n (c - nI 10) := if_pos hc
theorem doT_l {n : Nat} {tw : Nat → Nat} {a c : Int32} (hc : nI 10 ≤ c) : doT n tw a c = tw := if_pos hc
theorem doOk_g {n : Nat} {tw : Nat → Nat} {a c : Int32} (hc : ¬ nI 10 ≤ c) : doOk n tw a c = graftOk n tw a c := if_neg hc
theorem doT_g {n : Nat} {tw : Nat → Nat} {a c : Int32} (hc : ¬ nI 10 ≤ c) : doT n tw a c = if graftOk n tw a c then grf tw (ix a) (ix c) else tw := if_neg hc
theorem doL_g {n : Nat} {ld : Nat → Nat} {a c : Int32} (hc : ¬ nI 10 ≤ c) : doL n ld a c = ld := if_neg hc
theorem oI_neg {wr : Option Nat} (h : ∀ k, wr = some k → k < 2 ^ 31) : oI wr < 0 ↔ wr = none := by
  cases wr with
  | none => exact ⟨fun _ => rfl, fun _ => by decide⟩
  | some k => exact ⟨fun z => absurd z (nI_pos (h k rfl)), fun z => by cases z⟩
theorem dgo_k {n : Nat} {c : Nat → Int32} : ∀ m k s j, (dgo n c m k s).1 = some j → j < k + m := by
  intro m
  induction m with
  | zero => intro k s j h; cases h
  | succ m ih =>
    intro k s j h
    cases hd : doOk n s.1 (c (2 * k)) (c (2 * k + 1)) with
    | true => rw [dgo_s hd] at h; have := ih _ _ _ h; omega
    | false => rw [dgo_f hd] at h; cases h; omega
theorem ws_full {n : Nat} {kd ld : Nat → Nat} : ws n kd ld (2 ^ n - 1) = sumN n (wv kd ld) := sumN_congr fun p hp => by
  show (if (2 ^ n - 1).testBit p = true then wv kd ld p else 0) = wv kd ld p
  rw [full_bit, if_pos (decide_eq_true hp)]
theorem xP.cong {g : fG} {f : fH} {o : Nat} {L : xLs} {pa kd ld tw ld' tw' : Nat → Nat} {lk tk lk' tk' : Nat → Int32} (h : xP g f o L pa kd ld tw lk tk) (h1 : ∀ p, p < L.n → ld' p = ld p ∧ tw' p = tw p ∧ lk' p = lk p ∧ tk' p = tk p) : xP g f o L pa kd ld' tw' lk' tk' := by
  refine ⟨h.1, h.2.1, h.2.2.1, fun p hp => ?_⟩
  obtain ⟨e1, e2, e3, e4⟩ := h1 p hp
  rw [e1, e2, e3, e4]
  exact h.2.2.2 p hp
set_option maxHeartbeats 4000000 in
theorem xM_X0_did {l : Launch} {g : fG} {A : Nat → Prop} {En : State → Prop} {zd : Nat} (hX : fX zd g A En) {f : fH} {o : Nat} {tr gr fa : Int32} {rn lr sh : Nat} {L : xLs} {pa kd ld tw : Nat → Nat} {lk tk : Nat → Int32} (hO : f o = some (.inr (1, xF tr gr L.a rn lr fa sh))) (hP : xP g f o L pa kd ld tw lk tk) (hAp : ∀ p, p < L.n → A (pa p)) (hnl : ∀ p, p < L.n → (tw p).testBit (lst (tw p)) = true → lst (tw p) ≠ p) (a b : Int32) (hpre : nI 10 ≤ b → ∃ v, v ≤ 9 ∧ a = nI v): fC l g A En yX0_did cX0_did 3 (some .boolean) (fR 5) [.ref o, .int a, .int b] f (fun v f' => v = some (.int (bI (doOk L.n tw a b))) ∧ xP g f' o L pa kd (doL L.n ld a b) (doT L.n tw a b) lk tk ∧ kp (fun _ e => nPost (cE e) = true) f f') := by
  have hE := hX.E
  refine fC.of (by decide) hX.E [some (.ref o), some (.int a), some (.int b)] rfl rfl (fun K G => ?_)
  have G : fGood l g A En RX0 "did" cX0_did 3 (some .boolean) (fR 5) _ K := G
  have hn8 := hP.2.1
  have hK : kp (fun _ e => nPost (cE e) = true) f f := kp.rf f
  have hP0 := hP
  refine r_iload_n G dX0_did_0 rfl ?_
  refine r_bipush G (v := nI 10) dX0_did_1 (by decide) ?_
  refine r_icmp_lt G 26 Iff.rfl dX0_did_3 (by decide) (fun h3 => ?_) (fun h3 => ?_)
  · have hc10 : ¬ nI 10 ≤ b := Int32.not_le.mpr h3
    refine r_aload_n G dX0_did_26 rfl ?_
    refine r_iload_n G dX0_did_27 rfl ?_
    refine r_iload_n G dX0_did_28 rfl ?_
    refine r_callV (b := o) G [.int a, .int b] (xM_X0_grafted hX hO hP hAp hnl a b) (lw_V q301 q303 qs6 q70 q304) fy_yX0_grafted rfl ⟨Nat.le_of_ble_eq_true rfl, Nat.le_of_ble_eq_true rfl⟩ (fs := [.int tr, .int gr, .ref L.a, .ref rn, .ref lr, .int fa, .ref sh]) hO (ci := 1) rfl rfl rfl (Nat.le_of_ble_eq_true rfl) rfl rfl ⟨Nat.zero_le _, Nat.zero_le _⟩ dX0_did_29 (fun v29 f29 hp29 => ?_)
    obtain ⟨rfl, hPn, k29⟩ := hp29
    have hO := k29 _ _ rfl hO
    have hK := kp.tr hK k29
    have hP := hPn
    show K f29 0 0 32 [some (.ref o), some (.int a), some (.int b)] [.int (bI (graftOk L.n tw a b))]
    exact r_zret G rfl bI_nar ⟨Nat.zero_le _, Nat.zero_le _⟩ dX0_did_32 ⟨rBB (doOk_g hc10).symm, by rw [doT_g hc10, doL_g hc10]; exact hP, hK⟩
  · have hc10 : nI 10 ≤ b := Int32.not_lt.mp h3
    have hpr := hpre hc10
    refine r_aload_n G dX0_did_6 rfl ?_
    refine r_iload_n G dX0_did_7 rfl ?_
    refine r_bipush G (v := nI 10) dX0_did_8 (by decide) ?_
    refine r_isub G (v := (b - (nI 10))) dX0_did_10 rfl ?_
    refine r_iload_n G dX0_did_11 rfl ?_
    refine r_callV (b := o) G [.int (b - (nI 10)), .int a] (xM_X0_load hX hO hP hAp (b - (nI 10)) a) (lw_V q990 q264 q265 q70 q266) fy_yX0_load rfl ⟨Nat.le_of_ble_eq_true rfl, Nat.le_of_ble_eq_true rfl⟩ (fs := [.int tr, .int gr, .ref L.a, .ref rn, .ref lr, .int fa, .ref sh]) hO (ci := 1) rfl rfl rfl (Nat.le_of_ble_eq_true rfl) rfl rfl ⟨Nat.zero_le _, Nat.zero_le _⟩ dX0_did_12 (fun v12 f12 hp12 => ?_)
    obtain ⟨rfl, hPn, k12⟩ := hp12
    have hO := k12 _ _ rfl hO
    have hK := kp.tr hK k12
    have hP := hPn
    show K f12 0 0 15 [some (.ref o), some (.int a), some (.int b)] [.int (aLoad L.n ld (b - (nI 10)) a)]
    rw [did_l hpr hc10] at hP
    refine r_if_lt G 22 (did_s hpr hn8 (fun p hp => hP0.ld9 hp)) dX0_did_15 (by decide) (fun h15 => ?_) (fun h15 => ?_)
    · refine r_iconst G (v := nI 0) dX0_did_22 (by decide) ?_
      refine r_goto G 32 dX0_did_23 (by decide) ?_
      exact r_zret G rfl (by decide) ⟨Nat.zero_le _, Nat.zero_le _⟩ dX0_did_32 ⟨rb (by rw [doOk_l hc10, h15]; rfl), by rw [doT_l hc10]; exact hP, hK⟩
    · refine r_iconst G (v := nI 1) dX0_did_18 (by decide) ?_
      refine r_goto G 32 dX0_did_19 (by decide) ?_
      exact r_zret G rfl (by decide) ⟨Nat.zero_le _, Nat.zero_le _⟩ dX0_did_32 ⟨rb (by rw [doOk_l hc10]; cases hq : isP L.n (b - nI 10) with | true => rfl | false => exact absurd hq h15), by rw [doT_l hc10]; exact hP, hK⟩
theorem n1 {fs : List Value} (q : cE (.inr (1, fs)) = 2 ∨ cE (.inr (1, fs)) = 21 ∨ nPost (cE (.inr (1, fs))) = false) : False := by
  rcases q with q | q | q
  · exact absurd (show (1 : Nat) = 2 from q) (by decide)
  · exact absurd (show (1 : Nat) = 21 from q) (by decide)
  · exact absurd (show nPost 1 = false from q) (by decide)
theorem gok_n {n jp : Nat} {tw : Nat → Nat} {q : Int32} (h : (isP n (nI jp) && isP n q && !decide (nI jp = q)) = true) (hg : graftOk n tw (nI jp) q = false) (hj : ix (nI jp) = jp := by assumption) : ¬ cnt (tw jp) = 1 := fun e => by
  rw [gok_t h (by rw [hj]; exact e)] at hg
  cases hg
theorem gok_1 {n jp : Nat} {tw : Nat → Nat} {q : Int32} (hg : graftOk n tw (nI jp) q = true) (hj : ix (nI jp) = jp := by assumption) : cnt (tw jp) = 1 := by
  unfold graftOk at hg
  rw [Bool.and_eq_true, hj] at hg
  exact of_decide_eq_true hg.2
set_option maxHeartbeats 4000000 in
theorem xM_X0_graft {l : Launch} {g : fG} {A : Nat → Prop} {En : State → Prop} {zd : Nat} (hX : fX zd g A En) {f : fH} {o : Nat} {tr gr fa : Int32} {rn lr sh : Nat} {L : xLs} {pa kd ld tw : Nat → Nat} {lk tk : Nat → Int32} (hO : f o = some (.inr (1, xF tr gr L.a rn lr fa sh))) (hP : xP g f o L pa kd ld tw lk tk) {d : Nat → Nat → Nat} (hT : L.n ≠ 0 → 2 ≤ L.n ∧ TM L.n tw d) (hAp : ∀ p, p < L.n → A (pa p)) (hAo : A o) (p q : Int32): fC l g A En yX0_graft cX0_graft 4 (some .int) (fR 5) [.ref o, .int p, .int q] f (fun v f' => v = some (.int (aGraft L.n tw p q)) ∧ f' o = some (.inr (1, xF tr (if graftOk L.n tw p q then gr + nI 1 else gr) L.a rn lr fa sh)) ∧ xP g f' o L pa kd ld (if graftOk L.n tw p q then grf tw (ix p) (ix q) else tw) lk tk ∧ kp (fun x e => x ≠ o ∧ nPost (cE e) = true) f f') := by
  have hE := hX.E
  refine fC.of (by decide) hX.E [some (.ref o), some (.int p), some (.int q), none] rfl rfl (fun K G => ?_)
  have G : fGood l g A En RX0 "graft" cX0_graft 4 (some .int) (fR 5) _ K := G
  have hn8 := hP.2.1
  have hK : kp (fun _ e => nPost (cE e) = true) f f := kp.rf f
  refine r_aload_n G dX0_graft_0 rfl ?_
  refine r_iload_n G dX0_graft_1 rfl ?_
  refine r_iload_n G dX0_graft_2 rfl ?_
  refine s_callV (b := o) G [.int p, .int q] (xM_X0_noTwo hX hO hP p q) (lw_V q297 q299 qs5 q70 q300) fy_yX0_noTwo rfl ⟨Nat.le_of_ble_eq_true rfl, Nat.le_of_ble_eq_true rfl⟩ (fs := [.int tr, .int gr, .ref L.a, .ref rn, .ref lr, .int fa, .ref sh]) hO (ci := 1) rfl rfl rfl (Nat.le_of_ble_eq_true rfl) rfl rfl ⟨Nat.zero_le _, Nat.zero_le _⟩ dX0_graft_3 ?_
  show K f 0 0 6 [some (.ref o), some (.int p), some (.int q), none] [.int (bI (!(isP L.n p && isP L.n q && !decide (p = q))))]
  refine r_ifb_eq G 11  dX0_graft_6 (by decide) (fun h6 => ?_) (fun h6 => ?_)
  · have q6 : (isP L.n p && isP L.n q && !decide (p = q)) = true := nt_f h6
    have q6s := q6
    rw [Bool.and_eq_true, Bool.and_eq_true] at q6s
    obtain ⟨⟨q6a, q6b⟩, q6c⟩ := q6s
    obtain ⟨jp, hjp, rfl⟩ := isP_t (by omega) q6a
    have ejp : ix (nI jp) = jp := ix_nI (by omega)
    obtain ⟨h2n, T⟩ := hT (by omega)
    have ht8 := hP.t8 jp hjp
    have hpos := T.tw0 h2n hjp
    refine r_aload_n G dX0_graft_11 rfl ?_
    refine r_getf G xCl1 (fs := [.int tr, .int gr, .ref L.a, .ref rn, .ref lr, .int fa, .ref sh]) hO 2 (by decide) q142 rfl rfl dX0_graft_12 ?_
    refine r_iload_n G dX0_graft_15 rfl ?_
    refine s_callF (b := L.a) G [.int (nI jp)] (xM_J2_get hX hP.1 jp hjp) (lw_F q186 q189 q191 q73 q193) (hX.fw 1 _ rfl) fx_1 rfl ⟨Nat.le_of_ble_eq_true rfl, Nat.le_of_ble_eq_true rfl⟩ (fs := [.int L.mc, .ref L.ea, .int (nI L.n)]) hP.1.1 (ci := 2) rfl rfl (Nat.le_of_ble_eq_true rfl) rfl rfl ⟨Nat.zero_le _, Nat.zero_le _⟩ dX0_graft_16 ?_
    show K f 0 0 21 [some (.ref o), some (.int (nI jp)), some (.int q), none] [va_rf ((L.el jp))]
    rw [show va_rf (L.el jp) = .ref (pa jp) from by rw [(hP.2.2.2 jp hjp).1]; rfl]
    refine r_castP hX G (hP.2.2.2 jp hjp).2.2.1 (hP.2.2.2 jp hjp).2.1 q204 dX0_graft_21 ?_
    refine r_pget G (hP.2.2.2 jp hjp).2.2.1 (he := (hP.2.2.2 jp hjp).2.1) 1 (by decide) q538 pO_g1 dX0_graft_24 ?_
    refine s_callS G [.int (nI (tw jp))] (sX_X0_least hE (tw jp) (by omega) (Nat.ne_of_gt hpos)) (lw_S q253 q254 q70 q255) fy_yX0_least rfl ⟨Nat.le_of_ble_eq_true rfl, Nat.le_of_ble_eq_true rfl⟩ rfl (Nat.le_of_ble_eq_true rfl) rfl rfl ⟨Nat.zero_le _, Nat.zero_le _⟩ dX0_graft_27 ?_
    show K f 0 0 30 [some (.ref o), some (.int (nI jp)), some (.int q), none] [.int (nI (lst (tw jp)))]
    refine r_istore_n G (lo' := [some (.ref o), some (.int (nI jp)), some (.int q), some (.int (nI (lst (tw jp))))]) dX0_graft_30 rfl rfl ?_
    refine r_aload_n G dX0_graft_31 rfl ?_
    refine r_iload_n G dX0_graft_32 rfl ?_
    refine r_iload_n G dX0_graft_33 rfl ?_
    refine r_callV (b := o) G [.int (nI jp), .int q] (xM_X0_grafted hX hO hP hAp T.nl (nI jp) q) (lw_V q301 q303 qs6 q70 q304) fy_yX0_grafted rfl ⟨Nat.le_of_ble_eq_true rfl, Nat.le_of_ble_eq_true rfl⟩ (fs := [.int tr, .int gr, .ref L.a, .ref rn, .ref lr, .int fa, .ref sh]) hO (ci := 1) rfl rfl rfl (Nat.le_of_ble_eq_true rfl) rfl rfl ⟨Nat.zero_le _, Nat.zero_le _⟩ dX0_graft_34 (fun v34 f34 hp34 => ?_)
    obtain ⟨rfl, hPn, k34⟩ := hp34
    have hO := k34 _ _ rfl hO
    have hK := kp.tr hK k34
    have hP := hPn
    show K f34 0 0 37 [some (.ref o), some (.int (nI jp)), some (.int q), some (.int (nI (lst (tw jp))))] [.int (bI (graftOk L.n tw (nI jp) q))]
    refine r_ifb_ne G 43  dX0_graft_37 (by decide) (fun h37 => ?_) (fun h37 => ?_)
    · refine r_aload_n G dX0_graft_43 rfl ?_
      refine r_dup G dX0_graft_44 rfl ?_
      refine r_getf G xCl1 (fs := [.int tr, .int gr, .ref L.a, .ref rn, .ref lr, .int fa, .ref sh]) hO 1 (by decide) q141 rfl rfl dX0_graft_45 ?_
      refine r_iconst G (v := nI 1) dX0_graft_48 (by decide) ?_
      refine r_iadd G (v := (gr + (nI 1))) dX0_graft_49 rfl ?_
      refine r_putf G xCl1 (fs := [.int tr, .int gr, .ref L.a, .ref rn, .ref lr, .int fa, .ref sh]) hO hAo 1 (by decide) q141 rfl rfl rfl rfl (Nat.le_of_ble_eq_true rfl) (f' := fU f34 o (.inr (1, [.int tr, .int (gr + (nI 1)), .ref L.a, .ref rn, .ref lr, .int fa, .ref sh]))) rfl dX0_graft_50 ?_
      show K (fU f34 o (.inr (1, [.int tr, .int (gr + (nI 1)), .ref L.a, .ref rn, .ref lr, .int fa, .ref sh]))) 0 0 53 [some (.ref o), some (.int (nI jp)), some (.int q), some (.int (nI (lst (tw jp))))] []
      refine r_iload_n G dX0_graft_53 rfl ?_
      exact r_iret G rfl ⟨Nat.zero_le _, Nat.zero_le _⟩ dX0_graft_54 ⟨rI (by rw [aGraft, if_pos q6, ejp, if_pos (gok_1 h37)]), by rw [h37]; exact fU_s _ _ _, hP.of (fun x e q he => kp.up (Q := fun x _ => x ≠ o) _ hO (fun z => z rfl) x e (fun z => by rw [z, hO] at he; cases he; exact n1 q) he), (hK.mono (fun x e q => q.2)).tr (kp.up _ hO (fun z => z.1 rfl))⟩
    · refine r_bipush G (v := -3) dX0_graft_40 (by decide) ?_
      exact r_iret G rfl ⟨Nat.zero_le _, Nat.zero_le _⟩ dX0_graft_42 ⟨rI (by rw [aGraft, if_pos q6, ejp, if_neg (gok_n q6 h37)]), by rw [h37]; exact hO, hP, hK.mono (fun x e q => q.2)⟩
  · have q6 : (isP L.n p && isP L.n q && !decide (p = q)) = false := nt_t h6
    refine r_iconst G (v := -1) dX0_graft_9 (by decide) ?_
    exact r_iret G rfl ⟨Nat.zero_le _, Nat.zero_le _⟩ dX0_graft_10 ⟨rI (by rw [aGraft, if_neg (by rw [q6]; decide)]), by rw [gok_f (Or.inl q6)]; exact hO, by rw [gok_f (Or.inl q6)]; exact hP, kp.rf f⟩
set_option maxHeartbeats 4000000 in
theorem xM_X0_pairsBarred {l : Launch} {g : fG} {A : Nat → Prop} {En : State → Prop} {zd : Nat} (hX : fX zd g A En) {f : fH} {o : Nat} {tr gr fa : Int32} {rn lr sh : Nat} {L : xLs} {pa kd ld tw : Nat → Nat} {lk tk : Nat → Int32} (hO : f o = some (.inr (1, xF tr gr L.a rn lr fa sh))) (hP : xP g f o L pa kd ld tw lk tk) {ca nn : Nat} {c : Nat → Int32} (hC : f ca = some (.inl (g.2 0, 2 * nn, .inl c))) (hnn : nn ≤ 20): fC l g A En yX0_pairsBarred cX0_pairsBarred 5 (some .int) (fR 3) [.ref o, .ref ca] f (fun v f' => f' = f ∧ v = some (.int (if L.n = 0 then -3 else fRef L.n c nn 0))) := by
  have hE := hX.E
  refine fC.of (by decide) hX.E [some (.ref o), some (.ref ca), none, none, none] rfl rfl (fun K G => ?_)
  have G : fGood l g A En RX0 "pairsBarred" cX0_pairsBarred 5 (some .int) (fR 3) _ K := G
  have hn8 := hP.2.1
  refine r_aload_n G dX0_pairsBarred_0 rfl ?_
  refine s_callV (b := o) G [] (xM_X0_noVine hX hO hP) (lw_V q273 q275 qs3 q70 q276) fy_yX0_noVine rfl ⟨Nat.le_of_ble_eq_true rfl, Nat.le_of_ble_eq_true rfl⟩ (fs := [.int tr, .int gr, .ref L.a, .ref rn, .ref lr, .int fa, .ref sh]) hO (ci := 1) rfl rfl rfl (Nat.le_of_ble_eq_true rfl) rfl rfl ⟨Nat.zero_le _, Nat.zero_le _⟩ dX0_pairsBarred_1 ?_
  show K f 0 0 4 [some (.ref o), some (.ref ca), none, none, none] [.int (bI (decide (L.n = 0)))]
  refine r_ifb_eq G 10  dX0_pairsBarred_4 (by decide) (fun h4 => ?_) (fun h4 => ?_)
  · have h4q : ¬ L.n = 0 := of_decide_eq_false h4
    refine r_iconst G (v := nI 0) dX0_pairsBarred_10 (by decide) ?_
    refine r_istore_n G (lo' := [some (.ref o), some (.ref ca), some (.int (nI 0)), none, none]) dX0_pairsBarred_11 rfl rfl ?_
    have L12 : ∀ (fu : Nat) (j : Nat), (j ≤ nn) → (fRef L.n c nn 0 = fRef L.n c (nn - j) j) → nn - j < fu → K f 0 0 12 [some (.ref o), some (.ref ca), some (.int (nI (2 * j))), none, none] [] := by
      intro fu
      induction fu with
      | zero => intro j hj hG hm12; exact absurd hm12 (Nat.not_lt_zero _)
      | succ fu12 ih12 =>
        intro j hj hG hm12
        refine r_iload_n G dX0_pairsBarred_12 rfl ?_
        refine r_aload_n G dX0_pairsBarred_13 rfl ?_
        refine r_alen G (x := (2 * nn, .inl c)) 0 rfl hC (v := (nI (2 * nn))) rfl dX0_pairsBarred_14 ?_
        refine r_icmp_ge G 99 (nI_leI (by omega) (by omega)) dX0_pairsBarred_15 (by decide) (fun h15 => ?_) (fun h15 => ?_)
        · refine r_iconst G (v := nI 0) dX0_pairsBarred_99 (by decide) ?_
          exact r_iret G rfl ⟨Nat.zero_le _, Nat.zero_le _⟩ dX0_pairsBarred_100 ⟨rfl, rI (by rw [if_neg h4q, hG, show nn - j = 0 by omega]; rfl)⟩
        · refine r_aload_n G dX0_pairsBarred_18 rfl ?_
          refine r_iload_n G dX0_pairsBarred_19 rfl ?_
          refine r_iconst G (v := nI 1) dX0_pairsBarred_20 (by decide) ?_
          refine r_iadd G (v := (nI ((2 * j) + 1))) dX0_pairsBarred_21 (nI_add (2 * j) 1) ?_
          refine r_iald G (n := 2 * nn) (fn := c) hC (vp_in_nI (by omega) (by omega)) (v := (c (2 * j + 1))) (by rw [nI_clamp (by omega)]) dX0_pairsBarred_22 ?_
          refine r_istore_n G (lo' := [some (.ref o), some (.ref ca), some (.int (nI (2 * j))), some (.int (c (2 * j + 1))), none]) dX0_pairsBarred_23 rfl rfl ?_
          refine r_iload_n G dX0_pairsBarred_24 rfl ?_
          refine r_i2l G dX0_pairsBarred_25 rfl ?_
          refine r_ldc2 G q969 dX0_pairsBarred_26 ?_
          show K f 0 0 29 [some (.ref o), some (.ref ca), some (.int (nI (2 * j))), some (.int (c (2 * j + 1))), none] [.long (lN 10), .long ((c (2 * j + 1)).toInt64)]
          refine r_ldc2 G q970 dX0_pairsBarred_29 ?_
          show K f 0 0 32 [some (.ref o), some (.ref ca), some (.int (nI (2 * j))), some (.int (c (2 * j + 1))), none] [.long (lN 17), .long (lN 10), .long ((c (2 * j + 1)).toInt64)]
          refine s_callS G [.long ((c (2 * j + 1)).toInt64), .long (lN 10), .long (lN 17)] (sX_X0_inI hE (c (2 * j + 1)) 10 17 (by decide) (by decide)) (lw_S q182 q183 q70 q184) fy_yX0_in rfl ⟨Nat.le_of_ble_eq_true rfl, Nat.le_of_ble_eq_true rfl⟩ rfl (Nat.le_of_ble_eq_true rfl) rfl rfl ⟨Nat.zero_le _, Nat.zero_le _⟩ dX0_pairsBarred_32 ?_
          show K f 0 0 35 [some (.ref o), some (.ref ca), some (.int (nI (2 * j))), some (.int (c (2 * j + 1))), none] [.int (bI (wi (c (2 * j + 1)) (nI 10) (nI 17)))]
          refine r_istore G (lo' := [some (.ref o), some (.ref ca), some (.int (nI (2 * j))), some (.int (c (2 * j + 1))), some (.int (bI (wi (c (2 * j + 1)) (nI 10) (nI 17))))]) dX0_pairsBarred_35 rfl rfl ?_
          refine r_iload_n G dX0_pairsBarred_37 rfl ?_
          refine r_i2l G dX0_pairsBarred_38 rfl ?_
          refine r_lconst G (v := lN 0) dX0_pairsBarred_39 (by decide) ?_
          refine r_ldc2 G q325 dX0_pairsBarred_40 ?_
          show K f 0 0 43 [some (.ref o), some (.ref ca), some (.int (nI (2 * j))), some (.int (c (2 * j + 1))), some (.int (bI (wi (c (2 * j + 1)) (nI 10) (nI 17))))] [.long (lN 7), .long (lN 0), .long ((c (2 * j + 1)).toInt64)]
          refine s_callS G [.long ((c (2 * j + 1)).toInt64), .long (lN 0), .long (lN 7)] (sX_X0_inI hE (c (2 * j + 1)) 0 7 (by decide) (by decide)) (lw_S q182 q183 q70 q184) fy_yX0_in rfl ⟨Nat.le_of_ble_eq_true rfl, Nat.le_of_ble_eq_true rfl⟩ rfl (Nat.le_of_ble_eq_true rfl) rfl rfl ⟨Nat.zero_le _, Nat.zero_le _⟩ dX0_pairsBarred_43 ?_
          show K f 0 0 46 [some (.ref o), some (.ref ca), some (.int (nI (2 * j))), some (.int (c (2 * j + 1))), some (.int (bI (wi (c (2 * j + 1)) (nI 10) (nI 17))))] [.int (bI (wi (c (2 * j + 1)) (nI 0) (nI 7)))]
          refine r_ifb_ne G 54  dX0_pairsBarred_46 (by decide) (fun h46 => ?_) (fun h46 => ?_)
          · refine r_iload G dX0_pairsBarred_54 rfl ?_
            refine r_ifb_eq G 76  dX0_pairsBarred_56 (by decide) (fun h56 => ?_) (fun h56 => ?_)
            · refine r_iload G dX0_pairsBarred_76 rfl ?_
              refine r_ifb_ne G 93  dX0_pairsBarred_78 (by decide) (fun h78 => False.elim (Bool.noConfusion (h78.symm.trans h56))) (fun h78 => ?_)
              refine r_aload_n G dX0_pairsBarred_81 rfl ?_
              refine r_aload_n G dX0_pairsBarred_82 rfl ?_
              refine r_iload_n G dX0_pairsBarred_83 rfl ?_
              refine r_iald G (n := 2 * nn) (fn := c) hC (vp_in_nI (by omega) (by omega)) (v := (c (2 * j))) (by rw [nI_clamp (by omega)]) dX0_pairsBarred_84 ?_
              refine s_callV (b := o) G [.int (c (2 * j))] (xM_X0_noPost hX hO hP (c (2 * j))) (lw_V q168 q170 qs0 q70 q171) fy_yX0_noPost rfl ⟨Nat.le_of_ble_eq_true rfl, Nat.le_of_ble_eq_true rfl⟩ (fs := [.int tr, .int gr, .ref L.a, .ref rn, .ref lr, .int fa, .ref sh]) hO (ci := 1) rfl rfl rfl (Nat.le_of_ble_eq_true rfl) rfl rfl ⟨Nat.zero_le _, Nat.zero_le _⟩ dX0_pairsBarred_85 ?_
              show K f 0 0 88 [some (.ref o), some (.ref ca), some (.int (nI (2 * j))), some (.int (c (2 * j + 1))), some (.int (bI (wi (c (2 * j + 1)) (nI 10) (nI 17))))] [.int (bI (!isP L.n (c (2 * j))))]
              refine r_ifb_eq G 93  dX0_pairsBarred_88 (by decide) (fun h88 => ?_) (fun h88 => ?_)
              · refine r_iinc G (v := (nI ((2 * j) + 2))) (lo' := [some (.ref o), some (.ref ca), some (.int (nI ((2 * j) + 2))), some (.int (c (2 * j + 1))), some (.int (bI (wi (c (2 * j + 1)) (nI 10) (nI 17))))]) dX0_pairsBarred_93 rfl (nI_add (2 * j) 2) rfl rfl ?_
                refine r_goto G 12 dX0_pairsBarred_96 (by decide) ?_
                refine r_drop G 3 (lo' := [some (.ref o), some (.ref ca), some (.int (nI ((2 * j) + 2))), none, some (.int (bI (wi (c (2 * j + 1)) (nI 10) (nI 17))))]) rfl ?_
                refine r_drop G 4 (lo' := [some (.ref o), some (.ref ca), some (.int (nI ((2 * j) + 2))), none, none]) rfl ?_
                have hp0 : pRef L.n (c (2 * j)) (c (2 * j + 1)) = 0 := by unfold pRef; simp [h46, h56, h88]
                exact ih12 (j + 1) (by omega) (by rw [hG, show nn - j = (nn - (j + 1)) + 1 by omega]; exact fRef_s hp0) (by omega)
              · refine r_iconst G (v := -1) dX0_pairsBarred_91 (by decide) ?_
                have hpv : pRef L.n (c (2 * j)) (c (2 * j + 1)) = -1 := by unfold pRef; simp [h46, h56, h88]
                exact r_iret G rfl ⟨Nat.zero_le _, Nat.zero_le _⟩ dX0_pairsBarred_92 ⟨rfl, rI (by rw [if_neg h4q, hG, show nn - j = (nn - (j + 1)) + 1 by omega, fRef_f (by rw [hpv]; decide), hpv])⟩
            · refine r_aload_n G dX0_pairsBarred_59 rfl ?_
              refine r_iload_n G dX0_pairsBarred_60 rfl ?_
              refine r_iald G (n := 2 * nn) (fn := c) hC (vp_in_nI (by omega) (by omega)) (v := (c (2 * j))) (by rw [nI_clamp (by omega)]) dX0_pairsBarred_61 ?_
              refine r_i2l G dX0_pairsBarred_62 rfl ?_
              refine r_lconst G (v := lN 0) dX0_pairsBarred_63 (by decide) ?_
              refine r_ldc2 G q267 dX0_pairsBarred_64 ?_
              show K f 0 0 67 [some (.ref o), some (.ref ca), some (.int (nI (2 * j))), some (.int (c (2 * j + 1))), some (.int (bI (wi (c (2 * j + 1)) (nI 10) (nI 17))))] [.long (lN 9), .long (lN 0), .long ((c (2 * j)).toInt64)]
              refine s_callS G [.long ((c (2 * j)).toInt64), .long (lN 0), .long (lN 9)] (sX_X0_inI hE (c (2 * j)) 0 9 (by decide) (by decide)) (lw_S q182 q183 q70 q184) fy_yX0_in rfl ⟨Nat.le_of_ble_eq_true rfl, Nat.le_of_ble_eq_true rfl⟩ rfl (Nat.le_of_ble_eq_true rfl) rfl rfl ⟨Nat.zero_le _, Nat.zero_le _⟩ dX0_pairsBarred_67 ?_
              show K f 0 0 70 [some (.ref o), some (.ref ca), some (.int (nI (2 * j))), some (.int (c (2 * j + 1))), some (.int (bI (wi (c (2 * j + 1)) (nI 10) (nI 17))))] [.int (bI (wi (c (2 * j)) (nI 0) (nI 9)))]
              refine r_ifb_ne G 76  dX0_pairsBarred_70 (by decide) (fun h70 => ?_) (fun h70 => ?_)
              · refine r_iload G dX0_pairsBarred_76 rfl ?_
                refine r_ifb_ne G 93  dX0_pairsBarred_78 (by decide) (fun h78 => ?_) (fun h78 => False.elim (Bool.noConfusion (h78.symm.trans h56)))
                refine r_iinc G (v := (nI ((2 * j) + 2))) (lo' := [some (.ref o), some (.ref ca), some (.int (nI ((2 * j) + 2))), some (.int (c (2 * j + 1))), some (.int (bI (wi (c (2 * j + 1)) (nI 10) (nI 17))))]) dX0_pairsBarred_93 rfl (nI_add (2 * j) 2) rfl rfl ?_
                refine r_goto G 12 dX0_pairsBarred_96 (by decide) ?_
                refine r_drop G 3 (lo' := [some (.ref o), some (.ref ca), some (.int (nI ((2 * j) + 2))), none, some (.int (bI (wi (c (2 * j + 1)) (nI 10) (nI 17))))]) rfl ?_
                refine r_drop G 4 (lo' := [some (.ref o), some (.ref ca), some (.int (nI ((2 * j) + 2))), none, none]) rfl ?_
                have hp0 : pRef L.n (c (2 * j)) (c (2 * j + 1)) = 0 := by unfold pRef; simp [h46, h56, h70]
                exact ih12 (j + 1) (by omega) (by rw [hG, show nn - j = (nn - (j + 1)) + 1 by omega]; exact fRef_s hp0) (by omega)
              · refine r_bipush G (v := -2) dX0_pairsBarred_73 (by decide) ?_
                have hpv : pRef L.n (c (2 * j)) (c (2 * j + 1)) = -2 := by unfold pRef; simp [h46, h56, h70]
                exact r_iret G rfl ⟨Nat.zero_le _, Nat.zero_le _⟩ dX0_pairsBarred_75 ⟨rfl, rI (by rw [if_neg h4q, hG, show nn - j = (nn - (j + 1)) + 1 by omega, fRef_f (by rw [hpv]; decide), hpv])⟩
          · refine r_iload G dX0_pairsBarred_49 rfl ?_
            refine r_ifb_eq G 73  dX0_pairsBarred_51 (by decide) (fun h51 => ?_) (fun h51 => ?_)
            · refine r_bipush G (v := -2) dX0_pairsBarred_73 (by decide) ?_
              have hpv : pRef L.n (c (2 * j)) (c (2 * j + 1)) = -2 := by unfold pRef; simp [h46, h51]
              exact r_iret G rfl ⟨Nat.zero_le _, Nat.zero_le _⟩ dX0_pairsBarred_75 ⟨rfl, rI (by rw [if_neg h4q, hG, show nn - j = (nn - (j + 1)) + 1 by omega, fRef_f (by rw [hpv]; decide), hpv])⟩
            · refine r_iload G dX0_pairsBarred_54 rfl ?_
              refine r_ifb_eq G 76  dX0_pairsBarred_56 (by decide) (fun h56 => False.elim (Bool.noConfusion (h56.symm.trans h51))) (fun h56 => ?_)
              refine r_aload_n G dX0_pairsBarred_59 rfl ?_
              refine r_iload_n G dX0_pairsBarred_60 rfl ?_
              refine r_iald G (n := 2 * nn) (fn := c) hC (vp_in_nI (by omega) (by omega)) (v := (c (2 * j))) (by rw [nI_clamp (by omega)]) dX0_pairsBarred_61 ?_
              refine r_i2l G dX0_pairsBarred_62 rfl ?_
              refine r_lconst G (v := lN 0) dX0_pairsBarred_63 (by decide) ?_
              refine r_ldc2 G q267 dX0_pairsBarred_64 ?_
              show K f 0 0 67 [some (.ref o), some (.ref ca), some (.int (nI (2 * j))), some (.int (c (2 * j + 1))), some (.int (bI (wi (c (2 * j + 1)) (nI 10) (nI 17))))] [.long (lN 9), .long (lN 0), .long ((c (2 * j)).toInt64)]
              refine s_callS G [.long ((c (2 * j)).toInt64), .long (lN 0), .long (lN 9)] (sX_X0_inI hE (c (2 * j)) 0 9 (by decide) (by decide)) (lw_S q182 q183 q70 q184) fy_yX0_in rfl ⟨Nat.le_of_ble_eq_true rfl, Nat.le_of_ble_eq_true rfl⟩ rfl (Nat.le_of_ble_eq_true rfl) rfl rfl ⟨Nat.zero_le _, Nat.zero_le _⟩ dX0_pairsBarred_67 ?_
              show K f 0 0 70 [some (.ref o), some (.ref ca), some (.int (nI (2 * j))), some (.int (c (2 * j + 1))), some (.int (bI (wi (c (2 * j + 1)) (nI 10) (nI 17))))] [.int (bI (wi (c (2 * j)) (nI 0) (nI 9)))]
              refine r_ifb_ne G 76  dX0_pairsBarred_70 (by decide) (fun h70 => ?_) (fun h70 => ?_)
              · refine r_iload G dX0_pairsBarred_76 rfl ?_
                refine r_ifb_ne G 93  dX0_pairsBarred_78 (by decide) (fun h78 => ?_) (fun h78 => False.elim (Bool.noConfusion (h78.symm.trans h51)))
                refine r_iinc G (v := (nI ((2 * j) + 2))) (lo' := [some (.ref o), some (.ref ca), some (.int (nI ((2 * j) + 2))), some (.int (c (2 * j + 1))), some (.int (bI (wi (c (2 * j + 1)) (nI 10) (nI 17))))]) dX0_pairsBarred_93 rfl (nI_add (2 * j) 2) rfl rfl ?_
                refine r_goto G 12 dX0_pairsBarred_96 (by decide) ?_
                refine r_drop G 3 (lo' := [some (.ref o), some (.ref ca), some (.int (nI ((2 * j) + 2))), none, some (.int (bI (wi (c (2 * j + 1)) (nI 10) (nI 17))))]) rfl ?_
                refine r_drop G 4 (lo' := [some (.ref o), some (.ref ca), some (.int (nI ((2 * j) + 2))), none, none]) rfl ?_
                have hp0 : pRef L.n (c (2 * j)) (c (2 * j + 1)) = 0 := by unfold pRef; simp [h46, h51, h70]
                exact ih12 (j + 1) (by omega) (by rw [hG, show nn - j = (nn - (j + 1)) + 1 by omega]; exact fRef_s hp0) (by omega)
              · refine r_bipush G (v := -2) dX0_pairsBarred_73 (by decide) ?_
                have hpv : pRef L.n (c (2 * j)) (c (2 * j + 1)) = -2 := by unfold pRef; simp [h46, h51, h70]
                exact r_iret G rfl ⟨Nat.zero_le _, Nat.zero_le _⟩ dX0_pairsBarred_75 ⟨rfl, rI (by rw [if_neg h4q, hG, show nn - j = (nn - (j + 1)) + 1 by omega, fRef_f (by rw [hpv]; decide), hpv])⟩
    exact L12 (nn + 1) 0 (Nat.zero_le _) (by rw [Nat.sub_zero]) (by omega)
  · have h4q : L.n = 0 := of_decide_eq_true h4
    refine r_bipush G (v := -3) dX0_pairsBarred_7 (by decide) ?_
    exact r_iret G rfl ⟨Nat.zero_le _, Nat.zero_le _⟩ dX0_pairsBarred_9 ⟨rfl, rI (by rw [if_pos h4q])⟩
set_option maxHeartbeats 4000000 in
theorem xM_X0_dayOf {l : Launch} {g : fG} {A : Nat → Prop} {En : State → Prop} {zd : Nat} (hX : fX zd g A En) {f : fH} {o : Nat} {tr gr fa : Int32} {rn lr sh : Nat} {L : xLs} {pa kd ld tw : Nat → Nat} {lk tk : Nat → Int32} (hO : f o = some (.inr (1, xF tr gr L.a rn lr fa sh))) (hP : xP g f o L pa kd ld tw lk tk) (hAp : ∀ p, p < L.n → A (pa p)) {fr0 : Nat → Int32} (hN : f rn = some (.inl (g.2 0, 6, .inl fr0))) (hAn : A rn) (hTt : ∃ d, TM L.n tw d) (h2n : 2 ≤ L.n) {ca nn : Nat} {c : Nat → Int32} (hC : f ca = some (.inl (g.2 0, 2 * nn, .inl c))) (hnn : nn ≤ 20) (hpre : ∀ k, k < nn → pRef L.n (c (2 * k)) (c (2 * k + 1)) = 0) (what : Int32): fC l g A En yX0_dayOf cX0_dayOf 5 (some .int) (fR 14) [.ref o, .ref ca, .int what] f (fun v f' => v = some (.int (dayEnd L.n kd (dgo L.n c nn 0 (tw, ld)) what)) ∧ xP g f' o L pa kd (dgo L.n c nn 0 (tw, ld)).2.2 (dgo L.n c nn 0 (tw, ld)).2.1 lk tk ∧ kp (fun x e => x ≠ rn ∧ nPost (cE e) = true) f f' ∧ ∃ fr, f' rn = some (.inl (g.2 0, 6, .inl fr))) := by
  have hE := hX.E
  refine fC.of (by decide) hX.E [some (.ref o), some (.ref ca), some (.int what), none, none] rfl rfl (fun K G => ?_)
  have G : fGood l g A En RX0 "dayOf" cX0_dayOf 5 (some .int) (fR 14) _ K := G
  have hn8 := hP.2.1
  have hK : kp (fun _ e => nPost (cE e) = true) f f := kp.rf f
  have hon : o ≠ rn := fun z => by rw [z, hN] at hO; cases hO
  refine r_bipush G (v := -9) dX0_dayOf_0 (by decide) ?_
  refine r_istore_n G (lo' := [some (.ref o), some (.ref ca), some (.int what), some (.int (-9)), none]) dX0_dayOf_2 rfl rfl ?_
  refine r_iconst G (v := nI 0) dX0_dayOf_3 (by decide) ?_
  refine r_istore G (lo' := [some (.ref o), some (.ref ca), some (.int what), some (.int (-9)), some (.int (nI 0))]) dX0_dayOf_4 rfl rfl ?_
  have T50 : ∀ (fx : fH) (tx lx : Nat → Nat) (wr : Option Nat) (jx : Int32), (xP g fx o L pa kd lx tx lk tk) → (kp (fun _ e => nPost (cE e) = true) f fx) → (∃ d, TM L.n tx d) → ((dgo L.n c nn 0 (tw, ld)) = (wr, tx, lx)) → (∀ k, wr = some k → k < 2 ^ 31) → K fx 0 0 50 [some (.ref o), some (.ref ca), some (.int what), some (.int (oI wr)), some (.int jx)] [] := by
    intro fx tx lx wr jx hP hK hTx hG hwr
    obtain ⟨dx, Tx⟩ := hTx
    have hO := hK _ _ rfl hO
    have hC := hK _ _ rfl hC
    have hN := hK _ _ rfl hN
    have hTd := dm_ok ⟨dx, Tx⟩
    refine r_iload_n G dX0_dayOf_50 rfl ?_
    refine r_iconst G (v := nI 1) dX0_dayOf_51 (by decide) ?_
    refine r_icmp_ne G 57 Iff.rfl dX0_dayOf_52 (by decide) (fun h52 => ?_) (fun h52 => ?_)
    · refine r_iload_n G dX0_dayOf_57 rfl ?_
      refine r_if_lt G 66 (oI_neg hwr) dX0_dayOf_58 (by decide) (fun h58 => ?_) (fun h58 => ?_)
      · refine r_iload_n G dX0_dayOf_66 rfl ?_
        refine r_bipush G (v := nI 10) dX0_dayOf_67 (by decide) ?_
        refine r_icmp_lt G 108 Iff.rfl dX0_dayOf_69 (by decide) (fun h69 => ?_) (fun h69 => ?_)
        · have hw10 : ¬ nI 10 ≤ what := Int32.not_le.mpr h69
          refine r_iload_n G dX0_dayOf_108 rfl ?_
          refine r_if_ne G 119 Iff.rfl dX0_dayOf_109 (by decide) (fun h109 => ?_) (fun h109 => ?_)
          · refine r_iload_n G dX0_dayOf_119 rfl ?_
            refine r_iconst G (v := nI 2) dX0_dayOf_120 (by decide) ?_
            refine r_icmp_ne G 131 Iff.rfl dX0_dayOf_121 (by decide) (fun h121 => ?_) (fun h121 => ?_)
            · refine r_iload_n G dX0_dayOf_131 rfl ?_
              refine r_iconst G (v := nI 3) dX0_dayOf_132 (by decide) ?_
              refine r_icmp_ne G 143 Iff.rfl dX0_dayOf_133 (by decide) (fun h133 => ?_) (fun h133 => ?_)
              · refine r_aload_n G dX0_dayOf_143 rfl ?_
                refine r_iconst G (v := -1) dX0_dayOf_144 (by decide) ?_
                refine s_callV (b := o) G [.int (-1)] (xM_X0_worthOf_all hX hO hP) (lw_V q389 q391 qs17 q70 q392) fy_yX0_worthOf rfl ⟨Nat.le_of_ble_eq_true rfl, Nat.le_of_ble_eq_true rfl⟩ (fs := [.int tr, .int gr, .ref L.a, .ref rn, .ref lr, .int fa, .ref sh]) hO (ci := 1) rfl rfl rfl (Nat.le_of_ble_eq_true rfl) rfl rfl ⟨Nat.zero_le _, Nat.zero_le _⟩ dX0_dayOf_145 ?_
                show K fx 0 0 148 [some (.ref o), some (.ref ca), some (.int what), some (.int (oI wr)), some (.int jx)] [.int (nI (sumN L.n (wv kd lx)))]
                exact r_iret G rfl ⟨Nat.zero_le _, Nat.zero_le _⟩ dX0_dayOf_148 ⟨rI (by rw [dayEnd, if_neg h52, hG]; subst h58; show _ = aTell L.n tx kd lx (dm L.n tx) what; unfold aTell; rw [if_neg hw10, if_neg (show ¬ what = nI 0 from h109), if_neg h121, if_neg h133, ws_full]), by rw [hG]; exact hP, hK.mono (fun x e q => q.2), fr0, hN⟩
              · refine r_aload_n G dX0_dayOf_136 rfl ?_
                refine s_callV (b := o) G [] (xM_X0_leaves hX hO hP) (lw_V q991 q993 qs38 q70 q994) fy_yX0_leaves rfl ⟨Nat.le_of_ble_eq_true rfl, Nat.le_of_ble_eq_true rfl⟩ (fs := [.int tr, .int gr, .ref L.a, .ref rn, .ref lr, .int fa, .ref sh]) hO (ci := 1) rfl rfl rfl (Nat.le_of_ble_eq_true rfl) rfl rfl ⟨Nat.zero_le _, Nat.zero_le _⟩ dX0_dayOf_137 ?_
                show K fx 0 0 140 [some (.ref o), some (.ref ca), some (.int what), some (.int (oI wr)), some (.int jx)] [.int (nI (lvs L.n tx))]
                refine r_goto G 148 dX0_dayOf_140 (by decide) ?_
                exact r_iret G rfl ⟨Nat.zero_le _, Nat.zero_le _⟩ dX0_dayOf_148 ⟨rI (by rw [dayEnd, if_neg h52, hG]; subst h58; show _ = aTell L.n tx kd lx (dm L.n tx) what; unfold aTell; rw [if_neg hw10, if_neg (show ¬ what = nI 0 from h109), if_neg h121, if_pos (show what = nI 3 from h133)]), by rw [hG]; exact hP, hK.mono (fun x e q => q.2), fr0, hN⟩
            · refine r_aload_n G dX0_dayOf_124 rfl ?_
              refine r_callV (b := o) G [] (xM_X0_numberNow hX hO hP Tx h2n hN hAn) (lw_V q349 q351 qs11 q70 q352) fy_yX0_numberNow rfl ⟨Nat.le_of_ble_eq_true rfl, Nat.le_of_ble_eq_true rfl⟩ (fs := [.int tr, .int gr, .ref L.a, .ref rn, .ref lr, .int fa, .ref sh]) hO (ci := 1) rfl rfl rfl (Nat.le_of_ble_eq_true rfl) rfl rfl ⟨Nat.zero_le _, Nat.zero_le _⟩ dX0_dayOf_125 (fun v125 f125 hp125 => ?_)
              obtain ⟨rfl, fr125, rfl⟩ := hp125
              have k125 := kp.up (Q := fun x _ => x ≠ rn) (.inl (g.2 0, 6, .inl fr125)) hN (fun z => z rfl)
              have kI125 := kp.up (Q := fun _ e => cE e ≠ 20) (.inl (g.2 0, 6, .inl fr125)) hN (fun z => z rfl)
              have hN125 := fU_s fx rn (.inl (g.2 0, 6, .inl fr125))
              obtain ⟨f125, hf125⟩ : ∃ z, z = fU fx rn (.inl (g.2 0, 6, .inl fr125)) := ⟨_, rfl⟩
              rw [← hf125] at k125 kI125 hN125 ⊢
              have hN := hN125
              have hO := kI125 _ _ (by show (1 : Nat) ≠ 20; decide) hO
              have hP := hP.of (fun x e q he => kI125 x e (ne20 q) he)
              show K f125 0 0 128 [some (.ref o), some (.ref ca), some (.int what), some (.int (oI wr)), some (.int jx)] [.int (nI (rnum L.n tx (L.n - 2)))]
              refine r_goto G 148 dX0_dayOf_128 (by decide) ?_
              exact r_iret G rfl ⟨Nat.zero_le _, Nat.zero_le _⟩ dX0_dayOf_148 ⟨rI (by rw [dayEnd, if_neg h52, hG]; subst h58; show _ = aTell L.n tx kd lx (dm L.n tx) what; unfold aTell; rw [if_neg hw10, if_neg (show ¬ what = nI 0 from h109), if_pos (show what = nI 2 from h121)]), by rw [hG]; exact hP, (hK.mono (fun x e q => q.2)).tr (k125.mono (fun x e q => q.1)), fr125, hN⟩
          · refine r_aload_n G dX0_dayOf_112 rfl ?_
            refine s_callV (b := o) G [] (xM_X0_longest hX hO hP hTd) (lw_V q341 q343 qs10 q70 q344) fy_yX0_longest rfl ⟨Nat.le_of_ble_eq_true rfl, Nat.le_of_ble_eq_true rfl⟩ (fs := [.int tr, .int gr, .ref L.a, .ref rn, .ref lr, .int fa, .ref sh]) hO (ci := 1) rfl rfl rfl (Nat.le_of_ble_eq_true rfl) rfl rfl ⟨Nat.zero_le _, Nat.zero_le _⟩ dX0_dayOf_113 ?_
            show K fx 0 0 116 [some (.ref o), some (.ref ca), some (.int what), some (.int (oI wr)), some (.int jx)] [.int (nI (maxN L.n (fun p => maxN L.n (dm L.n tx p))))]
            refine r_goto G 148 dX0_dayOf_116 (by decide) ?_
            exact r_iret G rfl ⟨Nat.zero_le _, Nat.zero_le _⟩ dX0_dayOf_148 ⟨rI (by rw [dayEnd, if_neg h52, hG]; subst h58; show _ = aTell L.n tx kd lx (dm L.n tx) what; unfold aTell; rw [if_neg hw10, if_pos (show what = nI 0 from h109)]), by rw [hG]; exact hP, hK.mono (fun x e q => q.2), fr0, hN⟩
        · have hw10 : nI 10 ≤ what := Int32.not_lt.mp h69
          refine r_aload_n G dX0_dayOf_72 rfl ?_
          refine r_iload_n G dX0_dayOf_73 rfl ?_
          refine r_bipush G (v := nI 10) dX0_dayOf_74 (by decide) ?_
          refine r_isub G (v := (what - (nI 10))) dX0_dayOf_76 rfl ?_
          refine s_callV (b := o) G [.int (what - (nI 10))] (xM_X0_noPost hX hO hP (what - (nI 10))) (lw_V q168 q170 qs0 q70 q171) fy_yX0_noPost rfl ⟨Nat.le_of_ble_eq_true rfl, Nat.le_of_ble_eq_true rfl⟩ (fs := [.int tr, .int gr, .ref L.a, .ref rn, .ref lr, .int fa, .ref sh]) hO (ci := 1) rfl rfl rfl (Nat.le_of_ble_eq_true rfl) rfl rfl ⟨Nat.zero_le _, Nat.zero_le _⟩ dX0_dayOf_77 ?_
          show K fx 0 0 80 [some (.ref o), some (.ref ca), some (.int what), some (.int (oI wr)), some (.int jx)] [.int (bI (!isP L.n (what - (nI 10))))]
          refine r_ifb_eq G 88  dX0_dayOf_80 (by decide) (fun h80 => ?_) (fun h80 => ?_)
          · have q80 : isP L.n (what - nI 10) = true := nt_f h80
            obtain ⟨jw, hjw, ejw0⟩ := isP_t (by omega) q80
            have ejw : ix (what - nI 10) = jw := by rw [ejw0]; exact ix_nI (by omega)
            refine r_aload_n G dX0_dayOf_88 rfl ?_
            refine r_getf G xCl1 (fs := [.int tr, .int gr, .ref L.a, .ref rn, .ref lr, .int fa, .ref sh]) hO 2 (by decide) q142 rfl rfl dX0_dayOf_89 ?_
            refine r_iload_n G dX0_dayOf_92 rfl ?_
            refine r_bipush G (v := nI 10) dX0_dayOf_93 (by decide) ?_
            refine r_isub G (v := (what - (nI 10))) dX0_dayOf_95 rfl ?_
            rw [ejw0]
            refine s_callF (b := L.a) G [.int (nI jw)] (xM_J2_get hX hP.1 jw hjw) (lw_F q186 q189 q191 q73 q193) (hX.fw 1 _ rfl) fx_1 rfl ⟨Nat.le_of_ble_eq_true rfl, Nat.le_of_ble_eq_true rfl⟩ (fs := [.int L.mc, .ref L.ea, .int (nI L.n)]) hP.1.1 (ci := 2) rfl rfl (Nat.le_of_ble_eq_true rfl) rfl rfl ⟨Nat.zero_le _, Nat.zero_le _⟩ dX0_dayOf_96 ?_
            show K fx 0 0 101 [some (.ref o), some (.ref ca), some (.int what), some (.int (oI wr)), some (.int jx)] [va_rf ((L.el jw))]
            rw [show va_rf (L.el jw) = .ref (pa jw) from by rw [(hP.2.2.2 jw hjw).1]; rfl]
            refine r_castP hX G (hP.2.2.2 jw hjw).2.2.1 (hP.2.2.2 jw hjw).2.1 q204 dX0_dayOf_101 ?_
            refine r_pget G (hP.2.2.2 jw hjw).2.2.1 (he := (hP.2.2.2 jw hjw).2.1) 1 (by decide) q538 pO_g1 dX0_dayOf_104 ?_
            exact r_iret G rfl ⟨Nat.zero_le _, Nat.zero_le _⟩ dX0_dayOf_107 ⟨rI (by rw [dayEnd, if_neg h52, hG]; subst h58; show _ = aTell L.n tx kd lx (dm L.n tx) what; unfold aTell; rw [if_pos hw10, if_pos q80, ejw]), by rw [hG]; exact hP, hK.mono (fun x e q => q.2), fr0, hN⟩
          · have q80 : isP L.n (what - nI 10) = false := nt_t h80
            refine r_bipush G (v := -9) dX0_dayOf_83 (by decide) ?_
            refine r_goto G 107 dX0_dayOf_85 (by decide) ?_
            exact r_iret G rfl ⟨Nat.zero_le _, Nat.zero_le _⟩ dX0_dayOf_107 ⟨rI (by rw [dayEnd, if_neg h52, hG]; subst h58; show _ = aTell L.n tx kd lx (dm L.n tx) what; unfold aTell; rw [if_pos hw10, if_neg (by rw [q80]; decide)]), by rw [hG]; exact hP, hK.mono (fun x e q => q.2), fr0, hN⟩
      · refine r_bipush G (v := -100) dX0_dayOf_61 (by decide) ?_
        refine r_iload_n G dX0_dayOf_63 rfl ?_
        refine r_isub G (v := ((-100) - (oI wr))) dX0_dayOf_64 rfl ?_
        exact r_iret G rfl ⟨Nat.zero_le _, Nat.zero_le _⟩ dX0_dayOf_65 ⟨rI (by rw [dayEnd, if_neg h52, hG]; cases wr with | none => exact absurd rfl h58 | some k => rfl), by rw [hG]; exact hP, hK.mono (fun x e q => q.2), fr0, hN⟩
    · refine r_iload_n G dX0_dayOf_55 rfl ?_
      exact r_iret G rfl ⟨Nat.zero_le _, Nat.zero_le _⟩ dX0_dayOf_56 ⟨rI (by rw [dayEnd, if_pos (show what = nI 1 from h52), hG]), by rw [hG]; exact hP, hK.mono (fun x e q => q.2), fr0, hN⟩
  have L6 : ∀ (fu : Nat) (fx : fH) (tx lx : Nat → Nat) (j : Nat), (xP g fx o L pa kd lx tx lk tk) → (kp (fun _ e => nPost (cE e) = true) f fx) → (∃ d, TM L.n tx d) → (j ≤ nn) → ((dgo L.n c nn 0 (tw, ld)) = dgo L.n c (nn - j) j (tx, lx)) → nn - j < fu → K fx 0 0 6 [some (.ref o), some (.ref ca), some (.int what), some (.int (-9)), some (.int (nI (2 * j)))] [] := by
    intro fu
    induction fu with
    | zero => intro fx tx lx j hP hK hTx hj hG hm6; exact absurd hm6 (Nat.not_lt_zero _)
    | succ fu6 ih6 =>
      intro fx tx lx j hP hK hTx hj hG hm6
      obtain ⟨dx, Tx⟩ := hTx
      have hO := hK _ _ rfl hO
      have hC := hK _ _ rfl hC
      have hN := hK _ _ rfl hN
      refine r_iload G dX0_dayOf_6 rfl ?_
      refine r_aload_n G dX0_dayOf_8 rfl ?_
      refine r_alen G (x := (2 * nn, .inl c)) 0 rfl hC (v := (nI (2 * nn))) rfl dX0_dayOf_9 ?_
      refine r_icmp_ge G 50 (nI_leI (by omega) (by omega)) dX0_dayOf_10 (by decide) (fun h10 => ?_) (fun h10 => ?_)
      · exact T50 _ tx lx none _ hP hK ⟨dx, Tx⟩ (by rw [hG, show nn - j = 0 by omega]; rfl) (fun k h => by cases h)
      · refine r_iload_n G dX0_dayOf_13 rfl ?_
        refine r_if_ge G 50 Iff.rfl dX0_dayOf_14 (by decide) (fun h14 => False.elim ((by decide : ¬ (0 : Int32) ≤ -9) h14)) (fun h14 => ?_)
        refine r_aload_n G dX0_dayOf_17 rfl ?_
        refine r_aload_n G dX0_dayOf_18 rfl ?_
        refine r_iload G dX0_dayOf_19 rfl ?_
        refine r_iald G (n := 2 * nn) (fn := c) hC (vp_in_nI (by omega) (by omega)) (v := (c (2 * j))) (by rw [nI_clamp (by omega)]) dX0_dayOf_21 ?_
        refine r_aload_n G dX0_dayOf_22 rfl ?_
        refine r_iload G dX0_dayOf_23 rfl ?_
        refine r_iconst G (v := nI 1) dX0_dayOf_25 (by decide) ?_
        refine r_iadd G (v := (nI ((2 * j) + 1))) dX0_dayOf_26 (nI_add (2 * j) 1) ?_
        refine r_iald G (n := 2 * nn) (fn := c) hC (vp_in_nI (by omega) (by omega)) (v := (c (2 * j + 1))) (by rw [nI_clamp (by omega)]) dX0_dayOf_27 ?_
        refine r_callV (b := o) G [.int (c (2 * j)), .int (c (2 * j + 1))] (xM_X0_did hX hO hP hAp Tx.nl (c (2 * j)) (c (2 * j + 1)) (fun hc => pRef_0 (hpre j (by omega)) hc)) (lw_V q986 q988 qs37 q70 q989) fy_yX0_did rfl ⟨Nat.le_of_ble_eq_true rfl, Nat.le_of_ble_eq_true rfl⟩ (fs := [.int tr, .int gr, .ref L.a, .ref rn, .ref lr, .int fa, .ref sh]) hO (ci := 1) rfl rfl rfl (Nat.le_of_ble_eq_true rfl) rfl rfl ⟨Nat.zero_le _, Nat.zero_le _⟩ dX0_dayOf_28 (fun v28 f28 hp28 => ?_)
        obtain ⟨rfl, hPn, k28⟩ := hp28
        have hO := k28 _ _ rfl hO
        have hC := k28 _ _ rfl hC
        have hN := k28 _ _ rfl hN
        have hK := kp.tr hK k28
        have hP := hPn
        show K f28 0 0 31 [some (.ref o), some (.ref ca), some (.int what), some (.int (-9)), some (.int (nI (2 * j)))] [.int (bI (doOk L.n tx (c (2 * j)) (c (2 * j + 1))))]
        refine r_ifb_eq G 39  dX0_dayOf_31 (by decide) (fun h31 => ?_) (fun h31 => ?_)
        · refine r_iload G dX0_dayOf_39 rfl ?_
          refine r_iconst G (v := nI 2) dX0_dayOf_41 (by decide) ?_
          refine r_idiv G (v := (nI j)) dX0_dayOf_42 (by decide) (by rw [pk_div (by omega) (by omega) (by omega)]; congr 1; omega) ?_
          refine r_istore_n G (lo' := [some (.ref o), some (.ref ca), some (.int what), some (.int (nI j)), some (.int (nI (2 * j)))]) dX0_dayOf_43 rfl rfl ?_
          refine r_iinc G (v := (nI ((2 * j) + 2))) (lo' := [some (.ref o), some (.ref ca), some (.int what), some (.int (nI j)), some (.int (nI ((2 * j) + 2)))]) dX0_dayOf_44 rfl (nI_add (2 * j) 2) rfl rfl ?_
          refine r_goto G 6 dX0_dayOf_47 (by decide) ?_
          refine r_iload G dX0_dayOf_6 rfl ?_
          refine r_aload_n G dX0_dayOf_8 rfl ?_
          refine r_alen G (x := (2 * nn, .inl c)) 0 rfl hC (v := (nI (2 * nn))) rfl dX0_dayOf_9 ?_
          refine r_icmp_ge G 50 (nI_leI (by omega) (by omega)) dX0_dayOf_10 (by decide) (fun h10b => ?_) (fun h10b => ?_)
          · exact T50 _ _ _ (some j) _ hP hK (doT_tm hn8 ⟨dx, Tx⟩ _ _) (by rw [hG, show nn - j = (nn - (j + 1)) + 1 by omega, dgo_f (s := (tx, lx)) h31, doT_no h31, doL_no h31]) (fun k h => by cases h; omega)
          · refine r_iload_n G dX0_dayOf_13 rfl ?_
            refine r_if_ge G 50 Iff.rfl dX0_dayOf_14 (by decide) (fun h14 => ?_) (fun h14 => False.elim (h14 ((n_ge0 (by omega)).mpr (Nat.zero_le _))))
            exact T50 _ _ _ (some j) _ hP hK (doT_tm hn8 ⟨dx, Tx⟩ _ _) (by rw [hG, show nn - j = (nn - (j + 1)) + 1 by omega, dgo_f (s := (tx, lx)) h31, doT_no h31, doL_no h31]) (fun k h => by cases h; omega)
        · refine r_bipush G (v := -9) dX0_dayOf_34 (by decide) ?_
          refine r_goto G 43 dX0_dayOf_36 (by decide) ?_
          refine r_istore_n G (lo' := [some (.ref o), some (.ref ca), some (.int what), some (.int (-9)), some (.int (nI (2 * j)))]) dX0_dayOf_43 rfl rfl ?_
          refine r_iinc G (v := (nI ((2 * j) + 2))) (lo' := [some (.ref o), some (.ref ca), some (.int what), some (.int (-9)), some (.int (nI ((2 * j) + 2)))]) dX0_dayOf_44 rfl (nI_add (2 * j) 2) rfl rfl ?_
          refine r_goto G 6 dX0_dayOf_47 (by decide) ?_
          exact ih6 _ _ _ (j + 1) hP hK (doT_tm hn8 ⟨dx, Tx⟩ _ _) (by omega) (by rw [hG, show nn - j = (nn - (j + 1)) + 1 by omega]; exact dgo_s (s := (tx, lx)) h31) (by omega)
  exact L6 (nn + 1) f tw ld 0 hP hK hTt (Nat.zero_le _) (by rw [Nat.sub_zero]) (by omega)
theorem xP.wrK {g : fG} {f : fH} {o : Nat} {L : xLs} {pa kd ld tw : Nat → Nat} {lk tk : Nat → Int32} (h : xP g f o L pa kd ld tw lk tk) {p : Nat} (hp : p < L.n) : xP g (fU f (pa p) (.inr (3 + kd p, pO (kd p) o (ld p) (tw p) (nI (ld p)) (nI (tw p))))) o L pa kd ld tw (upd lk p (nI (ld p))) (upd tk p (nI (tw p))) := by
  have := h.wr hp (h.ld9 hp) (h.twl hp) (lk' := nI (ld p)) (tk' := nI (tw p))
  rw [fup_id, fup_id] at this
  exact this
set_option maxHeartbeats 4000000 in
theorem xM_X0_dayBy {l : Launch} {g : fG} {A : Nat → Prop} {En : State → Prop} {zd : Nat} (hX : fX zd g A En) {f : fH} {o : Nat} {tr gr fa : Int32} {rn lr sh : Nat} {L : xLs} {pa kd ld tw : Nat → Nat} {lk tk : Nat → Int32} (hO : f o = some (.inr (1, xF tr gr L.a rn lr fa sh))) (hP : xP g f o L pa kd ld tw lk tk) (hAp : ∀ p, p < L.n → A (pa p)) {fr0 : Nat → Int32} (hN : f rn = some (.inl (g.2 0, 6, .inl fr0))) (hAn : A rn) {d : Nat → Nat → Nat} (T : TM L.n tw d) (h2n : 2 ≤ L.n) {ca nn : Nat} {c : Nat → Int32} (hC : f ca = some (.inl (g.2 0, 2 * nn, .inl c))) (hnn : nn ≤ 20) (hpre : ∀ k, k < nn → pRef L.n (c (2 * k)) (c (2 * k + 1)) = 0) (what : Int32): fC l g A En yX0_dayBy cX0_dayBy 5 (some .int) (fR 15) [.ref o, .ref ca, .int what] f (fun v f' => v = some (.int (dayEnd L.n kd (dgo L.n c nn 0 (tw, ld)) what)) ∧ (∃ lk' tk', xP g f' o L pa kd ld tw lk' tk') ∧ kp (fun x e => x ≠ rn ∧ nPost (cE e) = true) f f' ∧ ∃ fr, f' rn = some (.inl (g.2 0, 6, .inl fr))) := by
  have hE := hX.E
  refine fC.of (by decide) hX.E [some (.ref o), some (.ref ca), some (.int what), none, none] rfl rfl (fun K G => ?_)
  have G : fGood l g A En RX0 "dayBy" cX0_dayBy 5 (some .int) (fR 15) _ K := G
  have hn8 := hP.2.1
  have hK : kp (fun _ e => nPost (cE e) = true) f f := kp.rf f
  have hon : o ≠ rn := fun z => by rw [z, hN] at hO; cases hO
  have hld9 : ∀ p, p < L.n → ld p ≤ 9 := fun p hp => hP.ld9 hp
  have htwl : ∀ p, p < L.n → tw p < 2 ^ L.n := fun p hp => hP.twl hp
  refine r_iconst G (v := nI 0) dX0_dayBy_0 (by decide) ?_
  refine r_istore_n G (lo' := [some (.ref o), some (.ref ca), some (.int what), some (.int (nI 0)), none]) dX0_dayBy_1 rfl rfl ?_
  have L2 : ∀ (fu : Nat) (fx : fH) (lx tx : Nat → Int32) (p : Nat), (xP g fx o L pa kd ld tw lx tx) → (kp (fun _ e => nPost (cE e) = true) f fx) → (p ≤ L.n) → (∀ q, q < p → lx q = nI (ld q) ∧ tx q = nI (tw q)) → L.n - p < fu → K fx 0 0 2 [some (.ref o), some (.ref ca), some (.int what), some (.int (nI p)), none] [] := by
    intro fu
    induction fu with
    | zero => intro fx lx tx p hP hK hp hq hm2; exact absurd hm2 (Nat.not_lt_zero _)
    | succ fu2 ih2 =>
      intro fx lx tx p hP hK hp hq hm2
      have hO := hK _ _ rfl hO
      have hC := hK _ _ rfl hC
      have hN := hK _ _ rfl hN
      refine r_iload_n G dX0_dayBy_2 rfl ?_
      refine r_aload_n G dX0_dayBy_3 rfl ?_
      refine r_getf G xCl1 (fs := [.int tr, .int gr, .ref L.a, .ref rn, .ref lr, .int fa, .ref sh]) hO 2 (by decide) q142 rfl rfl dX0_dayBy_4 ?_
      refine s_callF (b := L.a) G [] (xM_J2_size hX hP.1) (lw_F q173 q177 q179 q73 q181) (hX.fw 0 _ rfl) fx_0 rfl ⟨Nat.le_of_ble_eq_true rfl, Nat.le_of_ble_eq_true rfl⟩ (fs := [.int L.mc, .ref L.ea, .int (nI L.n)]) hP.1.1 (ci := 2) rfl rfl (Nat.le_of_ble_eq_true rfl) rfl rfl ⟨Nat.zero_le _, Nat.zero_le _⟩ dX0_dayBy_7 ?_
      show K fx 0 0 12 [some (.ref o), some (.ref ca), some (.int what), some (.int (nI p)), none] [.int (nI L.n), .int (nI p)]
      refine r_icmp_ge G 37 (nI_leI (by omega) (by omega)) dX0_dayBy_12 (by decide) (fun h12 => ?_) (fun h12 => ?_)
      · have hP := hP.cong (ld' := ld) (tw' := tw) (lk' := fun q => nI (ld q)) (tk' := fun q => nI (tw q)) (fun q hq2 => ⟨rfl, rfl, (hq q (by omega)).1.symm, (hq q (by omega)).2.symm⟩)
        refine r_aload_n G dX0_dayBy_37 rfl ?_
        refine r_aload_n G dX0_dayBy_38 rfl ?_
        refine r_iload_n G dX0_dayBy_39 rfl ?_
        refine r_callV (b := o) G [.ref ca, .int what] (xM_X0_dayOf hX hO hP hAp hN hAn ⟨_, T⟩ h2n hC hnn hpre what) (lw_V q982 q984 qs36 q70 q985) fy_yX0_dayOf rfl ⟨Nat.le_of_ble_eq_true rfl, Nat.le_of_ble_eq_true rfl⟩ (fs := [.int tr, .int gr, .ref L.a, .ref rn, .ref lr, .int fa, .ref sh]) hO (ci := 1) rfl rfl rfl (Nat.le_of_ble_eq_true rfl) rfl rfl ⟨Nat.zero_le _, Nat.zero_le _⟩ dX0_dayBy_40 (fun v40 f40 hp40 => ?_)
        obtain ⟨rfl, hPn, k40, fr40, hN40⟩ := hp40
        have hon : o ≠ rn := fun z => by rw [z, hN] at hO; cases hO
        have hO := k40 _ _ ⟨hon, rfl⟩ hO
        have hP := hPn
        have hN := hN40
        show K f40 0 0 43 [some (.ref o), some (.ref ca), some (.int what), some (.int (nI p)), none] [.int (dayEnd L.n kd (dgo L.n c nn 0 (tw, ld)) what)]
        refine r_istore_n G (lo' := [some (.ref o), some (.ref ca), some (.int what), some (.int (dayEnd L.n kd (dgo L.n c nn 0 (tw, ld)) what)), none]) dX0_dayBy_43 rfl rfl ?_
        refine r_iconst G (v := nI 0) dX0_dayBy_44 (by decide) ?_
        refine r_istore G (lo' := [some (.ref o), some (.ref ca), some (.int what), some (.int (dayEnd L.n kd (dgo L.n c nn 0 (tw, ld)) what)), some (.int (nI 0))]) dX0_dayBy_45 rfl rfl ?_
        have hKD := (hK.mono (fun x e q => q.2)).tr k40
        have L47 : ∀ (fu : Nat) (fx : fH) (lx tx : Nat → Nat) (p : Nat), (xP g fx o L pa kd lx tx (fun q => nI (ld q)) (fun q => nI (tw q))) → (kp (fun _ e => nPost (cE e) = true) f40 fx) → (p ≤ L.n) → (∀ q, q < p → lx q = ld q ∧ tx q = tw q) → L.n - p < fu → K fx 0 0 47 [some (.ref o), some (.ref ca), some (.int what), some (.int (dayEnd L.n kd (dgo L.n c nn 0 (tw, ld)) what)), some (.int (nI p))] [] := by
          intro fu
          induction fu with
          | zero => intro fx lx tx p hP hK hp hq hm47; exact absurd hm47 (Nat.not_lt_zero _)
          | succ fu47 ih47 =>
            intro fx lx tx p hP hK hp hq hm47
            have hO := hK _ _ rfl hO
            have hN := hK _ _ rfl hN
            refine r_iload G dX0_dayBy_47 rfl ?_
            refine r_aload_n G dX0_dayBy_49 rfl ?_
            refine r_getf G xCl1 (fs := [.int tr, .int gr, .ref L.a, .ref rn, .ref lr, .int fa, .ref sh]) hO 2 (by decide) q142 rfl rfl dX0_dayBy_50 ?_
            refine s_callF (b := L.a) G [] (xM_J2_size hX hP.1) (lw_F q173 q177 q179 q73 q181) (hX.fw 0 _ rfl) fx_0 rfl ⟨Nat.le_of_ble_eq_true rfl, Nat.le_of_ble_eq_true rfl⟩ (fs := [.int L.mc, .ref L.ea, .int (nI L.n)]) hP.1.1 (ci := 2) rfl rfl (Nat.le_of_ble_eq_true rfl) rfl rfl ⟨Nat.zero_le _, Nat.zero_le _⟩ dX0_dayBy_53 ?_
            show K fx 0 0 58 [some (.ref o), some (.ref ca), some (.int what), some (.int (dayEnd L.n kd (dgo L.n c nn 0 (tw, ld)) what)), some (.int (nI p))] [.int (nI L.n), .int (nI p)]
            refine r_icmp_ge G 84 (nI_leI (by omega) (by omega)) dX0_dayBy_58 (by decide) (fun h58 => ?_) (fun h58 => ?_)
            · refine r_iload_n G dX0_dayBy_84 rfl ?_
              exact r_iret G rfl ⟨Nat.zero_le _, Nat.zero_le _⟩ dX0_dayBy_85 ⟨rfl, ⟨_, _, hP.cong (ld' := ld) (tw' := tw) (fun q hq2 => ⟨(hq q (by omega)).1.symm, (hq q (by omega)).2.symm, rfl, rfl⟩)⟩, hKD.tr (hK.mono (fun x e q => q.2)), _, hN⟩
            · refine r_aload_n G dX0_dayBy_61 rfl ?_
              refine r_getf G xCl1 (fs := [.int tr, .int gr, .ref L.a, .ref rn, .ref lr, .int fa, .ref sh]) hO 2 (by decide) q142 rfl rfl dX0_dayBy_62 ?_
              refine r_iload G dX0_dayBy_65 rfl ?_
              refine s_callF (b := L.a) G [.int (nI p)] (xM_J2_get hX hP.1 p (by omega)) (lw_F q186 q189 q191 q73 q193) (hX.fw 1 _ rfl) fx_1 rfl ⟨Nat.le_of_ble_eq_true rfl, Nat.le_of_ble_eq_true rfl⟩ (fs := [.int L.mc, .ref L.ea, .int (nI L.n)]) hP.1.1 (ci := 2) rfl rfl (Nat.le_of_ble_eq_true rfl) rfl rfl ⟨Nat.zero_le _, Nat.zero_le _⟩ dX0_dayBy_67 ?_
              show K fx 0 0 72 [some (.ref o), some (.ref ca), some (.int what), some (.int (dayEnd L.n kd (dgo L.n c nn 0 (tw, ld)) what)), some (.int (nI p))] [va_rf ((L.el p))]
              rw [show va_rf (L.el p) = .ref (pa p) from by rw [(hP.2.2.2 p (by omega)).1]; rfl]
              refine r_castP hX G (hP.2.2.2 p (by omega)).2.2.1 (hP.2.2.2 p (by omega)).2.1 q204 dX0_dayBy_72 ?_
              refine r_callK G (hP.2.2.2 p (by omega)).2.2.1 (hP.2.2.2 p (by omega)).2.1 [] (fun _ => xM_X5_broughtBack hX (l0 := ld p) (t0 := tw p) (hP.2.2.2 p (by omega)).2.2.1 (hAp p (by omega)) (hP.2.2.2 p (by omega)).2.1) (fun _ => xM_X5_broughtBack hX (l0 := ld p) (t0 := tw p) (hP.2.2.2 p (by omega)).2.2.1 (hAp p (by omega)) (hP.2.2.2 p (by omega)).2.1) (fun _ => xM_X5_broughtBack hX (l0 := ld p) (t0 := tw p) (hP.2.2.2 p (by omega)).2.2.1 (hAp p (by omega)) (hP.2.2.2 p (by omega)).2.1) (lw_O q995 q998 q996 q997 q996 q90 q1001) (lw_O q995 q998 q996 q999 q996 q90 q1001) (lw_O q995 q998 q996 q1000 q996 q90 q1001) q1001 (by decide +kernel) rfl ⟨⟨Nat.le_of_ble_eq_true rfl, Nat.le_of_ble_eq_true rfl⟩, ⟨Nat.le_of_ble_eq_true rfl, Nat.le_of_ble_eq_true rfl⟩, ⟨Nat.le_of_ble_eq_true rfl, Nat.le_of_ble_eq_true rfl⟩⟩ rfl (Nat.le_of_ble_eq_true rfl) ⟨Nat.zero_le _, Nat.zero_le _⟩ dX0_dayBy_75 (fun v75 f75 hp75 => ?_)
              obtain ⟨rfl, rfl⟩ := hp75
              obtain ⟨fy, hfy⟩ : ∃ z, z = fU fx (pa p) (.inr (3 + kd p, pO (kd p) o (ld p) (tw p) (nI (ld p)) (nI (tw p)))) := ⟨_, rfl⟩
              have kfy := hP.kup (p := p) (by omega) (.inr (3 + kd p, pO (kd p) o (ld p) (tw p) (nI (ld p)) (nI (tw p))))
              have hPn := hP.wr (p := p) (by omega) (hld9 p (by omega)) (htwl p (by omega)) (lk' := nI (ld p)) (tk' := nI (tw p))
              rw [← hfy] at kfy hPn ⊢
              have hO := kfy _ _ rfl hO
              have hN := kfy _ _ rfl hN
              have hK := kp.tr hK kfy
              have hP := hPn
              show K fy 0 0 78 [some (.ref o), some (.ref ca), some (.int what), some (.int (dayEnd L.n kd (dgo L.n c nn 0 (tw, ld)) what)), some (.int (nI p))] []
              refine r_iinc G (v := (nI (p + 1))) (lo' := [some (.ref o), some (.ref ca), some (.int what), some (.int (dayEnd L.n kd (dgo L.n c nn 0 (tw, ld)) what)), some (.int (nI (p + 1)))]) dX0_dayBy_78 rfl (nI_add p 1) rfl rfl ?_
              refine r_goto G 47 dX0_dayBy_81 (by decide) ?_
              exact ih47 _ _ _ (p + 1) (hP.cong (fun q hq2 => ⟨rfl, rfl, (congrFun (upd_id (fun q => nI (ld q)) p) q).symm, (congrFun (upd_id (fun q => nI (tw q)) p) q).symm⟩)) hK (by omega) (fun q hq2 => (Classical.em (q = p)).elim (fun e => by rw [e, fup_s, fup_s]; exact ⟨rfl, rfl⟩) (fun e => by rw [fup_n e, fup_n e]; exact hq q (by omega))) (by omega)
        exact L47 (L.n + 1) f40 (dgo L.n c nn 0 (tw, ld)).2.2 (dgo L.n c nn 0 (tw, ld)).2.1 0 hP (kp.rf _) (Nat.zero_le _) (fun q h => absurd h (Nat.not_lt_zero _)) (by omega)
      · refine r_aload_n G dX0_dayBy_15 rfl ?_
        refine r_getf G xCl1 (fs := [.int tr, .int gr, .ref L.a, .ref rn, .ref lr, .int fa, .ref sh]) hO 2 (by decide) q142 rfl rfl dX0_dayBy_16 ?_
        refine r_iload_n G dX0_dayBy_19 rfl ?_
        refine s_callF (b := L.a) G [.int (nI p)] (xM_J2_get hX hP.1 p (by omega)) (lw_F q186 q189 q191 q73 q193) (hX.fw 1 _ rfl) fx_1 rfl ⟨Nat.le_of_ble_eq_true rfl, Nat.le_of_ble_eq_true rfl⟩ (fs := [.int L.mc, .ref L.ea, .int (nI L.n)]) hP.1.1 (ci := 2) rfl rfl (Nat.le_of_ble_eq_true rfl) rfl rfl ⟨Nat.zero_le _, Nat.zero_le _⟩ dX0_dayBy_20 ?_
        show K fx 0 0 25 [some (.ref o), some (.ref ca), some (.int what), some (.int (nI p)), none] [va_rf ((L.el p))]
        rw [show va_rf (L.el p) = .ref (pa p) from by rw [(hP.2.2.2 p (by omega)).1]; rfl]
        refine r_castP hX G (hP.2.2.2 p (by omega)).2.2.1 (hP.2.2.2 p (by omega)).2.1 q204 dX0_dayBy_25 ?_
        refine r_callK G (hP.2.2.2 p (by omega)).2.2.1 (hP.2.2.2 p (by omega)).2.1 [] (fun _ => xM_X5_kept hX (hP.2.2.2 p (by omega)).2.2.1 (hAp p (by omega)) (hP.2.2.2 p (by omega)).2.1) (fun _ => xM_X5_kept hX (hP.2.2.2 p (by omega)).2.2.1 (hAp p (by omega)) (hP.2.2.2 p (by omega)).2.1) (fun _ => xM_X5_kept hX (hP.2.2.2 p (by omega)).2.2.1 (hAp p (by omega)) (hP.2.2.2 p (by omega)).2.1) (lw_O q975 q978 q976 q977 q976 q90 q981) (lw_O q975 q978 q976 q979 q976 q90 q981) (lw_O q975 q978 q976 q980 q976 q90 q981) q981 (by decide +kernel) rfl ⟨⟨Nat.le_of_ble_eq_true rfl, Nat.le_of_ble_eq_true rfl⟩, ⟨Nat.le_of_ble_eq_true rfl, Nat.le_of_ble_eq_true rfl⟩, ⟨Nat.le_of_ble_eq_true rfl, Nat.le_of_ble_eq_true rfl⟩⟩ rfl (Nat.le_of_ble_eq_true rfl) ⟨Nat.zero_le _, Nat.zero_le _⟩ dX0_dayBy_28 (fun v28 f28 hp28 => ?_)
        obtain ⟨rfl, rfl⟩ := hp28
        obtain ⟨fy, hfy⟩ : ∃ z, z = fU fx (pa p) (.inr (3 + kd p, pO (kd p) o (ld p) (tw p) (nI (ld p)) (nI (tw p)))) := ⟨_, rfl⟩
        have kfy := hP.kup (p := p) (by omega) (.inr (3 + kd p, pO (kd p) o (ld p) (tw p) (nI (ld p)) (nI (tw p))))
        have hPn := hP.wrK (p := p) (by omega)
        rw [← hfy] at kfy hPn ⊢
        have hO := kfy _ _ rfl hO
        have hC := kfy _ _ rfl hC
        have hN := kfy _ _ rfl hN
        have hK := kp.tr hK kfy
        have hP := hPn
        show K fy 0 0 31 [some (.ref o), some (.ref ca), some (.int what), some (.int (nI p)), none] []
        refine r_iinc G (v := (nI (p + 1))) (lo' := [some (.ref o), some (.ref ca), some (.int what), some (.int (nI (p + 1))), none]) dX0_dayBy_31 rfl (nI_add p 1) rfl rfl ?_
        refine r_goto G 2 dX0_dayBy_34 (by decide) ?_
        exact ih2 _ _ _ (p + 1) hP hK (by omega) (fun q hq2 => (Classical.em (q = p)).elim (fun e => by rw [e, pk_us, pk_us]; exact ⟨rfl, rfl⟩) (fun e => by rw [pk_un e, pk_un e]; exact hq q (by omega))) (by omega)
  exact L2 (L.n + 1) f lk tk 0 hP hK (Nat.zero_le _) (fun q h => absurd h (Nat.not_lt_zero _)) (by omega)
end XX18
