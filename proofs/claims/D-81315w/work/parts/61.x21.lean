/-! the component: what is told, readings -/
set_option maxRecDepth 100000
section XX21
theorem fC.mono {l : Launch} {g : fG} {A : Nat → Prop} {En : State → Prop} {y : MethodName} {cc : ByteArray} {nL : Nat} {ret : Option FieldType} {rm : Room} {av : List Value} {f : fH} {Post Post' : Option Value → fH → Prop} (h : fC l g A En y cc nL ret rm av f Post) (k : ∀ v f', Post v f' → Post' v f') : fC l g A En y cc nL ret rm av f Post' := by
  intro p e h1 h2 h3 s m args below hf ha hp hk
  obtain ⟨n, o, w, r, en, ⟨⟨⟨rv, f', e1, hP, hW, hE⟩, hF⟩, hL⟩⟩ := h p e h1 h2 h3 s m args below hf ha hp hk
  exact ⟨n, o, w, r, en, ⟨⟨⟨rv, f', e1, k rv f' hP, hW, hE⟩, hF⟩, hL⟩⟩
/-- a contract serves in any larger world -/
theorem fC.sub {l : Launch} {g : fG} {A : Nat → Prop} {En : State → Prop} {y : MethodName} {cc : ByteArray} {nL : Nat} {ret : Option FieldType} {rm : Room} {av : List Value} {f f1 : fH} {Post : Option Value → fH → Prop} (h : fC l g A En y cc nL ret rm av f Post) (k : ∀ x e, f x = some e → f1 x = some e) : fC l g A En y cc nL ret rm av f1 Post := by
  intro p e h1 h2 h3 s m args below hf ha hp hk
  exact h p e h1 h2 h3 s m args below hf ha ⟨hp.1, fun a z hz => hp.2.1 a z (k a z hz), hp.2.2⟩ hk
theorem ne_po {f : fH} {a o k : Nat} {fs gs : List Value} (h : f a = some (.inr (3 + k, fs))) (h' : f o = some (.inr (1, gs))) : a ≠ o := by
  rintro rfl
  rw [h] at h'
  injection h' with h'
  injection h' with h'
  injection h' with h' _
  omega
theorem xM_X5_trd {l : Launch} {g : fG} {A : Nat → Prop} {En : State → Prop} {zd : Nat} (hX : fX zd g A En) {f : fH} {kd o ld tw : Nat} {lk tk : Int32} (hk : kd ≤ 2) {a : Nat} (hP : f a = some (.inr (3 + kd, pO kd o ld tw lk tk))) {tr gr fa : Int32} {lp rn lr sh : Nat} (hAo : A o) (hO : f o = some (.inr (1, xF tr gr lp rn lr fa sh))) (n : Nat) : fC l g A En yX5_tracedBy cX5_tracedBy 2 (some .int) (fR 0) [.ref a, .int (nI n)] f (fun v f' => v = some (.int 0) ∧ f' o = some (.inr (1, xF (tr1 tr n) gr lp rn lr fa sh)) ∧ kp (fun x _ => x ≠ o) f f') := by
  refine (xM_X5_tracedBy hX hk hP hAo hO (nI n)).mono ?_
  rintro v f' ⟨rfl, rfl⟩
  exact ⟨rfl, fU_s _ _ _, kp.up _ hO (fun z => z rfl)⟩
theorem z_add (x : Int32) : (0 : Int32) + x = x := by simp
set_option maxHeartbeats 4000000 in
theorem xM_X5_said {l : Launch} {g : fG} {A : Nat → Prop} {En : State → Prop} {zd : Nat} (hX : fX zd g A En) {f : fH} {kd o ld tw : Nat} {lk tk : Int32} (hk : kd ≤ 2) {a : Nat} (hP : f a = some (.inr (3 + kd, pO kd o ld tw lk tk))) {tr gr fa : Int32} {lp rn lr sh : Nat} (hAo : A o) (hO : f o = some (.inr (1, xF tr gr lp rn lr fa sh))): fC l g A En yX5_said cX5_said 1 (some .int) (fR 1) [.ref a] f (fun v f' => v = some (.int (nI ld)) ∧ f' o = some (.inr (1, xF (tr1 tr 1) gr lp rn lr fa sh)) ∧ kp (fun x _ => x ≠ o) f f') := by
  have hE := hX.E
  refine fC.of (by decide) hX.E [some (.ref a)] rfl rfl (fun K G => ?_)
  have G : fGood l g A En RX5 "said" cX5_said 1 (some .int) (fR 1) _ K := G
  have hne : a ≠ o := ne_po hP hO
  have hK : kp (fun x _ => x ≠ o) f f := kp.rf f
  refine r_aload_n G dX5_said_0 rfl ?_
  refine r_iconst G (v := nI 1) dX5_said_1 (by decide) ?_
  refine r_callK G hk hP [.int (nI 1)] (fun _ => xM_X5_trd hX hk hP hAo hO 1) (fun _ => xM_X5_trd hX hk hP hAo hO 1) (fun _ => xM_X5_trd hX hk hP hAo hO 1) (lw_O q1087 q1535 q1083 q1538 q1083 q90 q1084) (lw_O q1087 q1535 q1083 q1536 q1083 q90 q1084) (lw_O q1087 q1535 q1083 q1537 q1083 q90 q1084) q1084 (by decide +kernel) rfl ⟨⟨Nat.le_of_ble_eq_true rfl, Nat.le_of_ble_eq_true rfl⟩, ⟨Nat.le_of_ble_eq_true rfl, Nat.le_of_ble_eq_true rfl⟩, ⟨Nat.le_of_ble_eq_true rfl, Nat.le_of_ble_eq_true rfl⟩⟩ rfl (Nat.le_of_ble_eq_true rfl) ⟨Nat.zero_le _, Nat.zero_le _⟩ dX5_said_2 (fun v2 f2 hp2 => ?_)
  obtain ⟨rfl, hOn, kT2⟩ := hp2
  have hP := kT2 _ _ hne hP
  have hO := hOn
  have hK := kp.tr hK kT2
  show K f2 0 0 5 [some (.ref a)] [.int 0]
  refine r_aload_n G dX5_said_5 rfl ?_
  refine r_pget G hk (he := hP) 0 (by decide) q530 pO_g0 dX5_said_6 ?_
  refine r_iadd G (v := (nI ld)) dX5_said_9 (z_add _) ?_
  exact r_iret G rfl ⟨Nat.zero_le _, Nat.zero_le _⟩ dX5_said_10 ⟨rfl, hO, hK⟩
set_option maxHeartbeats 4000000 in
theorem xM_X6_said_1 {l : Launch} {g : fG} {A : Nat → Prop} {En : State → Prop} {zd : Nat} (hX : fX zd g A En) {f : fH} {o ld tw : Nat} {lk tk : Int32} {a : Nat} (hP : f a = some (.inr (3 + 1, pO 1 o ld tw lk tk))) {tr gr fa : Int32} {lp rn lr sh : Nat} (hAo : A o) (hO : f o = some (.inr (1, xF tr gr lp rn lr fa sh))): fC l g A En yX6_said cX6_said 1 (some .int) (fR 2) [.ref a] f (fun v f' => v = some (.int (nI (ld + 100))) ∧ f' o = some (.inr (1, xF (tr1 (tr1 tr 2) 1) gr lp rn lr fa sh)) ∧ kp (fun x _ => x ≠ o) f f') := by
  have hE := hX.E
  refine fC.of (by decide) hX.E [some (.ref a)] rfl rfl (fun K G => ?_)
  have G : fGood l g A En RX6 "said" cX6_said 1 (some .int) (fR 2) _ K := G
  have hne : a ≠ o := ne_po hP hO
  have hK : kp (fun x _ => x ≠ o) f f := kp.rf f
  refine r_aload_n G dX6_said_0 rfl ?_
  refine r_iconst G (v := nI 2) dX6_said_1 (by decide) ?_
  refine r_callU G [.int (nI 2)] (xM_X5_trd hX (kd := 1) (by decide) hP hAo hO 2) (lw_U q1078 q1079 q1081 q1083 q90 q1084) rfl ⟨by decide, by decide, by decide +kernel⟩ rfl ⟨Nat.le_of_ble_eq_true rfl, Nat.le_of_ble_eq_true rfl⟩ hP (ci := 3 + 1) rfl rfl (Nat.le_of_ble_eq_true rfl) rfl rfl ⟨Nat.zero_le _, Nat.zero_le _⟩ dX6_said_2 (fun v2 f2 hp2 => ?_)
  obtain ⟨rfl, hOn, kT2⟩ := hp2
  have hP := kT2 _ _ hne hP
  have hO := hOn
  have hK := kp.tr hK kT2
  show K f2 0 0 5 [some (.ref a)] [.int 0]
  refine r_aload_n G dX6_said_5 rfl ?_
  refine r_callSU G [] (xM_X5_said hX (kd := 1) (by decide) hP hAo hO) (lw_SU q1085 q1074 q230 q1072 q90 q1086) ⟨by decide, by decide +kernel⟩ rfl ⟨Nat.le_of_ble_eq_true rfl, Nat.le_of_ble_eq_true rfl⟩ hP (ci := 3 + 1) rfl rfl (Nat.le_of_ble_eq_true rfl) rfl rfl ⟨Nat.zero_le _, Nat.zero_le _⟩ dX6_said_6 (fun v6 f6 hp6 => ?_)
  obtain ⟨rfl, hOn, kT6⟩ := hp6
  have hP := kT6 _ _ hne hP
  have hO := hOn
  have hK := kp.tr hK kT6
  show K f6 0 0 9 [some (.ref a)] [.int (nI ld), .int 0]
  refine r_iadd G (v := (nI ld)) dX6_said_9 (z_add _) ?_
  refine r_bipush G (v := nI 100) dX6_said_10 (by decide) ?_
  refine r_iadd G (v := (nI (ld + 100))) dX6_said_12 (nI_add ld 100) ?_
  exact r_iret G rfl ⟨Nat.zero_le _, Nat.zero_le _⟩ dX6_said_13 ⟨rfl, hO, hK⟩
set_option maxHeartbeats 4000000 in
theorem xM_X6_said_2 {l : Launch} {g : fG} {A : Nat → Prop} {En : State → Prop} {zd : Nat} (hX : fX zd g A En) {f : fH} {o ld tw : Nat} {lk tk : Int32} {a : Nat} (hP : f a = some (.inr (3 + 2, pO 2 o ld tw lk tk))) {tr gr fa : Int32} {lp rn lr sh : Nat} (hAo : A o) (hO : f o = some (.inr (1, xF tr gr lp rn lr fa sh))): fC l g A En yX6_said cX6_said 1 (some .int) (fR 2) [.ref a] f (fun v f' => v = some (.int (nI (ld + 100))) ∧ f' o = some (.inr (1, xF (tr1 (tr1 tr 2) 1) gr lp rn lr fa sh)) ∧ kp (fun x _ => x ≠ o) f f') := by
  have hE := hX.E
  refine fC.of (by decide) hX.E [some (.ref a)] rfl rfl (fun K G => ?_)
  have G : fGood l g A En RX6 "said" cX6_said 1 (some .int) (fR 2) _ K := G
  have hne : a ≠ o := ne_po hP hO
  have hK : kp (fun x _ => x ≠ o) f f := kp.rf f
  refine r_aload_n G dX6_said_0 rfl ?_
  refine r_iconst G (v := nI 2) dX6_said_1 (by decide) ?_
  refine r_callU G [.int (nI 2)] (xM_X5_trd hX (kd := 2) (by decide) hP hAo hO 2) (lw_U q1078 q1079 q1082 q1083 q90 q1084) rfl ⟨by decide, by decide, by decide +kernel⟩ rfl ⟨Nat.le_of_ble_eq_true rfl, Nat.le_of_ble_eq_true rfl⟩ hP (ci := 3 + 2) rfl rfl (Nat.le_of_ble_eq_true rfl) rfl rfl ⟨Nat.zero_le _, Nat.zero_le _⟩ dX6_said_2 (fun v2 f2 hp2 => ?_)
  obtain ⟨rfl, hOn, kT2⟩ := hp2
  have hP := kT2 _ _ hne hP
  have hO := hOn
  have hK := kp.tr hK kT2
  show K f2 0 0 5 [some (.ref a)] [.int 0]
  refine r_aload_n G dX6_said_5 rfl ?_
  refine r_callSU G [] (xM_X5_said hX (kd := 2) (by decide) hP hAo hO) (lw_SU q1085 q1074 q230 q1072 q90 q1086) ⟨by decide, by decide +kernel⟩ rfl ⟨Nat.le_of_ble_eq_true rfl, Nat.le_of_ble_eq_true rfl⟩ hP (ci := 3 + 2) rfl rfl (Nat.le_of_ble_eq_true rfl) rfl rfl ⟨Nat.zero_le _, Nat.zero_le _⟩ dX6_said_6 (fun v6 f6 hp6 => ?_)
  obtain ⟨rfl, hOn, kT6⟩ := hp6
  have hP := kT6 _ _ hne hP
  have hO := hOn
  have hK := kp.tr hK kT6
  show K f6 0 0 9 [some (.ref a)] [.int (nI ld), .int 0]
  refine r_iadd G (v := (nI ld)) dX6_said_9 (z_add _) ?_
  refine r_bipush G (v := nI 100) dX6_said_10 (by decide) ?_
  refine r_iadd G (v := (nI (ld + 100))) dX6_said_12 (nI_add ld 100) ?_
  exact r_iret G rfl ⟨Nat.zero_le _, Nat.zero_le _⟩ dX6_said_13 ⟨rfl, hO, hK⟩
set_option maxHeartbeats 4000000 in
theorem xM_X6_plainly {l : Launch} {g : fG} {A : Nat → Prop} {En : State → Prop} {zd : Nat} (hX : fX zd g A En) {f : fH} {o ld tw : Nat} {lk tk : Int32} {a : Nat} (hP : f a = some (.inr (3 + 2, pO 2 o ld tw lk tk))) {tr gr fa : Int32} {lp rn lr sh : Nat} (hAo : A o) (hO : f o = some (.inr (1, xF tr gr lp rn lr fa sh))): fC l g A En yX6_plainly cX6_plainly 1 (some .int) (fR 2) [.ref a] f (fun v f' => v = some (.int (nI ld)) ∧ f' o = some (.inr (1, xF (tr1 tr 1) gr lp rn lr fa sh)) ∧ kp (fun x _ => x ≠ o) f f') := by
  have hE := hX.E
  refine fC.of (by decide) hX.E [some (.ref a)] rfl rfl (fun K G => ?_)
  have G : fGood l g A En RX6 "plainly" cX6_plainly 1 (some .int) (fR 2) _ K := G
  have hne : a ≠ o := ne_po hP hO
  have hK : kp (fun x _ => x ≠ o) f f := kp.rf f
  refine r_aload_n G dX6_plainly_0 rfl ?_
  refine r_callSU G [] (xM_X5_said hX (kd := 2) (by decide) hP hAo hO) (lw_SU q1085 q1074 q230 q1072 q90 q1086) ⟨by decide, by decide +kernel⟩ rfl ⟨Nat.le_of_ble_eq_true rfl, Nat.le_of_ble_eq_true rfl⟩ hP (ci := 3 + 2) rfl rfl (Nat.le_of_ble_eq_true rfl) rfl rfl ⟨Nat.zero_le _, Nat.zero_le _⟩ dX6_plainly_1 (fun v1 f1 hp1 => ?_)
  obtain ⟨rfl, hOn, kT1⟩ := hp1
  have hP := kT1 _ _ hne hP
  have hO := hOn
  have hK := kp.tr hK kT1
  show K f1 0 0 4 [some (.ref a)] [.int (nI ld)]
  exact r_iret G rfl ⟨Nat.zero_le _, Nat.zero_le _⟩ dX6_plainly_4 ⟨rfl, hO, hK⟩
set_option maxHeartbeats 4000000 in
theorem xM_X7_said {l : Launch} {g : fG} {A : Nat → Prop} {En : State → Prop} {zd : Nat} (hX : fX zd g A En) {f : fH} {o ld tw : Nat} {lk tk : Int32} {a : Nat} (hP : f a = some (.inr (3 + 2, pO 2 o ld tw lk tk))) {tr gr fa : Int32} {lp rn lr sh : Nat} (hAo : A o) (hO : f o = some (.inr (1, xF tr gr lp rn lr fa sh))): fC l g A En yX7_said cX7_said 1 (some .int) (fR 3) [.ref a] f (fun v f' => v = some (.int (nI (2 * ld + 100))) ∧ f' o = some (.inr (1, xF (tr1 (tr1 (tr1 (tr1 tr 3) 2) 1) 1) gr lp rn lr fa sh)) ∧ kp (fun x _ => x ≠ o) f f') := by
  have hE := hX.E
  refine fC.of (by decide) hX.E [some (.ref a)] rfl rfl (fun K G => ?_)
  have G : fGood l g A En RX7 "said" cX7_said 1 (some .int) (fR 3) _ K := G
  have hne : a ≠ o := ne_po hP hO
  have hK : kp (fun x _ => x ≠ o) f f := kp.rf f
  refine r_aload_n G dX7_said_0 rfl ?_
  refine r_iconst G (v := nI 3) dX7_said_1 (by decide) ?_
  refine r_callU G [.int (nI 3)] (xM_X5_trd hX (kd := 2) (by decide) hP hAo hO 3) (lw_U q1091 q1092 q1093 q1083 q90 q1084) rfl ⟨by decide, by decide, by decide +kernel⟩ rfl ⟨Nat.le_of_ble_eq_true rfl, Nat.le_of_ble_eq_true rfl⟩ hP (ci := 3 + 2) rfl rfl (Nat.le_of_ble_eq_true rfl) rfl rfl ⟨Nat.zero_le _, Nat.zero_le _⟩ dX7_said_2 (fun v2 f2 hp2 => ?_)
  obtain ⟨rfl, hOn, kT2⟩ := hp2
  have hP := kT2 _ _ hne hP
  have hO := hOn
  have hK := kp.tr hK kT2
  show K f2 0 0 5 [some (.ref a)] [.int 0]
  refine r_aload_n G dX7_said_5 rfl ?_
  refine r_callSU G [] (xM_X6_said_2 hX hP hAo hO) (lw_SU q1094 q1539 q582 q1076 q91 q1077) ⟨by decide, by decide +kernel⟩ rfl ⟨Nat.le_of_ble_eq_true rfl, Nat.le_of_ble_eq_true rfl⟩ hP (ci := 3 + 2) rfl rfl (Nat.le_of_ble_eq_true rfl) rfl rfl ⟨Nat.zero_le _, Nat.zero_le _⟩ dX7_said_6 (fun v6 f6 hp6 => ?_)
  obtain ⟨rfl, hOn, kT6⟩ := hp6
  have hP := kT6 _ _ hne hP
  have hO := hOn
  have hK := kp.tr hK kT6
  show K f6 0 0 9 [some (.ref a)] [.int (nI (ld + 100)), .int 0]
  refine r_iadd G (v := (nI (ld + 100))) dX7_said_9 (z_add _) ?_
  refine r_aload_n G dX7_said_10 rfl ?_
  refine r_callU G [] (xM_X6_plainly hX hP hAo hO) (lw_U q1095 q1096 q1098 q1099 q91 q1100) rfl ⟨by decide, by decide, by decide +kernel⟩ rfl ⟨Nat.le_of_ble_eq_true rfl, Nat.le_of_ble_eq_true rfl⟩ hP (ci := 3 + 2) rfl rfl (Nat.le_of_ble_eq_true rfl) rfl rfl ⟨Nat.zero_le _, Nat.zero_le _⟩ dX7_said_11 (fun v11 f11 hp11 => ?_)
  obtain ⟨rfl, hOn, kT11⟩ := hp11
  have hP := kT11 _ _ hne hP
  have hO := hOn
  have hK := kp.tr hK kT11
  show K f11 0 0 14 [some (.ref a)] [.int (nI ld), .int (nI (ld + 100))]
  refine r_iadd G (v := (nI (2 * ld + 100))) dX7_said_14 (by rw [nI_add]; congr 1; omega) ?_
  exact r_iret G rfl ⟨Nat.zero_le _, Nat.zero_le _⟩ dX7_said_15 ⟨rfl, hO, hK⟩
/-- what a post says, by its kind -/
def sdV (k l : Nat) : Nat := if k = 0 then l else if k = 1 then l + 100 else 2 * l + 100
def sdT (k : Nat) (t : Int32) : Int32 := if k = 0 then tr1 t 1 else if k = 1 then tr1 (tr1 t 2) 1 else tr1 (tr1 (tr1 (tr1 t 3) 2) 1) 1
theorem aTl_sd {n j : Nat} {kd ld : Nat → Nat} {p : Int32} (h : isP n p = true) (hj : ix p = j) : aTl n kd ld p = nI (sdV (kd j) (ld j)) := by
  unfold aTl sdV
  rw [if_pos h, hj]
  split
  · rfl
  · split <;> rfl
theorem tTl_sd {n j : Nat} {kd : Nat → Nat} {t p : Int32} (h : isP n p = true) (hj : ix p = j) : tTl n kd t p = sdT (kd j) t := by
  unfold tTl sdT
  rw [if_pos h, hj]
theorem xM_sd0 {l : Launch} {g : fG} {A : Nat → Prop} {En : State → Prop} {zd : Nat} (hX : fX zd g A En) {f : fH} {kd o ld tw : Nat} {lk tk : Int32} {a : Nat} (hP : f a = some (.inr (3 + kd, pO kd o ld tw lk tk))) {tr gr fa : Int32} {lp rn lr sh : Nat} (hAo : A o) (hO : f o = some (.inr (1, xF tr gr lp rn lr fa sh))) (h : kd = 0) : fC l g A En yX5_said cX5_said 1 (some .int) (fR 1) [.ref a] f (fun v f' => v = some (.int (nI (sdV kd ld))) ∧ f' o = some (.inr (1, xF (sdT kd tr) gr lp rn lr fa sh)) ∧ kp (fun x _ => x ≠ o) f f') := by
  subst h
  exact xM_X5_said hX (kd := 0) (by decide) hP hAo hO
theorem xM_sd1 {l : Launch} {g : fG} {A : Nat → Prop} {En : State → Prop} {zd : Nat} (hX : fX zd g A En) {f : fH} {kd o ld tw : Nat} {lk tk : Int32} {a : Nat} (hP : f a = some (.inr (3 + kd, pO kd o ld tw lk tk))) {tr gr fa : Int32} {lp rn lr sh : Nat} (hAo : A o) (hO : f o = some (.inr (1, xF tr gr lp rn lr fa sh))) (h : kd = 1) : fC l g A En yX6_said cX6_said 1 (some .int) (fR 2) [.ref a] f (fun v f' => v = some (.int (nI (sdV kd ld))) ∧ f' o = some (.inr (1, xF (sdT kd tr) gr lp rn lr fa sh)) ∧ kp (fun x _ => x ≠ o) f f') := by
  subst h
  exact xM_X6_said_1 hX hP hAo hO
theorem xM_sd2 {l : Launch} {g : fG} {A : Nat → Prop} {En : State → Prop} {zd : Nat} (hX : fX zd g A En) {f : fH} {kd o ld tw : Nat} {lk tk : Int32} {a : Nat} (hP : f a = some (.inr (3 + kd, pO kd o ld tw lk tk))) {tr gr fa : Int32} {lp rn lr sh : Nat} (hAo : A o) (hO : f o = some (.inr (1, xF tr gr lp rn lr fa sh))) (h : kd = 2) : fC l g A En yX7_said cX7_said 1 (some .int) (fR 3) [.ref a] f (fun v f' => v = some (.int (nI (sdV kd ld))) ∧ f' o = some (.inr (1, xF (sdT kd tr) gr lp rn lr fa sh)) ∧ kp (fun x _ => x ≠ o) f f') := by
  subst h
  exact xM_X7_said hX hP hAo hO
set_option maxHeartbeats 4000000 in
theorem xM_X0_tell {l : Launch} {g : fG} {A : Nat → Prop} {En : State → Prop} {zd : Nat} (hX : fX zd g A En) {f : fH} {o : Nat} {tr gr fa : Int32} {rn lr sh : Nat} {L : xLs} {pa kd ld tw : Nat → Nat} {lk tk : Nat → Int32} (hO : f o = some (.inr (1, xF tr gr L.a rn lr fa sh))) (hP : xP g f o L pa kd ld tw lk tk) (hAo : A o) (p : Int32): fC l g A En yX0_tell cX0_tell 2 (some .int) (fR 4) [.ref o, .int p] f (fun v f' => v = some (.int (aTl L.n kd ld p)) ∧ f' o = some (.inr (1, xF (tTl L.n kd tr p) gr L.a rn lr fa sh)) ∧ kp (fun x _ => x ≠ o) f f') := by
  have hE := hX.E
  refine fC.of (by decide) hX.E [some (.ref o), some (.int p)] rfl rfl (fun K G => ?_)
  have G : fGood l g A En RX0 "tell" cX0_tell 2 (some .int) (fR 4) _ K := G
  have hn8 := hP.2.1
  refine r_aload_n G dX0_tell_0 rfl ?_
  refine r_iload_n G dX0_tell_1 rfl ?_
  refine s_callV (b := o) G [.int p] (xM_X0_noPost hX hO hP p) (lw_V q168 q170 qs0 q70 q171) fy_yX0_noPost rfl ⟨Nat.le_of_ble_eq_true rfl, Nat.le_of_ble_eq_true rfl⟩ (fs := [.int tr, .int gr, .ref L.a, .ref rn, .ref lr, .int fa, .ref sh]) hO (ci := 1) rfl rfl rfl (Nat.le_of_ble_eq_true rfl) rfl rfl ⟨Nat.zero_le _, Nat.zero_le _⟩ dX0_tell_2 ?_
  show K f 0 0 5 [some (.ref o), some (.int p)] [.int (bI (!isP L.n p))]
  refine r_ifb_eq G 12  dX0_tell_5 (by decide) (fun h5 => ?_) (fun h5 => ?_)
  · have q5 : isP L.n p = true := nt_f h5
    obtain ⟨jp, hjp, rfl⟩ := isP_t (by omega) q5
    have ejp : ix (nI jp) = jp := ix_nI (by omega)
    refine r_aload_n G dX0_tell_12 rfl ?_
    refine r_getf G xCl1 (fs := [.int tr, .int gr, .ref L.a, .ref rn, .ref lr, .int fa, .ref sh]) hO 2 (by decide) q142 rfl rfl dX0_tell_13 ?_
    refine r_iload_n G dX0_tell_16 rfl ?_
    refine s_callF (b := L.a) G [.int (nI jp)] (xM_J2_get hX hP.1 jp hjp) (lw_F q186 q189 q191 q73 q193) (hX.fw 1 _ rfl) fx_1 rfl ⟨Nat.le_of_ble_eq_true rfl, Nat.le_of_ble_eq_true rfl⟩ (fs := [.int L.mc, .ref L.ea, .int (nI L.n)]) hP.1.1 (ci := 2) rfl rfl (Nat.le_of_ble_eq_true rfl) rfl rfl ⟨Nat.zero_le _, Nat.zero_le _⟩ dX0_tell_17 ?_
    show K f 0 0 22 [some (.ref o), some (.int (nI jp))] [va_rf ((L.el jp))]
    rw [show va_rf (L.el jp) = .ref (pa jp) from by rw [(hP.2.2.2 jp hjp).1]; rfl]
    refine r_castP hX G (hP.2.2.2 jp hjp).2.2.1 (hP.2.2.2 jp hjp).2.1 q204 dX0_tell_22 ?_
    refine r_callK G (hP.2.2.2 jp hjp).2.2.1 (hP.2.2.2 jp hjp).2.1 [] (fun h => xM_sd0 hX (hP.2.2.2 jp hjp).2.1 hAo hO h) (fun h => xM_sd1 hX (hP.2.2.2 jp hjp).2.1 hAo hO h) (fun h => xM_sd2 hX (hP.2.2.2 jp hjp).2.1 hAo hO h) (lw_O q1071 q1074 q1072 q1073 q1072 q90 q1086) (lw_O q1071 q1074 q1072 q1075 q1076 q91 q1077) (lw_O q1071 q1074 q1072 q1088 q1089 q92 q1090) q1086 (by decide +kernel) rfl ⟨⟨Nat.le_of_ble_eq_true rfl, Nat.le_of_ble_eq_true rfl⟩, ⟨Nat.le_of_ble_eq_true rfl, Nat.le_of_ble_eq_true rfl⟩, ⟨Nat.le_of_ble_eq_true rfl, Nat.le_of_ble_eq_true rfl⟩⟩ rfl (Nat.le_of_ble_eq_true rfl) ⟨Nat.zero_le _, Nat.zero_le _⟩ dX0_tell_25 (fun v25 f25 hp25 => ?_)
    obtain ⟨rfl, hOn, hK⟩ := hp25
    show K f25 0 0 28 [some (.ref o), some (.int (nI jp))] [.int (nI (sdV (kd jp) (ld jp)))]
    exact r_iret G rfl ⟨Nat.zero_le _, Nat.zero_le _⟩ dX0_tell_28 ⟨rI (aTl_sd q5 ejp).symm, by rw [tTl_sd q5 ejp]; exact hOn, hK⟩
  · have q5 : isP L.n p = false := nt_t h5
    refine r_iconst G (v := -1) dX0_tell_8 (by decide) ?_
    refine r_goto G 28 dX0_tell_9 (by decide) ?_
    exact r_iret G rfl ⟨Nat.zero_le _, Nat.zero_le _⟩ dX0_tell_28 ⟨rI (by simp [aTl, q5]), by simp only [tTl, q5]; exact hO, kp.rf f⟩
set_option maxHeartbeats 4000000 in
theorem xM_X13_knocked_0 {l : Launch} {g : fG} {A : Nat → Prop} {En : State → Prop} {zd : Nat} (hX : fX zd g A En) {f : fH} {o ld tw : Nat} {lk tk : Int32} {a : Nat} (hP : f a = some (.inr (3 + 0, pO 0 o ld tw lk tk))) {tr gr fa : Int32} {lp rn lr sh : Nat} (hAo : A o) (hO : f o = some (.inr (1, xF tr gr lp rn lr fa sh))) (ht : tw < 256): fC l g A En yX13_knocked cX13_knocked 1 (some .int) (fR 2) [.ref a] f (fun v f' => v = some (.int (nI (cnt tw))) ∧ f' o = some (.inr (1, xF (tr1 tr 4) gr lp rn lr fa sh)) ∧ kp (fun x _ => x ≠ o) f f') := by
  have hE := hX.E
  refine fC.of (by decide) hX.E [some (.ref a)] rfl rfl (fun K G => ?_)
  have G : fGood l g A En RX13 "knocked" cX13_knocked 1 (some .int) (fR 2) _ K := G
  have hne : a ≠ o := ne_po hP hO
  have hK : kp (fun x _ => x ≠ o) f f := kp.rf f
  refine r_aload_n G dX13_knocked_0 rfl ?_
  refine r_iconst G (v := nI 4) dX13_knocked_1 (by decide) ?_
  refine r_callF (b := a) G [.int (nI 4)] (xM_X5_trd hX (kd := 0) (by decide) hP hAo hO 4) (lw_F q1116 q1126 q1083 q90 q1084) (hX.fw 10 _ rfl) fx_10 rfl ⟨Nat.le_of_ble_eq_true rfl, Nat.le_of_ble_eq_true rfl⟩ (fs := [.int (nI ld), .int (nI tw), .int lk, .int tk, .ref o]) hP (ci := 3) rfl rfl (Nat.le_of_ble_eq_true rfl) rfl rfl ⟨Nat.zero_le _, Nat.zero_le _⟩ dX13_knocked_2 (fun v2 f2 hp2 => ?_)
  obtain ⟨rfl, hOn, kT2⟩ := hp2
  have hP := kT2 _ _ hne hP
  have hO := hOn
  have hK := kp.tr hK kT2
  show K f2 0 0 7 [some (.ref a)] [.int 0]
  refine r_aload_n G dX13_knocked_7 rfl ?_
  refine s_callF (b := a) G [] (xM_X5_twigs hX (kd := 0) (by decide) hP) (lw_F q1129 q1139 q1134 q90 q1136) (hX.fw 11 _ rfl) fx_11 rfl ⟨Nat.le_of_ble_eq_true rfl, Nat.le_of_ble_eq_true rfl⟩ (fs := [.int (nI ld), .int (nI tw), .int lk, .int tk, .ref o]) hP (ci := 3) rfl rfl (Nat.le_of_ble_eq_true rfl) rfl rfl ⟨Nat.zero_le _, Nat.zero_le _⟩ dX13_knocked_8 ?_
  show K f2 0 0 13 [some (.ref a)] [.int (nI tw), .int 0]
  refine s_callS G [.int (nI tw)] (sX_J16_bitCount hE tw (by omega)) (lw_S q1141 q240 q95 q241) fy_yJ16_bitCount rfl ⟨Nat.le_of_ble_eq_true rfl, Nat.le_of_ble_eq_true rfl⟩ rfl (Nat.le_of_ble_eq_true rfl) rfl rfl ⟨Nat.zero_le _, Nat.zero_le _⟩ dX13_knocked_13 ?_
  show K f2 0 0 16 [some (.ref a)] [.int (nI (cnt tw)), .int 0]
  refine r_iadd G (v := (nI (cnt tw))) dX13_knocked_16 (z_add _) ?_
  exact r_iret G rfl ⟨Nat.zero_le _, Nat.zero_le _⟩ dX13_knocked_17 ⟨rfl, hO, hK⟩
set_option maxHeartbeats 4000000 in
theorem xM_X13_knocked_1 {l : Launch} {g : fG} {A : Nat → Prop} {En : State → Prop} {zd : Nat} (hX : fX zd g A En) {f : fH} {o ld tw : Nat} {lk tk : Int32} {a : Nat} (hP : f a = some (.inr (3 + 1, pO 1 o ld tw lk tk))) {tr gr fa : Int32} {lp rn lr sh : Nat} (hAo : A o) (hO : f o = some (.inr (1, xF tr gr lp rn lr fa sh))) (ht : tw < 256): fC l g A En yX13_knocked cX13_knocked 1 (some .int) (fR 2) [.ref a] f (fun v f' => v = some (.int (nI (cnt tw))) ∧ f' o = some (.inr (1, xF (tr1 tr 4) gr lp rn lr fa sh)) ∧ kp (fun x _ => x ≠ o) f f') := by
  have hE := hX.E
  refine fC.of (by decide) hX.E [some (.ref a)] rfl rfl (fun K G => ?_)
  have G : fGood l g A En RX13 "knocked" cX13_knocked 1 (some .int) (fR 2) _ K := G
  have hne : a ≠ o := ne_po hP hO
  have hK : kp (fun x _ => x ≠ o) f f := kp.rf f
  refine r_aload_n G dX13_knocked_0 rfl ?_
  refine r_iconst G (v := nI 4) dX13_knocked_1 (by decide) ?_
  refine r_callF (b := a) G [.int (nI 4)] (xM_X5_trd hX (kd := 1) (by decide) hP hAo hO 4) (lw_F q1116 q1119 q1083 q90 q1084) (hX.fw 13 _ rfl) fx_13 rfl ⟨Nat.le_of_ble_eq_true rfl, Nat.le_of_ble_eq_true rfl⟩ (fs := [.int (nI ld), .int (nI tw), .int lk, .int tk, .ref o, .ref o]) hP (ci := 4) rfl rfl (Nat.le_of_ble_eq_true rfl) rfl rfl ⟨Nat.zero_le _, Nat.zero_le _⟩ dX13_knocked_2 (fun v2 f2 hp2 => ?_)
  obtain ⟨rfl, hOn, kT2⟩ := hp2
  have hP := kT2 _ _ hne hP
  have hO := hOn
  have hK := kp.tr hK kT2
  show K f2 0 0 7 [some (.ref a)] [.int 0]
  refine r_aload_n G dX13_knocked_7 rfl ?_
  refine s_callF (b := a) G [] (xM_X5_twigs hX (kd := 1) (by decide) hP) (lw_F q1129 q1132 q1134 q90 q1136) (hX.fw 14 _ rfl) fx_14 rfl ⟨Nat.le_of_ble_eq_true rfl, Nat.le_of_ble_eq_true rfl⟩ (fs := [.int (nI ld), .int (nI tw), .int lk, .int tk, .ref o, .ref o]) hP (ci := 4) rfl rfl (Nat.le_of_ble_eq_true rfl) rfl rfl ⟨Nat.zero_le _, Nat.zero_le _⟩ dX13_knocked_8 ?_
  show K f2 0 0 13 [some (.ref a)] [.int (nI tw), .int 0]
  refine s_callS G [.int (nI tw)] (sX_J16_bitCount hE tw (by omega)) (lw_S q1141 q240 q95 q241) fy_yJ16_bitCount rfl ⟨Nat.le_of_ble_eq_true rfl, Nat.le_of_ble_eq_true rfl⟩ rfl (Nat.le_of_ble_eq_true rfl) rfl rfl ⟨Nat.zero_le _, Nat.zero_le _⟩ dX13_knocked_13 ?_
  show K f2 0 0 16 [some (.ref a)] [.int (nI (cnt tw)), .int 0]
  refine r_iadd G (v := (nI (cnt tw))) dX13_knocked_16 (z_add _) ?_
  exact r_iret G rfl ⟨Nat.zero_le _, Nat.zero_le _⟩ dX13_knocked_17 ⟨rfl, hO, hK⟩
set_option maxHeartbeats 4000000 in
theorem xM_X7_knocked {l : Launch} {g : fG} {A : Nat → Prop} {En : State → Prop} {zd : Nat} (hX : fX zd g A En) {f : fH} {o ld tw : Nat} {lk tk : Int32} {a : Nat} (hP : f a = some (.inr (3 + 2, pO 2 o ld tw lk tk))) {tr gr fa : Int32} {lp rn lr sh : Nat} (hAo : A o) (hO : f o = some (.inr (1, xF tr gr lp rn lr fa sh))): fC l g A En yX7_knocked cX7_knocked 1 (some .int) (fR 1) [.ref a] f (fun v f' => v = some (.int (nI 80)) ∧ f' o = some (.inr (1, xF (tr1 tr 5) gr lp rn lr fa sh)) ∧ kp (fun x _ => x ≠ o) f f') := by
  have hE := hX.E
  refine fC.of (by decide) hX.E [some (.ref a)] rfl rfl (fun K G => ?_)
  have G : fGood l g A En RX7 "knocked" cX7_knocked 1 (some .int) (fR 1) _ K := G
  have hne : a ≠ o := ne_po hP hO
  have hK : kp (fun x _ => x ≠ o) f f := kp.rf f
  refine r_aload_n G dX7_knocked_0 rfl ?_
  refine r_iconst G (v := nI 5) dX7_knocked_1 (by decide) ?_
  refine r_callU G [.int (nI 5)] (xM_X5_trd hX (kd := 2) (by decide) hP hAo hO 5) (lw_U q1091 q1092 q1093 q1083 q90 q1084) rfl ⟨by decide, by decide, by decide +kernel⟩ rfl ⟨Nat.le_of_ble_eq_true rfl, Nat.le_of_ble_eq_true rfl⟩ hP (ci := 3 + 2) rfl rfl (Nat.le_of_ble_eq_true rfl) rfl rfl ⟨Nat.zero_le _, Nat.zero_le _⟩ dX7_knocked_2 (fun v2 f2 hp2 => ?_)
  obtain ⟨rfl, hOn, kT2⟩ := hp2
  have hP := kT2 _ _ hne hP
  have hO := hOn
  have hK := kp.tr hK kT2
  show K f2 0 0 5 [some (.ref a)] [.int 0]
  refine r_bipush G (v := nI 80) dX7_knocked_5 (by decide) ?_
  refine r_iadd G (v := (nI 80)) dX7_knocked_7 (z_add _) ?_
  exact r_iret G rfl ⟨Nat.zero_le _, Nat.zero_le _⟩ dX7_knocked_8 ⟨rfl, hO, hK⟩
/-- what a call that lands in a default method asks of the tables -/
def va_Dd (C : String) (x y : MethodName) (U : State) : Prop := (Cond.declares x).before #[] U = true ∧ (Cond.interfaceMethod x.cls x.cls x.name x.desc).before #[] U = true ∧ (Cond.publicMethod y).before #[] U = true ∧ (Cond.castable C x.cls).before #[] U = true ∧ (Cond.landsInDefault C x y).before #[] U = true
theorem r_callD {l : Launch} {g : fG} {A : Nat → Prop} {En : State → Prop} {own nm : String} {cc : ByteArray} {nL : Nat} {ret : Option FieldType} {rm : Room} {Post : Option Value → fH → Prop} {K : fKt} {f : fH} {cs ss pc : Nat} {lo : fL} (G : fGood l g A En own nm cc nL ret rm Post K) {y : MethodName} {cc' : ByteArray} {nL' : Nat} {ret' : Option FieldType} {rm' : Room} {Post' : Option Value → fH → Prop} {n index : Nat} {st0 rest : List Value} (As : List Value) {count : Nat} {x : MethodName} {b ci : Nat} {fs : List Value} {q : vw_C} (M : fC l g A En y cc' nL' ret' rm' (.ref b :: As) f Post') (h1 : Cond.methodLink own index x ∈ lw_all) (h3 : Cond.instanceMethod y ∈ lw_all) (h4 : Cond.initialized y.cls ∈ lw_all) (h5 : Cond.code y cc' nL' ret' ∈ lw_all) (hF : ∀ U, En U → va_Dd q.1 x y U) (hy : fyX x n) (hn : As.length = n) (hR : rm'.frames + 1 ≤ rm.frames ∧ 8 + (nL' + 11) + rm'.locals ≤ rm.locals) (he : f b = some (.inr (ci, fs))) (hci : fCl[ci]? = some q) (hs : st0 = As.reverse ++ .ref b :: rest) (hst : (rest.map fun v => v.category).sum ≤ 8) {cs' ss' : Nat} (hcs : cs + rm'.cells = cs') (hss : ss + rm'.slots = ss') (hc : cs' ≤ rm.cells ∧ ss' ≤ rm.slots) (d : decode cc pc = .ok (.invokeinterface index count, 5)) (kk : ∀ (v : Option Value) (f' : fH), Post' v f' → K f' cs' ss' (pc + 5) lo (v.toList ++ rest)) : K f cs ss pc lo st0 := by
  obtain ⟨p, e, s, m, args, below, meth, c, Q, ⟨hx, hb, hr, hlk, hml, hown, hnm, hts⟩, hE, hQ, rfl⟩ := G
  subst hcs; subst hss; subst hs
  intro H locs ls hW hS hl hn0
  have hK := hE.1.1 s hE.2
  have hG : GoodIn lw_all (ws_ y cc' nL' ret') := lw_meth h5
  have hD := hF s hE.2
  have hB := back_of (R := rm) (p := p) (e := e) (below := below) (s := s) (sargs := args) (len := 5) (W := 8) (bytes := cc') (maxL := nL') (ret := ret') M (fC_blind hE.1) rfl rfl hR.1 hR.2 (pay_in hts hG) List.mem_cons_self (fun a' U hW => word_at hW (Or.inl (by first | rfl | simp [Cond.onTables, Cond.keeps, Cond.steady])) (hts _ h4))
  refine fK_call5 (En := En) (Post' := Post') (a := (Value.ref b :: As).toArray) (rest := rest) (mc := rm'.cells) (ms := rm'.slots) ?_ hS (fun v f' H1 locs1 hW1 hp hS1 => kk v f' hp H1 locs1 ls hW1 hS1 hl hn0)
  intro T hT X
  obtain ⟨hfc, kB, hkB, -⟩ := (hK.1 ci q hci).2
  obtain ⟨cellB, hcB, hoB, hclB⟩ := va_recv (D := g.1) hK (hW.one he) hci (q0 := 0) rfl
  have hcc : cellB.cls = g.1.1 ci := by
    have h := hfc.symm.trans hclB
    injection h with h
    first | exact h | exact h.symm
  obtain ⟨v, vm₁, ⟨U', l2, c2, s2⟩, hW₁, X', ⟨g', mk, t, L, e1, e2, hq, a1, hL, a2, a3⟩, st⟩ := X.interfaceBackD hx hown (hts _ h1) (va_any rfl hD.1) (va_any rfl hD.2.1) (show (Cond.landsInDefault q.1 x y).before args s = true from hD.2.2.2.2) (hts _ h3) (va_any rfl hD.2.2.1) (va_any rfl hD.2.2.2.1) ⟨hy.1, hy.2.1⟩ hB hfc hkB ⟨cellB, by rw [hT]; exact hcB, hcc, hoB⟩ (g := F0 m pc ls (As.reverse ++ .ref b :: rest)) rfl ((hl.1.trans hn0).trans hml.symm) (Steps.refl _) (argsL := As) (rest := rest) (fun sig h => by have h2 := hy.2.2; rw [h] at h2; exact hn.trans (Option.some.inj h2).symm) rfl (lv_room hst) (by rw [hb]; exact d) (fun vm₁ hW₁ => ⟨hc.1, hc.2, rfl, by show fW g f T.heap; rw [hT]; exact hW, hE.1.2 s (T.setVm vm₁) (fE0.of hS hT hW₁) hE.2⟩)
  dsimp only [Pt.U, Pt.locs, Pt.cells, Pt.slots] at X' e1 e2 a1 a2 a3 st
  subst a1; subst a2; subst a3
  exact ⟨v, (T.setVm vm₁).calling g' mk (Value.ref b :: As).toArray, t, U', L, hT, X', hL, e1, e2, hq, fun target h => st.trans h⟩
theorem r_castKn {zd : Nat} {l : Launch} {g : fG} {A : Nat → Prop} {En : State → Prop} (hX : fX zd g A En) {own nm : String} {cc : ByteArray} {nL : Nat} {ret : Option FieldType} {rm : Room} {Post : Option Value → fH → Prop} {K : fKt} {f : fH} {cs ss pc : Nat} {lo : fL} {st : List Value} (G : fGood l g A En own nm cc nL ret rm Post K) {kd : Nat} (hk : kd ≤ 2) {a index : Nat} {fs : List Value} (he : f a = some (.inr (3 + kd, fs))) (hq : Cond.classLink own index "VineRows$Knocked" ∈ lw_all) (d : decode cc pc = .ok (.checkcast index, 3)) (kk : K f cs ss (pc + 3) lo (.ref a :: st)) : K f cs ss pc lo (.ref a :: st) := by
  match kd, hk with
  | 0, _ => exact r_cast G he (r := (RX5, TX5, 5)) rfl (Or.inr (hX.nw 19 _ rfl)) hq d kk
  | 1, _ => exact r_cast G he (r := (RX6, TX6, 6)) rfl (Or.inr (hX.nw 17 _ rfl)) hq d kk
  | 2, _ => exact r_cast G he (r := (RX7, TX7, 7)) rfl (Or.inr (hX.nw 18 _ rfl)) hq d kk
set_option maxHeartbeats 4000000 in
theorem xM_X0_knock {l : Launch} {g : fG} {A : Nat → Prop} {En : State → Prop} {zd : Nat} (hX : fX zd g A En) {f : fH} {o : Nat} {tr gr fa : Int32} {rn lr sh : Nat} {L : xLs} {pa kd ld tw : Nat → Nat} {lk tk : Nat → Int32} (hO : f o = some (.inr (1, xF tr gr L.a rn lr fa sh))) (hP : xP g f o L pa kd ld tw lk tk) (hAo : A o) (hDd : ∀ C, C = "VineRows$Plain" ∨ C = "VineRows$Broad" → ∀ U, En U → va_Dd C ({ cls := "VineRows$Knocked", name := "knocked", desc := "()I" } : MethodName) ({ cls := "VineRows$Knocked", name := "knocked", desc := "()I" } : MethodName) U) (p : Int32): fC l g A En yX0_knock cX0_knock 3 (some .int) (fR 4) [.ref o, .int p] f (fun v f' => v = some (.int (aKn L.n tw kd p)) ∧ f' o = some (.inr (1, xF (tKn L.n kd tr p) gr L.a rn lr fa sh)) ∧ kp (fun x _ => x ≠ o) f f') := by
  have hE := hX.E
  refine fC.of (by decide) hX.E [some (.ref o), some (.int p), none] rfl rfl (fun K G => ?_)
  have G : fGood l g A En RX0 "knock" cX0_knock 3 (some .int) (fR 4) _ K := G
  have hn8 := hP.2.1
  refine r_aload_n G dX0_knock_0 rfl ?_
  refine r_iload_n G dX0_knock_1 rfl ?_
  refine s_callV (b := o) G [.int p] (xM_X0_noPost hX hO hP p) (lw_V q168 q170 qs0 q70 q171) fy_yX0_noPost rfl ⟨Nat.le_of_ble_eq_true rfl, Nat.le_of_ble_eq_true rfl⟩ (fs := [.int tr, .int gr, .ref L.a, .ref rn, .ref lr, .int fa, .ref sh]) hO (ci := 1) rfl rfl rfl (Nat.le_of_ble_eq_true rfl) rfl rfl ⟨Nat.zero_le _, Nat.zero_le _⟩ dX0_knock_2 ?_
  show K f 0 0 5 [some (.ref o), some (.int p), none] [.int (bI (!isP L.n p))]
  refine r_ifb_eq G 10  dX0_knock_5 (by decide) (fun h5 => ?_) (fun h5 => ?_)
  · have q5 : isP L.n p = true := nt_f h5
    obtain ⟨jp, hjp, rfl⟩ := isP_t (by omega) q5
    have ejp : ix (nI jp) = jp := ix_nI (by omega)
    refine r_aload_n G dX0_knock_10 rfl ?_
    refine r_getf G xCl1 (fs := [.int tr, .int gr, .ref L.a, .ref rn, .ref lr, .int fa, .ref sh]) hO 2 (by decide) q142 rfl rfl dX0_knock_11 ?_
    refine r_iload_n G dX0_knock_14 rfl ?_
    refine s_callF (b := L.a) G [.int (nI jp)] (xM_J2_get hX hP.1 jp hjp) (lw_F q186 q189 q191 q73 q193) (hX.fw 1 _ rfl) fx_1 rfl ⟨Nat.le_of_ble_eq_true rfl, Nat.le_of_ble_eq_true rfl⟩ (fs := [.int L.mc, .ref L.ea, .int (nI L.n)]) hP.1.1 (ci := 2) rfl rfl (Nat.le_of_ble_eq_true rfl) rfl rfl ⟨Nat.zero_le _, Nat.zero_le _⟩ dX0_knock_15 ?_
    show K f 0 0 20 [some (.ref o), some (.int (nI jp)), none] [va_rf ((L.el jp))]
    rw [show va_rf (L.el jp) = .ref (pa jp) from by rw [(hP.2.2.2 jp hjp).1]; rfl]
    refine r_castKn hX G (hP.2.2.2 jp hjp).2.2.1 (hP.2.2.2 jp hjp).2.1 q1105 dX0_knock_20 ?_
    have hk2 := hP.kd2 hjp
    have ht8 := hP.t8 jp hjp
    have hob := hP.ob hjp
    have hk3 : kd jp = 0 ∨ kd jp = 1 ∨ kd jp = 2 := by omega
    rcases hk3 with hk3 | hk3 | hk3
    · rw [hk3] at hob
      refine r_astore_n G (lo' := [some (.ref o), some (.int (nI jp)), some (.ref (pa jp))]) dX0_knock_23 rfl rfl ?_
      refine r_aload_n G dX0_knock_24 rfl ?_
      refine r_callD G [] (xM_X13_knocked_0 hX hob hAo hO ht8) q1107 q1112 q1541 q1114 (hDd _ (Or.inl rfl)) fx_9 rfl ⟨Nat.le_of_ble_eq_true rfl, Nat.le_of_ble_eq_true rfl⟩ hob (q := (RX5, TX5, 5)) rfl rfl (Nat.le_of_ble_eq_true rfl) rfl rfl ⟨Nat.zero_le _, Nat.zero_le _⟩ dX0_knock_25 (fun v25 f25 hp25 => ?_)
      obtain ⟨rfl, hOn, hK⟩ := hp25
      show K f25 0 0 30 [some (.ref o), some (.int (nI jp)), some (.ref (pa jp))] [.int (nI (cnt (tw jp)))]
      exact r_iret G rfl ⟨Nat.zero_le _, Nat.zero_le _⟩ dX0_knock_30 ⟨rI (by rw [aKn, if_pos q5, ejp, if_neg (by omega)]), by rw [tKn, if_pos q5, ejp, if_neg (by omega)]; exact hOn, hK⟩
    · rw [hk3] at hob
      refine r_astore_n G (lo' := [some (.ref o), some (.int (nI jp)), some (.ref (pa jp))]) dX0_knock_23 rfl rfl ?_
      refine r_aload_n G dX0_knock_24 rfl ?_
      refine r_callD G [] (xM_X13_knocked_1 hX hob hAo hO ht8) q1107 q1112 q1541 q1114 (hDd _ (Or.inr rfl)) fx_12 rfl ⟨Nat.le_of_ble_eq_true rfl, Nat.le_of_ble_eq_true rfl⟩ hob (q := (RX6, TX6, 6)) rfl rfl (Nat.le_of_ble_eq_true rfl) rfl rfl ⟨Nat.zero_le _, Nat.zero_le _⟩ dX0_knock_25 (fun v25 f25 hp25 => ?_)
      obtain ⟨rfl, hOn, hK⟩ := hp25
      show K f25 0 0 30 [some (.ref o), some (.int (nI jp)), some (.ref (pa jp))] [.int (nI (cnt (tw jp)))]
      exact r_iret G rfl ⟨Nat.zero_le _, Nat.zero_le _⟩ dX0_knock_30 ⟨rI (by rw [aKn, if_pos q5, ejp, if_neg (by omega)]), by rw [tKn, if_pos q5, ejp, if_neg (by omega)]; exact hOn, hK⟩
    · rw [hk3] at hob
      refine r_astore_n G (lo' := [some (.ref o), some (.int (nI jp)), some (.ref (pa jp))]) dX0_knock_23 rfl rfl ?_
      refine r_aload_n G dX0_knock_24 rfl ?_
      refine r_callF (b := (pa jp)) G [] (xM_X7_knocked hX hob hAo hO) (lw_F q1107 q1142 q1144 q92 q1146) (hX.fw 15 _ rfl) fx_15 rfl ⟨Nat.le_of_ble_eq_true rfl, Nat.le_of_ble_eq_true rfl⟩ (fs := [.int (nI (ld jp)), .int (nI (tw jp)), .int (lk jp), .int (tk jp), .ref o, .ref o, .ref o]) hob (ci := 5) rfl rfl (Nat.le_of_ble_eq_true rfl) rfl rfl ⟨Nat.zero_le _, Nat.zero_le _⟩ dX0_knock_25 (fun v25 f25 hp25 => ?_)
      obtain ⟨rfl, hOn, hK⟩ := hp25
      show K f25 0 0 30 [some (.ref o), some (.int (nI jp)), some (.ref (pa jp))] [.int (nI 80)]
      exact r_iret G rfl ⟨Nat.zero_le _, Nat.zero_le _⟩ dX0_knock_30 ⟨rI (by rw [aKn, if_pos q5, ejp, if_pos hk3]), by rw [tKn, if_pos q5, ejp, if_pos hk3]; exact hOn, hK⟩
  · have q5 : isP L.n p = false := nt_t h5
    refine r_iconst G (v := -1) dX0_knock_8 (by decide) ?_
    exact r_iret G rfl ⟨Nat.zero_le _, Nat.zero_le _⟩ dX0_knock_9 ⟨rI (by simp [aKn, q5]), by simp only [tKn, q5]; exact hO, kp.rf f⟩
set_option maxHeartbeats 4000000 in
theorem xM_X9_init {l : Launch} {g : fG} {A : Nat → Prop} {En : State → Prop} {zd : Nat} (hX : fX zd g A En) {f : fH} {a : Nat} (hA : A a) (hO : f a = some (.inr (8, [.int (nI 0), .int (nI 0), .int (nI 0)]))) (x y z : Nat): fC l g A En yX9_init cX9_init 4 none (fR 1) [.ref a, .int (nI x), .int (nI y), .int (nI z)] f (fun v f' => v = none ∧ fU f a (.inr (8, [.int (nI x), .int (nI y), .int (nI z)])) = f') := by
  have hE := hX.E
  refine fC.of (by decide) hX.E [some (.ref a), some (.int (nI x)), some (.int (nI y)), some (.int (nI z))] rfl rfl (fun K G => ?_)
  have G : fGood l g A En RX9 "<init>" cX9_init 4 none (fR 1) _ K := G
  refine r_aload_n G dX9_init_0 rfl ?_
  refine r_objInit G q411 q109 q110 ⟨Nat.le_of_ble_eq_true rfl, Nat.le_of_ble_eq_true rfl⟩ (Nat.le_of_ble_eq_true rfl) dX9_init_1 ?_
  refine r_aload_n G dX9_init_4 rfl ?_
  refine r_iload_n G dX9_init_5 rfl ?_
  refine r_putfF G xCl8 (fs := [.int (nI 0), .int (nI 0), .int (nI 0)]) hO hA 0 (by decide) q412 rfl rfl rfl rfl rfl rfl (Nat.le_of_ble_eq_true rfl) (f' := fU f a (.inr (8, [.int (nI x), .int (nI 0), .int (nI 0)]))) rfl dX9_init_6 ?_
  show K (fU f a (.inr (8, [.int (nI x), .int (nI 0), .int (nI 0)]))) 0 0 9 [some (.ref a), some (.int (nI x)), some (.int (nI y)), some (.int (nI z))] []
  refine r_aload_n G dX9_init_9 rfl ?_
  refine r_iload_n G dX9_init_10 rfl ?_
  refine r_putfF G xCl8 (fs := [.int (nI x), .int (nI 0), .int (nI 0)]) (by simp [fU, hO]) hA 1 (by decide) q414 rfl rfl rfl rfl rfl rfl (Nat.le_of_ble_eq_true rfl) (f' := fU f a (.inr (8, [.int (nI x), .int (nI y), .int (nI 0)]))) (fU_uu _ _ _ _) dX9_init_11 ?_
  show K (fU f a (.inr (8, [.int (nI x), .int (nI y), .int (nI 0)]))) 0 0 14 [some (.ref a), some (.int (nI x)), some (.int (nI y)), some (.int (nI z))] []
  refine r_aload_n G dX9_init_14 rfl ?_
  refine r_iload_n G dX9_init_15 rfl ?_
  refine r_putfF G xCl8 (fs := [.int (nI x), .int (nI y), .int (nI 0)]) (by simp [fU, hO]) hA 2 (by decide) q416 rfl rfl rfl rfl rfl rfl (Nat.le_of_ble_eq_true rfl) (f' := fU f a (.inr (8, [.int (nI x), .int (nI y), .int (nI z)]))) (fU_uu _ _ _ _) dX9_init_16 ?_
  show K (fU f a (.inr (8, [.int (nI x), .int (nI y), .int (nI z)]))) 0 0 19 [some (.ref a), some (.int (nI x)), some (.int (nI y)), some (.int (nI z))] []
  exact r_vret G rfl ⟨Nat.zero_le _, Nat.zero_le _⟩ dX9_init_19 ⟨rfl, by first | rfl | simp only [fU_uu]⟩
def lsO (zd : Nat) (R : xLs) : Prop := (R.cap = 0 ∧ R.ea = zd) ∨ R.cap = 10
theorem xLop.rf {g : fG} {A : Nat → Prop} {f : fH} {L : xLs} (h : xL g f L) (hA : xA A L) : xLop g A f f L L := ⟨h, hA, rfl, Or.inl ⟨rfl, rfl⟩, fun _ _ _ _ h => h⟩
theorem xLop.pre {g : fG} {A : Nat → Prop} {f f' : fH} {L L' : xLs} {q : Nat} {e : va_E} (hq : f q = none) (h : xLop g A (fU f q e) f' L L') : xLop g A f f' L L' := by
  obtain ⟨h1, h2, h3, h4, h5⟩ := h
  refine ⟨h1, h2, h3, h4.imp id (fun ⟨a, b⟩ => ⟨?_, b⟩), fun x e' a b c => h5 x e' a b ?_⟩
  rotate_left
  · by_cases z : L'.ea = q
    · rw [z, fU_s] at a; cases a
    · rwa [fU_n _ _ z] at a
  · rw [fU_n]
    · exact c
    · rintro rfl; rw [hq] at c; cases c
theorem xRd.add {g : fG} {A : Nat → Prop} {f f' : fH} {R R' : xLs} {pr : Nat → Nat} {n : Nat} {ra rb rw : Nat → Nat} (h : xRd g f R pr n ra rb rw) (hop : xLop g A f f' R R') (hn : R'.n = R.n + 1) (h8 : R.n + 1 ≤ 8) {q a b v : Nat} (hel : R'.el R.n = some q) (hel2 : ∀ x, x < R.n → R'.el x = R.el x) (hq : f q = some (.inr (8, [.int (nI a), .int (nI b), .int (nI v)]))) (ha : a < n) (hb : b < n) (hv : v ≤ 200) : xRd g f' R' (fup pr R.n q) n (fup ra R.n a) (fup rb R.n b) (fup rw R.n v) := by
  obtain ⟨hl, -, hr⟩ := h
  have mv : ∀ x fs, f x = some (.inr (8, fs)) → f' x = some (.inr (8, fs)) := fun x fs hx => hop.2.2.2.2 x _ (fun z => by rw [z, hl.1] at hx; cases hx) (fun z => by rw [z, hl.2.1] at hx; cases hx) hx
  refine ⟨hop.1, by omega, fun x hx => ?_⟩
  by_cases e : x = R.n
  · subst e
    rw [fup_s, fup_s, fup_s, fup_s]
    exact ⟨hel, mv _ _ hq, ha, hb, hv⟩
  · obtain ⟨r1, r2, r3⟩ := hr x (by omega)
    rw [fup_n e, fup_n e, fup_n e, fup_n e]
    exact ⟨by rw [hel2 x (by omega)]; exact r1, mv _ _ r2, r3⟩
theorem xRd.del {g : fG} {A : Nat → Prop} {f f' : fH} {R R' : xLs} {pr : Nat → Nat} {n : Nat} {ra rb rw : Nat → Nat} (h : xRd g f R pr n ra rb rw) (hop : xLop g A f f' R R') (hn : R'.n ≤ R.n) (hel2 : ∀ x, x < R'.n → R'.el x = R.el x) : xRd g f' R' pr n ra rb rw := by
  obtain ⟨hl, h8, hr⟩ := h
  have mv : ∀ x fs, f x = some (.inr (8, fs)) → f' x = some (.inr (8, fs)) := fun x fs hx => hop.2.2.2.2 x _ (fun z => by rw [z, hl.1] at hx; cases hx) (fun z => by rw [z, hl.2.1] at hx; cases hx) hx
  refine ⟨hop.1, by omega, fun x hx => ?_⟩
  obtain ⟨r1, r2, r3⟩ := hr x (by omega)
  exact ⟨by rw [hel2 x hx]; exact r1, mv _ _ r2, r3⟩
theorem va_up_s {α : Type} {f : Nat → α} {k : Nat} {v : α} : va_up f k v k = v := if_pos rfl
theorem va_up_n {α : Type} {f : Nat → α} {k j : Nat} {v : α} (h : j ≠ k) : va_up f k v j = f j := if_neg h
theorem rd_no {zd : Nat} {g : fG} {A : Nat → Prop} {f : fH} {R : xLs} {pr : Nat → Nat} {n m : Nat} {ra rb rw x y z : Nat → Nat} {C : Bool} (h : C = false) (h1 : xRd g f R pr n ra rb rw) (h2 : lsO zd R) (h3 : xLop g A f f R R) : (R.n = if C = true then m else R.n) ∧ xRd g f R pr n (if C = true then x else ra) (if C = true then y else rb) (if C = true then z else rw) ∧ lsO zd R ∧ xLop g A f f R R := by subst h; exact ⟨rfl, h1, h2, h3⟩
theorem rdok_t {n rn : Nat} {a b v : Int32} (h1 : isP n a = true) (h2 : isP n b = true) (h3 : wi v (nI 0) (nI 200) = true) (h4 : ¬ rn = 8) : rdOk n rn a b v = true := by
  rw [rdOk, h1, h2, h3, decide_eq_false h4]; rfl
set_option maxHeartbeats 4000000 in
theorem xM_X0_reading {l : Launch} {g : fG} {A : Nat → Prop} {En : State → Prop} {zd : Nat} (hX : fX zd g A En) {f : fH} {o : Nat} {tr gr fa : Int32} {rn sh : Nat} {L R : xLs} {pa kd ld tw : Nat → Nat} {lk tk : Nat → Int32} (hO : f o = some (.inr (1, xF tr gr L.a rn R.a fa sh))) (hP : xP g f o L pa kd ld tw lk tk) {pr ra rb rw : Nat → Nat} (hRd : xRd g f R pr L.n ra rb rw) (hAR : xA A R) (hlO : lsO zd R) (a b v : Int32): fC l g A En yX0_reading cX0_reading 4 (some .int) (xR 5 2 13) [.ref o, .int a, .int b, .int v] f (fun v' f' => v' = some (.int (aReading L.n R.n a b v)) ∧ ∃ R' pr', R'.n = (if rdOk L.n R.n a b v then R.n + 1 else R.n) ∧ xRd g f' R' pr' L.n (if rdOk L.n R.n a b v then fup ra R.n (ix a) else ra) (if rdOk L.n R.n a b v then fup rb R.n (ix b) else rb) (if rdOk L.n R.n a b v then fup rw R.n (ix v) else rw) ∧ lsO zd R' ∧ xLop g A f f' R R') := by
  have hE := hX.E
  refine fC.of (by decide) hX.E [some (.ref o), some (.int a), some (.int b), some (.int v)] rfl rfl (fun K G => ?_)
  have G : fGood l g A En RX0 "reading" cX0_reading 4 (some .int) (xR 5 2 13) _ K := G
  have hn8 := hP.2.1
  have hr8 := hRd.2.1
  refine r_aload_n G dX0_reading_0 rfl ?_
  refine r_iload_n G dX0_reading_1 rfl ?_
  refine s_callV (b := o) G [.int a] (xM_X0_noPost hX hO hP a) (lw_V q168 q170 qs0 q70 q171) fy_yX0_noPost rfl ⟨Nat.le_of_ble_eq_true rfl, Nat.le_of_ble_eq_true rfl⟩ (fs := [.int tr, .int gr, .ref L.a, .ref rn, .ref R.a, .int fa, .ref sh]) hO (ci := 1) rfl rfl rfl (Nat.le_of_ble_eq_true rfl) rfl rfl ⟨Nat.zero_le _, Nat.zero_le _⟩ dX0_reading_2 ?_
  show K f 0 0 5 [some (.ref o), some (.int a), some (.int b), some (.int v)] [.int (bI (!isP L.n a))]
  refine r_ifb_ne G 16  dX0_reading_5 (by decide) (fun h5 => ?_) (fun h5 => ?_)
  · have q5 : isP L.n a = false := nt_t h5
    refine r_iconst G (v := -1) dX0_reading_16 (by decide) ?_
    exact r_iret G rfl ⟨Nat.zero_le _, Nat.zero_le _⟩ dX0_reading_17 ⟨rI (by simp [aReading, q5]), R, pr, rd_no (by simp [rdOk, q5]) hRd hlO (xLop.rf hRd.1 hAR)⟩
  · have q5 : isP L.n a = true := nt_f h5
    obtain ⟨ja, hja, rfl⟩ := isP_t (by omega) q5
    have eja : ix (nI ja) = ja := ix_nI (by omega)
    refine r_aload_n G dX0_reading_8 rfl ?_
    refine r_iload_n G dX0_reading_9 rfl ?_
    refine s_callV (b := o) G [.int b] (xM_X0_noPost hX hO hP b) (lw_V q168 q170 qs0 q70 q171) fy_yX0_noPost rfl ⟨Nat.le_of_ble_eq_true rfl, Nat.le_of_ble_eq_true rfl⟩ (fs := [.int tr, .int gr, .ref L.a, .ref rn, .ref R.a, .int fa, .ref sh]) hO (ci := 1) rfl rfl rfl (Nat.le_of_ble_eq_true rfl) rfl rfl ⟨Nat.zero_le _, Nat.zero_le _⟩ dX0_reading_10 ?_
    show K f 0 0 13 [some (.ref o), some (.int (nI ja)), some (.int b), some (.int v)] [.int (bI (!isP L.n b))]
    refine r_ifb_eq G 18  dX0_reading_13 (by decide) (fun h13 => ?_) (fun h13 => ?_)
    · have q13 : isP L.n b = true := nt_f h13
      obtain ⟨jb, hjb, rfl⟩ := isP_t (by omega) q13
      have ejb : ix (nI jb) = jb := ix_nI (by omega)
      refine r_iload_n G dX0_reading_18 rfl ?_
      refine r_i2l G dX0_reading_19 rfl ?_
      refine r_lconst G (v := lN 0) dX0_reading_20 (by decide) ?_
      refine r_ldc2 G q405 dX0_reading_21 ?_
      show K f 0 0 24 [some (.ref o), some (.int (nI ja)), some (.int (nI jb)), some (.int v)] [.long (lN 200), .long (lN 0), .long v.toInt64]
      refine s_callS G [.long v.toInt64, .long (lN 0), .long (lN 200)] (sX_X0_inI hE v 0 200 (by decide) (by decide)) (lw_S q182 q183 q70 q184) fy_yX0_in rfl ⟨Nat.le_of_ble_eq_true rfl, Nat.le_of_ble_eq_true rfl⟩ rfl (Nat.le_of_ble_eq_true rfl) rfl rfl ⟨Nat.zero_le _, Nat.zero_le _⟩ dX0_reading_24 ?_
      show K f 0 0 27 [some (.ref o), some (.int (nI ja)), some (.int (nI jb)), some (.int v)] [.int (bI (wi v (nI 0) (nI 200)))]
      refine r_ifb_ne G 33  dX0_reading_27 (by decide) (fun h27 => ?_) (fun h27 => ?_)
      · obtain ⟨jv, hjv0, hjv, rfl⟩ := wi_t (by decide) (by decide) h27
        have ejv : ix (nI jv) = jv := ix_nI (by omega)
        refine r_aload_n G dX0_reading_33 rfl ?_
        refine r_getf G xCl1 (fs := [.int tr, .int gr, .ref L.a, .ref rn, .ref R.a, .int fa, .ref sh]) hO 4 (by decide) q144 rfl rfl dX0_reading_34 ?_
        refine s_callF (b := R.a) G [] (xM_J2_size hX hRd.1) (lw_F q173 q177 q179 q73 q181) (hX.fw 0 _ rfl) fx_0 rfl ⟨Nat.le_of_ble_eq_true rfl, Nat.le_of_ble_eq_true rfl⟩ (fs := [.int R.mc, .ref R.ea, .int (nI R.n)]) hRd.1.1 (ci := 2) rfl rfl (Nat.le_of_ble_eq_true rfl) rfl rfl ⟨Nat.zero_le _, Nat.zero_le _⟩ dX0_reading_37 ?_
        show K f 0 0 42 [some (.ref o), some (.int (nI ja)), some (.int (nI jb)), some (.int (nI jv))] [.int (nI R.n)]
        refine r_bipush G (v := nI 8) dX0_reading_42 (by decide) ?_
        refine r_icmp_ne G 50 (nI_eq (by omega) (by decide)) dX0_reading_44 (by decide) (fun h44 => ?_) (fun h44 => ?_)
        · refine r_aload_n G dX0_reading_50 rfl ?_
          refine r_getf G xCl1 (fs := [.int tr, .int gr, .ref L.a, .ref rn, .ref R.a, .int fa, .ref sh]) hO 4 (by decide) q144 rfl rfl dX0_reading_51 ?_
          refine r_new G xCl8 q406 q407 q99 hX.an [.int (nI 0), .int (nI 0), .int (nI 0)] (fun j hj => by have hj2 : j = 0 ∨ j = 1 ∨ j = 2 := (by omega); rcases hj2 with rfl | rfl | rfl <;> rfl) (cs' := 1) (ss' := 3) rfl rfl ⟨by decide, by decide⟩ dX0_reading_54 (fun q54 hq54 hAq54 => ?_)
          show K (fU f q54 (.inr (8, [.int (nI 0), .int (nI 0), .int (nI 0)]))) 1 3 57 [some (.ref o), some (.int (nI ja)), some (.int (nI jb)), some (.int (nI jv))] [.ref q54, .ref R.a]
          refine r_dup G dX0_reading_57 rfl ?_
          refine r_iload_n G dX0_reading_58 rfl ?_
          refine r_iload_n G dX0_reading_59 rfl ?_
          refine r_iload_n G dX0_reading_60 rfl ?_
          refine r_callI (b := q54) G [.int (nI ja), .int (nI jb), .int (nI jv)] (xM_X9_init hX hAq54 (fU_s _ _ _) ja jb jv) q410 q99 q408 q409 rfl fy_yX9_init rfl ⟨Nat.le_of_ble_eq_true rfl, Nat.le_of_ble_eq_true rfl⟩ rfl (Nat.le_of_ble_eq_true rfl) rfl rfl ⟨by decide, by decide⟩ dX0_reading_61 (fun v61 f61 hp61 => ?_)
          obtain ⟨rfl, rfl⟩ := hp61
          rw [fU_uu]
          obtain ⟨f1, hf1⟩ : ∃ z, z = fU f q54 (.inr (8, [.int (nI ja), .int (nI jb), .int (nI jv)])) := ⟨_, rfl⟩
          have hq1 : f1 q54 = some (.inr (8, [.int (nI ja), .int (nI jb), .int (nI jv)])) := by rw [hf1]; exact fU_s _ _ _
          have kn := kp.new (Q := fun _ _ => True) (.inr (8, [.int (nI ja), .int (nI jb), .int (nI jv)])) hq54
          have hpre : ∀ {f' : fH} {R' : xLs}, xLop g A f1 f' R R' → xLop g A f f' R R' := fun h => by rw [hf1] at h; exact h.pre hq54
          rw [← hf1] at kn ⊢
          have hO := kn _ _ trivial hO
          have hRd1 := hRd.of (fun x e _ h => kn x e trivial h)
          have hqa : q54 ≠ R.a := fun z => by rw [z, hRd1.1.1] at hq1; cases hq1
          show K f1 1 3 64 [some (.ref o), some (.int (nI ja)), some (.int (nI jb)), some (.int (nI jv))] [.ref q54, .ref R.a]
          have hcap : R.n < R.cap ∨ (R.cap = 0 ∧ R.ea = zd) := by rcases hlO with z | z; exact Or.inr z; exact Or.inl (by omega)
          rcases hcap with hcap | ⟨hcap, hz⟩
          · have hmd := hcap
            refine r_callF (b := R.a) G [.ref q54] (xM_J2_add_a hX hRd1.1 hAR hcap q54 hq1 (ci := 8) rfl (Or.inr (hX.nw 30 _ rfl)) hqa) (lw_F q426 q429 q431 q73 q433) (hX.fw 3 _ rfl) fx_3 rfl ⟨Nat.le_of_ble_eq_true rfl, Nat.le_of_ble_eq_true rfl⟩ (fs := [.int R.mc, .ref R.ea, .int (nI R.n)]) hRd1.1.1 (ci := 2) rfl rfl (Nat.le_of_ble_eq_true rfl) rfl rfl ⟨by decide, by decide⟩ dX0_reading_64 (fun v64 f64 hp64 => ?_)
            obtain ⟨rfl, R', hR', hop⟩ := hp64
            have hRn : R'.n = R.n + 1 := by rw [hR']; rfl
            have hRa : R'.a = R.a := by rw [hR']; rfl
            have hRd2 := hRd1.add hop hRn (by omega) (q := q54) (by rw [hR']; exact va_up_s) (fun x hx => by rw [hR']; exact va_up_n (by omega)) hq1 hja hjb hjv
            have hlO2 : lsO zd R' := by rw [hR']; exact hlO
            have hO : f64 o = some (.inr (1, xF tr gr L.a rn R.a fa sh)) := hop.2.2.2.2 o _ (fun z => by rw [z, hRd1.1.1] at hO; cases hO) (fun z => by rw [z, hRd1.1.2.1] at hO; cases hO) hO
            have hLs := hop.1.1
            rw [hRa] at hLs
            show K f64 1 3 69 [some (.ref o), some (.int (nI ja)), some (.int (nI jb)), some (.int (nI jv))] [.int 1]
            refine r_pop G dX0_reading_69 rfl ?_
            refine r_aload_n G dX0_reading_70 rfl ?_
            refine r_getf G xCl1 (fs := [.int tr, .int gr, .ref L.a, .ref rn, .ref R.a, .int fa, .ref sh]) hO 4 (by decide) q144 rfl rfl dX0_reading_71 ?_
            refine s_callF (b := R.a) G [] ((by have h := xM_J2_size (l := l) hX hop.1; rw [hRa, hRn] at h; exact h)) (lw_F q173 q177 q179 q73 q181) (hX.fw 0 _ rfl) fx_0 rfl ⟨Nat.le_of_ble_eq_true rfl, Nat.le_of_ble_eq_true rfl⟩ (fs := [.int R'.mc, .ref R'.ea, .int (nI R'.n)]) hLs (ci := 2) rfl rfl (Nat.le_of_ble_eq_true rfl) rfl rfl ⟨by decide, by decide⟩ dX0_reading_74 ?_
            show K f64 1 3 79 [some (.ref o), some (.int (nI ja)), some (.int (nI jb)), some (.int (nI jv))] [.int (nI (R.n + 1))]
            refine r_iconst G (v := nI 1) dX0_reading_79 (by decide) ?_
            refine r_isub G (v := (nI ((R.n + 1) - 1))) dX0_reading_80 (pk_sub (by omega)) ?_
            exact r_iret G rfl ⟨by decide, by decide⟩ dX0_reading_81 ⟨rI (by rw [aReading, q5, q13, h27]; simp [h44]), R', _, by rw [if_pos (rdok_t q5 q13 h27 h44)]; exact hRn, by rw [if_pos (rdok_t q5 q13 h27 h44), if_pos (rdok_t q5 q13 h27 h44), if_pos (rdok_t q5 q13 h27 h44), eja, ejb, ejv]; exact hRd2, hlO2, hpre hop⟩
          · have hmd := hcap
            refine r_callF (b := R.a) G [.ref q54] (xM_J2_add_b hX hRd1.1 hAR hcap hz q54 hq1 (ci := 8) rfl (Or.inr (hX.nw 30 _ rfl)) hqa) (lw_F q426 q429 q431 q73 q433) (hX.fw 3 _ rfl) fx_3 rfl ⟨Nat.le_of_ble_eq_true rfl, Nat.le_of_ble_eq_true rfl⟩ (fs := [.int R.mc, .ref R.ea, .int (nI R.n)]) hRd1.1.1 (ci := 2) rfl rfl (Nat.le_of_ble_eq_true rfl) (cs' := 2) (ss' := 13) rfl rfl ⟨by decide, by decide⟩ dX0_reading_64 (fun v64 f64 hp64 => ?_)
            obtain ⟨rfl, R', ea', hR', hop⟩ := hp64
            have hRn : R'.n = R.n + 1 := by rw [hR']; rfl
            have hRa : R'.a = R.a := by rw [hR']; rfl
            have hRd2 := hRd1.add hop hRn (by omega) (q := q54) (by rw [hR']; show va_up (fun _ => (none : Option Nat)) R.n (some q54) R.n = some q54; exact va_up_s) (fun x hx => by have := hRd.1.2.2; omega) hq1 hja hjb hjv
            have hlO2 : lsO zd R' := by rw [hR']; exact Or.inr rfl
            have hO : f64 o = some (.inr (1, xF tr gr L.a rn R.a fa sh)) := hop.2.2.2.2 o _ (fun z => by rw [z, hRd1.1.1] at hO; cases hO) (fun z => by rw [z, hRd1.1.2.1] at hO; cases hO) hO
            have hLs := hop.1.1
            rw [hRa] at hLs
            show K f64 2 13 69 [some (.ref o), some (.int (nI ja)), some (.int (nI jb)), some (.int (nI jv))] [.int 1]
            refine r_pop G dX0_reading_69 rfl ?_
            refine r_aload_n G dX0_reading_70 rfl ?_
            refine r_getf G xCl1 (fs := [.int tr, .int gr, .ref L.a, .ref rn, .ref R.a, .int fa, .ref sh]) hO 4 (by decide) q144 rfl rfl dX0_reading_71 ?_
            refine s_callF (b := R.a) G [] ((by have h := xM_J2_size (l := l) hX hop.1; rw [hRa, hRn] at h; exact h)) (lw_F q173 q177 q179 q73 q181) (hX.fw 0 _ rfl) fx_0 rfl ⟨Nat.le_of_ble_eq_true rfl, Nat.le_of_ble_eq_true rfl⟩ (fs := [.int R'.mc, .ref R'.ea, .int (nI R'.n)]) hLs (ci := 2) rfl rfl (Nat.le_of_ble_eq_true rfl) rfl rfl ⟨by decide, by decide⟩ dX0_reading_74 ?_
            show K f64 2 13 79 [some (.ref o), some (.int (nI ja)), some (.int (nI jb)), some (.int (nI jv))] [.int (nI (R.n + 1))]
            refine r_iconst G (v := nI 1) dX0_reading_79 (by decide) ?_
            refine r_isub G (v := (nI ((R.n + 1) - 1))) dX0_reading_80 (pk_sub (by omega)) ?_
            exact r_iret G rfl ⟨by decide, by decide⟩ dX0_reading_81 ⟨rI (by rw [aReading, q5, q13, h27]; simp [h44]), R', _, by rw [if_pos (rdok_t q5 q13 h27 h44)]; exact hRn, by rw [if_pos (rdok_t q5 q13 h27 h44), if_pos (rdok_t q5 q13 h27 h44), if_pos (rdok_t q5 q13 h27 h44), eja, ejb, ejv]; exact hRd2, hlO2, hpre hop⟩
        · refine r_bipush G (v := -4) dX0_reading_47 (by decide) ?_
          exact r_iret G rfl ⟨Nat.zero_le _, Nat.zero_le _⟩ dX0_reading_49 ⟨rI (by simp [aReading, q5, q13, h27, h44]), R, pr, rd_no (by simp [rdOk, q5, q13, h27, h44]) hRd hlO (xLop.rf hRd.1 hAR)⟩
      · refine r_bipush G (v := -2) dX0_reading_30 (by decide) ?_
        exact r_iret G rfl ⟨Nat.zero_le _, Nat.zero_le _⟩ dX0_reading_32 ⟨rI (by simp [aReading, q5, q13, h27]), R, pr, rd_no (by simp [rdOk, q5, q13, h27]) hRd hlO (xLop.rf hRd.1 hAR)⟩
    · have q13 : isP L.n b = false := nt_t h13
      refine r_iconst G (v := -1) dX0_reading_16 (by decide) ?_
      exact r_iret G rfl ⟨Nat.zero_le _, Nat.zero_le _⟩ dX0_reading_17 ⟨rI (by simp [aReading, q5, q13]), R, pr, rd_no (by simp [rdOk, q5, q13]) hRd hlO (xLop.rf hRd.1 hAR)⟩
set_option maxHeartbeats 4000000 in
theorem xM_X0_back {l : Launch} {g : fG} {A : Nat → Prop} {En : State → Prop} {zd : Nat} (hX : fX zd g A En) {f : fH} {o : Nat} {tr gr fa : Int32} {lp rn sh : Nat} {R : xLs} (hO : f o = some (.inr (1, xF tr gr lp rn R.a fa sh))) {pr ra rb rw : Nat → Nat} {n : Nat} (hRd : xRd g f R pr n ra rb rw) (hAR : xA A R) (hlO : lsO zd R) (k : Int32): fC l g A En yX0_back cX0_back 3 (some .int) (fR 3) [.ref o, .int k] f (fun v f' => v = some (.int (aBack R.n k)) ∧ ∃ R', R'.n = (if wi k (nI 0) (nI R.n) then R.n - ix k else R.n) ∧ xRd g f' R' pr n ra rb rw ∧ lsO zd R' ∧ xLop g A f f' R R') := by
  have hE := hX.E
  refine fC.of (by decide) hX.E [some (.ref o), some (.int k), none] rfl rfl (fun K G => ?_)
  have G : fGood l g A En RX0 "back" cX0_back 3 (some .int) (fR 3) _ K := G
  have hr8 := hRd.2.1
  refine r_iload_n G dX0_back_0 rfl ?_
  refine r_i2l G dX0_back_1 rfl ?_
  refine r_lconst G (v := lN 0) dX0_back_2 (by decide) ?_
  refine r_aload_n G dX0_back_3 rfl ?_
  refine r_getf G xCl1 (fs := [.int tr, .int gr, .ref lp, .ref rn, .ref R.a, .int fa, .ref sh]) hO 4 (by decide) q144 rfl rfl dX0_back_4 ?_
  refine s_callF (b := R.a) G [] (xM_J2_size hX hRd.1) (lw_F q173 q177 q179 q73 q181) (hX.fw 0 _ rfl) fx_0 rfl ⟨Nat.le_of_ble_eq_true rfl, Nat.le_of_ble_eq_true rfl⟩ (fs := [.int R.mc, .ref R.ea, .int (nI R.n)]) hRd.1.1 (ci := 2) rfl rfl (Nat.le_of_ble_eq_true rfl) rfl rfl ⟨Nat.zero_le _, Nat.zero_le _⟩ dX0_back_7 ?_
  show K f 0 0 12 [some (.ref o), some (.int k), none] [.int (nI R.n), .long (lN 0), .long k.toInt64]
  refine r_i2l G (v := lN R.n) dX0_back_12 (nI_l (by omega)) ?_
  refine s_callS G [.long k.toInt64, .long (lN 0), .long (lN R.n)] (sX_X0_inI hE k 0 R.n (by decide) (by omega)) (lw_S q182 q183 q70 q184) fy_yX0_in rfl ⟨Nat.le_of_ble_eq_true rfl, Nat.le_of_ble_eq_true rfl⟩ rfl (Nat.le_of_ble_eq_true rfl) rfl rfl ⟨Nat.zero_le _, Nat.zero_le _⟩ dX0_back_13 ?_
  show K f 0 0 16 [some (.ref o), some (.int k), none] [.int (bI (wi k (nI 0) (nI R.n)))]
  refine r_ifb_ne G 22  dX0_back_16 (by decide) (fun h16 => ?_) (fun h16 => ?_)
  · obtain ⟨jk, hjk0, hjk, rfl⟩ := wi_t (by decide) (by omega) h16
    have ejk : ix (nI jk) = jk := ix_nI (by omega)
    refine r_iconst G (v := nI 0) dX0_back_22 (by decide) ?_
    refine r_istore_n G (lo' := [some (.ref o), some (.int (nI jk)), some (.int (nI 0))]) dX0_back_23 rfl rfl ?_
    have L24 : ∀ (fu : Nat) (fx : fH) (mc : Int32) (nx : Nat) (el : Nat → Option Nat) (x : Nat), (xRd g fx (mkL R.a R.ea mc R.cap nx el) pr n ra rb rw) → (xLop g A f fx R (mkL R.a R.ea mc R.cap nx el)) → (nx + x = R.n) → (x ≤ jk) → jk - x < fu → K fx 0 0 24 [some (.ref o), some (.int (nI jk)), some (.int (nI x))] [] := by
      intro fu
      induction fu with
      | zero => intro fx mc nx el x hRd hop hnx hx hm24; exact absurd hm24 (Nat.not_lt_zero _)
      | succ fu24 ih24 =>
        intro fx mc nx el x hRdx hop hnx hx hm24
        have hO : fx o = some (.inr (1, xF tr gr lp rn R.a fa sh)) := hop.2.2.2.2 o _ (fun z => by rw [z, hRd.1.1] at hO; cases hO) (fun z => by rw [z, hRd.1.2.1] at hO; cases hO) hO
        have hRd := hRdx
        refine r_iload_n G dX0_back_24 rfl ?_
        refine r_iload_n G dX0_back_25 rfl ?_
        refine r_icmp_ge G 56 (nI_leI (by omega) (by omega)) dX0_back_26 (by decide) (fun h26 => ?_) (fun h26 => ?_)
        · refine r_aload_n G dX0_back_56 rfl ?_
          refine r_getf G xCl1 (fs := [.int tr, .int gr, .ref lp, .ref rn, .ref R.a, .int fa, .ref sh]) hO 4 (by decide) q144 rfl rfl dX0_back_57 ?_
          refine s_callF (b := R.a) G [] (xM_J2_size hX (L := (mkL R.a R.ea mc R.cap nx el)) hRd.1) (lw_F q173 q177 q179 q73 q181) (hX.fw 0 _ rfl) fx_0 rfl ⟨Nat.le_of_ble_eq_true rfl, Nat.le_of_ble_eq_true rfl⟩ (fs := [.int mc, .ref R.ea, .int (nI nx)]) hRd.1.1 (ci := 2) rfl rfl (Nat.le_of_ble_eq_true rfl) rfl rfl ⟨Nat.zero_le _, Nat.zero_le _⟩ dX0_back_60 ?_
          show K fx 0 0 65 [some (.ref o), some (.int (nI jk)), some (.int (nI x))] [.int (nI nx)]
          exact r_iret G rfl ⟨Nat.zero_le _, Nat.zero_le _⟩ dX0_back_65 ⟨rI (by rw [aBack, h16, if_pos rfl, ejk, show nx = R.n - jk by omega]), _, by rw [if_pos h16, ejk]; show nx = R.n - jk; omega, hRd, hlO, hop⟩
        · refine r_aload_n G dX0_back_29 rfl ?_
          refine r_getf G xCl1 (fs := [.int tr, .int gr, .ref lp, .ref rn, .ref R.a, .int fa, .ref sh]) hO 4 (by decide) q144 rfl rfl dX0_back_30 ?_
          refine r_aload_n G dX0_back_33 rfl ?_
          refine r_getf G xCl1 (fs := [.int tr, .int gr, .ref lp, .ref rn, .ref R.a, .int fa, .ref sh]) hO 4 (by decide) q144 rfl rfl dX0_back_34 ?_
          refine s_callF (b := R.a) G [] (xM_J2_size hX (L := (mkL R.a R.ea mc R.cap nx el)) hRd.1) (lw_F q173 q177 q179 q73 q181) (hX.fw 0 _ rfl) fx_0 rfl ⟨Nat.le_of_ble_eq_true rfl, Nat.le_of_ble_eq_true rfl⟩ (fs := [.int mc, .ref R.ea, .int (nI nx)]) hRd.1.1 (ci := 2) rfl rfl (Nat.le_of_ble_eq_true rfl) rfl rfl ⟨Nat.zero_le _, Nat.zero_le _⟩ dX0_back_37 ?_
          show K fx 0 0 42 [some (.ref o), some (.int (nI jk)), some (.int (nI x))] [.int (nI nx), .ref R.a]
          refine r_iconst G (v := nI 1) dX0_back_42 (by decide) ?_
          refine r_isub G (v := (nI (nx - 1))) dX0_back_43 (pk_sub (by omega)) ?_
          refine r_callF (b := R.a) G [.int (nI (nx - 1))] (xM_J2_remove hX hRd.1 hop.2.1 (nx - 1) (show nx - 1 + 1 = nx by omega)) (lw_F q496 q499 q501 q73 q503) (hX.fw 4 _ rfl) fx_4 rfl ⟨Nat.le_of_ble_eq_true rfl, Nat.le_of_ble_eq_true rfl⟩ (fs := [.int mc, .ref R.ea, .int (nI nx)]) hRd.1.1 (ci := 2) rfl rfl (Nat.le_of_ble_eq_true rfl) rfl rfl ⟨Nat.zero_le _, Nat.zero_le _⟩ dX0_back_44 (fun v44 f44 hp44 => ?_)
          obtain ⟨rfl, R', hR', hop2⟩ := hp44
          have hR2 : R' = mkL R.a R.ea (mc + 1) R.cap (nx - 1) (va_up el (nx - 1) none) := hR'
          rw [hR2] at hop2
          have hRd2 := hRd.del hop2 (show nx - 1 ≤ nx by omega) (fun x hx => va_up_n (show x ≠ nx - 1 from Nat.ne_of_lt hx))
          show K f44 0 0 49 [some (.ref o), some (.int (nI jk)), some (.int (nI x))] [va_rf ((el (nx - 1)))]
          refine r_pop G dX0_back_49 (rf_cat _) ?_
          refine r_iinc G (v := (nI (x + 1))) (lo' := [some (.ref o), some (.int (nI jk)), some (.int (nI (x + 1)))]) dX0_back_50 rfl (nI_add x 1) rfl rfl ?_
          refine r_goto G 24 dX0_back_53 (by decide) ?_
          exact ih24 _ _ _ _ (x + 1) hRd2 (hop.tr hop2) (by omega) (by omega) (by omega)
    exact L24 (R.n + 1) f R.mc R.n R.el 0 hRd (xLop.rf hRd.1 hAR) rfl (Nat.zero_le _) (by omega)
  · refine r_bipush G (v := -2) dX0_back_19 (by decide) ?_
    exact r_iret G rfl ⟨Nat.zero_le _, Nat.zero_le _⟩ dX0_back_21 ⟨rI (by simp [aBack, h16]), R, by rw [h16]; exact ⟨rfl, hRd, hlO, xLop.rf hRd.1 hAR⟩⟩
end XX21
