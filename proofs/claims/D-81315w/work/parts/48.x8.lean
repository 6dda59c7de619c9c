/-! the component: a post's worth -/
set_option maxRecDepth 100000
section XX8
theorem lw_SU {own : String} {idx : Nat} {y : MethodName} {b : ByteArray} {L : Nat} {r : Option FieldType} (h1 : Cond.methodLink own idx y ∈ lw_all) (h2 : Cond.sameMethod y.cls y.cls y.name y.desc ∈ lw_all) (h3 : Cond.superclass own y.cls ∈ lw_all) (h4 : Cond.instanceMethod y ∈ lw_all) (h5 : Cond.initialized y.cls ∈ lw_all) (h6 : Cond.code y b L r ∈ lw_all) : GoodIn lw_all (va_wsSU own idx y (ws_ y b L r)) := by
  refine lw_app ?_ (lw_meth h6)
  intro w hw
  simp only [List.mem_cons, List.not_mem_nil, or_false] at hw
  rcases hw with rfl | rfl | rfl | rfl | rfl
  · exact h1
  · exact h2
  · exact h3
  · exact h4
  · exact h5
theorem lw_U {own : String} {idx : Nat} {C owner : String} {x y : MethodName} {b : ByteArray} {L : Nat} {r : Option FieldType} (h1 : Cond.methodLink own idx x ∈ lw_all) (h2 : Cond.sameMethod x.cls owner x.name x.desc ∈ lw_all) (h4 : Cond.selects C x y ∈ lw_all) (h5 : Cond.instanceMethod y ∈ lw_all) (h6 : Cond.initialized y.cls ∈ lw_all) (h7 : Cond.code y b L r ∈ lw_all) : GoodIn lw_all (va_wsU own idx C owner x y (ws_ y b L r)) := by
  refine lw_app ?_ (lw_meth h7)
  intro w hw
  simp only [List.mem_cons, List.not_mem_nil, or_false] at hw
  rcases hw with rfl | rfl | rfl | rfl | rfl
  · exact h1
  · exact h2
  · exact h4
  · exact h5
  · exact h6
theorem fcl_kd {kd : Nat} (h : kd ≤ 2) : ∃ q, fCl[3 + kd]? = some q := by
  match kd, h with
  | 0, _ => exact ⟨_, rfl⟩
  | 1, _ => exact ⟨_, rfl⟩
  | 2, _ => exact ⟨_, rfl⟩
set_option maxHeartbeats 4000000 in
theorem xM_X6_plainWorth {l : Launch} {g : fG} {A : Nat → Prop} {En : State → Prop} {zd : Nat} (hX : fX zd g A En) {f : fH} {kd o ld tw : Nat} {lk tk : Int32} (hk : kd ≤ 2) {a : Nat} (hP : f a = some (.inr (3 + kd, pO kd o ld tw lk tk))): fC l g A En yX6_plainWorth cX6_plainWorth 1 (some .int) (fR 1) [.ref a] f (fun v f' => f' = f ∧ v = some (.int (nI ld))) := by
  have hE := hX.E
  refine fC.of (by decide) hX.E [some (.ref a)] rfl rfl (fun K G => ?_)
  have G : fGood l g A En RX6 "plainWorth" cX6_plainWorth 1 (some .int) (fR 1) _ K := G
  obtain ⟨qc, hqc⟩ := fcl_kd hk
  refine r_aload_n G dX6_plainWorth_0 rfl ?_
  refine r_callSU G [] (xM_X5_worth hX hk hP) (lw_SU q229 q219 q230 q217 q90 q231) ⟨by decide, by decide +kernel⟩ rfl ⟨Nat.le_of_ble_eq_true rfl, Nat.le_of_ble_eq_true rfl⟩ hP hqc rfl (Nat.le_of_ble_eq_true rfl) rfl rfl ⟨Nat.zero_le _, Nat.zero_le _⟩ dX6_plainWorth_1 (fun v1 f1 hp1 => ?_)
  obtain ⟨hf1, rfl⟩ := hp1
  rw [hf1]
  show K f 0 0 4 [some (.ref a)] [.int (nI ld)]
  exact r_iret G rfl ⟨Nat.zero_le _, Nat.zero_le _⟩ dX6_plainWorth_4 ⟨rfl, rfl⟩
set_option maxHeartbeats 4000000 in
theorem xM_X6_worth {l : Launch} {g : fG} {A : Nat → Prop} {En : State → Prop} {zd : Nat} (hX : fX zd g A En) {f : fH} {o ld tw : Nat} {lk tk : Int32} {a : Nat} (hP : f a = some (.inr (3 + 1, pO 1 o ld tw lk tk))): fC l g A En yX6_worth cX6_worth 1 (some .int) (fR 2) [.ref a] f (fun v f' => f' = f ∧ v = some (.int (nI (ld + 1)))) := by
  have hE := hX.E
  refine fC.of (by decide) hX.E [some (.ref a)] rfl rfl (fun K G => ?_)
  have G : fGood l g A En RX6 "worth" cX6_worth 1 (some .int) (fR 2) _ K := G
  refine r_aload_n G dX6_worth_0 rfl ?_
  refine r_callU G [] (xM_X6_plainWorth hX (kd := 1) (by decide) hP) (lw_U q223 q226 q225 q224 q91 q228) rfl ⟨by decide, by decide, by decide +kernel⟩ rfl ⟨Nat.le_of_ble_eq_true rfl, Nat.le_of_ble_eq_true rfl⟩ hP (ci := 3 + 1) rfl rfl (Nat.le_of_ble_eq_true rfl) rfl rfl ⟨Nat.zero_le _, Nat.zero_le _⟩ dX6_worth_1 (fun v1 f1 hp1 => ?_)
  obtain ⟨hf1, rfl⟩ := hp1
  rw [hf1]
  show K f 0 0 4 [some (.ref a)] [.int (nI ld)]
  refine r_iconst G (v := nI 1) dX6_worth_4 (by decide) ?_
  refine r_iadd G (v := (nI (ld + 1))) dX6_worth_5 (nI_add ld 1) ?_
  exact r_iret G rfl ⟨Nat.zero_le _, Nat.zero_le _⟩ dX6_worth_6 ⟨rfl, rfl⟩
set_option maxHeartbeats 4000000 in
theorem xM_X7_worth {l : Launch} {g : fG} {A : Nat → Prop} {En : State → Prop} {zd : Nat} (hX : fX zd g A En) {f : fH} {o ld tw : Nat} {lk tk : Int32} {a : Nat} (hP : f a = some (.inr (3 + 2, pO 2 o ld tw lk tk))): fC l g A En yX7_worth cX7_worth 1 (some .int) (fR 2) [.ref a] f (fun v f' => f' = f ∧ v = some (.int (nI (2 * ld)))) := by
  have hE := hX.E
  refine fC.of (by decide) hX.E [some (.ref a)] rfl rfl (fun K G => ?_)
  have G : fGood l g A En RX7 "worth" cX7_worth 1 (some .int) (fR 2) _ K := G
  refine r_iconst G (v := nI 2) dX7_worth_0 (by decide) ?_
  refine r_aload_n G dX7_worth_1 rfl ?_
  refine r_callU G [] (xM_X6_plainWorth hX (kd := 2) (by decide) hP) (lw_U q235 q236 q238 q224 q91 q228) rfl ⟨by decide, by decide, by decide +kernel⟩ rfl ⟨Nat.le_of_ble_eq_true rfl, Nat.le_of_ble_eq_true rfl⟩ hP (ci := 3 + 2) rfl rfl (Nat.le_of_ble_eq_true rfl) rfl rfl ⟨Nat.zero_le _, Nat.zero_le _⟩ dX7_worth_2 (fun v2 f2 hp2 => ?_)
  obtain ⟨hf2, rfl⟩ := hp2
  rw [hf2]
  show K f 0 0 5 [some (.ref a)] [.int (nI ld), .int (nI 2)]
  refine r_imul G (v := (nI (2 * ld))) dX7_worth_5 (pk_mul 2 ld) ?_
  exact r_iret G rfl ⟨Nat.zero_le _, Nat.zero_le _⟩ dX7_worth_6 ⟨rfl, rfl⟩
end XX8
