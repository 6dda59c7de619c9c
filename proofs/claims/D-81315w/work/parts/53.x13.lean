/-! the component: the farthest -/
set_option maxRecDepth 100000
section XX13
theorem xM_X0_far0 {l : Launch} {g : fG} {A : Nat → Prop} {En : State → Prop} {zd : Nat} (hX : fX zd g A En) {f : fH} {o : Nat} {tr gr fa : Int32} {rn lr sh : Nat} {L : xLs} {pa kd ld tw : Nat → Nat} {lk tk : Nat → Int32} (hO : f o = some (.inr (1, xF tr gr L.a rn lr fa sh))) (hP : xP g f o L pa kd ld tw lk tk) {d : Nat → Nat → Nat} (T : TM L.n tw d) (a b : Nat) (ha : a < L.n) (hb : b < L.n) : fC l g A En yX0_farFrom cX0_farFrom 7 (some .int) (fR 11) [.ref o, .int (nI a), .int (-9), .int (nI b)] f (fun v f' => f' = f ∧ v = some (.int (nI (d a b)))) := by
  have h := xM_X0_farFrom (l := l) hX hO hP T hb 8 a none ha (fun p hp => by cases hp) (fun y hy _ => by have := T.dl ha hy; have := hP.2.1; omega)
  rw [ffv_t (fun p hp => by cases hp)] at h
  exact h
theorem mx_s {q : Nat} {f : Nat → Nat} : max (maxN q f) (f q) = maxN (q + 1) f := by
  by_cases h : f q ≤ maxN q f
  · rw [← maxN_f rfl h]; omega
  · rw [← maxN_t rfl h]; omega
set_option maxHeartbeats 4000000 in
theorem xM_X0_farthest {l : Launch} {g : fG} {A : Nat → Prop} {En : State → Prop} {zd : Nat} (hX : fX zd g A En) {f : fH} {o : Nat} {tr gr fa : Int32} {rn lr sh : Nat} {L : xLs} {pa kd ld tw : Nat → Nat} {lk tk : Nat → Int32} (hO : f o = some (.inr (1, xF tr gr L.a rn lr fa sh))) (hP : xP g f o L pa kd ld tw lk tk) {d : Nat → Nat → Nat} (T : TM L.n tw d) (p : Nat) (hp : p < L.n): fC l g A En yX0_farthest cX0_farthest 4 (some .int) (fR 12) [.ref o, .int (nI p)] f (fun v f' => f' = f ∧ v = some (.int (nI (maxN L.n (d p))))) := by
  have hE := hX.E
  refine fC.of (by decide) hX.E [some (.ref o), some (.int (nI p)), none, none] rfl rfl (fun K G => ?_)
  have G : fGood l g A En RX0 "farthest" cX0_farthest 4 (some .int) (fR 12) _ K := G
  have hn8 := hP.2.1
  refine r_iconst G (v := nI 0) dX0_farthest_0 (by decide) ?_
  refine r_istore_n G (lo' := [some (.ref o), some (.int (nI p)), some (.int (nI 0)), none]) dX0_farthest_1 rfl rfl ?_
  refine r_iconst G (v := nI 0) dX0_farthest_2 (by decide) ?_
  refine r_istore_n G (lo' := [some (.ref o), some (.int (nI p)), some (.int (nI 0)), some (.int (nI 0))]) dX0_farthest_3 rfl rfl ?_
  have L4 : ∀ (fu : Nat) (q m : Nat), (q ≤ L.n) → (m = maxN q (d p)) → (m < 8) → L.n - q < fu → K f 0 0 4 [some (.ref o), some (.int (nI p)), some (.int (nI m)), some (.int (nI q))] [] := by
    intro fu
    induction fu with
    | zero => intro q m hq hm hm8 hm4; exact absurd hm4 (Nat.not_lt_zero _)
    | succ fu4 ih4 =>
      intro q m hq hm hm8 hm4
      refine r_iload_n G dX0_farthest_4 rfl ?_
      refine r_aload_n G dX0_farthest_5 rfl ?_
      refine r_getf G xCl1 (fs := [.int tr, .int gr, .ref L.a, .ref rn, .ref lr, .int fa, .ref sh]) hO 2 (by decide) q142 rfl rfl dX0_farthest_6 ?_
      refine s_callF (b := L.a) G [] (xM_J2_size hX hP.1) (lw_F q173 q177 q179 q73 q181) (hX.fw 0 _ rfl) fx_0 rfl ⟨Nat.le_of_ble_eq_true rfl, Nat.le_of_ble_eq_true rfl⟩ (fs := [.int L.mc, .ref L.ea, .int (nI L.n)]) hP.1.1 (ci := 2) rfl rfl (Nat.le_of_ble_eq_true rfl) rfl rfl ⟨Nat.zero_le _, Nat.zero_le _⟩ dX0_farthest_9 ?_
      show K f 0 0 14 [some (.ref o), some (.int (nI p)), some (.int (nI m)), some (.int (nI q))] [.int (nI L.n), .int (nI q)]
      refine r_icmp_ge G 36 (nI_leI (by omega) (by omega)) dX0_farthest_14 (by decide) (fun h14 => ?_) (fun h14 => ?_)
      · refine r_iload_n G dX0_farthest_36 rfl ?_
        exact r_iret G rfl ⟨Nat.zero_le _, Nat.zero_le _⟩ dX0_farthest_37 ⟨rfl, rv (by rw [hm, show q = L.n by omega])⟩
      · refine r_iload_n G dX0_farthest_17 rfl ?_
        refine r_aload_n G dX0_farthest_18 rfl ?_
        refine r_iload_n G dX0_farthest_19 rfl ?_
        refine r_bipush G (v := -9) dX0_farthest_20 (by decide) ?_
        refine r_iload_n G dX0_farthest_22 rfl ?_
        refine s_callV (b := o) G [.int (nI p), .int (-9), .int (nI q)] (xM_X0_far0 hX hO hP T p q hp (by omega)) (lw_V q249 q251 qs2 q70 q252) fy_yX0_farFrom rfl ⟨Nat.le_of_ble_eq_true rfl, Nat.le_of_ble_eq_true rfl⟩ (fs := [.int tr, .int gr, .ref L.a, .ref rn, .ref lr, .int fa, .ref sh]) hO (ci := 1) rfl rfl rfl (Nat.le_of_ble_eq_true rfl) rfl rfl ⟨Nat.zero_le _, Nat.zero_le _⟩ dX0_farthest_23 ?_
        show K f 0 0 26 [some (.ref o), some (.int (nI p)), some (.int (nI m)), some (.int (nI q))] [.int (nI (d p q)), .int (nI m)]
        refine r_mmax G (v := (nI (max m (d p q)))) q260 q261 q89 mmax_code ⟨Nat.le_of_ble_eq_true rfl, Nat.le_of_ble_eq_true rfl⟩ (Nat.le_of_ble_eq_true rfl) ⟨Nat.zero_le _, Nat.zero_le _⟩ (mmaxN (by omega) (by have := T.dl hp (show q < L.n by omega); omega)) dX0_farthest_26 ?_
        refine r_istore_n G (lo' := [some (.ref o), some (.int (nI p)), some (.int (nI (max m (d p q)))), some (.int (nI q))]) dX0_farthest_29 rfl rfl ?_
        refine r_iinc G (v := (nI (q + 1))) (lo' := [some (.ref o), some (.int (nI p)), some (.int (nI (max m (d p q)))), some (.int (nI (q + 1)))]) dX0_farthest_30 rfl (nI_add q 1) rfl rfl ?_
        refine r_goto G 4 dX0_farthest_33 (by decide) ?_
        exact ih4 _ _ (by omega) (by rw [hm]; exact mx_s) (by have := T.dl hp (show q < L.n by omega); omega) (by omega)
  exact L4 (L.n + 1) 0 0 (Nat.zero_le _) rfl (by decide) (by omega)
end XX13
