/-! the component: a list copied -/
set_option maxRecDepth 100000
section XX4
set_option maxHeartbeats 4000000 in
theorem xM_J15_copyOf_2 {l : Launch} {g : fG} {A : Nat → Prop} {En : State → Prop} {zd : Nat} (hX : fX zd g A En) {f : fH} {L : xLs} (hL : xL g f L) (n : Nat) (hn : n ≤ L.n) {mi : Nat} (hmi : ∀ U, En U → va_Mi "[Ljava/lang/Object;" mi U) (hel : ∀ i : Nat, i < n → ∀ y : Nat, L.el i = some y → ∃ (ci : Nat) (fs : List Value) (r : vw_C), f y = some (.inr (ci, fs)) ∧ fCl[ci]? = some r ∧ (r.1 = "java/lang/Object" ∨ ∀ U, En U → va_Nw (.castable r.1 "java/lang/Object") U)): fC l g A En yJ15_copyOf_2 cJ15_copyOf_2 4 (some (.array (.object "java/lang/Object"))) (xR 2 1 n) [.ref L.ea, .int (nI n), .ref mi] f (fun v f' => ∃ q : Nat, v = some (.ref q) ∧ f q = none ∧ A q ∧ fU f q (.inl (g.2 3, rfA n (va_cpy L.el (fun _ => none) 0 0 n))) = f') := by
  have hE := hX.E
  refine fC.of (by decide) hX.E [some (.ref L.ea), some (.int (nI n)), some (.ref mi), none] rfl rfl (fun K G => ?_)
  have G : fGood l g A En RJ15 "copyOf" cJ15_copyOf_2 4 (some (.array (.object "java/lang/Object"))) (xR 2 1 n) _ K := G
  obtain ⟨hle1, hle2⟩ := hL.2.2
  have hcap : L.cap < 2 ^ 31 := by omega
  refine r_aload_n G dJ15_copyOf_2_0 rfl ?_
  refine r_ldcM G hmi q482 dJ15_copyOf_2_1 ?_
  refine r_acmp_ne (rx := (some mi)) (ry := (some mi)) G 13  dJ15_copyOf_2_3 (by decide) (fun h3 => False.elim (h3 rfl)) (fun h3 => ?_)
  refine r_iload_n G dJ15_copyOf_2_6 rfl ?_
  refine r_newq G (t := 3) rfl q484 (hX.ao _ (Or.inr rfl)) hX.an n (nI_pos (by omega)) (nI_clamp (by omega)) (by omega) (cs' := 1) (ss' := n) rfl (by omega) ⟨Nat.le_of_ble_eq_true rfl, by simp only [xR]; omega⟩ dJ15_copyOf_2_7 (fun q7 hq7 hAq7 => ?_)
  have hn1 : q7 ≠ L.ea := fun e => by rw [e, hL.2.1] at hq7; cases hq7
  show K (fU f q7 (.inl (g.2 3, rfA n (fun _ => none)))) 1 n 10 [some (.ref L.ea), some (.int (nI n)), some (.ref mi), none] [.ref q7]
  refine r_goto G 24 dJ15_copyOf_2_10 (by decide) ?_
  refine r_astore_n G (lo' := [some (.ref L.ea), some (.int (nI n)), some (.ref mi), some (.ref q7)]) dJ15_copyOf_2_24 rfl rfl ?_
  refine r_aload_n G dJ15_copyOf_2_25 rfl ?_
  refine r_iconst G (v := nI 0) dJ15_copyOf_2_26 (by decide) ?_
  refine r_aload_n G dJ15_copyOf_2_27 rfl ?_
  refine r_iconst G (v := nI 0) dJ15_copyOf_2_28 (by decide) ?_
  refine r_aload_n G dJ15_copyOf_2_29 rfl ?_
  refine r_alen G (x := rfA L.cap L.el) 3 rfl (by simp [fU, hL.2.1, hn1, hn1.symm]) (v := (nI L.cap)) rfl dJ15_copyOf_2_30 ?_
  refine r_iload_n G dJ15_copyOf_2_31 rfl ?_
  refine r_mmin G (v := (nI n)) q485 q339 q89 mmin_code ⟨Nat.le_of_ble_eq_true rfl, Nat.le_of_ble_eq_true rfl⟩ (Nat.le_of_ble_eq_true rfl) ⟨Nat.le_of_ble_eq_true rfl, by simp only [xR]; omega⟩ ((mminN hcap (by omega)).trans (congrArg nI (by omega))) dJ15_copyOf_2_32 ?_
  refine r_copyq G (t0 := 3) (t1 := 3) (n0 := L.cap) (n1 := n) (fn := L.el) (gn := fun _ => none) (by simp [fU, hL.2.1, hn1.symm]) (fU_s _ _ _) rfl rfl hAq7 0 0 n (by have := hL.2.2; omega) (by omega) ⟨hcap, by omega⟩ (fun i hi y hy => ?_) q486 q488 q487 q88 ⟨Nat.le_of_ble_eq_true rfl, Nat.le_of_ble_eq_true rfl⟩ (Nat.le_of_ble_eq_true rfl) (f' := fU f q7 (.inl (g.2 3, rfA n (va_cpy L.el (fun _ => none) 0 0 n)))) (fU_uu _ _ _ _) dJ15_copyOf_2_35 ?_
  · rw [Nat.zero_add] at hy
    obtain ⟨ci, fs, r, h1, h2, h3⟩ := hel i hi y hy
    exact ⟨ci, fs, r, by rw [fU_n _ _ (fun z => by rw [z, hq7] at h1; cases h1)]; exact h1, h2, h3⟩
  show K (fU f q7 (.inl (g.2 3, rfA n (va_cpy L.el (fun _ => none) 0 0 n)))) 1 n 38 [some (.ref L.ea), some (.int (nI n)), some (.ref mi), some (.ref q7)] []
  refine r_aload_n G dJ15_copyOf_2_38 rfl ?_
  exact r_aret G rfl (Or.inr ⟨_, rfl⟩) (Or.inr ⟨_, rfl⟩) ⟨Nat.le_of_ble_eq_true rfl, by simp only [xR]; omega⟩ dJ15_copyOf_2_39 ⟨q7, rfl, hq7, hAq7, rfl⟩
set_option maxHeartbeats 4000000 in
theorem xM_J15_copyOf {l : Launch} {g : fG} {A : Nat → Prop} {En : State → Prop} {zd : Nat} (hX : fX zd g A En) {f : fH} {L : xLs} (hL : xL g f L) (n : Nat) (hn : n ≤ L.n) (hel : ∀ i : Nat, i < n → ∀ y : Nat, L.el i = some y → ∃ (ci : Nat) (fs : List Value) (r : vw_C), f y = some (.inr (ci, fs)) ∧ fCl[ci]? = some r ∧ (r.1 = "java/lang/Object" ∨ ∀ U, En U → va_Nw (.castable r.1 "java/lang/Object") U)): fC l g A En yJ15_copyOf cJ15_copyOf 2 (some (.array (.object "java/lang/Object"))) (xR 3 1 n) [.ref L.ea, .int (nI n)] f (fun v f' => ∃ q : Nat, v = some (.ref q) ∧ f q = none ∧ A q ∧ fU f q (.inl (g.2 3, rfA n (va_cpy L.el (fun _ => none) 0 0 n))) = f') := by
  have hE := hX.E
  refine fC.of (by decide) hX.E [some (.ref L.ea), some (.int (nI n))] rfl rfl (fun K G => ?_)
  have G : fGood l g A En RJ15 "copyOf" cJ15_copyOf 2 (some (.array (.object "java/lang/Object"))) (xR 3 1 n) _ K := G
  obtain ⟨mi, hmi⟩ := hX.mi
  obtain ⟨hle1, hle2⟩ := hL.2.2
  refine r_aload_n G dJ15_copyOf_0 rfl ?_
  refine r_iload_n G dJ15_copyOf_1 rfl ?_
  refine r_aload_n G dJ15_copyOf_2 rfl ?_
  refine r_getC G (t := 3) hmi hX.dc hL.2.1 rfl (by decide +kernel) q457 q1567 q458 q478 ⟨Nat.le_of_ble_eq_true rfl, Nat.le_of_ble_eq_true rfl⟩ (Nat.le_of_ble_eq_true rfl) dJ15_copyOf_3 ?_
  refine r_callS G [.ref L.ea, .int (nI n), .ref mi] (xM_J15_copyOf_2 hX hL n hn hmi hel) (lw_S q479 q480 q94 q481) fy_yJ15_copyOf_2 rfl ⟨Nat.le_of_ble_eq_true rfl, Nat.le_of_ble_eq_true rfl⟩ rfl (Nat.le_of_ble_eq_true rfl) (cs' := 1) (ss' := n) rfl (Nat.zero_add n) ⟨Nat.le_refl _, Nat.le_refl _⟩ dJ15_copyOf_6 (fun v6 f6 hp6 => ?_)
  obtain ⟨q6, rfl, hq6, hAq6, rfl⟩ := hp6
  show K (fU f q6 (.inl (g.2 3, rfA n (va_cpy L.el (fun _ => none) 0 0 n)))) 1 n 9 [some (.ref L.ea), some (.int (nI n))] [.ref q6]
  exact r_aret G rfl (Or.inr ⟨_, rfl⟩) (Or.inr ⟨_, rfl⟩) ⟨Nat.le_of_ble_eq_true rfl, by simp only [xR]; omega⟩ dJ15_copyOf_9 ⟨q6, rfl, hq6, hAq6, rfl⟩
set_option maxHeartbeats 4000000 in
theorem xM_J2_toArray {l : Launch} {g : fG} {A : Nat → Prop} {En : State → Prop} {zd : Nat} (hX : fX zd g A En) {f : fH} {L : xLs} (hL : xL g f L) (hel : ∀ i : Nat, i < L.n → ∀ y : Nat, L.el i = some y → ∃ (ci : Nat) (fs : List Value) (r : vw_C), f y = some (.inr (ci, fs)) ∧ fCl[ci]? = some r ∧ (r.1 = "java/lang/Object" ∨ ∀ U, En U → va_Nw (.castable r.1 "java/lang/Object") U)): fC l g A En yJ2_toArray cJ2_toArray 1 (some (.array (.object "java/lang/Object"))) (xR 4 1 L.n) [.ref L.a] f (fun v f' => ∃ q : Nat, v = some (.ref q) ∧ f q = none ∧ A q ∧ fU f q (.inl (g.2 3, rfA L.n (va_cpy L.el (fun _ => none) 0 0 L.n))) = f') := by
  have hE := hX.E
  refine fC.of (by decide) hX.E [some (.ref L.a)] rfl rfl (fun K G => ?_)
  have G : fGood l g A En RJ2 "toArray" cJ2_toArray 1 (some (.array (.object "java/lang/Object"))) (xR 4 1 L.n) _ K := G
  obtain ⟨hle1, hle2⟩ := hL.2.2
  refine r_aload_n G dJ2_toArray_0 rfl ?_
  refine r_getf G xCl2 (fs := [.int L.mc, .ref L.ea, .int (nI L.n)]) hL.1 1 (by decide) q125 rfl rfl dJ2_toArray_1 ?_
  refine r_aload_n G dJ2_toArray_4 rfl ?_
  refine r_getf G xCl2 (fs := [.int L.mc, .ref L.ea, .int (nI L.n)]) hL.1 2 (by decide) q126 rfl rfl dJ2_toArray_5 ?_
  refine r_callS G [.ref L.ea, .int (nI L.n)] (xM_J15_copyOf hX hL L.n (Nat.le_refl _) hel) (lw_S q454 q455 q94 q456) fy_yJ15_copyOf rfl ⟨Nat.le_of_ble_eq_true rfl, Nat.le_of_ble_eq_true rfl⟩ rfl (Nat.le_of_ble_eq_true rfl) (cs' := 1) (ss' := L.n) rfl (Nat.zero_add _) ⟨Nat.le_refl _, Nat.le_refl _⟩ dJ2_toArray_8 (fun v8 f8 hp8 => ?_)
  obtain ⟨q8, rfl, hq8, hAq8, rfl⟩ := hp8
  show K (fU f q8 (.inl (g.2 3, rfA L.n (va_cpy L.el (fun _ => none) 0 0 L.n)))) 1 L.n 11 [some (.ref L.a)] [.ref q8]
  exact r_aret G rfl (Or.inr ⟨_, rfl⟩) (Or.inr ⟨_, rfl⟩) ⟨Nat.le_of_ble_eq_true rfl, Nat.le_refl _⟩ dJ2_toArray_11 ⟨q8, rfl, hq8, hAq8, rfl⟩
end XX4
