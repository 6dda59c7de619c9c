/-! the component: a list added to a list -/
set_option maxRecDepth 100000
section XX5
theorem cpy_0 {f g : Nat → Option Nat} {n i : Nat} (h : i < n) : va_cpy f g 0 0 n i = f i := by
  unfold va_cpy
  simp [h]
set_option maxHeartbeats 4000000 in
theorem xM_J2_addAll_a {l : Launch} {g : fG} {A : Nat → Prop} {En : State → Prop} {zd : Nat} (hX : fX zd g A En) {f : fH} {L M : xLs} (hL : xL g f L) (hM : xL g f M) (hA : xA A L) (hn0 : L.n = 0) (hm : M.n ≠ 0) (hLM : L.a ≠ M.a) (hr : M.n ≤ L.cap) (hel : ∀ i : Nat, i < M.n → ∀ y : Nat, M.el i = some y → y ≠ L.a ∧ ∃ (ci : Nat) (fs : List Value) (r : vw_C), f y = some (.inr (ci, fs)) ∧ fCl[ci]? = some r ∧ (r.1 = "java/lang/Object" ∨ ∀ U, En U → va_Nw (.castable r.1 "java/lang/Object") U)): fC l g A En yJ2_addAll cJ2_addAll 6 (some .boolean) (xR 5 1 M.n) [.ref L.a, .ref M.a] f (fun v f' => v = some (.int 1) ∧ ∃ L', L'.n = M.n ∧ (∀ i, i < M.n → L'.el i = M.el i) ∧ xLop g A f f' L L') := by
  have hE := hX.E
  refine fC.of (by decide) hX.E [some (.ref L.a), some (.ref M.a), none, none, none, none] rfl rfl (fun K G => ?_)
  have G : fGood l g A En RJ2 "addAll" cJ2_addAll 6 (some .boolean) (xR 5 1 M.n) _ K := G
  obtain ⟨hle1, hle2⟩ := hL.2.2
  obtain ⟨hme1, hme2⟩ := hM.2.2
  have hel0 : ∀ i : Nat, i < M.n → ∀ y : Nat, M.el i = some y → ∃ (ci : Nat) (fs : List Value) (r : vw_C), f y = some (.inr (ci, fs)) ∧ fCl[ci]? = some r ∧ (r.1 = "java/lang/Object" ∨ ∀ U, En U → va_Nw (.castable r.1 "java/lang/Object") U) := fun i hi y hy => (hel i hi y hy).2
  refine r_aload_n G dJ2_addAll_0 rfl ?_
  refine r_callF (b := M.a) G [] (xM_J2_toArray hX hM hel0) (lw_F q949 q953 q955 q73 q957) (hX.fw 8 _ rfl) fx_8 rfl ⟨Nat.le_of_ble_eq_true rfl, Nat.le_of_ble_eq_true rfl⟩ (fs := [.int M.mc, .ref M.ea, .int (nI M.n)]) hM.1 (ci := 2) rfl rfl (Nat.le_of_ble_eq_true rfl) (cs' := 1) (ss' := M.n) rfl (Nat.zero_add _) ⟨Nat.le_of_ble_eq_true rfl, by simp only [xR]; omega⟩ dJ2_addAll_1 (fun v1 f1 hp1 => ?_)
  obtain ⟨q1, rfl, hq1, hAq1, rfl⟩ := hp1
  have hn_La : q1 ≠ L.a := fun e => by rw [e, hL.1] at hq1; cases hq1
  have hn_Lea : q1 ≠ L.ea := fun e => by rw [e, hL.2.1] at hq1; cases hq1
  have hn_Ma : q1 ≠ M.a := fun e => by rw [e, hM.1] at hq1; cases hq1
  have hn_Mea : q1 ≠ M.ea := fun e => by rw [e, hM.2.1] at hq1; cases hq1
  show K (fU f q1 (.inl (g.2 3, rfA M.n (va_cpy M.el (fun _ => none) 0 0 M.n)))) 1 M.n 6 [some (.ref L.a), some (.ref M.a), none, none, none, none] [.ref q1]
  refine r_astore_n G (lo' := [some (.ref L.a), some (.ref M.a), some (.ref q1), none, none, none]) dJ2_addAll_6 rfl rfl ?_
  refine r_aload_n G dJ2_addAll_7 rfl ?_
  refine r_dup G dJ2_addAll_8 rfl ?_
  refine r_getfS G xCl2 (fs := [.int L.mc, .ref L.ea, .int (nI L.n)]) (by simp [fU, hL.1, hL.2.1, hL.ne, hL.ne.symm, hn_La, hn_Lea, hn_La.symm, hn_Lea.symm]) 0 (by decide) q128 q129 rfl dJ2_addAll_9 ?_
  refine r_iconst G (v := nI 1) dJ2_addAll_12 (by decide) ?_
  refine r_iadd G (v := (L.mc + 1)) dJ2_addAll_13 rfl ?_
  refine r_putfS G xCl2 (fs := [.int L.mc, .ref L.ea, .int (nI L.n)]) (by simp [fU, hL.1, hL.2.1, hL.ne, hL.ne.symm, hn_La, hn_Lea, hn_La.symm, hn_Lea.symm]) hA.1 0 (by decide) q128 q129 rfl rfl rfl (Nat.le_of_ble_eq_true rfl) (f' := fU (fU f q1 (.inl (g.2 3, rfA M.n (va_cpy M.el (fun _ => none) 0 0 M.n)))) L.a (.inr (2, [.int (L.mc + 1), .ref L.ea, .int (nI L.n)]))) rfl dJ2_addAll_14 ?_
  show K (fU (fU f q1 (.inl (g.2 3, rfA M.n (va_cpy M.el (fun _ => none) 0 0 M.n)))) L.a (.inr (2, [.int (L.mc + 1), .ref L.ea, .int (nI L.n)]))) 1 M.n 17 [some (.ref L.a), some (.ref M.a), some (.ref q1), none, none, none] []
  refine r_aload_n G dJ2_addAll_17 rfl ?_
  refine r_alen G (x := rfA M.n ((va_cpy M.el (fun _ => none) 0 0 M.n))) 3 rfl (by simp [fU, hL.1, hL.2.1, hL.ne, hL.ne.symm, hn_La, hn_Lea, hn_La.symm, hn_Lea.symm]) (v := (nI M.n)) rfl dJ2_addAll_18 ?_
  refine r_istore_n G (lo' := [some (.ref L.a), some (.ref M.a), some (.ref q1), some (.int (nI M.n)), none, none]) dJ2_addAll_19 rfl rfl ?_
  refine r_iload_n G dJ2_addAll_20 rfl ?_
  refine r_if_ne G 26 (n_eq0 (by omega)) dJ2_addAll_21 (by decide) (fun h21 => ?_) (fun h21 => False.elim ((by omega)))
  refine r_iload_n G dJ2_addAll_26 rfl ?_
  refine r_aload_n G dJ2_addAll_27 rfl ?_
  refine r_getf G xCl2 (fs := [.int (L.mc + 1), .ref L.ea, .int (nI L.n)]) (by simp [fU, hL.1, hL.2.1, hL.ne, hL.ne.symm, hn_La, hn_Lea, hn_La.symm, hn_Lea.symm]) 1 (by decide) q125 rfl rfl dJ2_addAll_28 ?_
  refine r_dup G dJ2_addAll_31 rfl ?_
  refine r_astore G (lo' := [some (.ref L.a), some (.ref M.a), some (.ref q1), some (.int (nI M.n)), some (.ref L.ea), none]) dJ2_addAll_32 rfl rfl ?_
  refine r_alen G (x := rfA L.cap L.el) 3 rfl (by simp [fU, hL.1, hL.2.1, hL.ne, hL.ne.symm, hn_La, hn_Lea, hn_La.symm, hn_Lea.symm]) (v := (nI L.cap)) rfl dJ2_addAll_34 ?_
  refine r_aload_n G dJ2_addAll_35 rfl ?_
  refine r_getf G xCl2 (fs := [.int (L.mc + 1), .ref L.ea, .int (nI L.n)]) (by simp [fU, hL.1, hL.2.1, hL.ne, hL.ne.symm, hn_La, hn_Lea, hn_La.symm, hn_Lea.symm]) 2 (by decide) q126 rfl rfl dJ2_addAll_36 ?_
  refine r_dup G dJ2_addAll_39 rfl ?_
  refine r_istore G (lo' := [some (.ref L.a), some (.ref M.a), some (.ref q1), some (.int (nI M.n)), some (.ref L.ea), some (.int (nI L.n))]) dJ2_addAll_40 rfl rfl ?_
  refine r_isub G (v := (nI (L.cap - L.n))) dJ2_addAll_42 (pk_sub (by omega)) ?_
  refine r_icmp_le G 56 (nI_leI (by omega) (by omega)) dJ2_addAll_43 (by decide) (fun h43 => ?_) (fun h43 => False.elim ((by omega)))
  refine r_aload_n G dJ2_addAll_56 rfl ?_
  refine r_iconst G (v := nI 0) dJ2_addAll_57 (by decide) ?_
  refine r_aload G dJ2_addAll_58 rfl ?_
  refine r_iload G dJ2_addAll_60 rfl ?_
  refine r_iload_n G dJ2_addAll_62 rfl ?_
  refine r_copyq G (t0 := 3) (t1 := 3) (n0 := M.n) (n1 := L.cap) (fn := (va_cpy M.el (fun _ => none) 0 0 M.n)) (gn := L.el) (by simp [fU, hL.1, hL.2.1, hL.ne, hL.ne.symm, hn_La, hn_Lea, hn_La.symm, hn_Lea.symm]) (by simp [fU, hL.1, hL.2.1, hL.ne, hL.ne.symm, hn_La, hn_Lea, hn_La.symm, hn_Lea.symm]) rfl rfl (hA.2.resolve_left (by omega)) 0 L.n M.n (by omega) (by omega) ⟨by omega, by omega⟩ (fun i hi y hy => ?_) q508 q488 q487 q88 ⟨Nat.le_of_ble_eq_true rfl, Nat.le_of_ble_eq_true rfl⟩ (Nat.le_of_ble_eq_true rfl) (f' := fU (fU (fU f q1 (.inl (g.2 3, rfA M.n (va_cpy M.el (fun _ => none) 0 0 M.n)))) L.a (.inr (2, [.int (L.mc + 1), .ref L.ea, .int (nI L.n)]))) L.ea (.inl (g.2 3, rfA L.cap (va_cpy (va_cpy M.el (fun _ => none) 0 0 M.n) L.el 0 L.n M.n)))) rfl dJ2_addAll_63 ?_
  · rw [Nat.zero_add, cpy_0 hi] at hy
    obtain ⟨h1, ci, fs, r, h2, h3, h4⟩ := hel i hi y hy
    have h5 : y ≠ q1 := fun z => by rw [z, hq1] at h2; cases h2
    exact ⟨ci, fs, r, by simp [fU, h1, h5, h2], h3, h4⟩
  show K (fU (fU (fU f q1 (.inl (g.2 3, rfA M.n (va_cpy M.el (fun _ => none) 0 0 M.n)))) L.a (.inr (2, [.int (L.mc + 1), .ref L.ea, .int (nI L.n)]))) L.ea (.inl (g.2 3, rfA L.cap (va_cpy (va_cpy M.el (fun _ => none) 0 0 M.n) L.el 0 L.n M.n)))) 1 M.n 66 [some (.ref L.a), some (.ref M.a), some (.ref q1), some (.int (nI M.n)), some (.ref L.ea), some (.int (nI L.n))] []
  refine r_aload_n G dJ2_addAll_66 rfl ?_
  refine r_iload G dJ2_addAll_67 rfl ?_
  refine r_iload_n G dJ2_addAll_69 rfl ?_
  refine r_iadd G (v := (nI (L.n + M.n))) dJ2_addAll_70 (nI_add L.n M.n) ?_
  refine r_putf G xCl2 (fs := [.int (L.mc + 1), .ref L.ea, .int (nI L.n)]) (by simp [fU, hL.1, hL.2.1, hL.ne, hL.ne.symm, hn_La, hn_Lea, hn_La.symm, hn_Lea.symm]) hA.1 2 (by decide) q126 rfl rfl rfl rfl (Nat.le_of_ble_eq_true rfl) (f' := fU (fU (fU (fU f q1 (.inl (g.2 3, rfA M.n (va_cpy M.el (fun _ => none) 0 0 M.n)))) L.a (.inr (2, [.int (L.mc + 1), .ref L.ea, .int (nI L.n)]))) L.ea (.inl (g.2 3, rfA L.cap (va_cpy (va_cpy M.el (fun _ => none) 0 0 M.n) L.el 0 L.n M.n)))) L.a (.inr (2, [.int (L.mc + 1), .ref L.ea, .int (nI (L.n + M.n))]))) rfl dJ2_addAll_71 ?_
  show K (fU (fU (fU (fU f q1 (.inl (g.2 3, rfA M.n (va_cpy M.el (fun _ => none) 0 0 M.n)))) L.a (.inr (2, [.int (L.mc + 1), .ref L.ea, .int (nI L.n)]))) L.ea (.inl (g.2 3, rfA L.cap (va_cpy (va_cpy M.el (fun _ => none) 0 0 M.n) L.el 0 L.n M.n)))) L.a (.inr (2, [.int (L.mc + 1), .ref L.ea, .int (nI (L.n + M.n))]))) 1 M.n 74 [some (.ref L.a), some (.ref M.a), some (.ref q1), some (.int (nI M.n)), some (.ref L.ea), some (.int (nI L.n))] []
  refine r_iconst G (v := nI 1) dJ2_addAll_74 (by decide) ?_
  exact r_zret G rfl (by decide) ⟨Nat.le_of_ble_eq_true rfl, by simp only [xR]; omega⟩ dJ2_addAll_75 ⟨rfl, mkL L.a L.ea (L.mc + 1) L.cap (L.n + M.n) (va_cpy (va_cpy M.el (fun _ => none) 0 0 M.n) L.el 0 L.n M.n), by show L.n + M.n = M.n; omega, fun i hi => by show (va_cpy (va_cpy M.el (fun _ => none) 0 0 M.n) L.el 0 L.n M.n) i = M.el i; rw [hn0]; rw [cpy_0 hi, cpy_0 hi], xLop_mk (xL_mk (by simp [fU, hL.1, hL.ne, hL.ne.symm, hn_La, hn_Lea, hn_La.symm, hn_Lea.symm]) (by simp [fU, hL.1, hL.ne, hL.ne.symm, hn_La, hn_Lea, hn_La.symm, hn_Lea.symm]) (by omega) (by omega)) hA rfl (Or.inl ⟨rfl, rfl⟩) (fun x e h1 h2 h3 => by have h5 : x ≠ q1 := (fun z => by rw [z, hq1] at h3; cases h3); have h4 : x ≠ L.ea := (fun z => absurd (h2 z) (by omega)); simp [fU, h1, h4, h5, h3])⟩
set_option maxHeartbeats 4000000 in
theorem xM_J2_addAll_b {l : Launch} {g : fG} {A : Nat → Prop} {En : State → Prop} {zd : Nat} (hX : fX zd g A En) {f : fH} {L M : xLs} (hL : xL g f L) (hM : xL g f M) (hA : xA A L) (hn0 : L.n = 0) (hm : M.n ≠ 0) (hLM : L.a ≠ M.a) (h0 : L.cap = 0) (hz : L.ea = zd) (hel : ∀ i : Nat, i < M.n → ∀ y : Nat, M.el i = some y → y ≠ L.a ∧ ∃ (ci : Nat) (fs : List Value) (r : vw_C), f y = some (.inr (ci, fs)) ∧ fCl[ci]? = some r ∧ (r.1 = "java/lang/Object" ∨ ∀ U, En U → va_Nw (.castable r.1 "java/lang/Object") U)): fC l g A En yJ2_addAll cJ2_addAll 6 (some .boolean) (xR 5 2 (M.n + 10)) [.ref L.a, .ref M.a] f (fun v f' => v = some (.int 1) ∧ ∃ L', L'.n = M.n ∧ (∀ i, i < M.n → L'.el i = M.el i) ∧ xLop g A f f' L L') := by
  have hE := hX.E
  refine fC.of (by decide) hX.E [some (.ref L.a), some (.ref M.a), none, none, none, none] rfl rfl (fun K G => ?_)
  have G : fGood l g A En RJ2 "addAll" cJ2_addAll 6 (some .boolean) (xR 5 2 (M.n + 10)) _ K := G
  obtain ⟨hle1, hle2⟩ := hL.2.2
  obtain ⟨hme1, hme2⟩ := hM.2.2
  have hel0 : ∀ i : Nat, i < M.n → ∀ y : Nat, M.el i = some y → ∃ (ci : Nat) (fs : List Value) (r : vw_C), f y = some (.inr (ci, fs)) ∧ fCl[ci]? = some r ∧ (r.1 = "java/lang/Object" ∨ ∀ U, En U → va_Nw (.castable r.1 "java/lang/Object") U) := fun i hi y hy => (hel i hi y hy).2
  refine r_aload_n G dJ2_addAll_0 rfl ?_
  refine r_callF (b := M.a) G [] (xM_J2_toArray hX hM hel0) (lw_F q949 q953 q955 q73 q957) (hX.fw 8 _ rfl) fx_8 rfl ⟨Nat.le_of_ble_eq_true rfl, Nat.le_of_ble_eq_true rfl⟩ (fs := [.int M.mc, .ref M.ea, .int (nI M.n)]) hM.1 (ci := 2) rfl rfl (Nat.le_of_ble_eq_true rfl) (cs' := 1) (ss' := M.n) rfl (Nat.zero_add _) ⟨Nat.le_of_ble_eq_true rfl, by simp only [xR]; omega⟩ dJ2_addAll_1 (fun v1 f1 hp1 => ?_)
  obtain ⟨q1, rfl, hq1, hAq1, rfl⟩ := hp1
  have hn_La : q1 ≠ L.a := fun e => by rw [e, hL.1] at hq1; cases hq1
  have hn_Lea : q1 ≠ L.ea := fun e => by rw [e, hL.2.1] at hq1; cases hq1
  have hn_Ma : q1 ≠ M.a := fun e => by rw [e, hM.1] at hq1; cases hq1
  have hn_Mea : q1 ≠ M.ea := fun e => by rw [e, hM.2.1] at hq1; cases hq1
  show K (fU f q1 (.inl (g.2 3, rfA M.n (va_cpy M.el (fun _ => none) 0 0 M.n)))) 1 M.n 6 [some (.ref L.a), some (.ref M.a), none, none, none, none] [.ref q1]
  refine r_astore_n G (lo' := [some (.ref L.a), some (.ref M.a), some (.ref q1), none, none, none]) dJ2_addAll_6 rfl rfl ?_
  refine r_aload_n G dJ2_addAll_7 rfl ?_
  refine r_dup G dJ2_addAll_8 rfl ?_
  refine r_getfS G xCl2 (fs := [.int L.mc, .ref L.ea, .int (nI L.n)]) (by simp [fU, hL.1, hL.2.1, hL.ne, hL.ne.symm, hn_La, hn_Lea, hn_La.symm, hn_Lea.symm]) 0 (by decide) q128 q129 rfl dJ2_addAll_9 ?_
  refine r_iconst G (v := nI 1) dJ2_addAll_12 (by decide) ?_
  refine r_iadd G (v := (L.mc + 1)) dJ2_addAll_13 rfl ?_
  refine r_putfS G xCl2 (fs := [.int L.mc, .ref L.ea, .int (nI L.n)]) (by simp [fU, hL.1, hL.2.1, hL.ne, hL.ne.symm, hn_La, hn_Lea, hn_La.symm, hn_Lea.symm]) hA.1 0 (by decide) q128 q129 rfl rfl rfl (Nat.le_of_ble_eq_true rfl) (f' := fU (fU f q1 (.inl (g.2 3, rfA M.n (va_cpy M.el (fun _ => none) 0 0 M.n)))) L.a (.inr (2, [.int (L.mc + 1), .ref L.ea, .int (nI L.n)]))) rfl dJ2_addAll_14 ?_
  show K (fU (fU f q1 (.inl (g.2 3, rfA M.n (va_cpy M.el (fun _ => none) 0 0 M.n)))) L.a (.inr (2, [.int (L.mc + 1), .ref L.ea, .int (nI L.n)]))) 1 M.n 17 [some (.ref L.a), some (.ref M.a), some (.ref q1), none, none, none] []
  refine r_aload_n G dJ2_addAll_17 rfl ?_
  refine r_alen G (x := rfA M.n ((va_cpy M.el (fun _ => none) 0 0 M.n))) 3 rfl (by simp [fU, hL.1, hL.2.1, hL.ne, hL.ne.symm, hn_La, hn_Lea, hn_La.symm, hn_Lea.symm]) (v := (nI M.n)) rfl dJ2_addAll_18 ?_
  refine r_istore_n G (lo' := [some (.ref L.a), some (.ref M.a), some (.ref q1), some (.int (nI M.n)), none, none]) dJ2_addAll_19 rfl rfl ?_
  refine r_iload_n G dJ2_addAll_20 rfl ?_
  refine r_if_ne G 26 (n_eq0 (by omega)) dJ2_addAll_21 (by decide) (fun h21 => ?_) (fun h21 => False.elim ((by omega)))
  refine r_iload_n G dJ2_addAll_26 rfl ?_
  refine r_aload_n G dJ2_addAll_27 rfl ?_
  refine r_getf G xCl2 (fs := [.int (L.mc + 1), .ref L.ea, .int (nI L.n)]) (by simp [fU, hL.1, hL.2.1, hL.ne, hL.ne.symm, hn_La, hn_Lea, hn_La.symm, hn_Lea.symm]) 1 (by decide) q125 rfl rfl dJ2_addAll_28 ?_
  refine r_dup G dJ2_addAll_31 rfl ?_
  refine r_astore G (lo' := [some (.ref L.a), some (.ref M.a), some (.ref q1), some (.int (nI M.n)), some (.ref L.ea), none]) dJ2_addAll_32 rfl rfl ?_
  refine r_alen G (x := rfA L.cap L.el) 3 rfl (by simp [fU, hL.1, hL.2.1, hL.ne, hL.ne.symm, hn_La, hn_Lea, hn_La.symm, hn_Lea.symm]) (v := (nI L.cap)) rfl dJ2_addAll_34 ?_
  refine r_aload_n G dJ2_addAll_35 rfl ?_
  refine r_getf G xCl2 (fs := [.int (L.mc + 1), .ref L.ea, .int (nI L.n)]) (by simp [fU, hL.1, hL.2.1, hL.ne, hL.ne.symm, hn_La, hn_Lea, hn_La.symm, hn_Lea.symm]) 2 (by decide) q126 rfl rfl dJ2_addAll_36 ?_
  refine r_dup G dJ2_addAll_39 rfl ?_
  refine r_istore G (lo' := [some (.ref L.a), some (.ref M.a), some (.ref q1), some (.int (nI M.n)), some (.ref L.ea), some (.int (nI L.n))]) dJ2_addAll_40 rfl rfl ?_
  refine r_isub G (v := (nI (L.cap - L.n))) dJ2_addAll_42 (pk_sub (by omega)) ?_
  refine r_icmp_le G 56 (nI_leI (by omega) (by omega)) dJ2_addAll_43 (by decide) (fun h43 => False.elim ((by omega))) (fun h43 => ?_)
  refine r_aload_n G dJ2_addAll_46 rfl ?_
  refine r_iload G dJ2_addAll_47 rfl ?_
  refine r_iload_n G dJ2_addAll_49 rfl ?_
  refine r_iadd G (v := (nI (L.n + M.n))) dJ2_addAll_50 (nI_add L.n M.n) ?_
  have hL2 : xL g (fU (fU f q1 (.inl (g.2 3, rfA M.n (va_cpy M.el (fun _ => none) 0 0 M.n)))) L.a (.inr (2, [.int (L.mc + 1), .ref L.ea, .int (nI L.n)]))) (mkL L.a L.ea (L.mc + 1) L.cap L.n L.el) := xL_mk (by simp [fU, hL.1, hL.2.1, hL.ne, hL.ne.symm, hn_La, hn_Lea, hn_La.symm, hn_Lea.symm]) (by simp [fU, hL.1, hL.2.1, hL.ne, hL.ne.symm, hn_La, hn_Lea, hn_La.symm, hn_Lea.symm]) hle1 hle2
  refine r_callV (b := L.a) G [.int (nI (L.n + M.n))] (xM_J2_grow_2 hX hL2 hA h0 hz (L.n + M.n) (by omega)) (lw_V q442 q444 qs21 q73 q445) fy_yJ2_grow_2 rfl ⟨Nat.le_of_ble_eq_true rfl, Nat.le_of_ble_eq_true rfl⟩ (fs := [.int (L.mc + 1), .ref L.ea, .int (nI L.n)]) (by simp [fU, hL.1, hL.2.1, hL.ne, hL.ne.symm, hn_La, hn_Lea, hn_La.symm, hn_Lea.symm]) (ci := 2) rfl rfl rfl (Nat.le_of_ble_eq_true rfl) (cs' := 2) (ss' := M.n + 10) rfl rfl ⟨Nat.le_of_ble_eq_true rfl, Nat.le_refl _⟩ dJ2_addAll_51 (fun v51 f51 hp51 => ?_)
  obtain ⟨q2, rfl, hq2, hAq2, rfl⟩ := hp51
  have hm1 : q2 ≠ L.a := fun e => by rw [e, fU_s] at hq2; cases hq2
  have hm2 : q2 ≠ q1 := fun e => by rw [e, fU_n _ _ hn_La, fU_s] at hq2; cases hq2
  have hm3 : f q2 = none := by rw [fU_n _ _ hm1, fU_n _ _ hm2] at hq2; exact hq2
  show K (fU (fU (fU (fU f q1 (.inl (g.2 3, rfA M.n (va_cpy M.el (fun _ => none) 0 0 M.n)))) L.a (.inr (2, [.int (L.mc + 1), .ref L.ea, .int (nI L.n)]))) q2 (.inl (g.2 3, rfA 10 (fun _ => none)))) L.a (.inr (2, [.int (L.mc + 1), .ref q2, .int (nI L.n)]))) 2 (M.n + 10) 54 [some (.ref L.a), some (.ref M.a), some (.ref q1), some (.int (nI M.n)), some (.ref L.ea), some (.int (nI L.n))] [.ref q2]
  refine r_astore G (lo' := [some (.ref L.a), some (.ref M.a), some (.ref q1), some (.int (nI M.n)), some (.ref q2), some (.int (nI L.n))]) dJ2_addAll_54 rfl rfl ?_
  refine r_aload_n G dJ2_addAll_56 rfl ?_
  refine r_iconst G (v := nI 0) dJ2_addAll_57 (by decide) ?_
  refine r_aload G dJ2_addAll_58 rfl ?_
  refine r_iload G dJ2_addAll_60 rfl ?_
  refine r_iload_n G dJ2_addAll_62 rfl ?_
  refine r_copyq G (t0 := 3) (t1 := 3) (n0 := M.n) (n1 := 10) (fn := (va_cpy M.el (fun _ => none) 0 0 M.n)) (gn := (fun _ => none)) (by simp [fU, hL.1, hL.2.1, hL.ne, hL.ne.symm, hn_La, hn_Lea, hn_La.symm, hn_Lea.symm, hm1, hm2, hm1.symm, hm2.symm]) (by simp [fU, hL.1, hL.2.1, hL.ne, hL.ne.symm, hn_La, hn_Lea, hn_La.symm, hn_Lea.symm, hm1, hm2, hm1.symm, hm2.symm]) rfl rfl hAq2 0 L.n M.n (by omega) (by omega) ⟨by omega, by omega⟩ (fun i hi y hy => ?_) q508 q488 q487 q88 ⟨Nat.le_of_ble_eq_true rfl, Nat.le_of_ble_eq_true rfl⟩ (Nat.le_of_ble_eq_true rfl) (f' := fU (fU (fU (fU (fU f q1 (.inl (g.2 3, rfA M.n (va_cpy M.el (fun _ => none) 0 0 M.n)))) L.a (.inr (2, [.int (L.mc + 1), .ref L.ea, .int (nI L.n)]))) q2 (.inl (g.2 3, rfA 10 (fun _ => none)))) L.a (.inr (2, [.int (L.mc + 1), .ref q2, .int (nI L.n)]))) q2 (.inl (g.2 3, rfA 10 (va_cpy (va_cpy M.el (fun _ => none) 0 0 M.n) (fun _ => none) 0 L.n M.n)))) rfl dJ2_addAll_63 ?_
  · rw [Nat.zero_add, cpy_0 hi] at hy
    obtain ⟨h1, ci, fs, r, h2, h3, h4⟩ := hel i hi y hy
    have h5 : y ≠ q1 := fun z => by rw [z, hq1] at h2; cases h2
    have h6 : y ≠ q2 := fun z => by rw [z, hm3] at h2; cases h2
    exact ⟨ci, fs, r, by simp [fU, h1, h5, h6, h2], h3, h4⟩
  show K (fU (fU (fU (fU (fU f q1 (.inl (g.2 3, rfA M.n (va_cpy M.el (fun _ => none) 0 0 M.n)))) L.a (.inr (2, [.int (L.mc + 1), .ref L.ea, .int (nI L.n)]))) q2 (.inl (g.2 3, rfA 10 (fun _ => none)))) L.a (.inr (2, [.int (L.mc + 1), .ref q2, .int (nI L.n)]))) q2 (.inl (g.2 3, rfA 10 (va_cpy (va_cpy M.el (fun _ => none) 0 0 M.n) (fun _ => none) 0 L.n M.n)))) 2 (M.n + 10) 66 [some (.ref L.a), some (.ref M.a), some (.ref q1), some (.int (nI M.n)), some (.ref q2), some (.int (nI L.n))] []
  refine r_aload_n G dJ2_addAll_66 rfl ?_
  refine r_iload G dJ2_addAll_67 rfl ?_
  refine r_iload_n G dJ2_addAll_69 rfl ?_
  refine r_iadd G (v := (nI (L.n + M.n))) dJ2_addAll_70 (nI_add L.n M.n) ?_
  refine r_putf G xCl2 (fs := [.int (L.mc + 1), .ref q2, .int (nI L.n)]) (by simp [fU, hL.1, hL.2.1, hL.ne, hL.ne.symm, hn_La, hn_Lea, hn_La.symm, hn_Lea.symm, hm1, hm2, hm1.symm, hm2.symm]) hA.1 2 (by decide) q126 rfl rfl rfl rfl (Nat.le_of_ble_eq_true rfl) (f' := fU (fU (fU (fU (fU (fU f q1 (.inl (g.2 3, rfA M.n (va_cpy M.el (fun _ => none) 0 0 M.n)))) L.a (.inr (2, [.int (L.mc + 1), .ref L.ea, .int (nI L.n)]))) q2 (.inl (g.2 3, rfA 10 (fun _ => none)))) L.a (.inr (2, [.int (L.mc + 1), .ref q2, .int (nI L.n)]))) q2 (.inl (g.2 3, rfA 10 (va_cpy (va_cpy M.el (fun _ => none) 0 0 M.n) (fun _ => none) 0 L.n M.n)))) L.a (.inr (2, [.int (L.mc + 1), .ref q2, .int (nI (L.n + M.n))]))) rfl dJ2_addAll_71 ?_
  show K (fU (fU (fU (fU (fU (fU f q1 (.inl (g.2 3, rfA M.n (va_cpy M.el (fun _ => none) 0 0 M.n)))) L.a (.inr (2, [.int (L.mc + 1), .ref L.ea, .int (nI L.n)]))) q2 (.inl (g.2 3, rfA 10 (fun _ => none)))) L.a (.inr (2, [.int (L.mc + 1), .ref q2, .int (nI L.n)]))) q2 (.inl (g.2 3, rfA 10 (va_cpy (va_cpy M.el (fun _ => none) 0 0 M.n) (fun _ => none) 0 L.n M.n)))) L.a (.inr (2, [.int (L.mc + 1), .ref q2, .int (nI (L.n + M.n))]))) 2 (M.n + 10) 74 [some (.ref L.a), some (.ref M.a), some (.ref q1), some (.int (nI M.n)), some (.ref q2), some (.int (nI L.n))] []
  refine r_iconst G (v := nI 1) dJ2_addAll_74 (by decide) ?_
  exact r_zret G rfl (by decide) ⟨Nat.le_of_ble_eq_true rfl, by simp only [xR]; omega⟩ dJ2_addAll_75 ⟨rfl, mkL L.a q2 (L.mc + 1) 10 (L.n + M.n) (va_cpy (va_cpy M.el (fun _ => none) 0 0 M.n) (fun _ => none) 0 L.n M.n), by show L.n + M.n = M.n; omega, fun i hi => by show (va_cpy (va_cpy M.el (fun _ => none) 0 0 M.n) (fun _ => none) 0 L.n M.n) i = M.el i; rw [hn0]; rw [cpy_0 hi, cpy_0 hi], xLop_mk (xL_mk (by simp [fU, hL.1, hL.ne, hL.ne.symm, hn_La, hn_Lea, hn_La.symm, hn_Lea.symm, hm1, hm2, hm1.symm, hm2.symm]) (by simp [fU, hL.1, hL.ne, hL.ne.symm, hn_La, hn_Lea, hn_La.symm, hn_Lea.symm, hm1, hm2, hm1.symm, hm2.symm]) (by omega) (by omega)) ⟨hA.1, Or.inr hAq2⟩ rfl (Or.inr ⟨hm3, h0⟩) (fun x e h1 h2 h3 => by have h5 : x ≠ q1 := (fun z => by rw [z, hq1] at h3; cases h3); have h6 : x ≠ q2 := (fun z => by rw [z, hm3] at h3; cases h3); simp [fU, h1, h5, h6, h3])⟩
end XX5
