/-! the component: a new vine -/
set_option maxRecDepth 100000
section XX25
set_option maxHeartbeats 4000000 in
theorem xM_J2_addAll_c {l : Launch} {g : fG} {A : Nat → Prop} {En : State → Prop} {zd : Nat} (hX : fX zd g A En) {f : fH} {L M : xLs} (hL : xL g f L) (hM : xL g f M) (hA : xA A L) (hn0 : L.n = 0) (hm : M.n ≠ 0) (hLM : L.a ≠ M.a) (h0 : L.cap = 0) (hz : L.ea = zd) (hel : ∀ i : Nat, i < M.n → ∀ y : Nat, M.el i = some y → y ≠ L.a ∧ ∃ (ci : Nat) (fs : List Value) (r : vw_C), f y = some (.inr (ci, fs)) ∧ fCl[ci]? = some r ∧ (r.1 = "java/lang/Object" ∨ ∀ U, En U → va_Nw (.castable r.1 "java/lang/Object") U)): fC l g A En yJ2_addAll cJ2_addAll 6 (some .boolean) (xR 5 2 (M.n + 10)) [.ref L.a, .ref M.a] f (fun v f' => v = some (.int 1) ∧ ∃ L', L'.n = M.n ∧ L'.cap = 10 ∧ (∀ i, i < M.n → L'.el i = M.el i) ∧ xLop g A f f' L L') := by
  have hE := hX.E
  refine fC.of (by decide) hX.E [some (.ref L.a), some (.ref M.a), none, none, none, none] rfl rfl (fun K G => ?_)
  have G : fGood l g A En RJ2 "addAll" cJ2_addAll 6 (some .boolean) (xR 5 2 (M.n + 10)) _ K := G
  obtain ⟨hle1, hle2⟩ := hL.2.2
  obtain ⟨hme1, hme2⟩ := hM.2.2
  have hel0 : ∀ i : Nat, i < M.n → ∀ y : Nat, M.el i = some y → ∃ (ci : Nat) (fs : List Value) (r : vw_C), f y = some (.inr (ci, fs)) ∧ fCl[ci]? = some r ∧ (r.1 = "java/lang/Object" ∨ ∀ U, En U → va_Nw (.castable r.1 "java/lang/Object") U) := fun i hi y hy => (hel i hi y hy).2
  refine r_aload_n G dJ2_addAll_0 rfl ?_
  refine r_callF (b := M.a) G [] (xM_J2_toArray hX hM hel0) (lw_F q949 q953 q955 q73 q957) (hX.fw 8 _ rfl) fx_8 rfl ⟨Nat.le_of_ble_eq_true rfl, Nat.le_of_ble_eq_true rfl⟩ (fs := [.int M.mc, .ref M.ea, .int (nI M.n)]) hM.1 (ci := 2) rfl rfl (Nat.le_of_ble_eq_true rfl) (cs' := 1) (ss' := M.n) rfl (Nat.zero_add _) ⟨Nat.le_of_ble_eq_true rfl, by simp only [xR]; omega⟩ dJ2_addAll_1 (fun v1 f1 hp1 => ?_)
  obtain ⟨q1, rfl, hq1, hAq1, rfl⟩ := hp1
  have hn_La : q1 ≠ L.a := fun e => by rw [e, hL.1] at hq1; cases hq1
  have hn_Lea : q1 ≠ L.ea := fun e => by rw [e, hL.2.1] at hq1; cases hq1
  have hn_Ma : q1 ≠ M.a := fun e => by rw [e, hM.1] at hq1; cases hq1
  have hn_Mea : q1 ≠ M.ea := fun e => by rw [e, hM.2.1] at hq1; cases hq1
  show K (fU f q1 (.inl (g.2 3, rfA M.n (va_cpy M.el (fun _ => none) 0 0 M.n)))) 1 M.n 6 [some (.ref L.a), some (.ref M.a), none, none, none, none] [.ref q1]
  refine r_astore_n G (lo' := [some (.ref L.a), some (.ref M.a), some (.ref q1), none, none, none]) dJ2_addAll_6 rfl rfl ?_
  refine r_aload_n G dJ2_addAll_7 rfl ?_
  refine r_dup G dJ2_addAll_8 rfl ?_
  refine r_getfS G xCl2 (fs := [.int L.mc, .ref L.ea, .int (nI L.n)]) (by simp [fU, hL.1, hL.2.1, hL.ne, hL.ne.symm, hn_La, hn_Lea, hn_La.symm, hn_Lea.symm]) 0 (by decide) q128 q129 rfl dJ2_addAll_9 ?_
  refine r_iconst G (v := nI 1) dJ2_addAll_12 (by decide) ?_
  refine r_iadd G (v := (L.mc + 1)) dJ2_addAll_13 rfl ?_
  refine r_putfS G xCl2 (fs := [.int L.mc, .ref L.ea, .int (nI L.n)]) (by simp [fU, hL.1, hL.2.1, hL.ne, hL.ne.symm, hn_La, hn_Lea, hn_La.symm, hn_Lea.symm]) hA.1 0 (by decide) q128 q129 rfl rfl rfl (Nat.le_of_ble_eq_true rfl) (f' := fU (fU f q1 (.inl (g.2 3, rfA M.n (va_cpy M.el (fun _ => none) 0 0 M.n)))) L.a (.inr (2, [.int (L.mc + 1), .ref L.ea, .int (nI L.n)]))) rfl dJ2_addAll_14 ?_
  show K (fU (fU f q1 (.inl (g.2 3, rfA M.n (va_cpy M.el (fun _ => none) 0 0 M.n)))) L.a (.inr (2, [.int (L.mc + 1), .ref L.ea, .int (nI L.n)]))) 1 M.n 17 [some (.ref L.a), some (.ref M.a), some (.ref q1), none, none, none] []
  refine r_aload_n G dJ2_addAll_17 rfl ?_
  refine r_alen G (x := rfA M.n ((va_cpy M.el (fun _ => none) 0 0 M.n))) 3 rfl (by simp [fU, hL.1, hL.2.1, hL.ne, hL.ne.symm, hn_La, hn_Lea, hn_La.symm, hn_Lea.symm]) (v := (nI M.n)) rfl dJ2_addAll_18 ?_
  refine r_istore_n G (lo' := [some (.ref L.a), some (.ref M.a), some (.ref q1), some (.int (nI M.n)), none, none]) dJ2_addAll_19 rfl rfl ?_
  refine r_iload_n G dJ2_addAll_20 rfl ?_
  refine r_if_ne G 26 (n_eq0 (by omega)) dJ2_addAll_21 (by decide) (fun h21 => ?_) (fun h21 => False.elim ((by omega)))
  refine r_iload_n G dJ2_addAll_26 rfl ?_
  refine r_aload_n G dJ2_addAll_27 rfl ?_
  refine r_getf G xCl2 (fs := [.int (L.mc + 1), .ref L.ea, .int (nI L.n)]) (by simp [fU, hL.1, hL.2.1, hL.ne, hL.ne.symm, hn_La, hn_Lea, hn_La.symm, hn_Lea.symm]) 1 (by decide) q125 rfl rfl dJ2_addAll_28 ?_
  refine r_dup G dJ2_addAll_31 rfl ?_
  refine r_astore G (lo' := [some (.ref L.a), some (.ref M.a), some (.ref q1), some (.int (nI M.n)), some (.ref L.ea), none]) dJ2_addAll_32 rfl rfl ?_
  refine r_alen G (x := rfA L.cap L.el) 3 rfl (by simp [fU, hL.1, hL.2.1, hL.ne, hL.ne.symm, hn_La, hn_Lea, hn_La.symm, hn_Lea.symm]) (v := (nI L.cap)) rfl dJ2_addAll_34 ?_
  refine r_aload_n G dJ2_addAll_35 rfl ?_
  refine r_getf G xCl2 (fs := [.int (L.mc + 1), .ref L.ea, .int (nI L.n)]) (by simp [fU, hL.1, hL.2.1, hL.ne, hL.ne.symm, hn_La, hn_Lea, hn_La.symm, hn_Lea.symm]) 2 (by decide) q126 rfl rfl dJ2_addAll_36 ?_
  refine r_dup G dJ2_addAll_39 rfl ?_
  refine r_istore G (lo' := [some (.ref L.a), some (.ref M.a), some (.ref q1), some (.int (nI M.n)), some (.ref L.ea), some (.int (nI L.n))]) dJ2_addAll_40 rfl rfl ?_
  refine r_isub G (v := (nI (L.cap - L.n))) dJ2_addAll_42 (pk_sub (by omega)) ?_
  refine r_icmp_le G 56 (nI_leI (by omega) (by omega)) dJ2_addAll_43 (by decide) (fun h43 => False.elim ((by omega))) (fun h43 => ?_)
  refine r_aload_n G dJ2_addAll_46 rfl ?_
  refine r_iload G dJ2_addAll_47 rfl ?_
  refine r_iload_n G dJ2_addAll_49 rfl ?_
  refine r_iadd G (v := (nI (L.n + M.n))) dJ2_addAll_50 (nI_add L.n M.n) ?_
  have hL2 : xL g (fU (fU f q1 (.inl (g.2 3, rfA M.n (va_cpy M.el (fun _ => none) 0 0 M.n)))) L.a (.inr (2, [.int (L.mc + 1), .ref L.ea, .int (nI L.n)]))) (mkL L.a L.ea (L.mc + 1) L.cap L.n L.el) := xL_mk (by simp [fU, hL.1, hL.2.1, hL.ne, hL.ne.symm, hn_La, hn_Lea, hn_La.symm, hn_Lea.symm]) (by simp [fU, hL.1, hL.2.1, hL.ne, hL.ne.symm, hn_La, hn_Lea, hn_La.symm, hn_Lea.symm]) hle1 hle2
  refine r_callV (b := L.a) G [.int (nI (L.n + M.n))] (xM_J2_grow_2 hX hL2 hA h0 hz (L.n + M.n) (by omega)) (lw_V q442 q444 qs21 q73 q445) fy_yJ2_grow_2 rfl ⟨Nat.le_of_ble_eq_true rfl, Nat.le_of_ble_eq_true rfl⟩ (fs := [.int (L.mc + 1), .ref L.ea, .int (nI L.n)]) (by simp [fU, hL.1, hL.2.1, hL.ne, hL.ne.symm, hn_La, hn_Lea, hn_La.symm, hn_Lea.symm]) (ci := 2) rfl rfl rfl (Nat.le_of_ble_eq_true rfl) (cs' := 2) (ss' := M.n + 10) rfl rfl ⟨Nat.le_of_ble_eq_true rfl, Nat.le_refl _⟩ dJ2_addAll_51 (fun v51 f51 hp51 => ?_)
  obtain ⟨q2, rfl, hq2, hAq2, rfl⟩ := hp51
  have hm1 : q2 ≠ L.a := fun e => by rw [e, fU_s] at hq2; cases hq2
  have hm2 : q2 ≠ q1 := fun e => by rw [e, fU_n _ _ hn_La, fU_s] at hq2; cases hq2
  have hm3 : f q2 = none := by rw [fU_n _ _ hm1, fU_n _ _ hm2] at hq2; exact hq2
  show K (fU (fU (fU (fU f q1 (.inl (g.2 3, rfA M.n (va_cpy M.el (fun _ => none) 0 0 M.n)))) L.a (.inr (2, [.int (L.mc + 1), .ref L.ea, .int (nI L.n)]))) q2 (.inl (g.2 3, rfA 10 (fun _ => none)))) L.a (.inr (2, [.int (L.mc + 1), .ref q2, .int (nI L.n)]))) 2 (M.n + 10) 54 [some (.ref L.a), some (.ref M.a), some (.ref q1), some (.int (nI M.n)), some (.ref L.ea), some (.int (nI L.n))] [.ref q2]
  refine r_astore G (lo' := [some (.ref L.a), some (.ref M.a), some (.ref q1), some (.int (nI M.n)), some (.ref q2), some (.int (nI L.n))]) dJ2_addAll_54 rfl rfl ?_
  refine r_aload_n G dJ2_addAll_56 rfl ?_
  refine r_iconst G (v := nI 0) dJ2_addAll_57 (by decide) ?_
  refine r_aload G dJ2_addAll_58 rfl ?_
  refine r_iload G dJ2_addAll_60 rfl ?_
  refine r_iload_n G dJ2_addAll_62 rfl ?_
  refine r_copyq G (t0 := 3) (t1 := 3) (n0 := M.n) (n1 := 10) (fn := (va_cpy M.el (fun _ => none) 0 0 M.n)) (gn := (fun _ => none)) (by simp [fU, hL.1, hL.2.1, hL.ne, hL.ne.symm, hn_La, hn_Lea, hn_La.symm, hn_Lea.symm, hm1, hm2, hm1.symm, hm2.symm]) (by simp [fU, hL.1, hL.2.1, hL.ne, hL.ne.symm, hn_La, hn_Lea, hn_La.symm, hn_Lea.symm, hm1, hm2, hm1.symm, hm2.symm]) rfl rfl hAq2 0 L.n M.n (by omega) (by omega) ⟨by omega, by omega⟩ (fun i hi y hy => ?_) q508 q488 q487 q88 ⟨Nat.le_of_ble_eq_true rfl, Nat.le_of_ble_eq_true rfl⟩ (Nat.le_of_ble_eq_true rfl) (f' := fU (fU (fU (fU (fU f q1 (.inl (g.2 3, rfA M.n (va_cpy M.el (fun _ => none) 0 0 M.n)))) L.a (.inr (2, [.int (L.mc + 1), .ref L.ea, .int (nI L.n)]))) q2 (.inl (g.2 3, rfA 10 (fun _ => none)))) L.a (.inr (2, [.int (L.mc + 1), .ref q2, .int (nI L.n)]))) q2 (.inl (g.2 3, rfA 10 (va_cpy (va_cpy M.el (fun _ => none) 0 0 M.n) (fun _ => none) 0 L.n M.n)))) rfl dJ2_addAll_63 ?_
  · rw [Nat.zero_add, cpy_0 hi] at hy
    obtain ⟨h1, ci, fs, r, h2, h3, h4⟩ := hel i hi y hy
    have h5 : y ≠ q1 := fun z => by rw [z, hq1] at h2; cases h2
    have h6 : y ≠ q2 := fun z => by rw [z, hm3] at h2; cases h2
    exact ⟨ci, fs, r, by simp [fU, h1, h5, h6, h2], h3, h4⟩
  show K (fU (fU (fU (fU (fU f q1 (.inl (g.2 3, rfA M.n (va_cpy M.el (fun _ => none) 0 0 M.n)))) L.a (.inr (2, [.int (L.mc + 1), .ref L.ea, .int (nI L.n)]))) q2 (.inl (g.2 3, rfA 10 (fun _ => none)))) L.a (.inr (2, [.int (L.mc + 1), .ref q2, .int (nI L.n)]))) q2 (.inl (g.2 3, rfA 10 (va_cpy (va_cpy M.el (fun _ => none) 0 0 M.n) (fun _ => none) 0 L.n M.n)))) 2 (M.n + 10) 66 [some (.ref L.a), some (.ref M.a), some (.ref q1), some (.int (nI M.n)), some (.ref q2), some (.int (nI L.n))] []
  refine r_aload_n G dJ2_addAll_66 rfl ?_
  refine r_iload G dJ2_addAll_67 rfl ?_
  refine r_iload_n G dJ2_addAll_69 rfl ?_
  refine r_iadd G (v := (nI (L.n + M.n))) dJ2_addAll_70 (nI_add L.n M.n) ?_
  refine r_putf G xCl2 (fs := [.int (L.mc + 1), .ref q2, .int (nI L.n)]) (by simp [fU, hL.1, hL.2.1, hL.ne, hL.ne.symm, hn_La, hn_Lea, hn_La.symm, hn_Lea.symm, hm1, hm2, hm1.symm, hm2.symm]) hA.1 2 (by decide) q126 rfl rfl rfl rfl (Nat.le_of_ble_eq_true rfl) (f' := fU (fU (fU (fU (fU (fU f q1 (.inl (g.2 3, rfA M.n (va_cpy M.el (fun _ => none) 0 0 M.n)))) L.a (.inr (2, [.int (L.mc + 1), .ref L.ea, .int (nI L.n)]))) q2 (.inl (g.2 3, rfA 10 (fun _ => none)))) L.a (.inr (2, [.int (L.mc + 1), .ref q2, .int (nI L.n)]))) q2 (.inl (g.2 3, rfA 10 (va_cpy (va_cpy M.el (fun _ => none) 0 0 M.n) (fun _ => none) 0 L.n M.n)))) L.a (.inr (2, [.int (L.mc + 1), .ref q2, .int (nI (L.n + M.n))]))) rfl dJ2_addAll_71 ?_
  show K (fU (fU (fU (fU (fU (fU f q1 (.inl (g.2 3, rfA M.n (va_cpy M.el (fun _ => none) 0 0 M.n)))) L.a (.inr (2, [.int (L.mc + 1), .ref L.ea, .int (nI L.n)]))) q2 (.inl (g.2 3, rfA 10 (fun _ => none)))) L.a (.inr (2, [.int (L.mc + 1), .ref q2, .int (nI L.n)]))) q2 (.inl (g.2 3, rfA 10 (va_cpy (va_cpy M.el (fun _ => none) 0 0 M.n) (fun _ => none) 0 L.n M.n)))) L.a (.inr (2, [.int (L.mc + 1), .ref q2, .int (nI (L.n + M.n))]))) 2 (M.n + 10) 74 [some (.ref L.a), some (.ref M.a), some (.ref q1), some (.int (nI M.n)), some (.ref q2), some (.int (nI L.n))] []
  refine r_iconst G (v := nI 1) dJ2_addAll_74 (by decide) ?_
  exact r_zret G rfl (by decide) ⟨Nat.le_of_ble_eq_true rfl, by simp only [xR]; omega⟩ dJ2_addAll_75 ⟨rfl, mkL L.a q2 (L.mc + 1) 10 (L.n + M.n) (va_cpy (va_cpy M.el (fun _ => none) 0 0 M.n) (fun _ => none) 0 L.n M.n), by show L.n + M.n = M.n; omega, rfl, fun i hi => by show (va_cpy (va_cpy M.el (fun _ => none) 0 0 M.n) (fun _ => none) 0 L.n M.n) i = M.el i; rw [hn0]; rw [cpy_0 hi, cpy_0 hi], xLop_mk (xL_mk (by simp [fU, hL.1, hL.ne, hL.ne.symm, hn_La, hn_Lea, hn_La.symm, hn_Lea.symm, hm1, hm2, hm1.symm, hm2.symm]) (by simp [fU, hL.1, hL.ne, hL.ne.symm, hn_La, hn_Lea, hn_La.symm, hn_Lea.symm, hm1, hm2, hm1.symm, hm2.symm]) (by omega) (by omega)) ⟨hA.1, Or.inr hAq2⟩ rfl (Or.inr ⟨hm3, h0⟩) (fun x e h1 h2 h3 => by have h5 : x ≠ q1 := (fun z => by rw [z, hq1] at h3; cases h3); have h6 : x ≠ q2 := (fun z => by rw [z, hm3] at h3; cases h3); simp [fU, h1, h5, h6, h3])⟩
theorem xL.kp {g : fG} {f f' : fH} {L : xLs} (h : xL g f L) (k : ∀ x e, f x = some e → f' x = some e) : xL g f' L := ⟨k _ _ h.1, k _ _ h.2.1, h.2.2⟩
theorem po_cast {zd : Nat} {g : fG} {A : Nat → Prop} {En : State → Prop} (hX : fX zd g A En) {k : Nat} (hk : k ≤ 2) : ∃ r : vw_C, fCl[3 + k]? = some r ∧ (r.1 = "java/lang/Object" ∨ ∀ U, En U → va_Nw (.castable r.1 "java/lang/Object") U) := by
  match k, hk with
  | 0, _ => exact ⟨_, rfl, Or.inr (hX.nw 26 _ rfl)⟩
  | 1, _ => exact ⟨_, rfl, Or.inr (hX.nw 27 _ rfl)⟩
  | 2, _ => exact ⟨_, rfl, Or.inr (hX.nw 28 _ rfl)⟩
/-- on the way: the new posts lie in the list B, all else is as it was in f1 -/
def nvI (g : fG) (A : Nat → Prop) (f1 fx : fH) (o : Nat) (c : Nat → Int32) (B : xLs) (pb : Nat → Nat) : Prop :=
  xL g fx B ∧ xA A B ∧ (∀ x e, f1 x = some e → fx x = some e) ∧ f1 B.a = none ∧ f1 B.ea = none ∧ (∀ p, p < B.n → ∀ q, q < B.n → pb p = pb q → p = q) ∧
    ∀ p, p < B.n → B.el p = some (pb p) ∧ fx (pb p) = some (.inr (3 + pKd c p, pO (pKd c p) o (pLd c p) 0 (nI 0) (nI 0))) ∧ A (pb p) ∧ f1 (pb p) = none
theorem nvI.st {g : fG} {A : Nat → Prop} {f1 fx f' : fH} {o : Nat} {c : Nat → Int32} {a ea : Nat} {mc : Int32} {cap n : Nat} {el : Nat → Option Nat} {pb : Nat → Nat} (h : nvI g A f1 fx o c (mkL a ea mc cap n el) pb) {q : Nat} (hq : fx q = none) (hA : A q) {B' : xLs} (hB : B' = mkL a ea (mc + 1) cap (n + 1) (va_up el n (some q))) (hop : xLop g A (fU fx q (.inr (3 + pKd c n, pO (pKd c n) o (pLd c n) 0 (nI 0) (nI 0)))) f' (mkL a ea mc cap n el) B') : nvI g A f1 f' o c B' (fup pb n q) := by
  subst hB
  obtain ⟨h1, h2, h3, h4, h5, h6, h7⟩ := h
  have qa : q ≠ a := fun z => by rw [z] at hq; have := h1.1; rw [show (mkL a ea mc cap n el).a = a from rfl, hq] at this; cases this
  have qe : q ≠ ea := fun z => by rw [z] at hq; have := h1.2.1; rw [show (mkL a ea mc cap n el).ea = ea from rfl, hq] at this; cases this
  have kp1 : ∀ x e, x ≠ a → x ≠ ea → (fU fx q (.inr (3 + pKd c n, pO (pKd c n) o (pLd c n) 0 (nI 0) (nI 0)))) x = some e → f' x = some e := fun x e n1 n2 hx => hop.2.2.2.2 x e n1 (fun z => absurd z n2) hx
  have kf : ∀ x e, x ≠ a → x ≠ ea → fx x = some e → f' x = some e := fun x e n1 n2 hx => kp1 x e n1 n2 (by rw [fU_n]; exact hx; intro z; rw [z, hq] at hx; cases hx)
  have hn1 : f1 q = none := by
    cases hz : f1 q with
    | none => rfl
    | some e => rw [h3 q e hz] at hq; cases hq
  have ne : ∀ p, p < n → pb p ≠ q := fun p hp z => by have := (h7 p hp).2.1; rw [z, hq] at this; cases this
  refine ⟨hop.1, hop.2.1, fun x e hx => kf x e (fun z => by rw [z] at hx; rw [show f1 a = none from h4] at hx; cases hx) (fun z => by rw [z] at hx; rw [show f1 ea = none from h5] at hx; cases hx) (h3 x e hx), h4, h5, fun p hp p' hp' e => ?_, fun p hp => ?_⟩
  · have hp : p < n + 1 := hp
    have hp' : p' < n + 1 := hp'
    by_cases z : p = n
    · by_cases z' : p' = n
      · omega
      · rw [z, fup_s, fup_n z'] at e
        exact absurd e.symm (ne p' (by omega))
    · by_cases z' : p' = n
      · rw [z', fup_s, fup_n z] at e
        exact absurd e (ne p (by omega))
      · rw [fup_n z, fup_n z'] at e
        exact h6 p (show p < n by omega) p' (show p' < n by omega) e
  · have hp : p < n + 1 := hp
    by_cases z : p = n
    · subst z
      rw [fup_s]
      exact ⟨va_up_s, kp1 q _ qa qe (fU_s _ _ _), hA, hn1⟩
    · rw [fup_n z]
      obtain ⟨r1, r2, r3, r4⟩ := h7 p (show p < n by omega)
      refine ⟨?_, kf _ _ (fun y => by rw [y] at r4; have := h1.1; rw [y] at r2; rw [show (mkL a ea mc cap n el).a = a from rfl, r2] at this; simp only [Option.some.injEq, Sum.inr.injEq, Prod.mk.injEq] at this; omega) (fun y => by rw [y] at r2; have := h1.2.1; rw [show (mkL a ea mc cap n el).ea = ea from rfl, r2] at this; cases this) r2, r3, r4⟩
      show va_up el n (some q) p = some (pb p)
      rw [va_up_n z]
      exact r1
/-- put over into the vine's own list -/
theorem nvI.xP {g : fG} {A : Nat → Prop} {f1 fx f' : fH} {o : Nat} {c : Nat → Int32} {B L L' : xLs} {pb : Nat → Nat} (h : nvI g A f1 fx o c B pb) (hn : B.n ≤ 8) (hk : ∀ p, p < B.n → pKd c p ≤ 2 ∧ pLd c p ≤ 9) (hL1 : f1 L.a ≠ none) (hL2 : f1 L.ea ≠ none) (hop : xLop g A fx f' L L') (hLn : L'.n = B.n) (hel : ∀ i, i < B.n → L'.el i = B.el i) : xP g f' o L' pb (pKd c) (pLd c) (fun _ => 0) (fun _ => nI 0) (fun _ => nI 0) := by
  obtain ⟨h1, h2, h3, h4, h5, h6, h7⟩ := h
  refine ⟨hop.1, by omega, fun p hp q hq e => h6 p (by omega) q (by omega) e, fun p hp => ?_⟩
  rw [hLn] at hp
  obtain ⟨r1, r2, r3, r4⟩ := h7 p hp
  exact ⟨by rw [hel p hp]; exact r1, hop.2.2.2.2 _ _ (fun z => hL1 (by rw [← z]; exact r4)) (fun z => absurd (by rw [← z]; exact r4) hL2) r2, (hk p hp).1, (hk p hp).2, Nat.two_pow_pos _⟩
/-- the lists' cells are not the same -/
theorem ne_el {g : fG} {f : fH} {L R : xLs} (h : xL g f L) (h' : xL g f R) : L.a ≠ R.ea := fun z => by
  have h1 := h.1
  rw [z, h'.2.1] at h1
  cases h1
set_option maxHeartbeats 4000000 in
theorem xM_X0_newVine {l : Launch} {g : fG} {A : Nat → Prop} {En : State → Prop} {zd : Nat} (hX : fX zd g A En) {f : fH} {o : Nat} {tr gr fa : Int32} {rn sh : Nat} {L R : xLs} {pa kd ld tw : Nat → Nat} {lk tk : Nat → Int32} (hO : f o = some (.inr (1, xF tr gr L.a rn R.a fa sh))) (hP : xP g f o L pa kd ld tw lk tk) (hAp : ∀ p, p < L.n → A (pa p)) (hAL : xA A L) (hlL : lsO zd L) (hAo : A o) (hR : xL g f R) (hAR : xA A R) (hlR : lsO zd R) (hLR : L.a ≠ R.a) (hLRe : L.ea = R.ea → L.cap = 0 ∧ R.cap = 0) {t m : Nat} {c : Nat → Int32} (hT : f t = some (.inl (g.2 0, m, .inl c))) (hm : m < 1000): fC l g A En yX0_newVine cX0_newVine 8 (some .int) (xR 7 13 91) [.ref o, .ref t] f (fun v f' => (∀ y, pF c m = some y → v = some (.int (-100 - nI y)) ∧ f' = f) ∧ (pF c m = none → v = some (.int (nI (pN c))) ∧ ∃ (L' R' : xLs) (pa' : Nat → Nat), L'.a = L.a ∧ R'.a = R.a ∧ L'.n = pN c ∧ R'.n = 0 ∧ xA A L' ∧ lsO zd L' ∧ xL g f' R' ∧ xA A R' ∧ lsO zd R' ∧ (L'.ea = R'.ea → L'.cap = 0 ∧ R'.cap = 0) ∧ xP g f' o L' pa' (pKd c) (pLd c) (vin (pN c) (pRw c)) (fun _ => nI 0) (fun _ => nI 0) ∧ (∀ x, x < pN c → A (pa' x)) ∧ f' o = some (.inr (1, xF tr (nI 0) L.a rn R.a fa sh)) ∧ ∀ x e, x ≠ o → x ≠ L.a → x ≠ R.a → (x = L.ea → L.cap = 0) → (x = R.ea → R.cap = 0) → nPost (cE e) = true → f x = some e → f' x = some e)) := by
  have hE := hX.E
  refine fC.of (by decide) hX.E [some (.ref o), some (.ref t), none, none, none, none, none, none] rfl rfl (fun K G => ?_)
  have G : fGood l g A En RX0 "newVine" cX0_newVine 8 (some .int) (xR 7 13 91) _ K := G
  have hLx := hP.1
  refine r_aload_n G dX0_newVine_0 rfl ?_
  refine r_iconst G (v := nI 0) dX0_newVine_1 (by decide) ?_
  refine s_callSR G [.ref t, .int (nI 0)] (xM_X0_codeAt hX hT hm 0 (by omega)) (lw_S q916 q917 q70 q918) fy_yX0_codeAt rfl ⟨by simp only [fR, xR] <;> omega, by simp only [fR, xR] <;> omega⟩ rfl (Nat.le_of_ble_eq_true rfl) rfl rfl ⟨by simp only [fR, xR] <;> omega, by simp only [fR, xR] <;> omega⟩ dX0_newVine_2 ?_
  show K f 0 0 5 [some (.ref o), some (.ref t), none, none, none, none, none, none] [.int ((caV c m 0))]
  refine r_bipush G (v := nI 118) dX0_newVine_5 (by decide) ?_
  refine r_icmp_eq G 13 Iff.rfl dX0_newVine_7 (by decide) (fun h7 => ?_) (fun h7 => ?_)
  · obtain ⟨h0m, h0c⟩ := ca_t h7 (by decide)
    refine r_aload_n G dX0_newVine_13 rfl ?_
    refine r_iconst G (v := nI 1) dX0_newVine_14 (by decide) ?_
    refine r_iconst G (v := nI 2) dX0_newVine_15 (by decide) ?_
    refine r_bipush G (v := nI 8) dX0_newVine_16 (by decide) ?_
    refine s_callSR G [.ref t, .int (nI 1), .int (nI 2), .int (nI 8)] (xM_X0_isFigure hX hT hm 1 2 8 (by omega) (by omega) (by omega)) (lw_S q919 q920 q70 q921) fy_yX0_isFigure rfl ⟨by simp only [fR, xR] <;> omega, by simp only [fR, xR] <;> omega⟩ rfl (Nat.le_of_ble_eq_true rfl) rfl rfl ⟨by simp only [fR, xR] <;> omega, by simp only [fR, xR] <;> omega⟩ dX0_newVine_18 ?_
    show K f 0 0 21 [some (.ref o), some (.ref t), none, none, none, none, none, none] [.int (bI (okD c m 1 2 8))]
    refine r_ifb_ne G 27  dX0_newVine_21 (by decide) (fun h21 => ?_) (fun h21 => ?_)
    · obtain ⟨hm1, n, hn2, hn8, hc1, hdn⟩ := okD_t (by decide) (by decide) h21
      have hN : n = pN c := hdn.symm
      subst hN
      refine r_aload_n G dX0_newVine_27 rfl ?_
      refine r_iconst G (v := nI 1) dX0_newVine_28 (by decide) ?_
      refine s_callSR G [.ref t, .int (nI 1)] (xM_X0_figureAt hX hT hm 1 hm1 (pN c) hc1) (lw_S q922 q923 q70 q924) fy_yX0_figureAt rfl ⟨by simp only [fR, xR] <;> omega, by simp only [fR, xR] <;> omega⟩ rfl (Nat.le_of_ble_eq_true rfl) rfl rfl ⟨by simp only [fR, xR] <;> omega, by simp only [fR, xR] <;> omega⟩ dX0_newVine_29 ?_
      show K f 0 0 32 [some (.ref o), some (.ref t), none, none, none, none, none, none] [.int (nI (pN c))]
      refine r_istore_n G (lo' := [some (.ref o), some (.ref t), some (.int (nI (pN c))), none, none, none, none, none]) dX0_newVine_32 rfl rfl ?_
      refine r_iload_n G dX0_newVine_33 rfl ?_
      refine r_iconst G (v := nI 2) dX0_newVine_34 (by decide) ?_
      refine r_isub G (v := (nI ((pN c) - 2))) dX0_newVine_35 (pk_sub (by omega)) ?_
      refine r_newa_i G q163 hX.an ((pN c) - 2) (nI_pos (by omega)) (nI_clamp (by omega)) (by omega) (cs' := 1) (ss' := (pN c) - 2) rfl (Nat.zero_add _) ⟨by simp only [fR, xR] <;> omega, by simp only [fR, xR] <;> omega⟩ dX0_newVine_36 (fun q36 hq36 hAq36 => ?_)
      have hTq : ∀ y : va_E, fU f q36 y t = some (.inl (g.2 0, m, .inl c)) := fun y => by rw [fU_n _ _ (fun z => by rw [z, hq36] at hT; cases hT)]; exact hT
      have kq : ∀ (y : va_E) (x : Nat) (e : va_E), f x = some e → fU f q36 y x = some e := fun y x e he => kp.new (Q := fun _ _ => True) _ hq36 x e trivial he
      show K (fU f q36 (.inl (g.2 0, ((pN c) - 2), .inl (fun _ => 0)))) 1 ((pN c) - 2) 38 [some (.ref o), some (.ref t), some (.int (nI (pN c))), none, none, none, none, none] [.ref q36]
      refine r_astore_n G (lo' := [some (.ref o), some (.ref t), some (.int (nI (pN c))), some (.ref q36), none, none, none, none]) dX0_newVine_38 rfl rfl ?_
      refine r_iconst G (v := nI 0) dX0_newVine_39 (by decide) ?_
      refine r_istore G (lo' := [some (.ref o), some (.ref t), some (.int (nI (pN c))), some (.ref q36), some (.int (nI 0)), none, none, none]) dX0_newVine_40 rfl rfl ?_
      have L42 : ∀ (fu : Nat) (i : Nat) (fn : Nat → Int32), (i ≤ pN c - 2) → (∀ j, j < i → okD c m (2 + j) 0 (pN c - 1) = true ∧ fn j = nI (pRw c j)) → pN c - i < fu → K (fU f q36 (.inl (g.2 0, pN c - 2, .inl fn))) 1 (pN c - 2) 42 [some (.ref o), some (.ref t), some (.int (nI (pN c))), some (.ref q36), some (.int (nI i)), none, none, none] [] := by
        intro fu
        induction fu with
        | zero => intro i fn hi hfn hm42; exact absurd hm42 (Nat.not_lt_zero _)
        | succ fu42 ih42 =>
          intro i fn hi hfn hm42
          refine r_iload G dX0_newVine_42 rfl ?_
          refine r_aload_n G dX0_newVine_44 rfl ?_
          refine r_alen G (x := (pN c - 2, .inl fn)) 0 rfl (fU_s _ _ _) (v := (nI (pN c - 2))) rfl dX0_newVine_45 ?_
          refine r_icmp_ge G 88 (nI_leI (by omega) (by omega)) dX0_newVine_46 (by decide) (fun h46 => ?_) (fun h46 => ?_)
          · have hie : i = pN c - 2 := by omega
            subst hie
            obtain ⟨f1, hf1⟩ : ∃ z, z = fU f q36 (.inl (g.2 0, pN c - 2, .inl fn)) := ⟨_, rfl⟩
            have k1 : ∀ x e, f x = some e → f1 x = some e := by rw [hf1]; exact kq _
            have hq1 : f1 q36 = some (.inl (g.2 0, pN c - 2, .inl fn)) := by rw [hf1]; exact fU_s _ _ _
            rw [← hf1]
            clear hf1
            refine r_iload_n G dX0_newVine_88 rfl ?_
            refine r_istore G (lo' := [some (.ref o), some (.ref t), some (.int (nI (pN c))), some (.ref q36), some (.int (nI (pN c))), none, none, none]) dX0_newVine_89 rfl rfl ?_
            refine r_new G xCl2 q111 q112 q73 hX.an [.int (nI 0), .null, .int (nI 0)] (fun j hj => by have hj2 : j = 0 ∨ j = 1 ∨ j = 2 := (by omega); rcases hj2 with rfl | rfl | rfl <;> rfl) (cs' := 2) (ss' := (pN c - 2) + 3) rfl rfl ⟨by simp only [fR, xR] <;> omega, by simp only [fR, xR] <;> omega⟩ dX0_newVine_91 (fun q91 hq91 hAq91 => ?_)
            show K (fU f1 q91 (.inr (2, [.int (nI 0), .null, .int (nI 0)]))) 2 ((pN c - 2) + 3) 94 [some (.ref o), some (.ref t), some (.int (nI (pN c))), some (.ref q36), some (.int (nI (pN c))), none, none, none] [.ref q91]
            refine r_dup G dX0_newVine_94 rfl ?_
            refine r_bipush G (v := nI 8) dX0_newVine_95 (by decide) ?_
            refine r_callI (b := q91) G [.int (nI 8)] (xM_J2_init_2 hX hAq91 (fU_s _ _ _)) q927 q73 q925 q926 rfl fy_yJ2_init_2 rfl ⟨by simp only [fR, xR] <;> omega, by simp only [fR, xR] <;> omega⟩ rfl (Nat.le_of_ble_eq_true rfl) (cs' := 3) (ss' := (pN c - 2) + 3 + 8) rfl rfl ⟨by simp only [fR, xR] <;> omega, by simp only [fR, xR] <;> omega⟩ dX0_newVine_97 (fun v97 f97 hp97 => ?_)
            obtain ⟨rfl, q97, hq97, hAq97, hne, hf2⟩ := hp97
            have hq97' : f1 q97 = none := by rw [fU_n _ _ hne] at hq97; exact hq97
            have hI0 : nvI g A f1 f97 o c (mkL q91 q97 (nI 0) 8 0 (fun _ => none)) (fun _ => 0) := ⟨⟨by rw [← hf2]; exact fU_s _ _ _, by rw [← hf2]; exact (fU_n _ _ hne).trans (fU_s _ _ _), Nat.zero_le _, Nat.le_of_ble_eq_true rfl⟩, ⟨hAq91, Or.inr hAq97⟩, fun x e hx => by rw [← hf2, fU_n _ _ (fun z => by rw [z, hq91] at hx; cases hx), fU_n _ _ (fun z => by rw [z, hq97'] at hx; cases hx), fU_n _ _ (fun z => by rw [z, hq91] at hx; cases hx)]; exact hx, hq91, hq97', fun p hp => absurd hp (Nat.not_lt_zero _), fun p hp => absurd hp (Nat.not_lt_zero _)⟩
            clear hf2
            show K f97 3 ((pN c - 2) + 3 + 8) 100 [some (.ref o), some (.ref t), some (.int (nI (pN c))), some (.ref q36), some (.int (nI (pN c))), none, none, none] [.ref q91]
            refine r_astore G (lo' := [some (.ref o), some (.ref t), some (.int (nI (pN c))), some (.ref q36), some (.int (nI (pN c))), some (.ref q91), none, none]) dX0_newVine_100 rfl rfl ?_
            have L102 : ∀ (fu p : Nat) (mc : Int32) (el : Nat → Option Nat) (pb : Nat → Nat) (fx : fH), (nvI g A f1 fx o c (mkL q91 q97 mc 8 p el) pb) → (p ≤ pN c) → (∀ q, q < p → (okK c m (pN c + 2 * q) && okD c m (pN c + 2 * q + 1) 0 9) = true) → pN c - p < fu → K fx (3 + p) (pN c - 2 + 11 + 7 * p) 102 [some (.ref o), some (.ref t), some (.int (nI (pN c))), some (.ref q36), some (.int (nI (pN c + 2 * p))), some (.ref q91), none, none] [] := by
              intro fu
              induction fu with
              | zero => intro p mc el pb fx hI hp hok hm102; exact absurd hm102 (Nat.not_lt_zero _)
              | succ fu102 ih102 =>
                intro p mc el pb fx hI hp hok hm102
                have kx : ∀ x e, f x = some e → fx x = some e := fun x e he => hI.2.2.1 x e (k1 x e he)
                have hTx := kx _ _ hT
                have hqx := hI.2.2.1 _ _ hq1
                have hOx := kx _ _ hO
                have hLy := hLx.kp kx
                have hRy := hR.kp kx
                refine r_aload G dX0_newVine_102 rfl ?_
                refine s_callF (b := q91) G [] (xM_J2_size hX (L := (mkL q91 q97 mc 8 p el)) hI.1) (lw_F q173 q177 q179 q73 q181) (hX.fw 0 _ rfl) fx_0 rfl ⟨by simp only [fR, xR] <;> omega, by simp only [fR, xR] <;> omega⟩ (fs := [.int mc, .ref q97, .int (nI p)]) hI.1.1 (ci := 2) rfl rfl (Nat.le_of_ble_eq_true rfl) rfl rfl ⟨by simp only [fR, xR] <;> omega, by simp only [fR, xR] <;> omega⟩ dX0_newVine_104 ?_
                show K fx ((3 + p)) ((pN c - 2 + 11 + 7 * p)) 109 [some (.ref o), some (.ref t), some (.int (nI (pN c))), some (.ref q36), some (.int (nI (pN c + 2 * p))), some (.ref q91), none, none] [.int (nI p)]
                refine r_iload_n G dX0_newVine_109 rfl ?_
                refine r_icmp_ge G 218 (nI_leI (by omega) (by omega)) dX0_newVine_110 (by decide) (fun h110 => ?_) (fun h110 => ?_)
                · have hpe : p = pN c := by omega
                  have hrow : ∀ q, q < pN c - 2 → okD c m (2 + q) 0 (pN c - 1) = true := fun q hq => (hfn q hq).1
                  have hokk : ∀ q, q < pN c → (okK c m (pN c + 2 * q) && okD c m (pN c + 2 * q + 1) 0 9) = true := fun q hq => hok q (by omega)
                  have h3m : 3 * pN c ≤ m := by
                    have h9 := hokk (pN c - 1) (by omega)
                    rw [Bool.and_eq_true] at h9
                    have h8 := (okD_t (by decide) (by decide) h9.2).1
                    omega
                  refine r_iload G dX0_newVine_218 rfl ?_
                  refine r_aload_n G dX0_newVine_220 rfl ?_
                  refine r_alen G (x := (m, .inl c)) 0 rfl hTx (v := (nI m)) rfl dX0_newVine_221 ?_
                  refine r_icmp_ge G 231 (nI_leI (by omega) (by omega)) dX0_newVine_222 (by decide) (fun h222 => ?_) (fun h222 => ?_)
                  · have hF : pF c m = none := by rw [pF_e h0m h0c h21 hrow hokk, if_pos (by omega)]
                    obtain ⟨-, -, hrw2, hkl2⟩ := pF_ok hF
                    have hne1 : f1 L.a ≠ none := by rw [k1 _ _ hLx.1]; exact fun z => by cases z
                    have hne2 : f1 L.ea ≠ none := by rw [k1 _ _ hLx.2.1]; exact fun z => by cases z
                    have hoL : o ≠ L.a := fun z => by rw [z, hLx.1] at hO; cases hO
                    have hoE : o ≠ L.ea := fun z => by rw [z, hLx.2.1] at hO; cases hO
                    refine r_aload_n G dX0_newVine_231 rfl ?_
                    refine r_getf G xCl1 (fs := [.int tr, .int gr, .ref L.a, .ref rn, .ref R.a, .int fa, .ref sh]) hOx 2 (by decide) q142 rfl rfl dX0_newVine_232 ?_
                    refine r_callF (b := L.a) G [] (xM_J2_clear hX hLy hAL) (lw_F q931 q934 q936 q73 q938) (hX.fw 6 _ rfl) fx_6 rfl ⟨by simp only [fR, xR] <;> omega, by simp only [fR, xR] <;> omega⟩ (fs := [.int L.mc, .ref L.ea, .int (nI L.n)]) hLy.1 (ci := 2) rfl rfl (Nat.le_of_ble_eq_true rfl) rfl rfl ⟨by simp only [fR, xR] <;> omega, by simp only [fR, xR] <;> omega⟩ dX0_newVine_235 (fun v235 f235 hp235 => ?_)
                    obtain ⟨rfl, L5, el5, hL5, hop5⟩ := hp235
                    subst hL5
                    have k5 : ∀ x e, x ≠ L.a → x ≠ L.ea → fx x = some e → f235 x = some e := fun x e n1 n2 hx => hop5.2.2.2.2 x e n1 (fun z => absurd z n2) hx
                    have hB5 : xL g f235 (mkL q91 q97 mc 8 p el) := ⟨k5 _ _ (fun z => hne1 (by rw [← z]; exact hI.2.2.2.1)) (fun z => hne2 (by rw [← z]; exact hI.2.2.2.1)) hI.1.1, k5 _ _ (fun z => hne1 (by rw [← z]; exact hI.2.2.2.2.1)) (fun z => hne2 (by rw [← z]; exact hI.2.2.2.2.1)) hI.1.2.1, hI.1.2.2⟩
                    have hO5 := k5 _ _ hoL hoE hOx
                    have hel5 : ∀ i : Nat, i < p → ∀ y : Nat, el i = some y → y ≠ L.a ∧ ∃ (ci : Nat) (fs : List Value) (r : vw_C), f235 y = some (.inr (ci, fs)) ∧ fCl[ci]? = some r ∧ (r.1 = "java/lang/Object" ∨ ∀ U, En U → va_Nw (.castable r.1 "java/lang/Object") U) := fun i hi y hy => by
                      obtain ⟨e1, e2, e3, e4⟩ := hI.2.2.2.2.2.2 i hi
                      have e5 : y = pb i := Option.some.inj (hy.symm.trans e1)
                      subst e5
                      have n1 : pb i ≠ L.a := fun z => hne1 (by rw [← z]; exact e4)
                      have n2 : pb i ≠ L.ea := fun z => hne2 (by rw [← z]; exact e4)
                      obtain ⟨r, hr1, hr2⟩ := po_cast hX (hkl2 i (by omega)).1
                      exact ⟨n1, _, _, r, k5 _ _ n1 n2 e2, hr1, hr2⟩
                    have hLB : L.a ≠ q91 := fun z => hne1 (by rw [z]; exact hI.2.2.2.1)
                    show K f235 ((3 + p)) ((pN c - 2 + 11 + 7 * p)) 240 [some (.ref o), some (.ref t), some (.int (nI (pN c))), some (.ref q36), some (.int (nI (pN c + 2 * p))), some (.ref q91), none, none] []
                    refine r_aload_n G dX0_newVine_240 rfl ?_
                    refine r_getf G xCl1 (fs := [.int tr, .int gr, .ref L.a, .ref rn, .ref R.a, .int fa, .ref sh]) hO5 2 (by decide) q142 rfl rfl dX0_newVine_241 ?_
                    refine r_aload G dX0_newVine_244 rfl ?_
                    rcases hlL with hl0 | hl0
                    · have hmd := hl0
                      refine r_callF (b := L.a) G [.ref q91] (xM_J2_addAll_c hX (L := (mkL L.a L.ea (L.mc + 1) L.cap 0 el5)) (M := (mkL q91 q97 mc 8 p el)) hop5.1 hB5 hop5.2.1 rfl (show p ≠ 0 by omega) hLB hl0.1 hl0.2 hel5) (lw_F q940 q943 q945 q73 q947) (hX.fw 7 _ rfl) fx_7 rfl ⟨by simp only [fR, xR] <;> omega, by simp only [fR, xR] <;> omega⟩ (fs := [.int (L.mc + 1), .ref L.ea, .int (nI 0)]) hop5.1.1 (ci := 2) rfl rfl (Nat.le_of_ble_eq_true rfl) (cs' := (3 + p) + 2) (ss' := (pN c - 2 + 11 + 7 * p) + (p + 10)) rfl rfl ⟨by simp only [fR, xR] <;> omega, by simp only [fR, xR] <;> omega⟩ dX0_newVine_246 (fun v246 f246 hp246 => ?_)
                      obtain ⟨rfl, L6, hL6n, hcap6, hel6, hop6⟩ := hp246
                      have hop : xLop g A fx f246 L L6 := hop5.tr hop6
                      have hL6n : L6.n = p := hL6n
                      have hLa : L6.a = L.a := hop.2.2.1
                      have hP6 := nvI.xP hI (show p ≤ 8 by omega) (fun x hx => hkl2 x (Nat.lt_of_lt_of_le hx hp)) hne1 hne2 hop hL6n hel6
                      have k6 : ∀ x e, x ≠ L.a → (x = L.ea → L.cap = 0) → fx x = some e → f246 x = some e := fun x e n1 n2 hx => hop.2.2.2.2 x e n1 n2 hx
                      have hO6 : f246 o = some (.inr (1, xF tr gr L6.a rn R.a fa sh)) := by rw [hLa]; exact k6 _ _ hoL (fun z => absurd z hoE) hOx
                      have hT6 : f246 q36 = some (.inl (g.2 0, L6.n - 2, .inl fn)) := by rw [hL6n, hpe]; exact k6 _ _ (fun z => by rw [z, hLx.1] at hq36; cases hq36) (fun z => by rw [z, hLx.2.1] at hq36; cases hq36) hqx
                      have hrw6 : ∀ q, q < L6.n - 2 → fn q = nI (pRw c q) ∧ pRw c q < L6.n := fun q hq => ⟨(hfn q (by omega)).2, by rw [hL6n, hpe]; exact hrw2 q (by omega)⟩
                      have hAp6 : ∀ x, x < L6.n → A (pb x) := fun x hx => (hI.2.2.2.2.2.2 x (show x < p by omega)).2.2.1
                      show K f246 ((3 + p) + 2) ((pN c - 2 + 11 + 7 * p) + (p + 10)) 251 [some (.ref o), some (.ref t), some (.int (nI (pN c))), some (.ref q36), some (.int (nI (pN c + 2 * p))), some (.ref q91), none, none] [.int 1]
                      refine r_pop G dX0_newVine_251 rfl ?_
                      refine r_aload_n G dX0_newVine_252 rfl ?_
                      refine r_aload_n G dX0_newVine_253 rfl ?_
                      refine r_callV (b := o) G [.ref q36] (xM_X0_grows hX (L := L6) hO6 hP6 hAp6 hT6 (show 2 ≤ L6.n by omega) hrw6) (lw_V q958 q960 qs33 q70 q961) fy_yX0_grows rfl ⟨by simp only [fR, xR] <;> omega, by simp only [fR, xR] <;> omega⟩ (fs := [.int tr, .int gr, .ref L6.a, .ref rn, .ref R.a, .int fa, .ref sh]) hO6 (ci := 1) rfl rfl rfl (Nat.le_of_ble_eq_true rfl) rfl rfl ⟨by simp only [fR, xR] <;> omega, by simp only [fR, xR] <;> omega⟩ dX0_newVine_254 (fun v254 f254 hp254 => ?_)
                      obtain ⟨rfl, hP7, k7⟩ := hp254
                      have hO7 := k7 _ _ rfl hO6
                      show K f254 ((3 + p) + 2) ((pN c - 2 + 11 + 7 * p) + (p + 10)) 257 [some (.ref o), some (.ref t), some (.int (nI (pN c))), some (.ref q36), some (.int (nI (pN c + 2 * p))), some (.ref q91), none, none] []
                      refine r_aload_n G dX0_newVine_257 rfl ?_
                      refine r_iconst G (v := nI 0) dX0_newVine_258 (by decide) ?_
                      refine r_putf G xCl1 (fs := [.int tr, .int gr, .ref L6.a, .ref rn, .ref R.a, .int fa, .ref sh]) hO7 hAo 1 (by decide) q141 rfl rfl rfl rfl (Nat.le_of_ble_eq_true rfl) (f' := fU f254 o (.inr (1, [.int tr, .int (nI 0), .ref L6.a, .ref rn, .ref R.a, .int fa, .ref sh]))) rfl dX0_newVine_259 ?_
                      show K (fU f254 o (.inr (1, [.int tr, .int (nI 0), .ref L6.a, .ref rn, .ref R.a, .int fa, .ref sh]))) ((3 + p) + 2) ((pN c - 2 + 11 + 7 * p) + (p + 10)) 262 [some (.ref o), some (.ref t), some (.int (nI (pN c))), some (.ref q36), some (.int (nI (pN c + 2 * p))), some (.ref q91), none, none] []
                      obtain ⟨f8, hf8⟩ : ∃ z, z = fU f254 o (.inr (1, [.int tr, .int (nI 0), .ref L6.a, .ref rn, .ref R.a, .int fa, .ref sh])) := ⟨_, rfl⟩
                      have k8 : ∀ x e, x ≠ o → f254 x = some e → f8 x = some e := fun x e n1 hx => by rw [hf8, fU_n _ _ n1]; exact hx
                      have hO8 : f8 o = some (.inr (1, xF tr (nI 0) L6.a rn R.a fa sh)) := by rw [hf8]; exact fU_s _ _ _
                      have hP8 := hP7.of (fun x e hc hx => k8 x e (fun z => by rw [z, hO7] at hx; cases hx; rcases hc with hc | hc | hc <;> first | exact absurd hc (show ¬ (1 : Nat) = 2 by decide) | exact absurd hc (show ¬ (1 : Nat) = 21 by decide) | exact absurd hc (show ¬ nPost 1 = false by decide)) hx)
                      have hRa : R.a ≠ L.a := fun z => hLR z.symm
                      have hRaE : R.a ≠ L.ea := ne_el hR hLx
                      have hReA : R.ea ≠ L.a := fun z => ne_el hLx hR z.symm
                      have hoR : o ≠ R.a := fun z => by rw [z, hR.1] at hO; cases hO
                      have hoRe : o ≠ R.ea := fun z => by rw [z, hR.2.1] at hO; cases hO
                      have k68 : ∀ x e, x ≠ L.a → (x = L.ea → L.cap = 0) → x ≠ o → nPost (cE e) = true → fx x = some e → f8 x = some e := fun x e n1 n2 n3 n4 hx => k8 x e n3 (k7 x e n4 (k6 x e n1 n2 hx))
                      have hR8 : xL g f8 R := ⟨k68 _ _ hRa (fun z => absurd z hRaE) (Ne.symm hoR) rfl hRy.1, k68 _ _ hReA (fun z => (hLRe z.symm).1) (Ne.symm hoRe) rfl hRy.2.1, hRy.2.2⟩
                      rw [← hf8]
                      refine r_aload_n G dX0_newVine_262 rfl ?_
                      refine r_getf G xCl1 (fs := [.int tr, .int (nI 0), .ref L6.a, .ref rn, .ref R.a, .int fa, .ref sh]) hO8 4 (by decide) q144 rfl rfl dX0_newVine_263 ?_
                      refine r_callF (b := R.a) G [] (xM_J2_clear hX (L := R) hR8 hAR) (lw_F q931 q934 q936 q73 q938) (hX.fw 6 _ rfl) fx_6 rfl ⟨by simp only [fR, xR] <;> omega, by simp only [fR, xR] <;> omega⟩ (fs := [.int R.mc, .ref R.ea, .int (nI R.n)]) hR8.1 (ci := 2) rfl rfl (Nat.le_of_ble_eq_true rfl) rfl rfl ⟨by simp only [fR, xR] <;> omega, by simp only [fR, xR] <;> omega⟩ dX0_newVine_266 (fun v266 f266 hp266 => ?_)
                      obtain ⟨rfl, R9, el9, hR9, hop9⟩ := hp266
                      have hE6 : L6.ea ≠ R.ea := fun z => by
                        rcases hop.2.2.2.1 with y | y
                        · exact absurd (hcap6.symm.trans (y.2.trans (hLRe (y.1.symm.trans z)).1)) (by decide)
                        · rw [z, hRy.2.1] at y; cases y.1
                      have k9 : ∀ x e, x ≠ R.a → x ≠ R.ea → f8 x = some e → f266 x = some e := fun x e n1 n2 hx => hop9.2.2.2.2 x e n1 (fun z => absurd z n2) hx
                      have hO9 := k9 _ _ hoR hoRe hO8
                      have hP9 : xP g f266 o L6 pb (pKd c) (pLd c) (vin L6.n (pRw c)) (fun _ => nI 0) (fun _ => nI 0) := ⟨⟨k9 _ _ (by rw [hLa]; exact hLR) (by rw [hLa]; exact Ne.symm hReA) hP8.1.1, k9 _ _ (fun z => ne_el hR8 hP8.1 z.symm) hE6 hP8.1.2.1, hP8.1.2.2⟩, hP8.2.1, hP8.2.2.1, fun x hx => ⟨(hP8.2.2.2 x hx).1, k9 _ _ (fun z => by have h9 := (hP8.2.2.2 x hx).2.1; rw [z, hR8.1] at h9; simp only [Option.some.injEq, Sum.inr.injEq, Prod.mk.injEq] at h9; omega) (fun z => by have h9 := (hP8.2.2.2 x hx).2.1; rw [z, hR8.2.1] at h9; cases h9) (hP8.2.2.2 x hx).2.1, (hP8.2.2.2 x hx).2.2⟩⟩
                      show K f266 ((3 + p) + 2) ((pN c - 2 + 11 + 7 * p) + (p + 10)) 271 [some (.ref o), some (.ref t), some (.int (nI (pN c))), some (.ref q36), some (.int (nI (pN c + 2 * p))), some (.ref q91), none, none] []
                      have hL6p : L6.n = pN c := by omega
                      have hP9c := hP9
                      rw [hL6p] at hP9c
                      have hO9c := hO9
                      rw [hLa] at hO9c
                      have hAp6c : ∀ x, x < pN c → A (pb x) := fun x hx => hAp6 x (by omega)
                      have kfin : ∀ x e, x ≠ o → x ≠ L.a → x ≠ R.a → (x = L.ea → L.cap = 0) → (x = R.ea → R.cap = 0) → nPost (cE e) = true → f x = some e → f266 x = some e := fun x e n1 n2 n3 n4 n5 n6 hx => hop9.2.2.2.2 x e n3 n5 (k68 x e n2 n4 n1 n6 (kx x e hx))
                      refine r_aload_n G dX0_newVine_271 rfl ?_
                      refine r_getf G xCl1 (fs := [.int tr, .int (nI 0), .ref L6.a, .ref rn, .ref R.a, .int fa, .ref sh]) hO9 2 (by decide) q142 rfl rfl dX0_newVine_272 ?_
                      refine s_callF (b := L6.a) G [] (xM_J2_size hX hP9.1) (lw_F q173 q177 q179 q73 q181) (hX.fw 0 _ rfl) fx_0 rfl ⟨by simp only [fR, xR] <;> omega, by simp only [fR, xR] <;> omega⟩ (fs := [.int L6.mc, .ref L6.ea, .int (nI L6.n)]) hP9.1.1 (ci := 2) rfl rfl (Nat.le_of_ble_eq_true rfl) rfl rfl ⟨by simp only [fR, xR] <;> omega, by simp only [fR, xR] <;> omega⟩ dX0_newVine_275 ?_
                      show K f266 ((3 + p) + 2) ((pN c - 2 + 11 + 7 * p) + (p + 10)) 280 [some (.ref o), some (.ref t), some (.int (nI (pN c))), some (.ref q36), some (.int (nI (pN c + 2 * p))), some (.ref q91), none, none] [.int (nI L6.n)]
                      exact r_iret G rfl ⟨by simp only [fR, xR] <;> omega, by simp only [fR, xR] <;> omega⟩ dX0_newVine_280 (nvS hF ⟨rv (by omega), L6, R9, pb, hLa, by rw [hR9]; rfl, by omega, by rw [hR9]; rfl, hop.2.1, Or.inr hcap6, hop9.1, hop9.2.1, by rw [hR9]; exact hlR, by rw [hR9]; exact fun z => absurd z hE6, hP9c, hAp6c, hO9c, kfin⟩)
                    · have hmd := hl0
                      refine r_callF (b := L.a) G [.ref q91] (xM_J2_addAll_a hX (L := (mkL L.a L.ea (L.mc + 1) L.cap 0 el5)) (M := (mkL q91 q97 mc 8 p el)) hop5.1 hB5 hop5.2.1 rfl (show p ≠ 0 by omega) hLB (show p ≤ L.cap by omega) hel5) (lw_F q940 q943 q945 q73 q947) (hX.fw 7 _ rfl) fx_7 rfl ⟨by simp only [fR, xR] <;> omega, by simp only [fR, xR] <;> omega⟩ (fs := [.int (L.mc + 1), .ref L.ea, .int (nI 0)]) hop5.1.1 (ci := 2) rfl rfl (Nat.le_of_ble_eq_true rfl) (cs' := (3 + p) + 1) (ss' := (pN c - 2 + 11 + 7 * p) + p) rfl rfl ⟨by simp only [fR, xR] <;> omega, by simp only [fR, xR] <;> omega⟩ dX0_newVine_246 (fun v246 f246 hp246 => ?_)
                      obtain ⟨rfl, L6, hL6n, hel6, hop6⟩ := hp246
                      have hcap6 : L6.cap = 10 := by rcases hop6.2.2.2.1 with z | z; exact z.2.trans hl0; exact absurd (hl0.symm.trans z.2) (by decide)
                      have hop : xLop g A fx f246 L L6 := hop5.tr hop6
                      have hL6n : L6.n = p := hL6n
                      have hLa : L6.a = L.a := hop.2.2.1
                      have hP6 := nvI.xP hI (show p ≤ 8 by omega) (fun x hx => hkl2 x (Nat.lt_of_lt_of_le hx hp)) hne1 hne2 hop hL6n hel6
                      have k6 : ∀ x e, x ≠ L.a → (x = L.ea → L.cap = 0) → fx x = some e → f246 x = some e := fun x e n1 n2 hx => hop.2.2.2.2 x e n1 n2 hx
                      have hO6 : f246 o = some (.inr (1, xF tr gr L6.a rn R.a fa sh)) := by rw [hLa]; exact k6 _ _ hoL (fun z => absurd z hoE) hOx
                      have hT6 : f246 q36 = some (.inl (g.2 0, L6.n - 2, .inl fn)) := by rw [hL6n, hpe]; exact k6 _ _ (fun z => by rw [z, hLx.1] at hq36; cases hq36) (fun z => by rw [z, hLx.2.1] at hq36; cases hq36) hqx
                      have hrw6 : ∀ q, q < L6.n - 2 → fn q = nI (pRw c q) ∧ pRw c q < L6.n := fun q hq => ⟨(hfn q (by omega)).2, by rw [hL6n, hpe]; exact hrw2 q (by omega)⟩
                      have hAp6 : ∀ x, x < L6.n → A (pb x) := fun x hx => (hI.2.2.2.2.2.2 x (show x < p by omega)).2.2.1
                      show K f246 ((3 + p) + 1) ((pN c - 2 + 11 + 7 * p) + p) 251 [some (.ref o), some (.ref t), some (.int (nI (pN c))), some (.ref q36), some (.int (nI (pN c + 2 * p))), some (.ref q91), none, none] [.int 1]
                      refine r_pop G dX0_newVine_251 rfl ?_
                      refine r_aload_n G dX0_newVine_252 rfl ?_
                      refine r_aload_n G dX0_newVine_253 rfl ?_
                      refine r_callV (b := o) G [.ref q36] (xM_X0_grows hX (L := L6) hO6 hP6 hAp6 hT6 (show 2 ≤ L6.n by omega) hrw6) (lw_V q958 q960 qs33 q70 q961) fy_yX0_grows rfl ⟨by simp only [fR, xR] <;> omega, by simp only [fR, xR] <;> omega⟩ (fs := [.int tr, .int gr, .ref L6.a, .ref rn, .ref R.a, .int fa, .ref sh]) hO6 (ci := 1) rfl rfl rfl (Nat.le_of_ble_eq_true rfl) rfl rfl ⟨by simp only [fR, xR] <;> omega, by simp only [fR, xR] <;> omega⟩ dX0_newVine_254 (fun v254 f254 hp254 => ?_)
                      obtain ⟨rfl, hP7, k7⟩ := hp254
                      have hO7 := k7 _ _ rfl hO6
                      show K f254 ((3 + p) + 1) ((pN c - 2 + 11 + 7 * p) + p) 257 [some (.ref o), some (.ref t), some (.int (nI (pN c))), some (.ref q36), some (.int (nI (pN c + 2 * p))), some (.ref q91), none, none] []
                      refine r_aload_n G dX0_newVine_257 rfl ?_
                      refine r_iconst G (v := nI 0) dX0_newVine_258 (by decide) ?_
                      refine r_putf G xCl1 (fs := [.int tr, .int gr, .ref L6.a, .ref rn, .ref R.a, .int fa, .ref sh]) hO7 hAo 1 (by decide) q141 rfl rfl rfl rfl (Nat.le_of_ble_eq_true rfl) (f' := fU f254 o (.inr (1, [.int tr, .int (nI 0), .ref L6.a, .ref rn, .ref R.a, .int fa, .ref sh]))) rfl dX0_newVine_259 ?_
                      show K (fU f254 o (.inr (1, [.int tr, .int (nI 0), .ref L6.a, .ref rn, .ref R.a, .int fa, .ref sh]))) ((3 + p) + 1) ((pN c - 2 + 11 + 7 * p) + p) 262 [some (.ref o), some (.ref t), some (.int (nI (pN c))), some (.ref q36), some (.int (nI (pN c + 2 * p))), some (.ref q91), none, none] []
                      obtain ⟨f8, hf8⟩ : ∃ z, z = fU f254 o (.inr (1, [.int tr, .int (nI 0), .ref L6.a, .ref rn, .ref R.a, .int fa, .ref sh])) := ⟨_, rfl⟩
                      have k8 : ∀ x e, x ≠ o → f254 x = some e → f8 x = some e := fun x e n1 hx => by rw [hf8, fU_n _ _ n1]; exact hx
                      have hO8 : f8 o = some (.inr (1, xF tr (nI 0) L6.a rn R.a fa sh)) := by rw [hf8]; exact fU_s _ _ _
                      have hP8 := hP7.of (fun x e hc hx => k8 x e (fun z => by rw [z, hO7] at hx; cases hx; rcases hc with hc | hc | hc <;> first | exact absurd hc (show ¬ (1 : Nat) = 2 by decide) | exact absurd hc (show ¬ (1 : Nat) = 21 by decide) | exact absurd hc (show ¬ nPost 1 = false by decide)) hx)
                      have hRa : R.a ≠ L.a := fun z => hLR z.symm
                      have hRaE : R.a ≠ L.ea := ne_el hR hLx
                      have hReA : R.ea ≠ L.a := fun z => ne_el hLx hR z.symm
                      have hoR : o ≠ R.a := fun z => by rw [z, hR.1] at hO; cases hO
                      have hoRe : o ≠ R.ea := fun z => by rw [z, hR.2.1] at hO; cases hO
                      have k68 : ∀ x e, x ≠ L.a → (x = L.ea → L.cap = 0) → x ≠ o → nPost (cE e) = true → fx x = some e → f8 x = some e := fun x e n1 n2 n3 n4 hx => k8 x e n3 (k7 x e n4 (k6 x e n1 n2 hx))
                      have hR8 : xL g f8 R := ⟨k68 _ _ hRa (fun z => absurd z hRaE) (Ne.symm hoR) rfl hRy.1, k68 _ _ hReA (fun z => (hLRe z.symm).1) (Ne.symm hoRe) rfl hRy.2.1, hRy.2.2⟩
                      rw [← hf8]
                      refine r_aload_n G dX0_newVine_262 rfl ?_
                      refine r_getf G xCl1 (fs := [.int tr, .int (nI 0), .ref L6.a, .ref rn, .ref R.a, .int fa, .ref sh]) hO8 4 (by decide) q144 rfl rfl dX0_newVine_263 ?_
                      refine r_callF (b := R.a) G [] (xM_J2_clear hX (L := R) hR8 hAR) (lw_F q931 q934 q936 q73 q938) (hX.fw 6 _ rfl) fx_6 rfl ⟨by simp only [fR, xR] <;> omega, by simp only [fR, xR] <;> omega⟩ (fs := [.int R.mc, .ref R.ea, .int (nI R.n)]) hR8.1 (ci := 2) rfl rfl (Nat.le_of_ble_eq_true rfl) rfl rfl ⟨by simp only [fR, xR] <;> omega, by simp only [fR, xR] <;> omega⟩ dX0_newVine_266 (fun v266 f266 hp266 => ?_)
                      obtain ⟨rfl, R9, el9, hR9, hop9⟩ := hp266
                      have hE6 : L6.ea ≠ R.ea := fun z => by
                        rcases hop.2.2.2.1 with y | y
                        · exact absurd (hcap6.symm.trans (y.2.trans (hLRe (y.1.symm.trans z)).1)) (by decide)
                        · rw [z, hRy.2.1] at y; cases y.1
                      have k9 : ∀ x e, x ≠ R.a → x ≠ R.ea → f8 x = some e → f266 x = some e := fun x e n1 n2 hx => hop9.2.2.2.2 x e n1 (fun z => absurd z n2) hx
                      have hO9 := k9 _ _ hoR hoRe hO8
                      have hP9 : xP g f266 o L6 pb (pKd c) (pLd c) (vin L6.n (pRw c)) (fun _ => nI 0) (fun _ => nI 0) := ⟨⟨k9 _ _ (by rw [hLa]; exact hLR) (by rw [hLa]; exact Ne.symm hReA) hP8.1.1, k9 _ _ (fun z => ne_el hR8 hP8.1 z.symm) hE6 hP8.1.2.1, hP8.1.2.2⟩, hP8.2.1, hP8.2.2.1, fun x hx => ⟨(hP8.2.2.2 x hx).1, k9 _ _ (fun z => by have h9 := (hP8.2.2.2 x hx).2.1; rw [z, hR8.1] at h9; simp only [Option.some.injEq, Sum.inr.injEq, Prod.mk.injEq] at h9; omega) (fun z => by have h9 := (hP8.2.2.2 x hx).2.1; rw [z, hR8.2.1] at h9; cases h9) (hP8.2.2.2 x hx).2.1, (hP8.2.2.2 x hx).2.2⟩⟩
                      show K f266 ((3 + p) + 1) ((pN c - 2 + 11 + 7 * p) + p) 271 [some (.ref o), some (.ref t), some (.int (nI (pN c))), some (.ref q36), some (.int (nI (pN c + 2 * p))), some (.ref q91), none, none] []
                      have hL6p : L6.n = pN c := by omega
                      have hP9c := hP9
                      rw [hL6p] at hP9c
                      have hO9c := hO9
                      rw [hLa] at hO9c
                      have hAp6c : ∀ x, x < pN c → A (pb x) := fun x hx => hAp6 x (by omega)
                      have kfin : ∀ x e, x ≠ o → x ≠ L.a → x ≠ R.a → (x = L.ea → L.cap = 0) → (x = R.ea → R.cap = 0) → nPost (cE e) = true → f x = some e → f266 x = some e := fun x e n1 n2 n3 n4 n5 n6 hx => hop9.2.2.2.2 x e n3 n5 (k68 x e n2 n4 n1 n6 (kx x e hx))
                      refine r_aload_n G dX0_newVine_271 rfl ?_
                      refine r_getf G xCl1 (fs := [.int tr, .int (nI 0), .ref L6.a, .ref rn, .ref R.a, .int fa, .ref sh]) hO9 2 (by decide) q142 rfl rfl dX0_newVine_272 ?_
                      refine s_callF (b := L6.a) G [] (xM_J2_size hX hP9.1) (lw_F q173 q177 q179 q73 q181) (hX.fw 0 _ rfl) fx_0 rfl ⟨by simp only [fR, xR] <;> omega, by simp only [fR, xR] <;> omega⟩ (fs := [.int L6.mc, .ref L6.ea, .int (nI L6.n)]) hP9.1.1 (ci := 2) rfl rfl (Nat.le_of_ble_eq_true rfl) rfl rfl ⟨by simp only [fR, xR] <;> omega, by simp only [fR, xR] <;> omega⟩ dX0_newVine_275 ?_
                      show K f266 ((3 + p) + 1) ((pN c - 2 + 11 + 7 * p) + p) 280 [some (.ref o), some (.ref t), some (.int (nI (pN c))), some (.ref q36), some (.int (nI (pN c + 2 * p))), some (.ref q91), none, none] [.int (nI L6.n)]
                      exact r_iret G rfl ⟨by simp only [fR, xR] <;> omega, by simp only [fR, xR] <;> omega⟩ dX0_newVine_280 (nvS hF ⟨rv (by omega), L6, R9, pb, hLa, by rw [hR9]; rfl, by omega, by rw [hR9]; rfl, hop.2.1, Or.inr hcap6, hop9.1, hop9.2.1, by rw [hR9]; exact hlR, by rw [hR9]; exact fun z => absurd z hE6, hP9c, hAp6c, hO9c, kfin⟩)
                  · refine r_bipush G (v := -100) dX0_newVine_225 (by decide) ?_
                    refine r_iload G dX0_newVine_227 rfl ?_
                    refine r_isub G (v := ((-100 - nI (pN c + 2 * p)))) dX0_newVine_229 rfl ?_
                    refine r_sub G (f' := f) kx ?_
                    exact r_iret G rfl ⟨by simp only [fR, xR] <;> omega, by simp only [fR, xR] <;> omega⟩ dX0_newVine_230 (nvF (by rw [pF_e h0m h0c h21 hrow hokk, if_neg (by omega)]) (rI (by rw [hpe, show pN c + 2 * pN c = 3 * pN c from by omega])))
                · refine r_aload_n G dX0_newVine_113 rfl ?_
                  refine r_iload G dX0_newVine_114 rfl ?_
                  refine s_callSR G [.ref t, .int (nI (pN c + 2 * p))] (xM_X0_codeAt hX hTx hm (pN c + 2 * p) (by omega)) (lw_S q916 q917 q70 q918) fy_yX0_codeAt rfl ⟨by simp only [fR, xR] <;> omega, by simp only [fR, xR] <;> omega⟩ rfl (Nat.le_of_ble_eq_true rfl) rfl rfl ⟨by simp only [fR, xR] <;> omega, by simp only [fR, xR] <;> omega⟩ dX0_newVine_116 ?_
                  show K fx ((3 + p)) ((pN c - 2 + 11 + 7 * p)) 119 [some (.ref o), some (.ref t), some (.int (nI (pN c))), some (.ref q36), some (.int (nI (pN c + 2 * p))), some (.ref q91), none, none] [.int ((caV c m (pN c + 2 * p)))]
                  have L156 : ∀ k : Nat, okK c m (pN c + 2 * p) = true → k = pKd c p → k ≤ 2 → K fx (3 + p) (pN c - 2 + 11 + 7 * p) 156 [some (.ref o), some (.ref t), some (.int (nI (pN c))), some (.ref q36), some (.int (nI (pN c + 2 * p))), some (.ref q91), some (.int ((caV c m (pN c + 2 * p)))), none] [.int (nI k)] := by
                    intro k hkk hkp hk2
                    refine r_istore G (lo' := [some (.ref o), some (.ref t), some (.int (nI (pN c))), some (.ref q36), some (.int (nI (pN c + 2 * p))), some (.ref q91), some (.int ((caV c m (pN c + 2 * p)))), some (.int (nI k))]) dX0_newVine_156 rfl rfl ?_
                    refine r_iload G dX0_newVine_158 rfl ?_
                    refine r_if_ge G 169 (n_ge0 (by omega)) dX0_newVine_160 (by decide) (fun h160 => ?_) (fun h160 => False.elim (h160 (Nat.zero_le _)))
                    refine r_aload_n G dX0_newVine_169 rfl ?_
                    refine r_iload G dX0_newVine_170 rfl ?_
                    refine r_iconst G (v := nI 1) dX0_newVine_172 (by decide) ?_
                    refine r_iadd G (v := (nI ((pN c + 2 * p) + 1))) dX0_newVine_173 (nI_add (pN c + 2 * p) 1) ?_
                    refine r_iconst G (v := nI 0) dX0_newVine_174 (by decide) ?_
                    refine r_bipush G (v := nI 9) dX0_newVine_175 (by decide) ?_
                    refine s_callSR G [.ref t, .int (nI ((pN c + 2 * p) + 1)), .int (nI 0), .int (nI 9)] (xM_X0_isFigure hX hTx hm ((pN c + 2 * p) + 1) 0 9 (by omega) (by omega) (by omega)) (lw_S q919 q920 q70 q921) fy_yX0_isFigure rfl ⟨by simp only [fR, xR] <;> omega, by simp only [fR, xR] <;> omega⟩ rfl (Nat.le_of_ble_eq_true rfl) rfl rfl ⟨by simp only [fR, xR] <;> omega, by simp only [fR, xR] <;> omega⟩ dX0_newVine_177 ?_
                    show K fx ((3 + p)) ((pN c - 2 + 11 + 7 * p)) 180 [some (.ref o), some (.ref t), some (.int (nI (pN c))), some (.ref q36), some (.int (nI (pN c + 2 * p))), some (.ref q91), some (.int ((caV c m (pN c + 2 * p)))), some (.int (nI k))] [.int (bI (okD c m ((pN c + 2 * p) + 1) 0 9))]
                    refine r_ifb_ne G 189  dX0_newVine_180 (by decide) (fun h180 => ?_) (fun h180 => ?_)
                    · obtain ⟨hmd, v, hv0, hv9, hcv, hdv⟩ := okD_t (by omega) (by omega) h180
                      have hv : v = pLd c p := hdv.symm
                      subst hv
                      refine r_aload G dX0_newVine_189 rfl ?_
                      refine r_aload_n G dX0_newVine_191 rfl ?_
                      refine r_iload G dX0_newVine_192 rfl ?_
                      refine r_aload_n G dX0_newVine_194 rfl ?_
                      refine r_iload G dX0_newVine_195 rfl ?_
                      refine r_iconst G (v := nI 1) dX0_newVine_197 (by decide) ?_
                      refine r_iadd G (v := (nI ((pN c + 2 * p) + 1))) dX0_newVine_198 (nI_add (pN c + 2 * p) 1) ?_
                      refine s_callSR G [.ref t, .int (nI ((pN c + 2 * p) + 1))] (xM_X0_figureAt hX hTx hm ((pN c + 2 * p) + 1) hmd (pLd c p) hcv) (lw_S q922 q923 q70 q924) fy_yX0_figureAt rfl ⟨by simp only [fR, xR] <;> omega, by simp only [fR, xR] <;> omega⟩ rfl (Nat.le_of_ble_eq_true rfl) rfl rfl ⟨by simp only [fR, xR] <;> omega, by simp only [fR, xR] <;> omega⟩ dX0_newVine_199 ?_
                      show K fx ((3 + p)) ((pN c - 2 + 11 + 7 * p)) 202 [some (.ref o), some (.ref t), some (.int (nI (pN c))), some (.ref q36), some (.int (nI (pN c + 2 * p))), some (.ref q91), some (.int ((caV c m (pN c + 2 * p)))), some (.int (nI k))] [.int (nI (pLd c p)), .int (nI k), .ref o, .ref q91]
                      refine r_iconst G (v := nI 0) dX0_newVine_202 (by decide) ?_
                      refine r_callV (b := o) G [.int (nI k), .int (nI (pLd c p)), .int (nI 0)] (xM_X0_madeOf hX k (pLd c p) 0 hk2) (lw_V q521 q523 qs24 q70 q524) fy_yX0_madeOf rfl ⟨by simp only [fR, xR] <;> omega, by simp only [fR, xR] <;> omega⟩ (fs := [.int tr, .int gr, .ref L.a, .ref rn, .ref R.a, .int fa, .ref sh]) hOx (ci := 1) rfl rfl rfl (Nat.le_of_ble_eq_true rfl) (cs' := (3 + p) + 1) (ss' := (pN c - 2 + 11 + 7 * p) + 7) rfl rfl ⟨by simp only [fR, xR] <;> omega, by simp only [fR, xR] <;> omega⟩ dX0_newVine_203 (fun v203 f203 hp203 => ?_)
                      obtain ⟨q203, rfl, hq203, hAq203, rfl⟩ := hp203
                      obtain ⟨f2, hf2⟩ : ∃ z, z = fU fx q203 (.inr (3 + k, pO k o (pLd c p) 0 (nI 0) (nI 0))) := ⟨_, rfl⟩
                      have k2 : ∀ x e, fx x = some e → f2 x = some e := fun x e he => by rw [hf2]; exact kp.new (Q := fun _ _ => True) _ hq203 x e trivial he
                      have hq2 : f2 q203 = some (.inr (3 + k, pO k o (pLd c p) 0 (nI 0) (nI 0))) := by rw [hf2]; exact fU_s _ _ _
                      rw [← hf2]
                      obtain ⟨r, hr1, hr2⟩ := po_cast hX hk2
                      have hI2 := hI.1.kp k2
                      show K f2 ((3 + p) + 1) ((pN c - 2 + 11 + 7 * p) + 7) 206 [some (.ref o), some (.ref t), some (.int (nI (pN c))), some (.ref q36), some (.int (nI (pN c + 2 * p))), some (.ref q91), some (.int ((caV c m (pN c + 2 * p)))), some (.int (nI k))] [.ref q203, .ref q91]
                      refine r_callF (b := q91) G [.ref q203] (xM_J2_add_a hX (L := (mkL q91 q97 mc 8 p el)) hI2 hI.2.1 (show p < 8 by omega) q203 hq2 (ci := 3 + k) hr1 hr2 (fun z => by have h9 : fx q91 = _ := hI.1.1; have z : q203 = q91 := z; rw [← z, hq203] at h9; cases h9)) (lw_F q426 q429 q431 q73 q433) (hX.fw 3 _ rfl) fx_3 rfl ⟨by simp only [fR, xR] <;> omega, by simp only [fR, xR] <;> omega⟩ (fs := [.int mc, .ref q97, .int (nI p)]) hI2.1 (ci := 2) rfl rfl (Nat.le_of_ble_eq_true rfl) rfl rfl ⟨by simp only [fR, xR] <;> omega, by simp only [fR, xR] <;> omega⟩ dX0_newVine_206 (fun v206 f206 hp206 => ?_)
                      obtain ⟨rfl, B3, hB3, hop3⟩ := hp206
                      rw [hkp] at hf2
                      rw [hf2] at hop3
                      show K f206 ((3 + p) + 1) ((pN c - 2 + 11 + 7 * p) + 7) 211 [some (.ref o), some (.ref t), some (.int (nI (pN c))), some (.ref q36), some (.int (nI (pN c + 2 * p))), some (.ref q91), some (.int ((caV c m (pN c + 2 * p)))), some (.int (nI k))] [.int 1]
                      refine r_pop G dX0_newVine_211 rfl ?_
                      refine r_iinc G (v := (nI ((pN c + 2 * p) + 2))) (lo' := [some (.ref o), some (.ref t), some (.int (nI (pN c))), some (.ref q36), some (.int (nI ((pN c + 2 * p) + 2))), some (.ref q91), some (.int ((caV c m (pN c + 2 * p)))), some (.int (nI k))]) dX0_newVine_212 rfl (nI_add (pN c + 2 * p) 2) rfl rfl ?_
                      refine r_goto G 102 dX0_newVine_215 (by decide) ?_
                      refine r_drop G 6 (lo' := [some (.ref o), some (.ref t), some (.int (nI (pN c))), some (.ref q36), some (.int (nI ((pN c + 2 * p) + 2))), some (.ref q91), none, some (.int (nI k))]) rfl ?_
                      refine r_drop G 7 (lo' := [some (.ref o), some (.ref t), some (.int (nI (pN c))), some (.ref q36), some (.int (nI ((pN c + 2 * p) + 2))), some (.ref q91), none, none]) rfl ?_
                      rw [show pN c + 2 * p + 2 = pN c + 2 * (p + 1) from by omega, show 3 + p + 1 = 3 + (p + 1) from rfl, show pN c - 2 + 11 + 7 * p + 7 = pN c - 2 + 11 + 7 * (p + 1) from by omega]
                      subst hkp
                      have hI3 := hI.st hq203 hAq203 hB3 hop3
                      rw [hB3] at hI3
                      exact ih102 _ _ _ _ _ hI3 (by omega) (fun q hq => (Nat.lt_or_ge q p).elim (fun z => hok q z) (fun z => by rw [show q = p by omega, hkk, h180]; rfl)) (by omega)
                    · refine r_bipush G (v := -101) dX0_newVine_183 (by decide) ?_
                      refine r_iload G dX0_newVine_185 rfl ?_
                      refine r_isub G (v := ((-101 - nI (pN c + 2 * p)))) dX0_newVine_187 rfl ?_
                      refine r_sub G (f' := f) kx ?_
                      exact r_iret G rfl ⟨by simp only [fR, xR] <;> omega, by simp only [fR, xR] <;> omega⟩ dX0_newVine_188 (nvF (by rw [pF_p h0m h0c h21 (fun q hq => (hfn q hq).1) (show p < pN c by omega) (by rw [hkk, h180]; rfl) hok, hkk]; rfl) (rI (m101 _ (by omega))))
                  refine r_istore G (lo' := [some (.ref o), some (.ref t), some (.int (nI (pN c))), some (.ref q36), some (.int (nI (pN c + 2 * p))), some (.ref q91), some (.int ((caV c m (pN c + 2 * p)))), none]) dX0_newVine_119 rfl rfl ?_
                  refine r_iload G dX0_newVine_121 rfl ?_
                  refine r_bipush G (v := nI 112) dX0_newVine_123 (by decide) ?_
                  refine r_icmp_ne G 132 Iff.rfl dX0_newVine_125 (by decide) (fun h125 => ?_) (fun h125 => ?_)
                  · refine r_iload G dX0_newVine_132 rfl ?_
                    refine r_bipush G (v := nI 98) dX0_newVine_134 (by decide) ?_
                    refine r_icmp_ne G 143 Iff.rfl dX0_newVine_136 (by decide) (fun h136 => ?_) (fun h136 => ?_)
                    · refine r_iload G dX0_newVine_143 rfl ?_
                      refine r_bipush G (v := nI 100) dX0_newVine_145 (by decide) ?_
                      refine r_icmp_ne G 154 Iff.rfl dX0_newVine_147 (by decide) (fun h147 => ?_) (fun h147 => ?_)
                      · refine r_bipush G (v := -9) dX0_newVine_154 (by decide) ?_
                        refine r_istore G (lo' := [some (.ref o), some (.ref t), some (.int (nI (pN c))), some (.ref q36), some (.int (nI (pN c + 2 * p))), some (.ref q91), some (.int ((caV c m (pN c + 2 * p)))), some (.int (-9))]) dX0_newVine_156 rfl rfl ?_
                        refine r_iload G dX0_newVine_158 rfl ?_
                        refine r_if_ge G 169 Iff.rfl dX0_newVine_160 (by decide) (fun h160 => False.elim ((absurd h160 (by decide)))) (fun h160 => ?_)
                        refine r_bipush G (v := -100) dX0_newVine_163 (by decide) ?_
                        refine r_iload G dX0_newVine_165 rfl ?_
                        refine r_isub G (v := ((-100 - nI (pN c + 2 * p)))) dX0_newVine_167 rfl ?_
                        refine r_sub G (f' := f) kx ?_
                        have hkf : okK c m (pN c + 2 * p) = false := kk_f h125 h136 h147
                        exact r_iret G rfl ⟨by simp only [fR, xR] <;> omega, by simp only [fR, xR] <;> omega⟩ dX0_newVine_168 (nvF (by rw [pF_p h0m h0c h21 (fun q hq => (hfn q hq).1) (show p < pN c by omega) (by rw [hkf]; rfl) hok, hkf]; rfl) rfl)
                      · refine r_iconst G (v := nI 2) dX0_newVine_150 (by decide) ?_
                        refine r_goto G 156 dX0_newVine_151 (by decide) ?_
                        obtain ⟨hk1, hk2⟩ := kk_t (k := 2) h147 (Or.inr (Or.inr ⟨rfl, rfl⟩))
                        exact L156 2 hk1 hk2 (by decide)
                    · refine r_iconst G (v := nI 1) dX0_newVine_139 (by decide) ?_
                      refine r_goto G 156 dX0_newVine_140 (by decide) ?_
                      obtain ⟨hk1, hk2⟩ := kk_t (k := 1) h136 (Or.inr (Or.inl ⟨rfl, rfl⟩))
                      exact L156 1 hk1 hk2 (by decide)
                  · refine r_iconst G (v := nI 0) dX0_newVine_128 (by decide) ?_
                    refine r_goto G 156 dX0_newVine_129 (by decide) ?_
                    obtain ⟨hk1, hk2⟩ := kk_t (k := 0) h125 (Or.inl ⟨rfl, rfl⟩)
                    exact L156 0 hk1 hk2 (by decide)
            exact L102 (pN c + 1) 0 (nI 0) _ _ _ hI0 (Nat.zero_le _) (fun q h => absurd h (Nat.not_lt_zero _)) (by omega)
          · refine r_aload_n G dX0_newVine_49 rfl ?_
            refine r_iconst G (v := nI 2) dX0_newVine_50 (by decide) ?_
            refine r_iload G dX0_newVine_51 rfl ?_
            refine r_iadd G (v := (nI (2 + i))) dX0_newVine_53 (nI_add 2 i) ?_
            refine r_iconst G (v := nI 0) dX0_newVine_54 (by decide) ?_
            refine r_iload_n G dX0_newVine_55 rfl ?_
            refine r_iconst G (v := nI 1) dX0_newVine_56 (by decide) ?_
            refine r_isub G (v := (nI ((pN c) - 1))) dX0_newVine_57 (pk_sub (by omega)) ?_
            refine s_callSR G [.ref t, .int (nI (2 + i)), .int (nI 0), .int (nI ((pN c) - 1))] (xM_X0_isFigure hX (hTq _) hm (2 + i) 0 ((pN c) - 1) (by omega) (by omega) (by omega)) (lw_S q919 q920 q70 q921) fy_yX0_isFigure rfl ⟨by simp only [fR, xR] <;> omega, by simp only [fR, xR] <;> omega⟩ rfl (Nat.le_of_ble_eq_true rfl) rfl rfl ⟨by simp only [fR, xR] <;> omega, by simp only [fR, xR] <;> omega⟩ dX0_newVine_58 ?_
            show K (fU f q36 (.inl (g.2 0, pN c - 2, .inl fn))) 1 ((pN c - 2)) 61 [some (.ref o), some (.ref t), some (.int (nI (pN c))), some (.ref q36), some (.int (nI i)), none, none, none] [.int (bI (okD c m (2 + i) 0 ((pN c) - 1)))]
            refine r_ifb_ne G 70  dX0_newVine_61 (by decide) (fun h61 => ?_) (fun h61 => ?_)
            · obtain ⟨hmi, v, hv0, hvn, hcv, hdv⟩ := okD_t (by omega) (by omega) h61
              have hv : v = pRw c i := hdv.symm
              subst hv
              refine r_aload_n G dX0_newVine_70 rfl ?_
              refine r_iload G dX0_newVine_71 rfl ?_
              refine r_aload_n G dX0_newVine_73 rfl ?_
              refine r_iconst G (v := nI 2) dX0_newVine_74 (by decide) ?_
              refine r_iload G dX0_newVine_75 rfl ?_
              refine r_iadd G (v := (nI (2 + i))) dX0_newVine_77 (nI_add 2 i) ?_
              refine s_callSR G [.ref t, .int (nI (2 + i))] (xM_X0_figureAt hX (hTq _) hm (2 + i) hmi (pRw c i) hcv) (lw_S q922 q923 q70 q924) fy_yX0_figureAt rfl ⟨by simp only [fR, xR] <;> omega, by simp only [fR, xR] <;> omega⟩ rfl (Nat.le_of_ble_eq_true rfl) rfl rfl ⟨by simp only [fR, xR] <;> omega, by simp only [fR, xR] <;> omega⟩ dX0_newVine_78 ?_
              show K (fU f q36 (.inl (g.2 0, pN c - 2, .inl fn))) 1 ((pN c - 2)) 81 [some (.ref o), some (.ref t), some (.int (nI (pN c))), some (.ref q36), some (.int (nI i)), none, none, none] [.int (nI (pRw c i)), .int (nI i), .ref q36]
              refine r_iast G (n := pN c - 2) (fn := fn) (fU_s _ _ _) hAq36 (vp_in_nI (by omega) (by omega)) (f' := fU f q36 (.inl (g.2 0, pN c - 2, .inl (upd fn i (nI (pRw c i)))))) (by rw [nI_clamp (by omega)]; exact fU_uu _ _ _ _) dX0_newVine_81 ?_
              show K (fU f q36 (.inl (g.2 0, pN c - 2, .inl (upd fn i (nI (pRw c i)))))) 1 ((pN c - 2)) 82 [some (.ref o), some (.ref t), some (.int (nI (pN c))), some (.ref q36), some (.int (nI i)), none, none, none] []
              refine r_iinc G (v := (nI (i + 1))) (lo' := [some (.ref o), some (.ref t), some (.int (nI (pN c))), some (.ref q36), some (.int (nI (i + 1))), none, none, none]) dX0_newVine_82 rfl (nI_add i 1) rfl rfl ?_
              refine r_goto G 42 dX0_newVine_85 (by decide) ?_
              exact ih42 _ _ (by omega) (nv_st hfn h61) (by omega)
            · refine r_bipush G (v := -102) dX0_newVine_64 (by decide) ?_
              refine r_iload G dX0_newVine_66 rfl ?_
              refine r_isub G (v := ((-102 - nI i))) dX0_newVine_68 rfl ?_
              refine r_sub G (f' := f) (kq _) ?_
              exact r_iret G rfl ⟨by simp only [fR, xR] <;> omega, by simp only [fR, xR] <;> omega⟩ dX0_newVine_69 (nvF (pF_r h0m h0c h21 (by omega) h61 (fun q hq => (hfn q hq).1)) (rI (m102 i (by omega))))
      exact L42 (pN c + 1) 0 (fun _ => 0) (Nat.zero_le _) (fun j h => absurd h (Nat.not_lt_zero _)) (by omega)
    · refine r_bipush G (v := -101) dX0_newVine_24 (by decide) ?_
      exact r_iret G rfl ⟨Nat.zero_le _, Nat.zero_le _⟩ dX0_newVine_26 (nvF (pF_1 h0m h0c h21) (rI (by decide)))
  · refine r_bipush G (v := -100) dX0_newVine_10 (by decide) ?_
    exact r_iret G rfl ⟨Nat.zero_le _, Nat.zero_le _⟩ dX0_newVine_12 (nvF (pF_0 (fun z => h7 (by rw [ca_o z.1]; exact z.2))) (rI (by decide)))
end XX25
