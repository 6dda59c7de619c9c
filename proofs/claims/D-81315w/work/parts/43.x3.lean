/-! the component: lists that change -/
set_option maxRecDepth 100000
section XX3
/-- a list's object and array may be written -/
def xA (A : Nat → Prop) (L : xLs) : Prop := A L.a ∧ (L.cap = 0 ∨ A L.ea)
/-- from f to f' only the list has changed: L became L' -/
theorem xL_mk {g : fG} {f : fH} {a ea : Nat} {mc : Int32} {cap n : Nat} {el : Nat → Option Nat} (h1 : f a = some (.inr (2, [.int mc, .ref ea, .int (nI n)]))) (h2 : f ea = some (.inl (g.2 3, rfA cap el))) (h3 : n ≤ cap) (h4 : cap ≤ 10) : xL g f (mkL a ea mc cap n el) := ⟨h1, h2, h3, h4⟩
def xLop (g : fG) (A : Nat → Prop) (f f' : fH) (L L' : xLs) : Prop := xL g f' L' ∧ xA A L' ∧ L'.a = L.a ∧ ((L'.ea = L.ea ∧ L'.cap = L.cap) ∨ (f L'.ea = none ∧ L.cap = 0)) ∧ ∀ x e, x ≠ L.a → (x = L.ea → L.cap = 0) → f x = some e → f' x = some e
theorem xLop_mk {g : fG} {A : Nat → Prop} {f f' : fH} {L L' : xLs} (h1 : xL g f' L') (h2 : xA A L') (h3 : L'.a = L.a) (h4 : (L'.ea = L.ea ∧ L'.cap = L.cap) ∨ (f L'.ea = none ∧ L.cap = 0)) (h5 : ∀ x e, x ≠ L.a → (x = L.ea → L.cap = 0) → f x = some e → f' x = some e) : xLop g A f f' L L' := ⟨h1, h2, h3, h4, h5⟩
theorem xLop.tr {g : fG} {A : Nat → Prop} {f f1 f2 : fH} {L L1 L2 : xLs} (h : xLop g A f f1 L L1) (k : xLop g A f1 f2 L1 L2) : xLop g A f f2 L L2 := by
  obtain ⟨h1, h2, h3, h4, h5⟩ := h
  obtain ⟨k1, k2, k3, k4, k5⟩ := k
  refine ⟨k1, k2, k3.trans h3, ?_, fun x e a b c => ?_⟩
  · rcases h4 with ⟨p, q⟩ | ⟨p, q⟩
    · rcases k4 with ⟨p', q'⟩ | ⟨p', q'⟩
      · exact Or.inl ⟨p'.trans p, q'.trans q⟩
      · refine Or.inr ⟨?_, q.symm.trans q'⟩
        cases hf : f L2.ea with
        | none => rfl
        | some e =>
          have := h5 L2.ea e (fun z => by rw [z, ← h3, h1.1] at p'; cases p') (fun _ => q.symm.trans q') hf
          rw [p'] at this; cases this
    · rcases k4 with ⟨p', q'⟩ | ⟨p', q'⟩
      · exact Or.inr ⟨by rw [p']; exact p, q⟩
      · refine Or.inr ⟨?_, q⟩
        cases hf : f L2.ea with
        | none => rfl
        | some e =>
          have := h5 L2.ea e (fun z => by rw [z, ← h3, h1.1] at p'; cases p') (fun _ => q) hf
          rw [p'] at this; cases this
  · refine k5 x e (by rw [h3]; exact a) (fun z => ?_) (h5 x e a b c)
    rcases h4 with ⟨p, q⟩ | ⟨p, q⟩
    · rw [q]; exact b (z.trans p)
    · rw [z, p] at c; cases c

set_option maxHeartbeats 4000000 in
theorem xM_J2_set {l : Launch} {g : fG} {A : Nat → Prop} {En : State → Prop} {zd : Nat} (hX : fX zd g A En) {f : fH} {L : xLs} (hL : xL g f L) (hA : xA A L) (i : Nat) (hi : i < L.n) (q : Nat) {ci : Nat} {fs : List Value} {r : vw_C} (hq : f q = some (.inr (ci, fs))) (hc : fCl[ci]? = some r) (hcast : r.1 = "java/lang/Object" ∨ ∀ U, En U → va_Nw (.castable r.1 "java/lang/Object") U): fC l g A En yJ2_set cJ2_set 4 (some (.object "java/lang/Object")) (fR 2) [.ref L.a, .int (nI i), .ref q] f (fun v f' => v = some (va_rf (L.el i)) ∧ ∃ L', L' = mkL L.a L.ea L.mc L.cap L.n (va_up L.el i (some q)) ∧ xLop g A f f' L L') := by
  have hE := hX.E
  refine fC.of (by decide) hX.E [some (.ref L.a), some (.int (nI i)), some (.ref q), none] rfl rfl (fun K G => ?_)
  have G : fGood l g A En RJ2 "set" cJ2_set 4 (some (.object "java/lang/Object")) (fR 2) _ K := G
  refine r_iload_n G dJ2_set_0 rfl ?_
  refine r_aload_n G dJ2_set_1 rfl ?_
  refine r_getf G xCl2 (fs := [.int L.mc, .ref L.ea, .int (nI L.n)]) hL.1 2 (by decide) q126 rfl rfl dJ2_set_2 ?_
  refine s_callS G [.int (nI i), .int (nI L.n)] (sX_J17_checkIndex hE i L.n hi (by have := hL.2.2; omega)) (lw_S q194 q195 q96 q196) fy_yJ17_checkIndex rfl ⟨Nat.le_of_ble_eq_true rfl, Nat.le_of_ble_eq_true rfl⟩ rfl (Nat.le_of_ble_eq_true rfl) rfl rfl ⟨Nat.zero_le _, Nat.zero_le _⟩ dJ2_set_5 ?_
  show K f 0 0 8 [some (.ref L.a), some (.int (nI i)), some (.ref q), none] [.int (nI i)]
  refine r_pop G dJ2_set_8 rfl ?_
  refine r_aload_n G dJ2_set_9 rfl ?_
  refine r_iload_n G dJ2_set_10 rfl ?_
  refine s_callV (b := L.a) G [.int (nI i)] (xM_J2_elementData hX hL i (by have := hL.2.2; omega)) (lw_V q200 q201 q202 q73 q203) fy_yJ2_elementData rfl ⟨Nat.le_of_ble_eq_true rfl, Nat.le_of_ble_eq_true rfl⟩ (fs := [.int L.mc, .ref L.ea, .int (nI L.n)]) hL.1 (ci := 2) rfl rfl rfl (Nat.le_of_ble_eq_true rfl) rfl rfl ⟨Nat.zero_le _, Nat.zero_le _⟩ dJ2_set_11 ?_
  show K f 0 0 14 [some (.ref L.a), some (.int (nI i)), some (.ref q), none] [va_rf ((L.el i))]
  refine r_astore_nQ G (lo' := [some (.ref L.a), some (.int (nI i)), some (.ref q), some (va_rf ((L.el i)))]) dJ2_set_14 rfl rfl ?_
  refine r_aload_n G dJ2_set_15 rfl ?_
  refine r_getf G xCl2 (fs := [.int L.mc, .ref L.ea, .int (nI L.n)]) hL.1 1 (by decide) q125 rfl rfl dJ2_set_16 ?_
  refine r_iload_n G dJ2_set_19 rfl ?_
  refine r_aload_n G dJ2_set_20 rfl ?_
  refine r_aast G (t := 3) (n := L.cap) (fn := L.el) hL.2.1 rfl (hA.2.resolve_left (by have := hL.2.2; omega)) hq hc hcast (vp_in_nI (by have := hL.2.2; omega) (by have := hL.2.2; omega)) (f' := fU f L.ea (.inl (g.2 3, rfA L.cap (va_up L.el i (some q))))) (by rw [nI_clamp (by have := hL.2.2; omega)]) dJ2_set_21 ?_
  refine r_aload_nQ G dJ2_set_22 rfl ?_
  exact r_aret G rfl (Or.inl ⟨_, rfl⟩) (rf_or _) ⟨Nat.zero_le _, Nat.zero_le _⟩ dJ2_set_23 ⟨rfl, _, rfl, xLop_mk (xL_mk (by simp [fU, hL.1, hL.2.1, hL.ne, hL.ne.symm]) (by simp [fU, hL.1, hL.2.1, hL.ne, hL.ne.symm]) (by have := hL.2.2; omega) (by have := hL.2.2; omega)) ⟨hA.1, hA.2⟩ rfl (Or.inl ⟨rfl, rfl⟩) (fun x e h1 h2 h3 => by have h4 : x ≠ L.ea := (fun z => absurd (h2 z) (by have := hL.2.2; omega)); simp [fU, h1, h4, h3])⟩
set_option maxHeartbeats 4000000 in
theorem xM_J2_add_2a {l : Launch} {g : fG} {A : Nat → Prop} {En : State → Prop} {zd : Nat} (hX : fX zd g A En) {f : fH} {L : xLs} (hL : xL g f L) (hA : xA A L) (hr : L.n < L.cap) (q : Nat) {ci : Nat} {fs : List Value} {r : vw_C} (hq : f q = some (.inr (ci, fs))) (hc : fCl[ci]? = some r) (hcast : r.1 = "java/lang/Object" ∨ ∀ U, En U → va_Nw (.castable r.1 "java/lang/Object") U): fC l g A En yJ2_add_2 cJ2_add_2 4 none (fR 0) [.ref L.a, .ref q, .ref L.ea, .int (nI L.n)] f (fun v f' => v = none ∧ ∃ L', L' = mkL L.a L.ea L.mc L.cap (L.n + 1) (va_up L.el L.n (some q)) ∧ xLop g A f f' L L') := by
  have hE := hX.E
  refine fC.of (by decide) hX.E [some (.ref L.a), some (.ref q), some (.ref L.ea), some (.int (nI L.n))] rfl rfl (fun K G => ?_)
  have G : fGood l g A En RJ2 "add" cJ2_add_2 4 none (fR 0) _ K := G
  refine r_iload_n G dJ2_add_2_0 rfl ?_
  refine r_aload_n G dJ2_add_2_1 rfl ?_
  refine r_alen G (x := rfA L.cap L.el) 3 rfl hL.2.1 (v := (nI L.cap)) rfl dJ2_add_2_2 ?_
  refine r_icmp_ne G 11 (nI_eq (by have := hL.2.2; omega) (by have := hL.2.2; omega)) dJ2_add_2_3 (by decide) (fun h3 => ?_) (fun h3 => False.elim ((by omega)))
  refine r_aload_n G dJ2_add_2_11 rfl ?_
  refine r_iload_n G dJ2_add_2_12 rfl ?_
  refine r_aload_n G dJ2_add_2_13 rfl ?_
  refine r_aast G (t := 3) (n := L.cap) (fn := L.el) hL.2.1 rfl (hA.2.resolve_left (by have := hL.2.2; omega)) hq hc hcast (vp_in_nI hr (by have := hL.2.2; omega)) (f' := fU f L.ea (.inl (g.2 3, rfA L.cap (va_up L.el L.n (some q))))) (by rw [nI_clamp (by have := hL.2.2; omega)]) dJ2_add_2_14 ?_
  refine r_aload_n G dJ2_add_2_15 rfl ?_
  refine r_iload_n G dJ2_add_2_16 rfl ?_
  refine r_iconst G (v := nI 1) dJ2_add_2_17 (by decide) ?_
  refine r_iadd G (v := (nI (L.n + 1))) dJ2_add_2_18 (nI_add L.n 1) ?_
  refine r_putf G xCl2 (fs := [.int L.mc, .ref L.ea, .int (nI L.n)]) (by simp [fU, hL.1, hL.2.1, hL.ne, hL.ne.symm]) hA.1 2 (by decide) q126 rfl rfl rfl rfl (Nat.le_of_ble_eq_true rfl) (f' := fU (fU f L.ea (.inl (g.2 3, rfA L.cap (va_up L.el L.n (some q))))) L.a (.inr (2, [.int L.mc, .ref L.ea, .int (nI (L.n + 1))]))) rfl dJ2_add_2_19 ?_
  show K (fU (fU f L.ea (.inl (g.2 3, rfA L.cap (va_up L.el L.n (some q))))) L.a (.inr (2, [.int L.mc, .ref L.ea, .int (nI (L.n + 1))]))) 0 0 22 [some (.ref L.a), some (.ref q), some (.ref L.ea), some (.int (nI L.n))] []
  exact r_vret G rfl ⟨Nat.zero_le _, Nat.zero_le _⟩ dJ2_add_2_22 ⟨rfl, _, rfl, xLop_mk (xL_mk (by simp [fU, hL.1, hL.2.1, hL.ne, hL.ne.symm]) (by simp [fU, hL.1, hL.2.1, hL.ne, hL.ne.symm]) (by have := hL.2.2; omega) (by have := hL.2.2; omega)) ⟨hA.1, hA.2⟩ rfl (Or.inl ⟨rfl, rfl⟩) (fun x e h1 h2 h3 => by have h4 : x ≠ L.ea := (fun z => absurd (h2 z) (by have := hL.2.2; omega)); simp [fU, h1, h4, h3])⟩
set_option maxHeartbeats 4000000 in
theorem xM_J2_grow_2 {l : Launch} {g : fG} {A : Nat → Prop} {En : State → Prop} {zd : Nat} (hX : fX zd g A En) {f : fH} {L : xLs} (hL : xL g f L) (hA : xA A L) (h0 : L.cap = 0) (hz : L.ea = zd) (k : Nat) (hk : k ≤ 10): fC l g A En yJ2_grow_2 cJ2_grow_2 4 (some (.array (.object "java/lang/Object"))) (xR 1 1 10) [.ref L.a, .int (nI k)] f (fun v f' => ∃ q : Nat, v = some (.ref q) ∧ f q = none ∧ A q ∧ fU (fU f q (.inl (g.2 3, rfA 10 (fun _ => none)))) L.a (.inr (2, [.int L.mc, .ref q, .int (nI L.n)])) = f') := by
  have hE := hX.E
  refine fC.of (by decide) hX.E [some (.ref L.a), some (.int (nI k)), none, none] rfl rfl (fun K G => ?_)
  have G : fGood l g A En RJ2 "grow" cJ2_grow_2 4 (some (.array (.object "java/lang/Object"))) (xR 1 1 10) _ K := G
  have hL0 : f L.ea = some (.inl (g.2 3, rfA 0 L.el)) := by rw [← h0]; exact hL.2.1
  refine r_aload_n G dJ2_grow_2_0 rfl ?_
  refine r_getf G xCl2 (fs := [.int L.mc, .ref L.ea, .int (nI L.n)]) hL.1 1 (by decide) q125 rfl rfl dJ2_grow_2_1 ?_
  refine r_alen G (x := rfA 0 L.el) 3 rfl hL0 (v := (nI 0)) rfl dJ2_grow_2_4 ?_
  refine r_istore_n G (lo' := [some (.ref L.a), some (.int (nI k)), some (.int (nI 0)), none]) dJ2_grow_2_5 rfl rfl ?_
  refine r_iload_n G dJ2_grow_2_6 rfl ?_
  refine r_if_gt G 20 (n_gt0 (by decide)) dJ2_grow_2_7 (by decide) (fun h7 => False.elim (absurd h7 (by decide))) (fun h7 => ?_)
  refine r_aload_n G dJ2_grow_2_10 rfl ?_
  refine r_getf G xCl2 (fs := [.int L.mc, .ref L.ea, .int (nI L.n)]) hL.1 1 (by decide) q125 rfl rfl dJ2_grow_2_11 ?_
  refine r_gets G hX.z q123 dJ2_grow_2_14 ?_
  refine r_acmp_eq (rx := (some L.ea)) (ry := (some zd)) G 45  dJ2_grow_2_17 (by decide) (fun h17 => ?_) (fun h17 => False.elim (h17 (congrArg some hz)))
  refine r_aload_n G dJ2_grow_2_45 rfl ?_
  refine r_bipush G (v := nI 10) dJ2_grow_2_46 (by decide) ?_
  refine r_iload_n G dJ2_grow_2_48 rfl ?_
  refine r_mmax G (v := (nI 10)) q489 q261 q89 mmax_code ⟨Nat.le_of_ble_eq_true rfl, Nat.le_of_ble_eq_true rfl⟩ (Nat.le_of_ble_eq_true rfl) ⟨Nat.zero_le _, Nat.zero_le _⟩ (if_neg (nI_nlt (by omega) (by decide))) dJ2_grow_2_49 ?_
  refine r_newq G (t := 3) rfl q490 (hX.ao _ (Or.inr rfl)) hX.an 10 (nI_pos (by decide)) (nI_clamp (by decide)) (by decide) (cs' := 1) (ss' := 10) rfl rfl ⟨by decide, by decide⟩ dJ2_grow_2_52 (fun q52 hq52 hAq52 => ?_)
  have hn1 : q52 ≠ L.a := fun e => by rw [e, hL.1] at hq52; cases hq52
  have hn2 : q52 ≠ L.ea := fun e => by rw [e, hL.2.1] at hq52; cases hq52
  show K (fU f q52 (.inl (g.2 3, rfA 10 (fun _ => none)))) 1 10 55 [some (.ref L.a), some (.int (nI k)), some (.int (nI 0)), none] [.ref q52, .ref L.a]
  refine r_dup_x1 G dJ2_grow_2_55 rfl rfl ?_
  refine r_putf G xCl2 (fs := [.int L.mc, .ref L.ea, .int (nI L.n)]) (by simp [fU, hL.1, hL.2.1, hL.ne, hL.ne.symm, hn1, hn2, hn1.symm, hn2.symm]) hA.1 1 (by decide) q125 rfl rfl rfl rfl (Nat.le_of_ble_eq_true rfl) (f' := fU (fU f q52 (.inl (g.2 3, rfA 10 (fun _ => none)))) L.a (.inr (2, [.int L.mc, .ref q52, .int (nI L.n)]))) rfl dJ2_grow_2_56 ?_
  show K (fU (fU f q52 (.inl (g.2 3, rfA 10 (fun _ => none)))) L.a (.inr (2, [.int L.mc, .ref q52, .int (nI L.n)]))) 1 10 59 [some (.ref L.a), some (.int (nI k)), some (.int (nI 0)), none] [.ref q52]
  exact r_aret G rfl (Or.inr ⟨_, rfl⟩) (Or.inr ⟨_, rfl⟩) ⟨by decide, by decide⟩ dJ2_grow_2_59 ⟨q52, rfl, hq52, hAq52, rfl⟩
set_option maxHeartbeats 4000000 in
theorem xM_J2_grow {l : Launch} {g : fG} {A : Nat → Prop} {En : State → Prop} {zd : Nat} (hX : fX zd g A En) {f : fH} {L : xLs} (hL : xL g f L) (hA : xA A L) (h0 : L.cap = 0) (hz : L.ea = zd): fC l g A En yJ2_grow cJ2_grow 1 (some (.array (.object "java/lang/Object"))) (xR 2 1 10) [.ref L.a] f (fun v f' => ∃ q : Nat, v = some (.ref q) ∧ f q = none ∧ A q ∧ fU (fU f q (.inl (g.2 3, rfA 10 (fun _ => none)))) L.a (.inr (2, [.int L.mc, .ref q, .int (nI L.n)])) = f') := by
  have hE := hX.E
  refine fC.of (by decide) hX.E [some (.ref L.a)] rfl rfl (fun K G => ?_)
  have G : fGood l g A En RJ2 "grow" cJ2_grow 1 (some (.array (.object "java/lang/Object"))) (xR 2 1 10) _ K := G
  refine r_aload_n G dJ2_grow_0 rfl ?_
  refine r_aload_n G dJ2_grow_1 rfl ?_
  refine r_getf G xCl2 (fs := [.int L.mc, .ref L.ea, .int (nI L.n)]) hL.1 2 (by decide) q126 rfl rfl dJ2_grow_2 ?_
  refine r_iconst G (v := nI 1) dJ2_grow_5 (by decide) ?_
  refine r_iadd G (v := (nI (L.n + 1))) dJ2_grow_6 (nI_add L.n 1) ?_
  refine r_callV (b := L.a) G [.int (nI (L.n + 1))] (xM_J2_grow_2 hX hL hA h0 hz (L.n + 1) (by have := hL.2.2; omega)) (lw_V q442 q444 qs21 q73 q445) fy_yJ2_grow_2 rfl ⟨Nat.le_of_ble_eq_true rfl, Nat.le_of_ble_eq_true rfl⟩ (fs := [.int L.mc, .ref L.ea, .int (nI L.n)]) hL.1 (ci := 2) rfl rfl rfl (Nat.le_of_ble_eq_true rfl) (cs' := 1) (ss' := 10) rfl rfl ⟨by decide, by decide⟩ dJ2_grow_7 (fun v7 f7 hp7 => ?_)
  obtain ⟨q7, rfl, hq7, hAq7, rfl⟩ := hp7
  have hn1 : q7 ≠ L.a := fun e => by rw [e, hL.1] at hq7; cases hq7
  have hn2 : q7 ≠ L.ea := fun e => by rw [e, hL.2.1] at hq7; cases hq7
  show K (fU (fU f q7 (.inl (g.2 3, rfA 10 (fun _ => none)))) L.a (.inr (2, [.int L.mc, .ref q7, .int (nI L.n)]))) 1 10 10 [some (.ref L.a)] [.ref q7]
  exact r_aret G rfl (Or.inr ⟨_, rfl⟩) (Or.inr ⟨_, rfl⟩) ⟨by decide, by decide⟩ dJ2_grow_10 ⟨q7, rfl, hq7, hAq7, rfl⟩
set_option maxHeartbeats 4000000 in
theorem xM_J2_add_2b {l : Launch} {g : fG} {A : Nat → Prop} {En : State → Prop} {zd : Nat} (hX : fX zd g A En) {f : fH} {L : xLs} (hL : xL g f L) (hA : xA A L) (h0 : L.cap = 0) (hz : L.ea = zd) (q : Nat) {ci : Nat} {fs : List Value} {r : vw_C} (hq : f q = some (.inr (ci, fs))) (hc : fCl[ci]? = some r) (hcast : r.1 = "java/lang/Object" ∨ ∀ U, En U → va_Nw (.castable r.1 "java/lang/Object") U) (hqa : q ≠ L.a): fC l g A En yJ2_add_2 cJ2_add_2 4 none (xR 3 1 10) [.ref L.a, .ref q, .ref L.ea, .int (nI L.n)] f (fun v f' => v = none ∧ ∃ L' ea', L' = mkL L.a ea' L.mc 10 (L.n + 1) (va_up (fun _ => none) L.n (some q)) ∧ xLop g A f f' L L') := by
  have hE := hX.E
  refine fC.of (by decide) hX.E [some (.ref L.a), some (.ref q), some (.ref L.ea), some (.int (nI L.n))] rfl rfl (fun K G => ?_)
  have G : fGood l g A En RJ2 "add" cJ2_add_2 4 none (xR 3 1 10) _ K := G
  have hL0 : f L.ea = some (.inl (g.2 3, rfA 0 L.el)) := by rw [← h0]; exact hL.2.1
  have hn0 : L.n = 0 := by have := hL.2.2; omega
  refine r_iload_n G dJ2_add_2_0 rfl ?_
  refine r_aload_n G dJ2_add_2_1 rfl ?_
  refine r_alen G (x := rfA 0 L.el) 3 rfl hL0 (v := (nI 0)) rfl dJ2_add_2_2 ?_
  refine r_icmp_ne G 11 (nI_eq (by omega) (by decide)) dJ2_add_2_3 (by decide) (fun h3 => False.elim ((by omega))) (fun h3 => ?_)
  refine r_aload_n G dJ2_add_2_6 rfl ?_
  refine r_callV (b := L.a) G [] (xM_J2_grow hX hL hA h0 hz) (lw_V q438 q440 qs20 q73 q441) fy_yJ2_grow rfl ⟨Nat.le_of_ble_eq_true rfl, Nat.le_of_ble_eq_true rfl⟩ (fs := [.int L.mc, .ref L.ea, .int (nI L.n)]) hL.1 (ci := 2) rfl rfl rfl (Nat.le_of_ble_eq_true rfl) (cs' := 1) (ss' := 10) rfl rfl ⟨by decide, by decide⟩ dJ2_add_2_7 (fun v7 f7 hp7 => ?_)
  obtain ⟨q7, rfl, hq7, hAq7, rfl⟩ := hp7
  have hn1 : q7 ≠ L.a := fun e => by rw [e, hL.1] at hq7; cases hq7
  have hn2 : q7 ≠ L.ea := fun e => by rw [e, hL.2.1] at hq7; cases hq7
  show K (fU (fU f q7 (.inl (g.2 3, rfA 10 (fun _ => none)))) L.a (.inr (2, [.int L.mc, .ref q7, .int (nI L.n)]))) 1 10 10 [some (.ref L.a), some (.ref q), some (.ref L.ea), some (.int (nI L.n))] [.ref q7]
  refine r_astore_n G (lo' := [some (.ref L.a), some (.ref q), some (.ref q7), some (.int (nI L.n))]) dJ2_add_2_10 rfl rfl ?_
  have hn3 : q ≠ L.a := hqa
  have hn4 : q ≠ q7 := fun e => by rw [← e, hq] at hq7; cases hq7
  refine r_aload_n G dJ2_add_2_11 rfl ?_
  refine r_iload_n G dJ2_add_2_12 rfl ?_
  refine r_aload_n G dJ2_add_2_13 rfl ?_
  refine r_aast G (t := 3) (n := 10) (fn := (fun _ => none)) (by simp [fU, hL.1, hL.2.1, hL.ne, hL.ne.symm, hn1, hn2, hn1.symm, hn2.symm]) rfl hAq7 (ci := ci) (fs := fs) (by simp [fU, hn3, hn4]; exact hq) hc hcast (vp_in_nI (by omega) (by decide)) (f' := fU (fU (fU f q7 (.inl (g.2 3, rfA 10 (fun _ => none)))) L.a (.inr (2, [.int L.mc, .ref q7, .int (nI L.n)]))) q7 (.inl (g.2 3, rfA 10 (va_up (fun _ => none) L.n (some q))))) (by rw [nI_clamp (by omega)]) dJ2_add_2_14 ?_
  refine r_aload_n G dJ2_add_2_15 rfl ?_
  refine r_iload_n G dJ2_add_2_16 rfl ?_
  refine r_iconst G (v := nI 1) dJ2_add_2_17 (by decide) ?_
  refine r_iadd G (v := (nI (L.n + 1))) dJ2_add_2_18 (nI_add L.n 1) ?_
  refine r_putf G xCl2 (fs := [.int L.mc, .ref q7, .int (nI L.n)]) (by simp [fU, hL.1, hL.2.1, hL.ne, hL.ne.symm, hn1, hn2, hn1.symm, hn2.symm]) hA.1 2 (by decide) q126 rfl rfl rfl rfl (Nat.le_of_ble_eq_true rfl) (f' := fU (fU (fU (fU f q7 (.inl (g.2 3, rfA 10 (fun _ => none)))) L.a (.inr (2, [.int L.mc, .ref q7, .int (nI L.n)]))) q7 (.inl (g.2 3, rfA 10 (va_up (fun _ => none) L.n (some q))))) L.a (.inr (2, [.int L.mc, .ref q7, .int (nI (L.n + 1))]))) rfl dJ2_add_2_19 ?_
  show K (fU (fU (fU (fU f q7 (.inl (g.2 3, rfA 10 (fun _ => none)))) L.a (.inr (2, [.int L.mc, .ref q7, .int (nI L.n)]))) q7 (.inl (g.2 3, rfA 10 (va_up (fun _ => none) L.n (some q))))) L.a (.inr (2, [.int L.mc, .ref q7, .int (nI (L.n + 1))]))) 1 10 22 [some (.ref L.a), some (.ref q), some (.ref q7), some (.int (nI L.n))] []
  exact r_vret G rfl ⟨by decide, by decide⟩ dJ2_add_2_22 ⟨rfl, _, q7, rfl, xLop_mk (xL_mk (by simp [fU, hL.1, hn1, hn1.symm]) (by simp [fU, hL.1, hn1, hn1.symm]) (by omega) (by decide)) ⟨hA.1, Or.inr hAq7⟩ rfl (Or.inr ⟨hq7, h0⟩) (fun x e h1 h2 h3 => by have h4 : x ≠ q7 := (fun z => by rw [z, hq7] at h3; cases h3); simp [fU, h1, h4, h3])⟩
set_option maxHeartbeats 4000000 in
theorem xM_J2_add_a {l : Launch} {g : fG} {A : Nat → Prop} {En : State → Prop} {zd : Nat} (hX : fX zd g A En) {f : fH} {L : xLs} (hL : xL g f L) (hA : xA A L) (hr : L.n < L.cap) (q : Nat) {ci : Nat} {fs : List Value} {r : vw_C} (hq : f q = some (.inr (ci, fs))) (hc : fCl[ci]? = some r) (hcast : r.1 = "java/lang/Object" ∨ ∀ U, En U → va_Nw (.castable r.1 "java/lang/Object") U) (hqa : q ≠ L.a): fC l g A En yJ2_add cJ2_add 2 (some .boolean) (fR 1) [.ref L.a, .ref q] f (fun v f' => v = some (.int 1) ∧ ∃ L', L' = mkL L.a L.ea (L.mc + 1) L.cap (L.n + 1) (va_up L.el L.n (some q)) ∧ xLop g A f f' L L') := by
  have hE := hX.E
  refine fC.of (by decide) hX.E [some (.ref L.a), some (.ref q)] rfl rfl (fun K G => ?_)
  have G : fGood l g A En RJ2 "add" cJ2_add 2 (some .boolean) (fR 1) _ K := G
  refine r_aload_n G dJ2_add_0 rfl ?_
  refine r_dup G dJ2_add_1 rfl ?_
  refine r_getfS G xCl2 (fs := [.int L.mc, .ref L.ea, .int (nI L.n)]) hL.1 0 (by decide) q128 q129 rfl dJ2_add_2 ?_
  refine r_iconst G (v := nI 1) dJ2_add_5 (by decide) ?_
  refine r_iadd G (v := (L.mc + 1)) dJ2_add_6 rfl ?_
  refine r_putfS G xCl2 (fs := [.int L.mc, .ref L.ea, .int (nI L.n)]) hL.1 hA.1 0 (by decide) q128 q129 rfl rfl rfl (Nat.le_of_ble_eq_true rfl) (f' := fU f L.a (.inr (2, [.int (L.mc + 1), .ref L.ea, .int (nI L.n)]))) rfl dJ2_add_7 ?_
  show K (fU f L.a (.inr (2, [.int (L.mc + 1), .ref L.ea, .int (nI L.n)]))) 0 0 10 [some (.ref L.a), some (.ref q)] []
  refine r_aload_n G dJ2_add_10 rfl ?_
  refine r_aload_n G dJ2_add_11 rfl ?_
  refine r_aload_n G dJ2_add_12 rfl ?_
  refine r_getf G xCl2 (fs := [.int (L.mc + 1), .ref L.ea, .int (nI L.n)]) (by simp [fU, hL.1, hL.2.1, hL.ne, hL.ne.symm]) 1 (by decide) q125 rfl rfl dJ2_add_13 ?_
  refine r_aload_n G dJ2_add_16 rfl ?_
  refine r_getf G xCl2 (fs := [.int (L.mc + 1), .ref L.ea, .int (nI L.n)]) (by simp [fU, hL.1, hL.2.1, hL.ne, hL.ne.symm]) 2 (by decide) q126 rfl rfl dJ2_add_17 ?_
  have h01 : xLop g A f (fU f L.a (.inr (2, [.int (L.mc + 1), .ref L.ea, .int (nI L.n)]))) L (mkL L.a L.ea (L.mc + 1) L.cap L.n L.el) := xLop_mk (xL_mk (by simp [fU, hL.1, hL.2.1, hL.ne, hL.ne.symm]) (by simp [fU, hL.1, hL.2.1, hL.ne, hL.ne.symm]) hL.2.2.1 hL.2.2.2) hA rfl (Or.inl ⟨rfl, rfl⟩) (fun x e h1 h2 h3 => by simp [fU, h1, h3])
  have hq' : (fU f L.a (.inr (2, [.int (L.mc + 1), .ref L.ea, .int (nI L.n)]))) q = some (.inr (ci, fs)) := by simp [fU, hqa, hq]
  refine r_callV (b := L.a) G [.ref q, .ref L.ea, .int (nI L.n)] (xM_J2_add_2a hX h01.1 h01.2.1 hr q hq' hc hcast) (lw_V q434 q436 qs19 q73 q437) fy_yJ2_add_2 rfl ⟨Nat.le_of_ble_eq_true rfl, Nat.le_of_ble_eq_true rfl⟩ (fs := [.int (L.mc + 1), .ref L.ea, .int (nI L.n)]) (by simp [fU, hL.1, hL.2.1, hL.ne, hL.ne.symm]) (ci := 2) rfl rfl rfl (Nat.le_of_ble_eq_true rfl) rfl rfl ⟨Nat.zero_le _, Nat.zero_le _⟩ dJ2_add_20 (fun v20 f20 hp20 => ?_)
  obtain ⟨rfl, L', hL', hop⟩ := hp20
  show K f20 0 0 23 [some (.ref L.a), some (.ref q)] []
  refine r_iconst G (v := nI 1) dJ2_add_23 (by decide) ?_
  exact r_zret G rfl (by decide) ⟨Nat.zero_le _, Nat.zero_le _⟩ dJ2_add_24 ⟨rfl, L', hL', h01.tr hop⟩
set_option maxHeartbeats 4000000 in
theorem xM_J2_add_b {l : Launch} {g : fG} {A : Nat → Prop} {En : State → Prop} {zd : Nat} (hX : fX zd g A En) {f : fH} {L : xLs} (hL : xL g f L) (hA : xA A L) (h0 : L.cap = 0) (hz : L.ea = zd) (q : Nat) {ci : Nat} {fs : List Value} {r : vw_C} (hq : f q = some (.inr (ci, fs))) (hc : fCl[ci]? = some r) (hcast : r.1 = "java/lang/Object" ∨ ∀ U, En U → va_Nw (.castable r.1 "java/lang/Object") U) (hqa : q ≠ L.a): fC l g A En yJ2_add cJ2_add 2 (some .boolean) (xR 4 1 10) [.ref L.a, .ref q] f (fun v f' => v = some (.int 1) ∧ ∃ L' ea', L' = mkL L.a ea' (L.mc + 1) 10 (L.n + 1) (va_up (fun _ => none) L.n (some q)) ∧ xLop g A f f' L L') := by
  have hE := hX.E
  refine fC.of (by decide) hX.E [some (.ref L.a), some (.ref q)] rfl rfl (fun K G => ?_)
  have G : fGood l g A En RJ2 "add" cJ2_add 2 (some .boolean) (xR 4 1 10) _ K := G
  refine r_aload_n G dJ2_add_0 rfl ?_
  refine r_dup G dJ2_add_1 rfl ?_
  refine r_getfS G xCl2 (fs := [.int L.mc, .ref L.ea, .int (nI L.n)]) hL.1 0 (by decide) q128 q129 rfl dJ2_add_2 ?_
  refine r_iconst G (v := nI 1) dJ2_add_5 (by decide) ?_
  refine r_iadd G (v := (L.mc + 1)) dJ2_add_6 rfl ?_
  refine r_putfS G xCl2 (fs := [.int L.mc, .ref L.ea, .int (nI L.n)]) hL.1 hA.1 0 (by decide) q128 q129 rfl rfl rfl (Nat.le_of_ble_eq_true rfl) (f' := fU f L.a (.inr (2, [.int (L.mc + 1), .ref L.ea, .int (nI L.n)]))) rfl dJ2_add_7 ?_
  show K (fU f L.a (.inr (2, [.int (L.mc + 1), .ref L.ea, .int (nI L.n)]))) 0 0 10 [some (.ref L.a), some (.ref q)] []
  refine r_aload_n G dJ2_add_10 rfl ?_
  refine r_aload_n G dJ2_add_11 rfl ?_
  refine r_aload_n G dJ2_add_12 rfl ?_
  refine r_getf G xCl2 (fs := [.int (L.mc + 1), .ref L.ea, .int (nI L.n)]) (by simp [fU, hL.1, hL.2.1, hL.ne, hL.ne.symm]) 1 (by decide) q125 rfl rfl dJ2_add_13 ?_
  refine r_aload_n G dJ2_add_16 rfl ?_
  refine r_getf G xCl2 (fs := [.int (L.mc + 1), .ref L.ea, .int (nI L.n)]) (by simp [fU, hL.1, hL.2.1, hL.ne, hL.ne.symm]) 2 (by decide) q126 rfl rfl dJ2_add_17 ?_
  have h01 : xLop g A f (fU f L.a (.inr (2, [.int (L.mc + 1), .ref L.ea, .int (nI L.n)]))) L (mkL L.a L.ea (L.mc + 1) L.cap L.n L.el) := xLop_mk (xL_mk (by simp [fU, hL.1, hL.2.1, hL.ne, hL.ne.symm]) (by simp [fU, hL.1, hL.2.1, hL.ne, hL.ne.symm]) hL.2.2.1 hL.2.2.2) hA rfl (Or.inl ⟨rfl, rfl⟩) (fun x e h1 h2 h3 => by simp [fU, h1, h3])
  have hq' : (fU f L.a (.inr (2, [.int (L.mc + 1), .ref L.ea, .int (nI L.n)]))) q = some (.inr (ci, fs)) := by simp [fU, hqa, hq]
  refine r_callV (b := L.a) G [.ref q, .ref L.ea, .int (nI L.n)] (xM_J2_add_2b hX h01.1 h01.2.1 h0 hz q hq' hc hcast hqa) (lw_V q434 q436 qs19 q73 q437) fy_yJ2_add_2 rfl ⟨Nat.le_of_ble_eq_true rfl, Nat.le_of_ble_eq_true rfl⟩ (fs := [.int (L.mc + 1), .ref L.ea, .int (nI L.n)]) (by simp [fU, hL.1, hL.2.1, hL.ne, hL.ne.symm]) (ci := 2) rfl rfl rfl (Nat.le_of_ble_eq_true rfl) (cs' := 1) (ss' := 10) rfl rfl ⟨by decide, by decide⟩ dJ2_add_20 (fun v20 f20 hp20 => ?_)
  obtain ⟨rfl, L', ea', hL', hop⟩ := hp20
  show K f20 1 10 23 [some (.ref L.a), some (.ref q)] []
  refine r_iconst G (v := nI 1) dJ2_add_23 (by decide) ?_
  exact r_zret G rfl (by decide) ⟨by decide, by decide⟩ dJ2_add_24 ⟨rfl, L', ea', hL', h01.tr hop⟩
theorem clr_fr {g : fG} {f : fH} {L : xLs} {mc : Int32} {el' : Nat → Option Nat} (hL : xL g f L) (hcl : L.cap = 0 → el' = L.el) {x : Nat} {e : va_E} (h1 : x ≠ L.a) (h2 : x = L.ea → L.cap = 0) (h3 : f x = some e) : fU (fU f L.a (.inr (2, [.int mc, .ref L.ea, .int (nI 0)]))) L.ea (.inl (g.2 3, rfA L.cap el')) x = some e := by
  by_cases z : x = L.ea
  · have := hL.2.1
    rw [← z, h3] at this
    rw [z, fU_s, hcl (h2 z)]
    exact this.symm
  · simp [fU, h1, z, h3]
set_option maxHeartbeats 4000000 in
theorem xM_J2_clear {l : Launch} {g : fG} {A : Nat → Prop} {En : State → Prop} {zd : Nat} (hX : fX zd g A En) {f : fH} {L : xLs} (hL : xL g f L) (hA : xA A L): fC l g A En yJ2_clear cJ2_clear 4 none (fR 0) [.ref L.a] f (fun v f' => v = none ∧ ∃ L' el', L' = mkL L.a L.ea (L.mc + 1) L.cap 0 el' ∧ xLop g A f f' L L') := by
  have hE := hX.E
  refine fC.of (by decide) hX.E [some (.ref L.a), none, none, none] rfl rfl (fun K G => ?_)
  have G : fGood l g A En RJ2 "clear" cJ2_clear 4 none (fR 0) _ K := G
  refine r_aload_n G dJ2_clear_0 rfl ?_
  refine r_dup G dJ2_clear_1 rfl ?_
  refine r_getfS G xCl2 (fs := [.int L.mc, .ref L.ea, .int (nI L.n)]) hL.1 0 (by decide) q128 q129 rfl dJ2_clear_2 ?_
  refine r_iconst G (v := nI 1) dJ2_clear_5 (by decide) ?_
  refine r_iadd G (v := (L.mc + 1)) dJ2_clear_6 rfl ?_
  refine r_putfS G xCl2 (fs := [.int L.mc, .ref L.ea, .int (nI L.n)]) hL.1 hA.1 0 (by decide) q128 q129 rfl rfl rfl (Nat.le_of_ble_eq_true rfl) (f' := fU f L.a (.inr (2, [.int (L.mc + 1), .ref L.ea, .int (nI L.n)]))) rfl dJ2_clear_7 ?_
  show K (fU f L.a (.inr (2, [.int (L.mc + 1), .ref L.ea, .int (nI L.n)]))) 0 0 10 [some (.ref L.a), none, none, none] []
  refine r_aload_n G dJ2_clear_10 rfl ?_
  refine r_getf G xCl2 (fs := [.int (L.mc + 1), .ref L.ea, .int (nI L.n)]) (by simp [fU, hL.1, hL.2.1, hL.ne, hL.ne.symm]) 1 (by decide) q125 rfl rfl dJ2_clear_11 ?_
  refine r_astore_n G (lo' := [some (.ref L.a), some (.ref L.ea), none, none]) dJ2_clear_14 rfl rfl ?_
  refine r_aload_n G dJ2_clear_15 rfl ?_
  refine r_getf G xCl2 (fs := [.int (L.mc + 1), .ref L.ea, .int (nI L.n)]) (by simp [fU, hL.1, hL.2.1, hL.ne, hL.ne.symm]) 2 (by decide) q126 rfl rfl dJ2_clear_16 ?_
  refine r_istore_n G (lo' := [some (.ref L.a), some (.ref L.ea), some (.int (nI L.n)), none]) dJ2_clear_19 rfl rfl ?_
  refine r_aload_n G dJ2_clear_20 rfl ?_
  refine r_iconst G (v := nI 0) dJ2_clear_21 (by decide) ?_
  refine r_dup_x1 G dJ2_clear_22 rfl rfl ?_
  refine r_putf G xCl2 (fs := [.int (L.mc + 1), .ref L.ea, .int (nI L.n)]) (by simp [fU, hL.1, hL.2.1, hL.ne, hL.ne.symm]) hA.1 2 (by decide) q126 rfl rfl rfl rfl (Nat.le_of_ble_eq_true rfl) (f' := fU f L.a (.inr (2, [.int (L.mc + 1), .ref L.ea, .int (nI 0)]))) (fU_uu _ _ _ _) dJ2_clear_23 ?_
  show K (fU f L.a (.inr (2, [.int (L.mc + 1), .ref L.ea, .int (nI 0)]))) 0 0 26 [some (.ref L.a), some (.ref L.ea), some (.int (nI L.n)), none] [.int (nI 0)]
  refine r_istore_n G (lo' := [some (.ref L.a), some (.ref L.ea), some (.int (nI L.n)), some (.int (nI 0))]) dJ2_clear_26 rfl rfl ?_
  have L27 : ∀ (fu : Nat) (i : Nat) (el' : Nat → Option Nat), (i ≤ L.n) → (L.cap = 0 → el' = L.el) → L.n - i < fu → K (fU (fU f L.a (.inr (2, [.int (L.mc + 1), .ref L.ea, .int (nI 0)]))) L.ea (.inl (g.2 3, rfA L.cap el'))) 0 0 27 [some (.ref L.a), some (.ref L.ea), some (.int (nI L.n)), some (.int (nI i))] [] := by
    intro fu
    induction fu with
    | zero => intro i el' hi hcl hm27; exact absurd hm27 (Nat.not_lt_zero _)
    | succ fu27 ih27 =>
      intro i el' hi hcl hm27
      refine r_iload_n G dJ2_clear_27 rfl ?_
      refine r_iload_n G dJ2_clear_28 rfl ?_
      refine r_icmp_ge G 42 (nI_leI (by have := hL.2.2; omega) (by have := hL.2.2; omega)) dJ2_clear_29 (by decide) (fun h29 => ?_) (fun h29 => ?_)
      · exact r_vret G rfl ⟨Nat.zero_le _, Nat.zero_le _⟩ dJ2_clear_42 ⟨rfl, _, el', rfl, xLop_mk (xL_mk (by simp [fU, hL.1, hL.2.1, hL.ne, hL.ne.symm]) (by simp [fU, hL.1, hL.2.1, hL.ne, hL.ne.symm]) (Nat.zero_le _) hL.2.2.2) hA rfl (Or.inl ⟨rfl, rfl⟩) (fun x e h1 h2 h3 => clr_fr hL hcl h1 h2 h3)⟩
      · refine r_aload_n G dJ2_clear_32 rfl ?_
        refine r_iload_n G dJ2_clear_33 rfl ?_
        refine r_null G dJ2_clear_34 ?_
        refine r_aastN G (t := 3) (n := L.cap) (fn := el') (by simp [fU, hL.1, hL.2.1, hL.ne, hL.ne.symm]) rfl (hA.2.resolve_left (by have := hL.2.2; omega)) (vp_in_nI (by have := hL.2.2; omega) (by have := hL.2.2; omega)) (f' := fU (fU f L.a (.inr (2, [.int (L.mc + 1), .ref L.ea, .int (nI 0)]))) L.ea (.inl (g.2 3, rfA L.cap (va_up el' i none)))) (by rw [nI_clamp (by have := hL.2.2; omega)]; exact fU_uu _ _ _ _) dJ2_clear_35 ?_
        refine r_iinc G (v := (nI (i + 1))) (lo' := [some (.ref L.a), some (.ref L.ea), some (.int (nI L.n)), some (.int (nI (i + 1)))]) dJ2_clear_36 rfl (nI_add i 1) rfl rfl ?_
        refine r_goto G 27 dJ2_clear_39 (by decide) ?_
        exact ih27 _ _ (by omega) (fun z => by have := hL.2.2; omega) (by omega)
  rw [show fU f L.a (.inr (2, [.int (L.mc + 1), .ref L.ea, .int (nI 0)])) = fU (fU f L.a (.inr (2, [.int (L.mc + 1), .ref L.ea, .int (nI 0)]))) L.ea (.inl (g.2 3, rfA L.cap L.el)) from (fU_same (by simp [fU, hL.2.1, hL.ne, hL.ne.symm])).symm]
  exact L27 (L.n + 1) 0 L.el (Nat.zero_le _) (fun _ => rfl) (by omega)
set_option maxHeartbeats 4000000 in
theorem xM_J2_fastRemove {l : Launch} {g : fG} {A : Nat → Prop} {En : State → Prop} {zd : Nat} (hX : fX zd g A En) {f : fH} {L : xLs} (hL : xL g f L) (hA : xA A L) (i : Nat) (hi : i + 1 = L.n): fC l g A En yJ2_fastRemove cJ2_fastRemove 4 none (fR 0) [.ref L.a, .ref L.ea, .int (nI i)] f (fun v f' => v = none ∧ ∃ L', L' = mkL L.a L.ea (L.mc + 1) L.cap (L.n - 1) (va_up L.el (L.n - 1) none) ∧ xLop g A f f' L L') := by
  have hE := hX.E
  refine fC.of (by decide) hX.E [some (.ref L.a), some (.ref L.ea), some (.int (nI i)), none] rfl rfl (fun K G => ?_)
  have G : fGood l g A En RJ2 "fastRemove" cJ2_fastRemove 4 none (fR 0) _ K := G
  refine r_aload_n G dJ2_fastRemove_0 rfl ?_
  refine r_dup G dJ2_fastRemove_1 rfl ?_
  refine r_getfS G xCl2 (fs := [.int L.mc, .ref L.ea, .int (nI L.n)]) hL.1 0 (by decide) q128 q129 rfl dJ2_fastRemove_2 ?_
  refine r_iconst G (v := nI 1) dJ2_fastRemove_5 (by decide) ?_
  refine r_iadd G (v := (L.mc + 1)) dJ2_fastRemove_6 rfl ?_
  refine r_putfS G xCl2 (fs := [.int L.mc, .ref L.ea, .int (nI L.n)]) hL.1 hA.1 0 (by decide) q128 q129 rfl rfl rfl (Nat.le_of_ble_eq_true rfl) (f' := fU f L.a (.inr (2, [.int (L.mc + 1), .ref L.ea, .int (nI L.n)]))) rfl dJ2_fastRemove_7 ?_
  show K (fU f L.a (.inr (2, [.int (L.mc + 1), .ref L.ea, .int (nI L.n)]))) 0 0 10 [some (.ref L.a), some (.ref L.ea), some (.int (nI i)), none] []
  refine r_aload_n G dJ2_fastRemove_10 rfl ?_
  refine r_getf G xCl2 (fs := [.int (L.mc + 1), .ref L.ea, .int (nI L.n)]) (by simp [fU, hL.1, hL.2.1, hL.ne, hL.ne.symm]) 2 (by decide) q126 rfl rfl dJ2_fastRemove_11 ?_
  refine r_iconst G (v := nI 1) dJ2_fastRemove_14 (by decide) ?_
  refine r_isub G (v := (nI (L.n - 1))) dJ2_fastRemove_15 (pk_sub (by omega)) ?_
  refine r_dup G dJ2_fastRemove_16 rfl ?_
  refine r_istore_n G (lo' := [some (.ref L.a), some (.ref L.ea), some (.int (nI i)), some (.int (nI (L.n - 1)))]) dJ2_fastRemove_17 rfl rfl ?_
  refine r_iload_n G dJ2_fastRemove_18 rfl ?_
  refine r_icmp_le G 34 (nI_leI (by have := hL.2.2; omega) (by have := hL.2.2; omega)) dJ2_fastRemove_19 (by decide) (fun h19 => ?_) (fun h19 => False.elim ((by omega)))
  refine r_aload_n G dJ2_fastRemove_34 rfl ?_
  refine r_aload_n G dJ2_fastRemove_35 rfl ?_
  refine r_iload_n G dJ2_fastRemove_36 rfl ?_
  refine r_dup_x1 G dJ2_fastRemove_37 rfl rfl ?_
  refine r_putf G xCl2 (fs := [.int (L.mc + 1), .ref L.ea, .int (nI L.n)]) (by simp [fU, hL.1, hL.2.1, hL.ne, hL.ne.symm]) hA.1 2 (by decide) q126 rfl rfl rfl rfl (Nat.le_of_ble_eq_true rfl) (f' := fU f L.a (.inr (2, [.int (L.mc + 1), .ref L.ea, .int (nI (L.n - 1))]))) (fU_uu _ _ _ _) dJ2_fastRemove_38 ?_
  show K (fU f L.a (.inr (2, [.int (L.mc + 1), .ref L.ea, .int (nI (L.n - 1))]))) 0 0 41 [some (.ref L.a), some (.ref L.ea), some (.int (nI i)), some (.int (nI (L.n - 1)))] [.int (nI (L.n - 1)), .ref L.ea]
  refine r_null G dJ2_fastRemove_41 ?_
  refine r_aastN G (t := 3) (n := L.cap) (fn := L.el) (by simp [fU, hL.1, hL.2.1, hL.ne, hL.ne.symm]) rfl (hA.2.resolve_left (by have := hL.2.2; omega)) (vp_in_nI (by have := hL.2.2; omega) (by have := hL.2.2; omega)) (f' := fU (fU f L.a (.inr (2, [.int (L.mc + 1), .ref L.ea, .int (nI (L.n - 1))]))) L.ea (.inl (g.2 3, rfA L.cap (va_up L.el (L.n - 1) none)))) (by rw [nI_clamp (by have := hL.2.2; omega)]) dJ2_fastRemove_42 ?_
  exact r_vret G rfl ⟨Nat.zero_le _, Nat.zero_le _⟩ dJ2_fastRemove_43 ⟨rfl, _, rfl, xLop_mk (xL_mk (by simp [fU, hL.1, hL.2.1, hL.ne, hL.ne.symm]) (by simp [fU, hL.1, hL.2.1, hL.ne, hL.ne.symm]) (by have := hL.2.2; omega) (by have := hL.2.2; omega)) ⟨hA.1, hA.2⟩ rfl (Or.inl ⟨rfl, rfl⟩) (fun x e h1 h2 h3 => by have h4 : x ≠ L.ea := (fun z => absurd (h2 z) (by have := hL.2.2; omega)); simp [fU, h1, h4, h3])⟩
set_option maxHeartbeats 4000000 in
theorem xM_J2_remove {l : Launch} {g : fG} {A : Nat → Prop} {En : State → Prop} {zd : Nat} (hX : fX zd g A En) {f : fH} {L : xLs} (hL : xL g f L) (hA : xA A L) (i : Nat) (hi : i + 1 = L.n): fC l g A En yJ2_remove cJ2_remove 4 (some (.object "java/lang/Object")) (fR 2) [.ref L.a, .int (nI i)] f (fun v f' => v = some (va_rf (L.el i)) ∧ ∃ L', L' = mkL L.a L.ea (L.mc + 1) L.cap (L.n - 1) (va_up L.el (L.n - 1) none) ∧ xLop g A f f' L L') := by
  have hE := hX.E
  refine fC.of (by decide) hX.E [some (.ref L.a), some (.int (nI i)), none, none] rfl rfl (fun K G => ?_)
  have G : fGood l g A En RJ2 "remove" cJ2_remove 4 (some (.object "java/lang/Object")) (fR 2) _ K := G
  refine r_iload_n G dJ2_remove_0 rfl ?_
  refine r_aload_n G dJ2_remove_1 rfl ?_
  refine r_getf G xCl2 (fs := [.int L.mc, .ref L.ea, .int (nI L.n)]) hL.1 2 (by decide) q126 rfl rfl dJ2_remove_2 ?_
  refine s_callS G [.int (nI i), .int (nI L.n)] (sX_J17_checkIndex hE i L.n (by omega) (by have := hL.2.2; omega)) (lw_S q194 q195 q96 q196) fy_yJ17_checkIndex rfl ⟨Nat.le_of_ble_eq_true rfl, Nat.le_of_ble_eq_true rfl⟩ rfl (Nat.le_of_ble_eq_true rfl) rfl rfl ⟨Nat.zero_le _, Nat.zero_le _⟩ dJ2_remove_5 ?_
  show K f 0 0 8 [some (.ref L.a), some (.int (nI i)), none, none] [.int (nI i)]
  refine r_pop G dJ2_remove_8 rfl ?_
  refine r_aload_n G dJ2_remove_9 rfl ?_
  refine r_getf G xCl2 (fs := [.int L.mc, .ref L.ea, .int (nI L.n)]) hL.1 1 (by decide) q125 rfl rfl dJ2_remove_10 ?_
  refine r_astore_n G (lo' := [some (.ref L.a), some (.int (nI i)), some (.ref L.ea), none]) dJ2_remove_13 rfl rfl ?_
  refine r_aload_n G dJ2_remove_14 rfl ?_
  refine r_iload_n G dJ2_remove_15 rfl ?_
  refine r_aald G (t := 3) (n := L.cap) (fn := L.el) hL.2.1 rfl (vp_in_nI (by have := hL.2.2; omega) (by have := hL.2.2; omega)) (v := va_rf ((L.el i))) (by rw [nI_clamp (by have := hL.2.2; omega)]) dJ2_remove_16 ?_
  refine r_astore_nQ G (lo' := [some (.ref L.a), some (.int (nI i)), some (.ref L.ea), some (va_rf ((L.el i)))]) dJ2_remove_17 rfl rfl ?_
  refine r_aload_n G dJ2_remove_18 rfl ?_
  refine r_aload_n G dJ2_remove_19 rfl ?_
  refine r_iload_n G dJ2_remove_20 rfl ?_
  refine r_callV (b := L.a) G [.ref L.ea, .int (nI i)] (xM_J2_fastRemove hX hL hA i hi) (lw_V q504 q506 qs22 q73 q507) fy_yJ2_fastRemove rfl ⟨Nat.le_of_ble_eq_true rfl, Nat.le_of_ble_eq_true rfl⟩ (fs := [.int L.mc, .ref L.ea, .int (nI L.n)]) hL.1 (ci := 2) rfl rfl rfl (Nat.le_of_ble_eq_true rfl) rfl rfl ⟨Nat.zero_le _, Nat.zero_le _⟩ dJ2_remove_21 (fun v21 f21 hp21 => ?_)
  obtain ⟨rfl, L', hL', hop⟩ := hp21
  show K f21 0 0 24 [some (.ref L.a), some (.int (nI i)), some (.ref L.ea), some (va_rf ((L.el i)))] []
  refine r_aload_nQ G dJ2_remove_24 rfl ?_
  exact r_aret G rfl (Or.inl ⟨_, rfl⟩) (rf_or _) ⟨Nat.zero_le _, Nat.zero_le _⟩ dJ2_remove_25 ⟨rfl, L', hL', hop⟩
set_option maxHeartbeats 4000000 in
theorem xM_J0_init {l : Launch} {g : fG} {A : Nat → Prop} {En : State → Prop} {zd : Nat} (hX : fX zd g A En) {f : fH} {o : Nat} (hA : A o) {ea0 : Value} {n0 : Int32} {m0 : Int32} (hO : f o = some (.inr (2, [.int m0, ea0, .int n0]))): fC l g A En yJ0_init cJ0_init 1 none (fR 1) [.ref o] f (fun v f' => v = none ∧ f = f') := by
  have hE := hX.E
  refine fC.of (by decide) hX.E [some (.ref o)] rfl rfl (fun K G => ?_)
  have G : fGood l g A En RJ0 "<init>" cJ0_init 1 none (fR 1) _ K := G
  refine r_aload_n G dJ0_init_0 rfl ?_
  refine r_objInit G q122 q109 q110 ⟨Nat.le_of_ble_eq_true rfl, Nat.le_of_ble_eq_true rfl⟩ (Nat.le_of_ble_eq_true rfl) dJ0_init_1 ?_
  exact r_vret G rfl ⟨Nat.zero_le _, Nat.zero_le _⟩ dJ0_init_4 ⟨rfl, rfl⟩
set_option maxHeartbeats 4000000 in
theorem xM_J1_init {l : Launch} {g : fG} {A : Nat → Prop} {En : State → Prop} {zd : Nat} (hX : fX zd g A En) {f : fH} {o : Nat} (hA : A o) {ea0 : Value} {n0 : Int32} {m0 : Int32} (hO : f o = some (.inr (2, [.int m0, ea0, .int n0]))): fC l g A En yJ1_init cJ1_init 1 none (fR 2) [.ref o] f (fun v f' => v = none ∧ fU f o (.inr (2, [.int (nI 0), ea0, .int n0])) = f') := by
  have hE := hX.E
  refine fC.of (by decide) hX.E [some (.ref o)] rfl rfl (fun K G => ?_)
  have G : fGood l g A En RJ1 "<init>" cJ1_init 1 none (fR 2) _ K := G
  refine r_aload_n G dJ1_init_0 rfl ?_
  refine r_callI (b := o) G [] (xM_J0_init hX hA hO) q121 q71 q119 q120 rfl fy_yJ0_init rfl ⟨Nat.le_of_ble_eq_true rfl, Nat.le_of_ble_eq_true rfl⟩ rfl (Nat.le_of_ble_eq_true rfl) rfl rfl ⟨Nat.zero_le _, Nat.zero_le _⟩ dJ1_init_1 (fun v1 f1 hp1 => ?_)
  obtain ⟨rfl, rfl⟩ := hp1
  show K f 0 0 4 [some (.ref o)] []
  refine r_aload_n G dJ1_init_4 rfl ?_
  refine r_iconst G (v := nI 0) dJ1_init_5 (by decide) ?_
  refine r_putf G xCl2 (fs := [.int m0, ea0, .int n0]) hO hA 0 (by decide) q127 rfl rfl rfl rfl (Nat.le_of_ble_eq_true rfl) (f' := fU f o (.inr (2, [.int (nI 0), ea0, .int n0]))) rfl dJ1_init_6 ?_
  show K (fU f o (.inr (2, [.int (nI 0), ea0, .int n0]))) 0 0 9 [some (.ref o)] []
  exact r_vret G rfl ⟨Nat.zero_le _, Nat.zero_le _⟩ dJ1_init_9 ⟨rfl, rfl⟩
set_option maxHeartbeats 4000000 in
theorem xM_J2_init {l : Launch} {g : fG} {A : Nat → Prop} {En : State → Prop} {zd : Nat} (hX : fX zd g A En) {f : fH} {o : Nat} (hA : A o) (hO : f o = some (.inr (2, [.int (nI 0), .null, .int (nI 0)]))): fC l g A En yJ2_init cJ2_init 1 none (fR 3) [.ref o] f (fun v f' => v = none ∧ fU f o (.inr (2, [.int (nI 0), .ref zd, .int (nI 0)])) = f') := by
  have hE := hX.E
  refine fC.of (by decide) hX.E [some (.ref o)] rfl rfl (fun K G => ?_)
  have G : fGood l g A En RJ2 "<init>" cJ2_init 1 none (fR 3) _ K := G
  refine r_aload_n G dJ2_init_0 rfl ?_
  refine r_callI (b := o) G [] (xM_J1_init hX hA hO) q118 q72 q116 q117 rfl fy_yJ1_init rfl ⟨Nat.le_of_ble_eq_true rfl, Nat.le_of_ble_eq_true rfl⟩ rfl (Nat.le_of_ble_eq_true rfl) rfl rfl ⟨Nat.zero_le _, Nat.zero_le _⟩ dJ2_init_1 (fun v1 f1 hp1 => ?_)
  obtain ⟨rfl, rfl⟩ := hp1
  show K (fU f o (.inr (2, [.int (nI 0), .null, .int (nI 0)]))) 0 0 4 [some (.ref o)] []
  refine r_aload_n G dJ2_init_4 rfl ?_
  refine r_gets G hX.z q123 dJ2_init_5 ?_
  refine r_putf G xCl2 (fs := [.int (nI 0), .null, .int (nI 0)]) (by simp [fU, hO]) hA 1 (by decide) q125 rfl rfl rfl rfl (Nat.le_of_ble_eq_true rfl) (f' := fU (fU f o (.inr (2, [.int (nI 0), .null, .int (nI 0)]))) o (.inr (2, [.int (nI 0), .ref zd, .int (nI 0)]))) rfl dJ2_init_8 ?_
  show K (fU (fU f o (.inr (2, [.int (nI 0), .null, .int (nI 0)]))) o (.inr (2, [.int (nI 0), .ref zd, .int (nI 0)]))) 0 0 11 [some (.ref o)] []
  exact r_vret G rfl ⟨Nat.zero_le _, Nat.zero_le _⟩ dJ2_init_11 ⟨rfl, (fU_uu _ _ _ _).symm⟩
set_option maxHeartbeats 4000000 in
theorem xM_J2_init_2 {l : Launch} {g : fG} {A : Nat → Prop} {En : State → Prop} {zd : Nat} (hX : fX zd g A En) {f : fH} {o : Nat} (hA : A o) (hO : f o = some (.inr (2, [.int (nI 0), .null, .int (nI 0)]))): fC l g A En yJ2_init_2 cJ2_init_2 2 none (xR 3 1 8) [.ref o, .int (nI 8)] f (fun v f' => v = none ∧ ∃ q, f q = none ∧ A q ∧ q ≠ o ∧ fU (fU f q (.inl (g.2 3, rfA 8 (fun _ => none)))) o (.inr (2, [.int (nI 0), .ref q, .int (nI 0)])) = f') := by
  have hE := hX.E
  refine fC.of (by decide) hX.E [some (.ref o), some (.int (nI 8))] rfl rfl (fun K G => ?_)
  have G : fGood l g A En RJ2 "<init>" cJ2_init_2 2 none (xR 3 1 8) _ K := G
  refine r_aload_n G dJ2_init_2_0 rfl ?_
  refine r_callI (b := o) G [] (xM_J1_init hX hA hO) q118 q72 q116 q117 rfl fy_yJ1_init rfl ⟨Nat.le_of_ble_eq_true rfl, Nat.le_of_ble_eq_true rfl⟩ rfl (Nat.le_of_ble_eq_true rfl) rfl rfl ⟨Nat.zero_le _, Nat.zero_le _⟩ dJ2_init_2_1 (fun v1 f1 hp1 => ?_)
  obtain ⟨rfl, rfl⟩ := hp1
  show K (fU f o (.inr (2, [.int (nI 0), .null, .int (nI 0)]))) 0 0 4 [some (.ref o), some (.int (nI 8))] []
  refine r_iload_n G dJ2_init_2_4 rfl ?_
  refine r_if_le G 19 (n_le0 (by decide)) dJ2_init_2_5 (by decide) (fun h5 => False.elim (absurd h5 (by decide))) (fun h5 => ?_)
  refine r_aload_n G dJ2_init_2_8 rfl ?_
  refine r_iload_n G dJ2_init_2_9 rfl ?_
  refine r_newq G (t := 3) rfl q490 (hX.ao _ (Or.inr rfl)) hX.an 8 (nI_pos (by decide)) (nI_clamp (by decide)) (by decide) (cs' := 1) (ss' := 8) rfl rfl ⟨by decide, by decide⟩ dJ2_init_2_10 (fun q10 hq10 hAq10 => ?_)
  have hn1 : q10 ≠ o := fun e => by rw [e, fU_s] at hq10; cases hq10
  have hn0 : f q10 = none := by rw [fU_n _ _ hn1] at hq10; exact hq10
  show K (fU (fU f o (.inr (2, [.int (nI 0), .null, .int (nI 0)]))) q10 (.inl (g.2 3, rfA 8 (fun _ => none)))) 1 8 13 [some (.ref o), some (.int (nI 8))] [.ref q10, .ref o]
  refine r_putf G xCl2 (fs := [.int (nI 0), .null, .int (nI 0)]) (by simp [fU, hO, hn1, hn1.symm]) hA 1 (by decide) q125 rfl rfl rfl rfl (Nat.le_of_ble_eq_true rfl) (f' := fU (fU (fU f o (.inr (2, [.int (nI 0), .null, .int (nI 0)]))) q10 (.inl (g.2 3, rfA 8 (fun _ => none)))) o (.inr (2, [.int (nI 0), .ref q10, .int (nI 0)]))) rfl dJ2_init_2_13 ?_
  show K (fU (fU (fU f o (.inr (2, [.int (nI 0), .null, .int (nI 0)]))) q10 (.inl (g.2 3, rfA 8 (fun _ => none)))) o (.inr (2, [.int (nI 0), .ref q10, .int (nI 0)]))) 1 8 16 [some (.ref o), some (.int (nI 8))] []
  refine r_goto G 60 dJ2_init_2_16 (by decide) ?_
  exact r_vret G rfl ⟨by decide, by decide⟩ dJ2_init_2_60 ⟨rfl, q10, hn0, hAq10, hn1, by funext x; by_cases e : x = o <;> by_cases e2 : x = q10 <;> simp [fU, e, e2, hn1]⟩
end XX3
