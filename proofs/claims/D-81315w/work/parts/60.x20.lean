/-! the component: readings, other loads and kinds, odds -/
set_option maxRecDepth 100000
section XX20
/-- the readings: R their list, pr their objects -/
def xRd (g : fG) (f : fH) (R : xLs) (pr : Nat → Nat) (n : Nat) (ra rb rw : Nat → Nat) : Prop := xL g f R ∧ R.n ≤ 8 ∧ ∀ q, q < R.n → R.el q = some (pr q) ∧ f (pr q) = some (.inr (8, [.int (nI (ra q)), .int (nI (rb q)), .int (nI (rw q))])) ∧ ra q < n ∧ rb q < n ∧ rw q ≤ 200
theorem xRd.of {g : fG} {f f' : fH} {R : xLs} {pr : Nat → Nat} {n : Nat} {ra rb rw : Nat → Nat} (h : xRd g f R pr n ra rb rw) (hk : ∀ x e, (cE e = 2 ∨ cE e = 21 ∨ cE e = 8) → f x = some e → f' x = some e) : xRd g f' R pr n ra rb rw := by
  obtain ⟨⟨l1, l2, l3, l4⟩, h8, ha⟩ := h
  refine ⟨⟨hk _ _ (Or.inl rfl) l1, hk _ _ (Or.inr (Or.inl rfl)) l2, l3, l4⟩, h8, fun q hq => ?_⟩
  obtain ⟨a1, a2, a3⟩ := ha q hq
  exact ⟨a1, hk _ _ (Or.inr (Or.inr rfl)) a2, a3⟩
theorem np_rd {c : Nat} (h : c = 2 ∨ c = 21 ∨ c = 8) : nPost c = true := by
  rcases h with rfl | rfl | rfl <;> rfl
theorem xRd.kp {g : fG} {f f' : fH} {R : xLs} {pr : Nat → Nat} {n : Nat} {ra rb rw : Nat → Nat} (h : xRd g f R pr n ra rb rw) (hk : kp (fun _ e => nPost (cE e) = true) f f') : xRd g f' R pr n ra rb rw := h.of fun x e q he => hk x e (np_rd q) he
theorem fup_fup (f : Nat → Nat) (p a b : Nat) : fup (fup f p a) p b = fup f p b := by
  funext q
  unfold fup
  split <;> rfl
set_option maxHeartbeats 4000000 in
theorem xM_X5_init_0 {l : Launch} {g : fG} {A : Nat → Prop} {En : State → Prop} {zd : Nat} (hX : fX zd g A En) {f : fH} {a o : Nat} (hA : A a) (hO : f a = some (.inr (3, [.int (nI 0), .int (nI 0), .int (nI 0), .int (nI 0), .null]))) (v0 t0 : Nat): fC l g A En yX5_init cX5_init 4 none (fR 1) [.ref a, .ref o, .int (nI v0), .int (nI t0)] f (fun v f' => v = none ∧ fU f a (.inr (3, [.int (nI v0), .int (nI t0), .int (nI 0), .int (nI 0), .ref o])) = f') := by
  have hE := hX.E
  refine fC.of (by decide) hX.E [some (.ref a), some (.ref o), some (.int (nI v0)), some (.int (nI t0))] rfl rfl (fun K G => ?_)
  have G : fGood l g A En RX5 "<init>" cX5_init 4 none (fR 1) _ K := G
  refine r_aload_n G dX5_init_0 rfl ?_
  refine r_aload_n G dX5_init_1 rfl ?_
  refine r_putfF G xCl3 (fs := [.int (nI 0), .int (nI 0), .int (nI 0), .int (nI 0), .null]) hO hA 4 (by decide) q541 rfl rfl rfl rfl rfl rfl (Nat.le_of_ble_eq_true rfl) (f' := fU f a (.inr (3, [.int (nI 0), .int (nI 0), .int (nI 0), .int (nI 0), .ref o]))) rfl dX5_init_2 ?_
  show K (fU f a (.inr (3, [.int (nI 0), .int (nI 0), .int (nI 0), .int (nI 0), .ref o]))) 0 0 5 [some (.ref a), some (.ref o), some (.int (nI v0)), some (.int (nI t0))] []
  refine r_aload_n G dX5_init_5 rfl ?_
  refine r_objInit G q529 q109 q110 ⟨Nat.le_of_ble_eq_true rfl, Nat.le_of_ble_eq_true rfl⟩ (Nat.le_of_ble_eq_true rfl) dX5_init_6 ?_
  refine r_aload_n G dX5_init_9 rfl ?_
  refine r_iload_n G dX5_init_10 rfl ?_
  refine r_putf G xCl3 (fs := [.int (nI 0), .int (nI 0), .int (nI 0), .int (nI 0), .ref o]) (by simp [fU, hO]) hA 0 (by decide) q530 rfl rfl rfl rfl (Nat.le_of_ble_eq_true rfl) (f' := fU f a (.inr (3, [.int (nI v0), .int (nI 0), .int (nI 0), .int (nI 0), .ref o]))) (fU_uu _ _ _ _) dX5_init_11 ?_
  show K (fU f a (.inr (3, [.int (nI v0), .int (nI 0), .int (nI 0), .int (nI 0), .ref o]))) 0 0 14 [some (.ref a), some (.ref o), some (.int (nI v0)), some (.int (nI t0))] []
  refine r_aload_n G dX5_init_14 rfl ?_
  refine r_iload_n G dX5_init_15 rfl ?_
  refine r_putf G xCl3 (fs := [.int (nI v0), .int (nI 0), .int (nI 0), .int (nI 0), .ref o]) (by simp [fU, hO]) hA 1 (by decide) q537 rfl rfl rfl rfl (Nat.le_of_ble_eq_true rfl) (f' := fU f a (.inr (3, [.int (nI v0), .int (nI t0), .int (nI 0), .int (nI 0), .ref o]))) (fU_uu _ _ _ _) dX5_init_16 ?_
  show K (fU f a (.inr (3, [.int (nI v0), .int (nI t0), .int (nI 0), .int (nI 0), .ref o]))) 0 0 19 [some (.ref a), some (.ref o), some (.int (nI v0)), some (.int (nI t0))] []
  exact r_vret G rfl ⟨Nat.zero_le _, Nat.zero_le _⟩ dX5_init_19 ⟨rfl, by first | rfl | exact (fU_uu _ _ _ _).symm | simp only [fU_uu]⟩
set_option maxHeartbeats 4000000 in
theorem xM_X5_init_1 {l : Launch} {g : fG} {A : Nat → Prop} {En : State → Prop} {zd : Nat} (hX : fX zd g A En) {f : fH} {a o : Nat} (hA : A a) (hO : f a = some (.inr (4, [.int (nI 0), .int (nI 0), .int (nI 0), .int (nI 0), .null, .ref o]))) (v0 t0 : Nat): fC l g A En yX5_init cX5_init 4 none (fR 1) [.ref a, .ref o, .int (nI v0), .int (nI t0)] f (fun v f' => v = none ∧ fU f a (.inr (4, [.int (nI v0), .int (nI t0), .int (nI 0), .int (nI 0), .ref o, .ref o])) = f') := by
  have hE := hX.E
  refine fC.of (by decide) hX.E [some (.ref a), some (.ref o), some (.int (nI v0)), some (.int (nI t0))] rfl rfl (fun K G => ?_)
  have G : fGood l g A En RX5 "<init>" cX5_init 4 none (fR 1) _ K := G
  refine r_aload_n G dX5_init_0 rfl ?_
  refine r_aload_n G dX5_init_1 rfl ?_
  refine r_putfF G xCl4 (fs := [.int (nI 0), .int (nI 0), .int (nI 0), .int (nI 0), .null, .ref o]) hO hA 4 (by decide) q541 rfl rfl rfl rfl rfl rfl (Nat.le_of_ble_eq_true rfl) (f' := fU f a (.inr (4, [.int (nI 0), .int (nI 0), .int (nI 0), .int (nI 0), .ref o, .ref o]))) rfl dX5_init_2 ?_
  show K (fU f a (.inr (4, [.int (nI 0), .int (nI 0), .int (nI 0), .int (nI 0), .ref o, .ref o]))) 0 0 5 [some (.ref a), some (.ref o), some (.int (nI v0)), some (.int (nI t0))] []
  refine r_aload_n G dX5_init_5 rfl ?_
  refine r_objInit G q529 q109 q110 ⟨Nat.le_of_ble_eq_true rfl, Nat.le_of_ble_eq_true rfl⟩ (Nat.le_of_ble_eq_true rfl) dX5_init_6 ?_
  refine r_aload_n G dX5_init_9 rfl ?_
  refine r_iload_n G dX5_init_10 rfl ?_
  refine r_putf G xCl4 (fs := [.int (nI 0), .int (nI 0), .int (nI 0), .int (nI 0), .ref o, .ref o]) (by simp [fU, hO]) hA 0 (by decide) q530 rfl rfl rfl rfl (Nat.le_of_ble_eq_true rfl) (f' := fU f a (.inr (4, [.int (nI v0), .int (nI 0), .int (nI 0), .int (nI 0), .ref o, .ref o]))) (fU_uu _ _ _ _) dX5_init_11 ?_
  show K (fU f a (.inr (4, [.int (nI v0), .int (nI 0), .int (nI 0), .int (nI 0), .ref o, .ref o]))) 0 0 14 [some (.ref a), some (.ref o), some (.int (nI v0)), some (.int (nI t0))] []
  refine r_aload_n G dX5_init_14 rfl ?_
  refine r_iload_n G dX5_init_15 rfl ?_
  refine r_putf G xCl4 (fs := [.int (nI v0), .int (nI 0), .int (nI 0), .int (nI 0), .ref o, .ref o]) (by simp [fU, hO]) hA 1 (by decide) q537 rfl rfl rfl rfl (Nat.le_of_ble_eq_true rfl) (f' := fU f a (.inr (4, [.int (nI v0), .int (nI t0), .int (nI 0), .int (nI 0), .ref o, .ref o]))) (fU_uu _ _ _ _) dX5_init_16 ?_
  show K (fU f a (.inr (4, [.int (nI v0), .int (nI t0), .int (nI 0), .int (nI 0), .ref o, .ref o]))) 0 0 19 [some (.ref a), some (.ref o), some (.int (nI v0)), some (.int (nI t0))] []
  exact r_vret G rfl ⟨Nat.zero_le _, Nat.zero_le _⟩ dX5_init_19 ⟨rfl, by first | rfl | exact (fU_uu _ _ _ _).symm | simp only [fU_uu]⟩
set_option maxHeartbeats 4000000 in
theorem xM_X5_init_2 {l : Launch} {g : fG} {A : Nat → Prop} {En : State → Prop} {zd : Nat} (hX : fX zd g A En) {f : fH} {a o : Nat} (hA : A a) (hO : f a = some (.inr (5, [.int (nI 0), .int (nI 0), .int (nI 0), .int (nI 0), .null, .ref o, .ref o]))) (v0 t0 : Nat): fC l g A En yX5_init cX5_init 4 none (fR 1) [.ref a, .ref o, .int (nI v0), .int (nI t0)] f (fun v f' => v = none ∧ fU f a (.inr (5, [.int (nI v0), .int (nI t0), .int (nI 0), .int (nI 0), .ref o, .ref o, .ref o])) = f') := by
  have hE := hX.E
  refine fC.of (by decide) hX.E [some (.ref a), some (.ref o), some (.int (nI v0)), some (.int (nI t0))] rfl rfl (fun K G => ?_)
  have G : fGood l g A En RX5 "<init>" cX5_init 4 none (fR 1) _ K := G
  refine r_aload_n G dX5_init_0 rfl ?_
  refine r_aload_n G dX5_init_1 rfl ?_
  refine r_putfF G xCl5 (fs := [.int (nI 0), .int (nI 0), .int (nI 0), .int (nI 0), .null, .ref o, .ref o]) hO hA 4 (by decide) q541 rfl rfl rfl rfl rfl rfl (Nat.le_of_ble_eq_true rfl) (f' := fU f a (.inr (5, [.int (nI 0), .int (nI 0), .int (nI 0), .int (nI 0), .ref o, .ref o, .ref o]))) rfl dX5_init_2 ?_
  show K (fU f a (.inr (5, [.int (nI 0), .int (nI 0), .int (nI 0), .int (nI 0), .ref o, .ref o, .ref o]))) 0 0 5 [some (.ref a), some (.ref o), some (.int (nI v0)), some (.int (nI t0))] []
  refine r_aload_n G dX5_init_5 rfl ?_
  refine r_objInit G q529 q109 q110 ⟨Nat.le_of_ble_eq_true rfl, Nat.le_of_ble_eq_true rfl⟩ (Nat.le_of_ble_eq_true rfl) dX5_init_6 ?_
  refine r_aload_n G dX5_init_9 rfl ?_
  refine r_iload_n G dX5_init_10 rfl ?_
  refine r_putf G xCl5 (fs := [.int (nI 0), .int (nI 0), .int (nI 0), .int (nI 0), .ref o, .ref o, .ref o]) (by simp [fU, hO]) hA 0 (by decide) q530 rfl rfl rfl rfl (Nat.le_of_ble_eq_true rfl) (f' := fU f a (.inr (5, [.int (nI v0), .int (nI 0), .int (nI 0), .int (nI 0), .ref o, .ref o, .ref o]))) (fU_uu _ _ _ _) dX5_init_11 ?_
  show K (fU f a (.inr (5, [.int (nI v0), .int (nI 0), .int (nI 0), .int (nI 0), .ref o, .ref o, .ref o]))) 0 0 14 [some (.ref a), some (.ref o), some (.int (nI v0)), some (.int (nI t0))] []
  refine r_aload_n G dX5_init_14 rfl ?_
  refine r_iload_n G dX5_init_15 rfl ?_
  refine r_putf G xCl5 (fs := [.int (nI v0), .int (nI 0), .int (nI 0), .int (nI 0), .ref o, .ref o, .ref o]) (by simp [fU, hO]) hA 1 (by decide) q537 rfl rfl rfl rfl (Nat.le_of_ble_eq_true rfl) (f' := fU f a (.inr (5, [.int (nI v0), .int (nI t0), .int (nI 0), .int (nI 0), .ref o, .ref o, .ref o]))) (fU_uu _ _ _ _) dX5_init_16 ?_
  show K (fU f a (.inr (5, [.int (nI v0), .int (nI t0), .int (nI 0), .int (nI 0), .ref o, .ref o, .ref o]))) 0 0 19 [some (.ref a), some (.ref o), some (.int (nI v0)), some (.int (nI t0))] []
  exact r_vret G rfl ⟨Nat.zero_le _, Nat.zero_le _⟩ dX5_init_19 ⟨rfl, by first | rfl | exact (fU_uu _ _ _ _).symm | simp only [fU_uu]⟩
set_option maxHeartbeats 4000000 in
theorem xM_X6_init_1 {l : Launch} {g : fG} {A : Nat → Prop} {En : State → Prop} {zd : Nat} (hX : fX zd g A En) {f : fH} {a o : Nat} (hA : A a) (hO : f a = some (.inr (4, [.int (nI 0), .int (nI 0), .int (nI 0), .int (nI 0), .null, .null]))) (v0 t0 : Nat): fC l g A En yX6_init cX6_init 4 none (fR 2) [.ref a, .ref o, .int (nI v0), .int (nI t0)] f (fun v f' => v = none ∧ fU f a (.inr (4, [.int (nI v0), .int (nI t0), .int (nI 0), .int (nI 0), .ref o, .ref o])) = f') := by
  have hE := hX.E
  refine fC.of (by decide) hX.E [some (.ref a), some (.ref o), some (.int (nI v0)), some (.int (nI t0))] rfl rfl (fun K G => ?_)
  have G : fGood l g A En RX6 "<init>" cX6_init 4 none (fR 2) _ K := G
  refine r_aload_n G dX6_init_0 rfl ?_
  refine r_aload_n G dX6_init_1 rfl ?_
  refine r_putfF G xCl4 (fs := [.int (nI 0), .int (nI 0), .int (nI 0), .int (nI 0), .null, .null]) hO hA 5 (by decide) q559 rfl rfl rfl rfl rfl rfl (Nat.le_of_ble_eq_true rfl) (f' := fU f a (.inr (4, [.int (nI 0), .int (nI 0), .int (nI 0), .int (nI 0), .null, .ref o]))) rfl dX6_init_2 ?_
  show K (fU f a (.inr (4, [.int (nI 0), .int (nI 0), .int (nI 0), .int (nI 0), .null, .ref o]))) 0 0 5 [some (.ref a), some (.ref o), some (.int (nI v0)), some (.int (nI t0))] []
  refine r_aload_n G dX6_init_5 rfl ?_
  refine r_aload_n G dX6_init_6 rfl ?_
  refine r_iload_n G dX6_init_7 rfl ?_
  refine r_iload_n G dX6_init_8 rfl ?_
  refine r_callI (b := a) G [.ref o, .int (nI v0), .int (nI t0)] (xM_X5_init_1 hX hA (fU_s _ _ _) v0 t0) q528 q90 q558 q527 rfl fy_yX5_init rfl ⟨Nat.le_of_ble_eq_true rfl, Nat.le_of_ble_eq_true rfl⟩ rfl (Nat.le_of_ble_eq_true rfl) rfl rfl ⟨Nat.zero_le _, Nat.zero_le _⟩ dX6_init_9 (fun v9 f9 hp9 => ?_)
  obtain ⟨rfl, rfl⟩ := hp9
  rw [fU_uu]
  show K (fU f a (.inr (4, [.int (nI v0), .int (nI t0), .int (nI 0), .int (nI 0), .ref o, .ref o]))) 0 0 12 [some (.ref a), some (.ref o), some (.int (nI v0)), some (.int (nI t0))] []
  exact r_vret G rfl ⟨Nat.zero_le _, Nat.zero_le _⟩ dX6_init_12 ⟨rfl, by first | rfl | exact (fU_uu _ _ _ _).symm | simp only [fU_uu]⟩
set_option maxHeartbeats 4000000 in
theorem xM_X6_init_2 {l : Launch} {g : fG} {A : Nat → Prop} {En : State → Prop} {zd : Nat} (hX : fX zd g A En) {f : fH} {a o : Nat} (hA : A a) (hO : f a = some (.inr (5, [.int (nI 0), .int (nI 0), .int (nI 0), .int (nI 0), .null, .null, .ref o]))) (v0 t0 : Nat): fC l g A En yX6_init cX6_init 4 none (fR 2) [.ref a, .ref o, .int (nI v0), .int (nI t0)] f (fun v f' => v = none ∧ fU f a (.inr (5, [.int (nI v0), .int (nI t0), .int (nI 0), .int (nI 0), .ref o, .ref o, .ref o])) = f') := by
  have hE := hX.E
  refine fC.of (by decide) hX.E [some (.ref a), some (.ref o), some (.int (nI v0)), some (.int (nI t0))] rfl rfl (fun K G => ?_)
  have G : fGood l g A En RX6 "<init>" cX6_init 4 none (fR 2) _ K := G
  refine r_aload_n G dX6_init_0 rfl ?_
  refine r_aload_n G dX6_init_1 rfl ?_
  refine r_putfF G xCl5 (fs := [.int (nI 0), .int (nI 0), .int (nI 0), .int (nI 0), .null, .null, .ref o]) hO hA 5 (by decide) q559 rfl rfl rfl rfl rfl rfl (Nat.le_of_ble_eq_true rfl) (f' := fU f a (.inr (5, [.int (nI 0), .int (nI 0), .int (nI 0), .int (nI 0), .null, .ref o, .ref o]))) rfl dX6_init_2 ?_
  show K (fU f a (.inr (5, [.int (nI 0), .int (nI 0), .int (nI 0), .int (nI 0), .null, .ref o, .ref o]))) 0 0 5 [some (.ref a), some (.ref o), some (.int (nI v0)), some (.int (nI t0))] []
  refine r_aload_n G dX6_init_5 rfl ?_
  refine r_aload_n G dX6_init_6 rfl ?_
  refine r_iload_n G dX6_init_7 rfl ?_
  refine r_iload_n G dX6_init_8 rfl ?_
  refine r_callI (b := a) G [.ref o, .int (nI v0), .int (nI t0)] (xM_X5_init_2 hX hA (fU_s _ _ _) v0 t0) q528 q90 q558 q527 rfl fy_yX5_init rfl ⟨Nat.le_of_ble_eq_true rfl, Nat.le_of_ble_eq_true rfl⟩ rfl (Nat.le_of_ble_eq_true rfl) rfl rfl ⟨Nat.zero_le _, Nat.zero_le _⟩ dX6_init_9 (fun v9 f9 hp9 => ?_)
  obtain ⟨rfl, rfl⟩ := hp9
  rw [fU_uu]
  show K (fU f a (.inr (5, [.int (nI v0), .int (nI t0), .int (nI 0), .int (nI 0), .ref o, .ref o, .ref o]))) 0 0 12 [some (.ref a), some (.ref o), some (.int (nI v0)), some (.int (nI t0))] []
  exact r_vret G rfl ⟨Nat.zero_le _, Nat.zero_le _⟩ dX6_init_12 ⟨rfl, by first | rfl | exact (fU_uu _ _ _ _).symm | simp only [fU_uu]⟩
set_option maxHeartbeats 4000000 in
theorem xM_X7_init_2 {l : Launch} {g : fG} {A : Nat → Prop} {En : State → Prop} {zd : Nat} (hX : fX zd g A En) {f : fH} {a o : Nat} (hA : A a) (hO : f a = some (.inr (5, [.int (nI 0), .int (nI 0), .int (nI 0), .int (nI 0), .null, .null, .null]))) (v0 t0 : Nat): fC l g A En yX7_init cX7_init 4 none (fR 3) [.ref a, .ref o, .int (nI v0), .int (nI t0)] f (fun v f' => v = none ∧ fU f a (.inr (5, [.int (nI v0), .int (nI t0), .int (nI 0), .int (nI 0), .ref o, .ref o, .ref o])) = f') := by
  have hE := hX.E
  refine fC.of (by decide) hX.E [some (.ref a), some (.ref o), some (.int (nI v0)), some (.int (nI t0))] rfl rfl (fun K G => ?_)
  have G : fGood l g A En RX7 "<init>" cX7_init 4 none (fR 3) _ K := G
  refine r_aload_n G dX7_init_0 rfl ?_
  refine r_aload_n G dX7_init_1 rfl ?_
  refine r_putfF G xCl5 (fs := [.int (nI 0), .int (nI 0), .int (nI 0), .int (nI 0), .null, .null, .null]) hO hA 6 (by decide) q573 rfl rfl rfl rfl rfl rfl (Nat.le_of_ble_eq_true rfl) (f' := fU f a (.inr (5, [.int (nI 0), .int (nI 0), .int (nI 0), .int (nI 0), .null, .null, .ref o]))) rfl dX7_init_2 ?_
  show K (fU f a (.inr (5, [.int (nI 0), .int (nI 0), .int (nI 0), .int (nI 0), .null, .null, .ref o]))) 0 0 5 [some (.ref a), some (.ref o), some (.int (nI v0)), some (.int (nI t0))] []
  refine r_aload_n G dX7_init_5 rfl ?_
  refine r_aload_n G dX7_init_6 rfl ?_
  refine r_iload_n G dX7_init_7 rfl ?_
  refine r_iload_n G dX7_init_8 rfl ?_
  refine r_callI (b := a) G [.ref o, .int (nI v0), .int (nI t0)] (xM_X6_init_2 hX hA (fU_s _ _ _) v0 t0) q557 q91 q572 q556 rfl fy_yX6_init rfl ⟨Nat.le_of_ble_eq_true rfl, Nat.le_of_ble_eq_true rfl⟩ rfl (Nat.le_of_ble_eq_true rfl) rfl rfl ⟨Nat.zero_le _, Nat.zero_le _⟩ dX7_init_9 (fun v9 f9 hp9 => ?_)
  obtain ⟨rfl, rfl⟩ := hp9
  rw [fU_uu]
  show K (fU f a (.inr (5, [.int (nI v0), .int (nI t0), .int (nI 0), .int (nI 0), .ref o, .ref o, .ref o]))) 0 0 12 [some (.ref a), some (.ref o), some (.int (nI v0)), some (.int (nI t0))] []
  exact r_vret G rfl ⟨Nat.zero_le _, Nat.zero_le _⟩ dX7_init_12 ⟨rfl, by first | rfl | exact (fU_uu _ _ _ _).symm | simp only [fU_uu]⟩
set_option maxHeartbeats 4000000 in
theorem xM_X0_madeOf {l : Launch} {g : fG} {A : Nat → Prop} {En : State → Prop} {zd : Nat} (hX : fX zd g A En) {f : fH} {o : Nat} (k v0 t0 : Nat) (hk : k ≤ 2): fC l g A En yX0_madeOf cX0_madeOf 4 (some (.object "VineRows$Plain")) (xR 4 1 7) [.ref o, .int (nI k), .int (nI v0), .int (nI t0)] f (fun v f' => ∃ q, v = some (.ref q) ∧ f q = none ∧ A q ∧ f' = fU f q (.inr (3 + k, pO k o v0 t0 (nI 0) (nI 0)))) := by
  have hE := hX.E
  refine fC.of (by decide) hX.E [some (.ref o), some (.int (nI k)), some (.int (nI v0)), some (.int (nI t0))] rfl rfl (fun K G => ?_)
  have G : fGood l g A En RX0 "madeOf" cX0_madeOf 4 (some (.object "VineRows$Plain")) (xR 4 1 7) _ K := G
  refine r_iload_n G dX0_madeOf_0 rfl ?_
  refine r_if_ne G 17 (n_eq0 (by omega)) dX0_madeOf_1 (by decide) (fun h1 => ?_) (fun h1 => ?_)
  · refine r_iload_n G dX0_madeOf_17 rfl ?_
    refine r_iconst G (v := nI 1) dX0_madeOf_18 (by decide) ?_
    refine r_icmp_ne G 35 (nI_eq (by omega) (by decide)) dX0_madeOf_19 (by decide) (fun h19 => ?_) (fun h19 => ?_)
    · refine r_new G xCl5 q567 q568 q92 hX.an [.int (nI 0), .int (nI 0), .int (nI 0), .int (nI 0), .null, .null, .null] (fun j hj => by have hj2 : j = 0 ∨ j = 1 ∨ j = 2 ∨ j = 3 ∨ j = 4 ∨ j = 5 ∨ j = 6 := (by omega); rcases hj2 with rfl | rfl | rfl | rfl | rfl | rfl | rfl <;> rfl) (cs' := 1) (ss' := 7) rfl rfl ⟨by decide, by decide⟩ dX0_madeOf_35 (fun q35 hq35 hAq35 => ?_)
      show K (fU f q35 (.inr (5, [.int (nI 0), .int (nI 0), .int (nI 0), .int (nI 0), .null, .null, .null]))) 1 7 38 [some (.ref o), some (.int (nI k)), some (.int (nI v0)), some (.int (nI t0))] [.ref q35]
      refine r_dup G dX0_madeOf_38 rfl ?_
      refine r_aload_n G dX0_madeOf_39 rfl ?_
      refine r_iload_n G dX0_madeOf_40 rfl ?_
      refine r_iload_n G dX0_madeOf_41 rfl ?_
      refine r_callI (b := q35) G [.ref o, .int (nI v0), .int (nI t0)] (xM_X7_init_2 hX hAq35 (fU_s _ _ _) v0 t0) q571 q92 q569 q570 rfl fy_yX7_init rfl ⟨Nat.le_of_ble_eq_true rfl, Nat.le_of_ble_eq_true rfl⟩ rfl (Nat.le_of_ble_eq_true rfl) rfl rfl ⟨by decide, by decide⟩ dX0_madeOf_42 (fun v42 f42 hp42 => ?_)
      obtain ⟨rfl, rfl⟩ := hp42
      rw [fU_uu]
      show K (fU f q35 (.inr (5, [.int (nI v0), .int (nI t0), .int (nI 0), .int (nI 0), .ref o, .ref o, .ref o]))) 1 7 45 [some (.ref o), some (.int (nI k)), some (.int (nI v0)), some (.int (nI t0))] [.ref q35]
      obtain rfl : k = 2 := by omega
      exact r_aret G rfl (Or.inl ⟨_, rfl⟩) (Or.inr ⟨_, rfl⟩) ⟨by decide, by decide⟩ dX0_madeOf_45 ⟨q35, rfl, hq35, hAq35, rfl⟩
    · refine r_new G xCl4 q553 q554 q91 hX.an [.int (nI 0), .int (nI 0), .int (nI 0), .int (nI 0), .null, .null] (fun j hj => by have hj2 : j = 0 ∨ j = 1 ∨ j = 2 ∨ j = 3 ∨ j = 4 ∨ j = 5 := (by omega); rcases hj2 with rfl | rfl | rfl | rfl | rfl | rfl <;> rfl) (cs' := 1) (ss' := 6) rfl rfl ⟨by decide, by decide⟩ dX0_madeOf_22 (fun q22 hq22 hAq22 => ?_)
      show K (fU f q22 (.inr (4, [.int (nI 0), .int (nI 0), .int (nI 0), .int (nI 0), .null, .null]))) 1 6 25 [some (.ref o), some (.int (nI k)), some (.int (nI v0)), some (.int (nI t0))] [.ref q22]
      refine r_dup G dX0_madeOf_25 rfl ?_
      refine r_aload_n G dX0_madeOf_26 rfl ?_
      refine r_iload_n G dX0_madeOf_27 rfl ?_
      refine r_iload_n G dX0_madeOf_28 rfl ?_
      refine r_callI (b := q22) G [.ref o, .int (nI v0), .int (nI t0)] (xM_X6_init_1 hX hAq22 (fU_s _ _ _) v0 t0) q557 q91 q555 q556 rfl fy_yX6_init rfl ⟨Nat.le_of_ble_eq_true rfl, Nat.le_of_ble_eq_true rfl⟩ rfl (Nat.le_of_ble_eq_true rfl) rfl rfl ⟨by decide, by decide⟩ dX0_madeOf_29 (fun v29 f29 hp29 => ?_)
      obtain ⟨rfl, rfl⟩ := hp29
      rw [fU_uu]
      show K (fU f q22 (.inr (4, [.int (nI v0), .int (nI t0), .int (nI 0), .int (nI 0), .ref o, .ref o]))) 1 6 32 [some (.ref o), some (.int (nI k)), some (.int (nI v0)), some (.int (nI t0))] [.ref q22]
      refine r_goto G 45 dX0_madeOf_32 (by decide) ?_
      obtain rfl : k = 1 := by omega
      exact r_aret G rfl (Or.inl ⟨_, rfl⟩) (Or.inr ⟨_, rfl⟩) ⟨by decide, by decide⟩ dX0_madeOf_45 ⟨q22, rfl, hq22, hAq22, rfl⟩
  · refine r_new G xCl3 q204 q525 q90 hX.an [.int (nI 0), .int (nI 0), .int (nI 0), .int (nI 0), .null] (fun j hj => by have hj2 : j = 0 ∨ j = 1 ∨ j = 2 ∨ j = 3 ∨ j = 4 := (by omega); rcases hj2 with rfl | rfl | rfl | rfl | rfl <;> rfl) (cs' := 1) (ss' := 5) rfl rfl ⟨by decide, by decide⟩ dX0_madeOf_4 (fun q4 hq4 hAq4 => ?_)
    show K (fU f q4 (.inr (3, [.int (nI 0), .int (nI 0), .int (nI 0), .int (nI 0), .null]))) 1 5 7 [some (.ref o), some (.int (nI k)), some (.int (nI v0)), some (.int (nI t0))] [.ref q4]
    refine r_dup G dX0_madeOf_7 rfl ?_
    refine r_aload_n G dX0_madeOf_8 rfl ?_
    refine r_iload_n G dX0_madeOf_9 rfl ?_
    refine r_iload_n G dX0_madeOf_10 rfl ?_
    refine r_callI (b := q4) G [.ref o, .int (nI v0), .int (nI t0)] (xM_X5_init_0 hX hAq4 (fU_s _ _ _) v0 t0) q528 q90 q526 q527 rfl fy_yX5_init rfl ⟨Nat.le_of_ble_eq_true rfl, Nat.le_of_ble_eq_true rfl⟩ rfl (Nat.le_of_ble_eq_true rfl) rfl rfl ⟨by decide, by decide⟩ dX0_madeOf_11 (fun v11 f11 hp11 => ?_)
    obtain ⟨rfl, rfl⟩ := hp11
    rw [fU_uu]
    show K (fU f q4 (.inr (3, [.int (nI v0), .int (nI t0), .int (nI 0), .int (nI 0), .ref o]))) 1 5 14 [some (.ref o), some (.int (nI k)), some (.int (nI v0)), some (.int (nI t0))] [.ref q4]
    refine r_goto G 45 dX0_madeOf_14 (by decide) ?_
    obtain rfl : k = 0 := by omega
    exact r_aret G rfl (Or.inl ⟨_, rfl⟩) (Or.inr ⟨_, rfl⟩) ⟨by decide, by decide⟩ dX0_madeOf_45 ⟨q4, rfl, hq4, hAq4, rfl⟩
set_option maxHeartbeats 4000000 in
theorem xM_X0_areSo {l : Launch} {g : fG} {A : Nat → Prop} {En : State → Prop} {zd : Nat} (hX : fX zd g A En) {f : fH} {o : Nat} {tr gr fa : Int32} {rn sh : Nat} {L R : xLs} {pa kd ld tw : Nat → Nat} {lk tk : Nat → Int32} (hO : f o = some (.inr (1, xF tr gr L.a rn R.a fa sh))) (hP : xP g f o L pa kd ld tw lk tk) {pr ra rb rw : Nat → Nat} (hRd : xRd g f R pr L.n ra rb rw) {d : Nat → Nat → Nat} (T : TM L.n tw d): fC l g A En yX0_areSo cX0_areSo 4 (some .boolean) (fR 13) [.ref o] f (fun v f' => f' = f ∧ v = some (.int (bI (sso L.n kd ld d R.n ra rb rw)))) := by
  have hE := hX.E
  refine fC.of (by decide) hX.E [some (.ref o), none, none, none] rfl rfl (fun K G => ?_)
  have G : fGood l g A En RX0 "areSo" cX0_areSo 4 (some .boolean) (fR 13) _ K := G
  have hn8 := hP.2.1
  have hr8 := hRd.2.1
  refine r_iconst G (v := nI 1) dX0_areSo_0 (by decide) ?_
  refine r_istore_n G (lo' := [some (.ref o), some (.int (nI 1)), none, none]) dX0_areSo_1 rfl rfl ?_
  refine r_iconst G (v := nI 0) dX0_areSo_2 (by decide) ?_
  refine r_istore_n G (lo' := [some (.ref o), some (.int (nI 1)), some (.int (nI 0)), none]) dX0_areSo_3 rfl rfl ?_
  have L4 : ∀ (fu : Nat) (x : Nat) (mb : Bool), (x ≤ R.n) → (mb = allN x (fun q => decide (ws L.n kd ld (wy L.n d (ra q) (rb q)) = rw q))) → R.n - x < fu → K f 0 0 4 [some (.ref o), some (.int (bI mb)), some (.int (nI x)), none] [] := by
    intro fu
    induction fu with
    | zero => intro x mb hx hmb hm4; exact absurd hm4 (Nat.not_lt_zero _)
    | succ fu4 ih4 =>
      intro x mb hx hmb hm4
      refine r_iload_n G dX0_areSo_4 rfl ?_
      refine r_aload_n G dX0_areSo_5 rfl ?_
      refine r_getf G xCl1 (fs := [.int tr, .int gr, .ref L.a, .ref rn, .ref R.a, .int fa, .ref sh]) hO 4 (by decide) q144 rfl rfl dX0_areSo_6 ?_
      refine s_callF (b := R.a) G [] (xM_J2_size hX hRd.1) (lw_F q173 q177 q179 q73 q181) (hX.fw 0 _ rfl) fx_0 rfl ⟨Nat.le_of_ble_eq_true rfl, Nat.le_of_ble_eq_true rfl⟩ (fs := [.int R.mc, .ref R.ea, .int (nI R.n)]) hRd.1.1 (ci := 2) rfl rfl (Nat.le_of_ble_eq_true rfl) rfl rfl ⟨Nat.zero_le _, Nat.zero_le _⟩ dX0_areSo_9 ?_
      show K f 0 0 14 [some (.ref o), some (.int (bI mb)), some (.int (nI x)), none] [.int (nI R.n), .int (nI x)]
      refine r_icmp_ge G 68 (nI_leI (by omega) (by omega)) dX0_areSo_14 (by decide) (fun h14 => ?_) (fun h14 => ?_)
      · refine r_iload_n G dX0_areSo_68 rfl ?_
        exact r_zret G rfl bI_nar ⟨Nat.zero_le _, Nat.zero_le _⟩ dX0_areSo_69 ⟨rfl, rBB (by rw [hmb, show x = R.n by omega]; rfl)⟩
      · obtain ⟨-, -, hra, hrb, hrw⟩ := hRd.2.2 x (by omega)
        refine r_aload_n G dX0_areSo_17 rfl ?_
        refine r_getf G xCl1 (fs := [.int tr, .int gr, .ref L.a, .ref rn, .ref R.a, .int fa, .ref sh]) hO 4 (by decide) q144 rfl rfl dX0_areSo_18 ?_
        refine r_iload_n G dX0_areSo_21 rfl ?_
        refine s_callF (b := R.a) G [.int (nI x)] (xM_J2_get hX hRd.1 x (by omega)) (lw_F q186 q189 q191 q73 q193) (hX.fw 1 _ rfl) fx_1 rfl ⟨Nat.le_of_ble_eq_true rfl, Nat.le_of_ble_eq_true rfl⟩ (fs := [.int R.mc, .ref R.ea, .int (nI R.n)]) hRd.1.1 (ci := 2) rfl rfl (Nat.le_of_ble_eq_true rfl) rfl rfl ⟨Nat.zero_le _, Nat.zero_le _⟩ dX0_areSo_22 ?_
        show K f 0 0 27 [some (.ref o), some (.int (bI mb)), some (.int (nI x)), none] [va_rf ((R.el x))]
        rw [show va_rf (R.el x) = .ref (pr x) from by rw [(hRd.2.2 x (by omega)).1]; rfl]
        refine r_cast G (hRd.2.2 x (by omega)).2.1 (r := (RX9, TX9, 3)) rfl (Or.inl rfl) q406 dX0_areSo_27 ?_
        refine r_astore_n G (lo' := [some (.ref o), some (.int (bI mb)), some (.int (nI x)), some (.ref (pr x))]) dX0_areSo_30 rfl rfl ?_
        refine r_iload_n G dX0_areSo_31 rfl ?_
        refine r_aload_n G dX0_areSo_32 rfl ?_
        refine r_aload_n G dX0_areSo_33 rfl ?_
        refine r_aload_n G dX0_areSo_34 rfl ?_
        refine r_getfN G xCl8 (fs := [.int (nI (ra x)), .int (nI (rb x)), .int (nI (rw x))]) (hRd.2.2 x (by omega)).2.1 0 (by decide) (hX.nw 2 _ rfl) rfl rfl dX0_areSo_35 ?_
        refine r_aload_n G dX0_areSo_38 rfl ?_
        refine r_getfN G xCl8 (fs := [.int (nI (ra x)), .int (nI (rb x)), .int (nI (rw x))]) (hRd.2.2 x (by omega)).2.1 1 (by decide) (hX.nw 3 _ rfl) rfl rfl dX0_areSo_39 ?_
        refine s_callV (b := o) G [.int (nI (ra x)), .int (nI (rb x))] (xM_X0_wayOf hX hO hP T (ra x) (rb x) hra hrb) (lw_V q326 q328 qs8 q70 q329) fy_yX0_wayOf rfl ⟨Nat.le_of_ble_eq_true rfl, Nat.le_of_ble_eq_true rfl⟩ (fs := [.int tr, .int gr, .ref L.a, .ref rn, .ref R.a, .int fa, .ref sh]) hO (ci := 1) rfl rfl rfl (Nat.le_of_ble_eq_true rfl) rfl rfl ⟨Nat.zero_le _, Nat.zero_le _⟩ dX0_areSo_42 ?_
        show K f 0 0 45 [some (.ref o), some (.int (bI mb)), some (.int (nI x)), some (.ref (pr x))] [.int (nI (wy L.n d (ra x) (rb x))), .ref o, .int (bI mb)]
        refine s_callV (b := o) G [.int (nI (wy L.n d (ra x) (rb x)))] (xM_X0_worthOf hX hO hP (wy L.n d (ra x) (rb x)) (Nat.lt_of_lt_of_le (setN_lt _ _) (pow_n8 hn8))) (lw_V q389 q391 qs17 q70 q392) fy_yX0_worthOf rfl ⟨Nat.le_of_ble_eq_true rfl, Nat.le_of_ble_eq_true rfl⟩ (fs := [.int tr, .int gr, .ref L.a, .ref rn, .ref R.a, .int fa, .ref sh]) hO (ci := 1) rfl rfl rfl (Nat.le_of_ble_eq_true rfl) rfl rfl ⟨Nat.zero_le _, Nat.zero_le _⟩ dX0_areSo_45 ?_
        show K f 0 0 48 [some (.ref o), some (.int (bI mb)), some (.int (nI x)), some (.ref (pr x))] [.int (nI (ws L.n kd ld (wy L.n d (ra x) (rb x)))), .int (bI mb)]
        refine r_aload_n G dX0_areSo_48 rfl ?_
        refine r_getfN G xCl8 (fs := [.int (nI (ra x)), .int (nI (rb x)), .int (nI (rw x))]) (hRd.2.2 x (by omega)).2.1 2 (by decide) (hX.nw 4 _ rfl) rfl rfl dX0_areSo_49 ?_
        refine r_icmp_ne G 59 (nI_eq (by have := ws_le (kd := kd) (ld := ld) (n := L.n) (fun p hp => hP.ld9 hp) (wy L.n d (ra x) (rb x)); omega) (by omega)) dX0_areSo_52 (by decide) (fun h52 => ?_) (fun h52 => ?_)
        · refine r_iconst G (v := nI 0) dX0_areSo_59 (by decide) ?_
          refine r_iand G (v := (bI false)) dX0_areSo_60 (bI_and0 mb) ?_
          refine r_istore_n G (lo' := [some (.ref o), some (.int (bI false)), some (.int (nI x)), some (.ref (pr x))]) dX0_areSo_61 rfl rfl ?_
          refine r_iinc G (v := (nI (x + 1))) (lo' := [some (.ref o), some (.int (bI false)), some (.int (nI (x + 1))), some (.ref (pr x))]) dX0_areSo_62 rfl (nI_add x 1) rfl rfl ?_
          refine r_goto G 4 dX0_areSo_65 (by decide) ?_
          refine r_drop G 3 (lo' := [some (.ref o), some (.int (bI false)), some (.int (nI (x + 1))), none]) rfl ?_
          exact ih4 _ _ (by omega) (by show _ = (allN x (fun q => decide (ws L.n kd ld (wy L.n d (ra q) (rb q)) = rw q)) && decide (ws L.n kd ld (wy L.n d (ra x) (rb x)) = rw x)); rw [← hmb]; first | (rw [decide_eq_true h52, Bool.and_true]) | (rw [decide_eq_false h52, Bool.and_false])) (by omega)
        · refine r_iconst G (v := nI 1) dX0_areSo_55 (by decide) ?_
          refine r_goto G 60 dX0_areSo_56 (by decide) ?_
          refine r_iand G (v := (bI mb)) dX0_areSo_60 (bI_and1 mb) ?_
          refine r_istore_n G (lo' := [some (.ref o), some (.int (bI mb)), some (.int (nI x)), some (.ref (pr x))]) dX0_areSo_61 rfl rfl ?_
          refine r_iinc G (v := (nI (x + 1))) (lo' := [some (.ref o), some (.int (bI mb)), some (.int (nI (x + 1))), some (.ref (pr x))]) dX0_areSo_62 rfl (nI_add x 1) rfl rfl ?_
          refine r_goto G 4 dX0_areSo_65 (by decide) ?_
          refine r_drop G 3 (lo' := [some (.ref o), some (.int (bI mb)), some (.int (nI (x + 1))), none]) rfl ?_
          exact ih4 _ _ (by omega) (by show _ = (allN x (fun q => decide (ws L.n kd ld (wy L.n d (ra q) (rb q)) = rw q)) && decide (ws L.n kd ld (wy L.n d (ra x) (rb x)) = rw x)); rw [← hmb]; first | (rw [decide_eq_true h52, Bool.and_true]) | (rw [decide_eq_false h52, Bool.and_false])) (by omega)
  exact L4 (R.n + 1) 0 true (Nat.zero_le _) rfl (by omega)
set_option maxHeartbeats 4000000 in
theorem xM_X0_loadings {l : Launch} {g : fG} {A : Nat → Prop} {En : State → Prop} {zd : Nat} (hX : fX zd g A En) {f : fH} {o : Nat} {tr gr fa : Int32} {rn sh : Nat} {L R : xLs} {pa kd ld tw : Nat → Nat} {lk tk : Nat → Int32} (hO : f o = some (.inr (1, xF tr gr L.a rn R.a fa sh))) (hP : xP g f o L pa kd ld tw lk tk) {pr ra rb rw : Nat → Nat} (hRd : xRd g f R pr L.n ra rb rw) {d : Nat → Nat → Nat} (hT : L.n ≠ 0 → 2 ≤ L.n ∧ TM L.n tw d) (hAp : ∀ p, p < L.n → A (pa p)) (p : Int32): fC l g A En yX0_loadings cX0_loadings 6 (some .int) (fR 14) [.ref o, .int p] f (fun v' f' => v' = some (.int (aLoadings L.n kd ld d R.n ra rb rw p)) ∧ xP g f' o L pa kd ld tw lk tk ∧ kp (fun _ e => nPost (cE e) = true) f f') := by
  have hE := hX.E
  refine fC.of (by decide) hX.E [some (.ref o), some (.int p), none, none, none, none] rfl rfl (fun K G => ?_)
  have G : fGood l g A En RX0 "loadings" cX0_loadings 6 (some .int) (fR 14) _ K := G
  have hn8 := hP.2.1
  have hK : kp (fun _ e => nPost (cE e) = true) f f := kp.rf f
  refine r_aload_n G dX0_loadings_0 rfl ?_
  refine r_iload_n G dX0_loadings_1 rfl ?_
  refine s_callV (b := o) G [.int p] (xM_X0_noPost hX hO hP p) (lw_V q168 q170 qs0 q70 q171) fy_yX0_noPost rfl ⟨Nat.le_of_ble_eq_true rfl, Nat.le_of_ble_eq_true rfl⟩ (fs := [.int tr, .int gr, .ref L.a, .ref rn, .ref R.a, .int fa, .ref sh]) hO (ci := 1) rfl rfl rfl (Nat.le_of_ble_eq_true rfl) rfl rfl ⟨Nat.zero_le _, Nat.zero_le _⟩ dX0_loadings_2 ?_
  show K f 0 0 5 [some (.ref o), some (.int p), none, none, none, none] [.int (bI (!isP L.n p))]
  refine r_ifb_eq G 10  dX0_loadings_5 (by decide) (fun h5 => ?_) (fun h5 => ?_)
  · have q5 : isP L.n p = true := nt_f h5
    obtain ⟨jp, hjp, rfl⟩ := isP_t (by omega) q5
    have ejp : ix (nI jp) = jp := ix_nI (by omega)
    obtain ⟨h2n, T⟩ := hT (by omega)
    refine r_aload_n G dX0_loadings_10 rfl ?_
    refine r_getf G xCl1 (fs := [.int tr, .int gr, .ref L.a, .ref rn, .ref R.a, .int fa, .ref sh]) hO 2 (by decide) q142 rfl rfl dX0_loadings_11 ?_
    refine r_iload_n G dX0_loadings_14 rfl ?_
    refine s_callF (b := L.a) G [.int (nI jp)] (xM_J2_get hX hP.1 jp hjp) (lw_F q186 q189 q191 q73 q193) (hX.fw 1 _ rfl) fx_1 rfl ⟨Nat.le_of_ble_eq_true rfl, Nat.le_of_ble_eq_true rfl⟩ (fs := [.int L.mc, .ref L.ea, .int (nI L.n)]) hP.1.1 (ci := 2) rfl rfl (Nat.le_of_ble_eq_true rfl) rfl rfl ⟨Nat.zero_le _, Nat.zero_le _⟩ dX0_loadings_15 ?_
    show K f 0 0 20 [some (.ref o), some (.int (nI jp)), none, none, none, none] [va_rf ((L.el jp))]
    rw [show va_rf (L.el jp) = .ref (pa jp) from by rw [(hP.2.2.2 jp hjp).1]; rfl]
    refine r_castP hX G (hP.2.2.2 jp hjp).2.2.1 (hP.2.2.2 jp hjp).2.1 q204 dX0_loadings_20 ?_
    refine r_astore_n G (lo' := [some (.ref o), some (.int (nI jp)), some (.ref (pa jp)), none, none, none]) dX0_loadings_23 rfl rfl ?_
    refine r_aload_n G dX0_loadings_24 rfl ?_
    refine r_pget G (hP.2.2.2 jp hjp).2.2.1 (he := (hP.2.2.2 jp hjp).2.1) 0 (by decide) q536 pO_g0 dX0_loadings_25 ?_
    refine r_istore_n G (lo' := [some (.ref o), some (.int (nI jp)), some (.ref (pa jp)), some (.int (nI (ld jp))), none, none]) dX0_loadings_28 rfl rfl ?_
    refine r_iconst G (v := nI 0) dX0_loadings_29 (by decide) ?_
    refine r_istore G (lo' := [some (.ref o), some (.int (nI jp)), some (.ref (pa jp)), some (.int (nI (ld jp))), some (.int (nI 0)), none]) dX0_loadings_30 rfl rfl ?_
    refine r_iconst G (v := nI 0) dX0_loadings_32 (by decide) ?_
    refine r_istore G (lo' := [some (.ref o), some (.int (nI jp)), some (.ref (pa jp)), some (.int (nI (ld jp))), some (.int (nI 0)), some (.int (nI 0))]) dX0_loadings_33 rfl rfl ?_
    have hlj := hP.ld9 hjp
    have hRd0 := hRd
    have hO0 := hO
    have L35 : ∀ (fu : Nat) (fx : fH) (y m v : Nat), (xP g fx o L pa kd (fup ld jp y) tw lk tk) → (kp (fun _ e => nPost (cE e) = true) f fx) → (v ≤ 10) → (m = setN v (fun v => sso L.n kd (fup ld jp v) d R.n ra rb rw)) → 10 - v < fu → K fx 0 0 35 [some (.ref o), some (.int (nI jp)), some (.ref (pa jp)), some (.int (nI (ld jp))), some (.int (nI m)), some (.int (nI v))] [] := by
      intro fu
      induction fu with
      | zero => intro fx y m v hP hK hv hm hm35; exact absurd hm35 (Nat.not_lt_zero _)
      | succ fu35 ih35 =>
        intro fx y m v hP hK hv hm hm35
        have hO := hK _ _ rfl hO
        have hRd := hRd.kp hK
        refine r_iload G dX0_loadings_35 rfl ?_
        refine r_bipush G (v := nI 9) dX0_loadings_37 (by decide) ?_
        refine r_icmp_gt G 74 (nI_ltI (by decide) (by omega)) dX0_loadings_39 (by decide) (fun h39 => ?_) (fun h39 => ?_)
        · refine r_aload_n G dX0_loadings_74 rfl ?_
          refine r_iload_n G dX0_loadings_75 rfl ?_
          refine r_pput G (hP.2.2.2 jp hjp).2.2.1 (he := (hP.2.2.2 jp hjp).2.1) (hAp jp hjp) 0 (by decide) q536 (f' := fU fx (pa jp) (.inr (3 + ((kd jp)), pO ((kd jp)) o (ld jp) (tw jp) (lk jp) (tk jp)))) (by rw [pO_s0]) dX0_loadings_76 ?_
          show K (fU fx (pa jp) (.inr (3 + ((kd jp)), pO ((kd jp)) o (ld jp) (tw jp) (lk jp) (tk jp)))) 0 0 79 [some (.ref o), some (.int (nI jp)), some (.ref (pa jp)), some (.int (nI (ld jp))), some (.int (nI m)), some (.int (nI v))] []
          obtain ⟨fz, hfz⟩ : ∃ z, z = fU fx (pa jp) (.inr (3 + ((kd jp)), pO ((kd jp)) o (ld jp) (tw jp) (lk jp) (tk jp))) := ⟨_, rfl⟩
          have kfz := hP.kup (p := jp) hjp (.inr (3 + (kd jp), pO (kd jp) o (ld jp) (tw jp) (lk jp) (tk jp)))
          have hPn := hP.wrL hjp hlj
          rw [← hfz] at kfz hPn ⊢
          have hO := kfz _ _ rfl hO
          have hK := kp.tr hK kfz
          have hP := hPn
          rw [fup_fup, fup_id] at hP
          refine r_iload G dX0_loadings_79 rfl ?_
          exact r_iret G rfl ⟨Nat.zero_le _, Nat.zero_le _⟩ dX0_loadings_81 ⟨rI (by rw [aLoadings, q5, if_pos rfl, ejp, hm, show v = 10 by omega]), hP, hK⟩
        · refine r_aload_n G dX0_loadings_42 rfl ?_
          refine r_iload G dX0_loadings_43 rfl ?_
          refine r_pput G (hP.2.2.2 jp hjp).2.2.1 (he := (hP.2.2.2 jp hjp).2.1) (hAp jp hjp) 0 (by decide) q536 (f' := fU fx (pa jp) (.inr (3 + ((kd jp)), pO ((kd jp)) o v (tw jp) (lk jp) (tk jp)))) (by rw [pO_s0]) dX0_loadings_45 ?_
          show K (fU fx (pa jp) (.inr (3 + ((kd jp)), pO ((kd jp)) o v (tw jp) (lk jp) (tk jp)))) 0 0 48 [some (.ref o), some (.int (nI jp)), some (.ref (pa jp)), some (.int (nI (ld jp))), some (.int (nI m)), some (.int (nI v))] []
          obtain ⟨fy, hfy⟩ : ∃ z, z = fU fx (pa jp) (.inr (3 + ((kd jp)), pO ((kd jp)) o v (tw jp) (lk jp) (tk jp))) := ⟨_, rfl⟩
          have kfy := hP.kup (p := jp) hjp (.inr (3 + (kd jp), pO (kd jp) o v (tw jp) (lk jp) (tk jp)))
          have hPn := hP.wrL hjp (show v ≤ 9 by omega)
          rw [← hfy] at kfy hPn ⊢
          have hO := kfy _ _ rfl hO
          have hK := kp.tr hK kfy
          have hP := hPn
          rw [fup_fup] at hP
          have hRd := hRd.kp kfy
          refine r_iload G dX0_loadings_48 rfl ?_
          refine r_aload_n G dX0_loadings_50 rfl ?_
          refine s_callV (b := o) G [] (xM_X0_areSo hX hO hP hRd T) (lw_V q513 q515 qs23 q70 q516) fy_yX0_areSo rfl ⟨Nat.le_of_ble_eq_true rfl, Nat.le_of_ble_eq_true rfl⟩ (fs := [.int tr, .int gr, .ref L.a, .ref rn, .ref R.a, .int fa, .ref sh]) hO (ci := 1) rfl rfl rfl (Nat.le_of_ble_eq_true rfl) rfl rfl ⟨Nat.zero_le _, Nat.zero_le _⟩ dX0_loadings_51 ?_
          show K fy 0 0 54 [some (.ref o), some (.int (nI jp)), some (.ref (pa jp)), some (.int (nI (ld jp))), some (.int (nI m)), some (.int (nI v))] [.int (bI (sso L.n kd (fup ld jp v) d R.n ra rb rw)), .int (nI m)]
          refine r_ifb_eq G 64  dX0_loadings_54 (by decide) (fun h54 => ?_) (fun h54 => ?_)
          · refine r_iconst G (v := nI 0) dX0_loadings_64 (by decide) ?_
            refine r_ior G (v := (nI (m ||| 0))) dX0_loadings_65 (n_or m 0) ?_
            refine r_istore G (lo' := [some (.ref o), some (.int (nI jp)), some (.ref (pa jp)), some (.int (nI (ld jp))), some (.int (nI (m ||| 0))), some (.int (nI v))]) dX0_loadings_66 rfl rfl ?_
            refine r_iinc G (v := (nI (v + 1))) (lo' := [some (.ref o), some (.int (nI jp)), some (.ref (pa jp)), some (.int (nI (ld jp))), some (.int (nI (m ||| 0))), some (.int (nI (v + 1)))]) dX0_loadings_68 rfl (nI_add v 1) rfl rfl ?_
            refine r_goto G 35 dX0_loadings_71 (by decide) ?_
            exact ih35 _ _ _ (v + 1) hP hK (by omega) (by rw [setN_s, hm, h54]; rfl) (by omega)
          · refine r_iconst G (v := nI 1) dX0_loadings_57 (by decide) ?_
            refine r_iload G dX0_loadings_58 rfl ?_
            refine r_ishl G (v := (nI (1 <<< v))) dX0_loadings_60 (n_shl (by omega)) ?_
            refine r_goto G 65 dX0_loadings_61 (by decide) ?_
            refine r_ior G (v := (nI (m ||| (1 <<< v)))) dX0_loadings_65 (n_or m (1 <<< v)) ?_
            refine r_istore G (lo' := [some (.ref o), some (.int (nI jp)), some (.ref (pa jp)), some (.int (nI (ld jp))), some (.int (nI (m ||| (1 <<< v)))), some (.int (nI v))]) dX0_loadings_66 rfl rfl ?_
            refine r_iinc G (v := (nI (v + 1))) (lo' := [some (.ref o), some (.int (nI jp)), some (.ref (pa jp)), some (.int (nI (ld jp))), some (.int (nI (m ||| (1 <<< v)))), some (.int (nI (v + 1)))]) dX0_loadings_68 rfl (nI_add v 1) rfl rfl ?_
            refine r_goto G 35 dX0_loadings_71 (by decide) ?_
            exact ih35 _ _ _ (v + 1) hP hK (by omega) (by rw [setN_s, hm, h54]; rfl) (by omega)
    exact L35 11 f (ld jp) 0 0 (by rw [fup_id]; exact hP) hK (by decide) rfl (by decide)
  · have q5 : isP L.n p = false := nt_t h5
    refine r_iconst G (v := -1) dX0_loadings_8 (by decide) ?_
    exact r_iret G rfl ⟨Nat.zero_le _, Nat.zero_le _⟩ dX0_loadings_9 ⟨rI (by simp [aLoadings, q5]), hP, hK⟩
set_option maxHeartbeats 4000000 in
theorem sX_X0_greatestOf {l : Launch} {g : fG} {A : Nat → Prop} {En : State → Prop} (hE : fEnv g A En) : ∀ (e a b : Nat), b < e → a < 2 ^ 31 → b < 2 ^ 31 → sC l g A En yX0_greatestOf cX0_greatestOf 4 (some .long) (fR e) [.long (lN a), .long (lN b)] (.long (lN (Nat.gcd a b))) := by
  intro e
  induction e with
  | zero => intro a b hb; exact absurd hb (Nat.not_lt_zero _)
  | succ e ih =>
    intro a b hb ha31 hb31 f
    refine fC.of (by decide) hE [some (.long (lN a)), none, some (.long (lN b)), none] rfl rfl (fun K G => ?_)
    have G : fGood l g A En RX0 "greatestOf" cX0_greatestOf 4 (some .long) (fR (e + 1)) _ K := G
    refine r_lload_n G dX0_greatestOf_0 rfl ?_
    refine r_lconst G (v := lN 0) dX0_greatestOf_1 (by decide) ?_
    refine r_lcmp G dX0_greatestOf_2 ?_
    refine r_if_ne G 10 (lcmp0 (by omega)) dX0_greatestOf_3 (by decide) (fun h3 => ?_) (fun h3 => ?_)
    · refine r_lload_n G dX0_greatestOf_10 rfl ?_
      refine r_lload_n G dX0_greatestOf_11 rfl ?_
      refine r_lload_n G dX0_greatestOf_12 rfl ?_
      refine r_lrem G (v := (lN (a % b))) dX0_greatestOf_13 (n_lne0 (by omega) (by omega)) (pk_lRem (by omega) (by omega) (by omega)) ?_
      refine s_callS G [.long (lN b), .long (lN (a % b))] (ih b (a % b) (by have := Nat.mod_lt a (Nat.pos_of_ne_zero h3); omega) hb31 (by have := Nat.mod_lt a (Nat.pos_of_ne_zero h3); omega)) (lw_S q597 q598 q70 q599) fy_yX0_greatestOf rfl ⟨by simp only [fR]; omega, by simp only [fR]; omega⟩ rfl (Nat.le_of_ble_eq_true rfl) rfl rfl ⟨Nat.zero_le _, Nat.zero_le _⟩ dX0_greatestOf_14 ?_
      show K f 0 0 17 [some (.long (lN a)), none, some (.long (lN b)), none] [.long (lN (Nat.gcd b (a % b)))]
      exact r_lret G rfl ⟨Nat.zero_le _, Nat.zero_le _⟩ dX0_greatestOf_17 ⟨rfl, by rw [Nat.gcd_comm b (a % b), ← Nat.gcd_rec, Nat.gcd_comm]⟩
    · refine r_lload_n G dX0_greatestOf_6 rfl ?_
      refine r_goto G 17 dX0_greatestOf_7 (by decide) ?_
      exact r_lret G rfl ⟨Nat.zero_le _, Nat.zero_le _⟩ dX0_greatestOf_17 ⟨rfl, by subst h3; rw [Nat.gcd_zero_right]⟩
theorem rL {a b : Int64} (h : a = b) : some (Value.long a) = some (.long b) := by rw [h]
theorem odds_le {n jk : Nat} {d : Nat → Nat → Nat} (hn8 : n ≤ 8) (h2 : 2 ≤ n) : sumN n (fun a => prK n d jk a n) ≤ sumN n (fun a => prA a n) ∧ 0 < sumN n (fun a => prA a n) ∧ sumN n (fun a => prA a n) < 65 := by
  have h1 : ∀ (n : Nat) (f g : Nat → Nat), (∀ p, p < n → f p ≤ g p) → sumN n f ≤ sumN n g := by
    intro n f g h
    induction n with
    | zero => exact Nat.le_refl _
    | succ n ih =>
      show sumN n f + f n ≤ sumN n g + g n
      have := ih (fun p hp => h p (by omega))
      have := h n (by omega)
      omega
  refine ⟨h1 _ _ _ fun a _ => h1 _ _ _ fun c _ => ?_, ?_, ?_⟩
  · by_cases q : a < c
    · rw [if_pos q]; split <;> omega
    · rw [if_neg q, if_neg (fun z => q z.1)]; exact Nat.le_refl _
  · have h3 : prA 0 n ≤ sumN n (fun a => prA a n) := sumN_ge (f := fun a => prA a n) (show 0 < n by omega)
    have h4 : 1 ≤ prA 0 n := by
      have h := sumN_ge (f := fun c => if 0 < c then 1 else 0) (show 1 < n by omega)
      exact h
    omega
  · have h3 : sumN n (fun a => prA a n) ≤ n * 8 := sumN_le fun a _ => by
      have : prA a n ≤ n * 1 := sumN_le fun c _ => by split <;> omega
      omega
    have : n * 8 ≤ 64 := by omega
    omega
set_option maxHeartbeats 4000000 in
theorem xM_X0_odds {l : Launch} {g : fG} {A : Nat → Prop} {En : State → Prop} {zd : Nat} (hX : fX zd g A En) {f : fH} {o : Nat} {tr gr fa : Int32} {rn lr sh : Nat} {L : xLs} {pa kd ld tw : Nat → Nat} {lk tk : Nat → Int32} (hO : f o = some (.inr (1, xF tr gr L.a rn lr fa sh))) (hP : xP g f o L pa kd ld tw lk tk) {d : Nat → Nat → Nat} (hT : L.n ≠ 0 → 2 ≤ L.n ∧ TM L.n tw d) (k which : Int32): fC l g A En yX0_odds cX0_odds 7 (some .long) (fR 70) [.ref o, .int k, .int which] f (fun v f' => f' = f ∧ v = some (.long (aOdds L.n d k which))) := by
  have hE := hX.E
  refine fC.of (by decide) hX.E [some (.ref o), some (.int k), some (.int which), none, none, none, none] rfl rfl (fun K G => ?_)
  have G : fGood l g A En RX0 "odds" cX0_odds 7 (some .long) (fR 70) _ K := G
  have hn8 := hP.2.1
  refine r_iload_n G dX0_odds_0 rfl ?_
  refine r_i2l G dX0_odds_1 rfl ?_
  refine r_lconst G (v := lN 0) dX0_odds_2 (by decide) ?_
  refine r_ldc2 G q325 dX0_odds_3 ?_
  show K f 0 0 6 [some (.ref o), some (.int k), some (.int which), none, none, none, none] [.long (lN 7), .long (lN 0), .long k.toInt64]
  refine s_callS G [.long k.toInt64, .long (lN 0), .long (lN 7)] (sX_X0_inI hE k 0 7 (by decide) (by decide)) (lw_S q182 q183 q70 q184) fy_yX0_in rfl ⟨Nat.le_of_ble_eq_true rfl, Nat.le_of_ble_eq_true rfl⟩ rfl (Nat.le_of_ble_eq_true rfl) rfl rfl ⟨Nat.zero_le _, Nat.zero_le _⟩ dX0_odds_6 ?_
  show K f 0 0 9 [some (.ref o), some (.int k), some (.int which), none, none, none, none] [.int (bI (wi k (nI 0) (nI 7)))]
  refine r_ifb_eq G 29  dX0_odds_9 (by decide) (fun h9 => ?_) (fun h9 => ?_)
  · refine r_ldc2 G q596 dX0_odds_29 ?_
    exact r_lret G rfl ⟨Nat.zero_le _, Nat.zero_le _⟩ dX0_odds_32 ⟨rfl, rL (by simp [aOdds, h9])⟩
  · obtain ⟨jk, hjk0, hjk, rfl⟩ := wi_t (by decide) (by decide) h9
    have ejk : ix (nI jk) = jk := ix_nI (by omega)
    refine r_iload_n G dX0_odds_12 rfl ?_
    refine r_i2l G dX0_odds_13 rfl ?_
    refine r_lconst G (v := lN 0) dX0_odds_14 (by decide) ?_
    refine r_lconst G (v := lN 1) dX0_odds_15 (by decide) ?_
    refine s_callS G [.long which.toInt64, .long (lN 0), .long (lN 1)] (sX_X0_inI hE which 0 1 (by decide) (by decide)) (lw_S q182 q183 q70 q184) fy_yX0_in rfl ⟨Nat.le_of_ble_eq_true rfl, Nat.le_of_ble_eq_true rfl⟩ rfl (Nat.le_of_ble_eq_true rfl) rfl rfl ⟨Nat.zero_le _, Nat.zero_le _⟩ dX0_odds_16 ?_
    show K f 0 0 19 [some (.ref o), some (.int (nI jk)), some (.int which), none, none, none, none] [.int (bI (wi which (nI 0) (nI 1)))]
    refine r_ifb_eq G 29  dX0_odds_19 (by decide) (fun h19 => ?_) (fun h19 => ?_)
    · refine r_ldc2 G q596 dX0_odds_29 ?_
      exact r_lret G rfl ⟨Nat.zero_le _, Nat.zero_le _⟩ dX0_odds_32 ⟨rfl, rL (by simp [aOdds, h9, h19])⟩
    · obtain ⟨jw, hjw0, hjw, rfl⟩ := wi_t (by decide) (by decide) h19
      have ejw : ix (nI jw) = jw := ix_nI (by omega)
      refine r_aload_n G dX0_odds_22 rfl ?_
      refine s_callV (b := o) G [] (xM_X0_noVine hX hO hP) (lw_V q273 q275 qs3 q70 q276) fy_yX0_noVine rfl ⟨Nat.le_of_ble_eq_true rfl, Nat.le_of_ble_eq_true rfl⟩ (fs := [.int tr, .int gr, .ref L.a, .ref rn, .ref lr, .int fa, .ref sh]) hO (ci := 1) rfl rfl rfl (Nat.le_of_ble_eq_true rfl) rfl rfl ⟨Nat.zero_le _, Nat.zero_le _⟩ dX0_odds_23 ?_
      show K f 0 0 26 [some (.ref o), some (.int (nI jk)), some (.int (nI jw)), none, none, none, none] [.int (bI (decide (L.n = 0)))]
      refine r_ifb_eq G 33  dX0_odds_26 (by decide) (fun h26 => ?_) (fun h26 => ?_)
      · have h26q : ¬ L.n = 0 := of_decide_eq_false h26
        obtain ⟨h2n, T⟩ := hT h26q
        refine r_iconst G (v := nI 0) dX0_odds_33 (by decide) ?_
        refine r_istore_n G (lo' := [some (.ref o), some (.int (nI jk)), some (.int (nI jw)), some (.int (nI 0)), none, none, none]) dX0_odds_34 rfl rfl ?_
        refine r_iconst G (v := nI 0) dX0_odds_35 (by decide) ?_
        refine r_istore G (lo' := [some (.ref o), some (.int (nI jk)), some (.int (nI jw)), some (.int (nI 0)), some (.int (nI 0)), none, none]) dX0_odds_36 rfl rfl ?_
        refine r_iconst G (v := nI 0) dX0_odds_38 (by decide) ?_
        refine r_istore G (lo' := [some (.ref o), some (.int (nI jk)), some (.int (nI jw)), some (.int (nI 0)), some (.int (nI 0)), some (.int (nI 0)), none]) dX0_odds_39 rfl rfl ?_
        have L41 : ∀ (fu a m z : Nat), (a ≤ L.n) → (m = sumN a (fun a => prK L.n d jk a L.n)) → (z = sumN a (fun a => prA a L.n)) → L.n - a < fu → K f 0 0 41 [some (.ref o), some (.int (nI jk)), some (.int (nI jw)), some (.int (nI m)), some (.int (nI z)), some (.int (nI a)), none] [] := by
          intro fu
          induction fu with
          | zero => intro a m z ha hm hz hm41; exact absurd hm41 (Nat.not_lt_zero _)
          | succ fu41 ih41 =>
            intro a m z ha hm hz hm41
            refine r_iload G dX0_odds_41 rfl ?_
            refine r_aload_n G dX0_odds_43 rfl ?_
            refine r_getf G xCl1 (fs := [.int tr, .int gr, .ref L.a, .ref rn, .ref lr, .int fa, .ref sh]) hO 2 (by decide) q142 rfl rfl dX0_odds_44 ?_
            refine s_callF (b := L.a) G [] (xM_J2_size hX hP.1) (lw_F q173 q177 q179 q73 q181) (hX.fw 0 _ rfl) fx_0 rfl ⟨Nat.le_of_ble_eq_true rfl, Nat.le_of_ble_eq_true rfl⟩ (fs := [.int L.mc, .ref L.ea, .int (nI L.n)]) hP.1.1 (ci := 2) rfl rfl (Nat.le_of_ble_eq_true rfl) rfl rfl ⟨Nat.zero_le _, Nat.zero_le _⟩ dX0_odds_47 ?_
            show K f 0 0 52 [some (.ref o), some (.int (nI jk)), some (.int (nI jw)), some (.int (nI m)), some (.int (nI z)), some (.int (nI a)), none] [.int (nI L.n), .int (nI a)]
            refine r_icmp_ge G 112 (nI_leI (by omega) (by omega)) dX0_odds_52 (by decide) (fun h52 => ?_) (fun h52 => ?_)
            · have hae : a = L.n := by omega
              obtain ⟨hk1, hk2, hk3⟩ := odds_le (jk := jk) (d := d) (show L.n ≤ 8 by omega) h2n
              rw [hae] at hm hz
              rw [← hm] at hk1
              rw [← hz] at hk1 hk2 hk3
              have hgp : 0 < Nat.gcd z m := Nat.gcd_pos_of_pos_left _ hk2
              have hgl : Nat.gcd z m ≤ z := Nat.gcd_le_left _ hk2
              refine r_iload_n G dX0_odds_112 rfl ?_
              refine r_if_ne G 120 (n_eq0 (by omega)) dX0_odds_113 (by decide) (fun h113 => ?_) (fun h113 => ?_)
              · refine r_iload G dX0_odds_120 rfl ?_
                refine r_i2l G (v := lN z) dX0_odds_122 (nI_l (by omega)) ?_
                refine r_iload G dX0_odds_123 rfl ?_
                refine r_i2l G (v := lN z) dX0_odds_125 (nI_l (by omega)) ?_
                refine r_iload_n G dX0_odds_126 rfl ?_
                refine r_i2l G (v := lN m) dX0_odds_127 (nI_l (by omega)) ?_
                refine s_callS G [.long (lN z), .long (lN m)] (sX_X0_greatestOf hE 66 z m (by omega) (by omega) (by omega)) (lw_S q597 q598 q70 q599) fy_yX0_greatestOf rfl ⟨Nat.le_of_ble_eq_true rfl, Nat.le_of_ble_eq_true rfl⟩ rfl (Nat.le_of_ble_eq_true rfl) rfl rfl ⟨Nat.zero_le _, Nat.zero_le _⟩ dX0_odds_128 ?_
                show K f 0 0 131 [some (.ref o), some (.int (nI jk)), some (.int (nI jw)), some (.int (nI m)), some (.int (nI z)), some (.int (nI a)), none] [.long (lN (Nat.gcd z m)), .long (lN z)]
                refine r_ldiv G (v := (lN (z / (Nat.gcd z m)))) dX0_odds_131 (n_lne0 (by omega) (by omega)) (pk_lDiv (by omega) (by omega) (by omega)) ?_
                exact r_lret G rfl ⟨Nat.zero_le _, Nat.zero_le _⟩ dX0_odds_132 ⟨rfl, rL (by rw [aOdds, h9, h19, decide_eq_false h26q, ejk]; show _ = lN ((if nI jw = nI 0 then sumN L.n (fun a => prK L.n d jk a L.n) else sumN L.n (fun a => prA a L.n)) / Nat.gcd (sumN L.n fun a => prK L.n d jk a L.n) (sumN L.n fun a => prA a L.n)); rw [← hm, ← hz, Nat.gcd_comm m z, if_neg (fun q => h113 ((nI_eq (by omega) (by decide)).mp q))])⟩
              · refine r_iload_n G dX0_odds_116 rfl ?_
                refine r_goto G 122 dX0_odds_117 (by decide) ?_
                refine r_i2l G (v := lN m) dX0_odds_122 (nI_l (by omega)) ?_
                refine r_iload G dX0_odds_123 rfl ?_
                refine r_i2l G (v := lN z) dX0_odds_125 (nI_l (by omega)) ?_
                refine r_iload_n G dX0_odds_126 rfl ?_
                refine r_i2l G (v := lN m) dX0_odds_127 (nI_l (by omega)) ?_
                refine s_callS G [.long (lN z), .long (lN m)] (sX_X0_greatestOf hE 66 z m (by omega) (by omega) (by omega)) (lw_S q597 q598 q70 q599) fy_yX0_greatestOf rfl ⟨Nat.le_of_ble_eq_true rfl, Nat.le_of_ble_eq_true rfl⟩ rfl (Nat.le_of_ble_eq_true rfl) rfl rfl ⟨Nat.zero_le _, Nat.zero_le _⟩ dX0_odds_128 ?_
                show K f 0 0 131 [some (.ref o), some (.int (nI jk)), some (.int (nI jw)), some (.int (nI m)), some (.int (nI z)), some (.int (nI a)), none] [.long (lN (Nat.gcd z m)), .long (lN m)]
                refine r_ldiv G (v := (lN (m / (Nat.gcd z m)))) dX0_odds_131 (n_lne0 (by omega) (by omega)) (pk_lDiv (by omega) (by omega) (by omega)) ?_
                exact r_lret G rfl ⟨Nat.zero_le _, Nat.zero_le _⟩ dX0_odds_132 ⟨rfl, rL (by rw [aOdds, h9, h19, decide_eq_false h26q, ejk]; show _ = lN ((if nI jw = nI 0 then sumN L.n (fun a => prK L.n d jk a L.n) else sumN L.n (fun a => prA a L.n)) / Nat.gcd (sumN L.n fun a => prK L.n d jk a L.n) (sumN L.n fun a => prA a L.n)); rw [← hm, ← hz, Nat.gcd_comm m z, if_pos (by rw [h113])])⟩
            · refine r_iload G dX0_odds_55 rfl ?_
              refine r_iconst G (v := nI 1) dX0_odds_57 (by decide) ?_
              refine r_iadd G (v := (nI (a + 1))) dX0_odds_58 (nI_add a 1) ?_
              refine r_istore G (lo' := [some (.ref o), some (.int (nI jk)), some (.int (nI jw)), some (.int (nI m)), some (.int (nI z)), some (.int (nI a)), some (.int (nI (a + 1)))]) dX0_odds_59 rfl rfl ?_
              have L61 : ∀ (fu : Nat) (b m z : Nat), (a + 1 ≤ b) → (b ≤ L.n) → (m = sumN a (fun a => prK L.n d jk a L.n) + prK L.n d jk a b) → (z = sumN a (fun a => prA a L.n) + prA a b) → L.n - b < fu → K f 0 0 61 [some (.ref o), some (.int (nI jk)), some (.int (nI jw)), some (.int (nI m)), some (.int (nI z)), some (.int (nI a)), some (.int (nI b))] [] := by
                intro fu
                induction fu with
                | zero => intro b m z hab hb hm2 hz2 hm61; exact absurd hm61 (Nat.not_lt_zero _)
                | succ fu61 ih61 =>
                  intro b m z hab hb hm2 hz2 hm61
                  refine r_iload G dX0_odds_61 rfl ?_
                  refine r_aload_n G dX0_odds_63 rfl ?_
                  refine r_getf G xCl1 (fs := [.int tr, .int gr, .ref L.a, .ref rn, .ref lr, .int fa, .ref sh]) hO 2 (by decide) q142 rfl rfl dX0_odds_64 ?_
                  refine s_callF (b := L.a) G [] (xM_J2_size hX hP.1) (lw_F q173 q177 q179 q73 q181) (hX.fw 0 _ rfl) fx_0 rfl ⟨Nat.le_of_ble_eq_true rfl, Nat.le_of_ble_eq_true rfl⟩ (fs := [.int L.mc, .ref L.ea, .int (nI L.n)]) hP.1.1 (ci := 2) rfl rfl (Nat.le_of_ble_eq_true rfl) rfl rfl ⟨Nat.zero_le _, Nat.zero_le _⟩ dX0_odds_67 ?_
                  show K f 0 0 72 [some (.ref o), some (.int (nI jk)), some (.int (nI jw)), some (.int (nI m)), some (.int (nI z)), some (.int (nI a)), some (.int (nI b))] [.int (nI L.n), .int (nI b)]
                  refine r_icmp_ge G 106 (nI_leI (by omega) (by omega)) dX0_odds_72 (by decide) (fun h72 => ?_) (fun h72 => ?_)
                  · refine r_iinc G (v := (nI (a + 1))) (lo' := [some (.ref o), some (.int (nI jk)), some (.int (nI jw)), some (.int (nI m)), some (.int (nI z)), some (.int (nI (a + 1))), some (.int (nI b))]) dX0_odds_106 rfl (nI_add a 1) rfl rfl ?_
                    refine r_goto G 41 dX0_odds_109 (by decide) ?_
                    refine r_drop G 6 (lo' := [some (.ref o), some (.int (nI jk)), some (.int (nI jw)), some (.int (nI m)), some (.int (nI z)), some (.int (nI (a + 1))), none]) rfl ?_
                    exact ih41 (a + 1) _ _ (by omega) (by rw [hm2, show b = L.n by omega]; rfl) (by rw [hz2, show b = L.n by omega]; rfl) (by omega)
                  · refine r_iload_n G dX0_odds_75 rfl ?_
                    refine r_aload_n G dX0_odds_76 rfl ?_
                    refine r_iload G dX0_odds_77 rfl ?_
                    refine r_bipush G (v := -9) dX0_odds_79 (by decide) ?_
                    refine r_iload G dX0_odds_81 rfl ?_
                    refine s_callV (b := o) G [.int (nI a), .int (-9), .int (nI b)] (xM_X0_far0 hX hO hP T a b (by omega) (by omega)) (lw_V q249 q251 qs2 q70 q252) fy_yX0_farFrom rfl ⟨Nat.le_of_ble_eq_true rfl, Nat.le_of_ble_eq_true rfl⟩ (fs := [.int tr, .int gr, .ref L.a, .ref rn, .ref lr, .int fa, .ref sh]) hO (ci := 1) rfl rfl rfl (Nat.le_of_ble_eq_true rfl) rfl rfl ⟨Nat.zero_le _, Nat.zero_le _⟩ dX0_odds_83 ?_
                    show K f 0 0 86 [some (.ref o), some (.int (nI jk)), some (.int (nI jw)), some (.int (nI m)), some (.int (nI z)), some (.int (nI a)), some (.int (nI b))] [.int (nI (d a b)), .int (nI m)]
                    refine r_iload_n G dX0_odds_86 rfl ?_
                    refine r_icmp_gt G 94 (nI_ltI (by omega) (by have := T.dl (show a < L.n by omega) (show b < L.n by omega); omega)) dX0_odds_87 (by decide) (fun h87 => ?_) (fun h87 => ?_)
                    · refine r_iconst G (v := nI 0) dX0_odds_94 (by decide) ?_
                      refine r_iadd G (v := (nI (m + 0))) dX0_odds_95 (nI_add m 0) ?_
                      refine r_istore_n G (lo' := [some (.ref o), some (.int (nI jk)), some (.int (nI jw)), some (.int (nI (m + 0))), some (.int (nI z)), some (.int (nI a)), some (.int (nI b))]) dX0_odds_96 rfl rfl ?_
                      refine r_iinc G (v := (nI (z + 1))) (lo' := [some (.ref o), some (.int (nI jk)), some (.int (nI jw)), some (.int (nI (m + 0))), some (.int (nI (z + 1))), some (.int (nI a)), some (.int (nI b))]) dX0_odds_97 rfl (nI_add z 1) rfl rfl ?_
                      refine r_iinc G (v := (nI (b + 1))) (lo' := [some (.ref o), some (.int (nI jk)), some (.int (nI jw)), some (.int (nI (m + 0))), some (.int (nI (z + 1))), some (.int (nI a)), some (.int (nI (b + 1)))]) dX0_odds_100 rfl (nI_add b 1) rfl rfl ?_
                      refine r_goto G 61 dX0_odds_103 (by decide) ?_
                      exact ih61 (b + 1) _ _ (by omega) (by omega) (by rw [hm2]; show _ = _ + (prK L.n d jk a b + if a < b ∧ d a b ≤ jk then 1 else 0); rw [if_neg (by omega)]; rfl) (by rw [hz2]; show _ = _ + (prA a b + if a < b then 1 else 0); rw [if_pos (by omega)]; omega) (by omega)
                    · refine r_iconst G (v := nI 1) dX0_odds_90 (by decide) ?_
                      refine r_goto G 95 dX0_odds_91 (by decide) ?_
                      refine r_iadd G (v := (nI (m + 1))) dX0_odds_95 (nI_add m 1) ?_
                      refine r_istore_n G (lo' := [some (.ref o), some (.int (nI jk)), some (.int (nI jw)), some (.int (nI (m + 1))), some (.int (nI z)), some (.int (nI a)), some (.int (nI b))]) dX0_odds_96 rfl rfl ?_
                      refine r_iinc G (v := (nI (z + 1))) (lo' := [some (.ref o), some (.int (nI jk)), some (.int (nI jw)), some (.int (nI (m + 1))), some (.int (nI (z + 1))), some (.int (nI a)), some (.int (nI b))]) dX0_odds_97 rfl (nI_add z 1) rfl rfl ?_
                      refine r_iinc G (v := (nI (b + 1))) (lo' := [some (.ref o), some (.int (nI jk)), some (.int (nI jw)), some (.int (nI (m + 1))), some (.int (nI (z + 1))), some (.int (nI a)), some (.int (nI (b + 1)))]) dX0_odds_100 rfl (nI_add b 1) rfl rfl ?_
                      refine r_goto G 61 dX0_odds_103 (by decide) ?_
                      exact ih61 (b + 1) _ _ (by omega) (by omega) (by rw [hm2]; show _ = _ + (prK L.n d jk a b + if a < b ∧ d a b ≤ jk then 1 else 0); rw [if_pos ⟨by omega, by omega⟩]; rfl) (by rw [hz2]; show _ = _ + (prA a b + if a < b then 1 else 0); rw [if_pos (by omega)]; omega) (by omega)
              exact L61 (L.n + 1) (a + 1) m z (Nat.le_refl _) (by omega) (by rw [hm, prK_0]; omega) (by rw [hz, prA_0]; omega) (by omega)
        exact L41 (L.n + 1) 0 0 0 (Nat.zero_le _) rfl rfl (by omega)
      · have h26q : L.n = 0 := of_decide_eq_true h26
        refine r_ldc2 G q596 dX0_odds_29 ?_
        exact r_lret G rfl ⟨Nat.zero_le _, Nat.zero_le _⟩ dX0_odds_32 ⟨rfl, rL (by simp [aOdds, h9, h19, h26q])⟩
set_option maxHeartbeats 4000000 in
theorem xM_X0_many {l : Launch} {g : fG} {A : Nat → Prop} {En : State → Prop} {zd : Nat} (hX : fX zd g A En) {f : fH} {o : Nat} {tr gr fa : Int32} {rn sh : Nat} {L R : xLs} {pa kd ld tw : Nat → Nat} {lk tk : Nat → Int32} (hO : f o = some (.inr (1, xF tr gr L.a rn R.a fa sh))) (hP : xP g f o L pa kd ld tw lk tk) {pr ra rb rw : Nat → Nat} (hRd : xRd g f R pr L.n ra rb rw) (what : Int32): fC l g A En yX0_many cX0_many 2 (some .int) (fR 5) [.ref o, .int what] f (fun v f' => f' = f ∧ v = some (.int (aMany L.n tw gr R.n what))) := by
  have hE := hX.E
  refine fC.of (by decide) hX.E [some (.ref o), some (.int what)] rfl rfl (fun K G => ?_)
  have G : fGood l g A En RX0 "many" cX0_many 2 (some .int) (fR 5) _ K := G
  have hn8 := hP.2.1
  have hr8 := hRd.2.1
  refine r_iload_n G dX0_many_0 rfl ?_
  rcases sw_in what 3 (by decide) with h1 | ⟨j1, hj1, rfl⟩
  · refine r_tableOut G 65 dX0_many_1 h1 (by decide) ?_
    refine r_bipush G (v := -2) dX0_many_65 (by decide) ?_
    exact r_iret G rfl ⟨Nat.zero_le _, Nat.zero_le _⟩ dX0_many_67 ⟨rfl, rI (by rw [aMany, if_neg (sw_out h1 (j := 0) (by decide) (by decide)), if_neg (sw_out h1 (j := 1) (by decide) (by decide)), if_neg (sw_out h1 (j := 2) (by decide) (by decide)), if_neg (sw_out h1 (j := 3) (by decide) (by decide))])⟩
  · have hc1 : j1 = 0 ∨ j1 = 1 ∨ j1 = 2 ∨ j1 = 3 := by omega
    rcases hc1 with rfl | rfl | rfl | rfl
    · refine r_tableIn G 32 dX0_many_1 (by decide) (by decide) rfl (by decide) ?_
      refine r_aload_n G dX0_many_32 rfl ?_
      refine r_getf G xCl1 (fs := [.int tr, .int gr, .ref L.a, .ref rn, .ref R.a, .int fa, .ref sh]) hO 2 (by decide) q142 rfl rfl dX0_many_33 ?_
      refine s_callF (b := L.a) G [] (xM_J2_size hX hP.1) (lw_F q173 q177 q179 q73 q181) (hX.fw 0 _ rfl) fx_0 rfl ⟨Nat.le_of_ble_eq_true rfl, Nat.le_of_ble_eq_true rfl⟩ (fs := [.int L.mc, .ref L.ea, .int (nI L.n)]) hP.1.1 (ci := 2) rfl rfl (Nat.le_of_ble_eq_true rfl) rfl rfl ⟨Nat.zero_le _, Nat.zero_le _⟩ dX0_many_36 ?_
      show K f 0 0 41 [some (.ref o), some (.int (nI 0))] [.int (nI L.n)]
      exact r_iret G rfl ⟨Nat.zero_le _, Nat.zero_le _⟩ dX0_many_41 ⟨rfl, rI (by rw [aMany]; rfl)⟩
    · refine r_tableIn G 42 dX0_many_1 (by decide) (by decide) rfl (by decide) ?_
      refine r_aload_n G dX0_many_42 rfl ?_
      refine r_getf G xCl1 (fs := [.int tr, .int gr, .ref L.a, .ref rn, .ref R.a, .int fa, .ref sh]) hO 1 (by decide) q141 rfl rfl dX0_many_43 ?_
      exact r_iret G rfl ⟨Nat.zero_le _, Nat.zero_le _⟩ dX0_many_46 ⟨rfl, rI (by rw [aMany]; rfl)⟩
    · refine r_tableIn G 47 dX0_many_1 (by decide) (by decide) rfl (by decide) ?_
      refine r_aload_n G dX0_many_47 rfl ?_
      refine s_callV (b := o) G [] (xM_X0_leaves hX hO hP) (lw_V q991 q993 qs38 q70 q994) fy_yX0_leaves rfl ⟨Nat.le_of_ble_eq_true rfl, Nat.le_of_ble_eq_true rfl⟩ (fs := [.int tr, .int gr, .ref L.a, .ref rn, .ref R.a, .int fa, .ref sh]) hO (ci := 1) rfl rfl rfl (Nat.le_of_ble_eq_true rfl) rfl rfl ⟨Nat.zero_le _, Nat.zero_le _⟩ dX0_many_48 ?_
      show K f 0 0 51 [some (.ref o), some (.int (nI 2))] [.int (nI (lvs L.n tw))]
      refine s_callS G [.int (nI (lvs L.n tw))] (sX_J16_bitCount hE (lvs L.n tw) (lvs_lt hn8)) (lw_S q239 q240 q95 q241) fy_yJ16_bitCount rfl ⟨Nat.le_of_ble_eq_true rfl, Nat.le_of_ble_eq_true rfl⟩ rfl (Nat.le_of_ble_eq_true rfl) rfl rfl ⟨Nat.zero_le _, Nat.zero_le _⟩ dX0_many_51 ?_
      show K f 0 0 54 [some (.ref o), some (.int (nI 2))] [.int (nI (cnt (lvs L.n tw)))]
      exact r_iret G rfl ⟨Nat.zero_le _, Nat.zero_le _⟩ dX0_many_54 ⟨rfl, rI (by rw [aMany]; rfl)⟩
    · refine r_tableIn G 55 dX0_many_1 (by decide) (by decide) rfl (by decide) ?_
      refine r_aload_n G dX0_many_55 rfl ?_
      refine r_getf G xCl1 (fs := [.int tr, .int gr, .ref L.a, .ref rn, .ref R.a, .int fa, .ref sh]) hO 4 (by decide) q144 rfl rfl dX0_many_56 ?_
      refine s_callF (b := R.a) G [] (xM_J2_size hX hRd.1) (lw_F q173 q177 q179 q73 q181) (hX.fw 0 _ rfl) fx_0 rfl ⟨Nat.le_of_ble_eq_true rfl, Nat.le_of_ble_eq_true rfl⟩ (fs := [.int R.mc, .ref R.ea, .int (nI R.n)]) hRd.1.1 (ci := 2) rfl rfl (Nat.le_of_ble_eq_true rfl) rfl rfl ⟨Nat.zero_le _, Nat.zero_le _⟩ dX0_many_59 ?_
      show K f 0 0 64 [some (.ref o), some (.int (nI 3))] [.int (nI R.n)]
      exact r_iret G rfl ⟨Nat.zero_le _, Nat.zero_le _⟩ dX0_many_64 ⟨rfl, rI (by rw [aMany]; rfl)⟩
end XX20
