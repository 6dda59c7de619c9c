/-! the reference: middle, load, pairs -/
set_option maxRecDepth 100000
section MM15
theorem sumN_mono {f : Nat → Nat} {k n : Nat} (h : k ≤ n) : sumN k f ≤ sumN n f := by
  induction n with
  | zero => rw [show k = 0 by omega]; exact Nat.le_refl _
  | succ n ih =>
    by_cases e : k = n + 1
    · rw [e]; exact Nat.le_refl _
    · have := ih (by omega)
      show _ ≤ sumN n f + f n
      omega
/-- the twigs ahead of the pair a, b -/
def psE (n : Nat) (d : Nat → Nat → Nat) (f : Nat → Nat → Nat) (x y : Nat) : Nat := if x < y then (if d x y = 1 then f x y else 0) else 0
def psum (n : Nat) (d : Nat → Nat → Nat) (a b : Nat) (f : Nat → Nat → Nat) : Nat := sumN a (fun x => sumN n (psE n d f x)) + sumN b (psE n d f a)
theorem psum_n (n : Nat) (d : Nat → Nat → Nat) (a : Nat) (f : Nat → Nat → Nat) : psum n d (a + 1) 0 f = psum n d a n f := rfl
theorem psum_lo (n : Nat) (d : Nat → Nat → Nat) (a : Nat) (f : Nat → Nat → Nat) : psum n d a (a + 1) f = psum n d a 0 f := by
  unfold psum
  rw [sumN_congr (n := a + 1) (f := psE n d f a) (g := fun _ => 0) (fun y hy => if_neg (by omega)), sumN_0]
  rfl
theorem psum_e (n : Nat) (d : Nat → Nat → Nat) (f : Nat → Nat → Nat) : psum n d n 0 f = tri n fun a b => if d a b = 1 then f a b else 0 := rfl
theorem psum_s (n : Nat) (d : Nat → Nat → Nat) (a b : Nat) (f : Nat → Nat → Nat) : psum n d a (b + 1) f = psum n d a b f + psE n d f a b := by
  unfold psum
  exact (Nat.add_assoc _ _ _).symm
theorem psum_le {n : Nat} {d : Nat → Nat → Nat} {a b : Nat} {f : Nat → Nat → Nat} (ha : a < n) (hb : b ≤ n) : psum n d a b f ≤ tri n fun a b => if d a b = 1 then f a b else 0 := by
  have h1 : psum n d a b f ≤ psum n d a n f := by
    have := sumN_mono (f := psE n d f a) hb
    unfold psum; omega
  rw [← psum_n] at h1
  refine Nat.le_trans h1 ?_
  exact sumN_mono (f := fun x => sumN n (psE n d f x)) (show a + 1 ≤ n by omega)
/-- the twigs found so far -/
def twJ (n : Nat) (d : Nat → Nat → Nat) (a b m : Nat) (A B : Nat → Nat) : Prop :=
  (∀ j, j < m → A j < B j ∧ B j < n ∧ d (A j) (B j) = 1 ∧ (A j < a ∨ A j = a ∧ B j < b)) ∧ (∀ i, i < m → ∀ j, j < m → A i = A j → B i = B j → i = j) ∧ ∀ f, sumA m A B f = psum n d a b f
def twI (n : Nat) (d : Nat → Nat → Nat) (a b m : Nat) (fa fb : Nat → Int32) : Prop := ∃ A B : Nat → Nat, (∀ j, j < m → fa j = nI (A j) ∧ fb j = nI (B j)) ∧ twJ n d a b m A B
theorem twI_0 (n : Nat) (d : Nat → Nat → Nat) (fa fb : Nat → Int32) : twI n d 0 0 0 fa fb := ⟨fun _ => 0, fun _ => 0, fun j h => absurd h (Nat.not_lt_zero j), fun j h => absurd h (Nat.not_lt_zero j), fun j h => absurd h (Nat.not_lt_zero j), fun f => rfl⟩
theorem twI_lo {n : Nat} {d : Nat → Nat → Nat} {a m : Nat} {fa fb : Nat → Int32} : twI n d a 0 m fa fb → twI n d a (a + 1) m fa fb := by
  rintro ⟨A, B, h1, h2, h3, h4⟩
  refine ⟨A, B, h1, fun j hj => ?_, h3, fun f => by rw [psum_lo]; exact h4 f⟩
  obtain ⟨p1, p2, p3, p4⟩ := h2 j hj
  exact ⟨p1, p2, p3, by omega⟩
theorem twI_n {n : Nat} {d : Nat → Nat → Nat} {a b m : Nat} {fa fb : Nat → Int32} (hb : b = n) : twI n d a b m fa fb → twI n d (a + 1) 0 m fa fb := by
  subst hb
  rintro ⟨A, B, h1, h2, h3, h4⟩
  refine ⟨A, B, h1, fun j hj => ?_, h3, fun f => h4 f⟩
  obtain ⟨p1, p2, p3, p4⟩ := h2 j hj
  exact ⟨p1, p2, p3, by omega⟩
theorem twI_no {n : Nat} {d : Nat → Nat → Nat} {a b m : Nat} {fa fb : Nat → Int32} (h : ¬ d a b = 1) : twI n d a b m fa fb → twI n d a (b + 1) m fa fb := by
  rintro ⟨A, B, h1, h2, h3, h4⟩
  refine ⟨A, B, h1, fun j hj => ?_, h3, fun f => ?_⟩
  · obtain ⟨p1, p2, p3, p4⟩ := h2 j hj
    exact ⟨p1, p2, p3, by omega⟩
  · rw [psum_s, h4 f]
    unfold psE
    rw [if_neg h]
    split <;> rfl
theorem twI_yes {n : Nat} {d : Nat → Nat → Nat} {a b m : Nat} {fa fb : Nat → Int32} (hab : a < b) (hb : b < n) (h : d a b = 1) : twI n d a b m fa fb → twI n d a (b + 1) (m + 1) (upd fa m (nI a)) (upd fb m (nI b)) := by
  rintro ⟨A, B, h1, h2, h3, h4⟩
  have eA : ∀ j, j < m → fup A m a j = A j := fun j hj => if_neg (by omega)
  have eB : ∀ j, j < m → fup B m b j = B j := fun j hj => if_neg (by omega)
  have eA' : fup A m a m = a := if_pos rfl
  have eB' : fup B m b m = b := if_pos rfl
  refine ⟨fup A m a, fup B m b, fun j hj => ?_, fun j hj => ?_, fun i hi j hj q1 q2 => ?_, fun f => ?_⟩
  · by_cases e : j = m
    · subst e; rw [pk_us, pk_us, eA', eB']; exact ⟨rfl, rfl⟩
    · rw [pk_un e, pk_un e, eA j (by omega), eB j (by omega)]; exact h1 j (by omega)
  · by_cases e : j = m
    · subst e; rw [eA', eB']; exact ⟨hab, hb, h, by omega⟩
    · rw [eA j (by omega), eB j (by omega)]
      obtain ⟨p1, p2, p3, p4⟩ := h2 j (by omega)
      exact ⟨p1, p2, p3, by omega⟩
  · by_cases e : i = m <;> by_cases e' : j = m
    · omega
    · subst e
      rw [eA', eA j (by omega)] at q1; rw [eB', eB j (by omega)] at q2
      have := (h2 j (by omega)).2.2.2
      omega
    · subst e'
      rw [eA', eA i (by omega)] at q1; rw [eB', eB i (by omega)] at q2
      have := (h2 i (by omega)).2.2.2
      omega
    · rw [eA i (by omega), eA j (by omega)] at q1; rw [eB i (by omega), eB j (by omega)] at q2
      exact h3 i (by omega) j (by omega) q1 q2
  · show sumN m (fun j => f (fup A m a j) (fup B m b j)) + f (fup A m a m) (fup B m b m) = _
    rw [psum_s, eA', eB', ← h4 f, sumN_congr (g := fun j => f (A j) (B j)) (fun j hj => by rw [eA j hj, eB j hj])]
    unfold psE sumA
    rw [if_pos hab, if_pos h]
theorem sumA_1 (m : Nat) (A B : Nat → Nat) : sumA m A B (fun _ _ => 1) = m := by
  unfold sumA
  induction m with
  | zero => rfl
  | succ m ih => show sumN m _ + 1 = m + 1; rw [ih]
theorem twI_m {n : Nat} {tw : Nat → Nat} {d : Nat → Nat → Nat} (T : TM n tw d) (h0 : 0 < n) {a b m : Nat} {fa fb : Nat → Int32} (hab : a < b) (hb : b < n) (h : d a b = 1) : twI n d a b m fa fb → m + 1 < n := by
  rintro ⟨A, B, h1, h2, h3, h4⟩
  have e := h4 fun _ _ => 1
  rw [sumA_1] at e
  have e2 := psum_s n d a b fun _ _ => 1
  have e3 : psE n d (fun _ _ => 1) a b = 1 := by unfold psE; rw [if_pos hab, if_pos h]
  have e4 := psum_le (d := d) (f := fun _ _ => 1) (show a < n by omega) (show b + 1 ≤ n by omega)
  rw [edge_sum T h0] at e4
  omega
theorem twI_e {n : Nat} {tw : Nat → Nat} {d : Nat → Nat → Nat} (T : TM n tw d) (h0 : 0 < n) {a m : Nat} {fa fb : Nat → Int32} (ha : a = n) : twI n d a 0 m fa fb → m < n := by
  subst ha
  rintro ⟨A, B, h1, h2, h3, h4⟩
  have e := h4 fun _ _ => 1
  rw [sumA_1, psum_e, edge_sum T h0] at e
  omega
theorem twI_nu {n : Nat} {tw : Nat → Nat} {d : Nat → Nat → Nat} (T : TM n tw d) (h0 : 0 < n) (hn8 : n ≤ 8) {a m : Nat} {fa fb : Nat → Int32} (ha : a = n) (h : twI n d a 0 m fa fb) : ∃ A B : Nat → Nat, (∀ j, j < m → fa j = nI (A j) ∧ fb j = nI (B j) ∧ A j < 8 ∧ B j < 8) ∧ m ≤ 7 ∧ mbest A B m (2 ^ m) = nu n d := by
  have hm := twI_e T h0 ha h
  subst ha
  obtain ⟨A, B, h1, h2, h3, h4⟩ := h
  refine ⟨A, B, fun j hj => ?_, by omega, mbest_nu T h0 (by omega) (fun j hj => ?_) (fun i hi j hj q => ?_) (fun f => by rw [h4 f, psum_e])⟩
  · obtain ⟨p1, p2, p3, p4⟩ := h2 j hj
    exact ⟨(h1 j hj).1, (h1 j hj).2, by omega, by omega⟩
  · obtain ⟨p1, p2, p3, p4⟩ := h2 j hj
    exact ⟨by omega, p2, by omega, p3⟩
  · rcases q with ⟨q1, q2⟩ | ⟨q1, q2⟩
    · exact h3 i hi j hj q1 q2
    · have := (h2 i hi).1
      have := (h2 j hj).1
      omega
theorem tkm_lt {A B : Nat → Nat} {s k m : Nat} (h : ∀ j, j < m → A j < 8 ∧ B j < 8) (hk : k ≤ m) : tkm A B s k < 2 ^ 8 := orN_lt (k := 8) fun j hj => by
  unfold eb
  split
  · exact or_lt (shl1_lt (h j (by omega)).1) (shl1_lt (h j (by omega)).2)
  · decide
theorem mt_s {A B : Nat → Nat} {s k : Nat} : mt A B s (k + 1) = (mt A B s k && decide (tkm A B s k &&& eb A B s k = 0)) := rfl
theorem mt_no {A B : Nat → Nat} {s k : Nat} (h : mt A B s k = false) : ∀ m, k ≤ m → mt A B s m = false := by
  intro m
  induction m with
  | zero => intro hk; rw [show (0 : Nat) = k by omega]; exact h
  | succ m ih =>
    intro hk
    by_cases e : k = m + 1
    · rw [← e]; exact h
    · rw [mt_s, ih (by omega)]; rfl
theorem mid_le (n : Nat) (d : Nat → Nat → Nat) : ∀ p, (mid n d p).2 ≤ 8 := by
  intro p
  induction p with
  | zero => exact Nat.le_refl 8
  | succ p ih =>
    show (if ecc n d p < (mid n d p).2 then ecc n d p else (mid n d p).2) ≤ 8
    split <;> omega
set_option maxHeartbeats 4000000 in
theorem mM_middle {l : Launch} {g : fG} {A : Nat → Prop} {En : State → Prop} (hE : fEnv g A En) {o : Nat} {ad : Nat → Nat} (hD : mD A o ad) {S : mS} {n : Nat} {tw kd ld : Nat → Nat} {d : Nat → Nat → Nat} (hV : mV S n tw kd ld) (hT : n ≠ 0 → 2 ≤ n ∧ TM n tw d) (what : Int32): mC l g A En o ad yX1_middle cX1_middle 6 (some .int) (fR 2) [.int what] S (fun v S' => v = some (.int (aMiddle n d what)) ∧ mEq S S') := by
  refine fC.of (by decide) hE [some (.ref o), some (.int what), none, none, none, none] rfl rfl (fun K G => ?_)
  have G : fGood l g A En RX1 "middle" cX1_middle 6 (some .int) (fR 2) _ K := G
  have hn8 := hV.2.1
  refine r_iload_n G dX1_middle_0 rfl ?_
  refine r_iconst G (v := nI 0) dX1_middle_1 (by decide) ?_
  refine r_iconst G (v := nI 1) dX1_middle_2 (by decide) ?_
  refine s_callS G [.int what, .int (nI 0), .int (nI 1)] (sM_within hE what (nI 0) (nI 1)) (lw_S q1279 q1280 q74 q1281) fy_yX1_within rfl ⟨Nat.le_of_ble_eq_true rfl, Nat.le_of_ble_eq_true rfl⟩ rfl (Nat.le_of_ble_eq_true rfl) rfl rfl ⟨Nat.zero_le _, Nat.zero_le _⟩ dX1_middle_3 ?_
  refine r_ifb_ne G 12  dX1_middle_6 (by decide) (fun h6 => ?_) (fun h6 => ?_)
  · refine r_aload_n G dX1_middle_12 rfl ?_
    refine m_gets G 5 (by decide) q1195 rfl (v := (nI n)) hV.1 dX1_middle_13 ?_
    refine r_if_ne G 22 (n_eq0 (by have := hV.2.1; omega)) dX1_middle_16 (by decide) (fun h16 => ?_) (fun h16 => ?_)
    · obtain ⟨h2n, T⟩ := hT h16
      refine r_aload_n G dX1_middle_22 rfl ?_
      refine m_callV G [] (mM_findFars hE hD hV T) (lw_V q1334 q1336 qs48 q74 q1337) fy_yX1_findFars rfl rfl ⟨Nat.le_of_ble_eq_true rfl, Nat.le_of_ble_eq_true rfl⟩ rfl (Nat.le_of_ble_eq_true rfl) rfl rfl ⟨Nat.zero_le _, Nat.zero_le _⟩ dX1_middle_23 (fun v23 S23 hp23 => ?_)
      obtain ⟨rfl, fa23, rfl, hF23⟩ := hp23
      show K (mH g o ad (mArr S 15 fa23)) 0 0 26 [some (.ref o), some (.int what), none, none, none, none] []
      refine r_iload_n G dX1_middle_26 rfl ?_
      refine r_iconst G (v := nI 1) dX1_middle_27 (by decide) ?_
      refine r_icmp_ne G 36 Iff.rfl dX1_middle_28 (by decide) (fun h28 => ?_) (fun h28 => ?_)
      · refine r_bipush G (v := nI 8) dX1_middle_36 (by decide) ?_
        refine r_istore_n G (lo' := [some (.ref o), some (.int what), some (.int (nI 8)), none, none, none]) dX1_middle_38 rfl rfl ?_
        refine r_iconst G (v := nI 0) dX1_middle_39 (by decide) ?_
        refine r_istore_n G (lo' := [some (.ref o), some (.int what), some (.int (nI 8)), some (.int (nI 0)), none, none]) dX1_middle_40 rfl rfl ?_
        refine r_iconst G (v := nI 0) dX1_middle_41 (by decide) ?_
        refine r_istore G (lo' := [some (.ref o), some (.int what), some (.int (nI 8)), some (.int (nI 0)), some (.int (nI 0)), none]) dX1_middle_42 rfl rfl ?_
        have L44 : ∀ (fu : Nat) (p x y : Nat), (p ≤ n) → (x = (mid n d p).2) → (y = (mid n d p).1) → (x ≤ 8) → n - p < fu → K (mH g o ad (mArr S 15 fa23)) 0 0 44 [some (.ref o), some (.int what), some (.int (nI x)), some (.int (nI y)), some (.int (nI p)), none] [] := by
          intro fu
          induction fu with
          | zero => intro p x y hp hx hy hx8 hm44; exact absurd hm44 (Nat.not_lt_zero _)
          | succ fu44 ih44 =>
            intro p x y hp hx hy hx8 hm44
            refine r_iload G dX1_middle_44 rfl ?_
            refine r_aload_n G dX1_middle_46 rfl ?_
            refine m_gets G 5 (by decide) q1195 rfl (v := (nI n)) hV.1 dX1_middle_47 ?_
            refine r_icmp_ge G 110 (nI_leI (by have := hV.2.1; omega) (by omega)) dX1_middle_50 (by decide) (fun h50 => ?_) (fun h50 => ?_)
            · refine r_iload_n G dX1_middle_110 rfl ?_
              exact r_iret G rfl ⟨Nat.zero_le _, Nat.zero_le _⟩ dX1_middle_111 ⟨_, rfl, by rw [aMiddle, h6, if_pos rfl, if_neg h16, if_neg h28, hy, show p = n by omega], mEq.arr S _ (by decide)⟩
            · refine r_aload_n G dX1_middle_53 rfl ?_
              refine r_iload G dX1_middle_54 rfl ?_
              refine m_callV G [.int (nI p)] (mM_farthestFrom hE hD (S := (mArr S 15 fa23)) hV.1 hn8 hF23 p (by omega)) (lw_V q1338 q1340 qs49 q74 q1341) fy_yX1_farthestFrom rfl rfl ⟨Nat.le_of_ble_eq_true rfl, Nat.le_of_ble_eq_true rfl⟩ rfl (Nat.le_of_ble_eq_true rfl) rfl rfl ⟨Nat.zero_le _, Nat.zero_le _⟩ dX1_middle_56 (fun v56 S56 hp56 => ?_)
              obtain ⟨rfl, rfl⟩ := hp56
              show K (mH g o ad (mArr S 15 fa23)) 0 0 59 [some (.ref o), some (.int what), some (.int (nI x)), some (.int (nI y)), some (.int (nI p)), none] [.int (nI (maxN n (d p)))]
              refine r_istore G (lo' := [some (.ref o), some (.int what), some (.int (nI x)), some (.int (nI y)), some (.int (nI p)), some (.int (nI (maxN n (d p))))]) dX1_middle_59 rfl rfl ?_
              refine r_iload G dX1_middle_61 rfl ?_
              refine r_iload_n G dX1_middle_63 rfl ?_
              refine r_icmp_ge G 74 (nI_leI (by omega) (Nat.lt_trans (maxN_lt (b := 8) (by decide) fun q hq => (hF23 p (by omega) q hq).2) (by decide))) dX1_middle_64 (by decide) (fun h64 => ?_) (fun h64 => ?_)
              · refine r_iload G dX1_middle_74 rfl ?_
                refine r_iload_n G dX1_middle_76 rfl ?_
                refine r_icmp_ne G 89 (nI_eq (Nat.lt_trans (maxN_lt (b := 8) (by decide) fun q hq => (hF23 p (by omega) q hq).2) (by decide)) (by omega)) dX1_middle_77 (by decide) (fun h77 => ?_) (fun h77 => ?_)
                · refine r_iload_n G dX1_middle_89 rfl ?_
                  refine r_istore_n G (lo' := [some (.ref o), some (.int what), some (.int (nI x)), some (.int (nI y)), some (.int (nI p)), some (.int (nI (maxN n (d p))))]) dX1_middle_90 rfl rfl ?_
                  refine r_iload G dX1_middle_91 rfl ?_
                  refine r_iload_n G dX1_middle_93 rfl ?_
                  refine r_icmp_ge G 102 (nI_leI (by omega) (Nat.lt_trans (maxN_lt (b := 8) (by decide) fun q hq => (hF23 p (by omega) q hq).2) (by decide))) dX1_middle_94 (by decide) (fun h94 => ?_) (fun h94 => ?_)
                  · refine r_iload_n G dX1_middle_102 rfl ?_
                    refine r_istore_n G (lo' := [some (.ref o), some (.int what), some (.int (nI x)), some (.int (nI y)), some (.int (nI p)), some (.int (nI (maxN n (d p))))]) dX1_middle_103 rfl rfl ?_
                    refine r_iinc G (v := (nI (p + 1))) (lo' := [some (.ref o), some (.int what), some (.int (nI x)), some (.int (nI y)), some (.int (nI (p + 1))), some (.int (nI (maxN n (d p))))]) dX1_middle_104 rfl (nI_add p 1) rfl rfl ?_
                    refine r_goto G 44 dX1_middle_107 (by decide) ?_
                    refine r_drop G 5 (lo' := [some (.ref o), some (.int what), some (.int (nI x)), some (.int (nI y)), some (.int (nI (p + 1))), none]) rfl ?_
                    exact ih44 _ _ _ (by omega) (by
                                                            show _ = (if ecc n d p < (mid n d p).2 then ecc n d p else (mid n d p).2)
                                                            rw [← hx]; unfold ecc; (repeat' split) <;> first | rfl | omega) (by
                                                            show _ = (if ecc n d p < (mid n d p).2 then 1 <<< p else if ecc n d p = (mid n d p).2 then (mid n d p).1 ||| 1 <<< p else (mid n d p).1)
                                                            rw [← hx, ← hy]; unfold ecc; (repeat' split) <;> first | rfl | omega) (by omega) (by omega)
                  · refine r_iload G dX1_middle_97 rfl ?_
                    refine r_goto G 103 dX1_middle_99 (by decide) ?_
                    refine r_istore_n G (lo' := [some (.ref o), some (.int what), some (.int (nI (maxN n (d p)))), some (.int (nI y)), some (.int (nI p)), some (.int (nI (maxN n (d p))))]) dX1_middle_103 rfl rfl ?_
                    refine r_iinc G (v := (nI (p + 1))) (lo' := [some (.ref o), some (.int what), some (.int (nI (maxN n (d p)))), some (.int (nI y)), some (.int (nI (p + 1))), some (.int (nI (maxN n (d p))))]) dX1_middle_104 rfl (nI_add p 1) rfl rfl ?_
                    refine r_goto G 44 dX1_middle_107 (by decide) ?_
                    refine r_drop G 5 (lo' := [some (.ref o), some (.int what), some (.int (nI (maxN n (d p)))), some (.int (nI y)), some (.int (nI (p + 1))), none]) rfl ?_
                    exact ih44 _ _ _ (by omega) (by
                                                            show _ = (if ecc n d p < (mid n d p).2 then ecc n d p else (mid n d p).2)
                                                            rw [← hx]; unfold ecc; (repeat' split) <;> first | rfl | omega) (by
                                                            show _ = (if ecc n d p < (mid n d p).2 then 1 <<< p else if ecc n d p = (mid n d p).2 then (mid n d p).1 ||| 1 <<< p else (mid n d p).1)
                                                            rw [← hx, ← hy]; unfold ecc; (repeat' split) <;> first | rfl | omega) (by omega) (by omega)
                · refine r_iload_n G dX1_middle_80 rfl ?_
                  refine r_iconst G (v := nI 1) dX1_middle_81 (by decide) ?_
                  refine r_iload G dX1_middle_82 rfl ?_
                  refine r_ishl G (v := (nI (1 <<< p))) dX1_middle_84 (n_shl (by omega)) ?_
                  refine r_ior G (v := (nI (y ||| (1 <<< p)))) dX1_middle_85 (n_or y (1 <<< p)) ?_
                  refine r_goto G 90 dX1_middle_86 (by decide) ?_
                  refine r_istore_n G (lo' := [some (.ref o), some (.int what), some (.int (nI x)), some (.int (nI (y ||| (1 <<< p)))), some (.int (nI p)), some (.int (nI (maxN n (d p))))]) dX1_middle_90 rfl rfl ?_
                  refine r_iload G dX1_middle_91 rfl ?_
                  refine r_iload_n G dX1_middle_93 rfl ?_
                  refine r_icmp_ge G 102 (nI_leI (by omega) (Nat.lt_trans (maxN_lt (b := 8) (by decide) fun q hq => (hF23 p (by omega) q hq).2) (by decide))) dX1_middle_94 (by decide) (fun h94 => ?_) (fun h94 => ?_)
                  · refine r_iload_n G dX1_middle_102 rfl ?_
                    refine r_istore_n G (lo' := [some (.ref o), some (.int what), some (.int (nI x)), some (.int (nI (y ||| (1 <<< p)))), some (.int (nI p)), some (.int (nI (maxN n (d p))))]) dX1_middle_103 rfl rfl ?_
                    refine r_iinc G (v := (nI (p + 1))) (lo' := [some (.ref o), some (.int what), some (.int (nI x)), some (.int (nI (y ||| (1 <<< p)))), some (.int (nI (p + 1))), some (.int (nI (maxN n (d p))))]) dX1_middle_104 rfl (nI_add p 1) rfl rfl ?_
                    refine r_goto G 44 dX1_middle_107 (by decide) ?_
                    refine r_drop G 5 (lo' := [some (.ref o), some (.int what), some (.int (nI x)), some (.int (nI (y ||| (1 <<< p)))), some (.int (nI (p + 1))), none]) rfl ?_
                    exact ih44 _ _ _ (by omega) (by
                                                            show _ = (if ecc n d p < (mid n d p).2 then ecc n d p else (mid n d p).2)
                                                            rw [← hx]; unfold ecc; (repeat' split) <;> first | rfl | omega) (by
                                                            show _ = (if ecc n d p < (mid n d p).2 then 1 <<< p else if ecc n d p = (mid n d p).2 then (mid n d p).1 ||| 1 <<< p else (mid n d p).1)
                                                            rw [← hx, ← hy]; unfold ecc; (repeat' split) <;> first | rfl | omega) (by omega) (by omega)
                  · refine r_iload G dX1_middle_97 rfl ?_
                    refine r_goto G 103 dX1_middle_99 (by decide) ?_
                    refine r_istore_n G (lo' := [some (.ref o), some (.int what), some (.int (nI (maxN n (d p)))), some (.int (nI (y ||| (1 <<< p)))), some (.int (nI p)), some (.int (nI (maxN n (d p))))]) dX1_middle_103 rfl rfl ?_
                    refine r_iinc G (v := (nI (p + 1))) (lo' := [some (.ref o), some (.int what), some (.int (nI (maxN n (d p)))), some (.int (nI (y ||| (1 <<< p)))), some (.int (nI (p + 1))), some (.int (nI (maxN n (d p))))]) dX1_middle_104 rfl (nI_add p 1) rfl rfl ?_
                    refine r_goto G 44 dX1_middle_107 (by decide) ?_
                    refine r_drop G 5 (lo' := [some (.ref o), some (.int what), some (.int (nI (maxN n (d p)))), some (.int (nI (y ||| (1 <<< p)))), some (.int (nI (p + 1))), none]) rfl ?_
                    exact ih44 _ _ _ (by omega) (by
                                                            show _ = (if ecc n d p < (mid n d p).2 then ecc n d p else (mid n d p).2)
                                                            rw [← hx]; unfold ecc; (repeat' split) <;> first | rfl | omega) (by
                                                            show _ = (if ecc n d p < (mid n d p).2 then 1 <<< p else if ecc n d p = (mid n d p).2 then (mid n d p).1 ||| 1 <<< p else (mid n d p).1)
                                                            rw [← hx, ← hy]; unfold ecc; (repeat' split) <;> first | rfl | omega) (by omega) (by omega)
              · refine r_iconst G (v := nI 1) dX1_middle_67 (by decide) ?_
                refine r_iload G dX1_middle_68 rfl ?_
                refine r_ishl G (v := (nI (1 <<< p))) dX1_middle_70 (n_shl (by omega)) ?_
                refine r_goto G 90 dX1_middle_71 (by decide) ?_
                refine r_istore_n G (lo' := [some (.ref o), some (.int what), some (.int (nI x)), some (.int (nI (1 <<< p))), some (.int (nI p)), some (.int (nI (maxN n (d p))))]) dX1_middle_90 rfl rfl ?_
                refine r_iload G dX1_middle_91 rfl ?_
                refine r_iload_n G dX1_middle_93 rfl ?_
                refine r_icmp_ge G 102 (nI_leI (by omega) (Nat.lt_trans (maxN_lt (b := 8) (by decide) fun q hq => (hF23 p (by omega) q hq).2) (by decide))) dX1_middle_94 (by decide) (fun h94 => ?_) (fun h94 => ?_)
                · refine r_iload_n G dX1_middle_102 rfl ?_
                  refine r_istore_n G (lo' := [some (.ref o), some (.int what), some (.int (nI x)), some (.int (nI (1 <<< p))), some (.int (nI p)), some (.int (nI (maxN n (d p))))]) dX1_middle_103 rfl rfl ?_
                  refine r_iinc G (v := (nI (p + 1))) (lo' := [some (.ref o), some (.int what), some (.int (nI x)), some (.int (nI (1 <<< p))), some (.int (nI (p + 1))), some (.int (nI (maxN n (d p))))]) dX1_middle_104 rfl (nI_add p 1) rfl rfl ?_
                  refine r_goto G 44 dX1_middle_107 (by decide) ?_
                  refine r_drop G 5 (lo' := [some (.ref o), some (.int what), some (.int (nI x)), some (.int (nI (1 <<< p))), some (.int (nI (p + 1))), none]) rfl ?_
                  exact ih44 _ _ _ (by omega) (by
                                                            show _ = (if ecc n d p < (mid n d p).2 then ecc n d p else (mid n d p).2)
                                                            rw [← hx]; unfold ecc; (repeat' split) <;> first | rfl | omega) (by
                                                            show _ = (if ecc n d p < (mid n d p).2 then 1 <<< p else if ecc n d p = (mid n d p).2 then (mid n d p).1 ||| 1 <<< p else (mid n d p).1)
                                                            rw [← hx, ← hy]; unfold ecc; (repeat' split) <;> first | rfl | omega) (by omega) (by omega)
                · refine r_iload G dX1_middle_97 rfl ?_
                  refine r_goto G 103 dX1_middle_99 (by decide) ?_
                  refine r_istore_n G (lo' := [some (.ref o), some (.int what), some (.int (nI (maxN n (d p)))), some (.int (nI (1 <<< p))), some (.int (nI p)), some (.int (nI (maxN n (d p))))]) dX1_middle_103 rfl rfl ?_
                  refine r_iinc G (v := (nI (p + 1))) (lo' := [some (.ref o), some (.int what), some (.int (nI (maxN n (d p)))), some (.int (nI (1 <<< p))), some (.int (nI (p + 1))), some (.int (nI (maxN n (d p))))]) dX1_middle_104 rfl (nI_add p 1) rfl rfl ?_
                  refine r_goto G 44 dX1_middle_107 (by decide) ?_
                  refine r_drop G 5 (lo' := [some (.ref o), some (.int what), some (.int (nI (maxN n (d p)))), some (.int (nI (1 <<< p))), some (.int (nI (p + 1))), none]) rfl ?_
                  exact ih44 _ _ _ (by omega) (by
                                                            show _ = (if ecc n d p < (mid n d p).2 then ecc n d p else (mid n d p).2)
                                                            rw [← hx]; unfold ecc; (repeat' split) <;> first | rfl | omega) (by
                                                            show _ = (if ecc n d p < (mid n d p).2 then 1 <<< p else if ecc n d p = (mid n d p).2 then (mid n d p).1 ||| 1 <<< p else (mid n d p).1)
                                                            rw [← hx, ← hy]; unfold ecc; (repeat' split) <;> first | rfl | omega) (by omega) (by omega)
        exact L44 (n + 1) 0 8 0 (Nat.zero_le _) rfl rfl (by decide) (by omega)
      · refine r_aload_n G dX1_middle_31 rfl ?_
        refine m_callV G [] (mM_longest hE hD (S := (mArr S 15 fa23)) hV.1 hn8 hF23) (lw_V q1386 q1388 qs57 q74 q1389) fy_yX1_longest rfl rfl ⟨Nat.le_of_ble_eq_true rfl, Nat.le_of_ble_eq_true rfl⟩ rfl (Nat.le_of_ble_eq_true rfl) rfl rfl ⟨Nat.zero_le _, Nat.zero_le _⟩ dX1_middle_32 (fun v32 S32 hp32 => ?_)
        obtain ⟨rfl, rfl⟩ := hp32
        show K (mH g o ad (mArr S 15 fa23)) 0 0 35 [some (.ref o), some (.int what), none, none, none, none] [.int (nI (maxN n (fun p => maxN n (d p))))]
        exact r_iret G rfl ⟨Nat.zero_le _, Nat.zero_le _⟩ dX1_middle_35 ⟨_, rfl, by rw [aMiddle, h6, if_pos rfl, if_neg h16, if_pos h28], mEq.arr S _ (by decide)⟩
    · refine r_bipush G (v := -3) dX1_middle_19 (by decide) ?_
      exact r_iret G rfl ⟨Nat.zero_le _, Nat.zero_le _⟩ dX1_middle_21 ⟨_, rfl, by simp [aMiddle, h6, h16], mEq.rf _⟩
  · refine r_bipush G (v := -2) dX1_middle_9 (by decide) ?_
    exact r_iret G rfl ⟨Nat.zero_le _, Nat.zero_le _⟩ dX1_middle_11 ⟨_, rfl, by simp [aMiddle, h6], mEq.rf _⟩
def aLoad (n : Nat) (ld : Nat → Nat) (p v : Int32) : Int32 := if isP n p then (if wi v (nI 0) (nI 9) then nI (ld (ix p)) else -2) else -1
def ldA (n : Nat) (p v : Int32) : Bool := isP n p && wi v (nI 0) (nI 9)
set_option maxHeartbeats 4000000 in
theorem mM_load {l : Launch} {g : fG} {A : Nat → Prop} {En : State → Prop} (hE : fEnv g A En) {o : Nat} {ad : Nat → Nat} (hD : mD A o ad) {S : mS} {n : Nat} {tw kd ld : Nat → Nat} (hV : mV S n tw kd ld) (p v : Int32): mC l g A En o ad yX1_load cX1_load 4 (some .int) (fR 1) [.int p, .int v] S (fun v' S' => v' = some (.int (aLoad n ld p v)) ∧ (if ldA n p v then mV S' n tw kd (fup ld (ix p) (ix v)) else mEqX [] [] S S') ∧ mEqX [] [9] S S') := by
  refine fC.of (by decide) hE [some (.ref o), some (.int p), some (.int v), none] rfl rfl (fun K G => ?_)
  have G : fGood l g A En RX1 "load" cX1_load 4 (some .int) (fR 1) _ K := G
  have hn8 := hV.2.1
  refine r_aload_n G dX1_load_0 rfl ?_
  refine r_iload_n G dX1_load_1 rfl ?_
  refine m_callV G [.int p] (mM_isPost hE hD (S := S) n hV.1 p) (lw_V q1323 q1325 qs46 q74 q1326) fy_yX1_isPost rfl rfl ⟨Nat.le_of_ble_eq_true rfl, Nat.le_of_ble_eq_true rfl⟩ rfl (Nat.le_of_ble_eq_true rfl) rfl rfl ⟨Nat.zero_le _, Nat.zero_le _⟩ dX1_load_2 (fun v2 S2 hp2 => ?_)
  obtain ⟨rfl, rfl⟩ := hp2
  show K (mH g o ad S) 0 0 5 [some (.ref o), some (.int p), some (.int v), none] [.int (bI (isP n p))]
  refine r_ifb_ne G 10  dX1_load_5 (by decide) (fun h5 => ?_) (fun h5 => ?_)
  · obtain ⟨jp, hjp, rfl⟩ := isP_t (by omega) h5
    have ejp : ix (nI jp) = jp := ix_nI (by omega)
    refine r_iload_n G dX1_load_10 rfl ?_
    refine r_iconst G (v := nI 0) dX1_load_11 (by decide) ?_
    refine r_bipush G (v := nI 9) dX1_load_12 (by decide) ?_
    refine s_callS G [.int v, .int (nI 0), .int (nI 9)] (sM_within hE v (nI 0) (nI 9)) (lw_S q1279 q1280 q74 q1281) fy_yX1_within rfl ⟨Nat.le_of_ble_eq_true rfl, Nat.le_of_ble_eq_true rfl⟩ rfl (Nat.le_of_ble_eq_true rfl) rfl rfl ⟨Nat.zero_le _, Nat.zero_le _⟩ dX1_load_14 ?_
    refine r_ifb_ne G 23  dX1_load_17 (by decide) (fun h17 => ?_) (fun h17 => ?_)
    · obtain ⟨jv, hjv0, hjv, rfl⟩ := wi_t (by decide) (by decide) h17
      have ejv : ix (nI jv) = jv := ix_nI (by omega)
      refine r_aload_n G dX1_load_23 rfl ?_
      refine m_geta G 9 (by decide) q1199 rfl dX1_load_24 ?_
      refine r_iload_n G dX1_load_27 rfl ?_
      refine m_ald G hD 9 (by decide) (by simp only [mN]; omega) (v := (nI (ld jp))) (hV.ld (by omega)) dX1_load_28 ?_
      refine r_istore_n G (lo' := [some (.ref o), some (.int (nI jp)), some (.int (nI jv)), some (.int (nI (ld jp)))]) dX1_load_29 rfl rfl ?_
      refine r_aload_n G dX1_load_30 rfl ?_
      refine m_geta G 9 (by decide) q1199 rfl dX1_load_31 ?_
      refine r_iload_n G dX1_load_34 rfl ?_
      refine r_iload_n G dX1_load_35 rfl ?_
      refine m_ast G hD 9 (by decide) (by simp only [mN]; omega) dX1_load_36 ?_
      refine r_iload_n G dX1_load_37 rfl ?_
      exact r_iret G rfl ⟨Nat.zero_le _, Nat.zero_le _⟩ dX1_load_38 ⟨_, rfl, by simp [aLoad, h5, h17, ejp], by rw [ldA, h5, h17, ejp, ejv]; exact mV_ld hV (by omega) rfl rfl rfl (fl := S.2 9) rfl (fun _ _ => rfl), mEqX.put S _ _ (by decide)⟩
    · refine r_bipush G (v := -2) dX1_load_20 (by decide) ?_
      exact r_iret G rfl ⟨Nat.zero_le _, Nat.zero_le _⟩ dX1_load_22 ⟨_, rfl, by simp [aLoad, h5, h17], by simp [ldA, h5, h17]; exact mEqX.rf _ _ _, mEqX.rf _ _ _⟩
  · refine r_iconst G (v := -1) dX1_load_8 (by decide) ?_
    exact r_iret G rfl ⟨Nat.zero_le _, Nat.zero_le _⟩ dX1_load_9 ⟨_, rfl, by simp [aLoad, h5], by simp [ldA, h5]; exact mEqX.rf _ _ _, mEqX.rf _ _ _⟩
set_option maxHeartbeats 4000000 in
theorem mM_findTwigs {l : Launch} {g : fG} {A : Nat → Prop} {En : State → Prop} (hE : fEnv g A En) {o : Nat} {ad : Nat → Nat} (hD : mD A o ad) {S : mS} {n : Nat} {tw kd ld : Nat → Nat} {d : Nat → Nat → Nat} (hV : mV S n tw kd ld) (T : TM n tw d) (hn0 : 0 < n): mC l g A En o ad yX1_findTwigs cX1_findTwigs 4 (some .int) (fR 1) [] S (fun v S' => ∃ m fa fb, v = some (.int (nI m)) ∧ mArr (mArr S 21 fa) 22 fb = S' ∧ twI n d n 0 m fa fb ∧ m < n) := by
  refine fC.of (by decide) hE [some (.ref o), none, none, none] rfl rfl (fun K G => ?_)
  have G : fGood l g A En RX1 "findTwigs" cX1_findTwigs 4 (some .int) (fR 1) _ K := G
  have hn8 := hV.2.1
  refine r_iconst G (v := nI 0) dX1_findTwigs_0 (by decide) ?_
  refine r_istore_n G (lo' := [some (.ref o), some (.int (nI 0)), none, none]) dX1_findTwigs_1 rfl rfl ?_
  refine r_iconst G (v := nI 0) dX1_findTwigs_2 (by decide) ?_
  refine r_istore_n G (lo' := [some (.ref o), some (.int (nI 0)), some (.int (nI 0)), none]) dX1_findTwigs_3 rfl rfl ?_
  have L4 : ∀ (fu : Nat) (a m : Nat) (fa fb : Nat → Int32), (a ≤ n) → (twI n d a 0 m fa fb) → (m ≤ 7) → n - a < fu → K (mH g o ad (mArr (mArr S 21 fa) 22 fb)) 0 0 4 [some (.ref o), some (.int (nI m)), some (.int (nI a)), none] [] := by
    intro fu
    induction fu with
    | zero => intro a m fa fb ha htw hm hm4; exact absurd hm4 (Nat.not_lt_zero _)
    | succ fu4 ih4 =>
      intro a m fa fb ha htw hm hm4
      refine r_iload_n G dX1_findTwigs_4 rfl ?_
      refine r_aload_n G dX1_findTwigs_5 rfl ?_
      refine m_gets G 5 (by decide) q1195 rfl (v := (nI n)) hV.1 dX1_findTwigs_6 ?_
      refine r_icmp_ge G 66 (nI_leI (by have := hV.2.1; omega) (by omega)) dX1_findTwigs_9 (by decide) (fun h9 => ?_) (fun h9 => ?_)
      · refine r_iload_n G dX1_findTwigs_66 rfl ?_
        exact r_iret G rfl ⟨Nat.zero_le _, Nat.zero_le _⟩ dX1_findTwigs_67 ⟨_, rfl, m, fa, fb, rfl, rfl, by rw [show n = a by omega] at htw ⊢; exact htw, twI_e T hn0 (by omega) htw⟩
      · refine r_iload_n G dX1_findTwigs_12 rfl ?_
        refine r_iconst G (v := nI 1) dX1_findTwigs_13 (by decide) ?_
        refine r_iadd G (v := (nI (a + 1))) dX1_findTwigs_14 (nI_add a 1) ?_
        refine r_istore_n G (lo' := [some (.ref o), some (.int (nI m)), some (.int (nI a)), some (.int (nI (a + 1)))]) dX1_findTwigs_15 rfl rfl ?_
        have L16 : ∀ (fu : Nat) (b m : Nat) (fa fb : Nat → Int32), (a < b) → (b ≤ n) → (twI n d a b m fa fb) → (m ≤ 7) → n - b < fu → K (mH g o ad (mArr (mArr S 21 fa) 22 fb)) 0 0 16 [some (.ref o), some (.int (nI m)), some (.int (nI a)), some (.int (nI b))] [] := by
          intro fu
          induction fu with
          | zero => intro b m fa fb hb1 hb htw' hm' hm16; exact absurd hm16 (Nat.not_lt_zero _)
          | succ fu16 ih16 =>
            intro b m fa fb hb1 hb htw' hm' hm16
            refine r_iload_n G dX1_findTwigs_16 rfl ?_
            refine r_aload_n G dX1_findTwigs_17 rfl ?_
            refine m_gets G 5 (by decide) q1195 rfl (v := (nI n)) hV.1 dX1_findTwigs_18 ?_
            refine r_icmp_ge G 60 (nI_leI (by have := hV.2.1; omega) (by omega)) dX1_findTwigs_21 (by decide) (fun h21 => ?_) (fun h21 => ?_)
            · refine r_iinc G (v := (nI (a + 1))) (lo' := [some (.ref o), some (.int (nI m)), some (.int (nI (a + 1))), some (.int (nI b))]) dX1_findTwigs_60 rfl (nI_add a 1) rfl rfl ?_
              refine r_goto G 4 dX1_findTwigs_63 (by decide) ?_
              refine r_drop G 3 (lo' := [some (.ref o), some (.int (nI m)), some (.int (nI (a + 1))), none]) rfl ?_
              exact ih4 _ _ _ _ (by omega) (twI_n (by omega) htw') (by omega) (by omega)
            · refine r_aload_n G dX1_findTwigs_24 rfl ?_
              refine m_geta G 7 (by decide) q1197 rfl dX1_findTwigs_25 ?_
              refine r_iload_n G dX1_findTwigs_28 rfl ?_
              refine m_ald G hD 7 (by decide) (by simp only [mN]; omega) (v := (nI (tw a))) (hV.tw (by omega)) dX1_findTwigs_29 ?_
              refine r_iload_n G dX1_findTwigs_30 rfl ?_
              refine s_callS G [.int (nI (tw a)), .int (nI b)] (sM_isOf hE (tw a) b (by have := hV.t8 (p := a) (by omega); omega) (by omega)) (lw_S q1312 q1313 q74 q1314) fy_yX1_isOf rfl ⟨Nat.le_of_ble_eq_true rfl, Nat.le_of_ble_eq_true rfl⟩ rfl (Nat.le_of_ble_eq_true rfl) rfl rfl ⟨Nat.zero_le _, Nat.zero_le _⟩ dX1_findTwigs_31 ?_
              refine r_ifb_eq G 54  dX1_findTwigs_34 (by decide) (fun h34 => ?_) (fun h34 => ?_)
              · have hd : ¬ d a b = 1 := fun q => by rw [(T.adj (by omega) (by omega)).mpr q] at h34; cases h34
                refine r_iinc G (v := (nI (b + 1))) (lo' := [some (.ref o), some (.int (nI m)), some (.int (nI a)), some (.int (nI (b + 1)))]) dX1_findTwigs_54 rfl (nI_add b 1) rfl rfl ?_
                refine r_goto G 16 dX1_findTwigs_57 (by decide) ?_
                exact ih16 _ _ _ _ (by omega) (by omega) (twI_no hd htw') (by omega) (by omega)
              · have hd := (T.adj (by omega) (by omega)).mp h34
                have hmn := twI_m T hn0 hb1 (by omega) hd htw'
                refine r_aload_n G dX1_findTwigs_37 rfl ?_
                refine m_geta G 21 (by decide) q1211 rfl dX1_findTwigs_38 ?_
                refine r_iload_n G dX1_findTwigs_41 rfl ?_
                refine r_iload_n G dX1_findTwigs_42 rfl ?_
                refine m_ast G hD 21 (by decide) (by simp only [mN]; omega) dX1_findTwigs_43 ?_
                rw [mPut_a _ _ _ (by decide)]
                refine r_aload_n G dX1_findTwigs_44 rfl ?_
                refine m_geta G 22 (by decide) q1212 rfl dX1_findTwigs_45 ?_
                refine r_iload_n G dX1_findTwigs_48 rfl ?_
                refine r_iload_n G dX1_findTwigs_49 rfl ?_
                refine m_ast G hD 22 (by decide) (by simp only [mN]; omega) dX1_findTwigs_50 ?_
                rw [mPut_arr]
                refine r_iinc G (v := (nI (m + 1))) (lo' := [some (.ref o), some (.int (nI (m + 1))), some (.int (nI a)), some (.int (nI b))]) dX1_findTwigs_51 rfl (nI_add m 1) rfl rfl ?_
                refine r_iinc G (v := (nI (b + 1))) (lo' := [some (.ref o), some (.int (nI (m + 1))), some (.int (nI a)), some (.int (nI (b + 1)))]) dX1_findTwigs_54 rfl (nI_add b 1) rfl rfl ?_
                refine r_goto G 16 dX1_findTwigs_57 (by decide) ?_
                exact ih16 _ _ _ _ (by omega) (by omega) (twI_yes hb1 (by omega) hd htw') (by omega) (by omega)
        exact L16 (n + 1) (a + 1) m fa fb (by omega) (by omega) (twI_lo htw) hm (by omega)
  rw [show S = mArr (mArr S 21 (S.2 21)) 22 (S.2 22) from (mArr_2 S 21 22 (by decide)).symm]
  exact L4 (n + 1) 0 0 (S.2 21) (S.2 22) (Nat.zero_le _) (twI_0 _ _ _ _) (by omega) (by omega)
theorem eb_lt {A B : Nat → Nat} {s j : Nat} (h : A j < 8 ∧ B j < 8) : eb A B s j < 2 ^ 8 := by
  unfold eb
  split
  · exact or_lt (shl1_lt h.1) (shl1_lt h.2)
  · decide
set_option maxHeartbeats 4000000 in
theorem mM_pairs {l : Launch} {g : fG} {A : Nat → Prop} {En : State → Prop} (hE : fEnv g A En) {o : Nat} {ad : Nat → Nat} (hD : mD A o ad) {S : mS} {n : Nat} {tw kd ld : Nat → Nat} {d : Nat → Nat → Nat} (hV : mV S n tw kd ld) (hT : n ≠ 0 → 2 ≤ n ∧ TM n tw d): mC l g A En o ad yX1_pairs cX1_pairs 8 (some .int) (fR 3) [] S (fun v S' => v = some (.int (aPairs n d)) ∧ mEq S S') := by
  refine fC.of (by decide) hE [some (.ref o), none, none, none, none, none, none, none] rfl rfl (fun K G => ?_)
  have G : fGood l g A En RX1 "pairs" cX1_pairs 8 (some .int) (fR 3) _ K := G
  have hn8 := hV.2.1
  refine r_aload_n G dX1_pairs_0 rfl ?_
  refine m_gets G 5 (by decide) q1195 rfl (v := (nI n)) hV.1 dX1_pairs_1 ?_
  refine r_if_ne G 10 (n_eq0 (by have := hV.2.1; omega)) dX1_pairs_4 (by decide) (fun h4 => ?_) (fun h4 => ?_)
  · obtain ⟨h2n, T⟩ := hT h4
    refine r_aload_n G dX1_pairs_10 rfl ?_
    refine m_callV G [] (mM_findTwigs hE hD (S := S) hV T (by omega)) (lw_V q1438 q1440 qs64 q74 q1441) fy_yX1_findTwigs rfl rfl ⟨Nat.le_of_ble_eq_true rfl, Nat.le_of_ble_eq_true rfl⟩ rfl (Nat.le_of_ble_eq_true rfl) rfl rfl ⟨Nat.zero_le _, Nat.zero_le _⟩ dX1_pairs_11 (fun v11 S11 hp11 => ?_)
    obtain ⟨m, fa, fb, rfl, rfl, htw, hm7⟩ := hp11
    show K (mH g o ad (mArr (mArr S 21 fa) 22 fb)) 0 0 14 [some (.ref o), none, none, none, none, none, none, none] [.int (nI m)]
    obtain ⟨P, Q, hPQ, hm8, hnu⟩ := twI_nu T (by omega) hn8 rfl htw
    have hpm : 2 ^ m ≤ 128 := Nat.pow_le_pow_right (show 0 < 2 by decide) hm8
    have hPQ' : ∀ j, j < m → P j < 8 ∧ Q j < 8 := fun j hj => (hPQ j hj).2.2
    refine r_istore_n G (lo' := [some (.ref o), some (.int (nI m)), none, none, none, none, none, none]) dX1_pairs_14 rfl rfl ?_
    refine r_iconst G (v := nI 0) dX1_pairs_15 (by decide) ?_
    refine r_istore_n G (lo' := [some (.ref o), some (.int (nI m)), some (.int (nI 0)), none, none, none, none, none]) dX1_pairs_16 rfl rfl ?_
    refine r_iconst G (v := nI 0) dX1_pairs_17 (by decide) ?_
    refine r_istore_n G (lo' := [some (.ref o), some (.int (nI m)), some (.int (nI 0)), some (.int (nI 0)), none, none, none, none]) dX1_pairs_18 rfl rfl ?_
    have L19 : ∀ (fu : Nat) (s x : Nat), (s ≤ 2 ^ m) → (x = mbest P Q m s) → (x ≤ 8) → 2 ^ m - s < fu → K (mH g o ad (mArr (mArr S 21 fa) 22 fb)) 0 0 19 [some (.ref o), some (.int (nI m)), some (.int (nI x)), some (.int (nI s)), none, none, none, none] [] := by
      intro fu
      induction fu with
      | zero => intro s x hs hx hx8 hm19; exact absurd hm19 (Nat.not_lt_zero _)
      | succ fu19 ih19 =>
        intro s x hs hx hx8 hm19
        refine r_iload_n G dX1_pairs_19 rfl ?_
        refine r_iconst G (v := nI 1) dX1_pairs_20 (by decide) ?_
        refine r_iload_n G dX1_pairs_21 rfl ?_
        refine r_ishl G (v := (nI (1 <<< m))) dX1_pairs_22 (n_shl (by omega)) ?_
        refine r_icmp_ge G 136 (nI_leI (by rw [Nat.one_shiftLeft]; omega) (by omega)) dX1_pairs_23 (by decide) (fun h23 => ?_) (fun h23 => ?_)
        · refine r_iload_n G dX1_pairs_136 rfl ?_
          exact r_iret G rfl ⟨Nat.zero_le _, Nat.zero_le _⟩ dX1_pairs_137 ⟨_, rfl, by rw [aPairs, if_neg h4, hx, show s = 2 ^ m by rw [← Nat.one_shiftLeft] at *; omega, hnu], (mEq.arr S _ (by decide)).tr (mEq.arr _ _ (by decide))⟩
        · have hsm : s < 2 ^ m := by rw [← Nat.one_shiftLeft]; omega
          refine r_iconst G (v := nI 0) dX1_pairs_26 (by decide) ?_
          refine r_istore G (lo' := [some (.ref o), some (.int (nI m)), some (.int (nI x)), some (.int (nI s)), some (.int (nI 0)), none, none, none]) dX1_pairs_27 rfl rfl ?_
          refine r_iconst G (v := nI 1) dX1_pairs_29 (by decide) ?_
          refine r_istore G (lo' := [some (.ref o), some (.int (nI m)), some (.int (nI x)), some (.int (nI s)), some (.int (nI 0)), some (.int (nI 1)), none, none]) dX1_pairs_30 rfl rfl ?_
          refine r_iconst G (v := nI 0) dX1_pairs_32 (by decide) ?_
          refine r_istore G (lo' := [some (.ref o), some (.int (nI m)), some (.int (nI x)), some (.int (nI s)), some (.int (nI 0)), some (.int (nI 1)), some (.int (nI 0)), none]) dX1_pairs_33 rfl rfl ?_
          have L35 : ∀ (fu : Nat) (k : Nat), (k ≤ m) → m - k < fu → K (mH g o ad (mArr (mArr S 21 fa) 22 fb)) 0 0 35 [some (.ref o), some (.int (nI m)), some (.int (nI x)), some (.int (nI s)), some (.int (nI (tkm P Q s k))), some (.int (bI (mt P Q s k))), some (.int (nI k)), none] [] := by
            intro fu
            induction fu with
            | zero => intro k hk hm35; exact absurd hm35 (Nat.not_lt_zero _)
            | succ fu35 ih35 =>
              intro k hk hm35
              refine r_iload G dX1_pairs_35 rfl ?_
              refine r_iload_n G dX1_pairs_37 rfl ?_
              refine r_icmp_ge G 108 (nI_leI (by omega) (by omega)) dX1_pairs_38 (by decide) (fun h38 => ?_) (fun h38 => ?_)
              · have hkm : k = m := by omega
                have hcm : mt P Q s m = mt P Q s k := by rw [hkm]
                refine r_iload G dX1_pairs_108 rfl ?_
                refine r_ifb_eq G 128  dX1_pairs_110 (by decide) (fun h110 => ?_) (fun h110 => ?_)
                · refine r_iload_n G dX1_pairs_128 rfl ?_
                  refine r_istore_n G (lo' := [some (.ref o), some (.int (nI m)), some (.int (nI x)), some (.int (nI s)), some (.int (nI (tkm P Q s k))), some (.int (bI (mt P Q s k))), some (.int (nI k)), none]) dX1_pairs_129 rfl rfl ?_
                  refine r_iinc G (v := (nI (s + 1))) (lo' := [some (.ref o), some (.int (nI m)), some (.int (nI x)), some (.int (nI (s + 1))), some (.int (nI (tkm P Q s k))), some (.int (bI (mt P Q s k))), some (.int (nI k)), none]) dX1_pairs_130 rfl (nI_add s 1) rfl rfl ?_
                  refine r_goto G 19 dX1_pairs_133 (by decide) ?_
                  refine r_drop G 4 (lo' := [some (.ref o), some (.int (nI m)), some (.int (nI x)), some (.int (nI (s + 1))), none, some (.int (bI (mt P Q s k))), some (.int (nI k)), none]) rfl ?_
                  refine r_drop G 5 (lo' := [some (.ref o), some (.int (nI m)), some (.int (nI x)), some (.int (nI (s + 1))), none, none, some (.int (nI k)), none]) rfl ?_
                  refine r_drop G 6 (lo' := [some (.ref o), some (.int (nI m)), some (.int (nI x)), some (.int (nI (s + 1))), none, none, none, none]) rfl ?_
                  exact ih19 _ _ (by omega) (by
                                                            show _ = (if mt P Q s m && decide (mbest P Q m s < cnt s) then cnt s else mbest P Q m s)
                                                            rw [← hx, hcm, h110]; first | rfl | (simp only [Bool.true_and, decide_eq_true_eq]; split <;> omega)) (by first | omega | (have := cnt_le s (by omega); omega)) (by omega)
                · refine r_iload_n G dX1_pairs_113 rfl ?_
                  refine s_callS G [.int (nI s)] (sM_size hE s (by omega)) (lw_S q1331 q1332 q74 q1333) fy_yX1_size rfl ⟨Nat.le_of_ble_eq_true rfl, Nat.le_of_ble_eq_true rfl⟩ rfl (Nat.le_of_ble_eq_true rfl) rfl rfl ⟨Nat.zero_le _, Nat.zero_le _⟩ dX1_pairs_114 ?_
                  refine r_iload_n G dX1_pairs_117 rfl ?_
                  refine r_icmp_le G 128 (nI_leI (by have := cnt_le s (by omega); omega) (by omega)) dX1_pairs_118 (by decide) (fun h118 => ?_) (fun h118 => ?_)
                  · refine r_iload_n G dX1_pairs_128 rfl ?_
                    refine r_istore_n G (lo' := [some (.ref o), some (.int (nI m)), some (.int (nI x)), some (.int (nI s)), some (.int (nI (tkm P Q s k))), some (.int (bI (mt P Q s k))), some (.int (nI k)), none]) dX1_pairs_129 rfl rfl ?_
                    refine r_iinc G (v := (nI (s + 1))) (lo' := [some (.ref o), some (.int (nI m)), some (.int (nI x)), some (.int (nI (s + 1))), some (.int (nI (tkm P Q s k))), some (.int (bI (mt P Q s k))), some (.int (nI k)), none]) dX1_pairs_130 rfl (nI_add s 1) rfl rfl ?_
                    refine r_goto G 19 dX1_pairs_133 (by decide) ?_
                    refine r_drop G 4 (lo' := [some (.ref o), some (.int (nI m)), some (.int (nI x)), some (.int (nI (s + 1))), none, some (.int (bI (mt P Q s k))), some (.int (nI k)), none]) rfl ?_
                    refine r_drop G 5 (lo' := [some (.ref o), some (.int (nI m)), some (.int (nI x)), some (.int (nI (s + 1))), none, none, some (.int (nI k)), none]) rfl ?_
                    refine r_drop G 6 (lo' := [some (.ref o), some (.int (nI m)), some (.int (nI x)), some (.int (nI (s + 1))), none, none, none, none]) rfl ?_
                    exact ih19 _ _ (by omega) (by
                                                            show _ = (if mt P Q s m && decide (mbest P Q m s < cnt s) then cnt s else mbest P Q m s)
                                                            rw [← hx, hcm, h110]; first | rfl | (simp only [Bool.true_and, decide_eq_true_eq]; split <;> omega)) (by first | omega | (have := cnt_le s (by omega); omega)) (by omega)
                  · refine r_iload_n G dX1_pairs_121 rfl ?_
                    refine s_callS G [.int (nI s)] (sM_size hE s (by omega)) (lw_S q1331 q1332 q74 q1333) fy_yX1_size rfl ⟨Nat.le_of_ble_eq_true rfl, Nat.le_of_ble_eq_true rfl⟩ rfl (Nat.le_of_ble_eq_true rfl) rfl rfl ⟨Nat.zero_le _, Nat.zero_le _⟩ dX1_pairs_122 ?_
                    refine r_goto G 129 dX1_pairs_125 (by decide) ?_
                    refine r_istore_n G (lo' := [some (.ref o), some (.int (nI m)), some (.int (nI (cnt s))), some (.int (nI s)), some (.int (nI (tkm P Q s k))), some (.int (bI (mt P Q s k))), some (.int (nI k)), none]) dX1_pairs_129 rfl rfl ?_
                    refine r_iinc G (v := (nI (s + 1))) (lo' := [some (.ref o), some (.int (nI m)), some (.int (nI (cnt s))), some (.int (nI (s + 1))), some (.int (nI (tkm P Q s k))), some (.int (bI (mt P Q s k))), some (.int (nI k)), none]) dX1_pairs_130 rfl (nI_add s 1) rfl rfl ?_
                    refine r_goto G 19 dX1_pairs_133 (by decide) ?_
                    refine r_drop G 4 (lo' := [some (.ref o), some (.int (nI m)), some (.int (nI (cnt s))), some (.int (nI (s + 1))), none, some (.int (bI (mt P Q s k))), some (.int (nI k)), none]) rfl ?_
                    refine r_drop G 5 (lo' := [some (.ref o), some (.int (nI m)), some (.int (nI (cnt s))), some (.int (nI (s + 1))), none, none, some (.int (nI k)), none]) rfl ?_
                    refine r_drop G 6 (lo' := [some (.ref o), some (.int (nI m)), some (.int (nI (cnt s))), some (.int (nI (s + 1))), none, none, none, none]) rfl ?_
                    exact ih19 _ _ (by omega) (by
                                                            show _ = (if mt P Q s m && decide (mbest P Q m s < cnt s) then cnt s else mbest P Q m s)
                                                            rw [← hx, hcm, h110]; first | rfl | (simp only [Bool.true_and, decide_eq_true_eq]; split <;> omega)) (by first | omega | (have := cnt_le s (by omega); omega)) (by omega)
              · refine r_iload G dX1_pairs_41 rfl ?_
                refine r_ifb_eq G 108  dX1_pairs_43 (by decide) (fun h43 => ?_) (fun h43 => ?_)
                · have hcm : mt P Q s m = mt P Q s k := by rw [h43]; exact mt_no h43 m hk
                  refine r_iload G dX1_pairs_108 rfl ?_
                  refine r_ifb_eq G 128  dX1_pairs_110 (by decide) (fun h110 => ?_) (fun h110 => False.elim (Bool.noConfusion (h110.symm.trans h43)))
                  refine r_iload_n G dX1_pairs_128 rfl ?_
                  refine r_istore_n G (lo' := [some (.ref o), some (.int (nI m)), some (.int (nI x)), some (.int (nI s)), some (.int (nI (tkm P Q s k))), some (.int (bI (mt P Q s k))), some (.int (nI k)), none]) dX1_pairs_129 rfl rfl ?_
                  refine r_iinc G (v := (nI (s + 1))) (lo' := [some (.ref o), some (.int (nI m)), some (.int (nI x)), some (.int (nI (s + 1))), some (.int (nI (tkm P Q s k))), some (.int (bI (mt P Q s k))), some (.int (nI k)), none]) dX1_pairs_130 rfl (nI_add s 1) rfl rfl ?_
                  refine r_goto G 19 dX1_pairs_133 (by decide) ?_
                  refine r_drop G 4 (lo' := [some (.ref o), some (.int (nI m)), some (.int (nI x)), some (.int (nI (s + 1))), none, some (.int (bI (mt P Q s k))), some (.int (nI k)), none]) rfl ?_
                  refine r_drop G 5 (lo' := [some (.ref o), some (.int (nI m)), some (.int (nI x)), some (.int (nI (s + 1))), none, none, some (.int (nI k)), none]) rfl ?_
                  refine r_drop G 6 (lo' := [some (.ref o), some (.int (nI m)), some (.int (nI x)), some (.int (nI (s + 1))), none, none, none, none]) rfl ?_
                  exact ih19 _ _ (by omega) (by
                                                            show _ = (if mt P Q s m && decide (mbest P Q m s < cnt s) then cnt s else mbest P Q m s)
                                                            rw [← hx, hcm, h110]; first | rfl | (simp only [Bool.true_and, decide_eq_true_eq]; split <;> omega)) (by first | omega | (have := cnt_le s (by omega); omega)) (by omega)
                · refine r_iload_n G dX1_pairs_46 rfl ?_
                  refine r_iload G dX1_pairs_47 rfl ?_
                  refine s_callS G [.int (nI s), .int (nI k)] (sM_isOf hE s k (by omega) (by omega)) (lw_S q1312 q1313 q74 q1314) fy_yX1_isOf rfl ⟨Nat.le_of_ble_eq_true rfl, Nat.le_of_ble_eq_true rfl⟩ rfl (Nat.le_of_ble_eq_true rfl) rfl rfl ⟨Nat.zero_le _, Nat.zero_le _⟩ dX1_pairs_49 ?_
                  refine r_ifb_eq G 77  dX1_pairs_52 (by decide) (fun h52 => ?_) (fun h52 => ?_)
                  · refine r_iconst G (v := nI 0) dX1_pairs_77 (by decide) ?_
                    have heb : (0 : Nat) = eb P Q s k := (if_neg (by rw [h52]; decide)).symm
                    rw [show nI (0) = nI (eb P Q s k) from congrArg nI heb]
                    refine r_istore G (lo' := [some (.ref o), some (.int (nI m)), some (.int (nI x)), some (.int (nI s)), some (.int (nI (tkm P Q s k))), some (.int (bI (mt P Q s k))), some (.int (nI k)), some (.int (nI (eb P Q s k)))]) dX1_pairs_78 rfl rfl ?_
                    refine r_iload G dX1_pairs_80 rfl ?_
                    refine r_iload G dX1_pairs_82 rfl ?_
                    refine r_iand G (v := (nI ((tkm P Q s k) &&& (eb P Q s k)))) dX1_pairs_84 (n_and (tkm P Q s k) (eb P Q s k)) ?_
                    refine r_if_ne G 92 (n_eq0 (Nat.lt_of_le_of_lt Nat.and_le_left (Nat.lt_trans (tkm_lt hPQ' (by omega)) (by decide)))) dX1_pairs_85 (by decide) (fun h85 => ?_) (fun h85 => ?_)
                    · refine r_iconst G (v := nI 0) dX1_pairs_92 (by decide) ?_
                      have hmt : mt P Q s (k + 1) = false := by rw [mt_s, h43, decide_eq_false h85]; rfl
                      rw [show nI 0 = bI (mt P Q s (k + 1)) from by rw [hmt]; rfl]
                      refine r_istore G (lo' := [some (.ref o), some (.int (nI m)), some (.int (nI x)), some (.int (nI s)), some (.int (nI (tkm P Q s k))), some (.int (bI (mt P Q s (k + 1)))), some (.int (nI k)), some (.int (nI (eb P Q s k)))]) dX1_pairs_93 rfl rfl ?_
                      refine r_iload G dX1_pairs_95 rfl ?_
                      refine r_iload G dX1_pairs_97 rfl ?_
                      refine r_ior G (v := (nI ((tkm P Q s k) ||| (eb P Q s k)))) dX1_pairs_99 (n_or (tkm P Q s k) (eb P Q s k)) ?_
                      refine r_istore G (lo' := [some (.ref o), some (.int (nI m)), some (.int (nI x)), some (.int (nI s)), some (.int (nI ((tkm P Q s k) ||| (eb P Q s k)))), some (.int (bI (mt P Q s (k + 1)))), some (.int (nI k)), some (.int (nI (eb P Q s k)))]) dX1_pairs_100 rfl rfl ?_
                      refine r_iinc G (v := (nI (k + 1))) (lo' := [some (.ref o), some (.int (nI m)), some (.int (nI x)), some (.int (nI s)), some (.int (nI ((tkm P Q s k) ||| (eb P Q s k)))), some (.int (bI (mt P Q s (k + 1)))), some (.int (nI (k + 1))), some (.int (nI (eb P Q s k)))]) dX1_pairs_102 rfl (nI_add k 1) rfl rfl ?_
                      refine r_goto G 35 dX1_pairs_105 (by decide) ?_
                      refine r_drop G 7 (lo' := [some (.ref o), some (.int (nI m)), some (.int (nI x)), some (.int (nI s)), some (.int (nI ((tkm P Q s k) ||| (eb P Q s k)))), some (.int (bI (mt P Q s (k + 1)))), some (.int (nI (k + 1))), none]) rfl ?_
                      exact ih35 (k + 1) (by omega) (by omega)
                    · refine r_iconst G (v := nI 1) dX1_pairs_88 (by decide) ?_
                      refine r_goto G 93 dX1_pairs_89 (by decide) ?_
                      have hmt : mt P Q s (k + 1) = true := by rw [mt_s, h43, decide_eq_true h85]; rfl
                      rw [show nI 1 = bI (mt P Q s (k + 1)) from by rw [hmt]; rfl]
                      refine r_istore G (lo' := [some (.ref o), some (.int (nI m)), some (.int (nI x)), some (.int (nI s)), some (.int (nI (tkm P Q s k))), some (.int (bI (mt P Q s (k + 1)))), some (.int (nI k)), some (.int (nI (eb P Q s k)))]) dX1_pairs_93 rfl rfl ?_
                      refine r_iload G dX1_pairs_95 rfl ?_
                      refine r_iload G dX1_pairs_97 rfl ?_
                      refine r_ior G (v := (nI ((tkm P Q s k) ||| (eb P Q s k)))) dX1_pairs_99 (n_or (tkm P Q s k) (eb P Q s k)) ?_
                      refine r_istore G (lo' := [some (.ref o), some (.int (nI m)), some (.int (nI x)), some (.int (nI s)), some (.int (nI ((tkm P Q s k) ||| (eb P Q s k)))), some (.int (bI (mt P Q s (k + 1)))), some (.int (nI k)), some (.int (nI (eb P Q s k)))]) dX1_pairs_100 rfl rfl ?_
                      refine r_iinc G (v := (nI (k + 1))) (lo' := [some (.ref o), some (.int (nI m)), some (.int (nI x)), some (.int (nI s)), some (.int (nI ((tkm P Q s k) ||| (eb P Q s k)))), some (.int (bI (mt P Q s (k + 1)))), some (.int (nI (k + 1))), some (.int (nI (eb P Q s k)))]) dX1_pairs_102 rfl (nI_add k 1) rfl rfl ?_
                      refine r_goto G 35 dX1_pairs_105 (by decide) ?_
                      refine r_drop G 7 (lo' := [some (.ref o), some (.int (nI m)), some (.int (nI x)), some (.int (nI s)), some (.int (nI ((tkm P Q s k) ||| (eb P Q s k)))), some (.int (bI (mt P Q s (k + 1)))), some (.int (nI (k + 1))), none]) rfl ?_
                      exact ih35 (k + 1) (by omega) (by omega)
                  · refine r_iconst G (v := nI 1) dX1_pairs_55 (by decide) ?_
                    refine r_aload_n G dX1_pairs_56 rfl ?_
                    refine m_geta G 21 (by decide) q1211 rfl dX1_pairs_57 ?_
                    refine r_iload G dX1_pairs_60 rfl ?_
                    refine m_ald G hD 21 (by decide) (by simp only [mN]; omega) (v := (nI (P k))) (hPQ k (by omega)).1 dX1_pairs_62 ?_
                    refine r_ishl G (v := (nI (1 <<< (P k)))) dX1_pairs_63 (n_shl (by have := hPQ' k (by omega); omega)) ?_
                    refine r_iconst G (v := nI 1) dX1_pairs_64 (by decide) ?_
                    refine r_aload_n G dX1_pairs_65 rfl ?_
                    refine m_geta G 22 (by decide) q1212 rfl dX1_pairs_66 ?_
                    refine r_iload G dX1_pairs_69 rfl ?_
                    refine m_ald G hD 22 (by decide) (by simp only [mN]; omega) (v := (nI (Q k))) (hPQ k (by omega)).2.1 dX1_pairs_71 ?_
                    refine r_ishl G (v := (nI (1 <<< (Q k)))) dX1_pairs_72 (n_shl (by have := hPQ' k (by omega); omega)) ?_
                    refine r_ior G (v := (nI ((1 <<< (P k)) ||| (1 <<< (Q k))))) dX1_pairs_73 (n_or (1 <<< (P k)) (1 <<< (Q k))) ?_
                    refine r_goto G 78 dX1_pairs_74 (by decide) ?_
                    have heb : (1 <<< (P k)) ||| (1 <<< (Q k)) = eb P Q s k := (if_pos h52).symm
                    rw [show nI ((1 <<< (P k)) ||| (1 <<< (Q k))) = nI (eb P Q s k) from congrArg nI heb]
                    refine r_istore G (lo' := [some (.ref o), some (.int (nI m)), some (.int (nI x)), some (.int (nI s)), some (.int (nI (tkm P Q s k))), some (.int (bI (mt P Q s k))), some (.int (nI k)), some (.int (nI (eb P Q s k)))]) dX1_pairs_78 rfl rfl ?_
                    refine r_iload G dX1_pairs_80 rfl ?_
                    refine r_iload G dX1_pairs_82 rfl ?_
                    refine r_iand G (v := (nI ((tkm P Q s k) &&& (eb P Q s k)))) dX1_pairs_84 (n_and (tkm P Q s k) (eb P Q s k)) ?_
                    refine r_if_ne G 92 (n_eq0 (Nat.lt_of_le_of_lt Nat.and_le_left (Nat.lt_trans (tkm_lt hPQ' (by omega)) (by decide)))) dX1_pairs_85 (by decide) (fun h85 => ?_) (fun h85 => ?_)
                    · refine r_iconst G (v := nI 0) dX1_pairs_92 (by decide) ?_
                      have hmt : mt P Q s (k + 1) = false := by rw [mt_s, h43, decide_eq_false h85]; rfl
                      rw [show nI 0 = bI (mt P Q s (k + 1)) from by rw [hmt]; rfl]
                      refine r_istore G (lo' := [some (.ref o), some (.int (nI m)), some (.int (nI x)), some (.int (nI s)), some (.int (nI (tkm P Q s k))), some (.int (bI (mt P Q s (k + 1)))), some (.int (nI k)), some (.int (nI (eb P Q s k)))]) dX1_pairs_93 rfl rfl ?_
                      refine r_iload G dX1_pairs_95 rfl ?_
                      refine r_iload G dX1_pairs_97 rfl ?_
                      refine r_ior G (v := (nI ((tkm P Q s k) ||| (eb P Q s k)))) dX1_pairs_99 (n_or (tkm P Q s k) (eb P Q s k)) ?_
                      refine r_istore G (lo' := [some (.ref o), some (.int (nI m)), some (.int (nI x)), some (.int (nI s)), some (.int (nI ((tkm P Q s k) ||| (eb P Q s k)))), some (.int (bI (mt P Q s (k + 1)))), some (.int (nI k)), some (.int (nI (eb P Q s k)))]) dX1_pairs_100 rfl rfl ?_
                      refine r_iinc G (v := (nI (k + 1))) (lo' := [some (.ref o), some (.int (nI m)), some (.int (nI x)), some (.int (nI s)), some (.int (nI ((tkm P Q s k) ||| (eb P Q s k)))), some (.int (bI (mt P Q s (k + 1)))), some (.int (nI (k + 1))), some (.int (nI (eb P Q s k)))]) dX1_pairs_102 rfl (nI_add k 1) rfl rfl ?_
                      refine r_goto G 35 dX1_pairs_105 (by decide) ?_
                      refine r_drop G 7 (lo' := [some (.ref o), some (.int (nI m)), some (.int (nI x)), some (.int (nI s)), some (.int (nI ((tkm P Q s k) ||| (eb P Q s k)))), some (.int (bI (mt P Q s (k + 1)))), some (.int (nI (k + 1))), none]) rfl ?_
                      exact ih35 (k + 1) (by omega) (by omega)
                    · refine r_iconst G (v := nI 1) dX1_pairs_88 (by decide) ?_
                      refine r_goto G 93 dX1_pairs_89 (by decide) ?_
                      have hmt : mt P Q s (k + 1) = true := by rw [mt_s, h43, decide_eq_true h85]; rfl
                      rw [show nI 1 = bI (mt P Q s (k + 1)) from by rw [hmt]; rfl]
                      refine r_istore G (lo' := [some (.ref o), some (.int (nI m)), some (.int (nI x)), some (.int (nI s)), some (.int (nI (tkm P Q s k))), some (.int (bI (mt P Q s (k + 1)))), some (.int (nI k)), some (.int (nI (eb P Q s k)))]) dX1_pairs_93 rfl rfl ?_
                      refine r_iload G dX1_pairs_95 rfl ?_
                      refine r_iload G dX1_pairs_97 rfl ?_
                      refine r_ior G (v := (nI ((tkm P Q s k) ||| (eb P Q s k)))) dX1_pairs_99 (n_or (tkm P Q s k) (eb P Q s k)) ?_
                      refine r_istore G (lo' := [some (.ref o), some (.int (nI m)), some (.int (nI x)), some (.int (nI s)), some (.int (nI ((tkm P Q s k) ||| (eb P Q s k)))), some (.int (bI (mt P Q s (k + 1)))), some (.int (nI k)), some (.int (nI (eb P Q s k)))]) dX1_pairs_100 rfl rfl ?_
                      refine r_iinc G (v := (nI (k + 1))) (lo' := [some (.ref o), some (.int (nI m)), some (.int (nI x)), some (.int (nI s)), some (.int (nI ((tkm P Q s k) ||| (eb P Q s k)))), some (.int (bI (mt P Q s (k + 1)))), some (.int (nI (k + 1))), some (.int (nI (eb P Q s k)))]) dX1_pairs_102 rfl (nI_add k 1) rfl rfl ?_
                      refine r_goto G 35 dX1_pairs_105 (by decide) ?_
                      refine r_drop G 7 (lo' := [some (.ref o), some (.int (nI m)), some (.int (nI x)), some (.int (nI s)), some (.int (nI ((tkm P Q s k) ||| (eb P Q s k)))), some (.int (bI (mt P Q s (k + 1)))), some (.int (nI (k + 1))), none]) rfl ?_
                      exact ih35 (k + 1) (by omega) (by omega)
          exact L35 (m + 1) 0 (Nat.zero_le _) (by omega)
    exact L19 (2 ^ m + 1) 0 0 (Nat.zero_le _) rfl (by omega) (Nat.lt_succ_of_le (Nat.sub_le _ _))
  · refine r_bipush G (v := -3) dX1_pairs_7 (by decide) ?_
    exact r_iret G rfl ⟨Nat.zero_le _, Nat.zero_le _⟩ dX1_pairs_9 ⟨_, rfl, by rw [aPairs, if_pos h4], mEq.rf _⟩
end MM15
