/-! the component: kinds -/
set_option maxRecDepth 100000
section XX26
theorem xP.put {g : fG} {f : fH} {o : Nat} {L : xLs} {pa kd ld tw : Nat → Nat} {lk tk : Nat → Int32} (h : xP g f o L pa kd ld tw lk tk) {j : Nat} (hj : j < L.n) {f' : fH} {el : Nat → Option Nat} {q k : Nat} (hL : xL g f' (mkL L.a L.ea L.mc L.cap L.n el)) (hel : ∀ x, x ≠ j → el x = L.el x) (hej : el j = some q) (kx : ∀ p, p < L.n → ∀ e, f (pa p) = some e → f' (pa p) = some e) (hq : f' q = some (.inr (3 + k, pO k o (ld j) (tw j) (nI 0) (nI 0)))) (hk : k ≤ 2) (hqn : ∀ p, p < L.n → pa p ≠ q) : xP g f' o (mkL L.a L.ea L.mc L.cap L.n el) (fup pa j q) (fup kd j k) ld tw (upd lk j (nI 0)) (upd tk j (nI 0)) := by
  refine ⟨hL, h.2.1, fun p hp p' hp' e => ?_, fun p hp => ?_⟩
  · have hp : p < L.n := hp
    have hp' : p' < L.n := hp'
    by_cases z : p = j
    · by_cases z' : p' = j
      · omega
      · rw [z, fup_s, fup_n z'] at e
        exact absurd e.symm (hqn p' hp')
    · by_cases z' : p' = j
      · rw [z', fup_s, fup_n z] at e
        exact absurd e (hqn p hp)
      · rw [fup_n z, fup_n z'] at e
        exact h.2.2.1 p hp p' hp' e
  · have hp : p < L.n := hp
    by_cases z : p = j
    · subst z
      rw [fup_s, fup_s, pk_us, pk_us]
      exact ⟨hej, hq, hk, h.ld9 hp, h.twl hp⟩
    · rw [fup_n z, fup_n z, pk_un z, pk_un z]
      obtain ⟨r1, r2, r3⟩ := h.2.2.2 p hp
      exact ⟨(hel p z).trans r1, kx p hp _ r2, r3⟩
set_option maxHeartbeats 4000000 in
theorem xM_X0_kinds {l : Launch} {g : fG} {A : Nat → Prop} {En : State → Prop} {zd : Nat} (hX : fX zd g A En) {f : fH} {o : Nat} {tr gr fa : Int32} {rn sh : Nat} {L R : xLs} {pa kd ld tw : Nat → Nat} {lk tk : Nat → Int32} (hO : f o = some (.inr (1, xF tr gr L.a rn R.a fa sh))) (hP : xP g f o L pa kd ld tw lk tk) {pr ra rb rw : Nat → Nat} (hRd : xRd g f R pr L.n ra rb rw) {d : Nat → Nat → Nat} (hT : L.n ≠ 0 → 2 ≤ L.n ∧ TM L.n tw d) (hAp : ∀ p, p < L.n → A (pa p)) (hAo : A o) (hAL : xA A L) (hLR : L.a ≠ R.a) (hLRe : L.ea = R.ea → L.cap = 0 ∧ R.cap = 0) (p : Int32): fC l g A En yX0_kinds cX0_kinds 5 (some .int) (xR 14 3 21) [.ref o, .int p] f (fun v f' => f' = f ∧ v = some (.int (aKinds L.n kd ld d R.n ra rb rw p))) := by
  have hE := hX.E
  refine fC.of (by decide) hX.E [some (.ref o), some (.int p), none, none, none] rfl rfl (fun K G => ?_)
  have G : fGood l g A En RX0 "kinds" cX0_kinds 5 (some .int) (xR 14 3 21) _ K := G
  have hn8 := hP.2.1
  refine r_aload_n G dX0_kinds_0 rfl ?_
  refine r_iload_n G dX0_kinds_1 rfl ?_
  refine s_callV (b := o) G [.int p] (xM_X0_noPost hX hO hP p) (lw_V q168 q170 qs0 q70 q171) fy_yX0_noPost rfl ⟨by simp only [fR, xR] <;> omega, by simp only [fR, xR] <;> omega⟩ (fs := [.int tr, .int gr, .ref L.a, .ref rn, .ref R.a, .int fa, .ref sh]) hO (ci := 1) rfl rfl rfl (Nat.le_of_ble_eq_true rfl) rfl rfl ⟨by simp only [fR, xR] <;> omega, by simp only [fR, xR] <;> omega⟩ dX0_kinds_2 ?_
  show K f 0 0 5 [some (.ref o), some (.int p), none, none, none] [.int (bI (!isP L.n p))]
  refine r_ifb_eq G 10  dX0_kinds_5 (by decide) (fun h5 => ?_) (fun h5 => ?_)
  · have q5 : isP L.n p = true := nt_f h5
    obtain ⟨jp, hjp, rfl⟩ := isP_t (by omega) q5
    have ejp : ix (nI jp) = jp := ix_nI (by omega)
    obtain ⟨h2n, T⟩ := hT (by omega)
    refine r_aload_n G dX0_kinds_10 rfl ?_
    refine r_getf G xCl1 (fs := [.int tr, .int gr, .ref L.a, .ref rn, .ref R.a, .int fa, .ref sh]) hO 2 (by decide) q142 rfl rfl dX0_kinds_11 ?_
    refine r_iload_n G dX0_kinds_14 rfl ?_
    refine s_callF (b := L.a) G [.int (nI jp)] (xM_J2_get hX hP.1 jp hjp) (lw_F q186 q189 q191 q73 q193) (hX.fw 1 _ rfl) fx_1 rfl ⟨by simp only [fR, xR] <;> omega, by simp only [fR, xR] <;> omega⟩ (fs := [.int L.mc, .ref L.ea, .int (nI L.n)]) hP.1.1 (ci := 2) rfl rfl (Nat.le_of_ble_eq_true rfl) rfl rfl ⟨by simp only [fR, xR] <;> omega, by simp only [fR, xR] <;> omega⟩ dX0_kinds_15 ?_
    show K f 0 0 20 [some (.ref o), some (.int (nI jp)), none, none, none] [va_rf ((L.el jp))]
    rw [show va_rf (L.el jp) = .ref (pa jp) from by rw [(hP.2.2.2 jp hjp).1]; rfl]
    refine r_castP hX G (hP.2.2.2 jp hjp).2.2.1 (hP.2.2.2 jp hjp).2.1 q204 dX0_kinds_20 ?_
    refine r_astore_n G (lo' := [some (.ref o), some (.int (nI jp)), some (.ref (pa jp)), none, none]) dX0_kinds_23 rfl rfl ?_
    refine r_iconst G (v := nI 0) dX0_kinds_24 (by decide) ?_
    refine r_istore_n G (lo' := [some (.ref o), some (.int (nI jp)), some (.ref (pa jp)), some (.int (nI 0)), none]) dX0_kinds_25 rfl rfl ?_
    refine r_iconst G (v := nI 0) dX0_kinds_26 (by decide) ?_
    refine r_istore G (lo' := [some (.ref o), some (.int (nI jp)), some (.ref (pa jp)), some (.int (nI 0)), some (.int (nI 0))]) dX0_kinds_27 rfl rfl ?_
    have hk2 := hP.kd2 hjp
    have hld := hP.ld9 hjp
    have htw := hP.t8 jp hjp
    have hob := hP.ob hjp
    have hoL : o ≠ L.a := fun z => by rw [z, hP.1.1] at hO; cases hO
    have hoE : o ≠ L.ea := fun z => by rw [z, hP.1.2.1] at hO; cases hO
    have hpL : ∀ p, p < L.n → pa p ≠ L.a := fun p hp z => by have h9 := hP.ob hp; rw [z, hP.1.1] at h9; simp only [Option.some.injEq, Sum.inr.injEq, Prod.mk.injEq] at h9; omega
    have hpE : ∀ p, p < L.n → pa p ≠ L.ea := fun p hp z => by have h9 := hP.ob hp; rw [z, hP.1.2.1] at h9; cases h9
    have L29 : ∀ (fu x m : Nat) (el : Nat → Option Nat) (fx : fH), (xLop g A f fx L (mkL L.a L.ea L.mc L.cap L.n el)) → (∀ y, y ≠ jp → el y = L.el y) → (x ≤ 3) → (m = setN x (fun v => sso L.n (fup kd jp v) ld d R.n ra rb rw)) → 3 - x < fu → K fx x (7 * x) 29 [some (.ref o), some (.int (nI jp)), some (.ref (pa jp)), some (.int (nI m)), some (.int (nI x))] [] := by
      intro fu
      induction fu with
      | zero => intro x m el fx hop hel hx hm hm29; exact absurd hm29 (Nat.not_lt_zero _)
      | succ fu29 ih29 =>
        intro x m el fx hop hel hx hm hm29
        have kx : ∀ y e, y ≠ L.a → y ≠ L.ea → f y = some e → fx y = some e := fun y e n1 n2 hy => hop.2.2.2.2 y e n1 (fun z => absurd z n2) hy
        have hOx := kx _ _ hoL hoE hO
        have hpx := kx _ _ (hpL jp hjp) (hpE jp hjp) hob
        refine r_iload G dX0_kinds_29 rfl ?_
        refine r_iconst G (v := nI 3) dX0_kinds_31 (by decide) ?_
        refine r_icmp_ge G 84 (nI_leI (by decide) (by omega)) dX0_kinds_32 (by decide) (fun h32 => ?_) (fun h32 => ?_)
        · obtain ⟨r, hr1, hr2⟩ := po_cast hX hk2
          refine r_aload_n G dX0_kinds_84 rfl ?_
          refine r_getf G xCl1 (fs := [.int tr, .int gr, .ref L.a, .ref rn, .ref R.a, .int fa, .ref sh]) hOx 2 (by decide) q142 rfl rfl dX0_kinds_85 ?_
          refine r_iload_n G dX0_kinds_88 rfl ?_
          refine r_aload_n G dX0_kinds_89 rfl ?_
          refine r_callF (b := L.a) G [.int (nI jp), .ref (pa jp)] (xM_J2_set hX (L := (mkL L.a L.ea L.mc L.cap L.n el)) hop.1 hop.2.1 jp hjp (pa jp) hpx hr1 hr2) (lw_F q584 q587 q589 q73 q591) (hX.fw 5 _ rfl) fx_5 rfl ⟨by simp only [fR, xR] <;> omega, by simp only [fR, xR] <;> omega⟩ (fs := [.int L.mc, .ref L.ea, .int (nI L.n)]) hop.1.1 (ci := 2) rfl rfl (Nat.le_of_ble_eq_true rfl) rfl rfl ⟨by simp only [fR, xR] <;> omega, by simp only [fR, xR] <;> omega⟩ dX0_kinds_90 (fun v90 f90 hp90 => ?_)
          obtain ⟨rfl, L4, hL4, hop4⟩ := hp90
          have hL4 : L4 = mkL L.a L.ea L.mc L.cap L.n (va_up el jp (some (pa jp))) := hL4
          have hee : va_up el jp (some (pa jp)) = L.el := by
            funext y
            by_cases z : y = jp
            · subst z; rw [va_up_s]; exact (hP.2.2.2 y hjp).1.symm
            · rw [va_up_n z]; exact hel y z
          rw [hee] at hL4
          subst hL4
          have hop5 := hop.tr hop4
          have kf : ∀ y e, f y = some e → f90 y = some e := fun y e hy => by
            by_cases z : y = L.a
            · rw [z] at hy ⊢; exact (hop5.1.1.trans hP.1.1.symm).trans hy
            · by_cases z' : y = L.ea
              · rw [z'] at hy ⊢; exact (hop5.1.2.1.trans hP.1.2.1.symm).trans hy
              · exact hop5.2.2.2.2 y e z (fun h => absurd h z') hy
          refine r_sub G (f' := f) kf ?_
          show K f x ((7 * x)) 95 [some (.ref o), some (.int (nI jp)), some (.ref (pa jp)), some (.int (nI m)), some (.int (nI x))] [va_rf ((el jp))]
          refine r_pop G dX0_kinds_95 (rf_cat _) ?_
          refine r_iload_n G dX0_kinds_96 rfl ?_
          exact r_iret G rfl ⟨by simp only [fR, xR] <;> omega, by simp only [fR, xR] <;> omega⟩ dX0_kinds_97 ⟨rfl, by obtain rfl : x = 3 := (by omega); rw [aKinds, q5, ejp, hm]; rfl⟩
        · refine r_aload_n G dX0_kinds_35 rfl ?_
          refine r_getf G xCl1 (fs := [.int tr, .int gr, .ref L.a, .ref rn, .ref R.a, .int fa, .ref sh]) hOx 2 (by decide) q142 rfl rfl dX0_kinds_36 ?_
          refine r_iload_n G dX0_kinds_39 rfl ?_
          refine r_aload_n G dX0_kinds_40 rfl ?_
          refine r_iload G dX0_kinds_41 rfl ?_
          refine r_aload_n G dX0_kinds_43 rfl ?_
          refine r_pget G hk2 (he := hpx) 0 (by decide) q536 pO_g0 dX0_kinds_44 ?_
          refine r_aload_n G dX0_kinds_47 rfl ?_
          refine r_pget G hk2 (he := hpx) 1 (by decide) q538 pO_g1 dX0_kinds_48 ?_
          refine r_callV (b := o) G [.int (nI x), .int (nI (ld jp)), .int (nI (tw jp))] (xM_X0_madeOf hX x (ld jp) (tw jp) (by omega)) (lw_V q521 q523 qs24 q70 q524) fy_yX0_madeOf rfl ⟨by simp only [fR, xR] <;> omega, by simp only [fR, xR] <;> omega⟩ (fs := [.int tr, .int gr, .ref L.a, .ref rn, .ref R.a, .int fa, .ref sh]) hOx (ci := 1) rfl rfl rfl (Nat.le_of_ble_eq_true rfl) (cs' := x + 1) (ss' := (7 * x) + 7) rfl rfl ⟨by simp only [fR, xR] <;> omega, by simp only [fR, xR] <;> omega⟩ dX0_kinds_51 (fun v51 f51 hp51 => ?_)
          obtain ⟨q51, rfl, hq51, hAq51, rfl⟩ := hp51
          have k2 : ∀ y e, fx y = some e → (fU fx q51 (.inr (3 + x, pO x o (ld jp) (tw jp) (nI 0) (nI 0)))) y = some e := fun y e he => kp.new (Q := fun _ _ => True) _ hq51 y e trivial he
          have hq2 : (fU fx q51 (.inr (3 + x, pO x o (ld jp) (tw jp) (nI 0) (nI 0)))) q51 = some (.inr (3 + x, pO x o (ld jp) (tw jp) (nI 0) (nI 0))) := fU_s _ _ _
          obtain ⟨r, hr1, hr2⟩ := po_cast hX (show x ≤ 2 by omega)
          have hL2 := hop.1.kp k2
          show K (fU fx q51 (.inr (3 + x, pO x o (ld jp) (tw jp) (nI 0) (nI 0)))) (x + 1) ((7 * x) + 7) 54 [some (.ref o), some (.int (nI jp)), some (.ref (pa jp)), some (.int (nI m)), some (.int (nI x))] [.ref q51, .int (nI jp), .ref L.a]
          refine r_callF (b := L.a) G [.int (nI jp), .ref q51] (xM_J2_set hX (L := (mkL L.a L.ea L.mc L.cap L.n el)) hL2 hop.2.1 jp hjp q51 hq2 hr1 hr2) (lw_F q584 q587 q589 q73 q591) (hX.fw 5 _ rfl) fx_5 rfl ⟨by simp only [fR, xR] <;> omega, by simp only [fR, xR] <;> omega⟩ (fs := [.int L.mc, .ref L.ea, .int (nI L.n)]) hL2.1 (ci := 2) rfl rfl (Nat.le_of_ble_eq_true rfl) rfl rfl ⟨by simp only [fR, xR] <;> omega, by simp only [fR, xR] <;> omega⟩ dX0_kinds_54 (fun v54 f54 hp54 => ?_)
          obtain ⟨rfl, L3, hL3, hop3⟩ := hp54
          have hL3 : L3 = (mkL L.a L.ea L.mc L.cap L.n (va_up el jp (some q51))) := hL3
          subst hL3
          have k3 : ∀ y e, y ≠ L.a → y ≠ L.ea → f y = some e → f54 y = some e := fun y e n1 n2 hy => hop3.2.2.2.2 y e n1 (fun z => absurd z n2) (k2 y e (kx y e n1 n2 hy))
          have hqL : q51 ≠ L.a := fun z => by have h9 : fx L.a = _ := hop.1.1; rw [← z, hq51] at h9; cases h9
          have hqE : q51 ≠ L.ea := fun z => by have h9 : fx L.ea = _ := hop.1.2.1; rw [← z, hq51] at h9; cases h9
          have hO3 := k3 _ _ hoL hoE hO
          have hq3 := hop3.2.2.2.2 _ _ hqL (fun z => absurd z hqE) hq2
          have hP3 := hP.put hjp hop3.1 (fun y hy => by rw [va_up_n hy]; exact hel y hy) va_up_s (fun y hy e he => k3 _ _ (hpL y hy) (hpE y hy) he) hq3 (show x ≤ 2 by omega) (fun y hy z => by have h9 := kx _ _ (hpL y hy) (hpE y hy) (hP.ob hy); rw [z, hq51] at h9; cases h9)
          have hRL : ∀ y e, (cE e = 2 ∨ cE e = 21 ∨ cE e = 8) → (y = R.a ∨ y = R.ea ∨ cE e = 8) → f y = some e → f54 y = some e := fun y e _ hc hy => by
            rcases hc with rfl | rfl | hc
            · exact k3 _ _ (fun z => hLR z.symm) (ne_el hRd.1 hP.1) hy
            · rcases Classical.em (R.ea = L.ea) with z | z
              · exact hop3.2.2.2.2 _ _ (fun y => ne_el hP.1 hRd.1 y.symm) (fun _ => (hLRe z.symm).1) (k2 _ _ (hop.2.2.2.2 _ _ (fun y => ne_el hP.1 hRd.1 y.symm) (fun _ => (hLRe z.symm).1) hy))
              · exact k3 _ _ (fun y => ne_el hP.1 hRd.1 y.symm) z hy
            · exact k3 _ _ (fun z => by rw [z, hP.1.1] at hy; cases hy; exact absurd hc (show ¬ (2 : Nat) = 8 by decide)) (fun z => by rw [z, hP.1.2.1] at hy; cases hy; exact absurd hc (show ¬ (21 : Nat) = 8 by decide)) hy
          have hRd3 : xRd g f54 R pr L.n ra rb rw := ⟨⟨hRL _ _ (Or.inl rfl) (Or.inl rfl) hRd.1.1, hRL _ _ (Or.inr (Or.inl rfl)) (Or.inr (Or.inl rfl)) hRd.1.2.1, hRd.1.2.2⟩, hRd.2.1, fun y hy => ⟨(hRd.2.2 y hy).1, hRL _ _ (Or.inr (Or.inr rfl)) (Or.inr (Or.inr rfl)) (hRd.2.2 y hy).2.1, (hRd.2.2 y hy).2.2⟩⟩
          show K f54 (x + 1) ((7 * x) + 7) 59 [some (.ref o), some (.int (nI jp)), some (.ref (pa jp)), some (.int (nI m)), some (.int (nI x))] [va_rf ((el jp))]
          refine r_pop G dX0_kinds_59 (rf_cat _) ?_
          refine r_iload_n G dX0_kinds_60 rfl ?_
          refine r_aload_n G dX0_kinds_61 rfl ?_
          refine s_callV (b := o) G [] (xM_X0_areSo hX (L := (mkL L.a L.ea L.mc L.cap L.n (va_up el jp (some q51)))) hO3 hP3 hRd3 T) (lw_V q513 q515 qs23 q70 q516) fy_yX0_areSo rfl ⟨by simp only [fR, xR] <;> omega, by simp only [fR, xR] <;> omega⟩ (fs := [.int tr, .int gr, .ref L.a, .ref rn, .ref R.a, .int fa, .ref sh]) hO3 (ci := 1) rfl rfl rfl (Nat.le_of_ble_eq_true rfl) rfl rfl ⟨by simp only [fR, xR] <;> omega, by simp only [fR, xR] <;> omega⟩ dX0_kinds_62 ?_
          show K f54 (x + 1) ((7 * x) + 7) 65 [some (.ref o), some (.int (nI jp)), some (.ref (pa jp)), some (.int (nI m)), some (.int (nI x))] [.int (bI (sso L.n (fup kd jp x) ld d R.n ra rb rw)), .int (nI m)]
          refine r_ifb_eq G 75  dX0_kinds_65 (by decide) (fun h65 => ?_) (fun h65 => ?_)
          · refine r_iconst G (v := nI 0) dX0_kinds_75 (by decide) ?_
            refine r_ior G (v := (nI (m ||| 0))) dX0_kinds_76 (n_or m 0) ?_
            refine r_istore_n G (lo' := [some (.ref o), some (.int (nI jp)), some (.ref (pa jp)), some (.int (nI (m ||| 0))), some (.int (nI x))]) dX0_kinds_77 rfl rfl ?_
            refine r_iinc G (v := (nI (x + 1))) (lo' := [some (.ref o), some (.int (nI jp)), some (.ref (pa jp)), some (.int (nI (m ||| 0))), some (.int (nI (x + 1)))]) dX0_kinds_78 rfl (nI_add x 1) rfl rfl ?_
            refine r_goto G 29 dX0_kinds_81 (by decide) ?_
            rw [show 7 * x + 7 = 7 * (x + 1) from by omega]
            exact ih29 _ _ _ _ (hop.tr (xLop.pre hq51 hop3)) (fun y hy => by rw [va_up_n hy]; exact hel y hy) (by omega) (by rw [setN_s, hm, h65]; simp) (by omega)
          · refine r_iconst G (v := nI 1) dX0_kinds_68 (by decide) ?_
            refine r_iload G dX0_kinds_69 rfl ?_
            refine r_ishl G (v := (nI (1 <<< x))) dX0_kinds_71 (n_shl (by omega)) ?_
            refine r_goto G 76 dX0_kinds_72 (by decide) ?_
            refine r_ior G (v := (nI (m ||| (1 <<< x)))) dX0_kinds_76 (n_or m (1 <<< x)) ?_
            refine r_istore_n G (lo' := [some (.ref o), some (.int (nI jp)), some (.ref (pa jp)), some (.int (nI (m ||| (1 <<< x)))), some (.int (nI x))]) dX0_kinds_77 rfl rfl ?_
            refine r_iinc G (v := (nI (x + 1))) (lo' := [some (.ref o), some (.int (nI jp)), some (.ref (pa jp)), some (.int (nI (m ||| (1 <<< x)))), some (.int (nI (x + 1)))]) dX0_kinds_78 rfl (nI_add x 1) rfl rfl ?_
            refine r_goto G 29 dX0_kinds_81 (by decide) ?_
            rw [show 7 * x + 7 = 7 * (x + 1) from by omega]
            exact ih29 _ _ _ _ (hop.tr (xLop.pre hq51 hop3)) (fun y hy => by rw [va_up_n hy]; exact hel y hy) (by omega) (by rw [setN_s, hm, h65]; simp) (by omega)
    exact L29 4 0 0 L.el f (xLop.rf hP.1 hAL) (fun _ _ => rfl) (by decide) rfl (by decide)
  · have q5 : isP L.n p = false := nt_t h5
    refine r_iconst G (v := -1) dX0_kinds_8 (by decide) ?_
    exact r_iret G rfl ⟨Nat.zero_le _, Nat.zero_le _⟩ dX0_kinds_9 ⟨rfl, rI (by simp [aKinds, q5])⟩
end XX26
