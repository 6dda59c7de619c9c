/-! the component: the longest way, the posts on a way -/
set_option maxRecDepth 100000
section XX14
set_option maxHeartbeats 4000000 in
theorem xM_X0_longest {l : Launch} {g : fG} {A : Nat → Prop} {En : State → Prop} {zd : Nat} (hX : fX zd g A En) {f : fH} {o : Nat} {tr gr fa : Int32} {rn lr sh : Nat} {L : xLs} {pa kd ld tw : Nat → Nat} {lk tk : Nat → Int32} (hO : f o = some (.inr (1, xF tr gr L.a rn lr fa sh))) (hP : xP g f o L pa kd ld tw lk tk) {d : Nat → Nat → Nat} (T : TM L.n tw d): fC l g A En yX0_longest cX0_longest 3 (some .int) (fR 13) [.ref o] f (fun v f' => f' = f ∧ v = some (.int (nI (maxN L.n (fun p => maxN L.n (d p)))))) := by
  have hE := hX.E
  refine fC.of (by decide) hX.E [some (.ref o), none, none] rfl rfl (fun K G => ?_)
  have G : fGood l g A En RX0 "longest" cX0_longest 3 (some .int) (fR 13) _ K := G
  have hn8 := hP.2.1
  refine r_iconst G (v := nI 0) dX0_longest_0 (by decide) ?_
  refine r_istore_n G (lo' := [some (.ref o), some (.int (nI 0)), none]) dX0_longest_1 rfl rfl ?_
  refine r_iconst G (v := nI 0) dX0_longest_2 (by decide) ?_
  refine r_istore_n G (lo' := [some (.ref o), some (.int (nI 0)), some (.int (nI 0))]) dX0_longest_3 rfl rfl ?_
  have L4 : ∀ (fu : Nat) (q m : Nat), (q ≤ L.n) → (m = maxN q (fun p => maxN L.n (d p))) → (m < 8) → L.n - q < fu → K f 0 0 4 [some (.ref o), some (.int (nI m)), some (.int (nI q))] [] := by
    intro fu
    induction fu with
    | zero => intro q m hq hm hm8 hm4; exact absurd hm4 (Nat.not_lt_zero _)
    | succ fu4 ih4 =>
      intro q m hq hm hm8 hm4
      refine r_iload_n G dX0_longest_4 rfl ?_
      refine r_aload_n G dX0_longest_5 rfl ?_
      refine r_getf G xCl1 (fs := [.int tr, .int gr, .ref L.a, .ref rn, .ref lr, .int fa, .ref sh]) hO 2 (by decide) q142 rfl rfl dX0_longest_6 ?_
      refine s_callF (b := L.a) G [] (xM_J2_size hX hP.1) (lw_F q173 q177 q179 q73 q181) (hX.fw 0 _ rfl) fx_0 rfl ⟨Nat.le_of_ble_eq_true rfl, Nat.le_of_ble_eq_true rfl⟩ (fs := [.int L.mc, .ref L.ea, .int (nI L.n)]) hP.1.1 (ci := 2) rfl rfl (Nat.le_of_ble_eq_true rfl) rfl rfl ⟨Nat.zero_le _, Nat.zero_le _⟩ dX0_longest_9 ?_
      show K f 0 0 14 [some (.ref o), some (.int (nI m)), some (.int (nI q))] [.int (nI L.n), .int (nI q)]
      refine r_icmp_ge G 33 (nI_leI (by omega) (by omega)) dX0_longest_14 (by decide) (fun h14 => ?_) (fun h14 => ?_)
      · refine r_iload_n G dX0_longest_33 rfl ?_
        exact r_iret G rfl ⟨Nat.zero_le _, Nat.zero_le _⟩ dX0_longest_34 ⟨rfl, rv (by rw [hm, show q = L.n by omega])⟩
      · refine r_iload_n G dX0_longest_17 rfl ?_
        refine r_aload_n G dX0_longest_18 rfl ?_
        refine r_iload_n G dX0_longest_19 rfl ?_
        refine s_callV (b := o) G [.int (nI q)] (xM_X0_farthest hX hO hP T q (by omega)) (lw_V q245 q247 qs1 q70 q248) fy_yX0_farthest rfl ⟨Nat.le_of_ble_eq_true rfl, Nat.le_of_ble_eq_true rfl⟩ (fs := [.int tr, .int gr, .ref L.a, .ref rn, .ref lr, .int fa, .ref sh]) hO (ci := 1) rfl rfl rfl (Nat.le_of_ble_eq_true rfl) rfl rfl ⟨Nat.zero_le _, Nat.zero_le _⟩ dX0_longest_20 ?_
        show K f 0 0 23 [some (.ref o), some (.int (nI m)), some (.int (nI q))] [.int (nI (maxN L.n (d q))), .int (nI m)]
        refine r_mmax G (v := (nI (max m (maxN L.n (d q))))) q260 q261 q89 mmax_code ⟨Nat.le_of_ble_eq_true rfl, Nat.le_of_ble_eq_true rfl⟩ (Nat.le_of_ble_eq_true rfl) ⟨Nat.zero_le _, Nat.zero_le _⟩ (mmaxN (by omega) (Nat.lt_trans (maxN_lt (b := 8) (f := d q) (by decide) fun z hz => by have := T.dl (show q < L.n by omega) hz; omega) (by decide))) dX0_longest_23 ?_
        refine r_istore_n G (lo' := [some (.ref o), some (.int (nI (max m (maxN L.n (d q))))), some (.int (nI q))]) dX0_longest_26 rfl rfl ?_
        refine r_iinc G (v := (nI (q + 1))) (lo' := [some (.ref o), some (.int (nI (max m (maxN L.n (d q))))), some (.int (nI (q + 1)))]) dX0_longest_27 rfl (nI_add q 1) rfl rfl ?_
        refine r_goto G 4 dX0_longest_30 (by decide) ?_
        exact ih4 _ _ (by omega) (by rw [hm]; exact mx_s (f := fun p => maxN L.n (d p))) (by have := (maxN_lt (b := 8) (f := d q) (by decide) fun z hz => by have := T.dl (show q < L.n by omega) hz; omega); omega) (by omega)
  exact L4 (L.n + 1) 0 0 (Nat.zero_le _) rfl (by decide) (by omega)
set_option maxHeartbeats 4000000 in
theorem xM_X0_wayOf {l : Launch} {g : fG} {A : Nat → Prop} {En : State → Prop} {zd : Nat} (hX : fX zd g A En) {f : fH} {o : Nat} {tr gr fa : Int32} {rn lr sh : Nat} {L : xLs} {pa kd ld tw : Nat → Nat} {lk tk : Nat → Int32} (hO : f o = some (.inr (1, xF tr gr L.a rn lr fa sh))) (hP : xP g f o L pa kd ld tw lk tk) {d : Nat → Nat → Nat} (T : TM L.n tw d) (a b : Nat) (ha : a < L.n) (hb : b < L.n): fC l g A En yX0_wayOf cX0_wayOf 6 (some .int) (fR 12) [.ref o, .int (nI a), .int (nI b)] f (fun v f' => f' = f ∧ v = some (.int (nI (wy L.n d a b)))) := by
  have hE := hX.E
  refine fC.of (by decide) hX.E [some (.ref o), some (.int (nI a)), some (.int (nI b)), none, none, none] rfl rfl (fun K G => ?_)
  have G : fGood l g A En RX0 "wayOf" cX0_wayOf 6 (some .int) (fR 12) _ K := G
  have hn8 := hP.2.1
  refine r_aload_n G dX0_wayOf_0 rfl ?_
  refine r_iload_n G dX0_wayOf_1 rfl ?_
  refine r_bipush G (v := -9) dX0_wayOf_2 (by decide) ?_
  refine r_iload_n G dX0_wayOf_4 rfl ?_
  refine s_callV (b := o) G [.int (nI a), .int (-9), .int (nI b)] (xM_X0_far0 hX hO hP T a b ha hb) (lw_V q249 q251 qs2 q70 q252) fy_yX0_farFrom rfl ⟨Nat.le_of_ble_eq_true rfl, Nat.le_of_ble_eq_true rfl⟩ (fs := [.int tr, .int gr, .ref L.a, .ref rn, .ref lr, .int fa, .ref sh]) hO (ci := 1) rfl rfl rfl (Nat.le_of_ble_eq_true rfl) rfl rfl ⟨Nat.zero_le _, Nat.zero_le _⟩ dX0_wayOf_5 ?_
  show K f 0 0 8 [some (.ref o), some (.int (nI a)), some (.int (nI b)), none, none, none] [.int (nI (d a b))]
  refine r_istore_n G (lo' := [some (.ref o), some (.int (nI a)), some (.int (nI b)), some (.int (nI (d a b))), none, none]) dX0_wayOf_8 rfl rfl ?_
  refine r_iconst G (v := nI 0) dX0_wayOf_9 (by decide) ?_
  refine r_istore G (lo' := [some (.ref o), some (.int (nI a)), some (.int (nI b)), some (.int (nI (d a b))), some (.int (nI 0)), none]) dX0_wayOf_10 rfl rfl ?_
  refine r_iconst G (v := nI 0) dX0_wayOf_12 (by decide) ?_
  refine r_istore G (lo' := [some (.ref o), some (.int (nI a)), some (.int (nI b)), some (.int (nI (d a b))), some (.int (nI 0)), some (.int (nI 0))]) dX0_wayOf_13 rfl rfl ?_
  have L15 : ∀ (fu : Nat) (p m : Nat), (p ≤ L.n) → (m = setN p (fun q => decide (d a q + d q b = d a b))) → L.n - p < fu → K f 0 0 15 [some (.ref o), some (.int (nI a)), some (.int (nI b)), some (.int (nI (d a b))), some (.int (nI m)), some (.int (nI p))] [] := by
    intro fu
    induction fu with
    | zero => intro p m hp hm hm15; exact absurd hm15 (Nat.not_lt_zero _)
    | succ fu15 ih15 =>
      intro p m hp hm hm15
      refine r_iload G dX0_wayOf_15 rfl ?_
      refine r_aload_n G dX0_wayOf_17 rfl ?_
      refine r_getf G xCl1 (fs := [.int tr, .int gr, .ref L.a, .ref rn, .ref lr, .int fa, .ref sh]) hO 2 (by decide) q142 rfl rfl dX0_wayOf_18 ?_
      refine s_callF (b := L.a) G [] (xM_J2_size hX hP.1) (lw_F q173 q177 q179 q73 q181) (hX.fw 0 _ rfl) fx_0 rfl ⟨Nat.le_of_ble_eq_true rfl, Nat.le_of_ble_eq_true rfl⟩ (fs := [.int L.mc, .ref L.ea, .int (nI L.n)]) hP.1.1 (ci := 2) rfl rfl (Nat.le_of_ble_eq_true rfl) rfl rfl ⟨Nat.zero_le _, Nat.zero_le _⟩ dX0_wayOf_21 ?_
      show K f 0 0 26 [some (.ref o), some (.int (nI a)), some (.int (nI b)), some (.int (nI (d a b))), some (.int (nI m)), some (.int (nI p))] [.int (nI L.n), .int (nI p)]
      refine r_icmp_ge G 71 (nI_leI (by omega) (by omega)) dX0_wayOf_26 (by decide) (fun h26 => ?_) (fun h26 => ?_)
      · refine r_iload G dX0_wayOf_71 rfl ?_
        exact r_iret G rfl ⟨Nat.zero_le _, Nat.zero_le _⟩ dX0_wayOf_73 ⟨rfl, rv (by rw [hm, show p = L.n by omega]; rfl)⟩
      · refine r_iload G dX0_wayOf_29 rfl ?_
        refine r_aload_n G dX0_wayOf_31 rfl ?_
        refine r_iload_n G dX0_wayOf_32 rfl ?_
        refine r_bipush G (v := -9) dX0_wayOf_33 (by decide) ?_
        refine r_iload G dX0_wayOf_35 rfl ?_
        refine s_callV (b := o) G [.int (nI a), .int (-9), .int (nI p)] (xM_X0_far0 hX hO hP T a p ha (by omega)) (lw_V q249 q251 qs2 q70 q252) fy_yX0_farFrom rfl ⟨Nat.le_of_ble_eq_true rfl, Nat.le_of_ble_eq_true rfl⟩ (fs := [.int tr, .int gr, .ref L.a, .ref rn, .ref lr, .int fa, .ref sh]) hO (ci := 1) rfl rfl rfl (Nat.le_of_ble_eq_true rfl) rfl rfl ⟨Nat.zero_le _, Nat.zero_le _⟩ dX0_wayOf_37 ?_
        show K f 0 0 40 [some (.ref o), some (.int (nI a)), some (.int (nI b)), some (.int (nI (d a b))), some (.int (nI m)), some (.int (nI p))] [.int (nI (d a p)), .int (nI m)]
        refine r_aload_n G dX0_wayOf_40 rfl ?_
        refine r_iload G dX0_wayOf_41 rfl ?_
        refine r_bipush G (v := -9) dX0_wayOf_43 (by decide) ?_
        refine r_iload_n G dX0_wayOf_45 rfl ?_
        refine s_callV (b := o) G [.int (nI p), .int (-9), .int (nI b)] (xM_X0_far0 hX hO hP T p b (by omega) hb) (lw_V q249 q251 qs2 q70 q252) fy_yX0_farFrom rfl ⟨Nat.le_of_ble_eq_true rfl, Nat.le_of_ble_eq_true rfl⟩ (fs := [.int tr, .int gr, .ref L.a, .ref rn, .ref lr, .int fa, .ref sh]) hO (ci := 1) rfl rfl rfl (Nat.le_of_ble_eq_true rfl) rfl rfl ⟨Nat.zero_le _, Nat.zero_le _⟩ dX0_wayOf_46 ?_
        show K f 0 0 49 [some (.ref o), some (.int (nI a)), some (.int (nI b)), some (.int (nI (d a b))), some (.int (nI m)), some (.int (nI p))] [.int (nI (d p b)), .int (nI (d a p)), .int (nI m)]
        refine r_iadd G (v := (nI ((d a p) + (d p b)))) dX0_wayOf_49 (nI_add (d a p) (d p b)) ?_
        refine r_iload_n G dX0_wayOf_50 rfl ?_
        refine r_icmp_ne G 61 (nI_eq (by have := T.dl ha (show p < L.n by omega); have := T.dl (show p < L.n by omega) hb; omega) (by have := T.dl ha hb; omega)) dX0_wayOf_51 (by decide) (fun h51 => ?_) (fun h51 => ?_)
        · refine r_iconst G (v := nI 0) dX0_wayOf_61 (by decide) ?_
          refine r_ior G (v := (nI (m ||| 0))) dX0_wayOf_62 (n_or m 0) ?_
          refine r_istore G (lo' := [some (.ref o), some (.int (nI a)), some (.int (nI b)), some (.int (nI (d a b))), some (.int (nI (m ||| 0))), some (.int (nI p))]) dX0_wayOf_63 rfl rfl ?_
          refine r_iinc G (v := (nI (p + 1))) (lo' := [some (.ref o), some (.int (nI a)), some (.int (nI b)), some (.int (nI (d a b))), some (.int (nI (m ||| 0))), some (.int (nI (p + 1)))]) dX0_wayOf_65 rfl (nI_add p 1) rfl rfl ?_
          refine r_goto G 15 dX0_wayOf_68 (by decide) ?_
          exact ih15 _ _ (by omega) (by rw [setN_s, hm]; simp [h51]) (by omega)
        · refine r_iconst G (v := nI 1) dX0_wayOf_54 (by decide) ?_
          refine r_iload G dX0_wayOf_55 rfl ?_
          refine r_ishl G (v := (nI (1 <<< p))) dX0_wayOf_57 (n_shl (by omega)) ?_
          refine r_goto G 62 dX0_wayOf_58 (by decide) ?_
          refine r_ior G (v := (nI (m ||| (1 <<< p)))) dX0_wayOf_62 (n_or m (1 <<< p)) ?_
          refine r_istore G (lo' := [some (.ref o), some (.int (nI a)), some (.int (nI b)), some (.int (nI (d a b))), some (.int (nI (m ||| (1 <<< p)))), some (.int (nI p))]) dX0_wayOf_63 rfl rfl ?_
          refine r_iinc G (v := (nI (p + 1))) (lo' := [some (.ref o), some (.int (nI a)), some (.int (nI b)), some (.int (nI (d a b))), some (.int (nI (m ||| (1 <<< p)))), some (.int (nI (p + 1)))]) dX0_wayOf_65 rfl (nI_add p 1) rfl rfl ?_
          refine r_goto G 15 dX0_wayOf_68 (by decide) ?_
          exact ih15 _ _ (by omega) (by rw [setN_s, hm]; simp [h51]) (by omega)
  exact L15 (L.n + 1) 0 0 (Nat.zero_le _) rfl (by omega)
end XX14
