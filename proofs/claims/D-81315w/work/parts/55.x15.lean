/-! the component: middles, far, way, of a post -/
set_option maxRecDepth 100000
section XX15
theorem rI {a b : Int32} (h : a = b) : some (Value.int a) = some (.int b) := by rw [h]
theorem rBB {a b : Bool} (h : a = b) : some (Value.int (bI a)) = some (.int (bI b)) := by rw [h]
theorem nt_t {b : Bool} (h : (!b) = true) : b = false := by cases b <;> simp_all
theorem nt_f {b : Bool} (h : (!b) = false) : b = true := by cases b <;> simp_all
theorem win_wi {v : Int32} {a b : Nat} (ha : a < 2 ^ 31) (hb : b < 2 ^ 31) : win v.toInt64 (lN a) (lN b) = wi v (nI a) (nI b) := by
  have h1 : (lN a).toInt = (nI a).toInt := by rw [← nI_l ha, Int32.toInt_toInt64]
  have h2 : (lN b).toInt = (nI b).toInt := by rw [← nI_l hb, Int32.toInt_toInt64]
  unfold win wi
  congr 1
  · rw [decide_eq_decide, Int64.le_iff_toInt_le, Int32.toInt_toInt64, h1, Int32.le_iff_toInt_le]
  · rw [decide_eq_decide, Int64.le_iff_toInt_le, Int32.toInt_toInt64, h2, Int32.le_iff_toInt_le]
theorem sX_X0_inI {l : Launch} {g : fG} {A : Nat → Prop} {En : State → Prop} (hE : fEnv g A En) (v : Int32) (a b : Nat) (ha : a < 2 ^ 31) (hb : b < 2 ^ 31) : sC l g A En yX0_in cX0_in 6 (some .boolean) (fR 0) [.long v.toInt64, .long (lN a), .long (lN b)] (.int (bI (wi v (nI a) (nI b)))) := by
  rw [← win_wi ha hb]
  exact sX_X0_in hE v.toInt64 (lN a) (lN b)
theorem xkind {l : Launch} {g : fG} {A : Nat → Prop} {En : State → Prop} {zd : Nat} (hX : fX zd g A En) {f : fH} {a k : Nat} : (k = 0 → fC l g A En yX5_kind cX5_kind 1 (some .int) (fR 0) [.ref a] f (fun v f' => f' = f ∧ v = some (.int (nI k)))) ∧ (k = 1 → fC l g A En yX6_kind cX6_kind 1 (some .int) (fR 0) [.ref a] f (fun v f' => f' = f ∧ v = some (.int (nI k)))) ∧ (k = 2 → fC l g A En yX7_kind cX7_kind 1 (some .int) (fR 0) [.ref a] f (fun v f' => f' = f ∧ v = some (.int (nI k)))) := by
  refine ⟨?_, ?_, ?_⟩
  · rintro rfl; exact xM_X5_kind hX
  · rintro rfl; exact xM_X6_kind hX
  · rintro rfl; exact xM_X7_kind hX
theorem mid_mn {n p : Nat} {d : Nat → Nat → Nat} : min (mid n d p).2 (maxN n (d p)) = (mid n d (p + 1)).2 := by
  show _ = if ecc n d p < (mid n d p).2 then ecc n d p else (mid n d p).2
  unfold ecc
  split <;> omega
set_option maxHeartbeats 4000000 in
theorem xM_X0_middles {l : Launch} {g : fG} {A : Nat → Prop} {En : State → Prop} {zd : Nat} (hX : fX zd g A En) {f : fH} {o : Nat} {tr gr fa : Int32} {rn lr sh : Nat} {L : xLs} {pa kd ld tw : Nat → Nat} {lk tk : Nat → Int32} (hO : f o = some (.inr (1, xF tr gr L.a rn lr fa sh))) (hP : xP g f o L pa kd ld tw lk tk) {d : Nat → Nat → Nat} (T : TM L.n tw d): fC l g A En yX0_middles cX0_middles 5 (some .int) (fR 13) [.ref o] f (fun v f' => f' = f ∧ v = some (.int (nI (mid L.n d L.n).1))) := by
  have hE := hX.E
  refine fC.of (by decide) hX.E [some (.ref o), none, none, none, none] rfl rfl (fun K G => ?_)
  have G : fGood l g A En RX0 "middles" cX0_middles 5 (some .int) (fR 13) _ K := G
  have hn8 := hP.2.1
  refine r_iconst G (v := nI 0) dX0_middles_0 (by decide) ?_
  refine r_istore_n G (lo' := [some (.ref o), some (.int (nI 0)), none, none, none]) dX0_middles_1 rfl rfl ?_
  refine r_bipush G (v := nI 8) dX0_middles_2 (by decide) ?_
  refine r_istore_n G (lo' := [some (.ref o), some (.int (nI 0)), some (.int (nI 8)), none, none]) dX0_middles_4 rfl rfl ?_
  refine r_iconst G (v := nI 0) dX0_middles_5 (by decide) ?_
  refine r_istore_n G (lo' := [some (.ref o), some (.int (nI 0)), some (.int (nI 8)), some (.int (nI 0)), none]) dX0_middles_6 rfl rfl ?_
  have L7 : ∀ (fu : Nat) (p x y : Nat), (p ≤ L.n) → (x = (mid L.n d p).2) → (y = (mid L.n d p).1) → (x ≤ 8) → L.n - p < fu → K f 0 0 7 [some (.ref o), some (.int (nI y)), some (.int (nI x)), some (.int (nI p)), none] [] := by
    intro fu
    induction fu with
    | zero => intro p x y hp hx hy hx8 hm7; exact absurd hm7 (Nat.not_lt_zero _)
    | succ fu7 ih7 =>
      intro p x y hp hx hy hx8 hm7
      refine r_iload_n G dX0_middles_7 rfl ?_
      refine r_aload_n G dX0_middles_8 rfl ?_
      refine r_getf G xCl1 (fs := [.int tr, .int gr, .ref L.a, .ref rn, .ref lr, .int fa, .ref sh]) hO 2 (by decide) q142 rfl rfl dX0_middles_9 ?_
      refine s_callF (b := L.a) G [] (xM_J2_size hX hP.1) (lw_F q173 q177 q179 q73 q181) (hX.fw 0 _ rfl) fx_0 rfl ⟨Nat.le_of_ble_eq_true rfl, Nat.le_of_ble_eq_true rfl⟩ (fs := [.int L.mc, .ref L.ea, .int (nI L.n)]) hP.1.1 (ci := 2) rfl rfl (Nat.le_of_ble_eq_true rfl) rfl rfl ⟨Nat.zero_le _, Nat.zero_le _⟩ dX0_middles_12 ?_
      show K f 0 0 17 [some (.ref o), some (.int (nI y)), some (.int (nI x)), some (.int (nI p)), none] [.int (nI L.n), .int (nI p)]
      refine r_icmp_ge G 68 (nI_leI (by omega) (by omega)) dX0_middles_17 (by decide) (fun h17 => ?_) (fun h17 => ?_)
      · refine r_iload_n G dX0_middles_68 rfl ?_
        exact r_iret G rfl ⟨Nat.zero_le _, Nat.zero_le _⟩ dX0_middles_69 ⟨rfl, rv (by rw [hy, show p = L.n by omega])⟩
      · refine r_aload_n G dX0_middles_20 rfl ?_
        refine r_iload_n G dX0_middles_21 rfl ?_
        refine s_callV (b := o) G [.int (nI p)] (xM_X0_farthest hX hO hP T p (by omega)) (lw_V q245 q247 qs1 q70 q248) fy_yX0_farthest rfl ⟨Nat.le_of_ble_eq_true rfl, Nat.le_of_ble_eq_true rfl⟩ (fs := [.int tr, .int gr, .ref L.a, .ref rn, .ref lr, .int fa, .ref sh]) hO (ci := 1) rfl rfl rfl (Nat.le_of_ble_eq_true rfl) rfl rfl ⟨Nat.zero_le _, Nat.zero_le _⟩ dX0_middles_22 ?_
        show K f 0 0 25 [some (.ref o), some (.int (nI y)), some (.int (nI x)), some (.int (nI p)), none] [.int (nI (maxN L.n (d p)))]
        refine r_istore G (lo' := [some (.ref o), some (.int (nI y)), some (.int (nI x)), some (.int (nI p)), some (.int (nI (maxN L.n (d p))))]) dX0_middles_25 rfl rfl ?_
        refine r_iload G dX0_middles_27 rfl ?_
        refine r_iload_n G dX0_middles_29 rfl ?_
        refine r_icmp_ge G 39 (nI_leI (by omega) (Nat.lt_trans (maxN_lt (b := 8) (f := d p) (by decide) fun z hz => by have := T.dl (show p < L.n by omega) hz; omega) (by decide))) dX0_middles_30 (by decide) (fun h30 => ?_) (fun h30 => ?_)
        · refine r_iload G dX0_middles_39 rfl ?_
          refine r_iload_n G dX0_middles_41 rfl ?_
          refine r_icmp_ne G 53 (nI_eq (Nat.lt_trans (maxN_lt (b := 8) (f := d p) (by decide) fun z hz => by have := T.dl (show p < L.n by omega) hz; omega) (by decide)) (by omega)) dX0_middles_42 (by decide) (fun h42 => ?_) (fun h42 => ?_)
          · refine r_iload_n G dX0_middles_53 rfl ?_
            refine r_istore_n G (lo' := [some (.ref o), some (.int (nI y)), some (.int (nI x)), some (.int (nI p)), some (.int (nI (maxN L.n (d p))))]) dX0_middles_54 rfl rfl ?_
            refine r_iload_n G dX0_middles_55 rfl ?_
            refine r_iload G dX0_middles_56 rfl ?_
            refine r_mmin G (v := (nI (min x (maxN L.n (d p))))) q338 q339 q89 mmin_code ⟨Nat.le_of_ble_eq_true rfl, Nat.le_of_ble_eq_true rfl⟩ (Nat.le_of_ble_eq_true rfl) ⟨Nat.zero_le _, Nat.zero_le _⟩ (mminN (by omega) (Nat.lt_trans (maxN_lt (b := 8) (f := d p) (by decide) fun z hz => by have := T.dl (show p < L.n by omega) hz; omega) (by decide))) dX0_middles_58 ?_
            refine r_istore_n G (lo' := [some (.ref o), some (.int (nI y)), some (.int (nI (min x (maxN L.n (d p))))), some (.int (nI p)), some (.int (nI (maxN L.n (d p))))]) dX0_middles_61 rfl rfl ?_
            refine r_iinc G (v := (nI (p + 1))) (lo' := [some (.ref o), some (.int (nI y)), some (.int (nI (min x (maxN L.n (d p))))), some (.int (nI (p + 1))), some (.int (nI (maxN L.n (d p))))]) dX0_middles_62 rfl (nI_add p 1) rfl rfl ?_
            refine r_goto G 7 dX0_middles_65 (by decide) ?_
            refine r_drop G 4 (lo' := [some (.ref o), some (.int (nI y)), some (.int (nI (min x (maxN L.n (d p))))), some (.int (nI (p + 1))), none]) rfl ?_
            exact ih7 _ _ _ (by omega) (by rw [hx]; exact mid_mn) (by rw [hy, hx] at *; show _ = (mid L.n d (p + 1)).1; show _ = if ecc L.n d p < (mid L.n d p).2 then 1 <<< p else if ecc L.n d p = (mid L.n d p).2 then (mid L.n d p).1 ||| 1 <<< p else (mid L.n d p).1; unfold ecc; first | rw [if_pos (by omega)] | rw [if_neg (by omega), if_pos (by omega)] | rw [if_neg (by omega), if_neg (by omega)]) (by omega) (by omega)
          · refine r_iload_n G dX0_middles_45 rfl ?_
            refine r_iconst G (v := nI 1) dX0_middles_46 (by decide) ?_
            refine r_iload_n G dX0_middles_47 rfl ?_
            refine r_ishl G (v := (nI (1 <<< p))) dX0_middles_48 (n_shl (by omega)) ?_
            refine r_ior G (v := (nI (y ||| (1 <<< p)))) dX0_middles_49 (n_or y (1 <<< p)) ?_
            refine r_goto G 54 dX0_middles_50 (by decide) ?_
            refine r_istore_n G (lo' := [some (.ref o), some (.int (nI (y ||| (1 <<< p)))), some (.int (nI x)), some (.int (nI p)), some (.int (nI (maxN L.n (d p))))]) dX0_middles_54 rfl rfl ?_
            refine r_iload_n G dX0_middles_55 rfl ?_
            refine r_iload G dX0_middles_56 rfl ?_
            refine r_mmin G (v := (nI (min x (maxN L.n (d p))))) q338 q339 q89 mmin_code ⟨Nat.le_of_ble_eq_true rfl, Nat.le_of_ble_eq_true rfl⟩ (Nat.le_of_ble_eq_true rfl) ⟨Nat.zero_le _, Nat.zero_le _⟩ (mminN (by omega) (Nat.lt_trans (maxN_lt (b := 8) (f := d p) (by decide) fun z hz => by have := T.dl (show p < L.n by omega) hz; omega) (by decide))) dX0_middles_58 ?_
            refine r_istore_n G (lo' := [some (.ref o), some (.int (nI (y ||| (1 <<< p)))), some (.int (nI (min x (maxN L.n (d p))))), some (.int (nI p)), some (.int (nI (maxN L.n (d p))))]) dX0_middles_61 rfl rfl ?_
            refine r_iinc G (v := (nI (p + 1))) (lo' := [some (.ref o), some (.int (nI (y ||| (1 <<< p)))), some (.int (nI (min x (maxN L.n (d p))))), some (.int (nI (p + 1))), some (.int (nI (maxN L.n (d p))))]) dX0_middles_62 rfl (nI_add p 1) rfl rfl ?_
            refine r_goto G 7 dX0_middles_65 (by decide) ?_
            refine r_drop G 4 (lo' := [some (.ref o), some (.int (nI (y ||| (1 <<< p)))), some (.int (nI (min x (maxN L.n (d p))))), some (.int (nI (p + 1))), none]) rfl ?_
            exact ih7 _ _ _ (by omega) (by rw [hx]; exact mid_mn) (by rw [hy, hx] at *; show _ = (mid L.n d (p + 1)).1; show _ = if ecc L.n d p < (mid L.n d p).2 then 1 <<< p else if ecc L.n d p = (mid L.n d p).2 then (mid L.n d p).1 ||| 1 <<< p else (mid L.n d p).1; unfold ecc; first | rw [if_pos (by omega)] | rw [if_neg (by omega), if_pos (by omega)] | rw [if_neg (by omega), if_neg (by omega)]) (by omega) (by omega)
        · refine r_iconst G (v := nI 1) dX0_middles_33 (by decide) ?_
          refine r_iload_n G dX0_middles_34 rfl ?_
          refine r_ishl G (v := (nI (1 <<< p))) dX0_middles_35 (n_shl (by omega)) ?_
          refine r_goto G 54 dX0_middles_36 (by decide) ?_
          refine r_istore_n G (lo' := [some (.ref o), some (.int (nI (1 <<< p))), some (.int (nI x)), some (.int (nI p)), some (.int (nI (maxN L.n (d p))))]) dX0_middles_54 rfl rfl ?_
          refine r_iload_n G dX0_middles_55 rfl ?_
          refine r_iload G dX0_middles_56 rfl ?_
          refine r_mmin G (v := (nI (min x (maxN L.n (d p))))) q338 q339 q89 mmin_code ⟨Nat.le_of_ble_eq_true rfl, Nat.le_of_ble_eq_true rfl⟩ (Nat.le_of_ble_eq_true rfl) ⟨Nat.zero_le _, Nat.zero_le _⟩ (mminN (by omega) (Nat.lt_trans (maxN_lt (b := 8) (f := d p) (by decide) fun z hz => by have := T.dl (show p < L.n by omega) hz; omega) (by decide))) dX0_middles_58 ?_
          refine r_istore_n G (lo' := [some (.ref o), some (.int (nI (1 <<< p))), some (.int (nI (min x (maxN L.n (d p))))), some (.int (nI p)), some (.int (nI (maxN L.n (d p))))]) dX0_middles_61 rfl rfl ?_
          refine r_iinc G (v := (nI (p + 1))) (lo' := [some (.ref o), some (.int (nI (1 <<< p))), some (.int (nI (min x (maxN L.n (d p))))), some (.int (nI (p + 1))), some (.int (nI (maxN L.n (d p))))]) dX0_middles_62 rfl (nI_add p 1) rfl rfl ?_
          refine r_goto G 7 dX0_middles_65 (by decide) ?_
          refine r_drop G 4 (lo' := [some (.ref o), some (.int (nI (1 <<< p))), some (.int (nI (min x (maxN L.n (d p))))), some (.int (nI (p + 1))), none]) rfl ?_
          exact ih7 _ _ _ (by omega) (by rw [hx]; exact mid_mn) (by rw [hy, hx] at *; show _ = (mid L.n d (p + 1)).1; show _ = if ecc L.n d p < (mid L.n d p).2 then 1 <<< p else if ecc L.n d p = (mid L.n d p).2 then (mid L.n d p).1 ||| 1 <<< p else (mid L.n d p).1; unfold ecc; first | rw [if_pos (by omega)] | rw [if_neg (by omega), if_pos (by omega)] | rw [if_neg (by omega), if_neg (by omega)]) (by omega) (by omega)
  exact L7 (L.n + 1) 0 8 0 (Nat.zero_le _) rfl rfl (by decide) (by omega)
set_option maxHeartbeats 4000000 in
theorem xM_X0_far {l : Launch} {g : fG} {A : Nat → Prop} {En : State → Prop} {zd : Nat} (hX : fX zd g A En) {f : fH} {o : Nat} {tr gr fa : Int32} {rn lr sh : Nat} {L : xLs} {pa kd ld tw : Nat → Nat} {lk tk : Nat → Int32} (hO : f o = some (.inr (1, xF tr gr L.a rn lr fa sh))) (hP : xP g f o L pa kd ld tw lk tk) {d : Nat → Nat → Nat} (hT : L.n ≠ 0 → 2 ≤ L.n ∧ TM L.n tw d) (a b : Int32): fC l g A En yX0_far cX0_far 3 (some .int) (fR 13) [.ref o, .int a, .int b] f (fun v f' => f' = f ∧ v = some (.int (aFar L.n d a b))) := by
  have hE := hX.E
  refine fC.of (by decide) hX.E [some (.ref o), some (.int a), some (.int b)] rfl rfl (fun K G => ?_)
  have G : fGood l g A En RX0 "far" cX0_far 3 (some .int) (fR 13) _ K := G
  have hn8 := hP.2.1
  refine r_aload_n G dX0_far_0 rfl ?_
  refine r_iload_n G dX0_far_1 rfl ?_
  refine s_callV (b := o) G [.int a] (xM_X0_noPost hX hO hP a) (lw_V q168 q170 qs0 q70 q171) fy_yX0_noPost rfl ⟨Nat.le_of_ble_eq_true rfl, Nat.le_of_ble_eq_true rfl⟩ (fs := [.int tr, .int gr, .ref L.a, .ref rn, .ref lr, .int fa, .ref sh]) hO (ci := 1) rfl rfl rfl (Nat.le_of_ble_eq_true rfl) rfl rfl ⟨Nat.zero_le _, Nat.zero_le _⟩ dX0_far_2 ?_
  show K f 0 0 5 [some (.ref o), some (.int a), some (.int b)] [.int (bI (!isP L.n a))]
  refine r_ifb_ne G 16  dX0_far_5 (by decide) (fun h5 => ?_) (fun h5 => ?_)
  · have q5 : isP L.n a = false := nt_t h5
    refine r_iconst G (v := -1) dX0_far_16 (by decide) ?_
    refine r_goto G 28 dX0_far_17 (by decide) ?_
    exact r_iret G rfl ⟨Nat.zero_le _, Nat.zero_le _⟩ dX0_far_28 ⟨rfl, rI (by first | simp [aFar, q5, q13] | simp [aFar, q5])⟩
  · have q5 : isP L.n a = true := nt_f h5
    obtain ⟨ja, hja, rfl⟩ := isP_t (by omega) q5
    have eja : ix (nI ja) = ja := ix_nI (by omega)
    refine r_aload_n G dX0_far_8 rfl ?_
    refine r_iload_n G dX0_far_9 rfl ?_
    refine s_callV (b := o) G [.int b] (xM_X0_noPost hX hO hP b) (lw_V q168 q170 qs0 q70 q171) fy_yX0_noPost rfl ⟨Nat.le_of_ble_eq_true rfl, Nat.le_of_ble_eq_true rfl⟩ (fs := [.int tr, .int gr, .ref L.a, .ref rn, .ref lr, .int fa, .ref sh]) hO (ci := 1) rfl rfl rfl (Nat.le_of_ble_eq_true rfl) rfl rfl ⟨Nat.zero_le _, Nat.zero_le _⟩ dX0_far_10 ?_
    show K f 0 0 13 [some (.ref o), some (.int (nI ja)), some (.int b)] [.int (bI (!isP L.n b))]
    refine r_ifb_eq G 20  dX0_far_13 (by decide) (fun h13 => ?_) (fun h13 => ?_)
    · have q13 : isP L.n b = true := nt_f h13
      obtain ⟨jb, hjb, rfl⟩ := isP_t (by omega) q13
      have ejb : ix (nI jb) = jb := ix_nI (by omega)
      obtain ⟨h2n, T⟩ := hT (by omega)
      refine r_aload_n G dX0_far_20 rfl ?_
      refine r_iload_n G dX0_far_21 rfl ?_
      refine r_bipush G (v := -9) dX0_far_22 (by decide) ?_
      refine r_iload_n G dX0_far_24 rfl ?_
      refine s_callV (b := o) G [.int (nI ja), .int (-9), .int (nI jb)] (xM_X0_far0 hX hO hP T ja jb hja hjb) (lw_V q249 q251 qs2 q70 q252) fy_yX0_farFrom rfl ⟨Nat.le_of_ble_eq_true rfl, Nat.le_of_ble_eq_true rfl⟩ (fs := [.int tr, .int gr, .ref L.a, .ref rn, .ref lr, .int fa, .ref sh]) hO (ci := 1) rfl rfl rfl (Nat.le_of_ble_eq_true rfl) rfl rfl ⟨Nat.zero_le _, Nat.zero_le _⟩ dX0_far_25 ?_
      show K f 0 0 28 [some (.ref o), some (.int (nI ja)), some (.int (nI jb))] [.int (nI (d ja jb))]
      exact r_iret G rfl ⟨Nat.zero_le _, Nat.zero_le _⟩ dX0_far_28 ⟨rfl, rI (by simp [aFar, q5, q13, eja, ejb])⟩
    · have q13 : isP L.n b = false := nt_t h13
      refine r_iconst G (v := -1) dX0_far_16 (by decide) ?_
      refine r_goto G 28 dX0_far_17 (by decide) ?_
      exact r_iret G rfl ⟨Nat.zero_le _, Nat.zero_le _⟩ dX0_far_28 ⟨rfl, rI (by first | simp [aFar, q5, q13] | simp [aFar, q5])⟩
set_option maxHeartbeats 4000000 in
theorem xM_X0_way {l : Launch} {g : fG} {A : Nat → Prop} {En : State → Prop} {zd : Nat} (hX : fX zd g A En) {f : fH} {o : Nat} {tr gr fa : Int32} {rn lr sh : Nat} {L : xLs} {pa kd ld tw : Nat → Nat} {lk tk : Nat → Int32} (hO : f o = some (.inr (1, xF tr gr L.a rn lr fa sh))) (hP : xP g f o L pa kd ld tw lk tk) {d : Nat → Nat → Nat} (hT : L.n ≠ 0 → 2 ≤ L.n ∧ TM L.n tw d) (a b k : Int32): fC l g A En yX0_way cX0_way 6 (some .int) (fR 14) [.ref o, .int a, .int b, .int k] f (fun v f' => f' = f ∧ v = some (.int (aWay L.n d a b k))) := by
  have hE := hX.E
  refine fC.of (by decide) hX.E [some (.ref o), some (.int a), some (.int b), some (.int k), none, none] rfl rfl (fun K G => ?_)
  have G : fGood l g A En RX0 "way" cX0_way 6 (some .int) (fR 14) _ K := G
  have hn8 := hP.2.1
  refine r_aload_n G dX0_way_0 rfl ?_
  refine r_iload_n G dX0_way_1 rfl ?_
  refine s_callV (b := o) G [.int a] (xM_X0_noPost hX hO hP a) (lw_V q168 q170 qs0 q70 q171) fy_yX0_noPost rfl ⟨Nat.le_of_ble_eq_true rfl, Nat.le_of_ble_eq_true rfl⟩ (fs := [.int tr, .int gr, .ref L.a, .ref rn, .ref lr, .int fa, .ref sh]) hO (ci := 1) rfl rfl rfl (Nat.le_of_ble_eq_true rfl) rfl rfl ⟨Nat.zero_le _, Nat.zero_le _⟩ dX0_way_2 ?_
  show K f 0 0 5 [some (.ref o), some (.int a), some (.int b), some (.int k), none, none] [.int (bI (!isP L.n a))]
  refine r_ifb_ne G 16  dX0_way_5 (by decide) (fun h5 => ?_) (fun h5 => ?_)
  · have q5 : isP L.n a = false := nt_t h5
    refine r_iconst G (v := -1) dX0_way_16 (by decide) ?_
    exact r_iret G rfl ⟨Nat.zero_le _, Nat.zero_le _⟩ dX0_way_17 ⟨rfl, rI (by first | simp [aWay, q5, q13] | simp [aWay, q5])⟩
  · have q5 : isP L.n a = true := nt_f h5
    obtain ⟨ja, hja, rfl⟩ := isP_t (by omega) q5
    have eja : ix (nI ja) = ja := ix_nI (by omega)
    refine r_aload_n G dX0_way_8 rfl ?_
    refine r_iload_n G dX0_way_9 rfl ?_
    refine s_callV (b := o) G [.int b] (xM_X0_noPost hX hO hP b) (lw_V q168 q170 qs0 q70 q171) fy_yX0_noPost rfl ⟨Nat.le_of_ble_eq_true rfl, Nat.le_of_ble_eq_true rfl⟩ (fs := [.int tr, .int gr, .ref L.a, .ref rn, .ref lr, .int fa, .ref sh]) hO (ci := 1) rfl rfl rfl (Nat.le_of_ble_eq_true rfl) rfl rfl ⟨Nat.zero_le _, Nat.zero_le _⟩ dX0_way_10 ?_
    show K f 0 0 13 [some (.ref o), some (.int (nI ja)), some (.int b), some (.int k), none, none] [.int (bI (!isP L.n b))]
    refine r_ifb_eq G 18  dX0_way_13 (by decide) (fun h13 => ?_) (fun h13 => ?_)
    · have q13 : isP L.n b = true := nt_f h13
      obtain ⟨jb, hjb, rfl⟩ := isP_t (by omega) q13
      have ejb : ix (nI jb) = jb := ix_nI (by omega)
      obtain ⟨h2n, T⟩ := hT (by omega)
      refine r_iload_n G dX0_way_18 rfl ?_
      refine r_i2l G dX0_way_19 rfl ?_
      refine r_lconst G (v := lN 0) dX0_way_20 (by decide) ?_
      refine r_ldc2 G q325 dX0_way_21 ?_
      show K f 0 0 24 [some (.ref o), some (.int (nI ja)), some (.int (nI jb)), some (.int k), none, none] [.long (lN 7), .long (lN 0), .long k.toInt64]
      refine s_callS G [.long k.toInt64, .long (lN 0), .long (lN 7)] (sX_X0_inI hE k 0 7 (by decide) (by decide)) (lw_S q182 q183 q70 q184) fy_yX0_in rfl ⟨Nat.le_of_ble_eq_true rfl, Nat.le_of_ble_eq_true rfl⟩ rfl (Nat.le_of_ble_eq_true rfl) rfl rfl ⟨Nat.zero_le _, Nat.zero_le _⟩ dX0_way_24 ?_
      show K f 0 0 27 [some (.ref o), some (.int (nI ja)), some (.int (nI jb)), some (.int k), none, none] [.int (bI (wi k (nI 0) (nI 7)))]
      refine r_ifb_ne G 33  dX0_way_27 (by decide) (fun h27 => ?_) (fun h27 => ?_)
      · obtain ⟨jk, hjk0, hjk, rfl⟩ := wi_t (by decide) (by decide) h27
        have ejk : ix (nI jk) = jk := ix_nI (by omega)
        refine r_aload_n G dX0_way_33 rfl ?_
        refine r_iload_n G dX0_way_34 rfl ?_
        refine r_iload_n G dX0_way_35 rfl ?_
        refine s_callV (b := o) G [.int (nI ja), .int (nI jb)] (xM_X0_wayOf hX hO hP T ja jb hja hjb) (lw_V q326 q328 qs8 q70 q329) fy_yX0_wayOf rfl ⟨Nat.le_of_ble_eq_true rfl, Nat.le_of_ble_eq_true rfl⟩ (fs := [.int tr, .int gr, .ref L.a, .ref rn, .ref lr, .int fa, .ref sh]) hO (ci := 1) rfl rfl rfl (Nat.le_of_ble_eq_true rfl) rfl rfl ⟨Nat.zero_le _, Nat.zero_le _⟩ dX0_way_36 ?_
        show K f 0 0 39 [some (.ref o), some (.int (nI ja)), some (.int (nI jb)), some (.int (nI jk)), none, none] [.int (nI (wy L.n d ja jb))]
        refine r_istore G (lo' := [some (.ref o), some (.int (nI ja)), some (.int (nI jb)), some (.int (nI jk)), some (.int (nI (wy L.n d ja jb))), none]) dX0_way_39 rfl rfl ?_
        refine r_iconst G (v := nI 0) dX0_way_41 (by decide) ?_
        refine r_istore G (lo' := [some (.ref o), some (.int (nI ja)), some (.int (nI jb)), some (.int (nI jk)), some (.int (nI (wy L.n d ja jb))), some (.int (nI 0))]) dX0_way_42 rfl rfl ?_
        have L44 : ∀ (fu : Nat) (p : Nat), (p ≤ L.n) → (∀ q, q < p → (decide (d ja q = jk) && decide (d ja q + d q jb = d ja jb)) = false) → L.n - p < fu → K f 0 0 44 [some (.ref o), some (.int (nI ja)), some (.int (nI jb)), some (.int (nI jk)), some (.int (nI (wy L.n d ja jb))), some (.int (nI p))] [] := by
          intro fu
          induction fu with
          | zero => intro p hp hq hm44; exact absurd hm44 (Nat.not_lt_zero _)
          | succ fu44 ih44 =>
            intro p hp hq hm44
            refine r_iload G dX0_way_44 rfl ?_
            refine r_aload_n G dX0_way_46 rfl ?_
            refine r_getf G xCl1 (fs := [.int tr, .int gr, .ref L.a, .ref rn, .ref lr, .int fa, .ref sh]) hO 2 (by decide) q142 rfl rfl dX0_way_47 ?_
            refine s_callF (b := L.a) G [] (xM_J2_size hX hP.1) (lw_F q173 q177 q179 q73 q181) (hX.fw 0 _ rfl) fx_0 rfl ⟨Nat.le_of_ble_eq_true rfl, Nat.le_of_ble_eq_true rfl⟩ (fs := [.int L.mc, .ref L.ea, .int (nI L.n)]) hP.1.1 (ci := 2) rfl rfl (Nat.le_of_ble_eq_true rfl) rfl rfl ⟨Nat.zero_le _, Nat.zero_le _⟩ dX0_way_50 ?_
            show K f 0 0 55 [some (.ref o), some (.int (nI ja)), some (.int (nI jb)), some (.int (nI jk)), some (.int (nI (wy L.n d ja jb))), some (.int (nI p))] [.int (nI L.n), .int (nI p)]
            refine r_icmp_ge G 90 (nI_leI (by omega) (by omega)) dX0_way_55 (by decide) (fun h55 => ?_) (fun h55 => ?_)
            · refine r_bipush G (v := -9) dX0_way_90 (by decide) ?_
              exact r_iret G rfl ⟨Nat.zero_le _, Nat.zero_le _⟩ dX0_way_92 ⟨rfl, rI (by rw [aWay, q5, q13, h27, eja, ejb, ejk, fstN_none (fun q h => hq q (by omega))]; rfl)⟩
            · refine r_iload G dX0_way_58 rfl ?_
              refine r_iload G dX0_way_60 rfl ?_
              refine s_callS G [.int (nI (wy L.n d ja jb)), .int (nI p)] (sX_X0_isIn hE (wy L.n d ja jb) p (Nat.lt_of_lt_of_le (setN_lt _ _) (Nat.pow_le_pow_right (by decide) (show L.n ≤ 31 by omega))) (by omega)) (lw_S q290 q291 q70 q292) fy_yX0_isIn rfl ⟨Nat.le_of_ble_eq_true rfl, Nat.le_of_ble_eq_true rfl⟩ rfl (Nat.le_of_ble_eq_true rfl) rfl rfl ⟨Nat.zero_le _, Nat.zero_le _⟩ dX0_way_62 ?_
              show K f 0 0 65 [some (.ref o), some (.int (nI ja)), some (.int (nI jb)), some (.int (nI jk)), some (.int (nI (wy L.n d ja jb))), some (.int (nI p))] [.int (bI ((wy L.n d ja jb).testBit p))]
              refine r_ifb_eq G 84  dX0_way_65 (by decide) (fun h65 => ?_) (fun h65 => ?_)
              · rw [wy, setN_bit, decide_eq_true (show p < L.n by omega), Bool.true_and] at h65
                rw [decide_eq_false_iff_not] at h65
                refine r_iinc G (v := (nI (p + 1))) (lo' := [some (.ref o), some (.int (nI ja)), some (.int (nI jb)), some (.int (nI jk)), some (.int (nI (wy L.n d ja jb))), some (.int (nI (p + 1)))]) dX0_way_84 rfl (nI_add p 1) rfl rfl ?_
                refine r_goto G 44 dX0_way_87 (by decide) ?_
                exact ih44 _ (by omega) (fun q hq2 => (Classical.em (q = p)).elim (fun e => by rw [e, Bool.and_eq_false_iff, decide_eq_false_iff_not, decide_eq_false_iff_not]; exact Or.inr h65) (fun e => hq q (by omega))) (by omega)
              · rw [wy, setN_bit, decide_eq_true (show p < L.n by omega), Bool.true_and] at h65
                rw [decide_eq_true_eq] at h65
                refine r_aload_n G dX0_way_68 rfl ?_
                refine r_iload_n G dX0_way_69 rfl ?_
                refine r_bipush G (v := -9) dX0_way_70 (by decide) ?_
                refine r_iload G dX0_way_72 rfl ?_
                refine s_callV (b := o) G [.int (nI ja), .int (-9), .int (nI p)] (xM_X0_far0 hX hO hP T ja p hja (by omega)) (lw_V q249 q251 qs2 q70 q252) fy_yX0_farFrom rfl ⟨Nat.le_of_ble_eq_true rfl, Nat.le_of_ble_eq_true rfl⟩ (fs := [.int tr, .int gr, .ref L.a, .ref rn, .ref lr, .int fa, .ref sh]) hO (ci := 1) rfl rfl rfl (Nat.le_of_ble_eq_true rfl) rfl rfl ⟨Nat.zero_le _, Nat.zero_le _⟩ dX0_way_74 ?_
                show K f 0 0 77 [some (.ref o), some (.int (nI ja)), some (.int (nI jb)), some (.int (nI jk)), some (.int (nI (wy L.n d ja jb))), some (.int (nI p))] [.int (nI (d ja p))]
                refine r_iload_n G dX0_way_77 rfl ?_
                refine r_icmp_ne G 84 (nI_eq (by have := T.dl hja (show p < L.n by omega); omega) (by omega)) dX0_way_78 (by decide) (fun h78 => ?_) (fun h78 => ?_)
                · refine r_iinc G (v := (nI (p + 1))) (lo' := [some (.ref o), some (.int (nI ja)), some (.int (nI jb)), some (.int (nI jk)), some (.int (nI (wy L.n d ja jb))), some (.int (nI (p + 1)))]) dX0_way_84 rfl (nI_add p 1) rfl rfl ?_
                  refine r_goto G 44 dX0_way_87 (by decide) ?_
                  exact ih44 _ (by omega) (fun q hq2 => (Classical.em (q = p)).elim (fun e => by rw [e, Bool.and_eq_false_iff, decide_eq_false_iff_not, decide_eq_false_iff_not]; exact Or.inl h78) (fun e => hq q (by omega))) (by omega)
                · refine r_iload G dX0_way_81 rfl ?_
                  exact r_iret G rfl ⟨Nat.zero_le _, Nat.zero_le _⟩ dX0_way_83 ⟨rfl, rI (by rw [aWay, q5, q13, h27, eja, ejb, ejk, fstN_some (p := p) (by omega) (by rw [Bool.and_eq_true, decide_eq_true_eq, decide_eq_true_eq]; exact ⟨h78, h65⟩) hq]; rfl)⟩
        exact L44 (L.n + 1) 0 (Nat.zero_le _) (fun q h => absurd h (Nat.not_lt_zero _)) (by omega)
      · refine r_bipush G (v := -2) dX0_way_30 (by decide) ?_
        exact r_iret G rfl ⟨Nat.zero_le _, Nat.zero_le _⟩ dX0_way_32 ⟨rfl, rI (by simp [aWay, q5, q13, h27])⟩
    · have q13 : isP L.n b = false := nt_t h13
      refine r_iconst G (v := -1) dX0_way_16 (by decide) ?_
      exact r_iret G rfl ⟨Nat.zero_le _, Nat.zero_le _⟩ dX0_way_17 ⟨rfl, rI (by first | simp [aWay, q5, q13] | simp [aWay, q5])⟩
set_option maxHeartbeats 4000000 in
theorem xM_X0_ofPost {l : Launch} {g : fG} {A : Nat → Prop} {En : State → Prop} {zd : Nat} (hX : fX zd g A En) {f : fH} {o : Nat} {tr gr fa : Int32} {rn lr sh : Nat} {L : xLs} {pa kd ld tw : Nat → Nat} {lk tk : Nat → Int32} (hO : f o = some (.inr (1, xF tr gr L.a rn lr fa sh))) (hP : xP g f o L pa kd ld tw lk tk) {d : Nat → Nat → Nat} (hT : L.n ≠ 0 → 2 ≤ L.n ∧ TM L.n tw d) (p what : Int32): fC l g A En yX0_ofPost cX0_ofPost 4 (some .int) (fR 13) [.ref o, .int p, .int what] f (fun v f' => f' = f ∧ v = some (.int (aOfPost L.n tw kd ld d p what))) := by
  have hE := hX.E
  refine fC.of (by decide) hX.E [some (.ref o), some (.int p), some (.int what), none] rfl rfl (fun K G => ?_)
  have G : fGood l g A En RX0 "ofPost" cX0_ofPost 4 (some .int) (fR 13) _ K := G
  have hn8 := hP.2.1
  refine r_aload_n G dX0_ofPost_0 rfl ?_
  refine r_iload_n G dX0_ofPost_1 rfl ?_
  refine s_callV (b := o) G [.int p] (xM_X0_noPost hX hO hP p) (lw_V q168 q170 qs0 q70 q171) fy_yX0_noPost rfl ⟨Nat.le_of_ble_eq_true rfl, Nat.le_of_ble_eq_true rfl⟩ (fs := [.int tr, .int gr, .ref L.a, .ref rn, .ref lr, .int fa, .ref sh]) hO (ci := 1) rfl rfl rfl (Nat.le_of_ble_eq_true rfl) rfl rfl ⟨Nat.zero_le _, Nat.zero_le _⟩ dX0_ofPost_2 ?_
  show K f 0 0 5 [some (.ref o), some (.int p), some (.int what), none] [.int (bI (!isP L.n p))]
  refine r_ifb_eq G 10  dX0_ofPost_5 (by decide) (fun h5 => ?_) (fun h5 => ?_)
  · have q5 : isP L.n p = true := nt_f h5
    obtain ⟨jp, hjp, rfl⟩ := isP_t (by omega) q5
    have ejp : ix (nI jp) = jp := ix_nI (by omega)
    obtain ⟨h2n, T⟩ := hT (by omega)
    refine r_aload_n G dX0_ofPost_10 rfl ?_
    refine r_getf G xCl1 (fs := [.int tr, .int gr, .ref L.a, .ref rn, .ref lr, .int fa, .ref sh]) hO 2 (by decide) q142 rfl rfl dX0_ofPost_11 ?_
    refine r_iload_n G dX0_ofPost_14 rfl ?_
    refine s_callF (b := L.a) G [.int (nI jp)] (xM_J2_get hX hP.1 jp hjp) (lw_F q186 q189 q191 q73 q193) (hX.fw 1 _ rfl) fx_1 rfl ⟨Nat.le_of_ble_eq_true rfl, Nat.le_of_ble_eq_true rfl⟩ (fs := [.int L.mc, .ref L.ea, .int (nI L.n)]) hP.1.1 (ci := 2) rfl rfl (Nat.le_of_ble_eq_true rfl) rfl rfl ⟨Nat.zero_le _, Nat.zero_le _⟩ dX0_ofPost_15 ?_
    show K f 0 0 20 [some (.ref o), some (.int (nI jp)), some (.int what), none] [va_rf ((L.el jp))]
    rw [show va_rf (L.el jp) = .ref (pa jp) from by rw [(hP.2.2.2 jp hjp).1]; rfl]
    refine r_castP hX G (hP.2.2.2 jp hjp).2.2.1 (hP.2.2.2 jp hjp).2.1 q204 dX0_ofPost_20 ?_
    refine r_astore_n G (lo' := [some (.ref o), some (.int (nI jp)), some (.int what), some (.ref (pa jp))]) dX0_ofPost_23 rfl rfl ?_
    refine r_iload_n G dX0_ofPost_24 rfl ?_
    rcases sw_in what 5 (by decide) with h25 | ⟨j25, hj25, rfl⟩
    · refine r_tableOut G 98 dX0_ofPost_25 h25 (by decide) ?_
      refine r_bipush G (v := -2) dX0_ofPost_98 (by decide) ?_
      exact r_iret G rfl ⟨Nat.zero_le _, Nat.zero_le _⟩ dX0_ofPost_100 ⟨rfl, rI (by simp only [aOfPost, q5, if_true]; rw [if_neg (sw_out h25 (j := 0) (by decide) (by decide)), if_neg (sw_out h25 (j := 1) (by decide) (by decide)), if_neg (sw_out h25 (j := 2) (by decide) (by decide)), if_neg (sw_out h25 (j := 3) (by decide) (by decide)), if_neg (sw_out h25 (j := 4) (by decide) (by decide)), if_neg (sw_out h25 (j := 5) (by decide) (by decide))])⟩
    · have hc25 : j25 = 0 ∨ j25 = 1 ∨ j25 = 2 ∨ j25 = 3 ∨ j25 = 4 ∨ j25 = 5 := by omega
      rcases hc25 with rfl | rfl | rfl | rfl | rfl | rfl
      · refine r_tableIn G 64 dX0_ofPost_25 (by decide) (by decide) rfl (by decide) ?_
        refine r_aload_n G dX0_ofPost_64 rfl ?_
        refine r_callK G (hP.2.2.2 jp hjp).2.2.1 (hP.2.2.2 jp hjp).2.1 [] (xkind hX).1 (xkind hX).2.1 (xkind hX).2.2 (lw_O q205 q208 q206 q207 q206 q90 q215) (lw_O q205 q208 q206 q209 q210 q91 q211) (lw_O q205 q208 q206 q212 q213 q92 q214) q215 (by decide +kernel) rfl ⟨⟨Nat.le_of_ble_eq_true rfl, Nat.le_of_ble_eq_true rfl⟩, ⟨Nat.le_of_ble_eq_true rfl, Nat.le_of_ble_eq_true rfl⟩, ⟨Nat.le_of_ble_eq_true rfl, Nat.le_of_ble_eq_true rfl⟩⟩ rfl (Nat.le_of_ble_eq_true rfl) ⟨Nat.zero_le _, Nat.zero_le _⟩ dX0_ofPost_65 (fun v65 f65 hp65 => ?_)
        obtain ⟨hf65, rfl⟩ := hp65
        rw [hf65]
        show K f 0 0 68 [some (.ref o), some (.int (nI jp)), some (.int (nI 0)), some (.ref (pa jp))] [.int (nI (kd jp))]
        exact r_iret G rfl ⟨Nat.zero_le _, Nat.zero_le _⟩ dX0_ofPost_68 ⟨rfl, rI (by rw [aOfPost, q5, ejp]; rfl)⟩
      · refine r_tableIn G 69 dX0_ofPost_25 (by decide) (by decide) rfl (by decide) ?_
        refine r_aload_n G dX0_ofPost_69 rfl ?_
        refine r_pget G (hP.2.2.2 jp hjp).2.2.1 (he := (hP.2.2.2 jp hjp).2.1) 0 (by decide) q536 pO_g0 dX0_ofPost_70 ?_
        exact r_iret G rfl ⟨Nat.zero_le _, Nat.zero_le _⟩ dX0_ofPost_73 ⟨rfl, rI (by rw [aOfPost, q5, ejp]; rfl)⟩
      · refine r_tableIn G 74 dX0_ofPost_25 (by decide) (by decide) rfl (by decide) ?_
        refine r_aload_n G dX0_ofPost_74 rfl ?_
        refine r_callK G (hP.2.2.2 jp hjp).2.2.1 (hP.2.2.2 jp hjp).2.1 [] (fun h => xM_wt0 hX h (hP.2.2.2 jp hjp).2.1) (fun h => xM_wt1 hX h (hP.2.2.2 jp hjp).2.1) (fun h => xM_wt2 hX h (hP.2.2.2 jp hjp).2.1) (lw_O q216 q219 q217 q218 q217 q90 q231) (lw_O q216 q219 q217 q220 q221 q91 q222) (lw_O q216 q219 q217 q232 q233 q92 q234) q231 (by decide +kernel) rfl ⟨⟨Nat.le_of_ble_eq_true rfl, Nat.le_of_ble_eq_true rfl⟩, ⟨Nat.le_of_ble_eq_true rfl, Nat.le_of_ble_eq_true rfl⟩, ⟨Nat.le_of_ble_eq_true rfl, Nat.le_of_ble_eq_true rfl⟩⟩ rfl (Nat.le_of_ble_eq_true rfl) ⟨Nat.zero_le _, Nat.zero_le _⟩ dX0_ofPost_75 (fun v75 f75 hp75 => ?_)
        obtain ⟨hf75, rfl⟩ := hp75
        rw [hf75]
        show K f 0 0 78 [some (.ref o), some (.int (nI jp)), some (.int (nI 2)), some (.ref (pa jp))] [.int (nI (wv kd ld jp))]
        exact r_iret G rfl ⟨Nat.zero_le _, Nat.zero_le _⟩ dX0_ofPost_78 ⟨rfl, rI (by rw [aOfPost, q5, ejp]; rfl)⟩
      · refine r_tableIn G 79 dX0_ofPost_25 (by decide) (by decide) rfl (by decide) ?_
        refine r_aload_n G dX0_ofPost_79 rfl ?_
        refine r_pget G (hP.2.2.2 jp hjp).2.2.1 (he := (hP.2.2.2 jp hjp).2.1) 1 (by decide) q538 pO_g1 dX0_ofPost_80 ?_
        refine s_callS G [.int (nI (tw jp))] (sX_J16_bitCount hE (tw jp) (by have := hP.t8 jp hjp; omega)) (lw_S q239 q240 q95 q241) fy_yJ16_bitCount rfl ⟨Nat.le_of_ble_eq_true rfl, Nat.le_of_ble_eq_true rfl⟩ rfl (Nat.le_of_ble_eq_true rfl) rfl rfl ⟨Nat.zero_le _, Nat.zero_le _⟩ dX0_ofPost_83 ?_
        show K f 0 0 86 [some (.ref o), some (.int (nI jp)), some (.int (nI 3)), some (.ref (pa jp))] [.int (nI (cnt (tw jp)))]
        exact r_iret G rfl ⟨Nat.zero_le _, Nat.zero_le _⟩ dX0_ofPost_86 ⟨rfl, rI (by rw [aOfPost, q5, ejp]; rfl)⟩
      · refine r_tableIn G 87 dX0_ofPost_25 (by decide) (by decide) rfl (by decide) ?_
        refine r_aload_n G dX0_ofPost_87 rfl ?_
        refine r_pget G (hP.2.2.2 jp hjp).2.2.1 (he := (hP.2.2.2 jp hjp).2.1) 1 (by decide) q538 pO_g1 dX0_ofPost_88 ?_
        exact r_iret G rfl ⟨Nat.zero_le _, Nat.zero_le _⟩ dX0_ofPost_91 ⟨rfl, rI (by rw [aOfPost, q5, ejp]; rfl)⟩
      · refine r_tableIn G 92 dX0_ofPost_25 (by decide) (by decide) rfl (by decide) ?_
        refine r_aload_n G dX0_ofPost_92 rfl ?_
        refine r_iload_n G dX0_ofPost_93 rfl ?_
        refine s_callV (b := o) G [.int (nI jp)] (xM_X0_farthest hX hO hP T jp hjp) (lw_V q245 q247 qs1 q70 q248) fy_yX0_farthest rfl ⟨Nat.le_of_ble_eq_true rfl, Nat.le_of_ble_eq_true rfl⟩ (fs := [.int tr, .int gr, .ref L.a, .ref rn, .ref lr, .int fa, .ref sh]) hO (ci := 1) rfl rfl rfl (Nat.le_of_ble_eq_true rfl) rfl rfl ⟨Nat.zero_le _, Nat.zero_le _⟩ dX0_ofPost_94 ?_
        show K f 0 0 97 [some (.ref o), some (.int (nI jp)), some (.int (nI 5)), some (.ref (pa jp))] [.int (nI (maxN L.n (d jp)))]
        exact r_iret G rfl ⟨Nat.zero_le _, Nat.zero_le _⟩ dX0_ofPost_97 ⟨rfl, rI (by rw [aOfPost, q5, ejp]; rfl)⟩
  · have q5 : isP L.n p = false := nt_t h5
    refine r_iconst G (v := -1) dX0_ofPost_8 (by decide) ?_
    exact r_iret G rfl ⟨Nat.zero_le _, Nat.zero_le _⟩ dX0_ofPost_9 ⟨rfl, rI (by simp [aOfPost, q5])⟩
set_option maxHeartbeats 4000000 in
theorem xM_X0_middle {l : Launch} {g : fG} {A : Nat → Prop} {En : State → Prop} {zd : Nat} (hX : fX zd g A En) {f : fH} {o : Nat} {tr gr fa : Int32} {rn lr sh : Nat} {L : xLs} {pa kd ld tw : Nat → Nat} {lk tk : Nat → Int32} (hO : f o = some (.inr (1, xF tr gr L.a rn lr fa sh))) (hP : xP g f o L pa kd ld tw lk tk) {d : Nat → Nat → Nat} (hT : L.n ≠ 0 → 2 ≤ L.n ∧ TM L.n tw d) (what : Int32): fC l g A En yX0_middle cX0_middle 2 (some .int) (fR 14) [.ref o, .int what] f (fun v f' => f' = f ∧ v = some (.int (aMiddle L.n d what))) := by
  have hE := hX.E
  refine fC.of (by decide) hX.E [some (.ref o), some (.int what)] rfl rfl (fun K G => ?_)
  have G : fGood l g A En RX0 "middle" cX0_middle 2 (some .int) (fR 14) _ K := G
  have hn8 := hP.2.1
  refine r_iload_n G dX0_middle_0 rfl ?_
  refine r_i2l G dX0_middle_1 rfl ?_
  refine r_lconst G (v := lN 0) dX0_middle_2 (by decide) ?_
  refine r_lconst G (v := lN 1) dX0_middle_3 (by decide) ?_
  refine s_callS G [.long what.toInt64, .long (lN 0), .long (lN 1)] (sX_X0_inI hE what 0 1 (by decide) (by decide)) (lw_S q182 q183 q70 q184) fy_yX0_in rfl ⟨Nat.le_of_ble_eq_true rfl, Nat.le_of_ble_eq_true rfl⟩ rfl (Nat.le_of_ble_eq_true rfl) rfl rfl ⟨Nat.zero_le _, Nat.zero_le _⟩ dX0_middle_4 ?_
  show K f 0 0 7 [some (.ref o), some (.int what)] [.int (bI (wi what (nI 0) (nI 1)))]
  refine r_ifb_ne G 13  dX0_middle_7 (by decide) (fun h7 => ?_) (fun h7 => ?_)
  · obtain ⟨jw, hjw0, hjw, rfl⟩ := wi_t (by decide) (by decide) h7
    have ejw : ix (nI jw) = jw := ix_nI (by omega)
    refine r_aload_n G dX0_middle_13 rfl ?_
    refine s_callV (b := o) G [] (xM_X0_noVine hX hO hP) (lw_V q273 q275 qs3 q70 q276) fy_yX0_noVine rfl ⟨Nat.le_of_ble_eq_true rfl, Nat.le_of_ble_eq_true rfl⟩ (fs := [.int tr, .int gr, .ref L.a, .ref rn, .ref lr, .int fa, .ref sh]) hO (ci := 1) rfl rfl rfl (Nat.le_of_ble_eq_true rfl) rfl rfl ⟨Nat.zero_le _, Nat.zero_le _⟩ dX0_middle_14 ?_
    show K f 0 0 17 [some (.ref o), some (.int (nI jw))] [.int (bI (decide (L.n = 0)))]
    refine r_ifb_eq G 25  dX0_middle_17 (by decide) (fun h17 => ?_) (fun h17 => ?_)
    · have h17q : ¬ L.n = 0 := of_decide_eq_false h17
      obtain ⟨h2n, T⟩ := hT h17q
      refine r_iload_n G dX0_middle_25 rfl ?_
      refine r_if_ne G 36 (n_eq0 (by omega)) dX0_middle_26 (by decide) (fun h26 => ?_) (fun h26 => ?_)
      · refine r_aload_n G dX0_middle_36 rfl ?_
        refine s_callV (b := o) G [] (xM_X0_longest hX hO hP T) (lw_V q341 q343 qs10 q70 q344) fy_yX0_longest rfl ⟨Nat.le_of_ble_eq_true rfl, Nat.le_of_ble_eq_true rfl⟩ (fs := [.int tr, .int gr, .ref L.a, .ref rn, .ref lr, .int fa, .ref sh]) hO (ci := 1) rfl rfl rfl (Nat.le_of_ble_eq_true rfl) rfl rfl ⟨Nat.zero_le _, Nat.zero_le _⟩ dX0_middle_37 ?_
        show K f 0 0 40 [some (.ref o), some (.int (nI jw))] [.int (nI (maxN L.n (fun p => maxN L.n (d p))))]
        exact r_iret G rfl ⟨Nat.zero_le _, Nat.zero_le _⟩ dX0_middle_40 ⟨rfl, rI (by obtain rfl : jw = 1 := (by omega); rw [aMiddle, h7, if_pos rfl, if_neg h17q, if_pos rfl])⟩
      · refine r_aload_n G dX0_middle_29 rfl ?_
        refine s_callV (b := o) G [] (xM_X0_middles hX hO hP T) (lw_V q334 q336 qs9 q70 q337) fy_yX0_middles rfl ⟨Nat.le_of_ble_eq_true rfl, Nat.le_of_ble_eq_true rfl⟩ (fs := [.int tr, .int gr, .ref L.a, .ref rn, .ref lr, .int fa, .ref sh]) hO (ci := 1) rfl rfl rfl (Nat.le_of_ble_eq_true rfl) rfl rfl ⟨Nat.zero_le _, Nat.zero_le _⟩ dX0_middle_30 ?_
        show K f 0 0 33 [some (.ref o), some (.int (nI jw))] [.int (nI ((mid L.n d L.n).1))]
        refine r_goto G 40 dX0_middle_33 (by decide) ?_
        exact r_iret G rfl ⟨Nat.zero_le _, Nat.zero_le _⟩ dX0_middle_40 ⟨rfl, rI (by subst h26; rw [aMiddle, h7, if_pos rfl, if_neg h17q, if_neg (by decide)])⟩
    · have h17q : L.n = 0 := of_decide_eq_true h17
      refine r_bipush G (v := -3) dX0_middle_20 (by decide) ?_
      refine r_goto G 40 dX0_middle_22 (by decide) ?_
      exact r_iret G rfl ⟨Nat.zero_le _, Nat.zero_le _⟩ dX0_middle_40 ⟨rfl, rI (by rw [aMiddle, h7, if_pos rfl, if_pos h17q])⟩
  · refine r_bipush G (v := -2) dX0_middle_10 (by decide) ?_
    exact r_iret G rfl ⟨Nat.zero_le _, Nat.zero_le _⟩ dX0_middle_12 ⟨rfl, rI (by simp [aMiddle, h7])⟩
end XX15
