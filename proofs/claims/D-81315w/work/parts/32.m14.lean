/-! the reference: alike -/
set_option maxRecDepth 100000
section MM14
set_option maxHeartbeats 4000000 in
theorem mM_orders {l : Launch} {g : fG} {A : Nat → Prop} {En : State → Prop} (hE : fEnv g A En) {o : Nat} {ad : Nat → Nat} (hD : mD A o ad) {S : mS} {n : Nat} (hn : S.1 5 = nI n) (hn0 : n ≠ 0) (hn8 : n ≤ 8): mC l g A En o ad yX1_orders cX1_orders 3 (some .int) (fR 0) [] S (fun v S' => v = some (.int (nI (fct n))) ∧ S = S') := by
  refine fC.of (by decide) hE [some (.ref o), none, none] rfl rfl (fun K G => ?_)
  have G : fGood l g A En RX1 "orders" cX1_orders 3 (some .int) (fR 0) _ K := G
  refine r_iconst G (v := nI 1) dX1_orders_0 (by decide) ?_
  refine r_istore_n G (lo' := [some (.ref o), some (.int (nI 1)), none]) dX1_orders_1 rfl rfl ?_
  refine r_iconst G (v := nI 2) dX1_orders_2 (by decide) ?_
  refine r_istore_n G (lo' := [some (.ref o), some (.int (nI 1)), some (.int (nI 2))]) dX1_orders_3 rfl rfl ?_
  have L4 : ∀ (fu : Nat) (k x : Nat), (2 ≤ k) → (k ≤ n + 1) → (x = fct (k - 1)) → n + 1 - k < fu → K (mH g o ad S) 0 0 4 [some (.ref o), some (.int (nI x)), some (.int (nI k))] [] := by
    intro fu
    induction fu with
    | zero => intro k x hk hk2 hx hm4; exact absurd hm4 (Nat.not_lt_zero _)
    | succ fu4 ih4 =>
      intro k x hk hk2 hx hm4
      refine r_iload_n G dX1_orders_4 rfl ?_
      refine r_aload_n G dX1_orders_5 rfl ?_
      refine m_gets G 5 (by decide) q1195 rfl (v := (nI n)) hn dX1_orders_6 ?_
      refine r_icmp_gt G 22 (nI_ltI (by omega) (by omega)) dX1_orders_9 (by decide) (fun h9 => ?_) (fun h9 => ?_)
      · refine r_iload_n G dX1_orders_22 rfl ?_
        exact r_iret G rfl ⟨Nat.zero_le _, Nat.zero_le _⟩ dX1_orders_23 ⟨_, rfl, rv (by rw [hx, show k - 1 = n by omega]), rfl⟩
      · refine r_iload_n G dX1_orders_12 rfl ?_
        refine r_iload_n G dX1_orders_13 rfl ?_
        refine r_imul G (v := (nI (x * k))) dX1_orders_14 (pk_mul x k) ?_
        refine r_istore_n G (lo' := [some (.ref o), some (.int (nI (x * k))), some (.int (nI k))]) dX1_orders_15 rfl rfl ?_
        refine r_iinc G (v := (nI (k + 1))) (lo' := [some (.ref o), some (.int (nI (x * k))), some (.int (nI (k + 1)))]) dX1_orders_16 rfl (nI_add k 1) rfl rfl ?_
        refine r_goto G 4 dX1_orders_19 (by decide) ?_
        exact ih4 _ _ (by omega) (by omega) (by rw [hx]; obtain ⟨j, rfl⟩ : ∃ j, k = j + 1 := ⟨k - 1, by omega⟩; exact Nat.mul_comm _ _) (by omega)
  exact L4 (n + 2) 2 1 (by omega) (by omega) rfl (by omega)
theorem kth_lt {s x y : Nat} (h : x ≤ y) (hy : s.testBit y = true) (hx : s.testBit x = false) : x + 1 ≤ y := by
  rcases Nat.lt_or_ge x y with z | z
  · exact z
  · rw [show x = y by omega, hy] at hx; cases hx
theorem kth_eq {s a x y : Nat} (h1 : a < x) (h2 : x ≤ y) (h3 : x < 8) (h4 : ∀ x, x < 8 → a < x → x < y → s.testBit x = false) (h5 : s.testBit x = true) : x = y := by
  rcases Nat.lt_or_ge x y with z | z
  · rw [h4 x h3 h1 z] at h5; cases h5
  · omega
set_option maxHeartbeats 4000000 in
theorem mM_findNames {l : Launch} {g : fG} {A : Nat → Prop} {En : State → Prop} (hE : fEnv g A En) {o : Nat} {ad : Nat → Nat} (hD : mD A o ad) {S : mS} {n : Nat} (hn : S.1 5 = nI n) (hn8 : n ≤ 8) (k : Nat) (hk : k < 2 ^ 31): mC l g A En o ad yX1_findNames cX1_findNames 8 none (fR 2) [.int (nI k)] S (fun v S' => v = none ∧ ∃ fn, mArr S 20 fn = S' ∧ ∀ p, p < n → fn p = nI (nmf n k p)) := by
  refine fC.of (by decide) hE [some (.ref o), some (.int (nI k)), none, none, none, none, none, none] rfl rfl (fun K G => ?_)
  have G : fGood l g A En RX1 "findNames" cX1_findNames 8 none (fR 2) _ K := G
  have h256 := pow_n8 hn8
  refine r_iload_n G dX1_findNames_0 rfl ?_
  refine r_istore_n G (lo' := [some (.ref o), some (.int (nI k)), some (.int (nI k)), none, none, none, none, none]) dX1_findNames_1 rfl rfl ?_
  refine r_iconst G (v := nI 1) dX1_findNames_2 (by decide) ?_
  refine r_aload_n G dX1_findNames_3 rfl ?_
  refine m_gets G 5 (by decide) q1195 rfl (v := (nI n)) hn dX1_findNames_4 ?_
  refine r_ishl G (v := (nI (1 <<< n))) dX1_findNames_7 (n_shl (by omega)) ?_
  refine r_iconst G (v := nI 1) dX1_findNames_8 (by decide) ?_
  refine r_isub G (v := (nI (2 ^ n - 1))) dX1_findNames_9 (n_full n (by omega)) ?_
  refine r_istore_n G (lo' := [some (.ref o), some (.int (nI k)), some (.int (nI k)), some (.int (nI (2 ^ n - 1))), none, none, none, none]) dX1_findNames_10 rfl rfl ?_
  refine r_iconst G (v := nI 0) dX1_findNames_11 (by decide) ?_
  refine r_istore G (lo' := [some (.ref o), some (.int (nI k)), some (.int (nI k)), some (.int (nI (2 ^ n - 1))), some (.int (nI 0)), none, none, none]) dX1_findNames_12 rfl rfl ?_
  have L14 : ∀ (fu : Nat) (p : Nat) (fa : Nat → Int32), (p ≤ n) → (∀ q, q < p → fa q = nI (nmf n k q)) → n - p < fu → K (mH g o ad (mArr S 20 fa)) 0 0 14 [some (.ref o), some (.int (nI k)), some (.int (nI ((nst n k p).1))), some (.int (nI ((nst n k p).2))), some (.int (nI p)), none, none, none] [] := by
    intro fu
    induction fu with
    | zero => intro p fa hp hfa hm14; exact absurd hm14 (Nat.not_lt_zero _)
    | succ fu14 ih14 =>
      intro p fa hp hfa hm14
      refine r_iload G dX1_findNames_14 rfl ?_
      refine r_aload_n G dX1_findNames_16 rfl ?_
      refine m_gets G 5 (by decide) q1195 rfl (v := (nI n)) hn dX1_findNames_17 ?_
      refine r_icmp_ge G 108 (nI_leI (by omega) (by omega)) dX1_findNames_20 (by decide) (fun h20 => ?_) (fun h20 => ?_)
      · exact r_vret G rfl ⟨Nat.zero_le _, Nat.zero_le _⟩ dX1_findNames_108 ⟨_, rfl, rfl, fa, rfl, fun q hq => hfa q (by omega)⟩
      · obtain ⟨hf1, hf2, hf3⟩ := nst_ok (k := k) hn8 p hp
        have hmod : (nst n k p).1 % (n - p) < n - p := Nat.mod_lt _ (by omega)
        have hfb : (nst n k p).2 < 256 := Nat.lt_of_lt_of_le hf1 (pow_n8 hn8)
        refine r_iload_n G dX1_findNames_23 rfl ?_
        refine r_aload_n G dX1_findNames_24 rfl ?_
        refine m_gets G 5 (by decide) q1195 rfl (v := (nI n)) hn dX1_findNames_25 ?_
        refine r_iload G dX1_findNames_28 rfl ?_
        refine r_isub G (v := (nI (n - p))) dX1_findNames_30 (pk_sub (by omega)) ?_
        refine r_irem G (v := (nI ((nst n k p).1 % (n - p)))) dX1_findNames_31 (nI_ne0 (by omega) (by omega)) (pk_rem (by omega) (by omega) (by omega)) ?_
        refine r_istore G (lo' := [some (.ref o), some (.int (nI k)), some (.int (nI ((nst n k p).1))), some (.int (nI ((nst n k p).2))), some (.int (nI p)), some (.int (nI ((nst n k p).1 % (n - p)))), none, none]) dX1_findNames_32 rfl rfl ?_
        refine r_iload_n G dX1_findNames_34 rfl ?_
        refine r_aload_n G dX1_findNames_35 rfl ?_
        refine m_gets G 5 (by decide) q1195 rfl (v := (nI n)) hn dX1_findNames_36 ?_
        refine r_iload G dX1_findNames_39 rfl ?_
        refine r_isub G (v := (nI (n - p))) dX1_findNames_41 (pk_sub (by omega)) ?_
        refine r_idiv G (v := (nI ((nst n k p).1 / (n - p)))) dX1_findNames_42 (nI_ne0 (by omega) (by omega)) (pk_div (by omega) (by omega) (by omega)) ?_
        refine r_istore_n G (lo' := [some (.ref o), some (.int (nI k)), some (.int (nI ((nst n k p).1 / (n - p)))), some (.int (nI ((nst n k p).2))), some (.int (nI p)), some (.int (nI ((nst n k p).1 % (n - p)))), none, none]) dX1_findNames_43 rfl rfl ?_
        refine r_iload_n G dX1_findNames_44 rfl ?_
        refine s_callS G [.int (nI ((nst n k p).2))] (sM_leastOf hE ((nst n k p).2) (Nat.lt_of_lt_of_le hf1 (pow_n8 hn8)) (Nat.pos_of_ne_zero fun z => by rw [z, show cnt 0 = 0 from by decide] at hf2; omega)) (lw_S q1309 q1310 q74 q1311) fy_yX1_leastOf rfl ⟨Nat.le_of_ble_eq_true rfl, Nat.le_of_ble_eq_true rfl⟩ rfl (Nat.le_of_ble_eq_true rfl) rfl rfl ⟨Nat.zero_le _, Nat.zero_le _⟩ dX1_findNames_45 ?_
        refine r_istore G (lo' := [some (.ref o), some (.int (nI k)), some (.int (nI ((nst n k p).1 / (n - p)))), some (.int (nI ((nst n k p).2))), some (.int (nI p)), some (.int (nI ((nst n k p).1 % (n - p)))), some (.int (nI (lst ((nst n k p).2)))), none]) dX1_findNames_48 rfl rfl ?_
        refine r_iconst G (v := nI 0) dX1_findNames_50 (by decide) ?_
        refine r_istore G (lo' := [some (.ref o), some (.int (nI k)), some (.int (nI ((nst n k p).1 / (n - p)))), some (.int (nI ((nst n k p).2))), some (.int (nI p)), some (.int (nI ((nst n k p).1 % (n - p)))), some (.int (nI (lst ((nst n k p).2)))), some (.int (nI 0))]) dX1_findNames_51 rfl rfl ?_
        have L53 : ∀ (fu : Nat) (j : Nat), (j ≤ (nst n k p).1 % (n - p)) → (nst n k p).1 % (n - p) - j < fu → K (mH g o ad (mArr S 20 fa)) 0 0 53 [some (.ref o), some (.int (nI k)), some (.int (nI ((nst n k p).1 / (n - p)))), some (.int (nI ((nst n k p).2))), some (.int (nI p)), some (.int (nI ((nst n k p).1 % (n - p)))), some (.int (nI (kth (nst n k p).2 j))), some (.int (nI j))] [] := by
          intro fu
          induction fu with
          | zero => intro j hj hm53; exact absurd hm53 (Nat.not_lt_zero _)
          | succ fu53 ih53 =>
            intro j hj hm53
            refine r_iload G dX1_findNames_53 rfl ?_
            refine r_iload G dX1_findNames_55 rfl ?_
            refine r_icmp_ge G 84 (nI_leI (by omega) (by omega)) dX1_findNames_57 (by decide) (fun h57 => ?_) (fun h57 => ?_)
            · have hje : j = (nst n k p).1 % (n - p) := by omega
              rw [hje]
              obtain ⟨hk1, hk2⟩ := kth_ok (nst n k p).2 hfb ((nst n k p).1 % (n - p)) (by omega) (by omega)
              refine r_aload_n G dX1_findNames_84 rfl ?_
              refine m_geta G 20 (by decide) q1210 rfl dX1_findNames_85 ?_
              refine r_iload G dX1_findNames_88 rfl ?_
              refine r_iload G dX1_findNames_90 rfl ?_
              refine m_ast G hD 20 (by decide) (by simp only [mN]; omega) dX1_findNames_92 ?_
              rw [mPut_arr]
              refine r_iload_n G dX1_findNames_93 rfl ?_
              refine r_iconst G (v := nI 1) dX1_findNames_94 (by decide) ?_
              refine r_iload G dX1_findNames_95 rfl ?_
              refine r_ishl G (v := (nI (1 <<< (kth (nst n k p).2 ((nst n k p).1 % (n - p)))))) dX1_findNames_97 (n_shl (by omega)) ?_
              refine r_iconst G (v := -1) dX1_findNames_98 (by decide) ?_
              refine r_ixor G (v := (nI (1 <<< (kth (nst n k p).2 ((nst n k p).1 % (n - p)))) ^^^ -1)) dX1_findNames_99 rfl ?_
              refine r_iand G (v := (nI (ndf ((nst n k p).2) (1 <<< (kth (nst n k p).2 ((nst n k p).1 % (n - p))))))) dX1_findNames_100 (n_andn (Nat.lt_trans (Nat.lt_of_lt_of_le hf1 (pow_n8 hn8)) (by decide)) (Nat.lt_of_lt_of_le (shl1_lt hk1) (by decide))) ?_
              refine r_istore_n G (lo' := [some (.ref o), some (.int (nI k)), some (.int (nI ((nst n k p).1 / (n - p)))), some (.int (nI (ndf ((nst n k p).2) (1 <<< (kth (nst n k p).2 ((nst n k p).1 % (n - p))))))), some (.int (nI p)), some (.int (nI ((nst n k p).1 % (n - p)))), some (.int (nI (kth (nst n k p).2 ((nst n k p).1 % (n - p))))), some (.int (nI ((nst n k p).1 % (n - p))))]) dX1_findNames_101 rfl rfl ?_
              refine r_iinc G (v := (nI (p + 1))) (lo' := [some (.ref o), some (.int (nI k)), some (.int (nI ((nst n k p).1 / (n - p)))), some (.int (nI (ndf ((nst n k p).2) (1 <<< (kth (nst n k p).2 ((nst n k p).1 % (n - p))))))), some (.int (nI (p + 1))), some (.int (nI ((nst n k p).1 % (n - p)))), some (.int (nI (kth (nst n k p).2 ((nst n k p).1 % (n - p))))), some (.int (nI ((nst n k p).1 % (n - p))))]) dX1_findNames_102 rfl (nI_add p 1) rfl rfl ?_
              refine r_goto G 14 dX1_findNames_105 (by decide) ?_
              refine r_drop G 5 (lo' := [some (.ref o), some (.int (nI k)), some (.int (nI ((nst n k p).1 / (n - p)))), some (.int (nI (ndf ((nst n k p).2) (1 <<< (kth (nst n k p).2 ((nst n k p).1 % (n - p))))))), some (.int (nI (p + 1))), none, some (.int (nI (kth (nst n k p).2 ((nst n k p).1 % (n - p))))), some (.int (nI ((nst n k p).1 % (n - p))))]) rfl ?_
              refine r_drop G 6 (lo' := [some (.ref o), some (.int (nI k)), some (.int (nI ((nst n k p).1 / (n - p)))), some (.int (nI (ndf ((nst n k p).2) (1 <<< (kth (nst n k p).2 ((nst n k p).1 % (n - p))))))), some (.int (nI (p + 1))), none, none, some (.int (nI ((nst n k p).1 % (n - p))))]) rfl ?_
              refine r_drop G 7 (lo' := [some (.ref o), some (.int (nI k)), some (.int (nI ((nst n k p).1 / (n - p)))), some (.int (nI (ndf ((nst n k p).2) (1 <<< (kth (nst n k p).2 ((nst n k p).1 % (n - p))))))), some (.int (nI (p + 1))), none, none, none]) rfl ?_
              exact ih14 (p + 1) _ (by omega) (fun q hq => (Classical.em (q = p)).elim (fun e => by rw [e]; exact pk_us) (fun e => by rw [pk_un e]; exact hfa q (by omega))) (by omega)
            · obtain ⟨hx1, hx2⟩ := kth_nx (nst n k p).2 hfb j (by omega) (by omega)
              obtain ⟨hy1, hy2⟩ := kth_ok (nst n k p).2 hfb (j + 1) (by omega) (by omega)
              refine r_iinc G (v := (nI ((kth (nst n k p).2 j) + 1))) (lo' := [some (.ref o), some (.int (nI k)), some (.int (nI ((nst n k p).1 / (n - p)))), some (.int (nI ((nst n k p).2))), some (.int (nI p)), some (.int (nI ((nst n k p).1 % (n - p)))), some (.int (nI ((kth (nst n k p).2 j) + 1))), some (.int (nI j))]) dX1_findNames_60 rfl (nI_add (kth (nst n k p).2 j) 1) rfl rfl ?_
              have L63 : ∀ (fu : Nat) (x : Nat), (kth (nst n k p).2 j < x) → (x ≤ kth (nst n k p).2 (j + 1)) → kth (nst n k p).2 (j + 1) - x < fu → K (mH g o ad (mArr S 20 fa)) 0 0 63 [some (.ref o), some (.int (nI k)), some (.int (nI ((nst n k p).1 / (n - p)))), some (.int (nI ((nst n k p).2))), some (.int (nI p)), some (.int (nI ((nst n k p).1 % (n - p)))), some (.int (nI x)), some (.int (nI j))] [] := by
                intro fu
                induction fu with
                | zero => intro x hxa hxb hm63; exact absurd hm63 (Nat.not_lt_zero _)
                | succ fu63 ih63 =>
                  intro x hxa hxb hm63
                  refine r_iload_n G dX1_findNames_63 rfl ?_
                  refine r_iload G dX1_findNames_64 rfl ?_
                  refine s_callS G [.int (nI ((nst n k p).2)), .int (nI x)] (sM_isOf hE ((nst n k p).2) x (Nat.lt_trans (Nat.lt_of_lt_of_le hf1 (pow_n8 hn8)) (by decide)) (by omega)) (lw_S q1312 q1313 q74 q1314) fy_yX1_isOf rfl ⟨Nat.le_of_ble_eq_true rfl, Nat.le_of_ble_eq_true rfl⟩ rfl (Nat.le_of_ble_eq_true rfl) rfl rfl ⟨Nat.zero_le _, Nat.zero_le _⟩ dX1_findNames_66 ?_
                  refine r_ifb_ne G 78  dX1_findNames_69 (by decide) (fun h69 => ?_) (fun h69 => ?_)
                  · have hxe : x = kth (nst n k p).2 (j + 1) := kth_eq hxa hxb (by omega) hx2 h69
                    rw [hxe]
                    refine r_iinc G (v := (nI (j + 1))) (lo' := [some (.ref o), some (.int (nI k)), some (.int (nI ((nst n k p).1 / (n - p)))), some (.int (nI ((nst n k p).2))), some (.int (nI p)), some (.int (nI ((nst n k p).1 % (n - p)))), some (.int (nI (kth (nst n k p).2 (j + 1)))), some (.int (nI (j + 1)))]) dX1_findNames_78 rfl (nI_add j 1) rfl rfl ?_
                    refine r_goto G 53 dX1_findNames_81 (by decide) ?_
                    exact ih53 _ (by omega) (by omega)
                  · refine r_iinc G (v := (nI (x + 1))) (lo' := [some (.ref o), some (.int (nI k)), some (.int (nI ((nst n k p).1 / (n - p)))), some (.int (nI ((nst n k p).2))), some (.int (nI p)), some (.int (nI ((nst n k p).1 % (n - p)))), some (.int (nI (x + 1))), some (.int (nI j))]) dX1_findNames_72 rfl (nI_add x 1) rfl rfl ?_
                    refine r_goto G 63 dX1_findNames_75 (by decide) ?_
                    exact ih63 _ (by omega) (kth_lt hxb hy2 h69) (by have := kth_lt hxb hy2 h69; omega)
              exact L63 9 (kth (nst n k p).2 j + 1) (by omega) (by omega) (by omega)
        exact L53 (n + 1) 0 (Nat.zero_le _) (by omega)
  rw [show S = mArr S 20 (S.2 20) from (mArr_0 S 20).symm]
  exact L14 (n + 1) 0 (S.2 20) (Nat.zero_le _) (fun q h => absurd h (Nat.not_lt_zero _)) (by omega)
theorem sm_lt {q m s : Nat} {σ : Nat → Nat} (h : ∀ r, r < q → σ r < 8) (hm : m = orN q fun q => if s.testBit q then 1 <<< σ q else 0) : m < 2 ^ 31 := by
  rw [hm]
  refine Nat.lt_trans (orN_lt (k := 8) fun r hr => ?_) (by decide)
  split
  · exact shl1_lt (h r hr)
  · decide
set_option maxHeartbeats 4000000 in
theorem mM_isSame {l : Launch} {g : fG} {A : Nat → Prop} {En : State → Prop} (hE : fEnv g A En) {o : Nat} {ad : Nat → Nat} (hD : mD A o ad) {S : mS} {n : Nat} {tw kd ld : Nat → Nat} (hV : mV S n tw kd ld) {σ : Nat → Nat} (hσ : ∀ p, p < n → S.2 20 p = nI (σ p) ∧ σ p < n): mC l g A En o ad yX1_isSame cX1_isSame 4 (some .boolean) (fR 1) [] S (fun v S' => v = some (.int (bI (isA n tw σ))) ∧ S = S') := by
  refine fC.of (by decide) hE [some (.ref o), none, none, none] rfl rfl (fun K G => ?_)
  have G : fGood l g A En RX1 "isSame" cX1_isSame 4 (some .boolean) (fR 1) _ K := G
  have hn8 := hV.2.1
  refine r_iconst G (v := nI 0) dX1_isSame_0 (by decide) ?_
  refine r_istore_n G (lo' := [some (.ref o), some (.int (nI 0)), none, none]) dX1_isSame_1 rfl rfl ?_
  have L2 : ∀ (fu : Nat) (p : Nat), (p ≤ n) → (∀ t, t < p → decide ((orN n fun q => if (tw t).testBit q then 1 <<< σ q else 0) = tw (σ t)) = true) → n - p < fu → K (mH g o ad S) 0 0 2 [some (.ref o), some (.int (nI p)), none, none] [] := by
    intro fu
    induction fu with
    | zero => intro p hp hal hm2; exact absurd hm2 (Nat.not_lt_zero _)
    | succ fu2 ih2 =>
      intro p hp hal hm2
      refine r_iload_n G dX1_isSame_2 rfl ?_
      refine r_aload_n G dX1_isSame_3 rfl ?_
      refine m_gets G 5 (by decide) q1195 rfl (v := (nI n)) hV.1 dX1_isSame_4 ?_
      refine r_icmp_ge G 79 (nI_leI (by have := hV.2.1; omega) (by omega)) dX1_isSame_7 (by decide) (fun h7 => ?_) (fun h7 => ?_)
      · refine r_iconst G (v := nI 1) dX1_isSame_79 (by decide) ?_
        exact r_zret G rfl (by decide) ⟨Nat.zero_le _, Nat.zero_le _⟩ dX1_isSame_80 ⟨_, rfl, rb (by rw [isA, allN_t (fun t ht => hal t (by omega))]; rfl), rfl⟩
      · refine r_iconst G (v := nI 0) dX1_isSame_10 (by decide) ?_
        refine r_istore_n G (lo' := [some (.ref o), some (.int (nI p)), some (.int (nI 0)), none]) dX1_isSame_11 rfl rfl ?_
        refine r_iconst G (v := nI 0) dX1_isSame_12 (by decide) ?_
        refine r_istore_n G (lo' := [some (.ref o), some (.int (nI p)), some (.int (nI 0)), some (.int (nI 0))]) dX1_isSame_13 rfl rfl ?_
        have L14 : ∀ (fu : Nat) (q m : Nat), (q ≤ n) → (m = orN q fun q => if (tw p).testBit q then 1 <<< σ q else 0) → n - q < fu → K (mH g o ad S) 0 0 14 [some (.ref o), some (.int (nI p)), some (.int (nI m)), some (.int (nI q))] [] := by
          intro fu
          induction fu with
          | zero => intro q m hq hm hm14; exact absurd hm14 (Nat.not_lt_zero _)
          | succ fu14 ih14 =>
            intro q m hq hm hm14
            refine r_iload_n G dX1_isSame_14 rfl ?_
            refine r_aload_n G dX1_isSame_15 rfl ?_
            refine m_gets G 5 (by decide) q1195 rfl (v := (nI n)) hV.1 dX1_isSame_16 ?_
            refine r_icmp_ge G 56 (nI_leI (by have := hV.2.1; omega) (by omega)) dX1_isSame_19 (by decide) (fun h19 => ?_) (fun h19 => ?_)
            · refine r_iload_n G dX1_isSame_56 rfl ?_
              refine r_aload_n G dX1_isSame_57 rfl ?_
              refine m_geta G 7 (by decide) q1197 rfl dX1_isSame_58 ?_
              refine r_aload_n G dX1_isSame_61 rfl ?_
              refine m_geta G 20 (by decide) q1210 rfl dX1_isSame_62 ?_
              refine r_iload_n G dX1_isSame_65 rfl ?_
              refine m_ald G hD 20 (by decide) (by simp only [mN]; omega) (v := (nI (σ p))) (hσ p (by omega)).1 dX1_isSame_66 ?_
              refine m_ald G hD 7 (by decide) (by have := (hσ p (by omega)).2; simp only [mN]; omega) (v := (nI (tw (σ p)))) (hV.tw (hσ p (by omega)).2) dX1_isSame_67 ?_
              refine r_icmp_eq G 73 (nI_eq (sm_lt (fun r hr => by have := (hσ r (by omega)).2; omega) hm) (by have := hV.t8 (hσ p (by omega)).2; omega)) dX1_isSame_68 (by decide) (fun h68 => ?_) (fun h68 => ?_)
              · have hsm : (orN n fun q => if (tw p).testBit q then 1 <<< σ q else 0) = tw (σ p) := by rw [show n = q by omega, ← hm]; exact h68
                refine r_iinc G (v := (nI (p + 1))) (lo' := [some (.ref o), some (.int (nI (p + 1))), some (.int (nI m)), some (.int (nI q))]) dX1_isSame_73 rfl (nI_add p 1) rfl rfl ?_
                refine r_goto G 2 dX1_isSame_76 (by decide) ?_
                refine r_drop G 2 (lo' := [some (.ref o), some (.int (nI (p + 1))), none, some (.int (nI q))]) rfl ?_
                refine r_drop G 3 (lo' := [some (.ref o), some (.int (nI (p + 1))), none, none]) rfl ?_
                exact ih2 _ (by omega) (fun t ht => (Classical.em (t = p)).elim (fun e => by rw [e]; exact decide_eq_true hsm) (fun e => hal t (by omega))) (by omega)
              · refine r_iconst G (v := nI 0) dX1_isSame_71 (by decide) ?_
                exact r_zret G rfl (by decide) ⟨Nat.zero_le _, Nat.zero_le _⟩ dX1_isSame_72 ⟨_, rfl, rb (by rw [isA, allN_f (q := p) (by omega) (decide_eq_false (by rw [show n = q by omega, ← hm]; exact h68))]; rfl), rfl⟩
            · refine r_iload_n G dX1_isSame_22 rfl ?_
              refine r_aload_n G dX1_isSame_23 rfl ?_
              refine m_geta G 7 (by decide) q1197 rfl dX1_isSame_24 ?_
              refine r_iload_n G dX1_isSame_27 rfl ?_
              refine m_ald G hD 7 (by decide) (by simp only [mN]; omega) (v := (nI (tw p))) (hV.tw (by omega)) dX1_isSame_28 ?_
              refine r_iload_n G dX1_isSame_29 rfl ?_
              refine s_callS G [.int (nI (tw p)), .int (nI q)] (sM_isOf hE (tw p) q (by have := hV.t8 (p := p) (by omega); omega) (by omega)) (lw_S q1312 q1313 q74 q1314) fy_yX1_isOf rfl ⟨Nat.le_of_ble_eq_true rfl, Nat.le_of_ble_eq_true rfl⟩ rfl (Nat.le_of_ble_eq_true rfl) rfl rfl ⟨Nat.zero_le _, Nat.zero_le _⟩ dX1_isSame_30 ?_
              refine r_ifb_eq G 47  dX1_isSame_33 (by decide) (fun h33 => ?_) (fun h33 => ?_)
              · refine r_iconst G (v := nI 0) dX1_isSame_47 (by decide) ?_
                refine r_ior G (v := (nI (m ||| 0))) dX1_isSame_48 (n_or m 0) ?_
                refine r_istore_n G (lo' := [some (.ref o), some (.int (nI p)), some (.int (nI (m ||| 0))), some (.int (nI q))]) dX1_isSame_49 rfl rfl ?_
                refine r_iinc G (v := (nI (q + 1))) (lo' := [some (.ref o), some (.int (nI p)), some (.int (nI (m ||| 0))), some (.int (nI (q + 1)))]) dX1_isSame_50 rfl (nI_add q 1) rfl rfl ?_
                refine r_goto G 14 dX1_isSame_53 (by decide) ?_
                exact ih14 _ _ (by omega) (by rw [hm]; simp [orN, h33]) (by omega)
              · refine r_iconst G (v := nI 1) dX1_isSame_36 (by decide) ?_
                refine r_aload_n G dX1_isSame_37 rfl ?_
                refine m_geta G 20 (by decide) q1210 rfl dX1_isSame_38 ?_
                refine r_iload_n G dX1_isSame_41 rfl ?_
                refine m_ald G hD 20 (by decide) (by simp only [mN]; omega) (v := (nI (σ q))) (hσ q (by omega)).1 dX1_isSame_42 ?_
                refine r_ishl G (v := (nI (1 <<< (σ q)))) dX1_isSame_43 (n_shl (by have := (hσ q (by omega)).2; omega)) ?_
                refine r_goto G 48 dX1_isSame_44 (by decide) ?_
                refine r_ior G (v := (nI (m ||| (1 <<< (σ q))))) dX1_isSame_48 (n_or m (1 <<< (σ q))) ?_
                refine r_istore_n G (lo' := [some (.ref o), some (.int (nI p)), some (.int (nI (m ||| (1 <<< (σ q))))), some (.int (nI q))]) dX1_isSame_49 rfl rfl ?_
                refine r_iinc G (v := (nI (q + 1))) (lo' := [some (.ref o), some (.int (nI p)), some (.int (nI (m ||| (1 <<< (σ q))))), some (.int (nI (q + 1)))]) dX1_isSame_50 rfl (nI_add q 1) rfl rfl ?_
                refine r_goto G 14 dX1_isSame_53 (by decide) ?_
                exact ih14 _ _ (by omega) (by rw [hm]; simp [orN, h33]) (by omega)
        exact L14 (n + 1) 0 0 (Nat.zero_le _) rfl (by omega)
  exact L2 (n + 1) 0 (Nat.zero_le _) (fun t h => absurd h (Nat.not_lt_zero _)) (by omega)
set_option maxHeartbeats 4000000 in
theorem mM_alike {l : Launch} {g : fG} {A : Nat → Prop} {En : State → Prop} (hE : fEnv g A En) {o : Nat} {ad : Nat → Nat} (hD : mD A o ad) {S : mS} {n : Nat} {tw kd ld : Nat → Nat} (hV : mV S n tw kd ld): mC l g A En o ad yX1_alike cX1_alike 4 (some .int) (fR 3) [] S (fun v S' => v = some (.int (aAlike n tw)) ∧ mEq S S') := by
  refine fC.of (by decide) hE [some (.ref o), none, none, none] rfl rfl (fun K G => ?_)
  have G : fGood l g A En RX1 "alike" cX1_alike 4 (some .int) (fR 3) _ K := G
  have hn8 := hV.2.1
  refine r_aload_n G dX1_alike_0 rfl ?_
  refine m_gets G 5 (by decide) q1195 rfl (v := (nI n)) hV.1 dX1_alike_1 ?_
  refine r_if_ne G 10 (n_eq0 (by have := hV.2.1; omega)) dX1_alike_4 (by decide) (fun h4 => ?_) (fun h4 => ?_)
  · have hn0 : n ≠ 0 := h4
    have hfl := fct_le n (by omega)
    refine r_iconst G (v := nI 0) dX1_alike_10 (by decide) ?_
    refine r_istore_n G (lo' := [some (.ref o), some (.int (nI 0)), none, none]) dX1_alike_11 rfl rfl ?_
    refine r_aload_n G dX1_alike_12 rfl ?_
    refine m_callV G [] (mM_orders hE hD (S := S) hV.1 hn0 hn8) (lw_V q1422 q1424 qs61 q74 q1425) fy_yX1_orders rfl rfl ⟨Nat.le_of_ble_eq_true rfl, Nat.le_of_ble_eq_true rfl⟩ rfl (Nat.le_of_ble_eq_true rfl) rfl rfl ⟨Nat.zero_le _, Nat.zero_le _⟩ dX1_alike_13 (fun v13 S13 hp13 => ?_)
    obtain ⟨rfl, rfl⟩ := hp13
    show K (mH g o ad S) 0 0 16 [some (.ref o), some (.int (nI 0)), none, none] [.int (nI (fct n))]
    refine r_istore_n G (lo' := [some (.ref o), some (.int (nI 0)), some (.int (nI (fct n))), none]) dX1_alike_16 rfl rfl ?_
    refine r_iconst G (v := nI 0) dX1_alike_17 (by decide) ?_
    refine r_istore_n G (lo' := [some (.ref o), some (.int (nI 0)), some (.int (nI (fct n))), some (.int (nI 0))]) dX1_alike_18 rfl rfl ?_
    have L19 : ∀ (fu : Nat) (k x : Nat) (gn : Nat → Int32), (k ≤ fct n) → (x = cntN k (fun k => isA n tw (nmf n k))) → fct n - k < fu → K (mH g o ad (mArr S 20 gn)) 0 0 19 [some (.ref o), some (.int (nI x)), some (.int (nI (fct n))), some (.int (nI k))] [] := by
      intro fu
      induction fu with
      | zero => intro k x gn hk hx hm19; exact absurd hm19 (Nat.not_lt_zero _)
      | succ fu19 ih19 =>
        intro k x gn hk hx hm19
        refine r_iload_n G dX1_alike_19 rfl ?_
        refine r_iload_n G dX1_alike_20 rfl ?_
        refine r_icmp_ge G 50 (nI_leI (by omega) (by omega)) dX1_alike_21 (by decide) (fun h21 => ?_) (fun h21 => ?_)
        · have hke : k = fct n := by omega
          have hxa : x = autc n tw := by rw [hx, hke]; rfl
          have hxp : 0 < x := by rw [hxa]; exact autc_pos hn8 (fun p hp => (hV.2.2 p hp).2.1)
          have hxl : x ≤ fct n := by rw [hx, hke]; exact cntN_le _ _
          refine r_iload_n G dX1_alike_50 rfl ?_
          refine r_iload_n G dX1_alike_51 rfl ?_
          refine r_idiv G (v := (nI ((fct n) / x))) dX1_alike_52 (nI_ne0 (by omega) (by have := cntN_le k (fun k => isA n tw (nmf n k)); omega)) (pk_div (by omega) (by omega) (by have := cntN_le k (fun k => isA n tw (nmf n k)); omega)) ?_
          exact r_iret G rfl ⟨Nat.zero_le _, Nat.zero_le _⟩ dX1_alike_53 ⟨_, rfl, by rw [aAlike, if_neg h4, hxa], mEq.arr S _ (by decide)⟩
        · refine r_aload_n G dX1_alike_24 rfl ?_
          refine r_iload_n G dX1_alike_25 rfl ?_
          refine m_callV G [.int (nI k)] (mM_findNames hE hD (S := (mArr S 20 gn)) hV.1 hn8 k (by omega)) (lw_V q1426 q1428 qs62 q74 q1429) fy_yX1_findNames rfl rfl ⟨Nat.le_of_ble_eq_true rfl, Nat.le_of_ble_eq_true rfl⟩ rfl (Nat.le_of_ble_eq_true rfl) rfl rfl ⟨Nat.zero_le _, Nat.zero_le _⟩ dX1_alike_26 (fun v26 S26 hp26 => ?_)
          obtain ⟨rfl, fn, rfl, hfn⟩ := hp26
          rw [mArr_arr]
          show K (mH g o ad (mArr S 20 fn)) 0 0 29 [some (.ref o), some (.int (nI x)), some (.int (nI (fct n))), some (.int (nI k))] []
          refine r_iload_n G dX1_alike_29 rfl ?_
          refine r_aload_n G dX1_alike_30 rfl ?_
          refine m_callV G [] (mM_isSame hE hD (S := (mArr S 20 fn)) hV (σ := nmf n k) (fun p hp => ⟨by rw [mArr_s]; exact hfn p hp, nmf_lt hn8 hp⟩)) (lw_V q1430 q1432 qs63 q74 q1433) fy_yX1_isSame rfl rfl ⟨Nat.le_of_ble_eq_true rfl, Nat.le_of_ble_eq_true rfl⟩ rfl (Nat.le_of_ble_eq_true rfl) rfl rfl ⟨Nat.zero_le _, Nat.zero_le _⟩ dX1_alike_31 (fun v31 S31 hp31 => ?_)
          obtain ⟨rfl, rfl⟩ := hp31
          show K (mH g o ad (mArr S 20 fn)) 0 0 34 [some (.ref o), some (.int (nI x)), some (.int (nI (fct n))), some (.int (nI k))] [.int (bI (isA n tw (nmf n k))), .int (nI x)]
          refine r_ifb_eq G 41  dX1_alike_34 (by decide) (fun h34 => ?_) (fun h34 => ?_)
          · refine r_iconst G (v := nI 0) dX1_alike_41 (by decide) ?_
            refine r_iadd G (v := (nI (x + 0))) dX1_alike_42 (nI_add x 0) ?_
            refine r_istore_n G (lo' := [some (.ref o), some (.int (nI (x + 0))), some (.int (nI (fct n))), some (.int (nI k))]) dX1_alike_43 rfl rfl ?_
            refine r_iinc G (v := (nI (k + 1))) (lo' := [some (.ref o), some (.int (nI (x + 0))), some (.int (nI (fct n))), some (.int (nI (k + 1)))]) dX1_alike_44 rfl (nI_add k 1) rfl rfl ?_
            refine r_goto G 19 dX1_alike_47 (by decide) ?_
            exact ih19 _ _ _ (by omega) (by rw [hx]; simp [cntN, h34]) (by omega)
          · refine r_iconst G (v := nI 1) dX1_alike_37 (by decide) ?_
            refine r_goto G 42 dX1_alike_38 (by decide) ?_
            refine r_iadd G (v := (nI (x + 1))) dX1_alike_42 (nI_add x 1) ?_
            refine r_istore_n G (lo' := [some (.ref o), some (.int (nI (x + 1))), some (.int (nI (fct n))), some (.int (nI k))]) dX1_alike_43 rfl rfl ?_
            refine r_iinc G (v := (nI (k + 1))) (lo' := [some (.ref o), some (.int (nI (x + 1))), some (.int (nI (fct n))), some (.int (nI (k + 1)))]) dX1_alike_44 rfl (nI_add k 1) rfl rfl ?_
            refine r_goto G 19 dX1_alike_47 (by decide) ?_
            exact ih19 _ _ _ (by omega) (by rw [hx]; simp [cntN, h34]) (by omega)
    rw [show S = mArr S 20 (S.2 20) from (mArr_0 S 20).symm]
    exact L19 (fct n + 1) 0 0 (S.2 20) (Nat.zero_le _) rfl (by omega)
  · refine r_bipush G (v := -3) dX1_alike_7 (by decide) ?_
    exact r_iret G rfl ⟨Nat.zero_le _, Nat.zero_le _⟩ dX1_alike_9 ⟨_, rfl, by rw [aAlike, if_pos h4], mEq.rf _⟩
end MM14
