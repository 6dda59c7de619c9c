/-! the reference: small methods -/
set_option maxRecDepth 100000
section MM1
theorem fy_yX1_init : fyN yX1_init 0 := ⟨by decide +kernel, by decide +kernel, by decide +kernel⟩
theorem fy_yX1_vine : fyN yX1_vine 4 := ⟨by decide +kernel, by decide +kernel, by decide +kernel⟩
theorem fy_yX1_isSheet : fyN yX1_isSheet 1 := ⟨by decide +kernel, by decide +kernel, by decide +kernel⟩
theorem fy_yX1_within : fyN yX1_within 3 := ⟨by decide +kernel, by decide +kernel, by decide +kernel⟩
theorem fy_yX1_isSort : fyN yX1_isSort 1 := ⟨by decide +kernel, by decide +kernel, by decide +kernel⟩
theorem fy_yX1_against : fyN yX1_against 4 := ⟨by decide +kernel, by decide +kernel, by decide +kernel⟩
theorem fy_yX1_fails : fyN yX1_fails 1 := ⟨by decide +kernel, by decide +kernel, by decide +kernel⟩
theorem fy_yX1_readVine : fyN yX1_readVine 1 := ⟨by decide +kernel, by decide +kernel, by decide +kernel⟩
theorem fy_yX1_digit : fyN yX1_digit 3 := ⟨by decide +kernel, by decide +kernel, by decide +kernel⟩
theorem fy_yX1_readPost : fyN yX1_readPost 2 := ⟨by decide +kernel, by decide +kernel, by decide +kernel⟩
theorem fy_yX1_growVine : fyN yX1_growVine 0 := ⟨by decide +kernel, by decide +kernel, by decide +kernel⟩
theorem fy_yX1_leastOf : fyN yX1_leastOf 1 := ⟨by decide +kernel, by decide +kernel, by decide +kernel⟩
theorem fy_yX1_isOf : fyN yX1_isOf 2 := ⟨by decide +kernel, by decide +kernel, by decide +kernel⟩
theorem fy_yX1_join : fyN yX1_join 2 := ⟨by decide +kernel, by decide +kernel, by decide +kernel⟩
theorem fy_yX1_ofPost : fyN yX1_ofPost 2 := ⟨by decide +kernel, by decide +kernel, by decide +kernel⟩
theorem fy_yX1_isPost : fyN yX1_isPost 1 := ⟨by decide +kernel, by decide +kernel, by decide +kernel⟩
theorem fy_yX1_worthOf : fyN yX1_worthOf 1 := ⟨by decide +kernel, by decide +kernel, by decide +kernel⟩
theorem fy_yX1_size : fyN yX1_size 1 := ⟨by decide +kernel, by decide +kernel, by decide +kernel⟩
theorem fy_yX1_findFars : fyN yX1_findFars 0 := ⟨by decide +kernel, by decide +kernel, by decide +kernel⟩
theorem fy_yX1_farthestFrom : fyN yX1_farthestFrom 1 := ⟨by decide +kernel, by decide +kernel, by decide +kernel⟩
theorem fy_yX1_load : fyN yX1_load 2 := ⟨by decide +kernel, by decide +kernel, by decide +kernel⟩
theorem fy_yX1_row : fyN yX1_row 1 := ⟨by decide +kernel, by decide +kernel, by decide +kernel⟩
theorem fy_yX1_findRow : fyN yX1_findRow 0 := ⟨by decide +kernel, by decide +kernel, by decide +kernel⟩
theorem fy_yX1_graft : fyN yX1_graft 2 := ⟨by decide +kernel, by decide +kernel, by decide +kernel⟩
theorem fy_yX1_areTwo : fyN yX1_areTwo 2 := ⟨by decide +kernel, by decide +kernel, by decide +kernel⟩
theorem fy_yX1_unjoin : fyN yX1_unjoin 2 := ⟨by decide +kernel, by decide +kernel, by decide +kernel⟩
theorem fy_yX1_day : fyN yX1_day 5 := ⟨by decide +kernel, by decide +kernel, by decide +kernel⟩
theorem fy_yX1_refusesPair : fyN yX1_refusesPair 2 := ⟨by decide +kernel, by decide +kernel, by decide +kernel⟩
theorem fy_yX1_goDay : fyN yX1_goDay 2 := ⟨by decide +kernel, by decide +kernel, by decide +kernel⟩
theorem fy_yX1_does : fyN yX1_does 2 := ⟨by decide +kernel, by decide +kernel, by decide +kernel⟩
theorem fy_yX1_tellDay : fyN yX1_tellDay 1 := ⟨by decide +kernel, by decide +kernel, by decide +kernel⟩
theorem fy_yX1_longest : fyN yX1_longest 0 := ⟨by decide +kernel, by decide +kernel, by decide +kernel⟩
theorem fy_yX1_numberOf : fyN yX1_numberOf 0 := ⟨by decide +kernel, by decide +kernel, by decide +kernel⟩
theorem fy_yX1_ends : fyN yX1_ends 0 := ⟨by decide +kernel, by decide +kernel, by decide +kernel⟩
theorem fy_yX1_worthOfSet : fyN yX1_worthOfSet 1 := ⟨by decide +kernel, by decide +kernel, by decide +kernel⟩
theorem fy_yX1_far : fyN yX1_far 2 := ⟨by decide +kernel, by decide +kernel, by decide +kernel⟩
theorem fy_yX1_way : fyN yX1_way 3 := ⟨by decide +kernel, by decide +kernel, by decide +kernel⟩
theorem fy_yX1_middle : fyN yX1_middle 1 := ⟨by decide +kernel, by decide +kernel, by decide +kernel⟩
theorem fy_yX1_number : fyN yX1_number 0 := ⟨by decide +kernel, by decide +kernel, by decide +kernel⟩
theorem fy_yX1_alike : fyN yX1_alike 0 := ⟨by decide +kernel, by decide +kernel, by decide +kernel⟩
theorem fy_yX1_orders : fyN yX1_orders 0 := ⟨by decide +kernel, by decide +kernel, by decide +kernel⟩
theorem fy_yX1_findNames : fyN yX1_findNames 1 := ⟨by decide +kernel, by decide +kernel, by decide +kernel⟩
theorem fy_yX1_isSame : fyN yX1_isSame 0 := ⟨by decide +kernel, by decide +kernel, by decide +kernel⟩
theorem fy_yX1_pairs : fyN yX1_pairs 0 := ⟨by decide +kernel, by decide +kernel, by decide +kernel⟩
theorem fy_yX1_findTwigs : fyN yX1_findTwigs 0 := ⟨by decide +kernel, by decide +kernel, by decide +kernel⟩
theorem fy_yX1_loners : fyN yX1_loners 1 := ⟨by decide +kernel, by decide +kernel, by decide +kernel⟩
theorem fy_yX1_part : fyN yX1_part 2 := ⟨by decide +kernel, by decide +kernel, by decide +kernel⟩
theorem fy_yX1_reading : fyN yX1_reading 3 := ⟨by decide +kernel, by decide +kernel, by decide +kernel⟩
theorem fy_yX1_back : fyN yX1_back 1 := ⟨by decide +kernel, by decide +kernel, by decide +kernel⟩
theorem fy_yX1_loadings : fyN yX1_loadings 1 := ⟨by decide +kernel, by decide +kernel, by decide +kernel⟩
theorem fy_yX1_areSo : fyN yX1_areSo 0 := ⟨by decide +kernel, by decide +kernel, by decide +kernel⟩
theorem fy_yX1_wayOf : fyN yX1_wayOf 2 := ⟨by decide +kernel, by decide +kernel, by decide +kernel⟩
theorem fy_yX1_kinds : fyN yX1_kinds 1 := ⟨by decide +kernel, by decide +kernel, by decide +kernel⟩
theorem fy_yX1_odds : fyN yX1_odds 2 := ⟨by decide +kernel, by decide +kernel, by decide +kernel⟩
theorem fy_yX1_inLeastTerms : fyN yX1_inLeastTerms 3 := ⟨by decide +kernel, by decide +kernel, by decide +kernel⟩
theorem fy_yX1_sheet : fyN yX1_sheet 3 := ⟨by decide +kernel, by decide +kernel, by decide +kernel⟩
theorem fy_yX1_lose : fyN yX1_lose 1 := ⟨by decide +kernel, by decide +kernel, by decide +kernel⟩
theorem fy_yX1_put : fyN yX1_put 3 := ⟨by decide +kernel, by decide +kernel, by decide +kernel⟩
theorem fy_yX1_cell : fyN yX1_cell 3 := ⟨by decide +kernel, by decide +kernel, by decide +kernel⟩
theorem fy_yX1_lost : fyN yX1_lost 1 := ⟨by decide +kernel, by decide +kernel, by decide +kernel⟩
theorem fy_yX1_copy : fyN yX1_copy 5 := ⟨by decide +kernel, by decide +kernel, by decide +kernel⟩
theorem fy_yX1_tell : fyN yX1_tell 1 := ⟨by decide +kernel, by decide +kernel, by decide +kernel⟩
theorem fy_yX1_begins : fyN yX1_begins 1 := ⟨by decide +kernel, by decide +kernel, by decide +kernel⟩
theorem fy_yX1_knock : fyN yX1_knock 1 := ⟨by decide +kernel, by decide +kernel, by decide +kernel⟩
theorem fy_yX1_as : fyN yX1_as 2 := ⟨by decide +kernel, by decide +kernel, by decide +kernel⟩
theorem fy_yX1_trace : fyN yX1_trace 0 := ⟨by decide +kernel, by decide +kernel, by decide +kernel⟩
theorem fy_yX1_fault : fyN yX1_fault 0 := ⟨by decide +kernel, by decide +kernel, by decide +kernel⟩
theorem fy_yX1_many : fyN yX1_many 1 := ⟨by decide +kernel, by decide +kernel, by decide +kernel⟩
def wi (v a b : Int32) : Bool := decide (a ≤ v) && decide (v ≤ b)
theorem rv {a b : Nat} (h : a = b) : some (Value.int (nI a)) = some (.int (nI b)) := by rw [h]
theorem rb {b : Bool} {k : Nat} (h : (if b then 1 else 0) = k) : some (Value.int (nI k)) = some (.int (bI b)) := by
  subst h
  cases b <;> rfl
set_option maxHeartbeats 4000000 in
theorem sM_within {l : Launch} {g : fG} {A : Nat → Prop} {En : State → Prop} (hE : fEnv g A En) (v a b : Int32): sC l g A En yX1_within cX1_within 3 (some .boolean) (fR 0) [.int v, .int a, .int b] (.int (bI (wi v a b))) := by
  intro f
  refine fC.of (by decide) hE [some (.int v), some (.int a), some (.int b)] rfl rfl (fun K G => ?_)
  have G : fGood l g A En RX1 "within" cX1_within 3 (some .boolean) (fR 0) _ K := G
  refine r_iload_n G dX1_within_0 rfl ?_
  refine r_iload_n G dX1_within_1 rfl ?_
  refine r_icmp_lt G 14 Iff.rfl dX1_within_2 (by decide) (fun h2 => ?_) (fun h2 => ?_)
  · refine r_iconst G (v := nI 0) dX1_within_14 (by decide) ?_
    exact r_zret G rfl (by decide) ⟨Nat.zero_le _, Nat.zero_le _⟩ dX1_within_15 ⟨rfl, rb (by rw [show wi v a b = false from by unfold wi; simp only [Bool.and_eq_false_iff, decide_eq_false_iff_not]; first | exact Or.inl (Int32.not_le.mpr h2) | exact Or.inr (Int32.not_le.mpr h7)]; rfl)⟩
  · refine r_iload_n G dX1_within_5 rfl ?_
    refine r_iload_n G dX1_within_6 rfl ?_
    refine r_icmp_gt G 14 Iff.rfl dX1_within_7 (by decide) (fun h7 => ?_) (fun h7 => ?_)
    · refine r_iconst G (v := nI 0) dX1_within_14 (by decide) ?_
      exact r_zret G rfl (by decide) ⟨Nat.zero_le _, Nat.zero_le _⟩ dX1_within_15 ⟨rfl, rb (by rw [show wi v a b = false from by unfold wi; simp only [Bool.and_eq_false_iff, decide_eq_false_iff_not]; first | exact Or.inl (Int32.not_le.mpr h2) | exact Or.inr (Int32.not_le.mpr h7)]; rfl)⟩
    · refine r_iconst G (v := nI 1) dX1_within_10 (by decide) ?_
      refine r_goto G 15 dX1_within_11 (by decide) ?_
      exact r_zret G rfl (by decide) ⟨Nat.zero_le _, Nat.zero_le _⟩ dX1_within_15 ⟨rfl, rb (by rw [show wi v a b = true from by unfold wi; simp only [Bool.and_eq_true, decide_eq_true_eq]; exact ⟨Int32.not_lt.mp h2, Int32.not_lt.mp h7⟩]; rfl)⟩
set_option maxHeartbeats 4000000 in
theorem sM_isSheet {l : Launch} {g : fG} {A : Nat → Prop} {En : State → Prop} (hE : fEnv g A En) (k : Int32): sC l g A En yX1_isSheet cX1_isSheet 1 (some .boolean) (fR 1) [.int k] (.int (bI (wi k (nI 0) (nI 3)))) := by
  intro f
  refine fC.of (by decide) hE [some (.int k)] rfl rfl (fun K G => ?_)
  have G : fGood l g A En RX1 "isSheet" cX1_isSheet 1 (some .boolean) (fR 1) _ K := G
  refine r_iload_n G dX1_isSheet_0 rfl ?_
  refine r_iconst G (v := nI 0) dX1_isSheet_1 (by decide) ?_
  refine r_iconst G (v := nI 3) dX1_isSheet_2 (by decide) ?_
  refine s_callS G [.int k, .int (nI 0), .int (nI 3)] (sM_within hE k (nI 0) (nI 3)) (lw_S q1279 q1280 q74 q1281) fy_yX1_within rfl ⟨Nat.le_of_ble_eq_true rfl, Nat.le_of_ble_eq_true rfl⟩ rfl (Nat.le_of_ble_eq_true rfl) rfl rfl ⟨Nat.zero_le _, Nat.zero_le _⟩ dX1_isSheet_3 ?_
  exact r_zret G rfl bI_nar ⟨Nat.zero_le _, Nat.zero_le _⟩ dX1_isSheet_6 ⟨rfl, rfl⟩
set_option maxHeartbeats 4000000 in
theorem sM_isSort {l : Launch} {g : fG} {A : Nat → Prop} {En : State → Prop} (hE : fEnv g A En) (k : Int32): sC l g A En yX1_isSort cX1_isSort 1 (some .boolean) (fR 1) [.int k] (.int (bI (wi k (nI 0) (nI 2)))) := by
  intro f
  refine fC.of (by decide) hE [some (.int k)] rfl rfl (fun K G => ?_)
  have G : fGood l g A En RX1 "isSort" cX1_isSort 1 (some .boolean) (fR 1) _ K := G
  refine r_iload_n G dX1_isSort_0 rfl ?_
  refine r_iconst G (v := nI 0) dX1_isSort_1 (by decide) ?_
  refine r_iconst G (v := nI 2) dX1_isSort_2 (by decide) ?_
  refine s_callS G [.int k, .int (nI 0), .int (nI 2)] (sM_within hE k (nI 0) (nI 2)) (lw_S q1279 q1280 q74 q1281) fy_yX1_within rfl ⟨Nat.le_of_ble_eq_true rfl, Nat.le_of_ble_eq_true rfl⟩ rfl (Nat.le_of_ble_eq_true rfl) rfl rfl ⟨Nat.zero_le _, Nat.zero_le _⟩ dX1_isSort_3 ?_
  exact r_zret G rfl bI_nar ⟨Nat.zero_le _, Nat.zero_le _⟩ dX1_isSort_6 ⟨rfl, rfl⟩
set_option maxHeartbeats 4000000 in
theorem sM_isOf {l : Launch} {g : fG} {A : Nat → Prop} {En : State → Prop} (hE : fEnv g A En) (s k : Nat) (hs : s < 2 ^ 31) (hk : k < 32): sC l g A En yX1_isOf cX1_isOf 2 (some .boolean) (fR 0) [.int (nI s), .int (nI k)] (.int (bI (s.testBit k))) := by
  intro f
  refine fC.of (by decide) hE [some (.int (nI s)), some (.int (nI k))] rfl rfl (fun K G => ?_)
  have G : fGood l g A En RX1 "isOf" cX1_isOf 2 (some .boolean) (fR 0) _ K := G
  refine r_iload_n G dX1_isOf_0 rfl ?_
  refine r_iload_n G dX1_isOf_1 rfl ?_
  refine r_ishr G (v := (nI (s >>> k))) dX1_isOf_2 (n_shr (by omega) (by omega)) ?_
  refine r_iconst G (v := nI 1) dX1_isOf_3 (by decide) ?_
  refine r_iand G (v := (nI ((s >>> k) &&& 1))) dX1_isOf_4 (n_and (s >>> k) 1) ?_
  refine r_iconst G (v := nI 1) dX1_isOf_5 (by decide) ?_
  refine r_icmp_ne G 13 (nI_eq (and1_lt _) (by decide)) dX1_isOf_6 (by decide) (fun h6 => ?_) (fun h6 => ?_)
  · refine r_iconst G (v := nI 0) dX1_isOf_13 (by decide) ?_
    exact r_zret G rfl (by decide) ⟨Nat.zero_le _, Nat.zero_le _⟩ dX1_isOf_14 ⟨rfl, rb (by rw [tb_and1] at h6; cases hb : s.testBit k with | true => rw [hb] at h6; exact absurd rfl h6 | false => rfl)⟩
  · refine r_iconst G (v := nI 1) dX1_isOf_9 (by decide) ?_
    refine r_goto G 14 dX1_isOf_10 (by decide) ?_
    exact r_zret G rfl (by decide) ⟨Nat.zero_le _, Nat.zero_le _⟩ dX1_isOf_14 ⟨rfl, rb (by rw [tb_and1] at h6; exact h6)⟩
set_option maxHeartbeats 4000000 in
theorem sM_size {l : Launch} {g : fG} {A : Nat → Prop} {En : State → Prop} (hE : fEnv g A En) (s : Nat) (hs : s < 256): sC l g A En yX1_size cX1_size 3 (some .int) (fR 0) [.int (nI s)] (.int (nI (cnt s))) := by
  intro f
  refine fC.of (by decide) hE [some (.int (nI s)), none, none] rfl rfl (fun K G => ?_)
  have G : fGood l g A En RX1 "size" cX1_size 3 (some .int) (fR 0) _ K := G
  refine r_iconst G (v := nI 0) dX1_size_0 (by decide) ?_
  refine r_istore_n G (lo' := [some (.int (nI s)), some (.int (nI 0)), none]) dX1_size_1 rfl rfl ?_
  refine r_iload_n G dX1_size_2 rfl ?_
  refine r_istore_n G (lo' := [some (.int (nI s)), some (.int (nI 0)), some (.int (nI s))]) dX1_size_3 rfl rfl ?_
  have L4 : ∀ (m : Nat) (a b : Nat), (b < 256) → (a + cnt b = cnt s) → b < m → K f 0 0 4 [some (.int (nI s)), some (.int (nI a)), some (.int (nI b))] [] := by
    intro m
    induction m with
    | zero => intro a b hb hi hm4; exact absurd hm4 (Nat.not_lt_zero _)
    | succ m4 ih4 =>
      intro a b hb hi hm4
      refine r_iload_n G dX1_size_4 rfl ?_
      refine r_if_le G 21 (n_le0 (by omega)) dX1_size_5 (by decide) (fun h5 => ?_) (fun h5 => ?_)
      · refine r_iload_n G dX1_size_21 rfl ?_
        exact r_iret G rfl ⟨Nat.zero_le _, Nat.zero_le _⟩ dX1_size_22 ⟨rfl, rv (by obtain rfl : b = 0 := (by omega); exact hi)⟩
      · refine r_iload_n G dX1_size_8 rfl ?_
        refine r_iload_n G dX1_size_9 rfl ?_
        refine r_iconst G (v := nI 1) dX1_size_10 (by decide) ?_
        refine r_iand G (v := (nI (b &&& 1))) dX1_size_11 (n_and b 1) ?_
        refine r_iadd G (v := (nI (a + (b &&& 1)))) dX1_size_12 (nI_add a (b &&& 1)) ?_
        refine r_istore_n G (lo' := [some (.int (nI s)), some (.int (nI (a + (b &&& 1)))), some (.int (nI b))]) dX1_size_13 rfl rfl ?_
        refine r_iload_n G dX1_size_14 rfl ?_
        refine r_iconst G (v := nI 1) dX1_size_15 (by decide) ?_
        refine r_ishr G (v := (nI (b >>> 1))) dX1_size_16 (n_shr (by omega) (by decide)) ?_
        refine r_istore_n G (lo' := [some (.int (nI s)), some (.int (nI (a + (b &&& 1)))), some (.int (nI (b >>> 1)))]) dX1_size_17 rfl rfl ?_
        refine r_goto G 4 dX1_size_18 (by decide) ?_
        exact ih4 _ _ (shr_lt hb) (by have := cnt_step b hb; omega) (by have : b >>> 1 = b / 2 := Nat.shiftRight_eq_div_pow b 1; omega)
  exact L4 (s + 1) 0 s hs (Nat.zero_add _) (Nat.lt_succ_self _)
theorem lst_next {s k : Nat} (hs : s < 256) (h0 : 0 < s) (hk : k ≤ lst s) (h : s.testBit k = false) : k + 1 ≤ lst s := by
  rcases Nat.lt_or_ge k (lst s) with q | q
  · exact q
  · rw [show k = lst s by omega, lst_bit s hs h0] at h; cases h
set_option maxHeartbeats 4000000 in
theorem sM_leastOf {l : Launch} {g : fG} {A : Nat → Prop} {En : State → Prop} (hE : fEnv g A En) (s : Nat) (hs : s < 256) (h0 : 0 < s): sC l g A En yX1_leastOf cX1_leastOf 2 (some .int) (fR 1) [.int (nI s)] (.int (nI (lst s))) := by
  intro f
  refine fC.of (by decide) hE [some (.int (nI s)), none] rfl rfl (fun K G => ?_)
  have G : fGood l g A En RX1 "leastOf" cX1_leastOf 2 (some .int) (fR 1) _ K := G
  refine r_iconst G (v := nI 0) dX1_leastOf_0 (by decide) ?_
  refine r_istore_n G (lo' := [some (.int (nI s)), some (.int (nI 0))]) dX1_leastOf_1 rfl rfl ?_
  have L2 : ∀ (m : Nat) (k : Nat), (k ≤ lst s) → lst s - k < m → K f 0 0 2 [some (.int (nI s)), some (.int (nI k))] [] := by
    intro m
    induction m with
    | zero => intro k hk hm2; exact absurd hm2 (Nat.not_lt_zero _)
    | succ m2 ih2 =>
      intro k hk hm2
      refine r_iload_n G dX1_leastOf_2 rfl ?_
      refine r_iload_n G dX1_leastOf_3 rfl ?_
      refine s_callS G [.int (nI s), .int (nI k)] (sM_isOf hE s k (by omega) (by have := lst_lt s hs h0; omega)) (lw_S q1312 q1313 q74 q1314) fy_yX1_isOf rfl ⟨Nat.le_of_ble_eq_true rfl, Nat.le_of_ble_eq_true rfl⟩ rfl (Nat.le_of_ble_eq_true rfl) rfl rfl ⟨Nat.zero_le _, Nat.zero_le _⟩ dX1_leastOf_4 ?_
      refine r_ifb_ne G 16  dX1_leastOf_7 (by decide) (fun h7 => ?_) (fun h7 => ?_)
      · refine r_iload_n G dX1_leastOf_16 rfl ?_
        exact r_iret G rfl ⟨Nat.zero_le _, Nat.zero_le _⟩ dX1_leastOf_17 ⟨rfl, rv (Nat.le_antisymm hk (lst_min s hs k (by have := lst_lt s hs h0; omega) h7))⟩
      · refine r_iinc G (v := (nI (k + 1))) (lo' := [some (.int (nI s)), some (.int (nI (k + 1)))]) dX1_leastOf_10 rfl (nI_add k 1) rfl rfl ?_
        refine r_goto G 2 dX1_leastOf_13 (by decide) ?_
        exact ih2 _ (lst_next hs h0 hk h7) (by have := lst_next hs h0 hk h7; omega)
  exact L2 (lst s + 1) 0 (Nat.zero_le _) (by omega)
set_option maxHeartbeats 4000000 in
theorem mM_fails {l : Launch} {g : fG} {A : Nat → Prop} {En : State → Prop} (hE : fEnv g A En) {o : Nat} {ad : Nat → Nat} (hD : mD A o ad) {S : mS} (k : Int32): mC l g A En o ad yX1_fails cX1_fails 2 (some .int) (fR 0) [.int k] S (fun v S' => v = some (.int (-10 - k)) ∧ mSet S 0 k = S') := by
  refine fC.of (by decide) hE [some (.ref o), some (.int k)] rfl rfl (fun K G => ?_)
  have G : fGood l g A En RX1 "fails" cX1_fails 2 (some .int) (fR 0) _ K := G
  refine r_aload_n G dX1_fails_0 rfl ?_
  refine r_iload_n G dX1_fails_1 rfl ?_
  refine m_puts G hD 0 (by decide) q1190 rfl rfl rfl dX1_fails_2 ?_
  refine r_bipush G (v := -10) dX1_fails_5 (by decide) ?_
  refine r_iload_n G dX1_fails_7 rfl ?_
  refine r_isub G (v := ((-10) - k)) dX1_fails_8 rfl ?_
  exact r_iret G rfl ⟨Nat.zero_le _, Nat.zero_le _⟩ dX1_fails_9 ⟨_, rfl, rfl, rfl⟩
set_option maxHeartbeats 4000000 in
theorem mM_lost {l : Launch} {g : fG} {A : Nat → Prop} {En : State → Prop} (hE : fEnv g A En) {o : Nat} {ad : Nat → Nat} (hD : mD A o ad) {S : mS} (k : Int32): mC l g A En o ad yX1_lost cX1_lost 2 (some .long) (fR 0) [.int k] S (fun v S' => v = some (.long (-9223372036854775808)) ∧ mSet S 0 k = S') := by
  refine fC.of (by decide) hE [some (.ref o), some (.int k)] rfl rfl (fun K G => ?_)
  have G : fGood l g A En RX1 "lost" cX1_lost 2 (some .long) (fR 0) _ K := G
  refine r_aload_n G dX1_lost_0 rfl ?_
  refine r_iload_n G dX1_lost_1 rfl ?_
  refine m_puts G hD 0 (by decide) q1190 rfl rfl rfl dX1_lost_2 ?_
  refine r_ldc2 G q1478 dX1_lost_5 ?_
  exact r_lret G rfl ⟨Nat.zero_le _, Nat.zero_le _⟩ dX1_lost_8 ⟨_, rfl, rfl, rfl⟩
set_option maxHeartbeats 4000000 in
theorem mM_begins {l : Launch} {g : fG} {A : Nat → Prop} {En : State → Prop} (hE : fEnv g A En) {o : Nat} {ad : Nat → Nat} (hD : mD A o ad) {S : mS} (k : Int32): mC l g A En o ad yX1_begins cX1_begins 2 none (fR 0) [.int k] S (fun v S' => v = none ∧ mSet S 1 (nI 31 * S.1 1 + k) = S') := by
  refine fC.of (by decide) hE [some (.ref o), some (.int k)] rfl rfl (fun K G => ?_)
  have G : fGood l g A En RX1 "begins" cX1_begins 2 none (fR 0) _ K := G
  refine r_aload_n G dX1_begins_0 rfl ?_
  refine r_bipush G (v := nI 31) dX1_begins_1 (by decide) ?_
  refine r_aload_n G dX1_begins_3 rfl ?_
  refine m_gets G 1 (by decide) q1191 rfl (v := (S.1 1)) rfl dX1_begins_4 ?_
  refine r_imul G (v := ((nI 31) * (S.1 1))) dX1_begins_7 rfl ?_
  refine r_iload_n G dX1_begins_8 rfl ?_
  refine r_iadd G (v := (((nI 31) * (S.1 1)) + k)) dX1_begins_9 rfl ?_
  refine m_puts G hD 1 (by decide) q1191 rfl rfl rfl dX1_begins_10 ?_
  exact r_vret G rfl ⟨Nat.zero_le _, Nat.zero_le _⟩ dX1_begins_13 ⟨_, rfl, rfl, rfl⟩
set_option maxHeartbeats 4000000 in
theorem mM_isPost {l : Launch} {g : fG} {A : Nat → Prop} {En : State → Prop} (hE : fEnv g A En) {o : Nat} {ad : Nat → Nat} (hD : mD A o ad) {S : mS} (n : Nat) (hn : S.1 5 = nI n) (p : Int32): mC l g A En o ad yX1_isPost cX1_isPost 2 (some .boolean) (fR 0) [.int p] S (fun v S' => v = some (.int (bI (isP n p))) ∧ S = S') := by
  refine fC.of (by decide) hE [some (.ref o), some (.int p)] rfl rfl (fun K G => ?_)
  have G : fGood l g A En RX1 "isPost" cX1_isPost 2 (some .boolean) (fR 0) _ K := G
  refine r_iload_n G dX1_isPost_0 rfl ?_
  refine r_if_lt G 16 Iff.rfl dX1_isPost_1 (by decide) (fun h1 => ?_) (fun h1 => ?_)
  · refine r_iconst G (v := nI 0) dX1_isPost_16 (by decide) ?_
    exact r_zret G rfl (by decide) ⟨Nat.zero_le _, Nat.zero_le _⟩ dX1_isPost_17 ⟨_, rfl, rb (by rw [show isP n p = false from by unfold isP; simp only [Bool.and_eq_false_iff, decide_eq_false_iff_not]; first | exact Or.inl (Int32.not_le.mpr h1) | exact Or.inr (Int32.not_lt.mpr h9)]; rfl), rfl⟩
  · refine r_iload_n G dX1_isPost_4 rfl ?_
    refine r_aload_n G dX1_isPost_5 rfl ?_
    refine m_gets G 5 (by decide) q1195 rfl (v := (nI n)) hn dX1_isPost_6 ?_
    refine r_icmp_ge G 16 Iff.rfl dX1_isPost_9 (by decide) (fun h9 => ?_) (fun h9 => ?_)
    · refine r_iconst G (v := nI 0) dX1_isPost_16 (by decide) ?_
      exact r_zret G rfl (by decide) ⟨Nat.zero_le _, Nat.zero_le _⟩ dX1_isPost_17 ⟨_, rfl, rb (by rw [show isP n p = false from by unfold isP; simp only [Bool.and_eq_false_iff, decide_eq_false_iff_not]; first | exact Or.inl (Int32.not_le.mpr h1) | exact Or.inr (Int32.not_lt.mpr h9)]; rfl), rfl⟩
    · refine r_iconst G (v := nI 1) dX1_isPost_12 (by decide) ?_
      refine r_goto G 17 dX1_isPost_13 (by decide) ?_
      exact r_zret G rfl (by decide) ⟨Nat.zero_le _, Nat.zero_le _⟩ dX1_isPost_17 ⟨_, rfl, rb (by rw [show isP n p = true from by unfold isP; simp only [Bool.and_eq_true, decide_eq_true_eq]; exact ⟨Int32.not_lt.mp h1, Int32.not_le.mp h9⟩]; rfl), rfl⟩
set_option maxHeartbeats 4000000 in
theorem mM_areTwo {l : Launch} {g : fG} {A : Nat → Prop} {En : State → Prop} (hE : fEnv g A En) {o : Nat} {ad : Nat → Nat} (hD : mD A o ad) {S : mS} (n : Nat) (hn : S.1 5 = nI n) (p q : Int32): mC l g A En o ad yX1_areTwo cX1_areTwo 3 (some .boolean) (fR 1) [.int p, .int q] S (fun v S' => v = some (.int (bI (isP n p && isP n q && !decide (p = q)))) ∧ S = S') := by
  refine fC.of (by decide) hE [some (.ref o), some (.int p), some (.int q)] rfl rfl (fun K G => ?_)
  have G : fGood l g A En RX1 "areTwo" cX1_areTwo 3 (some .boolean) (fR 1) _ K := G
  refine r_aload_n G dX1_areTwo_0 rfl ?_
  refine r_iload_n G dX1_areTwo_1 rfl ?_
  refine m_callV G [.int p] (mM_isPost hE hD n hn p) (lw_V q1323 q1325 qs46 q74 q1326) fy_yX1_isPost rfl rfl ⟨Nat.le_of_ble_eq_true rfl, Nat.le_of_ble_eq_true rfl⟩ rfl (Nat.le_of_ble_eq_true rfl) rfl rfl ⟨Nat.zero_le _, Nat.zero_le _⟩ dX1_areTwo_2 (fun v2 S2 hp2 => ?_)
  obtain ⟨rfl, rfl⟩ := hp2
  show K (mH g o ad S) 0 0 5 [some (.ref o), some (.int p), some (.int q)] [.int (bI (isP n p))]
  refine r_ifb_eq G 25  dX1_areTwo_5 (by decide) (fun h5 => ?_) (fun h5 => ?_)
  · refine r_iconst G (v := nI 0) dX1_areTwo_25 (by decide) ?_
    exact r_zret G rfl (by decide) ⟨Nat.zero_le _, Nat.zero_le _⟩ dX1_areTwo_26 ⟨_, rfl, rb (by simp [*]), rfl⟩
  · refine r_aload_n G dX1_areTwo_8 rfl ?_
    refine r_iload_n G dX1_areTwo_9 rfl ?_
    refine m_callV G [.int q] (mM_isPost hE hD n hn q) (lw_V q1323 q1325 qs46 q74 q1326) fy_yX1_isPost rfl rfl ⟨Nat.le_of_ble_eq_true rfl, Nat.le_of_ble_eq_true rfl⟩ rfl (Nat.le_of_ble_eq_true rfl) rfl rfl ⟨Nat.zero_le _, Nat.zero_le _⟩ dX1_areTwo_10 (fun v10 S10 hp10 => ?_)
    obtain ⟨rfl, rfl⟩ := hp10
    show K (mH g o ad S) 0 0 13 [some (.ref o), some (.int p), some (.int q)] [.int (bI (isP n q))]
    refine r_ifb_eq G 25  dX1_areTwo_13 (by decide) (fun h13 => ?_) (fun h13 => ?_)
    · refine r_iconst G (v := nI 0) dX1_areTwo_25 (by decide) ?_
      exact r_zret G rfl (by decide) ⟨Nat.zero_le _, Nat.zero_le _⟩ dX1_areTwo_26 ⟨_, rfl, rb (by simp [*]), rfl⟩
    · refine r_iload_n G dX1_areTwo_16 rfl ?_
      refine r_iload_n G dX1_areTwo_17 rfl ?_
      refine r_icmp_eq G 25 Iff.rfl dX1_areTwo_18 (by decide) (fun h18 => ?_) (fun h18 => ?_)
      · refine r_iconst G (v := nI 0) dX1_areTwo_25 (by decide) ?_
        exact r_zret G rfl (by decide) ⟨Nat.zero_le _, Nat.zero_le _⟩ dX1_areTwo_26 ⟨_, rfl, rb (by simp [*]), rfl⟩
      · refine r_iconst G (v := nI 1) dX1_areTwo_21 (by decide) ?_
        refine r_goto G 26 dX1_areTwo_22 (by decide) ?_
        exact r_zret G rfl (by decide) ⟨Nat.zero_le _, Nat.zero_le _⟩ dX1_areTwo_26 ⟨_, rfl, rb (by simp [*]), rfl⟩
end MM1
