/-! the reference: the vine grows; grafts -/
set_option maxRecDepth 100000
section MM7
theorem jn_fa {fa : Nat → Int32} {tn : Nat → Nat} {a b : Nat} (hab : a ≠ b) (ha : a < 8) (hb : b < 8) (h : ∀ p, p < 8 → fa p = nI (tn p)) {p : Nat} (hp : p < 8) : upd (upd fa a (nI (tn a ||| 1 <<< b))) b (nI (tn b ||| 1 <<< a)) p = nI (jn tn a b p) := by
  unfold jn
  by_cases h1 : p = b
  · subst h1
    rw [pk_us, if_pos rfl]
  · rw [pk_un h1, if_neg h1]
    by_cases h2 : p = a
    · subst h2
      rw [pk_us, if_pos rfl]
    · rw [pk_un h2, if_neg h2, h p hp]
theorem jn_lt {tn : Nat → Nat} {a b p : Nat} (ha : a < 8) (hb : b < 8) (h : ∀ p, p < 8 → tn p < 256) (hp : p < 8) : jn tn a b p < 256 := by
  unfold jn
  split
  · exact or_lt (n := 8) (h b hb) (shl1_lt ha)
  · split
    · exact or_lt (n := 8) (h a ha) (shl1_lt hb)
    · exact h p hp
/-- on the way: twigs tn are grown, the rest is to come -/
def gwI (n : Nat) (rw : Nat → Nat) (k L : Nat) (fa : Nat → Int32) (tn : Nat → Nat) : Prop := (∀ p, p < 8 → fa p = nI (tn p) ∧ tn p < 256 ∧ tn p ||| grw rw (n - 2) (n - 2 - k) k L p = vin n rw p) ∧ L < 256 ∧ cnt L = n - k ∧ ∀ q, k ≤ q → q < n - 2 → L.testBit (rw q) = true
theorem gwI_0 {n : Nat} {rw : Nat → Nat} {fa : Nat → Int32} (h2 : 2 ≤ n) (h8 : n ≤ 8) (hr : ∀ q, q < n - 2 → rw q < n) (h : ∀ p, p < 8 → fa p = nI 0) : gwI n rw 0 (2 ^ n - 1) fa (fun _ => 0) :=
  ⟨fun p hp => ⟨h p hp, show (0 : Nat) < 256 by decide, by rw [Nat.zero_or]; rfl⟩, by have := pow_n8 h8; have := Nat.two_pow_pos n; omega, by rw [cnt_full n (by omega)]; omega, fun q _ hq => by rw [full_bit]; exact decide_eq_true (hr q hq)⟩
theorem gwI_p {n : Nat} {rw : Nat → Nat} {k L : Nat} {fa : Nat → Int32} {tn : Nat → Nat} (h2 : 2 ≤ n) (h8 : n ≤ 8) (hr : ∀ q, q < n - 2 → rw q < n) (hk : k < n - 2) (h : gwI n rw k L fa tn) : 0 < ndf L (told rw k (n - 2)) ∧ ndf L (told rw k (n - 2)) < 256 ∧ lst (ndf L (told rw k (n - 2))) < 8 ∧ lst (ndf L (told rw k (n - 2))) ≠ rw k ∧ rw k < 8 ∧ gwI n rw (k + 1) (ndf L (1 <<< lst (ndf L (told rw k (n - 2))))) (upd (upd fa (lst (ndf L (told rw k (n - 2)))) (nI (tn (lst (ndf L (told rw k (n - 2)))) ||| 1 <<< rw k))) (rw k) (nI (tn (rw k) ||| 1 <<< lst (ndf L (told rw k (n - 2)))))) (jn tn (lst (ndf L (told rw k (n - 2)))) (rw k)) := by
  obtain ⟨h1, hL, hc, hrow⟩ := h
  have hr8 : ∀ q, q < n - 2 → rw q < 8 := fun q hq => by have := hr q hq; omega
  obtain ⟨p0, p1, p2⟩ := grw_p (rw := rw) (e := n - 2) (k := k) hL hr8 (by omega) (by omega)
  have hN : ndf L (told rw k (n - 2)) < 256 := Nat.lt_of_le_of_lt (ndf_le _ _) hL
  have hp8 := lst_lt _ hN p0
  have hrp : ∀ q, k ≤ q → q < n - 2 → rw q ≠ lst (ndf L (told rw k (n - 2))) := fun q a b z => by
    rw [told_bit.mpr ⟨q, a, b, z⟩] at p2
    cases p2
  have hm : n - 2 - k = (n - 2 - (k + 1)) + 1 := by omega
  have e0 : grw rw (n - 2) (n - 2 - k) k L = jn (grw rw (n - 2) (n - 2 - (k + 1)) (k + 1) (ndf L (1 <<< lst (ndf L (told rw k (n - 2)))))) (lst (ndf L (told rw k (n - 2)))) (rw k) := by rw [hm]; rfl
  rw [e0] at h1
  refine ⟨p0, hN, hp8, Ne.symm (hrp k (Nat.le_refl k) hk), hr8 k hk, ?_⟩
  generalize lst (ndf L (told rw k (n - 2))) = p at *
  have hcn := cnt_ndf L hL p hp8 p1
  have hne := Ne.symm (hrp k (Nat.le_refl k) hk)
  refine ⟨fun x hx => ⟨jn_fa hne hp8 (hr8 k hk) (fun q hq => (h1 q hq).1) hx, jn_lt hp8 (hr8 k hk) (fun q hq => (h1 q hq).2.1) hx, ?_⟩, Nat.lt_of_le_of_lt (ndf_le _ _) hL, by omega, fun q a b => ?_⟩
  · rw [← (h1 x hx).2.2, jn_or hne x, jn_or (tw := grw rw (n - 2) (n - 2 - (k + 1)) (k + 1) (ndf L (1 <<< p))) hne x]
    rw [Nat.or_assoc, Nat.or_comm (jn (fun _ => 0) p (rw k) x)]
  · rw [ndf_bit, shl1_bit, hrow q (by omega) b, decide_eq_false (hrp q (by omega) b)]
    rfl
theorem gwI_e {n : Nat} {rw : Nat → Nat} {L : Nat} {fa : Nat → Int32} {tn : Nat → Nat} (h2 : 2 ≤ n) (h : gwI n rw (n - 2) L fa tn) : 0 < L ∧ lst L < 8 ∧ 0 < ndf L (1 <<< lst L) ∧ ndf L (1 <<< lst L) < 256 ∧ lst (ndf L (1 <<< lst L)) < 8 ∧ lst L ≠ lst (ndf L (1 <<< lst L)) ∧ ∀ p, p < 8 → upd (upd fa (lst L) (nI (tn (lst L) ||| 1 <<< lst (ndf L (1 <<< lst L))))) (lst (ndf L (1 <<< lst L))) (nI (tn (lst (ndf L (1 <<< lst L))) ||| 1 <<< lst L)) p = nI (vin n rw p) := by
  obtain ⟨h1, hL, hc, -⟩ := h
  have hL0 : 0 < L := by
    rcases Nat.eq_zero_or_pos L with z | z
    · subst z
      have : cnt 0 = 0 := by decide
      omega
    · exact z
  have hf := lst_bit L hL hL0
  have hf8 := lst_lt L hL hL0
  have hcn := cnt_ndf L hL (lst L) hf8 hf
  have hN : ndf L (1 <<< lst L) < 256 := Nat.lt_of_le_of_lt (ndf_le _ _) hL
  have hN0 : 0 < ndf L (1 <<< lst L) := by
    rcases Nat.eq_zero_or_pos (ndf L (1 <<< lst L)) with z | z
    · rw [z] at hcn
      have : cnt 0 = 0 := by decide
      omega
    · exact z
  have hs8 := lst_lt _ hN hN0
  have hsb := lst_bit _ hN hN0
  have hne : lst L ≠ lst (ndf L (1 <<< lst L)) := fun z => by
    rw [← z, ndf_bit, shl1_bit] at hsb
    simp at hsb
  refine ⟨hL0, hf8, hN0, hN, hs8, hne, fun p hp => ?_⟩
  rw [jn_fa hne hf8 hs8 (fun q hq => (h1 q hq).1) hp, jn_or hne p, ← (h1 p hp).2.2, Nat.sub_self]
  rfl
set_option maxHeartbeats 4000000 in
theorem mM_growVine {l : Launch} {g : fG} {A : Nat → Prop} {En : State → Prop} (hE : fEnv g A En) {o : Nat} {ad : Nat → Nat} (hD : mD A o ad) {S : mS} {n : Nat} {rw : Nat → Nat} (hn : S.1 5 = nI n) (h2n : 2 ≤ n) (hn8 : n ≤ 8) (hrow : ∀ q, q < n - 2 → S.2 12 q = nI (rw q) ∧ rw q < n): mC l g A En o ad yX1_growVine cX1_growVine 5 none (fR 2) [] S (fun v S' => v = none ∧ ∃ fa, mArr S 7 fa = S' ∧ ∀ p, p < 8 → fa p = nI (vin n rw p)) := by
  refine fC.of (by decide) hE [some (.ref o), none, none, none, none] rfl rfl (fun K G => ?_)
  have G : fGood l g A En RX1 "growVine" cX1_growVine 5 none (fR 2) _ K := G
  have hr8 : ∀ q, q < n - 2 → rw q < 8 := fun q hq => by have := (hrow q hq).2; omega
  have h256 := pow_n8 hn8
  refine r_iconst G (v := nI 0) dX1_growVine_0 (by decide) ?_
  refine r_istore_n G (lo' := [some (.ref o), some (.int (nI 0)), none, none, none]) dX1_growVine_1 rfl rfl ?_
  have L2 : ∀ (fu : Nat) (p : Nat) (fa : Nat → Int32), (p ≤ 8) → (∀ q, q < p → fa q = nI 0) → 8 - p < fu → K (mH g o ad (mArr S 7 fa)) 0 0 2 [some (.ref o), some (.int (nI p)), none, none, none] [] := by
    intro fu
    induction fu with
    | zero => intro p fa hp hz hm2; exact absurd hm2 (Nat.not_lt_zero _)
    | succ fu2 ih2 =>
      intro p fa hp hz hm2
      refine r_iload_n G dX1_growVine_2 rfl ?_
      refine r_bipush G (v := nI 8) dX1_growVine_3 (by decide) ?_
      refine r_icmp_ge G 21 (nI_leI (by decide) (by omega)) dX1_growVine_5 (by decide) (fun h5 => ?_) (fun h5 => ?_)
      · refine r_iconst G (v := nI 1) dX1_growVine_21 (by decide) ?_
        refine r_aload_n G dX1_growVine_22 rfl ?_
        refine m_gets G 5 (by decide) q1195 rfl (v := (nI n)) hn dX1_growVine_23 ?_
        refine r_ishl G (v := (nI (1 <<< n))) dX1_growVine_26 (n_shl (by omega)) ?_
        refine r_iconst G (v := nI 1) dX1_growVine_27 (by decide) ?_
        refine r_isub G (v := (nI (2 ^ n - 1))) dX1_growVine_28 (n_full n (by omega)) ?_
        refine r_istore_n G (lo' := [some (.ref o), some (.int (nI (2 ^ n - 1))), none, none, none]) dX1_growVine_29 rfl rfl ?_
        refine r_iconst G (v := nI 0) dX1_growVine_30 (by decide) ?_
        refine r_istore_n G (lo' := [some (.ref o), some (.int (nI (2 ^ n - 1))), some (.int (nI 0)), none, none]) dX1_growVine_31 rfl rfl ?_
        have L32 : ∀ (fu : Nat) (k L : Nat) (fb : Nat → Int32) (tn : Nat → Nat), (k ≤ n - 2) → (gwI n rw k L fb tn) → n - k < fu → K (mH g o ad (mArr S 7 fb)) 0 0 32 [some (.ref o), some (.int (nI L)), some (.int (nI k)), none, none] [] := by
          intro fu
          induction fu with
          | zero => intro k L fb tn hk hI hm32; exact absurd hm32 (Nat.not_lt_zero _)
          | succ fu32 ih32 =>
            intro k L fb tn hk hI hm32
            refine r_iload_n G dX1_growVine_32 rfl ?_
            refine r_aload_n G dX1_growVine_33 rfl ?_
            refine m_gets G 5 (by decide) q1195 rfl (v := (nI n)) hn dX1_growVine_34 ?_
            refine r_iconst G (v := nI 2) dX1_growVine_37 (by decide) ?_
            refine r_isub G (v := (nI (n - 2))) dX1_growVine_38 (pk_sub (by omega)) ?_
            refine r_icmp_ge G 113 (nI_leI (by omega) (by omega)) dX1_growVine_39 (by decide) (fun h39 => ?_) (fun h39 => ?_)
            · have hke : k = n - 2 := by omega
              rw [hke] at hI
              obtain ⟨e1, e2, e3, e4, e5, e6, e7⟩ := gwI_e h2n hI
              refine r_iload_n G dX1_growVine_113 rfl ?_
              refine s_callS G [.int (nI L)] (sM_leastOf hE L hI.2.1 e1) (lw_S q1309 q1310 q74 q1311) fy_yX1_leastOf rfl ⟨Nat.le_of_ble_eq_true rfl, Nat.le_of_ble_eq_true rfl⟩ rfl (Nat.le_of_ble_eq_true rfl) rfl rfl ⟨Nat.zero_le _, Nat.zero_le _⟩ dX1_growVine_114 ?_
              refine r_istore_n G (lo' := [some (.ref o), some (.int (nI L)), some (.int (nI (lst L))), none, none]) dX1_growVine_117 rfl rfl ?_
              refine r_aload_n G dX1_growVine_118 rfl ?_
              refine r_iload_n G dX1_growVine_119 rfl ?_
              refine r_iload_n G dX1_growVine_120 rfl ?_
              refine r_iconst G (v := nI 1) dX1_growVine_121 (by decide) ?_
              refine r_iload_n G dX1_growVine_122 rfl ?_
              refine r_ishl G (v := (nI (1 <<< (lst L)))) dX1_growVine_123 (n_shl (by omega)) ?_
              refine r_iconst G (v := -1) dX1_growVine_124 (by decide) ?_
              refine r_ixor G (v := (nI (1 <<< (lst L)) ^^^ -1)) dX1_growVine_125 rfl ?_
              refine r_iand G (v := (nI (ndf L (1 <<< (lst L))))) dX1_growVine_126 (n_andn (Nat.lt_trans hI.2.1 (by decide)) (Nat.lt_of_lt_of_le (shl1_lt e2) (by decide))) ?_
              refine s_callS G [.int (nI (ndf L (1 <<< (lst L))))] (sM_leastOf hE (ndf L (1 <<< (lst L))) e4 e3) (lw_S q1309 q1310 q74 q1311) fy_yX1_leastOf rfl ⟨Nat.le_of_ble_eq_true rfl, Nat.le_of_ble_eq_true rfl⟩ rfl (Nat.le_of_ble_eq_true rfl) rfl rfl ⟨Nat.zero_le _, Nat.zero_le _⟩ dX1_growVine_127 ?_
              refine m_callV G [.int (nI (lst L)), .int (nI (lst (ndf L (1 <<< (lst L)))))] (mM_join hE hD (S := mArr S 7 fb) (lst L) (lst (ndf L (1 <<< (lst L)))) (tn (lst L)) (tn (lst (ndf L (1 <<< (lst L))))) e2 e5 e6 (by rw [mArr_s]; exact (hI.1 _ e2).1) (by rw [mArr_s]; exact (hI.1 _ e5).1)) (lw_V q1315 q1317 qs45 q74 q1318) fy_yX1_join rfl rfl ⟨Nat.le_of_ble_eq_true rfl, Nat.le_of_ble_eq_true rfl⟩ rfl (Nat.le_of_ble_eq_true rfl) rfl rfl ⟨Nat.zero_le _, Nat.zero_le _⟩ dX1_growVine_130 (fun v130 S130 hp130 => ?_)
              obtain ⟨rfl, rfl⟩ := hp130
              rw [mPut_arr, mPut_arr]
              show K (mH g o ad (mArr S 7 (upd (upd fb (lst L) (nI (tn (lst L) ||| 1 <<< (lst (ndf L (1 <<< (lst L))))))) (lst (ndf L (1 <<< (lst L)))) (nI (tn (lst (ndf L (1 <<< (lst L)))) ||| 1 <<< (lst L)))))) 0 0 133 [some (.ref o), some (.int (nI L)), some (.int (nI (lst L))), none, none] []
              exact r_vret G rfl ⟨Nat.zero_le _, Nat.zero_le _⟩ dX1_growVine_133 ⟨_, rfl, rfl, _, rfl, e7⟩
            · refine r_iconst G (v := nI 0) dX1_growVine_42 (by decide) ?_
              refine r_istore_n G (lo' := [some (.ref o), some (.int (nI L)), some (.int (nI k)), some (.int (nI 0)), none]) dX1_growVine_43 rfl rfl ?_
              refine r_iload_n G dX1_growVine_44 rfl ?_
              refine r_istore G (lo' := [some (.ref o), some (.int (nI L)), some (.int (nI k)), some (.int (nI 0)), some (.int (nI k))]) dX1_growVine_45 rfl rfl ?_
              have L47 : ∀ (fu : Nat) (q t : Nat), (q ≤ n - 2) → (k ≤ q) → (t = told rw k q) → n - q < fu → K (mH g o ad (mArr S 7 fb)) 0 0 47 [some (.ref o), some (.int (nI L)), some (.int (nI k)), some (.int (nI t)), some (.int (nI q))] [] := by
                intro fu
                induction fu with
                | zero => intro q t hq hkq ht hm47; exact absurd hm47 (Nat.not_lt_zero _)
                | succ fu47 ih47 =>
                  intro q t hq hkq ht hm47
                  refine r_iload G dX1_growVine_47 rfl ?_
                  refine r_aload_n G dX1_growVine_49 rfl ?_
                  refine m_gets G 5 (by decide) q1195 rfl (v := (nI n)) hn dX1_growVine_50 ?_
                  refine r_iconst G (v := nI 2) dX1_growVine_53 (by decide) ?_
                  refine r_isub G (v := (nI (n - 2))) dX1_growVine_54 (pk_sub (by omega)) ?_
                  refine r_icmp_ge G 76 (nI_leI (by omega) (by omega)) dX1_growVine_55 (by decide) (fun h55 => ?_) (fun h55 => ?_)
                  · have hqe : q = n - 2 := by omega
                    rw [hqe] at ht
                    rw [hqe, ht]
                    obtain ⟨g1, g2, g3, g4, g5, g6⟩ := gwI_p h2n hn8 (fun q hq => (hrow q hq).2) (by omega) hI
                    refine r_iload_n G dX1_growVine_76 rfl ?_
                    refine r_iload_n G dX1_growVine_77 rfl ?_
                    refine r_iconst G (v := -1) dX1_growVine_78 (by decide) ?_
                    refine r_ixor G (v := (nI (told rw k (n - 2)) ^^^ -1)) dX1_growVine_79 rfl ?_
                    refine r_iand G (v := (nI (ndf L (told rw k (n - 2))))) dX1_growVine_80 (n_andn (Nat.lt_trans hI.2.1 (by decide)) (Nat.lt_trans (told_lt hr8) (show 256 < 2 ^ 31 by decide))) ?_
                    refine s_callS G [.int (nI (ndf L (told rw k (n - 2))))] (sM_leastOf hE (ndf L (told rw k (n - 2))) g2 g1) (lw_S q1309 q1310 q74 q1311) fy_yX1_leastOf rfl ⟨Nat.le_of_ble_eq_true rfl, Nat.le_of_ble_eq_true rfl⟩ rfl (Nat.le_of_ble_eq_true rfl) rfl rfl ⟨Nat.zero_le _, Nat.zero_le _⟩ dX1_growVine_81 ?_
                    refine r_istore G (lo' := [some (.ref o), some (.int (nI L)), some (.int (nI k)), some (.int (nI (told rw k (n - 2)))), some (.int (nI (lst (ndf L (told rw k (n - 2))))))]) dX1_growVine_84 rfl rfl ?_
                    refine r_aload_n G dX1_growVine_86 rfl ?_
                    refine r_iload G dX1_growVine_87 rfl ?_
                    refine r_aload_n G dX1_growVine_89 rfl ?_
                    refine m_geta G 12 (by decide) q1202 rfl dX1_growVine_90 ?_
                    refine r_iload_n G dX1_growVine_93 rfl ?_
                    refine m_ald G hD 12 (by decide) (by simp only [mN]; omega) (v := (nI (rw k))) (hrow _ (by omega)).1 dX1_growVine_94 ?_
                    refine m_callV G [.int (nI (lst (ndf L (told rw k (n - 2))))), .int (nI (rw k))] (mM_join hE hD (S := mArr S 7 fb) (lst (ndf L (told rw k (n - 2)))) (rw k) (tn (lst (ndf L (told rw k (n - 2))))) (tn (rw k)) g3 g5 g4 (by rw [mArr_s]; exact (hI.1 _ g3).1) (by rw [mArr_s]; exact (hI.1 _ g5).1)) (lw_V q1315 q1317 qs45 q74 q1318) fy_yX1_join rfl rfl ⟨Nat.le_of_ble_eq_true rfl, Nat.le_of_ble_eq_true rfl⟩ rfl (Nat.le_of_ble_eq_true rfl) rfl rfl ⟨Nat.zero_le _, Nat.zero_le _⟩ dX1_growVine_95 (fun v95 S95 hp95 => ?_)
                    obtain ⟨rfl, rfl⟩ := hp95
                    rw [mPut_arr, mPut_arr]
                    show K (mH g o ad (mArr S 7 (upd (upd fb (lst (ndf L (told rw k (n - 2)))) (nI (tn (lst (ndf L (told rw k (n - 2)))) ||| 1 <<< (rw k)))) (rw k) (nI (tn (rw k) ||| 1 <<< (lst (ndf L (told rw k (n - 2))))))))) 0 0 98 [some (.ref o), some (.int (nI L)), some (.int (nI k)), some (.int (nI (told rw k (n - 2)))), some (.int (nI (lst (ndf L (told rw k (n - 2))))))] []
                    refine r_iload_n G dX1_growVine_98 rfl ?_
                    refine r_iconst G (v := nI 1) dX1_growVine_99 (by decide) ?_
                    refine r_iload G dX1_growVine_100 rfl ?_
                    refine r_ishl G (v := (nI (1 <<< (lst (ndf L (told rw k (n - 2))))))) dX1_growVine_102 (n_shl (by omega)) ?_
                    refine r_iconst G (v := -1) dX1_growVine_103 (by decide) ?_
                    refine r_ixor G (v := (nI (1 <<< (lst (ndf L (told rw k (n - 2))))) ^^^ -1)) dX1_growVine_104 rfl ?_
                    refine r_iand G (v := (nI (ndf L (1 <<< (lst (ndf L (told rw k (n - 2)))))))) dX1_growVine_105 (n_andn (Nat.lt_trans hI.2.1 (by decide)) (Nat.lt_of_lt_of_le (shl1_lt g3) (by decide))) ?_
                    refine r_istore_n G (lo' := [some (.ref o), some (.int (nI (ndf L (1 <<< (lst (ndf L (told rw k (n - 2)))))))), some (.int (nI k)), some (.int (nI (told rw k (n - 2)))), some (.int (nI (lst (ndf L (told rw k (n - 2))))))]) dX1_growVine_106 rfl rfl ?_
                    refine r_iinc G (v := (nI (k + 1))) (lo' := [some (.ref o), some (.int (nI (ndf L (1 <<< (lst (ndf L (told rw k (n - 2)))))))), some (.int (nI (k + 1))), some (.int (nI (told rw k (n - 2)))), some (.int (nI (lst (ndf L (told rw k (n - 2))))))]) dX1_growVine_107 rfl (nI_add k 1) rfl rfl ?_
                    refine r_goto G 32 dX1_growVine_110 (by decide) ?_
                    refine r_drop G 3 (lo' := [some (.ref o), some (.int (nI (ndf L (1 <<< (lst (ndf L (told rw k (n - 2)))))))), some (.int (nI (k + 1))), none, some (.int (nI (lst (ndf L (told rw k (n - 2))))))]) rfl ?_
                    refine r_drop G 4 (lo' := [some (.ref o), some (.int (nI (ndf L (1 <<< (lst (ndf L (told rw k (n - 2)))))))), some (.int (nI (k + 1))), none, none]) rfl ?_
                    exact ih32 _ _ _ _ (by omega) g6 (by omega)
                  · refine r_iload_n G dX1_growVine_58 rfl ?_
                    refine r_iconst G (v := nI 1) dX1_growVine_59 (by decide) ?_
                    refine r_aload_n G dX1_growVine_60 rfl ?_
                    refine m_geta G 12 (by decide) q1202 rfl dX1_growVine_61 ?_
                    refine r_iload G dX1_growVine_64 rfl ?_
                    refine m_ald G hD 12 (by decide) (by simp only [mN]; omega) (v := (nI (rw q))) (hrow _ (by omega)).1 dX1_growVine_66 ?_
                    refine r_ishl G (v := (nI (1 <<< (rw q)))) dX1_growVine_67 (n_shl (by have := hr8 q (by omega); omega)) ?_
                    refine r_ior G (v := (nI (t ||| (1 <<< (rw q))))) dX1_growVine_68 (n_or t (1 <<< (rw q))) ?_
                    refine r_istore_n G (lo' := [some (.ref o), some (.int (nI L)), some (.int (nI k)), some (.int (nI (t ||| (1 <<< (rw q))))), some (.int (nI q))]) dX1_growVine_69 rfl rfl ?_
                    refine r_iinc G (v := (nI (q + 1))) (lo' := [some (.ref o), some (.int (nI L)), some (.int (nI k)), some (.int (nI (t ||| (1 <<< (rw q))))), some (.int (nI (q + 1)))]) dX1_growVine_70 rfl (nI_add q 1) rfl rfl ?_
                    refine r_goto G 47 dX1_growVine_73 (by decide) ?_
                    exact ih47 _ _ (by omega) (by omega) (by rw [told_s hkq, ht]) (by omega)
              exact L47 (n + 1) k 0 (by omega) (Nat.le_refl k) (told_0 rw k).symm (by omega)
        exact L32 (n + 1) 0 (2 ^ n - 1) fa (fun _ => 0) (Nat.zero_le _) (gwI_0 h2n hn8 (fun q hq => (hrow q hq).2) (fun p hp => hz p (by omega))) (by omega)
      · refine r_aload_n G dX1_growVine_8 rfl ?_
        refine m_geta G 7 (by decide) q1197 rfl dX1_growVine_9 ?_
        refine r_iload_n G dX1_growVine_12 rfl ?_
        refine r_iconst G (v := nI 0) dX1_growVine_13 (by decide) ?_
        refine m_ast G hD 7 (by decide) (by simp only [mN]; omega) dX1_growVine_14 ?_
        rw [mPut_arr]
        refine r_iinc G (v := (nI (p + 1))) (lo' := [some (.ref o), some (.int (nI (p + 1))), none, none, none]) dX1_growVine_15 rfl (nI_add p 1) rfl rfl ?_
        refine r_goto G 2 dX1_growVine_18 (by decide) ?_
        exact ih2 _ _ (by omega) (fun q hq => (Classical.em (q = p)).elim (fun e => by rw [e]; exact pk_us) (fun e => by rw [pk_un e]; exact hz q (by omega))) (by omega)
  rw [show S = mArr S 7 (S.2 7) from (mArr_0 S 7).symm]
  exact L2 9 0 (S.2 7) (Nat.zero_le _) (fun q h => absurd h (Nat.not_lt_zero _)) (by omega)
end MM7
