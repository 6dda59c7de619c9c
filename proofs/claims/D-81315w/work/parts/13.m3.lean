/-! the reference: the ways' lengths -/
set_option maxRecDepth 100000
section MM3
theorem thn_lt {n p t : Nat} {tw : Nat → Nat} {d : Nat → Nat → Nat} {s : Nat} (T : TM n tw d) (hn8 : n ≤ 8) (hp : p ≤ n) (ht : t = thn tw s p) : t < 2 ^ 31 := by
  rw [ht]
  refine Nat.lt_trans (Nat.lt_of_lt_of_le (orN_lt (k := n) fun q hq => ?_) (pow_n8 hn8)) (by decide)
  split
  · exact T.lt (by omega)
  · exact Nat.two_pow_pos n
set_option maxHeartbeats 4000000 in
theorem mM_findFars {l : Launch} {g : fG} {A : Nat → Prop} {En : State → Prop} (hE : fEnv g A En) {o : Nat} {ad : Nat → Nat} (hD : mD A o ad) {S : mS} {n : Nat} {tw kd ld : Nat → Nat} {d : Nat → Nat → Nat} (hV : mV S n tw kd ld) (T : TM n tw d): mC l g A En o ad yX1_findFars cX1_findFars 7 none (fR 1) [] S (fun v S' => v = none ∧ ∃ fa, mArr S 15 fa = S' ∧ mFar S' n d) := by
  refine fC.of (by decide) hE [some (.ref o), none, none, none, none, none, none] rfl rfl (fun K G => ?_)
  have G : fGood l g A En RX1 "findFars" cX1_findFars 7 none (fR 1) _ K := G
  have hn8 := hV.2.1
  refine r_iconst G (v := nI 0) dX1_findFars_0 (by decide) ?_
  refine r_istore_n G (lo' := [some (.ref o), some (.int (nI 0)), none, none, none, none, none]) dX1_findFars_1 rfl rfl ?_
  rw [show S = mArr S 15 (S.2 15) from (mArr_0 S 15).symm]
  have L2 : ∀ (fu : Nat) (a : Nat) (fa : Nat → Int32), (a ≤ n) → (ffI n d a 0 fa) → n - a < fu → K (mH g o ad (mArr S 15 fa)) 0 0 2 [some (.ref o), some (.int (nI a)), none, none, none, none, none] [] := by
    intro fu
    induction fu with
    | zero => intro a fa ha hI0 hm2; exact absurd hm2 (Nat.not_lt_zero _)
    | succ fu2 ih2 =>
      intro a fa ha hI0 hm2
      refine r_iload_n G dX1_findFars_2 rfl ?_
      refine r_aload_n G dX1_findFars_3 rfl ?_
      refine m_gets G 5 (by decide) q1195 rfl (v := (nI n)) hV.1 dX1_findFars_4 ?_
      refine r_icmp_ge G 102 (nI_leI (by have := hV.2.1; omega) (by omega)) dX1_findFars_7 (by decide) (fun h7 => ?_) (fun h7 => ?_)
      · exact r_vret G rfl ⟨Nat.zero_le _, Nat.zero_le _⟩ dX1_findFars_102 ⟨_, rfl, rfl, fa, rfl, fun a' ha' b hb => ⟨by have : a = n := (by omega); exact (hI0.1 a' (by omega) b hb), by have := T.dl ha' hb; omega⟩⟩
      · have h7' : a < n := by omega
        refine r_iconst G (v := nI 0) dX1_findFars_10 (by decide) ?_
        refine r_istore_n G (lo' := [some (.ref o), some (.int (nI a)), some (.int (nI 0)), none, none, none, none]) dX1_findFars_11 rfl rfl ?_
        refine r_iconst G (v := nI 1) dX1_findFars_12 (by decide) ?_
        refine r_iload_n G dX1_findFars_13 rfl ?_
        refine r_ishl G (v := (nI (1 <<< a))) dX1_findFars_14 (n_shl (by omega)) ?_
        refine r_istore_n G (lo' := [some (.ref o), some (.int (nI a)), some (.int (nI 0)), some (.int (nI (1 <<< a))), none, none, none]) dX1_findFars_15 rfl rfl ?_
        refine r_iconst G (v := nI 0) dX1_findFars_16 (by decide) ?_
        refine r_istore G (lo' := [some (.ref o), some (.int (nI a)), some (.int (nI 0)), some (.int (nI (1 <<< a))), some (.int (nI 0)), none, none]) dX1_findFars_17 rfl rfl ?_
        have L19 : ∀ (fu : Nat) (D : Nat) (fb : Nat → Int32), (D ≤ n) → (ffI n d a D fb) → n + 1 - D < fu → K (mH g o ad (mArr S 15 fb)) 0 0 19 [some (.ref o), some (.int (nI a)), some (.int (nI (ltl n d a D))), some (.int (nI (lvl n d a D))), some (.int (nI D)), none, none] [] := by
          intro fu
          induction fu with
          | zero => intro D fb hDn hI hm19; exact absurd hm19 (Nat.not_lt_zero _)
          | succ fu19 ih19 =>
            intro D fb hDn hI hm19
            refine r_iload_n G dX1_findFars_19 rfl ?_
            refine r_if_eq G 96 (n_eq0 (Nat.lt_trans (Nat.lt_of_lt_of_le (setN_lt n _) (pow_n8 hn8)) (by decide))) dX1_findFars_20 (by decide) (fun h20 => ?_) (fun h20 => ?_)
            · refine r_iinc G (v := (nI (a + 1))) (lo' := [some (.ref o), some (.int (nI (a + 1))), some (.int (nI (ltl n d a D))), some (.int (nI (lvl n d a D))), some (.int (nI D)), none, none]) dX1_findFars_96 rfl (nI_add a 1) rfl rfl ?_
              refine r_goto G 2 dX1_findFars_99 (by decide) ?_
              refine r_drop G 2 (lo' := [some (.ref o), some (.int (nI (a + 1))), none, some (.int (nI (lvl n d a D))), some (.int (nI D)), none, none]) rfl ?_
              refine r_drop G 3 (lo' := [some (.ref o), some (.int (nI (a + 1))), none, none, some (.int (nI D)), none, none]) rfl ?_
              refine r_drop G 4 (lo' := [some (.ref o), some (.int (nI (a + 1))), none, none, none, none, none]) rfl ?_
              exact ih2 _ _ (by omega) (ffI_e hI (fun p hp => lvl_end T (by omega) h20 hp)) (by omega)
            · refine r_iconst G (v := nI 0) dX1_findFars_23 (by decide) ?_
              refine r_istore G (lo' := [some (.ref o), some (.int (nI a)), some (.int (nI (ltl n d a D))), some (.int (nI (lvl n d a D))), some (.int (nI D)), some (.int (nI 0)), none]) dX1_findFars_24 rfl rfl ?_
              refine r_iconst G (v := nI 0) dX1_findFars_26 (by decide) ?_
              refine r_istore G (lo' := [some (.ref o), some (.int (nI a)), some (.int (nI (ltl n d a D))), some (.int (nI (lvl n d a D))), some (.int (nI D)), some (.int (nI 0)), some (.int (nI 0))]) dX1_findFars_27 rfl rfl ?_
              have L29 : ∀ (fu : Nat) (p t : Nat) (fc : Nat → Int32), (p ≤ n) → (t = thn tw (lvl n d a D) p) → (ffJ n d a D p fc) → n - p < fu → K (mH g o ad (mArr S 15 fc)) 0 0 29 [some (.ref o), some (.int (nI a)), some (.int (nI (ltl n d a D))), some (.int (nI (lvl n d a D))), some (.int (nI D)), some (.int (nI t)), some (.int (nI p))] [] := by
                intro fu
                induction fu with
                | zero => intro p t fc hp ht hJ hm29; exact absurd hm29 (Nat.not_lt_zero _)
                | succ fu29 ih29 =>
                  intro p t fc hp ht hJ hm29
                  refine r_iload G dX1_findFars_29 rfl ?_
                  refine r_aload_n G dX1_findFars_31 rfl ?_
                  refine m_gets G 5 (by decide) q1195 rfl (v := (nI n)) hV.1 dX1_findFars_32 ?_
                  refine r_icmp_ge G 79 (nI_leI (by have := hV.2.1; omega) (by omega)) dX1_findFars_35 (by decide) (fun h35 => ?_) (fun h35 => ?_)
                  · refine r_iload_n G dX1_findFars_79 rfl ?_
                    refine r_iload_n G dX1_findFars_80 rfl ?_
                    refine r_ior G (v := (nI ((ltl n d a D) ||| (lvl n d a D)))) dX1_findFars_81 (n_or (ltl n d a D) (lvl n d a D)) ?_
                    refine r_istore_n G (lo' := [some (.ref o), some (.int (nI a)), some (.int (nI ((ltl n d a D) ||| (lvl n d a D)))), some (.int (nI (lvl n d a D))), some (.int (nI D)), some (.int (nI t)), some (.int (nI p))]) dX1_findFars_82 rfl rfl ?_
                    refine r_iload G dX1_findFars_83 rfl ?_
                    refine r_iload_n G dX1_findFars_85 rfl ?_
                    refine r_iconst G (v := -1) dX1_findFars_86 (by decide) ?_
                    refine r_ixor G (v := (nI ((ltl n d a D) ||| (lvl n d a D)) ^^^ -1)) dX1_findFars_87 rfl ?_
                    refine r_iand G (v := (nI (ndf t ((ltl n d a D) ||| (lvl n d a D))))) dX1_findFars_88 (n_andn (thn_lt T hn8 (by omega) ht) (Nat.lt_trans (Nat.lt_of_lt_of_le (or_lt (setN_lt n _) (setN_lt n _)) (pow_n8 hn8)) (by decide))) ?_
                    refine r_istore_n G (lo' := [some (.ref o), some (.int (nI a)), some (.int (nI ((ltl n d a D) ||| (lvl n d a D)))), some (.int (nI (ndf t ((ltl n d a D) ||| (lvl n d a D))))), some (.int (nI D)), some (.int (nI t)), some (.int (nI p))]) dX1_findFars_89 rfl rfl ?_
                    refine r_iinc G (v := (nI (D + 1))) (lo' := [some (.ref o), some (.int (nI a)), some (.int (nI ((ltl n d a D) ||| (lvl n d a D)))), some (.int (nI (ndf t ((ltl n d a D) ||| (lvl n d a D))))), some (.int (nI (D + 1))), some (.int (nI t)), some (.int (nI p))]) dX1_findFars_90 rfl (nI_add D 1) rfl rfl ?_
                    refine r_goto G 19 dX1_findFars_93 (by decide) ?_
                    refine r_drop G 5 (lo' := [some (.ref o), some (.int (nI a)), some (.int (nI ((ltl n d a D) ||| (lvl n d a D)))), some (.int (nI (ndf t ((ltl n d a D) ||| (lvl n d a D))))), some (.int (nI (D + 1))), none, some (.int (nI p))]) rfl ?_
                    refine r_drop G 6 (lo' := [some (.ref o), some (.int (nI a)), some (.int (nI ((ltl n d a D) ||| (lvl n d a D)))), some (.int (nI (ndf t ((ltl n d a D) ||| (lvl n d a D))))), some (.int (nI (D + 1))), none, none]) rfl ?_
                    obtain rfl : p = n := by omega
                    rw [ht, ltl_s, lvl_s T h7' D]
                    exact ih19 _ _ (by obtain ⟨p, hp, e⟩ := lvl_pos h20; have := T.dl h7' hp; omega) (ffJ_e hJ) (by obtain ⟨p, hp, e⟩ := lvl_pos h20; have := T.dl h7' hp; omega)
                  · refine r_iload_n G dX1_findFars_38 rfl ?_
                    refine r_iload G dX1_findFars_39 rfl ?_
                    refine s_callS G [.int (nI (lvl n d a D)), .int (nI p)] (sM_isOf hE (lvl n d a D) p (Nat.lt_trans (Nat.lt_of_lt_of_le (setN_lt n _) (pow_n8 hn8)) (by decide)) (by omega)) (lw_S q1312 q1313 q74 q1314) fy_yX1_isOf rfl ⟨Nat.le_of_ble_eq_true rfl, Nat.le_of_ble_eq_true rfl⟩ rfl (Nat.le_of_ble_eq_true rfl) rfl rfl ⟨Nat.zero_le _, Nat.zero_le _⟩ dX1_findFars_41 ?_
                    refine r_ifb_eq G 73  dX1_findFars_44 (by decide) (fun h44 => ?_) (fun h44 => ?_)
                    · refine r_iinc G (v := (nI (p + 1))) (lo' := [some (.ref o), some (.int (nI a)), some (.int (nI (ltl n d a D))), some (.int (nI (lvl n d a D))), some (.int (nI D)), some (.int (nI t)), some (.int (nI (p + 1)))]) dX1_findFars_73 rfl (nI_add p 1) rfl rfl ?_
                      refine r_goto G 29 dX1_findFars_76 (by decide) ?_
                      exact ih29 _ _ _ (by omega) (by rw [ht]; simp [thn, orN, h44]) (ffJ_f hJ (by rw [lvl_bit (by omega)] at h44; exact of_decide_eq_false h44)) (by omega)
                    · refine r_aload_n G dX1_findFars_47 rfl ?_
                      refine m_geta G 15 (by decide) q1205 rfl dX1_findFars_48 ?_
                      refine r_bipush G (v := nI 8) dX1_findFars_51 (by decide) ?_
                      refine r_iload_n G dX1_findFars_53 rfl ?_
                      refine r_imul G (v := (nI (8 * a))) dX1_findFars_54 (pk_mul 8 a) ?_
                      refine r_iload G dX1_findFars_55 rfl ?_
                      refine r_iadd G (v := (nI ((8 * a) + p))) dX1_findFars_57 (nI_add (8 * a) p) ?_
                      refine r_iload G dX1_findFars_58 rfl ?_
                      refine m_ast G hD 15 (by decide) (by simp only [mN]; omega) dX1_findFars_60 ?_
                      rw [mPut_arr]
                      refine r_iload G dX1_findFars_61 rfl ?_
                      refine r_aload_n G dX1_findFars_63 rfl ?_
                      refine m_geta G 7 (by decide) q1197 rfl dX1_findFars_64 ?_
                      refine r_iload G dX1_findFars_67 rfl ?_
                      refine m_ald G hD 7 (by decide) (by simp only [mN]; omega) (v := (nI (tw p))) (hV.tw (by omega)) dX1_findFars_69 ?_
                      refine r_ior G (v := (nI (t ||| (tw p)))) dX1_findFars_70 (n_or t (tw p)) ?_
                      refine r_istore G (lo' := [some (.ref o), some (.int (nI a)), some (.int (nI (ltl n d a D))), some (.int (nI (lvl n d a D))), some (.int (nI D)), some (.int (nI (t ||| (tw p)))), some (.int (nI p))]) dX1_findFars_71 rfl rfl ?_
                      refine r_iinc G (v := (nI (p + 1))) (lo' := [some (.ref o), some (.int (nI a)), some (.int (nI (ltl n d a D))), some (.int (nI (lvl n d a D))), some (.int (nI D)), some (.int (nI (t ||| (tw p)))), some (.int (nI (p + 1)))]) dX1_findFars_73 rfl (nI_add p 1) rfl rfl ?_
                      refine r_goto G 29 dX1_findFars_76 (by decide) ?_
                      exact ih29 _ _ _ (by omega) (by rw [ht]; simp [thn, orN, h44]) (ffJ_t hn8 hJ (by omega) (by rw [lvl_bit (by omega)] at h44; exact of_decide_eq_true h44)) (by omega)
              exact L29 (n + 1) 0 0 fb (Nat.zero_le _) rfl (ffJ_0 hI) (by omega)
        have k19 := L19 (n + 2) 0 fa (Nat.zero_le _) hI0 (by omega)
        rw [← lvl_0 T h7', ← ltl_0] at k19
        exact k19
  exact L2 (n + 1) 0 (S.2 15) (Nat.zero_le _) ⟨fun a' h => absurd h (Nat.not_lt_zero _), fun b _ h => absurd h (Nat.not_lt_zero _)⟩ (by omega)
end MM3
