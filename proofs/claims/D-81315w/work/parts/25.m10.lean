/-! the reference: day -/
set_option maxRecDepth 100000
section MM10
theorem dgo_tm {n : Nat} {c : Nat → Int32} (hn8 : n ≤ 8) : ∀ m k (s : (Nat → Nat) × (Nat → Nat)), (∃ d, TM n s.1 d) → ∃ d, TM n (dgo n c m k s).2.1 d := by
  intro m
  induction m with
  | zero => intro k s h; exact h
  | succ m ih =>
    intro k s h
    cases hd : doOk n s.1 (c (2 * k)) (c (2 * k + 1)) with
    | true => rw [dgo_s hd]; exact ih _ _ (doT_tm hn8 h _ _)
    | false => rw [dgo_f hd]; exact h
theorem dif2 {a b c d : Bool} (h : a = false ∨ b = false ∨ (c = false ∧ d = false)) : (a && b && (c || d)) = false := by
  rcases h with h | h | ⟨h, h'⟩
  · rw [h]; simp
  · rw [h]; simp
  · rw [h, h']; simp
theorem dif3 {a b c d : Bool} (h1 : a = true) (h2 : b = true) (h : c = true ∨ d = true) : (a && b && (c || d)) = true := by
  rw [h1, h2]
  rcases h with h | h
  · rw [h]; simp
  · rw [h]; simp
theorem day_1 {n : Nat} {kd : Nat → Nat} {g : Option Nat × (Nat → Nat) × (Nat → Nat)} {what : Int32} (h : what = nI 1) : some (Value.int (oI g.1)) = some (.int (dayEnd n kd g what, (0 : Int32)).1) := by
  show _ = some (Value.int (dayEnd n kd g what))
  rw [dayEnd, if_pos h]
theorem oI_ne (k : Nat) (hk : k < 2 ^ 31) : nI k ≠ -9 := fun e => by
  have h1 := nI_toInt hk
  rw [e] at h1
  have h2 : (-9 : Int32).toInt = -9 := by decide
  omega
theorem dgo_lt {n : Nat} {c : Nat → Int32} : ∀ m k (s : (Nat → Nat) × (Nat → Nat)) q, (dgo n c m k s).1 = some q → q < k + m := by
  intro m
  induction m with
  | zero => intro k s q h; cases h
  | succ m ih =>
    intro k s q h
    cases hd : doOk n s.1 (c (2 * k)) (c (2 * k + 1)) with
    | true => rw [dgo_s hd] at h; have := ih _ _ _ h; omega
    | false => rw [dgo_f hd] at h; cases h; omega
theorem day_t {n nn : Nat} {kd : Nat → Nat} {c : Nat → Int32} {s : (Nat → Nat) × (Nat → Nat)} {what : Int32} (h : ¬ what = nI 1) (h2 : oI (dgo n c nn 0 s).1 = -9) (hnn : nn ≤ 20 := by omega) : some (Value.int (aTell n (dgo n c nn 0 s).2.1 kd (dgo n c nn 0 s).2.2 (dm n (dgo n c nn 0 s).2.1) what)) = some (.int (dayEnd n kd (dgo n c nn 0 s) what, (0 : Int32)).1) := by
  have hl := dgo_lt (n := n) (c := c) nn 0 s
  show _ = some (Value.int (dayEnd n kd (dgo n c nn 0 s) what))
  rw [dayEnd, if_neg h]
  cases hg : (dgo n c nn 0 s).1 with
  | none => rfl
  | some q =>
    rw [hg] at h2
    have := hl q hg
    exact absurd h2 (oI_ne q (by omega))
theorem day_w {n nn : Nat} {kd : Nat → Nat} {c : Nat → Int32} {s : (Nat → Nat) × (Nat → Nat)} {what : Int32} (h : ¬ what = nI 1) (h2 : ¬ oI (dgo n c nn 0 s).1 = -9) : some (Value.int (-100 - oI (dgo n c nn 0 s).1)) = some (.int (dayEnd n kd (dgo n c nn 0 s) what, (0 : Int32)).1) := by
  show _ = some (Value.int (dayEnd n kd (dgo n c nn 0 s) what))
  rw [dayEnd, if_neg h]
  cases hg : (dgo n c nn 0 s).1 with
  | none => rw [hg] at h2; exact absurd rfl h2
  | some q => rfl
theorem day_x {S S1 S2 : mS} {fk fl ft fm : Nat → Int32} (h1 : mEqX [] [7, 9] (mArr (mArr (mSet S 0 (nI 0)) 18 fk) 19 fl) S1) (h2 : mEqX [] [] S1 S2) : mEqX [0] [7, 9, 18, 19] S (mArr (mArr S2 7 ft) 9 fm) :=
  ((mEqX.set S (nI 0) (by decide)).tr ((mEqX.arr _ _ (by decide)).tr (mEqX.arr _ _ (by decide)))).tr ((h1.up (by decide) (by decide)).tr ((h2.up (by decide) (by decide)).tr ((mEqX.arr _ _ (by decide)).tr (mEqX.arr _ _ (by decide)))))
set_option maxHeartbeats 4000000 in
theorem mM_day {l : Launch} {g : fG} {A : Nat → Prop} {En : State → Prop} (hE : fEnv g A En) {o : Nat} {ad : Nat → Nat} (hD : mD A o ad) {S : mS} {n : Nat} {tw kd ld : Nat → Nat} (hV : mV S n tw kd ld) (hO : vOk n tw) {so sl : Nat → Nat} {sc : Nat → Nat → Int32} (hs : mSh S so sl sc) (a b c0 e what : Int32): mC l g A En o ad yX1_day cX1_day 11 (some .int) (fR 5) [.int a, .int b, .int c0, .int e, .int what] S (fun v S' => v = some (.int (aDay n tw kd ld so sl sc a b c0 e what).1) ∧ S'.1 0 = (aDay n tw kd ld so sl sc a b c0 e what).2 ∧ mV S' n tw kd ld ∧ mEqX [0] [7, 9, 18, 19] S S') := by
  refine fC.of (by decide) hE [some (.ref o), some (.int a), some (.int b), some (.int c0), some (.int e), some (.int what), none, none, none, none, none] rfl rfl (fun K G => ?_)
  have G : fGood l g A En RX1 "day" cX1_day 11 (some .int) (fR 5) _ K := G
  have hn8 := hV.2.1
  refine r_aload_n G dX1_day_0 rfl ?_
  refine r_iconst G (v := nI 0) dX1_day_1 (by decide) ?_
  refine m_puts G hD 0 (by decide) q1190 rfl rfl rfl dX1_day_2 ?_
  refine r_iload_n G dX1_day_5 rfl ?_
  refine s_callS G [.int a] (sM_isSheet hE a) (lw_S q1276 q1277 q74 q1278) fy_yX1_isSheet rfl ⟨Nat.le_of_ble_eq_true rfl, Nat.le_of_ble_eq_true rfl⟩ rfl (Nat.le_of_ble_eq_true rfl) rfl rfl ⟨Nat.zero_le _, Nat.zero_le _⟩ dX1_day_6 ?_
  refine r_ifb_ne G 14  dX1_day_9 (by decide) (fun h9 => ?_) (fun h9 => ?_)
  · obtain ⟨ks, hks0, hks, rfl⟩ := wi_t (by decide) (by decide) h9
    have eks : ix (nI ks) = ks := ix_nI (by omega)
    have hk4 : ks < 4 := by omega
    refine r_iload_n G dX1_day_14 rfl ?_
    refine s_callS G [.int b] (sM_isSort hE b) (lw_S q1282 q1283 q74 q1284) fy_yX1_isSort rfl ⟨Nat.le_of_ble_eq_true rfl, Nat.le_of_ble_eq_true rfl⟩ rfl (Nat.le_of_ble_eq_true rfl) rfl rfl ⟨Nat.zero_le _, Nat.zero_le _⟩ dX1_day_15 ?_
    refine r_ifb_eq G 54  dX1_day_18 (by decide) (fun h18 => ?_) (fun h18 => ?_)
    · refine r_bipush G (v := -2) dX1_day_54 (by decide) ?_
      exact r_iret G rfl ⟨Nat.zero_le _, Nat.zero_le _⟩ dX1_day_56 ⟨_, rfl, by rw [aDay, h9, dif2 (by first | exact Or.inl h18 | exact Or.inr (Or.inl h29) | exact Or.inr (Or.inr ⟨h39, h51⟩))]; rfl, by rw [aDay, h9, dif2 (by first | exact Or.inl h18 | exact Or.inr (Or.inl h29) | exact Or.inr (Or.inr ⟨h39, h51⟩))]; exact mSet_s _ _ _, hV, (mEqX.set S (nI 0) (by decide))⟩
    · refine r_iload G dX1_day_21 rfl ?_
      refine r_iconst G (v := nI 0) dX1_day_23 (by decide) ?_
      refine r_bipush G (v := nI 20) dX1_day_24 (by decide) ?_
      refine s_callS G [.int e, .int (nI 0), .int (nI 20)] (sM_within hE e (nI 0) (nI 20)) (lw_S q1279 q1280 q74 q1281) fy_yX1_within rfl ⟨Nat.le_of_ble_eq_true rfl, Nat.le_of_ble_eq_true rfl⟩ rfl (Nat.le_of_ble_eq_true rfl) rfl rfl ⟨Nat.zero_le _, Nat.zero_le _⟩ dX1_day_26 ?_
      refine r_ifb_eq G 54  dX1_day_29 (by decide) (fun h29 => ?_) (fun h29 => ?_)
      · refine r_bipush G (v := -2) dX1_day_54 (by decide) ?_
        exact r_iret G rfl ⟨Nat.zero_le _, Nat.zero_le _⟩ dX1_day_56 ⟨_, rfl, by rw [aDay, h9, dif2 (by first | exact Or.inl h18 | exact Or.inr (Or.inl h29) | exact Or.inr (Or.inr ⟨h39, h51⟩))]; rfl, by rw [aDay, h9, dif2 (by first | exact Or.inl h18 | exact Or.inr (Or.inl h29) | exact Or.inr (Or.inr ⟨h39, h51⟩))]; exact mSet_s _ _ _, hV, (mEqX.set S (nI 0) (by decide))⟩
      · obtain ⟨nn, hnn0, hnn, rfl⟩ := wi_t (by decide) (by decide) h29
        have enn : ix (nI nn) = nn := ix_nI (by omega)
        refine r_iload G dX1_day_32 rfl ?_
        refine r_iconst G (v := nI 0) dX1_day_34 (by decide) ?_
        refine r_iconst G (v := nI 4) dX1_day_35 (by decide) ?_
        refine s_callS G [.int what, .int (nI 0), .int (nI 4)] (sM_within hE what (nI 0) (nI 4)) (lw_S q1279 q1280 q74 q1281) fy_yX1_within rfl ⟨Nat.le_of_ble_eq_true rfl, Nat.le_of_ble_eq_true rfl⟩ rfl (Nat.le_of_ble_eq_true rfl) rfl rfl ⟨Nat.zero_le _, Nat.zero_le _⟩ dX1_day_36 ?_
        refine r_ifb_ne G 57  dX1_day_39 (by decide) (fun h39 => ?_) (fun h39 => ?_)
        · refine r_aload_n G dX1_day_57 rfl ?_
          refine r_iload_n G dX1_day_58 rfl ?_
          refine r_iload_n G dX1_day_59 rfl ?_
          refine r_iload_n G dX1_day_60 rfl ?_
          refine r_iconst G (v := nI 2) dX1_day_61 (by decide) ?_
          refine r_iload G dX1_day_62 rfl ?_
          refine r_imul G (v := (nI (2 * nn))) dX1_day_64 (pk_mul 2 nn) ?_
          refine m_callV G [.int (nI ks), .int b, .int c0, .int (nI (2 * nn))] (mM_against hE hD (S := (mSet S 0 (nI 0))) ks (by omega) (hs _ hk4).1 (hs _ hk4).2.2.1 (hs _ hk4).2.2.2.1 b c0 (nI (2 * nn))) (lw_V q1285 q1287 qs39 q74 q1288) fy_yX1_against rfl rfl ⟨Nat.le_of_ble_eq_true rfl, Nat.le_of_ble_eq_true rfl⟩ rfl (Nat.le_of_ble_eq_true rfl) rfl rfl ⟨Nat.zero_le _, Nat.zero_le _⟩ dX1_day_65 (fun v65 S65 hp65 => ?_)
          obtain ⟨rfl, rfl⟩ := hp65
          show K (mH g o ad (mSet S 0 (nI 0))) 0 0 68 [some (.ref o), some (.int (nI ks)), some (.int b), some (.int c0), some (.int (nI nn)), some (.int what), none, none, none, none, none] [.int (nI (agn (soI (so ks)) (sl ks) b c0 (nI (2 * nn))))]
          refine r_istore G (lo' := [some (.ref o), some (.int (nI ks)), some (.int b), some (.int c0), some (.int (nI nn)), some (.int what), some (.int (nI (agn (soI (so ks)) (sl ks) b c0 (nI (2 * nn))))), none, none, none, none]) dX1_day_68 rfl rfl ?_
          refine r_iload G dX1_day_70 rfl ?_
          refine r_if_eq G 82 (n_eq0 (Nat.lt_of_le_of_lt (agn_le _ _ _ _ _) (by decide))) dX1_day_72 (by decide) (fun h72 => ?_) (fun h72 => ?_)
          · obtain ⟨-, -, i0, m0, rfl, em, hi0, hm0⟩ := agn_0 (hs _ hk4).2.2.2.1 h72
            have em2 : m0 = 2 * nn := ((nI_eq (by omega) (by have := (hs _ hk4).2.2.2.1; omega)).mp em).symm
            have hl60 := (hs _ hk4).2.2.2.1
            have ei0 : ix (nI i0) = i0 := ix_nI (by omega)
            refine r_aload_n G dX1_day_82 rfl ?_
            refine m_gets G 5 (by decide) q1195 rfl (v := (nI n)) hV.1 dX1_day_83 ?_
            refine r_if_ne G 92 (n_eq0 (by have := hV.2.1; omega)) dX1_day_86 (by decide) (fun h86 => ?_) (fun h86 => ?_)
            · have hn0 : n ≠ 0 := h86
              obtain ⟨h2n, T⟩ := hO.t h86
              obtain ⟨c, hc⟩ : ∃ c : Nat → Int32, c = fun j => sc ks (i0 + j) := ⟨_, rfl⟩
              have hcc : ∀ j, j < 2 * nn → S.2 4 ((60 * ks + i0) + j) = c j := fun j hj => by rw [hc, Nat.add_assoc]; exact (hs _ hk4).2.2.2.2 (i0 + j) (by omega)
              refine r_bipush G (v := nI 60) dX1_day_92 (by decide) ?_
              refine r_iload_n G dX1_day_94 rfl ?_
              refine r_imul G (v := (nI (60 * ks))) dX1_day_95 (pk_mul 60 ks) ?_
              refine r_iload_n G dX1_day_96 rfl ?_
              refine r_iadd G (v := (nI ((60 * ks) + i0))) dX1_day_97 (nI_add (60 * ks) i0) ?_
              refine r_istore G (lo' := [some (.ref o), some (.int (nI ks)), some (.int b), some (.int (nI i0)), some (.int (nI nn)), some (.int what), some (.int (nI (agn (soI (so ks)) (sl ks) b (nI i0) (nI (2 * nn))))), some (.int (nI ((60 * ks) + i0))), none, none, none]) dX1_day_98 rfl rfl ?_
              refine r_iconst G (v := nI 0) dX1_day_100 (by decide) ?_
              refine r_istore G (lo' := [some (.ref o), some (.int (nI ks)), some (.int b), some (.int (nI i0)), some (.int (nI nn)), some (.int what), some (.int (nI (agn (soI (so ks)) (sl ks) b (nI i0) (nI (2 * nn))))), some (.int (nI ((60 * ks) + i0))), some (.int (nI 0)), none, none]) dX1_day_101 rfl rfl ?_
              have L103 : ∀ (fu : Nat) (k : Nat), (k ≤ nn) → (∀ j, j < k → pRef n (c (2 * j)) (c (2 * j + 1)) = 0) → (fRef n c nn 0 = fRef n c (nn - k) k) → nn - k < fu → K (mH g o ad (mSet S 0 (nI 0))) 0 0 103 [some (.ref o), some (.int (nI ks)), some (.int b), some (.int (nI i0)), some (.int (nI nn)), some (.int what), some (.int (nI (agn (soI (so ks)) (sl ks) b (nI i0) (nI (2 * nn))))), some (.int (nI ((60 * ks) + i0))), some (.int (nI k)), none, none] [] := by
                intro fu
                induction fu with
                | zero => intro k hk hq hfr hm103; exact absurd hm103 (Nat.not_lt_zero _)
                | succ fu103 ih103 =>
                  intro k hk hq hfr hm103
                  refine r_iload G dX1_day_103 rfl ?_
                  refine r_iload G dX1_day_105 rfl ?_
                  refine r_icmp_ge G 156 (nI_leI (by omega) (by omega)) dX1_day_107 (by decide) (fun h107 => ?_) (fun h107 => ?_)
                  · have hpre : ∀ j, j < nn → pRef n (c (2 * j)) (c (2 * j + 1)) = 0 := fun j hj => hq j (by omega)
                    have hf0 : fRef n c nn 0 = 0 := by rw [hfr, show nn - k = 0 by omega]; rfl
                    refine r_iconst G (v := nI 0) dX1_day_156 (by decide) ?_
                    refine r_istore G (lo' := [some (.ref o), some (.int (nI ks)), some (.int b), some (.int (nI i0)), some (.int (nI nn)), some (.int what), some (.int (nI (agn (soI (so ks)) (sl ks) b (nI i0) (nI (2 * nn))))), some (.int (nI ((60 * ks) + i0))), some (.int (nI 0)), none, none]) dX1_day_157 rfl rfl ?_
                    have L159 : ∀ (fu : Nat) (p : Nat) (fk fl : Nat → Int32), (p ≤ n) → (∀ q, q < p → fk q = nI (tw q)) → (∀ q, q < p → fl q = nI (ld q)) → n - p < fu → K (mH g o ad (mArr (mArr (mSet S 0 (nI 0)) 18 fk) 19 fl)) 0 0 159 [some (.ref o), some (.int (nI ks)), some (.int b), some (.int (nI i0)), some (.int (nI nn)), some (.int what), some (.int (nI (agn (soI (so ks)) (sl ks) b (nI i0) (nI (2 * nn))))), some (.int (nI ((60 * ks) + i0))), some (.int (nI p)), none, none] [] := by
                      intro fu
                      induction fu with
                      | zero => intro p fk fl hp hfk hfl hm159; exact absurd hm159 (Nat.not_lt_zero _)
                      | succ fu159 ih159 =>
                        intro p fk fl hp hfk hfl hm159
                        refine r_iload G dX1_day_159 rfl ?_
                        refine r_aload_n G dX1_day_161 rfl ?_
                        refine m_gets G 5 (by decide) q1195 rfl (v := (nI n)) hV.1 dX1_day_162 ?_
                        refine r_icmp_ge G 202 (nI_leI (by have := hV.2.1; omega) (by omega)) dX1_day_165 (by decide) (fun h165 => ?_) (fun h165 => ?_)
                        · have hVk : mV (mArr (mArr (mSet S 0 (nI 0)) 18 fk) 19 fl) n tw kd ld := hV
                          have hpn : p = n := by omega
                          refine r_aload_n G dX1_day_202 rfl ?_
                          refine r_iload G dX1_day_203 rfl ?_
                          refine r_iload G dX1_day_205 rfl ?_
                          refine m_callV G [.int (nI ((60 * ks) + i0)), .int (nI nn)] (mM_goDay hE hD (S := (mArr (mArr (mSet S 0 (nI 0)) 18 fk) 19 fl)) hVk ⟨_, T⟩ hn0 h2n ((60 * ks) + i0) nn (by omega) (c := c) hcc hpre) (lw_V q1374 q1376 qs54 q74 q1377) fy_yX1_goDay rfl rfl ⟨Nat.le_of_ble_eq_true rfl, Nat.le_of_ble_eq_true rfl⟩ rfl (Nat.le_of_ble_eq_true rfl) rfl rfl ⟨Nat.zero_le _, Nat.zero_le _⟩ dX1_day_207 (fun v207 S207 hp207 => ?_)
                          obtain ⟨rfl, hX207, hW207⟩ := hp207
                          show K (mH g o ad S207) 0 0 210 [some (.ref o), some (.int (nI ks)), some (.int b), some (.int (nI i0)), some (.int (nI nn)), some (.int what), some (.int (nI (agn (soI (so ks)) (sl ks) b (nI i0) (nI (2 * nn))))), some (.int (nI ((60 * ks) + i0))), some (.int (nI p)), none, none] [.int (oI (dgo n c nn 0 (tw, ld)).1)]
                          refine r_istore G (lo' := [some (.ref o), some (.int (nI ks)), some (.int b), some (.int (nI i0)), some (.int (nI nn)), some (.int what), some (.int (nI (agn (soI (so ks)) (sl ks) b (nI i0) (nI (2 * nn))))), some (.int (nI ((60 * ks) + i0))), some (.int (oI (dgo n c nn 0 (tw, ld)).1)), none, none]) dX1_day_210 rfl rfl ?_
                          refine r_aload_n G dX1_day_212 rfl ?_
                          refine r_iload G dX1_day_213 rfl ?_
                          refine m_callV G [.int what] (mM_tellDay hE hD (S := S207) hW207 (fun _ => ⟨h2n, dm_ok (dgo_tm hn8 nn 0 (tw, ld) ⟨_, T⟩)⟩) hn0 what) (lw_V q1382 q1384 qs56 q74 q1385) fy_yX1_tellDay rfl rfl ⟨Nat.le_of_ble_eq_true rfl, Nat.le_of_ble_eq_true rfl⟩ rfl (Nat.le_of_ble_eq_true rfl) rfl rfl ⟨Nat.zero_le _, Nat.zero_le _⟩ dX1_day_215 (fun v215 S215 hp215 => ?_)
                          obtain ⟨rfl, hX215⟩ := hp215
                          show K (mH g o ad S215) 0 0 218 [some (.ref o), some (.int (nI ks)), some (.int b), some (.int (nI i0)), some (.int (nI nn)), some (.int what), some (.int (nI (agn (soI (so ks)) (sl ks) b (nI i0) (nI (2 * nn))))), some (.int (nI ((60 * ks) + i0))), some (.int (oI (dgo n c nn 0 (tw, ld)).1)), none, none] [.int (aTell n (dgo n c nn 0 (tw, ld)).2.1 kd (dgo n c nn 0 (tw, ld)).2.2 (dm n (dgo n c nn 0 (tw, ld)).2.1) what)]
                          refine r_istore G (lo' := [some (.ref o), some (.int (nI ks)), some (.int b), some (.int (nI i0)), some (.int (nI nn)), some (.int what), some (.int (nI (agn (soI (so ks)) (sl ks) b (nI i0) (nI (2 * nn))))), some (.int (nI ((60 * ks) + i0))), some (.int (oI (dgo n c nn 0 (tw, ld)).1)), some (.int (aTell n (dgo n c nn 0 (tw, ld)).2.1 kd (dgo n c nn 0 (tw, ld)).2.2 (dm n (dgo n c nn 0 (tw, ld)).2.1) what)), none]) dX1_day_218 rfl rfl ?_
                          have hX1 := hX207.2
                          have hX2 := hX215.2
                          have e18 : ∀ q, q < n → S215.2 18 q = nI (tw q) := fun q hq => by rw [hX2 18 (by decide) (by decide), hX1 18 (by decide) (by decide)]; exact hfk q (by omega)
                          have e19 : ∀ q, q < n → S215.2 19 q = nI (ld q) := fun q hq => by rw [hX2 19 (by decide) (by decide), hX1 19 (by decide) (by decide)]; exact hfl q (by omega)
                          have e5 : S215.1 5 = nI n := by rw [hX215.1 5 (by decide) (by decide) (by decide), hX207.1 5 (by decide) (by decide) (by decide)]; exact hV.1
                          have e0 : S215.1 0 = nI 0 := by rw [hX215.1 0 (by decide) (by decide) (by decide), hX207.1 0 (by decide) (by decide) (by decide)]; exact mSet_s S 0 (nI 0)
                          refine r_iconst G (v := nI 0) dX1_day_220 (by decide) ?_
                          refine r_istore G (lo' := [some (.ref o), some (.int (nI ks)), some (.int b), some (.int (nI i0)), some (.int (nI nn)), some (.int what), some (.int (nI (agn (soI (so ks)) (sl ks) b (nI i0) (nI (2 * nn))))), some (.int (nI ((60 * ks) + i0))), some (.int (oI (dgo n c nn 0 (tw, ld)).1)), some (.int (aTell n (dgo n c nn 0 (tw, ld)).2.1 kd (dgo n c nn 0 (tw, ld)).2.2 (dm n (dgo n c nn 0 (tw, ld)).2.1) what)), some (.int (nI 0))]) dX1_day_221 rfl rfl ?_
                          have L223 : ∀ (fu : Nat) (r : Nat) (ft fm : Nat → Int32), (r ≤ n) → (∀ q, q < r → ft q = nI (tw q)) → (∀ q, q < r → fm q = nI (ld q)) → n - r < fu → K (mH g o ad (mArr (mArr S215 7 ft) 9 fm)) 0 0 223 [some (.ref o), some (.int (nI ks)), some (.int b), some (.int (nI i0)), some (.int (nI nn)), some (.int what), some (.int (nI (agn (soI (so ks)) (sl ks) b (nI i0) (nI (2 * nn))))), some (.int (nI ((60 * ks) + i0))), some (.int (oI (dgo n c nn 0 (tw, ld)).1)), some (.int (aTell n (dgo n c nn 0 (tw, ld)).2.1 kd (dgo n c nn 0 (tw, ld)).2.2 (dm n (dgo n c nn 0 (tw, ld)).2.1) what)), some (.int (nI r))] [] := by
                            intro fu
                            induction fu with
                            | zero => intro r ft fm hr hft hfm hm223; exact absurd hm223 (Nat.not_lt_zero _)
                            | succ fu223 ih223 =>
                              intro r ft fm hr hft hfm hm223
                              refine r_iload G dX1_day_223 rfl ?_
                              refine r_aload_n G dX1_day_225 rfl ?_
                              refine m_gets G 5 (by decide) q1195 rfl (v := (nI n)) e5 dX1_day_226 ?_
                              refine r_icmp_ge G 266 (nI_leI (by have := hV.2.1; omega) (by omega)) dX1_day_229 (by decide) (fun h229 => ?_) (fun h229 => ?_)
                              · refine r_iload G dX1_day_266 rfl ?_
                                refine r_iconst G (v := nI 1) dX1_day_268 (by decide) ?_
                                refine r_icmp_ne G 277 Iff.rfl dX1_day_269 (by decide) (fun h269 => ?_) (fun h269 => ?_)
                                · refine r_iload G dX1_day_277 rfl ?_
                                  refine r_bipush G (v := -9) dX1_day_279 (by decide) ?_
                                  refine r_icmp_ne G 289 Iff.rfl dX1_day_281 (by decide) (fun h281 => ?_) (fun h281 => ?_)
                                  · refine r_bipush G (v := -100) dX1_day_289 (by decide) ?_
                                    refine r_iload G dX1_day_291 rfl ?_
                                    refine r_isub G (v := ((-100) - (oI (dgo n c nn 0 (tw, ld)).1))) dX1_day_293 rfl ?_
                                    exact r_iret G rfl ⟨Nat.zero_le _, Nat.zero_le _⟩ dX1_day_294 ⟨_, rfl, by rw [aDay, h9, dif3 h18 h29 (by first | exact Or.inr h51 | exact Or.inl h39), eks, enn, if_pos rfl, if_pos rfl, if_pos h72, if_neg h86, ei0, ← hc, if_pos hf0]; exact day_w (nn := nn) (c := c) (s := (tw, ld)) h269 h281, by rw [aDay, h9, dif3 h18 h29 (by first | exact Or.inr h51 | exact Or.inl h39), eks, enn, if_pos rfl, if_pos rfl, if_pos h72, if_neg h86, ei0, ← hc, if_pos hf0]; exact e0, ⟨e5, hn8, fun q hq => ⟨hft q (by omega), (hV.2.2 q hq).2.1, by show S215.2 8 q = _; rw [hX2 8 (by decide) (by decide), hX1 8 (by decide) (by decide)]; exact hV.kd hq, hV.k2 hq, by rw [mArr_s]; exact hfm q (by omega), hV.l9 hq⟩⟩, day_x hX207 hX215⟩
                                  · refine r_iload G dX1_day_284 rfl ?_
                                    refine r_goto G 294 dX1_day_286 (by decide) ?_
                                    exact r_iret G rfl ⟨Nat.zero_le _, Nat.zero_le _⟩ dX1_day_294 ⟨_, rfl, by rw [aDay, h9, dif3 h18 h29 (by first | exact Or.inr h51 | exact Or.inl h39), eks, enn, if_pos rfl, if_pos rfl, if_pos h72, if_neg h86, ei0, ← hc, if_pos hf0]; exact day_t (nn := nn) (c := c) (s := (tw, ld)) h269 h281, by rw [aDay, h9, dif3 h18 h29 (by first | exact Or.inr h51 | exact Or.inl h39), eks, enn, if_pos rfl, if_pos rfl, if_pos h72, if_neg h86, ei0, ← hc, if_pos hf0]; exact e0, ⟨e5, hn8, fun q hq => ⟨hft q (by omega), (hV.2.2 q hq).2.1, by show S215.2 8 q = _; rw [hX2 8 (by decide) (by decide), hX1 8 (by decide) (by decide)]; exact hV.kd hq, hV.k2 hq, by rw [mArr_s]; exact hfm q (by omega), hV.l9 hq⟩⟩, day_x hX207 hX215⟩
                                · refine r_iload G dX1_day_272 rfl ?_
                                  refine r_goto G 294 dX1_day_274 (by decide) ?_
                                  exact r_iret G rfl ⟨Nat.zero_le _, Nat.zero_le _⟩ dX1_day_294 ⟨_, rfl, by rw [aDay, h9, dif3 h18 h29 (by first | exact Or.inr h51 | exact Or.inl h39), eks, enn, if_pos rfl, if_pos rfl, if_pos h72, if_neg h86, ei0, ← hc, if_pos hf0]; rw [dayEnd, if_pos h269], by rw [aDay, h9, dif3 h18 h29 (by first | exact Or.inr h51 | exact Or.inl h39), eks, enn, if_pos rfl, if_pos rfl, if_pos h72, if_neg h86, ei0, ← hc, if_pos hf0]; exact e0, ⟨e5, hn8, fun q hq => ⟨hft q (by omega), (hV.2.2 q hq).2.1, by show S215.2 8 q = _; rw [hX2 8 (by decide) (by decide), hX1 8 (by decide) (by decide)]; exact hV.kd hq, hV.k2 hq, by rw [mArr_s]; exact hfm q (by omega), hV.l9 hq⟩⟩, day_x hX207 hX215⟩
                              · refine r_aload_n G dX1_day_232 rfl ?_
                                refine m_geta G 7 (by decide) q1197 rfl dX1_day_233 ?_
                                refine r_iload G dX1_day_236 rfl ?_
                                refine r_aload_n G dX1_day_238 rfl ?_
                                refine m_geta G 18 (by decide) q1208 rfl dX1_day_239 ?_
                                refine r_iload G dX1_day_242 rfl ?_
                                refine m_ald G hD 18 (by decide) (by simp only [mN]; omega) (v := (nI (tw r))) (e18 r (by omega)) dX1_day_244 ?_
                                refine m_ast G hD 7 (by decide) (by simp only [mN]; omega) dX1_day_245 ?_
                                rw [mPut_a _ _ _ (by decide)]
                                refine r_aload_n G dX1_day_246 rfl ?_
                                refine m_geta G 9 (by decide) q1199 rfl dX1_day_247 ?_
                                refine r_iload G dX1_day_250 rfl ?_
                                refine r_aload_n G dX1_day_252 rfl ?_
                                refine m_geta G 19 (by decide) q1209 rfl dX1_day_253 ?_
                                refine r_iload G dX1_day_256 rfl ?_
                                refine m_ald G hD 19 (by decide) (by simp only [mN]; omega) (v := (nI (ld r))) (e19 r (by omega)) dX1_day_258 ?_
                                refine m_ast G hD 9 (by decide) (by simp only [mN]; omega) dX1_day_259 ?_
                                rw [mPut_arr]
                                refine r_iinc G (v := (nI (r + 1))) (lo' := [some (.ref o), some (.int (nI ks)), some (.int b), some (.int (nI i0)), some (.int (nI nn)), some (.int what), some (.int (nI (agn (soI (so ks)) (sl ks) b (nI i0) (nI (2 * nn))))), some (.int (nI ((60 * ks) + i0))), some (.int (oI (dgo n c nn 0 (tw, ld)).1)), some (.int (aTell n (dgo n c nn 0 (tw, ld)).2.1 kd (dgo n c nn 0 (tw, ld)).2.2 (dm n (dgo n c nn 0 (tw, ld)).2.1) what)), some (.int (nI (r + 1)))]) dX1_day_260 rfl (nI_add r 1) rfl rfl ?_
                                refine r_goto G 223 dX1_day_263 (by decide) ?_
                                exact ih223 _ _ _ (by omega) (fun q hq => (Classical.em (q = r)).elim (fun e => by rw [e]; exact pk_us) (fun e => by rw [pk_un e]; exact hft q (by omega))) (fun q hq => (Classical.em (q = r)).elim (fun e => by rw [e]; exact pk_us) (fun e => by rw [pk_un e]; exact hfm q (by omega))) (by omega)
                          rw [show S215 = mArr (mArr S215 7 (S215.2 7)) 9 (S215.2 9) from (mArr_2 S215 7 9 (by decide)).symm]
                          exact L223 (n + 1) 0 (S215.2 7) (S215.2 9) (Nat.zero_le _) (fun q h => absurd h (Nat.not_lt_zero _)) (fun q h => absurd h (Nat.not_lt_zero _)) (by omega)
                        · refine r_aload_n G dX1_day_168 rfl ?_
                          refine m_geta G 18 (by decide) q1208 rfl dX1_day_169 ?_
                          refine r_iload G dX1_day_172 rfl ?_
                          refine r_aload_n G dX1_day_174 rfl ?_
                          refine m_geta G 7 (by decide) q1197 rfl dX1_day_175 ?_
                          refine r_iload G dX1_day_178 rfl ?_
                          refine m_ald G hD 7 (by decide) (by simp only [mN]; omega) (v := (nI (tw p))) (hV.tw (by omega)) dX1_day_180 ?_
                          refine m_ast G hD 18 (by decide) (by simp only [mN]; omega) dX1_day_181 ?_
                          rw [mPut_a _ _ _ (by decide)]
                          refine r_aload_n G dX1_day_182 rfl ?_
                          refine m_geta G 19 (by decide) q1209 rfl dX1_day_183 ?_
                          refine r_iload G dX1_day_186 rfl ?_
                          refine r_aload_n G dX1_day_188 rfl ?_
                          refine m_geta G 9 (by decide) q1199 rfl dX1_day_189 ?_
                          refine r_iload G dX1_day_192 rfl ?_
                          refine m_ald G hD 9 (by decide) (by simp only [mN]; omega) (v := (nI (ld p))) (hV.ld (by omega)) dX1_day_194 ?_
                          refine m_ast G hD 19 (by decide) (by simp only [mN]; omega) dX1_day_195 ?_
                          rw [mPut_arr]
                          refine r_iinc G (v := (nI (p + 1))) (lo' := [some (.ref o), some (.int (nI ks)), some (.int b), some (.int (nI i0)), some (.int (nI nn)), some (.int what), some (.int (nI (agn (soI (so ks)) (sl ks) b (nI i0) (nI (2 * nn))))), some (.int (nI ((60 * ks) + i0))), some (.int (nI (p + 1))), none, none]) dX1_day_196 rfl (nI_add p 1) rfl rfl ?_
                          refine r_goto G 159 dX1_day_199 (by decide) ?_
                          exact ih159 _ _ _ (by omega) (fun q hq => (Classical.em (q = p)).elim (fun e => by rw [e]; exact pk_us) (fun e => by rw [pk_un e]; exact hfk q (by omega))) (fun q hq => (Classical.em (q = p)).elim (fun e => by rw [e]; exact pk_us) (fun e => by rw [pk_un e]; exact hfl q (by omega))) (by omega)
                    rw [show (mSet S 0 (nI 0)) = mArr (mArr (mSet S 0 (nI 0)) 18 (S.2 18)) 19 (S.2 19) from (mArr_2 (mSet S 0 (nI 0)) 18 19 (by decide)).symm]
                    exact L159 (n + 1) 0 (S.2 18) (S.2 19) (Nat.zero_le _) (fun q h => absurd h (Nat.not_lt_zero _)) (fun q h => absurd h (Nat.not_lt_zero _)) (by omega)
                  · refine r_aload_n G dX1_day_110 rfl ?_
                    refine r_aload_n G dX1_day_111 rfl ?_
                    refine m_geta G 4 (by decide) q1194 rfl dX1_day_112 ?_
                    refine r_iload G dX1_day_115 rfl ?_
                    refine r_iconst G (v := nI 2) dX1_day_117 (by decide) ?_
                    refine r_iload G dX1_day_118 rfl ?_
                    refine r_imul G (v := (nI (2 * k))) dX1_day_120 (pk_mul 2 k) ?_
                    refine r_iadd G (v := (nI (((60 * ks) + i0) + (2 * k)))) dX1_day_121 (nI_add ((60 * ks) + i0) (2 * k)) ?_
                    refine m_ald G hD 4 (by decide) (by simp only [mN]; omega) (v := (c (2 * k))) (hcc (2 * k) (by omega)) dX1_day_122 ?_
                    refine r_aload_n G dX1_day_123 rfl ?_
                    refine m_geta G 4 (by decide) q1194 rfl dX1_day_124 ?_
                    refine r_iload G dX1_day_127 rfl ?_
                    refine r_iconst G (v := nI 2) dX1_day_129 (by decide) ?_
                    refine r_iload G dX1_day_130 rfl ?_
                    refine r_imul G (v := (nI (2 * k))) dX1_day_132 (pk_mul 2 k) ?_
                    refine r_iadd G (v := (nI (((60 * ks) + i0) + (2 * k)))) dX1_day_133 (nI_add ((60 * ks) + i0) (2 * k)) ?_
                    refine r_iconst G (v := nI 1) dX1_day_134 (by decide) ?_
                    refine r_iadd G (v := (nI ((((60 * ks) + i0) + (2 * k)) + 1))) dX1_day_135 (nI_add (((60 * ks) + i0) + (2 * k)) 1) ?_
                    refine m_ald G hD 4 (by decide) (by simp only [mN]; omega) (v := (c (2 * k + 1))) (hcc (2 * k + 1) (by omega)) dX1_day_136 ?_
                    refine m_callV G [.int (c (2 * k)), .int (c (2 * k + 1))] (mM_refusesPair hE hD (S := (mSet S 0 (nI 0))) hV hO.t (c (2 * k)) (c (2 * k + 1))) (lw_V q1370 q1372 qs53 q74 q1373) fy_yX1_refusesPair rfl rfl ⟨Nat.le_of_ble_eq_true rfl, Nat.le_of_ble_eq_true rfl⟩ rfl (Nat.le_of_ble_eq_true rfl) rfl rfl ⟨Nat.zero_le _, Nat.zero_le _⟩ dX1_day_137 (fun v137 S137 hp137 => ?_)
                    obtain ⟨rfl, rfl⟩ := hp137
                    show K (mH g o ad (mSet S 0 (nI 0))) 0 0 140 [some (.ref o), some (.int (nI ks)), some (.int b), some (.int (nI i0)), some (.int (nI nn)), some (.int what), some (.int (nI (agn (soI (so ks)) (sl ks) b (nI i0) (nI (2 * nn))))), some (.int (nI ((60 * ks) + i0))), some (.int (nI k)), none, none] [.int (pRef n (c (2 * k)) (c (2 * k + 1)))]
                    refine r_istore G (lo' := [some (.ref o), some (.int (nI ks)), some (.int b), some (.int (nI i0)), some (.int (nI nn)), some (.int what), some (.int (nI (agn (soI (so ks)) (sl ks) b (nI i0) (nI (2 * nn))))), some (.int (nI ((60 * ks) + i0))), some (.int (nI k)), some (.int (pRef n (c (2 * k)) (c (2 * k + 1)))), none]) dX1_day_140 rfl rfl ?_
                    refine r_iload G dX1_day_142 rfl ?_
                    refine r_if_eq G 150 Iff.rfl dX1_day_144 (by decide) (fun h144 => ?_) (fun h144 => ?_)
                    · refine r_iinc G (v := (nI (k + 1))) (lo' := [some (.ref o), some (.int (nI ks)), some (.int b), some (.int (nI i0)), some (.int (nI nn)), some (.int what), some (.int (nI (agn (soI (so ks)) (sl ks) b (nI i0) (nI (2 * nn))))), some (.int (nI ((60 * ks) + i0))), some (.int (nI (k + 1))), some (.int (pRef n (c (2 * k)) (c (2 * k + 1)))), none]) dX1_day_150 rfl (nI_add k 1) rfl rfl ?_
                      refine r_goto G 103 dX1_day_153 (by decide) ?_
                      refine r_drop G 9 (lo' := [some (.ref o), some (.int (nI ks)), some (.int b), some (.int (nI i0)), some (.int (nI nn)), some (.int what), some (.int (nI (agn (soI (so ks)) (sl ks) b (nI i0) (nI (2 * nn))))), some (.int (nI ((60 * ks) + i0))), some (.int (nI (k + 1))), none, none]) rfl ?_
                      exact ih103 _ (by omega) (fun j hj => (Classical.em (j = k)).elim (fun e => by rw [e]; exact h144) (fun e => hq j (by omega))) (by rw [hfr, show nn - k = (nn - (k + 1)) + 1 by omega, fRef_s h144]) (by omega)
                    · refine r_iload G dX1_day_147 rfl ?_
                      exact r_iret G rfl ⟨Nat.zero_le _, Nat.zero_le _⟩ dX1_day_149 ⟨_, rfl, by rw [aDay, h9, dif3 h18 h29 (by first | exact Or.inr h51 | exact Or.inl h39), eks, enn, if_pos rfl, if_pos rfl, if_pos h72, if_neg h86, ei0, ← hc, show fRef n c nn 0 = pRef n (c (2 * k)) (c (2 * k + 1)) from by rw [hfr, show nn - k = (nn - (k + 1)) + 1 by omega, fRef_f h144], if_neg h144], by rw [aDay, h9, dif3 h18 h29 (by first | exact Or.inr h51 | exact Or.inl h39), eks, enn, if_pos rfl, if_pos rfl, if_pos h72, if_neg h86, ei0, ← hc, show fRef n c nn 0 = pRef n (c (2 * k)) (c (2 * k + 1)) from by rw [hfr, show nn - k = (nn - (k + 1)) + 1 by omega, fRef_f h144], if_neg h144]; exact mSet_s _ _ _, hV, (mEqX.set S (nI 0) (by decide))⟩
              exact L103 (nn + 1) 0 (Nat.zero_le _) (fun j h => absurd h (Nat.not_lt_zero _)) (by rw [Nat.sub_zero]) (by omega)
            · refine r_bipush G (v := -3) dX1_day_89 (by decide) ?_
              exact r_iret G rfl ⟨Nat.zero_le _, Nat.zero_le _⟩ dX1_day_91 ⟨_, rfl, by rw [aDay, h9, dif3 h18 h29 (by first | exact Or.inr h51 | exact Or.inl h39), eks, enn, if_pos rfl, if_pos rfl, if_pos h72, if_pos h86], by rw [aDay, h9, dif3 h18 h29 (by first | exact Or.inr h51 | exact Or.inl h39), eks, enn, if_pos rfl, if_pos rfl, if_pos h72, if_pos h86]; exact mSet_s _ _ _, hV, (mEqX.set S (nI 0) (by decide))⟩
          · refine r_aload_n G dX1_day_75 rfl ?_
            refine r_iload G dX1_day_76 rfl ?_
            refine m_callV G [.int (nI (agn (soI (so ks)) (sl ks) b c0 (nI (2 * nn))))] (mM_fails hE hD (S := (mSet S 0 (nI 0))) (nI (agn (soI (so ks)) (sl ks) b c0 (nI (2 * nn))))) (lw_V q1289 q1291 qs40 q74 q1292) fy_yX1_fails rfl rfl ⟨Nat.le_of_ble_eq_true rfl, Nat.le_of_ble_eq_true rfl⟩ rfl (Nat.le_of_ble_eq_true rfl) rfl rfl ⟨Nat.zero_le _, Nat.zero_le _⟩ dX1_day_78 (fun v78 S78 hp78 => ?_)
            obtain ⟨rfl, rfl⟩ := hp78
            show K (mH g o ad (mSet (mSet S 0 (nI 0)) 0 (nI (agn (soI (so ks)) (sl ks) b c0 (nI (2 * nn)))))) 0 0 81 [some (.ref o), some (.int (nI ks)), some (.int b), some (.int c0), some (.int (nI nn)), some (.int what), some (.int (nI (agn (soI (so ks)) (sl ks) b c0 (nI (2 * nn))))), none, none, none, none] [.int (-10 - (nI (agn (soI (so ks)) (sl ks) b c0 (nI (2 * nn)))))]
            exact r_iret G rfl ⟨Nat.zero_le _, Nat.zero_le _⟩ dX1_day_81 ⟨_, rfl, by rw [aDay, h9, dif3 h18 h29 (by first | exact Or.inr h51 | exact Or.inl h39), eks, enn, if_pos rfl, if_pos rfl, if_neg h72], by rw [aDay, h9, dif3 h18 h29 (by first | exact Or.inr h51 | exact Or.inl h39), eks, enn, if_pos rfl, if_pos rfl, if_neg h72]; exact mSet_s _ _ _, hV, (mEqX.set S (nI 0) (by decide)).tr (mEqX.set _ _ (by decide))⟩
        · refine r_iload G dX1_day_42 rfl ?_
          refine r_bipush G (v := nI 10) dX1_day_44 (by decide) ?_
          refine r_bipush G (v := nI 17) dX1_day_46 (by decide) ?_
          refine s_callS G [.int what, .int (nI 10), .int (nI 17)] (sM_within hE what (nI 10) (nI 17)) (lw_S q1279 q1280 q74 q1281) fy_yX1_within rfl ⟨Nat.le_of_ble_eq_true rfl, Nat.le_of_ble_eq_true rfl⟩ rfl (Nat.le_of_ble_eq_true rfl) rfl rfl ⟨Nat.zero_le _, Nat.zero_le _⟩ dX1_day_48 ?_
          refine r_ifb_ne G 57  dX1_day_51 (by decide) (fun h51 => ?_) (fun h51 => ?_)
          · refine r_aload_n G dX1_day_57 rfl ?_
            refine r_iload_n G dX1_day_58 rfl ?_
            refine r_iload_n G dX1_day_59 rfl ?_
            refine r_iload_n G dX1_day_60 rfl ?_
            refine r_iconst G (v := nI 2) dX1_day_61 (by decide) ?_
            refine r_iload G dX1_day_62 rfl ?_
            refine r_imul G (v := (nI (2 * nn))) dX1_day_64 (pk_mul 2 nn) ?_
            refine m_callV G [.int (nI ks), .int b, .int c0, .int (nI (2 * nn))] (mM_against hE hD (S := (mSet S 0 (nI 0))) ks (by omega) (hs _ hk4).1 (hs _ hk4).2.2.1 (hs _ hk4).2.2.2.1 b c0 (nI (2 * nn))) (lw_V q1285 q1287 qs39 q74 q1288) fy_yX1_against rfl rfl ⟨Nat.le_of_ble_eq_true rfl, Nat.le_of_ble_eq_true rfl⟩ rfl (Nat.le_of_ble_eq_true rfl) rfl rfl ⟨Nat.zero_le _, Nat.zero_le _⟩ dX1_day_65 (fun v65 S65 hp65 => ?_)
            obtain ⟨rfl, rfl⟩ := hp65
            show K (mH g o ad (mSet S 0 (nI 0))) 0 0 68 [some (.ref o), some (.int (nI ks)), some (.int b), some (.int c0), some (.int (nI nn)), some (.int what), none, none, none, none, none] [.int (nI (agn (soI (so ks)) (sl ks) b c0 (nI (2 * nn))))]
            refine r_istore G (lo' := [some (.ref o), some (.int (nI ks)), some (.int b), some (.int c0), some (.int (nI nn)), some (.int what), some (.int (nI (agn (soI (so ks)) (sl ks) b c0 (nI (2 * nn))))), none, none, none, none]) dX1_day_68 rfl rfl ?_
            refine r_iload G dX1_day_70 rfl ?_
            refine r_if_eq G 82 (n_eq0 (Nat.lt_of_le_of_lt (agn_le _ _ _ _ _) (by decide))) dX1_day_72 (by decide) (fun h72 => ?_) (fun h72 => ?_)
            · obtain ⟨-, -, i0, m0, rfl, em, hi0, hm0⟩ := agn_0 (hs _ hk4).2.2.2.1 h72
              have em2 : m0 = 2 * nn := ((nI_eq (by omega) (by have := (hs _ hk4).2.2.2.1; omega)).mp em).symm
              have hl60 := (hs _ hk4).2.2.2.1
              have ei0 : ix (nI i0) = i0 := ix_nI (by omega)
              refine r_aload_n G dX1_day_82 rfl ?_
              refine m_gets G 5 (by decide) q1195 rfl (v := (nI n)) hV.1 dX1_day_83 ?_
              refine r_if_ne G 92 (n_eq0 (by have := hV.2.1; omega)) dX1_day_86 (by decide) (fun h86 => ?_) (fun h86 => ?_)
              · have hn0 : n ≠ 0 := h86
                obtain ⟨h2n, T⟩ := hO.t h86
                obtain ⟨c, hc⟩ : ∃ c : Nat → Int32, c = fun j => sc ks (i0 + j) := ⟨_, rfl⟩
                have hcc : ∀ j, j < 2 * nn → S.2 4 ((60 * ks + i0) + j) = c j := fun j hj => by rw [hc, Nat.add_assoc]; exact (hs _ hk4).2.2.2.2 (i0 + j) (by omega)
                refine r_bipush G (v := nI 60) dX1_day_92 (by decide) ?_
                refine r_iload_n G dX1_day_94 rfl ?_
                refine r_imul G (v := (nI (60 * ks))) dX1_day_95 (pk_mul 60 ks) ?_
                refine r_iload_n G dX1_day_96 rfl ?_
                refine r_iadd G (v := (nI ((60 * ks) + i0))) dX1_day_97 (nI_add (60 * ks) i0) ?_
                refine r_istore G (lo' := [some (.ref o), some (.int (nI ks)), some (.int b), some (.int (nI i0)), some (.int (nI nn)), some (.int what), some (.int (nI (agn (soI (so ks)) (sl ks) b (nI i0) (nI (2 * nn))))), some (.int (nI ((60 * ks) + i0))), none, none, none]) dX1_day_98 rfl rfl ?_
                refine r_iconst G (v := nI 0) dX1_day_100 (by decide) ?_
                refine r_istore G (lo' := [some (.ref o), some (.int (nI ks)), some (.int b), some (.int (nI i0)), some (.int (nI nn)), some (.int what), some (.int (nI (agn (soI (so ks)) (sl ks) b (nI i0) (nI (2 * nn))))), some (.int (nI ((60 * ks) + i0))), some (.int (nI 0)), none, none]) dX1_day_101 rfl rfl ?_
                have L103 : ∀ (fu : Nat) (k : Nat), (k ≤ nn) → (∀ j, j < k → pRef n (c (2 * j)) (c (2 * j + 1)) = 0) → (fRef n c nn 0 = fRef n c (nn - k) k) → nn - k < fu → K (mH g o ad (mSet S 0 (nI 0))) 0 0 103 [some (.ref o), some (.int (nI ks)), some (.int b), some (.int (nI i0)), some (.int (nI nn)), some (.int what), some (.int (nI (agn (soI (so ks)) (sl ks) b (nI i0) (nI (2 * nn))))), some (.int (nI ((60 * ks) + i0))), some (.int (nI k)), none, none] [] := by
                  intro fu
                  induction fu with
                  | zero => intro k hk hq hfr hm103; exact absurd hm103 (Nat.not_lt_zero _)
                  | succ fu103 ih103 =>
                    intro k hk hq hfr hm103
                    refine r_iload G dX1_day_103 rfl ?_
                    refine r_iload G dX1_day_105 rfl ?_
                    refine r_icmp_ge G 156 (nI_leI (by omega) (by omega)) dX1_day_107 (by decide) (fun h107 => ?_) (fun h107 => ?_)
                    · have hpre : ∀ j, j < nn → pRef n (c (2 * j)) (c (2 * j + 1)) = 0 := fun j hj => hq j (by omega)
                      have hf0 : fRef n c nn 0 = 0 := by rw [hfr, show nn - k = 0 by omega]; rfl
                      refine r_iconst G (v := nI 0) dX1_day_156 (by decide) ?_
                      refine r_istore G (lo' := [some (.ref o), some (.int (nI ks)), some (.int b), some (.int (nI i0)), some (.int (nI nn)), some (.int what), some (.int (nI (agn (soI (so ks)) (sl ks) b (nI i0) (nI (2 * nn))))), some (.int (nI ((60 * ks) + i0))), some (.int (nI 0)), none, none]) dX1_day_157 rfl rfl ?_
                      have L159 : ∀ (fu : Nat) (p : Nat) (fk fl : Nat → Int32), (p ≤ n) → (∀ q, q < p → fk q = nI (tw q)) → (∀ q, q < p → fl q = nI (ld q)) → n - p < fu → K (mH g o ad (mArr (mArr (mSet S 0 (nI 0)) 18 fk) 19 fl)) 0 0 159 [some (.ref o), some (.int (nI ks)), some (.int b), some (.int (nI i0)), some (.int (nI nn)), some (.int what), some (.int (nI (agn (soI (so ks)) (sl ks) b (nI i0) (nI (2 * nn))))), some (.int (nI ((60 * ks) + i0))), some (.int (nI p)), none, none] [] := by
                        intro fu
                        induction fu with
                        | zero => intro p fk fl hp hfk hfl hm159; exact absurd hm159 (Nat.not_lt_zero _)
                        | succ fu159 ih159 =>
                          intro p fk fl hp hfk hfl hm159
                          refine r_iload G dX1_day_159 rfl ?_
                          refine r_aload_n G dX1_day_161 rfl ?_
                          refine m_gets G 5 (by decide) q1195 rfl (v := (nI n)) hV.1 dX1_day_162 ?_
                          refine r_icmp_ge G 202 (nI_leI (by have := hV.2.1; omega) (by omega)) dX1_day_165 (by decide) (fun h165 => ?_) (fun h165 => ?_)
                          · have hVk : mV (mArr (mArr (mSet S 0 (nI 0)) 18 fk) 19 fl) n tw kd ld := hV
                            have hpn : p = n := by omega
                            refine r_aload_n G dX1_day_202 rfl ?_
                            refine r_iload G dX1_day_203 rfl ?_
                            refine r_iload G dX1_day_205 rfl ?_
                            refine m_callV G [.int (nI ((60 * ks) + i0)), .int (nI nn)] (mM_goDay hE hD (S := (mArr (mArr (mSet S 0 (nI 0)) 18 fk) 19 fl)) hVk ⟨_, T⟩ hn0 h2n ((60 * ks) + i0) nn (by omega) (c := c) hcc hpre) (lw_V q1374 q1376 qs54 q74 q1377) fy_yX1_goDay rfl rfl ⟨Nat.le_of_ble_eq_true rfl, Nat.le_of_ble_eq_true rfl⟩ rfl (Nat.le_of_ble_eq_true rfl) rfl rfl ⟨Nat.zero_le _, Nat.zero_le _⟩ dX1_day_207 (fun v207 S207 hp207 => ?_)
                            obtain ⟨rfl, hX207, hW207⟩ := hp207
                            show K (mH g o ad S207) 0 0 210 [some (.ref o), some (.int (nI ks)), some (.int b), some (.int (nI i0)), some (.int (nI nn)), some (.int what), some (.int (nI (agn (soI (so ks)) (sl ks) b (nI i0) (nI (2 * nn))))), some (.int (nI ((60 * ks) + i0))), some (.int (nI p)), none, none] [.int (oI (dgo n c nn 0 (tw, ld)).1)]
                            refine r_istore G (lo' := [some (.ref o), some (.int (nI ks)), some (.int b), some (.int (nI i0)), some (.int (nI nn)), some (.int what), some (.int (nI (agn (soI (so ks)) (sl ks) b (nI i0) (nI (2 * nn))))), some (.int (nI ((60 * ks) + i0))), some (.int (oI (dgo n c nn 0 (tw, ld)).1)), none, none]) dX1_day_210 rfl rfl ?_
                            refine r_aload_n G dX1_day_212 rfl ?_
                            refine r_iload G dX1_day_213 rfl ?_
                            refine m_callV G [.int what] (mM_tellDay hE hD (S := S207) hW207 (fun _ => ⟨h2n, dm_ok (dgo_tm hn8 nn 0 (tw, ld) ⟨_, T⟩)⟩) hn0 what) (lw_V q1382 q1384 qs56 q74 q1385) fy_yX1_tellDay rfl rfl ⟨Nat.le_of_ble_eq_true rfl, Nat.le_of_ble_eq_true rfl⟩ rfl (Nat.le_of_ble_eq_true rfl) rfl rfl ⟨Nat.zero_le _, Nat.zero_le _⟩ dX1_day_215 (fun v215 S215 hp215 => ?_)
                            obtain ⟨rfl, hX215⟩ := hp215
                            show K (mH g o ad S215) 0 0 218 [some (.ref o), some (.int (nI ks)), some (.int b), some (.int (nI i0)), some (.int (nI nn)), some (.int what), some (.int (nI (agn (soI (so ks)) (sl ks) b (nI i0) (nI (2 * nn))))), some (.int (nI ((60 * ks) + i0))), some (.int (oI (dgo n c nn 0 (tw, ld)).1)), none, none] [.int (aTell n (dgo n c nn 0 (tw, ld)).2.1 kd (dgo n c nn 0 (tw, ld)).2.2 (dm n (dgo n c nn 0 (tw, ld)).2.1) what)]
                            refine r_istore G (lo' := [some (.ref o), some (.int (nI ks)), some (.int b), some (.int (nI i0)), some (.int (nI nn)), some (.int what), some (.int (nI (agn (soI (so ks)) (sl ks) b (nI i0) (nI (2 * nn))))), some (.int (nI ((60 * ks) + i0))), some (.int (oI (dgo n c nn 0 (tw, ld)).1)), some (.int (aTell n (dgo n c nn 0 (tw, ld)).2.1 kd (dgo n c nn 0 (tw, ld)).2.2 (dm n (dgo n c nn 0 (tw, ld)).2.1) what)), none]) dX1_day_218 rfl rfl ?_
                            have hX1 := hX207.2
                            have hX2 := hX215.2
                            have e18 : ∀ q, q < n → S215.2 18 q = nI (tw q) := fun q hq => by rw [hX2 18 (by decide) (by decide), hX1 18 (by decide) (by decide)]; exact hfk q (by omega)
                            have e19 : ∀ q, q < n → S215.2 19 q = nI (ld q) := fun q hq => by rw [hX2 19 (by decide) (by decide), hX1 19 (by decide) (by decide)]; exact hfl q (by omega)
                            have e5 : S215.1 5 = nI n := by rw [hX215.1 5 (by decide) (by decide) (by decide), hX207.1 5 (by decide) (by decide) (by decide)]; exact hV.1
                            have e0 : S215.1 0 = nI 0 := by rw [hX215.1 0 (by decide) (by decide) (by decide), hX207.1 0 (by decide) (by decide) (by decide)]; exact mSet_s S 0 (nI 0)
                            refine r_iconst G (v := nI 0) dX1_day_220 (by decide) ?_
                            refine r_istore G (lo' := [some (.ref o), some (.int (nI ks)), some (.int b), some (.int (nI i0)), some (.int (nI nn)), some (.int what), some (.int (nI (agn (soI (so ks)) (sl ks) b (nI i0) (nI (2 * nn))))), some (.int (nI ((60 * ks) + i0))), some (.int (oI (dgo n c nn 0 (tw, ld)).1)), some (.int (aTell n (dgo n c nn 0 (tw, ld)).2.1 kd (dgo n c nn 0 (tw, ld)).2.2 (dm n (dgo n c nn 0 (tw, ld)).2.1) what)), some (.int (nI 0))]) dX1_day_221 rfl rfl ?_
                            have L223 : ∀ (fu : Nat) (r : Nat) (ft fm : Nat → Int32), (r ≤ n) → (∀ q, q < r → ft q = nI (tw q)) → (∀ q, q < r → fm q = nI (ld q)) → n - r < fu → K (mH g o ad (mArr (mArr S215 7 ft) 9 fm)) 0 0 223 [some (.ref o), some (.int (nI ks)), some (.int b), some (.int (nI i0)), some (.int (nI nn)), some (.int what), some (.int (nI (agn (soI (so ks)) (sl ks) b (nI i0) (nI (2 * nn))))), some (.int (nI ((60 * ks) + i0))), some (.int (oI (dgo n c nn 0 (tw, ld)).1)), some (.int (aTell n (dgo n c nn 0 (tw, ld)).2.1 kd (dgo n c nn 0 (tw, ld)).2.2 (dm n (dgo n c nn 0 (tw, ld)).2.1) what)), some (.int (nI r))] [] := by
                              intro fu
                              induction fu with
                              | zero => intro r ft fm hr hft hfm hm223; exact absurd hm223 (Nat.not_lt_zero _)
                              | succ fu223 ih223 =>
                                intro r ft fm hr hft hfm hm223
                                refine r_iload G dX1_day_223 rfl ?_
                                refine r_aload_n G dX1_day_225 rfl ?_
                                refine m_gets G 5 (by decide) q1195 rfl (v := (nI n)) e5 dX1_day_226 ?_
                                refine r_icmp_ge G 266 (nI_leI (by have := hV.2.1; omega) (by omega)) dX1_day_229 (by decide) (fun h229 => ?_) (fun h229 => ?_)
                                · refine r_iload G dX1_day_266 rfl ?_
                                  refine r_iconst G (v := nI 1) dX1_day_268 (by decide) ?_
                                  refine r_icmp_ne G 277 Iff.rfl dX1_day_269 (by decide) (fun h269 => ?_) (fun h269 => ?_)
                                  · refine r_iload G dX1_day_277 rfl ?_
                                    refine r_bipush G (v := -9) dX1_day_279 (by decide) ?_
                                    refine r_icmp_ne G 289 Iff.rfl dX1_day_281 (by decide) (fun h281 => ?_) (fun h281 => ?_)
                                    · refine r_bipush G (v := -100) dX1_day_289 (by decide) ?_
                                      refine r_iload G dX1_day_291 rfl ?_
                                      refine r_isub G (v := ((-100) - (oI (dgo n c nn 0 (tw, ld)).1))) dX1_day_293 rfl ?_
                                      exact r_iret G rfl ⟨Nat.zero_le _, Nat.zero_le _⟩ dX1_day_294 ⟨_, rfl, by rw [aDay, h9, dif3 h18 h29 (by first | exact Or.inr h51 | exact Or.inl h39), eks, enn, if_pos rfl, if_pos rfl, if_pos h72, if_neg h86, ei0, ← hc, if_pos hf0]; exact day_w (nn := nn) (c := c) (s := (tw, ld)) h269 h281, by rw [aDay, h9, dif3 h18 h29 (by first | exact Or.inr h51 | exact Or.inl h39), eks, enn, if_pos rfl, if_pos rfl, if_pos h72, if_neg h86, ei0, ← hc, if_pos hf0]; exact e0, ⟨e5, hn8, fun q hq => ⟨hft q (by omega), (hV.2.2 q hq).2.1, by show S215.2 8 q = _; rw [hX2 8 (by decide) (by decide), hX1 8 (by decide) (by decide)]; exact hV.kd hq, hV.k2 hq, by rw [mArr_s]; exact hfm q (by omega), hV.l9 hq⟩⟩, day_x hX207 hX215⟩
                                    · refine r_iload G dX1_day_284 rfl ?_
                                      refine r_goto G 294 dX1_day_286 (by decide) ?_
                                      exact r_iret G rfl ⟨Nat.zero_le _, Nat.zero_le _⟩ dX1_day_294 ⟨_, rfl, by rw [aDay, h9, dif3 h18 h29 (by first | exact Or.inr h51 | exact Or.inl h39), eks, enn, if_pos rfl, if_pos rfl, if_pos h72, if_neg h86, ei0, ← hc, if_pos hf0]; exact day_t (nn := nn) (c := c) (s := (tw, ld)) h269 h281, by rw [aDay, h9, dif3 h18 h29 (by first | exact Or.inr h51 | exact Or.inl h39), eks, enn, if_pos rfl, if_pos rfl, if_pos h72, if_neg h86, ei0, ← hc, if_pos hf0]; exact e0, ⟨e5, hn8, fun q hq => ⟨hft q (by omega), (hV.2.2 q hq).2.1, by show S215.2 8 q = _; rw [hX2 8 (by decide) (by decide), hX1 8 (by decide) (by decide)]; exact hV.kd hq, hV.k2 hq, by rw [mArr_s]; exact hfm q (by omega), hV.l9 hq⟩⟩, day_x hX207 hX215⟩
                                  · refine r_iload G dX1_day_272 rfl ?_
                                    refine r_goto G 294 dX1_day_274 (by decide) ?_
                                    exact r_iret G rfl ⟨Nat.zero_le _, Nat.zero_le _⟩ dX1_day_294 ⟨_, rfl, by rw [aDay, h9, dif3 h18 h29 (by first | exact Or.inr h51 | exact Or.inl h39), eks, enn, if_pos rfl, if_pos rfl, if_pos h72, if_neg h86, ei0, ← hc, if_pos hf0]; rw [dayEnd, if_pos h269], by rw [aDay, h9, dif3 h18 h29 (by first | exact Or.inr h51 | exact Or.inl h39), eks, enn, if_pos rfl, if_pos rfl, if_pos h72, if_neg h86, ei0, ← hc, if_pos hf0]; exact e0, ⟨e5, hn8, fun q hq => ⟨hft q (by omega), (hV.2.2 q hq).2.1, by show S215.2 8 q = _; rw [hX2 8 (by decide) (by decide), hX1 8 (by decide) (by decide)]; exact hV.kd hq, hV.k2 hq, by rw [mArr_s]; exact hfm q (by omega), hV.l9 hq⟩⟩, day_x hX207 hX215⟩
                                · refine r_aload_n G dX1_day_232 rfl ?_
                                  refine m_geta G 7 (by decide) q1197 rfl dX1_day_233 ?_
                                  refine r_iload G dX1_day_236 rfl ?_
                                  refine r_aload_n G dX1_day_238 rfl ?_
                                  refine m_geta G 18 (by decide) q1208 rfl dX1_day_239 ?_
                                  refine r_iload G dX1_day_242 rfl ?_
                                  refine m_ald G hD 18 (by decide) (by simp only [mN]; omega) (v := (nI (tw r))) (e18 r (by omega)) dX1_day_244 ?_
                                  refine m_ast G hD 7 (by decide) (by simp only [mN]; omega) dX1_day_245 ?_
                                  rw [mPut_a _ _ _ (by decide)]
                                  refine r_aload_n G dX1_day_246 rfl ?_
                                  refine m_geta G 9 (by decide) q1199 rfl dX1_day_247 ?_
                                  refine r_iload G dX1_day_250 rfl ?_
                                  refine r_aload_n G dX1_day_252 rfl ?_
                                  refine m_geta G 19 (by decide) q1209 rfl dX1_day_253 ?_
                                  refine r_iload G dX1_day_256 rfl ?_
                                  refine m_ald G hD 19 (by decide) (by simp only [mN]; omega) (v := (nI (ld r))) (e19 r (by omega)) dX1_day_258 ?_
                                  refine m_ast G hD 9 (by decide) (by simp only [mN]; omega) dX1_day_259 ?_
                                  rw [mPut_arr]
                                  refine r_iinc G (v := (nI (r + 1))) (lo' := [some (.ref o), some (.int (nI ks)), some (.int b), some (.int (nI i0)), some (.int (nI nn)), some (.int what), some (.int (nI (agn (soI (so ks)) (sl ks) b (nI i0) (nI (2 * nn))))), some (.int (nI ((60 * ks) + i0))), some (.int (oI (dgo n c nn 0 (tw, ld)).1)), some (.int (aTell n (dgo n c nn 0 (tw, ld)).2.1 kd (dgo n c nn 0 (tw, ld)).2.2 (dm n (dgo n c nn 0 (tw, ld)).2.1) what)), some (.int (nI (r + 1)))]) dX1_day_260 rfl (nI_add r 1) rfl rfl ?_
                                  refine r_goto G 223 dX1_day_263 (by decide) ?_
                                  exact ih223 _ _ _ (by omega) (fun q hq => (Classical.em (q = r)).elim (fun e => by rw [e]; exact pk_us) (fun e => by rw [pk_un e]; exact hft q (by omega))) (fun q hq => (Classical.em (q = r)).elim (fun e => by rw [e]; exact pk_us) (fun e => by rw [pk_un e]; exact hfm q (by omega))) (by omega)
                            rw [show S215 = mArr (mArr S215 7 (S215.2 7)) 9 (S215.2 9) from (mArr_2 S215 7 9 (by decide)).symm]
                            exact L223 (n + 1) 0 (S215.2 7) (S215.2 9) (Nat.zero_le _) (fun q h => absurd h (Nat.not_lt_zero _)) (fun q h => absurd h (Nat.not_lt_zero _)) (by omega)
                          · refine r_aload_n G dX1_day_168 rfl ?_
                            refine m_geta G 18 (by decide) q1208 rfl dX1_day_169 ?_
                            refine r_iload G dX1_day_172 rfl ?_
                            refine r_aload_n G dX1_day_174 rfl ?_
                            refine m_geta G 7 (by decide) q1197 rfl dX1_day_175 ?_
                            refine r_iload G dX1_day_178 rfl ?_
                            refine m_ald G hD 7 (by decide) (by simp only [mN]; omega) (v := (nI (tw p))) (hV.tw (by omega)) dX1_day_180 ?_
                            refine m_ast G hD 18 (by decide) (by simp only [mN]; omega) dX1_day_181 ?_
                            rw [mPut_a _ _ _ (by decide)]
                            refine r_aload_n G dX1_day_182 rfl ?_
                            refine m_geta G 19 (by decide) q1209 rfl dX1_day_183 ?_
                            refine r_iload G dX1_day_186 rfl ?_
                            refine r_aload_n G dX1_day_188 rfl ?_
                            refine m_geta G 9 (by decide) q1199 rfl dX1_day_189 ?_
                            refine r_iload G dX1_day_192 rfl ?_
                            refine m_ald G hD 9 (by decide) (by simp only [mN]; omega) (v := (nI (ld p))) (hV.ld (by omega)) dX1_day_194 ?_
                            refine m_ast G hD 19 (by decide) (by simp only [mN]; omega) dX1_day_195 ?_
                            rw [mPut_arr]
                            refine r_iinc G (v := (nI (p + 1))) (lo' := [some (.ref o), some (.int (nI ks)), some (.int b), some (.int (nI i0)), some (.int (nI nn)), some (.int what), some (.int (nI (agn (soI (so ks)) (sl ks) b (nI i0) (nI (2 * nn))))), some (.int (nI ((60 * ks) + i0))), some (.int (nI (p + 1))), none, none]) dX1_day_196 rfl (nI_add p 1) rfl rfl ?_
                            refine r_goto G 159 dX1_day_199 (by decide) ?_
                            exact ih159 _ _ _ (by omega) (fun q hq => (Classical.em (q = p)).elim (fun e => by rw [e]; exact pk_us) (fun e => by rw [pk_un e]; exact hfk q (by omega))) (fun q hq => (Classical.em (q = p)).elim (fun e => by rw [e]; exact pk_us) (fun e => by rw [pk_un e]; exact hfl q (by omega))) (by omega)
                      rw [show (mSet S 0 (nI 0)) = mArr (mArr (mSet S 0 (nI 0)) 18 (S.2 18)) 19 (S.2 19) from (mArr_2 (mSet S 0 (nI 0)) 18 19 (by decide)).symm]
                      exact L159 (n + 1) 0 (S.2 18) (S.2 19) (Nat.zero_le _) (fun q h => absurd h (Nat.not_lt_zero _)) (fun q h => absurd h (Nat.not_lt_zero _)) (by omega)
                    · refine r_aload_n G dX1_day_110 rfl ?_
                      refine r_aload_n G dX1_day_111 rfl ?_
                      refine m_geta G 4 (by decide) q1194 rfl dX1_day_112 ?_
                      refine r_iload G dX1_day_115 rfl ?_
                      refine r_iconst G (v := nI 2) dX1_day_117 (by decide) ?_
                      refine r_iload G dX1_day_118 rfl ?_
                      refine r_imul G (v := (nI (2 * k))) dX1_day_120 (pk_mul 2 k) ?_
                      refine r_iadd G (v := (nI (((60 * ks) + i0) + (2 * k)))) dX1_day_121 (nI_add ((60 * ks) + i0) (2 * k)) ?_
                      refine m_ald G hD 4 (by decide) (by simp only [mN]; omega) (v := (c (2 * k))) (hcc (2 * k) (by omega)) dX1_day_122 ?_
                      refine r_aload_n G dX1_day_123 rfl ?_
                      refine m_geta G 4 (by decide) q1194 rfl dX1_day_124 ?_
                      refine r_iload G dX1_day_127 rfl ?_
                      refine r_iconst G (v := nI 2) dX1_day_129 (by decide) ?_
                      refine r_iload G dX1_day_130 rfl ?_
                      refine r_imul G (v := (nI (2 * k))) dX1_day_132 (pk_mul 2 k) ?_
                      refine r_iadd G (v := (nI (((60 * ks) + i0) + (2 * k)))) dX1_day_133 (nI_add ((60 * ks) + i0) (2 * k)) ?_
                      refine r_iconst G (v := nI 1) dX1_day_134 (by decide) ?_
                      refine r_iadd G (v := (nI ((((60 * ks) + i0) + (2 * k)) + 1))) dX1_day_135 (nI_add (((60 * ks) + i0) + (2 * k)) 1) ?_
                      refine m_ald G hD 4 (by decide) (by simp only [mN]; omega) (v := (c (2 * k + 1))) (hcc (2 * k + 1) (by omega)) dX1_day_136 ?_
                      refine m_callV G [.int (c (2 * k)), .int (c (2 * k + 1))] (mM_refusesPair hE hD (S := (mSet S 0 (nI 0))) hV hO.t (c (2 * k)) (c (2 * k + 1))) (lw_V q1370 q1372 qs53 q74 q1373) fy_yX1_refusesPair rfl rfl ⟨Nat.le_of_ble_eq_true rfl, Nat.le_of_ble_eq_true rfl⟩ rfl (Nat.le_of_ble_eq_true rfl) rfl rfl ⟨Nat.zero_le _, Nat.zero_le _⟩ dX1_day_137 (fun v137 S137 hp137 => ?_)
                      obtain ⟨rfl, rfl⟩ := hp137
                      show K (mH g o ad (mSet S 0 (nI 0))) 0 0 140 [some (.ref o), some (.int (nI ks)), some (.int b), some (.int (nI i0)), some (.int (nI nn)), some (.int what), some (.int (nI (agn (soI (so ks)) (sl ks) b (nI i0) (nI (2 * nn))))), some (.int (nI ((60 * ks) + i0))), some (.int (nI k)), none, none] [.int (pRef n (c (2 * k)) (c (2 * k + 1)))]
                      refine r_istore G (lo' := [some (.ref o), some (.int (nI ks)), some (.int b), some (.int (nI i0)), some (.int (nI nn)), some (.int what), some (.int (nI (agn (soI (so ks)) (sl ks) b (nI i0) (nI (2 * nn))))), some (.int (nI ((60 * ks) + i0))), some (.int (nI k)), some (.int (pRef n (c (2 * k)) (c (2 * k + 1)))), none]) dX1_day_140 rfl rfl ?_
                      refine r_iload G dX1_day_142 rfl ?_
                      refine r_if_eq G 150 Iff.rfl dX1_day_144 (by decide) (fun h144 => ?_) (fun h144 => ?_)
                      · refine r_iinc G (v := (nI (k + 1))) (lo' := [some (.ref o), some (.int (nI ks)), some (.int b), some (.int (nI i0)), some (.int (nI nn)), some (.int what), some (.int (nI (agn (soI (so ks)) (sl ks) b (nI i0) (nI (2 * nn))))), some (.int (nI ((60 * ks) + i0))), some (.int (nI (k + 1))), some (.int (pRef n (c (2 * k)) (c (2 * k + 1)))), none]) dX1_day_150 rfl (nI_add k 1) rfl rfl ?_
                        refine r_goto G 103 dX1_day_153 (by decide) ?_
                        refine r_drop G 9 (lo' := [some (.ref o), some (.int (nI ks)), some (.int b), some (.int (nI i0)), some (.int (nI nn)), some (.int what), some (.int (nI (agn (soI (so ks)) (sl ks) b (nI i0) (nI (2 * nn))))), some (.int (nI ((60 * ks) + i0))), some (.int (nI (k + 1))), none, none]) rfl ?_
                        exact ih103 _ (by omega) (fun j hj => (Classical.em (j = k)).elim (fun e => by rw [e]; exact h144) (fun e => hq j (by omega))) (by rw [hfr, show nn - k = (nn - (k + 1)) + 1 by omega, fRef_s h144]) (by omega)
                      · refine r_iload G dX1_day_147 rfl ?_
                        exact r_iret G rfl ⟨Nat.zero_le _, Nat.zero_le _⟩ dX1_day_149 ⟨_, rfl, by rw [aDay, h9, dif3 h18 h29 (by first | exact Or.inr h51 | exact Or.inl h39), eks, enn, if_pos rfl, if_pos rfl, if_pos h72, if_neg h86, ei0, ← hc, show fRef n c nn 0 = pRef n (c (2 * k)) (c (2 * k + 1)) from by rw [hfr, show nn - k = (nn - (k + 1)) + 1 by omega, fRef_f h144], if_neg h144], by rw [aDay, h9, dif3 h18 h29 (by first | exact Or.inr h51 | exact Or.inl h39), eks, enn, if_pos rfl, if_pos rfl, if_pos h72, if_neg h86, ei0, ← hc, show fRef n c nn 0 = pRef n (c (2 * k)) (c (2 * k + 1)) from by rw [hfr, show nn - k = (nn - (k + 1)) + 1 by omega, fRef_f h144], if_neg h144]; exact mSet_s _ _ _, hV, (mEqX.set S (nI 0) (by decide))⟩
                exact L103 (nn + 1) 0 (Nat.zero_le _) (fun j h => absurd h (Nat.not_lt_zero _)) (by rw [Nat.sub_zero]) (by omega)
              · refine r_bipush G (v := -3) dX1_day_89 (by decide) ?_
                exact r_iret G rfl ⟨Nat.zero_le _, Nat.zero_le _⟩ dX1_day_91 ⟨_, rfl, by rw [aDay, h9, dif3 h18 h29 (by first | exact Or.inr h51 | exact Or.inl h39), eks, enn, if_pos rfl, if_pos rfl, if_pos h72, if_pos h86], by rw [aDay, h9, dif3 h18 h29 (by first | exact Or.inr h51 | exact Or.inl h39), eks, enn, if_pos rfl, if_pos rfl, if_pos h72, if_pos h86]; exact mSet_s _ _ _, hV, (mEqX.set S (nI 0) (by decide))⟩
            · refine r_aload_n G dX1_day_75 rfl ?_
              refine r_iload G dX1_day_76 rfl ?_
              refine m_callV G [.int (nI (agn (soI (so ks)) (sl ks) b c0 (nI (2 * nn))))] (mM_fails hE hD (S := (mSet S 0 (nI 0))) (nI (agn (soI (so ks)) (sl ks) b c0 (nI (2 * nn))))) (lw_V q1289 q1291 qs40 q74 q1292) fy_yX1_fails rfl rfl ⟨Nat.le_of_ble_eq_true rfl, Nat.le_of_ble_eq_true rfl⟩ rfl (Nat.le_of_ble_eq_true rfl) rfl rfl ⟨Nat.zero_le _, Nat.zero_le _⟩ dX1_day_78 (fun v78 S78 hp78 => ?_)
              obtain ⟨rfl, rfl⟩ := hp78
              show K (mH g o ad (mSet (mSet S 0 (nI 0)) 0 (nI (agn (soI (so ks)) (sl ks) b c0 (nI (2 * nn)))))) 0 0 81 [some (.ref o), some (.int (nI ks)), some (.int b), some (.int c0), some (.int (nI nn)), some (.int what), some (.int (nI (agn (soI (so ks)) (sl ks) b c0 (nI (2 * nn))))), none, none, none, none] [.int (-10 - (nI (agn (soI (so ks)) (sl ks) b c0 (nI (2 * nn)))))]
              exact r_iret G rfl ⟨Nat.zero_le _, Nat.zero_le _⟩ dX1_day_81 ⟨_, rfl, by rw [aDay, h9, dif3 h18 h29 (by first | exact Or.inr h51 | exact Or.inl h39), eks, enn, if_pos rfl, if_pos rfl, if_neg h72], by rw [aDay, h9, dif3 h18 h29 (by first | exact Or.inr h51 | exact Or.inl h39), eks, enn, if_pos rfl, if_pos rfl, if_neg h72]; exact mSet_s _ _ _, hV, (mEqX.set S (nI 0) (by decide)).tr (mEqX.set _ _ (by decide))⟩
          · refine r_bipush G (v := -2) dX1_day_54 (by decide) ?_
            exact r_iret G rfl ⟨Nat.zero_le _, Nat.zero_le _⟩ dX1_day_56 ⟨_, rfl, by rw [aDay, h9, dif2 (by first | exact Or.inl h18 | exact Or.inr (Or.inl h29) | exact Or.inr (Or.inr ⟨h39, h51⟩))]; rfl, by rw [aDay, h9, dif2 (by first | exact Or.inl h18 | exact Or.inr (Or.inl h29) | exact Or.inr (Or.inr ⟨h39, h51⟩))]; exact mSet_s _ _ _, hV, (mEqX.set S (nI 0) (by decide))⟩
  · refine r_iconst G (v := -1) dX1_day_12 (by decide) ?_
    exact r_iret G rfl ⟨Nat.zero_le _, Nat.zero_le _⟩ dX1_day_13 ⟨_, rfl, by rw [aDay, h9]; rfl, by rw [aDay, h9]; exact mSet_s _ _ _, hV, (mEqX.set S (nI 0) (by decide))⟩
end MM10
