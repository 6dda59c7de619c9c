/-! the component: a text read, a vine grown -/
set_option maxRecDepth 100000
section XX24
theorem s_callSR {l : Launch} {g : fG} {A : Nat → Prop} {En : State → Prop} {own nm : String} {cc : ByteArray} {nL : Nat} {ret : Option FieldType} {rm : Room} {Post : Option Value → fH → Prop} {K : fKt} {f : fH} {cs ss pc : Nat} {lo : fL} (G : fGood l g A En own nm cc nL ret rm Post K) {y : MethodName} {cc' : ByteArray} {nL' : Nat} {ret' : Option FieldType} {rm' : Room} {r : Value} {n index : Nat} {st0 rest : List Value} (As : List Value) (M : fC l g A En y cc' nL' ret' rm' As f (fun v f' => f' = f ∧ v = some r)) (w : GoodIn lw_all (va_wsS own index y (ws_ y cc' nL' ret'))) (hy : fyN y n) (hn : As.length = n) (hR : rm'.frames + 1 ≤ rm.frames ∧ 8 + (nL' + 11) + rm'.locals ≤ rm.locals) (hs : st0 = As.reverse ++ rest) (hst : (rest.map fun v => v.category).sum ≤ 8) {cs' ss' : Nat} (hcs : cs + rm'.cells = cs') (hss : ss + rm'.slots = ss') (hc : cs' ≤ rm.cells ∧ ss' ≤ rm.slots) (d : decode cc pc = .ok (.invokestatic index, 3)) (kk : K f cs' ss' (pc + 3) lo (r :: rest)) : K f cs ss pc lo st0 := by
  refine r_callS G As M w hy hn hR hs hst hcs hss hc d ?_
  rintro v f' ⟨rfl, rfl⟩
  exact kk
def caV (c : Nat → Int32) (m a : Nat) : Int32 := if a < m then c a else -9
theorem wi_of {j a b : Nat} (hj : j < 2 ^ 31) (ha : a < 2 ^ 31) (hb : b < 2 ^ 31) (h1 : a ≤ j) (h2 : j ≤ b) : wi (nI j) (nI a) (nI b) = true := by
  unfold wi
  rw [decide_eq_true ((nI_leI ha hj).mpr h1), decide_eq_true ((nI_leI hj hb).mpr h2)]
  rfl
theorem sub_eqI {x : Int32} {j k : Nat} (h : x - nI k = nI j) : x = nI (j + k) := by
  rw [← nI_add, ← h, Int32.sub_add_cancel]
theorem wi_48 {x : Int32} {lo hi : Nat} (hl : lo < 1000) (hh : hi < 1000) : wi (x - nI 48) (nI lo) (nI hi) = wi x (nI (48 + lo)) (nI (48 + hi)) := by
  rw [Bool.eq_iff_iff]
  constructor
  · intro h
    obtain ⟨j, h1, h2, h3⟩ := wi_t (by omega) (by omega) h
    rw [sub_eqI h3]
    exact wi_of (by omega) (by omega) (by omega) (by omega) (by omega)
  · intro h
    obtain ⟨j, h1, h2, rfl⟩ := wi_t (by omega) (by omega) h
    rw [show nI j - nI 48 = nI (j - 48) from pk_sub (by omega)]
    exact wi_of (by omega) (by omega) (by omega) (by omega) (by omega)
theorem m9_ne {w : Nat} (h : w < 2000) : (-9 : Int32) ≠ nI w := by
  intro e
  have h1 := congrArg Int32.toInt e
  rw [nI_toInt (by omega)] at h1
  have h2 : (-9 : Int32).toInt = -9 := by decide
  omega
theorem fig_ok {c : Nat → Int32} {m a lo hi : Nat} (hl : lo < 1000) (hh : hi < 1000) : wi (caV c m a - nI 48) (nI lo) (nI hi) = okD c m a lo hi := by
  rw [wi_48 hl hh]
  unfold caV okD
  by_cases h : a < m
  · rw [if_pos h, decide_eq_true h, Bool.true_and]
  · rw [if_neg h, decide_eq_false h, Bool.false_and]
    cases hw : wi (-9) (nI (48 + lo)) (nI (48 + hi)) with
    | false => rfl
    | true =>
      obtain ⟨j, h1, h2, h3⟩ := wi_t (by omega) (by omega) hw
      exact absurd h3 (m9_ne (by omega))
theorem ca_t {c : Nat → Int32} {m a w : Nat} (h : caV c m a = nI w) (hw : w < 1000) : a < m ∧ c a = nI w := by
  unfold caV at h
  by_cases z : a < m
  · rw [if_pos z] at h; exact ⟨z, h⟩
  · rw [if_neg z] at h; exact absurd h (m9_ne (by omega))
theorem ca_o {c : Nat → Int32} {m a : Nat} (h : a < m) : caV c m a = c a := if_pos h
theorem kk_t {c : Nat → Int32} {m a w k : Nat} (h : caV c m a = nI w) (hw : (w = 112 ∧ k = 0) ∨ (w = 98 ∧ k = 1) ∨ (w = 100 ∧ k = 2)) : okK c m a = true ∧ k = kdv (c a) := by
  obtain ⟨h1, h2⟩ := ca_t h (by omega)
  unfold okK kdv
  rw [h2, decide_eq_true h1]
  rcases hw with ⟨rfl, rfl⟩ | ⟨rfl, rfl⟩ | ⟨rfl, rfl⟩ <;> exact ⟨by decide, by decide⟩
theorem kk_f {c : Nat → Int32} {m a : Nat} (h1 : ¬ caV c m a = nI 112) (h2 : ¬ caV c m a = nI 98) (h3 : ¬ caV c m a = nI 100) : okK c m a = false := by
  unfold okK
  by_cases z : a < m
  · rw [ca_o z] at h1 h2 h3
    rw [decide_eq_false h1, decide_eq_false h2, decide_eq_false h3, Bool.or_false, Bool.or_false, Bool.and_false]
  · rw [decide_eq_false z, Bool.false_and]
theorem m102 : ∀ k, k < 40 → (-102 - nI k : Int32) = -100 - nI (2 + k) := by decide +kernel
theorem m101 : ∀ k, k < 40 → (-101 - nI k : Int32) = -100 - nI (k + 1) := by decide +kernel
theorem nvF {c : Nat → Int32} {m x : Nat} {v : Option Value} {f : fH} {P : Prop} (h : pF c m = some x) (hv : v = some (.int (-100 - nI x))) : (∀ y, pF c m = some y → v = some (.int (-100 - nI y)) ∧ f = f) ∧ (pF c m = none → P) :=
  ⟨fun y hy => by rw [h] at hy; cases hy; exact ⟨hv, rfl⟩, fun hn => by rw [h] at hn; cases hn⟩
theorem nvS {c : Nat → Int32} {m : Nat} {v : Option Value} {f f' : fH} {P : Prop} (h : pF c m = none) (hp : P) : (∀ y, pF c m = some y → v = some (.int (-100 - nI y)) ∧ f' = f) ∧ (pF c m = none → P) :=
  ⟨fun y hy => (by rw [h] at hy; cases hy), fun _ => hp⟩
theorem nv_st {c fn : Nat → Int32} {m n i : Nat} (h : ∀ j, j < i → okD c m (2 + j) 0 (n - 1) = true ∧ fn j = nI (pRw c j)) (h1 : okD c m (2 + i) 0 (n - 1) = true) : ∀ j, j < i + 1 → okD c m (2 + j) 0 (n - 1) = true ∧ upd fn i (nI (pRw c i)) j = nI (pRw c j) := by
  intro j hj
  by_cases e : j = i
  · subst e; exact ⟨h1, pk_us⟩
  · rw [pk_un e]; exact h j (by omega)
set_option maxHeartbeats 4000000 in
theorem xM_X0_codeAt {l : Launch} {g : fG} {A : Nat → Prop} {En : State → Prop} {zd : Nat} (hX : fX zd g A En) {f : fH} {t m : Nat} {c : Nat → Int32} (hT : f t = some (.inl (g.2 0, m, .inl c))) (hm : m < 1000) (a : Nat) (ha : a < 1000): fC l g A En yX0_codeAt cX0_codeAt 2 (some .int) (fR 0) [.ref t, .int (nI a)] f (fun v f' => f' = f ∧ v = some (.int (caV c m a))) := by
  have hE := hX.E
  refine fC.of (by decide) hX.E [some (.ref t), some (.int (nI a))] rfl rfl (fun K G => ?_)
  have G : fGood l g A En RX0 "codeAt" cX0_codeAt 2 (some .int) (fR 0) _ K := G
  refine r_iload_n G dX0_codeAt_0 rfl ?_
  refine r_aload_n G dX0_codeAt_1 rfl ?_
  refine r_alen G (x := (m, .inl c)) 0 rfl hT (v := (nI m)) rfl dX0_codeAt_2 ?_
  refine r_icmp_ge G 12 (nI_leI (by omega) (by omega)) dX0_codeAt_3 (by decide) (fun h3 => ?_) (fun h3 => ?_)
  · refine r_bipush G (v := -9) dX0_codeAt_12 (by decide) ?_
    exact r_iret G rfl ⟨Nat.zero_le _, Nat.zero_le _⟩ dX0_codeAt_14 ⟨rfl, by rw [caV, if_neg (by omega)]⟩
  · refine r_aload_n G dX0_codeAt_6 rfl ?_
    refine r_iload_n G dX0_codeAt_7 rfl ?_
    refine r_iald G (n := m) (fn := c) hT (vp_in_nI (by omega) (by omega)) (v := (c a)) (by rw [nI_clamp (by omega)]) dX0_codeAt_8 ?_
    refine r_goto G 14 dX0_codeAt_9 (by decide) ?_
    exact r_iret G rfl ⟨Nat.zero_le _, Nat.zero_le _⟩ dX0_codeAt_14 ⟨rfl, by rw [caV, if_pos (by omega)]⟩
set_option maxHeartbeats 4000000 in
theorem xM_X0_isFigure {l : Launch} {g : fG} {A : Nat → Prop} {En : State → Prop} {zd : Nat} (hX : fX zd g A En) {f : fH} {t m : Nat} {c : Nat → Int32} (hT : f t = some (.inl (g.2 0, m, .inl c))) (hm : m < 1000) (a lo hi : Nat) (ha : a < 1000) (hl : lo < 1000) (hh : hi < 1000): fC l g A En yX0_isFigure cX0_isFigure 4 (some .boolean) (fR 1) [.ref t, .int (nI a), .int (nI lo), .int (nI hi)] f (fun v f' => f' = f ∧ v = some (.int (bI (okD c m a lo hi)))) := by
  have hE := hX.E
  refine fC.of (by decide) hX.E [some (.ref t), some (.int (nI a)), some (.int (nI lo)), some (.int (nI hi))] rfl rfl (fun K G => ?_)
  have G : fGood l g A En RX0 "isFigure" cX0_isFigure 4 (some .boolean) (fR 1) _ K := G
  refine r_aload_n G dX0_isFigure_0 rfl ?_
  refine r_iload_n G dX0_isFigure_1 rfl ?_
  refine s_callSR G [.ref t, .int (nI a)] (xM_X0_codeAt hX hT hm a (by omega)) (lw_S q916 q917 q70 q918) fy_yX0_codeAt rfl ⟨Nat.le_of_ble_eq_true rfl, Nat.le_of_ble_eq_true rfl⟩ rfl (Nat.le_of_ble_eq_true rfl) rfl rfl ⟨Nat.zero_le _, Nat.zero_le _⟩ dX0_isFigure_2 ?_
  show K f 0 0 5 [some (.ref t), some (.int (nI a)), some (.int (nI lo)), some (.int (nI hi))] [.int ((caV c m a))]
  refine r_bipush G (v := nI 48) dX0_isFigure_5 (by decide) ?_
  refine r_isub G (v := ((caV c m a - nI 48))) dX0_isFigure_7 rfl ?_
  refine r_i2l G dX0_isFigure_8 rfl ?_
  refine r_iload_n G dX0_isFigure_9 rfl ?_
  refine r_i2l G (v := lN lo) dX0_isFigure_10 (nI_l (by omega)) ?_
  refine r_iload_n G dX0_isFigure_11 rfl ?_
  refine r_i2l G (v := lN hi) dX0_isFigure_12 (nI_l (by omega)) ?_
  refine s_callS G [.long (((caV c m a - nI 48)).toInt64), .long (lN lo), .long (lN hi)] (sX_X0_inI hE ((caV c m a - nI 48)) lo hi (by omega) (by omega)) (lw_S q182 q183 q70 q184) fy_yX0_in rfl ⟨Nat.le_of_ble_eq_true rfl, Nat.le_of_ble_eq_true rfl⟩ rfl (Nat.le_of_ble_eq_true rfl) rfl rfl ⟨Nat.zero_le _, Nat.zero_le _⟩ dX0_isFigure_13 ?_
  show K f 0 0 16 [some (.ref t), some (.int (nI a)), some (.int (nI lo)), some (.int (nI hi))] [.int (bI (wi ((caV c m a - nI 48)) (nI lo) (nI hi)))]
  exact r_zret G rfl bI_nar ⟨Nat.zero_le _, Nat.zero_le _⟩ dX0_isFigure_16 ⟨rfl, by rw [fig_ok hl hh]⟩
set_option maxHeartbeats 4000000 in
theorem xM_X0_figureAt {l : Launch} {g : fG} {A : Nat → Prop} {En : State → Prop} {zd : Nat} (hX : fX zd g A En) {f : fH} {t m : Nat} {c : Nat → Int32} (hT : f t = some (.inl (g.2 0, m, .inl c))) (hm : m < 1000) (a : Nat) (ha : a < m) (v : Nat) (hv : c a = nI (48 + v)): fC l g A En yX0_figureAt cX0_figureAt 2 (some .int) (fR 0) [.ref t, .int (nI a)] f (fun v' f' => f' = f ∧ v' = some (.int (nI v))) := by
  have hE := hX.E
  refine fC.of (by decide) hX.E [some (.ref t), some (.int (nI a))] rfl rfl (fun K G => ?_)
  have G : fGood l g A En RX0 "figureAt" cX0_figureAt 2 (some .int) (fR 0) _ K := G
  refine r_aload_n G dX0_figureAt_0 rfl ?_
  refine r_iload_n G dX0_figureAt_1 rfl ?_
  refine r_iald G (n := m) (fn := c) hT (vp_in_nI (by omega) (by omega)) (v := (nI (48 + v))) (by rw [nI_clamp (by omega)]; exact hv) dX0_figureAt_2 ?_
  refine r_bipush G (v := nI 48) dX0_figureAt_3 (by decide) ?_
  refine r_isub G (v := (nI v)) dX0_figureAt_5 (by rw [pk_sub (by omega)]; congr 1; omega) ?_
  exact r_iret G rfl ⟨Nat.zero_le _, Nat.zero_le _⟩ dX0_figureAt_6 ⟨rfl, rfl⟩
theorem lst_n {x n : Nat} (h : x < 256) (h0 : x ≠ 0) (hn : x < 2 ^ n) : lst x < n := by
  rcases Nat.lt_or_ge (lst x) n with q | q
  · exact q
  · have h1 := lst_bit x h (by omega)
    rw [Nat.testBit_lt_two_pow (Nat.lt_of_lt_of_le hn (Nat.pow_le_pow_right (by decide) q))] at h1
    cases h1
theorem gwI.r {n : Nat} {rw : Nat → Nat} {k L : Nat} {fa : Nat → Int32} {tn : Nat → Nat} (h : gwI n rw k L fa tn) : gwI n rw k L (fun p => nI (tn p)) tn := ⟨fun p hp => ⟨rfl, (h.1 p hp).2⟩, h.2⟩
theorem gw_fin {n : Nat} {rw tn : Nat → Nat} {a b : Nat} (h2 : 2 ≤ n) (h8 : n ≤ 8) (hr : ∀ q, q < n - 2 → rw q < n) (hab : a ≠ b) (ha : a < 8) (hb : b < 8) (ht : ∀ p, p < 8 → tn p < 256) (h : ∀ p, p < 8 → upd (upd (fun p => nI (tn p)) a (nI (tn a ||| 1 <<< b))) b (nI (tn b ||| 1 <<< a)) p = nI (vin n rw p)) {p : Nat} (hp : p < n) : vin n rw p = jn tn a b p := by
  obtain ⟨d, T⟩ := vin_tm h2 h8 hr
  have h3 := h p (by omega)
  rw [jn_fa hab ha hb (fun _ _ => rfl) (by omega)] at h3
  have h4 := T.1 p hp
  have h5 := pow_n8 h8
  have h6 := jn_lt ha hb ht (show p < 8 by omega)
  exact ((nI_eq (by omega) (by omega)).mp h3).symm
set_option maxHeartbeats 4000000 in
theorem xM_X0_grows {l : Launch} {g : fG} {A : Nat → Prop} {En : State → Prop} {zd : Nat} (hX : fX zd g A En) {f : fH} {o : Nat} {tr gr fa : Int32} {rn lr sh : Nat} {L : xLs} {pa kd ld : Nat → Nat} {lk tk : Nat → Int32} (hO : f o = some (.inr (1, xF tr gr L.a rn lr fa sh))) (hP : xP g f o L pa kd ld (fun _ => 0) lk tk) (hAp : ∀ p, p < L.n → A (pa p)) {t : Nat} {c : Nat → Int32} {rw : Nat → Nat} (hT : f t = some (.inl (g.2 0, L.n - 2, .inl c))) (h2n : 2 ≤ L.n) (hrow : ∀ q, q < L.n - 2 → c q = nI (rw q) ∧ rw q < L.n): fC l g A En yX0_grows cX0_grows 6 none (fR 5) [.ref o, .ref t] f (fun v f' => v = none ∧ xP g f' o L pa kd ld (vin L.n rw) lk tk ∧ kp (fun _ e => nPost (cE e) = true) f f') := by
  have hE := hX.E
  refine fC.of (by decide) hX.E [some (.ref o), some (.ref t), none, none, none, none] rfl rfl (fun K G => ?_)
  have G : fGood l g A En RX0 "grows" cX0_grows 6 none (fR 5) _ K := G
  have hn8 := hP.2.1
  have hK : kp (fun _ e => nPost (cE e) = true) f f := kp.rf f
  have hAp' := hAp
  have hr8 : ∀ q, q < L.n - 2 → rw q < 8 := fun q hq => by have := (hrow q hq).2; omega
  have hrn : ∀ q, q < L.n - 2 → rw q < L.n := fun q hq => (hrow q hq).2
  refine r_iconst G (v := nI 1) dX0_grows_0 (by decide) ?_
  refine r_aload_n G dX0_grows_1 rfl ?_
  refine r_getf G xCl1 (fs := [.int tr, .int gr, .ref L.a, .ref rn, .ref lr, .int fa, .ref sh]) hO 2 (by decide) q142 rfl rfl dX0_grows_2 ?_
  refine s_callF (b := L.a) G [] (xM_J2_size hX hP.1) (lw_F q173 q177 q179 q73 q181) (hX.fw 0 _ rfl) fx_0 rfl ⟨Nat.le_of_ble_eq_true rfl, Nat.le_of_ble_eq_true rfl⟩ (fs := [.int L.mc, .ref L.ea, .int (nI L.n)]) hP.1.1 (ci := 2) rfl rfl (Nat.le_of_ble_eq_true rfl) rfl rfl ⟨Nat.zero_le _, Nat.zero_le _⟩ dX0_grows_5 ?_
  show K f 0 0 10 [some (.ref o), some (.ref t), none, none, none, none] [.int (nI L.n), .int (nI 1)]
  refine r_ishl G (v := (nI (1 <<< L.n))) dX0_grows_10 (n_shl (by omega)) ?_
  refine r_iconst G (v := nI 1) dX0_grows_11 (by decide) ?_
  refine r_isub G (v := (nI (2 ^ L.n - 1))) dX0_grows_12 (n_full L.n (by omega)) ?_
  refine r_istore_n G (lo' := [some (.ref o), some (.ref t), some (.int (nI (2 ^ L.n - 1))), none, none, none]) dX0_grows_13 rfl rfl ?_
  refine r_iconst G (v := nI 0) dX0_grows_14 (by decide) ?_
  refine r_istore_n G (lo' := [some (.ref o), some (.ref t), some (.int (nI (2 ^ L.n - 1))), some (.int (nI 0)), none, none]) dX0_grows_15 rfl rfl ?_
  have L16 : ∀ (fu k Lm : Nat) (tn : Nat → Nat) (fw : fH), (fw o = some (.inr (1, xF tr gr L.a rn lr fa sh))) → (fw t = some (.inl (g.2 0, L.n - 2, .inl c))) → (xP g fw o L pa kd ld tn lk tk) → (kp (fun _ e => nPost (cE e) = true) f fw) → (k ≤ L.n - 2) → (gwI L.n rw k Lm (fun p => nI (tn p)) tn) → (Lm < 2 ^ L.n) → L.n - k < fu → K fw 0 0 16 [some (.ref o), some (.ref t), some (.int (nI Lm)), some (.int (nI k)), none, none] [] := by
    intro fu
    induction fu with
    | zero => intro k Lm tn fw hO hT hP hK hk hI hLn hm16; exact absurd hm16 (Nat.not_lt_zero _)
    | succ fu16 ih16 =>
      intro k Lm tn fw hO hT hP hK hk hI hLn hm16
      have hL256 : Lm < 256 := hI.2.1
      refine r_iload_n G dX0_grows_16 rfl ?_
      refine r_aload_n G dX0_grows_17 rfl ?_
      refine r_alen G (x := (L.n - 2, .inl c)) 0 rfl hT (v := (nI (L.n - 2))) rfl dX0_grows_18 ?_
      refine r_icmp_ge G 87 (nI_leI (by omega) (by omega)) dX0_grows_19 (by decide) (fun h19 => ?_) (fun h19 => ?_)
      · have hke : k = L.n - 2 := by omega
        rw [hke] at hI
        obtain ⟨e1, e2, e3, e4, e5, e6, e7⟩ := gwI_e h2n hI
        have e8 : lst Lm < L.n := lst_n hI.2.1 (Nat.ne_of_gt e1) hLn
        have e9 : lst (ndf Lm (1 <<< (lst Lm))) < L.n := lst_n e4 (Nat.ne_of_gt e3) (Nat.lt_of_le_of_lt (ndf_le _ _) hLn)
        refine r_iload_n G dX0_grows_87 rfl ?_
        refine s_callS G [.int (nI Lm)] (sX_X0_least hE Lm (by omega) (Nat.ne_of_gt e1)) (lw_S q253 q254 q70 q255) fy_yX0_least rfl ⟨Nat.le_of_ble_eq_true rfl, Nat.le_of_ble_eq_true rfl⟩ rfl (Nat.le_of_ble_eq_true rfl) rfl rfl ⟨Nat.zero_le _, Nat.zero_le _⟩ dX0_grows_88 ?_
        show K fw 0 0 91 [some (.ref o), some (.ref t), some (.int (nI Lm)), some (.int (nI k)), none, none] [.int (nI (lst Lm))]
        refine r_istore_n G (lo' := [some (.ref o), some (.ref t), some (.int (nI Lm)), some (.int (nI (lst Lm))), none, none]) dX0_grows_91 rfl rfl ?_
        refine r_aload_n G dX0_grows_92 rfl ?_
        refine r_iload_n G dX0_grows_93 rfl ?_
        refine r_iload_n G dX0_grows_94 rfl ?_
        refine r_iconst G (v := nI 1) dX0_grows_95 (by decide) ?_
        refine r_iload_n G dX0_grows_96 rfl ?_
        refine r_ishl G (v := (nI (1 <<< (lst Lm)))) dX0_grows_97 (n_shl (by omega)) ?_
        refine r_iconst G (v := -1) dX0_grows_98 (by decide) ?_
        refine r_ixor G (v := (nI (1 <<< (lst Lm)) ^^^ -1)) dX0_grows_99 rfl ?_
        refine r_iand G (v := (nI (ndf Lm (1 <<< (lst Lm))))) dX0_grows_100 (n_andn (by omega) (Nat.lt_of_lt_of_le (shl1_lt e2) (by decide))) ?_
        refine s_callS G [.int (nI (ndf Lm (1 <<< (lst Lm))))] (sX_X0_least hE (ndf Lm (1 <<< (lst Lm))) e4 (Nat.ne_of_gt e3)) (lw_S q253 q254 q70 q255) fy_yX0_least rfl ⟨Nat.le_of_ble_eq_true rfl, Nat.le_of_ble_eq_true rfl⟩ rfl (Nat.le_of_ble_eq_true rfl) rfl rfl ⟨Nat.zero_le _, Nat.zero_le _⟩ dX0_grows_101 ?_
        show K fw 0 0 104 [some (.ref o), some (.ref t), some (.int (nI Lm)), some (.int (nI (lst Lm))), none, none] [.int (nI (lst (ndf Lm (1 <<< (lst Lm))))), .int (nI (lst Lm)), .ref o]
        refine r_callV (b := o) G [.int (nI (lst Lm)), .int (nI (lst (ndf Lm (1 <<< (lst Lm)))))] (xM_X0_joined hX hO hP hAp (lst Lm) (lst (ndf Lm (1 <<< (lst Lm)))) e8 e9 e6) (lw_V q313 q315 qs7 q70 q316) fy_yX0_joined rfl ⟨Nat.le_of_ble_eq_true rfl, Nat.le_of_ble_eq_true rfl⟩ (fs := [.int tr, .int gr, .ref L.a, .ref rn, .ref lr, .int fa, .ref sh]) hO (ci := 1) rfl rfl rfl (Nat.le_of_ble_eq_true rfl) rfl rfl ⟨Nat.zero_le _, Nat.zero_le _⟩ dX0_grows_104 (fun v104 f104 hp104 => ?_)
        obtain ⟨rfl, hPn, k104⟩ := hp104
        have hO := k104 _ _ rfl hO
        have hT := k104 _ _ rfl hT
        have hK := kp.tr hK k104
        have hP := hPn
        show K f104 0 0 107 [some (.ref o), some (.ref t), some (.int (nI Lm)), some (.int (nI (lst Lm))), none, none] []
        exact r_vret G rfl ⟨Nat.zero_le _, Nat.zero_le _⟩ dX0_grows_107 ⟨rfl, hP.cong (fun p hp => ⟨rfl, gw_fin h2n hn8 hrn e6 e2 e5 (fun x hx => (hI.1 x hx).2.1) e7 hp, rfl, rfl⟩), hK⟩
      · refine r_iconst G (v := nI 0) dX0_grows_22 (by decide) ?_
        refine r_istore G (lo' := [some (.ref o), some (.ref t), some (.int (nI Lm)), some (.int (nI k)), some (.int (nI 0)), none]) dX0_grows_23 rfl rfl ?_
        refine r_iload_n G dX0_grows_25 rfl ?_
        refine r_istore G (lo' := [some (.ref o), some (.ref t), some (.int (nI Lm)), some (.int (nI k)), some (.int (nI 0)), some (.int (nI k))]) dX0_grows_26 rfl rfl ?_
        have L28 : ∀ (fu : Nat) (q m : Nat), (q ≤ L.n - 2) → (k ≤ q) → (m = told rw k q) → L.n - q < fu → K fw 0 0 28 [some (.ref o), some (.ref t), some (.int (nI Lm)), some (.int (nI k)), some (.int (nI m)), some (.int (nI q))] [] := by
          intro fu
          induction fu with
          | zero => intro q m hq hkq hmt hm28; exact absurd hm28 (Nat.not_lt_zero _)
          | succ fu28 ih28 =>
            intro q m hq hkq hmt hm28
            refine r_iload G dX0_grows_28 rfl ?_
            refine r_aload_n G dX0_grows_30 rfl ?_
            refine r_alen G (x := (L.n - 2, .inl c)) 0 rfl hT (v := (nI (L.n - 2))) rfl dX0_grows_31 ?_
            refine r_icmp_ge G 52 (nI_leI (by omega) (by omega)) dX0_grows_32 (by decide) (fun h32 => ?_) (fun h32 => ?_)
            · have hqe : q = L.n - 2 := by omega
              rw [hqe] at hmt
              rw [hqe, hmt]
              obtain ⟨g1, g2, g3, g4, g5, g6⟩ := gwI_p h2n hn8 hrn (by omega) hI
              have g7 : lst (ndf Lm (told rw k (L.n - 2))) < L.n := lst_n g2 (Nat.ne_of_gt g1) (Nat.lt_of_le_of_lt (ndf_le _ _) hLn)
              have g8 : rw k < L.n := hrn k (by omega)
              refine r_iload_n G dX0_grows_52 rfl ?_
              refine r_iload G dX0_grows_53 rfl ?_
              refine r_iconst G (v := -1) dX0_grows_55 (by decide) ?_
              refine r_ixor G (v := (nI (told rw k (L.n - 2)) ^^^ -1)) dX0_grows_56 rfl ?_
              refine r_iand G (v := (nI (ndf Lm (told rw k (L.n - 2))))) dX0_grows_57 (n_andn (by omega) (Nat.lt_trans (told_lt hr8) (show 256 < 2 ^ 31 by decide))) ?_
              refine s_callS G [.int (nI (ndf Lm (told rw k (L.n - 2))))] (sX_X0_least hE (ndf Lm (told rw k (L.n - 2))) g2 (Nat.ne_of_gt g1)) (lw_S q253 q254 q70 q255) fy_yX0_least rfl ⟨Nat.le_of_ble_eq_true rfl, Nat.le_of_ble_eq_true rfl⟩ rfl (Nat.le_of_ble_eq_true rfl) rfl rfl ⟨Nat.zero_le _, Nat.zero_le _⟩ dX0_grows_58 ?_
              show K fw 0 0 61 [some (.ref o), some (.ref t), some (.int (nI Lm)), some (.int (nI k)), some (.int (nI (told rw k (L.n - 2)))), some (.int (nI (L.n - 2)))] [.int (nI (lst (ndf Lm (told rw k (L.n - 2)))))]
              refine r_istore G (lo' := [some (.ref o), some (.ref t), some (.int (nI Lm)), some (.int (nI k)), some (.int (nI (told rw k (L.n - 2)))), some (.int (nI (lst (ndf Lm (told rw k (L.n - 2))))))]) dX0_grows_61 rfl rfl ?_
              refine r_aload_n G dX0_grows_63 rfl ?_
              refine r_iload G dX0_grows_64 rfl ?_
              refine r_aload_n G dX0_grows_66 rfl ?_
              refine r_iload_n G dX0_grows_67 rfl ?_
              refine r_iald G (n := L.n - 2) (fn := c) hT (vp_in_nI (by omega) (by omega)) (v := (nI (rw k))) (by rw [nI_clamp (by omega)]; exact (hrow k (by omega)).1) dX0_grows_68 ?_
              refine r_callV (b := o) G [.int (nI (lst (ndf Lm (told rw k (L.n - 2))))), .int (nI (rw k))] (xM_X0_joined hX hO hP hAp (lst (ndf Lm (told rw k (L.n - 2)))) (rw k) g7 g8 g4) (lw_V q313 q315 qs7 q70 q316) fy_yX0_joined rfl ⟨Nat.le_of_ble_eq_true rfl, Nat.le_of_ble_eq_true rfl⟩ (fs := [.int tr, .int gr, .ref L.a, .ref rn, .ref lr, .int fa, .ref sh]) hO (ci := 1) rfl rfl rfl (Nat.le_of_ble_eq_true rfl) rfl rfl ⟨Nat.zero_le _, Nat.zero_le _⟩ dX0_grows_69 (fun v69 f69 hp69 => ?_)
              obtain ⟨rfl, hPn, k69⟩ := hp69
              have hO := k69 _ _ rfl hO
              have hT := k69 _ _ rfl hT
              have hK := kp.tr hK k69
              have hP := hPn
              show K f69 0 0 72 [some (.ref o), some (.ref t), some (.int (nI Lm)), some (.int (nI k)), some (.int (nI (told rw k (L.n - 2)))), some (.int (nI (lst (ndf Lm (told rw k (L.n - 2))))))] []
              refine r_iload_n G dX0_grows_72 rfl ?_
              refine r_iconst G (v := nI 1) dX0_grows_73 (by decide) ?_
              refine r_iload G dX0_grows_74 rfl ?_
              refine r_ishl G (v := (nI (1 <<< (lst (ndf Lm (told rw k (L.n - 2))))))) dX0_grows_76 (n_shl (by omega)) ?_
              refine r_iconst G (v := -1) dX0_grows_77 (by decide) ?_
              refine r_ixor G (v := (nI (1 <<< (lst (ndf Lm (told rw k (L.n - 2))))) ^^^ -1)) dX0_grows_78 rfl ?_
              refine r_iand G (v := (nI (ndf Lm (1 <<< (lst (ndf Lm (told rw k (L.n - 2)))))))) dX0_grows_79 (n_andn (by omega) (Nat.lt_of_lt_of_le (shl1_lt g3) (by decide))) ?_
              refine r_istore_n G (lo' := [some (.ref o), some (.ref t), some (.int (nI (ndf Lm (1 <<< (lst (ndf Lm (told rw k (L.n - 2)))))))), some (.int (nI k)), some (.int (nI (told rw k (L.n - 2)))), some (.int (nI (lst (ndf Lm (told rw k (L.n - 2))))))]) dX0_grows_80 rfl rfl ?_
              refine r_iinc G (v := (nI (k + 1))) (lo' := [some (.ref o), some (.ref t), some (.int (nI (ndf Lm (1 <<< (lst (ndf Lm (told rw k (L.n - 2)))))))), some (.int (nI (k + 1))), some (.int (nI (told rw k (L.n - 2)))), some (.int (nI (lst (ndf Lm (told rw k (L.n - 2))))))]) dX0_grows_81 rfl (nI_add k 1) rfl rfl ?_
              refine r_goto G 16 dX0_grows_84 (by decide) ?_
              refine r_drop G 4 (lo' := [some (.ref o), some (.ref t), some (.int (nI (ndf Lm (1 <<< (lst (ndf Lm (told rw k (L.n - 2)))))))), some (.int (nI (k + 1))), none, some (.int (nI (lst (ndf Lm (told rw k (L.n - 2))))))]) rfl ?_
              refine r_drop G 5 (lo' := [some (.ref o), some (.ref t), some (.int (nI (ndf Lm (1 <<< (lst (ndf Lm (told rw k (L.n - 2)))))))), some (.int (nI (k + 1))), none, none]) rfl ?_
              exact ih16 _ _ _ _ hO hT hP hK (by omega) g6.r (Nat.lt_of_le_of_lt (ndf_le _ _) hLn) (by omega)
            · refine r_iload G dX0_grows_35 rfl ?_
              refine r_iconst G (v := nI 1) dX0_grows_37 (by decide) ?_
              refine r_aload_n G dX0_grows_38 rfl ?_
              refine r_iload G dX0_grows_39 rfl ?_
              refine r_iald G (n := L.n - 2) (fn := c) hT (vp_in_nI (by omega) (by omega)) (v := (nI (rw q))) (by rw [nI_clamp (by omega)]; exact (hrow q (by omega)).1) dX0_grows_41 ?_
              refine r_ishl G (v := (nI (1 <<< (rw q)))) dX0_grows_42 (n_shl (by have := hr8 q (by omega); omega)) ?_
              refine r_ior G (v := (nI (m ||| (1 <<< (rw q))))) dX0_grows_43 (n_or m (1 <<< (rw q))) ?_
              refine r_istore G (lo' := [some (.ref o), some (.ref t), some (.int (nI Lm)), some (.int (nI k)), some (.int (nI (m ||| (1 <<< (rw q))))), some (.int (nI q))]) dX0_grows_44 rfl rfl ?_
              refine r_iinc G (v := (nI (q + 1))) (lo' := [some (.ref o), some (.ref t), some (.int (nI Lm)), some (.int (nI k)), some (.int (nI (m ||| (1 <<< (rw q))))), some (.int (nI (q + 1)))]) dX0_grows_46 rfl (nI_add q 1) rfl rfl ?_
              refine r_goto G 28 dX0_grows_49 (by decide) ?_
              exact ih28 _ _ (by omega) (by omega) (by rw [told_s hkq, hmt]) (by omega)
        exact L28 (L.n + 1) k 0 (by omega) (Nat.le_refl k) (told_0 rw k).symm (by omega)
  exact L16 (L.n + 1) 0 (2 ^ L.n - 1) (fun _ => 0) f hO hT hP (kp.rf f) (Nat.zero_le _) (gwI_0 h2n hn8 hrn (fun _ _ => rfl)) (by have := Nat.two_pow_pos L.n; omega) (by omega)
end XX24
