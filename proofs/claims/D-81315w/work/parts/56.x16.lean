/-! the component: what changes posts -/
set_option maxRecDepth 100000
section XX16
/-- the class of a cell; 20: numbers' array, 21: any other array -/
def cE : va_E → Nat
  | .inr (c, _) => c
  | .inl (_, _, .inl _) => 20
  | .inl (_, _, .inr _) => 21
def nPost (c : Nat) : Bool := !(decide (3 ≤ c) && decide (c ≤ 5))
/-- what Q names is kept -/
def kp (Q : Nat → va_E → Prop) (f f' : fH) : Prop := ∀ x e, Q x e → f x = some e → f' x = some e
theorem kp.rf {Q : Nat → va_E → Prop} (f : fH) : kp Q f f := fun _ _ _ h => h
theorem kp.tr {Q : Nat → va_E → Prop} {f f1 f2 : fH} (h : kp Q f f1) (h' : kp Q f1 f2) : kp Q f f2 := fun x e q he => h' x e q (h x e q he)
theorem kp.mono {Q Q' : Nat → va_E → Prop} {f f' : fH} (h : kp Q f f') (hq : ∀ x e, Q' x e → Q x e) : kp Q' f f' := fun x e q he => h x e (hq x e q) he
theorem kp.up {Q : Nat → va_E → Prop} {f : fH} {a : Nat} {e0 : va_E} (e : va_E) (h0 : f a = some e0) (hq : ¬ Q a e0) : kp Q f (fU f a e) := fun x e1 q he => by
  rw [fU_n]
  · exact he
  · rintro rfl
    rw [h0] at he
    cases he
    exact hq q
theorem kp.new {Q : Nat → va_E → Prop} {f : fH} {a : Nat} (e : va_E) (h0 : f a = none) : kp Q f (fU f a e) := fun x e1 q he => by
  rw [fU_n]
  · exact he
  · rintro rfl
    rw [h0] at he
    cases he
theorem kp.app {Q : Nat → va_E → Prop} {f f' : fH} (h : kp Q f f') {x : Nat} {e : va_E} (he : f x = some e) (q : Q x e) : f' x = some e := h x e q he
theorem nPost_k {k : Nat} (h : k ≤ 2) : nPost (3 + k) = false := by
  unfold nPost
  rw [decide_eq_true (show 3 ≤ 3 + k by omega), decide_eq_true (show 3 + k ≤ 5 by omega)]
  rfl
theorem fup_s {f : Nat → Nat} {p v : Nat} : fup f p v p = v := if_pos rfl
theorem fup_n {f : Nat → Nat} {p v q : Nat} (h : q ≠ p) : fup f p v q = f q := if_neg h
theorem fup_id (f : Nat → Nat) (p : Nat) : fup f p (f p) = f := by
  funext q
  unfold fup
  split
  · rename_i h; rw [h]
  · rfl
section
variable {g : fG} {f : fH} {o : Nat} {L : xLs} {pa kd ld tw : Nat → Nat} {lk tk : Nat → Int32}
theorem xP.kd2 (h : xP g f o L pa kd ld tw lk tk) {p : Nat} (hp : p < L.n) : kd p ≤ 2 := (h.2.2.2 p hp).2.2.1
theorem xP.ld9 (h : xP g f o L pa kd ld tw lk tk) {p : Nat} (hp : p < L.n) : ld p ≤ 9 := (h.2.2.2 p hp).2.2.2.1
theorem xP.twl (h : xP g f o L pa kd ld tw lk tk) {p : Nat} (hp : p < L.n) : tw p < 2 ^ L.n := (h.2.2.2 p hp).2.2.2.2
theorem xP.ob (h : xP g f o L pa kd ld tw lk tk) {p : Nat} (hp : p < L.n) : f (pa p) = some (.inr (3 + kd p, pO (kd p) o (ld p) (tw p) (lk p) (tk p))) := (h.2.2.2 p hp).2.1
theorem xP.kup (h : xP g f o L pa kd ld tw lk tk) {p : Nat} (hp : p < L.n) (e : va_E) : kp (fun _ e => nPost (cE e) = true) f (fU f (pa p) e) := kp.up e (h.ob hp) (by
  show ¬ nPost (3 + kd p) = true
  rw [nPost_k (h.kd2 hp)]
  decide)
/-- the posts of a world, one of them written -/
theorem xP.wr (h : xP g f o L pa kd ld tw lk tk) {p : Nat} (hp : p < L.n) {l' t' : Nat} (hl : l' ≤ 9) (ht : t' < 2 ^ L.n) {lk' tk' : Int32} : xP g (fU f (pa p) (.inr (3 + kd p, pO (kd p) o l' t' lk' tk'))) o L pa kd (fup ld p l') (fup tw p t') (upd lk p lk') (upd tk p tk') := by
  obtain ⟨⟨l1, l2, l3, l4⟩, h8, hi, ha⟩ := h
  have hk := (ha p hp).2.2.1
  refine ⟨⟨?_, ?_, l3, l4⟩, h8, hi, fun q hq => ?_⟩
  · refine kp.up (Q := fun _ e => nPost (cE e) = true) _ (ha p hp).2.1 ?_ _ _ rfl l1
    show ¬ nPost (3 + kd p) = true
    rw [nPost_k hk]; decide
  · refine kp.up (Q := fun _ e => nPost (cE e) = true) _ (ha p hp).2.1 ?_ _ _ rfl l2
    show ¬ nPost (3 + kd p) = true
    rw [nPost_k hk]; decide
  · obtain ⟨a1, a2, a3, a4, a5⟩ := ha q hq
    by_cases e : q = p
    · subst e
      rw [fup_s, fup_s, pk_us, pk_us]
      exact ⟨a1, fU_s _ _ _, a3, hl, ht⟩
    · rw [fup_n e, fup_n e, pk_un e, pk_un e]
      refine ⟨a1, ?_, a3, a4, a5⟩
      rw [fU_n]
      · exact a2
      · exact fun z => e (hi q hq p hp z)
theorem upd_id (f : Nat → Int32) (p : Nat) : upd f p (f p) = f := by
  funext q
  unfold upd
  split
  · rename_i h; rw [h]
  · rfl
theorem xP.wrT (h : xP g f o L pa kd ld tw lk tk) {p : Nat} (hp : p < L.n) {t' : Nat} (ht : t' < 2 ^ L.n) : xP g (fU f (pa p) (.inr (3 + kd p, pO (kd p) o (ld p) t' (lk p) (tk p)))) o L pa kd ld (fup tw p t') lk tk := by
  have := h.wr hp (h.ld9 hp) ht (lk' := lk p) (tk' := tk p)
  rw [fup_id, upd_id, upd_id] at this
  exact this
theorem xP.wrL (h : xP g f o L pa kd ld tw lk tk) {p : Nat} (hp : p < L.n) {l' : Nat} (hl : l' ≤ 9) : xP g (fU f (pa p) (.inr (3 + kd p, pO (kd p) o l' (tw p) (lk p) (tk p)))) o L pa kd (fup ld p l') tw lk tk := by
  have := h.wr hp hl (h.twl hp) (lk' := lk p) (tk' := tk p)
  rw [fup_id, upd_id, upd_id] at this
  exact this
/-- posts and their list lie as they lay -/
theorem xP.of (h : xP g f o L pa kd ld tw lk tk) {f' : fH} (hk : ∀ x e, (cE e = 2 ∨ cE e = 21 ∨ nPost (cE e) = false) → f x = some e → f' x = some e) : xP g f' o L pa kd ld tw lk tk := by
  obtain ⟨⟨l1, l2, l3, l4⟩, h8, hi, ha⟩ := h
  refine ⟨⟨hk _ _ (Or.inl rfl) l1, hk _ _ (Or.inr (Or.inl rfl)) l2, l3, l4⟩, h8, hi, fun q hq => ?_⟩
  obtain ⟨a1, a2, a3, a4, a5⟩ := ha q hq
  exact ⟨a1, hk _ _ (Or.inr (Or.inr (nPost_k a3))) a2, a3, a4, a5⟩
end
theorem jn_fup {tw : Nat → Nat} {a b : Nat} (h : a ≠ b) : fup (fup tw a (tw a ||| 1 <<< b)) b (fup tw a (tw a ||| 1 <<< b) b ||| 1 <<< a) = jn tw a b := by
  rw [fup_n (Ne.symm h)]
  funext q
  unfold fup jn
  rfl
theorem uj_fup {tw : Nat → Nat} {p : Nat} (h : lst (tw p) ≠ p) (h8 : tw p < 256) (h1 : cnt (tw p) = 1) : fup (fup tw (lst (tw p)) (ndf (tw (lst (tw p))) (1 <<< p))) p 0 = uj tw p (lst (tw p)) := by
  have e0 : ndf (tw p) (1 <<< lst (tw p)) = 0 := by
    rw [show (1 <<< lst (tw p)) = tw p from (cnt_one _ h8 h1).symm]
    unfold ndf
    rw [Nat.and_self, Nat.xor_self]
  funext q
  unfold fup uj
  by_cases e : q = p
  · subst e
    rw [if_pos rfl, if_neg (Ne.symm h), if_pos rfl, e0]
  · rw [if_neg e]
    split
    · rfl
    · rfl
theorem or1_lt {t b n : Nat} (h : t < 2 ^ n) (hb : b < n) : t ||| 1 <<< b < 2 ^ n := or_lt h (shl1_lt hb)
theorem ndf_lt {t s n : Nat} (h : t < n) : ndf t s < n := Nat.lt_of_le_of_lt (ndf_le _ _) h
set_option maxHeartbeats 4000000 in
theorem xM_X0_joined {l : Launch} {g : fG} {A : Nat → Prop} {En : State → Prop} {zd : Nat} (hX : fX zd g A En) {f : fH} {o : Nat} {tr gr fa : Int32} {rn lr sh : Nat} {L : xLs} {pa kd ld tw : Nat → Nat} {lk tk : Nat → Int32} (hO : f o = some (.inr (1, xF tr gr L.a rn lr fa sh))) (hP : xP g f o L pa kd ld tw lk tk) (hAp : ∀ p, p < L.n → A (pa p)) (a b : Nat) (ha : a < L.n) (hb : b < L.n) (hab : a ≠ b): fC l g A En yX0_joined cX0_joined 3 none (fR 3) [.ref o, .int (nI a), .int (nI b)] f (fun v f' => v = none ∧ xP g f' o L pa kd ld (jn tw a b) lk tk ∧ kp (fun _ e => nPost (cE e) = true) f f') := by
  have hE := hX.E
  refine fC.of (by decide) hX.E [some (.ref o), some (.int (nI a)), some (.int (nI b))] rfl rfl (fun K G => ?_)
  have G : fGood l g A En RX0 "joined" cX0_joined 3 none (fR 3) _ K := G
  have hn8 := hP.2.1
  have hK : kp (fun _ e => nPost (cE e) = true) f f := kp.rf f
  have hAp' := hAp
  refine r_aload_n G dX0_joined_0 rfl ?_
  refine r_getf G xCl1 (fs := [.int tr, .int gr, .ref L.a, .ref rn, .ref lr, .int fa, .ref sh]) hO 2 (by decide) q142 rfl rfl dX0_joined_1 ?_
  refine r_iload_n G dX0_joined_4 rfl ?_
  refine s_callF (b := L.a) G [.int (nI a)] (xM_J2_get hX hP.1 a ha) (lw_F q186 q189 q191 q73 q193) (hX.fw 1 _ rfl) fx_1 rfl ⟨Nat.le_of_ble_eq_true rfl, Nat.le_of_ble_eq_true rfl⟩ (fs := [.int L.mc, .ref L.ea, .int (nI L.n)]) hP.1.1 (ci := 2) rfl rfl (Nat.le_of_ble_eq_true rfl) rfl rfl ⟨Nat.zero_le _, Nat.zero_le _⟩ dX0_joined_5 ?_
  show K f 0 0 10 [some (.ref o), some (.int (nI a)), some (.int (nI b))] [va_rf ((L.el a))]
  rw [show va_rf (L.el a) = .ref (pa a) from by rw [(hP.2.2.2 a ha).1]; rfl]
  refine r_castP hX G (hP.2.2.2 a ha).2.2.1 (hP.2.2.2 a ha).2.1 q204 dX0_joined_10 ?_
  refine r_dup G dX0_joined_13 rfl ?_
  refine r_pget G (hP.2.2.2 a ha).2.2.1 (he := (hP.2.2.2 a ha).2.1) 1 (by decide) q538 pO_g1 dX0_joined_14 ?_
  refine r_iconst G (v := nI 1) dX0_joined_17 (by decide) ?_
  refine r_iload_n G dX0_joined_18 rfl ?_
  refine r_ishl G (v := (nI (1 <<< b))) dX0_joined_19 (n_shl (by omega)) ?_
  refine r_ior G (v := (nI ((tw a) ||| (1 <<< b)))) dX0_joined_20 (n_or (tw a) (1 <<< b)) ?_
  refine r_pput G (hP.2.2.2 a ha).2.2.1 (he := (hP.2.2.2 a ha).2.1) (hAp a ha) 1 (by decide) q538 (f' := fU f (pa a) (.inr (3 + ((kd a)), pO ((kd a)) o (ld a) ((tw a) ||| (1 <<< b)) (lk a) (tk a)))) (by rw [pO_s1]) dX0_joined_21 ?_
  show K (fU f (pa a) (.inr (3 + ((kd a)), pO ((kd a)) o (ld a) ((tw a) ||| (1 <<< b)) (lk a) (tk a)))) 0 0 24 [some (.ref o), some (.int (nI a)), some (.int (nI b))] []
  obtain ⟨f1, hf1⟩ : ∃ z, z = fU f (pa a) (.inr (3 + ((kd a)), pO ((kd a)) o (ld a) ((tw a) ||| (1 <<< b)) (lk a) (tk a))) := ⟨_, rfl⟩
  have kf1 := hP.kup (p := a) ha (.inr (3 + (kd a), pO (kd a) o (ld a) ((tw a) ||| (1 <<< b)) (lk a) (tk a)))
  have hPn := hP.wrT ha (or1_lt (hP.twl ha) hb)
  rw [← hf1] at kf1 hPn ⊢
  have hO := kf1 _ _ rfl hO
  have hK := kp.tr hK kf1
  have hP := hPn
  refine r_aload_n G dX0_joined_24 rfl ?_
  refine r_getf G xCl1 (fs := [.int tr, .int gr, .ref L.a, .ref rn, .ref lr, .int fa, .ref sh]) hO 2 (by decide) q142 rfl rfl dX0_joined_25 ?_
  refine r_iload_n G dX0_joined_28 rfl ?_
  refine s_callF (b := L.a) G [.int (nI b)] (xM_J2_get hX hP.1 b hb) (lw_F q186 q189 q191 q73 q193) (hX.fw 1 _ rfl) fx_1 rfl ⟨Nat.le_of_ble_eq_true rfl, Nat.le_of_ble_eq_true rfl⟩ (fs := [.int L.mc, .ref L.ea, .int (nI L.n)]) hP.1.1 (ci := 2) rfl rfl (Nat.le_of_ble_eq_true rfl) rfl rfl ⟨Nat.zero_le _, Nat.zero_le _⟩ dX0_joined_29 ?_
  show K f1 0 0 34 [some (.ref o), some (.int (nI a)), some (.int (nI b))] [va_rf ((L.el b))]
  rw [show va_rf (L.el b) = .ref (pa b) from by rw [(hP.2.2.2 b hb).1]; rfl]
  refine r_castP hX G (hP.2.2.2 b hb).2.2.1 (hP.2.2.2 b hb).2.1 q204 dX0_joined_34 ?_
  refine r_dup G dX0_joined_37 rfl ?_
  refine r_pget G (hP.2.2.2 b hb).2.2.1 (he := (hP.2.2.2 b hb).2.1) 1 (by decide) q538 pO_g1 dX0_joined_38 ?_
  refine r_iconst G (v := nI 1) dX0_joined_41 (by decide) ?_
  refine r_iload_n G dX0_joined_42 rfl ?_
  refine r_ishl G (v := (nI (1 <<< a))) dX0_joined_43 (n_shl (by omega)) ?_
  refine r_ior G (v := (nI (((fup tw a ((tw a) ||| (1 <<< b))) b) ||| (1 <<< a)))) dX0_joined_44 (n_or ((fup tw a ((tw a) ||| (1 <<< b))) b) (1 <<< a)) ?_
  refine r_pput G (hP.2.2.2 b hb).2.2.1 (he := (hP.2.2.2 b hb).2.1) (hAp b hb) 1 (by decide) q538 (f' := fU f1 (pa b) (.inr (3 + ((kd b)), pO ((kd b)) o (ld b) (((fup tw a ((tw a) ||| (1 <<< b))) b) ||| (1 <<< a)) (lk b) (tk b)))) (by rw [pO_s1]) dX0_joined_45 ?_
  show K (fU f1 (pa b) (.inr (3 + ((kd b)), pO ((kd b)) o (ld b) (((fup tw a ((tw a) ||| (1 <<< b))) b) ||| (1 <<< a)) (lk b) (tk b)))) 0 0 48 [some (.ref o), some (.int (nI a)), some (.int (nI b))] []
  obtain ⟨f2, hf2⟩ : ∃ z, z = fU f1 (pa b) (.inr (3 + ((kd b)), pO ((kd b)) o (ld b) (((fup tw a ((tw a) ||| (1 <<< b))) b) ||| (1 <<< a)) (lk b) (tk b))) := ⟨_, rfl⟩
  have kf2 := hP.kup (p := b) hb (.inr (3 + (kd b), pO (kd b) o (ld b) (((fup tw a ((tw a) ||| (1 <<< b))) b) ||| (1 <<< a)) (lk b) (tk b)))
  have hPn := hP.wrT hb (or1_lt (hP.twl hb) ha)
  rw [← hf2] at kf2 hPn ⊢
  have hO := kf2 _ _ rfl hO
  have hK := kp.tr hK kf2
  have hP := hPn
  exact r_vret G rfl ⟨Nat.zero_le _, Nat.zero_le _⟩ dX0_joined_48 ⟨rfl, by rw [← jn_fup hab]; exact hP, hK⟩
set_option maxHeartbeats 4000000 in
theorem xM_X0_load {l : Launch} {g : fG} {A : Nat → Prop} {En : State → Prop} {zd : Nat} (hX : fX zd g A En) {f : fH} {o : Nat} {tr gr fa : Int32} {rn lr sh : Nat} {L : xLs} {pa kd ld tw : Nat → Nat} {lk tk : Nat → Int32} (hO : f o = some (.inr (1, xF tr gr L.a rn lr fa sh))) (hP : xP g f o L pa kd ld tw lk tk) (hAp : ∀ p, p < L.n → A (pa p)) (p v : Int32): fC l g A En yX0_load cX0_load 4 (some .int) (fR 3) [.ref o, .int p, .int v] f (fun v' f' => v' = some (.int (aLoad L.n ld p v)) ∧ xP g f' o L pa kd (if ldA L.n p v then fup ld (ix p) (ix v) else ld) tw lk tk ∧ kp (fun _ e => nPost (cE e) = true) f f') := by
  have hE := hX.E
  refine fC.of (by decide) hX.E [some (.ref o), some (.int p), some (.int v), none] rfl rfl (fun K G => ?_)
  have G : fGood l g A En RX0 "load" cX0_load 4 (some .int) (fR 3) _ K := G
  have hn8 := hP.2.1
  have hK : kp (fun _ e => nPost (cE e) = true) f f := kp.rf f
  refine r_aload_n G dX0_load_0 rfl ?_
  refine r_iload_n G dX0_load_1 rfl ?_
  refine s_callV (b := o) G [.int p] (xM_X0_noPost hX hO hP p) (lw_V q168 q170 qs0 q70 q171) fy_yX0_noPost rfl ⟨Nat.le_of_ble_eq_true rfl, Nat.le_of_ble_eq_true rfl⟩ (fs := [.int tr, .int gr, .ref L.a, .ref rn, .ref lr, .int fa, .ref sh]) hO (ci := 1) rfl rfl rfl (Nat.le_of_ble_eq_true rfl) rfl rfl ⟨Nat.zero_le _, Nat.zero_le _⟩ dX0_load_2 ?_
  show K f 0 0 5 [some (.ref o), some (.int p), some (.int v), none] [.int (bI (!isP L.n p))]
  refine r_ifb_eq G 10  dX0_load_5 (by decide) (fun h5 => ?_) (fun h5 => ?_)
  · have q5 : isP L.n p = true := nt_f h5
    obtain ⟨jp, hjp, rfl⟩ := isP_t (by omega) q5
    have ejp : ix (nI jp) = jp := ix_nI (by omega)
    refine r_iload_n G dX0_load_10 rfl ?_
    refine r_i2l G dX0_load_11 rfl ?_
    refine r_lconst G (v := lN 0) dX0_load_12 (by decide) ?_
    refine r_ldc2 G q267 dX0_load_13 ?_
    show K f 0 0 16 [some (.ref o), some (.int (nI jp)), some (.int v), none] [.long (lN 9), .long (lN 0), .long v.toInt64]
    refine s_callS G [.long v.toInt64, .long (lN 0), .long (lN 9)] (sX_X0_inI hE v 0 9 (by decide) (by decide)) (lw_S q182 q183 q70 q184) fy_yX0_in rfl ⟨Nat.le_of_ble_eq_true rfl, Nat.le_of_ble_eq_true rfl⟩ rfl (Nat.le_of_ble_eq_true rfl) rfl rfl ⟨Nat.zero_le _, Nat.zero_le _⟩ dX0_load_16 ?_
    show K f 0 0 19 [some (.ref o), some (.int (nI jp)), some (.int v), none] [.int (bI (wi v (nI 0) (nI 9)))]
    refine r_ifb_ne G 25  dX0_load_19 (by decide) (fun h19 => ?_) (fun h19 => ?_)
    · obtain ⟨jv, hjv0, hjv, rfl⟩ := wi_t (by decide) (by decide) h19
      have ejv : ix (nI jv) = jv := ix_nI (by omega)
      refine r_aload_n G dX0_load_25 rfl ?_
      refine r_getf G xCl1 (fs := [.int tr, .int gr, .ref L.a, .ref rn, .ref lr, .int fa, .ref sh]) hO 2 (by decide) q142 rfl rfl dX0_load_26 ?_
      refine r_iload_n G dX0_load_29 rfl ?_
      refine s_callF (b := L.a) G [.int (nI jp)] (xM_J2_get hX hP.1 jp hjp) (lw_F q186 q189 q191 q73 q193) (hX.fw 1 _ rfl) fx_1 rfl ⟨Nat.le_of_ble_eq_true rfl, Nat.le_of_ble_eq_true rfl⟩ (fs := [.int L.mc, .ref L.ea, .int (nI L.n)]) hP.1.1 (ci := 2) rfl rfl (Nat.le_of_ble_eq_true rfl) rfl rfl ⟨Nat.zero_le _, Nat.zero_le _⟩ dX0_load_30 ?_
      show K f 0 0 35 [some (.ref o), some (.int (nI jp)), some (.int (nI jv)), none] [va_rf ((L.el jp))]
      rw [show va_rf (L.el jp) = .ref (pa jp) from by rw [(hP.2.2.2 jp hjp).1]; rfl]
      refine r_castP hX G (hP.2.2.2 jp hjp).2.2.1 (hP.2.2.2 jp hjp).2.1 q204 dX0_load_35 ?_
      refine r_pget G (hP.2.2.2 jp hjp).2.2.1 (he := (hP.2.2.2 jp hjp).2.1) 0 (by decide) q536 pO_g0 dX0_load_38 ?_
      refine r_istore_n G (lo' := [some (.ref o), some (.int (nI jp)), some (.int (nI jv)), some (.int (nI (ld jp)))]) dX0_load_41 rfl rfl ?_
      refine r_aload_n G dX0_load_42 rfl ?_
      refine r_getf G xCl1 (fs := [.int tr, .int gr, .ref L.a, .ref rn, .ref lr, .int fa, .ref sh]) hO 2 (by decide) q142 rfl rfl dX0_load_43 ?_
      refine r_iload_n G dX0_load_46 rfl ?_
      refine s_callF (b := L.a) G [.int (nI jp)] (xM_J2_get hX hP.1 jp hjp) (lw_F q186 q189 q191 q73 q193) (hX.fw 1 _ rfl) fx_1 rfl ⟨Nat.le_of_ble_eq_true rfl, Nat.le_of_ble_eq_true rfl⟩ (fs := [.int L.mc, .ref L.ea, .int (nI L.n)]) hP.1.1 (ci := 2) rfl rfl (Nat.le_of_ble_eq_true rfl) rfl rfl ⟨Nat.zero_le _, Nat.zero_le _⟩ dX0_load_47 ?_
      show K f 0 0 52 [some (.ref o), some (.int (nI jp)), some (.int (nI jv)), some (.int (nI (ld jp)))] [va_rf ((L.el jp))]
      rw [show va_rf (L.el jp) = .ref (pa jp) from by rw [(hP.2.2.2 jp hjp).1]; rfl]
      refine r_castP hX G (hP.2.2.2 jp hjp).2.2.1 (hP.2.2.2 jp hjp).2.1 q204 dX0_load_52 ?_
      refine r_iload_n G dX0_load_55 rfl ?_
      refine r_pput G (hP.2.2.2 jp hjp).2.2.1 (he := (hP.2.2.2 jp hjp).2.1) (hAp jp hjp) 0 (by decide) q536 (f' := fU f (pa jp) (.inr (3 + ((kd jp)), pO ((kd jp)) o jv (tw jp) (lk jp) (tk jp)))) (by rw [pO_s0]) dX0_load_56 ?_
      show K (fU f (pa jp) (.inr (3 + ((kd jp)), pO ((kd jp)) o jv (tw jp) (lk jp) (tk jp)))) 0 0 59 [some (.ref o), some (.int (nI jp)), some (.int (nI jv)), some (.int (nI (ld jp)))] []
      obtain ⟨f1, hf1⟩ : ∃ z, z = fU f (pa jp) (.inr (3 + ((kd jp)), pO ((kd jp)) o jv (tw jp) (lk jp) (tk jp))) := ⟨_, rfl⟩
      have kf1 := hP.kup (p := jp) hjp (.inr (3 + (kd jp), pO (kd jp) o jv (tw jp) (lk jp) (tk jp)))
      have hPn := hP.wrL hjp hjv
      rw [← hf1] at kf1 hPn ⊢
      have hO := kf1 _ _ rfl hO
      have hK := kp.tr hK kf1
      have hP := hPn
      refine r_iload_n G dX0_load_59 rfl ?_
      exact r_iret G rfl ⟨Nat.zero_le _, Nat.zero_le _⟩ dX0_load_60 ⟨rI (by rw [aLoad, q5, h19, ejp]; rfl), by rw [ldA, q5, h19, ejp, ejv]; exact hP, hK⟩
    · refine r_bipush G (v := -2) dX0_load_22 (by decide) ?_
      exact r_iret G rfl ⟨Nat.zero_le _, Nat.zero_le _⟩ dX0_load_24 ⟨rI (by simp [aLoad, q5, h19]), by simp only [ldA, q5, h19, Bool.and_false]; exact hP, hK⟩
  · have q5 : isP L.n p = false := nt_t h5
    refine r_iconst G (v := -1) dX0_load_8 (by decide) ?_
    exact r_iret G rfl ⟨Nat.zero_le _, Nat.zero_le _⟩ dX0_load_9 ⟨rI (by simp [aLoad, q5]), by simp only [ldA, q5, Bool.false_and]; exact hP, hK⟩
theorem gok_f {n : Nat} {tw : Nat → Nat} {p q : Int32} (h : (isP n p && isP n q && !decide (p = q)) = false ∨ ¬ cnt (tw (ix p)) = 1) : graftOk n tw p q = false := by
  unfold graftOk
  rcases h with h | h
  · rw [h]; rfl
  · rw [decide_eq_false h, Bool.and_false]
theorem gok_t {n : Nat} {tw : Nat → Nat} {p q : Int32} (h : (isP n p && isP n q && !decide (p = q)) = true) (h1 : cnt (tw (ix p)) = 1) : graftOk n tw p q = true := by
  unfold graftOk
  rw [h, decide_eq_true h1]; rfl
set_option maxHeartbeats 4000000 in
theorem xM_X0_grafted {l : Launch} {g : fG} {A : Nat → Prop} {En : State → Prop} {zd : Nat} (hX : fX zd g A En) {f : fH} {o : Nat} {tr gr fa : Int32} {rn lr sh : Nat} {L : xLs} {pa kd ld tw : Nat → Nat} {lk tk : Nat → Int32} (hO : f o = some (.inr (1, xF tr gr L.a rn lr fa sh))) (hP : xP g f o L pa kd ld tw lk tk) (hAp : ∀ p, p < L.n → A (pa p)) (hnl : ∀ p, p < L.n → (tw p).testBit (lst (tw p)) = true → lst (tw p) ≠ p) (p q : Int32): fC l g A En yX0_grafted cX0_grafted 4 (some .boolean) (fR 4) [.ref o, .int p, .int q] f (fun v f' => v = some (.int (bI (graftOk L.n tw p q))) ∧ xP g f' o L pa kd ld (if graftOk L.n tw p q then grf tw (ix p) (ix q) else tw) lk tk ∧ kp (fun _ e => nPost (cE e) = true) f f') := by
  have hE := hX.E
  refine fC.of (by decide) hX.E [some (.ref o), some (.int p), some (.int q), none] rfl rfl (fun K G => ?_)
  have G : fGood l g A En RX0 "grafted" cX0_grafted 4 (some .boolean) (fR 4) _ K := G
  have hn8 := hP.2.1
  have hK : kp (fun _ e => nPost (cE e) = true) f f := kp.rf f
  refine r_aload_n G dX0_grafted_0 rfl ?_
  refine r_iload_n G dX0_grafted_1 rfl ?_
  refine r_iload_n G dX0_grafted_2 rfl ?_
  refine s_callV (b := o) G [.int p, .int q] (xM_X0_noTwo hX hO hP p q) (lw_V q297 q299 qs5 q70 q300) fy_yX0_noTwo rfl ⟨Nat.le_of_ble_eq_true rfl, Nat.le_of_ble_eq_true rfl⟩ (fs := [.int tr, .int gr, .ref L.a, .ref rn, .ref lr, .int fa, .ref sh]) hO (ci := 1) rfl rfl rfl (Nat.le_of_ble_eq_true rfl) rfl rfl ⟨Nat.zero_le _, Nat.zero_le _⟩ dX0_grafted_3 ?_
  show K f 0 0 6 [some (.ref o), some (.int p), some (.int q), none] [.int (bI (!(isP L.n p && isP L.n q && !decide (p = q))))]
  refine r_ifb_ne G 28  dX0_grafted_6 (by decide) (fun h6 => ?_) (fun h6 => ?_)
  · have q6 : (isP L.n p && isP L.n q && !decide (p = q)) = false := nt_t h6
    refine r_iconst G (v := nI 0) dX0_grafted_28 (by decide) ?_
    exact r_zret G rfl (by decide) ⟨Nat.zero_le _, Nat.zero_le _⟩ dX0_grafted_29 ⟨rb (by rw [gok_f (Or.inl q6)]; rfl), by rw [gok_f (Or.inl q6)]; exact hP, hK⟩
  · have q6 : (isP L.n p && isP L.n q && !decide (p = q)) = true := nt_f h6
    have q6s := q6
    rw [Bool.and_eq_true, Bool.and_eq_true] at q6s
    obtain ⟨⟨q6a, q6b⟩, q6c⟩ := q6s
    obtain ⟨jp, hjp, rfl⟩ := isP_t (by omega) q6a
    obtain ⟨jq, hjq, rfl⟩ := isP_t (by omega) q6b
    have ejp : ix (nI jp) = jp := ix_nI (by omega)
    have ejq : ix (nI jq) = jq := ix_nI (by omega)
    have hpq : jp ≠ jq := fun z => by rw [z] at q6c; simp at q6c
    refine r_aload_n G dX0_grafted_9 rfl ?_
    refine r_getf G xCl1 (fs := [.int tr, .int gr, .ref L.a, .ref rn, .ref lr, .int fa, .ref sh]) hO 2 (by decide) q142 rfl rfl dX0_grafted_10 ?_
    refine r_iload_n G dX0_grafted_13 rfl ?_
    refine s_callF (b := L.a) G [.int (nI jp)] (xM_J2_get hX hP.1 jp hjp) (lw_F q186 q189 q191 q73 q193) (hX.fw 1 _ rfl) fx_1 rfl ⟨Nat.le_of_ble_eq_true rfl, Nat.le_of_ble_eq_true rfl⟩ (fs := [.int L.mc, .ref L.ea, .int (nI L.n)]) hP.1.1 (ci := 2) rfl rfl (Nat.le_of_ble_eq_true rfl) rfl rfl ⟨Nat.zero_le _, Nat.zero_le _⟩ dX0_grafted_14 ?_
    show K f 0 0 19 [some (.ref o), some (.int (nI jp)), some (.int (nI jq)), none] [va_rf ((L.el jp))]
    rw [show va_rf (L.el jp) = .ref (pa jp) from by rw [(hP.2.2.2 jp hjp).1]; rfl]
    refine r_castP hX G (hP.2.2.2 jp hjp).2.2.1 (hP.2.2.2 jp hjp).2.1 q204 dX0_grafted_19 ?_
    refine r_callK G (hP.2.2.2 jp hjp).2.2.1 (hP.2.2.2 jp hjp).2.1 [] (fun _ => xM_X5_isLeaf hX (hP.2.2.2 jp hjp).2.2.1 (hP.2.2.2 jp hjp).2.1 (hP.t8 jp (by omega))) (fun _ => xM_X5_isLeaf hX (hP.2.2.2 jp hjp).2.2.1 (hP.2.2.2 jp hjp).2.1 (hP.t8 jp (by omega))) (fun _ => xM_X5_isLeaf hX (hP.2.2.2 jp hjp).2.2.1 (hP.2.2.2 jp hjp).2.1 (hP.t8 jp (by omega))) (lw_O q305 q308 q306 q307 q306 q90 q311) (lw_O q305 q308 q306 q309 q306 q90 q311) (lw_O q305 q308 q306 q310 q306 q90 q311) q311 (by decide +kernel) rfl ⟨⟨Nat.le_of_ble_eq_true rfl, Nat.le_of_ble_eq_true rfl⟩, ⟨Nat.le_of_ble_eq_true rfl, Nat.le_of_ble_eq_true rfl⟩, ⟨Nat.le_of_ble_eq_true rfl, Nat.le_of_ble_eq_true rfl⟩⟩ rfl (Nat.le_of_ble_eq_true rfl) ⟨Nat.zero_le _, Nat.zero_le _⟩ dX0_grafted_22 (fun v22 f22 hp22 => ?_)
    obtain ⟨hf22, rfl⟩ := hp22
    rw [hf22]
    show K f 0 0 25 [some (.ref o), some (.int (nI jp)), some (.int (nI jq)), none] [.int (bI (decide (cnt (tw jp) = 1)))]
    refine r_ifb_ne G 30  dX0_grafted_25 (by decide) (fun h25 => ?_) (fun h25 => ?_)
    · have h1 : cnt (tw jp) = 1 := of_decide_eq_true h25
      have ht8 := hP.t8 jp hjp
      have hpos : 0 < tw jp := Nat.pos_of_ne_zero (fun e => by rw [e] at h1; exact absurd h1 (by decide))
      have hwb := lst_bit _ ht8 hpos
      have hw := tb_lt (hP.twl hjp) hwb
      obtain ⟨q0, hq0⟩ : ∃ z, z = lst (tw jp) := ⟨_, rfl⟩
      have hwn : q0 ≠ jp := by rw [hq0]; exact hnl jp hjp hwb
      rw [← hq0] at hw hwb
      refine r_aload_n G dX0_grafted_30 rfl ?_
      refine r_getf G xCl1 (fs := [.int tr, .int gr, .ref L.a, .ref rn, .ref lr, .int fa, .ref sh]) hO 2 (by decide) q142 rfl rfl dX0_grafted_31 ?_
      refine r_iload_n G dX0_grafted_34 rfl ?_
      refine s_callF (b := L.a) G [.int (nI jp)] (xM_J2_get hX hP.1 jp hjp) (lw_F q186 q189 q191 q73 q193) (hX.fw 1 _ rfl) fx_1 rfl ⟨Nat.le_of_ble_eq_true rfl, Nat.le_of_ble_eq_true rfl⟩ (fs := [.int L.mc, .ref L.ea, .int (nI L.n)]) hP.1.1 (ci := 2) rfl rfl (Nat.le_of_ble_eq_true rfl) rfl rfl ⟨Nat.zero_le _, Nat.zero_le _⟩ dX0_grafted_35 ?_
      show K f 0 0 40 [some (.ref o), some (.int (nI jp)), some (.int (nI jq)), none] [va_rf ((L.el jp))]
      rw [show va_rf (L.el jp) = .ref (pa jp) from by rw [(hP.2.2.2 jp hjp).1]; rfl]
      refine r_castP hX G (hP.2.2.2 jp hjp).2.2.1 (hP.2.2.2 jp hjp).2.1 q204 dX0_grafted_40 ?_
      refine r_pget G (hP.2.2.2 jp hjp).2.2.1 (he := (hP.2.2.2 jp hjp).2.1) 1 (by decide) q538 pO_g1 dX0_grafted_43 ?_
      refine s_callS G [.int (nI (tw jp))] (sX_X0_least hE (tw jp) (by omega) (Nat.ne_of_gt hpos)) (lw_S q253 q254 q70 q255) fy_yX0_least rfl ⟨Nat.le_of_ble_eq_true rfl, Nat.le_of_ble_eq_true rfl⟩ rfl (Nat.le_of_ble_eq_true rfl) rfl rfl ⟨Nat.zero_le _, Nat.zero_le _⟩ dX0_grafted_46 ?_
      show K f 0 0 49 [some (.ref o), some (.int (nI jp)), some (.int (nI jq)), none] [.int (nI (lst (tw jp)))]
      rw [← hq0]
      show K f 0 0 49 [some (.ref o), some (.int (nI jp)), some (.int (nI jq)), none] [.int (nI q0)]
      refine r_istore_n G (lo' := [some (.ref o), some (.int (nI jp)), some (.int (nI jq)), some (.int (nI q0))]) dX0_grafted_49 rfl rfl ?_
      refine r_aload_n G dX0_grafted_50 rfl ?_
      refine r_getf G xCl1 (fs := [.int tr, .int gr, .ref L.a, .ref rn, .ref lr, .int fa, .ref sh]) hO 2 (by decide) q142 rfl rfl dX0_grafted_51 ?_
      refine r_iload_n G dX0_grafted_54 rfl ?_
      refine s_callF (b := L.a) G [.int (nI q0)] (xM_J2_get hX hP.1 q0 hw) (lw_F q186 q189 q191 q73 q193) (hX.fw 1 _ rfl) fx_1 rfl ⟨Nat.le_of_ble_eq_true rfl, Nat.le_of_ble_eq_true rfl⟩ (fs := [.int L.mc, .ref L.ea, .int (nI L.n)]) hP.1.1 (ci := 2) rfl rfl (Nat.le_of_ble_eq_true rfl) rfl rfl ⟨Nat.zero_le _, Nat.zero_le _⟩ dX0_grafted_55 ?_
      show K f 0 0 60 [some (.ref o), some (.int (nI jp)), some (.int (nI jq)), some (.int (nI q0))] [va_rf ((L.el q0))]
      rw [show va_rf (L.el q0) = .ref (pa q0) from by rw [(hP.2.2.2 q0 hw).1]; rfl]
      refine r_castP hX G (hP.2.2.2 q0 hw).2.2.1 (hP.2.2.2 q0 hw).2.1 q204 dX0_grafted_60 ?_
      refine r_dup G dX0_grafted_63 rfl ?_
      refine r_pget G (hP.2.2.2 q0 hw).2.2.1 (he := (hP.2.2.2 q0 hw).2.1) 1 (by decide) q538 pO_g1 dX0_grafted_64 ?_
      refine r_iconst G (v := nI 1) dX0_grafted_67 (by decide) ?_
      refine r_iload_n G dX0_grafted_68 rfl ?_
      refine r_ishl G (v := (nI (1 <<< jp))) dX0_grafted_69 (n_shl (by omega)) ?_
      refine r_iconst G (v := -1) dX0_grafted_70 (by decide) ?_
      refine r_ixor G (v := (nI (1 <<< jp) ^^^ -1)) dX0_grafted_71 rfl ?_
      refine r_iand G (v := (nI (ndf (tw q0) (1 <<< jp)))) dX0_grafted_72 (n_andn (by have := hP.t8 q0 hw; omega) (Nat.lt_trans (shl1_lt (show jp < 8 by omega)) (by decide))) ?_
      refine r_pput G (hP.2.2.2 q0 hw).2.2.1 (he := (hP.2.2.2 q0 hw).2.1) (hAp q0 hw) 1 (by decide) q538 (f' := fU f (pa q0) (.inr (3 + ((kd q0)), pO ((kd q0)) o (ld q0) (ndf (tw q0) (1 <<< jp)) (lk q0) (tk q0)))) (by rw [pO_s1]) dX0_grafted_73 ?_
      show K (fU f (pa q0) (.inr (3 + ((kd q0)), pO ((kd q0)) o (ld q0) (ndf (tw q0) (1 <<< jp)) (lk q0) (tk q0)))) 0 0 76 [some (.ref o), some (.int (nI jp)), some (.int (nI jq)), some (.int (nI q0))] []
      obtain ⟨f1, hf1⟩ : ∃ z, z = fU f (pa q0) (.inr (3 + ((kd q0)), pO ((kd q0)) o (ld q0) (ndf (tw q0) (1 <<< jp)) (lk q0) (tk q0))) := ⟨_, rfl⟩
      have kf1 := hP.kup (p := q0) hw (.inr (3 + (kd q0), pO (kd q0) o (ld q0) (ndf (tw q0) (1 <<< jp)) (lk q0) (tk q0)))
      have hPn := hP.wrT hw (t' := ndf (tw q0) (1 <<< jp)) (ndf_lt (hP.twl hw))
      rw [← hf1] at kf1 hPn ⊢
      have hO := kf1 _ _ rfl hO
      have hK := kp.tr hK kf1
      have hP := hPn
      refine r_aload_n G dX0_grafted_76 rfl ?_
      refine r_getf G xCl1 (fs := [.int tr, .int gr, .ref L.a, .ref rn, .ref lr, .int fa, .ref sh]) hO 2 (by decide) q142 rfl rfl dX0_grafted_77 ?_
      refine r_iload_n G dX0_grafted_80 rfl ?_
      refine s_callF (b := L.a) G [.int (nI jp)] (xM_J2_get hX hP.1 jp hjp) (lw_F q186 q189 q191 q73 q193) (hX.fw 1 _ rfl) fx_1 rfl ⟨Nat.le_of_ble_eq_true rfl, Nat.le_of_ble_eq_true rfl⟩ (fs := [.int L.mc, .ref L.ea, .int (nI L.n)]) hP.1.1 (ci := 2) rfl rfl (Nat.le_of_ble_eq_true rfl) rfl rfl ⟨Nat.zero_le _, Nat.zero_le _⟩ dX0_grafted_81 ?_
      show K f1 0 0 86 [some (.ref o), some (.int (nI jp)), some (.int (nI jq)), some (.int (nI q0))] [va_rf ((L.el jp))]
      rw [show va_rf (L.el jp) = .ref (pa jp) from by rw [(hP.2.2.2 jp hjp).1]; rfl]
      refine r_castP hX G (hP.2.2.2 jp hjp).2.2.1 (hP.2.2.2 jp hjp).2.1 q204 dX0_grafted_86 ?_
      refine r_iconst G (v := nI 0) dX0_grafted_89 (by decide) ?_
      refine r_pput G (hP.2.2.2 jp hjp).2.2.1 (he := (hP.2.2.2 jp hjp).2.1) (hAp jp hjp) 1 (by decide) q538 (f' := fU f1 (pa jp) (.inr (3 + ((kd jp)), pO ((kd jp)) o (ld jp) 0 (lk jp) (tk jp)))) (by rw [pO_s1]) dX0_grafted_90 ?_
      show K (fU f1 (pa jp) (.inr (3 + ((kd jp)), pO ((kd jp)) o (ld jp) 0 (lk jp) (tk jp)))) 0 0 93 [some (.ref o), some (.int (nI jp)), some (.int (nI jq)), some (.int (nI q0))] []
      obtain ⟨f2, hf2⟩ : ∃ z, z = fU f1 (pa jp) (.inr (3 + ((kd jp)), pO ((kd jp)) o (ld jp) 0 (lk jp) (tk jp))) := ⟨_, rfl⟩
      have kf2 := hP.kup (p := jp) hjp (.inr (3 + (kd jp), pO (kd jp) o (ld jp) 0 (lk jp) (tk jp)))
      have hPn := hP.wrT hjp (Nat.two_pow_pos _)
      rw [← hf2] at kf2 hPn ⊢
      have hO := kf2 _ _ rfl hO
      have hK := kp.tr hK kf2
      have hP := hPn
      rw [hq0, uj_fup (by rw [← hq0]; exact hwn) ht8 h1, ← hq0] at hP
      refine r_aload_n G dX0_grafted_93 rfl ?_
      refine r_iload_n G dX0_grafted_94 rfl ?_
      refine r_iload_n G dX0_grafted_95 rfl ?_
      refine r_callV (b := o) G [.int (nI jp), .int (nI jq)] (xM_X0_joined hX hO hP hAp jp jq hjp hjq hpq) (lw_V q313 q315 qs7 q70 q316) fy_yX0_joined rfl ⟨Nat.le_of_ble_eq_true rfl, Nat.le_of_ble_eq_true rfl⟩ (fs := [.int tr, .int gr, .ref L.a, .ref rn, .ref lr, .int fa, .ref sh]) hO (ci := 1) rfl rfl rfl (Nat.le_of_ble_eq_true rfl) rfl rfl ⟨Nat.zero_le _, Nat.zero_le _⟩ dX0_grafted_96 (fun v96 f96 hp96 => ?_)
      obtain ⟨rfl, hPn, k96⟩ := hp96
      have hO := k96 _ _ rfl hO
      have hK := kp.tr hK k96
      have hP := hPn
      show K f96 0 0 99 [some (.ref o), some (.int (nI jp)), some (.int (nI jq)), some (.int (nI q0))] []
      refine r_iconst G (v := nI 1) dX0_grafted_99 (by decide) ?_
      exact r_zret G rfl (by decide) ⟨Nat.zero_le _, Nat.zero_le _⟩ dX0_grafted_100 ⟨rb (by rw [gok_t q6 (by rw [ejp]; exact h1)]; rfl), by rw [gok_t q6 (by rw [ejp]; exact h1), ejp, ejq]; rw [hq0] at hP; exact hP, hK⟩
    · refine r_iconst G (v := nI 0) dX0_grafted_28 (by decide) ?_
      exact r_zret G rfl (by decide) ⟨Nat.zero_le _, Nat.zero_le _⟩ dX0_grafted_29 ⟨rb (by rw [gok_f (Or.inr (by rw [ejp]; exact of_decide_eq_false h25))]; rfl), by rw [gok_f (Or.inr (by rw [ejp]; exact of_decide_eq_false h25))]; exact hP, hK⟩
end XX16
