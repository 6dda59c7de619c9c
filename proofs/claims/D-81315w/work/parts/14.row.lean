/-! the row: leaves taken away, the least first -/
section ROWX
theorem max_ex : ∀ (n : Nat) (P : Nat → Prop) (f : Nat → Nat), (∃ p, p < n ∧ P p) → ∃ p, p < n ∧ P p ∧ ∀ q, q < n → P q → f q ≤ f p := by
  intro n
  induction n with
  | zero => rintro P f ⟨p, hp, -⟩; omega
  | succ n ih =>
    rintro P f ⟨p, hp, h⟩
    by_cases hex : ∃ p, p < n ∧ P p
    · obtain ⟨q, hq, h1, h2⟩ := ih P f hex
      by_cases hn : P n ∧ f q < f n
      · refine ⟨n, by omega, hn.1, fun r hr hP => ?_⟩
        by_cases e : r = n
        · subst e; exact Nat.le_refl _
        · have := h2 r (by omega) hP; omega
      · refine ⟨q, by omega, h1, fun r hr hP => ?_⟩
        by_cases e : r = n
        · subst e
          rcases Nat.lt_or_ge (f q) (f r) with a | a
          · exact absurd ⟨hP, a⟩ hn
          · exact a
        · exact h2 r (by omega) hP
    · have e : p = n := by
        rcases Nat.lt_or_ge p n with a | a
        · exact absurd ⟨p, a, h⟩ hex
        · omega
      subst e
      refine ⟨p, hp, h, fun r hr hP => ?_⟩
      by_cases e : r = p
      · subst e; exact Nat.le_refl _
      · exact absurd ⟨r, by omega, hP⟩ hex
theorem cnt_ndf : ∀ s, s < 256 → ∀ p, p < 8 → s.testBit p = true → cnt (ndf s (1 <<< p)) + 1 = cnt s := by decide +kernel
theorem cnt_one : ∀ s, s < 256 → cnt s = 1 → s = 1 <<< lst s := by decide +kernel
theorem cnt_shl : ∀ k, k < 8 → cnt (1 <<< k) = 1 := by decide +kernel
theorem lst_shl : ∀ k, k < 8 → lst (1 <<< k) = k := by decide +kernel
theorem cnt_two : ∀ s, s < 256 → 2 ≤ cnt s → ∃ b, b < 8 ∧ b ≠ lst s ∧ s.testBit b = true := by decide +kernel
theorem cnt_full : ∀ n, n < 9 → cnt (2 ^ n - 1) = n := by decide +kernel
theorem cnt_0 : ∀ s, s < 256 → cnt s = 0 → s = 0 := by decide +kernel
/-- the one member of a set that has one -/
theorem cnt1_bit {s i : Nat} (h : s < 256) (h1 : cnt s = 1) : s.testBit i = decide (i = lst s) := by
  have e := cnt_one s h h1
  rw [show s.testBit i = (1 <<< lst s).testBit i from by rw [← e], shl1_bit]
def lsv (tw : Nat → Nat) (L q : Nat) : Nat := if L.testBit q then tw q &&& L else 0
def lf (n : Nat) (tw : Nat → Nat) (L : Nat) : Nat := lst (setN n fun p => L.testBit p && decide (cnt (tw p &&& L) = 1))
def lft (n : Nat) (tw : Nat → Nat) : Nat → Nat
  | 0 => 2 ^ n - 1
  | k + 1 => ndf (lft n tw k) (1 <<< lf n tw (lft n tw k))
def rwv (n : Nat) (tw : Nat → Nat) (k : Nat) : Nat := lst (tw (lf n tw (lft n tw k)) &&& lft n tw k)
def Cvx (n : Nat) (d : Nat → Nat → Nat) (L : Nat) : Prop := L < 2 ^ n ∧ ∀ a b, L.testBit a = true → L.testBit b = true → a ≠ b → ∃ c, L.testBit c = true ∧ d a c = 1 ∧ d c b + 1 = d a b
variable {n : Nat} {tw : Nat → Nat} {d : Nat → Nat → Nat} {L : Nat}
theorem Cvx.lt (C : Cvx n d L) {a : Nat} (h : L.testBit a = true) : a < n := tb_lt C.1 h
theorem Cvx.full (T : TM n tw d) : Cvx n d (2 ^ n - 1) := by
  refine ⟨by have := Nat.two_pow_pos n; omega, fun a b ha hb hab => ?_⟩
  rw [full_bit, decide_eq_true_eq] at ha hb
  obtain ⟨c, hc, h1, h2, -⟩ := T.nx ha hb hab
  exact ⟨c, by rw [full_bit]; exact decide_eq_true hc, h1, h2⟩
theorem Cvx.leaf (T : TM n tw d) (hn8 : n ≤ 8) (C : Cvx n d L) (h2 : 2 ≤ cnt L) : ∃ p, p < n ∧ L.testBit p = true ∧ cnt (tw p &&& L) = 1 := by
  have hL : L < 256 := Nat.lt_of_lt_of_le C.1 (pow_n8 hn8)
  have hL0 : 0 < L := by
    rcases Nat.eq_zero_or_pos L with e | e
    · subst e; exact absurd h2 (by decide)
    · exact e
  have ha := lst_bit L hL hL0
  have han := C.lt ha
  obtain ⟨p, hp, hpL, hmax⟩ := max_ex n (fun p => L.testBit p = true) (d (lst L)) ⟨_, han, ha⟩
  obtain ⟨b, hb8, hbne, hb⟩ := cnt_two L hL h2
  have hpa : p ≠ lst L := by
    intro e
    have := hmax b (C.lt hb) hb
    rw [e, T.d0 han] at this
    have := (T.z han (C.lt hb)).mp (by omega)
    exact hbne this.symm
  obtain ⟨c, hcL, hc1, hc2⟩ := C.2 p _ hpL ha hpa
  have hcn := C.lt hcL
  refine ⟨p, hp, hpL, ?_⟩
  have e : tw p &&& L = 1 <<< c := set_ext fun i => by
    rw [Nat.testBit_and, shl1_bit, Bool.eq_iff_iff, Bool.and_eq_true, decide_eq_true_eq]
    constructor
    · rintro ⟨h1, h3⟩
      have hi := C.lt h3
      have h4 := (T.adj hp hi).mp h1
      obtain ⟨x, hx, x1, x2, x3⟩ := T.nx hp han hpa
      have hcx : c = x := by
        rcases Classical.em (c = x) with q | q
        · exact q
        · have := x3 c hcn hc1 q; omega
      rcases Classical.em (i = x) with q | q
      · rw [q, hcx]
      · have h5 := x3 i hi h4 q
        have h6 := hmax i hi h3
        rw [T.s han hi, T.s han hp] at h6
        omega
    · rintro rfl
      exact ⟨(T.adj hp hcn).mpr hc1, hcL⟩
  rw [e]
  exact cnt_shl c (by omega)
theorem lf_ok (T : TM n tw d) (hn8 : n ≤ 8) (C : Cvx n d L) (h2 : 2 ≤ cnt L) : L.testBit (lf n tw L) = true ∧ cnt (tw (lf n tw L) &&& L) = 1 ∧ lf n tw L < n := by
  obtain ⟨p, hp, h1, h3⟩ := C.leaf T hn8 h2
  have hb := lst_bit (setN n fun p => L.testBit p && decide (cnt (tw p &&& L) = 1)) (Nat.lt_of_lt_of_le (setN_lt n _) (pow_n8 hn8)) (by
    rcases Nat.eq_zero_or_pos (setN n fun p => L.testBit p && decide (cnt (tw p &&& L) = 1)) with e | e
    · have : (setN n fun p => L.testBit p && decide (cnt (tw p &&& L) = 1)).testBit p = true := by
        rw [setN_bit, h1, decide_eq_true h3, decide_eq_true hp]; rfl
      rw [e, Nat.zero_testBit] at this
      cases this
    · exact e)
  rw [setN_bit, Bool.and_eq_true, Bool.and_eq_true, decide_eq_true_eq, decide_eq_true_eq] at hb
  exact ⟨hb.2.1, hb.2.2, hb.1⟩
theorem lf_min (hn8 : n ≤ 8) {p : Nat} (hp : p < n) (h1 : L.testBit p = true) (h3 : cnt (tw p &&& L) = 1) : lf n tw L ≤ p :=
  lst_min _ (Nat.lt_of_lt_of_le (setN_lt n _) (pow_n8 hn8)) p (by omega) (by rw [setN_bit, h1, decide_eq_true h3, decide_eq_true hp]; rfl)
theorem Cvx.next (T : TM n tw d) (hn8 : n ≤ 8) (C : Cvx n d L) {p : Nat} (hp : L.testBit p = true) (h1 : cnt (tw p &&& L) = 1) : Cvx n d (ndf L (1 <<< p)) := by
  have bit : ∀ i, (ndf L (1 <<< p)).testBit i = true ↔ L.testBit i = true ∧ i ≠ p := fun i => by
    rw [ndf_bit, shl1_bit, Bool.and_eq_true, Bool.not_eq_true', decide_eq_false_iff_not]
  refine ⟨Nat.lt_of_le_of_lt (ndf_le _ _) C.1, fun a b ha' hb' hab => ?_⟩
  obtain ⟨ha, hap⟩ := (bit a).mp ha'
  obtain ⟨hb, hbp⟩ := (bit b).mp hb'
  clear ha' hb'
  obtain ⟨c, hc, c1, c2⟩ := C.2 a b ha hb hab
  refine ⟨c, (bit c).mpr ⟨hc, fun e => ?_⟩, c1, c2⟩
  subst e
  have han := C.lt ha
  have hbn := C.lt hb
  have hcn := C.lt hc
  obtain ⟨x, hx, x1, x2⟩ := C.2 c b hc hb (Ne.symm hbp)
  have hxn := C.lt hx
  have hs : tw c &&& L < 256 := and_lt_r (Nat.lt_of_lt_of_le C.1 (pow_n8 hn8))
  have m1 : (tw c &&& L).testBit a = true := by
    rw [Nat.testBit_and, (T.adj hcn han).mpr (by rw [T.s hcn han]; exact c1), ha]; rfl
  have m2 : (tw c &&& L).testBit x = true := by
    rw [Nat.testBit_and, (T.adj hcn hxn).mpr x1, hx]; rfl
  rw [cnt1_bit hs h1, decide_eq_true_eq] at m1 m2
  rw [m1, ← m2] at c2
  omega
theorem lft_ok (T : TM n tw d) (hn8 : n ≤ 8) : ∀ k, k + 1 ≤ n → Cvx n d (lft n tw k) ∧ cnt (lft n tw k) = n - k := by
  intro k
  induction k with
  | zero => intro _; exact ⟨Cvx.full T, cnt_full n (by omega)⟩
  | succ k ih =>
    intro hk
    obtain ⟨C, hc⟩ := ih (by omega)
    obtain ⟨h1, h2, h3⟩ := lf_ok T hn8 C (by omega)
    refine ⟨C.next T hn8 h1 h2, ?_⟩
    have := cnt_ndf (lft n tw k) (Nat.lt_of_lt_of_le C.1 (pow_n8 hn8)) (lf n tw (lft n tw k)) (by omega) h1
    show cnt (ndf _ _) = _
    omega
/-- where the leaf hangs -/
theorem rwv_ok (T : TM n tw d) (hn8 : n ≤ 8) {k : Nat} (hk : k + 2 ≤ n) : (lft n tw k).testBit (rwv n tw k) = true ∧ (tw (lf n tw (lft n tw k))).testBit (rwv n tw k) = true ∧ rwv n tw k < n ∧ rwv n tw k ≠ lf n tw (lft n tw k) := by
  obtain ⟨C, hc⟩ := lft_ok T hn8 k (by omega)
  obtain ⟨h1, h2, h3⟩ := lf_ok T hn8 C (by omega)
  have hs : tw (lf n tw (lft n tw k)) &&& lft n tw k < 256 := and_lt_r (Nat.lt_of_lt_of_le C.1 (pow_n8 hn8))
  have hb : (tw (lf n tw (lft n tw k)) &&& lft n tw k).testBit (rwv n tw k) = true := by
    rw [cnt1_bit hs h2]; exact decide_eq_true rfl
  rw [Nat.testBit_and, Bool.and_eq_true] at hb
  refine ⟨hb.2, hb.1, C.lt hb.2, fun e => ?_⟩
  have := (T.adj h3 (C.lt hb.2)).mp hb.1
  rw [e, T.d0 h3] at this
  omega
/-- the less array goes on -/
theorem lsv_next (T : TM n tw d) (hn8 : n ≤ 8) {k : Nat} (hk : k + 2 ≤ n) {q : Nat} (hq : q < n) : lsv tw (lft n tw (k + 1)) q = if q = lf n tw (lft n tw k) then 0 else if q = rwv n tw k then ndf (lsv tw (lft n tw k) q) (1 <<< lf n tw (lft n tw k)) else lsv tw (lft n tw k) q := by
  obtain ⟨C, hc⟩ := lft_ok T hn8 k (by omega)
  obtain ⟨h1, h2, h3⟩ := lf_ok T hn8 C (by omega)
  obtain ⟨r1, r2, r3, r4⟩ := rwv_ok T hn8 hk
  have hs : tw (lf n tw (lft n tw k)) &&& lft n tw k < 256 := and_lt_r (Nat.lt_of_lt_of_le C.1 (pow_n8 hn8))
  generalize hp : lf n tw (lft n tw k) = p at *
  have bit : ∀ i, (lft n tw (k + 1)).testBit i = ((lft n tw k).testBit i && !decide (i = p)) := fun i => by
    show (ndf (lft n tw k) (1 <<< lf n tw (lft n tw k))).testBit i = _
    rw [hp, ndf_bit, shl1_bit]
  by_cases hqp : q = p
  · rw [if_pos hqp, lsv, if_neg]
    rw [bit, decide_eq_true hqp]
    simp
  · rw [if_neg hqp]
    by_cases hqL : (lft n tw k).testBit q = true
    · have hq1 : (lft n tw (k + 1)).testBit q = true := by
        rw [bit, hqL, decide_eq_false hqp]; rfl
      rw [lsv, if_pos hq1, lsv, if_pos hqL]
      by_cases hqr : q = rwv n tw k
      · rw [if_pos hqr]
        refine set_ext fun i => ?_
        rw [ndf_bit, Nat.testBit_and, Nat.testBit_and, bit, shl1_bit, Bool.and_assoc]
      · rw [if_neg hqr]
        refine set_ext fun i => ?_
        rw [Nat.testBit_and, Nat.testBit_and, bit]
        by_cases hip : i = p
        · subst hip
          have hno : (tw q).testBit i = false := by
            cases hb : (tw q).testBit i with
            | false => rfl
            | true =>
              have h5 : (tw i &&& lft n tw k).testBit q = true := by
                rw [Nat.testBit_and, hqL, (T.adj h3 hq).mpr (by rw [T.s h3 hq]; exact (T.adj hq h3).mp hb)]; rfl
              rw [cnt1_bit hs h2, decide_eq_true_eq] at h5
              refine absurd (h5.trans ?_) hqr
              show lst (tw i &&& lft n tw k) = rwv n tw k
              rw [rwv, hp]
          rw [hno]; rfl
        · rw [decide_eq_false hip]
          simp
    · rw [lsv, if_neg (by rw [bit]; simp [hqL]), lsv, if_neg hqL]
      by_cases hqr : q = rwv n tw k
      · rw [hqr] at hqL; exact absurd r1 hqL
      · rw [if_neg hqr]
theorem lsv_lt (C : Cvx n d L) (hn8 : n ≤ 8) (q : Nat) : lsv tw L q < 256 := by
  unfold lsv
  split
  · exact and_lt_r (Nat.lt_of_lt_of_le C.1 (pow_n8 hn8))
  · decide
theorem lsv_full (T : TM n tw d) {q : Nat} (hq : q < n) : lsv tw (2 ^ n - 1) q = tw q := by
  unfold lsv
  rw [if_pos (by rw [full_bit]; exact decide_eq_true hq), Nat.and_two_pow_sub_one_eq_mod, Nat.mod_eq_of_lt (T.lt hq)]
/-- a post with one in the less array is the leaf or lies behind it -/
theorem lsv_one (hn8 : n ≤ 8) {p : Nat} (hp : p < n) (hp2 : p ≤ lf n tw L) (h : cnt (lsv tw L p) = 1) : p = lf n tw L := by
  unfold lsv at h
  by_cases hL : L.testBit p = true
  · rw [if_pos hL] at h
    exact Nat.le_antisymm hp2 (lf_min hn8 hp hL h)
  · rw [if_neg hL] at h
    exact absurd h (by decide)
theorem lsv_not (T : TM n tw d) (hn8 : n ≤ 8) (C : Cvx n d L) (h2 : 2 ≤ cnt L) {p : Nat} (hp2 : p ≤ lf n tw L) (h : ¬ cnt (lsv tw L p) = 1) : p + 1 ≤ lf n tw L := by
  obtain ⟨h1, h3, -⟩ := lf_ok T hn8 C h2
  rcases Nat.lt_or_ge p (lf n tw L) with q | q
  · exact q
  · have e : p = lf n tw L := by omega
    rw [e, lsv, if_pos h1] at h
    exact absurd h3 h
theorem lsv_lf (T : TM n tw d) (hn8 : n ≤ 8) (C : Cvx n d L) (h2 : 2 ≤ cnt L) : lsv tw L (lf n tw L) = tw (lf n tw L) &&& L := by
  obtain ⟨h1, -, -⟩ := lf_ok T hn8 C h2
  rw [lsv, if_pos h1]
end ROWX
