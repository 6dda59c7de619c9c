/-! grafts and days: what they do to twigs and loads -/
section DAY
def mEss : List Nat := [2, 3, 4, 7, 8, 9, 18, 19, 24, 25, 26]
/-- the same but for the scalars ks, the arrays xs (and scratch) -/
def mEqX (ks xs : List Nat) (S S' : mS) : Prop := (∀ k, k ∉ ks → k ≠ 10 → k ≠ 11 → S'.1 k = S.1 k) ∧ ∀ a, a ∈ mEss → a ∉ xs → S'.2 a = S.2 a
theorem mEqX.rf (ks xs : List Nat) (S : mS) : mEqX ks xs S S := ⟨fun _ _ _ _ => rfl, fun _ _ _ => rfl⟩
theorem mEqX.tr {ks xs : List Nat} {S S' S'' : mS} (h : mEqX ks xs S S') (h' : mEqX ks xs S' S'') : mEqX ks xs S S'' := ⟨fun k a b c => (h'.1 k a b c).trans (h.1 k a b c), fun a b c => (h'.2 a b c).trans (h.2 a b c)⟩
theorem mEqX.arr {ks xs : List Nat} (S : mS) {k : Nat} (fa : Nat → Int32) (h : k ∈ xs ∨ k ∉ mEss) : mEqX ks xs S (mArr S k fa) := by
  refine ⟨fun _ _ _ _ => rfl, fun a h1 h2 => ?_⟩
  show va_up S.2 k fa a = S.2 a
  unfold va_up
  rw [if_neg]
  rintro rfl
  rcases h with h | h
  · exact h2 h
  · exact h h1
theorem mEqX.put {ks xs : List Nat} (S : mS) {k : Nat} (i : Nat) (x : Int32) (h : k ∈ xs ∨ k ∉ mEss) : mEqX ks xs S (mPut S k i x) := by
  have e := mPut_arr S k (S.2 k) i x
  rw [mArr_0] at e
  rw [e]
  exact mEqX.arr S _ h
theorem mEqX.set {ks xs : List Nat} (S : mS) {k : Nat} (x : Int32) (h : k ∈ ks ∨ k = 10 ∨ k = 11) : mEqX ks xs S (mSet S k x) := by
  refine ⟨fun j h1 h2 h3 => mSet_n S k x ?_, fun _ _ _ => rfl⟩
  rintro rfl
  rcases h with h | h | h
  · exact h1 h
  · exact h2 h
  · exact h3 h
theorem mEqX.up {ks ks' xs xs' : List Nat} {S S' : mS} (h : mEqX ks xs S S') (h1 : ∀ k, k ∈ ks → k ∈ ks') (h2 : ∀ k, k ∈ xs → k ∈ xs') : mEqX ks' xs' S S' := ⟨fun k a b c => h.1 k (fun z => a (h1 k z)) b c, fun a b c => h.2 a b (fun z => c (h2 a z))⟩
theorem mEqX.eq {S S' : mS} (h : mEqX [] [] S S') : mEq S S' := ⟨fun k a b => h.1 k List.not_mem_nil a b, h.2 2 (by decide) List.not_mem_nil, h.2 3 (by decide) List.not_mem_nil, h.2 4 (by decide) List.not_mem_nil, h.2 7 (by decide) List.not_mem_nil, h.2 8 (by decide) List.not_mem_nil, h.2 9 (by decide) List.not_mem_nil, h.2 24 (by decide) List.not_mem_nil, h.2 25 (by decide) List.not_mem_nil, h.2 26 (by decide) List.not_mem_nil⟩
theorem jn_fn {N : Nat} {fa : Nat → Int32} {tn : Nat → Nat} {a b : Nat} (h : ∀ p, p < N → fa p = nI (tn p)) {p : Nat} (hp : p < N) : upd (upd fa a (nI (tn a ||| 1 <<< b))) b (nI (tn b ||| 1 <<< a)) p = nI (jn tn a b p) := by
  unfold jn
  by_cases h1 : p = b
  · subst h1
    rw [pk_us, if_pos rfl]
  · rw [pk_un h1, if_neg h1]
    by_cases h2 : p = a
    · subst h2
      rw [pk_us, if_pos rfl]
    · rw [pk_un h2, if_neg h2, h p hp]
theorem uj_fn {N : Nat} {fa : Nat → Int32} {tn : Nat → Nat} {a b : Nat} (h : ∀ p, p < N → fa p = nI (tn p)) {p : Nat} (hp : p < N) : upd (upd fa a (nI (ndf (tn a) (1 <<< b)))) b (nI (ndf (tn b) (1 <<< a))) p = nI (uj tn a b p) := by
  unfold uj
  by_cases h1 : p = b
  · subst h1
    rw [pk_us, if_pos rfl]
  · rw [pk_un h1, if_neg h1]
    by_cases h2 : p = a
    · subst h2
      rw [pk_us, if_pos rfl]
    · rw [pk_un h2, if_neg h2, h p hp]
/-- the array behind a graft -/
def gfa (fa : Nat → Int32) (tw : Nat → Nat) (p q : Nat) : Nat → Int32 := upd (upd (upd (upd fa p (nI (ndf (tw p) (1 <<< lst (tw p))))) (lst (tw p)) (nI (ndf (tw (lst (tw p))) (1 <<< p)))) p (nI (uj tw p (lst (tw p)) p ||| 1 <<< q))) q (nI (uj tw p (lst (tw p)) q ||| 1 <<< p))
theorem gfa_fn {N : Nat} {fa : Nat → Int32} {tw : Nat → Nat} {p q : Nat} (h : ∀ p, p < N → fa p = nI (tw p)) {x : Nat} (hx : x < N) : gfa fa tw p q x = nI (grf tw p q x) := jn_fn (fun y hy => uj_fn h hy) hx
theorem mV_gf {S : mS} {n : Nat} {tw kd ld : Nat → Nat} {d : Nat → Nat → Nat} (hV : mV S n tw kd ld) (T : TM n tw d) {p q : Nat} (hp : p < n) (hq : q < n) (hpq : p ≠ q) (h1 : cnt (tw p) = 1) {S' : mS} (e5 : S'.1 5 = S.1 5) (e7 : S'.2 7 = gfa (S.2 7) tw p q) (e8 : S'.2 8 = S.2 8) (e9 : S'.2 9 = S.2 9) : mV S' n (grf tw p q) kd ld :=
  ⟨e5.trans hV.1, hV.2.1, fun x hx => ⟨by rw [e7]; exact gfa_fn (fun y hy => hV.tw hy) hx, (T.graft hV.2.1 hp hq hpq h1).lt hx, by rw [e8]; exact hV.kd hx, hV.k2 hx, by rw [e9]; exact hV.ld hx, hV.l9 hx⟩⟩
def graftOk (n : Nat) (tw : Nat → Nat) (p q : Int32) : Bool := isP n p && isP n q && !decide (p = q) && decide (cnt (tw (ix p)) = 1)
def aGraft (n : Nat) (tw : Nat → Nat) (p q : Int32) : Int32 := if isP n p && isP n q && !decide (p = q) then (if cnt (tw (ix p)) = 1 then nI (lst (tw (ix p))) else -3) else -1
/-- a day's pair -/
def doOk (n : Nat) (tw : Nat → Nat) (a c : Int32) : Bool := if nI 10 ≤ c then isP n (c - nI 10) else graftOk n tw a c
def doT (n : Nat) (tw : Nat → Nat) (a c : Int32) : Nat → Nat := if nI 10 ≤ c then tw else if graftOk n tw a c then grf tw (ix a) (ix c) else tw
def doL (n : Nat) (ld : Nat → Nat) (a c : Int32) : Nat → Nat := if nI 10 ≤ c then (if isP n (c - nI 10) then fup ld (ix (c - nI 10)) (ix a) else ld) else ld
theorem doT_tm {n : Nat} {tw : Nat → Nat} (hn8 : n ≤ 8) (h : ∃ d, TM n tw d) (a c : Int32) : ∃ d, TM n (doT n tw a c) d := by
  unfold doT
  split
  · exact h
  · split
    · rename_i hge h2
      unfold graftOk at h2
      simp only [Bool.and_eq_true, Bool.not_eq_true', decide_eq_true_eq, decide_eq_false_iff_not] at h2
      obtain ⟨⟨⟨ha, hc⟩, hne⟩, h1⟩ := h2
      obtain ⟨j, hj, rfl⟩ := isP_t (by omega) ha
      obtain ⟨k, hk, rfl⟩ := isP_t (by omega) hc
      rw [ix_nI (show j < 2 ^ 31 by omega)] at h1 ⊢
      rw [ix_nI (show k < 2 ^ 31 by omega)]
      obtain ⟨d, T⟩ := h
      exact ⟨_, T.graft hn8 hj hk (fun z => hne (by rw [z])) h1⟩
    · exact h
/-- the pairs of a day, from the k-th on -/
def dgo (n : Nat) (c : Nat → Int32) : Nat → Nat → (Nat → Nat) × (Nat → Nat) → Option Nat × (Nat → Nat) × (Nat → Nat)
  | 0, _, s => (none, s)
  | m + 1, k, s => if doOk n s.1 (c (2 * k)) (c (2 * k + 1)) then dgo n c m (k + 1) (doT n s.1 (c (2 * k)) (c (2 * k + 1)), doL n s.2 (c (2 * k)) (c (2 * k + 1))) else (some k, s)
/-- what is wrong with a pair; 0: nothing -/
def pRef (n : Nat) (a c : Int32) : Int32 := if (!wi c (nI 0) (nI 7) && !wi c (nI 10) (nI 17)) || (wi c (nI 10) (nI 17) && !wi a (nI 0) (nI 9)) then -2 else if !wi c (nI 10) (nI 17) && !isP n a then -1 else 0
theorem pRef_0 {n : Nat} {a c : Int32} (h : pRef n a c = 0) (hc : nI 10 ≤ c) : ∃ v, v ≤ 9 ∧ a = nI v := by
  unfold pRef at h
  by_cases h1 : ((!wi c (nI 0) (nI 7) && !wi c (nI 10) (nI 17)) || (wi c (nI 10) (nI 17) && !wi a (nI 0) (nI 9))) = true
  · rw [if_pos h1] at h; exact absurd h (by decide)
  · rw [Bool.or_eq_true, Bool.and_eq_true, Bool.and_eq_true, Bool.not_eq_true', Bool.not_eq_true', Bool.not_eq_true'] at h1
    cases h3 : wi a (nI 0) (nI 9) with
    | true =>
      obtain ⟨j, -, hj, e⟩ := wi_t (by decide) (by decide) h3
      exact ⟨j, hj, e⟩
    | false =>
      cases h2 : wi c (nI 10) (nI 17) with
      | true => exact absurd (Or.inr ⟨h2, h3⟩) h1
      | false =>
        cases h4 : wi c (nI 0) (nI 7) with
        | false => exact absurd (Or.inl ⟨h4, h2⟩) h1
        | true =>
          obtain ⟨j, -, hj, rfl⟩ := wi_t (by decide) (by decide) h4
          have := (nI_leI (by decide) (by omega)).mp hc
          omega
/-- what a day tells of the vine that it made -/
def aTell (n : Nat) (tw kd ld : Nat → Nat) (d : Nat → Nat → Nat) (what : Int32) : Int32 := if nI 10 ≤ what then (if isP n (what - nI 10) then nI (tw (ix (what - nI 10))) else -9) else if what = nI 0 then nI (maxN n fun p => maxN n (d p)) else if what = nI 2 then nI (rnum n tw (n - 2)) else if what = nI 3 then nI (lvs n tw) else nI (ws n kd ld (2 ^ n - 1))
end DAY
