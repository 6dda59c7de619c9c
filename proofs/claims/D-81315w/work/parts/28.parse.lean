/-! a text read: where it fails, what it says -/
section PARSE
def okD (c : Nat → Int32) (m a lo hi : Nat) : Bool := decide (a < m) && wi (c a) (nI (48 + lo)) (nI (48 + hi))
def okK (c : Nat → Int32) (m a : Nat) : Bool := decide (a < m) && (decide (c a = nI 112) || decide (c a = nI 98) || decide (c a = nI 100))
def kdv (x : Int32) : Nat := if x = nI 112 then 0 else if x = nI 98 then 1 else 2
def dgv (x : Int32) : Nat := ix x - 48
theorem okD_t {c : Nat → Int32} {m a lo hi : Nat} (hl : lo < 1000) (hh : hi < 1000) (h : okD c m a lo hi = true) : a < m ∧ ∃ v, lo ≤ v ∧ v ≤ hi ∧ c a = nI (48 + v) ∧ dgv (c a) = v := by
  unfold okD at h
  rw [Bool.and_eq_true, decide_eq_true_eq] at h
  obtain ⟨j, h1, h2, h3⟩ := wi_t (by omega) (by omega) h.2
  refine ⟨h.1, j - 48, by omega, by omega, by rw [h3]; congr 1; omega, ?_⟩
  unfold dgv
  rw [h3, ix_nI (by omega)]
/-- how many posts, their row, kinds, loads -/
def pN (c : Nat → Int32) : Nat := dgv (c 1)
def pRw (c : Nat → Int32) : Nat → Nat := fun k => dgv (c (2 + k))
def pKd (c : Nat → Int32) : Nat → Nat := fun p => kdv (c (pN c + 2 * p))
def pLd (c : Nat → Int32) : Nat → Nat := fun p => dgv (c (pN c + 2 * p + 1))
def pEnd (c : Nat → Int32) (m : Nat) : Option Nat := match fstN (pN c) (fun p => !(okK c m (pN c + 2 * p) && okD c m (pN c + 2 * p + 1) 0 9)) with
  | some p => some (if okK c m (pN c + 2 * p) then pN c + 2 * p + 1 else pN c + 2 * p)
  | none => if 3 * pN c = m then none else some (3 * pN c)
/-- where it fails -/
def pF (c : Nat → Int32) (m : Nat) : Option Nat := if decide (0 < m) && decide (c 0 = nI 118) then (if okD c m 1 2 8 then (match fstN (pN c - 2) (fun k => !okD c m (2 + k) 0 (pN c - 1)) with
  | some k => some (2 + k)
  | none => pEnd c m) else some 1) else some 0
theorem pF_le {c : Nat → Int32} {m f : Nat} (h : pF c m = some f) : f ≤ 30 := by
  unfold pF at h
  split at h
  · split at h
    · rename_i h1 h2
      obtain ⟨-, v, hv1, hv2, -, hv⟩ := okD_t (by decide) (by decide) h2
      have hN : pN c ≤ 8 := by unfold pN; omega
      split at h
      · rename_i k hk
        have := (List.find?_range_eq_some.mp hk).2.1
        rw [List.mem_range] at this
        cases h
        omega
      · unfold pEnd at h
        split at h
        · rename_i p hp
          have := (List.find?_range_eq_some.mp hp).2.1
          rw [List.mem_range] at this
          split at h <;> cases h <;> omega
        · split at h <;> cases h
          omega
    · cases h; decide
  · cases h; decide
/-- a text without fault: its vine is one -/
theorem pF_ok {c : Nat → Int32} {m : Nat} (h : pF c m = none) : 2 ≤ pN c ∧ pN c ≤ 8 ∧ (∀ q, q < pN c - 2 → pRw c q < pN c) ∧ ∀ p, p < pN c → pKd c p ≤ 2 ∧ pLd c p ≤ 9 := by
  unfold pF at h
  split at h
  · split at h
    · rename_i h1 h2
      obtain ⟨-, v, hv1, hv2, -, hv⟩ := okD_t (by decide) (by decide) h2
      have hN : pN c = v := hv
      split at h
      · cases h
      · rename_i hr
        unfold pEnd at h
        split at h
        · cases h
        · rename_i hp
          have hr1 := List.find?_eq_none.mp hr
          have hp1 := List.find?_eq_none.mp hp
          refine ⟨by omega, by omega, fun q hq => ?_, fun p hp2 => ⟨?_, ?_⟩⟩
          · have h3 := hr1 q (List.mem_range.mpr hq)
            rw [Bool.not_eq_true', Bool.not_eq_false] at h3
            obtain ⟨-, w, -, hw, -, e⟩ := okD_t (by omega) (by omega) h3
            unfold pRw
            omega
          · unfold pKd kdv
            split
            · decide
            · split <;> decide
          · have h3 := hp1 p (List.mem_range.mpr hp2)
            rw [Bool.not_eq_true', Bool.not_eq_false, Bool.and_eq_true] at h3
            obtain ⟨-, w, -, hw, -, e⟩ := okD_t (by omega) (by omega) h3.2
            unfold pLd
            omega
    · cases h
  · cases h
def aVine (so sl : Nat → Nat) (sc : Nat → Nat → Int32) (sh sort i n : Int32) : Int32 × Int32 :=
  if wi sh (nI 0) (nI 3) then
    if wi sort (nI 0) (nI 2) then
      if agn (soI (so (ix sh))) (sl (ix sh)) sort i n = 0 then
        match pF (fun j => sc (ix sh) (ix i + j)) (ix n) with
        | none => (nI (pN fun j => sc (ix sh) (ix i + j)), 0)
        | some f => (-100 - nI f, 0)
      else (-10 - nI (agn (soI (so (ix sh))) (sl (ix sh)) sort i n), nI (agn (soI (so (ix sh))) (sl (ix sh)) sort i n))
    else (-2, 0)
  else (-1, 0)
def vnOk (so sl : Nat → Nat) (sc : Nat → Nat → Int32) (sh sort i n : Int32) : Bool := wi sh (nI 0) (nI 3) && wi sort (nI 0) (nI 2) && decide (agn (soI (so (ix sh))) (sl (ix sh)) sort i n = 0) && decide (pF (fun j => sc (ix sh) (ix i + j)) (ix n) = none)
/-- the reference while it reads: the place, the number, the row, kinds, loads -/
def rS (S : mS) (x r : Int32) (fr fk fl : Nat → Int32) : mS := (fun k => if k = 10 then x else if k = 11 then r else S.1 k, fun k => if k = 12 then fr else if k = 13 then fk else if k = 14 then fl else S.2 k)
theorem rS_0 (S : mS) : rS S (S.1 10) (S.1 11) (S.2 12) (S.2 13) (S.2 14) = S := by
  unfold rS
  refine Prod.ext ?_ ?_
  · funext k
    dsimp only
    split
    · rename_i h; rw [h]
    · split
      · rename_i h; rw [h]
      · rfl
  · funext k
    dsimp only
    split
    · rename_i h; rw [h]
    · split
      · rename_i h; rw [h]
      · split
        · rename_i h; rw [h]
        · rfl
theorem rS_10 (S : mS) (x r y : Int32) (fr fk fl : Nat → Int32) : mSet (rS S x r fr fk fl) 10 y = rS S y r fr fk fl := by
  unfold mSet rS va_up
  refine Prod.ext ?_ rfl
  funext k
  dsimp only
  split <;> rfl
theorem rS_11 (S : mS) (x r y : Int32) (fr fk fl : Nat → Int32) : mSet (rS S x r fr fk fl) 11 y = rS S x y fr fk fl := by
  unfold mSet rS va_up
  refine Prod.ext ?_ rfl
  funext k
  dsimp only
  by_cases h : k = 10
  · subst h; rfl
  · rw [if_neg h, if_neg h]
    split <;> rfl
theorem rS_12 (S : mS) (x r y : Int32) (fr fk fl : Nat → Int32) (i : Nat) : mPut (rS S x r fr fk fl) 12 i y = rS S x r (upd fr i y) fk fl := by
  unfold mPut rS va_up
  refine Prod.ext rfl ?_
  funext k
  dsimp only
  split <;> rfl
theorem rS_13 (S : mS) (x r y : Int32) (fr fk fl : Nat → Int32) (i : Nat) : mPut (rS S x r fr fk fl) 13 i y = rS S x r fr (upd fk i y) fl := by
  unfold mPut rS va_up
  refine Prod.ext rfl ?_
  funext k
  dsimp only
  by_cases h : k = 12
  · subst h; rfl
  · rw [if_neg h, if_neg h]
    split <;> rfl
theorem rS_14 (S : mS) (x r y : Int32) (fr fk fl : Nat → Int32) (i : Nat) : mPut (rS S x r fr fk fl) 14 i y = rS S x r fr fk (upd fl i y) := by
  unfold mPut rS va_up
  refine Prod.ext rfl ?_
  funext k
  dsimp only
  by_cases h : k = 12
  · subst h; rfl
  · rw [if_neg h, if_neg h]
    by_cases h2 : k = 13
    · subst h2; rfl
    · rw [if_neg h2, if_neg h2]
      split <;> rfl
theorem cp_nat {a b : Nat} {i j n : Int32} (ha : a ≤ 60) (hb : b ≤ 60) (h1 : ¬ i < 0) (h2 : ¬ j < 0) (h3 : ¬ n < 0) (h4 : ¬ nI a < i) (h5 : ¬ nI b < j) (h6 : ¬ nI a - i < n) (h7 : ¬ nI b - j < n) : ∃ x y z, i = nI x ∧ j = nI y ∧ n = nI z ∧ x + z ≤ a ∧ y + z ≤ b := by
  obtain ⟨x, hx, rfl⟩ := nI_of h1
  obtain ⟨y, hy, rfl⟩ := nI_of h2
  obtain ⟨z, hz, rfl⟩ := nI_of h3
  have h4' : x ≤ a := by
    rcases Nat.lt_or_ge a x with q | q
    · exact absurd ((nI_ltI (by omega) hx).mpr q) h4
    · exact q
  have h5' : y ≤ b := by
    rcases Nat.lt_or_ge b y with q | q
    · exact absurd ((nI_ltI (by omega) hy).mpr q) h5
    · exact q
  rw [pk_sub h4'] at h6
  rw [pk_sub h5'] at h7
  refine ⟨x, y, z, rfl, rfl, rfl, ?_, ?_⟩
  · rcases Nat.lt_or_ge (a - x) z with q | q
    · exact absurd ((nI_ltI (by omega) hz).mpr q) h6
    · omega
  · rcases Nat.lt_or_ge (b - y) z with q | q
    · exact absurd ((nI_ltI (by omega) hz).mpr q) h7
    · omega
end PARSE
