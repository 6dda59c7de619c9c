/-! sheets, days: the answers -/
section DAYS
def soI (s : Nat) : Int32 := if s = 3 then -9 else nI s
/-- the reference's sheets: lanes so (3: none), lengths sl, cells sc -/
def mSh (S : mS) (so sl : Nat → Nat) (sc : Nat → Nat → Int32) : Prop := ∀ k, k < 4 → S.2 2 k = soI (so k) ∧ so k ≤ 3 ∧ S.2 3 k = nI (sl k) ∧ sl k ≤ 60 ∧ ∀ i, i < 60 → S.2 4 (60 * k + i) = sc k i
theorem mSh.mv {S S' : mS} {so sl : Nat → Nat} {sc : Nat → Nat → Int32} (h : mSh S so sl sc) (h2 : S'.2 2 = S.2 2) (h3 : S'.2 3 = S.2 3) (h4 : S'.2 4 = S.2 4) : mSh S' so sl sc := by
  intro k hk
  rw [h2, h3, h4]
  exact h k hk
/-- the metric of a vine -/
noncomputable def dm (n : Nat) (tw : Nat → Nat) : Nat → Nat → Nat := Classical.epsilon fun d => TM n tw d
theorem dm_ok {n : Nat} {tw : Nat → Nat} (h : ∃ d, TM n tw d) : TM n tw (dm n tw) := Classical.epsilon_spec h
def vOk (n : Nat) (tw : Nat → Nat) : Prop := n ≠ 0 → 2 ≤ n ∧ ∃ d, TM n tw d
theorem vOk.t {n : Nat} {tw : Nat → Nat} (h : vOk n tw) : n ≠ 0 → 2 ≤ n ∧ TM n tw (dm n tw) := fun z => ⟨(h z).1, dm_ok (h z).2⟩
/-- the first pair that is refused -/
def fRef (n : Nat) (c : Nat → Int32) : Nat → Nat → Int32
  | 0, _ => 0
  | m + 1, k => if pRef n (c (2 * k)) (c (2 * k + 1)) = 0 then fRef n c m (k + 1) else pRef n (c (2 * k)) (c (2 * k + 1))
theorem fRef_s {n : Nat} {c : Nat → Int32} {m k : Nat} (h : pRef n (c (2 * k)) (c (2 * k + 1)) = 0) : fRef n c (m + 1) k = fRef n c m (k + 1) := if_pos h
theorem fRef_f {n : Nat} {c : Nat → Int32} {m k : Nat} (h : ¬ pRef n (c (2 * k)) (c (2 * k + 1)) = 0) : fRef n c (m + 1) k = pRef n (c (2 * k)) (c (2 * k + 1)) := if_neg h
noncomputable def dayEnd (n : Nat) (kd : Nat → Nat) (g : Option Nat × (Nat → Nat) × (Nat → Nat)) (what : Int32) : Int32 := if what = nI 1 then oI g.1 else match g.1 with
  | none => aTell n g.2.1 kd g.2.2 (dm n g.2.1) what
  | some k => -100 - nI k
noncomputable def aDay (n : Nat) (tw kd ld : Nat → Nat) (so sl : Nat → Nat) (sc : Nat → Nat → Int32) (sh sort i nn what : Int32) : Int32 × Int32 :=
  if wi sh (nI 0) (nI 3) then
    if wi sort (nI 0) (nI 2) && wi nn (nI 0) (nI 20) && (wi what (nI 0) (nI 4) || wi what (nI 10) (nI 17)) then
      if agn (soI (so (ix sh))) (sl (ix sh)) sort i (nI (2 * ix nn)) = 0 then
        if n = 0 then (-3, 0)
        else if fRef n (fun j => sc (ix sh) (ix i + j)) (ix nn) 0 = 0 then (dayEnd n kd (dgo n (fun j => sc (ix sh) (ix i + j)) (ix nn) 0 (tw, ld)) what, 0)
        else (fRef n (fun j => sc (ix sh) (ix i + j)) (ix nn) 0, 0)
      else (-10 - nI (agn (soI (so (ix sh))) (sl (ix sh)) sort i (nI (2 * ix nn))), nI (agn (soI (so (ix sh))) (sl (ix sh)) sort i (nI (2 * ix nn))))
    else (-2, 0)
  else (-1, 0)
theorem agn_0 {sv : Int32} {ln : Nat} {sort i n : Int32} (hl : ln ≤ 60) (h : agn sv ln sort i n = 0) : sv = sort ∧ sv ≠ -9 ∧ ∃ a b, i = nI a ∧ n = nI b ∧ a ≤ ln ∧ b ≤ ln - a := by
  unfold agn at h
  by_cases h1 : sv ≠ -9 ∧ sv ≠ sort
  · rw [if_pos h1] at h; cases h
  · rw [if_neg h1] at h
    by_cases h2 : sv = -9
    · rw [if_pos h2] at h; cases h
    · rw [if_neg h2] at h
      by_cases h3 : n < 0
      · rw [if_pos h3] at h; cases h
      · rw [if_neg h3] at h
        by_cases h4 : i < 0 ∨ nI ln < i ∨ nI ln - i < n
        · rw [if_pos h4] at h; cases h
        · have h5 : ¬ i < 0 := fun z => h4 (Or.inl z)
          have h6 : ¬ nI ln < i := fun z => h4 (Or.inr (Or.inl z))
          have h7 : ¬ nI ln - i < n := fun z => h4 (Or.inr (Or.inr z))
          obtain ⟨a, ha, rfl⟩ := nI_of h5
          obtain ⟨b, hb, rfl⟩ := nI_of h3
          have hal : a ≤ ln := by
            rcases Nat.lt_or_ge ln a with q | q
            · exact absurd ((nI_ltI (by omega) ha).mpr q) h6
            · exact q
          rw [pk_sub hal] at h7
          refine ⟨Classical.byContradiction fun z => h1 ⟨h2, z⟩, h2, a, b, rfl, rfl, hal, ?_⟩
          rcases Nat.lt_or_ge (ln - a) b with q | q
          · exact absurd ((nI_ltI (by omega) hb).mpr q) h7
          · exact q
theorem agn_le (sv : Int32) (ln : Nat) (sort i n : Int32) : agn sv ln sort i n ≤ 4 := by
  unfold agn
  split
  · decide
  · split
    · decide
    · split
      · decide
      · split <;> decide
end DAYS
