/-! the component: posts as objects -/
set_option maxRecDepth 100000
section XX6
/-- a post's object, by its kind: load, twigs, and both as they were kept -/
def pO (kd o ld tw : Nat) (lk tk : Int32) : List Value := match kd with
  | 0 => [.int (nI ld), .int (nI tw), .int lk, .int tk, .ref o]
  | 1 => [.int (nI ld), .int (nI tw), .int lk, .int tk, .ref o, .ref o]
  | _ => [.int (nI ld), .int (nI tw), .int lk, .int tk, .ref o, .ref o, .ref o]
theorem tx6_5 : ∀ k, k < 5 → TX6 k = TX5 k := by
  intro k hk
  match k, hk with
  | 0, _ => rfl
  | 1, _ => rfl
  | 2, _ => rfl
  | 3, _ => rfl
  | 4, _ => rfl
theorem tx7_5 : ∀ k, k < 5 → TX7 k = TX5 k := by
  intro k hk
  match k, hk with
  | 0, _ => rfl
  | 1, _ => rfl
  | 2, _ => rfl
  | 3, _ => rfl
  | 4, _ => rfl
theorem tx5_p : ∀ k, k < 5 → "VineRows$Plain" = (TX5 k).1 := by
  intro k hk
  match k, hk with
  | 0, _ => rfl
  | 1, _ => rfl
  | 2, _ => rfl
  | 3, _ => rfl
  | 4, _ => rfl
theorem pO_len {kd o ld tw : Nat} {lk tk : Int32} : 4 < (pO kd o ld tw lk tk).length := by
  unfold pO
  split <;> exact Nat.le_of_ble_eq_true rfl
section
variable {l : Launch} {g : fG} {A : Nat → Prop} {En : State → Prop} {own nm : String} {cc : ByteArray} {nL : Nat} {ret : Option FieldType} {rm : Room} {Post : Option Value → fH → Prop} {K : fKt} {f : fH} {cs ss pc : Nat} {lo : fL} {st : List Value}
theorem r_pget (G : fGood l g A En own nm cc nL ret rm Post K) {kd o ld tw : Nat} {lk tk : Int32} (hk : kd ≤ 2) {a : Nat} (he : f a = some (.inr (3 + kd, pO kd o ld tw lk tk))) (k : Nat) (hk5 : k < 5) {index : Nat} (hq : Cond.fieldLink own index "VineRows$Plain" (TX5 k).2.1 (TX5 k).2.2.1 ∈ lw_all) {v : Value} (hv : (pO kd o ld tw lk tk)[k]? = some v) (d : decode cc pc = .ok (.getfield index, 3)) (kk : K f cs ss (pc + 3) lo (v :: st)) : K f cs ss pc lo (.ref a :: st) := by
  match kd, hk with
  | 0, _ => exact r_getf G xCl3 he k hk5 hq (tx5_p k hk5) hv d kk
  | 1, _ => exact r_getf G xCl4 he k (by omega) (by rw [tx6_5 k hk5]; exact hq) (by rw [tx6_5 k hk5]; exact tx5_p k hk5) hv d kk
  | 2, _ => exact r_getf G xCl5 he k (by omega) (by rw [tx7_5 k hk5]; exact hq) (by rw [tx7_5 k hk5]; exact tx5_p k hk5) hv d kk
theorem r_pput (G : fGood l g A En own nm cc nL ret rm Post K) {kd o ld tw : Nat} {lk tk : Int32} (hk : kd ≤ 2) {a : Nat} (he : f a = some (.inr (3 + kd, pO kd o ld tw lk tk))) (hA : A a) (k : Nat) (hk4 : k < 4) {index : Nat} (hq : Cond.fieldLink own index "VineRows$Plain" (TX5 k).2.1 (TX5 k).2.2.1 ∈ lw_all) {x : Int32} {f' : fH} (hf' : fU f a (.inr (3 + kd, (pO kd o ld tw lk tk).set k (.int x))) = f') (d : decode cc pc = .ok (.putfield index, 3)) (kk : K f' cs ss (pc + 3) lo st) : K f cs ss pc lo (.int x :: .ref a :: st) := by
  have h5 : (TX5 k).2.2.2 = false ∧ tyX5 k = .int ∧ tyX6 k = .int ∧ tyX7 k = .int := by
    match k, hk4 with
    | 0, _ => exact ⟨rfl, rfl, rfl, rfl⟩
    | 1, _ => exact ⟨rfl, rfl, rfl, rfl⟩
    | 2, _ => exact ⟨rfl, rfl, rfl, rfl⟩
    | 3, _ => exact ⟨rfl, rfl, rfl, rfl⟩
  have hk5 : k < 5 := by omega
  match kd, hk with
  | 0, _ => exact r_putf G xCl3 he hA k hk5 hq (tx5_p k hk5) h5.1 (by rw [h5.2.1]; rfl) (by rw [h5.2.1]; rfl) (by have := pO_len (kd := 0) (o := o) (ld := ld) (tw := tw) (lk := lk) (tk := tk); omega) hf' d kk
  | 1, _ => exact r_putf G xCl4 he hA k (by omega) (by rw [tx6_5 k hk5]; exact hq) (by rw [tx6_5 k hk5]; exact tx5_p k hk5) (by rw [tx6_5 k hk5]; exact h5.1) (by rw [h5.2.2.1]; rfl) (by rw [h5.2.2.1]; rfl) (by have := pO_len (kd := 1) (o := o) (ld := ld) (tw := tw) (lk := lk) (tk := tk); omega) hf' d kk
  | 2, _ => exact r_putf G xCl5 he hA k (by omega) (by rw [tx7_5 k hk5]; exact hq) (by rw [tx7_5 k hk5]; exact tx5_p k hk5) (by rw [tx7_5 k hk5]; exact h5.1) (by rw [h5.2.2.2]; rfl) (by rw [h5.2.2.2]; rfl) (by have := pO_len (kd := 2) (o := o) (ld := ld) (tw := tw) (lk := lk) (tk := tk); omega) hf' d kk
theorem pO_g0 {kd o ld tw : Nat} {lk tk : Int32} : (pO kd o ld tw lk tk)[0]? = some (.int (nI ld)) := by
  unfold pO
  split <;> rfl
theorem pO_g1 {kd o ld tw : Nat} {lk tk : Int32} : (pO kd o ld tw lk tk)[1]? = some (.int (nI tw)) := by
  unfold pO
  split <;> rfl
theorem pO_g2 {kd o ld tw : Nat} {lk tk : Int32} : (pO kd o ld tw lk tk)[2]? = some (.int lk) := by
  unfold pO
  split <;> rfl
theorem pO_g3 {kd o ld tw : Nat} {lk tk : Int32} : (pO kd o ld tw lk tk)[3]? = some (.int tk) := by
  unfold pO
  split <;> rfl
theorem pO_g4 {kd o ld tw : Nat} {lk tk : Int32} : (pO kd o ld tw lk tk)[4]? = some (.ref o) := by
  unfold pO
  split <;> rfl
theorem pO_s0 {kd o ld tw : Nat} {lk tk : Int32} (v : Nat) : (pO kd o ld tw lk tk).set 0 (.int (nI v)) = pO kd o v tw lk tk := by
  unfold pO
  split <;> rfl
theorem pO_s1 {kd o ld tw : Nat} {lk tk : Int32} (v : Nat) : (pO kd o ld tw lk tk).set 1 (.int (nI v)) = pO kd o ld v lk tk := by
  unfold pO
  split <;> rfl
theorem pO_s2 {kd o ld tw : Nat} {lk tk : Int32} (v : Int32) : (pO kd o ld tw lk tk).set 2 (.int v) = pO kd o ld tw v tk := by
  unfold pO
  split <;> rfl
theorem pO_s3 {kd o ld tw : Nat} {lk tk : Int32} (v : Int32) : (pO kd o ld tw lk tk).set 3 (.int v) = pO kd o ld tw lk v := by
  unfold pO
  split <;> rfl
end
end XX6
