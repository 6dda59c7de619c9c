/-! the component: numbers alone -/
set_option maxRecDepth 100000
section XX1
theorem fy_yX0_init : fyN yX0_init 0 := ⟨by decide +kernel, by decide +kernel, by decide +kernel⟩
theorem fy_yX0_alike : fyN yX0_alike 0 := ⟨by decide +kernel, by decide +kernel, by decide +kernel⟩
theorem fy_yX0_areApart : fyN yX0_areApart 1 := ⟨by decide +kernel, by decide +kernel, by decide +kernel⟩
theorem fy_yX0_areSo : fyN yX0_areSo 0 := ⟨by decide +kernel, by decide +kernel, by decide +kernel⟩
theorem fy_yX0_as : fyN yX0_as 2 := ⟨by decide +kernel, by decide +kernel, by decide +kernel⟩
theorem fy_yX0_back : fyN yX0_back 1 := ⟨by decide +kernel, by decide +kernel, by decide +kernel⟩
theorem fy_yX0_cellOf : fyN yX0_cellOf 3 := ⟨by decide +kernel, by decide +kernel, by decide +kernel⟩
theorem fy_yX0_cellsOf : fyN yX0_cellsOf 4 := ⟨by decide +kernel, by decide +kernel, by decide +kernel⟩
theorem fy_yX0_codeAt : fyN yX0_codeAt 2 := ⟨by decide +kernel, by decide +kernel, by decide +kernel⟩
theorem fy_yX0_copy : fyN yX0_copy 5 := ⟨by decide +kernel, by decide +kernel, by decide +kernel⟩
theorem fy_yX0_day : fyN yX0_day 5 := ⟨by decide +kernel, by decide +kernel, by decide +kernel⟩
theorem fy_yX0_dayBy : fyN yX0_dayBy 2 := ⟨by decide +kernel, by decide +kernel, by decide +kernel⟩
theorem fy_yX0_dayOf : fyN yX0_dayOf 2 := ⟨by decide +kernel, by decide +kernel, by decide +kernel⟩
theorem fy_yX0_did : fyN yX0_did 2 := ⟨by decide +kernel, by decide +kernel, by decide +kernel⟩
theorem fy_yX0_fails : fyN yX0_fails 1 := ⟨by decide +kernel, by decide +kernel, by decide +kernel⟩
theorem fy_yX0_failsLong : fyN yX0_failsLong 1 := ⟨by decide +kernel, by decide +kernel, by decide +kernel⟩
theorem fy_yX0_far : fyN yX0_far 2 := ⟨by decide +kernel, by decide +kernel, by decide +kernel⟩
theorem fy_yX0_farFrom : fyN yX0_farFrom 3 := ⟨by decide +kernel, by decide +kernel, by decide +kernel⟩
theorem fy_yX0_farthest : fyN yX0_farthest 1 := ⟨by decide +kernel, by decide +kernel, by decide +kernel⟩
theorem fy_yX0_fault : fyN yX0_fault 0 := ⟨by decide +kernel, by decide +kernel, by decide +kernel⟩
theorem fy_yX0_figureAt : fyN yX0_figureAt 2 := ⟨by decide +kernel, by decide +kernel, by decide +kernel⟩
theorem fy_yX0_graft : fyN yX0_graft 2 := ⟨by decide +kernel, by decide +kernel, by decide +kernel⟩
theorem fy_yX0_grafted : fyN yX0_grafted 2 := ⟨by decide +kernel, by decide +kernel, by decide +kernel⟩
theorem fy_yX0_greatestOf : fyN yX0_greatestOf 2 := ⟨by decide +kernel, by decide +kernel, by decide +kernel⟩
theorem fy_yX0_grows : fyN yX0_grows 1 := ⟨by decide +kernel, by decide +kernel, by decide +kernel⟩
theorem fy_yX0_in : fyN yX0_in 3 := ⟨by decide +kernel, by decide +kernel, by decide +kernel⟩
theorem fy_yX0_isFigure : fyN yX0_isFigure 4 := ⟨by decide +kernel, by decide +kernel, by decide +kernel⟩
theorem fy_yX0_isIn : fyN yX0_isIn 2 := ⟨by decide +kernel, by decide +kernel, by decide +kernel⟩
theorem fy_yX0_joined : fyN yX0_joined 2 := ⟨by decide +kernel, by decide +kernel, by decide +kernel⟩
theorem fy_yX0_kinds : fyN yX0_kinds 1 := ⟨by decide +kernel, by decide +kernel, by decide +kernel⟩
theorem fy_yX0_knock : fyN yX0_knock 1 := ⟨by decide +kernel, by decide +kernel, by decide +kernel⟩
theorem fy_yX0_least : fyN yX0_least 1 := ⟨by decide +kernel, by decide +kernel, by decide +kernel⟩
theorem fy_yX0_leaves : fyN yX0_leaves 0 := ⟨by decide +kernel, by decide +kernel, by decide +kernel⟩
theorem fy_yX0_load : fyN yX0_load 2 := ⟨by decide +kernel, by decide +kernel, by decide +kernel⟩
theorem fy_yX0_loadings : fyN yX0_loadings 1 := ⟨by decide +kernel, by decide +kernel, by decide +kernel⟩
theorem fy_yX0_loners : fyN yX0_loners 1 := ⟨by decide +kernel, by decide +kernel, by decide +kernel⟩
theorem fy_yX0_longest : fyN yX0_longest 0 := ⟨by decide +kernel, by decide +kernel, by decide +kernel⟩
theorem fy_yX0_looked : fyN yX0_looked 2 := ⟨by decide +kernel, by decide +kernel, by decide +kernel⟩
theorem fy_yX0_lose : fyN yX0_lose 1 := ⟨by decide +kernel, by decide +kernel, by decide +kernel⟩
theorem fy_yX0_madeOf : fyN yX0_madeOf 3 := ⟨by decide +kernel, by decide +kernel, by decide +kernel⟩
theorem fy_yX0_many : fyN yX0_many 1 := ⟨by decide +kernel, by decide +kernel, by decide +kernel⟩
theorem fy_yX0_middle : fyN yX0_middle 1 := ⟨by decide +kernel, by decide +kernel, by decide +kernel⟩
theorem fy_yX0_middles : fyN yX0_middles 0 := ⟨by decide +kernel, by decide +kernel, by decide +kernel⟩
theorem fy_yX0_need : fyN yX0_need 1 := ⟨by decide +kernel, by decide +kernel, by decide +kernel⟩
theorem fy_yX0_newVine : fyN yX0_newVine 1 := ⟨by decide +kernel, by decide +kernel, by decide +kernel⟩
theorem fy_yX0_noPost : fyN yX0_noPost 1 := ⟨by decide +kernel, by decide +kernel, by decide +kernel⟩
theorem fy_yX0_noSheet : fyN yX0_noSheet 1 := ⟨by decide +kernel, by decide +kernel, by decide +kernel⟩
theorem fy_yX0_noTwo : fyN yX0_noTwo 2 := ⟨by decide +kernel, by decide +kernel, by decide +kernel⟩
theorem fy_yX0_noVine : fyN yX0_noVine 0 := ⟨by decide +kernel, by decide +kernel, by decide +kernel⟩
theorem fy_yX0_number : fyN yX0_number 0 := ⟨by decide +kernel, by decide +kernel, by decide +kernel⟩
theorem fy_yX0_numberNow : fyN yX0_numberNow 0 := ⟨by decide +kernel, by decide +kernel, by decide +kernel⟩
theorem fy_yX0_odds : fyN yX0_odds 2 := ⟨by decide +kernel, by decide +kernel, by decide +kernel⟩
theorem fy_yX0_ofPost : fyN yX0_ofPost 2 := ⟨by decide +kernel, by decide +kernel, by decide +kernel⟩
theorem fy_yX0_pairs : fyN yX0_pairs 0 := ⟨by decide +kernel, by decide +kernel, by decide +kernel⟩
theorem fy_yX0_pairsBarred : fyN yX0_pairsBarred 1 := ⟨by decide +kernel, by decide +kernel, by decide +kernel⟩
theorem fy_yX0_pairsBelow : fyN yX0_pairsBelow 3 := ⟨by decide +kernel, by decide +kernel, by decide +kernel⟩
theorem fy_yX0_part : fyN yX0_part 2 := ⟨by decide +kernel, by decide +kernel, by decide +kernel⟩
theorem fy_yX0_reading : fyN yX0_reading 3 := ⟨by decide +kernel, by decide +kernel, by decide +kernel⟩
theorem fy_yX0_refused : fyN yX0_refused 1 := ⟨by decide +kernel, by decide +kernel, by decide +kernel⟩
theorem fy_yX0_row : fyN yX0_row 1 := ⟨by decide +kernel, by decide +kernel, by decide +kernel⟩
theorem fy_yX0_rowIn : fyN yX0_rowIn 1 := ⟨by decide +kernel, by decide +kernel, by decide +kernel⟩
theorem fy_yX0_rowOf : fyN yX0_rowOf 2 := ⟨by decide +kernel, by decide +kernel, by decide +kernel⟩
theorem fy_yX0_setIn : fyN yX0_setIn 3 := ⟨by decide +kernel, by decide +kernel, by decide +kernel⟩
theorem fy_yX0_shapeOf : fyN yX0_shapeOf 2 := ⟨by decide +kernel, by decide +kernel, by decide +kernel⟩
theorem fy_yX0_sizeOf : fyN yX0_sizeOf 2 := ⟨by decide +kernel, by decide +kernel, by decide +kernel⟩
theorem fy_yX0_tell : fyN yX0_tell 1 := ⟨by decide +kernel, by decide +kernel, by decide +kernel⟩
theorem fy_yX0_trace : fyN yX0_trace 0 := ⟨by decide +kernel, by decide +kernel, by decide +kernel⟩
theorem fy_yX0_turnsInAll : fyN yX0_turnsInAll 0 := ⟨by decide +kernel, by decide +kernel, by decide +kernel⟩
theorem fy_yX0_turnsOf : fyN yX0_turnsOf 2 := ⟨by decide +kernel, by decide +kernel, by decide +kernel⟩
theorem fy_yX0_vine : fyN yX0_vine 4 := ⟨by decide +kernel, by decide +kernel, by decide +kernel⟩
theorem fy_yX0_way : fyN yX0_way 3 := ⟨by decide +kernel, by decide +kernel, by decide +kernel⟩
theorem fy_yX0_wayOf : fyN yX0_wayOf 2 := ⟨by decide +kernel, by decide +kernel, by decide +kernel⟩
theorem fy_yX0_worthBelow : fyN yX0_worthBelow 2 := ⟨by decide +kernel, by decide +kernel, by decide +kernel⟩
theorem fy_yX0_worthOf : fyN yX0_worthOf 1 := ⟨by decide +kernel, by decide +kernel, by decide +kernel⟩
theorem fy_yX0_writes : fyN yX0_writes 0 := ⟨by decide +kernel, by decide +kernel, by decide +kernel⟩
theorem fy_yX2_init : fyN yX2_init 1 := ⟨by decide +kernel, by decide +kernel, by decide +kernel⟩
theorem fy_yX6_init : fyN yX6_init 3 := ⟨by decide +kernel, by decide +kernel, by decide +kernel⟩
theorem fy_yX6_kind : fyN yX6_kind 0 := ⟨by decide +kernel, by decide +kernel, by decide +kernel⟩
theorem fy_yX6_plainWorth : fyN yX6_plainWorth 0 := ⟨by decide +kernel, by decide +kernel, by decide +kernel⟩
theorem fy_yX6_plainly : fyN yX6_plainly 0 := ⟨by decide +kernel, by decide +kernel, by decide +kernel⟩
theorem fy_yX6_said : fyN yX6_said 0 := ⟨by decide +kernel, by decide +kernel, by decide +kernel⟩
theorem fy_yX6_worth : fyN yX6_worth 0 := ⟨by decide +kernel, by decide +kernel, by decide +kernel⟩
theorem fy_yX11_init : fyN yX11_init 6 := ⟨by decide +kernel, by decide +kernel, by decide +kernel⟩
theorem fy_yX11_done : fyN yX11_done 0 := ⟨by decide +kernel, by decide +kernel, by decide +kernel⟩
theorem fy_yX7_init : fyN yX7_init 3 := ⟨by decide +kernel, by decide +kernel, by decide +kernel⟩
theorem fy_yX7_kind : fyN yX7_kind 0 := ⟨by decide +kernel, by decide +kernel, by decide +kernel⟩
theorem fy_yX7_knocked : fyN yX7_knocked 0 := ⟨by decide +kernel, by decide +kernel, by decide +kernel⟩
theorem fy_yX7_said : fyN yX7_said 0 := ⟨by decide +kernel, by decide +kernel, by decide +kernel⟩
theorem fy_yX7_worth : fyN yX7_worth 0 := ⟨by decide +kernel, by decide +kernel, by decide +kernel⟩
theorem fy_yX4_init : fyN yX4_init 5 := ⟨by decide +kernel, by decide +kernel, by decide +kernel⟩
theorem fy_yX4_lookAt : fyN yX4_lookAt 1 := ⟨by decide +kernel, by decide +kernel, by decide +kernel⟩
theorem fy_yX13_knocked : fyN yX13_knocked 0 := ⟨by decide +kernel, by decide +kernel, by decide +kernel⟩
theorem fy_yX3_init : fyN yX3_init 5 := ⟨by decide +kernel, by decide +kernel, by decide +kernel⟩
theorem fy_yX3_done : fyN yX3_done 0 := ⟨by decide +kernel, by decide +kernel, by decide +kernel⟩
theorem fy_yX5_init : fyN yX5_init 3 := ⟨by decide +kernel, by decide +kernel, by decide +kernel⟩
theorem fy_yX5_broughtBack : fyN yX5_broughtBack 0 := ⟨by decide +kernel, by decide +kernel, by decide +kernel⟩
theorem fy_yX5_isLeaf : fyN yX5_isLeaf 0 := ⟨by decide +kernel, by decide +kernel, by decide +kernel⟩
theorem fy_yX5_kept : fyN yX5_kept 0 := ⟨by decide +kernel, by decide +kernel, by decide +kernel⟩
theorem fy_yX5_kind : fyN yX5_kind 0 := ⟨by decide +kernel, by decide +kernel, by decide +kernel⟩
theorem fy_yX5_said : fyN yX5_said 0 := ⟨by decide +kernel, by decide +kernel, by decide +kernel⟩
theorem fy_yX5_tracedBy : fyN yX5_tracedBy 1 := ⟨by decide +kernel, by decide +kernel, by decide +kernel⟩
theorem fy_yX5_twigs : fyN yX5_twigs 0 := ⟨by decide +kernel, by decide +kernel, by decide +kernel⟩
theorem fy_yX5_worth : fyN yX5_worth 0 := ⟨by decide +kernel, by decide +kernel, by decide +kernel⟩
theorem fy_yX9_init : fyN yX9_init 3 := ⟨by decide +kernel, by decide +kernel, by decide +kernel⟩
theorem fy_yX10_init : fyN yX10_init 1 := ⟨by decide +kernel, by decide +kernel, by decide +kernel⟩
theorem fy_yX12_init : fyN yX12_init 3 := ⟨by decide +kernel, by decide +kernel, by decide +kernel⟩
theorem fy_yX12_done : fyN yX12_done 0 := ⟨by decide +kernel, by decide +kernel, by decide +kernel⟩
theorem fy_yX8_init : fyN yX8_init 6 := ⟨by decide +kernel, by decide +kernel, by decide +kernel⟩
theorem fy_yX8_lookAt : fyN yX8_lookAt 1 := ⟨by decide +kernel, by decide +kernel, by decide +kernel⟩
theorem fy_yJ12_init : fyN yJ12_init 1 := ⟨by decide +kernel, by decide +kernel, by decide +kernel⟩
theorem fy_yJ9_init : fyN yJ9_init 1 := ⟨by decide +kernel, by decide +kernel, by decide +kernel⟩
theorem fy_yJ7_init : fyN yJ7_init 1 := ⟨by decide +kernel, by decide +kernel, by decide +kernel⟩
theorem fy_yJ4_init_2 : fyN yJ4_init_2 0 := ⟨by decide +kernel, by decide +kernel, by decide +kernel⟩
theorem fy_yJ4_init : fyN yJ4_init 1 := ⟨by decide +kernel, by decide +kernel, by decide +kernel⟩
theorem fy_yJ11_init : fyN yJ11_init 1 := ⟨by decide +kernel, by decide +kernel, by decide +kernel⟩
theorem fy_yJ16_bitCount : fyN yJ16_bitCount 1 := ⟨by decide +kernel, by decide +kernel, by decide +kernel⟩
theorem fy_yJ16_numberOfLeadingZeros : fyN yJ16_numberOfLeadingZeros 1 := ⟨by decide +kernel, by decide +kernel, by decide +kernel⟩
theorem fy_yJ16_numberOfTrailingZeros : fyN yJ16_numberOfTrailingZeros 1 := ⟨by decide +kernel, by decide +kernel, by decide +kernel⟩
theorem fy_yJ13_max : fyN yJ13_max 2 := ⟨by decide +kernel, by decide +kernel, by decide +kernel⟩
theorem fy_yJ13_min : fyN yJ13_min 2 := ⟨by decide +kernel, by decide +kernel, by decide +kernel⟩
theorem fy_yJ10_init : fyN yJ10_init 1 := ⟨by decide +kernel, by decide +kernel, by decide +kernel⟩
theorem fy_yJ6_init : fyN yJ6_init 0 := ⟨by decide +kernel, by decide +kernel, by decide +kernel⟩
theorem fy_yJ5_init_2 : fyN yJ5_init_2 0 := ⟨by decide +kernel, by decide +kernel, by decide +kernel⟩
theorem fy_yJ5_init : fyN yJ5_init 1 := ⟨by decide +kernel, by decide +kernel, by decide +kernel⟩
theorem fy_yJ3_init_2 : fyN yJ3_init_2 0 := ⟨by decide +kernel, by decide +kernel, by decide +kernel⟩
theorem fy_yJ3_init : fyN yJ3_init 1 := ⟨by decide +kernel, by decide +kernel, by decide +kernel⟩
theorem fy_yJ0_init : fyN yJ0_init 0 := ⟨by decide +kernel, by decide +kernel, by decide +kernel⟩
theorem fy_yJ1_init : fyN yJ1_init 0 := ⟨by decide +kernel, by decide +kernel, by decide +kernel⟩
theorem fy_yJ2_init : fyN yJ2_init 0 := ⟨by decide +kernel, by decide +kernel, by decide +kernel⟩
theorem fy_yJ2_init_2 : fyN yJ2_init_2 1 := ⟨by decide +kernel, by decide +kernel, by decide +kernel⟩
theorem fy_yJ2_add : fyN yJ2_add 1 := ⟨by decide +kernel, by decide +kernel, by decide +kernel⟩
theorem fy_yJ2_add_2 : fyN yJ2_add_2 3 := ⟨by decide +kernel, by decide +kernel, by decide +kernel⟩
theorem fy_yJ2_addAll : fyN yJ2_addAll 1 := ⟨by decide +kernel, by decide +kernel, by decide +kernel⟩
theorem fy_yJ2_clear : fyN yJ2_clear 0 := ⟨by decide +kernel, by decide +kernel, by decide +kernel⟩
theorem fy_yJ2_elementData : fyN yJ2_elementData 1 := ⟨by decide +kernel, by decide +kernel, by decide +kernel⟩
theorem fy_yJ2_fastRemove : fyN yJ2_fastRemove 2 := ⟨by decide +kernel, by decide +kernel, by decide +kernel⟩
theorem fy_yJ2_get : fyN yJ2_get 1 := ⟨by decide +kernel, by decide +kernel, by decide +kernel⟩
theorem fy_yJ2_grow : fyN yJ2_grow 0 := ⟨by decide +kernel, by decide +kernel, by decide +kernel⟩
theorem fy_yJ2_grow_2 : fyN yJ2_grow_2 1 := ⟨by decide +kernel, by decide +kernel, by decide +kernel⟩
theorem fy_yJ2_isEmpty : fyN yJ2_isEmpty 0 := ⟨by decide +kernel, by decide +kernel, by decide +kernel⟩
theorem fy_yJ2_remove : fyN yJ2_remove 1 := ⟨by decide +kernel, by decide +kernel, by decide +kernel⟩
theorem fy_yJ2_set : fyN yJ2_set 2 := ⟨by decide +kernel, by decide +kernel, by decide +kernel⟩
theorem fy_yJ2_size : fyN yJ2_size 0 := ⟨by decide +kernel, by decide +kernel, by decide +kernel⟩
theorem fy_yJ2_toArray : fyN yJ2_toArray 0 := ⟨by decide +kernel, by decide +kernel, by decide +kernel⟩
theorem fy_yJ15_copyOf : fyN yJ15_copyOf 2 := ⟨by decide +kernel, by decide +kernel, by decide +kernel⟩
theorem fy_yJ15_copyOf_2 : fyN yJ15_copyOf_2 3 := ⟨by decide +kernel, by decide +kernel, by decide +kernel⟩
theorem fy_yJ17_checkIndex : fyN yJ17_checkIndex 2 := ⟨by decide +kernel, by decide +kernel, by decide +kernel⟩
theorem fy_yJ14_hugeLength : fyN yJ14_hugeLength 2 := ⟨by decide +kernel, by decide +kernel, by decide +kernel⟩
theorem fy_yJ14_newLength : fyN yJ14_newLength 3 := ⟨by decide +kernel, by decide +kernel, by decide +kernel⟩
theorem fy_yJ18_checkIndex : fyN yJ18_checkIndex 3 := ⟨by decide +kernel, by decide +kernel, by decide +kernel⟩
theorem xCl0 : fCls 0 RX1 TX1 27 tyX1 := ⟨rfl, in_X1, tyX1_ok, by decide +kernel⟩
theorem xCl1 : fCls 1 RX0 TX0 7 tyX0 := ⟨rfl, in_X0, tyX0_ok, by decide +kernel⟩
theorem xCl2 : fCls 2 RJ2 TJ2 3 tyJ2 := ⟨rfl, in_J2, tyJ2_ok, by decide +kernel⟩
theorem xCl3 : fCls 3 RX5 TX5 5 tyX5 := ⟨rfl, in_X5, tyX5_ok, by decide +kernel⟩
theorem xCl4 : fCls 4 RX6 TX6 6 tyX6 := ⟨rfl, in_X6, tyX6_ok, by decide +kernel⟩
theorem xCl5 : fCls 5 RX7 TX7 7 tyX7 := ⟨rfl, in_X7, tyX7_ok, by decide +kernel⟩
theorem xCl6 : fCls 6 RX4 TX4 7 tyX4 := ⟨rfl, in_X4, tyX4_ok, by decide +kernel⟩
theorem xCl7 : fCls 7 RX8 TX8 8 tyX8 := ⟨rfl, in_X8, tyX8_ok, by decide +kernel⟩
theorem xCl8 : fCls 8 RX9 TX9 3 tyX9 := ⟨rfl, in_X9, tyX9_ok, by decide +kernel⟩
theorem xCl9 : fCls 9 RX10 TX10 1 tyX10 := ⟨rfl, in_X10, tyX10_ok, by decide +kernel⟩
theorem xCl10 : fCls 10 RX11 TX11 7 tyX11 := ⟨rfl, in_X11, tyX11_ok, by decide +kernel⟩
theorem xCl11 : fCls 11 RX12 TX12 4 tyX12 := ⟨rfl, in_X12, tyX12_ok, by decide +kernel⟩
def win (v a b : Int64) : Bool := decide (a ≤ v) && decide (v ≤ b)
theorem lgc_lt {a b : Int64} : lg_cmp a b < 0 ↔ a < b := by
  rw [Int64.lt_iff_toInt_lt]
  unfold lg_cmp
  split
  · rename_i h
    rw [gt_iff_lt, Int64.lt_iff_toInt_lt] at h
    exact ⟨fun q => absurd q (by decide), fun q => by omega⟩
  · rename_i h
    rw [gt_iff_lt, Int64.lt_iff_toInt_lt] at h
    split
    · rename_i h2
      rw [h2]
      exact ⟨fun q => absurd q (by decide), fun q => by omega⟩
    · rename_i h2
      have h3 : a.toInt ≠ b.toInt := fun e => h2 (Int64.toInt_inj.mp e)
      exact ⟨fun _ => by omega, fun _ => by decide⟩
theorem lgc_gt {a b : Int64} : lg_cmp a b > 0 ↔ b < a := by
  rw [Int64.lt_iff_toInt_lt]
  unfold lg_cmp
  split
  · rename_i h
    rw [gt_iff_lt, Int64.lt_iff_toInt_lt] at h
    exact ⟨fun _ => h, fun _ => by decide⟩
  · rename_i h
    rw [gt_iff_lt, Int64.lt_iff_toInt_lt] at h
    refine ⟨fun q => ?_, fun q => absurd q h⟩
    split at q <;> exact absurd q (by decide)
set_option maxHeartbeats 4000000 in
theorem sX_X0_in {l : Launch} {g : fG} {A : Nat → Prop} {En : State → Prop} (hE : fEnv g A En) (v a b : Int64): sC l g A En yX0_in cX0_in 6 (some .boolean) (fR 0) [.long v, .long a, .long b] (.int (bI (win v a b))) := by
  intro f
  refine fC.of (by decide) hE [some (.long v), none, some (.long a), none, some (.long b), none] rfl rfl (fun K G => ?_)
  have G : fGood l g A En RX0 "in" cX0_in 6 (some .boolean) (fR 0) _ K := G
  refine r_lload_n G dX0_in_0 rfl ?_
  refine r_lload_n G dX0_in_1 rfl ?_
  refine r_lcmp G dX0_in_2 ?_
  refine r_if_lt G 17 lgc_lt dX0_in_3 (by decide) (fun h3 => ?_) (fun h3 => ?_)
  · refine r_iconst G (v := nI 0) dX0_in_17 (by decide) ?_
    exact r_zret G rfl (by decide) ⟨Nat.zero_le _, Nat.zero_le _⟩ dX0_in_18 ⟨rfl, rb (by rw [show win v a b = false from by unfold win; simp only [Bool.and_eq_false_iff, decide_eq_false_iff_not]; first | exact Or.inl (Int64.not_le.mpr h3) | exact Or.inr (Int64.not_le.mpr h10)]; rfl)⟩
  · refine r_lload_n G dX0_in_6 rfl ?_
    refine r_lload G dX0_in_7 rfl ?_
    refine r_lcmp G dX0_in_9 ?_
    refine r_if_gt G 17 lgc_gt dX0_in_10 (by decide) (fun h10 => ?_) (fun h10 => ?_)
    · refine r_iconst G (v := nI 0) dX0_in_17 (by decide) ?_
      exact r_zret G rfl (by decide) ⟨Nat.zero_le _, Nat.zero_le _⟩ dX0_in_18 ⟨rfl, rb (by rw [show win v a b = false from by unfold win; simp only [Bool.and_eq_false_iff, decide_eq_false_iff_not]; first | exact Or.inl (Int64.not_le.mpr h3) | exact Or.inr (Int64.not_le.mpr h10)]; rfl)⟩
    · refine r_iconst G (v := nI 1) dX0_in_13 (by decide) ?_
      refine r_goto G 18 dX0_in_14 (by decide) ?_
      exact r_zret G rfl (by decide) ⟨Nat.zero_le _, Nat.zero_le _⟩ dX0_in_18 ⟨rfl, rb (by rw [show win v a b = true from by unfold win; simp only [Bool.and_eq_true, decide_eq_true_eq]; exact ⟨Int64.not_lt.mp h3, Int64.not_lt.mp h10⟩]; rfl)⟩
set_option maxHeartbeats 4000000 in
theorem sX_X0_isIn {l : Launch} {g : fG} {A : Nat → Prop} {En : State → Prop} (hE : fEnv g A En) (s k : Nat) (hs : s < 2 ^ 31) (hk : k < 32): sC l g A En yX0_isIn cX0_isIn 2 (some .boolean) (fR 0) [.int (nI s), .int (nI k)] (.int (bI (s.testBit k))) := by
  intro f
  refine fC.of (by decide) hE [some (.int (nI s)), some (.int (nI k))] rfl rfl (fun K G => ?_)
  have G : fGood l g A En RX0 "isIn" cX0_isIn 2 (some .boolean) (fR 0) _ K := G
  refine r_iload_n G dX0_isIn_0 rfl ?_
  refine r_iload_n G dX0_isIn_1 rfl ?_
  refine r_ishr G (v := (nI (s >>> k))) dX0_isIn_2 (n_shr (by omega) (by omega)) ?_
  refine r_iconst G (v := nI 1) dX0_isIn_3 (by decide) ?_
  refine r_iand G (v := (nI ((s >>> k) &&& 1))) dX0_isIn_4 (n_and (s >>> k) 1) ?_
  refine r_iconst G (v := nI 1) dX0_isIn_5 (by decide) ?_
  refine r_icmp_ne G 13 (nI_eq (and1_lt _) (by decide)) dX0_isIn_6 (by decide) (fun h6 => ?_) (fun h6 => ?_)
  · refine r_iconst G (v := nI 0) dX0_isIn_13 (by decide) ?_
    exact r_zret G rfl (by decide) ⟨Nat.zero_le _, Nat.zero_le _⟩ dX0_isIn_14 ⟨rfl, rb (by rw [tb_and1] at h6; cases hb : s.testBit k with | true => rw [hb] at h6; exact absurd rfl h6 | false => rfl)⟩
  · refine r_iconst G (v := nI 1) dX0_isIn_9 (by decide) ?_
    refine r_goto G 14 dX0_isIn_10 (by decide) ?_
    exact r_zret G rfl (by decide) ⟨Nat.zero_le _, Nat.zero_le _⟩ dX0_isIn_14 ⟨rfl, rb (by rw [tb_and1] at h6; cases hb : s.testBit k with | true => rfl | false => rw [hb] at h6; exact absurd h6 (by decide))⟩
theorem m1_ok : ∀ k, k < 8 → ((-1 : Int32) >>> (nI k &&& 31)) &&& nI 1 = nI 1 := by decide +kernel
set_option maxHeartbeats 4000000 in
theorem sX_X0_isIn_all {l : Launch} {g : fG} {A : Nat → Prop} {En : State → Prop} (hE : fEnv g A En) (k : Nat) (hk : k < 8): sC l g A En yX0_isIn cX0_isIn 2 (some .boolean) (fR 0) [.int (-1), .int (nI k)] (.int (bI true)) := by
  intro f
  refine fC.of (by decide) hE [some (.int (-1)), some (.int (nI k))] rfl rfl (fun K G => ?_)
  have G : fGood l g A En RX0 "isIn" cX0_isIn 2 (some .boolean) (fR 0) _ K := G
  refine r_iload_n G dX0_isIn_0 rfl ?_
  refine r_iload_n G dX0_isIn_1 rfl ?_
  refine r_ishr G (v := ((-1) >>> ((nI k) &&& 31))) dX0_isIn_2 rfl ?_
  refine r_iconst G (v := nI 1) dX0_isIn_3 (by decide) ?_
  refine r_iand G (v := (((-1) >>> ((nI k) &&& 31)) &&& (nI 1))) dX0_isIn_4 rfl ?_
  refine r_iconst G (v := nI 1) dX0_isIn_5 (by decide) ?_
  refine r_icmp_ne G 13 Iff.rfl dX0_isIn_6 (by decide) (fun h6 => ?_) (fun h6 => ?_)
  · refine r_iconst G (v := nI 0) dX0_isIn_13 (by decide) ?_
    exact r_zret G rfl (by decide) ⟨Nat.zero_le _, Nat.zero_le _⟩ dX0_isIn_14 (absurd (m1_ok k hk) h6)
  · refine r_iconst G (v := nI 1) dX0_isIn_9 (by decide) ?_
    refine r_goto G 14 dX0_isIn_10 (by decide) ?_
    exact r_zret G rfl (by decide) ⟨Nat.zero_le _, Nat.zero_le _⟩ dX0_isIn_14 ⟨rfl, rfl⟩
theorem bc_ok : ∀ s, s < 256 → ((((((((nI s) - ((((nI s).toUInt32 >>> ((nI 1).toUInt32 &&& Int32.toUInt32 31)).toInt32) &&& 1431655765)) &&& 858993459) + (((((nI s) - ((((nI s).toUInt32 >>> ((nI 1).toUInt32 &&& Int32.toUInt32 31)).toInt32) &&& 1431655765)).toUInt32 >>> ((nI 2).toUInt32 &&& Int32.toUInt32 31)).toInt32) &&& 858993459)) + ((((((nI s) - ((((nI s).toUInt32 >>> ((nI 1).toUInt32 &&& Int32.toUInt32 31)).toInt32) &&& 1431655765)) &&& 858993459) + (((((nI s) - ((((nI s).toUInt32 >>> ((nI 1).toUInt32 &&& Int32.toUInt32 31)).toInt32) &&& 1431655765)).toUInt32 >>> ((nI 2).toUInt32 &&& Int32.toUInt32 31)).toInt32) &&& 858993459)).toUInt32 >>> ((nI 4).toUInt32 &&& Int32.toUInt32 31)).toInt32)) &&& 252645135) + ((((((((nI s) - ((((nI s).toUInt32 >>> ((nI 1).toUInt32 &&& Int32.toUInt32 31)).toInt32) &&& 1431655765)) &&& 858993459) + (((((nI s) - ((((nI s).toUInt32 >>> ((nI 1).toUInt32 &&& Int32.toUInt32 31)).toInt32) &&& 1431655765)).toUInt32 >>> ((nI 2).toUInt32 &&& Int32.toUInt32 31)).toInt32) &&& 858993459)) + ((((((nI s) - ((((nI s).toUInt32 >>> ((nI 1).toUInt32 &&& Int32.toUInt32 31)).toInt32) &&& 1431655765)) &&& 858993459) + (((((nI s) - ((((nI s).toUInt32 >>> ((nI 1).toUInt32 &&& Int32.toUInt32 31)).toInt32) &&& 1431655765)).toUInt32 >>> ((nI 2).toUInt32 &&& Int32.toUInt32 31)).toInt32) &&& 858993459)).toUInt32 >>> ((nI 4).toUInt32 &&& Int32.toUInt32 31)).toInt32)) &&& 252645135).toUInt32 >>> ((nI 8).toUInt32 &&& Int32.toUInt32 31)).toInt32)) + (((((((((nI s) - ((((nI s).toUInt32 >>> ((nI 1).toUInt32 &&& Int32.toUInt32 31)).toInt32) &&& 1431655765)) &&& 858993459) + (((((nI s) - ((((nI s).toUInt32 >>> ((nI 1).toUInt32 &&& Int32.toUInt32 31)).toInt32) &&& 1431655765)).toUInt32 >>> ((nI 2).toUInt32 &&& Int32.toUInt32 31)).toInt32) &&& 858993459)) + ((((((nI s) - ((((nI s).toUInt32 >>> ((nI 1).toUInt32 &&& Int32.toUInt32 31)).toInt32) &&& 1431655765)) &&& 858993459) + (((((nI s) - ((((nI s).toUInt32 >>> ((nI 1).toUInt32 &&& Int32.toUInt32 31)).toInt32) &&& 1431655765)).toUInt32 >>> ((nI 2).toUInt32 &&& Int32.toUInt32 31)).toInt32) &&& 858993459)).toUInt32 >>> ((nI 4).toUInt32 &&& Int32.toUInt32 31)).toInt32)) &&& 252645135) + ((((((((nI s) - ((((nI s).toUInt32 >>> ((nI 1).toUInt32 &&& Int32.toUInt32 31)).toInt32) &&& 1431655765)) &&& 858993459) + (((((nI s) - ((((nI s).toUInt32 >>> ((nI 1).toUInt32 &&& Int32.toUInt32 31)).toInt32) &&& 1431655765)).toUInt32 >>> ((nI 2).toUInt32 &&& Int32.toUInt32 31)).toInt32) &&& 858993459)) + ((((((nI s) - ((((nI s).toUInt32 >>> ((nI 1).toUInt32 &&& Int32.toUInt32 31)).toInt32) &&& 1431655765)) &&& 858993459) + (((((nI s) - ((((nI s).toUInt32 >>> ((nI 1).toUInt32 &&& Int32.toUInt32 31)).toInt32) &&& 1431655765)).toUInt32 >>> ((nI 2).toUInt32 &&& Int32.toUInt32 31)).toInt32) &&& 858993459)).toUInt32 >>> ((nI 4).toUInt32 &&& Int32.toUInt32 31)).toInt32)) &&& 252645135).toUInt32 >>> ((nI 8).toUInt32 &&& Int32.toUInt32 31)).toInt32)).toUInt32 >>> ((nI 16).toUInt32 &&& Int32.toUInt32 31)).toInt32)) &&& (nI 63) = nI (cnt s) := by decide +kernel
set_option maxHeartbeats 4000000 in
theorem sX_J16_bitCount {l : Launch} {g : fG} {A : Nat → Prop} {En : State → Prop} (hE : fEnv g A En) (s : Nat) (hs : s < 256): sC l g A En yJ16_bitCount cJ16_bitCount 1 (some .int) (fR 0) [.int (nI s)] (.int (nI (cnt s))) := by
  intro f
  refine fC.of (by decide) hE [some (.int (nI s))] rfl rfl (fun K G => ?_)
  have G : fGood l g A En RJ16 "bitCount" cJ16_bitCount 1 (some .int) (fR 0) _ K := G
  refine r_iload_n G dJ16_bitCount_0 rfl ?_
  refine r_iload_n G dJ16_bitCount_1 rfl ?_
  refine r_iconst G (v := nI 1) dJ16_bitCount_2 (by decide) ?_
  refine r_iushr G (v := (((nI s).toUInt32 >>> ((nI 1).toUInt32 &&& Int32.toUInt32 31)).toInt32)) dJ16_bitCount_3 rfl ?_
  refine r_ldcw G (v := 1431655765) q242 dJ16_bitCount_4 ?_
  refine r_iand G (v := ((((nI s).toUInt32 >>> ((nI 1).toUInt32 &&& Int32.toUInt32 31)).toInt32) &&& 1431655765)) dJ16_bitCount_7 rfl ?_
  refine r_isub G (v := ((nI s) - ((((nI s).toUInt32 >>> ((nI 1).toUInt32 &&& Int32.toUInt32 31)).toInt32) &&& 1431655765))) dJ16_bitCount_8 rfl ?_
  refine r_istore_n G (lo' := [some (.int ((nI s) - ((((nI s).toUInt32 >>> ((nI 1).toUInt32 &&& Int32.toUInt32 31)).toInt32) &&& 1431655765)))]) dJ16_bitCount_9 rfl rfl ?_
  refine r_iload_n G dJ16_bitCount_10 rfl ?_
  refine r_ldcw G (v := 858993459) q243 dJ16_bitCount_11 ?_
  refine r_iand G (v := (((nI s) - ((((nI s).toUInt32 >>> ((nI 1).toUInt32 &&& Int32.toUInt32 31)).toInt32) &&& 1431655765)) &&& 858993459)) dJ16_bitCount_14 rfl ?_
  refine r_iload_n G dJ16_bitCount_15 rfl ?_
  refine r_iconst G (v := nI 2) dJ16_bitCount_16 (by decide) ?_
  refine r_iushr G (v := ((((nI s) - ((((nI s).toUInt32 >>> ((nI 1).toUInt32 &&& Int32.toUInt32 31)).toInt32) &&& 1431655765)).toUInt32 >>> ((nI 2).toUInt32 &&& Int32.toUInt32 31)).toInt32)) dJ16_bitCount_17 rfl ?_
  refine r_ldcw G (v := 858993459) q243 dJ16_bitCount_18 ?_
  refine r_iand G (v := (((((nI s) - ((((nI s).toUInt32 >>> ((nI 1).toUInt32 &&& Int32.toUInt32 31)).toInt32) &&& 1431655765)).toUInt32 >>> ((nI 2).toUInt32 &&& Int32.toUInt32 31)).toInt32) &&& 858993459)) dJ16_bitCount_21 rfl ?_
  refine r_iadd G (v := ((((nI s) - ((((nI s).toUInt32 >>> ((nI 1).toUInt32 &&& Int32.toUInt32 31)).toInt32) &&& 1431655765)) &&& 858993459) + (((((nI s) - ((((nI s).toUInt32 >>> ((nI 1).toUInt32 &&& Int32.toUInt32 31)).toInt32) &&& 1431655765)).toUInt32 >>> ((nI 2).toUInt32 &&& Int32.toUInt32 31)).toInt32) &&& 858993459))) dJ16_bitCount_22 rfl ?_
  refine r_istore_n G (lo' := [some (.int ((((nI s) - ((((nI s).toUInt32 >>> ((nI 1).toUInt32 &&& Int32.toUInt32 31)).toInt32) &&& 1431655765)) &&& 858993459) + (((((nI s) - ((((nI s).toUInt32 >>> ((nI 1).toUInt32 &&& Int32.toUInt32 31)).toInt32) &&& 1431655765)).toUInt32 >>> ((nI 2).toUInt32 &&& Int32.toUInt32 31)).toInt32) &&& 858993459)))]) dJ16_bitCount_23 rfl rfl ?_
  refine r_iload_n G dJ16_bitCount_24 rfl ?_
  refine r_iload_n G dJ16_bitCount_25 rfl ?_
  refine r_iconst G (v := nI 4) dJ16_bitCount_26 (by decide) ?_
  refine r_iushr G (v := ((((((nI s) - ((((nI s).toUInt32 >>> ((nI 1).toUInt32 &&& Int32.toUInt32 31)).toInt32) &&& 1431655765)) &&& 858993459) + (((((nI s) - ((((nI s).toUInt32 >>> ((nI 1).toUInt32 &&& Int32.toUInt32 31)).toInt32) &&& 1431655765)).toUInt32 >>> ((nI 2).toUInt32 &&& Int32.toUInt32 31)).toInt32) &&& 858993459)).toUInt32 >>> ((nI 4).toUInt32 &&& Int32.toUInt32 31)).toInt32)) dJ16_bitCount_27 rfl ?_
  refine r_iadd G (v := (((((nI s) - ((((nI s).toUInt32 >>> ((nI 1).toUInt32 &&& Int32.toUInt32 31)).toInt32) &&& 1431655765)) &&& 858993459) + (((((nI s) - ((((nI s).toUInt32 >>> ((nI 1).toUInt32 &&& Int32.toUInt32 31)).toInt32) &&& 1431655765)).toUInt32 >>> ((nI 2).toUInt32 &&& Int32.toUInt32 31)).toInt32) &&& 858993459)) + ((((((nI s) - ((((nI s).toUInt32 >>> ((nI 1).toUInt32 &&& Int32.toUInt32 31)).toInt32) &&& 1431655765)) &&& 858993459) + (((((nI s) - ((((nI s).toUInt32 >>> ((nI 1).toUInt32 &&& Int32.toUInt32 31)).toInt32) &&& 1431655765)).toUInt32 >>> ((nI 2).toUInt32 &&& Int32.toUInt32 31)).toInt32) &&& 858993459)).toUInt32 >>> ((nI 4).toUInt32 &&& Int32.toUInt32 31)).toInt32))) dJ16_bitCount_28 rfl ?_
  refine r_ldcw G (v := 252645135) q244 dJ16_bitCount_29 ?_
  refine r_iand G (v := ((((((nI s) - ((((nI s).toUInt32 >>> ((nI 1).toUInt32 &&& Int32.toUInt32 31)).toInt32) &&& 1431655765)) &&& 858993459) + (((((nI s) - ((((nI s).toUInt32 >>> ((nI 1).toUInt32 &&& Int32.toUInt32 31)).toInt32) &&& 1431655765)).toUInt32 >>> ((nI 2).toUInt32 &&& Int32.toUInt32 31)).toInt32) &&& 858993459)) + ((((((nI s) - ((((nI s).toUInt32 >>> ((nI 1).toUInt32 &&& Int32.toUInt32 31)).toInt32) &&& 1431655765)) &&& 858993459) + (((((nI s) - ((((nI s).toUInt32 >>> ((nI 1).toUInt32 &&& Int32.toUInt32 31)).toInt32) &&& 1431655765)).toUInt32 >>> ((nI 2).toUInt32 &&& Int32.toUInt32 31)).toInt32) &&& 858993459)).toUInt32 >>> ((nI 4).toUInt32 &&& Int32.toUInt32 31)).toInt32)) &&& 252645135)) dJ16_bitCount_32 rfl ?_
  refine r_istore_n G (lo' := [some (.int ((((((nI s) - ((((nI s).toUInt32 >>> ((nI 1).toUInt32 &&& Int32.toUInt32 31)).toInt32) &&& 1431655765)) &&& 858993459) + (((((nI s) - ((((nI s).toUInt32 >>> ((nI 1).toUInt32 &&& Int32.toUInt32 31)).toInt32) &&& 1431655765)).toUInt32 >>> ((nI 2).toUInt32 &&& Int32.toUInt32 31)).toInt32) &&& 858993459)) + ((((((nI s) - ((((nI s).toUInt32 >>> ((nI 1).toUInt32 &&& Int32.toUInt32 31)).toInt32) &&& 1431655765)) &&& 858993459) + (((((nI s) - ((((nI s).toUInt32 >>> ((nI 1).toUInt32 &&& Int32.toUInt32 31)).toInt32) &&& 1431655765)).toUInt32 >>> ((nI 2).toUInt32 &&& Int32.toUInt32 31)).toInt32) &&& 858993459)).toUInt32 >>> ((nI 4).toUInt32 &&& Int32.toUInt32 31)).toInt32)) &&& 252645135))]) dJ16_bitCount_33 rfl rfl ?_
  refine r_iload_n G dJ16_bitCount_34 rfl ?_
  refine r_iload_n G dJ16_bitCount_35 rfl ?_
  refine r_bipush G (v := nI 8) dJ16_bitCount_36 (by decide) ?_
  refine r_iushr G (v := ((((((((nI s) - ((((nI s).toUInt32 >>> ((nI 1).toUInt32 &&& Int32.toUInt32 31)).toInt32) &&& 1431655765)) &&& 858993459) + (((((nI s) - ((((nI s).toUInt32 >>> ((nI 1).toUInt32 &&& Int32.toUInt32 31)).toInt32) &&& 1431655765)).toUInt32 >>> ((nI 2).toUInt32 &&& Int32.toUInt32 31)).toInt32) &&& 858993459)) + ((((((nI s) - ((((nI s).toUInt32 >>> ((nI 1).toUInt32 &&& Int32.toUInt32 31)).toInt32) &&& 1431655765)) &&& 858993459) + (((((nI s) - ((((nI s).toUInt32 >>> ((nI 1).toUInt32 &&& Int32.toUInt32 31)).toInt32) &&& 1431655765)).toUInt32 >>> ((nI 2).toUInt32 &&& Int32.toUInt32 31)).toInt32) &&& 858993459)).toUInt32 >>> ((nI 4).toUInt32 &&& Int32.toUInt32 31)).toInt32)) &&& 252645135).toUInt32 >>> ((nI 8).toUInt32 &&& Int32.toUInt32 31)).toInt32)) dJ16_bitCount_38 rfl ?_
  refine r_iadd G (v := (((((((nI s) - ((((nI s).toUInt32 >>> ((nI 1).toUInt32 &&& Int32.toUInt32 31)).toInt32) &&& 1431655765)) &&& 858993459) + (((((nI s) - ((((nI s).toUInt32 >>> ((nI 1).toUInt32 &&& Int32.toUInt32 31)).toInt32) &&& 1431655765)).toUInt32 >>> ((nI 2).toUInt32 &&& Int32.toUInt32 31)).toInt32) &&& 858993459)) + ((((((nI s) - ((((nI s).toUInt32 >>> ((nI 1).toUInt32 &&& Int32.toUInt32 31)).toInt32) &&& 1431655765)) &&& 858993459) + (((((nI s) - ((((nI s).toUInt32 >>> ((nI 1).toUInt32 &&& Int32.toUInt32 31)).toInt32) &&& 1431655765)).toUInt32 >>> ((nI 2).toUInt32 &&& Int32.toUInt32 31)).toInt32) &&& 858993459)).toUInt32 >>> ((nI 4).toUInt32 &&& Int32.toUInt32 31)).toInt32)) &&& 252645135) + ((((((((nI s) - ((((nI s).toUInt32 >>> ((nI 1).toUInt32 &&& Int32.toUInt32 31)).toInt32) &&& 1431655765)) &&& 858993459) + (((((nI s) - ((((nI s).toUInt32 >>> ((nI 1).toUInt32 &&& Int32.toUInt32 31)).toInt32) &&& 1431655765)).toUInt32 >>> ((nI 2).toUInt32 &&& Int32.toUInt32 31)).toInt32) &&& 858993459)) + ((((((nI s) - ((((nI s).toUInt32 >>> ((nI 1).toUInt32 &&& Int32.toUInt32 31)).toInt32) &&& 1431655765)) &&& 858993459) + (((((nI s) - ((((nI s).toUInt32 >>> ((nI 1).toUInt32 &&& Int32.toUInt32 31)).toInt32) &&& 1431655765)).toUInt32 >>> ((nI 2).toUInt32 &&& Int32.toUInt32 31)).toInt32) &&& 858993459)).toUInt32 >>> ((nI 4).toUInt32 &&& Int32.toUInt32 31)).toInt32)) &&& 252645135).toUInt32 >>> ((nI 8).toUInt32 &&& Int32.toUInt32 31)).toInt32))) dJ16_bitCount_39 rfl ?_
  refine r_istore_n G (lo' := [some (.int (((((((nI s) - ((((nI s).toUInt32 >>> ((nI 1).toUInt32 &&& Int32.toUInt32 31)).toInt32) &&& 1431655765)) &&& 858993459) + (((((nI s) - ((((nI s).toUInt32 >>> ((nI 1).toUInt32 &&& Int32.toUInt32 31)).toInt32) &&& 1431655765)).toUInt32 >>> ((nI 2).toUInt32 &&& Int32.toUInt32 31)).toInt32) &&& 858993459)) + ((((((nI s) - ((((nI s).toUInt32 >>> ((nI 1).toUInt32 &&& Int32.toUInt32 31)).toInt32) &&& 1431655765)) &&& 858993459) + (((((nI s) - ((((nI s).toUInt32 >>> ((nI 1).toUInt32 &&& Int32.toUInt32 31)).toInt32) &&& 1431655765)).toUInt32 >>> ((nI 2).toUInt32 &&& Int32.toUInt32 31)).toInt32) &&& 858993459)).toUInt32 >>> ((nI 4).toUInt32 &&& Int32.toUInt32 31)).toInt32)) &&& 252645135) + ((((((((nI s) - ((((nI s).toUInt32 >>> ((nI 1).toUInt32 &&& Int32.toUInt32 31)).toInt32) &&& 1431655765)) &&& 858993459) + (((((nI s) - ((((nI s).toUInt32 >>> ((nI 1).toUInt32 &&& Int32.toUInt32 31)).toInt32) &&& 1431655765)).toUInt32 >>> ((nI 2).toUInt32 &&& Int32.toUInt32 31)).toInt32) &&& 858993459)) + ((((((nI s) - ((((nI s).toUInt32 >>> ((nI 1).toUInt32 &&& Int32.toUInt32 31)).toInt32) &&& 1431655765)) &&& 858993459) + (((((nI s) - ((((nI s).toUInt32 >>> ((nI 1).toUInt32 &&& Int32.toUInt32 31)).toInt32) &&& 1431655765)).toUInt32 >>> ((nI 2).toUInt32 &&& Int32.toUInt32 31)).toInt32) &&& 858993459)).toUInt32 >>> ((nI 4).toUInt32 &&& Int32.toUInt32 31)).toInt32)) &&& 252645135).toUInt32 >>> ((nI 8).toUInt32 &&& Int32.toUInt32 31)).toInt32)))]) dJ16_bitCount_40 rfl rfl ?_
  refine r_iload_n G dJ16_bitCount_41 rfl ?_
  refine r_iload_n G dJ16_bitCount_42 rfl ?_
  refine r_bipush G (v := nI 16) dJ16_bitCount_43 (by decide) ?_
  refine r_iushr G (v := (((((((((nI s) - ((((nI s).toUInt32 >>> ((nI 1).toUInt32 &&& Int32.toUInt32 31)).toInt32) &&& 1431655765)) &&& 858993459) + (((((nI s) - ((((nI s).toUInt32 >>> ((nI 1).toUInt32 &&& Int32.toUInt32 31)).toInt32) &&& 1431655765)).toUInt32 >>> ((nI 2).toUInt32 &&& Int32.toUInt32 31)).toInt32) &&& 858993459)) + ((((((nI s) - ((((nI s).toUInt32 >>> ((nI 1).toUInt32 &&& Int32.toUInt32 31)).toInt32) &&& 1431655765)) &&& 858993459) + (((((nI s) - ((((nI s).toUInt32 >>> ((nI 1).toUInt32 &&& Int32.toUInt32 31)).toInt32) &&& 1431655765)).toUInt32 >>> ((nI 2).toUInt32 &&& Int32.toUInt32 31)).toInt32) &&& 858993459)).toUInt32 >>> ((nI 4).toUInt32 &&& Int32.toUInt32 31)).toInt32)) &&& 252645135) + ((((((((nI s) - ((((nI s).toUInt32 >>> ((nI 1).toUInt32 &&& Int32.toUInt32 31)).toInt32) &&& 1431655765)) &&& 858993459) + (((((nI s) - ((((nI s).toUInt32 >>> ((nI 1).toUInt32 &&& Int32.toUInt32 31)).toInt32) &&& 1431655765)).toUInt32 >>> ((nI 2).toUInt32 &&& Int32.toUInt32 31)).toInt32) &&& 858993459)) + ((((((nI s) - ((((nI s).toUInt32 >>> ((nI 1).toUInt32 &&& Int32.toUInt32 31)).toInt32) &&& 1431655765)) &&& 858993459) + (((((nI s) - ((((nI s).toUInt32 >>> ((nI 1).toUInt32 &&& Int32.toUInt32 31)).toInt32) &&& 1431655765)).toUInt32 >>> ((nI 2).toUInt32 &&& Int32.toUInt32 31)).toInt32) &&& 858993459)).toUInt32 >>> ((nI 4).toUInt32 &&& Int32.toUInt32 31)).toInt32)) &&& 252645135).toUInt32 >>> ((nI 8).toUInt32 &&& Int32.toUInt32 31)).toInt32)).toUInt32 >>> ((nI 16).toUInt32 &&& Int32.toUInt32 31)).toInt32)) dJ16_bitCount_45 rfl ?_
  refine r_iadd G (v := ((((((((nI s) - ((((nI s).toUInt32 >>> ((nI 1).toUInt32 &&& Int32.toUInt32 31)).toInt32) &&& 1431655765)) &&& 858993459) + (((((nI s) - ((((nI s).toUInt32 >>> ((nI 1).toUInt32 &&& Int32.toUInt32 31)).toInt32) &&& 1431655765)).toUInt32 >>> ((nI 2).toUInt32 &&& Int32.toUInt32 31)).toInt32) &&& 858993459)) + ((((((nI s) - ((((nI s).toUInt32 >>> ((nI 1).toUInt32 &&& Int32.toUInt32 31)).toInt32) &&& 1431655765)) &&& 858993459) + (((((nI s) - ((((nI s).toUInt32 >>> ((nI 1).toUInt32 &&& Int32.toUInt32 31)).toInt32) &&& 1431655765)).toUInt32 >>> ((nI 2).toUInt32 &&& Int32.toUInt32 31)).toInt32) &&& 858993459)).toUInt32 >>> ((nI 4).toUInt32 &&& Int32.toUInt32 31)).toInt32)) &&& 252645135) + ((((((((nI s) - ((((nI s).toUInt32 >>> ((nI 1).toUInt32 &&& Int32.toUInt32 31)).toInt32) &&& 1431655765)) &&& 858993459) + (((((nI s) - ((((nI s).toUInt32 >>> ((nI 1).toUInt32 &&& Int32.toUInt32 31)).toInt32) &&& 1431655765)).toUInt32 >>> ((nI 2).toUInt32 &&& Int32.toUInt32 31)).toInt32) &&& 858993459)) + ((((((nI s) - ((((nI s).toUInt32 >>> ((nI 1).toUInt32 &&& Int32.toUInt32 31)).toInt32) &&& 1431655765)) &&& 858993459) + (((((nI s) - ((((nI s).toUInt32 >>> ((nI 1).toUInt32 &&& Int32.toUInt32 31)).toInt32) &&& 1431655765)).toUInt32 >>> ((nI 2).toUInt32 &&& Int32.toUInt32 31)).toInt32) &&& 858993459)).toUInt32 >>> ((nI 4).toUInt32 &&& Int32.toUInt32 31)).toInt32)) &&& 252645135).toUInt32 >>> ((nI 8).toUInt32 &&& Int32.toUInt32 31)).toInt32)) + (((((((((nI s) - ((((nI s).toUInt32 >>> ((nI 1).toUInt32 &&& Int32.toUInt32 31)).toInt32) &&& 1431655765)) &&& 858993459) + (((((nI s) - ((((nI s).toUInt32 >>> ((nI 1).toUInt32 &&& Int32.toUInt32 31)).toInt32) &&& 1431655765)).toUInt32 >>> ((nI 2).toUInt32 &&& Int32.toUInt32 31)).toInt32) &&& 858993459)) + ((((((nI s) - ((((nI s).toUInt32 >>> ((nI 1).toUInt32 &&& Int32.toUInt32 31)).toInt32) &&& 1431655765)) &&& 858993459) + (((((nI s) - ((((nI s).toUInt32 >>> ((nI 1).toUInt32 &&& Int32.toUInt32 31)).toInt32) &&& 1431655765)).toUInt32 >>> ((nI 2).toUInt32 &&& Int32.toUInt32 31)).toInt32) &&& 858993459)).toUInt32 >>> ((nI 4).toUInt32 &&& Int32.toUInt32 31)).toInt32)) &&& 252645135) + ((((((((nI s) - ((((nI s).toUInt32 >>> ((nI 1).toUInt32 &&& Int32.toUInt32 31)).toInt32) &&& 1431655765)) &&& 858993459) + (((((nI s) - ((((nI s).toUInt32 >>> ((nI 1).toUInt32 &&& Int32.toUInt32 31)).toInt32) &&& 1431655765)).toUInt32 >>> ((nI 2).toUInt32 &&& Int32.toUInt32 31)).toInt32) &&& 858993459)) + ((((((nI s) - ((((nI s).toUInt32 >>> ((nI 1).toUInt32 &&& Int32.toUInt32 31)).toInt32) &&& 1431655765)) &&& 858993459) + (((((nI s) - ((((nI s).toUInt32 >>> ((nI 1).toUInt32 &&& Int32.toUInt32 31)).toInt32) &&& 1431655765)).toUInt32 >>> ((nI 2).toUInt32 &&& Int32.toUInt32 31)).toInt32) &&& 858993459)).toUInt32 >>> ((nI 4).toUInt32 &&& Int32.toUInt32 31)).toInt32)) &&& 252645135).toUInt32 >>> ((nI 8).toUInt32 &&& Int32.toUInt32 31)).toInt32)).toUInt32 >>> ((nI 16).toUInt32 &&& Int32.toUInt32 31)).toInt32))) dJ16_bitCount_46 rfl ?_
  refine r_istore_n G (lo' := [some (.int ((((((((nI s) - ((((nI s).toUInt32 >>> ((nI 1).toUInt32 &&& Int32.toUInt32 31)).toInt32) &&& 1431655765)) &&& 858993459) + (((((nI s) - ((((nI s).toUInt32 >>> ((nI 1).toUInt32 &&& Int32.toUInt32 31)).toInt32) &&& 1431655765)).toUInt32 >>> ((nI 2).toUInt32 &&& Int32.toUInt32 31)).toInt32) &&& 858993459)) + ((((((nI s) - ((((nI s).toUInt32 >>> ((nI 1).toUInt32 &&& Int32.toUInt32 31)).toInt32) &&& 1431655765)) &&& 858993459) + (((((nI s) - ((((nI s).toUInt32 >>> ((nI 1).toUInt32 &&& Int32.toUInt32 31)).toInt32) &&& 1431655765)).toUInt32 >>> ((nI 2).toUInt32 &&& Int32.toUInt32 31)).toInt32) &&& 858993459)).toUInt32 >>> ((nI 4).toUInt32 &&& Int32.toUInt32 31)).toInt32)) &&& 252645135) + ((((((((nI s) - ((((nI s).toUInt32 >>> ((nI 1).toUInt32 &&& Int32.toUInt32 31)).toInt32) &&& 1431655765)) &&& 858993459) + (((((nI s) - ((((nI s).toUInt32 >>> ((nI 1).toUInt32 &&& Int32.toUInt32 31)).toInt32) &&& 1431655765)).toUInt32 >>> ((nI 2).toUInt32 &&& Int32.toUInt32 31)).toInt32) &&& 858993459)) + ((((((nI s) - ((((nI s).toUInt32 >>> ((nI 1).toUInt32 &&& Int32.toUInt32 31)).toInt32) &&& 1431655765)) &&& 858993459) + (((((nI s) - ((((nI s).toUInt32 >>> ((nI 1).toUInt32 &&& Int32.toUInt32 31)).toInt32) &&& 1431655765)).toUInt32 >>> ((nI 2).toUInt32 &&& Int32.toUInt32 31)).toInt32) &&& 858993459)).toUInt32 >>> ((nI 4).toUInt32 &&& Int32.toUInt32 31)).toInt32)) &&& 252645135).toUInt32 >>> ((nI 8).toUInt32 &&& Int32.toUInt32 31)).toInt32)) + (((((((((nI s) - ((((nI s).toUInt32 >>> ((nI 1).toUInt32 &&& Int32.toUInt32 31)).toInt32) &&& 1431655765)) &&& 858993459) + (((((nI s) - ((((nI s).toUInt32 >>> ((nI 1).toUInt32 &&& Int32.toUInt32 31)).toInt32) &&& 1431655765)).toUInt32 >>> ((nI 2).toUInt32 &&& Int32.toUInt32 31)).toInt32) &&& 858993459)) + ((((((nI s) - ((((nI s).toUInt32 >>> ((nI 1).toUInt32 &&& Int32.toUInt32 31)).toInt32) &&& 1431655765)) &&& 858993459) + (((((nI s) - ((((nI s).toUInt32 >>> ((nI 1).toUInt32 &&& Int32.toUInt32 31)).toInt32) &&& 1431655765)).toUInt32 >>> ((nI 2).toUInt32 &&& Int32.toUInt32 31)).toInt32) &&& 858993459)).toUInt32 >>> ((nI 4).toUInt32 &&& Int32.toUInt32 31)).toInt32)) &&& 252645135) + ((((((((nI s) - ((((nI s).toUInt32 >>> ((nI 1).toUInt32 &&& Int32.toUInt32 31)).toInt32) &&& 1431655765)) &&& 858993459) + (((((nI s) - ((((nI s).toUInt32 >>> ((nI 1).toUInt32 &&& Int32.toUInt32 31)).toInt32) &&& 1431655765)).toUInt32 >>> ((nI 2).toUInt32 &&& Int32.toUInt32 31)).toInt32) &&& 858993459)) + ((((((nI s) - ((((nI s).toUInt32 >>> ((nI 1).toUInt32 &&& Int32.toUInt32 31)).toInt32) &&& 1431655765)) &&& 858993459) + (((((nI s) - ((((nI s).toUInt32 >>> ((nI 1).toUInt32 &&& Int32.toUInt32 31)).toInt32) &&& 1431655765)).toUInt32 >>> ((nI 2).toUInt32 &&& Int32.toUInt32 31)).toInt32) &&& 858993459)).toUInt32 >>> ((nI 4).toUInt32 &&& Int32.toUInt32 31)).toInt32)) &&& 252645135).toUInt32 >>> ((nI 8).toUInt32 &&& Int32.toUInt32 31)).toInt32)).toUInt32 >>> ((nI 16).toUInt32 &&& Int32.toUInt32 31)).toInt32)))]) dJ16_bitCount_47 rfl rfl ?_
  refine r_iload_n G dJ16_bitCount_48 rfl ?_
  refine r_bipush G (v := nI 63) dJ16_bitCount_49 (by decide) ?_
  refine r_iand G (v := (((((((((nI s) - ((((nI s).toUInt32 >>> ((nI 1).toUInt32 &&& Int32.toUInt32 31)).toInt32) &&& 1431655765)) &&& 858993459) + (((((nI s) - ((((nI s).toUInt32 >>> ((nI 1).toUInt32 &&& Int32.toUInt32 31)).toInt32) &&& 1431655765)).toUInt32 >>> ((nI 2).toUInt32 &&& Int32.toUInt32 31)).toInt32) &&& 858993459)) + ((((((nI s) - ((((nI s).toUInt32 >>> ((nI 1).toUInt32 &&& Int32.toUInt32 31)).toInt32) &&& 1431655765)) &&& 858993459) + (((((nI s) - ((((nI s).toUInt32 >>> ((nI 1).toUInt32 &&& Int32.toUInt32 31)).toInt32) &&& 1431655765)).toUInt32 >>> ((nI 2).toUInt32 &&& Int32.toUInt32 31)).toInt32) &&& 858993459)).toUInt32 >>> ((nI 4).toUInt32 &&& Int32.toUInt32 31)).toInt32)) &&& 252645135) + ((((((((nI s) - ((((nI s).toUInt32 >>> ((nI 1).toUInt32 &&& Int32.toUInt32 31)).toInt32) &&& 1431655765)) &&& 858993459) + (((((nI s) - ((((nI s).toUInt32 >>> ((nI 1).toUInt32 &&& Int32.toUInt32 31)).toInt32) &&& 1431655765)).toUInt32 >>> ((nI 2).toUInt32 &&& Int32.toUInt32 31)).toInt32) &&& 858993459)) + ((((((nI s) - ((((nI s).toUInt32 >>> ((nI 1).toUInt32 &&& Int32.toUInt32 31)).toInt32) &&& 1431655765)) &&& 858993459) + (((((nI s) - ((((nI s).toUInt32 >>> ((nI 1).toUInt32 &&& Int32.toUInt32 31)).toInt32) &&& 1431655765)).toUInt32 >>> ((nI 2).toUInt32 &&& Int32.toUInt32 31)).toInt32) &&& 858993459)).toUInt32 >>> ((nI 4).toUInt32 &&& Int32.toUInt32 31)).toInt32)) &&& 252645135).toUInt32 >>> ((nI 8).toUInt32 &&& Int32.toUInt32 31)).toInt32)) + (((((((((nI s) - ((((nI s).toUInt32 >>> ((nI 1).toUInt32 &&& Int32.toUInt32 31)).toInt32) &&& 1431655765)) &&& 858993459) + (((((nI s) - ((((nI s).toUInt32 >>> ((nI 1).toUInt32 &&& Int32.toUInt32 31)).toInt32) &&& 1431655765)).toUInt32 >>> ((nI 2).toUInt32 &&& Int32.toUInt32 31)).toInt32) &&& 858993459)) + ((((((nI s) - ((((nI s).toUInt32 >>> ((nI 1).toUInt32 &&& Int32.toUInt32 31)).toInt32) &&& 1431655765)) &&& 858993459) + (((((nI s) - ((((nI s).toUInt32 >>> ((nI 1).toUInt32 &&& Int32.toUInt32 31)).toInt32) &&& 1431655765)).toUInt32 >>> ((nI 2).toUInt32 &&& Int32.toUInt32 31)).toInt32) &&& 858993459)).toUInt32 >>> ((nI 4).toUInt32 &&& Int32.toUInt32 31)).toInt32)) &&& 252645135) + ((((((((nI s) - ((((nI s).toUInt32 >>> ((nI 1).toUInt32 &&& Int32.toUInt32 31)).toInt32) &&& 1431655765)) &&& 858993459) + (((((nI s) - ((((nI s).toUInt32 >>> ((nI 1).toUInt32 &&& Int32.toUInt32 31)).toInt32) &&& 1431655765)).toUInt32 >>> ((nI 2).toUInt32 &&& Int32.toUInt32 31)).toInt32) &&& 858993459)) + ((((((nI s) - ((((nI s).toUInt32 >>> ((nI 1).toUInt32 &&& Int32.toUInt32 31)).toInt32) &&& 1431655765)) &&& 858993459) + (((((nI s) - ((((nI s).toUInt32 >>> ((nI 1).toUInt32 &&& Int32.toUInt32 31)).toInt32) &&& 1431655765)).toUInt32 >>> ((nI 2).toUInt32 &&& Int32.toUInt32 31)).toInt32) &&& 858993459)).toUInt32 >>> ((nI 4).toUInt32 &&& Int32.toUInt32 31)).toInt32)) &&& 252645135).toUInt32 >>> ((nI 8).toUInt32 &&& Int32.toUInt32 31)).toInt32)).toUInt32 >>> ((nI 16).toUInt32 &&& Int32.toUInt32 31)).toInt32)) &&& (nI 63))) dJ16_bitCount_51 rfl ?_
  exact r_iret G rfl ⟨Nat.zero_le _, Nat.zero_le _⟩ dJ16_bitCount_52 ⟨rfl, congrArg (fun z => some (Value.int z)) (bc_ok s hs)⟩
theorem tz_ok : ∀ s, s < 256 → s ≠ 0 → (nI s ^^^ -1) &&& (nI s - nI 1) = nI (2 ^ lst s - 1) ∧ lst s < 8 := by decide +kernel
theorem tz_p : ∀ j, j < 8 → 2 ^ j - 1 < 256 := by decide +kernel
theorem tz_e : ∀ j, j < 8 → ¬ 0 < 2 ^ j - 1 → (nI (2 ^ j - 1)) &&& (nI 32) = nI j := by decide +kernel
theorem tz_a : ∀ j, j < 8 → 0 < 2 ^ j - 1 → 2 ^ j - 1 ≤ 16 → 2 ^ j - 1 ≤ 4 → 1 + (2 ^ j - 1) >>> 1 = j := by decide +kernel
theorem tz_b : ∀ j, j < 8 → 0 < 2 ^ j - 1 → 2 ^ j - 1 ≤ 16 → ¬ 2 ^ j - 1 ≤ 4 → 1 + 2 + ((2 ^ j - 1) >>> 2) >>> 1 = j := by decide +kernel
theorem tz_c : ∀ j, j < 8 → 0 < 2 ^ j - 1 → ¬ 2 ^ j - 1 ≤ 16 → (2 ^ j - 1) >>> 4 ≤ 4 → 1 + 4 + ((2 ^ j - 1) >>> 4) >>> 1 = j := by decide +kernel
theorem tz_d : ∀ j, j < 8 → 0 < 2 ^ j - 1 → ¬ 2 ^ j - 1 ≤ 16 → ¬ (2 ^ j - 1) >>> 4 ≤ 4 → 1 + 4 + 2 + (((2 ^ j - 1) >>> 4) >>> 2) >>> 1 = j := by decide +kernel
set_option maxHeartbeats 4000000 in
theorem sX_J16_numberOfTrailingZeros {l : Launch} {g : fG} {A : Nat → Prop} {En : State → Prop} (hE : fEnv g A En) (s : Nat) (hs : s < 256) (hs0 : s ≠ 0): sC l g A En yJ16_numberOfTrailingZeros cJ16_numberOfTrailingZeros 2 (some .int) (fR 0) [.int (nI s)] (.int (nI (lst s))) := by
  intro f
  refine fC.of (by decide) hE [some (.int (nI s)), none] rfl rfl (fun K G => ?_)
  have G : fGood l g A En RJ16 "numberOfTrailingZeros" cJ16_numberOfTrailingZeros 2 (some .int) (fR 0) _ K := G
  obtain ⟨htz, hj8⟩ := tz_ok s hs hs0
  have hp0 := tz_p _ hj8
  refine r_iload_n G dJ16_numberOfTrailingZeros_0 rfl ?_
  refine r_iconst G (v := -1) dJ16_numberOfTrailingZeros_1 (by decide) ?_
  refine r_ixor G (v := ((nI s) ^^^ (-1))) dJ16_numberOfTrailingZeros_2 rfl ?_
  refine r_iload_n G dJ16_numberOfTrailingZeros_3 rfl ?_
  refine r_iconst G (v := nI 1) dJ16_numberOfTrailingZeros_4 (by decide) ?_
  refine r_isub G (v := ((nI s) - (nI 1))) dJ16_numberOfTrailingZeros_5 rfl ?_
  refine r_iand G (v := (nI (2 ^ lst s - 1))) dJ16_numberOfTrailingZeros_6 htz ?_
  refine r_istore_n G (lo' := [some (.int (nI (2 ^ lst s - 1))), none]) dJ16_numberOfTrailingZeros_7 rfl rfl ?_
  refine r_iload_n G dJ16_numberOfTrailingZeros_8 rfl ?_
  refine r_if_gt G 17 (n_gt0 (by omega)) dJ16_numberOfTrailingZeros_9 (by decide) (fun h9 => ?_) (fun h9 => ?_)
  · refine r_iconst G (v := nI 1) dJ16_numberOfTrailingZeros_17 (by decide) ?_
    refine r_istore_n G (lo' := [some (.int (nI (2 ^ lst s - 1))), some (.int (nI 1))]) dJ16_numberOfTrailingZeros_18 rfl rfl ?_
    refine r_iload_n G dJ16_numberOfTrailingZeros_19 rfl ?_
    refine r_ldcw G (v := (nI 65536)) q259 dJ16_numberOfTrailingZeros_20 ?_
    refine r_icmp_le G 34 (nI_leI (by omega) (by decide)) dJ16_numberOfTrailingZeros_23 (by decide) (fun h23 => ?_) (fun h23 => False.elim ((by omega)))
    refine r_iload_n G dJ16_numberOfTrailingZeros_34 rfl ?_
    refine r_sipush G (v := nI 256) dJ16_numberOfTrailingZeros_35 (by decide) ?_
    refine r_icmp_le G 49 (nI_leI (by omega) (by decide)) dJ16_numberOfTrailingZeros_38 (by decide) (fun h38 => ?_) (fun h38 => False.elim ((by omega)))
    refine r_iload_n G dJ16_numberOfTrailingZeros_49 rfl ?_
    refine r_bipush G (v := nI 16) dJ16_numberOfTrailingZeros_50 (by decide) ?_
    refine r_icmp_le G 62 (nI_leI (by omega) (by decide)) dJ16_numberOfTrailingZeros_52 (by decide) (fun h52 => ?_) (fun h52 => ?_)
    · refine r_iload_n G dJ16_numberOfTrailingZeros_62 rfl ?_
      refine r_iconst G (v := nI 4) dJ16_numberOfTrailingZeros_63 (by decide) ?_
      refine r_icmp_le G 74 (nI_leI (by omega) (by decide)) dJ16_numberOfTrailingZeros_64 (by decide) (fun h64 => ?_) (fun h64 => ?_)
      · refine r_iload_n G dJ16_numberOfTrailingZeros_74 rfl ?_
        refine r_iload_n G dJ16_numberOfTrailingZeros_75 rfl ?_
        refine r_iconst G (v := nI 1) dJ16_numberOfTrailingZeros_76 (by decide) ?_
        refine r_iushr G (v := (nI ((2 ^ lst s - 1) >>> 1))) dJ16_numberOfTrailingZeros_77 (n_ushr (by omega) (by decide)) ?_
        refine r_iadd G (v := (nI (1 + ((2 ^ lst s - 1) >>> 1)))) dJ16_numberOfTrailingZeros_78 (nI_add 1 ((2 ^ lst s - 1) >>> 1)) ?_
        exact r_iret G rfl ⟨Nat.zero_le _, Nat.zero_le _⟩ dJ16_numberOfTrailingZeros_79 ⟨rfl, rv (by first | exact tz_a _ hj8 (by omega) (by assumption) (by assumption) | exact tz_b _ hj8 (by omega) (by assumption) (by assumption) | exact tz_c _ hj8 (by omega) (by assumption) (by assumption) | exact tz_d _ hj8 (by omega) (by assumption) (by assumption))⟩
      · refine r_iinc G (v := (nI (1 + 2))) (lo' := [some (.int (nI (2 ^ lst s - 1))), some (.int (nI (1 + 2)))]) dJ16_numberOfTrailingZeros_67 rfl (nI_add 1 2) rfl rfl ?_
        refine r_iload_n G dJ16_numberOfTrailingZeros_70 rfl ?_
        refine r_iconst G (v := nI 2) dJ16_numberOfTrailingZeros_71 (by decide) ?_
        refine r_iushr G (v := (nI ((2 ^ lst s - 1) >>> 2))) dJ16_numberOfTrailingZeros_72 (n_ushr (by omega) (by decide)) ?_
        refine r_istore_n G (lo' := [some (.int (nI ((2 ^ lst s - 1) >>> 2))), some (.int (nI (1 + 2)))]) dJ16_numberOfTrailingZeros_73 rfl rfl ?_
        refine r_iload_n G dJ16_numberOfTrailingZeros_74 rfl ?_
        refine r_iload_n G dJ16_numberOfTrailingZeros_75 rfl ?_
        refine r_iconst G (v := nI 1) dJ16_numberOfTrailingZeros_76 (by decide) ?_
        refine r_iushr G (v := (nI (((2 ^ lst s - 1) >>> 2) >>> 1))) dJ16_numberOfTrailingZeros_77 (n_ushr (by omega) (by decide)) ?_
        refine r_iadd G (v := (nI ((1 + 2) + (((2 ^ lst s - 1) >>> 2) >>> 1)))) dJ16_numberOfTrailingZeros_78 (nI_add (1 + 2) (((2 ^ lst s - 1) >>> 2) >>> 1)) ?_
        exact r_iret G rfl ⟨Nat.zero_le _, Nat.zero_le _⟩ dJ16_numberOfTrailingZeros_79 ⟨rfl, rv (by first | exact tz_a _ hj8 (by omega) (by assumption) (by assumption) | exact tz_b _ hj8 (by omega) (by assumption) (by assumption) | exact tz_c _ hj8 (by omega) (by assumption) (by assumption) | exact tz_d _ hj8 (by omega) (by assumption) (by assumption))⟩
    · refine r_iinc G (v := (nI (1 + 4))) (lo' := [some (.int (nI (2 ^ lst s - 1))), some (.int (nI (1 + 4)))]) dJ16_numberOfTrailingZeros_55 rfl (nI_add 1 4) rfl rfl ?_
      refine r_iload_n G dJ16_numberOfTrailingZeros_58 rfl ?_
      refine r_iconst G (v := nI 4) dJ16_numberOfTrailingZeros_59 (by decide) ?_
      refine r_iushr G (v := (nI ((2 ^ lst s - 1) >>> 4))) dJ16_numberOfTrailingZeros_60 (n_ushr (by omega) (by decide)) ?_
      refine r_istore_n G (lo' := [some (.int (nI ((2 ^ lst s - 1) >>> 4))), some (.int (nI (1 + 4)))]) dJ16_numberOfTrailingZeros_61 rfl rfl ?_
      refine r_iload_n G dJ16_numberOfTrailingZeros_62 rfl ?_
      refine r_iconst G (v := nI 4) dJ16_numberOfTrailingZeros_63 (by decide) ?_
      refine r_icmp_le G 74 (nI_leI (by omega) (by decide)) dJ16_numberOfTrailingZeros_64 (by decide) (fun h64 => ?_) (fun h64 => ?_)
      · refine r_iload_n G dJ16_numberOfTrailingZeros_74 rfl ?_
        refine r_iload_n G dJ16_numberOfTrailingZeros_75 rfl ?_
        refine r_iconst G (v := nI 1) dJ16_numberOfTrailingZeros_76 (by decide) ?_
        refine r_iushr G (v := (nI (((2 ^ lst s - 1) >>> 4) >>> 1))) dJ16_numberOfTrailingZeros_77 (n_ushr (by omega) (by decide)) ?_
        refine r_iadd G (v := (nI ((1 + 4) + (((2 ^ lst s - 1) >>> 4) >>> 1)))) dJ16_numberOfTrailingZeros_78 (nI_add (1 + 4) (((2 ^ lst s - 1) >>> 4) >>> 1)) ?_
        exact r_iret G rfl ⟨Nat.zero_le _, Nat.zero_le _⟩ dJ16_numberOfTrailingZeros_79 ⟨rfl, rv (by first | exact tz_a _ hj8 (by omega) (by assumption) (by assumption) | exact tz_b _ hj8 (by omega) (by assumption) (by assumption) | exact tz_c _ hj8 (by omega) (by assumption) (by assumption) | exact tz_d _ hj8 (by omega) (by assumption) (by assumption))⟩
      · refine r_iinc G (v := (nI ((1 + 4) + 2))) (lo' := [some (.int (nI ((2 ^ lst s - 1) >>> 4))), some (.int (nI ((1 + 4) + 2)))]) dJ16_numberOfTrailingZeros_67 rfl (nI_add (1 + 4) 2) rfl rfl ?_
        refine r_iload_n G dJ16_numberOfTrailingZeros_70 rfl ?_
        refine r_iconst G (v := nI 2) dJ16_numberOfTrailingZeros_71 (by decide) ?_
        refine r_iushr G (v := (nI (((2 ^ lst s - 1) >>> 4) >>> 2))) dJ16_numberOfTrailingZeros_72 (n_ushr (by omega) (by decide)) ?_
        refine r_istore_n G (lo' := [some (.int (nI (((2 ^ lst s - 1) >>> 4) >>> 2))), some (.int (nI ((1 + 4) + 2)))]) dJ16_numberOfTrailingZeros_73 rfl rfl ?_
        refine r_iload_n G dJ16_numberOfTrailingZeros_74 rfl ?_
        refine r_iload_n G dJ16_numberOfTrailingZeros_75 rfl ?_
        refine r_iconst G (v := nI 1) dJ16_numberOfTrailingZeros_76 (by decide) ?_
        refine r_iushr G (v := (nI ((((2 ^ lst s - 1) >>> 4) >>> 2) >>> 1))) dJ16_numberOfTrailingZeros_77 (n_ushr (by omega) (by decide)) ?_
        refine r_iadd G (v := (nI (((1 + 4) + 2) + ((((2 ^ lst s - 1) >>> 4) >>> 2) >>> 1)))) dJ16_numberOfTrailingZeros_78 (nI_add ((1 + 4) + 2) ((((2 ^ lst s - 1) >>> 4) >>> 2) >>> 1)) ?_
        exact r_iret G rfl ⟨Nat.zero_le _, Nat.zero_le _⟩ dJ16_numberOfTrailingZeros_79 ⟨rfl, rv (by first | exact tz_a _ hj8 (by omega) (by assumption) (by assumption) | exact tz_b _ hj8 (by omega) (by assumption) (by assumption) | exact tz_c _ hj8 (by omega) (by assumption) (by assumption) | exact tz_d _ hj8 (by omega) (by assumption) (by assumption))⟩
  · refine r_iload_n G dJ16_numberOfTrailingZeros_12 rfl ?_
    refine r_bipush G (v := nI 32) dJ16_numberOfTrailingZeros_13 (by decide) ?_
    refine r_iand G (v := ((nI (2 ^ lst s - 1)) &&& (nI 32))) dJ16_numberOfTrailingZeros_15 rfl ?_
    exact r_iret G rfl ⟨Nat.zero_le _, Nat.zero_le _⟩ dJ16_numberOfTrailingZeros_16 ⟨rfl, congrArg (fun z => some (Value.int z)) (tz_e _ hj8 (by omega))⟩
set_option maxHeartbeats 4000000 in
theorem sX_X0_least {l : Launch} {g : fG} {A : Nat → Prop} {En : State → Prop} (hE : fEnv g A En) (s : Nat) (hs : s < 256) (hs0 : s ≠ 0): sC l g A En yX0_least cX0_least 1 (some .int) (fR 1) [.int (nI s)] (.int (nI (lst s))) := by
  intro f
  refine fC.of (by decide) hE [some (.int (nI s))] rfl rfl (fun K G => ?_)
  have G : fGood l g A En RX0 "least" cX0_least 1 (some .int) (fR 1) _ K := G
  refine r_iload_n G dX0_least_0 rfl ?_
  refine s_callS G [.int (nI s)] (sX_J16_numberOfTrailingZeros hE s hs hs0) (lw_S q256 q257 q95 q258) fy_yJ16_numberOfTrailingZeros rfl ⟨Nat.le_of_ble_eq_true rfl, Nat.le_of_ble_eq_true rfl⟩ rfl (Nat.le_of_ble_eq_true rfl) rfl rfl ⟨Nat.zero_le _, Nat.zero_le _⟩ dX0_least_1 ?_
  show K f 0 0 4 [some (.int (nI s))] [.int (nI (lst s))]
  exact r_iret G rfl ⟨Nat.zero_le _, Nat.zero_le _⟩ dX0_least_4 ⟨rfl, rfl⟩
set_option maxHeartbeats 4000000 in
theorem sX_J18_checkIndex {l : Launch} {g : fG} {A : Nat → Prop} {En : State → Prop} (hE : fEnv g A En) (i n : Nat) (hi : i < n) (hn : n < 2 ^ 31): sC l g A En yJ18_checkIndex cJ18_checkIndex 3 (some .int) (fR 0) [.int (nI i), .int (nI n), .null] (.int (nI i)) := by
  intro f
  refine fC.of (by decide) hE [some (.int (nI i)), some (.int (nI n)), some (.null)] rfl rfl (fun K G => ?_)
  have G : fGood l g A En RJ18 "checkIndex" cJ18_checkIndex 3 (some .int) (fR 0) _ K := G
  refine r_iload_n G dJ18_checkIndex_0 rfl ?_
  refine r_if_lt G 9 (n_lt0 (by omega)) dJ18_checkIndex_1 (by decide) (fun h1 => False.elim ((by first | exact h1 | omega))) (fun h1 => ?_)
  refine r_iload_n G dJ18_checkIndex_4 rfl ?_
  refine r_iload_n G dJ18_checkIndex_5 rfl ?_
  refine r_icmp_lt G 16 (nI_ltI (by omega) hn) dJ18_checkIndex_6 (by decide) (fun h6 => ?_) (fun h6 => False.elim ((by omega)))
  refine r_iload_n G dJ18_checkIndex_16 rfl ?_
  exact r_iret G rfl ⟨Nat.zero_le _, Nat.zero_le _⟩ dJ18_checkIndex_17 ⟨rfl, rfl⟩
set_option maxHeartbeats 4000000 in
theorem sX_J17_checkIndex {l : Launch} {g : fG} {A : Nat → Prop} {En : State → Prop} (hE : fEnv g A En) (i n : Nat) (hi : i < n) (hn : n < 2 ^ 31): sC l g A En yJ17_checkIndex cJ17_checkIndex 2 (some .int) (fR 1) [.int (nI i), .int (nI n)] (.int (nI i)) := by
  intro f
  refine fC.of (by decide) hE [some (.int (nI i)), some (.int (nI n))] rfl rfl (fun K G => ?_)
  have G : fGood l g A En RJ17 "checkIndex" cJ17_checkIndex 2 (some .int) (fR 1) _ K := G
  refine r_iload_n G dJ17_checkIndex_0 rfl ?_
  refine r_iload_n G dJ17_checkIndex_1 rfl ?_
  refine r_null G dJ17_checkIndex_2 ?_
  refine s_callS G [.int (nI i), .int (nI n), .null] (sX_J18_checkIndex hE i n hi hn) (lw_S q197 q198 q97 q199) fy_yJ18_checkIndex rfl ⟨Nat.le_of_ble_eq_true rfl, Nat.le_of_ble_eq_true rfl⟩ rfl (Nat.le_of_ble_eq_true rfl) rfl rfl ⟨Nat.zero_le _, Nat.zero_le _⟩ dJ17_checkIndex_3 ?_
  show K f 0 0 6 [some (.int (nI i)), some (.int (nI n))] [.int (nI i)]
  exact r_iret G rfl ⟨Nat.zero_le _, Nat.zero_le _⟩ dJ17_checkIndex_6 ⟨rfl, rfl⟩
end XX1
