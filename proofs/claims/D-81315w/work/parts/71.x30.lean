/-! the component: exceptions -/
set_option maxRecDepth 100000
section XX30
def xEx : List Cond := [.declares ({ cls := "java/lang/IndexOutOfBoundsException", name := "<init>", desc := "(Ljava/lang/String;)V" } : MethodName),
  .declares ({ cls := "java/lang/RuntimeException", name := "<init>", desc := "(Ljava/lang/String;)V" } : MethodName),
  .declares ({ cls := "java/lang/Exception", name := "<init>", desc := "(Ljava/lang/String;)V" } : MethodName),
  .declares ({ cls := "java/lang/Throwable", name := "<init>", desc := "(Ljava/lang/String;)V" } : MethodName),
  .castable "java/lang/ArrayIndexOutOfBoundsException" "java/lang/ArrayIndexOutOfBoundsException",
  .castable "java/lang/NegativeArraySizeException" "java/lang/NegativeArraySizeException",
  .castable "java/lang/ClassCastException" "java/lang/ClassCastException",
  .castable "java/lang/ArrayStoreException" "java/lang/ArrayStoreException",
  .castable "java/lang/IndexOutOfBoundsException" "java/lang/IndexOutOfBoundsException",
  .castable "java/lang/RuntimeException" "java/lang/Throwable",
  .declares ({ cls := "java/lang/RuntimeException", name := "<init>", desc := "()V" } : MethodName),
  .declares ({ cls := "java/lang/Exception", name := "<init>", desc := "()V" } : MethodName),
  .declares ({ cls := "java/lang/Throwable", name := "<init>", desc := "()V" } : MethodName),
  .castable "java/lang/NullPointerException" "java/lang/NullPointerException",
  .castable "java/lang/ArrayIndexOutOfBoundsException" "java/lang/IndexOutOfBoundsException",
  .castable "java/lang/NullPointerException" "java/lang/Object",
  .castable "java/lang/ClassCastException" "java/lang/Object",
  .castable "java/lang/ArrayStoreException" "java/lang/Object",
  .castable "java/lang/NegativeArraySizeException" "java/lang/Object",
  .castable "java/lang/ArrayIndexOutOfBoundsException" "java/lang/Object",
  .castable "java/lang/IndexOutOfBoundsException" "java/lang/Object",
  .castable "java/lang/Throwable" "java/lang/Object",
  .castable "java/lang/String" "java/lang/Object"]
def xNc : List (String × String) := [("java/lang/ClassCastException", "java/lang/NullPointerException"),
  ("java/lang/ArrayStoreException", "java/lang/NullPointerException"),
  ("java/lang/NegativeArraySizeException", "java/lang/NullPointerException"),
  ("java/lang/NegativeArraySizeException", "java/lang/ClassCastException"),
  ("java/lang/NegativeArraySizeException", "java/lang/ArrayStoreException"),
  ("java/lang/ArrayIndexOutOfBoundsException", "java/lang/NullPointerException"),
  ("java/lang/ArrayIndexOutOfBoundsException", "java/lang/ClassCastException"),
  ("java/lang/ArrayIndexOutOfBoundsException", "java/lang/ArrayStoreException"),
  ("java/lang/ArrayIndexOutOfBoundsException", "java/lang/NegativeArraySizeException"),
  ("java/lang/IndexOutOfBoundsException", "java/lang/NullPointerException"),
  ("java/lang/IndexOutOfBoundsException", "java/lang/ClassCastException"),
  ("java/lang/IndexOutOfBoundsException", "java/lang/ArrayStoreException"),
  ("java/lang/IndexOutOfBoundsException", "java/lang/NegativeArraySizeException"),
  ("[B", "[S"),
  ("[B", "[I"),
  ("[S", "[B"),
  ("[S", "[I"),
  ("[I", "[B"),
  ("[I", "[S"),
  ("VineRows$Plain", "VineRows$Broad"),
  ("VineRows$Plain", "VineRows$Doubled"),
  ("VineRows$Broad", "VineRows$Doubled")]
/-- what throwing asks of a world beside fX -/
def fY (l : Launch) (A : Nat → Prop) (En : State → Prop) : Prop := l.stackTraces = false ∧ (∀ (i : Nat) (w : Cond), xEx[i]? = some w → ∀ U, En U → va_Nw w U) ∧ (∀ (i : Nat) (t : String × String), xNc[i]? = some t → ∀ U, En U → va_Nc t.1 t.2 U) ∧ (∀ U, En U → vx_Zq Bundle.tN "UNASSIGNED_STACK" Bundle.steD A U U.heap) ∧ (∀ U, En U → vx_Zq Bundle.tN "SUPPRESSED_SENTINEL" Bundle.listD A U U.heap) ∧ ∀ U, En U → modulesRight_1 U = true
theorem fY.tr {l : Launch} {A : Nat → Prop} {En : State → Prop} (h : fY l A En) : l.stackTraces = false := h.1
theorem fY.ex {l : Launch} {A : Nat → Prop} {En : State → Prop} (h : fY l A En) : ∀ (i : Nat) (w : Cond), xEx[i]? = some w → ∀ U, En U → va_Nw w U := h.2.1
theorem fY.nc {l : Launch} {A : Nat → Prop} {En : State → Prop} (h : fY l A En) : ∀ (i : Nat) (t : String × String), xNc[i]? = some t → ∀ U, En U → va_Nc t.1 t.2 U := h.2.2.1
theorem fY.u {l : Launch} {A : Nat → Prop} {En : State → Prop} (h : fY l A En) : ∀ U, En U → vx_Zq Bundle.tN "UNASSIGNED_STACK" Bundle.steD A U U.heap := h.2.2.2.1
theorem fY.n {l : Launch} {A : Nat → Prop} {En : State → Prop} (h : fY l A En) : ∀ U, En U → vx_Zq Bundle.tN "SUPPRESSED_SENTINEL" Bundle.listD A U U.heap := h.2.2.2.2.1
theorem fY.md {l : Launch} {A : Nat → Prop} {En : State → Prop} (h : fY l A En) : ∀ U, En U → modulesRight_1 U = true := h.2.2.2.2.2
theorem xEx_ok : ∀ w ∈ xEx, w.onTables = true := by decide +kernel
theorem fY.exs {l : Launch} {A : Nat → Prop} {En : State → Prop} (h : fY l A En) {U : State} (hU : En U) (args : Array Value) : ∀ w ∈ xEx, w.before args U = true := fun w hw => by
  obtain ⟨i, hi⟩ := List.getElem?_of_mem hw
  exact va_any (xEx_ok w hw) (h.ex i w hi U hU)
/-- a class of exceptions that the machine throws with a text -/
def exM (cls : String) (names : List String) : Prop := Bundle.fit cls = true ∧ (∀ n ∈ names, Bundle.fit n = true) ∧ (cls == "java/lang/StackOverflowError") = false ∧ (cls == "java/lang/OutOfMemoryError") = false ∧ names.length ≤ 3 ∧ (∀ w ∈ (vx_atM cls names).filter goodWord, w ∈ lw_all) ∧ (∀ w ∈ (vx_atM cls names).filter (fun w => !goodWord w), w ∈ xEx) ∧ ∀ w ∈ vx_atM cls names, vx_ot w = true
theorem exw_aio : ∀ w ∈ (vx_atM "java/lang/ArrayIndexOutOfBoundsException" ["java/lang/IndexOutOfBoundsException", "java/lang/RuntimeException", "java/lang/Exception"]).filter goodWord, w ∈ lw_all := lw_in _ [78, 682, 623, 644, 647, 649, 683, 684, 109, 110, 617, 622, 645, 652, 676, 653, 677, 654, 678, 618, 620, 679, 615, 616, 651, 679, 752, 753, 754, 755, 755, 756, 757, 609, 609, 610, 611, 612, 612, 613, 614, 615, 83, 685, 686, 687, 689, 688, 690, 87, 751, 768, 625, 760, 761, 763, 759, 650, 680, 758] (by decide +kernel) (by decide +kernel)
theorem exb_aio : ∀ w ∈ (vx_atM "java/lang/ArrayIndexOutOfBoundsException" ["java/lang/IndexOutOfBoundsException", "java/lang/RuntimeException", "java/lang/Exception"]).filter (fun w => !goodWord w), w ∈ xEx := by
  intro w hw
  rw [show (vx_atM "java/lang/ArrayIndexOutOfBoundsException" ["java/lang/IndexOutOfBoundsException", "java/lang/RuntimeException", "java/lang/Exception"]).filter (fun w => !goodWord w) = [0, 1, 2, 3, 4].filterMap (fun i => xEx[i]?) from by decide +kernel] at hw
  obtain ⟨i, -, hi⟩ := List.mem_filterMap.mp hw
  exact List.mem_of_getElem? hi
theorem exM_aio : exM "java/lang/ArrayIndexOutOfBoundsException" ["java/lang/IndexOutOfBoundsException", "java/lang/RuntimeException", "java/lang/Exception"] := ⟨by decide +kernel, by decide +kernel, by decide +kernel, by decide +kernel, by decide, exw_aio, exb_aio, by decide +kernel⟩
theorem exw_nas : ∀ w ∈ (vx_atM "java/lang/NegativeArraySizeException" ["java/lang/RuntimeException", "java/lang/Exception"]).filter goodWord, w ∈ lw_all := lw_in _ [78, 682, 623, 644, 647, 649, 683, 684, 109, 110, 617, 622, 645, 652, 676, 653, 677, 654, 678, 618, 620, 679, 615, 616, 651, 679, 606, 607, 608, 609, 609, 610, 611, 612, 612, 613, 614, 615, 83, 685, 686, 687, 689, 688, 690, 85, 605, 675, 629, 659, 661, 665, 657, 650, 680, 655] (by decide +kernel) (by decide +kernel)
theorem exb_nas : ∀ w ∈ (vx_atM "java/lang/NegativeArraySizeException" ["java/lang/RuntimeException", "java/lang/Exception"]).filter (fun w => !goodWord w), w ∈ xEx := by
  intro w hw
  rw [show (vx_atM "java/lang/NegativeArraySizeException" ["java/lang/RuntimeException", "java/lang/Exception"]).filter (fun w => !goodWord w) = [1, 2, 3, 5].filterMap (fun i => xEx[i]?) from by decide +kernel] at hw
  obtain ⟨i, -, hi⟩ := List.mem_filterMap.mp hw
  exact List.mem_of_getElem? hi
theorem exM_nas : exM "java/lang/NegativeArraySizeException" ["java/lang/RuntimeException", "java/lang/Exception"] := ⟨by decide +kernel, by decide +kernel, by decide +kernel, by decide +kernel, by decide, exw_nas, exb_nas, by decide +kernel⟩
theorem exw_cce : ∀ w ∈ (vx_atM "java/lang/ClassCastException" ["java/lang/RuntimeException", "java/lang/Exception"]).filter goodWord, w ∈ lw_all := lw_in _ [78, 682, 623, 644, 647, 649, 683, 684, 109, 110, 617, 622, 645, 652, 676, 653, 677, 654, 678, 618, 620, 679, 615, 616, 651, 679, 781, 782, 783, 609, 609, 610, 611, 612, 612, 613, 614, 615, 83, 685, 686, 687, 689, 688, 690, 82, 780, 792, 627, 786, 787, 789, 785, 650, 680, 784] (by decide +kernel) (by decide +kernel)
theorem exb_cce : ∀ w ∈ (vx_atM "java/lang/ClassCastException" ["java/lang/RuntimeException", "java/lang/Exception"]).filter (fun w => !goodWord w), w ∈ xEx := by
  intro w hw
  rw [show (vx_atM "java/lang/ClassCastException" ["java/lang/RuntimeException", "java/lang/Exception"]).filter (fun w => !goodWord w) = [1, 2, 3, 6].filterMap (fun i => xEx[i]?) from by decide +kernel] at hw
  obtain ⟨i, -, hi⟩ := List.mem_filterMap.mp hw
  exact List.mem_of_getElem? hi
theorem exM_cce : exM "java/lang/ClassCastException" ["java/lang/RuntimeException", "java/lang/Exception"] := ⟨by decide +kernel, by decide +kernel, by decide +kernel, by decide +kernel, by decide, exw_cce, exb_cce, by decide +kernel⟩
theorem exw_ase : ∀ w ∈ (vx_atM "java/lang/ArrayStoreException" ["java/lang/RuntimeException", "java/lang/Exception"]).filter goodWord, w ∈ lw_all := lw_in _ [78, 682, 623, 644, 647, 649, 683, 684, 109, 110, 617, 622, 645, 652, 676, 653, 677, 654, 678, 618, 620, 679, 615, 616, 651, 679, 859, 860, 861, 609, 609, 610, 611, 612, 612, 613, 614, 615, 83, 685, 686, 687, 689, 688, 690, 84, 858, 870, 626, 864, 865, 867, 863, 650, 680, 862] (by decide +kernel) (by decide +kernel)
theorem exb_ase : ∀ w ∈ (vx_atM "java/lang/ArrayStoreException" ["java/lang/RuntimeException", "java/lang/Exception"]).filter (fun w => !goodWord w), w ∈ xEx := by
  intro w hw
  rw [show (vx_atM "java/lang/ArrayStoreException" ["java/lang/RuntimeException", "java/lang/Exception"]).filter (fun w => !goodWord w) = [1, 2, 3, 7].filterMap (fun i => xEx[i]?) from by decide +kernel] at hw
  obtain ⟨i, -, hi⟩ := List.mem_filterMap.mp hw
  exact List.mem_of_getElem? hi
theorem exM_ase : exM "java/lang/ArrayStoreException" ["java/lang/RuntimeException", "java/lang/Exception"] := ⟨by decide +kernel, by decide +kernel, by decide +kernel, by decide +kernel, by decide, exw_ase, exb_ase, by decide +kernel⟩
theorem exw_iob : ∀ w ∈ (vx_atM "java/lang/IndexOutOfBoundsException" ["java/lang/RuntimeException", "java/lang/Exception"]).filter goodWord, w ∈ lw_all := lw_in _ [78, 682, 623, 644, 647, 649, 683, 684, 109, 110, 617, 622, 645, 652, 676, 653, 677, 654, 678, 618, 620, 679, 615, 616, 651, 679, 755, 756, 757, 609, 609, 610, 611, 612, 612, 613, 614, 615, 83, 685, 686, 687, 689, 688, 690, 86, 894, 896, 628, 897, 898, 899, 900, 650, 680, 901] (by decide +kernel) (by decide +kernel)
theorem exb_iob : ∀ w ∈ (vx_atM "java/lang/IndexOutOfBoundsException" ["java/lang/RuntimeException", "java/lang/Exception"]).filter (fun w => !goodWord w), w ∈ xEx := by
  intro w hw
  rw [show (vx_atM "java/lang/IndexOutOfBoundsException" ["java/lang/RuntimeException", "java/lang/Exception"]).filter (fun w => !goodWord w) = [1, 2, 3, 8].filterMap (fun i => xEx[i]?) from by decide +kernel] at hw
  obtain ⟨i, -, hi⟩ := List.mem_filterMap.mp hw
  exact List.mem_of_getElem? hi
theorem exM_iob : exM "java/lang/IndexOutOfBoundsException" ["java/lang/RuntimeException", "java/lang/Exception"] := ⟨by decide +kernel, by decide +kernel, by decide +kernel, by decide +kernel, by decide, exw_iob, exb_iob, by decide +kernel⟩
theorem exw_npe : ∀ w ∈ (vx_atN 8).filter goodWord, w ∈ lw_all := lw_in _ [78, 682, 623, 644, 647, 649, 683, 684, 109, 110, 617, 622, 645, 652, 676, 653, 677, 654, 678, 618, 620, 679, 641, 631, 632, 735, 737, 638, 639, 726, 727, 728, 729, 729, 730, 731, 732, 732, 733, 734, 683, 81, 636, 748, 630, 743, 744, 746, 650, 680, 741] (by decide +kernel) (by decide +kernel)
theorem exb_npe : ∀ w ∈ (vx_atN 8).filter (fun w => !goodWord w), w ∈ xEx := by
  intro w hw
  rw [show (vx_atN 8).filter (fun w => !goodWord w) = [9, 10, 11, 12, 13].filterMap (fun i => xEx[i]?) from by decide +kernel] at hw
  obtain ⟨i, -, hi⟩ := List.mem_filterMap.mp hw
  exact List.mem_of_getElem? hi
theorem exo_npe : ∀ w ∈ vx_atN 8, vx_ot w = true := by decide +kernel
end XX30
