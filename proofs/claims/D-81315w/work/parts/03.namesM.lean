theorem q138 : (Jvm.Cond.arrayOver (Jvm.ClassFile.FieldType.object "VineRows$Sheet")) ∈ lw_tbl := lw_at lw_m1 69 rfl
set_option maxRecDepth 100000
theorem q163 : (Jvm.Cond.arrayClass Jvm.ClassFile.FieldType.int) ∈ lw_all := lw_g (lw_at lw_m1 94 rfl) rfl
theorem q483 : (Jvm.Cond.arrayOver (Jvm.ClassFile.FieldType.object "java/lang/Object")) ∈ lw_tbl := lw_at lw_m2 174 rfl
theorem q686 : (Jvm.Cond.arrayClass Jvm.ClassFile.FieldType.byte) ∈ lw_all := lw_g (lw_at lw_m3 137 rfl) rfl
theorem q712 : (Jvm.Cond.arrayClass Jvm.ClassFile.FieldType.short) ∈ lw_all := lw_g (lw_at lw_m3 163 rfl) rfl
/-! VineRowsModel -/
set_option maxRecDepth 100000
def RX1 : String := "VineRowsModel"
def TX1 : u_T := fun k => match k with
  | 0 => ("VineRowsModel", "fault", "I", false)
  | 1 => ("VineRowsModel", "trace", "I", false)
  | 2 => ("VineRowsModel", "sorts", "[I", true)
  | 3 => ("VineRowsModel", "sheetLong", "[I", true)
  | 4 => ("VineRowsModel", "cells", "[I", true)
  | 5 => ("VineRowsModel", "posts", "I", false)
  | 6 => ("VineRowsModel", "grafts", "I", false)
  | 7 => ("VineRowsModel", "twigs", "[I", true)
  | 8 => ("VineRowsModel", "kind", "[I", true)
  | 9 => ("VineRowsModel", "loads", "[I", true)
  | 10 => ("VineRowsModel", "at", "I", false)
  | 11 => ("VineRowsModel", "readPosts", "I", false)
  | 12 => ("VineRowsModel", "readRow", "[I", true)
  | 13 => ("VineRowsModel", "readKind", "[I", true)
  | 14 => ("VineRowsModel", "readLoad", "[I", true)
  | 15 => ("VineRowsModel", "fars", "[I", true)
  | 16 => ("VineRowsModel", "rowNow", "[I", true)
  | 17 => ("VineRowsModel", "less", "[I", true)
  | 18 => ("VineRowsModel", "keptTwigs", "[I", true)
  | 19 => ("VineRowsModel", "keptLoads", "[I", true)
  | 20 => ("VineRowsModel", "names", "[I", true)
  | 21 => ("VineRowsModel", "twigA", "[I", true)
  | 22 => ("VineRowsModel", "twigB", "[I", true)
  | 23 => ("VineRowsModel", "readings", "I", false)
  | 24 => ("VineRowsModel", "readFrom", "[I", true)
  | 25 => ("VineRowsModel", "readTo", "[I", true)
  | _ => ("VineRowsModel", "readWorth", "[I", true)
def tyX1 : Nat → FieldType := fun k => match k with
  | 0 => .int
  | 1 => .int
  | 2 => .array .int
  | 3 => .array .int
  | 4 => .array .int
  | 5 => .int
  | 6 => .int
  | 7 => .array .int
  | 8 => .array .int
  | 9 => .array .int
  | 10 => .int
  | 11 => .int
  | 12 => .array .int
  | 13 => .array .int
  | 14 => .array .int
  | 15 => .array .int
  | 16 => .array .int
  | 17 => .array .int
  | 18 => .array .int
  | 19 => .array .int
  | 20 => .array .int
  | 21 => .array .int
  | 22 => .array .int
  | 23 => .int
  | 24 => .array .int
  | 25 => .array .int
  | _ => .array .int
abbrev wsX10 : List Cond := u_ws RX1 TX1 27
set_option maxRecDepth 100000 in
theorem nmX1 : ∀ a, a < 27 → ∀ b, b < 27 → a ≠ b → (TX1 a).2.1 ≠ (TX1 b).2.1 := by decide +kernel
set_option maxRecDepth 100000 in
theorem tyX1_ok : ∀ k, k < 27 → parseFieldDescriptor (TX1 k).2.2.1 = some (tyX1 k) := by decide +kernel
abbrev cX1_init : ByteArray := prog_15_method_1_code
def yX1_init : MethodName := ⟨RX1, "<init>", "()V"⟩
def dkwX1_init_7 : List UInt8 := [16, 8, 188, 10, 181, 0, 64, 42, 16, 8, 188, 10, 181, 0, 67, 177]
abbrev dktX1_init_7 : List UInt8 := dkwX1_init_7 ++ []
def dkwX1_init_6 : List UInt8 := [16, 7, 188, 10, 181, 0, 55, 42, 16, 7, 188, 10, 181, 0, 58, 42, 16, 8, 188, 10, 181, 0, 61, 42]
abbrev dktX1_init_6 : List UInt8 := dkwX1_init_6 ++ dktX1_init_7
def dkwX1_init_5 : List UInt8 := [16, 8, 188, 10, 181, 0, 46, 42, 16, 8, 188, 10, 181, 0, 49, 42, 16, 8, 188, 10, 181, 0, 52, 42]
abbrev dktX1_init_5 : List UInt8 := dkwX1_init_5 ++ dktX1_init_6
def dkwX1_init_4 : List UInt8 := [16, 64, 188, 10, 181, 0, 37, 42, 16, 6, 188, 10, 181, 0, 40, 42, 16, 8, 188, 10, 181, 0, 43, 42]
abbrev dktX1_init_4 : List UInt8 := dkwX1_init_4 ++ dktX1_init_5
def dkwX1_init_3 : List UInt8 := [16, 6, 188, 10, 181, 0, 28, 42, 16, 8, 188, 10, 181, 0, 31, 42, 16, 8, 188, 10, 181, 0, 34, 42]
abbrev dktX1_init_3 : List UInt8 := dkwX1_init_3 ++ dktX1_init_4
def dkwX1_init_2 : List UInt8 := [16, 8, 188, 10, 181, 0, 19, 42, 16, 8, 188, 10, 181, 0, 22, 42, 16, 8, 188, 10, 181, 0, 25, 42]
abbrev dktX1_init_2 : List UInt8 := dkwX1_init_2 ++ dktX1_init_3
def dkwX1_init_1 : List UInt8 := [6, 16, 247, 79, 181, 0, 9, 42, 7, 188, 10, 181, 0, 13, 42, 17, 0, 240, 188, 10, 181, 0, 16, 42]
abbrev dktX1_init_1 : List UInt8 := dkwX1_init_1 ++ dktX1_init_2
def dkwX1_init_0 : List UInt8 := [42, 183, 0, 1, 42, 7, 188, 10, 89, 3, 16, 247, 79, 89, 4, 16, 247, 79, 89, 5, 16, 247, 79, 89]
abbrev dktX1_init_0 : List UInt8 := dkwX1_init_0 ++ dktX1_init_1
theorem dksX1_init_0 : cX1_init.data.toList.drop 0 = dktX1_init_0 := by decide +kernel
theorem dksX1_init_1 : cX1_init.data.toList.drop 24 = dktX1_init_1 := dk_seg dksX1_init_0 24 rfl rfl
theorem dksX1_init_2 : cX1_init.data.toList.drop 48 = dktX1_init_2 := dk_seg dksX1_init_1 24 rfl rfl
theorem dksX1_init_3 : cX1_init.data.toList.drop 72 = dktX1_init_3 := dk_seg dksX1_init_2 24 rfl rfl
theorem dksX1_init_4 : cX1_init.data.toList.drop 96 = dktX1_init_4 := dk_seg dksX1_init_3 24 rfl rfl
theorem dksX1_init_5 : cX1_init.data.toList.drop 120 = dktX1_init_5 := dk_seg dksX1_init_4 24 rfl rfl
theorem dksX1_init_6 : cX1_init.data.toList.drop 144 = dktX1_init_6 := dk_seg dksX1_init_5 24 rfl rfl
theorem dksX1_init_7 : cX1_init.data.toList.drop 168 = dktX1_init_7 := dk_seg dksX1_init_6 24 rfl rfl
theorem dX1_init_0 : decode cX1_init 0 = .ok (.aload_n 0, 1) := dk_42 (dk_at dksX1_init_0 0 rfl rfl)
theorem dX1_init_1 : decode cX1_init 1 = .ok (.invokespecial 1, 3) := dk_183 0 1 (dk_at dksX1_init_0 1 rfl rfl)
theorem dX1_init_4 : decode cX1_init 4 = .ok (.aload_n 0, 1) := dk_42 (dk_at dksX1_init_0 4 rfl rfl)
theorem dX1_init_5 : decode cX1_init 5 = .ok (.iconst 4, 1) := dk_7 (dk_at dksX1_init_0 5 rfl rfl)
theorem dX1_init_6 : decode cX1_init 6 = .ok (.newarray .int, 2) := dk_188_10 (dk_at dksX1_init_0 6 rfl rfl)
theorem dX1_init_8 : decode cX1_init 8 = .ok (.dup, 1) := dk_89 (dk_at dksX1_init_0 8 rfl rfl)
theorem dX1_init_9 : decode cX1_init 9 = .ok (.iconst 0, 1) := dk_3 (dk_at dksX1_init_0 9 rfl rfl)
theorem dX1_init_10 : decode cX1_init 10 = .ok (.bipush (-9), 2) := dk_16 247 (dk_at dksX1_init_0 10 rfl rfl)
theorem dX1_init_12 : decode cX1_init 12 = .ok (.iastore, 1) := dk_79 (dk_at dksX1_init_0 12 rfl rfl)
theorem dX1_init_13 : decode cX1_init 13 = .ok (.dup, 1) := dk_89 (dk_at dksX1_init_0 13 rfl rfl)
theorem dX1_init_14 : decode cX1_init 14 = .ok (.iconst 1, 1) := dk_4 (dk_at dksX1_init_0 14 rfl rfl)
theorem dX1_init_15 : decode cX1_init 15 = .ok (.bipush (-9), 2) := dk_16 247 (dk_at dksX1_init_0 15 rfl rfl)
theorem dX1_init_17 : decode cX1_init 17 = .ok (.iastore, 1) := dk_79 (dk_at dksX1_init_0 17 rfl rfl)
theorem dX1_init_18 : decode cX1_init 18 = .ok (.dup, 1) := dk_89 (dk_at dksX1_init_0 18 rfl rfl)
theorem dX1_init_19 : decode cX1_init 19 = .ok (.iconst 2, 1) := dk_5 (dk_at dksX1_init_0 19 rfl rfl)
theorem dX1_init_20 : decode cX1_init 20 = .ok (.bipush (-9), 2) := dk_16 247 (dk_at dksX1_init_0 20 rfl rfl)
theorem dX1_init_22 : decode cX1_init 22 = .ok (.iastore, 1) := dk_79 (dk_at dksX1_init_0 22 rfl rfl)
theorem dX1_init_23 : decode cX1_init 23 = .ok (.dup, 1) := dk_89 (dk_at dksX1_init_0 23 rfl rfl)
theorem dX1_init_24 : decode cX1_init 24 = .ok (.iconst 3, 1) := dk_6 (dk_at dksX1_init_1 0 rfl rfl)
theorem dX1_init_25 : decode cX1_init 25 = .ok (.bipush (-9), 2) := dk_16 247 (dk_at dksX1_init_1 1 rfl rfl)
theorem dX1_init_27 : decode cX1_init 27 = .ok (.iastore, 1) := dk_79 (dk_at dksX1_init_1 3 rfl rfl)
theorem dX1_init_28 : decode cX1_init 28 = .ok (.putfield 9, 3) := dk_181 0 9 (dk_at dksX1_init_1 4 rfl rfl)
theorem dX1_init_31 : decode cX1_init 31 = .ok (.aload_n 0, 1) := dk_42 (dk_at dksX1_init_1 7 rfl rfl)
theorem dX1_init_32 : decode cX1_init 32 = .ok (.iconst 4, 1) := dk_7 (dk_at dksX1_init_1 8 rfl rfl)
theorem dX1_init_33 : decode cX1_init 33 = .ok (.newarray .int, 2) := dk_188_10 (dk_at dksX1_init_1 9 rfl rfl)
theorem dX1_init_35 : decode cX1_init 35 = .ok (.putfield 13, 3) := dk_181 0 13 (dk_at dksX1_init_1 11 rfl rfl)
theorem dX1_init_38 : decode cX1_init 38 = .ok (.aload_n 0, 1) := dk_42 (dk_at dksX1_init_1 14 rfl rfl)
theorem dX1_init_39 : decode cX1_init 39 = .ok (.sipush 240, 3) := dk_17 0 240 (dk_at dksX1_init_1 15 rfl rfl)
theorem dX1_init_42 : decode cX1_init 42 = .ok (.newarray .int, 2) := dk_188_10 (dk_at dksX1_init_1 18 rfl rfl)
theorem dX1_init_44 : decode cX1_init 44 = .ok (.putfield 16, 3) := dk_181 0 16 (dk_at dksX1_init_1 20 rfl rfl)
theorem dX1_init_47 : decode cX1_init 47 = .ok (.aload_n 0, 1) := dk_42 (dk_at dksX1_init_1 23 rfl rfl)
theorem dX1_init_48 : decode cX1_init 48 = .ok (.bipush 8, 2) := dk_16 8 (dk_at dksX1_init_2 0 rfl rfl)
theorem dX1_init_50 : decode cX1_init 50 = .ok (.newarray .int, 2) := dk_188_10 (dk_at dksX1_init_2 2 rfl rfl)
theorem dX1_init_52 : decode cX1_init 52 = .ok (.putfield 19, 3) := dk_181 0 19 (dk_at dksX1_init_2 4 rfl rfl)
theorem dX1_init_55 : decode cX1_init 55 = .ok (.aload_n 0, 1) := dk_42 (dk_at dksX1_init_2 7 rfl rfl)
theorem dX1_init_56 : decode cX1_init 56 = .ok (.bipush 8, 2) := dk_16 8 (dk_at dksX1_init_2 8 rfl rfl)
theorem dX1_init_58 : decode cX1_init 58 = .ok (.newarray .int, 2) := dk_188_10 (dk_at dksX1_init_2 10 rfl rfl)
theorem dX1_init_60 : decode cX1_init 60 = .ok (.putfield 22, 3) := dk_181 0 22 (dk_at dksX1_init_2 12 rfl rfl)
theorem dX1_init_63 : decode cX1_init 63 = .ok (.aload_n 0, 1) := dk_42 (dk_at dksX1_init_2 15 rfl rfl)
theorem dX1_init_64 : decode cX1_init 64 = .ok (.bipush 8, 2) := dk_16 8 (dk_at dksX1_init_2 16 rfl rfl)
theorem dX1_init_66 : decode cX1_init 66 = .ok (.newarray .int, 2) := dk_188_10 (dk_at dksX1_init_2 18 rfl rfl)
theorem dX1_init_68 : decode cX1_init 68 = .ok (.putfield 25, 3) := dk_181 0 25 (dk_at dksX1_init_2 20 rfl rfl)
theorem dX1_init_71 : decode cX1_init 71 = .ok (.aload_n 0, 1) := dk_42 (dk_at dksX1_init_2 23 rfl rfl)
theorem dX1_init_72 : decode cX1_init 72 = .ok (.bipush 6, 2) := dk_16 6 (dk_at dksX1_init_3 0 rfl rfl)
theorem dX1_init_74 : decode cX1_init 74 = .ok (.newarray .int, 2) := dk_188_10 (dk_at dksX1_init_3 2 rfl rfl)
theorem dX1_init_76 : decode cX1_init 76 = .ok (.putfield 28, 3) := dk_181 0 28 (dk_at dksX1_init_3 4 rfl rfl)
theorem dX1_init_79 : decode cX1_init 79 = .ok (.aload_n 0, 1) := dk_42 (dk_at dksX1_init_3 7 rfl rfl)
theorem dX1_init_80 : decode cX1_init 80 = .ok (.bipush 8, 2) := dk_16 8 (dk_at dksX1_init_3 8 rfl rfl)
theorem dX1_init_82 : decode cX1_init 82 = .ok (.newarray .int, 2) := dk_188_10 (dk_at dksX1_init_3 10 rfl rfl)
theorem dX1_init_84 : decode cX1_init 84 = .ok (.putfield 31, 3) := dk_181 0 31 (dk_at dksX1_init_3 12 rfl rfl)
theorem dX1_init_87 : decode cX1_init 87 = .ok (.aload_n 0, 1) := dk_42 (dk_at dksX1_init_3 15 rfl rfl)
theorem dX1_init_88 : decode cX1_init 88 = .ok (.bipush 8, 2) := dk_16 8 (dk_at dksX1_init_3 16 rfl rfl)
theorem dX1_init_90 : decode cX1_init 90 = .ok (.newarray .int, 2) := dk_188_10 (dk_at dksX1_init_3 18 rfl rfl)
theorem dX1_init_92 : decode cX1_init 92 = .ok (.putfield 34, 3) := dk_181 0 34 (dk_at dksX1_init_3 20 rfl rfl)
theorem dX1_init_95 : decode cX1_init 95 = .ok (.aload_n 0, 1) := dk_42 (dk_at dksX1_init_3 23 rfl rfl)
theorem dX1_init_96 : decode cX1_init 96 = .ok (.bipush 64, 2) := dk_16 64 (dk_at dksX1_init_4 0 rfl rfl)
theorem dX1_init_98 : decode cX1_init 98 = .ok (.newarray .int, 2) := dk_188_10 (dk_at dksX1_init_4 2 rfl rfl)
theorem dX1_init_100 : decode cX1_init 100 = .ok (.putfield 37, 3) := dk_181 0 37 (dk_at dksX1_init_4 4 rfl rfl)
theorem dX1_init_103 : decode cX1_init 103 = .ok (.aload_n 0, 1) := dk_42 (dk_at dksX1_init_4 7 rfl rfl)
theorem dX1_init_104 : decode cX1_init 104 = .ok (.bipush 6, 2) := dk_16 6 (dk_at dksX1_init_4 8 rfl rfl)
theorem dX1_init_106 : decode cX1_init 106 = .ok (.newarray .int, 2) := dk_188_10 (dk_at dksX1_init_4 10 rfl rfl)
theorem dX1_init_108 : decode cX1_init 108 = .ok (.putfield 40, 3) := dk_181 0 40 (dk_at dksX1_init_4 12 rfl rfl)
theorem dX1_init_111 : decode cX1_init 111 = .ok (.aload_n 0, 1) := dk_42 (dk_at dksX1_init_4 15 rfl rfl)
theorem dX1_init_112 : decode cX1_init 112 = .ok (.bipush 8, 2) := dk_16 8 (dk_at dksX1_init_4 16 rfl rfl)
theorem dX1_init_114 : decode cX1_init 114 = .ok (.newarray .int, 2) := dk_188_10 (dk_at dksX1_init_4 18 rfl rfl)
theorem dX1_init_116 : decode cX1_init 116 = .ok (.putfield 43, 3) := dk_181 0 43 (dk_at dksX1_init_4 20 rfl rfl)
theorem dX1_init_119 : decode cX1_init 119 = .ok (.aload_n 0, 1) := dk_42 (dk_at dksX1_init_4 23 rfl rfl)
theorem dX1_init_120 : decode cX1_init 120 = .ok (.bipush 8, 2) := dk_16 8 (dk_at dksX1_init_5 0 rfl rfl)
theorem dX1_init_122 : decode cX1_init 122 = .ok (.newarray .int, 2) := dk_188_10 (dk_at dksX1_init_5 2 rfl rfl)
theorem dX1_init_124 : decode cX1_init 124 = .ok (.putfield 46, 3) := dk_181 0 46 (dk_at dksX1_init_5 4 rfl rfl)
theorem dX1_init_127 : decode cX1_init 127 = .ok (.aload_n 0, 1) := dk_42 (dk_at dksX1_init_5 7 rfl rfl)
theorem dX1_init_128 : decode cX1_init 128 = .ok (.bipush 8, 2) := dk_16 8 (dk_at dksX1_init_5 8 rfl rfl)
theorem dX1_init_130 : decode cX1_init 130 = .ok (.newarray .int, 2) := dk_188_10 (dk_at dksX1_init_5 10 rfl rfl)
theorem dX1_init_132 : decode cX1_init 132 = .ok (.putfield 49, 3) := dk_181 0 49 (dk_at dksX1_init_5 12 rfl rfl)
theorem dX1_init_135 : decode cX1_init 135 = .ok (.aload_n 0, 1) := dk_42 (dk_at dksX1_init_5 15 rfl rfl)
theorem dX1_init_136 : decode cX1_init 136 = .ok (.bipush 8, 2) := dk_16 8 (dk_at dksX1_init_5 16 rfl rfl)
theorem dX1_init_138 : decode cX1_init 138 = .ok (.newarray .int, 2) := dk_188_10 (dk_at dksX1_init_5 18 rfl rfl)
theorem dX1_init_140 : decode cX1_init 140 = .ok (.putfield 52, 3) := dk_181 0 52 (dk_at dksX1_init_5 20 rfl rfl)
theorem dX1_init_143 : decode cX1_init 143 = .ok (.aload_n 0, 1) := dk_42 (dk_at dksX1_init_5 23 rfl rfl)
theorem dX1_init_144 : decode cX1_init 144 = .ok (.bipush 7, 2) := dk_16 7 (dk_at dksX1_init_6 0 rfl rfl)
theorem dX1_init_146 : decode cX1_init 146 = .ok (.newarray .int, 2) := dk_188_10 (dk_at dksX1_init_6 2 rfl rfl)
theorem dX1_init_148 : decode cX1_init 148 = .ok (.putfield 55, 3) := dk_181 0 55 (dk_at dksX1_init_6 4 rfl rfl)
theorem dX1_init_151 : decode cX1_init 151 = .ok (.aload_n 0, 1) := dk_42 (dk_at dksX1_init_6 7 rfl rfl)
theorem dX1_init_152 : decode cX1_init 152 = .ok (.bipush 7, 2) := dk_16 7 (dk_at dksX1_init_6 8 rfl rfl)
theorem dX1_init_154 : decode cX1_init 154 = .ok (.newarray .int, 2) := dk_188_10 (dk_at dksX1_init_6 10 rfl rfl)
theorem dX1_init_156 : decode cX1_init 156 = .ok (.putfield 58, 3) := dk_181 0 58 (dk_at dksX1_init_6 12 rfl rfl)
theorem dX1_init_159 : decode cX1_init 159 = .ok (.aload_n 0, 1) := dk_42 (dk_at dksX1_init_6 15 rfl rfl)
theorem dX1_init_160 : decode cX1_init 160 = .ok (.bipush 8, 2) := dk_16 8 (dk_at dksX1_init_6 16 rfl rfl)
theorem dX1_init_162 : decode cX1_init 162 = .ok (.newarray .int, 2) := dk_188_10 (dk_at dksX1_init_6 18 rfl rfl)
theorem dX1_init_164 : decode cX1_init 164 = .ok (.putfield 61, 3) := dk_181 0 61 (dk_at dksX1_init_6 20 rfl rfl)
theorem dX1_init_167 : decode cX1_init 167 = .ok (.aload_n 0, 1) := dk_42 (dk_at dksX1_init_6 23 rfl rfl)
theorem dX1_init_168 : decode cX1_init 168 = .ok (.bipush 8, 2) := dk_16 8 (dk_at dksX1_init_7 0 rfl rfl)
theorem dX1_init_170 : decode cX1_init 170 = .ok (.newarray .int, 2) := dk_188_10 (dk_at dksX1_init_7 2 rfl rfl)
theorem dX1_init_172 : decode cX1_init 172 = .ok (.putfield 64, 3) := dk_181 0 64 (dk_at dksX1_init_7 4 rfl rfl)
theorem dX1_init_175 : decode cX1_init 175 = .ok (.aload_n 0, 1) := dk_42 (dk_at dksX1_init_7 7 rfl rfl)
theorem dX1_init_176 : decode cX1_init 176 = .ok (.bipush 8, 2) := dk_16 8 (dk_at dksX1_init_7 8 rfl rfl)
theorem dX1_init_178 : decode cX1_init 178 = .ok (.newarray .int, 2) := dk_188_10 (dk_at dksX1_init_7 10 rfl rfl)
theorem dX1_init_180 : decode cX1_init 180 = .ok (.putfield 67, 3) := dk_181 0 67 (dk_at dksX1_init_7 12 rfl rfl)
theorem dX1_init_183 : decode cX1_init 183 = .ok (.return_, 1) := dk_177 (dk_at dksX1_init_7 15 rfl rfl)
abbrev cX1_vine : ByteArray := prog_15_method_15_code
def yX1_vine : MethodName := ⟨RX1, "vine", "(IIII)I"⟩
def dkwX1_vine_6 : List UInt8 := [182, 0, 114, 42, 3, 181, 0, 117, 42, 3, 181, 0, 120, 42, 180, 0, 80, 172]
abbrev dktX1_vine_6 : List UInt8 := dkwX1_vine_6 ++ []
def dkwX1_vine_5 : List UInt8 := [79, 42, 180, 0, 25, 21, 7, 42, 180, 0, 34, 21, 7, 46, 79, 132, 7, 1, 167, 255, 216, 42]
abbrev dktX1_vine_5 : List UInt8 := dkwX1_vine_5 ++ dktX1_vine_6
def dkwX1_vine_4 : List UInt8 := [54, 7, 21, 7, 42, 180, 0, 80, 162, 0, 37, 42, 180, 0, 22, 21, 7, 42, 180, 0, 31, 21, 7, 46]
abbrev dktX1_vine_4 : List UInt8 := dkwX1_vine_4 ++ dktX1_vine_5
def dkwX1_vine_3 : List UInt8 := [154, 0, 14, 16, 156, 42, 180, 0, 91, 21, 6, 100, 100, 172, 42, 42, 180, 0, 111, 181, 0, 80, 3]
abbrev dktX1_vine_3 : List UInt8 := dkwX1_vine_3 ++ dktX1_vine_4
def dkwX1_vine_2 : List UInt8 := [16, 60, 27, 104, 29, 96, 54, 6, 42, 21, 6, 181, 0, 91, 42, 21, 6, 21, 4, 96, 182, 0, 108]
abbrev dktX1_vine_2 : List UInt8 := dkwX1_vine_2 ++ dktX1_vine_3
def dkwX1_vine_1 : List UInt8 := [42, 27, 28, 29, 21, 4, 182, 0, 100, 54, 5, 21, 5, 153, 0, 10, 42, 21, 5, 182, 0, 104, 172]
abbrev dktX1_vine_1 : List UInt8 := dkwX1_vine_1 ++ dktX1_vine_2
def dkwX1_vine_0 : List UInt8 := [42, 3, 181, 0, 70, 27, 184, 0, 94, 154, 0, 5, 2, 172, 28, 184, 0, 97, 154, 0, 6, 16, 254, 172]
abbrev dktX1_vine_0 : List UInt8 := dkwX1_vine_0 ++ dktX1_vine_1
theorem dksX1_vine_0 : cX1_vine.data.toList.drop 0 = dktX1_vine_0 := by decide +kernel
theorem dksX1_vine_1 : cX1_vine.data.toList.drop 24 = dktX1_vine_1 := dk_seg dksX1_vine_0 24 rfl rfl
theorem dksX1_vine_2 : cX1_vine.data.toList.drop 47 = dktX1_vine_2 := dk_seg dksX1_vine_1 23 rfl rfl
theorem dksX1_vine_3 : cX1_vine.data.toList.drop 70 = dktX1_vine_3 := dk_seg dksX1_vine_2 23 rfl rfl
theorem dksX1_vine_4 : cX1_vine.data.toList.drop 93 = dktX1_vine_4 := dk_seg dksX1_vine_3 23 rfl rfl
theorem dksX1_vine_5 : cX1_vine.data.toList.drop 117 = dktX1_vine_5 := dk_seg dksX1_vine_4 24 rfl rfl
theorem dksX1_vine_6 : cX1_vine.data.toList.drop 139 = dktX1_vine_6 := dk_seg dksX1_vine_5 22 rfl rfl
theorem dX1_vine_0 : decode cX1_vine 0 = .ok (.aload_n 0, 1) := dk_42 (dk_at dksX1_vine_0 0 rfl rfl)
theorem dX1_vine_1 : decode cX1_vine 1 = .ok (.iconst 0, 1) := dk_3 (dk_at dksX1_vine_0 1 rfl rfl)
theorem dX1_vine_2 : decode cX1_vine 2 = .ok (.putfield 70, 3) := dk_181 0 70 (dk_at dksX1_vine_0 2 rfl rfl)
theorem dX1_vine_5 : decode cX1_vine 5 = .ok (.iload_n 1, 1) := dk_27 (dk_at dksX1_vine_0 5 rfl rfl)
theorem dX1_vine_6 : decode cX1_vine 6 = .ok (.invokestatic 94, 3) := dk_184 0 94 (dk_at dksX1_vine_0 6 rfl rfl)
theorem dX1_vine_9 : decode cX1_vine 9 = .ok (.ifCond .ne 5, 3) := dk_154 0 5 (dk_at dksX1_vine_0 9 rfl rfl)
theorem dX1_vine_12 : decode cX1_vine 12 = .ok (.iconst (-1), 1) := dk_2 (dk_at dksX1_vine_0 12 rfl rfl)
theorem dX1_vine_13 : decode cX1_vine 13 = .ok (.ireturn, 1) := dk_172 (dk_at dksX1_vine_0 13 rfl rfl)
theorem dX1_vine_14 : decode cX1_vine 14 = .ok (.iload_n 2, 1) := dk_28 (dk_at dksX1_vine_0 14 rfl rfl)
theorem dX1_vine_15 : decode cX1_vine 15 = .ok (.invokestatic 97, 3) := dk_184 0 97 (dk_at dksX1_vine_0 15 rfl rfl)
theorem dX1_vine_18 : decode cX1_vine 18 = .ok (.ifCond .ne 6, 3) := dk_154 0 6 (dk_at dksX1_vine_0 18 rfl rfl)
theorem dX1_vine_21 : decode cX1_vine 21 = .ok (.bipush (-2), 2) := dk_16 254 (dk_at dksX1_vine_0 21 rfl rfl)
theorem dX1_vine_23 : decode cX1_vine 23 = .ok (.ireturn, 1) := dk_172 (dk_at dksX1_vine_0 23 rfl rfl)
theorem dX1_vine_24 : decode cX1_vine 24 = .ok (.aload_n 0, 1) := dk_42 (dk_at dksX1_vine_1 0 rfl rfl)
theorem dX1_vine_25 : decode cX1_vine 25 = .ok (.iload_n 1, 1) := dk_27 (dk_at dksX1_vine_1 1 rfl rfl)
theorem dX1_vine_26 : decode cX1_vine 26 = .ok (.iload_n 2, 1) := dk_28 (dk_at dksX1_vine_1 2 rfl rfl)
theorem dX1_vine_27 : decode cX1_vine 27 = .ok (.iload_n 3, 1) := dk_29 (dk_at dksX1_vine_1 3 rfl rfl)
theorem dX1_vine_28 : decode cX1_vine 28 = .ok (.iload 4, 2) := dk_21 4 (dk_at dksX1_vine_1 4 rfl rfl)
theorem dX1_vine_30 : decode cX1_vine 30 = .ok (.invokevirtual 100, 3) := dk_182 0 100 (dk_at dksX1_vine_1 6 rfl rfl)
theorem dX1_vine_33 : decode cX1_vine 33 = .ok (.istore 5, 2) := dk_54 5 (dk_at dksX1_vine_1 9 rfl rfl)
theorem dX1_vine_35 : decode cX1_vine 35 = .ok (.iload 5, 2) := dk_21 5 (dk_at dksX1_vine_1 11 rfl rfl)
theorem dX1_vine_37 : decode cX1_vine 37 = .ok (.ifCond .eq 10, 3) := dk_153 0 10 (dk_at dksX1_vine_1 13 rfl rfl)
theorem dX1_vine_40 : decode cX1_vine 40 = .ok (.aload_n 0, 1) := dk_42 (dk_at dksX1_vine_1 16 rfl rfl)
theorem dX1_vine_41 : decode cX1_vine 41 = .ok (.iload 5, 2) := dk_21 5 (dk_at dksX1_vine_1 17 rfl rfl)
theorem dX1_vine_43 : decode cX1_vine 43 = .ok (.invokevirtual 104, 3) := dk_182 0 104 (dk_at dksX1_vine_1 19 rfl rfl)
theorem dX1_vine_46 : decode cX1_vine 46 = .ok (.ireturn, 1) := dk_172 (dk_at dksX1_vine_1 22 rfl rfl)
theorem dX1_vine_47 : decode cX1_vine 47 = .ok (.bipush 60, 2) := dk_16 60 (dk_at dksX1_vine_2 0 rfl rfl)
theorem dX1_vine_49 : decode cX1_vine 49 = .ok (.iload_n 1, 1) := dk_27 (dk_at dksX1_vine_2 2 rfl rfl)
theorem dX1_vine_50 : decode cX1_vine 50 = .ok (.imul, 1) := dk_104 (dk_at dksX1_vine_2 3 rfl rfl)
theorem dX1_vine_51 : decode cX1_vine 51 = .ok (.iload_n 3, 1) := dk_29 (dk_at dksX1_vine_2 4 rfl rfl)
theorem dX1_vine_52 : decode cX1_vine 52 = .ok (.iadd, 1) := dk_96 (dk_at dksX1_vine_2 5 rfl rfl)
theorem dX1_vine_53 : decode cX1_vine 53 = .ok (.istore 6, 2) := dk_54 6 (dk_at dksX1_vine_2 6 rfl rfl)
theorem dX1_vine_55 : decode cX1_vine 55 = .ok (.aload_n 0, 1) := dk_42 (dk_at dksX1_vine_2 8 rfl rfl)
theorem dX1_vine_56 : decode cX1_vine 56 = .ok (.iload 6, 2) := dk_21 6 (dk_at dksX1_vine_2 9 rfl rfl)
theorem dX1_vine_58 : decode cX1_vine 58 = .ok (.putfield 91, 3) := dk_181 0 91 (dk_at dksX1_vine_2 11 rfl rfl)
theorem dX1_vine_61 : decode cX1_vine 61 = .ok (.aload_n 0, 1) := dk_42 (dk_at dksX1_vine_2 14 rfl rfl)
theorem dX1_vine_62 : decode cX1_vine 62 = .ok (.iload 6, 2) := dk_21 6 (dk_at dksX1_vine_2 15 rfl rfl)
theorem dX1_vine_64 : decode cX1_vine 64 = .ok (.iload 4, 2) := dk_21 4 (dk_at dksX1_vine_2 17 rfl rfl)
theorem dX1_vine_66 : decode cX1_vine 66 = .ok (.iadd, 1) := dk_96 (dk_at dksX1_vine_2 19 rfl rfl)
theorem dX1_vine_67 : decode cX1_vine 67 = .ok (.invokevirtual 108, 3) := dk_182 0 108 (dk_at dksX1_vine_2 20 rfl rfl)
theorem dX1_vine_70 : decode cX1_vine 70 = .ok (.ifCond .ne 14, 3) := dk_154 0 14 (dk_at dksX1_vine_3 0 rfl rfl)
theorem dX1_vine_73 : decode cX1_vine 73 = .ok (.bipush (-100), 2) := dk_16 156 (dk_at dksX1_vine_3 3 rfl rfl)
theorem dX1_vine_75 : decode cX1_vine 75 = .ok (.aload_n 0, 1) := dk_42 (dk_at dksX1_vine_3 5 rfl rfl)
theorem dX1_vine_76 : decode cX1_vine 76 = .ok (.getfield 91, 3) := dk_180 0 91 (dk_at dksX1_vine_3 6 rfl rfl)
theorem dX1_vine_79 : decode cX1_vine 79 = .ok (.iload 6, 2) := dk_21 6 (dk_at dksX1_vine_3 9 rfl rfl)
theorem dX1_vine_81 : decode cX1_vine 81 = .ok (.isub, 1) := dk_100 (dk_at dksX1_vine_3 11 rfl rfl)
theorem dX1_vine_82 : decode cX1_vine 82 = .ok (.isub, 1) := dk_100 (dk_at dksX1_vine_3 12 rfl rfl)
theorem dX1_vine_83 : decode cX1_vine 83 = .ok (.ireturn, 1) := dk_172 (dk_at dksX1_vine_3 13 rfl rfl)
theorem dX1_vine_84 : decode cX1_vine 84 = .ok (.aload_n 0, 1) := dk_42 (dk_at dksX1_vine_3 14 rfl rfl)
theorem dX1_vine_85 : decode cX1_vine 85 = .ok (.aload_n 0, 1) := dk_42 (dk_at dksX1_vine_3 15 rfl rfl)
theorem dX1_vine_86 : decode cX1_vine 86 = .ok (.getfield 111, 3) := dk_180 0 111 (dk_at dksX1_vine_3 16 rfl rfl)
theorem dX1_vine_89 : decode cX1_vine 89 = .ok (.putfield 80, 3) := dk_181 0 80 (dk_at dksX1_vine_3 19 rfl rfl)
theorem dX1_vine_92 : decode cX1_vine 92 = .ok (.iconst 0, 1) := dk_3 (dk_at dksX1_vine_3 22 rfl rfl)
theorem dX1_vine_93 : decode cX1_vine 93 = .ok (.istore 7, 2) := dk_54 7 (dk_at dksX1_vine_4 0 rfl rfl)
theorem dX1_vine_95 : decode cX1_vine 95 = .ok (.iload 7, 2) := dk_21 7 (dk_at dksX1_vine_4 2 rfl rfl)
theorem dX1_vine_97 : decode cX1_vine 97 = .ok (.aload_n 0, 1) := dk_42 (dk_at dksX1_vine_4 4 rfl rfl)
theorem dX1_vine_98 : decode cX1_vine 98 = .ok (.getfield 80, 3) := dk_180 0 80 (dk_at dksX1_vine_4 5 rfl rfl)
theorem dX1_vine_101 : decode cX1_vine 101 = .ok (.if_icmp .ge 37, 3) := dk_162 0 37 (dk_at dksX1_vine_4 8 rfl rfl)
theorem dX1_vine_104 : decode cX1_vine 104 = .ok (.aload_n 0, 1) := dk_42 (dk_at dksX1_vine_4 11 rfl rfl)
theorem dX1_vine_105 : decode cX1_vine 105 = .ok (.getfield 22, 3) := dk_180 0 22 (dk_at dksX1_vine_4 12 rfl rfl)
theorem dX1_vine_108 : decode cX1_vine 108 = .ok (.iload 7, 2) := dk_21 7 (dk_at dksX1_vine_4 15 rfl rfl)
theorem dX1_vine_110 : decode cX1_vine 110 = .ok (.aload_n 0, 1) := dk_42 (dk_at dksX1_vine_4 17 rfl rfl)
theorem dX1_vine_111 : decode cX1_vine 111 = .ok (.getfield 31, 3) := dk_180 0 31 (dk_at dksX1_vine_4 18 rfl rfl)
theorem dX1_vine_114 : decode cX1_vine 114 = .ok (.iload 7, 2) := dk_21 7 (dk_at dksX1_vine_4 21 rfl rfl)
theorem dX1_vine_116 : decode cX1_vine 116 = .ok (.iaload, 1) := dk_46 (dk_at dksX1_vine_4 23 rfl rfl)
theorem dX1_vine_117 : decode cX1_vine 117 = .ok (.iastore, 1) := dk_79 (dk_at dksX1_vine_5 0 rfl rfl)
theorem dX1_vine_118 : decode cX1_vine 118 = .ok (.aload_n 0, 1) := dk_42 (dk_at dksX1_vine_5 1 rfl rfl)
theorem dX1_vine_119 : decode cX1_vine 119 = .ok (.getfield 25, 3) := dk_180 0 25 (dk_at dksX1_vine_5 2 rfl rfl)
theorem dX1_vine_122 : decode cX1_vine 122 = .ok (.iload 7, 2) := dk_21 7 (dk_at dksX1_vine_5 5 rfl rfl)
theorem dX1_vine_124 : decode cX1_vine 124 = .ok (.aload_n 0, 1) := dk_42 (dk_at dksX1_vine_5 7 rfl rfl)
theorem dX1_vine_125 : decode cX1_vine 125 = .ok (.getfield 34, 3) := dk_180 0 34 (dk_at dksX1_vine_5 8 rfl rfl)
theorem dX1_vine_128 : decode cX1_vine 128 = .ok (.iload 7, 2) := dk_21 7 (dk_at dksX1_vine_5 11 rfl rfl)
theorem dX1_vine_130 : decode cX1_vine 130 = .ok (.iaload, 1) := dk_46 (dk_at dksX1_vine_5 13 rfl rfl)
theorem dX1_vine_131 : decode cX1_vine 131 = .ok (.iastore, 1) := dk_79 (dk_at dksX1_vine_5 14 rfl rfl)
theorem dX1_vine_132 : decode cX1_vine 132 = .ok (.iinc 7 1, 3) := dk_132 7 1 (dk_at dksX1_vine_5 15 rfl rfl)
theorem dX1_vine_135 : decode cX1_vine 135 = .ok (.goto (-40), 3) := dk_167 255 216 (dk_at dksX1_vine_5 18 rfl rfl)
theorem dX1_vine_138 : decode cX1_vine 138 = .ok (.aload_n 0, 1) := dk_42 (dk_at dksX1_vine_5 21 rfl rfl)
theorem dX1_vine_139 : decode cX1_vine 139 = .ok (.invokevirtual 114, 3) := dk_182 0 114 (dk_at dksX1_vine_6 0 rfl rfl)
theorem dX1_vine_142 : decode cX1_vine 142 = .ok (.aload_n 0, 1) := dk_42 (dk_at dksX1_vine_6 3 rfl rfl)
theorem dX1_vine_143 : decode cX1_vine 143 = .ok (.iconst 0, 1) := dk_3 (dk_at dksX1_vine_6 4 rfl rfl)
theorem dX1_vine_144 : decode cX1_vine 144 = .ok (.putfield 117, 3) := dk_181 0 117 (dk_at dksX1_vine_6 5 rfl rfl)
theorem dX1_vine_147 : decode cX1_vine 147 = .ok (.aload_n 0, 1) := dk_42 (dk_at dksX1_vine_6 8 rfl rfl)
theorem dX1_vine_148 : decode cX1_vine 148 = .ok (.iconst 0, 1) := dk_3 (dk_at dksX1_vine_6 9 rfl rfl)
theorem dX1_vine_149 : decode cX1_vine 149 = .ok (.putfield 120, 3) := dk_181 0 120 (dk_at dksX1_vine_6 10 rfl rfl)
theorem dX1_vine_152 : decode cX1_vine 152 = .ok (.aload_n 0, 1) := dk_42 (dk_at dksX1_vine_6 13 rfl rfl)
theorem dX1_vine_153 : decode cX1_vine 153 = .ok (.getfield 80, 3) := dk_180 0 80 (dk_at dksX1_vine_6 14 rfl rfl)
theorem dX1_vine_156 : decode cX1_vine 156 = .ok (.ireturn, 1) := dk_172 (dk_at dksX1_vine_6 17 rfl rfl)
abbrev cX1_isSheet : ByteArray := prog_15_method_6_code
def yX1_isSheet : MethodName := ⟨RX1, "isSheet", "(I)Z"⟩
def dkwX1_isSheet_0 : List UInt8 := [26, 3, 6, 184, 0, 76, 172]
abbrev dktX1_isSheet_0 : List UInt8 := dkwX1_isSheet_0 ++ []
theorem dksX1_isSheet_0 : cX1_isSheet.data.toList.drop 0 = dktX1_isSheet_0 := by decide +kernel
theorem dX1_isSheet_0 : decode cX1_isSheet 0 = .ok (.iload_n 0, 1) := dk_26 (dk_at dksX1_isSheet_0 0 rfl rfl)
theorem dX1_isSheet_1 : decode cX1_isSheet 1 = .ok (.iconst 0, 1) := dk_3 (dk_at dksX1_isSheet_0 1 rfl rfl)
theorem dX1_isSheet_2 : decode cX1_isSheet 2 = .ok (.iconst 3, 1) := dk_6 (dk_at dksX1_isSheet_0 2 rfl rfl)
theorem dX1_isSheet_3 : decode cX1_isSheet 3 = .ok (.invokestatic 76, 3) := dk_184 0 76 (dk_at dksX1_isSheet_0 3 rfl rfl)
theorem dX1_isSheet_6 : decode cX1_isSheet 6 = .ok (.ireturn, 1) := dk_172 (dk_at dksX1_isSheet_0 6 rfl rfl)
abbrev cX1_within : ByteArray := prog_15_method_5_code
def yX1_within : MethodName := ⟨RX1, "within", "(III)Z"⟩
def dkwX1_within_0 : List UInt8 := [26, 27, 161, 0, 12, 26, 28, 163, 0, 7, 4, 167, 0, 4, 3, 172]
abbrev dktX1_within_0 : List UInt8 := dkwX1_within_0 ++ []
theorem dksX1_within_0 : cX1_within.data.toList.drop 0 = dktX1_within_0 := by decide +kernel
theorem dX1_within_0 : decode cX1_within 0 = .ok (.iload_n 0, 1) := dk_26 (dk_at dksX1_within_0 0 rfl rfl)
theorem dX1_within_1 : decode cX1_within 1 = .ok (.iload_n 1, 1) := dk_27 (dk_at dksX1_within_0 1 rfl rfl)
theorem dX1_within_2 : decode cX1_within 2 = .ok (.if_icmp .lt 12, 3) := dk_161 0 12 (dk_at dksX1_within_0 2 rfl rfl)
theorem dX1_within_5 : decode cX1_within 5 = .ok (.iload_n 0, 1) := dk_26 (dk_at dksX1_within_0 5 rfl rfl)
theorem dX1_within_6 : decode cX1_within 6 = .ok (.iload_n 2, 1) := dk_28 (dk_at dksX1_within_0 6 rfl rfl)
theorem dX1_within_7 : decode cX1_within 7 = .ok (.if_icmp .gt 7, 3) := dk_163 0 7 (dk_at dksX1_within_0 7 rfl rfl)
theorem dX1_within_10 : decode cX1_within 10 = .ok (.iconst 1, 1) := dk_4 (dk_at dksX1_within_0 10 rfl rfl)
theorem dX1_within_11 : decode cX1_within 11 = .ok (.goto 4, 3) := dk_167 0 4 (dk_at dksX1_within_0 11 rfl rfl)
theorem dX1_within_14 : decode cX1_within 14 = .ok (.iconst 0, 1) := dk_3 (dk_at dksX1_within_0 14 rfl rfl)
theorem dX1_within_15 : decode cX1_within 15 = .ok (.ireturn, 1) := dk_172 (dk_at dksX1_within_0 15 rfl rfl)
abbrev cX1_isSort : ByteArray := prog_15_method_7_code
def yX1_isSort : MethodName := ⟨RX1, "isSort", "(I)Z"⟩
def dkwX1_isSort_0 : List UInt8 := [26, 3, 5, 184, 0, 76, 172]
abbrev dktX1_isSort_0 : List UInt8 := dkwX1_isSort_0 ++ []
theorem dksX1_isSort_0 : cX1_isSort.data.toList.drop 0 = dktX1_isSort_0 := by decide +kernel
theorem dX1_isSort_0 : decode cX1_isSort 0 = .ok (.iload_n 0, 1) := dk_26 (dk_at dksX1_isSort_0 0 rfl rfl)
theorem dX1_isSort_1 : decode cX1_isSort 1 = .ok (.iconst 0, 1) := dk_3 (dk_at dksX1_isSort_0 1 rfl rfl)
theorem dX1_isSort_2 : decode cX1_isSort 2 = .ok (.iconst 2, 1) := dk_5 (dk_at dksX1_isSort_0 2 rfl rfl)
theorem dX1_isSort_3 : decode cX1_isSort 3 = .ok (.invokestatic 76, 3) := dk_184 0 76 (dk_at dksX1_isSort_0 3 rfl rfl)
theorem dX1_isSort_6 : decode cX1_isSort 6 = .ok (.ireturn, 1) := dk_172 (dk_at dksX1_isSort_0 6 rfl rfl)
abbrev cX1_against : ByteArray := prog_15_method_8_code
def yX1_against : MethodName := ⟨RX1, "against", "(IIII)I"⟩
def dkwX1_against_3 : List UInt8 := [167, 0, 4, 3, 172]
abbrev dktX1_against_3 : List UInt8 := dkwX1_against_3 ++ []
def dkwX1_against_2 : List UInt8 := [42, 180, 0, 13, 27, 46, 163, 0, 16, 21, 4, 42, 180, 0, 13, 27, 46, 29, 100, 164, 0, 7, 6]
abbrev dktX1_against_2 : List UInt8 := dkwX1_against_2 ++ dktX1_against_3
def dkwX1_against_1 : List UInt8 := [180, 0, 9, 27, 46, 16, 247, 160, 0, 5, 4, 172, 21, 4, 156, 0, 5, 7, 172, 29, 155, 0, 26, 29]
abbrev dktX1_against_1 : List UInt8 := dkwX1_against_1 ++ dktX1_against_2
def dkwX1_against_0 : List UInt8 := [42, 180, 0, 9, 27, 46, 16, 247, 159, 0, 15, 42, 180, 0, 9, 27, 46, 28, 159, 0, 5, 5, 172, 42]
abbrev dktX1_against_0 : List UInt8 := dkwX1_against_0 ++ dktX1_against_1
theorem dksX1_against_0 : cX1_against.data.toList.drop 0 = dktX1_against_0 := by decide +kernel
theorem dksX1_against_1 : cX1_against.data.toList.drop 24 = dktX1_against_1 := dk_seg dksX1_against_0 24 rfl rfl
theorem dksX1_against_2 : cX1_against.data.toList.drop 48 = dktX1_against_2 := dk_seg dksX1_against_1 24 rfl rfl
theorem dksX1_against_3 : cX1_against.data.toList.drop 71 = dktX1_against_3 := dk_seg dksX1_against_2 23 rfl rfl
theorem dX1_against_0 : decode cX1_against 0 = .ok (.aload_n 0, 1) := dk_42 (dk_at dksX1_against_0 0 rfl rfl)
theorem dX1_against_1 : decode cX1_against 1 = .ok (.getfield 9, 3) := dk_180 0 9 (dk_at dksX1_against_0 1 rfl rfl)
theorem dX1_against_4 : decode cX1_against 4 = .ok (.iload_n 1, 1) := dk_27 (dk_at dksX1_against_0 4 rfl rfl)
theorem dX1_against_5 : decode cX1_against 5 = .ok (.iaload, 1) := dk_46 (dk_at dksX1_against_0 5 rfl rfl)
theorem dX1_against_6 : decode cX1_against 6 = .ok (.bipush (-9), 2) := dk_16 247 (dk_at dksX1_against_0 6 rfl rfl)
theorem dX1_against_8 : decode cX1_against 8 = .ok (.if_icmp .eq 15, 3) := dk_159 0 15 (dk_at dksX1_against_0 8 rfl rfl)
theorem dX1_against_11 : decode cX1_against 11 = .ok (.aload_n 0, 1) := dk_42 (dk_at dksX1_against_0 11 rfl rfl)
theorem dX1_against_12 : decode cX1_against 12 = .ok (.getfield 9, 3) := dk_180 0 9 (dk_at dksX1_against_0 12 rfl rfl)
theorem dX1_against_15 : decode cX1_against 15 = .ok (.iload_n 1, 1) := dk_27 (dk_at dksX1_against_0 15 rfl rfl)
theorem dX1_against_16 : decode cX1_against 16 = .ok (.iaload, 1) := dk_46 (dk_at dksX1_against_0 16 rfl rfl)
theorem dX1_against_17 : decode cX1_against 17 = .ok (.iload_n 2, 1) := dk_28 (dk_at dksX1_against_0 17 rfl rfl)
theorem dX1_against_18 : decode cX1_against 18 = .ok (.if_icmp .eq 5, 3) := dk_159 0 5 (dk_at dksX1_against_0 18 rfl rfl)
theorem dX1_against_21 : decode cX1_against 21 = .ok (.iconst 2, 1) := dk_5 (dk_at dksX1_against_0 21 rfl rfl)
theorem dX1_against_22 : decode cX1_against 22 = .ok (.ireturn, 1) := dk_172 (dk_at dksX1_against_0 22 rfl rfl)
theorem dX1_against_23 : decode cX1_against 23 = .ok (.aload_n 0, 1) := dk_42 (dk_at dksX1_against_0 23 rfl rfl)
theorem dX1_against_24 : decode cX1_against 24 = .ok (.getfield 9, 3) := dk_180 0 9 (dk_at dksX1_against_1 0 rfl rfl)
theorem dX1_against_27 : decode cX1_against 27 = .ok (.iload_n 1, 1) := dk_27 (dk_at dksX1_against_1 3 rfl rfl)
theorem dX1_against_28 : decode cX1_against 28 = .ok (.iaload, 1) := dk_46 (dk_at dksX1_against_1 4 rfl rfl)
theorem dX1_against_29 : decode cX1_against 29 = .ok (.bipush (-9), 2) := dk_16 247 (dk_at dksX1_against_1 5 rfl rfl)
theorem dX1_against_31 : decode cX1_against 31 = .ok (.if_icmp .ne 5, 3) := dk_160 0 5 (dk_at dksX1_against_1 7 rfl rfl)
theorem dX1_against_34 : decode cX1_against 34 = .ok (.iconst 1, 1) := dk_4 (dk_at dksX1_against_1 10 rfl rfl)
theorem dX1_against_35 : decode cX1_against 35 = .ok (.ireturn, 1) := dk_172 (dk_at dksX1_against_1 11 rfl rfl)
theorem dX1_against_36 : decode cX1_against 36 = .ok (.iload 4, 2) := dk_21 4 (dk_at dksX1_against_1 12 rfl rfl)
theorem dX1_against_38 : decode cX1_against 38 = .ok (.ifCond .ge 5, 3) := dk_156 0 5 (dk_at dksX1_against_1 14 rfl rfl)
theorem dX1_against_41 : decode cX1_against 41 = .ok (.iconst 4, 1) := dk_7 (dk_at dksX1_against_1 17 rfl rfl)
theorem dX1_against_42 : decode cX1_against 42 = .ok (.ireturn, 1) := dk_172 (dk_at dksX1_against_1 18 rfl rfl)
theorem dX1_against_43 : decode cX1_against 43 = .ok (.iload_n 3, 1) := dk_29 (dk_at dksX1_against_1 19 rfl rfl)
theorem dX1_against_44 : decode cX1_against 44 = .ok (.ifCond .lt 26, 3) := dk_155 0 26 (dk_at dksX1_against_1 20 rfl rfl)
theorem dX1_against_47 : decode cX1_against 47 = .ok (.iload_n 3, 1) := dk_29 (dk_at dksX1_against_1 23 rfl rfl)
theorem dX1_against_48 : decode cX1_against 48 = .ok (.aload_n 0, 1) := dk_42 (dk_at dksX1_against_2 0 rfl rfl)
theorem dX1_against_49 : decode cX1_against 49 = .ok (.getfield 13, 3) := dk_180 0 13 (dk_at dksX1_against_2 1 rfl rfl)
theorem dX1_against_52 : decode cX1_against 52 = .ok (.iload_n 1, 1) := dk_27 (dk_at dksX1_against_2 4 rfl rfl)
theorem dX1_against_53 : decode cX1_against 53 = .ok (.iaload, 1) := dk_46 (dk_at dksX1_against_2 5 rfl rfl)
theorem dX1_against_54 : decode cX1_against 54 = .ok (.if_icmp .gt 16, 3) := dk_163 0 16 (dk_at dksX1_against_2 6 rfl rfl)
theorem dX1_against_57 : decode cX1_against 57 = .ok (.iload 4, 2) := dk_21 4 (dk_at dksX1_against_2 9 rfl rfl)
theorem dX1_against_59 : decode cX1_against 59 = .ok (.aload_n 0, 1) := dk_42 (dk_at dksX1_against_2 11 rfl rfl)
theorem dX1_against_60 : decode cX1_against 60 = .ok (.getfield 13, 3) := dk_180 0 13 (dk_at dksX1_against_2 12 rfl rfl)
theorem dX1_against_63 : decode cX1_against 63 = .ok (.iload_n 1, 1) := dk_27 (dk_at dksX1_against_2 15 rfl rfl)
theorem dX1_against_64 : decode cX1_against 64 = .ok (.iaload, 1) := dk_46 (dk_at dksX1_against_2 16 rfl rfl)
theorem dX1_against_65 : decode cX1_against 65 = .ok (.iload_n 3, 1) := dk_29 (dk_at dksX1_against_2 17 rfl rfl)
theorem dX1_against_66 : decode cX1_against 66 = .ok (.isub, 1) := dk_100 (dk_at dksX1_against_2 18 rfl rfl)
theorem dX1_against_67 : decode cX1_against 67 = .ok (.if_icmp .le 7, 3) := dk_164 0 7 (dk_at dksX1_against_2 19 rfl rfl)
theorem dX1_against_70 : decode cX1_against 70 = .ok (.iconst 3, 1) := dk_6 (dk_at dksX1_against_2 22 rfl rfl)
theorem dX1_against_71 : decode cX1_against 71 = .ok (.goto 4, 3) := dk_167 0 4 (dk_at dksX1_against_3 0 rfl rfl)
theorem dX1_against_74 : decode cX1_against 74 = .ok (.iconst 0, 1) := dk_3 (dk_at dksX1_against_3 3 rfl rfl)
theorem dX1_against_75 : decode cX1_against 75 = .ok (.ireturn, 1) := dk_172 (dk_at dksX1_against_3 4 rfl rfl)
abbrev cX1_fails : ByteArray := prog_15_method_3_code
def yX1_fails : MethodName := ⟨RX1, "fails", "(I)I"⟩
def dkwX1_fails_0 : List UInt8 := [42, 27, 181, 0, 70, 16, 246, 27, 100, 172]
abbrev dktX1_fails_0 : List UInt8 := dkwX1_fails_0 ++ []
theorem dksX1_fails_0 : cX1_fails.data.toList.drop 0 = dktX1_fails_0 := by decide +kernel
theorem dX1_fails_0 : decode cX1_fails 0 = .ok (.aload_n 0, 1) := dk_42 (dk_at dksX1_fails_0 0 rfl rfl)
theorem dX1_fails_1 : decode cX1_fails 1 = .ok (.iload_n 1, 1) := dk_27 (dk_at dksX1_fails_0 1 rfl rfl)
theorem dX1_fails_2 : decode cX1_fails 2 = .ok (.putfield 70, 3) := dk_181 0 70 (dk_at dksX1_fails_0 2 rfl rfl)
theorem dX1_fails_5 : decode cX1_fails 5 = .ok (.bipush (-10), 2) := dk_16 246 (dk_at dksX1_fails_0 5 rfl rfl)
theorem dX1_fails_7 : decode cX1_fails 7 = .ok (.iload_n 1, 1) := dk_27 (dk_at dksX1_fails_0 7 rfl rfl)
theorem dX1_fails_8 : decode cX1_fails 8 = .ok (.isub, 1) := dk_100 (dk_at dksX1_fails_0 8 rfl rfl)
theorem dX1_fails_9 : decode cX1_fails 9 = .ok (.ireturn, 1) := dk_172 (dk_at dksX1_fails_0 9 rfl rfl)
abbrev cX1_readVine : ByteArray := prog_15_method_16_code
def yX1_readVine : MethodName := ⟨RX1, "readVine", "(I)Z"⟩
def dkwX1_readVine_6 : List UInt8 := [4, 167, 0, 4, 3, 172]
abbrev dktX1_readVine_6 : List UInt8 := dkwX1_readVine_6 ++ []
def dkwX1_readVine_5 : List UInt8 := [27, 28, 182, 0, 127, 154, 0, 5, 3, 172, 132, 2, 1, 167, 255, 234, 42, 180, 0, 91, 27, 160, 0, 7]
abbrev dktX1_readVine_5 : List UInt8 := dkwX1_readVine_5 ++ dktX1_readVine_6
def dkwX1_readVine_4 : List UInt8 := [16, 247, 160, 0, 5, 3, 172, 132, 2, 1, 167, 255, 212, 3, 61, 28, 42, 180, 0, 111, 162, 0, 20, 42]
abbrev dktX1_readVine_4 : List UInt8 := dkwX1_readVine_4 ++ dktX1_readVine_5
def dkwX1_readVine_3 : List UInt8 := [180, 0, 28, 28, 42, 27, 3, 42, 180, 0, 111, 4, 100, 182, 0, 123, 79, 42, 180, 0, 28, 28, 46]
abbrev dktX1_readVine_3 : List UInt8 := dkwX1_readVine_3 ++ dktX1_readVine_4
def dkwX1_readVine_2 : List UInt8 := [180, 0, 111, 16, 247, 160, 0, 5, 3, 172, 3, 61, 28, 42, 180, 0, 111, 5, 100, 162, 0, 40, 42]
abbrev dktX1_readVine_2 : List UInt8 := dkwX1_readVine_2 ++ dktX1_readVine_3
def dkwX1_readVine_1 : List UInt8 := [42, 89, 180, 0, 91, 4, 96, 181, 0, 91, 42, 42, 27, 5, 16, 8, 182, 0, 123, 181, 0, 111, 42]
abbrev dktX1_readVine_1 : List UInt8 := dkwX1_readVine_1 ++ dktX1_readVine_2
def dkwX1_readVine_0 : List UInt8 := [42, 180, 0, 91, 27, 162, 0, 17, 42, 180, 0, 16, 42, 180, 0, 91, 46, 16, 118, 159, 0, 5, 3, 172]
abbrev dktX1_readVine_0 : List UInt8 := dkwX1_readVine_0 ++ dktX1_readVine_1
theorem dksX1_readVine_0 : cX1_readVine.data.toList.drop 0 = dktX1_readVine_0 := by decide +kernel
theorem dksX1_readVine_1 : cX1_readVine.data.toList.drop 24 = dktX1_readVine_1 := dk_seg dksX1_readVine_0 24 rfl rfl
theorem dksX1_readVine_2 : cX1_readVine.data.toList.drop 47 = dktX1_readVine_2 := dk_seg dksX1_readVine_1 23 rfl rfl
theorem dksX1_readVine_3 : cX1_readVine.data.toList.drop 70 = dktX1_readVine_3 := dk_seg dksX1_readVine_2 23 rfl rfl
theorem dksX1_readVine_4 : cX1_readVine.data.toList.drop 93 = dktX1_readVine_4 := dk_seg dksX1_readVine_3 23 rfl rfl
theorem dksX1_readVine_5 : cX1_readVine.data.toList.drop 117 = dktX1_readVine_5 := dk_seg dksX1_readVine_4 24 rfl rfl
theorem dksX1_readVine_6 : cX1_readVine.data.toList.drop 141 = dktX1_readVine_6 := dk_seg dksX1_readVine_5 24 rfl rfl
theorem dX1_readVine_0 : decode cX1_readVine 0 = .ok (.aload_n 0, 1) := dk_42 (dk_at dksX1_readVine_0 0 rfl rfl)
theorem dX1_readVine_1 : decode cX1_readVine 1 = .ok (.getfield 91, 3) := dk_180 0 91 (dk_at dksX1_readVine_0 1 rfl rfl)
theorem dX1_readVine_4 : decode cX1_readVine 4 = .ok (.iload_n 1, 1) := dk_27 (dk_at dksX1_readVine_0 4 rfl rfl)
theorem dX1_readVine_5 : decode cX1_readVine 5 = .ok (.if_icmp .ge 17, 3) := dk_162 0 17 (dk_at dksX1_readVine_0 5 rfl rfl)
theorem dX1_readVine_8 : decode cX1_readVine 8 = .ok (.aload_n 0, 1) := dk_42 (dk_at dksX1_readVine_0 8 rfl rfl)
theorem dX1_readVine_9 : decode cX1_readVine 9 = .ok (.getfield 16, 3) := dk_180 0 16 (dk_at dksX1_readVine_0 9 rfl rfl)
theorem dX1_readVine_12 : decode cX1_readVine 12 = .ok (.aload_n 0, 1) := dk_42 (dk_at dksX1_readVine_0 12 rfl rfl)
theorem dX1_readVine_13 : decode cX1_readVine 13 = .ok (.getfield 91, 3) := dk_180 0 91 (dk_at dksX1_readVine_0 13 rfl rfl)
theorem dX1_readVine_16 : decode cX1_readVine 16 = .ok (.iaload, 1) := dk_46 (dk_at dksX1_readVine_0 16 rfl rfl)
theorem dX1_readVine_17 : decode cX1_readVine 17 = .ok (.bipush 118, 2) := dk_16 118 (dk_at dksX1_readVine_0 17 rfl rfl)
theorem dX1_readVine_19 : decode cX1_readVine 19 = .ok (.if_icmp .eq 5, 3) := dk_159 0 5 (dk_at dksX1_readVine_0 19 rfl rfl)
theorem dX1_readVine_22 : decode cX1_readVine 22 = .ok (.iconst 0, 1) := dk_3 (dk_at dksX1_readVine_0 22 rfl rfl)
theorem dX1_readVine_23 : decode cX1_readVine 23 = .ok (.ireturn, 1) := dk_172 (dk_at dksX1_readVine_0 23 rfl rfl)
theorem dX1_readVine_24 : decode cX1_readVine 24 = .ok (.aload_n 0, 1) := dk_42 (dk_at dksX1_readVine_1 0 rfl rfl)
theorem dX1_readVine_25 : decode cX1_readVine 25 = .ok (.dup, 1) := dk_89 (dk_at dksX1_readVine_1 1 rfl rfl)
theorem dX1_readVine_26 : decode cX1_readVine 26 = .ok (.getfield 91, 3) := dk_180 0 91 (dk_at dksX1_readVine_1 2 rfl rfl)
theorem dX1_readVine_29 : decode cX1_readVine 29 = .ok (.iconst 1, 1) := dk_4 (dk_at dksX1_readVine_1 5 rfl rfl)
theorem dX1_readVine_30 : decode cX1_readVine 30 = .ok (.iadd, 1) := dk_96 (dk_at dksX1_readVine_1 6 rfl rfl)
theorem dX1_readVine_31 : decode cX1_readVine 31 = .ok (.putfield 91, 3) := dk_181 0 91 (dk_at dksX1_readVine_1 7 rfl rfl)
theorem dX1_readVine_34 : decode cX1_readVine 34 = .ok (.aload_n 0, 1) := dk_42 (dk_at dksX1_readVine_1 10 rfl rfl)
theorem dX1_readVine_35 : decode cX1_readVine 35 = .ok (.aload_n 0, 1) := dk_42 (dk_at dksX1_readVine_1 11 rfl rfl)
theorem dX1_readVine_36 : decode cX1_readVine 36 = .ok (.iload_n 1, 1) := dk_27 (dk_at dksX1_readVine_1 12 rfl rfl)
theorem dX1_readVine_37 : decode cX1_readVine 37 = .ok (.iconst 2, 1) := dk_5 (dk_at dksX1_readVine_1 13 rfl rfl)
theorem dX1_readVine_38 : decode cX1_readVine 38 = .ok (.bipush 8, 2) := dk_16 8 (dk_at dksX1_readVine_1 14 rfl rfl)
theorem dX1_readVine_40 : decode cX1_readVine 40 = .ok (.invokevirtual 123, 3) := dk_182 0 123 (dk_at dksX1_readVine_1 16 rfl rfl)
theorem dX1_readVine_43 : decode cX1_readVine 43 = .ok (.putfield 111, 3) := dk_181 0 111 (dk_at dksX1_readVine_1 19 rfl rfl)
theorem dX1_readVine_46 : decode cX1_readVine 46 = .ok (.aload_n 0, 1) := dk_42 (dk_at dksX1_readVine_1 22 rfl rfl)
theorem dX1_readVine_47 : decode cX1_readVine 47 = .ok (.getfield 111, 3) := dk_180 0 111 (dk_at dksX1_readVine_2 0 rfl rfl)
theorem dX1_readVine_50 : decode cX1_readVine 50 = .ok (.bipush (-9), 2) := dk_16 247 (dk_at dksX1_readVine_2 3 rfl rfl)
theorem dX1_readVine_52 : decode cX1_readVine 52 = .ok (.if_icmp .ne 5, 3) := dk_160 0 5 (dk_at dksX1_readVine_2 5 rfl rfl)
theorem dX1_readVine_55 : decode cX1_readVine 55 = .ok (.iconst 0, 1) := dk_3 (dk_at dksX1_readVine_2 8 rfl rfl)
theorem dX1_readVine_56 : decode cX1_readVine 56 = .ok (.ireturn, 1) := dk_172 (dk_at dksX1_readVine_2 9 rfl rfl)
theorem dX1_readVine_57 : decode cX1_readVine 57 = .ok (.iconst 0, 1) := dk_3 (dk_at dksX1_readVine_2 10 rfl rfl)
theorem dX1_readVine_58 : decode cX1_readVine 58 = .ok (.istore_n 2, 1) := dk_61 (dk_at dksX1_readVine_2 11 rfl rfl)
theorem dX1_readVine_59 : decode cX1_readVine 59 = .ok (.iload_n 2, 1) := dk_28 (dk_at dksX1_readVine_2 12 rfl rfl)
theorem dX1_readVine_60 : decode cX1_readVine 60 = .ok (.aload_n 0, 1) := dk_42 (dk_at dksX1_readVine_2 13 rfl rfl)
theorem dX1_readVine_61 : decode cX1_readVine 61 = .ok (.getfield 111, 3) := dk_180 0 111 (dk_at dksX1_readVine_2 14 rfl rfl)
theorem dX1_readVine_64 : decode cX1_readVine 64 = .ok (.iconst 2, 1) := dk_5 (dk_at dksX1_readVine_2 17 rfl rfl)
theorem dX1_readVine_65 : decode cX1_readVine 65 = .ok (.isub, 1) := dk_100 (dk_at dksX1_readVine_2 18 rfl rfl)
theorem dX1_readVine_66 : decode cX1_readVine 66 = .ok (.if_icmp .ge 40, 3) := dk_162 0 40 (dk_at dksX1_readVine_2 19 rfl rfl)
theorem dX1_readVine_69 : decode cX1_readVine 69 = .ok (.aload_n 0, 1) := dk_42 (dk_at dksX1_readVine_2 22 rfl rfl)
theorem dX1_readVine_70 : decode cX1_readVine 70 = .ok (.getfield 28, 3) := dk_180 0 28 (dk_at dksX1_readVine_3 0 rfl rfl)
theorem dX1_readVine_73 : decode cX1_readVine 73 = .ok (.iload_n 2, 1) := dk_28 (dk_at dksX1_readVine_3 3 rfl rfl)
theorem dX1_readVine_74 : decode cX1_readVine 74 = .ok (.aload_n 0, 1) := dk_42 (dk_at dksX1_readVine_3 4 rfl rfl)
theorem dX1_readVine_75 : decode cX1_readVine 75 = .ok (.iload_n 1, 1) := dk_27 (dk_at dksX1_readVine_3 5 rfl rfl)
theorem dX1_readVine_76 : decode cX1_readVine 76 = .ok (.iconst 0, 1) := dk_3 (dk_at dksX1_readVine_3 6 rfl rfl)
theorem dX1_readVine_77 : decode cX1_readVine 77 = .ok (.aload_n 0, 1) := dk_42 (dk_at dksX1_readVine_3 7 rfl rfl)
theorem dX1_readVine_78 : decode cX1_readVine 78 = .ok (.getfield 111, 3) := dk_180 0 111 (dk_at dksX1_readVine_3 8 rfl rfl)
theorem dX1_readVine_81 : decode cX1_readVine 81 = .ok (.iconst 1, 1) := dk_4 (dk_at dksX1_readVine_3 11 rfl rfl)
theorem dX1_readVine_82 : decode cX1_readVine 82 = .ok (.isub, 1) := dk_100 (dk_at dksX1_readVine_3 12 rfl rfl)
theorem dX1_readVine_83 : decode cX1_readVine 83 = .ok (.invokevirtual 123, 3) := dk_182 0 123 (dk_at dksX1_readVine_3 13 rfl rfl)
theorem dX1_readVine_86 : decode cX1_readVine 86 = .ok (.iastore, 1) := dk_79 (dk_at dksX1_readVine_3 16 rfl rfl)
theorem dX1_readVine_87 : decode cX1_readVine 87 = .ok (.aload_n 0, 1) := dk_42 (dk_at dksX1_readVine_3 17 rfl rfl)
theorem dX1_readVine_88 : decode cX1_readVine 88 = .ok (.getfield 28, 3) := dk_180 0 28 (dk_at dksX1_readVine_3 18 rfl rfl)
theorem dX1_readVine_91 : decode cX1_readVine 91 = .ok (.iload_n 2, 1) := dk_28 (dk_at dksX1_readVine_3 21 rfl rfl)
theorem dX1_readVine_92 : decode cX1_readVine 92 = .ok (.iaload, 1) := dk_46 (dk_at dksX1_readVine_3 22 rfl rfl)
theorem dX1_readVine_93 : decode cX1_readVine 93 = .ok (.bipush (-9), 2) := dk_16 247 (dk_at dksX1_readVine_4 0 rfl rfl)
theorem dX1_readVine_95 : decode cX1_readVine 95 = .ok (.if_icmp .ne 5, 3) := dk_160 0 5 (dk_at dksX1_readVine_4 2 rfl rfl)
theorem dX1_readVine_98 : decode cX1_readVine 98 = .ok (.iconst 0, 1) := dk_3 (dk_at dksX1_readVine_4 5 rfl rfl)
theorem dX1_readVine_99 : decode cX1_readVine 99 = .ok (.ireturn, 1) := dk_172 (dk_at dksX1_readVine_4 6 rfl rfl)
theorem dX1_readVine_100 : decode cX1_readVine 100 = .ok (.iinc 2 1, 3) := dk_132 2 1 (dk_at dksX1_readVine_4 7 rfl rfl)
theorem dX1_readVine_103 : decode cX1_readVine 103 = .ok (.goto (-44), 3) := dk_167 255 212 (dk_at dksX1_readVine_4 10 rfl rfl)
theorem dX1_readVine_106 : decode cX1_readVine 106 = .ok (.iconst 0, 1) := dk_3 (dk_at dksX1_readVine_4 13 rfl rfl)
theorem dX1_readVine_107 : decode cX1_readVine 107 = .ok (.istore_n 2, 1) := dk_61 (dk_at dksX1_readVine_4 14 rfl rfl)
theorem dX1_readVine_108 : decode cX1_readVine 108 = .ok (.iload_n 2, 1) := dk_28 (dk_at dksX1_readVine_4 15 rfl rfl)
theorem dX1_readVine_109 : decode cX1_readVine 109 = .ok (.aload_n 0, 1) := dk_42 (dk_at dksX1_readVine_4 16 rfl rfl)
theorem dX1_readVine_110 : decode cX1_readVine 110 = .ok (.getfield 111, 3) := dk_180 0 111 (dk_at dksX1_readVine_4 17 rfl rfl)
theorem dX1_readVine_113 : decode cX1_readVine 113 = .ok (.if_icmp .ge 20, 3) := dk_162 0 20 (dk_at dksX1_readVine_4 20 rfl rfl)
theorem dX1_readVine_116 : decode cX1_readVine 116 = .ok (.aload_n 0, 1) := dk_42 (dk_at dksX1_readVine_4 23 rfl rfl)
theorem dX1_readVine_117 : decode cX1_readVine 117 = .ok (.iload_n 1, 1) := dk_27 (dk_at dksX1_readVine_5 0 rfl rfl)
theorem dX1_readVine_118 : decode cX1_readVine 118 = .ok (.iload_n 2, 1) := dk_28 (dk_at dksX1_readVine_5 1 rfl rfl)
theorem dX1_readVine_119 : decode cX1_readVine 119 = .ok (.invokevirtual 127, 3) := dk_182 0 127 (dk_at dksX1_readVine_5 2 rfl rfl)
theorem dX1_readVine_122 : decode cX1_readVine 122 = .ok (.ifCond .ne 5, 3) := dk_154 0 5 (dk_at dksX1_readVine_5 5 rfl rfl)
theorem dX1_readVine_125 : decode cX1_readVine 125 = .ok (.iconst 0, 1) := dk_3 (dk_at dksX1_readVine_5 8 rfl rfl)
theorem dX1_readVine_126 : decode cX1_readVine 126 = .ok (.ireturn, 1) := dk_172 (dk_at dksX1_readVine_5 9 rfl rfl)
theorem dX1_readVine_127 : decode cX1_readVine 127 = .ok (.iinc 2 1, 3) := dk_132 2 1 (dk_at dksX1_readVine_5 10 rfl rfl)
theorem dX1_readVine_130 : decode cX1_readVine 130 = .ok (.goto (-22), 3) := dk_167 255 234 (dk_at dksX1_readVine_5 13 rfl rfl)
theorem dX1_readVine_133 : decode cX1_readVine 133 = .ok (.aload_n 0, 1) := dk_42 (dk_at dksX1_readVine_5 16 rfl rfl)
theorem dX1_readVine_134 : decode cX1_readVine 134 = .ok (.getfield 91, 3) := dk_180 0 91 (dk_at dksX1_readVine_5 17 rfl rfl)
theorem dX1_readVine_137 : decode cX1_readVine 137 = .ok (.iload_n 1, 1) := dk_27 (dk_at dksX1_readVine_5 20 rfl rfl)
theorem dX1_readVine_138 : decode cX1_readVine 138 = .ok (.if_icmp .ne 7, 3) := dk_160 0 7 (dk_at dksX1_readVine_5 21 rfl rfl)
theorem dX1_readVine_141 : decode cX1_readVine 141 = .ok (.iconst 1, 1) := dk_4 (dk_at dksX1_readVine_6 0 rfl rfl)
theorem dX1_readVine_142 : decode cX1_readVine 142 = .ok (.goto 4, 3) := dk_167 0 4 (dk_at dksX1_readVine_6 1 rfl rfl)
theorem dX1_readVine_145 : decode cX1_readVine 145 = .ok (.iconst 0, 1) := dk_3 (dk_at dksX1_readVine_6 4 rfl rfl)
theorem dX1_readVine_146 : decode cX1_readVine 146 = .ok (.ireturn, 1) := dk_172 (dk_at dksX1_readVine_6 5 rfl rfl)
abbrev cX1_digit : ByteArray := prog_15_method_14_code
def yX1_digit : MethodName := ⟨RX1, "digit", "(III)I"⟩
def dkwX1_digit_2 : List UInt8 := [42, 180, 0, 91, 4, 100, 46, 16, 48, 100, 172]
abbrev dktX1_digit_2 : List UInt8 := dkwX1_digit_2 ++ []
def dkwX1_digit_1 : List UInt8 := [96, 184, 0, 76, 154, 0, 6, 16, 247, 172, 42, 89, 180, 0, 91, 4, 96, 181, 0, 91, 42, 180, 0, 16]
abbrev dktX1_digit_1 : List UInt8 := dkwX1_digit_1 ++ dktX1_digit_2
def dkwX1_digit_0 : List UInt8 := [42, 180, 0, 91, 27, 162, 0, 26, 42, 180, 0, 16, 42, 180, 0, 91, 46, 16, 48, 28, 96, 16, 48, 29]
abbrev dktX1_digit_0 : List UInt8 := dkwX1_digit_0 ++ dktX1_digit_1
theorem dksX1_digit_0 : cX1_digit.data.toList.drop 0 = dktX1_digit_0 := by decide +kernel
theorem dksX1_digit_1 : cX1_digit.data.toList.drop 24 = dktX1_digit_1 := dk_seg dksX1_digit_0 24 rfl rfl
theorem dksX1_digit_2 : cX1_digit.data.toList.drop 48 = dktX1_digit_2 := dk_seg dksX1_digit_1 24 rfl rfl
theorem dX1_digit_0 : decode cX1_digit 0 = .ok (.aload_n 0, 1) := dk_42 (dk_at dksX1_digit_0 0 rfl rfl)
theorem dX1_digit_1 : decode cX1_digit 1 = .ok (.getfield 91, 3) := dk_180 0 91 (dk_at dksX1_digit_0 1 rfl rfl)
theorem dX1_digit_4 : decode cX1_digit 4 = .ok (.iload_n 1, 1) := dk_27 (dk_at dksX1_digit_0 4 rfl rfl)
theorem dX1_digit_5 : decode cX1_digit 5 = .ok (.if_icmp .ge 26, 3) := dk_162 0 26 (dk_at dksX1_digit_0 5 rfl rfl)
theorem dX1_digit_8 : decode cX1_digit 8 = .ok (.aload_n 0, 1) := dk_42 (dk_at dksX1_digit_0 8 rfl rfl)
theorem dX1_digit_9 : decode cX1_digit 9 = .ok (.getfield 16, 3) := dk_180 0 16 (dk_at dksX1_digit_0 9 rfl rfl)
theorem dX1_digit_12 : decode cX1_digit 12 = .ok (.aload_n 0, 1) := dk_42 (dk_at dksX1_digit_0 12 rfl rfl)
theorem dX1_digit_13 : decode cX1_digit 13 = .ok (.getfield 91, 3) := dk_180 0 91 (dk_at dksX1_digit_0 13 rfl rfl)
theorem dX1_digit_16 : decode cX1_digit 16 = .ok (.iaload, 1) := dk_46 (dk_at dksX1_digit_0 16 rfl rfl)
theorem dX1_digit_17 : decode cX1_digit 17 = .ok (.bipush 48, 2) := dk_16 48 (dk_at dksX1_digit_0 17 rfl rfl)
theorem dX1_digit_19 : decode cX1_digit 19 = .ok (.iload_n 2, 1) := dk_28 (dk_at dksX1_digit_0 19 rfl rfl)
theorem dX1_digit_20 : decode cX1_digit 20 = .ok (.iadd, 1) := dk_96 (dk_at dksX1_digit_0 20 rfl rfl)
theorem dX1_digit_21 : decode cX1_digit 21 = .ok (.bipush 48, 2) := dk_16 48 (dk_at dksX1_digit_0 21 rfl rfl)
theorem dX1_digit_23 : decode cX1_digit 23 = .ok (.iload_n 3, 1) := dk_29 (dk_at dksX1_digit_0 23 rfl rfl)
theorem dX1_digit_24 : decode cX1_digit 24 = .ok (.iadd, 1) := dk_96 (dk_at dksX1_digit_1 0 rfl rfl)
theorem dX1_digit_25 : decode cX1_digit 25 = .ok (.invokestatic 76, 3) := dk_184 0 76 (dk_at dksX1_digit_1 1 rfl rfl)
theorem dX1_digit_28 : decode cX1_digit 28 = .ok (.ifCond .ne 6, 3) := dk_154 0 6 (dk_at dksX1_digit_1 4 rfl rfl)
theorem dX1_digit_31 : decode cX1_digit 31 = .ok (.bipush (-9), 2) := dk_16 247 (dk_at dksX1_digit_1 7 rfl rfl)
theorem dX1_digit_33 : decode cX1_digit 33 = .ok (.ireturn, 1) := dk_172 (dk_at dksX1_digit_1 9 rfl rfl)
theorem dX1_digit_34 : decode cX1_digit 34 = .ok (.aload_n 0, 1) := dk_42 (dk_at dksX1_digit_1 10 rfl rfl)
theorem dX1_digit_35 : decode cX1_digit 35 = .ok (.dup, 1) := dk_89 (dk_at dksX1_digit_1 11 rfl rfl)
theorem dX1_digit_36 : decode cX1_digit 36 = .ok (.getfield 91, 3) := dk_180 0 91 (dk_at dksX1_digit_1 12 rfl rfl)
theorem dX1_digit_39 : decode cX1_digit 39 = .ok (.iconst 1, 1) := dk_4 (dk_at dksX1_digit_1 15 rfl rfl)
theorem dX1_digit_40 : decode cX1_digit 40 = .ok (.iadd, 1) := dk_96 (dk_at dksX1_digit_1 16 rfl rfl)
theorem dX1_digit_41 : decode cX1_digit 41 = .ok (.putfield 91, 3) := dk_181 0 91 (dk_at dksX1_digit_1 17 rfl rfl)
theorem dX1_digit_44 : decode cX1_digit 44 = .ok (.aload_n 0, 1) := dk_42 (dk_at dksX1_digit_1 20 rfl rfl)
theorem dX1_digit_45 : decode cX1_digit 45 = .ok (.getfield 16, 3) := dk_180 0 16 (dk_at dksX1_digit_1 21 rfl rfl)
theorem dX1_digit_48 : decode cX1_digit 48 = .ok (.aload_n 0, 1) := dk_42 (dk_at dksX1_digit_2 0 rfl rfl)
theorem dX1_digit_49 : decode cX1_digit 49 = .ok (.getfield 91, 3) := dk_180 0 91 (dk_at dksX1_digit_2 1 rfl rfl)
theorem dX1_digit_52 : decode cX1_digit 52 = .ok (.iconst 1, 1) := dk_4 (dk_at dksX1_digit_2 4 rfl rfl)
theorem dX1_digit_53 : decode cX1_digit 53 = .ok (.isub, 1) := dk_100 (dk_at dksX1_digit_2 5 rfl rfl)
theorem dX1_digit_54 : decode cX1_digit 54 = .ok (.iaload, 1) := dk_46 (dk_at dksX1_digit_2 6 rfl rfl)
theorem dX1_digit_55 : decode cX1_digit 55 = .ok (.bipush 48, 2) := dk_16 48 (dk_at dksX1_digit_2 7 rfl rfl)
theorem dX1_digit_57 : decode cX1_digit 57 = .ok (.isub, 1) := dk_100 (dk_at dksX1_digit_2 9 rfl rfl)
theorem dX1_digit_58 : decode cX1_digit 58 = .ok (.ireturn, 1) := dk_172 (dk_at dksX1_digit_2 10 rfl rfl)
abbrev cX1_readPost : ByteArray := prog_15_method_17_code
def yX1_readPost : MethodName := ⟨RX1, "readPost", "(II)Z"⟩
def dkwX1_readPost_4 : List UInt8 := [182, 0, 123, 79, 42, 180, 0, 34, 28, 46, 16, 247, 159, 0, 7, 4, 167, 0, 4, 3, 172]
abbrev dktX1_readPost_4 : List UInt8 := dkwX1_readPost_4 ++ []
def dkwX1_readPost_3 : List UInt8 := [3, 172, 42, 89, 180, 0, 91, 4, 96, 181, 0, 91, 42, 180, 0, 34, 28, 42, 27, 3, 16, 9]
abbrev dktX1_readPost_3 : List UInt8 := dkwX1_readPost_3 ++ dktX1_readPost_4
def dkwX1_readPost_2 : List UInt8 := [29, 16, 100, 160, 0, 7, 5, 167, 0, 5, 16, 247, 79, 42, 180, 0, 31, 28, 46, 16, 247, 160, 0, 5]
abbrev dktX1_readPost_2 : List UInt8 := dkwX1_readPost_2 ++ dktX1_readPost_3
def dkwX1_readPost_1 : List UInt8 := [180, 0, 31, 28, 29, 16, 112, 160, 0, 7, 3, 167, 0, 25, 29, 16, 98, 160, 0, 7, 4, 167, 0, 15]
abbrev dktX1_readPost_1 : List UInt8 := dkwX1_readPost_1 ++ dktX1_readPost_2
def dkwX1_readPost_0 : List UInt8 := [42, 180, 0, 91, 27, 162, 0, 15, 42, 180, 0, 16, 42, 180, 0, 91, 46, 167, 0, 4, 3, 62, 42]
abbrev dktX1_readPost_0 : List UInt8 := dkwX1_readPost_0 ++ dktX1_readPost_1
theorem dksX1_readPost_0 : cX1_readPost.data.toList.drop 0 = dktX1_readPost_0 := by decide +kernel
theorem dksX1_readPost_1 : cX1_readPost.data.toList.drop 23 = dktX1_readPost_1 := dk_seg dksX1_readPost_0 23 rfl rfl
theorem dksX1_readPost_2 : cX1_readPost.data.toList.drop 47 = dktX1_readPost_2 := dk_seg dksX1_readPost_1 24 rfl rfl
theorem dksX1_readPost_3 : cX1_readPost.data.toList.drop 71 = dktX1_readPost_3 := dk_seg dksX1_readPost_2 24 rfl rfl
theorem dksX1_readPost_4 : cX1_readPost.data.toList.drop 93 = dktX1_readPost_4 := dk_seg dksX1_readPost_3 22 rfl rfl
theorem dX1_readPost_0 : decode cX1_readPost 0 = .ok (.aload_n 0, 1) := dk_42 (dk_at dksX1_readPost_0 0 rfl rfl)
theorem dX1_readPost_1 : decode cX1_readPost 1 = .ok (.getfield 91, 3) := dk_180 0 91 (dk_at dksX1_readPost_0 1 rfl rfl)
theorem dX1_readPost_4 : decode cX1_readPost 4 = .ok (.iload_n 1, 1) := dk_27 (dk_at dksX1_readPost_0 4 rfl rfl)
theorem dX1_readPost_5 : decode cX1_readPost 5 = .ok (.if_icmp .ge 15, 3) := dk_162 0 15 (dk_at dksX1_readPost_0 5 rfl rfl)
theorem dX1_readPost_8 : decode cX1_readPost 8 = .ok (.aload_n 0, 1) := dk_42 (dk_at dksX1_readPost_0 8 rfl rfl)
theorem dX1_readPost_9 : decode cX1_readPost 9 = .ok (.getfield 16, 3) := dk_180 0 16 (dk_at dksX1_readPost_0 9 rfl rfl)
theorem dX1_readPost_12 : decode cX1_readPost 12 = .ok (.aload_n 0, 1) := dk_42 (dk_at dksX1_readPost_0 12 rfl rfl)
theorem dX1_readPost_13 : decode cX1_readPost 13 = .ok (.getfield 91, 3) := dk_180 0 91 (dk_at dksX1_readPost_0 13 rfl rfl)
theorem dX1_readPost_16 : decode cX1_readPost 16 = .ok (.iaload, 1) := dk_46 (dk_at dksX1_readPost_0 16 rfl rfl)
theorem dX1_readPost_17 : decode cX1_readPost 17 = .ok (.goto 4, 3) := dk_167 0 4 (dk_at dksX1_readPost_0 17 rfl rfl)
theorem dX1_readPost_20 : decode cX1_readPost 20 = .ok (.iconst 0, 1) := dk_3 (dk_at dksX1_readPost_0 20 rfl rfl)
theorem dX1_readPost_21 : decode cX1_readPost 21 = .ok (.istore_n 3, 1) := dk_62 (dk_at dksX1_readPost_0 21 rfl rfl)
theorem dX1_readPost_22 : decode cX1_readPost 22 = .ok (.aload_n 0, 1) := dk_42 (dk_at dksX1_readPost_0 22 rfl rfl)
theorem dX1_readPost_23 : decode cX1_readPost 23 = .ok (.getfield 31, 3) := dk_180 0 31 (dk_at dksX1_readPost_1 0 rfl rfl)
theorem dX1_readPost_26 : decode cX1_readPost 26 = .ok (.iload_n 2, 1) := dk_28 (dk_at dksX1_readPost_1 3 rfl rfl)
theorem dX1_readPost_27 : decode cX1_readPost 27 = .ok (.iload_n 3, 1) := dk_29 (dk_at dksX1_readPost_1 4 rfl rfl)
theorem dX1_readPost_28 : decode cX1_readPost 28 = .ok (.bipush 112, 2) := dk_16 112 (dk_at dksX1_readPost_1 5 rfl rfl)
theorem dX1_readPost_30 : decode cX1_readPost 30 = .ok (.if_icmp .ne 7, 3) := dk_160 0 7 (dk_at dksX1_readPost_1 7 rfl rfl)
theorem dX1_readPost_33 : decode cX1_readPost 33 = .ok (.iconst 0, 1) := dk_3 (dk_at dksX1_readPost_1 10 rfl rfl)
theorem dX1_readPost_34 : decode cX1_readPost 34 = .ok (.goto 25, 3) := dk_167 0 25 (dk_at dksX1_readPost_1 11 rfl rfl)
theorem dX1_readPost_37 : decode cX1_readPost 37 = .ok (.iload_n 3, 1) := dk_29 (dk_at dksX1_readPost_1 14 rfl rfl)
theorem dX1_readPost_38 : decode cX1_readPost 38 = .ok (.bipush 98, 2) := dk_16 98 (dk_at dksX1_readPost_1 15 rfl rfl)
theorem dX1_readPost_40 : decode cX1_readPost 40 = .ok (.if_icmp .ne 7, 3) := dk_160 0 7 (dk_at dksX1_readPost_1 17 rfl rfl)
theorem dX1_readPost_43 : decode cX1_readPost 43 = .ok (.iconst 1, 1) := dk_4 (dk_at dksX1_readPost_1 20 rfl rfl)
theorem dX1_readPost_44 : decode cX1_readPost 44 = .ok (.goto 15, 3) := dk_167 0 15 (dk_at dksX1_readPost_1 21 rfl rfl)
theorem dX1_readPost_47 : decode cX1_readPost 47 = .ok (.iload_n 3, 1) := dk_29 (dk_at dksX1_readPost_2 0 rfl rfl)
theorem dX1_readPost_48 : decode cX1_readPost 48 = .ok (.bipush 100, 2) := dk_16 100 (dk_at dksX1_readPost_2 1 rfl rfl)
theorem dX1_readPost_50 : decode cX1_readPost 50 = .ok (.if_icmp .ne 7, 3) := dk_160 0 7 (dk_at dksX1_readPost_2 3 rfl rfl)
theorem dX1_readPost_53 : decode cX1_readPost 53 = .ok (.iconst 2, 1) := dk_5 (dk_at dksX1_readPost_2 6 rfl rfl)
theorem dX1_readPost_54 : decode cX1_readPost 54 = .ok (.goto 5, 3) := dk_167 0 5 (dk_at dksX1_readPost_2 7 rfl rfl)
theorem dX1_readPost_57 : decode cX1_readPost 57 = .ok (.bipush (-9), 2) := dk_16 247 (dk_at dksX1_readPost_2 10 rfl rfl)
theorem dX1_readPost_59 : decode cX1_readPost 59 = .ok (.iastore, 1) := dk_79 (dk_at dksX1_readPost_2 12 rfl rfl)
theorem dX1_readPost_60 : decode cX1_readPost 60 = .ok (.aload_n 0, 1) := dk_42 (dk_at dksX1_readPost_2 13 rfl rfl)
theorem dX1_readPost_61 : decode cX1_readPost 61 = .ok (.getfield 31, 3) := dk_180 0 31 (dk_at dksX1_readPost_2 14 rfl rfl)
theorem dX1_readPost_64 : decode cX1_readPost 64 = .ok (.iload_n 2, 1) := dk_28 (dk_at dksX1_readPost_2 17 rfl rfl)
theorem dX1_readPost_65 : decode cX1_readPost 65 = .ok (.iaload, 1) := dk_46 (dk_at dksX1_readPost_2 18 rfl rfl)
theorem dX1_readPost_66 : decode cX1_readPost 66 = .ok (.bipush (-9), 2) := dk_16 247 (dk_at dksX1_readPost_2 19 rfl rfl)
theorem dX1_readPost_68 : decode cX1_readPost 68 = .ok (.if_icmp .ne 5, 3) := dk_160 0 5 (dk_at dksX1_readPost_2 21 rfl rfl)
theorem dX1_readPost_71 : decode cX1_readPost 71 = .ok (.iconst 0, 1) := dk_3 (dk_at dksX1_readPost_3 0 rfl rfl)
theorem dX1_readPost_72 : decode cX1_readPost 72 = .ok (.ireturn, 1) := dk_172 (dk_at dksX1_readPost_3 1 rfl rfl)
theorem dX1_readPost_73 : decode cX1_readPost 73 = .ok (.aload_n 0, 1) := dk_42 (dk_at dksX1_readPost_3 2 rfl rfl)
theorem dX1_readPost_74 : decode cX1_readPost 74 = .ok (.dup, 1) := dk_89 (dk_at dksX1_readPost_3 3 rfl rfl)
theorem dX1_readPost_75 : decode cX1_readPost 75 = .ok (.getfield 91, 3) := dk_180 0 91 (dk_at dksX1_readPost_3 4 rfl rfl)
theorem dX1_readPost_78 : decode cX1_readPost 78 = .ok (.iconst 1, 1) := dk_4 (dk_at dksX1_readPost_3 7 rfl rfl)
theorem dX1_readPost_79 : decode cX1_readPost 79 = .ok (.iadd, 1) := dk_96 (dk_at dksX1_readPost_3 8 rfl rfl)
theorem dX1_readPost_80 : decode cX1_readPost 80 = .ok (.putfield 91, 3) := dk_181 0 91 (dk_at dksX1_readPost_3 9 rfl rfl)
theorem dX1_readPost_83 : decode cX1_readPost 83 = .ok (.aload_n 0, 1) := dk_42 (dk_at dksX1_readPost_3 12 rfl rfl)
theorem dX1_readPost_84 : decode cX1_readPost 84 = .ok (.getfield 34, 3) := dk_180 0 34 (dk_at dksX1_readPost_3 13 rfl rfl)
theorem dX1_readPost_87 : decode cX1_readPost 87 = .ok (.iload_n 2, 1) := dk_28 (dk_at dksX1_readPost_3 16 rfl rfl)
theorem dX1_readPost_88 : decode cX1_readPost 88 = .ok (.aload_n 0, 1) := dk_42 (dk_at dksX1_readPost_3 17 rfl rfl)
theorem dX1_readPost_89 : decode cX1_readPost 89 = .ok (.iload_n 1, 1) := dk_27 (dk_at dksX1_readPost_3 18 rfl rfl)
theorem dX1_readPost_90 : decode cX1_readPost 90 = .ok (.iconst 0, 1) := dk_3 (dk_at dksX1_readPost_3 19 rfl rfl)
theorem dX1_readPost_91 : decode cX1_readPost 91 = .ok (.bipush 9, 2) := dk_16 9 (dk_at dksX1_readPost_3 20 rfl rfl)
theorem dX1_readPost_93 : decode cX1_readPost 93 = .ok (.invokevirtual 123, 3) := dk_182 0 123 (dk_at dksX1_readPost_4 0 rfl rfl)
theorem dX1_readPost_96 : decode cX1_readPost 96 = .ok (.iastore, 1) := dk_79 (dk_at dksX1_readPost_4 3 rfl rfl)
theorem dX1_readPost_97 : decode cX1_readPost 97 = .ok (.aload_n 0, 1) := dk_42 (dk_at dksX1_readPost_4 4 rfl rfl)
theorem dX1_readPost_98 : decode cX1_readPost 98 = .ok (.getfield 34, 3) := dk_180 0 34 (dk_at dksX1_readPost_4 5 rfl rfl)
theorem dX1_readPost_101 : decode cX1_readPost 101 = .ok (.iload_n 2, 1) := dk_28 (dk_at dksX1_readPost_4 8 rfl rfl)
theorem dX1_readPost_102 : decode cX1_readPost 102 = .ok (.iaload, 1) := dk_46 (dk_at dksX1_readPost_4 9 rfl rfl)
theorem dX1_readPost_103 : decode cX1_readPost 103 = .ok (.bipush (-9), 2) := dk_16 247 (dk_at dksX1_readPost_4 10 rfl rfl)
theorem dX1_readPost_105 : decode cX1_readPost 105 = .ok (.if_icmp .eq 7, 3) := dk_159 0 7 (dk_at dksX1_readPost_4 12 rfl rfl)
theorem dX1_readPost_108 : decode cX1_readPost 108 = .ok (.iconst 1, 1) := dk_4 (dk_at dksX1_readPost_4 15 rfl rfl)
theorem dX1_readPost_109 : decode cX1_readPost 109 = .ok (.goto 4, 3) := dk_167 0 4 (dk_at dksX1_readPost_4 16 rfl rfl)
theorem dX1_readPost_112 : decode cX1_readPost 112 = .ok (.iconst 0, 1) := dk_3 (dk_at dksX1_readPost_4 19 rfl rfl)
theorem dX1_readPost_113 : decode cX1_readPost 113 = .ok (.ireturn, 1) := dk_172 (dk_at dksX1_readPost_4 20 rfl rfl)
abbrev cX1_growVine : ByteArray := prog_15_method_20_code
def yX1_growVine : MethodName := ⟨RX1, "growVine", "()V"⟩
def dkwX1_growVine_5 : List UInt8 := [42, 28, 27, 4, 28, 120, 2, 130, 126, 184, 0, 130, 182, 0, 133, 177]
abbrev dktX1_growVine_5 : List UInt8 := dkwX1_growVine_5 ++ []
def dkwX1_growVine_4 : List UInt8 := [46, 182, 0, 133, 27, 4, 21, 4, 120, 2, 130, 126, 60, 132, 2, 1, 167, 255, 178, 27, 184, 0, 130, 61]
abbrev dktX1_growVine_4 : List UInt8 := dkwX1_growVine_4 ++ dktX1_growVine_5
def dkwX1_growVine_3 : List UInt8 := [132, 4, 1, 167, 255, 230, 27, 29, 2, 130, 126, 184, 0, 130, 54, 4, 42, 21, 4, 42, 180, 0, 28, 28]
abbrev dktX1_growVine_3 : List UInt8 := dkwX1_growVine_3 ++ dktX1_growVine_4
def dkwX1_growVine_2 : List UInt8 := [21, 4, 42, 180, 0, 80, 5, 100, 162, 0, 21, 29, 4, 42, 180, 0, 28, 21, 4, 46, 120, 128, 62]
abbrev dktX1_growVine_2 : List UInt8 := dkwX1_growVine_2 ++ dktX1_growVine_3
def dkwX1_growVine_1 : List UInt8 := [180, 0, 80, 120, 4, 100, 60, 3, 61, 28, 42, 180, 0, 80, 5, 100, 162, 0, 74, 3, 62, 28, 54, 4]
abbrev dktX1_growVine_1 : List UInt8 := dkwX1_growVine_1 ++ dktX1_growVine_2
def dkwX1_growVine_0 : List UInt8 := [3, 60, 27, 16, 8, 162, 0, 16, 42, 180, 0, 19, 27, 3, 79, 132, 1, 1, 167, 255, 240, 4, 42]
abbrev dktX1_growVine_0 : List UInt8 := dkwX1_growVine_0 ++ dktX1_growVine_1
theorem dksX1_growVine_0 : cX1_growVine.data.toList.drop 0 = dktX1_growVine_0 := by decide +kernel
theorem dksX1_growVine_1 : cX1_growVine.data.toList.drop 23 = dktX1_growVine_1 := dk_seg dksX1_growVine_0 23 rfl rfl
theorem dksX1_growVine_2 : cX1_growVine.data.toList.drop 47 = dktX1_growVine_2 := dk_seg dksX1_growVine_1 24 rfl rfl
theorem dksX1_growVine_3 : cX1_growVine.data.toList.drop 70 = dktX1_growVine_3 := dk_seg dksX1_growVine_2 23 rfl rfl
theorem dksX1_growVine_4 : cX1_growVine.data.toList.drop 94 = dktX1_growVine_4 := dk_seg dksX1_growVine_3 24 rfl rfl
theorem dksX1_growVine_5 : cX1_growVine.data.toList.drop 118 = dktX1_growVine_5 := dk_seg dksX1_growVine_4 24 rfl rfl
theorem dX1_growVine_0 : decode cX1_growVine 0 = .ok (.iconst 0, 1) := dk_3 (dk_at dksX1_growVine_0 0 rfl rfl)
theorem dX1_growVine_1 : decode cX1_growVine 1 = .ok (.istore_n 1, 1) := dk_60 (dk_at dksX1_growVine_0 1 rfl rfl)
theorem dX1_growVine_2 : decode cX1_growVine 2 = .ok (.iload_n 1, 1) := dk_27 (dk_at dksX1_growVine_0 2 rfl rfl)
theorem dX1_growVine_3 : decode cX1_growVine 3 = .ok (.bipush 8, 2) := dk_16 8 (dk_at dksX1_growVine_0 3 rfl rfl)
theorem dX1_growVine_5 : decode cX1_growVine 5 = .ok (.if_icmp .ge 16, 3) := dk_162 0 16 (dk_at dksX1_growVine_0 5 rfl rfl)
theorem dX1_growVine_8 : decode cX1_growVine 8 = .ok (.aload_n 0, 1) := dk_42 (dk_at dksX1_growVine_0 8 rfl rfl)
theorem dX1_growVine_9 : decode cX1_growVine 9 = .ok (.getfield 19, 3) := dk_180 0 19 (dk_at dksX1_growVine_0 9 rfl rfl)
theorem dX1_growVine_12 : decode cX1_growVine 12 = .ok (.iload_n 1, 1) := dk_27 (dk_at dksX1_growVine_0 12 rfl rfl)
theorem dX1_growVine_13 : decode cX1_growVine 13 = .ok (.iconst 0, 1) := dk_3 (dk_at dksX1_growVine_0 13 rfl rfl)
theorem dX1_growVine_14 : decode cX1_growVine 14 = .ok (.iastore, 1) := dk_79 (dk_at dksX1_growVine_0 14 rfl rfl)
theorem dX1_growVine_15 : decode cX1_growVine 15 = .ok (.iinc 1 1, 3) := dk_132 1 1 (dk_at dksX1_growVine_0 15 rfl rfl)
theorem dX1_growVine_18 : decode cX1_growVine 18 = .ok (.goto (-16), 3) := dk_167 255 240 (dk_at dksX1_growVine_0 18 rfl rfl)
theorem dX1_growVine_21 : decode cX1_growVine 21 = .ok (.iconst 1, 1) := dk_4 (dk_at dksX1_growVine_0 21 rfl rfl)
theorem dX1_growVine_22 : decode cX1_growVine 22 = .ok (.aload_n 0, 1) := dk_42 (dk_at dksX1_growVine_0 22 rfl rfl)
theorem dX1_growVine_23 : decode cX1_growVine 23 = .ok (.getfield 80, 3) := dk_180 0 80 (dk_at dksX1_growVine_1 0 rfl rfl)
theorem dX1_growVine_26 : decode cX1_growVine 26 = .ok (.ishl, 1) := dk_120 (dk_at dksX1_growVine_1 3 rfl rfl)
theorem dX1_growVine_27 : decode cX1_growVine 27 = .ok (.iconst 1, 1) := dk_4 (dk_at dksX1_growVine_1 4 rfl rfl)
theorem dX1_growVine_28 : decode cX1_growVine 28 = .ok (.isub, 1) := dk_100 (dk_at dksX1_growVine_1 5 rfl rfl)
theorem dX1_growVine_29 : decode cX1_growVine 29 = .ok (.istore_n 1, 1) := dk_60 (dk_at dksX1_growVine_1 6 rfl rfl)
theorem dX1_growVine_30 : decode cX1_growVine 30 = .ok (.iconst 0, 1) := dk_3 (dk_at dksX1_growVine_1 7 rfl rfl)
theorem dX1_growVine_31 : decode cX1_growVine 31 = .ok (.istore_n 2, 1) := dk_61 (dk_at dksX1_growVine_1 8 rfl rfl)
theorem dX1_growVine_32 : decode cX1_growVine 32 = .ok (.iload_n 2, 1) := dk_28 (dk_at dksX1_growVine_1 9 rfl rfl)
theorem dX1_growVine_33 : decode cX1_growVine 33 = .ok (.aload_n 0, 1) := dk_42 (dk_at dksX1_growVine_1 10 rfl rfl)
theorem dX1_growVine_34 : decode cX1_growVine 34 = .ok (.getfield 80, 3) := dk_180 0 80 (dk_at dksX1_growVine_1 11 rfl rfl)
theorem dX1_growVine_37 : decode cX1_growVine 37 = .ok (.iconst 2, 1) := dk_5 (dk_at dksX1_growVine_1 14 rfl rfl)
theorem dX1_growVine_38 : decode cX1_growVine 38 = .ok (.isub, 1) := dk_100 (dk_at dksX1_growVine_1 15 rfl rfl)
theorem dX1_growVine_39 : decode cX1_growVine 39 = .ok (.if_icmp .ge 74, 3) := dk_162 0 74 (dk_at dksX1_growVine_1 16 rfl rfl)
theorem dX1_growVine_42 : decode cX1_growVine 42 = .ok (.iconst 0, 1) := dk_3 (dk_at dksX1_growVine_1 19 rfl rfl)
theorem dX1_growVine_43 : decode cX1_growVine 43 = .ok (.istore_n 3, 1) := dk_62 (dk_at dksX1_growVine_1 20 rfl rfl)
theorem dX1_growVine_44 : decode cX1_growVine 44 = .ok (.iload_n 2, 1) := dk_28 (dk_at dksX1_growVine_1 21 rfl rfl)
theorem dX1_growVine_45 : decode cX1_growVine 45 = .ok (.istore 4, 2) := dk_54 4 (dk_at dksX1_growVine_1 22 rfl rfl)
theorem dX1_growVine_47 : decode cX1_growVine 47 = .ok (.iload 4, 2) := dk_21 4 (dk_at dksX1_growVine_2 0 rfl rfl)
theorem dX1_growVine_49 : decode cX1_growVine 49 = .ok (.aload_n 0, 1) := dk_42 (dk_at dksX1_growVine_2 2 rfl rfl)
theorem dX1_growVine_50 : decode cX1_growVine 50 = .ok (.getfield 80, 3) := dk_180 0 80 (dk_at dksX1_growVine_2 3 rfl rfl)
theorem dX1_growVine_53 : decode cX1_growVine 53 = .ok (.iconst 2, 1) := dk_5 (dk_at dksX1_growVine_2 6 rfl rfl)
theorem dX1_growVine_54 : decode cX1_growVine 54 = .ok (.isub, 1) := dk_100 (dk_at dksX1_growVine_2 7 rfl rfl)
theorem dX1_growVine_55 : decode cX1_growVine 55 = .ok (.if_icmp .ge 21, 3) := dk_162 0 21 (dk_at dksX1_growVine_2 8 rfl rfl)
theorem dX1_growVine_58 : decode cX1_growVine 58 = .ok (.iload_n 3, 1) := dk_29 (dk_at dksX1_growVine_2 11 rfl rfl)
theorem dX1_growVine_59 : decode cX1_growVine 59 = .ok (.iconst 1, 1) := dk_4 (dk_at dksX1_growVine_2 12 rfl rfl)
theorem dX1_growVine_60 : decode cX1_growVine 60 = .ok (.aload_n 0, 1) := dk_42 (dk_at dksX1_growVine_2 13 rfl rfl)
theorem dX1_growVine_61 : decode cX1_growVine 61 = .ok (.getfield 28, 3) := dk_180 0 28 (dk_at dksX1_growVine_2 14 rfl rfl)
theorem dX1_growVine_64 : decode cX1_growVine 64 = .ok (.iload 4, 2) := dk_21 4 (dk_at dksX1_growVine_2 17 rfl rfl)
theorem dX1_growVine_66 : decode cX1_growVine 66 = .ok (.iaload, 1) := dk_46 (dk_at dksX1_growVine_2 19 rfl rfl)
theorem dX1_growVine_67 : decode cX1_growVine 67 = .ok (.ishl, 1) := dk_120 (dk_at dksX1_growVine_2 20 rfl rfl)
theorem dX1_growVine_68 : decode cX1_growVine 68 = .ok (.ior, 1) := dk_128 (dk_at dksX1_growVine_2 21 rfl rfl)
theorem dX1_growVine_69 : decode cX1_growVine 69 = .ok (.istore_n 3, 1) := dk_62 (dk_at dksX1_growVine_2 22 rfl rfl)
theorem dX1_growVine_70 : decode cX1_growVine 70 = .ok (.iinc 4 1, 3) := dk_132 4 1 (dk_at dksX1_growVine_3 0 rfl rfl)
theorem dX1_growVine_73 : decode cX1_growVine 73 = .ok (.goto (-26), 3) := dk_167 255 230 (dk_at dksX1_growVine_3 3 rfl rfl)
theorem dX1_growVine_76 : decode cX1_growVine 76 = .ok (.iload_n 1, 1) := dk_27 (dk_at dksX1_growVine_3 6 rfl rfl)
theorem dX1_growVine_77 : decode cX1_growVine 77 = .ok (.iload_n 3, 1) := dk_29 (dk_at dksX1_growVine_3 7 rfl rfl)
theorem dX1_growVine_78 : decode cX1_growVine 78 = .ok (.iconst (-1), 1) := dk_2 (dk_at dksX1_growVine_3 8 rfl rfl)
theorem dX1_growVine_79 : decode cX1_growVine 79 = .ok (.ixor, 1) := dk_130 (dk_at dksX1_growVine_3 9 rfl rfl)
theorem dX1_growVine_80 : decode cX1_growVine 80 = .ok (.iand, 1) := dk_126 (dk_at dksX1_growVine_3 10 rfl rfl)
theorem dX1_growVine_81 : decode cX1_growVine 81 = .ok (.invokestatic 130, 3) := dk_184 0 130 (dk_at dksX1_growVine_3 11 rfl rfl)
theorem dX1_growVine_84 : decode cX1_growVine 84 = .ok (.istore 4, 2) := dk_54 4 (dk_at dksX1_growVine_3 14 rfl rfl)
theorem dX1_growVine_86 : decode cX1_growVine 86 = .ok (.aload_n 0, 1) := dk_42 (dk_at dksX1_growVine_3 16 rfl rfl)
theorem dX1_growVine_87 : decode cX1_growVine 87 = .ok (.iload 4, 2) := dk_21 4 (dk_at dksX1_growVine_3 17 rfl rfl)
theorem dX1_growVine_89 : decode cX1_growVine 89 = .ok (.aload_n 0, 1) := dk_42 (dk_at dksX1_growVine_3 19 rfl rfl)
theorem dX1_growVine_90 : decode cX1_growVine 90 = .ok (.getfield 28, 3) := dk_180 0 28 (dk_at dksX1_growVine_3 20 rfl rfl)
theorem dX1_growVine_93 : decode cX1_growVine 93 = .ok (.iload_n 2, 1) := dk_28 (dk_at dksX1_growVine_3 23 rfl rfl)
theorem dX1_growVine_94 : decode cX1_growVine 94 = .ok (.iaload, 1) := dk_46 (dk_at dksX1_growVine_4 0 rfl rfl)
theorem dX1_growVine_95 : decode cX1_growVine 95 = .ok (.invokevirtual 133, 3) := dk_182 0 133 (dk_at dksX1_growVine_4 1 rfl rfl)
theorem dX1_growVine_98 : decode cX1_growVine 98 = .ok (.iload_n 1, 1) := dk_27 (dk_at dksX1_growVine_4 4 rfl rfl)
theorem dX1_growVine_99 : decode cX1_growVine 99 = .ok (.iconst 1, 1) := dk_4 (dk_at dksX1_growVine_4 5 rfl rfl)
theorem dX1_growVine_100 : decode cX1_growVine 100 = .ok (.iload 4, 2) := dk_21 4 (dk_at dksX1_growVine_4 6 rfl rfl)
theorem dX1_growVine_102 : decode cX1_growVine 102 = .ok (.ishl, 1) := dk_120 (dk_at dksX1_growVine_4 8 rfl rfl)
theorem dX1_growVine_103 : decode cX1_growVine 103 = .ok (.iconst (-1), 1) := dk_2 (dk_at dksX1_growVine_4 9 rfl rfl)
theorem dX1_growVine_104 : decode cX1_growVine 104 = .ok (.ixor, 1) := dk_130 (dk_at dksX1_growVine_4 10 rfl rfl)
theorem dX1_growVine_105 : decode cX1_growVine 105 = .ok (.iand, 1) := dk_126 (dk_at dksX1_growVine_4 11 rfl rfl)
theorem dX1_growVine_106 : decode cX1_growVine 106 = .ok (.istore_n 1, 1) := dk_60 (dk_at dksX1_growVine_4 12 rfl rfl)
theorem dX1_growVine_107 : decode cX1_growVine 107 = .ok (.iinc 2 1, 3) := dk_132 2 1 (dk_at dksX1_growVine_4 13 rfl rfl)
theorem dX1_growVine_110 : decode cX1_growVine 110 = .ok (.goto (-78), 3) := dk_167 255 178 (dk_at dksX1_growVine_4 16 rfl rfl)
theorem dX1_growVine_113 : decode cX1_growVine 113 = .ok (.iload_n 1, 1) := dk_27 (dk_at dksX1_growVine_4 19 rfl rfl)
theorem dX1_growVine_114 : decode cX1_growVine 114 = .ok (.invokestatic 130, 3) := dk_184 0 130 (dk_at dksX1_growVine_4 20 rfl rfl)
theorem dX1_growVine_117 : decode cX1_growVine 117 = .ok (.istore_n 2, 1) := dk_61 (dk_at dksX1_growVine_4 23 rfl rfl)
theorem dX1_growVine_118 : decode cX1_growVine 118 = .ok (.aload_n 0, 1) := dk_42 (dk_at dksX1_growVine_5 0 rfl rfl)
theorem dX1_growVine_119 : decode cX1_growVine 119 = .ok (.iload_n 2, 1) := dk_28 (dk_at dksX1_growVine_5 1 rfl rfl)
theorem dX1_growVine_120 : decode cX1_growVine 120 = .ok (.iload_n 1, 1) := dk_27 (dk_at dksX1_growVine_5 2 rfl rfl)
theorem dX1_growVine_121 : decode cX1_growVine 121 = .ok (.iconst 1, 1) := dk_4 (dk_at dksX1_growVine_5 3 rfl rfl)
theorem dX1_growVine_122 : decode cX1_growVine 122 = .ok (.iload_n 2, 1) := dk_28 (dk_at dksX1_growVine_5 4 rfl rfl)
theorem dX1_growVine_123 : decode cX1_growVine 123 = .ok (.ishl, 1) := dk_120 (dk_at dksX1_growVine_5 5 rfl rfl)
theorem dX1_growVine_124 : decode cX1_growVine 124 = .ok (.iconst (-1), 1) := dk_2 (dk_at dksX1_growVine_5 6 rfl rfl)
theorem dX1_growVine_125 : decode cX1_growVine 125 = .ok (.ixor, 1) := dk_130 (dk_at dksX1_growVine_5 7 rfl rfl)
theorem dX1_growVine_126 : decode cX1_growVine 126 = .ok (.iand, 1) := dk_126 (dk_at dksX1_growVine_5 8 rfl rfl)
theorem dX1_growVine_127 : decode cX1_growVine 127 = .ok (.invokestatic 130, 3) := dk_184 0 130 (dk_at dksX1_growVine_5 9 rfl rfl)
theorem dX1_growVine_130 : decode cX1_growVine 130 = .ok (.invokevirtual 133, 3) := dk_182 0 133 (dk_at dksX1_growVine_5 12 rfl rfl)
theorem dX1_growVine_133 : decode cX1_growVine 133 = .ok (.return_, 1) := dk_177 (dk_at dksX1_growVine_5 15 rfl rfl)
abbrev cX1_leastOf : ByteArray := prog_15_method_13_code
def yX1_leastOf : MethodName := ⟨RX1, "leastOf", "(I)I"⟩
def dkwX1_leastOf_0 : List UInt8 := [3, 60, 26, 27, 184, 0, 87, 154, 0, 9, 132, 1, 1, 167, 255, 245, 27, 172]
abbrev dktX1_leastOf_0 : List UInt8 := dkwX1_leastOf_0 ++ []
theorem dksX1_leastOf_0 : cX1_leastOf.data.toList.drop 0 = dktX1_leastOf_0 := by decide +kernel
theorem dX1_leastOf_0 : decode cX1_leastOf 0 = .ok (.iconst 0, 1) := dk_3 (dk_at dksX1_leastOf_0 0 rfl rfl)
theorem dX1_leastOf_1 : decode cX1_leastOf 1 = .ok (.istore_n 1, 1) := dk_60 (dk_at dksX1_leastOf_0 1 rfl rfl)
theorem dX1_leastOf_2 : decode cX1_leastOf 2 = .ok (.iload_n 0, 1) := dk_26 (dk_at dksX1_leastOf_0 2 rfl rfl)
theorem dX1_leastOf_3 : decode cX1_leastOf 3 = .ok (.iload_n 1, 1) := dk_27 (dk_at dksX1_leastOf_0 3 rfl rfl)
theorem dX1_leastOf_4 : decode cX1_leastOf 4 = .ok (.invokestatic 87, 3) := dk_184 0 87 (dk_at dksX1_leastOf_0 4 rfl rfl)
theorem dX1_leastOf_7 : decode cX1_leastOf 7 = .ok (.ifCond .ne 9, 3) := dk_154 0 9 (dk_at dksX1_leastOf_0 7 rfl rfl)
theorem dX1_leastOf_10 : decode cX1_leastOf 10 = .ok (.iinc 1 1, 3) := dk_132 1 1 (dk_at dksX1_leastOf_0 10 rfl rfl)
theorem dX1_leastOf_13 : decode cX1_leastOf 13 = .ok (.goto (-11), 3) := dk_167 255 245 (dk_at dksX1_leastOf_0 13 rfl rfl)
theorem dX1_leastOf_16 : decode cX1_leastOf 16 = .ok (.iload_n 1, 1) := dk_27 (dk_at dksX1_leastOf_0 16 rfl rfl)
theorem dX1_leastOf_17 : decode cX1_leastOf 17 = .ok (.ireturn, 1) := dk_172 (dk_at dksX1_leastOf_0 17 rfl rfl)
abbrev cX1_isOf : ByteArray := prog_15_method_11_code
def yX1_isOf : MethodName := ⟨RX1, "isOf", "(II)Z"⟩
def dkwX1_isOf_0 : List UInt8 := [26, 27, 122, 4, 126, 4, 160, 0, 7, 4, 167, 0, 4, 3, 172]
abbrev dktX1_isOf_0 : List UInt8 := dkwX1_isOf_0 ++ []
theorem dksX1_isOf_0 : cX1_isOf.data.toList.drop 0 = dktX1_isOf_0 := by decide +kernel
theorem dX1_isOf_0 : decode cX1_isOf 0 = .ok (.iload_n 0, 1) := dk_26 (dk_at dksX1_isOf_0 0 rfl rfl)
theorem dX1_isOf_1 : decode cX1_isOf 1 = .ok (.iload_n 1, 1) := dk_27 (dk_at dksX1_isOf_0 1 rfl rfl)
theorem dX1_isOf_2 : decode cX1_isOf 2 = .ok (.ishr, 1) := dk_122 (dk_at dksX1_isOf_0 2 rfl rfl)
theorem dX1_isOf_3 : decode cX1_isOf 3 = .ok (.iconst 1, 1) := dk_4 (dk_at dksX1_isOf_0 3 rfl rfl)
theorem dX1_isOf_4 : decode cX1_isOf 4 = .ok (.iand, 1) := dk_126 (dk_at dksX1_isOf_0 4 rfl rfl)
theorem dX1_isOf_5 : decode cX1_isOf 5 = .ok (.iconst 1, 1) := dk_4 (dk_at dksX1_isOf_0 5 rfl rfl)
theorem dX1_isOf_6 : decode cX1_isOf 6 = .ok (.if_icmp .ne 7, 3) := dk_160 0 7 (dk_at dksX1_isOf_0 6 rfl rfl)
theorem dX1_isOf_9 : decode cX1_isOf 9 = .ok (.iconst 1, 1) := dk_4 (dk_at dksX1_isOf_0 9 rfl rfl)
theorem dX1_isOf_10 : decode cX1_isOf 10 = .ok (.goto 4, 3) := dk_167 0 4 (dk_at dksX1_isOf_0 10 rfl rfl)
theorem dX1_isOf_13 : decode cX1_isOf 13 = .ok (.iconst 0, 1) := dk_3 (dk_at dksX1_isOf_0 13 rfl rfl)
theorem dX1_isOf_14 : decode cX1_isOf 14 = .ok (.ireturn, 1) := dk_172 (dk_at dksX1_isOf_0 14 rfl rfl)
abbrev cX1_join : ByteArray := prog_15_method_18_code
def yX1_join : MethodName := ⟨RX1, "join", "(II)V"⟩
def dkwX1_join_1 : List UInt8 := [177]
abbrev dktX1_join_1 : List UInt8 := dkwX1_join_1 ++ []
def dkwX1_join_0 : List UInt8 := [42, 180, 0, 19, 27, 92, 46, 4, 28, 120, 128, 79, 42, 180, 0, 19, 28, 92, 46, 4, 27, 120, 128, 79]
abbrev dktX1_join_0 : List UInt8 := dkwX1_join_0 ++ dktX1_join_1
theorem dksX1_join_0 : cX1_join.data.toList.drop 0 = dktX1_join_0 := by decide +kernel
theorem dksX1_join_1 : cX1_join.data.toList.drop 24 = dktX1_join_1 := dk_seg dksX1_join_0 24 rfl rfl
theorem dX1_join_0 : decode cX1_join 0 = .ok (.aload_n 0, 1) := dk_42 (dk_at dksX1_join_0 0 rfl rfl)
theorem dX1_join_1 : decode cX1_join 1 = .ok (.getfield 19, 3) := dk_180 0 19 (dk_at dksX1_join_0 1 rfl rfl)
theorem dX1_join_4 : decode cX1_join 4 = .ok (.iload_n 1, 1) := dk_27 (dk_at dksX1_join_0 4 rfl rfl)
theorem dX1_join_5 : decode cX1_join 5 = .ok (.dup2, 1) := dk_92 (dk_at dksX1_join_0 5 rfl rfl)
theorem dX1_join_6 : decode cX1_join 6 = .ok (.iaload, 1) := dk_46 (dk_at dksX1_join_0 6 rfl rfl)
theorem dX1_join_7 : decode cX1_join 7 = .ok (.iconst 1, 1) := dk_4 (dk_at dksX1_join_0 7 rfl rfl)
theorem dX1_join_8 : decode cX1_join 8 = .ok (.iload_n 2, 1) := dk_28 (dk_at dksX1_join_0 8 rfl rfl)
theorem dX1_join_9 : decode cX1_join 9 = .ok (.ishl, 1) := dk_120 (dk_at dksX1_join_0 9 rfl rfl)
theorem dX1_join_10 : decode cX1_join 10 = .ok (.ior, 1) := dk_128 (dk_at dksX1_join_0 10 rfl rfl)
theorem dX1_join_11 : decode cX1_join 11 = .ok (.iastore, 1) := dk_79 (dk_at dksX1_join_0 11 rfl rfl)
theorem dX1_join_12 : decode cX1_join 12 = .ok (.aload_n 0, 1) := dk_42 (dk_at dksX1_join_0 12 rfl rfl)
theorem dX1_join_13 : decode cX1_join 13 = .ok (.getfield 19, 3) := dk_180 0 19 (dk_at dksX1_join_0 13 rfl rfl)
theorem dX1_join_16 : decode cX1_join 16 = .ok (.iload_n 2, 1) := dk_28 (dk_at dksX1_join_0 16 rfl rfl)
theorem dX1_join_17 : decode cX1_join 17 = .ok (.dup2, 1) := dk_92 (dk_at dksX1_join_0 17 rfl rfl)
theorem dX1_join_18 : decode cX1_join 18 = .ok (.iaload, 1) := dk_46 (dk_at dksX1_join_0 18 rfl rfl)
theorem dX1_join_19 : decode cX1_join 19 = .ok (.iconst 1, 1) := dk_4 (dk_at dksX1_join_0 19 rfl rfl)
theorem dX1_join_20 : decode cX1_join 20 = .ok (.iload_n 1, 1) := dk_27 (dk_at dksX1_join_0 20 rfl rfl)
theorem dX1_join_21 : decode cX1_join 21 = .ok (.ishl, 1) := dk_120 (dk_at dksX1_join_0 21 rfl rfl)
theorem dX1_join_22 : decode cX1_join 22 = .ok (.ior, 1) := dk_128 (dk_at dksX1_join_0 22 rfl rfl)
theorem dX1_join_23 : decode cX1_join 23 = .ok (.iastore, 1) := dk_79 (dk_at dksX1_join_0 23 rfl rfl)
theorem dX1_join_24 : decode cX1_join 24 = .ok (.return_, 1) := dk_177 (dk_at dksX1_join_1 0 rfl rfl)
abbrev cX1_ofPost : ByteArray := prog_15_method_27_code
def yX1_ofPost : MethodName := ⟨RX1, "ofPost", "(II)I"⟩
def dkwX1_ofPost_4 : List UInt8 := [16, 254, 172]
abbrev dktX1_ofPost_4 : List UInt8 := dkwX1_ofPost_4 ++ []
def dkwX1_ofPost_3 : List UInt8 := [27, 46, 184, 0, 140, 172, 42, 180, 0, 19, 27, 46, 172, 42, 182, 0, 146, 42, 27, 182, 0, 143, 172]
abbrev dktX1_ofPost_3 : List UInt8 := dkwX1_ofPost_3 ++ dktX1_ofPost_4
def dkwX1_ofPost_2 : List UInt8 := [42, 180, 0, 22, 27, 46, 172, 42, 180, 0, 25, 27, 46, 172, 42, 27, 182, 0, 137, 172, 42, 180, 0, 19]
abbrev dktX1_ofPost_2 : List UInt8 := dkwX1_ofPost_2 ++ dktX1_ofPost_3
def dkwX1_ofPost_1 : List UInt8 := [170, 0, 0, 0, 84, 0, 0, 0, 0, 0, 0, 0, 5, 0, 0, 0, 37, 0, 0, 0, 44, 0, 0, 0, 51, 0, 0, 0, 57, 0, 0, 0, 67, 0, 0, 0, 74]
abbrev dktX1_ofPost_1 : List UInt8 := dkwX1_ofPost_1 ++ dktX1_ofPost_2
def dkwX1_ofPost_0 : List UInt8 := [42, 27, 182, 0, 83, 154, 0, 5, 2, 172, 28]
abbrev dktX1_ofPost_0 : List UInt8 := dkwX1_ofPost_0 ++ dktX1_ofPost_1
theorem dksX1_ofPost_0 : cX1_ofPost.data.toList.drop 0 = dktX1_ofPost_0 := by decide +kernel
theorem dksX1_ofPost_1 : cX1_ofPost.data.toList.drop 11 = dktX1_ofPost_1 := dk_seg dksX1_ofPost_0 11 rfl rfl
theorem dksX1_ofPost_2 : cX1_ofPost.data.toList.drop 48 = dktX1_ofPost_2 := dk_seg dksX1_ofPost_1 37 rfl rfl
theorem dksX1_ofPost_3 : cX1_ofPost.data.toList.drop 72 = dktX1_ofPost_3 := dk_seg dksX1_ofPost_2 24 rfl rfl
theorem dksX1_ofPost_4 : cX1_ofPost.data.toList.drop 95 = dktX1_ofPost_4 := dk_seg dksX1_ofPost_3 23 rfl rfl
theorem dX1_ofPost_0 : decode cX1_ofPost 0 = .ok (.aload_n 0, 1) := dk_42 (dk_at dksX1_ofPost_0 0 rfl rfl)
theorem dX1_ofPost_1 : decode cX1_ofPost 1 = .ok (.iload_n 1, 1) := dk_27 (dk_at dksX1_ofPost_0 1 rfl rfl)
theorem dX1_ofPost_2 : decode cX1_ofPost 2 = .ok (.invokevirtual 83, 3) := dk_182 0 83 (dk_at dksX1_ofPost_0 2 rfl rfl)
theorem dX1_ofPost_5 : decode cX1_ofPost 5 = .ok (.ifCond .ne 5, 3) := dk_154 0 5 (dk_at dksX1_ofPost_0 5 rfl rfl)
theorem dX1_ofPost_8 : decode cX1_ofPost 8 = .ok (.iconst (-1), 1) := dk_2 (dk_at dksX1_ofPost_0 8 rfl rfl)
theorem dX1_ofPost_9 : decode cX1_ofPost 9 = .ok (.ireturn, 1) := dk_172 (dk_at dksX1_ofPost_0 9 rfl rfl)
theorem dX1_ofPost_10 : decode cX1_ofPost 10 = .ok (.iload_n 2, 1) := dk_28 (dk_at dksX1_ofPost_0 10 rfl rfl)
theorem dX1_ofPost_11 : decode cX1_ofPost 11 = .ok (.tableswitch 84 0 5 #[37, 44, 51, 57, 67, 74], 37) := by decide +kernel
theorem dX1_ofPost_48 : decode cX1_ofPost 48 = .ok (.aload_n 0, 1) := dk_42 (dk_at dksX1_ofPost_2 0 rfl rfl)
theorem dX1_ofPost_49 : decode cX1_ofPost 49 = .ok (.getfield 22, 3) := dk_180 0 22 (dk_at dksX1_ofPost_2 1 rfl rfl)
theorem dX1_ofPost_52 : decode cX1_ofPost 52 = .ok (.iload_n 1, 1) := dk_27 (dk_at dksX1_ofPost_2 4 rfl rfl)
theorem dX1_ofPost_53 : decode cX1_ofPost 53 = .ok (.iaload, 1) := dk_46 (dk_at dksX1_ofPost_2 5 rfl rfl)
theorem dX1_ofPost_54 : decode cX1_ofPost 54 = .ok (.ireturn, 1) := dk_172 (dk_at dksX1_ofPost_2 6 rfl rfl)
theorem dX1_ofPost_55 : decode cX1_ofPost 55 = .ok (.aload_n 0, 1) := dk_42 (dk_at dksX1_ofPost_2 7 rfl rfl)
theorem dX1_ofPost_56 : decode cX1_ofPost 56 = .ok (.getfield 25, 3) := dk_180 0 25 (dk_at dksX1_ofPost_2 8 rfl rfl)
theorem dX1_ofPost_59 : decode cX1_ofPost 59 = .ok (.iload_n 1, 1) := dk_27 (dk_at dksX1_ofPost_2 11 rfl rfl)
theorem dX1_ofPost_60 : decode cX1_ofPost 60 = .ok (.iaload, 1) := dk_46 (dk_at dksX1_ofPost_2 12 rfl rfl)
theorem dX1_ofPost_61 : decode cX1_ofPost 61 = .ok (.ireturn, 1) := dk_172 (dk_at dksX1_ofPost_2 13 rfl rfl)
theorem dX1_ofPost_62 : decode cX1_ofPost 62 = .ok (.aload_n 0, 1) := dk_42 (dk_at dksX1_ofPost_2 14 rfl rfl)
theorem dX1_ofPost_63 : decode cX1_ofPost 63 = .ok (.iload_n 1, 1) := dk_27 (dk_at dksX1_ofPost_2 15 rfl rfl)
theorem dX1_ofPost_64 : decode cX1_ofPost 64 = .ok (.invokevirtual 137, 3) := dk_182 0 137 (dk_at dksX1_ofPost_2 16 rfl rfl)
theorem dX1_ofPost_67 : decode cX1_ofPost 67 = .ok (.ireturn, 1) := dk_172 (dk_at dksX1_ofPost_2 19 rfl rfl)
theorem dX1_ofPost_68 : decode cX1_ofPost 68 = .ok (.aload_n 0, 1) := dk_42 (dk_at dksX1_ofPost_2 20 rfl rfl)
theorem dX1_ofPost_69 : decode cX1_ofPost 69 = .ok (.getfield 19, 3) := dk_180 0 19 (dk_at dksX1_ofPost_2 21 rfl rfl)
theorem dX1_ofPost_72 : decode cX1_ofPost 72 = .ok (.iload_n 1, 1) := dk_27 (dk_at dksX1_ofPost_3 0 rfl rfl)
theorem dX1_ofPost_73 : decode cX1_ofPost 73 = .ok (.iaload, 1) := dk_46 (dk_at dksX1_ofPost_3 1 rfl rfl)
theorem dX1_ofPost_74 : decode cX1_ofPost 74 = .ok (.invokestatic 140, 3) := dk_184 0 140 (dk_at dksX1_ofPost_3 2 rfl rfl)
theorem dX1_ofPost_77 : decode cX1_ofPost 77 = .ok (.ireturn, 1) := dk_172 (dk_at dksX1_ofPost_3 5 rfl rfl)
theorem dX1_ofPost_78 : decode cX1_ofPost 78 = .ok (.aload_n 0, 1) := dk_42 (dk_at dksX1_ofPost_3 6 rfl rfl)
theorem dX1_ofPost_79 : decode cX1_ofPost 79 = .ok (.getfield 19, 3) := dk_180 0 19 (dk_at dksX1_ofPost_3 7 rfl rfl)
theorem dX1_ofPost_82 : decode cX1_ofPost 82 = .ok (.iload_n 1, 1) := dk_27 (dk_at dksX1_ofPost_3 10 rfl rfl)
theorem dX1_ofPost_83 : decode cX1_ofPost 83 = .ok (.iaload, 1) := dk_46 (dk_at dksX1_ofPost_3 11 rfl rfl)
theorem dX1_ofPost_84 : decode cX1_ofPost 84 = .ok (.ireturn, 1) := dk_172 (dk_at dksX1_ofPost_3 12 rfl rfl)
theorem dX1_ofPost_85 : decode cX1_ofPost 85 = .ok (.aload_n 0, 1) := dk_42 (dk_at dksX1_ofPost_3 13 rfl rfl)
theorem dX1_ofPost_86 : decode cX1_ofPost 86 = .ok (.invokevirtual 146, 3) := dk_182 0 146 (dk_at dksX1_ofPost_3 14 rfl rfl)
theorem dX1_ofPost_89 : decode cX1_ofPost 89 = .ok (.aload_n 0, 1) := dk_42 (dk_at dksX1_ofPost_3 17 rfl rfl)
theorem dX1_ofPost_90 : decode cX1_ofPost 90 = .ok (.iload_n 1, 1) := dk_27 (dk_at dksX1_ofPost_3 18 rfl rfl)
theorem dX1_ofPost_91 : decode cX1_ofPost 91 = .ok (.invokevirtual 143, 3) := dk_182 0 143 (dk_at dksX1_ofPost_3 19 rfl rfl)
theorem dX1_ofPost_94 : decode cX1_ofPost 94 = .ok (.ireturn, 1) := dk_172 (dk_at dksX1_ofPost_3 22 rfl rfl)
theorem dX1_ofPost_95 : decode cX1_ofPost 95 = .ok (.bipush (-2), 2) := dk_16 254 (dk_at dksX1_ofPost_4 0 rfl rfl)
theorem dX1_ofPost_97 : decode cX1_ofPost 97 = .ok (.ireturn, 1) := dk_172 (dk_at dksX1_ofPost_4 2 rfl rfl)
abbrev cX1_isPost : ByteArray := prog_15_method_9_code
def yX1_isPost : MethodName := ⟨RX1, "isPost", "(I)Z"⟩
def dkwX1_isPost_0 : List UInt8 := [27, 155, 0, 15, 27, 42, 180, 0, 80, 162, 0, 7, 4, 167, 0, 4, 3, 172]
abbrev dktX1_isPost_0 : List UInt8 := dkwX1_isPost_0 ++ []
theorem dksX1_isPost_0 : cX1_isPost.data.toList.drop 0 = dktX1_isPost_0 := by decide +kernel
theorem dX1_isPost_0 : decode cX1_isPost 0 = .ok (.iload_n 1, 1) := dk_27 (dk_at dksX1_isPost_0 0 rfl rfl)
theorem dX1_isPost_1 : decode cX1_isPost 1 = .ok (.ifCond .lt 15, 3) := dk_155 0 15 (dk_at dksX1_isPost_0 1 rfl rfl)
theorem dX1_isPost_4 : decode cX1_isPost 4 = .ok (.iload_n 1, 1) := dk_27 (dk_at dksX1_isPost_0 4 rfl rfl)
theorem dX1_isPost_5 : decode cX1_isPost 5 = .ok (.aload_n 0, 1) := dk_42 (dk_at dksX1_isPost_0 5 rfl rfl)
theorem dX1_isPost_6 : decode cX1_isPost 6 = .ok (.getfield 80, 3) := dk_180 0 80 (dk_at dksX1_isPost_0 6 rfl rfl)
theorem dX1_isPost_9 : decode cX1_isPost 9 = .ok (.if_icmp .ge 7, 3) := dk_162 0 7 (dk_at dksX1_isPost_0 9 rfl rfl)
theorem dX1_isPost_12 : decode cX1_isPost 12 = .ok (.iconst 1, 1) := dk_4 (dk_at dksX1_isPost_0 12 rfl rfl)
theorem dX1_isPost_13 : decode cX1_isPost 13 = .ok (.goto 4, 3) := dk_167 0 4 (dk_at dksX1_isPost_0 13 rfl rfl)
theorem dX1_isPost_16 : decode cX1_isPost 16 = .ok (.iconst 0, 1) := dk_3 (dk_at dksX1_isPost_0 16 rfl rfl)
theorem dX1_isPost_17 : decode cX1_isPost 17 = .ok (.ireturn, 1) := dk_172 (dk_at dksX1_isPost_0 17 rfl rfl)
abbrev cX1_worthOf : ByteArray := prog_15_method_21_code
def yX1_worthOf : MethodName := ⟨RX1, "worthOf", "(I)I"⟩
def dkwX1_worthOf_1 : List UInt8 := [4, 160, 0, 14, 42, 180, 0, 25, 27, 46, 4, 96, 167, 0, 11, 5, 42, 180, 0, 25, 27, 46, 104, 172]
abbrev dktX1_worthOf_1 : List UInt8 := dkwX1_worthOf_1 ++ []
def dkwX1_worthOf_0 : List UInt8 := [42, 180, 0, 22, 27, 46, 154, 0, 12, 42, 180, 0, 25, 27, 46, 167, 0, 32, 42, 180, 0, 22, 27, 46]
abbrev dktX1_worthOf_0 : List UInt8 := dkwX1_worthOf_0 ++ dktX1_worthOf_1
theorem dksX1_worthOf_0 : cX1_worthOf.data.toList.drop 0 = dktX1_worthOf_0 := by decide +kernel
theorem dksX1_worthOf_1 : cX1_worthOf.data.toList.drop 24 = dktX1_worthOf_1 := dk_seg dksX1_worthOf_0 24 rfl rfl
theorem dX1_worthOf_0 : decode cX1_worthOf 0 = .ok (.aload_n 0, 1) := dk_42 (dk_at dksX1_worthOf_0 0 rfl rfl)
theorem dX1_worthOf_1 : decode cX1_worthOf 1 = .ok (.getfield 22, 3) := dk_180 0 22 (dk_at dksX1_worthOf_0 1 rfl rfl)
theorem dX1_worthOf_4 : decode cX1_worthOf 4 = .ok (.iload_n 1, 1) := dk_27 (dk_at dksX1_worthOf_0 4 rfl rfl)
theorem dX1_worthOf_5 : decode cX1_worthOf 5 = .ok (.iaload, 1) := dk_46 (dk_at dksX1_worthOf_0 5 rfl rfl)
theorem dX1_worthOf_6 : decode cX1_worthOf 6 = .ok (.ifCond .ne 12, 3) := dk_154 0 12 (dk_at dksX1_worthOf_0 6 rfl rfl)
theorem dX1_worthOf_9 : decode cX1_worthOf 9 = .ok (.aload_n 0, 1) := dk_42 (dk_at dksX1_worthOf_0 9 rfl rfl)
theorem dX1_worthOf_10 : decode cX1_worthOf 10 = .ok (.getfield 25, 3) := dk_180 0 25 (dk_at dksX1_worthOf_0 10 rfl rfl)
theorem dX1_worthOf_13 : decode cX1_worthOf 13 = .ok (.iload_n 1, 1) := dk_27 (dk_at dksX1_worthOf_0 13 rfl rfl)
theorem dX1_worthOf_14 : decode cX1_worthOf 14 = .ok (.iaload, 1) := dk_46 (dk_at dksX1_worthOf_0 14 rfl rfl)
theorem dX1_worthOf_15 : decode cX1_worthOf 15 = .ok (.goto 32, 3) := dk_167 0 32 (dk_at dksX1_worthOf_0 15 rfl rfl)
theorem dX1_worthOf_18 : decode cX1_worthOf 18 = .ok (.aload_n 0, 1) := dk_42 (dk_at dksX1_worthOf_0 18 rfl rfl)
theorem dX1_worthOf_19 : decode cX1_worthOf 19 = .ok (.getfield 22, 3) := dk_180 0 22 (dk_at dksX1_worthOf_0 19 rfl rfl)
theorem dX1_worthOf_22 : decode cX1_worthOf 22 = .ok (.iload_n 1, 1) := dk_27 (dk_at dksX1_worthOf_0 22 rfl rfl)
theorem dX1_worthOf_23 : decode cX1_worthOf 23 = .ok (.iaload, 1) := dk_46 (dk_at dksX1_worthOf_0 23 rfl rfl)
theorem dX1_worthOf_24 : decode cX1_worthOf 24 = .ok (.iconst 1, 1) := dk_4 (dk_at dksX1_worthOf_1 0 rfl rfl)
theorem dX1_worthOf_25 : decode cX1_worthOf 25 = .ok (.if_icmp .ne 14, 3) := dk_160 0 14 (dk_at dksX1_worthOf_1 1 rfl rfl)
theorem dX1_worthOf_28 : decode cX1_worthOf 28 = .ok (.aload_n 0, 1) := dk_42 (dk_at dksX1_worthOf_1 4 rfl rfl)
theorem dX1_worthOf_29 : decode cX1_worthOf 29 = .ok (.getfield 25, 3) := dk_180 0 25 (dk_at dksX1_worthOf_1 5 rfl rfl)
theorem dX1_worthOf_32 : decode cX1_worthOf 32 = .ok (.iload_n 1, 1) := dk_27 (dk_at dksX1_worthOf_1 8 rfl rfl)
theorem dX1_worthOf_33 : decode cX1_worthOf 33 = .ok (.iaload, 1) := dk_46 (dk_at dksX1_worthOf_1 9 rfl rfl)
theorem dX1_worthOf_34 : decode cX1_worthOf 34 = .ok (.iconst 1, 1) := dk_4 (dk_at dksX1_worthOf_1 10 rfl rfl)
theorem dX1_worthOf_35 : decode cX1_worthOf 35 = .ok (.iadd, 1) := dk_96 (dk_at dksX1_worthOf_1 11 rfl rfl)
theorem dX1_worthOf_36 : decode cX1_worthOf 36 = .ok (.goto 11, 3) := dk_167 0 11 (dk_at dksX1_worthOf_1 12 rfl rfl)
theorem dX1_worthOf_39 : decode cX1_worthOf 39 = .ok (.iconst 2, 1) := dk_5 (dk_at dksX1_worthOf_1 15 rfl rfl)
theorem dX1_worthOf_40 : decode cX1_worthOf 40 = .ok (.aload_n 0, 1) := dk_42 (dk_at dksX1_worthOf_1 16 rfl rfl)
theorem dX1_worthOf_41 : decode cX1_worthOf 41 = .ok (.getfield 25, 3) := dk_180 0 25 (dk_at dksX1_worthOf_1 17 rfl rfl)
theorem dX1_worthOf_44 : decode cX1_worthOf 44 = .ok (.iload_n 1, 1) := dk_27 (dk_at dksX1_worthOf_1 20 rfl rfl)
theorem dX1_worthOf_45 : decode cX1_worthOf 45 = .ok (.iaload, 1) := dk_46 (dk_at dksX1_worthOf_1 21 rfl rfl)
theorem dX1_worthOf_46 : decode cX1_worthOf 46 = .ok (.imul, 1) := dk_104 (dk_at dksX1_worthOf_1 22 rfl rfl)
theorem dX1_worthOf_47 : decode cX1_worthOf 47 = .ok (.ireturn, 1) := dk_172 (dk_at dksX1_worthOf_1 23 rfl rfl)
abbrev cX1_size : ByteArray := prog_15_method_12_code
def yX1_size : MethodName := ⟨RX1, "size", "(I)I"⟩
def dkwX1_size_0 : List UInt8 := [3, 60, 26, 61, 28, 158, 0, 16, 27, 28, 4, 126, 96, 60, 28, 4, 122, 61, 167, 255, 242, 27, 172]
abbrev dktX1_size_0 : List UInt8 := dkwX1_size_0 ++ []
theorem dksX1_size_0 : cX1_size.data.toList.drop 0 = dktX1_size_0 := by decide +kernel
theorem dX1_size_0 : decode cX1_size 0 = .ok (.iconst 0, 1) := dk_3 (dk_at dksX1_size_0 0 rfl rfl)
theorem dX1_size_1 : decode cX1_size 1 = .ok (.istore_n 1, 1) := dk_60 (dk_at dksX1_size_0 1 rfl rfl)
theorem dX1_size_2 : decode cX1_size 2 = .ok (.iload_n 0, 1) := dk_26 (dk_at dksX1_size_0 2 rfl rfl)
theorem dX1_size_3 : decode cX1_size 3 = .ok (.istore_n 2, 1) := dk_61 (dk_at dksX1_size_0 3 rfl rfl)
theorem dX1_size_4 : decode cX1_size 4 = .ok (.iload_n 2, 1) := dk_28 (dk_at dksX1_size_0 4 rfl rfl)
theorem dX1_size_5 : decode cX1_size 5 = .ok (.ifCond .le 16, 3) := dk_158 0 16 (dk_at dksX1_size_0 5 rfl rfl)
theorem dX1_size_8 : decode cX1_size 8 = .ok (.iload_n 1, 1) := dk_27 (dk_at dksX1_size_0 8 rfl rfl)
theorem dX1_size_9 : decode cX1_size 9 = .ok (.iload_n 2, 1) := dk_28 (dk_at dksX1_size_0 9 rfl rfl)
theorem dX1_size_10 : decode cX1_size 10 = .ok (.iconst 1, 1) := dk_4 (dk_at dksX1_size_0 10 rfl rfl)
theorem dX1_size_11 : decode cX1_size 11 = .ok (.iand, 1) := dk_126 (dk_at dksX1_size_0 11 rfl rfl)
theorem dX1_size_12 : decode cX1_size 12 = .ok (.iadd, 1) := dk_96 (dk_at dksX1_size_0 12 rfl rfl)
theorem dX1_size_13 : decode cX1_size 13 = .ok (.istore_n 1, 1) := dk_60 (dk_at dksX1_size_0 13 rfl rfl)
theorem dX1_size_14 : decode cX1_size 14 = .ok (.iload_n 2, 1) := dk_28 (dk_at dksX1_size_0 14 rfl rfl)
theorem dX1_size_15 : decode cX1_size 15 = .ok (.iconst 1, 1) := dk_4 (dk_at dksX1_size_0 15 rfl rfl)
theorem dX1_size_16 : decode cX1_size 16 = .ok (.ishr, 1) := dk_122 (dk_at dksX1_size_0 16 rfl rfl)
theorem dX1_size_17 : decode cX1_size 17 = .ok (.istore_n 2, 1) := dk_61 (dk_at dksX1_size_0 17 rfl rfl)
theorem dX1_size_18 : decode cX1_size 18 = .ok (.goto (-14), 3) := dk_167 255 242 (dk_at dksX1_size_0 18 rfl rfl)
theorem dX1_size_21 : decode cX1_size 21 = .ok (.iload_n 1, 1) := dk_27 (dk_at dksX1_size_0 21 rfl rfl)
theorem dX1_size_22 : decode cX1_size 22 = .ok (.ireturn, 1) := dk_172 (dk_at dksX1_size_0 22 rfl rfl)
abbrev cX1_findFars : ByteArray := prog_15_method_24_code
def yX1_findFars : MethodName := ⟨RX1, "findFars", "()V"⟩
def dkwX1_findFars_4 : List UInt8 := [167, 255, 182, 132, 1, 1, 167, 255, 159, 177]
abbrev dktX1_findFars_4 : List UInt8 := dkwX1_findFars_4 ++ []
def dkwX1_findFars_3 : List UInt8 := [54, 5, 132, 6, 1, 167, 255, 209, 28, 29, 128, 61, 21, 5, 28, 2, 130, 126, 62, 132, 4, 1]
abbrev dktX1_findFars_3 : List UInt8 := dkwX1_findFars_3 ++ dktX1_findFars_4
def dkwX1_findFars_2 : List UInt8 := [180, 0, 37, 16, 8, 27, 104, 21, 6, 96, 21, 4, 79, 21, 5, 42, 180, 0, 19, 21, 6, 46, 128]
abbrev dktX1_findFars_2 : List UInt8 := dkwX1_findFars_2 ++ dktX1_findFars_3
def dkwX1_findFars_1 : List UInt8 := [54, 5, 3, 54, 6, 21, 6, 42, 180, 0, 80, 162, 0, 44, 29, 21, 6, 184, 0, 87, 153, 0, 29, 42]
abbrev dktX1_findFars_1 : List UInt8 := dkwX1_findFars_1 ++ dktX1_findFars_2
def dkwX1_findFars_0 : List UInt8 := [3, 60, 27, 42, 180, 0, 80, 162, 0, 95, 3, 61, 4, 27, 120, 62, 3, 54, 4, 29, 153, 0, 76, 3]
abbrev dktX1_findFars_0 : List UInt8 := dkwX1_findFars_0 ++ dktX1_findFars_1
theorem dksX1_findFars_0 : cX1_findFars.data.toList.drop 0 = dktX1_findFars_0 := by decide +kernel
theorem dksX1_findFars_1 : cX1_findFars.data.toList.drop 24 = dktX1_findFars_1 := dk_seg dksX1_findFars_0 24 rfl rfl
theorem dksX1_findFars_2 : cX1_findFars.data.toList.drop 48 = dktX1_findFars_2 := dk_seg dksX1_findFars_1 24 rfl rfl
theorem dksX1_findFars_3 : cX1_findFars.data.toList.drop 71 = dktX1_findFars_3 := dk_seg dksX1_findFars_2 23 rfl rfl
theorem dksX1_findFars_4 : cX1_findFars.data.toList.drop 93 = dktX1_findFars_4 := dk_seg dksX1_findFars_3 22 rfl rfl
theorem dX1_findFars_0 : decode cX1_findFars 0 = .ok (.iconst 0, 1) := dk_3 (dk_at dksX1_findFars_0 0 rfl rfl)
theorem dX1_findFars_1 : decode cX1_findFars 1 = .ok (.istore_n 1, 1) := dk_60 (dk_at dksX1_findFars_0 1 rfl rfl)
theorem dX1_findFars_2 : decode cX1_findFars 2 = .ok (.iload_n 1, 1) := dk_27 (dk_at dksX1_findFars_0 2 rfl rfl)
theorem dX1_findFars_3 : decode cX1_findFars 3 = .ok (.aload_n 0, 1) := dk_42 (dk_at dksX1_findFars_0 3 rfl rfl)
theorem dX1_findFars_4 : decode cX1_findFars 4 = .ok (.getfield 80, 3) := dk_180 0 80 (dk_at dksX1_findFars_0 4 rfl rfl)
theorem dX1_findFars_7 : decode cX1_findFars 7 = .ok (.if_icmp .ge 95, 3) := dk_162 0 95 (dk_at dksX1_findFars_0 7 rfl rfl)
theorem dX1_findFars_10 : decode cX1_findFars 10 = .ok (.iconst 0, 1) := dk_3 (dk_at dksX1_findFars_0 10 rfl rfl)
theorem dX1_findFars_11 : decode cX1_findFars 11 = .ok (.istore_n 2, 1) := dk_61 (dk_at dksX1_findFars_0 11 rfl rfl)
theorem dX1_findFars_12 : decode cX1_findFars 12 = .ok (.iconst 1, 1) := dk_4 (dk_at dksX1_findFars_0 12 rfl rfl)
theorem dX1_findFars_13 : decode cX1_findFars 13 = .ok (.iload_n 1, 1) := dk_27 (dk_at dksX1_findFars_0 13 rfl rfl)
theorem dX1_findFars_14 : decode cX1_findFars 14 = .ok (.ishl, 1) := dk_120 (dk_at dksX1_findFars_0 14 rfl rfl)
theorem dX1_findFars_15 : decode cX1_findFars 15 = .ok (.istore_n 3, 1) := dk_62 (dk_at dksX1_findFars_0 15 rfl rfl)
theorem dX1_findFars_16 : decode cX1_findFars 16 = .ok (.iconst 0, 1) := dk_3 (dk_at dksX1_findFars_0 16 rfl rfl)
theorem dX1_findFars_17 : decode cX1_findFars 17 = .ok (.istore 4, 2) := dk_54 4 (dk_at dksX1_findFars_0 17 rfl rfl)
theorem dX1_findFars_19 : decode cX1_findFars 19 = .ok (.iload_n 3, 1) := dk_29 (dk_at dksX1_findFars_0 19 rfl rfl)
theorem dX1_findFars_20 : decode cX1_findFars 20 = .ok (.ifCond .eq 76, 3) := dk_153 0 76 (dk_at dksX1_findFars_0 20 rfl rfl)
theorem dX1_findFars_23 : decode cX1_findFars 23 = .ok (.iconst 0, 1) := dk_3 (dk_at dksX1_findFars_0 23 rfl rfl)
theorem dX1_findFars_24 : decode cX1_findFars 24 = .ok (.istore 5, 2) := dk_54 5 (dk_at dksX1_findFars_1 0 rfl rfl)
theorem dX1_findFars_26 : decode cX1_findFars 26 = .ok (.iconst 0, 1) := dk_3 (dk_at dksX1_findFars_1 2 rfl rfl)
theorem dX1_findFars_27 : decode cX1_findFars 27 = .ok (.istore 6, 2) := dk_54 6 (dk_at dksX1_findFars_1 3 rfl rfl)
theorem dX1_findFars_29 : decode cX1_findFars 29 = .ok (.iload 6, 2) := dk_21 6 (dk_at dksX1_findFars_1 5 rfl rfl)
theorem dX1_findFars_31 : decode cX1_findFars 31 = .ok (.aload_n 0, 1) := dk_42 (dk_at dksX1_findFars_1 7 rfl rfl)
theorem dX1_findFars_32 : decode cX1_findFars 32 = .ok (.getfield 80, 3) := dk_180 0 80 (dk_at dksX1_findFars_1 8 rfl rfl)
theorem dX1_findFars_35 : decode cX1_findFars 35 = .ok (.if_icmp .ge 44, 3) := dk_162 0 44 (dk_at dksX1_findFars_1 11 rfl rfl)
theorem dX1_findFars_38 : decode cX1_findFars 38 = .ok (.iload_n 3, 1) := dk_29 (dk_at dksX1_findFars_1 14 rfl rfl)
theorem dX1_findFars_39 : decode cX1_findFars 39 = .ok (.iload 6, 2) := dk_21 6 (dk_at dksX1_findFars_1 15 rfl rfl)
theorem dX1_findFars_41 : decode cX1_findFars 41 = .ok (.invokestatic 87, 3) := dk_184 0 87 (dk_at dksX1_findFars_1 17 rfl rfl)
theorem dX1_findFars_44 : decode cX1_findFars 44 = .ok (.ifCond .eq 29, 3) := dk_153 0 29 (dk_at dksX1_findFars_1 20 rfl rfl)
theorem dX1_findFars_47 : decode cX1_findFars 47 = .ok (.aload_n 0, 1) := dk_42 (dk_at dksX1_findFars_1 23 rfl rfl)
theorem dX1_findFars_48 : decode cX1_findFars 48 = .ok (.getfield 37, 3) := dk_180 0 37 (dk_at dksX1_findFars_2 0 rfl rfl)
theorem dX1_findFars_51 : decode cX1_findFars 51 = .ok (.bipush 8, 2) := dk_16 8 (dk_at dksX1_findFars_2 3 rfl rfl)
theorem dX1_findFars_53 : decode cX1_findFars 53 = .ok (.iload_n 1, 1) := dk_27 (dk_at dksX1_findFars_2 5 rfl rfl)
theorem dX1_findFars_54 : decode cX1_findFars 54 = .ok (.imul, 1) := dk_104 (dk_at dksX1_findFars_2 6 rfl rfl)
theorem dX1_findFars_55 : decode cX1_findFars 55 = .ok (.iload 6, 2) := dk_21 6 (dk_at dksX1_findFars_2 7 rfl rfl)
theorem dX1_findFars_57 : decode cX1_findFars 57 = .ok (.iadd, 1) := dk_96 (dk_at dksX1_findFars_2 9 rfl rfl)
theorem dX1_findFars_58 : decode cX1_findFars 58 = .ok (.iload 4, 2) := dk_21 4 (dk_at dksX1_findFars_2 10 rfl rfl)
theorem dX1_findFars_60 : decode cX1_findFars 60 = .ok (.iastore, 1) := dk_79 (dk_at dksX1_findFars_2 12 rfl rfl)
theorem dX1_findFars_61 : decode cX1_findFars 61 = .ok (.iload 5, 2) := dk_21 5 (dk_at dksX1_findFars_2 13 rfl rfl)
theorem dX1_findFars_63 : decode cX1_findFars 63 = .ok (.aload_n 0, 1) := dk_42 (dk_at dksX1_findFars_2 15 rfl rfl)
theorem dX1_findFars_64 : decode cX1_findFars 64 = .ok (.getfield 19, 3) := dk_180 0 19 (dk_at dksX1_findFars_2 16 rfl rfl)
theorem dX1_findFars_67 : decode cX1_findFars 67 = .ok (.iload 6, 2) := dk_21 6 (dk_at dksX1_findFars_2 19 rfl rfl)
theorem dX1_findFars_69 : decode cX1_findFars 69 = .ok (.iaload, 1) := dk_46 (dk_at dksX1_findFars_2 21 rfl rfl)
theorem dX1_findFars_70 : decode cX1_findFars 70 = .ok (.ior, 1) := dk_128 (dk_at dksX1_findFars_2 22 rfl rfl)
theorem dX1_findFars_71 : decode cX1_findFars 71 = .ok (.istore 5, 2) := dk_54 5 (dk_at dksX1_findFars_3 0 rfl rfl)
theorem dX1_findFars_73 : decode cX1_findFars 73 = .ok (.iinc 6 1, 3) := dk_132 6 1 (dk_at dksX1_findFars_3 2 rfl rfl)
theorem dX1_findFars_76 : decode cX1_findFars 76 = .ok (.goto (-47), 3) := dk_167 255 209 (dk_at dksX1_findFars_3 5 rfl rfl)
theorem dX1_findFars_79 : decode cX1_findFars 79 = .ok (.iload_n 2, 1) := dk_28 (dk_at dksX1_findFars_3 8 rfl rfl)
theorem dX1_findFars_80 : decode cX1_findFars 80 = .ok (.iload_n 3, 1) := dk_29 (dk_at dksX1_findFars_3 9 rfl rfl)
theorem dX1_findFars_81 : decode cX1_findFars 81 = .ok (.ior, 1) := dk_128 (dk_at dksX1_findFars_3 10 rfl rfl)
theorem dX1_findFars_82 : decode cX1_findFars 82 = .ok (.istore_n 2, 1) := dk_61 (dk_at dksX1_findFars_3 11 rfl rfl)
theorem dX1_findFars_83 : decode cX1_findFars 83 = .ok (.iload 5, 2) := dk_21 5 (dk_at dksX1_findFars_3 12 rfl rfl)
theorem dX1_findFars_85 : decode cX1_findFars 85 = .ok (.iload_n 2, 1) := dk_28 (dk_at dksX1_findFars_3 14 rfl rfl)
theorem dX1_findFars_86 : decode cX1_findFars 86 = .ok (.iconst (-1), 1) := dk_2 (dk_at dksX1_findFars_3 15 rfl rfl)
theorem dX1_findFars_87 : decode cX1_findFars 87 = .ok (.ixor, 1) := dk_130 (dk_at dksX1_findFars_3 16 rfl rfl)
theorem dX1_findFars_88 : decode cX1_findFars 88 = .ok (.iand, 1) := dk_126 (dk_at dksX1_findFars_3 17 rfl rfl)
theorem dX1_findFars_89 : decode cX1_findFars 89 = .ok (.istore_n 3, 1) := dk_62 (dk_at dksX1_findFars_3 18 rfl rfl)
theorem dX1_findFars_90 : decode cX1_findFars 90 = .ok (.iinc 4 1, 3) := dk_132 4 1 (dk_at dksX1_findFars_3 19 rfl rfl)
theorem dX1_findFars_93 : decode cX1_findFars 93 = .ok (.goto (-74), 3) := dk_167 255 182 (dk_at dksX1_findFars_4 0 rfl rfl)
theorem dX1_findFars_96 : decode cX1_findFars 96 = .ok (.iinc 1 1, 3) := dk_132 1 1 (dk_at dksX1_findFars_4 3 rfl rfl)
theorem dX1_findFars_99 : decode cX1_findFars 99 = .ok (.goto (-97), 3) := dk_167 255 159 (dk_at dksX1_findFars_4 6 rfl rfl)
theorem dX1_findFars_102 : decode cX1_findFars 102 = .ok (.return_, 1) := dk_177 (dk_at dksX1_findFars_4 9 rfl rfl)
abbrev cX1_farthestFrom : ByteArray := prog_15_method_25_code
def yX1_farthestFrom : MethodName := ⟨RX1, "farthestFrom", "(I)I"⟩
def dkwX1_farthestFrom_2 : List UInt8 := [167, 255, 214, 28, 172]
abbrev dktX1_farthestFrom_2 : List UInt8 := dkwX1_farthestFrom_2 ++ []
def dkwX1_farthestFrom_1 : List UInt8 := [164, 0, 17, 42, 180, 0, 37, 16, 8, 27, 104, 29, 96, 46, 167, 0, 4, 28, 61, 132, 3, 1]
abbrev dktX1_farthestFrom_1 : List UInt8 := dkwX1_farthestFrom_1 ++ dktX1_farthestFrom_2
def dkwX1_farthestFrom_0 : List UInt8 := [3, 61, 3, 62, 29, 42, 180, 0, 80, 162, 0, 40, 42, 180, 0, 37, 16, 8, 27, 104, 29, 96, 46, 28]
abbrev dktX1_farthestFrom_0 : List UInt8 := dkwX1_farthestFrom_0 ++ dktX1_farthestFrom_1
theorem dksX1_farthestFrom_0 : cX1_farthestFrom.data.toList.drop 0 = dktX1_farthestFrom_0 := by decide +kernel
theorem dksX1_farthestFrom_1 : cX1_farthestFrom.data.toList.drop 24 = dktX1_farthestFrom_1 := dk_seg dksX1_farthestFrom_0 24 rfl rfl
theorem dksX1_farthestFrom_2 : cX1_farthestFrom.data.toList.drop 46 = dktX1_farthestFrom_2 := dk_seg dksX1_farthestFrom_1 22 rfl rfl
theorem dX1_farthestFrom_0 : decode cX1_farthestFrom 0 = .ok (.iconst 0, 1) := dk_3 (dk_at dksX1_farthestFrom_0 0 rfl rfl)
theorem dX1_farthestFrom_1 : decode cX1_farthestFrom 1 = .ok (.istore_n 2, 1) := dk_61 (dk_at dksX1_farthestFrom_0 1 rfl rfl)
theorem dX1_farthestFrom_2 : decode cX1_farthestFrom 2 = .ok (.iconst 0, 1) := dk_3 (dk_at dksX1_farthestFrom_0 2 rfl rfl)
theorem dX1_farthestFrom_3 : decode cX1_farthestFrom 3 = .ok (.istore_n 3, 1) := dk_62 (dk_at dksX1_farthestFrom_0 3 rfl rfl)
theorem dX1_farthestFrom_4 : decode cX1_farthestFrom 4 = .ok (.iload_n 3, 1) := dk_29 (dk_at dksX1_farthestFrom_0 4 rfl rfl)
theorem dX1_farthestFrom_5 : decode cX1_farthestFrom 5 = .ok (.aload_n 0, 1) := dk_42 (dk_at dksX1_farthestFrom_0 5 rfl rfl)
theorem dX1_farthestFrom_6 : decode cX1_farthestFrom 6 = .ok (.getfield 80, 3) := dk_180 0 80 (dk_at dksX1_farthestFrom_0 6 rfl rfl)
theorem dX1_farthestFrom_9 : decode cX1_farthestFrom 9 = .ok (.if_icmp .ge 40, 3) := dk_162 0 40 (dk_at dksX1_farthestFrom_0 9 rfl rfl)
theorem dX1_farthestFrom_12 : decode cX1_farthestFrom 12 = .ok (.aload_n 0, 1) := dk_42 (dk_at dksX1_farthestFrom_0 12 rfl rfl)
theorem dX1_farthestFrom_13 : decode cX1_farthestFrom 13 = .ok (.getfield 37, 3) := dk_180 0 37 (dk_at dksX1_farthestFrom_0 13 rfl rfl)
theorem dX1_farthestFrom_16 : decode cX1_farthestFrom 16 = .ok (.bipush 8, 2) := dk_16 8 (dk_at dksX1_farthestFrom_0 16 rfl rfl)
theorem dX1_farthestFrom_18 : decode cX1_farthestFrom 18 = .ok (.iload_n 1, 1) := dk_27 (dk_at dksX1_farthestFrom_0 18 rfl rfl)
theorem dX1_farthestFrom_19 : decode cX1_farthestFrom 19 = .ok (.imul, 1) := dk_104 (dk_at dksX1_farthestFrom_0 19 rfl rfl)
theorem dX1_farthestFrom_20 : decode cX1_farthestFrom 20 = .ok (.iload_n 3, 1) := dk_29 (dk_at dksX1_farthestFrom_0 20 rfl rfl)
theorem dX1_farthestFrom_21 : decode cX1_farthestFrom 21 = .ok (.iadd, 1) := dk_96 (dk_at dksX1_farthestFrom_0 21 rfl rfl)
theorem dX1_farthestFrom_22 : decode cX1_farthestFrom 22 = .ok (.iaload, 1) := dk_46 (dk_at dksX1_farthestFrom_0 22 rfl rfl)
theorem dX1_farthestFrom_23 : decode cX1_farthestFrom 23 = .ok (.iload_n 2, 1) := dk_28 (dk_at dksX1_farthestFrom_0 23 rfl rfl)
theorem dX1_farthestFrom_24 : decode cX1_farthestFrom 24 = .ok (.if_icmp .le 17, 3) := dk_164 0 17 (dk_at dksX1_farthestFrom_1 0 rfl rfl)
theorem dX1_farthestFrom_27 : decode cX1_farthestFrom 27 = .ok (.aload_n 0, 1) := dk_42 (dk_at dksX1_farthestFrom_1 3 rfl rfl)
theorem dX1_farthestFrom_28 : decode cX1_farthestFrom 28 = .ok (.getfield 37, 3) := dk_180 0 37 (dk_at dksX1_farthestFrom_1 4 rfl rfl)
theorem dX1_farthestFrom_31 : decode cX1_farthestFrom 31 = .ok (.bipush 8, 2) := dk_16 8 (dk_at dksX1_farthestFrom_1 7 rfl rfl)
theorem dX1_farthestFrom_33 : decode cX1_farthestFrom 33 = .ok (.iload_n 1, 1) := dk_27 (dk_at dksX1_farthestFrom_1 9 rfl rfl)
theorem dX1_farthestFrom_34 : decode cX1_farthestFrom 34 = .ok (.imul, 1) := dk_104 (dk_at dksX1_farthestFrom_1 10 rfl rfl)
theorem dX1_farthestFrom_35 : decode cX1_farthestFrom 35 = .ok (.iload_n 3, 1) := dk_29 (dk_at dksX1_farthestFrom_1 11 rfl rfl)
theorem dX1_farthestFrom_36 : decode cX1_farthestFrom 36 = .ok (.iadd, 1) := dk_96 (dk_at dksX1_farthestFrom_1 12 rfl rfl)
theorem dX1_farthestFrom_37 : decode cX1_farthestFrom 37 = .ok (.iaload, 1) := dk_46 (dk_at dksX1_farthestFrom_1 13 rfl rfl)
theorem dX1_farthestFrom_38 : decode cX1_farthestFrom 38 = .ok (.goto 4, 3) := dk_167 0 4 (dk_at dksX1_farthestFrom_1 14 rfl rfl)
theorem dX1_farthestFrom_41 : decode cX1_farthestFrom 41 = .ok (.iload_n 2, 1) := dk_28 (dk_at dksX1_farthestFrom_1 17 rfl rfl)
theorem dX1_farthestFrom_42 : decode cX1_farthestFrom 42 = .ok (.istore_n 2, 1) := dk_61 (dk_at dksX1_farthestFrom_1 18 rfl rfl)
theorem dX1_farthestFrom_43 : decode cX1_farthestFrom 43 = .ok (.iinc 3 1, 3) := dk_132 3 1 (dk_at dksX1_farthestFrom_1 19 rfl rfl)
theorem dX1_farthestFrom_46 : decode cX1_farthestFrom 46 = .ok (.goto (-42), 3) := dk_167 255 214 (dk_at dksX1_farthestFrom_2 0 rfl rfl)
theorem dX1_farthestFrom_49 : decode cX1_farthestFrom 49 = .ok (.iload_n 2, 1) := dk_28 (dk_at dksX1_farthestFrom_2 3 rfl rfl)
theorem dX1_farthestFrom_50 : decode cX1_farthestFrom 50 = .ok (.ireturn, 1) := dk_172 (dk_at dksX1_farthestFrom_2 4 rfl rfl)
abbrev cX1_load : ByteArray := prog_15_method_28_code
def yX1_load : MethodName := ⟨RX1, "load", "(II)I"⟩
def dkwX1_load_1 : List UInt8 := [180, 0, 25, 27, 46, 62, 42, 180, 0, 25, 27, 28, 79, 29, 172]
abbrev dktX1_load_1 : List UInt8 := dkwX1_load_1 ++ []
def dkwX1_load_0 : List UInt8 := [42, 27, 182, 0, 83, 154, 0, 5, 2, 172, 28, 3, 16, 9, 184, 0, 76, 154, 0, 6, 16, 254, 172, 42]
abbrev dktX1_load_0 : List UInt8 := dkwX1_load_0 ++ dktX1_load_1
theorem dksX1_load_0 : cX1_load.data.toList.drop 0 = dktX1_load_0 := by decide +kernel
theorem dksX1_load_1 : cX1_load.data.toList.drop 24 = dktX1_load_1 := dk_seg dksX1_load_0 24 rfl rfl
theorem dX1_load_0 : decode cX1_load 0 = .ok (.aload_n 0, 1) := dk_42 (dk_at dksX1_load_0 0 rfl rfl)
theorem dX1_load_1 : decode cX1_load 1 = .ok (.iload_n 1, 1) := dk_27 (dk_at dksX1_load_0 1 rfl rfl)
theorem dX1_load_2 : decode cX1_load 2 = .ok (.invokevirtual 83, 3) := dk_182 0 83 (dk_at dksX1_load_0 2 rfl rfl)
theorem dX1_load_5 : decode cX1_load 5 = .ok (.ifCond .ne 5, 3) := dk_154 0 5 (dk_at dksX1_load_0 5 rfl rfl)
theorem dX1_load_8 : decode cX1_load 8 = .ok (.iconst (-1), 1) := dk_2 (dk_at dksX1_load_0 8 rfl rfl)
theorem dX1_load_9 : decode cX1_load 9 = .ok (.ireturn, 1) := dk_172 (dk_at dksX1_load_0 9 rfl rfl)
theorem dX1_load_10 : decode cX1_load 10 = .ok (.iload_n 2, 1) := dk_28 (dk_at dksX1_load_0 10 rfl rfl)
theorem dX1_load_11 : decode cX1_load 11 = .ok (.iconst 0, 1) := dk_3 (dk_at dksX1_load_0 11 rfl rfl)
theorem dX1_load_12 : decode cX1_load 12 = .ok (.bipush 9, 2) := dk_16 9 (dk_at dksX1_load_0 12 rfl rfl)
theorem dX1_load_14 : decode cX1_load 14 = .ok (.invokestatic 76, 3) := dk_184 0 76 (dk_at dksX1_load_0 14 rfl rfl)
theorem dX1_load_17 : decode cX1_load 17 = .ok (.ifCond .ne 6, 3) := dk_154 0 6 (dk_at dksX1_load_0 17 rfl rfl)
theorem dX1_load_20 : decode cX1_load 20 = .ok (.bipush (-2), 2) := dk_16 254 (dk_at dksX1_load_0 20 rfl rfl)
theorem dX1_load_22 : decode cX1_load 22 = .ok (.ireturn, 1) := dk_172 (dk_at dksX1_load_0 22 rfl rfl)
theorem dX1_load_23 : decode cX1_load 23 = .ok (.aload_n 0, 1) := dk_42 (dk_at dksX1_load_0 23 rfl rfl)
theorem dX1_load_24 : decode cX1_load 24 = .ok (.getfield 25, 3) := dk_180 0 25 (dk_at dksX1_load_1 0 rfl rfl)
theorem dX1_load_27 : decode cX1_load 27 = .ok (.iload_n 1, 1) := dk_27 (dk_at dksX1_load_1 3 rfl rfl)
theorem dX1_load_28 : decode cX1_load 28 = .ok (.iaload, 1) := dk_46 (dk_at dksX1_load_1 4 rfl rfl)
theorem dX1_load_29 : decode cX1_load 29 = .ok (.istore_n 3, 1) := dk_62 (dk_at dksX1_load_1 5 rfl rfl)
theorem dX1_load_30 : decode cX1_load 30 = .ok (.aload_n 0, 1) := dk_42 (dk_at dksX1_load_1 6 rfl rfl)
theorem dX1_load_31 : decode cX1_load 31 = .ok (.getfield 25, 3) := dk_180 0 25 (dk_at dksX1_load_1 7 rfl rfl)
theorem dX1_load_34 : decode cX1_load 34 = .ok (.iload_n 1, 1) := dk_27 (dk_at dksX1_load_1 10 rfl rfl)
theorem dX1_load_35 : decode cX1_load 35 = .ok (.iload_n 2, 1) := dk_28 (dk_at dksX1_load_1 11 rfl rfl)
theorem dX1_load_36 : decode cX1_load 36 = .ok (.iastore, 1) := dk_79 (dk_at dksX1_load_1 12 rfl rfl)
theorem dX1_load_37 : decode cX1_load 37 = .ok (.iload_n 3, 1) := dk_29 (dk_at dksX1_load_1 13 rfl rfl)
theorem dX1_load_38 : decode cX1_load 38 = .ok (.ireturn, 1) := dk_172 (dk_at dksX1_load_1 14 rfl rfl)
abbrev cX1_row : ByteArray := prog_15_method_30_code
def yX1_row : MethodName := ⟨RX1, "row", "(I)I"⟩
def dkwX1_row_2 : List UInt8 := [172]
abbrev dktX1_row_2 : List UInt8 := dkwX1_row_2 ++ []
def dkwX1_row_1 : List UInt8 := [182, 0, 149, 27, 42, 180, 0, 80, 5, 100, 162, 0, 12, 42, 180, 0, 40, 27, 46, 167, 0, 5, 16, 247]
abbrev dktX1_row_1 : List UInt8 := dkwX1_row_1 ++ dktX1_row_2
def dkwX1_row_0 : List UInt8 := [27, 3, 8, 184, 0, 76, 154, 0, 6, 16, 254, 172, 42, 180, 0, 80, 154, 0, 6, 16, 253, 172, 42]
abbrev dktX1_row_0 : List UInt8 := dkwX1_row_0 ++ dktX1_row_1
theorem dksX1_row_0 : cX1_row.data.toList.drop 0 = dktX1_row_0 := by decide +kernel
theorem dksX1_row_1 : cX1_row.data.toList.drop 23 = dktX1_row_1 := dk_seg dksX1_row_0 23 rfl rfl
theorem dksX1_row_2 : cX1_row.data.toList.drop 47 = dktX1_row_2 := dk_seg dksX1_row_1 24 rfl rfl
theorem dX1_row_0 : decode cX1_row 0 = .ok (.iload_n 1, 1) := dk_27 (dk_at dksX1_row_0 0 rfl rfl)
theorem dX1_row_1 : decode cX1_row 1 = .ok (.iconst 0, 1) := dk_3 (dk_at dksX1_row_0 1 rfl rfl)
theorem dX1_row_2 : decode cX1_row 2 = .ok (.iconst 5, 1) := dk_8 (dk_at dksX1_row_0 2 rfl rfl)
theorem dX1_row_3 : decode cX1_row 3 = .ok (.invokestatic 76, 3) := dk_184 0 76 (dk_at dksX1_row_0 3 rfl rfl)
theorem dX1_row_6 : decode cX1_row 6 = .ok (.ifCond .ne 6, 3) := dk_154 0 6 (dk_at dksX1_row_0 6 rfl rfl)
theorem dX1_row_9 : decode cX1_row 9 = .ok (.bipush (-2), 2) := dk_16 254 (dk_at dksX1_row_0 9 rfl rfl)
theorem dX1_row_11 : decode cX1_row 11 = .ok (.ireturn, 1) := dk_172 (dk_at dksX1_row_0 11 rfl rfl)
theorem dX1_row_12 : decode cX1_row 12 = .ok (.aload_n 0, 1) := dk_42 (dk_at dksX1_row_0 12 rfl rfl)
theorem dX1_row_13 : decode cX1_row 13 = .ok (.getfield 80, 3) := dk_180 0 80 (dk_at dksX1_row_0 13 rfl rfl)
theorem dX1_row_16 : decode cX1_row 16 = .ok (.ifCond .ne 6, 3) := dk_154 0 6 (dk_at dksX1_row_0 16 rfl rfl)
theorem dX1_row_19 : decode cX1_row 19 = .ok (.bipush (-3), 2) := dk_16 253 (dk_at dksX1_row_0 19 rfl rfl)
theorem dX1_row_21 : decode cX1_row 21 = .ok (.ireturn, 1) := dk_172 (dk_at dksX1_row_0 21 rfl rfl)
theorem dX1_row_22 : decode cX1_row 22 = .ok (.aload_n 0, 1) := dk_42 (dk_at dksX1_row_0 22 rfl rfl)
theorem dX1_row_23 : decode cX1_row 23 = .ok (.invokevirtual 149, 3) := dk_182 0 149 (dk_at dksX1_row_1 0 rfl rfl)
theorem dX1_row_26 : decode cX1_row 26 = .ok (.iload_n 1, 1) := dk_27 (dk_at dksX1_row_1 3 rfl rfl)
theorem dX1_row_27 : decode cX1_row 27 = .ok (.aload_n 0, 1) := dk_42 (dk_at dksX1_row_1 4 rfl rfl)
theorem dX1_row_28 : decode cX1_row 28 = .ok (.getfield 80, 3) := dk_180 0 80 (dk_at dksX1_row_1 5 rfl rfl)
theorem dX1_row_31 : decode cX1_row 31 = .ok (.iconst 2, 1) := dk_5 (dk_at dksX1_row_1 8 rfl rfl)
theorem dX1_row_32 : decode cX1_row 32 = .ok (.isub, 1) := dk_100 (dk_at dksX1_row_1 9 rfl rfl)
theorem dX1_row_33 : decode cX1_row 33 = .ok (.if_icmp .ge 12, 3) := dk_162 0 12 (dk_at dksX1_row_1 10 rfl rfl)
theorem dX1_row_36 : decode cX1_row 36 = .ok (.aload_n 0, 1) := dk_42 (dk_at dksX1_row_1 13 rfl rfl)
theorem dX1_row_37 : decode cX1_row 37 = .ok (.getfield 40, 3) := dk_180 0 40 (dk_at dksX1_row_1 14 rfl rfl)
theorem dX1_row_40 : decode cX1_row 40 = .ok (.iload_n 1, 1) := dk_27 (dk_at dksX1_row_1 17 rfl rfl)
theorem dX1_row_41 : decode cX1_row 41 = .ok (.iaload, 1) := dk_46 (dk_at dksX1_row_1 18 rfl rfl)
theorem dX1_row_42 : decode cX1_row 42 = .ok (.goto 5, 3) := dk_167 0 5 (dk_at dksX1_row_1 19 rfl rfl)
theorem dX1_row_45 : decode cX1_row 45 = .ok (.bipush (-9), 2) := dk_16 247 (dk_at dksX1_row_1 22 rfl rfl)
theorem dX1_row_47 : decode cX1_row 47 = .ok (.ireturn, 1) := dk_172 (dk_at dksX1_row_2 0 rfl rfl)
abbrev cX1_findRow : ByteArray := prog_15_method_29_code
def yX1_findRow : MethodName := ⟨RX1, "findRow", "()V"⟩
def dkwX1_findRow_4 : List UInt8 := [79, 42, 180, 0, 43, 28, 3, 79, 132, 1, 1, 167, 255, 181, 177]
abbrev dktX1_findRow_4 : List UInt8 := dkwX1_findRow_4 ++ []
def dkwX1_findRow_3 : List UInt8 := [28, 46, 184, 0, 130, 79, 42, 180, 0, 43, 42, 180, 0, 40, 27, 46, 92, 46, 4, 28, 120, 2, 130, 126]
abbrev dktX1_findRow_3 : List UInt8 := dkwX1_findRow_3 ++ dktX1_findRow_4
def dkwX1_findRow_2 : List UInt8 := [28, 46, 184, 0, 140, 4, 159, 0, 9, 132, 2, 1, 167, 255, 240, 42, 180, 0, 40, 27, 42, 180, 0, 43]
abbrev dktX1_findRow_2 : List UInt8 := dkwX1_findRow_2 ++ dktX1_findRow_3
def dkwX1_findRow_1 : List UInt8 := [132, 1, 1, 167, 255, 233, 3, 60, 27, 42, 180, 0, 80, 5, 100, 162, 0, 71, 3, 61, 42, 180, 0, 43]
abbrev dktX1_findRow_1 : List UInt8 := dkwX1_findRow_1 ++ dktX1_findRow_2
def dkwX1_findRow_0 : List UInt8 := [3, 60, 27, 42, 180, 0, 80, 162, 0, 21, 42, 180, 0, 43, 27, 42, 180, 0, 19, 27, 46, 79]
abbrev dktX1_findRow_0 : List UInt8 := dkwX1_findRow_0 ++ dktX1_findRow_1
theorem dksX1_findRow_0 : cX1_findRow.data.toList.drop 0 = dktX1_findRow_0 := by decide +kernel
theorem dksX1_findRow_1 : cX1_findRow.data.toList.drop 22 = dktX1_findRow_1 := dk_seg dksX1_findRow_0 22 rfl rfl
theorem dksX1_findRow_2 : cX1_findRow.data.toList.drop 46 = dktX1_findRow_2 := dk_seg dksX1_findRow_1 24 rfl rfl
theorem dksX1_findRow_3 : cX1_findRow.data.toList.drop 70 = dktX1_findRow_3 := dk_seg dksX1_findRow_2 24 rfl rfl
theorem dksX1_findRow_4 : cX1_findRow.data.toList.drop 94 = dktX1_findRow_4 := dk_seg dksX1_findRow_3 24 rfl rfl
theorem dX1_findRow_0 : decode cX1_findRow 0 = .ok (.iconst 0, 1) := dk_3 (dk_at dksX1_findRow_0 0 rfl rfl)
theorem dX1_findRow_1 : decode cX1_findRow 1 = .ok (.istore_n 1, 1) := dk_60 (dk_at dksX1_findRow_0 1 rfl rfl)
theorem dX1_findRow_2 : decode cX1_findRow 2 = .ok (.iload_n 1, 1) := dk_27 (dk_at dksX1_findRow_0 2 rfl rfl)
theorem dX1_findRow_3 : decode cX1_findRow 3 = .ok (.aload_n 0, 1) := dk_42 (dk_at dksX1_findRow_0 3 rfl rfl)
theorem dX1_findRow_4 : decode cX1_findRow 4 = .ok (.getfield 80, 3) := dk_180 0 80 (dk_at dksX1_findRow_0 4 rfl rfl)
theorem dX1_findRow_7 : decode cX1_findRow 7 = .ok (.if_icmp .ge 21, 3) := dk_162 0 21 (dk_at dksX1_findRow_0 7 rfl rfl)
theorem dX1_findRow_10 : decode cX1_findRow 10 = .ok (.aload_n 0, 1) := dk_42 (dk_at dksX1_findRow_0 10 rfl rfl)
theorem dX1_findRow_11 : decode cX1_findRow 11 = .ok (.getfield 43, 3) := dk_180 0 43 (dk_at dksX1_findRow_0 11 rfl rfl)
theorem dX1_findRow_14 : decode cX1_findRow 14 = .ok (.iload_n 1, 1) := dk_27 (dk_at dksX1_findRow_0 14 rfl rfl)
theorem dX1_findRow_15 : decode cX1_findRow 15 = .ok (.aload_n 0, 1) := dk_42 (dk_at dksX1_findRow_0 15 rfl rfl)
theorem dX1_findRow_16 : decode cX1_findRow 16 = .ok (.getfield 19, 3) := dk_180 0 19 (dk_at dksX1_findRow_0 16 rfl rfl)
theorem dX1_findRow_19 : decode cX1_findRow 19 = .ok (.iload_n 1, 1) := dk_27 (dk_at dksX1_findRow_0 19 rfl rfl)
theorem dX1_findRow_20 : decode cX1_findRow 20 = .ok (.iaload, 1) := dk_46 (dk_at dksX1_findRow_0 20 rfl rfl)
theorem dX1_findRow_21 : decode cX1_findRow 21 = .ok (.iastore, 1) := dk_79 (dk_at dksX1_findRow_0 21 rfl rfl)
theorem dX1_findRow_22 : decode cX1_findRow 22 = .ok (.iinc 1 1, 3) := dk_132 1 1 (dk_at dksX1_findRow_1 0 rfl rfl)
theorem dX1_findRow_25 : decode cX1_findRow 25 = .ok (.goto (-23), 3) := dk_167 255 233 (dk_at dksX1_findRow_1 3 rfl rfl)
theorem dX1_findRow_28 : decode cX1_findRow 28 = .ok (.iconst 0, 1) := dk_3 (dk_at dksX1_findRow_1 6 rfl rfl)
theorem dX1_findRow_29 : decode cX1_findRow 29 = .ok (.istore_n 1, 1) := dk_60 (dk_at dksX1_findRow_1 7 rfl rfl)
theorem dX1_findRow_30 : decode cX1_findRow 30 = .ok (.iload_n 1, 1) := dk_27 (dk_at dksX1_findRow_1 8 rfl rfl)
theorem dX1_findRow_31 : decode cX1_findRow 31 = .ok (.aload_n 0, 1) := dk_42 (dk_at dksX1_findRow_1 9 rfl rfl)
theorem dX1_findRow_32 : decode cX1_findRow 32 = .ok (.getfield 80, 3) := dk_180 0 80 (dk_at dksX1_findRow_1 10 rfl rfl)
theorem dX1_findRow_35 : decode cX1_findRow 35 = .ok (.iconst 2, 1) := dk_5 (dk_at dksX1_findRow_1 13 rfl rfl)
theorem dX1_findRow_36 : decode cX1_findRow 36 = .ok (.isub, 1) := dk_100 (dk_at dksX1_findRow_1 14 rfl rfl)
theorem dX1_findRow_37 : decode cX1_findRow 37 = .ok (.if_icmp .ge 71, 3) := dk_162 0 71 (dk_at dksX1_findRow_1 15 rfl rfl)
theorem dX1_findRow_40 : decode cX1_findRow 40 = .ok (.iconst 0, 1) := dk_3 (dk_at dksX1_findRow_1 18 rfl rfl)
theorem dX1_findRow_41 : decode cX1_findRow 41 = .ok (.istore_n 2, 1) := dk_61 (dk_at dksX1_findRow_1 19 rfl rfl)
theorem dX1_findRow_42 : decode cX1_findRow 42 = .ok (.aload_n 0, 1) := dk_42 (dk_at dksX1_findRow_1 20 rfl rfl)
theorem dX1_findRow_43 : decode cX1_findRow 43 = .ok (.getfield 43, 3) := dk_180 0 43 (dk_at dksX1_findRow_1 21 rfl rfl)
theorem dX1_findRow_46 : decode cX1_findRow 46 = .ok (.iload_n 2, 1) := dk_28 (dk_at dksX1_findRow_2 0 rfl rfl)
theorem dX1_findRow_47 : decode cX1_findRow 47 = .ok (.iaload, 1) := dk_46 (dk_at dksX1_findRow_2 1 rfl rfl)
theorem dX1_findRow_48 : decode cX1_findRow 48 = .ok (.invokestatic 140, 3) := dk_184 0 140 (dk_at dksX1_findRow_2 2 rfl rfl)
theorem dX1_findRow_51 : decode cX1_findRow 51 = .ok (.iconst 1, 1) := dk_4 (dk_at dksX1_findRow_2 5 rfl rfl)
theorem dX1_findRow_52 : decode cX1_findRow 52 = .ok (.if_icmp .eq 9, 3) := dk_159 0 9 (dk_at dksX1_findRow_2 6 rfl rfl)
theorem dX1_findRow_55 : decode cX1_findRow 55 = .ok (.iinc 2 1, 3) := dk_132 2 1 (dk_at dksX1_findRow_2 9 rfl rfl)
theorem dX1_findRow_58 : decode cX1_findRow 58 = .ok (.goto (-16), 3) := dk_167 255 240 (dk_at dksX1_findRow_2 12 rfl rfl)
theorem dX1_findRow_61 : decode cX1_findRow 61 = .ok (.aload_n 0, 1) := dk_42 (dk_at dksX1_findRow_2 15 rfl rfl)
theorem dX1_findRow_62 : decode cX1_findRow 62 = .ok (.getfield 40, 3) := dk_180 0 40 (dk_at dksX1_findRow_2 16 rfl rfl)
theorem dX1_findRow_65 : decode cX1_findRow 65 = .ok (.iload_n 1, 1) := dk_27 (dk_at dksX1_findRow_2 19 rfl rfl)
theorem dX1_findRow_66 : decode cX1_findRow 66 = .ok (.aload_n 0, 1) := dk_42 (dk_at dksX1_findRow_2 20 rfl rfl)
theorem dX1_findRow_67 : decode cX1_findRow 67 = .ok (.getfield 43, 3) := dk_180 0 43 (dk_at dksX1_findRow_2 21 rfl rfl)
theorem dX1_findRow_70 : decode cX1_findRow 70 = .ok (.iload_n 2, 1) := dk_28 (dk_at dksX1_findRow_3 0 rfl rfl)
theorem dX1_findRow_71 : decode cX1_findRow 71 = .ok (.iaload, 1) := dk_46 (dk_at dksX1_findRow_3 1 rfl rfl)
theorem dX1_findRow_72 : decode cX1_findRow 72 = .ok (.invokestatic 130, 3) := dk_184 0 130 (dk_at dksX1_findRow_3 2 rfl rfl)
theorem dX1_findRow_75 : decode cX1_findRow 75 = .ok (.iastore, 1) := dk_79 (dk_at dksX1_findRow_3 5 rfl rfl)
theorem dX1_findRow_76 : decode cX1_findRow 76 = .ok (.aload_n 0, 1) := dk_42 (dk_at dksX1_findRow_3 6 rfl rfl)
theorem dX1_findRow_77 : decode cX1_findRow 77 = .ok (.getfield 43, 3) := dk_180 0 43 (dk_at dksX1_findRow_3 7 rfl rfl)
theorem dX1_findRow_80 : decode cX1_findRow 80 = .ok (.aload_n 0, 1) := dk_42 (dk_at dksX1_findRow_3 10 rfl rfl)
theorem dX1_findRow_81 : decode cX1_findRow 81 = .ok (.getfield 40, 3) := dk_180 0 40 (dk_at dksX1_findRow_3 11 rfl rfl)
theorem dX1_findRow_84 : decode cX1_findRow 84 = .ok (.iload_n 1, 1) := dk_27 (dk_at dksX1_findRow_3 14 rfl rfl)
theorem dX1_findRow_85 : decode cX1_findRow 85 = .ok (.iaload, 1) := dk_46 (dk_at dksX1_findRow_3 15 rfl rfl)
theorem dX1_findRow_86 : decode cX1_findRow 86 = .ok (.dup2, 1) := dk_92 (dk_at dksX1_findRow_3 16 rfl rfl)
theorem dX1_findRow_87 : decode cX1_findRow 87 = .ok (.iaload, 1) := dk_46 (dk_at dksX1_findRow_3 17 rfl rfl)
theorem dX1_findRow_88 : decode cX1_findRow 88 = .ok (.iconst 1, 1) := dk_4 (dk_at dksX1_findRow_3 18 rfl rfl)
theorem dX1_findRow_89 : decode cX1_findRow 89 = .ok (.iload_n 2, 1) := dk_28 (dk_at dksX1_findRow_3 19 rfl rfl)
theorem dX1_findRow_90 : decode cX1_findRow 90 = .ok (.ishl, 1) := dk_120 (dk_at dksX1_findRow_3 20 rfl rfl)
theorem dX1_findRow_91 : decode cX1_findRow 91 = .ok (.iconst (-1), 1) := dk_2 (dk_at dksX1_findRow_3 21 rfl rfl)
theorem dX1_findRow_92 : decode cX1_findRow 92 = .ok (.ixor, 1) := dk_130 (dk_at dksX1_findRow_3 22 rfl rfl)
theorem dX1_findRow_93 : decode cX1_findRow 93 = .ok (.iand, 1) := dk_126 (dk_at dksX1_findRow_3 23 rfl rfl)
theorem dX1_findRow_94 : decode cX1_findRow 94 = .ok (.iastore, 1) := dk_79 (dk_at dksX1_findRow_4 0 rfl rfl)
theorem dX1_findRow_95 : decode cX1_findRow 95 = .ok (.aload_n 0, 1) := dk_42 (dk_at dksX1_findRow_4 1 rfl rfl)
theorem dX1_findRow_96 : decode cX1_findRow 96 = .ok (.getfield 43, 3) := dk_180 0 43 (dk_at dksX1_findRow_4 2 rfl rfl)
theorem dX1_findRow_99 : decode cX1_findRow 99 = .ok (.iload_n 2, 1) := dk_28 (dk_at dksX1_findRow_4 5 rfl rfl)
theorem dX1_findRow_100 : decode cX1_findRow 100 = .ok (.iconst 0, 1) := dk_3 (dk_at dksX1_findRow_4 6 rfl rfl)
theorem dX1_findRow_101 : decode cX1_findRow 101 = .ok (.iastore, 1) := dk_79 (dk_at dksX1_findRow_4 7 rfl rfl)
theorem dX1_findRow_102 : decode cX1_findRow 102 = .ok (.iinc 1 1, 3) := dk_132 1 1 (dk_at dksX1_findRow_4 8 rfl rfl)
theorem dX1_findRow_105 : decode cX1_findRow 105 = .ok (.goto (-75), 3) := dk_167 255 181 (dk_at dksX1_findRow_4 11 rfl rfl)
theorem dX1_findRow_108 : decode cX1_findRow 108 = .ok (.return_, 1) := dk_177 (dk_at dksX1_findRow_4 14 rfl rfl)
abbrev cX1_graft : ByteArray := prog_15_method_31_code
def yX1_graft : MethodName := ⟨RX1, "graft", "(II)I"⟩
def dkwX1_graft_2 : List UInt8 := [182, 0, 133, 42, 89, 180, 0, 117, 4, 96, 181, 0, 117, 29, 172]
abbrev dktX1_graft_2 : List UInt8 := dkwX1_graft_2 ++ []
def dkwX1_graft_1 : List UInt8 := [16, 253, 172, 42, 180, 0, 19, 27, 46, 184, 0, 130, 62, 42, 27, 29, 182, 0, 155, 42, 27, 28]
abbrev dktX1_graft_1 : List UInt8 := dkwX1_graft_1 ++ dktX1_graft_2
def dkwX1_graft_0 : List UInt8 := [42, 27, 28, 182, 0, 152, 154, 0, 5, 2, 172, 42, 180, 0, 19, 27, 46, 184, 0, 140, 4, 159, 0, 6]
abbrev dktX1_graft_0 : List UInt8 := dkwX1_graft_0 ++ dktX1_graft_1
theorem dksX1_graft_0 : cX1_graft.data.toList.drop 0 = dktX1_graft_0 := by decide +kernel
theorem dksX1_graft_1 : cX1_graft.data.toList.drop 24 = dktX1_graft_1 := dk_seg dksX1_graft_0 24 rfl rfl
theorem dksX1_graft_2 : cX1_graft.data.toList.drop 46 = dktX1_graft_2 := dk_seg dksX1_graft_1 22 rfl rfl
theorem dX1_graft_0 : decode cX1_graft 0 = .ok (.aload_n 0, 1) := dk_42 (dk_at dksX1_graft_0 0 rfl rfl)
theorem dX1_graft_1 : decode cX1_graft 1 = .ok (.iload_n 1, 1) := dk_27 (dk_at dksX1_graft_0 1 rfl rfl)
theorem dX1_graft_2 : decode cX1_graft 2 = .ok (.iload_n 2, 1) := dk_28 (dk_at dksX1_graft_0 2 rfl rfl)
theorem dX1_graft_3 : decode cX1_graft 3 = .ok (.invokevirtual 152, 3) := dk_182 0 152 (dk_at dksX1_graft_0 3 rfl rfl)
theorem dX1_graft_6 : decode cX1_graft 6 = .ok (.ifCond .ne 5, 3) := dk_154 0 5 (dk_at dksX1_graft_0 6 rfl rfl)
theorem dX1_graft_9 : decode cX1_graft 9 = .ok (.iconst (-1), 1) := dk_2 (dk_at dksX1_graft_0 9 rfl rfl)
theorem dX1_graft_10 : decode cX1_graft 10 = .ok (.ireturn, 1) := dk_172 (dk_at dksX1_graft_0 10 rfl rfl)
theorem dX1_graft_11 : decode cX1_graft 11 = .ok (.aload_n 0, 1) := dk_42 (dk_at dksX1_graft_0 11 rfl rfl)
theorem dX1_graft_12 : decode cX1_graft 12 = .ok (.getfield 19, 3) := dk_180 0 19 (dk_at dksX1_graft_0 12 rfl rfl)
theorem dX1_graft_15 : decode cX1_graft 15 = .ok (.iload_n 1, 1) := dk_27 (dk_at dksX1_graft_0 15 rfl rfl)
theorem dX1_graft_16 : decode cX1_graft 16 = .ok (.iaload, 1) := dk_46 (dk_at dksX1_graft_0 16 rfl rfl)
theorem dX1_graft_17 : decode cX1_graft 17 = .ok (.invokestatic 140, 3) := dk_184 0 140 (dk_at dksX1_graft_0 17 rfl rfl)
theorem dX1_graft_20 : decode cX1_graft 20 = .ok (.iconst 1, 1) := dk_4 (dk_at dksX1_graft_0 20 rfl rfl)
theorem dX1_graft_21 : decode cX1_graft 21 = .ok (.if_icmp .eq 6, 3) := dk_159 0 6 (dk_at dksX1_graft_0 21 rfl rfl)
theorem dX1_graft_24 : decode cX1_graft 24 = .ok (.bipush (-3), 2) := dk_16 253 (dk_at dksX1_graft_1 0 rfl rfl)
theorem dX1_graft_26 : decode cX1_graft 26 = .ok (.ireturn, 1) := dk_172 (dk_at dksX1_graft_1 2 rfl rfl)
theorem dX1_graft_27 : decode cX1_graft 27 = .ok (.aload_n 0, 1) := dk_42 (dk_at dksX1_graft_1 3 rfl rfl)
theorem dX1_graft_28 : decode cX1_graft 28 = .ok (.getfield 19, 3) := dk_180 0 19 (dk_at dksX1_graft_1 4 rfl rfl)
theorem dX1_graft_31 : decode cX1_graft 31 = .ok (.iload_n 1, 1) := dk_27 (dk_at dksX1_graft_1 7 rfl rfl)
theorem dX1_graft_32 : decode cX1_graft 32 = .ok (.iaload, 1) := dk_46 (dk_at dksX1_graft_1 8 rfl rfl)
theorem dX1_graft_33 : decode cX1_graft 33 = .ok (.invokestatic 130, 3) := dk_184 0 130 (dk_at dksX1_graft_1 9 rfl rfl)
theorem dX1_graft_36 : decode cX1_graft 36 = .ok (.istore_n 3, 1) := dk_62 (dk_at dksX1_graft_1 12 rfl rfl)
theorem dX1_graft_37 : decode cX1_graft 37 = .ok (.aload_n 0, 1) := dk_42 (dk_at dksX1_graft_1 13 rfl rfl)
theorem dX1_graft_38 : decode cX1_graft 38 = .ok (.iload_n 1, 1) := dk_27 (dk_at dksX1_graft_1 14 rfl rfl)
theorem dX1_graft_39 : decode cX1_graft 39 = .ok (.iload_n 3, 1) := dk_29 (dk_at dksX1_graft_1 15 rfl rfl)
theorem dX1_graft_40 : decode cX1_graft 40 = .ok (.invokevirtual 155, 3) := dk_182 0 155 (dk_at dksX1_graft_1 16 rfl rfl)
theorem dX1_graft_43 : decode cX1_graft 43 = .ok (.aload_n 0, 1) := dk_42 (dk_at dksX1_graft_1 19 rfl rfl)
theorem dX1_graft_44 : decode cX1_graft 44 = .ok (.iload_n 1, 1) := dk_27 (dk_at dksX1_graft_1 20 rfl rfl)
theorem dX1_graft_45 : decode cX1_graft 45 = .ok (.iload_n 2, 1) := dk_28 (dk_at dksX1_graft_1 21 rfl rfl)
theorem dX1_graft_46 : decode cX1_graft 46 = .ok (.invokevirtual 133, 3) := dk_182 0 133 (dk_at dksX1_graft_2 0 rfl rfl)
theorem dX1_graft_49 : decode cX1_graft 49 = .ok (.aload_n 0, 1) := dk_42 (dk_at dksX1_graft_2 3 rfl rfl)
theorem dX1_graft_50 : decode cX1_graft 50 = .ok (.dup, 1) := dk_89 (dk_at dksX1_graft_2 4 rfl rfl)
theorem dX1_graft_51 : decode cX1_graft 51 = .ok (.getfield 117, 3) := dk_180 0 117 (dk_at dksX1_graft_2 5 rfl rfl)
theorem dX1_graft_54 : decode cX1_graft 54 = .ok (.iconst 1, 1) := dk_4 (dk_at dksX1_graft_2 8 rfl rfl)
theorem dX1_graft_55 : decode cX1_graft 55 = .ok (.iadd, 1) := dk_96 (dk_at dksX1_graft_2 9 rfl rfl)
theorem dX1_graft_56 : decode cX1_graft 56 = .ok (.putfield 117, 3) := dk_181 0 117 (dk_at dksX1_graft_2 10 rfl rfl)
theorem dX1_graft_59 : decode cX1_graft 59 = .ok (.iload_n 3, 1) := dk_29 (dk_at dksX1_graft_2 13 rfl rfl)
theorem dX1_graft_60 : decode cX1_graft 60 = .ok (.ireturn, 1) := dk_172 (dk_at dksX1_graft_2 14 rfl rfl)
abbrev cX1_areTwo : ByteArray := prog_15_method_10_code
def yX1_areTwo : MethodName := ⟨RX1, "areTwo", "(II)Z"⟩
def dkwX1_areTwo_1 : List UInt8 := [167, 0, 4, 3, 172]
abbrev dktX1_areTwo_1 : List UInt8 := dkwX1_areTwo_1 ++ []
def dkwX1_areTwo_0 : List UInt8 := [42, 27, 182, 0, 83, 153, 0, 20, 42, 28, 182, 0, 83, 153, 0, 12, 27, 28, 159, 0, 7, 4]
abbrev dktX1_areTwo_0 : List UInt8 := dkwX1_areTwo_0 ++ dktX1_areTwo_1
theorem dksX1_areTwo_0 : cX1_areTwo.data.toList.drop 0 = dktX1_areTwo_0 := by decide +kernel
theorem dksX1_areTwo_1 : cX1_areTwo.data.toList.drop 22 = dktX1_areTwo_1 := dk_seg dksX1_areTwo_0 22 rfl rfl
theorem dX1_areTwo_0 : decode cX1_areTwo 0 = .ok (.aload_n 0, 1) := dk_42 (dk_at dksX1_areTwo_0 0 rfl rfl)
theorem dX1_areTwo_1 : decode cX1_areTwo 1 = .ok (.iload_n 1, 1) := dk_27 (dk_at dksX1_areTwo_0 1 rfl rfl)
theorem dX1_areTwo_2 : decode cX1_areTwo 2 = .ok (.invokevirtual 83, 3) := dk_182 0 83 (dk_at dksX1_areTwo_0 2 rfl rfl)
theorem dX1_areTwo_5 : decode cX1_areTwo 5 = .ok (.ifCond .eq 20, 3) := dk_153 0 20 (dk_at dksX1_areTwo_0 5 rfl rfl)
theorem dX1_areTwo_8 : decode cX1_areTwo 8 = .ok (.aload_n 0, 1) := dk_42 (dk_at dksX1_areTwo_0 8 rfl rfl)
theorem dX1_areTwo_9 : decode cX1_areTwo 9 = .ok (.iload_n 2, 1) := dk_28 (dk_at dksX1_areTwo_0 9 rfl rfl)
theorem dX1_areTwo_10 : decode cX1_areTwo 10 = .ok (.invokevirtual 83, 3) := dk_182 0 83 (dk_at dksX1_areTwo_0 10 rfl rfl)
theorem dX1_areTwo_13 : decode cX1_areTwo 13 = .ok (.ifCond .eq 12, 3) := dk_153 0 12 (dk_at dksX1_areTwo_0 13 rfl rfl)
theorem dX1_areTwo_16 : decode cX1_areTwo 16 = .ok (.iload_n 1, 1) := dk_27 (dk_at dksX1_areTwo_0 16 rfl rfl)
theorem dX1_areTwo_17 : decode cX1_areTwo 17 = .ok (.iload_n 2, 1) := dk_28 (dk_at dksX1_areTwo_0 17 rfl rfl)
theorem dX1_areTwo_18 : decode cX1_areTwo 18 = .ok (.if_icmp .eq 7, 3) := dk_159 0 7 (dk_at dksX1_areTwo_0 18 rfl rfl)
theorem dX1_areTwo_21 : decode cX1_areTwo 21 = .ok (.iconst 1, 1) := dk_4 (dk_at dksX1_areTwo_0 21 rfl rfl)
theorem dX1_areTwo_22 : decode cX1_areTwo 22 = .ok (.goto 4, 3) := dk_167 0 4 (dk_at dksX1_areTwo_1 0 rfl rfl)
theorem dX1_areTwo_25 : decode cX1_areTwo 25 = .ok (.iconst 0, 1) := dk_3 (dk_at dksX1_areTwo_1 3 rfl rfl)
theorem dX1_areTwo_26 : decode cX1_areTwo 26 = .ok (.ireturn, 1) := dk_172 (dk_at dksX1_areTwo_1 4 rfl rfl)
abbrev cX1_unjoin : ByteArray := prog_15_method_19_code
def yX1_unjoin : MethodName := ⟨RX1, "unjoin", "(II)V"⟩
def dkwX1_unjoin_1 : List UInt8 := [2, 130, 126, 79, 177]
abbrev dktX1_unjoin_1 : List UInt8 := dkwX1_unjoin_1 ++ []
def dkwX1_unjoin_0 : List UInt8 := [42, 180, 0, 19, 27, 92, 46, 4, 28, 120, 2, 130, 126, 79, 42, 180, 0, 19, 28, 92, 46, 4, 27, 120]
abbrev dktX1_unjoin_0 : List UInt8 := dkwX1_unjoin_0 ++ dktX1_unjoin_1
theorem dksX1_unjoin_0 : cX1_unjoin.data.toList.drop 0 = dktX1_unjoin_0 := by decide +kernel
theorem dksX1_unjoin_1 : cX1_unjoin.data.toList.drop 24 = dktX1_unjoin_1 := dk_seg dksX1_unjoin_0 24 rfl rfl
theorem dX1_unjoin_0 : decode cX1_unjoin 0 = .ok (.aload_n 0, 1) := dk_42 (dk_at dksX1_unjoin_0 0 rfl rfl)
theorem dX1_unjoin_1 : decode cX1_unjoin 1 = .ok (.getfield 19, 3) := dk_180 0 19 (dk_at dksX1_unjoin_0 1 rfl rfl)
theorem dX1_unjoin_4 : decode cX1_unjoin 4 = .ok (.iload_n 1, 1) := dk_27 (dk_at dksX1_unjoin_0 4 rfl rfl)
theorem dX1_unjoin_5 : decode cX1_unjoin 5 = .ok (.dup2, 1) := dk_92 (dk_at dksX1_unjoin_0 5 rfl rfl)
theorem dX1_unjoin_6 : decode cX1_unjoin 6 = .ok (.iaload, 1) := dk_46 (dk_at dksX1_unjoin_0 6 rfl rfl)
theorem dX1_unjoin_7 : decode cX1_unjoin 7 = .ok (.iconst 1, 1) := dk_4 (dk_at dksX1_unjoin_0 7 rfl rfl)
theorem dX1_unjoin_8 : decode cX1_unjoin 8 = .ok (.iload_n 2, 1) := dk_28 (dk_at dksX1_unjoin_0 8 rfl rfl)
theorem dX1_unjoin_9 : decode cX1_unjoin 9 = .ok (.ishl, 1) := dk_120 (dk_at dksX1_unjoin_0 9 rfl rfl)
theorem dX1_unjoin_10 : decode cX1_unjoin 10 = .ok (.iconst (-1), 1) := dk_2 (dk_at dksX1_unjoin_0 10 rfl rfl)
theorem dX1_unjoin_11 : decode cX1_unjoin 11 = .ok (.ixor, 1) := dk_130 (dk_at dksX1_unjoin_0 11 rfl rfl)
theorem dX1_unjoin_12 : decode cX1_unjoin 12 = .ok (.iand, 1) := dk_126 (dk_at dksX1_unjoin_0 12 rfl rfl)
theorem dX1_unjoin_13 : decode cX1_unjoin 13 = .ok (.iastore, 1) := dk_79 (dk_at dksX1_unjoin_0 13 rfl rfl)
theorem dX1_unjoin_14 : decode cX1_unjoin 14 = .ok (.aload_n 0, 1) := dk_42 (dk_at dksX1_unjoin_0 14 rfl rfl)
theorem dX1_unjoin_15 : decode cX1_unjoin 15 = .ok (.getfield 19, 3) := dk_180 0 19 (dk_at dksX1_unjoin_0 15 rfl rfl)
theorem dX1_unjoin_18 : decode cX1_unjoin 18 = .ok (.iload_n 2, 1) := dk_28 (dk_at dksX1_unjoin_0 18 rfl rfl)
theorem dX1_unjoin_19 : decode cX1_unjoin 19 = .ok (.dup2, 1) := dk_92 (dk_at dksX1_unjoin_0 19 rfl rfl)
theorem dX1_unjoin_20 : decode cX1_unjoin 20 = .ok (.iaload, 1) := dk_46 (dk_at dksX1_unjoin_0 20 rfl rfl)
theorem dX1_unjoin_21 : decode cX1_unjoin 21 = .ok (.iconst 1, 1) := dk_4 (dk_at dksX1_unjoin_0 21 rfl rfl)
theorem dX1_unjoin_22 : decode cX1_unjoin 22 = .ok (.iload_n 1, 1) := dk_27 (dk_at dksX1_unjoin_0 22 rfl rfl)
theorem dX1_unjoin_23 : decode cX1_unjoin 23 = .ok (.ishl, 1) := dk_120 (dk_at dksX1_unjoin_0 23 rfl rfl)
theorem dX1_unjoin_24 : decode cX1_unjoin 24 = .ok (.iconst (-1), 1) := dk_2 (dk_at dksX1_unjoin_1 0 rfl rfl)
theorem dX1_unjoin_25 : decode cX1_unjoin 25 = .ok (.ixor, 1) := dk_130 (dk_at dksX1_unjoin_1 1 rfl rfl)
theorem dX1_unjoin_26 : decode cX1_unjoin 26 = .ok (.iand, 1) := dk_126 (dk_at dksX1_unjoin_1 2 rfl rfl)
theorem dX1_unjoin_27 : decode cX1_unjoin 27 = .ok (.iastore, 1) := dk_79 (dk_at dksX1_unjoin_1 3 rfl rfl)
theorem dX1_unjoin_28 : decode cX1_unjoin 28 = .ok (.return_, 1) := dk_177 (dk_at dksX1_unjoin_1 4 rfl rfl)
abbrev cX1_day : ByteArray := prog_15_method_35_code
def yX1_day : MethodName := ⟨RX1, "day", "(IIIII)I"⟩
def dkwX1_day_12 : List UInt8 := [167, 0, 8, 16, 156, 21, 8, 100, 172]
abbrev dktX1_day_12 : List UInt8 := dkwX1_day_12 ++ []
def dkwX1_day_11 : List UInt8 := [167, 255, 216, 21, 5, 4, 160, 0, 8, 21, 8, 167, 0, 20, 21, 8, 16, 247, 160, 0, 8, 21, 9]
abbrev dktX1_day_11 : List UInt8 := dkwX1_day_11 ++ dktX1_day_12
def dkwX1_day_10 : List UInt8 := [180, 0, 46, 21, 10, 46, 79, 42, 180, 0, 25, 21, 10, 42, 180, 0, 49, 21, 10, 46, 79, 132, 10, 1]
abbrev dktX1_day_10 : List UInt8 := dkwX1_day_10 ++ dktX1_day_11
def dkwX1_day_9 : List UInt8 := [182, 0, 168, 54, 9, 3, 54, 10, 21, 10, 42, 180, 0, 80, 162, 0, 37, 42, 180, 0, 19, 21, 10, 42]
abbrev dktX1_day_9 : List UInt8 := dkwX1_day_9 ++ dktX1_day_10
def dkwX1_day_8 : List UInt8 := [21, 8, 46, 79, 132, 8, 1, 167, 255, 216, 42, 21, 7, 21, 4, 182, 0, 165, 54, 8, 42, 21, 5]
abbrev dktX1_day_8 : List UInt8 := dkwX1_day_8 ++ dktX1_day_9
def dkwX1_day_7 : List UInt8 := [42, 180, 0, 46, 21, 8, 42, 180, 0, 19, 21, 8, 46, 79, 42, 180, 0, 49, 21, 8, 42, 180, 0, 25]
abbrev dktX1_day_7 : List UInt8 := dkwX1_day_7 ++ dktX1_day_8
def dkwX1_day_6 : List UInt8 := [153, 0, 6, 21, 9, 172, 132, 8, 1, 167, 255, 206, 3, 54, 8, 21, 8, 42, 180, 0, 80, 162, 0, 37]
abbrev dktX1_day_6 : List UInt8 := dkwX1_day_6 ++ dktX1_day_7
def dkwX1_day_5 : List UInt8 := [104, 96, 46, 42, 180, 0, 16, 21, 7, 5, 21, 8, 104, 96, 4, 96, 46, 182, 0, 161, 54, 9, 21, 9]
abbrev dktX1_day_5 : List UInt8 := dkwX1_day_5 ++ dktX1_day_6
def dkwX1_day_4 : List UInt8 := [29, 96, 54, 7, 3, 54, 8, 21, 8, 21, 4, 162, 0, 49, 42, 42, 180, 0, 16, 21, 7, 5, 21, 8]
abbrev dktX1_day_4 : List UInt8 := dkwX1_day_4 ++ dktX1_day_5
def dkwX1_day_3 : List UInt8 := [153, 0, 10, 42, 21, 6, 182, 0, 104, 172, 42, 180, 0, 80, 154, 0, 6, 16, 253, 172, 16, 60, 27, 104]
abbrev dktX1_day_3 : List UInt8 := dkwX1_day_3 ++ dktX1_day_4
def dkwX1_day_2 : List UInt8 := [184, 0, 76, 154, 0, 6, 16, 254, 172, 42, 27, 28, 29, 5, 21, 4, 104, 182, 0, 100, 54, 6, 21, 6]
abbrev dktX1_day_2 : List UInt8 := dkwX1_day_2 ++ dktX1_day_3
def dkwX1_day_1 : List UInt8 := [16, 20, 184, 0, 76, 153, 0, 25, 21, 5, 3, 7, 184, 0, 76, 154, 0, 18, 21, 5, 16, 10, 16, 17]
abbrev dktX1_day_1 : List UInt8 := dkwX1_day_1 ++ dktX1_day_2
def dkwX1_day_0 : List UInt8 := [42, 3, 181, 0, 70, 27, 184, 0, 94, 154, 0, 5, 2, 172, 28, 184, 0, 97, 153, 0, 36, 21, 4, 3]
abbrev dktX1_day_0 : List UInt8 := dkwX1_day_0 ++ dktX1_day_1
theorem dksX1_day_0 : cX1_day.data.toList.drop 0 = dktX1_day_0 := by decide +kernel
theorem dksX1_day_1 : cX1_day.data.toList.drop 24 = dktX1_day_1 := dk_seg dksX1_day_0 24 rfl rfl
theorem dksX1_day_2 : cX1_day.data.toList.drop 48 = dktX1_day_2 := dk_seg dksX1_day_1 24 rfl rfl
theorem dksX1_day_3 : cX1_day.data.toList.drop 72 = dktX1_day_3 := dk_seg dksX1_day_2 24 rfl rfl
theorem dksX1_day_4 : cX1_day.data.toList.drop 96 = dktX1_day_4 := dk_seg dksX1_day_3 24 rfl rfl
theorem dksX1_day_5 : cX1_day.data.toList.drop 120 = dktX1_day_5 := dk_seg dksX1_day_4 24 rfl rfl
theorem dksX1_day_6 : cX1_day.data.toList.drop 144 = dktX1_day_6 := dk_seg dksX1_day_5 24 rfl rfl
theorem dksX1_day_7 : cX1_day.data.toList.drop 168 = dktX1_day_7 := dk_seg dksX1_day_6 24 rfl rfl
theorem dksX1_day_8 : cX1_day.data.toList.drop 192 = dktX1_day_8 := dk_seg dksX1_day_7 24 rfl rfl
theorem dksX1_day_9 : cX1_day.data.toList.drop 215 = dktX1_day_9 := dk_seg dksX1_day_8 23 rfl rfl
theorem dksX1_day_10 : cX1_day.data.toList.drop 239 = dktX1_day_10 := dk_seg dksX1_day_9 24 rfl rfl
theorem dksX1_day_11 : cX1_day.data.toList.drop 263 = dktX1_day_11 := dk_seg dksX1_day_10 24 rfl rfl
theorem dksX1_day_12 : cX1_day.data.toList.drop 286 = dktX1_day_12 := dk_seg dksX1_day_11 23 rfl rfl
theorem dX1_day_0 : decode cX1_day 0 = .ok (.aload_n 0, 1) := dk_42 (dk_at dksX1_day_0 0 rfl rfl)
theorem dX1_day_1 : decode cX1_day 1 = .ok (.iconst 0, 1) := dk_3 (dk_at dksX1_day_0 1 rfl rfl)
theorem dX1_day_2 : decode cX1_day 2 = .ok (.putfield 70, 3) := dk_181 0 70 (dk_at dksX1_day_0 2 rfl rfl)
theorem dX1_day_5 : decode cX1_day 5 = .ok (.iload_n 1, 1) := dk_27 (dk_at dksX1_day_0 5 rfl rfl)
theorem dX1_day_6 : decode cX1_day 6 = .ok (.invokestatic 94, 3) := dk_184 0 94 (dk_at dksX1_day_0 6 rfl rfl)
theorem dX1_day_9 : decode cX1_day 9 = .ok (.ifCond .ne 5, 3) := dk_154 0 5 (dk_at dksX1_day_0 9 rfl rfl)
theorem dX1_day_12 : decode cX1_day 12 = .ok (.iconst (-1), 1) := dk_2 (dk_at dksX1_day_0 12 rfl rfl)
theorem dX1_day_13 : decode cX1_day 13 = .ok (.ireturn, 1) := dk_172 (dk_at dksX1_day_0 13 rfl rfl)
theorem dX1_day_14 : decode cX1_day 14 = .ok (.iload_n 2, 1) := dk_28 (dk_at dksX1_day_0 14 rfl rfl)
theorem dX1_day_15 : decode cX1_day 15 = .ok (.invokestatic 97, 3) := dk_184 0 97 (dk_at dksX1_day_0 15 rfl rfl)
theorem dX1_day_18 : decode cX1_day 18 = .ok (.ifCond .eq 36, 3) := dk_153 0 36 (dk_at dksX1_day_0 18 rfl rfl)
theorem dX1_day_21 : decode cX1_day 21 = .ok (.iload 4, 2) := dk_21 4 (dk_at dksX1_day_0 21 rfl rfl)
theorem dX1_day_23 : decode cX1_day 23 = .ok (.iconst 0, 1) := dk_3 (dk_at dksX1_day_0 23 rfl rfl)
theorem dX1_day_24 : decode cX1_day 24 = .ok (.bipush 20, 2) := dk_16 20 (dk_at dksX1_day_1 0 rfl rfl)
theorem dX1_day_26 : decode cX1_day 26 = .ok (.invokestatic 76, 3) := dk_184 0 76 (dk_at dksX1_day_1 2 rfl rfl)
theorem dX1_day_29 : decode cX1_day 29 = .ok (.ifCond .eq 25, 3) := dk_153 0 25 (dk_at dksX1_day_1 5 rfl rfl)
theorem dX1_day_32 : decode cX1_day 32 = .ok (.iload 5, 2) := dk_21 5 (dk_at dksX1_day_1 8 rfl rfl)
theorem dX1_day_34 : decode cX1_day 34 = .ok (.iconst 0, 1) := dk_3 (dk_at dksX1_day_1 10 rfl rfl)
theorem dX1_day_35 : decode cX1_day 35 = .ok (.iconst 4, 1) := dk_7 (dk_at dksX1_day_1 11 rfl rfl)
theorem dX1_day_36 : decode cX1_day 36 = .ok (.invokestatic 76, 3) := dk_184 0 76 (dk_at dksX1_day_1 12 rfl rfl)
theorem dX1_day_39 : decode cX1_day 39 = .ok (.ifCond .ne 18, 3) := dk_154 0 18 (dk_at dksX1_day_1 15 rfl rfl)
theorem dX1_day_42 : decode cX1_day 42 = .ok (.iload 5, 2) := dk_21 5 (dk_at dksX1_day_1 18 rfl rfl)
theorem dX1_day_44 : decode cX1_day 44 = .ok (.bipush 10, 2) := dk_16 10 (dk_at dksX1_day_1 20 rfl rfl)
theorem dX1_day_46 : decode cX1_day 46 = .ok (.bipush 17, 2) := dk_16 17 (dk_at dksX1_day_1 22 rfl rfl)
theorem dX1_day_48 : decode cX1_day 48 = .ok (.invokestatic 76, 3) := dk_184 0 76 (dk_at dksX1_day_2 0 rfl rfl)
theorem dX1_day_51 : decode cX1_day 51 = .ok (.ifCond .ne 6, 3) := dk_154 0 6 (dk_at dksX1_day_2 3 rfl rfl)
theorem dX1_day_54 : decode cX1_day 54 = .ok (.bipush (-2), 2) := dk_16 254 (dk_at dksX1_day_2 6 rfl rfl)
theorem dX1_day_56 : decode cX1_day 56 = .ok (.ireturn, 1) := dk_172 (dk_at dksX1_day_2 8 rfl rfl)
theorem dX1_day_57 : decode cX1_day 57 = .ok (.aload_n 0, 1) := dk_42 (dk_at dksX1_day_2 9 rfl rfl)
theorem dX1_day_58 : decode cX1_day 58 = .ok (.iload_n 1, 1) := dk_27 (dk_at dksX1_day_2 10 rfl rfl)
theorem dX1_day_59 : decode cX1_day 59 = .ok (.iload_n 2, 1) := dk_28 (dk_at dksX1_day_2 11 rfl rfl)
theorem dX1_day_60 : decode cX1_day 60 = .ok (.iload_n 3, 1) := dk_29 (dk_at dksX1_day_2 12 rfl rfl)
theorem dX1_day_61 : decode cX1_day 61 = .ok (.iconst 2, 1) := dk_5 (dk_at dksX1_day_2 13 rfl rfl)
theorem dX1_day_62 : decode cX1_day 62 = .ok (.iload 4, 2) := dk_21 4 (dk_at dksX1_day_2 14 rfl rfl)
theorem dX1_day_64 : decode cX1_day 64 = .ok (.imul, 1) := dk_104 (dk_at dksX1_day_2 16 rfl rfl)
theorem dX1_day_65 : decode cX1_day 65 = .ok (.invokevirtual 100, 3) := dk_182 0 100 (dk_at dksX1_day_2 17 rfl rfl)
theorem dX1_day_68 : decode cX1_day 68 = .ok (.istore 6, 2) := dk_54 6 (dk_at dksX1_day_2 20 rfl rfl)
theorem dX1_day_70 : decode cX1_day 70 = .ok (.iload 6, 2) := dk_21 6 (dk_at dksX1_day_2 22 rfl rfl)
theorem dX1_day_72 : decode cX1_day 72 = .ok (.ifCond .eq 10, 3) := dk_153 0 10 (dk_at dksX1_day_3 0 rfl rfl)
theorem dX1_day_75 : decode cX1_day 75 = .ok (.aload_n 0, 1) := dk_42 (dk_at dksX1_day_3 3 rfl rfl)
theorem dX1_day_76 : decode cX1_day 76 = .ok (.iload 6, 2) := dk_21 6 (dk_at dksX1_day_3 4 rfl rfl)
theorem dX1_day_78 : decode cX1_day 78 = .ok (.invokevirtual 104, 3) := dk_182 0 104 (dk_at dksX1_day_3 6 rfl rfl)
theorem dX1_day_81 : decode cX1_day 81 = .ok (.ireturn, 1) := dk_172 (dk_at dksX1_day_3 9 rfl rfl)
theorem dX1_day_82 : decode cX1_day 82 = .ok (.aload_n 0, 1) := dk_42 (dk_at dksX1_day_3 10 rfl rfl)
theorem dX1_day_83 : decode cX1_day 83 = .ok (.getfield 80, 3) := dk_180 0 80 (dk_at dksX1_day_3 11 rfl rfl)
theorem dX1_day_86 : decode cX1_day 86 = .ok (.ifCond .ne 6, 3) := dk_154 0 6 (dk_at dksX1_day_3 14 rfl rfl)
theorem dX1_day_89 : decode cX1_day 89 = .ok (.bipush (-3), 2) := dk_16 253 (dk_at dksX1_day_3 17 rfl rfl)
theorem dX1_day_91 : decode cX1_day 91 = .ok (.ireturn, 1) := dk_172 (dk_at dksX1_day_3 19 rfl rfl)
theorem dX1_day_92 : decode cX1_day 92 = .ok (.bipush 60, 2) := dk_16 60 (dk_at dksX1_day_3 20 rfl rfl)
theorem dX1_day_94 : decode cX1_day 94 = .ok (.iload_n 1, 1) := dk_27 (dk_at dksX1_day_3 22 rfl rfl)
theorem dX1_day_95 : decode cX1_day 95 = .ok (.imul, 1) := dk_104 (dk_at dksX1_day_3 23 rfl rfl)
theorem dX1_day_96 : decode cX1_day 96 = .ok (.iload_n 3, 1) := dk_29 (dk_at dksX1_day_4 0 rfl rfl)
theorem dX1_day_97 : decode cX1_day 97 = .ok (.iadd, 1) := dk_96 (dk_at dksX1_day_4 1 rfl rfl)
theorem dX1_day_98 : decode cX1_day 98 = .ok (.istore 7, 2) := dk_54 7 (dk_at dksX1_day_4 2 rfl rfl)
theorem dX1_day_100 : decode cX1_day 100 = .ok (.iconst 0, 1) := dk_3 (dk_at dksX1_day_4 4 rfl rfl)
theorem dX1_day_101 : decode cX1_day 101 = .ok (.istore 8, 2) := dk_54 8 (dk_at dksX1_day_4 5 rfl rfl)
theorem dX1_day_103 : decode cX1_day 103 = .ok (.iload 8, 2) := dk_21 8 (dk_at dksX1_day_4 7 rfl rfl)
theorem dX1_day_105 : decode cX1_day 105 = .ok (.iload 4, 2) := dk_21 4 (dk_at dksX1_day_4 9 rfl rfl)
theorem dX1_day_107 : decode cX1_day 107 = .ok (.if_icmp .ge 49, 3) := dk_162 0 49 (dk_at dksX1_day_4 11 rfl rfl)
theorem dX1_day_110 : decode cX1_day 110 = .ok (.aload_n 0, 1) := dk_42 (dk_at dksX1_day_4 14 rfl rfl)
theorem dX1_day_111 : decode cX1_day 111 = .ok (.aload_n 0, 1) := dk_42 (dk_at dksX1_day_4 15 rfl rfl)
theorem dX1_day_112 : decode cX1_day 112 = .ok (.getfield 16, 3) := dk_180 0 16 (dk_at dksX1_day_4 16 rfl rfl)
theorem dX1_day_115 : decode cX1_day 115 = .ok (.iload 7, 2) := dk_21 7 (dk_at dksX1_day_4 19 rfl rfl)
theorem dX1_day_117 : decode cX1_day 117 = .ok (.iconst 2, 1) := dk_5 (dk_at dksX1_day_4 21 rfl rfl)
theorem dX1_day_118 : decode cX1_day 118 = .ok (.iload 8, 2) := dk_21 8 (dk_at dksX1_day_4 22 rfl rfl)
theorem dX1_day_120 : decode cX1_day 120 = .ok (.imul, 1) := dk_104 (dk_at dksX1_day_5 0 rfl rfl)
theorem dX1_day_121 : decode cX1_day 121 = .ok (.iadd, 1) := dk_96 (dk_at dksX1_day_5 1 rfl rfl)
theorem dX1_day_122 : decode cX1_day 122 = .ok (.iaload, 1) := dk_46 (dk_at dksX1_day_5 2 rfl rfl)
theorem dX1_day_123 : decode cX1_day 123 = .ok (.aload_n 0, 1) := dk_42 (dk_at dksX1_day_5 3 rfl rfl)
theorem dX1_day_124 : decode cX1_day 124 = .ok (.getfield 16, 3) := dk_180 0 16 (dk_at dksX1_day_5 4 rfl rfl)
theorem dX1_day_127 : decode cX1_day 127 = .ok (.iload 7, 2) := dk_21 7 (dk_at dksX1_day_5 7 rfl rfl)
theorem dX1_day_129 : decode cX1_day 129 = .ok (.iconst 2, 1) := dk_5 (dk_at dksX1_day_5 9 rfl rfl)
theorem dX1_day_130 : decode cX1_day 130 = .ok (.iload 8, 2) := dk_21 8 (dk_at dksX1_day_5 10 rfl rfl)
theorem dX1_day_132 : decode cX1_day 132 = .ok (.imul, 1) := dk_104 (dk_at dksX1_day_5 12 rfl rfl)
theorem dX1_day_133 : decode cX1_day 133 = .ok (.iadd, 1) := dk_96 (dk_at dksX1_day_5 13 rfl rfl)
theorem dX1_day_134 : decode cX1_day 134 = .ok (.iconst 1, 1) := dk_4 (dk_at dksX1_day_5 14 rfl rfl)
theorem dX1_day_135 : decode cX1_day 135 = .ok (.iadd, 1) := dk_96 (dk_at dksX1_day_5 15 rfl rfl)
theorem dX1_day_136 : decode cX1_day 136 = .ok (.iaload, 1) := dk_46 (dk_at dksX1_day_5 16 rfl rfl)
theorem dX1_day_137 : decode cX1_day 137 = .ok (.invokevirtual 161, 3) := dk_182 0 161 (dk_at dksX1_day_5 17 rfl rfl)
theorem dX1_day_140 : decode cX1_day 140 = .ok (.istore 9, 2) := dk_54 9 (dk_at dksX1_day_5 20 rfl rfl)
theorem dX1_day_142 : decode cX1_day 142 = .ok (.iload 9, 2) := dk_21 9 (dk_at dksX1_day_5 22 rfl rfl)
theorem dX1_day_144 : decode cX1_day 144 = .ok (.ifCond .eq 6, 3) := dk_153 0 6 (dk_at dksX1_day_6 0 rfl rfl)
theorem dX1_day_147 : decode cX1_day 147 = .ok (.iload 9, 2) := dk_21 9 (dk_at dksX1_day_6 3 rfl rfl)
theorem dX1_day_149 : decode cX1_day 149 = .ok (.ireturn, 1) := dk_172 (dk_at dksX1_day_6 5 rfl rfl)
theorem dX1_day_150 : decode cX1_day 150 = .ok (.iinc 8 1, 3) := dk_132 8 1 (dk_at dksX1_day_6 6 rfl rfl)
theorem dX1_day_153 : decode cX1_day 153 = .ok (.goto (-50), 3) := dk_167 255 206 (dk_at dksX1_day_6 9 rfl rfl)
theorem dX1_day_156 : decode cX1_day 156 = .ok (.iconst 0, 1) := dk_3 (dk_at dksX1_day_6 12 rfl rfl)
theorem dX1_day_157 : decode cX1_day 157 = .ok (.istore 8, 2) := dk_54 8 (dk_at dksX1_day_6 13 rfl rfl)
theorem dX1_day_159 : decode cX1_day 159 = .ok (.iload 8, 2) := dk_21 8 (dk_at dksX1_day_6 15 rfl rfl)
theorem dX1_day_161 : decode cX1_day 161 = .ok (.aload_n 0, 1) := dk_42 (dk_at dksX1_day_6 17 rfl rfl)
theorem dX1_day_162 : decode cX1_day 162 = .ok (.getfield 80, 3) := dk_180 0 80 (dk_at dksX1_day_6 18 rfl rfl)
theorem dX1_day_165 : decode cX1_day 165 = .ok (.if_icmp .ge 37, 3) := dk_162 0 37 (dk_at dksX1_day_6 21 rfl rfl)
theorem dX1_day_168 : decode cX1_day 168 = .ok (.aload_n 0, 1) := dk_42 (dk_at dksX1_day_7 0 rfl rfl)
theorem dX1_day_169 : decode cX1_day 169 = .ok (.getfield 46, 3) := dk_180 0 46 (dk_at dksX1_day_7 1 rfl rfl)
theorem dX1_day_172 : decode cX1_day 172 = .ok (.iload 8, 2) := dk_21 8 (dk_at dksX1_day_7 4 rfl rfl)
theorem dX1_day_174 : decode cX1_day 174 = .ok (.aload_n 0, 1) := dk_42 (dk_at dksX1_day_7 6 rfl rfl)
theorem dX1_day_175 : decode cX1_day 175 = .ok (.getfield 19, 3) := dk_180 0 19 (dk_at dksX1_day_7 7 rfl rfl)
theorem dX1_day_178 : decode cX1_day 178 = .ok (.iload 8, 2) := dk_21 8 (dk_at dksX1_day_7 10 rfl rfl)
theorem dX1_day_180 : decode cX1_day 180 = .ok (.iaload, 1) := dk_46 (dk_at dksX1_day_7 12 rfl rfl)
theorem dX1_day_181 : decode cX1_day 181 = .ok (.iastore, 1) := dk_79 (dk_at dksX1_day_7 13 rfl rfl)
theorem dX1_day_182 : decode cX1_day 182 = .ok (.aload_n 0, 1) := dk_42 (dk_at dksX1_day_7 14 rfl rfl)
theorem dX1_day_183 : decode cX1_day 183 = .ok (.getfield 49, 3) := dk_180 0 49 (dk_at dksX1_day_7 15 rfl rfl)
theorem dX1_day_186 : decode cX1_day 186 = .ok (.iload 8, 2) := dk_21 8 (dk_at dksX1_day_7 18 rfl rfl)
theorem dX1_day_188 : decode cX1_day 188 = .ok (.aload_n 0, 1) := dk_42 (dk_at dksX1_day_7 20 rfl rfl)
theorem dX1_day_189 : decode cX1_day 189 = .ok (.getfield 25, 3) := dk_180 0 25 (dk_at dksX1_day_7 21 rfl rfl)
theorem dX1_day_192 : decode cX1_day 192 = .ok (.iload 8, 2) := dk_21 8 (dk_at dksX1_day_8 0 rfl rfl)
theorem dX1_day_194 : decode cX1_day 194 = .ok (.iaload, 1) := dk_46 (dk_at dksX1_day_8 2 rfl rfl)
theorem dX1_day_195 : decode cX1_day 195 = .ok (.iastore, 1) := dk_79 (dk_at dksX1_day_8 3 rfl rfl)
theorem dX1_day_196 : decode cX1_day 196 = .ok (.iinc 8 1, 3) := dk_132 8 1 (dk_at dksX1_day_8 4 rfl rfl)
theorem dX1_day_199 : decode cX1_day 199 = .ok (.goto (-40), 3) := dk_167 255 216 (dk_at dksX1_day_8 7 rfl rfl)
theorem dX1_day_202 : decode cX1_day 202 = .ok (.aload_n 0, 1) := dk_42 (dk_at dksX1_day_8 10 rfl rfl)
theorem dX1_day_203 : decode cX1_day 203 = .ok (.iload 7, 2) := dk_21 7 (dk_at dksX1_day_8 11 rfl rfl)
theorem dX1_day_205 : decode cX1_day 205 = .ok (.iload 4, 2) := dk_21 4 (dk_at dksX1_day_8 13 rfl rfl)
theorem dX1_day_207 : decode cX1_day 207 = .ok (.invokevirtual 165, 3) := dk_182 0 165 (dk_at dksX1_day_8 15 rfl rfl)
theorem dX1_day_210 : decode cX1_day 210 = .ok (.istore 8, 2) := dk_54 8 (dk_at dksX1_day_8 18 rfl rfl)
theorem dX1_day_212 : decode cX1_day 212 = .ok (.aload_n 0, 1) := dk_42 (dk_at dksX1_day_8 20 rfl rfl)
theorem dX1_day_213 : decode cX1_day 213 = .ok (.iload 5, 2) := dk_21 5 (dk_at dksX1_day_8 21 rfl rfl)
theorem dX1_day_215 : decode cX1_day 215 = .ok (.invokevirtual 168, 3) := dk_182 0 168 (dk_at dksX1_day_9 0 rfl rfl)
theorem dX1_day_218 : decode cX1_day 218 = .ok (.istore 9, 2) := dk_54 9 (dk_at dksX1_day_9 3 rfl rfl)
theorem dX1_day_220 : decode cX1_day 220 = .ok (.iconst 0, 1) := dk_3 (dk_at dksX1_day_9 5 rfl rfl)
theorem dX1_day_221 : decode cX1_day 221 = .ok (.istore 10, 2) := dk_54 10 (dk_at dksX1_day_9 6 rfl rfl)
theorem dX1_day_223 : decode cX1_day 223 = .ok (.iload 10, 2) := dk_21 10 (dk_at dksX1_day_9 8 rfl rfl)
theorem dX1_day_225 : decode cX1_day 225 = .ok (.aload_n 0, 1) := dk_42 (dk_at dksX1_day_9 10 rfl rfl)
theorem dX1_day_226 : decode cX1_day 226 = .ok (.getfield 80, 3) := dk_180 0 80 (dk_at dksX1_day_9 11 rfl rfl)
theorem dX1_day_229 : decode cX1_day 229 = .ok (.if_icmp .ge 37, 3) := dk_162 0 37 (dk_at dksX1_day_9 14 rfl rfl)
theorem dX1_day_232 : decode cX1_day 232 = .ok (.aload_n 0, 1) := dk_42 (dk_at dksX1_day_9 17 rfl rfl)
theorem dX1_day_233 : decode cX1_day 233 = .ok (.getfield 19, 3) := dk_180 0 19 (dk_at dksX1_day_9 18 rfl rfl)
theorem dX1_day_236 : decode cX1_day 236 = .ok (.iload 10, 2) := dk_21 10 (dk_at dksX1_day_9 21 rfl rfl)
theorem dX1_day_238 : decode cX1_day 238 = .ok (.aload_n 0, 1) := dk_42 (dk_at dksX1_day_9 23 rfl rfl)
theorem dX1_day_239 : decode cX1_day 239 = .ok (.getfield 46, 3) := dk_180 0 46 (dk_at dksX1_day_10 0 rfl rfl)
theorem dX1_day_242 : decode cX1_day 242 = .ok (.iload 10, 2) := dk_21 10 (dk_at dksX1_day_10 3 rfl rfl)
theorem dX1_day_244 : decode cX1_day 244 = .ok (.iaload, 1) := dk_46 (dk_at dksX1_day_10 5 rfl rfl)
theorem dX1_day_245 : decode cX1_day 245 = .ok (.iastore, 1) := dk_79 (dk_at dksX1_day_10 6 rfl rfl)
theorem dX1_day_246 : decode cX1_day 246 = .ok (.aload_n 0, 1) := dk_42 (dk_at dksX1_day_10 7 rfl rfl)
theorem dX1_day_247 : decode cX1_day 247 = .ok (.getfield 25, 3) := dk_180 0 25 (dk_at dksX1_day_10 8 rfl rfl)
theorem dX1_day_250 : decode cX1_day 250 = .ok (.iload 10, 2) := dk_21 10 (dk_at dksX1_day_10 11 rfl rfl)
theorem dX1_day_252 : decode cX1_day 252 = .ok (.aload_n 0, 1) := dk_42 (dk_at dksX1_day_10 13 rfl rfl)
theorem dX1_day_253 : decode cX1_day 253 = .ok (.getfield 49, 3) := dk_180 0 49 (dk_at dksX1_day_10 14 rfl rfl)
theorem dX1_day_256 : decode cX1_day 256 = .ok (.iload 10, 2) := dk_21 10 (dk_at dksX1_day_10 17 rfl rfl)
theorem dX1_day_258 : decode cX1_day 258 = .ok (.iaload, 1) := dk_46 (dk_at dksX1_day_10 19 rfl rfl)
theorem dX1_day_259 : decode cX1_day 259 = .ok (.iastore, 1) := dk_79 (dk_at dksX1_day_10 20 rfl rfl)
theorem dX1_day_260 : decode cX1_day 260 = .ok (.iinc 10 1, 3) := dk_132 10 1 (dk_at dksX1_day_10 21 rfl rfl)
theorem dX1_day_263 : decode cX1_day 263 = .ok (.goto (-40), 3) := dk_167 255 216 (dk_at dksX1_day_11 0 rfl rfl)
theorem dX1_day_266 : decode cX1_day 266 = .ok (.iload 5, 2) := dk_21 5 (dk_at dksX1_day_11 3 rfl rfl)
theorem dX1_day_268 : decode cX1_day 268 = .ok (.iconst 1, 1) := dk_4 (dk_at dksX1_day_11 5 rfl rfl)
theorem dX1_day_269 : decode cX1_day 269 = .ok (.if_icmp .ne 8, 3) := dk_160 0 8 (dk_at dksX1_day_11 6 rfl rfl)
theorem dX1_day_272 : decode cX1_day 272 = .ok (.iload 8, 2) := dk_21 8 (dk_at dksX1_day_11 9 rfl rfl)
theorem dX1_day_274 : decode cX1_day 274 = .ok (.goto 20, 3) := dk_167 0 20 (dk_at dksX1_day_11 11 rfl rfl)
theorem dX1_day_277 : decode cX1_day 277 = .ok (.iload 8, 2) := dk_21 8 (dk_at dksX1_day_11 14 rfl rfl)
theorem dX1_day_279 : decode cX1_day 279 = .ok (.bipush (-9), 2) := dk_16 247 (dk_at dksX1_day_11 16 rfl rfl)
theorem dX1_day_281 : decode cX1_day 281 = .ok (.if_icmp .ne 8, 3) := dk_160 0 8 (dk_at dksX1_day_11 18 rfl rfl)
theorem dX1_day_284 : decode cX1_day 284 = .ok (.iload 9, 2) := dk_21 9 (dk_at dksX1_day_11 21 rfl rfl)
theorem dX1_day_286 : decode cX1_day 286 = .ok (.goto 8, 3) := dk_167 0 8 (dk_at dksX1_day_12 0 rfl rfl)
theorem dX1_day_289 : decode cX1_day 289 = .ok (.bipush (-100), 2) := dk_16 156 (dk_at dksX1_day_12 3 rfl rfl)
theorem dX1_day_291 : decode cX1_day 291 = .ok (.iload 8, 2) := dk_21 8 (dk_at dksX1_day_12 5 rfl rfl)
theorem dX1_day_293 : decode cX1_day 293 = .ok (.isub, 1) := dk_100 (dk_at dksX1_day_12 7 rfl rfl)
theorem dX1_day_294 : decode cX1_day 294 = .ok (.ireturn, 1) := dk_172 (dk_at dksX1_day_12 8 rfl rfl)
abbrev cX1_refusesPair : ByteArray := prog_15_method_34_code
def yX1_refusesPair : MethodName := ⟨RX1, "refusesPair", "(II)I"⟩
def dkwX1_refusesPair_2 : List UInt8 := [182, 0, 83, 154, 0, 7, 2, 167, 0, 4, 3, 172]
abbrev dktX1_refusesPair_2 : List UInt8 := dkwX1_refusesPair_2 ++ []
def dkwX1_refusesPair_1 : List UInt8 := [153, 0, 16, 27, 3, 16, 9, 184, 0, 76, 154, 0, 6, 16, 254, 172, 29, 154, 0, 15, 42, 27]
abbrev dktX1_refusesPair_1 : List UInt8 := dkwX1_refusesPair_1 ++ dktX1_refusesPair_2
def dkwX1_refusesPair_0 : List UInt8 := [28, 16, 10, 16, 17, 184, 0, 76, 62, 28, 3, 16, 7, 184, 0, 76, 154, 0, 7, 29, 153, 0, 17, 29]
abbrev dktX1_refusesPair_0 : List UInt8 := dkwX1_refusesPair_0 ++ dktX1_refusesPair_1
theorem dksX1_refusesPair_0 : cX1_refusesPair.data.toList.drop 0 = dktX1_refusesPair_0 := by decide +kernel
theorem dksX1_refusesPair_1 : cX1_refusesPair.data.toList.drop 24 = dktX1_refusesPair_1 := dk_seg dksX1_refusesPair_0 24 rfl rfl
theorem dksX1_refusesPair_2 : cX1_refusesPair.data.toList.drop 46 = dktX1_refusesPair_2 := dk_seg dksX1_refusesPair_1 22 rfl rfl
theorem dX1_refusesPair_0 : decode cX1_refusesPair 0 = .ok (.iload_n 2, 1) := dk_28 (dk_at dksX1_refusesPair_0 0 rfl rfl)
theorem dX1_refusesPair_1 : decode cX1_refusesPair 1 = .ok (.bipush 10, 2) := dk_16 10 (dk_at dksX1_refusesPair_0 1 rfl rfl)
theorem dX1_refusesPair_3 : decode cX1_refusesPair 3 = .ok (.bipush 17, 2) := dk_16 17 (dk_at dksX1_refusesPair_0 3 rfl rfl)
theorem dX1_refusesPair_5 : decode cX1_refusesPair 5 = .ok (.invokestatic 76, 3) := dk_184 0 76 (dk_at dksX1_refusesPair_0 5 rfl rfl)
theorem dX1_refusesPair_8 : decode cX1_refusesPair 8 = .ok (.istore_n 3, 1) := dk_62 (dk_at dksX1_refusesPair_0 8 rfl rfl)
theorem dX1_refusesPair_9 : decode cX1_refusesPair 9 = .ok (.iload_n 2, 1) := dk_28 (dk_at dksX1_refusesPair_0 9 rfl rfl)
theorem dX1_refusesPair_10 : decode cX1_refusesPair 10 = .ok (.iconst 0, 1) := dk_3 (dk_at dksX1_refusesPair_0 10 rfl rfl)
theorem dX1_refusesPair_11 : decode cX1_refusesPair 11 = .ok (.bipush 7, 2) := dk_16 7 (dk_at dksX1_refusesPair_0 11 rfl rfl)
theorem dX1_refusesPair_13 : decode cX1_refusesPair 13 = .ok (.invokestatic 76, 3) := dk_184 0 76 (dk_at dksX1_refusesPair_0 13 rfl rfl)
theorem dX1_refusesPair_16 : decode cX1_refusesPair 16 = .ok (.ifCond .ne 7, 3) := dk_154 0 7 (dk_at dksX1_refusesPair_0 16 rfl rfl)
theorem dX1_refusesPair_19 : decode cX1_refusesPair 19 = .ok (.iload_n 3, 1) := dk_29 (dk_at dksX1_refusesPair_0 19 rfl rfl)
theorem dX1_refusesPair_20 : decode cX1_refusesPair 20 = .ok (.ifCond .eq 17, 3) := dk_153 0 17 (dk_at dksX1_refusesPair_0 20 rfl rfl)
theorem dX1_refusesPair_23 : decode cX1_refusesPair 23 = .ok (.iload_n 3, 1) := dk_29 (dk_at dksX1_refusesPair_0 23 rfl rfl)
theorem dX1_refusesPair_24 : decode cX1_refusesPair 24 = .ok (.ifCond .eq 16, 3) := dk_153 0 16 (dk_at dksX1_refusesPair_1 0 rfl rfl)
theorem dX1_refusesPair_27 : decode cX1_refusesPair 27 = .ok (.iload_n 1, 1) := dk_27 (dk_at dksX1_refusesPair_1 3 rfl rfl)
theorem dX1_refusesPair_28 : decode cX1_refusesPair 28 = .ok (.iconst 0, 1) := dk_3 (dk_at dksX1_refusesPair_1 4 rfl rfl)
theorem dX1_refusesPair_29 : decode cX1_refusesPair 29 = .ok (.bipush 9, 2) := dk_16 9 (dk_at dksX1_refusesPair_1 5 rfl rfl)
theorem dX1_refusesPair_31 : decode cX1_refusesPair 31 = .ok (.invokestatic 76, 3) := dk_184 0 76 (dk_at dksX1_refusesPair_1 7 rfl rfl)
theorem dX1_refusesPair_34 : decode cX1_refusesPair 34 = .ok (.ifCond .ne 6, 3) := dk_154 0 6 (dk_at dksX1_refusesPair_1 10 rfl rfl)
theorem dX1_refusesPair_37 : decode cX1_refusesPair 37 = .ok (.bipush (-2), 2) := dk_16 254 (dk_at dksX1_refusesPair_1 13 rfl rfl)
theorem dX1_refusesPair_39 : decode cX1_refusesPair 39 = .ok (.ireturn, 1) := dk_172 (dk_at dksX1_refusesPair_1 15 rfl rfl)
theorem dX1_refusesPair_40 : decode cX1_refusesPair 40 = .ok (.iload_n 3, 1) := dk_29 (dk_at dksX1_refusesPair_1 16 rfl rfl)
theorem dX1_refusesPair_41 : decode cX1_refusesPair 41 = .ok (.ifCond .ne 15, 3) := dk_154 0 15 (dk_at dksX1_refusesPair_1 17 rfl rfl)
theorem dX1_refusesPair_44 : decode cX1_refusesPair 44 = .ok (.aload_n 0, 1) := dk_42 (dk_at dksX1_refusesPair_1 20 rfl rfl)
theorem dX1_refusesPair_45 : decode cX1_refusesPair 45 = .ok (.iload_n 1, 1) := dk_27 (dk_at dksX1_refusesPair_1 21 rfl rfl)
theorem dX1_refusesPair_46 : decode cX1_refusesPair 46 = .ok (.invokevirtual 83, 3) := dk_182 0 83 (dk_at dksX1_refusesPair_2 0 rfl rfl)
theorem dX1_refusesPair_49 : decode cX1_refusesPair 49 = .ok (.ifCond .ne 7, 3) := dk_154 0 7 (dk_at dksX1_refusesPair_2 3 rfl rfl)
theorem dX1_refusesPair_52 : decode cX1_refusesPair 52 = .ok (.iconst (-1), 1) := dk_2 (dk_at dksX1_refusesPair_2 6 rfl rfl)
theorem dX1_refusesPair_53 : decode cX1_refusesPair 53 = .ok (.goto 4, 3) := dk_167 0 4 (dk_at dksX1_refusesPair_2 7 rfl rfl)
theorem dX1_refusesPair_56 : decode cX1_refusesPair 56 = .ok (.iconst 0, 1) := dk_3 (dk_at dksX1_refusesPair_2 10 rfl rfl)
theorem dX1_refusesPair_57 : decode cX1_refusesPair 57 = .ok (.ireturn, 1) := dk_172 (dk_at dksX1_refusesPair_2 11 rfl rfl)
abbrev cX1_goDay : ByteArray := prog_15_method_33_code
def yX1_goDay : MethodName := ⟨RX1, "goDay", "(II)I"⟩
def dkwX1_goDay_1 : List UInt8 := [29, 104, 96, 4, 96, 46, 182, 0, 158, 154, 0, 5, 29, 172, 132, 3, 1, 167, 255, 217, 16, 247, 172]
abbrev dktX1_goDay_1 : List UInt8 := dkwX1_goDay_1 ++ []
def dkwX1_goDay_0 : List UInt8 := [3, 62, 29, 28, 162, 0, 40, 42, 42, 180, 0, 16, 27, 5, 29, 104, 96, 46, 42, 180, 0, 16, 27, 5]
abbrev dktX1_goDay_0 : List UInt8 := dkwX1_goDay_0 ++ dktX1_goDay_1
theorem dksX1_goDay_0 : cX1_goDay.data.toList.drop 0 = dktX1_goDay_0 := by decide +kernel
theorem dksX1_goDay_1 : cX1_goDay.data.toList.drop 24 = dktX1_goDay_1 := dk_seg dksX1_goDay_0 24 rfl rfl
theorem dX1_goDay_0 : decode cX1_goDay 0 = .ok (.iconst 0, 1) := dk_3 (dk_at dksX1_goDay_0 0 rfl rfl)
theorem dX1_goDay_1 : decode cX1_goDay 1 = .ok (.istore_n 3, 1) := dk_62 (dk_at dksX1_goDay_0 1 rfl rfl)
theorem dX1_goDay_2 : decode cX1_goDay 2 = .ok (.iload_n 3, 1) := dk_29 (dk_at dksX1_goDay_0 2 rfl rfl)
theorem dX1_goDay_3 : decode cX1_goDay 3 = .ok (.iload_n 2, 1) := dk_28 (dk_at dksX1_goDay_0 3 rfl rfl)
theorem dX1_goDay_4 : decode cX1_goDay 4 = .ok (.if_icmp .ge 40, 3) := dk_162 0 40 (dk_at dksX1_goDay_0 4 rfl rfl)
theorem dX1_goDay_7 : decode cX1_goDay 7 = .ok (.aload_n 0, 1) := dk_42 (dk_at dksX1_goDay_0 7 rfl rfl)
theorem dX1_goDay_8 : decode cX1_goDay 8 = .ok (.aload_n 0, 1) := dk_42 (dk_at dksX1_goDay_0 8 rfl rfl)
theorem dX1_goDay_9 : decode cX1_goDay 9 = .ok (.getfield 16, 3) := dk_180 0 16 (dk_at dksX1_goDay_0 9 rfl rfl)
theorem dX1_goDay_12 : decode cX1_goDay 12 = .ok (.iload_n 1, 1) := dk_27 (dk_at dksX1_goDay_0 12 rfl rfl)
theorem dX1_goDay_13 : decode cX1_goDay 13 = .ok (.iconst 2, 1) := dk_5 (dk_at dksX1_goDay_0 13 rfl rfl)
theorem dX1_goDay_14 : decode cX1_goDay 14 = .ok (.iload_n 3, 1) := dk_29 (dk_at dksX1_goDay_0 14 rfl rfl)
theorem dX1_goDay_15 : decode cX1_goDay 15 = .ok (.imul, 1) := dk_104 (dk_at dksX1_goDay_0 15 rfl rfl)
theorem dX1_goDay_16 : decode cX1_goDay 16 = .ok (.iadd, 1) := dk_96 (dk_at dksX1_goDay_0 16 rfl rfl)
theorem dX1_goDay_17 : decode cX1_goDay 17 = .ok (.iaload, 1) := dk_46 (dk_at dksX1_goDay_0 17 rfl rfl)
theorem dX1_goDay_18 : decode cX1_goDay 18 = .ok (.aload_n 0, 1) := dk_42 (dk_at dksX1_goDay_0 18 rfl rfl)
theorem dX1_goDay_19 : decode cX1_goDay 19 = .ok (.getfield 16, 3) := dk_180 0 16 (dk_at dksX1_goDay_0 19 rfl rfl)
theorem dX1_goDay_22 : decode cX1_goDay 22 = .ok (.iload_n 1, 1) := dk_27 (dk_at dksX1_goDay_0 22 rfl rfl)
theorem dX1_goDay_23 : decode cX1_goDay 23 = .ok (.iconst 2, 1) := dk_5 (dk_at dksX1_goDay_0 23 rfl rfl)
theorem dX1_goDay_24 : decode cX1_goDay 24 = .ok (.iload_n 3, 1) := dk_29 (dk_at dksX1_goDay_1 0 rfl rfl)
theorem dX1_goDay_25 : decode cX1_goDay 25 = .ok (.imul, 1) := dk_104 (dk_at dksX1_goDay_1 1 rfl rfl)
theorem dX1_goDay_26 : decode cX1_goDay 26 = .ok (.iadd, 1) := dk_96 (dk_at dksX1_goDay_1 2 rfl rfl)
theorem dX1_goDay_27 : decode cX1_goDay 27 = .ok (.iconst 1, 1) := dk_4 (dk_at dksX1_goDay_1 3 rfl rfl)
theorem dX1_goDay_28 : decode cX1_goDay 28 = .ok (.iadd, 1) := dk_96 (dk_at dksX1_goDay_1 4 rfl rfl)
theorem dX1_goDay_29 : decode cX1_goDay 29 = .ok (.iaload, 1) := dk_46 (dk_at dksX1_goDay_1 5 rfl rfl)
theorem dX1_goDay_30 : decode cX1_goDay 30 = .ok (.invokevirtual 158, 3) := dk_182 0 158 (dk_at dksX1_goDay_1 6 rfl rfl)
theorem dX1_goDay_33 : decode cX1_goDay 33 = .ok (.ifCond .ne 5, 3) := dk_154 0 5 (dk_at dksX1_goDay_1 9 rfl rfl)
theorem dX1_goDay_36 : decode cX1_goDay 36 = .ok (.iload_n 3, 1) := dk_29 (dk_at dksX1_goDay_1 12 rfl rfl)
theorem dX1_goDay_37 : decode cX1_goDay 37 = .ok (.ireturn, 1) := dk_172 (dk_at dksX1_goDay_1 13 rfl rfl)
theorem dX1_goDay_38 : decode cX1_goDay 38 = .ok (.iinc 3 1, 3) := dk_132 3 1 (dk_at dksX1_goDay_1 14 rfl rfl)
theorem dX1_goDay_41 : decode cX1_goDay 41 = .ok (.goto (-39), 3) := dk_167 255 217 (dk_at dksX1_goDay_1 17 rfl rfl)
theorem dX1_goDay_44 : decode cX1_goDay 44 = .ok (.bipush (-9), 2) := dk_16 247 (dk_at dksX1_goDay_1 20 rfl rfl)
theorem dX1_goDay_46 : decode cX1_goDay 46 = .ok (.ireturn, 1) := dk_172 (dk_at dksX1_goDay_1 22 rfl rfl)
abbrev cX1_does : ByteArray := prog_15_method_32_code
def yX1_does : MethodName := ⟨RX1, "does", "(II)Z"⟩
def dkwX1_does_3 : List UInt8 := [27, 28, 182, 0, 133, 4, 172]
abbrev dktX1_does_3 : List UInt8 := dkwX1_does_3 ++ []
def dkwX1_does_2 : List UInt8 := [184, 0, 140, 4, 159, 0, 5, 3, 172, 42, 27, 42, 180, 0, 19, 27, 46, 184, 0, 130, 182, 0, 155, 42]
abbrev dktX1_does_2 : List UInt8 := dkwX1_does_2 ++ dktX1_does_3
def dkwX1_does_1 : List UInt8 := [16, 10, 100, 27, 79, 4, 172, 42, 27, 28, 182, 0, 152, 153, 0, 16, 42, 180, 0, 19, 27, 46]
abbrev dktX1_does_1 : List UInt8 := dkwX1_does_1 ++ dktX1_does_2
def dkwX1_does_0 : List UInt8 := [28, 16, 10, 161, 0, 28, 42, 28, 16, 10, 100, 182, 0, 83, 154, 0, 5, 3, 172, 42, 180, 0, 25, 28]
abbrev dktX1_does_0 : List UInt8 := dkwX1_does_0 ++ dktX1_does_1
theorem dksX1_does_0 : cX1_does.data.toList.drop 0 = dktX1_does_0 := by decide +kernel
theorem dksX1_does_1 : cX1_does.data.toList.drop 24 = dktX1_does_1 := dk_seg dksX1_does_0 24 rfl rfl
theorem dksX1_does_2 : cX1_does.data.toList.drop 46 = dktX1_does_2 := dk_seg dksX1_does_1 22 rfl rfl
theorem dksX1_does_3 : cX1_does.data.toList.drop 70 = dktX1_does_3 := dk_seg dksX1_does_2 24 rfl rfl
theorem dX1_does_0 : decode cX1_does 0 = .ok (.iload_n 2, 1) := dk_28 (dk_at dksX1_does_0 0 rfl rfl)
theorem dX1_does_1 : decode cX1_does 1 = .ok (.bipush 10, 2) := dk_16 10 (dk_at dksX1_does_0 1 rfl rfl)
theorem dX1_does_3 : decode cX1_does 3 = .ok (.if_icmp .lt 28, 3) := dk_161 0 28 (dk_at dksX1_does_0 3 rfl rfl)
theorem dX1_does_6 : decode cX1_does 6 = .ok (.aload_n 0, 1) := dk_42 (dk_at dksX1_does_0 6 rfl rfl)
theorem dX1_does_7 : decode cX1_does 7 = .ok (.iload_n 2, 1) := dk_28 (dk_at dksX1_does_0 7 rfl rfl)
theorem dX1_does_8 : decode cX1_does 8 = .ok (.bipush 10, 2) := dk_16 10 (dk_at dksX1_does_0 8 rfl rfl)
theorem dX1_does_10 : decode cX1_does 10 = .ok (.isub, 1) := dk_100 (dk_at dksX1_does_0 10 rfl rfl)
theorem dX1_does_11 : decode cX1_does 11 = .ok (.invokevirtual 83, 3) := dk_182 0 83 (dk_at dksX1_does_0 11 rfl rfl)
theorem dX1_does_14 : decode cX1_does 14 = .ok (.ifCond .ne 5, 3) := dk_154 0 5 (dk_at dksX1_does_0 14 rfl rfl)
theorem dX1_does_17 : decode cX1_does 17 = .ok (.iconst 0, 1) := dk_3 (dk_at dksX1_does_0 17 rfl rfl)
theorem dX1_does_18 : decode cX1_does 18 = .ok (.ireturn, 1) := dk_172 (dk_at dksX1_does_0 18 rfl rfl)
theorem dX1_does_19 : decode cX1_does 19 = .ok (.aload_n 0, 1) := dk_42 (dk_at dksX1_does_0 19 rfl rfl)
theorem dX1_does_20 : decode cX1_does 20 = .ok (.getfield 25, 3) := dk_180 0 25 (dk_at dksX1_does_0 20 rfl rfl)
theorem dX1_does_23 : decode cX1_does 23 = .ok (.iload_n 2, 1) := dk_28 (dk_at dksX1_does_0 23 rfl rfl)
theorem dX1_does_24 : decode cX1_does 24 = .ok (.bipush 10, 2) := dk_16 10 (dk_at dksX1_does_1 0 rfl rfl)
theorem dX1_does_26 : decode cX1_does 26 = .ok (.isub, 1) := dk_100 (dk_at dksX1_does_1 2 rfl rfl)
theorem dX1_does_27 : decode cX1_does 27 = .ok (.iload_n 1, 1) := dk_27 (dk_at dksX1_does_1 3 rfl rfl)
theorem dX1_does_28 : decode cX1_does 28 = .ok (.iastore, 1) := dk_79 (dk_at dksX1_does_1 4 rfl rfl)
theorem dX1_does_29 : decode cX1_does 29 = .ok (.iconst 1, 1) := dk_4 (dk_at dksX1_does_1 5 rfl rfl)
theorem dX1_does_30 : decode cX1_does 30 = .ok (.ireturn, 1) := dk_172 (dk_at dksX1_does_1 6 rfl rfl)
theorem dX1_does_31 : decode cX1_does 31 = .ok (.aload_n 0, 1) := dk_42 (dk_at dksX1_does_1 7 rfl rfl)
theorem dX1_does_32 : decode cX1_does 32 = .ok (.iload_n 1, 1) := dk_27 (dk_at dksX1_does_1 8 rfl rfl)
theorem dX1_does_33 : decode cX1_does 33 = .ok (.iload_n 2, 1) := dk_28 (dk_at dksX1_does_1 9 rfl rfl)
theorem dX1_does_34 : decode cX1_does 34 = .ok (.invokevirtual 152, 3) := dk_182 0 152 (dk_at dksX1_does_1 10 rfl rfl)
theorem dX1_does_37 : decode cX1_does 37 = .ok (.ifCond .eq 16, 3) := dk_153 0 16 (dk_at dksX1_does_1 13 rfl rfl)
theorem dX1_does_40 : decode cX1_does 40 = .ok (.aload_n 0, 1) := dk_42 (dk_at dksX1_does_1 16 rfl rfl)
theorem dX1_does_41 : decode cX1_does 41 = .ok (.getfield 19, 3) := dk_180 0 19 (dk_at dksX1_does_1 17 rfl rfl)
theorem dX1_does_44 : decode cX1_does 44 = .ok (.iload_n 1, 1) := dk_27 (dk_at dksX1_does_1 20 rfl rfl)
theorem dX1_does_45 : decode cX1_does 45 = .ok (.iaload, 1) := dk_46 (dk_at dksX1_does_1 21 rfl rfl)
theorem dX1_does_46 : decode cX1_does 46 = .ok (.invokestatic 140, 3) := dk_184 0 140 (dk_at dksX1_does_2 0 rfl rfl)
theorem dX1_does_49 : decode cX1_does 49 = .ok (.iconst 1, 1) := dk_4 (dk_at dksX1_does_2 3 rfl rfl)
theorem dX1_does_50 : decode cX1_does 50 = .ok (.if_icmp .eq 5, 3) := dk_159 0 5 (dk_at dksX1_does_2 4 rfl rfl)
theorem dX1_does_53 : decode cX1_does 53 = .ok (.iconst 0, 1) := dk_3 (dk_at dksX1_does_2 7 rfl rfl)
theorem dX1_does_54 : decode cX1_does 54 = .ok (.ireturn, 1) := dk_172 (dk_at dksX1_does_2 8 rfl rfl)
theorem dX1_does_55 : decode cX1_does 55 = .ok (.aload_n 0, 1) := dk_42 (dk_at dksX1_does_2 9 rfl rfl)
theorem dX1_does_56 : decode cX1_does 56 = .ok (.iload_n 1, 1) := dk_27 (dk_at dksX1_does_2 10 rfl rfl)
theorem dX1_does_57 : decode cX1_does 57 = .ok (.aload_n 0, 1) := dk_42 (dk_at dksX1_does_2 11 rfl rfl)
theorem dX1_does_58 : decode cX1_does 58 = .ok (.getfield 19, 3) := dk_180 0 19 (dk_at dksX1_does_2 12 rfl rfl)
theorem dX1_does_61 : decode cX1_does 61 = .ok (.iload_n 1, 1) := dk_27 (dk_at dksX1_does_2 15 rfl rfl)
theorem dX1_does_62 : decode cX1_does 62 = .ok (.iaload, 1) := dk_46 (dk_at dksX1_does_2 16 rfl rfl)
theorem dX1_does_63 : decode cX1_does 63 = .ok (.invokestatic 130, 3) := dk_184 0 130 (dk_at dksX1_does_2 17 rfl rfl)
theorem dX1_does_66 : decode cX1_does 66 = .ok (.invokevirtual 155, 3) := dk_182 0 155 (dk_at dksX1_does_2 20 rfl rfl)
theorem dX1_does_69 : decode cX1_does 69 = .ok (.aload_n 0, 1) := dk_42 (dk_at dksX1_does_2 23 rfl rfl)
theorem dX1_does_70 : decode cX1_does 70 = .ok (.iload_n 1, 1) := dk_27 (dk_at dksX1_does_3 0 rfl rfl)
theorem dX1_does_71 : decode cX1_does 71 = .ok (.iload_n 2, 1) := dk_28 (dk_at dksX1_does_3 1 rfl rfl)
theorem dX1_does_72 : decode cX1_does 72 = .ok (.invokevirtual 133, 3) := dk_182 0 133 (dk_at dksX1_does_3 2 rfl rfl)
theorem dX1_does_75 : decode cX1_does 75 = .ok (.iconst 1, 1) := dk_4 (dk_at dksX1_does_3 5 rfl rfl)
theorem dX1_does_76 : decode cX1_does 76 = .ok (.ireturn, 1) := dk_172 (dk_at dksX1_does_3 6 rfl rfl)
abbrev cX1_tellDay : ByteArray := prog_15_method_36_code
def yX1_tellDay : MethodName := ⟨RX1, "tellDay", "(I)I"⟩
def dkwX1_tellDay_4 : List UInt8 := [180, 0, 80, 120, 4, 100, 182, 0, 181, 172]
abbrev dktX1_tellDay_4 : List UInt8 := dkwX1_tellDay_4 ++ []
def dkwX1_tellDay_3 : List UInt8 := [42, 182, 0, 146, 42, 182, 0, 171, 172, 42, 182, 0, 175, 172, 42, 182, 0, 178, 172, 42, 4, 42]
abbrev dktX1_tellDay_3 : List UInt8 := dkwX1_tellDay_3 ++ dktX1_tellDay_4
def dkwX1_tellDay_2 : List UInt8 := [170, 0, 0, 0, 0, 0, 50, 0, 0, 0, 0, 0, 0, 0, 3, 0, 0, 0, 31, 0, 0, 0, 50, 0, 0, 0, 40, 0, 0, 0, 45]
abbrev dktX1_tellDay_2 : List UInt8 := dkwX1_tellDay_2 ++ dktX1_tellDay_3
def dkwX1_tellDay_1 : List UInt8 := [100, 46, 167, 0, 5, 16, 247, 172, 27]
abbrev dktX1_tellDay_1 : List UInt8 := dkwX1_tellDay_1 ++ dktX1_tellDay_2
def dkwX1_tellDay_0 : List UInt8 := [27, 16, 10, 161, 0, 29, 42, 27, 16, 10, 100, 182, 0, 83, 153, 0, 15, 42, 180, 0, 19, 27, 16, 10]
abbrev dktX1_tellDay_0 : List UInt8 := dkwX1_tellDay_0 ++ dktX1_tellDay_1
theorem dksX1_tellDay_0 : cX1_tellDay.data.toList.drop 0 = dktX1_tellDay_0 := by decide +kernel
theorem dksX1_tellDay_1 : cX1_tellDay.data.toList.drop 24 = dktX1_tellDay_1 := dk_seg dksX1_tellDay_0 24 rfl rfl
theorem dksX1_tellDay_2 : cX1_tellDay.data.toList.drop 33 = dktX1_tellDay_2 := dk_seg dksX1_tellDay_1 9 rfl rfl
theorem dksX1_tellDay_3 : cX1_tellDay.data.toList.drop 64 = dktX1_tellDay_3 := dk_seg dksX1_tellDay_2 31 rfl rfl
theorem dksX1_tellDay_4 : cX1_tellDay.data.toList.drop 86 = dktX1_tellDay_4 := dk_seg dksX1_tellDay_3 22 rfl rfl
theorem dX1_tellDay_0 : decode cX1_tellDay 0 = .ok (.iload_n 1, 1) := dk_27 (dk_at dksX1_tellDay_0 0 rfl rfl)
theorem dX1_tellDay_1 : decode cX1_tellDay 1 = .ok (.bipush 10, 2) := dk_16 10 (dk_at dksX1_tellDay_0 1 rfl rfl)
theorem dX1_tellDay_3 : decode cX1_tellDay 3 = .ok (.if_icmp .lt 29, 3) := dk_161 0 29 (dk_at dksX1_tellDay_0 3 rfl rfl)
theorem dX1_tellDay_6 : decode cX1_tellDay 6 = .ok (.aload_n 0, 1) := dk_42 (dk_at dksX1_tellDay_0 6 rfl rfl)
theorem dX1_tellDay_7 : decode cX1_tellDay 7 = .ok (.iload_n 1, 1) := dk_27 (dk_at dksX1_tellDay_0 7 rfl rfl)
theorem dX1_tellDay_8 : decode cX1_tellDay 8 = .ok (.bipush 10, 2) := dk_16 10 (dk_at dksX1_tellDay_0 8 rfl rfl)
theorem dX1_tellDay_10 : decode cX1_tellDay 10 = .ok (.isub, 1) := dk_100 (dk_at dksX1_tellDay_0 10 rfl rfl)
theorem dX1_tellDay_11 : decode cX1_tellDay 11 = .ok (.invokevirtual 83, 3) := dk_182 0 83 (dk_at dksX1_tellDay_0 11 rfl rfl)
theorem dX1_tellDay_14 : decode cX1_tellDay 14 = .ok (.ifCond .eq 15, 3) := dk_153 0 15 (dk_at dksX1_tellDay_0 14 rfl rfl)
theorem dX1_tellDay_17 : decode cX1_tellDay 17 = .ok (.aload_n 0, 1) := dk_42 (dk_at dksX1_tellDay_0 17 rfl rfl)
theorem dX1_tellDay_18 : decode cX1_tellDay 18 = .ok (.getfield 19, 3) := dk_180 0 19 (dk_at dksX1_tellDay_0 18 rfl rfl)
theorem dX1_tellDay_21 : decode cX1_tellDay 21 = .ok (.iload_n 1, 1) := dk_27 (dk_at dksX1_tellDay_0 21 rfl rfl)
theorem dX1_tellDay_22 : decode cX1_tellDay 22 = .ok (.bipush 10, 2) := dk_16 10 (dk_at dksX1_tellDay_0 22 rfl rfl)
theorem dX1_tellDay_24 : decode cX1_tellDay 24 = .ok (.isub, 1) := dk_100 (dk_at dksX1_tellDay_1 0 rfl rfl)
theorem dX1_tellDay_25 : decode cX1_tellDay 25 = .ok (.iaload, 1) := dk_46 (dk_at dksX1_tellDay_1 1 rfl rfl)
theorem dX1_tellDay_26 : decode cX1_tellDay 26 = .ok (.goto 5, 3) := dk_167 0 5 (dk_at dksX1_tellDay_1 2 rfl rfl)
theorem dX1_tellDay_29 : decode cX1_tellDay 29 = .ok (.bipush (-9), 2) := dk_16 247 (dk_at dksX1_tellDay_1 5 rfl rfl)
theorem dX1_tellDay_31 : decode cX1_tellDay 31 = .ok (.ireturn, 1) := dk_172 (dk_at dksX1_tellDay_1 7 rfl rfl)
theorem dX1_tellDay_32 : decode cX1_tellDay 32 = .ok (.iload_n 1, 1) := dk_27 (dk_at dksX1_tellDay_1 8 rfl rfl)
theorem dX1_tellDay_33 : decode cX1_tellDay 33 = .ok (.tableswitch 50 0 3 #[31, 50, 40, 45], 31) := by decide +kernel
theorem dX1_tellDay_64 : decode cX1_tellDay 64 = .ok (.aload_n 0, 1) := dk_42 (dk_at dksX1_tellDay_3 0 rfl rfl)
theorem dX1_tellDay_65 : decode cX1_tellDay 65 = .ok (.invokevirtual 146, 3) := dk_182 0 146 (dk_at dksX1_tellDay_3 1 rfl rfl)
theorem dX1_tellDay_68 : decode cX1_tellDay 68 = .ok (.aload_n 0, 1) := dk_42 (dk_at dksX1_tellDay_3 4 rfl rfl)
theorem dX1_tellDay_69 : decode cX1_tellDay 69 = .ok (.invokevirtual 171, 3) := dk_182 0 171 (dk_at dksX1_tellDay_3 5 rfl rfl)
theorem dX1_tellDay_72 : decode cX1_tellDay 72 = .ok (.ireturn, 1) := dk_172 (dk_at dksX1_tellDay_3 8 rfl rfl)
theorem dX1_tellDay_73 : decode cX1_tellDay 73 = .ok (.aload_n 0, 1) := dk_42 (dk_at dksX1_tellDay_3 9 rfl rfl)
theorem dX1_tellDay_74 : decode cX1_tellDay 74 = .ok (.invokevirtual 175, 3) := dk_182 0 175 (dk_at dksX1_tellDay_3 10 rfl rfl)
theorem dX1_tellDay_77 : decode cX1_tellDay 77 = .ok (.ireturn, 1) := dk_172 (dk_at dksX1_tellDay_3 13 rfl rfl)
theorem dX1_tellDay_78 : decode cX1_tellDay 78 = .ok (.aload_n 0, 1) := dk_42 (dk_at dksX1_tellDay_3 14 rfl rfl)
theorem dX1_tellDay_79 : decode cX1_tellDay 79 = .ok (.invokevirtual 178, 3) := dk_182 0 178 (dk_at dksX1_tellDay_3 15 rfl rfl)
theorem dX1_tellDay_82 : decode cX1_tellDay 82 = .ok (.ireturn, 1) := dk_172 (dk_at dksX1_tellDay_3 18 rfl rfl)
theorem dX1_tellDay_83 : decode cX1_tellDay 83 = .ok (.aload_n 0, 1) := dk_42 (dk_at dksX1_tellDay_3 19 rfl rfl)
theorem dX1_tellDay_84 : decode cX1_tellDay 84 = .ok (.iconst 1, 1) := dk_4 (dk_at dksX1_tellDay_3 20 rfl rfl)
theorem dX1_tellDay_85 : decode cX1_tellDay 85 = .ok (.aload_n 0, 1) := dk_42 (dk_at dksX1_tellDay_3 21 rfl rfl)
theorem dX1_tellDay_86 : decode cX1_tellDay 86 = .ok (.getfield 80, 3) := dk_180 0 80 (dk_at dksX1_tellDay_4 0 rfl rfl)
theorem dX1_tellDay_89 : decode cX1_tellDay 89 = .ok (.ishl, 1) := dk_120 (dk_at dksX1_tellDay_4 3 rfl rfl)
theorem dX1_tellDay_90 : decode cX1_tellDay 90 = .ok (.iconst 1, 1) := dk_4 (dk_at dksX1_tellDay_4 4 rfl rfl)
theorem dX1_tellDay_91 : decode cX1_tellDay 91 = .ok (.isub, 1) := dk_100 (dk_at dksX1_tellDay_4 5 rfl rfl)
theorem dX1_tellDay_92 : decode cX1_tellDay 92 = .ok (.invokevirtual 181, 3) := dk_182 0 181 (dk_at dksX1_tellDay_4 6 rfl rfl)
theorem dX1_tellDay_95 : decode cX1_tellDay 95 = .ok (.ireturn, 1) := dk_172 (dk_at dksX1_tellDay_4 9 rfl rfl)
abbrev cX1_longest : ByteArray := prog_15_method_26_code
def yX1_longest : MethodName := ⟨RX1, "longest", "()I"⟩
def dkwX1_longest_1 : List UInt8 := [182, 0, 143, 167, 0, 4, 27, 60, 132, 2, 1, 167, 255, 226, 27, 172]
abbrev dktX1_longest_1 : List UInt8 := dkwX1_longest_1 ++ []
def dkwX1_longest_0 : List UInt8 := [3, 60, 3, 61, 28, 42, 180, 0, 80, 162, 0, 28, 42, 28, 182, 0, 143, 27, 164, 0, 11, 42, 28]
abbrev dktX1_longest_0 : List UInt8 := dkwX1_longest_0 ++ dktX1_longest_1
theorem dksX1_longest_0 : cX1_longest.data.toList.drop 0 = dktX1_longest_0 := by decide +kernel
theorem dksX1_longest_1 : cX1_longest.data.toList.drop 23 = dktX1_longest_1 := dk_seg dksX1_longest_0 23 rfl rfl
theorem dX1_longest_0 : decode cX1_longest 0 = .ok (.iconst 0, 1) := dk_3 (dk_at dksX1_longest_0 0 rfl rfl)
theorem dX1_longest_1 : decode cX1_longest 1 = .ok (.istore_n 1, 1) := dk_60 (dk_at dksX1_longest_0 1 rfl rfl)
theorem dX1_longest_2 : decode cX1_longest 2 = .ok (.iconst 0, 1) := dk_3 (dk_at dksX1_longest_0 2 rfl rfl)
theorem dX1_longest_3 : decode cX1_longest 3 = .ok (.istore_n 2, 1) := dk_61 (dk_at dksX1_longest_0 3 rfl rfl)
theorem dX1_longest_4 : decode cX1_longest 4 = .ok (.iload_n 2, 1) := dk_28 (dk_at dksX1_longest_0 4 rfl rfl)
theorem dX1_longest_5 : decode cX1_longest 5 = .ok (.aload_n 0, 1) := dk_42 (dk_at dksX1_longest_0 5 rfl rfl)
theorem dX1_longest_6 : decode cX1_longest 6 = .ok (.getfield 80, 3) := dk_180 0 80 (dk_at dksX1_longest_0 6 rfl rfl)
theorem dX1_longest_9 : decode cX1_longest 9 = .ok (.if_icmp .ge 28, 3) := dk_162 0 28 (dk_at dksX1_longest_0 9 rfl rfl)
theorem dX1_longest_12 : decode cX1_longest 12 = .ok (.aload_n 0, 1) := dk_42 (dk_at dksX1_longest_0 12 rfl rfl)
theorem dX1_longest_13 : decode cX1_longest 13 = .ok (.iload_n 2, 1) := dk_28 (dk_at dksX1_longest_0 13 rfl rfl)
theorem dX1_longest_14 : decode cX1_longest 14 = .ok (.invokevirtual 143, 3) := dk_182 0 143 (dk_at dksX1_longest_0 14 rfl rfl)
theorem dX1_longest_17 : decode cX1_longest 17 = .ok (.iload_n 1, 1) := dk_27 (dk_at dksX1_longest_0 17 rfl rfl)
theorem dX1_longest_18 : decode cX1_longest 18 = .ok (.if_icmp .le 11, 3) := dk_164 0 11 (dk_at dksX1_longest_0 18 rfl rfl)
theorem dX1_longest_21 : decode cX1_longest 21 = .ok (.aload_n 0, 1) := dk_42 (dk_at dksX1_longest_0 21 rfl rfl)
theorem dX1_longest_22 : decode cX1_longest 22 = .ok (.iload_n 2, 1) := dk_28 (dk_at dksX1_longest_0 22 rfl rfl)
theorem dX1_longest_23 : decode cX1_longest 23 = .ok (.invokevirtual 143, 3) := dk_182 0 143 (dk_at dksX1_longest_1 0 rfl rfl)
theorem dX1_longest_26 : decode cX1_longest 26 = .ok (.goto 4, 3) := dk_167 0 4 (dk_at dksX1_longest_1 3 rfl rfl)
theorem dX1_longest_29 : decode cX1_longest 29 = .ok (.iload_n 1, 1) := dk_27 (dk_at dksX1_longest_1 6 rfl rfl)
theorem dX1_longest_30 : decode cX1_longest 30 = .ok (.istore_n 1, 1) := dk_60 (dk_at dksX1_longest_1 7 rfl rfl)
theorem dX1_longest_31 : decode cX1_longest 31 = .ok (.iinc 2 1, 3) := dk_132 2 1 (dk_at dksX1_longest_1 8 rfl rfl)
theorem dX1_longest_34 : decode cX1_longest 34 = .ok (.goto (-30), 3) := dk_167 255 226 (dk_at dksX1_longest_1 11 rfl rfl)
theorem dX1_longest_37 : decode cX1_longest 37 = .ok (.iload_n 1, 1) := dk_27 (dk_at dksX1_longest_1 14 rfl rfl)
theorem dX1_longest_38 : decode cX1_longest 38 = .ok (.ireturn, 1) := dk_172 (dk_at dksX1_longest_1 15 rfl rfl)
abbrev cX1_numberOf : ByteArray := prog_15_method_40_code
def yX1_numberOf : MethodName := ⟨RX1, "numberOf", "()I"⟩
def dkwX1_numberOf_1 : List UInt8 := [42, 180, 0, 40, 28, 46, 96, 60, 132, 2, 1, 167, 255, 229, 27, 172]
abbrev dktX1_numberOf_1 : List UInt8 := dkwX1_numberOf_1 ++ []
def dkwX1_numberOf_0 : List UInt8 := [42, 182, 0, 149, 3, 60, 3, 61, 28, 42, 180, 0, 80, 5, 100, 162, 0, 23, 27, 42, 180, 0, 80, 104]
abbrev dktX1_numberOf_0 : List UInt8 := dkwX1_numberOf_0 ++ dktX1_numberOf_1
theorem dksX1_numberOf_0 : cX1_numberOf.data.toList.drop 0 = dktX1_numberOf_0 := by decide +kernel
theorem dksX1_numberOf_1 : cX1_numberOf.data.toList.drop 24 = dktX1_numberOf_1 := dk_seg dksX1_numberOf_0 24 rfl rfl
theorem dX1_numberOf_0 : decode cX1_numberOf 0 = .ok (.aload_n 0, 1) := dk_42 (dk_at dksX1_numberOf_0 0 rfl rfl)
theorem dX1_numberOf_1 : decode cX1_numberOf 1 = .ok (.invokevirtual 149, 3) := dk_182 0 149 (dk_at dksX1_numberOf_0 1 rfl rfl)
theorem dX1_numberOf_4 : decode cX1_numberOf 4 = .ok (.iconst 0, 1) := dk_3 (dk_at dksX1_numberOf_0 4 rfl rfl)
theorem dX1_numberOf_5 : decode cX1_numberOf 5 = .ok (.istore_n 1, 1) := dk_60 (dk_at dksX1_numberOf_0 5 rfl rfl)
theorem dX1_numberOf_6 : decode cX1_numberOf 6 = .ok (.iconst 0, 1) := dk_3 (dk_at dksX1_numberOf_0 6 rfl rfl)
theorem dX1_numberOf_7 : decode cX1_numberOf 7 = .ok (.istore_n 2, 1) := dk_61 (dk_at dksX1_numberOf_0 7 rfl rfl)
theorem dX1_numberOf_8 : decode cX1_numberOf 8 = .ok (.iload_n 2, 1) := dk_28 (dk_at dksX1_numberOf_0 8 rfl rfl)
theorem dX1_numberOf_9 : decode cX1_numberOf 9 = .ok (.aload_n 0, 1) := dk_42 (dk_at dksX1_numberOf_0 9 rfl rfl)
theorem dX1_numberOf_10 : decode cX1_numberOf 10 = .ok (.getfield 80, 3) := dk_180 0 80 (dk_at dksX1_numberOf_0 10 rfl rfl)
theorem dX1_numberOf_13 : decode cX1_numberOf 13 = .ok (.iconst 2, 1) := dk_5 (dk_at dksX1_numberOf_0 13 rfl rfl)
theorem dX1_numberOf_14 : decode cX1_numberOf 14 = .ok (.isub, 1) := dk_100 (dk_at dksX1_numberOf_0 14 rfl rfl)
theorem dX1_numberOf_15 : decode cX1_numberOf 15 = .ok (.if_icmp .ge 23, 3) := dk_162 0 23 (dk_at dksX1_numberOf_0 15 rfl rfl)
theorem dX1_numberOf_18 : decode cX1_numberOf 18 = .ok (.iload_n 1, 1) := dk_27 (dk_at dksX1_numberOf_0 18 rfl rfl)
theorem dX1_numberOf_19 : decode cX1_numberOf 19 = .ok (.aload_n 0, 1) := dk_42 (dk_at dksX1_numberOf_0 19 rfl rfl)
theorem dX1_numberOf_20 : decode cX1_numberOf 20 = .ok (.getfield 80, 3) := dk_180 0 80 (dk_at dksX1_numberOf_0 20 rfl rfl)
theorem dX1_numberOf_23 : decode cX1_numberOf 23 = .ok (.imul, 1) := dk_104 (dk_at dksX1_numberOf_0 23 rfl rfl)
theorem dX1_numberOf_24 : decode cX1_numberOf 24 = .ok (.aload_n 0, 1) := dk_42 (dk_at dksX1_numberOf_1 0 rfl rfl)
theorem dX1_numberOf_25 : decode cX1_numberOf 25 = .ok (.getfield 40, 3) := dk_180 0 40 (dk_at dksX1_numberOf_1 1 rfl rfl)
theorem dX1_numberOf_28 : decode cX1_numberOf 28 = .ok (.iload_n 2, 1) := dk_28 (dk_at dksX1_numberOf_1 4 rfl rfl)
theorem dX1_numberOf_29 : decode cX1_numberOf 29 = .ok (.iaload, 1) := dk_46 (dk_at dksX1_numberOf_1 5 rfl rfl)
theorem dX1_numberOf_30 : decode cX1_numberOf 30 = .ok (.iadd, 1) := dk_96 (dk_at dksX1_numberOf_1 6 rfl rfl)
theorem dX1_numberOf_31 : decode cX1_numberOf 31 = .ok (.istore_n 1, 1) := dk_60 (dk_at dksX1_numberOf_1 7 rfl rfl)
theorem dX1_numberOf_32 : decode cX1_numberOf 32 = .ok (.iinc 2 1, 3) := dk_132 2 1 (dk_at dksX1_numberOf_1 8 rfl rfl)
theorem dX1_numberOf_35 : decode cX1_numberOf 35 = .ok (.goto (-27), 3) := dk_167 255 229 (dk_at dksX1_numberOf_1 11 rfl rfl)
theorem dX1_numberOf_38 : decode cX1_numberOf 38 = .ok (.iload_n 1, 1) := dk_27 (dk_at dksX1_numberOf_1 14 rfl rfl)
theorem dX1_numberOf_39 : decode cX1_numberOf 39 = .ok (.ireturn, 1) := dk_172 (dk_at dksX1_numberOf_1 15 rfl rfl)
abbrev cX1_ends : ByteArray := prog_15_method_23_code
def yX1_ends : MethodName := ⟨RX1, "ends", "()I"⟩
def dkwX1_ends_1 : List UInt8 := [160, 0, 9, 4, 28, 120, 167, 0, 4, 3, 128, 60, 132, 2, 1, 167, 255, 222, 27, 172]
abbrev dktX1_ends_1 : List UInt8 := dkwX1_ends_1 ++ []
def dkwX1_ends_0 : List UInt8 := [3, 60, 3, 61, 28, 42, 180, 0, 80, 162, 0, 32, 27, 42, 180, 0, 19, 28, 46, 184, 0, 140, 4]
abbrev dktX1_ends_0 : List UInt8 := dkwX1_ends_0 ++ dktX1_ends_1
theorem dksX1_ends_0 : cX1_ends.data.toList.drop 0 = dktX1_ends_0 := by decide +kernel
theorem dksX1_ends_1 : cX1_ends.data.toList.drop 23 = dktX1_ends_1 := dk_seg dksX1_ends_0 23 rfl rfl
theorem dX1_ends_0 : decode cX1_ends 0 = .ok (.iconst 0, 1) := dk_3 (dk_at dksX1_ends_0 0 rfl rfl)
theorem dX1_ends_1 : decode cX1_ends 1 = .ok (.istore_n 1, 1) := dk_60 (dk_at dksX1_ends_0 1 rfl rfl)
theorem dX1_ends_2 : decode cX1_ends 2 = .ok (.iconst 0, 1) := dk_3 (dk_at dksX1_ends_0 2 rfl rfl)
theorem dX1_ends_3 : decode cX1_ends 3 = .ok (.istore_n 2, 1) := dk_61 (dk_at dksX1_ends_0 3 rfl rfl)
theorem dX1_ends_4 : decode cX1_ends 4 = .ok (.iload_n 2, 1) := dk_28 (dk_at dksX1_ends_0 4 rfl rfl)
theorem dX1_ends_5 : decode cX1_ends 5 = .ok (.aload_n 0, 1) := dk_42 (dk_at dksX1_ends_0 5 rfl rfl)
theorem dX1_ends_6 : decode cX1_ends 6 = .ok (.getfield 80, 3) := dk_180 0 80 (dk_at dksX1_ends_0 6 rfl rfl)
theorem dX1_ends_9 : decode cX1_ends 9 = .ok (.if_icmp .ge 32, 3) := dk_162 0 32 (dk_at dksX1_ends_0 9 rfl rfl)
theorem dX1_ends_12 : decode cX1_ends 12 = .ok (.iload_n 1, 1) := dk_27 (dk_at dksX1_ends_0 12 rfl rfl)
theorem dX1_ends_13 : decode cX1_ends 13 = .ok (.aload_n 0, 1) := dk_42 (dk_at dksX1_ends_0 13 rfl rfl)
theorem dX1_ends_14 : decode cX1_ends 14 = .ok (.getfield 19, 3) := dk_180 0 19 (dk_at dksX1_ends_0 14 rfl rfl)
theorem dX1_ends_17 : decode cX1_ends 17 = .ok (.iload_n 2, 1) := dk_28 (dk_at dksX1_ends_0 17 rfl rfl)
theorem dX1_ends_18 : decode cX1_ends 18 = .ok (.iaload, 1) := dk_46 (dk_at dksX1_ends_0 18 rfl rfl)
theorem dX1_ends_19 : decode cX1_ends 19 = .ok (.invokestatic 140, 3) := dk_184 0 140 (dk_at dksX1_ends_0 19 rfl rfl)
theorem dX1_ends_22 : decode cX1_ends 22 = .ok (.iconst 1, 1) := dk_4 (dk_at dksX1_ends_0 22 rfl rfl)
theorem dX1_ends_23 : decode cX1_ends 23 = .ok (.if_icmp .ne 9, 3) := dk_160 0 9 (dk_at dksX1_ends_1 0 rfl rfl)
theorem dX1_ends_26 : decode cX1_ends 26 = .ok (.iconst 1, 1) := dk_4 (dk_at dksX1_ends_1 3 rfl rfl)
theorem dX1_ends_27 : decode cX1_ends 27 = .ok (.iload_n 2, 1) := dk_28 (dk_at dksX1_ends_1 4 rfl rfl)
theorem dX1_ends_28 : decode cX1_ends 28 = .ok (.ishl, 1) := dk_120 (dk_at dksX1_ends_1 5 rfl rfl)
theorem dX1_ends_29 : decode cX1_ends 29 = .ok (.goto 4, 3) := dk_167 0 4 (dk_at dksX1_ends_1 6 rfl rfl)
theorem dX1_ends_32 : decode cX1_ends 32 = .ok (.iconst 0, 1) := dk_3 (dk_at dksX1_ends_1 9 rfl rfl)
theorem dX1_ends_33 : decode cX1_ends 33 = .ok (.ior, 1) := dk_128 (dk_at dksX1_ends_1 10 rfl rfl)
theorem dX1_ends_34 : decode cX1_ends 34 = .ok (.istore_n 1, 1) := dk_60 (dk_at dksX1_ends_1 11 rfl rfl)
theorem dX1_ends_35 : decode cX1_ends 35 = .ok (.iinc 2 1, 3) := dk_132 2 1 (dk_at dksX1_ends_1 12 rfl rfl)
theorem dX1_ends_38 : decode cX1_ends 38 = .ok (.goto (-34), 3) := dk_167 255 222 (dk_at dksX1_ends_1 15 rfl rfl)
theorem dX1_ends_41 : decode cX1_ends 41 = .ok (.iload_n 1, 1) := dk_27 (dk_at dksX1_ends_1 18 rfl rfl)
theorem dX1_ends_42 : decode cX1_ends 42 = .ok (.ireturn, 1) := dk_172 (dk_at dksX1_ends_1 19 rfl rfl)
abbrev cX1_worthOfSet : ByteArray := prog_15_method_22_code
def yX1_worthOfSet : MethodName := ⟨RX1, "worthOfSet", "(I)I"⟩
def dkwX1_worthOfSet_1 : List UInt8 := [182, 0, 137, 167, 0, 4, 3, 96, 61, 132, 3, 1, 167, 255, 225, 28, 172]
abbrev dktX1_worthOfSet_1 : List UInt8 := dkwX1_worthOfSet_1 ++ []
def dkwX1_worthOfSet_0 : List UInt8 := [3, 61, 3, 62, 29, 42, 180, 0, 80, 162, 0, 29, 28, 27, 29, 184, 0, 87, 153, 0, 11, 42, 29]
abbrev dktX1_worthOfSet_0 : List UInt8 := dkwX1_worthOfSet_0 ++ dktX1_worthOfSet_1
theorem dksX1_worthOfSet_0 : cX1_worthOfSet.data.toList.drop 0 = dktX1_worthOfSet_0 := by decide +kernel
theorem dksX1_worthOfSet_1 : cX1_worthOfSet.data.toList.drop 23 = dktX1_worthOfSet_1 := dk_seg dksX1_worthOfSet_0 23 rfl rfl
theorem dX1_worthOfSet_0 : decode cX1_worthOfSet 0 = .ok (.iconst 0, 1) := dk_3 (dk_at dksX1_worthOfSet_0 0 rfl rfl)
theorem dX1_worthOfSet_1 : decode cX1_worthOfSet 1 = .ok (.istore_n 2, 1) := dk_61 (dk_at dksX1_worthOfSet_0 1 rfl rfl)
theorem dX1_worthOfSet_2 : decode cX1_worthOfSet 2 = .ok (.iconst 0, 1) := dk_3 (dk_at dksX1_worthOfSet_0 2 rfl rfl)
theorem dX1_worthOfSet_3 : decode cX1_worthOfSet 3 = .ok (.istore_n 3, 1) := dk_62 (dk_at dksX1_worthOfSet_0 3 rfl rfl)
theorem dX1_worthOfSet_4 : decode cX1_worthOfSet 4 = .ok (.iload_n 3, 1) := dk_29 (dk_at dksX1_worthOfSet_0 4 rfl rfl)
theorem dX1_worthOfSet_5 : decode cX1_worthOfSet 5 = .ok (.aload_n 0, 1) := dk_42 (dk_at dksX1_worthOfSet_0 5 rfl rfl)
theorem dX1_worthOfSet_6 : decode cX1_worthOfSet 6 = .ok (.getfield 80, 3) := dk_180 0 80 (dk_at dksX1_worthOfSet_0 6 rfl rfl)
theorem dX1_worthOfSet_9 : decode cX1_worthOfSet 9 = .ok (.if_icmp .ge 29, 3) := dk_162 0 29 (dk_at dksX1_worthOfSet_0 9 rfl rfl)
theorem dX1_worthOfSet_12 : decode cX1_worthOfSet 12 = .ok (.iload_n 2, 1) := dk_28 (dk_at dksX1_worthOfSet_0 12 rfl rfl)
theorem dX1_worthOfSet_13 : decode cX1_worthOfSet 13 = .ok (.iload_n 1, 1) := dk_27 (dk_at dksX1_worthOfSet_0 13 rfl rfl)
theorem dX1_worthOfSet_14 : decode cX1_worthOfSet 14 = .ok (.iload_n 3, 1) := dk_29 (dk_at dksX1_worthOfSet_0 14 rfl rfl)
theorem dX1_worthOfSet_15 : decode cX1_worthOfSet 15 = .ok (.invokestatic 87, 3) := dk_184 0 87 (dk_at dksX1_worthOfSet_0 15 rfl rfl)
theorem dX1_worthOfSet_18 : decode cX1_worthOfSet 18 = .ok (.ifCond .eq 11, 3) := dk_153 0 11 (dk_at dksX1_worthOfSet_0 18 rfl rfl)
theorem dX1_worthOfSet_21 : decode cX1_worthOfSet 21 = .ok (.aload_n 0, 1) := dk_42 (dk_at dksX1_worthOfSet_0 21 rfl rfl)
theorem dX1_worthOfSet_22 : decode cX1_worthOfSet 22 = .ok (.iload_n 3, 1) := dk_29 (dk_at dksX1_worthOfSet_0 22 rfl rfl)
theorem dX1_worthOfSet_23 : decode cX1_worthOfSet 23 = .ok (.invokevirtual 137, 3) := dk_182 0 137 (dk_at dksX1_worthOfSet_1 0 rfl rfl)
theorem dX1_worthOfSet_26 : decode cX1_worthOfSet 26 = .ok (.goto 4, 3) := dk_167 0 4 (dk_at dksX1_worthOfSet_1 3 rfl rfl)
theorem dX1_worthOfSet_29 : decode cX1_worthOfSet 29 = .ok (.iconst 0, 1) := dk_3 (dk_at dksX1_worthOfSet_1 6 rfl rfl)
theorem dX1_worthOfSet_30 : decode cX1_worthOfSet 30 = .ok (.iadd, 1) := dk_96 (dk_at dksX1_worthOfSet_1 7 rfl rfl)
theorem dX1_worthOfSet_31 : decode cX1_worthOfSet 31 = .ok (.istore_n 2, 1) := dk_61 (dk_at dksX1_worthOfSet_1 8 rfl rfl)
theorem dX1_worthOfSet_32 : decode cX1_worthOfSet 32 = .ok (.iinc 3 1, 3) := dk_132 3 1 (dk_at dksX1_worthOfSet_1 9 rfl rfl)
theorem dX1_worthOfSet_35 : decode cX1_worthOfSet 35 = .ok (.goto (-31), 3) := dk_167 255 225 (dk_at dksX1_worthOfSet_1 12 rfl rfl)
theorem dX1_worthOfSet_38 : decode cX1_worthOfSet 38 = .ok (.iload_n 2, 1) := dk_28 (dk_at dksX1_worthOfSet_1 15 rfl rfl)
theorem dX1_worthOfSet_39 : decode cX1_worthOfSet 39 = .ok (.ireturn, 1) := dk_172 (dk_at dksX1_worthOfSet_1 16 rfl rfl)
abbrev cX1_far : ByteArray := prog_15_method_37_code
def yX1_far : MethodName := ⟨RX1, "far", "(II)I"⟩
def dkwX1_far_1 : List UInt8 := [180, 0, 37, 16, 8, 27, 104, 28, 96, 46, 172]
abbrev dktX1_far_1 : List UInt8 := dkwX1_far_1 ++ []
def dkwX1_far_0 : List UInt8 := [42, 27, 182, 0, 83, 153, 0, 11, 42, 28, 182, 0, 83, 154, 0, 5, 2, 172, 42, 182, 0, 146, 42]
abbrev dktX1_far_0 : List UInt8 := dkwX1_far_0 ++ dktX1_far_1
theorem dksX1_far_0 : cX1_far.data.toList.drop 0 = dktX1_far_0 := by decide +kernel
theorem dksX1_far_1 : cX1_far.data.toList.drop 23 = dktX1_far_1 := dk_seg dksX1_far_0 23 rfl rfl
theorem dX1_far_0 : decode cX1_far 0 = .ok (.aload_n 0, 1) := dk_42 (dk_at dksX1_far_0 0 rfl rfl)
theorem dX1_far_1 : decode cX1_far 1 = .ok (.iload_n 1, 1) := dk_27 (dk_at dksX1_far_0 1 rfl rfl)
theorem dX1_far_2 : decode cX1_far 2 = .ok (.invokevirtual 83, 3) := dk_182 0 83 (dk_at dksX1_far_0 2 rfl rfl)
theorem dX1_far_5 : decode cX1_far 5 = .ok (.ifCond .eq 11, 3) := dk_153 0 11 (dk_at dksX1_far_0 5 rfl rfl)
theorem dX1_far_8 : decode cX1_far 8 = .ok (.aload_n 0, 1) := dk_42 (dk_at dksX1_far_0 8 rfl rfl)
theorem dX1_far_9 : decode cX1_far 9 = .ok (.iload_n 2, 1) := dk_28 (dk_at dksX1_far_0 9 rfl rfl)
theorem dX1_far_10 : decode cX1_far 10 = .ok (.invokevirtual 83, 3) := dk_182 0 83 (dk_at dksX1_far_0 10 rfl rfl)
theorem dX1_far_13 : decode cX1_far 13 = .ok (.ifCond .ne 5, 3) := dk_154 0 5 (dk_at dksX1_far_0 13 rfl rfl)
theorem dX1_far_16 : decode cX1_far 16 = .ok (.iconst (-1), 1) := dk_2 (dk_at dksX1_far_0 16 rfl rfl)
theorem dX1_far_17 : decode cX1_far 17 = .ok (.ireturn, 1) := dk_172 (dk_at dksX1_far_0 17 rfl rfl)
theorem dX1_far_18 : decode cX1_far 18 = .ok (.aload_n 0, 1) := dk_42 (dk_at dksX1_far_0 18 rfl rfl)
theorem dX1_far_19 : decode cX1_far 19 = .ok (.invokevirtual 146, 3) := dk_182 0 146 (dk_at dksX1_far_0 19 rfl rfl)
theorem dX1_far_22 : decode cX1_far 22 = .ok (.aload_n 0, 1) := dk_42 (dk_at dksX1_far_0 22 rfl rfl)
theorem dX1_far_23 : decode cX1_far 23 = .ok (.getfield 37, 3) := dk_180 0 37 (dk_at dksX1_far_1 0 rfl rfl)
theorem dX1_far_26 : decode cX1_far 26 = .ok (.bipush 8, 2) := dk_16 8 (dk_at dksX1_far_1 3 rfl rfl)
theorem dX1_far_28 : decode cX1_far 28 = .ok (.iload_n 1, 1) := dk_27 (dk_at dksX1_far_1 5 rfl rfl)
theorem dX1_far_29 : decode cX1_far 29 = .ok (.imul, 1) := dk_104 (dk_at dksX1_far_1 6 rfl rfl)
theorem dX1_far_30 : decode cX1_far 30 = .ok (.iload_n 2, 1) := dk_28 (dk_at dksX1_far_1 7 rfl rfl)
theorem dX1_far_31 : decode cX1_far 31 = .ok (.iadd, 1) := dk_96 (dk_at dksX1_far_1 8 rfl rfl)
theorem dX1_far_32 : decode cX1_far 32 = .ok (.iaload, 1) := dk_46 (dk_at dksX1_far_1 9 rfl rfl)
theorem dX1_far_33 : decode cX1_far 33 = .ok (.ireturn, 1) := dk_172 (dk_at dksX1_far_1 10 rfl rfl)
abbrev cX1_way : ByteArray := prog_15_method_38_code
def yX1_way : MethodName := ⟨RX1, "way", "(III)I"⟩
def dkwX1_way_4 : List UInt8 := [28, 96, 46, 21, 4, 29, 100, 160, 0, 6, 21, 5, 172, 132, 5, 1, 167, 255, 206, 16, 247, 172]
abbrev dktX1_way_4 : List UInt8 := dkwX1_way_4 ++ []
def dkwX1_way_3 : List UInt8 := [180, 0, 37, 16, 8, 27, 104, 21, 5, 96, 46, 29, 160, 0, 25, 42, 180, 0, 37, 16, 8, 21, 5, 104]
abbrev dktX1_way_3 : List UInt8 := dkwX1_way_3 ++ dktX1_way_4
def dkwX1_way_2 : List UInt8 := [54, 4, 29, 21, 4, 164, 0, 6, 16, 247, 172, 3, 54, 5, 21, 5, 42, 180, 0, 80, 162, 0, 47, 42]
abbrev dktX1_way_2 : List UInt8 := dkwX1_way_2 ++ dktX1_way_3
def dkwX1_way_1 : List UInt8 := [184, 0, 76, 154, 0, 6, 16, 254, 172, 42, 182, 0, 146, 42, 180, 0, 37, 16, 8, 27, 104, 28, 96, 46]
abbrev dktX1_way_1 : List UInt8 := dkwX1_way_1 ++ dktX1_way_2
def dkwX1_way_0 : List UInt8 := [42, 27, 182, 0, 83, 153, 0, 11, 42, 28, 182, 0, 83, 154, 0, 5, 2, 172, 29, 3, 16, 7]
abbrev dktX1_way_0 : List UInt8 := dkwX1_way_0 ++ dktX1_way_1
theorem dksX1_way_0 : cX1_way.data.toList.drop 0 = dktX1_way_0 := by decide +kernel
theorem dksX1_way_1 : cX1_way.data.toList.drop 22 = dktX1_way_1 := dk_seg dksX1_way_0 22 rfl rfl
theorem dksX1_way_2 : cX1_way.data.toList.drop 46 = dktX1_way_2 := dk_seg dksX1_way_1 24 rfl rfl
theorem dksX1_way_3 : cX1_way.data.toList.drop 70 = dktX1_way_3 := dk_seg dksX1_way_2 24 rfl rfl
theorem dksX1_way_4 : cX1_way.data.toList.drop 94 = dktX1_way_4 := dk_seg dksX1_way_3 24 rfl rfl
theorem dX1_way_0 : decode cX1_way 0 = .ok (.aload_n 0, 1) := dk_42 (dk_at dksX1_way_0 0 rfl rfl)
theorem dX1_way_1 : decode cX1_way 1 = .ok (.iload_n 1, 1) := dk_27 (dk_at dksX1_way_0 1 rfl rfl)
theorem dX1_way_2 : decode cX1_way 2 = .ok (.invokevirtual 83, 3) := dk_182 0 83 (dk_at dksX1_way_0 2 rfl rfl)
theorem dX1_way_5 : decode cX1_way 5 = .ok (.ifCond .eq 11, 3) := dk_153 0 11 (dk_at dksX1_way_0 5 rfl rfl)
theorem dX1_way_8 : decode cX1_way 8 = .ok (.aload_n 0, 1) := dk_42 (dk_at dksX1_way_0 8 rfl rfl)
theorem dX1_way_9 : decode cX1_way 9 = .ok (.iload_n 2, 1) := dk_28 (dk_at dksX1_way_0 9 rfl rfl)
theorem dX1_way_10 : decode cX1_way 10 = .ok (.invokevirtual 83, 3) := dk_182 0 83 (dk_at dksX1_way_0 10 rfl rfl)
theorem dX1_way_13 : decode cX1_way 13 = .ok (.ifCond .ne 5, 3) := dk_154 0 5 (dk_at dksX1_way_0 13 rfl rfl)
theorem dX1_way_16 : decode cX1_way 16 = .ok (.iconst (-1), 1) := dk_2 (dk_at dksX1_way_0 16 rfl rfl)
theorem dX1_way_17 : decode cX1_way 17 = .ok (.ireturn, 1) := dk_172 (dk_at dksX1_way_0 17 rfl rfl)
theorem dX1_way_18 : decode cX1_way 18 = .ok (.iload_n 3, 1) := dk_29 (dk_at dksX1_way_0 18 rfl rfl)
theorem dX1_way_19 : decode cX1_way 19 = .ok (.iconst 0, 1) := dk_3 (dk_at dksX1_way_0 19 rfl rfl)
theorem dX1_way_20 : decode cX1_way 20 = .ok (.bipush 7, 2) := dk_16 7 (dk_at dksX1_way_0 20 rfl rfl)
theorem dX1_way_22 : decode cX1_way 22 = .ok (.invokestatic 76, 3) := dk_184 0 76 (dk_at dksX1_way_1 0 rfl rfl)
theorem dX1_way_25 : decode cX1_way 25 = .ok (.ifCond .ne 6, 3) := dk_154 0 6 (dk_at dksX1_way_1 3 rfl rfl)
theorem dX1_way_28 : decode cX1_way 28 = .ok (.bipush (-2), 2) := dk_16 254 (dk_at dksX1_way_1 6 rfl rfl)
theorem dX1_way_30 : decode cX1_way 30 = .ok (.ireturn, 1) := dk_172 (dk_at dksX1_way_1 8 rfl rfl)
theorem dX1_way_31 : decode cX1_way 31 = .ok (.aload_n 0, 1) := dk_42 (dk_at dksX1_way_1 9 rfl rfl)
theorem dX1_way_32 : decode cX1_way 32 = .ok (.invokevirtual 146, 3) := dk_182 0 146 (dk_at dksX1_way_1 10 rfl rfl)
theorem dX1_way_35 : decode cX1_way 35 = .ok (.aload_n 0, 1) := dk_42 (dk_at dksX1_way_1 13 rfl rfl)
theorem dX1_way_36 : decode cX1_way 36 = .ok (.getfield 37, 3) := dk_180 0 37 (dk_at dksX1_way_1 14 rfl rfl)
theorem dX1_way_39 : decode cX1_way 39 = .ok (.bipush 8, 2) := dk_16 8 (dk_at dksX1_way_1 17 rfl rfl)
theorem dX1_way_41 : decode cX1_way 41 = .ok (.iload_n 1, 1) := dk_27 (dk_at dksX1_way_1 19 rfl rfl)
theorem dX1_way_42 : decode cX1_way 42 = .ok (.imul, 1) := dk_104 (dk_at dksX1_way_1 20 rfl rfl)
theorem dX1_way_43 : decode cX1_way 43 = .ok (.iload_n 2, 1) := dk_28 (dk_at dksX1_way_1 21 rfl rfl)
theorem dX1_way_44 : decode cX1_way 44 = .ok (.iadd, 1) := dk_96 (dk_at dksX1_way_1 22 rfl rfl)
theorem dX1_way_45 : decode cX1_way 45 = .ok (.iaload, 1) := dk_46 (dk_at dksX1_way_1 23 rfl rfl)
theorem dX1_way_46 : decode cX1_way 46 = .ok (.istore 4, 2) := dk_54 4 (dk_at dksX1_way_2 0 rfl rfl)
theorem dX1_way_48 : decode cX1_way 48 = .ok (.iload_n 3, 1) := dk_29 (dk_at dksX1_way_2 2 rfl rfl)
theorem dX1_way_49 : decode cX1_way 49 = .ok (.iload 4, 2) := dk_21 4 (dk_at dksX1_way_2 3 rfl rfl)
theorem dX1_way_51 : decode cX1_way 51 = .ok (.if_icmp .le 6, 3) := dk_164 0 6 (dk_at dksX1_way_2 5 rfl rfl)
theorem dX1_way_54 : decode cX1_way 54 = .ok (.bipush (-9), 2) := dk_16 247 (dk_at dksX1_way_2 8 rfl rfl)
theorem dX1_way_56 : decode cX1_way 56 = .ok (.ireturn, 1) := dk_172 (dk_at dksX1_way_2 10 rfl rfl)
theorem dX1_way_57 : decode cX1_way 57 = .ok (.iconst 0, 1) := dk_3 (dk_at dksX1_way_2 11 rfl rfl)
theorem dX1_way_58 : decode cX1_way 58 = .ok (.istore 5, 2) := dk_54 5 (dk_at dksX1_way_2 12 rfl rfl)
theorem dX1_way_60 : decode cX1_way 60 = .ok (.iload 5, 2) := dk_21 5 (dk_at dksX1_way_2 14 rfl rfl)
theorem dX1_way_62 : decode cX1_way 62 = .ok (.aload_n 0, 1) := dk_42 (dk_at dksX1_way_2 16 rfl rfl)
theorem dX1_way_63 : decode cX1_way 63 = .ok (.getfield 80, 3) := dk_180 0 80 (dk_at dksX1_way_2 17 rfl rfl)
theorem dX1_way_66 : decode cX1_way 66 = .ok (.if_icmp .ge 47, 3) := dk_162 0 47 (dk_at dksX1_way_2 20 rfl rfl)
theorem dX1_way_69 : decode cX1_way 69 = .ok (.aload_n 0, 1) := dk_42 (dk_at dksX1_way_2 23 rfl rfl)
theorem dX1_way_70 : decode cX1_way 70 = .ok (.getfield 37, 3) := dk_180 0 37 (dk_at dksX1_way_3 0 rfl rfl)
theorem dX1_way_73 : decode cX1_way 73 = .ok (.bipush 8, 2) := dk_16 8 (dk_at dksX1_way_3 3 rfl rfl)
theorem dX1_way_75 : decode cX1_way 75 = .ok (.iload_n 1, 1) := dk_27 (dk_at dksX1_way_3 5 rfl rfl)
theorem dX1_way_76 : decode cX1_way 76 = .ok (.imul, 1) := dk_104 (dk_at dksX1_way_3 6 rfl rfl)
theorem dX1_way_77 : decode cX1_way 77 = .ok (.iload 5, 2) := dk_21 5 (dk_at dksX1_way_3 7 rfl rfl)
theorem dX1_way_79 : decode cX1_way 79 = .ok (.iadd, 1) := dk_96 (dk_at dksX1_way_3 9 rfl rfl)
theorem dX1_way_80 : decode cX1_way 80 = .ok (.iaload, 1) := dk_46 (dk_at dksX1_way_3 10 rfl rfl)
theorem dX1_way_81 : decode cX1_way 81 = .ok (.iload_n 3, 1) := dk_29 (dk_at dksX1_way_3 11 rfl rfl)
theorem dX1_way_82 : decode cX1_way 82 = .ok (.if_icmp .ne 25, 3) := dk_160 0 25 (dk_at dksX1_way_3 12 rfl rfl)
theorem dX1_way_85 : decode cX1_way 85 = .ok (.aload_n 0, 1) := dk_42 (dk_at dksX1_way_3 15 rfl rfl)
theorem dX1_way_86 : decode cX1_way 86 = .ok (.getfield 37, 3) := dk_180 0 37 (dk_at dksX1_way_3 16 rfl rfl)
theorem dX1_way_89 : decode cX1_way 89 = .ok (.bipush 8, 2) := dk_16 8 (dk_at dksX1_way_3 19 rfl rfl)
theorem dX1_way_91 : decode cX1_way 91 = .ok (.iload 5, 2) := dk_21 5 (dk_at dksX1_way_3 21 rfl rfl)
theorem dX1_way_93 : decode cX1_way 93 = .ok (.imul, 1) := dk_104 (dk_at dksX1_way_3 23 rfl rfl)
theorem dX1_way_94 : decode cX1_way 94 = .ok (.iload_n 2, 1) := dk_28 (dk_at dksX1_way_4 0 rfl rfl)
theorem dX1_way_95 : decode cX1_way 95 = .ok (.iadd, 1) := dk_96 (dk_at dksX1_way_4 1 rfl rfl)
theorem dX1_way_96 : decode cX1_way 96 = .ok (.iaload, 1) := dk_46 (dk_at dksX1_way_4 2 rfl rfl)
theorem dX1_way_97 : decode cX1_way 97 = .ok (.iload 4, 2) := dk_21 4 (dk_at dksX1_way_4 3 rfl rfl)
theorem dX1_way_99 : decode cX1_way 99 = .ok (.iload_n 3, 1) := dk_29 (dk_at dksX1_way_4 5 rfl rfl)
theorem dX1_way_100 : decode cX1_way 100 = .ok (.isub, 1) := dk_100 (dk_at dksX1_way_4 6 rfl rfl)
theorem dX1_way_101 : decode cX1_way 101 = .ok (.if_icmp .ne 6, 3) := dk_160 0 6 (dk_at dksX1_way_4 7 rfl rfl)
theorem dX1_way_104 : decode cX1_way 104 = .ok (.iload 5, 2) := dk_21 5 (dk_at dksX1_way_4 10 rfl rfl)
theorem dX1_way_106 : decode cX1_way 106 = .ok (.ireturn, 1) := dk_172 (dk_at dksX1_way_4 12 rfl rfl)
theorem dX1_way_107 : decode cX1_way 107 = .ok (.iinc 5 1, 3) := dk_132 5 1 (dk_at dksX1_way_4 13 rfl rfl)
theorem dX1_way_110 : decode cX1_way 110 = .ok (.goto (-50), 3) := dk_167 255 206 (dk_at dksX1_way_4 16 rfl rfl)
theorem dX1_way_113 : decode cX1_way 113 = .ok (.bipush (-9), 2) := dk_16 247 (dk_at dksX1_way_4 19 rfl rfl)
theorem dX1_way_115 : decode cX1_way 115 = .ok (.ireturn, 1) := dk_172 (dk_at dksX1_way_4 21 rfl rfl)
abbrev cX1_middle : ByteArray := prog_15_method_39_code
def yX1_middle : MethodName := ⟨RX1, "middle", "(I)I"⟩
def dkwX1_middle_4 : List UInt8 := [162, 0, 8, 21, 5, 167, 0, 4, 28, 61, 132, 4, 1, 167, 255, 193, 29, 172]
abbrev dktX1_middle_4 : List UInt8 := dkwX1_middle_4 ++ []
def dkwX1_middle_3 : List UInt8 := [167, 0, 19, 21, 5, 28, 160, 0, 12, 29, 4, 21, 4, 120, 128, 167, 0, 4, 29, 62, 21, 5, 28]
abbrev dktX1_middle_3 : List UInt8 := dkwX1_middle_3 ++ dktX1_middle_4
def dkwX1_middle_2 : List UInt8 := [180, 0, 80, 162, 0, 60, 42, 21, 4, 182, 0, 143, 54, 5, 21, 5, 28, 162, 0, 10, 4, 21, 4, 120]
abbrev dktX1_middle_2 : List UInt8 := dkwX1_middle_2 ++ dktX1_middle_3
def dkwX1_middle_1 : List UInt8 := [182, 0, 146, 27, 4, 160, 0, 8, 42, 182, 0, 171, 172, 16, 8, 61, 3, 62, 3, 54, 4, 21, 4, 42]
abbrev dktX1_middle_1 : List UInt8 := dkwX1_middle_1 ++ dktX1_middle_2
def dkwX1_middle_0 : List UInt8 := [27, 3, 4, 184, 0, 76, 154, 0, 6, 16, 254, 172, 42, 180, 0, 80, 154, 0, 6, 16, 253, 172, 42]
abbrev dktX1_middle_0 : List UInt8 := dkwX1_middle_0 ++ dktX1_middle_1
theorem dksX1_middle_0 : cX1_middle.data.toList.drop 0 = dktX1_middle_0 := by decide +kernel
theorem dksX1_middle_1 : cX1_middle.data.toList.drop 23 = dktX1_middle_1 := dk_seg dksX1_middle_0 23 rfl rfl
theorem dksX1_middle_2 : cX1_middle.data.toList.drop 47 = dktX1_middle_2 := dk_seg dksX1_middle_1 24 rfl rfl
theorem dksX1_middle_3 : cX1_middle.data.toList.drop 71 = dktX1_middle_3 := dk_seg dksX1_middle_2 24 rfl rfl
theorem dksX1_middle_4 : cX1_middle.data.toList.drop 94 = dktX1_middle_4 := dk_seg dksX1_middle_3 23 rfl rfl
theorem dX1_middle_0 : decode cX1_middle 0 = .ok (.iload_n 1, 1) := dk_27 (dk_at dksX1_middle_0 0 rfl rfl)
theorem dX1_middle_1 : decode cX1_middle 1 = .ok (.iconst 0, 1) := dk_3 (dk_at dksX1_middle_0 1 rfl rfl)
theorem dX1_middle_2 : decode cX1_middle 2 = .ok (.iconst 1, 1) := dk_4 (dk_at dksX1_middle_0 2 rfl rfl)
theorem dX1_middle_3 : decode cX1_middle 3 = .ok (.invokestatic 76, 3) := dk_184 0 76 (dk_at dksX1_middle_0 3 rfl rfl)
theorem dX1_middle_6 : decode cX1_middle 6 = .ok (.ifCond .ne 6, 3) := dk_154 0 6 (dk_at dksX1_middle_0 6 rfl rfl)
theorem dX1_middle_9 : decode cX1_middle 9 = .ok (.bipush (-2), 2) := dk_16 254 (dk_at dksX1_middle_0 9 rfl rfl)
theorem dX1_middle_11 : decode cX1_middle 11 = .ok (.ireturn, 1) := dk_172 (dk_at dksX1_middle_0 11 rfl rfl)
theorem dX1_middle_12 : decode cX1_middle 12 = .ok (.aload_n 0, 1) := dk_42 (dk_at dksX1_middle_0 12 rfl rfl)
theorem dX1_middle_13 : decode cX1_middle 13 = .ok (.getfield 80, 3) := dk_180 0 80 (dk_at dksX1_middle_0 13 rfl rfl)
theorem dX1_middle_16 : decode cX1_middle 16 = .ok (.ifCond .ne 6, 3) := dk_154 0 6 (dk_at dksX1_middle_0 16 rfl rfl)
theorem dX1_middle_19 : decode cX1_middle 19 = .ok (.bipush (-3), 2) := dk_16 253 (dk_at dksX1_middle_0 19 rfl rfl)
theorem dX1_middle_21 : decode cX1_middle 21 = .ok (.ireturn, 1) := dk_172 (dk_at dksX1_middle_0 21 rfl rfl)
theorem dX1_middle_22 : decode cX1_middle 22 = .ok (.aload_n 0, 1) := dk_42 (dk_at dksX1_middle_0 22 rfl rfl)
theorem dX1_middle_23 : decode cX1_middle 23 = .ok (.invokevirtual 146, 3) := dk_182 0 146 (dk_at dksX1_middle_1 0 rfl rfl)
theorem dX1_middle_26 : decode cX1_middle 26 = .ok (.iload_n 1, 1) := dk_27 (dk_at dksX1_middle_1 3 rfl rfl)
theorem dX1_middle_27 : decode cX1_middle 27 = .ok (.iconst 1, 1) := dk_4 (dk_at dksX1_middle_1 4 rfl rfl)
theorem dX1_middle_28 : decode cX1_middle 28 = .ok (.if_icmp .ne 8, 3) := dk_160 0 8 (dk_at dksX1_middle_1 5 rfl rfl)
theorem dX1_middle_31 : decode cX1_middle 31 = .ok (.aload_n 0, 1) := dk_42 (dk_at dksX1_middle_1 8 rfl rfl)
theorem dX1_middle_32 : decode cX1_middle 32 = .ok (.invokevirtual 171, 3) := dk_182 0 171 (dk_at dksX1_middle_1 9 rfl rfl)
theorem dX1_middle_35 : decode cX1_middle 35 = .ok (.ireturn, 1) := dk_172 (dk_at dksX1_middle_1 12 rfl rfl)
theorem dX1_middle_36 : decode cX1_middle 36 = .ok (.bipush 8, 2) := dk_16 8 (dk_at dksX1_middle_1 13 rfl rfl)
theorem dX1_middle_38 : decode cX1_middle 38 = .ok (.istore_n 2, 1) := dk_61 (dk_at dksX1_middle_1 15 rfl rfl)
theorem dX1_middle_39 : decode cX1_middle 39 = .ok (.iconst 0, 1) := dk_3 (dk_at dksX1_middle_1 16 rfl rfl)
theorem dX1_middle_40 : decode cX1_middle 40 = .ok (.istore_n 3, 1) := dk_62 (dk_at dksX1_middle_1 17 rfl rfl)
theorem dX1_middle_41 : decode cX1_middle 41 = .ok (.iconst 0, 1) := dk_3 (dk_at dksX1_middle_1 18 rfl rfl)
theorem dX1_middle_42 : decode cX1_middle 42 = .ok (.istore 4, 2) := dk_54 4 (dk_at dksX1_middle_1 19 rfl rfl)
theorem dX1_middle_44 : decode cX1_middle 44 = .ok (.iload 4, 2) := dk_21 4 (dk_at dksX1_middle_1 21 rfl rfl)
theorem dX1_middle_46 : decode cX1_middle 46 = .ok (.aload_n 0, 1) := dk_42 (dk_at dksX1_middle_1 23 rfl rfl)
theorem dX1_middle_47 : decode cX1_middle 47 = .ok (.getfield 80, 3) := dk_180 0 80 (dk_at dksX1_middle_2 0 rfl rfl)
theorem dX1_middle_50 : decode cX1_middle 50 = .ok (.if_icmp .ge 60, 3) := dk_162 0 60 (dk_at dksX1_middle_2 3 rfl rfl)
theorem dX1_middle_53 : decode cX1_middle 53 = .ok (.aload_n 0, 1) := dk_42 (dk_at dksX1_middle_2 6 rfl rfl)
theorem dX1_middle_54 : decode cX1_middle 54 = .ok (.iload 4, 2) := dk_21 4 (dk_at dksX1_middle_2 7 rfl rfl)
theorem dX1_middle_56 : decode cX1_middle 56 = .ok (.invokevirtual 143, 3) := dk_182 0 143 (dk_at dksX1_middle_2 9 rfl rfl)
theorem dX1_middle_59 : decode cX1_middle 59 = .ok (.istore 5, 2) := dk_54 5 (dk_at dksX1_middle_2 12 rfl rfl)
theorem dX1_middle_61 : decode cX1_middle 61 = .ok (.iload 5, 2) := dk_21 5 (dk_at dksX1_middle_2 14 rfl rfl)
theorem dX1_middle_63 : decode cX1_middle 63 = .ok (.iload_n 2, 1) := dk_28 (dk_at dksX1_middle_2 16 rfl rfl)
theorem dX1_middle_64 : decode cX1_middle 64 = .ok (.if_icmp .ge 10, 3) := dk_162 0 10 (dk_at dksX1_middle_2 17 rfl rfl)
theorem dX1_middle_67 : decode cX1_middle 67 = .ok (.iconst 1, 1) := dk_4 (dk_at dksX1_middle_2 20 rfl rfl)
theorem dX1_middle_68 : decode cX1_middle 68 = .ok (.iload 4, 2) := dk_21 4 (dk_at dksX1_middle_2 21 rfl rfl)
theorem dX1_middle_70 : decode cX1_middle 70 = .ok (.ishl, 1) := dk_120 (dk_at dksX1_middle_2 23 rfl rfl)
theorem dX1_middle_71 : decode cX1_middle 71 = .ok (.goto 19, 3) := dk_167 0 19 (dk_at dksX1_middle_3 0 rfl rfl)
theorem dX1_middle_74 : decode cX1_middle 74 = .ok (.iload 5, 2) := dk_21 5 (dk_at dksX1_middle_3 3 rfl rfl)
theorem dX1_middle_76 : decode cX1_middle 76 = .ok (.iload_n 2, 1) := dk_28 (dk_at dksX1_middle_3 5 rfl rfl)
theorem dX1_middle_77 : decode cX1_middle 77 = .ok (.if_icmp .ne 12, 3) := dk_160 0 12 (dk_at dksX1_middle_3 6 rfl rfl)
theorem dX1_middle_80 : decode cX1_middle 80 = .ok (.iload_n 3, 1) := dk_29 (dk_at dksX1_middle_3 9 rfl rfl)
theorem dX1_middle_81 : decode cX1_middle 81 = .ok (.iconst 1, 1) := dk_4 (dk_at dksX1_middle_3 10 rfl rfl)
theorem dX1_middle_82 : decode cX1_middle 82 = .ok (.iload 4, 2) := dk_21 4 (dk_at dksX1_middle_3 11 rfl rfl)
theorem dX1_middle_84 : decode cX1_middle 84 = .ok (.ishl, 1) := dk_120 (dk_at dksX1_middle_3 13 rfl rfl)
theorem dX1_middle_85 : decode cX1_middle 85 = .ok (.ior, 1) := dk_128 (dk_at dksX1_middle_3 14 rfl rfl)
theorem dX1_middle_86 : decode cX1_middle 86 = .ok (.goto 4, 3) := dk_167 0 4 (dk_at dksX1_middle_3 15 rfl rfl)
theorem dX1_middle_89 : decode cX1_middle 89 = .ok (.iload_n 3, 1) := dk_29 (dk_at dksX1_middle_3 18 rfl rfl)
theorem dX1_middle_90 : decode cX1_middle 90 = .ok (.istore_n 3, 1) := dk_62 (dk_at dksX1_middle_3 19 rfl rfl)
theorem dX1_middle_91 : decode cX1_middle 91 = .ok (.iload 5, 2) := dk_21 5 (dk_at dksX1_middle_3 20 rfl rfl)
theorem dX1_middle_93 : decode cX1_middle 93 = .ok (.iload_n 2, 1) := dk_28 (dk_at dksX1_middle_3 22 rfl rfl)
theorem dX1_middle_94 : decode cX1_middle 94 = .ok (.if_icmp .ge 8, 3) := dk_162 0 8 (dk_at dksX1_middle_4 0 rfl rfl)
theorem dX1_middle_97 : decode cX1_middle 97 = .ok (.iload 5, 2) := dk_21 5 (dk_at dksX1_middle_4 3 rfl rfl)
theorem dX1_middle_99 : decode cX1_middle 99 = .ok (.goto 4, 3) := dk_167 0 4 (dk_at dksX1_middle_4 5 rfl rfl)
theorem dX1_middle_102 : decode cX1_middle 102 = .ok (.iload_n 2, 1) := dk_28 (dk_at dksX1_middle_4 8 rfl rfl)
theorem dX1_middle_103 : decode cX1_middle 103 = .ok (.istore_n 2, 1) := dk_61 (dk_at dksX1_middle_4 9 rfl rfl)
theorem dX1_middle_104 : decode cX1_middle 104 = .ok (.iinc 4 1, 3) := dk_132 4 1 (dk_at dksX1_middle_4 10 rfl rfl)
theorem dX1_middle_107 : decode cX1_middle 107 = .ok (.goto (-63), 3) := dk_167 255 193 (dk_at dksX1_middle_4 13 rfl rfl)
theorem dX1_middle_110 : decode cX1_middle 110 = .ok (.iload_n 3, 1) := dk_29 (dk_at dksX1_middle_4 16 rfl rfl)
theorem dX1_middle_111 : decode cX1_middle 111 = .ok (.ireturn, 1) := dk_172 (dk_at dksX1_middle_4 17 rfl rfl)
abbrev cX1_number : ByteArray := prog_15_method_41_code
def yX1_number : MethodName := ⟨RX1, "number", "()I"⟩
def dkwX1_number_0 : List UInt8 := [42, 180, 0, 80, 154, 0, 8, 16, 253, 167, 0, 7, 42, 182, 0, 175, 172]
abbrev dktX1_number_0 : List UInt8 := dkwX1_number_0 ++ []
theorem dksX1_number_0 : cX1_number.data.toList.drop 0 = dktX1_number_0 := by decide +kernel
theorem dX1_number_0 : decode cX1_number 0 = .ok (.aload_n 0, 1) := dk_42 (dk_at dksX1_number_0 0 rfl rfl)
theorem dX1_number_1 : decode cX1_number 1 = .ok (.getfield 80, 3) := dk_180 0 80 (dk_at dksX1_number_0 1 rfl rfl)
theorem dX1_number_4 : decode cX1_number 4 = .ok (.ifCond .ne 8, 3) := dk_154 0 8 (dk_at dksX1_number_0 4 rfl rfl)
theorem dX1_number_7 : decode cX1_number 7 = .ok (.bipush (-3), 2) := dk_16 253 (dk_at dksX1_number_0 7 rfl rfl)
theorem dX1_number_9 : decode cX1_number 9 = .ok (.goto 7, 3) := dk_167 0 7 (dk_at dksX1_number_0 9 rfl rfl)
theorem dX1_number_12 : decode cX1_number 12 = .ok (.aload_n 0, 1) := dk_42 (dk_at dksX1_number_0 12 rfl rfl)
theorem dX1_number_13 : decode cX1_number 13 = .ok (.invokevirtual 175, 3) := dk_182 0 175 (dk_at dksX1_number_0 13 rfl rfl)
theorem dX1_number_16 : decode cX1_number 16 = .ok (.ireturn, 1) := dk_172 (dk_at dksX1_number_0 16 rfl rfl)
abbrev cX1_alike : ByteArray := prog_15_method_45_code
def yX1_alike : MethodName := ⟨RX1, "alike", "()I"⟩
def dkwX1_alike_2 : List UInt8 := [167, 255, 228, 28, 27, 108, 172]
abbrev dktX1_alike_2 : List UInt8 := dkwX1_alike_2 ++ []
def dkwX1_alike_1 : List UInt8 := [42, 29, 182, 0, 187, 27, 42, 182, 0, 191, 153, 0, 7, 4, 167, 0, 4, 3, 96, 60, 132, 3, 1]
abbrev dktX1_alike_1 : List UInt8 := dkwX1_alike_1 ++ dktX1_alike_2
def dkwX1_alike_0 : List UInt8 := [42, 180, 0, 80, 154, 0, 6, 16, 253, 172, 3, 60, 42, 182, 0, 184, 61, 3, 62, 29, 28, 162, 0, 29]
abbrev dktX1_alike_0 : List UInt8 := dkwX1_alike_0 ++ dktX1_alike_1
theorem dksX1_alike_0 : cX1_alike.data.toList.drop 0 = dktX1_alike_0 := by decide +kernel
theorem dksX1_alike_1 : cX1_alike.data.toList.drop 24 = dktX1_alike_1 := dk_seg dksX1_alike_0 24 rfl rfl
theorem dksX1_alike_2 : cX1_alike.data.toList.drop 47 = dktX1_alike_2 := dk_seg dksX1_alike_1 23 rfl rfl
theorem dX1_alike_0 : decode cX1_alike 0 = .ok (.aload_n 0, 1) := dk_42 (dk_at dksX1_alike_0 0 rfl rfl)
theorem dX1_alike_1 : decode cX1_alike 1 = .ok (.getfield 80, 3) := dk_180 0 80 (dk_at dksX1_alike_0 1 rfl rfl)
theorem dX1_alike_4 : decode cX1_alike 4 = .ok (.ifCond .ne 6, 3) := dk_154 0 6 (dk_at dksX1_alike_0 4 rfl rfl)
theorem dX1_alike_7 : decode cX1_alike 7 = .ok (.bipush (-3), 2) := dk_16 253 (dk_at dksX1_alike_0 7 rfl rfl)
theorem dX1_alike_9 : decode cX1_alike 9 = .ok (.ireturn, 1) := dk_172 (dk_at dksX1_alike_0 9 rfl rfl)
theorem dX1_alike_10 : decode cX1_alike 10 = .ok (.iconst 0, 1) := dk_3 (dk_at dksX1_alike_0 10 rfl rfl)
theorem dX1_alike_11 : decode cX1_alike 11 = .ok (.istore_n 1, 1) := dk_60 (dk_at dksX1_alike_0 11 rfl rfl)
theorem dX1_alike_12 : decode cX1_alike 12 = .ok (.aload_n 0, 1) := dk_42 (dk_at dksX1_alike_0 12 rfl rfl)
theorem dX1_alike_13 : decode cX1_alike 13 = .ok (.invokevirtual 184, 3) := dk_182 0 184 (dk_at dksX1_alike_0 13 rfl rfl)
theorem dX1_alike_16 : decode cX1_alike 16 = .ok (.istore_n 2, 1) := dk_61 (dk_at dksX1_alike_0 16 rfl rfl)
theorem dX1_alike_17 : decode cX1_alike 17 = .ok (.iconst 0, 1) := dk_3 (dk_at dksX1_alike_0 17 rfl rfl)
theorem dX1_alike_18 : decode cX1_alike 18 = .ok (.istore_n 3, 1) := dk_62 (dk_at dksX1_alike_0 18 rfl rfl)
theorem dX1_alike_19 : decode cX1_alike 19 = .ok (.iload_n 3, 1) := dk_29 (dk_at dksX1_alike_0 19 rfl rfl)
theorem dX1_alike_20 : decode cX1_alike 20 = .ok (.iload_n 2, 1) := dk_28 (dk_at dksX1_alike_0 20 rfl rfl)
theorem dX1_alike_21 : decode cX1_alike 21 = .ok (.if_icmp .ge 29, 3) := dk_162 0 29 (dk_at dksX1_alike_0 21 rfl rfl)
theorem dX1_alike_24 : decode cX1_alike 24 = .ok (.aload_n 0, 1) := dk_42 (dk_at dksX1_alike_1 0 rfl rfl)
theorem dX1_alike_25 : decode cX1_alike 25 = .ok (.iload_n 3, 1) := dk_29 (dk_at dksX1_alike_1 1 rfl rfl)
theorem dX1_alike_26 : decode cX1_alike 26 = .ok (.invokevirtual 187, 3) := dk_182 0 187 (dk_at dksX1_alike_1 2 rfl rfl)
theorem dX1_alike_29 : decode cX1_alike 29 = .ok (.iload_n 1, 1) := dk_27 (dk_at dksX1_alike_1 5 rfl rfl)
theorem dX1_alike_30 : decode cX1_alike 30 = .ok (.aload_n 0, 1) := dk_42 (dk_at dksX1_alike_1 6 rfl rfl)
theorem dX1_alike_31 : decode cX1_alike 31 = .ok (.invokevirtual 191, 3) := dk_182 0 191 (dk_at dksX1_alike_1 7 rfl rfl)
theorem dX1_alike_34 : decode cX1_alike 34 = .ok (.ifCond .eq 7, 3) := dk_153 0 7 (dk_at dksX1_alike_1 10 rfl rfl)
theorem dX1_alike_37 : decode cX1_alike 37 = .ok (.iconst 1, 1) := dk_4 (dk_at dksX1_alike_1 13 rfl rfl)
theorem dX1_alike_38 : decode cX1_alike 38 = .ok (.goto 4, 3) := dk_167 0 4 (dk_at dksX1_alike_1 14 rfl rfl)
theorem dX1_alike_41 : decode cX1_alike 41 = .ok (.iconst 0, 1) := dk_3 (dk_at dksX1_alike_1 17 rfl rfl)
theorem dX1_alike_42 : decode cX1_alike 42 = .ok (.iadd, 1) := dk_96 (dk_at dksX1_alike_1 18 rfl rfl)
theorem dX1_alike_43 : decode cX1_alike 43 = .ok (.istore_n 1, 1) := dk_60 (dk_at dksX1_alike_1 19 rfl rfl)
theorem dX1_alike_44 : decode cX1_alike 44 = .ok (.iinc 3 1, 3) := dk_132 3 1 (dk_at dksX1_alike_1 20 rfl rfl)
theorem dX1_alike_47 : decode cX1_alike 47 = .ok (.goto (-28), 3) := dk_167 255 228 (dk_at dksX1_alike_2 0 rfl rfl)
theorem dX1_alike_50 : decode cX1_alike 50 = .ok (.iload_n 2, 1) := dk_28 (dk_at dksX1_alike_2 3 rfl rfl)
theorem dX1_alike_51 : decode cX1_alike 51 = .ok (.iload_n 1, 1) := dk_27 (dk_at dksX1_alike_2 4 rfl rfl)
theorem dX1_alike_52 : decode cX1_alike 52 = .ok (.idiv, 1) := dk_108 (dk_at dksX1_alike_2 5 rfl rfl)
theorem dX1_alike_53 : decode cX1_alike 53 = .ok (.ireturn, 1) := dk_172 (dk_at dksX1_alike_2 6 rfl rfl)
abbrev cX1_orders : ByteArray := prog_15_method_42_code
def yX1_orders : MethodName := ⟨RX1, "orders", "()I"⟩
def dkwX1_orders_0 : List UInt8 := [4, 60, 5, 61, 28, 42, 180, 0, 80, 163, 0, 13, 27, 28, 104, 60, 132, 2, 1, 167, 255, 241, 27, 172]
abbrev dktX1_orders_0 : List UInt8 := dkwX1_orders_0 ++ []
theorem dksX1_orders_0 : cX1_orders.data.toList.drop 0 = dktX1_orders_0 := by decide +kernel
theorem dX1_orders_0 : decode cX1_orders 0 = .ok (.iconst 1, 1) := dk_4 (dk_at dksX1_orders_0 0 rfl rfl)
theorem dX1_orders_1 : decode cX1_orders 1 = .ok (.istore_n 1, 1) := dk_60 (dk_at dksX1_orders_0 1 rfl rfl)
theorem dX1_orders_2 : decode cX1_orders 2 = .ok (.iconst 2, 1) := dk_5 (dk_at dksX1_orders_0 2 rfl rfl)
theorem dX1_orders_3 : decode cX1_orders 3 = .ok (.istore_n 2, 1) := dk_61 (dk_at dksX1_orders_0 3 rfl rfl)
theorem dX1_orders_4 : decode cX1_orders 4 = .ok (.iload_n 2, 1) := dk_28 (dk_at dksX1_orders_0 4 rfl rfl)
theorem dX1_orders_5 : decode cX1_orders 5 = .ok (.aload_n 0, 1) := dk_42 (dk_at dksX1_orders_0 5 rfl rfl)
theorem dX1_orders_6 : decode cX1_orders 6 = .ok (.getfield 80, 3) := dk_180 0 80 (dk_at dksX1_orders_0 6 rfl rfl)
theorem dX1_orders_9 : decode cX1_orders 9 = .ok (.if_icmp .gt 13, 3) := dk_163 0 13 (dk_at dksX1_orders_0 9 rfl rfl)
theorem dX1_orders_12 : decode cX1_orders 12 = .ok (.iload_n 1, 1) := dk_27 (dk_at dksX1_orders_0 12 rfl rfl)
theorem dX1_orders_13 : decode cX1_orders 13 = .ok (.iload_n 2, 1) := dk_28 (dk_at dksX1_orders_0 13 rfl rfl)
theorem dX1_orders_14 : decode cX1_orders 14 = .ok (.imul, 1) := dk_104 (dk_at dksX1_orders_0 14 rfl rfl)
theorem dX1_orders_15 : decode cX1_orders 15 = .ok (.istore_n 1, 1) := dk_60 (dk_at dksX1_orders_0 15 rfl rfl)
theorem dX1_orders_16 : decode cX1_orders 16 = .ok (.iinc 2 1, 3) := dk_132 2 1 (dk_at dksX1_orders_0 16 rfl rfl)
theorem dX1_orders_19 : decode cX1_orders 19 = .ok (.goto (-15), 3) := dk_167 255 241 (dk_at dksX1_orders_0 19 rfl rfl)
theorem dX1_orders_22 : decode cX1_orders 22 = .ok (.iload_n 1, 1) := dk_27 (dk_at dksX1_orders_0 22 rfl rfl)
theorem dX1_orders_23 : decode cX1_orders 23 = .ok (.ireturn, 1) := dk_172 (dk_at dksX1_orders_0 23 rfl rfl)
abbrev cX1_findNames : ByteArray := prog_15_method_43_code
def yX1_findNames : MethodName := ⟨RX1, "findNames", "(I)V"⟩
def dkwX1_findNames_4 : List UInt8 := [21, 6, 120, 2, 130, 126, 62, 132, 4, 1, 167, 255, 165, 177]
abbrev dktX1_findNames_4 : List UInt8 := dkwX1_findNames_4 ++ []
def dkwX1_findNames_3 : List UInt8 := [132, 6, 1, 167, 255, 244, 132, 7, 1, 167, 255, 228, 42, 180, 0, 52, 21, 4, 21, 6, 79, 29, 4]
abbrev dktX1_findNames_3 : List UInt8 := dkwX1_findNames_3 ++ dktX1_findNames_4
def dkwX1_findNames_2 : List UInt8 := [54, 6, 3, 54, 7, 21, 7, 21, 5, 162, 0, 27, 132, 6, 1, 29, 21, 6, 184, 0, 87, 154, 0, 9]
abbrev dktX1_findNames_2 : List UInt8 := dkwX1_findNames_2 ++ dktX1_findNames_3
def dkwX1_findNames_1 : List UInt8 := [42, 180, 0, 80, 21, 4, 100, 112, 54, 5, 28, 42, 180, 0, 80, 21, 4, 100, 108, 61, 29, 184, 0, 130]
abbrev dktX1_findNames_1 : List UInt8 := dkwX1_findNames_1 ++ dktX1_findNames_2
def dkwX1_findNames_0 : List UInt8 := [27, 61, 4, 42, 180, 0, 80, 120, 4, 100, 62, 3, 54, 4, 21, 4, 42, 180, 0, 80, 162, 0, 88, 28]
abbrev dktX1_findNames_0 : List UInt8 := dkwX1_findNames_0 ++ dktX1_findNames_1
theorem dksX1_findNames_0 : cX1_findNames.data.toList.drop 0 = dktX1_findNames_0 := by decide +kernel
theorem dksX1_findNames_1 : cX1_findNames.data.toList.drop 24 = dktX1_findNames_1 := dk_seg dksX1_findNames_0 24 rfl rfl
theorem dksX1_findNames_2 : cX1_findNames.data.toList.drop 48 = dktX1_findNames_2 := dk_seg dksX1_findNames_1 24 rfl rfl
theorem dksX1_findNames_3 : cX1_findNames.data.toList.drop 72 = dktX1_findNames_3 := dk_seg dksX1_findNames_2 24 rfl rfl
theorem dksX1_findNames_4 : cX1_findNames.data.toList.drop 95 = dktX1_findNames_4 := dk_seg dksX1_findNames_3 23 rfl rfl
theorem dX1_findNames_0 : decode cX1_findNames 0 = .ok (.iload_n 1, 1) := dk_27 (dk_at dksX1_findNames_0 0 rfl rfl)
theorem dX1_findNames_1 : decode cX1_findNames 1 = .ok (.istore_n 2, 1) := dk_61 (dk_at dksX1_findNames_0 1 rfl rfl)
theorem dX1_findNames_2 : decode cX1_findNames 2 = .ok (.iconst 1, 1) := dk_4 (dk_at dksX1_findNames_0 2 rfl rfl)
theorem dX1_findNames_3 : decode cX1_findNames 3 = .ok (.aload_n 0, 1) := dk_42 (dk_at dksX1_findNames_0 3 rfl rfl)
theorem dX1_findNames_4 : decode cX1_findNames 4 = .ok (.getfield 80, 3) := dk_180 0 80 (dk_at dksX1_findNames_0 4 rfl rfl)
theorem dX1_findNames_7 : decode cX1_findNames 7 = .ok (.ishl, 1) := dk_120 (dk_at dksX1_findNames_0 7 rfl rfl)
theorem dX1_findNames_8 : decode cX1_findNames 8 = .ok (.iconst 1, 1) := dk_4 (dk_at dksX1_findNames_0 8 rfl rfl)
theorem dX1_findNames_9 : decode cX1_findNames 9 = .ok (.isub, 1) := dk_100 (dk_at dksX1_findNames_0 9 rfl rfl)
theorem dX1_findNames_10 : decode cX1_findNames 10 = .ok (.istore_n 3, 1) := dk_62 (dk_at dksX1_findNames_0 10 rfl rfl)
theorem dX1_findNames_11 : decode cX1_findNames 11 = .ok (.iconst 0, 1) := dk_3 (dk_at dksX1_findNames_0 11 rfl rfl)
theorem dX1_findNames_12 : decode cX1_findNames 12 = .ok (.istore 4, 2) := dk_54 4 (dk_at dksX1_findNames_0 12 rfl rfl)
theorem dX1_findNames_14 : decode cX1_findNames 14 = .ok (.iload 4, 2) := dk_21 4 (dk_at dksX1_findNames_0 14 rfl rfl)
theorem dX1_findNames_16 : decode cX1_findNames 16 = .ok (.aload_n 0, 1) := dk_42 (dk_at dksX1_findNames_0 16 rfl rfl)
theorem dX1_findNames_17 : decode cX1_findNames 17 = .ok (.getfield 80, 3) := dk_180 0 80 (dk_at dksX1_findNames_0 17 rfl rfl)
theorem dX1_findNames_20 : decode cX1_findNames 20 = .ok (.if_icmp .ge 88, 3) := dk_162 0 88 (dk_at dksX1_findNames_0 20 rfl rfl)
theorem dX1_findNames_23 : decode cX1_findNames 23 = .ok (.iload_n 2, 1) := dk_28 (dk_at dksX1_findNames_0 23 rfl rfl)
theorem dX1_findNames_24 : decode cX1_findNames 24 = .ok (.aload_n 0, 1) := dk_42 (dk_at dksX1_findNames_1 0 rfl rfl)
theorem dX1_findNames_25 : decode cX1_findNames 25 = .ok (.getfield 80, 3) := dk_180 0 80 (dk_at dksX1_findNames_1 1 rfl rfl)
theorem dX1_findNames_28 : decode cX1_findNames 28 = .ok (.iload 4, 2) := dk_21 4 (dk_at dksX1_findNames_1 4 rfl rfl)
theorem dX1_findNames_30 : decode cX1_findNames 30 = .ok (.isub, 1) := dk_100 (dk_at dksX1_findNames_1 6 rfl rfl)
theorem dX1_findNames_31 : decode cX1_findNames 31 = .ok (.irem, 1) := dk_112 (dk_at dksX1_findNames_1 7 rfl rfl)
theorem dX1_findNames_32 : decode cX1_findNames 32 = .ok (.istore 5, 2) := dk_54 5 (dk_at dksX1_findNames_1 8 rfl rfl)
theorem dX1_findNames_34 : decode cX1_findNames 34 = .ok (.iload_n 2, 1) := dk_28 (dk_at dksX1_findNames_1 10 rfl rfl)
theorem dX1_findNames_35 : decode cX1_findNames 35 = .ok (.aload_n 0, 1) := dk_42 (dk_at dksX1_findNames_1 11 rfl rfl)
theorem dX1_findNames_36 : decode cX1_findNames 36 = .ok (.getfield 80, 3) := dk_180 0 80 (dk_at dksX1_findNames_1 12 rfl rfl)
theorem dX1_findNames_39 : decode cX1_findNames 39 = .ok (.iload 4, 2) := dk_21 4 (dk_at dksX1_findNames_1 15 rfl rfl)
theorem dX1_findNames_41 : decode cX1_findNames 41 = .ok (.isub, 1) := dk_100 (dk_at dksX1_findNames_1 17 rfl rfl)
theorem dX1_findNames_42 : decode cX1_findNames 42 = .ok (.idiv, 1) := dk_108 (dk_at dksX1_findNames_1 18 rfl rfl)
theorem dX1_findNames_43 : decode cX1_findNames 43 = .ok (.istore_n 2, 1) := dk_61 (dk_at dksX1_findNames_1 19 rfl rfl)
theorem dX1_findNames_44 : decode cX1_findNames 44 = .ok (.iload_n 3, 1) := dk_29 (dk_at dksX1_findNames_1 20 rfl rfl)
theorem dX1_findNames_45 : decode cX1_findNames 45 = .ok (.invokestatic 130, 3) := dk_184 0 130 (dk_at dksX1_findNames_1 21 rfl rfl)
theorem dX1_findNames_48 : decode cX1_findNames 48 = .ok (.istore 6, 2) := dk_54 6 (dk_at dksX1_findNames_2 0 rfl rfl)
theorem dX1_findNames_50 : decode cX1_findNames 50 = .ok (.iconst 0, 1) := dk_3 (dk_at dksX1_findNames_2 2 rfl rfl)
theorem dX1_findNames_51 : decode cX1_findNames 51 = .ok (.istore 7, 2) := dk_54 7 (dk_at dksX1_findNames_2 3 rfl rfl)
theorem dX1_findNames_53 : decode cX1_findNames 53 = .ok (.iload 7, 2) := dk_21 7 (dk_at dksX1_findNames_2 5 rfl rfl)
theorem dX1_findNames_55 : decode cX1_findNames 55 = .ok (.iload 5, 2) := dk_21 5 (dk_at dksX1_findNames_2 7 rfl rfl)
theorem dX1_findNames_57 : decode cX1_findNames 57 = .ok (.if_icmp .ge 27, 3) := dk_162 0 27 (dk_at dksX1_findNames_2 9 rfl rfl)
theorem dX1_findNames_60 : decode cX1_findNames 60 = .ok (.iinc 6 1, 3) := dk_132 6 1 (dk_at dksX1_findNames_2 12 rfl rfl)
theorem dX1_findNames_63 : decode cX1_findNames 63 = .ok (.iload_n 3, 1) := dk_29 (dk_at dksX1_findNames_2 15 rfl rfl)
theorem dX1_findNames_64 : decode cX1_findNames 64 = .ok (.iload 6, 2) := dk_21 6 (dk_at dksX1_findNames_2 16 rfl rfl)
theorem dX1_findNames_66 : decode cX1_findNames 66 = .ok (.invokestatic 87, 3) := dk_184 0 87 (dk_at dksX1_findNames_2 18 rfl rfl)
theorem dX1_findNames_69 : decode cX1_findNames 69 = .ok (.ifCond .ne 9, 3) := dk_154 0 9 (dk_at dksX1_findNames_2 21 rfl rfl)
theorem dX1_findNames_72 : decode cX1_findNames 72 = .ok (.iinc 6 1, 3) := dk_132 6 1 (dk_at dksX1_findNames_3 0 rfl rfl)
theorem dX1_findNames_75 : decode cX1_findNames 75 = .ok (.goto (-12), 3) := dk_167 255 244 (dk_at dksX1_findNames_3 3 rfl rfl)
theorem dX1_findNames_78 : decode cX1_findNames 78 = .ok (.iinc 7 1, 3) := dk_132 7 1 (dk_at dksX1_findNames_3 6 rfl rfl)
theorem dX1_findNames_81 : decode cX1_findNames 81 = .ok (.goto (-28), 3) := dk_167 255 228 (dk_at dksX1_findNames_3 9 rfl rfl)
theorem dX1_findNames_84 : decode cX1_findNames 84 = .ok (.aload_n 0, 1) := dk_42 (dk_at dksX1_findNames_3 12 rfl rfl)
theorem dX1_findNames_85 : decode cX1_findNames 85 = .ok (.getfield 52, 3) := dk_180 0 52 (dk_at dksX1_findNames_3 13 rfl rfl)
theorem dX1_findNames_88 : decode cX1_findNames 88 = .ok (.iload 4, 2) := dk_21 4 (dk_at dksX1_findNames_3 16 rfl rfl)
theorem dX1_findNames_90 : decode cX1_findNames 90 = .ok (.iload 6, 2) := dk_21 6 (dk_at dksX1_findNames_3 18 rfl rfl)
theorem dX1_findNames_92 : decode cX1_findNames 92 = .ok (.iastore, 1) := dk_79 (dk_at dksX1_findNames_3 20 rfl rfl)
theorem dX1_findNames_93 : decode cX1_findNames 93 = .ok (.iload_n 3, 1) := dk_29 (dk_at dksX1_findNames_3 21 rfl rfl)
theorem dX1_findNames_94 : decode cX1_findNames 94 = .ok (.iconst 1, 1) := dk_4 (dk_at dksX1_findNames_3 22 rfl rfl)
theorem dX1_findNames_95 : decode cX1_findNames 95 = .ok (.iload 6, 2) := dk_21 6 (dk_at dksX1_findNames_4 0 rfl rfl)
theorem dX1_findNames_97 : decode cX1_findNames 97 = .ok (.ishl, 1) := dk_120 (dk_at dksX1_findNames_4 2 rfl rfl)
theorem dX1_findNames_98 : decode cX1_findNames 98 = .ok (.iconst (-1), 1) := dk_2 (dk_at dksX1_findNames_4 3 rfl rfl)
theorem dX1_findNames_99 : decode cX1_findNames 99 = .ok (.ixor, 1) := dk_130 (dk_at dksX1_findNames_4 4 rfl rfl)
theorem dX1_findNames_100 : decode cX1_findNames 100 = .ok (.iand, 1) := dk_126 (dk_at dksX1_findNames_4 5 rfl rfl)
theorem dX1_findNames_101 : decode cX1_findNames 101 = .ok (.istore_n 3, 1) := dk_62 (dk_at dksX1_findNames_4 6 rfl rfl)
theorem dX1_findNames_102 : decode cX1_findNames 102 = .ok (.iinc 4 1, 3) := dk_132 4 1 (dk_at dksX1_findNames_4 7 rfl rfl)
theorem dX1_findNames_105 : decode cX1_findNames 105 = .ok (.goto (-91), 3) := dk_167 255 165 (dk_at dksX1_findNames_4 10 rfl rfl)
theorem dX1_findNames_108 : decode cX1_findNames 108 = .ok (.return_, 1) := dk_177 (dk_at dksX1_findNames_4 13 rfl rfl)
abbrev cX1_isSame : ByteArray := prog_15_method_44_code
def yX1_isSame : MethodName := ⟨RX1, "isSame", "()Z"⟩
def dkwX1_isSame_3 : List UInt8 := [172, 132, 1, 1, 167, 255, 182, 4, 172]
abbrev dktX1_isSame_3 : List UInt8 := dkwX1_isSame_3 ++ []
def dkwX1_isSame_2 : List UInt8 := [128, 61, 132, 3, 1, 167, 255, 217, 28, 42, 180, 0, 19, 42, 180, 0, 52, 27, 46, 46, 159, 0, 5, 3]
abbrev dktX1_isSame_2 : List UInt8 := dkwX1_isSame_2 ++ dktX1_isSame_3
def dkwX1_isSame_1 : List UInt8 := [180, 0, 19, 27, 46, 29, 184, 0, 87, 153, 0, 14, 4, 42, 180, 0, 52, 29, 46, 120, 167, 0, 4, 3]
abbrev dktX1_isSame_1 : List UInt8 := dkwX1_isSame_1 ++ dktX1_isSame_2
def dkwX1_isSame_0 : List UInt8 := [3, 60, 27, 42, 180, 0, 80, 162, 0, 72, 3, 61, 3, 62, 29, 42, 180, 0, 80, 162, 0, 37, 28, 42]
abbrev dktX1_isSame_0 : List UInt8 := dkwX1_isSame_0 ++ dktX1_isSame_1
theorem dksX1_isSame_0 : cX1_isSame.data.toList.drop 0 = dktX1_isSame_0 := by decide +kernel
theorem dksX1_isSame_1 : cX1_isSame.data.toList.drop 24 = dktX1_isSame_1 := dk_seg dksX1_isSame_0 24 rfl rfl
theorem dksX1_isSame_2 : cX1_isSame.data.toList.drop 48 = dktX1_isSame_2 := dk_seg dksX1_isSame_1 24 rfl rfl
theorem dksX1_isSame_3 : cX1_isSame.data.toList.drop 72 = dktX1_isSame_3 := dk_seg dksX1_isSame_2 24 rfl rfl
theorem dX1_isSame_0 : decode cX1_isSame 0 = .ok (.iconst 0, 1) := dk_3 (dk_at dksX1_isSame_0 0 rfl rfl)
theorem dX1_isSame_1 : decode cX1_isSame 1 = .ok (.istore_n 1, 1) := dk_60 (dk_at dksX1_isSame_0 1 rfl rfl)
theorem dX1_isSame_2 : decode cX1_isSame 2 = .ok (.iload_n 1, 1) := dk_27 (dk_at dksX1_isSame_0 2 rfl rfl)
theorem dX1_isSame_3 : decode cX1_isSame 3 = .ok (.aload_n 0, 1) := dk_42 (dk_at dksX1_isSame_0 3 rfl rfl)
theorem dX1_isSame_4 : decode cX1_isSame 4 = .ok (.getfield 80, 3) := dk_180 0 80 (dk_at dksX1_isSame_0 4 rfl rfl)
theorem dX1_isSame_7 : decode cX1_isSame 7 = .ok (.if_icmp .ge 72, 3) := dk_162 0 72 (dk_at dksX1_isSame_0 7 rfl rfl)
theorem dX1_isSame_10 : decode cX1_isSame 10 = .ok (.iconst 0, 1) := dk_3 (dk_at dksX1_isSame_0 10 rfl rfl)
theorem dX1_isSame_11 : decode cX1_isSame 11 = .ok (.istore_n 2, 1) := dk_61 (dk_at dksX1_isSame_0 11 rfl rfl)
theorem dX1_isSame_12 : decode cX1_isSame 12 = .ok (.iconst 0, 1) := dk_3 (dk_at dksX1_isSame_0 12 rfl rfl)
theorem dX1_isSame_13 : decode cX1_isSame 13 = .ok (.istore_n 3, 1) := dk_62 (dk_at dksX1_isSame_0 13 rfl rfl)
theorem dX1_isSame_14 : decode cX1_isSame 14 = .ok (.iload_n 3, 1) := dk_29 (dk_at dksX1_isSame_0 14 rfl rfl)
theorem dX1_isSame_15 : decode cX1_isSame 15 = .ok (.aload_n 0, 1) := dk_42 (dk_at dksX1_isSame_0 15 rfl rfl)
theorem dX1_isSame_16 : decode cX1_isSame 16 = .ok (.getfield 80, 3) := dk_180 0 80 (dk_at dksX1_isSame_0 16 rfl rfl)
theorem dX1_isSame_19 : decode cX1_isSame 19 = .ok (.if_icmp .ge 37, 3) := dk_162 0 37 (dk_at dksX1_isSame_0 19 rfl rfl)
theorem dX1_isSame_22 : decode cX1_isSame 22 = .ok (.iload_n 2, 1) := dk_28 (dk_at dksX1_isSame_0 22 rfl rfl)
theorem dX1_isSame_23 : decode cX1_isSame 23 = .ok (.aload_n 0, 1) := dk_42 (dk_at dksX1_isSame_0 23 rfl rfl)
theorem dX1_isSame_24 : decode cX1_isSame 24 = .ok (.getfield 19, 3) := dk_180 0 19 (dk_at dksX1_isSame_1 0 rfl rfl)
theorem dX1_isSame_27 : decode cX1_isSame 27 = .ok (.iload_n 1, 1) := dk_27 (dk_at dksX1_isSame_1 3 rfl rfl)
theorem dX1_isSame_28 : decode cX1_isSame 28 = .ok (.iaload, 1) := dk_46 (dk_at dksX1_isSame_1 4 rfl rfl)
theorem dX1_isSame_29 : decode cX1_isSame 29 = .ok (.iload_n 3, 1) := dk_29 (dk_at dksX1_isSame_1 5 rfl rfl)
theorem dX1_isSame_30 : decode cX1_isSame 30 = .ok (.invokestatic 87, 3) := dk_184 0 87 (dk_at dksX1_isSame_1 6 rfl rfl)
theorem dX1_isSame_33 : decode cX1_isSame 33 = .ok (.ifCond .eq 14, 3) := dk_153 0 14 (dk_at dksX1_isSame_1 9 rfl rfl)
theorem dX1_isSame_36 : decode cX1_isSame 36 = .ok (.iconst 1, 1) := dk_4 (dk_at dksX1_isSame_1 12 rfl rfl)
theorem dX1_isSame_37 : decode cX1_isSame 37 = .ok (.aload_n 0, 1) := dk_42 (dk_at dksX1_isSame_1 13 rfl rfl)
theorem dX1_isSame_38 : decode cX1_isSame 38 = .ok (.getfield 52, 3) := dk_180 0 52 (dk_at dksX1_isSame_1 14 rfl rfl)
theorem dX1_isSame_41 : decode cX1_isSame 41 = .ok (.iload_n 3, 1) := dk_29 (dk_at dksX1_isSame_1 17 rfl rfl)
theorem dX1_isSame_42 : decode cX1_isSame 42 = .ok (.iaload, 1) := dk_46 (dk_at dksX1_isSame_1 18 rfl rfl)
theorem dX1_isSame_43 : decode cX1_isSame 43 = .ok (.ishl, 1) := dk_120 (dk_at dksX1_isSame_1 19 rfl rfl)
theorem dX1_isSame_44 : decode cX1_isSame 44 = .ok (.goto 4, 3) := dk_167 0 4 (dk_at dksX1_isSame_1 20 rfl rfl)
theorem dX1_isSame_47 : decode cX1_isSame 47 = .ok (.iconst 0, 1) := dk_3 (dk_at dksX1_isSame_1 23 rfl rfl)
theorem dX1_isSame_48 : decode cX1_isSame 48 = .ok (.ior, 1) := dk_128 (dk_at dksX1_isSame_2 0 rfl rfl)
theorem dX1_isSame_49 : decode cX1_isSame 49 = .ok (.istore_n 2, 1) := dk_61 (dk_at dksX1_isSame_2 1 rfl rfl)
theorem dX1_isSame_50 : decode cX1_isSame 50 = .ok (.iinc 3 1, 3) := dk_132 3 1 (dk_at dksX1_isSame_2 2 rfl rfl)
theorem dX1_isSame_53 : decode cX1_isSame 53 = .ok (.goto (-39), 3) := dk_167 255 217 (dk_at dksX1_isSame_2 5 rfl rfl)
theorem dX1_isSame_56 : decode cX1_isSame 56 = .ok (.iload_n 2, 1) := dk_28 (dk_at dksX1_isSame_2 8 rfl rfl)
theorem dX1_isSame_57 : decode cX1_isSame 57 = .ok (.aload_n 0, 1) := dk_42 (dk_at dksX1_isSame_2 9 rfl rfl)
theorem dX1_isSame_58 : decode cX1_isSame 58 = .ok (.getfield 19, 3) := dk_180 0 19 (dk_at dksX1_isSame_2 10 rfl rfl)
theorem dX1_isSame_61 : decode cX1_isSame 61 = .ok (.aload_n 0, 1) := dk_42 (dk_at dksX1_isSame_2 13 rfl rfl)
theorem dX1_isSame_62 : decode cX1_isSame 62 = .ok (.getfield 52, 3) := dk_180 0 52 (dk_at dksX1_isSame_2 14 rfl rfl)
theorem dX1_isSame_65 : decode cX1_isSame 65 = .ok (.iload_n 1, 1) := dk_27 (dk_at dksX1_isSame_2 17 rfl rfl)
theorem dX1_isSame_66 : decode cX1_isSame 66 = .ok (.iaload, 1) := dk_46 (dk_at dksX1_isSame_2 18 rfl rfl)
theorem dX1_isSame_67 : decode cX1_isSame 67 = .ok (.iaload, 1) := dk_46 (dk_at dksX1_isSame_2 19 rfl rfl)
theorem dX1_isSame_68 : decode cX1_isSame 68 = .ok (.if_icmp .eq 5, 3) := dk_159 0 5 (dk_at dksX1_isSame_2 20 rfl rfl)
theorem dX1_isSame_71 : decode cX1_isSame 71 = .ok (.iconst 0, 1) := dk_3 (dk_at dksX1_isSame_2 23 rfl rfl)
theorem dX1_isSame_72 : decode cX1_isSame 72 = .ok (.ireturn, 1) := dk_172 (dk_at dksX1_isSame_3 0 rfl rfl)
theorem dX1_isSame_73 : decode cX1_isSame 73 = .ok (.iinc 1 1, 3) := dk_132 1 1 (dk_at dksX1_isSame_3 1 rfl rfl)
theorem dX1_isSame_76 : decode cX1_isSame 76 = .ok (.goto (-74), 3) := dk_167 255 182 (dk_at dksX1_isSame_3 4 rfl rfl)
theorem dX1_isSame_79 : decode cX1_isSame 79 = .ok (.iconst 1, 1) := dk_4 (dk_at dksX1_isSame_3 7 rfl rfl)
theorem dX1_isSame_80 : decode cX1_isSame 80 = .ok (.ireturn, 1) := dk_172 (dk_at dksX1_isSame_3 8 rfl rfl)
abbrev cX1_pairs : ByteArray := prog_15_method_47_code
def yX1_pairs : MethodName := ⟨RX1, "pairs", "()I"⟩
def dkwX1_pairs_5 : List UInt8 := [164, 0, 10, 29, 184, 0, 140, 167, 0, 4, 28, 61, 132, 3, 1, 167, 255, 142, 28, 172]
abbrev dktX1_pairs_5 : List UInt8 := dkwX1_pairs_5 ++ []
def dkwX1_pairs_4 : List UInt8 := [21, 4, 21, 7, 128, 54, 4, 132, 6, 1, 167, 255, 186, 21, 5, 153, 0, 18, 29, 184, 0, 140, 28]
abbrev dktX1_pairs_4 : List UInt8 := dkwX1_pairs_4 ++ dktX1_pairs_5
def dkwX1_pairs_3 : List UInt8 := [46, 120, 128, 167, 0, 4, 3, 54, 7, 21, 4, 21, 7, 126, 154, 0, 7, 4, 167, 0, 4, 3, 54, 5]
abbrev dktX1_pairs_3 : List UInt8 := dkwX1_pairs_3 ++ dktX1_pairs_4
def dkwX1_pairs_2 : List UInt8 := [21, 6, 184, 0, 87, 153, 0, 25, 4, 42, 180, 0, 55, 21, 6, 46, 120, 4, 42, 180, 0, 58, 21, 6]
abbrev dktX1_pairs_2 : List UInt8 := dkwX1_pairs_2 ++ dktX1_pairs_3
def dkwX1_pairs_1 : List UInt8 := [162, 0, 113, 3, 54, 4, 4, 54, 5, 3, 54, 6, 21, 6, 27, 162, 0, 70, 21, 5, 153, 0, 65, 29]
abbrev dktX1_pairs_1 : List UInt8 := dkwX1_pairs_1 ++ dktX1_pairs_2
def dkwX1_pairs_0 : List UInt8 := [42, 180, 0, 80, 154, 0, 6, 16, 253, 172, 42, 182, 0, 195, 60, 3, 61, 3, 62, 29, 4, 27, 120]
abbrev dktX1_pairs_0 : List UInt8 := dkwX1_pairs_0 ++ dktX1_pairs_1
theorem dksX1_pairs_0 : cX1_pairs.data.toList.drop 0 = dktX1_pairs_0 := by decide +kernel
theorem dksX1_pairs_1 : cX1_pairs.data.toList.drop 23 = dktX1_pairs_1 := dk_seg dksX1_pairs_0 23 rfl rfl
theorem dksX1_pairs_2 : cX1_pairs.data.toList.drop 47 = dktX1_pairs_2 := dk_seg dksX1_pairs_1 24 rfl rfl
theorem dksX1_pairs_3 : cX1_pairs.data.toList.drop 71 = dktX1_pairs_3 := dk_seg dksX1_pairs_2 24 rfl rfl
theorem dksX1_pairs_4 : cX1_pairs.data.toList.drop 95 = dktX1_pairs_4 := dk_seg dksX1_pairs_3 24 rfl rfl
theorem dksX1_pairs_5 : cX1_pairs.data.toList.drop 118 = dktX1_pairs_5 := dk_seg dksX1_pairs_4 23 rfl rfl
theorem dX1_pairs_0 : decode cX1_pairs 0 = .ok (.aload_n 0, 1) := dk_42 (dk_at dksX1_pairs_0 0 rfl rfl)
theorem dX1_pairs_1 : decode cX1_pairs 1 = .ok (.getfield 80, 3) := dk_180 0 80 (dk_at dksX1_pairs_0 1 rfl rfl)
theorem dX1_pairs_4 : decode cX1_pairs 4 = .ok (.ifCond .ne 6, 3) := dk_154 0 6 (dk_at dksX1_pairs_0 4 rfl rfl)
theorem dX1_pairs_7 : decode cX1_pairs 7 = .ok (.bipush (-3), 2) := dk_16 253 (dk_at dksX1_pairs_0 7 rfl rfl)
theorem dX1_pairs_9 : decode cX1_pairs 9 = .ok (.ireturn, 1) := dk_172 (dk_at dksX1_pairs_0 9 rfl rfl)
theorem dX1_pairs_10 : decode cX1_pairs 10 = .ok (.aload_n 0, 1) := dk_42 (dk_at dksX1_pairs_0 10 rfl rfl)
theorem dX1_pairs_11 : decode cX1_pairs 11 = .ok (.invokevirtual 195, 3) := dk_182 0 195 (dk_at dksX1_pairs_0 11 rfl rfl)
theorem dX1_pairs_14 : decode cX1_pairs 14 = .ok (.istore_n 1, 1) := dk_60 (dk_at dksX1_pairs_0 14 rfl rfl)
theorem dX1_pairs_15 : decode cX1_pairs 15 = .ok (.iconst 0, 1) := dk_3 (dk_at dksX1_pairs_0 15 rfl rfl)
theorem dX1_pairs_16 : decode cX1_pairs 16 = .ok (.istore_n 2, 1) := dk_61 (dk_at dksX1_pairs_0 16 rfl rfl)
theorem dX1_pairs_17 : decode cX1_pairs 17 = .ok (.iconst 0, 1) := dk_3 (dk_at dksX1_pairs_0 17 rfl rfl)
theorem dX1_pairs_18 : decode cX1_pairs 18 = .ok (.istore_n 3, 1) := dk_62 (dk_at dksX1_pairs_0 18 rfl rfl)
theorem dX1_pairs_19 : decode cX1_pairs 19 = .ok (.iload_n 3, 1) := dk_29 (dk_at dksX1_pairs_0 19 rfl rfl)
theorem dX1_pairs_20 : decode cX1_pairs 20 = .ok (.iconst 1, 1) := dk_4 (dk_at dksX1_pairs_0 20 rfl rfl)
theorem dX1_pairs_21 : decode cX1_pairs 21 = .ok (.iload_n 1, 1) := dk_27 (dk_at dksX1_pairs_0 21 rfl rfl)
theorem dX1_pairs_22 : decode cX1_pairs 22 = .ok (.ishl, 1) := dk_120 (dk_at dksX1_pairs_0 22 rfl rfl)
theorem dX1_pairs_23 : decode cX1_pairs 23 = .ok (.if_icmp .ge 113, 3) := dk_162 0 113 (dk_at dksX1_pairs_1 0 rfl rfl)
theorem dX1_pairs_26 : decode cX1_pairs 26 = .ok (.iconst 0, 1) := dk_3 (dk_at dksX1_pairs_1 3 rfl rfl)
theorem dX1_pairs_27 : decode cX1_pairs 27 = .ok (.istore 4, 2) := dk_54 4 (dk_at dksX1_pairs_1 4 rfl rfl)
theorem dX1_pairs_29 : decode cX1_pairs 29 = .ok (.iconst 1, 1) := dk_4 (dk_at dksX1_pairs_1 6 rfl rfl)
theorem dX1_pairs_30 : decode cX1_pairs 30 = .ok (.istore 5, 2) := dk_54 5 (dk_at dksX1_pairs_1 7 rfl rfl)
theorem dX1_pairs_32 : decode cX1_pairs 32 = .ok (.iconst 0, 1) := dk_3 (dk_at dksX1_pairs_1 9 rfl rfl)
theorem dX1_pairs_33 : decode cX1_pairs 33 = .ok (.istore 6, 2) := dk_54 6 (dk_at dksX1_pairs_1 10 rfl rfl)
theorem dX1_pairs_35 : decode cX1_pairs 35 = .ok (.iload 6, 2) := dk_21 6 (dk_at dksX1_pairs_1 12 rfl rfl)
theorem dX1_pairs_37 : decode cX1_pairs 37 = .ok (.iload_n 1, 1) := dk_27 (dk_at dksX1_pairs_1 14 rfl rfl)
theorem dX1_pairs_38 : decode cX1_pairs 38 = .ok (.if_icmp .ge 70, 3) := dk_162 0 70 (dk_at dksX1_pairs_1 15 rfl rfl)
theorem dX1_pairs_41 : decode cX1_pairs 41 = .ok (.iload 5, 2) := dk_21 5 (dk_at dksX1_pairs_1 18 rfl rfl)
theorem dX1_pairs_43 : decode cX1_pairs 43 = .ok (.ifCond .eq 65, 3) := dk_153 0 65 (dk_at dksX1_pairs_1 20 rfl rfl)
theorem dX1_pairs_46 : decode cX1_pairs 46 = .ok (.iload_n 3, 1) := dk_29 (dk_at dksX1_pairs_1 23 rfl rfl)
theorem dX1_pairs_47 : decode cX1_pairs 47 = .ok (.iload 6, 2) := dk_21 6 (dk_at dksX1_pairs_2 0 rfl rfl)
theorem dX1_pairs_49 : decode cX1_pairs 49 = .ok (.invokestatic 87, 3) := dk_184 0 87 (dk_at dksX1_pairs_2 2 rfl rfl)
theorem dX1_pairs_52 : decode cX1_pairs 52 = .ok (.ifCond .eq 25, 3) := dk_153 0 25 (dk_at dksX1_pairs_2 5 rfl rfl)
theorem dX1_pairs_55 : decode cX1_pairs 55 = .ok (.iconst 1, 1) := dk_4 (dk_at dksX1_pairs_2 8 rfl rfl)
theorem dX1_pairs_56 : decode cX1_pairs 56 = .ok (.aload_n 0, 1) := dk_42 (dk_at dksX1_pairs_2 9 rfl rfl)
theorem dX1_pairs_57 : decode cX1_pairs 57 = .ok (.getfield 55, 3) := dk_180 0 55 (dk_at dksX1_pairs_2 10 rfl rfl)
theorem dX1_pairs_60 : decode cX1_pairs 60 = .ok (.iload 6, 2) := dk_21 6 (dk_at dksX1_pairs_2 13 rfl rfl)
theorem dX1_pairs_62 : decode cX1_pairs 62 = .ok (.iaload, 1) := dk_46 (dk_at dksX1_pairs_2 15 rfl rfl)
theorem dX1_pairs_63 : decode cX1_pairs 63 = .ok (.ishl, 1) := dk_120 (dk_at dksX1_pairs_2 16 rfl rfl)
theorem dX1_pairs_64 : decode cX1_pairs 64 = .ok (.iconst 1, 1) := dk_4 (dk_at dksX1_pairs_2 17 rfl rfl)
theorem dX1_pairs_65 : decode cX1_pairs 65 = .ok (.aload_n 0, 1) := dk_42 (dk_at dksX1_pairs_2 18 rfl rfl)
theorem dX1_pairs_66 : decode cX1_pairs 66 = .ok (.getfield 58, 3) := dk_180 0 58 (dk_at dksX1_pairs_2 19 rfl rfl)
theorem dX1_pairs_69 : decode cX1_pairs 69 = .ok (.iload 6, 2) := dk_21 6 (dk_at dksX1_pairs_2 22 rfl rfl)
theorem dX1_pairs_71 : decode cX1_pairs 71 = .ok (.iaload, 1) := dk_46 (dk_at dksX1_pairs_3 0 rfl rfl)
theorem dX1_pairs_72 : decode cX1_pairs 72 = .ok (.ishl, 1) := dk_120 (dk_at dksX1_pairs_3 1 rfl rfl)
theorem dX1_pairs_73 : decode cX1_pairs 73 = .ok (.ior, 1) := dk_128 (dk_at dksX1_pairs_3 2 rfl rfl)
theorem dX1_pairs_74 : decode cX1_pairs 74 = .ok (.goto 4, 3) := dk_167 0 4 (dk_at dksX1_pairs_3 3 rfl rfl)
theorem dX1_pairs_77 : decode cX1_pairs 77 = .ok (.iconst 0, 1) := dk_3 (dk_at dksX1_pairs_3 6 rfl rfl)
theorem dX1_pairs_78 : decode cX1_pairs 78 = .ok (.istore 7, 2) := dk_54 7 (dk_at dksX1_pairs_3 7 rfl rfl)
theorem dX1_pairs_80 : decode cX1_pairs 80 = .ok (.iload 4, 2) := dk_21 4 (dk_at dksX1_pairs_3 9 rfl rfl)
theorem dX1_pairs_82 : decode cX1_pairs 82 = .ok (.iload 7, 2) := dk_21 7 (dk_at dksX1_pairs_3 11 rfl rfl)
theorem dX1_pairs_84 : decode cX1_pairs 84 = .ok (.iand, 1) := dk_126 (dk_at dksX1_pairs_3 13 rfl rfl)
theorem dX1_pairs_85 : decode cX1_pairs 85 = .ok (.ifCond .ne 7, 3) := dk_154 0 7 (dk_at dksX1_pairs_3 14 rfl rfl)
theorem dX1_pairs_88 : decode cX1_pairs 88 = .ok (.iconst 1, 1) := dk_4 (dk_at dksX1_pairs_3 17 rfl rfl)
theorem dX1_pairs_89 : decode cX1_pairs 89 = .ok (.goto 4, 3) := dk_167 0 4 (dk_at dksX1_pairs_3 18 rfl rfl)
theorem dX1_pairs_92 : decode cX1_pairs 92 = .ok (.iconst 0, 1) := dk_3 (dk_at dksX1_pairs_3 21 rfl rfl)
theorem dX1_pairs_93 : decode cX1_pairs 93 = .ok (.istore 5, 2) := dk_54 5 (dk_at dksX1_pairs_3 22 rfl rfl)
theorem dX1_pairs_95 : decode cX1_pairs 95 = .ok (.iload 4, 2) := dk_21 4 (dk_at dksX1_pairs_4 0 rfl rfl)
theorem dX1_pairs_97 : decode cX1_pairs 97 = .ok (.iload 7, 2) := dk_21 7 (dk_at dksX1_pairs_4 2 rfl rfl)
theorem dX1_pairs_99 : decode cX1_pairs 99 = .ok (.ior, 1) := dk_128 (dk_at dksX1_pairs_4 4 rfl rfl)
theorem dX1_pairs_100 : decode cX1_pairs 100 = .ok (.istore 4, 2) := dk_54 4 (dk_at dksX1_pairs_4 5 rfl rfl)
theorem dX1_pairs_102 : decode cX1_pairs 102 = .ok (.iinc 6 1, 3) := dk_132 6 1 (dk_at dksX1_pairs_4 7 rfl rfl)
theorem dX1_pairs_105 : decode cX1_pairs 105 = .ok (.goto (-70), 3) := dk_167 255 186 (dk_at dksX1_pairs_4 10 rfl rfl)
theorem dX1_pairs_108 : decode cX1_pairs 108 = .ok (.iload 5, 2) := dk_21 5 (dk_at dksX1_pairs_4 13 rfl rfl)
theorem dX1_pairs_110 : decode cX1_pairs 110 = .ok (.ifCond .eq 18, 3) := dk_153 0 18 (dk_at dksX1_pairs_4 15 rfl rfl)
theorem dX1_pairs_113 : decode cX1_pairs 113 = .ok (.iload_n 3, 1) := dk_29 (dk_at dksX1_pairs_4 18 rfl rfl)
theorem dX1_pairs_114 : decode cX1_pairs 114 = .ok (.invokestatic 140, 3) := dk_184 0 140 (dk_at dksX1_pairs_4 19 rfl rfl)
theorem dX1_pairs_117 : decode cX1_pairs 117 = .ok (.iload_n 2, 1) := dk_28 (dk_at dksX1_pairs_4 22 rfl rfl)
theorem dX1_pairs_118 : decode cX1_pairs 118 = .ok (.if_icmp .le 10, 3) := dk_164 0 10 (dk_at dksX1_pairs_5 0 rfl rfl)
theorem dX1_pairs_121 : decode cX1_pairs 121 = .ok (.iload_n 3, 1) := dk_29 (dk_at dksX1_pairs_5 3 rfl rfl)
theorem dX1_pairs_122 : decode cX1_pairs 122 = .ok (.invokestatic 140, 3) := dk_184 0 140 (dk_at dksX1_pairs_5 4 rfl rfl)
theorem dX1_pairs_125 : decode cX1_pairs 125 = .ok (.goto 4, 3) := dk_167 0 4 (dk_at dksX1_pairs_5 7 rfl rfl)
theorem dX1_pairs_128 : decode cX1_pairs 128 = .ok (.iload_n 2, 1) := dk_28 (dk_at dksX1_pairs_5 10 rfl rfl)
theorem dX1_pairs_129 : decode cX1_pairs 129 = .ok (.istore_n 2, 1) := dk_61 (dk_at dksX1_pairs_5 11 rfl rfl)
theorem dX1_pairs_130 : decode cX1_pairs 130 = .ok (.iinc 3 1, 3) := dk_132 3 1 (dk_at dksX1_pairs_5 12 rfl rfl)
theorem dX1_pairs_133 : decode cX1_pairs 133 = .ok (.goto (-114), 3) := dk_167 255 142 (dk_at dksX1_pairs_5 15 rfl rfl)
theorem dX1_pairs_136 : decode cX1_pairs 136 = .ok (.iload_n 2, 1) := dk_28 (dk_at dksX1_pairs_5 18 rfl rfl)
theorem dX1_pairs_137 : decode cX1_pairs 137 = .ok (.ireturn, 1) := dk_172 (dk_at dksX1_pairs_5 19 rfl rfl)
abbrev cX1_findTwigs : ByteArray := prog_15_method_46_code
def yX1_findTwigs : MethodName := ⟨RX1, "findTwigs", "()I"⟩
def dkwX1_findTwigs_2 : List UInt8 := [27, 29, 79, 132, 1, 1, 132, 3, 1, 167, 255, 215, 132, 2, 1, 167, 255, 197, 27, 172]
abbrev dktX1_findTwigs_2 : List UInt8 := dkwX1_findTwigs_2 ++ []
def dkwX1_findTwigs_1 : List UInt8 := [42, 180, 0, 19, 28, 46, 29, 184, 0, 87, 153, 0, 20, 42, 180, 0, 55, 27, 28, 79, 42, 180, 0, 58]
abbrev dktX1_findTwigs_1 : List UInt8 := dkwX1_findTwigs_1 ++ dktX1_findTwigs_2
def dkwX1_findTwigs_0 : List UInt8 := [3, 60, 3, 61, 28, 42, 180, 0, 80, 162, 0, 57, 28, 4, 96, 62, 29, 42, 180, 0, 80, 162, 0, 39]
abbrev dktX1_findTwigs_0 : List UInt8 := dkwX1_findTwigs_0 ++ dktX1_findTwigs_1
theorem dksX1_findTwigs_0 : cX1_findTwigs.data.toList.drop 0 = dktX1_findTwigs_0 := by decide +kernel
theorem dksX1_findTwigs_1 : cX1_findTwigs.data.toList.drop 24 = dktX1_findTwigs_1 := dk_seg dksX1_findTwigs_0 24 rfl rfl
theorem dksX1_findTwigs_2 : cX1_findTwigs.data.toList.drop 48 = dktX1_findTwigs_2 := dk_seg dksX1_findTwigs_1 24 rfl rfl
theorem dX1_findTwigs_0 : decode cX1_findTwigs 0 = .ok (.iconst 0, 1) := dk_3 (dk_at dksX1_findTwigs_0 0 rfl rfl)
theorem dX1_findTwigs_1 : decode cX1_findTwigs 1 = .ok (.istore_n 1, 1) := dk_60 (dk_at dksX1_findTwigs_0 1 rfl rfl)
theorem dX1_findTwigs_2 : decode cX1_findTwigs 2 = .ok (.iconst 0, 1) := dk_3 (dk_at dksX1_findTwigs_0 2 rfl rfl)
theorem dX1_findTwigs_3 : decode cX1_findTwigs 3 = .ok (.istore_n 2, 1) := dk_61 (dk_at dksX1_findTwigs_0 3 rfl rfl)
theorem dX1_findTwigs_4 : decode cX1_findTwigs 4 = .ok (.iload_n 2, 1) := dk_28 (dk_at dksX1_findTwigs_0 4 rfl rfl)
theorem dX1_findTwigs_5 : decode cX1_findTwigs 5 = .ok (.aload_n 0, 1) := dk_42 (dk_at dksX1_findTwigs_0 5 rfl rfl)
theorem dX1_findTwigs_6 : decode cX1_findTwigs 6 = .ok (.getfield 80, 3) := dk_180 0 80 (dk_at dksX1_findTwigs_0 6 rfl rfl)
theorem dX1_findTwigs_9 : decode cX1_findTwigs 9 = .ok (.if_icmp .ge 57, 3) := dk_162 0 57 (dk_at dksX1_findTwigs_0 9 rfl rfl)
theorem dX1_findTwigs_12 : decode cX1_findTwigs 12 = .ok (.iload_n 2, 1) := dk_28 (dk_at dksX1_findTwigs_0 12 rfl rfl)
theorem dX1_findTwigs_13 : decode cX1_findTwigs 13 = .ok (.iconst 1, 1) := dk_4 (dk_at dksX1_findTwigs_0 13 rfl rfl)
theorem dX1_findTwigs_14 : decode cX1_findTwigs 14 = .ok (.iadd, 1) := dk_96 (dk_at dksX1_findTwigs_0 14 rfl rfl)
theorem dX1_findTwigs_15 : decode cX1_findTwigs 15 = .ok (.istore_n 3, 1) := dk_62 (dk_at dksX1_findTwigs_0 15 rfl rfl)
theorem dX1_findTwigs_16 : decode cX1_findTwigs 16 = .ok (.iload_n 3, 1) := dk_29 (dk_at dksX1_findTwigs_0 16 rfl rfl)
theorem dX1_findTwigs_17 : decode cX1_findTwigs 17 = .ok (.aload_n 0, 1) := dk_42 (dk_at dksX1_findTwigs_0 17 rfl rfl)
theorem dX1_findTwigs_18 : decode cX1_findTwigs 18 = .ok (.getfield 80, 3) := dk_180 0 80 (dk_at dksX1_findTwigs_0 18 rfl rfl)
theorem dX1_findTwigs_21 : decode cX1_findTwigs 21 = .ok (.if_icmp .ge 39, 3) := dk_162 0 39 (dk_at dksX1_findTwigs_0 21 rfl rfl)
theorem dX1_findTwigs_24 : decode cX1_findTwigs 24 = .ok (.aload_n 0, 1) := dk_42 (dk_at dksX1_findTwigs_1 0 rfl rfl)
theorem dX1_findTwigs_25 : decode cX1_findTwigs 25 = .ok (.getfield 19, 3) := dk_180 0 19 (dk_at dksX1_findTwigs_1 1 rfl rfl)
theorem dX1_findTwigs_28 : decode cX1_findTwigs 28 = .ok (.iload_n 2, 1) := dk_28 (dk_at dksX1_findTwigs_1 4 rfl rfl)
theorem dX1_findTwigs_29 : decode cX1_findTwigs 29 = .ok (.iaload, 1) := dk_46 (dk_at dksX1_findTwigs_1 5 rfl rfl)
theorem dX1_findTwigs_30 : decode cX1_findTwigs 30 = .ok (.iload_n 3, 1) := dk_29 (dk_at dksX1_findTwigs_1 6 rfl rfl)
theorem dX1_findTwigs_31 : decode cX1_findTwigs 31 = .ok (.invokestatic 87, 3) := dk_184 0 87 (dk_at dksX1_findTwigs_1 7 rfl rfl)
theorem dX1_findTwigs_34 : decode cX1_findTwigs 34 = .ok (.ifCond .eq 20, 3) := dk_153 0 20 (dk_at dksX1_findTwigs_1 10 rfl rfl)
theorem dX1_findTwigs_37 : decode cX1_findTwigs 37 = .ok (.aload_n 0, 1) := dk_42 (dk_at dksX1_findTwigs_1 13 rfl rfl)
theorem dX1_findTwigs_38 : decode cX1_findTwigs 38 = .ok (.getfield 55, 3) := dk_180 0 55 (dk_at dksX1_findTwigs_1 14 rfl rfl)
theorem dX1_findTwigs_41 : decode cX1_findTwigs 41 = .ok (.iload_n 1, 1) := dk_27 (dk_at dksX1_findTwigs_1 17 rfl rfl)
theorem dX1_findTwigs_42 : decode cX1_findTwigs 42 = .ok (.iload_n 2, 1) := dk_28 (dk_at dksX1_findTwigs_1 18 rfl rfl)
theorem dX1_findTwigs_43 : decode cX1_findTwigs 43 = .ok (.iastore, 1) := dk_79 (dk_at dksX1_findTwigs_1 19 rfl rfl)
theorem dX1_findTwigs_44 : decode cX1_findTwigs 44 = .ok (.aload_n 0, 1) := dk_42 (dk_at dksX1_findTwigs_1 20 rfl rfl)
theorem dX1_findTwigs_45 : decode cX1_findTwigs 45 = .ok (.getfield 58, 3) := dk_180 0 58 (dk_at dksX1_findTwigs_1 21 rfl rfl)
theorem dX1_findTwigs_48 : decode cX1_findTwigs 48 = .ok (.iload_n 1, 1) := dk_27 (dk_at dksX1_findTwigs_2 0 rfl rfl)
theorem dX1_findTwigs_49 : decode cX1_findTwigs 49 = .ok (.iload_n 3, 1) := dk_29 (dk_at dksX1_findTwigs_2 1 rfl rfl)
theorem dX1_findTwigs_50 : decode cX1_findTwigs 50 = .ok (.iastore, 1) := dk_79 (dk_at dksX1_findTwigs_2 2 rfl rfl)
theorem dX1_findTwigs_51 : decode cX1_findTwigs 51 = .ok (.iinc 1 1, 3) := dk_132 1 1 (dk_at dksX1_findTwigs_2 3 rfl rfl)
theorem dX1_findTwigs_54 : decode cX1_findTwigs 54 = .ok (.iinc 3 1, 3) := dk_132 3 1 (dk_at dksX1_findTwigs_2 6 rfl rfl)
theorem dX1_findTwigs_57 : decode cX1_findTwigs 57 = .ok (.goto (-41), 3) := dk_167 255 215 (dk_at dksX1_findTwigs_2 9 rfl rfl)
theorem dX1_findTwigs_60 : decode cX1_findTwigs 60 = .ok (.iinc 2 1, 3) := dk_132 2 1 (dk_at dksX1_findTwigs_2 12 rfl rfl)
theorem dX1_findTwigs_63 : decode cX1_findTwigs 63 = .ok (.goto (-59), 3) := dk_167 255 197 (dk_at dksX1_findTwigs_2 15 rfl rfl)
theorem dX1_findTwigs_66 : decode cX1_findTwigs 66 = .ok (.iload_n 1, 1) := dk_27 (dk_at dksX1_findTwigs_2 18 rfl rfl)
theorem dX1_findTwigs_67 : decode cX1_findTwigs 67 = .ok (.ireturn, 1) := dk_172 (dk_at dksX1_findTwigs_2 19 rfl rfl)
abbrev cX1_loners : ByteArray := prog_15_method_48_code
def yX1_loners : MethodName := ⟨RX1, "loners", "(I)I"⟩
def dkwX1_loners_5 : List UInt8 := [167, 255, 167, 27, 154, 0, 7, 29, 167, 0, 4, 28, 172]
abbrev dktX1_loners_5 : List UInt8 := dkwX1_loners_5 ++ []
def dkwX1_loners_4 : List UInt8 := [42, 21, 4, 182, 0, 181, 29, 164, 0, 13, 21, 4, 61, 42, 21, 4, 182, 0, 181, 62, 132, 4, 1]
abbrev dktX1_loners_4 : List UInt8 := dkwX1_loners_4 ++ dktX1_loners_5
def dkwX1_loners_3 : List UInt8 := [21, 6, 46, 167, 0, 4, 3, 128, 54, 5, 132, 6, 1, 167, 255, 218, 21, 5, 21, 4, 126, 154, 0, 23]
abbrev dktX1_loners_3 : List UInt8 := dkwX1_loners_3 ++ dktX1_loners_4
def dkwX1_loners_2 : List UInt8 := [42, 180, 0, 80, 162, 0, 35, 21, 5, 21, 4, 21, 6, 184, 0, 87, 153, 0, 13, 42, 180, 0, 19]
abbrev dktX1_loners_2 : List UInt8 := dkwX1_loners_2 ++ dktX1_loners_3
def dkwX1_loners_1 : List UInt8 := [3, 62, 3, 54, 4, 21, 4, 4, 42, 180, 0, 80, 120, 162, 0, 84, 3, 54, 5, 3, 54, 6, 21, 6]
abbrev dktX1_loners_1 : List UInt8 := dkwX1_loners_1 ++ dktX1_loners_2
def dkwX1_loners_0 : List UInt8 := [27, 3, 4, 184, 0, 76, 154, 0, 6, 16, 254, 172, 42, 180, 0, 80, 154, 0, 6, 16, 253, 172, 3, 61]
abbrev dktX1_loners_0 : List UInt8 := dkwX1_loners_0 ++ dktX1_loners_1
theorem dksX1_loners_0 : cX1_loners.data.toList.drop 0 = dktX1_loners_0 := by decide +kernel
theorem dksX1_loners_1 : cX1_loners.data.toList.drop 24 = dktX1_loners_1 := dk_seg dksX1_loners_0 24 rfl rfl
theorem dksX1_loners_2 : cX1_loners.data.toList.drop 48 = dktX1_loners_2 := dk_seg dksX1_loners_1 24 rfl rfl
theorem dksX1_loners_3 : cX1_loners.data.toList.drop 71 = dktX1_loners_3 := dk_seg dksX1_loners_2 23 rfl rfl
theorem dksX1_loners_4 : cX1_loners.data.toList.drop 95 = dktX1_loners_4 := dk_seg dksX1_loners_3 24 rfl rfl
theorem dksX1_loners_5 : cX1_loners.data.toList.drop 118 = dktX1_loners_5 := dk_seg dksX1_loners_4 23 rfl rfl
theorem dX1_loners_0 : decode cX1_loners 0 = .ok (.iload_n 1, 1) := dk_27 (dk_at dksX1_loners_0 0 rfl rfl)
theorem dX1_loners_1 : decode cX1_loners 1 = .ok (.iconst 0, 1) := dk_3 (dk_at dksX1_loners_0 1 rfl rfl)
theorem dX1_loners_2 : decode cX1_loners 2 = .ok (.iconst 1, 1) := dk_4 (dk_at dksX1_loners_0 2 rfl rfl)
theorem dX1_loners_3 : decode cX1_loners 3 = .ok (.invokestatic 76, 3) := dk_184 0 76 (dk_at dksX1_loners_0 3 rfl rfl)
theorem dX1_loners_6 : decode cX1_loners 6 = .ok (.ifCond .ne 6, 3) := dk_154 0 6 (dk_at dksX1_loners_0 6 rfl rfl)
theorem dX1_loners_9 : decode cX1_loners 9 = .ok (.bipush (-2), 2) := dk_16 254 (dk_at dksX1_loners_0 9 rfl rfl)
theorem dX1_loners_11 : decode cX1_loners 11 = .ok (.ireturn, 1) := dk_172 (dk_at dksX1_loners_0 11 rfl rfl)
theorem dX1_loners_12 : decode cX1_loners 12 = .ok (.aload_n 0, 1) := dk_42 (dk_at dksX1_loners_0 12 rfl rfl)
theorem dX1_loners_13 : decode cX1_loners 13 = .ok (.getfield 80, 3) := dk_180 0 80 (dk_at dksX1_loners_0 13 rfl rfl)
theorem dX1_loners_16 : decode cX1_loners 16 = .ok (.ifCond .ne 6, 3) := dk_154 0 6 (dk_at dksX1_loners_0 16 rfl rfl)
theorem dX1_loners_19 : decode cX1_loners 19 = .ok (.bipush (-3), 2) := dk_16 253 (dk_at dksX1_loners_0 19 rfl rfl)
theorem dX1_loners_21 : decode cX1_loners 21 = .ok (.ireturn, 1) := dk_172 (dk_at dksX1_loners_0 21 rfl rfl)
theorem dX1_loners_22 : decode cX1_loners 22 = .ok (.iconst 0, 1) := dk_3 (dk_at dksX1_loners_0 22 rfl rfl)
theorem dX1_loners_23 : decode cX1_loners 23 = .ok (.istore_n 2, 1) := dk_61 (dk_at dksX1_loners_0 23 rfl rfl)
theorem dX1_loners_24 : decode cX1_loners 24 = .ok (.iconst 0, 1) := dk_3 (dk_at dksX1_loners_1 0 rfl rfl)
theorem dX1_loners_25 : decode cX1_loners 25 = .ok (.istore_n 3, 1) := dk_62 (dk_at dksX1_loners_1 1 rfl rfl)
theorem dX1_loners_26 : decode cX1_loners 26 = .ok (.iconst 0, 1) := dk_3 (dk_at dksX1_loners_1 2 rfl rfl)
theorem dX1_loners_27 : decode cX1_loners 27 = .ok (.istore 4, 2) := dk_54 4 (dk_at dksX1_loners_1 3 rfl rfl)
theorem dX1_loners_29 : decode cX1_loners 29 = .ok (.iload 4, 2) := dk_21 4 (dk_at dksX1_loners_1 5 rfl rfl)
theorem dX1_loners_31 : decode cX1_loners 31 = .ok (.iconst 1, 1) := dk_4 (dk_at dksX1_loners_1 7 rfl rfl)
theorem dX1_loners_32 : decode cX1_loners 32 = .ok (.aload_n 0, 1) := dk_42 (dk_at dksX1_loners_1 8 rfl rfl)
theorem dX1_loners_33 : decode cX1_loners 33 = .ok (.getfield 80, 3) := dk_180 0 80 (dk_at dksX1_loners_1 9 rfl rfl)
theorem dX1_loners_36 : decode cX1_loners 36 = .ok (.ishl, 1) := dk_120 (dk_at dksX1_loners_1 12 rfl rfl)
theorem dX1_loners_37 : decode cX1_loners 37 = .ok (.if_icmp .ge 84, 3) := dk_162 0 84 (dk_at dksX1_loners_1 13 rfl rfl)
theorem dX1_loners_40 : decode cX1_loners 40 = .ok (.iconst 0, 1) := dk_3 (dk_at dksX1_loners_1 16 rfl rfl)
theorem dX1_loners_41 : decode cX1_loners 41 = .ok (.istore 5, 2) := dk_54 5 (dk_at dksX1_loners_1 17 rfl rfl)
theorem dX1_loners_43 : decode cX1_loners 43 = .ok (.iconst 0, 1) := dk_3 (dk_at dksX1_loners_1 19 rfl rfl)
theorem dX1_loners_44 : decode cX1_loners 44 = .ok (.istore 6, 2) := dk_54 6 (dk_at dksX1_loners_1 20 rfl rfl)
theorem dX1_loners_46 : decode cX1_loners 46 = .ok (.iload 6, 2) := dk_21 6 (dk_at dksX1_loners_1 22 rfl rfl)
theorem dX1_loners_48 : decode cX1_loners 48 = .ok (.aload_n 0, 1) := dk_42 (dk_at dksX1_loners_2 0 rfl rfl)
theorem dX1_loners_49 : decode cX1_loners 49 = .ok (.getfield 80, 3) := dk_180 0 80 (dk_at dksX1_loners_2 1 rfl rfl)
theorem dX1_loners_52 : decode cX1_loners 52 = .ok (.if_icmp .ge 35, 3) := dk_162 0 35 (dk_at dksX1_loners_2 4 rfl rfl)
theorem dX1_loners_55 : decode cX1_loners 55 = .ok (.iload 5, 2) := dk_21 5 (dk_at dksX1_loners_2 7 rfl rfl)
theorem dX1_loners_57 : decode cX1_loners 57 = .ok (.iload 4, 2) := dk_21 4 (dk_at dksX1_loners_2 9 rfl rfl)
theorem dX1_loners_59 : decode cX1_loners 59 = .ok (.iload 6, 2) := dk_21 6 (dk_at dksX1_loners_2 11 rfl rfl)
theorem dX1_loners_61 : decode cX1_loners 61 = .ok (.invokestatic 87, 3) := dk_184 0 87 (dk_at dksX1_loners_2 13 rfl rfl)
theorem dX1_loners_64 : decode cX1_loners 64 = .ok (.ifCond .eq 13, 3) := dk_153 0 13 (dk_at dksX1_loners_2 16 rfl rfl)
theorem dX1_loners_67 : decode cX1_loners 67 = .ok (.aload_n 0, 1) := dk_42 (dk_at dksX1_loners_2 19 rfl rfl)
theorem dX1_loners_68 : decode cX1_loners 68 = .ok (.getfield 19, 3) := dk_180 0 19 (dk_at dksX1_loners_2 20 rfl rfl)
theorem dX1_loners_71 : decode cX1_loners 71 = .ok (.iload 6, 2) := dk_21 6 (dk_at dksX1_loners_3 0 rfl rfl)
theorem dX1_loners_73 : decode cX1_loners 73 = .ok (.iaload, 1) := dk_46 (dk_at dksX1_loners_3 2 rfl rfl)
theorem dX1_loners_74 : decode cX1_loners 74 = .ok (.goto 4, 3) := dk_167 0 4 (dk_at dksX1_loners_3 3 rfl rfl)
theorem dX1_loners_77 : decode cX1_loners 77 = .ok (.iconst 0, 1) := dk_3 (dk_at dksX1_loners_3 6 rfl rfl)
theorem dX1_loners_78 : decode cX1_loners 78 = .ok (.ior, 1) := dk_128 (dk_at dksX1_loners_3 7 rfl rfl)
theorem dX1_loners_79 : decode cX1_loners 79 = .ok (.istore 5, 2) := dk_54 5 (dk_at dksX1_loners_3 8 rfl rfl)
theorem dX1_loners_81 : decode cX1_loners 81 = .ok (.iinc 6 1, 3) := dk_132 6 1 (dk_at dksX1_loners_3 10 rfl rfl)
theorem dX1_loners_84 : decode cX1_loners 84 = .ok (.goto (-38), 3) := dk_167 255 218 (dk_at dksX1_loners_3 13 rfl rfl)
theorem dX1_loners_87 : decode cX1_loners 87 = .ok (.iload 5, 2) := dk_21 5 (dk_at dksX1_loners_3 16 rfl rfl)
theorem dX1_loners_89 : decode cX1_loners 89 = .ok (.iload 4, 2) := dk_21 4 (dk_at dksX1_loners_3 18 rfl rfl)
theorem dX1_loners_91 : decode cX1_loners 91 = .ok (.iand, 1) := dk_126 (dk_at dksX1_loners_3 20 rfl rfl)
theorem dX1_loners_92 : decode cX1_loners 92 = .ok (.ifCond .ne 23, 3) := dk_154 0 23 (dk_at dksX1_loners_3 21 rfl rfl)
theorem dX1_loners_95 : decode cX1_loners 95 = .ok (.aload_n 0, 1) := dk_42 (dk_at dksX1_loners_4 0 rfl rfl)
theorem dX1_loners_96 : decode cX1_loners 96 = .ok (.iload 4, 2) := dk_21 4 (dk_at dksX1_loners_4 1 rfl rfl)
theorem dX1_loners_98 : decode cX1_loners 98 = .ok (.invokevirtual 181, 3) := dk_182 0 181 (dk_at dksX1_loners_4 3 rfl rfl)
theorem dX1_loners_101 : decode cX1_loners 101 = .ok (.iload_n 3, 1) := dk_29 (dk_at dksX1_loners_4 6 rfl rfl)
theorem dX1_loners_102 : decode cX1_loners 102 = .ok (.if_icmp .le 13, 3) := dk_164 0 13 (dk_at dksX1_loners_4 7 rfl rfl)
theorem dX1_loners_105 : decode cX1_loners 105 = .ok (.iload 4, 2) := dk_21 4 (dk_at dksX1_loners_4 10 rfl rfl)
theorem dX1_loners_107 : decode cX1_loners 107 = .ok (.istore_n 2, 1) := dk_61 (dk_at dksX1_loners_4 12 rfl rfl)
theorem dX1_loners_108 : decode cX1_loners 108 = .ok (.aload_n 0, 1) := dk_42 (dk_at dksX1_loners_4 13 rfl rfl)
theorem dX1_loners_109 : decode cX1_loners 109 = .ok (.iload 4, 2) := dk_21 4 (dk_at dksX1_loners_4 14 rfl rfl)
theorem dX1_loners_111 : decode cX1_loners 111 = .ok (.invokevirtual 181, 3) := dk_182 0 181 (dk_at dksX1_loners_4 16 rfl rfl)
theorem dX1_loners_114 : decode cX1_loners 114 = .ok (.istore_n 3, 1) := dk_62 (dk_at dksX1_loners_4 19 rfl rfl)
theorem dX1_loners_115 : decode cX1_loners 115 = .ok (.iinc 4 1, 3) := dk_132 4 1 (dk_at dksX1_loners_4 20 rfl rfl)
theorem dX1_loners_118 : decode cX1_loners 118 = .ok (.goto (-89), 3) := dk_167 255 167 (dk_at dksX1_loners_5 0 rfl rfl)
theorem dX1_loners_121 : decode cX1_loners 121 = .ok (.iload_n 1, 1) := dk_27 (dk_at dksX1_loners_5 3 rfl rfl)
theorem dX1_loners_122 : decode cX1_loners 122 = .ok (.ifCond .ne 7, 3) := dk_154 0 7 (dk_at dksX1_loners_5 4 rfl rfl)
theorem dX1_loners_125 : decode cX1_loners 125 = .ok (.iload_n 3, 1) := dk_29 (dk_at dksX1_loners_5 7 rfl rfl)
theorem dX1_loners_126 : decode cX1_loners 126 = .ok (.goto 4, 3) := dk_167 0 4 (dk_at dksX1_loners_5 8 rfl rfl)
theorem dX1_loners_129 : decode cX1_loners 129 = .ok (.iload_n 2, 1) := dk_28 (dk_at dksX1_loners_5 11 rfl rfl)
theorem dX1_loners_130 : decode cX1_loners 130 = .ok (.ireturn, 1) := dk_172 (dk_at dksX1_loners_5 12 rfl rfl)
abbrev cX1_part : ByteArray := prog_15_method_49_code
def yX1_part : MethodName := ⟨RX1, "part", "(II)I"⟩
def dkwX1_part_4 : List UInt8 := [172]
abbrev dktX1_part_4 : List UInt8 := dkwX1_part_4 ++ []
def dkwX1_part_3 : List UInt8 := [162, 0, 10, 4, 21, 4, 120, 167, 0, 4, 3, 128, 62, 132, 4, 1, 167, 255, 206, 42, 29, 182, 0, 181]
abbrev dktX1_part_3 : List UInt8 := dkwX1_part_3 ++ dktX1_part_4
def dkwX1_part_2 : List UInt8 := [180, 0, 37, 16, 8, 21, 4, 104, 27, 96, 46, 42, 180, 0, 37, 16, 8, 21, 4, 104, 28, 96, 46]
abbrev dktX1_part_2 : List UInt8 := dkwX1_part_2 ++ dktX1_part_3
def dkwX1_part_1 : List UInt8 := [16, 253, 172, 42, 182, 0, 146, 3, 62, 3, 54, 4, 21, 4, 42, 180, 0, 80, 162, 0, 47, 29, 42]
abbrev dktX1_part_1 : List UInt8 := dkwX1_part_1 ++ dktX1_part_2
def dkwX1_part_0 : List UInt8 := [42, 27, 28, 182, 0, 152, 154, 0, 5, 2, 172, 42, 180, 0, 19, 27, 46, 28, 184, 0, 87, 154, 0, 6]
abbrev dktX1_part_0 : List UInt8 := dkwX1_part_0 ++ dktX1_part_1
theorem dksX1_part_0 : cX1_part.data.toList.drop 0 = dktX1_part_0 := by decide +kernel
theorem dksX1_part_1 : cX1_part.data.toList.drop 24 = dktX1_part_1 := dk_seg dksX1_part_0 24 rfl rfl
theorem dksX1_part_2 : cX1_part.data.toList.drop 47 = dktX1_part_2 := dk_seg dksX1_part_1 23 rfl rfl
theorem dksX1_part_3 : cX1_part.data.toList.drop 70 = dktX1_part_3 := dk_seg dksX1_part_2 23 rfl rfl
theorem dksX1_part_4 : cX1_part.data.toList.drop 94 = dktX1_part_4 := dk_seg dksX1_part_3 24 rfl rfl
theorem dX1_part_0 : decode cX1_part 0 = .ok (.aload_n 0, 1) := dk_42 (dk_at dksX1_part_0 0 rfl rfl)
theorem dX1_part_1 : decode cX1_part 1 = .ok (.iload_n 1, 1) := dk_27 (dk_at dksX1_part_0 1 rfl rfl)
theorem dX1_part_2 : decode cX1_part 2 = .ok (.iload_n 2, 1) := dk_28 (dk_at dksX1_part_0 2 rfl rfl)
theorem dX1_part_3 : decode cX1_part 3 = .ok (.invokevirtual 152, 3) := dk_182 0 152 (dk_at dksX1_part_0 3 rfl rfl)
theorem dX1_part_6 : decode cX1_part 6 = .ok (.ifCond .ne 5, 3) := dk_154 0 5 (dk_at dksX1_part_0 6 rfl rfl)
theorem dX1_part_9 : decode cX1_part 9 = .ok (.iconst (-1), 1) := dk_2 (dk_at dksX1_part_0 9 rfl rfl)
theorem dX1_part_10 : decode cX1_part 10 = .ok (.ireturn, 1) := dk_172 (dk_at dksX1_part_0 10 rfl rfl)
theorem dX1_part_11 : decode cX1_part 11 = .ok (.aload_n 0, 1) := dk_42 (dk_at dksX1_part_0 11 rfl rfl)
theorem dX1_part_12 : decode cX1_part 12 = .ok (.getfield 19, 3) := dk_180 0 19 (dk_at dksX1_part_0 12 rfl rfl)
theorem dX1_part_15 : decode cX1_part 15 = .ok (.iload_n 1, 1) := dk_27 (dk_at dksX1_part_0 15 rfl rfl)
theorem dX1_part_16 : decode cX1_part 16 = .ok (.iaload, 1) := dk_46 (dk_at dksX1_part_0 16 rfl rfl)
theorem dX1_part_17 : decode cX1_part 17 = .ok (.iload_n 2, 1) := dk_28 (dk_at dksX1_part_0 17 rfl rfl)
theorem dX1_part_18 : decode cX1_part 18 = .ok (.invokestatic 87, 3) := dk_184 0 87 (dk_at dksX1_part_0 18 rfl rfl)
theorem dX1_part_21 : decode cX1_part 21 = .ok (.ifCond .ne 6, 3) := dk_154 0 6 (dk_at dksX1_part_0 21 rfl rfl)
theorem dX1_part_24 : decode cX1_part 24 = .ok (.bipush (-3), 2) := dk_16 253 (dk_at dksX1_part_1 0 rfl rfl)
theorem dX1_part_26 : decode cX1_part 26 = .ok (.ireturn, 1) := dk_172 (dk_at dksX1_part_1 2 rfl rfl)
theorem dX1_part_27 : decode cX1_part 27 = .ok (.aload_n 0, 1) := dk_42 (dk_at dksX1_part_1 3 rfl rfl)
theorem dX1_part_28 : decode cX1_part 28 = .ok (.invokevirtual 146, 3) := dk_182 0 146 (dk_at dksX1_part_1 4 rfl rfl)
theorem dX1_part_31 : decode cX1_part 31 = .ok (.iconst 0, 1) := dk_3 (dk_at dksX1_part_1 7 rfl rfl)
theorem dX1_part_32 : decode cX1_part 32 = .ok (.istore_n 3, 1) := dk_62 (dk_at dksX1_part_1 8 rfl rfl)
theorem dX1_part_33 : decode cX1_part 33 = .ok (.iconst 0, 1) := dk_3 (dk_at dksX1_part_1 9 rfl rfl)
theorem dX1_part_34 : decode cX1_part 34 = .ok (.istore 4, 2) := dk_54 4 (dk_at dksX1_part_1 10 rfl rfl)
theorem dX1_part_36 : decode cX1_part 36 = .ok (.iload 4, 2) := dk_21 4 (dk_at dksX1_part_1 12 rfl rfl)
theorem dX1_part_38 : decode cX1_part 38 = .ok (.aload_n 0, 1) := dk_42 (dk_at dksX1_part_1 14 rfl rfl)
theorem dX1_part_39 : decode cX1_part 39 = .ok (.getfield 80, 3) := dk_180 0 80 (dk_at dksX1_part_1 15 rfl rfl)
theorem dX1_part_42 : decode cX1_part 42 = .ok (.if_icmp .ge 47, 3) := dk_162 0 47 (dk_at dksX1_part_1 18 rfl rfl)
theorem dX1_part_45 : decode cX1_part 45 = .ok (.iload_n 3, 1) := dk_29 (dk_at dksX1_part_1 21 rfl rfl)
theorem dX1_part_46 : decode cX1_part 46 = .ok (.aload_n 0, 1) := dk_42 (dk_at dksX1_part_1 22 rfl rfl)
theorem dX1_part_47 : decode cX1_part 47 = .ok (.getfield 37, 3) := dk_180 0 37 (dk_at dksX1_part_2 0 rfl rfl)
theorem dX1_part_50 : decode cX1_part 50 = .ok (.bipush 8, 2) := dk_16 8 (dk_at dksX1_part_2 3 rfl rfl)
theorem dX1_part_52 : decode cX1_part 52 = .ok (.iload 4, 2) := dk_21 4 (dk_at dksX1_part_2 5 rfl rfl)
theorem dX1_part_54 : decode cX1_part 54 = .ok (.imul, 1) := dk_104 (dk_at dksX1_part_2 7 rfl rfl)
theorem dX1_part_55 : decode cX1_part 55 = .ok (.iload_n 1, 1) := dk_27 (dk_at dksX1_part_2 8 rfl rfl)
theorem dX1_part_56 : decode cX1_part 56 = .ok (.iadd, 1) := dk_96 (dk_at dksX1_part_2 9 rfl rfl)
theorem dX1_part_57 : decode cX1_part 57 = .ok (.iaload, 1) := dk_46 (dk_at dksX1_part_2 10 rfl rfl)
theorem dX1_part_58 : decode cX1_part 58 = .ok (.aload_n 0, 1) := dk_42 (dk_at dksX1_part_2 11 rfl rfl)
theorem dX1_part_59 : decode cX1_part 59 = .ok (.getfield 37, 3) := dk_180 0 37 (dk_at dksX1_part_2 12 rfl rfl)
theorem dX1_part_62 : decode cX1_part 62 = .ok (.bipush 8, 2) := dk_16 8 (dk_at dksX1_part_2 15 rfl rfl)
theorem dX1_part_64 : decode cX1_part 64 = .ok (.iload 4, 2) := dk_21 4 (dk_at dksX1_part_2 17 rfl rfl)
theorem dX1_part_66 : decode cX1_part 66 = .ok (.imul, 1) := dk_104 (dk_at dksX1_part_2 19 rfl rfl)
theorem dX1_part_67 : decode cX1_part 67 = .ok (.iload_n 2, 1) := dk_28 (dk_at dksX1_part_2 20 rfl rfl)
theorem dX1_part_68 : decode cX1_part 68 = .ok (.iadd, 1) := dk_96 (dk_at dksX1_part_2 21 rfl rfl)
theorem dX1_part_69 : decode cX1_part 69 = .ok (.iaload, 1) := dk_46 (dk_at dksX1_part_2 22 rfl rfl)
theorem dX1_part_70 : decode cX1_part 70 = .ok (.if_icmp .ge 10, 3) := dk_162 0 10 (dk_at dksX1_part_3 0 rfl rfl)
theorem dX1_part_73 : decode cX1_part 73 = .ok (.iconst 1, 1) := dk_4 (dk_at dksX1_part_3 3 rfl rfl)
theorem dX1_part_74 : decode cX1_part 74 = .ok (.iload 4, 2) := dk_21 4 (dk_at dksX1_part_3 4 rfl rfl)
theorem dX1_part_76 : decode cX1_part 76 = .ok (.ishl, 1) := dk_120 (dk_at dksX1_part_3 6 rfl rfl)
theorem dX1_part_77 : decode cX1_part 77 = .ok (.goto 4, 3) := dk_167 0 4 (dk_at dksX1_part_3 7 rfl rfl)
theorem dX1_part_80 : decode cX1_part 80 = .ok (.iconst 0, 1) := dk_3 (dk_at dksX1_part_3 10 rfl rfl)
theorem dX1_part_81 : decode cX1_part 81 = .ok (.ior, 1) := dk_128 (dk_at dksX1_part_3 11 rfl rfl)
theorem dX1_part_82 : decode cX1_part 82 = .ok (.istore_n 3, 1) := dk_62 (dk_at dksX1_part_3 12 rfl rfl)
theorem dX1_part_83 : decode cX1_part 83 = .ok (.iinc 4 1, 3) := dk_132 4 1 (dk_at dksX1_part_3 13 rfl rfl)
theorem dX1_part_86 : decode cX1_part 86 = .ok (.goto (-50), 3) := dk_167 255 206 (dk_at dksX1_part_3 16 rfl rfl)
theorem dX1_part_89 : decode cX1_part 89 = .ok (.aload_n 0, 1) := dk_42 (dk_at dksX1_part_3 19 rfl rfl)
theorem dX1_part_90 : decode cX1_part 90 = .ok (.iload_n 3, 1) := dk_29 (dk_at dksX1_part_3 20 rfl rfl)
theorem dX1_part_91 : decode cX1_part 91 = .ok (.invokevirtual 181, 3) := dk_182 0 181 (dk_at dksX1_part_3 21 rfl rfl)
theorem dX1_part_94 : decode cX1_part 94 = .ok (.ireturn, 1) := dk_172 (dk_at dksX1_part_4 0 rfl rfl)
abbrev cX1_reading : ByteArray := prog_15_method_50_code
def yX1_reading : MethodName := ⟨RX1, "reading", "(III)I"⟩
def dkwX1_reading_3 : List UInt8 := [180, 0, 120, 29, 79, 42, 89, 180, 0, 120, 4, 96, 181, 0, 120, 42, 180, 0, 120, 4, 100, 172]
abbrev dktX1_reading_3 : List UInt8 := dkwX1_reading_3 ++ []
def dkwX1_reading_2 : List UInt8 := [180, 0, 61, 42, 180, 0, 120, 27, 79, 42, 180, 0, 64, 42, 180, 0, 120, 28, 79, 42, 180, 0, 67, 42]
abbrev dktX1_reading_2 : List UInt8 := dkwX1_reading_2 ++ dktX1_reading_3
def dkwX1_reading_1 : List UInt8 := [184, 0, 76, 154, 0, 6, 16, 254, 172, 42, 180, 0, 120, 16, 8, 160, 0, 6, 16, 252, 172, 42]
abbrev dktX1_reading_1 : List UInt8 := dkwX1_reading_1 ++ dktX1_reading_2
def dkwX1_reading_0 : List UInt8 := [42, 27, 182, 0, 83, 153, 0, 11, 42, 28, 182, 0, 83, 154, 0, 5, 2, 172, 29, 3, 17, 0, 200]
abbrev dktX1_reading_0 : List UInt8 := dkwX1_reading_0 ++ dktX1_reading_1
theorem dksX1_reading_0 : cX1_reading.data.toList.drop 0 = dktX1_reading_0 := by decide +kernel
theorem dksX1_reading_1 : cX1_reading.data.toList.drop 23 = dktX1_reading_1 := dk_seg dksX1_reading_0 23 rfl rfl
theorem dksX1_reading_2 : cX1_reading.data.toList.drop 45 = dktX1_reading_2 := dk_seg dksX1_reading_1 22 rfl rfl
theorem dksX1_reading_3 : cX1_reading.data.toList.drop 69 = dktX1_reading_3 := dk_seg dksX1_reading_2 24 rfl rfl
theorem dX1_reading_0 : decode cX1_reading 0 = .ok (.aload_n 0, 1) := dk_42 (dk_at dksX1_reading_0 0 rfl rfl)
theorem dX1_reading_1 : decode cX1_reading 1 = .ok (.iload_n 1, 1) := dk_27 (dk_at dksX1_reading_0 1 rfl rfl)
theorem dX1_reading_2 : decode cX1_reading 2 = .ok (.invokevirtual 83, 3) := dk_182 0 83 (dk_at dksX1_reading_0 2 rfl rfl)
theorem dX1_reading_5 : decode cX1_reading 5 = .ok (.ifCond .eq 11, 3) := dk_153 0 11 (dk_at dksX1_reading_0 5 rfl rfl)
theorem dX1_reading_8 : decode cX1_reading 8 = .ok (.aload_n 0, 1) := dk_42 (dk_at dksX1_reading_0 8 rfl rfl)
theorem dX1_reading_9 : decode cX1_reading 9 = .ok (.iload_n 2, 1) := dk_28 (dk_at dksX1_reading_0 9 rfl rfl)
theorem dX1_reading_10 : decode cX1_reading 10 = .ok (.invokevirtual 83, 3) := dk_182 0 83 (dk_at dksX1_reading_0 10 rfl rfl)
theorem dX1_reading_13 : decode cX1_reading 13 = .ok (.ifCond .ne 5, 3) := dk_154 0 5 (dk_at dksX1_reading_0 13 rfl rfl)
theorem dX1_reading_16 : decode cX1_reading 16 = .ok (.iconst (-1), 1) := dk_2 (dk_at dksX1_reading_0 16 rfl rfl)
theorem dX1_reading_17 : decode cX1_reading 17 = .ok (.ireturn, 1) := dk_172 (dk_at dksX1_reading_0 17 rfl rfl)
theorem dX1_reading_18 : decode cX1_reading 18 = .ok (.iload_n 3, 1) := dk_29 (dk_at dksX1_reading_0 18 rfl rfl)
theorem dX1_reading_19 : decode cX1_reading 19 = .ok (.iconst 0, 1) := dk_3 (dk_at dksX1_reading_0 19 rfl rfl)
theorem dX1_reading_20 : decode cX1_reading 20 = .ok (.sipush 200, 3) := dk_17 0 200 (dk_at dksX1_reading_0 20 rfl rfl)
theorem dX1_reading_23 : decode cX1_reading 23 = .ok (.invokestatic 76, 3) := dk_184 0 76 (dk_at dksX1_reading_1 0 rfl rfl)
theorem dX1_reading_26 : decode cX1_reading 26 = .ok (.ifCond .ne 6, 3) := dk_154 0 6 (dk_at dksX1_reading_1 3 rfl rfl)
theorem dX1_reading_29 : decode cX1_reading 29 = .ok (.bipush (-2), 2) := dk_16 254 (dk_at dksX1_reading_1 6 rfl rfl)
theorem dX1_reading_31 : decode cX1_reading 31 = .ok (.ireturn, 1) := dk_172 (dk_at dksX1_reading_1 8 rfl rfl)
theorem dX1_reading_32 : decode cX1_reading 32 = .ok (.aload_n 0, 1) := dk_42 (dk_at dksX1_reading_1 9 rfl rfl)
theorem dX1_reading_33 : decode cX1_reading 33 = .ok (.getfield 120, 3) := dk_180 0 120 (dk_at dksX1_reading_1 10 rfl rfl)
theorem dX1_reading_36 : decode cX1_reading 36 = .ok (.bipush 8, 2) := dk_16 8 (dk_at dksX1_reading_1 13 rfl rfl)
theorem dX1_reading_38 : decode cX1_reading 38 = .ok (.if_icmp .ne 6, 3) := dk_160 0 6 (dk_at dksX1_reading_1 15 rfl rfl)
theorem dX1_reading_41 : decode cX1_reading 41 = .ok (.bipush (-4), 2) := dk_16 252 (dk_at dksX1_reading_1 18 rfl rfl)
theorem dX1_reading_43 : decode cX1_reading 43 = .ok (.ireturn, 1) := dk_172 (dk_at dksX1_reading_1 20 rfl rfl)
theorem dX1_reading_44 : decode cX1_reading 44 = .ok (.aload_n 0, 1) := dk_42 (dk_at dksX1_reading_1 21 rfl rfl)
theorem dX1_reading_45 : decode cX1_reading 45 = .ok (.getfield 61, 3) := dk_180 0 61 (dk_at dksX1_reading_2 0 rfl rfl)
theorem dX1_reading_48 : decode cX1_reading 48 = .ok (.aload_n 0, 1) := dk_42 (dk_at dksX1_reading_2 3 rfl rfl)
theorem dX1_reading_49 : decode cX1_reading 49 = .ok (.getfield 120, 3) := dk_180 0 120 (dk_at dksX1_reading_2 4 rfl rfl)
theorem dX1_reading_52 : decode cX1_reading 52 = .ok (.iload_n 1, 1) := dk_27 (dk_at dksX1_reading_2 7 rfl rfl)
theorem dX1_reading_53 : decode cX1_reading 53 = .ok (.iastore, 1) := dk_79 (dk_at dksX1_reading_2 8 rfl rfl)
theorem dX1_reading_54 : decode cX1_reading 54 = .ok (.aload_n 0, 1) := dk_42 (dk_at dksX1_reading_2 9 rfl rfl)
theorem dX1_reading_55 : decode cX1_reading 55 = .ok (.getfield 64, 3) := dk_180 0 64 (dk_at dksX1_reading_2 10 rfl rfl)
theorem dX1_reading_58 : decode cX1_reading 58 = .ok (.aload_n 0, 1) := dk_42 (dk_at dksX1_reading_2 13 rfl rfl)
theorem dX1_reading_59 : decode cX1_reading 59 = .ok (.getfield 120, 3) := dk_180 0 120 (dk_at dksX1_reading_2 14 rfl rfl)
theorem dX1_reading_62 : decode cX1_reading 62 = .ok (.iload_n 2, 1) := dk_28 (dk_at dksX1_reading_2 17 rfl rfl)
theorem dX1_reading_63 : decode cX1_reading 63 = .ok (.iastore, 1) := dk_79 (dk_at dksX1_reading_2 18 rfl rfl)
theorem dX1_reading_64 : decode cX1_reading 64 = .ok (.aload_n 0, 1) := dk_42 (dk_at dksX1_reading_2 19 rfl rfl)
theorem dX1_reading_65 : decode cX1_reading 65 = .ok (.getfield 67, 3) := dk_180 0 67 (dk_at dksX1_reading_2 20 rfl rfl)
theorem dX1_reading_68 : decode cX1_reading 68 = .ok (.aload_n 0, 1) := dk_42 (dk_at dksX1_reading_2 23 rfl rfl)
theorem dX1_reading_69 : decode cX1_reading 69 = .ok (.getfield 120, 3) := dk_180 0 120 (dk_at dksX1_reading_3 0 rfl rfl)
theorem dX1_reading_72 : decode cX1_reading 72 = .ok (.iload_n 3, 1) := dk_29 (dk_at dksX1_reading_3 3 rfl rfl)
theorem dX1_reading_73 : decode cX1_reading 73 = .ok (.iastore, 1) := dk_79 (dk_at dksX1_reading_3 4 rfl rfl)
theorem dX1_reading_74 : decode cX1_reading 74 = .ok (.aload_n 0, 1) := dk_42 (dk_at dksX1_reading_3 5 rfl rfl)
theorem dX1_reading_75 : decode cX1_reading 75 = .ok (.dup, 1) := dk_89 (dk_at dksX1_reading_3 6 rfl rfl)
theorem dX1_reading_76 : decode cX1_reading 76 = .ok (.getfield 120, 3) := dk_180 0 120 (dk_at dksX1_reading_3 7 rfl rfl)
theorem dX1_reading_79 : decode cX1_reading 79 = .ok (.iconst 1, 1) := dk_4 (dk_at dksX1_reading_3 10 rfl rfl)
theorem dX1_reading_80 : decode cX1_reading 80 = .ok (.iadd, 1) := dk_96 (dk_at dksX1_reading_3 11 rfl rfl)
theorem dX1_reading_81 : decode cX1_reading 81 = .ok (.putfield 120, 3) := dk_181 0 120 (dk_at dksX1_reading_3 12 rfl rfl)
theorem dX1_reading_84 : decode cX1_reading 84 = .ok (.aload_n 0, 1) := dk_42 (dk_at dksX1_reading_3 15 rfl rfl)
theorem dX1_reading_85 : decode cX1_reading 85 = .ok (.getfield 120, 3) := dk_180 0 120 (dk_at dksX1_reading_3 16 rfl rfl)
theorem dX1_reading_88 : decode cX1_reading 88 = .ok (.iconst 1, 1) := dk_4 (dk_at dksX1_reading_3 19 rfl rfl)
theorem dX1_reading_89 : decode cX1_reading 89 = .ok (.isub, 1) := dk_100 (dk_at dksX1_reading_3 20 rfl rfl)
theorem dX1_reading_90 : decode cX1_reading 90 = .ok (.ireturn, 1) := dk_172 (dk_at dksX1_reading_3 21 rfl rfl)
abbrev cX1_back : ByteArray := prog_15_method_51_code
def yX1_back : MethodName := ⟨RX1, "back", "(I)I"⟩
def dkwX1_back_1 : List UInt8 := [181, 0, 120, 42, 180, 0, 120, 172]
abbrev dktX1_back_1 : List UInt8 := dkwX1_back_1 ++ []
def dkwX1_back_0 : List UInt8 := [27, 3, 42, 180, 0, 120, 184, 0, 76, 154, 0, 6, 16, 254, 172, 42, 89, 180, 0, 120, 27, 100]
abbrev dktX1_back_0 : List UInt8 := dkwX1_back_0 ++ dktX1_back_1
theorem dksX1_back_0 : cX1_back.data.toList.drop 0 = dktX1_back_0 := by decide +kernel
theorem dksX1_back_1 : cX1_back.data.toList.drop 22 = dktX1_back_1 := dk_seg dksX1_back_0 22 rfl rfl
theorem dX1_back_0 : decode cX1_back 0 = .ok (.iload_n 1, 1) := dk_27 (dk_at dksX1_back_0 0 rfl rfl)
theorem dX1_back_1 : decode cX1_back 1 = .ok (.iconst 0, 1) := dk_3 (dk_at dksX1_back_0 1 rfl rfl)
theorem dX1_back_2 : decode cX1_back 2 = .ok (.aload_n 0, 1) := dk_42 (dk_at dksX1_back_0 2 rfl rfl)
theorem dX1_back_3 : decode cX1_back 3 = .ok (.getfield 120, 3) := dk_180 0 120 (dk_at dksX1_back_0 3 rfl rfl)
theorem dX1_back_6 : decode cX1_back 6 = .ok (.invokestatic 76, 3) := dk_184 0 76 (dk_at dksX1_back_0 6 rfl rfl)
theorem dX1_back_9 : decode cX1_back 9 = .ok (.ifCond .ne 6, 3) := dk_154 0 6 (dk_at dksX1_back_0 9 rfl rfl)
theorem dX1_back_12 : decode cX1_back 12 = .ok (.bipush (-2), 2) := dk_16 254 (dk_at dksX1_back_0 12 rfl rfl)
theorem dX1_back_14 : decode cX1_back 14 = .ok (.ireturn, 1) := dk_172 (dk_at dksX1_back_0 14 rfl rfl)
theorem dX1_back_15 : decode cX1_back 15 = .ok (.aload_n 0, 1) := dk_42 (dk_at dksX1_back_0 15 rfl rfl)
theorem dX1_back_16 : decode cX1_back 16 = .ok (.dup, 1) := dk_89 (dk_at dksX1_back_0 16 rfl rfl)
theorem dX1_back_17 : decode cX1_back 17 = .ok (.getfield 120, 3) := dk_180 0 120 (dk_at dksX1_back_0 17 rfl rfl)
theorem dX1_back_20 : decode cX1_back 20 = .ok (.iload_n 1, 1) := dk_27 (dk_at dksX1_back_0 20 rfl rfl)
theorem dX1_back_21 : decode cX1_back 21 = .ok (.isub, 1) := dk_100 (dk_at dksX1_back_0 21 rfl rfl)
theorem dX1_back_22 : decode cX1_back 22 = .ok (.putfield 120, 3) := dk_181 0 120 (dk_at dksX1_back_1 0 rfl rfl)
theorem dX1_back_25 : decode cX1_back 25 = .ok (.aload_n 0, 1) := dk_42 (dk_at dksX1_back_1 3 rfl rfl)
theorem dX1_back_26 : decode cX1_back 26 = .ok (.getfield 120, 3) := dk_180 0 120 (dk_at dksX1_back_1 4 rfl rfl)
theorem dX1_back_29 : decode cX1_back 29 = .ok (.ireturn, 1) := dk_172 (dk_at dksX1_back_1 7 rfl rfl)
abbrev cX1_loadings : ByteArray := prog_15_method_54_code
def yX1_loadings : MethodName := ⟨RX1, "loadings", "(I)I"⟩
def dkwX1_loadings_3 : List UInt8 := [28, 79, 29, 172]
abbrev dktX1_loadings_3 : List UInt8 := dkwX1_loadings_3 ++ []
def dkwX1_loadings_2 : List UInt8 := [153, 0, 10, 4, 21, 4, 120, 167, 0, 4, 3, 128, 62, 132, 4, 1, 167, 255, 220, 42, 180, 0, 25, 27]
abbrev dktX1_loadings_2 : List UInt8 := dkwX1_loadings_2 ++ dktX1_loadings_3
def dkwX1_loadings_1 : List UInt8 := [54, 4, 21, 4, 16, 9, 163, 0, 35, 42, 180, 0, 25, 27, 21, 4, 79, 29, 42, 182, 0, 201]
abbrev dktX1_loadings_1 : List UInt8 := dkwX1_loadings_1 ++ dktX1_loadings_2
def dkwX1_loadings_0 : List UInt8 := [42, 27, 182, 0, 83, 154, 0, 5, 2, 172, 42, 182, 0, 146, 42, 180, 0, 25, 27, 46, 61, 3, 62, 3]
abbrev dktX1_loadings_0 : List UInt8 := dkwX1_loadings_0 ++ dktX1_loadings_1
theorem dksX1_loadings_0 : cX1_loadings.data.toList.drop 0 = dktX1_loadings_0 := by decide +kernel
theorem dksX1_loadings_1 : cX1_loadings.data.toList.drop 24 = dktX1_loadings_1 := dk_seg dksX1_loadings_0 24 rfl rfl
theorem dksX1_loadings_2 : cX1_loadings.data.toList.drop 46 = dktX1_loadings_2 := dk_seg dksX1_loadings_1 22 rfl rfl
theorem dksX1_loadings_3 : cX1_loadings.data.toList.drop 70 = dktX1_loadings_3 := dk_seg dksX1_loadings_2 24 rfl rfl
theorem dX1_loadings_0 : decode cX1_loadings 0 = .ok (.aload_n 0, 1) := dk_42 (dk_at dksX1_loadings_0 0 rfl rfl)
theorem dX1_loadings_1 : decode cX1_loadings 1 = .ok (.iload_n 1, 1) := dk_27 (dk_at dksX1_loadings_0 1 rfl rfl)
theorem dX1_loadings_2 : decode cX1_loadings 2 = .ok (.invokevirtual 83, 3) := dk_182 0 83 (dk_at dksX1_loadings_0 2 rfl rfl)
theorem dX1_loadings_5 : decode cX1_loadings 5 = .ok (.ifCond .ne 5, 3) := dk_154 0 5 (dk_at dksX1_loadings_0 5 rfl rfl)
theorem dX1_loadings_8 : decode cX1_loadings 8 = .ok (.iconst (-1), 1) := dk_2 (dk_at dksX1_loadings_0 8 rfl rfl)
theorem dX1_loadings_9 : decode cX1_loadings 9 = .ok (.ireturn, 1) := dk_172 (dk_at dksX1_loadings_0 9 rfl rfl)
theorem dX1_loadings_10 : decode cX1_loadings 10 = .ok (.aload_n 0, 1) := dk_42 (dk_at dksX1_loadings_0 10 rfl rfl)
theorem dX1_loadings_11 : decode cX1_loadings 11 = .ok (.invokevirtual 146, 3) := dk_182 0 146 (dk_at dksX1_loadings_0 11 rfl rfl)
theorem dX1_loadings_14 : decode cX1_loadings 14 = .ok (.aload_n 0, 1) := dk_42 (dk_at dksX1_loadings_0 14 rfl rfl)
theorem dX1_loadings_15 : decode cX1_loadings 15 = .ok (.getfield 25, 3) := dk_180 0 25 (dk_at dksX1_loadings_0 15 rfl rfl)
theorem dX1_loadings_18 : decode cX1_loadings 18 = .ok (.iload_n 1, 1) := dk_27 (dk_at dksX1_loadings_0 18 rfl rfl)
theorem dX1_loadings_19 : decode cX1_loadings 19 = .ok (.iaload, 1) := dk_46 (dk_at dksX1_loadings_0 19 rfl rfl)
theorem dX1_loadings_20 : decode cX1_loadings 20 = .ok (.istore_n 2, 1) := dk_61 (dk_at dksX1_loadings_0 20 rfl rfl)
theorem dX1_loadings_21 : decode cX1_loadings 21 = .ok (.iconst 0, 1) := dk_3 (dk_at dksX1_loadings_0 21 rfl rfl)
theorem dX1_loadings_22 : decode cX1_loadings 22 = .ok (.istore_n 3, 1) := dk_62 (dk_at dksX1_loadings_0 22 rfl rfl)
theorem dX1_loadings_23 : decode cX1_loadings 23 = .ok (.iconst 0, 1) := dk_3 (dk_at dksX1_loadings_0 23 rfl rfl)
theorem dX1_loadings_24 : decode cX1_loadings 24 = .ok (.istore 4, 2) := dk_54 4 (dk_at dksX1_loadings_1 0 rfl rfl)
theorem dX1_loadings_26 : decode cX1_loadings 26 = .ok (.iload 4, 2) := dk_21 4 (dk_at dksX1_loadings_1 2 rfl rfl)
theorem dX1_loadings_28 : decode cX1_loadings 28 = .ok (.bipush 9, 2) := dk_16 9 (dk_at dksX1_loadings_1 4 rfl rfl)
theorem dX1_loadings_30 : decode cX1_loadings 30 = .ok (.if_icmp .gt 35, 3) := dk_163 0 35 (dk_at dksX1_loadings_1 6 rfl rfl)
theorem dX1_loadings_33 : decode cX1_loadings 33 = .ok (.aload_n 0, 1) := dk_42 (dk_at dksX1_loadings_1 9 rfl rfl)
theorem dX1_loadings_34 : decode cX1_loadings 34 = .ok (.getfield 25, 3) := dk_180 0 25 (dk_at dksX1_loadings_1 10 rfl rfl)
theorem dX1_loadings_37 : decode cX1_loadings 37 = .ok (.iload_n 1, 1) := dk_27 (dk_at dksX1_loadings_1 13 rfl rfl)
theorem dX1_loadings_38 : decode cX1_loadings 38 = .ok (.iload 4, 2) := dk_21 4 (dk_at dksX1_loadings_1 14 rfl rfl)
theorem dX1_loadings_40 : decode cX1_loadings 40 = .ok (.iastore, 1) := dk_79 (dk_at dksX1_loadings_1 16 rfl rfl)
theorem dX1_loadings_41 : decode cX1_loadings 41 = .ok (.iload_n 3, 1) := dk_29 (dk_at dksX1_loadings_1 17 rfl rfl)
theorem dX1_loadings_42 : decode cX1_loadings 42 = .ok (.aload_n 0, 1) := dk_42 (dk_at dksX1_loadings_1 18 rfl rfl)
theorem dX1_loadings_43 : decode cX1_loadings 43 = .ok (.invokevirtual 201, 3) := dk_182 0 201 (dk_at dksX1_loadings_1 19 rfl rfl)
theorem dX1_loadings_46 : decode cX1_loadings 46 = .ok (.ifCond .eq 10, 3) := dk_153 0 10 (dk_at dksX1_loadings_2 0 rfl rfl)
theorem dX1_loadings_49 : decode cX1_loadings 49 = .ok (.iconst 1, 1) := dk_4 (dk_at dksX1_loadings_2 3 rfl rfl)
theorem dX1_loadings_50 : decode cX1_loadings 50 = .ok (.iload 4, 2) := dk_21 4 (dk_at dksX1_loadings_2 4 rfl rfl)
theorem dX1_loadings_52 : decode cX1_loadings 52 = .ok (.ishl, 1) := dk_120 (dk_at dksX1_loadings_2 6 rfl rfl)
theorem dX1_loadings_53 : decode cX1_loadings 53 = .ok (.goto 4, 3) := dk_167 0 4 (dk_at dksX1_loadings_2 7 rfl rfl)
theorem dX1_loadings_56 : decode cX1_loadings 56 = .ok (.iconst 0, 1) := dk_3 (dk_at dksX1_loadings_2 10 rfl rfl)
theorem dX1_loadings_57 : decode cX1_loadings 57 = .ok (.ior, 1) := dk_128 (dk_at dksX1_loadings_2 11 rfl rfl)
theorem dX1_loadings_58 : decode cX1_loadings 58 = .ok (.istore_n 3, 1) := dk_62 (dk_at dksX1_loadings_2 12 rfl rfl)
theorem dX1_loadings_59 : decode cX1_loadings 59 = .ok (.iinc 4 1, 3) := dk_132 4 1 (dk_at dksX1_loadings_2 13 rfl rfl)
theorem dX1_loadings_62 : decode cX1_loadings 62 = .ok (.goto (-36), 3) := dk_167 255 220 (dk_at dksX1_loadings_2 16 rfl rfl)
theorem dX1_loadings_65 : decode cX1_loadings 65 = .ok (.aload_n 0, 1) := dk_42 (dk_at dksX1_loadings_2 19 rfl rfl)
theorem dX1_loadings_66 : decode cX1_loadings 66 = .ok (.getfield 25, 3) := dk_180 0 25 (dk_at dksX1_loadings_2 20 rfl rfl)
theorem dX1_loadings_69 : decode cX1_loadings 69 = .ok (.iload_n 1, 1) := dk_27 (dk_at dksX1_loadings_2 23 rfl rfl)
theorem dX1_loadings_70 : decode cX1_loadings 70 = .ok (.iload_n 2, 1) := dk_28 (dk_at dksX1_loadings_3 0 rfl rfl)
theorem dX1_loadings_71 : decode cX1_loadings 71 = .ok (.iastore, 1) := dk_79 (dk_at dksX1_loadings_3 1 rfl rfl)
theorem dX1_loadings_72 : decode cX1_loadings 72 = .ok (.iload_n 3, 1) := dk_29 (dk_at dksX1_loadings_3 2 rfl rfl)
theorem dX1_loadings_73 : decode cX1_loadings 73 = .ok (.ireturn, 1) := dk_172 (dk_at dksX1_loadings_3 3 rfl rfl)
abbrev cX1_areSo : ByteArray := prog_15_method_53_code
def yX1_areSo : MethodName := ⟨RX1, "areSo", "()Z"⟩
def dkwX1_areSo_2 : List UInt8 := [172]
abbrev dktX1_areSo_2 : List UInt8 := dkwX1_areSo_2 ++ []
def dkwX1_areSo_1 : List UInt8 := [182, 0, 198, 182, 0, 181, 42, 180, 0, 67, 27, 46, 159, 0, 5, 3, 172, 132, 1, 1, 167, 255, 214, 4]
abbrev dktX1_areSo_1 : List UInt8 := dkwX1_areSo_1 ++ dktX1_areSo_2
def dkwX1_areSo_0 : List UInt8 := [3, 60, 27, 42, 180, 0, 120, 162, 0, 40, 42, 42, 42, 180, 0, 61, 27, 46, 42, 180, 0, 64, 27, 46]
abbrev dktX1_areSo_0 : List UInt8 := dkwX1_areSo_0 ++ dktX1_areSo_1
theorem dksX1_areSo_0 : cX1_areSo.data.toList.drop 0 = dktX1_areSo_0 := by decide +kernel
theorem dksX1_areSo_1 : cX1_areSo.data.toList.drop 24 = dktX1_areSo_1 := dk_seg dksX1_areSo_0 24 rfl rfl
theorem dksX1_areSo_2 : cX1_areSo.data.toList.drop 48 = dktX1_areSo_2 := dk_seg dksX1_areSo_1 24 rfl rfl
theorem dX1_areSo_0 : decode cX1_areSo 0 = .ok (.iconst 0, 1) := dk_3 (dk_at dksX1_areSo_0 0 rfl rfl)
theorem dX1_areSo_1 : decode cX1_areSo 1 = .ok (.istore_n 1, 1) := dk_60 (dk_at dksX1_areSo_0 1 rfl rfl)
theorem dX1_areSo_2 : decode cX1_areSo 2 = .ok (.iload_n 1, 1) := dk_27 (dk_at dksX1_areSo_0 2 rfl rfl)
theorem dX1_areSo_3 : decode cX1_areSo 3 = .ok (.aload_n 0, 1) := dk_42 (dk_at dksX1_areSo_0 3 rfl rfl)
theorem dX1_areSo_4 : decode cX1_areSo 4 = .ok (.getfield 120, 3) := dk_180 0 120 (dk_at dksX1_areSo_0 4 rfl rfl)
theorem dX1_areSo_7 : decode cX1_areSo 7 = .ok (.if_icmp .ge 40, 3) := dk_162 0 40 (dk_at dksX1_areSo_0 7 rfl rfl)
theorem dX1_areSo_10 : decode cX1_areSo 10 = .ok (.aload_n 0, 1) := dk_42 (dk_at dksX1_areSo_0 10 rfl rfl)
theorem dX1_areSo_11 : decode cX1_areSo 11 = .ok (.aload_n 0, 1) := dk_42 (dk_at dksX1_areSo_0 11 rfl rfl)
theorem dX1_areSo_12 : decode cX1_areSo 12 = .ok (.aload_n 0, 1) := dk_42 (dk_at dksX1_areSo_0 12 rfl rfl)
theorem dX1_areSo_13 : decode cX1_areSo 13 = .ok (.getfield 61, 3) := dk_180 0 61 (dk_at dksX1_areSo_0 13 rfl rfl)
theorem dX1_areSo_16 : decode cX1_areSo 16 = .ok (.iload_n 1, 1) := dk_27 (dk_at dksX1_areSo_0 16 rfl rfl)
theorem dX1_areSo_17 : decode cX1_areSo 17 = .ok (.iaload, 1) := dk_46 (dk_at dksX1_areSo_0 17 rfl rfl)
theorem dX1_areSo_18 : decode cX1_areSo 18 = .ok (.aload_n 0, 1) := dk_42 (dk_at dksX1_areSo_0 18 rfl rfl)
theorem dX1_areSo_19 : decode cX1_areSo 19 = .ok (.getfield 64, 3) := dk_180 0 64 (dk_at dksX1_areSo_0 19 rfl rfl)
theorem dX1_areSo_22 : decode cX1_areSo 22 = .ok (.iload_n 1, 1) := dk_27 (dk_at dksX1_areSo_0 22 rfl rfl)
theorem dX1_areSo_23 : decode cX1_areSo 23 = .ok (.iaload, 1) := dk_46 (dk_at dksX1_areSo_0 23 rfl rfl)
theorem dX1_areSo_24 : decode cX1_areSo 24 = .ok (.invokevirtual 198, 3) := dk_182 0 198 (dk_at dksX1_areSo_1 0 rfl rfl)
theorem dX1_areSo_27 : decode cX1_areSo 27 = .ok (.invokevirtual 181, 3) := dk_182 0 181 (dk_at dksX1_areSo_1 3 rfl rfl)
theorem dX1_areSo_30 : decode cX1_areSo 30 = .ok (.aload_n 0, 1) := dk_42 (dk_at dksX1_areSo_1 6 rfl rfl)
theorem dX1_areSo_31 : decode cX1_areSo 31 = .ok (.getfield 67, 3) := dk_180 0 67 (dk_at dksX1_areSo_1 7 rfl rfl)
theorem dX1_areSo_34 : decode cX1_areSo 34 = .ok (.iload_n 1, 1) := dk_27 (dk_at dksX1_areSo_1 10 rfl rfl)
theorem dX1_areSo_35 : decode cX1_areSo 35 = .ok (.iaload, 1) := dk_46 (dk_at dksX1_areSo_1 11 rfl rfl)
theorem dX1_areSo_36 : decode cX1_areSo 36 = .ok (.if_icmp .eq 5, 3) := dk_159 0 5 (dk_at dksX1_areSo_1 12 rfl rfl)
theorem dX1_areSo_39 : decode cX1_areSo 39 = .ok (.iconst 0, 1) := dk_3 (dk_at dksX1_areSo_1 15 rfl rfl)
theorem dX1_areSo_40 : decode cX1_areSo 40 = .ok (.ireturn, 1) := dk_172 (dk_at dksX1_areSo_1 16 rfl rfl)
theorem dX1_areSo_41 : decode cX1_areSo 41 = .ok (.iinc 1 1, 3) := dk_132 1 1 (dk_at dksX1_areSo_1 17 rfl rfl)
theorem dX1_areSo_44 : decode cX1_areSo 44 = .ok (.goto (-42), 3) := dk_167 255 214 (dk_at dksX1_areSo_1 20 rfl rfl)
theorem dX1_areSo_47 : decode cX1_areSo 47 = .ok (.iconst 1, 1) := dk_4 (dk_at dksX1_areSo_1 23 rfl rfl)
theorem dX1_areSo_48 : decode cX1_areSo 48 = .ok (.ireturn, 1) := dk_172 (dk_at dksX1_areSo_2 0 rfl rfl)
abbrev cX1_wayOf : ByteArray := prog_15_method_52_code
def yX1_wayOf : MethodName := ⟨RX1, "wayOf", "(II)I"⟩
def dkwX1_wayOf_3 : List UInt8 := [167, 0, 4, 3, 128, 62, 132, 4, 1, 167, 255, 182, 29, 172]
abbrev dktX1_wayOf_3 : List UInt8 := dkwX1_wayOf_3 ++ []
def dkwX1_wayOf_2 : List UInt8 := [96, 46, 160, 0, 7, 4, 167, 0, 4, 3, 54, 5, 29, 21, 5, 153, 0, 10, 4, 21, 4, 120]
abbrev dktX1_wayOf_2 : List UInt8 := dkwX1_wayOf_2 ++ dktX1_wayOf_3
def dkwX1_wayOf_1 : List UInt8 := [96, 46, 42, 180, 0, 37, 16, 8, 21, 4, 104, 28, 96, 46, 96, 42, 180, 0, 37, 16, 8, 27, 104, 28]
abbrev dktX1_wayOf_1 : List UInt8 := dkwX1_wayOf_1 ++ dktX1_wayOf_2
def dkwX1_wayOf_0 : List UInt8 := [3, 62, 3, 54, 4, 21, 4, 42, 180, 0, 80, 162, 0, 71, 42, 180, 0, 37, 16, 8, 27, 104, 21, 4]
abbrev dktX1_wayOf_0 : List UInt8 := dkwX1_wayOf_0 ++ dktX1_wayOf_1
theorem dksX1_wayOf_0 : cX1_wayOf.data.toList.drop 0 = dktX1_wayOf_0 := by decide +kernel
theorem dksX1_wayOf_1 : cX1_wayOf.data.toList.drop 24 = dktX1_wayOf_1 := dk_seg dksX1_wayOf_0 24 rfl rfl
theorem dksX1_wayOf_2 : cX1_wayOf.data.toList.drop 48 = dktX1_wayOf_2 := dk_seg dksX1_wayOf_1 24 rfl rfl
theorem dksX1_wayOf_3 : cX1_wayOf.data.toList.drop 70 = dktX1_wayOf_3 := dk_seg dksX1_wayOf_2 22 rfl rfl
theorem dX1_wayOf_0 : decode cX1_wayOf 0 = .ok (.iconst 0, 1) := dk_3 (dk_at dksX1_wayOf_0 0 rfl rfl)
theorem dX1_wayOf_1 : decode cX1_wayOf 1 = .ok (.istore_n 3, 1) := dk_62 (dk_at dksX1_wayOf_0 1 rfl rfl)
theorem dX1_wayOf_2 : decode cX1_wayOf 2 = .ok (.iconst 0, 1) := dk_3 (dk_at dksX1_wayOf_0 2 rfl rfl)
theorem dX1_wayOf_3 : decode cX1_wayOf 3 = .ok (.istore 4, 2) := dk_54 4 (dk_at dksX1_wayOf_0 3 rfl rfl)
theorem dX1_wayOf_5 : decode cX1_wayOf 5 = .ok (.iload 4, 2) := dk_21 4 (dk_at dksX1_wayOf_0 5 rfl rfl)
theorem dX1_wayOf_7 : decode cX1_wayOf 7 = .ok (.aload_n 0, 1) := dk_42 (dk_at dksX1_wayOf_0 7 rfl rfl)
theorem dX1_wayOf_8 : decode cX1_wayOf 8 = .ok (.getfield 80, 3) := dk_180 0 80 (dk_at dksX1_wayOf_0 8 rfl rfl)
theorem dX1_wayOf_11 : decode cX1_wayOf 11 = .ok (.if_icmp .ge 71, 3) := dk_162 0 71 (dk_at dksX1_wayOf_0 11 rfl rfl)
theorem dX1_wayOf_14 : decode cX1_wayOf 14 = .ok (.aload_n 0, 1) := dk_42 (dk_at dksX1_wayOf_0 14 rfl rfl)
theorem dX1_wayOf_15 : decode cX1_wayOf 15 = .ok (.getfield 37, 3) := dk_180 0 37 (dk_at dksX1_wayOf_0 15 rfl rfl)
theorem dX1_wayOf_18 : decode cX1_wayOf 18 = .ok (.bipush 8, 2) := dk_16 8 (dk_at dksX1_wayOf_0 18 rfl rfl)
theorem dX1_wayOf_20 : decode cX1_wayOf 20 = .ok (.iload_n 1, 1) := dk_27 (dk_at dksX1_wayOf_0 20 rfl rfl)
theorem dX1_wayOf_21 : decode cX1_wayOf 21 = .ok (.imul, 1) := dk_104 (dk_at dksX1_wayOf_0 21 rfl rfl)
theorem dX1_wayOf_22 : decode cX1_wayOf 22 = .ok (.iload 4, 2) := dk_21 4 (dk_at dksX1_wayOf_0 22 rfl rfl)
theorem dX1_wayOf_24 : decode cX1_wayOf 24 = .ok (.iadd, 1) := dk_96 (dk_at dksX1_wayOf_1 0 rfl rfl)
theorem dX1_wayOf_25 : decode cX1_wayOf 25 = .ok (.iaload, 1) := dk_46 (dk_at dksX1_wayOf_1 1 rfl rfl)
theorem dX1_wayOf_26 : decode cX1_wayOf 26 = .ok (.aload_n 0, 1) := dk_42 (dk_at dksX1_wayOf_1 2 rfl rfl)
theorem dX1_wayOf_27 : decode cX1_wayOf 27 = .ok (.getfield 37, 3) := dk_180 0 37 (dk_at dksX1_wayOf_1 3 rfl rfl)
theorem dX1_wayOf_30 : decode cX1_wayOf 30 = .ok (.bipush 8, 2) := dk_16 8 (dk_at dksX1_wayOf_1 6 rfl rfl)
theorem dX1_wayOf_32 : decode cX1_wayOf 32 = .ok (.iload 4, 2) := dk_21 4 (dk_at dksX1_wayOf_1 8 rfl rfl)
theorem dX1_wayOf_34 : decode cX1_wayOf 34 = .ok (.imul, 1) := dk_104 (dk_at dksX1_wayOf_1 10 rfl rfl)
theorem dX1_wayOf_35 : decode cX1_wayOf 35 = .ok (.iload_n 2, 1) := dk_28 (dk_at dksX1_wayOf_1 11 rfl rfl)
theorem dX1_wayOf_36 : decode cX1_wayOf 36 = .ok (.iadd, 1) := dk_96 (dk_at dksX1_wayOf_1 12 rfl rfl)
theorem dX1_wayOf_37 : decode cX1_wayOf 37 = .ok (.iaload, 1) := dk_46 (dk_at dksX1_wayOf_1 13 rfl rfl)
theorem dX1_wayOf_38 : decode cX1_wayOf 38 = .ok (.iadd, 1) := dk_96 (dk_at dksX1_wayOf_1 14 rfl rfl)
theorem dX1_wayOf_39 : decode cX1_wayOf 39 = .ok (.aload_n 0, 1) := dk_42 (dk_at dksX1_wayOf_1 15 rfl rfl)
theorem dX1_wayOf_40 : decode cX1_wayOf 40 = .ok (.getfield 37, 3) := dk_180 0 37 (dk_at dksX1_wayOf_1 16 rfl rfl)
theorem dX1_wayOf_43 : decode cX1_wayOf 43 = .ok (.bipush 8, 2) := dk_16 8 (dk_at dksX1_wayOf_1 19 rfl rfl)
theorem dX1_wayOf_45 : decode cX1_wayOf 45 = .ok (.iload_n 1, 1) := dk_27 (dk_at dksX1_wayOf_1 21 rfl rfl)
theorem dX1_wayOf_46 : decode cX1_wayOf 46 = .ok (.imul, 1) := dk_104 (dk_at dksX1_wayOf_1 22 rfl rfl)
theorem dX1_wayOf_47 : decode cX1_wayOf 47 = .ok (.iload_n 2, 1) := dk_28 (dk_at dksX1_wayOf_1 23 rfl rfl)
theorem dX1_wayOf_48 : decode cX1_wayOf 48 = .ok (.iadd, 1) := dk_96 (dk_at dksX1_wayOf_2 0 rfl rfl)
theorem dX1_wayOf_49 : decode cX1_wayOf 49 = .ok (.iaload, 1) := dk_46 (dk_at dksX1_wayOf_2 1 rfl rfl)
theorem dX1_wayOf_50 : decode cX1_wayOf 50 = .ok (.if_icmp .ne 7, 3) := dk_160 0 7 (dk_at dksX1_wayOf_2 2 rfl rfl)
theorem dX1_wayOf_53 : decode cX1_wayOf 53 = .ok (.iconst 1, 1) := dk_4 (dk_at dksX1_wayOf_2 5 rfl rfl)
theorem dX1_wayOf_54 : decode cX1_wayOf 54 = .ok (.goto 4, 3) := dk_167 0 4 (dk_at dksX1_wayOf_2 6 rfl rfl)
theorem dX1_wayOf_57 : decode cX1_wayOf 57 = .ok (.iconst 0, 1) := dk_3 (dk_at dksX1_wayOf_2 9 rfl rfl)
theorem dX1_wayOf_58 : decode cX1_wayOf 58 = .ok (.istore 5, 2) := dk_54 5 (dk_at dksX1_wayOf_2 10 rfl rfl)
theorem dX1_wayOf_60 : decode cX1_wayOf 60 = .ok (.iload_n 3, 1) := dk_29 (dk_at dksX1_wayOf_2 12 rfl rfl)
theorem dX1_wayOf_61 : decode cX1_wayOf 61 = .ok (.iload 5, 2) := dk_21 5 (dk_at dksX1_wayOf_2 13 rfl rfl)
theorem dX1_wayOf_63 : decode cX1_wayOf 63 = .ok (.ifCond .eq 10, 3) := dk_153 0 10 (dk_at dksX1_wayOf_2 15 rfl rfl)
theorem dX1_wayOf_66 : decode cX1_wayOf 66 = .ok (.iconst 1, 1) := dk_4 (dk_at dksX1_wayOf_2 18 rfl rfl)
theorem dX1_wayOf_67 : decode cX1_wayOf 67 = .ok (.iload 4, 2) := dk_21 4 (dk_at dksX1_wayOf_2 19 rfl rfl)
theorem dX1_wayOf_69 : decode cX1_wayOf 69 = .ok (.ishl, 1) := dk_120 (dk_at dksX1_wayOf_2 21 rfl rfl)
theorem dX1_wayOf_70 : decode cX1_wayOf 70 = .ok (.goto 4, 3) := dk_167 0 4 (dk_at dksX1_wayOf_3 0 rfl rfl)
theorem dX1_wayOf_73 : decode cX1_wayOf 73 = .ok (.iconst 0, 1) := dk_3 (dk_at dksX1_wayOf_3 3 rfl rfl)
theorem dX1_wayOf_74 : decode cX1_wayOf 74 = .ok (.ior, 1) := dk_128 (dk_at dksX1_wayOf_3 4 rfl rfl)
theorem dX1_wayOf_75 : decode cX1_wayOf 75 = .ok (.istore_n 3, 1) := dk_62 (dk_at dksX1_wayOf_3 5 rfl rfl)
theorem dX1_wayOf_76 : decode cX1_wayOf 76 = .ok (.iinc 4 1, 3) := dk_132 4 1 (dk_at dksX1_wayOf_3 6 rfl rfl)
theorem dX1_wayOf_79 : decode cX1_wayOf 79 = .ok (.goto (-74), 3) := dk_167 255 182 (dk_at dksX1_wayOf_3 9 rfl rfl)
theorem dX1_wayOf_82 : decode cX1_wayOf 82 = .ok (.iload_n 3, 1) := dk_29 (dk_at dksX1_wayOf_3 12 rfl rfl)
theorem dX1_wayOf_83 : decode cX1_wayOf 83 = .ok (.ireturn, 1) := dk_172 (dk_at dksX1_wayOf_3 13 rfl rfl)
abbrev cX1_kinds : ByteArray := prog_15_method_55_code
def yX1_kinds : MethodName := ⟨RX1, "kinds", "(I)I"⟩
def dkwX1_kinds_3 : List UInt8 := [172]
abbrev dktX1_kinds_3 : List UInt8 := dkwX1_kinds_3 ++ []
def dkwX1_kinds_2 : List UInt8 := [4, 21, 4, 120, 167, 0, 4, 3, 128, 62, 132, 4, 1, 167, 255, 221, 42, 180, 0, 22, 27, 28, 79, 29]
abbrev dktX1_kinds_2 : List UInt8 := dkwX1_kinds_2 ++ dktX1_kinds_3
def dkwX1_kinds_1 : List UInt8 := [54, 4, 21, 4, 6, 162, 0, 35, 42, 180, 0, 22, 27, 21, 4, 79, 29, 42, 182, 0, 201, 153, 0, 10]
abbrev dktX1_kinds_1 : List UInt8 := dkwX1_kinds_1 ++ dktX1_kinds_2
def dkwX1_kinds_0 : List UInt8 := [42, 27, 182, 0, 83, 154, 0, 5, 2, 172, 42, 182, 0, 146, 42, 180, 0, 22, 27, 46, 61, 3, 62, 3]
abbrev dktX1_kinds_0 : List UInt8 := dkwX1_kinds_0 ++ dktX1_kinds_1
theorem dksX1_kinds_0 : cX1_kinds.data.toList.drop 0 = dktX1_kinds_0 := by decide +kernel
theorem dksX1_kinds_1 : cX1_kinds.data.toList.drop 24 = dktX1_kinds_1 := dk_seg dksX1_kinds_0 24 rfl rfl
theorem dksX1_kinds_2 : cX1_kinds.data.toList.drop 48 = dktX1_kinds_2 := dk_seg dksX1_kinds_1 24 rfl rfl
theorem dksX1_kinds_3 : cX1_kinds.data.toList.drop 72 = dktX1_kinds_3 := dk_seg dksX1_kinds_2 24 rfl rfl
theorem dX1_kinds_0 : decode cX1_kinds 0 = .ok (.aload_n 0, 1) := dk_42 (dk_at dksX1_kinds_0 0 rfl rfl)
theorem dX1_kinds_1 : decode cX1_kinds 1 = .ok (.iload_n 1, 1) := dk_27 (dk_at dksX1_kinds_0 1 rfl rfl)
theorem dX1_kinds_2 : decode cX1_kinds 2 = .ok (.invokevirtual 83, 3) := dk_182 0 83 (dk_at dksX1_kinds_0 2 rfl rfl)
theorem dX1_kinds_5 : decode cX1_kinds 5 = .ok (.ifCond .ne 5, 3) := dk_154 0 5 (dk_at dksX1_kinds_0 5 rfl rfl)
theorem dX1_kinds_8 : decode cX1_kinds 8 = .ok (.iconst (-1), 1) := dk_2 (dk_at dksX1_kinds_0 8 rfl rfl)
theorem dX1_kinds_9 : decode cX1_kinds 9 = .ok (.ireturn, 1) := dk_172 (dk_at dksX1_kinds_0 9 rfl rfl)
theorem dX1_kinds_10 : decode cX1_kinds 10 = .ok (.aload_n 0, 1) := dk_42 (dk_at dksX1_kinds_0 10 rfl rfl)
theorem dX1_kinds_11 : decode cX1_kinds 11 = .ok (.invokevirtual 146, 3) := dk_182 0 146 (dk_at dksX1_kinds_0 11 rfl rfl)
theorem dX1_kinds_14 : decode cX1_kinds 14 = .ok (.aload_n 0, 1) := dk_42 (dk_at dksX1_kinds_0 14 rfl rfl)
theorem dX1_kinds_15 : decode cX1_kinds 15 = .ok (.getfield 22, 3) := dk_180 0 22 (dk_at dksX1_kinds_0 15 rfl rfl)
theorem dX1_kinds_18 : decode cX1_kinds 18 = .ok (.iload_n 1, 1) := dk_27 (dk_at dksX1_kinds_0 18 rfl rfl)
theorem dX1_kinds_19 : decode cX1_kinds 19 = .ok (.iaload, 1) := dk_46 (dk_at dksX1_kinds_0 19 rfl rfl)
theorem dX1_kinds_20 : decode cX1_kinds 20 = .ok (.istore_n 2, 1) := dk_61 (dk_at dksX1_kinds_0 20 rfl rfl)
theorem dX1_kinds_21 : decode cX1_kinds 21 = .ok (.iconst 0, 1) := dk_3 (dk_at dksX1_kinds_0 21 rfl rfl)
theorem dX1_kinds_22 : decode cX1_kinds 22 = .ok (.istore_n 3, 1) := dk_62 (dk_at dksX1_kinds_0 22 rfl rfl)
theorem dX1_kinds_23 : decode cX1_kinds 23 = .ok (.iconst 0, 1) := dk_3 (dk_at dksX1_kinds_0 23 rfl rfl)
theorem dX1_kinds_24 : decode cX1_kinds 24 = .ok (.istore 4, 2) := dk_54 4 (dk_at dksX1_kinds_1 0 rfl rfl)
theorem dX1_kinds_26 : decode cX1_kinds 26 = .ok (.iload 4, 2) := dk_21 4 (dk_at dksX1_kinds_1 2 rfl rfl)
theorem dX1_kinds_28 : decode cX1_kinds 28 = .ok (.iconst 3, 1) := dk_6 (dk_at dksX1_kinds_1 4 rfl rfl)
theorem dX1_kinds_29 : decode cX1_kinds 29 = .ok (.if_icmp .ge 35, 3) := dk_162 0 35 (dk_at dksX1_kinds_1 5 rfl rfl)
theorem dX1_kinds_32 : decode cX1_kinds 32 = .ok (.aload_n 0, 1) := dk_42 (dk_at dksX1_kinds_1 8 rfl rfl)
theorem dX1_kinds_33 : decode cX1_kinds 33 = .ok (.getfield 22, 3) := dk_180 0 22 (dk_at dksX1_kinds_1 9 rfl rfl)
theorem dX1_kinds_36 : decode cX1_kinds 36 = .ok (.iload_n 1, 1) := dk_27 (dk_at dksX1_kinds_1 12 rfl rfl)
theorem dX1_kinds_37 : decode cX1_kinds 37 = .ok (.iload 4, 2) := dk_21 4 (dk_at dksX1_kinds_1 13 rfl rfl)
theorem dX1_kinds_39 : decode cX1_kinds 39 = .ok (.iastore, 1) := dk_79 (dk_at dksX1_kinds_1 15 rfl rfl)
theorem dX1_kinds_40 : decode cX1_kinds 40 = .ok (.iload_n 3, 1) := dk_29 (dk_at dksX1_kinds_1 16 rfl rfl)
theorem dX1_kinds_41 : decode cX1_kinds 41 = .ok (.aload_n 0, 1) := dk_42 (dk_at dksX1_kinds_1 17 rfl rfl)
theorem dX1_kinds_42 : decode cX1_kinds 42 = .ok (.invokevirtual 201, 3) := dk_182 0 201 (dk_at dksX1_kinds_1 18 rfl rfl)
theorem dX1_kinds_45 : decode cX1_kinds 45 = .ok (.ifCond .eq 10, 3) := dk_153 0 10 (dk_at dksX1_kinds_1 21 rfl rfl)
theorem dX1_kinds_48 : decode cX1_kinds 48 = .ok (.iconst 1, 1) := dk_4 (dk_at dksX1_kinds_2 0 rfl rfl)
theorem dX1_kinds_49 : decode cX1_kinds 49 = .ok (.iload 4, 2) := dk_21 4 (dk_at dksX1_kinds_2 1 rfl rfl)
theorem dX1_kinds_51 : decode cX1_kinds 51 = .ok (.ishl, 1) := dk_120 (dk_at dksX1_kinds_2 3 rfl rfl)
theorem dX1_kinds_52 : decode cX1_kinds 52 = .ok (.goto 4, 3) := dk_167 0 4 (dk_at dksX1_kinds_2 4 rfl rfl)
theorem dX1_kinds_55 : decode cX1_kinds 55 = .ok (.iconst 0, 1) := dk_3 (dk_at dksX1_kinds_2 7 rfl rfl)
theorem dX1_kinds_56 : decode cX1_kinds 56 = .ok (.ior, 1) := dk_128 (dk_at dksX1_kinds_2 8 rfl rfl)
theorem dX1_kinds_57 : decode cX1_kinds 57 = .ok (.istore_n 3, 1) := dk_62 (dk_at dksX1_kinds_2 9 rfl rfl)
theorem dX1_kinds_58 : decode cX1_kinds 58 = .ok (.iinc 4 1, 3) := dk_132 4 1 (dk_at dksX1_kinds_2 10 rfl rfl)
theorem dX1_kinds_61 : decode cX1_kinds 61 = .ok (.goto (-35), 3) := dk_167 255 221 (dk_at dksX1_kinds_2 13 rfl rfl)
theorem dX1_kinds_64 : decode cX1_kinds 64 = .ok (.aload_n 0, 1) := dk_42 (dk_at dksX1_kinds_2 16 rfl rfl)
theorem dX1_kinds_65 : decode cX1_kinds 65 = .ok (.getfield 22, 3) := dk_180 0 22 (dk_at dksX1_kinds_2 17 rfl rfl)
theorem dX1_kinds_68 : decode cX1_kinds 68 = .ok (.iload_n 1, 1) := dk_27 (dk_at dksX1_kinds_2 20 rfl rfl)
theorem dX1_kinds_69 : decode cX1_kinds 69 = .ok (.iload_n 2, 1) := dk_28 (dk_at dksX1_kinds_2 21 rfl rfl)
theorem dX1_kinds_70 : decode cX1_kinds 70 = .ok (.iastore, 1) := dk_79 (dk_at dksX1_kinds_2 22 rfl rfl)
theorem dX1_kinds_71 : decode cX1_kinds 71 = .ok (.iload_n 3, 1) := dk_29 (dk_at dksX1_kinds_2 23 rfl rfl)
theorem dX1_kinds_72 : decode cX1_kinds 72 = .ok (.ireturn, 1) := dk_172 (dk_at dksX1_kinds_3 0 rfl rfl)
abbrev cX1_odds : ByteArray := prog_15_method_57_code
def yX1_odds : MethodName := ⟨RX1, "odds", "(II)J"⟩
def dkwX1_odds_5 : List UInt8 := [173]
abbrev dktX1_odds_5 : List UInt8 := dkwX1_odds_5 ++ []
def dkwX1_odds_4 : List UInt8 := [96, 54, 4, 132, 6, 1, 167, 255, 214, 132, 5, 1, 167, 255, 193, 21, 4, 133, 29, 133, 28, 184, 0, 204]
abbrev dktX1_odds_4 : List UInt8 := dkwX1_odds_4 ++ dktX1_odds_5
def dkwX1_odds_3 : List UInt8 := [21, 4, 42, 180, 0, 37, 16, 8, 21, 5, 104, 21, 6, 96, 46, 27, 163, 0, 7, 4, 167, 0, 4, 3]
abbrev dktX1_odds_3 : List UInt8 := dkwX1_odds_3 ++ dktX1_odds_4
def dkwX1_odds_2 : List UInt8 := [180, 0, 80, 162, 0, 60, 21, 5, 4, 96, 54, 6, 21, 6, 42, 180, 0, 80, 162, 0, 39, 132, 3, 1]
abbrev dktX1_odds_2 : List UInt8 := dkwX1_odds_2 ++ dktX1_odds_3
def dkwX1_odds_1 : List UInt8 := [154, 0, 7, 20, 0, 74, 173, 42, 182, 0, 146, 3, 62, 3, 54, 4, 3, 54, 5, 21, 5, 42]
abbrev dktX1_odds_1 : List UInt8 := dkwX1_odds_1 ++ dktX1_odds_2
def dkwX1_odds_0 : List UInt8 := [27, 3, 16, 7, 184, 0, 76, 153, 0, 19, 28, 3, 4, 184, 0, 76, 153, 0, 10, 42, 180, 0, 80]
abbrev dktX1_odds_0 : List UInt8 := dkwX1_odds_0 ++ dktX1_odds_1
theorem dksX1_odds_0 : cX1_odds.data.toList.drop 0 = dktX1_odds_0 := by decide +kernel
theorem dksX1_odds_1 : cX1_odds.data.toList.drop 23 = dktX1_odds_1 := dk_seg dksX1_odds_0 23 rfl rfl
theorem dksX1_odds_2 : cX1_odds.data.toList.drop 45 = dktX1_odds_2 := dk_seg dksX1_odds_1 22 rfl rfl
theorem dksX1_odds_3 : cX1_odds.data.toList.drop 69 = dktX1_odds_3 := dk_seg dksX1_odds_2 24 rfl rfl
theorem dksX1_odds_4 : cX1_odds.data.toList.drop 93 = dktX1_odds_4 := dk_seg dksX1_odds_3 24 rfl rfl
theorem dksX1_odds_5 : cX1_odds.data.toList.drop 117 = dktX1_odds_5 := dk_seg dksX1_odds_4 24 rfl rfl
theorem dX1_odds_0 : decode cX1_odds 0 = .ok (.iload_n 1, 1) := dk_27 (dk_at dksX1_odds_0 0 rfl rfl)
theorem dX1_odds_1 : decode cX1_odds 1 = .ok (.iconst 0, 1) := dk_3 (dk_at dksX1_odds_0 1 rfl rfl)
theorem dX1_odds_2 : decode cX1_odds 2 = .ok (.bipush 7, 2) := dk_16 7 (dk_at dksX1_odds_0 2 rfl rfl)
theorem dX1_odds_4 : decode cX1_odds 4 = .ok (.invokestatic 76, 3) := dk_184 0 76 (dk_at dksX1_odds_0 4 rfl rfl)
theorem dX1_odds_7 : decode cX1_odds 7 = .ok (.ifCond .eq 19, 3) := dk_153 0 19 (dk_at dksX1_odds_0 7 rfl rfl)
theorem dX1_odds_10 : decode cX1_odds 10 = .ok (.iload_n 2, 1) := dk_28 (dk_at dksX1_odds_0 10 rfl rfl)
theorem dX1_odds_11 : decode cX1_odds 11 = .ok (.iconst 0, 1) := dk_3 (dk_at dksX1_odds_0 11 rfl rfl)
theorem dX1_odds_12 : decode cX1_odds 12 = .ok (.iconst 1, 1) := dk_4 (dk_at dksX1_odds_0 12 rfl rfl)
theorem dX1_odds_13 : decode cX1_odds 13 = .ok (.invokestatic 76, 3) := dk_184 0 76 (dk_at dksX1_odds_0 13 rfl rfl)
theorem dX1_odds_16 : decode cX1_odds 16 = .ok (.ifCond .eq 10, 3) := dk_153 0 10 (dk_at dksX1_odds_0 16 rfl rfl)
theorem dX1_odds_19 : decode cX1_odds 19 = .ok (.aload_n 0, 1) := dk_42 (dk_at dksX1_odds_0 19 rfl rfl)
theorem dX1_odds_20 : decode cX1_odds 20 = .ok (.getfield 80, 3) := dk_180 0 80 (dk_at dksX1_odds_0 20 rfl rfl)
theorem dX1_odds_23 : decode cX1_odds 23 = .ok (.ifCond .ne 7, 3) := dk_154 0 7 (dk_at dksX1_odds_1 0 rfl rfl)
theorem dX1_odds_26 : decode cX1_odds 26 = .ok (.ldc2_w 74, 3) := dk_20 0 74 (dk_at dksX1_odds_1 3 rfl rfl)
theorem dX1_odds_29 : decode cX1_odds 29 = .ok (.lreturn, 1) := dk_173 (dk_at dksX1_odds_1 6 rfl rfl)
theorem dX1_odds_30 : decode cX1_odds 30 = .ok (.aload_n 0, 1) := dk_42 (dk_at dksX1_odds_1 7 rfl rfl)
theorem dX1_odds_31 : decode cX1_odds 31 = .ok (.invokevirtual 146, 3) := dk_182 0 146 (dk_at dksX1_odds_1 8 rfl rfl)
theorem dX1_odds_34 : decode cX1_odds 34 = .ok (.iconst 0, 1) := dk_3 (dk_at dksX1_odds_1 11 rfl rfl)
theorem dX1_odds_35 : decode cX1_odds 35 = .ok (.istore_n 3, 1) := dk_62 (dk_at dksX1_odds_1 12 rfl rfl)
theorem dX1_odds_36 : decode cX1_odds 36 = .ok (.iconst 0, 1) := dk_3 (dk_at dksX1_odds_1 13 rfl rfl)
theorem dX1_odds_37 : decode cX1_odds 37 = .ok (.istore 4, 2) := dk_54 4 (dk_at dksX1_odds_1 14 rfl rfl)
theorem dX1_odds_39 : decode cX1_odds 39 = .ok (.iconst 0, 1) := dk_3 (dk_at dksX1_odds_1 16 rfl rfl)
theorem dX1_odds_40 : decode cX1_odds 40 = .ok (.istore 5, 2) := dk_54 5 (dk_at dksX1_odds_1 17 rfl rfl)
theorem dX1_odds_42 : decode cX1_odds 42 = .ok (.iload 5, 2) := dk_21 5 (dk_at dksX1_odds_1 19 rfl rfl)
theorem dX1_odds_44 : decode cX1_odds 44 = .ok (.aload_n 0, 1) := dk_42 (dk_at dksX1_odds_1 21 rfl rfl)
theorem dX1_odds_45 : decode cX1_odds 45 = .ok (.getfield 80, 3) := dk_180 0 80 (dk_at dksX1_odds_2 0 rfl rfl)
theorem dX1_odds_48 : decode cX1_odds 48 = .ok (.if_icmp .ge 60, 3) := dk_162 0 60 (dk_at dksX1_odds_2 3 rfl rfl)
theorem dX1_odds_51 : decode cX1_odds 51 = .ok (.iload 5, 2) := dk_21 5 (dk_at dksX1_odds_2 6 rfl rfl)
theorem dX1_odds_53 : decode cX1_odds 53 = .ok (.iconst 1, 1) := dk_4 (dk_at dksX1_odds_2 8 rfl rfl)
theorem dX1_odds_54 : decode cX1_odds 54 = .ok (.iadd, 1) := dk_96 (dk_at dksX1_odds_2 9 rfl rfl)
theorem dX1_odds_55 : decode cX1_odds 55 = .ok (.istore 6, 2) := dk_54 6 (dk_at dksX1_odds_2 10 rfl rfl)
theorem dX1_odds_57 : decode cX1_odds 57 = .ok (.iload 6, 2) := dk_21 6 (dk_at dksX1_odds_2 12 rfl rfl)
theorem dX1_odds_59 : decode cX1_odds 59 = .ok (.aload_n 0, 1) := dk_42 (dk_at dksX1_odds_2 14 rfl rfl)
theorem dX1_odds_60 : decode cX1_odds 60 = .ok (.getfield 80, 3) := dk_180 0 80 (dk_at dksX1_odds_2 15 rfl rfl)
theorem dX1_odds_63 : decode cX1_odds 63 = .ok (.if_icmp .ge 39, 3) := dk_162 0 39 (dk_at dksX1_odds_2 18 rfl rfl)
theorem dX1_odds_66 : decode cX1_odds 66 = .ok (.iinc 3 1, 3) := dk_132 3 1 (dk_at dksX1_odds_2 21 rfl rfl)
theorem dX1_odds_69 : decode cX1_odds 69 = .ok (.iload 4, 2) := dk_21 4 (dk_at dksX1_odds_3 0 rfl rfl)
theorem dX1_odds_71 : decode cX1_odds 71 = .ok (.aload_n 0, 1) := dk_42 (dk_at dksX1_odds_3 2 rfl rfl)
theorem dX1_odds_72 : decode cX1_odds 72 = .ok (.getfield 37, 3) := dk_180 0 37 (dk_at dksX1_odds_3 3 rfl rfl)
theorem dX1_odds_75 : decode cX1_odds 75 = .ok (.bipush 8, 2) := dk_16 8 (dk_at dksX1_odds_3 6 rfl rfl)
theorem dX1_odds_77 : decode cX1_odds 77 = .ok (.iload 5, 2) := dk_21 5 (dk_at dksX1_odds_3 8 rfl rfl)
theorem dX1_odds_79 : decode cX1_odds 79 = .ok (.imul, 1) := dk_104 (dk_at dksX1_odds_3 10 rfl rfl)
theorem dX1_odds_80 : decode cX1_odds 80 = .ok (.iload 6, 2) := dk_21 6 (dk_at dksX1_odds_3 11 rfl rfl)
theorem dX1_odds_82 : decode cX1_odds 82 = .ok (.iadd, 1) := dk_96 (dk_at dksX1_odds_3 13 rfl rfl)
theorem dX1_odds_83 : decode cX1_odds 83 = .ok (.iaload, 1) := dk_46 (dk_at dksX1_odds_3 14 rfl rfl)
theorem dX1_odds_84 : decode cX1_odds 84 = .ok (.iload_n 1, 1) := dk_27 (dk_at dksX1_odds_3 15 rfl rfl)
theorem dX1_odds_85 : decode cX1_odds 85 = .ok (.if_icmp .gt 7, 3) := dk_163 0 7 (dk_at dksX1_odds_3 16 rfl rfl)
theorem dX1_odds_88 : decode cX1_odds 88 = .ok (.iconst 1, 1) := dk_4 (dk_at dksX1_odds_3 19 rfl rfl)
theorem dX1_odds_89 : decode cX1_odds 89 = .ok (.goto 4, 3) := dk_167 0 4 (dk_at dksX1_odds_3 20 rfl rfl)
theorem dX1_odds_92 : decode cX1_odds 92 = .ok (.iconst 0, 1) := dk_3 (dk_at dksX1_odds_3 23 rfl rfl)
theorem dX1_odds_93 : decode cX1_odds 93 = .ok (.iadd, 1) := dk_96 (dk_at dksX1_odds_4 0 rfl rfl)
theorem dX1_odds_94 : decode cX1_odds 94 = .ok (.istore 4, 2) := dk_54 4 (dk_at dksX1_odds_4 1 rfl rfl)
theorem dX1_odds_96 : decode cX1_odds 96 = .ok (.iinc 6 1, 3) := dk_132 6 1 (dk_at dksX1_odds_4 3 rfl rfl)
theorem dX1_odds_99 : decode cX1_odds 99 = .ok (.goto (-42), 3) := dk_167 255 214 (dk_at dksX1_odds_4 6 rfl rfl)
theorem dX1_odds_102 : decode cX1_odds 102 = .ok (.iinc 5 1, 3) := dk_132 5 1 (dk_at dksX1_odds_4 9 rfl rfl)
theorem dX1_odds_105 : decode cX1_odds 105 = .ok (.goto (-63), 3) := dk_167 255 193 (dk_at dksX1_odds_4 12 rfl rfl)
theorem dX1_odds_108 : decode cX1_odds 108 = .ok (.iload 4, 2) := dk_21 4 (dk_at dksX1_odds_4 15 rfl rfl)
theorem dX1_odds_110 : decode cX1_odds 110 = .ok (.i2l, 1) := dk_133 (dk_at dksX1_odds_4 17 rfl rfl)
theorem dX1_odds_111 : decode cX1_odds 111 = .ok (.iload_n 3, 1) := dk_29 (dk_at dksX1_odds_4 18 rfl rfl)
theorem dX1_odds_112 : decode cX1_odds 112 = .ok (.i2l, 1) := dk_133 (dk_at dksX1_odds_4 19 rfl rfl)
theorem dX1_odds_113 : decode cX1_odds 113 = .ok (.iload_n 2, 1) := dk_28 (dk_at dksX1_odds_4 20 rfl rfl)
theorem dX1_odds_114 : decode cX1_odds 114 = .ok (.invokestatic 204, 3) := dk_184 0 204 (dk_at dksX1_odds_4 21 rfl rfl)
theorem dX1_odds_117 : decode cX1_odds 117 = .ok (.lreturn, 1) := dk_173 (dk_at dksX1_odds_5 0 rfl rfl)
abbrev cX1_inLeastTerms : ByteArray := prog_15_method_56_code
def yX1_inLeastTerms : MethodName := ⟨RX1, "inLeastTerms", "(JJI)J"⟩
def dkwX1_inLeastTerms_1 : List UInt8 := [22, 9, 55, 7, 167, 255, 234, 21, 4, 154, 0, 10, 30, 22, 5, 109, 167, 0, 7, 32, 22, 5, 109, 173]
abbrev dktX1_inLeastTerms_1 : List UInt8 := dkwX1_inLeastTerms_1 ++ []
def dkwX1_inLeastTerms_0 : List UInt8 := [30, 55, 5, 32, 55, 7, 22, 7, 9, 148, 153, 0, 21, 22, 5, 22, 7, 113, 55, 9, 22, 7, 55, 5]
abbrev dktX1_inLeastTerms_0 : List UInt8 := dkwX1_inLeastTerms_0 ++ dktX1_inLeastTerms_1
theorem dksX1_inLeastTerms_0 : cX1_inLeastTerms.data.toList.drop 0 = dktX1_inLeastTerms_0 := by decide +kernel
theorem dksX1_inLeastTerms_1 : cX1_inLeastTerms.data.toList.drop 24 = dktX1_inLeastTerms_1 := dk_seg dksX1_inLeastTerms_0 24 rfl rfl
theorem dX1_inLeastTerms_0 : decode cX1_inLeastTerms 0 = .ok (.lload_n 0, 1) := dk_30 (dk_at dksX1_inLeastTerms_0 0 rfl rfl)
theorem dX1_inLeastTerms_1 : decode cX1_inLeastTerms 1 = .ok (.lstore 5, 2) := dk_55 5 (dk_at dksX1_inLeastTerms_0 1 rfl rfl)
theorem dX1_inLeastTerms_3 : decode cX1_inLeastTerms 3 = .ok (.lload_n 2, 1) := dk_32 (dk_at dksX1_inLeastTerms_0 3 rfl rfl)
theorem dX1_inLeastTerms_4 : decode cX1_inLeastTerms 4 = .ok (.lstore 7, 2) := dk_55 7 (dk_at dksX1_inLeastTerms_0 4 rfl rfl)
theorem dX1_inLeastTerms_6 : decode cX1_inLeastTerms 6 = .ok (.lload 7, 2) := dk_22 7 (dk_at dksX1_inLeastTerms_0 6 rfl rfl)
theorem dX1_inLeastTerms_8 : decode cX1_inLeastTerms 8 = .ok (.lconst 0, 1) := dk_9 (dk_at dksX1_inLeastTerms_0 8 rfl rfl)
theorem dX1_inLeastTerms_9 : decode cX1_inLeastTerms 9 = .ok (.lcmp, 1) := dk_148 (dk_at dksX1_inLeastTerms_0 9 rfl rfl)
theorem dX1_inLeastTerms_10 : decode cX1_inLeastTerms 10 = .ok (.ifCond .eq 21, 3) := dk_153 0 21 (dk_at dksX1_inLeastTerms_0 10 rfl rfl)
theorem dX1_inLeastTerms_13 : decode cX1_inLeastTerms 13 = .ok (.lload 5, 2) := dk_22 5 (dk_at dksX1_inLeastTerms_0 13 rfl rfl)
theorem dX1_inLeastTerms_15 : decode cX1_inLeastTerms 15 = .ok (.lload 7, 2) := dk_22 7 (dk_at dksX1_inLeastTerms_0 15 rfl rfl)
theorem dX1_inLeastTerms_17 : decode cX1_inLeastTerms 17 = .ok (.lrem, 1) := dk_113 (dk_at dksX1_inLeastTerms_0 17 rfl rfl)
theorem dX1_inLeastTerms_18 : decode cX1_inLeastTerms 18 = .ok (.lstore 9, 2) := dk_55 9 (dk_at dksX1_inLeastTerms_0 18 rfl rfl)
theorem dX1_inLeastTerms_20 : decode cX1_inLeastTerms 20 = .ok (.lload 7, 2) := dk_22 7 (dk_at dksX1_inLeastTerms_0 20 rfl rfl)
theorem dX1_inLeastTerms_22 : decode cX1_inLeastTerms 22 = .ok (.lstore 5, 2) := dk_55 5 (dk_at dksX1_inLeastTerms_0 22 rfl rfl)
theorem dX1_inLeastTerms_24 : decode cX1_inLeastTerms 24 = .ok (.lload 9, 2) := dk_22 9 (dk_at dksX1_inLeastTerms_1 0 rfl rfl)
theorem dX1_inLeastTerms_26 : decode cX1_inLeastTerms 26 = .ok (.lstore 7, 2) := dk_55 7 (dk_at dksX1_inLeastTerms_1 2 rfl rfl)
theorem dX1_inLeastTerms_28 : decode cX1_inLeastTerms 28 = .ok (.goto (-22), 3) := dk_167 255 234 (dk_at dksX1_inLeastTerms_1 4 rfl rfl)
theorem dX1_inLeastTerms_31 : decode cX1_inLeastTerms 31 = .ok (.iload 4, 2) := dk_21 4 (dk_at dksX1_inLeastTerms_1 7 rfl rfl)
theorem dX1_inLeastTerms_33 : decode cX1_inLeastTerms 33 = .ok (.ifCond .ne 10, 3) := dk_154 0 10 (dk_at dksX1_inLeastTerms_1 9 rfl rfl)
theorem dX1_inLeastTerms_36 : decode cX1_inLeastTerms 36 = .ok (.lload_n 0, 1) := dk_30 (dk_at dksX1_inLeastTerms_1 12 rfl rfl)
theorem dX1_inLeastTerms_37 : decode cX1_inLeastTerms 37 = .ok (.lload 5, 2) := dk_22 5 (dk_at dksX1_inLeastTerms_1 13 rfl rfl)
theorem dX1_inLeastTerms_39 : decode cX1_inLeastTerms 39 = .ok (.ldiv, 1) := dk_109 (dk_at dksX1_inLeastTerms_1 15 rfl rfl)
theorem dX1_inLeastTerms_40 : decode cX1_inLeastTerms 40 = .ok (.goto 7, 3) := dk_167 0 7 (dk_at dksX1_inLeastTerms_1 16 rfl rfl)
theorem dX1_inLeastTerms_43 : decode cX1_inLeastTerms 43 = .ok (.lload_n 2, 1) := dk_32 (dk_at dksX1_inLeastTerms_1 19 rfl rfl)
theorem dX1_inLeastTerms_44 : decode cX1_inLeastTerms 44 = .ok (.lload 5, 2) := dk_22 5 (dk_at dksX1_inLeastTerms_1 20 rfl rfl)
theorem dX1_inLeastTerms_46 : decode cX1_inLeastTerms 46 = .ok (.ldiv, 1) := dk_109 (dk_at dksX1_inLeastTerms_1 22 rfl rfl)
theorem dX1_inLeastTerms_47 : decode cX1_inLeastTerms 47 = .ok (.lreturn, 1) := dk_173 (dk_at dksX1_inLeastTerms_1 23 rfl rfl)
abbrev cX1_sheet : ByteArray := prog_15_method_58_code
def yX1_sheet : MethodName := ⟨RX1, "sheet", "(III)I"⟩
def dkwX1_sheet_3 : List UInt8 := [21, 4, 96, 3, 79, 132, 4, 1, 167, 255, 233, 4, 172]
abbrev dktX1_sheet_3 : List UInt8 := dkwX1_sheet_3 ++ []
def dkwX1_sheet_2 : List UInt8 := [180, 0, 13, 27, 29, 79, 3, 54, 4, 21, 4, 16, 60, 162, 0, 22, 42, 180, 0, 16, 16, 60, 27, 104]
abbrev dktX1_sheet_2 : List UInt8 := dkwX1_sheet_2 ++ dktX1_sheet_3
def dkwX1_sheet_1 : List UInt8 := [164, 0, 6, 16, 254, 172, 29, 156, 0, 9, 42, 7, 182, 0, 104, 172, 42, 180, 0, 9, 27, 28, 79, 42]
abbrev dktX1_sheet_1 : List UInt8 := dkwX1_sheet_1 ++ dktX1_sheet_2
def dkwX1_sheet_0 : List UInt8 := [42, 3, 181, 0, 70, 27, 184, 0, 94, 154, 0, 5, 2, 172, 28, 184, 0, 97, 153, 0, 9, 29, 16, 60]
abbrev dktX1_sheet_0 : List UInt8 := dkwX1_sheet_0 ++ dktX1_sheet_1
theorem dksX1_sheet_0 : cX1_sheet.data.toList.drop 0 = dktX1_sheet_0 := by decide +kernel
theorem dksX1_sheet_1 : cX1_sheet.data.toList.drop 24 = dktX1_sheet_1 := dk_seg dksX1_sheet_0 24 rfl rfl
theorem dksX1_sheet_2 : cX1_sheet.data.toList.drop 48 = dktX1_sheet_2 := dk_seg dksX1_sheet_1 24 rfl rfl
theorem dksX1_sheet_3 : cX1_sheet.data.toList.drop 72 = dktX1_sheet_3 := dk_seg dksX1_sheet_2 24 rfl rfl
theorem dX1_sheet_0 : decode cX1_sheet 0 = .ok (.aload_n 0, 1) := dk_42 (dk_at dksX1_sheet_0 0 rfl rfl)
theorem dX1_sheet_1 : decode cX1_sheet 1 = .ok (.iconst 0, 1) := dk_3 (dk_at dksX1_sheet_0 1 rfl rfl)
theorem dX1_sheet_2 : decode cX1_sheet 2 = .ok (.putfield 70, 3) := dk_181 0 70 (dk_at dksX1_sheet_0 2 rfl rfl)
theorem dX1_sheet_5 : decode cX1_sheet 5 = .ok (.iload_n 1, 1) := dk_27 (dk_at dksX1_sheet_0 5 rfl rfl)
theorem dX1_sheet_6 : decode cX1_sheet 6 = .ok (.invokestatic 94, 3) := dk_184 0 94 (dk_at dksX1_sheet_0 6 rfl rfl)
theorem dX1_sheet_9 : decode cX1_sheet 9 = .ok (.ifCond .ne 5, 3) := dk_154 0 5 (dk_at dksX1_sheet_0 9 rfl rfl)
theorem dX1_sheet_12 : decode cX1_sheet 12 = .ok (.iconst (-1), 1) := dk_2 (dk_at dksX1_sheet_0 12 rfl rfl)
theorem dX1_sheet_13 : decode cX1_sheet 13 = .ok (.ireturn, 1) := dk_172 (dk_at dksX1_sheet_0 13 rfl rfl)
theorem dX1_sheet_14 : decode cX1_sheet 14 = .ok (.iload_n 2, 1) := dk_28 (dk_at dksX1_sheet_0 14 rfl rfl)
theorem dX1_sheet_15 : decode cX1_sheet 15 = .ok (.invokestatic 97, 3) := dk_184 0 97 (dk_at dksX1_sheet_0 15 rfl rfl)
theorem dX1_sheet_18 : decode cX1_sheet 18 = .ok (.ifCond .eq 9, 3) := dk_153 0 9 (dk_at dksX1_sheet_0 18 rfl rfl)
theorem dX1_sheet_21 : decode cX1_sheet 21 = .ok (.iload_n 3, 1) := dk_29 (dk_at dksX1_sheet_0 21 rfl rfl)
theorem dX1_sheet_22 : decode cX1_sheet 22 = .ok (.bipush 60, 2) := dk_16 60 (dk_at dksX1_sheet_0 22 rfl rfl)
theorem dX1_sheet_24 : decode cX1_sheet 24 = .ok (.if_icmp .le 6, 3) := dk_164 0 6 (dk_at dksX1_sheet_1 0 rfl rfl)
theorem dX1_sheet_27 : decode cX1_sheet 27 = .ok (.bipush (-2), 2) := dk_16 254 (dk_at dksX1_sheet_1 3 rfl rfl)
theorem dX1_sheet_29 : decode cX1_sheet 29 = .ok (.ireturn, 1) := dk_172 (dk_at dksX1_sheet_1 5 rfl rfl)
theorem dX1_sheet_30 : decode cX1_sheet 30 = .ok (.iload_n 3, 1) := dk_29 (dk_at dksX1_sheet_1 6 rfl rfl)
theorem dX1_sheet_31 : decode cX1_sheet 31 = .ok (.ifCond .ge 9, 3) := dk_156 0 9 (dk_at dksX1_sheet_1 7 rfl rfl)
theorem dX1_sheet_34 : decode cX1_sheet 34 = .ok (.aload_n 0, 1) := dk_42 (dk_at dksX1_sheet_1 10 rfl rfl)
theorem dX1_sheet_35 : decode cX1_sheet 35 = .ok (.iconst 4, 1) := dk_7 (dk_at dksX1_sheet_1 11 rfl rfl)
theorem dX1_sheet_36 : decode cX1_sheet 36 = .ok (.invokevirtual 104, 3) := dk_182 0 104 (dk_at dksX1_sheet_1 12 rfl rfl)
theorem dX1_sheet_39 : decode cX1_sheet 39 = .ok (.ireturn, 1) := dk_172 (dk_at dksX1_sheet_1 15 rfl rfl)
theorem dX1_sheet_40 : decode cX1_sheet 40 = .ok (.aload_n 0, 1) := dk_42 (dk_at dksX1_sheet_1 16 rfl rfl)
theorem dX1_sheet_41 : decode cX1_sheet 41 = .ok (.getfield 9, 3) := dk_180 0 9 (dk_at dksX1_sheet_1 17 rfl rfl)
theorem dX1_sheet_44 : decode cX1_sheet 44 = .ok (.iload_n 1, 1) := dk_27 (dk_at dksX1_sheet_1 20 rfl rfl)
theorem dX1_sheet_45 : decode cX1_sheet 45 = .ok (.iload_n 2, 1) := dk_28 (dk_at dksX1_sheet_1 21 rfl rfl)
theorem dX1_sheet_46 : decode cX1_sheet 46 = .ok (.iastore, 1) := dk_79 (dk_at dksX1_sheet_1 22 rfl rfl)
theorem dX1_sheet_47 : decode cX1_sheet 47 = .ok (.aload_n 0, 1) := dk_42 (dk_at dksX1_sheet_1 23 rfl rfl)
theorem dX1_sheet_48 : decode cX1_sheet 48 = .ok (.getfield 13, 3) := dk_180 0 13 (dk_at dksX1_sheet_2 0 rfl rfl)
theorem dX1_sheet_51 : decode cX1_sheet 51 = .ok (.iload_n 1, 1) := dk_27 (dk_at dksX1_sheet_2 3 rfl rfl)
theorem dX1_sheet_52 : decode cX1_sheet 52 = .ok (.iload_n 3, 1) := dk_29 (dk_at dksX1_sheet_2 4 rfl rfl)
theorem dX1_sheet_53 : decode cX1_sheet 53 = .ok (.iastore, 1) := dk_79 (dk_at dksX1_sheet_2 5 rfl rfl)
theorem dX1_sheet_54 : decode cX1_sheet 54 = .ok (.iconst 0, 1) := dk_3 (dk_at dksX1_sheet_2 6 rfl rfl)
theorem dX1_sheet_55 : decode cX1_sheet 55 = .ok (.istore 4, 2) := dk_54 4 (dk_at dksX1_sheet_2 7 rfl rfl)
theorem dX1_sheet_57 : decode cX1_sheet 57 = .ok (.iload 4, 2) := dk_21 4 (dk_at dksX1_sheet_2 9 rfl rfl)
theorem dX1_sheet_59 : decode cX1_sheet 59 = .ok (.bipush 60, 2) := dk_16 60 (dk_at dksX1_sheet_2 11 rfl rfl)
theorem dX1_sheet_61 : decode cX1_sheet 61 = .ok (.if_icmp .ge 22, 3) := dk_162 0 22 (dk_at dksX1_sheet_2 13 rfl rfl)
theorem dX1_sheet_64 : decode cX1_sheet 64 = .ok (.aload_n 0, 1) := dk_42 (dk_at dksX1_sheet_2 16 rfl rfl)
theorem dX1_sheet_65 : decode cX1_sheet 65 = .ok (.getfield 16, 3) := dk_180 0 16 (dk_at dksX1_sheet_2 17 rfl rfl)
theorem dX1_sheet_68 : decode cX1_sheet 68 = .ok (.bipush 60, 2) := dk_16 60 (dk_at dksX1_sheet_2 20 rfl rfl)
theorem dX1_sheet_70 : decode cX1_sheet 70 = .ok (.iload_n 1, 1) := dk_27 (dk_at dksX1_sheet_2 22 rfl rfl)
theorem dX1_sheet_71 : decode cX1_sheet 71 = .ok (.imul, 1) := dk_104 (dk_at dksX1_sheet_2 23 rfl rfl)
theorem dX1_sheet_72 : decode cX1_sheet 72 = .ok (.iload 4, 2) := dk_21 4 (dk_at dksX1_sheet_3 0 rfl rfl)
theorem dX1_sheet_74 : decode cX1_sheet 74 = .ok (.iadd, 1) := dk_96 (dk_at dksX1_sheet_3 2 rfl rfl)
theorem dX1_sheet_75 : decode cX1_sheet 75 = .ok (.iconst 0, 1) := dk_3 (dk_at dksX1_sheet_3 3 rfl rfl)
theorem dX1_sheet_76 : decode cX1_sheet 76 = .ok (.iastore, 1) := dk_79 (dk_at dksX1_sheet_3 4 rfl rfl)
theorem dX1_sheet_77 : decode cX1_sheet 77 = .ok (.iinc 4 1, 3) := dk_132 4 1 (dk_at dksX1_sheet_3 5 rfl rfl)
theorem dX1_sheet_80 : decode cX1_sheet 80 = .ok (.goto (-23), 3) := dk_167 255 233 (dk_at dksX1_sheet_3 8 rfl rfl)
theorem dX1_sheet_83 : decode cX1_sheet 83 = .ok (.iconst 1, 1) := dk_4 (dk_at dksX1_sheet_3 11 rfl rfl)
theorem dX1_sheet_84 : decode cX1_sheet 84 = .ok (.ireturn, 1) := dk_172 (dk_at dksX1_sheet_3 12 rfl rfl)
abbrev cX1_lose : ByteArray := prog_15_method_59_code
def yX1_lose : MethodName := ⟨RX1, "lose", "(I)I"⟩
def dkwX1_lose_1 : List UInt8 := [4, 61, 42, 180, 0, 9, 27, 16, 247, 79, 28, 172]
abbrev dktX1_lose_1 : List UInt8 := dkwX1_lose_1 ++ []
def dkwX1_lose_0 : List UInt8 := [27, 184, 0, 94, 154, 0, 5, 2, 172, 42, 180, 0, 9, 27, 46, 16, 247, 160, 0, 7, 3, 167, 0, 4]
abbrev dktX1_lose_0 : List UInt8 := dkwX1_lose_0 ++ dktX1_lose_1
theorem dksX1_lose_0 : cX1_lose.data.toList.drop 0 = dktX1_lose_0 := by decide +kernel
theorem dksX1_lose_1 : cX1_lose.data.toList.drop 24 = dktX1_lose_1 := dk_seg dksX1_lose_0 24 rfl rfl
theorem dX1_lose_0 : decode cX1_lose 0 = .ok (.iload_n 1, 1) := dk_27 (dk_at dksX1_lose_0 0 rfl rfl)
theorem dX1_lose_1 : decode cX1_lose 1 = .ok (.invokestatic 94, 3) := dk_184 0 94 (dk_at dksX1_lose_0 1 rfl rfl)
theorem dX1_lose_4 : decode cX1_lose 4 = .ok (.ifCond .ne 5, 3) := dk_154 0 5 (dk_at dksX1_lose_0 4 rfl rfl)
theorem dX1_lose_7 : decode cX1_lose 7 = .ok (.iconst (-1), 1) := dk_2 (dk_at dksX1_lose_0 7 rfl rfl)
theorem dX1_lose_8 : decode cX1_lose 8 = .ok (.ireturn, 1) := dk_172 (dk_at dksX1_lose_0 8 rfl rfl)
theorem dX1_lose_9 : decode cX1_lose 9 = .ok (.aload_n 0, 1) := dk_42 (dk_at dksX1_lose_0 9 rfl rfl)
theorem dX1_lose_10 : decode cX1_lose 10 = .ok (.getfield 9, 3) := dk_180 0 9 (dk_at dksX1_lose_0 10 rfl rfl)
theorem dX1_lose_13 : decode cX1_lose 13 = .ok (.iload_n 1, 1) := dk_27 (dk_at dksX1_lose_0 13 rfl rfl)
theorem dX1_lose_14 : decode cX1_lose 14 = .ok (.iaload, 1) := dk_46 (dk_at dksX1_lose_0 14 rfl rfl)
theorem dX1_lose_15 : decode cX1_lose 15 = .ok (.bipush (-9), 2) := dk_16 247 (dk_at dksX1_lose_0 15 rfl rfl)
theorem dX1_lose_17 : decode cX1_lose 17 = .ok (.if_icmp .ne 7, 3) := dk_160 0 7 (dk_at dksX1_lose_0 17 rfl rfl)
theorem dX1_lose_20 : decode cX1_lose 20 = .ok (.iconst 0, 1) := dk_3 (dk_at dksX1_lose_0 20 rfl rfl)
theorem dX1_lose_21 : decode cX1_lose 21 = .ok (.goto 4, 3) := dk_167 0 4 (dk_at dksX1_lose_0 21 rfl rfl)
theorem dX1_lose_24 : decode cX1_lose 24 = .ok (.iconst 1, 1) := dk_4 (dk_at dksX1_lose_1 0 rfl rfl)
theorem dX1_lose_25 : decode cX1_lose 25 = .ok (.istore_n 2, 1) := dk_61 (dk_at dksX1_lose_1 1 rfl rfl)
theorem dX1_lose_26 : decode cX1_lose 26 = .ok (.aload_n 0, 1) := dk_42 (dk_at dksX1_lose_1 2 rfl rfl)
theorem dX1_lose_27 : decode cX1_lose 27 = .ok (.getfield 9, 3) := dk_180 0 9 (dk_at dksX1_lose_1 3 rfl rfl)
theorem dX1_lose_30 : decode cX1_lose 30 = .ok (.iload_n 1, 1) := dk_27 (dk_at dksX1_lose_1 6 rfl rfl)
theorem dX1_lose_31 : decode cX1_lose 31 = .ok (.bipush (-9), 2) := dk_16 247 (dk_at dksX1_lose_1 7 rfl rfl)
theorem dX1_lose_33 : decode cX1_lose 33 = .ok (.iastore, 1) := dk_79 (dk_at dksX1_lose_1 9 rfl rfl)
theorem dX1_lose_34 : decode cX1_lose 34 = .ok (.iload_n 2, 1) := dk_28 (dk_at dksX1_lose_1 10 rfl rfl)
theorem dX1_lose_35 : decode cX1_lose 35 = .ok (.ireturn, 1) := dk_172 (dk_at dksX1_lose_1 11 rfl rfl)
abbrev cX1_put : ByteArray := prog_15_method_60_code
def yX1_put : MethodName := ⟨RX1, "put", "(III)I"⟩
def dkwX1_put_4 : List UInt8 := [29, 79, 4, 172]
abbrev dktX1_put_4 : List UInt8 := dkwX1_put_4 ++ []
def dkwX1_put_3 : List UInt8 := [46, 154, 0, 8, 29, 145, 167, 0, 19, 42, 180, 0, 9, 27, 46, 4, 160, 0, 8, 29, 147, 167, 0, 4]
abbrev dktX1_put_3 : List UInt8 := dkwX1_put_3 ++ dktX1_put_4
def dkwX1_put_2 : List UInt8 := [154, 0, 9, 42, 6, 182, 0, 104, 172, 42, 180, 0, 16, 16, 60, 27, 104, 28, 96, 42, 180, 0, 9, 27]
abbrev dktX1_put_2 : List UInt8 := dkwX1_put_2 ++ dktX1_put_3
def dkwX1_put_1 : List UInt8 := [160, 0, 9, 42, 4, 182, 0, 104, 172, 28, 3, 42, 180, 0, 13, 27, 46, 4, 100, 184, 0, 76]
abbrev dktX1_put_1 : List UInt8 := dkwX1_put_1 ++ dktX1_put_2
def dkwX1_put_0 : List UInt8 := [42, 3, 181, 0, 70, 27, 184, 0, 94, 154, 0, 5, 2, 172, 42, 180, 0, 9, 27, 46, 16, 247]
abbrev dktX1_put_0 : List UInt8 := dkwX1_put_0 ++ dktX1_put_1
theorem dksX1_put_0 : cX1_put.data.toList.drop 0 = dktX1_put_0 := by decide +kernel
theorem dksX1_put_1 : cX1_put.data.toList.drop 22 = dktX1_put_1 := dk_seg dksX1_put_0 22 rfl rfl
theorem dksX1_put_2 : cX1_put.data.toList.drop 44 = dktX1_put_2 := dk_seg dksX1_put_1 22 rfl rfl
theorem dksX1_put_3 : cX1_put.data.toList.drop 68 = dktX1_put_3 := dk_seg dksX1_put_2 24 rfl rfl
theorem dksX1_put_4 : cX1_put.data.toList.drop 92 = dktX1_put_4 := dk_seg dksX1_put_3 24 rfl rfl
theorem dX1_put_0 : decode cX1_put 0 = .ok (.aload_n 0, 1) := dk_42 (dk_at dksX1_put_0 0 rfl rfl)
theorem dX1_put_1 : decode cX1_put 1 = .ok (.iconst 0, 1) := dk_3 (dk_at dksX1_put_0 1 rfl rfl)
theorem dX1_put_2 : decode cX1_put 2 = .ok (.putfield 70, 3) := dk_181 0 70 (dk_at dksX1_put_0 2 rfl rfl)
theorem dX1_put_5 : decode cX1_put 5 = .ok (.iload_n 1, 1) := dk_27 (dk_at dksX1_put_0 5 rfl rfl)
theorem dX1_put_6 : decode cX1_put 6 = .ok (.invokestatic 94, 3) := dk_184 0 94 (dk_at dksX1_put_0 6 rfl rfl)
theorem dX1_put_9 : decode cX1_put 9 = .ok (.ifCond .ne 5, 3) := dk_154 0 5 (dk_at dksX1_put_0 9 rfl rfl)
theorem dX1_put_12 : decode cX1_put 12 = .ok (.iconst (-1), 1) := dk_2 (dk_at dksX1_put_0 12 rfl rfl)
theorem dX1_put_13 : decode cX1_put 13 = .ok (.ireturn, 1) := dk_172 (dk_at dksX1_put_0 13 rfl rfl)
theorem dX1_put_14 : decode cX1_put 14 = .ok (.aload_n 0, 1) := dk_42 (dk_at dksX1_put_0 14 rfl rfl)
theorem dX1_put_15 : decode cX1_put 15 = .ok (.getfield 9, 3) := dk_180 0 9 (dk_at dksX1_put_0 15 rfl rfl)
theorem dX1_put_18 : decode cX1_put 18 = .ok (.iload_n 1, 1) := dk_27 (dk_at dksX1_put_0 18 rfl rfl)
theorem dX1_put_19 : decode cX1_put 19 = .ok (.iaload, 1) := dk_46 (dk_at dksX1_put_0 19 rfl rfl)
theorem dX1_put_20 : decode cX1_put 20 = .ok (.bipush (-9), 2) := dk_16 247 (dk_at dksX1_put_0 20 rfl rfl)
theorem dX1_put_22 : decode cX1_put 22 = .ok (.if_icmp .ne 9, 3) := dk_160 0 9 (dk_at dksX1_put_1 0 rfl rfl)
theorem dX1_put_25 : decode cX1_put 25 = .ok (.aload_n 0, 1) := dk_42 (dk_at dksX1_put_1 3 rfl rfl)
theorem dX1_put_26 : decode cX1_put 26 = .ok (.iconst 1, 1) := dk_4 (dk_at dksX1_put_1 4 rfl rfl)
theorem dX1_put_27 : decode cX1_put 27 = .ok (.invokevirtual 104, 3) := dk_182 0 104 (dk_at dksX1_put_1 5 rfl rfl)
theorem dX1_put_30 : decode cX1_put 30 = .ok (.ireturn, 1) := dk_172 (dk_at dksX1_put_1 8 rfl rfl)
theorem dX1_put_31 : decode cX1_put 31 = .ok (.iload_n 2, 1) := dk_28 (dk_at dksX1_put_1 9 rfl rfl)
theorem dX1_put_32 : decode cX1_put 32 = .ok (.iconst 0, 1) := dk_3 (dk_at dksX1_put_1 10 rfl rfl)
theorem dX1_put_33 : decode cX1_put 33 = .ok (.aload_n 0, 1) := dk_42 (dk_at dksX1_put_1 11 rfl rfl)
theorem dX1_put_34 : decode cX1_put 34 = .ok (.getfield 13, 3) := dk_180 0 13 (dk_at dksX1_put_1 12 rfl rfl)
theorem dX1_put_37 : decode cX1_put 37 = .ok (.iload_n 1, 1) := dk_27 (dk_at dksX1_put_1 15 rfl rfl)
theorem dX1_put_38 : decode cX1_put 38 = .ok (.iaload, 1) := dk_46 (dk_at dksX1_put_1 16 rfl rfl)
theorem dX1_put_39 : decode cX1_put 39 = .ok (.iconst 1, 1) := dk_4 (dk_at dksX1_put_1 17 rfl rfl)
theorem dX1_put_40 : decode cX1_put 40 = .ok (.isub, 1) := dk_100 (dk_at dksX1_put_1 18 rfl rfl)
theorem dX1_put_41 : decode cX1_put 41 = .ok (.invokestatic 76, 3) := dk_184 0 76 (dk_at dksX1_put_1 19 rfl rfl)
theorem dX1_put_44 : decode cX1_put 44 = .ok (.ifCond .ne 9, 3) := dk_154 0 9 (dk_at dksX1_put_2 0 rfl rfl)
theorem dX1_put_47 : decode cX1_put 47 = .ok (.aload_n 0, 1) := dk_42 (dk_at dksX1_put_2 3 rfl rfl)
theorem dX1_put_48 : decode cX1_put 48 = .ok (.iconst 3, 1) := dk_6 (dk_at dksX1_put_2 4 rfl rfl)
theorem dX1_put_49 : decode cX1_put 49 = .ok (.invokevirtual 104, 3) := dk_182 0 104 (dk_at dksX1_put_2 5 rfl rfl)
theorem dX1_put_52 : decode cX1_put 52 = .ok (.ireturn, 1) := dk_172 (dk_at dksX1_put_2 8 rfl rfl)
theorem dX1_put_53 : decode cX1_put 53 = .ok (.aload_n 0, 1) := dk_42 (dk_at dksX1_put_2 9 rfl rfl)
theorem dX1_put_54 : decode cX1_put 54 = .ok (.getfield 16, 3) := dk_180 0 16 (dk_at dksX1_put_2 10 rfl rfl)
theorem dX1_put_57 : decode cX1_put 57 = .ok (.bipush 60, 2) := dk_16 60 (dk_at dksX1_put_2 13 rfl rfl)
theorem dX1_put_59 : decode cX1_put 59 = .ok (.iload_n 1, 1) := dk_27 (dk_at dksX1_put_2 15 rfl rfl)
theorem dX1_put_60 : decode cX1_put 60 = .ok (.imul, 1) := dk_104 (dk_at dksX1_put_2 16 rfl rfl)
theorem dX1_put_61 : decode cX1_put 61 = .ok (.iload_n 2, 1) := dk_28 (dk_at dksX1_put_2 17 rfl rfl)
theorem dX1_put_62 : decode cX1_put 62 = .ok (.iadd, 1) := dk_96 (dk_at dksX1_put_2 18 rfl rfl)
theorem dX1_put_63 : decode cX1_put 63 = .ok (.aload_n 0, 1) := dk_42 (dk_at dksX1_put_2 19 rfl rfl)
theorem dX1_put_64 : decode cX1_put 64 = .ok (.getfield 9, 3) := dk_180 0 9 (dk_at dksX1_put_2 20 rfl rfl)
theorem dX1_put_67 : decode cX1_put 67 = .ok (.iload_n 1, 1) := dk_27 (dk_at dksX1_put_2 23 rfl rfl)
theorem dX1_put_68 : decode cX1_put 68 = .ok (.iaload, 1) := dk_46 (dk_at dksX1_put_3 0 rfl rfl)
theorem dX1_put_69 : decode cX1_put 69 = .ok (.ifCond .ne 8, 3) := dk_154 0 8 (dk_at dksX1_put_3 1 rfl rfl)
theorem dX1_put_72 : decode cX1_put 72 = .ok (.iload_n 3, 1) := dk_29 (dk_at dksX1_put_3 4 rfl rfl)
theorem dX1_put_73 : decode cX1_put 73 = .ok (.i2b, 1) := dk_145 (dk_at dksX1_put_3 5 rfl rfl)
theorem dX1_put_74 : decode cX1_put 74 = .ok (.goto 19, 3) := dk_167 0 19 (dk_at dksX1_put_3 6 rfl rfl)
theorem dX1_put_77 : decode cX1_put 77 = .ok (.aload_n 0, 1) := dk_42 (dk_at dksX1_put_3 9 rfl rfl)
theorem dX1_put_78 : decode cX1_put 78 = .ok (.getfield 9, 3) := dk_180 0 9 (dk_at dksX1_put_3 10 rfl rfl)
theorem dX1_put_81 : decode cX1_put 81 = .ok (.iload_n 1, 1) := dk_27 (dk_at dksX1_put_3 13 rfl rfl)
theorem dX1_put_82 : decode cX1_put 82 = .ok (.iaload, 1) := dk_46 (dk_at dksX1_put_3 14 rfl rfl)
theorem dX1_put_83 : decode cX1_put 83 = .ok (.iconst 1, 1) := dk_4 (dk_at dksX1_put_3 15 rfl rfl)
theorem dX1_put_84 : decode cX1_put 84 = .ok (.if_icmp .ne 8, 3) := dk_160 0 8 (dk_at dksX1_put_3 16 rfl rfl)
theorem dX1_put_87 : decode cX1_put 87 = .ok (.iload_n 3, 1) := dk_29 (dk_at dksX1_put_3 19 rfl rfl)
theorem dX1_put_88 : decode cX1_put 88 = .ok (.i2s, 1) := dk_147 (dk_at dksX1_put_3 20 rfl rfl)
theorem dX1_put_89 : decode cX1_put 89 = .ok (.goto 4, 3) := dk_167 0 4 (dk_at dksX1_put_3 21 rfl rfl)
theorem dX1_put_92 : decode cX1_put 92 = .ok (.iload_n 3, 1) := dk_29 (dk_at dksX1_put_4 0 rfl rfl)
theorem dX1_put_93 : decode cX1_put 93 = .ok (.iastore, 1) := dk_79 (dk_at dksX1_put_4 1 rfl rfl)
theorem dX1_put_94 : decode cX1_put 94 = .ok (.iconst 1, 1) := dk_4 (dk_at dksX1_put_4 2 rfl rfl)
theorem dX1_put_95 : decode cX1_put 95 = .ok (.ireturn, 1) := dk_172 (dk_at dksX1_put_4 3 rfl rfl)
abbrev cX1_cell : ByteArray := prog_15_method_61_code
def yX1_cell : MethodName := ⟨RX1, "cell", "(III)J"⟩
def dkwX1_cell_4 : List UInt8 := [16, 60, 27, 104, 28, 96, 46, 133, 173]
abbrev dktX1_cell_4 : List UInt8 := dkwX1_cell_4 ++ []
def dkwX1_cell_3 : List UInt8 := [180, 0, 13, 27, 46, 4, 100, 184, 0, 76, 154, 0, 9, 42, 6, 182, 0, 208, 173, 42, 180, 0, 16]
abbrev dktX1_cell_3 : List UInt8 := dkwX1_cell_3 ++ dktX1_cell_4
def dkwX1_cell_2 : List UInt8 := [182, 0, 208, 173, 42, 180, 0, 9, 27, 46, 16, 247, 160, 0, 9, 42, 4, 182, 0, 208, 173, 28, 3, 42]
abbrev dktX1_cell_2 : List UInt8 := dkwX1_cell_2 ++ dktX1_cell_3
def dkwX1_cell_1 : List UInt8 := [180, 0, 9, 27, 46, 16, 247, 159, 0, 19, 42, 180, 0, 9, 27, 46, 29, 159, 0, 9, 42, 5]
abbrev dktX1_cell_1 : List UInt8 := dkwX1_cell_1 ++ dktX1_cell_2
def dkwX1_cell_0 : List UInt8 := [42, 3, 181, 0, 70, 27, 184, 0, 94, 153, 0, 10, 29, 184, 0, 97, 154, 0, 7, 20, 0, 74, 173, 42]
abbrev dktX1_cell_0 : List UInt8 := dkwX1_cell_0 ++ dktX1_cell_1
theorem dksX1_cell_0 : cX1_cell.data.toList.drop 0 = dktX1_cell_0 := by decide +kernel
theorem dksX1_cell_1 : cX1_cell.data.toList.drop 24 = dktX1_cell_1 := dk_seg dksX1_cell_0 24 rfl rfl
theorem dksX1_cell_2 : cX1_cell.data.toList.drop 46 = dktX1_cell_2 := dk_seg dksX1_cell_1 22 rfl rfl
theorem dksX1_cell_3 : cX1_cell.data.toList.drop 70 = dktX1_cell_3 := dk_seg dksX1_cell_2 24 rfl rfl
theorem dksX1_cell_4 : cX1_cell.data.toList.drop 93 = dktX1_cell_4 := dk_seg dksX1_cell_3 23 rfl rfl
theorem dX1_cell_0 : decode cX1_cell 0 = .ok (.aload_n 0, 1) := dk_42 (dk_at dksX1_cell_0 0 rfl rfl)
theorem dX1_cell_1 : decode cX1_cell 1 = .ok (.iconst 0, 1) := dk_3 (dk_at dksX1_cell_0 1 rfl rfl)
theorem dX1_cell_2 : decode cX1_cell 2 = .ok (.putfield 70, 3) := dk_181 0 70 (dk_at dksX1_cell_0 2 rfl rfl)
theorem dX1_cell_5 : decode cX1_cell 5 = .ok (.iload_n 1, 1) := dk_27 (dk_at dksX1_cell_0 5 rfl rfl)
theorem dX1_cell_6 : decode cX1_cell 6 = .ok (.invokestatic 94, 3) := dk_184 0 94 (dk_at dksX1_cell_0 6 rfl rfl)
theorem dX1_cell_9 : decode cX1_cell 9 = .ok (.ifCond .eq 10, 3) := dk_153 0 10 (dk_at dksX1_cell_0 9 rfl rfl)
theorem dX1_cell_12 : decode cX1_cell 12 = .ok (.iload_n 3, 1) := dk_29 (dk_at dksX1_cell_0 12 rfl rfl)
theorem dX1_cell_13 : decode cX1_cell 13 = .ok (.invokestatic 97, 3) := dk_184 0 97 (dk_at dksX1_cell_0 13 rfl rfl)
theorem dX1_cell_16 : decode cX1_cell 16 = .ok (.ifCond .ne 7, 3) := dk_154 0 7 (dk_at dksX1_cell_0 16 rfl rfl)
theorem dX1_cell_19 : decode cX1_cell 19 = .ok (.ldc2_w 74, 3) := dk_20 0 74 (dk_at dksX1_cell_0 19 rfl rfl)
theorem dX1_cell_22 : decode cX1_cell 22 = .ok (.lreturn, 1) := dk_173 (dk_at dksX1_cell_0 22 rfl rfl)
theorem dX1_cell_23 : decode cX1_cell 23 = .ok (.aload_n 0, 1) := dk_42 (dk_at dksX1_cell_0 23 rfl rfl)
theorem dX1_cell_24 : decode cX1_cell 24 = .ok (.getfield 9, 3) := dk_180 0 9 (dk_at dksX1_cell_1 0 rfl rfl)
theorem dX1_cell_27 : decode cX1_cell 27 = .ok (.iload_n 1, 1) := dk_27 (dk_at dksX1_cell_1 3 rfl rfl)
theorem dX1_cell_28 : decode cX1_cell 28 = .ok (.iaload, 1) := dk_46 (dk_at dksX1_cell_1 4 rfl rfl)
theorem dX1_cell_29 : decode cX1_cell 29 = .ok (.bipush (-9), 2) := dk_16 247 (dk_at dksX1_cell_1 5 rfl rfl)
theorem dX1_cell_31 : decode cX1_cell 31 = .ok (.if_icmp .eq 19, 3) := dk_159 0 19 (dk_at dksX1_cell_1 7 rfl rfl)
theorem dX1_cell_34 : decode cX1_cell 34 = .ok (.aload_n 0, 1) := dk_42 (dk_at dksX1_cell_1 10 rfl rfl)
theorem dX1_cell_35 : decode cX1_cell 35 = .ok (.getfield 9, 3) := dk_180 0 9 (dk_at dksX1_cell_1 11 rfl rfl)
theorem dX1_cell_38 : decode cX1_cell 38 = .ok (.iload_n 1, 1) := dk_27 (dk_at dksX1_cell_1 14 rfl rfl)
theorem dX1_cell_39 : decode cX1_cell 39 = .ok (.iaload, 1) := dk_46 (dk_at dksX1_cell_1 15 rfl rfl)
theorem dX1_cell_40 : decode cX1_cell 40 = .ok (.iload_n 3, 1) := dk_29 (dk_at dksX1_cell_1 16 rfl rfl)
theorem dX1_cell_41 : decode cX1_cell 41 = .ok (.if_icmp .eq 9, 3) := dk_159 0 9 (dk_at dksX1_cell_1 17 rfl rfl)
theorem dX1_cell_44 : decode cX1_cell 44 = .ok (.aload_n 0, 1) := dk_42 (dk_at dksX1_cell_1 20 rfl rfl)
theorem dX1_cell_45 : decode cX1_cell 45 = .ok (.iconst 2, 1) := dk_5 (dk_at dksX1_cell_1 21 rfl rfl)
theorem dX1_cell_46 : decode cX1_cell 46 = .ok (.invokevirtual 208, 3) := dk_182 0 208 (dk_at dksX1_cell_2 0 rfl rfl)
theorem dX1_cell_49 : decode cX1_cell 49 = .ok (.lreturn, 1) := dk_173 (dk_at dksX1_cell_2 3 rfl rfl)
theorem dX1_cell_50 : decode cX1_cell 50 = .ok (.aload_n 0, 1) := dk_42 (dk_at dksX1_cell_2 4 rfl rfl)
theorem dX1_cell_51 : decode cX1_cell 51 = .ok (.getfield 9, 3) := dk_180 0 9 (dk_at dksX1_cell_2 5 rfl rfl)
theorem dX1_cell_54 : decode cX1_cell 54 = .ok (.iload_n 1, 1) := dk_27 (dk_at dksX1_cell_2 8 rfl rfl)
theorem dX1_cell_55 : decode cX1_cell 55 = .ok (.iaload, 1) := dk_46 (dk_at dksX1_cell_2 9 rfl rfl)
theorem dX1_cell_56 : decode cX1_cell 56 = .ok (.bipush (-9), 2) := dk_16 247 (dk_at dksX1_cell_2 10 rfl rfl)
theorem dX1_cell_58 : decode cX1_cell 58 = .ok (.if_icmp .ne 9, 3) := dk_160 0 9 (dk_at dksX1_cell_2 12 rfl rfl)
theorem dX1_cell_61 : decode cX1_cell 61 = .ok (.aload_n 0, 1) := dk_42 (dk_at dksX1_cell_2 15 rfl rfl)
theorem dX1_cell_62 : decode cX1_cell 62 = .ok (.iconst 1, 1) := dk_4 (dk_at dksX1_cell_2 16 rfl rfl)
theorem dX1_cell_63 : decode cX1_cell 63 = .ok (.invokevirtual 208, 3) := dk_182 0 208 (dk_at dksX1_cell_2 17 rfl rfl)
theorem dX1_cell_66 : decode cX1_cell 66 = .ok (.lreturn, 1) := dk_173 (dk_at dksX1_cell_2 20 rfl rfl)
theorem dX1_cell_67 : decode cX1_cell 67 = .ok (.iload_n 2, 1) := dk_28 (dk_at dksX1_cell_2 21 rfl rfl)
theorem dX1_cell_68 : decode cX1_cell 68 = .ok (.iconst 0, 1) := dk_3 (dk_at dksX1_cell_2 22 rfl rfl)
theorem dX1_cell_69 : decode cX1_cell 69 = .ok (.aload_n 0, 1) := dk_42 (dk_at dksX1_cell_2 23 rfl rfl)
theorem dX1_cell_70 : decode cX1_cell 70 = .ok (.getfield 13, 3) := dk_180 0 13 (dk_at dksX1_cell_3 0 rfl rfl)
theorem dX1_cell_73 : decode cX1_cell 73 = .ok (.iload_n 1, 1) := dk_27 (dk_at dksX1_cell_3 3 rfl rfl)
theorem dX1_cell_74 : decode cX1_cell 74 = .ok (.iaload, 1) := dk_46 (dk_at dksX1_cell_3 4 rfl rfl)
theorem dX1_cell_75 : decode cX1_cell 75 = .ok (.iconst 1, 1) := dk_4 (dk_at dksX1_cell_3 5 rfl rfl)
theorem dX1_cell_76 : decode cX1_cell 76 = .ok (.isub, 1) := dk_100 (dk_at dksX1_cell_3 6 rfl rfl)
theorem dX1_cell_77 : decode cX1_cell 77 = .ok (.invokestatic 76, 3) := dk_184 0 76 (dk_at dksX1_cell_3 7 rfl rfl)
theorem dX1_cell_80 : decode cX1_cell 80 = .ok (.ifCond .ne 9, 3) := dk_154 0 9 (dk_at dksX1_cell_3 10 rfl rfl)
theorem dX1_cell_83 : decode cX1_cell 83 = .ok (.aload_n 0, 1) := dk_42 (dk_at dksX1_cell_3 13 rfl rfl)
theorem dX1_cell_84 : decode cX1_cell 84 = .ok (.iconst 3, 1) := dk_6 (dk_at dksX1_cell_3 14 rfl rfl)
theorem dX1_cell_85 : decode cX1_cell 85 = .ok (.invokevirtual 208, 3) := dk_182 0 208 (dk_at dksX1_cell_3 15 rfl rfl)
theorem dX1_cell_88 : decode cX1_cell 88 = .ok (.lreturn, 1) := dk_173 (dk_at dksX1_cell_3 18 rfl rfl)
theorem dX1_cell_89 : decode cX1_cell 89 = .ok (.aload_n 0, 1) := dk_42 (dk_at dksX1_cell_3 19 rfl rfl)
theorem dX1_cell_90 : decode cX1_cell 90 = .ok (.getfield 16, 3) := dk_180 0 16 (dk_at dksX1_cell_3 20 rfl rfl)
theorem dX1_cell_93 : decode cX1_cell 93 = .ok (.bipush 60, 2) := dk_16 60 (dk_at dksX1_cell_4 0 rfl rfl)
theorem dX1_cell_95 : decode cX1_cell 95 = .ok (.iload_n 1, 1) := dk_27 (dk_at dksX1_cell_4 2 rfl rfl)
theorem dX1_cell_96 : decode cX1_cell 96 = .ok (.imul, 1) := dk_104 (dk_at dksX1_cell_4 3 rfl rfl)
theorem dX1_cell_97 : decode cX1_cell 97 = .ok (.iload_n 2, 1) := dk_28 (dk_at dksX1_cell_4 4 rfl rfl)
theorem dX1_cell_98 : decode cX1_cell 98 = .ok (.iadd, 1) := dk_96 (dk_at dksX1_cell_4 5 rfl rfl)
theorem dX1_cell_99 : decode cX1_cell 99 = .ok (.iaload, 1) := dk_46 (dk_at dksX1_cell_4 6 rfl rfl)
theorem dX1_cell_100 : decode cX1_cell 100 = .ok (.i2l, 1) := dk_133 (dk_at dksX1_cell_4 7 rfl rfl)
theorem dX1_cell_101 : decode cX1_cell 101 = .ok (.lreturn, 1) := dk_173 (dk_at dksX1_cell_4 8 rfl rfl)
abbrev cX1_lost : ByteArray := prog_15_method_4_code
def yX1_lost : MethodName := ⟨RX1, "lost", "(I)J"⟩
def dkwX1_lost_0 : List UInt8 := [42, 27, 181, 0, 70, 20, 0, 74, 173]
abbrev dktX1_lost_0 : List UInt8 := dkwX1_lost_0 ++ []
theorem dksX1_lost_0 : cX1_lost.data.toList.drop 0 = dktX1_lost_0 := by decide +kernel
theorem dX1_lost_0 : decode cX1_lost 0 = .ok (.aload_n 0, 1) := dk_42 (dk_at dksX1_lost_0 0 rfl rfl)
theorem dX1_lost_1 : decode cX1_lost 1 = .ok (.iload_n 1, 1) := dk_27 (dk_at dksX1_lost_0 1 rfl rfl)
theorem dX1_lost_2 : decode cX1_lost 2 = .ok (.putfield 70, 3) := dk_181 0 70 (dk_at dksX1_lost_0 2 rfl rfl)
theorem dX1_lost_5 : decode cX1_lost 5 = .ok (.ldc2_w 74, 3) := dk_20 0 74 (dk_at dksX1_lost_0 5 rfl rfl)
theorem dX1_lost_8 : decode cX1_lost 8 = .ok (.lreturn, 1) := dk_173 (dk_at dksX1_lost_0 8 rfl rfl)
abbrev cX1_copy : ByteArray := prog_15_method_62_code
def yX1_copy : MethodName := ⟨RX1, "copy", "(IIIII)I"⟩
def dkwX1_copy_9 : List UInt8 := [180, 0, 16, 16, 60, 27, 104, 28, 96, 21, 9, 96, 46, 79, 132, 8, 1, 167, 255, 198, 21, 5, 172]
abbrev dktX1_copy_9 : List UInt8 := dkwX1_copy_9 ++ []
def dkwX1_copy_8 : List UInt8 := [167, 0, 5, 21, 8, 54, 9, 42, 180, 0, 16, 16, 60, 29, 104, 21, 4, 96, 21, 9, 96, 42]
abbrev dktX1_copy_8 : List UInt8 := dkwX1_copy_8 ++ dktX1_copy_9
def dkwX1_copy_7 : List UInt8 := [54, 7, 3, 54, 8, 21, 8, 21, 5, 162, 0, 57, 21, 7, 153, 0, 13, 21, 5, 4, 100, 21, 8, 100]
abbrev dktX1_copy_7 : List UInt8 := dkwX1_copy_7 ++ dktX1_copy_8
def dkwX1_copy_6 : List UInt8 := [21, 4, 100, 164, 0, 9, 42, 6, 182, 0, 104, 172, 28, 21, 4, 162, 0, 7, 4, 167, 0, 4, 3]
abbrev dktX1_copy_6 : List UInt8 := dkwX1_copy_6 ++ dktX1_copy_7
def dkwX1_copy_5 : List UInt8 := [153, 0, 30, 21, 5, 42, 180, 0, 13, 27, 46, 28, 100, 163, 0, 17, 21, 5, 42, 180, 0, 13, 29, 46]
abbrev dktX1_copy_5 : List UInt8 := dkwX1_copy_5 ++ dktX1_copy_6
def dkwX1_copy_4 : List UInt8 := [163, 0, 18, 21, 4, 42, 180, 0, 13, 29, 46, 163, 0, 7, 4, 167, 0, 4, 3, 54, 6, 21, 6]
abbrev dktX1_copy_4 : List UInt8 := dkwX1_copy_4 ++ dktX1_copy_5
def dkwX1_copy_3 : List UInt8 := [172, 28, 155, 0, 38, 21, 4, 155, 0, 33, 21, 5, 155, 0, 28, 28, 42, 180, 0, 13, 27, 46]
abbrev dktX1_copy_3 : List UInt8 := dkwX1_copy_3 ++ dktX1_copy_4
def dkwX1_copy_2 : List UInt8 := [182, 0, 104, 172, 42, 180, 0, 9, 27, 46, 42, 180, 0, 9, 29, 46, 159, 0, 9, 42, 5, 182, 0, 104]
abbrev dktX1_copy_2 : List UInt8 := dkwX1_copy_2 ++ dktX1_copy_3
def dkwX1_copy_1 : List UInt8 := [180, 0, 9, 27, 46, 16, 247, 159, 0, 14, 42, 180, 0, 9, 29, 46, 16, 247, 160, 0, 9, 42, 4]
abbrev dktX1_copy_1 : List UInt8 := dkwX1_copy_1 ++ dktX1_copy_2
def dkwX1_copy_0 : List UInt8 := [42, 3, 181, 0, 70, 27, 184, 0, 94, 153, 0, 10, 29, 184, 0, 94, 154, 0, 5, 2, 172, 42]
abbrev dktX1_copy_0 : List UInt8 := dkwX1_copy_0 ++ dktX1_copy_1
theorem dksX1_copy_0 : cX1_copy.data.toList.drop 0 = dktX1_copy_0 := by decide +kernel
theorem dksX1_copy_1 : cX1_copy.data.toList.drop 22 = dktX1_copy_1 := dk_seg dksX1_copy_0 22 rfl rfl
theorem dksX1_copy_2 : cX1_copy.data.toList.drop 45 = dktX1_copy_2 := dk_seg dksX1_copy_1 23 rfl rfl
theorem dksX1_copy_3 : cX1_copy.data.toList.drop 69 = dktX1_copy_3 := dk_seg dksX1_copy_2 24 rfl rfl
theorem dksX1_copy_4 : cX1_copy.data.toList.drop 91 = dktX1_copy_4 := dk_seg dksX1_copy_3 22 rfl rfl
theorem dksX1_copy_5 : cX1_copy.data.toList.drop 114 = dktX1_copy_5 := dk_seg dksX1_copy_4 23 rfl rfl
theorem dksX1_copy_6 : cX1_copy.data.toList.drop 138 = dktX1_copy_6 := dk_seg dksX1_copy_5 24 rfl rfl
theorem dksX1_copy_7 : cX1_copy.data.toList.drop 161 = dktX1_copy_7 := dk_seg dksX1_copy_6 23 rfl rfl
theorem dksX1_copy_8 : cX1_copy.data.toList.drop 185 = dktX1_copy_8 := dk_seg dksX1_copy_7 24 rfl rfl
theorem dksX1_copy_9 : cX1_copy.data.toList.drop 207 = dktX1_copy_9 := dk_seg dksX1_copy_8 22 rfl rfl
theorem dX1_copy_0 : decode cX1_copy 0 = .ok (.aload_n 0, 1) := dk_42 (dk_at dksX1_copy_0 0 rfl rfl)
theorem dX1_copy_1 : decode cX1_copy 1 = .ok (.iconst 0, 1) := dk_3 (dk_at dksX1_copy_0 1 rfl rfl)
theorem dX1_copy_2 : decode cX1_copy 2 = .ok (.putfield 70, 3) := dk_181 0 70 (dk_at dksX1_copy_0 2 rfl rfl)
theorem dX1_copy_5 : decode cX1_copy 5 = .ok (.iload_n 1, 1) := dk_27 (dk_at dksX1_copy_0 5 rfl rfl)
theorem dX1_copy_6 : decode cX1_copy 6 = .ok (.invokestatic 94, 3) := dk_184 0 94 (dk_at dksX1_copy_0 6 rfl rfl)
theorem dX1_copy_9 : decode cX1_copy 9 = .ok (.ifCond .eq 10, 3) := dk_153 0 10 (dk_at dksX1_copy_0 9 rfl rfl)
theorem dX1_copy_12 : decode cX1_copy 12 = .ok (.iload_n 3, 1) := dk_29 (dk_at dksX1_copy_0 12 rfl rfl)
theorem dX1_copy_13 : decode cX1_copy 13 = .ok (.invokestatic 94, 3) := dk_184 0 94 (dk_at dksX1_copy_0 13 rfl rfl)
theorem dX1_copy_16 : decode cX1_copy 16 = .ok (.ifCond .ne 5, 3) := dk_154 0 5 (dk_at dksX1_copy_0 16 rfl rfl)
theorem dX1_copy_19 : decode cX1_copy 19 = .ok (.iconst (-1), 1) := dk_2 (dk_at dksX1_copy_0 19 rfl rfl)
theorem dX1_copy_20 : decode cX1_copy 20 = .ok (.ireturn, 1) := dk_172 (dk_at dksX1_copy_0 20 rfl rfl)
theorem dX1_copy_21 : decode cX1_copy 21 = .ok (.aload_n 0, 1) := dk_42 (dk_at dksX1_copy_0 21 rfl rfl)
theorem dX1_copy_22 : decode cX1_copy 22 = .ok (.getfield 9, 3) := dk_180 0 9 (dk_at dksX1_copy_1 0 rfl rfl)
theorem dX1_copy_25 : decode cX1_copy 25 = .ok (.iload_n 1, 1) := dk_27 (dk_at dksX1_copy_1 3 rfl rfl)
theorem dX1_copy_26 : decode cX1_copy 26 = .ok (.iaload, 1) := dk_46 (dk_at dksX1_copy_1 4 rfl rfl)
theorem dX1_copy_27 : decode cX1_copy 27 = .ok (.bipush (-9), 2) := dk_16 247 (dk_at dksX1_copy_1 5 rfl rfl)
theorem dX1_copy_29 : decode cX1_copy 29 = .ok (.if_icmp .eq 14, 3) := dk_159 0 14 (dk_at dksX1_copy_1 7 rfl rfl)
theorem dX1_copy_32 : decode cX1_copy 32 = .ok (.aload_n 0, 1) := dk_42 (dk_at dksX1_copy_1 10 rfl rfl)
theorem dX1_copy_33 : decode cX1_copy 33 = .ok (.getfield 9, 3) := dk_180 0 9 (dk_at dksX1_copy_1 11 rfl rfl)
theorem dX1_copy_36 : decode cX1_copy 36 = .ok (.iload_n 3, 1) := dk_29 (dk_at dksX1_copy_1 14 rfl rfl)
theorem dX1_copy_37 : decode cX1_copy 37 = .ok (.iaload, 1) := dk_46 (dk_at dksX1_copy_1 15 rfl rfl)
theorem dX1_copy_38 : decode cX1_copy 38 = .ok (.bipush (-9), 2) := dk_16 247 (dk_at dksX1_copy_1 16 rfl rfl)
theorem dX1_copy_40 : decode cX1_copy 40 = .ok (.if_icmp .ne 9, 3) := dk_160 0 9 (dk_at dksX1_copy_1 18 rfl rfl)
theorem dX1_copy_43 : decode cX1_copy 43 = .ok (.aload_n 0, 1) := dk_42 (dk_at dksX1_copy_1 21 rfl rfl)
theorem dX1_copy_44 : decode cX1_copy 44 = .ok (.iconst 1, 1) := dk_4 (dk_at dksX1_copy_1 22 rfl rfl)
theorem dX1_copy_45 : decode cX1_copy 45 = .ok (.invokevirtual 104, 3) := dk_182 0 104 (dk_at dksX1_copy_2 0 rfl rfl)
theorem dX1_copy_48 : decode cX1_copy 48 = .ok (.ireturn, 1) := dk_172 (dk_at dksX1_copy_2 3 rfl rfl)
theorem dX1_copy_49 : decode cX1_copy 49 = .ok (.aload_n 0, 1) := dk_42 (dk_at dksX1_copy_2 4 rfl rfl)
theorem dX1_copy_50 : decode cX1_copy 50 = .ok (.getfield 9, 3) := dk_180 0 9 (dk_at dksX1_copy_2 5 rfl rfl)
theorem dX1_copy_53 : decode cX1_copy 53 = .ok (.iload_n 1, 1) := dk_27 (dk_at dksX1_copy_2 8 rfl rfl)
theorem dX1_copy_54 : decode cX1_copy 54 = .ok (.iaload, 1) := dk_46 (dk_at dksX1_copy_2 9 rfl rfl)
theorem dX1_copy_55 : decode cX1_copy 55 = .ok (.aload_n 0, 1) := dk_42 (dk_at dksX1_copy_2 10 rfl rfl)
theorem dX1_copy_56 : decode cX1_copy 56 = .ok (.getfield 9, 3) := dk_180 0 9 (dk_at dksX1_copy_2 11 rfl rfl)
theorem dX1_copy_59 : decode cX1_copy 59 = .ok (.iload_n 3, 1) := dk_29 (dk_at dksX1_copy_2 14 rfl rfl)
theorem dX1_copy_60 : decode cX1_copy 60 = .ok (.iaload, 1) := dk_46 (dk_at dksX1_copy_2 15 rfl rfl)
theorem dX1_copy_61 : decode cX1_copy 61 = .ok (.if_icmp .eq 9, 3) := dk_159 0 9 (dk_at dksX1_copy_2 16 rfl rfl)
theorem dX1_copy_64 : decode cX1_copy 64 = .ok (.aload_n 0, 1) := dk_42 (dk_at dksX1_copy_2 19 rfl rfl)
theorem dX1_copy_65 : decode cX1_copy 65 = .ok (.iconst 2, 1) := dk_5 (dk_at dksX1_copy_2 20 rfl rfl)
theorem dX1_copy_66 : decode cX1_copy 66 = .ok (.invokevirtual 104, 3) := dk_182 0 104 (dk_at dksX1_copy_2 21 rfl rfl)
theorem dX1_copy_69 : decode cX1_copy 69 = .ok (.ireturn, 1) := dk_172 (dk_at dksX1_copy_3 0 rfl rfl)
theorem dX1_copy_70 : decode cX1_copy 70 = .ok (.iload_n 2, 1) := dk_28 (dk_at dksX1_copy_3 1 rfl rfl)
theorem dX1_copy_71 : decode cX1_copy 71 = .ok (.ifCond .lt 38, 3) := dk_155 0 38 (dk_at dksX1_copy_3 2 rfl rfl)
theorem dX1_copy_74 : decode cX1_copy 74 = .ok (.iload 4, 2) := dk_21 4 (dk_at dksX1_copy_3 5 rfl rfl)
theorem dX1_copy_76 : decode cX1_copy 76 = .ok (.ifCond .lt 33, 3) := dk_155 0 33 (dk_at dksX1_copy_3 7 rfl rfl)
theorem dX1_copy_79 : decode cX1_copy 79 = .ok (.iload 5, 2) := dk_21 5 (dk_at dksX1_copy_3 10 rfl rfl)
theorem dX1_copy_81 : decode cX1_copy 81 = .ok (.ifCond .lt 28, 3) := dk_155 0 28 (dk_at dksX1_copy_3 12 rfl rfl)
theorem dX1_copy_84 : decode cX1_copy 84 = .ok (.iload_n 2, 1) := dk_28 (dk_at dksX1_copy_3 15 rfl rfl)
theorem dX1_copy_85 : decode cX1_copy 85 = .ok (.aload_n 0, 1) := dk_42 (dk_at dksX1_copy_3 16 rfl rfl)
theorem dX1_copy_86 : decode cX1_copy 86 = .ok (.getfield 13, 3) := dk_180 0 13 (dk_at dksX1_copy_3 17 rfl rfl)
theorem dX1_copy_89 : decode cX1_copy 89 = .ok (.iload_n 1, 1) := dk_27 (dk_at dksX1_copy_3 20 rfl rfl)
theorem dX1_copy_90 : decode cX1_copy 90 = .ok (.iaload, 1) := dk_46 (dk_at dksX1_copy_3 21 rfl rfl)
theorem dX1_copy_91 : decode cX1_copy 91 = .ok (.if_icmp .gt 18, 3) := dk_163 0 18 (dk_at dksX1_copy_4 0 rfl rfl)
theorem dX1_copy_94 : decode cX1_copy 94 = .ok (.iload 4, 2) := dk_21 4 (dk_at dksX1_copy_4 3 rfl rfl)
theorem dX1_copy_96 : decode cX1_copy 96 = .ok (.aload_n 0, 1) := dk_42 (dk_at dksX1_copy_4 5 rfl rfl)
theorem dX1_copy_97 : decode cX1_copy 97 = .ok (.getfield 13, 3) := dk_180 0 13 (dk_at dksX1_copy_4 6 rfl rfl)
theorem dX1_copy_100 : decode cX1_copy 100 = .ok (.iload_n 3, 1) := dk_29 (dk_at dksX1_copy_4 9 rfl rfl)
theorem dX1_copy_101 : decode cX1_copy 101 = .ok (.iaload, 1) := dk_46 (dk_at dksX1_copy_4 10 rfl rfl)
theorem dX1_copy_102 : decode cX1_copy 102 = .ok (.if_icmp .gt 7, 3) := dk_163 0 7 (dk_at dksX1_copy_4 11 rfl rfl)
theorem dX1_copy_105 : decode cX1_copy 105 = .ok (.iconst 1, 1) := dk_4 (dk_at dksX1_copy_4 14 rfl rfl)
theorem dX1_copy_106 : decode cX1_copy 106 = .ok (.goto 4, 3) := dk_167 0 4 (dk_at dksX1_copy_4 15 rfl rfl)
theorem dX1_copy_109 : decode cX1_copy 109 = .ok (.iconst 0, 1) := dk_3 (dk_at dksX1_copy_4 18 rfl rfl)
theorem dX1_copy_110 : decode cX1_copy 110 = .ok (.istore 6, 2) := dk_54 6 (dk_at dksX1_copy_4 19 rfl rfl)
theorem dX1_copy_112 : decode cX1_copy 112 = .ok (.iload 6, 2) := dk_21 6 (dk_at dksX1_copy_4 21 rfl rfl)
theorem dX1_copy_114 : decode cX1_copy 114 = .ok (.ifCond .eq 30, 3) := dk_153 0 30 (dk_at dksX1_copy_5 0 rfl rfl)
theorem dX1_copy_117 : decode cX1_copy 117 = .ok (.iload 5, 2) := dk_21 5 (dk_at dksX1_copy_5 3 rfl rfl)
theorem dX1_copy_119 : decode cX1_copy 119 = .ok (.aload_n 0, 1) := dk_42 (dk_at dksX1_copy_5 5 rfl rfl)
theorem dX1_copy_120 : decode cX1_copy 120 = .ok (.getfield 13, 3) := dk_180 0 13 (dk_at dksX1_copy_5 6 rfl rfl)
theorem dX1_copy_123 : decode cX1_copy 123 = .ok (.iload_n 1, 1) := dk_27 (dk_at dksX1_copy_5 9 rfl rfl)
theorem dX1_copy_124 : decode cX1_copy 124 = .ok (.iaload, 1) := dk_46 (dk_at dksX1_copy_5 10 rfl rfl)
theorem dX1_copy_125 : decode cX1_copy 125 = .ok (.iload_n 2, 1) := dk_28 (dk_at dksX1_copy_5 11 rfl rfl)
theorem dX1_copy_126 : decode cX1_copy 126 = .ok (.isub, 1) := dk_100 (dk_at dksX1_copy_5 12 rfl rfl)
theorem dX1_copy_127 : decode cX1_copy 127 = .ok (.if_icmp .gt 17, 3) := dk_163 0 17 (dk_at dksX1_copy_5 13 rfl rfl)
theorem dX1_copy_130 : decode cX1_copy 130 = .ok (.iload 5, 2) := dk_21 5 (dk_at dksX1_copy_5 16 rfl rfl)
theorem dX1_copy_132 : decode cX1_copy 132 = .ok (.aload_n 0, 1) := dk_42 (dk_at dksX1_copy_5 18 rfl rfl)
theorem dX1_copy_133 : decode cX1_copy 133 = .ok (.getfield 13, 3) := dk_180 0 13 (dk_at dksX1_copy_5 19 rfl rfl)
theorem dX1_copy_136 : decode cX1_copy 136 = .ok (.iload_n 3, 1) := dk_29 (dk_at dksX1_copy_5 22 rfl rfl)
theorem dX1_copy_137 : decode cX1_copy 137 = .ok (.iaload, 1) := dk_46 (dk_at dksX1_copy_5 23 rfl rfl)
theorem dX1_copy_138 : decode cX1_copy 138 = .ok (.iload 4, 2) := dk_21 4 (dk_at dksX1_copy_6 0 rfl rfl)
theorem dX1_copy_140 : decode cX1_copy 140 = .ok (.isub, 1) := dk_100 (dk_at dksX1_copy_6 2 rfl rfl)
theorem dX1_copy_141 : decode cX1_copy 141 = .ok (.if_icmp .le 9, 3) := dk_164 0 9 (dk_at dksX1_copy_6 3 rfl rfl)
theorem dX1_copy_144 : decode cX1_copy 144 = .ok (.aload_n 0, 1) := dk_42 (dk_at dksX1_copy_6 6 rfl rfl)
theorem dX1_copy_145 : decode cX1_copy 145 = .ok (.iconst 3, 1) := dk_6 (dk_at dksX1_copy_6 7 rfl rfl)
theorem dX1_copy_146 : decode cX1_copy 146 = .ok (.invokevirtual 104, 3) := dk_182 0 104 (dk_at dksX1_copy_6 8 rfl rfl)
theorem dX1_copy_149 : decode cX1_copy 149 = .ok (.ireturn, 1) := dk_172 (dk_at dksX1_copy_6 11 rfl rfl)
theorem dX1_copy_150 : decode cX1_copy 150 = .ok (.iload_n 2, 1) := dk_28 (dk_at dksX1_copy_6 12 rfl rfl)
theorem dX1_copy_151 : decode cX1_copy 151 = .ok (.iload 4, 2) := dk_21 4 (dk_at dksX1_copy_6 13 rfl rfl)
theorem dX1_copy_153 : decode cX1_copy 153 = .ok (.if_icmp .ge 7, 3) := dk_162 0 7 (dk_at dksX1_copy_6 15 rfl rfl)
theorem dX1_copy_156 : decode cX1_copy 156 = .ok (.iconst 1, 1) := dk_4 (dk_at dksX1_copy_6 18 rfl rfl)
theorem dX1_copy_157 : decode cX1_copy 157 = .ok (.goto 4, 3) := dk_167 0 4 (dk_at dksX1_copy_6 19 rfl rfl)
theorem dX1_copy_160 : decode cX1_copy 160 = .ok (.iconst 0, 1) := dk_3 (dk_at dksX1_copy_6 22 rfl rfl)
theorem dX1_copy_161 : decode cX1_copy 161 = .ok (.istore 7, 2) := dk_54 7 (dk_at dksX1_copy_7 0 rfl rfl)
theorem dX1_copy_163 : decode cX1_copy 163 = .ok (.iconst 0, 1) := dk_3 (dk_at dksX1_copy_7 2 rfl rfl)
theorem dX1_copy_164 : decode cX1_copy 164 = .ok (.istore 8, 2) := dk_54 8 (dk_at dksX1_copy_7 3 rfl rfl)
theorem dX1_copy_166 : decode cX1_copy 166 = .ok (.iload 8, 2) := dk_21 8 (dk_at dksX1_copy_7 5 rfl rfl)
theorem dX1_copy_168 : decode cX1_copy 168 = .ok (.iload 5, 2) := dk_21 5 (dk_at dksX1_copy_7 7 rfl rfl)
theorem dX1_copy_170 : decode cX1_copy 170 = .ok (.if_icmp .ge 57, 3) := dk_162 0 57 (dk_at dksX1_copy_7 9 rfl rfl)
theorem dX1_copy_173 : decode cX1_copy 173 = .ok (.iload 7, 2) := dk_21 7 (dk_at dksX1_copy_7 12 rfl rfl)
theorem dX1_copy_175 : decode cX1_copy 175 = .ok (.ifCond .eq 13, 3) := dk_153 0 13 (dk_at dksX1_copy_7 14 rfl rfl)
theorem dX1_copy_178 : decode cX1_copy 178 = .ok (.iload 5, 2) := dk_21 5 (dk_at dksX1_copy_7 17 rfl rfl)
theorem dX1_copy_180 : decode cX1_copy 180 = .ok (.iconst 1, 1) := dk_4 (dk_at dksX1_copy_7 19 rfl rfl)
theorem dX1_copy_181 : decode cX1_copy 181 = .ok (.isub, 1) := dk_100 (dk_at dksX1_copy_7 20 rfl rfl)
theorem dX1_copy_182 : decode cX1_copy 182 = .ok (.iload 8, 2) := dk_21 8 (dk_at dksX1_copy_7 21 rfl rfl)
theorem dX1_copy_184 : decode cX1_copy 184 = .ok (.isub, 1) := dk_100 (dk_at dksX1_copy_7 23 rfl rfl)
theorem dX1_copy_185 : decode cX1_copy 185 = .ok (.goto 5, 3) := dk_167 0 5 (dk_at dksX1_copy_8 0 rfl rfl)
theorem dX1_copy_188 : decode cX1_copy 188 = .ok (.iload 8, 2) := dk_21 8 (dk_at dksX1_copy_8 3 rfl rfl)
theorem dX1_copy_190 : decode cX1_copy 190 = .ok (.istore 9, 2) := dk_54 9 (dk_at dksX1_copy_8 5 rfl rfl)
theorem dX1_copy_192 : decode cX1_copy 192 = .ok (.aload_n 0, 1) := dk_42 (dk_at dksX1_copy_8 7 rfl rfl)
theorem dX1_copy_193 : decode cX1_copy 193 = .ok (.getfield 16, 3) := dk_180 0 16 (dk_at dksX1_copy_8 8 rfl rfl)
theorem dX1_copy_196 : decode cX1_copy 196 = .ok (.bipush 60, 2) := dk_16 60 (dk_at dksX1_copy_8 11 rfl rfl)
theorem dX1_copy_198 : decode cX1_copy 198 = .ok (.iload_n 3, 1) := dk_29 (dk_at dksX1_copy_8 13 rfl rfl)
theorem dX1_copy_199 : decode cX1_copy 199 = .ok (.imul, 1) := dk_104 (dk_at dksX1_copy_8 14 rfl rfl)
theorem dX1_copy_200 : decode cX1_copy 200 = .ok (.iload 4, 2) := dk_21 4 (dk_at dksX1_copy_8 15 rfl rfl)
theorem dX1_copy_202 : decode cX1_copy 202 = .ok (.iadd, 1) := dk_96 (dk_at dksX1_copy_8 17 rfl rfl)
theorem dX1_copy_203 : decode cX1_copy 203 = .ok (.iload 9, 2) := dk_21 9 (dk_at dksX1_copy_8 18 rfl rfl)
theorem dX1_copy_205 : decode cX1_copy 205 = .ok (.iadd, 1) := dk_96 (dk_at dksX1_copy_8 20 rfl rfl)
theorem dX1_copy_206 : decode cX1_copy 206 = .ok (.aload_n 0, 1) := dk_42 (dk_at dksX1_copy_8 21 rfl rfl)
theorem dX1_copy_207 : decode cX1_copy 207 = .ok (.getfield 16, 3) := dk_180 0 16 (dk_at dksX1_copy_9 0 rfl rfl)
theorem dX1_copy_210 : decode cX1_copy 210 = .ok (.bipush 60, 2) := dk_16 60 (dk_at dksX1_copy_9 3 rfl rfl)
theorem dX1_copy_212 : decode cX1_copy 212 = .ok (.iload_n 1, 1) := dk_27 (dk_at dksX1_copy_9 5 rfl rfl)
theorem dX1_copy_213 : decode cX1_copy 213 = .ok (.imul, 1) := dk_104 (dk_at dksX1_copy_9 6 rfl rfl)
theorem dX1_copy_214 : decode cX1_copy 214 = .ok (.iload_n 2, 1) := dk_28 (dk_at dksX1_copy_9 7 rfl rfl)
theorem dX1_copy_215 : decode cX1_copy 215 = .ok (.iadd, 1) := dk_96 (dk_at dksX1_copy_9 8 rfl rfl)
theorem dX1_copy_216 : decode cX1_copy 216 = .ok (.iload 9, 2) := dk_21 9 (dk_at dksX1_copy_9 9 rfl rfl)
theorem dX1_copy_218 : decode cX1_copy 218 = .ok (.iadd, 1) := dk_96 (dk_at dksX1_copy_9 11 rfl rfl)
theorem dX1_copy_219 : decode cX1_copy 219 = .ok (.iaload, 1) := dk_46 (dk_at dksX1_copy_9 12 rfl rfl)
theorem dX1_copy_220 : decode cX1_copy 220 = .ok (.iastore, 1) := dk_79 (dk_at dksX1_copy_9 13 rfl rfl)
theorem dX1_copy_221 : decode cX1_copy 221 = .ok (.iinc 8 1, 3) := dk_132 8 1 (dk_at dksX1_copy_9 14 rfl rfl)
theorem dX1_copy_224 : decode cX1_copy 224 = .ok (.goto (-58), 3) := dk_167 255 198 (dk_at dksX1_copy_9 17 rfl rfl)
theorem dX1_copy_227 : decode cX1_copy 227 = .ok (.iload 5, 2) := dk_21 5 (dk_at dksX1_copy_9 20 rfl rfl)
theorem dX1_copy_229 : decode cX1_copy 229 = .ok (.ireturn, 1) := dk_172 (dk_at dksX1_copy_9 22 rfl rfl)
abbrev cX1_tell : ByteArray := prog_15_method_64_code
def yX1_tell : MethodName := ⟨RX1, "tell", "(I)I"⟩
def dkwX1_tell_4 : List UInt8 := [182, 0, 215, 28, 172]
abbrev dktX1_tell_4 : List UInt8 := dkwX1_tell_4 ++ []
def dkwX1_tell_3 : List UInt8 := [182, 0, 215, 42, 4, 182, 0, 215, 42, 4, 182, 0, 215, 5, 28, 104, 16, 100, 96, 172, 42, 4]
abbrev dktX1_tell_3 : List UInt8 := dkwX1_tell_3 ++ dktX1_tell_4
def dkwX1_tell_2 : List UInt8 := [42, 5, 182, 0, 215, 42, 4, 182, 0, 215, 28, 16, 100, 96, 172, 42, 6, 182, 0, 215, 42, 5]
abbrev dktX1_tell_2 : List UInt8 := dkwX1_tell_2 ++ dktX1_tell_3
def dkwX1_tell_1 : List UInt8 := [171, 0, 0, 0, 67, 0, 0, 0, 2, 0, 0, 0, 1, 0, 0, 0, 25, 0, 0, 0, 2, 0, 0, 0, 40]
abbrev dktX1_tell_1 : List UInt8 := dkwX1_tell_1 ++ dktX1_tell_2
def dkwX1_tell_0 : List UInt8 := [42, 27, 182, 0, 83, 154, 0, 5, 2, 172, 42, 180, 0, 25, 27, 46, 61, 42, 180, 0, 22, 27, 46]
abbrev dktX1_tell_0 : List UInt8 := dkwX1_tell_0 ++ dktX1_tell_1
theorem dksX1_tell_0 : cX1_tell.data.toList.drop 0 = dktX1_tell_0 := by decide +kernel
theorem dksX1_tell_1 : cX1_tell.data.toList.drop 23 = dktX1_tell_1 := dk_seg dksX1_tell_0 23 rfl rfl
theorem dksX1_tell_2 : cX1_tell.data.toList.drop 48 = dktX1_tell_2 := dk_seg dksX1_tell_1 25 rfl rfl
theorem dksX1_tell_3 : cX1_tell.data.toList.drop 70 = dktX1_tell_3 := dk_seg dksX1_tell_2 22 rfl rfl
theorem dksX1_tell_4 : cX1_tell.data.toList.drop 92 = dktX1_tell_4 := dk_seg dksX1_tell_3 22 rfl rfl
theorem dX1_tell_0 : decode cX1_tell 0 = .ok (.aload_n 0, 1) := dk_42 (dk_at dksX1_tell_0 0 rfl rfl)
theorem dX1_tell_1 : decode cX1_tell 1 = .ok (.iload_n 1, 1) := dk_27 (dk_at dksX1_tell_0 1 rfl rfl)
theorem dX1_tell_2 : decode cX1_tell 2 = .ok (.invokevirtual 83, 3) := dk_182 0 83 (dk_at dksX1_tell_0 2 rfl rfl)
theorem dX1_tell_5 : decode cX1_tell 5 = .ok (.ifCond .ne 5, 3) := dk_154 0 5 (dk_at dksX1_tell_0 5 rfl rfl)
theorem dX1_tell_8 : decode cX1_tell 8 = .ok (.iconst (-1), 1) := dk_2 (dk_at dksX1_tell_0 8 rfl rfl)
theorem dX1_tell_9 : decode cX1_tell 9 = .ok (.ireturn, 1) := dk_172 (dk_at dksX1_tell_0 9 rfl rfl)
theorem dX1_tell_10 : decode cX1_tell 10 = .ok (.aload_n 0, 1) := dk_42 (dk_at dksX1_tell_0 10 rfl rfl)
theorem dX1_tell_11 : decode cX1_tell 11 = .ok (.getfield 25, 3) := dk_180 0 25 (dk_at dksX1_tell_0 11 rfl rfl)
theorem dX1_tell_14 : decode cX1_tell 14 = .ok (.iload_n 1, 1) := dk_27 (dk_at dksX1_tell_0 14 rfl rfl)
theorem dX1_tell_15 : decode cX1_tell 15 = .ok (.iaload, 1) := dk_46 (dk_at dksX1_tell_0 15 rfl rfl)
theorem dX1_tell_16 : decode cX1_tell 16 = .ok (.istore_n 2, 1) := dk_61 (dk_at dksX1_tell_0 16 rfl rfl)
theorem dX1_tell_17 : decode cX1_tell 17 = .ok (.aload_n 0, 1) := dk_42 (dk_at dksX1_tell_0 17 rfl rfl)
theorem dX1_tell_18 : decode cX1_tell 18 = .ok (.getfield 22, 3) := dk_180 0 22 (dk_at dksX1_tell_0 18 rfl rfl)
theorem dX1_tell_21 : decode cX1_tell 21 = .ok (.iload_n 1, 1) := dk_27 (dk_at dksX1_tell_0 21 rfl rfl)
theorem dX1_tell_22 : decode cX1_tell 22 = .ok (.iaload, 1) := dk_46 (dk_at dksX1_tell_0 22 rfl rfl)
theorem dX1_tell_23 : decode cX1_tell 23 = .ok (.lookupswitch 67 #[(1, 25), (2, 40)], 25) := by decide +kernel
theorem dX1_tell_48 : decode cX1_tell 48 = .ok (.aload_n 0, 1) := dk_42 (dk_at dksX1_tell_2 0 rfl rfl)
theorem dX1_tell_49 : decode cX1_tell 49 = .ok (.iconst 2, 1) := dk_5 (dk_at dksX1_tell_2 1 rfl rfl)
theorem dX1_tell_50 : decode cX1_tell 50 = .ok (.invokevirtual 215, 3) := dk_182 0 215 (dk_at dksX1_tell_2 2 rfl rfl)
theorem dX1_tell_53 : decode cX1_tell 53 = .ok (.aload_n 0, 1) := dk_42 (dk_at dksX1_tell_2 5 rfl rfl)
theorem dX1_tell_54 : decode cX1_tell 54 = .ok (.iconst 1, 1) := dk_4 (dk_at dksX1_tell_2 6 rfl rfl)
theorem dX1_tell_55 : decode cX1_tell 55 = .ok (.invokevirtual 215, 3) := dk_182 0 215 (dk_at dksX1_tell_2 7 rfl rfl)
theorem dX1_tell_58 : decode cX1_tell 58 = .ok (.iload_n 2, 1) := dk_28 (dk_at dksX1_tell_2 10 rfl rfl)
theorem dX1_tell_59 : decode cX1_tell 59 = .ok (.bipush 100, 2) := dk_16 100 (dk_at dksX1_tell_2 11 rfl rfl)
theorem dX1_tell_61 : decode cX1_tell 61 = .ok (.iadd, 1) := dk_96 (dk_at dksX1_tell_2 13 rfl rfl)
theorem dX1_tell_62 : decode cX1_tell 62 = .ok (.ireturn, 1) := dk_172 (dk_at dksX1_tell_2 14 rfl rfl)
theorem dX1_tell_63 : decode cX1_tell 63 = .ok (.aload_n 0, 1) := dk_42 (dk_at dksX1_tell_2 15 rfl rfl)
theorem dX1_tell_64 : decode cX1_tell 64 = .ok (.iconst 3, 1) := dk_6 (dk_at dksX1_tell_2 16 rfl rfl)
theorem dX1_tell_65 : decode cX1_tell 65 = .ok (.invokevirtual 215, 3) := dk_182 0 215 (dk_at dksX1_tell_2 17 rfl rfl)
theorem dX1_tell_68 : decode cX1_tell 68 = .ok (.aload_n 0, 1) := dk_42 (dk_at dksX1_tell_2 20 rfl rfl)
theorem dX1_tell_69 : decode cX1_tell 69 = .ok (.iconst 2, 1) := dk_5 (dk_at dksX1_tell_2 21 rfl rfl)
theorem dX1_tell_70 : decode cX1_tell 70 = .ok (.invokevirtual 215, 3) := dk_182 0 215 (dk_at dksX1_tell_3 0 rfl rfl)
theorem dX1_tell_73 : decode cX1_tell 73 = .ok (.aload_n 0, 1) := dk_42 (dk_at dksX1_tell_3 3 rfl rfl)
theorem dX1_tell_74 : decode cX1_tell 74 = .ok (.iconst 1, 1) := dk_4 (dk_at dksX1_tell_3 4 rfl rfl)
theorem dX1_tell_75 : decode cX1_tell 75 = .ok (.invokevirtual 215, 3) := dk_182 0 215 (dk_at dksX1_tell_3 5 rfl rfl)
theorem dX1_tell_78 : decode cX1_tell 78 = .ok (.aload_n 0, 1) := dk_42 (dk_at dksX1_tell_3 8 rfl rfl)
theorem dX1_tell_79 : decode cX1_tell 79 = .ok (.iconst 1, 1) := dk_4 (dk_at dksX1_tell_3 9 rfl rfl)
theorem dX1_tell_80 : decode cX1_tell 80 = .ok (.invokevirtual 215, 3) := dk_182 0 215 (dk_at dksX1_tell_3 10 rfl rfl)
theorem dX1_tell_83 : decode cX1_tell 83 = .ok (.iconst 2, 1) := dk_5 (dk_at dksX1_tell_3 13 rfl rfl)
theorem dX1_tell_84 : decode cX1_tell 84 = .ok (.iload_n 2, 1) := dk_28 (dk_at dksX1_tell_3 14 rfl rfl)
theorem dX1_tell_85 : decode cX1_tell 85 = .ok (.imul, 1) := dk_104 (dk_at dksX1_tell_3 15 rfl rfl)
theorem dX1_tell_86 : decode cX1_tell 86 = .ok (.bipush 100, 2) := dk_16 100 (dk_at dksX1_tell_3 16 rfl rfl)
theorem dX1_tell_88 : decode cX1_tell 88 = .ok (.iadd, 1) := dk_96 (dk_at dksX1_tell_3 18 rfl rfl)
theorem dX1_tell_89 : decode cX1_tell 89 = .ok (.ireturn, 1) := dk_172 (dk_at dksX1_tell_3 19 rfl rfl)
theorem dX1_tell_90 : decode cX1_tell 90 = .ok (.aload_n 0, 1) := dk_42 (dk_at dksX1_tell_3 20 rfl rfl)
theorem dX1_tell_91 : decode cX1_tell 91 = .ok (.iconst 1, 1) := dk_4 (dk_at dksX1_tell_3 21 rfl rfl)
theorem dX1_tell_92 : decode cX1_tell 92 = .ok (.invokevirtual 215, 3) := dk_182 0 215 (dk_at dksX1_tell_4 0 rfl rfl)
theorem dX1_tell_95 : decode cX1_tell 95 = .ok (.iload_n 2, 1) := dk_28 (dk_at dksX1_tell_4 3 rfl rfl)
theorem dX1_tell_96 : decode cX1_tell 96 = .ok (.ireturn, 1) := dk_172 (dk_at dksX1_tell_4 4 rfl rfl)
abbrev cX1_begins : ByteArray := prog_15_method_63_code
def yX1_begins : MethodName := ⟨RX1, "begins", "(I)V"⟩
def dkwX1_begins_0 : List UInt8 := [42, 16, 31, 42, 180, 0, 212, 104, 27, 96, 181, 0, 212, 177]
abbrev dktX1_begins_0 : List UInt8 := dkwX1_begins_0 ++ []
theorem dksX1_begins_0 : cX1_begins.data.toList.drop 0 = dktX1_begins_0 := by decide +kernel
theorem dX1_begins_0 : decode cX1_begins 0 = .ok (.aload_n 0, 1) := dk_42 (dk_at dksX1_begins_0 0 rfl rfl)
theorem dX1_begins_1 : decode cX1_begins 1 = .ok (.bipush 31, 2) := dk_16 31 (dk_at dksX1_begins_0 1 rfl rfl)
theorem dX1_begins_3 : decode cX1_begins 3 = .ok (.aload_n 0, 1) := dk_42 (dk_at dksX1_begins_0 3 rfl rfl)
theorem dX1_begins_4 : decode cX1_begins 4 = .ok (.getfield 212, 3) := dk_180 0 212 (dk_at dksX1_begins_0 4 rfl rfl)
theorem dX1_begins_7 : decode cX1_begins 7 = .ok (.imul, 1) := dk_104 (dk_at dksX1_begins_0 7 rfl rfl)
theorem dX1_begins_8 : decode cX1_begins 8 = .ok (.iload_n 1, 1) := dk_27 (dk_at dksX1_begins_0 8 rfl rfl)
theorem dX1_begins_9 : decode cX1_begins 9 = .ok (.iadd, 1) := dk_96 (dk_at dksX1_begins_0 9 rfl rfl)
theorem dX1_begins_10 : decode cX1_begins 10 = .ok (.putfield 212, 3) := dk_181 0 212 (dk_at dksX1_begins_0 10 rfl rfl)
theorem dX1_begins_13 : decode cX1_begins 13 = .ok (.return_, 1) := dk_177 (dk_at dksX1_begins_0 13 rfl rfl)
abbrev cX1_knock : ByteArray := prog_15_method_65_code
def yX1_knock : MethodName := ⟨RX1, "knock", "(I)I"⟩
def dkwX1_knock_2 : List UInt8 := [180, 0, 19, 27, 46, 184, 0, 140, 172]
abbrev dktX1_knock_2 : List UInt8 := dkwX1_knock_2 ++ []
def dkwX1_knock_1 : List UInt8 := [167, 0, 4, 7, 182, 0, 215, 42, 180, 0, 22, 27, 46, 5, 160, 0, 8, 16, 80, 167, 0, 12, 42]
abbrev dktX1_knock_1 : List UInt8 := dkwX1_knock_1 ++ dktX1_knock_2
def dkwX1_knock_0 : List UInt8 := [42, 27, 182, 0, 83, 154, 0, 5, 2, 172, 42, 42, 180, 0, 22, 27, 46, 5, 160, 0, 7, 8]
abbrev dktX1_knock_0 : List UInt8 := dkwX1_knock_0 ++ dktX1_knock_1
theorem dksX1_knock_0 : cX1_knock.data.toList.drop 0 = dktX1_knock_0 := by decide +kernel
theorem dksX1_knock_1 : cX1_knock.data.toList.drop 22 = dktX1_knock_1 := dk_seg dksX1_knock_0 22 rfl rfl
theorem dksX1_knock_2 : cX1_knock.data.toList.drop 45 = dktX1_knock_2 := dk_seg dksX1_knock_1 23 rfl rfl
theorem dX1_knock_0 : decode cX1_knock 0 = .ok (.aload_n 0, 1) := dk_42 (dk_at dksX1_knock_0 0 rfl rfl)
theorem dX1_knock_1 : decode cX1_knock 1 = .ok (.iload_n 1, 1) := dk_27 (dk_at dksX1_knock_0 1 rfl rfl)
theorem dX1_knock_2 : decode cX1_knock 2 = .ok (.invokevirtual 83, 3) := dk_182 0 83 (dk_at dksX1_knock_0 2 rfl rfl)
theorem dX1_knock_5 : decode cX1_knock 5 = .ok (.ifCond .ne 5, 3) := dk_154 0 5 (dk_at dksX1_knock_0 5 rfl rfl)
theorem dX1_knock_8 : decode cX1_knock 8 = .ok (.iconst (-1), 1) := dk_2 (dk_at dksX1_knock_0 8 rfl rfl)
theorem dX1_knock_9 : decode cX1_knock 9 = .ok (.ireturn, 1) := dk_172 (dk_at dksX1_knock_0 9 rfl rfl)
theorem dX1_knock_10 : decode cX1_knock 10 = .ok (.aload_n 0, 1) := dk_42 (dk_at dksX1_knock_0 10 rfl rfl)
theorem dX1_knock_11 : decode cX1_knock 11 = .ok (.aload_n 0, 1) := dk_42 (dk_at dksX1_knock_0 11 rfl rfl)
theorem dX1_knock_12 : decode cX1_knock 12 = .ok (.getfield 22, 3) := dk_180 0 22 (dk_at dksX1_knock_0 12 rfl rfl)
theorem dX1_knock_15 : decode cX1_knock 15 = .ok (.iload_n 1, 1) := dk_27 (dk_at dksX1_knock_0 15 rfl rfl)
theorem dX1_knock_16 : decode cX1_knock 16 = .ok (.iaload, 1) := dk_46 (dk_at dksX1_knock_0 16 rfl rfl)
theorem dX1_knock_17 : decode cX1_knock 17 = .ok (.iconst 2, 1) := dk_5 (dk_at dksX1_knock_0 17 rfl rfl)
theorem dX1_knock_18 : decode cX1_knock 18 = .ok (.if_icmp .ne 7, 3) := dk_160 0 7 (dk_at dksX1_knock_0 18 rfl rfl)
theorem dX1_knock_21 : decode cX1_knock 21 = .ok (.iconst 5, 1) := dk_8 (dk_at dksX1_knock_0 21 rfl rfl)
theorem dX1_knock_22 : decode cX1_knock 22 = .ok (.goto 4, 3) := dk_167 0 4 (dk_at dksX1_knock_1 0 rfl rfl)
theorem dX1_knock_25 : decode cX1_knock 25 = .ok (.iconst 4, 1) := dk_7 (dk_at dksX1_knock_1 3 rfl rfl)
theorem dX1_knock_26 : decode cX1_knock 26 = .ok (.invokevirtual 215, 3) := dk_182 0 215 (dk_at dksX1_knock_1 4 rfl rfl)
theorem dX1_knock_29 : decode cX1_knock 29 = .ok (.aload_n 0, 1) := dk_42 (dk_at dksX1_knock_1 7 rfl rfl)
theorem dX1_knock_30 : decode cX1_knock 30 = .ok (.getfield 22, 3) := dk_180 0 22 (dk_at dksX1_knock_1 8 rfl rfl)
theorem dX1_knock_33 : decode cX1_knock 33 = .ok (.iload_n 1, 1) := dk_27 (dk_at dksX1_knock_1 11 rfl rfl)
theorem dX1_knock_34 : decode cX1_knock 34 = .ok (.iaload, 1) := dk_46 (dk_at dksX1_knock_1 12 rfl rfl)
theorem dX1_knock_35 : decode cX1_knock 35 = .ok (.iconst 2, 1) := dk_5 (dk_at dksX1_knock_1 13 rfl rfl)
theorem dX1_knock_36 : decode cX1_knock 36 = .ok (.if_icmp .ne 8, 3) := dk_160 0 8 (dk_at dksX1_knock_1 14 rfl rfl)
theorem dX1_knock_39 : decode cX1_knock 39 = .ok (.bipush 80, 2) := dk_16 80 (dk_at dksX1_knock_1 17 rfl rfl)
theorem dX1_knock_41 : decode cX1_knock 41 = .ok (.goto 12, 3) := dk_167 0 12 (dk_at dksX1_knock_1 19 rfl rfl)
theorem dX1_knock_44 : decode cX1_knock 44 = .ok (.aload_n 0, 1) := dk_42 (dk_at dksX1_knock_1 22 rfl rfl)
theorem dX1_knock_45 : decode cX1_knock 45 = .ok (.getfield 19, 3) := dk_180 0 19 (dk_at dksX1_knock_2 0 rfl rfl)
theorem dX1_knock_48 : decode cX1_knock 48 = .ok (.iload_n 1, 1) := dk_27 (dk_at dksX1_knock_2 3 rfl rfl)
theorem dX1_knock_49 : decode cX1_knock 49 = .ok (.iaload, 1) := dk_46 (dk_at dksX1_knock_2 4 rfl rfl)
theorem dX1_knock_50 : decode cX1_knock 50 = .ok (.invokestatic 140, 3) := dk_184 0 140 (dk_at dksX1_knock_2 5 rfl rfl)
theorem dX1_knock_53 : decode cX1_knock 53 = .ok (.ireturn, 1) := dk_172 (dk_at dksX1_knock_2 8 rfl rfl)
abbrev cX1_as : ByteArray := prog_15_method_66_code
def yX1_as : MethodName := ⟨RX1, "as", "(II)I"⟩
def dkwX1_as_1 : List UInt8 := [16, 254, 172, 42, 180, 0, 22, 27, 46, 28, 161, 0, 7, 4, 167, 0, 8, 42, 5, 182, 0, 104, 172]
abbrev dktX1_as_1 : List UInt8 := dkwX1_as_1 ++ []
def dkwX1_as_0 : List UInt8 := [42, 3, 181, 0, 70, 42, 27, 182, 0, 83, 154, 0, 5, 2, 172, 28, 3, 5, 184, 0, 76, 154, 0, 6]
abbrev dktX1_as_0 : List UInt8 := dkwX1_as_0 ++ dktX1_as_1
theorem dksX1_as_0 : cX1_as.data.toList.drop 0 = dktX1_as_0 := by decide +kernel
theorem dksX1_as_1 : cX1_as.data.toList.drop 24 = dktX1_as_1 := dk_seg dksX1_as_0 24 rfl rfl
theorem dX1_as_0 : decode cX1_as 0 = .ok (.aload_n 0, 1) := dk_42 (dk_at dksX1_as_0 0 rfl rfl)
theorem dX1_as_1 : decode cX1_as 1 = .ok (.iconst 0, 1) := dk_3 (dk_at dksX1_as_0 1 rfl rfl)
theorem dX1_as_2 : decode cX1_as 2 = .ok (.putfield 70, 3) := dk_181 0 70 (dk_at dksX1_as_0 2 rfl rfl)
theorem dX1_as_5 : decode cX1_as 5 = .ok (.aload_n 0, 1) := dk_42 (dk_at dksX1_as_0 5 rfl rfl)
theorem dX1_as_6 : decode cX1_as 6 = .ok (.iload_n 1, 1) := dk_27 (dk_at dksX1_as_0 6 rfl rfl)
theorem dX1_as_7 : decode cX1_as 7 = .ok (.invokevirtual 83, 3) := dk_182 0 83 (dk_at dksX1_as_0 7 rfl rfl)
theorem dX1_as_10 : decode cX1_as 10 = .ok (.ifCond .ne 5, 3) := dk_154 0 5 (dk_at dksX1_as_0 10 rfl rfl)
theorem dX1_as_13 : decode cX1_as 13 = .ok (.iconst (-1), 1) := dk_2 (dk_at dksX1_as_0 13 rfl rfl)
theorem dX1_as_14 : decode cX1_as 14 = .ok (.ireturn, 1) := dk_172 (dk_at dksX1_as_0 14 rfl rfl)
theorem dX1_as_15 : decode cX1_as 15 = .ok (.iload_n 2, 1) := dk_28 (dk_at dksX1_as_0 15 rfl rfl)
theorem dX1_as_16 : decode cX1_as 16 = .ok (.iconst 0, 1) := dk_3 (dk_at dksX1_as_0 16 rfl rfl)
theorem dX1_as_17 : decode cX1_as 17 = .ok (.iconst 2, 1) := dk_5 (dk_at dksX1_as_0 17 rfl rfl)
theorem dX1_as_18 : decode cX1_as 18 = .ok (.invokestatic 76, 3) := dk_184 0 76 (dk_at dksX1_as_0 18 rfl rfl)
theorem dX1_as_21 : decode cX1_as 21 = .ok (.ifCond .ne 6, 3) := dk_154 0 6 (dk_at dksX1_as_0 21 rfl rfl)
theorem dX1_as_24 : decode cX1_as 24 = .ok (.bipush (-2), 2) := dk_16 254 (dk_at dksX1_as_1 0 rfl rfl)
theorem dX1_as_26 : decode cX1_as 26 = .ok (.ireturn, 1) := dk_172 (dk_at dksX1_as_1 2 rfl rfl)
theorem dX1_as_27 : decode cX1_as 27 = .ok (.aload_n 0, 1) := dk_42 (dk_at dksX1_as_1 3 rfl rfl)
theorem dX1_as_28 : decode cX1_as 28 = .ok (.getfield 22, 3) := dk_180 0 22 (dk_at dksX1_as_1 4 rfl rfl)
theorem dX1_as_31 : decode cX1_as 31 = .ok (.iload_n 1, 1) := dk_27 (dk_at dksX1_as_1 7 rfl rfl)
theorem dX1_as_32 : decode cX1_as 32 = .ok (.iaload, 1) := dk_46 (dk_at dksX1_as_1 8 rfl rfl)
theorem dX1_as_33 : decode cX1_as 33 = .ok (.iload_n 2, 1) := dk_28 (dk_at dksX1_as_1 9 rfl rfl)
theorem dX1_as_34 : decode cX1_as 34 = .ok (.if_icmp .lt 7, 3) := dk_161 0 7 (dk_at dksX1_as_1 10 rfl rfl)
theorem dX1_as_37 : decode cX1_as 37 = .ok (.iconst 1, 1) := dk_4 (dk_at dksX1_as_1 13 rfl rfl)
theorem dX1_as_38 : decode cX1_as 38 = .ok (.goto 8, 3) := dk_167 0 8 (dk_at dksX1_as_1 14 rfl rfl)
theorem dX1_as_41 : decode cX1_as 41 = .ok (.aload_n 0, 1) := dk_42 (dk_at dksX1_as_1 17 rfl rfl)
theorem dX1_as_42 : decode cX1_as 42 = .ok (.iconst 2, 1) := dk_5 (dk_at dksX1_as_1 18 rfl rfl)
theorem dX1_as_43 : decode cX1_as 43 = .ok (.invokevirtual 104, 3) := dk_182 0 104 (dk_at dksX1_as_1 19 rfl rfl)
theorem dX1_as_46 : decode cX1_as 46 = .ok (.ireturn, 1) := dk_172 (dk_at dksX1_as_1 22 rfl rfl)
abbrev cX1_trace : ByteArray := prog_15_method_67_code
def yX1_trace : MethodName := ⟨RX1, "trace", "()I"⟩
theorem dX1_trace_0 : decode cX1_trace 0 = .ok (.aload_n 0, 1) := by decide +kernel
theorem dX1_trace_1 : decode cX1_trace 1 = .ok (.getfield 212, 3) := by decide +kernel
theorem dX1_trace_4 : decode cX1_trace 4 = .ok (.ireturn, 1) := by decide +kernel
abbrev cX1_fault : ByteArray := prog_15_method_68_code
def yX1_fault : MethodName := ⟨RX1, "fault", "()I"⟩
theorem dX1_fault_0 : decode cX1_fault 0 = .ok (.aload_n 0, 1) := by decide +kernel
theorem dX1_fault_1 : decode cX1_fault 1 = .ok (.getfield 70, 3) := by decide +kernel
theorem dX1_fault_4 : decode cX1_fault 4 = .ok (.ireturn, 1) := by decide +kernel
abbrev cX1_many : ByteArray := prog_15_method_69_code
def yX1_many : MethodName := ⟨RX1, "many", "(I)I"⟩
def dkwX1_many_3 : List UInt8 := [16, 254, 172]
abbrev dktX1_many_3 : List UInt8 := dkwX1_many_3 ++ []
def dkwX1_many_2 : List UInt8 := [42, 180, 0, 80, 172, 42, 180, 0, 117, 172, 42, 182, 0, 178, 184, 0, 140, 172, 42, 180, 0, 120, 172]
abbrev dktX1_many_2 : List UInt8 := dkwX1_many_2 ++ dktX1_many_3
def dkwX1_many_1 : List UInt8 := [170, 0, 0, 0, 0, 0, 54, 0, 0, 0, 0, 0, 0, 0, 3, 0, 0, 0, 31, 0, 0, 0, 36, 0, 0, 0, 41, 0, 0, 0, 49]
abbrev dktX1_many_1 : List UInt8 := dkwX1_many_1 ++ dktX1_many_2
def dkwX1_many_0 : List UInt8 := [27]
abbrev dktX1_many_0 : List UInt8 := dkwX1_many_0 ++ dktX1_many_1
theorem dksX1_many_0 : cX1_many.data.toList.drop 0 = dktX1_many_0 := by decide +kernel
theorem dksX1_many_1 : cX1_many.data.toList.drop 1 = dktX1_many_1 := dk_seg dksX1_many_0 1 rfl rfl
theorem dksX1_many_2 : cX1_many.data.toList.drop 32 = dktX1_many_2 := dk_seg dksX1_many_1 31 rfl rfl
theorem dksX1_many_3 : cX1_many.data.toList.drop 55 = dktX1_many_3 := dk_seg dksX1_many_2 23 rfl rfl
theorem dX1_many_0 : decode cX1_many 0 = .ok (.iload_n 1, 1) := dk_27 (dk_at dksX1_many_0 0 rfl rfl)
theorem dX1_many_1 : decode cX1_many 1 = .ok (.tableswitch 54 0 3 #[31, 36, 41, 49], 31) := by decide +kernel
theorem dX1_many_32 : decode cX1_many 32 = .ok (.aload_n 0, 1) := dk_42 (dk_at dksX1_many_2 0 rfl rfl)
theorem dX1_many_33 : decode cX1_many 33 = .ok (.getfield 80, 3) := dk_180 0 80 (dk_at dksX1_many_2 1 rfl rfl)
theorem dX1_many_36 : decode cX1_many 36 = .ok (.ireturn, 1) := dk_172 (dk_at dksX1_many_2 4 rfl rfl)
theorem dX1_many_37 : decode cX1_many 37 = .ok (.aload_n 0, 1) := dk_42 (dk_at dksX1_many_2 5 rfl rfl)
theorem dX1_many_38 : decode cX1_many 38 = .ok (.getfield 117, 3) := dk_180 0 117 (dk_at dksX1_many_2 6 rfl rfl)
theorem dX1_many_41 : decode cX1_many 41 = .ok (.ireturn, 1) := dk_172 (dk_at dksX1_many_2 9 rfl rfl)
theorem dX1_many_42 : decode cX1_many 42 = .ok (.aload_n 0, 1) := dk_42 (dk_at dksX1_many_2 10 rfl rfl)
theorem dX1_many_43 : decode cX1_many 43 = .ok (.invokevirtual 178, 3) := dk_182 0 178 (dk_at dksX1_many_2 11 rfl rfl)
theorem dX1_many_46 : decode cX1_many 46 = .ok (.invokestatic 140, 3) := dk_184 0 140 (dk_at dksX1_many_2 14 rfl rfl)
theorem dX1_many_49 : decode cX1_many 49 = .ok (.ireturn, 1) := dk_172 (dk_at dksX1_many_2 17 rfl rfl)
theorem dX1_many_50 : decode cX1_many 50 = .ok (.aload_n 0, 1) := dk_42 (dk_at dksX1_many_2 18 rfl rfl)
theorem dX1_many_51 : decode cX1_many 51 = .ok (.getfield 120, 3) := dk_180 0 120 (dk_at dksX1_many_2 19 rfl rfl)
theorem dX1_many_54 : decode cX1_many 54 = .ok (.ireturn, 1) := dk_172 (dk_at dksX1_many_2 22 rfl rfl)
theorem dX1_many_55 : decode cX1_many 55 = .ok (.bipush (-2), 2) := dk_16 254 (dk_at dksX1_many_3 0 rfl rfl)
theorem dX1_many_57 : decode cX1_many 57 = .ok (.ireturn, 1) := dk_172 (dk_at dksX1_many_3 2 rfl rfl)
theorem q74 : (Jvm.Cond.initialized "VineRowsModel") ∈ lw_all := lw_g (lw_at lw_m1 5 rfl) rfl
theorem q470 : (Jvm.Cond.selects "VineRowsModel" ({ cls := "java/lang/Object", name := "getClass", desc := "()Ljava/lang/Class;" } : Jvm.MethodName) ({ cls := "java/lang/Object", name := "getClass", desc := "()Ljava/lang/Class;" } : Jvm.MethodName)) ∈ lw_all := lw_g (lw_at lw_m2 161 rfl) rfl
theorem q1185 : (Jvm.Cond.instantiable "VineRowsModel" (27 : Nat)) ∈ lw_all := lw_g (lw_at lw_m5 156 rfl) rfl
theorem q1187 : (Jvm.Cond.instanceMethod ({ cls := "VineRowsModel", name := "<init>", desc := "()V" } : Jvm.MethodName)) ∈ lw_all := lw_g (lw_at lw_m5 158 rfl) rfl
theorem q1188 : (Jvm.Cond.code ({ cls := "VineRowsModel", name := "<init>", desc := "()V" } : Jvm.MethodName) prog_15_method_1_code (1 : Nat) (Option.none : Option Jvm.ClassFile.FieldType)) ∈ lw_all := lw_g (lw_at lw_m5 159 rfl) rfl
theorem q1189 : (Jvm.Cond.methodLink "VineRowsModel" (1 : Nat) ({ cls := "java/lang/Object", name := "<init>", desc := "()V" } : Jvm.MethodName)) ∈ lw_all := lw_g (lw_at lw_m5 160 rfl) rfl
theorem q1190 : (Jvm.Cond.fieldLink "VineRowsModel" (70 : Nat) "VineRowsModel" "fault" "I") ∈ lw_all := lw_g (lw_at lw_m5 161 rfl) rfl
theorem q1191 : (Jvm.Cond.fieldLink "VineRowsModel" (212 : Nat) "VineRowsModel" "trace" "I") ∈ lw_all := lw_g (lw_at lw_m5 162 rfl) rfl
theorem q1192 : (Jvm.Cond.fieldLink "VineRowsModel" (9 : Nat) "VineRowsModel" "sorts" "[I") ∈ lw_all := lw_g (lw_at lw_m5 163 rfl) rfl
theorem q1193 : (Jvm.Cond.fieldLink "VineRowsModel" (13 : Nat) "VineRowsModel" "sheetLong" "[I") ∈ lw_all := lw_g (lw_at lw_m5 164 rfl) rfl
theorem q1194 : (Jvm.Cond.fieldLink "VineRowsModel" (16 : Nat) "VineRowsModel" "cells" "[I") ∈ lw_all := lw_g (lw_at lw_m5 165 rfl) rfl
theorem q1195 : (Jvm.Cond.fieldLink "VineRowsModel" (80 : Nat) "VineRowsModel" "posts" "I") ∈ lw_all := lw_g (lw_at lw_m5 166 rfl) rfl
theorem q1196 : (Jvm.Cond.fieldLink "VineRowsModel" (117 : Nat) "VineRowsModel" "grafts" "I") ∈ lw_all := lw_g (lw_at lw_m5 167 rfl) rfl
theorem q1197 : (Jvm.Cond.fieldLink "VineRowsModel" (19 : Nat) "VineRowsModel" "twigs" "[I") ∈ lw_all := lw_g (lw_at lw_m5 168 rfl) rfl
theorem q1198 : (Jvm.Cond.fieldLink "VineRowsModel" (22 : Nat) "VineRowsModel" "kind" "[I") ∈ lw_all := lw_g (lw_at lw_m5 169 rfl) rfl
theorem q1199 : (Jvm.Cond.fieldLink "VineRowsModel" (25 : Nat) "VineRowsModel" "loads" "[I") ∈ lw_all := lw_g (lw_at lw_m5 170 rfl) rfl
theorem q1200 : (Jvm.Cond.fieldLink "VineRowsModel" (91 : Nat) "VineRowsModel" "at" "I") ∈ lw_all := lw_g (lw_at lw_m5 171 rfl) rfl
theorem q1201 : (Jvm.Cond.fieldLink "VineRowsModel" (111 : Nat) "VineRowsModel" "readPosts" "I") ∈ lw_all := lw_g (lw_at lw_m5 172 rfl) rfl
theorem q1202 : (Jvm.Cond.fieldLink "VineRowsModel" (28 : Nat) "VineRowsModel" "readRow" "[I") ∈ lw_all := lw_g (lw_at lw_m5 173 rfl) rfl
theorem q1203 : (Jvm.Cond.fieldLink "VineRowsModel" (31 : Nat) "VineRowsModel" "readKind" "[I") ∈ lw_all := lw_g (lw_at lw_m5 174 rfl) rfl
theorem q1204 : (Jvm.Cond.fieldLink "VineRowsModel" (34 : Nat) "VineRowsModel" "readLoad" "[I") ∈ lw_all := lw_g (lw_at lw_m5 175 rfl) rfl
theorem q1205 : (Jvm.Cond.fieldLink "VineRowsModel" (37 : Nat) "VineRowsModel" "fars" "[I") ∈ lw_all := lw_g (lw_at lw_m5 176 rfl) rfl
theorem q1206 : (Jvm.Cond.fieldLink "VineRowsModel" (40 : Nat) "VineRowsModel" "rowNow" "[I") ∈ lw_all := lw_g (lw_at lw_m5 177 rfl) rfl
theorem q1207 : (Jvm.Cond.fieldLink "VineRowsModel" (43 : Nat) "VineRowsModel" "less" "[I") ∈ lw_all := lw_g (lw_at lw_m5 178 rfl) rfl
theorem q1208 : (Jvm.Cond.fieldLink "VineRowsModel" (46 : Nat) "VineRowsModel" "keptTwigs" "[I") ∈ lw_all := lw_g (lw_at lw_m5 179 rfl) rfl
theorem q1209 : (Jvm.Cond.fieldLink "VineRowsModel" (49 : Nat) "VineRowsModel" "keptLoads" "[I") ∈ lw_all := lw_g (lw_at lw_m5 180 rfl) rfl
theorem q1210 : (Jvm.Cond.fieldLink "VineRowsModel" (52 : Nat) "VineRowsModel" "names" "[I") ∈ lw_all := lw_g (lw_at lw_m5 181 rfl) rfl
theorem q1211 : (Jvm.Cond.fieldLink "VineRowsModel" (55 : Nat) "VineRowsModel" "twigA" "[I") ∈ lw_all := lw_g (lw_at lw_m5 182 rfl) rfl
theorem q1212 : (Jvm.Cond.fieldLink "VineRowsModel" (58 : Nat) "VineRowsModel" "twigB" "[I") ∈ lw_all := lw_g (lw_at lw_m5 183 rfl) rfl
theorem q1213 : (Jvm.Cond.fieldLink "VineRowsModel" (120 : Nat) "VineRowsModel" "readings" "I") ∈ lw_all := lw_g (lw_at lw_m5 184 rfl) rfl
theorem q1214 : (Jvm.Cond.fieldLink "VineRowsModel" (61 : Nat) "VineRowsModel" "readFrom" "[I") ∈ lw_all := lw_g (lw_at lw_m5 185 rfl) rfl
theorem q1215 : (Jvm.Cond.fieldLink "VineRowsModel" (64 : Nat) "VineRowsModel" "readTo" "[I") ∈ lw_all := lw_g (lw_at lw_m5 186 rfl) rfl
theorem q1216 : (Jvm.Cond.fieldLink "VineRowsModel" (67 : Nat) "VineRowsModel" "readWorth" "[I") ∈ lw_all := lw_g (lw_at lw_m5 187 rfl) rfl
theorem q1217 : (Jvm.Cond.lays "VineRowsModel" "VineRowsModel" "fault" "I") ∈ lw_all := lw_g (lw_at lw_m5 188 rfl) rfl
theorem q1218 : (Jvm.Cond.soleField "VineRowsModel" "fault") ∈ lw_all := lw_g (lw_at lw_m5 189 rfl) rfl
theorem q1219 : (Jvm.Cond.lays "VineRowsModel" "VineRowsModel" "trace" "I") ∈ lw_all := lw_g (lw_at lw_m5 190 rfl) rfl
theorem q1220 : (Jvm.Cond.soleField "VineRowsModel" "trace") ∈ lw_all := lw_g (lw_at lw_m5 191 rfl) rfl
theorem q1221 : (Jvm.Cond.laysFinal "VineRowsModel" "VineRowsModel" "sorts" "[I") ∈ lw_all := lw_g (lw_at lw_m5 192 rfl) rfl
theorem q1222 : (Jvm.Cond.soleField "VineRowsModel" "sorts") ∈ lw_all := lw_g (lw_at lw_m5 193 rfl) rfl
theorem q1223 : (Jvm.Cond.laysFinal "VineRowsModel" "VineRowsModel" "sheetLong" "[I") ∈ lw_all := lw_g (lw_at lw_m5 194 rfl) rfl
theorem q1224 : (Jvm.Cond.soleField "VineRowsModel" "sheetLong") ∈ lw_all := lw_g (lw_at lw_m5 195 rfl) rfl
theorem q1225 : (Jvm.Cond.laysFinal "VineRowsModel" "VineRowsModel" "cells" "[I") ∈ lw_all := lw_g (lw_at lw_m5 196 rfl) rfl
theorem q1226 : (Jvm.Cond.soleField "VineRowsModel" "cells") ∈ lw_all := lw_g (lw_at lw_m5 197 rfl) rfl
theorem q1227 : (Jvm.Cond.lays "VineRowsModel" "VineRowsModel" "posts" "I") ∈ lw_all := lw_g (lw_at lw_m5 198 rfl) rfl
theorem q1228 : (Jvm.Cond.soleField "VineRowsModel" "posts") ∈ lw_all := lw_g (lw_at lw_m5 199 rfl) rfl
theorem q1229 : (Jvm.Cond.lays "VineRowsModel" "VineRowsModel" "grafts" "I") ∈ lw_all := lw_g (lw_at lw_m5 200 rfl) rfl
theorem q1230 : (Jvm.Cond.soleField "VineRowsModel" "grafts") ∈ lw_all := lw_g (lw_at lw_m5 201 rfl) rfl
theorem q1231 : (Jvm.Cond.laysFinal "VineRowsModel" "VineRowsModel" "twigs" "[I") ∈ lw_all := lw_g (lw_at lw_m5 202 rfl) rfl
theorem q1232 : (Jvm.Cond.soleField "VineRowsModel" "twigs") ∈ lw_all := lw_g (lw_at lw_m5 203 rfl) rfl
theorem q1233 : (Jvm.Cond.laysFinal "VineRowsModel" "VineRowsModel" "kind" "[I") ∈ lw_all := lw_g (lw_at lw_m5 204 rfl) rfl
theorem q1234 : (Jvm.Cond.soleField "VineRowsModel" "kind") ∈ lw_all := lw_g (lw_at lw_m5 205 rfl) rfl
theorem q1235 : (Jvm.Cond.laysFinal "VineRowsModel" "VineRowsModel" "loads" "[I") ∈ lw_all := lw_g (lw_at lw_m5 206 rfl) rfl
theorem q1236 : (Jvm.Cond.soleField "VineRowsModel" "loads") ∈ lw_all := lw_g (lw_at lw_m5 207 rfl) rfl
theorem q1237 : (Jvm.Cond.lays "VineRowsModel" "VineRowsModel" "at" "I") ∈ lw_all := lw_g (lw_at lw_m5 208 rfl) rfl
theorem q1238 : (Jvm.Cond.soleField "VineRowsModel" "at") ∈ lw_all := lw_g (lw_at lw_m5 209 rfl) rfl
theorem q1239 : (Jvm.Cond.lays "VineRowsModel" "VineRowsModel" "readPosts" "I") ∈ lw_all := lw_g (lw_at lw_m5 210 rfl) rfl
theorem q1240 : (Jvm.Cond.soleField "VineRowsModel" "readPosts") ∈ lw_all := lw_g (lw_at lw_m5 211 rfl) rfl
theorem q1241 : (Jvm.Cond.laysFinal "VineRowsModel" "VineRowsModel" "readRow" "[I") ∈ lw_all := lw_g (lw_at lw_m5 212 rfl) rfl
theorem q1242 : (Jvm.Cond.soleField "VineRowsModel" "readRow") ∈ lw_all := lw_g (lw_at lw_m5 213 rfl) rfl
theorem q1243 : (Jvm.Cond.laysFinal "VineRowsModel" "VineRowsModel" "readKind" "[I") ∈ lw_all := lw_g (lw_at lw_m5 214 rfl) rfl
theorem q1244 : (Jvm.Cond.soleField "VineRowsModel" "readKind") ∈ lw_all := lw_g (lw_at lw_m5 215 rfl) rfl
theorem q1245 : (Jvm.Cond.laysFinal "VineRowsModel" "VineRowsModel" "readLoad" "[I") ∈ lw_all := lw_g (lw_at lw_m5 216 rfl) rfl
theorem q1246 : (Jvm.Cond.soleField "VineRowsModel" "readLoad") ∈ lw_all := lw_g (lw_at lw_m5 217 rfl) rfl
theorem q1247 : (Jvm.Cond.laysFinal "VineRowsModel" "VineRowsModel" "fars" "[I") ∈ lw_all := lw_g (lw_at lw_m5 218 rfl) rfl
theorem q1248 : (Jvm.Cond.soleField "VineRowsModel" "fars") ∈ lw_all := lw_g (lw_at lw_m5 219 rfl) rfl
theorem q1249 : (Jvm.Cond.laysFinal "VineRowsModel" "VineRowsModel" "rowNow" "[I") ∈ lw_all := lw_g (lw_at lw_m5 220 rfl) rfl
theorem q1250 : (Jvm.Cond.soleField "VineRowsModel" "rowNow") ∈ lw_all := lw_g (lw_at lw_m5 221 rfl) rfl
theorem q1251 : (Jvm.Cond.laysFinal "VineRowsModel" "VineRowsModel" "less" "[I") ∈ lw_all := lw_g (lw_at lw_m5 222 rfl) rfl
theorem q1252 : (Jvm.Cond.soleField "VineRowsModel" "less") ∈ lw_all := lw_g (lw_at lw_m5 223 rfl) rfl
theorem q1253 : (Jvm.Cond.laysFinal "VineRowsModel" "VineRowsModel" "keptTwigs" "[I") ∈ lw_all := lw_g (lw_at lw_m5 224 rfl) rfl
theorem q1254 : (Jvm.Cond.soleField "VineRowsModel" "keptTwigs") ∈ lw_all := lw_g (lw_at lw_m5 225 rfl) rfl
theorem q1255 : (Jvm.Cond.laysFinal "VineRowsModel" "VineRowsModel" "keptLoads" "[I") ∈ lw_all := lw_g (lw_at lw_m5 226 rfl) rfl
theorem q1256 : (Jvm.Cond.soleField "VineRowsModel" "keptLoads") ∈ lw_all := lw_g (lw_at lw_m5 227 rfl) rfl
theorem q1257 : (Jvm.Cond.laysFinal "VineRowsModel" "VineRowsModel" "names" "[I") ∈ lw_all := lw_g (lw_at lw_m5 228 rfl) rfl
theorem q1258 : (Jvm.Cond.soleField "VineRowsModel" "names") ∈ lw_all := lw_g (lw_at lw_m5 229 rfl) rfl
theorem q1259 : (Jvm.Cond.laysFinal "VineRowsModel" "VineRowsModel" "twigA" "[I") ∈ lw_all := lw_g (lw_at lw_m5 230 rfl) rfl
theorem q1260 : (Jvm.Cond.soleField "VineRowsModel" "twigA") ∈ lw_all := lw_g (lw_at lw_m5 231 rfl) rfl
theorem q1261 : (Jvm.Cond.laysFinal "VineRowsModel" "VineRowsModel" "twigB" "[I") ∈ lw_all := lw_g (lw_at lw_m5 232 rfl) rfl
theorem q1262 : (Jvm.Cond.soleField "VineRowsModel" "twigB") ∈ lw_all := lw_g (lw_at lw_m5 233 rfl) rfl
theorem q1263 : (Jvm.Cond.lays "VineRowsModel" "VineRowsModel" "readings" "I") ∈ lw_all := lw_g (lw_at lw_m5 234 rfl) rfl
theorem q1264 : (Jvm.Cond.soleField "VineRowsModel" "readings") ∈ lw_all := lw_g (lw_at lw_m5 235 rfl) rfl
theorem q1265 : (Jvm.Cond.laysFinal "VineRowsModel" "VineRowsModel" "readFrom" "[I") ∈ lw_all := lw_g (lw_at lw_m5 236 rfl) rfl
theorem q1266 : (Jvm.Cond.soleField "VineRowsModel" "readFrom") ∈ lw_all := lw_g (lw_at lw_m5 237 rfl) rfl
theorem q1267 : (Jvm.Cond.laysFinal "VineRowsModel" "VineRowsModel" "readTo" "[I") ∈ lw_all := lw_g (lw_at lw_m5 238 rfl) rfl
theorem q1268 : (Jvm.Cond.soleField "VineRowsModel" "readTo") ∈ lw_all := lw_g (lw_at lw_m5 239 rfl) rfl
theorem q1269 : (Jvm.Cond.laysFinal "VineRowsModel" "VineRowsModel" "readWorth" "[I") ∈ lw_all := lw_g (lw_at lw_m6 0 rfl) rfl
theorem q1270 : (Jvm.Cond.soleField "VineRowsModel" "readWorth") ∈ lw_all := lw_g (lw_at lw_m6 1 rfl) rfl
theorem q1271 : (Jvm.Cond.superclass "VineRowsModel" "java/lang/Object") ∈ lw_all := lw_g (lw_at lw_m6 2 rfl) rfl
theorem q1273 : (Jvm.Cond.instanceMethod ({ cls := "VineRowsModel", name := "vine", desc := "(IIII)I" } : Jvm.MethodName)) ∈ lw_all := lw_g (lw_at lw_m6 4 rfl) rfl
theorem q1274 : (Jvm.Cond.selects "VineRowsModel" ({ cls := "VineRowsModel", name := "vine", desc := "(IIII)I" } : Jvm.MethodName) ({ cls := "VineRowsModel", name := "vine", desc := "(IIII)I" } : Jvm.MethodName)) ∈ lw_all := lw_g (lw_at lw_m6 5 rfl) rfl
theorem q1275 : (Jvm.Cond.code ({ cls := "VineRowsModel", name := "vine", desc := "(IIII)I" } : Jvm.MethodName) prog_15_method_15_code (8 : Nat) (Option.some Jvm.ClassFile.FieldType.int)) ∈ lw_all := lw_g (lw_at lw_m6 6 rfl) rfl
theorem q1276 : (Jvm.Cond.methodLink "VineRowsModel" (94 : Nat) ({ cls := "VineRowsModel", name := "isSheet", desc := "(I)Z" } : Jvm.MethodName)) ∈ lw_all := lw_g (lw_at lw_m6 7 rfl) rfl
theorem q1277 : (Jvm.Cond.static ({ cls := "VineRowsModel", name := "isSheet", desc := "(I)Z" } : Jvm.MethodName)) ∈ lw_all := lw_g (lw_at lw_m6 8 rfl) rfl
theorem q1278 : (Jvm.Cond.code ({ cls := "VineRowsModel", name := "isSheet", desc := "(I)Z" } : Jvm.MethodName) prog_15_method_6_code (1 : Nat) (Option.some Jvm.ClassFile.FieldType.boolean)) ∈ lw_all := lw_g (lw_at lw_m6 9 rfl) rfl
theorem q1279 : (Jvm.Cond.methodLink "VineRowsModel" (76 : Nat) ({ cls := "VineRowsModel", name := "within", desc := "(III)Z" } : Jvm.MethodName)) ∈ lw_all := lw_g (lw_at lw_m6 10 rfl) rfl
theorem q1280 : (Jvm.Cond.static ({ cls := "VineRowsModel", name := "within", desc := "(III)Z" } : Jvm.MethodName)) ∈ lw_all := lw_g (lw_at lw_m6 11 rfl) rfl
theorem q1281 : (Jvm.Cond.code ({ cls := "VineRowsModel", name := "within", desc := "(III)Z" } : Jvm.MethodName) prog_15_method_5_code (3 : Nat) (Option.some Jvm.ClassFile.FieldType.boolean)) ∈ lw_all := lw_g (lw_at lw_m6 12 rfl) rfl
theorem q1282 : (Jvm.Cond.methodLink "VineRowsModel" (97 : Nat) ({ cls := "VineRowsModel", name := "isSort", desc := "(I)Z" } : Jvm.MethodName)) ∈ lw_all := lw_g (lw_at lw_m6 13 rfl) rfl
theorem q1283 : (Jvm.Cond.static ({ cls := "VineRowsModel", name := "isSort", desc := "(I)Z" } : Jvm.MethodName)) ∈ lw_all := lw_g (lw_at lw_m6 14 rfl) rfl
theorem q1284 : (Jvm.Cond.code ({ cls := "VineRowsModel", name := "isSort", desc := "(I)Z" } : Jvm.MethodName) prog_15_method_7_code (1 : Nat) (Option.some Jvm.ClassFile.FieldType.boolean)) ∈ lw_all := lw_g (lw_at lw_m6 15 rfl) rfl
theorem q1285 : (Jvm.Cond.methodLink "VineRowsModel" (100 : Nat) ({ cls := "VineRowsModel", name := "against", desc := "(IIII)I" } : Jvm.MethodName)) ∈ lw_all := lw_g (lw_at lw_m6 16 rfl) rfl
theorem q1286 : (Jvm.Cond.privateMethod ({ cls := "VineRowsModel", name := "against", desc := "(IIII)I" } : Jvm.MethodName)) ∈ lw_tbl := lw_at lw_m6 17 rfl
theorem q1287 : (Jvm.Cond.instanceMethod ({ cls := "VineRowsModel", name := "against", desc := "(IIII)I" } : Jvm.MethodName)) ∈ lw_all := lw_g (lw_at lw_m6 18 rfl) rfl
theorem q1288 : (Jvm.Cond.code ({ cls := "VineRowsModel", name := "against", desc := "(IIII)I" } : Jvm.MethodName) prog_15_method_8_code (5 : Nat) (Option.some Jvm.ClassFile.FieldType.int)) ∈ lw_all := lw_g (lw_at lw_m6 19 rfl) rfl
theorem q1289 : (Jvm.Cond.methodLink "VineRowsModel" (104 : Nat) ({ cls := "VineRowsModel", name := "fails", desc := "(I)I" } : Jvm.MethodName)) ∈ lw_all := lw_g (lw_at lw_m6 20 rfl) rfl
theorem q1290 : (Jvm.Cond.privateMethod ({ cls := "VineRowsModel", name := "fails", desc := "(I)I" } : Jvm.MethodName)) ∈ lw_tbl := lw_at lw_m6 21 rfl
theorem q1291 : (Jvm.Cond.instanceMethod ({ cls := "VineRowsModel", name := "fails", desc := "(I)I" } : Jvm.MethodName)) ∈ lw_all := lw_g (lw_at lw_m6 22 rfl) rfl
theorem q1292 : (Jvm.Cond.code ({ cls := "VineRowsModel", name := "fails", desc := "(I)I" } : Jvm.MethodName) prog_15_method_3_code (2 : Nat) (Option.some Jvm.ClassFile.FieldType.int)) ∈ lw_all := lw_g (lw_at lw_m6 23 rfl) rfl
theorem q1293 : (Jvm.Cond.methodLink "VineRowsModel" (108 : Nat) ({ cls := "VineRowsModel", name := "readVine", desc := "(I)Z" } : Jvm.MethodName)) ∈ lw_all := lw_g (lw_at lw_m6 24 rfl) rfl
theorem q1294 : (Jvm.Cond.privateMethod ({ cls := "VineRowsModel", name := "readVine", desc := "(I)Z" } : Jvm.MethodName)) ∈ lw_tbl := lw_at lw_m6 25 rfl
theorem q1295 : (Jvm.Cond.instanceMethod ({ cls := "VineRowsModel", name := "readVine", desc := "(I)Z" } : Jvm.MethodName)) ∈ lw_all := lw_g (lw_at lw_m6 26 rfl) rfl
theorem q1296 : (Jvm.Cond.code ({ cls := "VineRowsModel", name := "readVine", desc := "(I)Z" } : Jvm.MethodName) prog_15_method_16_code (3 : Nat) (Option.some Jvm.ClassFile.FieldType.boolean)) ∈ lw_all := lw_g (lw_at lw_m6 27 rfl) rfl
theorem q1297 : (Jvm.Cond.methodLink "VineRowsModel" (123 : Nat) ({ cls := "VineRowsModel", name := "digit", desc := "(III)I" } : Jvm.MethodName)) ∈ lw_all := lw_g (lw_at lw_m6 28 rfl) rfl
theorem q1298 : (Jvm.Cond.privateMethod ({ cls := "VineRowsModel", name := "digit", desc := "(III)I" } : Jvm.MethodName)) ∈ lw_tbl := lw_at lw_m6 29 rfl
theorem q1299 : (Jvm.Cond.instanceMethod ({ cls := "VineRowsModel", name := "digit", desc := "(III)I" } : Jvm.MethodName)) ∈ lw_all := lw_g (lw_at lw_m6 30 rfl) rfl
theorem q1300 : (Jvm.Cond.code ({ cls := "VineRowsModel", name := "digit", desc := "(III)I" } : Jvm.MethodName) prog_15_method_14_code (4 : Nat) (Option.some Jvm.ClassFile.FieldType.int)) ∈ lw_all := lw_g (lw_at lw_m6 31 rfl) rfl
theorem q1301 : (Jvm.Cond.methodLink "VineRowsModel" (127 : Nat) ({ cls := "VineRowsModel", name := "readPost", desc := "(II)Z" } : Jvm.MethodName)) ∈ lw_all := lw_g (lw_at lw_m6 32 rfl) rfl
theorem q1302 : (Jvm.Cond.privateMethod ({ cls := "VineRowsModel", name := "readPost", desc := "(II)Z" } : Jvm.MethodName)) ∈ lw_tbl := lw_at lw_m6 33 rfl
theorem q1303 : (Jvm.Cond.instanceMethod ({ cls := "VineRowsModel", name := "readPost", desc := "(II)Z" } : Jvm.MethodName)) ∈ lw_all := lw_g (lw_at lw_m6 34 rfl) rfl
theorem q1304 : (Jvm.Cond.code ({ cls := "VineRowsModel", name := "readPost", desc := "(II)Z" } : Jvm.MethodName) prog_15_method_17_code (4 : Nat) (Option.some Jvm.ClassFile.FieldType.boolean)) ∈ lw_all := lw_g (lw_at lw_m6 35 rfl) rfl
theorem q1305 : (Jvm.Cond.methodLink "VineRowsModel" (114 : Nat) ({ cls := "VineRowsModel", name := "growVine", desc := "()V" } : Jvm.MethodName)) ∈ lw_all := lw_g (lw_at lw_m6 36 rfl) rfl
theorem q1306 : (Jvm.Cond.privateMethod ({ cls := "VineRowsModel", name := "growVine", desc := "()V" } : Jvm.MethodName)) ∈ lw_tbl := lw_at lw_m6 37 rfl
theorem q1307 : (Jvm.Cond.instanceMethod ({ cls := "VineRowsModel", name := "growVine", desc := "()V" } : Jvm.MethodName)) ∈ lw_all := lw_g (lw_at lw_m6 38 rfl) rfl
theorem q1308 : (Jvm.Cond.code ({ cls := "VineRowsModel", name := "growVine", desc := "()V" } : Jvm.MethodName) prog_15_method_20_code (5 : Nat) (Option.none : Option Jvm.ClassFile.FieldType)) ∈ lw_all := lw_g (lw_at lw_m6 39 rfl) rfl
theorem q1309 : (Jvm.Cond.methodLink "VineRowsModel" (130 : Nat) ({ cls := "VineRowsModel", name := "leastOf", desc := "(I)I" } : Jvm.MethodName)) ∈ lw_all := lw_g (lw_at lw_m6 40 rfl) rfl
theorem q1310 : (Jvm.Cond.static ({ cls := "VineRowsModel", name := "leastOf", desc := "(I)I" } : Jvm.MethodName)) ∈ lw_all := lw_g (lw_at lw_m6 41 rfl) rfl
theorem q1311 : (Jvm.Cond.code ({ cls := "VineRowsModel", name := "leastOf", desc := "(I)I" } : Jvm.MethodName) prog_15_method_13_code (2 : Nat) (Option.some Jvm.ClassFile.FieldType.int)) ∈ lw_all := lw_g (lw_at lw_m6 42 rfl) rfl
theorem q1312 : (Jvm.Cond.methodLink "VineRowsModel" (87 : Nat) ({ cls := "VineRowsModel", name := "isOf", desc := "(II)Z" } : Jvm.MethodName)) ∈ lw_all := lw_g (lw_at lw_m6 43 rfl) rfl
theorem q1313 : (Jvm.Cond.static ({ cls := "VineRowsModel", name := "isOf", desc := "(II)Z" } : Jvm.MethodName)) ∈ lw_all := lw_g (lw_at lw_m6 44 rfl) rfl
theorem q1314 : (Jvm.Cond.code ({ cls := "VineRowsModel", name := "isOf", desc := "(II)Z" } : Jvm.MethodName) prog_15_method_11_code (2 : Nat) (Option.some Jvm.ClassFile.FieldType.boolean)) ∈ lw_all := lw_g (lw_at lw_m6 45 rfl) rfl
theorem q1315 : (Jvm.Cond.methodLink "VineRowsModel" (133 : Nat) ({ cls := "VineRowsModel", name := "join", desc := "(II)V" } : Jvm.MethodName)) ∈ lw_all := lw_g (lw_at lw_m6 46 rfl) rfl
theorem q1316 : (Jvm.Cond.privateMethod ({ cls := "VineRowsModel", name := "join", desc := "(II)V" } : Jvm.MethodName)) ∈ lw_tbl := lw_at lw_m6 47 rfl
theorem q1317 : (Jvm.Cond.instanceMethod ({ cls := "VineRowsModel", name := "join", desc := "(II)V" } : Jvm.MethodName)) ∈ lw_all := lw_g (lw_at lw_m6 48 rfl) rfl
theorem q1318 : (Jvm.Cond.code ({ cls := "VineRowsModel", name := "join", desc := "(II)V" } : Jvm.MethodName) prog_15_method_18_code (3 : Nat) (Option.none : Option Jvm.ClassFile.FieldType)) ∈ lw_all := lw_g (lw_at lw_m6 49 rfl) rfl
theorem q1320 : (Jvm.Cond.instanceMethod ({ cls := "VineRowsModel", name := "ofPost", desc := "(II)I" } : Jvm.MethodName)) ∈ lw_all := lw_g (lw_at lw_m6 51 rfl) rfl
theorem q1321 : (Jvm.Cond.selects "VineRowsModel" ({ cls := "VineRowsModel", name := "ofPost", desc := "(II)I" } : Jvm.MethodName) ({ cls := "VineRowsModel", name := "ofPost", desc := "(II)I" } : Jvm.MethodName)) ∈ lw_all := lw_g (lw_at lw_m6 52 rfl) rfl
theorem q1322 : (Jvm.Cond.code ({ cls := "VineRowsModel", name := "ofPost", desc := "(II)I" } : Jvm.MethodName) prog_15_method_27_code (3 : Nat) (Option.some Jvm.ClassFile.FieldType.int)) ∈ lw_all := lw_g (lw_at lw_m6 53 rfl) rfl
theorem q1323 : (Jvm.Cond.methodLink "VineRowsModel" (83 : Nat) ({ cls := "VineRowsModel", name := "isPost", desc := "(I)Z" } : Jvm.MethodName)) ∈ lw_all := lw_g (lw_at lw_m6 54 rfl) rfl
theorem q1324 : (Jvm.Cond.privateMethod ({ cls := "VineRowsModel", name := "isPost", desc := "(I)Z" } : Jvm.MethodName)) ∈ lw_tbl := lw_at lw_m6 55 rfl
theorem q1325 : (Jvm.Cond.instanceMethod ({ cls := "VineRowsModel", name := "isPost", desc := "(I)Z" } : Jvm.MethodName)) ∈ lw_all := lw_g (lw_at lw_m6 56 rfl) rfl
theorem q1326 : (Jvm.Cond.code ({ cls := "VineRowsModel", name := "isPost", desc := "(I)Z" } : Jvm.MethodName) prog_15_method_9_code (2 : Nat) (Option.some Jvm.ClassFile.FieldType.boolean)) ∈ lw_all := lw_g (lw_at lw_m6 57 rfl) rfl
theorem q1327 : (Jvm.Cond.methodLink "VineRowsModel" (137 : Nat) ({ cls := "VineRowsModel", name := "worthOf", desc := "(I)I" } : Jvm.MethodName)) ∈ lw_all := lw_g (lw_at lw_m6 58 rfl) rfl
theorem q1328 : (Jvm.Cond.privateMethod ({ cls := "VineRowsModel", name := "worthOf", desc := "(I)I" } : Jvm.MethodName)) ∈ lw_tbl := lw_at lw_m6 59 rfl
theorem q1329 : (Jvm.Cond.instanceMethod ({ cls := "VineRowsModel", name := "worthOf", desc := "(I)I" } : Jvm.MethodName)) ∈ lw_all := lw_g (lw_at lw_m6 60 rfl) rfl
theorem q1330 : (Jvm.Cond.code ({ cls := "VineRowsModel", name := "worthOf", desc := "(I)I" } : Jvm.MethodName) prog_15_method_21_code (2 : Nat) (Option.some Jvm.ClassFile.FieldType.int)) ∈ lw_all := lw_g (lw_at lw_m6 61 rfl) rfl
theorem q1331 : (Jvm.Cond.methodLink "VineRowsModel" (140 : Nat) ({ cls := "VineRowsModel", name := "size", desc := "(I)I" } : Jvm.MethodName)) ∈ lw_all := lw_g (lw_at lw_m6 62 rfl) rfl
theorem q1332 : (Jvm.Cond.static ({ cls := "VineRowsModel", name := "size", desc := "(I)I" } : Jvm.MethodName)) ∈ lw_all := lw_g (lw_at lw_m6 63 rfl) rfl
theorem q1333 : (Jvm.Cond.code ({ cls := "VineRowsModel", name := "size", desc := "(I)I" } : Jvm.MethodName) prog_15_method_12_code (3 : Nat) (Option.some Jvm.ClassFile.FieldType.int)) ∈ lw_all := lw_g (lw_at lw_m6 64 rfl) rfl
theorem q1334 : (Jvm.Cond.methodLink "VineRowsModel" (146 : Nat) ({ cls := "VineRowsModel", name := "findFars", desc := "()V" } : Jvm.MethodName)) ∈ lw_all := lw_g (lw_at lw_m6 65 rfl) rfl
theorem q1335 : (Jvm.Cond.privateMethod ({ cls := "VineRowsModel", name := "findFars", desc := "()V" } : Jvm.MethodName)) ∈ lw_tbl := lw_at lw_m6 66 rfl
theorem q1336 : (Jvm.Cond.instanceMethod ({ cls := "VineRowsModel", name := "findFars", desc := "()V" } : Jvm.MethodName)) ∈ lw_all := lw_g (lw_at lw_m6 67 rfl) rfl
theorem q1337 : (Jvm.Cond.code ({ cls := "VineRowsModel", name := "findFars", desc := "()V" } : Jvm.MethodName) prog_15_method_24_code (7 : Nat) (Option.none : Option Jvm.ClassFile.FieldType)) ∈ lw_all := lw_g (lw_at lw_m6 68 rfl) rfl
theorem q1338 : (Jvm.Cond.methodLink "VineRowsModel" (143 : Nat) ({ cls := "VineRowsModel", name := "farthestFrom", desc := "(I)I" } : Jvm.MethodName)) ∈ lw_all := lw_g (lw_at lw_m6 69 rfl) rfl
theorem q1339 : (Jvm.Cond.privateMethod ({ cls := "VineRowsModel", name := "farthestFrom", desc := "(I)I" } : Jvm.MethodName)) ∈ lw_tbl := lw_at lw_m6 70 rfl
theorem q1340 : (Jvm.Cond.instanceMethod ({ cls := "VineRowsModel", name := "farthestFrom", desc := "(I)I" } : Jvm.MethodName)) ∈ lw_all := lw_g (lw_at lw_m6 71 rfl) rfl
theorem q1341 : (Jvm.Cond.code ({ cls := "VineRowsModel", name := "farthestFrom", desc := "(I)I" } : Jvm.MethodName) prog_15_method_25_code (4 : Nat) (Option.some Jvm.ClassFile.FieldType.int)) ∈ lw_all := lw_g (lw_at lw_m6 72 rfl) rfl
theorem q1343 : (Jvm.Cond.instanceMethod ({ cls := "VineRowsModel", name := "load", desc := "(II)I" } : Jvm.MethodName)) ∈ lw_all := lw_g (lw_at lw_m6 74 rfl) rfl
theorem q1344 : (Jvm.Cond.selects "VineRowsModel" ({ cls := "VineRowsModel", name := "load", desc := "(II)I" } : Jvm.MethodName) ({ cls := "VineRowsModel", name := "load", desc := "(II)I" } : Jvm.MethodName)) ∈ lw_all := lw_g (lw_at lw_m6 75 rfl) rfl
theorem q1345 : (Jvm.Cond.code ({ cls := "VineRowsModel", name := "load", desc := "(II)I" } : Jvm.MethodName) prog_15_method_28_code (4 : Nat) (Option.some Jvm.ClassFile.FieldType.int)) ∈ lw_all := lw_g (lw_at lw_m6 76 rfl) rfl
theorem q1347 : (Jvm.Cond.instanceMethod ({ cls := "VineRowsModel", name := "row", desc := "(I)I" } : Jvm.MethodName)) ∈ lw_all := lw_g (lw_at lw_m6 78 rfl) rfl
theorem q1348 : (Jvm.Cond.selects "VineRowsModel" ({ cls := "VineRowsModel", name := "row", desc := "(I)I" } : Jvm.MethodName) ({ cls := "VineRowsModel", name := "row", desc := "(I)I" } : Jvm.MethodName)) ∈ lw_all := lw_g (lw_at lw_m6 79 rfl) rfl
theorem q1349 : (Jvm.Cond.code ({ cls := "VineRowsModel", name := "row", desc := "(I)I" } : Jvm.MethodName) prog_15_method_30_code (2 : Nat) (Option.some Jvm.ClassFile.FieldType.int)) ∈ lw_all := lw_g (lw_at lw_m6 80 rfl) rfl
theorem q1350 : (Jvm.Cond.methodLink "VineRowsModel" (149 : Nat) ({ cls := "VineRowsModel", name := "findRow", desc := "()V" } : Jvm.MethodName)) ∈ lw_all := lw_g (lw_at lw_m6 81 rfl) rfl
theorem q1351 : (Jvm.Cond.privateMethod ({ cls := "VineRowsModel", name := "findRow", desc := "()V" } : Jvm.MethodName)) ∈ lw_tbl := lw_at lw_m6 82 rfl
theorem q1352 : (Jvm.Cond.instanceMethod ({ cls := "VineRowsModel", name := "findRow", desc := "()V" } : Jvm.MethodName)) ∈ lw_all := lw_g (lw_at lw_m6 83 rfl) rfl
theorem q1353 : (Jvm.Cond.code ({ cls := "VineRowsModel", name := "findRow", desc := "()V" } : Jvm.MethodName) prog_15_method_29_code (3 : Nat) (Option.none : Option Jvm.ClassFile.FieldType)) ∈ lw_all := lw_g (lw_at lw_m6 84 rfl) rfl
theorem q1355 : (Jvm.Cond.instanceMethod ({ cls := "VineRowsModel", name := "graft", desc := "(II)I" } : Jvm.MethodName)) ∈ lw_all := lw_g (lw_at lw_m6 86 rfl) rfl
theorem q1356 : (Jvm.Cond.selects "VineRowsModel" ({ cls := "VineRowsModel", name := "graft", desc := "(II)I" } : Jvm.MethodName) ({ cls := "VineRowsModel", name := "graft", desc := "(II)I" } : Jvm.MethodName)) ∈ lw_all := lw_g (lw_at lw_m6 87 rfl) rfl
theorem q1357 : (Jvm.Cond.code ({ cls := "VineRowsModel", name := "graft", desc := "(II)I" } : Jvm.MethodName) prog_15_method_31_code (4 : Nat) (Option.some Jvm.ClassFile.FieldType.int)) ∈ lw_all := lw_g (lw_at lw_m6 88 rfl) rfl
theorem q1358 : (Jvm.Cond.methodLink "VineRowsModel" (152 : Nat) ({ cls := "VineRowsModel", name := "areTwo", desc := "(II)Z" } : Jvm.MethodName)) ∈ lw_all := lw_g (lw_at lw_m6 89 rfl) rfl
theorem q1359 : (Jvm.Cond.privateMethod ({ cls := "VineRowsModel", name := "areTwo", desc := "(II)Z" } : Jvm.MethodName)) ∈ lw_tbl := lw_at lw_m6 90 rfl
theorem q1360 : (Jvm.Cond.instanceMethod ({ cls := "VineRowsModel", name := "areTwo", desc := "(II)Z" } : Jvm.MethodName)) ∈ lw_all := lw_g (lw_at lw_m6 91 rfl) rfl
theorem q1361 : (Jvm.Cond.code ({ cls := "VineRowsModel", name := "areTwo", desc := "(II)Z" } : Jvm.MethodName) prog_15_method_10_code (3 : Nat) (Option.some Jvm.ClassFile.FieldType.boolean)) ∈ lw_all := lw_g (lw_at lw_m6 92 rfl) rfl
theorem q1362 : (Jvm.Cond.methodLink "VineRowsModel" (155 : Nat) ({ cls := "VineRowsModel", name := "unjoin", desc := "(II)V" } : Jvm.MethodName)) ∈ lw_all := lw_g (lw_at lw_m6 93 rfl) rfl
theorem q1363 : (Jvm.Cond.privateMethod ({ cls := "VineRowsModel", name := "unjoin", desc := "(II)V" } : Jvm.MethodName)) ∈ lw_tbl := lw_at lw_m6 94 rfl
theorem q1364 : (Jvm.Cond.instanceMethod ({ cls := "VineRowsModel", name := "unjoin", desc := "(II)V" } : Jvm.MethodName)) ∈ lw_all := lw_g (lw_at lw_m6 95 rfl) rfl
theorem q1365 : (Jvm.Cond.code ({ cls := "VineRowsModel", name := "unjoin", desc := "(II)V" } : Jvm.MethodName) prog_15_method_19_code (3 : Nat) (Option.none : Option Jvm.ClassFile.FieldType)) ∈ lw_all := lw_g (lw_at lw_m6 96 rfl) rfl
theorem q1367 : (Jvm.Cond.instanceMethod ({ cls := "VineRowsModel", name := "day", desc := "(IIIII)I" } : Jvm.MethodName)) ∈ lw_all := lw_g (lw_at lw_m6 98 rfl) rfl
theorem q1368 : (Jvm.Cond.selects "VineRowsModel" ({ cls := "VineRowsModel", name := "day", desc := "(IIIII)I" } : Jvm.MethodName) ({ cls := "VineRowsModel", name := "day", desc := "(IIIII)I" } : Jvm.MethodName)) ∈ lw_all := lw_g (lw_at lw_m6 99 rfl) rfl
theorem q1369 : (Jvm.Cond.code ({ cls := "VineRowsModel", name := "day", desc := "(IIIII)I" } : Jvm.MethodName) prog_15_method_35_code (11 : Nat) (Option.some Jvm.ClassFile.FieldType.int)) ∈ lw_all := lw_g (lw_at lw_m6 100 rfl) rfl
theorem q1370 : (Jvm.Cond.methodLink "VineRowsModel" (161 : Nat) ({ cls := "VineRowsModel", name := "refusesPair", desc := "(II)I" } : Jvm.MethodName)) ∈ lw_all := lw_g (lw_at lw_m6 101 rfl) rfl
theorem q1371 : (Jvm.Cond.privateMethod ({ cls := "VineRowsModel", name := "refusesPair", desc := "(II)I" } : Jvm.MethodName)) ∈ lw_tbl := lw_at lw_m6 102 rfl
theorem q1372 : (Jvm.Cond.instanceMethod ({ cls := "VineRowsModel", name := "refusesPair", desc := "(II)I" } : Jvm.MethodName)) ∈ lw_all := lw_g (lw_at lw_m6 103 rfl) rfl
theorem q1373 : (Jvm.Cond.code ({ cls := "VineRowsModel", name := "refusesPair", desc := "(II)I" } : Jvm.MethodName) prog_15_method_34_code (4 : Nat) (Option.some Jvm.ClassFile.FieldType.int)) ∈ lw_all := lw_g (lw_at lw_m6 104 rfl) rfl
theorem q1374 : (Jvm.Cond.methodLink "VineRowsModel" (165 : Nat) ({ cls := "VineRowsModel", name := "goDay", desc := "(II)I" } : Jvm.MethodName)) ∈ lw_all := lw_g (lw_at lw_m6 105 rfl) rfl
theorem q1375 : (Jvm.Cond.privateMethod ({ cls := "VineRowsModel", name := "goDay", desc := "(II)I" } : Jvm.MethodName)) ∈ lw_tbl := lw_at lw_m6 106 rfl
theorem q1376 : (Jvm.Cond.instanceMethod ({ cls := "VineRowsModel", name := "goDay", desc := "(II)I" } : Jvm.MethodName)) ∈ lw_all := lw_g (lw_at lw_m6 107 rfl) rfl
theorem q1377 : (Jvm.Cond.code ({ cls := "VineRowsModel", name := "goDay", desc := "(II)I" } : Jvm.MethodName) prog_15_method_33_code (4 : Nat) (Option.some Jvm.ClassFile.FieldType.int)) ∈ lw_all := lw_g (lw_at lw_m6 108 rfl) rfl
theorem q1378 : (Jvm.Cond.methodLink "VineRowsModel" (158 : Nat) ({ cls := "VineRowsModel", name := "does", desc := "(II)Z" } : Jvm.MethodName)) ∈ lw_all := lw_g (lw_at lw_m6 109 rfl) rfl
theorem q1379 : (Jvm.Cond.privateMethod ({ cls := "VineRowsModel", name := "does", desc := "(II)Z" } : Jvm.MethodName)) ∈ lw_tbl := lw_at lw_m6 110 rfl
theorem q1380 : (Jvm.Cond.instanceMethod ({ cls := "VineRowsModel", name := "does", desc := "(II)Z" } : Jvm.MethodName)) ∈ lw_all := lw_g (lw_at lw_m6 111 rfl) rfl
theorem q1381 : (Jvm.Cond.code ({ cls := "VineRowsModel", name := "does", desc := "(II)Z" } : Jvm.MethodName) prog_15_method_32_code (3 : Nat) (Option.some Jvm.ClassFile.FieldType.boolean)) ∈ lw_all := lw_g (lw_at lw_m6 112 rfl) rfl
theorem q1382 : (Jvm.Cond.methodLink "VineRowsModel" (168 : Nat) ({ cls := "VineRowsModel", name := "tellDay", desc := "(I)I" } : Jvm.MethodName)) ∈ lw_all := lw_g (lw_at lw_m6 113 rfl) rfl
theorem q1383 : (Jvm.Cond.privateMethod ({ cls := "VineRowsModel", name := "tellDay", desc := "(I)I" } : Jvm.MethodName)) ∈ lw_tbl := lw_at lw_m6 114 rfl
theorem q1384 : (Jvm.Cond.instanceMethod ({ cls := "VineRowsModel", name := "tellDay", desc := "(I)I" } : Jvm.MethodName)) ∈ lw_all := lw_g (lw_at lw_m6 115 rfl) rfl
theorem q1385 : (Jvm.Cond.code ({ cls := "VineRowsModel", name := "tellDay", desc := "(I)I" } : Jvm.MethodName) prog_15_method_36_code (2 : Nat) (Option.some Jvm.ClassFile.FieldType.int)) ∈ lw_all := lw_g (lw_at lw_m6 116 rfl) rfl
theorem q1386 : (Jvm.Cond.methodLink "VineRowsModel" (171 : Nat) ({ cls := "VineRowsModel", name := "longest", desc := "()I" } : Jvm.MethodName)) ∈ lw_all := lw_g (lw_at lw_m6 117 rfl) rfl
theorem q1387 : (Jvm.Cond.privateMethod ({ cls := "VineRowsModel", name := "longest", desc := "()I" } : Jvm.MethodName)) ∈ lw_tbl := lw_at lw_m6 118 rfl
theorem q1388 : (Jvm.Cond.instanceMethod ({ cls := "VineRowsModel", name := "longest", desc := "()I" } : Jvm.MethodName)) ∈ lw_all := lw_g (lw_at lw_m6 119 rfl) rfl
theorem q1389 : (Jvm.Cond.code ({ cls := "VineRowsModel", name := "longest", desc := "()I" } : Jvm.MethodName) prog_15_method_26_code (3 : Nat) (Option.some Jvm.ClassFile.FieldType.int)) ∈ lw_all := lw_g (lw_at lw_m6 120 rfl) rfl
theorem q1390 : (Jvm.Cond.methodLink "VineRowsModel" (175 : Nat) ({ cls := "VineRowsModel", name := "numberOf", desc := "()I" } : Jvm.MethodName)) ∈ lw_all := lw_g (lw_at lw_m6 121 rfl) rfl
theorem q1391 : (Jvm.Cond.privateMethod ({ cls := "VineRowsModel", name := "numberOf", desc := "()I" } : Jvm.MethodName)) ∈ lw_tbl := lw_at lw_m6 122 rfl
theorem q1392 : (Jvm.Cond.instanceMethod ({ cls := "VineRowsModel", name := "numberOf", desc := "()I" } : Jvm.MethodName)) ∈ lw_all := lw_g (lw_at lw_m6 123 rfl) rfl
theorem q1393 : (Jvm.Cond.code ({ cls := "VineRowsModel", name := "numberOf", desc := "()I" } : Jvm.MethodName) prog_15_method_40_code (3 : Nat) (Option.some Jvm.ClassFile.FieldType.int)) ∈ lw_all := lw_g (lw_at lw_m6 124 rfl) rfl
theorem q1394 : (Jvm.Cond.methodLink "VineRowsModel" (178 : Nat) ({ cls := "VineRowsModel", name := "ends", desc := "()I" } : Jvm.MethodName)) ∈ lw_all := lw_g (lw_at lw_m6 125 rfl) rfl
theorem q1395 : (Jvm.Cond.privateMethod ({ cls := "VineRowsModel", name := "ends", desc := "()I" } : Jvm.MethodName)) ∈ lw_tbl := lw_at lw_m6 126 rfl
theorem q1396 : (Jvm.Cond.instanceMethod ({ cls := "VineRowsModel", name := "ends", desc := "()I" } : Jvm.MethodName)) ∈ lw_all := lw_g (lw_at lw_m6 127 rfl) rfl
theorem q1397 : (Jvm.Cond.code ({ cls := "VineRowsModel", name := "ends", desc := "()I" } : Jvm.MethodName) prog_15_method_23_code (3 : Nat) (Option.some Jvm.ClassFile.FieldType.int)) ∈ lw_all := lw_g (lw_at lw_m6 128 rfl) rfl
theorem q1398 : (Jvm.Cond.methodLink "VineRowsModel" (181 : Nat) ({ cls := "VineRowsModel", name := "worthOfSet", desc := "(I)I" } : Jvm.MethodName)) ∈ lw_all := lw_g (lw_at lw_m6 129 rfl) rfl
theorem q1399 : (Jvm.Cond.privateMethod ({ cls := "VineRowsModel", name := "worthOfSet", desc := "(I)I" } : Jvm.MethodName)) ∈ lw_tbl := lw_at lw_m6 130 rfl
theorem q1400 : (Jvm.Cond.instanceMethod ({ cls := "VineRowsModel", name := "worthOfSet", desc := "(I)I" } : Jvm.MethodName)) ∈ lw_all := lw_g (lw_at lw_m6 131 rfl) rfl
theorem q1401 : (Jvm.Cond.code ({ cls := "VineRowsModel", name := "worthOfSet", desc := "(I)I" } : Jvm.MethodName) prog_15_method_22_code (4 : Nat) (Option.some Jvm.ClassFile.FieldType.int)) ∈ lw_all := lw_g (lw_at lw_m6 132 rfl) rfl
theorem q1403 : (Jvm.Cond.instanceMethod ({ cls := "VineRowsModel", name := "far", desc := "(II)I" } : Jvm.MethodName)) ∈ lw_all := lw_g (lw_at lw_m6 134 rfl) rfl
theorem q1404 : (Jvm.Cond.selects "VineRowsModel" ({ cls := "VineRowsModel", name := "far", desc := "(II)I" } : Jvm.MethodName) ({ cls := "VineRowsModel", name := "far", desc := "(II)I" } : Jvm.MethodName)) ∈ lw_all := lw_g (lw_at lw_m6 135 rfl) rfl
theorem q1405 : (Jvm.Cond.code ({ cls := "VineRowsModel", name := "far", desc := "(II)I" } : Jvm.MethodName) prog_15_method_37_code (3 : Nat) (Option.some Jvm.ClassFile.FieldType.int)) ∈ lw_all := lw_g (lw_at lw_m6 136 rfl) rfl
theorem q1407 : (Jvm.Cond.instanceMethod ({ cls := "VineRowsModel", name := "way", desc := "(III)I" } : Jvm.MethodName)) ∈ lw_all := lw_g (lw_at lw_m6 138 rfl) rfl
theorem q1408 : (Jvm.Cond.selects "VineRowsModel" ({ cls := "VineRowsModel", name := "way", desc := "(III)I" } : Jvm.MethodName) ({ cls := "VineRowsModel", name := "way", desc := "(III)I" } : Jvm.MethodName)) ∈ lw_all := lw_g (lw_at lw_m6 139 rfl) rfl
theorem q1409 : (Jvm.Cond.code ({ cls := "VineRowsModel", name := "way", desc := "(III)I" } : Jvm.MethodName) prog_15_method_38_code (6 : Nat) (Option.some Jvm.ClassFile.FieldType.int)) ∈ lw_all := lw_g (lw_at lw_m6 140 rfl) rfl
theorem q1411 : (Jvm.Cond.instanceMethod ({ cls := "VineRowsModel", name := "middle", desc := "(I)I" } : Jvm.MethodName)) ∈ lw_all := lw_g (lw_at lw_m6 142 rfl) rfl
theorem q1412 : (Jvm.Cond.selects "VineRowsModel" ({ cls := "VineRowsModel", name := "middle", desc := "(I)I" } : Jvm.MethodName) ({ cls := "VineRowsModel", name := "middle", desc := "(I)I" } : Jvm.MethodName)) ∈ lw_all := lw_g (lw_at lw_m6 143 rfl) rfl
theorem q1413 : (Jvm.Cond.code ({ cls := "VineRowsModel", name := "middle", desc := "(I)I" } : Jvm.MethodName) prog_15_method_39_code (6 : Nat) (Option.some Jvm.ClassFile.FieldType.int)) ∈ lw_all := lw_g (lw_at lw_m6 144 rfl) rfl
theorem q1415 : (Jvm.Cond.instanceMethod ({ cls := "VineRowsModel", name := "number", desc := "()I" } : Jvm.MethodName)) ∈ lw_all := lw_g (lw_at lw_m6 146 rfl) rfl
theorem q1416 : (Jvm.Cond.selects "VineRowsModel" ({ cls := "VineRowsModel", name := "number", desc := "()I" } : Jvm.MethodName) ({ cls := "VineRowsModel", name := "number", desc := "()I" } : Jvm.MethodName)) ∈ lw_all := lw_g (lw_at lw_m6 147 rfl) rfl
theorem q1417 : (Jvm.Cond.code ({ cls := "VineRowsModel", name := "number", desc := "()I" } : Jvm.MethodName) prog_15_method_41_code (1 : Nat) (Option.some Jvm.ClassFile.FieldType.int)) ∈ lw_all := lw_g (lw_at lw_m6 148 rfl) rfl
theorem q1419 : (Jvm.Cond.instanceMethod ({ cls := "VineRowsModel", name := "alike", desc := "()I" } : Jvm.MethodName)) ∈ lw_all := lw_g (lw_at lw_m6 150 rfl) rfl
theorem q1420 : (Jvm.Cond.selects "VineRowsModel" ({ cls := "VineRowsModel", name := "alike", desc := "()I" } : Jvm.MethodName) ({ cls := "VineRowsModel", name := "alike", desc := "()I" } : Jvm.MethodName)) ∈ lw_all := lw_g (lw_at lw_m6 151 rfl) rfl
theorem q1421 : (Jvm.Cond.code ({ cls := "VineRowsModel", name := "alike", desc := "()I" } : Jvm.MethodName) prog_15_method_45_code (4 : Nat) (Option.some Jvm.ClassFile.FieldType.int)) ∈ lw_all := lw_g (lw_at lw_m6 152 rfl) rfl
theorem q1422 : (Jvm.Cond.methodLink "VineRowsModel" (184 : Nat) ({ cls := "VineRowsModel", name := "orders", desc := "()I" } : Jvm.MethodName)) ∈ lw_all := lw_g (lw_at lw_m6 153 rfl) rfl
theorem q1423 : (Jvm.Cond.privateMethod ({ cls := "VineRowsModel", name := "orders", desc := "()I" } : Jvm.MethodName)) ∈ lw_tbl := lw_at lw_m6 154 rfl
theorem q1424 : (Jvm.Cond.instanceMethod ({ cls := "VineRowsModel", name := "orders", desc := "()I" } : Jvm.MethodName)) ∈ lw_all := lw_g (lw_at lw_m6 155 rfl) rfl
theorem q1425 : (Jvm.Cond.code ({ cls := "VineRowsModel", name := "orders", desc := "()I" } : Jvm.MethodName) prog_15_method_42_code (3 : Nat) (Option.some Jvm.ClassFile.FieldType.int)) ∈ lw_all := lw_g (lw_at lw_m6 156 rfl) rfl
theorem q1426 : (Jvm.Cond.methodLink "VineRowsModel" (187 : Nat) ({ cls := "VineRowsModel", name := "findNames", desc := "(I)V" } : Jvm.MethodName)) ∈ lw_all := lw_g (lw_at lw_m6 157 rfl) rfl
theorem q1427 : (Jvm.Cond.privateMethod ({ cls := "VineRowsModel", name := "findNames", desc := "(I)V" } : Jvm.MethodName)) ∈ lw_tbl := lw_at lw_m6 158 rfl
theorem q1428 : (Jvm.Cond.instanceMethod ({ cls := "VineRowsModel", name := "findNames", desc := "(I)V" } : Jvm.MethodName)) ∈ lw_all := lw_g (lw_at lw_m6 159 rfl) rfl
theorem q1429 : (Jvm.Cond.code ({ cls := "VineRowsModel", name := "findNames", desc := "(I)V" } : Jvm.MethodName) prog_15_method_43_code (8 : Nat) (Option.none : Option Jvm.ClassFile.FieldType)) ∈ lw_all := lw_g (lw_at lw_m6 160 rfl) rfl
theorem q1430 : (Jvm.Cond.methodLink "VineRowsModel" (191 : Nat) ({ cls := "VineRowsModel", name := "isSame", desc := "()Z" } : Jvm.MethodName)) ∈ lw_all := lw_g (lw_at lw_m6 161 rfl) rfl
theorem q1431 : (Jvm.Cond.privateMethod ({ cls := "VineRowsModel", name := "isSame", desc := "()Z" } : Jvm.MethodName)) ∈ lw_tbl := lw_at lw_m6 162 rfl
theorem q1432 : (Jvm.Cond.instanceMethod ({ cls := "VineRowsModel", name := "isSame", desc := "()Z" } : Jvm.MethodName)) ∈ lw_all := lw_g (lw_at lw_m6 163 rfl) rfl
theorem q1433 : (Jvm.Cond.code ({ cls := "VineRowsModel", name := "isSame", desc := "()Z" } : Jvm.MethodName) prog_15_method_44_code (4 : Nat) (Option.some Jvm.ClassFile.FieldType.boolean)) ∈ lw_all := lw_g (lw_at lw_m6 164 rfl) rfl
theorem q1435 : (Jvm.Cond.instanceMethod ({ cls := "VineRowsModel", name := "pairs", desc := "()I" } : Jvm.MethodName)) ∈ lw_all := lw_g (lw_at lw_m6 166 rfl) rfl
theorem q1436 : (Jvm.Cond.selects "VineRowsModel" ({ cls := "VineRowsModel", name := "pairs", desc := "()I" } : Jvm.MethodName) ({ cls := "VineRowsModel", name := "pairs", desc := "()I" } : Jvm.MethodName)) ∈ lw_all := lw_g (lw_at lw_m6 167 rfl) rfl
theorem q1437 : (Jvm.Cond.code ({ cls := "VineRowsModel", name := "pairs", desc := "()I" } : Jvm.MethodName) prog_15_method_47_code (8 : Nat) (Option.some Jvm.ClassFile.FieldType.int)) ∈ lw_all := lw_g (lw_at lw_m6 168 rfl) rfl
theorem q1438 : (Jvm.Cond.methodLink "VineRowsModel" (195 : Nat) ({ cls := "VineRowsModel", name := "findTwigs", desc := "()I" } : Jvm.MethodName)) ∈ lw_all := lw_g (lw_at lw_m6 169 rfl) rfl
theorem q1439 : (Jvm.Cond.privateMethod ({ cls := "VineRowsModel", name := "findTwigs", desc := "()I" } : Jvm.MethodName)) ∈ lw_tbl := lw_at lw_m6 170 rfl
theorem q1440 : (Jvm.Cond.instanceMethod ({ cls := "VineRowsModel", name := "findTwigs", desc := "()I" } : Jvm.MethodName)) ∈ lw_all := lw_g (lw_at lw_m6 171 rfl) rfl
theorem q1441 : (Jvm.Cond.code ({ cls := "VineRowsModel", name := "findTwigs", desc := "()I" } : Jvm.MethodName) prog_15_method_46_code (4 : Nat) (Option.some Jvm.ClassFile.FieldType.int)) ∈ lw_all := lw_g (lw_at lw_m6 172 rfl) rfl
theorem q1443 : (Jvm.Cond.instanceMethod ({ cls := "VineRowsModel", name := "loners", desc := "(I)I" } : Jvm.MethodName)) ∈ lw_all := lw_g (lw_at lw_m6 174 rfl) rfl
theorem q1444 : (Jvm.Cond.selects "VineRowsModel" ({ cls := "VineRowsModel", name := "loners", desc := "(I)I" } : Jvm.MethodName) ({ cls := "VineRowsModel", name := "loners", desc := "(I)I" } : Jvm.MethodName)) ∈ lw_all := lw_g (lw_at lw_m6 175 rfl) rfl
theorem q1445 : (Jvm.Cond.code ({ cls := "VineRowsModel", name := "loners", desc := "(I)I" } : Jvm.MethodName) prog_15_method_48_code (7 : Nat) (Option.some Jvm.ClassFile.FieldType.int)) ∈ lw_all := lw_g (lw_at lw_m6 176 rfl) rfl
theorem q1447 : (Jvm.Cond.instanceMethod ({ cls := "VineRowsModel", name := "part", desc := "(II)I" } : Jvm.MethodName)) ∈ lw_all := lw_g (lw_at lw_m6 178 rfl) rfl
theorem q1448 : (Jvm.Cond.selects "VineRowsModel" ({ cls := "VineRowsModel", name := "part", desc := "(II)I" } : Jvm.MethodName) ({ cls := "VineRowsModel", name := "part", desc := "(II)I" } : Jvm.MethodName)) ∈ lw_all := lw_g (lw_at lw_m6 179 rfl) rfl
theorem q1449 : (Jvm.Cond.code ({ cls := "VineRowsModel", name := "part", desc := "(II)I" } : Jvm.MethodName) prog_15_method_49_code (5 : Nat) (Option.some Jvm.ClassFile.FieldType.int)) ∈ lw_all := lw_g (lw_at lw_m6 180 rfl) rfl
theorem q1451 : (Jvm.Cond.instanceMethod ({ cls := "VineRowsModel", name := "reading", desc := "(III)I" } : Jvm.MethodName)) ∈ lw_all := lw_g (lw_at lw_m6 182 rfl) rfl
theorem q1452 : (Jvm.Cond.selects "VineRowsModel" ({ cls := "VineRowsModel", name := "reading", desc := "(III)I" } : Jvm.MethodName) ({ cls := "VineRowsModel", name := "reading", desc := "(III)I" } : Jvm.MethodName)) ∈ lw_all := lw_g (lw_at lw_m6 183 rfl) rfl
theorem q1453 : (Jvm.Cond.code ({ cls := "VineRowsModel", name := "reading", desc := "(III)I" } : Jvm.MethodName) prog_15_method_50_code (4 : Nat) (Option.some Jvm.ClassFile.FieldType.int)) ∈ lw_all := lw_g (lw_at lw_m6 184 rfl) rfl
theorem q1455 : (Jvm.Cond.instanceMethod ({ cls := "VineRowsModel", name := "back", desc := "(I)I" } : Jvm.MethodName)) ∈ lw_all := lw_g (lw_at lw_m6 186 rfl) rfl
theorem q1456 : (Jvm.Cond.selects "VineRowsModel" ({ cls := "VineRowsModel", name := "back", desc := "(I)I" } : Jvm.MethodName) ({ cls := "VineRowsModel", name := "back", desc := "(I)I" } : Jvm.MethodName)) ∈ lw_all := lw_g (lw_at lw_m6 187 rfl) rfl
theorem q1457 : (Jvm.Cond.code ({ cls := "VineRowsModel", name := "back", desc := "(I)I" } : Jvm.MethodName) prog_15_method_51_code (2 : Nat) (Option.some Jvm.ClassFile.FieldType.int)) ∈ lw_all := lw_g (lw_at lw_m6 188 rfl) rfl
theorem q1459 : (Jvm.Cond.instanceMethod ({ cls := "VineRowsModel", name := "loadings", desc := "(I)I" } : Jvm.MethodName)) ∈ lw_all := lw_g (lw_at lw_m6 190 rfl) rfl
theorem q1460 : (Jvm.Cond.selects "VineRowsModel" ({ cls := "VineRowsModel", name := "loadings", desc := "(I)I" } : Jvm.MethodName) ({ cls := "VineRowsModel", name := "loadings", desc := "(I)I" } : Jvm.MethodName)) ∈ lw_all := lw_g (lw_at lw_m6 191 rfl) rfl
theorem q1461 : (Jvm.Cond.code ({ cls := "VineRowsModel", name := "loadings", desc := "(I)I" } : Jvm.MethodName) prog_15_method_54_code (5 : Nat) (Option.some Jvm.ClassFile.FieldType.int)) ∈ lw_all := lw_g (lw_at lw_m6 192 rfl) rfl
theorem q1462 : (Jvm.Cond.methodLink "VineRowsModel" (201 : Nat) ({ cls := "VineRowsModel", name := "areSo", desc := "()Z" } : Jvm.MethodName)) ∈ lw_all := lw_g (lw_at lw_m6 193 rfl) rfl
theorem q1463 : (Jvm.Cond.privateMethod ({ cls := "VineRowsModel", name := "areSo", desc := "()Z" } : Jvm.MethodName)) ∈ lw_tbl := lw_at lw_m6 194 rfl
theorem q1464 : (Jvm.Cond.instanceMethod ({ cls := "VineRowsModel", name := "areSo", desc := "()Z" } : Jvm.MethodName)) ∈ lw_all := lw_g (lw_at lw_m6 195 rfl) rfl
theorem q1465 : (Jvm.Cond.code ({ cls := "VineRowsModel", name := "areSo", desc := "()Z" } : Jvm.MethodName) prog_15_method_53_code (2 : Nat) (Option.some Jvm.ClassFile.FieldType.boolean)) ∈ lw_all := lw_g (lw_at lw_m6 196 rfl) rfl
theorem q1466 : (Jvm.Cond.methodLink "VineRowsModel" (198 : Nat) ({ cls := "VineRowsModel", name := "wayOf", desc := "(II)I" } : Jvm.MethodName)) ∈ lw_all := lw_g (lw_at lw_m6 197 rfl) rfl
theorem q1467 : (Jvm.Cond.privateMethod ({ cls := "VineRowsModel", name := "wayOf", desc := "(II)I" } : Jvm.MethodName)) ∈ lw_tbl := lw_at lw_m6 198 rfl
theorem q1468 : (Jvm.Cond.instanceMethod ({ cls := "VineRowsModel", name := "wayOf", desc := "(II)I" } : Jvm.MethodName)) ∈ lw_all := lw_g (lw_at lw_m6 199 rfl) rfl
theorem q1469 : (Jvm.Cond.code ({ cls := "VineRowsModel", name := "wayOf", desc := "(II)I" } : Jvm.MethodName) prog_15_method_52_code (6 : Nat) (Option.some Jvm.ClassFile.FieldType.int)) ∈ lw_all := lw_g (lw_at lw_m6 200 rfl) rfl
theorem q1471 : (Jvm.Cond.instanceMethod ({ cls := "VineRowsModel", name := "kinds", desc := "(I)I" } : Jvm.MethodName)) ∈ lw_all := lw_g (lw_at lw_m6 202 rfl) rfl
theorem q1472 : (Jvm.Cond.selects "VineRowsModel" ({ cls := "VineRowsModel", name := "kinds", desc := "(I)I" } : Jvm.MethodName) ({ cls := "VineRowsModel", name := "kinds", desc := "(I)I" } : Jvm.MethodName)) ∈ lw_all := lw_g (lw_at lw_m6 203 rfl) rfl
theorem q1473 : (Jvm.Cond.code ({ cls := "VineRowsModel", name := "kinds", desc := "(I)I" } : Jvm.MethodName) prog_15_method_55_code (5 : Nat) (Option.some Jvm.ClassFile.FieldType.int)) ∈ lw_all := lw_g (lw_at lw_m6 204 rfl) rfl
theorem q1475 : (Jvm.Cond.instanceMethod ({ cls := "VineRowsModel", name := "odds", desc := "(II)J" } : Jvm.MethodName)) ∈ lw_all := lw_g (lw_at lw_m6 206 rfl) rfl
theorem q1476 : (Jvm.Cond.selects "VineRowsModel" ({ cls := "VineRowsModel", name := "odds", desc := "(II)J" } : Jvm.MethodName) ({ cls := "VineRowsModel", name := "odds", desc := "(II)J" } : Jvm.MethodName)) ∈ lw_all := lw_g (lw_at lw_m6 207 rfl) rfl
theorem q1477 : (Jvm.Cond.code ({ cls := "VineRowsModel", name := "odds", desc := "(II)J" } : Jvm.MethodName) prog_15_method_57_code (7 : Nat) (Option.some Jvm.ClassFile.FieldType.long)) ∈ lw_all := lw_g (lw_at lw_m6 208 rfl) rfl
theorem q1478 : (Jvm.Cond.constantLong "VineRowsModel" (74 : Nat) (-9223372036854775808 : Int64)) ∈ lw_all := lw_g (lw_at lw_m6 209 rfl) rfl
theorem q1479 : (Jvm.Cond.methodLink "VineRowsModel" (204 : Nat) ({ cls := "VineRowsModel", name := "inLeastTerms", desc := "(JJI)J" } : Jvm.MethodName)) ∈ lw_all := lw_g (lw_at lw_m6 210 rfl) rfl
theorem q1480 : (Jvm.Cond.static ({ cls := "VineRowsModel", name := "inLeastTerms", desc := "(JJI)J" } : Jvm.MethodName)) ∈ lw_all := lw_g (lw_at lw_m6 211 rfl) rfl
theorem q1481 : (Jvm.Cond.code ({ cls := "VineRowsModel", name := "inLeastTerms", desc := "(JJI)J" } : Jvm.MethodName) prog_15_method_56_code (11 : Nat) (Option.some Jvm.ClassFile.FieldType.long)) ∈ lw_all := lw_g (lw_at lw_m6 212 rfl) rfl
theorem q1483 : (Jvm.Cond.instanceMethod ({ cls := "VineRowsModel", name := "sheet", desc := "(III)I" } : Jvm.MethodName)) ∈ lw_all := lw_g (lw_at lw_m6 214 rfl) rfl
theorem q1484 : (Jvm.Cond.selects "VineRowsModel" ({ cls := "VineRowsModel", name := "sheet", desc := "(III)I" } : Jvm.MethodName) ({ cls := "VineRowsModel", name := "sheet", desc := "(III)I" } : Jvm.MethodName)) ∈ lw_all := lw_g (lw_at lw_m6 215 rfl) rfl
theorem q1485 : (Jvm.Cond.code ({ cls := "VineRowsModel", name := "sheet", desc := "(III)I" } : Jvm.MethodName) prog_15_method_58_code (5 : Nat) (Option.some Jvm.ClassFile.FieldType.int)) ∈ lw_all := lw_g (lw_at lw_m6 216 rfl) rfl
theorem q1487 : (Jvm.Cond.instanceMethod ({ cls := "VineRowsModel", name := "lose", desc := "(I)I" } : Jvm.MethodName)) ∈ lw_all := lw_g (lw_at lw_m6 218 rfl) rfl
theorem q1488 : (Jvm.Cond.selects "VineRowsModel" ({ cls := "VineRowsModel", name := "lose", desc := "(I)I" } : Jvm.MethodName) ({ cls := "VineRowsModel", name := "lose", desc := "(I)I" } : Jvm.MethodName)) ∈ lw_all := lw_g (lw_at lw_m6 219 rfl) rfl
theorem q1489 : (Jvm.Cond.code ({ cls := "VineRowsModel", name := "lose", desc := "(I)I" } : Jvm.MethodName) prog_15_method_59_code (3 : Nat) (Option.some Jvm.ClassFile.FieldType.int)) ∈ lw_all := lw_g (lw_at lw_m6 220 rfl) rfl
theorem q1491 : (Jvm.Cond.instanceMethod ({ cls := "VineRowsModel", name := "put", desc := "(III)I" } : Jvm.MethodName)) ∈ lw_all := lw_g (lw_at lw_m6 222 rfl) rfl
theorem q1492 : (Jvm.Cond.selects "VineRowsModel" ({ cls := "VineRowsModel", name := "put", desc := "(III)I" } : Jvm.MethodName) ({ cls := "VineRowsModel", name := "put", desc := "(III)I" } : Jvm.MethodName)) ∈ lw_all := lw_g (lw_at lw_m6 223 rfl) rfl
theorem q1493 : (Jvm.Cond.code ({ cls := "VineRowsModel", name := "put", desc := "(III)I" } : Jvm.MethodName) prog_15_method_60_code (4 : Nat) (Option.some Jvm.ClassFile.FieldType.int)) ∈ lw_all := lw_g (lw_at lw_m6 224 rfl) rfl
theorem q1495 : (Jvm.Cond.instanceMethod ({ cls := "VineRowsModel", name := "cell", desc := "(III)J" } : Jvm.MethodName)) ∈ lw_all := lw_g (lw_at lw_m6 226 rfl) rfl
theorem q1496 : (Jvm.Cond.selects "VineRowsModel" ({ cls := "VineRowsModel", name := "cell", desc := "(III)J" } : Jvm.MethodName) ({ cls := "VineRowsModel", name := "cell", desc := "(III)J" } : Jvm.MethodName)) ∈ lw_all := lw_g (lw_at lw_m6 227 rfl) rfl
theorem q1497 : (Jvm.Cond.code ({ cls := "VineRowsModel", name := "cell", desc := "(III)J" } : Jvm.MethodName) prog_15_method_61_code (4 : Nat) (Option.some Jvm.ClassFile.FieldType.long)) ∈ lw_all := lw_g (lw_at lw_m6 228 rfl) rfl
theorem q1498 : (Jvm.Cond.methodLink "VineRowsModel" (208 : Nat) ({ cls := "VineRowsModel", name := "lost", desc := "(I)J" } : Jvm.MethodName)) ∈ lw_all := lw_g (lw_at lw_m6 229 rfl) rfl
theorem q1499 : (Jvm.Cond.privateMethod ({ cls := "VineRowsModel", name := "lost", desc := "(I)J" } : Jvm.MethodName)) ∈ lw_tbl := lw_at lw_m6 230 rfl
theorem q1500 : (Jvm.Cond.instanceMethod ({ cls := "VineRowsModel", name := "lost", desc := "(I)J" } : Jvm.MethodName)) ∈ lw_all := lw_g (lw_at lw_m6 231 rfl) rfl
theorem q1501 : (Jvm.Cond.code ({ cls := "VineRowsModel", name := "lost", desc := "(I)J" } : Jvm.MethodName) prog_15_method_4_code (2 : Nat) (Option.some Jvm.ClassFile.FieldType.long)) ∈ lw_all := lw_g (lw_at lw_m6 232 rfl) rfl
theorem q1503 : (Jvm.Cond.instanceMethod ({ cls := "VineRowsModel", name := "copy", desc := "(IIIII)I" } : Jvm.MethodName)) ∈ lw_all := lw_g (lw_at lw_m6 234 rfl) rfl
theorem q1504 : (Jvm.Cond.selects "VineRowsModel" ({ cls := "VineRowsModel", name := "copy", desc := "(IIIII)I" } : Jvm.MethodName) ({ cls := "VineRowsModel", name := "copy", desc := "(IIIII)I" } : Jvm.MethodName)) ∈ lw_all := lw_g (lw_at lw_m6 235 rfl) rfl
theorem q1505 : (Jvm.Cond.code ({ cls := "VineRowsModel", name := "copy", desc := "(IIIII)I" } : Jvm.MethodName) prog_15_method_62_code (10 : Nat) (Option.some Jvm.ClassFile.FieldType.int)) ∈ lw_all := lw_g (lw_at lw_m6 236 rfl) rfl
theorem q1507 : (Jvm.Cond.instanceMethod ({ cls := "VineRowsModel", name := "tell", desc := "(I)I" } : Jvm.MethodName)) ∈ lw_all := lw_g (lw_at lw_m6 238 rfl) rfl
theorem q1508 : (Jvm.Cond.selects "VineRowsModel" ({ cls := "VineRowsModel", name := "tell", desc := "(I)I" } : Jvm.MethodName) ({ cls := "VineRowsModel", name := "tell", desc := "(I)I" } : Jvm.MethodName)) ∈ lw_all := lw_g (lw_at lw_m6 239 rfl) rfl
theorem q1509 : (Jvm.Cond.code ({ cls := "VineRowsModel", name := "tell", desc := "(I)I" } : Jvm.MethodName) prog_15_method_64_code (3 : Nat) (Option.some Jvm.ClassFile.FieldType.int)) ∈ lw_all := lw_g (lw_at lw_m7 0 rfl) rfl
theorem q1510 : (Jvm.Cond.methodLink "VineRowsModel" (215 : Nat) ({ cls := "VineRowsModel", name := "begins", desc := "(I)V" } : Jvm.MethodName)) ∈ lw_all := lw_g (lw_at lw_m7 1 rfl) rfl
theorem q1511 : (Jvm.Cond.privateMethod ({ cls := "VineRowsModel", name := "begins", desc := "(I)V" } : Jvm.MethodName)) ∈ lw_tbl := lw_at lw_m7 2 rfl
theorem q1512 : (Jvm.Cond.instanceMethod ({ cls := "VineRowsModel", name := "begins", desc := "(I)V" } : Jvm.MethodName)) ∈ lw_all := lw_g (lw_at lw_m7 3 rfl) rfl
theorem q1513 : (Jvm.Cond.code ({ cls := "VineRowsModel", name := "begins", desc := "(I)V" } : Jvm.MethodName) prog_15_method_63_code (2 : Nat) (Option.none : Option Jvm.ClassFile.FieldType)) ∈ lw_all := lw_g (lw_at lw_m7 4 rfl) rfl
theorem q1515 : (Jvm.Cond.instanceMethod ({ cls := "VineRowsModel", name := "knock", desc := "(I)I" } : Jvm.MethodName)) ∈ lw_all := lw_g (lw_at lw_m7 6 rfl) rfl
theorem q1516 : (Jvm.Cond.selects "VineRowsModel" ({ cls := "VineRowsModel", name := "knock", desc := "(I)I" } : Jvm.MethodName) ({ cls := "VineRowsModel", name := "knock", desc := "(I)I" } : Jvm.MethodName)) ∈ lw_all := lw_g (lw_at lw_m7 7 rfl) rfl
theorem q1517 : (Jvm.Cond.code ({ cls := "VineRowsModel", name := "knock", desc := "(I)I" } : Jvm.MethodName) prog_15_method_65_code (2 : Nat) (Option.some Jvm.ClassFile.FieldType.int)) ∈ lw_all := lw_g (lw_at lw_m7 8 rfl) rfl
theorem q1519 : (Jvm.Cond.instanceMethod ({ cls := "VineRowsModel", name := "as", desc := "(II)I" } : Jvm.MethodName)) ∈ lw_all := lw_g (lw_at lw_m7 10 rfl) rfl
theorem q1520 : (Jvm.Cond.selects "VineRowsModel" ({ cls := "VineRowsModel", name := "as", desc := "(II)I" } : Jvm.MethodName) ({ cls := "VineRowsModel", name := "as", desc := "(II)I" } : Jvm.MethodName)) ∈ lw_all := lw_g (lw_at lw_m7 11 rfl) rfl
theorem q1521 : (Jvm.Cond.code ({ cls := "VineRowsModel", name := "as", desc := "(II)I" } : Jvm.MethodName) prog_15_method_66_code (3 : Nat) (Option.some Jvm.ClassFile.FieldType.int)) ∈ lw_all := lw_g (lw_at lw_m7 12 rfl) rfl
theorem q1523 : (Jvm.Cond.instanceMethod ({ cls := "VineRowsModel", name := "trace", desc := "()I" } : Jvm.MethodName)) ∈ lw_all := lw_g (lw_at lw_m7 14 rfl) rfl
theorem q1524 : (Jvm.Cond.selects "VineRowsModel" ({ cls := "VineRowsModel", name := "trace", desc := "()I" } : Jvm.MethodName) ({ cls := "VineRowsModel", name := "trace", desc := "()I" } : Jvm.MethodName)) ∈ lw_all := lw_g (lw_at lw_m7 15 rfl) rfl
theorem q1525 : (Jvm.Cond.code ({ cls := "VineRowsModel", name := "trace", desc := "()I" } : Jvm.MethodName) prog_15_method_67_code (1 : Nat) (Option.some Jvm.ClassFile.FieldType.int)) ∈ lw_all := lw_g (lw_at lw_m7 16 rfl) rfl
theorem q1527 : (Jvm.Cond.instanceMethod ({ cls := "VineRowsModel", name := "fault", desc := "()I" } : Jvm.MethodName)) ∈ lw_all := lw_g (lw_at lw_m7 18 rfl) rfl
theorem q1528 : (Jvm.Cond.selects "VineRowsModel" ({ cls := "VineRowsModel", name := "fault", desc := "()I" } : Jvm.MethodName) ({ cls := "VineRowsModel", name := "fault", desc := "()I" } : Jvm.MethodName)) ∈ lw_all := lw_g (lw_at lw_m7 19 rfl) rfl
theorem q1529 : (Jvm.Cond.code ({ cls := "VineRowsModel", name := "fault", desc := "()I" } : Jvm.MethodName) prog_15_method_68_code (1 : Nat) (Option.some Jvm.ClassFile.FieldType.int)) ∈ lw_all := lw_g (lw_at lw_m7 20 rfl) rfl
theorem q1531 : (Jvm.Cond.instanceMethod ({ cls := "VineRowsModel", name := "many", desc := "(I)I" } : Jvm.MethodName)) ∈ lw_all := lw_g (lw_at lw_m7 22 rfl) rfl
theorem q1532 : (Jvm.Cond.selects "VineRowsModel" ({ cls := "VineRowsModel", name := "many", desc := "(I)I" } : Jvm.MethodName) ({ cls := "VineRowsModel", name := "many", desc := "(I)I" } : Jvm.MethodName)) ∈ lw_all := lw_g (lw_at lw_m7 23 rfl) rfl
theorem q1533 : (Jvm.Cond.code ({ cls := "VineRowsModel", name := "many", desc := "(I)I" } : Jvm.MethodName) prog_15_method_69_code (2 : Nat) (Option.some Jvm.ClassFile.FieldType.int)) ∈ lw_all := lw_g (lw_at lw_m7 24 rfl) rfl
theorem q1549 : (Jvm.Cond.castable "VineRowsModel" "java/lang/Object") ∈ lw_tbl := lw_at lw_m7 40 rfl
theorem in_X1 : ∀ w ∈ wsX10, w ∈ lw_all := lw_in wsX10 [1217, 1219, 1221, 1223, 1225, 1227, 1229, 1231, 1233, 1235, 1237, 1239, 1241, 1243, 1245, 1247, 1249, 1251, 1253, 1255, 1257, 1259, 1261, 1263, 1265, 1267, 1269] (by decide +kernel) (by decide +kernel)
