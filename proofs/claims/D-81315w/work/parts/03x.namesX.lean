/-! VineRows -/
set_option maxRecDepth 100000
def RX0 : String := "VineRows"
def TX0 : u_T := fun k => match k with
  | 0 => ("VineRows", "trace", "I", false)
  | 1 => ("VineRows", "grafts", "I", false)
  | 2 => ("VineRows", "posts", "Ljava/util/List;", true)
  | 3 => ("VineRows", "rowNow", "[I", true)
  | 4 => ("VineRows", "readings", "Ljava/util/List;", true)
  | 5 => ("VineRows", "fault", "I", false)
  | _ => ("VineRows", "sheets", "[LVineRows$Sheet;", true)
def tyX0 : Nat → FieldType := fun k => match k with
  | 0 => .int
  | 1 => .int
  | 2 => .object "java/util/List"
  | 3 => .array .int
  | 4 => .object "java/util/List"
  | 5 => .int
  | _ => .array (.object "VineRows$Sheet")
abbrev wsX00 : List Cond := u_ws RX0 TX0 7
theorem nmX0 : ∀ a, a < 7 → ∀ b, b < 7 → a ≠ b → (TX0 a).2.1 ≠ (TX0 b).2.1 := by decide +kernel
theorem tyX0_ok : ∀ k, k < 7 → parseFieldDescriptor (TX0 k).2.2.1 = some (tyX0 k) := by decide +kernel
abbrev cX0_init : ByteArray := prog_1_method_3_code
def yX0_init : MethodName := ⟨RX0, "<init>", "()V"⟩
def dkwX0_init_1 : List UInt8 := [187, 0, 9, 89, 183, 0, 11, 181, 0, 22, 42, 7, 189, 0, 25, 181, 0, 27, 177]
abbrev dktX0_init_1 : List UInt8 := dkwX0_init_1 ++ []
def dkwX0_init_0 : List UInt8 := [42, 183, 0, 3, 42, 187, 0, 9, 89, 183, 0, 11, 181, 0, 12, 42, 16, 6, 188, 10, 181, 0, 18, 42]
abbrev dktX0_init_0 : List UInt8 := dkwX0_init_0 ++ dktX0_init_1
theorem dksX0_init_0 : cX0_init.data.toList.drop 0 = dktX0_init_0 := by decide +kernel
theorem dksX0_init_1 : cX0_init.data.toList.drop 24 = dktX0_init_1 := dk_seg dksX0_init_0 24 rfl rfl
theorem dX0_init_0 : decode cX0_init 0 = .ok (.aload_n 0, 1) := dk_42 (dk_at dksX0_init_0 0 rfl rfl)
theorem dX0_init_1 : decode cX0_init 1 = .ok (.invokespecial 3, 3) := dk_183 0 3 (dk_at dksX0_init_0 1 rfl rfl)
theorem dX0_init_4 : decode cX0_init 4 = .ok (.aload_n 0, 1) := dk_42 (dk_at dksX0_init_0 4 rfl rfl)
theorem dX0_init_5 : decode cX0_init 5 = .ok (.new 9, 3) := dk_187 0 9 (dk_at dksX0_init_0 5 rfl rfl)
theorem dX0_init_8 : decode cX0_init 8 = .ok (.dup, 1) := dk_89 (dk_at dksX0_init_0 8 rfl rfl)
theorem dX0_init_9 : decode cX0_init 9 = .ok (.invokespecial 11, 3) := dk_183 0 11 (dk_at dksX0_init_0 9 rfl rfl)
theorem dX0_init_12 : decode cX0_init 12 = .ok (.putfield 12, 3) := dk_181 0 12 (dk_at dksX0_init_0 12 rfl rfl)
theorem dX0_init_15 : decode cX0_init 15 = .ok (.aload_n 0, 1) := dk_42 (dk_at dksX0_init_0 15 rfl rfl)
theorem dX0_init_16 : decode cX0_init 16 = .ok (.bipush 6, 2) := dk_16 6 (dk_at dksX0_init_0 16 rfl rfl)
theorem dX0_init_18 : decode cX0_init 18 = .ok (.newarray .int, 2) := dk_188_10 (dk_at dksX0_init_0 18 rfl rfl)
theorem dX0_init_20 : decode cX0_init 20 = .ok (.putfield 18, 3) := dk_181 0 18 (dk_at dksX0_init_0 20 rfl rfl)
theorem dX0_init_23 : decode cX0_init 23 = .ok (.aload_n 0, 1) := dk_42 (dk_at dksX0_init_0 23 rfl rfl)
theorem dX0_init_24 : decode cX0_init 24 = .ok (.new 9, 3) := dk_187 0 9 (dk_at dksX0_init_1 0 rfl rfl)
theorem dX0_init_27 : decode cX0_init 27 = .ok (.dup, 1) := dk_89 (dk_at dksX0_init_1 3 rfl rfl)
theorem dX0_init_28 : decode cX0_init 28 = .ok (.invokespecial 11, 3) := dk_183 0 11 (dk_at dksX0_init_1 4 rfl rfl)
theorem dX0_init_31 : decode cX0_init 31 = .ok (.putfield 22, 3) := dk_181 0 22 (dk_at dksX0_init_1 7 rfl rfl)
theorem dX0_init_34 : decode cX0_init 34 = .ok (.aload_n 0, 1) := dk_42 (dk_at dksX0_init_1 10 rfl rfl)
theorem dX0_init_35 : decode cX0_init 35 = .ok (.iconst 4, 1) := dk_7 (dk_at dksX0_init_1 11 rfl rfl)
theorem dX0_init_36 : decode cX0_init 36 = .ok (.anewarray 25, 3) := dk_189 0 25 (dk_at dksX0_init_1 12 rfl rfl)
theorem dX0_init_39 : decode cX0_init 39 = .ok (.putfield 27, 3) := dk_181 0 27 (dk_at dksX0_init_1 15 rfl rfl)
theorem dX0_init_42 : decode cX0_init 42 = .ok (.return_, 1) := dk_177 (dk_at dksX0_init_1 18 rfl rfl)
abbrev cX0_ofPost : ByteArray := prog_1_method_18_code
def yX0_ofPost : MethodName := ⟨RX0, "ofPost", "(II)I"⟩
def dkwX0_ofPost_4 : List UInt8 := [180, 0, 74, 172, 42, 27, 182, 0, 139, 172, 16, 254, 172]
abbrev dktX0_ofPost_4 : List UInt8 := dkwX0_ofPost_4 ++ []
def dkwX0_ofPost_3 : List UInt8 := [45, 182, 0, 127, 172, 45, 180, 0, 130, 172, 45, 182, 0, 133, 172, 45, 180, 0, 74, 184, 0, 136, 172, 45]
abbrev dktX0_ofPost_3 : List UInt8 := dkwX0_ofPost_3 ++ dktX0_ofPost_4
def dkwX0_ofPost_2 : List UInt8 := [170, 0, 0, 0, 0, 0, 73, 0, 0, 0, 0, 0, 0, 0, 5, 0, 0, 0, 39, 0, 0, 0, 44, 0, 0, 0, 49, 0, 0, 0, 54, 0, 0, 0, 62, 0, 0, 0, 67]
abbrev dktX0_ofPost_2 : List UInt8 := dkwX0_ofPost_2 ++ dktX0_ofPost_3
def dkwX0_ofPost_1 : List UInt8 := [28]
abbrev dktX0_ofPost_1 : List UInt8 := dkwX0_ofPost_1 ++ dktX0_ofPost_2
def dkwX0_ofPost_0 : List UInt8 := [42, 27, 182, 0, 56, 153, 0, 5, 2, 172, 42, 180, 0, 12, 27, 185, 0, 70, 2, 0, 192, 0, 31, 78]
abbrev dktX0_ofPost_0 : List UInt8 := dkwX0_ofPost_0 ++ dktX0_ofPost_1
theorem dksX0_ofPost_0 : cX0_ofPost.data.toList.drop 0 = dktX0_ofPost_0 := by decide +kernel
theorem dksX0_ofPost_1 : cX0_ofPost.data.toList.drop 24 = dktX0_ofPost_1 := dk_seg dksX0_ofPost_0 24 rfl rfl
theorem dksX0_ofPost_2 : cX0_ofPost.data.toList.drop 25 = dktX0_ofPost_2 := dk_seg dksX0_ofPost_1 1 rfl rfl
theorem dksX0_ofPost_3 : cX0_ofPost.data.toList.drop 64 = dktX0_ofPost_3 := dk_seg dksX0_ofPost_2 39 rfl rfl
theorem dksX0_ofPost_4 : cX0_ofPost.data.toList.drop 88 = dktX0_ofPost_4 := dk_seg dksX0_ofPost_3 24 rfl rfl
theorem dX0_ofPost_0 : decode cX0_ofPost 0 = .ok (.aload_n 0, 1) := dk_42 (dk_at dksX0_ofPost_0 0 rfl rfl)
theorem dX0_ofPost_1 : decode cX0_ofPost 1 = .ok (.iload_n 1, 1) := dk_27 (dk_at dksX0_ofPost_0 1 rfl rfl)
theorem dX0_ofPost_2 : decode cX0_ofPost 2 = .ok (.invokevirtual 56, 3) := dk_182 0 56 (dk_at dksX0_ofPost_0 2 rfl rfl)
theorem dX0_ofPost_5 : decode cX0_ofPost 5 = .ok (.ifCond .eq 5, 3) := dk_153 0 5 (dk_at dksX0_ofPost_0 5 rfl rfl)
theorem dX0_ofPost_8 : decode cX0_ofPost 8 = .ok (.iconst (-1), 1) := dk_2 (dk_at dksX0_ofPost_0 8 rfl rfl)
theorem dX0_ofPost_9 : decode cX0_ofPost 9 = .ok (.ireturn, 1) := dk_172 (dk_at dksX0_ofPost_0 9 rfl rfl)
theorem dX0_ofPost_10 : decode cX0_ofPost 10 = .ok (.aload_n 0, 1) := dk_42 (dk_at dksX0_ofPost_0 10 rfl rfl)
theorem dX0_ofPost_11 : decode cX0_ofPost 11 = .ok (.getfield 12, 3) := dk_180 0 12 (dk_at dksX0_ofPost_0 11 rfl rfl)
theorem dX0_ofPost_14 : decode cX0_ofPost 14 = .ok (.iload_n 1, 1) := dk_27 (dk_at dksX0_ofPost_0 14 rfl rfl)
theorem dX0_ofPost_15 : decode cX0_ofPost 15 = .ok (.invokeinterface 70 2, 5) := by decide +kernel
theorem dX0_ofPost_20 : decode cX0_ofPost 20 = .ok (.checkcast 31, 3) := dk_192 0 31 (dk_at dksX0_ofPost_0 20 rfl rfl)
theorem dX0_ofPost_23 : decode cX0_ofPost 23 = .ok (.astore_n 3, 1) := dk_78 (dk_at dksX0_ofPost_0 23 rfl rfl)
theorem dX0_ofPost_24 : decode cX0_ofPost 24 = .ok (.iload_n 2, 1) := dk_28 (dk_at dksX0_ofPost_1 0 rfl rfl)
theorem dX0_ofPost_25 : decode cX0_ofPost 25 = .ok (.tableswitch 73 0 5 #[39, 44, 49, 54, 62, 67], 39) := by decide +kernel
theorem dX0_ofPost_64 : decode cX0_ofPost 64 = .ok (.aload_n 3, 1) := dk_45 (dk_at dksX0_ofPost_3 0 rfl rfl)
theorem dX0_ofPost_65 : decode cX0_ofPost 65 = .ok (.invokevirtual 127, 3) := dk_182 0 127 (dk_at dksX0_ofPost_3 1 rfl rfl)
theorem dX0_ofPost_68 : decode cX0_ofPost 68 = .ok (.ireturn, 1) := dk_172 (dk_at dksX0_ofPost_3 4 rfl rfl)
theorem dX0_ofPost_69 : decode cX0_ofPost 69 = .ok (.aload_n 3, 1) := dk_45 (dk_at dksX0_ofPost_3 5 rfl rfl)
theorem dX0_ofPost_70 : decode cX0_ofPost 70 = .ok (.getfield 130, 3) := dk_180 0 130 (dk_at dksX0_ofPost_3 6 rfl rfl)
theorem dX0_ofPost_73 : decode cX0_ofPost 73 = .ok (.ireturn, 1) := dk_172 (dk_at dksX0_ofPost_3 9 rfl rfl)
theorem dX0_ofPost_74 : decode cX0_ofPost 74 = .ok (.aload_n 3, 1) := dk_45 (dk_at dksX0_ofPost_3 10 rfl rfl)
theorem dX0_ofPost_75 : decode cX0_ofPost 75 = .ok (.invokevirtual 133, 3) := dk_182 0 133 (dk_at dksX0_ofPost_3 11 rfl rfl)
theorem dX0_ofPost_78 : decode cX0_ofPost 78 = .ok (.ireturn, 1) := dk_172 (dk_at dksX0_ofPost_3 14 rfl rfl)
theorem dX0_ofPost_79 : decode cX0_ofPost 79 = .ok (.aload_n 3, 1) := dk_45 (dk_at dksX0_ofPost_3 15 rfl rfl)
theorem dX0_ofPost_80 : decode cX0_ofPost 80 = .ok (.getfield 74, 3) := dk_180 0 74 (dk_at dksX0_ofPost_3 16 rfl rfl)
theorem dX0_ofPost_83 : decode cX0_ofPost 83 = .ok (.invokestatic 136, 3) := dk_184 0 136 (dk_at dksX0_ofPost_3 19 rfl rfl)
theorem dX0_ofPost_86 : decode cX0_ofPost 86 = .ok (.ireturn, 1) := dk_172 (dk_at dksX0_ofPost_3 22 rfl rfl)
theorem dX0_ofPost_87 : decode cX0_ofPost 87 = .ok (.aload_n 3, 1) := dk_45 (dk_at dksX0_ofPost_3 23 rfl rfl)
theorem dX0_ofPost_88 : decode cX0_ofPost 88 = .ok (.getfield 74, 3) := dk_180 0 74 (dk_at dksX0_ofPost_4 0 rfl rfl)
theorem dX0_ofPost_91 : decode cX0_ofPost 91 = .ok (.ireturn, 1) := dk_172 (dk_at dksX0_ofPost_4 3 rfl rfl)
theorem dX0_ofPost_92 : decode cX0_ofPost 92 = .ok (.aload_n 0, 1) := dk_42 (dk_at dksX0_ofPost_4 4 rfl rfl)
theorem dX0_ofPost_93 : decode cX0_ofPost 93 = .ok (.iload_n 1, 1) := dk_27 (dk_at dksX0_ofPost_4 5 rfl rfl)
theorem dX0_ofPost_94 : decode cX0_ofPost 94 = .ok (.invokevirtual 139, 3) := dk_182 0 139 (dk_at dksX0_ofPost_4 6 rfl rfl)
theorem dX0_ofPost_97 : decode cX0_ofPost 97 = .ok (.ireturn, 1) := dk_172 (dk_at dksX0_ofPost_4 9 rfl rfl)
theorem dX0_ofPost_98 : decode cX0_ofPost 98 = .ok (.bipush (-2), 2) := dk_16 254 (dk_at dksX0_ofPost_4 10 rfl rfl)
theorem dX0_ofPost_100 : decode cX0_ofPost 100 = .ok (.ireturn, 1) := dk_172 (dk_at dksX0_ofPost_4 12 rfl rfl)
abbrev cX0_noPost : ByteArray := prog_1_method_6_code
def yX0_noPost : MethodName := ⟨RX0, "noPost", "(I)Z"⟩
def dkwX0_noPost_1 : List UInt8 := [167, 0, 4, 3, 172]
abbrev dktX0_noPost_1 : List UInt8 := dkwX0_noPost_1 ++ []
def dkwX0_noPost_0 : List UInt8 := [27, 133, 9, 42, 180, 0, 12, 185, 0, 48, 1, 0, 4, 100, 133, 184, 0, 52, 154, 0, 7, 4]
abbrev dktX0_noPost_0 : List UInt8 := dkwX0_noPost_0 ++ dktX0_noPost_1
theorem dksX0_noPost_0 : cX0_noPost.data.toList.drop 0 = dktX0_noPost_0 := by decide +kernel
theorem dksX0_noPost_1 : cX0_noPost.data.toList.drop 22 = dktX0_noPost_1 := dk_seg dksX0_noPost_0 22 rfl rfl
theorem dX0_noPost_0 : decode cX0_noPost 0 = .ok (.iload_n 1, 1) := dk_27 (dk_at dksX0_noPost_0 0 rfl rfl)
theorem dX0_noPost_1 : decode cX0_noPost 1 = .ok (.i2l, 1) := dk_133 (dk_at dksX0_noPost_0 1 rfl rfl)
theorem dX0_noPost_2 : decode cX0_noPost 2 = .ok (.lconst 0, 1) := dk_9 (dk_at dksX0_noPost_0 2 rfl rfl)
theorem dX0_noPost_3 : decode cX0_noPost 3 = .ok (.aload_n 0, 1) := dk_42 (dk_at dksX0_noPost_0 3 rfl rfl)
theorem dX0_noPost_4 : decode cX0_noPost 4 = .ok (.getfield 12, 3) := dk_180 0 12 (dk_at dksX0_noPost_0 4 rfl rfl)
theorem dX0_noPost_7 : decode cX0_noPost 7 = .ok (.invokeinterface 48 1, 5) := by decide +kernel
theorem dX0_noPost_12 : decode cX0_noPost 12 = .ok (.iconst 1, 1) := dk_4 (dk_at dksX0_noPost_0 12 rfl rfl)
theorem dX0_noPost_13 : decode cX0_noPost 13 = .ok (.isub, 1) := dk_100 (dk_at dksX0_noPost_0 13 rfl rfl)
theorem dX0_noPost_14 : decode cX0_noPost 14 = .ok (.i2l, 1) := dk_133 (dk_at dksX0_noPost_0 14 rfl rfl)
theorem dX0_noPost_15 : decode cX0_noPost 15 = .ok (.invokestatic 52, 3) := dk_184 0 52 (dk_at dksX0_noPost_0 15 rfl rfl)
theorem dX0_noPost_18 : decode cX0_noPost 18 = .ok (.ifCond .ne 7, 3) := dk_154 0 7 (dk_at dksX0_noPost_0 18 rfl rfl)
theorem dX0_noPost_21 : decode cX0_noPost 21 = .ok (.iconst 1, 1) := dk_4 (dk_at dksX0_noPost_0 21 rfl rfl)
theorem dX0_noPost_22 : decode cX0_noPost 22 = .ok (.goto 4, 3) := dk_167 0 4 (dk_at dksX0_noPost_1 0 rfl rfl)
theorem dX0_noPost_25 : decode cX0_noPost 25 = .ok (.iconst 0, 1) := dk_3 (dk_at dksX0_noPost_1 3 rfl rfl)
theorem dX0_noPost_26 : decode cX0_noPost 26 = .ok (.ireturn, 1) := dk_172 (dk_at dksX0_noPost_1 4 rfl rfl)
abbrev cX0_in : ByteArray := prog_1_method_1_code
def yX0_in : MethodName := ⟨RX0, "in", "(JJJ)Z"⟩
def dkwX0_in_0 : List UInt8 := [30, 32, 148, 155, 0, 14, 30, 22, 4, 148, 157, 0, 7, 4, 167, 0, 4, 3, 172]
abbrev dktX0_in_0 : List UInt8 := dkwX0_in_0 ++ []
theorem dksX0_in_0 : cX0_in.data.toList.drop 0 = dktX0_in_0 := by decide +kernel
theorem dX0_in_0 : decode cX0_in 0 = .ok (.lload_n 0, 1) := dk_30 (dk_at dksX0_in_0 0 rfl rfl)
theorem dX0_in_1 : decode cX0_in 1 = .ok (.lload_n 2, 1) := dk_32 (dk_at dksX0_in_0 1 rfl rfl)
theorem dX0_in_2 : decode cX0_in 2 = .ok (.lcmp, 1) := dk_148 (dk_at dksX0_in_0 2 rfl rfl)
theorem dX0_in_3 : decode cX0_in 3 = .ok (.ifCond .lt 14, 3) := dk_155 0 14 (dk_at dksX0_in_0 3 rfl rfl)
theorem dX0_in_6 : decode cX0_in 6 = .ok (.lload_n 0, 1) := dk_30 (dk_at dksX0_in_0 6 rfl rfl)
theorem dX0_in_7 : decode cX0_in 7 = .ok (.lload 4, 2) := dk_22 4 (dk_at dksX0_in_0 7 rfl rfl)
theorem dX0_in_9 : decode cX0_in 9 = .ok (.lcmp, 1) := dk_148 (dk_at dksX0_in_0 9 rfl rfl)
theorem dX0_in_10 : decode cX0_in 10 = .ok (.ifCond .gt 7, 3) := dk_157 0 7 (dk_at dksX0_in_0 10 rfl rfl)
theorem dX0_in_13 : decode cX0_in 13 = .ok (.iconst 1, 1) := dk_4 (dk_at dksX0_in_0 13 rfl rfl)
theorem dX0_in_14 : decode cX0_in 14 = .ok (.goto 4, 3) := dk_167 0 4 (dk_at dksX0_in_0 14 rfl rfl)
theorem dX0_in_17 : decode cX0_in 17 = .ok (.iconst 0, 1) := dk_3 (dk_at dksX0_in_0 17 rfl rfl)
theorem dX0_in_18 : decode cX0_in 18 = .ok (.ireturn, 1) := dk_172 (dk_at dksX0_in_0 18 rfl rfl)
abbrev cX0_farthest : ByteArray := prog_1_method_16_code
def yX0_farthest : MethodName := ⟨RX0, "farthest", "(I)I"⟩
def dkwX0_farthest_1 : List UInt8 := [182, 0, 117, 184, 0, 121, 61, 132, 3, 1, 167, 255, 227, 28, 172]
abbrev dktX0_farthest_1 : List UInt8 := dkwX0_farthest_1 ++ []
def dkwX0_farthest_0 : List UInt8 := [3, 61, 3, 62, 29, 42, 180, 0, 12, 185, 0, 48, 1, 0, 162, 0, 22, 28, 42, 27, 16, 247, 29]
abbrev dktX0_farthest_0 : List UInt8 := dkwX0_farthest_0 ++ dktX0_farthest_1
theorem dksX0_farthest_0 : cX0_farthest.data.toList.drop 0 = dktX0_farthest_0 := by decide +kernel
theorem dksX0_farthest_1 : cX0_farthest.data.toList.drop 23 = dktX0_farthest_1 := dk_seg dksX0_farthest_0 23 rfl rfl
theorem dX0_farthest_0 : decode cX0_farthest 0 = .ok (.iconst 0, 1) := dk_3 (dk_at dksX0_farthest_0 0 rfl rfl)
theorem dX0_farthest_1 : decode cX0_farthest 1 = .ok (.istore_n 2, 1) := dk_61 (dk_at dksX0_farthest_0 1 rfl rfl)
theorem dX0_farthest_2 : decode cX0_farthest 2 = .ok (.iconst 0, 1) := dk_3 (dk_at dksX0_farthest_0 2 rfl rfl)
theorem dX0_farthest_3 : decode cX0_farthest 3 = .ok (.istore_n 3, 1) := dk_62 (dk_at dksX0_farthest_0 3 rfl rfl)
theorem dX0_farthest_4 : decode cX0_farthest 4 = .ok (.iload_n 3, 1) := dk_29 (dk_at dksX0_farthest_0 4 rfl rfl)
theorem dX0_farthest_5 : decode cX0_farthest 5 = .ok (.aload_n 0, 1) := dk_42 (dk_at dksX0_farthest_0 5 rfl rfl)
theorem dX0_farthest_6 : decode cX0_farthest 6 = .ok (.getfield 12, 3) := dk_180 0 12 (dk_at dksX0_farthest_0 6 rfl rfl)
theorem dX0_farthest_9 : decode cX0_farthest 9 = .ok (.invokeinterface 48 1, 5) := by decide +kernel
theorem dX0_farthest_14 : decode cX0_farthest 14 = .ok (.if_icmp .ge 22, 3) := dk_162 0 22 (dk_at dksX0_farthest_0 14 rfl rfl)
theorem dX0_farthest_17 : decode cX0_farthest 17 = .ok (.iload_n 2, 1) := dk_28 (dk_at dksX0_farthest_0 17 rfl rfl)
theorem dX0_farthest_18 : decode cX0_farthest 18 = .ok (.aload_n 0, 1) := dk_42 (dk_at dksX0_farthest_0 18 rfl rfl)
theorem dX0_farthest_19 : decode cX0_farthest 19 = .ok (.iload_n 1, 1) := dk_27 (dk_at dksX0_farthest_0 19 rfl rfl)
theorem dX0_farthest_20 : decode cX0_farthest 20 = .ok (.bipush (-9), 2) := dk_16 247 (dk_at dksX0_farthest_0 20 rfl rfl)
theorem dX0_farthest_22 : decode cX0_farthest 22 = .ok (.iload_n 3, 1) := dk_29 (dk_at dksX0_farthest_0 22 rfl rfl)
theorem dX0_farthest_23 : decode cX0_farthest 23 = .ok (.invokevirtual 117, 3) := dk_182 0 117 (dk_at dksX0_farthest_1 0 rfl rfl)
theorem dX0_farthest_26 : decode cX0_farthest 26 = .ok (.invokestatic 121, 3) := dk_184 0 121 (dk_at dksX0_farthest_1 3 rfl rfl)
theorem dX0_farthest_29 : decode cX0_farthest 29 = .ok (.istore_n 2, 1) := dk_61 (dk_at dksX0_farthest_1 6 rfl rfl)
theorem dX0_farthest_30 : decode cX0_farthest 30 = .ok (.iinc 3 1, 3) := dk_132 3 1 (dk_at dksX0_farthest_1 7 rfl rfl)
theorem dX0_farthest_33 : decode cX0_farthest 33 = .ok (.goto (-29), 3) := dk_167 255 227 (dk_at dksX0_farthest_1 10 rfl rfl)
theorem dX0_farthest_36 : decode cX0_farthest 36 = .ok (.iload_n 2, 1) := dk_28 (dk_at dksX0_farthest_1 13 rfl rfl)
theorem dX0_farthest_37 : decode cX0_farthest 37 = .ok (.ireturn, 1) := dk_172 (dk_at dksX0_farthest_1 14 rfl rfl)
abbrev cX0_farFrom : ByteArray := prog_1_method_15_code
def yX0_farFrom : MethodName := ⟨RX0, "farFrom", "(III)I"⟩
def dkwX0_farFrom_3 : List UInt8 := [21, 4, 21, 4, 4, 100, 126, 54, 4, 167, 255, 204, 16, 247, 172]
abbrev dktX0_farFrom_3 : List UInt8 := dkwX0_farFrom_3 ++ []
def dkwX0_farFrom_2 : List UInt8 := [167, 0, 11, 42, 21, 5, 27, 29, 182, 0, 117, 54, 6, 21, 6, 155, 0, 8, 21, 6, 4, 96, 172]
abbrev dktX0_farFrom_2 : List UInt8 := dkwX0_farFrom_2 ++ dktX0_farFrom_3
def dkwX0_farFrom_1 : List UInt8 := [54, 4, 21, 4, 153, 0, 53, 21, 4, 184, 0, 78, 54, 5, 21, 5, 28, 160, 0, 8, 16, 247]
abbrev dktX0_farFrom_1 : List UInt8 := dkwX0_farFrom_1 ++ dktX0_farFrom_2
def dkwX0_farFrom_0 : List UInt8 := [27, 29, 160, 0, 5, 3, 172, 42, 180, 0, 12, 27, 185, 0, 70, 2, 0, 192, 0, 31, 180, 0, 74]
abbrev dktX0_farFrom_0 : List UInt8 := dkwX0_farFrom_0 ++ dktX0_farFrom_1
theorem dksX0_farFrom_0 : cX0_farFrom.data.toList.drop 0 = dktX0_farFrom_0 := by decide +kernel
theorem dksX0_farFrom_1 : cX0_farFrom.data.toList.drop 23 = dktX0_farFrom_1 := dk_seg dksX0_farFrom_0 23 rfl rfl
theorem dksX0_farFrom_2 : cX0_farFrom.data.toList.drop 45 = dktX0_farFrom_2 := dk_seg dksX0_farFrom_1 22 rfl rfl
theorem dksX0_farFrom_3 : cX0_farFrom.data.toList.drop 68 = dktX0_farFrom_3 := dk_seg dksX0_farFrom_2 23 rfl rfl
theorem dX0_farFrom_0 : decode cX0_farFrom 0 = .ok (.iload_n 1, 1) := dk_27 (dk_at dksX0_farFrom_0 0 rfl rfl)
theorem dX0_farFrom_1 : decode cX0_farFrom 1 = .ok (.iload_n 3, 1) := dk_29 (dk_at dksX0_farFrom_0 1 rfl rfl)
theorem dX0_farFrom_2 : decode cX0_farFrom 2 = .ok (.if_icmp .ne 5, 3) := dk_160 0 5 (dk_at dksX0_farFrom_0 2 rfl rfl)
theorem dX0_farFrom_5 : decode cX0_farFrom 5 = .ok (.iconst 0, 1) := dk_3 (dk_at dksX0_farFrom_0 5 rfl rfl)
theorem dX0_farFrom_6 : decode cX0_farFrom 6 = .ok (.ireturn, 1) := dk_172 (dk_at dksX0_farFrom_0 6 rfl rfl)
theorem dX0_farFrom_7 : decode cX0_farFrom 7 = .ok (.aload_n 0, 1) := dk_42 (dk_at dksX0_farFrom_0 7 rfl rfl)
theorem dX0_farFrom_8 : decode cX0_farFrom 8 = .ok (.getfield 12, 3) := dk_180 0 12 (dk_at dksX0_farFrom_0 8 rfl rfl)
theorem dX0_farFrom_11 : decode cX0_farFrom 11 = .ok (.iload_n 1, 1) := dk_27 (dk_at dksX0_farFrom_0 11 rfl rfl)
theorem dX0_farFrom_12 : decode cX0_farFrom 12 = .ok (.invokeinterface 70 2, 5) := by decide +kernel
theorem dX0_farFrom_17 : decode cX0_farFrom 17 = .ok (.checkcast 31, 3) := dk_192 0 31 (dk_at dksX0_farFrom_0 17 rfl rfl)
theorem dX0_farFrom_20 : decode cX0_farFrom 20 = .ok (.getfield 74, 3) := dk_180 0 74 (dk_at dksX0_farFrom_0 20 rfl rfl)
theorem dX0_farFrom_23 : decode cX0_farFrom 23 = .ok (.istore 4, 2) := dk_54 4 (dk_at dksX0_farFrom_1 0 rfl rfl)
theorem dX0_farFrom_25 : decode cX0_farFrom 25 = .ok (.iload 4, 2) := dk_21 4 (dk_at dksX0_farFrom_1 2 rfl rfl)
theorem dX0_farFrom_27 : decode cX0_farFrom 27 = .ok (.ifCond .eq 53, 3) := dk_153 0 53 (dk_at dksX0_farFrom_1 4 rfl rfl)
theorem dX0_farFrom_30 : decode cX0_farFrom 30 = .ok (.iload 4, 2) := dk_21 4 (dk_at dksX0_farFrom_1 7 rfl rfl)
theorem dX0_farFrom_32 : decode cX0_farFrom 32 = .ok (.invokestatic 78, 3) := dk_184 0 78 (dk_at dksX0_farFrom_1 9 rfl rfl)
theorem dX0_farFrom_35 : decode cX0_farFrom 35 = .ok (.istore 5, 2) := dk_54 5 (dk_at dksX0_farFrom_1 12 rfl rfl)
theorem dX0_farFrom_37 : decode cX0_farFrom 37 = .ok (.iload 5, 2) := dk_21 5 (dk_at dksX0_farFrom_1 14 rfl rfl)
theorem dX0_farFrom_39 : decode cX0_farFrom 39 = .ok (.iload_n 2, 1) := dk_28 (dk_at dksX0_farFrom_1 16 rfl rfl)
theorem dX0_farFrom_40 : decode cX0_farFrom 40 = .ok (.if_icmp .ne 8, 3) := dk_160 0 8 (dk_at dksX0_farFrom_1 17 rfl rfl)
theorem dX0_farFrom_43 : decode cX0_farFrom 43 = .ok (.bipush (-9), 2) := dk_16 247 (dk_at dksX0_farFrom_1 20 rfl rfl)
theorem dX0_farFrom_45 : decode cX0_farFrom 45 = .ok (.goto 11, 3) := dk_167 0 11 (dk_at dksX0_farFrom_2 0 rfl rfl)
theorem dX0_farFrom_48 : decode cX0_farFrom 48 = .ok (.aload_n 0, 1) := dk_42 (dk_at dksX0_farFrom_2 3 rfl rfl)
theorem dX0_farFrom_49 : decode cX0_farFrom 49 = .ok (.iload 5, 2) := dk_21 5 (dk_at dksX0_farFrom_2 4 rfl rfl)
theorem dX0_farFrom_51 : decode cX0_farFrom 51 = .ok (.iload_n 1, 1) := dk_27 (dk_at dksX0_farFrom_2 6 rfl rfl)
theorem dX0_farFrom_52 : decode cX0_farFrom 52 = .ok (.iload_n 3, 1) := dk_29 (dk_at dksX0_farFrom_2 7 rfl rfl)
theorem dX0_farFrom_53 : decode cX0_farFrom 53 = .ok (.invokevirtual 117, 3) := dk_182 0 117 (dk_at dksX0_farFrom_2 8 rfl rfl)
theorem dX0_farFrom_56 : decode cX0_farFrom 56 = .ok (.istore 6, 2) := dk_54 6 (dk_at dksX0_farFrom_2 11 rfl rfl)
theorem dX0_farFrom_58 : decode cX0_farFrom 58 = .ok (.iload 6, 2) := dk_21 6 (dk_at dksX0_farFrom_2 13 rfl rfl)
theorem dX0_farFrom_60 : decode cX0_farFrom 60 = .ok (.ifCond .lt 8, 3) := dk_155 0 8 (dk_at dksX0_farFrom_2 15 rfl rfl)
theorem dX0_farFrom_63 : decode cX0_farFrom 63 = .ok (.iload 6, 2) := dk_21 6 (dk_at dksX0_farFrom_2 18 rfl rfl)
theorem dX0_farFrom_65 : decode cX0_farFrom 65 = .ok (.iconst 1, 1) := dk_4 (dk_at dksX0_farFrom_2 20 rfl rfl)
theorem dX0_farFrom_66 : decode cX0_farFrom 66 = .ok (.iadd, 1) := dk_96 (dk_at dksX0_farFrom_2 21 rfl rfl)
theorem dX0_farFrom_67 : decode cX0_farFrom 67 = .ok (.ireturn, 1) := dk_172 (dk_at dksX0_farFrom_2 22 rfl rfl)
theorem dX0_farFrom_68 : decode cX0_farFrom 68 = .ok (.iload 4, 2) := dk_21 4 (dk_at dksX0_farFrom_3 0 rfl rfl)
theorem dX0_farFrom_70 : decode cX0_farFrom 70 = .ok (.iload 4, 2) := dk_21 4 (dk_at dksX0_farFrom_3 2 rfl rfl)
theorem dX0_farFrom_72 : decode cX0_farFrom 72 = .ok (.iconst 1, 1) := dk_4 (dk_at dksX0_farFrom_3 4 rfl rfl)
theorem dX0_farFrom_73 : decode cX0_farFrom 73 = .ok (.isub, 1) := dk_100 (dk_at dksX0_farFrom_3 5 rfl rfl)
theorem dX0_farFrom_74 : decode cX0_farFrom 74 = .ok (.iand, 1) := dk_126 (dk_at dksX0_farFrom_3 6 rfl rfl)
theorem dX0_farFrom_75 : decode cX0_farFrom 75 = .ok (.istore 4, 2) := dk_54 4 (dk_at dksX0_farFrom_3 7 rfl rfl)
theorem dX0_farFrom_77 : decode cX0_farFrom 77 = .ok (.goto (-52), 3) := dk_167 255 204 (dk_at dksX0_farFrom_3 9 rfl rfl)
theorem dX0_farFrom_80 : decode cX0_farFrom 80 = .ok (.bipush (-9), 2) := dk_16 247 (dk_at dksX0_farFrom_3 12 rfl rfl)
theorem dX0_farFrom_82 : decode cX0_farFrom 82 = .ok (.ireturn, 1) := dk_172 (dk_at dksX0_farFrom_3 14 rfl rfl)
abbrev cX0_least : ByteArray := prog_1_method_11_code
def yX0_least : MethodName := ⟨RX0, "least", "(I)I"⟩
theorem dX0_least_0 : decode cX0_least 0 = .ok (.iload_n 0, 1) := by decide +kernel
theorem dX0_least_1 : decode cX0_least 1 = .ok (.invokestatic 64, 3) := by decide +kernel
theorem dX0_least_4 : decode cX0_least 4 = .ok (.ireturn, 1) := by decide +kernel
abbrev cX0_load : ByteArray := prog_1_method_19_code
def yX0_load : MethodName := ⟨RX0, "load", "(II)I"⟩
def dkwX0_load_2 : List UInt8 := [185, 0, 70, 2, 0, 192, 0, 31, 28, 181, 0, 130, 29, 172]
abbrev dktX0_load_2 : List UInt8 := dkwX0_load_2 ++ []
def dkwX0_load_1 : List UInt8 := [172, 42, 180, 0, 12, 27, 185, 0, 70, 2, 0, 192, 0, 31, 180, 0, 130, 62, 42, 180, 0, 12, 27]
abbrev dktX0_load_1 : List UInt8 := dkwX0_load_1 ++ dktX0_load_2
def dkwX0_load_0 : List UInt8 := [42, 27, 182, 0, 56, 153, 0, 5, 2, 172, 28, 133, 9, 20, 0, 142, 184, 0, 52, 154, 0, 6, 16, 254]
abbrev dktX0_load_0 : List UInt8 := dkwX0_load_0 ++ dktX0_load_1
theorem dksX0_load_0 : cX0_load.data.toList.drop 0 = dktX0_load_0 := by decide +kernel
theorem dksX0_load_1 : cX0_load.data.toList.drop 24 = dktX0_load_1 := dk_seg dksX0_load_0 24 rfl rfl
theorem dksX0_load_2 : cX0_load.data.toList.drop 47 = dktX0_load_2 := dk_seg dksX0_load_1 23 rfl rfl
theorem dX0_load_0 : decode cX0_load 0 = .ok (.aload_n 0, 1) := dk_42 (dk_at dksX0_load_0 0 rfl rfl)
theorem dX0_load_1 : decode cX0_load 1 = .ok (.iload_n 1, 1) := dk_27 (dk_at dksX0_load_0 1 rfl rfl)
theorem dX0_load_2 : decode cX0_load 2 = .ok (.invokevirtual 56, 3) := dk_182 0 56 (dk_at dksX0_load_0 2 rfl rfl)
theorem dX0_load_5 : decode cX0_load 5 = .ok (.ifCond .eq 5, 3) := dk_153 0 5 (dk_at dksX0_load_0 5 rfl rfl)
theorem dX0_load_8 : decode cX0_load 8 = .ok (.iconst (-1), 1) := dk_2 (dk_at dksX0_load_0 8 rfl rfl)
theorem dX0_load_9 : decode cX0_load 9 = .ok (.ireturn, 1) := dk_172 (dk_at dksX0_load_0 9 rfl rfl)
theorem dX0_load_10 : decode cX0_load 10 = .ok (.iload_n 2, 1) := dk_28 (dk_at dksX0_load_0 10 rfl rfl)
theorem dX0_load_11 : decode cX0_load 11 = .ok (.i2l, 1) := dk_133 (dk_at dksX0_load_0 11 rfl rfl)
theorem dX0_load_12 : decode cX0_load 12 = .ok (.lconst 0, 1) := dk_9 (dk_at dksX0_load_0 12 rfl rfl)
theorem dX0_load_13 : decode cX0_load 13 = .ok (.ldc2_w 142, 3) := dk_20 0 142 (dk_at dksX0_load_0 13 rfl rfl)
theorem dX0_load_16 : decode cX0_load 16 = .ok (.invokestatic 52, 3) := dk_184 0 52 (dk_at dksX0_load_0 16 rfl rfl)
theorem dX0_load_19 : decode cX0_load 19 = .ok (.ifCond .ne 6, 3) := dk_154 0 6 (dk_at dksX0_load_0 19 rfl rfl)
theorem dX0_load_22 : decode cX0_load 22 = .ok (.bipush (-2), 2) := dk_16 254 (dk_at dksX0_load_0 22 rfl rfl)
theorem dX0_load_24 : decode cX0_load 24 = .ok (.ireturn, 1) := dk_172 (dk_at dksX0_load_1 0 rfl rfl)
theorem dX0_load_25 : decode cX0_load 25 = .ok (.aload_n 0, 1) := dk_42 (dk_at dksX0_load_1 1 rfl rfl)
theorem dX0_load_26 : decode cX0_load 26 = .ok (.getfield 12, 3) := dk_180 0 12 (dk_at dksX0_load_1 2 rfl rfl)
theorem dX0_load_29 : decode cX0_load 29 = .ok (.iload_n 1, 1) := dk_27 (dk_at dksX0_load_1 5 rfl rfl)
theorem dX0_load_30 : decode cX0_load 30 = .ok (.invokeinterface 70 2, 5) := by decide +kernel
theorem dX0_load_35 : decode cX0_load 35 = .ok (.checkcast 31, 3) := dk_192 0 31 (dk_at dksX0_load_1 11 rfl rfl)
theorem dX0_load_38 : decode cX0_load 38 = .ok (.getfield 130, 3) := dk_180 0 130 (dk_at dksX0_load_1 14 rfl rfl)
theorem dX0_load_41 : decode cX0_load 41 = .ok (.istore_n 3, 1) := dk_62 (dk_at dksX0_load_1 17 rfl rfl)
theorem dX0_load_42 : decode cX0_load 42 = .ok (.aload_n 0, 1) := dk_42 (dk_at dksX0_load_1 18 rfl rfl)
theorem dX0_load_43 : decode cX0_load 43 = .ok (.getfield 12, 3) := dk_180 0 12 (dk_at dksX0_load_1 19 rfl rfl)
theorem dX0_load_46 : decode cX0_load 46 = .ok (.iload_n 1, 1) := dk_27 (dk_at dksX0_load_1 22 rfl rfl)
theorem dX0_load_47 : decode cX0_load 47 = .ok (.invokeinterface 70 2, 5) := by decide +kernel
theorem dX0_load_52 : decode cX0_load 52 = .ok (.checkcast 31, 3) := dk_192 0 31 (dk_at dksX0_load_2 5 rfl rfl)
theorem dX0_load_55 : decode cX0_load 55 = .ok (.iload_n 2, 1) := dk_28 (dk_at dksX0_load_2 8 rfl rfl)
theorem dX0_load_56 : decode cX0_load 56 = .ok (.putfield 130, 3) := dk_181 0 130 (dk_at dksX0_load_2 9 rfl rfl)
theorem dX0_load_59 : decode cX0_load 59 = .ok (.iload_n 3, 1) := dk_29 (dk_at dksX0_load_2 12 rfl rfl)
theorem dX0_load_60 : decode cX0_load 60 = .ok (.ireturn, 1) := dk_172 (dk_at dksX0_load_2 13 rfl rfl)
abbrev cX0_row : ByteArray := prog_1_method_21_code
def yX0_row : MethodName := ⟨RX0, "row", "(I)I"⟩
def dkwX0_row_2 : List UInt8 := [27, 46, 167, 0, 5, 16, 247, 172]
abbrev dktX0_row_2 : List UInt8 := dkwX0_row_2 ++ []
def dkwX0_row_1 : List UInt8 := [172, 42, 182, 0, 153, 27, 42, 180, 0, 12, 185, 0, 48, 1, 0, 5, 100, 162, 0, 12, 42, 180, 0, 18]
abbrev dktX0_row_1 : List UInt8 := dkwX0_row_1 ++ dktX0_row_2
def dkwX0_row_0 : List UInt8 := [27, 133, 9, 20, 0, 148, 184, 0, 52, 154, 0, 6, 16, 254, 172, 42, 182, 0, 150, 153, 0, 6, 16, 253]
abbrev dktX0_row_0 : List UInt8 := dkwX0_row_0 ++ dktX0_row_1
theorem dksX0_row_0 : cX0_row.data.toList.drop 0 = dktX0_row_0 := by decide +kernel
theorem dksX0_row_1 : cX0_row.data.toList.drop 24 = dktX0_row_1 := dk_seg dksX0_row_0 24 rfl rfl
theorem dksX0_row_2 : cX0_row.data.toList.drop 48 = dktX0_row_2 := dk_seg dksX0_row_1 24 rfl rfl
theorem dX0_row_0 : decode cX0_row 0 = .ok (.iload_n 1, 1) := dk_27 (dk_at dksX0_row_0 0 rfl rfl)
theorem dX0_row_1 : decode cX0_row 1 = .ok (.i2l, 1) := dk_133 (dk_at dksX0_row_0 1 rfl rfl)
theorem dX0_row_2 : decode cX0_row 2 = .ok (.lconst 0, 1) := dk_9 (dk_at dksX0_row_0 2 rfl rfl)
theorem dX0_row_3 : decode cX0_row 3 = .ok (.ldc2_w 148, 3) := dk_20 0 148 (dk_at dksX0_row_0 3 rfl rfl)
theorem dX0_row_6 : decode cX0_row 6 = .ok (.invokestatic 52, 3) := dk_184 0 52 (dk_at dksX0_row_0 6 rfl rfl)
theorem dX0_row_9 : decode cX0_row 9 = .ok (.ifCond .ne 6, 3) := dk_154 0 6 (dk_at dksX0_row_0 9 rfl rfl)
theorem dX0_row_12 : decode cX0_row 12 = .ok (.bipush (-2), 2) := dk_16 254 (dk_at dksX0_row_0 12 rfl rfl)
theorem dX0_row_14 : decode cX0_row 14 = .ok (.ireturn, 1) := dk_172 (dk_at dksX0_row_0 14 rfl rfl)
theorem dX0_row_15 : decode cX0_row 15 = .ok (.aload_n 0, 1) := dk_42 (dk_at dksX0_row_0 15 rfl rfl)
theorem dX0_row_16 : decode cX0_row 16 = .ok (.invokevirtual 150, 3) := dk_182 0 150 (dk_at dksX0_row_0 16 rfl rfl)
theorem dX0_row_19 : decode cX0_row 19 = .ok (.ifCond .eq 6, 3) := dk_153 0 6 (dk_at dksX0_row_0 19 rfl rfl)
theorem dX0_row_22 : decode cX0_row 22 = .ok (.bipush (-3), 2) := dk_16 253 (dk_at dksX0_row_0 22 rfl rfl)
theorem dX0_row_24 : decode cX0_row 24 = .ok (.ireturn, 1) := dk_172 (dk_at dksX0_row_1 0 rfl rfl)
theorem dX0_row_25 : decode cX0_row 25 = .ok (.aload_n 0, 1) := dk_42 (dk_at dksX0_row_1 1 rfl rfl)
theorem dX0_row_26 : decode cX0_row 26 = .ok (.invokevirtual 153, 3) := dk_182 0 153 (dk_at dksX0_row_1 2 rfl rfl)
theorem dX0_row_29 : decode cX0_row 29 = .ok (.iload_n 1, 1) := dk_27 (dk_at dksX0_row_1 5 rfl rfl)
theorem dX0_row_30 : decode cX0_row 30 = .ok (.aload_n 0, 1) := dk_42 (dk_at dksX0_row_1 6 rfl rfl)
theorem dX0_row_31 : decode cX0_row 31 = .ok (.getfield 12, 3) := dk_180 0 12 (dk_at dksX0_row_1 7 rfl rfl)
theorem dX0_row_34 : decode cX0_row 34 = .ok (.invokeinterface 48 1, 5) := by decide +kernel
theorem dX0_row_39 : decode cX0_row 39 = .ok (.iconst 2, 1) := dk_5 (dk_at dksX0_row_1 15 rfl rfl)
theorem dX0_row_40 : decode cX0_row 40 = .ok (.isub, 1) := dk_100 (dk_at dksX0_row_1 16 rfl rfl)
theorem dX0_row_41 : decode cX0_row 41 = .ok (.if_icmp .ge 12, 3) := dk_162 0 12 (dk_at dksX0_row_1 17 rfl rfl)
theorem dX0_row_44 : decode cX0_row 44 = .ok (.aload_n 0, 1) := dk_42 (dk_at dksX0_row_1 20 rfl rfl)
theorem dX0_row_45 : decode cX0_row 45 = .ok (.getfield 18, 3) := dk_180 0 18 (dk_at dksX0_row_1 21 rfl rfl)
theorem dX0_row_48 : decode cX0_row 48 = .ok (.iload_n 1, 1) := dk_27 (dk_at dksX0_row_2 0 rfl rfl)
theorem dX0_row_49 : decode cX0_row 49 = .ok (.iaload, 1) := dk_46 (dk_at dksX0_row_2 1 rfl rfl)
theorem dX0_row_50 : decode cX0_row 50 = .ok (.goto 5, 3) := dk_167 0 5 (dk_at dksX0_row_2 2 rfl rfl)
theorem dX0_row_53 : decode cX0_row 53 = .ok (.bipush (-9), 2) := dk_16 247 (dk_at dksX0_row_2 5 rfl rfl)
theorem dX0_row_55 : decode cX0_row 55 = .ok (.ireturn, 1) := dk_172 (dk_at dksX0_row_2 7 rfl rfl)
abbrev cX0_noVine : ByteArray := prog_1_method_5_code
def yX0_noVine : MethodName := ⟨RX0, "noVine", "()Z"⟩
def dkwX0_noVine_0 : List UInt8 := [42, 180, 0, 12, 185, 0, 42, 1, 0, 172]
abbrev dktX0_noVine_0 : List UInt8 := dkwX0_noVine_0 ++ []
theorem dksX0_noVine_0 : cX0_noVine.data.toList.drop 0 = dktX0_noVine_0 := by decide +kernel
theorem dX0_noVine_0 : decode cX0_noVine 0 = .ok (.aload_n 0, 1) := dk_42 (dk_at dksX0_noVine_0 0 rfl rfl)
theorem dX0_noVine_1 : decode cX0_noVine 1 = .ok (.getfield 12, 3) := dk_180 0 12 (dk_at dksX0_noVine_0 1 rfl rfl)
theorem dX0_noVine_4 : decode cX0_noVine 4 = .ok (.invokeinterface 42 1, 5) := by decide +kernel
theorem dX0_noVine_9 : decode cX0_noVine 9 = .ok (.ireturn, 1) := dk_172 (dk_at dksX0_noVine_0 9 rfl rfl)
abbrev cX0_writes : ByteArray := prog_1_method_20_code
def yX0_writes : MethodName := ⟨RX0, "writes", "()V"⟩
def dkwX0_writes_4 : List UInt8 := [27, 126, 184, 0, 78, 79, 27, 4, 29, 120, 2, 130, 126, 60, 132, 2, 1, 167, 255, 162, 177]
abbrev dktX0_writes_4 : List UInt8 := dkwX0_writes_4 ++ []
def dkwX0_writes_3 : List UInt8 := [167, 255, 220, 42, 180, 0, 18, 28, 42, 180, 0, 12, 29, 185, 0, 70, 2, 0, 192, 0, 31, 180, 0, 74]
abbrev dktX0_writes_3 : List UInt8 := dkwX0_writes_3 ++ dktX0_writes_4
def dkwX0_writes_2 : List UInt8 := [29, 185, 0, 70, 2, 0, 192, 0, 31, 180, 0, 74, 27, 126, 184, 0, 136, 4, 159, 0, 9, 132, 3, 1]
abbrev dktX0_writes_2 : List UInt8 := dkwX0_writes_2 ++ dktX0_writes_3
def dkwX0_writes_1 : List UInt8 := [185, 0, 48, 1, 0, 5, 100, 162, 0, 85, 3, 62, 27, 29, 184, 0, 144, 153, 0, 28, 42, 180, 0, 12]
abbrev dktX0_writes_1 : List UInt8 := dkwX0_writes_1 ++ dktX0_writes_2
def dkwX0_writes_0 : List UInt8 := [4, 42, 180, 0, 12, 185, 0, 48, 1, 0, 120, 4, 100, 60, 3, 61, 28, 42, 180, 0, 12]
abbrev dktX0_writes_0 : List UInt8 := dkwX0_writes_0 ++ dktX0_writes_1
theorem dksX0_writes_0 : cX0_writes.data.toList.drop 0 = dktX0_writes_0 := by decide +kernel
theorem dksX0_writes_1 : cX0_writes.data.toList.drop 21 = dktX0_writes_1 := dk_seg dksX0_writes_0 21 rfl rfl
theorem dksX0_writes_2 : cX0_writes.data.toList.drop 45 = dktX0_writes_2 := dk_seg dksX0_writes_1 24 rfl rfl
theorem dksX0_writes_3 : cX0_writes.data.toList.drop 69 = dktX0_writes_3 := dk_seg dksX0_writes_2 24 rfl rfl
theorem dksX0_writes_4 : cX0_writes.data.toList.drop 93 = dktX0_writes_4 := dk_seg dksX0_writes_3 24 rfl rfl
theorem dX0_writes_0 : decode cX0_writes 0 = .ok (.iconst 1, 1) := dk_4 (dk_at dksX0_writes_0 0 rfl rfl)
theorem dX0_writes_1 : decode cX0_writes 1 = .ok (.aload_n 0, 1) := dk_42 (dk_at dksX0_writes_0 1 rfl rfl)
theorem dX0_writes_2 : decode cX0_writes 2 = .ok (.getfield 12, 3) := dk_180 0 12 (dk_at dksX0_writes_0 2 rfl rfl)
theorem dX0_writes_5 : decode cX0_writes 5 = .ok (.invokeinterface 48 1, 5) := by decide +kernel
theorem dX0_writes_10 : decode cX0_writes 10 = .ok (.ishl, 1) := dk_120 (dk_at dksX0_writes_0 10 rfl rfl)
theorem dX0_writes_11 : decode cX0_writes 11 = .ok (.iconst 1, 1) := dk_4 (dk_at dksX0_writes_0 11 rfl rfl)
theorem dX0_writes_12 : decode cX0_writes 12 = .ok (.isub, 1) := dk_100 (dk_at dksX0_writes_0 12 rfl rfl)
theorem dX0_writes_13 : decode cX0_writes 13 = .ok (.istore_n 1, 1) := dk_60 (dk_at dksX0_writes_0 13 rfl rfl)
theorem dX0_writes_14 : decode cX0_writes 14 = .ok (.iconst 0, 1) := dk_3 (dk_at dksX0_writes_0 14 rfl rfl)
theorem dX0_writes_15 : decode cX0_writes 15 = .ok (.istore_n 2, 1) := dk_61 (dk_at dksX0_writes_0 15 rfl rfl)
theorem dX0_writes_16 : decode cX0_writes 16 = .ok (.iload_n 2, 1) := dk_28 (dk_at dksX0_writes_0 16 rfl rfl)
theorem dX0_writes_17 : decode cX0_writes 17 = .ok (.aload_n 0, 1) := dk_42 (dk_at dksX0_writes_0 17 rfl rfl)
theorem dX0_writes_18 : decode cX0_writes 18 = .ok (.getfield 12, 3) := dk_180 0 12 (dk_at dksX0_writes_0 18 rfl rfl)
theorem dX0_writes_21 : decode cX0_writes 21 = .ok (.invokeinterface 48 1, 5) := by decide +kernel
theorem dX0_writes_26 : decode cX0_writes 26 = .ok (.iconst 2, 1) := dk_5 (dk_at dksX0_writes_1 5 rfl rfl)
theorem dX0_writes_27 : decode cX0_writes 27 = .ok (.isub, 1) := dk_100 (dk_at dksX0_writes_1 6 rfl rfl)
theorem dX0_writes_28 : decode cX0_writes 28 = .ok (.if_icmp .ge 85, 3) := dk_162 0 85 (dk_at dksX0_writes_1 7 rfl rfl)
theorem dX0_writes_31 : decode cX0_writes 31 = .ok (.iconst 0, 1) := dk_3 (dk_at dksX0_writes_1 10 rfl rfl)
theorem dX0_writes_32 : decode cX0_writes 32 = .ok (.istore_n 3, 1) := dk_62 (dk_at dksX0_writes_1 11 rfl rfl)
theorem dX0_writes_33 : decode cX0_writes 33 = .ok (.iload_n 1, 1) := dk_27 (dk_at dksX0_writes_1 12 rfl rfl)
theorem dX0_writes_34 : decode cX0_writes 34 = .ok (.iload_n 3, 1) := dk_29 (dk_at dksX0_writes_1 13 rfl rfl)
theorem dX0_writes_35 : decode cX0_writes 35 = .ok (.invokestatic 144, 3) := dk_184 0 144 (dk_at dksX0_writes_1 14 rfl rfl)
theorem dX0_writes_38 : decode cX0_writes 38 = .ok (.ifCond .eq 28, 3) := dk_153 0 28 (dk_at dksX0_writes_1 17 rfl rfl)
theorem dX0_writes_41 : decode cX0_writes 41 = .ok (.aload_n 0, 1) := dk_42 (dk_at dksX0_writes_1 20 rfl rfl)
theorem dX0_writes_42 : decode cX0_writes 42 = .ok (.getfield 12, 3) := dk_180 0 12 (dk_at dksX0_writes_1 21 rfl rfl)
theorem dX0_writes_45 : decode cX0_writes 45 = .ok (.iload_n 3, 1) := dk_29 (dk_at dksX0_writes_2 0 rfl rfl)
theorem dX0_writes_46 : decode cX0_writes 46 = .ok (.invokeinterface 70 2, 5) := by decide +kernel
theorem dX0_writes_51 : decode cX0_writes 51 = .ok (.checkcast 31, 3) := dk_192 0 31 (dk_at dksX0_writes_2 6 rfl rfl)
theorem dX0_writes_54 : decode cX0_writes 54 = .ok (.getfield 74, 3) := dk_180 0 74 (dk_at dksX0_writes_2 9 rfl rfl)
theorem dX0_writes_57 : decode cX0_writes 57 = .ok (.iload_n 1, 1) := dk_27 (dk_at dksX0_writes_2 12 rfl rfl)
theorem dX0_writes_58 : decode cX0_writes 58 = .ok (.iand, 1) := dk_126 (dk_at dksX0_writes_2 13 rfl rfl)
theorem dX0_writes_59 : decode cX0_writes 59 = .ok (.invokestatic 136, 3) := dk_184 0 136 (dk_at dksX0_writes_2 14 rfl rfl)
theorem dX0_writes_62 : decode cX0_writes 62 = .ok (.iconst 1, 1) := dk_4 (dk_at dksX0_writes_2 17 rfl rfl)
theorem dX0_writes_63 : decode cX0_writes 63 = .ok (.if_icmp .eq 9, 3) := dk_159 0 9 (dk_at dksX0_writes_2 18 rfl rfl)
theorem dX0_writes_66 : decode cX0_writes 66 = .ok (.iinc 3 1, 3) := dk_132 3 1 (dk_at dksX0_writes_2 21 rfl rfl)
theorem dX0_writes_69 : decode cX0_writes 69 = .ok (.goto (-36), 3) := dk_167 255 220 (dk_at dksX0_writes_3 0 rfl rfl)
theorem dX0_writes_72 : decode cX0_writes 72 = .ok (.aload_n 0, 1) := dk_42 (dk_at dksX0_writes_3 3 rfl rfl)
theorem dX0_writes_73 : decode cX0_writes 73 = .ok (.getfield 18, 3) := dk_180 0 18 (dk_at dksX0_writes_3 4 rfl rfl)
theorem dX0_writes_76 : decode cX0_writes 76 = .ok (.iload_n 2, 1) := dk_28 (dk_at dksX0_writes_3 7 rfl rfl)
theorem dX0_writes_77 : decode cX0_writes 77 = .ok (.aload_n 0, 1) := dk_42 (dk_at dksX0_writes_3 8 rfl rfl)
theorem dX0_writes_78 : decode cX0_writes 78 = .ok (.getfield 12, 3) := dk_180 0 12 (dk_at dksX0_writes_3 9 rfl rfl)
theorem dX0_writes_81 : decode cX0_writes 81 = .ok (.iload_n 3, 1) := dk_29 (dk_at dksX0_writes_3 12 rfl rfl)
theorem dX0_writes_82 : decode cX0_writes 82 = .ok (.invokeinterface 70 2, 5) := by decide +kernel
theorem dX0_writes_87 : decode cX0_writes 87 = .ok (.checkcast 31, 3) := dk_192 0 31 (dk_at dksX0_writes_3 18 rfl rfl)
theorem dX0_writes_90 : decode cX0_writes 90 = .ok (.getfield 74, 3) := dk_180 0 74 (dk_at dksX0_writes_3 21 rfl rfl)
theorem dX0_writes_93 : decode cX0_writes 93 = .ok (.iload_n 1, 1) := dk_27 (dk_at dksX0_writes_4 0 rfl rfl)
theorem dX0_writes_94 : decode cX0_writes 94 = .ok (.iand, 1) := dk_126 (dk_at dksX0_writes_4 1 rfl rfl)
theorem dX0_writes_95 : decode cX0_writes 95 = .ok (.invokestatic 78, 3) := dk_184 0 78 (dk_at dksX0_writes_4 2 rfl rfl)
theorem dX0_writes_98 : decode cX0_writes 98 = .ok (.iastore, 1) := dk_79 (dk_at dksX0_writes_4 5 rfl rfl)
theorem dX0_writes_99 : decode cX0_writes 99 = .ok (.iload_n 1, 1) := dk_27 (dk_at dksX0_writes_4 6 rfl rfl)
theorem dX0_writes_100 : decode cX0_writes 100 = .ok (.iconst 1, 1) := dk_4 (dk_at dksX0_writes_4 7 rfl rfl)
theorem dX0_writes_101 : decode cX0_writes 101 = .ok (.iload_n 3, 1) := dk_29 (dk_at dksX0_writes_4 8 rfl rfl)
theorem dX0_writes_102 : decode cX0_writes 102 = .ok (.ishl, 1) := dk_120 (dk_at dksX0_writes_4 9 rfl rfl)
theorem dX0_writes_103 : decode cX0_writes 103 = .ok (.iconst (-1), 1) := dk_2 (dk_at dksX0_writes_4 10 rfl rfl)
theorem dX0_writes_104 : decode cX0_writes 104 = .ok (.ixor, 1) := dk_130 (dk_at dksX0_writes_4 11 rfl rfl)
theorem dX0_writes_105 : decode cX0_writes 105 = .ok (.iand, 1) := dk_126 (dk_at dksX0_writes_4 12 rfl rfl)
theorem dX0_writes_106 : decode cX0_writes 106 = .ok (.istore_n 1, 1) := dk_60 (dk_at dksX0_writes_4 13 rfl rfl)
theorem dX0_writes_107 : decode cX0_writes 107 = .ok (.iinc 2 1, 3) := dk_132 2 1 (dk_at dksX0_writes_4 14 rfl rfl)
theorem dX0_writes_110 : decode cX0_writes 110 = .ok (.goto (-94), 3) := dk_167 255 162 (dk_at dksX0_writes_4 17 rfl rfl)
theorem dX0_writes_113 : decode cX0_writes 113 = .ok (.return_, 1) := dk_177 (dk_at dksX0_writes_4 20 rfl rfl)
abbrev cX0_isIn : ByteArray := prog_1_method_2_code
def yX0_isIn : MethodName := ⟨RX0, "isIn", "(II)Z"⟩
def dkwX0_isIn_0 : List UInt8 := [26, 27, 122, 4, 126, 4, 160, 0, 7, 4, 167, 0, 4, 3, 172]
abbrev dktX0_isIn_0 : List UInt8 := dkwX0_isIn_0 ++ []
theorem dksX0_isIn_0 : cX0_isIn.data.toList.drop 0 = dktX0_isIn_0 := by decide +kernel
theorem dX0_isIn_0 : decode cX0_isIn 0 = .ok (.iload_n 0, 1) := dk_26 (dk_at dksX0_isIn_0 0 rfl rfl)
theorem dX0_isIn_1 : decode cX0_isIn 1 = .ok (.iload_n 1, 1) := dk_27 (dk_at dksX0_isIn_0 1 rfl rfl)
theorem dX0_isIn_2 : decode cX0_isIn 2 = .ok (.ishr, 1) := dk_122 (dk_at dksX0_isIn_0 2 rfl rfl)
theorem dX0_isIn_3 : decode cX0_isIn 3 = .ok (.iconst 1, 1) := dk_4 (dk_at dksX0_isIn_0 3 rfl rfl)
theorem dX0_isIn_4 : decode cX0_isIn 4 = .ok (.iand, 1) := dk_126 (dk_at dksX0_isIn_0 4 rfl rfl)
theorem dX0_isIn_5 : decode cX0_isIn 5 = .ok (.iconst 1, 1) := dk_4 (dk_at dksX0_isIn_0 5 rfl rfl)
theorem dX0_isIn_6 : decode cX0_isIn 6 = .ok (.if_icmp .ne 7, 3) := dk_160 0 7 (dk_at dksX0_isIn_0 6 rfl rfl)
theorem dX0_isIn_9 : decode cX0_isIn 9 = .ok (.iconst 1, 1) := dk_4 (dk_at dksX0_isIn_0 9 rfl rfl)
theorem dX0_isIn_10 : decode cX0_isIn 10 = .ok (.goto 4, 3) := dk_167 0 4 (dk_at dksX0_isIn_0 10 rfl rfl)
theorem dX0_isIn_13 : decode cX0_isIn 13 = .ok (.iconst 0, 1) := dk_3 (dk_at dksX0_isIn_0 13 rfl rfl)
theorem dX0_isIn_14 : decode cX0_isIn 14 = .ok (.ireturn, 1) := dk_172 (dk_at dksX0_isIn_0 14 rfl rfl)
abbrev cX0_graft : ByteArray := prog_1_method_23_code
def yX0_graft : MethodName := ⟨RX0, "graft", "(II)I"⟩
def dkwX0_graft_2 : List UInt8 := [4, 96, 181, 0, 114, 29, 172]
abbrev dktX0_graft_2 : List UInt8 := dkwX0_graft_2 ++ []
def dkwX0_graft_1 : List UInt8 := [180, 0, 74, 184, 0, 78, 62, 42, 27, 28, 182, 0, 162, 154, 0, 6, 16, 253, 172, 42, 89, 180, 0, 114]
abbrev dktX0_graft_1 : List UInt8 := dkwX0_graft_1 ++ dktX0_graft_2
def dkwX0_graft_0 : List UInt8 := [42, 27, 28, 182, 0, 156, 153, 0, 5, 2, 172, 42, 180, 0, 12, 27, 185, 0, 70, 2, 0, 192, 0, 31]
abbrev dktX0_graft_0 : List UInt8 := dkwX0_graft_0 ++ dktX0_graft_1
theorem dksX0_graft_0 : cX0_graft.data.toList.drop 0 = dktX0_graft_0 := by decide +kernel
theorem dksX0_graft_1 : cX0_graft.data.toList.drop 24 = dktX0_graft_1 := dk_seg dksX0_graft_0 24 rfl rfl
theorem dksX0_graft_2 : cX0_graft.data.toList.drop 48 = dktX0_graft_2 := dk_seg dksX0_graft_1 24 rfl rfl
theorem dX0_graft_0 : decode cX0_graft 0 = .ok (.aload_n 0, 1) := dk_42 (dk_at dksX0_graft_0 0 rfl rfl)
theorem dX0_graft_1 : decode cX0_graft 1 = .ok (.iload_n 1, 1) := dk_27 (dk_at dksX0_graft_0 1 rfl rfl)
theorem dX0_graft_2 : decode cX0_graft 2 = .ok (.iload_n 2, 1) := dk_28 (dk_at dksX0_graft_0 2 rfl rfl)
theorem dX0_graft_3 : decode cX0_graft 3 = .ok (.invokevirtual 156, 3) := dk_182 0 156 (dk_at dksX0_graft_0 3 rfl rfl)
theorem dX0_graft_6 : decode cX0_graft 6 = .ok (.ifCond .eq 5, 3) := dk_153 0 5 (dk_at dksX0_graft_0 6 rfl rfl)
theorem dX0_graft_9 : decode cX0_graft 9 = .ok (.iconst (-1), 1) := dk_2 (dk_at dksX0_graft_0 9 rfl rfl)
theorem dX0_graft_10 : decode cX0_graft 10 = .ok (.ireturn, 1) := dk_172 (dk_at dksX0_graft_0 10 rfl rfl)
theorem dX0_graft_11 : decode cX0_graft 11 = .ok (.aload_n 0, 1) := dk_42 (dk_at dksX0_graft_0 11 rfl rfl)
theorem dX0_graft_12 : decode cX0_graft 12 = .ok (.getfield 12, 3) := dk_180 0 12 (dk_at dksX0_graft_0 12 rfl rfl)
theorem dX0_graft_15 : decode cX0_graft 15 = .ok (.iload_n 1, 1) := dk_27 (dk_at dksX0_graft_0 15 rfl rfl)
theorem dX0_graft_16 : decode cX0_graft 16 = .ok (.invokeinterface 70 2, 5) := by decide +kernel
theorem dX0_graft_21 : decode cX0_graft 21 = .ok (.checkcast 31, 3) := dk_192 0 31 (dk_at dksX0_graft_0 21 rfl rfl)
theorem dX0_graft_24 : decode cX0_graft 24 = .ok (.getfield 74, 3) := dk_180 0 74 (dk_at dksX0_graft_1 0 rfl rfl)
theorem dX0_graft_27 : decode cX0_graft 27 = .ok (.invokestatic 78, 3) := dk_184 0 78 (dk_at dksX0_graft_1 3 rfl rfl)
theorem dX0_graft_30 : decode cX0_graft 30 = .ok (.istore_n 3, 1) := dk_62 (dk_at dksX0_graft_1 6 rfl rfl)
theorem dX0_graft_31 : decode cX0_graft 31 = .ok (.aload_n 0, 1) := dk_42 (dk_at dksX0_graft_1 7 rfl rfl)
theorem dX0_graft_32 : decode cX0_graft 32 = .ok (.iload_n 1, 1) := dk_27 (dk_at dksX0_graft_1 8 rfl rfl)
theorem dX0_graft_33 : decode cX0_graft 33 = .ok (.iload_n 2, 1) := dk_28 (dk_at dksX0_graft_1 9 rfl rfl)
theorem dX0_graft_34 : decode cX0_graft 34 = .ok (.invokevirtual 162, 3) := dk_182 0 162 (dk_at dksX0_graft_1 10 rfl rfl)
theorem dX0_graft_37 : decode cX0_graft 37 = .ok (.ifCond .ne 6, 3) := dk_154 0 6 (dk_at dksX0_graft_1 13 rfl rfl)
theorem dX0_graft_40 : decode cX0_graft 40 = .ok (.bipush (-3), 2) := dk_16 253 (dk_at dksX0_graft_1 16 rfl rfl)
theorem dX0_graft_42 : decode cX0_graft 42 = .ok (.ireturn, 1) := dk_172 (dk_at dksX0_graft_1 18 rfl rfl)
theorem dX0_graft_43 : decode cX0_graft 43 = .ok (.aload_n 0, 1) := dk_42 (dk_at dksX0_graft_1 19 rfl rfl)
theorem dX0_graft_44 : decode cX0_graft 44 = .ok (.dup, 1) := dk_89 (dk_at dksX0_graft_1 20 rfl rfl)
theorem dX0_graft_45 : decode cX0_graft 45 = .ok (.getfield 114, 3) := dk_180 0 114 (dk_at dksX0_graft_1 21 rfl rfl)
theorem dX0_graft_48 : decode cX0_graft 48 = .ok (.iconst 1, 1) := dk_4 (dk_at dksX0_graft_2 0 rfl rfl)
theorem dX0_graft_49 : decode cX0_graft 49 = .ok (.iadd, 1) := dk_96 (dk_at dksX0_graft_2 1 rfl rfl)
theorem dX0_graft_50 : decode cX0_graft 50 = .ok (.putfield 114, 3) := dk_181 0 114 (dk_at dksX0_graft_2 2 rfl rfl)
theorem dX0_graft_53 : decode cX0_graft 53 = .ok (.iload_n 3, 1) := dk_29 (dk_at dksX0_graft_2 5 rfl rfl)
theorem dX0_graft_54 : decode cX0_graft 54 = .ok (.ireturn, 1) := dk_172 (dk_at dksX0_graft_2 6 rfl rfl)
abbrev cX0_noTwo : ByteArray := prog_1_method_7_code
def yX0_noTwo : MethodName := ⟨RX0, "noTwo", "(II)Z"⟩
def dkwX0_noTwo_1 : List UInt8 := [167, 0, 4, 3, 172]
abbrev dktX0_noTwo_1 : List UInt8 := dkwX0_noTwo_1 ++ []
def dkwX0_noTwo_0 : List UInt8 := [42, 27, 182, 0, 56, 154, 0, 16, 42, 28, 182, 0, 56, 154, 0, 8, 27, 28, 160, 0, 7, 4]
abbrev dktX0_noTwo_0 : List UInt8 := dkwX0_noTwo_0 ++ dktX0_noTwo_1
theorem dksX0_noTwo_0 : cX0_noTwo.data.toList.drop 0 = dktX0_noTwo_0 := by decide +kernel
theorem dksX0_noTwo_1 : cX0_noTwo.data.toList.drop 22 = dktX0_noTwo_1 := dk_seg dksX0_noTwo_0 22 rfl rfl
theorem dX0_noTwo_0 : decode cX0_noTwo 0 = .ok (.aload_n 0, 1) := dk_42 (dk_at dksX0_noTwo_0 0 rfl rfl)
theorem dX0_noTwo_1 : decode cX0_noTwo 1 = .ok (.iload_n 1, 1) := dk_27 (dk_at dksX0_noTwo_0 1 rfl rfl)
theorem dX0_noTwo_2 : decode cX0_noTwo 2 = .ok (.invokevirtual 56, 3) := dk_182 0 56 (dk_at dksX0_noTwo_0 2 rfl rfl)
theorem dX0_noTwo_5 : decode cX0_noTwo 5 = .ok (.ifCond .ne 16, 3) := dk_154 0 16 (dk_at dksX0_noTwo_0 5 rfl rfl)
theorem dX0_noTwo_8 : decode cX0_noTwo 8 = .ok (.aload_n 0, 1) := dk_42 (dk_at dksX0_noTwo_0 8 rfl rfl)
theorem dX0_noTwo_9 : decode cX0_noTwo 9 = .ok (.iload_n 2, 1) := dk_28 (dk_at dksX0_noTwo_0 9 rfl rfl)
theorem dX0_noTwo_10 : decode cX0_noTwo 10 = .ok (.invokevirtual 56, 3) := dk_182 0 56 (dk_at dksX0_noTwo_0 10 rfl rfl)
theorem dX0_noTwo_13 : decode cX0_noTwo 13 = .ok (.ifCond .ne 8, 3) := dk_154 0 8 (dk_at dksX0_noTwo_0 13 rfl rfl)
theorem dX0_noTwo_16 : decode cX0_noTwo 16 = .ok (.iload_n 1, 1) := dk_27 (dk_at dksX0_noTwo_0 16 rfl rfl)
theorem dX0_noTwo_17 : decode cX0_noTwo 17 = .ok (.iload_n 2, 1) := dk_28 (dk_at dksX0_noTwo_0 17 rfl rfl)
theorem dX0_noTwo_18 : decode cX0_noTwo 18 = .ok (.if_icmp .ne 7, 3) := dk_160 0 7 (dk_at dksX0_noTwo_0 18 rfl rfl)
theorem dX0_noTwo_21 : decode cX0_noTwo 21 = .ok (.iconst 1, 1) := dk_4 (dk_at dksX0_noTwo_0 21 rfl rfl)
theorem dX0_noTwo_22 : decode cX0_noTwo 22 = .ok (.goto 4, 3) := dk_167 0 4 (dk_at dksX0_noTwo_1 0 rfl rfl)
theorem dX0_noTwo_25 : decode cX0_noTwo 25 = .ok (.iconst 0, 1) := dk_3 (dk_at dksX0_noTwo_1 3 rfl rfl)
theorem dX0_noTwo_26 : decode cX0_noTwo 26 = .ok (.ireturn, 1) := dk_172 (dk_at dksX0_noTwo_1 4 rfl rfl)
abbrev cX0_grafted : ByteArray := prog_1_method_22_code
def yX0_grafted : MethodName := ⟨RX0, "grafted", "(II)Z"⟩
def dkwX0_grafted_4 : List UInt8 := [27, 28, 182, 0, 81, 4, 172]
abbrev dktX0_grafted_4 : List UInt8 := dkwX0_grafted_4 ++ []
def dkwX0_grafted_3 : List UInt8 := [2, 130, 126, 181, 0, 74, 42, 180, 0, 12, 27, 185, 0, 70, 2, 0, 192, 0, 31, 3, 181, 0, 74, 42]
abbrev dktX0_grafted_3 : List UInt8 := dkwX0_grafted_3 ++ dktX0_grafted_4
def dkwX0_grafted_2 : List UInt8 := [184, 0, 78, 62, 42, 180, 0, 12, 29, 185, 0, 70, 2, 0, 192, 0, 31, 89, 180, 0, 74, 4, 27, 120]
abbrev dktX0_grafted_2 : List UInt8 := dkwX0_grafted_2 ++ dktX0_grafted_3
def dkwX0_grafted_1 : List UInt8 := [182, 0, 159, 154, 0, 5, 3, 172, 42, 180, 0, 12, 27, 185, 0, 70, 2, 0, 192, 0, 31, 180, 0, 74]
abbrev dktX0_grafted_1 : List UInt8 := dkwX0_grafted_1 ++ dktX0_grafted_2
def dkwX0_grafted_0 : List UInt8 := [42, 27, 28, 182, 0, 156, 154, 0, 22, 42, 180, 0, 12, 27, 185, 0, 70, 2, 0, 192, 0, 31]
abbrev dktX0_grafted_0 : List UInt8 := dkwX0_grafted_0 ++ dktX0_grafted_1
theorem dksX0_grafted_0 : cX0_grafted.data.toList.drop 0 = dktX0_grafted_0 := by decide +kernel
theorem dksX0_grafted_1 : cX0_grafted.data.toList.drop 22 = dktX0_grafted_1 := dk_seg dksX0_grafted_0 22 rfl rfl
theorem dksX0_grafted_2 : cX0_grafted.data.toList.drop 46 = dktX0_grafted_2 := dk_seg dksX0_grafted_1 24 rfl rfl
theorem dksX0_grafted_3 : cX0_grafted.data.toList.drop 70 = dktX0_grafted_3 := dk_seg dksX0_grafted_2 24 rfl rfl
theorem dksX0_grafted_4 : cX0_grafted.data.toList.drop 94 = dktX0_grafted_4 := dk_seg dksX0_grafted_3 24 rfl rfl
theorem dX0_grafted_0 : decode cX0_grafted 0 = .ok (.aload_n 0, 1) := dk_42 (dk_at dksX0_grafted_0 0 rfl rfl)
theorem dX0_grafted_1 : decode cX0_grafted 1 = .ok (.iload_n 1, 1) := dk_27 (dk_at dksX0_grafted_0 1 rfl rfl)
theorem dX0_grafted_2 : decode cX0_grafted 2 = .ok (.iload_n 2, 1) := dk_28 (dk_at dksX0_grafted_0 2 rfl rfl)
theorem dX0_grafted_3 : decode cX0_grafted 3 = .ok (.invokevirtual 156, 3) := dk_182 0 156 (dk_at dksX0_grafted_0 3 rfl rfl)
theorem dX0_grafted_6 : decode cX0_grafted 6 = .ok (.ifCond .ne 22, 3) := dk_154 0 22 (dk_at dksX0_grafted_0 6 rfl rfl)
theorem dX0_grafted_9 : decode cX0_grafted 9 = .ok (.aload_n 0, 1) := dk_42 (dk_at dksX0_grafted_0 9 rfl rfl)
theorem dX0_grafted_10 : decode cX0_grafted 10 = .ok (.getfield 12, 3) := dk_180 0 12 (dk_at dksX0_grafted_0 10 rfl rfl)
theorem dX0_grafted_13 : decode cX0_grafted 13 = .ok (.iload_n 1, 1) := dk_27 (dk_at dksX0_grafted_0 13 rfl rfl)
theorem dX0_grafted_14 : decode cX0_grafted 14 = .ok (.invokeinterface 70 2, 5) := by decide +kernel
theorem dX0_grafted_19 : decode cX0_grafted 19 = .ok (.checkcast 31, 3) := dk_192 0 31 (dk_at dksX0_grafted_0 19 rfl rfl)
theorem dX0_grafted_22 : decode cX0_grafted 22 = .ok (.invokevirtual 159, 3) := dk_182 0 159 (dk_at dksX0_grafted_1 0 rfl rfl)
theorem dX0_grafted_25 : decode cX0_grafted 25 = .ok (.ifCond .ne 5, 3) := dk_154 0 5 (dk_at dksX0_grafted_1 3 rfl rfl)
theorem dX0_grafted_28 : decode cX0_grafted 28 = .ok (.iconst 0, 1) := dk_3 (dk_at dksX0_grafted_1 6 rfl rfl)
theorem dX0_grafted_29 : decode cX0_grafted 29 = .ok (.ireturn, 1) := dk_172 (dk_at dksX0_grafted_1 7 rfl rfl)
theorem dX0_grafted_30 : decode cX0_grafted 30 = .ok (.aload_n 0, 1) := dk_42 (dk_at dksX0_grafted_1 8 rfl rfl)
theorem dX0_grafted_31 : decode cX0_grafted 31 = .ok (.getfield 12, 3) := dk_180 0 12 (dk_at dksX0_grafted_1 9 rfl rfl)
theorem dX0_grafted_34 : decode cX0_grafted 34 = .ok (.iload_n 1, 1) := dk_27 (dk_at dksX0_grafted_1 12 rfl rfl)
theorem dX0_grafted_35 : decode cX0_grafted 35 = .ok (.invokeinterface 70 2, 5) := by decide +kernel
theorem dX0_grafted_40 : decode cX0_grafted 40 = .ok (.checkcast 31, 3) := dk_192 0 31 (dk_at dksX0_grafted_1 18 rfl rfl)
theorem dX0_grafted_43 : decode cX0_grafted 43 = .ok (.getfield 74, 3) := dk_180 0 74 (dk_at dksX0_grafted_1 21 rfl rfl)
theorem dX0_grafted_46 : decode cX0_grafted 46 = .ok (.invokestatic 78, 3) := dk_184 0 78 (dk_at dksX0_grafted_2 0 rfl rfl)
theorem dX0_grafted_49 : decode cX0_grafted 49 = .ok (.istore_n 3, 1) := dk_62 (dk_at dksX0_grafted_2 3 rfl rfl)
theorem dX0_grafted_50 : decode cX0_grafted 50 = .ok (.aload_n 0, 1) := dk_42 (dk_at dksX0_grafted_2 4 rfl rfl)
theorem dX0_grafted_51 : decode cX0_grafted 51 = .ok (.getfield 12, 3) := dk_180 0 12 (dk_at dksX0_grafted_2 5 rfl rfl)
theorem dX0_grafted_54 : decode cX0_grafted 54 = .ok (.iload_n 3, 1) := dk_29 (dk_at dksX0_grafted_2 8 rfl rfl)
theorem dX0_grafted_55 : decode cX0_grafted 55 = .ok (.invokeinterface 70 2, 5) := by decide +kernel
theorem dX0_grafted_60 : decode cX0_grafted 60 = .ok (.checkcast 31, 3) := dk_192 0 31 (dk_at dksX0_grafted_2 14 rfl rfl)
theorem dX0_grafted_63 : decode cX0_grafted 63 = .ok (.dup, 1) := dk_89 (dk_at dksX0_grafted_2 17 rfl rfl)
theorem dX0_grafted_64 : decode cX0_grafted 64 = .ok (.getfield 74, 3) := dk_180 0 74 (dk_at dksX0_grafted_2 18 rfl rfl)
theorem dX0_grafted_67 : decode cX0_grafted 67 = .ok (.iconst 1, 1) := dk_4 (dk_at dksX0_grafted_2 21 rfl rfl)
theorem dX0_grafted_68 : decode cX0_grafted 68 = .ok (.iload_n 1, 1) := dk_27 (dk_at dksX0_grafted_2 22 rfl rfl)
theorem dX0_grafted_69 : decode cX0_grafted 69 = .ok (.ishl, 1) := dk_120 (dk_at dksX0_grafted_2 23 rfl rfl)
theorem dX0_grafted_70 : decode cX0_grafted 70 = .ok (.iconst (-1), 1) := dk_2 (dk_at dksX0_grafted_3 0 rfl rfl)
theorem dX0_grafted_71 : decode cX0_grafted 71 = .ok (.ixor, 1) := dk_130 (dk_at dksX0_grafted_3 1 rfl rfl)
theorem dX0_grafted_72 : decode cX0_grafted 72 = .ok (.iand, 1) := dk_126 (dk_at dksX0_grafted_3 2 rfl rfl)
theorem dX0_grafted_73 : decode cX0_grafted 73 = .ok (.putfield 74, 3) := dk_181 0 74 (dk_at dksX0_grafted_3 3 rfl rfl)
theorem dX0_grafted_76 : decode cX0_grafted 76 = .ok (.aload_n 0, 1) := dk_42 (dk_at dksX0_grafted_3 6 rfl rfl)
theorem dX0_grafted_77 : decode cX0_grafted 77 = .ok (.getfield 12, 3) := dk_180 0 12 (dk_at dksX0_grafted_3 7 rfl rfl)
theorem dX0_grafted_80 : decode cX0_grafted 80 = .ok (.iload_n 1, 1) := dk_27 (dk_at dksX0_grafted_3 10 rfl rfl)
theorem dX0_grafted_81 : decode cX0_grafted 81 = .ok (.invokeinterface 70 2, 5) := by decide +kernel
theorem dX0_grafted_86 : decode cX0_grafted 86 = .ok (.checkcast 31, 3) := dk_192 0 31 (dk_at dksX0_grafted_3 16 rfl rfl)
theorem dX0_grafted_89 : decode cX0_grafted 89 = .ok (.iconst 0, 1) := dk_3 (dk_at dksX0_grafted_3 19 rfl rfl)
theorem dX0_grafted_90 : decode cX0_grafted 90 = .ok (.putfield 74, 3) := dk_181 0 74 (dk_at dksX0_grafted_3 20 rfl rfl)
theorem dX0_grafted_93 : decode cX0_grafted 93 = .ok (.aload_n 0, 1) := dk_42 (dk_at dksX0_grafted_3 23 rfl rfl)
theorem dX0_grafted_94 : decode cX0_grafted 94 = .ok (.iload_n 1, 1) := dk_27 (dk_at dksX0_grafted_4 0 rfl rfl)
theorem dX0_grafted_95 : decode cX0_grafted 95 = .ok (.iload_n 2, 1) := dk_28 (dk_at dksX0_grafted_4 1 rfl rfl)
theorem dX0_grafted_96 : decode cX0_grafted 96 = .ok (.invokevirtual 81, 3) := dk_182 0 81 (dk_at dksX0_grafted_4 2 rfl rfl)
theorem dX0_grafted_99 : decode cX0_grafted 99 = .ok (.iconst 1, 1) := dk_4 (dk_at dksX0_grafted_4 5 rfl rfl)
theorem dX0_grafted_100 : decode cX0_grafted 100 = .ok (.ireturn, 1) := dk_172 (dk_at dksX0_grafted_4 6 rfl rfl)
abbrev cX0_joined : ByteArray := prog_1_method_12_code
def yX0_joined : MethodName := ⟨RX0, "joined", "(II)V"⟩
def dkwX0_joined_2 : List UInt8 := [177]
abbrev dktX0_joined_2 : List UInt8 := dkwX0_joined_2 ++ []
def dkwX0_joined_1 : List UInt8 := [42, 180, 0, 12, 28, 185, 0, 70, 2, 0, 192, 0, 31, 89, 180, 0, 74, 4, 27, 120, 128, 181, 0, 74]
abbrev dktX0_joined_1 : List UInt8 := dkwX0_joined_1 ++ dktX0_joined_2
def dkwX0_joined_0 : List UInt8 := [42, 180, 0, 12, 27, 185, 0, 70, 2, 0, 192, 0, 31, 89, 180, 0, 74, 4, 28, 120, 128, 181, 0, 74]
abbrev dktX0_joined_0 : List UInt8 := dkwX0_joined_0 ++ dktX0_joined_1
theorem dksX0_joined_0 : cX0_joined.data.toList.drop 0 = dktX0_joined_0 := by decide +kernel
theorem dksX0_joined_1 : cX0_joined.data.toList.drop 24 = dktX0_joined_1 := dk_seg dksX0_joined_0 24 rfl rfl
theorem dksX0_joined_2 : cX0_joined.data.toList.drop 48 = dktX0_joined_2 := dk_seg dksX0_joined_1 24 rfl rfl
theorem dX0_joined_0 : decode cX0_joined 0 = .ok (.aload_n 0, 1) := dk_42 (dk_at dksX0_joined_0 0 rfl rfl)
theorem dX0_joined_1 : decode cX0_joined 1 = .ok (.getfield 12, 3) := dk_180 0 12 (dk_at dksX0_joined_0 1 rfl rfl)
theorem dX0_joined_4 : decode cX0_joined 4 = .ok (.iload_n 1, 1) := dk_27 (dk_at dksX0_joined_0 4 rfl rfl)
theorem dX0_joined_5 : decode cX0_joined 5 = .ok (.invokeinterface 70 2, 5) := by decide +kernel
theorem dX0_joined_10 : decode cX0_joined 10 = .ok (.checkcast 31, 3) := dk_192 0 31 (dk_at dksX0_joined_0 10 rfl rfl)
theorem dX0_joined_13 : decode cX0_joined 13 = .ok (.dup, 1) := dk_89 (dk_at dksX0_joined_0 13 rfl rfl)
theorem dX0_joined_14 : decode cX0_joined 14 = .ok (.getfield 74, 3) := dk_180 0 74 (dk_at dksX0_joined_0 14 rfl rfl)
theorem dX0_joined_17 : decode cX0_joined 17 = .ok (.iconst 1, 1) := dk_4 (dk_at dksX0_joined_0 17 rfl rfl)
theorem dX0_joined_18 : decode cX0_joined 18 = .ok (.iload_n 2, 1) := dk_28 (dk_at dksX0_joined_0 18 rfl rfl)
theorem dX0_joined_19 : decode cX0_joined 19 = .ok (.ishl, 1) := dk_120 (dk_at dksX0_joined_0 19 rfl rfl)
theorem dX0_joined_20 : decode cX0_joined 20 = .ok (.ior, 1) := dk_128 (dk_at dksX0_joined_0 20 rfl rfl)
theorem dX0_joined_21 : decode cX0_joined 21 = .ok (.putfield 74, 3) := dk_181 0 74 (dk_at dksX0_joined_0 21 rfl rfl)
theorem dX0_joined_24 : decode cX0_joined 24 = .ok (.aload_n 0, 1) := dk_42 (dk_at dksX0_joined_1 0 rfl rfl)
theorem dX0_joined_25 : decode cX0_joined 25 = .ok (.getfield 12, 3) := dk_180 0 12 (dk_at dksX0_joined_1 1 rfl rfl)
theorem dX0_joined_28 : decode cX0_joined 28 = .ok (.iload_n 2, 1) := dk_28 (dk_at dksX0_joined_1 4 rfl rfl)
theorem dX0_joined_29 : decode cX0_joined 29 = .ok (.invokeinterface 70 2, 5) := by decide +kernel
theorem dX0_joined_34 : decode cX0_joined 34 = .ok (.checkcast 31, 3) := dk_192 0 31 (dk_at dksX0_joined_1 10 rfl rfl)
theorem dX0_joined_37 : decode cX0_joined 37 = .ok (.dup, 1) := dk_89 (dk_at dksX0_joined_1 13 rfl rfl)
theorem dX0_joined_38 : decode cX0_joined 38 = .ok (.getfield 74, 3) := dk_180 0 74 (dk_at dksX0_joined_1 14 rfl rfl)
theorem dX0_joined_41 : decode cX0_joined 41 = .ok (.iconst 1, 1) := dk_4 (dk_at dksX0_joined_1 17 rfl rfl)
theorem dX0_joined_42 : decode cX0_joined 42 = .ok (.iload_n 1, 1) := dk_27 (dk_at dksX0_joined_1 18 rfl rfl)
theorem dX0_joined_43 : decode cX0_joined 43 = .ok (.ishl, 1) := dk_120 (dk_at dksX0_joined_1 19 rfl rfl)
theorem dX0_joined_44 : decode cX0_joined 44 = .ok (.ior, 1) := dk_128 (dk_at dksX0_joined_1 20 rfl rfl)
theorem dX0_joined_45 : decode cX0_joined 45 = .ok (.putfield 74, 3) := dk_181 0 74 (dk_at dksX0_joined_1 21 rfl rfl)
theorem dX0_joined_48 : decode cX0_joined 48 = .ok (.return_, 1) := dk_177 (dk_at dksX0_joined_2 0 rfl rfl)
abbrev cX0_far : ByteArray := prog_1_method_32_code
def yX0_far : MethodName := ⟨RX0, "far", "(II)I"⟩
def dkwX0_far_1 : List UInt8 := [28, 182, 0, 117, 172]
abbrev dktX0_far_1 : List UInt8 := dkwX0_far_1 ++ []
def dkwX0_far_0 : List UInt8 := [42, 27, 182, 0, 56, 154, 0, 11, 42, 28, 182, 0, 56, 153, 0, 7, 2, 167, 0, 11, 42, 27, 16, 247]
abbrev dktX0_far_0 : List UInt8 := dkwX0_far_0 ++ dktX0_far_1
theorem dksX0_far_0 : cX0_far.data.toList.drop 0 = dktX0_far_0 := by decide +kernel
theorem dksX0_far_1 : cX0_far.data.toList.drop 24 = dktX0_far_1 := dk_seg dksX0_far_0 24 rfl rfl
theorem dX0_far_0 : decode cX0_far 0 = .ok (.aload_n 0, 1) := dk_42 (dk_at dksX0_far_0 0 rfl rfl)
theorem dX0_far_1 : decode cX0_far 1 = .ok (.iload_n 1, 1) := dk_27 (dk_at dksX0_far_0 1 rfl rfl)
theorem dX0_far_2 : decode cX0_far 2 = .ok (.invokevirtual 56, 3) := dk_182 0 56 (dk_at dksX0_far_0 2 rfl rfl)
theorem dX0_far_5 : decode cX0_far 5 = .ok (.ifCond .ne 11, 3) := dk_154 0 11 (dk_at dksX0_far_0 5 rfl rfl)
theorem dX0_far_8 : decode cX0_far 8 = .ok (.aload_n 0, 1) := dk_42 (dk_at dksX0_far_0 8 rfl rfl)
theorem dX0_far_9 : decode cX0_far 9 = .ok (.iload_n 2, 1) := dk_28 (dk_at dksX0_far_0 9 rfl rfl)
theorem dX0_far_10 : decode cX0_far 10 = .ok (.invokevirtual 56, 3) := dk_182 0 56 (dk_at dksX0_far_0 10 rfl rfl)
theorem dX0_far_13 : decode cX0_far 13 = .ok (.ifCond .eq 7, 3) := dk_153 0 7 (dk_at dksX0_far_0 13 rfl rfl)
theorem dX0_far_16 : decode cX0_far 16 = .ok (.iconst (-1), 1) := dk_2 (dk_at dksX0_far_0 16 rfl rfl)
theorem dX0_far_17 : decode cX0_far 17 = .ok (.goto 11, 3) := dk_167 0 11 (dk_at dksX0_far_0 17 rfl rfl)
theorem dX0_far_20 : decode cX0_far 20 = .ok (.aload_n 0, 1) := dk_42 (dk_at dksX0_far_0 20 rfl rfl)
theorem dX0_far_21 : decode cX0_far 21 = .ok (.iload_n 1, 1) := dk_27 (dk_at dksX0_far_0 21 rfl rfl)
theorem dX0_far_22 : decode cX0_far 22 = .ok (.bipush (-9), 2) := dk_16 247 (dk_at dksX0_far_0 22 rfl rfl)
theorem dX0_far_24 : decode cX0_far 24 = .ok (.iload_n 2, 1) := dk_28 (dk_at dksX0_far_1 0 rfl rfl)
theorem dX0_far_25 : decode cX0_far 25 = .ok (.invokevirtual 117, 3) := dk_182 0 117 (dk_at dksX0_far_1 1 rfl rfl)
theorem dX0_far_28 : decode cX0_far 28 = .ok (.ireturn, 1) := dk_172 (dk_at dksX0_far_1 4 rfl rfl)
abbrev cX0_way : ByteArray := prog_1_method_33_code
def yX0_way : MethodName := ⟨RX0, "way", "(III)I"⟩
def dkwX0_way_3 : List UInt8 := [16, 247, 21, 5, 182, 0, 117, 29, 160, 0, 6, 21, 5, 172, 132, 5, 1, 167, 255, 213, 16, 247, 172]
abbrev dktX0_way_3 : List UInt8 := dkwX0_way_3 ++ []
def dkwX0_way_2 : List UInt8 := [180, 0, 12, 185, 0, 48, 1, 0, 162, 0, 35, 21, 4, 21, 5, 184, 0, 144, 153, 0, 19, 42, 27]
abbrev dktX0_way_2 : List UInt8 := dkwX0_way_2 ++ dktX0_way_3
def dkwX0_way_1 : List UInt8 := [184, 0, 52, 154, 0, 6, 16, 254, 172, 42, 27, 28, 182, 0, 197, 54, 4, 3, 54, 5, 21, 5, 42]
abbrev dktX0_way_1 : List UInt8 := dkwX0_way_1 ++ dktX0_way_2
def dkwX0_way_0 : List UInt8 := [42, 27, 182, 0, 56, 154, 0, 11, 42, 28, 182, 0, 56, 153, 0, 5, 2, 172, 29, 133, 9, 20, 0, 169]
abbrev dktX0_way_0 : List UInt8 := dkwX0_way_0 ++ dktX0_way_1
theorem dksX0_way_0 : cX0_way.data.toList.drop 0 = dktX0_way_0 := by decide +kernel
theorem dksX0_way_1 : cX0_way.data.toList.drop 24 = dktX0_way_1 := dk_seg dksX0_way_0 24 rfl rfl
theorem dksX0_way_2 : cX0_way.data.toList.drop 47 = dktX0_way_2 := dk_seg dksX0_way_1 23 rfl rfl
theorem dksX0_way_3 : cX0_way.data.toList.drop 70 = dktX0_way_3 := dk_seg dksX0_way_2 23 rfl rfl
theorem dX0_way_0 : decode cX0_way 0 = .ok (.aload_n 0, 1) := dk_42 (dk_at dksX0_way_0 0 rfl rfl)
theorem dX0_way_1 : decode cX0_way 1 = .ok (.iload_n 1, 1) := dk_27 (dk_at dksX0_way_0 1 rfl rfl)
theorem dX0_way_2 : decode cX0_way 2 = .ok (.invokevirtual 56, 3) := dk_182 0 56 (dk_at dksX0_way_0 2 rfl rfl)
theorem dX0_way_5 : decode cX0_way 5 = .ok (.ifCond .ne 11, 3) := dk_154 0 11 (dk_at dksX0_way_0 5 rfl rfl)
theorem dX0_way_8 : decode cX0_way 8 = .ok (.aload_n 0, 1) := dk_42 (dk_at dksX0_way_0 8 rfl rfl)
theorem dX0_way_9 : decode cX0_way 9 = .ok (.iload_n 2, 1) := dk_28 (dk_at dksX0_way_0 9 rfl rfl)
theorem dX0_way_10 : decode cX0_way 10 = .ok (.invokevirtual 56, 3) := dk_182 0 56 (dk_at dksX0_way_0 10 rfl rfl)
theorem dX0_way_13 : decode cX0_way 13 = .ok (.ifCond .eq 5, 3) := dk_153 0 5 (dk_at dksX0_way_0 13 rfl rfl)
theorem dX0_way_16 : decode cX0_way 16 = .ok (.iconst (-1), 1) := dk_2 (dk_at dksX0_way_0 16 rfl rfl)
theorem dX0_way_17 : decode cX0_way 17 = .ok (.ireturn, 1) := dk_172 (dk_at dksX0_way_0 17 rfl rfl)
theorem dX0_way_18 : decode cX0_way 18 = .ok (.iload_n 3, 1) := dk_29 (dk_at dksX0_way_0 18 rfl rfl)
theorem dX0_way_19 : decode cX0_way 19 = .ok (.i2l, 1) := dk_133 (dk_at dksX0_way_0 19 rfl rfl)
theorem dX0_way_20 : decode cX0_way 20 = .ok (.lconst 0, 1) := dk_9 (dk_at dksX0_way_0 20 rfl rfl)
theorem dX0_way_21 : decode cX0_way 21 = .ok (.ldc2_w 169, 3) := dk_20 0 169 (dk_at dksX0_way_0 21 rfl rfl)
theorem dX0_way_24 : decode cX0_way 24 = .ok (.invokestatic 52, 3) := dk_184 0 52 (dk_at dksX0_way_1 0 rfl rfl)
theorem dX0_way_27 : decode cX0_way 27 = .ok (.ifCond .ne 6, 3) := dk_154 0 6 (dk_at dksX0_way_1 3 rfl rfl)
theorem dX0_way_30 : decode cX0_way 30 = .ok (.bipush (-2), 2) := dk_16 254 (dk_at dksX0_way_1 6 rfl rfl)
theorem dX0_way_32 : decode cX0_way 32 = .ok (.ireturn, 1) := dk_172 (dk_at dksX0_way_1 8 rfl rfl)
theorem dX0_way_33 : decode cX0_way 33 = .ok (.aload_n 0, 1) := dk_42 (dk_at dksX0_way_1 9 rfl rfl)
theorem dX0_way_34 : decode cX0_way 34 = .ok (.iload_n 1, 1) := dk_27 (dk_at dksX0_way_1 10 rfl rfl)
theorem dX0_way_35 : decode cX0_way 35 = .ok (.iload_n 2, 1) := dk_28 (dk_at dksX0_way_1 11 rfl rfl)
theorem dX0_way_36 : decode cX0_way 36 = .ok (.invokevirtual 197, 3) := dk_182 0 197 (dk_at dksX0_way_1 12 rfl rfl)
theorem dX0_way_39 : decode cX0_way 39 = .ok (.istore 4, 2) := dk_54 4 (dk_at dksX0_way_1 15 rfl rfl)
theorem dX0_way_41 : decode cX0_way 41 = .ok (.iconst 0, 1) := dk_3 (dk_at dksX0_way_1 17 rfl rfl)
theorem dX0_way_42 : decode cX0_way 42 = .ok (.istore 5, 2) := dk_54 5 (dk_at dksX0_way_1 18 rfl rfl)
theorem dX0_way_44 : decode cX0_way 44 = .ok (.iload 5, 2) := dk_21 5 (dk_at dksX0_way_1 20 rfl rfl)
theorem dX0_way_46 : decode cX0_way 46 = .ok (.aload_n 0, 1) := dk_42 (dk_at dksX0_way_1 22 rfl rfl)
theorem dX0_way_47 : decode cX0_way 47 = .ok (.getfield 12, 3) := dk_180 0 12 (dk_at dksX0_way_2 0 rfl rfl)
theorem dX0_way_50 : decode cX0_way 50 = .ok (.invokeinterface 48 1, 5) := by decide +kernel
theorem dX0_way_55 : decode cX0_way 55 = .ok (.if_icmp .ge 35, 3) := dk_162 0 35 (dk_at dksX0_way_2 8 rfl rfl)
theorem dX0_way_58 : decode cX0_way 58 = .ok (.iload 4, 2) := dk_21 4 (dk_at dksX0_way_2 11 rfl rfl)
theorem dX0_way_60 : decode cX0_way 60 = .ok (.iload 5, 2) := dk_21 5 (dk_at dksX0_way_2 13 rfl rfl)
theorem dX0_way_62 : decode cX0_way 62 = .ok (.invokestatic 144, 3) := dk_184 0 144 (dk_at dksX0_way_2 15 rfl rfl)
theorem dX0_way_65 : decode cX0_way 65 = .ok (.ifCond .eq 19, 3) := dk_153 0 19 (dk_at dksX0_way_2 18 rfl rfl)
theorem dX0_way_68 : decode cX0_way 68 = .ok (.aload_n 0, 1) := dk_42 (dk_at dksX0_way_2 21 rfl rfl)
theorem dX0_way_69 : decode cX0_way 69 = .ok (.iload_n 1, 1) := dk_27 (dk_at dksX0_way_2 22 rfl rfl)
theorem dX0_way_70 : decode cX0_way 70 = .ok (.bipush (-9), 2) := dk_16 247 (dk_at dksX0_way_3 0 rfl rfl)
theorem dX0_way_72 : decode cX0_way 72 = .ok (.iload 5, 2) := dk_21 5 (dk_at dksX0_way_3 2 rfl rfl)
theorem dX0_way_74 : decode cX0_way 74 = .ok (.invokevirtual 117, 3) := dk_182 0 117 (dk_at dksX0_way_3 4 rfl rfl)
theorem dX0_way_77 : decode cX0_way 77 = .ok (.iload_n 3, 1) := dk_29 (dk_at dksX0_way_3 7 rfl rfl)
theorem dX0_way_78 : decode cX0_way 78 = .ok (.if_icmp .ne 6, 3) := dk_160 0 6 (dk_at dksX0_way_3 8 rfl rfl)
theorem dX0_way_81 : decode cX0_way 81 = .ok (.iload 5, 2) := dk_21 5 (dk_at dksX0_way_3 11 rfl rfl)
theorem dX0_way_83 : decode cX0_way 83 = .ok (.ireturn, 1) := dk_172 (dk_at dksX0_way_3 13 rfl rfl)
theorem dX0_way_84 : decode cX0_way 84 = .ok (.iinc 5 1, 3) := dk_132 5 1 (dk_at dksX0_way_3 14 rfl rfl)
theorem dX0_way_87 : decode cX0_way 87 = .ok (.goto (-43), 3) := dk_167 255 213 (dk_at dksX0_way_3 17 rfl rfl)
theorem dX0_way_90 : decode cX0_way 90 = .ok (.bipush (-9), 2) := dk_16 247 (dk_at dksX0_way_3 20 rfl rfl)
theorem dX0_way_92 : decode cX0_way 92 = .ok (.ireturn, 1) := dk_172 (dk_at dksX0_way_3 22 rfl rfl)
abbrev cX0_wayOf : ByteArray := prog_1_method_17_code
def yX0_wayOf : MethodName := ⟨RX0, "wayOf", "(II)I"⟩
def dkwX0_wayOf_3 : List UInt8 := [167, 255, 203, 21, 4, 172]
abbrev dktX0_wayOf_3 : List UInt8 := dkwX0_wayOf_3 ++ []
def dkwX0_wayOf_2 : List UInt8 := [28, 182, 0, 117, 96, 29, 160, 0, 10, 4, 21, 5, 120, 167, 0, 4, 3, 128, 54, 4, 132, 5, 1]
abbrev dktX0_wayOf_2 : List UInt8 := dkwX0_wayOf_2 ++ dktX0_wayOf_3
def dkwX0_wayOf_1 : List UInt8 := [185, 0, 48, 1, 0, 162, 0, 45, 21, 4, 42, 27, 16, 247, 21, 5, 182, 0, 117, 42, 21, 5, 16, 247]
abbrev dktX0_wayOf_1 : List UInt8 := dkwX0_wayOf_1 ++ dktX0_wayOf_2
def dkwX0_wayOf_0 : List UInt8 := [42, 27, 16, 247, 28, 182, 0, 117, 62, 3, 54, 4, 3, 54, 5, 21, 5, 42, 180, 0, 12]
abbrev dktX0_wayOf_0 : List UInt8 := dkwX0_wayOf_0 ++ dktX0_wayOf_1
theorem dksX0_wayOf_0 : cX0_wayOf.data.toList.drop 0 = dktX0_wayOf_0 := by decide +kernel
theorem dksX0_wayOf_1 : cX0_wayOf.data.toList.drop 21 = dktX0_wayOf_1 := dk_seg dksX0_wayOf_0 21 rfl rfl
theorem dksX0_wayOf_2 : cX0_wayOf.data.toList.drop 45 = dktX0_wayOf_2 := dk_seg dksX0_wayOf_1 24 rfl rfl
theorem dksX0_wayOf_3 : cX0_wayOf.data.toList.drop 68 = dktX0_wayOf_3 := dk_seg dksX0_wayOf_2 23 rfl rfl
theorem dX0_wayOf_0 : decode cX0_wayOf 0 = .ok (.aload_n 0, 1) := dk_42 (dk_at dksX0_wayOf_0 0 rfl rfl)
theorem dX0_wayOf_1 : decode cX0_wayOf 1 = .ok (.iload_n 1, 1) := dk_27 (dk_at dksX0_wayOf_0 1 rfl rfl)
theorem dX0_wayOf_2 : decode cX0_wayOf 2 = .ok (.bipush (-9), 2) := dk_16 247 (dk_at dksX0_wayOf_0 2 rfl rfl)
theorem dX0_wayOf_4 : decode cX0_wayOf 4 = .ok (.iload_n 2, 1) := dk_28 (dk_at dksX0_wayOf_0 4 rfl rfl)
theorem dX0_wayOf_5 : decode cX0_wayOf 5 = .ok (.invokevirtual 117, 3) := dk_182 0 117 (dk_at dksX0_wayOf_0 5 rfl rfl)
theorem dX0_wayOf_8 : decode cX0_wayOf 8 = .ok (.istore_n 3, 1) := dk_62 (dk_at dksX0_wayOf_0 8 rfl rfl)
theorem dX0_wayOf_9 : decode cX0_wayOf 9 = .ok (.iconst 0, 1) := dk_3 (dk_at dksX0_wayOf_0 9 rfl rfl)
theorem dX0_wayOf_10 : decode cX0_wayOf 10 = .ok (.istore 4, 2) := dk_54 4 (dk_at dksX0_wayOf_0 10 rfl rfl)
theorem dX0_wayOf_12 : decode cX0_wayOf 12 = .ok (.iconst 0, 1) := dk_3 (dk_at dksX0_wayOf_0 12 rfl rfl)
theorem dX0_wayOf_13 : decode cX0_wayOf 13 = .ok (.istore 5, 2) := dk_54 5 (dk_at dksX0_wayOf_0 13 rfl rfl)
theorem dX0_wayOf_15 : decode cX0_wayOf 15 = .ok (.iload 5, 2) := dk_21 5 (dk_at dksX0_wayOf_0 15 rfl rfl)
theorem dX0_wayOf_17 : decode cX0_wayOf 17 = .ok (.aload_n 0, 1) := dk_42 (dk_at dksX0_wayOf_0 17 rfl rfl)
theorem dX0_wayOf_18 : decode cX0_wayOf 18 = .ok (.getfield 12, 3) := dk_180 0 12 (dk_at dksX0_wayOf_0 18 rfl rfl)
theorem dX0_wayOf_21 : decode cX0_wayOf 21 = .ok (.invokeinterface 48 1, 5) := by decide +kernel
theorem dX0_wayOf_26 : decode cX0_wayOf 26 = .ok (.if_icmp .ge 45, 3) := dk_162 0 45 (dk_at dksX0_wayOf_1 5 rfl rfl)
theorem dX0_wayOf_29 : decode cX0_wayOf 29 = .ok (.iload 4, 2) := dk_21 4 (dk_at dksX0_wayOf_1 8 rfl rfl)
theorem dX0_wayOf_31 : decode cX0_wayOf 31 = .ok (.aload_n 0, 1) := dk_42 (dk_at dksX0_wayOf_1 10 rfl rfl)
theorem dX0_wayOf_32 : decode cX0_wayOf 32 = .ok (.iload_n 1, 1) := dk_27 (dk_at dksX0_wayOf_1 11 rfl rfl)
theorem dX0_wayOf_33 : decode cX0_wayOf 33 = .ok (.bipush (-9), 2) := dk_16 247 (dk_at dksX0_wayOf_1 12 rfl rfl)
theorem dX0_wayOf_35 : decode cX0_wayOf 35 = .ok (.iload 5, 2) := dk_21 5 (dk_at dksX0_wayOf_1 14 rfl rfl)
theorem dX0_wayOf_37 : decode cX0_wayOf 37 = .ok (.invokevirtual 117, 3) := dk_182 0 117 (dk_at dksX0_wayOf_1 16 rfl rfl)
theorem dX0_wayOf_40 : decode cX0_wayOf 40 = .ok (.aload_n 0, 1) := dk_42 (dk_at dksX0_wayOf_1 19 rfl rfl)
theorem dX0_wayOf_41 : decode cX0_wayOf 41 = .ok (.iload 5, 2) := dk_21 5 (dk_at dksX0_wayOf_1 20 rfl rfl)
theorem dX0_wayOf_43 : decode cX0_wayOf 43 = .ok (.bipush (-9), 2) := dk_16 247 (dk_at dksX0_wayOf_1 22 rfl rfl)
theorem dX0_wayOf_45 : decode cX0_wayOf 45 = .ok (.iload_n 2, 1) := dk_28 (dk_at dksX0_wayOf_2 0 rfl rfl)
theorem dX0_wayOf_46 : decode cX0_wayOf 46 = .ok (.invokevirtual 117, 3) := dk_182 0 117 (dk_at dksX0_wayOf_2 1 rfl rfl)
theorem dX0_wayOf_49 : decode cX0_wayOf 49 = .ok (.iadd, 1) := dk_96 (dk_at dksX0_wayOf_2 4 rfl rfl)
theorem dX0_wayOf_50 : decode cX0_wayOf 50 = .ok (.iload_n 3, 1) := dk_29 (dk_at dksX0_wayOf_2 5 rfl rfl)
theorem dX0_wayOf_51 : decode cX0_wayOf 51 = .ok (.if_icmp .ne 10, 3) := dk_160 0 10 (dk_at dksX0_wayOf_2 6 rfl rfl)
theorem dX0_wayOf_54 : decode cX0_wayOf 54 = .ok (.iconst 1, 1) := dk_4 (dk_at dksX0_wayOf_2 9 rfl rfl)
theorem dX0_wayOf_55 : decode cX0_wayOf 55 = .ok (.iload 5, 2) := dk_21 5 (dk_at dksX0_wayOf_2 10 rfl rfl)
theorem dX0_wayOf_57 : decode cX0_wayOf 57 = .ok (.ishl, 1) := dk_120 (dk_at dksX0_wayOf_2 12 rfl rfl)
theorem dX0_wayOf_58 : decode cX0_wayOf 58 = .ok (.goto 4, 3) := dk_167 0 4 (dk_at dksX0_wayOf_2 13 rfl rfl)
theorem dX0_wayOf_61 : decode cX0_wayOf 61 = .ok (.iconst 0, 1) := dk_3 (dk_at dksX0_wayOf_2 16 rfl rfl)
theorem dX0_wayOf_62 : decode cX0_wayOf 62 = .ok (.ior, 1) := dk_128 (dk_at dksX0_wayOf_2 17 rfl rfl)
theorem dX0_wayOf_63 : decode cX0_wayOf 63 = .ok (.istore 4, 2) := dk_54 4 (dk_at dksX0_wayOf_2 18 rfl rfl)
theorem dX0_wayOf_65 : decode cX0_wayOf 65 = .ok (.iinc 5 1, 3) := dk_132 5 1 (dk_at dksX0_wayOf_2 20 rfl rfl)
theorem dX0_wayOf_68 : decode cX0_wayOf 68 = .ok (.goto (-53), 3) := dk_167 255 203 (dk_at dksX0_wayOf_3 0 rfl rfl)
theorem dX0_wayOf_71 : decode cX0_wayOf 71 = .ok (.iload 4, 2) := dk_21 4 (dk_at dksX0_wayOf_3 3 rfl rfl)
theorem dX0_wayOf_73 : decode cX0_wayOf 73 = .ok (.ireturn, 1) := dk_172 (dk_at dksX0_wayOf_3 5 rfl rfl)
abbrev cX0_middle : ByteArray := prog_1_method_35_code
def yX0_middle : MethodName := ⟨RX0, "middle", "(I)I"⟩
def dkwX0_middle_1 : List UInt8 := [167, 0, 18, 27, 154, 0, 10, 42, 182, 0, 203, 167, 0, 7, 42, 182, 0, 176, 172]
abbrev dktX0_middle_1 : List UInt8 := dkwX0_middle_1 ++ []
def dkwX0_middle_0 : List UInt8 := [27, 133, 9, 10, 184, 0, 52, 154, 0, 6, 16, 254, 172, 42, 182, 0, 150, 153, 0, 8, 16, 253]
abbrev dktX0_middle_0 : List UInt8 := dkwX0_middle_0 ++ dktX0_middle_1
theorem dksX0_middle_0 : cX0_middle.data.toList.drop 0 = dktX0_middle_0 := by decide +kernel
theorem dksX0_middle_1 : cX0_middle.data.toList.drop 22 = dktX0_middle_1 := dk_seg dksX0_middle_0 22 rfl rfl
theorem dX0_middle_0 : decode cX0_middle 0 = .ok (.iload_n 1, 1) := dk_27 (dk_at dksX0_middle_0 0 rfl rfl)
theorem dX0_middle_1 : decode cX0_middle 1 = .ok (.i2l, 1) := dk_133 (dk_at dksX0_middle_0 1 rfl rfl)
theorem dX0_middle_2 : decode cX0_middle 2 = .ok (.lconst 0, 1) := dk_9 (dk_at dksX0_middle_0 2 rfl rfl)
theorem dX0_middle_3 : decode cX0_middle 3 = .ok (.lconst 1, 1) := dk_10 (dk_at dksX0_middle_0 3 rfl rfl)
theorem dX0_middle_4 : decode cX0_middle 4 = .ok (.invokestatic 52, 3) := dk_184 0 52 (dk_at dksX0_middle_0 4 rfl rfl)
theorem dX0_middle_7 : decode cX0_middle 7 = .ok (.ifCond .ne 6, 3) := dk_154 0 6 (dk_at dksX0_middle_0 7 rfl rfl)
theorem dX0_middle_10 : decode cX0_middle 10 = .ok (.bipush (-2), 2) := dk_16 254 (dk_at dksX0_middle_0 10 rfl rfl)
theorem dX0_middle_12 : decode cX0_middle 12 = .ok (.ireturn, 1) := dk_172 (dk_at dksX0_middle_0 12 rfl rfl)
theorem dX0_middle_13 : decode cX0_middle 13 = .ok (.aload_n 0, 1) := dk_42 (dk_at dksX0_middle_0 13 rfl rfl)
theorem dX0_middle_14 : decode cX0_middle 14 = .ok (.invokevirtual 150, 3) := dk_182 0 150 (dk_at dksX0_middle_0 14 rfl rfl)
theorem dX0_middle_17 : decode cX0_middle 17 = .ok (.ifCond .eq 8, 3) := dk_153 0 8 (dk_at dksX0_middle_0 17 rfl rfl)
theorem dX0_middle_20 : decode cX0_middle 20 = .ok (.bipush (-3), 2) := dk_16 253 (dk_at dksX0_middle_0 20 rfl rfl)
theorem dX0_middle_22 : decode cX0_middle 22 = .ok (.goto 18, 3) := dk_167 0 18 (dk_at dksX0_middle_1 0 rfl rfl)
theorem dX0_middle_25 : decode cX0_middle 25 = .ok (.iload_n 1, 1) := dk_27 (dk_at dksX0_middle_1 3 rfl rfl)
theorem dX0_middle_26 : decode cX0_middle 26 = .ok (.ifCond .ne 10, 3) := dk_154 0 10 (dk_at dksX0_middle_1 4 rfl rfl)
theorem dX0_middle_29 : decode cX0_middle 29 = .ok (.aload_n 0, 1) := dk_42 (dk_at dksX0_middle_1 7 rfl rfl)
theorem dX0_middle_30 : decode cX0_middle 30 = .ok (.invokevirtual 203, 3) := dk_182 0 203 (dk_at dksX0_middle_1 8 rfl rfl)
theorem dX0_middle_33 : decode cX0_middle 33 = .ok (.goto 7, 3) := dk_167 0 7 (dk_at dksX0_middle_1 11 rfl rfl)
theorem dX0_middle_36 : decode cX0_middle 36 = .ok (.aload_n 0, 1) := dk_42 (dk_at dksX0_middle_1 14 rfl rfl)
theorem dX0_middle_37 : decode cX0_middle 37 = .ok (.invokevirtual 176, 3) := dk_182 0 176 (dk_at dksX0_middle_1 15 rfl rfl)
theorem dX0_middle_40 : decode cX0_middle 40 = .ok (.ireturn, 1) := dk_172 (dk_at dksX0_middle_1 18 rfl rfl)
abbrev cX0_middles : ByteArray := prog_1_method_34_code
def yX0_middles : MethodName := ⟨RX0, "middles", "()I"⟩
def dkwX0_middles_2 : List UInt8 := [4, 29, 120, 128, 167, 0, 4, 27, 60, 28, 21, 4, 184, 0, 200, 61, 132, 3, 1, 167, 255, 198, 27, 172]
abbrev dktX0_middles_2 : List UInt8 := dkwX0_middles_2 ++ []
def dkwX0_middles_1 : List UInt8 := [182, 0, 139, 54, 4, 21, 4, 28, 162, 0, 9, 4, 29, 120, 167, 0, 18, 21, 4, 28, 160, 0, 11, 27]
abbrev dktX0_middles_1 : List UInt8 := dkwX0_middles_1 ++ dktX0_middles_2
def dkwX0_middles_0 : List UInt8 := [3, 60, 16, 8, 61, 3, 62, 29, 42, 180, 0, 12, 185, 0, 48, 1, 0, 162, 0, 51, 42, 29]
abbrev dktX0_middles_0 : List UInt8 := dkwX0_middles_0 ++ dktX0_middles_1
theorem dksX0_middles_0 : cX0_middles.data.toList.drop 0 = dktX0_middles_0 := by decide +kernel
theorem dksX0_middles_1 : cX0_middles.data.toList.drop 22 = dktX0_middles_1 := dk_seg dksX0_middles_0 22 rfl rfl
theorem dksX0_middles_2 : cX0_middles.data.toList.drop 46 = dktX0_middles_2 := dk_seg dksX0_middles_1 24 rfl rfl
theorem dX0_middles_0 : decode cX0_middles 0 = .ok (.iconst 0, 1) := dk_3 (dk_at dksX0_middles_0 0 rfl rfl)
theorem dX0_middles_1 : decode cX0_middles 1 = .ok (.istore_n 1, 1) := dk_60 (dk_at dksX0_middles_0 1 rfl rfl)
theorem dX0_middles_2 : decode cX0_middles 2 = .ok (.bipush 8, 2) := dk_16 8 (dk_at dksX0_middles_0 2 rfl rfl)
theorem dX0_middles_4 : decode cX0_middles 4 = .ok (.istore_n 2, 1) := dk_61 (dk_at dksX0_middles_0 4 rfl rfl)
theorem dX0_middles_5 : decode cX0_middles 5 = .ok (.iconst 0, 1) := dk_3 (dk_at dksX0_middles_0 5 rfl rfl)
theorem dX0_middles_6 : decode cX0_middles 6 = .ok (.istore_n 3, 1) := dk_62 (dk_at dksX0_middles_0 6 rfl rfl)
theorem dX0_middles_7 : decode cX0_middles 7 = .ok (.iload_n 3, 1) := dk_29 (dk_at dksX0_middles_0 7 rfl rfl)
theorem dX0_middles_8 : decode cX0_middles 8 = .ok (.aload_n 0, 1) := dk_42 (dk_at dksX0_middles_0 8 rfl rfl)
theorem dX0_middles_9 : decode cX0_middles 9 = .ok (.getfield 12, 3) := dk_180 0 12 (dk_at dksX0_middles_0 9 rfl rfl)
theorem dX0_middles_12 : decode cX0_middles 12 = .ok (.invokeinterface 48 1, 5) := by decide +kernel
theorem dX0_middles_17 : decode cX0_middles 17 = .ok (.if_icmp .ge 51, 3) := dk_162 0 51 (dk_at dksX0_middles_0 17 rfl rfl)
theorem dX0_middles_20 : decode cX0_middles 20 = .ok (.aload_n 0, 1) := dk_42 (dk_at dksX0_middles_0 20 rfl rfl)
theorem dX0_middles_21 : decode cX0_middles 21 = .ok (.iload_n 3, 1) := dk_29 (dk_at dksX0_middles_0 21 rfl rfl)
theorem dX0_middles_22 : decode cX0_middles 22 = .ok (.invokevirtual 139, 3) := dk_182 0 139 (dk_at dksX0_middles_1 0 rfl rfl)
theorem dX0_middles_25 : decode cX0_middles 25 = .ok (.istore 4, 2) := dk_54 4 (dk_at dksX0_middles_1 3 rfl rfl)
theorem dX0_middles_27 : decode cX0_middles 27 = .ok (.iload 4, 2) := dk_21 4 (dk_at dksX0_middles_1 5 rfl rfl)
theorem dX0_middles_29 : decode cX0_middles 29 = .ok (.iload_n 2, 1) := dk_28 (dk_at dksX0_middles_1 7 rfl rfl)
theorem dX0_middles_30 : decode cX0_middles 30 = .ok (.if_icmp .ge 9, 3) := dk_162 0 9 (dk_at dksX0_middles_1 8 rfl rfl)
theorem dX0_middles_33 : decode cX0_middles 33 = .ok (.iconst 1, 1) := dk_4 (dk_at dksX0_middles_1 11 rfl rfl)
theorem dX0_middles_34 : decode cX0_middles 34 = .ok (.iload_n 3, 1) := dk_29 (dk_at dksX0_middles_1 12 rfl rfl)
theorem dX0_middles_35 : decode cX0_middles 35 = .ok (.ishl, 1) := dk_120 (dk_at dksX0_middles_1 13 rfl rfl)
theorem dX0_middles_36 : decode cX0_middles 36 = .ok (.goto 18, 3) := dk_167 0 18 (dk_at dksX0_middles_1 14 rfl rfl)
theorem dX0_middles_39 : decode cX0_middles 39 = .ok (.iload 4, 2) := dk_21 4 (dk_at dksX0_middles_1 17 rfl rfl)
theorem dX0_middles_41 : decode cX0_middles 41 = .ok (.iload_n 2, 1) := dk_28 (dk_at dksX0_middles_1 19 rfl rfl)
theorem dX0_middles_42 : decode cX0_middles 42 = .ok (.if_icmp .ne 11, 3) := dk_160 0 11 (dk_at dksX0_middles_1 20 rfl rfl)
theorem dX0_middles_45 : decode cX0_middles 45 = .ok (.iload_n 1, 1) := dk_27 (dk_at dksX0_middles_1 23 rfl rfl)
theorem dX0_middles_46 : decode cX0_middles 46 = .ok (.iconst 1, 1) := dk_4 (dk_at dksX0_middles_2 0 rfl rfl)
theorem dX0_middles_47 : decode cX0_middles 47 = .ok (.iload_n 3, 1) := dk_29 (dk_at dksX0_middles_2 1 rfl rfl)
theorem dX0_middles_48 : decode cX0_middles 48 = .ok (.ishl, 1) := dk_120 (dk_at dksX0_middles_2 2 rfl rfl)
theorem dX0_middles_49 : decode cX0_middles 49 = .ok (.ior, 1) := dk_128 (dk_at dksX0_middles_2 3 rfl rfl)
theorem dX0_middles_50 : decode cX0_middles 50 = .ok (.goto 4, 3) := dk_167 0 4 (dk_at dksX0_middles_2 4 rfl rfl)
theorem dX0_middles_53 : decode cX0_middles 53 = .ok (.iload_n 1, 1) := dk_27 (dk_at dksX0_middles_2 7 rfl rfl)
theorem dX0_middles_54 : decode cX0_middles 54 = .ok (.istore_n 1, 1) := dk_60 (dk_at dksX0_middles_2 8 rfl rfl)
theorem dX0_middles_55 : decode cX0_middles 55 = .ok (.iload_n 2, 1) := dk_28 (dk_at dksX0_middles_2 9 rfl rfl)
theorem dX0_middles_56 : decode cX0_middles 56 = .ok (.iload 4, 2) := dk_21 4 (dk_at dksX0_middles_2 10 rfl rfl)
theorem dX0_middles_58 : decode cX0_middles 58 = .ok (.invokestatic 200, 3) := dk_184 0 200 (dk_at dksX0_middles_2 12 rfl rfl)
theorem dX0_middles_61 : decode cX0_middles 61 = .ok (.istore_n 2, 1) := dk_61 (dk_at dksX0_middles_2 15 rfl rfl)
theorem dX0_middles_62 : decode cX0_middles 62 = .ok (.iinc 3 1, 3) := dk_132 3 1 (dk_at dksX0_middles_2 16 rfl rfl)
theorem dX0_middles_65 : decode cX0_middles 65 = .ok (.goto (-58), 3) := dk_167 255 198 (dk_at dksX0_middles_2 19 rfl rfl)
theorem dX0_middles_68 : decode cX0_middles 68 = .ok (.iload_n 1, 1) := dk_27 (dk_at dksX0_middles_2 22 rfl rfl)
theorem dX0_middles_69 : decode cX0_middles 69 = .ok (.ireturn, 1) := dk_172 (dk_at dksX0_middles_2 23 rfl rfl)
abbrev cX0_longest : ByteArray := prog_1_method_28_code
def yX0_longest : MethodName := ⟨RX0, "longest", "()I"⟩
def dkwX0_longest_1 : List UInt8 := [184, 0, 121, 60, 132, 2, 1, 167, 255, 230, 27, 172]
abbrev dktX0_longest_1 : List UInt8 := dkwX0_longest_1 ++ []
def dkwX0_longest_0 : List UInt8 := [3, 60, 3, 61, 28, 42, 180, 0, 12, 185, 0, 48, 1, 0, 162, 0, 19, 27, 42, 28, 182, 0, 139]
abbrev dktX0_longest_0 : List UInt8 := dkwX0_longest_0 ++ dktX0_longest_1
theorem dksX0_longest_0 : cX0_longest.data.toList.drop 0 = dktX0_longest_0 := by decide +kernel
theorem dksX0_longest_1 : cX0_longest.data.toList.drop 23 = dktX0_longest_1 := dk_seg dksX0_longest_0 23 rfl rfl
theorem dX0_longest_0 : decode cX0_longest 0 = .ok (.iconst 0, 1) := dk_3 (dk_at dksX0_longest_0 0 rfl rfl)
theorem dX0_longest_1 : decode cX0_longest 1 = .ok (.istore_n 1, 1) := dk_60 (dk_at dksX0_longest_0 1 rfl rfl)
theorem dX0_longest_2 : decode cX0_longest 2 = .ok (.iconst 0, 1) := dk_3 (dk_at dksX0_longest_0 2 rfl rfl)
theorem dX0_longest_3 : decode cX0_longest 3 = .ok (.istore_n 2, 1) := dk_61 (dk_at dksX0_longest_0 3 rfl rfl)
theorem dX0_longest_4 : decode cX0_longest 4 = .ok (.iload_n 2, 1) := dk_28 (dk_at dksX0_longest_0 4 rfl rfl)
theorem dX0_longest_5 : decode cX0_longest 5 = .ok (.aload_n 0, 1) := dk_42 (dk_at dksX0_longest_0 5 rfl rfl)
theorem dX0_longest_6 : decode cX0_longest 6 = .ok (.getfield 12, 3) := dk_180 0 12 (dk_at dksX0_longest_0 6 rfl rfl)
theorem dX0_longest_9 : decode cX0_longest 9 = .ok (.invokeinterface 48 1, 5) := by decide +kernel
theorem dX0_longest_14 : decode cX0_longest 14 = .ok (.if_icmp .ge 19, 3) := dk_162 0 19 (dk_at dksX0_longest_0 14 rfl rfl)
theorem dX0_longest_17 : decode cX0_longest 17 = .ok (.iload_n 1, 1) := dk_27 (dk_at dksX0_longest_0 17 rfl rfl)
theorem dX0_longest_18 : decode cX0_longest 18 = .ok (.aload_n 0, 1) := dk_42 (dk_at dksX0_longest_0 18 rfl rfl)
theorem dX0_longest_19 : decode cX0_longest 19 = .ok (.iload_n 2, 1) := dk_28 (dk_at dksX0_longest_0 19 rfl rfl)
theorem dX0_longest_20 : decode cX0_longest 20 = .ok (.invokevirtual 139, 3) := dk_182 0 139 (dk_at dksX0_longest_0 20 rfl rfl)
theorem dX0_longest_23 : decode cX0_longest 23 = .ok (.invokestatic 121, 3) := dk_184 0 121 (dk_at dksX0_longest_1 0 rfl rfl)
theorem dX0_longest_26 : decode cX0_longest 26 = .ok (.istore_n 1, 1) := dk_60 (dk_at dksX0_longest_1 3 rfl rfl)
theorem dX0_longest_27 : decode cX0_longest 27 = .ok (.iinc 2 1, 3) := dk_132 2 1 (dk_at dksX0_longest_1 4 rfl rfl)
theorem dX0_longest_30 : decode cX0_longest 30 = .ok (.goto (-26), 3) := dk_167 255 230 (dk_at dksX0_longest_1 7 rfl rfl)
theorem dX0_longest_33 : decode cX0_longest 33 = .ok (.iload_n 1, 1) := dk_27 (dk_at dksX0_longest_1 10 rfl rfl)
theorem dX0_longest_34 : decode cX0_longest 34 = .ok (.ireturn, 1) := dk_172 (dk_at dksX0_longest_1 11 rfl rfl)
abbrev cX0_number : ByteArray := prog_1_method_36_code
def yX0_number : MethodName := ⟨RX0, "number", "()I"⟩
def dkwX0_number_0 : List UInt8 := [42, 182, 0, 150, 153, 0, 8, 16, 253, 167, 0, 7, 42, 182, 0, 179, 172]
abbrev dktX0_number_0 : List UInt8 := dkwX0_number_0 ++ []
theorem dksX0_number_0 : cX0_number.data.toList.drop 0 = dktX0_number_0 := by decide +kernel
theorem dX0_number_0 : decode cX0_number 0 = .ok (.aload_n 0, 1) := dk_42 (dk_at dksX0_number_0 0 rfl rfl)
theorem dX0_number_1 : decode cX0_number 1 = .ok (.invokevirtual 150, 3) := dk_182 0 150 (dk_at dksX0_number_0 1 rfl rfl)
theorem dX0_number_4 : decode cX0_number 4 = .ok (.ifCond .eq 8, 3) := dk_153 0 8 (dk_at dksX0_number_0 4 rfl rfl)
theorem dX0_number_7 : decode cX0_number 7 = .ok (.bipush (-3), 2) := dk_16 253 (dk_at dksX0_number_0 7 rfl rfl)
theorem dX0_number_9 : decode cX0_number 9 = .ok (.goto 7, 3) := dk_167 0 7 (dk_at dksX0_number_0 9 rfl rfl)
theorem dX0_number_12 : decode cX0_number 12 = .ok (.aload_n 0, 1) := dk_42 (dk_at dksX0_number_0 12 rfl rfl)
theorem dX0_number_13 : decode cX0_number 13 = .ok (.invokevirtual 179, 3) := dk_182 0 179 (dk_at dksX0_number_0 13 rfl rfl)
theorem dX0_number_16 : decode cX0_number 16 = .ok (.ireturn, 1) := dk_172 (dk_at dksX0_number_0 16 rfl rfl)
abbrev cX0_numberNow : ByteArray := prog_1_method_29_code
def yX0_numberNow : MethodName := ⟨RX0, "numberNow", "()I"⟩
def dkwX0_numberNow_2 : List UInt8 := [27, 172]
abbrev dktX0_numberNow_2 : List UInt8 := dkwX0_numberNow_2 ++ []
def dkwX0_numberNow_1 : List UInt8 := [42, 180, 0, 12, 185, 0, 48, 1, 0, 104, 42, 180, 0, 18, 28, 46, 96, 60, 132, 2, 1, 167, 255, 219]
abbrev dktX0_numberNow_1 : List UInt8 := dkwX0_numberNow_1 ++ dktX0_numberNow_2
def dkwX0_numberNow_0 : List UInt8 := [42, 182, 0, 153, 3, 60, 3, 61, 28, 42, 180, 0, 12, 185, 0, 48, 1, 0, 5, 100, 162, 0, 28, 27]
abbrev dktX0_numberNow_0 : List UInt8 := dkwX0_numberNow_0 ++ dktX0_numberNow_1
theorem dksX0_numberNow_0 : cX0_numberNow.data.toList.drop 0 = dktX0_numberNow_0 := by decide +kernel
theorem dksX0_numberNow_1 : cX0_numberNow.data.toList.drop 24 = dktX0_numberNow_1 := dk_seg dksX0_numberNow_0 24 rfl rfl
theorem dksX0_numberNow_2 : cX0_numberNow.data.toList.drop 48 = dktX0_numberNow_2 := dk_seg dksX0_numberNow_1 24 rfl rfl
theorem dX0_numberNow_0 : decode cX0_numberNow 0 = .ok (.aload_n 0, 1) := dk_42 (dk_at dksX0_numberNow_0 0 rfl rfl)
theorem dX0_numberNow_1 : decode cX0_numberNow 1 = .ok (.invokevirtual 153, 3) := dk_182 0 153 (dk_at dksX0_numberNow_0 1 rfl rfl)
theorem dX0_numberNow_4 : decode cX0_numberNow 4 = .ok (.iconst 0, 1) := dk_3 (dk_at dksX0_numberNow_0 4 rfl rfl)
theorem dX0_numberNow_5 : decode cX0_numberNow 5 = .ok (.istore_n 1, 1) := dk_60 (dk_at dksX0_numberNow_0 5 rfl rfl)
theorem dX0_numberNow_6 : decode cX0_numberNow 6 = .ok (.iconst 0, 1) := dk_3 (dk_at dksX0_numberNow_0 6 rfl rfl)
theorem dX0_numberNow_7 : decode cX0_numberNow 7 = .ok (.istore_n 2, 1) := dk_61 (dk_at dksX0_numberNow_0 7 rfl rfl)
theorem dX0_numberNow_8 : decode cX0_numberNow 8 = .ok (.iload_n 2, 1) := dk_28 (dk_at dksX0_numberNow_0 8 rfl rfl)
theorem dX0_numberNow_9 : decode cX0_numberNow 9 = .ok (.aload_n 0, 1) := dk_42 (dk_at dksX0_numberNow_0 9 rfl rfl)
theorem dX0_numberNow_10 : decode cX0_numberNow 10 = .ok (.getfield 12, 3) := dk_180 0 12 (dk_at dksX0_numberNow_0 10 rfl rfl)
theorem dX0_numberNow_13 : decode cX0_numberNow 13 = .ok (.invokeinterface 48 1, 5) := by decide +kernel
theorem dX0_numberNow_18 : decode cX0_numberNow 18 = .ok (.iconst 2, 1) := dk_5 (dk_at dksX0_numberNow_0 18 rfl rfl)
theorem dX0_numberNow_19 : decode cX0_numberNow 19 = .ok (.isub, 1) := dk_100 (dk_at dksX0_numberNow_0 19 rfl rfl)
theorem dX0_numberNow_20 : decode cX0_numberNow 20 = .ok (.if_icmp .ge 28, 3) := dk_162 0 28 (dk_at dksX0_numberNow_0 20 rfl rfl)
theorem dX0_numberNow_23 : decode cX0_numberNow 23 = .ok (.iload_n 1, 1) := dk_27 (dk_at dksX0_numberNow_0 23 rfl rfl)
theorem dX0_numberNow_24 : decode cX0_numberNow 24 = .ok (.aload_n 0, 1) := dk_42 (dk_at dksX0_numberNow_1 0 rfl rfl)
theorem dX0_numberNow_25 : decode cX0_numberNow 25 = .ok (.getfield 12, 3) := dk_180 0 12 (dk_at dksX0_numberNow_1 1 rfl rfl)
theorem dX0_numberNow_28 : decode cX0_numberNow 28 = .ok (.invokeinterface 48 1, 5) := by decide +kernel
theorem dX0_numberNow_33 : decode cX0_numberNow 33 = .ok (.imul, 1) := dk_104 (dk_at dksX0_numberNow_1 9 rfl rfl)
theorem dX0_numberNow_34 : decode cX0_numberNow 34 = .ok (.aload_n 0, 1) := dk_42 (dk_at dksX0_numberNow_1 10 rfl rfl)
theorem dX0_numberNow_35 : decode cX0_numberNow 35 = .ok (.getfield 18, 3) := dk_180 0 18 (dk_at dksX0_numberNow_1 11 rfl rfl)
theorem dX0_numberNow_38 : decode cX0_numberNow 38 = .ok (.iload_n 2, 1) := dk_28 (dk_at dksX0_numberNow_1 14 rfl rfl)
theorem dX0_numberNow_39 : decode cX0_numberNow 39 = .ok (.iaload, 1) := dk_46 (dk_at dksX0_numberNow_1 15 rfl rfl)
theorem dX0_numberNow_40 : decode cX0_numberNow 40 = .ok (.iadd, 1) := dk_96 (dk_at dksX0_numberNow_1 16 rfl rfl)
theorem dX0_numberNow_41 : decode cX0_numberNow 41 = .ok (.istore_n 1, 1) := dk_60 (dk_at dksX0_numberNow_1 17 rfl rfl)
theorem dX0_numberNow_42 : decode cX0_numberNow 42 = .ok (.iinc 2 1, 3) := dk_132 2 1 (dk_at dksX0_numberNow_1 18 rfl rfl)
theorem dX0_numberNow_45 : decode cX0_numberNow 45 = .ok (.goto (-37), 3) := dk_167 255 219 (dk_at dksX0_numberNow_1 21 rfl rfl)
theorem dX0_numberNow_48 : decode cX0_numberNow 48 = .ok (.iload_n 1, 1) := dk_27 (dk_at dksX0_numberNow_2 0 rfl rfl)
theorem dX0_numberNow_49 : decode cX0_numberNow 49 = .ok (.ireturn, 1) := dk_172 (dk_at dksX0_numberNow_2 1 rfl rfl)
abbrev cX0_alike : ByteArray := prog_1_method_40_code
def yX0_alike : MethodName := ⟨RX0, "alike", "()I"⟩
def dkwX0_alike_1 : List UInt8 := [163, 0, 14, 31, 29, 133, 105, 64, 132, 3, 1, 167, 255, 235, 31, 42, 182, 0, 218, 109, 136, 172]
abbrev dktX0_alike_1 : List UInt8 := dkwX0_alike_1 ++ []
def dkwX0_alike_0 : List UInt8 := [42, 182, 0, 150, 153, 0, 6, 16, 253, 172, 10, 64, 5, 62, 29, 42, 180, 0, 12, 185, 0, 48, 1, 0]
abbrev dktX0_alike_0 : List UInt8 := dkwX0_alike_0 ++ dktX0_alike_1
theorem dksX0_alike_0 : cX0_alike.data.toList.drop 0 = dktX0_alike_0 := by decide +kernel
theorem dksX0_alike_1 : cX0_alike.data.toList.drop 24 = dktX0_alike_1 := dk_seg dksX0_alike_0 24 rfl rfl
theorem dX0_alike_0 : decode cX0_alike 0 = .ok (.aload_n 0, 1) := dk_42 (dk_at dksX0_alike_0 0 rfl rfl)
theorem dX0_alike_1 : decode cX0_alike 1 = .ok (.invokevirtual 150, 3) := dk_182 0 150 (dk_at dksX0_alike_0 1 rfl rfl)
theorem dX0_alike_4 : decode cX0_alike 4 = .ok (.ifCond .eq 6, 3) := dk_153 0 6 (dk_at dksX0_alike_0 4 rfl rfl)
theorem dX0_alike_7 : decode cX0_alike 7 = .ok (.bipush (-3), 2) := dk_16 253 (dk_at dksX0_alike_0 7 rfl rfl)
theorem dX0_alike_9 : decode cX0_alike 9 = .ok (.ireturn, 1) := dk_172 (dk_at dksX0_alike_0 9 rfl rfl)
theorem dX0_alike_10 : decode cX0_alike 10 = .ok (.lconst 1, 1) := dk_10 (dk_at dksX0_alike_0 10 rfl rfl)
theorem dX0_alike_11 : decode cX0_alike 11 = .ok (.lstore_n 1, 1) := dk_64 (dk_at dksX0_alike_0 11 rfl rfl)
theorem dX0_alike_12 : decode cX0_alike 12 = .ok (.iconst 2, 1) := dk_5 (dk_at dksX0_alike_0 12 rfl rfl)
theorem dX0_alike_13 : decode cX0_alike 13 = .ok (.istore_n 3, 1) := dk_62 (dk_at dksX0_alike_0 13 rfl rfl)
theorem dX0_alike_14 : decode cX0_alike 14 = .ok (.iload_n 3, 1) := dk_29 (dk_at dksX0_alike_0 14 rfl rfl)
theorem dX0_alike_15 : decode cX0_alike 15 = .ok (.aload_n 0, 1) := dk_42 (dk_at dksX0_alike_0 15 rfl rfl)
theorem dX0_alike_16 : decode cX0_alike 16 = .ok (.getfield 12, 3) := dk_180 0 12 (dk_at dksX0_alike_0 16 rfl rfl)
theorem dX0_alike_19 : decode cX0_alike 19 = .ok (.invokeinterface 48 1, 5) := by decide +kernel
theorem dX0_alike_24 : decode cX0_alike 24 = .ok (.if_icmp .gt 14, 3) := dk_163 0 14 (dk_at dksX0_alike_1 0 rfl rfl)
theorem dX0_alike_27 : decode cX0_alike 27 = .ok (.lload_n 1, 1) := dk_31 (dk_at dksX0_alike_1 3 rfl rfl)
theorem dX0_alike_28 : decode cX0_alike 28 = .ok (.iload_n 3, 1) := dk_29 (dk_at dksX0_alike_1 4 rfl rfl)
theorem dX0_alike_29 : decode cX0_alike 29 = .ok (.i2l, 1) := dk_133 (dk_at dksX0_alike_1 5 rfl rfl)
theorem dX0_alike_30 : decode cX0_alike 30 = .ok (.lmul, 1) := dk_105 (dk_at dksX0_alike_1 6 rfl rfl)
theorem dX0_alike_31 : decode cX0_alike 31 = .ok (.lstore_n 1, 1) := dk_64 (dk_at dksX0_alike_1 7 rfl rfl)
theorem dX0_alike_32 : decode cX0_alike 32 = .ok (.iinc 3 1, 3) := dk_132 3 1 (dk_at dksX0_alike_1 8 rfl rfl)
theorem dX0_alike_35 : decode cX0_alike 35 = .ok (.goto (-21), 3) := dk_167 255 235 (dk_at dksX0_alike_1 11 rfl rfl)
theorem dX0_alike_38 : decode cX0_alike 38 = .ok (.lload_n 1, 1) := dk_31 (dk_at dksX0_alike_1 14 rfl rfl)
theorem dX0_alike_39 : decode cX0_alike 39 = .ok (.aload_n 0, 1) := dk_42 (dk_at dksX0_alike_1 15 rfl rfl)
theorem dX0_alike_40 : decode cX0_alike 40 = .ok (.invokevirtual 218, 3) := dk_182 0 218 (dk_at dksX0_alike_1 16 rfl rfl)
theorem dX0_alike_43 : decode cX0_alike 43 = .ok (.ldiv, 1) := dk_109 (dk_at dksX0_alike_1 19 rfl rfl)
theorem dX0_alike_44 : decode cX0_alike 44 = .ok (.l2i, 1) := dk_136 (dk_at dksX0_alike_1 20 rfl rfl)
theorem dX0_alike_45 : decode cX0_alike 45 = .ok (.ireturn, 1) := dk_172 (dk_at dksX0_alike_1 21 rfl rfl)
abbrev cX0_turnsInAll : ByteArray := prog_1_method_39_code
def yX0_turnsInAll : MethodName := ⟨RX0, "turnsInAll", "()J"⟩
def dkwX0_turnsInAll_3 : List UInt8 := [167, 0, 4, 10, 105, 173]
abbrev dktX0_turnsInAll_3 : List UInt8 := dkwX0_turnsInAll_3 ++ []
def dkwX0_turnsInAll_2 : List UInt8 := [182, 0, 212, 105, 42, 28, 29, 182, 0, 206, 42, 29, 28, 182, 0, 206, 160, 0, 9, 20, 0, 216]
abbrev dktX0_turnsInAll_2 : List UInt8 := dkwX0_turnsInAll_2 ++ dktX0_turnsInAll_3
def dkwX0_turnsInAll_1 : List UInt8 := [182, 0, 212, 173, 27, 4, 28, 120, 2, 130, 126, 184, 0, 78, 62, 42, 28, 29, 182, 0, 212, 42, 29, 28]
abbrev dktX0_turnsInAll_1 : List UInt8 := dkwX0_turnsInAll_1 ++ dktX0_turnsInAll_2
def dkwX0_turnsInAll_0 : List UInt8 := [42, 182, 0, 203, 60, 27, 184, 0, 78, 61, 27, 184, 0, 136, 4, 160, 0, 11, 42, 28, 16, 247]
abbrev dktX0_turnsInAll_0 : List UInt8 := dkwX0_turnsInAll_0 ++ dktX0_turnsInAll_1
theorem dksX0_turnsInAll_0 : cX0_turnsInAll.data.toList.drop 0 = dktX0_turnsInAll_0 := by decide +kernel
theorem dksX0_turnsInAll_1 : cX0_turnsInAll.data.toList.drop 22 = dktX0_turnsInAll_1 := dk_seg dksX0_turnsInAll_0 22 rfl rfl
theorem dksX0_turnsInAll_2 : cX0_turnsInAll.data.toList.drop 46 = dktX0_turnsInAll_2 := dk_seg dksX0_turnsInAll_1 24 rfl rfl
theorem dksX0_turnsInAll_3 : cX0_turnsInAll.data.toList.drop 68 = dktX0_turnsInAll_3 := dk_seg dksX0_turnsInAll_2 22 rfl rfl
theorem dX0_turnsInAll_0 : decode cX0_turnsInAll 0 = .ok (.aload_n 0, 1) := dk_42 (dk_at dksX0_turnsInAll_0 0 rfl rfl)
theorem dX0_turnsInAll_1 : decode cX0_turnsInAll 1 = .ok (.invokevirtual 203, 3) := dk_182 0 203 (dk_at dksX0_turnsInAll_0 1 rfl rfl)
theorem dX0_turnsInAll_4 : decode cX0_turnsInAll 4 = .ok (.istore_n 1, 1) := dk_60 (dk_at dksX0_turnsInAll_0 4 rfl rfl)
theorem dX0_turnsInAll_5 : decode cX0_turnsInAll 5 = .ok (.iload_n 1, 1) := dk_27 (dk_at dksX0_turnsInAll_0 5 rfl rfl)
theorem dX0_turnsInAll_6 : decode cX0_turnsInAll 6 = .ok (.invokestatic 78, 3) := dk_184 0 78 (dk_at dksX0_turnsInAll_0 6 rfl rfl)
theorem dX0_turnsInAll_9 : decode cX0_turnsInAll 9 = .ok (.istore_n 2, 1) := dk_61 (dk_at dksX0_turnsInAll_0 9 rfl rfl)
theorem dX0_turnsInAll_10 : decode cX0_turnsInAll 10 = .ok (.iload_n 1, 1) := dk_27 (dk_at dksX0_turnsInAll_0 10 rfl rfl)
theorem dX0_turnsInAll_11 : decode cX0_turnsInAll 11 = .ok (.invokestatic 136, 3) := dk_184 0 136 (dk_at dksX0_turnsInAll_0 11 rfl rfl)
theorem dX0_turnsInAll_14 : decode cX0_turnsInAll 14 = .ok (.iconst 1, 1) := dk_4 (dk_at dksX0_turnsInAll_0 14 rfl rfl)
theorem dX0_turnsInAll_15 : decode cX0_turnsInAll 15 = .ok (.if_icmp .ne 11, 3) := dk_160 0 11 (dk_at dksX0_turnsInAll_0 15 rfl rfl)
theorem dX0_turnsInAll_18 : decode cX0_turnsInAll 18 = .ok (.aload_n 0, 1) := dk_42 (dk_at dksX0_turnsInAll_0 18 rfl rfl)
theorem dX0_turnsInAll_19 : decode cX0_turnsInAll 19 = .ok (.iload_n 2, 1) := dk_28 (dk_at dksX0_turnsInAll_0 19 rfl rfl)
theorem dX0_turnsInAll_20 : decode cX0_turnsInAll 20 = .ok (.bipush (-9), 2) := dk_16 247 (dk_at dksX0_turnsInAll_0 20 rfl rfl)
theorem dX0_turnsInAll_22 : decode cX0_turnsInAll 22 = .ok (.invokevirtual 212, 3) := dk_182 0 212 (dk_at dksX0_turnsInAll_1 0 rfl rfl)
theorem dX0_turnsInAll_25 : decode cX0_turnsInAll 25 = .ok (.lreturn, 1) := dk_173 (dk_at dksX0_turnsInAll_1 3 rfl rfl)
theorem dX0_turnsInAll_26 : decode cX0_turnsInAll 26 = .ok (.iload_n 1, 1) := dk_27 (dk_at dksX0_turnsInAll_1 4 rfl rfl)
theorem dX0_turnsInAll_27 : decode cX0_turnsInAll 27 = .ok (.iconst 1, 1) := dk_4 (dk_at dksX0_turnsInAll_1 5 rfl rfl)
theorem dX0_turnsInAll_28 : decode cX0_turnsInAll 28 = .ok (.iload_n 2, 1) := dk_28 (dk_at dksX0_turnsInAll_1 6 rfl rfl)
theorem dX0_turnsInAll_29 : decode cX0_turnsInAll 29 = .ok (.ishl, 1) := dk_120 (dk_at dksX0_turnsInAll_1 7 rfl rfl)
theorem dX0_turnsInAll_30 : decode cX0_turnsInAll 30 = .ok (.iconst (-1), 1) := dk_2 (dk_at dksX0_turnsInAll_1 8 rfl rfl)
theorem dX0_turnsInAll_31 : decode cX0_turnsInAll 31 = .ok (.ixor, 1) := dk_130 (dk_at dksX0_turnsInAll_1 9 rfl rfl)
theorem dX0_turnsInAll_32 : decode cX0_turnsInAll 32 = .ok (.iand, 1) := dk_126 (dk_at dksX0_turnsInAll_1 10 rfl rfl)
theorem dX0_turnsInAll_33 : decode cX0_turnsInAll 33 = .ok (.invokestatic 78, 3) := dk_184 0 78 (dk_at dksX0_turnsInAll_1 11 rfl rfl)
theorem dX0_turnsInAll_36 : decode cX0_turnsInAll 36 = .ok (.istore_n 3, 1) := dk_62 (dk_at dksX0_turnsInAll_1 14 rfl rfl)
theorem dX0_turnsInAll_37 : decode cX0_turnsInAll 37 = .ok (.aload_n 0, 1) := dk_42 (dk_at dksX0_turnsInAll_1 15 rfl rfl)
theorem dX0_turnsInAll_38 : decode cX0_turnsInAll 38 = .ok (.iload_n 2, 1) := dk_28 (dk_at dksX0_turnsInAll_1 16 rfl rfl)
theorem dX0_turnsInAll_39 : decode cX0_turnsInAll 39 = .ok (.iload_n 3, 1) := dk_29 (dk_at dksX0_turnsInAll_1 17 rfl rfl)
theorem dX0_turnsInAll_40 : decode cX0_turnsInAll 40 = .ok (.invokevirtual 212, 3) := dk_182 0 212 (dk_at dksX0_turnsInAll_1 18 rfl rfl)
theorem dX0_turnsInAll_43 : decode cX0_turnsInAll 43 = .ok (.aload_n 0, 1) := dk_42 (dk_at dksX0_turnsInAll_1 21 rfl rfl)
theorem dX0_turnsInAll_44 : decode cX0_turnsInAll 44 = .ok (.iload_n 3, 1) := dk_29 (dk_at dksX0_turnsInAll_1 22 rfl rfl)
theorem dX0_turnsInAll_45 : decode cX0_turnsInAll 45 = .ok (.iload_n 2, 1) := dk_28 (dk_at dksX0_turnsInAll_1 23 rfl rfl)
theorem dX0_turnsInAll_46 : decode cX0_turnsInAll 46 = .ok (.invokevirtual 212, 3) := dk_182 0 212 (dk_at dksX0_turnsInAll_2 0 rfl rfl)
theorem dX0_turnsInAll_49 : decode cX0_turnsInAll 49 = .ok (.lmul, 1) := dk_105 (dk_at dksX0_turnsInAll_2 3 rfl rfl)
theorem dX0_turnsInAll_50 : decode cX0_turnsInAll 50 = .ok (.aload_n 0, 1) := dk_42 (dk_at dksX0_turnsInAll_2 4 rfl rfl)
theorem dX0_turnsInAll_51 : decode cX0_turnsInAll 51 = .ok (.iload_n 2, 1) := dk_28 (dk_at dksX0_turnsInAll_2 5 rfl rfl)
theorem dX0_turnsInAll_52 : decode cX0_turnsInAll 52 = .ok (.iload_n 3, 1) := dk_29 (dk_at dksX0_turnsInAll_2 6 rfl rfl)
theorem dX0_turnsInAll_53 : decode cX0_turnsInAll 53 = .ok (.invokevirtual 206, 3) := dk_182 0 206 (dk_at dksX0_turnsInAll_2 7 rfl rfl)
theorem dX0_turnsInAll_56 : decode cX0_turnsInAll 56 = .ok (.aload_n 0, 1) := dk_42 (dk_at dksX0_turnsInAll_2 10 rfl rfl)
theorem dX0_turnsInAll_57 : decode cX0_turnsInAll 57 = .ok (.iload_n 3, 1) := dk_29 (dk_at dksX0_turnsInAll_2 11 rfl rfl)
theorem dX0_turnsInAll_58 : decode cX0_turnsInAll 58 = .ok (.iload_n 2, 1) := dk_28 (dk_at dksX0_turnsInAll_2 12 rfl rfl)
theorem dX0_turnsInAll_59 : decode cX0_turnsInAll 59 = .ok (.invokevirtual 206, 3) := dk_182 0 206 (dk_at dksX0_turnsInAll_2 13 rfl rfl)
theorem dX0_turnsInAll_62 : decode cX0_turnsInAll 62 = .ok (.if_icmp .ne 9, 3) := dk_160 0 9 (dk_at dksX0_turnsInAll_2 16 rfl rfl)
theorem dX0_turnsInAll_65 : decode cX0_turnsInAll 65 = .ok (.ldc2_w 216, 3) := dk_20 0 216 (dk_at dksX0_turnsInAll_2 19 rfl rfl)
theorem dX0_turnsInAll_68 : decode cX0_turnsInAll 68 = .ok (.goto 4, 3) := dk_167 0 4 (dk_at dksX0_turnsInAll_3 0 rfl rfl)
theorem dX0_turnsInAll_71 : decode cX0_turnsInAll 71 = .ok (.lconst 1, 1) := dk_10 (dk_at dksX0_turnsInAll_3 3 rfl rfl)
theorem dX0_turnsInAll_72 : decode cX0_turnsInAll 72 = .ok (.lmul, 1) := dk_105 (dk_at dksX0_turnsInAll_3 4 rfl rfl)
theorem dX0_turnsInAll_73 : decode cX0_turnsInAll 73 = .ok (.lreturn, 1) := dk_173 (dk_at dksX0_turnsInAll_3 5 rfl rfl)
abbrev cX0_turnsOf : ByteArray := prog_1_method_38_code
def yX0_turnsOf : MethodName := ⟨RX0, "turnsOf", "(II)J"⟩
def dkwX0_turnsOf_5 : List UInt8 := [66, 21, 5, 21, 5, 4, 100, 126, 54, 5, 167, 255, 149, 33, 173]
abbrev dktX0_turnsOf_5 : List UInt8 := dkwX0_turnsOf_5 ++ []
def dkwX0_turnsOf_4 : List UInt8 := [167, 0, 4, 3, 96, 54, 7, 21, 8, 21, 8, 4, 100, 126, 54, 8, 167, 255, 202, 33, 21, 7, 133, 105]
abbrev dktX0_turnsOf_4 : List UInt8 := dkwX0_turnsOf_4 ++ dktX0_turnsOf_5
def dkwX0_turnsOf_3 : List UInt8 := [21, 9, 28, 159, 0, 24, 42, 21, 9, 27, 182, 0, 206, 42, 21, 6, 27, 182, 0, 206, 160, 0, 7, 4]
abbrev dktX0_turnsOf_3 : List UInt8 := dkwX0_turnsOf_3 ++ dktX0_turnsOf_4
def dkwX0_turnsOf_2 : List UInt8 := [105, 66, 3, 54, 7, 21, 5, 54, 8, 21, 8, 153, 0, 55, 21, 8, 184, 0, 78, 54, 9, 21, 7]
abbrev dktX0_turnsOf_2 : List UInt8 := dkwX0_turnsOf_2 ++ dktX0_turnsOf_3
def dkwX0_turnsOf_1 : List UInt8 := [153, 0, 108, 21, 5, 184, 0, 78, 54, 6, 21, 6, 28, 159, 0, 83, 33, 42, 21, 6, 27, 182, 0, 212]
abbrev dktX0_turnsOf_1 : List UInt8 := dkwX0_turnsOf_1 ++ dktX0_turnsOf_2
def dkwX0_turnsOf_0 : List UInt8 := [10, 66, 42, 180, 0, 12, 27, 185, 0, 70, 2, 0, 192, 0, 31, 180, 0, 74, 54, 5, 21, 5]
abbrev dktX0_turnsOf_0 : List UInt8 := dkwX0_turnsOf_0 ++ dktX0_turnsOf_1
theorem dksX0_turnsOf_0 : cX0_turnsOf.data.toList.drop 0 = dktX0_turnsOf_0 := by decide +kernel
theorem dksX0_turnsOf_1 : cX0_turnsOf.data.toList.drop 22 = dktX0_turnsOf_1 := dk_seg dksX0_turnsOf_0 22 rfl rfl
theorem dksX0_turnsOf_2 : cX0_turnsOf.data.toList.drop 46 = dktX0_turnsOf_2 := dk_seg dksX0_turnsOf_1 24 rfl rfl
theorem dksX0_turnsOf_3 : cX0_turnsOf.data.toList.drop 69 = dktX0_turnsOf_3 := dk_seg dksX0_turnsOf_2 23 rfl rfl
theorem dksX0_turnsOf_4 : cX0_turnsOf.data.toList.drop 93 = dktX0_turnsOf_4 := dk_seg dksX0_turnsOf_3 24 rfl rfl
theorem dksX0_turnsOf_5 : cX0_turnsOf.data.toList.drop 117 = dktX0_turnsOf_5 := dk_seg dksX0_turnsOf_4 24 rfl rfl
theorem dX0_turnsOf_0 : decode cX0_turnsOf 0 = .ok (.lconst 1, 1) := dk_10 (dk_at dksX0_turnsOf_0 0 rfl rfl)
theorem dX0_turnsOf_1 : decode cX0_turnsOf 1 = .ok (.lstore_n 3, 1) := dk_66 (dk_at dksX0_turnsOf_0 1 rfl rfl)
theorem dX0_turnsOf_2 : decode cX0_turnsOf 2 = .ok (.aload_n 0, 1) := dk_42 (dk_at dksX0_turnsOf_0 2 rfl rfl)
theorem dX0_turnsOf_3 : decode cX0_turnsOf 3 = .ok (.getfield 12, 3) := dk_180 0 12 (dk_at dksX0_turnsOf_0 3 rfl rfl)
theorem dX0_turnsOf_6 : decode cX0_turnsOf 6 = .ok (.iload_n 1, 1) := dk_27 (dk_at dksX0_turnsOf_0 6 rfl rfl)
theorem dX0_turnsOf_7 : decode cX0_turnsOf 7 = .ok (.invokeinterface 70 2, 5) := by decide +kernel
theorem dX0_turnsOf_12 : decode cX0_turnsOf 12 = .ok (.checkcast 31, 3) := dk_192 0 31 (dk_at dksX0_turnsOf_0 12 rfl rfl)
theorem dX0_turnsOf_15 : decode cX0_turnsOf 15 = .ok (.getfield 74, 3) := dk_180 0 74 (dk_at dksX0_turnsOf_0 15 rfl rfl)
theorem dX0_turnsOf_18 : decode cX0_turnsOf 18 = .ok (.istore 5, 2) := dk_54 5 (dk_at dksX0_turnsOf_0 18 rfl rfl)
theorem dX0_turnsOf_20 : decode cX0_turnsOf 20 = .ok (.iload 5, 2) := dk_21 5 (dk_at dksX0_turnsOf_0 20 rfl rfl)
theorem dX0_turnsOf_22 : decode cX0_turnsOf 22 = .ok (.ifCond .eq 108, 3) := dk_153 0 108 (dk_at dksX0_turnsOf_1 0 rfl rfl)
theorem dX0_turnsOf_25 : decode cX0_turnsOf 25 = .ok (.iload 5, 2) := dk_21 5 (dk_at dksX0_turnsOf_1 3 rfl rfl)
theorem dX0_turnsOf_27 : decode cX0_turnsOf 27 = .ok (.invokestatic 78, 3) := dk_184 0 78 (dk_at dksX0_turnsOf_1 5 rfl rfl)
theorem dX0_turnsOf_30 : decode cX0_turnsOf 30 = .ok (.istore 6, 2) := dk_54 6 (dk_at dksX0_turnsOf_1 8 rfl rfl)
theorem dX0_turnsOf_32 : decode cX0_turnsOf 32 = .ok (.iload 6, 2) := dk_21 6 (dk_at dksX0_turnsOf_1 10 rfl rfl)
theorem dX0_turnsOf_34 : decode cX0_turnsOf 34 = .ok (.iload_n 2, 1) := dk_28 (dk_at dksX0_turnsOf_1 12 rfl rfl)
theorem dX0_turnsOf_35 : decode cX0_turnsOf 35 = .ok (.if_icmp .eq 83, 3) := dk_159 0 83 (dk_at dksX0_turnsOf_1 13 rfl rfl)
theorem dX0_turnsOf_38 : decode cX0_turnsOf 38 = .ok (.lload_n 3, 1) := dk_33 (dk_at dksX0_turnsOf_1 16 rfl rfl)
theorem dX0_turnsOf_39 : decode cX0_turnsOf 39 = .ok (.aload_n 0, 1) := dk_42 (dk_at dksX0_turnsOf_1 17 rfl rfl)
theorem dX0_turnsOf_40 : decode cX0_turnsOf 40 = .ok (.iload 6, 2) := dk_21 6 (dk_at dksX0_turnsOf_1 18 rfl rfl)
theorem dX0_turnsOf_42 : decode cX0_turnsOf 42 = .ok (.iload_n 1, 1) := dk_27 (dk_at dksX0_turnsOf_1 20 rfl rfl)
theorem dX0_turnsOf_43 : decode cX0_turnsOf 43 = .ok (.invokevirtual 212, 3) := dk_182 0 212 (dk_at dksX0_turnsOf_1 21 rfl rfl)
theorem dX0_turnsOf_46 : decode cX0_turnsOf 46 = .ok (.lmul, 1) := dk_105 (dk_at dksX0_turnsOf_2 0 rfl rfl)
theorem dX0_turnsOf_47 : decode cX0_turnsOf 47 = .ok (.lstore_n 3, 1) := dk_66 (dk_at dksX0_turnsOf_2 1 rfl rfl)
theorem dX0_turnsOf_48 : decode cX0_turnsOf 48 = .ok (.iconst 0, 1) := dk_3 (dk_at dksX0_turnsOf_2 2 rfl rfl)
theorem dX0_turnsOf_49 : decode cX0_turnsOf 49 = .ok (.istore 7, 2) := dk_54 7 (dk_at dksX0_turnsOf_2 3 rfl rfl)
theorem dX0_turnsOf_51 : decode cX0_turnsOf 51 = .ok (.iload 5, 2) := dk_21 5 (dk_at dksX0_turnsOf_2 5 rfl rfl)
theorem dX0_turnsOf_53 : decode cX0_turnsOf 53 = .ok (.istore 8, 2) := dk_54 8 (dk_at dksX0_turnsOf_2 7 rfl rfl)
theorem dX0_turnsOf_55 : decode cX0_turnsOf 55 = .ok (.iload 8, 2) := dk_21 8 (dk_at dksX0_turnsOf_2 9 rfl rfl)
theorem dX0_turnsOf_57 : decode cX0_turnsOf 57 = .ok (.ifCond .eq 55, 3) := dk_153 0 55 (dk_at dksX0_turnsOf_2 11 rfl rfl)
theorem dX0_turnsOf_60 : decode cX0_turnsOf 60 = .ok (.iload 8, 2) := dk_21 8 (dk_at dksX0_turnsOf_2 14 rfl rfl)
theorem dX0_turnsOf_62 : decode cX0_turnsOf 62 = .ok (.invokestatic 78, 3) := dk_184 0 78 (dk_at dksX0_turnsOf_2 16 rfl rfl)
theorem dX0_turnsOf_65 : decode cX0_turnsOf 65 = .ok (.istore 9, 2) := dk_54 9 (dk_at dksX0_turnsOf_2 19 rfl rfl)
theorem dX0_turnsOf_67 : decode cX0_turnsOf 67 = .ok (.iload 7, 2) := dk_21 7 (dk_at dksX0_turnsOf_2 21 rfl rfl)
theorem dX0_turnsOf_69 : decode cX0_turnsOf 69 = .ok (.iload 9, 2) := dk_21 9 (dk_at dksX0_turnsOf_3 0 rfl rfl)
theorem dX0_turnsOf_71 : decode cX0_turnsOf 71 = .ok (.iload_n 2, 1) := dk_28 (dk_at dksX0_turnsOf_3 2 rfl rfl)
theorem dX0_turnsOf_72 : decode cX0_turnsOf 72 = .ok (.if_icmp .eq 24, 3) := dk_159 0 24 (dk_at dksX0_turnsOf_3 3 rfl rfl)
theorem dX0_turnsOf_75 : decode cX0_turnsOf 75 = .ok (.aload_n 0, 1) := dk_42 (dk_at dksX0_turnsOf_3 6 rfl rfl)
theorem dX0_turnsOf_76 : decode cX0_turnsOf 76 = .ok (.iload 9, 2) := dk_21 9 (dk_at dksX0_turnsOf_3 7 rfl rfl)
theorem dX0_turnsOf_78 : decode cX0_turnsOf 78 = .ok (.iload_n 1, 1) := dk_27 (dk_at dksX0_turnsOf_3 9 rfl rfl)
theorem dX0_turnsOf_79 : decode cX0_turnsOf 79 = .ok (.invokevirtual 206, 3) := dk_182 0 206 (dk_at dksX0_turnsOf_3 10 rfl rfl)
theorem dX0_turnsOf_82 : decode cX0_turnsOf 82 = .ok (.aload_n 0, 1) := dk_42 (dk_at dksX0_turnsOf_3 13 rfl rfl)
theorem dX0_turnsOf_83 : decode cX0_turnsOf 83 = .ok (.iload 6, 2) := dk_21 6 (dk_at dksX0_turnsOf_3 14 rfl rfl)
theorem dX0_turnsOf_85 : decode cX0_turnsOf 85 = .ok (.iload_n 1, 1) := dk_27 (dk_at dksX0_turnsOf_3 16 rfl rfl)
theorem dX0_turnsOf_86 : decode cX0_turnsOf 86 = .ok (.invokevirtual 206, 3) := dk_182 0 206 (dk_at dksX0_turnsOf_3 17 rfl rfl)
theorem dX0_turnsOf_89 : decode cX0_turnsOf 89 = .ok (.if_icmp .ne 7, 3) := dk_160 0 7 (dk_at dksX0_turnsOf_3 20 rfl rfl)
theorem dX0_turnsOf_92 : decode cX0_turnsOf 92 = .ok (.iconst 1, 1) := dk_4 (dk_at dksX0_turnsOf_3 23 rfl rfl)
theorem dX0_turnsOf_93 : decode cX0_turnsOf 93 = .ok (.goto 4, 3) := dk_167 0 4 (dk_at dksX0_turnsOf_4 0 rfl rfl)
theorem dX0_turnsOf_96 : decode cX0_turnsOf 96 = .ok (.iconst 0, 1) := dk_3 (dk_at dksX0_turnsOf_4 3 rfl rfl)
theorem dX0_turnsOf_97 : decode cX0_turnsOf 97 = .ok (.iadd, 1) := dk_96 (dk_at dksX0_turnsOf_4 4 rfl rfl)
theorem dX0_turnsOf_98 : decode cX0_turnsOf 98 = .ok (.istore 7, 2) := dk_54 7 (dk_at dksX0_turnsOf_4 5 rfl rfl)
theorem dX0_turnsOf_100 : decode cX0_turnsOf 100 = .ok (.iload 8, 2) := dk_21 8 (dk_at dksX0_turnsOf_4 7 rfl rfl)
theorem dX0_turnsOf_102 : decode cX0_turnsOf 102 = .ok (.iload 8, 2) := dk_21 8 (dk_at dksX0_turnsOf_4 9 rfl rfl)
theorem dX0_turnsOf_104 : decode cX0_turnsOf 104 = .ok (.iconst 1, 1) := dk_4 (dk_at dksX0_turnsOf_4 11 rfl rfl)
theorem dX0_turnsOf_105 : decode cX0_turnsOf 105 = .ok (.isub, 1) := dk_100 (dk_at dksX0_turnsOf_4 12 rfl rfl)
theorem dX0_turnsOf_106 : decode cX0_turnsOf 106 = .ok (.iand, 1) := dk_126 (dk_at dksX0_turnsOf_4 13 rfl rfl)
theorem dX0_turnsOf_107 : decode cX0_turnsOf 107 = .ok (.istore 8, 2) := dk_54 8 (dk_at dksX0_turnsOf_4 14 rfl rfl)
theorem dX0_turnsOf_109 : decode cX0_turnsOf 109 = .ok (.goto (-54), 3) := dk_167 255 202 (dk_at dksX0_turnsOf_4 16 rfl rfl)
theorem dX0_turnsOf_112 : decode cX0_turnsOf 112 = .ok (.lload_n 3, 1) := dk_33 (dk_at dksX0_turnsOf_4 19 rfl rfl)
theorem dX0_turnsOf_113 : decode cX0_turnsOf 113 = .ok (.iload 7, 2) := dk_21 7 (dk_at dksX0_turnsOf_4 20 rfl rfl)
theorem dX0_turnsOf_115 : decode cX0_turnsOf 115 = .ok (.i2l, 1) := dk_133 (dk_at dksX0_turnsOf_4 22 rfl rfl)
theorem dX0_turnsOf_116 : decode cX0_turnsOf 116 = .ok (.lmul, 1) := dk_105 (dk_at dksX0_turnsOf_4 23 rfl rfl)
theorem dX0_turnsOf_117 : decode cX0_turnsOf 117 = .ok (.lstore_n 3, 1) := dk_66 (dk_at dksX0_turnsOf_5 0 rfl rfl)
theorem dX0_turnsOf_118 : decode cX0_turnsOf 118 = .ok (.iload 5, 2) := dk_21 5 (dk_at dksX0_turnsOf_5 1 rfl rfl)
theorem dX0_turnsOf_120 : decode cX0_turnsOf 120 = .ok (.iload 5, 2) := dk_21 5 (dk_at dksX0_turnsOf_5 3 rfl rfl)
theorem dX0_turnsOf_122 : decode cX0_turnsOf 122 = .ok (.iconst 1, 1) := dk_4 (dk_at dksX0_turnsOf_5 5 rfl rfl)
theorem dX0_turnsOf_123 : decode cX0_turnsOf 123 = .ok (.isub, 1) := dk_100 (dk_at dksX0_turnsOf_5 6 rfl rfl)
theorem dX0_turnsOf_124 : decode cX0_turnsOf 124 = .ok (.iand, 1) := dk_126 (dk_at dksX0_turnsOf_5 7 rfl rfl)
theorem dX0_turnsOf_125 : decode cX0_turnsOf 125 = .ok (.istore 5, 2) := dk_54 5 (dk_at dksX0_turnsOf_5 8 rfl rfl)
theorem dX0_turnsOf_127 : decode cX0_turnsOf 127 = .ok (.goto (-107), 3) := dk_167 255 149 (dk_at dksX0_turnsOf_5 10 rfl rfl)
theorem dX0_turnsOf_130 : decode cX0_turnsOf 130 = .ok (.lload_n 3, 1) := dk_33 (dk_at dksX0_turnsOf_5 13 rfl rfl)
theorem dX0_turnsOf_131 : decode cX0_turnsOf 131 = .ok (.lreturn, 1) := dk_173 (dk_at dksX0_turnsOf_5 14 rfl rfl)
abbrev cX0_shapeOf : ByteArray := prog_1_method_37_code
def yX0_shapeOf : MethodName := ⟨RX0, "shapeOf", "(II)I"⟩
def dkwX0_shapeOf_6 : List UInt8 := [54, 5, 132, 6, 1, 167, 255, 226, 21, 5, 4, 120, 172]
abbrev dktX0_shapeOf_6 : List UInt8 := dkwX0_shapeOf_6 ++ []
def dkwX0_shapeOf_5 : List UInt8 := [21, 4, 162, 0, 29, 21, 5, 16, 32, 45, 21, 6, 46, 184, 0, 209, 100, 120, 45, 21, 6, 46, 128]
abbrev dktX0_shapeOf_5 : List UInt8 := dkwX0_shapeOf_5 ++ dktX0_shapeOf_6
def dkwX0_shapeOf_4 : List UInt8 := [79, 132, 4, 1, 21, 5, 21, 5, 4, 100, 126, 54, 5, 167, 255, 175, 4, 54, 5, 3, 54, 6, 21, 6]
abbrev dktX0_shapeOf_4 : List UInt8 := dkwX0_shapeOf_4 ++ dktX0_shapeOf_5
def dkwX0_shapeOf_3 : List UInt8 := [162, 0, 19, 45, 21, 8, 45, 21, 8, 4, 100, 46, 79, 132, 8, 255, 167, 255, 227, 45, 21, 8, 21, 7]
abbrev dktX0_shapeOf_3 : List UInt8 := dkwX0_shapeOf_3 ++ dktX0_shapeOf_4
def dkwX0_shapeOf_2 : List UInt8 := [182, 0, 206, 54, 7, 21, 4, 54, 8, 21, 8, 158, 0, 30, 45, 21, 8, 4, 100, 46, 21, 7]
abbrev dktX0_shapeOf_2 : List UInt8 := dkwX0_shapeOf_2 ++ dktX0_shapeOf_3
def dkwX0_shapeOf_1 : List UInt8 := [54, 5, 21, 5, 153, 0, 82, 21, 5, 184, 0, 78, 54, 6, 21, 6, 28, 159, 0, 57, 42, 21, 6, 27]
abbrev dktX0_shapeOf_1 : List UInt8 := dkwX0_shapeOf_1 ++ dktX0_shapeOf_2
def dkwX0_shapeOf_0 : List UInt8 := [16, 8, 188, 10, 78, 3, 54, 4, 42, 180, 0, 12, 27, 185, 0, 70, 2, 0, 192, 0, 31, 180, 0, 74]
abbrev dktX0_shapeOf_0 : List UInt8 := dkwX0_shapeOf_0 ++ dktX0_shapeOf_1
theorem dksX0_shapeOf_0 : cX0_shapeOf.data.toList.drop 0 = dktX0_shapeOf_0 := by decide +kernel
theorem dksX0_shapeOf_1 : cX0_shapeOf.data.toList.drop 24 = dktX0_shapeOf_1 := dk_seg dksX0_shapeOf_0 24 rfl rfl
theorem dksX0_shapeOf_2 : cX0_shapeOf.data.toList.drop 48 = dktX0_shapeOf_2 := dk_seg dksX0_shapeOf_1 24 rfl rfl
theorem dksX0_shapeOf_3 : cX0_shapeOf.data.toList.drop 70 = dktX0_shapeOf_3 := dk_seg dksX0_shapeOf_2 22 rfl rfl
theorem dksX0_shapeOf_4 : cX0_shapeOf.data.toList.drop 94 = dktX0_shapeOf_4 := dk_seg dksX0_shapeOf_3 24 rfl rfl
theorem dksX0_shapeOf_5 : cX0_shapeOf.data.toList.drop 118 = dktX0_shapeOf_5 := dk_seg dksX0_shapeOf_4 24 rfl rfl
theorem dksX0_shapeOf_6 : cX0_shapeOf.data.toList.drop 141 = dktX0_shapeOf_6 := dk_seg dksX0_shapeOf_5 23 rfl rfl
theorem dX0_shapeOf_0 : decode cX0_shapeOf 0 = .ok (.bipush 8, 2) := dk_16 8 (dk_at dksX0_shapeOf_0 0 rfl rfl)
theorem dX0_shapeOf_2 : decode cX0_shapeOf 2 = .ok (.newarray .int, 2) := dk_188_10 (dk_at dksX0_shapeOf_0 2 rfl rfl)
theorem dX0_shapeOf_4 : decode cX0_shapeOf 4 = .ok (.astore_n 3, 1) := dk_78 (dk_at dksX0_shapeOf_0 4 rfl rfl)
theorem dX0_shapeOf_5 : decode cX0_shapeOf 5 = .ok (.iconst 0, 1) := dk_3 (dk_at dksX0_shapeOf_0 5 rfl rfl)
theorem dX0_shapeOf_6 : decode cX0_shapeOf 6 = .ok (.istore 4, 2) := dk_54 4 (dk_at dksX0_shapeOf_0 6 rfl rfl)
theorem dX0_shapeOf_8 : decode cX0_shapeOf 8 = .ok (.aload_n 0, 1) := dk_42 (dk_at dksX0_shapeOf_0 8 rfl rfl)
theorem dX0_shapeOf_9 : decode cX0_shapeOf 9 = .ok (.getfield 12, 3) := dk_180 0 12 (dk_at dksX0_shapeOf_0 9 rfl rfl)
theorem dX0_shapeOf_12 : decode cX0_shapeOf 12 = .ok (.iload_n 1, 1) := dk_27 (dk_at dksX0_shapeOf_0 12 rfl rfl)
theorem dX0_shapeOf_13 : decode cX0_shapeOf 13 = .ok (.invokeinterface 70 2, 5) := by decide +kernel
theorem dX0_shapeOf_18 : decode cX0_shapeOf 18 = .ok (.checkcast 31, 3) := dk_192 0 31 (dk_at dksX0_shapeOf_0 18 rfl rfl)
theorem dX0_shapeOf_21 : decode cX0_shapeOf 21 = .ok (.getfield 74, 3) := dk_180 0 74 (dk_at dksX0_shapeOf_0 21 rfl rfl)
theorem dX0_shapeOf_24 : decode cX0_shapeOf 24 = .ok (.istore 5, 2) := dk_54 5 (dk_at dksX0_shapeOf_1 0 rfl rfl)
theorem dX0_shapeOf_26 : decode cX0_shapeOf 26 = .ok (.iload 5, 2) := dk_21 5 (dk_at dksX0_shapeOf_1 2 rfl rfl)
theorem dX0_shapeOf_28 : decode cX0_shapeOf 28 = .ok (.ifCond .eq 82, 3) := dk_153 0 82 (dk_at dksX0_shapeOf_1 4 rfl rfl)
theorem dX0_shapeOf_31 : decode cX0_shapeOf 31 = .ok (.iload 5, 2) := dk_21 5 (dk_at dksX0_shapeOf_1 7 rfl rfl)
theorem dX0_shapeOf_33 : decode cX0_shapeOf 33 = .ok (.invokestatic 78, 3) := dk_184 0 78 (dk_at dksX0_shapeOf_1 9 rfl rfl)
theorem dX0_shapeOf_36 : decode cX0_shapeOf 36 = .ok (.istore 6, 2) := dk_54 6 (dk_at dksX0_shapeOf_1 12 rfl rfl)
theorem dX0_shapeOf_38 : decode cX0_shapeOf 38 = .ok (.iload 6, 2) := dk_21 6 (dk_at dksX0_shapeOf_1 14 rfl rfl)
theorem dX0_shapeOf_40 : decode cX0_shapeOf 40 = .ok (.iload_n 2, 1) := dk_28 (dk_at dksX0_shapeOf_1 16 rfl rfl)
theorem dX0_shapeOf_41 : decode cX0_shapeOf 41 = .ok (.if_icmp .eq 57, 3) := dk_159 0 57 (dk_at dksX0_shapeOf_1 17 rfl rfl)
theorem dX0_shapeOf_44 : decode cX0_shapeOf 44 = .ok (.aload_n 0, 1) := dk_42 (dk_at dksX0_shapeOf_1 20 rfl rfl)
theorem dX0_shapeOf_45 : decode cX0_shapeOf 45 = .ok (.iload 6, 2) := dk_21 6 (dk_at dksX0_shapeOf_1 21 rfl rfl)
theorem dX0_shapeOf_47 : decode cX0_shapeOf 47 = .ok (.iload_n 1, 1) := dk_27 (dk_at dksX0_shapeOf_1 23 rfl rfl)
theorem dX0_shapeOf_48 : decode cX0_shapeOf 48 = .ok (.invokevirtual 206, 3) := dk_182 0 206 (dk_at dksX0_shapeOf_2 0 rfl rfl)
theorem dX0_shapeOf_51 : decode cX0_shapeOf 51 = .ok (.istore 7, 2) := dk_54 7 (dk_at dksX0_shapeOf_2 3 rfl rfl)
theorem dX0_shapeOf_53 : decode cX0_shapeOf 53 = .ok (.iload 4, 2) := dk_21 4 (dk_at dksX0_shapeOf_2 5 rfl rfl)
theorem dX0_shapeOf_55 : decode cX0_shapeOf 55 = .ok (.istore 8, 2) := dk_54 8 (dk_at dksX0_shapeOf_2 7 rfl rfl)
theorem dX0_shapeOf_57 : decode cX0_shapeOf 57 = .ok (.iload 8, 2) := dk_21 8 (dk_at dksX0_shapeOf_2 9 rfl rfl)
theorem dX0_shapeOf_59 : decode cX0_shapeOf 59 = .ok (.ifCond .le 30, 3) := dk_158 0 30 (dk_at dksX0_shapeOf_2 11 rfl rfl)
theorem dX0_shapeOf_62 : decode cX0_shapeOf 62 = .ok (.aload_n 3, 1) := dk_45 (dk_at dksX0_shapeOf_2 14 rfl rfl)
theorem dX0_shapeOf_63 : decode cX0_shapeOf 63 = .ok (.iload 8, 2) := dk_21 8 (dk_at dksX0_shapeOf_2 15 rfl rfl)
theorem dX0_shapeOf_65 : decode cX0_shapeOf 65 = .ok (.iconst 1, 1) := dk_4 (dk_at dksX0_shapeOf_2 17 rfl rfl)
theorem dX0_shapeOf_66 : decode cX0_shapeOf 66 = .ok (.isub, 1) := dk_100 (dk_at dksX0_shapeOf_2 18 rfl rfl)
theorem dX0_shapeOf_67 : decode cX0_shapeOf 67 = .ok (.iaload, 1) := dk_46 (dk_at dksX0_shapeOf_2 19 rfl rfl)
theorem dX0_shapeOf_68 : decode cX0_shapeOf 68 = .ok (.iload 7, 2) := dk_21 7 (dk_at dksX0_shapeOf_2 20 rfl rfl)
theorem dX0_shapeOf_70 : decode cX0_shapeOf 70 = .ok (.if_icmp .ge 19, 3) := dk_162 0 19 (dk_at dksX0_shapeOf_3 0 rfl rfl)
theorem dX0_shapeOf_73 : decode cX0_shapeOf 73 = .ok (.aload_n 3, 1) := dk_45 (dk_at dksX0_shapeOf_3 3 rfl rfl)
theorem dX0_shapeOf_74 : decode cX0_shapeOf 74 = .ok (.iload 8, 2) := dk_21 8 (dk_at dksX0_shapeOf_3 4 rfl rfl)
theorem dX0_shapeOf_76 : decode cX0_shapeOf 76 = .ok (.aload_n 3, 1) := dk_45 (dk_at dksX0_shapeOf_3 6 rfl rfl)
theorem dX0_shapeOf_77 : decode cX0_shapeOf 77 = .ok (.iload 8, 2) := dk_21 8 (dk_at dksX0_shapeOf_3 7 rfl rfl)
theorem dX0_shapeOf_79 : decode cX0_shapeOf 79 = .ok (.iconst 1, 1) := dk_4 (dk_at dksX0_shapeOf_3 9 rfl rfl)
theorem dX0_shapeOf_80 : decode cX0_shapeOf 80 = .ok (.isub, 1) := dk_100 (dk_at dksX0_shapeOf_3 10 rfl rfl)
theorem dX0_shapeOf_81 : decode cX0_shapeOf 81 = .ok (.iaload, 1) := dk_46 (dk_at dksX0_shapeOf_3 11 rfl rfl)
theorem dX0_shapeOf_82 : decode cX0_shapeOf 82 = .ok (.iastore, 1) := dk_79 (dk_at dksX0_shapeOf_3 12 rfl rfl)
theorem dX0_shapeOf_83 : decode cX0_shapeOf 83 = .ok (.iinc 8 (-1), 3) := dk_132 8 255 (dk_at dksX0_shapeOf_3 13 rfl rfl)
theorem dX0_shapeOf_86 : decode cX0_shapeOf 86 = .ok (.goto (-29), 3) := dk_167 255 227 (dk_at dksX0_shapeOf_3 16 rfl rfl)
theorem dX0_shapeOf_89 : decode cX0_shapeOf 89 = .ok (.aload_n 3, 1) := dk_45 (dk_at dksX0_shapeOf_3 19 rfl rfl)
theorem dX0_shapeOf_90 : decode cX0_shapeOf 90 = .ok (.iload 8, 2) := dk_21 8 (dk_at dksX0_shapeOf_3 20 rfl rfl)
theorem dX0_shapeOf_92 : decode cX0_shapeOf 92 = .ok (.iload 7, 2) := dk_21 7 (dk_at dksX0_shapeOf_3 22 rfl rfl)
theorem dX0_shapeOf_94 : decode cX0_shapeOf 94 = .ok (.iastore, 1) := dk_79 (dk_at dksX0_shapeOf_4 0 rfl rfl)
theorem dX0_shapeOf_95 : decode cX0_shapeOf 95 = .ok (.iinc 4 1, 3) := dk_132 4 1 (dk_at dksX0_shapeOf_4 1 rfl rfl)
theorem dX0_shapeOf_98 : decode cX0_shapeOf 98 = .ok (.iload 5, 2) := dk_21 5 (dk_at dksX0_shapeOf_4 4 rfl rfl)
theorem dX0_shapeOf_100 : decode cX0_shapeOf 100 = .ok (.iload 5, 2) := dk_21 5 (dk_at dksX0_shapeOf_4 6 rfl rfl)
theorem dX0_shapeOf_102 : decode cX0_shapeOf 102 = .ok (.iconst 1, 1) := dk_4 (dk_at dksX0_shapeOf_4 8 rfl rfl)
theorem dX0_shapeOf_103 : decode cX0_shapeOf 103 = .ok (.isub, 1) := dk_100 (dk_at dksX0_shapeOf_4 9 rfl rfl)
theorem dX0_shapeOf_104 : decode cX0_shapeOf 104 = .ok (.iand, 1) := dk_126 (dk_at dksX0_shapeOf_4 10 rfl rfl)
theorem dX0_shapeOf_105 : decode cX0_shapeOf 105 = .ok (.istore 5, 2) := dk_54 5 (dk_at dksX0_shapeOf_4 11 rfl rfl)
theorem dX0_shapeOf_107 : decode cX0_shapeOf 107 = .ok (.goto (-81), 3) := dk_167 255 175 (dk_at dksX0_shapeOf_4 13 rfl rfl)
theorem dX0_shapeOf_110 : decode cX0_shapeOf 110 = .ok (.iconst 1, 1) := dk_4 (dk_at dksX0_shapeOf_4 16 rfl rfl)
theorem dX0_shapeOf_111 : decode cX0_shapeOf 111 = .ok (.istore 5, 2) := dk_54 5 (dk_at dksX0_shapeOf_4 17 rfl rfl)
theorem dX0_shapeOf_113 : decode cX0_shapeOf 113 = .ok (.iconst 0, 1) := dk_3 (dk_at dksX0_shapeOf_4 19 rfl rfl)
theorem dX0_shapeOf_114 : decode cX0_shapeOf 114 = .ok (.istore 6, 2) := dk_54 6 (dk_at dksX0_shapeOf_4 20 rfl rfl)
theorem dX0_shapeOf_116 : decode cX0_shapeOf 116 = .ok (.iload 6, 2) := dk_21 6 (dk_at dksX0_shapeOf_4 22 rfl rfl)
theorem dX0_shapeOf_118 : decode cX0_shapeOf 118 = .ok (.iload 4, 2) := dk_21 4 (dk_at dksX0_shapeOf_5 0 rfl rfl)
theorem dX0_shapeOf_120 : decode cX0_shapeOf 120 = .ok (.if_icmp .ge 29, 3) := dk_162 0 29 (dk_at dksX0_shapeOf_5 2 rfl rfl)
theorem dX0_shapeOf_123 : decode cX0_shapeOf 123 = .ok (.iload 5, 2) := dk_21 5 (dk_at dksX0_shapeOf_5 5 rfl rfl)
theorem dX0_shapeOf_125 : decode cX0_shapeOf 125 = .ok (.bipush 32, 2) := dk_16 32 (dk_at dksX0_shapeOf_5 7 rfl rfl)
theorem dX0_shapeOf_127 : decode cX0_shapeOf 127 = .ok (.aload_n 3, 1) := dk_45 (dk_at dksX0_shapeOf_5 9 rfl rfl)
theorem dX0_shapeOf_128 : decode cX0_shapeOf 128 = .ok (.iload 6, 2) := dk_21 6 (dk_at dksX0_shapeOf_5 10 rfl rfl)
theorem dX0_shapeOf_130 : decode cX0_shapeOf 130 = .ok (.iaload, 1) := dk_46 (dk_at dksX0_shapeOf_5 12 rfl rfl)
theorem dX0_shapeOf_131 : decode cX0_shapeOf 131 = .ok (.invokestatic 209, 3) := dk_184 0 209 (dk_at dksX0_shapeOf_5 13 rfl rfl)
theorem dX0_shapeOf_134 : decode cX0_shapeOf 134 = .ok (.isub, 1) := dk_100 (dk_at dksX0_shapeOf_5 16 rfl rfl)
theorem dX0_shapeOf_135 : decode cX0_shapeOf 135 = .ok (.ishl, 1) := dk_120 (dk_at dksX0_shapeOf_5 17 rfl rfl)
theorem dX0_shapeOf_136 : decode cX0_shapeOf 136 = .ok (.aload_n 3, 1) := dk_45 (dk_at dksX0_shapeOf_5 18 rfl rfl)
theorem dX0_shapeOf_137 : decode cX0_shapeOf 137 = .ok (.iload 6, 2) := dk_21 6 (dk_at dksX0_shapeOf_5 19 rfl rfl)
theorem dX0_shapeOf_139 : decode cX0_shapeOf 139 = .ok (.iaload, 1) := dk_46 (dk_at dksX0_shapeOf_5 21 rfl rfl)
theorem dX0_shapeOf_140 : decode cX0_shapeOf 140 = .ok (.ior, 1) := dk_128 (dk_at dksX0_shapeOf_5 22 rfl rfl)
theorem dX0_shapeOf_141 : decode cX0_shapeOf 141 = .ok (.istore 5, 2) := dk_54 5 (dk_at dksX0_shapeOf_6 0 rfl rfl)
theorem dX0_shapeOf_143 : decode cX0_shapeOf 143 = .ok (.iinc 6 1, 3) := dk_132 6 1 (dk_at dksX0_shapeOf_6 2 rfl rfl)
theorem dX0_shapeOf_146 : decode cX0_shapeOf 146 = .ok (.goto (-30), 3) := dk_167 255 226 (dk_at dksX0_shapeOf_6 5 rfl rfl)
theorem dX0_shapeOf_149 : decode cX0_shapeOf 149 = .ok (.iload 5, 2) := dk_21 5 (dk_at dksX0_shapeOf_6 8 rfl rfl)
theorem dX0_shapeOf_151 : decode cX0_shapeOf 151 = .ok (.iconst 1, 1) := dk_4 (dk_at dksX0_shapeOf_6 10 rfl rfl)
theorem dX0_shapeOf_152 : decode cX0_shapeOf 152 = .ok (.ishl, 1) := dk_120 (dk_at dksX0_shapeOf_6 11 rfl rfl)
theorem dX0_shapeOf_153 : decode cX0_shapeOf 153 = .ok (.ireturn, 1) := dk_172 (dk_at dksX0_shapeOf_6 12 rfl rfl)
abbrev cX0_pairs : ByteArray := prog_1_method_42_code
def yX0_pairs : MethodName := ⟨RX0, "pairs", "()I"⟩
def dkwX0_pairs_0 : List UInt8 := [42, 182, 0, 150, 153, 0, 8, 16, 253, 167, 0, 11, 42, 3, 16, 247, 3, 182, 0, 222, 172]
abbrev dktX0_pairs_0 : List UInt8 := dkwX0_pairs_0 ++ []
theorem dksX0_pairs_0 : cX0_pairs.data.toList.drop 0 = dktX0_pairs_0 := by decide +kernel
theorem dX0_pairs_0 : decode cX0_pairs 0 = .ok (.aload_n 0, 1) := dk_42 (dk_at dksX0_pairs_0 0 rfl rfl)
theorem dX0_pairs_1 : decode cX0_pairs 1 = .ok (.invokevirtual 150, 3) := dk_182 0 150 (dk_at dksX0_pairs_0 1 rfl rfl)
theorem dX0_pairs_4 : decode cX0_pairs 4 = .ok (.ifCond .eq 8, 3) := dk_153 0 8 (dk_at dksX0_pairs_0 4 rfl rfl)
theorem dX0_pairs_7 : decode cX0_pairs 7 = .ok (.bipush (-3), 2) := dk_16 253 (dk_at dksX0_pairs_0 7 rfl rfl)
theorem dX0_pairs_9 : decode cX0_pairs 9 = .ok (.goto 11, 3) := dk_167 0 11 (dk_at dksX0_pairs_0 9 rfl rfl)
theorem dX0_pairs_12 : decode cX0_pairs 12 = .ok (.aload_n 0, 1) := dk_42 (dk_at dksX0_pairs_0 12 rfl rfl)
theorem dX0_pairs_13 : decode cX0_pairs 13 = .ok (.iconst 0, 1) := dk_3 (dk_at dksX0_pairs_0 13 rfl rfl)
theorem dX0_pairs_14 : decode cX0_pairs 14 = .ok (.bipush (-9), 2) := dk_16 247 (dk_at dksX0_pairs_0 14 rfl rfl)
theorem dX0_pairs_16 : decode cX0_pairs 16 = .ok (.iconst 0, 1) := dk_3 (dk_at dksX0_pairs_0 16 rfl rfl)
theorem dX0_pairs_17 : decode cX0_pairs 17 = .ok (.invokevirtual 222, 3) := dk_182 0 222 (dk_at dksX0_pairs_0 17 rfl rfl)
theorem dX0_pairs_20 : decode cX0_pairs 20 = .ok (.ireturn, 1) := dk_172 (dk_at dksX0_pairs_0 20 rfl rfl)
abbrev cX0_pairsBelow : ByteArray := prog_1_method_41_code
def yX0_pairsBelow : MethodName := ⟨RX0, "pairsBelow", "(IIZ)I"⟩
def dkwX0_pairsBelow_4 : List UInt8 := [21, 4, 21, 5, 153, 0, 11, 29, 154, 0, 7, 4, 167, 0, 4, 3, 96, 172]
abbrev dktX0_pairsBelow_4 : List UInt8 := dkwX0_pairsBelow_4 ++ []
def dkwX0_pairsBelow_3 : List UInt8 := [160, 0, 7, 4, 167, 0, 4, 3, 128, 54, 5, 21, 6, 21, 6, 4, 100, 126, 54, 6, 167, 255, 189]
abbrev dktX0_pairsBelow_3 : List UInt8 := dkwX0_pairsBelow_3 ++ dktX0_pairsBelow_4
def dkwX0_pairsBelow_2 : List UInt8 := [182, 0, 222, 54, 8, 21, 4, 21, 8, 96, 54, 4, 21, 5, 42, 21, 7, 27, 4, 182, 0, 222, 21, 8]
abbrev dktX0_pairsBelow_2 : List UInt8 := dkwX0_pairsBelow_2 ++ dktX0_pairsBelow_3
def dkwX0_pairsBelow_1 : List UInt8 := [21, 6, 153, 0, 68, 21, 6, 184, 0, 78, 54, 7, 21, 7, 28, 159, 0, 43, 42, 21, 7, 27, 3]
abbrev dktX0_pairsBelow_1 : List UInt8 := dkwX0_pairsBelow_1 ++ dktX0_pairsBelow_2
def dkwX0_pairsBelow_0 : List UInt8 := [3, 54, 4, 3, 54, 5, 42, 180, 0, 12, 27, 185, 0, 70, 2, 0, 192, 0, 31, 180, 0, 74, 54, 6]
abbrev dktX0_pairsBelow_0 : List UInt8 := dkwX0_pairsBelow_0 ++ dktX0_pairsBelow_1
theorem dksX0_pairsBelow_0 : cX0_pairsBelow.data.toList.drop 0 = dktX0_pairsBelow_0 := by decide +kernel
theorem dksX0_pairsBelow_1 : cX0_pairsBelow.data.toList.drop 24 = dktX0_pairsBelow_1 := dk_seg dksX0_pairsBelow_0 24 rfl rfl
theorem dksX0_pairsBelow_2 : cX0_pairsBelow.data.toList.drop 47 = dktX0_pairsBelow_2 := dk_seg dksX0_pairsBelow_1 23 rfl rfl
theorem dksX0_pairsBelow_3 : cX0_pairsBelow.data.toList.drop 71 = dktX0_pairsBelow_3 := dk_seg dksX0_pairsBelow_2 24 rfl rfl
theorem dksX0_pairsBelow_4 : cX0_pairsBelow.data.toList.drop 94 = dktX0_pairsBelow_4 := dk_seg dksX0_pairsBelow_3 23 rfl rfl
theorem dX0_pairsBelow_0 : decode cX0_pairsBelow 0 = .ok (.iconst 0, 1) := dk_3 (dk_at dksX0_pairsBelow_0 0 rfl rfl)
theorem dX0_pairsBelow_1 : decode cX0_pairsBelow 1 = .ok (.istore 4, 2) := dk_54 4 (dk_at dksX0_pairsBelow_0 1 rfl rfl)
theorem dX0_pairsBelow_3 : decode cX0_pairsBelow 3 = .ok (.iconst 0, 1) := dk_3 (dk_at dksX0_pairsBelow_0 3 rfl rfl)
theorem dX0_pairsBelow_4 : decode cX0_pairsBelow 4 = .ok (.istore 5, 2) := dk_54 5 (dk_at dksX0_pairsBelow_0 4 rfl rfl)
theorem dX0_pairsBelow_6 : decode cX0_pairsBelow 6 = .ok (.aload_n 0, 1) := dk_42 (dk_at dksX0_pairsBelow_0 6 rfl rfl)
theorem dX0_pairsBelow_7 : decode cX0_pairsBelow 7 = .ok (.getfield 12, 3) := dk_180 0 12 (dk_at dksX0_pairsBelow_0 7 rfl rfl)
theorem dX0_pairsBelow_10 : decode cX0_pairsBelow 10 = .ok (.iload_n 1, 1) := dk_27 (dk_at dksX0_pairsBelow_0 10 rfl rfl)
theorem dX0_pairsBelow_11 : decode cX0_pairsBelow 11 = .ok (.invokeinterface 70 2, 5) := by decide +kernel
theorem dX0_pairsBelow_16 : decode cX0_pairsBelow 16 = .ok (.checkcast 31, 3) := dk_192 0 31 (dk_at dksX0_pairsBelow_0 16 rfl rfl)
theorem dX0_pairsBelow_19 : decode cX0_pairsBelow 19 = .ok (.getfield 74, 3) := dk_180 0 74 (dk_at dksX0_pairsBelow_0 19 rfl rfl)
theorem dX0_pairsBelow_22 : decode cX0_pairsBelow 22 = .ok (.istore 6, 2) := dk_54 6 (dk_at dksX0_pairsBelow_0 22 rfl rfl)
theorem dX0_pairsBelow_24 : decode cX0_pairsBelow 24 = .ok (.iload 6, 2) := dk_21 6 (dk_at dksX0_pairsBelow_1 0 rfl rfl)
theorem dX0_pairsBelow_26 : decode cX0_pairsBelow 26 = .ok (.ifCond .eq 68, 3) := dk_153 0 68 (dk_at dksX0_pairsBelow_1 2 rfl rfl)
theorem dX0_pairsBelow_29 : decode cX0_pairsBelow 29 = .ok (.iload 6, 2) := dk_21 6 (dk_at dksX0_pairsBelow_1 5 rfl rfl)
theorem dX0_pairsBelow_31 : decode cX0_pairsBelow 31 = .ok (.invokestatic 78, 3) := dk_184 0 78 (dk_at dksX0_pairsBelow_1 7 rfl rfl)
theorem dX0_pairsBelow_34 : decode cX0_pairsBelow 34 = .ok (.istore 7, 2) := dk_54 7 (dk_at dksX0_pairsBelow_1 10 rfl rfl)
theorem dX0_pairsBelow_36 : decode cX0_pairsBelow 36 = .ok (.iload 7, 2) := dk_21 7 (dk_at dksX0_pairsBelow_1 12 rfl rfl)
theorem dX0_pairsBelow_38 : decode cX0_pairsBelow 38 = .ok (.iload_n 2, 1) := dk_28 (dk_at dksX0_pairsBelow_1 14 rfl rfl)
theorem dX0_pairsBelow_39 : decode cX0_pairsBelow 39 = .ok (.if_icmp .eq 43, 3) := dk_159 0 43 (dk_at dksX0_pairsBelow_1 15 rfl rfl)
theorem dX0_pairsBelow_42 : decode cX0_pairsBelow 42 = .ok (.aload_n 0, 1) := dk_42 (dk_at dksX0_pairsBelow_1 18 rfl rfl)
theorem dX0_pairsBelow_43 : decode cX0_pairsBelow 43 = .ok (.iload 7, 2) := dk_21 7 (dk_at dksX0_pairsBelow_1 19 rfl rfl)
theorem dX0_pairsBelow_45 : decode cX0_pairsBelow 45 = .ok (.iload_n 1, 1) := dk_27 (dk_at dksX0_pairsBelow_1 21 rfl rfl)
theorem dX0_pairsBelow_46 : decode cX0_pairsBelow 46 = .ok (.iconst 0, 1) := dk_3 (dk_at dksX0_pairsBelow_1 22 rfl rfl)
theorem dX0_pairsBelow_47 : decode cX0_pairsBelow 47 = .ok (.invokevirtual 222, 3) := dk_182 0 222 (dk_at dksX0_pairsBelow_2 0 rfl rfl)
theorem dX0_pairsBelow_50 : decode cX0_pairsBelow 50 = .ok (.istore 8, 2) := dk_54 8 (dk_at dksX0_pairsBelow_2 3 rfl rfl)
theorem dX0_pairsBelow_52 : decode cX0_pairsBelow 52 = .ok (.iload 4, 2) := dk_21 4 (dk_at dksX0_pairsBelow_2 5 rfl rfl)
theorem dX0_pairsBelow_54 : decode cX0_pairsBelow 54 = .ok (.iload 8, 2) := dk_21 8 (dk_at dksX0_pairsBelow_2 7 rfl rfl)
theorem dX0_pairsBelow_56 : decode cX0_pairsBelow 56 = .ok (.iadd, 1) := dk_96 (dk_at dksX0_pairsBelow_2 9 rfl rfl)
theorem dX0_pairsBelow_57 : decode cX0_pairsBelow 57 = .ok (.istore 4, 2) := dk_54 4 (dk_at dksX0_pairsBelow_2 10 rfl rfl)
theorem dX0_pairsBelow_59 : decode cX0_pairsBelow 59 = .ok (.iload 5, 2) := dk_21 5 (dk_at dksX0_pairsBelow_2 12 rfl rfl)
theorem dX0_pairsBelow_61 : decode cX0_pairsBelow 61 = .ok (.aload_n 0, 1) := dk_42 (dk_at dksX0_pairsBelow_2 14 rfl rfl)
theorem dX0_pairsBelow_62 : decode cX0_pairsBelow 62 = .ok (.iload 7, 2) := dk_21 7 (dk_at dksX0_pairsBelow_2 15 rfl rfl)
theorem dX0_pairsBelow_64 : decode cX0_pairsBelow 64 = .ok (.iload_n 1, 1) := dk_27 (dk_at dksX0_pairsBelow_2 17 rfl rfl)
theorem dX0_pairsBelow_65 : decode cX0_pairsBelow 65 = .ok (.iconst 1, 1) := dk_4 (dk_at dksX0_pairsBelow_2 18 rfl rfl)
theorem dX0_pairsBelow_66 : decode cX0_pairsBelow 66 = .ok (.invokevirtual 222, 3) := dk_182 0 222 (dk_at dksX0_pairsBelow_2 19 rfl rfl)
theorem dX0_pairsBelow_69 : decode cX0_pairsBelow 69 = .ok (.iload 8, 2) := dk_21 8 (dk_at dksX0_pairsBelow_2 22 rfl rfl)
theorem dX0_pairsBelow_71 : decode cX0_pairsBelow 71 = .ok (.if_icmp .ne 7, 3) := dk_160 0 7 (dk_at dksX0_pairsBelow_3 0 rfl rfl)
theorem dX0_pairsBelow_74 : decode cX0_pairsBelow 74 = .ok (.iconst 1, 1) := dk_4 (dk_at dksX0_pairsBelow_3 3 rfl rfl)
theorem dX0_pairsBelow_75 : decode cX0_pairsBelow 75 = .ok (.goto 4, 3) := dk_167 0 4 (dk_at dksX0_pairsBelow_3 4 rfl rfl)
theorem dX0_pairsBelow_78 : decode cX0_pairsBelow 78 = .ok (.iconst 0, 1) := dk_3 (dk_at dksX0_pairsBelow_3 7 rfl rfl)
theorem dX0_pairsBelow_79 : decode cX0_pairsBelow 79 = .ok (.ior, 1) := dk_128 (dk_at dksX0_pairsBelow_3 8 rfl rfl)
theorem dX0_pairsBelow_80 : decode cX0_pairsBelow 80 = .ok (.istore 5, 2) := dk_54 5 (dk_at dksX0_pairsBelow_3 9 rfl rfl)
theorem dX0_pairsBelow_82 : decode cX0_pairsBelow 82 = .ok (.iload 6, 2) := dk_21 6 (dk_at dksX0_pairsBelow_3 11 rfl rfl)
theorem dX0_pairsBelow_84 : decode cX0_pairsBelow 84 = .ok (.iload 6, 2) := dk_21 6 (dk_at dksX0_pairsBelow_3 13 rfl rfl)
theorem dX0_pairsBelow_86 : decode cX0_pairsBelow 86 = .ok (.iconst 1, 1) := dk_4 (dk_at dksX0_pairsBelow_3 15 rfl rfl)
theorem dX0_pairsBelow_87 : decode cX0_pairsBelow 87 = .ok (.isub, 1) := dk_100 (dk_at dksX0_pairsBelow_3 16 rfl rfl)
theorem dX0_pairsBelow_88 : decode cX0_pairsBelow 88 = .ok (.iand, 1) := dk_126 (dk_at dksX0_pairsBelow_3 17 rfl rfl)
theorem dX0_pairsBelow_89 : decode cX0_pairsBelow 89 = .ok (.istore 6, 2) := dk_54 6 (dk_at dksX0_pairsBelow_3 18 rfl rfl)
theorem dX0_pairsBelow_91 : decode cX0_pairsBelow 91 = .ok (.goto (-67), 3) := dk_167 255 189 (dk_at dksX0_pairsBelow_3 20 rfl rfl)
theorem dX0_pairsBelow_94 : decode cX0_pairsBelow 94 = .ok (.iload 4, 2) := dk_21 4 (dk_at dksX0_pairsBelow_4 0 rfl rfl)
theorem dX0_pairsBelow_96 : decode cX0_pairsBelow 96 = .ok (.iload 5, 2) := dk_21 5 (dk_at dksX0_pairsBelow_4 2 rfl rfl)
theorem dX0_pairsBelow_98 : decode cX0_pairsBelow 98 = .ok (.ifCond .eq 11, 3) := dk_153 0 11 (dk_at dksX0_pairsBelow_4 4 rfl rfl)
theorem dX0_pairsBelow_101 : decode cX0_pairsBelow 101 = .ok (.iload_n 3, 1) := dk_29 (dk_at dksX0_pairsBelow_4 7 rfl rfl)
theorem dX0_pairsBelow_102 : decode cX0_pairsBelow 102 = .ok (.ifCond .ne 7, 3) := dk_154 0 7 (dk_at dksX0_pairsBelow_4 8 rfl rfl)
theorem dX0_pairsBelow_105 : decode cX0_pairsBelow 105 = .ok (.iconst 1, 1) := dk_4 (dk_at dksX0_pairsBelow_4 11 rfl rfl)
theorem dX0_pairsBelow_106 : decode cX0_pairsBelow 106 = .ok (.goto 4, 3) := dk_167 0 4 (dk_at dksX0_pairsBelow_4 12 rfl rfl)
theorem dX0_pairsBelow_109 : decode cX0_pairsBelow 109 = .ok (.iconst 0, 1) := dk_3 (dk_at dksX0_pairsBelow_4 15 rfl rfl)
theorem dX0_pairsBelow_110 : decode cX0_pairsBelow 110 = .ok (.iadd, 1) := dk_96 (dk_at dksX0_pairsBelow_4 16 rfl rfl)
theorem dX0_pairsBelow_111 : decode cX0_pairsBelow 111 = .ok (.ireturn, 1) := dk_172 (dk_at dksX0_pairsBelow_4 17 rfl rfl)
abbrev cX0_loners : ByteArray := prog_1_method_44_code
def yX0_loners : MethodName := ⟨RX0, "loners", "(I)I"⟩
def dkwX0_loners_3 : List UInt8 := [132, 3, 1, 167, 255, 211, 27, 154, 0, 11, 42, 28, 182, 0, 185, 167, 0, 4, 28, 172]
abbrev dktX0_loners_3 : List UInt8 := dkwX0_loners_3 ++ []
def dkwX0_loners_2 : List UInt8 := [153, 0, 20, 42, 29, 182, 0, 185, 42, 28, 182, 0, 185, 164, 0, 7, 29, 167, 0, 4, 28, 61]
abbrev dktX0_loners_2 : List UInt8 := dkwX0_loners_2 ++ dktX0_loners_3
def dkwX0_loners_1 : List UInt8 := [61, 4, 62, 29, 4, 42, 180, 0, 12, 185, 0, 48, 1, 0, 120, 162, 0, 36, 42, 29, 182, 0, 226]
abbrev dktX0_loners_1 : List UInt8 := dkwX0_loners_1 ++ dktX0_loners_2
def dkwX0_loners_0 : List UInt8 := [27, 133, 9, 10, 184, 0, 52, 154, 0, 6, 16, 254, 172, 42, 182, 0, 150, 153, 0, 6, 16, 253, 172, 3]
abbrev dktX0_loners_0 : List UInt8 := dkwX0_loners_0 ++ dktX0_loners_1
theorem dksX0_loners_0 : cX0_loners.data.toList.drop 0 = dktX0_loners_0 := by decide +kernel
theorem dksX0_loners_1 : cX0_loners.data.toList.drop 24 = dktX0_loners_1 := dk_seg dksX0_loners_0 24 rfl rfl
theorem dksX0_loners_2 : cX0_loners.data.toList.drop 47 = dktX0_loners_2 := dk_seg dksX0_loners_1 23 rfl rfl
theorem dksX0_loners_3 : cX0_loners.data.toList.drop 69 = dktX0_loners_3 := dk_seg dksX0_loners_2 22 rfl rfl
theorem dX0_loners_0 : decode cX0_loners 0 = .ok (.iload_n 1, 1) := dk_27 (dk_at dksX0_loners_0 0 rfl rfl)
theorem dX0_loners_1 : decode cX0_loners 1 = .ok (.i2l, 1) := dk_133 (dk_at dksX0_loners_0 1 rfl rfl)
theorem dX0_loners_2 : decode cX0_loners 2 = .ok (.lconst 0, 1) := dk_9 (dk_at dksX0_loners_0 2 rfl rfl)
theorem dX0_loners_3 : decode cX0_loners 3 = .ok (.lconst 1, 1) := dk_10 (dk_at dksX0_loners_0 3 rfl rfl)
theorem dX0_loners_4 : decode cX0_loners 4 = .ok (.invokestatic 52, 3) := dk_184 0 52 (dk_at dksX0_loners_0 4 rfl rfl)
theorem dX0_loners_7 : decode cX0_loners 7 = .ok (.ifCond .ne 6, 3) := dk_154 0 6 (dk_at dksX0_loners_0 7 rfl rfl)
theorem dX0_loners_10 : decode cX0_loners 10 = .ok (.bipush (-2), 2) := dk_16 254 (dk_at dksX0_loners_0 10 rfl rfl)
theorem dX0_loners_12 : decode cX0_loners 12 = .ok (.ireturn, 1) := dk_172 (dk_at dksX0_loners_0 12 rfl rfl)
theorem dX0_loners_13 : decode cX0_loners 13 = .ok (.aload_n 0, 1) := dk_42 (dk_at dksX0_loners_0 13 rfl rfl)
theorem dX0_loners_14 : decode cX0_loners 14 = .ok (.invokevirtual 150, 3) := dk_182 0 150 (dk_at dksX0_loners_0 14 rfl rfl)
theorem dX0_loners_17 : decode cX0_loners 17 = .ok (.ifCond .eq 6, 3) := dk_153 0 6 (dk_at dksX0_loners_0 17 rfl rfl)
theorem dX0_loners_20 : decode cX0_loners 20 = .ok (.bipush (-3), 2) := dk_16 253 (dk_at dksX0_loners_0 20 rfl rfl)
theorem dX0_loners_22 : decode cX0_loners 22 = .ok (.ireturn, 1) := dk_172 (dk_at dksX0_loners_0 22 rfl rfl)
theorem dX0_loners_23 : decode cX0_loners 23 = .ok (.iconst 0, 1) := dk_3 (dk_at dksX0_loners_0 23 rfl rfl)
theorem dX0_loners_24 : decode cX0_loners 24 = .ok (.istore_n 2, 1) := dk_61 (dk_at dksX0_loners_1 0 rfl rfl)
theorem dX0_loners_25 : decode cX0_loners 25 = .ok (.iconst 1, 1) := dk_4 (dk_at dksX0_loners_1 1 rfl rfl)
theorem dX0_loners_26 : decode cX0_loners 26 = .ok (.istore_n 3, 1) := dk_62 (dk_at dksX0_loners_1 2 rfl rfl)
theorem dX0_loners_27 : decode cX0_loners 27 = .ok (.iload_n 3, 1) := dk_29 (dk_at dksX0_loners_1 3 rfl rfl)
theorem dX0_loners_28 : decode cX0_loners 28 = .ok (.iconst 1, 1) := dk_4 (dk_at dksX0_loners_1 4 rfl rfl)
theorem dX0_loners_29 : decode cX0_loners 29 = .ok (.aload_n 0, 1) := dk_42 (dk_at dksX0_loners_1 5 rfl rfl)
theorem dX0_loners_30 : decode cX0_loners 30 = .ok (.getfield 12, 3) := dk_180 0 12 (dk_at dksX0_loners_1 6 rfl rfl)
theorem dX0_loners_33 : decode cX0_loners 33 = .ok (.invokeinterface 48 1, 5) := by decide +kernel
theorem dX0_loners_38 : decode cX0_loners 38 = .ok (.ishl, 1) := dk_120 (dk_at dksX0_loners_1 14 rfl rfl)
theorem dX0_loners_39 : decode cX0_loners 39 = .ok (.if_icmp .ge 36, 3) := dk_162 0 36 (dk_at dksX0_loners_1 15 rfl rfl)
theorem dX0_loners_42 : decode cX0_loners 42 = .ok (.aload_n 0, 1) := dk_42 (dk_at dksX0_loners_1 18 rfl rfl)
theorem dX0_loners_43 : decode cX0_loners 43 = .ok (.iload_n 3, 1) := dk_29 (dk_at dksX0_loners_1 19 rfl rfl)
theorem dX0_loners_44 : decode cX0_loners 44 = .ok (.invokevirtual 226, 3) := dk_182 0 226 (dk_at dksX0_loners_1 20 rfl rfl)
theorem dX0_loners_47 : decode cX0_loners 47 = .ok (.ifCond .eq 20, 3) := dk_153 0 20 (dk_at dksX0_loners_2 0 rfl rfl)
theorem dX0_loners_50 : decode cX0_loners 50 = .ok (.aload_n 0, 1) := dk_42 (dk_at dksX0_loners_2 3 rfl rfl)
theorem dX0_loners_51 : decode cX0_loners 51 = .ok (.iload_n 3, 1) := dk_29 (dk_at dksX0_loners_2 4 rfl rfl)
theorem dX0_loners_52 : decode cX0_loners 52 = .ok (.invokevirtual 185, 3) := dk_182 0 185 (dk_at dksX0_loners_2 5 rfl rfl)
theorem dX0_loners_55 : decode cX0_loners 55 = .ok (.aload_n 0, 1) := dk_42 (dk_at dksX0_loners_2 8 rfl rfl)
theorem dX0_loners_56 : decode cX0_loners 56 = .ok (.iload_n 2, 1) := dk_28 (dk_at dksX0_loners_2 9 rfl rfl)
theorem dX0_loners_57 : decode cX0_loners 57 = .ok (.invokevirtual 185, 3) := dk_182 0 185 (dk_at dksX0_loners_2 10 rfl rfl)
theorem dX0_loners_60 : decode cX0_loners 60 = .ok (.if_icmp .le 7, 3) := dk_164 0 7 (dk_at dksX0_loners_2 13 rfl rfl)
theorem dX0_loners_63 : decode cX0_loners 63 = .ok (.iload_n 3, 1) := dk_29 (dk_at dksX0_loners_2 16 rfl rfl)
theorem dX0_loners_64 : decode cX0_loners 64 = .ok (.goto 4, 3) := dk_167 0 4 (dk_at dksX0_loners_2 17 rfl rfl)
theorem dX0_loners_67 : decode cX0_loners 67 = .ok (.iload_n 2, 1) := dk_28 (dk_at dksX0_loners_2 20 rfl rfl)
theorem dX0_loners_68 : decode cX0_loners 68 = .ok (.istore_n 2, 1) := dk_61 (dk_at dksX0_loners_2 21 rfl rfl)
theorem dX0_loners_69 : decode cX0_loners 69 = .ok (.iinc 3 1, 3) := dk_132 3 1 (dk_at dksX0_loners_3 0 rfl rfl)
theorem dX0_loners_72 : decode cX0_loners 72 = .ok (.goto (-45), 3) := dk_167 255 211 (dk_at dksX0_loners_3 3 rfl rfl)
theorem dX0_loners_75 : decode cX0_loners 75 = .ok (.iload_n 1, 1) := dk_27 (dk_at dksX0_loners_3 6 rfl rfl)
theorem dX0_loners_76 : decode cX0_loners 76 = .ok (.ifCond .ne 11, 3) := dk_154 0 11 (dk_at dksX0_loners_3 7 rfl rfl)
theorem dX0_loners_79 : decode cX0_loners 79 = .ok (.aload_n 0, 1) := dk_42 (dk_at dksX0_loners_3 10 rfl rfl)
theorem dX0_loners_80 : decode cX0_loners 80 = .ok (.iload_n 2, 1) := dk_28 (dk_at dksX0_loners_3 11 rfl rfl)
theorem dX0_loners_81 : decode cX0_loners 81 = .ok (.invokevirtual 185, 3) := dk_182 0 185 (dk_at dksX0_loners_3 12 rfl rfl)
theorem dX0_loners_84 : decode cX0_loners 84 = .ok (.goto 4, 3) := dk_167 0 4 (dk_at dksX0_loners_3 15 rfl rfl)
theorem dX0_loners_87 : decode cX0_loners 87 = .ok (.iload_n 2, 1) := dk_28 (dk_at dksX0_loners_3 18 rfl rfl)
theorem dX0_loners_88 : decode cX0_loners 88 = .ok (.ireturn, 1) := dk_172 (dk_at dksX0_loners_3 19 rfl rfl)
abbrev cX0_areApart : ByteArray := prog_1_method_43_code
def yX0_areApart : MethodName := ⟨RX0, "areApart", "(I)Z"⟩
def dkwX0_areApart_2 : List UInt8 := [4, 167, 0, 4, 3, 126, 61, 132, 3, 1, 167, 255, 203, 28, 172]
abbrev dktX0_areApart_2 : List UInt8 := dkwX0_areApart_2 ++ []
def dkwX0_areApart_1 : List UInt8 := [153, 0, 24, 42, 180, 0, 12, 29, 185, 0, 70, 2, 0, 192, 0, 31, 180, 0, 74, 27, 126, 154, 0, 7]
abbrev dktX0_areApart_1 : List UInt8 := dkwX0_areApart_1 ++ dktX0_areApart_2
def dkwX0_areApart_0 : List UInt8 := [4, 61, 3, 62, 29, 42, 180, 0, 12, 185, 0, 48, 1, 0, 162, 0, 46, 28, 27, 29, 184, 0, 144]
abbrev dktX0_areApart_0 : List UInt8 := dkwX0_areApart_0 ++ dktX0_areApart_1
theorem dksX0_areApart_0 : cX0_areApart.data.toList.drop 0 = dktX0_areApart_0 := by decide +kernel
theorem dksX0_areApart_1 : cX0_areApart.data.toList.drop 23 = dktX0_areApart_1 := dk_seg dksX0_areApart_0 23 rfl rfl
theorem dksX0_areApart_2 : cX0_areApart.data.toList.drop 47 = dktX0_areApart_2 := dk_seg dksX0_areApart_1 24 rfl rfl
theorem dX0_areApart_0 : decode cX0_areApart 0 = .ok (.iconst 1, 1) := dk_4 (dk_at dksX0_areApart_0 0 rfl rfl)
theorem dX0_areApart_1 : decode cX0_areApart 1 = .ok (.istore_n 2, 1) := dk_61 (dk_at dksX0_areApart_0 1 rfl rfl)
theorem dX0_areApart_2 : decode cX0_areApart 2 = .ok (.iconst 0, 1) := dk_3 (dk_at dksX0_areApart_0 2 rfl rfl)
theorem dX0_areApart_3 : decode cX0_areApart 3 = .ok (.istore_n 3, 1) := dk_62 (dk_at dksX0_areApart_0 3 rfl rfl)
theorem dX0_areApart_4 : decode cX0_areApart 4 = .ok (.iload_n 3, 1) := dk_29 (dk_at dksX0_areApart_0 4 rfl rfl)
theorem dX0_areApart_5 : decode cX0_areApart 5 = .ok (.aload_n 0, 1) := dk_42 (dk_at dksX0_areApart_0 5 rfl rfl)
theorem dX0_areApart_6 : decode cX0_areApart 6 = .ok (.getfield 12, 3) := dk_180 0 12 (dk_at dksX0_areApart_0 6 rfl rfl)
theorem dX0_areApart_9 : decode cX0_areApart 9 = .ok (.invokeinterface 48 1, 5) := by decide +kernel
theorem dX0_areApart_14 : decode cX0_areApart 14 = .ok (.if_icmp .ge 46, 3) := dk_162 0 46 (dk_at dksX0_areApart_0 14 rfl rfl)
theorem dX0_areApart_17 : decode cX0_areApart 17 = .ok (.iload_n 2, 1) := dk_28 (dk_at dksX0_areApart_0 17 rfl rfl)
theorem dX0_areApart_18 : decode cX0_areApart 18 = .ok (.iload_n 1, 1) := dk_27 (dk_at dksX0_areApart_0 18 rfl rfl)
theorem dX0_areApart_19 : decode cX0_areApart 19 = .ok (.iload_n 3, 1) := dk_29 (dk_at dksX0_areApart_0 19 rfl rfl)
theorem dX0_areApart_20 : decode cX0_areApart 20 = .ok (.invokestatic 144, 3) := dk_184 0 144 (dk_at dksX0_areApart_0 20 rfl rfl)
theorem dX0_areApart_23 : decode cX0_areApart 23 = .ok (.ifCond .eq 24, 3) := dk_153 0 24 (dk_at dksX0_areApart_1 0 rfl rfl)
theorem dX0_areApart_26 : decode cX0_areApart 26 = .ok (.aload_n 0, 1) := dk_42 (dk_at dksX0_areApart_1 3 rfl rfl)
theorem dX0_areApart_27 : decode cX0_areApart 27 = .ok (.getfield 12, 3) := dk_180 0 12 (dk_at dksX0_areApart_1 4 rfl rfl)
theorem dX0_areApart_30 : decode cX0_areApart 30 = .ok (.iload_n 3, 1) := dk_29 (dk_at dksX0_areApart_1 7 rfl rfl)
theorem dX0_areApart_31 : decode cX0_areApart 31 = .ok (.invokeinterface 70 2, 5) := by decide +kernel
theorem dX0_areApart_36 : decode cX0_areApart 36 = .ok (.checkcast 31, 3) := dk_192 0 31 (dk_at dksX0_areApart_1 13 rfl rfl)
theorem dX0_areApart_39 : decode cX0_areApart 39 = .ok (.getfield 74, 3) := dk_180 0 74 (dk_at dksX0_areApart_1 16 rfl rfl)
theorem dX0_areApart_42 : decode cX0_areApart 42 = .ok (.iload_n 1, 1) := dk_27 (dk_at dksX0_areApart_1 19 rfl rfl)
theorem dX0_areApart_43 : decode cX0_areApart 43 = .ok (.iand, 1) := dk_126 (dk_at dksX0_areApart_1 20 rfl rfl)
theorem dX0_areApart_44 : decode cX0_areApart 44 = .ok (.ifCond .ne 7, 3) := dk_154 0 7 (dk_at dksX0_areApart_1 21 rfl rfl)
theorem dX0_areApart_47 : decode cX0_areApart 47 = .ok (.iconst 1, 1) := dk_4 (dk_at dksX0_areApart_2 0 rfl rfl)
theorem dX0_areApart_48 : decode cX0_areApart 48 = .ok (.goto 4, 3) := dk_167 0 4 (dk_at dksX0_areApart_2 1 rfl rfl)
theorem dX0_areApart_51 : decode cX0_areApart 51 = .ok (.iconst 0, 1) := dk_3 (dk_at dksX0_areApart_2 4 rfl rfl)
theorem dX0_areApart_52 : decode cX0_areApart 52 = .ok (.iand, 1) := dk_126 (dk_at dksX0_areApart_2 5 rfl rfl)
theorem dX0_areApart_53 : decode cX0_areApart 53 = .ok (.istore_n 2, 1) := dk_61 (dk_at dksX0_areApart_2 6 rfl rfl)
theorem dX0_areApart_54 : decode cX0_areApart 54 = .ok (.iinc 3 1, 3) := dk_132 3 1 (dk_at dksX0_areApart_2 7 rfl rfl)
theorem dX0_areApart_57 : decode cX0_areApart 57 = .ok (.goto (-53), 3) := dk_167 255 203 (dk_at dksX0_areApart_2 10 rfl rfl)
theorem dX0_areApart_60 : decode cX0_areApart 60 = .ok (.iload_n 2, 1) := dk_28 (dk_at dksX0_areApart_2 13 rfl rfl)
theorem dX0_areApart_61 : decode cX0_areApart 61 = .ok (.ireturn, 1) := dk_172 (dk_at dksX0_areApart_2 14 rfl rfl)
abbrev cX0_worthOf : ByteArray := prog_1_method_27_code
def yX0_worthOf : MethodName := ⟨RX0, "worthOf", "(I)I"⟩
def dkwX0_worthOf_2 : List UInt8 := [61, 132, 3, 1, 167, 255, 209, 28, 172]
abbrev dktX0_worthOf_2 : List UInt8 := dkwX0_worthOf_2 ++ []
def dkwX0_worthOf_1 : List UInt8 := [153, 0, 22, 42, 180, 0, 12, 29, 185, 0, 70, 2, 0, 192, 0, 31, 182, 0, 133, 167, 0, 4, 3, 96]
abbrev dktX0_worthOf_1 : List UInt8 := dkwX0_worthOf_1 ++ dktX0_worthOf_2
def dkwX0_worthOf_0 : List UInt8 := [3, 61, 3, 62, 29, 42, 180, 0, 12, 185, 0, 48, 1, 0, 162, 0, 40, 28, 27, 29, 184, 0, 144]
abbrev dktX0_worthOf_0 : List UInt8 := dkwX0_worthOf_0 ++ dktX0_worthOf_1
theorem dksX0_worthOf_0 : cX0_worthOf.data.toList.drop 0 = dktX0_worthOf_0 := by decide +kernel
theorem dksX0_worthOf_1 : cX0_worthOf.data.toList.drop 23 = dktX0_worthOf_1 := dk_seg dksX0_worthOf_0 23 rfl rfl
theorem dksX0_worthOf_2 : cX0_worthOf.data.toList.drop 47 = dktX0_worthOf_2 := dk_seg dksX0_worthOf_1 24 rfl rfl
theorem dX0_worthOf_0 : decode cX0_worthOf 0 = .ok (.iconst 0, 1) := dk_3 (dk_at dksX0_worthOf_0 0 rfl rfl)
theorem dX0_worthOf_1 : decode cX0_worthOf 1 = .ok (.istore_n 2, 1) := dk_61 (dk_at dksX0_worthOf_0 1 rfl rfl)
theorem dX0_worthOf_2 : decode cX0_worthOf 2 = .ok (.iconst 0, 1) := dk_3 (dk_at dksX0_worthOf_0 2 rfl rfl)
theorem dX0_worthOf_3 : decode cX0_worthOf 3 = .ok (.istore_n 3, 1) := dk_62 (dk_at dksX0_worthOf_0 3 rfl rfl)
theorem dX0_worthOf_4 : decode cX0_worthOf 4 = .ok (.iload_n 3, 1) := dk_29 (dk_at dksX0_worthOf_0 4 rfl rfl)
theorem dX0_worthOf_5 : decode cX0_worthOf 5 = .ok (.aload_n 0, 1) := dk_42 (dk_at dksX0_worthOf_0 5 rfl rfl)
theorem dX0_worthOf_6 : decode cX0_worthOf 6 = .ok (.getfield 12, 3) := dk_180 0 12 (dk_at dksX0_worthOf_0 6 rfl rfl)
theorem dX0_worthOf_9 : decode cX0_worthOf 9 = .ok (.invokeinterface 48 1, 5) := by decide +kernel
theorem dX0_worthOf_14 : decode cX0_worthOf 14 = .ok (.if_icmp .ge 40, 3) := dk_162 0 40 (dk_at dksX0_worthOf_0 14 rfl rfl)
theorem dX0_worthOf_17 : decode cX0_worthOf 17 = .ok (.iload_n 2, 1) := dk_28 (dk_at dksX0_worthOf_0 17 rfl rfl)
theorem dX0_worthOf_18 : decode cX0_worthOf 18 = .ok (.iload_n 1, 1) := dk_27 (dk_at dksX0_worthOf_0 18 rfl rfl)
theorem dX0_worthOf_19 : decode cX0_worthOf 19 = .ok (.iload_n 3, 1) := dk_29 (dk_at dksX0_worthOf_0 19 rfl rfl)
theorem dX0_worthOf_20 : decode cX0_worthOf 20 = .ok (.invokestatic 144, 3) := dk_184 0 144 (dk_at dksX0_worthOf_0 20 rfl rfl)
theorem dX0_worthOf_23 : decode cX0_worthOf 23 = .ok (.ifCond .eq 22, 3) := dk_153 0 22 (dk_at dksX0_worthOf_1 0 rfl rfl)
theorem dX0_worthOf_26 : decode cX0_worthOf 26 = .ok (.aload_n 0, 1) := dk_42 (dk_at dksX0_worthOf_1 3 rfl rfl)
theorem dX0_worthOf_27 : decode cX0_worthOf 27 = .ok (.getfield 12, 3) := dk_180 0 12 (dk_at dksX0_worthOf_1 4 rfl rfl)
theorem dX0_worthOf_30 : decode cX0_worthOf 30 = .ok (.iload_n 3, 1) := dk_29 (dk_at dksX0_worthOf_1 7 rfl rfl)
theorem dX0_worthOf_31 : decode cX0_worthOf 31 = .ok (.invokeinterface 70 2, 5) := by decide +kernel
theorem dX0_worthOf_36 : decode cX0_worthOf 36 = .ok (.checkcast 31, 3) := dk_192 0 31 (dk_at dksX0_worthOf_1 13 rfl rfl)
theorem dX0_worthOf_39 : decode cX0_worthOf 39 = .ok (.invokevirtual 133, 3) := dk_182 0 133 (dk_at dksX0_worthOf_1 16 rfl rfl)
theorem dX0_worthOf_42 : decode cX0_worthOf 42 = .ok (.goto 4, 3) := dk_167 0 4 (dk_at dksX0_worthOf_1 19 rfl rfl)
theorem dX0_worthOf_45 : decode cX0_worthOf 45 = .ok (.iconst 0, 1) := dk_3 (dk_at dksX0_worthOf_1 22 rfl rfl)
theorem dX0_worthOf_46 : decode cX0_worthOf 46 = .ok (.iadd, 1) := dk_96 (dk_at dksX0_worthOf_1 23 rfl rfl)
theorem dX0_worthOf_47 : decode cX0_worthOf 47 = .ok (.istore_n 2, 1) := dk_61 (dk_at dksX0_worthOf_2 0 rfl rfl)
theorem dX0_worthOf_48 : decode cX0_worthOf 48 = .ok (.iinc 3 1, 3) := dk_132 3 1 (dk_at dksX0_worthOf_2 1 rfl rfl)
theorem dX0_worthOf_51 : decode cX0_worthOf 51 = .ok (.goto (-47), 3) := dk_167 255 209 (dk_at dksX0_worthOf_2 4 rfl rfl)
theorem dX0_worthOf_54 : decode cX0_worthOf 54 = .ok (.iload_n 2, 1) := dk_28 (dk_at dksX0_worthOf_2 7 rfl rfl)
theorem dX0_worthOf_55 : decode cX0_worthOf 55 = .ok (.ireturn, 1) := dk_172 (dk_at dksX0_worthOf_2 8 rfl rfl)
abbrev cX0_part : ByteArray := prog_1_method_46_code
def yX0_part : MethodName := ⟨RX0, "part", "(II)I"⟩
def dkwX0_part_1 : List UInt8 := [180, 0, 74, 28, 184, 0, 144, 153, 0, 12, 42, 27, 28, 182, 0, 229, 167, 0, 5, 16, 253, 172]
abbrev dktX0_part_1 : List UInt8 := dkwX0_part_1 ++ []
def dkwX0_part_0 : List UInt8 := [42, 27, 28, 182, 0, 156, 153, 0, 5, 2, 172, 42, 180, 0, 12, 27, 185, 0, 70, 2, 0, 192, 0, 31]
abbrev dktX0_part_0 : List UInt8 := dkwX0_part_0 ++ dktX0_part_1
theorem dksX0_part_0 : cX0_part.data.toList.drop 0 = dktX0_part_0 := by decide +kernel
theorem dksX0_part_1 : cX0_part.data.toList.drop 24 = dktX0_part_1 := dk_seg dksX0_part_0 24 rfl rfl
theorem dX0_part_0 : decode cX0_part 0 = .ok (.aload_n 0, 1) := dk_42 (dk_at dksX0_part_0 0 rfl rfl)
theorem dX0_part_1 : decode cX0_part 1 = .ok (.iload_n 1, 1) := dk_27 (dk_at dksX0_part_0 1 rfl rfl)
theorem dX0_part_2 : decode cX0_part 2 = .ok (.iload_n 2, 1) := dk_28 (dk_at dksX0_part_0 2 rfl rfl)
theorem dX0_part_3 : decode cX0_part 3 = .ok (.invokevirtual 156, 3) := dk_182 0 156 (dk_at dksX0_part_0 3 rfl rfl)
theorem dX0_part_6 : decode cX0_part 6 = .ok (.ifCond .eq 5, 3) := dk_153 0 5 (dk_at dksX0_part_0 6 rfl rfl)
theorem dX0_part_9 : decode cX0_part 9 = .ok (.iconst (-1), 1) := dk_2 (dk_at dksX0_part_0 9 rfl rfl)
theorem dX0_part_10 : decode cX0_part 10 = .ok (.ireturn, 1) := dk_172 (dk_at dksX0_part_0 10 rfl rfl)
theorem dX0_part_11 : decode cX0_part 11 = .ok (.aload_n 0, 1) := dk_42 (dk_at dksX0_part_0 11 rfl rfl)
theorem dX0_part_12 : decode cX0_part 12 = .ok (.getfield 12, 3) := dk_180 0 12 (dk_at dksX0_part_0 12 rfl rfl)
theorem dX0_part_15 : decode cX0_part 15 = .ok (.iload_n 1, 1) := dk_27 (dk_at dksX0_part_0 15 rfl rfl)
theorem dX0_part_16 : decode cX0_part 16 = .ok (.invokeinterface 70 2, 5) := by decide +kernel
theorem dX0_part_21 : decode cX0_part 21 = .ok (.checkcast 31, 3) := dk_192 0 31 (dk_at dksX0_part_0 21 rfl rfl)
theorem dX0_part_24 : decode cX0_part 24 = .ok (.getfield 74, 3) := dk_180 0 74 (dk_at dksX0_part_1 0 rfl rfl)
theorem dX0_part_27 : decode cX0_part 27 = .ok (.iload_n 2, 1) := dk_28 (dk_at dksX0_part_1 3 rfl rfl)
theorem dX0_part_28 : decode cX0_part 28 = .ok (.invokestatic 144, 3) := dk_184 0 144 (dk_at dksX0_part_1 4 rfl rfl)
theorem dX0_part_31 : decode cX0_part 31 = .ok (.ifCond .eq 12, 3) := dk_153 0 12 (dk_at dksX0_part_1 7 rfl rfl)
theorem dX0_part_34 : decode cX0_part 34 = .ok (.aload_n 0, 1) := dk_42 (dk_at dksX0_part_1 10 rfl rfl)
theorem dX0_part_35 : decode cX0_part 35 = .ok (.iload_n 1, 1) := dk_27 (dk_at dksX0_part_1 11 rfl rfl)
theorem dX0_part_36 : decode cX0_part 36 = .ok (.iload_n 2, 1) := dk_28 (dk_at dksX0_part_1 12 rfl rfl)
theorem dX0_part_37 : decode cX0_part 37 = .ok (.invokevirtual 229, 3) := dk_182 0 229 (dk_at dksX0_part_1 13 rfl rfl)
theorem dX0_part_40 : decode cX0_part 40 = .ok (.goto 5, 3) := dk_167 0 5 (dk_at dksX0_part_1 16 rfl rfl)
theorem dX0_part_43 : decode cX0_part 43 = .ok (.bipush (-3), 2) := dk_16 253 (dk_at dksX0_part_1 19 rfl rfl)
theorem dX0_part_45 : decode cX0_part 45 = .ok (.ireturn, 1) := dk_172 (dk_at dksX0_part_1 21 rfl rfl)
abbrev cX0_worthBelow : ByteArray := prog_1_method_45_code
def yX0_worthBelow : MethodName := ⟨RX0, "worthBelow", "(II)I"⟩
def dkwX0_worthBelow_3 : List UInt8 := [21, 4, 4, 100, 126, 54, 4, 167, 255, 215, 29, 172]
abbrev dktX0_worthBelow_3 : List UInt8 := dkwX0_worthBelow_3 ++ []
def dkwX0_worthBelow_2 : List UInt8 := [54, 5, 29, 21, 5, 28, 160, 0, 7, 3, 167, 0, 10, 42, 21, 5, 27, 182, 0, 229, 96, 62, 21, 4]
abbrev dktX0_worthBelow_2 : List UInt8 := dkwX0_worthBelow_2 ++ dktX0_worthBelow_3
def dkwX0_worthBelow_1 : List UInt8 := [185, 0, 70, 2, 0, 192, 0, 31, 180, 0, 74, 54, 4, 21, 4, 153, 0, 42, 21, 4, 184, 0, 78]
abbrev dktX0_worthBelow_1 : List UInt8 := dkwX0_worthBelow_1 ++ dktX0_worthBelow_2
def dkwX0_worthBelow_0 : List UInt8 := [42, 180, 0, 12, 27, 185, 0, 70, 2, 0, 192, 0, 31, 182, 0, 133, 62, 42, 180, 0, 12, 27]
abbrev dktX0_worthBelow_0 : List UInt8 := dkwX0_worthBelow_0 ++ dktX0_worthBelow_1
theorem dksX0_worthBelow_0 : cX0_worthBelow.data.toList.drop 0 = dktX0_worthBelow_0 := by decide +kernel
theorem dksX0_worthBelow_1 : cX0_worthBelow.data.toList.drop 22 = dktX0_worthBelow_1 := dk_seg dksX0_worthBelow_0 22 rfl rfl
theorem dksX0_worthBelow_2 : cX0_worthBelow.data.toList.drop 45 = dktX0_worthBelow_2 := dk_seg dksX0_worthBelow_1 23 rfl rfl
theorem dksX0_worthBelow_3 : cX0_worthBelow.data.toList.drop 69 = dktX0_worthBelow_3 := dk_seg dksX0_worthBelow_2 24 rfl rfl
theorem dX0_worthBelow_0 : decode cX0_worthBelow 0 = .ok (.aload_n 0, 1) := dk_42 (dk_at dksX0_worthBelow_0 0 rfl rfl)
theorem dX0_worthBelow_1 : decode cX0_worthBelow 1 = .ok (.getfield 12, 3) := dk_180 0 12 (dk_at dksX0_worthBelow_0 1 rfl rfl)
theorem dX0_worthBelow_4 : decode cX0_worthBelow 4 = .ok (.iload_n 1, 1) := dk_27 (dk_at dksX0_worthBelow_0 4 rfl rfl)
theorem dX0_worthBelow_5 : decode cX0_worthBelow 5 = .ok (.invokeinterface 70 2, 5) := by decide +kernel
theorem dX0_worthBelow_10 : decode cX0_worthBelow 10 = .ok (.checkcast 31, 3) := dk_192 0 31 (dk_at dksX0_worthBelow_0 10 rfl rfl)
theorem dX0_worthBelow_13 : decode cX0_worthBelow 13 = .ok (.invokevirtual 133, 3) := dk_182 0 133 (dk_at dksX0_worthBelow_0 13 rfl rfl)
theorem dX0_worthBelow_16 : decode cX0_worthBelow 16 = .ok (.istore_n 3, 1) := dk_62 (dk_at dksX0_worthBelow_0 16 rfl rfl)
theorem dX0_worthBelow_17 : decode cX0_worthBelow 17 = .ok (.aload_n 0, 1) := dk_42 (dk_at dksX0_worthBelow_0 17 rfl rfl)
theorem dX0_worthBelow_18 : decode cX0_worthBelow 18 = .ok (.getfield 12, 3) := dk_180 0 12 (dk_at dksX0_worthBelow_0 18 rfl rfl)
theorem dX0_worthBelow_21 : decode cX0_worthBelow 21 = .ok (.iload_n 1, 1) := dk_27 (dk_at dksX0_worthBelow_0 21 rfl rfl)
theorem dX0_worthBelow_22 : decode cX0_worthBelow 22 = .ok (.invokeinterface 70 2, 5) := by decide +kernel
theorem dX0_worthBelow_27 : decode cX0_worthBelow 27 = .ok (.checkcast 31, 3) := dk_192 0 31 (dk_at dksX0_worthBelow_1 5 rfl rfl)
theorem dX0_worthBelow_30 : decode cX0_worthBelow 30 = .ok (.getfield 74, 3) := dk_180 0 74 (dk_at dksX0_worthBelow_1 8 rfl rfl)
theorem dX0_worthBelow_33 : decode cX0_worthBelow 33 = .ok (.istore 4, 2) := dk_54 4 (dk_at dksX0_worthBelow_1 11 rfl rfl)
theorem dX0_worthBelow_35 : decode cX0_worthBelow 35 = .ok (.iload 4, 2) := dk_21 4 (dk_at dksX0_worthBelow_1 13 rfl rfl)
theorem dX0_worthBelow_37 : decode cX0_worthBelow 37 = .ok (.ifCond .eq 42, 3) := dk_153 0 42 (dk_at dksX0_worthBelow_1 15 rfl rfl)
theorem dX0_worthBelow_40 : decode cX0_worthBelow 40 = .ok (.iload 4, 2) := dk_21 4 (dk_at dksX0_worthBelow_1 18 rfl rfl)
theorem dX0_worthBelow_42 : decode cX0_worthBelow 42 = .ok (.invokestatic 78, 3) := dk_184 0 78 (dk_at dksX0_worthBelow_1 20 rfl rfl)
theorem dX0_worthBelow_45 : decode cX0_worthBelow 45 = .ok (.istore 5, 2) := dk_54 5 (dk_at dksX0_worthBelow_2 0 rfl rfl)
theorem dX0_worthBelow_47 : decode cX0_worthBelow 47 = .ok (.iload_n 3, 1) := dk_29 (dk_at dksX0_worthBelow_2 2 rfl rfl)
theorem dX0_worthBelow_48 : decode cX0_worthBelow 48 = .ok (.iload 5, 2) := dk_21 5 (dk_at dksX0_worthBelow_2 3 rfl rfl)
theorem dX0_worthBelow_50 : decode cX0_worthBelow 50 = .ok (.iload_n 2, 1) := dk_28 (dk_at dksX0_worthBelow_2 5 rfl rfl)
theorem dX0_worthBelow_51 : decode cX0_worthBelow 51 = .ok (.if_icmp .ne 7, 3) := dk_160 0 7 (dk_at dksX0_worthBelow_2 6 rfl rfl)
theorem dX0_worthBelow_54 : decode cX0_worthBelow 54 = .ok (.iconst 0, 1) := dk_3 (dk_at dksX0_worthBelow_2 9 rfl rfl)
theorem dX0_worthBelow_55 : decode cX0_worthBelow 55 = .ok (.goto 10, 3) := dk_167 0 10 (dk_at dksX0_worthBelow_2 10 rfl rfl)
theorem dX0_worthBelow_58 : decode cX0_worthBelow 58 = .ok (.aload_n 0, 1) := dk_42 (dk_at dksX0_worthBelow_2 13 rfl rfl)
theorem dX0_worthBelow_59 : decode cX0_worthBelow 59 = .ok (.iload 5, 2) := dk_21 5 (dk_at dksX0_worthBelow_2 14 rfl rfl)
theorem dX0_worthBelow_61 : decode cX0_worthBelow 61 = .ok (.iload_n 1, 1) := dk_27 (dk_at dksX0_worthBelow_2 16 rfl rfl)
theorem dX0_worthBelow_62 : decode cX0_worthBelow 62 = .ok (.invokevirtual 229, 3) := dk_182 0 229 (dk_at dksX0_worthBelow_2 17 rfl rfl)
theorem dX0_worthBelow_65 : decode cX0_worthBelow 65 = .ok (.iadd, 1) := dk_96 (dk_at dksX0_worthBelow_2 20 rfl rfl)
theorem dX0_worthBelow_66 : decode cX0_worthBelow 66 = .ok (.istore_n 3, 1) := dk_62 (dk_at dksX0_worthBelow_2 21 rfl rfl)
theorem dX0_worthBelow_67 : decode cX0_worthBelow 67 = .ok (.iload 4, 2) := dk_21 4 (dk_at dksX0_worthBelow_2 22 rfl rfl)
theorem dX0_worthBelow_69 : decode cX0_worthBelow 69 = .ok (.iload 4, 2) := dk_21 4 (dk_at dksX0_worthBelow_3 0 rfl rfl)
theorem dX0_worthBelow_71 : decode cX0_worthBelow 71 = .ok (.iconst 1, 1) := dk_4 (dk_at dksX0_worthBelow_3 2 rfl rfl)
theorem dX0_worthBelow_72 : decode cX0_worthBelow 72 = .ok (.isub, 1) := dk_100 (dk_at dksX0_worthBelow_3 3 rfl rfl)
theorem dX0_worthBelow_73 : decode cX0_worthBelow 73 = .ok (.iand, 1) := dk_126 (dk_at dksX0_worthBelow_3 4 rfl rfl)
theorem dX0_worthBelow_74 : decode cX0_worthBelow 74 = .ok (.istore 4, 2) := dk_54 4 (dk_at dksX0_worthBelow_3 5 rfl rfl)
theorem dX0_worthBelow_76 : decode cX0_worthBelow 76 = .ok (.goto (-41), 3) := dk_167 255 215 (dk_at dksX0_worthBelow_3 7 rfl rfl)
theorem dX0_worthBelow_79 : decode cX0_worthBelow 79 = .ok (.iload_n 3, 1) := dk_29 (dk_at dksX0_worthBelow_3 10 rfl rfl)
theorem dX0_worthBelow_80 : decode cX0_worthBelow 80 = .ok (.ireturn, 1) := dk_172 (dk_at dksX0_worthBelow_3 11 rfl rfl)
abbrev cX0_reading : ByteArray := prog_1_method_47_code
def yX0_reading : MethodName := ⟨RX0, "reading", "(III)I"⟩
def dkwX0_reading_3 : List UInt8 := [180, 0, 22, 185, 0, 48, 1, 0, 4, 100, 172]
abbrev dktX0_reading_3 : List UInt8 := dkwX0_reading_3 ++ []
def dkwX0_reading_2 : List UInt8 := [16, 252, 172, 42, 180, 0, 22, 187, 0, 234, 89, 27, 28, 29, 183, 0, 236, 185, 0, 99, 2, 0, 87, 42]
abbrev dktX0_reading_2 : List UInt8 := dkwX0_reading_2 ++ dktX0_reading_3
def dkwX0_reading_1 : List UInt8 := [184, 0, 52, 154, 0, 6, 16, 254, 172, 42, 180, 0, 22, 185, 0, 48, 1, 0, 16, 8, 160, 0, 6]
abbrev dktX0_reading_1 : List UInt8 := dkwX0_reading_1 ++ dktX0_reading_2
def dkwX0_reading_0 : List UInt8 := [42, 27, 182, 0, 56, 154, 0, 11, 42, 28, 182, 0, 56, 153, 0, 5, 2, 172, 29, 133, 9, 20, 0, 232]
abbrev dktX0_reading_0 : List UInt8 := dkwX0_reading_0 ++ dktX0_reading_1
theorem dksX0_reading_0 : cX0_reading.data.toList.drop 0 = dktX0_reading_0 := by decide +kernel
theorem dksX0_reading_1 : cX0_reading.data.toList.drop 24 = dktX0_reading_1 := dk_seg dksX0_reading_0 24 rfl rfl
theorem dksX0_reading_2 : cX0_reading.data.toList.drop 47 = dktX0_reading_2 := dk_seg dksX0_reading_1 23 rfl rfl
theorem dksX0_reading_3 : cX0_reading.data.toList.drop 71 = dktX0_reading_3 := dk_seg dksX0_reading_2 24 rfl rfl
theorem dX0_reading_0 : decode cX0_reading 0 = .ok (.aload_n 0, 1) := dk_42 (dk_at dksX0_reading_0 0 rfl rfl)
theorem dX0_reading_1 : decode cX0_reading 1 = .ok (.iload_n 1, 1) := dk_27 (dk_at dksX0_reading_0 1 rfl rfl)
theorem dX0_reading_2 : decode cX0_reading 2 = .ok (.invokevirtual 56, 3) := dk_182 0 56 (dk_at dksX0_reading_0 2 rfl rfl)
theorem dX0_reading_5 : decode cX0_reading 5 = .ok (.ifCond .ne 11, 3) := dk_154 0 11 (dk_at dksX0_reading_0 5 rfl rfl)
theorem dX0_reading_8 : decode cX0_reading 8 = .ok (.aload_n 0, 1) := dk_42 (dk_at dksX0_reading_0 8 rfl rfl)
theorem dX0_reading_9 : decode cX0_reading 9 = .ok (.iload_n 2, 1) := dk_28 (dk_at dksX0_reading_0 9 rfl rfl)
theorem dX0_reading_10 : decode cX0_reading 10 = .ok (.invokevirtual 56, 3) := dk_182 0 56 (dk_at dksX0_reading_0 10 rfl rfl)
theorem dX0_reading_13 : decode cX0_reading 13 = .ok (.ifCond .eq 5, 3) := dk_153 0 5 (dk_at dksX0_reading_0 13 rfl rfl)
theorem dX0_reading_16 : decode cX0_reading 16 = .ok (.iconst (-1), 1) := dk_2 (dk_at dksX0_reading_0 16 rfl rfl)
theorem dX0_reading_17 : decode cX0_reading 17 = .ok (.ireturn, 1) := dk_172 (dk_at dksX0_reading_0 17 rfl rfl)
theorem dX0_reading_18 : decode cX0_reading 18 = .ok (.iload_n 3, 1) := dk_29 (dk_at dksX0_reading_0 18 rfl rfl)
theorem dX0_reading_19 : decode cX0_reading 19 = .ok (.i2l, 1) := dk_133 (dk_at dksX0_reading_0 19 rfl rfl)
theorem dX0_reading_20 : decode cX0_reading 20 = .ok (.lconst 0, 1) := dk_9 (dk_at dksX0_reading_0 20 rfl rfl)
theorem dX0_reading_21 : decode cX0_reading 21 = .ok (.ldc2_w 232, 3) := dk_20 0 232 (dk_at dksX0_reading_0 21 rfl rfl)
theorem dX0_reading_24 : decode cX0_reading 24 = .ok (.invokestatic 52, 3) := dk_184 0 52 (dk_at dksX0_reading_1 0 rfl rfl)
theorem dX0_reading_27 : decode cX0_reading 27 = .ok (.ifCond .ne 6, 3) := dk_154 0 6 (dk_at dksX0_reading_1 3 rfl rfl)
theorem dX0_reading_30 : decode cX0_reading 30 = .ok (.bipush (-2), 2) := dk_16 254 (dk_at dksX0_reading_1 6 rfl rfl)
theorem dX0_reading_32 : decode cX0_reading 32 = .ok (.ireturn, 1) := dk_172 (dk_at dksX0_reading_1 8 rfl rfl)
theorem dX0_reading_33 : decode cX0_reading 33 = .ok (.aload_n 0, 1) := dk_42 (dk_at dksX0_reading_1 9 rfl rfl)
theorem dX0_reading_34 : decode cX0_reading 34 = .ok (.getfield 22, 3) := dk_180 0 22 (dk_at dksX0_reading_1 10 rfl rfl)
theorem dX0_reading_37 : decode cX0_reading 37 = .ok (.invokeinterface 48 1, 5) := by decide +kernel
theorem dX0_reading_42 : decode cX0_reading 42 = .ok (.bipush 8, 2) := dk_16 8 (dk_at dksX0_reading_1 18 rfl rfl)
theorem dX0_reading_44 : decode cX0_reading 44 = .ok (.if_icmp .ne 6, 3) := dk_160 0 6 (dk_at dksX0_reading_1 20 rfl rfl)
theorem dX0_reading_47 : decode cX0_reading 47 = .ok (.bipush (-4), 2) := dk_16 252 (dk_at dksX0_reading_2 0 rfl rfl)
theorem dX0_reading_49 : decode cX0_reading 49 = .ok (.ireturn, 1) := dk_172 (dk_at dksX0_reading_2 2 rfl rfl)
theorem dX0_reading_50 : decode cX0_reading 50 = .ok (.aload_n 0, 1) := dk_42 (dk_at dksX0_reading_2 3 rfl rfl)
theorem dX0_reading_51 : decode cX0_reading 51 = .ok (.getfield 22, 3) := dk_180 0 22 (dk_at dksX0_reading_2 4 rfl rfl)
theorem dX0_reading_54 : decode cX0_reading 54 = .ok (.new 234, 3) := dk_187 0 234 (dk_at dksX0_reading_2 7 rfl rfl)
theorem dX0_reading_57 : decode cX0_reading 57 = .ok (.dup, 1) := dk_89 (dk_at dksX0_reading_2 10 rfl rfl)
theorem dX0_reading_58 : decode cX0_reading 58 = .ok (.iload_n 1, 1) := dk_27 (dk_at dksX0_reading_2 11 rfl rfl)
theorem dX0_reading_59 : decode cX0_reading 59 = .ok (.iload_n 2, 1) := dk_28 (dk_at dksX0_reading_2 12 rfl rfl)
theorem dX0_reading_60 : decode cX0_reading 60 = .ok (.iload_n 3, 1) := dk_29 (dk_at dksX0_reading_2 13 rfl rfl)
theorem dX0_reading_61 : decode cX0_reading 61 = .ok (.invokespecial 236, 3) := dk_183 0 236 (dk_at dksX0_reading_2 14 rfl rfl)
theorem dX0_reading_64 : decode cX0_reading 64 = .ok (.invokeinterface 99 2, 5) := by decide +kernel
theorem dX0_reading_69 : decode cX0_reading 69 = .ok (.pop, 1) := dk_87 (dk_at dksX0_reading_2 22 rfl rfl)
theorem dX0_reading_70 : decode cX0_reading 70 = .ok (.aload_n 0, 1) := dk_42 (dk_at dksX0_reading_2 23 rfl rfl)
theorem dX0_reading_71 : decode cX0_reading 71 = .ok (.getfield 22, 3) := dk_180 0 22 (dk_at dksX0_reading_3 0 rfl rfl)
theorem dX0_reading_74 : decode cX0_reading 74 = .ok (.invokeinterface 48 1, 5) := by decide +kernel
theorem dX0_reading_79 : decode cX0_reading 79 = .ok (.iconst 1, 1) := dk_4 (dk_at dksX0_reading_3 8 rfl rfl)
theorem dX0_reading_80 : decode cX0_reading 80 = .ok (.isub, 1) := dk_100 (dk_at dksX0_reading_3 9 rfl rfl)
theorem dX0_reading_81 : decode cX0_reading 81 = .ok (.ireturn, 1) := dk_172 (dk_at dksX0_reading_3 10 rfl rfl)
abbrev cX0_back : ByteArray := prog_1_method_48_code
def yX0_back : MethodName := ⟨RX0, "back", "(I)I"⟩
def dkwX0_back_2 : List UInt8 := [185, 0, 239, 2, 0, 87, 132, 2, 1, 167, 255, 227, 42, 180, 0, 22, 185, 0, 48, 1, 0, 172]
abbrev dktX0_back_2 : List UInt8 := dkwX0_back_2 ++ []
def dkwX0_back_1 : List UInt8 := [28, 27, 162, 0, 30, 42, 180, 0, 22, 42, 180, 0, 22, 185, 0, 48, 1, 0, 4, 100]
abbrev dktX0_back_1 : List UInt8 := dkwX0_back_1 ++ dktX0_back_2
def dkwX0_back_0 : List UInt8 := [27, 133, 9, 42, 180, 0, 22, 185, 0, 48, 1, 0, 133, 184, 0, 52, 154, 0, 6, 16, 254, 172, 3, 61]
abbrev dktX0_back_0 : List UInt8 := dkwX0_back_0 ++ dktX0_back_1
theorem dksX0_back_0 : cX0_back.data.toList.drop 0 = dktX0_back_0 := by decide +kernel
theorem dksX0_back_1 : cX0_back.data.toList.drop 24 = dktX0_back_1 := dk_seg dksX0_back_0 24 rfl rfl
theorem dksX0_back_2 : cX0_back.data.toList.drop 44 = dktX0_back_2 := dk_seg dksX0_back_1 20 rfl rfl
theorem dX0_back_0 : decode cX0_back 0 = .ok (.iload_n 1, 1) := dk_27 (dk_at dksX0_back_0 0 rfl rfl)
theorem dX0_back_1 : decode cX0_back 1 = .ok (.i2l, 1) := dk_133 (dk_at dksX0_back_0 1 rfl rfl)
theorem dX0_back_2 : decode cX0_back 2 = .ok (.lconst 0, 1) := dk_9 (dk_at dksX0_back_0 2 rfl rfl)
theorem dX0_back_3 : decode cX0_back 3 = .ok (.aload_n 0, 1) := dk_42 (dk_at dksX0_back_0 3 rfl rfl)
theorem dX0_back_4 : decode cX0_back 4 = .ok (.getfield 22, 3) := dk_180 0 22 (dk_at dksX0_back_0 4 rfl rfl)
theorem dX0_back_7 : decode cX0_back 7 = .ok (.invokeinterface 48 1, 5) := by decide +kernel
theorem dX0_back_12 : decode cX0_back 12 = .ok (.i2l, 1) := dk_133 (dk_at dksX0_back_0 12 rfl rfl)
theorem dX0_back_13 : decode cX0_back 13 = .ok (.invokestatic 52, 3) := dk_184 0 52 (dk_at dksX0_back_0 13 rfl rfl)
theorem dX0_back_16 : decode cX0_back 16 = .ok (.ifCond .ne 6, 3) := dk_154 0 6 (dk_at dksX0_back_0 16 rfl rfl)
theorem dX0_back_19 : decode cX0_back 19 = .ok (.bipush (-2), 2) := dk_16 254 (dk_at dksX0_back_0 19 rfl rfl)
theorem dX0_back_21 : decode cX0_back 21 = .ok (.ireturn, 1) := dk_172 (dk_at dksX0_back_0 21 rfl rfl)
theorem dX0_back_22 : decode cX0_back 22 = .ok (.iconst 0, 1) := dk_3 (dk_at dksX0_back_0 22 rfl rfl)
theorem dX0_back_23 : decode cX0_back 23 = .ok (.istore_n 2, 1) := dk_61 (dk_at dksX0_back_0 23 rfl rfl)
theorem dX0_back_24 : decode cX0_back 24 = .ok (.iload_n 2, 1) := dk_28 (dk_at dksX0_back_1 0 rfl rfl)
theorem dX0_back_25 : decode cX0_back 25 = .ok (.iload_n 1, 1) := dk_27 (dk_at dksX0_back_1 1 rfl rfl)
theorem dX0_back_26 : decode cX0_back 26 = .ok (.if_icmp .ge 30, 3) := dk_162 0 30 (dk_at dksX0_back_1 2 rfl rfl)
theorem dX0_back_29 : decode cX0_back 29 = .ok (.aload_n 0, 1) := dk_42 (dk_at dksX0_back_1 5 rfl rfl)
theorem dX0_back_30 : decode cX0_back 30 = .ok (.getfield 22, 3) := dk_180 0 22 (dk_at dksX0_back_1 6 rfl rfl)
theorem dX0_back_33 : decode cX0_back 33 = .ok (.aload_n 0, 1) := dk_42 (dk_at dksX0_back_1 9 rfl rfl)
theorem dX0_back_34 : decode cX0_back 34 = .ok (.getfield 22, 3) := dk_180 0 22 (dk_at dksX0_back_1 10 rfl rfl)
theorem dX0_back_37 : decode cX0_back 37 = .ok (.invokeinterface 48 1, 5) := by decide +kernel
theorem dX0_back_42 : decode cX0_back 42 = .ok (.iconst 1, 1) := dk_4 (dk_at dksX0_back_1 18 rfl rfl)
theorem dX0_back_43 : decode cX0_back 43 = .ok (.isub, 1) := dk_100 (dk_at dksX0_back_1 19 rfl rfl)
theorem dX0_back_44 : decode cX0_back 44 = .ok (.invokeinterface 239 2, 5) := by decide +kernel
theorem dX0_back_49 : decode cX0_back 49 = .ok (.pop, 1) := dk_87 (dk_at dksX0_back_2 5 rfl rfl)
theorem dX0_back_50 : decode cX0_back 50 = .ok (.iinc 2 1, 3) := dk_132 2 1 (dk_at dksX0_back_2 6 rfl rfl)
theorem dX0_back_53 : decode cX0_back 53 = .ok (.goto (-29), 3) := dk_167 255 227 (dk_at dksX0_back_2 9 rfl rfl)
theorem dX0_back_56 : decode cX0_back 56 = .ok (.aload_n 0, 1) := dk_42 (dk_at dksX0_back_2 12 rfl rfl)
theorem dX0_back_57 : decode cX0_back 57 = .ok (.getfield 22, 3) := dk_180 0 22 (dk_at dksX0_back_2 13 rfl rfl)
theorem dX0_back_60 : decode cX0_back 60 = .ok (.invokeinterface 48 1, 5) := by decide +kernel
theorem dX0_back_65 : decode cX0_back 65 = .ok (.ireturn, 1) := dk_172 (dk_at dksX0_back_2 21 rfl rfl)
abbrev cX0_loadings : ByteArray := prog_1_method_50_code
def yX0_loadings : MethodName := ⟨RX0, "loadings", "(I)I"⟩
def dkwX0_loadings_3 : List UInt8 := [167, 255, 220, 44, 29, 181, 0, 130, 21, 4, 172]
abbrev dktX0_loadings_3 : List UInt8 := dkwX0_loadings_3 ++ []
def dkwX0_loadings_2 : List UInt8 := [21, 4, 42, 182, 0, 251, 153, 0, 10, 4, 21, 5, 120, 167, 0, 4, 3, 128, 54, 4, 132, 5, 1]
abbrev dktX0_loadings_2 : List UInt8 := dkwX0_loadings_2 ++ dktX0_loadings_3
def dkwX0_loadings_1 : List UInt8 := [44, 180, 0, 130, 62, 3, 54, 4, 3, 54, 5, 21, 5, 16, 9, 163, 0, 35, 44, 21, 5, 181, 0, 130]
abbrev dktX0_loadings_1 : List UInt8 := dkwX0_loadings_1 ++ dktX0_loadings_2
def dkwX0_loadings_0 : List UInt8 := [42, 27, 182, 0, 56, 153, 0, 5, 2, 172, 42, 180, 0, 12, 27, 185, 0, 70, 2, 0, 192, 0, 31, 77]
abbrev dktX0_loadings_0 : List UInt8 := dkwX0_loadings_0 ++ dktX0_loadings_1
theorem dksX0_loadings_0 : cX0_loadings.data.toList.drop 0 = dktX0_loadings_0 := by decide +kernel
theorem dksX0_loadings_1 : cX0_loadings.data.toList.drop 24 = dktX0_loadings_1 := dk_seg dksX0_loadings_0 24 rfl rfl
theorem dksX0_loadings_2 : cX0_loadings.data.toList.drop 48 = dktX0_loadings_2 := dk_seg dksX0_loadings_1 24 rfl rfl
theorem dksX0_loadings_3 : cX0_loadings.data.toList.drop 71 = dktX0_loadings_3 := dk_seg dksX0_loadings_2 23 rfl rfl
theorem dX0_loadings_0 : decode cX0_loadings 0 = .ok (.aload_n 0, 1) := dk_42 (dk_at dksX0_loadings_0 0 rfl rfl)
theorem dX0_loadings_1 : decode cX0_loadings 1 = .ok (.iload_n 1, 1) := dk_27 (dk_at dksX0_loadings_0 1 rfl rfl)
theorem dX0_loadings_2 : decode cX0_loadings 2 = .ok (.invokevirtual 56, 3) := dk_182 0 56 (dk_at dksX0_loadings_0 2 rfl rfl)
theorem dX0_loadings_5 : decode cX0_loadings 5 = .ok (.ifCond .eq 5, 3) := dk_153 0 5 (dk_at dksX0_loadings_0 5 rfl rfl)
theorem dX0_loadings_8 : decode cX0_loadings 8 = .ok (.iconst (-1), 1) := dk_2 (dk_at dksX0_loadings_0 8 rfl rfl)
theorem dX0_loadings_9 : decode cX0_loadings 9 = .ok (.ireturn, 1) := dk_172 (dk_at dksX0_loadings_0 9 rfl rfl)
theorem dX0_loadings_10 : decode cX0_loadings 10 = .ok (.aload_n 0, 1) := dk_42 (dk_at dksX0_loadings_0 10 rfl rfl)
theorem dX0_loadings_11 : decode cX0_loadings 11 = .ok (.getfield 12, 3) := dk_180 0 12 (dk_at dksX0_loadings_0 11 rfl rfl)
theorem dX0_loadings_14 : decode cX0_loadings 14 = .ok (.iload_n 1, 1) := dk_27 (dk_at dksX0_loadings_0 14 rfl rfl)
theorem dX0_loadings_15 : decode cX0_loadings 15 = .ok (.invokeinterface 70 2, 5) := by decide +kernel
theorem dX0_loadings_20 : decode cX0_loadings 20 = .ok (.checkcast 31, 3) := dk_192 0 31 (dk_at dksX0_loadings_0 20 rfl rfl)
theorem dX0_loadings_23 : decode cX0_loadings 23 = .ok (.astore_n 2, 1) := dk_77 (dk_at dksX0_loadings_0 23 rfl rfl)
theorem dX0_loadings_24 : decode cX0_loadings 24 = .ok (.aload_n 2, 1) := dk_44 (dk_at dksX0_loadings_1 0 rfl rfl)
theorem dX0_loadings_25 : decode cX0_loadings 25 = .ok (.getfield 130, 3) := dk_180 0 130 (dk_at dksX0_loadings_1 1 rfl rfl)
theorem dX0_loadings_28 : decode cX0_loadings 28 = .ok (.istore_n 3, 1) := dk_62 (dk_at dksX0_loadings_1 4 rfl rfl)
theorem dX0_loadings_29 : decode cX0_loadings 29 = .ok (.iconst 0, 1) := dk_3 (dk_at dksX0_loadings_1 5 rfl rfl)
theorem dX0_loadings_30 : decode cX0_loadings 30 = .ok (.istore 4, 2) := dk_54 4 (dk_at dksX0_loadings_1 6 rfl rfl)
theorem dX0_loadings_32 : decode cX0_loadings 32 = .ok (.iconst 0, 1) := dk_3 (dk_at dksX0_loadings_1 8 rfl rfl)
theorem dX0_loadings_33 : decode cX0_loadings 33 = .ok (.istore 5, 2) := dk_54 5 (dk_at dksX0_loadings_1 9 rfl rfl)
theorem dX0_loadings_35 : decode cX0_loadings 35 = .ok (.iload 5, 2) := dk_21 5 (dk_at dksX0_loadings_1 11 rfl rfl)
theorem dX0_loadings_37 : decode cX0_loadings 37 = .ok (.bipush 9, 2) := dk_16 9 (dk_at dksX0_loadings_1 13 rfl rfl)
theorem dX0_loadings_39 : decode cX0_loadings 39 = .ok (.if_icmp .gt 35, 3) := dk_163 0 35 (dk_at dksX0_loadings_1 15 rfl rfl)
theorem dX0_loadings_42 : decode cX0_loadings 42 = .ok (.aload_n 2, 1) := dk_44 (dk_at dksX0_loadings_1 18 rfl rfl)
theorem dX0_loadings_43 : decode cX0_loadings 43 = .ok (.iload 5, 2) := dk_21 5 (dk_at dksX0_loadings_1 19 rfl rfl)
theorem dX0_loadings_45 : decode cX0_loadings 45 = .ok (.putfield 130, 3) := dk_181 0 130 (dk_at dksX0_loadings_1 21 rfl rfl)
theorem dX0_loadings_48 : decode cX0_loadings 48 = .ok (.iload 4, 2) := dk_21 4 (dk_at dksX0_loadings_2 0 rfl rfl)
theorem dX0_loadings_50 : decode cX0_loadings 50 = .ok (.aload_n 0, 1) := dk_42 (dk_at dksX0_loadings_2 2 rfl rfl)
theorem dX0_loadings_51 : decode cX0_loadings 51 = .ok (.invokevirtual 251, 3) := dk_182 0 251 (dk_at dksX0_loadings_2 3 rfl rfl)
theorem dX0_loadings_54 : decode cX0_loadings 54 = .ok (.ifCond .eq 10, 3) := dk_153 0 10 (dk_at dksX0_loadings_2 6 rfl rfl)
theorem dX0_loadings_57 : decode cX0_loadings 57 = .ok (.iconst 1, 1) := dk_4 (dk_at dksX0_loadings_2 9 rfl rfl)
theorem dX0_loadings_58 : decode cX0_loadings 58 = .ok (.iload 5, 2) := dk_21 5 (dk_at dksX0_loadings_2 10 rfl rfl)
theorem dX0_loadings_60 : decode cX0_loadings 60 = .ok (.ishl, 1) := dk_120 (dk_at dksX0_loadings_2 12 rfl rfl)
theorem dX0_loadings_61 : decode cX0_loadings 61 = .ok (.goto 4, 3) := dk_167 0 4 (dk_at dksX0_loadings_2 13 rfl rfl)
theorem dX0_loadings_64 : decode cX0_loadings 64 = .ok (.iconst 0, 1) := dk_3 (dk_at dksX0_loadings_2 16 rfl rfl)
theorem dX0_loadings_65 : decode cX0_loadings 65 = .ok (.ior, 1) := dk_128 (dk_at dksX0_loadings_2 17 rfl rfl)
theorem dX0_loadings_66 : decode cX0_loadings 66 = .ok (.istore 4, 2) := dk_54 4 (dk_at dksX0_loadings_2 18 rfl rfl)
theorem dX0_loadings_68 : decode cX0_loadings 68 = .ok (.iinc 5 1, 3) := dk_132 5 1 (dk_at dksX0_loadings_2 20 rfl rfl)
theorem dX0_loadings_71 : decode cX0_loadings 71 = .ok (.goto (-36), 3) := dk_167 255 220 (dk_at dksX0_loadings_3 0 rfl rfl)
theorem dX0_loadings_74 : decode cX0_loadings 74 = .ok (.aload_n 2, 1) := dk_44 (dk_at dksX0_loadings_3 3 rfl rfl)
theorem dX0_loadings_75 : decode cX0_loadings 75 = .ok (.iload_n 3, 1) := dk_29 (dk_at dksX0_loadings_3 4 rfl rfl)
theorem dX0_loadings_76 : decode cX0_loadings 76 = .ok (.putfield 130, 3) := dk_181 0 130 (dk_at dksX0_loadings_3 5 rfl rfl)
theorem dX0_loadings_79 : decode cX0_loadings 79 = .ok (.iload 4, 2) := dk_21 4 (dk_at dksX0_loadings_3 8 rfl rfl)
theorem dX0_loadings_81 : decode cX0_loadings 81 = .ok (.ireturn, 1) := dk_172 (dk_at dksX0_loadings_3 10 rfl rfl)
abbrev cX0_areSo : ByteArray := prog_1_method_49_code
def yX0_areSo : MethodName := ⟨RX0, "areSo", "()Z"⟩
def dkwX0_areSo_3 : List UInt8 := [172]
abbrev dktX0_areSo_3 : List UInt8 := dkwX0_areSo_3 ++ []
def dkwX0_areSo_2 : List UInt8 := [182, 0, 185, 45, 180, 0, 248, 160, 0, 7, 4, 167, 0, 4, 3, 126, 60, 132, 2, 1, 167, 255, 195, 27]
abbrev dktX0_areSo_2 : List UInt8 := dkwX0_areSo_2 ++ dktX0_areSo_3
def dkwX0_areSo_1 : List UInt8 := [185, 0, 70, 2, 0, 192, 0, 234, 78, 27, 42, 42, 45, 180, 0, 242, 45, 180, 0, 245, 182, 0, 197]
abbrev dktX0_areSo_1 : List UInt8 := dkwX0_areSo_1 ++ dktX0_areSo_2
def dkwX0_areSo_0 : List UInt8 := [4, 60, 3, 61, 28, 42, 180, 0, 22, 185, 0, 48, 1, 0, 162, 0, 54, 42, 180, 0, 22, 28]
abbrev dktX0_areSo_0 : List UInt8 := dkwX0_areSo_0 ++ dktX0_areSo_1
theorem dksX0_areSo_0 : cX0_areSo.data.toList.drop 0 = dktX0_areSo_0 := by decide +kernel
theorem dksX0_areSo_1 : cX0_areSo.data.toList.drop 22 = dktX0_areSo_1 := dk_seg dksX0_areSo_0 22 rfl rfl
theorem dksX0_areSo_2 : cX0_areSo.data.toList.drop 45 = dktX0_areSo_2 := dk_seg dksX0_areSo_1 23 rfl rfl
theorem dksX0_areSo_3 : cX0_areSo.data.toList.drop 69 = dktX0_areSo_3 := dk_seg dksX0_areSo_2 24 rfl rfl
theorem dX0_areSo_0 : decode cX0_areSo 0 = .ok (.iconst 1, 1) := dk_4 (dk_at dksX0_areSo_0 0 rfl rfl)
theorem dX0_areSo_1 : decode cX0_areSo 1 = .ok (.istore_n 1, 1) := dk_60 (dk_at dksX0_areSo_0 1 rfl rfl)
theorem dX0_areSo_2 : decode cX0_areSo 2 = .ok (.iconst 0, 1) := dk_3 (dk_at dksX0_areSo_0 2 rfl rfl)
theorem dX0_areSo_3 : decode cX0_areSo 3 = .ok (.istore_n 2, 1) := dk_61 (dk_at dksX0_areSo_0 3 rfl rfl)
theorem dX0_areSo_4 : decode cX0_areSo 4 = .ok (.iload_n 2, 1) := dk_28 (dk_at dksX0_areSo_0 4 rfl rfl)
theorem dX0_areSo_5 : decode cX0_areSo 5 = .ok (.aload_n 0, 1) := dk_42 (dk_at dksX0_areSo_0 5 rfl rfl)
theorem dX0_areSo_6 : decode cX0_areSo 6 = .ok (.getfield 22, 3) := dk_180 0 22 (dk_at dksX0_areSo_0 6 rfl rfl)
theorem dX0_areSo_9 : decode cX0_areSo 9 = .ok (.invokeinterface 48 1, 5) := by decide +kernel
theorem dX0_areSo_14 : decode cX0_areSo 14 = .ok (.if_icmp .ge 54, 3) := dk_162 0 54 (dk_at dksX0_areSo_0 14 rfl rfl)
theorem dX0_areSo_17 : decode cX0_areSo 17 = .ok (.aload_n 0, 1) := dk_42 (dk_at dksX0_areSo_0 17 rfl rfl)
theorem dX0_areSo_18 : decode cX0_areSo 18 = .ok (.getfield 22, 3) := dk_180 0 22 (dk_at dksX0_areSo_0 18 rfl rfl)
theorem dX0_areSo_21 : decode cX0_areSo 21 = .ok (.iload_n 2, 1) := dk_28 (dk_at dksX0_areSo_0 21 rfl rfl)
theorem dX0_areSo_22 : decode cX0_areSo 22 = .ok (.invokeinterface 70 2, 5) := by decide +kernel
theorem dX0_areSo_27 : decode cX0_areSo 27 = .ok (.checkcast 234, 3) := dk_192 0 234 (dk_at dksX0_areSo_1 5 rfl rfl)
theorem dX0_areSo_30 : decode cX0_areSo 30 = .ok (.astore_n 3, 1) := dk_78 (dk_at dksX0_areSo_1 8 rfl rfl)
theorem dX0_areSo_31 : decode cX0_areSo 31 = .ok (.iload_n 1, 1) := dk_27 (dk_at dksX0_areSo_1 9 rfl rfl)
theorem dX0_areSo_32 : decode cX0_areSo 32 = .ok (.aload_n 0, 1) := dk_42 (dk_at dksX0_areSo_1 10 rfl rfl)
theorem dX0_areSo_33 : decode cX0_areSo 33 = .ok (.aload_n 0, 1) := dk_42 (dk_at dksX0_areSo_1 11 rfl rfl)
theorem dX0_areSo_34 : decode cX0_areSo 34 = .ok (.aload_n 3, 1) := dk_45 (dk_at dksX0_areSo_1 12 rfl rfl)
theorem dX0_areSo_35 : decode cX0_areSo 35 = .ok (.getfield 242, 3) := dk_180 0 242 (dk_at dksX0_areSo_1 13 rfl rfl)
theorem dX0_areSo_38 : decode cX0_areSo 38 = .ok (.aload_n 3, 1) := dk_45 (dk_at dksX0_areSo_1 16 rfl rfl)
theorem dX0_areSo_39 : decode cX0_areSo 39 = .ok (.getfield 245, 3) := dk_180 0 245 (dk_at dksX0_areSo_1 17 rfl rfl)
theorem dX0_areSo_42 : decode cX0_areSo 42 = .ok (.invokevirtual 197, 3) := dk_182 0 197 (dk_at dksX0_areSo_1 20 rfl rfl)
theorem dX0_areSo_45 : decode cX0_areSo 45 = .ok (.invokevirtual 185, 3) := dk_182 0 185 (dk_at dksX0_areSo_2 0 rfl rfl)
theorem dX0_areSo_48 : decode cX0_areSo 48 = .ok (.aload_n 3, 1) := dk_45 (dk_at dksX0_areSo_2 3 rfl rfl)
theorem dX0_areSo_49 : decode cX0_areSo 49 = .ok (.getfield 248, 3) := dk_180 0 248 (dk_at dksX0_areSo_2 4 rfl rfl)
theorem dX0_areSo_52 : decode cX0_areSo 52 = .ok (.if_icmp .ne 7, 3) := dk_160 0 7 (dk_at dksX0_areSo_2 7 rfl rfl)
theorem dX0_areSo_55 : decode cX0_areSo 55 = .ok (.iconst 1, 1) := dk_4 (dk_at dksX0_areSo_2 10 rfl rfl)
theorem dX0_areSo_56 : decode cX0_areSo 56 = .ok (.goto 4, 3) := dk_167 0 4 (dk_at dksX0_areSo_2 11 rfl rfl)
theorem dX0_areSo_59 : decode cX0_areSo 59 = .ok (.iconst 0, 1) := dk_3 (dk_at dksX0_areSo_2 14 rfl rfl)
theorem dX0_areSo_60 : decode cX0_areSo 60 = .ok (.iand, 1) := dk_126 (dk_at dksX0_areSo_2 15 rfl rfl)
theorem dX0_areSo_61 : decode cX0_areSo 61 = .ok (.istore_n 1, 1) := dk_60 (dk_at dksX0_areSo_2 16 rfl rfl)
theorem dX0_areSo_62 : decode cX0_areSo 62 = .ok (.iinc 2 1, 3) := dk_132 2 1 (dk_at dksX0_areSo_2 17 rfl rfl)
theorem dX0_areSo_65 : decode cX0_areSo 65 = .ok (.goto (-61), 3) := dk_167 255 195 (dk_at dksX0_areSo_2 20 rfl rfl)
theorem dX0_areSo_68 : decode cX0_areSo 68 = .ok (.iload_n 1, 1) := dk_27 (dk_at dksX0_areSo_2 23 rfl rfl)
theorem dX0_areSo_69 : decode cX0_areSo 69 = .ok (.ireturn, 1) := dk_172 (dk_at dksX0_areSo_3 0 rfl rfl)
abbrev cX0_kinds : ByteArray := prog_1_method_51_code
def yX0_kinds : MethodName := ⟨RX0, "kinds", "(I)I"⟩
def dkwX0_kinds_4 : List UInt8 := [29, 172]
abbrev dktX0_kinds_4 : List UInt8 := dkwX0_kinds_4 ++ []
def dkwX0_kinds_3 : List UInt8 := [167, 0, 4, 3, 128, 62, 132, 4, 1, 167, 255, 204, 42, 180, 0, 12, 27, 44, 185, 0, 254, 3, 0, 87]
abbrev dktX0_kinds_3 : List UInt8 := dkwX0_kinds_3 ++ dktX0_kinds_4
def dkwX0_kinds_2 : List UInt8 := [180, 0, 74, 182, 0, 95, 185, 0, 254, 3, 0, 87, 29, 42, 182, 0, 251, 153, 0, 10, 4, 21, 4, 120]
abbrev dktX0_kinds_2 : List UInt8 := dkwX0_kinds_2 ++ dktX0_kinds_3
def dkwX0_kinds_1 : List UInt8 := [3, 62, 3, 54, 4, 21, 4, 6, 162, 0, 52, 42, 180, 0, 12, 27, 42, 21, 4, 44, 180, 0, 130, 44]
abbrev dktX0_kinds_1 : List UInt8 := dkwX0_kinds_1 ++ dktX0_kinds_2
def dkwX0_kinds_0 : List UInt8 := [42, 27, 182, 0, 56, 153, 0, 5, 2, 172, 42, 180, 0, 12, 27, 185, 0, 70, 2, 0, 192, 0, 31, 77]
abbrev dktX0_kinds_0 : List UInt8 := dkwX0_kinds_0 ++ dktX0_kinds_1
theorem dksX0_kinds_0 : cX0_kinds.data.toList.drop 0 = dktX0_kinds_0 := by decide +kernel
theorem dksX0_kinds_1 : cX0_kinds.data.toList.drop 24 = dktX0_kinds_1 := dk_seg dksX0_kinds_0 24 rfl rfl
theorem dksX0_kinds_2 : cX0_kinds.data.toList.drop 48 = dktX0_kinds_2 := dk_seg dksX0_kinds_1 24 rfl rfl
theorem dksX0_kinds_3 : cX0_kinds.data.toList.drop 72 = dktX0_kinds_3 := dk_seg dksX0_kinds_2 24 rfl rfl
theorem dksX0_kinds_4 : cX0_kinds.data.toList.drop 96 = dktX0_kinds_4 := dk_seg dksX0_kinds_3 24 rfl rfl
theorem dX0_kinds_0 : decode cX0_kinds 0 = .ok (.aload_n 0, 1) := dk_42 (dk_at dksX0_kinds_0 0 rfl rfl)
theorem dX0_kinds_1 : decode cX0_kinds 1 = .ok (.iload_n 1, 1) := dk_27 (dk_at dksX0_kinds_0 1 rfl rfl)
theorem dX0_kinds_2 : decode cX0_kinds 2 = .ok (.invokevirtual 56, 3) := dk_182 0 56 (dk_at dksX0_kinds_0 2 rfl rfl)
theorem dX0_kinds_5 : decode cX0_kinds 5 = .ok (.ifCond .eq 5, 3) := dk_153 0 5 (dk_at dksX0_kinds_0 5 rfl rfl)
theorem dX0_kinds_8 : decode cX0_kinds 8 = .ok (.iconst (-1), 1) := dk_2 (dk_at dksX0_kinds_0 8 rfl rfl)
theorem dX0_kinds_9 : decode cX0_kinds 9 = .ok (.ireturn, 1) := dk_172 (dk_at dksX0_kinds_0 9 rfl rfl)
theorem dX0_kinds_10 : decode cX0_kinds 10 = .ok (.aload_n 0, 1) := dk_42 (dk_at dksX0_kinds_0 10 rfl rfl)
theorem dX0_kinds_11 : decode cX0_kinds 11 = .ok (.getfield 12, 3) := dk_180 0 12 (dk_at dksX0_kinds_0 11 rfl rfl)
theorem dX0_kinds_14 : decode cX0_kinds 14 = .ok (.iload_n 1, 1) := dk_27 (dk_at dksX0_kinds_0 14 rfl rfl)
theorem dX0_kinds_15 : decode cX0_kinds 15 = .ok (.invokeinterface 70 2, 5) := by decide +kernel
theorem dX0_kinds_20 : decode cX0_kinds 20 = .ok (.checkcast 31, 3) := dk_192 0 31 (dk_at dksX0_kinds_0 20 rfl rfl)
theorem dX0_kinds_23 : decode cX0_kinds 23 = .ok (.astore_n 2, 1) := dk_77 (dk_at dksX0_kinds_0 23 rfl rfl)
theorem dX0_kinds_24 : decode cX0_kinds 24 = .ok (.iconst 0, 1) := dk_3 (dk_at dksX0_kinds_1 0 rfl rfl)
theorem dX0_kinds_25 : decode cX0_kinds 25 = .ok (.istore_n 3, 1) := dk_62 (dk_at dksX0_kinds_1 1 rfl rfl)
theorem dX0_kinds_26 : decode cX0_kinds 26 = .ok (.iconst 0, 1) := dk_3 (dk_at dksX0_kinds_1 2 rfl rfl)
theorem dX0_kinds_27 : decode cX0_kinds 27 = .ok (.istore 4, 2) := dk_54 4 (dk_at dksX0_kinds_1 3 rfl rfl)
theorem dX0_kinds_29 : decode cX0_kinds 29 = .ok (.iload 4, 2) := dk_21 4 (dk_at dksX0_kinds_1 5 rfl rfl)
theorem dX0_kinds_31 : decode cX0_kinds 31 = .ok (.iconst 3, 1) := dk_6 (dk_at dksX0_kinds_1 7 rfl rfl)
theorem dX0_kinds_32 : decode cX0_kinds 32 = .ok (.if_icmp .ge 52, 3) := dk_162 0 52 (dk_at dksX0_kinds_1 8 rfl rfl)
theorem dX0_kinds_35 : decode cX0_kinds 35 = .ok (.aload_n 0, 1) := dk_42 (dk_at dksX0_kinds_1 11 rfl rfl)
theorem dX0_kinds_36 : decode cX0_kinds 36 = .ok (.getfield 12, 3) := dk_180 0 12 (dk_at dksX0_kinds_1 12 rfl rfl)
theorem dX0_kinds_39 : decode cX0_kinds 39 = .ok (.iload_n 1, 1) := dk_27 (dk_at dksX0_kinds_1 15 rfl rfl)
theorem dX0_kinds_40 : decode cX0_kinds 40 = .ok (.aload_n 0, 1) := dk_42 (dk_at dksX0_kinds_1 16 rfl rfl)
theorem dX0_kinds_41 : decode cX0_kinds 41 = .ok (.iload 4, 2) := dk_21 4 (dk_at dksX0_kinds_1 17 rfl rfl)
theorem dX0_kinds_43 : decode cX0_kinds 43 = .ok (.aload_n 2, 1) := dk_44 (dk_at dksX0_kinds_1 19 rfl rfl)
theorem dX0_kinds_44 : decode cX0_kinds 44 = .ok (.getfield 130, 3) := dk_180 0 130 (dk_at dksX0_kinds_1 20 rfl rfl)
theorem dX0_kinds_47 : decode cX0_kinds 47 = .ok (.aload_n 2, 1) := dk_44 (dk_at dksX0_kinds_1 23 rfl rfl)
theorem dX0_kinds_48 : decode cX0_kinds 48 = .ok (.getfield 74, 3) := dk_180 0 74 (dk_at dksX0_kinds_2 0 rfl rfl)
theorem dX0_kinds_51 : decode cX0_kinds 51 = .ok (.invokevirtual 95, 3) := dk_182 0 95 (dk_at dksX0_kinds_2 3 rfl rfl)
theorem dX0_kinds_54 : decode cX0_kinds 54 = .ok (.invokeinterface 254 3, 5) := by decide +kernel
theorem dX0_kinds_59 : decode cX0_kinds 59 = .ok (.pop, 1) := dk_87 (dk_at dksX0_kinds_2 11 rfl rfl)
theorem dX0_kinds_60 : decode cX0_kinds 60 = .ok (.iload_n 3, 1) := dk_29 (dk_at dksX0_kinds_2 12 rfl rfl)
theorem dX0_kinds_61 : decode cX0_kinds 61 = .ok (.aload_n 0, 1) := dk_42 (dk_at dksX0_kinds_2 13 rfl rfl)
theorem dX0_kinds_62 : decode cX0_kinds 62 = .ok (.invokevirtual 251, 3) := dk_182 0 251 (dk_at dksX0_kinds_2 14 rfl rfl)
theorem dX0_kinds_65 : decode cX0_kinds 65 = .ok (.ifCond .eq 10, 3) := dk_153 0 10 (dk_at dksX0_kinds_2 17 rfl rfl)
theorem dX0_kinds_68 : decode cX0_kinds 68 = .ok (.iconst 1, 1) := dk_4 (dk_at dksX0_kinds_2 20 rfl rfl)
theorem dX0_kinds_69 : decode cX0_kinds 69 = .ok (.iload 4, 2) := dk_21 4 (dk_at dksX0_kinds_2 21 rfl rfl)
theorem dX0_kinds_71 : decode cX0_kinds 71 = .ok (.ishl, 1) := dk_120 (dk_at dksX0_kinds_2 23 rfl rfl)
theorem dX0_kinds_72 : decode cX0_kinds 72 = .ok (.goto 4, 3) := dk_167 0 4 (dk_at dksX0_kinds_3 0 rfl rfl)
theorem dX0_kinds_75 : decode cX0_kinds 75 = .ok (.iconst 0, 1) := dk_3 (dk_at dksX0_kinds_3 3 rfl rfl)
theorem dX0_kinds_76 : decode cX0_kinds 76 = .ok (.ior, 1) := dk_128 (dk_at dksX0_kinds_3 4 rfl rfl)
theorem dX0_kinds_77 : decode cX0_kinds 77 = .ok (.istore_n 3, 1) := dk_62 (dk_at dksX0_kinds_3 5 rfl rfl)
theorem dX0_kinds_78 : decode cX0_kinds 78 = .ok (.iinc 4 1, 3) := dk_132 4 1 (dk_at dksX0_kinds_3 6 rfl rfl)
theorem dX0_kinds_81 : decode cX0_kinds 81 = .ok (.goto (-52), 3) := dk_167 255 204 (dk_at dksX0_kinds_3 9 rfl rfl)
theorem dX0_kinds_84 : decode cX0_kinds 84 = .ok (.aload_n 0, 1) := dk_42 (dk_at dksX0_kinds_3 12 rfl rfl)
theorem dX0_kinds_85 : decode cX0_kinds 85 = .ok (.getfield 12, 3) := dk_180 0 12 (dk_at dksX0_kinds_3 13 rfl rfl)
theorem dX0_kinds_88 : decode cX0_kinds 88 = .ok (.iload_n 1, 1) := dk_27 (dk_at dksX0_kinds_3 16 rfl rfl)
theorem dX0_kinds_89 : decode cX0_kinds 89 = .ok (.aload_n 2, 1) := dk_44 (dk_at dksX0_kinds_3 17 rfl rfl)
theorem dX0_kinds_90 : decode cX0_kinds 90 = .ok (.invokeinterface 254 3, 5) := by decide +kernel
theorem dX0_kinds_95 : decode cX0_kinds 95 = .ok (.pop, 1) := dk_87 (dk_at dksX0_kinds_3 23 rfl rfl)
theorem dX0_kinds_96 : decode cX0_kinds 96 = .ok (.iload_n 3, 1) := dk_29 (dk_at dksX0_kinds_4 0 rfl rfl)
theorem dX0_kinds_97 : decode cX0_kinds 97 = .ok (.ireturn, 1) := dk_172 (dk_at dksX0_kinds_4 1 rfl rfl)
abbrev cX0_madeOf : ByteArray := prog_1_method_4_code
def yX0_madeOf : MethodName := ⟨RX0, "madeOf", "(III)LVineRows$Plain;"⟩
def dkwX0_madeOf_1 : List UInt8 := [187, 0, 36, 89, 42, 28, 29, 183, 0, 38, 167, 0, 13, 187, 0, 39, 89, 42, 28, 29, 183, 0, 41, 176]
abbrev dktX0_madeOf_1 : List UInt8 := dkwX0_madeOf_1 ++ []
def dkwX0_madeOf_0 : List UInt8 := [27, 154, 0, 16, 187, 0, 31, 89, 42, 28, 29, 183, 0, 33, 167, 0, 31, 27, 4, 160, 0, 16]
abbrev dktX0_madeOf_0 : List UInt8 := dkwX0_madeOf_0 ++ dktX0_madeOf_1
theorem dksX0_madeOf_0 : cX0_madeOf.data.toList.drop 0 = dktX0_madeOf_0 := by decide +kernel
theorem dksX0_madeOf_1 : cX0_madeOf.data.toList.drop 22 = dktX0_madeOf_1 := dk_seg dksX0_madeOf_0 22 rfl rfl
theorem dX0_madeOf_0 : decode cX0_madeOf 0 = .ok (.iload_n 1, 1) := dk_27 (dk_at dksX0_madeOf_0 0 rfl rfl)
theorem dX0_madeOf_1 : decode cX0_madeOf 1 = .ok (.ifCond .ne 16, 3) := dk_154 0 16 (dk_at dksX0_madeOf_0 1 rfl rfl)
theorem dX0_madeOf_4 : decode cX0_madeOf 4 = .ok (.new 31, 3) := dk_187 0 31 (dk_at dksX0_madeOf_0 4 rfl rfl)
theorem dX0_madeOf_7 : decode cX0_madeOf 7 = .ok (.dup, 1) := dk_89 (dk_at dksX0_madeOf_0 7 rfl rfl)
theorem dX0_madeOf_8 : decode cX0_madeOf 8 = .ok (.aload_n 0, 1) := dk_42 (dk_at dksX0_madeOf_0 8 rfl rfl)
theorem dX0_madeOf_9 : decode cX0_madeOf 9 = .ok (.iload_n 2, 1) := dk_28 (dk_at dksX0_madeOf_0 9 rfl rfl)
theorem dX0_madeOf_10 : decode cX0_madeOf 10 = .ok (.iload_n 3, 1) := dk_29 (dk_at dksX0_madeOf_0 10 rfl rfl)
theorem dX0_madeOf_11 : decode cX0_madeOf 11 = .ok (.invokespecial 33, 3) := dk_183 0 33 (dk_at dksX0_madeOf_0 11 rfl rfl)
theorem dX0_madeOf_14 : decode cX0_madeOf 14 = .ok (.goto 31, 3) := dk_167 0 31 (dk_at dksX0_madeOf_0 14 rfl rfl)
theorem dX0_madeOf_17 : decode cX0_madeOf 17 = .ok (.iload_n 1, 1) := dk_27 (dk_at dksX0_madeOf_0 17 rfl rfl)
theorem dX0_madeOf_18 : decode cX0_madeOf 18 = .ok (.iconst 1, 1) := dk_4 (dk_at dksX0_madeOf_0 18 rfl rfl)
theorem dX0_madeOf_19 : decode cX0_madeOf 19 = .ok (.if_icmp .ne 16, 3) := dk_160 0 16 (dk_at dksX0_madeOf_0 19 rfl rfl)
theorem dX0_madeOf_22 : decode cX0_madeOf 22 = .ok (.new 36, 3) := dk_187 0 36 (dk_at dksX0_madeOf_1 0 rfl rfl)
theorem dX0_madeOf_25 : decode cX0_madeOf 25 = .ok (.dup, 1) := dk_89 (dk_at dksX0_madeOf_1 3 rfl rfl)
theorem dX0_madeOf_26 : decode cX0_madeOf 26 = .ok (.aload_n 0, 1) := dk_42 (dk_at dksX0_madeOf_1 4 rfl rfl)
theorem dX0_madeOf_27 : decode cX0_madeOf 27 = .ok (.iload_n 2, 1) := dk_28 (dk_at dksX0_madeOf_1 5 rfl rfl)
theorem dX0_madeOf_28 : decode cX0_madeOf 28 = .ok (.iload_n 3, 1) := dk_29 (dk_at dksX0_madeOf_1 6 rfl rfl)
theorem dX0_madeOf_29 : decode cX0_madeOf 29 = .ok (.invokespecial 38, 3) := dk_183 0 38 (dk_at dksX0_madeOf_1 7 rfl rfl)
theorem dX0_madeOf_32 : decode cX0_madeOf 32 = .ok (.goto 13, 3) := dk_167 0 13 (dk_at dksX0_madeOf_1 10 rfl rfl)
theorem dX0_madeOf_35 : decode cX0_madeOf 35 = .ok (.new 39, 3) := dk_187 0 39 (dk_at dksX0_madeOf_1 13 rfl rfl)
theorem dX0_madeOf_38 : decode cX0_madeOf 38 = .ok (.dup, 1) := dk_89 (dk_at dksX0_madeOf_1 16 rfl rfl)
theorem dX0_madeOf_39 : decode cX0_madeOf 39 = .ok (.aload_n 0, 1) := dk_42 (dk_at dksX0_madeOf_1 17 rfl rfl)
theorem dX0_madeOf_40 : decode cX0_madeOf 40 = .ok (.iload_n 2, 1) := dk_28 (dk_at dksX0_madeOf_1 18 rfl rfl)
theorem dX0_madeOf_41 : decode cX0_madeOf 41 = .ok (.iload_n 3, 1) := dk_29 (dk_at dksX0_madeOf_1 19 rfl rfl)
theorem dX0_madeOf_42 : decode cX0_madeOf 42 = .ok (.invokespecial 41, 3) := dk_183 0 41 (dk_at dksX0_madeOf_1 20 rfl rfl)
theorem dX0_madeOf_45 : decode cX0_madeOf 45 = .ok (.areturn, 1) := dk_176 (dk_at dksX0_madeOf_1 23 rfl rfl)
abbrev cX0_odds : ByteArray := prog_1_method_53_code
def yX0_odds : MethodName := ⟨RX0, "odds", "(II)J"⟩
def dkwX0_odds_5 : List UInt8 := [154, 0, 7, 29, 167, 0, 5, 21, 4, 133, 21, 4, 133, 29, 133, 184, 1, 2, 109, 173]
abbrev dktX0_odds_5 : List UInt8 := dkwX0_odds_5 ++ []
def dkwX0_odds_4 : List UInt8 := [167, 0, 4, 3, 96, 62, 132, 4, 1, 132, 6, 1, 167, 255, 214, 132, 5, 1, 167, 255, 188, 28]
abbrev dktX0_odds_4 : List UInt8 := dkwX0_odds_4 ++ dktX0_odds_5
def dkwX0_odds_3 : List UInt8 := [185, 0, 48, 1, 0, 162, 0, 34, 29, 42, 21, 5, 16, 247, 21, 6, 182, 0, 117, 27, 163, 0, 7, 4]
abbrev dktX0_odds_3 : List UInt8 := dkwX0_odds_3 ++ dktX0_odds_4
def dkwX0_odds_2 : List UInt8 := [185, 0, 48, 1, 0, 162, 0, 60, 21, 5, 4, 96, 54, 6, 21, 6, 42, 180, 0, 12]
abbrev dktX0_odds_2 : List UInt8 := dkwX0_odds_2 ++ dktX0_odds_3
def dkwX0_odds_1 : List UInt8 := [182, 0, 150, 153, 0, 7, 20, 1, 6, 173, 3, 62, 3, 54, 4, 3, 54, 5, 21, 5, 42, 180, 0, 12]
abbrev dktX0_odds_1 : List UInt8 := dkwX0_odds_1 ++ dktX0_odds_2
def dkwX0_odds_0 : List UInt8 := [27, 133, 9, 20, 0, 169, 184, 0, 52, 153, 0, 20, 28, 133, 9, 10, 184, 0, 52, 153, 0, 10, 42]
abbrev dktX0_odds_0 : List UInt8 := dkwX0_odds_0 ++ dktX0_odds_1
theorem dksX0_odds_0 : cX0_odds.data.toList.drop 0 = dktX0_odds_0 := by decide +kernel
theorem dksX0_odds_1 : cX0_odds.data.toList.drop 23 = dktX0_odds_1 := dk_seg dksX0_odds_0 23 rfl rfl
theorem dksX0_odds_2 : cX0_odds.data.toList.drop 47 = dktX0_odds_2 := dk_seg dksX0_odds_1 24 rfl rfl
theorem dksX0_odds_3 : cX0_odds.data.toList.drop 67 = dktX0_odds_3 := dk_seg dksX0_odds_2 20 rfl rfl
theorem dksX0_odds_4 : cX0_odds.data.toList.drop 91 = dktX0_odds_4 := dk_seg dksX0_odds_3 24 rfl rfl
theorem dksX0_odds_5 : cX0_odds.data.toList.drop 113 = dktX0_odds_5 := dk_seg dksX0_odds_4 22 rfl rfl
theorem dX0_odds_0 : decode cX0_odds 0 = .ok (.iload_n 1, 1) := dk_27 (dk_at dksX0_odds_0 0 rfl rfl)
theorem dX0_odds_1 : decode cX0_odds 1 = .ok (.i2l, 1) := dk_133 (dk_at dksX0_odds_0 1 rfl rfl)
theorem dX0_odds_2 : decode cX0_odds 2 = .ok (.lconst 0, 1) := dk_9 (dk_at dksX0_odds_0 2 rfl rfl)
theorem dX0_odds_3 : decode cX0_odds 3 = .ok (.ldc2_w 169, 3) := dk_20 0 169 (dk_at dksX0_odds_0 3 rfl rfl)
theorem dX0_odds_6 : decode cX0_odds 6 = .ok (.invokestatic 52, 3) := dk_184 0 52 (dk_at dksX0_odds_0 6 rfl rfl)
theorem dX0_odds_9 : decode cX0_odds 9 = .ok (.ifCond .eq 20, 3) := dk_153 0 20 (dk_at dksX0_odds_0 9 rfl rfl)
theorem dX0_odds_12 : decode cX0_odds 12 = .ok (.iload_n 2, 1) := dk_28 (dk_at dksX0_odds_0 12 rfl rfl)
theorem dX0_odds_13 : decode cX0_odds 13 = .ok (.i2l, 1) := dk_133 (dk_at dksX0_odds_0 13 rfl rfl)
theorem dX0_odds_14 : decode cX0_odds 14 = .ok (.lconst 0, 1) := dk_9 (dk_at dksX0_odds_0 14 rfl rfl)
theorem dX0_odds_15 : decode cX0_odds 15 = .ok (.lconst 1, 1) := dk_10 (dk_at dksX0_odds_0 15 rfl rfl)
theorem dX0_odds_16 : decode cX0_odds 16 = .ok (.invokestatic 52, 3) := dk_184 0 52 (dk_at dksX0_odds_0 16 rfl rfl)
theorem dX0_odds_19 : decode cX0_odds 19 = .ok (.ifCond .eq 10, 3) := dk_153 0 10 (dk_at dksX0_odds_0 19 rfl rfl)
theorem dX0_odds_22 : decode cX0_odds 22 = .ok (.aload_n 0, 1) := dk_42 (dk_at dksX0_odds_0 22 rfl rfl)
theorem dX0_odds_23 : decode cX0_odds 23 = .ok (.invokevirtual 150, 3) := dk_182 0 150 (dk_at dksX0_odds_1 0 rfl rfl)
theorem dX0_odds_26 : decode cX0_odds 26 = .ok (.ifCond .eq 7, 3) := dk_153 0 7 (dk_at dksX0_odds_1 3 rfl rfl)
theorem dX0_odds_29 : decode cX0_odds 29 = .ok (.ldc2_w 262, 3) := dk_20 1 6 (dk_at dksX0_odds_1 6 rfl rfl)
theorem dX0_odds_32 : decode cX0_odds 32 = .ok (.lreturn, 1) := dk_173 (dk_at dksX0_odds_1 9 rfl rfl)
theorem dX0_odds_33 : decode cX0_odds 33 = .ok (.iconst 0, 1) := dk_3 (dk_at dksX0_odds_1 10 rfl rfl)
theorem dX0_odds_34 : decode cX0_odds 34 = .ok (.istore_n 3, 1) := dk_62 (dk_at dksX0_odds_1 11 rfl rfl)
theorem dX0_odds_35 : decode cX0_odds 35 = .ok (.iconst 0, 1) := dk_3 (dk_at dksX0_odds_1 12 rfl rfl)
theorem dX0_odds_36 : decode cX0_odds 36 = .ok (.istore 4, 2) := dk_54 4 (dk_at dksX0_odds_1 13 rfl rfl)
theorem dX0_odds_38 : decode cX0_odds 38 = .ok (.iconst 0, 1) := dk_3 (dk_at dksX0_odds_1 15 rfl rfl)
theorem dX0_odds_39 : decode cX0_odds 39 = .ok (.istore 5, 2) := dk_54 5 (dk_at dksX0_odds_1 16 rfl rfl)
theorem dX0_odds_41 : decode cX0_odds 41 = .ok (.iload 5, 2) := dk_21 5 (dk_at dksX0_odds_1 18 rfl rfl)
theorem dX0_odds_43 : decode cX0_odds 43 = .ok (.aload_n 0, 1) := dk_42 (dk_at dksX0_odds_1 20 rfl rfl)
theorem dX0_odds_44 : decode cX0_odds 44 = .ok (.getfield 12, 3) := dk_180 0 12 (dk_at dksX0_odds_1 21 rfl rfl)
theorem dX0_odds_47 : decode cX0_odds 47 = .ok (.invokeinterface 48 1, 5) := by decide +kernel
theorem dX0_odds_52 : decode cX0_odds 52 = .ok (.if_icmp .ge 60, 3) := dk_162 0 60 (dk_at dksX0_odds_2 5 rfl rfl)
theorem dX0_odds_55 : decode cX0_odds 55 = .ok (.iload 5, 2) := dk_21 5 (dk_at dksX0_odds_2 8 rfl rfl)
theorem dX0_odds_57 : decode cX0_odds 57 = .ok (.iconst 1, 1) := dk_4 (dk_at dksX0_odds_2 10 rfl rfl)
theorem dX0_odds_58 : decode cX0_odds 58 = .ok (.iadd, 1) := dk_96 (dk_at dksX0_odds_2 11 rfl rfl)
theorem dX0_odds_59 : decode cX0_odds 59 = .ok (.istore 6, 2) := dk_54 6 (dk_at dksX0_odds_2 12 rfl rfl)
theorem dX0_odds_61 : decode cX0_odds 61 = .ok (.iload 6, 2) := dk_21 6 (dk_at dksX0_odds_2 14 rfl rfl)
theorem dX0_odds_63 : decode cX0_odds 63 = .ok (.aload_n 0, 1) := dk_42 (dk_at dksX0_odds_2 16 rfl rfl)
theorem dX0_odds_64 : decode cX0_odds 64 = .ok (.getfield 12, 3) := dk_180 0 12 (dk_at dksX0_odds_2 17 rfl rfl)
theorem dX0_odds_67 : decode cX0_odds 67 = .ok (.invokeinterface 48 1, 5) := by decide +kernel
theorem dX0_odds_72 : decode cX0_odds 72 = .ok (.if_icmp .ge 34, 3) := dk_162 0 34 (dk_at dksX0_odds_3 5 rfl rfl)
theorem dX0_odds_75 : decode cX0_odds 75 = .ok (.iload_n 3, 1) := dk_29 (dk_at dksX0_odds_3 8 rfl rfl)
theorem dX0_odds_76 : decode cX0_odds 76 = .ok (.aload_n 0, 1) := dk_42 (dk_at dksX0_odds_3 9 rfl rfl)
theorem dX0_odds_77 : decode cX0_odds 77 = .ok (.iload 5, 2) := dk_21 5 (dk_at dksX0_odds_3 10 rfl rfl)
theorem dX0_odds_79 : decode cX0_odds 79 = .ok (.bipush (-9), 2) := dk_16 247 (dk_at dksX0_odds_3 12 rfl rfl)
theorem dX0_odds_81 : decode cX0_odds 81 = .ok (.iload 6, 2) := dk_21 6 (dk_at dksX0_odds_3 14 rfl rfl)
theorem dX0_odds_83 : decode cX0_odds 83 = .ok (.invokevirtual 117, 3) := dk_182 0 117 (dk_at dksX0_odds_3 16 rfl rfl)
theorem dX0_odds_86 : decode cX0_odds 86 = .ok (.iload_n 1, 1) := dk_27 (dk_at dksX0_odds_3 19 rfl rfl)
theorem dX0_odds_87 : decode cX0_odds 87 = .ok (.if_icmp .gt 7, 3) := dk_163 0 7 (dk_at dksX0_odds_3 20 rfl rfl)
theorem dX0_odds_90 : decode cX0_odds 90 = .ok (.iconst 1, 1) := dk_4 (dk_at dksX0_odds_3 23 rfl rfl)
theorem dX0_odds_91 : decode cX0_odds 91 = .ok (.goto 4, 3) := dk_167 0 4 (dk_at dksX0_odds_4 0 rfl rfl)
theorem dX0_odds_94 : decode cX0_odds 94 = .ok (.iconst 0, 1) := dk_3 (dk_at dksX0_odds_4 3 rfl rfl)
theorem dX0_odds_95 : decode cX0_odds 95 = .ok (.iadd, 1) := dk_96 (dk_at dksX0_odds_4 4 rfl rfl)
theorem dX0_odds_96 : decode cX0_odds 96 = .ok (.istore_n 3, 1) := dk_62 (dk_at dksX0_odds_4 5 rfl rfl)
theorem dX0_odds_97 : decode cX0_odds 97 = .ok (.iinc 4 1, 3) := dk_132 4 1 (dk_at dksX0_odds_4 6 rfl rfl)
theorem dX0_odds_100 : decode cX0_odds 100 = .ok (.iinc 6 1, 3) := dk_132 6 1 (dk_at dksX0_odds_4 9 rfl rfl)
theorem dX0_odds_103 : decode cX0_odds 103 = .ok (.goto (-42), 3) := dk_167 255 214 (dk_at dksX0_odds_4 12 rfl rfl)
theorem dX0_odds_106 : decode cX0_odds 106 = .ok (.iinc 5 1, 3) := dk_132 5 1 (dk_at dksX0_odds_4 15 rfl rfl)
theorem dX0_odds_109 : decode cX0_odds 109 = .ok (.goto (-68), 3) := dk_167 255 188 (dk_at dksX0_odds_4 18 rfl rfl)
theorem dX0_odds_112 : decode cX0_odds 112 = .ok (.iload_n 2, 1) := dk_28 (dk_at dksX0_odds_4 21 rfl rfl)
theorem dX0_odds_113 : decode cX0_odds 113 = .ok (.ifCond .ne 7, 3) := dk_154 0 7 (dk_at dksX0_odds_5 0 rfl rfl)
theorem dX0_odds_116 : decode cX0_odds 116 = .ok (.iload_n 3, 1) := dk_29 (dk_at dksX0_odds_5 3 rfl rfl)
theorem dX0_odds_117 : decode cX0_odds 117 = .ok (.goto 5, 3) := dk_167 0 5 (dk_at dksX0_odds_5 4 rfl rfl)
theorem dX0_odds_120 : decode cX0_odds 120 = .ok (.iload 4, 2) := dk_21 4 (dk_at dksX0_odds_5 7 rfl rfl)
theorem dX0_odds_122 : decode cX0_odds 122 = .ok (.i2l, 1) := dk_133 (dk_at dksX0_odds_5 9 rfl rfl)
theorem dX0_odds_123 : decode cX0_odds 123 = .ok (.iload 4, 2) := dk_21 4 (dk_at dksX0_odds_5 10 rfl rfl)
theorem dX0_odds_125 : decode cX0_odds 125 = .ok (.i2l, 1) := dk_133 (dk_at dksX0_odds_5 12 rfl rfl)
theorem dX0_odds_126 : decode cX0_odds 126 = .ok (.iload_n 3, 1) := dk_29 (dk_at dksX0_odds_5 13 rfl rfl)
theorem dX0_odds_127 : decode cX0_odds 127 = .ok (.i2l, 1) := dk_133 (dk_at dksX0_odds_5 14 rfl rfl)
theorem dX0_odds_128 : decode cX0_odds 128 = .ok (.invokestatic 258, 3) := dk_184 1 2 (dk_at dksX0_odds_5 15 rfl rfl)
theorem dX0_odds_131 : decode cX0_odds 131 = .ok (.ldiv, 1) := dk_109 (dk_at dksX0_odds_5 18 rfl rfl)
theorem dX0_odds_132 : decode cX0_odds 132 = .ok (.lreturn, 1) := dk_173 (dk_at dksX0_odds_5 19 rfl rfl)
abbrev cX0_greatestOf : ByteArray := prog_1_method_52_code
def yX0_greatestOf : MethodName := ⟨RX0, "greatestOf", "(JJ)J"⟩
def dkwX0_greatestOf_0 : List UInt8 := [32, 9, 148, 154, 0, 7, 30, 167, 0, 10, 32, 30, 32, 113, 184, 1, 2, 173]
abbrev dktX0_greatestOf_0 : List UInt8 := dkwX0_greatestOf_0 ++ []
theorem dksX0_greatestOf_0 : cX0_greatestOf.data.toList.drop 0 = dktX0_greatestOf_0 := by decide +kernel
theorem dX0_greatestOf_0 : decode cX0_greatestOf 0 = .ok (.lload_n 2, 1) := dk_32 (dk_at dksX0_greatestOf_0 0 rfl rfl)
theorem dX0_greatestOf_1 : decode cX0_greatestOf 1 = .ok (.lconst 0, 1) := dk_9 (dk_at dksX0_greatestOf_0 1 rfl rfl)
theorem dX0_greatestOf_2 : decode cX0_greatestOf 2 = .ok (.lcmp, 1) := dk_148 (dk_at dksX0_greatestOf_0 2 rfl rfl)
theorem dX0_greatestOf_3 : decode cX0_greatestOf 3 = .ok (.ifCond .ne 7, 3) := dk_154 0 7 (dk_at dksX0_greatestOf_0 3 rfl rfl)
theorem dX0_greatestOf_6 : decode cX0_greatestOf 6 = .ok (.lload_n 0, 1) := dk_30 (dk_at dksX0_greatestOf_0 6 rfl rfl)
theorem dX0_greatestOf_7 : decode cX0_greatestOf 7 = .ok (.goto 10, 3) := dk_167 0 10 (dk_at dksX0_greatestOf_0 7 rfl rfl)
theorem dX0_greatestOf_10 : decode cX0_greatestOf 10 = .ok (.lload_n 2, 1) := dk_32 (dk_at dksX0_greatestOf_0 10 rfl rfl)
theorem dX0_greatestOf_11 : decode cX0_greatestOf 11 = .ok (.lload_n 0, 1) := dk_30 (dk_at dksX0_greatestOf_0 11 rfl rfl)
theorem dX0_greatestOf_12 : decode cX0_greatestOf 12 = .ok (.lload_n 2, 1) := dk_32 (dk_at dksX0_greatestOf_0 12 rfl rfl)
theorem dX0_greatestOf_13 : decode cX0_greatestOf 13 = .ok (.lrem, 1) := dk_113 (dk_at dksX0_greatestOf_0 13 rfl rfl)
theorem dX0_greatestOf_14 : decode cX0_greatestOf 14 = .ok (.invokestatic 258, 3) := dk_184 1 2 (dk_at dksX0_greatestOf_0 14 rfl rfl)
theorem dX0_greatestOf_17 : decode cX0_greatestOf 17 = .ok (.lreturn, 1) := dk_173 (dk_at dksX0_greatestOf_0 17 rfl rfl)
abbrev cX0_sheet : ByteArray := prog_1_method_63_code
def yX0_sheet : MethodName := ⟨RX0, "sheet", "(III)I"⟩
def dkwX0_sheet_3 : List UInt8 := [182, 1, 37, 172]
abbrev dktX0_sheet_3 : List UInt8 := dkwX0_sheet_3 ++ []
def dkwX0_sheet_2 : List UInt8 := [180, 0, 27, 27, 187, 0, 25, 89, 28, 29, 184, 1, 28, 183, 1, 32, 83, 4, 172, 58, 4, 42, 7]
abbrev dktX0_sheet_2 : List UInt8 := dkwX0_sheet_2 ++ dktX0_sheet_3
def dkwX0_sheet_1 : List UInt8 := [153, 0, 9, 29, 16, 60, 164, 0, 10, 42, 16, 254, 182, 1, 25, 172, 42, 3, 181, 1, 8, 42]
abbrev dktX0_sheet_1 : List UInt8 := dkwX0_sheet_1 ++ dktX0_sheet_2
def dkwX0_sheet_0 : List UInt8 := [27, 184, 1, 22, 153, 0, 9, 42, 2, 182, 1, 25, 172, 28, 133, 9, 20, 0, 216, 184, 0, 52]
abbrev dktX0_sheet_0 : List UInt8 := dkwX0_sheet_0 ++ dktX0_sheet_1
theorem dksX0_sheet_0 : cX0_sheet.data.toList.drop 0 = dktX0_sheet_0 := by decide +kernel
theorem dksX0_sheet_1 : cX0_sheet.data.toList.drop 22 = dktX0_sheet_1 := dk_seg dksX0_sheet_0 22 rfl rfl
theorem dksX0_sheet_2 : cX0_sheet.data.toList.drop 44 = dktX0_sheet_2 := dk_seg dksX0_sheet_1 22 rfl rfl
theorem dksX0_sheet_3 : cX0_sheet.data.toList.drop 67 = dktX0_sheet_3 := dk_seg dksX0_sheet_2 23 rfl rfl
theorem dX0_sheet_0 : decode cX0_sheet 0 = .ok (.iload_n 1, 1) := dk_27 (dk_at dksX0_sheet_0 0 rfl rfl)
theorem dX0_sheet_1 : decode cX0_sheet 1 = .ok (.invokestatic 278, 3) := dk_184 1 22 (dk_at dksX0_sheet_0 1 rfl rfl)
theorem dX0_sheet_4 : decode cX0_sheet 4 = .ok (.ifCond .eq 9, 3) := dk_153 0 9 (dk_at dksX0_sheet_0 4 rfl rfl)
theorem dX0_sheet_7 : decode cX0_sheet 7 = .ok (.aload_n 0, 1) := dk_42 (dk_at dksX0_sheet_0 7 rfl rfl)
theorem dX0_sheet_8 : decode cX0_sheet 8 = .ok (.iconst (-1), 1) := dk_2 (dk_at dksX0_sheet_0 8 rfl rfl)
theorem dX0_sheet_9 : decode cX0_sheet 9 = .ok (.invokevirtual 281, 3) := dk_182 1 25 (dk_at dksX0_sheet_0 9 rfl rfl)
theorem dX0_sheet_12 : decode cX0_sheet 12 = .ok (.ireturn, 1) := dk_172 (dk_at dksX0_sheet_0 12 rfl rfl)
theorem dX0_sheet_13 : decode cX0_sheet 13 = .ok (.iload_n 2, 1) := dk_28 (dk_at dksX0_sheet_0 13 rfl rfl)
theorem dX0_sheet_14 : decode cX0_sheet 14 = .ok (.i2l, 1) := dk_133 (dk_at dksX0_sheet_0 14 rfl rfl)
theorem dX0_sheet_15 : decode cX0_sheet 15 = .ok (.lconst 0, 1) := dk_9 (dk_at dksX0_sheet_0 15 rfl rfl)
theorem dX0_sheet_16 : decode cX0_sheet 16 = .ok (.ldc2_w 216, 3) := dk_20 0 216 (dk_at dksX0_sheet_0 16 rfl rfl)
theorem dX0_sheet_19 : decode cX0_sheet 19 = .ok (.invokestatic 52, 3) := dk_184 0 52 (dk_at dksX0_sheet_0 19 rfl rfl)
theorem dX0_sheet_22 : decode cX0_sheet 22 = .ok (.ifCond .eq 9, 3) := dk_153 0 9 (dk_at dksX0_sheet_1 0 rfl rfl)
theorem dX0_sheet_25 : decode cX0_sheet 25 = .ok (.iload_n 3, 1) := dk_29 (dk_at dksX0_sheet_1 3 rfl rfl)
theorem dX0_sheet_26 : decode cX0_sheet 26 = .ok (.bipush 60, 2) := dk_16 60 (dk_at dksX0_sheet_1 4 rfl rfl)
theorem dX0_sheet_28 : decode cX0_sheet 28 = .ok (.if_icmp .le 10, 3) := dk_164 0 10 (dk_at dksX0_sheet_1 6 rfl rfl)
theorem dX0_sheet_31 : decode cX0_sheet 31 = .ok (.aload_n 0, 1) := dk_42 (dk_at dksX0_sheet_1 9 rfl rfl)
theorem dX0_sheet_32 : decode cX0_sheet 32 = .ok (.bipush (-2), 2) := dk_16 254 (dk_at dksX0_sheet_1 10 rfl rfl)
theorem dX0_sheet_34 : decode cX0_sheet 34 = .ok (.invokevirtual 281, 3) := dk_182 1 25 (dk_at dksX0_sheet_1 12 rfl rfl)
theorem dX0_sheet_37 : decode cX0_sheet 37 = .ok (.ireturn, 1) := dk_172 (dk_at dksX0_sheet_1 15 rfl rfl)
theorem dX0_sheet_38 : decode cX0_sheet 38 = .ok (.aload_n 0, 1) := dk_42 (dk_at dksX0_sheet_1 16 rfl rfl)
theorem dX0_sheet_39 : decode cX0_sheet 39 = .ok (.iconst 0, 1) := dk_3 (dk_at dksX0_sheet_1 17 rfl rfl)
theorem dX0_sheet_40 : decode cX0_sheet 40 = .ok (.putfield 264, 3) := dk_181 1 8 (dk_at dksX0_sheet_1 18 rfl rfl)
theorem dX0_sheet_43 : decode cX0_sheet 43 = .ok (.aload_n 0, 1) := dk_42 (dk_at dksX0_sheet_1 21 rfl rfl)
theorem dX0_sheet_44 : decode cX0_sheet 44 = .ok (.getfield 27, 3) := dk_180 0 27 (dk_at dksX0_sheet_2 0 rfl rfl)
theorem dX0_sheet_47 : decode cX0_sheet 47 = .ok (.iload_n 1, 1) := dk_27 (dk_at dksX0_sheet_2 3 rfl rfl)
theorem dX0_sheet_48 : decode cX0_sheet 48 = .ok (.new 25, 3) := dk_187 0 25 (dk_at dksX0_sheet_2 4 rfl rfl)
theorem dX0_sheet_51 : decode cX0_sheet 51 = .ok (.dup, 1) := dk_89 (dk_at dksX0_sheet_2 7 rfl rfl)
theorem dX0_sheet_52 : decode cX0_sheet 52 = .ok (.iload_n 2, 1) := dk_28 (dk_at dksX0_sheet_2 8 rfl rfl)
theorem dX0_sheet_53 : decode cX0_sheet 53 = .ok (.iload_n 3, 1) := dk_29 (dk_at dksX0_sheet_2 9 rfl rfl)
theorem dX0_sheet_54 : decode cX0_sheet 54 = .ok (.invokestatic 284, 3) := dk_184 1 28 (dk_at dksX0_sheet_2 10 rfl rfl)
theorem dX0_sheet_57 : decode cX0_sheet 57 = .ok (.invokespecial 288, 3) := dk_183 1 32 (dk_at dksX0_sheet_2 13 rfl rfl)
theorem dX0_sheet_60 : decode cX0_sheet 60 = .ok (.aastore, 1) := dk_83 (dk_at dksX0_sheet_2 16 rfl rfl)
theorem dX0_sheet_61 : decode cX0_sheet 61 = .ok (.iconst 1, 1) := dk_4 (dk_at dksX0_sheet_2 17 rfl rfl)
theorem dX0_sheet_62 : decode cX0_sheet 62 = .ok (.ireturn, 1) := dk_172 (dk_at dksX0_sheet_2 18 rfl rfl)
theorem dX0_sheet_63 : decode cX0_sheet 63 = .ok (.astore 4, 2) := dk_58 4 (dk_at dksX0_sheet_2 19 rfl rfl)
theorem dX0_sheet_65 : decode cX0_sheet 65 = .ok (.aload_n 0, 1) := dk_42 (dk_at dksX0_sheet_2 21 rfl rfl)
theorem dX0_sheet_66 : decode cX0_sheet 66 = .ok (.iconst 4, 1) := dk_7 (dk_at dksX0_sheet_2 22 rfl rfl)
theorem dX0_sheet_67 : decode cX0_sheet 67 = .ok (.invokevirtual 293, 3) := dk_182 1 37 (dk_at dksX0_sheet_3 0 rfl rfl)
theorem dX0_sheet_70 : decode cX0_sheet 70 = .ok (.ireturn, 1) := dk_172 (dk_at dksX0_sheet_3 3 rfl rfl)
abbrev cX0_noSheet : ByteArray := prog_1_method_61_code
def yX0_noSheet : MethodName := ⟨RX0, "noSheet", "(I)Z"⟩
def dkwX0_noSheet_0 : List UInt8 := [26, 133, 9, 20, 1, 16, 184, 0, 52, 154, 0, 7, 4, 167, 0, 4, 3, 172]
abbrev dktX0_noSheet_0 : List UInt8 := dkwX0_noSheet_0 ++ []
theorem dksX0_noSheet_0 : cX0_noSheet.data.toList.drop 0 = dktX0_noSheet_0 := by decide +kernel
theorem dX0_noSheet_0 : decode cX0_noSheet 0 = .ok (.iload_n 0, 1) := dk_26 (dk_at dksX0_noSheet_0 0 rfl rfl)
theorem dX0_noSheet_1 : decode cX0_noSheet 1 = .ok (.i2l, 1) := dk_133 (dk_at dksX0_noSheet_0 1 rfl rfl)
theorem dX0_noSheet_2 : decode cX0_noSheet 2 = .ok (.lconst 0, 1) := dk_9 (dk_at dksX0_noSheet_0 2 rfl rfl)
theorem dX0_noSheet_3 : decode cX0_noSheet 3 = .ok (.ldc2_w 272, 3) := dk_20 1 16 (dk_at dksX0_noSheet_0 3 rfl rfl)
theorem dX0_noSheet_6 : decode cX0_noSheet 6 = .ok (.invokestatic 52, 3) := dk_184 0 52 (dk_at dksX0_noSheet_0 6 rfl rfl)
theorem dX0_noSheet_9 : decode cX0_noSheet 9 = .ok (.ifCond .ne 7, 3) := dk_154 0 7 (dk_at dksX0_noSheet_0 9 rfl rfl)
theorem dX0_noSheet_12 : decode cX0_noSheet 12 = .ok (.iconst 1, 1) := dk_4 (dk_at dksX0_noSheet_0 12 rfl rfl)
theorem dX0_noSheet_13 : decode cX0_noSheet 13 = .ok (.goto 4, 3) := dk_167 0 4 (dk_at dksX0_noSheet_0 13 rfl rfl)
theorem dX0_noSheet_16 : decode cX0_noSheet 16 = .ok (.iconst 0, 1) := dk_3 (dk_at dksX0_noSheet_0 16 rfl rfl)
theorem dX0_noSheet_17 : decode cX0_noSheet 17 = .ok (.ireturn, 1) := dk_172 (dk_at dksX0_noSheet_0 17 rfl rfl)
abbrev cX0_refused : ByteArray := prog_1_method_54_code
def yX0_refused : MethodName := ⟨RX0, "refused", "(I)I"⟩
def dkwX0_refused_0 : List UInt8 := [42, 3, 181, 1, 8, 27, 172]
abbrev dktX0_refused_0 : List UInt8 := dkwX0_refused_0 ++ []
theorem dksX0_refused_0 : cX0_refused.data.toList.drop 0 = dktX0_refused_0 := by decide +kernel
theorem dX0_refused_0 : decode cX0_refused 0 = .ok (.aload_n 0, 1) := dk_42 (dk_at dksX0_refused_0 0 rfl rfl)
theorem dX0_refused_1 : decode cX0_refused 1 = .ok (.iconst 0, 1) := dk_3 (dk_at dksX0_refused_0 1 rfl rfl)
theorem dX0_refused_2 : decode cX0_refused 2 = .ok (.putfield 264, 3) := dk_181 1 8 (dk_at dksX0_refused_0 2 rfl rfl)
theorem dX0_refused_5 : decode cX0_refused 5 = .ok (.iload_n 1, 1) := dk_27 (dk_at dksX0_refused_0 5 rfl rfl)
theorem dX0_refused_6 : decode cX0_refused 6 = .ok (.ireturn, 1) := dk_172 (dk_at dksX0_refused_0 6 rfl rfl)
abbrev cX0_rowOf : ByteArray := prog_1_method_57_code
def yX0_rowOf : MethodName := ⟨RX0, "rowOf", "(II)Ljava/lang/Object;"⟩
def dkwX0_rowOf_1 : List UInt8 := [176]
abbrev dktX0_rowOf_1 : List UInt8 := dkwX0_rowOf_1 ++ []
def dkwX0_rowOf_0 : List UInt8 := [26, 154, 0, 9, 27, 188, 8, 167, 0, 17, 26, 4, 160, 0, 9, 27, 188, 9, 167, 0, 6, 27, 188, 10]
abbrev dktX0_rowOf_0 : List UInt8 := dkwX0_rowOf_0 ++ dktX0_rowOf_1
theorem dksX0_rowOf_0 : cX0_rowOf.data.toList.drop 0 = dktX0_rowOf_0 := by decide +kernel
theorem dksX0_rowOf_1 : cX0_rowOf.data.toList.drop 24 = dktX0_rowOf_1 := dk_seg dksX0_rowOf_0 24 rfl rfl
theorem dX0_rowOf_0 : decode cX0_rowOf 0 = .ok (.iload_n 0, 1) := dk_26 (dk_at dksX0_rowOf_0 0 rfl rfl)
theorem dX0_rowOf_1 : decode cX0_rowOf 1 = .ok (.ifCond .ne 9, 3) := dk_154 0 9 (dk_at dksX0_rowOf_0 1 rfl rfl)
theorem dX0_rowOf_4 : decode cX0_rowOf 4 = .ok (.iload_n 1, 1) := dk_27 (dk_at dksX0_rowOf_0 4 rfl rfl)
theorem dX0_rowOf_5 : decode cX0_rowOf 5 = .ok (.newarray .byte, 2) := dk_188_8 (dk_at dksX0_rowOf_0 5 rfl rfl)
theorem dX0_rowOf_7 : decode cX0_rowOf 7 = .ok (.goto 17, 3) := dk_167 0 17 (dk_at dksX0_rowOf_0 7 rfl rfl)
theorem dX0_rowOf_10 : decode cX0_rowOf 10 = .ok (.iload_n 0, 1) := dk_26 (dk_at dksX0_rowOf_0 10 rfl rfl)
theorem dX0_rowOf_11 : decode cX0_rowOf 11 = .ok (.iconst 1, 1) := dk_4 (dk_at dksX0_rowOf_0 11 rfl rfl)
theorem dX0_rowOf_12 : decode cX0_rowOf 12 = .ok (.if_icmp .ne 9, 3) := dk_160 0 9 (dk_at dksX0_rowOf_0 12 rfl rfl)
theorem dX0_rowOf_15 : decode cX0_rowOf 15 = .ok (.iload_n 1, 1) := dk_27 (dk_at dksX0_rowOf_0 15 rfl rfl)
theorem dX0_rowOf_16 : decode cX0_rowOf 16 = .ok (.newarray .short, 2) := dk_188_9 (dk_at dksX0_rowOf_0 16 rfl rfl)
theorem dX0_rowOf_18 : decode cX0_rowOf 18 = .ok (.goto 6, 3) := dk_167 0 6 (dk_at dksX0_rowOf_0 18 rfl rfl)
theorem dX0_rowOf_21 : decode cX0_rowOf 21 = .ok (.iload_n 1, 1) := dk_27 (dk_at dksX0_rowOf_0 21 rfl rfl)
theorem dX0_rowOf_22 : decode cX0_rowOf 22 = .ok (.newarray .int, 2) := dk_188_10 (dk_at dksX0_rowOf_0 22 rfl rfl)
theorem dX0_rowOf_24 : decode cX0_rowOf 24 = .ok (.areturn, 1) := dk_176 (dk_at dksX0_rowOf_1 0 rfl rfl)
abbrev cX0_fails : ByteArray := prog_1_method_55_code
def yX0_fails : MethodName := ⟨RX0, "fails", "(I)I"⟩
def dkwX0_fails_0 : List UInt8 := [42, 27, 181, 1, 8, 16, 246, 27, 100, 172]
abbrev dktX0_fails_0 : List UInt8 := dkwX0_fails_0 ++ []
theorem dksX0_fails_0 : cX0_fails.data.toList.drop 0 = dktX0_fails_0 := by decide +kernel
theorem dX0_fails_0 : decode cX0_fails 0 = .ok (.aload_n 0, 1) := dk_42 (dk_at dksX0_fails_0 0 rfl rfl)
theorem dX0_fails_1 : decode cX0_fails 1 = .ok (.iload_n 1, 1) := dk_27 (dk_at dksX0_fails_0 1 rfl rfl)
theorem dX0_fails_2 : decode cX0_fails 2 = .ok (.putfield 264, 3) := dk_181 1 8 (dk_at dksX0_fails_0 2 rfl rfl)
theorem dX0_fails_5 : decode cX0_fails 5 = .ok (.bipush (-10), 2) := dk_16 246 (dk_at dksX0_fails_0 5 rfl rfl)
theorem dX0_fails_7 : decode cX0_fails 7 = .ok (.iload_n 1, 1) := dk_27 (dk_at dksX0_fails_0 7 rfl rfl)
theorem dX0_fails_8 : decode cX0_fails 8 = .ok (.isub, 1) := dk_100 (dk_at dksX0_fails_0 8 rfl rfl)
theorem dX0_fails_9 : decode cX0_fails 9 = .ok (.ireturn, 1) := dk_172 (dk_at dksX0_fails_0 9 rfl rfl)
abbrev cX0_lose : ByteArray := prog_1_method_64_code
def yX0_lose : MethodName := ⟨RX0, "lose", "(I)I"⟩
def dkwX0_lose_1 : List UInt8 := [42, 180, 0, 27, 27, 1, 83, 28, 172]
abbrev dktX0_lose_1 : List UInt8 := dkwX0_lose_1 ++ []
def dkwX0_lose_0 : List UInt8 := [27, 184, 1, 22, 153, 0, 5, 2, 172, 42, 180, 0, 27, 27, 50, 199, 0, 7, 3, 167, 0, 4, 4, 61]
abbrev dktX0_lose_0 : List UInt8 := dkwX0_lose_0 ++ dktX0_lose_1
theorem dksX0_lose_0 : cX0_lose.data.toList.drop 0 = dktX0_lose_0 := by decide +kernel
theorem dksX0_lose_1 : cX0_lose.data.toList.drop 24 = dktX0_lose_1 := dk_seg dksX0_lose_0 24 rfl rfl
theorem dX0_lose_0 : decode cX0_lose 0 = .ok (.iload_n 1, 1) := dk_27 (dk_at dksX0_lose_0 0 rfl rfl)
theorem dX0_lose_1 : decode cX0_lose 1 = .ok (.invokestatic 278, 3) := dk_184 1 22 (dk_at dksX0_lose_0 1 rfl rfl)
theorem dX0_lose_4 : decode cX0_lose 4 = .ok (.ifCond .eq 5, 3) := dk_153 0 5 (dk_at dksX0_lose_0 4 rfl rfl)
theorem dX0_lose_7 : decode cX0_lose 7 = .ok (.iconst (-1), 1) := dk_2 (dk_at dksX0_lose_0 7 rfl rfl)
theorem dX0_lose_8 : decode cX0_lose 8 = .ok (.ireturn, 1) := dk_172 (dk_at dksX0_lose_0 8 rfl rfl)
theorem dX0_lose_9 : decode cX0_lose 9 = .ok (.aload_n 0, 1) := dk_42 (dk_at dksX0_lose_0 9 rfl rfl)
theorem dX0_lose_10 : decode cX0_lose 10 = .ok (.getfield 27, 3) := dk_180 0 27 (dk_at dksX0_lose_0 10 rfl rfl)
theorem dX0_lose_13 : decode cX0_lose 13 = .ok (.iload_n 1, 1) := dk_27 (dk_at dksX0_lose_0 13 rfl rfl)
theorem dX0_lose_14 : decode cX0_lose 14 = .ok (.aaload, 1) := dk_50 (dk_at dksX0_lose_0 14 rfl rfl)
theorem dX0_lose_15 : decode cX0_lose 15 = .ok (.ifnonnull 7, 3) := dk_199 0 7 (dk_at dksX0_lose_0 15 rfl rfl)
theorem dX0_lose_18 : decode cX0_lose 18 = .ok (.iconst 0, 1) := dk_3 (dk_at dksX0_lose_0 18 rfl rfl)
theorem dX0_lose_19 : decode cX0_lose 19 = .ok (.goto 4, 3) := dk_167 0 4 (dk_at dksX0_lose_0 19 rfl rfl)
theorem dX0_lose_22 : decode cX0_lose 22 = .ok (.iconst 1, 1) := dk_4 (dk_at dksX0_lose_0 22 rfl rfl)
theorem dX0_lose_23 : decode cX0_lose 23 = .ok (.istore_n 2, 1) := dk_61 (dk_at dksX0_lose_0 23 rfl rfl)
theorem dX0_lose_24 : decode cX0_lose 24 = .ok (.aload_n 0, 1) := dk_42 (dk_at dksX0_lose_1 0 rfl rfl)
theorem dX0_lose_25 : decode cX0_lose 25 = .ok (.getfield 27, 3) := dk_180 0 27 (dk_at dksX0_lose_1 1 rfl rfl)
theorem dX0_lose_28 : decode cX0_lose 28 = .ok (.iload_n 1, 1) := dk_27 (dk_at dksX0_lose_1 4 rfl rfl)
theorem dX0_lose_29 : decode cX0_lose 29 = .ok (.aconst_null, 1) := dk_1 (dk_at dksX0_lose_1 5 rfl rfl)
theorem dX0_lose_30 : decode cX0_lose 30 = .ok (.aastore, 1) := dk_83 (dk_at dksX0_lose_1 6 rfl rfl)
theorem dX0_lose_31 : decode cX0_lose 31 = .ok (.iload_n 2, 1) := dk_28 (dk_at dksX0_lose_1 7 rfl rfl)
theorem dX0_lose_32 : decode cX0_lose 32 = .ok (.ireturn, 1) := dk_172 (dk_at dksX0_lose_1 8 rfl rfl)
abbrev cX0_put : ByteArray := prog_1_method_65_code
def yX0_put : MethodName := ⟨RX0, "put", "(III)I"⟩
def dkwX0_put_2 : List UInt8 := [182, 1, 37, 172]
abbrev dktX0_put_2 : List UInt8 := dkwX0_put_2 ++ []
def dkwX0_put_1 : List UInt8 := [180, 1, 18, 28, 29, 184, 1, 40, 4, 172, 58, 4, 42, 4, 182, 1, 37, 172, 58, 4, 42, 6]
abbrev dktX0_put_1 : List UInt8 := dkwX0_put_1 ++ dktX0_put_2
def dkwX0_put_0 : List UInt8 := [27, 184, 1, 22, 153, 0, 9, 42, 2, 182, 1, 25, 172, 42, 3, 181, 1, 8, 42, 180, 0, 27, 27, 50]
abbrev dktX0_put_0 : List UInt8 := dkwX0_put_0 ++ dktX0_put_1
theorem dksX0_put_0 : cX0_put.data.toList.drop 0 = dktX0_put_0 := by decide +kernel
theorem dksX0_put_1 : cX0_put.data.toList.drop 24 = dktX0_put_1 := dk_seg dksX0_put_0 24 rfl rfl
theorem dksX0_put_2 : cX0_put.data.toList.drop 46 = dktX0_put_2 := dk_seg dksX0_put_1 22 rfl rfl
theorem dX0_put_0 : decode cX0_put 0 = .ok (.iload_n 1, 1) := dk_27 (dk_at dksX0_put_0 0 rfl rfl)
theorem dX0_put_1 : decode cX0_put 1 = .ok (.invokestatic 278, 3) := dk_184 1 22 (dk_at dksX0_put_0 1 rfl rfl)
theorem dX0_put_4 : decode cX0_put 4 = .ok (.ifCond .eq 9, 3) := dk_153 0 9 (dk_at dksX0_put_0 4 rfl rfl)
theorem dX0_put_7 : decode cX0_put 7 = .ok (.aload_n 0, 1) := dk_42 (dk_at dksX0_put_0 7 rfl rfl)
theorem dX0_put_8 : decode cX0_put 8 = .ok (.iconst (-1), 1) := dk_2 (dk_at dksX0_put_0 8 rfl rfl)
theorem dX0_put_9 : decode cX0_put 9 = .ok (.invokevirtual 281, 3) := dk_182 1 25 (dk_at dksX0_put_0 9 rfl rfl)
theorem dX0_put_12 : decode cX0_put 12 = .ok (.ireturn, 1) := dk_172 (dk_at dksX0_put_0 12 rfl rfl)
theorem dX0_put_13 : decode cX0_put 13 = .ok (.aload_n 0, 1) := dk_42 (dk_at dksX0_put_0 13 rfl rfl)
theorem dX0_put_14 : decode cX0_put 14 = .ok (.iconst 0, 1) := dk_3 (dk_at dksX0_put_0 14 rfl rfl)
theorem dX0_put_15 : decode cX0_put 15 = .ok (.putfield 264, 3) := dk_181 1 8 (dk_at dksX0_put_0 15 rfl rfl)
theorem dX0_put_18 : decode cX0_put 18 = .ok (.aload_n 0, 1) := dk_42 (dk_at dksX0_put_0 18 rfl rfl)
theorem dX0_put_19 : decode cX0_put 19 = .ok (.getfield 27, 3) := dk_180 0 27 (dk_at dksX0_put_0 19 rfl rfl)
theorem dX0_put_22 : decode cX0_put 22 = .ok (.iload_n 1, 1) := dk_27 (dk_at dksX0_put_0 22 rfl rfl)
theorem dX0_put_23 : decode cX0_put 23 = .ok (.aaload, 1) := dk_50 (dk_at dksX0_put_0 23 rfl rfl)
theorem dX0_put_24 : decode cX0_put 24 = .ok (.getfield 274, 3) := dk_180 1 18 (dk_at dksX0_put_1 0 rfl rfl)
theorem dX0_put_27 : decode cX0_put 27 = .ok (.iload_n 2, 1) := dk_28 (dk_at dksX0_put_1 3 rfl rfl)
theorem dX0_put_28 : decode cX0_put 28 = .ok (.iload_n 3, 1) := dk_29 (dk_at dksX0_put_1 4 rfl rfl)
theorem dX0_put_29 : decode cX0_put 29 = .ok (.invokestatic 296, 3) := dk_184 1 40 (dk_at dksX0_put_1 5 rfl rfl)
theorem dX0_put_32 : decode cX0_put 32 = .ok (.iconst 1, 1) := dk_4 (dk_at dksX0_put_1 8 rfl rfl)
theorem dX0_put_33 : decode cX0_put 33 = .ok (.ireturn, 1) := dk_172 (dk_at dksX0_put_1 9 rfl rfl)
theorem dX0_put_34 : decode cX0_put 34 = .ok (.astore 4, 2) := dk_58 4 (dk_at dksX0_put_1 10 rfl rfl)
theorem dX0_put_36 : decode cX0_put 36 = .ok (.aload_n 0, 1) := dk_42 (dk_at dksX0_put_1 12 rfl rfl)
theorem dX0_put_37 : decode cX0_put 37 = .ok (.iconst 1, 1) := dk_4 (dk_at dksX0_put_1 13 rfl rfl)
theorem dX0_put_38 : decode cX0_put 38 = .ok (.invokevirtual 293, 3) := dk_182 1 37 (dk_at dksX0_put_1 14 rfl rfl)
theorem dX0_put_41 : decode cX0_put 41 = .ok (.ireturn, 1) := dk_172 (dk_at dksX0_put_1 17 rfl rfl)
theorem dX0_put_42 : decode cX0_put 42 = .ok (.astore 4, 2) := dk_58 4 (dk_at dksX0_put_1 18 rfl rfl)
theorem dX0_put_44 : decode cX0_put 44 = .ok (.aload_n 0, 1) := dk_42 (dk_at dksX0_put_1 20 rfl rfl)
theorem dX0_put_45 : decode cX0_put 45 = .ok (.iconst 3, 1) := dk_6 (dk_at dksX0_put_1 21 rfl rfl)
theorem dX0_put_46 : decode cX0_put 46 = .ok (.invokevirtual 293, 3) := dk_182 1 37 (dk_at dksX0_put_2 0 rfl rfl)
theorem dX0_put_49 : decode cX0_put 49 = .ok (.ireturn, 1) := dk_172 (dk_at dksX0_put_2 3 rfl rfl)
abbrev cX0_setIn : ByteArray := prog_1_method_60_code
def yX0_setIn : MethodName := ⟨RX0, "setIn", "(Ljava/lang/Object;II)V"⟩
def dkwX0_setIn_1 : List UInt8 := [153, 0, 14, 42, 192, 1, 13, 27, 28, 147, 86, 167, 0, 10, 42, 192, 1, 15, 27, 28, 79, 177]
abbrev dktX0_setIn_1 : List UInt8 := dkwX0_setIn_1 ++ []
def dkwX0_setIn_0 : List UInt8 := [42, 193, 1, 11, 153, 0, 14, 42, 192, 1, 11, 27, 28, 145, 84, 167, 0, 28, 42, 193, 1, 13]
abbrev dktX0_setIn_0 : List UInt8 := dkwX0_setIn_0 ++ dktX0_setIn_1
theorem dksX0_setIn_0 : cX0_setIn.data.toList.drop 0 = dktX0_setIn_0 := by decide +kernel
theorem dksX0_setIn_1 : cX0_setIn.data.toList.drop 22 = dktX0_setIn_1 := dk_seg dksX0_setIn_0 22 rfl rfl
theorem dX0_setIn_0 : decode cX0_setIn 0 = .ok (.aload_n 0, 1) := dk_42 (dk_at dksX0_setIn_0 0 rfl rfl)
theorem dX0_setIn_1 : decode cX0_setIn 1 = .ok (.instanceof 267, 3) := dk_193 1 11 (dk_at dksX0_setIn_0 1 rfl rfl)
theorem dX0_setIn_4 : decode cX0_setIn 4 = .ok (.ifCond .eq 14, 3) := dk_153 0 14 (dk_at dksX0_setIn_0 4 rfl rfl)
theorem dX0_setIn_7 : decode cX0_setIn 7 = .ok (.aload_n 0, 1) := dk_42 (dk_at dksX0_setIn_0 7 rfl rfl)
theorem dX0_setIn_8 : decode cX0_setIn 8 = .ok (.checkcast 267, 3) := dk_192 1 11 (dk_at dksX0_setIn_0 8 rfl rfl)
theorem dX0_setIn_11 : decode cX0_setIn 11 = .ok (.iload_n 1, 1) := dk_27 (dk_at dksX0_setIn_0 11 rfl rfl)
theorem dX0_setIn_12 : decode cX0_setIn 12 = .ok (.iload_n 2, 1) := dk_28 (dk_at dksX0_setIn_0 12 rfl rfl)
theorem dX0_setIn_13 : decode cX0_setIn 13 = .ok (.i2b, 1) := dk_145 (dk_at dksX0_setIn_0 13 rfl rfl)
theorem dX0_setIn_14 : decode cX0_setIn 14 = .ok (.bastore, 1) := dk_84 (dk_at dksX0_setIn_0 14 rfl rfl)
theorem dX0_setIn_15 : decode cX0_setIn 15 = .ok (.goto 28, 3) := dk_167 0 28 (dk_at dksX0_setIn_0 15 rfl rfl)
theorem dX0_setIn_18 : decode cX0_setIn 18 = .ok (.aload_n 0, 1) := dk_42 (dk_at dksX0_setIn_0 18 rfl rfl)
theorem dX0_setIn_19 : decode cX0_setIn 19 = .ok (.instanceof 269, 3) := dk_193 1 13 (dk_at dksX0_setIn_0 19 rfl rfl)
theorem dX0_setIn_22 : decode cX0_setIn 22 = .ok (.ifCond .eq 14, 3) := dk_153 0 14 (dk_at dksX0_setIn_1 0 rfl rfl)
theorem dX0_setIn_25 : decode cX0_setIn 25 = .ok (.aload_n 0, 1) := dk_42 (dk_at dksX0_setIn_1 3 rfl rfl)
theorem dX0_setIn_26 : decode cX0_setIn 26 = .ok (.checkcast 269, 3) := dk_192 1 13 (dk_at dksX0_setIn_1 4 rfl rfl)
theorem dX0_setIn_29 : decode cX0_setIn 29 = .ok (.iload_n 1, 1) := dk_27 (dk_at dksX0_setIn_1 7 rfl rfl)
theorem dX0_setIn_30 : decode cX0_setIn 30 = .ok (.iload_n 2, 1) := dk_28 (dk_at dksX0_setIn_1 8 rfl rfl)
theorem dX0_setIn_31 : decode cX0_setIn 31 = .ok (.i2s, 1) := dk_147 (dk_at dksX0_setIn_1 9 rfl rfl)
theorem dX0_setIn_32 : decode cX0_setIn 32 = .ok (.sastore, 1) := dk_86 (dk_at dksX0_setIn_1 10 rfl rfl)
theorem dX0_setIn_33 : decode cX0_setIn 33 = .ok (.goto 10, 3) := dk_167 0 10 (dk_at dksX0_setIn_1 11 rfl rfl)
theorem dX0_setIn_36 : decode cX0_setIn 36 = .ok (.aload_n 0, 1) := dk_42 (dk_at dksX0_setIn_1 14 rfl rfl)
theorem dX0_setIn_37 : decode cX0_setIn 37 = .ok (.checkcast 271, 3) := dk_192 1 15 (dk_at dksX0_setIn_1 15 rfl rfl)
theorem dX0_setIn_40 : decode cX0_setIn 40 = .ok (.iload_n 1, 1) := dk_27 (dk_at dksX0_setIn_1 18 rfl rfl)
theorem dX0_setIn_41 : decode cX0_setIn 41 = .ok (.iload_n 2, 1) := dk_28 (dk_at dksX0_setIn_1 19 rfl rfl)
theorem dX0_setIn_42 : decode cX0_setIn 42 = .ok (.iastore, 1) := dk_79 (dk_at dksX0_setIn_1 20 rfl rfl)
theorem dX0_setIn_43 : decode cX0_setIn 43 = .ok (.return_, 1) := dk_177 (dk_at dksX0_setIn_1 21 rfl rfl)
abbrev cX0_cell : ByteArray := prog_1_method_66_code
def yX0_cell : MethodName := ⟨RX0, "cell", "(III)J"⟩
def dkwX0_cell_2 : List UInt8 := [58, 4, 42, 5, 182, 1, 55, 173, 58, 4, 42, 6, 182, 1, 55, 173]
abbrev dktX0_cell_2 : List UInt8 := dkwX0_cell_2 ++ []
def dkwX0_cell_1 : List UInt8 := [20, 1, 6, 173, 42, 27, 182, 1, 48, 29, 28, 184, 1, 51, 133, 173, 58, 4, 42, 4, 182, 1, 55, 173]
abbrev dktX0_cell_1 : List UInt8 := dkwX0_cell_1 ++ dktX0_cell_2
def dkwX0_cell_0 : List UInt8 := [42, 3, 181, 1, 8, 27, 184, 1, 22, 154, 0, 15, 29, 133, 9, 20, 0, 216, 184, 0, 52, 154, 0, 7]
abbrev dktX0_cell_0 : List UInt8 := dkwX0_cell_0 ++ dktX0_cell_1
theorem dksX0_cell_0 : cX0_cell.data.toList.drop 0 = dktX0_cell_0 := by decide +kernel
theorem dksX0_cell_1 : cX0_cell.data.toList.drop 24 = dktX0_cell_1 := dk_seg dksX0_cell_0 24 rfl rfl
theorem dksX0_cell_2 : cX0_cell.data.toList.drop 48 = dktX0_cell_2 := dk_seg dksX0_cell_1 24 rfl rfl
theorem dX0_cell_0 : decode cX0_cell 0 = .ok (.aload_n 0, 1) := dk_42 (dk_at dksX0_cell_0 0 rfl rfl)
theorem dX0_cell_1 : decode cX0_cell 1 = .ok (.iconst 0, 1) := dk_3 (dk_at dksX0_cell_0 1 rfl rfl)
theorem dX0_cell_2 : decode cX0_cell 2 = .ok (.putfield 264, 3) := dk_181 1 8 (dk_at dksX0_cell_0 2 rfl rfl)
theorem dX0_cell_5 : decode cX0_cell 5 = .ok (.iload_n 1, 1) := dk_27 (dk_at dksX0_cell_0 5 rfl rfl)
theorem dX0_cell_6 : decode cX0_cell 6 = .ok (.invokestatic 278, 3) := dk_184 1 22 (dk_at dksX0_cell_0 6 rfl rfl)
theorem dX0_cell_9 : decode cX0_cell 9 = .ok (.ifCond .ne 15, 3) := dk_154 0 15 (dk_at dksX0_cell_0 9 rfl rfl)
theorem dX0_cell_12 : decode cX0_cell 12 = .ok (.iload_n 3, 1) := dk_29 (dk_at dksX0_cell_0 12 rfl rfl)
theorem dX0_cell_13 : decode cX0_cell 13 = .ok (.i2l, 1) := dk_133 (dk_at dksX0_cell_0 13 rfl rfl)
theorem dX0_cell_14 : decode cX0_cell 14 = .ok (.lconst 0, 1) := dk_9 (dk_at dksX0_cell_0 14 rfl rfl)
theorem dX0_cell_15 : decode cX0_cell 15 = .ok (.ldc2_w 216, 3) := dk_20 0 216 (dk_at dksX0_cell_0 15 rfl rfl)
theorem dX0_cell_18 : decode cX0_cell 18 = .ok (.invokestatic 52, 3) := dk_184 0 52 (dk_at dksX0_cell_0 18 rfl rfl)
theorem dX0_cell_21 : decode cX0_cell 21 = .ok (.ifCond .ne 7, 3) := dk_154 0 7 (dk_at dksX0_cell_0 21 rfl rfl)
theorem dX0_cell_24 : decode cX0_cell 24 = .ok (.ldc2_w 262, 3) := dk_20 1 6 (dk_at dksX0_cell_1 0 rfl rfl)
theorem dX0_cell_27 : decode cX0_cell 27 = .ok (.lreturn, 1) := dk_173 (dk_at dksX0_cell_1 3 rfl rfl)
theorem dX0_cell_28 : decode cX0_cell 28 = .ok (.aload_n 0, 1) := dk_42 (dk_at dksX0_cell_1 4 rfl rfl)
theorem dX0_cell_29 : decode cX0_cell 29 = .ok (.iload_n 1, 1) := dk_27 (dk_at dksX0_cell_1 5 rfl rfl)
theorem dX0_cell_30 : decode cX0_cell 30 = .ok (.invokevirtual 304, 3) := dk_182 1 48 (dk_at dksX0_cell_1 6 rfl rfl)
theorem dX0_cell_33 : decode cX0_cell 33 = .ok (.iload_n 3, 1) := dk_29 (dk_at dksX0_cell_1 9 rfl rfl)
theorem dX0_cell_34 : decode cX0_cell 34 = .ok (.iload_n 2, 1) := dk_28 (dk_at dksX0_cell_1 10 rfl rfl)
theorem dX0_cell_35 : decode cX0_cell 35 = .ok (.invokestatic 307, 3) := dk_184 1 51 (dk_at dksX0_cell_1 11 rfl rfl)
theorem dX0_cell_38 : decode cX0_cell 38 = .ok (.i2l, 1) := dk_133 (dk_at dksX0_cell_1 14 rfl rfl)
theorem dX0_cell_39 : decode cX0_cell 39 = .ok (.lreturn, 1) := dk_173 (dk_at dksX0_cell_1 15 rfl rfl)
theorem dX0_cell_40 : decode cX0_cell 40 = .ok (.astore 4, 2) := dk_58 4 (dk_at dksX0_cell_1 16 rfl rfl)
theorem dX0_cell_42 : decode cX0_cell 42 = .ok (.aload_n 0, 1) := dk_42 (dk_at dksX0_cell_1 18 rfl rfl)
theorem dX0_cell_43 : decode cX0_cell 43 = .ok (.iconst 1, 1) := dk_4 (dk_at dksX0_cell_1 19 rfl rfl)
theorem dX0_cell_44 : decode cX0_cell 44 = .ok (.invokevirtual 311, 3) := dk_182 1 55 (dk_at dksX0_cell_1 20 rfl rfl)
theorem dX0_cell_47 : decode cX0_cell 47 = .ok (.lreturn, 1) := dk_173 (dk_at dksX0_cell_1 23 rfl rfl)
theorem dX0_cell_48 : decode cX0_cell 48 = .ok (.astore 4, 2) := dk_58 4 (dk_at dksX0_cell_2 0 rfl rfl)
theorem dX0_cell_50 : decode cX0_cell 50 = .ok (.aload_n 0, 1) := dk_42 (dk_at dksX0_cell_2 2 rfl rfl)
theorem dX0_cell_51 : decode cX0_cell 51 = .ok (.iconst 2, 1) := dk_5 (dk_at dksX0_cell_2 3 rfl rfl)
theorem dX0_cell_52 : decode cX0_cell 52 = .ok (.invokevirtual 311, 3) := dk_182 1 55 (dk_at dksX0_cell_2 4 rfl rfl)
theorem dX0_cell_55 : decode cX0_cell 55 = .ok (.lreturn, 1) := dk_173 (dk_at dksX0_cell_2 7 rfl rfl)
theorem dX0_cell_56 : decode cX0_cell 56 = .ok (.astore 4, 2) := dk_58 4 (dk_at dksX0_cell_2 8 rfl rfl)
theorem dX0_cell_58 : decode cX0_cell 58 = .ok (.aload_n 0, 1) := dk_42 (dk_at dksX0_cell_2 10 rfl rfl)
theorem dX0_cell_59 : decode cX0_cell 59 = .ok (.iconst 3, 1) := dk_6 (dk_at dksX0_cell_2 11 rfl rfl)
theorem dX0_cell_60 : decode cX0_cell 60 = .ok (.invokevirtual 311, 3) := dk_182 1 55 (dk_at dksX0_cell_2 12 rfl rfl)
theorem dX0_cell_63 : decode cX0_cell 63 = .ok (.lreturn, 1) := dk_173 (dk_at dksX0_cell_2 15 rfl rfl)
abbrev cX0_rowIn : ByteArray := prog_1_method_62_code
def yX0_rowIn : MethodName := ⟨RX0, "rowIn", "(I)Ljava/lang/Object;"⟩
def dkwX0_rowIn_0 : List UInt8 := [42, 180, 0, 27, 27, 50, 199, 0, 7, 1, 167, 0, 12, 42, 180, 0, 27, 27, 50, 180, 1, 18, 176]
abbrev dktX0_rowIn_0 : List UInt8 := dkwX0_rowIn_0 ++ []
theorem dksX0_rowIn_0 : cX0_rowIn.data.toList.drop 0 = dktX0_rowIn_0 := by decide +kernel
theorem dX0_rowIn_0 : decode cX0_rowIn 0 = .ok (.aload_n 0, 1) := dk_42 (dk_at dksX0_rowIn_0 0 rfl rfl)
theorem dX0_rowIn_1 : decode cX0_rowIn 1 = .ok (.getfield 27, 3) := dk_180 0 27 (dk_at dksX0_rowIn_0 1 rfl rfl)
theorem dX0_rowIn_4 : decode cX0_rowIn 4 = .ok (.iload_n 1, 1) := dk_27 (dk_at dksX0_rowIn_0 4 rfl rfl)
theorem dX0_rowIn_5 : decode cX0_rowIn 5 = .ok (.aaload, 1) := dk_50 (dk_at dksX0_rowIn_0 5 rfl rfl)
theorem dX0_rowIn_6 : decode cX0_rowIn 6 = .ok (.ifnonnull 7, 3) := dk_199 0 7 (dk_at dksX0_rowIn_0 6 rfl rfl)
theorem dX0_rowIn_9 : decode cX0_rowIn 9 = .ok (.aconst_null, 1) := dk_1 (dk_at dksX0_rowIn_0 9 rfl rfl)
theorem dX0_rowIn_10 : decode cX0_rowIn 10 = .ok (.goto 12, 3) := dk_167 0 12 (dk_at dksX0_rowIn_0 10 rfl rfl)
theorem dX0_rowIn_13 : decode cX0_rowIn 13 = .ok (.aload_n 0, 1) := dk_42 (dk_at dksX0_rowIn_0 13 rfl rfl)
theorem dX0_rowIn_14 : decode cX0_rowIn 14 = .ok (.getfield 27, 3) := dk_180 0 27 (dk_at dksX0_rowIn_0 14 rfl rfl)
theorem dX0_rowIn_17 : decode cX0_rowIn 17 = .ok (.iload_n 1, 1) := dk_27 (dk_at dksX0_rowIn_0 17 rfl rfl)
theorem dX0_rowIn_18 : decode cX0_rowIn 18 = .ok (.aaload, 1) := dk_50 (dk_at dksX0_rowIn_0 18 rfl rfl)
theorem dX0_rowIn_19 : decode cX0_rowIn 19 = .ok (.getfield 274, 3) := dk_180 1 18 (dk_at dksX0_rowIn_0 19 rfl rfl)
theorem dX0_rowIn_22 : decode cX0_rowIn 22 = .ok (.areturn, 1) := dk_176 (dk_at dksX0_rowIn_0 22 rfl rfl)
abbrev cX0_cellOf : ByteArray := prog_1_method_58_code
def yX0_cellOf : MethodName := ⟨RX0, "cellOf", "(Ljava/lang/Object;II)I"⟩
def dkwX0_cellOf_1 : List UInt8 := [167, 0, 9, 42, 192, 1, 15, 28, 46, 172]
abbrev dktX0_cellOf_1 : List UInt8 := dkwX0_cellOf_1 ++ []
def dkwX0_cellOf_0 : List UInt8 := [27, 154, 0, 12, 42, 192, 1, 11, 28, 51, 167, 0, 23, 27, 4, 160, 0, 12, 42, 192, 1, 13, 28, 53]
abbrev dktX0_cellOf_0 : List UInt8 := dkwX0_cellOf_0 ++ dktX0_cellOf_1
theorem dksX0_cellOf_0 : cX0_cellOf.data.toList.drop 0 = dktX0_cellOf_0 := by decide +kernel
theorem dksX0_cellOf_1 : cX0_cellOf.data.toList.drop 24 = dktX0_cellOf_1 := dk_seg dksX0_cellOf_0 24 rfl rfl
theorem dX0_cellOf_0 : decode cX0_cellOf 0 = .ok (.iload_n 1, 1) := dk_27 (dk_at dksX0_cellOf_0 0 rfl rfl)
theorem dX0_cellOf_1 : decode cX0_cellOf 1 = .ok (.ifCond .ne 12, 3) := dk_154 0 12 (dk_at dksX0_cellOf_0 1 rfl rfl)
theorem dX0_cellOf_4 : decode cX0_cellOf 4 = .ok (.aload_n 0, 1) := dk_42 (dk_at dksX0_cellOf_0 4 rfl rfl)
theorem dX0_cellOf_5 : decode cX0_cellOf 5 = .ok (.checkcast 267, 3) := dk_192 1 11 (dk_at dksX0_cellOf_0 5 rfl rfl)
theorem dX0_cellOf_8 : decode cX0_cellOf 8 = .ok (.iload_n 2, 1) := dk_28 (dk_at dksX0_cellOf_0 8 rfl rfl)
theorem dX0_cellOf_9 : decode cX0_cellOf 9 = .ok (.baload, 1) := dk_51 (dk_at dksX0_cellOf_0 9 rfl rfl)
theorem dX0_cellOf_10 : decode cX0_cellOf 10 = .ok (.goto 23, 3) := dk_167 0 23 (dk_at dksX0_cellOf_0 10 rfl rfl)
theorem dX0_cellOf_13 : decode cX0_cellOf 13 = .ok (.iload_n 1, 1) := dk_27 (dk_at dksX0_cellOf_0 13 rfl rfl)
theorem dX0_cellOf_14 : decode cX0_cellOf 14 = .ok (.iconst 1, 1) := dk_4 (dk_at dksX0_cellOf_0 14 rfl rfl)
theorem dX0_cellOf_15 : decode cX0_cellOf 15 = .ok (.if_icmp .ne 12, 3) := dk_160 0 12 (dk_at dksX0_cellOf_0 15 rfl rfl)
theorem dX0_cellOf_18 : decode cX0_cellOf 18 = .ok (.aload_n 0, 1) := dk_42 (dk_at dksX0_cellOf_0 18 rfl rfl)
theorem dX0_cellOf_19 : decode cX0_cellOf 19 = .ok (.checkcast 269, 3) := dk_192 1 13 (dk_at dksX0_cellOf_0 19 rfl rfl)
theorem dX0_cellOf_22 : decode cX0_cellOf 22 = .ok (.iload_n 2, 1) := dk_28 (dk_at dksX0_cellOf_0 22 rfl rfl)
theorem dX0_cellOf_23 : decode cX0_cellOf 23 = .ok (.saload, 1) := dk_53 (dk_at dksX0_cellOf_0 23 rfl rfl)
theorem dX0_cellOf_24 : decode cX0_cellOf 24 = .ok (.goto 9, 3) := dk_167 0 9 (dk_at dksX0_cellOf_1 0 rfl rfl)
theorem dX0_cellOf_27 : decode cX0_cellOf 27 = .ok (.aload_n 0, 1) := dk_42 (dk_at dksX0_cellOf_1 3 rfl rfl)
theorem dX0_cellOf_28 : decode cX0_cellOf 28 = .ok (.checkcast 271, 3) := dk_192 1 15 (dk_at dksX0_cellOf_1 4 rfl rfl)
theorem dX0_cellOf_31 : decode cX0_cellOf 31 = .ok (.iload_n 2, 1) := dk_28 (dk_at dksX0_cellOf_1 7 rfl rfl)
theorem dX0_cellOf_32 : decode cX0_cellOf 32 = .ok (.iaload, 1) := dk_46 (dk_at dksX0_cellOf_1 8 rfl rfl)
theorem dX0_cellOf_33 : decode cX0_cellOf 33 = .ok (.ireturn, 1) := dk_172 (dk_at dksX0_cellOf_1 9 rfl rfl)
abbrev cX0_failsLong : ByteArray := prog_1_method_56_code
def yX0_failsLong : MethodName := ⟨RX0, "failsLong", "(I)J"⟩
def dkwX0_failsLong_0 : List UInt8 := [42, 27, 181, 1, 8, 20, 1, 6, 173]
abbrev dktX0_failsLong_0 : List UInt8 := dkwX0_failsLong_0 ++ []
theorem dksX0_failsLong_0 : cX0_failsLong.data.toList.drop 0 = dktX0_failsLong_0 := by decide +kernel
theorem dX0_failsLong_0 : decode cX0_failsLong 0 = .ok (.aload_n 0, 1) := dk_42 (dk_at dksX0_failsLong_0 0 rfl rfl)
theorem dX0_failsLong_1 : decode cX0_failsLong 1 = .ok (.iload_n 1, 1) := dk_27 (dk_at dksX0_failsLong_0 1 rfl rfl)
theorem dX0_failsLong_2 : decode cX0_failsLong 2 = .ok (.putfield 264, 3) := dk_181 1 8 (dk_at dksX0_failsLong_0 2 rfl rfl)
theorem dX0_failsLong_5 : decode cX0_failsLong 5 = .ok (.ldc2_w 262, 3) := dk_20 1 6 (dk_at dksX0_failsLong_0 5 rfl rfl)
theorem dX0_failsLong_8 : decode cX0_failsLong 8 = .ok (.lreturn, 1) := dk_173 (dk_at dksX0_failsLong_0 8 rfl rfl)
abbrev cX0_vine : ByteArray := prog_1_method_70_code
def yX0_vine : MethodName := ⟨RX0, "vine", "(IIII)I"⟩
def dkwX0_vine_0 : List UInt8 := [42, 187, 1, 85, 89, 42, 27, 28, 29, 21, 4, 183, 1, 87, 4, 182, 1, 90, 172]
abbrev dktX0_vine_0 : List UInt8 := dkwX0_vine_0 ++ []
theorem dksX0_vine_0 : cX0_vine.data.toList.drop 0 = dktX0_vine_0 := by decide +kernel
theorem dX0_vine_0 : decode cX0_vine 0 = .ok (.aload_n 0, 1) := dk_42 (dk_at dksX0_vine_0 0 rfl rfl)
theorem dX0_vine_1 : decode cX0_vine 1 = .ok (.new 341, 3) := dk_187 1 85 (dk_at dksX0_vine_0 1 rfl rfl)
theorem dX0_vine_4 : decode cX0_vine 4 = .ok (.dup, 1) := dk_89 (dk_at dksX0_vine_0 4 rfl rfl)
theorem dX0_vine_5 : decode cX0_vine 5 = .ok (.aload_n 0, 1) := dk_42 (dk_at dksX0_vine_0 5 rfl rfl)
theorem dX0_vine_6 : decode cX0_vine 6 = .ok (.iload_n 1, 1) := dk_27 (dk_at dksX0_vine_0 6 rfl rfl)
theorem dX0_vine_7 : decode cX0_vine 7 = .ok (.iload_n 2, 1) := dk_28 (dk_at dksX0_vine_0 7 rfl rfl)
theorem dX0_vine_8 : decode cX0_vine 8 = .ok (.iload_n 3, 1) := dk_29 (dk_at dksX0_vine_0 8 rfl rfl)
theorem dX0_vine_9 : decode cX0_vine 9 = .ok (.iload 4, 2) := dk_21 4 (dk_at dksX0_vine_0 9 rfl rfl)
theorem dX0_vine_11 : decode cX0_vine 11 = .ok (.invokespecial 343, 3) := dk_183 1 87 (dk_at dksX0_vine_0 11 rfl rfl)
theorem dX0_vine_14 : decode cX0_vine 14 = .ok (.iconst 1, 1) := dk_4 (dk_at dksX0_vine_0 14 rfl rfl)
theorem dX0_vine_15 : decode cX0_vine 15 = .ok (.invokevirtual 346, 3) := dk_182 1 90 (dk_at dksX0_vine_0 15 rfl rfl)
theorem dX0_vine_18 : decode cX0_vine 18 = .ok (.ireturn, 1) := dk_172 (dk_at dksX0_vine_0 18 rfl rfl)
abbrev cX0_looked : ByteArray := prog_1_method_69_code
def yX0_looked : MethodName := ⟨RX0, "looked", "(LVineRows$Looking;Z)I"⟩
def dkwX0_looked_2 : List UInt8 := [182, 1, 25, 172]
abbrev dktX0_looked_2 : List UInt8 := dkwX0_looked_2 ++ []
def dkwX0_looked_1 : List UInt8 := [20, 0, 216, 184, 0, 52, 153, 0, 14, 28, 153, 0, 10, 43, 182, 1, 82, 167, 0, 9, 42, 16, 254]
abbrev dktX0_looked_1 : List UInt8 := dkwX0_looked_1 ++ dktX0_looked_2
def dkwX0_looked_0 : List UInt8 := [43, 180, 1, 74, 184, 1, 22, 153, 0, 9, 42, 2, 182, 1, 25, 172, 43, 180, 1, 79, 133, 9]
abbrev dktX0_looked_0 : List UInt8 := dkwX0_looked_0 ++ dktX0_looked_1
theorem dksX0_looked_0 : cX0_looked.data.toList.drop 0 = dktX0_looked_0 := by decide +kernel
theorem dksX0_looked_1 : cX0_looked.data.toList.drop 22 = dktX0_looked_1 := dk_seg dksX0_looked_0 22 rfl rfl
theorem dksX0_looked_2 : cX0_looked.data.toList.drop 45 = dktX0_looked_2 := dk_seg dksX0_looked_1 23 rfl rfl
theorem dX0_looked_0 : decode cX0_looked 0 = .ok (.aload_n 1, 1) := dk_43 (dk_at dksX0_looked_0 0 rfl rfl)
theorem dX0_looked_1 : decode cX0_looked 1 = .ok (.getfield 330, 3) := dk_180 1 74 (dk_at dksX0_looked_0 1 rfl rfl)
theorem dX0_looked_4 : decode cX0_looked 4 = .ok (.invokestatic 278, 3) := dk_184 1 22 (dk_at dksX0_looked_0 4 rfl rfl)
theorem dX0_looked_7 : decode cX0_looked 7 = .ok (.ifCond .eq 9, 3) := dk_153 0 9 (dk_at dksX0_looked_0 7 rfl rfl)
theorem dX0_looked_10 : decode cX0_looked 10 = .ok (.aload_n 0, 1) := dk_42 (dk_at dksX0_looked_0 10 rfl rfl)
theorem dX0_looked_11 : decode cX0_looked 11 = .ok (.iconst (-1), 1) := dk_2 (dk_at dksX0_looked_0 11 rfl rfl)
theorem dX0_looked_12 : decode cX0_looked 12 = .ok (.invokevirtual 281, 3) := dk_182 1 25 (dk_at dksX0_looked_0 12 rfl rfl)
theorem dX0_looked_15 : decode cX0_looked 15 = .ok (.ireturn, 1) := dk_172 (dk_at dksX0_looked_0 15 rfl rfl)
theorem dX0_looked_16 : decode cX0_looked 16 = .ok (.aload_n 1, 1) := dk_43 (dk_at dksX0_looked_0 16 rfl rfl)
theorem dX0_looked_17 : decode cX0_looked 17 = .ok (.getfield 335, 3) := dk_180 1 79 (dk_at dksX0_looked_0 17 rfl rfl)
theorem dX0_looked_20 : decode cX0_looked 20 = .ok (.i2l, 1) := dk_133 (dk_at dksX0_looked_0 20 rfl rfl)
theorem dX0_looked_21 : decode cX0_looked 21 = .ok (.lconst 0, 1) := dk_9 (dk_at dksX0_looked_0 21 rfl rfl)
theorem dX0_looked_22 : decode cX0_looked 22 = .ok (.ldc2_w 216, 3) := dk_20 0 216 (dk_at dksX0_looked_1 0 rfl rfl)
theorem dX0_looked_25 : decode cX0_looked 25 = .ok (.invokestatic 52, 3) := dk_184 0 52 (dk_at dksX0_looked_1 3 rfl rfl)
theorem dX0_looked_28 : decode cX0_looked 28 = .ok (.ifCond .eq 14, 3) := dk_153 0 14 (dk_at dksX0_looked_1 6 rfl rfl)
theorem dX0_looked_31 : decode cX0_looked 31 = .ok (.iload_n 2, 1) := dk_28 (dk_at dksX0_looked_1 9 rfl rfl)
theorem dX0_looked_32 : decode cX0_looked 32 = .ok (.ifCond .eq 10, 3) := dk_153 0 10 (dk_at dksX0_looked_1 10 rfl rfl)
theorem dX0_looked_35 : decode cX0_looked 35 = .ok (.aload_n 1, 1) := dk_43 (dk_at dksX0_looked_1 13 rfl rfl)
theorem dX0_looked_36 : decode cX0_looked 36 = .ok (.invokevirtual 338, 3) := dk_182 1 82 (dk_at dksX0_looked_1 14 rfl rfl)
theorem dX0_looked_39 : decode cX0_looked 39 = .ok (.goto 9, 3) := dk_167 0 9 (dk_at dksX0_looked_1 17 rfl rfl)
theorem dX0_looked_42 : decode cX0_looked 42 = .ok (.aload_n 0, 1) := dk_42 (dk_at dksX0_looked_1 20 rfl rfl)
theorem dX0_looked_43 : decode cX0_looked 43 = .ok (.bipush (-2), 2) := dk_16 254 (dk_at dksX0_looked_1 21 rfl rfl)
theorem dX0_looked_45 : decode cX0_looked 45 = .ok (.invokevirtual 281, 3) := dk_182 1 25 (dk_at dksX0_looked_2 0 rfl rfl)
theorem dX0_looked_48 : decode cX0_looked 48 = .ok (.ireturn, 1) := dk_172 (dk_at dksX0_looked_2 3 rfl rfl)
abbrev cX0_cellsOf : ByteArray := prog_1_method_68_code
def yX0_cellsOf : MethodName := ⟨RX0, "cellsOf", "(Ljava/lang/Object;III)[I"⟩
def dkwX0_cellsOf_3 : List UInt8 := [184, 1, 51, 79, 132, 7, 1, 167, 255, 231, 25, 6, 176]
abbrev dktX0_cellsOf_3 : List UInt8 := dkwX0_cellsOf_3 ++ []
def dkwX0_cellsOf_2 : List UInt8 := [58, 6, 3, 54, 7, 21, 7, 25, 6, 190, 162, 0, 23, 25, 6, 21, 7, 42, 27, 28, 21, 7, 96]
abbrev dktX0_cellsOf_2 : List UInt8 := dkwX0_cellsOf_2 ++ dktX0_cellsOf_3
def dkwX0_cellsOf_1 : List UInt8 := [155, 0, 15, 28, 21, 4, 29, 100, 163, 0, 7, 4, 167, 0, 4, 3, 184, 1, 70, 25, 5, 190, 188, 10]
abbrev dktX0_cellsOf_1 : List UInt8 := dkwX0_cellsOf_1 ++ dktX0_cellsOf_2
def dkwX0_cellsOf_0 : List UInt8 := [42, 27, 184, 1, 66, 54, 4, 29, 16, 61, 184, 0, 200, 188, 8, 58, 5, 29, 16, 61, 162, 0, 19, 28]
abbrev dktX0_cellsOf_0 : List UInt8 := dkwX0_cellsOf_0 ++ dktX0_cellsOf_1
theorem dksX0_cellsOf_0 : cX0_cellsOf.data.toList.drop 0 = dktX0_cellsOf_0 := by decide +kernel
theorem dksX0_cellsOf_1 : cX0_cellsOf.data.toList.drop 24 = dktX0_cellsOf_1 := dk_seg dksX0_cellsOf_0 24 rfl rfl
theorem dksX0_cellsOf_2 : cX0_cellsOf.data.toList.drop 48 = dktX0_cellsOf_2 := dk_seg dksX0_cellsOf_1 24 rfl rfl
theorem dksX0_cellsOf_3 : cX0_cellsOf.data.toList.drop 71 = dktX0_cellsOf_3 := dk_seg dksX0_cellsOf_2 23 rfl rfl
theorem dX0_cellsOf_0 : decode cX0_cellsOf 0 = .ok (.aload_n 0, 1) := dk_42 (dk_at dksX0_cellsOf_0 0 rfl rfl)
theorem dX0_cellsOf_1 : decode cX0_cellsOf 1 = .ok (.iload_n 1, 1) := dk_27 (dk_at dksX0_cellsOf_0 1 rfl rfl)
theorem dX0_cellsOf_2 : decode cX0_cellsOf 2 = .ok (.invokestatic 322, 3) := dk_184 1 66 (dk_at dksX0_cellsOf_0 2 rfl rfl)
theorem dX0_cellsOf_5 : decode cX0_cellsOf 5 = .ok (.istore 4, 2) := dk_54 4 (dk_at dksX0_cellsOf_0 5 rfl rfl)
theorem dX0_cellsOf_7 : decode cX0_cellsOf 7 = .ok (.iload_n 3, 1) := dk_29 (dk_at dksX0_cellsOf_0 7 rfl rfl)
theorem dX0_cellsOf_8 : decode cX0_cellsOf 8 = .ok (.bipush 61, 2) := dk_16 61 (dk_at dksX0_cellsOf_0 8 rfl rfl)
theorem dX0_cellsOf_10 : decode cX0_cellsOf 10 = .ok (.invokestatic 200, 3) := dk_184 0 200 (dk_at dksX0_cellsOf_0 10 rfl rfl)
theorem dX0_cellsOf_13 : decode cX0_cellsOf 13 = .ok (.newarray .byte, 2) := dk_188_8 (dk_at dksX0_cellsOf_0 13 rfl rfl)
theorem dX0_cellsOf_15 : decode cX0_cellsOf 15 = .ok (.astore 5, 2) := dk_58 5 (dk_at dksX0_cellsOf_0 15 rfl rfl)
theorem dX0_cellsOf_17 : decode cX0_cellsOf 17 = .ok (.iload_n 3, 1) := dk_29 (dk_at dksX0_cellsOf_0 17 rfl rfl)
theorem dX0_cellsOf_18 : decode cX0_cellsOf 18 = .ok (.bipush 61, 2) := dk_16 61 (dk_at dksX0_cellsOf_0 18 rfl rfl)
theorem dX0_cellsOf_20 : decode cX0_cellsOf 20 = .ok (.if_icmp .ge 19, 3) := dk_162 0 19 (dk_at dksX0_cellsOf_0 20 rfl rfl)
theorem dX0_cellsOf_23 : decode cX0_cellsOf 23 = .ok (.iload_n 2, 1) := dk_28 (dk_at dksX0_cellsOf_0 23 rfl rfl)
theorem dX0_cellsOf_24 : decode cX0_cellsOf 24 = .ok (.ifCond .lt 15, 3) := dk_155 0 15 (dk_at dksX0_cellsOf_1 0 rfl rfl)
theorem dX0_cellsOf_27 : decode cX0_cellsOf 27 = .ok (.iload_n 2, 1) := dk_28 (dk_at dksX0_cellsOf_1 3 rfl rfl)
theorem dX0_cellsOf_28 : decode cX0_cellsOf 28 = .ok (.iload 4, 2) := dk_21 4 (dk_at dksX0_cellsOf_1 4 rfl rfl)
theorem dX0_cellsOf_30 : decode cX0_cellsOf 30 = .ok (.iload_n 3, 1) := dk_29 (dk_at dksX0_cellsOf_1 6 rfl rfl)
theorem dX0_cellsOf_31 : decode cX0_cellsOf 31 = .ok (.isub, 1) := dk_100 (dk_at dksX0_cellsOf_1 7 rfl rfl)
theorem dX0_cellsOf_32 : decode cX0_cellsOf 32 = .ok (.if_icmp .gt 7, 3) := dk_163 0 7 (dk_at dksX0_cellsOf_1 8 rfl rfl)
theorem dX0_cellsOf_35 : decode cX0_cellsOf 35 = .ok (.iconst 1, 1) := dk_4 (dk_at dksX0_cellsOf_1 11 rfl rfl)
theorem dX0_cellsOf_36 : decode cX0_cellsOf 36 = .ok (.goto 4, 3) := dk_167 0 4 (dk_at dksX0_cellsOf_1 12 rfl rfl)
theorem dX0_cellsOf_39 : decode cX0_cellsOf 39 = .ok (.iconst 0, 1) := dk_3 (dk_at dksX0_cellsOf_1 15 rfl rfl)
theorem dX0_cellsOf_40 : decode cX0_cellsOf 40 = .ok (.invokestatic 326, 3) := dk_184 1 70 (dk_at dksX0_cellsOf_1 16 rfl rfl)
theorem dX0_cellsOf_43 : decode cX0_cellsOf 43 = .ok (.aload 5, 2) := dk_25 5 (dk_at dksX0_cellsOf_1 19 rfl rfl)
theorem dX0_cellsOf_45 : decode cX0_cellsOf 45 = .ok (.arraylength, 1) := dk_190 (dk_at dksX0_cellsOf_1 21 rfl rfl)
theorem dX0_cellsOf_46 : decode cX0_cellsOf 46 = .ok (.newarray .int, 2) := dk_188_10 (dk_at dksX0_cellsOf_1 22 rfl rfl)
theorem dX0_cellsOf_48 : decode cX0_cellsOf 48 = .ok (.astore 6, 2) := dk_58 6 (dk_at dksX0_cellsOf_2 0 rfl rfl)
theorem dX0_cellsOf_50 : decode cX0_cellsOf 50 = .ok (.iconst 0, 1) := dk_3 (dk_at dksX0_cellsOf_2 2 rfl rfl)
theorem dX0_cellsOf_51 : decode cX0_cellsOf 51 = .ok (.istore 7, 2) := dk_54 7 (dk_at dksX0_cellsOf_2 3 rfl rfl)
theorem dX0_cellsOf_53 : decode cX0_cellsOf 53 = .ok (.iload 7, 2) := dk_21 7 (dk_at dksX0_cellsOf_2 5 rfl rfl)
theorem dX0_cellsOf_55 : decode cX0_cellsOf 55 = .ok (.aload 6, 2) := dk_25 6 (dk_at dksX0_cellsOf_2 7 rfl rfl)
theorem dX0_cellsOf_57 : decode cX0_cellsOf 57 = .ok (.arraylength, 1) := dk_190 (dk_at dksX0_cellsOf_2 9 rfl rfl)
theorem dX0_cellsOf_58 : decode cX0_cellsOf 58 = .ok (.if_icmp .ge 23, 3) := dk_162 0 23 (dk_at dksX0_cellsOf_2 10 rfl rfl)
theorem dX0_cellsOf_61 : decode cX0_cellsOf 61 = .ok (.aload 6, 2) := dk_25 6 (dk_at dksX0_cellsOf_2 13 rfl rfl)
theorem dX0_cellsOf_63 : decode cX0_cellsOf 63 = .ok (.iload 7, 2) := dk_21 7 (dk_at dksX0_cellsOf_2 15 rfl rfl)
theorem dX0_cellsOf_65 : decode cX0_cellsOf 65 = .ok (.aload_n 0, 1) := dk_42 (dk_at dksX0_cellsOf_2 17 rfl rfl)
theorem dX0_cellsOf_66 : decode cX0_cellsOf 66 = .ok (.iload_n 1, 1) := dk_27 (dk_at dksX0_cellsOf_2 18 rfl rfl)
theorem dX0_cellsOf_67 : decode cX0_cellsOf 67 = .ok (.iload_n 2, 1) := dk_28 (dk_at dksX0_cellsOf_2 19 rfl rfl)
theorem dX0_cellsOf_68 : decode cX0_cellsOf 68 = .ok (.iload 7, 2) := dk_21 7 (dk_at dksX0_cellsOf_2 20 rfl rfl)
theorem dX0_cellsOf_70 : decode cX0_cellsOf 70 = .ok (.iadd, 1) := dk_96 (dk_at dksX0_cellsOf_2 22 rfl rfl)
theorem dX0_cellsOf_71 : decode cX0_cellsOf 71 = .ok (.invokestatic 307, 3) := dk_184 1 51 (dk_at dksX0_cellsOf_3 0 rfl rfl)
theorem dX0_cellsOf_74 : decode cX0_cellsOf 74 = .ok (.iastore, 1) := dk_79 (dk_at dksX0_cellsOf_3 3 rfl rfl)
theorem dX0_cellsOf_75 : decode cX0_cellsOf 75 = .ok (.iinc 7 1, 3) := dk_132 7 1 (dk_at dksX0_cellsOf_3 4 rfl rfl)
theorem dX0_cellsOf_78 : decode cX0_cellsOf 78 = .ok (.goto (-25), 3) := dk_167 255 231 (dk_at dksX0_cellsOf_3 7 rfl rfl)
theorem dX0_cellsOf_81 : decode cX0_cellsOf 81 = .ok (.aload 6, 2) := dk_25 6 (dk_at dksX0_cellsOf_3 10 rfl rfl)
theorem dX0_cellsOf_83 : decode cX0_cellsOf 83 = .ok (.areturn, 1) := dk_176 (dk_at dksX0_cellsOf_3 12 rfl rfl)
abbrev cX0_sizeOf : ByteArray := prog_1_method_59_code
def yX0_sizeOf : MethodName := ⟨RX0, "sizeOf", "(Ljava/lang/Object;I)I"⟩
def dkwX0_sizeOf_1 : List UInt8 := [167, 0, 8, 42, 192, 1, 15, 190, 172]
abbrev dktX0_sizeOf_1 : List UInt8 := dkwX0_sizeOf_1 ++ []
def dkwX0_sizeOf_0 : List UInt8 := [27, 154, 0, 11, 42, 192, 1, 11, 190, 167, 0, 21, 27, 4, 160, 0, 11, 42, 192, 1, 13, 190]
abbrev dktX0_sizeOf_0 : List UInt8 := dkwX0_sizeOf_0 ++ dktX0_sizeOf_1
theorem dksX0_sizeOf_0 : cX0_sizeOf.data.toList.drop 0 = dktX0_sizeOf_0 := by decide +kernel
theorem dksX0_sizeOf_1 : cX0_sizeOf.data.toList.drop 22 = dktX0_sizeOf_1 := dk_seg dksX0_sizeOf_0 22 rfl rfl
theorem dX0_sizeOf_0 : decode cX0_sizeOf 0 = .ok (.iload_n 1, 1) := dk_27 (dk_at dksX0_sizeOf_0 0 rfl rfl)
theorem dX0_sizeOf_1 : decode cX0_sizeOf 1 = .ok (.ifCond .ne 11, 3) := dk_154 0 11 (dk_at dksX0_sizeOf_0 1 rfl rfl)
theorem dX0_sizeOf_4 : decode cX0_sizeOf 4 = .ok (.aload_n 0, 1) := dk_42 (dk_at dksX0_sizeOf_0 4 rfl rfl)
theorem dX0_sizeOf_5 : decode cX0_sizeOf 5 = .ok (.checkcast 267, 3) := dk_192 1 11 (dk_at dksX0_sizeOf_0 5 rfl rfl)
theorem dX0_sizeOf_8 : decode cX0_sizeOf 8 = .ok (.arraylength, 1) := dk_190 (dk_at dksX0_sizeOf_0 8 rfl rfl)
theorem dX0_sizeOf_9 : decode cX0_sizeOf 9 = .ok (.goto 21, 3) := dk_167 0 21 (dk_at dksX0_sizeOf_0 9 rfl rfl)
theorem dX0_sizeOf_12 : decode cX0_sizeOf 12 = .ok (.iload_n 1, 1) := dk_27 (dk_at dksX0_sizeOf_0 12 rfl rfl)
theorem dX0_sizeOf_13 : decode cX0_sizeOf 13 = .ok (.iconst 1, 1) := dk_4 (dk_at dksX0_sizeOf_0 13 rfl rfl)
theorem dX0_sizeOf_14 : decode cX0_sizeOf 14 = .ok (.if_icmp .ne 11, 3) := dk_160 0 11 (dk_at dksX0_sizeOf_0 14 rfl rfl)
theorem dX0_sizeOf_17 : decode cX0_sizeOf 17 = .ok (.aload_n 0, 1) := dk_42 (dk_at dksX0_sizeOf_0 17 rfl rfl)
theorem dX0_sizeOf_18 : decode cX0_sizeOf 18 = .ok (.checkcast 269, 3) := dk_192 1 13 (dk_at dksX0_sizeOf_0 18 rfl rfl)
theorem dX0_sizeOf_21 : decode cX0_sizeOf 21 = .ok (.arraylength, 1) := dk_190 (dk_at dksX0_sizeOf_0 21 rfl rfl)
theorem dX0_sizeOf_22 : decode cX0_sizeOf 22 = .ok (.goto 8, 3) := dk_167 0 8 (dk_at dksX0_sizeOf_1 0 rfl rfl)
theorem dX0_sizeOf_25 : decode cX0_sizeOf 25 = .ok (.aload_n 0, 1) := dk_42 (dk_at dksX0_sizeOf_1 3 rfl rfl)
theorem dX0_sizeOf_26 : decode cX0_sizeOf 26 = .ok (.checkcast 271, 3) := dk_192 1 15 (dk_at dksX0_sizeOf_1 4 rfl rfl)
theorem dX0_sizeOf_29 : decode cX0_sizeOf 29 = .ok (.arraylength, 1) := dk_190 (dk_at dksX0_sizeOf_1 7 rfl rfl)
theorem dX0_sizeOf_30 : decode cX0_sizeOf 30 = .ok (.ireturn, 1) := dk_172 (dk_at dksX0_sizeOf_1 8 rfl rfl)
abbrev cX0_need : ByteArray := prog_1_method_67_code
def yX0_need : MethodName := ⟨RX0, "need", "(Z)V"⟩
def dkwX0_need_0 : List UInt8 := [26, 154, 0, 14, 187, 1, 46, 89, 19, 1, 61, 183, 1, 63, 191, 177]
abbrev dktX0_need_0 : List UInt8 := dkwX0_need_0 ++ []
theorem dksX0_need_0 : cX0_need.data.toList.drop 0 = dktX0_need_0 := by decide +kernel
theorem dX0_need_0 : decode cX0_need 0 = .ok (.iload_n 0, 1) := dk_26 (dk_at dksX0_need_0 0 rfl rfl)
theorem dX0_need_1 : decode cX0_need 1 = .ok (.ifCond .ne 14, 3) := dk_154 0 14 (dk_at dksX0_need_0 1 rfl rfl)
theorem dX0_need_4 : decode cX0_need 4 = .ok (.new 302, 3) := dk_187 1 46 (dk_at dksX0_need_0 4 rfl rfl)
theorem dX0_need_7 : decode cX0_need 7 = .ok (.dup, 1) := dk_89 (dk_at dksX0_need_0 7 rfl rfl)
theorem dX0_need_8 : decode cX0_need 8 = .ok (.ldc_w 317, 3) := dk_19 1 61 (dk_at dksX0_need_0 8 rfl rfl)
theorem dX0_need_11 : decode cX0_need 11 = .ok (.invokespecial 319, 3) := dk_183 1 63 (dk_at dksX0_need_0 11 rfl rfl)
theorem dX0_need_14 : decode cX0_need 14 = .ok (.athrow, 1) := dk_191 (dk_at dksX0_need_0 14 rfl rfl)
theorem dX0_need_15 : decode cX0_need 15 = .ok (.return_, 1) := dk_177 (dk_at dksX0_need_0 15 rfl rfl)
abbrev cX0_newVine : ByteArray := prog_1_method_14_code
def yX0_newVine : MethodName := ⟨RX0, "newVine", "([I)I"⟩
def dkwX0_newVine_11 : List UInt8 := [181, 0, 114, 42, 180, 0, 22, 185, 0, 103, 1, 0, 42, 180, 0, 12, 185, 0, 48, 1, 0, 172]
abbrev dktX0_newVine_11 : List UInt8 := dkwX0_newVine_11 ++ []
def dkwX0_newVine_10 : List UInt8 := [185, 0, 103, 1, 0, 42, 180, 0, 12, 25, 5, 185, 0, 106, 2, 0, 87, 42, 45, 182, 0, 110, 42, 3]
abbrev dktX0_newVine_10 : List UInt8 := dkwX0_newVine_10 ++ dktX0_newVine_11
def dkwX0_newVine_9 : List UInt8 := [87, 132, 4, 2, 167, 255, 143, 21, 4, 43, 190, 162, 0, 9, 16, 156, 21, 4, 100, 172, 42, 180, 0, 12]
abbrev dktX0_newVine_9 : List UInt8 := dkwX0_newVine_9 ++ dktX0_newVine_10
def dkwX0_newVine_8 : List UInt8 := [100, 172, 25, 5, 42, 21, 7, 43, 21, 4, 4, 96, 184, 0, 89, 3, 182, 0, 95, 185, 0, 99, 2, 0]
abbrev dktX0_newVine_8 : List UInt8 := dkwX0_newVine_8 ++ dktX0_newVine_9
def dkwX0_newVine_7 : List UInt8 := [16, 156, 21, 4, 100, 172, 43, 21, 4, 4, 96, 3, 16, 9, 184, 0, 85, 154, 0, 9, 16, 155, 21, 4]
abbrev dktX0_newVine_7 : List UInt8 := dkwX0_newVine_7 ++ dktX0_newVine_8
def dkwX0_newVine_6 : List UInt8 := [167, 0, 16, 21, 6, 16, 100, 160, 0, 7, 5, 167, 0, 5, 16, 247, 54, 7, 21, 7, 156, 0, 9]
abbrev dktX0_newVine_6 : List UInt8 := dkwX0_newVine_6 ++ dktX0_newVine_7
def dkwX0_newVine_5 : List UInt8 := [184, 0, 60, 54, 6, 21, 6, 16, 112, 160, 0, 7, 3, 167, 0, 27, 21, 6, 16, 98, 160, 0, 7, 4]
abbrev dktX0_newVine_5 : List UInt8 := dkwX0_newVine_5 ++ dktX0_newVine_6
def dkwX0_newVine_4 : List UInt8 := [89, 16, 8, 183, 0, 92, 58, 5, 25, 5, 185, 0, 48, 1, 0, 28, 162, 0, 108, 43, 21, 4]
abbrev dktX0_newVine_4 : List UInt8 := dkwX0_newVine_4 ++ dktX0_newVine_5
def dkwX0_newVine_3 : List UInt8 := [45, 21, 4, 43, 5, 21, 4, 96, 184, 0, 89, 79, 132, 4, 1, 167, 255, 213, 28, 54, 4, 187, 0, 9]
abbrev dktX0_newVine_3 : List UInt8 := dkwX0_newVine_3 ++ dktX0_newVine_4
def dkwX0_newVine_2 : List UInt8 := [162, 0, 42, 43, 5, 21, 4, 96, 3, 28, 4, 100, 184, 0, 85, 154, 0, 9, 16, 154, 21, 4, 100, 172]
abbrev dktX0_newVine_2 : List UInt8 := dkwX0_newVine_2 ++ dktX0_newVine_3
def dkwX0_newVine_1 : List UInt8 := [16, 155, 172, 43, 4, 184, 0, 89, 61, 28, 5, 100, 188, 10, 78, 3, 54, 4, 21, 4, 45, 190]
abbrev dktX0_newVine_1 : List UInt8 := dkwX0_newVine_1 ++ dktX0_newVine_2
def dkwX0_newVine_0 : List UInt8 := [43, 3, 184, 0, 60, 16, 118, 159, 0, 6, 16, 156, 172, 43, 4, 5, 16, 8, 184, 0, 85, 154, 0, 6]
abbrev dktX0_newVine_0 : List UInt8 := dkwX0_newVine_0 ++ dktX0_newVine_1
theorem dksX0_newVine_0 : cX0_newVine.data.toList.drop 0 = dktX0_newVine_0 := by decide +kernel
theorem dksX0_newVine_1 : cX0_newVine.data.toList.drop 24 = dktX0_newVine_1 := dk_seg dksX0_newVine_0 24 rfl rfl
theorem dksX0_newVine_2 : cX0_newVine.data.toList.drop 46 = dktX0_newVine_2 := dk_seg dksX0_newVine_1 22 rfl rfl
theorem dksX0_newVine_3 : cX0_newVine.data.toList.drop 70 = dktX0_newVine_3 := dk_seg dksX0_newVine_2 24 rfl rfl
theorem dksX0_newVine_4 : cX0_newVine.data.toList.drop 94 = dktX0_newVine_4 := dk_seg dksX0_newVine_3 24 rfl rfl
theorem dksX0_newVine_5 : cX0_newVine.data.toList.drop 116 = dktX0_newVine_5 := dk_seg dksX0_newVine_4 22 rfl rfl
theorem dksX0_newVine_6 : cX0_newVine.data.toList.drop 140 = dktX0_newVine_6 := dk_seg dksX0_newVine_5 24 rfl rfl
theorem dksX0_newVine_7 : cX0_newVine.data.toList.drop 163 = dktX0_newVine_7 := dk_seg dksX0_newVine_6 23 rfl rfl
theorem dksX0_newVine_8 : cX0_newVine.data.toList.drop 187 = dktX0_newVine_8 := dk_seg dksX0_newVine_7 24 rfl rfl
theorem dksX0_newVine_9 : cX0_newVine.data.toList.drop 211 = dktX0_newVine_9 := dk_seg dksX0_newVine_8 24 rfl rfl
theorem dksX0_newVine_10 : cX0_newVine.data.toList.drop 235 = dktX0_newVine_10 := dk_seg dksX0_newVine_9 24 rfl rfl
theorem dksX0_newVine_11 : cX0_newVine.data.toList.drop 259 = dktX0_newVine_11 := dk_seg dksX0_newVine_10 24 rfl rfl
theorem dX0_newVine_0 : decode cX0_newVine 0 = .ok (.aload_n 1, 1) := dk_43 (dk_at dksX0_newVine_0 0 rfl rfl)
theorem dX0_newVine_1 : decode cX0_newVine 1 = .ok (.iconst 0, 1) := dk_3 (dk_at dksX0_newVine_0 1 rfl rfl)
theorem dX0_newVine_2 : decode cX0_newVine 2 = .ok (.invokestatic 60, 3) := dk_184 0 60 (dk_at dksX0_newVine_0 2 rfl rfl)
theorem dX0_newVine_5 : decode cX0_newVine 5 = .ok (.bipush 118, 2) := dk_16 118 (dk_at dksX0_newVine_0 5 rfl rfl)
theorem dX0_newVine_7 : decode cX0_newVine 7 = .ok (.if_icmp .eq 6, 3) := dk_159 0 6 (dk_at dksX0_newVine_0 7 rfl rfl)
theorem dX0_newVine_10 : decode cX0_newVine 10 = .ok (.bipush (-100), 2) := dk_16 156 (dk_at dksX0_newVine_0 10 rfl rfl)
theorem dX0_newVine_12 : decode cX0_newVine 12 = .ok (.ireturn, 1) := dk_172 (dk_at dksX0_newVine_0 12 rfl rfl)
theorem dX0_newVine_13 : decode cX0_newVine 13 = .ok (.aload_n 1, 1) := dk_43 (dk_at dksX0_newVine_0 13 rfl rfl)
theorem dX0_newVine_14 : decode cX0_newVine 14 = .ok (.iconst 1, 1) := dk_4 (dk_at dksX0_newVine_0 14 rfl rfl)
theorem dX0_newVine_15 : decode cX0_newVine 15 = .ok (.iconst 2, 1) := dk_5 (dk_at dksX0_newVine_0 15 rfl rfl)
theorem dX0_newVine_16 : decode cX0_newVine 16 = .ok (.bipush 8, 2) := dk_16 8 (dk_at dksX0_newVine_0 16 rfl rfl)
theorem dX0_newVine_18 : decode cX0_newVine 18 = .ok (.invokestatic 85, 3) := dk_184 0 85 (dk_at dksX0_newVine_0 18 rfl rfl)
theorem dX0_newVine_21 : decode cX0_newVine 21 = .ok (.ifCond .ne 6, 3) := dk_154 0 6 (dk_at dksX0_newVine_0 21 rfl rfl)
theorem dX0_newVine_24 : decode cX0_newVine 24 = .ok (.bipush (-101), 2) := dk_16 155 (dk_at dksX0_newVine_1 0 rfl rfl)
theorem dX0_newVine_26 : decode cX0_newVine 26 = .ok (.ireturn, 1) := dk_172 (dk_at dksX0_newVine_1 2 rfl rfl)
theorem dX0_newVine_27 : decode cX0_newVine 27 = .ok (.aload_n 1, 1) := dk_43 (dk_at dksX0_newVine_1 3 rfl rfl)
theorem dX0_newVine_28 : decode cX0_newVine 28 = .ok (.iconst 1, 1) := dk_4 (dk_at dksX0_newVine_1 4 rfl rfl)
theorem dX0_newVine_29 : decode cX0_newVine 29 = .ok (.invokestatic 89, 3) := dk_184 0 89 (dk_at dksX0_newVine_1 5 rfl rfl)
theorem dX0_newVine_32 : decode cX0_newVine 32 = .ok (.istore_n 2, 1) := dk_61 (dk_at dksX0_newVine_1 8 rfl rfl)
theorem dX0_newVine_33 : decode cX0_newVine 33 = .ok (.iload_n 2, 1) := dk_28 (dk_at dksX0_newVine_1 9 rfl rfl)
theorem dX0_newVine_34 : decode cX0_newVine 34 = .ok (.iconst 2, 1) := dk_5 (dk_at dksX0_newVine_1 10 rfl rfl)
theorem dX0_newVine_35 : decode cX0_newVine 35 = .ok (.isub, 1) := dk_100 (dk_at dksX0_newVine_1 11 rfl rfl)
theorem dX0_newVine_36 : decode cX0_newVine 36 = .ok (.newarray .int, 2) := dk_188_10 (dk_at dksX0_newVine_1 12 rfl rfl)
theorem dX0_newVine_38 : decode cX0_newVine 38 = .ok (.astore_n 3, 1) := dk_78 (dk_at dksX0_newVine_1 14 rfl rfl)
theorem dX0_newVine_39 : decode cX0_newVine 39 = .ok (.iconst 0, 1) := dk_3 (dk_at dksX0_newVine_1 15 rfl rfl)
theorem dX0_newVine_40 : decode cX0_newVine 40 = .ok (.istore 4, 2) := dk_54 4 (dk_at dksX0_newVine_1 16 rfl rfl)
theorem dX0_newVine_42 : decode cX0_newVine 42 = .ok (.iload 4, 2) := dk_21 4 (dk_at dksX0_newVine_1 18 rfl rfl)
theorem dX0_newVine_44 : decode cX0_newVine 44 = .ok (.aload_n 3, 1) := dk_45 (dk_at dksX0_newVine_1 20 rfl rfl)
theorem dX0_newVine_45 : decode cX0_newVine 45 = .ok (.arraylength, 1) := dk_190 (dk_at dksX0_newVine_1 21 rfl rfl)
theorem dX0_newVine_46 : decode cX0_newVine 46 = .ok (.if_icmp .ge 42, 3) := dk_162 0 42 (dk_at dksX0_newVine_2 0 rfl rfl)
theorem dX0_newVine_49 : decode cX0_newVine 49 = .ok (.aload_n 1, 1) := dk_43 (dk_at dksX0_newVine_2 3 rfl rfl)
theorem dX0_newVine_50 : decode cX0_newVine 50 = .ok (.iconst 2, 1) := dk_5 (dk_at dksX0_newVine_2 4 rfl rfl)
theorem dX0_newVine_51 : decode cX0_newVine 51 = .ok (.iload 4, 2) := dk_21 4 (dk_at dksX0_newVine_2 5 rfl rfl)
theorem dX0_newVine_53 : decode cX0_newVine 53 = .ok (.iadd, 1) := dk_96 (dk_at dksX0_newVine_2 7 rfl rfl)
theorem dX0_newVine_54 : decode cX0_newVine 54 = .ok (.iconst 0, 1) := dk_3 (dk_at dksX0_newVine_2 8 rfl rfl)
theorem dX0_newVine_55 : decode cX0_newVine 55 = .ok (.iload_n 2, 1) := dk_28 (dk_at dksX0_newVine_2 9 rfl rfl)
theorem dX0_newVine_56 : decode cX0_newVine 56 = .ok (.iconst 1, 1) := dk_4 (dk_at dksX0_newVine_2 10 rfl rfl)
theorem dX0_newVine_57 : decode cX0_newVine 57 = .ok (.isub, 1) := dk_100 (dk_at dksX0_newVine_2 11 rfl rfl)
theorem dX0_newVine_58 : decode cX0_newVine 58 = .ok (.invokestatic 85, 3) := dk_184 0 85 (dk_at dksX0_newVine_2 12 rfl rfl)
theorem dX0_newVine_61 : decode cX0_newVine 61 = .ok (.ifCond .ne 9, 3) := dk_154 0 9 (dk_at dksX0_newVine_2 15 rfl rfl)
theorem dX0_newVine_64 : decode cX0_newVine 64 = .ok (.bipush (-102), 2) := dk_16 154 (dk_at dksX0_newVine_2 18 rfl rfl)
theorem dX0_newVine_66 : decode cX0_newVine 66 = .ok (.iload 4, 2) := dk_21 4 (dk_at dksX0_newVine_2 20 rfl rfl)
theorem dX0_newVine_68 : decode cX0_newVine 68 = .ok (.isub, 1) := dk_100 (dk_at dksX0_newVine_2 22 rfl rfl)
theorem dX0_newVine_69 : decode cX0_newVine 69 = .ok (.ireturn, 1) := dk_172 (dk_at dksX0_newVine_2 23 rfl rfl)
theorem dX0_newVine_70 : decode cX0_newVine 70 = .ok (.aload_n 3, 1) := dk_45 (dk_at dksX0_newVine_3 0 rfl rfl)
theorem dX0_newVine_71 : decode cX0_newVine 71 = .ok (.iload 4, 2) := dk_21 4 (dk_at dksX0_newVine_3 1 rfl rfl)
theorem dX0_newVine_73 : decode cX0_newVine 73 = .ok (.aload_n 1, 1) := dk_43 (dk_at dksX0_newVine_3 3 rfl rfl)
theorem dX0_newVine_74 : decode cX0_newVine 74 = .ok (.iconst 2, 1) := dk_5 (dk_at dksX0_newVine_3 4 rfl rfl)
theorem dX0_newVine_75 : decode cX0_newVine 75 = .ok (.iload 4, 2) := dk_21 4 (dk_at dksX0_newVine_3 5 rfl rfl)
theorem dX0_newVine_77 : decode cX0_newVine 77 = .ok (.iadd, 1) := dk_96 (dk_at dksX0_newVine_3 7 rfl rfl)
theorem dX0_newVine_78 : decode cX0_newVine 78 = .ok (.invokestatic 89, 3) := dk_184 0 89 (dk_at dksX0_newVine_3 8 rfl rfl)
theorem dX0_newVine_81 : decode cX0_newVine 81 = .ok (.iastore, 1) := dk_79 (dk_at dksX0_newVine_3 11 rfl rfl)
theorem dX0_newVine_82 : decode cX0_newVine 82 = .ok (.iinc 4 1, 3) := dk_132 4 1 (dk_at dksX0_newVine_3 12 rfl rfl)
theorem dX0_newVine_85 : decode cX0_newVine 85 = .ok (.goto (-43), 3) := dk_167 255 213 (dk_at dksX0_newVine_3 15 rfl rfl)
theorem dX0_newVine_88 : decode cX0_newVine 88 = .ok (.iload_n 2, 1) := dk_28 (dk_at dksX0_newVine_3 18 rfl rfl)
theorem dX0_newVine_89 : decode cX0_newVine 89 = .ok (.istore 4, 2) := dk_54 4 (dk_at dksX0_newVine_3 19 rfl rfl)
theorem dX0_newVine_91 : decode cX0_newVine 91 = .ok (.new 9, 3) := dk_187 0 9 (dk_at dksX0_newVine_3 21 rfl rfl)
theorem dX0_newVine_94 : decode cX0_newVine 94 = .ok (.dup, 1) := dk_89 (dk_at dksX0_newVine_4 0 rfl rfl)
theorem dX0_newVine_95 : decode cX0_newVine 95 = .ok (.bipush 8, 2) := dk_16 8 (dk_at dksX0_newVine_4 1 rfl rfl)
theorem dX0_newVine_97 : decode cX0_newVine 97 = .ok (.invokespecial 92, 3) := dk_183 0 92 (dk_at dksX0_newVine_4 3 rfl rfl)
theorem dX0_newVine_100 : decode cX0_newVine 100 = .ok (.astore 5, 2) := dk_58 5 (dk_at dksX0_newVine_4 6 rfl rfl)
theorem dX0_newVine_102 : decode cX0_newVine 102 = .ok (.aload 5, 2) := dk_25 5 (dk_at dksX0_newVine_4 8 rfl rfl)
theorem dX0_newVine_104 : decode cX0_newVine 104 = .ok (.invokeinterface 48 1, 5) := by decide +kernel
theorem dX0_newVine_109 : decode cX0_newVine 109 = .ok (.iload_n 2, 1) := dk_28 (dk_at dksX0_newVine_4 15 rfl rfl)
theorem dX0_newVine_110 : decode cX0_newVine 110 = .ok (.if_icmp .ge 108, 3) := dk_162 0 108 (dk_at dksX0_newVine_4 16 rfl rfl)
theorem dX0_newVine_113 : decode cX0_newVine 113 = .ok (.aload_n 1, 1) := dk_43 (dk_at dksX0_newVine_4 19 rfl rfl)
theorem dX0_newVine_114 : decode cX0_newVine 114 = .ok (.iload 4, 2) := dk_21 4 (dk_at dksX0_newVine_4 20 rfl rfl)
theorem dX0_newVine_116 : decode cX0_newVine 116 = .ok (.invokestatic 60, 3) := dk_184 0 60 (dk_at dksX0_newVine_5 0 rfl rfl)
theorem dX0_newVine_119 : decode cX0_newVine 119 = .ok (.istore 6, 2) := dk_54 6 (dk_at dksX0_newVine_5 3 rfl rfl)
theorem dX0_newVine_121 : decode cX0_newVine 121 = .ok (.iload 6, 2) := dk_21 6 (dk_at dksX0_newVine_5 5 rfl rfl)
theorem dX0_newVine_123 : decode cX0_newVine 123 = .ok (.bipush 112, 2) := dk_16 112 (dk_at dksX0_newVine_5 7 rfl rfl)
theorem dX0_newVine_125 : decode cX0_newVine 125 = .ok (.if_icmp .ne 7, 3) := dk_160 0 7 (dk_at dksX0_newVine_5 9 rfl rfl)
theorem dX0_newVine_128 : decode cX0_newVine 128 = .ok (.iconst 0, 1) := dk_3 (dk_at dksX0_newVine_5 12 rfl rfl)
theorem dX0_newVine_129 : decode cX0_newVine 129 = .ok (.goto 27, 3) := dk_167 0 27 (dk_at dksX0_newVine_5 13 rfl rfl)
theorem dX0_newVine_132 : decode cX0_newVine 132 = .ok (.iload 6, 2) := dk_21 6 (dk_at dksX0_newVine_5 16 rfl rfl)
theorem dX0_newVine_134 : decode cX0_newVine 134 = .ok (.bipush 98, 2) := dk_16 98 (dk_at dksX0_newVine_5 18 rfl rfl)
theorem dX0_newVine_136 : decode cX0_newVine 136 = .ok (.if_icmp .ne 7, 3) := dk_160 0 7 (dk_at dksX0_newVine_5 20 rfl rfl)
theorem dX0_newVine_139 : decode cX0_newVine 139 = .ok (.iconst 1, 1) := dk_4 (dk_at dksX0_newVine_5 23 rfl rfl)
theorem dX0_newVine_140 : decode cX0_newVine 140 = .ok (.goto 16, 3) := dk_167 0 16 (dk_at dksX0_newVine_6 0 rfl rfl)
theorem dX0_newVine_143 : decode cX0_newVine 143 = .ok (.iload 6, 2) := dk_21 6 (dk_at dksX0_newVine_6 3 rfl rfl)
theorem dX0_newVine_145 : decode cX0_newVine 145 = .ok (.bipush 100, 2) := dk_16 100 (dk_at dksX0_newVine_6 5 rfl rfl)
theorem dX0_newVine_147 : decode cX0_newVine 147 = .ok (.if_icmp .ne 7, 3) := dk_160 0 7 (dk_at dksX0_newVine_6 7 rfl rfl)
theorem dX0_newVine_150 : decode cX0_newVine 150 = .ok (.iconst 2, 1) := dk_5 (dk_at dksX0_newVine_6 10 rfl rfl)
theorem dX0_newVine_151 : decode cX0_newVine 151 = .ok (.goto 5, 3) := dk_167 0 5 (dk_at dksX0_newVine_6 11 rfl rfl)
theorem dX0_newVine_154 : decode cX0_newVine 154 = .ok (.bipush (-9), 2) := dk_16 247 (dk_at dksX0_newVine_6 14 rfl rfl)
theorem dX0_newVine_156 : decode cX0_newVine 156 = .ok (.istore 7, 2) := dk_54 7 (dk_at dksX0_newVine_6 16 rfl rfl)
theorem dX0_newVine_158 : decode cX0_newVine 158 = .ok (.iload 7, 2) := dk_21 7 (dk_at dksX0_newVine_6 18 rfl rfl)
theorem dX0_newVine_160 : decode cX0_newVine 160 = .ok (.ifCond .ge 9, 3) := dk_156 0 9 (dk_at dksX0_newVine_6 20 rfl rfl)
theorem dX0_newVine_163 : decode cX0_newVine 163 = .ok (.bipush (-100), 2) := dk_16 156 (dk_at dksX0_newVine_7 0 rfl rfl)
theorem dX0_newVine_165 : decode cX0_newVine 165 = .ok (.iload 4, 2) := dk_21 4 (dk_at dksX0_newVine_7 2 rfl rfl)
theorem dX0_newVine_167 : decode cX0_newVine 167 = .ok (.isub, 1) := dk_100 (dk_at dksX0_newVine_7 4 rfl rfl)
theorem dX0_newVine_168 : decode cX0_newVine 168 = .ok (.ireturn, 1) := dk_172 (dk_at dksX0_newVine_7 5 rfl rfl)
theorem dX0_newVine_169 : decode cX0_newVine 169 = .ok (.aload_n 1, 1) := dk_43 (dk_at dksX0_newVine_7 6 rfl rfl)
theorem dX0_newVine_170 : decode cX0_newVine 170 = .ok (.iload 4, 2) := dk_21 4 (dk_at dksX0_newVine_7 7 rfl rfl)
theorem dX0_newVine_172 : decode cX0_newVine 172 = .ok (.iconst 1, 1) := dk_4 (dk_at dksX0_newVine_7 9 rfl rfl)
theorem dX0_newVine_173 : decode cX0_newVine 173 = .ok (.iadd, 1) := dk_96 (dk_at dksX0_newVine_7 10 rfl rfl)
theorem dX0_newVine_174 : decode cX0_newVine 174 = .ok (.iconst 0, 1) := dk_3 (dk_at dksX0_newVine_7 11 rfl rfl)
theorem dX0_newVine_175 : decode cX0_newVine 175 = .ok (.bipush 9, 2) := dk_16 9 (dk_at dksX0_newVine_7 12 rfl rfl)
theorem dX0_newVine_177 : decode cX0_newVine 177 = .ok (.invokestatic 85, 3) := dk_184 0 85 (dk_at dksX0_newVine_7 14 rfl rfl)
theorem dX0_newVine_180 : decode cX0_newVine 180 = .ok (.ifCond .ne 9, 3) := dk_154 0 9 (dk_at dksX0_newVine_7 17 rfl rfl)
theorem dX0_newVine_183 : decode cX0_newVine 183 = .ok (.bipush (-101), 2) := dk_16 155 (dk_at dksX0_newVine_7 20 rfl rfl)
theorem dX0_newVine_185 : decode cX0_newVine 185 = .ok (.iload 4, 2) := dk_21 4 (dk_at dksX0_newVine_7 22 rfl rfl)
theorem dX0_newVine_187 : decode cX0_newVine 187 = .ok (.isub, 1) := dk_100 (dk_at dksX0_newVine_8 0 rfl rfl)
theorem dX0_newVine_188 : decode cX0_newVine 188 = .ok (.ireturn, 1) := dk_172 (dk_at dksX0_newVine_8 1 rfl rfl)
theorem dX0_newVine_189 : decode cX0_newVine 189 = .ok (.aload 5, 2) := dk_25 5 (dk_at dksX0_newVine_8 2 rfl rfl)
theorem dX0_newVine_191 : decode cX0_newVine 191 = .ok (.aload_n 0, 1) := dk_42 (dk_at dksX0_newVine_8 4 rfl rfl)
theorem dX0_newVine_192 : decode cX0_newVine 192 = .ok (.iload 7, 2) := dk_21 7 (dk_at dksX0_newVine_8 5 rfl rfl)
theorem dX0_newVine_194 : decode cX0_newVine 194 = .ok (.aload_n 1, 1) := dk_43 (dk_at dksX0_newVine_8 7 rfl rfl)
theorem dX0_newVine_195 : decode cX0_newVine 195 = .ok (.iload 4, 2) := dk_21 4 (dk_at dksX0_newVine_8 8 rfl rfl)
theorem dX0_newVine_197 : decode cX0_newVine 197 = .ok (.iconst 1, 1) := dk_4 (dk_at dksX0_newVine_8 10 rfl rfl)
theorem dX0_newVine_198 : decode cX0_newVine 198 = .ok (.iadd, 1) := dk_96 (dk_at dksX0_newVine_8 11 rfl rfl)
theorem dX0_newVine_199 : decode cX0_newVine 199 = .ok (.invokestatic 89, 3) := dk_184 0 89 (dk_at dksX0_newVine_8 12 rfl rfl)
theorem dX0_newVine_202 : decode cX0_newVine 202 = .ok (.iconst 0, 1) := dk_3 (dk_at dksX0_newVine_8 15 rfl rfl)
theorem dX0_newVine_203 : decode cX0_newVine 203 = .ok (.invokevirtual 95, 3) := dk_182 0 95 (dk_at dksX0_newVine_8 16 rfl rfl)
theorem dX0_newVine_206 : decode cX0_newVine 206 = .ok (.invokeinterface 99 2, 5) := by decide +kernel
theorem dX0_newVine_211 : decode cX0_newVine 211 = .ok (.pop, 1) := dk_87 (dk_at dksX0_newVine_9 0 rfl rfl)
theorem dX0_newVine_212 : decode cX0_newVine 212 = .ok (.iinc 4 2, 3) := dk_132 4 2 (dk_at dksX0_newVine_9 1 rfl rfl)
theorem dX0_newVine_215 : decode cX0_newVine 215 = .ok (.goto (-113), 3) := dk_167 255 143 (dk_at dksX0_newVine_9 4 rfl rfl)
theorem dX0_newVine_218 : decode cX0_newVine 218 = .ok (.iload 4, 2) := dk_21 4 (dk_at dksX0_newVine_9 7 rfl rfl)
theorem dX0_newVine_220 : decode cX0_newVine 220 = .ok (.aload_n 1, 1) := dk_43 (dk_at dksX0_newVine_9 9 rfl rfl)
theorem dX0_newVine_221 : decode cX0_newVine 221 = .ok (.arraylength, 1) := dk_190 (dk_at dksX0_newVine_9 10 rfl rfl)
theorem dX0_newVine_222 : decode cX0_newVine 222 = .ok (.if_icmp .ge 9, 3) := dk_162 0 9 (dk_at dksX0_newVine_9 11 rfl rfl)
theorem dX0_newVine_225 : decode cX0_newVine 225 = .ok (.bipush (-100), 2) := dk_16 156 (dk_at dksX0_newVine_9 14 rfl rfl)
theorem dX0_newVine_227 : decode cX0_newVine 227 = .ok (.iload 4, 2) := dk_21 4 (dk_at dksX0_newVine_9 16 rfl rfl)
theorem dX0_newVine_229 : decode cX0_newVine 229 = .ok (.isub, 1) := dk_100 (dk_at dksX0_newVine_9 18 rfl rfl)
theorem dX0_newVine_230 : decode cX0_newVine 230 = .ok (.ireturn, 1) := dk_172 (dk_at dksX0_newVine_9 19 rfl rfl)
theorem dX0_newVine_231 : decode cX0_newVine 231 = .ok (.aload_n 0, 1) := dk_42 (dk_at dksX0_newVine_9 20 rfl rfl)
theorem dX0_newVine_232 : decode cX0_newVine 232 = .ok (.getfield 12, 3) := dk_180 0 12 (dk_at dksX0_newVine_9 21 rfl rfl)
theorem dX0_newVine_235 : decode cX0_newVine 235 = .ok (.invokeinterface 103 1, 5) := by decide +kernel
theorem dX0_newVine_240 : decode cX0_newVine 240 = .ok (.aload_n 0, 1) := dk_42 (dk_at dksX0_newVine_10 5 rfl rfl)
theorem dX0_newVine_241 : decode cX0_newVine 241 = .ok (.getfield 12, 3) := dk_180 0 12 (dk_at dksX0_newVine_10 6 rfl rfl)
theorem dX0_newVine_244 : decode cX0_newVine 244 = .ok (.aload 5, 2) := dk_25 5 (dk_at dksX0_newVine_10 9 rfl rfl)
theorem dX0_newVine_246 : decode cX0_newVine 246 = .ok (.invokeinterface 106 2, 5) := by decide +kernel
theorem dX0_newVine_251 : decode cX0_newVine 251 = .ok (.pop, 1) := dk_87 (dk_at dksX0_newVine_10 16 rfl rfl)
theorem dX0_newVine_252 : decode cX0_newVine 252 = .ok (.aload_n 0, 1) := dk_42 (dk_at dksX0_newVine_10 17 rfl rfl)
theorem dX0_newVine_253 : decode cX0_newVine 253 = .ok (.aload_n 3, 1) := dk_45 (dk_at dksX0_newVine_10 18 rfl rfl)
theorem dX0_newVine_254 : decode cX0_newVine 254 = .ok (.invokevirtual 110, 3) := dk_182 0 110 (dk_at dksX0_newVine_10 19 rfl rfl)
theorem dX0_newVine_257 : decode cX0_newVine 257 = .ok (.aload_n 0, 1) := dk_42 (dk_at dksX0_newVine_10 22 rfl rfl)
theorem dX0_newVine_258 : decode cX0_newVine 258 = .ok (.iconst 0, 1) := dk_3 (dk_at dksX0_newVine_10 23 rfl rfl)
theorem dX0_newVine_259 : decode cX0_newVine 259 = .ok (.putfield 114, 3) := dk_181 0 114 (dk_at dksX0_newVine_11 0 rfl rfl)
theorem dX0_newVine_262 : decode cX0_newVine 262 = .ok (.aload_n 0, 1) := dk_42 (dk_at dksX0_newVine_11 3 rfl rfl)
theorem dX0_newVine_263 : decode cX0_newVine 263 = .ok (.getfield 22, 3) := dk_180 0 22 (dk_at dksX0_newVine_11 4 rfl rfl)
theorem dX0_newVine_266 : decode cX0_newVine 266 = .ok (.invokeinterface 103 1, 5) := by decide +kernel
theorem dX0_newVine_271 : decode cX0_newVine 271 = .ok (.aload_n 0, 1) := dk_42 (dk_at dksX0_newVine_11 12 rfl rfl)
theorem dX0_newVine_272 : decode cX0_newVine 272 = .ok (.getfield 12, 3) := dk_180 0 12 (dk_at dksX0_newVine_11 13 rfl rfl)
theorem dX0_newVine_275 : decode cX0_newVine 275 = .ok (.invokeinterface 48 1, 5) := by decide +kernel
theorem dX0_newVine_280 : decode cX0_newVine 280 = .ok (.ireturn, 1) := dk_172 (dk_at dksX0_newVine_11 21 rfl rfl)
abbrev cX0_codeAt : ByteArray := prog_1_method_8_code
def yX0_codeAt : MethodName := ⟨RX0, "codeAt", "([II)I"⟩
def dkwX0_codeAt_0 : List UInt8 := [27, 42, 190, 162, 0, 9, 42, 27, 46, 167, 0, 5, 16, 247, 172]
abbrev dktX0_codeAt_0 : List UInt8 := dkwX0_codeAt_0 ++ []
theorem dksX0_codeAt_0 : cX0_codeAt.data.toList.drop 0 = dktX0_codeAt_0 := by decide +kernel
theorem dX0_codeAt_0 : decode cX0_codeAt 0 = .ok (.iload_n 1, 1) := dk_27 (dk_at dksX0_codeAt_0 0 rfl rfl)
theorem dX0_codeAt_1 : decode cX0_codeAt 1 = .ok (.aload_n 0, 1) := dk_42 (dk_at dksX0_codeAt_0 1 rfl rfl)
theorem dX0_codeAt_2 : decode cX0_codeAt 2 = .ok (.arraylength, 1) := dk_190 (dk_at dksX0_codeAt_0 2 rfl rfl)
theorem dX0_codeAt_3 : decode cX0_codeAt 3 = .ok (.if_icmp .ge 9, 3) := dk_162 0 9 (dk_at dksX0_codeAt_0 3 rfl rfl)
theorem dX0_codeAt_6 : decode cX0_codeAt 6 = .ok (.aload_n 0, 1) := dk_42 (dk_at dksX0_codeAt_0 6 rfl rfl)
theorem dX0_codeAt_7 : decode cX0_codeAt 7 = .ok (.iload_n 1, 1) := dk_27 (dk_at dksX0_codeAt_0 7 rfl rfl)
theorem dX0_codeAt_8 : decode cX0_codeAt 8 = .ok (.iaload, 1) := dk_46 (dk_at dksX0_codeAt_0 8 rfl rfl)
theorem dX0_codeAt_9 : decode cX0_codeAt 9 = .ok (.goto 5, 3) := dk_167 0 5 (dk_at dksX0_codeAt_0 9 rfl rfl)
theorem dX0_codeAt_12 : decode cX0_codeAt 12 = .ok (.bipush (-9), 2) := dk_16 247 (dk_at dksX0_codeAt_0 12 rfl rfl)
theorem dX0_codeAt_14 : decode cX0_codeAt 14 = .ok (.ireturn, 1) := dk_172 (dk_at dksX0_codeAt_0 14 rfl rfl)
abbrev cX0_isFigure : ByteArray := prog_1_method_9_code
def yX0_isFigure : MethodName := ⟨RX0, "isFigure", "([IIII)Z"⟩
def dkwX0_isFigure_0 : List UInt8 := [42, 27, 184, 0, 60, 16, 48, 100, 133, 28, 133, 29, 133, 184, 0, 52, 172]
abbrev dktX0_isFigure_0 : List UInt8 := dkwX0_isFigure_0 ++ []
theorem dksX0_isFigure_0 : cX0_isFigure.data.toList.drop 0 = dktX0_isFigure_0 := by decide +kernel
theorem dX0_isFigure_0 : decode cX0_isFigure 0 = .ok (.aload_n 0, 1) := dk_42 (dk_at dksX0_isFigure_0 0 rfl rfl)
theorem dX0_isFigure_1 : decode cX0_isFigure 1 = .ok (.iload_n 1, 1) := dk_27 (dk_at dksX0_isFigure_0 1 rfl rfl)
theorem dX0_isFigure_2 : decode cX0_isFigure 2 = .ok (.invokestatic 60, 3) := dk_184 0 60 (dk_at dksX0_isFigure_0 2 rfl rfl)
theorem dX0_isFigure_5 : decode cX0_isFigure 5 = .ok (.bipush 48, 2) := dk_16 48 (dk_at dksX0_isFigure_0 5 rfl rfl)
theorem dX0_isFigure_7 : decode cX0_isFigure 7 = .ok (.isub, 1) := dk_100 (dk_at dksX0_isFigure_0 7 rfl rfl)
theorem dX0_isFigure_8 : decode cX0_isFigure 8 = .ok (.i2l, 1) := dk_133 (dk_at dksX0_isFigure_0 8 rfl rfl)
theorem dX0_isFigure_9 : decode cX0_isFigure 9 = .ok (.iload_n 2, 1) := dk_28 (dk_at dksX0_isFigure_0 9 rfl rfl)
theorem dX0_isFigure_10 : decode cX0_isFigure 10 = .ok (.i2l, 1) := dk_133 (dk_at dksX0_isFigure_0 10 rfl rfl)
theorem dX0_isFigure_11 : decode cX0_isFigure 11 = .ok (.iload_n 3, 1) := dk_29 (dk_at dksX0_isFigure_0 11 rfl rfl)
theorem dX0_isFigure_12 : decode cX0_isFigure 12 = .ok (.i2l, 1) := dk_133 (dk_at dksX0_isFigure_0 12 rfl rfl)
theorem dX0_isFigure_13 : decode cX0_isFigure 13 = .ok (.invokestatic 52, 3) := dk_184 0 52 (dk_at dksX0_isFigure_0 13 rfl rfl)
theorem dX0_isFigure_16 : decode cX0_isFigure 16 = .ok (.ireturn, 1) := dk_172 (dk_at dksX0_isFigure_0 16 rfl rfl)
abbrev cX0_figureAt : ByteArray := prog_1_method_10_code
def yX0_figureAt : MethodName := ⟨RX0, "figureAt", "([II)I"⟩
def dkwX0_figureAt_0 : List UInt8 := [42, 27, 46, 16, 48, 100, 172]
abbrev dktX0_figureAt_0 : List UInt8 := dkwX0_figureAt_0 ++ []
theorem dksX0_figureAt_0 : cX0_figureAt.data.toList.drop 0 = dktX0_figureAt_0 := by decide +kernel
theorem dX0_figureAt_0 : decode cX0_figureAt 0 = .ok (.aload_n 0, 1) := dk_42 (dk_at dksX0_figureAt_0 0 rfl rfl)
theorem dX0_figureAt_1 : decode cX0_figureAt 1 = .ok (.iload_n 1, 1) := dk_27 (dk_at dksX0_figureAt_0 1 rfl rfl)
theorem dX0_figureAt_2 : decode cX0_figureAt 2 = .ok (.iaload, 1) := dk_46 (dk_at dksX0_figureAt_0 2 rfl rfl)
theorem dX0_figureAt_3 : decode cX0_figureAt 3 = .ok (.bipush 48, 2) := dk_16 48 (dk_at dksX0_figureAt_0 3 rfl rfl)
theorem dX0_figureAt_5 : decode cX0_figureAt 5 = .ok (.isub, 1) := dk_100 (dk_at dksX0_figureAt_0 5 rfl rfl)
theorem dX0_figureAt_6 : decode cX0_figureAt 6 = .ok (.ireturn, 1) := dk_172 (dk_at dksX0_figureAt_0 6 rfl rfl)
abbrev cX0_grows : ByteArray := prog_1_method_13_code
def yX0_grows : MethodName := ⟨RX0, "grows", "([I)V"⟩
def dkwX0_grows_4 : List UInt8 := [29, 28, 4, 29, 120, 2, 130, 126, 184, 0, 78, 182, 0, 81, 177]
abbrev dktX0_grows_4 : List UInt8 := dkwX0_grows_4 ++ []
def dkwX0_grows_3 : List UInt8 := [182, 0, 81, 28, 4, 21, 5, 120, 2, 130, 126, 61, 132, 3, 1, 167, 255, 188, 28, 184, 0, 78, 62, 42]
abbrev dktX0_grows_3 : List UInt8 := dkwX0_grows_3 ++ dktX0_grows_4
def dkwX0_grows_2 : List UInt8 := [132, 5, 1, 167, 255, 235, 28, 21, 4, 2, 130, 126, 184, 0, 78, 54, 5, 42, 21, 5, 43, 29, 46]
abbrev dktX0_grows_2 : List UInt8 := dkwX0_grows_2 ++ dktX0_grows_3
def dkwX0_grows_1 : List UInt8 := [54, 4, 29, 54, 5, 21, 5, 43, 190, 162, 0, 20, 21, 4, 4, 43, 21, 5, 46, 120, 128, 54, 4]
abbrev dktX0_grows_1 : List UInt8 := dkwX0_grows_1 ++ dktX0_grows_2
def dkwX0_grows_0 : List UInt8 := [4, 42, 180, 0, 12, 185, 0, 48, 1, 0, 120, 4, 100, 61, 3, 62, 29, 43, 190, 162, 0, 68, 3]
abbrev dktX0_grows_0 : List UInt8 := dkwX0_grows_0 ++ dktX0_grows_1
theorem dksX0_grows_0 : cX0_grows.data.toList.drop 0 = dktX0_grows_0 := by decide +kernel
theorem dksX0_grows_1 : cX0_grows.data.toList.drop 23 = dktX0_grows_1 := dk_seg dksX0_grows_0 23 rfl rfl
theorem dksX0_grows_2 : cX0_grows.data.toList.drop 46 = dktX0_grows_2 := dk_seg dksX0_grows_1 23 rfl rfl
theorem dksX0_grows_3 : cX0_grows.data.toList.drop 69 = dktX0_grows_3 := dk_seg dksX0_grows_2 23 rfl rfl
theorem dksX0_grows_4 : cX0_grows.data.toList.drop 93 = dktX0_grows_4 := dk_seg dksX0_grows_3 24 rfl rfl
theorem dX0_grows_0 : decode cX0_grows 0 = .ok (.iconst 1, 1) := dk_4 (dk_at dksX0_grows_0 0 rfl rfl)
theorem dX0_grows_1 : decode cX0_grows 1 = .ok (.aload_n 0, 1) := dk_42 (dk_at dksX0_grows_0 1 rfl rfl)
theorem dX0_grows_2 : decode cX0_grows 2 = .ok (.getfield 12, 3) := dk_180 0 12 (dk_at dksX0_grows_0 2 rfl rfl)
theorem dX0_grows_5 : decode cX0_grows 5 = .ok (.invokeinterface 48 1, 5) := by decide +kernel
theorem dX0_grows_10 : decode cX0_grows 10 = .ok (.ishl, 1) := dk_120 (dk_at dksX0_grows_0 10 rfl rfl)
theorem dX0_grows_11 : decode cX0_grows 11 = .ok (.iconst 1, 1) := dk_4 (dk_at dksX0_grows_0 11 rfl rfl)
theorem dX0_grows_12 : decode cX0_grows 12 = .ok (.isub, 1) := dk_100 (dk_at dksX0_grows_0 12 rfl rfl)
theorem dX0_grows_13 : decode cX0_grows 13 = .ok (.istore_n 2, 1) := dk_61 (dk_at dksX0_grows_0 13 rfl rfl)
theorem dX0_grows_14 : decode cX0_grows 14 = .ok (.iconst 0, 1) := dk_3 (dk_at dksX0_grows_0 14 rfl rfl)
theorem dX0_grows_15 : decode cX0_grows 15 = .ok (.istore_n 3, 1) := dk_62 (dk_at dksX0_grows_0 15 rfl rfl)
theorem dX0_grows_16 : decode cX0_grows 16 = .ok (.iload_n 3, 1) := dk_29 (dk_at dksX0_grows_0 16 rfl rfl)
theorem dX0_grows_17 : decode cX0_grows 17 = .ok (.aload_n 1, 1) := dk_43 (dk_at dksX0_grows_0 17 rfl rfl)
theorem dX0_grows_18 : decode cX0_grows 18 = .ok (.arraylength, 1) := dk_190 (dk_at dksX0_grows_0 18 rfl rfl)
theorem dX0_grows_19 : decode cX0_grows 19 = .ok (.if_icmp .ge 68, 3) := dk_162 0 68 (dk_at dksX0_grows_0 19 rfl rfl)
theorem dX0_grows_22 : decode cX0_grows 22 = .ok (.iconst 0, 1) := dk_3 (dk_at dksX0_grows_0 22 rfl rfl)
theorem dX0_grows_23 : decode cX0_grows 23 = .ok (.istore 4, 2) := dk_54 4 (dk_at dksX0_grows_1 0 rfl rfl)
theorem dX0_grows_25 : decode cX0_grows 25 = .ok (.iload_n 3, 1) := dk_29 (dk_at dksX0_grows_1 2 rfl rfl)
theorem dX0_grows_26 : decode cX0_grows 26 = .ok (.istore 5, 2) := dk_54 5 (dk_at dksX0_grows_1 3 rfl rfl)
theorem dX0_grows_28 : decode cX0_grows 28 = .ok (.iload 5, 2) := dk_21 5 (dk_at dksX0_grows_1 5 rfl rfl)
theorem dX0_grows_30 : decode cX0_grows 30 = .ok (.aload_n 1, 1) := dk_43 (dk_at dksX0_grows_1 7 rfl rfl)
theorem dX0_grows_31 : decode cX0_grows 31 = .ok (.arraylength, 1) := dk_190 (dk_at dksX0_grows_1 8 rfl rfl)
theorem dX0_grows_32 : decode cX0_grows 32 = .ok (.if_icmp .ge 20, 3) := dk_162 0 20 (dk_at dksX0_grows_1 9 rfl rfl)
theorem dX0_grows_35 : decode cX0_grows 35 = .ok (.iload 4, 2) := dk_21 4 (dk_at dksX0_grows_1 12 rfl rfl)
theorem dX0_grows_37 : decode cX0_grows 37 = .ok (.iconst 1, 1) := dk_4 (dk_at dksX0_grows_1 14 rfl rfl)
theorem dX0_grows_38 : decode cX0_grows 38 = .ok (.aload_n 1, 1) := dk_43 (dk_at dksX0_grows_1 15 rfl rfl)
theorem dX0_grows_39 : decode cX0_grows 39 = .ok (.iload 5, 2) := dk_21 5 (dk_at dksX0_grows_1 16 rfl rfl)
theorem dX0_grows_41 : decode cX0_grows 41 = .ok (.iaload, 1) := dk_46 (dk_at dksX0_grows_1 18 rfl rfl)
theorem dX0_grows_42 : decode cX0_grows 42 = .ok (.ishl, 1) := dk_120 (dk_at dksX0_grows_1 19 rfl rfl)
theorem dX0_grows_43 : decode cX0_grows 43 = .ok (.ior, 1) := dk_128 (dk_at dksX0_grows_1 20 rfl rfl)
theorem dX0_grows_44 : decode cX0_grows 44 = .ok (.istore 4, 2) := dk_54 4 (dk_at dksX0_grows_1 21 rfl rfl)
theorem dX0_grows_46 : decode cX0_grows 46 = .ok (.iinc 5 1, 3) := dk_132 5 1 (dk_at dksX0_grows_2 0 rfl rfl)
theorem dX0_grows_49 : decode cX0_grows 49 = .ok (.goto (-21), 3) := dk_167 255 235 (dk_at dksX0_grows_2 3 rfl rfl)
theorem dX0_grows_52 : decode cX0_grows 52 = .ok (.iload_n 2, 1) := dk_28 (dk_at dksX0_grows_2 6 rfl rfl)
theorem dX0_grows_53 : decode cX0_grows 53 = .ok (.iload 4, 2) := dk_21 4 (dk_at dksX0_grows_2 7 rfl rfl)
theorem dX0_grows_55 : decode cX0_grows 55 = .ok (.iconst (-1), 1) := dk_2 (dk_at dksX0_grows_2 9 rfl rfl)
theorem dX0_grows_56 : decode cX0_grows 56 = .ok (.ixor, 1) := dk_130 (dk_at dksX0_grows_2 10 rfl rfl)
theorem dX0_grows_57 : decode cX0_grows 57 = .ok (.iand, 1) := dk_126 (dk_at dksX0_grows_2 11 rfl rfl)
theorem dX0_grows_58 : decode cX0_grows 58 = .ok (.invokestatic 78, 3) := dk_184 0 78 (dk_at dksX0_grows_2 12 rfl rfl)
theorem dX0_grows_61 : decode cX0_grows 61 = .ok (.istore 5, 2) := dk_54 5 (dk_at dksX0_grows_2 15 rfl rfl)
theorem dX0_grows_63 : decode cX0_grows 63 = .ok (.aload_n 0, 1) := dk_42 (dk_at dksX0_grows_2 17 rfl rfl)
theorem dX0_grows_64 : decode cX0_grows 64 = .ok (.iload 5, 2) := dk_21 5 (dk_at dksX0_grows_2 18 rfl rfl)
theorem dX0_grows_66 : decode cX0_grows 66 = .ok (.aload_n 1, 1) := dk_43 (dk_at dksX0_grows_2 20 rfl rfl)
theorem dX0_grows_67 : decode cX0_grows 67 = .ok (.iload_n 3, 1) := dk_29 (dk_at dksX0_grows_2 21 rfl rfl)
theorem dX0_grows_68 : decode cX0_grows 68 = .ok (.iaload, 1) := dk_46 (dk_at dksX0_grows_2 22 rfl rfl)
theorem dX0_grows_69 : decode cX0_grows 69 = .ok (.invokevirtual 81, 3) := dk_182 0 81 (dk_at dksX0_grows_3 0 rfl rfl)
theorem dX0_grows_72 : decode cX0_grows 72 = .ok (.iload_n 2, 1) := dk_28 (dk_at dksX0_grows_3 3 rfl rfl)
theorem dX0_grows_73 : decode cX0_grows 73 = .ok (.iconst 1, 1) := dk_4 (dk_at dksX0_grows_3 4 rfl rfl)
theorem dX0_grows_74 : decode cX0_grows 74 = .ok (.iload 5, 2) := dk_21 5 (dk_at dksX0_grows_3 5 rfl rfl)
theorem dX0_grows_76 : decode cX0_grows 76 = .ok (.ishl, 1) := dk_120 (dk_at dksX0_grows_3 7 rfl rfl)
theorem dX0_grows_77 : decode cX0_grows 77 = .ok (.iconst (-1), 1) := dk_2 (dk_at dksX0_grows_3 8 rfl rfl)
theorem dX0_grows_78 : decode cX0_grows 78 = .ok (.ixor, 1) := dk_130 (dk_at dksX0_grows_3 9 rfl rfl)
theorem dX0_grows_79 : decode cX0_grows 79 = .ok (.iand, 1) := dk_126 (dk_at dksX0_grows_3 10 rfl rfl)
theorem dX0_grows_80 : decode cX0_grows 80 = .ok (.istore_n 2, 1) := dk_61 (dk_at dksX0_grows_3 11 rfl rfl)
theorem dX0_grows_81 : decode cX0_grows 81 = .ok (.iinc 3 1, 3) := dk_132 3 1 (dk_at dksX0_grows_3 12 rfl rfl)
theorem dX0_grows_84 : decode cX0_grows 84 = .ok (.goto (-68), 3) := dk_167 255 188 (dk_at dksX0_grows_3 15 rfl rfl)
theorem dX0_grows_87 : decode cX0_grows 87 = .ok (.iload_n 2, 1) := dk_28 (dk_at dksX0_grows_3 18 rfl rfl)
theorem dX0_grows_88 : decode cX0_grows 88 = .ok (.invokestatic 78, 3) := dk_184 0 78 (dk_at dksX0_grows_3 19 rfl rfl)
theorem dX0_grows_91 : decode cX0_grows 91 = .ok (.istore_n 3, 1) := dk_62 (dk_at dksX0_grows_3 22 rfl rfl)
theorem dX0_grows_92 : decode cX0_grows 92 = .ok (.aload_n 0, 1) := dk_42 (dk_at dksX0_grows_3 23 rfl rfl)
theorem dX0_grows_93 : decode cX0_grows 93 = .ok (.iload_n 3, 1) := dk_29 (dk_at dksX0_grows_4 0 rfl rfl)
theorem dX0_grows_94 : decode cX0_grows 94 = .ok (.iload_n 2, 1) := dk_28 (dk_at dksX0_grows_4 1 rfl rfl)
theorem dX0_grows_95 : decode cX0_grows 95 = .ok (.iconst 1, 1) := dk_4 (dk_at dksX0_grows_4 2 rfl rfl)
theorem dX0_grows_96 : decode cX0_grows 96 = .ok (.iload_n 3, 1) := dk_29 (dk_at dksX0_grows_4 3 rfl rfl)
theorem dX0_grows_97 : decode cX0_grows 97 = .ok (.ishl, 1) := dk_120 (dk_at dksX0_grows_4 4 rfl rfl)
theorem dX0_grows_98 : decode cX0_grows 98 = .ok (.iconst (-1), 1) := dk_2 (dk_at dksX0_grows_4 5 rfl rfl)
theorem dX0_grows_99 : decode cX0_grows 99 = .ok (.ixor, 1) := dk_130 (dk_at dksX0_grows_4 6 rfl rfl)
theorem dX0_grows_100 : decode cX0_grows 100 = .ok (.iand, 1) := dk_126 (dk_at dksX0_grows_4 7 rfl rfl)
theorem dX0_grows_101 : decode cX0_grows 101 = .ok (.invokestatic 78, 3) := dk_184 0 78 (dk_at dksX0_grows_4 8 rfl rfl)
theorem dX0_grows_104 : decode cX0_grows 104 = .ok (.invokevirtual 81, 3) := dk_182 0 81 (dk_at dksX0_grows_4 11 rfl rfl)
theorem dX0_grows_107 : decode cX0_grows 107 = .ok (.return_, 1) := dk_177 (dk_at dksX0_grows_4 14 rfl rfl)
abbrev cX0_pairsBarred : ByteArray := prog_1_method_24_code
def yX0_pairsBarred : MethodName := ⟨RX0, "pairsBarred", "([I)I"⟩
def dkwX0_pairsBarred_4 : List UInt8 := [132, 2, 2, 167, 255, 172, 3, 172]
abbrev dktX0_pairsBarred_4 : List UInt8 := dkwX0_pairsBarred_4 ++ []
def dkwX0_pairsBarred_3 : List UInt8 := [154, 0, 6, 16, 254, 172, 21, 4, 154, 0, 15, 42, 43, 28, 46, 182, 0, 56, 153, 0, 5, 2, 172]
abbrev dktX0_pairsBarred_3 : List UInt8 := dkwX0_pairsBarred_3 ++ dktX0_pairsBarred_4
def dkwX0_pairsBarred_2 : List UInt8 := [154, 0, 8, 21, 4, 153, 0, 22, 21, 4, 153, 0, 20, 43, 28, 46, 133, 9, 20, 0, 142, 184, 0, 52]
abbrev dktX0_pairsBarred_2 : List UInt8 := dkwX0_pairsBarred_2 ++ dktX0_pairsBarred_3
def dkwX0_pairsBarred_1 : List UInt8 := [29, 133, 20, 0, 165, 20, 0, 167, 184, 0, 52, 54, 4, 29, 133, 9, 20, 0, 169, 184, 0, 52]
abbrev dktX0_pairsBarred_1 : List UInt8 := dkwX0_pairsBarred_1 ++ dktX0_pairsBarred_2
def dkwX0_pairsBarred_0 : List UInt8 := [42, 182, 0, 150, 153, 0, 6, 16, 253, 172, 3, 61, 28, 43, 190, 162, 0, 84, 43, 28, 4, 96, 46, 62]
abbrev dktX0_pairsBarred_0 : List UInt8 := dkwX0_pairsBarred_0 ++ dktX0_pairsBarred_1
theorem dksX0_pairsBarred_0 : cX0_pairsBarred.data.toList.drop 0 = dktX0_pairsBarred_0 := by decide +kernel
theorem dksX0_pairsBarred_1 : cX0_pairsBarred.data.toList.drop 24 = dktX0_pairsBarred_1 := dk_seg dksX0_pairsBarred_0 24 rfl rfl
theorem dksX0_pairsBarred_2 : cX0_pairsBarred.data.toList.drop 46 = dktX0_pairsBarred_2 := dk_seg dksX0_pairsBarred_1 22 rfl rfl
theorem dksX0_pairsBarred_3 : cX0_pairsBarred.data.toList.drop 70 = dktX0_pairsBarred_3 := dk_seg dksX0_pairsBarred_2 24 rfl rfl
theorem dksX0_pairsBarred_4 : cX0_pairsBarred.data.toList.drop 93 = dktX0_pairsBarred_4 := dk_seg dksX0_pairsBarred_3 23 rfl rfl
theorem dX0_pairsBarred_0 : decode cX0_pairsBarred 0 = .ok (.aload_n 0, 1) := dk_42 (dk_at dksX0_pairsBarred_0 0 rfl rfl)
theorem dX0_pairsBarred_1 : decode cX0_pairsBarred 1 = .ok (.invokevirtual 150, 3) := dk_182 0 150 (dk_at dksX0_pairsBarred_0 1 rfl rfl)
theorem dX0_pairsBarred_4 : decode cX0_pairsBarred 4 = .ok (.ifCond .eq 6, 3) := dk_153 0 6 (dk_at dksX0_pairsBarred_0 4 rfl rfl)
theorem dX0_pairsBarred_7 : decode cX0_pairsBarred 7 = .ok (.bipush (-3), 2) := dk_16 253 (dk_at dksX0_pairsBarred_0 7 rfl rfl)
theorem dX0_pairsBarred_9 : decode cX0_pairsBarred 9 = .ok (.ireturn, 1) := dk_172 (dk_at dksX0_pairsBarred_0 9 rfl rfl)
theorem dX0_pairsBarred_10 : decode cX0_pairsBarred 10 = .ok (.iconst 0, 1) := dk_3 (dk_at dksX0_pairsBarred_0 10 rfl rfl)
theorem dX0_pairsBarred_11 : decode cX0_pairsBarred 11 = .ok (.istore_n 2, 1) := dk_61 (dk_at dksX0_pairsBarred_0 11 rfl rfl)
theorem dX0_pairsBarred_12 : decode cX0_pairsBarred 12 = .ok (.iload_n 2, 1) := dk_28 (dk_at dksX0_pairsBarred_0 12 rfl rfl)
theorem dX0_pairsBarred_13 : decode cX0_pairsBarred 13 = .ok (.aload_n 1, 1) := dk_43 (dk_at dksX0_pairsBarred_0 13 rfl rfl)
theorem dX0_pairsBarred_14 : decode cX0_pairsBarred 14 = .ok (.arraylength, 1) := dk_190 (dk_at dksX0_pairsBarred_0 14 rfl rfl)
theorem dX0_pairsBarred_15 : decode cX0_pairsBarred 15 = .ok (.if_icmp .ge 84, 3) := dk_162 0 84 (dk_at dksX0_pairsBarred_0 15 rfl rfl)
theorem dX0_pairsBarred_18 : decode cX0_pairsBarred 18 = .ok (.aload_n 1, 1) := dk_43 (dk_at dksX0_pairsBarred_0 18 rfl rfl)
theorem dX0_pairsBarred_19 : decode cX0_pairsBarred 19 = .ok (.iload_n 2, 1) := dk_28 (dk_at dksX0_pairsBarred_0 19 rfl rfl)
theorem dX0_pairsBarred_20 : decode cX0_pairsBarred 20 = .ok (.iconst 1, 1) := dk_4 (dk_at dksX0_pairsBarred_0 20 rfl rfl)
theorem dX0_pairsBarred_21 : decode cX0_pairsBarred 21 = .ok (.iadd, 1) := dk_96 (dk_at dksX0_pairsBarred_0 21 rfl rfl)
theorem dX0_pairsBarred_22 : decode cX0_pairsBarred 22 = .ok (.iaload, 1) := dk_46 (dk_at dksX0_pairsBarred_0 22 rfl rfl)
theorem dX0_pairsBarred_23 : decode cX0_pairsBarred 23 = .ok (.istore_n 3, 1) := dk_62 (dk_at dksX0_pairsBarred_0 23 rfl rfl)
theorem dX0_pairsBarred_24 : decode cX0_pairsBarred 24 = .ok (.iload_n 3, 1) := dk_29 (dk_at dksX0_pairsBarred_1 0 rfl rfl)
theorem dX0_pairsBarred_25 : decode cX0_pairsBarred 25 = .ok (.i2l, 1) := dk_133 (dk_at dksX0_pairsBarred_1 1 rfl rfl)
theorem dX0_pairsBarred_26 : decode cX0_pairsBarred 26 = .ok (.ldc2_w 165, 3) := dk_20 0 165 (dk_at dksX0_pairsBarred_1 2 rfl rfl)
theorem dX0_pairsBarred_29 : decode cX0_pairsBarred 29 = .ok (.ldc2_w 167, 3) := dk_20 0 167 (dk_at dksX0_pairsBarred_1 5 rfl rfl)
theorem dX0_pairsBarred_32 : decode cX0_pairsBarred 32 = .ok (.invokestatic 52, 3) := dk_184 0 52 (dk_at dksX0_pairsBarred_1 8 rfl rfl)
theorem dX0_pairsBarred_35 : decode cX0_pairsBarred 35 = .ok (.istore 4, 2) := dk_54 4 (dk_at dksX0_pairsBarred_1 11 rfl rfl)
theorem dX0_pairsBarred_37 : decode cX0_pairsBarred 37 = .ok (.iload_n 3, 1) := dk_29 (dk_at dksX0_pairsBarred_1 13 rfl rfl)
theorem dX0_pairsBarred_38 : decode cX0_pairsBarred 38 = .ok (.i2l, 1) := dk_133 (dk_at dksX0_pairsBarred_1 14 rfl rfl)
theorem dX0_pairsBarred_39 : decode cX0_pairsBarred 39 = .ok (.lconst 0, 1) := dk_9 (dk_at dksX0_pairsBarred_1 15 rfl rfl)
theorem dX0_pairsBarred_40 : decode cX0_pairsBarred 40 = .ok (.ldc2_w 169, 3) := dk_20 0 169 (dk_at dksX0_pairsBarred_1 16 rfl rfl)
theorem dX0_pairsBarred_43 : decode cX0_pairsBarred 43 = .ok (.invokestatic 52, 3) := dk_184 0 52 (dk_at dksX0_pairsBarred_1 19 rfl rfl)
theorem dX0_pairsBarred_46 : decode cX0_pairsBarred 46 = .ok (.ifCond .ne 8, 3) := dk_154 0 8 (dk_at dksX0_pairsBarred_2 0 rfl rfl)
theorem dX0_pairsBarred_49 : decode cX0_pairsBarred 49 = .ok (.iload 4, 2) := dk_21 4 (dk_at dksX0_pairsBarred_2 3 rfl rfl)
theorem dX0_pairsBarred_51 : decode cX0_pairsBarred 51 = .ok (.ifCond .eq 22, 3) := dk_153 0 22 (dk_at dksX0_pairsBarred_2 5 rfl rfl)
theorem dX0_pairsBarred_54 : decode cX0_pairsBarred 54 = .ok (.iload 4, 2) := dk_21 4 (dk_at dksX0_pairsBarred_2 8 rfl rfl)
theorem dX0_pairsBarred_56 : decode cX0_pairsBarred 56 = .ok (.ifCond .eq 20, 3) := dk_153 0 20 (dk_at dksX0_pairsBarred_2 10 rfl rfl)
theorem dX0_pairsBarred_59 : decode cX0_pairsBarred 59 = .ok (.aload_n 1, 1) := dk_43 (dk_at dksX0_pairsBarred_2 13 rfl rfl)
theorem dX0_pairsBarred_60 : decode cX0_pairsBarred 60 = .ok (.iload_n 2, 1) := dk_28 (dk_at dksX0_pairsBarred_2 14 rfl rfl)
theorem dX0_pairsBarred_61 : decode cX0_pairsBarred 61 = .ok (.iaload, 1) := dk_46 (dk_at dksX0_pairsBarred_2 15 rfl rfl)
theorem dX0_pairsBarred_62 : decode cX0_pairsBarred 62 = .ok (.i2l, 1) := dk_133 (dk_at dksX0_pairsBarred_2 16 rfl rfl)
theorem dX0_pairsBarred_63 : decode cX0_pairsBarred 63 = .ok (.lconst 0, 1) := dk_9 (dk_at dksX0_pairsBarred_2 17 rfl rfl)
theorem dX0_pairsBarred_64 : decode cX0_pairsBarred 64 = .ok (.ldc2_w 142, 3) := dk_20 0 142 (dk_at dksX0_pairsBarred_2 18 rfl rfl)
theorem dX0_pairsBarred_67 : decode cX0_pairsBarred 67 = .ok (.invokestatic 52, 3) := dk_184 0 52 (dk_at dksX0_pairsBarred_2 21 rfl rfl)
theorem dX0_pairsBarred_70 : decode cX0_pairsBarred 70 = .ok (.ifCond .ne 6, 3) := dk_154 0 6 (dk_at dksX0_pairsBarred_3 0 rfl rfl)
theorem dX0_pairsBarred_73 : decode cX0_pairsBarred 73 = .ok (.bipush (-2), 2) := dk_16 254 (dk_at dksX0_pairsBarred_3 3 rfl rfl)
theorem dX0_pairsBarred_75 : decode cX0_pairsBarred 75 = .ok (.ireturn, 1) := dk_172 (dk_at dksX0_pairsBarred_3 5 rfl rfl)
theorem dX0_pairsBarred_76 : decode cX0_pairsBarred 76 = .ok (.iload 4, 2) := dk_21 4 (dk_at dksX0_pairsBarred_3 6 rfl rfl)
theorem dX0_pairsBarred_78 : decode cX0_pairsBarred 78 = .ok (.ifCond .ne 15, 3) := dk_154 0 15 (dk_at dksX0_pairsBarred_3 8 rfl rfl)
theorem dX0_pairsBarred_81 : decode cX0_pairsBarred 81 = .ok (.aload_n 0, 1) := dk_42 (dk_at dksX0_pairsBarred_3 11 rfl rfl)
theorem dX0_pairsBarred_82 : decode cX0_pairsBarred 82 = .ok (.aload_n 1, 1) := dk_43 (dk_at dksX0_pairsBarred_3 12 rfl rfl)
theorem dX0_pairsBarred_83 : decode cX0_pairsBarred 83 = .ok (.iload_n 2, 1) := dk_28 (dk_at dksX0_pairsBarred_3 13 rfl rfl)
theorem dX0_pairsBarred_84 : decode cX0_pairsBarred 84 = .ok (.iaload, 1) := dk_46 (dk_at dksX0_pairsBarred_3 14 rfl rfl)
theorem dX0_pairsBarred_85 : decode cX0_pairsBarred 85 = .ok (.invokevirtual 56, 3) := dk_182 0 56 (dk_at dksX0_pairsBarred_3 15 rfl rfl)
theorem dX0_pairsBarred_88 : decode cX0_pairsBarred 88 = .ok (.ifCond .eq 5, 3) := dk_153 0 5 (dk_at dksX0_pairsBarred_3 18 rfl rfl)
theorem dX0_pairsBarred_91 : decode cX0_pairsBarred 91 = .ok (.iconst (-1), 1) := dk_2 (dk_at dksX0_pairsBarred_3 21 rfl rfl)
theorem dX0_pairsBarred_92 : decode cX0_pairsBarred 92 = .ok (.ireturn, 1) := dk_172 (dk_at dksX0_pairsBarred_3 22 rfl rfl)
theorem dX0_pairsBarred_93 : decode cX0_pairsBarred 93 = .ok (.iinc 2 2, 3) := dk_132 2 2 (dk_at dksX0_pairsBarred_4 0 rfl rfl)
theorem dX0_pairsBarred_96 : decode cX0_pairsBarred 96 = .ok (.goto (-84), 3) := dk_167 255 172 (dk_at dksX0_pairsBarred_4 3 rfl rfl)
theorem dX0_pairsBarred_99 : decode cX0_pairsBarred 99 = .ok (.iconst 0, 1) := dk_3 (dk_at dksX0_pairsBarred_4 6 rfl rfl)
theorem dX0_pairsBarred_100 : decode cX0_pairsBarred 100 = .ok (.ireturn, 1) := dk_172 (dk_at dksX0_pairsBarred_4 7 rfl rfl)
abbrev cX0_dayBy : ByteArray := prog_1_method_31_code
def yX0_dayBy : MethodName := ⟨RX0, "dayBy", "([II)I"⟩
def dkwX0_dayBy_3 : List UInt8 := [185, 0, 70, 2, 0, 192, 0, 31, 182, 0, 194, 132, 4, 1, 167, 255, 222, 29, 172]
abbrev dktX0_dayBy_3 : List UInt8 := dkwX0_dayBy_3 ++ []
def dkwX0_dayBy_2 : List UInt8 := [3, 54, 4, 21, 4, 42, 180, 0, 12, 185, 0, 48, 1, 0, 162, 0, 26, 42, 180, 0, 12, 21, 4]
abbrev dktX0_dayBy_2 : List UInt8 := dkwX0_dayBy_2 ++ dktX0_dayBy_3
def dkwX0_dayBy_1 : List UInt8 := [185, 0, 70, 2, 0, 192, 0, 31, 182, 0, 188, 132, 3, 1, 167, 255, 224, 42, 43, 28, 182, 0, 191, 62]
abbrev dktX0_dayBy_1 : List UInt8 := dkwX0_dayBy_1 ++ dktX0_dayBy_2
def dkwX0_dayBy_0 : List UInt8 := [3, 62, 29, 42, 180, 0, 12, 185, 0, 48, 1, 0, 162, 0, 25, 42, 180, 0, 12, 29]
abbrev dktX0_dayBy_0 : List UInt8 := dkwX0_dayBy_0 ++ dktX0_dayBy_1
theorem dksX0_dayBy_0 : cX0_dayBy.data.toList.drop 0 = dktX0_dayBy_0 := by decide +kernel
theorem dksX0_dayBy_1 : cX0_dayBy.data.toList.drop 20 = dktX0_dayBy_1 := dk_seg dksX0_dayBy_0 20 rfl rfl
theorem dksX0_dayBy_2 : cX0_dayBy.data.toList.drop 44 = dktX0_dayBy_2 := dk_seg dksX0_dayBy_1 24 rfl rfl
theorem dksX0_dayBy_3 : cX0_dayBy.data.toList.drop 67 = dktX0_dayBy_3 := dk_seg dksX0_dayBy_2 23 rfl rfl
theorem dX0_dayBy_0 : decode cX0_dayBy 0 = .ok (.iconst 0, 1) := dk_3 (dk_at dksX0_dayBy_0 0 rfl rfl)
theorem dX0_dayBy_1 : decode cX0_dayBy 1 = .ok (.istore_n 3, 1) := dk_62 (dk_at dksX0_dayBy_0 1 rfl rfl)
theorem dX0_dayBy_2 : decode cX0_dayBy 2 = .ok (.iload_n 3, 1) := dk_29 (dk_at dksX0_dayBy_0 2 rfl rfl)
theorem dX0_dayBy_3 : decode cX0_dayBy 3 = .ok (.aload_n 0, 1) := dk_42 (dk_at dksX0_dayBy_0 3 rfl rfl)
theorem dX0_dayBy_4 : decode cX0_dayBy 4 = .ok (.getfield 12, 3) := dk_180 0 12 (dk_at dksX0_dayBy_0 4 rfl rfl)
theorem dX0_dayBy_7 : decode cX0_dayBy 7 = .ok (.invokeinterface 48 1, 5) := by decide +kernel
theorem dX0_dayBy_12 : decode cX0_dayBy 12 = .ok (.if_icmp .ge 25, 3) := dk_162 0 25 (dk_at dksX0_dayBy_0 12 rfl rfl)
theorem dX0_dayBy_15 : decode cX0_dayBy 15 = .ok (.aload_n 0, 1) := dk_42 (dk_at dksX0_dayBy_0 15 rfl rfl)
theorem dX0_dayBy_16 : decode cX0_dayBy 16 = .ok (.getfield 12, 3) := dk_180 0 12 (dk_at dksX0_dayBy_0 16 rfl rfl)
theorem dX0_dayBy_19 : decode cX0_dayBy 19 = .ok (.iload_n 3, 1) := dk_29 (dk_at dksX0_dayBy_0 19 rfl rfl)
theorem dX0_dayBy_20 : decode cX0_dayBy 20 = .ok (.invokeinterface 70 2, 5) := by decide +kernel
theorem dX0_dayBy_25 : decode cX0_dayBy 25 = .ok (.checkcast 31, 3) := dk_192 0 31 (dk_at dksX0_dayBy_1 5 rfl rfl)
theorem dX0_dayBy_28 : decode cX0_dayBy 28 = .ok (.invokevirtual 188, 3) := dk_182 0 188 (dk_at dksX0_dayBy_1 8 rfl rfl)
theorem dX0_dayBy_31 : decode cX0_dayBy 31 = .ok (.iinc 3 1, 3) := dk_132 3 1 (dk_at dksX0_dayBy_1 11 rfl rfl)
theorem dX0_dayBy_34 : decode cX0_dayBy 34 = .ok (.goto (-32), 3) := dk_167 255 224 (dk_at dksX0_dayBy_1 14 rfl rfl)
theorem dX0_dayBy_37 : decode cX0_dayBy 37 = .ok (.aload_n 0, 1) := dk_42 (dk_at dksX0_dayBy_1 17 rfl rfl)
theorem dX0_dayBy_38 : decode cX0_dayBy 38 = .ok (.aload_n 1, 1) := dk_43 (dk_at dksX0_dayBy_1 18 rfl rfl)
theorem dX0_dayBy_39 : decode cX0_dayBy 39 = .ok (.iload_n 2, 1) := dk_28 (dk_at dksX0_dayBy_1 19 rfl rfl)
theorem dX0_dayBy_40 : decode cX0_dayBy 40 = .ok (.invokevirtual 191, 3) := dk_182 0 191 (dk_at dksX0_dayBy_1 20 rfl rfl)
theorem dX0_dayBy_43 : decode cX0_dayBy 43 = .ok (.istore_n 3, 1) := dk_62 (dk_at dksX0_dayBy_1 23 rfl rfl)
theorem dX0_dayBy_44 : decode cX0_dayBy 44 = .ok (.iconst 0, 1) := dk_3 (dk_at dksX0_dayBy_2 0 rfl rfl)
theorem dX0_dayBy_45 : decode cX0_dayBy 45 = .ok (.istore 4, 2) := dk_54 4 (dk_at dksX0_dayBy_2 1 rfl rfl)
theorem dX0_dayBy_47 : decode cX0_dayBy 47 = .ok (.iload 4, 2) := dk_21 4 (dk_at dksX0_dayBy_2 3 rfl rfl)
theorem dX0_dayBy_49 : decode cX0_dayBy 49 = .ok (.aload_n 0, 1) := dk_42 (dk_at dksX0_dayBy_2 5 rfl rfl)
theorem dX0_dayBy_50 : decode cX0_dayBy 50 = .ok (.getfield 12, 3) := dk_180 0 12 (dk_at dksX0_dayBy_2 6 rfl rfl)
theorem dX0_dayBy_53 : decode cX0_dayBy 53 = .ok (.invokeinterface 48 1, 5) := by decide +kernel
theorem dX0_dayBy_58 : decode cX0_dayBy 58 = .ok (.if_icmp .ge 26, 3) := dk_162 0 26 (dk_at dksX0_dayBy_2 14 rfl rfl)
theorem dX0_dayBy_61 : decode cX0_dayBy 61 = .ok (.aload_n 0, 1) := dk_42 (dk_at dksX0_dayBy_2 17 rfl rfl)
theorem dX0_dayBy_62 : decode cX0_dayBy 62 = .ok (.getfield 12, 3) := dk_180 0 12 (dk_at dksX0_dayBy_2 18 rfl rfl)
theorem dX0_dayBy_65 : decode cX0_dayBy 65 = .ok (.iload 4, 2) := dk_21 4 (dk_at dksX0_dayBy_2 21 rfl rfl)
theorem dX0_dayBy_67 : decode cX0_dayBy 67 = .ok (.invokeinterface 70 2, 5) := by decide +kernel
theorem dX0_dayBy_72 : decode cX0_dayBy 72 = .ok (.checkcast 31, 3) := dk_192 0 31 (dk_at dksX0_dayBy_3 5 rfl rfl)
theorem dX0_dayBy_75 : decode cX0_dayBy 75 = .ok (.invokevirtual 194, 3) := dk_182 0 194 (dk_at dksX0_dayBy_3 8 rfl rfl)
theorem dX0_dayBy_78 : decode cX0_dayBy 78 = .ok (.iinc 4 1, 3) := dk_132 4 1 (dk_at dksX0_dayBy_3 11 rfl rfl)
theorem dX0_dayBy_81 : decode cX0_dayBy 81 = .ok (.goto (-34), 3) := dk_167 255 222 (dk_at dksX0_dayBy_3 14 rfl rfl)
theorem dX0_dayBy_84 : decode cX0_dayBy 84 = .ok (.iload_n 3, 1) := dk_29 (dk_at dksX0_dayBy_3 17 rfl rfl)
theorem dX0_dayBy_85 : decode cX0_dayBy 85 = .ok (.ireturn, 1) := dk_172 (dk_at dksX0_dayBy_3 18 rfl rfl)
abbrev cX0_dayOf : ByteArray := prog_1_method_30_code
def yX0_dayOf : MethodName := ⟨RX0, "dayOf", "([II)I"⟩
def dkwX0_dayOf_6 : List UInt8 := [167, 0, 8, 42, 2, 182, 0, 185, 172]
abbrev dktX0_dayOf_6 : List UInt8 := dkwX0_dayOf_6 ++ []
def dkwX0_dayOf_5 : List UInt8 := [167, 0, 32, 28, 5, 160, 0, 10, 42, 182, 0, 179, 167, 0, 20, 28, 6, 160, 0, 10, 42, 182, 0, 182]
abbrev dktX0_dayOf_5 : List UInt8 := dkwX0_dayOf_5 ++ dktX0_dayOf_6
def dkwX0_dayOf_4 : List UInt8 := [16, 10, 100, 185, 0, 70, 2, 0, 192, 0, 31, 180, 0, 74, 172, 28, 154, 0, 10, 42, 182, 0, 176]
abbrev dktX0_dayOf_4 : List UInt8 := dkwX0_dayOf_4 ++ dktX0_dayOf_5
def dkwX0_dayOf_3 : List UInt8 := [161, 0, 39, 42, 28, 16, 10, 100, 182, 0, 56, 153, 0, 8, 16, 247, 167, 0, 22, 42, 180, 0, 12, 28]
abbrev dktX0_dayOf_3 : List UInt8 := dkwX0_dayOf_3 ++ dktX0_dayOf_4
def dkwX0_dayOf_2 : List UInt8 := [167, 255, 215, 28, 4, 160, 0, 5, 29, 172, 29, 155, 0, 8, 16, 156, 29, 100, 172, 28, 16, 10]
abbrev dktX0_dayOf_2 : List UInt8 := dkwX0_dayOf_2 ++ dktX0_dayOf_3
def dkwX0_dayOf_1 : List UInt8 := [21, 4, 4, 96, 46, 182, 0, 173, 153, 0, 8, 16, 247, 167, 0, 7, 21, 4, 5, 108, 62, 132, 4, 2]
abbrev dktX0_dayOf_1 : List UInt8 := dkwX0_dayOf_1 ++ dktX0_dayOf_2
def dkwX0_dayOf_0 : List UInt8 := [16, 247, 62, 3, 54, 4, 21, 4, 43, 190, 162, 0, 40, 29, 156, 0, 36, 42, 43, 21, 4, 46, 43]
abbrev dktX0_dayOf_0 : List UInt8 := dkwX0_dayOf_0 ++ dktX0_dayOf_1
theorem dksX0_dayOf_0 : cX0_dayOf.data.toList.drop 0 = dktX0_dayOf_0 := by decide +kernel
theorem dksX0_dayOf_1 : cX0_dayOf.data.toList.drop 23 = dktX0_dayOf_1 := dk_seg dksX0_dayOf_0 23 rfl rfl
theorem dksX0_dayOf_2 : cX0_dayOf.data.toList.drop 47 = dktX0_dayOf_2 := dk_seg dksX0_dayOf_1 24 rfl rfl
theorem dksX0_dayOf_3 : cX0_dayOf.data.toList.drop 69 = dktX0_dayOf_3 := dk_seg dksX0_dayOf_2 22 rfl rfl
theorem dksX0_dayOf_4 : cX0_dayOf.data.toList.drop 93 = dktX0_dayOf_4 := dk_seg dksX0_dayOf_3 24 rfl rfl
theorem dksX0_dayOf_5 : cX0_dayOf.data.toList.drop 116 = dktX0_dayOf_5 := dk_seg dksX0_dayOf_4 23 rfl rfl
theorem dksX0_dayOf_6 : cX0_dayOf.data.toList.drop 140 = dktX0_dayOf_6 := dk_seg dksX0_dayOf_5 24 rfl rfl
theorem dX0_dayOf_0 : decode cX0_dayOf 0 = .ok (.bipush (-9), 2) := dk_16 247 (dk_at dksX0_dayOf_0 0 rfl rfl)
theorem dX0_dayOf_2 : decode cX0_dayOf 2 = .ok (.istore_n 3, 1) := dk_62 (dk_at dksX0_dayOf_0 2 rfl rfl)
theorem dX0_dayOf_3 : decode cX0_dayOf 3 = .ok (.iconst 0, 1) := dk_3 (dk_at dksX0_dayOf_0 3 rfl rfl)
theorem dX0_dayOf_4 : decode cX0_dayOf 4 = .ok (.istore 4, 2) := dk_54 4 (dk_at dksX0_dayOf_0 4 rfl rfl)
theorem dX0_dayOf_6 : decode cX0_dayOf 6 = .ok (.iload 4, 2) := dk_21 4 (dk_at dksX0_dayOf_0 6 rfl rfl)
theorem dX0_dayOf_8 : decode cX0_dayOf 8 = .ok (.aload_n 1, 1) := dk_43 (dk_at dksX0_dayOf_0 8 rfl rfl)
theorem dX0_dayOf_9 : decode cX0_dayOf 9 = .ok (.arraylength, 1) := dk_190 (dk_at dksX0_dayOf_0 9 rfl rfl)
theorem dX0_dayOf_10 : decode cX0_dayOf 10 = .ok (.if_icmp .ge 40, 3) := dk_162 0 40 (dk_at dksX0_dayOf_0 10 rfl rfl)
theorem dX0_dayOf_13 : decode cX0_dayOf 13 = .ok (.iload_n 3, 1) := dk_29 (dk_at dksX0_dayOf_0 13 rfl rfl)
theorem dX0_dayOf_14 : decode cX0_dayOf 14 = .ok (.ifCond .ge 36, 3) := dk_156 0 36 (dk_at dksX0_dayOf_0 14 rfl rfl)
theorem dX0_dayOf_17 : decode cX0_dayOf 17 = .ok (.aload_n 0, 1) := dk_42 (dk_at dksX0_dayOf_0 17 rfl rfl)
theorem dX0_dayOf_18 : decode cX0_dayOf 18 = .ok (.aload_n 1, 1) := dk_43 (dk_at dksX0_dayOf_0 18 rfl rfl)
theorem dX0_dayOf_19 : decode cX0_dayOf 19 = .ok (.iload 4, 2) := dk_21 4 (dk_at dksX0_dayOf_0 19 rfl rfl)
theorem dX0_dayOf_21 : decode cX0_dayOf 21 = .ok (.iaload, 1) := dk_46 (dk_at dksX0_dayOf_0 21 rfl rfl)
theorem dX0_dayOf_22 : decode cX0_dayOf 22 = .ok (.aload_n 1, 1) := dk_43 (dk_at dksX0_dayOf_0 22 rfl rfl)
theorem dX0_dayOf_23 : decode cX0_dayOf 23 = .ok (.iload 4, 2) := dk_21 4 (dk_at dksX0_dayOf_1 0 rfl rfl)
theorem dX0_dayOf_25 : decode cX0_dayOf 25 = .ok (.iconst 1, 1) := dk_4 (dk_at dksX0_dayOf_1 2 rfl rfl)
theorem dX0_dayOf_26 : decode cX0_dayOf 26 = .ok (.iadd, 1) := dk_96 (dk_at dksX0_dayOf_1 3 rfl rfl)
theorem dX0_dayOf_27 : decode cX0_dayOf 27 = .ok (.iaload, 1) := dk_46 (dk_at dksX0_dayOf_1 4 rfl rfl)
theorem dX0_dayOf_28 : decode cX0_dayOf 28 = .ok (.invokevirtual 173, 3) := dk_182 0 173 (dk_at dksX0_dayOf_1 5 rfl rfl)
theorem dX0_dayOf_31 : decode cX0_dayOf 31 = .ok (.ifCond .eq 8, 3) := dk_153 0 8 (dk_at dksX0_dayOf_1 8 rfl rfl)
theorem dX0_dayOf_34 : decode cX0_dayOf 34 = .ok (.bipush (-9), 2) := dk_16 247 (dk_at dksX0_dayOf_1 11 rfl rfl)
theorem dX0_dayOf_36 : decode cX0_dayOf 36 = .ok (.goto 7, 3) := dk_167 0 7 (dk_at dksX0_dayOf_1 13 rfl rfl)
theorem dX0_dayOf_39 : decode cX0_dayOf 39 = .ok (.iload 4, 2) := dk_21 4 (dk_at dksX0_dayOf_1 16 rfl rfl)
theorem dX0_dayOf_41 : decode cX0_dayOf 41 = .ok (.iconst 2, 1) := dk_5 (dk_at dksX0_dayOf_1 18 rfl rfl)
theorem dX0_dayOf_42 : decode cX0_dayOf 42 = .ok (.idiv, 1) := dk_108 (dk_at dksX0_dayOf_1 19 rfl rfl)
theorem dX0_dayOf_43 : decode cX0_dayOf 43 = .ok (.istore_n 3, 1) := dk_62 (dk_at dksX0_dayOf_1 20 rfl rfl)
theorem dX0_dayOf_44 : decode cX0_dayOf 44 = .ok (.iinc 4 2, 3) := dk_132 4 2 (dk_at dksX0_dayOf_1 21 rfl rfl)
theorem dX0_dayOf_47 : decode cX0_dayOf 47 = .ok (.goto (-41), 3) := dk_167 255 215 (dk_at dksX0_dayOf_2 0 rfl rfl)
theorem dX0_dayOf_50 : decode cX0_dayOf 50 = .ok (.iload_n 2, 1) := dk_28 (dk_at dksX0_dayOf_2 3 rfl rfl)
theorem dX0_dayOf_51 : decode cX0_dayOf 51 = .ok (.iconst 1, 1) := dk_4 (dk_at dksX0_dayOf_2 4 rfl rfl)
theorem dX0_dayOf_52 : decode cX0_dayOf 52 = .ok (.if_icmp .ne 5, 3) := dk_160 0 5 (dk_at dksX0_dayOf_2 5 rfl rfl)
theorem dX0_dayOf_55 : decode cX0_dayOf 55 = .ok (.iload_n 3, 1) := dk_29 (dk_at dksX0_dayOf_2 8 rfl rfl)
theorem dX0_dayOf_56 : decode cX0_dayOf 56 = .ok (.ireturn, 1) := dk_172 (dk_at dksX0_dayOf_2 9 rfl rfl)
theorem dX0_dayOf_57 : decode cX0_dayOf 57 = .ok (.iload_n 3, 1) := dk_29 (dk_at dksX0_dayOf_2 10 rfl rfl)
theorem dX0_dayOf_58 : decode cX0_dayOf 58 = .ok (.ifCond .lt 8, 3) := dk_155 0 8 (dk_at dksX0_dayOf_2 11 rfl rfl)
theorem dX0_dayOf_61 : decode cX0_dayOf 61 = .ok (.bipush (-100), 2) := dk_16 156 (dk_at dksX0_dayOf_2 14 rfl rfl)
theorem dX0_dayOf_63 : decode cX0_dayOf 63 = .ok (.iload_n 3, 1) := dk_29 (dk_at dksX0_dayOf_2 16 rfl rfl)
theorem dX0_dayOf_64 : decode cX0_dayOf 64 = .ok (.isub, 1) := dk_100 (dk_at dksX0_dayOf_2 17 rfl rfl)
theorem dX0_dayOf_65 : decode cX0_dayOf 65 = .ok (.ireturn, 1) := dk_172 (dk_at dksX0_dayOf_2 18 rfl rfl)
theorem dX0_dayOf_66 : decode cX0_dayOf 66 = .ok (.iload_n 2, 1) := dk_28 (dk_at dksX0_dayOf_2 19 rfl rfl)
theorem dX0_dayOf_67 : decode cX0_dayOf 67 = .ok (.bipush 10, 2) := dk_16 10 (dk_at dksX0_dayOf_2 20 rfl rfl)
theorem dX0_dayOf_69 : decode cX0_dayOf 69 = .ok (.if_icmp .lt 39, 3) := dk_161 0 39 (dk_at dksX0_dayOf_3 0 rfl rfl)
theorem dX0_dayOf_72 : decode cX0_dayOf 72 = .ok (.aload_n 0, 1) := dk_42 (dk_at dksX0_dayOf_3 3 rfl rfl)
theorem dX0_dayOf_73 : decode cX0_dayOf 73 = .ok (.iload_n 2, 1) := dk_28 (dk_at dksX0_dayOf_3 4 rfl rfl)
theorem dX0_dayOf_74 : decode cX0_dayOf 74 = .ok (.bipush 10, 2) := dk_16 10 (dk_at dksX0_dayOf_3 5 rfl rfl)
theorem dX0_dayOf_76 : decode cX0_dayOf 76 = .ok (.isub, 1) := dk_100 (dk_at dksX0_dayOf_3 7 rfl rfl)
theorem dX0_dayOf_77 : decode cX0_dayOf 77 = .ok (.invokevirtual 56, 3) := dk_182 0 56 (dk_at dksX0_dayOf_3 8 rfl rfl)
theorem dX0_dayOf_80 : decode cX0_dayOf 80 = .ok (.ifCond .eq 8, 3) := dk_153 0 8 (dk_at dksX0_dayOf_3 11 rfl rfl)
theorem dX0_dayOf_83 : decode cX0_dayOf 83 = .ok (.bipush (-9), 2) := dk_16 247 (dk_at dksX0_dayOf_3 14 rfl rfl)
theorem dX0_dayOf_85 : decode cX0_dayOf 85 = .ok (.goto 22, 3) := dk_167 0 22 (dk_at dksX0_dayOf_3 16 rfl rfl)
theorem dX0_dayOf_88 : decode cX0_dayOf 88 = .ok (.aload_n 0, 1) := dk_42 (dk_at dksX0_dayOf_3 19 rfl rfl)
theorem dX0_dayOf_89 : decode cX0_dayOf 89 = .ok (.getfield 12, 3) := dk_180 0 12 (dk_at dksX0_dayOf_3 20 rfl rfl)
theorem dX0_dayOf_92 : decode cX0_dayOf 92 = .ok (.iload_n 2, 1) := dk_28 (dk_at dksX0_dayOf_3 23 rfl rfl)
theorem dX0_dayOf_93 : decode cX0_dayOf 93 = .ok (.bipush 10, 2) := dk_16 10 (dk_at dksX0_dayOf_4 0 rfl rfl)
theorem dX0_dayOf_95 : decode cX0_dayOf 95 = .ok (.isub, 1) := dk_100 (dk_at dksX0_dayOf_4 2 rfl rfl)
theorem dX0_dayOf_96 : decode cX0_dayOf 96 = .ok (.invokeinterface 70 2, 5) := by decide +kernel
theorem dX0_dayOf_101 : decode cX0_dayOf 101 = .ok (.checkcast 31, 3) := dk_192 0 31 (dk_at dksX0_dayOf_4 8 rfl rfl)
theorem dX0_dayOf_104 : decode cX0_dayOf 104 = .ok (.getfield 74, 3) := dk_180 0 74 (dk_at dksX0_dayOf_4 11 rfl rfl)
theorem dX0_dayOf_107 : decode cX0_dayOf 107 = .ok (.ireturn, 1) := dk_172 (dk_at dksX0_dayOf_4 14 rfl rfl)
theorem dX0_dayOf_108 : decode cX0_dayOf 108 = .ok (.iload_n 2, 1) := dk_28 (dk_at dksX0_dayOf_4 15 rfl rfl)
theorem dX0_dayOf_109 : decode cX0_dayOf 109 = .ok (.ifCond .ne 10, 3) := dk_154 0 10 (dk_at dksX0_dayOf_4 16 rfl rfl)
theorem dX0_dayOf_112 : decode cX0_dayOf 112 = .ok (.aload_n 0, 1) := dk_42 (dk_at dksX0_dayOf_4 19 rfl rfl)
theorem dX0_dayOf_113 : decode cX0_dayOf 113 = .ok (.invokevirtual 176, 3) := dk_182 0 176 (dk_at dksX0_dayOf_4 20 rfl rfl)
theorem dX0_dayOf_116 : decode cX0_dayOf 116 = .ok (.goto 32, 3) := dk_167 0 32 (dk_at dksX0_dayOf_5 0 rfl rfl)
theorem dX0_dayOf_119 : decode cX0_dayOf 119 = .ok (.iload_n 2, 1) := dk_28 (dk_at dksX0_dayOf_5 3 rfl rfl)
theorem dX0_dayOf_120 : decode cX0_dayOf 120 = .ok (.iconst 2, 1) := dk_5 (dk_at dksX0_dayOf_5 4 rfl rfl)
theorem dX0_dayOf_121 : decode cX0_dayOf 121 = .ok (.if_icmp .ne 10, 3) := dk_160 0 10 (dk_at dksX0_dayOf_5 5 rfl rfl)
theorem dX0_dayOf_124 : decode cX0_dayOf 124 = .ok (.aload_n 0, 1) := dk_42 (dk_at dksX0_dayOf_5 8 rfl rfl)
theorem dX0_dayOf_125 : decode cX0_dayOf 125 = .ok (.invokevirtual 179, 3) := dk_182 0 179 (dk_at dksX0_dayOf_5 9 rfl rfl)
theorem dX0_dayOf_128 : decode cX0_dayOf 128 = .ok (.goto 20, 3) := dk_167 0 20 (dk_at dksX0_dayOf_5 12 rfl rfl)
theorem dX0_dayOf_131 : decode cX0_dayOf 131 = .ok (.iload_n 2, 1) := dk_28 (dk_at dksX0_dayOf_5 15 rfl rfl)
theorem dX0_dayOf_132 : decode cX0_dayOf 132 = .ok (.iconst 3, 1) := dk_6 (dk_at dksX0_dayOf_5 16 rfl rfl)
theorem dX0_dayOf_133 : decode cX0_dayOf 133 = .ok (.if_icmp .ne 10, 3) := dk_160 0 10 (dk_at dksX0_dayOf_5 17 rfl rfl)
theorem dX0_dayOf_136 : decode cX0_dayOf 136 = .ok (.aload_n 0, 1) := dk_42 (dk_at dksX0_dayOf_5 20 rfl rfl)
theorem dX0_dayOf_137 : decode cX0_dayOf 137 = .ok (.invokevirtual 182, 3) := dk_182 0 182 (dk_at dksX0_dayOf_5 21 rfl rfl)
theorem dX0_dayOf_140 : decode cX0_dayOf 140 = .ok (.goto 8, 3) := dk_167 0 8 (dk_at dksX0_dayOf_6 0 rfl rfl)
theorem dX0_dayOf_143 : decode cX0_dayOf 143 = .ok (.aload_n 0, 1) := dk_42 (dk_at dksX0_dayOf_6 3 rfl rfl)
theorem dX0_dayOf_144 : decode cX0_dayOf 144 = .ok (.iconst (-1), 1) := dk_2 (dk_at dksX0_dayOf_6 4 rfl rfl)
theorem dX0_dayOf_145 : decode cX0_dayOf 145 = .ok (.invokevirtual 185, 3) := dk_182 0 185 (dk_at dksX0_dayOf_6 5 rfl rfl)
theorem dX0_dayOf_148 : decode cX0_dayOf 148 = .ok (.ireturn, 1) := dk_172 (dk_at dksX0_dayOf_6 8 rfl rfl)
abbrev cX0_did : ByteArray := prog_1_method_25_code
def yX0_did : MethodName := ⟨RX0, "did", "(II)Z"⟩
def dkwX0_did_1 : List UInt8 := [167, 0, 9, 42, 27, 28, 182, 0, 162, 172]
abbrev dktX0_did_1 : List UInt8 := dkwX0_did_1 ++ []
def dkwX0_did_0 : List UInt8 := [28, 16, 10, 161, 0, 23, 42, 28, 16, 10, 100, 27, 182, 0, 171, 155, 0, 7, 4, 167, 0, 13, 3]
abbrev dktX0_did_0 : List UInt8 := dkwX0_did_0 ++ dktX0_did_1
theorem dksX0_did_0 : cX0_did.data.toList.drop 0 = dktX0_did_0 := by decide +kernel
theorem dksX0_did_1 : cX0_did.data.toList.drop 23 = dktX0_did_1 := dk_seg dksX0_did_0 23 rfl rfl
theorem dX0_did_0 : decode cX0_did 0 = .ok (.iload_n 2, 1) := dk_28 (dk_at dksX0_did_0 0 rfl rfl)
theorem dX0_did_1 : decode cX0_did 1 = .ok (.bipush 10, 2) := dk_16 10 (dk_at dksX0_did_0 1 rfl rfl)
theorem dX0_did_3 : decode cX0_did 3 = .ok (.if_icmp .lt 23, 3) := dk_161 0 23 (dk_at dksX0_did_0 3 rfl rfl)
theorem dX0_did_6 : decode cX0_did 6 = .ok (.aload_n 0, 1) := dk_42 (dk_at dksX0_did_0 6 rfl rfl)
theorem dX0_did_7 : decode cX0_did 7 = .ok (.iload_n 2, 1) := dk_28 (dk_at dksX0_did_0 7 rfl rfl)
theorem dX0_did_8 : decode cX0_did 8 = .ok (.bipush 10, 2) := dk_16 10 (dk_at dksX0_did_0 8 rfl rfl)
theorem dX0_did_10 : decode cX0_did 10 = .ok (.isub, 1) := dk_100 (dk_at dksX0_did_0 10 rfl rfl)
theorem dX0_did_11 : decode cX0_did 11 = .ok (.iload_n 1, 1) := dk_27 (dk_at dksX0_did_0 11 rfl rfl)
theorem dX0_did_12 : decode cX0_did 12 = .ok (.invokevirtual 171, 3) := dk_182 0 171 (dk_at dksX0_did_0 12 rfl rfl)
theorem dX0_did_15 : decode cX0_did 15 = .ok (.ifCond .lt 7, 3) := dk_155 0 7 (dk_at dksX0_did_0 15 rfl rfl)
theorem dX0_did_18 : decode cX0_did 18 = .ok (.iconst 1, 1) := dk_4 (dk_at dksX0_did_0 18 rfl rfl)
theorem dX0_did_19 : decode cX0_did 19 = .ok (.goto 13, 3) := dk_167 0 13 (dk_at dksX0_did_0 19 rfl rfl)
theorem dX0_did_22 : decode cX0_did 22 = .ok (.iconst 0, 1) := dk_3 (dk_at dksX0_did_0 22 rfl rfl)
theorem dX0_did_23 : decode cX0_did 23 = .ok (.goto 9, 3) := dk_167 0 9 (dk_at dksX0_did_1 0 rfl rfl)
theorem dX0_did_26 : decode cX0_did 26 = .ok (.aload_n 0, 1) := dk_42 (dk_at dksX0_did_1 3 rfl rfl)
theorem dX0_did_27 : decode cX0_did 27 = .ok (.iload_n 1, 1) := dk_27 (dk_at dksX0_did_1 4 rfl rfl)
theorem dX0_did_28 : decode cX0_did 28 = .ok (.iload_n 2, 1) := dk_28 (dk_at dksX0_did_1 5 rfl rfl)
theorem dX0_did_29 : decode cX0_did 29 = .ok (.invokevirtual 162, 3) := dk_182 0 162 (dk_at dksX0_did_1 6 rfl rfl)
theorem dX0_did_32 : decode cX0_did 32 = .ok (.ireturn, 1) := dk_172 (dk_at dksX0_did_1 9 rfl rfl)
abbrev cX0_leaves : ByteArray := prog_1_method_26_code
def yX0_leaves : MethodName := ⟨RX0, "leaves", "()I"⟩
def dkwX0_leaves_2 : List UInt8 := [132, 2, 1, 167, 255, 211, 27, 172]
abbrev dktX0_leaves_2 : List UInt8 := dkwX0_leaves_2 ++ []
def dkwX0_leaves_1 : List UInt8 := [185, 0, 70, 2, 0, 192, 0, 31, 182, 0, 159, 153, 0, 9, 4, 28, 120, 167, 0, 4, 3, 128, 60]
abbrev dktX0_leaves_1 : List UInt8 := dkwX0_leaves_1 ++ dktX0_leaves_2
def dkwX0_leaves_0 : List UInt8 := [3, 60, 3, 61, 28, 42, 180, 0, 12, 185, 0, 48, 1, 0, 162, 0, 38, 27, 42, 180, 0, 12, 28]
abbrev dktX0_leaves_0 : List UInt8 := dkwX0_leaves_0 ++ dktX0_leaves_1
theorem dksX0_leaves_0 : cX0_leaves.data.toList.drop 0 = dktX0_leaves_0 := by decide +kernel
theorem dksX0_leaves_1 : cX0_leaves.data.toList.drop 23 = dktX0_leaves_1 := dk_seg dksX0_leaves_0 23 rfl rfl
theorem dksX0_leaves_2 : cX0_leaves.data.toList.drop 46 = dktX0_leaves_2 := dk_seg dksX0_leaves_1 23 rfl rfl
theorem dX0_leaves_0 : decode cX0_leaves 0 = .ok (.iconst 0, 1) := dk_3 (dk_at dksX0_leaves_0 0 rfl rfl)
theorem dX0_leaves_1 : decode cX0_leaves 1 = .ok (.istore_n 1, 1) := dk_60 (dk_at dksX0_leaves_0 1 rfl rfl)
theorem dX0_leaves_2 : decode cX0_leaves 2 = .ok (.iconst 0, 1) := dk_3 (dk_at dksX0_leaves_0 2 rfl rfl)
theorem dX0_leaves_3 : decode cX0_leaves 3 = .ok (.istore_n 2, 1) := dk_61 (dk_at dksX0_leaves_0 3 rfl rfl)
theorem dX0_leaves_4 : decode cX0_leaves 4 = .ok (.iload_n 2, 1) := dk_28 (dk_at dksX0_leaves_0 4 rfl rfl)
theorem dX0_leaves_5 : decode cX0_leaves 5 = .ok (.aload_n 0, 1) := dk_42 (dk_at dksX0_leaves_0 5 rfl rfl)
theorem dX0_leaves_6 : decode cX0_leaves 6 = .ok (.getfield 12, 3) := dk_180 0 12 (dk_at dksX0_leaves_0 6 rfl rfl)
theorem dX0_leaves_9 : decode cX0_leaves 9 = .ok (.invokeinterface 48 1, 5) := by decide +kernel
theorem dX0_leaves_14 : decode cX0_leaves 14 = .ok (.if_icmp .ge 38, 3) := dk_162 0 38 (dk_at dksX0_leaves_0 14 rfl rfl)
theorem dX0_leaves_17 : decode cX0_leaves 17 = .ok (.iload_n 1, 1) := dk_27 (dk_at dksX0_leaves_0 17 rfl rfl)
theorem dX0_leaves_18 : decode cX0_leaves 18 = .ok (.aload_n 0, 1) := dk_42 (dk_at dksX0_leaves_0 18 rfl rfl)
theorem dX0_leaves_19 : decode cX0_leaves 19 = .ok (.getfield 12, 3) := dk_180 0 12 (dk_at dksX0_leaves_0 19 rfl rfl)
theorem dX0_leaves_22 : decode cX0_leaves 22 = .ok (.iload_n 2, 1) := dk_28 (dk_at dksX0_leaves_0 22 rfl rfl)
theorem dX0_leaves_23 : decode cX0_leaves 23 = .ok (.invokeinterface 70 2, 5) := by decide +kernel
theorem dX0_leaves_28 : decode cX0_leaves 28 = .ok (.checkcast 31, 3) := dk_192 0 31 (dk_at dksX0_leaves_1 5 rfl rfl)
theorem dX0_leaves_31 : decode cX0_leaves 31 = .ok (.invokevirtual 159, 3) := dk_182 0 159 (dk_at dksX0_leaves_1 8 rfl rfl)
theorem dX0_leaves_34 : decode cX0_leaves 34 = .ok (.ifCond .eq 9, 3) := dk_153 0 9 (dk_at dksX0_leaves_1 11 rfl rfl)
theorem dX0_leaves_37 : decode cX0_leaves 37 = .ok (.iconst 1, 1) := dk_4 (dk_at dksX0_leaves_1 14 rfl rfl)
theorem dX0_leaves_38 : decode cX0_leaves 38 = .ok (.iload_n 2, 1) := dk_28 (dk_at dksX0_leaves_1 15 rfl rfl)
theorem dX0_leaves_39 : decode cX0_leaves 39 = .ok (.ishl, 1) := dk_120 (dk_at dksX0_leaves_1 16 rfl rfl)
theorem dX0_leaves_40 : decode cX0_leaves 40 = .ok (.goto 4, 3) := dk_167 0 4 (dk_at dksX0_leaves_1 17 rfl rfl)
theorem dX0_leaves_43 : decode cX0_leaves 43 = .ok (.iconst 0, 1) := dk_3 (dk_at dksX0_leaves_1 20 rfl rfl)
theorem dX0_leaves_44 : decode cX0_leaves 44 = .ok (.ior, 1) := dk_128 (dk_at dksX0_leaves_1 21 rfl rfl)
theorem dX0_leaves_45 : decode cX0_leaves 45 = .ok (.istore_n 1, 1) := dk_60 (dk_at dksX0_leaves_1 22 rfl rfl)
theorem dX0_leaves_46 : decode cX0_leaves 46 = .ok (.iinc 2 1, 3) := dk_132 2 1 (dk_at dksX0_leaves_2 0 rfl rfl)
theorem dX0_leaves_49 : decode cX0_leaves 49 = .ok (.goto (-45), 3) := dk_167 255 211 (dk_at dksX0_leaves_2 3 rfl rfl)
theorem dX0_leaves_52 : decode cX0_leaves 52 = .ok (.iload_n 1, 1) := dk_27 (dk_at dksX0_leaves_2 6 rfl rfl)
theorem dX0_leaves_53 : decode cX0_leaves 53 = .ok (.ireturn, 1) := dk_172 (dk_at dksX0_leaves_2 7 rfl rfl)
abbrev cX0_day : ByteArray := prog_1_method_71_code
def yX0_day : MethodName := ⟨RX0, "day", "(IIIII)I"⟩
def dkwX0_day_3 : List UInt8 := [21, 5, 183, 1, 100, 21, 6, 182, 1, 90, 172]
abbrev dktX0_day_3 : List UInt8 := dkwX0_day_3 ++ []
def dkwX0_day_2 : List UInt8 := [54, 6, 42, 187, 1, 98, 89, 42, 27, 28, 29, 21, 6, 153, 0, 10, 5, 21, 4, 104, 167, 0, 4, 3]
abbrev dktX0_day_2 : List UInt8 := dkwX0_day_2 ++ dktX0_day_3
def dkwX0_day_1 : List UInt8 := [154, 0, 18, 21, 5, 133, 20, 0, 165, 20, 0, 167, 184, 0, 52, 153, 0, 7, 4, 167, 0, 4, 3]
abbrev dktX0_day_1 : List UInt8 := dkwX0_day_1 ++ dktX0_day_2
def dkwX0_day_0 : List UInt8 := [21, 4, 133, 9, 20, 1, 94, 184, 0, 52, 153, 0, 35, 21, 5, 133, 9, 20, 1, 96, 184, 0, 52]
abbrev dktX0_day_0 : List UInt8 := dkwX0_day_0 ++ dktX0_day_1
theorem dksX0_day_0 : cX0_day.data.toList.drop 0 = dktX0_day_0 := by decide +kernel
theorem dksX0_day_1 : cX0_day.data.toList.drop 23 = dktX0_day_1 := dk_seg dksX0_day_0 23 rfl rfl
theorem dksX0_day_2 : cX0_day.data.toList.drop 46 = dktX0_day_2 := dk_seg dksX0_day_1 23 rfl rfl
theorem dksX0_day_3 : cX0_day.data.toList.drop 70 = dktX0_day_3 := dk_seg dksX0_day_2 24 rfl rfl
theorem dX0_day_0 : decode cX0_day 0 = .ok (.iload 4, 2) := dk_21 4 (dk_at dksX0_day_0 0 rfl rfl)
theorem dX0_day_2 : decode cX0_day 2 = .ok (.i2l, 1) := dk_133 (dk_at dksX0_day_0 2 rfl rfl)
theorem dX0_day_3 : decode cX0_day 3 = .ok (.lconst 0, 1) := dk_9 (dk_at dksX0_day_0 3 rfl rfl)
theorem dX0_day_4 : decode cX0_day 4 = .ok (.ldc2_w 350, 3) := dk_20 1 94 (dk_at dksX0_day_0 4 rfl rfl)
theorem dX0_day_7 : decode cX0_day 7 = .ok (.invokestatic 52, 3) := dk_184 0 52 (dk_at dksX0_day_0 7 rfl rfl)
theorem dX0_day_10 : decode cX0_day 10 = .ok (.ifCond .eq 35, 3) := dk_153 0 35 (dk_at dksX0_day_0 10 rfl rfl)
theorem dX0_day_13 : decode cX0_day 13 = .ok (.iload 5, 2) := dk_21 5 (dk_at dksX0_day_0 13 rfl rfl)
theorem dX0_day_15 : decode cX0_day 15 = .ok (.i2l, 1) := dk_133 (dk_at dksX0_day_0 15 rfl rfl)
theorem dX0_day_16 : decode cX0_day 16 = .ok (.lconst 0, 1) := dk_9 (dk_at dksX0_day_0 16 rfl rfl)
theorem dX0_day_17 : decode cX0_day 17 = .ok (.ldc2_w 352, 3) := dk_20 1 96 (dk_at dksX0_day_0 17 rfl rfl)
theorem dX0_day_20 : decode cX0_day 20 = .ok (.invokestatic 52, 3) := dk_184 0 52 (dk_at dksX0_day_0 20 rfl rfl)
theorem dX0_day_23 : decode cX0_day 23 = .ok (.ifCond .ne 18, 3) := dk_154 0 18 (dk_at dksX0_day_1 0 rfl rfl)
theorem dX0_day_26 : decode cX0_day 26 = .ok (.iload 5, 2) := dk_21 5 (dk_at dksX0_day_1 3 rfl rfl)
theorem dX0_day_28 : decode cX0_day 28 = .ok (.i2l, 1) := dk_133 (dk_at dksX0_day_1 5 rfl rfl)
theorem dX0_day_29 : decode cX0_day 29 = .ok (.ldc2_w 165, 3) := dk_20 0 165 (dk_at dksX0_day_1 6 rfl rfl)
theorem dX0_day_32 : decode cX0_day 32 = .ok (.ldc2_w 167, 3) := dk_20 0 167 (dk_at dksX0_day_1 9 rfl rfl)
theorem dX0_day_35 : decode cX0_day 35 = .ok (.invokestatic 52, 3) := dk_184 0 52 (dk_at dksX0_day_1 12 rfl rfl)
theorem dX0_day_38 : decode cX0_day 38 = .ok (.ifCond .eq 7, 3) := dk_153 0 7 (dk_at dksX0_day_1 15 rfl rfl)
theorem dX0_day_41 : decode cX0_day 41 = .ok (.iconst 1, 1) := dk_4 (dk_at dksX0_day_1 18 rfl rfl)
theorem dX0_day_42 : decode cX0_day 42 = .ok (.goto 4, 3) := dk_167 0 4 (dk_at dksX0_day_1 19 rfl rfl)
theorem dX0_day_45 : decode cX0_day 45 = .ok (.iconst 0, 1) := dk_3 (dk_at dksX0_day_1 22 rfl rfl)
theorem dX0_day_46 : decode cX0_day 46 = .ok (.istore 6, 2) := dk_54 6 (dk_at dksX0_day_2 0 rfl rfl)
theorem dX0_day_48 : decode cX0_day 48 = .ok (.aload_n 0, 1) := dk_42 (dk_at dksX0_day_2 2 rfl rfl)
theorem dX0_day_49 : decode cX0_day 49 = .ok (.new 354, 3) := dk_187 1 98 (dk_at dksX0_day_2 3 rfl rfl)
theorem dX0_day_52 : decode cX0_day 52 = .ok (.dup, 1) := dk_89 (dk_at dksX0_day_2 6 rfl rfl)
theorem dX0_day_53 : decode cX0_day 53 = .ok (.aload_n 0, 1) := dk_42 (dk_at dksX0_day_2 7 rfl rfl)
theorem dX0_day_54 : decode cX0_day 54 = .ok (.iload_n 1, 1) := dk_27 (dk_at dksX0_day_2 8 rfl rfl)
theorem dX0_day_55 : decode cX0_day 55 = .ok (.iload_n 2, 1) := dk_28 (dk_at dksX0_day_2 9 rfl rfl)
theorem dX0_day_56 : decode cX0_day 56 = .ok (.iload_n 3, 1) := dk_29 (dk_at dksX0_day_2 10 rfl rfl)
theorem dX0_day_57 : decode cX0_day 57 = .ok (.iload 6, 2) := dk_21 6 (dk_at dksX0_day_2 11 rfl rfl)
theorem dX0_day_59 : decode cX0_day 59 = .ok (.ifCond .eq 10, 3) := dk_153 0 10 (dk_at dksX0_day_2 13 rfl rfl)
theorem dX0_day_62 : decode cX0_day 62 = .ok (.iconst 2, 1) := dk_5 (dk_at dksX0_day_2 16 rfl rfl)
theorem dX0_day_63 : decode cX0_day 63 = .ok (.iload 4, 2) := dk_21 4 (dk_at dksX0_day_2 17 rfl rfl)
theorem dX0_day_65 : decode cX0_day 65 = .ok (.imul, 1) := dk_104 (dk_at dksX0_day_2 19 rfl rfl)
theorem dX0_day_66 : decode cX0_day 66 = .ok (.goto 4, 3) := dk_167 0 4 (dk_at dksX0_day_2 20 rfl rfl)
theorem dX0_day_69 : decode cX0_day 69 = .ok (.iconst 0, 1) := dk_3 (dk_at dksX0_day_2 23 rfl rfl)
theorem dX0_day_70 : decode cX0_day 70 = .ok (.iload 5, 2) := dk_21 5 (dk_at dksX0_day_3 0 rfl rfl)
theorem dX0_day_72 : decode cX0_day 72 = .ok (.invokespecial 356, 3) := dk_183 1 100 (dk_at dksX0_day_3 2 rfl rfl)
theorem dX0_day_75 : decode cX0_day 75 = .ok (.iload 6, 2) := dk_21 6 (dk_at dksX0_day_3 5 rfl rfl)
theorem dX0_day_77 : decode cX0_day 77 = .ok (.invokevirtual 346, 3) := dk_182 1 90 (dk_at dksX0_day_3 7 rfl rfl)
theorem dX0_day_80 : decode cX0_day 80 = .ok (.ireturn, 1) := dk_172 (dk_at dksX0_day_3 10 rfl rfl)
abbrev cX0_copy : ByteArray := prog_1_method_72_code
def yX0_copy : MethodName := ⟨RX0, "copy", "(IIIII)I"⟩
def dkwX0_copy_1 : List UInt8 := [187, 1, 103, 89, 42, 27, 28, 29, 21, 4, 21, 5, 183, 1, 105, 182, 1, 106, 172]
abbrev dktX0_copy_1 : List UInt8 := dkwX0_copy_1 ++ []
def dkwX0_copy_0 : List UInt8 := [27, 184, 1, 22, 154, 0, 10, 29, 184, 1, 22, 153, 0, 11, 42, 2, 182, 1, 25, 167, 0, 21]
abbrev dktX0_copy_0 : List UInt8 := dkwX0_copy_0 ++ dktX0_copy_1
theorem dksX0_copy_0 : cX0_copy.data.toList.drop 0 = dktX0_copy_0 := by decide +kernel
theorem dksX0_copy_1 : cX0_copy.data.toList.drop 22 = dktX0_copy_1 := dk_seg dksX0_copy_0 22 rfl rfl
theorem dX0_copy_0 : decode cX0_copy 0 = .ok (.iload_n 1, 1) := dk_27 (dk_at dksX0_copy_0 0 rfl rfl)
theorem dX0_copy_1 : decode cX0_copy 1 = .ok (.invokestatic 278, 3) := dk_184 1 22 (dk_at dksX0_copy_0 1 rfl rfl)
theorem dX0_copy_4 : decode cX0_copy 4 = .ok (.ifCond .ne 10, 3) := dk_154 0 10 (dk_at dksX0_copy_0 4 rfl rfl)
theorem dX0_copy_7 : decode cX0_copy 7 = .ok (.iload_n 3, 1) := dk_29 (dk_at dksX0_copy_0 7 rfl rfl)
theorem dX0_copy_8 : decode cX0_copy 8 = .ok (.invokestatic 278, 3) := dk_184 1 22 (dk_at dksX0_copy_0 8 rfl rfl)
theorem dX0_copy_11 : decode cX0_copy 11 = .ok (.ifCond .eq 11, 3) := dk_153 0 11 (dk_at dksX0_copy_0 11 rfl rfl)
theorem dX0_copy_14 : decode cX0_copy 14 = .ok (.aload_n 0, 1) := dk_42 (dk_at dksX0_copy_0 14 rfl rfl)
theorem dX0_copy_15 : decode cX0_copy 15 = .ok (.iconst (-1), 1) := dk_2 (dk_at dksX0_copy_0 15 rfl rfl)
theorem dX0_copy_16 : decode cX0_copy 16 = .ok (.invokevirtual 281, 3) := dk_182 1 25 (dk_at dksX0_copy_0 16 rfl rfl)
theorem dX0_copy_19 : decode cX0_copy 19 = .ok (.goto 21, 3) := dk_167 0 21 (dk_at dksX0_copy_0 19 rfl rfl)
theorem dX0_copy_22 : decode cX0_copy 22 = .ok (.new 359, 3) := dk_187 1 103 (dk_at dksX0_copy_1 0 rfl rfl)
theorem dX0_copy_25 : decode cX0_copy 25 = .ok (.dup, 1) := dk_89 (dk_at dksX0_copy_1 3 rfl rfl)
theorem dX0_copy_26 : decode cX0_copy 26 = .ok (.aload_n 0, 1) := dk_42 (dk_at dksX0_copy_1 4 rfl rfl)
theorem dX0_copy_27 : decode cX0_copy 27 = .ok (.iload_n 1, 1) := dk_27 (dk_at dksX0_copy_1 5 rfl rfl)
theorem dX0_copy_28 : decode cX0_copy 28 = .ok (.iload_n 2, 1) := dk_28 (dk_at dksX0_copy_1 6 rfl rfl)
theorem dX0_copy_29 : decode cX0_copy 29 = .ok (.iload_n 3, 1) := dk_29 (dk_at dksX0_copy_1 7 rfl rfl)
theorem dX0_copy_30 : decode cX0_copy 30 = .ok (.iload 4, 2) := dk_21 4 (dk_at dksX0_copy_1 8 rfl rfl)
theorem dX0_copy_32 : decode cX0_copy 32 = .ok (.iload 5, 2) := dk_21 5 (dk_at dksX0_copy_1 10 rfl rfl)
theorem dX0_copy_34 : decode cX0_copy 34 = .ok (.invokespecial 361, 3) := dk_183 1 105 (dk_at dksX0_copy_1 12 rfl rfl)
theorem dX0_copy_37 : decode cX0_copy 37 = .ok (.invokevirtual 362, 3) := dk_182 1 106 (dk_at dksX0_copy_1 15 rfl rfl)
theorem dX0_copy_40 : decode cX0_copy 40 = .ok (.ireturn, 1) := dk_172 (dk_at dksX0_copy_1 18 rfl rfl)
abbrev cX0_tell : ByteArray := prog_1_method_73_code
def yX0_tell : MethodName := ⟨RX0, "tell", "(I)I"⟩
def dkwX0_tell_1 : List UInt8 := [192, 0, 31, 182, 1, 107, 172]
abbrev dktX0_tell_1 : List UInt8 := dkwX0_tell_1 ++ []
def dkwX0_tell_0 : List UInt8 := [42, 27, 182, 0, 56, 153, 0, 7, 2, 167, 0, 19, 42, 180, 0, 12, 27, 185, 0, 70, 2, 0]
abbrev dktX0_tell_0 : List UInt8 := dkwX0_tell_0 ++ dktX0_tell_1
theorem dksX0_tell_0 : cX0_tell.data.toList.drop 0 = dktX0_tell_0 := by decide +kernel
theorem dksX0_tell_1 : cX0_tell.data.toList.drop 22 = dktX0_tell_1 := dk_seg dksX0_tell_0 22 rfl rfl
theorem dX0_tell_0 : decode cX0_tell 0 = .ok (.aload_n 0, 1) := dk_42 (dk_at dksX0_tell_0 0 rfl rfl)
theorem dX0_tell_1 : decode cX0_tell 1 = .ok (.iload_n 1, 1) := dk_27 (dk_at dksX0_tell_0 1 rfl rfl)
theorem dX0_tell_2 : decode cX0_tell 2 = .ok (.invokevirtual 56, 3) := dk_182 0 56 (dk_at dksX0_tell_0 2 rfl rfl)
theorem dX0_tell_5 : decode cX0_tell 5 = .ok (.ifCond .eq 7, 3) := dk_153 0 7 (dk_at dksX0_tell_0 5 rfl rfl)
theorem dX0_tell_8 : decode cX0_tell 8 = .ok (.iconst (-1), 1) := dk_2 (dk_at dksX0_tell_0 8 rfl rfl)
theorem dX0_tell_9 : decode cX0_tell 9 = .ok (.goto 19, 3) := dk_167 0 19 (dk_at dksX0_tell_0 9 rfl rfl)
theorem dX0_tell_12 : decode cX0_tell 12 = .ok (.aload_n 0, 1) := dk_42 (dk_at dksX0_tell_0 12 rfl rfl)
theorem dX0_tell_13 : decode cX0_tell 13 = .ok (.getfield 12, 3) := dk_180 0 12 (dk_at dksX0_tell_0 13 rfl rfl)
theorem dX0_tell_16 : decode cX0_tell 16 = .ok (.iload_n 1, 1) := dk_27 (dk_at dksX0_tell_0 16 rfl rfl)
theorem dX0_tell_17 : decode cX0_tell 17 = .ok (.invokeinterface 70 2, 5) := by decide +kernel
theorem dX0_tell_22 : decode cX0_tell 22 = .ok (.checkcast 31, 3) := dk_192 0 31 (dk_at dksX0_tell_1 0 rfl rfl)
theorem dX0_tell_25 : decode cX0_tell 25 = .ok (.invokevirtual 363, 3) := dk_182 1 107 (dk_at dksX0_tell_1 3 rfl rfl)
theorem dX0_tell_28 : decode cX0_tell 28 = .ok (.ireturn, 1) := dk_172 (dk_at dksX0_tell_1 6 rfl rfl)
abbrev cX0_knock : ByteArray := prog_1_method_74_code
def yX0_knock : MethodName := ⟨RX0, "knock", "(I)I"⟩
def dkwX0_knock_1 : List UInt8 := [44, 185, 1, 112, 1, 0, 172]
abbrev dktX0_knock_1 : List UInt8 := dkwX0_knock_1 ++ []
def dkwX0_knock_0 : List UInt8 := [42, 27, 182, 0, 56, 153, 0, 5, 2, 172, 42, 180, 0, 12, 27, 185, 0, 70, 2, 0, 192, 1, 110, 77]
abbrev dktX0_knock_0 : List UInt8 := dkwX0_knock_0 ++ dktX0_knock_1
theorem dksX0_knock_0 : cX0_knock.data.toList.drop 0 = dktX0_knock_0 := by decide +kernel
theorem dksX0_knock_1 : cX0_knock.data.toList.drop 24 = dktX0_knock_1 := dk_seg dksX0_knock_0 24 rfl rfl
theorem dX0_knock_0 : decode cX0_knock 0 = .ok (.aload_n 0, 1) := dk_42 (dk_at dksX0_knock_0 0 rfl rfl)
theorem dX0_knock_1 : decode cX0_knock 1 = .ok (.iload_n 1, 1) := dk_27 (dk_at dksX0_knock_0 1 rfl rfl)
theorem dX0_knock_2 : decode cX0_knock 2 = .ok (.invokevirtual 56, 3) := dk_182 0 56 (dk_at dksX0_knock_0 2 rfl rfl)
theorem dX0_knock_5 : decode cX0_knock 5 = .ok (.ifCond .eq 5, 3) := dk_153 0 5 (dk_at dksX0_knock_0 5 rfl rfl)
theorem dX0_knock_8 : decode cX0_knock 8 = .ok (.iconst (-1), 1) := dk_2 (dk_at dksX0_knock_0 8 rfl rfl)
theorem dX0_knock_9 : decode cX0_knock 9 = .ok (.ireturn, 1) := dk_172 (dk_at dksX0_knock_0 9 rfl rfl)
theorem dX0_knock_10 : decode cX0_knock 10 = .ok (.aload_n 0, 1) := dk_42 (dk_at dksX0_knock_0 10 rfl rfl)
theorem dX0_knock_11 : decode cX0_knock 11 = .ok (.getfield 12, 3) := dk_180 0 12 (dk_at dksX0_knock_0 11 rfl rfl)
theorem dX0_knock_14 : decode cX0_knock 14 = .ok (.iload_n 1, 1) := dk_27 (dk_at dksX0_knock_0 14 rfl rfl)
theorem dX0_knock_15 : decode cX0_knock 15 = .ok (.invokeinterface 70 2, 5) := by decide +kernel
theorem dX0_knock_20 : decode cX0_knock 20 = .ok (.checkcast 366, 3) := dk_192 1 110 (dk_at dksX0_knock_0 20 rfl rfl)
theorem dX0_knock_23 : decode cX0_knock 23 = .ok (.astore_n 2, 1) := dk_77 (dk_at dksX0_knock_0 23 rfl rfl)
theorem dX0_knock_24 : decode cX0_knock 24 = .ok (.aload_n 2, 1) := dk_44 (dk_at dksX0_knock_1 0 rfl rfl)
theorem dX0_knock_25 : decode cX0_knock 25 = .ok (.invokeinterface 368 1, 5) := by decide +kernel
theorem dX0_knock_30 : decode cX0_knock 30 = .ok (.ireturn, 1) := dk_172 (dk_at dksX0_knock_1 6 rfl rfl)
abbrev cX0_as : ByteArray := prog_1_method_75_code
def yX0_as : MethodName := ⟨RX0, "as", "(II)I"⟩
def dkwX0_as_2 : List UInt8 := [183, 1, 117, 182, 1, 120, 167, 0, 9, 42, 16, 254, 182, 1, 25, 172]
abbrev dktX0_as_2 : List UInt8 := dkwX0_as_2 ++ []
def dkwX0_as_1 : List UInt8 := [153, 0, 31, 187, 1, 115, 89, 42, 42, 180, 0, 12, 27, 185, 0, 70, 2, 0, 192, 0, 31, 28]
abbrev dktX0_as_1 : List UInt8 := dkwX0_as_1 ++ dktX0_as_2
def dkwX0_as_0 : List UInt8 := [42, 27, 182, 0, 56, 153, 0, 9, 42, 2, 182, 1, 25, 172, 28, 133, 9, 20, 0, 216, 184, 0, 52]
abbrev dktX0_as_0 : List UInt8 := dkwX0_as_0 ++ dktX0_as_1
theorem dksX0_as_0 : cX0_as.data.toList.drop 0 = dktX0_as_0 := by decide +kernel
theorem dksX0_as_1 : cX0_as.data.toList.drop 23 = dktX0_as_1 := dk_seg dksX0_as_0 23 rfl rfl
theorem dksX0_as_2 : cX0_as.data.toList.drop 45 = dktX0_as_2 := dk_seg dksX0_as_1 22 rfl rfl
theorem dX0_as_0 : decode cX0_as 0 = .ok (.aload_n 0, 1) := dk_42 (dk_at dksX0_as_0 0 rfl rfl)
theorem dX0_as_1 : decode cX0_as 1 = .ok (.iload_n 1, 1) := dk_27 (dk_at dksX0_as_0 1 rfl rfl)
theorem dX0_as_2 : decode cX0_as 2 = .ok (.invokevirtual 56, 3) := dk_182 0 56 (dk_at dksX0_as_0 2 rfl rfl)
theorem dX0_as_5 : decode cX0_as 5 = .ok (.ifCond .eq 9, 3) := dk_153 0 9 (dk_at dksX0_as_0 5 rfl rfl)
theorem dX0_as_8 : decode cX0_as 8 = .ok (.aload_n 0, 1) := dk_42 (dk_at dksX0_as_0 8 rfl rfl)
theorem dX0_as_9 : decode cX0_as 9 = .ok (.iconst (-1), 1) := dk_2 (dk_at dksX0_as_0 9 rfl rfl)
theorem dX0_as_10 : decode cX0_as 10 = .ok (.invokevirtual 281, 3) := dk_182 1 25 (dk_at dksX0_as_0 10 rfl rfl)
theorem dX0_as_13 : decode cX0_as 13 = .ok (.ireturn, 1) := dk_172 (dk_at dksX0_as_0 13 rfl rfl)
theorem dX0_as_14 : decode cX0_as 14 = .ok (.iload_n 2, 1) := dk_28 (dk_at dksX0_as_0 14 rfl rfl)
theorem dX0_as_15 : decode cX0_as 15 = .ok (.i2l, 1) := dk_133 (dk_at dksX0_as_0 15 rfl rfl)
theorem dX0_as_16 : decode cX0_as 16 = .ok (.lconst 0, 1) := dk_9 (dk_at dksX0_as_0 16 rfl rfl)
theorem dX0_as_17 : decode cX0_as 17 = .ok (.ldc2_w 216, 3) := dk_20 0 216 (dk_at dksX0_as_0 17 rfl rfl)
theorem dX0_as_20 : decode cX0_as 20 = .ok (.invokestatic 52, 3) := dk_184 0 52 (dk_at dksX0_as_0 20 rfl rfl)
theorem dX0_as_23 : decode cX0_as 23 = .ok (.ifCond .eq 31, 3) := dk_153 0 31 (dk_at dksX0_as_1 0 rfl rfl)
theorem dX0_as_26 : decode cX0_as 26 = .ok (.new 371, 3) := dk_187 1 115 (dk_at dksX0_as_1 3 rfl rfl)
theorem dX0_as_29 : decode cX0_as 29 = .ok (.dup, 1) := dk_89 (dk_at dksX0_as_1 6 rfl rfl)
theorem dX0_as_30 : decode cX0_as 30 = .ok (.aload_n 0, 1) := dk_42 (dk_at dksX0_as_1 7 rfl rfl)
theorem dX0_as_31 : decode cX0_as 31 = .ok (.aload_n 0, 1) := dk_42 (dk_at dksX0_as_1 8 rfl rfl)
theorem dX0_as_32 : decode cX0_as 32 = .ok (.getfield 12, 3) := dk_180 0 12 (dk_at dksX0_as_1 9 rfl rfl)
theorem dX0_as_35 : decode cX0_as 35 = .ok (.iload_n 1, 1) := dk_27 (dk_at dksX0_as_1 12 rfl rfl)
theorem dX0_as_36 : decode cX0_as 36 = .ok (.invokeinterface 70 2, 5) := by decide +kernel
theorem dX0_as_41 : decode cX0_as 41 = .ok (.checkcast 31, 3) := dk_192 0 31 (dk_at dksX0_as_1 18 rfl rfl)
theorem dX0_as_44 : decode cX0_as 44 = .ok (.iload_n 2, 1) := dk_28 (dk_at dksX0_as_1 21 rfl rfl)
theorem dX0_as_45 : decode cX0_as 45 = .ok (.invokespecial 373, 3) := dk_183 1 117 (dk_at dksX0_as_2 0 rfl rfl)
theorem dX0_as_48 : decode cX0_as 48 = .ok (.invokevirtual 376, 3) := dk_182 1 120 (dk_at dksX0_as_2 3 rfl rfl)
theorem dX0_as_51 : decode cX0_as 51 = .ok (.goto 9, 3) := dk_167 0 9 (dk_at dksX0_as_2 6 rfl rfl)
theorem dX0_as_54 : decode cX0_as 54 = .ok (.aload_n 0, 1) := dk_42 (dk_at dksX0_as_2 9 rfl rfl)
theorem dX0_as_55 : decode cX0_as 55 = .ok (.bipush (-2), 2) := dk_16 254 (dk_at dksX0_as_2 10 rfl rfl)
theorem dX0_as_57 : decode cX0_as 57 = .ok (.invokevirtual 281, 3) := dk_182 1 25 (dk_at dksX0_as_2 12 rfl rfl)
theorem dX0_as_60 : decode cX0_as 60 = .ok (.ireturn, 1) := dk_172 (dk_at dksX0_as_2 15 rfl rfl)
abbrev cX0_trace : ByteArray := prog_1_method_76_code
def yX0_trace : MethodName := ⟨RX0, "trace", "()I"⟩
theorem dX0_trace_0 : decode cX0_trace 0 = .ok (.aload_n 0, 1) := by decide +kernel
theorem dX0_trace_1 : decode cX0_trace 1 = .ok (.getfield 377, 3) := by decide +kernel
theorem dX0_trace_4 : decode cX0_trace 4 = .ok (.ireturn, 1) := by decide +kernel
abbrev cX0_fault : ByteArray := prog_1_method_77_code
def yX0_fault : MethodName := ⟨RX0, "fault", "()I"⟩
theorem dX0_fault_0 : decode cX0_fault 0 = .ok (.aload_n 0, 1) := by decide +kernel
theorem dX0_fault_1 : decode cX0_fault 1 = .ok (.getfield 264, 3) := by decide +kernel
theorem dX0_fault_4 : decode cX0_fault 4 = .ok (.ireturn, 1) := by decide +kernel
abbrev cX0_many : ByteArray := prog_1_method_78_code
def yX0_many : MethodName := ⟨RX0, "many", "(I)I"⟩
def dkwX0_many_3 : List UInt8 := [180, 0, 22, 185, 0, 48, 1, 0, 172, 16, 254, 172]
abbrev dktX0_many_3 : List UInt8 := dkwX0_many_3 ++ []
def dkwX0_many_2 : List UInt8 := [42, 180, 0, 12, 185, 0, 48, 1, 0, 172, 42, 180, 0, 114, 172, 42, 182, 0, 182, 184, 0, 136, 172, 42]
abbrev dktX0_many_2 : List UInt8 := dkwX0_many_2 ++ dktX0_many_3
def dkwX0_many_1 : List UInt8 := [170, 0, 0, 0, 0, 0, 64, 0, 0, 0, 0, 0, 0, 0, 3, 0, 0, 0, 31, 0, 0, 0, 41, 0, 0, 0, 46, 0, 0, 0, 54]
abbrev dktX0_many_1 : List UInt8 := dkwX0_many_1 ++ dktX0_many_2
def dkwX0_many_0 : List UInt8 := [27]
abbrev dktX0_many_0 : List UInt8 := dkwX0_many_0 ++ dktX0_many_1
theorem dksX0_many_0 : cX0_many.data.toList.drop 0 = dktX0_many_0 := by decide +kernel
theorem dksX0_many_1 : cX0_many.data.toList.drop 1 = dktX0_many_1 := dk_seg dksX0_many_0 1 rfl rfl
theorem dksX0_many_2 : cX0_many.data.toList.drop 32 = dktX0_many_2 := dk_seg dksX0_many_1 31 rfl rfl
theorem dksX0_many_3 : cX0_many.data.toList.drop 56 = dktX0_many_3 := dk_seg dksX0_many_2 24 rfl rfl
theorem dX0_many_0 : decode cX0_many 0 = .ok (.iload_n 1, 1) := dk_27 (dk_at dksX0_many_0 0 rfl rfl)
theorem dX0_many_1 : decode cX0_many 1 = .ok (.tableswitch 64 0 3 #[31, 41, 46, 54], 31) := by decide +kernel
theorem dX0_many_32 : decode cX0_many 32 = .ok (.aload_n 0, 1) := dk_42 (dk_at dksX0_many_2 0 rfl rfl)
theorem dX0_many_33 : decode cX0_many 33 = .ok (.getfield 12, 3) := dk_180 0 12 (dk_at dksX0_many_2 1 rfl rfl)
theorem dX0_many_36 : decode cX0_many 36 = .ok (.invokeinterface 48 1, 5) := by decide +kernel
theorem dX0_many_41 : decode cX0_many 41 = .ok (.ireturn, 1) := dk_172 (dk_at dksX0_many_2 9 rfl rfl)
theorem dX0_many_42 : decode cX0_many 42 = .ok (.aload_n 0, 1) := dk_42 (dk_at dksX0_many_2 10 rfl rfl)
theorem dX0_many_43 : decode cX0_many 43 = .ok (.getfield 114, 3) := dk_180 0 114 (dk_at dksX0_many_2 11 rfl rfl)
theorem dX0_many_46 : decode cX0_many 46 = .ok (.ireturn, 1) := dk_172 (dk_at dksX0_many_2 14 rfl rfl)
theorem dX0_many_47 : decode cX0_many 47 = .ok (.aload_n 0, 1) := dk_42 (dk_at dksX0_many_2 15 rfl rfl)
theorem dX0_many_48 : decode cX0_many 48 = .ok (.invokevirtual 182, 3) := dk_182 0 182 (dk_at dksX0_many_2 16 rfl rfl)
theorem dX0_many_51 : decode cX0_many 51 = .ok (.invokestatic 136, 3) := dk_184 0 136 (dk_at dksX0_many_2 19 rfl rfl)
theorem dX0_many_54 : decode cX0_many 54 = .ok (.ireturn, 1) := dk_172 (dk_at dksX0_many_2 22 rfl rfl)
theorem dX0_many_55 : decode cX0_many 55 = .ok (.aload_n 0, 1) := dk_42 (dk_at dksX0_many_2 23 rfl rfl)
theorem dX0_many_56 : decode cX0_many 56 = .ok (.getfield 22, 3) := dk_180 0 22 (dk_at dksX0_many_3 0 rfl rfl)
theorem dX0_many_59 : decode cX0_many 59 = .ok (.invokeinterface 48 1, 5) := by decide +kernel
theorem dX0_many_64 : decode cX0_many 64 = .ok (.ireturn, 1) := dk_172 (dk_at dksX0_many_3 8 rfl rfl)
theorem dX0_many_65 : decode cX0_many 65 = .ok (.bipush (-2), 2) := dk_16 254 (dk_at dksX0_many_3 9 rfl rfl)
theorem dX0_many_67 : decode cX0_many 67 = .ok (.ireturn, 1) := dk_172 (dk_at dksX0_many_3 11 rfl rfl)
theorem q70 : (Jvm.Cond.initialized "VineRows") ∈ lw_all := lw_g (lw_at lw_m1 1 rfl) rfl
theorem q104 : (Jvm.Cond.instantiable "VineRows" (7 : Nat)) ∈ lw_all := lw_g (lw_at lw_m1 35 rfl) rfl
theorem q106 : (Jvm.Cond.instanceMethod ({ cls := "VineRows", name := "<init>", desc := "()V" } : Jvm.MethodName)) ∈ lw_all := lw_g (lw_at lw_m1 37 rfl) rfl
theorem q107 : (Jvm.Cond.code ({ cls := "VineRows", name := "<init>", desc := "()V" } : Jvm.MethodName) prog_1_method_3_code (1 : Nat) (Option.none : Option Jvm.ClassFile.FieldType)) ∈ lw_all := lw_g (lw_at lw_m1 38 rfl) rfl
theorem q108 : (Jvm.Cond.methodLink "VineRows" (3 : Nat) ({ cls := "java/lang/Object", name := "<init>", desc := "()V" } : Jvm.MethodName)) ∈ lw_all := lw_g (lw_at lw_m1 39 rfl) rfl
theorem q111 : (Jvm.Cond.classLink "VineRows" (9 : Nat) "java/util/ArrayList") ∈ lw_all := lw_g (lw_at lw_m1 42 rfl) rfl
theorem q113 : (Jvm.Cond.methodLink "VineRows" (11 : Nat) ({ cls := "java/util/ArrayList", name := "<init>", desc := "()V" } : Jvm.MethodName)) ∈ lw_all := lw_g (lw_at lw_m1 44 rfl) rfl
theorem q137 : (Jvm.Cond.classLink "VineRows" (25 : Nat) "VineRows$Sheet") ∈ lw_all := lw_g (lw_at lw_m1 68 rfl) rfl
theorem q140 : (Jvm.Cond.fieldLink "VineRows" (377 : Nat) "VineRows" "trace" "I") ∈ lw_all := lw_g (lw_at lw_m1 71 rfl) rfl
theorem q141 : (Jvm.Cond.fieldLink "VineRows" (114 : Nat) "VineRows" "grafts" "I") ∈ lw_all := lw_g (lw_at lw_m1 72 rfl) rfl
theorem q142 : (Jvm.Cond.fieldLink "VineRows" (12 : Nat) "VineRows" "posts" "Ljava/util/List;") ∈ lw_all := lw_g (lw_at lw_m1 73 rfl) rfl
theorem q143 : (Jvm.Cond.fieldLink "VineRows" (18 : Nat) "VineRows" "rowNow" "[I") ∈ lw_all := lw_g (lw_at lw_m1 74 rfl) rfl
theorem q144 : (Jvm.Cond.fieldLink "VineRows" (22 : Nat) "VineRows" "readings" "Ljava/util/List;") ∈ lw_all := lw_g (lw_at lw_m1 75 rfl) rfl
theorem q146 : (Jvm.Cond.fieldLink "VineRows" (264 : Nat) "VineRows" "fault" "I") ∈ lw_all := lw_g (lw_at lw_m1 77 rfl) rfl
theorem q147 : (Jvm.Cond.fieldLink "VineRows" (27 : Nat) "VineRows" "sheets" "[LVineRows$Sheet;") ∈ lw_all := lw_g (lw_at lw_m1 78 rfl) rfl
theorem q148 : (Jvm.Cond.lays "VineRows" "VineRows" "trace" "I") ∈ lw_all := lw_g (lw_at lw_m1 79 rfl) rfl
theorem q149 : (Jvm.Cond.soleField "VineRows" "trace") ∈ lw_all := lw_g (lw_at lw_m1 80 rfl) rfl
theorem q150 : (Jvm.Cond.lays "VineRows" "VineRows" "grafts" "I") ∈ lw_all := lw_g (lw_at lw_m1 81 rfl) rfl
theorem q151 : (Jvm.Cond.soleField "VineRows" "grafts") ∈ lw_all := lw_g (lw_at lw_m1 82 rfl) rfl
theorem q152 : (Jvm.Cond.laysFinal "VineRows" "VineRows" "posts" "Ljava/util/List;") ∈ lw_all := lw_g (lw_at lw_m1 83 rfl) rfl
theorem q153 : (Jvm.Cond.soleField "VineRows" "posts") ∈ lw_all := lw_g (lw_at lw_m1 84 rfl) rfl
theorem q154 : (Jvm.Cond.laysFinal "VineRows" "VineRows" "rowNow" "[I") ∈ lw_all := lw_g (lw_at lw_m1 85 rfl) rfl
theorem q155 : (Jvm.Cond.soleField "VineRows" "rowNow") ∈ lw_all := lw_g (lw_at lw_m1 86 rfl) rfl
theorem q156 : (Jvm.Cond.laysFinal "VineRows" "VineRows" "readings" "Ljava/util/List;") ∈ lw_all := lw_g (lw_at lw_m1 87 rfl) rfl
theorem q157 : (Jvm.Cond.soleField "VineRows" "readings") ∈ lw_all := lw_g (lw_at lw_m1 88 rfl) rfl
theorem q158 : (Jvm.Cond.lays "VineRows" "VineRows" "fault" "I") ∈ lw_all := lw_g (lw_at lw_m1 89 rfl) rfl
theorem q159 : (Jvm.Cond.soleField "VineRows" "fault") ∈ lw_all := lw_g (lw_at lw_m1 90 rfl) rfl
theorem q160 : (Jvm.Cond.laysFinal "VineRows" "VineRows" "sheets" "[LVineRows$Sheet;") ∈ lw_all := lw_g (lw_at lw_m1 91 rfl) rfl
theorem q161 : (Jvm.Cond.soleField "VineRows" "sheets") ∈ lw_all := lw_g (lw_at lw_m1 92 rfl) rfl
theorem q162 : (Jvm.Cond.superclass "VineRows" "java/lang/Object") ∈ lw_all := lw_g (lw_at lw_m1 93 rfl) rfl
theorem q165 : (Jvm.Cond.instanceMethod ({ cls := "VineRows", name := "ofPost", desc := "(II)I" } : Jvm.MethodName)) ∈ lw_all := lw_g (lw_at lw_m1 96 rfl) rfl
theorem q166 : (Jvm.Cond.selects "VineRows" ({ cls := "VineRows", name := "ofPost", desc := "(II)I" } : Jvm.MethodName) ({ cls := "VineRows", name := "ofPost", desc := "(II)I" } : Jvm.MethodName)) ∈ lw_all := lw_g (lw_at lw_m1 97 rfl) rfl
theorem q167 : (Jvm.Cond.code ({ cls := "VineRows", name := "ofPost", desc := "(II)I" } : Jvm.MethodName) prog_1_method_18_code (4 : Nat) (Option.some Jvm.ClassFile.FieldType.int)) ∈ lw_all := lw_g (lw_at lw_m1 98 rfl) rfl
theorem q168 : (Jvm.Cond.methodLink "VineRows" (56 : Nat) ({ cls := "VineRows", name := "noPost", desc := "(I)Z" } : Jvm.MethodName)) ∈ lw_all := lw_g (lw_at lw_m1 99 rfl) rfl
theorem q169 : (Jvm.Cond.privateMethod ({ cls := "VineRows", name := "noPost", desc := "(I)Z" } : Jvm.MethodName)) ∈ lw_tbl := lw_at lw_m1 100 rfl
theorem q170 : (Jvm.Cond.instanceMethod ({ cls := "VineRows", name := "noPost", desc := "(I)Z" } : Jvm.MethodName)) ∈ lw_all := lw_g (lw_at lw_m1 101 rfl) rfl
theorem q171 : (Jvm.Cond.code ({ cls := "VineRows", name := "noPost", desc := "(I)Z" } : Jvm.MethodName) prog_1_method_6_code (2 : Nat) (Option.some Jvm.ClassFile.FieldType.boolean)) ∈ lw_all := lw_g (lw_at lw_m1 102 rfl) rfl
theorem q172 : (Jvm.Cond.interfaceEntry "VineRows" (48 : Nat)) ∈ lw_tbl := lw_at lw_m1 103 rfl
theorem q173 : (Jvm.Cond.methodLink "VineRows" (48 : Nat) ({ cls := "java/util/List", name := "size", desc := "()I" } : Jvm.MethodName)) ∈ lw_all := lw_g (lw_at lw_m1 104 rfl) rfl
theorem q182 : (Jvm.Cond.methodLink "VineRows" (52 : Nat) ({ cls := "VineRows", name := "in", desc := "(JJJ)Z" } : Jvm.MethodName)) ∈ lw_all := lw_g (lw_at lw_m1 113 rfl) rfl
theorem q183 : (Jvm.Cond.static ({ cls := "VineRows", name := "in", desc := "(JJJ)Z" } : Jvm.MethodName)) ∈ lw_all := lw_g (lw_at lw_m1 114 rfl) rfl
theorem q184 : (Jvm.Cond.code ({ cls := "VineRows", name := "in", desc := "(JJJ)Z" } : Jvm.MethodName) prog_1_method_1_code (6 : Nat) (Option.some Jvm.ClassFile.FieldType.boolean)) ∈ lw_all := lw_g (lw_at lw_m1 115 rfl) rfl
theorem q185 : (Jvm.Cond.interfaceEntry "VineRows" (70 : Nat)) ∈ lw_tbl := lw_at lw_m1 116 rfl
theorem q186 : (Jvm.Cond.methodLink "VineRows" (70 : Nat) ({ cls := "java/util/List", name := "get", desc := "(I)Ljava/lang/Object;" } : Jvm.MethodName)) ∈ lw_all := lw_g (lw_at lw_m1 117 rfl) rfl
theorem q204 : (Jvm.Cond.classLink "VineRows" (31 : Nat) "VineRows$Plain") ∈ lw_all := lw_g (lw_at lw_m1 135 rfl) rfl
theorem q205 : (Jvm.Cond.methodLink "VineRows" (127 : Nat) ({ cls := "VineRows$Plain", name := "kind", desc := "()I" } : Jvm.MethodName)) ∈ lw_all := lw_g (lw_at lw_m1 136 rfl) rfl
theorem q216 : (Jvm.Cond.methodLink "VineRows" (133 : Nat) ({ cls := "VineRows$Plain", name := "worth", desc := "()I" } : Jvm.MethodName)) ∈ lw_all := lw_g (lw_at lw_m1 147 rfl) rfl
theorem q239 : (Jvm.Cond.methodLink "VineRows" (136 : Nat) ({ cls := "java/lang/Integer", name := "bitCount", desc := "(I)I" } : Jvm.MethodName)) ∈ lw_all := lw_g (lw_at lw_m1 170 rfl) rfl
theorem q245 : (Jvm.Cond.methodLink "VineRows" (139 : Nat) ({ cls := "VineRows", name := "farthest", desc := "(I)I" } : Jvm.MethodName)) ∈ lw_all := lw_g (lw_at lw_m1 176 rfl) rfl
theorem q246 : (Jvm.Cond.privateMethod ({ cls := "VineRows", name := "farthest", desc := "(I)I" } : Jvm.MethodName)) ∈ lw_tbl := lw_at lw_m1 177 rfl
theorem q247 : (Jvm.Cond.instanceMethod ({ cls := "VineRows", name := "farthest", desc := "(I)I" } : Jvm.MethodName)) ∈ lw_all := lw_g (lw_at lw_m1 178 rfl) rfl
theorem q248 : (Jvm.Cond.code ({ cls := "VineRows", name := "farthest", desc := "(I)I" } : Jvm.MethodName) prog_1_method_16_code (4 : Nat) (Option.some Jvm.ClassFile.FieldType.int)) ∈ lw_all := lw_g (lw_at lw_m1 179 rfl) rfl
theorem q249 : (Jvm.Cond.methodLink "VineRows" (117 : Nat) ({ cls := "VineRows", name := "farFrom", desc := "(III)I" } : Jvm.MethodName)) ∈ lw_all := lw_g (lw_at lw_m1 180 rfl) rfl
theorem q250 : (Jvm.Cond.privateMethod ({ cls := "VineRows", name := "farFrom", desc := "(III)I" } : Jvm.MethodName)) ∈ lw_tbl := lw_at lw_m1 181 rfl
theorem q251 : (Jvm.Cond.instanceMethod ({ cls := "VineRows", name := "farFrom", desc := "(III)I" } : Jvm.MethodName)) ∈ lw_all := lw_g (lw_at lw_m1 182 rfl) rfl
theorem q252 : (Jvm.Cond.code ({ cls := "VineRows", name := "farFrom", desc := "(III)I" } : Jvm.MethodName) prog_1_method_15_code (7 : Nat) (Option.some Jvm.ClassFile.FieldType.int)) ∈ lw_all := lw_g (lw_at lw_m1 183 rfl) rfl
theorem q253 : (Jvm.Cond.methodLink "VineRows" (78 : Nat) ({ cls := "VineRows", name := "least", desc := "(I)I" } : Jvm.MethodName)) ∈ lw_all := lw_g (lw_at lw_m1 184 rfl) rfl
theorem q254 : (Jvm.Cond.static ({ cls := "VineRows", name := "least", desc := "(I)I" } : Jvm.MethodName)) ∈ lw_all := lw_g (lw_at lw_m1 185 rfl) rfl
theorem q255 : (Jvm.Cond.code ({ cls := "VineRows", name := "least", desc := "(I)I" } : Jvm.MethodName) prog_1_method_11_code (1 : Nat) (Option.some Jvm.ClassFile.FieldType.int)) ∈ lw_all := lw_g (lw_at lw_m1 186 rfl) rfl
theorem q256 : (Jvm.Cond.methodLink "VineRows" (64 : Nat) ({ cls := "java/lang/Integer", name := "numberOfTrailingZeros", desc := "(I)I" } : Jvm.MethodName)) ∈ lw_all := lw_g (lw_at lw_m1 187 rfl) rfl
theorem q260 : (Jvm.Cond.methodLink "VineRows" (121 : Nat) ({ cls := "java/lang/Math", name := "max", desc := "(II)I" } : Jvm.MethodName)) ∈ lw_all := lw_g (lw_at lw_m1 191 rfl) rfl
theorem q264 : (Jvm.Cond.instanceMethod ({ cls := "VineRows", name := "load", desc := "(II)I" } : Jvm.MethodName)) ∈ lw_all := lw_g (lw_at lw_m1 195 rfl) rfl
theorem q265 : (Jvm.Cond.selects "VineRows" ({ cls := "VineRows", name := "load", desc := "(II)I" } : Jvm.MethodName) ({ cls := "VineRows", name := "load", desc := "(II)I" } : Jvm.MethodName)) ∈ lw_all := lw_g (lw_at lw_m1 196 rfl) rfl
theorem q266 : (Jvm.Cond.code ({ cls := "VineRows", name := "load", desc := "(II)I" } : Jvm.MethodName) prog_1_method_19_code (4 : Nat) (Option.some Jvm.ClassFile.FieldType.int)) ∈ lw_all := lw_g (lw_at lw_m1 197 rfl) rfl
theorem q267 : (Jvm.Cond.constantLong "VineRows" (142 : Nat) (9 : Int64)) ∈ lw_all := lw_g (lw_at lw_m1 198 rfl) rfl
theorem q269 : (Jvm.Cond.instanceMethod ({ cls := "VineRows", name := "row", desc := "(I)I" } : Jvm.MethodName)) ∈ lw_all := lw_g (lw_at lw_m1 200 rfl) rfl
theorem q270 : (Jvm.Cond.selects "VineRows" ({ cls := "VineRows", name := "row", desc := "(I)I" } : Jvm.MethodName) ({ cls := "VineRows", name := "row", desc := "(I)I" } : Jvm.MethodName)) ∈ lw_all := lw_g (lw_at lw_m1 201 rfl) rfl
theorem q271 : (Jvm.Cond.code ({ cls := "VineRows", name := "row", desc := "(I)I" } : Jvm.MethodName) prog_1_method_21_code (2 : Nat) (Option.some Jvm.ClassFile.FieldType.int)) ∈ lw_all := lw_g (lw_at lw_m1 202 rfl) rfl
theorem q272 : (Jvm.Cond.constantLong "VineRows" (148 : Nat) (5 : Int64)) ∈ lw_all := lw_g (lw_at lw_m1 203 rfl) rfl
theorem q273 : (Jvm.Cond.methodLink "VineRows" (150 : Nat) ({ cls := "VineRows", name := "noVine", desc := "()Z" } : Jvm.MethodName)) ∈ lw_all := lw_g (lw_at lw_m1 204 rfl) rfl
theorem q274 : (Jvm.Cond.privateMethod ({ cls := "VineRows", name := "noVine", desc := "()Z" } : Jvm.MethodName)) ∈ lw_tbl := lw_at lw_m1 205 rfl
theorem q275 : (Jvm.Cond.instanceMethod ({ cls := "VineRows", name := "noVine", desc := "()Z" } : Jvm.MethodName)) ∈ lw_all := lw_g (lw_at lw_m1 206 rfl) rfl
theorem q276 : (Jvm.Cond.code ({ cls := "VineRows", name := "noVine", desc := "()Z" } : Jvm.MethodName) prog_1_method_5_code (1 : Nat) (Option.some Jvm.ClassFile.FieldType.boolean)) ∈ lw_all := lw_g (lw_at lw_m1 207 rfl) rfl
theorem q277 : (Jvm.Cond.interfaceEntry "VineRows" (42 : Nat)) ∈ lw_tbl := lw_at lw_m1 208 rfl
theorem q278 : (Jvm.Cond.methodLink "VineRows" (42 : Nat) ({ cls := "java/util/List", name := "isEmpty", desc := "()Z" } : Jvm.MethodName)) ∈ lw_all := lw_g (lw_at lw_m1 209 rfl) rfl
theorem q286 : (Jvm.Cond.methodLink "VineRows" (153 : Nat) ({ cls := "VineRows", name := "writes", desc := "()V" } : Jvm.MethodName)) ∈ lw_all := lw_g (lw_at lw_m1 217 rfl) rfl
theorem q287 : (Jvm.Cond.privateMethod ({ cls := "VineRows", name := "writes", desc := "()V" } : Jvm.MethodName)) ∈ lw_tbl := lw_at lw_m1 218 rfl
theorem q288 : (Jvm.Cond.instanceMethod ({ cls := "VineRows", name := "writes", desc := "()V" } : Jvm.MethodName)) ∈ lw_all := lw_g (lw_at lw_m1 219 rfl) rfl
theorem q289 : (Jvm.Cond.code ({ cls := "VineRows", name := "writes", desc := "()V" } : Jvm.MethodName) prog_1_method_20_code (4 : Nat) (Option.none : Option Jvm.ClassFile.FieldType)) ∈ lw_all := lw_g (lw_at lw_m1 220 rfl) rfl
theorem q290 : (Jvm.Cond.methodLink "VineRows" (144 : Nat) ({ cls := "VineRows", name := "isIn", desc := "(II)Z" } : Jvm.MethodName)) ∈ lw_all := lw_g (lw_at lw_m1 221 rfl) rfl
theorem q291 : (Jvm.Cond.static ({ cls := "VineRows", name := "isIn", desc := "(II)Z" } : Jvm.MethodName)) ∈ lw_all := lw_g (lw_at lw_m1 222 rfl) rfl
theorem q292 : (Jvm.Cond.code ({ cls := "VineRows", name := "isIn", desc := "(II)Z" } : Jvm.MethodName) prog_1_method_2_code (2 : Nat) (Option.some Jvm.ClassFile.FieldType.boolean)) ∈ lw_all := lw_g (lw_at lw_m1 223 rfl) rfl
theorem q294 : (Jvm.Cond.instanceMethod ({ cls := "VineRows", name := "graft", desc := "(II)I" } : Jvm.MethodName)) ∈ lw_all := lw_g (lw_at lw_m1 225 rfl) rfl
theorem q295 : (Jvm.Cond.selects "VineRows" ({ cls := "VineRows", name := "graft", desc := "(II)I" } : Jvm.MethodName) ({ cls := "VineRows", name := "graft", desc := "(II)I" } : Jvm.MethodName)) ∈ lw_all := lw_g (lw_at lw_m1 226 rfl) rfl
theorem q296 : (Jvm.Cond.code ({ cls := "VineRows", name := "graft", desc := "(II)I" } : Jvm.MethodName) prog_1_method_23_code (4 : Nat) (Option.some Jvm.ClassFile.FieldType.int)) ∈ lw_all := lw_g (lw_at lw_m1 227 rfl) rfl
theorem q297 : (Jvm.Cond.methodLink "VineRows" (156 : Nat) ({ cls := "VineRows", name := "noTwo", desc := "(II)Z" } : Jvm.MethodName)) ∈ lw_all := lw_g (lw_at lw_m1 228 rfl) rfl
theorem q298 : (Jvm.Cond.privateMethod ({ cls := "VineRows", name := "noTwo", desc := "(II)Z" } : Jvm.MethodName)) ∈ lw_tbl := lw_at lw_m1 229 rfl
theorem q299 : (Jvm.Cond.instanceMethod ({ cls := "VineRows", name := "noTwo", desc := "(II)Z" } : Jvm.MethodName)) ∈ lw_all := lw_g (lw_at lw_m1 230 rfl) rfl
theorem q300 : (Jvm.Cond.code ({ cls := "VineRows", name := "noTwo", desc := "(II)Z" } : Jvm.MethodName) prog_1_method_7_code (3 : Nat) (Option.some Jvm.ClassFile.FieldType.boolean)) ∈ lw_all := lw_g (lw_at lw_m1 231 rfl) rfl
theorem q301 : (Jvm.Cond.methodLink "VineRows" (162 : Nat) ({ cls := "VineRows", name := "grafted", desc := "(II)Z" } : Jvm.MethodName)) ∈ lw_all := lw_g (lw_at lw_m1 232 rfl) rfl
theorem q302 : (Jvm.Cond.privateMethod ({ cls := "VineRows", name := "grafted", desc := "(II)Z" } : Jvm.MethodName)) ∈ lw_tbl := lw_at lw_m1 233 rfl
theorem q303 : (Jvm.Cond.instanceMethod ({ cls := "VineRows", name := "grafted", desc := "(II)Z" } : Jvm.MethodName)) ∈ lw_all := lw_g (lw_at lw_m1 234 rfl) rfl
theorem q304 : (Jvm.Cond.code ({ cls := "VineRows", name := "grafted", desc := "(II)Z" } : Jvm.MethodName) prog_1_method_22_code (4 : Nat) (Option.some Jvm.ClassFile.FieldType.boolean)) ∈ lw_all := lw_g (lw_at lw_m1 235 rfl) rfl
theorem q305 : (Jvm.Cond.methodLink "VineRows" (159 : Nat) ({ cls := "VineRows$Plain", name := "isLeaf", desc := "()Z" } : Jvm.MethodName)) ∈ lw_all := lw_g (lw_at lw_m1 236 rfl) rfl
theorem q313 : (Jvm.Cond.methodLink "VineRows" (81 : Nat) ({ cls := "VineRows", name := "joined", desc := "(II)V" } : Jvm.MethodName)) ∈ lw_all := lw_g (lw_at lw_m2 4 rfl) rfl
theorem q314 : (Jvm.Cond.privateMethod ({ cls := "VineRows", name := "joined", desc := "(II)V" } : Jvm.MethodName)) ∈ lw_tbl := lw_at lw_m2 5 rfl
theorem q315 : (Jvm.Cond.instanceMethod ({ cls := "VineRows", name := "joined", desc := "(II)V" } : Jvm.MethodName)) ∈ lw_all := lw_g (lw_at lw_m2 6 rfl) rfl
theorem q316 : (Jvm.Cond.code ({ cls := "VineRows", name := "joined", desc := "(II)V" } : Jvm.MethodName) prog_1_method_12_code (3 : Nat) (Option.none : Option Jvm.ClassFile.FieldType)) ∈ lw_all := lw_g (lw_at lw_m2 7 rfl) rfl
theorem q318 : (Jvm.Cond.instanceMethod ({ cls := "VineRows", name := "far", desc := "(II)I" } : Jvm.MethodName)) ∈ lw_all := lw_g (lw_at lw_m2 9 rfl) rfl
theorem q319 : (Jvm.Cond.selects "VineRows" ({ cls := "VineRows", name := "far", desc := "(II)I" } : Jvm.MethodName) ({ cls := "VineRows", name := "far", desc := "(II)I" } : Jvm.MethodName)) ∈ lw_all := lw_g (lw_at lw_m2 10 rfl) rfl
theorem q320 : (Jvm.Cond.code ({ cls := "VineRows", name := "far", desc := "(II)I" } : Jvm.MethodName) prog_1_method_32_code (3 : Nat) (Option.some Jvm.ClassFile.FieldType.int)) ∈ lw_all := lw_g (lw_at lw_m2 11 rfl) rfl
theorem q322 : (Jvm.Cond.instanceMethod ({ cls := "VineRows", name := "way", desc := "(III)I" } : Jvm.MethodName)) ∈ lw_all := lw_g (lw_at lw_m2 13 rfl) rfl
theorem q323 : (Jvm.Cond.selects "VineRows" ({ cls := "VineRows", name := "way", desc := "(III)I" } : Jvm.MethodName) ({ cls := "VineRows", name := "way", desc := "(III)I" } : Jvm.MethodName)) ∈ lw_all := lw_g (lw_at lw_m2 14 rfl) rfl
theorem q324 : (Jvm.Cond.code ({ cls := "VineRows", name := "way", desc := "(III)I" } : Jvm.MethodName) prog_1_method_33_code (6 : Nat) (Option.some Jvm.ClassFile.FieldType.int)) ∈ lw_all := lw_g (lw_at lw_m2 15 rfl) rfl
theorem q325 : (Jvm.Cond.constantLong "VineRows" (169 : Nat) (7 : Int64)) ∈ lw_all := lw_g (lw_at lw_m2 16 rfl) rfl
theorem q326 : (Jvm.Cond.methodLink "VineRows" (197 : Nat) ({ cls := "VineRows", name := "wayOf", desc := "(II)I" } : Jvm.MethodName)) ∈ lw_all := lw_g (lw_at lw_m2 17 rfl) rfl
theorem q327 : (Jvm.Cond.privateMethod ({ cls := "VineRows", name := "wayOf", desc := "(II)I" } : Jvm.MethodName)) ∈ lw_tbl := lw_at lw_m2 18 rfl
theorem q328 : (Jvm.Cond.instanceMethod ({ cls := "VineRows", name := "wayOf", desc := "(II)I" } : Jvm.MethodName)) ∈ lw_all := lw_g (lw_at lw_m2 19 rfl) rfl
theorem q329 : (Jvm.Cond.code ({ cls := "VineRows", name := "wayOf", desc := "(II)I" } : Jvm.MethodName) prog_1_method_17_code (6 : Nat) (Option.some Jvm.ClassFile.FieldType.int)) ∈ lw_all := lw_g (lw_at lw_m2 20 rfl) rfl
theorem q331 : (Jvm.Cond.instanceMethod ({ cls := "VineRows", name := "middle", desc := "(I)I" } : Jvm.MethodName)) ∈ lw_all := lw_g (lw_at lw_m2 22 rfl) rfl
theorem q332 : (Jvm.Cond.selects "VineRows" ({ cls := "VineRows", name := "middle", desc := "(I)I" } : Jvm.MethodName) ({ cls := "VineRows", name := "middle", desc := "(I)I" } : Jvm.MethodName)) ∈ lw_all := lw_g (lw_at lw_m2 23 rfl) rfl
theorem q333 : (Jvm.Cond.code ({ cls := "VineRows", name := "middle", desc := "(I)I" } : Jvm.MethodName) prog_1_method_35_code (2 : Nat) (Option.some Jvm.ClassFile.FieldType.int)) ∈ lw_all := lw_g (lw_at lw_m2 24 rfl) rfl
theorem q334 : (Jvm.Cond.methodLink "VineRows" (203 : Nat) ({ cls := "VineRows", name := "middles", desc := "()I" } : Jvm.MethodName)) ∈ lw_all := lw_g (lw_at lw_m2 25 rfl) rfl
theorem q335 : (Jvm.Cond.privateMethod ({ cls := "VineRows", name := "middles", desc := "()I" } : Jvm.MethodName)) ∈ lw_tbl := lw_at lw_m2 26 rfl
theorem q336 : (Jvm.Cond.instanceMethod ({ cls := "VineRows", name := "middles", desc := "()I" } : Jvm.MethodName)) ∈ lw_all := lw_g (lw_at lw_m2 27 rfl) rfl
theorem q337 : (Jvm.Cond.code ({ cls := "VineRows", name := "middles", desc := "()I" } : Jvm.MethodName) prog_1_method_34_code (5 : Nat) (Option.some Jvm.ClassFile.FieldType.int)) ∈ lw_all := lw_g (lw_at lw_m2 28 rfl) rfl
theorem q338 : (Jvm.Cond.methodLink "VineRows" (200 : Nat) ({ cls := "java/lang/Math", name := "min", desc := "(II)I" } : Jvm.MethodName)) ∈ lw_all := lw_g (lw_at lw_m2 29 rfl) rfl
theorem q341 : (Jvm.Cond.methodLink "VineRows" (176 : Nat) ({ cls := "VineRows", name := "longest", desc := "()I" } : Jvm.MethodName)) ∈ lw_all := lw_g (lw_at lw_m2 32 rfl) rfl
theorem q342 : (Jvm.Cond.privateMethod ({ cls := "VineRows", name := "longest", desc := "()I" } : Jvm.MethodName)) ∈ lw_tbl := lw_at lw_m2 33 rfl
theorem q343 : (Jvm.Cond.instanceMethod ({ cls := "VineRows", name := "longest", desc := "()I" } : Jvm.MethodName)) ∈ lw_all := lw_g (lw_at lw_m2 34 rfl) rfl
theorem q344 : (Jvm.Cond.code ({ cls := "VineRows", name := "longest", desc := "()I" } : Jvm.MethodName) prog_1_method_28_code (3 : Nat) (Option.some Jvm.ClassFile.FieldType.int)) ∈ lw_all := lw_g (lw_at lw_m2 35 rfl) rfl
theorem q346 : (Jvm.Cond.instanceMethod ({ cls := "VineRows", name := "number", desc := "()I" } : Jvm.MethodName)) ∈ lw_all := lw_g (lw_at lw_m2 37 rfl) rfl
theorem q347 : (Jvm.Cond.selects "VineRows" ({ cls := "VineRows", name := "number", desc := "()I" } : Jvm.MethodName) ({ cls := "VineRows", name := "number", desc := "()I" } : Jvm.MethodName)) ∈ lw_all := lw_g (lw_at lw_m2 38 rfl) rfl
theorem q348 : (Jvm.Cond.code ({ cls := "VineRows", name := "number", desc := "()I" } : Jvm.MethodName) prog_1_method_36_code (1 : Nat) (Option.some Jvm.ClassFile.FieldType.int)) ∈ lw_all := lw_g (lw_at lw_m2 39 rfl) rfl
theorem q349 : (Jvm.Cond.methodLink "VineRows" (179 : Nat) ({ cls := "VineRows", name := "numberNow", desc := "()I" } : Jvm.MethodName)) ∈ lw_all := lw_g (lw_at lw_m2 40 rfl) rfl
theorem q350 : (Jvm.Cond.privateMethod ({ cls := "VineRows", name := "numberNow", desc := "()I" } : Jvm.MethodName)) ∈ lw_tbl := lw_at lw_m2 41 rfl
theorem q351 : (Jvm.Cond.instanceMethod ({ cls := "VineRows", name := "numberNow", desc := "()I" } : Jvm.MethodName)) ∈ lw_all := lw_g (lw_at lw_m2 42 rfl) rfl
theorem q352 : (Jvm.Cond.code ({ cls := "VineRows", name := "numberNow", desc := "()I" } : Jvm.MethodName) prog_1_method_29_code (3 : Nat) (Option.some Jvm.ClassFile.FieldType.int)) ∈ lw_all := lw_g (lw_at lw_m2 43 rfl) rfl
theorem q354 : (Jvm.Cond.instanceMethod ({ cls := "VineRows", name := "alike", desc := "()I" } : Jvm.MethodName)) ∈ lw_all := lw_g (lw_at lw_m2 45 rfl) rfl
theorem q355 : (Jvm.Cond.selects "VineRows" ({ cls := "VineRows", name := "alike", desc := "()I" } : Jvm.MethodName) ({ cls := "VineRows", name := "alike", desc := "()I" } : Jvm.MethodName)) ∈ lw_all := lw_g (lw_at lw_m2 46 rfl) rfl
theorem q356 : (Jvm.Cond.code ({ cls := "VineRows", name := "alike", desc := "()I" } : Jvm.MethodName) prog_1_method_40_code (4 : Nat) (Option.some Jvm.ClassFile.FieldType.int)) ∈ lw_all := lw_g (lw_at lw_m2 47 rfl) rfl
theorem q357 : (Jvm.Cond.methodLink "VineRows" (218 : Nat) ({ cls := "VineRows", name := "turnsInAll", desc := "()J" } : Jvm.MethodName)) ∈ lw_all := lw_g (lw_at lw_m2 48 rfl) rfl
theorem q358 : (Jvm.Cond.privateMethod ({ cls := "VineRows", name := "turnsInAll", desc := "()J" } : Jvm.MethodName)) ∈ lw_tbl := lw_at lw_m2 49 rfl
theorem q359 : (Jvm.Cond.instanceMethod ({ cls := "VineRows", name := "turnsInAll", desc := "()J" } : Jvm.MethodName)) ∈ lw_all := lw_g (lw_at lw_m2 50 rfl) rfl
theorem q360 : (Jvm.Cond.code ({ cls := "VineRows", name := "turnsInAll", desc := "()J" } : Jvm.MethodName) prog_1_method_39_code (4 : Nat) (Option.some Jvm.ClassFile.FieldType.long)) ∈ lw_all := lw_g (lw_at lw_m2 51 rfl) rfl
theorem q361 : (Jvm.Cond.methodLink "VineRows" (212 : Nat) ({ cls := "VineRows", name := "turnsOf", desc := "(II)J" } : Jvm.MethodName)) ∈ lw_all := lw_g (lw_at lw_m2 52 rfl) rfl
theorem q362 : (Jvm.Cond.privateMethod ({ cls := "VineRows", name := "turnsOf", desc := "(II)J" } : Jvm.MethodName)) ∈ lw_tbl := lw_at lw_m2 53 rfl
theorem q363 : (Jvm.Cond.instanceMethod ({ cls := "VineRows", name := "turnsOf", desc := "(II)J" } : Jvm.MethodName)) ∈ lw_all := lw_g (lw_at lw_m2 54 rfl) rfl
theorem q364 : (Jvm.Cond.code ({ cls := "VineRows", name := "turnsOf", desc := "(II)J" } : Jvm.MethodName) prog_1_method_38_code (10 : Nat) (Option.some Jvm.ClassFile.FieldType.long)) ∈ lw_all := lw_g (lw_at lw_m2 55 rfl) rfl
theorem q365 : (Jvm.Cond.methodLink "VineRows" (206 : Nat) ({ cls := "VineRows", name := "shapeOf", desc := "(II)I" } : Jvm.MethodName)) ∈ lw_all := lw_g (lw_at lw_m2 56 rfl) rfl
theorem q366 : (Jvm.Cond.privateMethod ({ cls := "VineRows", name := "shapeOf", desc := "(II)I" } : Jvm.MethodName)) ∈ lw_tbl := lw_at lw_m2 57 rfl
theorem q367 : (Jvm.Cond.instanceMethod ({ cls := "VineRows", name := "shapeOf", desc := "(II)I" } : Jvm.MethodName)) ∈ lw_all := lw_g (lw_at lw_m2 58 rfl) rfl
theorem q368 : (Jvm.Cond.code ({ cls := "VineRows", name := "shapeOf", desc := "(II)I" } : Jvm.MethodName) prog_1_method_37_code (9 : Nat) (Option.some Jvm.ClassFile.FieldType.int)) ∈ lw_all := lw_g (lw_at lw_m2 59 rfl) rfl
theorem q369 : (Jvm.Cond.methodLink "VineRows" (209 : Nat) ({ cls := "java/lang/Integer", name := "numberOfLeadingZeros", desc := "(I)I" } : Jvm.MethodName)) ∈ lw_all := lw_g (lw_at lw_m2 60 rfl) rfl
theorem q372 : (Jvm.Cond.constantLong "VineRows" (216 : Nat) (2 : Int64)) ∈ lw_all := lw_g (lw_at lw_m2 63 rfl) rfl
theorem q374 : (Jvm.Cond.instanceMethod ({ cls := "VineRows", name := "pairs", desc := "()I" } : Jvm.MethodName)) ∈ lw_all := lw_g (lw_at lw_m2 65 rfl) rfl
theorem q375 : (Jvm.Cond.selects "VineRows" ({ cls := "VineRows", name := "pairs", desc := "()I" } : Jvm.MethodName) ({ cls := "VineRows", name := "pairs", desc := "()I" } : Jvm.MethodName)) ∈ lw_all := lw_g (lw_at lw_m2 66 rfl) rfl
theorem q376 : (Jvm.Cond.code ({ cls := "VineRows", name := "pairs", desc := "()I" } : Jvm.MethodName) prog_1_method_42_code (1 : Nat) (Option.some Jvm.ClassFile.FieldType.int)) ∈ lw_all := lw_g (lw_at lw_m2 67 rfl) rfl
theorem q377 : (Jvm.Cond.methodLink "VineRows" (222 : Nat) ({ cls := "VineRows", name := "pairsBelow", desc := "(IIZ)I" } : Jvm.MethodName)) ∈ lw_all := lw_g (lw_at lw_m2 68 rfl) rfl
theorem q378 : (Jvm.Cond.privateMethod ({ cls := "VineRows", name := "pairsBelow", desc := "(IIZ)I" } : Jvm.MethodName)) ∈ lw_tbl := lw_at lw_m2 69 rfl
theorem q379 : (Jvm.Cond.instanceMethod ({ cls := "VineRows", name := "pairsBelow", desc := "(IIZ)I" } : Jvm.MethodName)) ∈ lw_all := lw_g (lw_at lw_m2 70 rfl) rfl
theorem q380 : (Jvm.Cond.code ({ cls := "VineRows", name := "pairsBelow", desc := "(IIZ)I" } : Jvm.MethodName) prog_1_method_41_code (9 : Nat) (Option.some Jvm.ClassFile.FieldType.int)) ∈ lw_all := lw_g (lw_at lw_m2 71 rfl) rfl
theorem q382 : (Jvm.Cond.instanceMethod ({ cls := "VineRows", name := "loners", desc := "(I)I" } : Jvm.MethodName)) ∈ lw_all := lw_g (lw_at lw_m2 73 rfl) rfl
theorem q383 : (Jvm.Cond.selects "VineRows" ({ cls := "VineRows", name := "loners", desc := "(I)I" } : Jvm.MethodName) ({ cls := "VineRows", name := "loners", desc := "(I)I" } : Jvm.MethodName)) ∈ lw_all := lw_g (lw_at lw_m2 74 rfl) rfl
theorem q384 : (Jvm.Cond.code ({ cls := "VineRows", name := "loners", desc := "(I)I" } : Jvm.MethodName) prog_1_method_44_code (4 : Nat) (Option.some Jvm.ClassFile.FieldType.int)) ∈ lw_all := lw_g (lw_at lw_m2 75 rfl) rfl
theorem q385 : (Jvm.Cond.methodLink "VineRows" (226 : Nat) ({ cls := "VineRows", name := "areApart", desc := "(I)Z" } : Jvm.MethodName)) ∈ lw_all := lw_g (lw_at lw_m2 76 rfl) rfl
theorem q386 : (Jvm.Cond.privateMethod ({ cls := "VineRows", name := "areApart", desc := "(I)Z" } : Jvm.MethodName)) ∈ lw_tbl := lw_at lw_m2 77 rfl
theorem q387 : (Jvm.Cond.instanceMethod ({ cls := "VineRows", name := "areApart", desc := "(I)Z" } : Jvm.MethodName)) ∈ lw_all := lw_g (lw_at lw_m2 78 rfl) rfl
theorem q388 : (Jvm.Cond.code ({ cls := "VineRows", name := "areApart", desc := "(I)Z" } : Jvm.MethodName) prog_1_method_43_code (4 : Nat) (Option.some Jvm.ClassFile.FieldType.boolean)) ∈ lw_all := lw_g (lw_at lw_m2 79 rfl) rfl
theorem q389 : (Jvm.Cond.methodLink "VineRows" (185 : Nat) ({ cls := "VineRows", name := "worthOf", desc := "(I)I" } : Jvm.MethodName)) ∈ lw_all := lw_g (lw_at lw_m2 80 rfl) rfl
theorem q390 : (Jvm.Cond.privateMethod ({ cls := "VineRows", name := "worthOf", desc := "(I)I" } : Jvm.MethodName)) ∈ lw_tbl := lw_at lw_m2 81 rfl
theorem q391 : (Jvm.Cond.instanceMethod ({ cls := "VineRows", name := "worthOf", desc := "(I)I" } : Jvm.MethodName)) ∈ lw_all := lw_g (lw_at lw_m2 82 rfl) rfl
theorem q392 : (Jvm.Cond.code ({ cls := "VineRows", name := "worthOf", desc := "(I)I" } : Jvm.MethodName) prog_1_method_27_code (4 : Nat) (Option.some Jvm.ClassFile.FieldType.int)) ∈ lw_all := lw_g (lw_at lw_m2 83 rfl) rfl
theorem q394 : (Jvm.Cond.instanceMethod ({ cls := "VineRows", name := "part", desc := "(II)I" } : Jvm.MethodName)) ∈ lw_all := lw_g (lw_at lw_m2 85 rfl) rfl
theorem q395 : (Jvm.Cond.selects "VineRows" ({ cls := "VineRows", name := "part", desc := "(II)I" } : Jvm.MethodName) ({ cls := "VineRows", name := "part", desc := "(II)I" } : Jvm.MethodName)) ∈ lw_all := lw_g (lw_at lw_m2 86 rfl) rfl
theorem q396 : (Jvm.Cond.code ({ cls := "VineRows", name := "part", desc := "(II)I" } : Jvm.MethodName) prog_1_method_46_code (3 : Nat) (Option.some Jvm.ClassFile.FieldType.int)) ∈ lw_all := lw_g (lw_at lw_m2 87 rfl) rfl
theorem q397 : (Jvm.Cond.methodLink "VineRows" (229 : Nat) ({ cls := "VineRows", name := "worthBelow", desc := "(II)I" } : Jvm.MethodName)) ∈ lw_all := lw_g (lw_at lw_m2 88 rfl) rfl
theorem q398 : (Jvm.Cond.privateMethod ({ cls := "VineRows", name := "worthBelow", desc := "(II)I" } : Jvm.MethodName)) ∈ lw_tbl := lw_at lw_m2 89 rfl
theorem q399 : (Jvm.Cond.instanceMethod ({ cls := "VineRows", name := "worthBelow", desc := "(II)I" } : Jvm.MethodName)) ∈ lw_all := lw_g (lw_at lw_m2 90 rfl) rfl
theorem q400 : (Jvm.Cond.code ({ cls := "VineRows", name := "worthBelow", desc := "(II)I" } : Jvm.MethodName) prog_1_method_45_code (6 : Nat) (Option.some Jvm.ClassFile.FieldType.int)) ∈ lw_all := lw_g (lw_at lw_m2 91 rfl) rfl
theorem q402 : (Jvm.Cond.instanceMethod ({ cls := "VineRows", name := "reading", desc := "(III)I" } : Jvm.MethodName)) ∈ lw_all := lw_g (lw_at lw_m2 93 rfl) rfl
theorem q403 : (Jvm.Cond.selects "VineRows" ({ cls := "VineRows", name := "reading", desc := "(III)I" } : Jvm.MethodName) ({ cls := "VineRows", name := "reading", desc := "(III)I" } : Jvm.MethodName)) ∈ lw_all := lw_g (lw_at lw_m2 94 rfl) rfl
theorem q404 : (Jvm.Cond.code ({ cls := "VineRows", name := "reading", desc := "(III)I" } : Jvm.MethodName) prog_1_method_47_code (4 : Nat) (Option.some Jvm.ClassFile.FieldType.int)) ∈ lw_all := lw_g (lw_at lw_m2 95 rfl) rfl
theorem q405 : (Jvm.Cond.constantLong "VineRows" (232 : Nat) (200 : Int64)) ∈ lw_all := lw_g (lw_at lw_m2 96 rfl) rfl
theorem q406 : (Jvm.Cond.classLink "VineRows" (234 : Nat) "VineRows$Reading") ∈ lw_all := lw_g (lw_at lw_m2 97 rfl) rfl
theorem q408 : (Jvm.Cond.methodLink "VineRows" (236 : Nat) ({ cls := "VineRows$Reading", name := "<init>", desc := "(III)V" } : Jvm.MethodName)) ∈ lw_all := lw_g (lw_at lw_m2 99 rfl) rfl
theorem q413 : (Jvm.Cond.fieldLinkNest "VineRows" (242 : Nat) "VineRows$Reading" "a" "I" "VineRows") ∈ lw_tbl := lw_at lw_m2 104 rfl
theorem q415 : (Jvm.Cond.fieldLinkNest "VineRows" (245 : Nat) "VineRows$Reading" "b" "I" "VineRows") ∈ lw_tbl := lw_at lw_m2 106 rfl
theorem q417 : (Jvm.Cond.fieldLinkNest "VineRows" (248 : Nat) "VineRows$Reading" "v" "I" "VineRows") ∈ lw_tbl := lw_at lw_m2 108 rfl
theorem q425 : (Jvm.Cond.interfaceEntry "VineRows" (99 : Nat)) ∈ lw_tbl := lw_at lw_m2 116 rfl
theorem q426 : (Jvm.Cond.methodLink "VineRows" (99 : Nat) ({ cls := "java/util/List", name := "add", desc := "(Ljava/lang/Object;)Z" } : Jvm.MethodName)) ∈ lw_all := lw_g (lw_at lw_m2 117 rfl) rfl
theorem q460 : (Jvm.Cond.selects "VineRows" ({ cls := "java/lang/Object", name := "getClass", desc := "()Ljava/lang/Class;" } : Jvm.MethodName) ({ cls := "java/lang/Object", name := "getClass", desc := "()Ljava/lang/Class;" } : Jvm.MethodName)) ∈ lw_all := lw_g (lw_at lw_m2 151 rfl) rfl
theorem q492 : (Jvm.Cond.instanceMethod ({ cls := "VineRows", name := "back", desc := "(I)I" } : Jvm.MethodName)) ∈ lw_all := lw_g (lw_at lw_m2 183 rfl) rfl
theorem q493 : (Jvm.Cond.selects "VineRows" ({ cls := "VineRows", name := "back", desc := "(I)I" } : Jvm.MethodName) ({ cls := "VineRows", name := "back", desc := "(I)I" } : Jvm.MethodName)) ∈ lw_all := lw_g (lw_at lw_m2 184 rfl) rfl
theorem q494 : (Jvm.Cond.code ({ cls := "VineRows", name := "back", desc := "(I)I" } : Jvm.MethodName) prog_1_method_48_code (3 : Nat) (Option.some Jvm.ClassFile.FieldType.int)) ∈ lw_all := lw_g (lw_at lw_m2 185 rfl) rfl
theorem q495 : (Jvm.Cond.interfaceEntry "VineRows" (239 : Nat)) ∈ lw_tbl := lw_at lw_m2 186 rfl
theorem q496 : (Jvm.Cond.methodLink "VineRows" (239 : Nat) ({ cls := "java/util/List", name := "remove", desc := "(I)Ljava/lang/Object;" } : Jvm.MethodName)) ∈ lw_all := lw_g (lw_at lw_m2 187 rfl) rfl
theorem q510 : (Jvm.Cond.instanceMethod ({ cls := "VineRows", name := "loadings", desc := "(I)I" } : Jvm.MethodName)) ∈ lw_all := lw_g (lw_at lw_m2 201 rfl) rfl
theorem q511 : (Jvm.Cond.selects "VineRows" ({ cls := "VineRows", name := "loadings", desc := "(I)I" } : Jvm.MethodName) ({ cls := "VineRows", name := "loadings", desc := "(I)I" } : Jvm.MethodName)) ∈ lw_all := lw_g (lw_at lw_m2 202 rfl) rfl
theorem q512 : (Jvm.Cond.code ({ cls := "VineRows", name := "loadings", desc := "(I)I" } : Jvm.MethodName) prog_1_method_50_code (6 : Nat) (Option.some Jvm.ClassFile.FieldType.int)) ∈ lw_all := lw_g (lw_at lw_m2 203 rfl) rfl
theorem q513 : (Jvm.Cond.methodLink "VineRows" (251 : Nat) ({ cls := "VineRows", name := "areSo", desc := "()Z" } : Jvm.MethodName)) ∈ lw_all := lw_g (lw_at lw_m2 204 rfl) rfl
theorem q514 : (Jvm.Cond.privateMethod ({ cls := "VineRows", name := "areSo", desc := "()Z" } : Jvm.MethodName)) ∈ lw_tbl := lw_at lw_m2 205 rfl
theorem q515 : (Jvm.Cond.instanceMethod ({ cls := "VineRows", name := "areSo", desc := "()Z" } : Jvm.MethodName)) ∈ lw_all := lw_g (lw_at lw_m2 206 rfl) rfl
theorem q516 : (Jvm.Cond.code ({ cls := "VineRows", name := "areSo", desc := "()Z" } : Jvm.MethodName) prog_1_method_49_code (4 : Nat) (Option.some Jvm.ClassFile.FieldType.boolean)) ∈ lw_all := lw_g (lw_at lw_m2 207 rfl) rfl
theorem q518 : (Jvm.Cond.instanceMethod ({ cls := "VineRows", name := "kinds", desc := "(I)I" } : Jvm.MethodName)) ∈ lw_all := lw_g (lw_at lw_m2 209 rfl) rfl
theorem q519 : (Jvm.Cond.selects "VineRows" ({ cls := "VineRows", name := "kinds", desc := "(I)I" } : Jvm.MethodName) ({ cls := "VineRows", name := "kinds", desc := "(I)I" } : Jvm.MethodName)) ∈ lw_all := lw_g (lw_at lw_m2 210 rfl) rfl
theorem q520 : (Jvm.Cond.code ({ cls := "VineRows", name := "kinds", desc := "(I)I" } : Jvm.MethodName) prog_1_method_51_code (5 : Nat) (Option.some Jvm.ClassFile.FieldType.int)) ∈ lw_all := lw_g (lw_at lw_m2 211 rfl) rfl
theorem q521 : (Jvm.Cond.methodLink "VineRows" (95 : Nat) ({ cls := "VineRows", name := "madeOf", desc := "(III)LVineRows$Plain;" } : Jvm.MethodName)) ∈ lw_all := lw_g (lw_at lw_m2 212 rfl) rfl
theorem q522 : (Jvm.Cond.privateMethod ({ cls := "VineRows", name := "madeOf", desc := "(III)LVineRows$Plain;" } : Jvm.MethodName)) ∈ lw_tbl := lw_at lw_m2 213 rfl
theorem q523 : (Jvm.Cond.instanceMethod ({ cls := "VineRows", name := "madeOf", desc := "(III)LVineRows$Plain;" } : Jvm.MethodName)) ∈ lw_all := lw_g (lw_at lw_m2 214 rfl) rfl
theorem q524 : (Jvm.Cond.code ({ cls := "VineRows", name := "madeOf", desc := "(III)LVineRows$Plain;" } : Jvm.MethodName) prog_1_method_4_code (4 : Nat) (Option.some (Jvm.ClassFile.FieldType.object "VineRows$Plain"))) ∈ lw_all := lw_g (lw_at lw_m2 215 rfl) rfl
theorem q526 : (Jvm.Cond.methodLink "VineRows" (33 : Nat) ({ cls := "VineRows$Plain", name := "<init>", desc := "(LVineRows;II)V" } : Jvm.MethodName)) ∈ lw_all := lw_g (lw_at lw_m2 217 rfl) rfl
theorem q536 : (Jvm.Cond.fieldLink "VineRows" (130 : Nat) "VineRows$Plain" "load" "I") ∈ lw_all := lw_g (lw_at lw_m2 227 rfl) rfl
theorem q538 : (Jvm.Cond.fieldLink "VineRows" (74 : Nat) "VineRows$Plain" "twigs" "I") ∈ lw_all := lw_g (lw_at lw_m2 229 rfl) rfl
theorem q553 : (Jvm.Cond.classLink "VineRows" (36 : Nat) "VineRows$Broad") ∈ lw_all := lw_g (lw_at lw_m3 4 rfl) rfl
theorem q555 : (Jvm.Cond.methodLink "VineRows" (38 : Nat) ({ cls := "VineRows$Broad", name := "<init>", desc := "(LVineRows;II)V" } : Jvm.MethodName)) ∈ lw_all := lw_g (lw_at lw_m3 6 rfl) rfl
theorem q567 : (Jvm.Cond.classLink "VineRows" (39 : Nat) "VineRows$Doubled") ∈ lw_all := lw_g (lw_at lw_m3 18 rfl) rfl
theorem q569 : (Jvm.Cond.methodLink "VineRows" (41 : Nat) ({ cls := "VineRows$Doubled", name := "<init>", desc := "(LVineRows;II)V" } : Jvm.MethodName)) ∈ lw_all := lw_g (lw_at lw_m3 20 rfl) rfl
theorem q583 : (Jvm.Cond.interfaceEntry "VineRows" (254 : Nat)) ∈ lw_tbl := lw_at lw_m3 34 rfl
theorem q584 : (Jvm.Cond.methodLink "VineRows" (254 : Nat) ({ cls := "java/util/List", name := "set", desc := "(ILjava/lang/Object;)Ljava/lang/Object;" } : Jvm.MethodName)) ∈ lw_all := lw_g (lw_at lw_m3 35 rfl) rfl
theorem q593 : (Jvm.Cond.instanceMethod ({ cls := "VineRows", name := "odds", desc := "(II)J" } : Jvm.MethodName)) ∈ lw_all := lw_g (lw_at lw_m3 44 rfl) rfl
theorem q594 : (Jvm.Cond.selects "VineRows" ({ cls := "VineRows", name := "odds", desc := "(II)J" } : Jvm.MethodName) ({ cls := "VineRows", name := "odds", desc := "(II)J" } : Jvm.MethodName)) ∈ lw_all := lw_g (lw_at lw_m3 45 rfl) rfl
theorem q595 : (Jvm.Cond.code ({ cls := "VineRows", name := "odds", desc := "(II)J" } : Jvm.MethodName) prog_1_method_53_code (7 : Nat) (Option.some Jvm.ClassFile.FieldType.long)) ∈ lw_all := lw_g (lw_at lw_m3 46 rfl) rfl
theorem q596 : (Jvm.Cond.constantLong "VineRows" (262 : Nat) (-9223372036854775808 : Int64)) ∈ lw_all := lw_g (lw_at lw_m3 47 rfl) rfl
theorem q597 : (Jvm.Cond.methodLink "VineRows" (258 : Nat) ({ cls := "VineRows", name := "greatestOf", desc := "(JJ)J" } : Jvm.MethodName)) ∈ lw_all := lw_g (lw_at lw_m3 48 rfl) rfl
theorem q598 : (Jvm.Cond.static ({ cls := "VineRows", name := "greatestOf", desc := "(JJ)J" } : Jvm.MethodName)) ∈ lw_all := lw_g (lw_at lw_m3 49 rfl) rfl
theorem q599 : (Jvm.Cond.code ({ cls := "VineRows", name := "greatestOf", desc := "(JJ)J" } : Jvm.MethodName) prog_1_method_52_code (4 : Nat) (Option.some Jvm.ClassFile.FieldType.long)) ∈ lw_all := lw_g (lw_at lw_m3 50 rfl) rfl
theorem q601 : (Jvm.Cond.instanceMethod ({ cls := "VineRows", name := "sheet", desc := "(III)I" } : Jvm.MethodName)) ∈ lw_all := lw_g (lw_at lw_m3 52 rfl) rfl
theorem q602 : (Jvm.Cond.selects "VineRows" ({ cls := "VineRows", name := "sheet", desc := "(III)I" } : Jvm.MethodName) ({ cls := "VineRows", name := "sheet", desc := "(III)I" } : Jvm.MethodName)) ∈ lw_all := lw_g (lw_at lw_m3 53 rfl) rfl
theorem q603 : (Jvm.Cond.codeWith ({ cls := "VineRows", name := "sheet", desc := "(III)I" } : Jvm.MethodName) prog_1_method_63_code (5 : Nat) (Option.some Jvm.ClassFile.FieldType.int) [((43 : Nat), (62 : Nat), (63 : Nat), (291 : Nat))]) ∈ lw_all := lw_g (lw_at lw_m3 54 rfl) rfl
theorem q604 : (Jvm.Cond.classLink "VineRows" (291 : Nat) "java/lang/NegativeArraySizeException") ∈ lw_all := lw_g (lw_at lw_m3 55 rfl) rfl
theorem q691 : (Jvm.Cond.methodLink "VineRows" (278 : Nat) ({ cls := "VineRows", name := "noSheet", desc := "(I)Z" } : Jvm.MethodName)) ∈ lw_all := lw_g (lw_at lw_m3 142 rfl) rfl
theorem q692 : (Jvm.Cond.static ({ cls := "VineRows", name := "noSheet", desc := "(I)Z" } : Jvm.MethodName)) ∈ lw_all := lw_g (lw_at lw_m3 143 rfl) rfl
theorem q693 : (Jvm.Cond.code ({ cls := "VineRows", name := "noSheet", desc := "(I)Z" } : Jvm.MethodName) prog_1_method_61_code (1 : Nat) (Option.some Jvm.ClassFile.FieldType.boolean)) ∈ lw_all := lw_g (lw_at lw_m3 144 rfl) rfl
theorem q694 : (Jvm.Cond.constantLong "VineRows" (272 : Nat) (3 : Int64)) ∈ lw_all := lw_g (lw_at lw_m3 145 rfl) rfl
theorem q695 : (Jvm.Cond.methodLink "VineRows" (281 : Nat) ({ cls := "VineRows", name := "refused", desc := "(I)I" } : Jvm.MethodName)) ∈ lw_all := lw_g (lw_at lw_m3 146 rfl) rfl
theorem q696 : (Jvm.Cond.privateMethod ({ cls := "VineRows", name := "refused", desc := "(I)I" } : Jvm.MethodName)) ∈ lw_tbl := lw_at lw_m3 147 rfl
theorem q697 : (Jvm.Cond.instanceMethod ({ cls := "VineRows", name := "refused", desc := "(I)I" } : Jvm.MethodName)) ∈ lw_all := lw_g (lw_at lw_m3 148 rfl) rfl
theorem q698 : (Jvm.Cond.code ({ cls := "VineRows", name := "refused", desc := "(I)I" } : Jvm.MethodName) prog_1_method_54_code (2 : Nat) (Option.some Jvm.ClassFile.FieldType.int)) ∈ lw_all := lw_g (lw_at lw_m3 149 rfl) rfl
theorem q700 : (Jvm.Cond.methodLink "VineRows" (284 : Nat) ({ cls := "VineRows", name := "rowOf", desc := "(II)Ljava/lang/Object;" } : Jvm.MethodName)) ∈ lw_all := lw_g (lw_at lw_m3 151 rfl) rfl
theorem q701 : (Jvm.Cond.static ({ cls := "VineRows", name := "rowOf", desc := "(II)Ljava/lang/Object;" } : Jvm.MethodName)) ∈ lw_all := lw_g (lw_at lw_m3 152 rfl) rfl
theorem q702 : (Jvm.Cond.code ({ cls := "VineRows", name := "rowOf", desc := "(II)Ljava/lang/Object;" } : Jvm.MethodName) prog_1_method_57_code (2 : Nat) (Option.some (Jvm.ClassFile.FieldType.object "java/lang/Object"))) ∈ lw_all := lw_g (lw_at lw_m3 153 rfl) rfl
theorem q703 : (Jvm.Cond.methodLink "VineRows" (288 : Nat) ({ cls := "VineRows$Sheet", name := "<init>", desc := "(Ljava/lang/Object;)V" } : Jvm.MethodName)) ∈ lw_all := lw_g (lw_at lw_m3 154 rfl) rfl
theorem q708 : (Jvm.Cond.fieldLink "VineRows" (274 : Nat) "VineRows$Sheet" "row" "Ljava/lang/Object;") ∈ lw_all := lw_g (lw_at lw_m3 159 rfl) rfl
theorem q713 : (Jvm.Cond.methodLink "VineRows" (293 : Nat) ({ cls := "VineRows", name := "fails", desc := "(I)I" } : Jvm.MethodName)) ∈ lw_all := lw_g (lw_at lw_m3 164 rfl) rfl
theorem q714 : (Jvm.Cond.privateMethod ({ cls := "VineRows", name := "fails", desc := "(I)I" } : Jvm.MethodName)) ∈ lw_tbl := lw_at lw_m3 165 rfl
theorem q715 : (Jvm.Cond.instanceMethod ({ cls := "VineRows", name := "fails", desc := "(I)I" } : Jvm.MethodName)) ∈ lw_all := lw_g (lw_at lw_m3 166 rfl) rfl
theorem q716 : (Jvm.Cond.code ({ cls := "VineRows", name := "fails", desc := "(I)I" } : Jvm.MethodName) prog_1_method_55_code (2 : Nat) (Option.some Jvm.ClassFile.FieldType.int)) ∈ lw_all := lw_g (lw_at lw_m3 167 rfl) rfl
theorem q718 : (Jvm.Cond.instanceMethod ({ cls := "VineRows", name := "lose", desc := "(I)I" } : Jvm.MethodName)) ∈ lw_all := lw_g (lw_at lw_m3 169 rfl) rfl
theorem q719 : (Jvm.Cond.selects "VineRows" ({ cls := "VineRows", name := "lose", desc := "(I)I" } : Jvm.MethodName) ({ cls := "VineRows", name := "lose", desc := "(I)I" } : Jvm.MethodName)) ∈ lw_all := lw_g (lw_at lw_m3 170 rfl) rfl
theorem q720 : (Jvm.Cond.code ({ cls := "VineRows", name := "lose", desc := "(I)I" } : Jvm.MethodName) prog_1_method_64_code (3 : Nat) (Option.some Jvm.ClassFile.FieldType.int)) ∈ lw_all := lw_g (lw_at lw_m3 171 rfl) rfl
theorem q722 : (Jvm.Cond.instanceMethod ({ cls := "VineRows", name := "put", desc := "(III)I" } : Jvm.MethodName)) ∈ lw_all := lw_g (lw_at lw_m3 173 rfl) rfl
theorem q723 : (Jvm.Cond.selects "VineRows" ({ cls := "VineRows", name := "put", desc := "(III)I" } : Jvm.MethodName) ({ cls := "VineRows", name := "put", desc := "(III)I" } : Jvm.MethodName)) ∈ lw_all := lw_g (lw_at lw_m3 174 rfl) rfl
theorem q724 : (Jvm.Cond.codeWith ({ cls := "VineRows", name := "put", desc := "(III)I" } : Jvm.MethodName) prog_1_method_65_code (5 : Nat) (Option.some Jvm.ClassFile.FieldType.int) [((18 : Nat), (33 : Nat), (34 : Nat), (300 : Nat)), ((18 : Nat), (33 : Nat), (42 : Nat), (302 : Nat))]) ∈ lw_all := lw_g (lw_at lw_m3 175 rfl) rfl
theorem q725 : (Jvm.Cond.classLink "VineRows" (300 : Nat) "java/lang/NullPointerException") ∈ lw_all := lw_g (lw_at lw_m3 176 rfl) rfl
theorem q750 : (Jvm.Cond.classLink "VineRows" (302 : Nat) "java/lang/IndexOutOfBoundsException") ∈ lw_all := lw_g (lw_at lw_m3 201 rfl) rfl
theorem q769 : (Jvm.Cond.methodLink "VineRows" (296 : Nat) ({ cls := "VineRows", name := "setIn", desc := "(Ljava/lang/Object;II)V" } : Jvm.MethodName)) ∈ lw_all := lw_g (lw_at lw_m3 220 rfl) rfl
theorem q770 : (Jvm.Cond.static ({ cls := "VineRows", name := "setIn", desc := "(Ljava/lang/Object;II)V" } : Jvm.MethodName)) ∈ lw_all := lw_g (lw_at lw_m3 221 rfl) rfl
theorem q771 : (Jvm.Cond.code ({ cls := "VineRows", name := "setIn", desc := "(Ljava/lang/Object;II)V" } : Jvm.MethodName) prog_1_method_60_code (3 : Nat) (Option.none : Option Jvm.ClassFile.FieldType)) ∈ lw_all := lw_g (lw_at lw_m3 222 rfl) rfl
theorem q772 : (Jvm.Cond.classLink "VineRows" (267 : Nat) "[B") ∈ lw_all := lw_g (lw_at lw_m3 223 rfl) rfl
theorem q773 : (Jvm.Cond.classLink "VineRows" (269 : Nat) "[S") ∈ lw_all := lw_g (lw_at lw_m3 224 rfl) rfl
theorem q774 : (Jvm.Cond.classLink "VineRows" (271 : Nat) "[I") ∈ lw_all := lw_g (lw_at lw_m3 225 rfl) rfl
theorem q776 : (Jvm.Cond.instanceMethod ({ cls := "VineRows", name := "cell", desc := "(III)J" } : Jvm.MethodName)) ∈ lw_all := lw_g (lw_at lw_m3 227 rfl) rfl
theorem q777 : (Jvm.Cond.selects "VineRows" ({ cls := "VineRows", name := "cell", desc := "(III)J" } : Jvm.MethodName) ({ cls := "VineRows", name := "cell", desc := "(III)J" } : Jvm.MethodName)) ∈ lw_all := lw_g (lw_at lw_m3 228 rfl) rfl
theorem q778 : (Jvm.Cond.codeWith ({ cls := "VineRows", name := "cell", desc := "(III)J" } : Jvm.MethodName) prog_1_method_66_code (5 : Nat) (Option.some Jvm.ClassFile.FieldType.long) [((28 : Nat), (39 : Nat), (40 : Nat), (300 : Nat)), ((28 : Nat), (39 : Nat), (48 : Nat), (315 : Nat)), ((28 : Nat), (39 : Nat), (56 : Nat), (302 : Nat))]) ∈ lw_all := lw_g (lw_at lw_m3 229 rfl) rfl
theorem q779 : (Jvm.Cond.classLink "VineRows" (315 : Nat) "java/lang/ClassCastException") ∈ lw_all := lw_g (lw_at lw_m3 230 rfl) rfl
theorem q793 : (Jvm.Cond.methodLink "VineRows" (304 : Nat) ({ cls := "VineRows", name := "rowIn", desc := "(I)Ljava/lang/Object;" } : Jvm.MethodName)) ∈ lw_all := lw_g (lw_at lw_m4 4 rfl) rfl
theorem q794 : (Jvm.Cond.privateMethod ({ cls := "VineRows", name := "rowIn", desc := "(I)Ljava/lang/Object;" } : Jvm.MethodName)) ∈ lw_tbl := lw_at lw_m4 5 rfl
theorem q795 : (Jvm.Cond.instanceMethod ({ cls := "VineRows", name := "rowIn", desc := "(I)Ljava/lang/Object;" } : Jvm.MethodName)) ∈ lw_all := lw_g (lw_at lw_m4 6 rfl) rfl
theorem q796 : (Jvm.Cond.code ({ cls := "VineRows", name := "rowIn", desc := "(I)Ljava/lang/Object;" } : Jvm.MethodName) prog_1_method_62_code (2 : Nat) (Option.some (Jvm.ClassFile.FieldType.object "java/lang/Object"))) ∈ lw_all := lw_g (lw_at lw_m4 7 rfl) rfl
theorem q797 : (Jvm.Cond.methodLink "VineRows" (307 : Nat) ({ cls := "VineRows", name := "cellOf", desc := "(Ljava/lang/Object;II)I" } : Jvm.MethodName)) ∈ lw_all := lw_g (lw_at lw_m4 8 rfl) rfl
theorem q798 : (Jvm.Cond.static ({ cls := "VineRows", name := "cellOf", desc := "(Ljava/lang/Object;II)I" } : Jvm.MethodName)) ∈ lw_all := lw_g (lw_at lw_m4 9 rfl) rfl
theorem q799 : (Jvm.Cond.code ({ cls := "VineRows", name := "cellOf", desc := "(Ljava/lang/Object;II)I" } : Jvm.MethodName) prog_1_method_58_code (3 : Nat) (Option.some Jvm.ClassFile.FieldType.int)) ∈ lw_all := lw_g (lw_at lw_m4 10 rfl) rfl
theorem q800 : (Jvm.Cond.methodLink "VineRows" (311 : Nat) ({ cls := "VineRows", name := "failsLong", desc := "(I)J" } : Jvm.MethodName)) ∈ lw_all := lw_g (lw_at lw_m4 11 rfl) rfl
theorem q801 : (Jvm.Cond.privateMethod ({ cls := "VineRows", name := "failsLong", desc := "(I)J" } : Jvm.MethodName)) ∈ lw_tbl := lw_at lw_m4 12 rfl
theorem q802 : (Jvm.Cond.instanceMethod ({ cls := "VineRows", name := "failsLong", desc := "(I)J" } : Jvm.MethodName)) ∈ lw_all := lw_g (lw_at lw_m4 13 rfl) rfl
theorem q803 : (Jvm.Cond.code ({ cls := "VineRows", name := "failsLong", desc := "(I)J" } : Jvm.MethodName) prog_1_method_56_code (2 : Nat) (Option.some Jvm.ClassFile.FieldType.long)) ∈ lw_all := lw_g (lw_at lw_m4 14 rfl) rfl
theorem q805 : (Jvm.Cond.instanceMethod ({ cls := "VineRows", name := "vine", desc := "(IIII)I" } : Jvm.MethodName)) ∈ lw_all := lw_g (lw_at lw_m4 16 rfl) rfl
theorem q806 : (Jvm.Cond.selects "VineRows" ({ cls := "VineRows", name := "vine", desc := "(IIII)I" } : Jvm.MethodName) ({ cls := "VineRows", name := "vine", desc := "(IIII)I" } : Jvm.MethodName)) ∈ lw_all := lw_g (lw_at lw_m4 17 rfl) rfl
theorem q807 : (Jvm.Cond.code ({ cls := "VineRows", name := "vine", desc := "(IIII)I" } : Jvm.MethodName) prog_1_method_70_code (5 : Nat) (Option.some Jvm.ClassFile.FieldType.int)) ∈ lw_all := lw_g (lw_at lw_m4 18 rfl) rfl
theorem q808 : (Jvm.Cond.classLink "VineRows" (341 : Nat) "VineRows$Founding") ∈ lw_all := lw_g (lw_at lw_m4 19 rfl) rfl
theorem q810 : (Jvm.Cond.methodLink "VineRows" (343 : Nat) ({ cls := "VineRows$Founding", name := "<init>", desc := "(LVineRows;IIII)V" } : Jvm.MethodName)) ∈ lw_all := lw_g (lw_at lw_m4 21 rfl) rfl
theorem q822 : (Jvm.Cond.fieldLink "VineRows" (330 : Nat) "VineRows$Looking" "sheet" "I") ∈ lw_all := lw_g (lw_at lw_m4 33 rfl) rfl
theorem q824 : (Jvm.Cond.fieldLink "VineRows" (335 : Nat) "VineRows$Looking" "lane" "I") ∈ lw_all := lw_g (lw_at lw_m4 35 rfl) rfl
theorem q844 : (Jvm.Cond.methodLink "VineRows" (346 : Nat) ({ cls := "VineRows", name := "looked", desc := "(LVineRows$Looking;Z)I" } : Jvm.MethodName)) ∈ lw_all := lw_g (lw_at lw_m4 55 rfl) rfl
theorem q845 : (Jvm.Cond.privateMethod ({ cls := "VineRows", name := "looked", desc := "(LVineRows$Looking;Z)I" } : Jvm.MethodName)) ∈ lw_tbl := lw_at lw_m4 56 rfl
theorem q846 : (Jvm.Cond.instanceMethod ({ cls := "VineRows", name := "looked", desc := "(LVineRows$Looking;Z)I" } : Jvm.MethodName)) ∈ lw_all := lw_g (lw_at lw_m4 57 rfl) rfl
theorem q847 : (Jvm.Cond.code ({ cls := "VineRows", name := "looked", desc := "(LVineRows$Looking;Z)I" } : Jvm.MethodName) prog_1_method_69_code (3 : Nat) (Option.some Jvm.ClassFile.FieldType.int)) ∈ lw_all := lw_g (lw_at lw_m4 58 rfl) rfl
theorem q848 : (Jvm.Cond.methodLink "VineRows" (338 : Nat) ({ cls := "VineRows$Looking", name := "tried", desc := "()I" } : Jvm.MethodName)) ∈ lw_all := lw_g (lw_at lw_m4 59 rfl) rfl
theorem q886 : (Jvm.Cond.static ({ cls := "VineRows", name := "cellsOf", desc := "(Ljava/lang/Object;III)[I" } : Jvm.MethodName)) ∈ lw_all := lw_g (lw_at lw_m4 97 rfl) rfl
theorem q887 : (Jvm.Cond.code ({ cls := "VineRows", name := "cellsOf", desc := "(Ljava/lang/Object;III)[I" } : Jvm.MethodName) prog_1_method_68_code (8 : Nat) (Option.some (Jvm.ClassFile.FieldType.array Jvm.ClassFile.FieldType.int))) ∈ lw_all := lw_g (lw_at lw_m4 98 rfl) rfl
theorem q888 : (Jvm.Cond.methodLink "VineRows" (322 : Nat) ({ cls := "VineRows", name := "sizeOf", desc := "(Ljava/lang/Object;I)I" } : Jvm.MethodName)) ∈ lw_all := lw_g (lw_at lw_m4 99 rfl) rfl
theorem q889 : (Jvm.Cond.static ({ cls := "VineRows", name := "sizeOf", desc := "(Ljava/lang/Object;I)I" } : Jvm.MethodName)) ∈ lw_all := lw_g (lw_at lw_m4 100 rfl) rfl
theorem q890 : (Jvm.Cond.code ({ cls := "VineRows", name := "sizeOf", desc := "(Ljava/lang/Object;I)I" } : Jvm.MethodName) prog_1_method_59_code (2 : Nat) (Option.some Jvm.ClassFile.FieldType.int)) ∈ lw_all := lw_g (lw_at lw_m4 101 rfl) rfl
theorem q891 : (Jvm.Cond.methodLink "VineRows" (326 : Nat) ({ cls := "VineRows", name := "need", desc := "(Z)V" } : Jvm.MethodName)) ∈ lw_all := lw_g (lw_at lw_m4 102 rfl) rfl
theorem q892 : (Jvm.Cond.static ({ cls := "VineRows", name := "need", desc := "(Z)V" } : Jvm.MethodName)) ∈ lw_all := lw_g (lw_at lw_m4 103 rfl) rfl
theorem q893 : (Jvm.Cond.code ({ cls := "VineRows", name := "need", desc := "(Z)V" } : Jvm.MethodName) prog_1_method_67_code (1 : Nat) (Option.none : Option Jvm.ClassFile.FieldType)) ∈ lw_all := lw_g (lw_at lw_m4 104 rfl) rfl
theorem q902 : (Jvm.Cond.stringRef "VineRows" (317 : Nat) "not all there") ∈ lw_tbl := lw_at lw_m4 113 rfl
theorem q903 : (Jvm.Cond.methodLink "VineRows" (319 : Nat) ({ cls := "java/lang/IndexOutOfBoundsException", name := "<init>", desc := "(Ljava/lang/String;)V" } : Jvm.MethodName)) ∈ lw_all := lw_g (lw_at lw_m4 114 rfl) rfl
theorem q913 : (Jvm.Cond.privateMethod ({ cls := "VineRows", name := "newVine", desc := "([I)I" } : Jvm.MethodName)) ∈ lw_tbl := lw_at lw_m4 124 rfl
theorem q914 : (Jvm.Cond.instanceMethod ({ cls := "VineRows", name := "newVine", desc := "([I)I" } : Jvm.MethodName)) ∈ lw_all := lw_g (lw_at lw_m4 125 rfl) rfl
theorem q915 : (Jvm.Cond.code ({ cls := "VineRows", name := "newVine", desc := "([I)I" } : Jvm.MethodName) prog_1_method_14_code (8 : Nat) (Option.some Jvm.ClassFile.FieldType.int)) ∈ lw_all := lw_g (lw_at lw_m4 126 rfl) rfl
theorem q916 : (Jvm.Cond.methodLink "VineRows" (60 : Nat) ({ cls := "VineRows", name := "codeAt", desc := "([II)I" } : Jvm.MethodName)) ∈ lw_all := lw_g (lw_at lw_m4 127 rfl) rfl
theorem q917 : (Jvm.Cond.static ({ cls := "VineRows", name := "codeAt", desc := "([II)I" } : Jvm.MethodName)) ∈ lw_all := lw_g (lw_at lw_m4 128 rfl) rfl
theorem q918 : (Jvm.Cond.code ({ cls := "VineRows", name := "codeAt", desc := "([II)I" } : Jvm.MethodName) prog_1_method_8_code (2 : Nat) (Option.some Jvm.ClassFile.FieldType.int)) ∈ lw_all := lw_g (lw_at lw_m4 129 rfl) rfl
theorem q919 : (Jvm.Cond.methodLink "VineRows" (85 : Nat) ({ cls := "VineRows", name := "isFigure", desc := "([IIII)Z" } : Jvm.MethodName)) ∈ lw_all := lw_g (lw_at lw_m4 130 rfl) rfl
theorem q920 : (Jvm.Cond.static ({ cls := "VineRows", name := "isFigure", desc := "([IIII)Z" } : Jvm.MethodName)) ∈ lw_all := lw_g (lw_at lw_m4 131 rfl) rfl
theorem q921 : (Jvm.Cond.code ({ cls := "VineRows", name := "isFigure", desc := "([IIII)Z" } : Jvm.MethodName) prog_1_method_9_code (4 : Nat) (Option.some Jvm.ClassFile.FieldType.boolean)) ∈ lw_all := lw_g (lw_at lw_m4 132 rfl) rfl
theorem q922 : (Jvm.Cond.methodLink "VineRows" (89 : Nat) ({ cls := "VineRows", name := "figureAt", desc := "([II)I" } : Jvm.MethodName)) ∈ lw_all := lw_g (lw_at lw_m4 133 rfl) rfl
theorem q923 : (Jvm.Cond.static ({ cls := "VineRows", name := "figureAt", desc := "([II)I" } : Jvm.MethodName)) ∈ lw_all := lw_g (lw_at lw_m4 134 rfl) rfl
theorem q924 : (Jvm.Cond.code ({ cls := "VineRows", name := "figureAt", desc := "([II)I" } : Jvm.MethodName) prog_1_method_10_code (2 : Nat) (Option.some Jvm.ClassFile.FieldType.int)) ∈ lw_all := lw_g (lw_at lw_m4 135 rfl) rfl
theorem q925 : (Jvm.Cond.methodLink "VineRows" (92 : Nat) ({ cls := "java/util/ArrayList", name := "<init>", desc := "(I)V" } : Jvm.MethodName)) ∈ lw_all := lw_g (lw_at lw_m4 136 rfl) rfl
theorem q930 : (Jvm.Cond.interfaceEntry "VineRows" (103 : Nat)) ∈ lw_tbl := lw_at lw_m4 141 rfl
theorem q931 : (Jvm.Cond.methodLink "VineRows" (103 : Nat) ({ cls := "java/util/List", name := "clear", desc := "()V" } : Jvm.MethodName)) ∈ lw_all := lw_g (lw_at lw_m4 142 rfl) rfl
theorem q939 : (Jvm.Cond.interfaceEntry "VineRows" (106 : Nat)) ∈ lw_tbl := lw_at lw_m4 150 rfl
theorem q940 : (Jvm.Cond.methodLink "VineRows" (106 : Nat) ({ cls := "java/util/List", name := "addAll", desc := "(Ljava/util/Collection;)Z" } : Jvm.MethodName)) ∈ lw_all := lw_g (lw_at lw_m4 151 rfl) rfl
theorem q958 : (Jvm.Cond.methodLink "VineRows" (110 : Nat) ({ cls := "VineRows", name := "grows", desc := "([I)V" } : Jvm.MethodName)) ∈ lw_all := lw_g (lw_at lw_m4 169 rfl) rfl
theorem q959 : (Jvm.Cond.privateMethod ({ cls := "VineRows", name := "grows", desc := "([I)V" } : Jvm.MethodName)) ∈ lw_tbl := lw_at lw_m4 170 rfl
theorem q960 : (Jvm.Cond.instanceMethod ({ cls := "VineRows", name := "grows", desc := "([I)V" } : Jvm.MethodName)) ∈ lw_all := lw_g (lw_at lw_m4 171 rfl) rfl
theorem q961 : (Jvm.Cond.code ({ cls := "VineRows", name := "grows", desc := "([I)V" } : Jvm.MethodName) prog_1_method_13_code (6 : Nat) (Option.none : Option Jvm.ClassFile.FieldType)) ∈ lw_all := lw_g (lw_at lw_m4 172 rfl) rfl
theorem q966 : (Jvm.Cond.privateMethod ({ cls := "VineRows", name := "pairsBarred", desc := "([I)I" } : Jvm.MethodName)) ∈ lw_tbl := lw_at lw_m4 177 rfl
theorem q967 : (Jvm.Cond.instanceMethod ({ cls := "VineRows", name := "pairsBarred", desc := "([I)I" } : Jvm.MethodName)) ∈ lw_all := lw_g (lw_at lw_m4 178 rfl) rfl
theorem q968 : (Jvm.Cond.code ({ cls := "VineRows", name := "pairsBarred", desc := "([I)I" } : Jvm.MethodName) prog_1_method_24_code (5 : Nat) (Option.some Jvm.ClassFile.FieldType.int)) ∈ lw_all := lw_g (lw_at lw_m4 179 rfl) rfl
theorem q969 : (Jvm.Cond.constantLong "VineRows" (165 : Nat) (10 : Int64)) ∈ lw_all := lw_g (lw_at lw_m4 180 rfl) rfl
theorem q970 : (Jvm.Cond.constantLong "VineRows" (167 : Nat) (17 : Int64)) ∈ lw_all := lw_g (lw_at lw_m4 181 rfl) rfl
theorem q972 : (Jvm.Cond.privateMethod ({ cls := "VineRows", name := "dayBy", desc := "([II)I" } : Jvm.MethodName)) ∈ lw_tbl := lw_at lw_m4 183 rfl
theorem q973 : (Jvm.Cond.instanceMethod ({ cls := "VineRows", name := "dayBy", desc := "([II)I" } : Jvm.MethodName)) ∈ lw_all := lw_g (lw_at lw_m4 184 rfl) rfl
theorem q974 : (Jvm.Cond.code ({ cls := "VineRows", name := "dayBy", desc := "([II)I" } : Jvm.MethodName) prog_1_method_31_code (5 : Nat) (Option.some Jvm.ClassFile.FieldType.int)) ∈ lw_all := lw_g (lw_at lw_m4 185 rfl) rfl
theorem q975 : (Jvm.Cond.methodLink "VineRows" (188 : Nat) ({ cls := "VineRows$Plain", name := "kept", desc := "()V" } : Jvm.MethodName)) ∈ lw_all := lw_g (lw_at lw_m4 186 rfl) rfl
theorem q982 : (Jvm.Cond.methodLink "VineRows" (191 : Nat) ({ cls := "VineRows", name := "dayOf", desc := "([II)I" } : Jvm.MethodName)) ∈ lw_all := lw_g (lw_at lw_m4 193 rfl) rfl
theorem q983 : (Jvm.Cond.privateMethod ({ cls := "VineRows", name := "dayOf", desc := "([II)I" } : Jvm.MethodName)) ∈ lw_tbl := lw_at lw_m4 194 rfl
theorem q984 : (Jvm.Cond.instanceMethod ({ cls := "VineRows", name := "dayOf", desc := "([II)I" } : Jvm.MethodName)) ∈ lw_all := lw_g (lw_at lw_m4 195 rfl) rfl
theorem q985 : (Jvm.Cond.code ({ cls := "VineRows", name := "dayOf", desc := "([II)I" } : Jvm.MethodName) prog_1_method_30_code (5 : Nat) (Option.some Jvm.ClassFile.FieldType.int)) ∈ lw_all := lw_g (lw_at lw_m4 196 rfl) rfl
theorem q986 : (Jvm.Cond.methodLink "VineRows" (173 : Nat) ({ cls := "VineRows", name := "did", desc := "(II)Z" } : Jvm.MethodName)) ∈ lw_all := lw_g (lw_at lw_m4 197 rfl) rfl
theorem q987 : (Jvm.Cond.privateMethod ({ cls := "VineRows", name := "did", desc := "(II)Z" } : Jvm.MethodName)) ∈ lw_tbl := lw_at lw_m4 198 rfl
theorem q988 : (Jvm.Cond.instanceMethod ({ cls := "VineRows", name := "did", desc := "(II)Z" } : Jvm.MethodName)) ∈ lw_all := lw_g (lw_at lw_m4 199 rfl) rfl
theorem q989 : (Jvm.Cond.code ({ cls := "VineRows", name := "did", desc := "(II)Z" } : Jvm.MethodName) prog_1_method_25_code (3 : Nat) (Option.some Jvm.ClassFile.FieldType.boolean)) ∈ lw_all := lw_g (lw_at lw_m4 200 rfl) rfl
theorem q990 : (Jvm.Cond.methodLink "VineRows" (171 : Nat) ({ cls := "VineRows", name := "load", desc := "(II)I" } : Jvm.MethodName)) ∈ lw_all := lw_g (lw_at lw_m4 201 rfl) rfl
theorem q991 : (Jvm.Cond.methodLink "VineRows" (182 : Nat) ({ cls := "VineRows", name := "leaves", desc := "()I" } : Jvm.MethodName)) ∈ lw_all := lw_g (lw_at lw_m4 202 rfl) rfl
theorem q992 : (Jvm.Cond.privateMethod ({ cls := "VineRows", name := "leaves", desc := "()I" } : Jvm.MethodName)) ∈ lw_tbl := lw_at lw_m4 203 rfl
theorem q993 : (Jvm.Cond.instanceMethod ({ cls := "VineRows", name := "leaves", desc := "()I" } : Jvm.MethodName)) ∈ lw_all := lw_g (lw_at lw_m4 204 rfl) rfl
theorem q994 : (Jvm.Cond.code ({ cls := "VineRows", name := "leaves", desc := "()I" } : Jvm.MethodName) prog_1_method_26_code (3 : Nat) (Option.some Jvm.ClassFile.FieldType.int)) ∈ lw_all := lw_g (lw_at lw_m4 205 rfl) rfl
theorem q995 : (Jvm.Cond.methodLink "VineRows" (194 : Nat) ({ cls := "VineRows$Plain", name := "broughtBack", desc := "()V" } : Jvm.MethodName)) ∈ lw_all := lw_g (lw_at lw_m4 206 rfl) rfl
theorem q1010 : (Jvm.Cond.instanceMethod ({ cls := "VineRows", name := "day", desc := "(IIIII)I" } : Jvm.MethodName)) ∈ lw_all := lw_g (lw_at lw_m4 221 rfl) rfl
theorem q1011 : (Jvm.Cond.selects "VineRows" ({ cls := "VineRows", name := "day", desc := "(IIIII)I" } : Jvm.MethodName) ({ cls := "VineRows", name := "day", desc := "(IIIII)I" } : Jvm.MethodName)) ∈ lw_all := lw_g (lw_at lw_m4 222 rfl) rfl
theorem q1012 : (Jvm.Cond.code ({ cls := "VineRows", name := "day", desc := "(IIIII)I" } : Jvm.MethodName) prog_1_method_71_code (7 : Nat) (Option.some Jvm.ClassFile.FieldType.int)) ∈ lw_all := lw_g (lw_at lw_m4 223 rfl) rfl
theorem q1013 : (Jvm.Cond.constantLong "VineRows" (350 : Nat) (20 : Int64)) ∈ lw_all := lw_g (lw_at lw_m4 224 rfl) rfl
theorem q1014 : (Jvm.Cond.constantLong "VineRows" (352 : Nat) (4 : Int64)) ∈ lw_all := lw_g (lw_at lw_m4 225 rfl) rfl
theorem q1015 : (Jvm.Cond.classLink "VineRows" (354 : Nat) "VineRows$Telling") ∈ lw_all := lw_g (lw_at lw_m4 226 rfl) rfl
theorem q1017 : (Jvm.Cond.methodLink "VineRows" (356 : Nat) ({ cls := "VineRows$Telling", name := "<init>", desc := "(LVineRows;IIIII)V" } : Jvm.MethodName)) ∈ lw_all := lw_g (lw_at lw_m4 228 rfl) rfl
theorem q1035 : (Jvm.Cond.instanceMethod ({ cls := "VineRows", name := "copy", desc := "(IIIII)I" } : Jvm.MethodName)) ∈ lw_all := lw_g (lw_at lw_m5 6 rfl) rfl
theorem q1036 : (Jvm.Cond.selects "VineRows" ({ cls := "VineRows", name := "copy", desc := "(IIIII)I" } : Jvm.MethodName) ({ cls := "VineRows", name := "copy", desc := "(IIIII)I" } : Jvm.MethodName)) ∈ lw_all := lw_g (lw_at lw_m5 7 rfl) rfl
theorem q1037 : (Jvm.Cond.code ({ cls := "VineRows", name := "copy", desc := "(IIIII)I" } : Jvm.MethodName) prog_1_method_72_code (6 : Nat) (Option.some Jvm.ClassFile.FieldType.int)) ∈ lw_all := lw_g (lw_at lw_m5 8 rfl) rfl
theorem q1038 : (Jvm.Cond.classLink "VineRows" (359 : Nat) "VineRows$Copying") ∈ lw_all := lw_g (lw_at lw_m5 9 rfl) rfl
theorem q1040 : (Jvm.Cond.methodLink "VineRows" (361 : Nat) ({ cls := "VineRows$Copying", name := "<init>", desc := "(LVineRows;IIIII)V" } : Jvm.MethodName)) ∈ lw_all := lw_g (lw_at lw_m5 11 rfl) rfl
theorem q1064 : (Jvm.Cond.methodLink "VineRows" (362 : Nat) ({ cls := "VineRows$Copying", name := "tried", desc := "()I" } : Jvm.MethodName)) ∈ lw_all := lw_g (lw_at lw_m5 35 rfl) rfl
theorem q1068 : (Jvm.Cond.instanceMethod ({ cls := "VineRows", name := "tell", desc := "(I)I" } : Jvm.MethodName)) ∈ lw_all := lw_g (lw_at lw_m5 39 rfl) rfl
theorem q1069 : (Jvm.Cond.selects "VineRows" ({ cls := "VineRows", name := "tell", desc := "(I)I" } : Jvm.MethodName) ({ cls := "VineRows", name := "tell", desc := "(I)I" } : Jvm.MethodName)) ∈ lw_all := lw_g (lw_at lw_m5 40 rfl) rfl
theorem q1070 : (Jvm.Cond.code ({ cls := "VineRows", name := "tell", desc := "(I)I" } : Jvm.MethodName) prog_1_method_73_code (2 : Nat) (Option.some Jvm.ClassFile.FieldType.int)) ∈ lw_all := lw_g (lw_at lw_m5 41 rfl) rfl
theorem q1071 : (Jvm.Cond.methodLink "VineRows" (363 : Nat) ({ cls := "VineRows$Plain", name := "said", desc := "()I" } : Jvm.MethodName)) ∈ lw_all := lw_g (lw_at lw_m5 42 rfl) rfl
theorem q1102 : (Jvm.Cond.instanceMethod ({ cls := "VineRows", name := "knock", desc := "(I)I" } : Jvm.MethodName)) ∈ lw_all := lw_g (lw_at lw_m5 73 rfl) rfl
theorem q1103 : (Jvm.Cond.selects "VineRows" ({ cls := "VineRows", name := "knock", desc := "(I)I" } : Jvm.MethodName) ({ cls := "VineRows", name := "knock", desc := "(I)I" } : Jvm.MethodName)) ∈ lw_all := lw_g (lw_at lw_m5 74 rfl) rfl
theorem q1104 : (Jvm.Cond.code ({ cls := "VineRows", name := "knock", desc := "(I)I" } : Jvm.MethodName) prog_1_method_74_code (3 : Nat) (Option.some Jvm.ClassFile.FieldType.int)) ∈ lw_all := lw_g (lw_at lw_m5 75 rfl) rfl
theorem q1105 : (Jvm.Cond.classLink "VineRows" (366 : Nat) "VineRows$Knocked") ∈ lw_all := lw_g (lw_at lw_m5 76 rfl) rfl
theorem q1106 : (Jvm.Cond.interfaceEntry "VineRows" (368 : Nat)) ∈ lw_tbl := lw_at lw_m5 77 rfl
theorem q1107 : (Jvm.Cond.methodLink "VineRows" (368 : Nat) ({ cls := "VineRows$Knocked", name := "knocked", desc := "()I" } : Jvm.MethodName)) ∈ lw_all := lw_g (lw_at lw_m5 78 rfl) rfl
theorem q1149 : (Jvm.Cond.instanceMethod ({ cls := "VineRows", name := "as", desc := "(II)I" } : Jvm.MethodName)) ∈ lw_all := lw_g (lw_at lw_m5 120 rfl) rfl
theorem q1150 : (Jvm.Cond.selects "VineRows" ({ cls := "VineRows", name := "as", desc := "(II)I" } : Jvm.MethodName) ({ cls := "VineRows", name := "as", desc := "(II)I" } : Jvm.MethodName)) ∈ lw_all := lw_g (lw_at lw_m5 121 rfl) rfl
theorem q1151 : (Jvm.Cond.code ({ cls := "VineRows", name := "as", desc := "(II)I" } : Jvm.MethodName) prog_1_method_75_code (3 : Nat) (Option.some Jvm.ClassFile.FieldType.int)) ∈ lw_all := lw_g (lw_at lw_m5 122 rfl) rfl
theorem q1152 : (Jvm.Cond.classLink "VineRows" (371 : Nat) "VineRows$Taking") ∈ lw_all := lw_g (lw_at lw_m5 123 rfl) rfl
theorem q1154 : (Jvm.Cond.methodLink "VineRows" (373 : Nat) ({ cls := "VineRows$Taking", name := "<init>", desc := "(LVineRows;LVineRows$Plain;I)V" } : Jvm.MethodName)) ∈ lw_all := lw_g (lw_at lw_m5 125 rfl) rfl
theorem q1169 : (Jvm.Cond.methodLink "VineRows" (376 : Nat) ({ cls := "VineRows$Taking", name := "tried", desc := "()I" } : Jvm.MethodName)) ∈ lw_all := lw_g (lw_at lw_m5 140 rfl) rfl
theorem q1173 : (Jvm.Cond.instanceMethod ({ cls := "VineRows", name := "trace", desc := "()I" } : Jvm.MethodName)) ∈ lw_all := lw_g (lw_at lw_m5 144 rfl) rfl
theorem q1174 : (Jvm.Cond.selects "VineRows" ({ cls := "VineRows", name := "trace", desc := "()I" } : Jvm.MethodName) ({ cls := "VineRows", name := "trace", desc := "()I" } : Jvm.MethodName)) ∈ lw_all := lw_g (lw_at lw_m5 145 rfl) rfl
theorem q1175 : (Jvm.Cond.code ({ cls := "VineRows", name := "trace", desc := "()I" } : Jvm.MethodName) prog_1_method_76_code (1 : Nat) (Option.some Jvm.ClassFile.FieldType.int)) ∈ lw_all := lw_g (lw_at lw_m5 146 rfl) rfl
theorem q1177 : (Jvm.Cond.instanceMethod ({ cls := "VineRows", name := "fault", desc := "()I" } : Jvm.MethodName)) ∈ lw_all := lw_g (lw_at lw_m5 148 rfl) rfl
theorem q1178 : (Jvm.Cond.selects "VineRows" ({ cls := "VineRows", name := "fault", desc := "()I" } : Jvm.MethodName) ({ cls := "VineRows", name := "fault", desc := "()I" } : Jvm.MethodName)) ∈ lw_all := lw_g (lw_at lw_m5 149 rfl) rfl
theorem q1179 : (Jvm.Cond.code ({ cls := "VineRows", name := "fault", desc := "()I" } : Jvm.MethodName) prog_1_method_77_code (1 : Nat) (Option.some Jvm.ClassFile.FieldType.int)) ∈ lw_all := lw_g (lw_at lw_m5 150 rfl) rfl
theorem q1181 : (Jvm.Cond.instanceMethod ({ cls := "VineRows", name := "many", desc := "(I)I" } : Jvm.MethodName)) ∈ lw_all := lw_g (lw_at lw_m5 152 rfl) rfl
theorem q1182 : (Jvm.Cond.selects "VineRows" ({ cls := "VineRows", name := "many", desc := "(I)I" } : Jvm.MethodName) ({ cls := "VineRows", name := "many", desc := "(I)I" } : Jvm.MethodName)) ∈ lw_all := lw_g (lw_at lw_m5 153 rfl) rfl
theorem q1183 : (Jvm.Cond.code ({ cls := "VineRows", name := "many", desc := "(I)I" } : Jvm.MethodName) prog_1_method_78_code (2 : Nat) (Option.some Jvm.ClassFile.FieldType.int)) ∈ lw_all := lw_g (lw_at lw_m5 154 rfl) rfl
theorem q1547 : (Jvm.Cond.castable "VineRows" "java/lang/Object") ∈ lw_tbl := lw_at lw_m7 38 rfl
theorem in_X0 : ∀ w ∈ wsX00, w ∈ lw_all := lw_in wsX00 [148, 150, 152, 154, 156, 158, 160] (by decide +kernel) (by decide +kernel)
