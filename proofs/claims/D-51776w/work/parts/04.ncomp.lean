/-! FlagLaundry -/
set_option maxRecDepth 100000
def RX1 : String := "FlagLaundry"
def TX1 : u_T := fun k => match k with
  | 0 => ("FlagLaundry", "buffer", "[B", true)
  | 1 => ("FlagLaundry", "buffered", "I", false)
  | 2 => ("FlagLaundry", "parseError", "I", false)
  | 3 => ("FlagLaundry", "errorPosition", "I", false)
  | 4 => ("FlagLaundry", "now", "LFlagLaundry$World;", false)
  | 5 => ("FlagLaundry", "past", "Ljava/util/ArrayDeque;", true)
  | 6 => ("FlagLaundry", "saved", "[LFlagLaundry$World;", true)
  | _ => ("FlagLaundry", "output", "Ljava/lang/StringBuilder;", true)
def tyX1 : Nat → FieldType := fun k => match k with
  | 0 => .array .byte
  | 1 => .int
  | 2 => .int
  | 3 => .int
  | 4 => .object "FlagLaundry$World"
  | 5 => .object "java/util/ArrayDeque"
  | 6 => .array (.object "FlagLaundry$World")
  | _ => .object "java/lang/StringBuilder"
abbrev wsX10 : List Cond := u_ws RX1 TX1 8
theorem nmX1 : ∀ a, a < 8 → ∀ b, b < 8 → a ≠ b → (TX1 a).2.1 ≠ (TX1 b).2.1 := by decide +kernel
theorem tyX1_ok : ∀ k, k < 8 → parseFieldDescriptor (TX1 k).2.2.1 = some (tyX1 k) := by decide +kernel
abbrev cX1_init : ByteArray := prog_1_method_12_code
def yX1_init : MethodName := ⟨RX1, "<init>", "()V"⟩
def dkwX1_init_2 : List UInt8 := [181, 0, 86, 177]
abbrev dktX1_init_2 : List UInt8 := dkwX1_init_2 ++ []
def dkwX1_init_1 : List UInt8 := [183, 0, 74, 181, 0, 75, 42, 5, 189, 0, 29, 181, 0, 79, 42, 187, 0, 83, 89, 183, 0, 85]
abbrev dktX1_init_1 : List UInt8 := dkwX1_init_1 ++ dktX1_init_2
def dkwX1_init_0 : List UInt8 := [42, 183, 0, 59, 42, 17, 1, 244, 188, 8, 181, 0, 65, 42, 2, 181, 0, 69, 42, 187, 0, 72, 89]
abbrev dktX1_init_0 : List UInt8 := dkwX1_init_0 ++ dktX1_init_1
theorem dksX1_init_0 : cX1_init.data.toList.drop 0 = dktX1_init_0 := by decide +kernel
theorem dksX1_init_1 : cX1_init.data.toList.drop 23 = dktX1_init_1 := dk_seg dksX1_init_0 23 rfl rfl
theorem dksX1_init_2 : cX1_init.data.toList.drop 45 = dktX1_init_2 := dk_seg dksX1_init_1 22 rfl rfl
theorem dX1_init_0 : decode cX1_init 0 = .ok (.aload_n 0, 1) := dk_42 (dk_at dksX1_init_0 0 rfl rfl)
theorem dX1_init_1 : decode cX1_init 1 = .ok (.invokespecial 59, 3) := dk_183 0 59 (dk_at dksX1_init_0 1 rfl rfl)
theorem dX1_init_4 : decode cX1_init 4 = .ok (.aload_n 0, 1) := dk_42 (dk_at dksX1_init_0 4 rfl rfl)
theorem dX1_init_5 : decode cX1_init 5 = .ok (.sipush 500, 3) := dk_17 1 244 (dk_at dksX1_init_0 5 rfl rfl)
theorem dX1_init_8 : decode cX1_init 8 = .ok (.newarray .byte, 2) := dk_188_8 (dk_at dksX1_init_0 8 rfl rfl)
theorem dX1_init_10 : decode cX1_init 10 = .ok (.putfield 65, 3) := dk_181 0 65 (dk_at dksX1_init_0 10 rfl rfl)
theorem dX1_init_13 : decode cX1_init 13 = .ok (.aload_n 0, 1) := dk_42 (dk_at dksX1_init_0 13 rfl rfl)
theorem dX1_init_14 : decode cX1_init 14 = .ok (.iconst (-1), 1) := dk_2 (dk_at dksX1_init_0 14 rfl rfl)
theorem dX1_init_15 : decode cX1_init 15 = .ok (.putfield 69, 3) := dk_181 0 69 (dk_at dksX1_init_0 15 rfl rfl)
theorem dX1_init_18 : decode cX1_init 18 = .ok (.aload_n 0, 1) := dk_42 (dk_at dksX1_init_0 18 rfl rfl)
theorem dX1_init_19 : decode cX1_init 19 = .ok (.new 72, 3) := dk_187 0 72 (dk_at dksX1_init_0 19 rfl rfl)
theorem dX1_init_22 : decode cX1_init 22 = .ok (.dup, 1) := dk_89 (dk_at dksX1_init_0 22 rfl rfl)
theorem dX1_init_23 : decode cX1_init 23 = .ok (.invokespecial 74, 3) := dk_183 0 74 (dk_at dksX1_init_1 0 rfl rfl)
theorem dX1_init_26 : decode cX1_init 26 = .ok (.putfield 75, 3) := dk_181 0 75 (dk_at dksX1_init_1 3 rfl rfl)
theorem dX1_init_29 : decode cX1_init 29 = .ok (.aload_n 0, 1) := dk_42 (dk_at dksX1_init_1 6 rfl rfl)
theorem dX1_init_30 : decode cX1_init 30 = .ok (.iconst 2, 1) := dk_5 (dk_at dksX1_init_1 7 rfl rfl)
theorem dX1_init_31 : decode cX1_init 31 = .ok (.anewarray 29, 3) := dk_189 0 29 (dk_at dksX1_init_1 8 rfl rfl)
theorem dX1_init_34 : decode cX1_init 34 = .ok (.putfield 79, 3) := dk_181 0 79 (dk_at dksX1_init_1 11 rfl rfl)
theorem dX1_init_37 : decode cX1_init 37 = .ok (.aload_n 0, 1) := dk_42 (dk_at dksX1_init_1 14 rfl rfl)
theorem dX1_init_38 : decode cX1_init 38 = .ok (.new 83, 3) := dk_187 0 83 (dk_at dksX1_init_1 15 rfl rfl)
theorem dX1_init_41 : decode cX1_init 41 = .ok (.dup, 1) := dk_89 (dk_at dksX1_init_1 18 rfl rfl)
theorem dX1_init_42 : decode cX1_init 42 = .ok (.invokespecial 85, 3) := dk_183 0 85 (dk_at dksX1_init_1 19 rfl rfl)
theorem dX1_init_45 : decode cX1_init 45 = .ok (.putfield 86, 3) := dk_181 0 86 (dk_at dksX1_init_2 0 rfl rfl)
theorem dX1_init_48 : decode cX1_init 48 = .ok (.return_, 1) := dk_177 (dk_at dksX1_init_2 3 rfl rfl)
abbrev cX1_append : ByteArray := prog_1_method_25_code
def yX1_append : MethodName := ⟨RX1, "append", "(IIIII)I"⟩
def dkwX1_append_4 : List UInt8 := [96, 181, 0, 167, 132, 10, 248, 167, 255, 223, 132, 8, 1, 167, 255, 199, 42, 180, 0, 167, 172]
abbrev dktX1_append_4 : List UInt8 := dkwX1_append_4 ++ []
def dkwX1_append_3 : List UInt8 := [155, 0, 34, 42, 180, 0, 65, 42, 180, 0, 167, 21, 9, 21, 10, 122, 145, 84, 42, 89, 180, 0, 167, 4]
abbrev dktX1_append_3 : List UInt8 := dkwX1_append_3 ++ dktX1_append_4
def dkwX1_append_2 : List UInt8 := [54, 8, 21, 8, 21, 7, 162, 0, 56, 25, 6, 21, 8, 46, 54, 9, 16, 24, 54, 10, 21, 10]
abbrev dktX1_append_2 : List UInt8 := dkwX1_append_2 ++ dktX1_append_3
def dkwX1_append_1 : List UInt8 := [28, 79, 89, 5, 29, 79, 89, 6, 21, 4, 79, 89, 7, 21, 5, 79, 58, 6, 25, 6, 190, 54, 7, 3]
abbrev dktX1_append_1 : List UInt8 := dkwX1_append_1 ++ dktX1_append_2
def dkwX1_append_0 : List UInt8 := [42, 180, 0, 167, 16, 20, 96, 17, 1, 244, 164, 0, 5, 2, 172, 8, 188, 10, 89, 3, 27, 79, 89, 4]
abbrev dktX1_append_0 : List UInt8 := dkwX1_append_0 ++ dktX1_append_1
theorem dksX1_append_0 : cX1_append.data.toList.drop 0 = dktX1_append_0 := by decide +kernel
theorem dksX1_append_1 : cX1_append.data.toList.drop 24 = dktX1_append_1 := dk_seg dksX1_append_0 24 rfl rfl
theorem dksX1_append_2 : cX1_append.data.toList.drop 48 = dktX1_append_2 := dk_seg dksX1_append_1 24 rfl rfl
theorem dksX1_append_3 : cX1_append.data.toList.drop 70 = dktX1_append_3 := dk_seg dksX1_append_2 22 rfl rfl
theorem dksX1_append_4 : cX1_append.data.toList.drop 94 = dktX1_append_4 := dk_seg dksX1_append_3 24 rfl rfl
theorem dX1_append_0 : decode cX1_append 0 = .ok (.aload_n 0, 1) := dk_42 (dk_at dksX1_append_0 0 rfl rfl)
theorem dX1_append_1 : decode cX1_append 1 = .ok (.getfield 167, 3) := dk_180 0 167 (dk_at dksX1_append_0 1 rfl rfl)
theorem dX1_append_4 : decode cX1_append 4 = .ok (.bipush 20, 2) := dk_16 20 (dk_at dksX1_append_0 4 rfl rfl)
theorem dX1_append_6 : decode cX1_append 6 = .ok (.iadd, 1) := dk_96 (dk_at dksX1_append_0 6 rfl rfl)
theorem dX1_append_7 : decode cX1_append 7 = .ok (.sipush 500, 3) := dk_17 1 244 (dk_at dksX1_append_0 7 rfl rfl)
theorem dX1_append_10 : decode cX1_append 10 = .ok (.if_icmp .le 5, 3) := dk_164 0 5 (dk_at dksX1_append_0 10 rfl rfl)
theorem dX1_append_13 : decode cX1_append 13 = .ok (.iconst (-1), 1) := dk_2 (dk_at dksX1_append_0 13 rfl rfl)
theorem dX1_append_14 : decode cX1_append 14 = .ok (.ireturn, 1) := dk_172 (dk_at dksX1_append_0 14 rfl rfl)
theorem dX1_append_15 : decode cX1_append 15 = .ok (.iconst 5, 1) := dk_8 (dk_at dksX1_append_0 15 rfl rfl)
theorem dX1_append_16 : decode cX1_append 16 = .ok (.newarray .int, 2) := dk_188_10 (dk_at dksX1_append_0 16 rfl rfl)
theorem dX1_append_18 : decode cX1_append 18 = .ok (.dup, 1) := dk_89 (dk_at dksX1_append_0 18 rfl rfl)
theorem dX1_append_19 : decode cX1_append 19 = .ok (.iconst 0, 1) := dk_3 (dk_at dksX1_append_0 19 rfl rfl)
theorem dX1_append_20 : decode cX1_append 20 = .ok (.iload_n 1, 1) := dk_27 (dk_at dksX1_append_0 20 rfl rfl)
theorem dX1_append_21 : decode cX1_append 21 = .ok (.iastore, 1) := dk_79 (dk_at dksX1_append_0 21 rfl rfl)
theorem dX1_append_22 : decode cX1_append 22 = .ok (.dup, 1) := dk_89 (dk_at dksX1_append_0 22 rfl rfl)
theorem dX1_append_23 : decode cX1_append 23 = .ok (.iconst 1, 1) := dk_4 (dk_at dksX1_append_0 23 rfl rfl)
theorem dX1_append_24 : decode cX1_append 24 = .ok (.iload_n 2, 1) := dk_28 (dk_at dksX1_append_1 0 rfl rfl)
theorem dX1_append_25 : decode cX1_append 25 = .ok (.iastore, 1) := dk_79 (dk_at dksX1_append_1 1 rfl rfl)
theorem dX1_append_26 : decode cX1_append 26 = .ok (.dup, 1) := dk_89 (dk_at dksX1_append_1 2 rfl rfl)
theorem dX1_append_27 : decode cX1_append 27 = .ok (.iconst 2, 1) := dk_5 (dk_at dksX1_append_1 3 rfl rfl)
theorem dX1_append_28 : decode cX1_append 28 = .ok (.iload_n 3, 1) := dk_29 (dk_at dksX1_append_1 4 rfl rfl)
theorem dX1_append_29 : decode cX1_append 29 = .ok (.iastore, 1) := dk_79 (dk_at dksX1_append_1 5 rfl rfl)
theorem dX1_append_30 : decode cX1_append 30 = .ok (.dup, 1) := dk_89 (dk_at dksX1_append_1 6 rfl rfl)
theorem dX1_append_31 : decode cX1_append 31 = .ok (.iconst 3, 1) := dk_6 (dk_at dksX1_append_1 7 rfl rfl)
theorem dX1_append_32 : decode cX1_append 32 = .ok (.iload 4, 2) := dk_21 4 (dk_at dksX1_append_1 8 rfl rfl)
theorem dX1_append_34 : decode cX1_append 34 = .ok (.iastore, 1) := dk_79 (dk_at dksX1_append_1 10 rfl rfl)
theorem dX1_append_35 : decode cX1_append 35 = .ok (.dup, 1) := dk_89 (dk_at dksX1_append_1 11 rfl rfl)
theorem dX1_append_36 : decode cX1_append 36 = .ok (.iconst 4, 1) := dk_7 (dk_at dksX1_append_1 12 rfl rfl)
theorem dX1_append_37 : decode cX1_append 37 = .ok (.iload 5, 2) := dk_21 5 (dk_at dksX1_append_1 13 rfl rfl)
theorem dX1_append_39 : decode cX1_append 39 = .ok (.iastore, 1) := dk_79 (dk_at dksX1_append_1 15 rfl rfl)
theorem dX1_append_40 : decode cX1_append 40 = .ok (.astore 6, 2) := dk_58 6 (dk_at dksX1_append_1 16 rfl rfl)
theorem dX1_append_42 : decode cX1_append 42 = .ok (.aload 6, 2) := dk_25 6 (dk_at dksX1_append_1 18 rfl rfl)
theorem dX1_append_44 : decode cX1_append 44 = .ok (.arraylength, 1) := dk_190 (dk_at dksX1_append_1 20 rfl rfl)
theorem dX1_append_45 : decode cX1_append 45 = .ok (.istore 7, 2) := dk_54 7 (dk_at dksX1_append_1 21 rfl rfl)
theorem dX1_append_47 : decode cX1_append 47 = .ok (.iconst 0, 1) := dk_3 (dk_at dksX1_append_1 23 rfl rfl)
theorem dX1_append_48 : decode cX1_append 48 = .ok (.istore 8, 2) := dk_54 8 (dk_at dksX1_append_2 0 rfl rfl)
theorem dX1_append_50 : decode cX1_append 50 = .ok (.iload 8, 2) := dk_21 8 (dk_at dksX1_append_2 2 rfl rfl)
theorem dX1_append_52 : decode cX1_append 52 = .ok (.iload 7, 2) := dk_21 7 (dk_at dksX1_append_2 4 rfl rfl)
theorem dX1_append_54 : decode cX1_append 54 = .ok (.if_icmp .ge 56, 3) := dk_162 0 56 (dk_at dksX1_append_2 6 rfl rfl)
theorem dX1_append_57 : decode cX1_append 57 = .ok (.aload 6, 2) := dk_25 6 (dk_at dksX1_append_2 9 rfl rfl)
theorem dX1_append_59 : decode cX1_append 59 = .ok (.iload 8, 2) := dk_21 8 (dk_at dksX1_append_2 11 rfl rfl)
theorem dX1_append_61 : decode cX1_append 61 = .ok (.iaload, 1) := dk_46 (dk_at dksX1_append_2 13 rfl rfl)
theorem dX1_append_62 : decode cX1_append 62 = .ok (.istore 9, 2) := dk_54 9 (dk_at dksX1_append_2 14 rfl rfl)
theorem dX1_append_64 : decode cX1_append 64 = .ok (.bipush 24, 2) := dk_16 24 (dk_at dksX1_append_2 16 rfl rfl)
theorem dX1_append_66 : decode cX1_append 66 = .ok (.istore 10, 2) := dk_54 10 (dk_at dksX1_append_2 18 rfl rfl)
theorem dX1_append_68 : decode cX1_append 68 = .ok (.iload 10, 2) := dk_21 10 (dk_at dksX1_append_2 20 rfl rfl)
theorem dX1_append_70 : decode cX1_append 70 = .ok (.ifCond .lt 34, 3) := dk_155 0 34 (dk_at dksX1_append_3 0 rfl rfl)
theorem dX1_append_73 : decode cX1_append 73 = .ok (.aload_n 0, 1) := dk_42 (dk_at dksX1_append_3 3 rfl rfl)
theorem dX1_append_74 : decode cX1_append 74 = .ok (.getfield 65, 3) := dk_180 0 65 (dk_at dksX1_append_3 4 rfl rfl)
theorem dX1_append_77 : decode cX1_append 77 = .ok (.aload_n 0, 1) := dk_42 (dk_at dksX1_append_3 7 rfl rfl)
theorem dX1_append_78 : decode cX1_append 78 = .ok (.getfield 167, 3) := dk_180 0 167 (dk_at dksX1_append_3 8 rfl rfl)
theorem dX1_append_81 : decode cX1_append 81 = .ok (.iload 9, 2) := dk_21 9 (dk_at dksX1_append_3 11 rfl rfl)
theorem dX1_append_83 : decode cX1_append 83 = .ok (.iload 10, 2) := dk_21 10 (dk_at dksX1_append_3 13 rfl rfl)
theorem dX1_append_85 : decode cX1_append 85 = .ok (.ishr, 1) := dk_122 (dk_at dksX1_append_3 15 rfl rfl)
theorem dX1_append_86 : decode cX1_append 86 = .ok (.i2b, 1) := dk_145 (dk_at dksX1_append_3 16 rfl rfl)
theorem dX1_append_87 : decode cX1_append 87 = .ok (.bastore, 1) := dk_84 (dk_at dksX1_append_3 17 rfl rfl)
theorem dX1_append_88 : decode cX1_append 88 = .ok (.aload_n 0, 1) := dk_42 (dk_at dksX1_append_3 18 rfl rfl)
theorem dX1_append_89 : decode cX1_append 89 = .ok (.dup, 1) := dk_89 (dk_at dksX1_append_3 19 rfl rfl)
theorem dX1_append_90 : decode cX1_append 90 = .ok (.getfield 167, 3) := dk_180 0 167 (dk_at dksX1_append_3 20 rfl rfl)
theorem dX1_append_93 : decode cX1_append 93 = .ok (.iconst 1, 1) := dk_4 (dk_at dksX1_append_3 23 rfl rfl)
theorem dX1_append_94 : decode cX1_append 94 = .ok (.iadd, 1) := dk_96 (dk_at dksX1_append_4 0 rfl rfl)
theorem dX1_append_95 : decode cX1_append 95 = .ok (.putfield 167, 3) := dk_181 0 167 (dk_at dksX1_append_4 1 rfl rfl)
theorem dX1_append_98 : decode cX1_append 98 = .ok (.iinc 10 (-8), 3) := dk_132 10 248 (dk_at dksX1_append_4 4 rfl rfl)
theorem dX1_append_101 : decode cX1_append 101 = .ok (.goto (-33), 3) := dk_167 255 223 (dk_at dksX1_append_4 7 rfl rfl)
theorem dX1_append_104 : decode cX1_append 104 = .ok (.iinc 8 1, 3) := dk_132 8 1 (dk_at dksX1_append_4 10 rfl rfl)
theorem dX1_append_107 : decode cX1_append 107 = .ok (.goto (-57), 3) := dk_167 255 199 (dk_at dksX1_append_4 13 rfl rfl)
theorem dX1_append_110 : decode cX1_append 110 = .ok (.aload_n 0, 1) := dk_42 (dk_at dksX1_append_4 16 rfl rfl)
theorem dX1_append_111 : decode cX1_append 111 = .ok (.getfield 167, 3) := dk_180 0 167 (dk_at dksX1_append_4 17 rfl rfl)
theorem dX1_append_114 : decode cX1_append 114 = .ok (.ireturn, 1) := dk_172 (dk_at dksX1_append_4 20 rfl rfl)
abbrev cX1_parseError : ByteArray := prog_1_method_27_code
def yX1_parseError : MethodName := ⟨RX1, "parseError", "()I"⟩
theorem dX1_parseError_0 : decode cX1_parseError 0 = .ok (.aload_n 0, 1) := by decide +kernel
theorem dX1_parseError_1 : decode cX1_parseError 1 = .ok (.getfield 170, 3) := by decide +kernel
theorem dX1_parseError_4 : decode cX1_parseError 4 = .ok (.ireturn, 1) := by decide +kernel
abbrev cX1_errorPosition : ByteArray := prog_1_method_28_code
def yX1_errorPosition : MethodName := ⟨RX1, "errorPosition", "()I"⟩
theorem dX1_errorPosition_0 : decode cX1_errorPosition 0 = .ok (.aload_n 0, 1) := by decide +kernel
theorem dX1_errorPosition_1 : decode cX1_errorPosition 1 = .ok (.getfield 69, 3) := by decide +kernel
theorem dX1_errorPosition_4 : decode cX1_errorPosition 4 = .ok (.ireturn, 1) := by decide +kernel
abbrev cX1_buffered : ByteArray := prog_1_method_29_code
def yX1_buffered : MethodName := ⟨RX1, "buffered", "()I"⟩
theorem dX1_buffered_0 : decode cX1_buffered 0 = .ok (.aload_n 0, 1) := by decide +kernel
theorem dX1_buffered_1 : decode cX1_buffered 1 = .ok (.getfield 167, 3) := by decide +kernel
theorem dX1_buffered_4 : decode cX1_buffered 4 = .ok (.ireturn, 1) := by decide +kernel
abbrev cX1_undoable : ByteArray := prog_1_method_85_code
def yX1_undoable : MethodName := ⟨RX1, "undoable", "()I"⟩
def dkwX1_undoable_0 : List UInt8 := [42, 180, 0, 75, 182, 0, 155, 172]
abbrev dktX1_undoable_0 : List UInt8 := dkwX1_undoable_0 ++ []
theorem dksX1_undoable_0 : cX1_undoable.data.toList.drop 0 = dktX1_undoable_0 := by decide +kernel
theorem dX1_undoable_0 : decode cX1_undoable 0 = .ok (.aload_n 0, 1) := dk_42 (dk_at dksX1_undoable_0 0 rfl rfl)
theorem dX1_undoable_1 : decode cX1_undoable 1 = .ok (.getfield 75, 3) := dk_180 0 75 (dk_at dksX1_undoable_0 1 rfl rfl)
theorem dX1_undoable_4 : decode cX1_undoable 4 = .ok (.invokevirtual 155, 3) := dk_182 0 155 (dk_at dksX1_undoable_0 4 rfl rfl)
theorem dX1_undoable_7 : decode cX1_undoable 7 = .ok (.ireturn, 1) := dk_172 (dk_at dksX1_undoable_0 7 rfl rfl)
abbrev cX1_load : ByteArray := prog_1_method_26_code
def yX1_load : MethodName := ⟨RX1, "load", "(I)I"⟩
def dkwX1_load_4 : List UInt8 := [187, 0, 90, 89, 183, 0, 92, 191, 78, 42, 3, 181, 0, 167, 45, 191]
abbrev dktX1_load_4 : List UInt8 := dkwX1_load_4 ++ []
def dkwX1_load_3 : List UInt8 := [42, 3, 181, 0, 167, 28, 172, 77, 42, 44, 180, 0, 186, 181, 0, 170, 42, 44, 180, 0, 189, 181, 0, 69]
abbrev dktX1_load_3 : List UInt8 := dkwX1_load_3 ++ dktX1_load_4
def dkwX1_load_2 : List UInt8 := [162, 0, 16, 42, 180, 0, 79, 28, 1, 83, 132, 2, 1, 167, 255, 241, 42, 180, 0, 103, 182, 0, 115, 61]
abbrev dktX1_load_2 : List UInt8 := dkwX1_load_2 ++ dktX1_load_3
def dkwX1_load_1 : List UInt8 := [89, 42, 27, 183, 0, 175, 182, 0, 178, 181, 0, 103, 42, 180, 0, 75, 182, 0, 181, 3, 61, 28, 5]
abbrev dktX1_load_1 : List UInt8 := dkwX1_load_1 ++ dktX1_load_2
def dkwX1_load_0 : List UInt8 := [27, 42, 180, 0, 167, 4, 96, 184, 0, 119, 42, 3, 181, 0, 170, 42, 2, 181, 0, 69, 42, 187, 0, 173]
abbrev dktX1_load_0 : List UInt8 := dkwX1_load_0 ++ dktX1_load_1
theorem dksX1_load_0 : cX1_load.data.toList.drop 0 = dktX1_load_0 := by decide +kernel
theorem dksX1_load_1 : cX1_load.data.toList.drop 24 = dktX1_load_1 := dk_seg dksX1_load_0 24 rfl rfl
theorem dksX1_load_2 : cX1_load.data.toList.drop 47 = dktX1_load_2 := dk_seg dksX1_load_1 23 rfl rfl
theorem dksX1_load_3 : cX1_load.data.toList.drop 71 = dktX1_load_3 := dk_seg dksX1_load_2 24 rfl rfl
theorem dksX1_load_4 : cX1_load.data.toList.drop 95 = dktX1_load_4 := dk_seg dksX1_load_3 24 rfl rfl
theorem dX1_load_0 : decode cX1_load 0 = .ok (.iload_n 1, 1) := dk_27 (dk_at dksX1_load_0 0 rfl rfl)
theorem dX1_load_1 : decode cX1_load 1 = .ok (.aload_n 0, 1) := dk_42 (dk_at dksX1_load_0 1 rfl rfl)
theorem dX1_load_2 : decode cX1_load 2 = .ok (.getfield 167, 3) := dk_180 0 167 (dk_at dksX1_load_0 2 rfl rfl)
theorem dX1_load_5 : decode cX1_load 5 = .ok (.iconst 1, 1) := dk_4 (dk_at dksX1_load_0 5 rfl rfl)
theorem dX1_load_6 : decode cX1_load 6 = .ok (.iadd, 1) := dk_96 (dk_at dksX1_load_0 6 rfl rfl)
theorem dX1_load_7 : decode cX1_load 7 = .ok (.invokestatic 119, 3) := dk_184 0 119 (dk_at dksX1_load_0 7 rfl rfl)
theorem dX1_load_10 : decode cX1_load 10 = .ok (.aload_n 0, 1) := dk_42 (dk_at dksX1_load_0 10 rfl rfl)
theorem dX1_load_11 : decode cX1_load 11 = .ok (.iconst 0, 1) := dk_3 (dk_at dksX1_load_0 11 rfl rfl)
theorem dX1_load_12 : decode cX1_load 12 = .ok (.putfield 170, 3) := dk_181 0 170 (dk_at dksX1_load_0 12 rfl rfl)
theorem dX1_load_15 : decode cX1_load 15 = .ok (.aload_n 0, 1) := dk_42 (dk_at dksX1_load_0 15 rfl rfl)
theorem dX1_load_16 : decode cX1_load 16 = .ok (.iconst (-1), 1) := dk_2 (dk_at dksX1_load_0 16 rfl rfl)
theorem dX1_load_17 : decode cX1_load 17 = .ok (.putfield 69, 3) := dk_181 0 69 (dk_at dksX1_load_0 17 rfl rfl)
theorem dX1_load_20 : decode cX1_load 20 = .ok (.aload_n 0, 1) := dk_42 (dk_at dksX1_load_0 20 rfl rfl)
theorem dX1_load_21 : decode cX1_load 21 = .ok (.new 173, 3) := dk_187 0 173 (dk_at dksX1_load_0 21 rfl rfl)
theorem dX1_load_24 : decode cX1_load 24 = .ok (.dup, 1) := dk_89 (dk_at dksX1_load_1 0 rfl rfl)
theorem dX1_load_25 : decode cX1_load 25 = .ok (.aload_n 0, 1) := dk_42 (dk_at dksX1_load_1 1 rfl rfl)
theorem dX1_load_26 : decode cX1_load 26 = .ok (.iload_n 1, 1) := dk_27 (dk_at dksX1_load_1 2 rfl rfl)
theorem dX1_load_27 : decode cX1_load 27 = .ok (.invokespecial 175, 3) := dk_183 0 175 (dk_at dksX1_load_1 3 rfl rfl)
theorem dX1_load_30 : decode cX1_load 30 = .ok (.invokevirtual 178, 3) := dk_182 0 178 (dk_at dksX1_load_1 6 rfl rfl)
theorem dX1_load_33 : decode cX1_load 33 = .ok (.putfield 103, 3) := dk_181 0 103 (dk_at dksX1_load_1 9 rfl rfl)
theorem dX1_load_36 : decode cX1_load 36 = .ok (.aload_n 0, 1) := dk_42 (dk_at dksX1_load_1 12 rfl rfl)
theorem dX1_load_37 : decode cX1_load 37 = .ok (.getfield 75, 3) := dk_180 0 75 (dk_at dksX1_load_1 13 rfl rfl)
theorem dX1_load_40 : decode cX1_load 40 = .ok (.invokevirtual 181, 3) := dk_182 0 181 (dk_at dksX1_load_1 16 rfl rfl)
theorem dX1_load_43 : decode cX1_load 43 = .ok (.iconst 0, 1) := dk_3 (dk_at dksX1_load_1 19 rfl rfl)
theorem dX1_load_44 : decode cX1_load 44 = .ok (.istore_n 2, 1) := dk_61 (dk_at dksX1_load_1 20 rfl rfl)
theorem dX1_load_45 : decode cX1_load 45 = .ok (.iload_n 2, 1) := dk_28 (dk_at dksX1_load_1 21 rfl rfl)
theorem dX1_load_46 : decode cX1_load 46 = .ok (.iconst 2, 1) := dk_5 (dk_at dksX1_load_1 22 rfl rfl)
theorem dX1_load_47 : decode cX1_load 47 = .ok (.if_icmp .ge 16, 3) := dk_162 0 16 (dk_at dksX1_load_2 0 rfl rfl)
theorem dX1_load_50 : decode cX1_load 50 = .ok (.aload_n 0, 1) := dk_42 (dk_at dksX1_load_2 3 rfl rfl)
theorem dX1_load_51 : decode cX1_load 51 = .ok (.getfield 79, 3) := dk_180 0 79 (dk_at dksX1_load_2 4 rfl rfl)
theorem dX1_load_54 : decode cX1_load 54 = .ok (.iload_n 2, 1) := dk_28 (dk_at dksX1_load_2 7 rfl rfl)
theorem dX1_load_55 : decode cX1_load 55 = .ok (.aconst_null, 1) := dk_1 (dk_at dksX1_load_2 8 rfl rfl)
theorem dX1_load_56 : decode cX1_load 56 = .ok (.aastore, 1) := dk_83 (dk_at dksX1_load_2 9 rfl rfl)
theorem dX1_load_57 : decode cX1_load 57 = .ok (.iinc 2 1, 3) := dk_132 2 1 (dk_at dksX1_load_2 10 rfl rfl)
theorem dX1_load_60 : decode cX1_load 60 = .ok (.goto (-15), 3) := dk_167 255 241 (dk_at dksX1_load_2 13 rfl rfl)
theorem dX1_load_63 : decode cX1_load 63 = .ok (.aload_n 0, 1) := dk_42 (dk_at dksX1_load_2 16 rfl rfl)
theorem dX1_load_64 : decode cX1_load 64 = .ok (.getfield 103, 3) := dk_180 0 103 (dk_at dksX1_load_2 17 rfl rfl)
theorem dX1_load_67 : decode cX1_load 67 = .ok (.invokevirtual 115, 3) := dk_182 0 115 (dk_at dksX1_load_2 20 rfl rfl)
theorem dX1_load_70 : decode cX1_load 70 = .ok (.istore_n 2, 1) := dk_61 (dk_at dksX1_load_2 23 rfl rfl)
theorem dX1_load_71 : decode cX1_load 71 = .ok (.aload_n 0, 1) := dk_42 (dk_at dksX1_load_3 0 rfl rfl)
theorem dX1_load_72 : decode cX1_load 72 = .ok (.iconst 0, 1) := dk_3 (dk_at dksX1_load_3 1 rfl rfl)
theorem dX1_load_73 : decode cX1_load 73 = .ok (.putfield 167, 3) := dk_181 0 167 (dk_at dksX1_load_3 2 rfl rfl)
theorem dX1_load_76 : decode cX1_load 76 = .ok (.iload_n 2, 1) := dk_28 (dk_at dksX1_load_3 5 rfl rfl)
theorem dX1_load_77 : decode cX1_load 77 = .ok (.ireturn, 1) := dk_172 (dk_at dksX1_load_3 6 rfl rfl)
theorem dX1_load_78 : decode cX1_load 78 = .ok (.astore_n 2, 1) := dk_77 (dk_at dksX1_load_3 7 rfl rfl)
theorem dX1_load_79 : decode cX1_load 79 = .ok (.aload_n 0, 1) := dk_42 (dk_at dksX1_load_3 8 rfl rfl)
theorem dX1_load_80 : decode cX1_load 80 = .ok (.aload_n 2, 1) := dk_44 (dk_at dksX1_load_3 9 rfl rfl)
theorem dX1_load_81 : decode cX1_load 81 = .ok (.getfield 186, 3) := dk_180 0 186 (dk_at dksX1_load_3 10 rfl rfl)
theorem dX1_load_84 : decode cX1_load 84 = .ok (.putfield 170, 3) := dk_181 0 170 (dk_at dksX1_load_3 13 rfl rfl)
theorem dX1_load_87 : decode cX1_load 87 = .ok (.aload_n 0, 1) := dk_42 (dk_at dksX1_load_3 16 rfl rfl)
theorem dX1_load_88 : decode cX1_load 88 = .ok (.aload_n 2, 1) := dk_44 (dk_at dksX1_load_3 17 rfl rfl)
theorem dX1_load_89 : decode cX1_load 89 = .ok (.getfield 189, 3) := dk_180 0 189 (dk_at dksX1_load_3 18 rfl rfl)
theorem dX1_load_92 : decode cX1_load 92 = .ok (.putfield 69, 3) := dk_181 0 69 (dk_at dksX1_load_3 21 rfl rfl)
theorem dX1_load_95 : decode cX1_load 95 = .ok (.new 90, 3) := dk_187 0 90 (dk_at dksX1_load_4 0 rfl rfl)
theorem dX1_load_98 : decode cX1_load 98 = .ok (.dup, 1) := dk_89 (dk_at dksX1_load_4 3 rfl rfl)
theorem dX1_load_99 : decode cX1_load 99 = .ok (.invokespecial 92, 3) := dk_183 0 92 (dk_at dksX1_load_4 4 rfl rfl)
theorem dX1_load_102 : decode cX1_load 102 = .ok (.athrow, 1) := dk_191 (dk_at dksX1_load_4 7 rfl rfl)
theorem dX1_load_103 : decode cX1_load 103 = .ok (.astore_n 3, 1) := dk_78 (dk_at dksX1_load_4 8 rfl rfl)
theorem dX1_load_104 : decode cX1_load 104 = .ok (.aload_n 0, 1) := dk_42 (dk_at dksX1_load_4 9 rfl rfl)
theorem dX1_load_105 : decode cX1_load 105 = .ok (.iconst 0, 1) := dk_3 (dk_at dksX1_load_4 10 rfl rfl)
theorem dX1_load_106 : decode cX1_load 106 = .ok (.putfield 167, 3) := dk_181 0 167 (dk_at dksX1_load_4 11 rfl rfl)
theorem dX1_load_109 : decode cX1_load 109 = .ok (.aload_n 3, 1) := dk_45 (dk_at dksX1_load_4 14 rfl rfl)
theorem dX1_load_110 : decode cX1_load 110 = .ok (.athrow, 1) := dk_191 (dk_at dksX1_load_4 15 rfl rfl)
abbrev cX1_checkIndex : ByteArray := prog_1_method_14_code
def yX1_checkIndex : MethodName := ⟨RX1, "checkIndex", "(II)V"⟩
def dkwX1_checkIndex_0 : List UInt8 := [26, 133, 9, 27, 4, 100, 133, 184, 0, 93, 154, 0, 11, 187, 0, 97, 89, 183, 0, 99, 191, 177]
abbrev dktX1_checkIndex_0 : List UInt8 := dkwX1_checkIndex_0 ++ []
theorem dksX1_checkIndex_0 : cX1_checkIndex.data.toList.drop 0 = dktX1_checkIndex_0 := by decide +kernel
theorem dX1_checkIndex_0 : decode cX1_checkIndex 0 = .ok (.iload_n 0, 1) := dk_26 (dk_at dksX1_checkIndex_0 0 rfl rfl)
theorem dX1_checkIndex_1 : decode cX1_checkIndex 1 = .ok (.i2l, 1) := dk_133 (dk_at dksX1_checkIndex_0 1 rfl rfl)
theorem dX1_checkIndex_2 : decode cX1_checkIndex 2 = .ok (.lconst 0, 1) := dk_9 (dk_at dksX1_checkIndex_0 2 rfl rfl)
theorem dX1_checkIndex_3 : decode cX1_checkIndex 3 = .ok (.iload_n 1, 1) := dk_27 (dk_at dksX1_checkIndex_0 3 rfl rfl)
theorem dX1_checkIndex_4 : decode cX1_checkIndex 4 = .ok (.iconst 1, 1) := dk_4 (dk_at dksX1_checkIndex_0 4 rfl rfl)
theorem dX1_checkIndex_5 : decode cX1_checkIndex 5 = .ok (.isub, 1) := dk_100 (dk_at dksX1_checkIndex_0 5 rfl rfl)
theorem dX1_checkIndex_6 : decode cX1_checkIndex 6 = .ok (.i2l, 1) := dk_133 (dk_at dksX1_checkIndex_0 6 rfl rfl)
theorem dX1_checkIndex_7 : decode cX1_checkIndex 7 = .ok (.invokestatic 93, 3) := dk_184 0 93 (dk_at dksX1_checkIndex_0 7 rfl rfl)
theorem dX1_checkIndex_10 : decode cX1_checkIndex 10 = .ok (.ifCond .ne 11, 3) := dk_154 0 11 (dk_at dksX1_checkIndex_0 10 rfl rfl)
theorem dX1_checkIndex_13 : decode cX1_checkIndex 13 = .ok (.new 97, 3) := dk_187 0 97 (dk_at dksX1_checkIndex_0 13 rfl rfl)
theorem dX1_checkIndex_16 : decode cX1_checkIndex 16 = .ok (.dup, 1) := dk_89 (dk_at dksX1_checkIndex_0 16 rfl rfl)
theorem dX1_checkIndex_17 : decode cX1_checkIndex 17 = .ok (.invokespecial 99, 3) := dk_183 0 99 (dk_at dksX1_checkIndex_0 17 rfl rfl)
theorem dX1_checkIndex_20 : decode cX1_checkIndex 20 = .ok (.athrow, 1) := dk_191 (dk_at dksX1_checkIndex_0 20 rfl rfl)
theorem dX1_checkIndex_21 : decode cX1_checkIndex 21 = .ok (.return_, 1) := dk_177 (dk_at dksX1_checkIndex_0 21 rfl rfl)
abbrev cX1_in : ByteArray := prog_1_method_1_code
def yX1_in : MethodName := ⟨RX1, "in", "(JJJ)Z"⟩
def dkwX1_in_0 : List UInt8 := [30, 32, 148, 155, 0, 14, 30, 22, 4, 148, 157, 0, 7, 4, 167, 0, 4, 3, 172]
abbrev dktX1_in_0 : List UInt8 := dkwX1_in_0 ++ []
theorem dksX1_in_0 : cX1_in.data.toList.drop 0 = dktX1_in_0 := by decide +kernel
theorem dX1_in_0 : decode cX1_in 0 = .ok (.lload_n 0, 1) := dk_30 (dk_at dksX1_in_0 0 rfl rfl)
theorem dX1_in_1 : decode cX1_in 1 = .ok (.lload_n 2, 1) := dk_32 (dk_at dksX1_in_0 1 rfl rfl)
theorem dX1_in_2 : decode cX1_in 2 = .ok (.lcmp, 1) := dk_148 (dk_at dksX1_in_0 2 rfl rfl)
theorem dX1_in_3 : decode cX1_in 3 = .ok (.ifCond .lt 14, 3) := dk_155 0 14 (dk_at dksX1_in_0 3 rfl rfl)
theorem dX1_in_6 : decode cX1_in 6 = .ok (.lload_n 0, 1) := dk_30 (dk_at dksX1_in_0 6 rfl rfl)
theorem dX1_in_7 : decode cX1_in 7 = .ok (.lload 4, 2) := dk_22 4 (dk_at dksX1_in_0 7 rfl rfl)
theorem dX1_in_9 : decode cX1_in 9 = .ok (.lcmp, 1) := dk_148 (dk_at dksX1_in_0 9 rfl rfl)
theorem dX1_in_10 : decode cX1_in 10 = .ok (.ifCond .gt 7, 3) := dk_157 0 7 (dk_at dksX1_in_0 10 rfl rfl)
theorem dX1_in_13 : decode cX1_in 13 = .ok (.iconst 1, 1) := dk_4 (dk_at dksX1_in_0 13 rfl rfl)
theorem dX1_in_14 : decode cX1_in 14 = .ok (.goto 4, 3) := dk_167 0 4 (dk_at dksX1_in_0 14 rfl rfl)
theorem dX1_in_17 : decode cX1_in 17 = .ok (.iconst 0, 1) := dk_3 (dk_at dksX1_in_0 17 rfl rfl)
theorem dX1_in_18 : decode cX1_in 18 = .ok (.ireturn, 1) := dk_172 (dk_at dksX1_in_0 18 rfl rfl)
abbrev cX1_has : ByteArray := prog_1_method_3_code
def yX1_has : MethodName := ⟨RX1, "has", "(II)Z"⟩
def dkwX1_has_0 : List UInt8 := [26, 27, 122, 4, 126, 4, 160, 0, 7, 4, 167, 0, 4, 3, 172]
abbrev dktX1_has_0 : List UInt8 := dkwX1_has_0 ++ []
theorem dksX1_has_0 : cX1_has.data.toList.drop 0 = dktX1_has_0 := by decide +kernel
theorem dX1_has_0 : decode cX1_has 0 = .ok (.iload_n 0, 1) := dk_26 (dk_at dksX1_has_0 0 rfl rfl)
theorem dX1_has_1 : decode cX1_has 1 = .ok (.iload_n 1, 1) := dk_27 (dk_at dksX1_has_0 1 rfl rfl)
theorem dX1_has_2 : decode cX1_has 2 = .ok (.ishr, 1) := dk_122 (dk_at dksX1_has_0 2 rfl rfl)
theorem dX1_has_3 : decode cX1_has 3 = .ok (.iconst 1, 1) := dk_4 (dk_at dksX1_has_0 3 rfl rfl)
theorem dX1_has_4 : decode cX1_has 4 = .ok (.iand, 1) := dk_126 (dk_at dksX1_has_0 4 rfl rfl)
theorem dX1_has_5 : decode cX1_has 5 = .ok (.iconst 1, 1) := dk_4 (dk_at dksX1_has_0 5 rfl rfl)
theorem dX1_has_6 : decode cX1_has 6 = .ok (.if_icmp .ne 7, 3) := dk_160 0 7 (dk_at dksX1_has_0 6 rfl rfl)
theorem dX1_has_9 : decode cX1_has 9 = .ok (.iconst 1, 1) := dk_4 (dk_at dksX1_has_0 9 rfl rfl)
theorem dX1_has_10 : decode cX1_has 10 = .ok (.goto 4, 3) := dk_167 0 4 (dk_at dksX1_has_0 10 rfl rfl)
theorem dX1_has_13 : decode cX1_has 13 = .ok (.iconst 0, 1) := dk_3 (dk_at dksX1_has_0 13 rfl rfl)
theorem dX1_has_14 : decode cX1_has 14 = .ok (.ireturn, 1) := dk_172 (dk_at dksX1_has_0 14 rfl rfl)
abbrev cX1_putBar : ByteArray := prog_1_method_8_code
def yX1_putBar : MethodName := ⟨RX1, "putBar", "(LFlagLaundry$World;II)I"⟩
def dkwX1_putBar_1 : List UInt8 := [186, 0, 37, 0, 0, 83, 184, 0, 40, 172]
abbrev dktX1_putBar_1 : List UInt8 := dkwX1_putBar_1 ++ []
def dkwX1_putBar_0 : List UInt8 := [42, 27, 182, 0, 28, 5, 189, 0, 23, 89, 3, 186, 0, 34, 0, 0, 83, 89, 4, 42, 28]
abbrev dktX1_putBar_0 : List UInt8 := dkwX1_putBar_0 ++ dktX1_putBar_1
theorem dksX1_putBar_0 : cX1_putBar.data.toList.drop 0 = dktX1_putBar_0 := by decide +kernel
theorem dksX1_putBar_1 : cX1_putBar.data.toList.drop 21 = dktX1_putBar_1 := dk_seg dksX1_putBar_0 21 rfl rfl
theorem dX1_putBar_0 : decode cX1_putBar 0 = .ok (.aload_n 0, 1) := dk_42 (dk_at dksX1_putBar_0 0 rfl rfl)
theorem dX1_putBar_1 : decode cX1_putBar 1 = .ok (.iload_n 1, 1) := dk_27 (dk_at dksX1_putBar_0 1 rfl rfl)
theorem dX1_putBar_2 : decode cX1_putBar 2 = .ok (.invokevirtual 28, 3) := dk_182 0 28 (dk_at dksX1_putBar_0 2 rfl rfl)
theorem dX1_putBar_5 : decode cX1_putBar 5 = .ok (.iconst 2, 1) := dk_5 (dk_at dksX1_putBar_0 5 rfl rfl)
theorem dX1_putBar_6 : decode cX1_putBar 6 = .ok (.anewarray 23, 3) := dk_189 0 23 (dk_at dksX1_putBar_0 6 rfl rfl)
theorem dX1_putBar_9 : decode cX1_putBar 9 = .ok (.dup, 1) := dk_89 (dk_at dksX1_putBar_0 9 rfl rfl)
theorem dX1_putBar_10 : decode cX1_putBar 10 = .ok (.iconst 0, 1) := dk_3 (dk_at dksX1_putBar_0 10 rfl rfl)
theorem dX1_putBar_11 : decode cX1_putBar 11 = .ok (.invokedynamic 34, 5) := by decide +kernel
theorem dX1_putBar_16 : decode cX1_putBar 16 = .ok (.aastore, 1) := dk_83 (dk_at dksX1_putBar_0 16 rfl rfl)
theorem dX1_putBar_17 : decode cX1_putBar 17 = .ok (.dup, 1) := dk_89 (dk_at dksX1_putBar_0 17 rfl rfl)
theorem dX1_putBar_18 : decode cX1_putBar 18 = .ok (.iconst 1, 1) := dk_4 (dk_at dksX1_putBar_0 18 rfl rfl)
theorem dX1_putBar_19 : decode cX1_putBar 19 = .ok (.aload_n 0, 1) := dk_42 (dk_at dksX1_putBar_0 19 rfl rfl)
theorem dX1_putBar_20 : decode cX1_putBar 20 = .ok (.iload_n 2, 1) := dk_28 (dk_at dksX1_putBar_0 20 rfl rfl)
theorem dX1_putBar_21 : decode cX1_putBar 21 = .ok (.invokedynamic 37, 5) := by decide +kernel
theorem dX1_putBar_26 : decode cX1_putBar 26 = .ok (.aastore, 1) := dk_83 (dk_at dksX1_putBar_1 5 rfl rfl)
theorem dX1_putBar_27 : decode cX1_putBar 27 = .ok (.invokestatic 40, 3) := dk_184 0 40 (dk_at dksX1_putBar_1 6 rfl rfl)
theorem dX1_putBar_30 : decode cX1_putBar 30 = .ok (.ireturn, 1) := dk_172 (dk_at dksX1_putBar_1 9 rfl rfl)
abbrev cX1_lambda_putBar_0 : ByteArray := prog_1_method_99_code
def yX1_lambda_putBar_0 : MethodName := ⟨RX1, "lambda$putBar$0", "(LFlagLaundry$Flag;)Z"⟩
def dkwX1_lambda_putBar_0_0 : List UInt8 := [42, 182, 1, 115, 154, 0, 7, 4, 167, 0, 4, 3, 172]
abbrev dktX1_lambda_putBar_0_0 : List UInt8 := dkwX1_lambda_putBar_0_0 ++ []
theorem dksX1_lambda_putBar_0_0 : cX1_lambda_putBar_0.data.toList.drop 0 = dktX1_lambda_putBar_0_0 := by decide +kernel
theorem dX1_lambda_putBar_0_0 : decode cX1_lambda_putBar_0 0 = .ok (.aload_n 0, 1) := dk_42 (dk_at dksX1_lambda_putBar_0_0 0 rfl rfl)
theorem dX1_lambda_putBar_0_1 : decode cX1_lambda_putBar_0 1 = .ok (.invokevirtual 371, 3) := dk_182 1 115 (dk_at dksX1_lambda_putBar_0_0 1 rfl rfl)
theorem dX1_lambda_putBar_0_4 : decode cX1_lambda_putBar_0 4 = .ok (.ifCond .ne 7, 3) := dk_154 0 7 (dk_at dksX1_lambda_putBar_0_0 4 rfl rfl)
theorem dX1_lambda_putBar_0_7 : decode cX1_lambda_putBar_0 7 = .ok (.iconst 1, 1) := dk_4 (dk_at dksX1_lambda_putBar_0_0 7 rfl rfl)
theorem dX1_lambda_putBar_0_8 : decode cX1_lambda_putBar_0 8 = .ok (.goto 4, 3) := dk_167 0 4 (dk_at dksX1_lambda_putBar_0_0 8 rfl rfl)
theorem dX1_lambda_putBar_0_11 : decode cX1_lambda_putBar_0 11 = .ok (.iconst 0, 1) := dk_3 (dk_at dksX1_lambda_putBar_0_0 11 rfl rfl)
theorem dX1_lambda_putBar_0_12 : decode cX1_lambda_putBar_0 12 = .ok (.ireturn, 1) := dk_172 (dk_at dksX1_lambda_putBar_0_0 12 rfl rfl)
abbrev cX1_lambda_putBar_1 : ByteArray := prog_1_method_98_code
def yX1_lambda_putBar_1 : MethodName := ⟨RX1, "lambda$putBar$1", "(LFlagLaundry$World;ILFlagLaundry$Flag;)Z"⟩
def dkwX1_lambda_putBar_1_0 : List UInt8 := [42, 27, 182, 0, 44, 42, 180, 1, 42, 27, 46, 161, 0, 7, 4, 167, 0, 4, 3, 172]
abbrev dktX1_lambda_putBar_1_0 : List UInt8 := dkwX1_lambda_putBar_1_0 ++ []
theorem dksX1_lambda_putBar_1_0 : cX1_lambda_putBar_1.data.toList.drop 0 = dktX1_lambda_putBar_1_0 := by decide +kernel
theorem dX1_lambda_putBar_1_0 : decode cX1_lambda_putBar_1 0 = .ok (.aload_n 0, 1) := dk_42 (dk_at dksX1_lambda_putBar_1_0 0 rfl rfl)
theorem dX1_lambda_putBar_1_1 : decode cX1_lambda_putBar_1 1 = .ok (.iload_n 1, 1) := dk_27 (dk_at dksX1_lambda_putBar_1_0 1 rfl rfl)
theorem dX1_lambda_putBar_1_2 : decode cX1_lambda_putBar_1 2 = .ok (.invokevirtual 44, 3) := dk_182 0 44 (dk_at dksX1_lambda_putBar_1_0 2 rfl rfl)
theorem dX1_lambda_putBar_1_5 : decode cX1_lambda_putBar_1 5 = .ok (.aload_n 0, 1) := dk_42 (dk_at dksX1_lambda_putBar_1_0 5 rfl rfl)
theorem dX1_lambda_putBar_1_6 : decode cX1_lambda_putBar_1 6 = .ok (.getfield 298, 3) := dk_180 1 42 (dk_at dksX1_lambda_putBar_1_0 6 rfl rfl)
theorem dX1_lambda_putBar_1_9 : decode cX1_lambda_putBar_1 9 = .ok (.iload_n 1, 1) := dk_27 (dk_at dksX1_lambda_putBar_1_0 9 rfl rfl)
theorem dX1_lambda_putBar_1_10 : decode cX1_lambda_putBar_1 10 = .ok (.iaload, 1) := dk_46 (dk_at dksX1_lambda_putBar_1_0 10 rfl rfl)
theorem dX1_lambda_putBar_1_11 : decode cX1_lambda_putBar_1 11 = .ok (.if_icmp .lt 7, 3) := dk_161 0 7 (dk_at dksX1_lambda_putBar_1_0 11 rfl rfl)
theorem dX1_lambda_putBar_1_14 : decode cX1_lambda_putBar_1 14 = .ok (.iconst 1, 1) := dk_4 (dk_at dksX1_lambda_putBar_1_0 14 rfl rfl)
theorem dX1_lambda_putBar_1_15 : decode cX1_lambda_putBar_1 15 = .ok (.goto 4, 3) := dk_167 0 4 (dk_at dksX1_lambda_putBar_1_0 15 rfl rfl)
theorem dX1_lambda_putBar_1_18 : decode cX1_lambda_putBar_1 18 = .ok (.iconst 0, 1) := dk_3 (dk_at dksX1_lambda_putBar_1_0 18 rfl rfl)
theorem dX1_lambda_putBar_1_19 : decode cX1_lambda_putBar_1 19 = .ok (.ireturn, 1) := dk_172 (dk_at dksX1_lambda_putBar_1_0 19 rfl rfl)
abbrev cX1_one : ByteArray := prog_1_method_2_code
def yX1_one : MethodName := ⟨RX1, "one", "(Z)I"⟩
def dkwX1_one_0 : List UInt8 := [26, 153, 0, 7, 4, 167, 0, 4, 3, 172]
abbrev dktX1_one_0 : List UInt8 := dkwX1_one_0 ++ []
theorem dksX1_one_0 : cX1_one.data.toList.drop 0 = dktX1_one_0 := by decide +kernel
theorem dX1_one_0 : decode cX1_one 0 = .ok (.iload_n 0, 1) := dk_26 (dk_at dksX1_one_0 0 rfl rfl)
theorem dX1_one_1 : decode cX1_one 1 = .ok (.ifCond .eq 7, 3) := dk_153 0 7 (dk_at dksX1_one_0 1 rfl rfl)
theorem dX1_one_4 : decode cX1_one 4 = .ok (.iconst 1, 1) := dk_4 (dk_at dksX1_one_0 4 rfl rfl)
theorem dX1_one_5 : decode cX1_one 5 = .ok (.goto 4, 3) := dk_167 0 4 (dk_at dksX1_one_0 5 rfl rfl)
theorem dX1_one_8 : decode cX1_one 8 = .ok (.iconst 0, 1) := dk_3 (dk_at dksX1_one_0 8 rfl rfl)
theorem dX1_one_9 : decode cX1_one 9 = .ok (.ireturn, 1) := dk_172 (dk_at dksX1_one_0 9 rfl rfl)
abbrev cX1_first : ByteArray := prog_1_method_7_code
def yX1_first : MethodName := ⟨RX1, "first", "(LFlagLaundry$Flag;[LFlagLaundry$Test;)I"⟩
def dkwX1_first_1 : List UInt8 := [132, 2, 1, 167, 255, 231, 3, 172]
abbrev dktX1_first_1 : List UInt8 := dkwX1_first_1 ++ []
def dkwX1_first_0 : List UInt8 := [3, 61, 28, 43, 190, 162, 0, 25, 43, 28, 50, 42, 185, 0, 22, 2, 0, 153, 0, 7, 28, 4, 96, 172]
abbrev dktX1_first_0 : List UInt8 := dkwX1_first_0 ++ dktX1_first_1
theorem dksX1_first_0 : cX1_first.data.toList.drop 0 = dktX1_first_0 := by decide +kernel
theorem dksX1_first_1 : cX1_first.data.toList.drop 24 = dktX1_first_1 := dk_seg dksX1_first_0 24 rfl rfl
theorem dX1_first_0 : decode cX1_first 0 = .ok (.iconst 0, 1) := dk_3 (dk_at dksX1_first_0 0 rfl rfl)
theorem dX1_first_1 : decode cX1_first 1 = .ok (.istore_n 2, 1) := dk_61 (dk_at dksX1_first_0 1 rfl rfl)
theorem dX1_first_2 : decode cX1_first 2 = .ok (.iload_n 2, 1) := dk_28 (dk_at dksX1_first_0 2 rfl rfl)
theorem dX1_first_3 : decode cX1_first 3 = .ok (.aload_n 1, 1) := dk_43 (dk_at dksX1_first_0 3 rfl rfl)
theorem dX1_first_4 : decode cX1_first 4 = .ok (.arraylength, 1) := dk_190 (dk_at dksX1_first_0 4 rfl rfl)
theorem dX1_first_5 : decode cX1_first 5 = .ok (.if_icmp .ge 25, 3) := dk_162 0 25 (dk_at dksX1_first_0 5 rfl rfl)
theorem dX1_first_8 : decode cX1_first 8 = .ok (.aload_n 1, 1) := dk_43 (dk_at dksX1_first_0 8 rfl rfl)
theorem dX1_first_9 : decode cX1_first 9 = .ok (.iload_n 2, 1) := dk_28 (dk_at dksX1_first_0 9 rfl rfl)
theorem dX1_first_10 : decode cX1_first 10 = .ok (.aaload, 1) := dk_50 (dk_at dksX1_first_0 10 rfl rfl)
theorem dX1_first_11 : decode cX1_first 11 = .ok (.aload_n 0, 1) := dk_42 (dk_at dksX1_first_0 11 rfl rfl)
theorem dX1_first_12 : decode cX1_first 12 = .ok (.invokeinterface 22 2, 5) := by decide +kernel
theorem dX1_first_17 : decode cX1_first 17 = .ok (.ifCond .eq 7, 3) := dk_153 0 7 (dk_at dksX1_first_0 17 rfl rfl)
theorem dX1_first_20 : decode cX1_first 20 = .ok (.iload_n 2, 1) := dk_28 (dk_at dksX1_first_0 20 rfl rfl)
theorem dX1_first_21 : decode cX1_first 21 = .ok (.iconst 1, 1) := dk_4 (dk_at dksX1_first_0 21 rfl rfl)
theorem dX1_first_22 : decode cX1_first 22 = .ok (.iadd, 1) := dk_96 (dk_at dksX1_first_0 22 rfl rfl)
theorem dX1_first_23 : decode cX1_first 23 = .ok (.ireturn, 1) := dk_172 (dk_at dksX1_first_0 23 rfl rfl)
theorem dX1_first_24 : decode cX1_first 24 = .ok (.iinc 2 1, 3) := dk_132 2 1 (dk_at dksX1_first_1 0 rfl rfl)
theorem dX1_first_27 : decode cX1_first 27 = .ok (.goto (-25), 3) := dk_167 255 231 (dk_at dksX1_first_1 3 rfl rfl)
theorem dX1_first_30 : decode cX1_first 30 = .ok (.iconst 0, 1) := dk_3 (dk_at dksX1_first_1 6 rfl rfl)
theorem dX1_first_31 : decode cX1_first 31 = .ok (.ireturn, 1) := dk_172 (dk_at dksX1_first_1 7 rfl rfl)
abbrev cX1_washBar : ByteArray := prog_1_method_9_code
def yX1_washBar : MethodName := ⟨RX1, "washBar", "(LFlagLaundry$World;II)I"⟩
def dkwX1_washBar_1 : List UInt8 := [167, 0, 4, 3, 172]
abbrev dktX1_washBar_1 : List UInt8 := dkwX1_washBar_1 ++ []
def dkwX1_washBar_0 : List UInt8 := [42, 27, 182, 0, 44, 154, 0, 7, 4, 167, 0, 17, 28, 42, 27, 182, 0, 47, 164, 0, 7, 5]
abbrev dktX1_washBar_0 : List UInt8 := dkwX1_washBar_0 ++ dktX1_washBar_1
theorem dksX1_washBar_0 : cX1_washBar.data.toList.drop 0 = dktX1_washBar_0 := by decide +kernel
theorem dksX1_washBar_1 : cX1_washBar.data.toList.drop 22 = dktX1_washBar_1 := dk_seg dksX1_washBar_0 22 rfl rfl
theorem dX1_washBar_0 : decode cX1_washBar 0 = .ok (.aload_n 0, 1) := dk_42 (dk_at dksX1_washBar_0 0 rfl rfl)
theorem dX1_washBar_1 : decode cX1_washBar 1 = .ok (.iload_n 1, 1) := dk_27 (dk_at dksX1_washBar_0 1 rfl rfl)
theorem dX1_washBar_2 : decode cX1_washBar 2 = .ok (.invokevirtual 44, 3) := dk_182 0 44 (dk_at dksX1_washBar_0 2 rfl rfl)
theorem dX1_washBar_5 : decode cX1_washBar 5 = .ok (.ifCond .ne 7, 3) := dk_154 0 7 (dk_at dksX1_washBar_0 5 rfl rfl)
theorem dX1_washBar_8 : decode cX1_washBar 8 = .ok (.iconst 1, 1) := dk_4 (dk_at dksX1_washBar_0 8 rfl rfl)
theorem dX1_washBar_9 : decode cX1_washBar 9 = .ok (.goto 17, 3) := dk_167 0 17 (dk_at dksX1_washBar_0 9 rfl rfl)
theorem dX1_washBar_12 : decode cX1_washBar 12 = .ok (.iload_n 2, 1) := dk_28 (dk_at dksX1_washBar_0 12 rfl rfl)
theorem dX1_washBar_13 : decode cX1_washBar 13 = .ok (.aload_n 0, 1) := dk_42 (dk_at dksX1_washBar_0 13 rfl rfl)
theorem dX1_washBar_14 : decode cX1_washBar 14 = .ok (.iload_n 1, 1) := dk_27 (dk_at dksX1_washBar_0 14 rfl rfl)
theorem dX1_washBar_15 : decode cX1_washBar 15 = .ok (.invokevirtual 47, 3) := dk_182 0 47 (dk_at dksX1_washBar_0 15 rfl rfl)
theorem dX1_washBar_18 : decode cX1_washBar 18 = .ok (.if_icmp .le 7, 3) := dk_164 0 7 (dk_at dksX1_washBar_0 18 rfl rfl)
theorem dX1_washBar_21 : decode cX1_washBar 21 = .ok (.iconst 2, 1) := dk_5 (dk_at dksX1_washBar_0 21 rfl rfl)
theorem dX1_washBar_22 : decode cX1_washBar 22 = .ok (.goto 4, 3) := dk_167 0 4 (dk_at dksX1_washBar_1 0 rfl rfl)
theorem dX1_washBar_25 : decode cX1_washBar 25 = .ok (.iconst 0, 1) := dk_3 (dk_at dksX1_washBar_1 3 rfl rfl)
theorem dX1_washBar_26 : decode cX1_washBar 26 = .ok (.ireturn, 1) := dk_172 (dk_at dksX1_washBar_1 4 rfl rfl)
abbrev cX1_count : ByteArray := prog_1_method_30_code
def yX1_count : MethodName := ⟨RX1, "count", "(I)I"⟩
def dkwX1_count_6 : List UInt8 := [44, 182, 0, 221, 172]
abbrev dktX1_count_6 : List UInt8 := dkwX1_count_6 ++ []
def dkwX1_count_5 : List UInt8 := [167, 0, 28, 44, 180, 0, 212, 167, 0, 21, 44, 180, 0, 215, 167, 0, 14, 44, 180, 0, 218, 167, 0, 7]
abbrev dktX1_count_5 : List UInt8 := dkwX1_count_5 ++ dktX1_count_6
def dkwX1_count_4 : List UInt8 := [44, 180, 0, 203, 167, 0, 46, 44, 27, 16, 7, 100, 182, 0, 206, 167, 0, 35, 44, 180, 0, 209]
abbrev dktX1_count_4 : List UInt8 := dkwX1_count_4 ++ dktX1_count_5
def dkwX1_count_3 : List UInt8 := [167, 0, 74, 44, 180, 0, 197, 167, 0, 67, 44, 182, 0, 115, 167, 0, 60, 44, 180, 0, 200, 167, 0, 53]
abbrev dktX1_count_3 : List UInt8 := dkwX1_count_3 ++ dktX1_count_4
def dkwX1_count_2 : List UInt8 := [44, 180, 0, 194, 167, 0, 93, 44, 180, 0, 126, 185, 0, 130, 1, 0, 167, 0, 81, 44, 180, 0, 123]
abbrev dktX1_count_2 : List UInt8 := dkwX1_count_2 ++ dktX1_count_3
def dkwX1_count_1 : List UInt8 := [170, 0, 0, 0, 0, 167, 0, 0, 0, 0, 0, 0, 0, 14, 0, 0, 0, 74, 0, 0, 0, 81, 0, 0, 0, 93, 0, 0, 0, 100, 0, 0, 0, 107, 0, 0, 0, 114, 0, 0, 0, 121, 0, 0, 0, 128, 0, 0, 0, 128, 0, 0, 0, 128, 0, 0, 0, 128, 0, 0, 0, 139, 0, 0, 0, 146, 0, 0, 0, 153, 0, 0, 0, 160]
abbrev dktX1_count_1 : List UInt8 := dkwX1_count_1 ++ dktX1_count_2
def dkwX1_count_0 : List UInt8 := [42, 182, 0, 111, 77, 27, 133, 9, 20, 0, 192, 184, 0, 93, 184, 0, 144, 27]
abbrev dktX1_count_0 : List UInt8 := dkwX1_count_0 ++ dktX1_count_1
theorem dksX1_count_0 : cX1_count.data.toList.drop 0 = dktX1_count_0 := by decide +kernel
theorem dksX1_count_1 : cX1_count.data.toList.drop 18 = dktX1_count_1 := dk_seg dksX1_count_0 18 rfl rfl
theorem dksX1_count_2 : cX1_count.data.toList.drop 92 = dktX1_count_2 := dk_seg dksX1_count_1 74 rfl rfl
theorem dksX1_count_3 : cX1_count.data.toList.drop 115 = dktX1_count_3 := dk_seg dksX1_count_2 23 rfl rfl
theorem dksX1_count_4 : cX1_count.data.toList.drop 139 = dktX1_count_4 := dk_seg dksX1_count_3 24 rfl rfl
theorem dksX1_count_5 : cX1_count.data.toList.drop 161 = dktX1_count_5 := dk_seg dksX1_count_4 22 rfl rfl
theorem dksX1_count_6 : cX1_count.data.toList.drop 185 = dktX1_count_6 := dk_seg dksX1_count_5 24 rfl rfl
theorem dX1_count_0 : decode cX1_count 0 = .ok (.aload_n 0, 1) := dk_42 (dk_at dksX1_count_0 0 rfl rfl)
theorem dX1_count_1 : decode cX1_count 1 = .ok (.invokevirtual 111, 3) := dk_182 0 111 (dk_at dksX1_count_0 1 rfl rfl)
theorem dX1_count_4 : decode cX1_count 4 = .ok (.astore_n 2, 1) := dk_77 (dk_at dksX1_count_0 4 rfl rfl)
theorem dX1_count_5 : decode cX1_count 5 = .ok (.iload_n 1, 1) := dk_27 (dk_at dksX1_count_0 5 rfl rfl)
theorem dX1_count_6 : decode cX1_count 6 = .ok (.i2l, 1) := dk_133 (dk_at dksX1_count_0 6 rfl rfl)
theorem dX1_count_7 : decode cX1_count 7 = .ok (.lconst 0, 1) := dk_9 (dk_at dksX1_count_0 7 rfl rfl)
theorem dX1_count_8 : decode cX1_count 8 = .ok (.ldc2_w 192, 3) := dk_20 0 192 (dk_at dksX1_count_0 8 rfl rfl)
theorem dX1_count_11 : decode cX1_count 11 = .ok (.invokestatic 93, 3) := dk_184 0 93 (dk_at dksX1_count_0 11 rfl rfl)
theorem dX1_count_14 : decode cX1_count 14 = .ok (.invokestatic 144, 3) := dk_184 0 144 (dk_at dksX1_count_0 14 rfl rfl)
theorem dX1_count_17 : decode cX1_count 17 = .ok (.iload_n 1, 1) := dk_27 (dk_at dksX1_count_0 17 rfl rfl)
theorem dX1_count_18 : decode cX1_count 18 = .ok (.tableswitch 167 0 14 #[74, 81, 93, 100, 107, 114, 121, 128, 128, 128, 128, 139, 146, 153, 160], 74) := by decide +kernel
theorem dX1_count_92 : decode cX1_count 92 = .ok (.aload_n 2, 1) := dk_44 (dk_at dksX1_count_2 0 rfl rfl)
theorem dX1_count_93 : decode cX1_count 93 = .ok (.getfield 194, 3) := dk_180 0 194 (dk_at dksX1_count_2 1 rfl rfl)
theorem dX1_count_96 : decode cX1_count 96 = .ok (.goto 93, 3) := dk_167 0 93 (dk_at dksX1_count_2 4 rfl rfl)
theorem dX1_count_99 : decode cX1_count 99 = .ok (.aload_n 2, 1) := dk_44 (dk_at dksX1_count_2 7 rfl rfl)
theorem dX1_count_100 : decode cX1_count 100 = .ok (.getfield 126, 3) := dk_180 0 126 (dk_at dksX1_count_2 8 rfl rfl)
theorem dX1_count_103 : decode cX1_count 103 = .ok (.invokeinterface 130 1, 5) := by decide +kernel
theorem dX1_count_108 : decode cX1_count 108 = .ok (.goto 81, 3) := dk_167 0 81 (dk_at dksX1_count_2 16 rfl rfl)
theorem dX1_count_111 : decode cX1_count 111 = .ok (.aload_n 2, 1) := dk_44 (dk_at dksX1_count_2 19 rfl rfl)
theorem dX1_count_112 : decode cX1_count 112 = .ok (.getfield 123, 3) := dk_180 0 123 (dk_at dksX1_count_2 20 rfl rfl)
theorem dX1_count_115 : decode cX1_count 115 = .ok (.goto 74, 3) := dk_167 0 74 (dk_at dksX1_count_3 0 rfl rfl)
theorem dX1_count_118 : decode cX1_count 118 = .ok (.aload_n 2, 1) := dk_44 (dk_at dksX1_count_3 3 rfl rfl)
theorem dX1_count_119 : decode cX1_count 119 = .ok (.getfield 197, 3) := dk_180 0 197 (dk_at dksX1_count_3 4 rfl rfl)
theorem dX1_count_122 : decode cX1_count 122 = .ok (.goto 67, 3) := dk_167 0 67 (dk_at dksX1_count_3 7 rfl rfl)
theorem dX1_count_125 : decode cX1_count 125 = .ok (.aload_n 2, 1) := dk_44 (dk_at dksX1_count_3 10 rfl rfl)
theorem dX1_count_126 : decode cX1_count 126 = .ok (.invokevirtual 115, 3) := dk_182 0 115 (dk_at dksX1_count_3 11 rfl rfl)
theorem dX1_count_129 : decode cX1_count 129 = .ok (.goto 60, 3) := dk_167 0 60 (dk_at dksX1_count_3 14 rfl rfl)
theorem dX1_count_132 : decode cX1_count 132 = .ok (.aload_n 2, 1) := dk_44 (dk_at dksX1_count_3 17 rfl rfl)
theorem dX1_count_133 : decode cX1_count 133 = .ok (.getfield 200, 3) := dk_180 0 200 (dk_at dksX1_count_3 18 rfl rfl)
theorem dX1_count_136 : decode cX1_count 136 = .ok (.goto 53, 3) := dk_167 0 53 (dk_at dksX1_count_3 21 rfl rfl)
theorem dX1_count_139 : decode cX1_count 139 = .ok (.aload_n 2, 1) := dk_44 (dk_at dksX1_count_4 0 rfl rfl)
theorem dX1_count_140 : decode cX1_count 140 = .ok (.getfield 203, 3) := dk_180 0 203 (dk_at dksX1_count_4 1 rfl rfl)
theorem dX1_count_143 : decode cX1_count 143 = .ok (.goto 46, 3) := dk_167 0 46 (dk_at dksX1_count_4 4 rfl rfl)
theorem dX1_count_146 : decode cX1_count 146 = .ok (.aload_n 2, 1) := dk_44 (dk_at dksX1_count_4 7 rfl rfl)
theorem dX1_count_147 : decode cX1_count 147 = .ok (.iload_n 1, 1) := dk_27 (dk_at dksX1_count_4 8 rfl rfl)
theorem dX1_count_148 : decode cX1_count 148 = .ok (.bipush 7, 2) := dk_16 7 (dk_at dksX1_count_4 9 rfl rfl)
theorem dX1_count_150 : decode cX1_count 150 = .ok (.isub, 1) := dk_100 (dk_at dksX1_count_4 11 rfl rfl)
theorem dX1_count_151 : decode cX1_count 151 = .ok (.invokevirtual 206, 3) := dk_182 0 206 (dk_at dksX1_count_4 12 rfl rfl)
theorem dX1_count_154 : decode cX1_count 154 = .ok (.goto 35, 3) := dk_167 0 35 (dk_at dksX1_count_4 15 rfl rfl)
theorem dX1_count_157 : decode cX1_count 157 = .ok (.aload_n 2, 1) := dk_44 (dk_at dksX1_count_4 18 rfl rfl)
theorem dX1_count_158 : decode cX1_count 158 = .ok (.getfield 209, 3) := dk_180 0 209 (dk_at dksX1_count_4 19 rfl rfl)
theorem dX1_count_161 : decode cX1_count 161 = .ok (.goto 28, 3) := dk_167 0 28 (dk_at dksX1_count_5 0 rfl rfl)
theorem dX1_count_164 : decode cX1_count 164 = .ok (.aload_n 2, 1) := dk_44 (dk_at dksX1_count_5 3 rfl rfl)
theorem dX1_count_165 : decode cX1_count 165 = .ok (.getfield 212, 3) := dk_180 0 212 (dk_at dksX1_count_5 4 rfl rfl)
theorem dX1_count_168 : decode cX1_count 168 = .ok (.goto 21, 3) := dk_167 0 21 (dk_at dksX1_count_5 7 rfl rfl)
theorem dX1_count_171 : decode cX1_count 171 = .ok (.aload_n 2, 1) := dk_44 (dk_at dksX1_count_5 10 rfl rfl)
theorem dX1_count_172 : decode cX1_count 172 = .ok (.getfield 215, 3) := dk_180 0 215 (dk_at dksX1_count_5 11 rfl rfl)
theorem dX1_count_175 : decode cX1_count 175 = .ok (.goto 14, 3) := dk_167 0 14 (dk_at dksX1_count_5 14 rfl rfl)
theorem dX1_count_178 : decode cX1_count 178 = .ok (.aload_n 2, 1) := dk_44 (dk_at dksX1_count_5 17 rfl rfl)
theorem dX1_count_179 : decode cX1_count 179 = .ok (.getfield 218, 3) := dk_180 0 218 (dk_at dksX1_count_5 18 rfl rfl)
theorem dX1_count_182 : decode cX1_count 182 = .ok (.goto 7, 3) := dk_167 0 7 (dk_at dksX1_count_5 21 rfl rfl)
theorem dX1_count_185 : decode cX1_count 185 = .ok (.aload_n 2, 1) := dk_44 (dk_at dksX1_count_6 0 rfl rfl)
theorem dX1_count_186 : decode cX1_count 186 = .ok (.invokevirtual 221, 3) := dk_182 0 221 (dk_at dksX1_count_6 1 rfl rfl)
theorem dX1_count_189 : decode cX1_count 189 = .ok (.ireturn, 1) := dk_172 (dk_at dksX1_count_6 4 rfl rfl)
abbrev cX1_loaded : ByteArray := prog_1_method_16_code
def yX1_loaded : MethodName := ⟨RX1, "loaded", "()LFlagLaundry$World;"⟩
def dkwX1_loaded_0 : List UInt8 := [42, 180, 0, 103, 198, 0, 7, 4, 167, 0, 4, 3, 184, 0, 107, 42, 180, 0, 103, 176]
abbrev dktX1_loaded_0 : List UInt8 := dkwX1_loaded_0 ++ []
theorem dksX1_loaded_0 : cX1_loaded.data.toList.drop 0 = dktX1_loaded_0 := by decide +kernel
theorem dX1_loaded_0 : decode cX1_loaded 0 = .ok (.aload_n 0, 1) := dk_42 (dk_at dksX1_loaded_0 0 rfl rfl)
theorem dX1_loaded_1 : decode cX1_loaded 1 = .ok (.getfield 103, 3) := dk_180 0 103 (dk_at dksX1_loaded_0 1 rfl rfl)
theorem dX1_loaded_4 : decode cX1_loaded 4 = .ok (.ifnull 7, 3) := dk_198 0 7 (dk_at dksX1_loaded_0 4 rfl rfl)
theorem dX1_loaded_7 : decode cX1_loaded 7 = .ok (.iconst 1, 1) := dk_4 (dk_at dksX1_loaded_0 7 rfl rfl)
theorem dX1_loaded_8 : decode cX1_loaded 8 = .ok (.goto 4, 3) := dk_167 0 4 (dk_at dksX1_loaded_0 8 rfl rfl)
theorem dX1_loaded_11 : decode cX1_loaded 11 = .ok (.iconst 0, 1) := dk_3 (dk_at dksX1_loaded_0 11 rfl rfl)
theorem dX1_loaded_12 : decode cX1_loaded 12 = .ok (.invokestatic 107, 3) := dk_184 0 107 (dk_at dksX1_loaded_0 12 rfl rfl)
theorem dX1_loaded_15 : decode cX1_loaded 15 = .ok (.aload_n 0, 1) := dk_42 (dk_at dksX1_loaded_0 15 rfl rfl)
theorem dX1_loaded_16 : decode cX1_loaded 16 = .ok (.getfield 103, 3) := dk_180 0 103 (dk_at dksX1_loaded_0 16 rfl rfl)
theorem dX1_loaded_19 : decode cX1_loaded 19 = .ok (.areturn, 1) := dk_176 (dk_at dksX1_loaded_0 19 rfl rfl)
abbrev cX1_checkState : ByteArray := prog_1_method_15_code
def yX1_checkState : MethodName := ⟨RX1, "checkState", "(Z)V"⟩
def dkwX1_checkState_0 : List UInt8 := [26, 154, 0, 11, 187, 0, 100, 89, 183, 0, 102, 191, 177]
abbrev dktX1_checkState_0 : List UInt8 := dkwX1_checkState_0 ++ []
theorem dksX1_checkState_0 : cX1_checkState.data.toList.drop 0 = dktX1_checkState_0 := by decide +kernel
theorem dX1_checkState_0 : decode cX1_checkState 0 = .ok (.iload_n 0, 1) := dk_26 (dk_at dksX1_checkState_0 0 rfl rfl)
theorem dX1_checkState_1 : decode cX1_checkState 1 = .ok (.ifCond .ne 11, 3) := dk_154 0 11 (dk_at dksX1_checkState_0 1 rfl rfl)
theorem dX1_checkState_4 : decode cX1_checkState 4 = .ok (.new 100, 3) := dk_187 0 100 (dk_at dksX1_checkState_0 4 rfl rfl)
theorem dX1_checkState_7 : decode cX1_checkState 7 = .ok (.dup, 1) := dk_89 (dk_at dksX1_checkState_0 7 rfl rfl)
theorem dX1_checkState_8 : decode cX1_checkState 8 = .ok (.invokespecial 102, 3) := dk_183 0 102 (dk_at dksX1_checkState_0 8 rfl rfl)
theorem dX1_checkState_11 : decode cX1_checkState 11 = .ok (.athrow, 1) := dk_191 (dk_at dksX1_checkState_0 11 rfl rfl)
theorem dX1_checkState_12 : decode cX1_checkState 12 = .ok (.return_, 1) := dk_177 (dk_at dksX1_checkState_0 12 rfl rfl)
abbrev cX1_checkArgument : ByteArray := prog_1_method_13_code
def yX1_checkArgument : MethodName := ⟨RX1, "checkArgument", "(Z)V"⟩
def dkwX1_checkArgument_0 : List UInt8 := [26, 154, 0, 11, 187, 0, 90, 89, 183, 0, 92, 191, 177]
abbrev dktX1_checkArgument_0 : List UInt8 := dkwX1_checkArgument_0 ++ []
theorem dksX1_checkArgument_0 : cX1_checkArgument.data.toList.drop 0 = dktX1_checkArgument_0 := by decide +kernel
theorem dX1_checkArgument_0 : decode cX1_checkArgument 0 = .ok (.iload_n 0, 1) := dk_26 (dk_at dksX1_checkArgument_0 0 rfl rfl)
theorem dX1_checkArgument_1 : decode cX1_checkArgument 1 = .ok (.ifCond .ne 11, 3) := dk_154 0 11 (dk_at dksX1_checkArgument_0 1 rfl rfl)
theorem dX1_checkArgument_4 : decode cX1_checkArgument 4 = .ok (.new 90, 3) := dk_187 0 90 (dk_at dksX1_checkArgument_0 4 rfl rfl)
theorem dX1_checkArgument_7 : decode cX1_checkArgument 7 = .ok (.dup, 1) := dk_89 (dk_at dksX1_checkArgument_0 7 rfl rfl)
theorem dX1_checkArgument_8 : decode cX1_checkArgument 8 = .ok (.invokespecial 92, 3) := dk_183 0 92 (dk_at dksX1_checkArgument_0 8 rfl rfl)
theorem dX1_checkArgument_11 : decode cX1_checkArgument 11 = .ok (.athrow, 1) := dk_191 (dk_at dksX1_checkArgument_0 11 rfl rfl)
theorem dX1_checkArgument_12 : decode cX1_checkArgument 12 = .ok (.return_, 1) := dk_177 (dk_at dksX1_checkArgument_0 12 rfl rfl)
abbrev cX1_kindOf : ByteArray := prog_1_method_6_code
def yX1_kindOf : MethodName := ⟨RX1, "kindOf", "(LFlagLaundry$Place;)I"⟩
def dkwX1_kindOf_1 : List UInt8 := [193, 0, 13, 153, 0, 7, 5, 167, 0, 4, 6, 172]
abbrev dktX1_kindOf_1 : List UInt8 := dkwX1_kindOf_1 ++ []
def dkwX1_kindOf_0 : List UInt8 := [42, 193, 0, 20, 153, 0, 7, 3, 167, 0, 26, 42, 193, 0, 7, 153, 0, 7, 4, 167, 0, 15, 42]
abbrev dktX1_kindOf_0 : List UInt8 := dkwX1_kindOf_0 ++ dktX1_kindOf_1
theorem dksX1_kindOf_0 : cX1_kindOf.data.toList.drop 0 = dktX1_kindOf_0 := by decide +kernel
theorem dksX1_kindOf_1 : cX1_kindOf.data.toList.drop 23 = dktX1_kindOf_1 := dk_seg dksX1_kindOf_0 23 rfl rfl
theorem dX1_kindOf_0 : decode cX1_kindOf 0 = .ok (.aload_n 0, 1) := dk_42 (dk_at dksX1_kindOf_0 0 rfl rfl)
theorem dX1_kindOf_1 : decode cX1_kindOf 1 = .ok (.instanceof 20, 3) := dk_193 0 20 (dk_at dksX1_kindOf_0 1 rfl rfl)
theorem dX1_kindOf_4 : decode cX1_kindOf 4 = .ok (.ifCond .eq 7, 3) := dk_153 0 7 (dk_at dksX1_kindOf_0 4 rfl rfl)
theorem dX1_kindOf_7 : decode cX1_kindOf 7 = .ok (.iconst 0, 1) := dk_3 (dk_at dksX1_kindOf_0 7 rfl rfl)
theorem dX1_kindOf_8 : decode cX1_kindOf 8 = .ok (.goto 26, 3) := dk_167 0 26 (dk_at dksX1_kindOf_0 8 rfl rfl)
theorem dX1_kindOf_11 : decode cX1_kindOf 11 = .ok (.aload_n 0, 1) := dk_42 (dk_at dksX1_kindOf_0 11 rfl rfl)
theorem dX1_kindOf_12 : decode cX1_kindOf 12 = .ok (.instanceof 7, 3) := dk_193 0 7 (dk_at dksX1_kindOf_0 12 rfl rfl)
theorem dX1_kindOf_15 : decode cX1_kindOf 15 = .ok (.ifCond .eq 7, 3) := dk_153 0 7 (dk_at dksX1_kindOf_0 15 rfl rfl)
theorem dX1_kindOf_18 : decode cX1_kindOf 18 = .ok (.iconst 1, 1) := dk_4 (dk_at dksX1_kindOf_0 18 rfl rfl)
theorem dX1_kindOf_19 : decode cX1_kindOf 19 = .ok (.goto 15, 3) := dk_167 0 15 (dk_at dksX1_kindOf_0 19 rfl rfl)
theorem dX1_kindOf_22 : decode cX1_kindOf 22 = .ok (.aload_n 0, 1) := dk_42 (dk_at dksX1_kindOf_0 22 rfl rfl)
theorem dX1_kindOf_23 : decode cX1_kindOf 23 = .ok (.instanceof 13, 3) := dk_193 0 13 (dk_at dksX1_kindOf_1 0 rfl rfl)
theorem dX1_kindOf_26 : decode cX1_kindOf 26 = .ok (.ifCond .eq 7, 3) := dk_153 0 7 (dk_at dksX1_kindOf_1 3 rfl rfl)
theorem dX1_kindOf_29 : decode cX1_kindOf 29 = .ok (.iconst 2, 1) := dk_5 (dk_at dksX1_kindOf_1 6 rfl rfl)
theorem dX1_kindOf_30 : decode cX1_kindOf 30 = .ok (.goto 4, 3) := dk_167 0 4 (dk_at dksX1_kindOf_1 7 rfl rfl)
theorem dX1_kindOf_33 : decode cX1_kindOf 33 = .ok (.iconst 3, 1) := dk_6 (dk_at dksX1_kindOf_1 10 rfl rfl)
theorem dX1_kindOf_34 : decode cX1_kindOf 34 = .ok (.ireturn, 1) := dk_172 (dk_at dksX1_kindOf_1 11 rfl rfl)
abbrev cX1_colour : ByteArray := prog_1_method_31_code
def yX1_colour : MethodName := ⟨RX1, "colour", "(II)I"⟩
def dkwX1_colour_3 : List UInt8 := [186, 0, 233, 0, 0, 182, 0, 229, 167, 0, 11, 187, 0, 90, 89, 183, 0, 92, 191, 172]
abbrev dktX1_colour_3 : List UInt8 := dkwX1_colour_3 ++ []
def dkwX1_colour_2 : List UInt8 := [45, 180, 0, 224, 27, 46, 167, 0, 37, 45, 27, 186, 0, 228, 0, 0, 182, 0, 229, 167, 0, 24, 45, 27]
abbrev dktX1_colour_2 : List UInt8 := dkwX1_colour_2 ++ dktX1_colour_3
def dkwX1_colour_1 : List UInt8 := [170, 0, 0, 0, 0, 61, 0, 0, 0, 0, 0, 0, 0, 2, 0, 0, 0, 26, 0, 0, 0, 35, 0, 0, 0, 48]
abbrev dktX1_colour_1 : List UInt8 := dkwX1_colour_1 ++ dktX1_colour_2
def dkwX1_colour_0 : List UInt8 := [42, 182, 0, 111, 78, 27, 45, 180, 0, 194, 184, 0, 119, 28]
abbrev dktX1_colour_0 : List UInt8 := dkwX1_colour_0 ++ dktX1_colour_1
theorem dksX1_colour_0 : cX1_colour.data.toList.drop 0 = dktX1_colour_0 := by decide +kernel
theorem dksX1_colour_1 : cX1_colour.data.toList.drop 14 = dktX1_colour_1 := dk_seg dksX1_colour_0 14 rfl rfl
theorem dksX1_colour_2 : cX1_colour.data.toList.drop 40 = dktX1_colour_2 := dk_seg dksX1_colour_1 26 rfl rfl
theorem dksX1_colour_3 : cX1_colour.data.toList.drop 64 = dktX1_colour_3 := dk_seg dksX1_colour_2 24 rfl rfl
theorem dX1_colour_0 : decode cX1_colour 0 = .ok (.aload_n 0, 1) := dk_42 (dk_at dksX1_colour_0 0 rfl rfl)
theorem dX1_colour_1 : decode cX1_colour 1 = .ok (.invokevirtual 111, 3) := dk_182 0 111 (dk_at dksX1_colour_0 1 rfl rfl)
theorem dX1_colour_4 : decode cX1_colour 4 = .ok (.astore_n 3, 1) := dk_78 (dk_at dksX1_colour_0 4 rfl rfl)
theorem dX1_colour_5 : decode cX1_colour 5 = .ok (.iload_n 1, 1) := dk_27 (dk_at dksX1_colour_0 5 rfl rfl)
theorem dX1_colour_6 : decode cX1_colour 6 = .ok (.aload_n 3, 1) := dk_45 (dk_at dksX1_colour_0 6 rfl rfl)
theorem dX1_colour_7 : decode cX1_colour 7 = .ok (.getfield 194, 3) := dk_180 0 194 (dk_at dksX1_colour_0 7 rfl rfl)
theorem dX1_colour_10 : decode cX1_colour 10 = .ok (.invokestatic 119, 3) := dk_184 0 119 (dk_at dksX1_colour_0 10 rfl rfl)
theorem dX1_colour_13 : decode cX1_colour 13 = .ok (.iload_n 2, 1) := dk_28 (dk_at dksX1_colour_0 13 rfl rfl)
theorem dX1_colour_14 : decode cX1_colour 14 = .ok (.tableswitch 61 0 2 #[26, 35, 48], 26) := by decide +kernel
theorem dX1_colour_40 : decode cX1_colour 40 = .ok (.aload_n 3, 1) := dk_45 (dk_at dksX1_colour_2 0 rfl rfl)
theorem dX1_colour_41 : decode cX1_colour 41 = .ok (.getfield 224, 3) := dk_180 0 224 (dk_at dksX1_colour_2 1 rfl rfl)
theorem dX1_colour_44 : decode cX1_colour 44 = .ok (.iload_n 1, 1) := dk_27 (dk_at dksX1_colour_2 4 rfl rfl)
theorem dX1_colour_45 : decode cX1_colour 45 = .ok (.iaload, 1) := dk_46 (dk_at dksX1_colour_2 5 rfl rfl)
theorem dX1_colour_46 : decode cX1_colour 46 = .ok (.goto 37, 3) := dk_167 0 37 (dk_at dksX1_colour_2 6 rfl rfl)
theorem dX1_colour_49 : decode cX1_colour 49 = .ok (.aload_n 3, 1) := dk_45 (dk_at dksX1_colour_2 9 rfl rfl)
theorem dX1_colour_50 : decode cX1_colour 50 = .ok (.iload_n 1, 1) := dk_27 (dk_at dksX1_colour_2 10 rfl rfl)
theorem dX1_colour_51 : decode cX1_colour 51 = .ok (.invokedynamic 228, 5) := by decide +kernel
theorem dX1_colour_56 : decode cX1_colour 56 = .ok (.invokevirtual 229, 3) := dk_182 0 229 (dk_at dksX1_colour_2 16 rfl rfl)
theorem dX1_colour_59 : decode cX1_colour 59 = .ok (.goto 24, 3) := dk_167 0 24 (dk_at dksX1_colour_2 19 rfl rfl)
theorem dX1_colour_62 : decode cX1_colour 62 = .ok (.aload_n 3, 1) := dk_45 (dk_at dksX1_colour_2 22 rfl rfl)
theorem dX1_colour_63 : decode cX1_colour 63 = .ok (.iload_n 1, 1) := dk_27 (dk_at dksX1_colour_2 23 rfl rfl)
theorem dX1_colour_64 : decode cX1_colour 64 = .ok (.invokedynamic 233, 5) := by decide +kernel
theorem dX1_colour_69 : decode cX1_colour 69 = .ok (.invokevirtual 229, 3) := dk_182 0 229 (dk_at dksX1_colour_3 5 rfl rfl)
theorem dX1_colour_72 : decode cX1_colour 72 = .ok (.goto 11, 3) := dk_167 0 11 (dk_at dksX1_colour_3 8 rfl rfl)
theorem dX1_colour_75 : decode cX1_colour 75 = .ok (.new 90, 3) := dk_187 0 90 (dk_at dksX1_colour_3 11 rfl rfl)
theorem dX1_colour_78 : decode cX1_colour 78 = .ok (.dup, 1) := dk_89 (dk_at dksX1_colour_3 14 rfl rfl)
theorem dX1_colour_79 : decode cX1_colour 79 = .ok (.invokespecial 92, 3) := dk_183 0 92 (dk_at dksX1_colour_3 15 rfl rfl)
theorem dX1_colour_82 : decode cX1_colour 82 = .ok (.athrow, 1) := dk_191 (dk_at dksX1_colour_3 18 rfl rfl)
theorem dX1_colour_83 : decode cX1_colour 83 = .ok (.ireturn, 1) := dk_172 (dk_at dksX1_colour_3 19 rfl rfl)
abbrev cX1_lambda_colour_9 : ByteArray := prog_1_method_90_code
def yX1_lambda_colour_9 : MethodName := ⟨RX1, "lambda$colour$9", "(ILFlagLaundry$Flag;)Z"⟩
def dkwX1_lambda_colour_9_0 : List UInt8 := [43, 180, 1, 12, 26, 184, 1, 194, 172]
abbrev dktX1_lambda_colour_9_0 : List UInt8 := dkwX1_lambda_colour_9_0 ++ []
theorem dksX1_lambda_colour_9_0 : cX1_lambda_colour_9.data.toList.drop 0 = dktX1_lambda_colour_9_0 := by decide +kernel
theorem dX1_lambda_colour_9_0 : decode cX1_lambda_colour_9 0 = .ok (.aload_n 1, 1) := dk_43 (dk_at dksX1_lambda_colour_9_0 0 rfl rfl)
theorem dX1_lambda_colour_9_1 : decode cX1_lambda_colour_9 1 = .ok (.getfield 268, 3) := dk_180 1 12 (dk_at dksX1_lambda_colour_9_0 1 rfl rfl)
theorem dX1_lambda_colour_9_4 : decode cX1_lambda_colour_9 4 = .ok (.iload_n 0, 1) := dk_26 (dk_at dksX1_lambda_colour_9_0 4 rfl rfl)
theorem dX1_lambda_colour_9_5 : decode cX1_lambda_colour_9 5 = .ok (.invokestatic 450, 3) := dk_184 1 194 (dk_at dksX1_lambda_colour_9_0 5 rfl rfl)
theorem dX1_lambda_colour_9_8 : decode cX1_lambda_colour_9 8 = .ok (.ireturn, 1) := dk_172 (dk_at dksX1_lambda_colour_9_0 8 rfl rfl)
abbrev cX1_lambda_colour_10 : ByteArray := prog_1_method_89_code
def yX1_lambda_colour_10 : MethodName := ⟨RX1, "lambda$colour$10", "(ILFlagLaundry$Flag;)Z"⟩
def dkwX1_lambda_colour_10_0 : List UInt8 := [43, 180, 1, 25, 26, 184, 1, 194, 172]
abbrev dktX1_lambda_colour_10_0 : List UInt8 := dkwX1_lambda_colour_10_0 ++ []
theorem dksX1_lambda_colour_10_0 : cX1_lambda_colour_10.data.toList.drop 0 = dktX1_lambda_colour_10_0 := by decide +kernel
theorem dX1_lambda_colour_10_0 : decode cX1_lambda_colour_10 0 = .ok (.aload_n 1, 1) := dk_43 (dk_at dksX1_lambda_colour_10_0 0 rfl rfl)
theorem dX1_lambda_colour_10_1 : decode cX1_lambda_colour_10 1 = .ok (.getfield 281, 3) := dk_180 1 25 (dk_at dksX1_lambda_colour_10_0 1 rfl rfl)
theorem dX1_lambda_colour_10_4 : decode cX1_lambda_colour_10 4 = .ok (.iload_n 0, 1) := dk_26 (dk_at dksX1_lambda_colour_10_0 4 rfl rfl)
theorem dX1_lambda_colour_10_5 : decode cX1_lambda_colour_10 5 = .ok (.invokestatic 450, 3) := dk_184 1 194 (dk_at dksX1_lambda_colour_10_0 5 rfl rfl)
theorem dX1_lambda_colour_10_8 : decode cX1_lambda_colour_10 8 = .ok (.ireturn, 1) := dk_172 (dk_at dksX1_lambda_colour_10_0 8 rfl rfl)
abbrev cX1_nation : ByteArray := prog_1_method_32_code
def yX1_nation : MethodName := ⟨RX1, "nation", "(II)I"⟩
def dkwX1_nation_6 : List UInt8 := [187, 0, 90, 89, 183, 0, 92, 191, 172]
abbrev dktX1_nation_6 : List UInt8 := dkwX1_nation_6 ++ []
def dkwX1_nation_5 : List UInt8 := [160, 0, 13, 42, 180, 0, 103, 180, 0, 200, 167, 0, 7, 45, 180, 0, 254, 182, 1, 5, 167, 0, 11]
abbrev dktX1_nation_5 : List UInt8 := dkwX1_nation_5 ++ dktX1_nation_6
def dkwX1_nation_4 : List UInt8 := [180, 0, 254, 2, 159, 0, 7, 4, 167, 0, 4, 3, 184, 1, 1, 167, 0, 40, 45, 45, 180, 0, 254, 2]
abbrev dktX1_nation_4 : List UInt8 := dkwX1_nation_4 ++ dktX1_nation_5
def dkwX1_nation_3 : List UInt8 := [180, 0, 103, 27, 182, 0, 248, 167, 0, 70, 42, 180, 0, 103, 27, 182, 0, 251, 167, 0, 59, 45]
abbrev dktX1_nation_3 : List UInt8 := dkwX1_nation_3 ++ dktX1_nation_4
def dkwX1_nation_2 : List UInt8 := [45, 180, 0, 237, 167, 0, 95, 45, 180, 0, 242, 167, 0, 88, 45, 180, 0, 245, 167, 0, 81, 42]
abbrev dktX1_nation_2 : List UInt8 := dkwX1_nation_2 ++ dktX1_nation_3
def dkwX1_nation_1 : List UInt8 := [170, 0, 0, 0, 132, 0, 0, 0, 0, 0, 0, 0, 6, 0, 0, 0, 41, 0, 0, 0, 48, 0, 0, 0, 55, 0, 0, 0, 62, 0, 0, 0, 73, 0, 0, 0, 84, 0, 0, 0, 103]
abbrev dktX1_nation_1 : List UInt8 := dkwX1_nation_1 ++ dktX1_nation_2
def dkwX1_nation_0 : List UInt8 := [42, 27, 182, 0, 234, 78, 28]
abbrev dktX1_nation_0 : List UInt8 := dkwX1_nation_0 ++ dktX1_nation_1
theorem dksX1_nation_0 : cX1_nation.data.toList.drop 0 = dktX1_nation_0 := by decide +kernel
theorem dksX1_nation_1 : cX1_nation.data.toList.drop 7 = dktX1_nation_1 := dk_seg dksX1_nation_0 7 rfl rfl
theorem dksX1_nation_2 : cX1_nation.data.toList.drop 48 = dktX1_nation_2 := dk_seg dksX1_nation_1 41 rfl rfl
theorem dksX1_nation_3 : cX1_nation.data.toList.drop 70 = dktX1_nation_3 := dk_seg dksX1_nation_2 22 rfl rfl
theorem dksX1_nation_4 : cX1_nation.data.toList.drop 92 = dktX1_nation_4 := dk_seg dksX1_nation_3 22 rfl rfl
theorem dksX1_nation_5 : cX1_nation.data.toList.drop 116 = dktX1_nation_5 := dk_seg dksX1_nation_4 24 rfl rfl
theorem dksX1_nation_6 : cX1_nation.data.toList.drop 139 = dktX1_nation_6 := dk_seg dksX1_nation_5 23 rfl rfl
theorem dX1_nation_0 : decode cX1_nation 0 = .ok (.aload_n 0, 1) := dk_42 (dk_at dksX1_nation_0 0 rfl rfl)
theorem dX1_nation_1 : decode cX1_nation 1 = .ok (.iload_n 1, 1) := dk_27 (dk_at dksX1_nation_0 1 rfl rfl)
theorem dX1_nation_2 : decode cX1_nation 2 = .ok (.invokevirtual 234, 3) := dk_182 0 234 (dk_at dksX1_nation_0 2 rfl rfl)
theorem dX1_nation_5 : decode cX1_nation 5 = .ok (.astore_n 3, 1) := dk_78 (dk_at dksX1_nation_0 5 rfl rfl)
theorem dX1_nation_6 : decode cX1_nation 6 = .ok (.iload_n 2, 1) := dk_28 (dk_at dksX1_nation_0 6 rfl rfl)
theorem dX1_nation_7 : decode cX1_nation 7 = .ok (.tableswitch 132 0 6 #[41, 48, 55, 62, 73, 84, 103], 41) := by decide +kernel
theorem dX1_nation_48 : decode cX1_nation 48 = .ok (.aload_n 3, 1) := dk_45 (dk_at dksX1_nation_2 0 rfl rfl)
theorem dX1_nation_49 : decode cX1_nation 49 = .ok (.getfield 237, 3) := dk_180 0 237 (dk_at dksX1_nation_2 1 rfl rfl)
theorem dX1_nation_52 : decode cX1_nation 52 = .ok (.goto 95, 3) := dk_167 0 95 (dk_at dksX1_nation_2 4 rfl rfl)
theorem dX1_nation_55 : decode cX1_nation 55 = .ok (.aload_n 3, 1) := dk_45 (dk_at dksX1_nation_2 7 rfl rfl)
theorem dX1_nation_56 : decode cX1_nation 56 = .ok (.getfield 242, 3) := dk_180 0 242 (dk_at dksX1_nation_2 8 rfl rfl)
theorem dX1_nation_59 : decode cX1_nation 59 = .ok (.goto 88, 3) := dk_167 0 88 (dk_at dksX1_nation_2 11 rfl rfl)
theorem dX1_nation_62 : decode cX1_nation 62 = .ok (.aload_n 3, 1) := dk_45 (dk_at dksX1_nation_2 14 rfl rfl)
theorem dX1_nation_63 : decode cX1_nation 63 = .ok (.getfield 245, 3) := dk_180 0 245 (dk_at dksX1_nation_2 15 rfl rfl)
theorem dX1_nation_66 : decode cX1_nation 66 = .ok (.goto 81, 3) := dk_167 0 81 (dk_at dksX1_nation_2 18 rfl rfl)
theorem dX1_nation_69 : decode cX1_nation 69 = .ok (.aload_n 0, 1) := dk_42 (dk_at dksX1_nation_2 21 rfl rfl)
theorem dX1_nation_70 : decode cX1_nation 70 = .ok (.getfield 103, 3) := dk_180 0 103 (dk_at dksX1_nation_3 0 rfl rfl)
theorem dX1_nation_73 : decode cX1_nation 73 = .ok (.iload_n 1, 1) := dk_27 (dk_at dksX1_nation_3 3 rfl rfl)
theorem dX1_nation_74 : decode cX1_nation 74 = .ok (.invokevirtual 248, 3) := dk_182 0 248 (dk_at dksX1_nation_3 4 rfl rfl)
theorem dX1_nation_77 : decode cX1_nation 77 = .ok (.goto 70, 3) := dk_167 0 70 (dk_at dksX1_nation_3 7 rfl rfl)
theorem dX1_nation_80 : decode cX1_nation 80 = .ok (.aload_n 0, 1) := dk_42 (dk_at dksX1_nation_3 10 rfl rfl)
theorem dX1_nation_81 : decode cX1_nation 81 = .ok (.getfield 103, 3) := dk_180 0 103 (dk_at dksX1_nation_3 11 rfl rfl)
theorem dX1_nation_84 : decode cX1_nation 84 = .ok (.iload_n 1, 1) := dk_27 (dk_at dksX1_nation_3 14 rfl rfl)
theorem dX1_nation_85 : decode cX1_nation 85 = .ok (.invokevirtual 251, 3) := dk_182 0 251 (dk_at dksX1_nation_3 15 rfl rfl)
theorem dX1_nation_88 : decode cX1_nation 88 = .ok (.goto 59, 3) := dk_167 0 59 (dk_at dksX1_nation_3 18 rfl rfl)
theorem dX1_nation_91 : decode cX1_nation 91 = .ok (.aload_n 3, 1) := dk_45 (dk_at dksX1_nation_3 21 rfl rfl)
theorem dX1_nation_92 : decode cX1_nation 92 = .ok (.getfield 254, 3) := dk_180 0 254 (dk_at dksX1_nation_4 0 rfl rfl)
theorem dX1_nation_95 : decode cX1_nation 95 = .ok (.iconst (-1), 1) := dk_2 (dk_at dksX1_nation_4 3 rfl rfl)
theorem dX1_nation_96 : decode cX1_nation 96 = .ok (.if_icmp .eq 7, 3) := dk_159 0 7 (dk_at dksX1_nation_4 4 rfl rfl)
theorem dX1_nation_99 : decode cX1_nation 99 = .ok (.iconst 1, 1) := dk_4 (dk_at dksX1_nation_4 7 rfl rfl)
theorem dX1_nation_100 : decode cX1_nation 100 = .ok (.goto 4, 3) := dk_167 0 4 (dk_at dksX1_nation_4 8 rfl rfl)
theorem dX1_nation_103 : decode cX1_nation 103 = .ok (.iconst 0, 1) := dk_3 (dk_at dksX1_nation_4 11 rfl rfl)
theorem dX1_nation_104 : decode cX1_nation 104 = .ok (.invokestatic 257, 3) := dk_184 1 1 (dk_at dksX1_nation_4 12 rfl rfl)
theorem dX1_nation_107 : decode cX1_nation 107 = .ok (.goto 40, 3) := dk_167 0 40 (dk_at dksX1_nation_4 15 rfl rfl)
theorem dX1_nation_110 : decode cX1_nation 110 = .ok (.aload_n 3, 1) := dk_45 (dk_at dksX1_nation_4 18 rfl rfl)
theorem dX1_nation_111 : decode cX1_nation 111 = .ok (.aload_n 3, 1) := dk_45 (dk_at dksX1_nation_4 19 rfl rfl)
theorem dX1_nation_112 : decode cX1_nation 112 = .ok (.getfield 254, 3) := dk_180 0 254 (dk_at dksX1_nation_4 20 rfl rfl)
theorem dX1_nation_115 : decode cX1_nation 115 = .ok (.iconst (-1), 1) := dk_2 (dk_at dksX1_nation_4 23 rfl rfl)
theorem dX1_nation_116 : decode cX1_nation 116 = .ok (.if_icmp .ne 13, 3) := dk_160 0 13 (dk_at dksX1_nation_5 0 rfl rfl)
theorem dX1_nation_119 : decode cX1_nation 119 = .ok (.aload_n 0, 1) := dk_42 (dk_at dksX1_nation_5 3 rfl rfl)
theorem dX1_nation_120 : decode cX1_nation 120 = .ok (.getfield 103, 3) := dk_180 0 103 (dk_at dksX1_nation_5 4 rfl rfl)
theorem dX1_nation_123 : decode cX1_nation 123 = .ok (.getfield 200, 3) := dk_180 0 200 (dk_at dksX1_nation_5 7 rfl rfl)
theorem dX1_nation_126 : decode cX1_nation 126 = .ok (.goto 7, 3) := dk_167 0 7 (dk_at dksX1_nation_5 10 rfl rfl)
theorem dX1_nation_129 : decode cX1_nation 129 = .ok (.aload_n 3, 1) := dk_45 (dk_at dksX1_nation_5 13 rfl rfl)
theorem dX1_nation_130 : decode cX1_nation 130 = .ok (.getfield 254, 3) := dk_180 0 254 (dk_at dksX1_nation_5 14 rfl rfl)
theorem dX1_nation_133 : decode cX1_nation 133 = .ok (.invokevirtual 261, 3) := dk_182 1 5 (dk_at dksX1_nation_5 17 rfl rfl)
theorem dX1_nation_136 : decode cX1_nation 136 = .ok (.goto 11, 3) := dk_167 0 11 (dk_at dksX1_nation_5 20 rfl rfl)
theorem dX1_nation_139 : decode cX1_nation 139 = .ok (.new 90, 3) := dk_187 0 90 (dk_at dksX1_nation_6 0 rfl rfl)
theorem dX1_nation_142 : decode cX1_nation 142 = .ok (.dup, 1) := dk_89 (dk_at dksX1_nation_6 3 rfl rfl)
theorem dX1_nation_143 : decode cX1_nation 143 = .ok (.invokespecial 92, 3) := dk_183 0 92 (dk_at dksX1_nation_6 4 rfl rfl)
theorem dX1_nation_146 : decode cX1_nation 146 = .ok (.athrow, 1) := dk_191 (dk_at dksX1_nation_6 7 rfl rfl)
theorem dX1_nation_147 : decode cX1_nation 147 = .ok (.ireturn, 1) := dk_172 (dk_at dksX1_nation_6 8 rfl rfl)
abbrev cX1_checkNation : ByteArray := prog_1_method_19_code
def yX1_checkNation : MethodName := ⟨RX1, "checkNation", "(I)LFlagLaundry$Nation;"⟩
def dkwX1_checkNation_0 : List UInt8 := [42, 182, 0, 111, 77, 27, 44, 180, 0, 126, 185, 0, 130, 1, 0, 184, 0, 119, 44, 27, 182, 0, 135, 176]
abbrev dktX1_checkNation_0 : List UInt8 := dkwX1_checkNation_0 ++ []
theorem dksX1_checkNation_0 : cX1_checkNation.data.toList.drop 0 = dktX1_checkNation_0 := by decide +kernel
theorem dX1_checkNation_0 : decode cX1_checkNation 0 = .ok (.aload_n 0, 1) := dk_42 (dk_at dksX1_checkNation_0 0 rfl rfl)
theorem dX1_checkNation_1 : decode cX1_checkNation 1 = .ok (.invokevirtual 111, 3) := dk_182 0 111 (dk_at dksX1_checkNation_0 1 rfl rfl)
theorem dX1_checkNation_4 : decode cX1_checkNation 4 = .ok (.astore_n 2, 1) := dk_77 (dk_at dksX1_checkNation_0 4 rfl rfl)
theorem dX1_checkNation_5 : decode cX1_checkNation 5 = .ok (.iload_n 1, 1) := dk_27 (dk_at dksX1_checkNation_0 5 rfl rfl)
theorem dX1_checkNation_6 : decode cX1_checkNation 6 = .ok (.aload_n 2, 1) := dk_44 (dk_at dksX1_checkNation_0 6 rfl rfl)
theorem dX1_checkNation_7 : decode cX1_checkNation 7 = .ok (.getfield 126, 3) := dk_180 0 126 (dk_at dksX1_checkNation_0 7 rfl rfl)
theorem dX1_checkNation_10 : decode cX1_checkNation 10 = .ok (.invokeinterface 130 1, 5) := by decide +kernel
theorem dX1_checkNation_15 : decode cX1_checkNation 15 = .ok (.invokestatic 119, 3) := dk_184 0 119 (dk_at dksX1_checkNation_0 15 rfl rfl)
theorem dX1_checkNation_18 : decode cX1_checkNation 18 = .ok (.aload_n 2, 1) := dk_44 (dk_at dksX1_checkNation_0 18 rfl rfl)
theorem dX1_checkNation_19 : decode cX1_checkNation 19 = .ok (.iload_n 1, 1) := dk_27 (dk_at dksX1_checkNation_0 19 rfl rfl)
theorem dX1_checkNation_20 : decode cX1_checkNation 20 = .ok (.invokevirtual 135, 3) := dk_182 0 135 (dk_at dksX1_checkNation_0 20 rfl rfl)
theorem dX1_checkNation_23 : decode cX1_checkNation 23 = .ok (.areturn, 1) := dk_176 (dk_at dksX1_checkNation_0 23 rfl rfl)
abbrev cX1_flag : ByteArray := prog_1_method_33_code
def yX1_flag : MethodName := ⟨RX1, "flag", "(II)I"⟩
def dkwX1_flag_5 : List UInt8 := [184, 1, 39, 167, 0, 11, 187, 0, 90, 89, 183, 0, 92, 191, 172]
abbrev dktX1_flag_5 : List UInt8 := dkwX1_flag_5 ++ []
def dkwX1_flag_4 : List UInt8 := [167, 0, 38, 45, 180, 1, 28, 167, 0, 31, 45, 180, 1, 31, 184, 1, 35, 167, 0, 21, 45, 180, 1, 31]
abbrev dktX1_flag_4 : List UInt8 := dkwX1_flag_4 ++ dktX1_flag_5
def dkwX1_flag_3 : List UInt8 := [180, 1, 16, 167, 0, 59, 45, 180, 1, 19, 167, 0, 52, 45, 180, 1, 22, 167, 0, 45, 45, 180, 1, 25]
abbrev dktX1_flag_3 : List UInt8 := dkwX1_flag_3 ++ dktX1_flag_4
def dkwX1_flag_2 : List UInt8 := [45, 180, 1, 8, 167, 0, 80, 45, 180, 1, 12, 167, 0, 73, 45, 180, 1, 13, 167, 0, 66, 45]
abbrev dktX1_flag_2 : List UInt8 := dkwX1_flag_2 ++ dktX1_flag_3
def dkwX1_flag_1 : List UInt8 := [170, 0, 0, 0, 129, 0, 0, 0, 0, 0, 0, 0, 9, 0, 0, 0, 53, 0, 0, 0, 60, 0, 0, 0, 67, 0, 0, 0, 74, 0, 0, 0, 81, 0, 0, 0, 88, 0, 0, 0, 95, 0, 0, 0, 102, 0, 0, 0, 109, 0, 0, 0, 119]
abbrev dktX1_flag_1 : List UInt8 := dkwX1_flag_1 ++ dktX1_flag_2
def dkwX1_flag_0 : List UInt8 := [42, 27, 182, 0, 139, 78, 28]
abbrev dktX1_flag_0 : List UInt8 := dkwX1_flag_0 ++ dktX1_flag_1
theorem dksX1_flag_0 : cX1_flag.data.toList.drop 0 = dktX1_flag_0 := by decide +kernel
theorem dksX1_flag_1 : cX1_flag.data.toList.drop 7 = dktX1_flag_1 := dk_seg dksX1_flag_0 7 rfl rfl
theorem dksX1_flag_2 : cX1_flag.data.toList.drop 60 = dktX1_flag_2 := dk_seg dksX1_flag_1 53 rfl rfl
theorem dksX1_flag_3 : cX1_flag.data.toList.drop 82 = dktX1_flag_3 := dk_seg dksX1_flag_2 22 rfl rfl
theorem dksX1_flag_4 : cX1_flag.data.toList.drop 106 = dktX1_flag_4 := dk_seg dksX1_flag_3 24 rfl rfl
theorem dksX1_flag_5 : cX1_flag.data.toList.drop 130 = dktX1_flag_5 := dk_seg dksX1_flag_4 24 rfl rfl
theorem dX1_flag_0 : decode cX1_flag 0 = .ok (.aload_n 0, 1) := dk_42 (dk_at dksX1_flag_0 0 rfl rfl)
theorem dX1_flag_1 : decode cX1_flag 1 = .ok (.iload_n 1, 1) := dk_27 (dk_at dksX1_flag_0 1 rfl rfl)
theorem dX1_flag_2 : decode cX1_flag 2 = .ok (.invokevirtual 139, 3) := dk_182 0 139 (dk_at dksX1_flag_0 2 rfl rfl)
theorem dX1_flag_5 : decode cX1_flag 5 = .ok (.astore_n 3, 1) := dk_78 (dk_at dksX1_flag_0 5 rfl rfl)
theorem dX1_flag_6 : decode cX1_flag 6 = .ok (.iload_n 2, 1) := dk_28 (dk_at dksX1_flag_0 6 rfl rfl)
theorem dX1_flag_7 : decode cX1_flag 7 = .ok (.tableswitch 129 0 9 #[53, 60, 67, 74, 81, 88, 95, 102, 109, 119], 53) := by decide +kernel
theorem dX1_flag_60 : decode cX1_flag 60 = .ok (.aload_n 3, 1) := dk_45 (dk_at dksX1_flag_2 0 rfl rfl)
theorem dX1_flag_61 : decode cX1_flag 61 = .ok (.getfield 264, 3) := dk_180 1 8 (dk_at dksX1_flag_2 1 rfl rfl)
theorem dX1_flag_64 : decode cX1_flag 64 = .ok (.goto 80, 3) := dk_167 0 80 (dk_at dksX1_flag_2 4 rfl rfl)
theorem dX1_flag_67 : decode cX1_flag 67 = .ok (.aload_n 3, 1) := dk_45 (dk_at dksX1_flag_2 7 rfl rfl)
theorem dX1_flag_68 : decode cX1_flag 68 = .ok (.getfield 268, 3) := dk_180 1 12 (dk_at dksX1_flag_2 8 rfl rfl)
theorem dX1_flag_71 : decode cX1_flag 71 = .ok (.goto 73, 3) := dk_167 0 73 (dk_at dksX1_flag_2 11 rfl rfl)
theorem dX1_flag_74 : decode cX1_flag 74 = .ok (.aload_n 3, 1) := dk_45 (dk_at dksX1_flag_2 14 rfl rfl)
theorem dX1_flag_75 : decode cX1_flag 75 = .ok (.getfield 269, 3) := dk_180 1 13 (dk_at dksX1_flag_2 15 rfl rfl)
theorem dX1_flag_78 : decode cX1_flag 78 = .ok (.goto 66, 3) := dk_167 0 66 (dk_at dksX1_flag_2 18 rfl rfl)
theorem dX1_flag_81 : decode cX1_flag 81 = .ok (.aload_n 3, 1) := dk_45 (dk_at dksX1_flag_2 21 rfl rfl)
theorem dX1_flag_82 : decode cX1_flag 82 = .ok (.getfield 272, 3) := dk_180 1 16 (dk_at dksX1_flag_3 0 rfl rfl)
theorem dX1_flag_85 : decode cX1_flag 85 = .ok (.goto 59, 3) := dk_167 0 59 (dk_at dksX1_flag_3 3 rfl rfl)
theorem dX1_flag_88 : decode cX1_flag 88 = .ok (.aload_n 3, 1) := dk_45 (dk_at dksX1_flag_3 6 rfl rfl)
theorem dX1_flag_89 : decode cX1_flag 89 = .ok (.getfield 275, 3) := dk_180 1 19 (dk_at dksX1_flag_3 7 rfl rfl)
theorem dX1_flag_92 : decode cX1_flag 92 = .ok (.goto 52, 3) := dk_167 0 52 (dk_at dksX1_flag_3 10 rfl rfl)
theorem dX1_flag_95 : decode cX1_flag 95 = .ok (.aload_n 3, 1) := dk_45 (dk_at dksX1_flag_3 13 rfl rfl)
theorem dX1_flag_96 : decode cX1_flag 96 = .ok (.getfield 278, 3) := dk_180 1 22 (dk_at dksX1_flag_3 14 rfl rfl)
theorem dX1_flag_99 : decode cX1_flag 99 = .ok (.goto 45, 3) := dk_167 0 45 (dk_at dksX1_flag_3 17 rfl rfl)
theorem dX1_flag_102 : decode cX1_flag 102 = .ok (.aload_n 3, 1) := dk_45 (dk_at dksX1_flag_3 20 rfl rfl)
theorem dX1_flag_103 : decode cX1_flag 103 = .ok (.getfield 281, 3) := dk_180 1 25 (dk_at dksX1_flag_3 21 rfl rfl)
theorem dX1_flag_106 : decode cX1_flag 106 = .ok (.goto 38, 3) := dk_167 0 38 (dk_at dksX1_flag_4 0 rfl rfl)
theorem dX1_flag_109 : decode cX1_flag 109 = .ok (.aload_n 3, 1) := dk_45 (dk_at dksX1_flag_4 3 rfl rfl)
theorem dX1_flag_110 : decode cX1_flag 110 = .ok (.getfield 284, 3) := dk_180 1 28 (dk_at dksX1_flag_4 4 rfl rfl)
theorem dX1_flag_113 : decode cX1_flag 113 = .ok (.goto 31, 3) := dk_167 0 31 (dk_at dksX1_flag_4 7 rfl rfl)
theorem dX1_flag_116 : decode cX1_flag 116 = .ok (.aload_n 3, 1) := dk_45 (dk_at dksX1_flag_4 10 rfl rfl)
theorem dX1_flag_117 : decode cX1_flag 117 = .ok (.getfield 287, 3) := dk_180 1 31 (dk_at dksX1_flag_4 11 rfl rfl)
theorem dX1_flag_120 : decode cX1_flag 120 = .ok (.invokestatic 291, 3) := dk_184 1 35 (dk_at dksX1_flag_4 14 rfl rfl)
theorem dX1_flag_123 : decode cX1_flag 123 = .ok (.goto 21, 3) := dk_167 0 21 (dk_at dksX1_flag_4 17 rfl rfl)
theorem dX1_flag_126 : decode cX1_flag 126 = .ok (.aload_n 3, 1) := dk_45 (dk_at dksX1_flag_4 20 rfl rfl)
theorem dX1_flag_127 : decode cX1_flag 127 = .ok (.getfield 287, 3) := dk_180 1 31 (dk_at dksX1_flag_4 21 rfl rfl)
theorem dX1_flag_130 : decode cX1_flag 130 = .ok (.invokestatic 295, 3) := dk_184 1 39 (dk_at dksX1_flag_5 0 rfl rfl)
theorem dX1_flag_133 : decode cX1_flag 133 = .ok (.goto 11, 3) := dk_167 0 11 (dk_at dksX1_flag_5 3 rfl rfl)
theorem dX1_flag_136 : decode cX1_flag 136 = .ok (.new 90, 3) := dk_187 0 90 (dk_at dksX1_flag_5 6 rfl rfl)
theorem dX1_flag_139 : decode cX1_flag 139 = .ok (.dup, 1) := dk_89 (dk_at dksX1_flag_5 9 rfl rfl)
theorem dX1_flag_140 : decode cX1_flag 140 = .ok (.invokespecial 92, 3) := dk_183 0 92 (dk_at dksX1_flag_5 10 rfl rfl)
theorem dX1_flag_143 : decode cX1_flag 143 = .ok (.athrow, 1) := dk_191 (dk_at dksX1_flag_5 13 rfl rfl)
theorem dX1_flag_144 : decode cX1_flag 144 = .ok (.ireturn, 1) := dk_172 (dk_at dksX1_flag_5 14 rfl rfl)
abbrev cX1_checkFlag : ByteArray := prog_1_method_17_code
def yX1_checkFlag : MethodName := ⟨RX1, "checkFlag", "(I)LFlagLaundry$Flag;"⟩
def dkwX1_checkFlag_0 : List UInt8 := [42, 182, 0, 111, 77, 27, 44, 182, 0, 115, 184, 0, 119, 44, 27, 182, 0, 28, 176]
abbrev dktX1_checkFlag_0 : List UInt8 := dkwX1_checkFlag_0 ++ []
theorem dksX1_checkFlag_0 : cX1_checkFlag.data.toList.drop 0 = dktX1_checkFlag_0 := by decide +kernel
theorem dX1_checkFlag_0 : decode cX1_checkFlag 0 = .ok (.aload_n 0, 1) := dk_42 (dk_at dksX1_checkFlag_0 0 rfl rfl)
theorem dX1_checkFlag_1 : decode cX1_checkFlag 1 = .ok (.invokevirtual 111, 3) := dk_182 0 111 (dk_at dksX1_checkFlag_0 1 rfl rfl)
theorem dX1_checkFlag_4 : decode cX1_checkFlag 4 = .ok (.astore_n 2, 1) := dk_77 (dk_at dksX1_checkFlag_0 4 rfl rfl)
theorem dX1_checkFlag_5 : decode cX1_checkFlag 5 = .ok (.iload_n 1, 1) := dk_27 (dk_at dksX1_checkFlag_0 5 rfl rfl)
theorem dX1_checkFlag_6 : decode cX1_checkFlag 6 = .ok (.aload_n 2, 1) := dk_44 (dk_at dksX1_checkFlag_0 6 rfl rfl)
theorem dX1_checkFlag_7 : decode cX1_checkFlag 7 = .ok (.invokevirtual 115, 3) := dk_182 0 115 (dk_at dksX1_checkFlag_0 7 rfl rfl)
theorem dX1_checkFlag_10 : decode cX1_checkFlag 10 = .ok (.invokestatic 119, 3) := dk_184 0 119 (dk_at dksX1_checkFlag_0 10 rfl rfl)
theorem dX1_checkFlag_13 : decode cX1_checkFlag 13 = .ok (.aload_n 2, 1) := dk_44 (dk_at dksX1_checkFlag_0 13 rfl rfl)
theorem dX1_checkFlag_14 : decode cX1_checkFlag 14 = .ok (.iload_n 1, 1) := dk_27 (dk_at dksX1_checkFlag_0 14 rfl rfl)
theorem dX1_checkFlag_15 : decode cX1_checkFlag 15 = .ok (.invokevirtual 28, 3) := dk_182 0 28 (dk_at dksX1_checkFlag_0 15 rfl rfl)
theorem dX1_checkFlag_18 : decode cX1_checkFlag 18 = .ok (.areturn, 1) := dk_176 (dk_at dksX1_checkFlag_0 18 rfl rfl)
abbrev cX1_numberOf : ByteArray := prog_1_method_5_code
def yX1_numberOf : MethodName := ⟨RX1, "numberOf", "(LFlagLaundry$Place;)I"⟩
def dkwX1_numberOf_1 : List UInt8 := [153, 0, 15, 42, 192, 0, 13, 76, 43, 180, 0, 15, 167, 0, 4, 2, 172]
abbrev dktX1_numberOf_1 : List UInt8 := dkwX1_numberOf_1 ++ []
def dkwX1_numberOf_0 : List UInt8 := [42, 193, 0, 7, 153, 0, 15, 42, 192, 0, 7, 77, 44, 180, 0, 9, 167, 0, 23, 42, 193, 0, 13]
abbrev dktX1_numberOf_0 : List UInt8 := dkwX1_numberOf_0 ++ dktX1_numberOf_1
theorem dksX1_numberOf_0 : cX1_numberOf.data.toList.drop 0 = dktX1_numberOf_0 := by decide +kernel
theorem dksX1_numberOf_1 : cX1_numberOf.data.toList.drop 23 = dktX1_numberOf_1 := dk_seg dksX1_numberOf_0 23 rfl rfl
theorem dX1_numberOf_0 : decode cX1_numberOf 0 = .ok (.aload_n 0, 1) := dk_42 (dk_at dksX1_numberOf_0 0 rfl rfl)
theorem dX1_numberOf_1 : decode cX1_numberOf 1 = .ok (.instanceof 7, 3) := dk_193 0 7 (dk_at dksX1_numberOf_0 1 rfl rfl)
theorem dX1_numberOf_4 : decode cX1_numberOf 4 = .ok (.ifCond .eq 15, 3) := dk_153 0 15 (dk_at dksX1_numberOf_0 4 rfl rfl)
theorem dX1_numberOf_7 : decode cX1_numberOf 7 = .ok (.aload_n 0, 1) := dk_42 (dk_at dksX1_numberOf_0 7 rfl rfl)
theorem dX1_numberOf_8 : decode cX1_numberOf 8 = .ok (.checkcast 7, 3) := dk_192 0 7 (dk_at dksX1_numberOf_0 8 rfl rfl)
theorem dX1_numberOf_11 : decode cX1_numberOf 11 = .ok (.astore_n 2, 1) := dk_77 (dk_at dksX1_numberOf_0 11 rfl rfl)
theorem dX1_numberOf_12 : decode cX1_numberOf 12 = .ok (.aload_n 2, 1) := dk_44 (dk_at dksX1_numberOf_0 12 rfl rfl)
theorem dX1_numberOf_13 : decode cX1_numberOf 13 = .ok (.getfield 9, 3) := dk_180 0 9 (dk_at dksX1_numberOf_0 13 rfl rfl)
theorem dX1_numberOf_16 : decode cX1_numberOf 16 = .ok (.goto 23, 3) := dk_167 0 23 (dk_at dksX1_numberOf_0 16 rfl rfl)
theorem dX1_numberOf_19 : decode cX1_numberOf 19 = .ok (.aload_n 0, 1) := dk_42 (dk_at dksX1_numberOf_0 19 rfl rfl)
theorem dX1_numberOf_20 : decode cX1_numberOf 20 = .ok (.instanceof 13, 3) := dk_193 0 13 (dk_at dksX1_numberOf_0 20 rfl rfl)
theorem dX1_numberOf_23 : decode cX1_numberOf 23 = .ok (.ifCond .eq 15, 3) := dk_153 0 15 (dk_at dksX1_numberOf_1 0 rfl rfl)
theorem dX1_numberOf_26 : decode cX1_numberOf 26 = .ok (.aload_n 0, 1) := dk_42 (dk_at dksX1_numberOf_1 3 rfl rfl)
theorem dX1_numberOf_27 : decode cX1_numberOf 27 = .ok (.checkcast 13, 3) := dk_192 0 13 (dk_at dksX1_numberOf_1 4 rfl rfl)
theorem dX1_numberOf_30 : decode cX1_numberOf 30 = .ok (.astore_n 1, 1) := dk_76 (dk_at dksX1_numberOf_1 7 rfl rfl)
theorem dX1_numberOf_31 : decode cX1_numberOf 31 = .ok (.aload_n 1, 1) := dk_43 (dk_at dksX1_numberOf_1 8 rfl rfl)
theorem dX1_numberOf_32 : decode cX1_numberOf 32 = .ok (.getfield 15, 3) := dk_180 0 15 (dk_at dksX1_numberOf_1 9 rfl rfl)
theorem dX1_numberOf_35 : decode cX1_numberOf 35 = .ok (.goto 4, 3) := dk_167 0 4 (dk_at dksX1_numberOf_1 12 rfl rfl)
theorem dX1_numberOf_38 : decode cX1_numberOf 38 = .ok (.iconst (-1), 1) := dk_2 (dk_at dksX1_numberOf_1 15 rfl rfl)
theorem dX1_numberOf_39 : decode cX1_numberOf 39 = .ok (.ireturn, 1) := dk_172 (dk_at dksX1_numberOf_1 16 rfl rfl)
abbrev cX1_tub : ByteArray := prog_1_method_34_code
def yX1_tub : MethodName := ⟨RX1, "tub", "(II)I"⟩
def dkwX1_tub_4 : List UInt8 := [183, 0, 92, 191, 172]
abbrev dktX1_tub_4 : List UInt8 := dkwX1_tub_4 ++ []
def dkwX1_tub_3 : List UInt8 := [167, 0, 27, 45, 27, 182, 1, 45, 167, 0, 19, 45, 27, 182, 1, 48, 167, 0, 11, 187, 0, 90, 89]
abbrev dktX1_tub_3 : List UInt8 := dkwX1_tub_3 ++ dktX1_tub_4
def dkwX1_tub_2 : List UInt8 := [45, 180, 1, 42, 27, 46, 167, 0, 43, 45, 27, 182, 0, 44, 167, 0, 35, 45, 27, 182, 0, 47]
abbrev dktX1_tub_2 : List UInt8 := dkwX1_tub_2 ++ dktX1_tub_3
def dkwX1_tub_1 : List UInt8 := [170, 0, 0, 0, 74, 0, 0, 0, 0, 0, 0, 0, 4, 0, 0, 0, 33, 0, 0, 0, 42, 0, 0, 0, 50, 0, 0, 0, 58, 0, 0, 0, 66]
abbrev dktX1_tub_1 : List UInt8 := dkwX1_tub_1 ++ dktX1_tub_2
def dkwX1_tub_0 : List UInt8 := [42, 27, 182, 0, 147, 78, 28]
abbrev dktX1_tub_0 : List UInt8 := dkwX1_tub_0 ++ dktX1_tub_1
theorem dksX1_tub_0 : cX1_tub.data.toList.drop 0 = dktX1_tub_0 := by decide +kernel
theorem dksX1_tub_1 : cX1_tub.data.toList.drop 7 = dktX1_tub_1 := dk_seg dksX1_tub_0 7 rfl rfl
theorem dksX1_tub_2 : cX1_tub.data.toList.drop 40 = dktX1_tub_2 := dk_seg dksX1_tub_1 33 rfl rfl
theorem dksX1_tub_3 : cX1_tub.data.toList.drop 62 = dktX1_tub_3 := dk_seg dksX1_tub_2 22 rfl rfl
theorem dksX1_tub_4 : cX1_tub.data.toList.drop 85 = dktX1_tub_4 := dk_seg dksX1_tub_3 23 rfl rfl
theorem dX1_tub_0 : decode cX1_tub 0 = .ok (.aload_n 0, 1) := dk_42 (dk_at dksX1_tub_0 0 rfl rfl)
theorem dX1_tub_1 : decode cX1_tub 1 = .ok (.iload_n 1, 1) := dk_27 (dk_at dksX1_tub_0 1 rfl rfl)
theorem dX1_tub_2 : decode cX1_tub 2 = .ok (.invokevirtual 147, 3) := dk_182 0 147 (dk_at dksX1_tub_0 2 rfl rfl)
theorem dX1_tub_5 : decode cX1_tub 5 = .ok (.astore_n 3, 1) := dk_78 (dk_at dksX1_tub_0 5 rfl rfl)
theorem dX1_tub_6 : decode cX1_tub 6 = .ok (.iload_n 2, 1) := dk_28 (dk_at dksX1_tub_0 6 rfl rfl)
theorem dX1_tub_7 : decode cX1_tub 7 = .ok (.tableswitch 74 0 4 #[33, 42, 50, 58, 66], 33) := by decide +kernel
theorem dX1_tub_40 : decode cX1_tub 40 = .ok (.aload_n 3, 1) := dk_45 (dk_at dksX1_tub_2 0 rfl rfl)
theorem dX1_tub_41 : decode cX1_tub 41 = .ok (.getfield 298, 3) := dk_180 1 42 (dk_at dksX1_tub_2 1 rfl rfl)
theorem dX1_tub_44 : decode cX1_tub 44 = .ok (.iload_n 1, 1) := dk_27 (dk_at dksX1_tub_2 4 rfl rfl)
theorem dX1_tub_45 : decode cX1_tub 45 = .ok (.iaload, 1) := dk_46 (dk_at dksX1_tub_2 5 rfl rfl)
theorem dX1_tub_46 : decode cX1_tub 46 = .ok (.goto 43, 3) := dk_167 0 43 (dk_at dksX1_tub_2 6 rfl rfl)
theorem dX1_tub_49 : decode cX1_tub 49 = .ok (.aload_n 3, 1) := dk_45 (dk_at dksX1_tub_2 9 rfl rfl)
theorem dX1_tub_50 : decode cX1_tub 50 = .ok (.iload_n 1, 1) := dk_27 (dk_at dksX1_tub_2 10 rfl rfl)
theorem dX1_tub_51 : decode cX1_tub 51 = .ok (.invokevirtual 44, 3) := dk_182 0 44 (dk_at dksX1_tub_2 11 rfl rfl)
theorem dX1_tub_54 : decode cX1_tub 54 = .ok (.goto 35, 3) := dk_167 0 35 (dk_at dksX1_tub_2 14 rfl rfl)
theorem dX1_tub_57 : decode cX1_tub 57 = .ok (.aload_n 3, 1) := dk_45 (dk_at dksX1_tub_2 17 rfl rfl)
theorem dX1_tub_58 : decode cX1_tub 58 = .ok (.iload_n 1, 1) := dk_27 (dk_at dksX1_tub_2 18 rfl rfl)
theorem dX1_tub_59 : decode cX1_tub 59 = .ok (.invokevirtual 47, 3) := dk_182 0 47 (dk_at dksX1_tub_2 19 rfl rfl)
theorem dX1_tub_62 : decode cX1_tub 62 = .ok (.goto 27, 3) := dk_167 0 27 (dk_at dksX1_tub_3 0 rfl rfl)
theorem dX1_tub_65 : decode cX1_tub 65 = .ok (.aload_n 3, 1) := dk_45 (dk_at dksX1_tub_3 3 rfl rfl)
theorem dX1_tub_66 : decode cX1_tub 66 = .ok (.iload_n 1, 1) := dk_27 (dk_at dksX1_tub_3 4 rfl rfl)
theorem dX1_tub_67 : decode cX1_tub 67 = .ok (.invokevirtual 301, 3) := dk_182 1 45 (dk_at dksX1_tub_3 5 rfl rfl)
theorem dX1_tub_70 : decode cX1_tub 70 = .ok (.goto 19, 3) := dk_167 0 19 (dk_at dksX1_tub_3 8 rfl rfl)
theorem dX1_tub_73 : decode cX1_tub 73 = .ok (.aload_n 3, 1) := dk_45 (dk_at dksX1_tub_3 11 rfl rfl)
theorem dX1_tub_74 : decode cX1_tub 74 = .ok (.iload_n 1, 1) := dk_27 (dk_at dksX1_tub_3 12 rfl rfl)
theorem dX1_tub_75 : decode cX1_tub 75 = .ok (.invokevirtual 304, 3) := dk_182 1 48 (dk_at dksX1_tub_3 13 rfl rfl)
theorem dX1_tub_78 : decode cX1_tub 78 = .ok (.goto 11, 3) := dk_167 0 11 (dk_at dksX1_tub_3 16 rfl rfl)
theorem dX1_tub_81 : decode cX1_tub 81 = .ok (.new 90, 3) := dk_187 0 90 (dk_at dksX1_tub_3 19 rfl rfl)
theorem dX1_tub_84 : decode cX1_tub 84 = .ok (.dup, 1) := dk_89 (dk_at dksX1_tub_3 22 rfl rfl)
theorem dX1_tub_85 : decode cX1_tub 85 = .ok (.invokespecial 92, 3) := dk_183 0 92 (dk_at dksX1_tub_4 0 rfl rfl)
theorem dX1_tub_88 : decode cX1_tub 88 = .ok (.athrow, 1) := dk_191 (dk_at dksX1_tub_4 3 rfl rfl)
theorem dX1_tub_89 : decode cX1_tub 89 = .ok (.ireturn, 1) := dk_172 (dk_at dksX1_tub_4 4 rfl rfl)
abbrev cX1_checkTub : ByteArray := prog_1_method_18_code
def yX1_checkTub : MethodName := ⟨RX1, "checkTub", "(I)LFlagLaundry$World;"⟩
def dkwX1_checkTub_0 : List UInt8 := [42, 182, 0, 111, 77, 27, 44, 180, 0, 123, 184, 0, 119, 44, 176]
abbrev dktX1_checkTub_0 : List UInt8 := dkwX1_checkTub_0 ++ []
theorem dksX1_checkTub_0 : cX1_checkTub.data.toList.drop 0 = dktX1_checkTub_0 := by decide +kernel
theorem dX1_checkTub_0 : decode cX1_checkTub 0 = .ok (.aload_n 0, 1) := dk_42 (dk_at dksX1_checkTub_0 0 rfl rfl)
theorem dX1_checkTub_1 : decode cX1_checkTub 1 = .ok (.invokevirtual 111, 3) := dk_182 0 111 (dk_at dksX1_checkTub_0 1 rfl rfl)
theorem dX1_checkTub_4 : decode cX1_checkTub 4 = .ok (.astore_n 2, 1) := dk_77 (dk_at dksX1_checkTub_0 4 rfl rfl)
theorem dX1_checkTub_5 : decode cX1_checkTub 5 = .ok (.iload_n 1, 1) := dk_27 (dk_at dksX1_checkTub_0 5 rfl rfl)
theorem dX1_checkTub_6 : decode cX1_checkTub 6 = .ok (.aload_n 2, 1) := dk_44 (dk_at dksX1_checkTub_0 6 rfl rfl)
theorem dX1_checkTub_7 : decode cX1_checkTub 7 = .ok (.getfield 123, 3) := dk_180 0 123 (dk_at dksX1_checkTub_0 7 rfl rfl)
theorem dX1_checkTub_10 : decode cX1_checkTub 10 = .ok (.invokestatic 119, 3) := dk_184 0 119 (dk_at dksX1_checkTub_0 10 rfl rfl)
theorem dX1_checkTub_13 : decode cX1_checkTub 13 = .ok (.aload_n 2, 1) := dk_44 (dk_at dksX1_checkTub_0 13 rfl rfl)
theorem dX1_checkTub_14 : decode cX1_checkTub 14 = .ok (.areturn, 1) := dk_176 (dk_at dksX1_checkTub_0 14 rfl rfl)
abbrev cX1_inTub : ByteArray := prog_1_method_35_code
def yX1_inTub : MethodName := ⟨RX1, "inTub", "(II)I"⟩
def dkwX1_inTub_0 : List UInt8 := [42, 27, 182, 0, 147, 27, 28, 182, 1, 51, 172]
abbrev dktX1_inTub_0 : List UInt8 := dkwX1_inTub_0 ++ []
theorem dksX1_inTub_0 : cX1_inTub.data.toList.drop 0 = dktX1_inTub_0 := by decide +kernel
theorem dX1_inTub_0 : decode cX1_inTub 0 = .ok (.aload_n 0, 1) := dk_42 (dk_at dksX1_inTub_0 0 rfl rfl)
theorem dX1_inTub_1 : decode cX1_inTub 1 = .ok (.iload_n 1, 1) := dk_27 (dk_at dksX1_inTub_0 1 rfl rfl)
theorem dX1_inTub_2 : decode cX1_inTub 2 = .ok (.invokevirtual 147, 3) := dk_182 0 147 (dk_at dksX1_inTub_0 2 rfl rfl)
theorem dX1_inTub_5 : decode cX1_inTub 5 = .ok (.iload_n 1, 1) := dk_27 (dk_at dksX1_inTub_0 5 rfl rfl)
theorem dX1_inTub_6 : decode cX1_inTub 6 = .ok (.iload_n 2, 1) := dk_28 (dk_at dksX1_inTub_0 6 rfl rfl)
theorem dX1_inTub_7 : decode cX1_inTub 7 = .ok (.invokevirtual 307, 3) := dk_182 1 51 (dk_at dksX1_inTub_0 7 rfl rfl)
theorem dX1_inTub_10 : decode cX1_inTub 10 = .ok (.ireturn, 1) := dk_172 (dk_at dksX1_inTub_0 10 rfl rfl)
abbrev cX1_onPeg : ByteArray := prog_1_method_36_code
def yX1_onPeg : MethodName := ⟨RX1, "onPeg", "(I)I"⟩
def dkwX1_onPeg_0 : List UInt8 := [42, 182, 0, 111, 77, 27, 44, 180, 0, 197, 184, 0, 119, 44, 27, 182, 1, 55, 172]
abbrev dktX1_onPeg_0 : List UInt8 := dkwX1_onPeg_0 ++ []
theorem dksX1_onPeg_0 : cX1_onPeg.data.toList.drop 0 = dktX1_onPeg_0 := by decide +kernel
theorem dX1_onPeg_0 : decode cX1_onPeg 0 = .ok (.aload_n 0, 1) := dk_42 (dk_at dksX1_onPeg_0 0 rfl rfl)
theorem dX1_onPeg_1 : decode cX1_onPeg 1 = .ok (.invokevirtual 111, 3) := dk_182 0 111 (dk_at dksX1_onPeg_0 1 rfl rfl)
theorem dX1_onPeg_4 : decode cX1_onPeg 4 = .ok (.astore_n 2, 1) := dk_77 (dk_at dksX1_onPeg_0 4 rfl rfl)
theorem dX1_onPeg_5 : decode cX1_onPeg 5 = .ok (.iload_n 1, 1) := dk_27 (dk_at dksX1_onPeg_0 5 rfl rfl)
theorem dX1_onPeg_6 : decode cX1_onPeg 6 = .ok (.aload_n 2, 1) := dk_44 (dk_at dksX1_onPeg_0 6 rfl rfl)
theorem dX1_onPeg_7 : decode cX1_onPeg 7 = .ok (.getfield 197, 3) := dk_180 0 197 (dk_at dksX1_onPeg_0 7 rfl rfl)
theorem dX1_onPeg_10 : decode cX1_onPeg 10 = .ok (.invokestatic 119, 3) := dk_184 0 119 (dk_at dksX1_onPeg_0 10 rfl rfl)
theorem dX1_onPeg_13 : decode cX1_onPeg 13 = .ok (.aload_n 2, 1) := dk_44 (dk_at dksX1_onPeg_0 13 rfl rfl)
theorem dX1_onPeg_14 : decode cX1_onPeg 14 = .ok (.iload_n 1, 1) := dk_27 (dk_at dksX1_onPeg_0 14 rfl rfl)
theorem dX1_onPeg_15 : decode cX1_onPeg 15 = .ok (.invokevirtual 311, 3) := dk_182 1 55 (dk_at dksX1_onPeg_0 15 rfl rfl)
theorem dX1_onPeg_18 : decode cX1_onPeg 18 = .ok (.ireturn, 1) := dk_172 (dk_at dksX1_onPeg_0 18 rfl rfl)
abbrev cX1_freePegs : ByteArray := prog_1_method_37_code
def yX1_freePegs : MethodName := ⟨RX1, "freePegs", "()I"⟩
def dkwX1_freePegs_0 : List UInt8 := [42, 182, 0, 111, 76, 43, 180, 0, 197, 43, 5, 182, 0, 206, 100, 172]
abbrev dktX1_freePegs_0 : List UInt8 := dkwX1_freePegs_0 ++ []
theorem dksX1_freePegs_0 : cX1_freePegs.data.toList.drop 0 = dktX1_freePegs_0 := by decide +kernel
theorem dX1_freePegs_0 : decode cX1_freePegs 0 = .ok (.aload_n 0, 1) := dk_42 (dk_at dksX1_freePegs_0 0 rfl rfl)
theorem dX1_freePegs_1 : decode cX1_freePegs 1 = .ok (.invokevirtual 111, 3) := dk_182 0 111 (dk_at dksX1_freePegs_0 1 rfl rfl)
theorem dX1_freePegs_4 : decode cX1_freePegs 4 = .ok (.astore_n 1, 1) := dk_76 (dk_at dksX1_freePegs_0 4 rfl rfl)
theorem dX1_freePegs_5 : decode cX1_freePegs 5 = .ok (.aload_n 1, 1) := dk_43 (dk_at dksX1_freePegs_0 5 rfl rfl)
theorem dX1_freePegs_6 : decode cX1_freePegs 6 = .ok (.getfield 197, 3) := dk_180 0 197 (dk_at dksX1_freePegs_0 6 rfl rfl)
theorem dX1_freePegs_9 : decode cX1_freePegs 9 = .ok (.aload_n 1, 1) := dk_43 (dk_at dksX1_freePegs_0 9 rfl rfl)
theorem dX1_freePegs_10 : decode cX1_freePegs 10 = .ok (.iconst 2, 1) := dk_5 (dk_at dksX1_freePegs_0 10 rfl rfl)
theorem dX1_freePegs_11 : decode cX1_freePegs 11 = .ok (.invokevirtual 206, 3) := dk_182 0 206 (dk_at dksX1_freePegs_0 11 rfl rfl)
theorem dX1_freePegs_14 : decode cX1_freePegs 14 = .ok (.isub, 1) := dk_100 (dk_at dksX1_freePegs_0 14 rfl rfl)
theorem dX1_freePegs_15 : decode cX1_freePegs 15 = .ok (.ireturn, 1) := dk_172 (dk_at dksX1_freePegs_0 15 rfl rfl)
abbrev cX1_wettest : ByteArray := prog_1_method_38_code
def yX1_wettest : MethodName := ⟨RX1, "wettest", "()I"⟩
def dkwX1_wettest_2 : List UInt8 := [182, 0, 28, 180, 1, 19, 164, 0, 5, 29, 61, 132, 3, 1, 167, 255, 204, 28, 172]
abbrev dktX1_wettest_2 : List UInt8 := dkwX1_wettest_2 ++ []
def dkwX1_wettest_1 : List UInt8 := [25, 4, 180, 1, 31, 193, 0, 13, 153, 0, 26, 28, 2, 159, 0, 19, 25, 4, 180, 1, 19, 43, 28]
abbrev dktX1_wettest_1 : List UInt8 := dkwX1_wettest_1 ++ dktX1_wettest_2
def dkwX1_wettest_0 : List UInt8 := [42, 182, 0, 111, 76, 2, 61, 3, 62, 29, 43, 182, 0, 115, 162, 0, 50, 43, 29, 182, 0, 28, 58, 4]
abbrev dktX1_wettest_0 : List UInt8 := dkwX1_wettest_0 ++ dktX1_wettest_1
theorem dksX1_wettest_0 : cX1_wettest.data.toList.drop 0 = dktX1_wettest_0 := by decide +kernel
theorem dksX1_wettest_1 : cX1_wettest.data.toList.drop 24 = dktX1_wettest_1 := dk_seg dksX1_wettest_0 24 rfl rfl
theorem dksX1_wettest_2 : cX1_wettest.data.toList.drop 47 = dktX1_wettest_2 := dk_seg dksX1_wettest_1 23 rfl rfl
theorem dX1_wettest_0 : decode cX1_wettest 0 = .ok (.aload_n 0, 1) := dk_42 (dk_at dksX1_wettest_0 0 rfl rfl)
theorem dX1_wettest_1 : decode cX1_wettest 1 = .ok (.invokevirtual 111, 3) := dk_182 0 111 (dk_at dksX1_wettest_0 1 rfl rfl)
theorem dX1_wettest_4 : decode cX1_wettest 4 = .ok (.astore_n 1, 1) := dk_76 (dk_at dksX1_wettest_0 4 rfl rfl)
theorem dX1_wettest_5 : decode cX1_wettest 5 = .ok (.iconst (-1), 1) := dk_2 (dk_at dksX1_wettest_0 5 rfl rfl)
theorem dX1_wettest_6 : decode cX1_wettest 6 = .ok (.istore_n 2, 1) := dk_61 (dk_at dksX1_wettest_0 6 rfl rfl)
theorem dX1_wettest_7 : decode cX1_wettest 7 = .ok (.iconst 0, 1) := dk_3 (dk_at dksX1_wettest_0 7 rfl rfl)
theorem dX1_wettest_8 : decode cX1_wettest 8 = .ok (.istore_n 3, 1) := dk_62 (dk_at dksX1_wettest_0 8 rfl rfl)
theorem dX1_wettest_9 : decode cX1_wettest 9 = .ok (.iload_n 3, 1) := dk_29 (dk_at dksX1_wettest_0 9 rfl rfl)
theorem dX1_wettest_10 : decode cX1_wettest 10 = .ok (.aload_n 1, 1) := dk_43 (dk_at dksX1_wettest_0 10 rfl rfl)
theorem dX1_wettest_11 : decode cX1_wettest 11 = .ok (.invokevirtual 115, 3) := dk_182 0 115 (dk_at dksX1_wettest_0 11 rfl rfl)
theorem dX1_wettest_14 : decode cX1_wettest 14 = .ok (.if_icmp .ge 50, 3) := dk_162 0 50 (dk_at dksX1_wettest_0 14 rfl rfl)
theorem dX1_wettest_17 : decode cX1_wettest 17 = .ok (.aload_n 1, 1) := dk_43 (dk_at dksX1_wettest_0 17 rfl rfl)
theorem dX1_wettest_18 : decode cX1_wettest 18 = .ok (.iload_n 3, 1) := dk_29 (dk_at dksX1_wettest_0 18 rfl rfl)
theorem dX1_wettest_19 : decode cX1_wettest 19 = .ok (.invokevirtual 28, 3) := dk_182 0 28 (dk_at dksX1_wettest_0 19 rfl rfl)
theorem dX1_wettest_22 : decode cX1_wettest 22 = .ok (.astore 4, 2) := dk_58 4 (dk_at dksX1_wettest_0 22 rfl rfl)
theorem dX1_wettest_24 : decode cX1_wettest 24 = .ok (.aload 4, 2) := dk_25 4 (dk_at dksX1_wettest_1 0 rfl rfl)
theorem dX1_wettest_26 : decode cX1_wettest 26 = .ok (.getfield 287, 3) := dk_180 1 31 (dk_at dksX1_wettest_1 2 rfl rfl)
theorem dX1_wettest_29 : decode cX1_wettest 29 = .ok (.instanceof 13, 3) := dk_193 0 13 (dk_at dksX1_wettest_1 5 rfl rfl)
theorem dX1_wettest_32 : decode cX1_wettest 32 = .ok (.ifCond .eq 26, 3) := dk_153 0 26 (dk_at dksX1_wettest_1 8 rfl rfl)
theorem dX1_wettest_35 : decode cX1_wettest 35 = .ok (.iload_n 2, 1) := dk_28 (dk_at dksX1_wettest_1 11 rfl rfl)
theorem dX1_wettest_36 : decode cX1_wettest 36 = .ok (.iconst (-1), 1) := dk_2 (dk_at dksX1_wettest_1 12 rfl rfl)
theorem dX1_wettest_37 : decode cX1_wettest 37 = .ok (.if_icmp .eq 19, 3) := dk_159 0 19 (dk_at dksX1_wettest_1 13 rfl rfl)
theorem dX1_wettest_40 : decode cX1_wettest 40 = .ok (.aload 4, 2) := dk_25 4 (dk_at dksX1_wettest_1 16 rfl rfl)
theorem dX1_wettest_42 : decode cX1_wettest 42 = .ok (.getfield 275, 3) := dk_180 1 19 (dk_at dksX1_wettest_1 18 rfl rfl)
theorem dX1_wettest_45 : decode cX1_wettest 45 = .ok (.aload_n 1, 1) := dk_43 (dk_at dksX1_wettest_1 21 rfl rfl)
theorem dX1_wettest_46 : decode cX1_wettest 46 = .ok (.iload_n 2, 1) := dk_28 (dk_at dksX1_wettest_1 22 rfl rfl)
theorem dX1_wettest_47 : decode cX1_wettest 47 = .ok (.invokevirtual 28, 3) := dk_182 0 28 (dk_at dksX1_wettest_2 0 rfl rfl)
theorem dX1_wettest_50 : decode cX1_wettest 50 = .ok (.getfield 275, 3) := dk_180 1 19 (dk_at dksX1_wettest_2 3 rfl rfl)
theorem dX1_wettest_53 : decode cX1_wettest 53 = .ok (.if_icmp .le 5, 3) := dk_164 0 5 (dk_at dksX1_wettest_2 6 rfl rfl)
theorem dX1_wettest_56 : decode cX1_wettest 56 = .ok (.iload_n 3, 1) := dk_29 (dk_at dksX1_wettest_2 9 rfl rfl)
theorem dX1_wettest_57 : decode cX1_wettest 57 = .ok (.istore_n 2, 1) := dk_61 (dk_at dksX1_wettest_2 10 rfl rfl)
theorem dX1_wettest_58 : decode cX1_wettest 58 = .ok (.iinc 3 1, 3) := dk_132 3 1 (dk_at dksX1_wettest_2 11 rfl rfl)
theorem dX1_wettest_61 : decode cX1_wettest 61 = .ok (.goto (-52), 3) := dk_167 255 204 (dk_at dksX1_wettest_2 14 rfl rfl)
theorem dX1_wettest_64 : decode cX1_wettest 64 = .ok (.iload_n 2, 1) := dk_28 (dk_at dksX1_wettest_2 17 rfl rfl)
theorem dX1_wettest_65 : decode cX1_wettest 65 = .ok (.ireturn, 1) := dk_172 (dk_at dksX1_wettest_2 18 rfl rfl)
abbrev cX1_gap : ByteArray := prog_1_method_39_code
def yX1_gap : MethodName := ⟨RX1, "gap", "()I"⟩
def dkwX1_gap_0 : List UInt8 := [42, 182, 0, 111, 182, 1, 58, 172]
abbrev dktX1_gap_0 : List UInt8 := dkwX1_gap_0 ++ []
theorem dksX1_gap_0 : cX1_gap.data.toList.drop 0 = dktX1_gap_0 := by decide +kernel
theorem dX1_gap_0 : decode cX1_gap 0 = .ok (.aload_n 0, 1) := dk_42 (dk_at dksX1_gap_0 0 rfl rfl)
theorem dX1_gap_1 : decode cX1_gap 1 = .ok (.invokevirtual 111, 3) := dk_182 0 111 (dk_at dksX1_gap_0 1 rfl rfl)
theorem dX1_gap_4 : decode cX1_gap 4 = .ok (.invokevirtual 314, 3) := dk_182 1 58 (dk_at dksX1_gap_0 4 rfl rfl)
theorem dX1_gap_7 : decode cX1_gap 7 = .ok (.ireturn, 1) := dk_172 (dk_at dksX1_gap_0 7 rfl rfl)
abbrev cX1_why : ByteArray := prog_1_method_40_code
def yX1_why : MethodName := ⟨RX1, "why", "(I)I"⟩
def dkwX1_why_0 : List UInt8 := [42, 27, 182, 0, 139, 77, 42, 180, 0, 103, 44, 182, 1, 61, 172]
abbrev dktX1_why_0 : List UInt8 := dkwX1_why_0 ++ []
theorem dksX1_why_0 : cX1_why.data.toList.drop 0 = dktX1_why_0 := by decide +kernel
theorem dX1_why_0 : decode cX1_why 0 = .ok (.aload_n 0, 1) := dk_42 (dk_at dksX1_why_0 0 rfl rfl)
theorem dX1_why_1 : decode cX1_why 1 = .ok (.iload_n 1, 1) := dk_27 (dk_at dksX1_why_0 1 rfl rfl)
theorem dX1_why_2 : decode cX1_why 2 = .ok (.invokevirtual 139, 3) := dk_182 0 139 (dk_at dksX1_why_0 2 rfl rfl)
theorem dX1_why_5 : decode cX1_why 5 = .ok (.astore_n 2, 1) := dk_77 (dk_at dksX1_why_0 5 rfl rfl)
theorem dX1_why_6 : decode cX1_why 6 = .ok (.aload_n 0, 1) := dk_42 (dk_at dksX1_why_0 6 rfl rfl)
theorem dX1_why_7 : decode cX1_why 7 = .ok (.getfield 103, 3) := dk_180 0 103 (dk_at dksX1_why_0 7 rfl rfl)
theorem dX1_why_10 : decode cX1_why 10 = .ok (.aload_n 2, 1) := dk_44 (dk_at dksX1_why_0 10 rfl rfl)
theorem dX1_why_11 : decode cX1_why 11 = .ok (.invokevirtual 317, 3) := dk_182 1 61 (dk_at dksX1_why_0 11 rfl rfl)
theorem dX1_why_14 : decode cX1_why 14 = .ok (.ireturn, 1) := dk_172 (dk_at dksX1_why_0 14 rfl rfl)
abbrev cX1_reasons : ByteArray := prog_1_method_41_code
def yX1_reasons : MethodName := ⟨RX1, "reasons", "(I)I"⟩
def dkwX1_reasons_2 : List UInt8 := [128, 62, 132, 4, 1, 167, 255, 214, 29, 172]
abbrev dktX1_reasons_2 : List UInt8 := dkwX1_reasons_2 ++ []
def dkwX1_reasons_1 : List UInt8 := [42, 180, 0, 103, 180, 1, 65, 21, 4, 50, 44, 185, 0, 22, 2, 0, 153, 0, 10, 29, 5, 21, 4, 120]
abbrev dktX1_reasons_1 : List UInt8 := dkwX1_reasons_1 ++ dktX1_reasons_2
def dkwX1_reasons_0 : List UInt8 := [42, 27, 182, 0, 139, 77, 3, 62, 3, 54, 4, 21, 4, 42, 180, 0, 103, 180, 1, 65, 190, 162, 0, 35]
abbrev dktX1_reasons_0 : List UInt8 := dkwX1_reasons_0 ++ dktX1_reasons_1
theorem dksX1_reasons_0 : cX1_reasons.data.toList.drop 0 = dktX1_reasons_0 := by decide +kernel
theorem dksX1_reasons_1 : cX1_reasons.data.toList.drop 24 = dktX1_reasons_1 := dk_seg dksX1_reasons_0 24 rfl rfl
theorem dksX1_reasons_2 : cX1_reasons.data.toList.drop 48 = dktX1_reasons_2 := dk_seg dksX1_reasons_1 24 rfl rfl
theorem dX1_reasons_0 : decode cX1_reasons 0 = .ok (.aload_n 0, 1) := dk_42 (dk_at dksX1_reasons_0 0 rfl rfl)
theorem dX1_reasons_1 : decode cX1_reasons 1 = .ok (.iload_n 1, 1) := dk_27 (dk_at dksX1_reasons_0 1 rfl rfl)
theorem dX1_reasons_2 : decode cX1_reasons 2 = .ok (.invokevirtual 139, 3) := dk_182 0 139 (dk_at dksX1_reasons_0 2 rfl rfl)
theorem dX1_reasons_5 : decode cX1_reasons 5 = .ok (.astore_n 2, 1) := dk_77 (dk_at dksX1_reasons_0 5 rfl rfl)
theorem dX1_reasons_6 : decode cX1_reasons 6 = .ok (.iconst 0, 1) := dk_3 (dk_at dksX1_reasons_0 6 rfl rfl)
theorem dX1_reasons_7 : decode cX1_reasons 7 = .ok (.istore_n 3, 1) := dk_62 (dk_at dksX1_reasons_0 7 rfl rfl)
theorem dX1_reasons_8 : decode cX1_reasons 8 = .ok (.iconst 0, 1) := dk_3 (dk_at dksX1_reasons_0 8 rfl rfl)
theorem dX1_reasons_9 : decode cX1_reasons 9 = .ok (.istore 4, 2) := dk_54 4 (dk_at dksX1_reasons_0 9 rfl rfl)
theorem dX1_reasons_11 : decode cX1_reasons 11 = .ok (.iload 4, 2) := dk_21 4 (dk_at dksX1_reasons_0 11 rfl rfl)
theorem dX1_reasons_13 : decode cX1_reasons 13 = .ok (.aload_n 0, 1) := dk_42 (dk_at dksX1_reasons_0 13 rfl rfl)
theorem dX1_reasons_14 : decode cX1_reasons 14 = .ok (.getfield 103, 3) := dk_180 0 103 (dk_at dksX1_reasons_0 14 rfl rfl)
theorem dX1_reasons_17 : decode cX1_reasons 17 = .ok (.getfield 321, 3) := dk_180 1 65 (dk_at dksX1_reasons_0 17 rfl rfl)
theorem dX1_reasons_20 : decode cX1_reasons 20 = .ok (.arraylength, 1) := dk_190 (dk_at dksX1_reasons_0 20 rfl rfl)
theorem dX1_reasons_21 : decode cX1_reasons 21 = .ok (.if_icmp .ge 35, 3) := dk_162 0 35 (dk_at dksX1_reasons_0 21 rfl rfl)
theorem dX1_reasons_24 : decode cX1_reasons 24 = .ok (.aload_n 0, 1) := dk_42 (dk_at dksX1_reasons_1 0 rfl rfl)
theorem dX1_reasons_25 : decode cX1_reasons 25 = .ok (.getfield 103, 3) := dk_180 0 103 (dk_at dksX1_reasons_1 1 rfl rfl)
theorem dX1_reasons_28 : decode cX1_reasons 28 = .ok (.getfield 321, 3) := dk_180 1 65 (dk_at dksX1_reasons_1 4 rfl rfl)
theorem dX1_reasons_31 : decode cX1_reasons 31 = .ok (.iload 4, 2) := dk_21 4 (dk_at dksX1_reasons_1 7 rfl rfl)
theorem dX1_reasons_33 : decode cX1_reasons 33 = .ok (.aaload, 1) := dk_50 (dk_at dksX1_reasons_1 9 rfl rfl)
theorem dX1_reasons_34 : decode cX1_reasons 34 = .ok (.aload_n 2, 1) := dk_44 (dk_at dksX1_reasons_1 10 rfl rfl)
theorem dX1_reasons_35 : decode cX1_reasons 35 = .ok (.invokeinterface 22 2, 5) := by decide +kernel
theorem dX1_reasons_40 : decode cX1_reasons 40 = .ok (.ifCond .eq 10, 3) := dk_153 0 10 (dk_at dksX1_reasons_1 16 rfl rfl)
theorem dX1_reasons_43 : decode cX1_reasons 43 = .ok (.iload_n 3, 1) := dk_29 (dk_at dksX1_reasons_1 19 rfl rfl)
theorem dX1_reasons_44 : decode cX1_reasons 44 = .ok (.iconst 2, 1) := dk_5 (dk_at dksX1_reasons_1 20 rfl rfl)
theorem dX1_reasons_45 : decode cX1_reasons 45 = .ok (.iload 4, 2) := dk_21 4 (dk_at dksX1_reasons_1 21 rfl rfl)
theorem dX1_reasons_47 : decode cX1_reasons 47 = .ok (.ishl, 1) := dk_120 (dk_at dksX1_reasons_1 23 rfl rfl)
theorem dX1_reasons_48 : decode cX1_reasons 48 = .ok (.ior, 1) := dk_128 (dk_at dksX1_reasons_2 0 rfl rfl)
theorem dX1_reasons_49 : decode cX1_reasons 49 = .ok (.istore_n 3, 1) := dk_62 (dk_at dksX1_reasons_2 1 rfl rfl)
theorem dX1_reasons_50 : decode cX1_reasons 50 = .ok (.iinc 4 1, 3) := dk_132 4 1 (dk_at dksX1_reasons_2 2 rfl rfl)
theorem dX1_reasons_53 : decode cX1_reasons 53 = .ok (.goto (-42), 3) := dk_167 255 214 (dk_at dksX1_reasons_2 5 rfl rfl)
theorem dX1_reasons_56 : decode cX1_reasons 56 = .ok (.iload_n 3, 1) := dk_29 (dk_at dksX1_reasons_2 8 rfl rfl)
theorem dX1_reasons_57 : decode cX1_reasons 57 = .ok (.ireturn, 1) := dk_172 (dk_at dksX1_reasons_2 9 rfl rfl)
abbrev cX1_culprit : ByteArray := prog_1_method_42_code
def yX1_culprit : MethodName := ⟨RX1, "culprit", "(I)I"⟩
def dkwX1_culprit_0 : List UInt8 := [42, 27, 182, 0, 234, 77, 42, 180, 0, 103, 27, 182, 1, 69, 172]
abbrev dktX1_culprit_0 : List UInt8 := dkwX1_culprit_0 ++ []
theorem dksX1_culprit_0 : cX1_culprit.data.toList.drop 0 = dktX1_culprit_0 := by decide +kernel
theorem dX1_culprit_0 : decode cX1_culprit 0 = .ok (.aload_n 0, 1) := dk_42 (dk_at dksX1_culprit_0 0 rfl rfl)
theorem dX1_culprit_1 : decode cX1_culprit 1 = .ok (.iload_n 1, 1) := dk_27 (dk_at dksX1_culprit_0 1 rfl rfl)
theorem dX1_culprit_2 : decode cX1_culprit 2 = .ok (.invokevirtual 234, 3) := dk_182 0 234 (dk_at dksX1_culprit_0 2 rfl rfl)
theorem dX1_culprit_5 : decode cX1_culprit 5 = .ok (.astore_n 2, 1) := dk_77 (dk_at dksX1_culprit_0 5 rfl rfl)
theorem dX1_culprit_6 : decode cX1_culprit 6 = .ok (.aload_n 0, 1) := dk_42 (dk_at dksX1_culprit_0 6 rfl rfl)
theorem dX1_culprit_7 : decode cX1_culprit 7 = .ok (.getfield 103, 3) := dk_180 0 103 (dk_at dksX1_culprit_0 7 rfl rfl)
theorem dX1_culprit_10 : decode cX1_culprit 10 = .ok (.iload_n 1, 1) := dk_27 (dk_at dksX1_culprit_0 10 rfl rfl)
theorem dX1_culprit_11 : decode cX1_culprit 11 = .ok (.invokevirtual 325, 3) := dk_182 1 69 (dk_at dksX1_culprit_0 11 rfl rfl)
theorem dX1_culprit_14 : decode cX1_culprit 14 = .ok (.ireturn, 1) := dk_172 (dk_at dksX1_culprit_0 14 rfl rfl)
abbrev cX1_whyNotPut : ByteArray := prog_1_method_43_code
def yX1_whyNotPut : MethodName := ⟨RX1, "whyNotPut", "(II)I"⟩
def dkwX1_whyNotPut_0 : List UInt8 := [42, 27, 28, 182, 1, 72, 78, 42, 180, 0, 103, 27, 28, 184, 1, 76, 172]
abbrev dktX1_whyNotPut_0 : List UInt8 := dkwX1_whyNotPut_0 ++ []
theorem dksX1_whyNotPut_0 : cX1_whyNotPut.data.toList.drop 0 = dktX1_whyNotPut_0 := by decide +kernel
theorem dX1_whyNotPut_0 : decode cX1_whyNotPut 0 = .ok (.aload_n 0, 1) := dk_42 (dk_at dksX1_whyNotPut_0 0 rfl rfl)
theorem dX1_whyNotPut_1 : decode cX1_whyNotPut 1 = .ok (.iload_n 1, 1) := dk_27 (dk_at dksX1_whyNotPut_0 1 rfl rfl)
theorem dX1_whyNotPut_2 : decode cX1_whyNotPut 2 = .ok (.iload_n 2, 1) := dk_28 (dk_at dksX1_whyNotPut_0 2 rfl rfl)
theorem dX1_whyNotPut_3 : decode cX1_whyNotPut 3 = .ok (.invokevirtual 328, 3) := dk_182 1 72 (dk_at dksX1_whyNotPut_0 3 rfl rfl)
theorem dX1_whyNotPut_6 : decode cX1_whyNotPut 6 = .ok (.astore_n 3, 1) := dk_78 (dk_at dksX1_whyNotPut_0 6 rfl rfl)
theorem dX1_whyNotPut_7 : decode cX1_whyNotPut 7 = .ok (.aload_n 0, 1) := dk_42 (dk_at dksX1_whyNotPut_0 7 rfl rfl)
theorem dX1_whyNotPut_8 : decode cX1_whyNotPut 8 = .ok (.getfield 103, 3) := dk_180 0 103 (dk_at dksX1_whyNotPut_0 8 rfl rfl)
theorem dX1_whyNotPut_11 : decode cX1_whyNotPut 11 = .ok (.iload_n 1, 1) := dk_27 (dk_at dksX1_whyNotPut_0 11 rfl rfl)
theorem dX1_whyNotPut_12 : decode cX1_whyNotPut 12 = .ok (.iload_n 2, 1) := dk_28 (dk_at dksX1_whyNotPut_0 12 rfl rfl)
theorem dX1_whyNotPut_13 : decode cX1_whyNotPut 13 = .ok (.invokestatic 332, 3) := dk_184 1 76 (dk_at dksX1_whyNotPut_0 13 rfl rfl)
theorem dX1_whyNotPut_16 : decode cX1_whyNotPut 16 = .ok (.ireturn, 1) := dk_172 (dk_at dksX1_whyNotPut_0 16 rfl rfl)
abbrev cX1_checkBoth : ByteArray := prog_1_method_20_code
def yX1_checkBoth : MethodName := ⟨RX1, "checkBoth", "(II)LFlagLaundry$Flag;"⟩
def dkwX1_checkBoth_0 : List UInt8 := [42, 27, 182, 0, 139, 78, 28, 42, 180, 0, 103, 180, 0, 123, 184, 0, 119, 45, 176]
abbrev dktX1_checkBoth_0 : List UInt8 := dkwX1_checkBoth_0 ++ []
theorem dksX1_checkBoth_0 : cX1_checkBoth.data.toList.drop 0 = dktX1_checkBoth_0 := by decide +kernel
theorem dX1_checkBoth_0 : decode cX1_checkBoth 0 = .ok (.aload_n 0, 1) := dk_42 (dk_at dksX1_checkBoth_0 0 rfl rfl)
theorem dX1_checkBoth_1 : decode cX1_checkBoth 1 = .ok (.iload_n 1, 1) := dk_27 (dk_at dksX1_checkBoth_0 1 rfl rfl)
theorem dX1_checkBoth_2 : decode cX1_checkBoth 2 = .ok (.invokevirtual 139, 3) := dk_182 0 139 (dk_at dksX1_checkBoth_0 2 rfl rfl)
theorem dX1_checkBoth_5 : decode cX1_checkBoth 5 = .ok (.astore_n 3, 1) := dk_78 (dk_at dksX1_checkBoth_0 5 rfl rfl)
theorem dX1_checkBoth_6 : decode cX1_checkBoth 6 = .ok (.iload_n 2, 1) := dk_28 (dk_at dksX1_checkBoth_0 6 rfl rfl)
theorem dX1_checkBoth_7 : decode cX1_checkBoth 7 = .ok (.aload_n 0, 1) := dk_42 (dk_at dksX1_checkBoth_0 7 rfl rfl)
theorem dX1_checkBoth_8 : decode cX1_checkBoth 8 = .ok (.getfield 103, 3) := dk_180 0 103 (dk_at dksX1_checkBoth_0 8 rfl rfl)
theorem dX1_checkBoth_11 : decode cX1_checkBoth 11 = .ok (.getfield 123, 3) := dk_180 0 123 (dk_at dksX1_checkBoth_0 11 rfl rfl)
theorem dX1_checkBoth_14 : decode cX1_checkBoth 14 = .ok (.invokestatic 119, 3) := dk_184 0 119 (dk_at dksX1_checkBoth_0 14 rfl rfl)
theorem dX1_checkBoth_17 : decode cX1_checkBoth 17 = .ok (.aload_n 3, 1) := dk_45 (dk_at dksX1_checkBoth_0 17 rfl rfl)
theorem dX1_checkBoth_18 : decode cX1_checkBoth 18 = .ok (.areturn, 1) := dk_176 (dk_at dksX1_checkBoth_0 18 rfl rfl)
abbrev cX1_whyNotWash : ByteArray := prog_1_method_44_code
def yX1_whyNotWash : MethodName := ⟨RX1, "whyNotWash", "(II)I"⟩
def dkwX1_whyNotWash_0 : List UInt8 := [42, 27, 28, 182, 1, 80, 27, 28, 184, 1, 84, 172]
abbrev dktX1_whyNotWash_0 : List UInt8 := dkwX1_whyNotWash_0 ++ []
theorem dksX1_whyNotWash_0 : cX1_whyNotWash.data.toList.drop 0 = dktX1_whyNotWash_0 := by decide +kernel
theorem dX1_whyNotWash_0 : decode cX1_whyNotWash 0 = .ok (.aload_n 0, 1) := dk_42 (dk_at dksX1_whyNotWash_0 0 rfl rfl)
theorem dX1_whyNotWash_1 : decode cX1_whyNotWash 1 = .ok (.iload_n 1, 1) := dk_27 (dk_at dksX1_whyNotWash_0 1 rfl rfl)
theorem dX1_whyNotWash_2 : decode cX1_whyNotWash 2 = .ok (.iload_n 2, 1) := dk_28 (dk_at dksX1_whyNotWash_0 2 rfl rfl)
theorem dX1_whyNotWash_3 : decode cX1_whyNotWash 3 = .ok (.invokevirtual 336, 3) := dk_182 1 80 (dk_at dksX1_whyNotWash_0 3 rfl rfl)
theorem dX1_whyNotWash_6 : decode cX1_whyNotWash 6 = .ok (.iload_n 1, 1) := dk_27 (dk_at dksX1_whyNotWash_0 6 rfl rfl)
theorem dX1_whyNotWash_7 : decode cX1_whyNotWash 7 = .ok (.iload_n 2, 1) := dk_28 (dk_at dksX1_whyNotWash_0 7 rfl rfl)
theorem dX1_whyNotWash_8 : decode cX1_whyNotWash 8 = .ok (.invokestatic 340, 3) := dk_184 1 84 (dk_at dksX1_whyNotWash_0 8 rfl rfl)
theorem dX1_whyNotWash_11 : decode cX1_whyNotWash 11 = .ok (.ireturn, 1) := dk_172 (dk_at dksX1_whyNotWash_0 11 rfl rfl)
abbrev cX1_checkWash : ByteArray := prog_1_method_22_code
def yX1_checkWash : MethodName := ⟨RX1, "checkWash", "(II)LFlagLaundry$World;"⟩
def dkwX1_checkWash_0 : List UInt8 := [42, 27, 182, 0, 147, 78, 28, 184, 0, 151, 45, 176]
abbrev dktX1_checkWash_0 : List UInt8 := dkwX1_checkWash_0 ++ []
theorem dksX1_checkWash_0 : cX1_checkWash.data.toList.drop 0 = dktX1_checkWash_0 := by decide +kernel
theorem dX1_checkWash_0 : decode cX1_checkWash 0 = .ok (.aload_n 0, 1) := dk_42 (dk_at dksX1_checkWash_0 0 rfl rfl)
theorem dX1_checkWash_1 : decode cX1_checkWash 1 = .ok (.iload_n 1, 1) := dk_27 (dk_at dksX1_checkWash_0 1 rfl rfl)
theorem dX1_checkWash_2 : decode cX1_checkWash 2 = .ok (.invokevirtual 147, 3) := dk_182 0 147 (dk_at dksX1_checkWash_0 2 rfl rfl)
theorem dX1_checkWash_5 : decode cX1_checkWash 5 = .ok (.astore_n 3, 1) := dk_78 (dk_at dksX1_checkWash_0 5 rfl rfl)
theorem dX1_checkWash_6 : decode cX1_checkWash 6 = .ok (.iload_n 2, 1) := dk_28 (dk_at dksX1_checkWash_0 6 rfl rfl)
theorem dX1_checkWash_7 : decode cX1_checkWash 7 = .ok (.invokestatic 151, 3) := dk_184 0 151 (dk_at dksX1_checkWash_0 7 rfl rfl)
theorem dX1_checkWash_10 : decode cX1_checkWash 10 = .ok (.aload_n 3, 1) := dk_45 (dk_at dksX1_checkWash_0 10 rfl rfl)
theorem dX1_checkWash_11 : decode cX1_checkWash 11 = .ok (.areturn, 1) := dk_176 (dk_at dksX1_checkWash_0 11 rfl rfl)
abbrev cX1_checkHeat : ByteArray := prog_1_method_21_code
def yX1_checkHeat : MethodName := ⟨RX1, "checkHeat", "(I)V"⟩
def dkwX1_checkHeat_0 : List UInt8 := [26, 133, 9, 20, 0, 142, 184, 0, 93, 184, 0, 144, 177]
abbrev dktX1_checkHeat_0 : List UInt8 := dkwX1_checkHeat_0 ++ []
theorem dksX1_checkHeat_0 : cX1_checkHeat.data.toList.drop 0 = dktX1_checkHeat_0 := by decide +kernel
theorem dX1_checkHeat_0 : decode cX1_checkHeat 0 = .ok (.iload_n 0, 1) := dk_26 (dk_at dksX1_checkHeat_0 0 rfl rfl)
theorem dX1_checkHeat_1 : decode cX1_checkHeat 1 = .ok (.i2l, 1) := dk_133 (dk_at dksX1_checkHeat_0 1 rfl rfl)
theorem dX1_checkHeat_2 : decode cX1_checkHeat 2 = .ok (.lconst 0, 1) := dk_9 (dk_at dksX1_checkHeat_0 2 rfl rfl)
theorem dX1_checkHeat_3 : decode cX1_checkHeat 3 = .ok (.ldc2_w 142, 3) := dk_20 0 142 (dk_at dksX1_checkHeat_0 3 rfl rfl)
theorem dX1_checkHeat_6 : decode cX1_checkHeat 6 = .ok (.invokestatic 93, 3) := dk_184 0 93 (dk_at dksX1_checkHeat_0 6 rfl rfl)
theorem dX1_checkHeat_9 : decode cX1_checkHeat 9 = .ok (.invokestatic 144, 3) := dk_184 0 144 (dk_at dksX1_checkHeat_0 9 rfl rfl)
theorem dX1_checkHeat_12 : decode cX1_checkHeat 12 = .ok (.return_, 1) := dk_177 (dk_at dksX1_checkHeat_0 12 rfl rfl)
abbrev cX1_whyNotIron : ByteArray := prog_1_method_45_code
def yX1_whyNotIron : MethodName := ⟨RX1, "whyNotIron", "(II)I"⟩
def dkwX1_whyNotIron_0 : List UInt8 := [42, 27, 28, 182, 1, 87, 28, 184, 1, 90, 172]
abbrev dktX1_whyNotIron_0 : List UInt8 := dkwX1_whyNotIron_0 ++ []
theorem dksX1_whyNotIron_0 : cX1_whyNotIron.data.toList.drop 0 = dktX1_whyNotIron_0 := by decide +kernel
theorem dX1_whyNotIron_0 : decode cX1_whyNotIron 0 = .ok (.aload_n 0, 1) := dk_42 (dk_at dksX1_whyNotIron_0 0 rfl rfl)
theorem dX1_whyNotIron_1 : decode cX1_whyNotIron 1 = .ok (.iload_n 1, 1) := dk_27 (dk_at dksX1_whyNotIron_0 1 rfl rfl)
theorem dX1_whyNotIron_2 : decode cX1_whyNotIron 2 = .ok (.iload_n 2, 1) := dk_28 (dk_at dksX1_whyNotIron_0 2 rfl rfl)
theorem dX1_whyNotIron_3 : decode cX1_whyNotIron 3 = .ok (.invokevirtual 343, 3) := dk_182 1 87 (dk_at dksX1_whyNotIron_0 3 rfl rfl)
theorem dX1_whyNotIron_6 : decode cX1_whyNotIron 6 = .ok (.iload_n 2, 1) := dk_28 (dk_at dksX1_whyNotIron_0 6 rfl rfl)
theorem dX1_whyNotIron_7 : decode cX1_whyNotIron 7 = .ok (.invokestatic 346, 3) := dk_184 1 90 (dk_at dksX1_whyNotIron_0 7 rfl rfl)
theorem dX1_whyNotIron_10 : decode cX1_whyNotIron 10 = .ok (.ireturn, 1) := dk_172 (dk_at dksX1_whyNotIron_0 10 rfl rfl)
abbrev cX1_checkIron : ByteArray := prog_1_method_23_code
def yX1_checkIron : MethodName := ⟨RX1, "checkIron", "(II)LFlagLaundry$Flag;"⟩
def dkwX1_checkIron_0 : List UInt8 := [42, 27, 182, 0, 139, 78, 28, 184, 0, 151, 45, 176]
abbrev dktX1_checkIron_0 : List UInt8 := dkwX1_checkIron_0 ++ []
theorem dksX1_checkIron_0 : cX1_checkIron.data.toList.drop 0 = dktX1_checkIron_0 := by decide +kernel
theorem dX1_checkIron_0 : decode cX1_checkIron 0 = .ok (.aload_n 0, 1) := dk_42 (dk_at dksX1_checkIron_0 0 rfl rfl)
theorem dX1_checkIron_1 : decode cX1_checkIron 1 = .ok (.iload_n 1, 1) := dk_27 (dk_at dksX1_checkIron_0 1 rfl rfl)
theorem dX1_checkIron_2 : decode cX1_checkIron 2 = .ok (.invokevirtual 139, 3) := dk_182 0 139 (dk_at dksX1_checkIron_0 2 rfl rfl)
theorem dX1_checkIron_5 : decode cX1_checkIron 5 = .ok (.astore_n 3, 1) := dk_78 (dk_at dksX1_checkIron_0 5 rfl rfl)
theorem dX1_checkIron_6 : decode cX1_checkIron 6 = .ok (.iload_n 2, 1) := dk_28 (dk_at dksX1_checkIron_0 6 rfl rfl)
theorem dX1_checkIron_7 : decode cX1_checkIron 7 = .ok (.invokestatic 151, 3) := dk_184 0 151 (dk_at dksX1_checkIron_0 7 rfl rfl)
theorem dX1_checkIron_10 : decode cX1_checkIron 10 = .ok (.aload_n 3, 1) := dk_45 (dk_at dksX1_checkIron_0 10 rfl rfl)
theorem dX1_checkIron_11 : decode cX1_checkIron 11 = .ok (.areturn, 1) := dk_176 (dk_at dksX1_checkIron_0 11 rfl rfl)
abbrev cX1_ironBar : ByteArray := prog_1_method_10_code
def yX1_ironBar : MethodName := ⟨RX1, "ironBar", "(LFlagLaundry$Flag;I)I"⟩
def dkwX1_ironBar_1 : List UInt8 := [186, 0, 54, 0, 0, 83, 89, 6, 186, 0, 55, 0, 0, 83, 184, 0, 40, 172]
abbrev dktX1_ironBar_1 : List UInt8 := dkwX1_ironBar_1 ++ []
def dkwX1_ironBar_0 : List UInt8 := [42, 7, 189, 0, 23, 89, 3, 186, 0, 50, 0, 0, 83, 89, 4, 27, 186, 0, 51, 0, 0, 83, 89, 5]
abbrev dktX1_ironBar_0 : List UInt8 := dkwX1_ironBar_0 ++ dktX1_ironBar_1
theorem dksX1_ironBar_0 : cX1_ironBar.data.toList.drop 0 = dktX1_ironBar_0 := by decide +kernel
theorem dksX1_ironBar_1 : cX1_ironBar.data.toList.drop 24 = dktX1_ironBar_1 := dk_seg dksX1_ironBar_0 24 rfl rfl
theorem dX1_ironBar_0 : decode cX1_ironBar 0 = .ok (.aload_n 0, 1) := dk_42 (dk_at dksX1_ironBar_0 0 rfl rfl)
theorem dX1_ironBar_1 : decode cX1_ironBar 1 = .ok (.iconst 4, 1) := dk_7 (dk_at dksX1_ironBar_0 1 rfl rfl)
theorem dX1_ironBar_2 : decode cX1_ironBar 2 = .ok (.anewarray 23, 3) := dk_189 0 23 (dk_at dksX1_ironBar_0 2 rfl rfl)
theorem dX1_ironBar_5 : decode cX1_ironBar 5 = .ok (.dup, 1) := dk_89 (dk_at dksX1_ironBar_0 5 rfl rfl)
theorem dX1_ironBar_6 : decode cX1_ironBar 6 = .ok (.iconst 0, 1) := dk_3 (dk_at dksX1_ironBar_0 6 rfl rfl)
theorem dX1_ironBar_7 : decode cX1_ironBar 7 = .ok (.invokedynamic 50, 5) := by decide +kernel
theorem dX1_ironBar_12 : decode cX1_ironBar 12 = .ok (.aastore, 1) := dk_83 (dk_at dksX1_ironBar_0 12 rfl rfl)
theorem dX1_ironBar_13 : decode cX1_ironBar 13 = .ok (.dup, 1) := dk_89 (dk_at dksX1_ironBar_0 13 rfl rfl)
theorem dX1_ironBar_14 : decode cX1_ironBar 14 = .ok (.iconst 1, 1) := dk_4 (dk_at dksX1_ironBar_0 14 rfl rfl)
theorem dX1_ironBar_15 : decode cX1_ironBar 15 = .ok (.iload_n 1, 1) := dk_27 (dk_at dksX1_ironBar_0 15 rfl rfl)
theorem dX1_ironBar_16 : decode cX1_ironBar 16 = .ok (.invokedynamic 51, 5) := by decide +kernel
theorem dX1_ironBar_21 : decode cX1_ironBar 21 = .ok (.aastore, 1) := dk_83 (dk_at dksX1_ironBar_0 21 rfl rfl)
theorem dX1_ironBar_22 : decode cX1_ironBar 22 = .ok (.dup, 1) := dk_89 (dk_at dksX1_ironBar_0 22 rfl rfl)
theorem dX1_ironBar_23 : decode cX1_ironBar 23 = .ok (.iconst 2, 1) := dk_5 (dk_at dksX1_ironBar_0 23 rfl rfl)
theorem dX1_ironBar_24 : decode cX1_ironBar 24 = .ok (.invokedynamic 54, 5) := by decide +kernel
theorem dX1_ironBar_29 : decode cX1_ironBar 29 = .ok (.aastore, 1) := dk_83 (dk_at dksX1_ironBar_1 5 rfl rfl)
theorem dX1_ironBar_30 : decode cX1_ironBar 30 = .ok (.dup, 1) := dk_89 (dk_at dksX1_ironBar_1 6 rfl rfl)
theorem dX1_ironBar_31 : decode cX1_ironBar 31 = .ok (.iconst 3, 1) := dk_6 (dk_at dksX1_ironBar_1 7 rfl rfl)
theorem dX1_ironBar_32 : decode cX1_ironBar 32 = .ok (.invokedynamic 55, 5) := by decide +kernel
theorem dX1_ironBar_37 : decode cX1_ironBar 37 = .ok (.aastore, 1) := dk_83 (dk_at dksX1_ironBar_1 13 rfl rfl)
theorem dX1_ironBar_38 : decode cX1_ironBar 38 = .ok (.invokestatic 40, 3) := dk_184 0 40 (dk_at dksX1_ironBar_1 14 rfl rfl)
theorem dX1_ironBar_41 : decode cX1_ironBar 41 = .ok (.ireturn, 1) := dk_172 (dk_at dksX1_ironBar_1 17 rfl rfl)
abbrev cX1_lambda_ironBar_2 : ByteArray := prog_1_method_97_code
def yX1_lambda_ironBar_2 : MethodName := ⟨RX1, "lambda$ironBar$2", "(LFlagLaundry$Flag;)Z"⟩
def dkwX1_lambda_ironBar_2_0 : List UInt8 := [42, 182, 1, 115, 154, 0, 7, 4, 167, 0, 4, 3, 172]
abbrev dktX1_lambda_ironBar_2_0 : List UInt8 := dkwX1_lambda_ironBar_2_0 ++ []
theorem dksX1_lambda_ironBar_2_0 : cX1_lambda_ironBar_2.data.toList.drop 0 = dktX1_lambda_ironBar_2_0 := by decide +kernel
theorem dX1_lambda_ironBar_2_0 : decode cX1_lambda_ironBar_2 0 = .ok (.aload_n 0, 1) := dk_42 (dk_at dksX1_lambda_ironBar_2_0 0 rfl rfl)
theorem dX1_lambda_ironBar_2_1 : decode cX1_lambda_ironBar_2 1 = .ok (.invokevirtual 371, 3) := dk_182 1 115 (dk_at dksX1_lambda_ironBar_2_0 1 rfl rfl)
theorem dX1_lambda_ironBar_2_4 : decode cX1_lambda_ironBar_2 4 = .ok (.ifCond .ne 7, 3) := dk_154 0 7 (dk_at dksX1_lambda_ironBar_2_0 4 rfl rfl)
theorem dX1_lambda_ironBar_2_7 : decode cX1_lambda_ironBar_2 7 = .ok (.iconst 1, 1) := dk_4 (dk_at dksX1_lambda_ironBar_2_0 7 rfl rfl)
theorem dX1_lambda_ironBar_2_8 : decode cX1_lambda_ironBar_2 8 = .ok (.goto 4, 3) := dk_167 0 4 (dk_at dksX1_lambda_ironBar_2_0 8 rfl rfl)
theorem dX1_lambda_ironBar_2_11 : decode cX1_lambda_ironBar_2 11 = .ok (.iconst 0, 1) := dk_3 (dk_at dksX1_lambda_ironBar_2_0 11 rfl rfl)
theorem dX1_lambda_ironBar_2_12 : decode cX1_lambda_ironBar_2 12 = .ok (.ireturn, 1) := dk_172 (dk_at dksX1_lambda_ironBar_2_0 12 rfl rfl)
abbrev cX1_lambda_ironBar_3 : ByteArray := prog_1_method_96_code
def yX1_lambda_ironBar_3 : MethodName := ⟨RX1, "lambda$ironBar$3", "(ILFlagLaundry$Flag;)Z"⟩
def dkwX1_lambda_ironBar_3_0 : List UInt8 := [26, 43, 180, 1, 13, 164, 0, 7, 4, 167, 0, 4, 3, 172]
abbrev dktX1_lambda_ironBar_3_0 : List UInt8 := dkwX1_lambda_ironBar_3_0 ++ []
theorem dksX1_lambda_ironBar_3_0 : cX1_lambda_ironBar_3.data.toList.drop 0 = dktX1_lambda_ironBar_3_0 := by decide +kernel
theorem dX1_lambda_ironBar_3_0 : decode cX1_lambda_ironBar_3 0 = .ok (.iload_n 0, 1) := dk_26 (dk_at dksX1_lambda_ironBar_3_0 0 rfl rfl)
theorem dX1_lambda_ironBar_3_1 : decode cX1_lambda_ironBar_3 1 = .ok (.aload_n 1, 1) := dk_43 (dk_at dksX1_lambda_ironBar_3_0 1 rfl rfl)
theorem dX1_lambda_ironBar_3_2 : decode cX1_lambda_ironBar_3 2 = .ok (.getfield 269, 3) := dk_180 1 13 (dk_at dksX1_lambda_ironBar_3_0 2 rfl rfl)
theorem dX1_lambda_ironBar_3_5 : decode cX1_lambda_ironBar_3 5 = .ok (.if_icmp .le 7, 3) := dk_164 0 7 (dk_at dksX1_lambda_ironBar_3_0 5 rfl rfl)
theorem dX1_lambda_ironBar_3_8 : decode cX1_lambda_ironBar_3 8 = .ok (.iconst 1, 1) := dk_4 (dk_at dksX1_lambda_ironBar_3_0 8 rfl rfl)
theorem dX1_lambda_ironBar_3_9 : decode cX1_lambda_ironBar_3 9 = .ok (.goto 4, 3) := dk_167 0 4 (dk_at dksX1_lambda_ironBar_3_0 9 rfl rfl)
theorem dX1_lambda_ironBar_3_12 : decode cX1_lambda_ironBar_3 12 = .ok (.iconst 0, 1) := dk_3 (dk_at dksX1_lambda_ironBar_3_0 12 rfl rfl)
theorem dX1_lambda_ironBar_3_13 : decode cX1_lambda_ironBar_3 13 = .ok (.ireturn, 1) := dk_172 (dk_at dksX1_lambda_ironBar_3_0 13 rfl rfl)
abbrev cX1_lambda_ironBar_4 : ByteArray := prog_1_method_95_code
def yX1_lambda_ironBar_4 : MethodName := ⟨RX1, "lambda$ironBar$4", "(LFlagLaundry$Flag;)Z"⟩
def dkwX1_lambda_ironBar_4_0 : List UInt8 := [42, 180, 1, 19, 6, 164, 0, 7, 4, 167, 0, 4, 3, 172]
abbrev dktX1_lambda_ironBar_4_0 : List UInt8 := dkwX1_lambda_ironBar_4_0 ++ []
theorem dksX1_lambda_ironBar_4_0 : cX1_lambda_ironBar_4.data.toList.drop 0 = dktX1_lambda_ironBar_4_0 := by decide +kernel
theorem dX1_lambda_ironBar_4_0 : decode cX1_lambda_ironBar_4 0 = .ok (.aload_n 0, 1) := dk_42 (dk_at dksX1_lambda_ironBar_4_0 0 rfl rfl)
theorem dX1_lambda_ironBar_4_1 : decode cX1_lambda_ironBar_4 1 = .ok (.getfield 275, 3) := dk_180 1 19 (dk_at dksX1_lambda_ironBar_4_0 1 rfl rfl)
theorem dX1_lambda_ironBar_4_4 : decode cX1_lambda_ironBar_4 4 = .ok (.iconst 3, 1) := dk_6 (dk_at dksX1_lambda_ironBar_4_0 4 rfl rfl)
theorem dX1_lambda_ironBar_4_5 : decode cX1_lambda_ironBar_4 5 = .ok (.if_icmp .le 7, 3) := dk_164 0 7 (dk_at dksX1_lambda_ironBar_4_0 5 rfl rfl)
theorem dX1_lambda_ironBar_4_8 : decode cX1_lambda_ironBar_4 8 = .ok (.iconst 1, 1) := dk_4 (dk_at dksX1_lambda_ironBar_4_0 8 rfl rfl)
theorem dX1_lambda_ironBar_4_9 : decode cX1_lambda_ironBar_4 9 = .ok (.goto 4, 3) := dk_167 0 4 (dk_at dksX1_lambda_ironBar_4_0 9 rfl rfl)
theorem dX1_lambda_ironBar_4_12 : decode cX1_lambda_ironBar_4 12 = .ok (.iconst 0, 1) := dk_3 (dk_at dksX1_lambda_ironBar_4_0 12 rfl rfl)
theorem dX1_lambda_ironBar_4_13 : decode cX1_lambda_ironBar_4 13 = .ok (.ireturn, 1) := dk_172 (dk_at dksX1_lambda_ironBar_4_0 13 rfl rfl)
abbrev cX1_lambda_ironBar_5 : ByteArray := prog_1_method_94_code
def yX1_lambda_ironBar_5 : MethodName := ⟨RX1, "lambda$ironBar$5", "(LFlagLaundry$Flag;)Z"⟩
def dkwX1_lambda_ironBar_5_0 : List UInt8 := [42, 180, 1, 25, 153, 0, 7, 4, 167, 0, 4, 3, 172]
abbrev dktX1_lambda_ironBar_5_0 : List UInt8 := dkwX1_lambda_ironBar_5_0 ++ []
theorem dksX1_lambda_ironBar_5_0 : cX1_lambda_ironBar_5.data.toList.drop 0 = dktX1_lambda_ironBar_5_0 := by decide +kernel
theorem dX1_lambda_ironBar_5_0 : decode cX1_lambda_ironBar_5 0 = .ok (.aload_n 0, 1) := dk_42 (dk_at dksX1_lambda_ironBar_5_0 0 rfl rfl)
theorem dX1_lambda_ironBar_5_1 : decode cX1_lambda_ironBar_5 1 = .ok (.getfield 281, 3) := dk_180 1 25 (dk_at dksX1_lambda_ironBar_5_0 1 rfl rfl)
theorem dX1_lambda_ironBar_5_4 : decode cX1_lambda_ironBar_5 4 = .ok (.ifCond .eq 7, 3) := dk_153 0 7 (dk_at dksX1_lambda_ironBar_5_0 4 rfl rfl)
theorem dX1_lambda_ironBar_5_7 : decode cX1_lambda_ironBar_5 7 = .ok (.iconst 1, 1) := dk_4 (dk_at dksX1_lambda_ironBar_5_0 7 rfl rfl)
theorem dX1_lambda_ironBar_5_8 : decode cX1_lambda_ironBar_5 8 = .ok (.goto 4, 3) := dk_167 0 4 (dk_at dksX1_lambda_ironBar_5_0 8 rfl rfl)
theorem dX1_lambda_ironBar_5_11 : decode cX1_lambda_ironBar_5 11 = .ok (.iconst 0, 1) := dk_3 (dk_at dksX1_lambda_ironBar_5_0 11 rfl rfl)
theorem dX1_lambda_ironBar_5_12 : decode cX1_lambda_ironBar_5 12 = .ok (.ireturn, 1) := dk_172 (dk_at dksX1_lambda_ironBar_5_0 12 rfl rfl)
abbrev cX1_whyNotBleach : ByteArray := prog_1_method_46_code
def yX1_whyNotBleach : MethodName := ⟨RX1, "whyNotBleach", "(I)I"⟩
def dkwX1_whyNotBleach_0 : List UInt8 := [42, 27, 182, 0, 139, 184, 1, 94, 172]
abbrev dktX1_whyNotBleach_0 : List UInt8 := dkwX1_whyNotBleach_0 ++ []
theorem dksX1_whyNotBleach_0 : cX1_whyNotBleach.data.toList.drop 0 = dktX1_whyNotBleach_0 := by decide +kernel
theorem dX1_whyNotBleach_0 : decode cX1_whyNotBleach 0 = .ok (.aload_n 0, 1) := dk_42 (dk_at dksX1_whyNotBleach_0 0 rfl rfl)
theorem dX1_whyNotBleach_1 : decode cX1_whyNotBleach 1 = .ok (.iload_n 1, 1) := dk_27 (dk_at dksX1_whyNotBleach_0 1 rfl rfl)
theorem dX1_whyNotBleach_2 : decode cX1_whyNotBleach 2 = .ok (.invokevirtual 139, 3) := dk_182 0 139 (dk_at dksX1_whyNotBleach_0 2 rfl rfl)
theorem dX1_whyNotBleach_5 : decode cX1_whyNotBleach 5 = .ok (.invokestatic 350, 3) := dk_184 1 94 (dk_at dksX1_whyNotBleach_0 5 rfl rfl)
theorem dX1_whyNotBleach_8 : decode cX1_whyNotBleach 8 = .ok (.ireturn, 1) := dk_172 (dk_at dksX1_whyNotBleach_0 8 rfl rfl)
abbrev cX1_bleachBar : ByteArray := prog_1_method_11_code
def yX1_bleachBar : MethodName := ⟨RX1, "bleachBar", "(LFlagLaundry$Flag;)I"⟩
def dkwX1_bleachBar_1 : List UInt8 := [186, 0, 58, 0, 0, 83, 184, 0, 40, 172]
abbrev dktX1_bleachBar_1 : List UInt8 := dkwX1_bleachBar_1 ++ []
def dkwX1_bleachBar_0 : List UInt8 := [42, 6, 189, 0, 23, 89, 3, 186, 0, 56, 0, 0, 83, 89, 4, 186, 0, 57, 0, 0, 83, 89, 5]
abbrev dktX1_bleachBar_0 : List UInt8 := dkwX1_bleachBar_0 ++ dktX1_bleachBar_1
theorem dksX1_bleachBar_0 : cX1_bleachBar.data.toList.drop 0 = dktX1_bleachBar_0 := by decide +kernel
theorem dksX1_bleachBar_1 : cX1_bleachBar.data.toList.drop 23 = dktX1_bleachBar_1 := dk_seg dksX1_bleachBar_0 23 rfl rfl
theorem dX1_bleachBar_0 : decode cX1_bleachBar 0 = .ok (.aload_n 0, 1) := dk_42 (dk_at dksX1_bleachBar_0 0 rfl rfl)
theorem dX1_bleachBar_1 : decode cX1_bleachBar 1 = .ok (.iconst 3, 1) := dk_6 (dk_at dksX1_bleachBar_0 1 rfl rfl)
theorem dX1_bleachBar_2 : decode cX1_bleachBar 2 = .ok (.anewarray 23, 3) := dk_189 0 23 (dk_at dksX1_bleachBar_0 2 rfl rfl)
theorem dX1_bleachBar_5 : decode cX1_bleachBar 5 = .ok (.dup, 1) := dk_89 (dk_at dksX1_bleachBar_0 5 rfl rfl)
theorem dX1_bleachBar_6 : decode cX1_bleachBar 6 = .ok (.iconst 0, 1) := dk_3 (dk_at dksX1_bleachBar_0 6 rfl rfl)
theorem dX1_bleachBar_7 : decode cX1_bleachBar 7 = .ok (.invokedynamic 56, 5) := by decide +kernel
theorem dX1_bleachBar_12 : decode cX1_bleachBar 12 = .ok (.aastore, 1) := dk_83 (dk_at dksX1_bleachBar_0 12 rfl rfl)
theorem dX1_bleachBar_13 : decode cX1_bleachBar 13 = .ok (.dup, 1) := dk_89 (dk_at dksX1_bleachBar_0 13 rfl rfl)
theorem dX1_bleachBar_14 : decode cX1_bleachBar 14 = .ok (.iconst 1, 1) := dk_4 (dk_at dksX1_bleachBar_0 14 rfl rfl)
theorem dX1_bleachBar_15 : decode cX1_bleachBar 15 = .ok (.invokedynamic 57, 5) := by decide +kernel
theorem dX1_bleachBar_20 : decode cX1_bleachBar 20 = .ok (.aastore, 1) := dk_83 (dk_at dksX1_bleachBar_0 20 rfl rfl)
theorem dX1_bleachBar_21 : decode cX1_bleachBar 21 = .ok (.dup, 1) := dk_89 (dk_at dksX1_bleachBar_0 21 rfl rfl)
theorem dX1_bleachBar_22 : decode cX1_bleachBar 22 = .ok (.iconst 2, 1) := dk_5 (dk_at dksX1_bleachBar_0 22 rfl rfl)
theorem dX1_bleachBar_23 : decode cX1_bleachBar 23 = .ok (.invokedynamic 58, 5) := by decide +kernel
theorem dX1_bleachBar_28 : decode cX1_bleachBar 28 = .ok (.aastore, 1) := dk_83 (dk_at dksX1_bleachBar_1 5 rfl rfl)
theorem dX1_bleachBar_29 : decode cX1_bleachBar 29 = .ok (.invokestatic 40, 3) := dk_184 0 40 (dk_at dksX1_bleachBar_1 6 rfl rfl)
theorem dX1_bleachBar_32 : decode cX1_bleachBar 32 = .ok (.ireturn, 1) := dk_172 (dk_at dksX1_bleachBar_1 9 rfl rfl)
abbrev cX1_lambda_bleachBar_6 : ByteArray := prog_1_method_93_code
def yX1_lambda_bleachBar_6 : MethodName := ⟨RX1, "lambda$bleachBar$6", "(LFlagLaundry$Flag;)Z"⟩
def dkwX1_lambda_bleachBar_6_0 : List UInt8 := [42, 182, 1, 115, 154, 0, 7, 4, 167, 0, 4, 3, 172]
abbrev dktX1_lambda_bleachBar_6_0 : List UInt8 := dkwX1_lambda_bleachBar_6_0 ++ []
theorem dksX1_lambda_bleachBar_6_0 : cX1_lambda_bleachBar_6.data.toList.drop 0 = dktX1_lambda_bleachBar_6_0 := by decide +kernel
theorem dX1_lambda_bleachBar_6_0 : decode cX1_lambda_bleachBar_6 0 = .ok (.aload_n 0, 1) := dk_42 (dk_at dksX1_lambda_bleachBar_6_0 0 rfl rfl)
theorem dX1_lambda_bleachBar_6_1 : decode cX1_lambda_bleachBar_6 1 = .ok (.invokevirtual 371, 3) := dk_182 1 115 (dk_at dksX1_lambda_bleachBar_6_0 1 rfl rfl)
theorem dX1_lambda_bleachBar_6_4 : decode cX1_lambda_bleachBar_6 4 = .ok (.ifCond .ne 7, 3) := dk_154 0 7 (dk_at dksX1_lambda_bleachBar_6_0 4 rfl rfl)
theorem dX1_lambda_bleachBar_6_7 : decode cX1_lambda_bleachBar_6 7 = .ok (.iconst 1, 1) := dk_4 (dk_at dksX1_lambda_bleachBar_6_0 7 rfl rfl)
theorem dX1_lambda_bleachBar_6_8 : decode cX1_lambda_bleachBar_6 8 = .ok (.goto 4, 3) := dk_167 0 4 (dk_at dksX1_lambda_bleachBar_6_0 8 rfl rfl)
theorem dX1_lambda_bleachBar_6_11 : decode cX1_lambda_bleachBar_6 11 = .ok (.iconst 0, 1) := dk_3 (dk_at dksX1_lambda_bleachBar_6_0 11 rfl rfl)
theorem dX1_lambda_bleachBar_6_12 : decode cX1_lambda_bleachBar_6 12 = .ok (.ireturn, 1) := dk_172 (dk_at dksX1_lambda_bleachBar_6_0 12 rfl rfl)
abbrev cX1_lambda_bleachBar_7 : ByteArray := prog_1_method_92_code
def yX1_lambda_bleachBar_7 : MethodName := ⟨RX1, "lambda$bleachBar$7", "(LFlagLaundry$Flag;)Z"⟩
def dkwX1_lambda_bleachBar_7_0 : List UInt8 := [42, 180, 1, 25, 154, 0, 7, 4, 167, 0, 4, 3, 172]
abbrev dktX1_lambda_bleachBar_7_0 : List UInt8 := dkwX1_lambda_bleachBar_7_0 ++ []
theorem dksX1_lambda_bleachBar_7_0 : cX1_lambda_bleachBar_7.data.toList.drop 0 = dktX1_lambda_bleachBar_7_0 := by decide +kernel
theorem dX1_lambda_bleachBar_7_0 : decode cX1_lambda_bleachBar_7 0 = .ok (.aload_n 0, 1) := dk_42 (dk_at dksX1_lambda_bleachBar_7_0 0 rfl rfl)
theorem dX1_lambda_bleachBar_7_1 : decode cX1_lambda_bleachBar_7 1 = .ok (.getfield 281, 3) := dk_180 1 25 (dk_at dksX1_lambda_bleachBar_7_0 1 rfl rfl)
theorem dX1_lambda_bleachBar_7_4 : decode cX1_lambda_bleachBar_7 4 = .ok (.ifCond .ne 7, 3) := dk_154 0 7 (dk_at dksX1_lambda_bleachBar_7_0 4 rfl rfl)
theorem dX1_lambda_bleachBar_7_7 : decode cX1_lambda_bleachBar_7 7 = .ok (.iconst 1, 1) := dk_4 (dk_at dksX1_lambda_bleachBar_7_0 7 rfl rfl)
theorem dX1_lambda_bleachBar_7_8 : decode cX1_lambda_bleachBar_7 8 = .ok (.goto 4, 3) := dk_167 0 4 (dk_at dksX1_lambda_bleachBar_7_0 8 rfl rfl)
theorem dX1_lambda_bleachBar_7_11 : decode cX1_lambda_bleachBar_7 11 = .ok (.iconst 0, 1) := dk_3 (dk_at dksX1_lambda_bleachBar_7_0 11 rfl rfl)
theorem dX1_lambda_bleachBar_7_12 : decode cX1_lambda_bleachBar_7 12 = .ok (.ireturn, 1) := dk_172 (dk_at dksX1_lambda_bleachBar_7_0 12 rfl rfl)
abbrev cX1_lambda_bleachBar_8 : ByteArray := prog_1_method_91_code
def yX1_lambda_bleachBar_8 : MethodName := ⟨RX1, "lambda$bleachBar$8", "(LFlagLaundry$Flag;)Z"⟩
def dkwX1_lambda_bleachBar_8_0 : List UInt8 := [42, 180, 1, 28, 5, 160, 0, 7, 4, 167, 0, 4, 3, 172]
abbrev dktX1_lambda_bleachBar_8_0 : List UInt8 := dkwX1_lambda_bleachBar_8_0 ++ []
theorem dksX1_lambda_bleachBar_8_0 : cX1_lambda_bleachBar_8.data.toList.drop 0 = dktX1_lambda_bleachBar_8_0 := by decide +kernel
theorem dX1_lambda_bleachBar_8_0 : decode cX1_lambda_bleachBar_8 0 = .ok (.aload_n 0, 1) := dk_42 (dk_at dksX1_lambda_bleachBar_8_0 0 rfl rfl)
theorem dX1_lambda_bleachBar_8_1 : decode cX1_lambda_bleachBar_8 1 = .ok (.getfield 284, 3) := dk_180 1 28 (dk_at dksX1_lambda_bleachBar_8_0 1 rfl rfl)
theorem dX1_lambda_bleachBar_8_4 : decode cX1_lambda_bleachBar_8 4 = .ok (.iconst 2, 1) := dk_5 (dk_at dksX1_lambda_bleachBar_8_0 4 rfl rfl)
theorem dX1_lambda_bleachBar_8_5 : decode cX1_lambda_bleachBar_8 5 = .ok (.if_icmp .ne 7, 3) := dk_160 0 7 (dk_at dksX1_lambda_bleachBar_8_0 5 rfl rfl)
theorem dX1_lambda_bleachBar_8_8 : decode cX1_lambda_bleachBar_8 8 = .ok (.iconst 1, 1) := dk_4 (dk_at dksX1_lambda_bleachBar_8_0 8 rfl rfl)
theorem dX1_lambda_bleachBar_8_9 : decode cX1_lambda_bleachBar_8 9 = .ok (.goto 4, 3) := dk_167 0 4 (dk_at dksX1_lambda_bleachBar_8_0 9 rfl rfl)
theorem dX1_lambda_bleachBar_8_12 : decode cX1_lambda_bleachBar_8 12 = .ok (.iconst 0, 1) := dk_3 (dk_at dksX1_lambda_bleachBar_8_0 12 rfl rfl)
theorem dX1_lambda_bleachBar_8_13 : decode cX1_lambda_bleachBar_8 13 = .ok (.ireturn, 1) := dk_172 (dk_at dksX1_lambda_bleachBar_8_0 13 rfl rfl)
abbrev cX1_running : ByteArray := prog_1_method_47_code
def yX1_running : MethodName := ⟨RX1, "running", "(II)I"⟩
def dkwX1_running_0 : List UInt8 := [42, 27, 28, 182, 1, 80, 27, 28, 182, 1, 97, 172]
abbrev dktX1_running_0 : List UInt8 := dkwX1_running_0 ++ []
theorem dksX1_running_0 : cX1_running.data.toList.drop 0 = dktX1_running_0 := by decide +kernel
theorem dX1_running_0 : decode cX1_running 0 = .ok (.aload_n 0, 1) := dk_42 (dk_at dksX1_running_0 0 rfl rfl)
theorem dX1_running_1 : decode cX1_running 1 = .ok (.iload_n 1, 1) := dk_27 (dk_at dksX1_running_0 1 rfl rfl)
theorem dX1_running_2 : decode cX1_running 2 = .ok (.iload_n 2, 1) := dk_28 (dk_at dksX1_running_0 2 rfl rfl)
theorem dX1_running_3 : decode cX1_running 3 = .ok (.invokevirtual 336, 3) := dk_182 1 80 (dk_at dksX1_running_0 3 rfl rfl)
theorem dX1_running_6 : decode cX1_running 6 = .ok (.iload_n 1, 1) := dk_27 (dk_at dksX1_running_0 6 rfl rfl)
theorem dX1_running_7 : decode cX1_running 7 = .ok (.iload_n 2, 1) := dk_28 (dk_at dksX1_running_0 7 rfl rfl)
theorem dX1_running_8 : decode cX1_running 8 = .ok (.invokevirtual 353, 3) := dk_182 1 97 (dk_at dksX1_running_0 8 rfl rfl)
theorem dX1_running_11 : decode cX1_running 11 = .ok (.ireturn, 1) := dk_172 (dk_at dksX1_running_0 11 rfl rfl)
abbrev cX1_stainedIf : ByteArray := prog_1_method_48_code
def yX1_stainedIf : MethodName := ⟨RX1, "stainedIf", "(II)I"⟩
def dkwX1_stainedIf_0 : List UInt8 := [42, 27, 28, 182, 1, 80, 27, 28, 182, 1, 100, 172]
abbrev dktX1_stainedIf_0 : List UInt8 := dkwX1_stainedIf_0 ++ []
theorem dksX1_stainedIf_0 : cX1_stainedIf.data.toList.drop 0 = dktX1_stainedIf_0 := by decide +kernel
theorem dX1_stainedIf_0 : decode cX1_stainedIf 0 = .ok (.aload_n 0, 1) := dk_42 (dk_at dksX1_stainedIf_0 0 rfl rfl)
theorem dX1_stainedIf_1 : decode cX1_stainedIf 1 = .ok (.iload_n 1, 1) := dk_27 (dk_at dksX1_stainedIf_0 1 rfl rfl)
theorem dX1_stainedIf_2 : decode cX1_stainedIf 2 = .ok (.iload_n 2, 1) := dk_28 (dk_at dksX1_stainedIf_0 2 rfl rfl)
theorem dX1_stainedIf_3 : decode cX1_stainedIf 3 = .ok (.invokevirtual 336, 3) := dk_182 1 80 (dk_at dksX1_stainedIf_0 3 rfl rfl)
theorem dX1_stainedIf_6 : decode cX1_stainedIf 6 = .ok (.iload_n 1, 1) := dk_27 (dk_at dksX1_stainedIf_0 6 rfl rfl)
theorem dX1_stainedIf_7 : decode cX1_stainedIf 7 = .ok (.iload_n 2, 1) := dk_28 (dk_at dksX1_stainedIf_0 7 rfl rfl)
theorem dX1_stainedIf_8 : decode cX1_stainedIf 8 = .ok (.invokevirtual 356, 3) := dk_182 1 100 (dk_at dksX1_stainedIf_0 8 rfl rfl)
theorem dX1_stainedIf_11 : decode cX1_stainedIf 11 = .ok (.ireturn, 1) := dk_172 (dk_at dksX1_stainedIf_0 11 rfl rfl)
abbrev cX1_dirtIf : ByteArray := prog_1_method_49_code
def yX1_dirtIf : MethodName := ⟨RX1, "dirtIf", "(II)I"⟩
def dkwX1_dirtIf_0 : List UInt8 := [42, 27, 28, 182, 1, 80, 27, 28, 182, 1, 103, 172]
abbrev dktX1_dirtIf_0 : List UInt8 := dkwX1_dirtIf_0 ++ []
theorem dksX1_dirtIf_0 : cX1_dirtIf.data.toList.drop 0 = dktX1_dirtIf_0 := by decide +kernel
theorem dX1_dirtIf_0 : decode cX1_dirtIf 0 = .ok (.aload_n 0, 1) := dk_42 (dk_at dksX1_dirtIf_0 0 rfl rfl)
theorem dX1_dirtIf_1 : decode cX1_dirtIf 1 = .ok (.iload_n 1, 1) := dk_27 (dk_at dksX1_dirtIf_0 1 rfl rfl)
theorem dX1_dirtIf_2 : decode cX1_dirtIf 2 = .ok (.iload_n 2, 1) := dk_28 (dk_at dksX1_dirtIf_0 2 rfl rfl)
theorem dX1_dirtIf_3 : decode cX1_dirtIf 3 = .ok (.invokevirtual 336, 3) := dk_182 1 80 (dk_at dksX1_dirtIf_0 3 rfl rfl)
theorem dX1_dirtIf_6 : decode cX1_dirtIf 6 = .ok (.iload_n 1, 1) := dk_27 (dk_at dksX1_dirtIf_0 6 rfl rfl)
theorem dX1_dirtIf_7 : decode cX1_dirtIf 7 = .ok (.iload_n 2, 1) := dk_28 (dk_at dksX1_dirtIf_0 7 rfl rfl)
theorem dX1_dirtIf_8 : decode cX1_dirtIf 8 = .ok (.invokevirtual 359, 3) := dk_182 1 103 (dk_at dksX1_dirtIf_0 8 rfl rfl)
theorem dX1_dirtIf_11 : decode cX1_dirtIf 11 = .ok (.ireturn, 1) := dk_172 (dk_at dksX1_dirtIf_0 11 rfl rfl)
abbrev cX1_bestHeat : ByteArray := prog_1_method_50_code
def yX1_bestHeat : MethodName := ⟨RX1, "bestHeat", "(I)I"⟩
def dkwX1_bestHeat_3 : List UInt8 := [21, 6, 54, 4, 132, 5, 1, 167, 255, 191, 29, 172]
abbrev dktX1_bestHeat_3 : List UInt8 := dkwX1_bestHeat_3 ++ []
def dkwX1_bestHeat_2 : List UInt8 := [182, 1, 103, 96, 54, 6, 29, 2, 159, 0, 13, 21, 6, 21, 4, 161, 0, 6, 167, 0, 10, 21, 5, 62]
abbrev dktX1_bestHeat_2 : List UInt8 := dkwX1_bestHeat_2 ++ dktX1_bestHeat_3
def dkwX1_bestHeat_1 : List UInt8 := [184, 1, 84, 153, 0, 6, 167, 0, 46, 17, 3, 231, 44, 27, 21, 5, 182, 1, 100, 104, 44, 27, 21, 5]
abbrev dktX1_bestHeat_1 : List UInt8 := dkwX1_bestHeat_1 ++ dktX1_bestHeat_2
def dkwX1_bestHeat_0 : List UInt8 := [42, 27, 182, 0, 147, 77, 2, 62, 3, 54, 4, 3, 54, 5, 21, 5, 6, 163, 0, 65, 44, 27, 21, 5]
abbrev dktX1_bestHeat_0 : List UInt8 := dkwX1_bestHeat_0 ++ dktX1_bestHeat_1
theorem dksX1_bestHeat_0 : cX1_bestHeat.data.toList.drop 0 = dktX1_bestHeat_0 := by decide +kernel
theorem dksX1_bestHeat_1 : cX1_bestHeat.data.toList.drop 24 = dktX1_bestHeat_1 := dk_seg dksX1_bestHeat_0 24 rfl rfl
theorem dksX1_bestHeat_2 : cX1_bestHeat.data.toList.drop 48 = dktX1_bestHeat_2 := dk_seg dksX1_bestHeat_1 24 rfl rfl
theorem dksX1_bestHeat_3 : cX1_bestHeat.data.toList.drop 72 = dktX1_bestHeat_3 := dk_seg dksX1_bestHeat_2 24 rfl rfl
theorem dX1_bestHeat_0 : decode cX1_bestHeat 0 = .ok (.aload_n 0, 1) := dk_42 (dk_at dksX1_bestHeat_0 0 rfl rfl)
theorem dX1_bestHeat_1 : decode cX1_bestHeat 1 = .ok (.iload_n 1, 1) := dk_27 (dk_at dksX1_bestHeat_0 1 rfl rfl)
theorem dX1_bestHeat_2 : decode cX1_bestHeat 2 = .ok (.invokevirtual 147, 3) := dk_182 0 147 (dk_at dksX1_bestHeat_0 2 rfl rfl)
theorem dX1_bestHeat_5 : decode cX1_bestHeat 5 = .ok (.astore_n 2, 1) := dk_77 (dk_at dksX1_bestHeat_0 5 rfl rfl)
theorem dX1_bestHeat_6 : decode cX1_bestHeat 6 = .ok (.iconst (-1), 1) := dk_2 (dk_at dksX1_bestHeat_0 6 rfl rfl)
theorem dX1_bestHeat_7 : decode cX1_bestHeat 7 = .ok (.istore_n 3, 1) := dk_62 (dk_at dksX1_bestHeat_0 7 rfl rfl)
theorem dX1_bestHeat_8 : decode cX1_bestHeat 8 = .ok (.iconst 0, 1) := dk_3 (dk_at dksX1_bestHeat_0 8 rfl rfl)
theorem dX1_bestHeat_9 : decode cX1_bestHeat 9 = .ok (.istore 4, 2) := dk_54 4 (dk_at dksX1_bestHeat_0 9 rfl rfl)
theorem dX1_bestHeat_11 : decode cX1_bestHeat 11 = .ok (.iconst 0, 1) := dk_3 (dk_at dksX1_bestHeat_0 11 rfl rfl)
theorem dX1_bestHeat_12 : decode cX1_bestHeat 12 = .ok (.istore 5, 2) := dk_54 5 (dk_at dksX1_bestHeat_0 12 rfl rfl)
theorem dX1_bestHeat_14 : decode cX1_bestHeat 14 = .ok (.iload 5, 2) := dk_21 5 (dk_at dksX1_bestHeat_0 14 rfl rfl)
theorem dX1_bestHeat_16 : decode cX1_bestHeat 16 = .ok (.iconst 3, 1) := dk_6 (dk_at dksX1_bestHeat_0 16 rfl rfl)
theorem dX1_bestHeat_17 : decode cX1_bestHeat 17 = .ok (.if_icmp .gt 65, 3) := dk_163 0 65 (dk_at dksX1_bestHeat_0 17 rfl rfl)
theorem dX1_bestHeat_20 : decode cX1_bestHeat 20 = .ok (.aload_n 2, 1) := dk_44 (dk_at dksX1_bestHeat_0 20 rfl rfl)
theorem dX1_bestHeat_21 : decode cX1_bestHeat 21 = .ok (.iload_n 1, 1) := dk_27 (dk_at dksX1_bestHeat_0 21 rfl rfl)
theorem dX1_bestHeat_22 : decode cX1_bestHeat 22 = .ok (.iload 5, 2) := dk_21 5 (dk_at dksX1_bestHeat_0 22 rfl rfl)
theorem dX1_bestHeat_24 : decode cX1_bestHeat 24 = .ok (.invokestatic 340, 3) := dk_184 1 84 (dk_at dksX1_bestHeat_1 0 rfl rfl)
theorem dX1_bestHeat_27 : decode cX1_bestHeat 27 = .ok (.ifCond .eq 6, 3) := dk_153 0 6 (dk_at dksX1_bestHeat_1 3 rfl rfl)
theorem dX1_bestHeat_30 : decode cX1_bestHeat 30 = .ok (.goto 46, 3) := dk_167 0 46 (dk_at dksX1_bestHeat_1 6 rfl rfl)
theorem dX1_bestHeat_33 : decode cX1_bestHeat 33 = .ok (.sipush 999, 3) := dk_17 3 231 (dk_at dksX1_bestHeat_1 9 rfl rfl)
theorem dX1_bestHeat_36 : decode cX1_bestHeat 36 = .ok (.aload_n 2, 1) := dk_44 (dk_at dksX1_bestHeat_1 12 rfl rfl)
theorem dX1_bestHeat_37 : decode cX1_bestHeat 37 = .ok (.iload_n 1, 1) := dk_27 (dk_at dksX1_bestHeat_1 13 rfl rfl)
theorem dX1_bestHeat_38 : decode cX1_bestHeat 38 = .ok (.iload 5, 2) := dk_21 5 (dk_at dksX1_bestHeat_1 14 rfl rfl)
theorem dX1_bestHeat_40 : decode cX1_bestHeat 40 = .ok (.invokevirtual 356, 3) := dk_182 1 100 (dk_at dksX1_bestHeat_1 16 rfl rfl)
theorem dX1_bestHeat_43 : decode cX1_bestHeat 43 = .ok (.imul, 1) := dk_104 (dk_at dksX1_bestHeat_1 19 rfl rfl)
theorem dX1_bestHeat_44 : decode cX1_bestHeat 44 = .ok (.aload_n 2, 1) := dk_44 (dk_at dksX1_bestHeat_1 20 rfl rfl)
theorem dX1_bestHeat_45 : decode cX1_bestHeat 45 = .ok (.iload_n 1, 1) := dk_27 (dk_at dksX1_bestHeat_1 21 rfl rfl)
theorem dX1_bestHeat_46 : decode cX1_bestHeat 46 = .ok (.iload 5, 2) := dk_21 5 (dk_at dksX1_bestHeat_1 22 rfl rfl)
theorem dX1_bestHeat_48 : decode cX1_bestHeat 48 = .ok (.invokevirtual 359, 3) := dk_182 1 103 (dk_at dksX1_bestHeat_2 0 rfl rfl)
theorem dX1_bestHeat_51 : decode cX1_bestHeat 51 = .ok (.iadd, 1) := dk_96 (dk_at dksX1_bestHeat_2 3 rfl rfl)
theorem dX1_bestHeat_52 : decode cX1_bestHeat 52 = .ok (.istore 6, 2) := dk_54 6 (dk_at dksX1_bestHeat_2 4 rfl rfl)
theorem dX1_bestHeat_54 : decode cX1_bestHeat 54 = .ok (.iload_n 3, 1) := dk_29 (dk_at dksX1_bestHeat_2 6 rfl rfl)
theorem dX1_bestHeat_55 : decode cX1_bestHeat 55 = .ok (.iconst (-1), 1) := dk_2 (dk_at dksX1_bestHeat_2 7 rfl rfl)
theorem dX1_bestHeat_56 : decode cX1_bestHeat 56 = .ok (.if_icmp .eq 13, 3) := dk_159 0 13 (dk_at dksX1_bestHeat_2 8 rfl rfl)
theorem dX1_bestHeat_59 : decode cX1_bestHeat 59 = .ok (.iload 6, 2) := dk_21 6 (dk_at dksX1_bestHeat_2 11 rfl rfl)
theorem dX1_bestHeat_61 : decode cX1_bestHeat 61 = .ok (.iload 4, 2) := dk_21 4 (dk_at dksX1_bestHeat_2 13 rfl rfl)
theorem dX1_bestHeat_63 : decode cX1_bestHeat 63 = .ok (.if_icmp .lt 6, 3) := dk_161 0 6 (dk_at dksX1_bestHeat_2 15 rfl rfl)
theorem dX1_bestHeat_66 : decode cX1_bestHeat 66 = .ok (.goto 10, 3) := dk_167 0 10 (dk_at dksX1_bestHeat_2 18 rfl rfl)
theorem dX1_bestHeat_69 : decode cX1_bestHeat 69 = .ok (.iload 5, 2) := dk_21 5 (dk_at dksX1_bestHeat_2 21 rfl rfl)
theorem dX1_bestHeat_71 : decode cX1_bestHeat 71 = .ok (.istore_n 3, 1) := dk_62 (dk_at dksX1_bestHeat_2 23 rfl rfl)
theorem dX1_bestHeat_72 : decode cX1_bestHeat 72 = .ok (.iload 6, 2) := dk_21 6 (dk_at dksX1_bestHeat_3 0 rfl rfl)
theorem dX1_bestHeat_74 : decode cX1_bestHeat 74 = .ok (.istore 4, 2) := dk_54 4 (dk_at dksX1_bestHeat_3 2 rfl rfl)
theorem dX1_bestHeat_76 : decode cX1_bestHeat 76 = .ok (.iinc 5 1, 3) := dk_132 5 1 (dk_at dksX1_bestHeat_3 4 rfl rfl)
theorem dX1_bestHeat_79 : decode cX1_bestHeat 79 = .ok (.goto (-65), 3) := dk_167 255 191 (dk_at dksX1_bestHeat_3 7 rfl rfl)
theorem dX1_bestHeat_82 : decode cX1_bestHeat 82 = .ok (.iload_n 3, 1) := dk_29 (dk_at dksX1_bestHeat_3 10 rfl rfl)
theorem dX1_bestHeat_83 : decode cX1_bestHeat 83 = .ok (.ireturn, 1) := dk_172 (dk_at dksX1_bestHeat_3 11 rfl rfl)
abbrev cX1_firstSafe : ByteArray := prog_1_method_51_code
def yX1_firstSafe : MethodName := ⟨RX1, "firstSafe", "(II)I"⟩
def dkwX1_firstSafe_4 : List UInt8 := [181, 1, 31, 21, 7, 153, 0, 6, 21, 4, 172, 132, 4, 1, 167, 255, 159, 2, 172]
abbrev dktX1_firstSafe_4 : List UInt8 := dkwX1_firstSafe_4 ++ []
def dkwX1_firstSafe_3 : List UInt8 := [154, 0, 16, 45, 27, 28, 182, 1, 100, 154, 0, 7, 4, 167, 0, 4, 3, 54, 7, 25, 5, 25, 6]
abbrev dktX1_firstSafe_3 : List UInt8 := dkwX1_firstSafe_3 ++ dktX1_firstSafe_4
def dkwX1_firstSafe_2 : List UInt8 := [25, 5, 187, 0, 7, 89, 27, 45, 180, 1, 106, 183, 1, 109, 181, 1, 31, 45, 27, 28, 184, 1, 84]
abbrev dktX1_firstSafe_2 : List UInt8 := dkwX1_firstSafe_2 ++ dktX1_firstSafe_3
def dkwX1_firstSafe_1 : List UInt8 := [184, 1, 76, 153, 0, 6, 167, 0, 75, 45, 21, 4, 182, 0, 28, 58, 5, 25, 5, 180, 1, 31, 58, 6]
abbrev dktX1_firstSafe_1 : List UInt8 := dkwX1_firstSafe_1 ++ dktX1_firstSafe_2
def dkwX1_firstSafe_0 : List UInt8 := [42, 27, 28, 182, 1, 80, 78, 3, 54, 4, 21, 4, 45, 182, 0, 115, 162, 0, 94, 45, 21, 4, 27]
abbrev dktX1_firstSafe_0 : List UInt8 := dkwX1_firstSafe_0 ++ dktX1_firstSafe_1
theorem dksX1_firstSafe_0 : cX1_firstSafe.data.toList.drop 0 = dktX1_firstSafe_0 := by decide +kernel
theorem dksX1_firstSafe_1 : cX1_firstSafe.data.toList.drop 23 = dktX1_firstSafe_1 := dk_seg dksX1_firstSafe_0 23 rfl rfl
theorem dksX1_firstSafe_2 : cX1_firstSafe.data.toList.drop 47 = dktX1_firstSafe_2 := dk_seg dksX1_firstSafe_1 24 rfl rfl
theorem dksX1_firstSafe_3 : cX1_firstSafe.data.toList.drop 70 = dktX1_firstSafe_3 := dk_seg dksX1_firstSafe_2 23 rfl rfl
theorem dksX1_firstSafe_4 : cX1_firstSafe.data.toList.drop 93 = dktX1_firstSafe_4 := dk_seg dksX1_firstSafe_3 23 rfl rfl
theorem dX1_firstSafe_0 : decode cX1_firstSafe 0 = .ok (.aload_n 0, 1) := dk_42 (dk_at dksX1_firstSafe_0 0 rfl rfl)
theorem dX1_firstSafe_1 : decode cX1_firstSafe 1 = .ok (.iload_n 1, 1) := dk_27 (dk_at dksX1_firstSafe_0 1 rfl rfl)
theorem dX1_firstSafe_2 : decode cX1_firstSafe 2 = .ok (.iload_n 2, 1) := dk_28 (dk_at dksX1_firstSafe_0 2 rfl rfl)
theorem dX1_firstSafe_3 : decode cX1_firstSafe 3 = .ok (.invokevirtual 336, 3) := dk_182 1 80 (dk_at dksX1_firstSafe_0 3 rfl rfl)
theorem dX1_firstSafe_6 : decode cX1_firstSafe 6 = .ok (.astore_n 3, 1) := dk_78 (dk_at dksX1_firstSafe_0 6 rfl rfl)
theorem dX1_firstSafe_7 : decode cX1_firstSafe 7 = .ok (.iconst 0, 1) := dk_3 (dk_at dksX1_firstSafe_0 7 rfl rfl)
theorem dX1_firstSafe_8 : decode cX1_firstSafe 8 = .ok (.istore 4, 2) := dk_54 4 (dk_at dksX1_firstSafe_0 8 rfl rfl)
theorem dX1_firstSafe_10 : decode cX1_firstSafe 10 = .ok (.iload 4, 2) := dk_21 4 (dk_at dksX1_firstSafe_0 10 rfl rfl)
theorem dX1_firstSafe_12 : decode cX1_firstSafe 12 = .ok (.aload_n 3, 1) := dk_45 (dk_at dksX1_firstSafe_0 12 rfl rfl)
theorem dX1_firstSafe_13 : decode cX1_firstSafe 13 = .ok (.invokevirtual 115, 3) := dk_182 0 115 (dk_at dksX1_firstSafe_0 13 rfl rfl)
theorem dX1_firstSafe_16 : decode cX1_firstSafe 16 = .ok (.if_icmp .ge 94, 3) := dk_162 0 94 (dk_at dksX1_firstSafe_0 16 rfl rfl)
theorem dX1_firstSafe_19 : decode cX1_firstSafe 19 = .ok (.aload_n 3, 1) := dk_45 (dk_at dksX1_firstSafe_0 19 rfl rfl)
theorem dX1_firstSafe_20 : decode cX1_firstSafe 20 = .ok (.iload 4, 2) := dk_21 4 (dk_at dksX1_firstSafe_0 20 rfl rfl)
theorem dX1_firstSafe_22 : decode cX1_firstSafe 22 = .ok (.iload_n 1, 1) := dk_27 (dk_at dksX1_firstSafe_0 22 rfl rfl)
theorem dX1_firstSafe_23 : decode cX1_firstSafe 23 = .ok (.invokestatic 332, 3) := dk_184 1 76 (dk_at dksX1_firstSafe_1 0 rfl rfl)
theorem dX1_firstSafe_26 : decode cX1_firstSafe 26 = .ok (.ifCond .eq 6, 3) := dk_153 0 6 (dk_at dksX1_firstSafe_1 3 rfl rfl)
theorem dX1_firstSafe_29 : decode cX1_firstSafe 29 = .ok (.goto 75, 3) := dk_167 0 75 (dk_at dksX1_firstSafe_1 6 rfl rfl)
theorem dX1_firstSafe_32 : decode cX1_firstSafe 32 = .ok (.aload_n 3, 1) := dk_45 (dk_at dksX1_firstSafe_1 9 rfl rfl)
theorem dX1_firstSafe_33 : decode cX1_firstSafe 33 = .ok (.iload 4, 2) := dk_21 4 (dk_at dksX1_firstSafe_1 10 rfl rfl)
theorem dX1_firstSafe_35 : decode cX1_firstSafe 35 = .ok (.invokevirtual 28, 3) := dk_182 0 28 (dk_at dksX1_firstSafe_1 12 rfl rfl)
theorem dX1_firstSafe_38 : decode cX1_firstSafe 38 = .ok (.astore 5, 2) := dk_58 5 (dk_at dksX1_firstSafe_1 15 rfl rfl)
theorem dX1_firstSafe_40 : decode cX1_firstSafe 40 = .ok (.aload 5, 2) := dk_25 5 (dk_at dksX1_firstSafe_1 17 rfl rfl)
theorem dX1_firstSafe_42 : decode cX1_firstSafe 42 = .ok (.getfield 287, 3) := dk_180 1 31 (dk_at dksX1_firstSafe_1 19 rfl rfl)
theorem dX1_firstSafe_45 : decode cX1_firstSafe 45 = .ok (.astore 6, 2) := dk_58 6 (dk_at dksX1_firstSafe_1 22 rfl rfl)
theorem dX1_firstSafe_47 : decode cX1_firstSafe 47 = .ok (.aload 5, 2) := dk_25 5 (dk_at dksX1_firstSafe_2 0 rfl rfl)
theorem dX1_firstSafe_49 : decode cX1_firstSafe 49 = .ok (.new 7, 3) := dk_187 0 7 (dk_at dksX1_firstSafe_2 2 rfl rfl)
theorem dX1_firstSafe_52 : decode cX1_firstSafe 52 = .ok (.dup, 1) := dk_89 (dk_at dksX1_firstSafe_2 5 rfl rfl)
theorem dX1_firstSafe_53 : decode cX1_firstSafe 53 = .ok (.iload_n 1, 1) := dk_27 (dk_at dksX1_firstSafe_2 6 rfl rfl)
theorem dX1_firstSafe_54 : decode cX1_firstSafe 54 = .ok (.aload_n 3, 1) := dk_45 (dk_at dksX1_firstSafe_2 7 rfl rfl)
theorem dX1_firstSafe_55 : decode cX1_firstSafe 55 = .ok (.getfield 362, 3) := dk_180 1 106 (dk_at dksX1_firstSafe_2 8 rfl rfl)
theorem dX1_firstSafe_58 : decode cX1_firstSafe 58 = .ok (.invokespecial 365, 3) := dk_183 1 109 (dk_at dksX1_firstSafe_2 11 rfl rfl)
theorem dX1_firstSafe_61 : decode cX1_firstSafe 61 = .ok (.putfield 287, 3) := dk_181 1 31 (dk_at dksX1_firstSafe_2 14 rfl rfl)
theorem dX1_firstSafe_64 : decode cX1_firstSafe 64 = .ok (.aload_n 3, 1) := dk_45 (dk_at dksX1_firstSafe_2 17 rfl rfl)
theorem dX1_firstSafe_65 : decode cX1_firstSafe 65 = .ok (.iload_n 1, 1) := dk_27 (dk_at dksX1_firstSafe_2 18 rfl rfl)
theorem dX1_firstSafe_66 : decode cX1_firstSafe 66 = .ok (.iload_n 2, 1) := dk_28 (dk_at dksX1_firstSafe_2 19 rfl rfl)
theorem dX1_firstSafe_67 : decode cX1_firstSafe 67 = .ok (.invokestatic 340, 3) := dk_184 1 84 (dk_at dksX1_firstSafe_2 20 rfl rfl)
theorem dX1_firstSafe_70 : decode cX1_firstSafe 70 = .ok (.ifCond .ne 16, 3) := dk_154 0 16 (dk_at dksX1_firstSafe_3 0 rfl rfl)
theorem dX1_firstSafe_73 : decode cX1_firstSafe 73 = .ok (.aload_n 3, 1) := dk_45 (dk_at dksX1_firstSafe_3 3 rfl rfl)
theorem dX1_firstSafe_74 : decode cX1_firstSafe 74 = .ok (.iload_n 1, 1) := dk_27 (dk_at dksX1_firstSafe_3 4 rfl rfl)
theorem dX1_firstSafe_75 : decode cX1_firstSafe 75 = .ok (.iload_n 2, 1) := dk_28 (dk_at dksX1_firstSafe_3 5 rfl rfl)
theorem dX1_firstSafe_76 : decode cX1_firstSafe 76 = .ok (.invokevirtual 356, 3) := dk_182 1 100 (dk_at dksX1_firstSafe_3 6 rfl rfl)
theorem dX1_firstSafe_79 : decode cX1_firstSafe 79 = .ok (.ifCond .ne 7, 3) := dk_154 0 7 (dk_at dksX1_firstSafe_3 9 rfl rfl)
theorem dX1_firstSafe_82 : decode cX1_firstSafe 82 = .ok (.iconst 1, 1) := dk_4 (dk_at dksX1_firstSafe_3 12 rfl rfl)
theorem dX1_firstSafe_83 : decode cX1_firstSafe 83 = .ok (.goto 4, 3) := dk_167 0 4 (dk_at dksX1_firstSafe_3 13 rfl rfl)
theorem dX1_firstSafe_86 : decode cX1_firstSafe 86 = .ok (.iconst 0, 1) := dk_3 (dk_at dksX1_firstSafe_3 16 rfl rfl)
theorem dX1_firstSafe_87 : decode cX1_firstSafe 87 = .ok (.istore 7, 2) := dk_54 7 (dk_at dksX1_firstSafe_3 17 rfl rfl)
theorem dX1_firstSafe_89 : decode cX1_firstSafe 89 = .ok (.aload 5, 2) := dk_25 5 (dk_at dksX1_firstSafe_3 19 rfl rfl)
theorem dX1_firstSafe_91 : decode cX1_firstSafe 91 = .ok (.aload 6, 2) := dk_25 6 (dk_at dksX1_firstSafe_3 21 rfl rfl)
theorem dX1_firstSafe_93 : decode cX1_firstSafe 93 = .ok (.putfield 287, 3) := dk_181 1 31 (dk_at dksX1_firstSafe_4 0 rfl rfl)
theorem dX1_firstSafe_96 : decode cX1_firstSafe 96 = .ok (.iload 7, 2) := dk_21 7 (dk_at dksX1_firstSafe_4 3 rfl rfl)
theorem dX1_firstSafe_98 : decode cX1_firstSafe 98 = .ok (.ifCond .eq 6, 3) := dk_153 0 6 (dk_at dksX1_firstSafe_4 5 rfl rfl)
theorem dX1_firstSafe_101 : decode cX1_firstSafe 101 = .ok (.iload 4, 2) := dk_21 4 (dk_at dksX1_firstSafe_4 8 rfl rfl)
theorem dX1_firstSafe_103 : decode cX1_firstSafe 103 = .ok (.ireturn, 1) := dk_172 (dk_at dksX1_firstSafe_4 10 rfl rfl)
theorem dX1_firstSafe_104 : decode cX1_firstSafe 104 = .ok (.iinc 4 1, 3) := dk_132 4 1 (dk_at dksX1_firstSafe_4 11 rfl rfl)
theorem dX1_firstSafe_107 : decode cX1_firstSafe 107 = .ok (.goto (-97), 3) := dk_167 255 159 (dk_at dksX1_firstSafe_4 14 rfl rfl)
theorem dX1_firstSafe_110 : decode cX1_firstSafe 110 = .ok (.iconst (-1), 1) := dk_2 (dk_at dksX1_firstSafe_4 17 rfl rfl)
theorem dX1_firstSafe_111 : decode cX1_firstSafe 111 = .ok (.ireturn, 1) := dk_172 (dk_at dksX1_firstSafe_4 18 rfl rfl)
abbrev cX1_doNotMix : ByteArray := prog_1_method_52_code
def yX1_doNotMix : MethodName := ⟨RX1, "doNotMix", "(III)I"⟩
def dkwX1_doNotMix_1 : List UInt8 := [167, 0, 15, 42, 180, 0, 103, 25, 4, 25, 5, 29, 182, 1, 111, 172]
abbrev dktX1_doNotMix_1 : List UInt8 := dkwX1_doNotMix_1 ++ []
def dkwX1_doNotMix_0 : List UInt8 := [42, 27, 182, 0, 139, 58, 4, 42, 28, 182, 0, 139, 58, 5, 29, 184, 0, 151, 27, 28, 160, 0, 7, 3]
abbrev dktX1_doNotMix_0 : List UInt8 := dkwX1_doNotMix_0 ++ dktX1_doNotMix_1
theorem dksX1_doNotMix_0 : cX1_doNotMix.data.toList.drop 0 = dktX1_doNotMix_0 := by decide +kernel
theorem dksX1_doNotMix_1 : cX1_doNotMix.data.toList.drop 24 = dktX1_doNotMix_1 := dk_seg dksX1_doNotMix_0 24 rfl rfl
theorem dX1_doNotMix_0 : decode cX1_doNotMix 0 = .ok (.aload_n 0, 1) := dk_42 (dk_at dksX1_doNotMix_0 0 rfl rfl)
theorem dX1_doNotMix_1 : decode cX1_doNotMix 1 = .ok (.iload_n 1, 1) := dk_27 (dk_at dksX1_doNotMix_0 1 rfl rfl)
theorem dX1_doNotMix_2 : decode cX1_doNotMix 2 = .ok (.invokevirtual 139, 3) := dk_182 0 139 (dk_at dksX1_doNotMix_0 2 rfl rfl)
theorem dX1_doNotMix_5 : decode cX1_doNotMix 5 = .ok (.astore 4, 2) := dk_58 4 (dk_at dksX1_doNotMix_0 5 rfl rfl)
theorem dX1_doNotMix_7 : decode cX1_doNotMix 7 = .ok (.aload_n 0, 1) := dk_42 (dk_at dksX1_doNotMix_0 7 rfl rfl)
theorem dX1_doNotMix_8 : decode cX1_doNotMix 8 = .ok (.iload_n 2, 1) := dk_28 (dk_at dksX1_doNotMix_0 8 rfl rfl)
theorem dX1_doNotMix_9 : decode cX1_doNotMix 9 = .ok (.invokevirtual 139, 3) := dk_182 0 139 (dk_at dksX1_doNotMix_0 9 rfl rfl)
theorem dX1_doNotMix_12 : decode cX1_doNotMix 12 = .ok (.astore 5, 2) := dk_58 5 (dk_at dksX1_doNotMix_0 12 rfl rfl)
theorem dX1_doNotMix_14 : decode cX1_doNotMix 14 = .ok (.iload_n 3, 1) := dk_29 (dk_at dksX1_doNotMix_0 14 rfl rfl)
theorem dX1_doNotMix_15 : decode cX1_doNotMix 15 = .ok (.invokestatic 151, 3) := dk_184 0 151 (dk_at dksX1_doNotMix_0 15 rfl rfl)
theorem dX1_doNotMix_18 : decode cX1_doNotMix 18 = .ok (.iload_n 1, 1) := dk_27 (dk_at dksX1_doNotMix_0 18 rfl rfl)
theorem dX1_doNotMix_19 : decode cX1_doNotMix 19 = .ok (.iload_n 2, 1) := dk_28 (dk_at dksX1_doNotMix_0 19 rfl rfl)
theorem dX1_doNotMix_20 : decode cX1_doNotMix 20 = .ok (.if_icmp .ne 7, 3) := dk_160 0 7 (dk_at dksX1_doNotMix_0 20 rfl rfl)
theorem dX1_doNotMix_23 : decode cX1_doNotMix 23 = .ok (.iconst 0, 1) := dk_3 (dk_at dksX1_doNotMix_0 23 rfl rfl)
theorem dX1_doNotMix_24 : decode cX1_doNotMix 24 = .ok (.goto 15, 3) := dk_167 0 15 (dk_at dksX1_doNotMix_1 0 rfl rfl)
theorem dX1_doNotMix_27 : decode cX1_doNotMix 27 = .ok (.aload_n 0, 1) := dk_42 (dk_at dksX1_doNotMix_1 3 rfl rfl)
theorem dX1_doNotMix_28 : decode cX1_doNotMix 28 = .ok (.getfield 103, 3) := dk_180 0 103 (dk_at dksX1_doNotMix_1 4 rfl rfl)
theorem dX1_doNotMix_31 : decode cX1_doNotMix 31 = .ok (.aload 4, 2) := dk_25 4 (dk_at dksX1_doNotMix_1 7 rfl rfl)
theorem dX1_doNotMix_33 : decode cX1_doNotMix 33 = .ok (.aload 5, 2) := dk_25 5 (dk_at dksX1_doNotMix_1 9 rfl rfl)
theorem dX1_doNotMix_35 : decode cX1_doNotMix 35 = .ok (.iload_n 3, 1) := dk_29 (dk_at dksX1_doNotMix_1 11 rfl rfl)
theorem dX1_doNotMix_36 : decode cX1_doNotMix 36 = .ok (.invokevirtual 367, 3) := dk_182 1 111 (dk_at dksX1_doNotMix_1 12 rfl rfl)
theorem dX1_doNotMix_39 : decode cX1_doNotMix 39 = .ok (.ireturn, 1) := dk_172 (dk_at dksX1_doNotMix_1 15 rfl rfl)
abbrev cX1_groups : ByteArray := prog_1_method_54_code
def yX1_groups : MethodName := ⟨RX1, "groups", "(I)I"⟩
def dkwX1_groups_4 : List UInt8 := [45, 21, 5, 21, 7, 79, 21, 4, 21, 7, 184, 1, 123, 54, 4, 132, 5, 1, 167, 255, 164, 21, 4, 172]
abbrev dktX1_groups_4 : List UInt8 := dkwX1_groups_4 ++ []
def dkwX1_groups_3 : List UInt8 := [21, 4, 163, 0, 22, 42, 25, 6, 45, 21, 7, 27, 182, 1, 119, 154, 0, 9, 132, 7, 1, 167, 255, 233]
abbrev dktX1_groups_3 : List UInt8 := dkwX1_groups_3 ++ dktX1_groups_4
def dkwX1_groups_2 : List UInt8 := [180, 1, 16, 153, 0, 59, 27, 25, 6, 180, 1, 13, 164, 0, 6, 167, 0, 47, 4, 54, 7, 21, 7]
abbrev dktX1_groups_2 : List UInt8 := dkwX1_groups_2 ++ dktX1_groups_3
def dkwX1_groups_1 : List UInt8 := [182, 0, 115, 162, 0, 89, 44, 21, 5, 182, 0, 28, 58, 6, 25, 6, 182, 1, 115, 153, 0, 67, 25, 6]
abbrev dktX1_groups_1 : List UInt8 := dkwX1_groups_1 ++ dktX1_groups_2
def dkwX1_groups_0 : List UInt8 := [42, 182, 0, 111, 77, 27, 184, 0, 151, 16, 12, 188, 10, 78, 3, 54, 4, 3, 54, 5, 21, 5, 44]
abbrev dktX1_groups_0 : List UInt8 := dkwX1_groups_0 ++ dktX1_groups_1
theorem dksX1_groups_0 : cX1_groups.data.toList.drop 0 = dktX1_groups_0 := by decide +kernel
theorem dksX1_groups_1 : cX1_groups.data.toList.drop 23 = dktX1_groups_1 := dk_seg dksX1_groups_0 23 rfl rfl
theorem dksX1_groups_2 : cX1_groups.data.toList.drop 47 = dktX1_groups_2 := dk_seg dksX1_groups_1 24 rfl rfl
theorem dksX1_groups_3 : cX1_groups.data.toList.drop 70 = dktX1_groups_3 := dk_seg dksX1_groups_2 23 rfl rfl
theorem dksX1_groups_4 : cX1_groups.data.toList.drop 94 = dktX1_groups_4 := dk_seg dksX1_groups_3 24 rfl rfl
theorem dX1_groups_0 : decode cX1_groups 0 = .ok (.aload_n 0, 1) := dk_42 (dk_at dksX1_groups_0 0 rfl rfl)
theorem dX1_groups_1 : decode cX1_groups 1 = .ok (.invokevirtual 111, 3) := dk_182 0 111 (dk_at dksX1_groups_0 1 rfl rfl)
theorem dX1_groups_4 : decode cX1_groups 4 = .ok (.astore_n 2, 1) := dk_77 (dk_at dksX1_groups_0 4 rfl rfl)
theorem dX1_groups_5 : decode cX1_groups 5 = .ok (.iload_n 1, 1) := dk_27 (dk_at dksX1_groups_0 5 rfl rfl)
theorem dX1_groups_6 : decode cX1_groups 6 = .ok (.invokestatic 151, 3) := dk_184 0 151 (dk_at dksX1_groups_0 6 rfl rfl)
theorem dX1_groups_9 : decode cX1_groups 9 = .ok (.bipush 12, 2) := dk_16 12 (dk_at dksX1_groups_0 9 rfl rfl)
theorem dX1_groups_11 : decode cX1_groups 11 = .ok (.newarray .int, 2) := dk_188_10 (dk_at dksX1_groups_0 11 rfl rfl)
theorem dX1_groups_13 : decode cX1_groups 13 = .ok (.astore_n 3, 1) := dk_78 (dk_at dksX1_groups_0 13 rfl rfl)
theorem dX1_groups_14 : decode cX1_groups 14 = .ok (.iconst 0, 1) := dk_3 (dk_at dksX1_groups_0 14 rfl rfl)
theorem dX1_groups_15 : decode cX1_groups 15 = .ok (.istore 4, 2) := dk_54 4 (dk_at dksX1_groups_0 15 rfl rfl)
theorem dX1_groups_17 : decode cX1_groups 17 = .ok (.iconst 0, 1) := dk_3 (dk_at dksX1_groups_0 17 rfl rfl)
theorem dX1_groups_18 : decode cX1_groups 18 = .ok (.istore 5, 2) := dk_54 5 (dk_at dksX1_groups_0 18 rfl rfl)
theorem dX1_groups_20 : decode cX1_groups 20 = .ok (.iload 5, 2) := dk_21 5 (dk_at dksX1_groups_0 20 rfl rfl)
theorem dX1_groups_22 : decode cX1_groups 22 = .ok (.aload_n 2, 1) := dk_44 (dk_at dksX1_groups_0 22 rfl rfl)
theorem dX1_groups_23 : decode cX1_groups 23 = .ok (.invokevirtual 115, 3) := dk_182 0 115 (dk_at dksX1_groups_1 0 rfl rfl)
theorem dX1_groups_26 : decode cX1_groups 26 = .ok (.if_icmp .ge 89, 3) := dk_162 0 89 (dk_at dksX1_groups_1 3 rfl rfl)
theorem dX1_groups_29 : decode cX1_groups 29 = .ok (.aload_n 2, 1) := dk_44 (dk_at dksX1_groups_1 6 rfl rfl)
theorem dX1_groups_30 : decode cX1_groups 30 = .ok (.iload 5, 2) := dk_21 5 (dk_at dksX1_groups_1 7 rfl rfl)
theorem dX1_groups_32 : decode cX1_groups 32 = .ok (.invokevirtual 28, 3) := dk_182 0 28 (dk_at dksX1_groups_1 9 rfl rfl)
theorem dX1_groups_35 : decode cX1_groups 35 = .ok (.astore 6, 2) := dk_58 6 (dk_at dksX1_groups_1 12 rfl rfl)
theorem dX1_groups_37 : decode cX1_groups 37 = .ok (.aload 6, 2) := dk_25 6 (dk_at dksX1_groups_1 14 rfl rfl)
theorem dX1_groups_39 : decode cX1_groups 39 = .ok (.invokevirtual 371, 3) := dk_182 1 115 (dk_at dksX1_groups_1 16 rfl rfl)
theorem dX1_groups_42 : decode cX1_groups 42 = .ok (.ifCond .eq 67, 3) := dk_153 0 67 (dk_at dksX1_groups_1 19 rfl rfl)
theorem dX1_groups_45 : decode cX1_groups 45 = .ok (.aload 6, 2) := dk_25 6 (dk_at dksX1_groups_1 22 rfl rfl)
theorem dX1_groups_47 : decode cX1_groups 47 = .ok (.getfield 272, 3) := dk_180 1 16 (dk_at dksX1_groups_2 0 rfl rfl)
theorem dX1_groups_50 : decode cX1_groups 50 = .ok (.ifCond .eq 59, 3) := dk_153 0 59 (dk_at dksX1_groups_2 3 rfl rfl)
theorem dX1_groups_53 : decode cX1_groups 53 = .ok (.iload_n 1, 1) := dk_27 (dk_at dksX1_groups_2 6 rfl rfl)
theorem dX1_groups_54 : decode cX1_groups 54 = .ok (.aload 6, 2) := dk_25 6 (dk_at dksX1_groups_2 7 rfl rfl)
theorem dX1_groups_56 : decode cX1_groups 56 = .ok (.getfield 269, 3) := dk_180 1 13 (dk_at dksX1_groups_2 9 rfl rfl)
theorem dX1_groups_59 : decode cX1_groups 59 = .ok (.if_icmp .le 6, 3) := dk_164 0 6 (dk_at dksX1_groups_2 12 rfl rfl)
theorem dX1_groups_62 : decode cX1_groups 62 = .ok (.goto 47, 3) := dk_167 0 47 (dk_at dksX1_groups_2 15 rfl rfl)
theorem dX1_groups_65 : decode cX1_groups 65 = .ok (.iconst 1, 1) := dk_4 (dk_at dksX1_groups_2 18 rfl rfl)
theorem dX1_groups_66 : decode cX1_groups 66 = .ok (.istore 7, 2) := dk_54 7 (dk_at dksX1_groups_2 19 rfl rfl)
theorem dX1_groups_68 : decode cX1_groups 68 = .ok (.iload 7, 2) := dk_21 7 (dk_at dksX1_groups_2 21 rfl rfl)
theorem dX1_groups_70 : decode cX1_groups 70 = .ok (.iload 4, 2) := dk_21 4 (dk_at dksX1_groups_3 0 rfl rfl)
theorem dX1_groups_72 : decode cX1_groups 72 = .ok (.if_icmp .gt 22, 3) := dk_163 0 22 (dk_at dksX1_groups_3 2 rfl rfl)
theorem dX1_groups_75 : decode cX1_groups 75 = .ok (.aload_n 0, 1) := dk_42 (dk_at dksX1_groups_3 5 rfl rfl)
theorem dX1_groups_76 : decode cX1_groups 76 = .ok (.aload 6, 2) := dk_25 6 (dk_at dksX1_groups_3 6 rfl rfl)
theorem dX1_groups_78 : decode cX1_groups 78 = .ok (.aload_n 3, 1) := dk_45 (dk_at dksX1_groups_3 8 rfl rfl)
theorem dX1_groups_79 : decode cX1_groups 79 = .ok (.iload 7, 2) := dk_21 7 (dk_at dksX1_groups_3 9 rfl rfl)
theorem dX1_groups_81 : decode cX1_groups 81 = .ok (.iload_n 1, 1) := dk_27 (dk_at dksX1_groups_3 11 rfl rfl)
theorem dX1_groups_82 : decode cX1_groups 82 = .ok (.invokevirtual 375, 3) := dk_182 1 119 (dk_at dksX1_groups_3 12 rfl rfl)
theorem dX1_groups_85 : decode cX1_groups 85 = .ok (.ifCond .ne 9, 3) := dk_154 0 9 (dk_at dksX1_groups_3 15 rfl rfl)
theorem dX1_groups_88 : decode cX1_groups 88 = .ok (.iinc 7 1, 3) := dk_132 7 1 (dk_at dksX1_groups_3 18 rfl rfl)
theorem dX1_groups_91 : decode cX1_groups 91 = .ok (.goto (-23), 3) := dk_167 255 233 (dk_at dksX1_groups_3 21 rfl rfl)
theorem dX1_groups_94 : decode cX1_groups 94 = .ok (.aload_n 3, 1) := dk_45 (dk_at dksX1_groups_4 0 rfl rfl)
theorem dX1_groups_95 : decode cX1_groups 95 = .ok (.iload 5, 2) := dk_21 5 (dk_at dksX1_groups_4 1 rfl rfl)
theorem dX1_groups_97 : decode cX1_groups 97 = .ok (.iload 7, 2) := dk_21 7 (dk_at dksX1_groups_4 3 rfl rfl)
theorem dX1_groups_99 : decode cX1_groups 99 = .ok (.iastore, 1) := dk_79 (dk_at dksX1_groups_4 5 rfl rfl)
theorem dX1_groups_100 : decode cX1_groups 100 = .ok (.iload 4, 2) := dk_21 4 (dk_at dksX1_groups_4 6 rfl rfl)
theorem dX1_groups_102 : decode cX1_groups 102 = .ok (.iload 7, 2) := dk_21 7 (dk_at dksX1_groups_4 8 rfl rfl)
theorem dX1_groups_104 : decode cX1_groups 104 = .ok (.invokestatic 379, 3) := dk_184 1 123 (dk_at dksX1_groups_4 10 rfl rfl)
theorem dX1_groups_107 : decode cX1_groups 107 = .ok (.istore 4, 2) := dk_54 4 (dk_at dksX1_groups_4 13 rfl rfl)
theorem dX1_groups_109 : decode cX1_groups 109 = .ok (.iinc 5 1, 3) := dk_132 5 1 (dk_at dksX1_groups_4 15 rfl rfl)
theorem dX1_groups_112 : decode cX1_groups 112 = .ok (.goto (-92), 3) := dk_167 255 164 (dk_at dksX1_groups_4 18 rfl rfl)
theorem dX1_groups_115 : decode cX1_groups 115 = .ok (.iload 4, 2) := dk_21 4 (dk_at dksX1_groups_4 21 rfl rfl)
theorem dX1_groups_117 : decode cX1_groups 117 = .ok (.ireturn, 1) := dk_172 (dk_at dksX1_groups_4 23 rfl rfl)
abbrev cX1_fits : ByteArray := prog_1_method_53_code
def yX1_fits : MethodName := ⟨RX1, "fits", "(LFlagLaundry$Flag;[III)Z"⟩
def dkwX1_fits_2 : List UInt8 := [132, 5, 1, 167, 255, 209, 4, 172]
abbrev dktX1_fits_2 : List UInt8 := dkwX1_fits_2 ++ []
def dkwX1_fits_1 : List UInt8 := [180, 0, 103, 43, 42, 180, 0, 103, 21, 5, 182, 0, 28, 21, 4, 182, 1, 111, 153, 0, 5, 3, 172]
abbrev dktX1_fits_1 : List UInt8 := dkwX1_fits_1 ++ dktX1_fits_2
def dkwX1_fits_0 : List UInt8 := [3, 54, 5, 21, 5, 42, 180, 0, 103, 182, 0, 115, 162, 0, 41, 44, 21, 5, 46, 29, 160, 0, 27, 42]
abbrev dktX1_fits_0 : List UInt8 := dkwX1_fits_0 ++ dktX1_fits_1
theorem dksX1_fits_0 : cX1_fits.data.toList.drop 0 = dktX1_fits_0 := by decide +kernel
theorem dksX1_fits_1 : cX1_fits.data.toList.drop 24 = dktX1_fits_1 := dk_seg dksX1_fits_0 24 rfl rfl
theorem dksX1_fits_2 : cX1_fits.data.toList.drop 47 = dktX1_fits_2 := dk_seg dksX1_fits_1 23 rfl rfl
theorem dX1_fits_0 : decode cX1_fits 0 = .ok (.iconst 0, 1) := dk_3 (dk_at dksX1_fits_0 0 rfl rfl)
theorem dX1_fits_1 : decode cX1_fits 1 = .ok (.istore 5, 2) := dk_54 5 (dk_at dksX1_fits_0 1 rfl rfl)
theorem dX1_fits_3 : decode cX1_fits 3 = .ok (.iload 5, 2) := dk_21 5 (dk_at dksX1_fits_0 3 rfl rfl)
theorem dX1_fits_5 : decode cX1_fits 5 = .ok (.aload_n 0, 1) := dk_42 (dk_at dksX1_fits_0 5 rfl rfl)
theorem dX1_fits_6 : decode cX1_fits 6 = .ok (.getfield 103, 3) := dk_180 0 103 (dk_at dksX1_fits_0 6 rfl rfl)
theorem dX1_fits_9 : decode cX1_fits 9 = .ok (.invokevirtual 115, 3) := dk_182 0 115 (dk_at dksX1_fits_0 9 rfl rfl)
theorem dX1_fits_12 : decode cX1_fits 12 = .ok (.if_icmp .ge 41, 3) := dk_162 0 41 (dk_at dksX1_fits_0 12 rfl rfl)
theorem dX1_fits_15 : decode cX1_fits 15 = .ok (.aload_n 2, 1) := dk_44 (dk_at dksX1_fits_0 15 rfl rfl)
theorem dX1_fits_16 : decode cX1_fits 16 = .ok (.iload 5, 2) := dk_21 5 (dk_at dksX1_fits_0 16 rfl rfl)
theorem dX1_fits_18 : decode cX1_fits 18 = .ok (.iaload, 1) := dk_46 (dk_at dksX1_fits_0 18 rfl rfl)
theorem dX1_fits_19 : decode cX1_fits 19 = .ok (.iload_n 3, 1) := dk_29 (dk_at dksX1_fits_0 19 rfl rfl)
theorem dX1_fits_20 : decode cX1_fits 20 = .ok (.if_icmp .ne 27, 3) := dk_160 0 27 (dk_at dksX1_fits_0 20 rfl rfl)
theorem dX1_fits_23 : decode cX1_fits 23 = .ok (.aload_n 0, 1) := dk_42 (dk_at dksX1_fits_0 23 rfl rfl)
theorem dX1_fits_24 : decode cX1_fits 24 = .ok (.getfield 103, 3) := dk_180 0 103 (dk_at dksX1_fits_1 0 rfl rfl)
theorem dX1_fits_27 : decode cX1_fits 27 = .ok (.aload_n 1, 1) := dk_43 (dk_at dksX1_fits_1 3 rfl rfl)
theorem dX1_fits_28 : decode cX1_fits 28 = .ok (.aload_n 0, 1) := dk_42 (dk_at dksX1_fits_1 4 rfl rfl)
theorem dX1_fits_29 : decode cX1_fits 29 = .ok (.getfield 103, 3) := dk_180 0 103 (dk_at dksX1_fits_1 5 rfl rfl)
theorem dX1_fits_32 : decode cX1_fits 32 = .ok (.iload 5, 2) := dk_21 5 (dk_at dksX1_fits_1 8 rfl rfl)
theorem dX1_fits_34 : decode cX1_fits 34 = .ok (.invokevirtual 28, 3) := dk_182 0 28 (dk_at dksX1_fits_1 10 rfl rfl)
theorem dX1_fits_37 : decode cX1_fits 37 = .ok (.iload 4, 2) := dk_21 4 (dk_at dksX1_fits_1 13 rfl rfl)
theorem dX1_fits_39 : decode cX1_fits 39 = .ok (.invokevirtual 367, 3) := dk_182 1 111 (dk_at dksX1_fits_1 15 rfl rfl)
theorem dX1_fits_42 : decode cX1_fits 42 = .ok (.ifCond .eq 5, 3) := dk_153 0 5 (dk_at dksX1_fits_1 18 rfl rfl)
theorem dX1_fits_45 : decode cX1_fits 45 = .ok (.iconst 0, 1) := dk_3 (dk_at dksX1_fits_1 21 rfl rfl)
theorem dX1_fits_46 : decode cX1_fits 46 = .ok (.ireturn, 1) := dk_172 (dk_at dksX1_fits_1 22 rfl rfl)
theorem dX1_fits_47 : decode cX1_fits 47 = .ok (.iinc 5 1, 3) := dk_132 5 1 (dk_at dksX1_fits_2 0 rfl rfl)
theorem dX1_fits_50 : decode cX1_fits 50 = .ok (.goto (-47), 3) := dk_167 255 209 (dk_at dksX1_fits_2 3 rfl rfl)
theorem dX1_fits_53 : decode cX1_fits 53 = .ok (.iconst 1, 1) := dk_4 (dk_at dksX1_fits_2 6 rfl rfl)
theorem dX1_fits_54 : decode cX1_fits 54 = .ok (.ireturn, 1) := dk_172 (dk_at dksX1_fits_2 7 rfl rfl)
abbrev cX1_purest : ByteArray := prog_1_method_55_code
def yX1_purest : MethodName := ⟨RX1, "purest", "(I)I"⟩
def dkwX1_purest_3 : List UInt8 := [167, 0, 10, 21, 5, 62, 21, 7, 54, 4, 132, 5, 1, 167, 255, 191, 29, 172]
abbrev dktX1_purest_3 : List UInt8 := dkwX1_purest_3 ++ []
def dkwX1_purest_2 : List UInt8 := [54, 7, 25, 6, 182, 1, 115, 153, 0, 25, 29, 2, 159, 0, 13, 21, 7, 21, 4, 161, 0, 6]
abbrev dktX1_purest_2 : List UInt8 := dkwX1_purest_2 ++ dktX1_purest_3
def dkwX1_purest_1 : List UInt8 := [162, 0, 62, 44, 21, 5, 182, 0, 28, 58, 6, 44, 25, 6, 44, 27, 186, 1, 128, 0, 0, 182, 0, 229]
abbrev dktX1_purest_1 : List UInt8 := dkwX1_purest_1 ++ dktX1_purest_2
def dkwX1_purest_0 : List UInt8 := [42, 182, 0, 111, 77, 27, 184, 0, 151, 2, 62, 3, 54, 4, 3, 54, 5, 21, 5, 44, 182, 0, 115]
abbrev dktX1_purest_0 : List UInt8 := dkwX1_purest_0 ++ dktX1_purest_1
theorem dksX1_purest_0 : cX1_purest.data.toList.drop 0 = dktX1_purest_0 := by decide +kernel
theorem dksX1_purest_1 : cX1_purest.data.toList.drop 23 = dktX1_purest_1 := dk_seg dksX1_purest_0 23 rfl rfl
theorem dksX1_purest_2 : cX1_purest.data.toList.drop 47 = dktX1_purest_2 := dk_seg dksX1_purest_1 24 rfl rfl
theorem dksX1_purest_3 : cX1_purest.data.toList.drop 69 = dktX1_purest_3 := dk_seg dksX1_purest_2 22 rfl rfl
theorem dX1_purest_0 : decode cX1_purest 0 = .ok (.aload_n 0, 1) := dk_42 (dk_at dksX1_purest_0 0 rfl rfl)
theorem dX1_purest_1 : decode cX1_purest 1 = .ok (.invokevirtual 111, 3) := dk_182 0 111 (dk_at dksX1_purest_0 1 rfl rfl)
theorem dX1_purest_4 : decode cX1_purest 4 = .ok (.astore_n 2, 1) := dk_77 (dk_at dksX1_purest_0 4 rfl rfl)
theorem dX1_purest_5 : decode cX1_purest 5 = .ok (.iload_n 1, 1) := dk_27 (dk_at dksX1_purest_0 5 rfl rfl)
theorem dX1_purest_6 : decode cX1_purest 6 = .ok (.invokestatic 151, 3) := dk_184 0 151 (dk_at dksX1_purest_0 6 rfl rfl)
theorem dX1_purest_9 : decode cX1_purest 9 = .ok (.iconst (-1), 1) := dk_2 (dk_at dksX1_purest_0 9 rfl rfl)
theorem dX1_purest_10 : decode cX1_purest 10 = .ok (.istore_n 3, 1) := dk_62 (dk_at dksX1_purest_0 10 rfl rfl)
theorem dX1_purest_11 : decode cX1_purest 11 = .ok (.iconst 0, 1) := dk_3 (dk_at dksX1_purest_0 11 rfl rfl)
theorem dX1_purest_12 : decode cX1_purest 12 = .ok (.istore 4, 2) := dk_54 4 (dk_at dksX1_purest_0 12 rfl rfl)
theorem dX1_purest_14 : decode cX1_purest 14 = .ok (.iconst 0, 1) := dk_3 (dk_at dksX1_purest_0 14 rfl rfl)
theorem dX1_purest_15 : decode cX1_purest 15 = .ok (.istore 5, 2) := dk_54 5 (dk_at dksX1_purest_0 15 rfl rfl)
theorem dX1_purest_17 : decode cX1_purest 17 = .ok (.iload 5, 2) := dk_21 5 (dk_at dksX1_purest_0 17 rfl rfl)
theorem dX1_purest_19 : decode cX1_purest 19 = .ok (.aload_n 2, 1) := dk_44 (dk_at dksX1_purest_0 19 rfl rfl)
theorem dX1_purest_20 : decode cX1_purest 20 = .ok (.invokevirtual 115, 3) := dk_182 0 115 (dk_at dksX1_purest_0 20 rfl rfl)
theorem dX1_purest_23 : decode cX1_purest 23 = .ok (.if_icmp .ge 62, 3) := dk_162 0 62 (dk_at dksX1_purest_1 0 rfl rfl)
theorem dX1_purest_26 : decode cX1_purest 26 = .ok (.aload_n 2, 1) := dk_44 (dk_at dksX1_purest_1 3 rfl rfl)
theorem dX1_purest_27 : decode cX1_purest 27 = .ok (.iload 5, 2) := dk_21 5 (dk_at dksX1_purest_1 4 rfl rfl)
theorem dX1_purest_29 : decode cX1_purest 29 = .ok (.invokevirtual 28, 3) := dk_182 0 28 (dk_at dksX1_purest_1 6 rfl rfl)
theorem dX1_purest_32 : decode cX1_purest 32 = .ok (.astore 6, 2) := dk_58 6 (dk_at dksX1_purest_1 9 rfl rfl)
theorem dX1_purest_34 : decode cX1_purest 34 = .ok (.aload_n 2, 1) := dk_44 (dk_at dksX1_purest_1 11 rfl rfl)
theorem dX1_purest_35 : decode cX1_purest 35 = .ok (.aload 6, 2) := dk_25 6 (dk_at dksX1_purest_1 12 rfl rfl)
theorem dX1_purest_37 : decode cX1_purest 37 = .ok (.aload_n 2, 1) := dk_44 (dk_at dksX1_purest_1 14 rfl rfl)
theorem dX1_purest_38 : decode cX1_purest 38 = .ok (.iload_n 1, 1) := dk_27 (dk_at dksX1_purest_1 15 rfl rfl)
theorem dX1_purest_39 : decode cX1_purest 39 = .ok (.invokedynamic 384, 5) := by decide +kernel
theorem dX1_purest_44 : decode cX1_purest 44 = .ok (.invokevirtual 229, 3) := dk_182 0 229 (dk_at dksX1_purest_1 21 rfl rfl)
theorem dX1_purest_47 : decode cX1_purest 47 = .ok (.istore 7, 2) := dk_54 7 (dk_at dksX1_purest_2 0 rfl rfl)
theorem dX1_purest_49 : decode cX1_purest 49 = .ok (.aload 6, 2) := dk_25 6 (dk_at dksX1_purest_2 2 rfl rfl)
theorem dX1_purest_51 : decode cX1_purest 51 = .ok (.invokevirtual 371, 3) := dk_182 1 115 (dk_at dksX1_purest_2 4 rfl rfl)
theorem dX1_purest_54 : decode cX1_purest 54 = .ok (.ifCond .eq 25, 3) := dk_153 0 25 (dk_at dksX1_purest_2 7 rfl rfl)
theorem dX1_purest_57 : decode cX1_purest 57 = .ok (.iload_n 3, 1) := dk_29 (dk_at dksX1_purest_2 10 rfl rfl)
theorem dX1_purest_58 : decode cX1_purest 58 = .ok (.iconst (-1), 1) := dk_2 (dk_at dksX1_purest_2 11 rfl rfl)
theorem dX1_purest_59 : decode cX1_purest 59 = .ok (.if_icmp .eq 13, 3) := dk_159 0 13 (dk_at dksX1_purest_2 12 rfl rfl)
theorem dX1_purest_62 : decode cX1_purest 62 = .ok (.iload 7, 2) := dk_21 7 (dk_at dksX1_purest_2 15 rfl rfl)
theorem dX1_purest_64 : decode cX1_purest 64 = .ok (.iload 4, 2) := dk_21 4 (dk_at dksX1_purest_2 17 rfl rfl)
theorem dX1_purest_66 : decode cX1_purest 66 = .ok (.if_icmp .lt 6, 3) := dk_161 0 6 (dk_at dksX1_purest_2 19 rfl rfl)
theorem dX1_purest_69 : decode cX1_purest 69 = .ok (.goto 10, 3) := dk_167 0 10 (dk_at dksX1_purest_3 0 rfl rfl)
theorem dX1_purest_72 : decode cX1_purest 72 = .ok (.iload 5, 2) := dk_21 5 (dk_at dksX1_purest_3 3 rfl rfl)
theorem dX1_purest_74 : decode cX1_purest 74 = .ok (.istore_n 3, 1) := dk_62 (dk_at dksX1_purest_3 5 rfl rfl)
theorem dX1_purest_75 : decode cX1_purest 75 = .ok (.iload 7, 2) := dk_21 7 (dk_at dksX1_purest_3 6 rfl rfl)
theorem dX1_purest_77 : decode cX1_purest 77 = .ok (.istore 4, 2) := dk_54 4 (dk_at dksX1_purest_3 8 rfl rfl)
theorem dX1_purest_79 : decode cX1_purest 79 = .ok (.iinc 5 1, 3) := dk_132 5 1 (dk_at dksX1_purest_3 10 rfl rfl)
theorem dX1_purest_82 : decode cX1_purest 82 = .ok (.goto (-65), 3) := dk_167 255 191 (dk_at dksX1_purest_3 13 rfl rfl)
theorem dX1_purest_85 : decode cX1_purest 85 = .ok (.iload_n 3, 1) := dk_29 (dk_at dksX1_purest_3 16 rfl rfl)
theorem dX1_purest_86 : decode cX1_purest 86 = .ok (.ireturn, 1) := dk_172 (dk_at dksX1_purest_3 17 rfl rfl)
abbrev cX1_lambda_purest_11 : ByteArray := prog_1_method_88_code
def yX1_lambda_purest_11 : MethodName := ⟨RX1, "lambda$purest$11", "(LFlagLaundry$Flag;LFlagLaundry$World;ILFlagLaundry$Flag;)Z"⟩
def dkwX1_lambda_purest_11_1 : List UInt8 := [167, 0, 4, 3, 172]
abbrev dktX1_lambda_purest_11_1 : List UInt8 := dkwX1_lambda_purest_11_1 ++ []
def dkwX1_lambda_purest_11_0 : List UInt8 := [45, 42, 165, 0, 24, 45, 182, 1, 115, 153, 0, 17, 43, 42, 45, 28, 182, 1, 111, 153, 0, 7, 4]
abbrev dktX1_lambda_purest_11_0 : List UInt8 := dkwX1_lambda_purest_11_0 ++ dktX1_lambda_purest_11_1
theorem dksX1_lambda_purest_11_0 : cX1_lambda_purest_11.data.toList.drop 0 = dktX1_lambda_purest_11_0 := by decide +kernel
theorem dksX1_lambda_purest_11_1 : cX1_lambda_purest_11.data.toList.drop 23 = dktX1_lambda_purest_11_1 := dk_seg dksX1_lambda_purest_11_0 23 rfl rfl
theorem dX1_lambda_purest_11_0 : decode cX1_lambda_purest_11 0 = .ok (.aload_n 3, 1) := dk_45 (dk_at dksX1_lambda_purest_11_0 0 rfl rfl)
theorem dX1_lambda_purest_11_1 : decode cX1_lambda_purest_11 1 = .ok (.aload_n 0, 1) := dk_42 (dk_at dksX1_lambda_purest_11_0 1 rfl rfl)
theorem dX1_lambda_purest_11_2 : decode cX1_lambda_purest_11 2 = .ok (.if_acmp .eq 24, 3) := dk_165 0 24 (dk_at dksX1_lambda_purest_11_0 2 rfl rfl)
theorem dX1_lambda_purest_11_5 : decode cX1_lambda_purest_11 5 = .ok (.aload_n 3, 1) := dk_45 (dk_at dksX1_lambda_purest_11_0 5 rfl rfl)
theorem dX1_lambda_purest_11_6 : decode cX1_lambda_purest_11 6 = .ok (.invokevirtual 371, 3) := dk_182 1 115 (dk_at dksX1_lambda_purest_11_0 6 rfl rfl)
theorem dX1_lambda_purest_11_9 : decode cX1_lambda_purest_11 9 = .ok (.ifCond .eq 17, 3) := dk_153 0 17 (dk_at dksX1_lambda_purest_11_0 9 rfl rfl)
theorem dX1_lambda_purest_11_12 : decode cX1_lambda_purest_11 12 = .ok (.aload_n 1, 1) := dk_43 (dk_at dksX1_lambda_purest_11_0 12 rfl rfl)
theorem dX1_lambda_purest_11_13 : decode cX1_lambda_purest_11 13 = .ok (.aload_n 0, 1) := dk_42 (dk_at dksX1_lambda_purest_11_0 13 rfl rfl)
theorem dX1_lambda_purest_11_14 : decode cX1_lambda_purest_11 14 = .ok (.aload_n 3, 1) := dk_45 (dk_at dksX1_lambda_purest_11_0 14 rfl rfl)
theorem dX1_lambda_purest_11_15 : decode cX1_lambda_purest_11 15 = .ok (.iload_n 2, 1) := dk_28 (dk_at dksX1_lambda_purest_11_0 15 rfl rfl)
theorem dX1_lambda_purest_11_16 : decode cX1_lambda_purest_11 16 = .ok (.invokevirtual 367, 3) := dk_182 1 111 (dk_at dksX1_lambda_purest_11_0 16 rfl rfl)
theorem dX1_lambda_purest_11_19 : decode cX1_lambda_purest_11 19 = .ok (.ifCond .eq 7, 3) := dk_153 0 7 (dk_at dksX1_lambda_purest_11_0 19 rfl rfl)
theorem dX1_lambda_purest_11_22 : decode cX1_lambda_purest_11 22 = .ok (.iconst 1, 1) := dk_4 (dk_at dksX1_lambda_purest_11_0 22 rfl rfl)
theorem dX1_lambda_purest_11_23 : decode cX1_lambda_purest_11 23 = .ok (.goto 4, 3) := dk_167 0 4 (dk_at dksX1_lambda_purest_11_1 0 rfl rfl)
theorem dX1_lambda_purest_11_26 : decode cX1_lambda_purest_11 26 = .ok (.iconst 0, 1) := dk_3 (dk_at dksX1_lambda_purest_11_1 3 rfl rfl)
theorem dX1_lambda_purest_11_27 : decode cX1_lambda_purest_11 27 = .ok (.ireturn, 1) := dk_172 (dk_at dksX1_lambda_purest_11_1 4 rfl rfl)
abbrev cX1_washesFor : ByteArray := prog_1_method_56_code
def yX1_washesFor : MethodName := ⟨RX1, "washesFor", "(I)I"⟩
def dkwX1_washesFor_1 : List UInt8 := [100, 29, 108, 172]
abbrev dktX1_washesFor_1 : List UInt8 := dkwX1_washesFor_1 ++ []
def dkwX1_washesFor_0 : List UInt8 := [42, 27, 182, 0, 139, 77, 44, 180, 1, 13, 184, 1, 131, 182, 1, 137, 62, 44, 180, 1, 16, 29, 96, 4]
abbrev dktX1_washesFor_0 : List UInt8 := dkwX1_washesFor_0 ++ dktX1_washesFor_1
theorem dksX1_washesFor_0 : cX1_washesFor.data.toList.drop 0 = dktX1_washesFor_0 := by decide +kernel
theorem dksX1_washesFor_1 : cX1_washesFor.data.toList.drop 24 = dktX1_washesFor_1 := dk_seg dksX1_washesFor_0 24 rfl rfl
theorem dX1_washesFor_0 : decode cX1_washesFor 0 = .ok (.aload_n 0, 1) := dk_42 (dk_at dksX1_washesFor_0 0 rfl rfl)
theorem dX1_washesFor_1 : decode cX1_washesFor 1 = .ok (.iload_n 1, 1) := dk_27 (dk_at dksX1_washesFor_0 1 rfl rfl)
theorem dX1_washesFor_2 : decode cX1_washesFor 2 = .ok (.invokevirtual 139, 3) := dk_182 0 139 (dk_at dksX1_washesFor_0 2 rfl rfl)
theorem dX1_washesFor_5 : decode cX1_washesFor 5 = .ok (.astore_n 2, 1) := dk_77 (dk_at dksX1_washesFor_0 5 rfl rfl)
theorem dX1_washesFor_6 : decode cX1_washesFor 6 = .ok (.aload_n 2, 1) := dk_44 (dk_at dksX1_washesFor_0 6 rfl rfl)
theorem dX1_washesFor_7 : decode cX1_washesFor 7 = .ok (.getfield 269, 3) := dk_180 1 13 (dk_at dksX1_washesFor_0 7 rfl rfl)
theorem dX1_washesFor_10 : decode cX1_washesFor 10 = .ok (.invokestatic 387, 3) := dk_184 1 131 (dk_at dksX1_washesFor_0 10 rfl rfl)
theorem dX1_washesFor_13 : decode cX1_washesFor 13 = .ok (.invokevirtual 393, 3) := dk_182 1 137 (dk_at dksX1_washesFor_0 13 rfl rfl)
theorem dX1_washesFor_16 : decode cX1_washesFor 16 = .ok (.istore_n 3, 1) := dk_62 (dk_at dksX1_washesFor_0 16 rfl rfl)
theorem dX1_washesFor_17 : decode cX1_washesFor 17 = .ok (.aload_n 2, 1) := dk_44 (dk_at dksX1_washesFor_0 17 rfl rfl)
theorem dX1_washesFor_18 : decode cX1_washesFor 18 = .ok (.getfield 272, 3) := dk_180 1 16 (dk_at dksX1_washesFor_0 18 rfl rfl)
theorem dX1_washesFor_21 : decode cX1_washesFor 21 = .ok (.iload_n 3, 1) := dk_29 (dk_at dksX1_washesFor_0 21 rfl rfl)
theorem dX1_washesFor_22 : decode cX1_washesFor 22 = .ok (.iadd, 1) := dk_96 (dk_at dksX1_washesFor_0 22 rfl rfl)
theorem dX1_washesFor_23 : decode cX1_washesFor 23 = .ok (.iconst 1, 1) := dk_4 (dk_at dksX1_washesFor_0 23 rfl rfl)
theorem dX1_washesFor_24 : decode cX1_washesFor 24 = .ok (.isub, 1) := dk_100 (dk_at dksX1_washesFor_1 0 rfl rfl)
theorem dX1_washesFor_25 : decode cX1_washesFor 25 = .ok (.iload_n 3, 1) := dk_29 (dk_at dksX1_washesFor_1 1 rfl rfl)
theorem dX1_washesFor_26 : decode cX1_washesFor 26 = .ok (.idiv, 1) := dk_108 (dk_at dksX1_washesFor_1 2 rfl rfl)
theorem dX1_washesFor_27 : decode cX1_washesFor 27 = .ok (.ireturn, 1) := dk_172 (dk_at dksX1_washesFor_1 3 rfl rfl)
abbrev cX1_dryIn : ByteArray := prog_1_method_58_code
def yX1_dryIn : MethodName := ⟨RX1, "dryIn", "(I)I"⟩
def dkwX1_dryIn_0 : List UInt8 := [42, 27, 182, 0, 139, 77, 42, 27, 42, 180, 0, 103, 180, 0, 203, 182, 1, 142, 172]
abbrev dktX1_dryIn_0 : List UInt8 := dkwX1_dryIn_0 ++ []
theorem dksX1_dryIn_0 : cX1_dryIn.data.toList.drop 0 = dktX1_dryIn_0 := by decide +kernel
theorem dX1_dryIn_0 : decode cX1_dryIn 0 = .ok (.aload_n 0, 1) := dk_42 (dk_at dksX1_dryIn_0 0 rfl rfl)
theorem dX1_dryIn_1 : decode cX1_dryIn 1 = .ok (.iload_n 1, 1) := dk_27 (dk_at dksX1_dryIn_0 1 rfl rfl)
theorem dX1_dryIn_2 : decode cX1_dryIn 2 = .ok (.invokevirtual 139, 3) := dk_182 0 139 (dk_at dksX1_dryIn_0 2 rfl rfl)
theorem dX1_dryIn_5 : decode cX1_dryIn 5 = .ok (.astore_n 2, 1) := dk_77 (dk_at dksX1_dryIn_0 5 rfl rfl)
theorem dX1_dryIn_6 : decode cX1_dryIn 6 = .ok (.aload_n 0, 1) := dk_42 (dk_at dksX1_dryIn_0 6 rfl rfl)
theorem dX1_dryIn_7 : decode cX1_dryIn 7 = .ok (.iload_n 1, 1) := dk_27 (dk_at dksX1_dryIn_0 7 rfl rfl)
theorem dX1_dryIn_8 : decode cX1_dryIn 8 = .ok (.aload_n 0, 1) := dk_42 (dk_at dksX1_dryIn_0 8 rfl rfl)
theorem dX1_dryIn_9 : decode cX1_dryIn 9 = .ok (.getfield 103, 3) := dk_180 0 103 (dk_at dksX1_dryIn_0 9 rfl rfl)
theorem dX1_dryIn_12 : decode cX1_dryIn 12 = .ok (.getfield 203, 3) := dk_180 0 203 (dk_at dksX1_dryIn_0 12 rfl rfl)
theorem dX1_dryIn_15 : decode cX1_dryIn 15 = .ok (.invokevirtual 398, 3) := dk_182 1 142 (dk_at dksX1_dryIn_0 15 rfl rfl)
theorem dX1_dryIn_18 : decode cX1_dryIn 18 = .ok (.ireturn, 1) := dk_172 (dk_at dksX1_dryIn_0 18 rfl rfl)
abbrev cX1_dryBy : ByteArray := prog_1_method_57_code
def yX1_dryBy : MethodName := ⟨RX1, "dryBy", "(II)I"⟩
def dkwX1_dryBy_3 : List UInt8 := [154, 0, 5, 2, 172, 45, 182, 1, 140, 54, 6, 132, 4, 1, 167, 255, 209, 2, 172]
abbrev dktX1_dryBy_3 : List UInt8 := dkwX1_dryBy_3 ++ []
def dkwX1_dryBy_2 : List UInt8 := [182, 0, 28, 58, 5, 25, 5, 180, 1, 19, 154, 0, 6, 21, 4, 172, 25, 5, 180, 1, 31, 193, 0, 13]
abbrev dktX1_dryBy_2 : List UInt8 := dkwX1_dryBy_2 ++ dktX1_dryBy_3
def dkwX1_dryBy_1 : List UInt8 := [180, 1, 31, 193, 0, 13, 154, 0, 5, 2, 172, 3, 54, 4, 21, 4, 16, 99, 163, 0, 46, 45, 27]
abbrev dktX1_dryBy_1 : List UInt8 := dkwX1_dryBy_1 ++ dktX1_dryBy_2
def dkwX1_dryBy_0 : List UInt8 := [187, 0, 29, 89, 42, 180, 0, 103, 183, 0, 164, 78, 45, 28, 181, 0, 203, 45, 27, 182, 0, 28]
abbrev dktX1_dryBy_0 : List UInt8 := dkwX1_dryBy_0 ++ dktX1_dryBy_1
theorem dksX1_dryBy_0 : cX1_dryBy.data.toList.drop 0 = dktX1_dryBy_0 := by decide +kernel
theorem dksX1_dryBy_1 : cX1_dryBy.data.toList.drop 22 = dktX1_dryBy_1 := dk_seg dksX1_dryBy_0 22 rfl rfl
theorem dksX1_dryBy_2 : cX1_dryBy.data.toList.drop 45 = dktX1_dryBy_2 := dk_seg dksX1_dryBy_1 23 rfl rfl
theorem dksX1_dryBy_3 : cX1_dryBy.data.toList.drop 69 = dktX1_dryBy_3 := dk_seg dksX1_dryBy_2 24 rfl rfl
theorem dX1_dryBy_0 : decode cX1_dryBy 0 = .ok (.new 29, 3) := dk_187 0 29 (dk_at dksX1_dryBy_0 0 rfl rfl)
theorem dX1_dryBy_3 : decode cX1_dryBy 3 = .ok (.dup, 1) := dk_89 (dk_at dksX1_dryBy_0 3 rfl rfl)
theorem dX1_dryBy_4 : decode cX1_dryBy 4 = .ok (.aload_n 0, 1) := dk_42 (dk_at dksX1_dryBy_0 4 rfl rfl)
theorem dX1_dryBy_5 : decode cX1_dryBy 5 = .ok (.getfield 103, 3) := dk_180 0 103 (dk_at dksX1_dryBy_0 5 rfl rfl)
theorem dX1_dryBy_8 : decode cX1_dryBy 8 = .ok (.invokespecial 164, 3) := dk_183 0 164 (dk_at dksX1_dryBy_0 8 rfl rfl)
theorem dX1_dryBy_11 : decode cX1_dryBy 11 = .ok (.astore_n 3, 1) := dk_78 (dk_at dksX1_dryBy_0 11 rfl rfl)
theorem dX1_dryBy_12 : decode cX1_dryBy 12 = .ok (.aload_n 3, 1) := dk_45 (dk_at dksX1_dryBy_0 12 rfl rfl)
theorem dX1_dryBy_13 : decode cX1_dryBy 13 = .ok (.iload_n 2, 1) := dk_28 (dk_at dksX1_dryBy_0 13 rfl rfl)
theorem dX1_dryBy_14 : decode cX1_dryBy 14 = .ok (.putfield 203, 3) := dk_181 0 203 (dk_at dksX1_dryBy_0 14 rfl rfl)
theorem dX1_dryBy_17 : decode cX1_dryBy 17 = .ok (.aload_n 3, 1) := dk_45 (dk_at dksX1_dryBy_0 17 rfl rfl)
theorem dX1_dryBy_18 : decode cX1_dryBy 18 = .ok (.iload_n 1, 1) := dk_27 (dk_at dksX1_dryBy_0 18 rfl rfl)
theorem dX1_dryBy_19 : decode cX1_dryBy 19 = .ok (.invokevirtual 28, 3) := dk_182 0 28 (dk_at dksX1_dryBy_0 19 rfl rfl)
theorem dX1_dryBy_22 : decode cX1_dryBy 22 = .ok (.getfield 287, 3) := dk_180 1 31 (dk_at dksX1_dryBy_1 0 rfl rfl)
theorem dX1_dryBy_25 : decode cX1_dryBy 25 = .ok (.instanceof 13, 3) := dk_193 0 13 (dk_at dksX1_dryBy_1 3 rfl rfl)
theorem dX1_dryBy_28 : decode cX1_dryBy 28 = .ok (.ifCond .ne 5, 3) := dk_154 0 5 (dk_at dksX1_dryBy_1 6 rfl rfl)
theorem dX1_dryBy_31 : decode cX1_dryBy 31 = .ok (.iconst (-1), 1) := dk_2 (dk_at dksX1_dryBy_1 9 rfl rfl)
theorem dX1_dryBy_32 : decode cX1_dryBy 32 = .ok (.ireturn, 1) := dk_172 (dk_at dksX1_dryBy_1 10 rfl rfl)
theorem dX1_dryBy_33 : decode cX1_dryBy 33 = .ok (.iconst 0, 1) := dk_3 (dk_at dksX1_dryBy_1 11 rfl rfl)
theorem dX1_dryBy_34 : decode cX1_dryBy 34 = .ok (.istore 4, 2) := dk_54 4 (dk_at dksX1_dryBy_1 12 rfl rfl)
theorem dX1_dryBy_36 : decode cX1_dryBy 36 = .ok (.iload 4, 2) := dk_21 4 (dk_at dksX1_dryBy_1 14 rfl rfl)
theorem dX1_dryBy_38 : decode cX1_dryBy 38 = .ok (.bipush 99, 2) := dk_16 99 (dk_at dksX1_dryBy_1 16 rfl rfl)
theorem dX1_dryBy_40 : decode cX1_dryBy 40 = .ok (.if_icmp .gt 46, 3) := dk_163 0 46 (dk_at dksX1_dryBy_1 18 rfl rfl)
theorem dX1_dryBy_43 : decode cX1_dryBy 43 = .ok (.aload_n 3, 1) := dk_45 (dk_at dksX1_dryBy_1 21 rfl rfl)
theorem dX1_dryBy_44 : decode cX1_dryBy 44 = .ok (.iload_n 1, 1) := dk_27 (dk_at dksX1_dryBy_1 22 rfl rfl)
theorem dX1_dryBy_45 : decode cX1_dryBy 45 = .ok (.invokevirtual 28, 3) := dk_182 0 28 (dk_at dksX1_dryBy_2 0 rfl rfl)
theorem dX1_dryBy_48 : decode cX1_dryBy 48 = .ok (.astore 5, 2) := dk_58 5 (dk_at dksX1_dryBy_2 3 rfl rfl)
theorem dX1_dryBy_50 : decode cX1_dryBy 50 = .ok (.aload 5, 2) := dk_25 5 (dk_at dksX1_dryBy_2 5 rfl rfl)
theorem dX1_dryBy_52 : decode cX1_dryBy 52 = .ok (.getfield 275, 3) := dk_180 1 19 (dk_at dksX1_dryBy_2 7 rfl rfl)
theorem dX1_dryBy_55 : decode cX1_dryBy 55 = .ok (.ifCond .ne 6, 3) := dk_154 0 6 (dk_at dksX1_dryBy_2 10 rfl rfl)
theorem dX1_dryBy_58 : decode cX1_dryBy 58 = .ok (.iload 4, 2) := dk_21 4 (dk_at dksX1_dryBy_2 13 rfl rfl)
theorem dX1_dryBy_60 : decode cX1_dryBy 60 = .ok (.ireturn, 1) := dk_172 (dk_at dksX1_dryBy_2 15 rfl rfl)
theorem dX1_dryBy_61 : decode cX1_dryBy 61 = .ok (.aload 5, 2) := dk_25 5 (dk_at dksX1_dryBy_2 16 rfl rfl)
theorem dX1_dryBy_63 : decode cX1_dryBy 63 = .ok (.getfield 287, 3) := dk_180 1 31 (dk_at dksX1_dryBy_2 18 rfl rfl)
theorem dX1_dryBy_66 : decode cX1_dryBy 66 = .ok (.instanceof 13, 3) := dk_193 0 13 (dk_at dksX1_dryBy_2 21 rfl rfl)
theorem dX1_dryBy_69 : decode cX1_dryBy 69 = .ok (.ifCond .ne 5, 3) := dk_154 0 5 (dk_at dksX1_dryBy_3 0 rfl rfl)
theorem dX1_dryBy_72 : decode cX1_dryBy 72 = .ok (.iconst (-1), 1) := dk_2 (dk_at dksX1_dryBy_3 3 rfl rfl)
theorem dX1_dryBy_73 : decode cX1_dryBy 73 = .ok (.ireturn, 1) := dk_172 (dk_at dksX1_dryBy_3 4 rfl rfl)
theorem dX1_dryBy_74 : decode cX1_dryBy 74 = .ok (.aload_n 3, 1) := dk_45 (dk_at dksX1_dryBy_3 5 rfl rfl)
theorem dX1_dryBy_75 : decode cX1_dryBy 75 = .ok (.invokevirtual 396, 3) := dk_182 1 140 (dk_at dksX1_dryBy_3 6 rfl rfl)
theorem dX1_dryBy_78 : decode cX1_dryBy 78 = .ok (.istore 6, 2) := dk_54 6 (dk_at dksX1_dryBy_3 9 rfl rfl)
theorem dX1_dryBy_80 : decode cX1_dryBy 80 = .ok (.iinc 4 1, 3) := dk_132 4 1 (dk_at dksX1_dryBy_3 11 rfl rfl)
theorem dX1_dryBy_83 : decode cX1_dryBy 83 = .ok (.goto (-47), 3) := dk_167 255 209 (dk_at dksX1_dryBy_3 14 rfl rfl)
theorem dX1_dryBy_86 : decode cX1_dryBy 86 = .ok (.iconst (-1), 1) := dk_2 (dk_at dksX1_dryBy_3 17 rfl rfl)
theorem dX1_dryBy_87 : decode cX1_dryBy 87 = .ok (.ireturn, 1) := dk_172 (dk_at dksX1_dryBy_3 18 rfl rfl)
abbrev cX1_dryByWind : ByteArray := prog_1_method_59_code
def yX1_dryByWind : MethodName := ⟨RX1, "dryByWind", "(II)I"⟩
def dkwX1_dryByWind_1 : List UInt8 := [172]
abbrev dktX1_dryByWind_1 : List UInt8 := dkwX1_dryByWind_1 ++ []
def dkwX1_dryByWind_0 : List UInt8 := [42, 27, 182, 0, 139, 78, 28, 133, 9, 20, 1, 145, 184, 0, 93, 184, 0, 144, 42, 27, 28, 182, 1, 142]
abbrev dktX1_dryByWind_0 : List UInt8 := dkwX1_dryByWind_0 ++ dktX1_dryByWind_1
theorem dksX1_dryByWind_0 : cX1_dryByWind.data.toList.drop 0 = dktX1_dryByWind_0 := by decide +kernel
theorem dksX1_dryByWind_1 : cX1_dryByWind.data.toList.drop 24 = dktX1_dryByWind_1 := dk_seg dksX1_dryByWind_0 24 rfl rfl
theorem dX1_dryByWind_0 : decode cX1_dryByWind 0 = .ok (.aload_n 0, 1) := dk_42 (dk_at dksX1_dryByWind_0 0 rfl rfl)
theorem dX1_dryByWind_1 : decode cX1_dryByWind 1 = .ok (.iload_n 1, 1) := dk_27 (dk_at dksX1_dryByWind_0 1 rfl rfl)
theorem dX1_dryByWind_2 : decode cX1_dryByWind 2 = .ok (.invokevirtual 139, 3) := dk_182 0 139 (dk_at dksX1_dryByWind_0 2 rfl rfl)
theorem dX1_dryByWind_5 : decode cX1_dryByWind 5 = .ok (.astore_n 3, 1) := dk_78 (dk_at dksX1_dryByWind_0 5 rfl rfl)
theorem dX1_dryByWind_6 : decode cX1_dryByWind 6 = .ok (.iload_n 2, 1) := dk_28 (dk_at dksX1_dryByWind_0 6 rfl rfl)
theorem dX1_dryByWind_7 : decode cX1_dryByWind 7 = .ok (.i2l, 1) := dk_133 (dk_at dksX1_dryByWind_0 7 rfl rfl)
theorem dX1_dryByWind_8 : decode cX1_dryByWind 8 = .ok (.lconst 0, 1) := dk_9 (dk_at dksX1_dryByWind_0 8 rfl rfl)
theorem dX1_dryByWind_9 : decode cX1_dryByWind 9 = .ok (.ldc2_w 401, 3) := dk_20 1 145 (dk_at dksX1_dryByWind_0 9 rfl rfl)
theorem dX1_dryByWind_12 : decode cX1_dryByWind 12 = .ok (.invokestatic 93, 3) := dk_184 0 93 (dk_at dksX1_dryByWind_0 12 rfl rfl)
theorem dX1_dryByWind_15 : decode cX1_dryByWind 15 = .ok (.invokestatic 144, 3) := dk_184 0 144 (dk_at dksX1_dryByWind_0 15 rfl rfl)
theorem dX1_dryByWind_18 : decode cX1_dryByWind 18 = .ok (.aload_n 0, 1) := dk_42 (dk_at dksX1_dryByWind_0 18 rfl rfl)
theorem dX1_dryByWind_19 : decode cX1_dryByWind 19 = .ok (.iload_n 1, 1) := dk_27 (dk_at dksX1_dryByWind_0 19 rfl rfl)
theorem dX1_dryByWind_20 : decode cX1_dryByWind 20 = .ok (.iload_n 2, 1) := dk_28 (dk_at dksX1_dryByWind_0 20 rfl rfl)
theorem dX1_dryByWind_21 : decode cX1_dryByWind 21 = .ok (.invokevirtual 398, 3) := dk_182 1 142 (dk_at dksX1_dryByWind_0 21 rfl rfl)
theorem dX1_dryByWind_24 : decode cX1_dryByWind 24 = .ok (.ireturn, 1) := dk_172 (dk_at dksX1_dryByWind_1 0 rfl rfl)
abbrev cX1_fallsIn : ByteArray := prog_1_method_60_code
def yX1_fallsIn : MethodName := ⟨RX1, "fallsIn", "(I)I"⟩
def dkwX1_fallsIn_1 : List UInt8 := [183, 0, 164, 27, 182, 1, 149, 172]
abbrev dktX1_fallsIn_1 : List UInt8 := dkwX1_fallsIn_1 ++ []
def dkwX1_fallsIn_0 : List UInt8 := [42, 182, 0, 111, 77, 27, 133, 9, 20, 1, 147, 184, 0, 93, 184, 0, 144, 187, 0, 29, 89, 44]
abbrev dktX1_fallsIn_0 : List UInt8 := dkwX1_fallsIn_0 ++ dktX1_fallsIn_1
theorem dksX1_fallsIn_0 : cX1_fallsIn.data.toList.drop 0 = dktX1_fallsIn_0 := by decide +kernel
theorem dksX1_fallsIn_1 : cX1_fallsIn.data.toList.drop 22 = dktX1_fallsIn_1 := dk_seg dksX1_fallsIn_0 22 rfl rfl
theorem dX1_fallsIn_0 : decode cX1_fallsIn 0 = .ok (.aload_n 0, 1) := dk_42 (dk_at dksX1_fallsIn_0 0 rfl rfl)
theorem dX1_fallsIn_1 : decode cX1_fallsIn 1 = .ok (.invokevirtual 111, 3) := dk_182 0 111 (dk_at dksX1_fallsIn_0 1 rfl rfl)
theorem dX1_fallsIn_4 : decode cX1_fallsIn 4 = .ok (.astore_n 2, 1) := dk_77 (dk_at dksX1_fallsIn_0 4 rfl rfl)
theorem dX1_fallsIn_5 : decode cX1_fallsIn 5 = .ok (.iload_n 1, 1) := dk_27 (dk_at dksX1_fallsIn_0 5 rfl rfl)
theorem dX1_fallsIn_6 : decode cX1_fallsIn 6 = .ok (.i2l, 1) := dk_133 (dk_at dksX1_fallsIn_0 6 rfl rfl)
theorem dX1_fallsIn_7 : decode cX1_fallsIn 7 = .ok (.lconst 0, 1) := dk_9 (dk_at dksX1_fallsIn_0 7 rfl rfl)
theorem dX1_fallsIn_8 : decode cX1_fallsIn 8 = .ok (.ldc2_w 403, 3) := dk_20 1 147 (dk_at dksX1_fallsIn_0 8 rfl rfl)
theorem dX1_fallsIn_11 : decode cX1_fallsIn 11 = .ok (.invokestatic 93, 3) := dk_184 0 93 (dk_at dksX1_fallsIn_0 11 rfl rfl)
theorem dX1_fallsIn_14 : decode cX1_fallsIn 14 = .ok (.invokestatic 144, 3) := dk_184 0 144 (dk_at dksX1_fallsIn_0 14 rfl rfl)
theorem dX1_fallsIn_17 : decode cX1_fallsIn 17 = .ok (.new 29, 3) := dk_187 0 29 (dk_at dksX1_fallsIn_0 17 rfl rfl)
theorem dX1_fallsIn_20 : decode cX1_fallsIn 20 = .ok (.dup, 1) := dk_89 (dk_at dksX1_fallsIn_0 20 rfl rfl)
theorem dX1_fallsIn_21 : decode cX1_fallsIn 21 = .ok (.aload_n 2, 1) := dk_44 (dk_at dksX1_fallsIn_0 21 rfl rfl)
theorem dX1_fallsIn_22 : decode cX1_fallsIn 22 = .ok (.invokespecial 164, 3) := dk_183 0 164 (dk_at dksX1_fallsIn_1 0 rfl rfl)
theorem dX1_fallsIn_25 : decode cX1_fallsIn 25 = .ok (.iload_n 1, 1) := dk_27 (dk_at dksX1_fallsIn_1 3 rfl rfl)
theorem dX1_fallsIn_26 : decode cX1_fallsIn 26 = .ok (.invokevirtual 405, 3) := dk_182 1 149 (dk_at dksX1_fallsIn_1 4 rfl rfl)
theorem dX1_fallsIn_29 : decode cX1_fallsIn 29 = .ok (.ireturn, 1) := dk_172 (dk_at dksX1_fallsIn_1 7 rfl rfl)
abbrev cX1_payIf : ByteArray := prog_1_method_61_code
def yX1_payIf : MethodName := ⟨RX1, "payIf", "(II)I"⟩
def dkwX1_payIf_2 : List UInt8 := [104, 167, 0, 4, 3, 172]
abbrev dktX1_payIf_2 : List UInt8 := dkwX1_payIf_2 ++ []
def dkwX1_payIf_1 : List UInt8 := [160, 0, 28, 42, 180, 0, 103, 27, 182, 0, 248, 45, 42, 180, 0, 103, 180, 0, 200, 28, 96, 182, 1, 152]
abbrev dktX1_payIf_1 : List UInt8 := dkwX1_payIf_1 ++ dktX1_payIf_2
def dkwX1_payIf_0 : List UInt8 := [42, 27, 182, 0, 234, 78, 28, 133, 9, 20, 1, 147, 184, 0, 93, 184, 0, 144, 45, 180, 0, 254, 2]
abbrev dktX1_payIf_0 : List UInt8 := dkwX1_payIf_0 ++ dktX1_payIf_1
theorem dksX1_payIf_0 : cX1_payIf.data.toList.drop 0 = dktX1_payIf_0 := by decide +kernel
theorem dksX1_payIf_1 : cX1_payIf.data.toList.drop 23 = dktX1_payIf_1 := dk_seg dksX1_payIf_0 23 rfl rfl
theorem dksX1_payIf_2 : cX1_payIf.data.toList.drop 47 = dktX1_payIf_2 := dk_seg dksX1_payIf_1 24 rfl rfl
theorem dX1_payIf_0 : decode cX1_payIf 0 = .ok (.aload_n 0, 1) := dk_42 (dk_at dksX1_payIf_0 0 rfl rfl)
theorem dX1_payIf_1 : decode cX1_payIf 1 = .ok (.iload_n 1, 1) := dk_27 (dk_at dksX1_payIf_0 1 rfl rfl)
theorem dX1_payIf_2 : decode cX1_payIf 2 = .ok (.invokevirtual 234, 3) := dk_182 0 234 (dk_at dksX1_payIf_0 2 rfl rfl)
theorem dX1_payIf_5 : decode cX1_payIf 5 = .ok (.astore_n 3, 1) := dk_78 (dk_at dksX1_payIf_0 5 rfl rfl)
theorem dX1_payIf_6 : decode cX1_payIf 6 = .ok (.iload_n 2, 1) := dk_28 (dk_at dksX1_payIf_0 6 rfl rfl)
theorem dX1_payIf_7 : decode cX1_payIf 7 = .ok (.i2l, 1) := dk_133 (dk_at dksX1_payIf_0 7 rfl rfl)
theorem dX1_payIf_8 : decode cX1_payIf 8 = .ok (.lconst 0, 1) := dk_9 (dk_at dksX1_payIf_0 8 rfl rfl)
theorem dX1_payIf_9 : decode cX1_payIf 9 = .ok (.ldc2_w 403, 3) := dk_20 1 147 (dk_at dksX1_payIf_0 9 rfl rfl)
theorem dX1_payIf_12 : decode cX1_payIf 12 = .ok (.invokestatic 93, 3) := dk_184 0 93 (dk_at dksX1_payIf_0 12 rfl rfl)
theorem dX1_payIf_15 : decode cX1_payIf 15 = .ok (.invokestatic 144, 3) := dk_184 0 144 (dk_at dksX1_payIf_0 15 rfl rfl)
theorem dX1_payIf_18 : decode cX1_payIf 18 = .ok (.aload_n 3, 1) := dk_45 (dk_at dksX1_payIf_0 18 rfl rfl)
theorem dX1_payIf_19 : decode cX1_payIf 19 = .ok (.getfield 254, 3) := dk_180 0 254 (dk_at dksX1_payIf_0 19 rfl rfl)
theorem dX1_payIf_22 : decode cX1_payIf 22 = .ok (.iconst (-1), 1) := dk_2 (dk_at dksX1_payIf_0 22 rfl rfl)
theorem dX1_payIf_23 : decode cX1_payIf 23 = .ok (.if_icmp .ne 28, 3) := dk_160 0 28 (dk_at dksX1_payIf_1 0 rfl rfl)
theorem dX1_payIf_26 : decode cX1_payIf 26 = .ok (.aload_n 0, 1) := dk_42 (dk_at dksX1_payIf_1 3 rfl rfl)
theorem dX1_payIf_27 : decode cX1_payIf 27 = .ok (.getfield 103, 3) := dk_180 0 103 (dk_at dksX1_payIf_1 4 rfl rfl)
theorem dX1_payIf_30 : decode cX1_payIf 30 = .ok (.iload_n 1, 1) := dk_27 (dk_at dksX1_payIf_1 7 rfl rfl)
theorem dX1_payIf_31 : decode cX1_payIf 31 = .ok (.invokevirtual 248, 3) := dk_182 0 248 (dk_at dksX1_payIf_1 8 rfl rfl)
theorem dX1_payIf_34 : decode cX1_payIf 34 = .ok (.aload_n 3, 1) := dk_45 (dk_at dksX1_payIf_1 11 rfl rfl)
theorem dX1_payIf_35 : decode cX1_payIf 35 = .ok (.aload_n 0, 1) := dk_42 (dk_at dksX1_payIf_1 12 rfl rfl)
theorem dX1_payIf_36 : decode cX1_payIf 36 = .ok (.getfield 103, 3) := dk_180 0 103 (dk_at dksX1_payIf_1 13 rfl rfl)
theorem dX1_payIf_39 : decode cX1_payIf 39 = .ok (.getfield 200, 3) := dk_180 0 200 (dk_at dksX1_payIf_1 16 rfl rfl)
theorem dX1_payIf_42 : decode cX1_payIf 42 = .ok (.iload_n 2, 1) := dk_28 (dk_at dksX1_payIf_1 19 rfl rfl)
theorem dX1_payIf_43 : decode cX1_payIf 43 = .ok (.iadd, 1) := dk_96 (dk_at dksX1_payIf_1 20 rfl rfl)
theorem dX1_payIf_44 : decode cX1_payIf 44 = .ok (.invokevirtual 408, 3) := dk_182 1 152 (dk_at dksX1_payIf_1 21 rfl rfl)
theorem dX1_payIf_47 : decode cX1_payIf 47 = .ok (.imul, 1) := dk_104 (dk_at dksX1_payIf_2 0 rfl rfl)
theorem dX1_payIf_48 : decode cX1_payIf 48 = .ok (.goto 4, 3) := dk_167 0 4 (dk_at dksX1_payIf_2 1 rfl rfl)
theorem dX1_payIf_51 : decode cX1_payIf 51 = .ok (.iconst 0, 1) := dk_3 (dk_at dksX1_payIf_2 4 rfl rfl)
theorem dX1_payIf_52 : decode cX1_payIf 52 = .ok (.ireturn, 1) := dk_172 (dk_at dksX1_payIf_2 5 rfl rfl)
abbrev cX1_latest : ByteArray := prog_1_method_62_code
def yX1_latest : MethodName := ⟨RX1, "latest", "(I)I"⟩
def dkwX1_latest_3 : List UInt8 := [29, 172]
abbrev dktX1_latest_3 : List UInt8 := dkwX1_latest_3 ++ []
def dkwX1_latest_2 : List UInt8 := [4, 100, 44, 180, 0, 245, 108, 96, 62, 42, 180, 0, 103, 180, 0, 200, 29, 164, 0, 7, 2, 167, 0, 4]
abbrev dktX1_latest_2 : List UInt8 := dkwX1_latest_2 ++ dktX1_latest_3
def dkwX1_latest_1 : List UInt8 := [154, 0, 5, 2, 172, 44, 180, 0, 245, 154, 0, 7, 17, 3, 231, 172, 44, 180, 0, 237, 44, 180, 0, 242]
abbrev dktX1_latest_1 : List UInt8 := dkwX1_latest_1 ++ dktX1_latest_2
def dkwX1_latest_0 : List UInt8 := [42, 27, 182, 0, 234, 77, 44, 180, 0, 254, 2, 160, 0, 14, 42, 180, 0, 103, 27, 182, 0, 248]
abbrev dktX1_latest_0 : List UInt8 := dkwX1_latest_0 ++ dktX1_latest_1
theorem dksX1_latest_0 : cX1_latest.data.toList.drop 0 = dktX1_latest_0 := by decide +kernel
theorem dksX1_latest_1 : cX1_latest.data.toList.drop 22 = dktX1_latest_1 := dk_seg dksX1_latest_0 22 rfl rfl
theorem dksX1_latest_2 : cX1_latest.data.toList.drop 46 = dktX1_latest_2 := dk_seg dksX1_latest_1 24 rfl rfl
theorem dksX1_latest_3 : cX1_latest.data.toList.drop 70 = dktX1_latest_3 := dk_seg dksX1_latest_2 24 rfl rfl
theorem dX1_latest_0 : decode cX1_latest 0 = .ok (.aload_n 0, 1) := dk_42 (dk_at dksX1_latest_0 0 rfl rfl)
theorem dX1_latest_1 : decode cX1_latest 1 = .ok (.iload_n 1, 1) := dk_27 (dk_at dksX1_latest_0 1 rfl rfl)
theorem dX1_latest_2 : decode cX1_latest 2 = .ok (.invokevirtual 234, 3) := dk_182 0 234 (dk_at dksX1_latest_0 2 rfl rfl)
theorem dX1_latest_5 : decode cX1_latest 5 = .ok (.astore_n 2, 1) := dk_77 (dk_at dksX1_latest_0 5 rfl rfl)
theorem dX1_latest_6 : decode cX1_latest 6 = .ok (.aload_n 2, 1) := dk_44 (dk_at dksX1_latest_0 6 rfl rfl)
theorem dX1_latest_7 : decode cX1_latest 7 = .ok (.getfield 254, 3) := dk_180 0 254 (dk_at dksX1_latest_0 7 rfl rfl)
theorem dX1_latest_10 : decode cX1_latest 10 = .ok (.iconst (-1), 1) := dk_2 (dk_at dksX1_latest_0 10 rfl rfl)
theorem dX1_latest_11 : decode cX1_latest 11 = .ok (.if_icmp .ne 14, 3) := dk_160 0 14 (dk_at dksX1_latest_0 11 rfl rfl)
theorem dX1_latest_14 : decode cX1_latest 14 = .ok (.aload_n 0, 1) := dk_42 (dk_at dksX1_latest_0 14 rfl rfl)
theorem dX1_latest_15 : decode cX1_latest 15 = .ok (.getfield 103, 3) := dk_180 0 103 (dk_at dksX1_latest_0 15 rfl rfl)
theorem dX1_latest_18 : decode cX1_latest 18 = .ok (.iload_n 1, 1) := dk_27 (dk_at dksX1_latest_0 18 rfl rfl)
theorem dX1_latest_19 : decode cX1_latest 19 = .ok (.invokevirtual 248, 3) := dk_182 0 248 (dk_at dksX1_latest_0 19 rfl rfl)
theorem dX1_latest_22 : decode cX1_latest 22 = .ok (.ifCond .ne 5, 3) := dk_154 0 5 (dk_at dksX1_latest_1 0 rfl rfl)
theorem dX1_latest_25 : decode cX1_latest 25 = .ok (.iconst (-1), 1) := dk_2 (dk_at dksX1_latest_1 3 rfl rfl)
theorem dX1_latest_26 : decode cX1_latest 26 = .ok (.ireturn, 1) := dk_172 (dk_at dksX1_latest_1 4 rfl rfl)
theorem dX1_latest_27 : decode cX1_latest 27 = .ok (.aload_n 2, 1) := dk_44 (dk_at dksX1_latest_1 5 rfl rfl)
theorem dX1_latest_28 : decode cX1_latest 28 = .ok (.getfield 245, 3) := dk_180 0 245 (dk_at dksX1_latest_1 6 rfl rfl)
theorem dX1_latest_31 : decode cX1_latest 31 = .ok (.ifCond .ne 7, 3) := dk_154 0 7 (dk_at dksX1_latest_1 9 rfl rfl)
theorem dX1_latest_34 : decode cX1_latest 34 = .ok (.sipush 999, 3) := dk_17 3 231 (dk_at dksX1_latest_1 12 rfl rfl)
theorem dX1_latest_37 : decode cX1_latest 37 = .ok (.ireturn, 1) := dk_172 (dk_at dksX1_latest_1 15 rfl rfl)
theorem dX1_latest_38 : decode cX1_latest 38 = .ok (.aload_n 2, 1) := dk_44 (dk_at dksX1_latest_1 16 rfl rfl)
theorem dX1_latest_39 : decode cX1_latest 39 = .ok (.getfield 237, 3) := dk_180 0 237 (dk_at dksX1_latest_1 17 rfl rfl)
theorem dX1_latest_42 : decode cX1_latest 42 = .ok (.aload_n 2, 1) := dk_44 (dk_at dksX1_latest_1 20 rfl rfl)
theorem dX1_latest_43 : decode cX1_latest 43 = .ok (.getfield 242, 3) := dk_180 0 242 (dk_at dksX1_latest_1 21 rfl rfl)
theorem dX1_latest_46 : decode cX1_latest 46 = .ok (.iconst 1, 1) := dk_4 (dk_at dksX1_latest_2 0 rfl rfl)
theorem dX1_latest_47 : decode cX1_latest 47 = .ok (.isub, 1) := dk_100 (dk_at dksX1_latest_2 1 rfl rfl)
theorem dX1_latest_48 : decode cX1_latest 48 = .ok (.aload_n 2, 1) := dk_44 (dk_at dksX1_latest_2 2 rfl rfl)
theorem dX1_latest_49 : decode cX1_latest 49 = .ok (.getfield 245, 3) := dk_180 0 245 (dk_at dksX1_latest_2 3 rfl rfl)
theorem dX1_latest_52 : decode cX1_latest 52 = .ok (.idiv, 1) := dk_108 (dk_at dksX1_latest_2 6 rfl rfl)
theorem dX1_latest_53 : decode cX1_latest 53 = .ok (.iadd, 1) := dk_96 (dk_at dksX1_latest_2 7 rfl rfl)
theorem dX1_latest_54 : decode cX1_latest 54 = .ok (.istore_n 3, 1) := dk_62 (dk_at dksX1_latest_2 8 rfl rfl)
theorem dX1_latest_55 : decode cX1_latest 55 = .ok (.aload_n 0, 1) := dk_42 (dk_at dksX1_latest_2 9 rfl rfl)
theorem dX1_latest_56 : decode cX1_latest 56 = .ok (.getfield 103, 3) := dk_180 0 103 (dk_at dksX1_latest_2 10 rfl rfl)
theorem dX1_latest_59 : decode cX1_latest 59 = .ok (.getfield 200, 3) := dk_180 0 200 (dk_at dksX1_latest_2 13 rfl rfl)
theorem dX1_latest_62 : decode cX1_latest 62 = .ok (.iload_n 3, 1) := dk_29 (dk_at dksX1_latest_2 16 rfl rfl)
theorem dX1_latest_63 : decode cX1_latest 63 = .ok (.if_icmp .le 7, 3) := dk_164 0 7 (dk_at dksX1_latest_2 17 rfl rfl)
theorem dX1_latest_66 : decode cX1_latest 66 = .ok (.iconst (-1), 1) := dk_2 (dk_at dksX1_latest_2 20 rfl rfl)
theorem dX1_latest_67 : decode cX1_latest 67 = .ok (.goto 4, 3) := dk_167 0 4 (dk_at dksX1_latest_2 21 rfl rfl)
theorem dX1_latest_70 : decode cX1_latest 70 = .ok (.iload_n 3, 1) := dk_29 (dk_at dksX1_latest_3 0 rfl rfl)
theorem dX1_latest_71 : decode cX1_latest 71 = .ok (.ireturn, 1) := dk_172 (dk_at dksX1_latest_3 1 rfl rfl)
abbrev cX1_dearest : ByteArray := prog_1_method_63_code
def yX1_dearest : MethodName := ⟨RX1, "dearest", "()I"⟩
def dkwX1_dearest_4 : List UInt8 := [132, 4, 1, 167, 255, 173, 28, 172]
abbrev dktX1_dearest_4 : List UInt8 := dkwX1_dearest_4 ++ []
def dkwX1_dearest_3 : List UInt8 := [104, 167, 0, 4, 3, 54, 6, 21, 6, 29, 163, 0, 6, 167, 0, 9, 21, 4, 61, 21, 6, 62]
abbrev dktX1_dearest_3 : List UInt8 := dkwX1_dearest_3 ++ dktX1_dearest_4
def dkwX1_dearest_2 : List UInt8 := [182, 0, 248, 25, 5, 43, 180, 0, 200, 182, 1, 152, 25, 5, 43, 180, 0, 200, 4, 96, 182, 1, 152, 100]
abbrev dktX1_dearest_2 : List UInt8 := dkwX1_dearest_2 ++ dktX1_dearest_3
def dkwX1_dearest_1 : List UInt8 := [162, 0, 75, 43, 21, 4, 182, 0, 135, 58, 5, 25, 5, 180, 0, 254, 2, 160, 0, 34, 43, 21, 4]
abbrev dktX1_dearest_1 : List UInt8 := dkwX1_dearest_1 ++ dktX1_dearest_2
def dkwX1_dearest_0 : List UInt8 := [42, 182, 0, 111, 76, 2, 61, 3, 62, 3, 54, 4, 21, 4, 43, 180, 0, 126, 185, 0, 130, 1, 0]
abbrev dktX1_dearest_0 : List UInt8 := dkwX1_dearest_0 ++ dktX1_dearest_1
theorem dksX1_dearest_0 : cX1_dearest.data.toList.drop 0 = dktX1_dearest_0 := by decide +kernel
theorem dksX1_dearest_1 : cX1_dearest.data.toList.drop 23 = dktX1_dearest_1 := dk_seg dksX1_dearest_0 23 rfl rfl
theorem dksX1_dearest_2 : cX1_dearest.data.toList.drop 46 = dktX1_dearest_2 := dk_seg dksX1_dearest_1 23 rfl rfl
theorem dksX1_dearest_3 : cX1_dearest.data.toList.drop 70 = dktX1_dearest_3 := dk_seg dksX1_dearest_2 24 rfl rfl
theorem dksX1_dearest_4 : cX1_dearest.data.toList.drop 92 = dktX1_dearest_4 := dk_seg dksX1_dearest_3 22 rfl rfl
theorem dX1_dearest_0 : decode cX1_dearest 0 = .ok (.aload_n 0, 1) := dk_42 (dk_at dksX1_dearest_0 0 rfl rfl)
theorem dX1_dearest_1 : decode cX1_dearest 1 = .ok (.invokevirtual 111, 3) := dk_182 0 111 (dk_at dksX1_dearest_0 1 rfl rfl)
theorem dX1_dearest_4 : decode cX1_dearest 4 = .ok (.astore_n 1, 1) := dk_76 (dk_at dksX1_dearest_0 4 rfl rfl)
theorem dX1_dearest_5 : decode cX1_dearest 5 = .ok (.iconst (-1), 1) := dk_2 (dk_at dksX1_dearest_0 5 rfl rfl)
theorem dX1_dearest_6 : decode cX1_dearest 6 = .ok (.istore_n 2, 1) := dk_61 (dk_at dksX1_dearest_0 6 rfl rfl)
theorem dX1_dearest_7 : decode cX1_dearest 7 = .ok (.iconst 0, 1) := dk_3 (dk_at dksX1_dearest_0 7 rfl rfl)
theorem dX1_dearest_8 : decode cX1_dearest 8 = .ok (.istore_n 3, 1) := dk_62 (dk_at dksX1_dearest_0 8 rfl rfl)
theorem dX1_dearest_9 : decode cX1_dearest 9 = .ok (.iconst 0, 1) := dk_3 (dk_at dksX1_dearest_0 9 rfl rfl)
theorem dX1_dearest_10 : decode cX1_dearest 10 = .ok (.istore 4, 2) := dk_54 4 (dk_at dksX1_dearest_0 10 rfl rfl)
theorem dX1_dearest_12 : decode cX1_dearest 12 = .ok (.iload 4, 2) := dk_21 4 (dk_at dksX1_dearest_0 12 rfl rfl)
theorem dX1_dearest_14 : decode cX1_dearest 14 = .ok (.aload_n 1, 1) := dk_43 (dk_at dksX1_dearest_0 14 rfl rfl)
theorem dX1_dearest_15 : decode cX1_dearest 15 = .ok (.getfield 126, 3) := dk_180 0 126 (dk_at dksX1_dearest_0 15 rfl rfl)
theorem dX1_dearest_18 : decode cX1_dearest 18 = .ok (.invokeinterface 130 1, 5) := by decide +kernel
theorem dX1_dearest_23 : decode cX1_dearest 23 = .ok (.if_icmp .ge 75, 3) := dk_162 0 75 (dk_at dksX1_dearest_1 0 rfl rfl)
theorem dX1_dearest_26 : decode cX1_dearest 26 = .ok (.aload_n 1, 1) := dk_43 (dk_at dksX1_dearest_1 3 rfl rfl)
theorem dX1_dearest_27 : decode cX1_dearest 27 = .ok (.iload 4, 2) := dk_21 4 (dk_at dksX1_dearest_1 4 rfl rfl)
theorem dX1_dearest_29 : decode cX1_dearest 29 = .ok (.invokevirtual 135, 3) := dk_182 0 135 (dk_at dksX1_dearest_1 6 rfl rfl)
theorem dX1_dearest_32 : decode cX1_dearest 32 = .ok (.astore 5, 2) := dk_58 5 (dk_at dksX1_dearest_1 9 rfl rfl)
theorem dX1_dearest_34 : decode cX1_dearest 34 = .ok (.aload 5, 2) := dk_25 5 (dk_at dksX1_dearest_1 11 rfl rfl)
theorem dX1_dearest_36 : decode cX1_dearest 36 = .ok (.getfield 254, 3) := dk_180 0 254 (dk_at dksX1_dearest_1 13 rfl rfl)
theorem dX1_dearest_39 : decode cX1_dearest 39 = .ok (.iconst (-1), 1) := dk_2 (dk_at dksX1_dearest_1 16 rfl rfl)
theorem dX1_dearest_40 : decode cX1_dearest 40 = .ok (.if_icmp .ne 34, 3) := dk_160 0 34 (dk_at dksX1_dearest_1 17 rfl rfl)
theorem dX1_dearest_43 : decode cX1_dearest 43 = .ok (.aload_n 1, 1) := dk_43 (dk_at dksX1_dearest_1 20 rfl rfl)
theorem dX1_dearest_44 : decode cX1_dearest 44 = .ok (.iload 4, 2) := dk_21 4 (dk_at dksX1_dearest_1 21 rfl rfl)
theorem dX1_dearest_46 : decode cX1_dearest 46 = .ok (.invokevirtual 248, 3) := dk_182 0 248 (dk_at dksX1_dearest_2 0 rfl rfl)
theorem dX1_dearest_49 : decode cX1_dearest 49 = .ok (.aload 5, 2) := dk_25 5 (dk_at dksX1_dearest_2 3 rfl rfl)
theorem dX1_dearest_51 : decode cX1_dearest 51 = .ok (.aload_n 1, 1) := dk_43 (dk_at dksX1_dearest_2 5 rfl rfl)
theorem dX1_dearest_52 : decode cX1_dearest 52 = .ok (.getfield 200, 3) := dk_180 0 200 (dk_at dksX1_dearest_2 6 rfl rfl)
theorem dX1_dearest_55 : decode cX1_dearest 55 = .ok (.invokevirtual 408, 3) := dk_182 1 152 (dk_at dksX1_dearest_2 9 rfl rfl)
theorem dX1_dearest_58 : decode cX1_dearest 58 = .ok (.aload 5, 2) := dk_25 5 (dk_at dksX1_dearest_2 12 rfl rfl)
theorem dX1_dearest_60 : decode cX1_dearest 60 = .ok (.aload_n 1, 1) := dk_43 (dk_at dksX1_dearest_2 14 rfl rfl)
theorem dX1_dearest_61 : decode cX1_dearest 61 = .ok (.getfield 200, 3) := dk_180 0 200 (dk_at dksX1_dearest_2 15 rfl rfl)
theorem dX1_dearest_64 : decode cX1_dearest 64 = .ok (.iconst 1, 1) := dk_4 (dk_at dksX1_dearest_2 18 rfl rfl)
theorem dX1_dearest_65 : decode cX1_dearest 65 = .ok (.iadd, 1) := dk_96 (dk_at dksX1_dearest_2 19 rfl rfl)
theorem dX1_dearest_66 : decode cX1_dearest 66 = .ok (.invokevirtual 408, 3) := dk_182 1 152 (dk_at dksX1_dearest_2 20 rfl rfl)
theorem dX1_dearest_69 : decode cX1_dearest 69 = .ok (.isub, 1) := dk_100 (dk_at dksX1_dearest_2 23 rfl rfl)
theorem dX1_dearest_70 : decode cX1_dearest 70 = .ok (.imul, 1) := dk_104 (dk_at dksX1_dearest_3 0 rfl rfl)
theorem dX1_dearest_71 : decode cX1_dearest 71 = .ok (.goto 4, 3) := dk_167 0 4 (dk_at dksX1_dearest_3 1 rfl rfl)
theorem dX1_dearest_74 : decode cX1_dearest 74 = .ok (.iconst 0, 1) := dk_3 (dk_at dksX1_dearest_3 4 rfl rfl)
theorem dX1_dearest_75 : decode cX1_dearest 75 = .ok (.istore 6, 2) := dk_54 6 (dk_at dksX1_dearest_3 5 rfl rfl)
theorem dX1_dearest_77 : decode cX1_dearest 77 = .ok (.iload 6, 2) := dk_21 6 (dk_at dksX1_dearest_3 7 rfl rfl)
theorem dX1_dearest_79 : decode cX1_dearest 79 = .ok (.iload_n 3, 1) := dk_29 (dk_at dksX1_dearest_3 9 rfl rfl)
theorem dX1_dearest_80 : decode cX1_dearest 80 = .ok (.if_icmp .gt 6, 3) := dk_163 0 6 (dk_at dksX1_dearest_3 10 rfl rfl)
theorem dX1_dearest_83 : decode cX1_dearest 83 = .ok (.goto 9, 3) := dk_167 0 9 (dk_at dksX1_dearest_3 13 rfl rfl)
theorem dX1_dearest_86 : decode cX1_dearest 86 = .ok (.iload 4, 2) := dk_21 4 (dk_at dksX1_dearest_3 16 rfl rfl)
theorem dX1_dearest_88 : decode cX1_dearest 88 = .ok (.istore_n 2, 1) := dk_61 (dk_at dksX1_dearest_3 18 rfl rfl)
theorem dX1_dearest_89 : decode cX1_dearest 89 = .ok (.iload 6, 2) := dk_21 6 (dk_at dksX1_dearest_3 19 rfl rfl)
theorem dX1_dearest_91 : decode cX1_dearest 91 = .ok (.istore_n 3, 1) := dk_62 (dk_at dksX1_dearest_3 21 rfl rfl)
theorem dX1_dearest_92 : decode cX1_dearest 92 = .ok (.iinc 4 1, 3) := dk_132 4 1 (dk_at dksX1_dearest_4 0 rfl rfl)
theorem dX1_dearest_95 : decode cX1_dearest 95 = .ok (.goto (-83), 3) := dk_167 255 173 (dk_at dksX1_dearest_4 3 rfl rfl)
theorem dX1_dearest_98 : decode cX1_dearest 98 = .ok (.iload_n 2, 1) := dk_28 (dk_at dksX1_dearest_4 6 rfl rfl)
theorem dX1_dearest_99 : decode cX1_dearest 99 = .ok (.ireturn, 1) := dk_172 (dk_at dksX1_dearest_4 7 rfl rfl)
abbrev cX1_ironsFor : ByteArray := prog_1_method_64_code
def yX1_ironsFor : MethodName := ⟨RX1, "ironsFor", "(II)I"⟩
def dkwX1_ironsFor_2 : List UInt8 := [158, 0, 21, 42, 180, 0, 103, 25, 4, 28, 182, 1, 158, 54, 6, 132, 5, 1, 167, 255, 233, 21, 5, 172]
abbrev dktX1_ironsFor_2 : List UInt8 := dkwX1_ironsFor_2 ++ []
def dkwX1_ironsFor_1 : List UInt8 := [167, 0, 4, 2, 172, 187, 1, 9, 89, 45, 183, 1, 155, 58, 4, 3, 54, 5, 25, 4, 180, 1, 22]
abbrev dktX1_ironsFor_1 : List UInt8 := dkwX1_ironsFor_1 ++ dktX1_ironsFor_2
def dkwX1_ironsFor_0 : List UInt8 := [42, 27, 28, 182, 1, 87, 78, 45, 28, 184, 1, 90, 153, 0, 16, 45, 180, 1, 22, 154, 0, 7, 3]
abbrev dktX1_ironsFor_0 : List UInt8 := dkwX1_ironsFor_0 ++ dktX1_ironsFor_1
theorem dksX1_ironsFor_0 : cX1_ironsFor.data.toList.drop 0 = dktX1_ironsFor_0 := by decide +kernel
theorem dksX1_ironsFor_1 : cX1_ironsFor.data.toList.drop 23 = dktX1_ironsFor_1 := dk_seg dksX1_ironsFor_0 23 rfl rfl
theorem dksX1_ironsFor_2 : cX1_ironsFor.data.toList.drop 46 = dktX1_ironsFor_2 := dk_seg dksX1_ironsFor_1 23 rfl rfl
theorem dX1_ironsFor_0 : decode cX1_ironsFor 0 = .ok (.aload_n 0, 1) := dk_42 (dk_at dksX1_ironsFor_0 0 rfl rfl)
theorem dX1_ironsFor_1 : decode cX1_ironsFor 1 = .ok (.iload_n 1, 1) := dk_27 (dk_at dksX1_ironsFor_0 1 rfl rfl)
theorem dX1_ironsFor_2 : decode cX1_ironsFor 2 = .ok (.iload_n 2, 1) := dk_28 (dk_at dksX1_ironsFor_0 2 rfl rfl)
theorem dX1_ironsFor_3 : decode cX1_ironsFor 3 = .ok (.invokevirtual 343, 3) := dk_182 1 87 (dk_at dksX1_ironsFor_0 3 rfl rfl)
theorem dX1_ironsFor_6 : decode cX1_ironsFor 6 = .ok (.astore_n 3, 1) := dk_78 (dk_at dksX1_ironsFor_0 6 rfl rfl)
theorem dX1_ironsFor_7 : decode cX1_ironsFor 7 = .ok (.aload_n 3, 1) := dk_45 (dk_at dksX1_ironsFor_0 7 rfl rfl)
theorem dX1_ironsFor_8 : decode cX1_ironsFor 8 = .ok (.iload_n 2, 1) := dk_28 (dk_at dksX1_ironsFor_0 8 rfl rfl)
theorem dX1_ironsFor_9 : decode cX1_ironsFor 9 = .ok (.invokestatic 346, 3) := dk_184 1 90 (dk_at dksX1_ironsFor_0 9 rfl rfl)
theorem dX1_ironsFor_12 : decode cX1_ironsFor 12 = .ok (.ifCond .eq 16, 3) := dk_153 0 16 (dk_at dksX1_ironsFor_0 12 rfl rfl)
theorem dX1_ironsFor_15 : decode cX1_ironsFor 15 = .ok (.aload_n 3, 1) := dk_45 (dk_at dksX1_ironsFor_0 15 rfl rfl)
theorem dX1_ironsFor_16 : decode cX1_ironsFor 16 = .ok (.getfield 278, 3) := dk_180 1 22 (dk_at dksX1_ironsFor_0 16 rfl rfl)
theorem dX1_ironsFor_19 : decode cX1_ironsFor 19 = .ok (.ifCond .ne 7, 3) := dk_154 0 7 (dk_at dksX1_ironsFor_0 19 rfl rfl)
theorem dX1_ironsFor_22 : decode cX1_ironsFor 22 = .ok (.iconst 0, 1) := dk_3 (dk_at dksX1_ironsFor_0 22 rfl rfl)
theorem dX1_ironsFor_23 : decode cX1_ironsFor 23 = .ok (.goto 4, 3) := dk_167 0 4 (dk_at dksX1_ironsFor_1 0 rfl rfl)
theorem dX1_ironsFor_26 : decode cX1_ironsFor 26 = .ok (.iconst (-1), 1) := dk_2 (dk_at dksX1_ironsFor_1 3 rfl rfl)
theorem dX1_ironsFor_27 : decode cX1_ironsFor 27 = .ok (.ireturn, 1) := dk_172 (dk_at dksX1_ironsFor_1 4 rfl rfl)
theorem dX1_ironsFor_28 : decode cX1_ironsFor 28 = .ok (.new 265, 3) := dk_187 1 9 (dk_at dksX1_ironsFor_1 5 rfl rfl)
theorem dX1_ironsFor_31 : decode cX1_ironsFor 31 = .ok (.dup, 1) := dk_89 (dk_at dksX1_ironsFor_1 8 rfl rfl)
theorem dX1_ironsFor_32 : decode cX1_ironsFor 32 = .ok (.aload_n 3, 1) := dk_45 (dk_at dksX1_ironsFor_1 9 rfl rfl)
theorem dX1_ironsFor_33 : decode cX1_ironsFor 33 = .ok (.invokespecial 411, 3) := dk_183 1 155 (dk_at dksX1_ironsFor_1 10 rfl rfl)
theorem dX1_ironsFor_36 : decode cX1_ironsFor 36 = .ok (.astore 4, 2) := dk_58 4 (dk_at dksX1_ironsFor_1 13 rfl rfl)
theorem dX1_ironsFor_38 : decode cX1_ironsFor 38 = .ok (.iconst 0, 1) := dk_3 (dk_at dksX1_ironsFor_1 15 rfl rfl)
theorem dX1_ironsFor_39 : decode cX1_ironsFor 39 = .ok (.istore 5, 2) := dk_54 5 (dk_at dksX1_ironsFor_1 16 rfl rfl)
theorem dX1_ironsFor_41 : decode cX1_ironsFor 41 = .ok (.aload 4, 2) := dk_25 4 (dk_at dksX1_ironsFor_1 18 rfl rfl)
theorem dX1_ironsFor_43 : decode cX1_ironsFor 43 = .ok (.getfield 278, 3) := dk_180 1 22 (dk_at dksX1_ironsFor_1 20 rfl rfl)
theorem dX1_ironsFor_46 : decode cX1_ironsFor 46 = .ok (.ifCond .le 21, 3) := dk_158 0 21 (dk_at dksX1_ironsFor_2 0 rfl rfl)
theorem dX1_ironsFor_49 : decode cX1_ironsFor 49 = .ok (.aload_n 0, 1) := dk_42 (dk_at dksX1_ironsFor_2 3 rfl rfl)
theorem dX1_ironsFor_50 : decode cX1_ironsFor 50 = .ok (.getfield 103, 3) := dk_180 0 103 (dk_at dksX1_ironsFor_2 4 rfl rfl)
theorem dX1_ironsFor_53 : decode cX1_ironsFor 53 = .ok (.aload 4, 2) := dk_25 4 (dk_at dksX1_ironsFor_2 7 rfl rfl)
theorem dX1_ironsFor_55 : decode cX1_ironsFor 55 = .ok (.iload_n 2, 1) := dk_28 (dk_at dksX1_ironsFor_2 9 rfl rfl)
theorem dX1_ironsFor_56 : decode cX1_ironsFor 56 = .ok (.invokevirtual 414, 3) := dk_182 1 158 (dk_at dksX1_ironsFor_2 10 rfl rfl)
theorem dX1_ironsFor_59 : decode cX1_ironsFor 59 = .ok (.istore 6, 2) := dk_54 6 (dk_at dksX1_ironsFor_2 13 rfl rfl)
theorem dX1_ironsFor_61 : decode cX1_ironsFor 61 = .ok (.iinc 5 1, 3) := dk_132 5 1 (dk_at dksX1_ironsFor_2 15 rfl rfl)
theorem dX1_ironsFor_64 : decode cX1_ironsFor 64 = .ok (.goto (-23), 3) := dk_167 255 233 (dk_at dksX1_ironsFor_2 18 rfl rfl)
theorem dX1_ironsFor_67 : decode cX1_ironsFor 67 = .ok (.iload 5, 2) := dk_21 5 (dk_at dksX1_ironsFor_2 21 rfl rfl)
theorem dX1_ironsFor_69 : decode cX1_ironsFor 69 = .ok (.ireturn, 1) := dk_172 (dk_at dksX1_ironsFor_2 23 rfl rfl)
abbrev cX1_readyShare : ByteArray := prog_1_method_65_code
def yX1_readyShare : MethodName := ⟨RX1, "readyShare", "()F"⟩
def dkwX1_readyShare_1 : List UInt8 := [182, 0, 206, 96, 134, 43, 182, 0, 115, 134, 110, 174]
abbrev dktX1_readyShare_1 : List UInt8 := dkwX1_readyShare_1 ++ []
def dkwX1_readyShare_0 : List UInt8 := [42, 182, 0, 111, 76, 43, 182, 0, 115, 154, 0, 7, 11, 167, 0, 20, 43, 182, 0, 221, 43, 6]
abbrev dktX1_readyShare_0 : List UInt8 := dkwX1_readyShare_0 ++ dktX1_readyShare_1
theorem dksX1_readyShare_0 : cX1_readyShare.data.toList.drop 0 = dktX1_readyShare_0 := by decide +kernel
theorem dksX1_readyShare_1 : cX1_readyShare.data.toList.drop 22 = dktX1_readyShare_1 := dk_seg dksX1_readyShare_0 22 rfl rfl
theorem dX1_readyShare_0 : decode cX1_readyShare 0 = .ok (.aload_n 0, 1) := dk_42 (dk_at dksX1_readyShare_0 0 rfl rfl)
theorem dX1_readyShare_1 : decode cX1_readyShare 1 = .ok (.invokevirtual 111, 3) := dk_182 0 111 (dk_at dksX1_readyShare_0 1 rfl rfl)
theorem dX1_readyShare_4 : decode cX1_readyShare 4 = .ok (.astore_n 1, 1) := dk_76 (dk_at dksX1_readyShare_0 4 rfl rfl)
theorem dX1_readyShare_5 : decode cX1_readyShare 5 = .ok (.aload_n 1, 1) := dk_43 (dk_at dksX1_readyShare_0 5 rfl rfl)
theorem dX1_readyShare_6 : decode cX1_readyShare 6 = .ok (.invokevirtual 115, 3) := dk_182 0 115 (dk_at dksX1_readyShare_0 6 rfl rfl)
theorem dX1_readyShare_9 : decode cX1_readyShare 9 = .ok (.ifCond .ne 7, 3) := dk_154 0 7 (dk_at dksX1_readyShare_0 9 rfl rfl)
theorem dX1_readyShare_12 : decode cX1_readyShare 12 = .ok (.fconst 0, 1) := dk_11 (dk_at dksX1_readyShare_0 12 rfl rfl)
theorem dX1_readyShare_13 : decode cX1_readyShare 13 = .ok (.goto 20, 3) := dk_167 0 20 (dk_at dksX1_readyShare_0 13 rfl rfl)
theorem dX1_readyShare_16 : decode cX1_readyShare 16 = .ok (.aload_n 1, 1) := dk_43 (dk_at dksX1_readyShare_0 16 rfl rfl)
theorem dX1_readyShare_17 : decode cX1_readyShare 17 = .ok (.invokevirtual 221, 3) := dk_182 0 221 (dk_at dksX1_readyShare_0 17 rfl rfl)
theorem dX1_readyShare_20 : decode cX1_readyShare 20 = .ok (.aload_n 1, 1) := dk_43 (dk_at dksX1_readyShare_0 20 rfl rfl)
theorem dX1_readyShare_21 : decode cX1_readyShare 21 = .ok (.iconst 3, 1) := dk_6 (dk_at dksX1_readyShare_0 21 rfl rfl)
theorem dX1_readyShare_22 : decode cX1_readyShare 22 = .ok (.invokevirtual 206, 3) := dk_182 0 206 (dk_at dksX1_readyShare_1 0 rfl rfl)
theorem dX1_readyShare_25 : decode cX1_readyShare 25 = .ok (.iadd, 1) := dk_96 (dk_at dksX1_readyShare_1 3 rfl rfl)
theorem dX1_readyShare_26 : decode cX1_readyShare 26 = .ok (.i2f, 1) := dk_134 (dk_at dksX1_readyShare_1 4 rfl rfl)
theorem dX1_readyShare_27 : decode cX1_readyShare 27 = .ok (.aload_n 1, 1) := dk_43 (dk_at dksX1_readyShare_1 5 rfl rfl)
theorem dX1_readyShare_28 : decode cX1_readyShare 28 = .ok (.invokevirtual 115, 3) := dk_182 0 115 (dk_at dksX1_readyShare_1 6 rfl rfl)
theorem dX1_readyShare_31 : decode cX1_readyShare 31 = .ok (.i2f, 1) := dk_134 (dk_at dksX1_readyShare_1 9 rfl rfl)
theorem dX1_readyShare_32 : decode cX1_readyShare 32 = .ok (.fdiv, 1) := dk_110 (dk_at dksX1_readyShare_1 10 rfl rfl)
theorem dX1_readyShare_33 : decode cX1_readyShare 33 = .ok (.freturn, 1) := dk_174 (dk_at dksX1_readyShare_1 11 rfl rfl)
abbrev cX1_meanDirt : ByteArray := prog_1_method_66_code
def yX1_meanDirt : MethodName := ⟨RX1, "meanDirt", "()D"⟩
def dkwX1_meanDirt_2 : List UInt8 := [167, 255, 228, 43, 182, 0, 115, 154, 0, 7, 14, 167, 0, 11, 28, 135, 43, 182, 0, 115, 135, 111, 175]
abbrev dktX1_meanDirt_2 : List UInt8 := dkwX1_meanDirt_2 ++ []
def dkwX1_meanDirt_1 : List UInt8 := [153, 0, 25, 45, 185, 1, 173, 1, 0, 192, 1, 9, 58, 4, 28, 25, 4, 180, 1, 16, 96, 61]
abbrev dktX1_meanDirt_1 : List UInt8 := dkwX1_meanDirt_1 ++ dktX1_meanDirt_2
def dkwX1_meanDirt_0 : List UInt8 := [42, 182, 0, 111, 76, 3, 61, 43, 180, 1, 161, 185, 1, 164, 1, 0, 78, 45, 185, 1, 168, 1, 0]
abbrev dktX1_meanDirt_0 : List UInt8 := dkwX1_meanDirt_0 ++ dktX1_meanDirt_1
theorem dksX1_meanDirt_0 : cX1_meanDirt.data.toList.drop 0 = dktX1_meanDirt_0 := by decide +kernel
theorem dksX1_meanDirt_1 : cX1_meanDirt.data.toList.drop 23 = dktX1_meanDirt_1 := dk_seg dksX1_meanDirt_0 23 rfl rfl
theorem dksX1_meanDirt_2 : cX1_meanDirt.data.toList.drop 45 = dktX1_meanDirt_2 := dk_seg dksX1_meanDirt_1 22 rfl rfl
theorem dX1_meanDirt_0 : decode cX1_meanDirt 0 = .ok (.aload_n 0, 1) := dk_42 (dk_at dksX1_meanDirt_0 0 rfl rfl)
theorem dX1_meanDirt_1 : decode cX1_meanDirt 1 = .ok (.invokevirtual 111, 3) := dk_182 0 111 (dk_at dksX1_meanDirt_0 1 rfl rfl)
theorem dX1_meanDirt_4 : decode cX1_meanDirt 4 = .ok (.astore_n 1, 1) := dk_76 (dk_at dksX1_meanDirt_0 4 rfl rfl)
theorem dX1_meanDirt_5 : decode cX1_meanDirt 5 = .ok (.iconst 0, 1) := dk_3 (dk_at dksX1_meanDirt_0 5 rfl rfl)
theorem dX1_meanDirt_6 : decode cX1_meanDirt 6 = .ok (.istore_n 2, 1) := dk_61 (dk_at dksX1_meanDirt_0 6 rfl rfl)
theorem dX1_meanDirt_7 : decode cX1_meanDirt 7 = .ok (.aload_n 1, 1) := dk_43 (dk_at dksX1_meanDirt_0 7 rfl rfl)
theorem dX1_meanDirt_8 : decode cX1_meanDirt 8 = .ok (.getfield 417, 3) := dk_180 1 161 (dk_at dksX1_meanDirt_0 8 rfl rfl)
theorem dX1_meanDirt_11 : decode cX1_meanDirt 11 = .ok (.invokeinterface 420 1, 5) := by decide +kernel
theorem dX1_meanDirt_16 : decode cX1_meanDirt 16 = .ok (.astore_n 3, 1) := dk_78 (dk_at dksX1_meanDirt_0 16 rfl rfl)
theorem dX1_meanDirt_17 : decode cX1_meanDirt 17 = .ok (.aload_n 3, 1) := dk_45 (dk_at dksX1_meanDirt_0 17 rfl rfl)
theorem dX1_meanDirt_18 : decode cX1_meanDirt 18 = .ok (.invokeinterface 424 1, 5) := by decide +kernel
theorem dX1_meanDirt_23 : decode cX1_meanDirt 23 = .ok (.ifCond .eq 25, 3) := dk_153 0 25 (dk_at dksX1_meanDirt_1 0 rfl rfl)
theorem dX1_meanDirt_26 : decode cX1_meanDirt 26 = .ok (.aload_n 3, 1) := dk_45 (dk_at dksX1_meanDirt_1 3 rfl rfl)
theorem dX1_meanDirt_27 : decode cX1_meanDirt 27 = .ok (.invokeinterface 429 1, 5) := by decide +kernel
theorem dX1_meanDirt_32 : decode cX1_meanDirt 32 = .ok (.checkcast 265, 3) := dk_192 1 9 (dk_at dksX1_meanDirt_1 9 rfl rfl)
theorem dX1_meanDirt_35 : decode cX1_meanDirt 35 = .ok (.astore 4, 2) := dk_58 4 (dk_at dksX1_meanDirt_1 12 rfl rfl)
theorem dX1_meanDirt_37 : decode cX1_meanDirt 37 = .ok (.iload_n 2, 1) := dk_28 (dk_at dksX1_meanDirt_1 14 rfl rfl)
theorem dX1_meanDirt_38 : decode cX1_meanDirt 38 = .ok (.aload 4, 2) := dk_25 4 (dk_at dksX1_meanDirt_1 15 rfl rfl)
theorem dX1_meanDirt_40 : decode cX1_meanDirt 40 = .ok (.getfield 272, 3) := dk_180 1 16 (dk_at dksX1_meanDirt_1 17 rfl rfl)
theorem dX1_meanDirt_43 : decode cX1_meanDirt 43 = .ok (.iadd, 1) := dk_96 (dk_at dksX1_meanDirt_1 20 rfl rfl)
theorem dX1_meanDirt_44 : decode cX1_meanDirt 44 = .ok (.istore_n 2, 1) := dk_61 (dk_at dksX1_meanDirt_1 21 rfl rfl)
theorem dX1_meanDirt_45 : decode cX1_meanDirt 45 = .ok (.goto (-28), 3) := dk_167 255 228 (dk_at dksX1_meanDirt_2 0 rfl rfl)
theorem dX1_meanDirt_48 : decode cX1_meanDirt 48 = .ok (.aload_n 1, 1) := dk_43 (dk_at dksX1_meanDirt_2 3 rfl rfl)
theorem dX1_meanDirt_49 : decode cX1_meanDirt 49 = .ok (.invokevirtual 115, 3) := dk_182 0 115 (dk_at dksX1_meanDirt_2 4 rfl rfl)
theorem dX1_meanDirt_52 : decode cX1_meanDirt 52 = .ok (.ifCond .ne 7, 3) := dk_154 0 7 (dk_at dksX1_meanDirt_2 7 rfl rfl)
theorem dX1_meanDirt_55 : decode cX1_meanDirt 55 = .ok (.dconst 0, 1) := dk_14 (dk_at dksX1_meanDirt_2 10 rfl rfl)
theorem dX1_meanDirt_56 : decode cX1_meanDirt 56 = .ok (.goto 11, 3) := dk_167 0 11 (dk_at dksX1_meanDirt_2 11 rfl rfl)
theorem dX1_meanDirt_59 : decode cX1_meanDirt 59 = .ok (.iload_n 2, 1) := dk_28 (dk_at dksX1_meanDirt_2 14 rfl rfl)
theorem dX1_meanDirt_60 : decode cX1_meanDirt 60 = .ok (.i2d, 1) := dk_135 (dk_at dksX1_meanDirt_2 15 rfl rfl)
theorem dX1_meanDirt_61 : decode cX1_meanDirt 61 = .ok (.aload_n 1, 1) := dk_43 (dk_at dksX1_meanDirt_2 16 rfl rfl)
theorem dX1_meanDirt_62 : decode cX1_meanDirt 62 = .ok (.invokevirtual 115, 3) := dk_182 0 115 (dk_at dksX1_meanDirt_2 17 rfl rfl)
theorem dX1_meanDirt_65 : decode cX1_meanDirt 65 = .ok (.i2d, 1) := dk_135 (dk_at dksX1_meanDirt_2 20 rfl rfl)
theorem dX1_meanDirt_66 : decode cX1_meanDirt 66 = .ok (.ddiv, 1) := dk_111 (dk_at dksX1_meanDirt_2 21 rfl rfl)
theorem dX1_meanDirt_67 : decode cX1_meanDirt 67 = .ok (.dreturn, 1) := dk_175 (dk_at dksX1_meanDirt_2 22 rfl rfl)
abbrev cX1_writeFlag : ByteArray := prog_1_method_67_code
def yX1_writeFlag : MethodName := ⟨RX1, "writeFlag", "(I)I"⟩
def dkwX1_writeFlag_4 : List UInt8 := [87, 132, 3, 1, 167, 255, 217, 42, 180, 0, 86, 182, 1, 198, 172]
abbrev dktX1_writeFlag_4 : List UInt8 := dkwX1_writeFlag_4 ++ []
def dkwX1_writeFlag_3 : List UInt8 := [44, 180, 1, 25, 29, 184, 1, 194, 153, 0, 17, 42, 180, 0, 86, 16, 43, 182, 1, 187, 29, 182, 1, 191]
abbrev dktX1_writeFlag_3 : List UInt8 := dkwX1_writeFlag_3 ++ dktX1_writeFlag_4
def dkwX1_writeFlag_2 : List UInt8 := [182, 1, 191, 44, 180, 1, 22, 182, 1, 191, 87, 3, 62, 29, 42, 180, 0, 103, 180, 0, 194, 162, 0, 34]
abbrev dktX1_writeFlag_2 : List UInt8 := dkwX1_writeFlag_2 ++ dktX1_writeFlag_3
def dkwX1_writeFlag_1 : List UInt8 := [180, 1, 31, 184, 1, 35, 182, 1, 181, 182, 1, 187, 44, 180, 1, 16, 182, 1, 191, 44, 180, 1, 19]
abbrev dktX1_writeFlag_1 : List UInt8 := dkwX1_writeFlag_1 ++ dktX1_writeFlag_2
def dkwX1_writeFlag_0 : List UInt8 := [42, 27, 182, 0, 139, 77, 42, 180, 0, 86, 3, 182, 1, 176, 42, 180, 0, 86, 19, 1, 179, 44]
abbrev dktX1_writeFlag_0 : List UInt8 := dkwX1_writeFlag_0 ++ dktX1_writeFlag_1
theorem dksX1_writeFlag_0 : cX1_writeFlag.data.toList.drop 0 = dktX1_writeFlag_0 := by decide +kernel
theorem dksX1_writeFlag_1 : cX1_writeFlag.data.toList.drop 22 = dktX1_writeFlag_1 := dk_seg dksX1_writeFlag_0 22 rfl rfl
theorem dksX1_writeFlag_2 : cX1_writeFlag.data.toList.drop 45 = dktX1_writeFlag_2 := dk_seg dksX1_writeFlag_1 23 rfl rfl
theorem dksX1_writeFlag_3 : cX1_writeFlag.data.toList.drop 69 = dktX1_writeFlag_3 := dk_seg dksX1_writeFlag_2 24 rfl rfl
theorem dksX1_writeFlag_4 : cX1_writeFlag.data.toList.drop 93 = dktX1_writeFlag_4 := dk_seg dksX1_writeFlag_3 24 rfl rfl
theorem dX1_writeFlag_0 : decode cX1_writeFlag 0 = .ok (.aload_n 0, 1) := dk_42 (dk_at dksX1_writeFlag_0 0 rfl rfl)
theorem dX1_writeFlag_1 : decode cX1_writeFlag 1 = .ok (.iload_n 1, 1) := dk_27 (dk_at dksX1_writeFlag_0 1 rfl rfl)
theorem dX1_writeFlag_2 : decode cX1_writeFlag 2 = .ok (.invokevirtual 139, 3) := dk_182 0 139 (dk_at dksX1_writeFlag_0 2 rfl rfl)
theorem dX1_writeFlag_5 : decode cX1_writeFlag 5 = .ok (.astore_n 2, 1) := dk_77 (dk_at dksX1_writeFlag_0 5 rfl rfl)
theorem dX1_writeFlag_6 : decode cX1_writeFlag 6 = .ok (.aload_n 0, 1) := dk_42 (dk_at dksX1_writeFlag_0 6 rfl rfl)
theorem dX1_writeFlag_7 : decode cX1_writeFlag 7 = .ok (.getfield 86, 3) := dk_180 0 86 (dk_at dksX1_writeFlag_0 7 rfl rfl)
theorem dX1_writeFlag_10 : decode cX1_writeFlag 10 = .ok (.iconst 0, 1) := dk_3 (dk_at dksX1_writeFlag_0 10 rfl rfl)
theorem dX1_writeFlag_11 : decode cX1_writeFlag 11 = .ok (.invokevirtual 432, 3) := dk_182 1 176 (dk_at dksX1_writeFlag_0 11 rfl rfl)
theorem dX1_writeFlag_14 : decode cX1_writeFlag 14 = .ok (.aload_n 0, 1) := dk_42 (dk_at dksX1_writeFlag_0 14 rfl rfl)
theorem dX1_writeFlag_15 : decode cX1_writeFlag 15 = .ok (.getfield 86, 3) := dk_180 0 86 (dk_at dksX1_writeFlag_0 15 rfl rfl)
theorem dX1_writeFlag_18 : decode cX1_writeFlag 18 = .ok (.ldc_w 435, 3) := dk_19 1 179 (dk_at dksX1_writeFlag_0 18 rfl rfl)
theorem dX1_writeFlag_21 : decode cX1_writeFlag 21 = .ok (.aload_n 2, 1) := dk_44 (dk_at dksX1_writeFlag_0 21 rfl rfl)
theorem dX1_writeFlag_22 : decode cX1_writeFlag 22 = .ok (.getfield 287, 3) := dk_180 1 31 (dk_at dksX1_writeFlag_1 0 rfl rfl)
theorem dX1_writeFlag_25 : decode cX1_writeFlag 25 = .ok (.invokestatic 291, 3) := dk_184 1 35 (dk_at dksX1_writeFlag_1 3 rfl rfl)
theorem dX1_writeFlag_28 : decode cX1_writeFlag 28 = .ok (.invokevirtual 437, 3) := dk_182 1 181 (dk_at dksX1_writeFlag_1 6 rfl rfl)
theorem dX1_writeFlag_31 : decode cX1_writeFlag 31 = .ok (.invokevirtual 443, 3) := dk_182 1 187 (dk_at dksX1_writeFlag_1 9 rfl rfl)
theorem dX1_writeFlag_34 : decode cX1_writeFlag 34 = .ok (.aload_n 2, 1) := dk_44 (dk_at dksX1_writeFlag_1 12 rfl rfl)
theorem dX1_writeFlag_35 : decode cX1_writeFlag 35 = .ok (.getfield 272, 3) := dk_180 1 16 (dk_at dksX1_writeFlag_1 13 rfl rfl)
theorem dX1_writeFlag_38 : decode cX1_writeFlag 38 = .ok (.invokevirtual 447, 3) := dk_182 1 191 (dk_at dksX1_writeFlag_1 16 rfl rfl)
theorem dX1_writeFlag_41 : decode cX1_writeFlag 41 = .ok (.aload_n 2, 1) := dk_44 (dk_at dksX1_writeFlag_1 19 rfl rfl)
theorem dX1_writeFlag_42 : decode cX1_writeFlag 42 = .ok (.getfield 275, 3) := dk_180 1 19 (dk_at dksX1_writeFlag_1 20 rfl rfl)
theorem dX1_writeFlag_45 : decode cX1_writeFlag 45 = .ok (.invokevirtual 447, 3) := dk_182 1 191 (dk_at dksX1_writeFlag_2 0 rfl rfl)
theorem dX1_writeFlag_48 : decode cX1_writeFlag 48 = .ok (.aload_n 2, 1) := dk_44 (dk_at dksX1_writeFlag_2 3 rfl rfl)
theorem dX1_writeFlag_49 : decode cX1_writeFlag 49 = .ok (.getfield 278, 3) := dk_180 1 22 (dk_at dksX1_writeFlag_2 4 rfl rfl)
theorem dX1_writeFlag_52 : decode cX1_writeFlag 52 = .ok (.invokevirtual 447, 3) := dk_182 1 191 (dk_at dksX1_writeFlag_2 7 rfl rfl)
theorem dX1_writeFlag_55 : decode cX1_writeFlag 55 = .ok (.pop, 1) := dk_87 (dk_at dksX1_writeFlag_2 10 rfl rfl)
theorem dX1_writeFlag_56 : decode cX1_writeFlag 56 = .ok (.iconst 0, 1) := dk_3 (dk_at dksX1_writeFlag_2 11 rfl rfl)
theorem dX1_writeFlag_57 : decode cX1_writeFlag 57 = .ok (.istore_n 3, 1) := dk_62 (dk_at dksX1_writeFlag_2 12 rfl rfl)
theorem dX1_writeFlag_58 : decode cX1_writeFlag 58 = .ok (.iload_n 3, 1) := dk_29 (dk_at dksX1_writeFlag_2 13 rfl rfl)
theorem dX1_writeFlag_59 : decode cX1_writeFlag 59 = .ok (.aload_n 0, 1) := dk_42 (dk_at dksX1_writeFlag_2 14 rfl rfl)
theorem dX1_writeFlag_60 : decode cX1_writeFlag 60 = .ok (.getfield 103, 3) := dk_180 0 103 (dk_at dksX1_writeFlag_2 15 rfl rfl)
theorem dX1_writeFlag_63 : decode cX1_writeFlag 63 = .ok (.getfield 194, 3) := dk_180 0 194 (dk_at dksX1_writeFlag_2 18 rfl rfl)
theorem dX1_writeFlag_66 : decode cX1_writeFlag 66 = .ok (.if_icmp .ge 34, 3) := dk_162 0 34 (dk_at dksX1_writeFlag_2 21 rfl rfl)
theorem dX1_writeFlag_69 : decode cX1_writeFlag 69 = .ok (.aload_n 2, 1) := dk_44 (dk_at dksX1_writeFlag_3 0 rfl rfl)
theorem dX1_writeFlag_70 : decode cX1_writeFlag 70 = .ok (.getfield 281, 3) := dk_180 1 25 (dk_at dksX1_writeFlag_3 1 rfl rfl)
theorem dX1_writeFlag_73 : decode cX1_writeFlag 73 = .ok (.iload_n 3, 1) := dk_29 (dk_at dksX1_writeFlag_3 4 rfl rfl)
theorem dX1_writeFlag_74 : decode cX1_writeFlag 74 = .ok (.invokestatic 450, 3) := dk_184 1 194 (dk_at dksX1_writeFlag_3 5 rfl rfl)
theorem dX1_writeFlag_77 : decode cX1_writeFlag 77 = .ok (.ifCond .eq 17, 3) := dk_153 0 17 (dk_at dksX1_writeFlag_3 8 rfl rfl)
theorem dX1_writeFlag_80 : decode cX1_writeFlag 80 = .ok (.aload_n 0, 1) := dk_42 (dk_at dksX1_writeFlag_3 11 rfl rfl)
theorem dX1_writeFlag_81 : decode cX1_writeFlag 81 = .ok (.getfield 86, 3) := dk_180 0 86 (dk_at dksX1_writeFlag_3 12 rfl rfl)
theorem dX1_writeFlag_84 : decode cX1_writeFlag 84 = .ok (.bipush 43, 2) := dk_16 43 (dk_at dksX1_writeFlag_3 15 rfl rfl)
theorem dX1_writeFlag_86 : decode cX1_writeFlag 86 = .ok (.invokevirtual 443, 3) := dk_182 1 187 (dk_at dksX1_writeFlag_3 17 rfl rfl)
theorem dX1_writeFlag_89 : decode cX1_writeFlag 89 = .ok (.iload_n 3, 1) := dk_29 (dk_at dksX1_writeFlag_3 20 rfl rfl)
theorem dX1_writeFlag_90 : decode cX1_writeFlag 90 = .ok (.invokevirtual 447, 3) := dk_182 1 191 (dk_at dksX1_writeFlag_3 21 rfl rfl)
theorem dX1_writeFlag_93 : decode cX1_writeFlag 93 = .ok (.pop, 1) := dk_87 (dk_at dksX1_writeFlag_4 0 rfl rfl)
theorem dX1_writeFlag_94 : decode cX1_writeFlag 94 = .ok (.iinc 3 1, 3) := dk_132 3 1 (dk_at dksX1_writeFlag_4 1 rfl rfl)
theorem dX1_writeFlag_97 : decode cX1_writeFlag 97 = .ok (.goto (-39), 3) := dk_167 255 217 (dk_at dksX1_writeFlag_4 4 rfl rfl)
theorem dX1_writeFlag_100 : decode cX1_writeFlag 100 = .ok (.aload_n 0, 1) := dk_42 (dk_at dksX1_writeFlag_4 7 rfl rfl)
theorem dX1_writeFlag_101 : decode cX1_writeFlag 101 = .ok (.getfield 86, 3) := dk_180 0 86 (dk_at dksX1_writeFlag_4 8 rfl rfl)
theorem dX1_writeFlag_104 : decode cX1_writeFlag 104 = .ok (.invokevirtual 454, 3) := dk_182 1 198 (dk_at dksX1_writeFlag_4 11 rfl rfl)
theorem dX1_writeFlag_107 : decode cX1_writeFlag 107 = .ok (.ireturn, 1) := dk_172 (dk_at dksX1_writeFlag_4 14 rfl rfl)
abbrev cX1_writeTub : ByteArray := prog_1_method_68_code
def yX1_writeTub : MethodName := ⟨RX1, "writeTub", "(I)I"⟩
def dkwX1_writeTub_3 : List UInt8 := [180, 0, 86, 16, 45, 182, 1, 187, 87, 42, 180, 0, 86, 182, 1, 198, 172]
abbrev dktX1_writeTub_3 : List UInt8 := dkwX1_writeTub_3 ++ []
def dkwX1_writeTub_2 : List UInt8 := [182, 1, 51, 182, 1, 191, 87, 132, 3, 1, 167, 255, 216, 42, 180, 0, 86, 182, 1, 198, 154, 0, 13, 42]
abbrev dktX1_writeTub_2 : List UInt8 := dkwX1_writeTub_2 ++ dktX1_writeTub_3
def dkwX1_writeTub_1 : List UInt8 := [162, 0, 37, 29, 158, 0, 13, 42, 180, 0, 86, 16, 44, 182, 1, 187, 87, 42, 180, 0, 86, 44, 27, 29]
abbrev dktX1_writeTub_1 : List UInt8 := dkwX1_writeTub_1 ++ dktX1_writeTub_2
def dkwX1_writeTub_0 : List UInt8 := [42, 27, 182, 0, 147, 77, 42, 180, 0, 86, 3, 182, 1, 176, 3, 62, 29, 44, 27, 182, 0, 44]
abbrev dktX1_writeTub_0 : List UInt8 := dkwX1_writeTub_0 ++ dktX1_writeTub_1
theorem dksX1_writeTub_0 : cX1_writeTub.data.toList.drop 0 = dktX1_writeTub_0 := by decide +kernel
theorem dksX1_writeTub_1 : cX1_writeTub.data.toList.drop 22 = dktX1_writeTub_1 := dk_seg dksX1_writeTub_0 22 rfl rfl
theorem dksX1_writeTub_2 : cX1_writeTub.data.toList.drop 46 = dktX1_writeTub_2 := dk_seg dksX1_writeTub_1 24 rfl rfl
theorem dksX1_writeTub_3 : cX1_writeTub.data.toList.drop 70 = dktX1_writeTub_3 := dk_seg dksX1_writeTub_2 24 rfl rfl
theorem dX1_writeTub_0 : decode cX1_writeTub 0 = .ok (.aload_n 0, 1) := dk_42 (dk_at dksX1_writeTub_0 0 rfl rfl)
theorem dX1_writeTub_1 : decode cX1_writeTub 1 = .ok (.iload_n 1, 1) := dk_27 (dk_at dksX1_writeTub_0 1 rfl rfl)
theorem dX1_writeTub_2 : decode cX1_writeTub 2 = .ok (.invokevirtual 147, 3) := dk_182 0 147 (dk_at dksX1_writeTub_0 2 rfl rfl)
theorem dX1_writeTub_5 : decode cX1_writeTub 5 = .ok (.astore_n 2, 1) := dk_77 (dk_at dksX1_writeTub_0 5 rfl rfl)
theorem dX1_writeTub_6 : decode cX1_writeTub 6 = .ok (.aload_n 0, 1) := dk_42 (dk_at dksX1_writeTub_0 6 rfl rfl)
theorem dX1_writeTub_7 : decode cX1_writeTub 7 = .ok (.getfield 86, 3) := dk_180 0 86 (dk_at dksX1_writeTub_0 7 rfl rfl)
theorem dX1_writeTub_10 : decode cX1_writeTub 10 = .ok (.iconst 0, 1) := dk_3 (dk_at dksX1_writeTub_0 10 rfl rfl)
theorem dX1_writeTub_11 : decode cX1_writeTub 11 = .ok (.invokevirtual 432, 3) := dk_182 1 176 (dk_at dksX1_writeTub_0 11 rfl rfl)
theorem dX1_writeTub_14 : decode cX1_writeTub 14 = .ok (.iconst 0, 1) := dk_3 (dk_at dksX1_writeTub_0 14 rfl rfl)
theorem dX1_writeTub_15 : decode cX1_writeTub 15 = .ok (.istore_n 3, 1) := dk_62 (dk_at dksX1_writeTub_0 15 rfl rfl)
theorem dX1_writeTub_16 : decode cX1_writeTub 16 = .ok (.iload_n 3, 1) := dk_29 (dk_at dksX1_writeTub_0 16 rfl rfl)
theorem dX1_writeTub_17 : decode cX1_writeTub 17 = .ok (.aload_n 2, 1) := dk_44 (dk_at dksX1_writeTub_0 17 rfl rfl)
theorem dX1_writeTub_18 : decode cX1_writeTub 18 = .ok (.iload_n 1, 1) := dk_27 (dk_at dksX1_writeTub_0 18 rfl rfl)
theorem dX1_writeTub_19 : decode cX1_writeTub 19 = .ok (.invokevirtual 44, 3) := dk_182 0 44 (dk_at dksX1_writeTub_0 19 rfl rfl)
theorem dX1_writeTub_22 : decode cX1_writeTub 22 = .ok (.if_icmp .ge 37, 3) := dk_162 0 37 (dk_at dksX1_writeTub_1 0 rfl rfl)
theorem dX1_writeTub_25 : decode cX1_writeTub 25 = .ok (.iload_n 3, 1) := dk_29 (dk_at dksX1_writeTub_1 3 rfl rfl)
theorem dX1_writeTub_26 : decode cX1_writeTub 26 = .ok (.ifCond .le 13, 3) := dk_158 0 13 (dk_at dksX1_writeTub_1 4 rfl rfl)
theorem dX1_writeTub_29 : decode cX1_writeTub 29 = .ok (.aload_n 0, 1) := dk_42 (dk_at dksX1_writeTub_1 7 rfl rfl)
theorem dX1_writeTub_30 : decode cX1_writeTub 30 = .ok (.getfield 86, 3) := dk_180 0 86 (dk_at dksX1_writeTub_1 8 rfl rfl)
theorem dX1_writeTub_33 : decode cX1_writeTub 33 = .ok (.bipush 44, 2) := dk_16 44 (dk_at dksX1_writeTub_1 11 rfl rfl)
theorem dX1_writeTub_35 : decode cX1_writeTub 35 = .ok (.invokevirtual 443, 3) := dk_182 1 187 (dk_at dksX1_writeTub_1 13 rfl rfl)
theorem dX1_writeTub_38 : decode cX1_writeTub 38 = .ok (.pop, 1) := dk_87 (dk_at dksX1_writeTub_1 16 rfl rfl)
theorem dX1_writeTub_39 : decode cX1_writeTub 39 = .ok (.aload_n 0, 1) := dk_42 (dk_at dksX1_writeTub_1 17 rfl rfl)
theorem dX1_writeTub_40 : decode cX1_writeTub 40 = .ok (.getfield 86, 3) := dk_180 0 86 (dk_at dksX1_writeTub_1 18 rfl rfl)
theorem dX1_writeTub_43 : decode cX1_writeTub 43 = .ok (.aload_n 2, 1) := dk_44 (dk_at dksX1_writeTub_1 21 rfl rfl)
theorem dX1_writeTub_44 : decode cX1_writeTub 44 = .ok (.iload_n 1, 1) := dk_27 (dk_at dksX1_writeTub_1 22 rfl rfl)
theorem dX1_writeTub_45 : decode cX1_writeTub 45 = .ok (.iload_n 3, 1) := dk_29 (dk_at dksX1_writeTub_1 23 rfl rfl)
theorem dX1_writeTub_46 : decode cX1_writeTub 46 = .ok (.invokevirtual 307, 3) := dk_182 1 51 (dk_at dksX1_writeTub_2 0 rfl rfl)
theorem dX1_writeTub_49 : decode cX1_writeTub 49 = .ok (.invokevirtual 447, 3) := dk_182 1 191 (dk_at dksX1_writeTub_2 3 rfl rfl)
theorem dX1_writeTub_52 : decode cX1_writeTub 52 = .ok (.pop, 1) := dk_87 (dk_at dksX1_writeTub_2 6 rfl rfl)
theorem dX1_writeTub_53 : decode cX1_writeTub 53 = .ok (.iinc 3 1, 3) := dk_132 3 1 (dk_at dksX1_writeTub_2 7 rfl rfl)
theorem dX1_writeTub_56 : decode cX1_writeTub 56 = .ok (.goto (-40), 3) := dk_167 255 216 (dk_at dksX1_writeTub_2 10 rfl rfl)
theorem dX1_writeTub_59 : decode cX1_writeTub 59 = .ok (.aload_n 0, 1) := dk_42 (dk_at dksX1_writeTub_2 13 rfl rfl)
theorem dX1_writeTub_60 : decode cX1_writeTub 60 = .ok (.getfield 86, 3) := dk_180 0 86 (dk_at dksX1_writeTub_2 14 rfl rfl)
theorem dX1_writeTub_63 : decode cX1_writeTub 63 = .ok (.invokevirtual 454, 3) := dk_182 1 198 (dk_at dksX1_writeTub_2 17 rfl rfl)
theorem dX1_writeTub_66 : decode cX1_writeTub 66 = .ok (.ifCond .ne 13, 3) := dk_154 0 13 (dk_at dksX1_writeTub_2 20 rfl rfl)
theorem dX1_writeTub_69 : decode cX1_writeTub 69 = .ok (.aload_n 0, 1) := dk_42 (dk_at dksX1_writeTub_2 23 rfl rfl)
theorem dX1_writeTub_70 : decode cX1_writeTub 70 = .ok (.getfield 86, 3) := dk_180 0 86 (dk_at dksX1_writeTub_3 0 rfl rfl)
theorem dX1_writeTub_73 : decode cX1_writeTub 73 = .ok (.bipush 45, 2) := dk_16 45 (dk_at dksX1_writeTub_3 3 rfl rfl)
theorem dX1_writeTub_75 : decode cX1_writeTub 75 = .ok (.invokevirtual 443, 3) := dk_182 1 187 (dk_at dksX1_writeTub_3 5 rfl rfl)
theorem dX1_writeTub_78 : decode cX1_writeTub 78 = .ok (.pop, 1) := dk_87 (dk_at dksX1_writeTub_3 8 rfl rfl)
theorem dX1_writeTub_79 : decode cX1_writeTub 79 = .ok (.aload_n 0, 1) := dk_42 (dk_at dksX1_writeTub_3 9 rfl rfl)
theorem dX1_writeTub_80 : decode cX1_writeTub 80 = .ok (.getfield 86, 3) := dk_180 0 86 (dk_at dksX1_writeTub_3 10 rfl rfl)
theorem dX1_writeTub_83 : decode cX1_writeTub 83 = .ok (.invokevirtual 454, 3) := dk_182 1 198 (dk_at dksX1_writeTub_3 13 rfl rfl)
theorem dX1_writeTub_86 : decode cX1_writeTub 86 = .ok (.ireturn, 1) := dk_172 (dk_at dksX1_writeTub_3 16 rfl rfl)
abbrev cX1_writeNation : ByteArray := prog_1_method_69_code
def yX1_writeNation : MethodName := ⟨RX1, "writeNation", "(I)I"⟩
def dkwX1_writeNation_5 : List UInt8 := [16, 45, 182, 1, 187, 87, 42, 180, 0, 86, 182, 1, 198, 172]
abbrev dktX1_writeNation_5 : List UInt8 := dkwX1_writeNation_5 ++ []
def dkwX1_writeNation_4 : List UInt8 := [182, 1, 191, 87, 132, 3, 1, 167, 255, 172, 42, 180, 0, 86, 182, 1, 198, 154, 0, 13, 42, 180, 0, 86]
abbrev dktX1_writeNation_4 : List UInt8 := dkwX1_writeNation_4 ++ dktX1_writeNation_5
def dkwX1_writeNation_3 : List UInt8 := [182, 1, 191, 16, 58, 182, 1, 187, 42, 180, 0, 103, 42, 180, 0, 103, 29, 182, 0, 28, 182, 1, 61]
abbrev dktX1_writeNation_3 : List UInt8 := dkwX1_writeNation_3 ++ dktX1_writeNation_4
def dkwX1_writeNation_2 : List UInt8 := [180, 0, 86, 182, 1, 198, 158, 0, 13, 42, 180, 0, 86, 16, 32, 182, 1, 187, 87, 42, 180, 0, 86, 29]
abbrev dktX1_writeNation_2 : List UInt8 := dkwX1_writeNation_2 ++ dktX1_writeNation_3
def dkwX1_writeNation_1 : List UInt8 := [162, 0, 79, 42, 180, 0, 103, 29, 182, 0, 28, 180, 1, 8, 27, 159, 0, 6, 167, 0, 55, 42]
abbrev dktX1_writeNation_1 : List UInt8 := dkwX1_writeNation_1 ++ dktX1_writeNation_2
def dkwX1_writeNation_0 : List UInt8 := [42, 27, 182, 0, 234, 77, 42, 180, 0, 86, 3, 182, 1, 176, 3, 62, 29, 42, 180, 0, 103, 182, 0, 115]
abbrev dktX1_writeNation_0 : List UInt8 := dkwX1_writeNation_0 ++ dktX1_writeNation_1
theorem dksX1_writeNation_0 : cX1_writeNation.data.toList.drop 0 = dktX1_writeNation_0 := by decide +kernel
theorem dksX1_writeNation_1 : cX1_writeNation.data.toList.drop 24 = dktX1_writeNation_1 := dk_seg dksX1_writeNation_0 24 rfl rfl
theorem dksX1_writeNation_2 : cX1_writeNation.data.toList.drop 46 = dktX1_writeNation_2 := dk_seg dksX1_writeNation_1 22 rfl rfl
theorem dksX1_writeNation_3 : cX1_writeNation.data.toList.drop 70 = dktX1_writeNation_3 := dk_seg dksX1_writeNation_2 24 rfl rfl
theorem dksX1_writeNation_4 : cX1_writeNation.data.toList.drop 93 = dktX1_writeNation_4 := dk_seg dksX1_writeNation_3 23 rfl rfl
theorem dksX1_writeNation_5 : cX1_writeNation.data.toList.drop 117 = dktX1_writeNation_5 := dk_seg dksX1_writeNation_4 24 rfl rfl
theorem dX1_writeNation_0 : decode cX1_writeNation 0 = .ok (.aload_n 0, 1) := dk_42 (dk_at dksX1_writeNation_0 0 rfl rfl)
theorem dX1_writeNation_1 : decode cX1_writeNation 1 = .ok (.iload_n 1, 1) := dk_27 (dk_at dksX1_writeNation_0 1 rfl rfl)
theorem dX1_writeNation_2 : decode cX1_writeNation 2 = .ok (.invokevirtual 234, 3) := dk_182 0 234 (dk_at dksX1_writeNation_0 2 rfl rfl)
theorem dX1_writeNation_5 : decode cX1_writeNation 5 = .ok (.astore_n 2, 1) := dk_77 (dk_at dksX1_writeNation_0 5 rfl rfl)
theorem dX1_writeNation_6 : decode cX1_writeNation 6 = .ok (.aload_n 0, 1) := dk_42 (dk_at dksX1_writeNation_0 6 rfl rfl)
theorem dX1_writeNation_7 : decode cX1_writeNation 7 = .ok (.getfield 86, 3) := dk_180 0 86 (dk_at dksX1_writeNation_0 7 rfl rfl)
theorem dX1_writeNation_10 : decode cX1_writeNation 10 = .ok (.iconst 0, 1) := dk_3 (dk_at dksX1_writeNation_0 10 rfl rfl)
theorem dX1_writeNation_11 : decode cX1_writeNation 11 = .ok (.invokevirtual 432, 3) := dk_182 1 176 (dk_at dksX1_writeNation_0 11 rfl rfl)
theorem dX1_writeNation_14 : decode cX1_writeNation 14 = .ok (.iconst 0, 1) := dk_3 (dk_at dksX1_writeNation_0 14 rfl rfl)
theorem dX1_writeNation_15 : decode cX1_writeNation 15 = .ok (.istore_n 3, 1) := dk_62 (dk_at dksX1_writeNation_0 15 rfl rfl)
theorem dX1_writeNation_16 : decode cX1_writeNation 16 = .ok (.iload_n 3, 1) := dk_29 (dk_at dksX1_writeNation_0 16 rfl rfl)
theorem dX1_writeNation_17 : decode cX1_writeNation 17 = .ok (.aload_n 0, 1) := dk_42 (dk_at dksX1_writeNation_0 17 rfl rfl)
theorem dX1_writeNation_18 : decode cX1_writeNation 18 = .ok (.getfield 103, 3) := dk_180 0 103 (dk_at dksX1_writeNation_0 18 rfl rfl)
theorem dX1_writeNation_21 : decode cX1_writeNation 21 = .ok (.invokevirtual 115, 3) := dk_182 0 115 (dk_at dksX1_writeNation_0 21 rfl rfl)
theorem dX1_writeNation_24 : decode cX1_writeNation 24 = .ok (.if_icmp .ge 79, 3) := dk_162 0 79 (dk_at dksX1_writeNation_1 0 rfl rfl)
theorem dX1_writeNation_27 : decode cX1_writeNation 27 = .ok (.aload_n 0, 1) := dk_42 (dk_at dksX1_writeNation_1 3 rfl rfl)
theorem dX1_writeNation_28 : decode cX1_writeNation 28 = .ok (.getfield 103, 3) := dk_180 0 103 (dk_at dksX1_writeNation_1 4 rfl rfl)
theorem dX1_writeNation_31 : decode cX1_writeNation 31 = .ok (.iload_n 3, 1) := dk_29 (dk_at dksX1_writeNation_1 7 rfl rfl)
theorem dX1_writeNation_32 : decode cX1_writeNation 32 = .ok (.invokevirtual 28, 3) := dk_182 0 28 (dk_at dksX1_writeNation_1 8 rfl rfl)
theorem dX1_writeNation_35 : decode cX1_writeNation 35 = .ok (.getfield 264, 3) := dk_180 1 8 (dk_at dksX1_writeNation_1 11 rfl rfl)
theorem dX1_writeNation_38 : decode cX1_writeNation 38 = .ok (.iload_n 1, 1) := dk_27 (dk_at dksX1_writeNation_1 14 rfl rfl)
theorem dX1_writeNation_39 : decode cX1_writeNation 39 = .ok (.if_icmp .eq 6, 3) := dk_159 0 6 (dk_at dksX1_writeNation_1 15 rfl rfl)
theorem dX1_writeNation_42 : decode cX1_writeNation 42 = .ok (.goto 55, 3) := dk_167 0 55 (dk_at dksX1_writeNation_1 18 rfl rfl)
theorem dX1_writeNation_45 : decode cX1_writeNation 45 = .ok (.aload_n 0, 1) := dk_42 (dk_at dksX1_writeNation_1 21 rfl rfl)
theorem dX1_writeNation_46 : decode cX1_writeNation 46 = .ok (.getfield 86, 3) := dk_180 0 86 (dk_at dksX1_writeNation_2 0 rfl rfl)
theorem dX1_writeNation_49 : decode cX1_writeNation 49 = .ok (.invokevirtual 454, 3) := dk_182 1 198 (dk_at dksX1_writeNation_2 3 rfl rfl)
theorem dX1_writeNation_52 : decode cX1_writeNation 52 = .ok (.ifCond .le 13, 3) := dk_158 0 13 (dk_at dksX1_writeNation_2 6 rfl rfl)
theorem dX1_writeNation_55 : decode cX1_writeNation 55 = .ok (.aload_n 0, 1) := dk_42 (dk_at dksX1_writeNation_2 9 rfl rfl)
theorem dX1_writeNation_56 : decode cX1_writeNation 56 = .ok (.getfield 86, 3) := dk_180 0 86 (dk_at dksX1_writeNation_2 10 rfl rfl)
theorem dX1_writeNation_59 : decode cX1_writeNation 59 = .ok (.bipush 32, 2) := dk_16 32 (dk_at dksX1_writeNation_2 13 rfl rfl)
theorem dX1_writeNation_61 : decode cX1_writeNation 61 = .ok (.invokevirtual 443, 3) := dk_182 1 187 (dk_at dksX1_writeNation_2 15 rfl rfl)
theorem dX1_writeNation_64 : decode cX1_writeNation 64 = .ok (.pop, 1) := dk_87 (dk_at dksX1_writeNation_2 18 rfl rfl)
theorem dX1_writeNation_65 : decode cX1_writeNation 65 = .ok (.aload_n 0, 1) := dk_42 (dk_at dksX1_writeNation_2 19 rfl rfl)
theorem dX1_writeNation_66 : decode cX1_writeNation 66 = .ok (.getfield 86, 3) := dk_180 0 86 (dk_at dksX1_writeNation_2 20 rfl rfl)
theorem dX1_writeNation_69 : decode cX1_writeNation 69 = .ok (.iload_n 3, 1) := dk_29 (dk_at dksX1_writeNation_2 23 rfl rfl)
theorem dX1_writeNation_70 : decode cX1_writeNation 70 = .ok (.invokevirtual 447, 3) := dk_182 1 191 (dk_at dksX1_writeNation_3 0 rfl rfl)
theorem dX1_writeNation_73 : decode cX1_writeNation 73 = .ok (.bipush 58, 2) := dk_16 58 (dk_at dksX1_writeNation_3 3 rfl rfl)
theorem dX1_writeNation_75 : decode cX1_writeNation 75 = .ok (.invokevirtual 443, 3) := dk_182 1 187 (dk_at dksX1_writeNation_3 5 rfl rfl)
theorem dX1_writeNation_78 : decode cX1_writeNation 78 = .ok (.aload_n 0, 1) := dk_42 (dk_at dksX1_writeNation_3 8 rfl rfl)
theorem dX1_writeNation_79 : decode cX1_writeNation 79 = .ok (.getfield 103, 3) := dk_180 0 103 (dk_at dksX1_writeNation_3 9 rfl rfl)
theorem dX1_writeNation_82 : decode cX1_writeNation 82 = .ok (.aload_n 0, 1) := dk_42 (dk_at dksX1_writeNation_3 12 rfl rfl)
theorem dX1_writeNation_83 : decode cX1_writeNation 83 = .ok (.getfield 103, 3) := dk_180 0 103 (dk_at dksX1_writeNation_3 13 rfl rfl)
theorem dX1_writeNation_86 : decode cX1_writeNation 86 = .ok (.iload_n 3, 1) := dk_29 (dk_at dksX1_writeNation_3 16 rfl rfl)
theorem dX1_writeNation_87 : decode cX1_writeNation 87 = .ok (.invokevirtual 28, 3) := dk_182 0 28 (dk_at dksX1_writeNation_3 17 rfl rfl)
theorem dX1_writeNation_90 : decode cX1_writeNation 90 = .ok (.invokevirtual 317, 3) := dk_182 1 61 (dk_at dksX1_writeNation_3 20 rfl rfl)
theorem dX1_writeNation_93 : decode cX1_writeNation 93 = .ok (.invokevirtual 447, 3) := dk_182 1 191 (dk_at dksX1_writeNation_4 0 rfl rfl)
theorem dX1_writeNation_96 : decode cX1_writeNation 96 = .ok (.pop, 1) := dk_87 (dk_at dksX1_writeNation_4 3 rfl rfl)
theorem dX1_writeNation_97 : decode cX1_writeNation 97 = .ok (.iinc 3 1, 3) := dk_132 3 1 (dk_at dksX1_writeNation_4 4 rfl rfl)
theorem dX1_writeNation_100 : decode cX1_writeNation 100 = .ok (.goto (-84), 3) := dk_167 255 172 (dk_at dksX1_writeNation_4 7 rfl rfl)
theorem dX1_writeNation_103 : decode cX1_writeNation 103 = .ok (.aload_n 0, 1) := dk_42 (dk_at dksX1_writeNation_4 10 rfl rfl)
theorem dX1_writeNation_104 : decode cX1_writeNation 104 = .ok (.getfield 86, 3) := dk_180 0 86 (dk_at dksX1_writeNation_4 11 rfl rfl)
theorem dX1_writeNation_107 : decode cX1_writeNation 107 = .ok (.invokevirtual 454, 3) := dk_182 1 198 (dk_at dksX1_writeNation_4 14 rfl rfl)
theorem dX1_writeNation_110 : decode cX1_writeNation 110 = .ok (.ifCond .ne 13, 3) := dk_154 0 13 (dk_at dksX1_writeNation_4 17 rfl rfl)
theorem dX1_writeNation_113 : decode cX1_writeNation 113 = .ok (.aload_n 0, 1) := dk_42 (dk_at dksX1_writeNation_4 20 rfl rfl)
theorem dX1_writeNation_114 : decode cX1_writeNation 114 = .ok (.getfield 86, 3) := dk_180 0 86 (dk_at dksX1_writeNation_4 21 rfl rfl)
theorem dX1_writeNation_117 : decode cX1_writeNation 117 = .ok (.bipush 45, 2) := dk_16 45 (dk_at dksX1_writeNation_5 0 rfl rfl)
theorem dX1_writeNation_119 : decode cX1_writeNation 119 = .ok (.invokevirtual 443, 3) := dk_182 1 187 (dk_at dksX1_writeNation_5 2 rfl rfl)
theorem dX1_writeNation_122 : decode cX1_writeNation 122 = .ok (.pop, 1) := dk_87 (dk_at dksX1_writeNation_5 5 rfl rfl)
theorem dX1_writeNation_123 : decode cX1_writeNation 123 = .ok (.aload_n 0, 1) := dk_42 (dk_at dksX1_writeNation_5 6 rfl rfl)
theorem dX1_writeNation_124 : decode cX1_writeNation 124 = .ok (.getfield 86, 3) := dk_180 0 86 (dk_at dksX1_writeNation_5 7 rfl rfl)
theorem dX1_writeNation_127 : decode cX1_writeNation 127 = .ok (.invokevirtual 454, 3) := dk_182 1 198 (dk_at dksX1_writeNation_5 10 rfl rfl)
theorem dX1_writeNation_130 : decode cX1_writeNation 130 = .ok (.ireturn, 1) := dk_172 (dk_at dksX1_writeNation_5 13 rfl rfl)
abbrev cX1_writeLine : ByteArray := prog_1_method_70_code
def yX1_writeLine : MethodName := ⟨RX1, "writeLine", "()I"⟩
def dkwX1_writeLine_3 : List UInt8 := [132, 2, 1, 167, 255, 198, 42, 180, 0, 86, 182, 1, 198, 172]
abbrev dktX1_writeLine_3 : List UInt8 := dkwX1_writeLine_3 ++ []
def dkwX1_writeLine_2 : List UInt8 := [42, 180, 0, 86, 16, 46, 182, 1, 187, 87, 167, 0, 12, 42, 180, 0, 86, 29, 182, 1, 191, 87]
abbrev dktX1_writeLine_2 : List UInt8 := dkwX1_writeLine_2 ++ dktX1_writeLine_3
def dkwX1_writeLine_1 : List UInt8 := [28, 182, 1, 55, 62, 28, 158, 0, 13, 42, 180, 0, 86, 16, 47, 182, 1, 187, 87, 29, 2, 160, 0, 16]
abbrev dktX1_writeLine_1 : List UInt8 := dkwX1_writeLine_1 ++ dktX1_writeLine_2
def dkwX1_writeLine_0 : List UInt8 := [42, 182, 0, 111, 76, 42, 180, 0, 86, 3, 182, 1, 176, 3, 61, 28, 43, 180, 0, 197, 162, 0, 56, 43]
abbrev dktX1_writeLine_0 : List UInt8 := dkwX1_writeLine_0 ++ dktX1_writeLine_1
theorem dksX1_writeLine_0 : cX1_writeLine.data.toList.drop 0 = dktX1_writeLine_0 := by decide +kernel
theorem dksX1_writeLine_1 : cX1_writeLine.data.toList.drop 24 = dktX1_writeLine_1 := dk_seg dksX1_writeLine_0 24 rfl rfl
theorem dksX1_writeLine_2 : cX1_writeLine.data.toList.drop 48 = dktX1_writeLine_2 := dk_seg dksX1_writeLine_1 24 rfl rfl
theorem dksX1_writeLine_3 : cX1_writeLine.data.toList.drop 70 = dktX1_writeLine_3 := dk_seg dksX1_writeLine_2 22 rfl rfl
theorem dX1_writeLine_0 : decode cX1_writeLine 0 = .ok (.aload_n 0, 1) := dk_42 (dk_at dksX1_writeLine_0 0 rfl rfl)
theorem dX1_writeLine_1 : decode cX1_writeLine 1 = .ok (.invokevirtual 111, 3) := dk_182 0 111 (dk_at dksX1_writeLine_0 1 rfl rfl)
theorem dX1_writeLine_4 : decode cX1_writeLine 4 = .ok (.astore_n 1, 1) := dk_76 (dk_at dksX1_writeLine_0 4 rfl rfl)
theorem dX1_writeLine_5 : decode cX1_writeLine 5 = .ok (.aload_n 0, 1) := dk_42 (dk_at dksX1_writeLine_0 5 rfl rfl)
theorem dX1_writeLine_6 : decode cX1_writeLine 6 = .ok (.getfield 86, 3) := dk_180 0 86 (dk_at dksX1_writeLine_0 6 rfl rfl)
theorem dX1_writeLine_9 : decode cX1_writeLine 9 = .ok (.iconst 0, 1) := dk_3 (dk_at dksX1_writeLine_0 9 rfl rfl)
theorem dX1_writeLine_10 : decode cX1_writeLine 10 = .ok (.invokevirtual 432, 3) := dk_182 1 176 (dk_at dksX1_writeLine_0 10 rfl rfl)
theorem dX1_writeLine_13 : decode cX1_writeLine 13 = .ok (.iconst 0, 1) := dk_3 (dk_at dksX1_writeLine_0 13 rfl rfl)
theorem dX1_writeLine_14 : decode cX1_writeLine 14 = .ok (.istore_n 2, 1) := dk_61 (dk_at dksX1_writeLine_0 14 rfl rfl)
theorem dX1_writeLine_15 : decode cX1_writeLine 15 = .ok (.iload_n 2, 1) := dk_28 (dk_at dksX1_writeLine_0 15 rfl rfl)
theorem dX1_writeLine_16 : decode cX1_writeLine 16 = .ok (.aload_n 1, 1) := dk_43 (dk_at dksX1_writeLine_0 16 rfl rfl)
theorem dX1_writeLine_17 : decode cX1_writeLine 17 = .ok (.getfield 197, 3) := dk_180 0 197 (dk_at dksX1_writeLine_0 17 rfl rfl)
theorem dX1_writeLine_20 : decode cX1_writeLine 20 = .ok (.if_icmp .ge 56, 3) := dk_162 0 56 (dk_at dksX1_writeLine_0 20 rfl rfl)
theorem dX1_writeLine_23 : decode cX1_writeLine 23 = .ok (.aload_n 1, 1) := dk_43 (dk_at dksX1_writeLine_0 23 rfl rfl)
theorem dX1_writeLine_24 : decode cX1_writeLine 24 = .ok (.iload_n 2, 1) := dk_28 (dk_at dksX1_writeLine_1 0 rfl rfl)
theorem dX1_writeLine_25 : decode cX1_writeLine 25 = .ok (.invokevirtual 311, 3) := dk_182 1 55 (dk_at dksX1_writeLine_1 1 rfl rfl)
theorem dX1_writeLine_28 : decode cX1_writeLine 28 = .ok (.istore_n 3, 1) := dk_62 (dk_at dksX1_writeLine_1 4 rfl rfl)
theorem dX1_writeLine_29 : decode cX1_writeLine 29 = .ok (.iload_n 2, 1) := dk_28 (dk_at dksX1_writeLine_1 5 rfl rfl)
theorem dX1_writeLine_30 : decode cX1_writeLine 30 = .ok (.ifCond .le 13, 3) := dk_158 0 13 (dk_at dksX1_writeLine_1 6 rfl rfl)
theorem dX1_writeLine_33 : decode cX1_writeLine 33 = .ok (.aload_n 0, 1) := dk_42 (dk_at dksX1_writeLine_1 9 rfl rfl)
theorem dX1_writeLine_34 : decode cX1_writeLine 34 = .ok (.getfield 86, 3) := dk_180 0 86 (dk_at dksX1_writeLine_1 10 rfl rfl)
theorem dX1_writeLine_37 : decode cX1_writeLine 37 = .ok (.bipush 47, 2) := dk_16 47 (dk_at dksX1_writeLine_1 13 rfl rfl)
theorem dX1_writeLine_39 : decode cX1_writeLine 39 = .ok (.invokevirtual 443, 3) := dk_182 1 187 (dk_at dksX1_writeLine_1 15 rfl rfl)
theorem dX1_writeLine_42 : decode cX1_writeLine 42 = .ok (.pop, 1) := dk_87 (dk_at dksX1_writeLine_1 18 rfl rfl)
theorem dX1_writeLine_43 : decode cX1_writeLine 43 = .ok (.iload_n 3, 1) := dk_29 (dk_at dksX1_writeLine_1 19 rfl rfl)
theorem dX1_writeLine_44 : decode cX1_writeLine 44 = .ok (.iconst (-1), 1) := dk_2 (dk_at dksX1_writeLine_1 20 rfl rfl)
theorem dX1_writeLine_45 : decode cX1_writeLine 45 = .ok (.if_icmp .ne 16, 3) := dk_160 0 16 (dk_at dksX1_writeLine_1 21 rfl rfl)
theorem dX1_writeLine_48 : decode cX1_writeLine 48 = .ok (.aload_n 0, 1) := dk_42 (dk_at dksX1_writeLine_2 0 rfl rfl)
theorem dX1_writeLine_49 : decode cX1_writeLine 49 = .ok (.getfield 86, 3) := dk_180 0 86 (dk_at dksX1_writeLine_2 1 rfl rfl)
theorem dX1_writeLine_52 : decode cX1_writeLine 52 = .ok (.bipush 46, 2) := dk_16 46 (dk_at dksX1_writeLine_2 4 rfl rfl)
theorem dX1_writeLine_54 : decode cX1_writeLine 54 = .ok (.invokevirtual 443, 3) := dk_182 1 187 (dk_at dksX1_writeLine_2 6 rfl rfl)
theorem dX1_writeLine_57 : decode cX1_writeLine 57 = .ok (.pop, 1) := dk_87 (dk_at dksX1_writeLine_2 9 rfl rfl)
theorem dX1_writeLine_58 : decode cX1_writeLine 58 = .ok (.goto 12, 3) := dk_167 0 12 (dk_at dksX1_writeLine_2 10 rfl rfl)
theorem dX1_writeLine_61 : decode cX1_writeLine 61 = .ok (.aload_n 0, 1) := dk_42 (dk_at dksX1_writeLine_2 13 rfl rfl)
theorem dX1_writeLine_62 : decode cX1_writeLine 62 = .ok (.getfield 86, 3) := dk_180 0 86 (dk_at dksX1_writeLine_2 14 rfl rfl)
theorem dX1_writeLine_65 : decode cX1_writeLine 65 = .ok (.iload_n 3, 1) := dk_29 (dk_at dksX1_writeLine_2 17 rfl rfl)
theorem dX1_writeLine_66 : decode cX1_writeLine 66 = .ok (.invokevirtual 447, 3) := dk_182 1 191 (dk_at dksX1_writeLine_2 18 rfl rfl)
theorem dX1_writeLine_69 : decode cX1_writeLine 69 = .ok (.pop, 1) := dk_87 (dk_at dksX1_writeLine_2 21 rfl rfl)
theorem dX1_writeLine_70 : decode cX1_writeLine 70 = .ok (.iinc 2 1, 3) := dk_132 2 1 (dk_at dksX1_writeLine_3 0 rfl rfl)
theorem dX1_writeLine_73 : decode cX1_writeLine 73 = .ok (.goto (-58), 3) := dk_167 255 198 (dk_at dksX1_writeLine_3 3 rfl rfl)
theorem dX1_writeLine_76 : decode cX1_writeLine 76 = .ok (.aload_n 0, 1) := dk_42 (dk_at dksX1_writeLine_3 6 rfl rfl)
theorem dX1_writeLine_77 : decode cX1_writeLine 77 = .ok (.getfield 86, 3) := dk_180 0 86 (dk_at dksX1_writeLine_3 7 rfl rfl)
theorem dX1_writeLine_80 : decode cX1_writeLine 80 = .ok (.invokevirtual 454, 3) := dk_182 1 198 (dk_at dksX1_writeLine_3 10 rfl rfl)
theorem dX1_writeLine_83 : decode cX1_writeLine 83 = .ok (.ireturn, 1) := dk_172 (dk_at dksX1_writeLine_3 13 rfl rfl)
abbrev cX1_textByte : ByteArray := prog_1_method_71_code
def yX1_textByte : MethodName := ⟨RX1, "textByte", "(I)I"⟩
def dkwX1_textByte_0 : List UInt8 := [27, 42, 180, 0, 86, 182, 1, 198, 184, 0, 119, 42, 180, 0, 86, 27, 182, 1, 201, 172]
abbrev dktX1_textByte_0 : List UInt8 := dkwX1_textByte_0 ++ []
theorem dksX1_textByte_0 : cX1_textByte.data.toList.drop 0 = dktX1_textByte_0 := by decide +kernel
theorem dX1_textByte_0 : decode cX1_textByte 0 = .ok (.iload_n 1, 1) := dk_27 (dk_at dksX1_textByte_0 0 rfl rfl)
theorem dX1_textByte_1 : decode cX1_textByte 1 = .ok (.aload_n 0, 1) := dk_42 (dk_at dksX1_textByte_0 1 rfl rfl)
theorem dX1_textByte_2 : decode cX1_textByte 2 = .ok (.getfield 86, 3) := dk_180 0 86 (dk_at dksX1_textByte_0 2 rfl rfl)
theorem dX1_textByte_5 : decode cX1_textByte 5 = .ok (.invokevirtual 454, 3) := dk_182 1 198 (dk_at dksX1_textByte_0 5 rfl rfl)
theorem dX1_textByte_8 : decode cX1_textByte 8 = .ok (.invokestatic 119, 3) := dk_184 0 119 (dk_at dksX1_textByte_0 8 rfl rfl)
theorem dX1_textByte_11 : decode cX1_textByte 11 = .ok (.aload_n 0, 1) := dk_42 (dk_at dksX1_textByte_0 11 rfl rfl)
theorem dX1_textByte_12 : decode cX1_textByte 12 = .ok (.getfield 86, 3) := dk_180 0 86 (dk_at dksX1_textByte_0 12 rfl rfl)
theorem dX1_textByte_15 : decode cX1_textByte 15 = .ok (.iload_n 1, 1) := dk_27 (dk_at dksX1_textByte_0 15 rfl rfl)
theorem dX1_textByte_16 : decode cX1_textByte 16 = .ok (.invokevirtual 457, 3) := dk_182 1 201 (dk_at dksX1_textByte_0 16 rfl rfl)
theorem dX1_textByte_19 : decode cX1_textByte 19 = .ok (.ireturn, 1) := dk_172 (dk_at dksX1_textByte_0 19 rfl rfl)
abbrev cX1_put : ByteArray := prog_1_method_72_code
def yX1_put : MethodName := ⟨RX1, "put", "(II)I"⟩
def dkwX1_put_1 : List UInt8 := [184, 0, 144, 42, 182, 1, 202, 27, 28, 182, 1, 205, 172]
abbrev dktX1_put_1 : List UInt8 := dkwX1_put_1 ++ []
def dkwX1_put_0 : List UInt8 := [42, 27, 28, 182, 1, 72, 78, 42, 180, 0, 103, 27, 28, 184, 1, 76, 154, 0, 7, 4, 167, 0, 4, 3]
abbrev dktX1_put_0 : List UInt8 := dkwX1_put_0 ++ dktX1_put_1
theorem dksX1_put_0 : cX1_put.data.toList.drop 0 = dktX1_put_0 := by decide +kernel
theorem dksX1_put_1 : cX1_put.data.toList.drop 24 = dktX1_put_1 := dk_seg dksX1_put_0 24 rfl rfl
theorem dX1_put_0 : decode cX1_put 0 = .ok (.aload_n 0, 1) := dk_42 (dk_at dksX1_put_0 0 rfl rfl)
theorem dX1_put_1 : decode cX1_put 1 = .ok (.iload_n 1, 1) := dk_27 (dk_at dksX1_put_0 1 rfl rfl)
theorem dX1_put_2 : decode cX1_put 2 = .ok (.iload_n 2, 1) := dk_28 (dk_at dksX1_put_0 2 rfl rfl)
theorem dX1_put_3 : decode cX1_put 3 = .ok (.invokevirtual 328, 3) := dk_182 1 72 (dk_at dksX1_put_0 3 rfl rfl)
theorem dX1_put_6 : decode cX1_put 6 = .ok (.astore_n 3, 1) := dk_78 (dk_at dksX1_put_0 6 rfl rfl)
theorem dX1_put_7 : decode cX1_put 7 = .ok (.aload_n 0, 1) := dk_42 (dk_at dksX1_put_0 7 rfl rfl)
theorem dX1_put_8 : decode cX1_put 8 = .ok (.getfield 103, 3) := dk_180 0 103 (dk_at dksX1_put_0 8 rfl rfl)
theorem dX1_put_11 : decode cX1_put 11 = .ok (.iload_n 1, 1) := dk_27 (dk_at dksX1_put_0 11 rfl rfl)
theorem dX1_put_12 : decode cX1_put 12 = .ok (.iload_n 2, 1) := dk_28 (dk_at dksX1_put_0 12 rfl rfl)
theorem dX1_put_13 : decode cX1_put 13 = .ok (.invokestatic 332, 3) := dk_184 1 76 (dk_at dksX1_put_0 13 rfl rfl)
theorem dX1_put_16 : decode cX1_put 16 = .ok (.ifCond .ne 7, 3) := dk_154 0 7 (dk_at dksX1_put_0 16 rfl rfl)
theorem dX1_put_19 : decode cX1_put 19 = .ok (.iconst 1, 1) := dk_4 (dk_at dksX1_put_0 19 rfl rfl)
theorem dX1_put_20 : decode cX1_put 20 = .ok (.goto 4, 3) := dk_167 0 4 (dk_at dksX1_put_0 20 rfl rfl)
theorem dX1_put_23 : decode cX1_put 23 = .ok (.iconst 0, 1) := dk_3 (dk_at dksX1_put_0 23 rfl rfl)
theorem dX1_put_24 : decode cX1_put 24 = .ok (.invokestatic 144, 3) := dk_184 0 144 (dk_at dksX1_put_1 0 rfl rfl)
theorem dX1_put_27 : decode cX1_put 27 = .ok (.aload_n 0, 1) := dk_42 (dk_at dksX1_put_1 3 rfl rfl)
theorem dX1_put_28 : decode cX1_put 28 = .ok (.invokevirtual 458, 3) := dk_182 1 202 (dk_at dksX1_put_1 4 rfl rfl)
theorem dX1_put_31 : decode cX1_put 31 = .ok (.iload_n 1, 1) := dk_27 (dk_at dksX1_put_1 7 rfl rfl)
theorem dX1_put_32 : decode cX1_put 32 = .ok (.iload_n 2, 1) := dk_28 (dk_at dksX1_put_1 8 rfl rfl)
theorem dX1_put_33 : decode cX1_put 33 = .ok (.invokevirtual 461, 3) := dk_182 1 205 (dk_at dksX1_put_1 9 rfl rfl)
theorem dX1_put_36 : decode cX1_put 36 = .ok (.ireturn, 1) := dk_172 (dk_at dksX1_put_1 12 rfl rfl)
abbrev cX1_changed : ByteArray := prog_1_method_24_code
def yX1_changed : MethodName := ⟨RX1, "changed", "()LFlagLaundry$World;"⟩
def dkwX1_changed_2 : List UInt8 := [180, 0, 103, 176]
abbrev dktX1_changed_2 : List UInt8 := dkwX1_changed_2 ++ []
def dkwX1_changed_1 : List UInt8 := [42, 180, 0, 103, 182, 0, 160, 42, 187, 0, 29, 89, 42, 180, 0, 103, 183, 0, 164, 181, 0, 103, 42]
abbrev dktX1_changed_1 : List UInt8 := dkwX1_changed_1 ++ dktX1_changed_2
def dkwX1_changed_0 : List UInt8 := [42, 180, 0, 75, 182, 0, 155, 16, 8, 160, 0, 11, 42, 180, 0, 75, 182, 0, 156, 87, 42, 180, 0, 75]
abbrev dktX1_changed_0 : List UInt8 := dkwX1_changed_0 ++ dktX1_changed_1
theorem dksX1_changed_0 : cX1_changed.data.toList.drop 0 = dktX1_changed_0 := by decide +kernel
theorem dksX1_changed_1 : cX1_changed.data.toList.drop 24 = dktX1_changed_1 := dk_seg dksX1_changed_0 24 rfl rfl
theorem dksX1_changed_2 : cX1_changed.data.toList.drop 47 = dktX1_changed_2 := dk_seg dksX1_changed_1 23 rfl rfl
theorem dX1_changed_0 : decode cX1_changed 0 = .ok (.aload_n 0, 1) := dk_42 (dk_at dksX1_changed_0 0 rfl rfl)
theorem dX1_changed_1 : decode cX1_changed 1 = .ok (.getfield 75, 3) := dk_180 0 75 (dk_at dksX1_changed_0 1 rfl rfl)
theorem dX1_changed_4 : decode cX1_changed 4 = .ok (.invokevirtual 155, 3) := dk_182 0 155 (dk_at dksX1_changed_0 4 rfl rfl)
theorem dX1_changed_7 : decode cX1_changed 7 = .ok (.bipush 8, 2) := dk_16 8 (dk_at dksX1_changed_0 7 rfl rfl)
theorem dX1_changed_9 : decode cX1_changed 9 = .ok (.if_icmp .ne 11, 3) := dk_160 0 11 (dk_at dksX1_changed_0 9 rfl rfl)
theorem dX1_changed_12 : decode cX1_changed 12 = .ok (.aload_n 0, 1) := dk_42 (dk_at dksX1_changed_0 12 rfl rfl)
theorem dX1_changed_13 : decode cX1_changed 13 = .ok (.getfield 75, 3) := dk_180 0 75 (dk_at dksX1_changed_0 13 rfl rfl)
theorem dX1_changed_16 : decode cX1_changed 16 = .ok (.invokevirtual 156, 3) := dk_182 0 156 (dk_at dksX1_changed_0 16 rfl rfl)
theorem dX1_changed_19 : decode cX1_changed 19 = .ok (.pop, 1) := dk_87 (dk_at dksX1_changed_0 19 rfl rfl)
theorem dX1_changed_20 : decode cX1_changed 20 = .ok (.aload_n 0, 1) := dk_42 (dk_at dksX1_changed_0 20 rfl rfl)
theorem dX1_changed_21 : decode cX1_changed 21 = .ok (.getfield 75, 3) := dk_180 0 75 (dk_at dksX1_changed_0 21 rfl rfl)
theorem dX1_changed_24 : decode cX1_changed 24 = .ok (.aload_n 0, 1) := dk_42 (dk_at dksX1_changed_1 0 rfl rfl)
theorem dX1_changed_25 : decode cX1_changed 25 = .ok (.getfield 103, 3) := dk_180 0 103 (dk_at dksX1_changed_1 1 rfl rfl)
theorem dX1_changed_28 : decode cX1_changed 28 = .ok (.invokevirtual 160, 3) := dk_182 0 160 (dk_at dksX1_changed_1 4 rfl rfl)
theorem dX1_changed_31 : decode cX1_changed 31 = .ok (.aload_n 0, 1) := dk_42 (dk_at dksX1_changed_1 7 rfl rfl)
theorem dX1_changed_32 : decode cX1_changed 32 = .ok (.new 29, 3) := dk_187 0 29 (dk_at dksX1_changed_1 8 rfl rfl)
theorem dX1_changed_35 : decode cX1_changed 35 = .ok (.dup, 1) := dk_89 (dk_at dksX1_changed_1 11 rfl rfl)
theorem dX1_changed_36 : decode cX1_changed 36 = .ok (.aload_n 0, 1) := dk_42 (dk_at dksX1_changed_1 12 rfl rfl)
theorem dX1_changed_37 : decode cX1_changed 37 = .ok (.getfield 103, 3) := dk_180 0 103 (dk_at dksX1_changed_1 13 rfl rfl)
theorem dX1_changed_40 : decode cX1_changed 40 = .ok (.invokespecial 164, 3) := dk_183 0 164 (dk_at dksX1_changed_1 16 rfl rfl)
theorem dX1_changed_43 : decode cX1_changed 43 = .ok (.putfield 103, 3) := dk_181 0 103 (dk_at dksX1_changed_1 19 rfl rfl)
theorem dX1_changed_46 : decode cX1_changed 46 = .ok (.aload_n 0, 1) := dk_42 (dk_at dksX1_changed_1 22 rfl rfl)
theorem dX1_changed_47 : decode cX1_changed 47 = .ok (.getfield 103, 3) := dk_180 0 103 (dk_at dksX1_changed_2 0 rfl rfl)
theorem dX1_changed_50 : decode cX1_changed 50 = .ok (.areturn, 1) := dk_176 (dk_at dksX1_changed_2 3 rfl rfl)
abbrev cX1_wash : ByteArray := prog_1_method_73_code
def yX1_wash : MethodName := ⟨RX1, "wash", "(II)I"⟩
def dkwX1_wash_1 : List UInt8 := [182, 1, 202, 27, 28, 182, 1, 207, 172]
abbrev dktX1_wash_1 : List UInt8 := dkwX1_wash_1 ++ []
def dkwX1_wash_0 : List UInt8 := [42, 27, 28, 182, 1, 80, 27, 28, 184, 1, 84, 154, 0, 7, 4, 167, 0, 4, 3, 184, 0, 144, 42]
abbrev dktX1_wash_0 : List UInt8 := dkwX1_wash_0 ++ dktX1_wash_1
theorem dksX1_wash_0 : cX1_wash.data.toList.drop 0 = dktX1_wash_0 := by decide +kernel
theorem dksX1_wash_1 : cX1_wash.data.toList.drop 23 = dktX1_wash_1 := dk_seg dksX1_wash_0 23 rfl rfl
theorem dX1_wash_0 : decode cX1_wash 0 = .ok (.aload_n 0, 1) := dk_42 (dk_at dksX1_wash_0 0 rfl rfl)
theorem dX1_wash_1 : decode cX1_wash 1 = .ok (.iload_n 1, 1) := dk_27 (dk_at dksX1_wash_0 1 rfl rfl)
theorem dX1_wash_2 : decode cX1_wash 2 = .ok (.iload_n 2, 1) := dk_28 (dk_at dksX1_wash_0 2 rfl rfl)
theorem dX1_wash_3 : decode cX1_wash 3 = .ok (.invokevirtual 336, 3) := dk_182 1 80 (dk_at dksX1_wash_0 3 rfl rfl)
theorem dX1_wash_6 : decode cX1_wash 6 = .ok (.iload_n 1, 1) := dk_27 (dk_at dksX1_wash_0 6 rfl rfl)
theorem dX1_wash_7 : decode cX1_wash 7 = .ok (.iload_n 2, 1) := dk_28 (dk_at dksX1_wash_0 7 rfl rfl)
theorem dX1_wash_8 : decode cX1_wash 8 = .ok (.invokestatic 340, 3) := dk_184 1 84 (dk_at dksX1_wash_0 8 rfl rfl)
theorem dX1_wash_11 : decode cX1_wash 11 = .ok (.ifCond .ne 7, 3) := dk_154 0 7 (dk_at dksX1_wash_0 11 rfl rfl)
theorem dX1_wash_14 : decode cX1_wash 14 = .ok (.iconst 1, 1) := dk_4 (dk_at dksX1_wash_0 14 rfl rfl)
theorem dX1_wash_15 : decode cX1_wash 15 = .ok (.goto 4, 3) := dk_167 0 4 (dk_at dksX1_wash_0 15 rfl rfl)
theorem dX1_wash_18 : decode cX1_wash 18 = .ok (.iconst 0, 1) := dk_3 (dk_at dksX1_wash_0 18 rfl rfl)
theorem dX1_wash_19 : decode cX1_wash 19 = .ok (.invokestatic 144, 3) := dk_184 0 144 (dk_at dksX1_wash_0 19 rfl rfl)
theorem dX1_wash_22 : decode cX1_wash 22 = .ok (.aload_n 0, 1) := dk_42 (dk_at dksX1_wash_0 22 rfl rfl)
theorem dX1_wash_23 : decode cX1_wash 23 = .ok (.invokevirtual 458, 3) := dk_182 1 202 (dk_at dksX1_wash_1 0 rfl rfl)
theorem dX1_wash_26 : decode cX1_wash 26 = .ok (.iload_n 1, 1) := dk_27 (dk_at dksX1_wash_1 3 rfl rfl)
theorem dX1_wash_27 : decode cX1_wash 27 = .ok (.iload_n 2, 1) := dk_28 (dk_at dksX1_wash_1 4 rfl rfl)
theorem dX1_wash_28 : decode cX1_wash 28 = .ok (.invokevirtual 463, 3) := dk_182 1 207 (dk_at dksX1_wash_1 5 rfl rfl)
theorem dX1_wash_31 : decode cX1_wash 31 = .ok (.ireturn, 1) := dk_172 (dk_at dksX1_wash_1 8 rfl rfl)
abbrev cX1_hang : ByteArray := prog_1_method_74_code
def yX1_hang : MethodName := ⟨RX1, "hang", "(I)I"⟩
def dkwX1_hang_2 : List UInt8 := [183, 1, 212, 181, 1, 31, 29, 172]
abbrev dktX1_hang_2 : List UInt8 := dkwX1_hang_2 ++ []
def dkwX1_hang_1 : List UInt8 := [159, 0, 7, 4, 167, 0, 4, 3, 184, 0, 144, 42, 182, 1, 202, 27, 182, 0, 28, 187, 0, 13, 89, 29]
abbrev dktX1_hang_1 : List UInt8 := dkwX1_hang_1 ++ dktX1_hang_2
def dkwX1_hang_0 : List UInt8 := [42, 27, 182, 0, 139, 77, 42, 180, 0, 103, 182, 1, 209, 62, 44, 182, 1, 115, 153, 0, 12, 29, 2]
abbrev dktX1_hang_0 : List UInt8 := dkwX1_hang_0 ++ dktX1_hang_1
theorem dksX1_hang_0 : cX1_hang.data.toList.drop 0 = dktX1_hang_0 := by decide +kernel
theorem dksX1_hang_1 : cX1_hang.data.toList.drop 23 = dktX1_hang_1 := dk_seg dksX1_hang_0 23 rfl rfl
theorem dksX1_hang_2 : cX1_hang.data.toList.drop 47 = dktX1_hang_2 := dk_seg dksX1_hang_1 24 rfl rfl
theorem dX1_hang_0 : decode cX1_hang 0 = .ok (.aload_n 0, 1) := dk_42 (dk_at dksX1_hang_0 0 rfl rfl)
theorem dX1_hang_1 : decode cX1_hang 1 = .ok (.iload_n 1, 1) := dk_27 (dk_at dksX1_hang_0 1 rfl rfl)
theorem dX1_hang_2 : decode cX1_hang 2 = .ok (.invokevirtual 139, 3) := dk_182 0 139 (dk_at dksX1_hang_0 2 rfl rfl)
theorem dX1_hang_5 : decode cX1_hang 5 = .ok (.astore_n 2, 1) := dk_77 (dk_at dksX1_hang_0 5 rfl rfl)
theorem dX1_hang_6 : decode cX1_hang 6 = .ok (.aload_n 0, 1) := dk_42 (dk_at dksX1_hang_0 6 rfl rfl)
theorem dX1_hang_7 : decode cX1_hang 7 = .ok (.getfield 103, 3) := dk_180 0 103 (dk_at dksX1_hang_0 7 rfl rfl)
theorem dX1_hang_10 : decode cX1_hang 10 = .ok (.invokevirtual 465, 3) := dk_182 1 209 (dk_at dksX1_hang_0 10 rfl rfl)
theorem dX1_hang_13 : decode cX1_hang 13 = .ok (.istore_n 3, 1) := dk_62 (dk_at dksX1_hang_0 13 rfl rfl)
theorem dX1_hang_14 : decode cX1_hang 14 = .ok (.aload_n 2, 1) := dk_44 (dk_at dksX1_hang_0 14 rfl rfl)
theorem dX1_hang_15 : decode cX1_hang 15 = .ok (.invokevirtual 371, 3) := dk_182 1 115 (dk_at dksX1_hang_0 15 rfl rfl)
theorem dX1_hang_18 : decode cX1_hang 18 = .ok (.ifCond .eq 12, 3) := dk_153 0 12 (dk_at dksX1_hang_0 18 rfl rfl)
theorem dX1_hang_21 : decode cX1_hang 21 = .ok (.iload_n 3, 1) := dk_29 (dk_at dksX1_hang_0 21 rfl rfl)
theorem dX1_hang_22 : decode cX1_hang 22 = .ok (.iconst (-1), 1) := dk_2 (dk_at dksX1_hang_0 22 rfl rfl)
theorem dX1_hang_23 : decode cX1_hang 23 = .ok (.if_icmp .eq 7, 3) := dk_159 0 7 (dk_at dksX1_hang_1 0 rfl rfl)
theorem dX1_hang_26 : decode cX1_hang 26 = .ok (.iconst 1, 1) := dk_4 (dk_at dksX1_hang_1 3 rfl rfl)
theorem dX1_hang_27 : decode cX1_hang 27 = .ok (.goto 4, 3) := dk_167 0 4 (dk_at dksX1_hang_1 4 rfl rfl)
theorem dX1_hang_30 : decode cX1_hang 30 = .ok (.iconst 0, 1) := dk_3 (dk_at dksX1_hang_1 7 rfl rfl)
theorem dX1_hang_31 : decode cX1_hang 31 = .ok (.invokestatic 144, 3) := dk_184 0 144 (dk_at dksX1_hang_1 8 rfl rfl)
theorem dX1_hang_34 : decode cX1_hang 34 = .ok (.aload_n 0, 1) := dk_42 (dk_at dksX1_hang_1 11 rfl rfl)
theorem dX1_hang_35 : decode cX1_hang 35 = .ok (.invokevirtual 458, 3) := dk_182 1 202 (dk_at dksX1_hang_1 12 rfl rfl)
theorem dX1_hang_38 : decode cX1_hang 38 = .ok (.iload_n 1, 1) := dk_27 (dk_at dksX1_hang_1 15 rfl rfl)
theorem dX1_hang_39 : decode cX1_hang 39 = .ok (.invokevirtual 28, 3) := dk_182 0 28 (dk_at dksX1_hang_1 16 rfl rfl)
theorem dX1_hang_42 : decode cX1_hang 42 = .ok (.new 13, 3) := dk_187 0 13 (dk_at dksX1_hang_1 19 rfl rfl)
theorem dX1_hang_45 : decode cX1_hang 45 = .ok (.dup, 1) := dk_89 (dk_at dksX1_hang_1 22 rfl rfl)
theorem dX1_hang_46 : decode cX1_hang 46 = .ok (.iload_n 3, 1) := dk_29 (dk_at dksX1_hang_1 23 rfl rfl)
theorem dX1_hang_47 : decode cX1_hang 47 = .ok (.invokespecial 468, 3) := dk_183 1 212 (dk_at dksX1_hang_2 0 rfl rfl)
theorem dX1_hang_50 : decode cX1_hang 50 = .ok (.putfield 287, 3) := dk_181 1 31 (dk_at dksX1_hang_2 3 rfl rfl)
theorem dX1_hang_53 : decode cX1_hang 53 = .ok (.iload_n 3, 1) := dk_29 (dk_at dksX1_hang_2 6 rfl rfl)
theorem dX1_hang_54 : decode cX1_hang 54 = .ok (.ireturn, 1) := dk_172 (dk_at dksX1_hang_2 7 rfl rfl)
abbrev cX1_hangAll : ByteArray := prog_1_method_75_code
def yX1_hangAll : MethodName := ⟨RX1, "hangAll", "()I"⟩
def dkwX1_hangAll_3 : List UInt8 := [89, 21, 5, 183, 1, 212, 181, 1, 31, 132, 3, 1, 132, 4, 1, 167, 255, 184, 29, 172]
abbrev dktX1_hangAll_3 : List UInt8 := dkwX1_hangAll_3 ++ []
def dkwX1_hangAll_2 : List UInt8 := [44, 21, 4, 182, 0, 28, 180, 1, 19, 154, 0, 6, 167, 0, 24, 44, 21, 4, 182, 0, 28, 187, 0, 13]
abbrev dktX1_hangAll_2 : List UInt8 := dkwX1_hangAll_2 ++ dktX1_hangAll_3
def dkwX1_hangAll_1 : List UInt8 := [44, 182, 1, 209, 54, 5, 21, 5, 2, 159, 0, 51, 44, 21, 4, 182, 0, 28, 182, 1, 115, 153, 0, 39]
abbrev dktX1_hangAll_1 : List UInt8 := dkwX1_hangAll_1 ++ dktX1_hangAll_2
def dkwX1_hangAll_0 : List UInt8 := [42, 182, 0, 111, 76, 42, 182, 1, 202, 77, 3, 62, 3, 54, 4, 21, 4, 44, 182, 0, 115, 162, 0, 69]
abbrev dktX1_hangAll_0 : List UInt8 := dkwX1_hangAll_0 ++ dktX1_hangAll_1
theorem dksX1_hangAll_0 : cX1_hangAll.data.toList.drop 0 = dktX1_hangAll_0 := by decide +kernel
theorem dksX1_hangAll_1 : cX1_hangAll.data.toList.drop 24 = dktX1_hangAll_1 := dk_seg dksX1_hangAll_0 24 rfl rfl
theorem dksX1_hangAll_2 : cX1_hangAll.data.toList.drop 48 = dktX1_hangAll_2 := dk_seg dksX1_hangAll_1 24 rfl rfl
theorem dksX1_hangAll_3 : cX1_hangAll.data.toList.drop 72 = dktX1_hangAll_3 := dk_seg dksX1_hangAll_2 24 rfl rfl
theorem dX1_hangAll_0 : decode cX1_hangAll 0 = .ok (.aload_n 0, 1) := dk_42 (dk_at dksX1_hangAll_0 0 rfl rfl)
theorem dX1_hangAll_1 : decode cX1_hangAll 1 = .ok (.invokevirtual 111, 3) := dk_182 0 111 (dk_at dksX1_hangAll_0 1 rfl rfl)
theorem dX1_hangAll_4 : decode cX1_hangAll 4 = .ok (.astore_n 1, 1) := dk_76 (dk_at dksX1_hangAll_0 4 rfl rfl)
theorem dX1_hangAll_5 : decode cX1_hangAll 5 = .ok (.aload_n 0, 1) := dk_42 (dk_at dksX1_hangAll_0 5 rfl rfl)
theorem dX1_hangAll_6 : decode cX1_hangAll 6 = .ok (.invokevirtual 458, 3) := dk_182 1 202 (dk_at dksX1_hangAll_0 6 rfl rfl)
theorem dX1_hangAll_9 : decode cX1_hangAll 9 = .ok (.astore_n 2, 1) := dk_77 (dk_at dksX1_hangAll_0 9 rfl rfl)
theorem dX1_hangAll_10 : decode cX1_hangAll 10 = .ok (.iconst 0, 1) := dk_3 (dk_at dksX1_hangAll_0 10 rfl rfl)
theorem dX1_hangAll_11 : decode cX1_hangAll 11 = .ok (.istore_n 3, 1) := dk_62 (dk_at dksX1_hangAll_0 11 rfl rfl)
theorem dX1_hangAll_12 : decode cX1_hangAll 12 = .ok (.iconst 0, 1) := dk_3 (dk_at dksX1_hangAll_0 12 rfl rfl)
theorem dX1_hangAll_13 : decode cX1_hangAll 13 = .ok (.istore 4, 2) := dk_54 4 (dk_at dksX1_hangAll_0 13 rfl rfl)
theorem dX1_hangAll_15 : decode cX1_hangAll 15 = .ok (.iload 4, 2) := dk_21 4 (dk_at dksX1_hangAll_0 15 rfl rfl)
theorem dX1_hangAll_17 : decode cX1_hangAll 17 = .ok (.aload_n 2, 1) := dk_44 (dk_at dksX1_hangAll_0 17 rfl rfl)
theorem dX1_hangAll_18 : decode cX1_hangAll 18 = .ok (.invokevirtual 115, 3) := dk_182 0 115 (dk_at dksX1_hangAll_0 18 rfl rfl)
theorem dX1_hangAll_21 : decode cX1_hangAll 21 = .ok (.if_icmp .ge 69, 3) := dk_162 0 69 (dk_at dksX1_hangAll_0 21 rfl rfl)
theorem dX1_hangAll_24 : decode cX1_hangAll 24 = .ok (.aload_n 2, 1) := dk_44 (dk_at dksX1_hangAll_1 0 rfl rfl)
theorem dX1_hangAll_25 : decode cX1_hangAll 25 = .ok (.invokevirtual 465, 3) := dk_182 1 209 (dk_at dksX1_hangAll_1 1 rfl rfl)
theorem dX1_hangAll_28 : decode cX1_hangAll 28 = .ok (.istore 5, 2) := dk_54 5 (dk_at dksX1_hangAll_1 4 rfl rfl)
theorem dX1_hangAll_30 : decode cX1_hangAll 30 = .ok (.iload 5, 2) := dk_21 5 (dk_at dksX1_hangAll_1 6 rfl rfl)
theorem dX1_hangAll_32 : decode cX1_hangAll 32 = .ok (.iconst (-1), 1) := dk_2 (dk_at dksX1_hangAll_1 8 rfl rfl)
theorem dX1_hangAll_33 : decode cX1_hangAll 33 = .ok (.if_icmp .eq 51, 3) := dk_159 0 51 (dk_at dksX1_hangAll_1 9 rfl rfl)
theorem dX1_hangAll_36 : decode cX1_hangAll 36 = .ok (.aload_n 2, 1) := dk_44 (dk_at dksX1_hangAll_1 12 rfl rfl)
theorem dX1_hangAll_37 : decode cX1_hangAll 37 = .ok (.iload 4, 2) := dk_21 4 (dk_at dksX1_hangAll_1 13 rfl rfl)
theorem dX1_hangAll_39 : decode cX1_hangAll 39 = .ok (.invokevirtual 28, 3) := dk_182 0 28 (dk_at dksX1_hangAll_1 15 rfl rfl)
theorem dX1_hangAll_42 : decode cX1_hangAll 42 = .ok (.invokevirtual 371, 3) := dk_182 1 115 (dk_at dksX1_hangAll_1 18 rfl rfl)
theorem dX1_hangAll_45 : decode cX1_hangAll 45 = .ok (.ifCond .eq 39, 3) := dk_153 0 39 (dk_at dksX1_hangAll_1 21 rfl rfl)
theorem dX1_hangAll_48 : decode cX1_hangAll 48 = .ok (.aload_n 2, 1) := dk_44 (dk_at dksX1_hangAll_2 0 rfl rfl)
theorem dX1_hangAll_49 : decode cX1_hangAll 49 = .ok (.iload 4, 2) := dk_21 4 (dk_at dksX1_hangAll_2 1 rfl rfl)
theorem dX1_hangAll_51 : decode cX1_hangAll 51 = .ok (.invokevirtual 28, 3) := dk_182 0 28 (dk_at dksX1_hangAll_2 3 rfl rfl)
theorem dX1_hangAll_54 : decode cX1_hangAll 54 = .ok (.getfield 275, 3) := dk_180 1 19 (dk_at dksX1_hangAll_2 6 rfl rfl)
theorem dX1_hangAll_57 : decode cX1_hangAll 57 = .ok (.ifCond .ne 6, 3) := dk_154 0 6 (dk_at dksX1_hangAll_2 9 rfl rfl)
theorem dX1_hangAll_60 : decode cX1_hangAll 60 = .ok (.goto 24, 3) := dk_167 0 24 (dk_at dksX1_hangAll_2 12 rfl rfl)
theorem dX1_hangAll_63 : decode cX1_hangAll 63 = .ok (.aload_n 2, 1) := dk_44 (dk_at dksX1_hangAll_2 15 rfl rfl)
theorem dX1_hangAll_64 : decode cX1_hangAll 64 = .ok (.iload 4, 2) := dk_21 4 (dk_at dksX1_hangAll_2 16 rfl rfl)
theorem dX1_hangAll_66 : decode cX1_hangAll 66 = .ok (.invokevirtual 28, 3) := dk_182 0 28 (dk_at dksX1_hangAll_2 18 rfl rfl)
theorem dX1_hangAll_69 : decode cX1_hangAll 69 = .ok (.new 13, 3) := dk_187 0 13 (dk_at dksX1_hangAll_2 21 rfl rfl)
theorem dX1_hangAll_72 : decode cX1_hangAll 72 = .ok (.dup, 1) := dk_89 (dk_at dksX1_hangAll_3 0 rfl rfl)
theorem dX1_hangAll_73 : decode cX1_hangAll 73 = .ok (.iload 5, 2) := dk_21 5 (dk_at dksX1_hangAll_3 1 rfl rfl)
theorem dX1_hangAll_75 : decode cX1_hangAll 75 = .ok (.invokespecial 468, 3) := dk_183 1 212 (dk_at dksX1_hangAll_3 3 rfl rfl)
theorem dX1_hangAll_78 : decode cX1_hangAll 78 = .ok (.putfield 287, 3) := dk_181 1 31 (dk_at dksX1_hangAll_3 6 rfl rfl)
theorem dX1_hangAll_81 : decode cX1_hangAll 81 = .ok (.iinc 3 1, 3) := dk_132 3 1 (dk_at dksX1_hangAll_3 9 rfl rfl)
theorem dX1_hangAll_84 : decode cX1_hangAll 84 = .ok (.iinc 4 1, 3) := dk_132 4 1 (dk_at dksX1_hangAll_3 12 rfl rfl)
theorem dX1_hangAll_87 : decode cX1_hangAll 87 = .ok (.goto (-72), 3) := dk_167 255 184 (dk_at dksX1_hangAll_3 15 rfl rfl)
theorem dX1_hangAll_90 : decode cX1_hangAll 90 = .ok (.iload_n 3, 1) := dk_29 (dk_at dksX1_hangAll_3 18 rfl rfl)
theorem dX1_hangAll_91 : decode cX1_hangAll 91 = .ok (.ireturn, 1) := dk_172 (dk_at dksX1_hangAll_3 19 rfl rfl)
abbrev cX1_takeDown : ByteArray := prog_1_method_76_code
def yX1_takeDown : MethodName := ⟨RX1, "takeDown", "(I)I"⟩
def dkwX1_takeDown_2 : List UInt8 := [180, 1, 19, 172]
abbrev dktX1_takeDown_2 : List UInt8 := dkwX1_takeDown_2 ++ []
def dkwX1_takeDown_1 : List UInt8 := [184, 0, 144, 42, 182, 1, 202, 27, 182, 0, 28, 187, 0, 20, 89, 183, 1, 214, 181, 1, 31, 44]
abbrev dktX1_takeDown_1 : List UInt8 := dkwX1_takeDown_1 ++ dktX1_takeDown_2
def dkwX1_takeDown_0 : List UInt8 := [42, 27, 182, 0, 139, 77, 44, 180, 1, 31, 184, 1, 39, 2, 159, 0, 7, 4, 167, 0, 4, 3]
abbrev dktX1_takeDown_0 : List UInt8 := dkwX1_takeDown_0 ++ dktX1_takeDown_1
theorem dksX1_takeDown_0 : cX1_takeDown.data.toList.drop 0 = dktX1_takeDown_0 := by decide +kernel
theorem dksX1_takeDown_1 : cX1_takeDown.data.toList.drop 22 = dktX1_takeDown_1 := dk_seg dksX1_takeDown_0 22 rfl rfl
theorem dksX1_takeDown_2 : cX1_takeDown.data.toList.drop 44 = dktX1_takeDown_2 := dk_seg dksX1_takeDown_1 22 rfl rfl
theorem dX1_takeDown_0 : decode cX1_takeDown 0 = .ok (.aload_n 0, 1) := dk_42 (dk_at dksX1_takeDown_0 0 rfl rfl)
theorem dX1_takeDown_1 : decode cX1_takeDown 1 = .ok (.iload_n 1, 1) := dk_27 (dk_at dksX1_takeDown_0 1 rfl rfl)
theorem dX1_takeDown_2 : decode cX1_takeDown 2 = .ok (.invokevirtual 139, 3) := dk_182 0 139 (dk_at dksX1_takeDown_0 2 rfl rfl)
theorem dX1_takeDown_5 : decode cX1_takeDown 5 = .ok (.astore_n 2, 1) := dk_77 (dk_at dksX1_takeDown_0 5 rfl rfl)
theorem dX1_takeDown_6 : decode cX1_takeDown 6 = .ok (.aload_n 2, 1) := dk_44 (dk_at dksX1_takeDown_0 6 rfl rfl)
theorem dX1_takeDown_7 : decode cX1_takeDown 7 = .ok (.getfield 287, 3) := dk_180 1 31 (dk_at dksX1_takeDown_0 7 rfl rfl)
theorem dX1_takeDown_10 : decode cX1_takeDown 10 = .ok (.invokestatic 295, 3) := dk_184 1 39 (dk_at dksX1_takeDown_0 10 rfl rfl)
theorem dX1_takeDown_13 : decode cX1_takeDown 13 = .ok (.iconst (-1), 1) := dk_2 (dk_at dksX1_takeDown_0 13 rfl rfl)
theorem dX1_takeDown_14 : decode cX1_takeDown 14 = .ok (.if_icmp .eq 7, 3) := dk_159 0 7 (dk_at dksX1_takeDown_0 14 rfl rfl)
theorem dX1_takeDown_17 : decode cX1_takeDown 17 = .ok (.iconst 1, 1) := dk_4 (dk_at dksX1_takeDown_0 17 rfl rfl)
theorem dX1_takeDown_18 : decode cX1_takeDown 18 = .ok (.goto 4, 3) := dk_167 0 4 (dk_at dksX1_takeDown_0 18 rfl rfl)
theorem dX1_takeDown_21 : decode cX1_takeDown 21 = .ok (.iconst 0, 1) := dk_3 (dk_at dksX1_takeDown_0 21 rfl rfl)
theorem dX1_takeDown_22 : decode cX1_takeDown 22 = .ok (.invokestatic 144, 3) := dk_184 0 144 (dk_at dksX1_takeDown_1 0 rfl rfl)
theorem dX1_takeDown_25 : decode cX1_takeDown 25 = .ok (.aload_n 0, 1) := dk_42 (dk_at dksX1_takeDown_1 3 rfl rfl)
theorem dX1_takeDown_26 : decode cX1_takeDown 26 = .ok (.invokevirtual 458, 3) := dk_182 1 202 (dk_at dksX1_takeDown_1 4 rfl rfl)
theorem dX1_takeDown_29 : decode cX1_takeDown 29 = .ok (.iload_n 1, 1) := dk_27 (dk_at dksX1_takeDown_1 7 rfl rfl)
theorem dX1_takeDown_30 : decode cX1_takeDown 30 = .ok (.invokevirtual 28, 3) := dk_182 0 28 (dk_at dksX1_takeDown_1 8 rfl rfl)
theorem dX1_takeDown_33 : decode cX1_takeDown 33 = .ok (.new 20, 3) := dk_187 0 20 (dk_at dksX1_takeDown_1 11 rfl rfl)
theorem dX1_takeDown_36 : decode cX1_takeDown 36 = .ok (.dup, 1) := dk_89 (dk_at dksX1_takeDown_1 14 rfl rfl)
theorem dX1_takeDown_37 : decode cX1_takeDown 37 = .ok (.invokespecial 470, 3) := dk_183 1 214 (dk_at dksX1_takeDown_1 15 rfl rfl)
theorem dX1_takeDown_40 : decode cX1_takeDown 40 = .ok (.putfield 287, 3) := dk_181 1 31 (dk_at dksX1_takeDown_1 18 rfl rfl)
theorem dX1_takeDown_43 : decode cX1_takeDown 43 = .ok (.aload_n 2, 1) := dk_44 (dk_at dksX1_takeDown_1 21 rfl rfl)
theorem dX1_takeDown_44 : decode cX1_takeDown 44 = .ok (.getfield 275, 3) := dk_180 1 19 (dk_at dksX1_takeDown_2 0 rfl rfl)
theorem dX1_takeDown_47 : decode cX1_takeDown 47 = .ok (.ireturn, 1) := dk_172 (dk_at dksX1_takeDown_2 3 rfl rfl)
abbrev cX1_clearTub : ByteArray := prog_1_method_77_code
def yX1_clearTub : MethodName := ⟨RX1, "clearTub", "(I)I"⟩
def dkwX1_clearTub_3 : List UInt8 := [28, 172]
abbrev dktX1_clearTub_3 : List UInt8 := dkwX1_clearTub_3 ++ []
def dkwX1_clearTub_2 : List UInt8 := [25, 5, 27, 182, 1, 215, 153, 0, 15, 25, 5, 187, 0, 20, 89, 183, 1, 214, 181, 1, 31, 167, 255, 213]
abbrev dktX1_clearTub_2 : List UInt8 := dkwX1_clearTub_2 ++ dktX1_clearTub_3
def dkwX1_clearTub_1 : List UInt8 := [58, 4, 25, 4, 185, 1, 168, 1, 0, 153, 0, 39, 25, 4, 185, 1, 173, 1, 0, 192, 1, 9, 58, 5]
abbrev dktX1_clearTub_1 : List UInt8 := dkwX1_clearTub_1 ++ dktX1_clearTub_2
def dkwX1_clearTub_0 : List UInt8 := [42, 27, 182, 0, 147, 27, 182, 0, 44, 61, 42, 182, 1, 202, 78, 45, 180, 1, 161, 185, 1, 164, 1, 0]
abbrev dktX1_clearTub_0 : List UInt8 := dkwX1_clearTub_0 ++ dktX1_clearTub_1
theorem dksX1_clearTub_0 : cX1_clearTub.data.toList.drop 0 = dktX1_clearTub_0 := by decide +kernel
theorem dksX1_clearTub_1 : cX1_clearTub.data.toList.drop 24 = dktX1_clearTub_1 := dk_seg dksX1_clearTub_0 24 rfl rfl
theorem dksX1_clearTub_2 : cX1_clearTub.data.toList.drop 48 = dktX1_clearTub_2 := dk_seg dksX1_clearTub_1 24 rfl rfl
theorem dksX1_clearTub_3 : cX1_clearTub.data.toList.drop 72 = dktX1_clearTub_3 := dk_seg dksX1_clearTub_2 24 rfl rfl
theorem dX1_clearTub_0 : decode cX1_clearTub 0 = .ok (.aload_n 0, 1) := dk_42 (dk_at dksX1_clearTub_0 0 rfl rfl)
theorem dX1_clearTub_1 : decode cX1_clearTub 1 = .ok (.iload_n 1, 1) := dk_27 (dk_at dksX1_clearTub_0 1 rfl rfl)
theorem dX1_clearTub_2 : decode cX1_clearTub 2 = .ok (.invokevirtual 147, 3) := dk_182 0 147 (dk_at dksX1_clearTub_0 2 rfl rfl)
theorem dX1_clearTub_5 : decode cX1_clearTub 5 = .ok (.iload_n 1, 1) := dk_27 (dk_at dksX1_clearTub_0 5 rfl rfl)
theorem dX1_clearTub_6 : decode cX1_clearTub 6 = .ok (.invokevirtual 44, 3) := dk_182 0 44 (dk_at dksX1_clearTub_0 6 rfl rfl)
theorem dX1_clearTub_9 : decode cX1_clearTub 9 = .ok (.istore_n 2, 1) := dk_61 (dk_at dksX1_clearTub_0 9 rfl rfl)
theorem dX1_clearTub_10 : decode cX1_clearTub 10 = .ok (.aload_n 0, 1) := dk_42 (dk_at dksX1_clearTub_0 10 rfl rfl)
theorem dX1_clearTub_11 : decode cX1_clearTub 11 = .ok (.invokevirtual 458, 3) := dk_182 1 202 (dk_at dksX1_clearTub_0 11 rfl rfl)
theorem dX1_clearTub_14 : decode cX1_clearTub 14 = .ok (.astore_n 3, 1) := dk_78 (dk_at dksX1_clearTub_0 14 rfl rfl)
theorem dX1_clearTub_15 : decode cX1_clearTub 15 = .ok (.aload_n 3, 1) := dk_45 (dk_at dksX1_clearTub_0 15 rfl rfl)
theorem dX1_clearTub_16 : decode cX1_clearTub 16 = .ok (.getfield 417, 3) := dk_180 1 161 (dk_at dksX1_clearTub_0 16 rfl rfl)
theorem dX1_clearTub_19 : decode cX1_clearTub 19 = .ok (.invokeinterface 420 1, 5) := by decide +kernel
theorem dX1_clearTub_24 : decode cX1_clearTub 24 = .ok (.astore 4, 2) := dk_58 4 (dk_at dksX1_clearTub_1 0 rfl rfl)
theorem dX1_clearTub_26 : decode cX1_clearTub 26 = .ok (.aload 4, 2) := dk_25 4 (dk_at dksX1_clearTub_1 2 rfl rfl)
theorem dX1_clearTub_28 : decode cX1_clearTub 28 = .ok (.invokeinterface 424 1, 5) := by decide +kernel
theorem dX1_clearTub_33 : decode cX1_clearTub 33 = .ok (.ifCond .eq 39, 3) := dk_153 0 39 (dk_at dksX1_clearTub_1 9 rfl rfl)
theorem dX1_clearTub_36 : decode cX1_clearTub 36 = .ok (.aload 4, 2) := dk_25 4 (dk_at dksX1_clearTub_1 12 rfl rfl)
theorem dX1_clearTub_38 : decode cX1_clearTub 38 = .ok (.invokeinterface 429 1, 5) := by decide +kernel
theorem dX1_clearTub_43 : decode cX1_clearTub 43 = .ok (.checkcast 265, 3) := dk_192 1 9 (dk_at dksX1_clearTub_1 19 rfl rfl)
theorem dX1_clearTub_46 : decode cX1_clearTub 46 = .ok (.astore 5, 2) := dk_58 5 (dk_at dksX1_clearTub_1 22 rfl rfl)
theorem dX1_clearTub_48 : decode cX1_clearTub 48 = .ok (.aload 5, 2) := dk_25 5 (dk_at dksX1_clearTub_2 0 rfl rfl)
theorem dX1_clearTub_50 : decode cX1_clearTub 50 = .ok (.iload_n 1, 1) := dk_27 (dk_at dksX1_clearTub_2 2 rfl rfl)
theorem dX1_clearTub_51 : decode cX1_clearTub 51 = .ok (.invokevirtual 471, 3) := dk_182 1 215 (dk_at dksX1_clearTub_2 3 rfl rfl)
theorem dX1_clearTub_54 : decode cX1_clearTub 54 = .ok (.ifCond .eq 15, 3) := dk_153 0 15 (dk_at dksX1_clearTub_2 6 rfl rfl)
theorem dX1_clearTub_57 : decode cX1_clearTub 57 = .ok (.aload 5, 2) := dk_25 5 (dk_at dksX1_clearTub_2 9 rfl rfl)
theorem dX1_clearTub_59 : decode cX1_clearTub 59 = .ok (.new 20, 3) := dk_187 0 20 (dk_at dksX1_clearTub_2 11 rfl rfl)
theorem dX1_clearTub_62 : decode cX1_clearTub 62 = .ok (.dup, 1) := dk_89 (dk_at dksX1_clearTub_2 14 rfl rfl)
theorem dX1_clearTub_63 : decode cX1_clearTub 63 = .ok (.invokespecial 470, 3) := dk_183 1 214 (dk_at dksX1_clearTub_2 15 rfl rfl)
theorem dX1_clearTub_66 : decode cX1_clearTub 66 = .ok (.putfield 287, 3) := dk_181 1 31 (dk_at dksX1_clearTub_2 18 rfl rfl)
theorem dX1_clearTub_69 : decode cX1_clearTub 69 = .ok (.goto (-43), 3) := dk_167 255 213 (dk_at dksX1_clearTub_2 21 rfl rfl)
theorem dX1_clearTub_72 : decode cX1_clearTub 72 = .ok (.iload_n 2, 1) := dk_28 (dk_at dksX1_clearTub_3 0 rfl rfl)
theorem dX1_clearTub_73 : decode cX1_clearTub 73 = .ok (.ireturn, 1) := dk_172 (dk_at dksX1_clearTub_3 1 rfl rfl)
abbrev cX1_iron : ByteArray := prog_1_method_78_code
def yX1_iron : MethodName := ⟨RX1, "iron", "(II)I"⟩
def dkwX1_iron_1 : List UInt8 := [182, 1, 202, 78, 45, 45, 27, 182, 0, 28, 28, 182, 1, 158, 172]
abbrev dktX1_iron_1 : List UInt8 := dkwX1_iron_1 ++ []
def dkwX1_iron_0 : List UInt8 := [42, 27, 28, 182, 1, 87, 28, 184, 1, 90, 154, 0, 7, 4, 167, 0, 4, 3, 184, 0, 144, 42]
abbrev dktX1_iron_0 : List UInt8 := dkwX1_iron_0 ++ dktX1_iron_1
theorem dksX1_iron_0 : cX1_iron.data.toList.drop 0 = dktX1_iron_0 := by decide +kernel
theorem dksX1_iron_1 : cX1_iron.data.toList.drop 22 = dktX1_iron_1 := dk_seg dksX1_iron_0 22 rfl rfl
theorem dX1_iron_0 : decode cX1_iron 0 = .ok (.aload_n 0, 1) := dk_42 (dk_at dksX1_iron_0 0 rfl rfl)
theorem dX1_iron_1 : decode cX1_iron 1 = .ok (.iload_n 1, 1) := dk_27 (dk_at dksX1_iron_0 1 rfl rfl)
theorem dX1_iron_2 : decode cX1_iron 2 = .ok (.iload_n 2, 1) := dk_28 (dk_at dksX1_iron_0 2 rfl rfl)
theorem dX1_iron_3 : decode cX1_iron 3 = .ok (.invokevirtual 343, 3) := dk_182 1 87 (dk_at dksX1_iron_0 3 rfl rfl)
theorem dX1_iron_6 : decode cX1_iron 6 = .ok (.iload_n 2, 1) := dk_28 (dk_at dksX1_iron_0 6 rfl rfl)
theorem dX1_iron_7 : decode cX1_iron 7 = .ok (.invokestatic 346, 3) := dk_184 1 90 (dk_at dksX1_iron_0 7 rfl rfl)
theorem dX1_iron_10 : decode cX1_iron 10 = .ok (.ifCond .ne 7, 3) := dk_154 0 7 (dk_at dksX1_iron_0 10 rfl rfl)
theorem dX1_iron_13 : decode cX1_iron 13 = .ok (.iconst 1, 1) := dk_4 (dk_at dksX1_iron_0 13 rfl rfl)
theorem dX1_iron_14 : decode cX1_iron 14 = .ok (.goto 4, 3) := dk_167 0 4 (dk_at dksX1_iron_0 14 rfl rfl)
theorem dX1_iron_17 : decode cX1_iron 17 = .ok (.iconst 0, 1) := dk_3 (dk_at dksX1_iron_0 17 rfl rfl)
theorem dX1_iron_18 : decode cX1_iron 18 = .ok (.invokestatic 144, 3) := dk_184 0 144 (dk_at dksX1_iron_0 18 rfl rfl)
theorem dX1_iron_21 : decode cX1_iron 21 = .ok (.aload_n 0, 1) := dk_42 (dk_at dksX1_iron_0 21 rfl rfl)
theorem dX1_iron_22 : decode cX1_iron 22 = .ok (.invokevirtual 458, 3) := dk_182 1 202 (dk_at dksX1_iron_1 0 rfl rfl)
theorem dX1_iron_25 : decode cX1_iron 25 = .ok (.astore_n 3, 1) := dk_78 (dk_at dksX1_iron_1 3 rfl rfl)
theorem dX1_iron_26 : decode cX1_iron 26 = .ok (.aload_n 3, 1) := dk_45 (dk_at dksX1_iron_1 4 rfl rfl)
theorem dX1_iron_27 : decode cX1_iron 27 = .ok (.aload_n 3, 1) := dk_45 (dk_at dksX1_iron_1 5 rfl rfl)
theorem dX1_iron_28 : decode cX1_iron 28 = .ok (.iload_n 1, 1) := dk_27 (dk_at dksX1_iron_1 6 rfl rfl)
theorem dX1_iron_29 : decode cX1_iron 29 = .ok (.invokevirtual 28, 3) := dk_182 0 28 (dk_at dksX1_iron_1 7 rfl rfl)
theorem dX1_iron_32 : decode cX1_iron 32 = .ok (.iload_n 2, 1) := dk_28 (dk_at dksX1_iron_1 10 rfl rfl)
theorem dX1_iron_33 : decode cX1_iron 33 = .ok (.invokevirtual 414, 3) := dk_182 1 158 (dk_at dksX1_iron_1 11 rfl rfl)
theorem dX1_iron_36 : decode cX1_iron 36 = .ok (.ireturn, 1) := dk_172 (dk_at dksX1_iron_1 14 rfl rfl)
abbrev cX1_bleach : ByteArray := prog_1_method_79_code
def yX1_bleach : MethodName := ⟨RX1, "bleach", "(I)I"⟩
def dkwX1_bleach_2 : List UInt8 := [180, 1, 25, 184, 1, 219, 172]
abbrev dktX1_bleach_2 : List UInt8 := dkwX1_bleach_2 ++ []
def dkwX1_bleach_1 : List UInt8 := [182, 1, 202, 27, 182, 0, 28, 78, 45, 3, 181, 1, 25, 45, 89, 180, 1, 28, 4, 96, 181, 1, 28, 44]
abbrev dktX1_bleach_1 : List UInt8 := dkwX1_bleach_1 ++ dktX1_bleach_2
def dkwX1_bleach_0 : List UInt8 := [42, 27, 182, 0, 139, 77, 44, 184, 1, 94, 154, 0, 7, 4, 167, 0, 4, 3, 184, 0, 144, 42]
abbrev dktX1_bleach_0 : List UInt8 := dkwX1_bleach_0 ++ dktX1_bleach_1
theorem dksX1_bleach_0 : cX1_bleach.data.toList.drop 0 = dktX1_bleach_0 := by decide +kernel
theorem dksX1_bleach_1 : cX1_bleach.data.toList.drop 22 = dktX1_bleach_1 := dk_seg dksX1_bleach_0 22 rfl rfl
theorem dksX1_bleach_2 : cX1_bleach.data.toList.drop 46 = dktX1_bleach_2 := dk_seg dksX1_bleach_1 24 rfl rfl
theorem dX1_bleach_0 : decode cX1_bleach 0 = .ok (.aload_n 0, 1) := dk_42 (dk_at dksX1_bleach_0 0 rfl rfl)
theorem dX1_bleach_1 : decode cX1_bleach 1 = .ok (.iload_n 1, 1) := dk_27 (dk_at dksX1_bleach_0 1 rfl rfl)
theorem dX1_bleach_2 : decode cX1_bleach 2 = .ok (.invokevirtual 139, 3) := dk_182 0 139 (dk_at dksX1_bleach_0 2 rfl rfl)
theorem dX1_bleach_5 : decode cX1_bleach 5 = .ok (.astore_n 2, 1) := dk_77 (dk_at dksX1_bleach_0 5 rfl rfl)
theorem dX1_bleach_6 : decode cX1_bleach 6 = .ok (.aload_n 2, 1) := dk_44 (dk_at dksX1_bleach_0 6 rfl rfl)
theorem dX1_bleach_7 : decode cX1_bleach 7 = .ok (.invokestatic 350, 3) := dk_184 1 94 (dk_at dksX1_bleach_0 7 rfl rfl)
theorem dX1_bleach_10 : decode cX1_bleach 10 = .ok (.ifCond .ne 7, 3) := dk_154 0 7 (dk_at dksX1_bleach_0 10 rfl rfl)
theorem dX1_bleach_13 : decode cX1_bleach 13 = .ok (.iconst 1, 1) := dk_4 (dk_at dksX1_bleach_0 13 rfl rfl)
theorem dX1_bleach_14 : decode cX1_bleach 14 = .ok (.goto 4, 3) := dk_167 0 4 (dk_at dksX1_bleach_0 14 rfl rfl)
theorem dX1_bleach_17 : decode cX1_bleach 17 = .ok (.iconst 0, 1) := dk_3 (dk_at dksX1_bleach_0 17 rfl rfl)
theorem dX1_bleach_18 : decode cX1_bleach 18 = .ok (.invokestatic 144, 3) := dk_184 0 144 (dk_at dksX1_bleach_0 18 rfl rfl)
theorem dX1_bleach_21 : decode cX1_bleach 21 = .ok (.aload_n 0, 1) := dk_42 (dk_at dksX1_bleach_0 21 rfl rfl)
theorem dX1_bleach_22 : decode cX1_bleach 22 = .ok (.invokevirtual 458, 3) := dk_182 1 202 (dk_at dksX1_bleach_1 0 rfl rfl)
theorem dX1_bleach_25 : decode cX1_bleach 25 = .ok (.iload_n 1, 1) := dk_27 (dk_at dksX1_bleach_1 3 rfl rfl)
theorem dX1_bleach_26 : decode cX1_bleach 26 = .ok (.invokevirtual 28, 3) := dk_182 0 28 (dk_at dksX1_bleach_1 4 rfl rfl)
theorem dX1_bleach_29 : decode cX1_bleach 29 = .ok (.astore_n 3, 1) := dk_78 (dk_at dksX1_bleach_1 7 rfl rfl)
theorem dX1_bleach_30 : decode cX1_bleach 30 = .ok (.aload_n 3, 1) := dk_45 (dk_at dksX1_bleach_1 8 rfl rfl)
theorem dX1_bleach_31 : decode cX1_bleach 31 = .ok (.iconst 0, 1) := dk_3 (dk_at dksX1_bleach_1 9 rfl rfl)
theorem dX1_bleach_32 : decode cX1_bleach 32 = .ok (.putfield 281, 3) := dk_181 1 25 (dk_at dksX1_bleach_1 10 rfl rfl)
theorem dX1_bleach_35 : decode cX1_bleach 35 = .ok (.aload_n 3, 1) := dk_45 (dk_at dksX1_bleach_1 13 rfl rfl)
theorem dX1_bleach_36 : decode cX1_bleach 36 = .ok (.dup, 1) := dk_89 (dk_at dksX1_bleach_1 14 rfl rfl)
theorem dX1_bleach_37 : decode cX1_bleach 37 = .ok (.getfield 284, 3) := dk_180 1 28 (dk_at dksX1_bleach_1 15 rfl rfl)
theorem dX1_bleach_40 : decode cX1_bleach 40 = .ok (.iconst 1, 1) := dk_4 (dk_at dksX1_bleach_1 18 rfl rfl)
theorem dX1_bleach_41 : decode cX1_bleach 41 = .ok (.iadd, 1) := dk_96 (dk_at dksX1_bleach_1 19 rfl rfl)
theorem dX1_bleach_42 : decode cX1_bleach 42 = .ok (.putfield 284, 3) := dk_181 1 28 (dk_at dksX1_bleach_1 20 rfl rfl)
theorem dX1_bleach_45 : decode cX1_bleach 45 = .ok (.aload_n 2, 1) := dk_44 (dk_at dksX1_bleach_1 23 rfl rfl)
theorem dX1_bleach_46 : decode cX1_bleach 46 = .ok (.getfield 281, 3) := dk_180 1 25 (dk_at dksX1_bleach_2 0 rfl rfl)
theorem dX1_bleach_49 : decode cX1_bleach 49 = .ok (.invokestatic 475, 3) := dk_184 1 219 (dk_at dksX1_bleach_2 3 rfl rfl)
theorem dX1_bleach_52 : decode cX1_bleach 52 = .ok (.ireturn, 1) := dk_172 (dk_at dksX1_bleach_2 6 rfl rfl)
abbrev cX1_size : ByteArray := prog_1_method_4_code
def yX1_size : MethodName := ⟨RX1, "size", "(I)I"⟩
theorem dX1_size_0 : decode cX1_size 0 = .ok (.iload_n 0, 1) := by decide +kernel
theorem dX1_size_1 : decode cX1_size 1 = .ok (.invokestatic 1, 3) := by decide +kernel
theorem dX1_size_4 : decode cX1_size 4 = .ok (.ireturn, 1) := by decide +kernel
abbrev cX1_handOver : ByteArray := prog_1_method_80_code
def yX1_handOver : MethodName := ⟨RX1, "handOver", "(I)I"⟩
def dkwX1_handOver_2 : List UInt8 := [182, 1, 202, 27, 182, 1, 221, 172]
abbrev dktX1_handOver_2 : List UInt8 := dkwX1_handOver_2 ++ []
def dkwX1_handOver_1 : List UInt8 := [158, 0, 19, 42, 180, 0, 103, 27, 182, 1, 69, 2, 160, 0, 7, 4, 167, 0, 4, 3, 184, 0, 144, 42]
abbrev dktX1_handOver_1 : List UInt8 := dkwX1_handOver_1 ++ dktX1_handOver_2
def dkwX1_handOver_0 : List UInt8 := [42, 27, 182, 0, 234, 77, 44, 180, 0, 254, 2, 160, 0, 30, 42, 180, 0, 103, 27, 182, 0, 248]
abbrev dktX1_handOver_0 : List UInt8 := dkwX1_handOver_0 ++ dktX1_handOver_1
theorem dksX1_handOver_0 : cX1_handOver.data.toList.drop 0 = dktX1_handOver_0 := by decide +kernel
theorem dksX1_handOver_1 : cX1_handOver.data.toList.drop 22 = dktX1_handOver_1 := dk_seg dksX1_handOver_0 22 rfl rfl
theorem dksX1_handOver_2 : cX1_handOver.data.toList.drop 46 = dktX1_handOver_2 := dk_seg dksX1_handOver_1 24 rfl rfl
theorem dX1_handOver_0 : decode cX1_handOver 0 = .ok (.aload_n 0, 1) := dk_42 (dk_at dksX1_handOver_0 0 rfl rfl)
theorem dX1_handOver_1 : decode cX1_handOver 1 = .ok (.iload_n 1, 1) := dk_27 (dk_at dksX1_handOver_0 1 rfl rfl)
theorem dX1_handOver_2 : decode cX1_handOver 2 = .ok (.invokevirtual 234, 3) := dk_182 0 234 (dk_at dksX1_handOver_0 2 rfl rfl)
theorem dX1_handOver_5 : decode cX1_handOver 5 = .ok (.astore_n 2, 1) := dk_77 (dk_at dksX1_handOver_0 5 rfl rfl)
theorem dX1_handOver_6 : decode cX1_handOver 6 = .ok (.aload_n 2, 1) := dk_44 (dk_at dksX1_handOver_0 6 rfl rfl)
theorem dX1_handOver_7 : decode cX1_handOver 7 = .ok (.getfield 254, 3) := dk_180 0 254 (dk_at dksX1_handOver_0 7 rfl rfl)
theorem dX1_handOver_10 : decode cX1_handOver 10 = .ok (.iconst (-1), 1) := dk_2 (dk_at dksX1_handOver_0 10 rfl rfl)
theorem dX1_handOver_11 : decode cX1_handOver 11 = .ok (.if_icmp .ne 30, 3) := dk_160 0 30 (dk_at dksX1_handOver_0 11 rfl rfl)
theorem dX1_handOver_14 : decode cX1_handOver 14 = .ok (.aload_n 0, 1) := dk_42 (dk_at dksX1_handOver_0 14 rfl rfl)
theorem dX1_handOver_15 : decode cX1_handOver 15 = .ok (.getfield 103, 3) := dk_180 0 103 (dk_at dksX1_handOver_0 15 rfl rfl)
theorem dX1_handOver_18 : decode cX1_handOver 18 = .ok (.iload_n 1, 1) := dk_27 (dk_at dksX1_handOver_0 18 rfl rfl)
theorem dX1_handOver_19 : decode cX1_handOver 19 = .ok (.invokevirtual 248, 3) := dk_182 0 248 (dk_at dksX1_handOver_0 19 rfl rfl)
theorem dX1_handOver_22 : decode cX1_handOver 22 = .ok (.ifCond .le 19, 3) := dk_158 0 19 (dk_at dksX1_handOver_1 0 rfl rfl)
theorem dX1_handOver_25 : decode cX1_handOver 25 = .ok (.aload_n 0, 1) := dk_42 (dk_at dksX1_handOver_1 3 rfl rfl)
theorem dX1_handOver_26 : decode cX1_handOver 26 = .ok (.getfield 103, 3) := dk_180 0 103 (dk_at dksX1_handOver_1 4 rfl rfl)
theorem dX1_handOver_29 : decode cX1_handOver 29 = .ok (.iload_n 1, 1) := dk_27 (dk_at dksX1_handOver_1 7 rfl rfl)
theorem dX1_handOver_30 : decode cX1_handOver 30 = .ok (.invokevirtual 325, 3) := dk_182 1 69 (dk_at dksX1_handOver_1 8 rfl rfl)
theorem dX1_handOver_33 : decode cX1_handOver 33 = .ok (.iconst (-1), 1) := dk_2 (dk_at dksX1_handOver_1 11 rfl rfl)
theorem dX1_handOver_34 : decode cX1_handOver 34 = .ok (.if_icmp .ne 7, 3) := dk_160 0 7 (dk_at dksX1_handOver_1 12 rfl rfl)
theorem dX1_handOver_37 : decode cX1_handOver 37 = .ok (.iconst 1, 1) := dk_4 (dk_at dksX1_handOver_1 15 rfl rfl)
theorem dX1_handOver_38 : decode cX1_handOver 38 = .ok (.goto 4, 3) := dk_167 0 4 (dk_at dksX1_handOver_1 16 rfl rfl)
theorem dX1_handOver_41 : decode cX1_handOver 41 = .ok (.iconst 0, 1) := dk_3 (dk_at dksX1_handOver_1 19 rfl rfl)
theorem dX1_handOver_42 : decode cX1_handOver 42 = .ok (.invokestatic 144, 3) := dk_184 0 144 (dk_at dksX1_handOver_1 20 rfl rfl)
theorem dX1_handOver_45 : decode cX1_handOver 45 = .ok (.aload_n 0, 1) := dk_42 (dk_at dksX1_handOver_1 23 rfl rfl)
theorem dX1_handOver_46 : decode cX1_handOver 46 = .ok (.invokevirtual 458, 3) := dk_182 1 202 (dk_at dksX1_handOver_2 0 rfl rfl)
theorem dX1_handOver_49 : decode cX1_handOver 49 = .ok (.iload_n 1, 1) := dk_27 (dk_at dksX1_handOver_2 3 rfl rfl)
theorem dX1_handOver_50 : decode cX1_handOver 50 = .ok (.invokevirtual 477, 3) := dk_182 1 221 (dk_at dksX1_handOver_2 4 rfl rfl)
theorem dX1_handOver_53 : decode cX1_handOver 53 = .ok (.ireturn, 1) := dk_172 (dk_at dksX1_handOver_2 7 rfl rfl)
abbrev cX1_pass : ByteArray := prog_1_method_81_code
def yX1_pass : MethodName := ⟨RX1, "pass", "(I)I"⟩
def dkwX1_pass_1 : List UInt8 := [182, 1, 149, 172]
abbrev dktX1_pass_1 : List UInt8 := dkwX1_pass_1 ++ []
def dkwX1_pass_0 : List UInt8 := [42, 182, 0, 111, 77, 27, 133, 10, 20, 1, 224, 184, 0, 93, 184, 0, 144, 42, 182, 1, 202, 27]
abbrev dktX1_pass_0 : List UInt8 := dkwX1_pass_0 ++ dktX1_pass_1
theorem dksX1_pass_0 : cX1_pass.data.toList.drop 0 = dktX1_pass_0 := by decide +kernel
theorem dksX1_pass_1 : cX1_pass.data.toList.drop 22 = dktX1_pass_1 := dk_seg dksX1_pass_0 22 rfl rfl
theorem dX1_pass_0 : decode cX1_pass 0 = .ok (.aload_n 0, 1) := dk_42 (dk_at dksX1_pass_0 0 rfl rfl)
theorem dX1_pass_1 : decode cX1_pass 1 = .ok (.invokevirtual 111, 3) := dk_182 0 111 (dk_at dksX1_pass_0 1 rfl rfl)
theorem dX1_pass_4 : decode cX1_pass 4 = .ok (.astore_n 2, 1) := dk_77 (dk_at dksX1_pass_0 4 rfl rfl)
theorem dX1_pass_5 : decode cX1_pass 5 = .ok (.iload_n 1, 1) := dk_27 (dk_at dksX1_pass_0 5 rfl rfl)
theorem dX1_pass_6 : decode cX1_pass 6 = .ok (.i2l, 1) := dk_133 (dk_at dksX1_pass_0 6 rfl rfl)
theorem dX1_pass_7 : decode cX1_pass 7 = .ok (.lconst 1, 1) := dk_10 (dk_at dksX1_pass_0 7 rfl rfl)
theorem dX1_pass_8 : decode cX1_pass 8 = .ok (.ldc2_w 480, 3) := dk_20 1 224 (dk_at dksX1_pass_0 8 rfl rfl)
theorem dX1_pass_11 : decode cX1_pass 11 = .ok (.invokestatic 93, 3) := dk_184 0 93 (dk_at dksX1_pass_0 11 rfl rfl)
theorem dX1_pass_14 : decode cX1_pass 14 = .ok (.invokestatic 144, 3) := dk_184 0 144 (dk_at dksX1_pass_0 14 rfl rfl)
theorem dX1_pass_17 : decode cX1_pass 17 = .ok (.aload_n 0, 1) := dk_42 (dk_at dksX1_pass_0 17 rfl rfl)
theorem dX1_pass_18 : decode cX1_pass 18 = .ok (.invokevirtual 458, 3) := dk_182 1 202 (dk_at dksX1_pass_0 18 rfl rfl)
theorem dX1_pass_21 : decode cX1_pass 21 = .ok (.iload_n 1, 1) := dk_27 (dk_at dksX1_pass_0 21 rfl rfl)
theorem dX1_pass_22 : decode cX1_pass 22 = .ok (.invokevirtual 405, 3) := dk_182 1 149 (dk_at dksX1_pass_1 0 rfl rfl)
theorem dX1_pass_25 : decode cX1_pass 25 = .ok (.ireturn, 1) := dk_172 (dk_at dksX1_pass_1 3 rfl rfl)
abbrev cX1_setWind : ByteArray := prog_1_method_82_code
def yX1_setWind : MethodName := ⟨RX1, "setWind", "(I)I"⟩
def dkwX1_setWind_1 : List UInt8 := [181, 0, 203, 44, 180, 0, 203, 172]
abbrev dktX1_setWind_1 : List UInt8 := dkwX1_setWind_1 ++ []
def dkwX1_setWind_0 : List UInt8 := [42, 182, 0, 111, 77, 27, 133, 9, 20, 1, 145, 184, 0, 93, 184, 0, 144, 42, 182, 1, 202, 27]
abbrev dktX1_setWind_0 : List UInt8 := dkwX1_setWind_0 ++ dktX1_setWind_1
theorem dksX1_setWind_0 : cX1_setWind.data.toList.drop 0 = dktX1_setWind_0 := by decide +kernel
theorem dksX1_setWind_1 : cX1_setWind.data.toList.drop 22 = dktX1_setWind_1 := dk_seg dksX1_setWind_0 22 rfl rfl
theorem dX1_setWind_0 : decode cX1_setWind 0 = .ok (.aload_n 0, 1) := dk_42 (dk_at dksX1_setWind_0 0 rfl rfl)
theorem dX1_setWind_1 : decode cX1_setWind 1 = .ok (.invokevirtual 111, 3) := dk_182 0 111 (dk_at dksX1_setWind_0 1 rfl rfl)
theorem dX1_setWind_4 : decode cX1_setWind 4 = .ok (.astore_n 2, 1) := dk_77 (dk_at dksX1_setWind_0 4 rfl rfl)
theorem dX1_setWind_5 : decode cX1_setWind 5 = .ok (.iload_n 1, 1) := dk_27 (dk_at dksX1_setWind_0 5 rfl rfl)
theorem dX1_setWind_6 : decode cX1_setWind 6 = .ok (.i2l, 1) := dk_133 (dk_at dksX1_setWind_0 6 rfl rfl)
theorem dX1_setWind_7 : decode cX1_setWind 7 = .ok (.lconst 0, 1) := dk_9 (dk_at dksX1_setWind_0 7 rfl rfl)
theorem dX1_setWind_8 : decode cX1_setWind 8 = .ok (.ldc2_w 401, 3) := dk_20 1 145 (dk_at dksX1_setWind_0 8 rfl rfl)
theorem dX1_setWind_11 : decode cX1_setWind 11 = .ok (.invokestatic 93, 3) := dk_184 0 93 (dk_at dksX1_setWind_0 11 rfl rfl)
theorem dX1_setWind_14 : decode cX1_setWind 14 = .ok (.invokestatic 144, 3) := dk_184 0 144 (dk_at dksX1_setWind_0 14 rfl rfl)
theorem dX1_setWind_17 : decode cX1_setWind 17 = .ok (.aload_n 0, 1) := dk_42 (dk_at dksX1_setWind_0 17 rfl rfl)
theorem dX1_setWind_18 : decode cX1_setWind 18 = .ok (.invokevirtual 458, 3) := dk_182 1 202 (dk_at dksX1_setWind_0 18 rfl rfl)
theorem dX1_setWind_21 : decode cX1_setWind 21 = .ok (.iload_n 1, 1) := dk_27 (dk_at dksX1_setWind_0 21 rfl rfl)
theorem dX1_setWind_22 : decode cX1_setWind 22 = .ok (.putfield 203, 3) := dk_181 0 203 (dk_at dksX1_setWind_1 0 rfl rfl)
theorem dX1_setWind_25 : decode cX1_setWind 25 = .ok (.aload_n 2, 1) := dk_44 (dk_at dksX1_setWind_1 3 rfl rfl)
theorem dX1_setWind_26 : decode cX1_setWind 26 = .ok (.getfield 203, 3) := dk_180 0 203 (dk_at dksX1_setWind_1 4 rfl rfl)
theorem dX1_setWind_29 : decode cX1_setWind 29 = .ok (.ireturn, 1) := dk_172 (dk_at dksX1_setWind_1 7 rfl rfl)
abbrev cX1_addFlag : ByteArray := prog_1_method_83_code
def yX1_addFlag : MethodName := ⟨RX1, "addFlag", "(IIII)I"⟩
def dkwX1_addFlag_4 : List UInt8 := [27, 28, 29, 21, 4, 183, 1, 226, 182, 1, 229, 42, 180, 0, 103, 182, 0, 115, 4, 100, 172]
abbrev dktX1_addFlag_4 : List UInt8 := dkwX1_addFlag_4 ++ []
def dkwX1_addFlag_3 : List UInt8 := [182, 0, 115, 16, 12, 162, 0, 7, 4, 167, 0, 4, 3, 184, 0, 144, 42, 182, 1, 202, 187, 1, 9, 89]
abbrev dktX1_addFlag_3 : List UInt8 := dkwX1_addFlag_3 ++ dktX1_addFlag_4
def dkwX1_addFlag_2 : List UInt8 := [20, 1, 145, 184, 0, 93, 153, 0, 28, 25, 5, 180, 0, 254, 2, 160, 0, 19, 42, 180, 0, 103]
abbrev dktX1_addFlag_2 : List UInt8 := dkwX1_addFlag_2 ++ dktX1_addFlag_3
def dkwX1_addFlag_1 : List UInt8 := [184, 0, 93, 153, 0, 53, 29, 133, 9, 20, 0, 142, 184, 0, 93, 153, 0, 41, 21, 4, 133, 9]
abbrev dktX1_addFlag_1 : List UInt8 := dkwX1_addFlag_1 ++ dktX1_addFlag_2
def dkwX1_addFlag_0 : List UInt8 := [42, 27, 182, 0, 234, 58, 5, 28, 133, 10, 4, 42, 180, 0, 103, 180, 0, 194, 120, 4, 100, 133]
abbrev dktX1_addFlag_0 : List UInt8 := dkwX1_addFlag_0 ++ dktX1_addFlag_1
theorem dksX1_addFlag_0 : cX1_addFlag.data.toList.drop 0 = dktX1_addFlag_0 := by decide +kernel
theorem dksX1_addFlag_1 : cX1_addFlag.data.toList.drop 22 = dktX1_addFlag_1 := dk_seg dksX1_addFlag_0 22 rfl rfl
theorem dksX1_addFlag_2 : cX1_addFlag.data.toList.drop 44 = dktX1_addFlag_2 := dk_seg dksX1_addFlag_1 22 rfl rfl
theorem dksX1_addFlag_3 : cX1_addFlag.data.toList.drop 66 = dktX1_addFlag_3 := dk_seg dksX1_addFlag_2 22 rfl rfl
theorem dksX1_addFlag_4 : cX1_addFlag.data.toList.drop 90 = dktX1_addFlag_4 := dk_seg dksX1_addFlag_3 24 rfl rfl
theorem dX1_addFlag_0 : decode cX1_addFlag 0 = .ok (.aload_n 0, 1) := dk_42 (dk_at dksX1_addFlag_0 0 rfl rfl)
theorem dX1_addFlag_1 : decode cX1_addFlag 1 = .ok (.iload_n 1, 1) := dk_27 (dk_at dksX1_addFlag_0 1 rfl rfl)
theorem dX1_addFlag_2 : decode cX1_addFlag 2 = .ok (.invokevirtual 234, 3) := dk_182 0 234 (dk_at dksX1_addFlag_0 2 rfl rfl)
theorem dX1_addFlag_5 : decode cX1_addFlag 5 = .ok (.astore 5, 2) := dk_58 5 (dk_at dksX1_addFlag_0 5 rfl rfl)
theorem dX1_addFlag_7 : decode cX1_addFlag 7 = .ok (.iload_n 2, 1) := dk_28 (dk_at dksX1_addFlag_0 7 rfl rfl)
theorem dX1_addFlag_8 : decode cX1_addFlag 8 = .ok (.i2l, 1) := dk_133 (dk_at dksX1_addFlag_0 8 rfl rfl)
theorem dX1_addFlag_9 : decode cX1_addFlag 9 = .ok (.lconst 1, 1) := dk_10 (dk_at dksX1_addFlag_0 9 rfl rfl)
theorem dX1_addFlag_10 : decode cX1_addFlag 10 = .ok (.iconst 1, 1) := dk_4 (dk_at dksX1_addFlag_0 10 rfl rfl)
theorem dX1_addFlag_11 : decode cX1_addFlag 11 = .ok (.aload_n 0, 1) := dk_42 (dk_at dksX1_addFlag_0 11 rfl rfl)
theorem dX1_addFlag_12 : decode cX1_addFlag 12 = .ok (.getfield 103, 3) := dk_180 0 103 (dk_at dksX1_addFlag_0 12 rfl rfl)
theorem dX1_addFlag_15 : decode cX1_addFlag 15 = .ok (.getfield 194, 3) := dk_180 0 194 (dk_at dksX1_addFlag_0 15 rfl rfl)
theorem dX1_addFlag_18 : decode cX1_addFlag 18 = .ok (.ishl, 1) := dk_120 (dk_at dksX1_addFlag_0 18 rfl rfl)
theorem dX1_addFlag_19 : decode cX1_addFlag 19 = .ok (.iconst 1, 1) := dk_4 (dk_at dksX1_addFlag_0 19 rfl rfl)
theorem dX1_addFlag_20 : decode cX1_addFlag 20 = .ok (.isub, 1) := dk_100 (dk_at dksX1_addFlag_0 20 rfl rfl)
theorem dX1_addFlag_21 : decode cX1_addFlag 21 = .ok (.i2l, 1) := dk_133 (dk_at dksX1_addFlag_0 21 rfl rfl)
theorem dX1_addFlag_22 : decode cX1_addFlag 22 = .ok (.invokestatic 93, 3) := dk_184 0 93 (dk_at dksX1_addFlag_1 0 rfl rfl)
theorem dX1_addFlag_25 : decode cX1_addFlag 25 = .ok (.ifCond .eq 53, 3) := dk_153 0 53 (dk_at dksX1_addFlag_1 3 rfl rfl)
theorem dX1_addFlag_28 : decode cX1_addFlag 28 = .ok (.iload_n 3, 1) := dk_29 (dk_at dksX1_addFlag_1 6 rfl rfl)
theorem dX1_addFlag_29 : decode cX1_addFlag 29 = .ok (.i2l, 1) := dk_133 (dk_at dksX1_addFlag_1 7 rfl rfl)
theorem dX1_addFlag_30 : decode cX1_addFlag 30 = .ok (.lconst 0, 1) := dk_9 (dk_at dksX1_addFlag_1 8 rfl rfl)
theorem dX1_addFlag_31 : decode cX1_addFlag 31 = .ok (.ldc2_w 142, 3) := dk_20 0 142 (dk_at dksX1_addFlag_1 9 rfl rfl)
theorem dX1_addFlag_34 : decode cX1_addFlag 34 = .ok (.invokestatic 93, 3) := dk_184 0 93 (dk_at dksX1_addFlag_1 12 rfl rfl)
theorem dX1_addFlag_37 : decode cX1_addFlag 37 = .ok (.ifCond .eq 41, 3) := dk_153 0 41 (dk_at dksX1_addFlag_1 15 rfl rfl)
theorem dX1_addFlag_40 : decode cX1_addFlag 40 = .ok (.iload 4, 2) := dk_21 4 (dk_at dksX1_addFlag_1 18 rfl rfl)
theorem dX1_addFlag_42 : decode cX1_addFlag 42 = .ok (.i2l, 1) := dk_133 (dk_at dksX1_addFlag_1 20 rfl rfl)
theorem dX1_addFlag_43 : decode cX1_addFlag 43 = .ok (.lconst 0, 1) := dk_9 (dk_at dksX1_addFlag_1 21 rfl rfl)
theorem dX1_addFlag_44 : decode cX1_addFlag 44 = .ok (.ldc2_w 401, 3) := dk_20 1 145 (dk_at dksX1_addFlag_2 0 rfl rfl)
theorem dX1_addFlag_47 : decode cX1_addFlag 47 = .ok (.invokestatic 93, 3) := dk_184 0 93 (dk_at dksX1_addFlag_2 3 rfl rfl)
theorem dX1_addFlag_50 : decode cX1_addFlag 50 = .ok (.ifCond .eq 28, 3) := dk_153 0 28 (dk_at dksX1_addFlag_2 6 rfl rfl)
theorem dX1_addFlag_53 : decode cX1_addFlag 53 = .ok (.aload 5, 2) := dk_25 5 (dk_at dksX1_addFlag_2 9 rfl rfl)
theorem dX1_addFlag_55 : decode cX1_addFlag 55 = .ok (.getfield 254, 3) := dk_180 0 254 (dk_at dksX1_addFlag_2 11 rfl rfl)
theorem dX1_addFlag_58 : decode cX1_addFlag 58 = .ok (.iconst (-1), 1) := dk_2 (dk_at dksX1_addFlag_2 14 rfl rfl)
theorem dX1_addFlag_59 : decode cX1_addFlag 59 = .ok (.if_icmp .ne 19, 3) := dk_160 0 19 (dk_at dksX1_addFlag_2 15 rfl rfl)
theorem dX1_addFlag_62 : decode cX1_addFlag 62 = .ok (.aload_n 0, 1) := dk_42 (dk_at dksX1_addFlag_2 18 rfl rfl)
theorem dX1_addFlag_63 : decode cX1_addFlag 63 = .ok (.getfield 103, 3) := dk_180 0 103 (dk_at dksX1_addFlag_2 19 rfl rfl)
theorem dX1_addFlag_66 : decode cX1_addFlag 66 = .ok (.invokevirtual 115, 3) := dk_182 0 115 (dk_at dksX1_addFlag_3 0 rfl rfl)
theorem dX1_addFlag_69 : decode cX1_addFlag 69 = .ok (.bipush 12, 2) := dk_16 12 (dk_at dksX1_addFlag_3 3 rfl rfl)
theorem dX1_addFlag_71 : decode cX1_addFlag 71 = .ok (.if_icmp .ge 7, 3) := dk_162 0 7 (dk_at dksX1_addFlag_3 5 rfl rfl)
theorem dX1_addFlag_74 : decode cX1_addFlag 74 = .ok (.iconst 1, 1) := dk_4 (dk_at dksX1_addFlag_3 8 rfl rfl)
theorem dX1_addFlag_75 : decode cX1_addFlag 75 = .ok (.goto 4, 3) := dk_167 0 4 (dk_at dksX1_addFlag_3 9 rfl rfl)
theorem dX1_addFlag_78 : decode cX1_addFlag 78 = .ok (.iconst 0, 1) := dk_3 (dk_at dksX1_addFlag_3 12 rfl rfl)
theorem dX1_addFlag_79 : decode cX1_addFlag 79 = .ok (.invokestatic 144, 3) := dk_184 0 144 (dk_at dksX1_addFlag_3 13 rfl rfl)
theorem dX1_addFlag_82 : decode cX1_addFlag 82 = .ok (.aload_n 0, 1) := dk_42 (dk_at dksX1_addFlag_3 16 rfl rfl)
theorem dX1_addFlag_83 : decode cX1_addFlag 83 = .ok (.invokevirtual 458, 3) := dk_182 1 202 (dk_at dksX1_addFlag_3 17 rfl rfl)
theorem dX1_addFlag_86 : decode cX1_addFlag 86 = .ok (.new 265, 3) := dk_187 1 9 (dk_at dksX1_addFlag_3 20 rfl rfl)
theorem dX1_addFlag_89 : decode cX1_addFlag 89 = .ok (.dup, 1) := dk_89 (dk_at dksX1_addFlag_3 23 rfl rfl)
theorem dX1_addFlag_90 : decode cX1_addFlag 90 = .ok (.iload_n 1, 1) := dk_27 (dk_at dksX1_addFlag_4 0 rfl rfl)
theorem dX1_addFlag_91 : decode cX1_addFlag 91 = .ok (.iload_n 2, 1) := dk_28 (dk_at dksX1_addFlag_4 1 rfl rfl)
theorem dX1_addFlag_92 : decode cX1_addFlag 92 = .ok (.iload_n 3, 1) := dk_29 (dk_at dksX1_addFlag_4 2 rfl rfl)
theorem dX1_addFlag_93 : decode cX1_addFlag 93 = .ok (.iload 4, 2) := dk_21 4 (dk_at dksX1_addFlag_4 3 rfl rfl)
theorem dX1_addFlag_95 : decode cX1_addFlag 95 = .ok (.invokespecial 482, 3) := dk_183 1 226 (dk_at dksX1_addFlag_4 5 rfl rfl)
theorem dX1_addFlag_98 : decode cX1_addFlag 98 = .ok (.invokevirtual 485, 3) := dk_182 1 229 (dk_at dksX1_addFlag_4 8 rfl rfl)
theorem dX1_addFlag_101 : decode cX1_addFlag 101 = .ok (.aload_n 0, 1) := dk_42 (dk_at dksX1_addFlag_4 11 rfl rfl)
theorem dX1_addFlag_102 : decode cX1_addFlag 102 = .ok (.getfield 103, 3) := dk_180 0 103 (dk_at dksX1_addFlag_4 12 rfl rfl)
theorem dX1_addFlag_105 : decode cX1_addFlag 105 = .ok (.invokevirtual 115, 3) := dk_182 0 115 (dk_at dksX1_addFlag_4 15 rfl rfl)
theorem dX1_addFlag_108 : decode cX1_addFlag 108 = .ok (.iconst 1, 1) := dk_4 (dk_at dksX1_addFlag_4 18 rfl rfl)
theorem dX1_addFlag_109 : decode cX1_addFlag 109 = .ok (.isub, 1) := dk_100 (dk_at dksX1_addFlag_4 19 rfl rfl)
theorem dX1_addFlag_110 : decode cX1_addFlag 110 = .ok (.ireturn, 1) := dk_172 (dk_at dksX1_addFlag_4 20 rfl rfl)
abbrev cX1_undo : ByteArray := prog_1_method_84_code
def yX1_undo : MethodName := ⟨RX1, "undo", "()I"⟩
def dkwX1_undo_1 : List UInt8 := [182, 1, 235, 192, 0, 29, 181, 0, 103, 42, 180, 0, 75, 182, 0, 155, 172]
abbrev dktX1_undo_1 : List UInt8 := dkwX1_undo_1 ++ []
def dkwX1_undo_0 : List UInt8 := [42, 180, 0, 75, 182, 1, 232, 154, 0, 7, 4, 167, 0, 4, 3, 184, 0, 107, 42, 42, 180, 0, 75]
abbrev dktX1_undo_0 : List UInt8 := dkwX1_undo_0 ++ dktX1_undo_1
theorem dksX1_undo_0 : cX1_undo.data.toList.drop 0 = dktX1_undo_0 := by decide +kernel
theorem dksX1_undo_1 : cX1_undo.data.toList.drop 23 = dktX1_undo_1 := dk_seg dksX1_undo_0 23 rfl rfl
theorem dX1_undo_0 : decode cX1_undo 0 = .ok (.aload_n 0, 1) := dk_42 (dk_at dksX1_undo_0 0 rfl rfl)
theorem dX1_undo_1 : decode cX1_undo 1 = .ok (.getfield 75, 3) := dk_180 0 75 (dk_at dksX1_undo_0 1 rfl rfl)
theorem dX1_undo_4 : decode cX1_undo 4 = .ok (.invokevirtual 488, 3) := dk_182 1 232 (dk_at dksX1_undo_0 4 rfl rfl)
theorem dX1_undo_7 : decode cX1_undo 7 = .ok (.ifCond .ne 7, 3) := dk_154 0 7 (dk_at dksX1_undo_0 7 rfl rfl)
theorem dX1_undo_10 : decode cX1_undo 10 = .ok (.iconst 1, 1) := dk_4 (dk_at dksX1_undo_0 10 rfl rfl)
theorem dX1_undo_11 : decode cX1_undo 11 = .ok (.goto 4, 3) := dk_167 0 4 (dk_at dksX1_undo_0 11 rfl rfl)
theorem dX1_undo_14 : decode cX1_undo 14 = .ok (.iconst 0, 1) := dk_3 (dk_at dksX1_undo_0 14 rfl rfl)
theorem dX1_undo_15 : decode cX1_undo 15 = .ok (.invokestatic 107, 3) := dk_184 0 107 (dk_at dksX1_undo_0 15 rfl rfl)
theorem dX1_undo_18 : decode cX1_undo 18 = .ok (.aload_n 0, 1) := dk_42 (dk_at dksX1_undo_0 18 rfl rfl)
theorem dX1_undo_19 : decode cX1_undo 19 = .ok (.aload_n 0, 1) := dk_42 (dk_at dksX1_undo_0 19 rfl rfl)
theorem dX1_undo_20 : decode cX1_undo 20 = .ok (.getfield 75, 3) := dk_180 0 75 (dk_at dksX1_undo_0 20 rfl rfl)
theorem dX1_undo_23 : decode cX1_undo 23 = .ok (.invokevirtual 491, 3) := dk_182 1 235 (dk_at dksX1_undo_1 0 rfl rfl)
theorem dX1_undo_26 : decode cX1_undo 26 = .ok (.checkcast 29, 3) := dk_192 0 29 (dk_at dksX1_undo_1 3 rfl rfl)
theorem dX1_undo_29 : decode cX1_undo 29 = .ok (.putfield 103, 3) := dk_181 0 103 (dk_at dksX1_undo_1 6 rfl rfl)
theorem dX1_undo_32 : decode cX1_undo 32 = .ok (.aload_n 0, 1) := dk_42 (dk_at dksX1_undo_1 9 rfl rfl)
theorem dX1_undo_33 : decode cX1_undo 33 = .ok (.getfield 75, 3) := dk_180 0 75 (dk_at dksX1_undo_1 10 rfl rfl)
theorem dX1_undo_36 : decode cX1_undo 36 = .ok (.invokevirtual 155, 3) := dk_182 0 155 (dk_at dksX1_undo_1 13 rfl rfl)
theorem dX1_undo_39 : decode cX1_undo 39 = .ok (.ireturn, 1) := dk_172 (dk_at dksX1_undo_1 16 rfl rfl)
abbrev cX1_save : ByteArray := prog_1_method_86_code
def yX1_save : MethodName := ⟨RX1, "save", "(I)I"⟩
def dkwX1_save_0 : List UInt8 := [42, 182, 0, 111, 77, 27, 5, 184, 0, 119, 42, 180, 0, 79, 27, 44, 83, 44, 180, 0, 200, 172]
abbrev dktX1_save_0 : List UInt8 := dkwX1_save_0 ++ []
theorem dksX1_save_0 : cX1_save.data.toList.drop 0 = dktX1_save_0 := by decide +kernel
theorem dX1_save_0 : decode cX1_save 0 = .ok (.aload_n 0, 1) := dk_42 (dk_at dksX1_save_0 0 rfl rfl)
theorem dX1_save_1 : decode cX1_save 1 = .ok (.invokevirtual 111, 3) := dk_182 0 111 (dk_at dksX1_save_0 1 rfl rfl)
theorem dX1_save_4 : decode cX1_save 4 = .ok (.astore_n 2, 1) := dk_77 (dk_at dksX1_save_0 4 rfl rfl)
theorem dX1_save_5 : decode cX1_save 5 = .ok (.iload_n 1, 1) := dk_27 (dk_at dksX1_save_0 5 rfl rfl)
theorem dX1_save_6 : decode cX1_save 6 = .ok (.iconst 2, 1) := dk_5 (dk_at dksX1_save_0 6 rfl rfl)
theorem dX1_save_7 : decode cX1_save 7 = .ok (.invokestatic 119, 3) := dk_184 0 119 (dk_at dksX1_save_0 7 rfl rfl)
theorem dX1_save_10 : decode cX1_save 10 = .ok (.aload_n 0, 1) := dk_42 (dk_at dksX1_save_0 10 rfl rfl)
theorem dX1_save_11 : decode cX1_save 11 = .ok (.getfield 79, 3) := dk_180 0 79 (dk_at dksX1_save_0 11 rfl rfl)
theorem dX1_save_14 : decode cX1_save 14 = .ok (.iload_n 1, 1) := dk_27 (dk_at dksX1_save_0 14 rfl rfl)
theorem dX1_save_15 : decode cX1_save 15 = .ok (.aload_n 2, 1) := dk_44 (dk_at dksX1_save_0 15 rfl rfl)
theorem dX1_save_16 : decode cX1_save 16 = .ok (.aastore, 1) := dk_83 (dk_at dksX1_save_0 16 rfl rfl)
theorem dX1_save_17 : decode cX1_save 17 = .ok (.aload_n 2, 1) := dk_44 (dk_at dksX1_save_0 17 rfl rfl)
theorem dX1_save_18 : decode cX1_save 18 = .ok (.getfield 200, 3) := dk_180 0 200 (dk_at dksX1_save_0 18 rfl rfl)
theorem dX1_save_21 : decode cX1_save 21 = .ok (.ireturn, 1) := dk_172 (dk_at dksX1_save_0 21 rfl rfl)
abbrev cX1_restore : ByteArray := prog_1_method_87_code
def yX1_restore : MethodName := ⟨RX1, "restore", "(I)I"⟩
def dkwX1_restore_1 : List UInt8 := [180, 0, 79, 27, 50, 181, 0, 103, 42, 180, 0, 75, 182, 0, 181, 42, 180, 0, 103, 180, 0, 200, 172]
abbrev dktX1_restore_1 : List UInt8 := dkwX1_restore_1 ++ []
def dkwX1_restore_0 : List UInt8 := [27, 5, 184, 0, 119, 42, 180, 0, 79, 27, 50, 198, 0, 7, 4, 167, 0, 4, 3, 184, 0, 107, 42, 42]
abbrev dktX1_restore_0 : List UInt8 := dkwX1_restore_0 ++ dktX1_restore_1
theorem dksX1_restore_0 : cX1_restore.data.toList.drop 0 = dktX1_restore_0 := by decide +kernel
theorem dksX1_restore_1 : cX1_restore.data.toList.drop 24 = dktX1_restore_1 := dk_seg dksX1_restore_0 24 rfl rfl
theorem dX1_restore_0 : decode cX1_restore 0 = .ok (.iload_n 1, 1) := dk_27 (dk_at dksX1_restore_0 0 rfl rfl)
theorem dX1_restore_1 : decode cX1_restore 1 = .ok (.iconst 2, 1) := dk_5 (dk_at dksX1_restore_0 1 rfl rfl)
theorem dX1_restore_2 : decode cX1_restore 2 = .ok (.invokestatic 119, 3) := dk_184 0 119 (dk_at dksX1_restore_0 2 rfl rfl)
theorem dX1_restore_5 : decode cX1_restore 5 = .ok (.aload_n 0, 1) := dk_42 (dk_at dksX1_restore_0 5 rfl rfl)
theorem dX1_restore_6 : decode cX1_restore 6 = .ok (.getfield 79, 3) := dk_180 0 79 (dk_at dksX1_restore_0 6 rfl rfl)
theorem dX1_restore_9 : decode cX1_restore 9 = .ok (.iload_n 1, 1) := dk_27 (dk_at dksX1_restore_0 9 rfl rfl)
theorem dX1_restore_10 : decode cX1_restore 10 = .ok (.aaload, 1) := dk_50 (dk_at dksX1_restore_0 10 rfl rfl)
theorem dX1_restore_11 : decode cX1_restore 11 = .ok (.ifnull 7, 3) := dk_198 0 7 (dk_at dksX1_restore_0 11 rfl rfl)
theorem dX1_restore_14 : decode cX1_restore 14 = .ok (.iconst 1, 1) := dk_4 (dk_at dksX1_restore_0 14 rfl rfl)
theorem dX1_restore_15 : decode cX1_restore 15 = .ok (.goto 4, 3) := dk_167 0 4 (dk_at dksX1_restore_0 15 rfl rfl)
theorem dX1_restore_18 : decode cX1_restore 18 = .ok (.iconst 0, 1) := dk_3 (dk_at dksX1_restore_0 18 rfl rfl)
theorem dX1_restore_19 : decode cX1_restore 19 = .ok (.invokestatic 107, 3) := dk_184 0 107 (dk_at dksX1_restore_0 19 rfl rfl)
theorem dX1_restore_22 : decode cX1_restore 22 = .ok (.aload_n 0, 1) := dk_42 (dk_at dksX1_restore_0 22 rfl rfl)
theorem dX1_restore_23 : decode cX1_restore 23 = .ok (.aload_n 0, 1) := dk_42 (dk_at dksX1_restore_0 23 rfl rfl)
theorem dX1_restore_24 : decode cX1_restore 24 = .ok (.getfield 79, 3) := dk_180 0 79 (dk_at dksX1_restore_1 0 rfl rfl)
theorem dX1_restore_27 : decode cX1_restore 27 = .ok (.iload_n 1, 1) := dk_27 (dk_at dksX1_restore_1 3 rfl rfl)
theorem dX1_restore_28 : decode cX1_restore 28 = .ok (.aaload, 1) := dk_50 (dk_at dksX1_restore_1 4 rfl rfl)
theorem dX1_restore_29 : decode cX1_restore 29 = .ok (.putfield 103, 3) := dk_181 0 103 (dk_at dksX1_restore_1 5 rfl rfl)
theorem dX1_restore_32 : decode cX1_restore 32 = .ok (.aload_n 0, 1) := dk_42 (dk_at dksX1_restore_1 8 rfl rfl)
theorem dX1_restore_33 : decode cX1_restore 33 = .ok (.getfield 75, 3) := dk_180 0 75 (dk_at dksX1_restore_1 9 rfl rfl)
theorem dX1_restore_36 : decode cX1_restore 36 = .ok (.invokevirtual 181, 3) := dk_182 0 181 (dk_at dksX1_restore_1 12 rfl rfl)
theorem dX1_restore_39 : decode cX1_restore 39 = .ok (.aload_n 0, 1) := dk_42 (dk_at dksX1_restore_1 15 rfl rfl)
theorem dX1_restore_40 : decode cX1_restore 40 = .ok (.getfield 103, 3) := dk_180 0 103 (dk_at dksX1_restore_1 16 rfl rfl)
theorem dX1_restore_43 : decode cX1_restore 43 = .ok (.getfield 200, 3) := dk_180 0 200 (dk_at dksX1_restore_1 19 rfl rfl)
theorem dX1_restore_46 : decode cX1_restore 46 = .ok (.ireturn, 1) := dk_172 (dk_at dksX1_restore_1 22 rfl rfl)
theorem q133 : (Jvm.Cond.initialized "FlagLaundry") ∈ lw_all := lw_g (lw_at lw_m1 1 rfl) rfl
theorem q174 : (Jvm.Cond.instantiable "FlagLaundry" (8 : Nat)) ∈ lw_all := lw_g (lw_at lw_m1 42 rfl) rfl
theorem q176 : (Jvm.Cond.instanceMethod ({ cls := "FlagLaundry", name := "<init>", desc := "()V" } : Jvm.MethodName)) ∈ lw_all := lw_g (lw_at lw_m1 44 rfl) rfl
theorem q177 : (Jvm.Cond.code ({ cls := "FlagLaundry", name := "<init>", desc := "()V" } : Jvm.MethodName) prog_1_method_12_code (1 : Nat) (Option.none : Option Jvm.ClassFile.FieldType)) ∈ lw_all := lw_g (lw_at lw_m1 45 rfl) rfl
theorem q178 : (Jvm.Cond.methodLink "FlagLaundry" (59 : Nat) ({ cls := "java/lang/Object", name := "<init>", desc := "()V" } : Jvm.MethodName)) ∈ lw_all := lw_g (lw_at lw_m1 46 rfl) rfl
theorem q181 : (Jvm.Cond.classLink "FlagLaundry" (72 : Nat) "java/util/ArrayDeque") ∈ lw_all := lw_g (lw_at lw_m1 49 rfl) rfl
theorem q183 : (Jvm.Cond.methodLink "FlagLaundry" (74 : Nat) ({ cls := "java/util/ArrayDeque", name := "<init>", desc := "()V" } : Jvm.MethodName)) ∈ lw_all := lw_g (lw_at lw_m1 51 rfl) rfl
theorem q203 : (Jvm.Cond.classLink "FlagLaundry" (29 : Nat) "FlagLaundry$World") ∈ lw_all := lw_g (lw_at lw_m1 71 rfl) rfl
theorem q205 : (Jvm.Cond.classLink "FlagLaundry" (83 : Nat) "java/lang/StringBuilder") ∈ lw_all := lw_g (lw_at lw_m1 73 rfl) rfl
theorem q207 : (Jvm.Cond.methodLink "FlagLaundry" (85 : Nat) ({ cls := "java/lang/StringBuilder", name := "<init>", desc := "()V" } : Jvm.MethodName)) ∈ lw_all := lw_g (lw_at lw_m1 75 rfl) rfl
theorem q238 : (Jvm.Cond.fieldLink "FlagLaundry" (65 : Nat) "FlagLaundry" "buffer" "[B") ∈ lw_all := lw_g (lw_at lw_m1 106 rfl) rfl
theorem q239 : (Jvm.Cond.fieldLink "FlagLaundry" (167 : Nat) "FlagLaundry" "buffered" "I") ∈ lw_all := lw_g (lw_at lw_m1 107 rfl) rfl
theorem q240 : (Jvm.Cond.fieldLink "FlagLaundry" (170 : Nat) "FlagLaundry" "parseError" "I") ∈ lw_all := lw_g (lw_at lw_m1 108 rfl) rfl
theorem q241 : (Jvm.Cond.fieldLink "FlagLaundry" (69 : Nat) "FlagLaundry" "errorPosition" "I") ∈ lw_all := lw_g (lw_at lw_m1 109 rfl) rfl
theorem q242 : (Jvm.Cond.fieldLink "FlagLaundry" (103 : Nat) "FlagLaundry" "now" "LFlagLaundry$World;") ∈ lw_all := lw_g (lw_at lw_m1 110 rfl) rfl
theorem q243 : (Jvm.Cond.fieldLink "FlagLaundry" (75 : Nat) "FlagLaundry" "past" "Ljava/util/ArrayDeque;") ∈ lw_all := lw_g (lw_at lw_m1 111 rfl) rfl
theorem q244 : (Jvm.Cond.fieldLink "FlagLaundry" (79 : Nat) "FlagLaundry" "saved" "[LFlagLaundry$World;") ∈ lw_all := lw_g (lw_at lw_m1 112 rfl) rfl
theorem q245 : (Jvm.Cond.fieldLink "FlagLaundry" (86 : Nat) "FlagLaundry" "output" "Ljava/lang/StringBuilder;") ∈ lw_all := lw_g (lw_at lw_m1 113 rfl) rfl
theorem q246 : (Jvm.Cond.laysFinal "FlagLaundry" "FlagLaundry" "buffer" "[B") ∈ lw_all := lw_g (lw_at lw_m1 114 rfl) rfl
theorem q247 : (Jvm.Cond.soleField "FlagLaundry" "buffer") ∈ lw_all := lw_g (lw_at lw_m1 115 rfl) rfl
theorem q248 : (Jvm.Cond.lays "FlagLaundry" "FlagLaundry" "buffered" "I") ∈ lw_all := lw_g (lw_at lw_m1 116 rfl) rfl
theorem q249 : (Jvm.Cond.soleField "FlagLaundry" "buffered") ∈ lw_all := lw_g (lw_at lw_m1 117 rfl) rfl
theorem q250 : (Jvm.Cond.lays "FlagLaundry" "FlagLaundry" "parseError" "I") ∈ lw_all := lw_g (lw_at lw_m1 118 rfl) rfl
theorem q251 : (Jvm.Cond.soleField "FlagLaundry" "parseError") ∈ lw_all := lw_g (lw_at lw_m1 119 rfl) rfl
theorem q252 : (Jvm.Cond.lays "FlagLaundry" "FlagLaundry" "errorPosition" "I") ∈ lw_all := lw_g (lw_at lw_m1 120 rfl) rfl
theorem q253 : (Jvm.Cond.soleField "FlagLaundry" "errorPosition") ∈ lw_all := lw_g (lw_at lw_m1 121 rfl) rfl
theorem q254 : (Jvm.Cond.lays "FlagLaundry" "FlagLaundry" "now" "LFlagLaundry$World;") ∈ lw_all := lw_g (lw_at lw_m1 122 rfl) rfl
theorem q255 : (Jvm.Cond.soleField "FlagLaundry" "now") ∈ lw_all := lw_g (lw_at lw_m1 123 rfl) rfl
theorem q256 : (Jvm.Cond.laysFinal "FlagLaundry" "FlagLaundry" "past" "Ljava/util/ArrayDeque;") ∈ lw_all := lw_g (lw_at lw_m1 124 rfl) rfl
theorem q257 : (Jvm.Cond.soleField "FlagLaundry" "past") ∈ lw_all := lw_g (lw_at lw_m1 125 rfl) rfl
theorem q258 : (Jvm.Cond.laysFinal "FlagLaundry" "FlagLaundry" "saved" "[LFlagLaundry$World;") ∈ lw_all := lw_g (lw_at lw_m1 126 rfl) rfl
theorem q259 : (Jvm.Cond.soleField "FlagLaundry" "saved") ∈ lw_all := lw_g (lw_at lw_m1 127 rfl) rfl
theorem q260 : (Jvm.Cond.laysFinal "FlagLaundry" "FlagLaundry" "output" "Ljava/lang/StringBuilder;") ∈ lw_all := lw_g (lw_at lw_m1 128 rfl) rfl
theorem q261 : (Jvm.Cond.soleField "FlagLaundry" "output") ∈ lw_all := lw_g (lw_at lw_m1 129 rfl) rfl
theorem q262 : (Jvm.Cond.superclass "FlagLaundry" "java/lang/Object") ∈ lw_all := lw_g (lw_at lw_m1 130 rfl) rfl
theorem q264 : (Jvm.Cond.instanceMethod ({ cls := "FlagLaundry", name := "append", desc := "(IIIII)I" } : Jvm.MethodName)) ∈ lw_all := lw_g (lw_at lw_m1 132 rfl) rfl
theorem q265 : (Jvm.Cond.selects "FlagLaundry" ({ cls := "FlagLaundry", name := "append", desc := "(IIIII)I" } : Jvm.MethodName) ({ cls := "FlagLaundry", name := "append", desc := "(IIIII)I" } : Jvm.MethodName)) ∈ lw_all := lw_g (lw_at lw_m1 133 rfl) rfl
theorem q266 : (Jvm.Cond.code ({ cls := "FlagLaundry", name := "append", desc := "(IIIII)I" } : Jvm.MethodName) prog_1_method_25_code (11 : Nat) (Option.some Jvm.ClassFile.FieldType.int)) ∈ lw_all := lw_g (lw_at lw_m1 134 rfl) rfl
theorem q269 : (Jvm.Cond.instanceMethod ({ cls := "FlagLaundry", name := "parseError", desc := "()I" } : Jvm.MethodName)) ∈ lw_all := lw_g (lw_at lw_m1 137 rfl) rfl
theorem q270 : (Jvm.Cond.selects "FlagLaundry" ({ cls := "FlagLaundry", name := "parseError", desc := "()I" } : Jvm.MethodName) ({ cls := "FlagLaundry", name := "parseError", desc := "()I" } : Jvm.MethodName)) ∈ lw_all := lw_g (lw_at lw_m1 138 rfl) rfl
theorem q271 : (Jvm.Cond.code ({ cls := "FlagLaundry", name := "parseError", desc := "()I" } : Jvm.MethodName) prog_1_method_27_code (1 : Nat) (Option.some Jvm.ClassFile.FieldType.int)) ∈ lw_all := lw_g (lw_at lw_m1 139 rfl) rfl
theorem q273 : (Jvm.Cond.instanceMethod ({ cls := "FlagLaundry", name := "errorPosition", desc := "()I" } : Jvm.MethodName)) ∈ lw_all := lw_g (lw_at lw_m1 141 rfl) rfl
theorem q274 : (Jvm.Cond.selects "FlagLaundry" ({ cls := "FlagLaundry", name := "errorPosition", desc := "()I" } : Jvm.MethodName) ({ cls := "FlagLaundry", name := "errorPosition", desc := "()I" } : Jvm.MethodName)) ∈ lw_all := lw_g (lw_at lw_m1 142 rfl) rfl
theorem q275 : (Jvm.Cond.code ({ cls := "FlagLaundry", name := "errorPosition", desc := "()I" } : Jvm.MethodName) prog_1_method_28_code (1 : Nat) (Option.some Jvm.ClassFile.FieldType.int)) ∈ lw_all := lw_g (lw_at lw_m1 143 rfl) rfl
theorem q277 : (Jvm.Cond.instanceMethod ({ cls := "FlagLaundry", name := "buffered", desc := "()I" } : Jvm.MethodName)) ∈ lw_all := lw_g (lw_at lw_m1 145 rfl) rfl
theorem q278 : (Jvm.Cond.selects "FlagLaundry" ({ cls := "FlagLaundry", name := "buffered", desc := "()I" } : Jvm.MethodName) ({ cls := "FlagLaundry", name := "buffered", desc := "()I" } : Jvm.MethodName)) ∈ lw_all := lw_g (lw_at lw_m1 146 rfl) rfl
theorem q279 : (Jvm.Cond.code ({ cls := "FlagLaundry", name := "buffered", desc := "()I" } : Jvm.MethodName) prog_1_method_29_code (1 : Nat) (Option.some Jvm.ClassFile.FieldType.int)) ∈ lw_all := lw_g (lw_at lw_m1 147 rfl) rfl
theorem q281 : (Jvm.Cond.instanceMethod ({ cls := "FlagLaundry", name := "undoable", desc := "()I" } : Jvm.MethodName)) ∈ lw_all := lw_g (lw_at lw_m1 149 rfl) rfl
theorem q282 : (Jvm.Cond.selects "FlagLaundry" ({ cls := "FlagLaundry", name := "undoable", desc := "()I" } : Jvm.MethodName) ({ cls := "FlagLaundry", name := "undoable", desc := "()I" } : Jvm.MethodName)) ∈ lw_all := lw_g (lw_at lw_m1 150 rfl) rfl
theorem q283 : (Jvm.Cond.code ({ cls := "FlagLaundry", name := "undoable", desc := "()I" } : Jvm.MethodName) prog_1_method_85_code (1 : Nat) (Option.some Jvm.ClassFile.FieldType.int)) ∈ lw_all := lw_g (lw_at lw_m1 151 rfl) rfl
theorem q284 : (Jvm.Cond.methodLink "FlagLaundry" (155 : Nat) ({ cls := "java/util/ArrayDeque", name := "size", desc := "()I" } : Jvm.MethodName)) ∈ lw_all := lw_g (lw_at lw_m1 152 rfl) rfl
theorem q374 : (Jvm.Cond.instanceMethod ({ cls := "FlagLaundry", name := "load", desc := "(I)I" } : Jvm.MethodName)) ∈ lw_all := lw_g (lw_at lw_m2 2 rfl) rfl
theorem q375 : (Jvm.Cond.selects "FlagLaundry" ({ cls := "FlagLaundry", name := "load", desc := "(I)I" } : Jvm.MethodName) ({ cls := "FlagLaundry", name := "load", desc := "(I)I" } : Jvm.MethodName)) ∈ lw_all := lw_g (lw_at lw_m2 3 rfl) rfl
theorem q376 : (Jvm.Cond.codeWith ({ cls := "FlagLaundry", name := "load", desc := "(I)I" } : Jvm.MethodName) prog_1_method_26_code (4 : Nat) (Option.some Jvm.ClassFile.FieldType.int) [((20 : Nat), (71 : Nat), (78 : Nat), (184 : Nat)), ((20 : Nat), (71 : Nat), (103 : Nat), (0 : Nat)), ((78 : Nat), (104 : Nat), (103 : Nat), (0 : Nat))]) ∈ lw_all := lw_g (lw_at lw_m2 4 rfl) rfl
theorem q377 : (Jvm.Cond.classLink "FlagLaundry" (184 : Nat) "FlagLaundry$Flaw") ∈ lw_all := lw_g (lw_at lw_m2 5 rfl) rfl
theorem q378 : (Jvm.Cond.methodLink "FlagLaundry" (119 : Nat) ({ cls := "FlagLaundry", name := "checkIndex", desc := "(II)V" } : Jvm.MethodName)) ∈ lw_all := lw_g (lw_at lw_m2 6 rfl) rfl
theorem q379 : (Jvm.Cond.static ({ cls := "FlagLaundry", name := "checkIndex", desc := "(II)V" } : Jvm.MethodName)) ∈ lw_all := lw_g (lw_at lw_m2 7 rfl) rfl
theorem q380 : (Jvm.Cond.code ({ cls := "FlagLaundry", name := "checkIndex", desc := "(II)V" } : Jvm.MethodName) prog_1_method_14_code (2 : Nat) (Option.none : Option Jvm.ClassFile.FieldType)) ∈ lw_all := lw_g (lw_at lw_m2 8 rfl) rfl
theorem q381 : (Jvm.Cond.methodLink "FlagLaundry" (93 : Nat) ({ cls := "FlagLaundry", name := "in", desc := "(JJJ)Z" } : Jvm.MethodName)) ∈ lw_all := lw_g (lw_at lw_m2 9 rfl) rfl
theorem q382 : (Jvm.Cond.static ({ cls := "FlagLaundry", name := "in", desc := "(JJJ)Z" } : Jvm.MethodName)) ∈ lw_all := lw_g (lw_at lw_m2 10 rfl) rfl
theorem q383 : (Jvm.Cond.code ({ cls := "FlagLaundry", name := "in", desc := "(JJJ)Z" } : Jvm.MethodName) prog_1_method_1_code (6 : Nat) (Option.some Jvm.ClassFile.FieldType.boolean)) ∈ lw_all := lw_g (lw_at lw_m2 11 rfl) rfl
theorem q384 : (Jvm.Cond.classLink "FlagLaundry" (97 : Nat) "java/lang/IndexOutOfBoundsException") ∈ lw_all := lw_g (lw_at lw_m2 12 rfl) rfl
theorem q393 : (Jvm.Cond.methodLink "FlagLaundry" (99 : Nat) ({ cls := "java/lang/IndexOutOfBoundsException", name := "<init>", desc := "()V" } : Jvm.MethodName)) ∈ lw_all := lw_g (lw_at lw_m2 21 rfl) rfl
theorem q405 : (Jvm.Cond.classLink "FlagLaundry" (173 : Nat) "FlagLaundry$Parser") ∈ lw_all := lw_g (lw_at lw_m2 33 rfl) rfl
theorem q407 : (Jvm.Cond.methodLink "FlagLaundry" (175 : Nat) ({ cls := "FlagLaundry$Parser", name := "<init>", desc := "(LFlagLaundry;I)V" } : Jvm.MethodName)) ∈ lw_all := lw_g (lw_at lw_m2 35 rfl) rfl
theorem q709 : (Jvm.Cond.methodLink "FlagLaundry" (178 : Nat) ({ cls := "FlagLaundry$Parser", name := "parse", desc := "()LFlagLaundry$World;" } : Jvm.MethodName)) ∈ lw_all := lw_g (lw_at lw_m3 97 rfl) rfl
theorem q745 : (Jvm.Cond.fieldLinkNest "FlagLaundry" (186 : Nat) "FlagLaundry$Flaw" "code" "I" "FlagLaundry") ∈ lw_tbl := lw_at lw_m3 133 rfl
theorem q747 : (Jvm.Cond.fieldLinkNest "FlagLaundry" (189 : Nat) "FlagLaundry$Flaw" "position" "I" "FlagLaundry") ∈ lw_tbl := lw_at lw_m3 135 rfl
theorem q823 : (Jvm.Cond.fieldLinkNest "FlagLaundry" (197 : Nat) "FlagLaundry$World" "pegs" "I" "FlagLaundry") ∈ lw_tbl := lw_at lw_m3 211 rfl
theorem q826 : (Jvm.Cond.fieldLinkNest "FlagLaundry" (224 : Nat) "FlagLaundry$World" "runs" "[I" "FlagLaundry") ∈ lw_tbl := lw_at lw_m3 214 rfl
theorem q829 : (Jvm.Cond.fieldLinkNest "FlagLaundry" (298 : Nat) "FlagLaundry$World" "room" "[I" "FlagLaundry") ∈ lw_tbl := lw_at lw_m3 217 rfl
theorem q832 : (Jvm.Cond.fieldLinkNest "FlagLaundry" (126 : Nat) "FlagLaundry$World" "nations" "Ljava/util/List;" "FlagLaundry") ∈ lw_tbl := lw_at lw_m3 220 rfl
theorem q834 : (Jvm.Cond.fieldLinkNest "FlagLaundry" (417 : Nat) "FlagLaundry$World" "flags" "Ljava/util/List;" "FlagLaundry") ∈ lw_tbl := lw_at lw_m3 222 rfl
theorem q836 : (Jvm.Cond.fieldLinkNest "FlagLaundry" (321 : Nat) "FlagLaundry$World" "unready" "[LFlagLaundry$Test;" "FlagLaundry") ∈ lw_tbl := lw_at lw_m3 224 rfl
theorem q839 : (Jvm.Cond.fieldLinkNest "FlagLaundry" (194 : Nat) "FlagLaundry$World" "colours" "I" "FlagLaundry") ∈ lw_tbl := lw_at lw_m3 227 rfl
theorem q842 : (Jvm.Cond.fieldLinkNest "FlagLaundry" (123 : Nat) "FlagLaundry$World" "tubs" "I" "FlagLaundry") ∈ lw_tbl := lw_at lw_m3 230 rfl
theorem q844 : (Jvm.Cond.fieldLinkNest "FlagLaundry" (200 : Nat) "FlagLaundry$World" "hour" "I" "FlagLaundry") ∈ lw_tbl := lw_at lw_m3 232 rfl
theorem q847 : (Jvm.Cond.fieldLinkNest "FlagLaundry" (203 : Nat) "FlagLaundry$World" "wind" "I" "FlagLaundry") ∈ lw_tbl := lw_at lw_m3 235 rfl
theorem q849 : (Jvm.Cond.fieldLinkNest "FlagLaundry" (209 : Nat) "FlagLaundry$World" "earned" "I" "FlagLaundry") ∈ lw_tbl := lw_at lw_m3 237 rfl
theorem q851 : (Jvm.Cond.fieldLinkNest "FlagLaundry" (212 : Nat) "FlagLaundry$World" "fined" "I" "FlagLaundry") ∈ lw_tbl := lw_at lw_m3 239 rfl
theorem q853 : (Jvm.Cond.fieldLinkNest "FlagLaundry" (215 : Nat) "FlagLaundry$World" "washes" "I" "FlagLaundry") ∈ lw_tbl := lw_at lw_m4 1 rfl
theorem q855 : (Jvm.Cond.fieldLinkNest "FlagLaundry" (218 : Nat) "FlagLaundry$World" "falls" "I" "FlagLaundry") ∈ lw_tbl := lw_at lw_m4 3 rfl
theorem q857 : (Jvm.Cond.fieldLinkNest "FlagLaundry" (362 : Nat) "FlagLaundry$World" "puts" "I" "FlagLaundry") ∈ lw_tbl := lw_at lw_m4 5 rfl
theorem q984 : (Jvm.Cond.fieldLinkNest "FlagLaundry" (237 : Nat) "FlagLaundry$Nation" "due" "I" "FlagLaundry") ∈ lw_tbl := lw_at lw_m4 132 rfl
theorem q986 : (Jvm.Cond.fieldLinkNest "FlagLaundry" (242 : Nat) "FlagLaundry$Nation" "fee" "I" "FlagLaundry") ∈ lw_tbl := lw_at lw_m4 134 rfl
theorem q989 : (Jvm.Cond.fieldLinkNest "FlagLaundry" (245 : Nat) "FlagLaundry$Nation" "fine" "I" "FlagLaundry") ∈ lw_tbl := lw_at lw_m4 137 rfl
theorem q991 : (Jvm.Cond.fieldLinkNest "FlagLaundry" (254 : Nat) "FlagLaundry$Nation" "handed" "I" "FlagLaundry") ∈ lw_tbl := lw_at lw_m4 139 rfl
theorem q1036 : (Jvm.Cond.selects "FlagLaundry" ({ cls := "java/lang/Object", name := "getClass", desc := "()Ljava/lang/Class;" } : Jvm.MethodName) ({ cls := "java/lang/Object", name := "getClass", desc := "()Ljava/lang/Class;" } : Jvm.MethodName)) ∈ lw_all := lw_g (lw_at lw_m4 184 rfl) rfl
theorem q1081 : (Jvm.Cond.static ({ cls := "FlagLaundry", name := "has", desc := "(II)Z" } : Jvm.MethodName)) ∈ lw_all := lw_g (lw_at lw_m4 229 rfl) rfl
theorem q1082 : (Jvm.Cond.code ({ cls := "FlagLaundry", name := "has", desc := "(II)Z" } : Jvm.MethodName) prog_1_method_3_code (2 : Nat) (Option.some Jvm.ClassFile.FieldType.boolean)) ∈ lw_all := lw_g (lw_at lw_m4 230 rfl) rfl
theorem q1098 : (Jvm.Cond.fieldLinkNest "FlagLaundry" (264 : Nat) "FlagLaundry$Flag" "nation" "I" "FlagLaundry") ∈ lw_tbl := lw_at lw_m5 6 rfl
theorem q1101 : (Jvm.Cond.fieldLinkNest "FlagLaundry" (268 : Nat) "FlagLaundry$Flag" "colours" "I" "FlagLaundry") ∈ lw_tbl := lw_at lw_m5 9 rfl
theorem q1104 : (Jvm.Cond.fieldLinkNest "FlagLaundry" (269 : Nat) "FlagLaundry$Flag" "care" "I" "FlagLaundry") ∈ lw_tbl := lw_at lw_m5 12 rfl
theorem q1107 : (Jvm.Cond.fieldLinkNest "FlagLaundry" (272 : Nat) "FlagLaundry$Flag" "dirt" "I" "FlagLaundry") ∈ lw_tbl := lw_at lw_m5 15 rfl
theorem q1110 : (Jvm.Cond.fieldLinkNest "FlagLaundry" (275 : Nat) "FlagLaundry$Flag" "wet" "I" "FlagLaundry") ∈ lw_tbl := lw_at lw_m5 18 rfl
theorem q1112 : (Jvm.Cond.fieldLinkNest "FlagLaundry" (278 : Nat) "FlagLaundry$Flag" "crease" "I" "FlagLaundry") ∈ lw_tbl := lw_at lw_m5 20 rfl
theorem q1116 : (Jvm.Cond.fieldLinkNest "FlagLaundry" (281 : Nat) "FlagLaundry$Flag" "stains" "I" "FlagLaundry") ∈ lw_tbl := lw_at lw_m5 24 rfl
theorem q1118 : (Jvm.Cond.fieldLinkNest "FlagLaundry" (284 : Nat) "FlagLaundry$Flag" "bleached" "I" "FlagLaundry") ∈ lw_tbl := lw_at lw_m5 26 rfl
theorem q1122 : (Jvm.Cond.fieldLinkNest "FlagLaundry" (287 : Nat) "FlagLaundry$Flag" "place" "LFlagLaundry$Place;" "FlagLaundry") ∈ lw_tbl := lw_at lw_m5 30 rfl
theorem q1151 : (Jvm.Cond.static ({ cls := "FlagLaundry", name := "putBar", desc := "(LFlagLaundry$World;II)I" } : Jvm.MethodName)) ∈ lw_all := lw_g (lw_at lw_m5 59 rfl) rfl
theorem q1152 : (Jvm.Cond.code ({ cls := "FlagLaundry", name := "putBar", desc := "(LFlagLaundry$World;II)I" } : Jvm.MethodName) prog_1_method_8_code (3 : Nat) (Option.some Jvm.ClassFile.FieldType.int)) ∈ lw_all := lw_g (lw_at lw_m5 60 rfl) rfl
theorem q1153 : (Jvm.Cond.methodLink "FlagLaundry" (28 : Nat) ({ cls := "FlagLaundry$World", name := "flagOf", desc := "(I)LFlagLaundry$Flag;" } : Jvm.MethodName)) ∈ lw_all := lw_g (lw_at lw_m5 61 rfl) rfl
theorem q1175 : (Jvm.Cond.classLink "FlagLaundry" (23 : Nat) "FlagLaundry$Test") ∈ lw_all := lw_g (lw_at lw_m5 83 rfl) rfl
theorem q1176 : (Jvm.Cond.static ({ cls := "FlagLaundry", name := "lambda$putBar$0", desc := "(LFlagLaundry$Flag;)Z" } : Jvm.MethodName)) ∈ lw_all := lw_g (lw_at lw_m5 84 rfl) rfl
theorem q1177 : (Jvm.Cond.code ({ cls := "FlagLaundry", name := "lambda$putBar$0", desc := "(LFlagLaundry$Flag;)Z" } : Jvm.MethodName) prog_1_method_99_code (1 : Nat) (Option.some Jvm.ClassFile.FieldType.boolean)) ∈ lw_all := lw_g (lw_at lw_m5 85 rfl) rfl
theorem q1178 : (Jvm.Cond.methodLink "FlagLaundry" (371 : Nat) ({ cls := "FlagLaundry$Flag", name := "isHere", desc := "()Z" } : Jvm.MethodName)) ∈ lw_all := lw_g (lw_at lw_m5 86 rfl) rfl
theorem q1182 : (Jvm.Cond.static ({ cls := "FlagLaundry", name := "lambda$putBar$1", desc := "(LFlagLaundry$World;ILFlagLaundry$Flag;)Z" } : Jvm.MethodName)) ∈ lw_all := lw_g (lw_at lw_m5 90 rfl) rfl
theorem q1183 : (Jvm.Cond.code ({ cls := "FlagLaundry", name := "lambda$putBar$1", desc := "(LFlagLaundry$World;ILFlagLaundry$Flag;)Z" } : Jvm.MethodName) prog_1_method_98_code (3 : Nat) (Option.some Jvm.ClassFile.FieldType.boolean)) ∈ lw_all := lw_g (lw_at lw_m5 91 rfl) rfl
theorem q1184 : (Jvm.Cond.methodLink "FlagLaundry" (44 : Nat) ({ cls := "FlagLaundry$World", name := "within", desc := "(I)I" } : Jvm.MethodName)) ∈ lw_all := lw_g (lw_at lw_m5 92 rfl) rfl
theorem q1206 : (Jvm.Cond.static ({ cls := "FlagLaundry", name := "one", desc := "(Z)I" } : Jvm.MethodName)) ∈ lw_all := lw_g (lw_at lw_m5 114 rfl) rfl
theorem q1207 : (Jvm.Cond.code ({ cls := "FlagLaundry", name := "one", desc := "(Z)I" } : Jvm.MethodName) prog_1_method_2_code (1 : Nat) (Option.some Jvm.ClassFile.FieldType.int)) ∈ lw_all := lw_g (lw_at lw_m5 115 rfl) rfl
theorem q1208 : (Jvm.Cond.methodLink "FlagLaundry" (40 : Nat) ({ cls := "FlagLaundry", name := "first", desc := "(LFlagLaundry$Flag;[LFlagLaundry$Test;)I" } : Jvm.MethodName)) ∈ lw_all := lw_g (lw_at lw_m5 116 rfl) rfl
theorem q1209 : (Jvm.Cond.static ({ cls := "FlagLaundry", name := "first", desc := "(LFlagLaundry$Flag;[LFlagLaundry$Test;)I" } : Jvm.MethodName)) ∈ lw_all := lw_g (lw_at lw_m5 117 rfl) rfl
theorem q1210 : (Jvm.Cond.code ({ cls := "FlagLaundry", name := "first", desc := "(LFlagLaundry$Flag;[LFlagLaundry$Test;)I" } : Jvm.MethodName) prog_1_method_7_code (3 : Nat) (Option.some Jvm.ClassFile.FieldType.int)) ∈ lw_all := lw_g (lw_at lw_m5 118 rfl) rfl
theorem q1211 : (Jvm.Cond.interfaceEntry "FlagLaundry" (22 : Nat)) ∈ lw_tbl := lw_at lw_m5 119 rfl
theorem q1212 : (Jvm.Cond.methodLink "FlagLaundry" (22 : Nat) ({ cls := "FlagLaundry$Test", name := "holds", desc := "(LFlagLaundry$Flag;)Z" } : Jvm.MethodName)) ∈ lw_all := lw_g (lw_at lw_m5 120 rfl) rfl
theorem q1224 : (Jvm.Cond.fieldLinkNest "FlagLaundry" (9 : Nat) "FlagLaundry$InTub" "tub" "I" "FlagLaundry") ∈ lw_tbl := lw_at lw_m5 132 rfl
theorem q1239 : (Jvm.Cond.static ({ cls := "FlagLaundry", name := "washBar", desc := "(LFlagLaundry$World;II)I" } : Jvm.MethodName)) ∈ lw_all := lw_g (lw_at lw_m5 147 rfl) rfl
theorem q1240 : (Jvm.Cond.code ({ cls := "FlagLaundry", name := "washBar", desc := "(LFlagLaundry$World;II)I" } : Jvm.MethodName) prog_1_method_9_code (3 : Nat) (Option.some Jvm.ClassFile.FieldType.int)) ∈ lw_all := lw_g (lw_at lw_m5 148 rfl) rfl
theorem q1241 : (Jvm.Cond.methodLink "FlagLaundry" (47 : Nat) ({ cls := "FlagLaundry$World", name := "bears", desc := "(I)I" } : Jvm.MethodName)) ∈ lw_all := lw_g (lw_at lw_m5 149 rfl) rfl
theorem q1343 : (Jvm.Cond.fieldLinkNest "FlagLaundry" (15 : Nat) "FlagLaundry$OnPeg" "peg" "I" "FlagLaundry") ∈ lw_tbl := lw_at lw_m6 11 rfl
theorem q1362 : (Jvm.Cond.methodLink "FlagLaundry" (181 : Nat) ({ cls := "java/util/ArrayDeque", name := "clear", desc := "()V" } : Jvm.MethodName)) ∈ lw_all := lw_g (lw_at lw_m6 30 rfl) rfl
theorem q1369 : (Jvm.Cond.methodLink "FlagLaundry" (115 : Nat) ({ cls := "FlagLaundry$World", name := "many", desc := "()I" } : Jvm.MethodName)) ∈ lw_all := lw_g (lw_at lw_m6 37 rfl) rfl
theorem q1370 : (Jvm.Cond.classLink "FlagLaundry" (90 : Nat) "java/lang/IllegalArgumentException") ∈ lw_all := lw_g (lw_at lw_m6 38 rfl) rfl
theorem q1371 : (Jvm.Cond.methodLink "FlagLaundry" (92 : Nat) ({ cls := "java/lang/IllegalArgumentException", name := "<init>", desc := "()V" } : Jvm.MethodName)) ∈ lw_all := lw_g (lw_at lw_m6 39 rfl) rfl
theorem q1380 : (Jvm.Cond.instanceMethod ({ cls := "FlagLaundry", name := "count", desc := "(I)I" } : Jvm.MethodName)) ∈ lw_all := lw_g (lw_at lw_m6 48 rfl) rfl
theorem q1381 : (Jvm.Cond.selects "FlagLaundry" ({ cls := "FlagLaundry", name := "count", desc := "(I)I" } : Jvm.MethodName) ({ cls := "FlagLaundry", name := "count", desc := "(I)I" } : Jvm.MethodName)) ∈ lw_all := lw_g (lw_at lw_m6 49 rfl) rfl
theorem q1382 : (Jvm.Cond.code ({ cls := "FlagLaundry", name := "count", desc := "(I)I" } : Jvm.MethodName) prog_1_method_30_code (3 : Nat) (Option.some Jvm.ClassFile.FieldType.int)) ∈ lw_all := lw_g (lw_at lw_m6 50 rfl) rfl
theorem q1383 : (Jvm.Cond.methodLink "FlagLaundry" (111 : Nat) ({ cls := "FlagLaundry", name := "loaded", desc := "()LFlagLaundry$World;" } : Jvm.MethodName)) ∈ lw_all := lw_g (lw_at lw_m6 51 rfl) rfl
theorem q1384 : (Jvm.Cond.privateMethod ({ cls := "FlagLaundry", name := "loaded", desc := "()LFlagLaundry$World;" } : Jvm.MethodName)) ∈ lw_tbl := lw_at lw_m6 52 rfl
theorem q1385 : (Jvm.Cond.instanceMethod ({ cls := "FlagLaundry", name := "loaded", desc := "()LFlagLaundry$World;" } : Jvm.MethodName)) ∈ lw_all := lw_g (lw_at lw_m6 53 rfl) rfl
theorem q1386 : (Jvm.Cond.code ({ cls := "FlagLaundry", name := "loaded", desc := "()LFlagLaundry$World;" } : Jvm.MethodName) prog_1_method_16_code (1 : Nat) (Option.some (Jvm.ClassFile.FieldType.object "FlagLaundry$World"))) ∈ lw_all := lw_g (lw_at lw_m6 54 rfl) rfl
theorem q1387 : (Jvm.Cond.methodLink "FlagLaundry" (107 : Nat) ({ cls := "FlagLaundry", name := "checkState", desc := "(Z)V" } : Jvm.MethodName)) ∈ lw_all := lw_g (lw_at lw_m6 55 rfl) rfl
theorem q1388 : (Jvm.Cond.static ({ cls := "FlagLaundry", name := "checkState", desc := "(Z)V" } : Jvm.MethodName)) ∈ lw_all := lw_g (lw_at lw_m6 56 rfl) rfl
theorem q1389 : (Jvm.Cond.code ({ cls := "FlagLaundry", name := "checkState", desc := "(Z)V" } : Jvm.MethodName) prog_1_method_15_code (1 : Nat) (Option.none : Option Jvm.ClassFile.FieldType)) ∈ lw_all := lw_g (lw_at lw_m6 57 rfl) rfl
theorem q1390 : (Jvm.Cond.classLink "FlagLaundry" (100 : Nat) "java/lang/IllegalStateException") ∈ lw_all := lw_g (lw_at lw_m6 58 rfl) rfl
theorem q1399 : (Jvm.Cond.methodLink "FlagLaundry" (102 : Nat) ({ cls := "java/lang/IllegalStateException", name := "<init>", desc := "()V" } : Jvm.MethodName)) ∈ lw_all := lw_g (lw_at lw_m6 67 rfl) rfl
theorem q1405 : (Jvm.Cond.constantLong "FlagLaundry" (192 : Nat) (15 : Int64)) ∈ lw_all := lw_g (lw_at lw_m6 73 rfl) rfl
theorem q1406 : (Jvm.Cond.methodLink "FlagLaundry" (144 : Nat) ({ cls := "FlagLaundry", name := "checkArgument", desc := "(Z)V" } : Jvm.MethodName)) ∈ lw_all := lw_g (lw_at lw_m6 74 rfl) rfl
theorem q1407 : (Jvm.Cond.static ({ cls := "FlagLaundry", name := "checkArgument", desc := "(Z)V" } : Jvm.MethodName)) ∈ lw_all := lw_g (lw_at lw_m6 75 rfl) rfl
theorem q1408 : (Jvm.Cond.code ({ cls := "FlagLaundry", name := "checkArgument", desc := "(Z)V" } : Jvm.MethodName) prog_1_method_13_code (1 : Nat) (Option.none : Option Jvm.ClassFile.FieldType)) ∈ lw_all := lw_g (lw_at lw_m6 76 rfl) rfl
theorem q1409 : (Jvm.Cond.interfaceEntry "FlagLaundry" (130 : Nat)) ∈ lw_tbl := lw_at lw_m6 77 rfl
theorem q1410 : (Jvm.Cond.methodLink "FlagLaundry" (130 : Nat) ({ cls := "java/util/List", name := "size", desc := "()I" } : Jvm.MethodName)) ∈ lw_all := lw_g (lw_at lw_m6 78 rfl) rfl
theorem q1411 : (Jvm.Cond.methodLink "FlagLaundry" (206 : Nat) ({ cls := "FlagLaundry$World", name := "at", desc := "(I)I" } : Jvm.MethodName)) ∈ lw_all := lw_g (lw_at lw_m6 79 rfl) rfl
theorem q1418 : (Jvm.Cond.static ({ cls := "FlagLaundry", name := "kindOf", desc := "(LFlagLaundry$Place;)I" } : Jvm.MethodName)) ∈ lw_all := lw_g (lw_at lw_m6 86 rfl) rfl
theorem q1419 : (Jvm.Cond.code ({ cls := "FlagLaundry", name := "kindOf", desc := "(LFlagLaundry$Place;)I" } : Jvm.MethodName) prog_1_method_6_code (1 : Nat) (Option.some Jvm.ClassFile.FieldType.int)) ∈ lw_all := lw_g (lw_at lw_m6 87 rfl) rfl
theorem q1420 : (Jvm.Cond.classLink "FlagLaundry" (20 : Nat) "FlagLaundry$Basket") ∈ lw_all := lw_g (lw_at lw_m6 88 rfl) rfl
theorem q1421 : (Jvm.Cond.classLink "FlagLaundry" (7 : Nat) "FlagLaundry$InTub") ∈ lw_all := lw_g (lw_at lw_m6 89 rfl) rfl
theorem q1422 : (Jvm.Cond.classLink "FlagLaundry" (13 : Nat) "FlagLaundry$OnPeg") ∈ lw_all := lw_g (lw_at lw_m6 90 rfl) rfl
theorem q1423 : (Jvm.Cond.methodLink "FlagLaundry" (221 : Nat) ({ cls := "FlagLaundry$World", name := "ready", desc := "()I" } : Jvm.MethodName)) ∈ lw_all := lw_g (lw_at lw_m6 91 rfl) rfl
theorem q1439 : (Jvm.Cond.instanceMethod ({ cls := "FlagLaundry", name := "colour", desc := "(II)I" } : Jvm.MethodName)) ∈ lw_all := lw_g (lw_at lw_m6 107 rfl) rfl
theorem q1440 : (Jvm.Cond.selects "FlagLaundry" ({ cls := "FlagLaundry", name := "colour", desc := "(II)I" } : Jvm.MethodName) ({ cls := "FlagLaundry", name := "colour", desc := "(II)I" } : Jvm.MethodName)) ∈ lw_all := lw_g (lw_at lw_m6 108 rfl) rfl
theorem q1441 : (Jvm.Cond.code ({ cls := "FlagLaundry", name := "colour", desc := "(II)I" } : Jvm.MethodName) prog_1_method_31_code (4 : Nat) (Option.some Jvm.ClassFile.FieldType.int)) ∈ lw_all := lw_g (lw_at lw_m6 109 rfl) rfl
theorem q1442 : (Jvm.Cond.static ({ cls := "FlagLaundry", name := "lambda$colour$9", desc := "(ILFlagLaundry$Flag;)Z" } : Jvm.MethodName)) ∈ lw_all := lw_g (lw_at lw_m6 110 rfl) rfl
theorem q1443 : (Jvm.Cond.code ({ cls := "FlagLaundry", name := "lambda$colour$9", desc := "(ILFlagLaundry$Flag;)Z" } : Jvm.MethodName) prog_1_method_90_code (2 : Nat) (Option.some Jvm.ClassFile.FieldType.boolean)) ∈ lw_all := lw_g (lw_at lw_m6 111 rfl) rfl
theorem q1444 : (Jvm.Cond.methodLink "FlagLaundry" (450 : Nat) ({ cls := "FlagLaundry", name := "has", desc := "(II)Z" } : Jvm.MethodName)) ∈ lw_all := lw_g (lw_at lw_m6 112 rfl) rfl
theorem q1445 : (Jvm.Cond.methodLink "FlagLaundry" (229 : Nat) ({ cls := "FlagLaundry$World", name := "count", desc := "(LFlagLaundry$Test;)I" } : Jvm.MethodName)) ∈ lw_all := lw_g (lw_at lw_m6 113 rfl) rfl
theorem q1446 : (Jvm.Cond.static ({ cls := "FlagLaundry", name := "lambda$colour$10", desc := "(ILFlagLaundry$Flag;)Z" } : Jvm.MethodName)) ∈ lw_all := lw_g (lw_at lw_m6 114 rfl) rfl
theorem q1447 : (Jvm.Cond.code ({ cls := "FlagLaundry", name := "lambda$colour$10", desc := "(ILFlagLaundry$Flag;)Z" } : Jvm.MethodName) prog_1_method_89_code (2 : Nat) (Option.some Jvm.ClassFile.FieldType.boolean)) ∈ lw_all := lw_g (lw_at lw_m6 115 rfl) rfl
theorem q1452 : (Jvm.Cond.instanceMethod ({ cls := "FlagLaundry", name := "nation", desc := "(II)I" } : Jvm.MethodName)) ∈ lw_all := lw_g (lw_at lw_m6 120 rfl) rfl
theorem q1453 : (Jvm.Cond.selects "FlagLaundry" ({ cls := "FlagLaundry", name := "nation", desc := "(II)I" } : Jvm.MethodName) ({ cls := "FlagLaundry", name := "nation", desc := "(II)I" } : Jvm.MethodName)) ∈ lw_all := lw_g (lw_at lw_m6 121 rfl) rfl
theorem q1454 : (Jvm.Cond.code ({ cls := "FlagLaundry", name := "nation", desc := "(II)I" } : Jvm.MethodName) prog_1_method_32_code (4 : Nat) (Option.some Jvm.ClassFile.FieldType.int)) ∈ lw_all := lw_g (lw_at lw_m6 122 rfl) rfl
theorem q1455 : (Jvm.Cond.methodLink "FlagLaundry" (234 : Nat) ({ cls := "FlagLaundry", name := "checkNation", desc := "(I)LFlagLaundry$Nation;" } : Jvm.MethodName)) ∈ lw_all := lw_g (lw_at lw_m6 123 rfl) rfl
theorem q1456 : (Jvm.Cond.privateMethod ({ cls := "FlagLaundry", name := "checkNation", desc := "(I)LFlagLaundry$Nation;" } : Jvm.MethodName)) ∈ lw_tbl := lw_at lw_m6 124 rfl
theorem q1457 : (Jvm.Cond.instanceMethod ({ cls := "FlagLaundry", name := "checkNation", desc := "(I)LFlagLaundry$Nation;" } : Jvm.MethodName)) ∈ lw_all := lw_g (lw_at lw_m6 125 rfl) rfl
theorem q1458 : (Jvm.Cond.code ({ cls := "FlagLaundry", name := "checkNation", desc := "(I)LFlagLaundry$Nation;" } : Jvm.MethodName) prog_1_method_19_code (3 : Nat) (Option.some (Jvm.ClassFile.FieldType.object "FlagLaundry$Nation"))) ∈ lw_all := lw_g (lw_at lw_m6 126 rfl) rfl
theorem q1459 : (Jvm.Cond.methodLink "FlagLaundry" (135 : Nat) ({ cls := "FlagLaundry$World", name := "nation", desc := "(I)LFlagLaundry$Nation;" } : Jvm.MethodName)) ∈ lw_all := lw_g (lw_at lw_m6 127 rfl) rfl
theorem q1464 : (Jvm.Cond.methodLink "FlagLaundry" (248 : Nat) ({ cls := "FlagLaundry$World", name := "flagsOf", desc := "(I)I" } : Jvm.MethodName)) ∈ lw_all := lw_g (lw_at lw_m6 132 rfl) rfl
theorem q1470 : (Jvm.Cond.methodLink "FlagLaundry" (251 : Nat) ({ cls := "FlagLaundry$World", name := "readyOf", desc := "(I)I" } : Jvm.MethodName)) ∈ lw_all := lw_g (lw_at lw_m6 138 rfl) rfl
theorem q1477 : (Jvm.Cond.methodLink "FlagLaundry" (257 : Nat) ({ cls := "FlagLaundry", name := "one", desc := "(Z)I" } : Jvm.MethodName)) ∈ lw_all := lw_g (lw_at lw_m6 145 rfl) rfl
theorem q1478 : (Jvm.Cond.methodLink "FlagLaundry" (261 : Nat) ({ cls := "FlagLaundry$Nation", name := "late", desc := "(I)I" } : Jvm.MethodName)) ∈ lw_all := lw_g (lw_at lw_m6 146 rfl) rfl
theorem q1487 : (Jvm.Cond.instanceMethod ({ cls := "FlagLaundry", name := "flag", desc := "(II)I" } : Jvm.MethodName)) ∈ lw_all := lw_g (lw_at lw_m6 155 rfl) rfl
theorem q1488 : (Jvm.Cond.selects "FlagLaundry" ({ cls := "FlagLaundry", name := "flag", desc := "(II)I" } : Jvm.MethodName) ({ cls := "FlagLaundry", name := "flag", desc := "(II)I" } : Jvm.MethodName)) ∈ lw_all := lw_g (lw_at lw_m6 156 rfl) rfl
theorem q1489 : (Jvm.Cond.code ({ cls := "FlagLaundry", name := "flag", desc := "(II)I" } : Jvm.MethodName) prog_1_method_33_code (4 : Nat) (Option.some Jvm.ClassFile.FieldType.int)) ∈ lw_all := lw_g (lw_at lw_m6 157 rfl) rfl
theorem q1490 : (Jvm.Cond.methodLink "FlagLaundry" (139 : Nat) ({ cls := "FlagLaundry", name := "checkFlag", desc := "(I)LFlagLaundry$Flag;" } : Jvm.MethodName)) ∈ lw_all := lw_g (lw_at lw_m6 158 rfl) rfl
theorem q1491 : (Jvm.Cond.privateMethod ({ cls := "FlagLaundry", name := "checkFlag", desc := "(I)LFlagLaundry$Flag;" } : Jvm.MethodName)) ∈ lw_tbl := lw_at lw_m6 159 rfl
theorem q1492 : (Jvm.Cond.instanceMethod ({ cls := "FlagLaundry", name := "checkFlag", desc := "(I)LFlagLaundry$Flag;" } : Jvm.MethodName)) ∈ lw_all := lw_g (lw_at lw_m6 160 rfl) rfl
theorem q1493 : (Jvm.Cond.code ({ cls := "FlagLaundry", name := "checkFlag", desc := "(I)LFlagLaundry$Flag;" } : Jvm.MethodName) prog_1_method_17_code (3 : Nat) (Option.some (Jvm.ClassFile.FieldType.object "FlagLaundry$Flag"))) ∈ lw_all := lw_g (lw_at lw_m6 161 rfl) rfl
theorem q1494 : (Jvm.Cond.methodLink "FlagLaundry" (291 : Nat) ({ cls := "FlagLaundry", name := "kindOf", desc := "(LFlagLaundry$Place;)I" } : Jvm.MethodName)) ∈ lw_all := lw_g (lw_at lw_m6 162 rfl) rfl
theorem q1495 : (Jvm.Cond.methodLink "FlagLaundry" (295 : Nat) ({ cls := "FlagLaundry", name := "numberOf", desc := "(LFlagLaundry$Place;)I" } : Jvm.MethodName)) ∈ lw_all := lw_g (lw_at lw_m6 163 rfl) rfl
theorem q1496 : (Jvm.Cond.static ({ cls := "FlagLaundry", name := "numberOf", desc := "(LFlagLaundry$Place;)I" } : Jvm.MethodName)) ∈ lw_all := lw_g (lw_at lw_m6 164 rfl) rfl
theorem q1497 : (Jvm.Cond.code ({ cls := "FlagLaundry", name := "numberOf", desc := "(LFlagLaundry$Place;)I" } : Jvm.MethodName) prog_1_method_5_code (3 : Nat) (Option.some Jvm.ClassFile.FieldType.int)) ∈ lw_all := lw_g (lw_at lw_m6 165 rfl) rfl
theorem q1502 : (Jvm.Cond.instanceMethod ({ cls := "FlagLaundry", name := "tub", desc := "(II)I" } : Jvm.MethodName)) ∈ lw_all := lw_g (lw_at lw_m6 170 rfl) rfl
theorem q1503 : (Jvm.Cond.selects "FlagLaundry" ({ cls := "FlagLaundry", name := "tub", desc := "(II)I" } : Jvm.MethodName) ({ cls := "FlagLaundry", name := "tub", desc := "(II)I" } : Jvm.MethodName)) ∈ lw_all := lw_g (lw_at lw_m6 171 rfl) rfl
theorem q1504 : (Jvm.Cond.code ({ cls := "FlagLaundry", name := "tub", desc := "(II)I" } : Jvm.MethodName) prog_1_method_34_code (4 : Nat) (Option.some Jvm.ClassFile.FieldType.int)) ∈ lw_all := lw_g (lw_at lw_m6 172 rfl) rfl
theorem q1505 : (Jvm.Cond.methodLink "FlagLaundry" (147 : Nat) ({ cls := "FlagLaundry", name := "checkTub", desc := "(I)LFlagLaundry$World;" } : Jvm.MethodName)) ∈ lw_all := lw_g (lw_at lw_m6 173 rfl) rfl
theorem q1506 : (Jvm.Cond.privateMethod ({ cls := "FlagLaundry", name := "checkTub", desc := "(I)LFlagLaundry$World;" } : Jvm.MethodName)) ∈ lw_tbl := lw_at lw_m6 174 rfl
theorem q1507 : (Jvm.Cond.instanceMethod ({ cls := "FlagLaundry", name := "checkTub", desc := "(I)LFlagLaundry$World;" } : Jvm.MethodName)) ∈ lw_all := lw_g (lw_at lw_m6 175 rfl) rfl
theorem q1508 : (Jvm.Cond.code ({ cls := "FlagLaundry", name := "checkTub", desc := "(I)LFlagLaundry$World;" } : Jvm.MethodName) prog_1_method_18_code (3 : Nat) (Option.some (Jvm.ClassFile.FieldType.object "FlagLaundry$World"))) ∈ lw_all := lw_g (lw_at lw_m6 176 rfl) rfl
theorem q1509 : (Jvm.Cond.methodLink "FlagLaundry" (301 : Nat) ({ cls := "FlagLaundry$World", name := "dirtIn", desc := "(I)I" } : Jvm.MethodName)) ∈ lw_all := lw_g (lw_at lw_m6 177 rfl) rfl
theorem q1513 : (Jvm.Cond.methodLink "FlagLaundry" (304 : Nat) ({ cls := "FlagLaundry$World", name := "coloursIn", desc := "(I)I" } : Jvm.MethodName)) ∈ lw_all := lw_g (lw_at lw_m6 181 rfl) rfl
theorem q1521 : (Jvm.Cond.instanceMethod ({ cls := "FlagLaundry", name := "inTub", desc := "(II)I" } : Jvm.MethodName)) ∈ lw_all := lw_g (lw_at lw_m6 189 rfl) rfl
theorem q1522 : (Jvm.Cond.selects "FlagLaundry" ({ cls := "FlagLaundry", name := "inTub", desc := "(II)I" } : Jvm.MethodName) ({ cls := "FlagLaundry", name := "inTub", desc := "(II)I" } : Jvm.MethodName)) ∈ lw_all := lw_g (lw_at lw_m6 190 rfl) rfl
theorem q1523 : (Jvm.Cond.code ({ cls := "FlagLaundry", name := "inTub", desc := "(II)I" } : Jvm.MethodName) prog_1_method_35_code (3 : Nat) (Option.some Jvm.ClassFile.FieldType.int)) ∈ lw_all := lw_g (lw_at lw_m6 191 rfl) rfl
theorem q1524 : (Jvm.Cond.methodLink "FlagLaundry" (307 : Nat) ({ cls := "FlagLaundry$World", name := "inTub", desc := "(II)I" } : Jvm.MethodName)) ∈ lw_all := lw_g (lw_at lw_m6 192 rfl) rfl
theorem q1538 : (Jvm.Cond.instanceMethod ({ cls := "FlagLaundry", name := "onPeg", desc := "(I)I" } : Jvm.MethodName)) ∈ lw_all := lw_g (lw_at lw_m6 206 rfl) rfl
theorem q1539 : (Jvm.Cond.selects "FlagLaundry" ({ cls := "FlagLaundry", name := "onPeg", desc := "(I)I" } : Jvm.MethodName) ({ cls := "FlagLaundry", name := "onPeg", desc := "(I)I" } : Jvm.MethodName)) ∈ lw_all := lw_g (lw_at lw_m6 207 rfl) rfl
theorem q1540 : (Jvm.Cond.code ({ cls := "FlagLaundry", name := "onPeg", desc := "(I)I" } : Jvm.MethodName) prog_1_method_36_code (3 : Nat) (Option.some Jvm.ClassFile.FieldType.int)) ∈ lw_all := lw_g (lw_at lw_m6 208 rfl) rfl
theorem q1541 : (Jvm.Cond.methodLink "FlagLaundry" (311 : Nat) ({ cls := "FlagLaundry$World", name := "onPeg", desc := "(I)I" } : Jvm.MethodName)) ∈ lw_all := lw_g (lw_at lw_m6 209 rfl) rfl
theorem q1546 : (Jvm.Cond.instanceMethod ({ cls := "FlagLaundry", name := "freePegs", desc := "()I" } : Jvm.MethodName)) ∈ lw_all := lw_g (lw_at lw_m6 214 rfl) rfl
theorem q1547 : (Jvm.Cond.selects "FlagLaundry" ({ cls := "FlagLaundry", name := "freePegs", desc := "()I" } : Jvm.MethodName) ({ cls := "FlagLaundry", name := "freePegs", desc := "()I" } : Jvm.MethodName)) ∈ lw_all := lw_g (lw_at lw_m6 215 rfl) rfl
theorem q1548 : (Jvm.Cond.code ({ cls := "FlagLaundry", name := "freePegs", desc := "()I" } : Jvm.MethodName) prog_1_method_37_code (2 : Nat) (Option.some Jvm.ClassFile.FieldType.int)) ∈ lw_all := lw_g (lw_at lw_m6 216 rfl) rfl
theorem q1553 : (Jvm.Cond.instanceMethod ({ cls := "FlagLaundry", name := "wettest", desc := "()I" } : Jvm.MethodName)) ∈ lw_all := lw_g (lw_at lw_m6 221 rfl) rfl
theorem q1554 : (Jvm.Cond.selects "FlagLaundry" ({ cls := "FlagLaundry", name := "wettest", desc := "()I" } : Jvm.MethodName) ({ cls := "FlagLaundry", name := "wettest", desc := "()I" } : Jvm.MethodName)) ∈ lw_all := lw_g (lw_at lw_m6 222 rfl) rfl
theorem q1555 : (Jvm.Cond.code ({ cls := "FlagLaundry", name := "wettest", desc := "()I" } : Jvm.MethodName) prog_1_method_38_code (5 : Nat) (Option.some Jvm.ClassFile.FieldType.int)) ∈ lw_all := lw_g (lw_at lw_m6 223 rfl) rfl
theorem q1560 : (Jvm.Cond.instanceMethod ({ cls := "FlagLaundry", name := "gap", desc := "()I" } : Jvm.MethodName)) ∈ lw_all := lw_g (lw_at lw_m6 228 rfl) rfl
theorem q1561 : (Jvm.Cond.selects "FlagLaundry" ({ cls := "FlagLaundry", name := "gap", desc := "()I" } : Jvm.MethodName) ({ cls := "FlagLaundry", name := "gap", desc := "()I" } : Jvm.MethodName)) ∈ lw_all := lw_g (lw_at lw_m6 229 rfl) rfl
theorem q1562 : (Jvm.Cond.code ({ cls := "FlagLaundry", name := "gap", desc := "()I" } : Jvm.MethodName) prog_1_method_39_code (1 : Nat) (Option.some Jvm.ClassFile.FieldType.int)) ∈ lw_all := lw_g (lw_at lw_m6 230 rfl) rfl
theorem q1563 : (Jvm.Cond.methodLink "FlagLaundry" (314 : Nat) ({ cls := "FlagLaundry$World", name := "gap", desc := "()I" } : Jvm.MethodName)) ∈ lw_all := lw_g (lw_at lw_m6 231 rfl) rfl
theorem q1627 : (Jvm.Cond.instanceMethod ({ cls := "FlagLaundry", name := "why", desc := "(I)I" } : Jvm.MethodName)) ∈ lw_all := lw_g (lw_at lw_m7 55 rfl) rfl
theorem q1628 : (Jvm.Cond.selects "FlagLaundry" ({ cls := "FlagLaundry", name := "why", desc := "(I)I" } : Jvm.MethodName) ({ cls := "FlagLaundry", name := "why", desc := "(I)I" } : Jvm.MethodName)) ∈ lw_all := lw_g (lw_at lw_m7 56 rfl) rfl
theorem q1629 : (Jvm.Cond.code ({ cls := "FlagLaundry", name := "why", desc := "(I)I" } : Jvm.MethodName) prog_1_method_40_code (3 : Nat) (Option.some Jvm.ClassFile.FieldType.int)) ∈ lw_all := lw_g (lw_at lw_m7 57 rfl) rfl
theorem q1630 : (Jvm.Cond.methodLink "FlagLaundry" (317 : Nat) ({ cls := "FlagLaundry$World", name := "why", desc := "(LFlagLaundry$Flag;)I" } : Jvm.MethodName)) ∈ lw_all := lw_g (lw_at lw_m7 58 rfl) rfl
theorem q1635 : (Jvm.Cond.instanceMethod ({ cls := "FlagLaundry", name := "reasons", desc := "(I)I" } : Jvm.MethodName)) ∈ lw_all := lw_g (lw_at lw_m7 63 rfl) rfl
theorem q1636 : (Jvm.Cond.selects "FlagLaundry" ({ cls := "FlagLaundry", name := "reasons", desc := "(I)I" } : Jvm.MethodName) ({ cls := "FlagLaundry", name := "reasons", desc := "(I)I" } : Jvm.MethodName)) ∈ lw_all := lw_g (lw_at lw_m7 64 rfl) rfl
theorem q1637 : (Jvm.Cond.code ({ cls := "FlagLaundry", name := "reasons", desc := "(I)I" } : Jvm.MethodName) prog_1_method_41_code (5 : Nat) (Option.some Jvm.ClassFile.FieldType.int)) ∈ lw_all := lw_g (lw_at lw_m7 65 rfl) rfl
theorem q1642 : (Jvm.Cond.instanceMethod ({ cls := "FlagLaundry", name := "culprit", desc := "(I)I" } : Jvm.MethodName)) ∈ lw_all := lw_g (lw_at lw_m7 70 rfl) rfl
theorem q1643 : (Jvm.Cond.selects "FlagLaundry" ({ cls := "FlagLaundry", name := "culprit", desc := "(I)I" } : Jvm.MethodName) ({ cls := "FlagLaundry", name := "culprit", desc := "(I)I" } : Jvm.MethodName)) ∈ lw_all := lw_g (lw_at lw_m7 71 rfl) rfl
theorem q1644 : (Jvm.Cond.code ({ cls := "FlagLaundry", name := "culprit", desc := "(I)I" } : Jvm.MethodName) prog_1_method_42_code (3 : Nat) (Option.some Jvm.ClassFile.FieldType.int)) ∈ lw_all := lw_g (lw_at lw_m7 72 rfl) rfl
theorem q1645 : (Jvm.Cond.methodLink "FlagLaundry" (325 : Nat) ({ cls := "FlagLaundry$World", name := "culprit", desc := "(I)I" } : Jvm.MethodName)) ∈ lw_all := lw_g (lw_at lw_m7 73 rfl) rfl
theorem q1653 : (Jvm.Cond.instanceMethod ({ cls := "FlagLaundry", name := "whyNotPut", desc := "(II)I" } : Jvm.MethodName)) ∈ lw_all := lw_g (lw_at lw_m7 81 rfl) rfl
theorem q1654 : (Jvm.Cond.selects "FlagLaundry" ({ cls := "FlagLaundry", name := "whyNotPut", desc := "(II)I" } : Jvm.MethodName) ({ cls := "FlagLaundry", name := "whyNotPut", desc := "(II)I" } : Jvm.MethodName)) ∈ lw_all := lw_g (lw_at lw_m7 82 rfl) rfl
theorem q1655 : (Jvm.Cond.code ({ cls := "FlagLaundry", name := "whyNotPut", desc := "(II)I" } : Jvm.MethodName) prog_1_method_43_code (4 : Nat) (Option.some Jvm.ClassFile.FieldType.int)) ∈ lw_all := lw_g (lw_at lw_m7 83 rfl) rfl
theorem q1656 : (Jvm.Cond.methodLink "FlagLaundry" (328 : Nat) ({ cls := "FlagLaundry", name := "checkBoth", desc := "(II)LFlagLaundry$Flag;" } : Jvm.MethodName)) ∈ lw_all := lw_g (lw_at lw_m7 84 rfl) rfl
theorem q1657 : (Jvm.Cond.privateMethod ({ cls := "FlagLaundry", name := "checkBoth", desc := "(II)LFlagLaundry$Flag;" } : Jvm.MethodName)) ∈ lw_tbl := lw_at lw_m7 85 rfl
theorem q1658 : (Jvm.Cond.instanceMethod ({ cls := "FlagLaundry", name := "checkBoth", desc := "(II)LFlagLaundry$Flag;" } : Jvm.MethodName)) ∈ lw_all := lw_g (lw_at lw_m7 86 rfl) rfl
theorem q1659 : (Jvm.Cond.code ({ cls := "FlagLaundry", name := "checkBoth", desc := "(II)LFlagLaundry$Flag;" } : Jvm.MethodName) prog_1_method_20_code (4 : Nat) (Option.some (Jvm.ClassFile.FieldType.object "FlagLaundry$Flag"))) ∈ lw_all := lw_g (lw_at lw_m7 87 rfl) rfl
theorem q1660 : (Jvm.Cond.methodLink "FlagLaundry" (332 : Nat) ({ cls := "FlagLaundry", name := "putBar", desc := "(LFlagLaundry$World;II)I" } : Jvm.MethodName)) ∈ lw_all := lw_g (lw_at lw_m7 88 rfl) rfl
theorem q1665 : (Jvm.Cond.instanceMethod ({ cls := "FlagLaundry", name := "whyNotWash", desc := "(II)I" } : Jvm.MethodName)) ∈ lw_all := lw_g (lw_at lw_m7 93 rfl) rfl
theorem q1666 : (Jvm.Cond.selects "FlagLaundry" ({ cls := "FlagLaundry", name := "whyNotWash", desc := "(II)I" } : Jvm.MethodName) ({ cls := "FlagLaundry", name := "whyNotWash", desc := "(II)I" } : Jvm.MethodName)) ∈ lw_all := lw_g (lw_at lw_m7 94 rfl) rfl
theorem q1667 : (Jvm.Cond.code ({ cls := "FlagLaundry", name := "whyNotWash", desc := "(II)I" } : Jvm.MethodName) prog_1_method_44_code (3 : Nat) (Option.some Jvm.ClassFile.FieldType.int)) ∈ lw_all := lw_g (lw_at lw_m7 95 rfl) rfl
theorem q1668 : (Jvm.Cond.methodLink "FlagLaundry" (336 : Nat) ({ cls := "FlagLaundry", name := "checkWash", desc := "(II)LFlagLaundry$World;" } : Jvm.MethodName)) ∈ lw_all := lw_g (lw_at lw_m7 96 rfl) rfl
theorem q1669 : (Jvm.Cond.privateMethod ({ cls := "FlagLaundry", name := "checkWash", desc := "(II)LFlagLaundry$World;" } : Jvm.MethodName)) ∈ lw_tbl := lw_at lw_m7 97 rfl
theorem q1670 : (Jvm.Cond.instanceMethod ({ cls := "FlagLaundry", name := "checkWash", desc := "(II)LFlagLaundry$World;" } : Jvm.MethodName)) ∈ lw_all := lw_g (lw_at lw_m7 98 rfl) rfl
theorem q1671 : (Jvm.Cond.code ({ cls := "FlagLaundry", name := "checkWash", desc := "(II)LFlagLaundry$World;" } : Jvm.MethodName) prog_1_method_22_code (4 : Nat) (Option.some (Jvm.ClassFile.FieldType.object "FlagLaundry$World"))) ∈ lw_all := lw_g (lw_at lw_m7 99 rfl) rfl
theorem q1672 : (Jvm.Cond.methodLink "FlagLaundry" (151 : Nat) ({ cls := "FlagLaundry", name := "checkHeat", desc := "(I)V" } : Jvm.MethodName)) ∈ lw_all := lw_g (lw_at lw_m7 100 rfl) rfl
theorem q1673 : (Jvm.Cond.static ({ cls := "FlagLaundry", name := "checkHeat", desc := "(I)V" } : Jvm.MethodName)) ∈ lw_all := lw_g (lw_at lw_m7 101 rfl) rfl
theorem q1674 : (Jvm.Cond.code ({ cls := "FlagLaundry", name := "checkHeat", desc := "(I)V" } : Jvm.MethodName) prog_1_method_21_code (1 : Nat) (Option.none : Option Jvm.ClassFile.FieldType)) ∈ lw_all := lw_g (lw_at lw_m7 102 rfl) rfl
theorem q1675 : (Jvm.Cond.constantLong "FlagLaundry" (142 : Nat) (3 : Int64)) ∈ lw_all := lw_g (lw_at lw_m7 103 rfl) rfl
theorem q1676 : (Jvm.Cond.methodLink "FlagLaundry" (340 : Nat) ({ cls := "FlagLaundry", name := "washBar", desc := "(LFlagLaundry$World;II)I" } : Jvm.MethodName)) ∈ lw_all := lw_g (lw_at lw_m7 104 rfl) rfl
theorem q1681 : (Jvm.Cond.instanceMethod ({ cls := "FlagLaundry", name := "whyNotIron", desc := "(II)I" } : Jvm.MethodName)) ∈ lw_all := lw_g (lw_at lw_m7 109 rfl) rfl
theorem q1682 : (Jvm.Cond.selects "FlagLaundry" ({ cls := "FlagLaundry", name := "whyNotIron", desc := "(II)I" } : Jvm.MethodName) ({ cls := "FlagLaundry", name := "whyNotIron", desc := "(II)I" } : Jvm.MethodName)) ∈ lw_all := lw_g (lw_at lw_m7 110 rfl) rfl
theorem q1683 : (Jvm.Cond.code ({ cls := "FlagLaundry", name := "whyNotIron", desc := "(II)I" } : Jvm.MethodName) prog_1_method_45_code (3 : Nat) (Option.some Jvm.ClassFile.FieldType.int)) ∈ lw_all := lw_g (lw_at lw_m7 111 rfl) rfl
theorem q1684 : (Jvm.Cond.methodLink "FlagLaundry" (343 : Nat) ({ cls := "FlagLaundry", name := "checkIron", desc := "(II)LFlagLaundry$Flag;" } : Jvm.MethodName)) ∈ lw_all := lw_g (lw_at lw_m7 112 rfl) rfl
theorem q1685 : (Jvm.Cond.privateMethod ({ cls := "FlagLaundry", name := "checkIron", desc := "(II)LFlagLaundry$Flag;" } : Jvm.MethodName)) ∈ lw_tbl := lw_at lw_m7 113 rfl
theorem q1686 : (Jvm.Cond.instanceMethod ({ cls := "FlagLaundry", name := "checkIron", desc := "(II)LFlagLaundry$Flag;" } : Jvm.MethodName)) ∈ lw_all := lw_g (lw_at lw_m7 114 rfl) rfl
theorem q1687 : (Jvm.Cond.code ({ cls := "FlagLaundry", name := "checkIron", desc := "(II)LFlagLaundry$Flag;" } : Jvm.MethodName) prog_1_method_23_code (4 : Nat) (Option.some (Jvm.ClassFile.FieldType.object "FlagLaundry$Flag"))) ∈ lw_all := lw_g (lw_at lw_m7 115 rfl) rfl
theorem q1688 : (Jvm.Cond.methodLink "FlagLaundry" (346 : Nat) ({ cls := "FlagLaundry", name := "ironBar", desc := "(LFlagLaundry$Flag;I)I" } : Jvm.MethodName)) ∈ lw_all := lw_g (lw_at lw_m7 116 rfl) rfl
theorem q1689 : (Jvm.Cond.static ({ cls := "FlagLaundry", name := "ironBar", desc := "(LFlagLaundry$Flag;I)I" } : Jvm.MethodName)) ∈ lw_all := lw_g (lw_at lw_m7 117 rfl) rfl
theorem q1690 : (Jvm.Cond.code ({ cls := "FlagLaundry", name := "ironBar", desc := "(LFlagLaundry$Flag;I)I" } : Jvm.MethodName) prog_1_method_10_code (2 : Nat) (Option.some Jvm.ClassFile.FieldType.int)) ∈ lw_all := lw_g (lw_at lw_m7 118 rfl) rfl
theorem q1691 : (Jvm.Cond.static ({ cls := "FlagLaundry", name := "lambda$ironBar$2", desc := "(LFlagLaundry$Flag;)Z" } : Jvm.MethodName)) ∈ lw_all := lw_g (lw_at lw_m7 119 rfl) rfl
theorem q1692 : (Jvm.Cond.code ({ cls := "FlagLaundry", name := "lambda$ironBar$2", desc := "(LFlagLaundry$Flag;)Z" } : Jvm.MethodName) prog_1_method_97_code (1 : Nat) (Option.some Jvm.ClassFile.FieldType.boolean)) ∈ lw_all := lw_g (lw_at lw_m7 120 rfl) rfl
theorem q1693 : (Jvm.Cond.static ({ cls := "FlagLaundry", name := "lambda$ironBar$3", desc := "(ILFlagLaundry$Flag;)Z" } : Jvm.MethodName)) ∈ lw_all := lw_g (lw_at lw_m7 121 rfl) rfl
theorem q1694 : (Jvm.Cond.code ({ cls := "FlagLaundry", name := "lambda$ironBar$3", desc := "(ILFlagLaundry$Flag;)Z" } : Jvm.MethodName) prog_1_method_96_code (2 : Nat) (Option.some Jvm.ClassFile.FieldType.boolean)) ∈ lw_all := lw_g (lw_at lw_m7 122 rfl) rfl
theorem q1695 : (Jvm.Cond.static ({ cls := "FlagLaundry", name := "lambda$ironBar$4", desc := "(LFlagLaundry$Flag;)Z" } : Jvm.MethodName)) ∈ lw_all := lw_g (lw_at lw_m7 123 rfl) rfl
theorem q1696 : (Jvm.Cond.code ({ cls := "FlagLaundry", name := "lambda$ironBar$4", desc := "(LFlagLaundry$Flag;)Z" } : Jvm.MethodName) prog_1_method_95_code (1 : Nat) (Option.some Jvm.ClassFile.FieldType.boolean)) ∈ lw_all := lw_g (lw_at lw_m7 124 rfl) rfl
theorem q1697 : (Jvm.Cond.static ({ cls := "FlagLaundry", name := "lambda$ironBar$5", desc := "(LFlagLaundry$Flag;)Z" } : Jvm.MethodName)) ∈ lw_all := lw_g (lw_at lw_m7 125 rfl) rfl
theorem q1698 : (Jvm.Cond.code ({ cls := "FlagLaundry", name := "lambda$ironBar$5", desc := "(LFlagLaundry$Flag;)Z" } : Jvm.MethodName) prog_1_method_94_code (1 : Nat) (Option.some Jvm.ClassFile.FieldType.boolean)) ∈ lw_all := lw_g (lw_at lw_m7 126 rfl) rfl
theorem q1703 : (Jvm.Cond.instanceMethod ({ cls := "FlagLaundry", name := "whyNotBleach", desc := "(I)I" } : Jvm.MethodName)) ∈ lw_all := lw_g (lw_at lw_m7 131 rfl) rfl
theorem q1704 : (Jvm.Cond.selects "FlagLaundry" ({ cls := "FlagLaundry", name := "whyNotBleach", desc := "(I)I" } : Jvm.MethodName) ({ cls := "FlagLaundry", name := "whyNotBleach", desc := "(I)I" } : Jvm.MethodName)) ∈ lw_all := lw_g (lw_at lw_m7 132 rfl) rfl
theorem q1705 : (Jvm.Cond.code ({ cls := "FlagLaundry", name := "whyNotBleach", desc := "(I)I" } : Jvm.MethodName) prog_1_method_46_code (2 : Nat) (Option.some Jvm.ClassFile.FieldType.int)) ∈ lw_all := lw_g (lw_at lw_m7 133 rfl) rfl
theorem q1706 : (Jvm.Cond.methodLink "FlagLaundry" (350 : Nat) ({ cls := "FlagLaundry", name := "bleachBar", desc := "(LFlagLaundry$Flag;)I" } : Jvm.MethodName)) ∈ lw_all := lw_g (lw_at lw_m7 134 rfl) rfl
theorem q1707 : (Jvm.Cond.static ({ cls := "FlagLaundry", name := "bleachBar", desc := "(LFlagLaundry$Flag;)I" } : Jvm.MethodName)) ∈ lw_all := lw_g (lw_at lw_m7 135 rfl) rfl
theorem q1708 : (Jvm.Cond.code ({ cls := "FlagLaundry", name := "bleachBar", desc := "(LFlagLaundry$Flag;)I" } : Jvm.MethodName) prog_1_method_11_code (1 : Nat) (Option.some Jvm.ClassFile.FieldType.int)) ∈ lw_all := lw_g (lw_at lw_m7 136 rfl) rfl
theorem q1709 : (Jvm.Cond.static ({ cls := "FlagLaundry", name := "lambda$bleachBar$6", desc := "(LFlagLaundry$Flag;)Z" } : Jvm.MethodName)) ∈ lw_all := lw_g (lw_at lw_m7 137 rfl) rfl
theorem q1710 : (Jvm.Cond.code ({ cls := "FlagLaundry", name := "lambda$bleachBar$6", desc := "(LFlagLaundry$Flag;)Z" } : Jvm.MethodName) prog_1_method_93_code (1 : Nat) (Option.some Jvm.ClassFile.FieldType.boolean)) ∈ lw_all := lw_g (lw_at lw_m7 138 rfl) rfl
theorem q1711 : (Jvm.Cond.static ({ cls := "FlagLaundry", name := "lambda$bleachBar$7", desc := "(LFlagLaundry$Flag;)Z" } : Jvm.MethodName)) ∈ lw_all := lw_g (lw_at lw_m7 139 rfl) rfl
theorem q1712 : (Jvm.Cond.code ({ cls := "FlagLaundry", name := "lambda$bleachBar$7", desc := "(LFlagLaundry$Flag;)Z" } : Jvm.MethodName) prog_1_method_92_code (1 : Nat) (Option.some Jvm.ClassFile.FieldType.boolean)) ∈ lw_all := lw_g (lw_at lw_m7 140 rfl) rfl
theorem q1713 : (Jvm.Cond.static ({ cls := "FlagLaundry", name := "lambda$bleachBar$8", desc := "(LFlagLaundry$Flag;)Z" } : Jvm.MethodName)) ∈ lw_all := lw_g (lw_at lw_m7 141 rfl) rfl
theorem q1714 : (Jvm.Cond.code ({ cls := "FlagLaundry", name := "lambda$bleachBar$8", desc := "(LFlagLaundry$Flag;)Z" } : Jvm.MethodName) prog_1_method_91_code (1 : Nat) (Option.some Jvm.ClassFile.FieldType.boolean)) ∈ lw_all := lw_g (lw_at lw_m7 142 rfl) rfl
theorem q1719 : (Jvm.Cond.instanceMethod ({ cls := "FlagLaundry", name := "running", desc := "(II)I" } : Jvm.MethodName)) ∈ lw_all := lw_g (lw_at lw_m7 147 rfl) rfl
theorem q1720 : (Jvm.Cond.selects "FlagLaundry" ({ cls := "FlagLaundry", name := "running", desc := "(II)I" } : Jvm.MethodName) ({ cls := "FlagLaundry", name := "running", desc := "(II)I" } : Jvm.MethodName)) ∈ lw_all := lw_g (lw_at lw_m7 148 rfl) rfl
theorem q1721 : (Jvm.Cond.code ({ cls := "FlagLaundry", name := "running", desc := "(II)I" } : Jvm.MethodName) prog_1_method_47_code (3 : Nat) (Option.some Jvm.ClassFile.FieldType.int)) ∈ lw_all := lw_g (lw_at lw_m7 149 rfl) rfl
theorem q1722 : (Jvm.Cond.methodLink "FlagLaundry" (353 : Nat) ({ cls := "FlagLaundry$World", name := "running", desc := "(II)I" } : Jvm.MethodName)) ∈ lw_all := lw_g (lw_at lw_m7 150 rfl) rfl
theorem q1727 : (Jvm.Cond.instanceMethod ({ cls := "FlagLaundry", name := "stainedIf", desc := "(II)I" } : Jvm.MethodName)) ∈ lw_all := lw_g (lw_at lw_m7 155 rfl) rfl
theorem q1728 : (Jvm.Cond.selects "FlagLaundry" ({ cls := "FlagLaundry", name := "stainedIf", desc := "(II)I" } : Jvm.MethodName) ({ cls := "FlagLaundry", name := "stainedIf", desc := "(II)I" } : Jvm.MethodName)) ∈ lw_all := lw_g (lw_at lw_m7 156 rfl) rfl
theorem q1729 : (Jvm.Cond.code ({ cls := "FlagLaundry", name := "stainedIf", desc := "(II)I" } : Jvm.MethodName) prog_1_method_48_code (3 : Nat) (Option.some Jvm.ClassFile.FieldType.int)) ∈ lw_all := lw_g (lw_at lw_m7 157 rfl) rfl
theorem q1730 : (Jvm.Cond.methodLink "FlagLaundry" (356 : Nat) ({ cls := "FlagLaundry$World", name := "stainedIf", desc := "(II)I" } : Jvm.MethodName)) ∈ lw_all := lw_g (lw_at lw_m7 158 rfl) rfl
theorem q1741 : (Jvm.Cond.instanceMethod ({ cls := "FlagLaundry", name := "dirtIf", desc := "(II)I" } : Jvm.MethodName)) ∈ lw_all := lw_g (lw_at lw_m7 169 rfl) rfl
theorem q1742 : (Jvm.Cond.selects "FlagLaundry" ({ cls := "FlagLaundry", name := "dirtIf", desc := "(II)I" } : Jvm.MethodName) ({ cls := "FlagLaundry", name := "dirtIf", desc := "(II)I" } : Jvm.MethodName)) ∈ lw_all := lw_g (lw_at lw_m7 170 rfl) rfl
theorem q1743 : (Jvm.Cond.code ({ cls := "FlagLaundry", name := "dirtIf", desc := "(II)I" } : Jvm.MethodName) prog_1_method_49_code (3 : Nat) (Option.some Jvm.ClassFile.FieldType.int)) ∈ lw_all := lw_g (lw_at lw_m7 171 rfl) rfl
theorem q1744 : (Jvm.Cond.methodLink "FlagLaundry" (359 : Nat) ({ cls := "FlagLaundry$World", name := "dirtIf", desc := "(II)I" } : Jvm.MethodName)) ∈ lw_all := lw_g (lw_at lw_m7 172 rfl) rfl
theorem q1753 : (Jvm.Cond.instanceMethod ({ cls := "FlagLaundry", name := "bestHeat", desc := "(I)I" } : Jvm.MethodName)) ∈ lw_all := lw_g (lw_at lw_m7 181 rfl) rfl
theorem q1754 : (Jvm.Cond.selects "FlagLaundry" ({ cls := "FlagLaundry", name := "bestHeat", desc := "(I)I" } : Jvm.MethodName) ({ cls := "FlagLaundry", name := "bestHeat", desc := "(I)I" } : Jvm.MethodName)) ∈ lw_all := lw_g (lw_at lw_m7 182 rfl) rfl
theorem q1755 : (Jvm.Cond.code ({ cls := "FlagLaundry", name := "bestHeat", desc := "(I)I" } : Jvm.MethodName) prog_1_method_50_code (7 : Nat) (Option.some Jvm.ClassFile.FieldType.int)) ∈ lw_all := lw_g (lw_at lw_m7 183 rfl) rfl
theorem q1760 : (Jvm.Cond.instanceMethod ({ cls := "FlagLaundry", name := "firstSafe", desc := "(II)I" } : Jvm.MethodName)) ∈ lw_all := lw_g (lw_at lw_m7 188 rfl) rfl
theorem q1761 : (Jvm.Cond.selects "FlagLaundry" ({ cls := "FlagLaundry", name := "firstSafe", desc := "(II)I" } : Jvm.MethodName) ({ cls := "FlagLaundry", name := "firstSafe", desc := "(II)I" } : Jvm.MethodName)) ∈ lw_all := lw_g (lw_at lw_m7 189 rfl) rfl
theorem q1762 : (Jvm.Cond.code ({ cls := "FlagLaundry", name := "firstSafe", desc := "(II)I" } : Jvm.MethodName) prog_1_method_51_code (8 : Nat) (Option.some Jvm.ClassFile.FieldType.int)) ∈ lw_all := lw_g (lw_at lw_m7 190 rfl) rfl
theorem q1763 : (Jvm.Cond.methodLink "FlagLaundry" (365 : Nat) ({ cls := "FlagLaundry$InTub", name := "<init>", desc := "(II)V" } : Jvm.MethodName)) ∈ lw_all := lw_g (lw_at lw_m7 191 rfl) rfl
theorem q1768 : (Jvm.Cond.instanceMethod ({ cls := "FlagLaundry", name := "doNotMix", desc := "(III)I" } : Jvm.MethodName)) ∈ lw_all := lw_g (lw_at lw_m7 196 rfl) rfl
theorem q1769 : (Jvm.Cond.selects "FlagLaundry" ({ cls := "FlagLaundry", name := "doNotMix", desc := "(III)I" } : Jvm.MethodName) ({ cls := "FlagLaundry", name := "doNotMix", desc := "(III)I" } : Jvm.MethodName)) ∈ lw_all := lw_g (lw_at lw_m7 197 rfl) rfl
theorem q1770 : (Jvm.Cond.code ({ cls := "FlagLaundry", name := "doNotMix", desc := "(III)I" } : Jvm.MethodName) prog_1_method_52_code (6 : Nat) (Option.some Jvm.ClassFile.FieldType.int)) ∈ lw_all := lw_g (lw_at lw_m7 198 rfl) rfl
theorem q1771 : (Jvm.Cond.methodLink "FlagLaundry" (367 : Nat) ({ cls := "FlagLaundry$World", name := "mixes", desc := "(LFlagLaundry$Flag;LFlagLaundry$Flag;I)I" } : Jvm.MethodName)) ∈ lw_all := lw_g (lw_at lw_m7 199 rfl) rfl
theorem q1783 : (Jvm.Cond.instanceMethod ({ cls := "FlagLaundry", name := "groups", desc := "(I)I" } : Jvm.MethodName)) ∈ lw_all := lw_g (lw_at lw_m7 211 rfl) rfl
theorem q1784 : (Jvm.Cond.selects "FlagLaundry" ({ cls := "FlagLaundry", name := "groups", desc := "(I)I" } : Jvm.MethodName) ({ cls := "FlagLaundry", name := "groups", desc := "(I)I" } : Jvm.MethodName)) ∈ lw_all := lw_g (lw_at lw_m7 212 rfl) rfl
theorem q1785 : (Jvm.Cond.code ({ cls := "FlagLaundry", name := "groups", desc := "(I)I" } : Jvm.MethodName) prog_1_method_54_code (8 : Nat) (Option.some Jvm.ClassFile.FieldType.int)) ∈ lw_all := lw_g (lw_at lw_m7 213 rfl) rfl
theorem q1786 : (Jvm.Cond.methodLink "FlagLaundry" (375 : Nat) ({ cls := "FlagLaundry", name := "fits", desc := "(LFlagLaundry$Flag;[III)Z" } : Jvm.MethodName)) ∈ lw_all := lw_g (lw_at lw_m7 214 rfl) rfl
theorem q1787 : (Jvm.Cond.privateMethod ({ cls := "FlagLaundry", name := "fits", desc := "(LFlagLaundry$Flag;[III)Z" } : Jvm.MethodName)) ∈ lw_tbl := lw_at lw_m7 215 rfl
theorem q1788 : (Jvm.Cond.instanceMethod ({ cls := "FlagLaundry", name := "fits", desc := "(LFlagLaundry$Flag;[III)Z" } : Jvm.MethodName)) ∈ lw_all := lw_g (lw_at lw_m7 216 rfl) rfl
theorem q1789 : (Jvm.Cond.code ({ cls := "FlagLaundry", name := "fits", desc := "(LFlagLaundry$Flag;[III)Z" } : Jvm.MethodName) prog_1_method_53_code (6 : Nat) (Option.some Jvm.ClassFile.FieldType.boolean)) ∈ lw_all := lw_g (lw_at lw_m7 217 rfl) rfl
theorem q1790 : (Jvm.Cond.methodLink "FlagLaundry" (379 : Nat) ({ cls := "java/lang/Math", name := "max", desc := "(II)I" } : Jvm.MethodName)) ∈ lw_all := lw_g (lw_at lw_m7 218 rfl) rfl
theorem q1795 : (Jvm.Cond.instanceMethod ({ cls := "FlagLaundry", name := "purest", desc := "(I)I" } : Jvm.MethodName)) ∈ lw_all := lw_g (lw_at lw_m7 223 rfl) rfl
theorem q1796 : (Jvm.Cond.selects "FlagLaundry" ({ cls := "FlagLaundry", name := "purest", desc := "(I)I" } : Jvm.MethodName) ({ cls := "FlagLaundry", name := "purest", desc := "(I)I" } : Jvm.MethodName)) ∈ lw_all := lw_g (lw_at lw_m7 224 rfl) rfl
theorem q1797 : (Jvm.Cond.code ({ cls := "FlagLaundry", name := "purest", desc := "(I)I" } : Jvm.MethodName) prog_1_method_55_code (8 : Nat) (Option.some Jvm.ClassFile.FieldType.int)) ∈ lw_all := lw_g (lw_at lw_m7 225 rfl) rfl
theorem q1798 : (Jvm.Cond.static ({ cls := "FlagLaundry", name := "lambda$purest$11", desc := "(LFlagLaundry$Flag;LFlagLaundry$World;ILFlagLaundry$Flag;)Z" } : Jvm.MethodName)) ∈ lw_all := lw_g (lw_at lw_m7 226 rfl) rfl
theorem q1799 : (Jvm.Cond.code ({ cls := "FlagLaundry", name := "lambda$purest$11", desc := "(LFlagLaundry$Flag;LFlagLaundry$World;ILFlagLaundry$Flag;)Z" } : Jvm.MethodName) prog_1_method_88_code (4 : Nat) (Option.some Jvm.ClassFile.FieldType.boolean)) ∈ lw_all := lw_g (lw_at lw_m7 227 rfl) rfl
theorem q1804 : (Jvm.Cond.instanceMethod ({ cls := "FlagLaundry", name := "washesFor", desc := "(I)I" } : Jvm.MethodName)) ∈ lw_all := lw_g (lw_at lw_m7 232 rfl) rfl
theorem q1805 : (Jvm.Cond.selects "FlagLaundry" ({ cls := "FlagLaundry", name := "washesFor", desc := "(I)I" } : Jvm.MethodName) ({ cls := "FlagLaundry", name := "washesFor", desc := "(I)I" } : Jvm.MethodName)) ∈ lw_all := lw_g (lw_at lw_m7 233 rfl) rfl
theorem q1806 : (Jvm.Cond.code ({ cls := "FlagLaundry", name := "washesFor", desc := "(I)I" } : Jvm.MethodName) prog_1_method_56_code (4 : Nat) (Option.some Jvm.ClassFile.FieldType.int)) ∈ lw_all := lw_g (lw_at lw_m7 234 rfl) rfl
theorem q1807 : (Jvm.Cond.methodLink "FlagLaundry" (387 : Nat) ({ cls := "FlagLaundry$Heat", name := "of", desc := "(I)LFlagLaundry$Heat;" } : Jvm.MethodName)) ∈ lw_all := lw_g (lw_at lw_m7 235 rfl) rfl
theorem q1808 : (Jvm.Cond.methodLink "FlagLaundry" (393 : Nat) ({ cls := "FlagLaundry$Heat", name := "cleans", desc := "()I" } : Jvm.MethodName)) ∈ lw_all := lw_g (lw_at lw_m7 236 rfl) rfl
theorem q1813 : (Jvm.Cond.instanceMethod ({ cls := "FlagLaundry", name := "dryIn", desc := "(I)I" } : Jvm.MethodName)) ∈ lw_all := lw_g (lw_at lw_m8 1 rfl) rfl
theorem q1814 : (Jvm.Cond.selects "FlagLaundry" ({ cls := "FlagLaundry", name := "dryIn", desc := "(I)I" } : Jvm.MethodName) ({ cls := "FlagLaundry", name := "dryIn", desc := "(I)I" } : Jvm.MethodName)) ∈ lw_all := lw_g (lw_at lw_m8 2 rfl) rfl
theorem q1815 : (Jvm.Cond.code ({ cls := "FlagLaundry", name := "dryIn", desc := "(I)I" } : Jvm.MethodName) prog_1_method_58_code (3 : Nat) (Option.some Jvm.ClassFile.FieldType.int)) ∈ lw_all := lw_g (lw_at lw_m8 3 rfl) rfl
theorem q1816 : (Jvm.Cond.methodLink "FlagLaundry" (398 : Nat) ({ cls := "FlagLaundry", name := "dryBy", desc := "(II)I" } : Jvm.MethodName)) ∈ lw_all := lw_g (lw_at lw_m8 4 rfl) rfl
theorem q1817 : (Jvm.Cond.privateMethod ({ cls := "FlagLaundry", name := "dryBy", desc := "(II)I" } : Jvm.MethodName)) ∈ lw_tbl := lw_at lw_m8 5 rfl
theorem q1818 : (Jvm.Cond.instanceMethod ({ cls := "FlagLaundry", name := "dryBy", desc := "(II)I" } : Jvm.MethodName)) ∈ lw_all := lw_g (lw_at lw_m8 6 rfl) rfl
theorem q1819 : (Jvm.Cond.code ({ cls := "FlagLaundry", name := "dryBy", desc := "(II)I" } : Jvm.MethodName) prog_1_method_57_code (7 : Nat) (Option.some Jvm.ClassFile.FieldType.int)) ∈ lw_all := lw_g (lw_at lw_m8 7 rfl) rfl
theorem q1820 : (Jvm.Cond.methodLink "FlagLaundry" (164 : Nat) ({ cls := "FlagLaundry$World", name := "<init>", desc := "(LFlagLaundry$World;)V" } : Jvm.MethodName)) ∈ lw_all := lw_g (lw_at lw_m8 8 rfl) rfl
theorem q1835 : (Jvm.Cond.methodLink "FlagLaundry" (396 : Nat) ({ cls := "FlagLaundry$World", name := "hour", desc := "()I" } : Jvm.MethodName)) ∈ lw_all := lw_g (lw_at lw_m8 23 rfl) rfl
theorem q1840 : (Jvm.Cond.instanceMethod ({ cls := "FlagLaundry", name := "dryByWind", desc := "(II)I" } : Jvm.MethodName)) ∈ lw_all := lw_g (lw_at lw_m8 28 rfl) rfl
theorem q1841 : (Jvm.Cond.selects "FlagLaundry" ({ cls := "FlagLaundry", name := "dryByWind", desc := "(II)I" } : Jvm.MethodName) ({ cls := "FlagLaundry", name := "dryByWind", desc := "(II)I" } : Jvm.MethodName)) ∈ lw_all := lw_g (lw_at lw_m8 29 rfl) rfl
theorem q1842 : (Jvm.Cond.code ({ cls := "FlagLaundry", name := "dryByWind", desc := "(II)I" } : Jvm.MethodName) prog_1_method_59_code (4 : Nat) (Option.some Jvm.ClassFile.FieldType.int)) ∈ lw_all := lw_g (lw_at lw_m8 30 rfl) rfl
theorem q1843 : (Jvm.Cond.constantLong "FlagLaundry" (401 : Nat) (9 : Int64)) ∈ lw_all := lw_g (lw_at lw_m8 31 rfl) rfl
theorem q1848 : (Jvm.Cond.instanceMethod ({ cls := "FlagLaundry", name := "fallsIn", desc := "(I)I" } : Jvm.MethodName)) ∈ lw_all := lw_g (lw_at lw_m8 36 rfl) rfl
theorem q1849 : (Jvm.Cond.selects "FlagLaundry" ({ cls := "FlagLaundry", name := "fallsIn", desc := "(I)I" } : Jvm.MethodName) ({ cls := "FlagLaundry", name := "fallsIn", desc := "(I)I" } : Jvm.MethodName)) ∈ lw_all := lw_g (lw_at lw_m8 37 rfl) rfl
theorem q1850 : (Jvm.Cond.code ({ cls := "FlagLaundry", name := "fallsIn", desc := "(I)I" } : Jvm.MethodName) prog_1_method_60_code (3 : Nat) (Option.some Jvm.ClassFile.FieldType.int)) ∈ lw_all := lw_g (lw_at lw_m8 38 rfl) rfl
theorem q1851 : (Jvm.Cond.constantLong "FlagLaundry" (403 : Nat) (99 : Int64)) ∈ lw_all := lw_g (lw_at lw_m8 39 rfl) rfl
theorem q1852 : (Jvm.Cond.methodLink "FlagLaundry" (405 : Nat) ({ cls := "FlagLaundry$World", name := "passes", desc := "(I)I" } : Jvm.MethodName)) ∈ lw_all := lw_g (lw_at lw_m8 40 rfl) rfl
theorem q1857 : (Jvm.Cond.instanceMethod ({ cls := "FlagLaundry", name := "payIf", desc := "(II)I" } : Jvm.MethodName)) ∈ lw_all := lw_g (lw_at lw_m8 45 rfl) rfl
theorem q1858 : (Jvm.Cond.selects "FlagLaundry" ({ cls := "FlagLaundry", name := "payIf", desc := "(II)I" } : Jvm.MethodName) ({ cls := "FlagLaundry", name := "payIf", desc := "(II)I" } : Jvm.MethodName)) ∈ lw_all := lw_g (lw_at lw_m8 46 rfl) rfl
theorem q1859 : (Jvm.Cond.code ({ cls := "FlagLaundry", name := "payIf", desc := "(II)I" } : Jvm.MethodName) prog_1_method_61_code (4 : Nat) (Option.some Jvm.ClassFile.FieldType.int)) ∈ lw_all := lw_g (lw_at lw_m8 47 rfl) rfl
theorem q1860 : (Jvm.Cond.methodLink "FlagLaundry" (408 : Nat) ({ cls := "FlagLaundry$Nation", name := "pays", desc := "(I)I" } : Jvm.MethodName)) ∈ lw_all := lw_g (lw_at lw_m8 48 rfl) rfl
theorem q1869 : (Jvm.Cond.instanceMethod ({ cls := "FlagLaundry", name := "latest", desc := "(I)I" } : Jvm.MethodName)) ∈ lw_all := lw_g (lw_at lw_m8 57 rfl) rfl
theorem q1870 : (Jvm.Cond.selects "FlagLaundry" ({ cls := "FlagLaundry", name := "latest", desc := "(I)I" } : Jvm.MethodName) ({ cls := "FlagLaundry", name := "latest", desc := "(I)I" } : Jvm.MethodName)) ∈ lw_all := lw_g (lw_at lw_m8 58 rfl) rfl
theorem q1871 : (Jvm.Cond.code ({ cls := "FlagLaundry", name := "latest", desc := "(I)I" } : Jvm.MethodName) prog_1_method_62_code (4 : Nat) (Option.some Jvm.ClassFile.FieldType.int)) ∈ lw_all := lw_g (lw_at lw_m8 59 rfl) rfl
theorem q1876 : (Jvm.Cond.instanceMethod ({ cls := "FlagLaundry", name := "dearest", desc := "()I" } : Jvm.MethodName)) ∈ lw_all := lw_g (lw_at lw_m8 64 rfl) rfl
theorem q1877 : (Jvm.Cond.selects "FlagLaundry" ({ cls := "FlagLaundry", name := "dearest", desc := "()I" } : Jvm.MethodName) ({ cls := "FlagLaundry", name := "dearest", desc := "()I" } : Jvm.MethodName)) ∈ lw_all := lw_g (lw_at lw_m8 65 rfl) rfl
theorem q1878 : (Jvm.Cond.code ({ cls := "FlagLaundry", name := "dearest", desc := "()I" } : Jvm.MethodName) prog_1_method_63_code (7 : Nat) (Option.some Jvm.ClassFile.FieldType.int)) ∈ lw_all := lw_g (lw_at lw_m8 66 rfl) rfl
theorem q1883 : (Jvm.Cond.instanceMethod ({ cls := "FlagLaundry", name := "ironsFor", desc := "(II)I" } : Jvm.MethodName)) ∈ lw_all := lw_g (lw_at lw_m8 71 rfl) rfl
theorem q1884 : (Jvm.Cond.selects "FlagLaundry" ({ cls := "FlagLaundry", name := "ironsFor", desc := "(II)I" } : Jvm.MethodName) ({ cls := "FlagLaundry", name := "ironsFor", desc := "(II)I" } : Jvm.MethodName)) ∈ lw_all := lw_g (lw_at lw_m8 72 rfl) rfl
theorem q1885 : (Jvm.Cond.code ({ cls := "FlagLaundry", name := "ironsFor", desc := "(II)I" } : Jvm.MethodName) prog_1_method_64_code (7 : Nat) (Option.some Jvm.ClassFile.FieldType.int)) ∈ lw_all := lw_g (lw_at lw_m8 73 rfl) rfl
theorem q1886 : (Jvm.Cond.classLink "FlagLaundry" (265 : Nat) "FlagLaundry$Flag") ∈ lw_all := lw_g (lw_at lw_m8 74 rfl) rfl
theorem q1887 : (Jvm.Cond.methodLink "FlagLaundry" (411 : Nat) ({ cls := "FlagLaundry$Flag", name := "<init>", desc := "(LFlagLaundry$Flag;)V" } : Jvm.MethodName)) ∈ lw_all := lw_g (lw_at lw_m8 75 rfl) rfl
theorem q1888 : (Jvm.Cond.methodLink "FlagLaundry" (414 : Nat) ({ cls := "FlagLaundry$World", name := "irons", desc := "(LFlagLaundry$Flag;I)I" } : Jvm.MethodName)) ∈ lw_all := lw_g (lw_at lw_m8 76 rfl) rfl
theorem q1905 : (Jvm.Cond.instanceMethod ({ cls := "FlagLaundry", name := "readyShare", desc := "()F" } : Jvm.MethodName)) ∈ lw_all := lw_g (lw_at lw_m8 93 rfl) rfl
theorem q1906 : (Jvm.Cond.selects "FlagLaundry" ({ cls := "FlagLaundry", name := "readyShare", desc := "()F" } : Jvm.MethodName) ({ cls := "FlagLaundry", name := "readyShare", desc := "()F" } : Jvm.MethodName)) ∈ lw_all := lw_g (lw_at lw_m8 94 rfl) rfl
theorem q1907 : (Jvm.Cond.code ({ cls := "FlagLaundry", name := "readyShare", desc := "()F" } : Jvm.MethodName) prog_1_method_65_code (2 : Nat) (Option.some Jvm.ClassFile.FieldType.float)) ∈ lw_all := lw_g (lw_at lw_m8 95 rfl) rfl
theorem q1912 : (Jvm.Cond.instanceMethod ({ cls := "FlagLaundry", name := "meanDirt", desc := "()D" } : Jvm.MethodName)) ∈ lw_all := lw_g (lw_at lw_m8 100 rfl) rfl
theorem q1913 : (Jvm.Cond.selects "FlagLaundry" ({ cls := "FlagLaundry", name := "meanDirt", desc := "()D" } : Jvm.MethodName) ({ cls := "FlagLaundry", name := "meanDirt", desc := "()D" } : Jvm.MethodName)) ∈ lw_all := lw_g (lw_at lw_m8 101 rfl) rfl
theorem q1914 : (Jvm.Cond.code ({ cls := "FlagLaundry", name := "meanDirt", desc := "()D" } : Jvm.MethodName) prog_1_method_66_code (5 : Nat) (Option.some Jvm.ClassFile.FieldType.double)) ∈ lw_all := lw_g (lw_at lw_m8 102 rfl) rfl
theorem q1915 : (Jvm.Cond.interfaceEntry "FlagLaundry" (420 : Nat)) ∈ lw_tbl := lw_at lw_m8 103 rfl
theorem q1916 : (Jvm.Cond.methodLink "FlagLaundry" (420 : Nat) ({ cls := "java/util/List", name := "iterator", desc := "()Ljava/util/Iterator;" } : Jvm.MethodName)) ∈ lw_all := lw_g (lw_at lw_m8 104 rfl) rfl
theorem q1917 : (Jvm.Cond.interfaceEntry "FlagLaundry" (424 : Nat)) ∈ lw_tbl := lw_at lw_m8 105 rfl
theorem q1918 : (Jvm.Cond.methodLink "FlagLaundry" (424 : Nat) ({ cls := "java/util/Iterator", name := "hasNext", desc := "()Z" } : Jvm.MethodName)) ∈ lw_all := lw_g (lw_at lw_m8 106 rfl) rfl
theorem q1919 : (Jvm.Cond.interfaceEntry "FlagLaundry" (429 : Nat)) ∈ lw_tbl := lw_at lw_m8 107 rfl
theorem q1920 : (Jvm.Cond.methodLink "FlagLaundry" (429 : Nat) ({ cls := "java/util/Iterator", name := "next", desc := "()Ljava/lang/Object;" } : Jvm.MethodName)) ∈ lw_all := lw_g (lw_at lw_m8 108 rfl) rfl
theorem q1925 : (Jvm.Cond.instanceMethod ({ cls := "FlagLaundry", name := "writeFlag", desc := "(I)I" } : Jvm.MethodName)) ∈ lw_all := lw_g (lw_at lw_m8 113 rfl) rfl
theorem q1926 : (Jvm.Cond.selects "FlagLaundry" ({ cls := "FlagLaundry", name := "writeFlag", desc := "(I)I" } : Jvm.MethodName) ({ cls := "FlagLaundry", name := "writeFlag", desc := "(I)I" } : Jvm.MethodName)) ∈ lw_all := lw_g (lw_at lw_m8 114 rfl) rfl
theorem q1927 : (Jvm.Cond.code ({ cls := "FlagLaundry", name := "writeFlag", desc := "(I)I" } : Jvm.MethodName) prog_1_method_67_code (4 : Nat) (Option.some Jvm.ClassFile.FieldType.int)) ∈ lw_all := lw_g (lw_at lw_m8 115 rfl) rfl
theorem q1928 : (Jvm.Cond.methodLink "FlagLaundry" (432 : Nat) ({ cls := "java/lang/StringBuilder", name := "setLength", desc := "(I)V" } : Jvm.MethodName)) ∈ lw_all := lw_g (lw_at lw_m8 116 rfl) rfl
theorem q1980 : (Jvm.Cond.stringRef "FlagLaundry" (435 : Nat) "btlg") ∈ lw_tbl := lw_at lw_m8 168 rfl
theorem q1981 : (Jvm.Cond.methodLink "FlagLaundry" (437 : Nat) ({ cls := "java/lang/String", name := "charAt", desc := "(I)C" } : Jvm.MethodName)) ∈ lw_all := lw_g (lw_at lw_m8 169 rfl) rfl
theorem q1992 : (Jvm.Cond.methodLink "FlagLaundry" (443 : Nat) ({ cls := "java/lang/StringBuilder", name := "append", desc := "(C)Ljava/lang/StringBuilder;" } : Jvm.MethodName)) ∈ lw_all := lw_g (lw_at lw_m8 180 rfl) rfl
theorem q1993 : (Jvm.Cond.methodLink "FlagLaundry" (447 : Nat) ({ cls := "java/lang/StringBuilder", name := "append", desc := "(I)Ljava/lang/StringBuilder;" } : Jvm.MethodName)) ∈ lw_all := lw_g (lw_at lw_m8 181 rfl) rfl
theorem q1994 : (Jvm.Cond.methodLink "FlagLaundry" (454 : Nat) ({ cls := "java/lang/StringBuilder", name := "length", desc := "()I" } : Jvm.MethodName)) ∈ lw_all := lw_g (lw_at lw_m8 182 rfl) rfl
theorem q1999 : (Jvm.Cond.instanceMethod ({ cls := "FlagLaundry", name := "writeTub", desc := "(I)I" } : Jvm.MethodName)) ∈ lw_all := lw_g (lw_at lw_m8 187 rfl) rfl
theorem q2000 : (Jvm.Cond.selects "FlagLaundry" ({ cls := "FlagLaundry", name := "writeTub", desc := "(I)I" } : Jvm.MethodName) ({ cls := "FlagLaundry", name := "writeTub", desc := "(I)I" } : Jvm.MethodName)) ∈ lw_all := lw_g (lw_at lw_m8 188 rfl) rfl
theorem q2001 : (Jvm.Cond.code ({ cls := "FlagLaundry", name := "writeTub", desc := "(I)I" } : Jvm.MethodName) prog_1_method_68_code (4 : Nat) (Option.some Jvm.ClassFile.FieldType.int)) ∈ lw_all := lw_g (lw_at lw_m8 189 rfl) rfl
theorem q2006 : (Jvm.Cond.instanceMethod ({ cls := "FlagLaundry", name := "writeNation", desc := "(I)I" } : Jvm.MethodName)) ∈ lw_all := lw_g (lw_at lw_m8 194 rfl) rfl
theorem q2007 : (Jvm.Cond.selects "FlagLaundry" ({ cls := "FlagLaundry", name := "writeNation", desc := "(I)I" } : Jvm.MethodName) ({ cls := "FlagLaundry", name := "writeNation", desc := "(I)I" } : Jvm.MethodName)) ∈ lw_all := lw_g (lw_at lw_m8 195 rfl) rfl
theorem q2008 : (Jvm.Cond.code ({ cls := "FlagLaundry", name := "writeNation", desc := "(I)I" } : Jvm.MethodName) prog_1_method_69_code (4 : Nat) (Option.some Jvm.ClassFile.FieldType.int)) ∈ lw_all := lw_g (lw_at lw_m8 196 rfl) rfl
theorem q2013 : (Jvm.Cond.instanceMethod ({ cls := "FlagLaundry", name := "writeLine", desc := "()I" } : Jvm.MethodName)) ∈ lw_all := lw_g (lw_at lw_m8 201 rfl) rfl
theorem q2014 : (Jvm.Cond.selects "FlagLaundry" ({ cls := "FlagLaundry", name := "writeLine", desc := "()I" } : Jvm.MethodName) ({ cls := "FlagLaundry", name := "writeLine", desc := "()I" } : Jvm.MethodName)) ∈ lw_all := lw_g (lw_at lw_m8 202 rfl) rfl
theorem q2015 : (Jvm.Cond.code ({ cls := "FlagLaundry", name := "writeLine", desc := "()I" } : Jvm.MethodName) prog_1_method_70_code (4 : Nat) (Option.some Jvm.ClassFile.FieldType.int)) ∈ lw_all := lw_g (lw_at lw_m8 203 rfl) rfl
theorem q2020 : (Jvm.Cond.instanceMethod ({ cls := "FlagLaundry", name := "textByte", desc := "(I)I" } : Jvm.MethodName)) ∈ lw_all := lw_g (lw_at lw_m8 208 rfl) rfl
theorem q2021 : (Jvm.Cond.selects "FlagLaundry" ({ cls := "FlagLaundry", name := "textByte", desc := "(I)I" } : Jvm.MethodName) ({ cls := "FlagLaundry", name := "textByte", desc := "(I)I" } : Jvm.MethodName)) ∈ lw_all := lw_g (lw_at lw_m8 209 rfl) rfl
theorem q2022 : (Jvm.Cond.code ({ cls := "FlagLaundry", name := "textByte", desc := "(I)I" } : Jvm.MethodName) prog_1_method_71_code (2 : Nat) (Option.some Jvm.ClassFile.FieldType.int)) ∈ lw_all := lw_g (lw_at lw_m8 210 rfl) rfl
theorem q2023 : (Jvm.Cond.methodLink "FlagLaundry" (457 : Nat) ({ cls := "java/lang/StringBuilder", name := "charAt", desc := "(I)C" } : Jvm.MethodName)) ∈ lw_all := lw_g (lw_at lw_m8 211 rfl) rfl
theorem q2037 : (Jvm.Cond.instanceMethod ({ cls := "FlagLaundry", name := "put", desc := "(II)I" } : Jvm.MethodName)) ∈ lw_all := lw_g (lw_at lw_m8 225 rfl) rfl
theorem q2038 : (Jvm.Cond.selects "FlagLaundry" ({ cls := "FlagLaundry", name := "put", desc := "(II)I" } : Jvm.MethodName) ({ cls := "FlagLaundry", name := "put", desc := "(II)I" } : Jvm.MethodName)) ∈ lw_all := lw_g (lw_at lw_m8 226 rfl) rfl
theorem q2039 : (Jvm.Cond.code ({ cls := "FlagLaundry", name := "put", desc := "(II)I" } : Jvm.MethodName) prog_1_method_72_code (4 : Nat) (Option.some Jvm.ClassFile.FieldType.int)) ∈ lw_all := lw_g (lw_at lw_m8 227 rfl) rfl
theorem q2040 : (Jvm.Cond.methodLink "FlagLaundry" (458 : Nat) ({ cls := "FlagLaundry", name := "changed", desc := "()LFlagLaundry$World;" } : Jvm.MethodName)) ∈ lw_all := lw_g (lw_at lw_m8 228 rfl) rfl
theorem q2041 : (Jvm.Cond.privateMethod ({ cls := "FlagLaundry", name := "changed", desc := "()LFlagLaundry$World;" } : Jvm.MethodName)) ∈ lw_tbl := lw_at lw_m8 229 rfl
theorem q2042 : (Jvm.Cond.instanceMethod ({ cls := "FlagLaundry", name := "changed", desc := "()LFlagLaundry$World;" } : Jvm.MethodName)) ∈ lw_all := lw_g (lw_at lw_m8 230 rfl) rfl
theorem q2043 : (Jvm.Cond.code ({ cls := "FlagLaundry", name := "changed", desc := "()LFlagLaundry$World;" } : Jvm.MethodName) prog_1_method_24_code (1 : Nat) (Option.some (Jvm.ClassFile.FieldType.object "FlagLaundry$World"))) ∈ lw_all := lw_g (lw_at lw_m8 231 rfl) rfl
theorem q2044 : (Jvm.Cond.methodLink "FlagLaundry" (156 : Nat) ({ cls := "java/util/ArrayDeque", name := "removeFirst", desc := "()Ljava/lang/Object;" } : Jvm.MethodName)) ∈ lw_all := lw_g (lw_at lw_m8 232 rfl) rfl
theorem q2058 : (Jvm.Cond.methodLink "FlagLaundry" (160 : Nat) ({ cls := "java/util/ArrayDeque", name := "addLast", desc := "(Ljava/lang/Object;)V" } : Jvm.MethodName)) ∈ lw_all := lw_g (lw_at lw_m9 6 rfl) rfl
theorem q2080 : (Jvm.Cond.methodLink "FlagLaundry" (461 : Nat) ({ cls := "FlagLaundry$World", name := "puts", desc := "(II)I" } : Jvm.MethodName)) ∈ lw_all := lw_g (lw_at lw_m9 28 rfl) rfl
theorem q2085 : (Jvm.Cond.instanceMethod ({ cls := "FlagLaundry", name := "wash", desc := "(II)I" } : Jvm.MethodName)) ∈ lw_all := lw_g (lw_at lw_m9 33 rfl) rfl
theorem q2086 : (Jvm.Cond.selects "FlagLaundry" ({ cls := "FlagLaundry", name := "wash", desc := "(II)I" } : Jvm.MethodName) ({ cls := "FlagLaundry", name := "wash", desc := "(II)I" } : Jvm.MethodName)) ∈ lw_all := lw_g (lw_at lw_m9 34 rfl) rfl
theorem q2087 : (Jvm.Cond.code ({ cls := "FlagLaundry", name := "wash", desc := "(II)I" } : Jvm.MethodName) prog_1_method_73_code (3 : Nat) (Option.some Jvm.ClassFile.FieldType.int)) ∈ lw_all := lw_g (lw_at lw_m9 35 rfl) rfl
theorem q2088 : (Jvm.Cond.methodLink "FlagLaundry" (463 : Nat) ({ cls := "FlagLaundry$World", name := "washes", desc := "(II)I" } : Jvm.MethodName)) ∈ lw_all := lw_g (lw_at lw_m9 36 rfl) rfl
theorem q2093 : (Jvm.Cond.instanceMethod ({ cls := "FlagLaundry", name := "hang", desc := "(I)I" } : Jvm.MethodName)) ∈ lw_all := lw_g (lw_at lw_m9 41 rfl) rfl
theorem q2094 : (Jvm.Cond.selects "FlagLaundry" ({ cls := "FlagLaundry", name := "hang", desc := "(I)I" } : Jvm.MethodName) ({ cls := "FlagLaundry", name := "hang", desc := "(I)I" } : Jvm.MethodName)) ∈ lw_all := lw_g (lw_at lw_m9 42 rfl) rfl
theorem q2095 : (Jvm.Cond.code ({ cls := "FlagLaundry", name := "hang", desc := "(I)I" } : Jvm.MethodName) prog_1_method_74_code (4 : Nat) (Option.some Jvm.ClassFile.FieldType.int)) ∈ lw_all := lw_g (lw_at lw_m9 43 rfl) rfl
theorem q2096 : (Jvm.Cond.methodLink "FlagLaundry" (465 : Nat) ({ cls := "FlagLaundry$World", name := "freePeg", desc := "()I" } : Jvm.MethodName)) ∈ lw_all := lw_g (lw_at lw_m9 44 rfl) rfl
theorem q2097 : (Jvm.Cond.methodLink "FlagLaundry" (468 : Nat) ({ cls := "FlagLaundry$OnPeg", name := "<init>", desc := "(I)V" } : Jvm.MethodName)) ∈ lw_all := lw_g (lw_at lw_m9 45 rfl) rfl
theorem q2102 : (Jvm.Cond.instanceMethod ({ cls := "FlagLaundry", name := "hangAll", desc := "()I" } : Jvm.MethodName)) ∈ lw_all := lw_g (lw_at lw_m9 50 rfl) rfl
theorem q2103 : (Jvm.Cond.selects "FlagLaundry" ({ cls := "FlagLaundry", name := "hangAll", desc := "()I" } : Jvm.MethodName) ({ cls := "FlagLaundry", name := "hangAll", desc := "()I" } : Jvm.MethodName)) ∈ lw_all := lw_g (lw_at lw_m9 51 rfl) rfl
theorem q2104 : (Jvm.Cond.code ({ cls := "FlagLaundry", name := "hangAll", desc := "()I" } : Jvm.MethodName) prog_1_method_75_code (6 : Nat) (Option.some Jvm.ClassFile.FieldType.int)) ∈ lw_all := lw_g (lw_at lw_m9 52 rfl) rfl
theorem q2109 : (Jvm.Cond.instanceMethod ({ cls := "FlagLaundry", name := "takeDown", desc := "(I)I" } : Jvm.MethodName)) ∈ lw_all := lw_g (lw_at lw_m9 57 rfl) rfl
theorem q2110 : (Jvm.Cond.selects "FlagLaundry" ({ cls := "FlagLaundry", name := "takeDown", desc := "(I)I" } : Jvm.MethodName) ({ cls := "FlagLaundry", name := "takeDown", desc := "(I)I" } : Jvm.MethodName)) ∈ lw_all := lw_g (lw_at lw_m9 58 rfl) rfl
theorem q2111 : (Jvm.Cond.code ({ cls := "FlagLaundry", name := "takeDown", desc := "(I)I" } : Jvm.MethodName) prog_1_method_76_code (3 : Nat) (Option.some Jvm.ClassFile.FieldType.int)) ∈ lw_all := lw_g (lw_at lw_m9 59 rfl) rfl
theorem q2112 : (Jvm.Cond.methodLinkNest "FlagLaundry" (470 : Nat) ({ cls := "FlagLaundry$Basket", name := "<init>", desc := "()V" } : Jvm.MethodName) "FlagLaundry") ∈ lw_tbl := lw_at lw_m9 60 rfl
theorem q2117 : (Jvm.Cond.instanceMethod ({ cls := "FlagLaundry", name := "clearTub", desc := "(I)I" } : Jvm.MethodName)) ∈ lw_all := lw_g (lw_at lw_m9 65 rfl) rfl
theorem q2118 : (Jvm.Cond.selects "FlagLaundry" ({ cls := "FlagLaundry", name := "clearTub", desc := "(I)I" } : Jvm.MethodName) ({ cls := "FlagLaundry", name := "clearTub", desc := "(I)I" } : Jvm.MethodName)) ∈ lw_all := lw_g (lw_at lw_m9 66 rfl) rfl
theorem q2119 : (Jvm.Cond.code ({ cls := "FlagLaundry", name := "clearTub", desc := "(I)I" } : Jvm.MethodName) prog_1_method_77_code (6 : Nat) (Option.some Jvm.ClassFile.FieldType.int)) ∈ lw_all := lw_g (lw_at lw_m9 67 rfl) rfl
theorem q2120 : (Jvm.Cond.methodLink "FlagLaundry" (471 : Nat) ({ cls := "FlagLaundry$Flag", name := "isIn", desc := "(I)Z" } : Jvm.MethodName)) ∈ lw_all := lw_g (lw_at lw_m9 68 rfl) rfl
theorem q2125 : (Jvm.Cond.instanceMethod ({ cls := "FlagLaundry", name := "iron", desc := "(II)I" } : Jvm.MethodName)) ∈ lw_all := lw_g (lw_at lw_m9 73 rfl) rfl
theorem q2126 : (Jvm.Cond.selects "FlagLaundry" ({ cls := "FlagLaundry", name := "iron", desc := "(II)I" } : Jvm.MethodName) ({ cls := "FlagLaundry", name := "iron", desc := "(II)I" } : Jvm.MethodName)) ∈ lw_all := lw_g (lw_at lw_m9 74 rfl) rfl
theorem q2127 : (Jvm.Cond.code ({ cls := "FlagLaundry", name := "iron", desc := "(II)I" } : Jvm.MethodName) prog_1_method_78_code (4 : Nat) (Option.some Jvm.ClassFile.FieldType.int)) ∈ lw_all := lw_g (lw_at lw_m9 75 rfl) rfl
theorem q2132 : (Jvm.Cond.instanceMethod ({ cls := "FlagLaundry", name := "bleach", desc := "(I)I" } : Jvm.MethodName)) ∈ lw_all := lw_g (lw_at lw_m9 80 rfl) rfl
theorem q2133 : (Jvm.Cond.selects "FlagLaundry" ({ cls := "FlagLaundry", name := "bleach", desc := "(I)I" } : Jvm.MethodName) ({ cls := "FlagLaundry", name := "bleach", desc := "(I)I" } : Jvm.MethodName)) ∈ lw_all := lw_g (lw_at lw_m9 81 rfl) rfl
theorem q2134 : (Jvm.Cond.code ({ cls := "FlagLaundry", name := "bleach", desc := "(I)I" } : Jvm.MethodName) prog_1_method_79_code (4 : Nat) (Option.some Jvm.ClassFile.FieldType.int)) ∈ lw_all := lw_g (lw_at lw_m9 82 rfl) rfl
theorem q2135 : (Jvm.Cond.methodLink "FlagLaundry" (475 : Nat) ({ cls := "FlagLaundry", name := "size", desc := "(I)I" } : Jvm.MethodName)) ∈ lw_all := lw_g (lw_at lw_m9 83 rfl) rfl
theorem q2136 : (Jvm.Cond.static ({ cls := "FlagLaundry", name := "size", desc := "(I)I" } : Jvm.MethodName)) ∈ lw_all := lw_g (lw_at lw_m9 84 rfl) rfl
theorem q2137 : (Jvm.Cond.code ({ cls := "FlagLaundry", name := "size", desc := "(I)I" } : Jvm.MethodName) prog_1_method_4_code (1 : Nat) (Option.some Jvm.ClassFile.FieldType.int)) ∈ lw_all := lw_g (lw_at lw_m9 85 rfl) rfl
theorem q2138 : (Jvm.Cond.methodLink "FlagLaundry" (1 : Nat) ({ cls := "java/lang/Integer", name := "bitCount", desc := "(I)I" } : Jvm.MethodName)) ∈ lw_all := lw_g (lw_at lw_m9 86 rfl) rfl
theorem q2148 : (Jvm.Cond.instanceMethod ({ cls := "FlagLaundry", name := "handOver", desc := "(I)I" } : Jvm.MethodName)) ∈ lw_all := lw_g (lw_at lw_m9 96 rfl) rfl
theorem q2149 : (Jvm.Cond.selects "FlagLaundry" ({ cls := "FlagLaundry", name := "handOver", desc := "(I)I" } : Jvm.MethodName) ({ cls := "FlagLaundry", name := "handOver", desc := "(I)I" } : Jvm.MethodName)) ∈ lw_all := lw_g (lw_at lw_m9 97 rfl) rfl
theorem q2150 : (Jvm.Cond.code ({ cls := "FlagLaundry", name := "handOver", desc := "(I)I" } : Jvm.MethodName) prog_1_method_80_code (3 : Nat) (Option.some Jvm.ClassFile.FieldType.int)) ∈ lw_all := lw_g (lw_at lw_m9 98 rfl) rfl
theorem q2151 : (Jvm.Cond.methodLink "FlagLaundry" (477 : Nat) ({ cls := "FlagLaundry$World", name := "hands", desc := "(I)I" } : Jvm.MethodName)) ∈ lw_all := lw_g (lw_at lw_m9 99 rfl) rfl
theorem q2167 : (Jvm.Cond.instanceMethod ({ cls := "FlagLaundry", name := "pass", desc := "(I)I" } : Jvm.MethodName)) ∈ lw_all := lw_g (lw_at lw_m9 115 rfl) rfl
theorem q2168 : (Jvm.Cond.selects "FlagLaundry" ({ cls := "FlagLaundry", name := "pass", desc := "(I)I" } : Jvm.MethodName) ({ cls := "FlagLaundry", name := "pass", desc := "(I)I" } : Jvm.MethodName)) ∈ lw_all := lw_g (lw_at lw_m9 116 rfl) rfl
theorem q2169 : (Jvm.Cond.code ({ cls := "FlagLaundry", name := "pass", desc := "(I)I" } : Jvm.MethodName) prog_1_method_81_code (3 : Nat) (Option.some Jvm.ClassFile.FieldType.int)) ∈ lw_all := lw_g (lw_at lw_m9 117 rfl) rfl
theorem q2170 : (Jvm.Cond.constantLong "FlagLaundry" (480 : Nat) (50 : Int64)) ∈ lw_all := lw_g (lw_at lw_m9 118 rfl) rfl
theorem q2175 : (Jvm.Cond.instanceMethod ({ cls := "FlagLaundry", name := "setWind", desc := "(I)I" } : Jvm.MethodName)) ∈ lw_all := lw_g (lw_at lw_m9 123 rfl) rfl
theorem q2176 : (Jvm.Cond.selects "FlagLaundry" ({ cls := "FlagLaundry", name := "setWind", desc := "(I)I" } : Jvm.MethodName) ({ cls := "FlagLaundry", name := "setWind", desc := "(I)I" } : Jvm.MethodName)) ∈ lw_all := lw_g (lw_at lw_m9 124 rfl) rfl
theorem q2177 : (Jvm.Cond.code ({ cls := "FlagLaundry", name := "setWind", desc := "(I)I" } : Jvm.MethodName) prog_1_method_82_code (3 : Nat) (Option.some Jvm.ClassFile.FieldType.int)) ∈ lw_all := lw_g (lw_at lw_m9 125 rfl) rfl
theorem q2182 : (Jvm.Cond.instanceMethod ({ cls := "FlagLaundry", name := "addFlag", desc := "(IIII)I" } : Jvm.MethodName)) ∈ lw_all := lw_g (lw_at lw_m9 130 rfl) rfl
theorem q2183 : (Jvm.Cond.selects "FlagLaundry" ({ cls := "FlagLaundry", name := "addFlag", desc := "(IIII)I" } : Jvm.MethodName) ({ cls := "FlagLaundry", name := "addFlag", desc := "(IIII)I" } : Jvm.MethodName)) ∈ lw_all := lw_g (lw_at lw_m9 131 rfl) rfl
theorem q2184 : (Jvm.Cond.code ({ cls := "FlagLaundry", name := "addFlag", desc := "(IIII)I" } : Jvm.MethodName) prog_1_method_83_code (6 : Nat) (Option.some Jvm.ClassFile.FieldType.int)) ∈ lw_all := lw_g (lw_at lw_m9 132 rfl) rfl
theorem q2185 : (Jvm.Cond.methodLink "FlagLaundry" (482 : Nat) ({ cls := "FlagLaundry$Flag", name := "<init>", desc := "(IIII)V" } : Jvm.MethodName)) ∈ lw_all := lw_g (lw_at lw_m9 133 rfl) rfl
theorem q2186 : (Jvm.Cond.methodLink "FlagLaundry" (485 : Nat) ({ cls := "FlagLaundry$World", name := "adds", desc := "(LFlagLaundry$Flag;)V" } : Jvm.MethodName)) ∈ lw_all := lw_g (lw_at lw_m9 134 rfl) rfl
theorem q2191 : (Jvm.Cond.instanceMethod ({ cls := "FlagLaundry", name := "undo", desc := "()I" } : Jvm.MethodName)) ∈ lw_all := lw_g (lw_at lw_m9 139 rfl) rfl
theorem q2192 : (Jvm.Cond.selects "FlagLaundry" ({ cls := "FlagLaundry", name := "undo", desc := "()I" } : Jvm.MethodName) ({ cls := "FlagLaundry", name := "undo", desc := "()I" } : Jvm.MethodName)) ∈ lw_all := lw_g (lw_at lw_m9 140 rfl) rfl
theorem q2193 : (Jvm.Cond.code ({ cls := "FlagLaundry", name := "undo", desc := "()I" } : Jvm.MethodName) prog_1_method_84_code (1 : Nat) (Option.some Jvm.ClassFile.FieldType.int)) ∈ lw_all := lw_g (lw_at lw_m9 141 rfl) rfl
theorem q2194 : (Jvm.Cond.methodLink "FlagLaundry" (488 : Nat) ({ cls := "java/util/ArrayDeque", name := "isEmpty", desc := "()Z" } : Jvm.MethodName)) ∈ lw_all := lw_g (lw_at lw_m9 142 rfl) rfl
theorem q2198 : (Jvm.Cond.methodLink "FlagLaundry" (491 : Nat) ({ cls := "java/util/ArrayDeque", name := "removeLast", desc := "()Ljava/lang/Object;" } : Jvm.MethodName)) ∈ lw_all := lw_g (lw_at lw_m9 146 rfl) rfl
theorem q2213 : (Jvm.Cond.instanceMethod ({ cls := "FlagLaundry", name := "save", desc := "(I)I" } : Jvm.MethodName)) ∈ lw_all := lw_g (lw_at lw_m9 161 rfl) rfl
theorem q2214 : (Jvm.Cond.selects "FlagLaundry" ({ cls := "FlagLaundry", name := "save", desc := "(I)I" } : Jvm.MethodName) ({ cls := "FlagLaundry", name := "save", desc := "(I)I" } : Jvm.MethodName)) ∈ lw_all := lw_g (lw_at lw_m9 162 rfl) rfl
theorem q2215 : (Jvm.Cond.code ({ cls := "FlagLaundry", name := "save", desc := "(I)I" } : Jvm.MethodName) prog_1_method_86_code (3 : Nat) (Option.some Jvm.ClassFile.FieldType.int)) ∈ lw_all := lw_g (lw_at lw_m9 163 rfl) rfl
theorem q2220 : (Jvm.Cond.instanceMethod ({ cls := "FlagLaundry", name := "restore", desc := "(I)I" } : Jvm.MethodName)) ∈ lw_all := lw_g (lw_at lw_m9 168 rfl) rfl
theorem q2221 : (Jvm.Cond.selects "FlagLaundry" ({ cls := "FlagLaundry", name := "restore", desc := "(I)I" } : Jvm.MethodName) ({ cls := "FlagLaundry", name := "restore", desc := "(I)I" } : Jvm.MethodName)) ∈ lw_all := lw_g (lw_at lw_m9 169 rfl) rfl
theorem q2222 : (Jvm.Cond.code ({ cls := "FlagLaundry", name := "restore", desc := "(I)I" } : Jvm.MethodName) prog_1_method_87_code (2 : Nat) (Option.some Jvm.ClassFile.FieldType.int)) ∈ lw_all := lw_g (lw_at lw_m9 170 rfl) rfl
theorem q2994 : (Jvm.Cond.castable "FlagLaundry" "java/lang/Object") ∈ lw_tbl := lw_at lw_m12 222 rfl
theorem in_X1 : ∀ w ∈ wsX10, w ∈ lw_all := lw_in wsX10 [246, 248, 250, 252, 254, 256, 258, 260] (by decide +kernel) (by decide +kernel)

/-! FlagLaundry$Parser -/
set_option maxRecDepth 100000
def RX3 : String := "FlagLaundry$Parser"
def TX3 : u_T := fun k => match k with
  | 0 => ("FlagLaundry$Parser", "length", "I", true)
  | 1 => ("FlagLaundry$Parser", "next", "I", false)
  | 2 => ("FlagLaundry$Parser", "begin", "I", false)
  | 3 => ("FlagLaundry$Parser", "value", "I", false)
  | 4 => ("FlagLaundry$Parser", "sort", "LFlagLaundry$Sort;", false)
  | 5 => ("FlagLaundry$Parser", "word", "Ljava/lang/String;", false)
  | 6 => ("FlagLaundry$Parser", "made", "LFlagLaundry$World;", false)
  | _ => ("FlagLaundry$Parser", "this$0", "LFlagLaundry;", true)
def tyX3 : Nat → FieldType := fun k => match k with
  | 0 => .int
  | 1 => .int
  | 2 => .int
  | 3 => .int
  | 4 => .object "FlagLaundry$Sort"
  | 5 => .object "java/lang/String"
  | 6 => .object "FlagLaundry$World"
  | _ => .object "FlagLaundry"
abbrev wsX30 : List Cond := u_ws RX3 TX3 8
theorem nmX3 : ∀ a, a < 8 → ∀ b, b < 8 → a ≠ b → (TX3 a).2.1 ≠ (TX3 b).2.1 := by decide +kernel
theorem tyX3_ok : ∀ k, k < 8 → parseFieldDescriptor (TX3 k).2.2.1 = some (tyX3 k) := by decide +kernel
abbrev cX3_init : ByteArray := prog_14_method_1_code
def yX3_init : MethodName := ⟨RX3, "<init>", "(LFlagLaundry;I)V"⟩
def dkwX3_init_1 : List UInt8 := [181, 0, 30, 42, 182, 0, 34, 177]
abbrev dktX3_init_1 : List UInt8 := dkwX3_init_1 ++ []
def dkwX3_init_0 : List UInt8 := [42, 43, 181, 0, 3, 42, 183, 0, 9, 42, 178, 0, 15, 181, 0, 21, 42, 18, 24, 181, 0, 26, 42, 28]
abbrev dktX3_init_0 : List UInt8 := dkwX3_init_0 ++ dktX3_init_1
theorem dksX3_init_0 : cX3_init.data.toList.drop 0 = dktX3_init_0 := by decide +kernel
theorem dksX3_init_1 : cX3_init.data.toList.drop 24 = dktX3_init_1 := dk_seg dksX3_init_0 24 rfl rfl
theorem dX3_init_0 : decode cX3_init 0 = .ok (.aload_n 0, 1) := dk_42 (dk_at dksX3_init_0 0 rfl rfl)
theorem dX3_init_1 : decode cX3_init 1 = .ok (.aload_n 1, 1) := dk_43 (dk_at dksX3_init_0 1 rfl rfl)
theorem dX3_init_2 : decode cX3_init 2 = .ok (.putfield 3, 3) := dk_181 0 3 (dk_at dksX3_init_0 2 rfl rfl)
theorem dX3_init_5 : decode cX3_init 5 = .ok (.aload_n 0, 1) := dk_42 (dk_at dksX3_init_0 5 rfl rfl)
theorem dX3_init_6 : decode cX3_init 6 = .ok (.invokespecial 9, 3) := dk_183 0 9 (dk_at dksX3_init_0 6 rfl rfl)
theorem dX3_init_9 : decode cX3_init 9 = .ok (.aload_n 0, 1) := dk_42 (dk_at dksX3_init_0 9 rfl rfl)
theorem dX3_init_10 : decode cX3_init 10 = .ok (.getstatic 15, 3) := dk_178 0 15 (dk_at dksX3_init_0 10 rfl rfl)
theorem dX3_init_13 : decode cX3_init 13 = .ok (.putfield 21, 3) := dk_181 0 21 (dk_at dksX3_init_0 13 rfl rfl)
theorem dX3_init_16 : decode cX3_init 16 = .ok (.aload_n 0, 1) := dk_42 (dk_at dksX3_init_0 16 rfl rfl)
theorem dX3_init_17 : decode cX3_init 17 = .ok (.ldc 24, 2) := dk_18 24 (dk_at dksX3_init_0 17 rfl rfl)
theorem dX3_init_19 : decode cX3_init 19 = .ok (.putfield 26, 3) := dk_181 0 26 (dk_at dksX3_init_0 19 rfl rfl)
theorem dX3_init_22 : decode cX3_init 22 = .ok (.aload_n 0, 1) := dk_42 (dk_at dksX3_init_0 22 rfl rfl)
theorem dX3_init_23 : decode cX3_init 23 = .ok (.iload_n 2, 1) := dk_28 (dk_at dksX3_init_0 23 rfl rfl)
theorem dX3_init_24 : decode cX3_init 24 = .ok (.putfield 30, 3) := dk_181 0 30 (dk_at dksX3_init_1 0 rfl rfl)
theorem dX3_init_27 : decode cX3_init 27 = .ok (.aload_n 0, 1) := dk_42 (dk_at dksX3_init_1 3 rfl rfl)
theorem dX3_init_28 : decode cX3_init 28 = .ok (.invokevirtual 34, 3) := dk_182 0 34 (dk_at dksX3_init_1 4 rfl rfl)
theorem dX3_init_31 : decode cX3_init 31 = .ok (.return_, 1) := dk_177 (dk_at dksX3_init_1 7 rfl rfl)
abbrev cX3_step : ByteArray := prog_14_method_4_code
def yX3_step : MethodName := ⟨RX3, "step", "()V"⟩
def dkwX3_step_13 : List UInt8 := [178, 0, 66, 181, 0, 21, 42, 89, 180, 0, 52, 4, 96, 181, 0, 52, 177]
abbrev dktX3_step_13 : List UInt8 := dkwX3_step_13 ++ []
def dkwX3_step_12 : List UInt8 := [132, 2, 1, 167, 255, 215, 167, 0, 32, 42, 27, 16, 59, 160, 0, 9, 178, 0, 90, 167, 0, 6]
abbrev dktX3_step_12 : List UInt8 := dkwX3_step_12 ++ dktX3_step_13
def dkwX3_step_11 : List UInt8 := [166, 0, 29, 42, 16, 10, 42, 180, 0, 87, 104, 42, 28, 182, 0, 44, 96, 16, 48, 100, 181, 0, 87]
abbrev dktX3_step_11 : List UInt8 := dkwX3_step_11 ++ dktX3_step_12
def dkwX3_step_10 : List UInt8 := [181, 0, 87, 42, 180, 0, 41, 61, 28, 42, 180, 0, 52, 162, 0, 39, 42, 180, 0, 21, 178, 0, 84]
abbrev dktX3_step_10 : List UInt8 := dkwX3_step_10 ++ dktX3_step_11
def dkwX3_step_9 : List UInt8 := [180, 0, 41, 100, 5, 163, 0, 9, 178, 0, 84, 167, 0, 6, 178, 0, 66, 181, 0, 21, 42, 3]
abbrev dktX3_step_9 : List UInt8 := dkwX3_step_9 ++ dktX3_step_10
def dkwX3_step_8 : List UInt8 := [184, 0, 48, 153, 0, 98, 42, 42, 16, 48, 16, 57, 182, 0, 59, 181, 0, 52, 42, 42, 180, 0, 52, 42]
abbrev dktX3_step_8 : List UInt8 := dkwX3_step_8 ++ dktX3_step_9
def dkwX3_step_7 : List UInt8 := [167, 255, 224, 42, 44, 182, 0, 76, 181, 0, 26, 167, 0, 141, 27, 133, 20, 0, 80, 20, 0, 82]
abbrev dktX3_step_7 : List UInt8 := dkwX3_step_7 ++ dktX3_step_8
def dkwX3_step_6 : List UInt8 := [42, 180, 0, 21, 178, 0, 63, 166, 0, 20, 44, 42, 29, 182, 0, 44, 146, 182, 0, 72, 87, 132, 3, 1]
abbrev dktX3_step_6 : List UInt8 := dkwX3_step_6 ++ dktX3_step_7
def dkwX3_step_5 : List UInt8 := [181, 0, 21, 187, 0, 69, 89, 183, 0, 71, 77, 42, 180, 0, 41, 62, 29, 42, 180, 0, 52, 162, 0, 30]
abbrev dktX3_step_5 : List UInt8 := dkwX3_step_5 ++ dktX3_step_6
def dkwX3_step_4 : List UInt8 := [180, 0, 52, 42, 180, 0, 41, 100, 16, 6, 163, 0, 9, 178, 0, 63, 167, 0, 6, 178, 0, 66]
abbrev dktX3_step_4 : List UInt8 := dkwX3_step_4 ++ dktX3_step_5
def dkwX3_step_3 : List UInt8 := [20, 0, 57, 184, 0, 48, 153, 0, 101, 42, 42, 16, 97, 16, 122, 182, 0, 59, 181, 0, 52, 42, 42]
abbrev dktX3_step_3 : List UInt8 := dkwX3_step_3 ++ dktX3_step_4
def dkwX3_step_2 : List UInt8 := [182, 0, 44, 60, 27, 2, 160, 0, 13, 42, 178, 0, 15, 181, 0, 21, 167, 0, 253, 27, 133, 20, 0, 55]
abbrev dktX3_step_2 : List UInt8 := dkwX3_step_2 ++ dktX3_step_3
def dkwX3_step_1 : List UInt8 := [167, 255, 233, 42, 42, 180, 0, 52, 181, 0, 41, 42, 18, 24, 181, 0, 26, 42, 42, 180, 0, 41]
abbrev dktX3_step_1 : List UInt8 := dkwX3_step_1 ++ dktX3_step_2
def dkwX3_step_0 : List UInt8 := [42, 42, 180, 0, 52, 182, 0, 44, 16, 32, 160, 0, 16, 42, 89, 180, 0, 52, 4, 96, 181, 0, 52]
abbrev dktX3_step_0 : List UInt8 := dkwX3_step_0 ++ dktX3_step_1
theorem dksX3_step_0 : cX3_step.data.toList.drop 0 = dktX3_step_0 := by decide +kernel
theorem dksX3_step_1 : cX3_step.data.toList.drop 23 = dktX3_step_1 := dk_seg dksX3_step_0 23 rfl rfl
theorem dksX3_step_2 : cX3_step.data.toList.drop 45 = dktX3_step_2 := dk_seg dksX3_step_1 22 rfl rfl
theorem dksX3_step_3 : cX3_step.data.toList.drop 69 = dktX3_step_3 := dk_seg dksX3_step_2 24 rfl rfl
theorem dksX3_step_4 : cX3_step.data.toList.drop 92 = dktX3_step_4 := dk_seg dksX3_step_3 23 rfl rfl
theorem dksX3_step_5 : cX3_step.data.toList.drop 114 = dktX3_step_5 := dk_seg dksX3_step_4 22 rfl rfl
theorem dksX3_step_6 : cX3_step.data.toList.drop 138 = dktX3_step_6 := dk_seg dksX3_step_5 24 rfl rfl
theorem dksX3_step_7 : cX3_step.data.toList.drop 162 = dktX3_step_7 := dk_seg dksX3_step_6 24 rfl rfl
theorem dksX3_step_8 : cX3_step.data.toList.drop 184 = dktX3_step_8 := dk_seg dksX3_step_7 22 rfl rfl
theorem dksX3_step_9 : cX3_step.data.toList.drop 208 = dktX3_step_9 := dk_seg dksX3_step_8 24 rfl rfl
theorem dksX3_step_10 : cX3_step.data.toList.drop 230 = dktX3_step_10 := dk_seg dksX3_step_9 22 rfl rfl
theorem dksX3_step_11 : cX3_step.data.toList.drop 253 = dktX3_step_11 := dk_seg dksX3_step_10 23 rfl rfl
theorem dksX3_step_12 : cX3_step.data.toList.drop 276 = dktX3_step_12 := dk_seg dksX3_step_11 23 rfl rfl
theorem dksX3_step_13 : cX3_step.data.toList.drop 298 = dktX3_step_13 := dk_seg dksX3_step_12 22 rfl rfl
theorem dX3_step_0 : decode cX3_step 0 = .ok (.aload_n 0, 1) := dk_42 (dk_at dksX3_step_0 0 rfl rfl)
theorem dX3_step_1 : decode cX3_step 1 = .ok (.aload_n 0, 1) := dk_42 (dk_at dksX3_step_0 1 rfl rfl)
theorem dX3_step_2 : decode cX3_step 2 = .ok (.getfield 52, 3) := dk_180 0 52 (dk_at dksX3_step_0 2 rfl rfl)
theorem dX3_step_5 : decode cX3_step 5 = .ok (.invokevirtual 44, 3) := dk_182 0 44 (dk_at dksX3_step_0 5 rfl rfl)
theorem dX3_step_8 : decode cX3_step 8 = .ok (.bipush 32, 2) := dk_16 32 (dk_at dksX3_step_0 8 rfl rfl)
theorem dX3_step_10 : decode cX3_step 10 = .ok (.if_icmp .ne 16, 3) := dk_160 0 16 (dk_at dksX3_step_0 10 rfl rfl)
theorem dX3_step_13 : decode cX3_step 13 = .ok (.aload_n 0, 1) := dk_42 (dk_at dksX3_step_0 13 rfl rfl)
theorem dX3_step_14 : decode cX3_step 14 = .ok (.dup, 1) := dk_89 (dk_at dksX3_step_0 14 rfl rfl)
theorem dX3_step_15 : decode cX3_step 15 = .ok (.getfield 52, 3) := dk_180 0 52 (dk_at dksX3_step_0 15 rfl rfl)
theorem dX3_step_18 : decode cX3_step 18 = .ok (.iconst 1, 1) := dk_4 (dk_at dksX3_step_0 18 rfl rfl)
theorem dX3_step_19 : decode cX3_step 19 = .ok (.iadd, 1) := dk_96 (dk_at dksX3_step_0 19 rfl rfl)
theorem dX3_step_20 : decode cX3_step 20 = .ok (.putfield 52, 3) := dk_181 0 52 (dk_at dksX3_step_0 20 rfl rfl)
theorem dX3_step_23 : decode cX3_step 23 = .ok (.goto (-23), 3) := dk_167 255 233 (dk_at dksX3_step_1 0 rfl rfl)
theorem dX3_step_26 : decode cX3_step 26 = .ok (.aload_n 0, 1) := dk_42 (dk_at dksX3_step_1 3 rfl rfl)
theorem dX3_step_27 : decode cX3_step 27 = .ok (.aload_n 0, 1) := dk_42 (dk_at dksX3_step_1 4 rfl rfl)
theorem dX3_step_28 : decode cX3_step 28 = .ok (.getfield 52, 3) := dk_180 0 52 (dk_at dksX3_step_1 5 rfl rfl)
theorem dX3_step_31 : decode cX3_step 31 = .ok (.putfield 41, 3) := dk_181 0 41 (dk_at dksX3_step_1 8 rfl rfl)
theorem dX3_step_34 : decode cX3_step 34 = .ok (.aload_n 0, 1) := dk_42 (dk_at dksX3_step_1 11 rfl rfl)
theorem dX3_step_35 : decode cX3_step 35 = .ok (.ldc 24, 2) := dk_18 24 (dk_at dksX3_step_1 12 rfl rfl)
theorem dX3_step_37 : decode cX3_step 37 = .ok (.putfield 26, 3) := dk_181 0 26 (dk_at dksX3_step_1 14 rfl rfl)
theorem dX3_step_40 : decode cX3_step 40 = .ok (.aload_n 0, 1) := dk_42 (dk_at dksX3_step_1 17 rfl rfl)
theorem dX3_step_41 : decode cX3_step 41 = .ok (.aload_n 0, 1) := dk_42 (dk_at dksX3_step_1 18 rfl rfl)
theorem dX3_step_42 : decode cX3_step 42 = .ok (.getfield 41, 3) := dk_180 0 41 (dk_at dksX3_step_1 19 rfl rfl)
theorem dX3_step_45 : decode cX3_step 45 = .ok (.invokevirtual 44, 3) := dk_182 0 44 (dk_at dksX3_step_2 0 rfl rfl)
theorem dX3_step_48 : decode cX3_step 48 = .ok (.istore_n 1, 1) := dk_60 (dk_at dksX3_step_2 3 rfl rfl)
theorem dX3_step_49 : decode cX3_step 49 = .ok (.iload_n 1, 1) := dk_27 (dk_at dksX3_step_2 4 rfl rfl)
theorem dX3_step_50 : decode cX3_step 50 = .ok (.iconst (-1), 1) := dk_2 (dk_at dksX3_step_2 5 rfl rfl)
theorem dX3_step_51 : decode cX3_step 51 = .ok (.if_icmp .ne 13, 3) := dk_160 0 13 (dk_at dksX3_step_2 6 rfl rfl)
theorem dX3_step_54 : decode cX3_step 54 = .ok (.aload_n 0, 1) := dk_42 (dk_at dksX3_step_2 9 rfl rfl)
theorem dX3_step_55 : decode cX3_step 55 = .ok (.getstatic 15, 3) := dk_178 0 15 (dk_at dksX3_step_2 10 rfl rfl)
theorem dX3_step_58 : decode cX3_step 58 = .ok (.putfield 21, 3) := dk_181 0 21 (dk_at dksX3_step_2 13 rfl rfl)
theorem dX3_step_61 : decode cX3_step 61 = .ok (.goto 253, 3) := dk_167 0 253 (dk_at dksX3_step_2 16 rfl rfl)
theorem dX3_step_64 : decode cX3_step 64 = .ok (.iload_n 1, 1) := dk_27 (dk_at dksX3_step_2 19 rfl rfl)
theorem dX3_step_65 : decode cX3_step 65 = .ok (.i2l, 1) := dk_133 (dk_at dksX3_step_2 20 rfl rfl)
theorem dX3_step_66 : decode cX3_step 66 = .ok (.ldc2_w 55, 3) := dk_20 0 55 (dk_at dksX3_step_2 21 rfl rfl)
theorem dX3_step_69 : decode cX3_step 69 = .ok (.ldc2_w 57, 3) := dk_20 0 57 (dk_at dksX3_step_3 0 rfl rfl)
theorem dX3_step_72 : decode cX3_step 72 = .ok (.invokestatic 48, 3) := dk_184 0 48 (dk_at dksX3_step_3 3 rfl rfl)
theorem dX3_step_75 : decode cX3_step 75 = .ok (.ifCond .eq 101, 3) := dk_153 0 101 (dk_at dksX3_step_3 6 rfl rfl)
theorem dX3_step_78 : decode cX3_step 78 = .ok (.aload_n 0, 1) := dk_42 (dk_at dksX3_step_3 9 rfl rfl)
theorem dX3_step_79 : decode cX3_step 79 = .ok (.aload_n 0, 1) := dk_42 (dk_at dksX3_step_3 10 rfl rfl)
theorem dX3_step_80 : decode cX3_step 80 = .ok (.bipush 97, 2) := dk_16 97 (dk_at dksX3_step_3 11 rfl rfl)
theorem dX3_step_82 : decode cX3_step 82 = .ok (.bipush 122, 2) := dk_16 122 (dk_at dksX3_step_3 13 rfl rfl)
theorem dX3_step_84 : decode cX3_step 84 = .ok (.invokevirtual 59, 3) := dk_182 0 59 (dk_at dksX3_step_3 15 rfl rfl)
theorem dX3_step_87 : decode cX3_step 87 = .ok (.putfield 52, 3) := dk_181 0 52 (dk_at dksX3_step_3 18 rfl rfl)
theorem dX3_step_90 : decode cX3_step 90 = .ok (.aload_n 0, 1) := dk_42 (dk_at dksX3_step_3 21 rfl rfl)
theorem dX3_step_91 : decode cX3_step 91 = .ok (.aload_n 0, 1) := dk_42 (dk_at dksX3_step_3 22 rfl rfl)
theorem dX3_step_92 : decode cX3_step 92 = .ok (.getfield 52, 3) := dk_180 0 52 (dk_at dksX3_step_4 0 rfl rfl)
theorem dX3_step_95 : decode cX3_step 95 = .ok (.aload_n 0, 1) := dk_42 (dk_at dksX3_step_4 3 rfl rfl)
theorem dX3_step_96 : decode cX3_step 96 = .ok (.getfield 41, 3) := dk_180 0 41 (dk_at dksX3_step_4 4 rfl rfl)
theorem dX3_step_99 : decode cX3_step 99 = .ok (.isub, 1) := dk_100 (dk_at dksX3_step_4 7 rfl rfl)
theorem dX3_step_100 : decode cX3_step 100 = .ok (.bipush 6, 2) := dk_16 6 (dk_at dksX3_step_4 8 rfl rfl)
theorem dX3_step_102 : decode cX3_step 102 = .ok (.if_icmp .gt 9, 3) := dk_163 0 9 (dk_at dksX3_step_4 10 rfl rfl)
theorem dX3_step_105 : decode cX3_step 105 = .ok (.getstatic 63, 3) := dk_178 0 63 (dk_at dksX3_step_4 13 rfl rfl)
theorem dX3_step_108 : decode cX3_step 108 = .ok (.goto 6, 3) := dk_167 0 6 (dk_at dksX3_step_4 16 rfl rfl)
theorem dX3_step_111 : decode cX3_step 111 = .ok (.getstatic 66, 3) := dk_178 0 66 (dk_at dksX3_step_4 19 rfl rfl)
theorem dX3_step_114 : decode cX3_step 114 = .ok (.putfield 21, 3) := dk_181 0 21 (dk_at dksX3_step_5 0 rfl rfl)
theorem dX3_step_117 : decode cX3_step 117 = .ok (.new 69, 3) := dk_187 0 69 (dk_at dksX3_step_5 3 rfl rfl)
theorem dX3_step_120 : decode cX3_step 120 = .ok (.dup, 1) := dk_89 (dk_at dksX3_step_5 6 rfl rfl)
theorem dX3_step_121 : decode cX3_step 121 = .ok (.invokespecial 71, 3) := dk_183 0 71 (dk_at dksX3_step_5 7 rfl rfl)
theorem dX3_step_124 : decode cX3_step 124 = .ok (.astore_n 2, 1) := dk_77 (dk_at dksX3_step_5 10 rfl rfl)
theorem dX3_step_125 : decode cX3_step 125 = .ok (.aload_n 0, 1) := dk_42 (dk_at dksX3_step_5 11 rfl rfl)
theorem dX3_step_126 : decode cX3_step 126 = .ok (.getfield 41, 3) := dk_180 0 41 (dk_at dksX3_step_5 12 rfl rfl)
theorem dX3_step_129 : decode cX3_step 129 = .ok (.istore_n 3, 1) := dk_62 (dk_at dksX3_step_5 15 rfl rfl)
theorem dX3_step_130 : decode cX3_step 130 = .ok (.iload_n 3, 1) := dk_29 (dk_at dksX3_step_5 16 rfl rfl)
theorem dX3_step_131 : decode cX3_step 131 = .ok (.aload_n 0, 1) := dk_42 (dk_at dksX3_step_5 17 rfl rfl)
theorem dX3_step_132 : decode cX3_step 132 = .ok (.getfield 52, 3) := dk_180 0 52 (dk_at dksX3_step_5 18 rfl rfl)
theorem dX3_step_135 : decode cX3_step 135 = .ok (.if_icmp .ge 30, 3) := dk_162 0 30 (dk_at dksX3_step_5 21 rfl rfl)
theorem dX3_step_138 : decode cX3_step 138 = .ok (.aload_n 0, 1) := dk_42 (dk_at dksX3_step_6 0 rfl rfl)
theorem dX3_step_139 : decode cX3_step 139 = .ok (.getfield 21, 3) := dk_180 0 21 (dk_at dksX3_step_6 1 rfl rfl)
theorem dX3_step_142 : decode cX3_step 142 = .ok (.getstatic 63, 3) := dk_178 0 63 (dk_at dksX3_step_6 4 rfl rfl)
theorem dX3_step_145 : decode cX3_step 145 = .ok (.if_acmp .ne 20, 3) := dk_166 0 20 (dk_at dksX3_step_6 7 rfl rfl)
theorem dX3_step_148 : decode cX3_step 148 = .ok (.aload_n 2, 1) := dk_44 (dk_at dksX3_step_6 10 rfl rfl)
theorem dX3_step_149 : decode cX3_step 149 = .ok (.aload_n 0, 1) := dk_42 (dk_at dksX3_step_6 11 rfl rfl)
theorem dX3_step_150 : decode cX3_step 150 = .ok (.iload_n 3, 1) := dk_29 (dk_at dksX3_step_6 12 rfl rfl)
theorem dX3_step_151 : decode cX3_step 151 = .ok (.invokevirtual 44, 3) := dk_182 0 44 (dk_at dksX3_step_6 13 rfl rfl)
theorem dX3_step_154 : decode cX3_step 154 = .ok (.i2c, 1) := dk_146 (dk_at dksX3_step_6 16 rfl rfl)
theorem dX3_step_155 : decode cX3_step 155 = .ok (.invokevirtual 72, 3) := dk_182 0 72 (dk_at dksX3_step_6 17 rfl rfl)
theorem dX3_step_158 : decode cX3_step 158 = .ok (.pop, 1) := dk_87 (dk_at dksX3_step_6 20 rfl rfl)
theorem dX3_step_159 : decode cX3_step 159 = .ok (.iinc 3 1, 3) := dk_132 3 1 (dk_at dksX3_step_6 21 rfl rfl)
theorem dX3_step_162 : decode cX3_step 162 = .ok (.goto (-32), 3) := dk_167 255 224 (dk_at dksX3_step_7 0 rfl rfl)
theorem dX3_step_165 : decode cX3_step 165 = .ok (.aload_n 0, 1) := dk_42 (dk_at dksX3_step_7 3 rfl rfl)
theorem dX3_step_166 : decode cX3_step 166 = .ok (.aload_n 2, 1) := dk_44 (dk_at dksX3_step_7 4 rfl rfl)
theorem dX3_step_167 : decode cX3_step 167 = .ok (.invokevirtual 76, 3) := dk_182 0 76 (dk_at dksX3_step_7 5 rfl rfl)
theorem dX3_step_170 : decode cX3_step 170 = .ok (.putfield 26, 3) := dk_181 0 26 (dk_at dksX3_step_7 8 rfl rfl)
theorem dX3_step_173 : decode cX3_step 173 = .ok (.goto 141, 3) := dk_167 0 141 (dk_at dksX3_step_7 11 rfl rfl)
theorem dX3_step_176 : decode cX3_step 176 = .ok (.iload_n 1, 1) := dk_27 (dk_at dksX3_step_7 14 rfl rfl)
theorem dX3_step_177 : decode cX3_step 177 = .ok (.i2l, 1) := dk_133 (dk_at dksX3_step_7 15 rfl rfl)
theorem dX3_step_178 : decode cX3_step 178 = .ok (.ldc2_w 80, 3) := dk_20 0 80 (dk_at dksX3_step_7 16 rfl rfl)
theorem dX3_step_181 : decode cX3_step 181 = .ok (.ldc2_w 82, 3) := dk_20 0 82 (dk_at dksX3_step_7 19 rfl rfl)
theorem dX3_step_184 : decode cX3_step 184 = .ok (.invokestatic 48, 3) := dk_184 0 48 (dk_at dksX3_step_8 0 rfl rfl)
theorem dX3_step_187 : decode cX3_step 187 = .ok (.ifCond .eq 98, 3) := dk_153 0 98 (dk_at dksX3_step_8 3 rfl rfl)
theorem dX3_step_190 : decode cX3_step 190 = .ok (.aload_n 0, 1) := dk_42 (dk_at dksX3_step_8 6 rfl rfl)
theorem dX3_step_191 : decode cX3_step 191 = .ok (.aload_n 0, 1) := dk_42 (dk_at dksX3_step_8 7 rfl rfl)
theorem dX3_step_192 : decode cX3_step 192 = .ok (.bipush 48, 2) := dk_16 48 (dk_at dksX3_step_8 8 rfl rfl)
theorem dX3_step_194 : decode cX3_step 194 = .ok (.bipush 57, 2) := dk_16 57 (dk_at dksX3_step_8 10 rfl rfl)
theorem dX3_step_196 : decode cX3_step 196 = .ok (.invokevirtual 59, 3) := dk_182 0 59 (dk_at dksX3_step_8 12 rfl rfl)
theorem dX3_step_199 : decode cX3_step 199 = .ok (.putfield 52, 3) := dk_181 0 52 (dk_at dksX3_step_8 15 rfl rfl)
theorem dX3_step_202 : decode cX3_step 202 = .ok (.aload_n 0, 1) := dk_42 (dk_at dksX3_step_8 18 rfl rfl)
theorem dX3_step_203 : decode cX3_step 203 = .ok (.aload_n 0, 1) := dk_42 (dk_at dksX3_step_8 19 rfl rfl)
theorem dX3_step_204 : decode cX3_step 204 = .ok (.getfield 52, 3) := dk_180 0 52 (dk_at dksX3_step_8 20 rfl rfl)
theorem dX3_step_207 : decode cX3_step 207 = .ok (.aload_n 0, 1) := dk_42 (dk_at dksX3_step_8 23 rfl rfl)
theorem dX3_step_208 : decode cX3_step 208 = .ok (.getfield 41, 3) := dk_180 0 41 (dk_at dksX3_step_9 0 rfl rfl)
theorem dX3_step_211 : decode cX3_step 211 = .ok (.isub, 1) := dk_100 (dk_at dksX3_step_9 3 rfl rfl)
theorem dX3_step_212 : decode cX3_step 212 = .ok (.iconst 2, 1) := dk_5 (dk_at dksX3_step_9 4 rfl rfl)
theorem dX3_step_213 : decode cX3_step 213 = .ok (.if_icmp .gt 9, 3) := dk_163 0 9 (dk_at dksX3_step_9 5 rfl rfl)
theorem dX3_step_216 : decode cX3_step 216 = .ok (.getstatic 84, 3) := dk_178 0 84 (dk_at dksX3_step_9 8 rfl rfl)
theorem dX3_step_219 : decode cX3_step 219 = .ok (.goto 6, 3) := dk_167 0 6 (dk_at dksX3_step_9 11 rfl rfl)
theorem dX3_step_222 : decode cX3_step 222 = .ok (.getstatic 66, 3) := dk_178 0 66 (dk_at dksX3_step_9 14 rfl rfl)
theorem dX3_step_225 : decode cX3_step 225 = .ok (.putfield 21, 3) := dk_181 0 21 (dk_at dksX3_step_9 17 rfl rfl)
theorem dX3_step_228 : decode cX3_step 228 = .ok (.aload_n 0, 1) := dk_42 (dk_at dksX3_step_9 20 rfl rfl)
theorem dX3_step_229 : decode cX3_step 229 = .ok (.iconst 0, 1) := dk_3 (dk_at dksX3_step_9 21 rfl rfl)
theorem dX3_step_230 : decode cX3_step 230 = .ok (.putfield 87, 3) := dk_181 0 87 (dk_at dksX3_step_10 0 rfl rfl)
theorem dX3_step_233 : decode cX3_step 233 = .ok (.aload_n 0, 1) := dk_42 (dk_at dksX3_step_10 3 rfl rfl)
theorem dX3_step_234 : decode cX3_step 234 = .ok (.getfield 41, 3) := dk_180 0 41 (dk_at dksX3_step_10 4 rfl rfl)
theorem dX3_step_237 : decode cX3_step 237 = .ok (.istore_n 2, 1) := dk_61 (dk_at dksX3_step_10 7 rfl rfl)
theorem dX3_step_238 : decode cX3_step 238 = .ok (.iload_n 2, 1) := dk_28 (dk_at dksX3_step_10 8 rfl rfl)
theorem dX3_step_239 : decode cX3_step 239 = .ok (.aload_n 0, 1) := dk_42 (dk_at dksX3_step_10 9 rfl rfl)
theorem dX3_step_240 : decode cX3_step 240 = .ok (.getfield 52, 3) := dk_180 0 52 (dk_at dksX3_step_10 10 rfl rfl)
theorem dX3_step_243 : decode cX3_step 243 = .ok (.if_icmp .ge 39, 3) := dk_162 0 39 (dk_at dksX3_step_10 13 rfl rfl)
theorem dX3_step_246 : decode cX3_step 246 = .ok (.aload_n 0, 1) := dk_42 (dk_at dksX3_step_10 16 rfl rfl)
theorem dX3_step_247 : decode cX3_step 247 = .ok (.getfield 21, 3) := dk_180 0 21 (dk_at dksX3_step_10 17 rfl rfl)
theorem dX3_step_250 : decode cX3_step 250 = .ok (.getstatic 84, 3) := dk_178 0 84 (dk_at dksX3_step_10 20 rfl rfl)
theorem dX3_step_253 : decode cX3_step 253 = .ok (.if_acmp .ne 29, 3) := dk_166 0 29 (dk_at dksX3_step_11 0 rfl rfl)
theorem dX3_step_256 : decode cX3_step 256 = .ok (.aload_n 0, 1) := dk_42 (dk_at dksX3_step_11 3 rfl rfl)
theorem dX3_step_257 : decode cX3_step 257 = .ok (.bipush 10, 2) := dk_16 10 (dk_at dksX3_step_11 4 rfl rfl)
theorem dX3_step_259 : decode cX3_step 259 = .ok (.aload_n 0, 1) := dk_42 (dk_at dksX3_step_11 6 rfl rfl)
theorem dX3_step_260 : decode cX3_step 260 = .ok (.getfield 87, 3) := dk_180 0 87 (dk_at dksX3_step_11 7 rfl rfl)
theorem dX3_step_263 : decode cX3_step 263 = .ok (.imul, 1) := dk_104 (dk_at dksX3_step_11 10 rfl rfl)
theorem dX3_step_264 : decode cX3_step 264 = .ok (.aload_n 0, 1) := dk_42 (dk_at dksX3_step_11 11 rfl rfl)
theorem dX3_step_265 : decode cX3_step 265 = .ok (.iload_n 2, 1) := dk_28 (dk_at dksX3_step_11 12 rfl rfl)
theorem dX3_step_266 : decode cX3_step 266 = .ok (.invokevirtual 44, 3) := dk_182 0 44 (dk_at dksX3_step_11 13 rfl rfl)
theorem dX3_step_269 : decode cX3_step 269 = .ok (.iadd, 1) := dk_96 (dk_at dksX3_step_11 16 rfl rfl)
theorem dX3_step_270 : decode cX3_step 270 = .ok (.bipush 48, 2) := dk_16 48 (dk_at dksX3_step_11 17 rfl rfl)
theorem dX3_step_272 : decode cX3_step 272 = .ok (.isub, 1) := dk_100 (dk_at dksX3_step_11 19 rfl rfl)
theorem dX3_step_273 : decode cX3_step 273 = .ok (.putfield 87, 3) := dk_181 0 87 (dk_at dksX3_step_11 20 rfl rfl)
theorem dX3_step_276 : decode cX3_step 276 = .ok (.iinc 2 1, 3) := dk_132 2 1 (dk_at dksX3_step_12 0 rfl rfl)
theorem dX3_step_279 : decode cX3_step 279 = .ok (.goto (-41), 3) := dk_167 255 215 (dk_at dksX3_step_12 3 rfl rfl)
theorem dX3_step_282 : decode cX3_step 282 = .ok (.goto 32, 3) := dk_167 0 32 (dk_at dksX3_step_12 6 rfl rfl)
theorem dX3_step_285 : decode cX3_step 285 = .ok (.aload_n 0, 1) := dk_42 (dk_at dksX3_step_12 9 rfl rfl)
theorem dX3_step_286 : decode cX3_step 286 = .ok (.iload_n 1, 1) := dk_27 (dk_at dksX3_step_12 10 rfl rfl)
theorem dX3_step_287 : decode cX3_step 287 = .ok (.bipush 59, 2) := dk_16 59 (dk_at dksX3_step_12 11 rfl rfl)
theorem dX3_step_289 : decode cX3_step 289 = .ok (.if_icmp .ne 9, 3) := dk_160 0 9 (dk_at dksX3_step_12 13 rfl rfl)
theorem dX3_step_292 : decode cX3_step 292 = .ok (.getstatic 90, 3) := dk_178 0 90 (dk_at dksX3_step_12 16 rfl rfl)
theorem dX3_step_295 : decode cX3_step 295 = .ok (.goto 6, 3) := dk_167 0 6 (dk_at dksX3_step_12 19 rfl rfl)
theorem dX3_step_298 : decode cX3_step 298 = .ok (.getstatic 66, 3) := dk_178 0 66 (dk_at dksX3_step_13 0 rfl rfl)
theorem dX3_step_301 : decode cX3_step 301 = .ok (.putfield 21, 3) := dk_181 0 21 (dk_at dksX3_step_13 3 rfl rfl)
theorem dX3_step_304 : decode cX3_step 304 = .ok (.aload_n 0, 1) := dk_42 (dk_at dksX3_step_13 6 rfl rfl)
theorem dX3_step_305 : decode cX3_step 305 = .ok (.dup, 1) := dk_89 (dk_at dksX3_step_13 7 rfl rfl)
theorem dX3_step_306 : decode cX3_step 306 = .ok (.getfield 52, 3) := dk_180 0 52 (dk_at dksX3_step_13 8 rfl rfl)
theorem dX3_step_309 : decode cX3_step 309 = .ok (.iconst 1, 1) := dk_4 (dk_at dksX3_step_13 11 rfl rfl)
theorem dX3_step_310 : decode cX3_step 310 = .ok (.iadd, 1) := dk_96 (dk_at dksX3_step_13 12 rfl rfl)
theorem dX3_step_311 : decode cX3_step 311 = .ok (.putfield 52, 3) := dk_181 0 52 (dk_at dksX3_step_13 13 rfl rfl)
theorem dX3_step_314 : decode cX3_step 314 = .ok (.return_, 1) := dk_177 (dk_at dksX3_step_13 16 rfl rfl)
abbrev cX3_at : ByteArray := prog_14_method_2_code
def yX3_at : MethodName := ⟨RX3, "at", "(I)I"⟩
def dkwX3_at_1 : List UInt8 := [2, 172]
abbrev dktX3_at_1 : List UInt8 := dkwX3_at_1 ++ []
def dkwX3_at_0 : List UInt8 := [27, 42, 180, 0, 30, 162, 0, 19, 42, 180, 0, 3, 180, 0, 37, 27, 51, 17, 0, 255, 126, 167, 0, 4]
abbrev dktX3_at_0 : List UInt8 := dkwX3_at_0 ++ dktX3_at_1
theorem dksX3_at_0 : cX3_at.data.toList.drop 0 = dktX3_at_0 := by decide +kernel
theorem dksX3_at_1 : cX3_at.data.toList.drop 24 = dktX3_at_1 := dk_seg dksX3_at_0 24 rfl rfl
theorem dX3_at_0 : decode cX3_at 0 = .ok (.iload_n 1, 1) := dk_27 (dk_at dksX3_at_0 0 rfl rfl)
theorem dX3_at_1 : decode cX3_at 1 = .ok (.aload_n 0, 1) := dk_42 (dk_at dksX3_at_0 1 rfl rfl)
theorem dX3_at_2 : decode cX3_at 2 = .ok (.getfield 30, 3) := dk_180 0 30 (dk_at dksX3_at_0 2 rfl rfl)
theorem dX3_at_5 : decode cX3_at 5 = .ok (.if_icmp .ge 19, 3) := dk_162 0 19 (dk_at dksX3_at_0 5 rfl rfl)
theorem dX3_at_8 : decode cX3_at 8 = .ok (.aload_n 0, 1) := dk_42 (dk_at dksX3_at_0 8 rfl rfl)
theorem dX3_at_9 : decode cX3_at 9 = .ok (.getfield 3, 3) := dk_180 0 3 (dk_at dksX3_at_0 9 rfl rfl)
theorem dX3_at_12 : decode cX3_at 12 = .ok (.getfield 37, 3) := dk_180 0 37 (dk_at dksX3_at_0 12 rfl rfl)
theorem dX3_at_15 : decode cX3_at 15 = .ok (.iload_n 1, 1) := dk_27 (dk_at dksX3_at_0 15 rfl rfl)
theorem dX3_at_16 : decode cX3_at 16 = .ok (.baload, 1) := dk_51 (dk_at dksX3_at_0 16 rfl rfl)
theorem dX3_at_17 : decode cX3_at 17 = .ok (.sipush 255, 3) := dk_17 0 255 (dk_at dksX3_at_0 17 rfl rfl)
theorem dX3_at_20 : decode cX3_at 20 = .ok (.iand, 1) := dk_126 (dk_at dksX3_at_0 20 rfl rfl)
theorem dX3_at_21 : decode cX3_at 21 = .ok (.goto 4, 3) := dk_167 0 4 (dk_at dksX3_at_0 21 rfl rfl)
theorem dX3_at_24 : decode cX3_at 24 = .ok (.iconst (-1), 1) := dk_2 (dk_at dksX3_at_1 0 rfl rfl)
theorem dX3_at_25 : decode cX3_at 25 = .ok (.ireturn, 1) := dk_172 (dk_at dksX3_at_1 1 rfl rfl)
abbrev cX3_run : ByteArray := prog_14_method_3_code
def yX3_run : MethodName := ⟨RX3, "run", "(II)I"⟩
def dkwX3_run_1 : List UInt8 := [167, 255, 237, 29, 172]
abbrev dktX3_run_1 : List UInt8 := dkwX3_run_1 ++ []
def dkwX3_run_0 : List UInt8 := [42, 180, 0, 41, 62, 42, 29, 182, 0, 44, 133, 27, 133, 28, 133, 184, 0, 48, 153, 0, 9, 132, 3, 1]
abbrev dktX3_run_0 : List UInt8 := dkwX3_run_0 ++ dktX3_run_1
theorem dksX3_run_0 : cX3_run.data.toList.drop 0 = dktX3_run_0 := by decide +kernel
theorem dksX3_run_1 : cX3_run.data.toList.drop 24 = dktX3_run_1 := dk_seg dksX3_run_0 24 rfl rfl
theorem dX3_run_0 : decode cX3_run 0 = .ok (.aload_n 0, 1) := dk_42 (dk_at dksX3_run_0 0 rfl rfl)
theorem dX3_run_1 : decode cX3_run 1 = .ok (.getfield 41, 3) := dk_180 0 41 (dk_at dksX3_run_0 1 rfl rfl)
theorem dX3_run_4 : decode cX3_run 4 = .ok (.istore_n 3, 1) := dk_62 (dk_at dksX3_run_0 4 rfl rfl)
theorem dX3_run_5 : decode cX3_run 5 = .ok (.aload_n 0, 1) := dk_42 (dk_at dksX3_run_0 5 rfl rfl)
theorem dX3_run_6 : decode cX3_run 6 = .ok (.iload_n 3, 1) := dk_29 (dk_at dksX3_run_0 6 rfl rfl)
theorem dX3_run_7 : decode cX3_run 7 = .ok (.invokevirtual 44, 3) := dk_182 0 44 (dk_at dksX3_run_0 7 rfl rfl)
theorem dX3_run_10 : decode cX3_run 10 = .ok (.i2l, 1) := dk_133 (dk_at dksX3_run_0 10 rfl rfl)
theorem dX3_run_11 : decode cX3_run 11 = .ok (.iload_n 1, 1) := dk_27 (dk_at dksX3_run_0 11 rfl rfl)
theorem dX3_run_12 : decode cX3_run 12 = .ok (.i2l, 1) := dk_133 (dk_at dksX3_run_0 12 rfl rfl)
theorem dX3_run_13 : decode cX3_run 13 = .ok (.iload_n 2, 1) := dk_28 (dk_at dksX3_run_0 13 rfl rfl)
theorem dX3_run_14 : decode cX3_run 14 = .ok (.i2l, 1) := dk_133 (dk_at dksX3_run_0 14 rfl rfl)
theorem dX3_run_15 : decode cX3_run 15 = .ok (.invokestatic 48, 3) := dk_184 0 48 (dk_at dksX3_run_0 15 rfl rfl)
theorem dX3_run_18 : decode cX3_run 18 = .ok (.ifCond .eq 9, 3) := dk_153 0 9 (dk_at dksX3_run_0 18 rfl rfl)
theorem dX3_run_21 : decode cX3_run 21 = .ok (.iinc 3 1, 3) := dk_132 3 1 (dk_at dksX3_run_0 21 rfl rfl)
theorem dX3_run_24 : decode cX3_run 24 = .ok (.goto (-19), 3) := dk_167 255 237 (dk_at dksX3_run_1 0 rfl rfl)
theorem dX3_run_27 : decode cX3_run 27 = .ok (.iload_n 3, 1) := dk_29 (dk_at dksX3_run_1 3 rfl rfl)
theorem dX3_run_28 : decode cX3_run 28 = .ok (.ireturn, 1) := dk_172 (dk_at dksX3_run_1 4 rfl rfl)
abbrev cX3_parse : ByteArray := prog_14_method_14_code
def yX3_parse : MethodName := ⟨RX3, "parse", "()LFlagLaundry$World;"⟩
def dkwX3_parse_5 : List UInt8 := [167, 0, 4, 3, 7, 182, 0, 98, 42, 180, 0, 105, 176]
abbrev dktX3_parse_5 : List UInt8 := dkwX3_parse_5 ++ []
def dkwX3_parse_4 : List UInt8 := [180, 0, 118, 185, 0, 122, 1, 0, 158, 0, 17, 42, 180, 0, 105, 180, 0, 146, 158, 0, 7, 4]
abbrev dktX3_parse_4 : List UInt8 := dkwX3_parse_4 ++ dktX3_parse_5
def dkwX3_parse_3 : List UInt8 := [167, 0, 4, 3, 4, 182, 0, 98, 42, 42, 180, 0, 105, 180, 0, 130, 158, 0, 32, 42, 180, 0, 105]
abbrev dktX3_parse_3 : List UInt8 := dkwX3_parse_3 ++ dktX3_parse_4
def dkwX3_parse_2 : List UInt8 := [182, 0, 34, 42, 182, 0, 244, 167, 255, 238, 42, 42, 180, 0, 21, 178, 0, 15, 166, 0, 7, 4]
abbrev dktX3_parse_2 : List UInt8 := dkwX3_parse_2 ++ dktX3_parse_3
def dkwX3_parse_1 : List UInt8 := [4, 16, 8, 182, 0, 127, 183, 0, 243, 181, 0, 105, 42, 180, 0, 21, 178, 0, 90, 166, 0, 14, 42]
abbrev dktX3_parse_1 : List UInt8 := dkwX3_parse_1 ++ dktX3_parse_2
def dkwX3_parse_0 : List UInt8 := [42, 42, 180, 0, 26, 18, 241, 182, 0, 189, 4, 182, 0, 98, 42, 182, 0, 34, 42, 187, 0, 110, 89, 42]
abbrev dktX3_parse_0 : List UInt8 := dkwX3_parse_0 ++ dktX3_parse_1
theorem dksX3_parse_0 : cX3_parse.data.toList.drop 0 = dktX3_parse_0 := by decide +kernel
theorem dksX3_parse_1 : cX3_parse.data.toList.drop 24 = dktX3_parse_1 := dk_seg dksX3_parse_0 24 rfl rfl
theorem dksX3_parse_2 : cX3_parse.data.toList.drop 47 = dktX3_parse_2 := dk_seg dksX3_parse_1 23 rfl rfl
theorem dksX3_parse_3 : cX3_parse.data.toList.drop 69 = dktX3_parse_3 := dk_seg dksX3_parse_2 22 rfl rfl
theorem dksX3_parse_4 : cX3_parse.data.toList.drop 92 = dktX3_parse_4 := dk_seg dksX3_parse_3 23 rfl rfl
theorem dksX3_parse_5 : cX3_parse.data.toList.drop 114 = dktX3_parse_5 := dk_seg dksX3_parse_4 22 rfl rfl
theorem dX3_parse_0 : decode cX3_parse 0 = .ok (.aload_n 0, 1) := dk_42 (dk_at dksX3_parse_0 0 rfl rfl)
theorem dX3_parse_1 : decode cX3_parse 1 = .ok (.aload_n 0, 1) := dk_42 (dk_at dksX3_parse_0 1 rfl rfl)
theorem dX3_parse_2 : decode cX3_parse 2 = .ok (.getfield 26, 3) := dk_180 0 26 (dk_at dksX3_parse_0 2 rfl rfl)
theorem dX3_parse_5 : decode cX3_parse 5 = .ok (.ldc 241, 2) := dk_18 241 (dk_at dksX3_parse_0 5 rfl rfl)
theorem dX3_parse_7 : decode cX3_parse 7 = .ok (.invokevirtual 189, 3) := dk_182 0 189 (dk_at dksX3_parse_0 7 rfl rfl)
theorem dX3_parse_10 : decode cX3_parse 10 = .ok (.iconst 1, 1) := dk_4 (dk_at dksX3_parse_0 10 rfl rfl)
theorem dX3_parse_11 : decode cX3_parse 11 = .ok (.invokevirtual 98, 3) := dk_182 0 98 (dk_at dksX3_parse_0 11 rfl rfl)
theorem dX3_parse_14 : decode cX3_parse 14 = .ok (.aload_n 0, 1) := dk_42 (dk_at dksX3_parse_0 14 rfl rfl)
theorem dX3_parse_15 : decode cX3_parse 15 = .ok (.invokevirtual 34, 3) := dk_182 0 34 (dk_at dksX3_parse_0 15 rfl rfl)
theorem dX3_parse_18 : decode cX3_parse 18 = .ok (.aload_n 0, 1) := dk_42 (dk_at dksX3_parse_0 18 rfl rfl)
theorem dX3_parse_19 : decode cX3_parse 19 = .ok (.new 110, 3) := dk_187 0 110 (dk_at dksX3_parse_0 19 rfl rfl)
theorem dX3_parse_22 : decode cX3_parse 22 = .ok (.dup, 1) := dk_89 (dk_at dksX3_parse_0 22 rfl rfl)
theorem dX3_parse_23 : decode cX3_parse 23 = .ok (.aload_n 0, 1) := dk_42 (dk_at dksX3_parse_0 23 rfl rfl)
theorem dX3_parse_24 : decode cX3_parse 24 = .ok (.iconst 1, 1) := dk_4 (dk_at dksX3_parse_1 0 rfl rfl)
theorem dX3_parse_25 : decode cX3_parse 25 = .ok (.bipush 8, 2) := dk_16 8 (dk_at dksX3_parse_1 1 rfl rfl)
theorem dX3_parse_27 : decode cX3_parse 27 = .ok (.invokevirtual 127, 3) := dk_182 0 127 (dk_at dksX3_parse_1 3 rfl rfl)
theorem dX3_parse_30 : decode cX3_parse 30 = .ok (.invokespecial 243, 3) := dk_183 0 243 (dk_at dksX3_parse_1 6 rfl rfl)
theorem dX3_parse_33 : decode cX3_parse 33 = .ok (.putfield 105, 3) := dk_181 0 105 (dk_at dksX3_parse_1 9 rfl rfl)
theorem dX3_parse_36 : decode cX3_parse 36 = .ok (.aload_n 0, 1) := dk_42 (dk_at dksX3_parse_1 12 rfl rfl)
theorem dX3_parse_37 : decode cX3_parse 37 = .ok (.getfield 21, 3) := dk_180 0 21 (dk_at dksX3_parse_1 13 rfl rfl)
theorem dX3_parse_40 : decode cX3_parse 40 = .ok (.getstatic 90, 3) := dk_178 0 90 (dk_at dksX3_parse_1 16 rfl rfl)
theorem dX3_parse_43 : decode cX3_parse 43 = .ok (.if_acmp .ne 14, 3) := dk_166 0 14 (dk_at dksX3_parse_1 19 rfl rfl)
theorem dX3_parse_46 : decode cX3_parse 46 = .ok (.aload_n 0, 1) := dk_42 (dk_at dksX3_parse_1 22 rfl rfl)
theorem dX3_parse_47 : decode cX3_parse 47 = .ok (.invokevirtual 34, 3) := dk_182 0 34 (dk_at dksX3_parse_2 0 rfl rfl)
theorem dX3_parse_50 : decode cX3_parse 50 = .ok (.aload_n 0, 1) := dk_42 (dk_at dksX3_parse_2 3 rfl rfl)
theorem dX3_parse_51 : decode cX3_parse 51 = .ok (.invokevirtual 244, 3) := dk_182 0 244 (dk_at dksX3_parse_2 4 rfl rfl)
theorem dX3_parse_54 : decode cX3_parse 54 = .ok (.goto (-18), 3) := dk_167 255 238 (dk_at dksX3_parse_2 7 rfl rfl)
theorem dX3_parse_57 : decode cX3_parse 57 = .ok (.aload_n 0, 1) := dk_42 (dk_at dksX3_parse_2 10 rfl rfl)
theorem dX3_parse_58 : decode cX3_parse 58 = .ok (.aload_n 0, 1) := dk_42 (dk_at dksX3_parse_2 11 rfl rfl)
theorem dX3_parse_59 : decode cX3_parse 59 = .ok (.getfield 21, 3) := dk_180 0 21 (dk_at dksX3_parse_2 12 rfl rfl)
theorem dX3_parse_62 : decode cX3_parse 62 = .ok (.getstatic 15, 3) := dk_178 0 15 (dk_at dksX3_parse_2 15 rfl rfl)
theorem dX3_parse_65 : decode cX3_parse 65 = .ok (.if_acmp .ne 7, 3) := dk_166 0 7 (dk_at dksX3_parse_2 18 rfl rfl)
theorem dX3_parse_68 : decode cX3_parse 68 = .ok (.iconst 1, 1) := dk_4 (dk_at dksX3_parse_2 21 rfl rfl)
theorem dX3_parse_69 : decode cX3_parse 69 = .ok (.goto 4, 3) := dk_167 0 4 (dk_at dksX3_parse_3 0 rfl rfl)
theorem dX3_parse_72 : decode cX3_parse 72 = .ok (.iconst 0, 1) := dk_3 (dk_at dksX3_parse_3 3 rfl rfl)
theorem dX3_parse_73 : decode cX3_parse 73 = .ok (.iconst 1, 1) := dk_4 (dk_at dksX3_parse_3 4 rfl rfl)
theorem dX3_parse_74 : decode cX3_parse 74 = .ok (.invokevirtual 98, 3) := dk_182 0 98 (dk_at dksX3_parse_3 5 rfl rfl)
theorem dX3_parse_77 : decode cX3_parse 77 = .ok (.aload_n 0, 1) := dk_42 (dk_at dksX3_parse_3 8 rfl rfl)
theorem dX3_parse_78 : decode cX3_parse 78 = .ok (.aload_n 0, 1) := dk_42 (dk_at dksX3_parse_3 9 rfl rfl)
theorem dX3_parse_79 : decode cX3_parse 79 = .ok (.getfield 105, 3) := dk_180 0 105 (dk_at dksX3_parse_3 10 rfl rfl)
theorem dX3_parse_82 : decode cX3_parse 82 = .ok (.getfield 130, 3) := dk_180 0 130 (dk_at dksX3_parse_3 13 rfl rfl)
theorem dX3_parse_85 : decode cX3_parse 85 = .ok (.ifCond .le 32, 3) := dk_158 0 32 (dk_at dksX3_parse_3 16 rfl rfl)
theorem dX3_parse_88 : decode cX3_parse 88 = .ok (.aload_n 0, 1) := dk_42 (dk_at dksX3_parse_3 19 rfl rfl)
theorem dX3_parse_89 : decode cX3_parse 89 = .ok (.getfield 105, 3) := dk_180 0 105 (dk_at dksX3_parse_3 20 rfl rfl)
theorem dX3_parse_92 : decode cX3_parse 92 = .ok (.getfield 118, 3) := dk_180 0 118 (dk_at dksX3_parse_4 0 rfl rfl)
theorem dX3_parse_95 : decode cX3_parse 95 = .ok (.invokeinterface 122 1, 5) := by decide +kernel
theorem dX3_parse_100 : decode cX3_parse 100 = .ok (.ifCond .le 17, 3) := dk_158 0 17 (dk_at dksX3_parse_4 8 rfl rfl)
theorem dX3_parse_103 : decode cX3_parse 103 = .ok (.aload_n 0, 1) := dk_42 (dk_at dksX3_parse_4 11 rfl rfl)
theorem dX3_parse_104 : decode cX3_parse 104 = .ok (.getfield 105, 3) := dk_180 0 105 (dk_at dksX3_parse_4 12 rfl rfl)
theorem dX3_parse_107 : decode cX3_parse 107 = .ok (.getfield 146, 3) := dk_180 0 146 (dk_at dksX3_parse_4 15 rfl rfl)
theorem dX3_parse_110 : decode cX3_parse 110 = .ok (.ifCond .le 7, 3) := dk_158 0 7 (dk_at dksX3_parse_4 18 rfl rfl)
theorem dX3_parse_113 : decode cX3_parse 113 = .ok (.iconst 1, 1) := dk_4 (dk_at dksX3_parse_4 21 rfl rfl)
theorem dX3_parse_114 : decode cX3_parse 114 = .ok (.goto 4, 3) := dk_167 0 4 (dk_at dksX3_parse_5 0 rfl rfl)
theorem dX3_parse_117 : decode cX3_parse 117 = .ok (.iconst 0, 1) := dk_3 (dk_at dksX3_parse_5 3 rfl rfl)
theorem dX3_parse_118 : decode cX3_parse 118 = .ok (.iconst 4, 1) := dk_7 (dk_at dksX3_parse_5 4 rfl rfl)
theorem dX3_parse_119 : decode cX3_parse 119 = .ok (.invokevirtual 98, 3) := dk_182 0 98 (dk_at dksX3_parse_5 5 rfl rfl)
theorem dX3_parse_122 : decode cX3_parse 122 = .ok (.aload_n 0, 1) := dk_42 (dk_at dksX3_parse_5 8 rfl rfl)
theorem dX3_parse_123 : decode cX3_parse 123 = .ok (.getfield 105, 3) := dk_180 0 105 (dk_at dksX3_parse_5 9 rfl rfl)
theorem dX3_parse_126 : decode cX3_parse 126 = .ok (.areturn, 1) := dk_176 (dk_at dksX3_parse_5 12 rfl rfl)
abbrev cX3_check : ByteArray := prog_14_method_5_code
def yX3_check : MethodName := ⟨RX3, "check", "(ZI)V"⟩
def dkwX3_check_0 : List UInt8 := [27, 154, 0, 16, 187, 0, 93, 89, 28, 42, 180, 0, 41, 183, 0, 95, 191, 177]
abbrev dktX3_check_0 : List UInt8 := dkwX3_check_0 ++ []
theorem dksX3_check_0 : cX3_check.data.toList.drop 0 = dktX3_check_0 := by decide +kernel
theorem dX3_check_0 : decode cX3_check 0 = .ok (.iload_n 1, 1) := dk_27 (dk_at dksX3_check_0 0 rfl rfl)
theorem dX3_check_1 : decode cX3_check 1 = .ok (.ifCond .ne 16, 3) := dk_154 0 16 (dk_at dksX3_check_0 1 rfl rfl)
theorem dX3_check_4 : decode cX3_check 4 = .ok (.new 93, 3) := dk_187 0 93 (dk_at dksX3_check_0 4 rfl rfl)
theorem dX3_check_7 : decode cX3_check 7 = .ok (.dup, 1) := dk_89 (dk_at dksX3_check_0 7 rfl rfl)
theorem dX3_check_8 : decode cX3_check 8 = .ok (.iload_n 2, 1) := dk_28 (dk_at dksX3_check_0 8 rfl rfl)
theorem dX3_check_9 : decode cX3_check 9 = .ok (.aload_n 0, 1) := dk_42 (dk_at dksX3_check_0 9 rfl rfl)
theorem dX3_check_10 : decode cX3_check 10 = .ok (.getfield 41, 3) := dk_180 0 41 (dk_at dksX3_check_0 10 rfl rfl)
theorem dX3_check_13 : decode cX3_check 13 = .ok (.invokespecial 95, 3) := dk_183 0 95 (dk_at dksX3_check_0 13 rfl rfl)
theorem dX3_check_16 : decode cX3_check 16 = .ok (.athrow, 1) := dk_191 (dk_at dksX3_check_0 16 rfl rfl)
theorem dX3_check_17 : decode cX3_check 17 = .ok (.return_, 1) := dk_177 (dk_at dksX3_check_0 17 rfl rfl)
abbrev cX3_number : ByteArray := prog_14_method_7_code
def yX3_number : MethodName := ⟨RX3, "number", "(II)I"⟩
def dkwX3_number_0 : List UInt8 := [42, 27, 28, 182, 0, 102, 62, 42, 182, 0, 34, 29, 172]
abbrev dktX3_number_0 : List UInt8 := dkwX3_number_0 ++ []
theorem dksX3_number_0 : cX3_number.data.toList.drop 0 = dktX3_number_0 := by decide +kernel
theorem dX3_number_0 : decode cX3_number 0 = .ok (.aload_n 0, 1) := dk_42 (dk_at dksX3_number_0 0 rfl rfl)
theorem dX3_number_1 : decode cX3_number 1 = .ok (.iload_n 1, 1) := dk_27 (dk_at dksX3_number_0 1 rfl rfl)
theorem dX3_number_2 : decode cX3_number 2 = .ok (.iload_n 2, 1) := dk_28 (dk_at dksX3_number_0 2 rfl rfl)
theorem dX3_number_3 : decode cX3_number 3 = .ok (.invokevirtual 102, 3) := dk_182 0 102 (dk_at dksX3_number_0 3 rfl rfl)
theorem dX3_number_6 : decode cX3_number 6 = .ok (.istore_n 3, 1) := dk_62 (dk_at dksX3_number_0 6 rfl rfl)
theorem dX3_number_7 : decode cX3_number 7 = .ok (.aload_n 0, 1) := dk_42 (dk_at dksX3_number_0 7 rfl rfl)
theorem dX3_number_8 : decode cX3_number 8 = .ok (.invokevirtual 34, 3) := dk_182 0 34 (dk_at dksX3_number_0 8 rfl rfl)
theorem dX3_number_11 : decode cX3_number 11 = .ok (.iload_n 3, 1) := dk_29 (dk_at dksX3_number_0 11 rfl rfl)
theorem dX3_number_12 : decode cX3_number 12 = .ok (.ireturn, 1) := dk_172 (dk_at dksX3_number_0 12 rfl rfl)
abbrev cX3_look : ByteArray := prog_14_method_6_code
def yX3_look : MethodName := ⟨RX3, "look", "(II)I"⟩
def dkwX3_look_1 : List UInt8 := [180, 0, 87, 133, 27, 133, 28, 133, 184, 0, 48, 5, 182, 0, 98, 42, 180, 0, 87, 172]
abbrev dktX3_look_1 : List UInt8 := dkwX3_look_1 ++ []
def dkwX3_look_0 : List UInt8 := [42, 42, 180, 0, 21, 178, 0, 84, 166, 0, 7, 4, 167, 0, 4, 3, 4, 182, 0, 98, 42, 42]
abbrev dktX3_look_0 : List UInt8 := dkwX3_look_0 ++ dktX3_look_1
theorem dksX3_look_0 : cX3_look.data.toList.drop 0 = dktX3_look_0 := by decide +kernel
theorem dksX3_look_1 : cX3_look.data.toList.drop 22 = dktX3_look_1 := dk_seg dksX3_look_0 22 rfl rfl
theorem dX3_look_0 : decode cX3_look 0 = .ok (.aload_n 0, 1) := dk_42 (dk_at dksX3_look_0 0 rfl rfl)
theorem dX3_look_1 : decode cX3_look 1 = .ok (.aload_n 0, 1) := dk_42 (dk_at dksX3_look_0 1 rfl rfl)
theorem dX3_look_2 : decode cX3_look 2 = .ok (.getfield 21, 3) := dk_180 0 21 (dk_at dksX3_look_0 2 rfl rfl)
theorem dX3_look_5 : decode cX3_look 5 = .ok (.getstatic 84, 3) := dk_178 0 84 (dk_at dksX3_look_0 5 rfl rfl)
theorem dX3_look_8 : decode cX3_look 8 = .ok (.if_acmp .ne 7, 3) := dk_166 0 7 (dk_at dksX3_look_0 8 rfl rfl)
theorem dX3_look_11 : decode cX3_look 11 = .ok (.iconst 1, 1) := dk_4 (dk_at dksX3_look_0 11 rfl rfl)
theorem dX3_look_12 : decode cX3_look 12 = .ok (.goto 4, 3) := dk_167 0 4 (dk_at dksX3_look_0 12 rfl rfl)
theorem dX3_look_15 : decode cX3_look 15 = .ok (.iconst 0, 1) := dk_3 (dk_at dksX3_look_0 15 rfl rfl)
theorem dX3_look_16 : decode cX3_look 16 = .ok (.iconst 1, 1) := dk_4 (dk_at dksX3_look_0 16 rfl rfl)
theorem dX3_look_17 : decode cX3_look 17 = .ok (.invokevirtual 98, 3) := dk_182 0 98 (dk_at dksX3_look_0 17 rfl rfl)
theorem dX3_look_20 : decode cX3_look 20 = .ok (.aload_n 0, 1) := dk_42 (dk_at dksX3_look_0 20 rfl rfl)
theorem dX3_look_21 : decode cX3_look 21 = .ok (.aload_n 0, 1) := dk_42 (dk_at dksX3_look_0 21 rfl rfl)
theorem dX3_look_22 : decode cX3_look 22 = .ok (.getfield 87, 3) := dk_180 0 87 (dk_at dksX3_look_1 0 rfl rfl)
theorem dX3_look_25 : decode cX3_look 25 = .ok (.i2l, 1) := dk_133 (dk_at dksX3_look_1 3 rfl rfl)
theorem dX3_look_26 : decode cX3_look 26 = .ok (.iload_n 1, 1) := dk_27 (dk_at dksX3_look_1 4 rfl rfl)
theorem dX3_look_27 : decode cX3_look 27 = .ok (.i2l, 1) := dk_133 (dk_at dksX3_look_1 5 rfl rfl)
theorem dX3_look_28 : decode cX3_look 28 = .ok (.iload_n 2, 1) := dk_28 (dk_at dksX3_look_1 6 rfl rfl)
theorem dX3_look_29 : decode cX3_look 29 = .ok (.i2l, 1) := dk_133 (dk_at dksX3_look_1 7 rfl rfl)
theorem dX3_look_30 : decode cX3_look 30 = .ok (.invokestatic 48, 3) := dk_184 0 48 (dk_at dksX3_look_1 8 rfl rfl)
theorem dX3_look_33 : decode cX3_look 33 = .ok (.iconst 2, 1) := dk_5 (dk_at dksX3_look_1 11 rfl rfl)
theorem dX3_look_34 : decode cX3_look 34 = .ok (.invokevirtual 98, 3) := dk_182 0 98 (dk_at dksX3_look_1 12 rfl rfl)
theorem dX3_look_37 : decode cX3_look 37 = .ok (.aload_n 0, 1) := dk_42 (dk_at dksX3_look_1 15 rfl rfl)
theorem dX3_look_38 : decode cX3_look 38 = .ok (.getfield 87, 3) := dk_180 0 87 (dk_at dksX3_look_1 16 rfl rfl)
theorem dX3_look_41 : decode cX3_look 41 = .ok (.ireturn, 1) := dk_172 (dk_at dksX3_look_1 19 rfl rfl)
abbrev cX3_line : ByteArray := prog_14_method_13_code
def yX3_line : MethodName := ⟨RX3, "line", "()V"⟩
def dkwX3_line_20 : List UInt8 := [4, 182, 0, 98, 177]
abbrev dktX3_line_20 : List UInt8 := dkwX3_line_20 ++ []
def dkwX3_line_19 : List UInt8 := [182, 0, 34, 42, 180, 0, 105, 42, 4, 16, 50, 182, 0, 127, 182, 0, 238, 54, 5, 167, 0, 9, 42, 3]
abbrev dktX3_line_19 : List UInt8 := dkwX3_line_19 ++ dktX3_line_20
def dkwX3_line_18 : List UInt8 := [42, 182, 0, 34, 42, 180, 0, 105, 42, 3, 16, 9, 182, 0, 127, 181, 0, 236, 167, 0, 32, 42]
abbrev dktX3_line_18 : List UInt8 := dkwX3_line_18 ++ dktX3_line_19
def dkwX3_line_17 : List UInt8 := [167, 0, 74, 42, 182, 0, 227, 167, 0, 67, 42, 182, 0, 230, 167, 0, 60, 42, 182, 0, 233, 167, 0, 53]
abbrev dktX3_line_17 : List UInt8 := dkwX3_line_17 ++ dktX3_line_18
def dkwX3_line_16 : List UInt8 := [182, 0, 127, 79, 42, 180, 0, 105, 89, 180, 0, 146, 4, 96, 181, 0, 146, 167, 0, 81, 42, 182, 0, 224]
abbrev dktX3_line_16 : List UInt8 := dkwX3_line_16 ++ dktX3_line_17
def dkwX3_line_15 : List UInt8 := [6, 182, 0, 115, 42, 180, 0, 105, 180, 0, 221, 42, 180, 0, 105, 180, 0, 146, 42, 4, 16, 6]
abbrev dktX3_line_15 : List UInt8 := dkwX3_line_15 ++ dktX3_line_16
def dkwX3_line_14 : List UInt8 := [42, 3, 16, 9, 182, 0, 127, 183, 0, 215, 182, 0, 218, 167, 0, 131, 42, 42, 180, 0, 105, 180, 0, 146]
abbrev dktX3_line_14 : List UInt8 := dkwX3_line_14 ++ dktX3_line_15
def dkwX3_line_13 : List UInt8 := [182, 0, 127, 62, 42, 4, 16, 99, 182, 0, 127, 54, 4, 42, 180, 0, 105, 187, 0, 213, 89, 29, 21, 4]
abbrev dktX3_line_13 : List UInt8 := dkwX3_line_13 ++ dktX3_line_14
def dkwX3_line_12 : List UInt8 := [167, 0, 192, 42, 42, 180, 0, 105, 180, 0, 118, 185, 0, 122, 1, 0, 7, 182, 0, 115, 42, 3, 16, 99]
abbrev dktX3_line_12 : List UInt8 := dkwX3_line_12 ++ dktX3_line_13
def dkwX3_line_11 : List UInt8 := [180, 0, 130, 42, 3, 7, 182, 0, 127, 79, 42, 180, 0, 105, 89, 180, 0, 130, 4, 96, 181, 0, 130]
abbrev dktX3_line_11 : List UInt8 := dkwX3_line_11 ++ dktX3_line_12
def dkwX3_line_10 : List UInt8 := [42, 42, 180, 0, 105, 180, 0, 130, 16, 6, 182, 0, 115, 42, 180, 0, 105, 180, 0, 209, 42, 180, 0, 105]
abbrev dktX3_line_10 : List UInt8 := dkwX3_line_10 ++ dktX3_line_11
def dkwX3_line_9 : List UInt8 := [170, 0, 0, 1, 26, 0, 0, 0, 0, 0, 0, 0, 8, 0, 0, 0, 49, 0, 0, 0, 99, 0, 0, 0, 160, 0, 0, 0, 210, 0, 0, 0, 217, 0, 0, 0, 224, 0, 0, 0, 231, 0, 0, 0, 238, 0, 0, 1, 3]
abbrev dktX3_line_9 : List UInt8 := dkwX3_line_9 ++ dktX3_line_10
def dkwX3_line_8 : List UInt8 := [182, 0, 189, 153, 0, 6, 16, 8, 61, 28]
abbrev dktX3_line_8 : List UInt8 := dkwX3_line_8 ++ dktX3_line_9
def dkwX3_line_7 : List UInt8 := [61, 167, 0, 30, 43, 18, 205, 182, 0, 189, 153, 0, 21, 16, 7, 61, 167, 0, 15, 43, 18, 207]
abbrev dktX3_line_7 : List UInt8 := dkwX3_line_7 ++ dktX3_line_8
def dkwX3_line_6 : List UInt8 := [18, 201, 182, 0, 189, 153, 0, 50, 8, 61, 167, 0, 45, 43, 18, 203, 182, 0, 189, 153, 0, 36, 16, 6]
abbrev dktX3_line_6 : List UInt8 := dkwX3_line_6 ++ dktX3_line_7
def dkwX3_line_5 : List UInt8 := [153, 0, 78, 6, 61, 167, 0, 73, 43, 18, 199, 182, 0, 189, 153, 0, 64, 7, 61, 167, 0, 59, 43]
abbrev dktX3_line_5 : List UInt8 := dkwX3_line_5 ++ dktX3_line_6
def dkwX3_line_4 : List UInt8 := [61, 167, 0, 101, 43, 18, 195, 182, 0, 189, 153, 0, 92, 5, 61, 167, 0, 87, 43, 18, 197, 182, 0, 189]
abbrev dktX3_line_4 : List UInt8 := dkwX3_line_4 ++ dktX3_line_5
def dkwX3_line_3 : List UInt8 := [43, 18, 187, 182, 0, 189, 153, 0, 120, 3, 61, 167, 0, 115, 43, 18, 193, 182, 0, 189, 153, 0, 106, 4]
abbrev dktX3_line_3 : List UInt8 := dkwX3_line_3 ++ dktX3_line_4
def dkwX3_line_2 : List UInt8 := [171, 0, 0, 0, 207, 0, 0, 0, 9, 175, 62, 189, 204, 0, 0, 0, 81, 193, 66, 79, 71, 0, 0, 0, 95, 0, 1, 179, 15, 0, 0, 0, 137, 0, 1, 194, 1, 0, 0, 0, 109, 0, 47, 255, 108, 0, 0, 0, 123, 0, 48, 192, 114, 0, 0, 0, 165, 0, 52, 100, 17, 0, 0, 0, 195, 0, 55, 146, 159, 0, 0, 0, 151, 0, 55, 176, 8, 0, 0, 0, 180]
abbrev dktX3_line_2 : List UInt8 := dkwX3_line_2 ++ dktX3_line_3
def dkwX3_line_1 : List UInt8 := [76, 2, 61, 43, 182, 0, 182]
abbrev dktX3_line_1 : List UInt8 := dkwX3_line_1 ++ dktX3_line_2
def dkwX3_line_0 : List UInt8 := [42, 42, 180, 0, 21, 178, 0, 63, 166, 0, 7, 4, 167, 0, 4, 3, 4, 182, 0, 98, 42, 180, 0, 26]
abbrev dktX3_line_0 : List UInt8 := dkwX3_line_0 ++ dktX3_line_1
theorem dksX3_line_0 : cX3_line.data.toList.drop 0 = dktX3_line_0 := by decide +kernel
theorem dksX3_line_1 : cX3_line.data.toList.drop 24 = dktX3_line_1 := dk_seg dksX3_line_0 24 rfl rfl
theorem dksX3_line_2 : cX3_line.data.toList.drop 31 = dktX3_line_2 := dk_seg dksX3_line_1 7 rfl rfl
theorem dksX3_line_3 : cX3_line.data.toList.drop 112 = dktX3_line_3 := dk_seg dksX3_line_2 81 rfl rfl
theorem dksX3_line_4 : cX3_line.data.toList.drop 136 = dktX3_line_4 := dk_seg dksX3_line_3 24 rfl rfl
theorem dksX3_line_5 : cX3_line.data.toList.drop 160 = dktX3_line_5 := dk_seg dksX3_line_4 24 rfl rfl
theorem dksX3_line_6 : cX3_line.data.toList.drop 183 = dktX3_line_6 := dk_seg dksX3_line_5 23 rfl rfl
theorem dksX3_line_7 : cX3_line.data.toList.drop 207 = dktX3_line_7 := dk_seg dksX3_line_6 24 rfl rfl
theorem dksX3_line_8 : cX3_line.data.toList.drop 229 = dktX3_line_8 := dk_seg dksX3_line_7 22 rfl rfl
theorem dksX3_line_9 : cX3_line.data.toList.drop 239 = dktX3_line_9 := dk_seg dksX3_line_8 10 rfl rfl
theorem dksX3_line_10 : cX3_line.data.toList.drop 288 = dktX3_line_10 := dk_seg dksX3_line_9 49 rfl rfl
theorem dksX3_line_11 : cX3_line.data.toList.drop 312 = dktX3_line_11 := dk_seg dksX3_line_10 24 rfl rfl
theorem dksX3_line_12 : cX3_line.data.toList.drop 335 = dktX3_line_12 := dk_seg dksX3_line_11 23 rfl rfl
theorem dksX3_line_13 : cX3_line.data.toList.drop 359 = dktX3_line_13 := dk_seg dksX3_line_12 24 rfl rfl
theorem dksX3_line_14 : cX3_line.data.toList.drop 383 = dktX3_line_14 := dk_seg dksX3_line_13 24 rfl rfl
theorem dksX3_line_15 : cX3_line.data.toList.drop 407 = dktX3_line_15 := dk_seg dksX3_line_14 24 rfl rfl
theorem dksX3_line_16 : cX3_line.data.toList.drop 429 = dktX3_line_16 := dk_seg dksX3_line_15 22 rfl rfl
theorem dksX3_line_17 : cX3_line.data.toList.drop 453 = dktX3_line_17 := dk_seg dksX3_line_16 24 rfl rfl
theorem dksX3_line_18 : cX3_line.data.toList.drop 477 = dktX3_line_18 := dk_seg dksX3_line_17 24 rfl rfl
theorem dksX3_line_19 : cX3_line.data.toList.drop 499 = dktX3_line_19 := dk_seg dksX3_line_18 22 rfl rfl
theorem dksX3_line_20 : cX3_line.data.toList.drop 523 = dktX3_line_20 := dk_seg dksX3_line_19 24 rfl rfl
theorem dX3_line_0 : decode cX3_line 0 = .ok (.aload_n 0, 1) := dk_42 (dk_at dksX3_line_0 0 rfl rfl)
theorem dX3_line_1 : decode cX3_line 1 = .ok (.aload_n 0, 1) := dk_42 (dk_at dksX3_line_0 1 rfl rfl)
theorem dX3_line_2 : decode cX3_line 2 = .ok (.getfield 21, 3) := dk_180 0 21 (dk_at dksX3_line_0 2 rfl rfl)
theorem dX3_line_5 : decode cX3_line 5 = .ok (.getstatic 63, 3) := dk_178 0 63 (dk_at dksX3_line_0 5 rfl rfl)
theorem dX3_line_8 : decode cX3_line 8 = .ok (.if_acmp .ne 7, 3) := dk_166 0 7 (dk_at dksX3_line_0 8 rfl rfl)
theorem dX3_line_11 : decode cX3_line 11 = .ok (.iconst 1, 1) := dk_4 (dk_at dksX3_line_0 11 rfl rfl)
theorem dX3_line_12 : decode cX3_line 12 = .ok (.goto 4, 3) := dk_167 0 4 (dk_at dksX3_line_0 12 rfl rfl)
theorem dX3_line_15 : decode cX3_line 15 = .ok (.iconst 0, 1) := dk_3 (dk_at dksX3_line_0 15 rfl rfl)
theorem dX3_line_16 : decode cX3_line 16 = .ok (.iconst 1, 1) := dk_4 (dk_at dksX3_line_0 16 rfl rfl)
theorem dX3_line_17 : decode cX3_line 17 = .ok (.invokevirtual 98, 3) := dk_182 0 98 (dk_at dksX3_line_0 17 rfl rfl)
theorem dX3_line_20 : decode cX3_line 20 = .ok (.aload_n 0, 1) := dk_42 (dk_at dksX3_line_0 20 rfl rfl)
theorem dX3_line_21 : decode cX3_line 21 = .ok (.getfield 26, 3) := dk_180 0 26 (dk_at dksX3_line_0 21 rfl rfl)
theorem dX3_line_24 : decode cX3_line 24 = .ok (.astore_n 1, 1) := dk_76 (dk_at dksX3_line_1 0 rfl rfl)
theorem dX3_line_25 : decode cX3_line 25 = .ok (.iconst (-1), 1) := dk_2 (dk_at dksX3_line_1 1 rfl rfl)
theorem dX3_line_26 : decode cX3_line 26 = .ok (.istore_n 2, 1) := dk_61 (dk_at dksX3_line_1 2 rfl rfl)
theorem dX3_line_27 : decode cX3_line 27 = .ok (.aload_n 1, 1) := dk_43 (dk_at dksX3_line_1 3 rfl rfl)
theorem dX3_line_28 : decode cX3_line 28 = .ok (.invokevirtual 182, 3) := dk_182 0 182 (dk_at dksX3_line_1 4 rfl rfl)
theorem dX3_line_31 : decode cX3_line 31 = .ok (.lookupswitch 207 #[(-1354842676, 81), (-1052618937, 95), (111375, 137), (115201, 109), (3145580, 123), (3194994, 165), (3433489, 195), (3642015, 151), (3649544, 180)], 81) := by decide +kernel
theorem dX3_line_112 : decode cX3_line 112 = .ok (.aload_n 1, 1) := dk_43 (dk_at dksX3_line_3 0 rfl rfl)
theorem dX3_line_113 : decode cX3_line 113 = .ok (.ldc 187, 2) := dk_18 187 (dk_at dksX3_line_3 1 rfl rfl)
theorem dX3_line_115 : decode cX3_line 115 = .ok (.invokevirtual 189, 3) := dk_182 0 189 (dk_at dksX3_line_3 3 rfl rfl)
theorem dX3_line_118 : decode cX3_line 118 = .ok (.ifCond .eq 120, 3) := dk_153 0 120 (dk_at dksX3_line_3 6 rfl rfl)
theorem dX3_line_121 : decode cX3_line 121 = .ok (.iconst 0, 1) := dk_3 (dk_at dksX3_line_3 9 rfl rfl)
theorem dX3_line_122 : decode cX3_line 122 = .ok (.istore_n 2, 1) := dk_61 (dk_at dksX3_line_3 10 rfl rfl)
theorem dX3_line_123 : decode cX3_line 123 = .ok (.goto 115, 3) := dk_167 0 115 (dk_at dksX3_line_3 11 rfl rfl)
theorem dX3_line_126 : decode cX3_line 126 = .ok (.aload_n 1, 1) := dk_43 (dk_at dksX3_line_3 14 rfl rfl)
theorem dX3_line_127 : decode cX3_line 127 = .ok (.ldc 193, 2) := dk_18 193 (dk_at dksX3_line_3 15 rfl rfl)
theorem dX3_line_129 : decode cX3_line 129 = .ok (.invokevirtual 189, 3) := dk_182 0 189 (dk_at dksX3_line_3 17 rfl rfl)
theorem dX3_line_132 : decode cX3_line 132 = .ok (.ifCond .eq 106, 3) := dk_153 0 106 (dk_at dksX3_line_3 20 rfl rfl)
theorem dX3_line_135 : decode cX3_line 135 = .ok (.iconst 1, 1) := dk_4 (dk_at dksX3_line_3 23 rfl rfl)
theorem dX3_line_136 : decode cX3_line 136 = .ok (.istore_n 2, 1) := dk_61 (dk_at dksX3_line_4 0 rfl rfl)
theorem dX3_line_137 : decode cX3_line 137 = .ok (.goto 101, 3) := dk_167 0 101 (dk_at dksX3_line_4 1 rfl rfl)
theorem dX3_line_140 : decode cX3_line 140 = .ok (.aload_n 1, 1) := dk_43 (dk_at dksX3_line_4 4 rfl rfl)
theorem dX3_line_141 : decode cX3_line 141 = .ok (.ldc 195, 2) := dk_18 195 (dk_at dksX3_line_4 5 rfl rfl)
theorem dX3_line_143 : decode cX3_line 143 = .ok (.invokevirtual 189, 3) := dk_182 0 189 (dk_at dksX3_line_4 7 rfl rfl)
theorem dX3_line_146 : decode cX3_line 146 = .ok (.ifCond .eq 92, 3) := dk_153 0 92 (dk_at dksX3_line_4 10 rfl rfl)
theorem dX3_line_149 : decode cX3_line 149 = .ok (.iconst 2, 1) := dk_5 (dk_at dksX3_line_4 13 rfl rfl)
theorem dX3_line_150 : decode cX3_line 150 = .ok (.istore_n 2, 1) := dk_61 (dk_at dksX3_line_4 14 rfl rfl)
theorem dX3_line_151 : decode cX3_line 151 = .ok (.goto 87, 3) := dk_167 0 87 (dk_at dksX3_line_4 15 rfl rfl)
theorem dX3_line_154 : decode cX3_line 154 = .ok (.aload_n 1, 1) := dk_43 (dk_at dksX3_line_4 18 rfl rfl)
theorem dX3_line_155 : decode cX3_line 155 = .ok (.ldc 197, 2) := dk_18 197 (dk_at dksX3_line_4 19 rfl rfl)
theorem dX3_line_157 : decode cX3_line 157 = .ok (.invokevirtual 189, 3) := dk_182 0 189 (dk_at dksX3_line_4 21 rfl rfl)
theorem dX3_line_160 : decode cX3_line 160 = .ok (.ifCond .eq 78, 3) := dk_153 0 78 (dk_at dksX3_line_5 0 rfl rfl)
theorem dX3_line_163 : decode cX3_line 163 = .ok (.iconst 3, 1) := dk_6 (dk_at dksX3_line_5 3 rfl rfl)
theorem dX3_line_164 : decode cX3_line 164 = .ok (.istore_n 2, 1) := dk_61 (dk_at dksX3_line_5 4 rfl rfl)
theorem dX3_line_165 : decode cX3_line 165 = .ok (.goto 73, 3) := dk_167 0 73 (dk_at dksX3_line_5 5 rfl rfl)
theorem dX3_line_168 : decode cX3_line 168 = .ok (.aload_n 1, 1) := dk_43 (dk_at dksX3_line_5 8 rfl rfl)
theorem dX3_line_169 : decode cX3_line 169 = .ok (.ldc 199, 2) := dk_18 199 (dk_at dksX3_line_5 9 rfl rfl)
theorem dX3_line_171 : decode cX3_line 171 = .ok (.invokevirtual 189, 3) := dk_182 0 189 (dk_at dksX3_line_5 11 rfl rfl)
theorem dX3_line_174 : decode cX3_line 174 = .ok (.ifCond .eq 64, 3) := dk_153 0 64 (dk_at dksX3_line_5 14 rfl rfl)
theorem dX3_line_177 : decode cX3_line 177 = .ok (.iconst 4, 1) := dk_7 (dk_at dksX3_line_5 17 rfl rfl)
theorem dX3_line_178 : decode cX3_line 178 = .ok (.istore_n 2, 1) := dk_61 (dk_at dksX3_line_5 18 rfl rfl)
theorem dX3_line_179 : decode cX3_line 179 = .ok (.goto 59, 3) := dk_167 0 59 (dk_at dksX3_line_5 19 rfl rfl)
theorem dX3_line_182 : decode cX3_line 182 = .ok (.aload_n 1, 1) := dk_43 (dk_at dksX3_line_5 22 rfl rfl)
theorem dX3_line_183 : decode cX3_line 183 = .ok (.ldc 201, 2) := dk_18 201 (dk_at dksX3_line_6 0 rfl rfl)
theorem dX3_line_185 : decode cX3_line 185 = .ok (.invokevirtual 189, 3) := dk_182 0 189 (dk_at dksX3_line_6 2 rfl rfl)
theorem dX3_line_188 : decode cX3_line 188 = .ok (.ifCond .eq 50, 3) := dk_153 0 50 (dk_at dksX3_line_6 5 rfl rfl)
theorem dX3_line_191 : decode cX3_line 191 = .ok (.iconst 5, 1) := dk_8 (dk_at dksX3_line_6 8 rfl rfl)
theorem dX3_line_192 : decode cX3_line 192 = .ok (.istore_n 2, 1) := dk_61 (dk_at dksX3_line_6 9 rfl rfl)
theorem dX3_line_193 : decode cX3_line 193 = .ok (.goto 45, 3) := dk_167 0 45 (dk_at dksX3_line_6 10 rfl rfl)
theorem dX3_line_196 : decode cX3_line 196 = .ok (.aload_n 1, 1) := dk_43 (dk_at dksX3_line_6 13 rfl rfl)
theorem dX3_line_197 : decode cX3_line 197 = .ok (.ldc 203, 2) := dk_18 203 (dk_at dksX3_line_6 14 rfl rfl)
theorem dX3_line_199 : decode cX3_line 199 = .ok (.invokevirtual 189, 3) := dk_182 0 189 (dk_at dksX3_line_6 16 rfl rfl)
theorem dX3_line_202 : decode cX3_line 202 = .ok (.ifCond .eq 36, 3) := dk_153 0 36 (dk_at dksX3_line_6 19 rfl rfl)
theorem dX3_line_205 : decode cX3_line 205 = .ok (.bipush 6, 2) := dk_16 6 (dk_at dksX3_line_6 22 rfl rfl)
theorem dX3_line_207 : decode cX3_line 207 = .ok (.istore_n 2, 1) := dk_61 (dk_at dksX3_line_7 0 rfl rfl)
theorem dX3_line_208 : decode cX3_line 208 = .ok (.goto 30, 3) := dk_167 0 30 (dk_at dksX3_line_7 1 rfl rfl)
theorem dX3_line_211 : decode cX3_line 211 = .ok (.aload_n 1, 1) := dk_43 (dk_at dksX3_line_7 4 rfl rfl)
theorem dX3_line_212 : decode cX3_line 212 = .ok (.ldc 205, 2) := dk_18 205 (dk_at dksX3_line_7 5 rfl rfl)
theorem dX3_line_214 : decode cX3_line 214 = .ok (.invokevirtual 189, 3) := dk_182 0 189 (dk_at dksX3_line_7 7 rfl rfl)
theorem dX3_line_217 : decode cX3_line 217 = .ok (.ifCond .eq 21, 3) := dk_153 0 21 (dk_at dksX3_line_7 10 rfl rfl)
theorem dX3_line_220 : decode cX3_line 220 = .ok (.bipush 7, 2) := dk_16 7 (dk_at dksX3_line_7 13 rfl rfl)
theorem dX3_line_222 : decode cX3_line 222 = .ok (.istore_n 2, 1) := dk_61 (dk_at dksX3_line_7 15 rfl rfl)
theorem dX3_line_223 : decode cX3_line 223 = .ok (.goto 15, 3) := dk_167 0 15 (dk_at dksX3_line_7 16 rfl rfl)
theorem dX3_line_226 : decode cX3_line 226 = .ok (.aload_n 1, 1) := dk_43 (dk_at dksX3_line_7 19 rfl rfl)
theorem dX3_line_227 : decode cX3_line 227 = .ok (.ldc 207, 2) := dk_18 207 (dk_at dksX3_line_7 20 rfl rfl)
theorem dX3_line_229 : decode cX3_line 229 = .ok (.invokevirtual 189, 3) := dk_182 0 189 (dk_at dksX3_line_8 0 rfl rfl)
theorem dX3_line_232 : decode cX3_line 232 = .ok (.ifCond .eq 6, 3) := dk_153 0 6 (dk_at dksX3_line_8 3 rfl rfl)
theorem dX3_line_235 : decode cX3_line 235 = .ok (.bipush 8, 2) := dk_16 8 (dk_at dksX3_line_8 6 rfl rfl)
theorem dX3_line_237 : decode cX3_line 237 = .ok (.istore_n 2, 1) := dk_61 (dk_at dksX3_line_8 8 rfl rfl)
theorem dX3_line_238 : decode cX3_line 238 = .ok (.iload_n 2, 1) := dk_28 (dk_at dksX3_line_8 9 rfl rfl)
theorem dX3_line_239 : decode cX3_line 239 = .ok (.tableswitch 282 0 8 #[49, 99, 160, 210, 217, 224, 231, 238, 259], 49) := by decide +kernel
theorem dX3_line_288 : decode cX3_line 288 = .ok (.aload_n 0, 1) := dk_42 (dk_at dksX3_line_10 0 rfl rfl)
theorem dX3_line_289 : decode cX3_line 289 = .ok (.aload_n 0, 1) := dk_42 (dk_at dksX3_line_10 1 rfl rfl)
theorem dX3_line_290 : decode cX3_line 290 = .ok (.getfield 105, 3) := dk_180 0 105 (dk_at dksX3_line_10 2 rfl rfl)
theorem dX3_line_293 : decode cX3_line 293 = .ok (.getfield 130, 3) := dk_180 0 130 (dk_at dksX3_line_10 5 rfl rfl)
theorem dX3_line_296 : decode cX3_line 296 = .ok (.bipush 6, 2) := dk_16 6 (dk_at dksX3_line_10 8 rfl rfl)
theorem dX3_line_298 : decode cX3_line 298 = .ok (.invokevirtual 115, 3) := dk_182 0 115 (dk_at dksX3_line_10 10 rfl rfl)
theorem dX3_line_301 : decode cX3_line 301 = .ok (.aload_n 0, 1) := dk_42 (dk_at dksX3_line_10 13 rfl rfl)
theorem dX3_line_302 : decode cX3_line 302 = .ok (.getfield 105, 3) := dk_180 0 105 (dk_at dksX3_line_10 14 rfl rfl)
theorem dX3_line_305 : decode cX3_line 305 = .ok (.getfield 209, 3) := dk_180 0 209 (dk_at dksX3_line_10 17 rfl rfl)
theorem dX3_line_308 : decode cX3_line 308 = .ok (.aload_n 0, 1) := dk_42 (dk_at dksX3_line_10 20 rfl rfl)
theorem dX3_line_309 : decode cX3_line 309 = .ok (.getfield 105, 3) := dk_180 0 105 (dk_at dksX3_line_10 21 rfl rfl)
theorem dX3_line_312 : decode cX3_line 312 = .ok (.getfield 130, 3) := dk_180 0 130 (dk_at dksX3_line_11 0 rfl rfl)
theorem dX3_line_315 : decode cX3_line 315 = .ok (.aload_n 0, 1) := dk_42 (dk_at dksX3_line_11 3 rfl rfl)
theorem dX3_line_316 : decode cX3_line 316 = .ok (.iconst 0, 1) := dk_3 (dk_at dksX3_line_11 4 rfl rfl)
theorem dX3_line_317 : decode cX3_line 317 = .ok (.iconst 4, 1) := dk_7 (dk_at dksX3_line_11 5 rfl rfl)
theorem dX3_line_318 : decode cX3_line 318 = .ok (.invokevirtual 127, 3) := dk_182 0 127 (dk_at dksX3_line_11 6 rfl rfl)
theorem dX3_line_321 : decode cX3_line 321 = .ok (.iastore, 1) := dk_79 (dk_at dksX3_line_11 9 rfl rfl)
theorem dX3_line_322 : decode cX3_line 322 = .ok (.aload_n 0, 1) := dk_42 (dk_at dksX3_line_11 10 rfl rfl)
theorem dX3_line_323 : decode cX3_line 323 = .ok (.getfield 105, 3) := dk_180 0 105 (dk_at dksX3_line_11 11 rfl rfl)
theorem dX3_line_326 : decode cX3_line 326 = .ok (.dup, 1) := dk_89 (dk_at dksX3_line_11 14 rfl rfl)
theorem dX3_line_327 : decode cX3_line 327 = .ok (.getfield 130, 3) := dk_180 0 130 (dk_at dksX3_line_11 15 rfl rfl)
theorem dX3_line_330 : decode cX3_line 330 = .ok (.iconst 1, 1) := dk_4 (dk_at dksX3_line_11 18 rfl rfl)
theorem dX3_line_331 : decode cX3_line 331 = .ok (.iadd, 1) := dk_96 (dk_at dksX3_line_11 19 rfl rfl)
theorem dX3_line_332 : decode cX3_line 332 = .ok (.putfield 130, 3) := dk_181 0 130 (dk_at dksX3_line_11 20 rfl rfl)
theorem dX3_line_335 : decode cX3_line 335 = .ok (.goto 192, 3) := dk_167 0 192 (dk_at dksX3_line_12 0 rfl rfl)
theorem dX3_line_338 : decode cX3_line 338 = .ok (.aload_n 0, 1) := dk_42 (dk_at dksX3_line_12 3 rfl rfl)
theorem dX3_line_339 : decode cX3_line 339 = .ok (.aload_n 0, 1) := dk_42 (dk_at dksX3_line_12 4 rfl rfl)
theorem dX3_line_340 : decode cX3_line 340 = .ok (.getfield 105, 3) := dk_180 0 105 (dk_at dksX3_line_12 5 rfl rfl)
theorem dX3_line_343 : decode cX3_line 343 = .ok (.getfield 118, 3) := dk_180 0 118 (dk_at dksX3_line_12 8 rfl rfl)
theorem dX3_line_346 : decode cX3_line 346 = .ok (.invokeinterface 122 1, 5) := by decide +kernel
theorem dX3_line_351 : decode cX3_line 351 = .ok (.iconst 4, 1) := dk_7 (dk_at dksX3_line_12 16 rfl rfl)
theorem dX3_line_352 : decode cX3_line 352 = .ok (.invokevirtual 115, 3) := dk_182 0 115 (dk_at dksX3_line_12 17 rfl rfl)
theorem dX3_line_355 : decode cX3_line 355 = .ok (.aload_n 0, 1) := dk_42 (dk_at dksX3_line_12 20 rfl rfl)
theorem dX3_line_356 : decode cX3_line 356 = .ok (.iconst 0, 1) := dk_3 (dk_at dksX3_line_12 21 rfl rfl)
theorem dX3_line_357 : decode cX3_line 357 = .ok (.bipush 99, 2) := dk_16 99 (dk_at dksX3_line_12 22 rfl rfl)
theorem dX3_line_359 : decode cX3_line 359 = .ok (.invokevirtual 127, 3) := dk_182 0 127 (dk_at dksX3_line_13 0 rfl rfl)
theorem dX3_line_362 : decode cX3_line 362 = .ok (.istore_n 3, 1) := dk_62 (dk_at dksX3_line_13 3 rfl rfl)
theorem dX3_line_363 : decode cX3_line 363 = .ok (.aload_n 0, 1) := dk_42 (dk_at dksX3_line_13 4 rfl rfl)
theorem dX3_line_364 : decode cX3_line 364 = .ok (.iconst 1, 1) := dk_4 (dk_at dksX3_line_13 5 rfl rfl)
theorem dX3_line_365 : decode cX3_line 365 = .ok (.bipush 99, 2) := dk_16 99 (dk_at dksX3_line_13 6 rfl rfl)
theorem dX3_line_367 : decode cX3_line 367 = .ok (.invokevirtual 127, 3) := dk_182 0 127 (dk_at dksX3_line_13 8 rfl rfl)
theorem dX3_line_370 : decode cX3_line 370 = .ok (.istore 4, 2) := dk_54 4 (dk_at dksX3_line_13 11 rfl rfl)
theorem dX3_line_372 : decode cX3_line 372 = .ok (.aload_n 0, 1) := dk_42 (dk_at dksX3_line_13 13 rfl rfl)
theorem dX3_line_373 : decode cX3_line 373 = .ok (.getfield 105, 3) := dk_180 0 105 (dk_at dksX3_line_13 14 rfl rfl)
theorem dX3_line_376 : decode cX3_line 376 = .ok (.new 213, 3) := dk_187 0 213 (dk_at dksX3_line_13 17 rfl rfl)
theorem dX3_line_379 : decode cX3_line 379 = .ok (.dup, 1) := dk_89 (dk_at dksX3_line_13 20 rfl rfl)
theorem dX3_line_380 : decode cX3_line 380 = .ok (.iload_n 3, 1) := dk_29 (dk_at dksX3_line_13 21 rfl rfl)
theorem dX3_line_381 : decode cX3_line 381 = .ok (.iload 4, 2) := dk_21 4 (dk_at dksX3_line_13 22 rfl rfl)
theorem dX3_line_383 : decode cX3_line 383 = .ok (.aload_n 0, 1) := dk_42 (dk_at dksX3_line_14 0 rfl rfl)
theorem dX3_line_384 : decode cX3_line 384 = .ok (.iconst 0, 1) := dk_3 (dk_at dksX3_line_14 1 rfl rfl)
theorem dX3_line_385 : decode cX3_line 385 = .ok (.bipush 9, 2) := dk_16 9 (dk_at dksX3_line_14 2 rfl rfl)
theorem dX3_line_387 : decode cX3_line 387 = .ok (.invokevirtual 127, 3) := dk_182 0 127 (dk_at dksX3_line_14 4 rfl rfl)
theorem dX3_line_390 : decode cX3_line 390 = .ok (.invokespecial 215, 3) := dk_183 0 215 (dk_at dksX3_line_14 7 rfl rfl)
theorem dX3_line_393 : decode cX3_line 393 = .ok (.invokevirtual 218, 3) := dk_182 0 218 (dk_at dksX3_line_14 10 rfl rfl)
theorem dX3_line_396 : decode cX3_line 396 = .ok (.goto 131, 3) := dk_167 0 131 (dk_at dksX3_line_14 13 rfl rfl)
theorem dX3_line_399 : decode cX3_line 399 = .ok (.aload_n 0, 1) := dk_42 (dk_at dksX3_line_14 16 rfl rfl)
theorem dX3_line_400 : decode cX3_line 400 = .ok (.aload_n 0, 1) := dk_42 (dk_at dksX3_line_14 17 rfl rfl)
theorem dX3_line_401 : decode cX3_line 401 = .ok (.getfield 105, 3) := dk_180 0 105 (dk_at dksX3_line_14 18 rfl rfl)
theorem dX3_line_404 : decode cX3_line 404 = .ok (.getfield 146, 3) := dk_180 0 146 (dk_at dksX3_line_14 21 rfl rfl)
theorem dX3_line_407 : decode cX3_line 407 = .ok (.iconst 3, 1) := dk_6 (dk_at dksX3_line_15 0 rfl rfl)
theorem dX3_line_408 : decode cX3_line 408 = .ok (.invokevirtual 115, 3) := dk_182 0 115 (dk_at dksX3_line_15 1 rfl rfl)
theorem dX3_line_411 : decode cX3_line 411 = .ok (.aload_n 0, 1) := dk_42 (dk_at dksX3_line_15 4 rfl rfl)
theorem dX3_line_412 : decode cX3_line 412 = .ok (.getfield 105, 3) := dk_180 0 105 (dk_at dksX3_line_15 5 rfl rfl)
theorem dX3_line_415 : decode cX3_line 415 = .ok (.getfield 221, 3) := dk_180 0 221 (dk_at dksX3_line_15 8 rfl rfl)
theorem dX3_line_418 : decode cX3_line 418 = .ok (.aload_n 0, 1) := dk_42 (dk_at dksX3_line_15 11 rfl rfl)
theorem dX3_line_419 : decode cX3_line 419 = .ok (.getfield 105, 3) := dk_180 0 105 (dk_at dksX3_line_15 12 rfl rfl)
theorem dX3_line_422 : decode cX3_line 422 = .ok (.getfield 146, 3) := dk_180 0 146 (dk_at dksX3_line_15 15 rfl rfl)
theorem dX3_line_425 : decode cX3_line 425 = .ok (.aload_n 0, 1) := dk_42 (dk_at dksX3_line_15 18 rfl rfl)
theorem dX3_line_426 : decode cX3_line 426 = .ok (.iconst 1, 1) := dk_4 (dk_at dksX3_line_15 19 rfl rfl)
theorem dX3_line_427 : decode cX3_line 427 = .ok (.bipush 6, 2) := dk_16 6 (dk_at dksX3_line_15 20 rfl rfl)
theorem dX3_line_429 : decode cX3_line 429 = .ok (.invokevirtual 127, 3) := dk_182 0 127 (dk_at dksX3_line_16 0 rfl rfl)
theorem dX3_line_432 : decode cX3_line 432 = .ok (.iastore, 1) := dk_79 (dk_at dksX3_line_16 3 rfl rfl)
theorem dX3_line_433 : decode cX3_line 433 = .ok (.aload_n 0, 1) := dk_42 (dk_at dksX3_line_16 4 rfl rfl)
theorem dX3_line_434 : decode cX3_line 434 = .ok (.getfield 105, 3) := dk_180 0 105 (dk_at dksX3_line_16 5 rfl rfl)
theorem dX3_line_437 : decode cX3_line 437 = .ok (.dup, 1) := dk_89 (dk_at dksX3_line_16 8 rfl rfl)
theorem dX3_line_438 : decode cX3_line 438 = .ok (.getfield 146, 3) := dk_180 0 146 (dk_at dksX3_line_16 9 rfl rfl)
theorem dX3_line_441 : decode cX3_line 441 = .ok (.iconst 1, 1) := dk_4 (dk_at dksX3_line_16 12 rfl rfl)
theorem dX3_line_442 : decode cX3_line 442 = .ok (.iadd, 1) := dk_96 (dk_at dksX3_line_16 13 rfl rfl)
theorem dX3_line_443 : decode cX3_line 443 = .ok (.putfield 146, 3) := dk_181 0 146 (dk_at dksX3_line_16 14 rfl rfl)
theorem dX3_line_446 : decode cX3_line 446 = .ok (.goto 81, 3) := dk_167 0 81 (dk_at dksX3_line_16 17 rfl rfl)
theorem dX3_line_449 : decode cX3_line 449 = .ok (.aload_n 0, 1) := dk_42 (dk_at dksX3_line_16 20 rfl rfl)
theorem dX3_line_450 : decode cX3_line 450 = .ok (.invokevirtual 224, 3) := dk_182 0 224 (dk_at dksX3_line_16 21 rfl rfl)
theorem dX3_line_453 : decode cX3_line 453 = .ok (.goto 74, 3) := dk_167 0 74 (dk_at dksX3_line_17 0 rfl rfl)
theorem dX3_line_456 : decode cX3_line 456 = .ok (.aload_n 0, 1) := dk_42 (dk_at dksX3_line_17 3 rfl rfl)
theorem dX3_line_457 : decode cX3_line 457 = .ok (.invokevirtual 227, 3) := dk_182 0 227 (dk_at dksX3_line_17 4 rfl rfl)
theorem dX3_line_460 : decode cX3_line 460 = .ok (.goto 67, 3) := dk_167 0 67 (dk_at dksX3_line_17 7 rfl rfl)
theorem dX3_line_463 : decode cX3_line 463 = .ok (.aload_n 0, 1) := dk_42 (dk_at dksX3_line_17 10 rfl rfl)
theorem dX3_line_464 : decode cX3_line 464 = .ok (.invokevirtual 230, 3) := dk_182 0 230 (dk_at dksX3_line_17 11 rfl rfl)
theorem dX3_line_467 : decode cX3_line 467 = .ok (.goto 60, 3) := dk_167 0 60 (dk_at dksX3_line_17 14 rfl rfl)
theorem dX3_line_470 : decode cX3_line 470 = .ok (.aload_n 0, 1) := dk_42 (dk_at dksX3_line_17 17 rfl rfl)
theorem dX3_line_471 : decode cX3_line 471 = .ok (.invokevirtual 233, 3) := dk_182 0 233 (dk_at dksX3_line_17 18 rfl rfl)
theorem dX3_line_474 : decode cX3_line 474 = .ok (.goto 53, 3) := dk_167 0 53 (dk_at dksX3_line_17 21 rfl rfl)
theorem dX3_line_477 : decode cX3_line 477 = .ok (.aload_n 0, 1) := dk_42 (dk_at dksX3_line_18 0 rfl rfl)
theorem dX3_line_478 : decode cX3_line 478 = .ok (.invokevirtual 34, 3) := dk_182 0 34 (dk_at dksX3_line_18 1 rfl rfl)
theorem dX3_line_481 : decode cX3_line 481 = .ok (.aload_n 0, 1) := dk_42 (dk_at dksX3_line_18 4 rfl rfl)
theorem dX3_line_482 : decode cX3_line 482 = .ok (.getfield 105, 3) := dk_180 0 105 (dk_at dksX3_line_18 5 rfl rfl)
theorem dX3_line_485 : decode cX3_line 485 = .ok (.aload_n 0, 1) := dk_42 (dk_at dksX3_line_18 8 rfl rfl)
theorem dX3_line_486 : decode cX3_line 486 = .ok (.iconst 0, 1) := dk_3 (dk_at dksX3_line_18 9 rfl rfl)
theorem dX3_line_487 : decode cX3_line 487 = .ok (.bipush 9, 2) := dk_16 9 (dk_at dksX3_line_18 10 rfl rfl)
theorem dX3_line_489 : decode cX3_line 489 = .ok (.invokevirtual 127, 3) := dk_182 0 127 (dk_at dksX3_line_18 12 rfl rfl)
theorem dX3_line_492 : decode cX3_line 492 = .ok (.putfield 236, 3) := dk_181 0 236 (dk_at dksX3_line_18 15 rfl rfl)
theorem dX3_line_495 : decode cX3_line 495 = .ok (.goto 32, 3) := dk_167 0 32 (dk_at dksX3_line_18 18 rfl rfl)
theorem dX3_line_498 : decode cX3_line 498 = .ok (.aload_n 0, 1) := dk_42 (dk_at dksX3_line_18 21 rfl rfl)
theorem dX3_line_499 : decode cX3_line 499 = .ok (.invokevirtual 34, 3) := dk_182 0 34 (dk_at dksX3_line_19 0 rfl rfl)
theorem dX3_line_502 : decode cX3_line 502 = .ok (.aload_n 0, 1) := dk_42 (dk_at dksX3_line_19 3 rfl rfl)
theorem dX3_line_503 : decode cX3_line 503 = .ok (.getfield 105, 3) := dk_180 0 105 (dk_at dksX3_line_19 4 rfl rfl)
theorem dX3_line_506 : decode cX3_line 506 = .ok (.aload_n 0, 1) := dk_42 (dk_at dksX3_line_19 7 rfl rfl)
theorem dX3_line_507 : decode cX3_line 507 = .ok (.iconst 1, 1) := dk_4 (dk_at dksX3_line_19 8 rfl rfl)
theorem dX3_line_508 : decode cX3_line 508 = .ok (.bipush 50, 2) := dk_16 50 (dk_at dksX3_line_19 9 rfl rfl)
theorem dX3_line_510 : decode cX3_line 510 = .ok (.invokevirtual 127, 3) := dk_182 0 127 (dk_at dksX3_line_19 11 rfl rfl)
theorem dX3_line_513 : decode cX3_line 513 = .ok (.invokevirtual 238, 3) := dk_182 0 238 (dk_at dksX3_line_19 14 rfl rfl)
theorem dX3_line_516 : decode cX3_line 516 = .ok (.istore 5, 2) := dk_54 5 (dk_at dksX3_line_19 17 rfl rfl)
theorem dX3_line_518 : decode cX3_line 518 = .ok (.goto 9, 3) := dk_167 0 9 (dk_at dksX3_line_19 19 rfl rfl)
theorem dX3_line_521 : decode cX3_line 521 = .ok (.aload_n 0, 1) := dk_42 (dk_at dksX3_line_19 22 rfl rfl)
theorem dX3_line_522 : decode cX3_line 522 = .ok (.iconst 0, 1) := dk_3 (dk_at dksX3_line_19 23 rfl rfl)
theorem dX3_line_523 : decode cX3_line 523 = .ok (.iconst 1, 1) := dk_4 (dk_at dksX3_line_20 0 rfl rfl)
theorem dX3_line_524 : decode cX3_line 524 = .ok (.invokevirtual 98, 3) := dk_182 0 98 (dk_at dksX3_line_20 1 rfl rfl)
theorem dX3_line_527 : decode cX3_line 527 = .ok (.return_, 1) := dk_177 (dk_at dksX3_line_20 4 rfl rfl)
abbrev cX3_begins : ByteArray := prog_14_method_8_code
def yX3_begins : MethodName := ⟨RX3, "begins", "(II)V"⟩
def dkwX3_begins_0 : List UInt8 := [42, 27, 28, 162, 0, 7, 4, 167, 0, 4, 3, 7, 182, 0, 98, 42, 182, 0, 34, 177]
abbrev dktX3_begins_0 : List UInt8 := dkwX3_begins_0 ++ []
theorem dksX3_begins_0 : cX3_begins.data.toList.drop 0 = dktX3_begins_0 := by decide +kernel
theorem dX3_begins_0 : decode cX3_begins 0 = .ok (.aload_n 0, 1) := dk_42 (dk_at dksX3_begins_0 0 rfl rfl)
theorem dX3_begins_1 : decode cX3_begins 1 = .ok (.iload_n 1, 1) := dk_27 (dk_at dksX3_begins_0 1 rfl rfl)
theorem dX3_begins_2 : decode cX3_begins 2 = .ok (.iload_n 2, 1) := dk_28 (dk_at dksX3_begins_0 2 rfl rfl)
theorem dX3_begins_3 : decode cX3_begins 3 = .ok (.if_icmp .ge 7, 3) := dk_162 0 7 (dk_at dksX3_begins_0 3 rfl rfl)
theorem dX3_begins_6 : decode cX3_begins 6 = .ok (.iconst 1, 1) := dk_4 (dk_at dksX3_begins_0 6 rfl rfl)
theorem dX3_begins_7 : decode cX3_begins 7 = .ok (.goto 4, 3) := dk_167 0 4 (dk_at dksX3_begins_0 7 rfl rfl)
theorem dX3_begins_10 : decode cX3_begins 10 = .ok (.iconst 0, 1) := dk_3 (dk_at dksX3_begins_0 10 rfl rfl)
theorem dX3_begins_11 : decode cX3_begins 11 = .ok (.iconst 4, 1) := dk_7 (dk_at dksX3_begins_0 11 rfl rfl)
theorem dX3_begins_12 : decode cX3_begins 12 = .ok (.invokevirtual 98, 3) := dk_182 0 98 (dk_at dksX3_begins_0 12 rfl rfl)
theorem dX3_begins_15 : decode cX3_begins 15 = .ok (.aload_n 0, 1) := dk_42 (dk_at dksX3_begins_0 15 rfl rfl)
theorem dX3_begins_16 : decode cX3_begins 16 = .ok (.invokevirtual 34, 3) := dk_182 0 34 (dk_at dksX3_begins_0 16 rfl rfl)
theorem dX3_begins_19 : decode cX3_begins 19 = .ok (.return_, 1) := dk_177 (dk_at dksX3_begins_0 19 rfl rfl)
abbrev cX3_flagLine : ByteArray := prog_14_method_9_code
def yX3_flagLine : MethodName := ⟨RX3, "flagLine", "()V"⟩
def dkwX3_flagLine_6 : List UInt8 := [187, 0, 137, 89, 27, 21, 4, 28, 29, 183, 0, 139, 182, 0, 142, 177]
abbrev dktX3_flagLine_6 : List UInt8 := dkwX3_flagLine_6 ++ []
def dkwX3_flagLine_5 : List UInt8 := [182, 0, 98, 21, 4, 4, 21, 5, 120, 128, 54, 4, 42, 182, 0, 34, 167, 255, 197, 42, 180, 0, 105]
abbrev dktX3_flagLine_5 : List UInt8 := dkwX3_flagLine_5 ++ dktX3_flagLine_6
def dkwX3_flagLine_4 : List UInt8 := [182, 0, 102, 54, 5, 42, 21, 4, 21, 5, 184, 0, 133, 154, 0, 7, 4, 167, 0, 4, 3, 6]
abbrev dktX3_flagLine_4 : List UInt8 := dkwX3_flagLine_4 ++ dktX3_flagLine_5
def dkwX3_flagLine_3 : List UInt8 := [182, 0, 98, 42, 180, 0, 21, 178, 0, 84, 166, 0, 55, 42, 3, 42, 180, 0, 105, 180, 0, 130, 4, 100]
abbrev dktX3_flagLine_3 : List UInt8 := dkwX3_flagLine_3 ++ dktX3_flagLine_4
def dkwX3_flagLine_2 : List UInt8 := [182, 0, 127, 62, 3, 54, 4, 42, 42, 180, 0, 21, 178, 0, 84, 166, 0, 7, 4, 167, 0, 4, 3, 4]
abbrev dktX3_flagLine_2 : List UInt8 := dkwX3_flagLine_2 ++ dktX3_flagLine_3
def dkwX3_flagLine_1 : List UInt8 := [185, 0, 122, 1, 0, 4, 100, 182, 0, 127, 60, 42, 3, 6, 182, 0, 127, 61, 42, 3, 16, 9]
abbrev dktX3_flagLine_1 : List UInt8 := dkwX3_flagLine_1 ++ dktX3_flagLine_2
def dkwX3_flagLine_0 : List UInt8 := [42, 42, 180, 0, 105, 182, 0, 109, 16, 12, 182, 0, 115, 42, 3, 42, 180, 0, 105, 180, 0, 118]
abbrev dktX3_flagLine_0 : List UInt8 := dkwX3_flagLine_0 ++ dktX3_flagLine_1
theorem dksX3_flagLine_0 : cX3_flagLine.data.toList.drop 0 = dktX3_flagLine_0 := by decide +kernel
theorem dksX3_flagLine_1 : cX3_flagLine.data.toList.drop 22 = dktX3_flagLine_1 := dk_seg dksX3_flagLine_0 22 rfl rfl
theorem dksX3_flagLine_2 : cX3_flagLine.data.toList.drop 44 = dktX3_flagLine_2 := dk_seg dksX3_flagLine_1 22 rfl rfl
theorem dksX3_flagLine_3 : cX3_flagLine.data.toList.drop 68 = dktX3_flagLine_3 := dk_seg dksX3_flagLine_2 24 rfl rfl
theorem dksX3_flagLine_4 : cX3_flagLine.data.toList.drop 92 = dktX3_flagLine_4 := dk_seg dksX3_flagLine_3 24 rfl rfl
theorem dksX3_flagLine_5 : cX3_flagLine.data.toList.drop 114 = dktX3_flagLine_5 := dk_seg dksX3_flagLine_4 22 rfl rfl
theorem dksX3_flagLine_6 : cX3_flagLine.data.toList.drop 137 = dktX3_flagLine_6 := dk_seg dksX3_flagLine_5 23 rfl rfl
theorem dX3_flagLine_0 : decode cX3_flagLine 0 = .ok (.aload_n 0, 1) := dk_42 (dk_at dksX3_flagLine_0 0 rfl rfl)
theorem dX3_flagLine_1 : decode cX3_flagLine 1 = .ok (.aload_n 0, 1) := dk_42 (dk_at dksX3_flagLine_0 1 rfl rfl)
theorem dX3_flagLine_2 : decode cX3_flagLine 2 = .ok (.getfield 105, 3) := dk_180 0 105 (dk_at dksX3_flagLine_0 2 rfl rfl)
theorem dX3_flagLine_5 : decode cX3_flagLine 5 = .ok (.invokevirtual 109, 3) := dk_182 0 109 (dk_at dksX3_flagLine_0 5 rfl rfl)
theorem dX3_flagLine_8 : decode cX3_flagLine 8 = .ok (.bipush 12, 2) := dk_16 12 (dk_at dksX3_flagLine_0 8 rfl rfl)
theorem dX3_flagLine_10 : decode cX3_flagLine 10 = .ok (.invokevirtual 115, 3) := dk_182 0 115 (dk_at dksX3_flagLine_0 10 rfl rfl)
theorem dX3_flagLine_13 : decode cX3_flagLine 13 = .ok (.aload_n 0, 1) := dk_42 (dk_at dksX3_flagLine_0 13 rfl rfl)
theorem dX3_flagLine_14 : decode cX3_flagLine 14 = .ok (.iconst 0, 1) := dk_3 (dk_at dksX3_flagLine_0 14 rfl rfl)
theorem dX3_flagLine_15 : decode cX3_flagLine 15 = .ok (.aload_n 0, 1) := dk_42 (dk_at dksX3_flagLine_0 15 rfl rfl)
theorem dX3_flagLine_16 : decode cX3_flagLine 16 = .ok (.getfield 105, 3) := dk_180 0 105 (dk_at dksX3_flagLine_0 16 rfl rfl)
theorem dX3_flagLine_19 : decode cX3_flagLine 19 = .ok (.getfield 118, 3) := dk_180 0 118 (dk_at dksX3_flagLine_0 19 rfl rfl)
theorem dX3_flagLine_22 : decode cX3_flagLine 22 = .ok (.invokeinterface 122 1, 5) := by decide +kernel
theorem dX3_flagLine_27 : decode cX3_flagLine 27 = .ok (.iconst 1, 1) := dk_4 (dk_at dksX3_flagLine_1 5 rfl rfl)
theorem dX3_flagLine_28 : decode cX3_flagLine 28 = .ok (.isub, 1) := dk_100 (dk_at dksX3_flagLine_1 6 rfl rfl)
theorem dX3_flagLine_29 : decode cX3_flagLine 29 = .ok (.invokevirtual 127, 3) := dk_182 0 127 (dk_at dksX3_flagLine_1 7 rfl rfl)
theorem dX3_flagLine_32 : decode cX3_flagLine 32 = .ok (.istore_n 1, 1) := dk_60 (dk_at dksX3_flagLine_1 10 rfl rfl)
theorem dX3_flagLine_33 : decode cX3_flagLine 33 = .ok (.aload_n 0, 1) := dk_42 (dk_at dksX3_flagLine_1 11 rfl rfl)
theorem dX3_flagLine_34 : decode cX3_flagLine 34 = .ok (.iconst 0, 1) := dk_3 (dk_at dksX3_flagLine_1 12 rfl rfl)
theorem dX3_flagLine_35 : decode cX3_flagLine 35 = .ok (.iconst 3, 1) := dk_6 (dk_at dksX3_flagLine_1 13 rfl rfl)
theorem dX3_flagLine_36 : decode cX3_flagLine 36 = .ok (.invokevirtual 127, 3) := dk_182 0 127 (dk_at dksX3_flagLine_1 14 rfl rfl)
theorem dX3_flagLine_39 : decode cX3_flagLine 39 = .ok (.istore_n 2, 1) := dk_61 (dk_at dksX3_flagLine_1 17 rfl rfl)
theorem dX3_flagLine_40 : decode cX3_flagLine 40 = .ok (.aload_n 0, 1) := dk_42 (dk_at dksX3_flagLine_1 18 rfl rfl)
theorem dX3_flagLine_41 : decode cX3_flagLine 41 = .ok (.iconst 0, 1) := dk_3 (dk_at dksX3_flagLine_1 19 rfl rfl)
theorem dX3_flagLine_42 : decode cX3_flagLine 42 = .ok (.bipush 9, 2) := dk_16 9 (dk_at dksX3_flagLine_1 20 rfl rfl)
theorem dX3_flagLine_44 : decode cX3_flagLine 44 = .ok (.invokevirtual 127, 3) := dk_182 0 127 (dk_at dksX3_flagLine_2 0 rfl rfl)
theorem dX3_flagLine_47 : decode cX3_flagLine 47 = .ok (.istore_n 3, 1) := dk_62 (dk_at dksX3_flagLine_2 3 rfl rfl)
theorem dX3_flagLine_48 : decode cX3_flagLine 48 = .ok (.iconst 0, 1) := dk_3 (dk_at dksX3_flagLine_2 4 rfl rfl)
theorem dX3_flagLine_49 : decode cX3_flagLine 49 = .ok (.istore 4, 2) := dk_54 4 (dk_at dksX3_flagLine_2 5 rfl rfl)
theorem dX3_flagLine_51 : decode cX3_flagLine 51 = .ok (.aload_n 0, 1) := dk_42 (dk_at dksX3_flagLine_2 7 rfl rfl)
theorem dX3_flagLine_52 : decode cX3_flagLine 52 = .ok (.aload_n 0, 1) := dk_42 (dk_at dksX3_flagLine_2 8 rfl rfl)
theorem dX3_flagLine_53 : decode cX3_flagLine 53 = .ok (.getfield 21, 3) := dk_180 0 21 (dk_at dksX3_flagLine_2 9 rfl rfl)
theorem dX3_flagLine_56 : decode cX3_flagLine 56 = .ok (.getstatic 84, 3) := dk_178 0 84 (dk_at dksX3_flagLine_2 12 rfl rfl)
theorem dX3_flagLine_59 : decode cX3_flagLine 59 = .ok (.if_acmp .ne 7, 3) := dk_166 0 7 (dk_at dksX3_flagLine_2 15 rfl rfl)
theorem dX3_flagLine_62 : decode cX3_flagLine 62 = .ok (.iconst 1, 1) := dk_4 (dk_at dksX3_flagLine_2 18 rfl rfl)
theorem dX3_flagLine_63 : decode cX3_flagLine 63 = .ok (.goto 4, 3) := dk_167 0 4 (dk_at dksX3_flagLine_2 19 rfl rfl)
theorem dX3_flagLine_66 : decode cX3_flagLine 66 = .ok (.iconst 0, 1) := dk_3 (dk_at dksX3_flagLine_2 22 rfl rfl)
theorem dX3_flagLine_67 : decode cX3_flagLine 67 = .ok (.iconst 1, 1) := dk_4 (dk_at dksX3_flagLine_2 23 rfl rfl)
theorem dX3_flagLine_68 : decode cX3_flagLine 68 = .ok (.invokevirtual 98, 3) := dk_182 0 98 (dk_at dksX3_flagLine_3 0 rfl rfl)
theorem dX3_flagLine_71 : decode cX3_flagLine 71 = .ok (.aload_n 0, 1) := dk_42 (dk_at dksX3_flagLine_3 3 rfl rfl)
theorem dX3_flagLine_72 : decode cX3_flagLine 72 = .ok (.getfield 21, 3) := dk_180 0 21 (dk_at dksX3_flagLine_3 4 rfl rfl)
theorem dX3_flagLine_75 : decode cX3_flagLine 75 = .ok (.getstatic 84, 3) := dk_178 0 84 (dk_at dksX3_flagLine_3 7 rfl rfl)
theorem dX3_flagLine_78 : decode cX3_flagLine 78 = .ok (.if_acmp .ne 55, 3) := dk_166 0 55 (dk_at dksX3_flagLine_3 10 rfl rfl)
theorem dX3_flagLine_81 : decode cX3_flagLine 81 = .ok (.aload_n 0, 1) := dk_42 (dk_at dksX3_flagLine_3 13 rfl rfl)
theorem dX3_flagLine_82 : decode cX3_flagLine 82 = .ok (.iconst 0, 1) := dk_3 (dk_at dksX3_flagLine_3 14 rfl rfl)
theorem dX3_flagLine_83 : decode cX3_flagLine 83 = .ok (.aload_n 0, 1) := dk_42 (dk_at dksX3_flagLine_3 15 rfl rfl)
theorem dX3_flagLine_84 : decode cX3_flagLine 84 = .ok (.getfield 105, 3) := dk_180 0 105 (dk_at dksX3_flagLine_3 16 rfl rfl)
theorem dX3_flagLine_87 : decode cX3_flagLine 87 = .ok (.getfield 130, 3) := dk_180 0 130 (dk_at dksX3_flagLine_3 19 rfl rfl)
theorem dX3_flagLine_90 : decode cX3_flagLine 90 = .ok (.iconst 1, 1) := dk_4 (dk_at dksX3_flagLine_3 22 rfl rfl)
theorem dX3_flagLine_91 : decode cX3_flagLine 91 = .ok (.isub, 1) := dk_100 (dk_at dksX3_flagLine_3 23 rfl rfl)
theorem dX3_flagLine_92 : decode cX3_flagLine 92 = .ok (.invokevirtual 102, 3) := dk_182 0 102 (dk_at dksX3_flagLine_4 0 rfl rfl)
theorem dX3_flagLine_95 : decode cX3_flagLine 95 = .ok (.istore 5, 2) := dk_54 5 (dk_at dksX3_flagLine_4 3 rfl rfl)
theorem dX3_flagLine_97 : decode cX3_flagLine 97 = .ok (.aload_n 0, 1) := dk_42 (dk_at dksX3_flagLine_4 5 rfl rfl)
theorem dX3_flagLine_98 : decode cX3_flagLine 98 = .ok (.iload 4, 2) := dk_21 4 (dk_at dksX3_flagLine_4 6 rfl rfl)
theorem dX3_flagLine_100 : decode cX3_flagLine 100 = .ok (.iload 5, 2) := dk_21 5 (dk_at dksX3_flagLine_4 8 rfl rfl)
theorem dX3_flagLine_102 : decode cX3_flagLine 102 = .ok (.invokestatic 133, 3) := dk_184 0 133 (dk_at dksX3_flagLine_4 10 rfl rfl)
theorem dX3_flagLine_105 : decode cX3_flagLine 105 = .ok (.ifCond .ne 7, 3) := dk_154 0 7 (dk_at dksX3_flagLine_4 13 rfl rfl)
theorem dX3_flagLine_108 : decode cX3_flagLine 108 = .ok (.iconst 1, 1) := dk_4 (dk_at dksX3_flagLine_4 16 rfl rfl)
theorem dX3_flagLine_109 : decode cX3_flagLine 109 = .ok (.goto 4, 3) := dk_167 0 4 (dk_at dksX3_flagLine_4 17 rfl rfl)
theorem dX3_flagLine_112 : decode cX3_flagLine 112 = .ok (.iconst 0, 1) := dk_3 (dk_at dksX3_flagLine_4 20 rfl rfl)
theorem dX3_flagLine_113 : decode cX3_flagLine 113 = .ok (.iconst 3, 1) := dk_6 (dk_at dksX3_flagLine_4 21 rfl rfl)
theorem dX3_flagLine_114 : decode cX3_flagLine 114 = .ok (.invokevirtual 98, 3) := dk_182 0 98 (dk_at dksX3_flagLine_5 0 rfl rfl)
theorem dX3_flagLine_117 : decode cX3_flagLine 117 = .ok (.iload 4, 2) := dk_21 4 (dk_at dksX3_flagLine_5 3 rfl rfl)
theorem dX3_flagLine_119 : decode cX3_flagLine 119 = .ok (.iconst 1, 1) := dk_4 (dk_at dksX3_flagLine_5 5 rfl rfl)
theorem dX3_flagLine_120 : decode cX3_flagLine 120 = .ok (.iload 5, 2) := dk_21 5 (dk_at dksX3_flagLine_5 6 rfl rfl)
theorem dX3_flagLine_122 : decode cX3_flagLine 122 = .ok (.ishl, 1) := dk_120 (dk_at dksX3_flagLine_5 8 rfl rfl)
theorem dX3_flagLine_123 : decode cX3_flagLine 123 = .ok (.ior, 1) := dk_128 (dk_at dksX3_flagLine_5 9 rfl rfl)
theorem dX3_flagLine_124 : decode cX3_flagLine 124 = .ok (.istore 4, 2) := dk_54 4 (dk_at dksX3_flagLine_5 10 rfl rfl)
theorem dX3_flagLine_126 : decode cX3_flagLine 126 = .ok (.aload_n 0, 1) := dk_42 (dk_at dksX3_flagLine_5 12 rfl rfl)
theorem dX3_flagLine_127 : decode cX3_flagLine 127 = .ok (.invokevirtual 34, 3) := dk_182 0 34 (dk_at dksX3_flagLine_5 13 rfl rfl)
theorem dX3_flagLine_130 : decode cX3_flagLine 130 = .ok (.goto (-59), 3) := dk_167 255 197 (dk_at dksX3_flagLine_5 16 rfl rfl)
theorem dX3_flagLine_133 : decode cX3_flagLine 133 = .ok (.aload_n 0, 1) := dk_42 (dk_at dksX3_flagLine_5 19 rfl rfl)
theorem dX3_flagLine_134 : decode cX3_flagLine 134 = .ok (.getfield 105, 3) := dk_180 0 105 (dk_at dksX3_flagLine_5 20 rfl rfl)
theorem dX3_flagLine_137 : decode cX3_flagLine 137 = .ok (.new 137, 3) := dk_187 0 137 (dk_at dksX3_flagLine_6 0 rfl rfl)
theorem dX3_flagLine_140 : decode cX3_flagLine 140 = .ok (.dup, 1) := dk_89 (dk_at dksX3_flagLine_6 3 rfl rfl)
theorem dX3_flagLine_141 : decode cX3_flagLine 141 = .ok (.iload_n 1, 1) := dk_27 (dk_at dksX3_flagLine_6 4 rfl rfl)
theorem dX3_flagLine_142 : decode cX3_flagLine 142 = .ok (.iload 4, 2) := dk_21 4 (dk_at dksX3_flagLine_6 5 rfl rfl)
theorem dX3_flagLine_144 : decode cX3_flagLine 144 = .ok (.iload_n 2, 1) := dk_28 (dk_at dksX3_flagLine_6 7 rfl rfl)
theorem dX3_flagLine_145 : decode cX3_flagLine 145 = .ok (.iload_n 3, 1) := dk_29 (dk_at dksX3_flagLine_6 8 rfl rfl)
theorem dX3_flagLine_146 : decode cX3_flagLine 146 = .ok (.invokespecial 139, 3) := dk_183 0 139 (dk_at dksX3_flagLine_6 9 rfl rfl)
theorem dX3_flagLine_149 : decode cX3_flagLine 149 = .ok (.invokevirtual 142, 3) := dk_182 0 142 (dk_at dksX3_flagLine_6 12 rfl rfl)
theorem dX3_flagLine_152 : decode cX3_flagLine 152 = .ok (.return_, 1) := dk_177 (dk_at dksX3_flagLine_6 15 rfl rfl)
abbrev cX3_putLine : ByteArray := prog_14_method_10_code
def yX3_putLine : MethodName := ⟨RX3, "putLine", "()V"⟩
def dkwX3_putLine_3 : List UInt8 := [182, 0, 34, 177]
abbrev dktX3_putLine_3 : List UInt8 := dkwX3_putLine_3 ++ []
def dkwX3_putLine_2 : List UInt8 := [154, 0, 7, 4, 167, 0, 4, 3, 6, 182, 0, 98, 42, 180, 0, 105, 27, 28, 182, 0, 153, 62, 42]
abbrev dktX3_putLine_2 : List UInt8 := dkwX3_putLine_2 ++ dktX3_putLine_3
def dkwX3_putLine_1 : List UInt8 := [180, 0, 105, 180, 0, 146, 4, 100, 182, 0, 102, 61, 42, 42, 180, 0, 105, 27, 28, 184, 0, 149]
abbrev dktX3_putLine_1 : List UInt8 := dkwX3_putLine_1 ++ dktX3_putLine_2
def dkwX3_putLine_0 : List UInt8 := [42, 182, 0, 34, 42, 3, 42, 180, 0, 105, 182, 0, 109, 4, 100, 182, 0, 127, 60, 42, 3, 42]
abbrev dktX3_putLine_0 : List UInt8 := dkwX3_putLine_0 ++ dktX3_putLine_1
theorem dksX3_putLine_0 : cX3_putLine.data.toList.drop 0 = dktX3_putLine_0 := by decide +kernel
theorem dksX3_putLine_1 : cX3_putLine.data.toList.drop 22 = dktX3_putLine_1 := dk_seg dksX3_putLine_0 22 rfl rfl
theorem dksX3_putLine_2 : cX3_putLine.data.toList.drop 44 = dktX3_putLine_2 := dk_seg dksX3_putLine_1 22 rfl rfl
theorem dksX3_putLine_3 : cX3_putLine.data.toList.drop 67 = dktX3_putLine_3 := dk_seg dksX3_putLine_2 23 rfl rfl
theorem dX3_putLine_0 : decode cX3_putLine 0 = .ok (.aload_n 0, 1) := dk_42 (dk_at dksX3_putLine_0 0 rfl rfl)
theorem dX3_putLine_1 : decode cX3_putLine 1 = .ok (.invokevirtual 34, 3) := dk_182 0 34 (dk_at dksX3_putLine_0 1 rfl rfl)
theorem dX3_putLine_4 : decode cX3_putLine 4 = .ok (.aload_n 0, 1) := dk_42 (dk_at dksX3_putLine_0 4 rfl rfl)
theorem dX3_putLine_5 : decode cX3_putLine 5 = .ok (.iconst 0, 1) := dk_3 (dk_at dksX3_putLine_0 5 rfl rfl)
theorem dX3_putLine_6 : decode cX3_putLine 6 = .ok (.aload_n 0, 1) := dk_42 (dk_at dksX3_putLine_0 6 rfl rfl)
theorem dX3_putLine_7 : decode cX3_putLine 7 = .ok (.getfield 105, 3) := dk_180 0 105 (dk_at dksX3_putLine_0 7 rfl rfl)
theorem dX3_putLine_10 : decode cX3_putLine 10 = .ok (.invokevirtual 109, 3) := dk_182 0 109 (dk_at dksX3_putLine_0 10 rfl rfl)
theorem dX3_putLine_13 : decode cX3_putLine 13 = .ok (.iconst 1, 1) := dk_4 (dk_at dksX3_putLine_0 13 rfl rfl)
theorem dX3_putLine_14 : decode cX3_putLine 14 = .ok (.isub, 1) := dk_100 (dk_at dksX3_putLine_0 14 rfl rfl)
theorem dX3_putLine_15 : decode cX3_putLine 15 = .ok (.invokevirtual 127, 3) := dk_182 0 127 (dk_at dksX3_putLine_0 15 rfl rfl)
theorem dX3_putLine_18 : decode cX3_putLine 18 = .ok (.istore_n 1, 1) := dk_60 (dk_at dksX3_putLine_0 18 rfl rfl)
theorem dX3_putLine_19 : decode cX3_putLine 19 = .ok (.aload_n 0, 1) := dk_42 (dk_at dksX3_putLine_0 19 rfl rfl)
theorem dX3_putLine_20 : decode cX3_putLine 20 = .ok (.iconst 0, 1) := dk_3 (dk_at dksX3_putLine_0 20 rfl rfl)
theorem dX3_putLine_21 : decode cX3_putLine 21 = .ok (.aload_n 0, 1) := dk_42 (dk_at dksX3_putLine_0 21 rfl rfl)
theorem dX3_putLine_22 : decode cX3_putLine 22 = .ok (.getfield 105, 3) := dk_180 0 105 (dk_at dksX3_putLine_1 0 rfl rfl)
theorem dX3_putLine_25 : decode cX3_putLine 25 = .ok (.getfield 146, 3) := dk_180 0 146 (dk_at dksX3_putLine_1 3 rfl rfl)
theorem dX3_putLine_28 : decode cX3_putLine 28 = .ok (.iconst 1, 1) := dk_4 (dk_at dksX3_putLine_1 6 rfl rfl)
theorem dX3_putLine_29 : decode cX3_putLine 29 = .ok (.isub, 1) := dk_100 (dk_at dksX3_putLine_1 7 rfl rfl)
theorem dX3_putLine_30 : decode cX3_putLine 30 = .ok (.invokevirtual 102, 3) := dk_182 0 102 (dk_at dksX3_putLine_1 8 rfl rfl)
theorem dX3_putLine_33 : decode cX3_putLine 33 = .ok (.istore_n 2, 1) := dk_61 (dk_at dksX3_putLine_1 11 rfl rfl)
theorem dX3_putLine_34 : decode cX3_putLine 34 = .ok (.aload_n 0, 1) := dk_42 (dk_at dksX3_putLine_1 12 rfl rfl)
theorem dX3_putLine_35 : decode cX3_putLine 35 = .ok (.aload_n 0, 1) := dk_42 (dk_at dksX3_putLine_1 13 rfl rfl)
theorem dX3_putLine_36 : decode cX3_putLine 36 = .ok (.getfield 105, 3) := dk_180 0 105 (dk_at dksX3_putLine_1 14 rfl rfl)
theorem dX3_putLine_39 : decode cX3_putLine 39 = .ok (.iload_n 1, 1) := dk_27 (dk_at dksX3_putLine_1 17 rfl rfl)
theorem dX3_putLine_40 : decode cX3_putLine 40 = .ok (.iload_n 2, 1) := dk_28 (dk_at dksX3_putLine_1 18 rfl rfl)
theorem dX3_putLine_41 : decode cX3_putLine 41 = .ok (.invokestatic 149, 3) := dk_184 0 149 (dk_at dksX3_putLine_1 19 rfl rfl)
theorem dX3_putLine_44 : decode cX3_putLine 44 = .ok (.ifCond .ne 7, 3) := dk_154 0 7 (dk_at dksX3_putLine_2 0 rfl rfl)
theorem dX3_putLine_47 : decode cX3_putLine 47 = .ok (.iconst 1, 1) := dk_4 (dk_at dksX3_putLine_2 3 rfl rfl)
theorem dX3_putLine_48 : decode cX3_putLine 48 = .ok (.goto 4, 3) := dk_167 0 4 (dk_at dksX3_putLine_2 4 rfl rfl)
theorem dX3_putLine_51 : decode cX3_putLine 51 = .ok (.iconst 0, 1) := dk_3 (dk_at dksX3_putLine_2 7 rfl rfl)
theorem dX3_putLine_52 : decode cX3_putLine 52 = .ok (.iconst 3, 1) := dk_6 (dk_at dksX3_putLine_2 8 rfl rfl)
theorem dX3_putLine_53 : decode cX3_putLine 53 = .ok (.invokevirtual 98, 3) := dk_182 0 98 (dk_at dksX3_putLine_2 9 rfl rfl)
theorem dX3_putLine_56 : decode cX3_putLine 56 = .ok (.aload_n 0, 1) := dk_42 (dk_at dksX3_putLine_2 12 rfl rfl)
theorem dX3_putLine_57 : decode cX3_putLine 57 = .ok (.getfield 105, 3) := dk_180 0 105 (dk_at dksX3_putLine_2 13 rfl rfl)
theorem dX3_putLine_60 : decode cX3_putLine 60 = .ok (.iload_n 1, 1) := dk_27 (dk_at dksX3_putLine_2 16 rfl rfl)
theorem dX3_putLine_61 : decode cX3_putLine 61 = .ok (.iload_n 2, 1) := dk_28 (dk_at dksX3_putLine_2 17 rfl rfl)
theorem dX3_putLine_62 : decode cX3_putLine 62 = .ok (.invokevirtual 153, 3) := dk_182 0 153 (dk_at dksX3_putLine_2 18 rfl rfl)
theorem dX3_putLine_65 : decode cX3_putLine 65 = .ok (.istore_n 3, 1) := dk_62 (dk_at dksX3_putLine_2 21 rfl rfl)
theorem dX3_putLine_66 : decode cX3_putLine 66 = .ok (.aload_n 0, 1) := dk_42 (dk_at dksX3_putLine_2 22 rfl rfl)
theorem dX3_putLine_67 : decode cX3_putLine 67 = .ok (.invokevirtual 34, 3) := dk_182 0 34 (dk_at dksX3_putLine_3 0 rfl rfl)
theorem dX3_putLine_70 : decode cX3_putLine 70 = .ok (.return_, 1) := dk_177 (dk_at dksX3_putLine_3 3 rfl rfl)
abbrev cX3_washLine : ByteArray := prog_14_method_11_code
def yX3_washLine : MethodName := ⟨RX3, "washLine", "()V"⟩
def dkwX3_washLine_2 : List UInt8 := [182, 0, 98, 42, 180, 0, 105, 27, 28, 182, 0, 159, 62, 42, 182, 0, 34, 177]
abbrev dktX3_washLine_2 : List UInt8 := dkwX3_washLine_2 ++ []
def dkwX3_washLine_1 : List UInt8 := [182, 0, 102, 61, 42, 42, 180, 0, 105, 27, 28, 184, 0, 156, 154, 0, 7, 4, 167, 0, 4, 3, 6]
abbrev dktX3_washLine_1 : List UInt8 := dkwX3_washLine_1 ++ dktX3_washLine_2
def dkwX3_washLine_0 : List UInt8 := [42, 182, 0, 34, 42, 3, 42, 180, 0, 105, 180, 0, 146, 4, 100, 182, 0, 127, 60, 42, 3, 6]
abbrev dktX3_washLine_0 : List UInt8 := dkwX3_washLine_0 ++ dktX3_washLine_1
theorem dksX3_washLine_0 : cX3_washLine.data.toList.drop 0 = dktX3_washLine_0 := by decide +kernel
theorem dksX3_washLine_1 : cX3_washLine.data.toList.drop 22 = dktX3_washLine_1 := dk_seg dksX3_washLine_0 22 rfl rfl
theorem dksX3_washLine_2 : cX3_washLine.data.toList.drop 45 = dktX3_washLine_2 := dk_seg dksX3_washLine_1 23 rfl rfl
theorem dX3_washLine_0 : decode cX3_washLine 0 = .ok (.aload_n 0, 1) := dk_42 (dk_at dksX3_washLine_0 0 rfl rfl)
theorem dX3_washLine_1 : decode cX3_washLine 1 = .ok (.invokevirtual 34, 3) := dk_182 0 34 (dk_at dksX3_washLine_0 1 rfl rfl)
theorem dX3_washLine_4 : decode cX3_washLine 4 = .ok (.aload_n 0, 1) := dk_42 (dk_at dksX3_washLine_0 4 rfl rfl)
theorem dX3_washLine_5 : decode cX3_washLine 5 = .ok (.iconst 0, 1) := dk_3 (dk_at dksX3_washLine_0 5 rfl rfl)
theorem dX3_washLine_6 : decode cX3_washLine 6 = .ok (.aload_n 0, 1) := dk_42 (dk_at dksX3_washLine_0 6 rfl rfl)
theorem dX3_washLine_7 : decode cX3_washLine 7 = .ok (.getfield 105, 3) := dk_180 0 105 (dk_at dksX3_washLine_0 7 rfl rfl)
theorem dX3_washLine_10 : decode cX3_washLine 10 = .ok (.getfield 146, 3) := dk_180 0 146 (dk_at dksX3_washLine_0 10 rfl rfl)
theorem dX3_washLine_13 : decode cX3_washLine 13 = .ok (.iconst 1, 1) := dk_4 (dk_at dksX3_washLine_0 13 rfl rfl)
theorem dX3_washLine_14 : decode cX3_washLine 14 = .ok (.isub, 1) := dk_100 (dk_at dksX3_washLine_0 14 rfl rfl)
theorem dX3_washLine_15 : decode cX3_washLine 15 = .ok (.invokevirtual 127, 3) := dk_182 0 127 (dk_at dksX3_washLine_0 15 rfl rfl)
theorem dX3_washLine_18 : decode cX3_washLine 18 = .ok (.istore_n 1, 1) := dk_60 (dk_at dksX3_washLine_0 18 rfl rfl)
theorem dX3_washLine_19 : decode cX3_washLine 19 = .ok (.aload_n 0, 1) := dk_42 (dk_at dksX3_washLine_0 19 rfl rfl)
theorem dX3_washLine_20 : decode cX3_washLine 20 = .ok (.iconst 0, 1) := dk_3 (dk_at dksX3_washLine_0 20 rfl rfl)
theorem dX3_washLine_21 : decode cX3_washLine 21 = .ok (.iconst 3, 1) := dk_6 (dk_at dksX3_washLine_0 21 rfl rfl)
theorem dX3_washLine_22 : decode cX3_washLine 22 = .ok (.invokevirtual 102, 3) := dk_182 0 102 (dk_at dksX3_washLine_1 0 rfl rfl)
theorem dX3_washLine_25 : decode cX3_washLine 25 = .ok (.istore_n 2, 1) := dk_61 (dk_at dksX3_washLine_1 3 rfl rfl)
theorem dX3_washLine_26 : decode cX3_washLine 26 = .ok (.aload_n 0, 1) := dk_42 (dk_at dksX3_washLine_1 4 rfl rfl)
theorem dX3_washLine_27 : decode cX3_washLine 27 = .ok (.aload_n 0, 1) := dk_42 (dk_at dksX3_washLine_1 5 rfl rfl)
theorem dX3_washLine_28 : decode cX3_washLine 28 = .ok (.getfield 105, 3) := dk_180 0 105 (dk_at dksX3_washLine_1 6 rfl rfl)
theorem dX3_washLine_31 : decode cX3_washLine 31 = .ok (.iload_n 1, 1) := dk_27 (dk_at dksX3_washLine_1 9 rfl rfl)
theorem dX3_washLine_32 : decode cX3_washLine 32 = .ok (.iload_n 2, 1) := dk_28 (dk_at dksX3_washLine_1 10 rfl rfl)
theorem dX3_washLine_33 : decode cX3_washLine 33 = .ok (.invokestatic 156, 3) := dk_184 0 156 (dk_at dksX3_washLine_1 11 rfl rfl)
theorem dX3_washLine_36 : decode cX3_washLine 36 = .ok (.ifCond .ne 7, 3) := dk_154 0 7 (dk_at dksX3_washLine_1 14 rfl rfl)
theorem dX3_washLine_39 : decode cX3_washLine 39 = .ok (.iconst 1, 1) := dk_4 (dk_at dksX3_washLine_1 17 rfl rfl)
theorem dX3_washLine_40 : decode cX3_washLine 40 = .ok (.goto 4, 3) := dk_167 0 4 (dk_at dksX3_washLine_1 18 rfl rfl)
theorem dX3_washLine_43 : decode cX3_washLine 43 = .ok (.iconst 0, 1) := dk_3 (dk_at dksX3_washLine_1 21 rfl rfl)
theorem dX3_washLine_44 : decode cX3_washLine 44 = .ok (.iconst 3, 1) := dk_6 (dk_at dksX3_washLine_1 22 rfl rfl)
theorem dX3_washLine_45 : decode cX3_washLine 45 = .ok (.invokevirtual 98, 3) := dk_182 0 98 (dk_at dksX3_washLine_2 0 rfl rfl)
theorem dX3_washLine_48 : decode cX3_washLine 48 = .ok (.aload_n 0, 1) := dk_42 (dk_at dksX3_washLine_2 3 rfl rfl)
theorem dX3_washLine_49 : decode cX3_washLine 49 = .ok (.getfield 105, 3) := dk_180 0 105 (dk_at dksX3_washLine_2 4 rfl rfl)
theorem dX3_washLine_52 : decode cX3_washLine 52 = .ok (.iload_n 1, 1) := dk_27 (dk_at dksX3_washLine_2 7 rfl rfl)
theorem dX3_washLine_53 : decode cX3_washLine 53 = .ok (.iload_n 2, 1) := dk_28 (dk_at dksX3_washLine_2 8 rfl rfl)
theorem dX3_washLine_54 : decode cX3_washLine 54 = .ok (.invokevirtual 159, 3) := dk_182 0 159 (dk_at dksX3_washLine_2 9 rfl rfl)
theorem dX3_washLine_57 : decode cX3_washLine 57 = .ok (.istore_n 3, 1) := dk_62 (dk_at dksX3_washLine_2 12 rfl rfl)
theorem dX3_washLine_58 : decode cX3_washLine 58 = .ok (.aload_n 0, 1) := dk_42 (dk_at dksX3_washLine_2 13 rfl rfl)
theorem dX3_washLine_59 : decode cX3_washLine 59 = .ok (.invokevirtual 34, 3) := dk_182 0 34 (dk_at dksX3_washLine_2 14 rfl rfl)
theorem dX3_washLine_62 : decode cX3_washLine 62 = .ok (.return_, 1) := dk_177 (dk_at dksX3_washLine_2 17 rfl rfl)
abbrev cX3_hangLine : ByteArray := prog_14_method_12_code
def yX3_hangLine : MethodName := ⟨RX3, "hangLine", "()V"⟩
def dkwX3_hangLine_3 : List UInt8 := [183, 0, 175, 181, 0, 178, 42, 182, 0, 34, 177]
abbrev dktX3_hangLine_3 : List UInt8 := dkwX3_hangLine_3 ++ []
def dkwX3_hangLine_2 : List UInt8 := [4, 167, 0, 4, 3, 6, 182, 0, 98, 42, 180, 0, 105, 27, 182, 0, 165, 187, 0, 173, 89, 28]
abbrev dktX3_hangLine_2 : List UInt8 := dkwX3_hangLine_2 ++ dktX3_hangLine_3
def dkwX3_hangLine_1 : List UInt8 := [182, 0, 162, 61, 42, 42, 180, 0, 105, 27, 182, 0, 165, 182, 0, 169, 153, 0, 12, 28, 2, 159, 0, 7]
abbrev dktX3_hangLine_1 : List UInt8 := dkwX3_hangLine_1 ++ dktX3_hangLine_2
def dkwX3_hangLine_0 : List UInt8 := [42, 182, 0, 34, 42, 3, 42, 180, 0, 105, 182, 0, 109, 4, 100, 182, 0, 102, 60, 42, 180, 0, 105]
abbrev dktX3_hangLine_0 : List UInt8 := dkwX3_hangLine_0 ++ dktX3_hangLine_1
theorem dksX3_hangLine_0 : cX3_hangLine.data.toList.drop 0 = dktX3_hangLine_0 := by decide +kernel
theorem dksX3_hangLine_1 : cX3_hangLine.data.toList.drop 23 = dktX3_hangLine_1 := dk_seg dksX3_hangLine_0 23 rfl rfl
theorem dksX3_hangLine_2 : cX3_hangLine.data.toList.drop 47 = dktX3_hangLine_2 := dk_seg dksX3_hangLine_1 24 rfl rfl
theorem dksX3_hangLine_3 : cX3_hangLine.data.toList.drop 69 = dktX3_hangLine_3 := dk_seg dksX3_hangLine_2 22 rfl rfl
theorem dX3_hangLine_0 : decode cX3_hangLine 0 = .ok (.aload_n 0, 1) := dk_42 (dk_at dksX3_hangLine_0 0 rfl rfl)
theorem dX3_hangLine_1 : decode cX3_hangLine 1 = .ok (.invokevirtual 34, 3) := dk_182 0 34 (dk_at dksX3_hangLine_0 1 rfl rfl)
theorem dX3_hangLine_4 : decode cX3_hangLine 4 = .ok (.aload_n 0, 1) := dk_42 (dk_at dksX3_hangLine_0 4 rfl rfl)
theorem dX3_hangLine_5 : decode cX3_hangLine 5 = .ok (.iconst 0, 1) := dk_3 (dk_at dksX3_hangLine_0 5 rfl rfl)
theorem dX3_hangLine_6 : decode cX3_hangLine 6 = .ok (.aload_n 0, 1) := dk_42 (dk_at dksX3_hangLine_0 6 rfl rfl)
theorem dX3_hangLine_7 : decode cX3_hangLine 7 = .ok (.getfield 105, 3) := dk_180 0 105 (dk_at dksX3_hangLine_0 7 rfl rfl)
theorem dX3_hangLine_10 : decode cX3_hangLine 10 = .ok (.invokevirtual 109, 3) := dk_182 0 109 (dk_at dksX3_hangLine_0 10 rfl rfl)
theorem dX3_hangLine_13 : decode cX3_hangLine 13 = .ok (.iconst 1, 1) := dk_4 (dk_at dksX3_hangLine_0 13 rfl rfl)
theorem dX3_hangLine_14 : decode cX3_hangLine 14 = .ok (.isub, 1) := dk_100 (dk_at dksX3_hangLine_0 14 rfl rfl)
theorem dX3_hangLine_15 : decode cX3_hangLine 15 = .ok (.invokevirtual 102, 3) := dk_182 0 102 (dk_at dksX3_hangLine_0 15 rfl rfl)
theorem dX3_hangLine_18 : decode cX3_hangLine 18 = .ok (.istore_n 1, 1) := dk_60 (dk_at dksX3_hangLine_0 18 rfl rfl)
theorem dX3_hangLine_19 : decode cX3_hangLine 19 = .ok (.aload_n 0, 1) := dk_42 (dk_at dksX3_hangLine_0 19 rfl rfl)
theorem dX3_hangLine_20 : decode cX3_hangLine 20 = .ok (.getfield 105, 3) := dk_180 0 105 (dk_at dksX3_hangLine_0 20 rfl rfl)
theorem dX3_hangLine_23 : decode cX3_hangLine 23 = .ok (.invokevirtual 162, 3) := dk_182 0 162 (dk_at dksX3_hangLine_1 0 rfl rfl)
theorem dX3_hangLine_26 : decode cX3_hangLine 26 = .ok (.istore_n 2, 1) := dk_61 (dk_at dksX3_hangLine_1 3 rfl rfl)
theorem dX3_hangLine_27 : decode cX3_hangLine 27 = .ok (.aload_n 0, 1) := dk_42 (dk_at dksX3_hangLine_1 4 rfl rfl)
theorem dX3_hangLine_28 : decode cX3_hangLine 28 = .ok (.aload_n 0, 1) := dk_42 (dk_at dksX3_hangLine_1 5 rfl rfl)
theorem dX3_hangLine_29 : decode cX3_hangLine 29 = .ok (.getfield 105, 3) := dk_180 0 105 (dk_at dksX3_hangLine_1 6 rfl rfl)
theorem dX3_hangLine_32 : decode cX3_hangLine 32 = .ok (.iload_n 1, 1) := dk_27 (dk_at dksX3_hangLine_1 9 rfl rfl)
theorem dX3_hangLine_33 : decode cX3_hangLine 33 = .ok (.invokevirtual 165, 3) := dk_182 0 165 (dk_at dksX3_hangLine_1 10 rfl rfl)
theorem dX3_hangLine_36 : decode cX3_hangLine 36 = .ok (.invokevirtual 169, 3) := dk_182 0 169 (dk_at dksX3_hangLine_1 13 rfl rfl)
theorem dX3_hangLine_39 : decode cX3_hangLine 39 = .ok (.ifCond .eq 12, 3) := dk_153 0 12 (dk_at dksX3_hangLine_1 16 rfl rfl)
theorem dX3_hangLine_42 : decode cX3_hangLine 42 = .ok (.iload_n 2, 1) := dk_28 (dk_at dksX3_hangLine_1 19 rfl rfl)
theorem dX3_hangLine_43 : decode cX3_hangLine 43 = .ok (.iconst (-1), 1) := dk_2 (dk_at dksX3_hangLine_1 20 rfl rfl)
theorem dX3_hangLine_44 : decode cX3_hangLine 44 = .ok (.if_icmp .eq 7, 3) := dk_159 0 7 (dk_at dksX3_hangLine_1 21 rfl rfl)
theorem dX3_hangLine_47 : decode cX3_hangLine 47 = .ok (.iconst 1, 1) := dk_4 (dk_at dksX3_hangLine_2 0 rfl rfl)
theorem dX3_hangLine_48 : decode cX3_hangLine 48 = .ok (.goto 4, 3) := dk_167 0 4 (dk_at dksX3_hangLine_2 1 rfl rfl)
theorem dX3_hangLine_51 : decode cX3_hangLine 51 = .ok (.iconst 0, 1) := dk_3 (dk_at dksX3_hangLine_2 4 rfl rfl)
theorem dX3_hangLine_52 : decode cX3_hangLine 52 = .ok (.iconst 3, 1) := dk_6 (dk_at dksX3_hangLine_2 5 rfl rfl)
theorem dX3_hangLine_53 : decode cX3_hangLine 53 = .ok (.invokevirtual 98, 3) := dk_182 0 98 (dk_at dksX3_hangLine_2 6 rfl rfl)
theorem dX3_hangLine_56 : decode cX3_hangLine 56 = .ok (.aload_n 0, 1) := dk_42 (dk_at dksX3_hangLine_2 9 rfl rfl)
theorem dX3_hangLine_57 : decode cX3_hangLine 57 = .ok (.getfield 105, 3) := dk_180 0 105 (dk_at dksX3_hangLine_2 10 rfl rfl)
theorem dX3_hangLine_60 : decode cX3_hangLine 60 = .ok (.iload_n 1, 1) := dk_27 (dk_at dksX3_hangLine_2 13 rfl rfl)
theorem dX3_hangLine_61 : decode cX3_hangLine 61 = .ok (.invokevirtual 165, 3) := dk_182 0 165 (dk_at dksX3_hangLine_2 14 rfl rfl)
theorem dX3_hangLine_64 : decode cX3_hangLine 64 = .ok (.new 173, 3) := dk_187 0 173 (dk_at dksX3_hangLine_2 17 rfl rfl)
theorem dX3_hangLine_67 : decode cX3_hangLine 67 = .ok (.dup, 1) := dk_89 (dk_at dksX3_hangLine_2 20 rfl rfl)
theorem dX3_hangLine_68 : decode cX3_hangLine 68 = .ok (.iload_n 2, 1) := dk_28 (dk_at dksX3_hangLine_2 21 rfl rfl)
theorem dX3_hangLine_69 : decode cX3_hangLine 69 = .ok (.invokespecial 175, 3) := dk_183 0 175 (dk_at dksX3_hangLine_3 0 rfl rfl)
theorem dX3_hangLine_72 : decode cX3_hangLine 72 = .ok (.putfield 178, 3) := dk_181 0 178 (dk_at dksX3_hangLine_3 3 rfl rfl)
theorem dX3_hangLine_75 : decode cX3_hangLine 75 = .ok (.aload_n 0, 1) := dk_42 (dk_at dksX3_hangLine_3 6 rfl rfl)
theorem dX3_hangLine_76 : decode cX3_hangLine 76 = .ok (.invokevirtual 34, 3) := dk_182 0 34 (dk_at dksX3_hangLine_3 7 rfl rfl)
theorem dX3_hangLine_79 : decode cX3_hangLine 79 = .ok (.return_, 1) := dk_177 (dk_at dksX3_hangLine_3 10 rfl rfl)
theorem q146 : (Jvm.Cond.initialized "FlagLaundry$Parser") ∈ lw_all := lw_g (lw_at lw_m1 14 rfl) rfl
theorem q237 : (Jvm.Cond.fieldLinkNest "FlagLaundry$Parser" (37 : Nat) "FlagLaundry" "buffer" "[B" "FlagLaundry") ∈ lw_tbl := lw_at lw_m1 105 rfl
theorem q406 : (Jvm.Cond.instantiable "FlagLaundry$Parser" (8 : Nat)) ∈ lw_all := lw_g (lw_at lw_m2 34 rfl) rfl
theorem q408 : (Jvm.Cond.instanceMethod ({ cls := "FlagLaundry$Parser", name := "<init>", desc := "(LFlagLaundry;I)V" } : Jvm.MethodName)) ∈ lw_all := lw_g (lw_at lw_m2 36 rfl) rfl
theorem q409 : (Jvm.Cond.code ({ cls := "FlagLaundry$Parser", name := "<init>", desc := "(LFlagLaundry;I)V" } : Jvm.MethodName) prog_14_method_1_code (3 : Nat) (Option.none : Option Jvm.ClassFile.FieldType)) ∈ lw_all := lw_g (lw_at lw_m2 37 rfl) rfl
theorem q410 : (Jvm.Cond.methodLink "FlagLaundry$Parser" (9 : Nat) ({ cls := "java/lang/Object", name := "<init>", desc := "()V" } : Jvm.MethodName)) ∈ lw_all := lw_g (lw_at lw_m2 38 rfl) rfl
theorem q411 : (Jvm.Cond.fieldLink "FlagLaundry$Parser" (15 : Nat) "FlagLaundry$Sort" "END" "LFlagLaundry$Sort;") ∈ lw_all := lw_g (lw_at lw_m2 39 rfl) rfl
theorem q413 : (Jvm.Cond.stringRef "FlagLaundry$Parser" (24 : Nat) "") ∈ lw_tbl := lw_at lw_m2 41 rfl
theorem q414 : (Jvm.Cond.methodLink "FlagLaundry$Parser" (34 : Nat) ({ cls := "FlagLaundry$Parser", name := "step", desc := "()V" } : Jvm.MethodName)) ∈ lw_all := lw_g (lw_at lw_m2 42 rfl) rfl
theorem q415 : (Jvm.Cond.privateMethod ({ cls := "FlagLaundry$Parser", name := "step", desc := "()V" } : Jvm.MethodName)) ∈ lw_tbl := lw_at lw_m2 43 rfl
theorem q416 : (Jvm.Cond.instanceMethod ({ cls := "FlagLaundry$Parser", name := "step", desc := "()V" } : Jvm.MethodName)) ∈ lw_all := lw_g (lw_at lw_m2 44 rfl) rfl
theorem q417 : (Jvm.Cond.code ({ cls := "FlagLaundry$Parser", name := "step", desc := "()V" } : Jvm.MethodName) prog_14_method_4_code (4 : Nat) (Option.none : Option Jvm.ClassFile.FieldType)) ∈ lw_all := lw_g (lw_at lw_m2 45 rfl) rfl
theorem q418 : (Jvm.Cond.methodLink "FlagLaundry$Parser" (44 : Nat) ({ cls := "FlagLaundry$Parser", name := "at", desc := "(I)I" } : Jvm.MethodName)) ∈ lw_all := lw_g (lw_at lw_m2 46 rfl) rfl
theorem q419 : (Jvm.Cond.privateMethod ({ cls := "FlagLaundry$Parser", name := "at", desc := "(I)I" } : Jvm.MethodName)) ∈ lw_tbl := lw_at lw_m2 47 rfl
theorem q420 : (Jvm.Cond.instanceMethod ({ cls := "FlagLaundry$Parser", name := "at", desc := "(I)I" } : Jvm.MethodName)) ∈ lw_all := lw_g (lw_at lw_m2 48 rfl) rfl
theorem q421 : (Jvm.Cond.code ({ cls := "FlagLaundry$Parser", name := "at", desc := "(I)I" } : Jvm.MethodName) prog_14_method_2_code (2 : Nat) (Option.some Jvm.ClassFile.FieldType.int)) ∈ lw_all := lw_g (lw_at lw_m2 49 rfl) rfl
theorem q422 : (Jvm.Cond.constantLong "FlagLaundry$Parser" (55 : Nat) (97 : Int64)) ∈ lw_all := lw_g (lw_at lw_m2 50 rfl) rfl
theorem q423 : (Jvm.Cond.constantLong "FlagLaundry$Parser" (57 : Nat) (122 : Int64)) ∈ lw_all := lw_g (lw_at lw_m2 51 rfl) rfl
theorem q424 : (Jvm.Cond.methodLinkNest "FlagLaundry$Parser" (48 : Nat) ({ cls := "FlagLaundry", name := "in", desc := "(JJJ)Z" } : Jvm.MethodName) "FlagLaundry") ∈ lw_tbl := lw_at lw_m2 52 rfl
theorem q425 : (Jvm.Cond.methodLink "FlagLaundry$Parser" (59 : Nat) ({ cls := "FlagLaundry$Parser", name := "run", desc := "(II)I" } : Jvm.MethodName)) ∈ lw_all := lw_g (lw_at lw_m2 53 rfl) rfl
theorem q426 : (Jvm.Cond.privateMethod ({ cls := "FlagLaundry$Parser", name := "run", desc := "(II)I" } : Jvm.MethodName)) ∈ lw_tbl := lw_at lw_m2 54 rfl
theorem q427 : (Jvm.Cond.instanceMethod ({ cls := "FlagLaundry$Parser", name := "run", desc := "(II)I" } : Jvm.MethodName)) ∈ lw_all := lw_g (lw_at lw_m2 55 rfl) rfl
theorem q428 : (Jvm.Cond.code ({ cls := "FlagLaundry$Parser", name := "run", desc := "(II)I" } : Jvm.MethodName) prog_14_method_3_code (4 : Nat) (Option.some Jvm.ClassFile.FieldType.int)) ∈ lw_all := lw_g (lw_at lw_m2 56 rfl) rfl
theorem q429 : (Jvm.Cond.fieldLink "FlagLaundry$Parser" (63 : Nat) "FlagLaundry$Sort" "WORD" "LFlagLaundry$Sort;") ∈ lw_all := lw_g (lw_at lw_m2 57 rfl) rfl
theorem q431 : (Jvm.Cond.fieldLink "FlagLaundry$Parser" (66 : Nat) "FlagLaundry$Sort" "BAD" "LFlagLaundry$Sort;") ∈ lw_all := lw_g (lw_at lw_m2 59 rfl) rfl
theorem q433 : (Jvm.Cond.classLink "FlagLaundry$Parser" (69 : Nat) "java/lang/StringBuilder") ∈ lw_all := lw_g (lw_at lw_m2 61 rfl) rfl
theorem q434 : (Jvm.Cond.methodLink "FlagLaundry$Parser" (71 : Nat) ({ cls := "java/lang/StringBuilder", name := "<init>", desc := "()V" } : Jvm.MethodName)) ∈ lw_all := lw_g (lw_at lw_m2 62 rfl) rfl
theorem q435 : (Jvm.Cond.methodLink "FlagLaundry$Parser" (72 : Nat) ({ cls := "java/lang/StringBuilder", name := "append", desc := "(C)Ljava/lang/StringBuilder;" } : Jvm.MethodName)) ∈ lw_all := lw_g (lw_at lw_m2 63 rfl) rfl
theorem q530 : (Jvm.Cond.methodLink "FlagLaundry$Parser" (76 : Nat) ({ cls := "java/lang/StringBuilder", name := "toString", desc := "()Ljava/lang/String;" } : Jvm.MethodName)) ∈ lw_all := lw_g (lw_at lw_m2 158 rfl) rfl
theorem q678 : (Jvm.Cond.constantLong "FlagLaundry$Parser" (80 : Nat) (48 : Int64)) ∈ lw_all := lw_g (lw_at lw_m3 66 rfl) rfl
theorem q679 : (Jvm.Cond.constantLong "FlagLaundry$Parser" (82 : Nat) (57 : Int64)) ∈ lw_all := lw_g (lw_at lw_m3 67 rfl) rfl
theorem q680 : (Jvm.Cond.fieldLink "FlagLaundry$Parser" (84 : Nat) "FlagLaundry$Sort" "NUMBER" "LFlagLaundry$Sort;") ∈ lw_all := lw_g (lw_at lw_m3 68 rfl) rfl
theorem q682 : (Jvm.Cond.fieldLink "FlagLaundry$Parser" (90 : Nat) "FlagLaundry$Sort" "SEMICOLON" "LFlagLaundry$Sort;") ∈ lw_all := lw_g (lw_at lw_m3 70 rfl) rfl
theorem q684 : (Jvm.Cond.fieldLink "FlagLaundry$Parser" (30 : Nat) "FlagLaundry$Parser" "length" "I") ∈ lw_all := lw_g (lw_at lw_m3 72 rfl) rfl
theorem q685 : (Jvm.Cond.fieldLink "FlagLaundry$Parser" (52 : Nat) "FlagLaundry$Parser" "next" "I") ∈ lw_all := lw_g (lw_at lw_m3 73 rfl) rfl
theorem q686 : (Jvm.Cond.fieldLink "FlagLaundry$Parser" (41 : Nat) "FlagLaundry$Parser" "begin" "I") ∈ lw_all := lw_g (lw_at lw_m3 74 rfl) rfl
theorem q687 : (Jvm.Cond.fieldLink "FlagLaundry$Parser" (87 : Nat) "FlagLaundry$Parser" "value" "I") ∈ lw_all := lw_g (lw_at lw_m3 75 rfl) rfl
theorem q688 : (Jvm.Cond.fieldLink "FlagLaundry$Parser" (21 : Nat) "FlagLaundry$Parser" "sort" "LFlagLaundry$Sort;") ∈ lw_all := lw_g (lw_at lw_m3 76 rfl) rfl
theorem q689 : (Jvm.Cond.fieldLink "FlagLaundry$Parser" (26 : Nat) "FlagLaundry$Parser" "word" "Ljava/lang/String;") ∈ lw_all := lw_g (lw_at lw_m3 77 rfl) rfl
theorem q690 : (Jvm.Cond.fieldLink "FlagLaundry$Parser" (105 : Nat) "FlagLaundry$Parser" "made" "LFlagLaundry$World;") ∈ lw_all := lw_g (lw_at lw_m3 78 rfl) rfl
theorem q691 : (Jvm.Cond.fieldLink "FlagLaundry$Parser" (3 : Nat) "FlagLaundry$Parser" "this$0" "LFlagLaundry;") ∈ lw_all := lw_g (lw_at lw_m3 79 rfl) rfl
theorem q692 : (Jvm.Cond.laysFinal "FlagLaundry$Parser" "FlagLaundry$Parser" "length" "I") ∈ lw_all := lw_g (lw_at lw_m3 80 rfl) rfl
theorem q693 : (Jvm.Cond.soleField "FlagLaundry$Parser" "length") ∈ lw_all := lw_g (lw_at lw_m3 81 rfl) rfl
theorem q694 : (Jvm.Cond.lays "FlagLaundry$Parser" "FlagLaundry$Parser" "next" "I") ∈ lw_all := lw_g (lw_at lw_m3 82 rfl) rfl
theorem q695 : (Jvm.Cond.soleField "FlagLaundry$Parser" "next") ∈ lw_all := lw_g (lw_at lw_m3 83 rfl) rfl
theorem q696 : (Jvm.Cond.lays "FlagLaundry$Parser" "FlagLaundry$Parser" "begin" "I") ∈ lw_all := lw_g (lw_at lw_m3 84 rfl) rfl
theorem q697 : (Jvm.Cond.soleField "FlagLaundry$Parser" "begin") ∈ lw_all := lw_g (lw_at lw_m3 85 rfl) rfl
theorem q698 : (Jvm.Cond.lays "FlagLaundry$Parser" "FlagLaundry$Parser" "value" "I") ∈ lw_all := lw_g (lw_at lw_m3 86 rfl) rfl
theorem q699 : (Jvm.Cond.soleField "FlagLaundry$Parser" "value") ∈ lw_all := lw_g (lw_at lw_m3 87 rfl) rfl
theorem q700 : (Jvm.Cond.lays "FlagLaundry$Parser" "FlagLaundry$Parser" "sort" "LFlagLaundry$Sort;") ∈ lw_all := lw_g (lw_at lw_m3 88 rfl) rfl
theorem q701 : (Jvm.Cond.soleField "FlagLaundry$Parser" "sort") ∈ lw_all := lw_g (lw_at lw_m3 89 rfl) rfl
theorem q702 : (Jvm.Cond.lays "FlagLaundry$Parser" "FlagLaundry$Parser" "word" "Ljava/lang/String;") ∈ lw_all := lw_g (lw_at lw_m3 90 rfl) rfl
theorem q703 : (Jvm.Cond.soleField "FlagLaundry$Parser" "word") ∈ lw_all := lw_g (lw_at lw_m3 91 rfl) rfl
theorem q704 : (Jvm.Cond.lays "FlagLaundry$Parser" "FlagLaundry$Parser" "made" "LFlagLaundry$World;") ∈ lw_all := lw_g (lw_at lw_m3 92 rfl) rfl
theorem q705 : (Jvm.Cond.soleField "FlagLaundry$Parser" "made") ∈ lw_all := lw_g (lw_at lw_m3 93 rfl) rfl
theorem q706 : (Jvm.Cond.laysFinal "FlagLaundry$Parser" "FlagLaundry$Parser" "this$0" "LFlagLaundry;") ∈ lw_all := lw_g (lw_at lw_m3 94 rfl) rfl
theorem q707 : (Jvm.Cond.soleField "FlagLaundry$Parser" "this$0") ∈ lw_all := lw_g (lw_at lw_m3 95 rfl) rfl
theorem q708 : (Jvm.Cond.superclass "FlagLaundry$Parser" "java/lang/Object") ∈ lw_all := lw_g (lw_at lw_m3 96 rfl) rfl
theorem q710 : (Jvm.Cond.instanceMethod ({ cls := "FlagLaundry$Parser", name := "parse", desc := "()LFlagLaundry$World;" } : Jvm.MethodName)) ∈ lw_all := lw_g (lw_at lw_m3 98 rfl) rfl
theorem q711 : (Jvm.Cond.selects "FlagLaundry$Parser" ({ cls := "FlagLaundry$Parser", name := "parse", desc := "()LFlagLaundry$World;" } : Jvm.MethodName) ({ cls := "FlagLaundry$Parser", name := "parse", desc := "()LFlagLaundry$World;" } : Jvm.MethodName)) ∈ lw_all := lw_g (lw_at lw_m3 99 rfl) rfl
theorem q712 : (Jvm.Cond.code ({ cls := "FlagLaundry$Parser", name := "parse", desc := "()LFlagLaundry$World;" } : Jvm.MethodName) prog_14_method_14_code (1 : Nat) (Option.some (Jvm.ClassFile.FieldType.object "FlagLaundry$World"))) ∈ lw_all := lw_g (lw_at lw_m3 100 rfl) rfl
theorem q713 : (Jvm.Cond.stringRef "FlagLaundry$Parser" (241 : Nat) "line") ∈ lw_tbl := lw_at lw_m3 101 rfl
theorem q714 : (Jvm.Cond.methodLink "FlagLaundry$Parser" (189 : Nat) ({ cls := "java/lang/String", name := "equals", desc := "(Ljava/lang/Object;)Z" } : Jvm.MethodName)) ∈ lw_all := lw_g (lw_at lw_m3 102 rfl) rfl
theorem q722 : (Jvm.Cond.methodLink "FlagLaundry$Parser" (98 : Nat) ({ cls := "FlagLaundry$Parser", name := "check", desc := "(ZI)V" } : Jvm.MethodName)) ∈ lw_all := lw_g (lw_at lw_m3 110 rfl) rfl
theorem q723 : (Jvm.Cond.privateMethod ({ cls := "FlagLaundry$Parser", name := "check", desc := "(ZI)V" } : Jvm.MethodName)) ∈ lw_tbl := lw_at lw_m3 111 rfl
theorem q724 : (Jvm.Cond.instanceMethod ({ cls := "FlagLaundry$Parser", name := "check", desc := "(ZI)V" } : Jvm.MethodName)) ∈ lw_all := lw_g (lw_at lw_m3 112 rfl) rfl
theorem q725 : (Jvm.Cond.code ({ cls := "FlagLaundry$Parser", name := "check", desc := "(ZI)V" } : Jvm.MethodName) prog_14_method_5_code (3 : Nat) (Option.none : Option Jvm.ClassFile.FieldType)) ∈ lw_all := lw_g (lw_at lw_m3 113 rfl) rfl
theorem q726 : (Jvm.Cond.classLink "FlagLaundry$Parser" (93 : Nat) "FlagLaundry$Flaw") ∈ lw_all := lw_g (lw_at lw_m3 114 rfl) rfl
theorem q735 : (Jvm.Cond.methodLink "FlagLaundry$Parser" (95 : Nat) ({ cls := "FlagLaundry$Flaw", name := "<init>", desc := "(II)V" } : Jvm.MethodName)) ∈ lw_all := lw_g (lw_at lw_m3 123 rfl) rfl
theorem q754 : (Jvm.Cond.classLink "FlagLaundry$Parser" (110 : Nat) "FlagLaundry$World") ∈ lw_all := lw_g (lw_at lw_m3 142 rfl) rfl
theorem q756 : (Jvm.Cond.methodLink "FlagLaundry$Parser" (127 : Nat) ({ cls := "FlagLaundry$Parser", name := "number", desc := "(II)I" } : Jvm.MethodName)) ∈ lw_all := lw_g (lw_at lw_m3 144 rfl) rfl
theorem q757 : (Jvm.Cond.privateMethod ({ cls := "FlagLaundry$Parser", name := "number", desc := "(II)I" } : Jvm.MethodName)) ∈ lw_tbl := lw_at lw_m3 145 rfl
theorem q758 : (Jvm.Cond.instanceMethod ({ cls := "FlagLaundry$Parser", name := "number", desc := "(II)I" } : Jvm.MethodName)) ∈ lw_all := lw_g (lw_at lw_m3 146 rfl) rfl
theorem q759 : (Jvm.Cond.code ({ cls := "FlagLaundry$Parser", name := "number", desc := "(II)I" } : Jvm.MethodName) prog_14_method_7_code (4 : Nat) (Option.some Jvm.ClassFile.FieldType.int)) ∈ lw_all := lw_g (lw_at lw_m3 147 rfl) rfl
theorem q760 : (Jvm.Cond.methodLink "FlagLaundry$Parser" (102 : Nat) ({ cls := "FlagLaundry$Parser", name := "look", desc := "(II)I" } : Jvm.MethodName)) ∈ lw_all := lw_g (lw_at lw_m3 148 rfl) rfl
theorem q761 : (Jvm.Cond.privateMethod ({ cls := "FlagLaundry$Parser", name := "look", desc := "(II)I" } : Jvm.MethodName)) ∈ lw_tbl := lw_at lw_m3 149 rfl
theorem q762 : (Jvm.Cond.instanceMethod ({ cls := "FlagLaundry$Parser", name := "look", desc := "(II)I" } : Jvm.MethodName)) ∈ lw_all := lw_g (lw_at lw_m3 150 rfl) rfl
theorem q763 : (Jvm.Cond.code ({ cls := "FlagLaundry$Parser", name := "look", desc := "(II)I" } : Jvm.MethodName) prog_14_method_6_code (3 : Nat) (Option.some Jvm.ClassFile.FieldType.int)) ∈ lw_all := lw_g (lw_at lw_m3 151 rfl) rfl
theorem q764 : (Jvm.Cond.methodLink "FlagLaundry$Parser" (243 : Nat) ({ cls := "FlagLaundry$World", name := "<init>", desc := "(I)V" } : Jvm.MethodName)) ∈ lw_all := lw_g (lw_at lw_m3 152 rfl) rfl
theorem q825 : (Jvm.Cond.fieldLinkNest "FlagLaundry$Parser" (209 : Nat) "FlagLaundry$World" "runs" "[I" "FlagLaundry") ∈ lw_tbl := lw_at lw_m3 213 rfl
theorem q828 : (Jvm.Cond.fieldLinkNest "FlagLaundry$Parser" (221 : Nat) "FlagLaundry$World" "room" "[I" "FlagLaundry") ∈ lw_tbl := lw_at lw_m3 216 rfl
theorem q831 : (Jvm.Cond.fieldLinkNest "FlagLaundry$Parser" (118 : Nat) "FlagLaundry$World" "nations" "Ljava/util/List;" "FlagLaundry") ∈ lw_tbl := lw_at lw_m3 219 rfl
theorem q838 : (Jvm.Cond.fieldLinkNest "FlagLaundry$Parser" (130 : Nat) "FlagLaundry$World" "colours" "I" "FlagLaundry") ∈ lw_tbl := lw_at lw_m3 226 rfl
theorem q841 : (Jvm.Cond.fieldLinkNest "FlagLaundry$Parser" (146 : Nat) "FlagLaundry$World" "tubs" "I" "FlagLaundry") ∈ lw_tbl := lw_at lw_m3 229 rfl
theorem q846 : (Jvm.Cond.fieldLinkNest "FlagLaundry$Parser" (236 : Nat) "FlagLaundry$World" "wind" "I" "FlagLaundry") ∈ lw_tbl := lw_at lw_m3 234 rfl
theorem q889 : (Jvm.Cond.methodLink "FlagLaundry$Parser" (244 : Nat) ({ cls := "FlagLaundry$Parser", name := "line", desc := "()V" } : Jvm.MethodName)) ∈ lw_all := lw_g (lw_at lw_m4 37 rfl) rfl
theorem q890 : (Jvm.Cond.privateMethod ({ cls := "FlagLaundry$Parser", name := "line", desc := "()V" } : Jvm.MethodName)) ∈ lw_tbl := lw_at lw_m4 38 rfl
theorem q891 : (Jvm.Cond.instanceMethod ({ cls := "FlagLaundry$Parser", name := "line", desc := "()V" } : Jvm.MethodName)) ∈ lw_all := lw_g (lw_at lw_m4 39 rfl) rfl
theorem q892 : (Jvm.Cond.code ({ cls := "FlagLaundry$Parser", name := "line", desc := "()V" } : Jvm.MethodName) prog_14_method_13_code (6 : Nat) (Option.none : Option Jvm.ClassFile.FieldType)) ∈ lw_all := lw_g (lw_at lw_m4 40 rfl) rfl
theorem q893 : (Jvm.Cond.methodLink "FlagLaundry$Parser" (182 : Nat) ({ cls := "java/lang/String", name := "hashCode", desc := "()I" } : Jvm.MethodName)) ∈ lw_all := lw_g (lw_at lw_m4 41 rfl) rfl
theorem q954 : (Jvm.Cond.stringRef "FlagLaundry$Parser" (187 : Nat) "colour") ∈ lw_tbl := lw_at lw_m4 102 rfl
theorem q955 : (Jvm.Cond.stringRef "FlagLaundry$Parser" (193 : Nat) "nation") ∈ lw_tbl := lw_at lw_m4 103 rfl
theorem q956 : (Jvm.Cond.stringRef "FlagLaundry$Parser" (195 : Nat) "tub") ∈ lw_tbl := lw_at lw_m4 104 rfl
theorem q957 : (Jvm.Cond.stringRef "FlagLaundry$Parser" (197 : Nat) "flag") ∈ lw_tbl := lw_at lw_m4 105 rfl
theorem q958 : (Jvm.Cond.stringRef "FlagLaundry$Parser" (199 : Nat) "put") ∈ lw_tbl := lw_at lw_m4 106 rfl
theorem q959 : (Jvm.Cond.stringRef "FlagLaundry$Parser" (201 : Nat) "wash") ∈ lw_tbl := lw_at lw_m4 107 rfl
theorem q960 : (Jvm.Cond.stringRef "FlagLaundry$Parser" (203 : Nat) "hang") ∈ lw_tbl := lw_at lw_m4 108 rfl
theorem q961 : (Jvm.Cond.stringRef "FlagLaundry$Parser" (205 : Nat) "wind") ∈ lw_tbl := lw_at lw_m4 109 rfl
theorem q962 : (Jvm.Cond.stringRef "FlagLaundry$Parser" (207 : Nat) "pass") ∈ lw_tbl := lw_at lw_m4 110 rfl
theorem q963 : (Jvm.Cond.methodLink "FlagLaundry$Parser" (115 : Nat) ({ cls := "FlagLaundry$Parser", name := "begins", desc := "(II)V" } : Jvm.MethodName)) ∈ lw_all := lw_g (lw_at lw_m4 111 rfl) rfl
theorem q964 : (Jvm.Cond.privateMethod ({ cls := "FlagLaundry$Parser", name := "begins", desc := "(II)V" } : Jvm.MethodName)) ∈ lw_tbl := lw_at lw_m4 112 rfl
theorem q965 : (Jvm.Cond.instanceMethod ({ cls := "FlagLaundry$Parser", name := "begins", desc := "(II)V" } : Jvm.MethodName)) ∈ lw_all := lw_g (lw_at lw_m4 113 rfl) rfl
theorem q966 : (Jvm.Cond.code ({ cls := "FlagLaundry$Parser", name := "begins", desc := "(II)V" } : Jvm.MethodName) prog_14_method_8_code (3 : Nat) (Option.none : Option Jvm.ClassFile.FieldType)) ∈ lw_all := lw_g (lw_at lw_m4 114 rfl) rfl
theorem q967 : (Jvm.Cond.interfaceEntry "FlagLaundry$Parser" (122 : Nat)) ∈ lw_tbl := lw_at lw_m4 115 rfl
theorem q968 : (Jvm.Cond.methodLink "FlagLaundry$Parser" (122 : Nat) ({ cls := "java/util/List", name := "size", desc := "()I" } : Jvm.MethodName)) ∈ lw_all := lw_g (lw_at lw_m4 116 rfl) rfl
theorem q977 : (Jvm.Cond.classLink "FlagLaundry$Parser" (213 : Nat) "FlagLaundry$Nation") ∈ lw_all := lw_g (lw_at lw_m4 125 rfl) rfl
theorem q979 : (Jvm.Cond.methodLink "FlagLaundry$Parser" (215 : Nat) ({ cls := "FlagLaundry$Nation", name := "<init>", desc := "(III)V" } : Jvm.MethodName)) ∈ lw_all := lw_g (lw_at lw_m4 127 rfl) rfl
theorem q1002 : (Jvm.Cond.methodLink "FlagLaundry$Parser" (218 : Nat) ({ cls := "FlagLaundry$World", name := "adds", desc := "(LFlagLaundry$Nation;)V" } : Jvm.MethodName)) ∈ lw_all := lw_g (lw_at lw_m4 150 rfl) rfl
theorem q1048 : (Jvm.Cond.selects "FlagLaundry$Parser" ({ cls := "java/lang/Object", name := "getClass", desc := "()Ljava/lang/Class;" } : Jvm.MethodName) ({ cls := "java/lang/Object", name := "getClass", desc := "()Ljava/lang/Class;" } : Jvm.MethodName)) ∈ lw_all := lw_g (lw_at lw_m4 196 rfl) rfl
theorem q1070 : (Jvm.Cond.methodLink "FlagLaundry$Parser" (224 : Nat) ({ cls := "FlagLaundry$Parser", name := "flagLine", desc := "()V" } : Jvm.MethodName)) ∈ lw_all := lw_g (lw_at lw_m4 218 rfl) rfl
theorem q1071 : (Jvm.Cond.privateMethod ({ cls := "FlagLaundry$Parser", name := "flagLine", desc := "()V" } : Jvm.MethodName)) ∈ lw_tbl := lw_at lw_m4 219 rfl
theorem q1072 : (Jvm.Cond.instanceMethod ({ cls := "FlagLaundry$Parser", name := "flagLine", desc := "()V" } : Jvm.MethodName)) ∈ lw_all := lw_g (lw_at lw_m4 220 rfl) rfl
theorem q1073 : (Jvm.Cond.code ({ cls := "FlagLaundry$Parser", name := "flagLine", desc := "()V" } : Jvm.MethodName) prog_14_method_9_code (6 : Nat) (Option.none : Option Jvm.ClassFile.FieldType)) ∈ lw_all := lw_g (lw_at lw_m4 221 rfl) rfl
theorem q1074 : (Jvm.Cond.methodLink "FlagLaundry$Parser" (109 : Nat) ({ cls := "FlagLaundry$World", name := "many", desc := "()I" } : Jvm.MethodName)) ∈ lw_all := lw_g (lw_at lw_m4 222 rfl) rfl
theorem q1080 : (Jvm.Cond.methodLinkNest "FlagLaundry$Parser" (133 : Nat) ({ cls := "FlagLaundry", name := "has", desc := "(II)Z" } : Jvm.MethodName) "FlagLaundry") ∈ lw_tbl := lw_at lw_m4 228 rfl
theorem q1083 : (Jvm.Cond.classLink "FlagLaundry$Parser" (137 : Nat) "FlagLaundry$Flag") ∈ lw_all := lw_g (lw_at lw_m4 231 rfl) rfl
theorem q1085 : (Jvm.Cond.methodLink "FlagLaundry$Parser" (139 : Nat) ({ cls := "FlagLaundry$Flag", name := "<init>", desc := "(IIII)V" } : Jvm.MethodName)) ∈ lw_all := lw_g (lw_at lw_m4 233 rfl) rfl
theorem q1120 : (Jvm.Cond.fieldLinkNest "FlagLaundry$Parser" (178 : Nat) "FlagLaundry$Flag" "place" "LFlagLaundry$Place;" "FlagLaundry") ∈ lw_tbl := lw_at lw_m5 28 rfl
theorem q1142 : (Jvm.Cond.methodLink "FlagLaundry$Parser" (142 : Nat) ({ cls := "FlagLaundry$World", name := "adds", desc := "(LFlagLaundry$Flag;)V" } : Jvm.MethodName)) ∈ lw_all := lw_g (lw_at lw_m5 50 rfl) rfl
theorem q1146 : (Jvm.Cond.methodLink "FlagLaundry$Parser" (227 : Nat) ({ cls := "FlagLaundry$Parser", name := "putLine", desc := "()V" } : Jvm.MethodName)) ∈ lw_all := lw_g (lw_at lw_m5 54 rfl) rfl
theorem q1147 : (Jvm.Cond.privateMethod ({ cls := "FlagLaundry$Parser", name := "putLine", desc := "()V" } : Jvm.MethodName)) ∈ lw_tbl := lw_at lw_m5 55 rfl
theorem q1148 : (Jvm.Cond.instanceMethod ({ cls := "FlagLaundry$Parser", name := "putLine", desc := "()V" } : Jvm.MethodName)) ∈ lw_all := lw_g (lw_at lw_m5 56 rfl) rfl
theorem q1149 : (Jvm.Cond.code ({ cls := "FlagLaundry$Parser", name := "putLine", desc := "()V" } : Jvm.MethodName) prog_14_method_10_code (4 : Nat) (Option.none : Option Jvm.ClassFile.FieldType)) ∈ lw_all := lw_g (lw_at lw_m5 57 rfl) rfl
theorem q1150 : (Jvm.Cond.methodLinkNest "FlagLaundry$Parser" (149 : Nat) ({ cls := "FlagLaundry", name := "putBar", desc := "(LFlagLaundry$World;II)I" } : Jvm.MethodName) "FlagLaundry") ∈ lw_tbl := lw_at lw_m5 58 rfl
theorem q1213 : (Jvm.Cond.methodLink "FlagLaundry$Parser" (153 : Nat) ({ cls := "FlagLaundry$World", name := "puts", desc := "(II)I" } : Jvm.MethodName)) ∈ lw_all := lw_g (lw_at lw_m5 121 rfl) rfl
theorem q1234 : (Jvm.Cond.methodLink "FlagLaundry$Parser" (230 : Nat) ({ cls := "FlagLaundry$Parser", name := "washLine", desc := "()V" } : Jvm.MethodName)) ∈ lw_all := lw_g (lw_at lw_m5 142 rfl) rfl
theorem q1235 : (Jvm.Cond.privateMethod ({ cls := "FlagLaundry$Parser", name := "washLine", desc := "()V" } : Jvm.MethodName)) ∈ lw_tbl := lw_at lw_m5 143 rfl
theorem q1236 : (Jvm.Cond.instanceMethod ({ cls := "FlagLaundry$Parser", name := "washLine", desc := "()V" } : Jvm.MethodName)) ∈ lw_all := lw_g (lw_at lw_m5 144 rfl) rfl
theorem q1237 : (Jvm.Cond.code ({ cls := "FlagLaundry$Parser", name := "washLine", desc := "()V" } : Jvm.MethodName) prog_14_method_11_code (4 : Nat) (Option.none : Option Jvm.ClassFile.FieldType)) ∈ lw_all := lw_g (lw_at lw_m5 145 rfl) rfl
theorem q1238 : (Jvm.Cond.methodLinkNest "FlagLaundry$Parser" (156 : Nat) ({ cls := "FlagLaundry", name := "washBar", desc := "(LFlagLaundry$World;II)I" } : Jvm.MethodName) "FlagLaundry") ∈ lw_tbl := lw_at lw_m5 146 rfl
theorem q1246 : (Jvm.Cond.methodLink "FlagLaundry$Parser" (159 : Nat) ({ cls := "FlagLaundry$World", name := "washes", desc := "(II)I" } : Jvm.MethodName)) ∈ lw_all := lw_g (lw_at lw_m5 154 rfl) rfl
theorem q1316 : (Jvm.Cond.methodLink "FlagLaundry$Parser" (233 : Nat) ({ cls := "FlagLaundry$Parser", name := "hangLine", desc := "()V" } : Jvm.MethodName)) ∈ lw_all := lw_g (lw_at lw_m5 224 rfl) rfl
theorem q1317 : (Jvm.Cond.privateMethod ({ cls := "FlagLaundry$Parser", name := "hangLine", desc := "()V" } : Jvm.MethodName)) ∈ lw_tbl := lw_at lw_m5 225 rfl
theorem q1318 : (Jvm.Cond.instanceMethod ({ cls := "FlagLaundry$Parser", name := "hangLine", desc := "()V" } : Jvm.MethodName)) ∈ lw_all := lw_g (lw_at lw_m5 226 rfl) rfl
theorem q1319 : (Jvm.Cond.code ({ cls := "FlagLaundry$Parser", name := "hangLine", desc := "()V" } : Jvm.MethodName) prog_14_method_12_code (3 : Nat) (Option.none : Option Jvm.ClassFile.FieldType)) ∈ lw_all := lw_g (lw_at lw_m5 227 rfl) rfl
theorem q1320 : (Jvm.Cond.methodLink "FlagLaundry$Parser" (162 : Nat) ({ cls := "FlagLaundry$World", name := "freePeg", desc := "()I" } : Jvm.MethodName)) ∈ lw_all := lw_g (lw_at lw_m5 228 rfl) rfl
theorem q1333 : (Jvm.Cond.methodLink "FlagLaundry$Parser" (165 : Nat) ({ cls := "FlagLaundry$World", name := "flagOf", desc := "(I)LFlagLaundry$Flag;" } : Jvm.MethodName)) ∈ lw_all := lw_g (lw_at lw_m6 1 rfl) rfl
theorem q1334 : (Jvm.Cond.methodLink "FlagLaundry$Parser" (169 : Nat) ({ cls := "FlagLaundry$Flag", name := "isHere", desc := "()Z" } : Jvm.MethodName)) ∈ lw_all := lw_g (lw_at lw_m6 2 rfl) rfl
theorem q1335 : (Jvm.Cond.classLink "FlagLaundry$Parser" (173 : Nat) "FlagLaundry$OnPeg") ∈ lw_all := lw_g (lw_at lw_m6 3 rfl) rfl
theorem q1337 : (Jvm.Cond.methodLink "FlagLaundry$Parser" (175 : Nat) ({ cls := "FlagLaundry$OnPeg", name := "<init>", desc := "(I)V" } : Jvm.MethodName)) ∈ lw_all := lw_g (lw_at lw_m6 5 rfl) rfl
theorem q1347 : (Jvm.Cond.methodLink "FlagLaundry$Parser" (238 : Nat) ({ cls := "FlagLaundry$World", name := "passes", desc := "(I)I" } : Jvm.MethodName)) ∈ lw_all := lw_g (lw_at lw_m6 15 rfl) rfl
theorem q3000 : (Jvm.Cond.castable "FlagLaundry$Parser" "java/lang/Object") ∈ lw_tbl := lw_at lw_m12 228 rfl
theorem in_X3 : ∀ w ∈ wsX30, w ∈ lw_all := lw_in wsX30 [692, 694, 696, 698, 700, 702, 704, 706] (by decide +kernel) (by decide +kernel)

/-! FlagLaundry$Flaw -/
set_option maxRecDepth 100000
def RX4 : String := "FlagLaundry$Flaw"
def TX4 : u_T := fun k => match k with
  | 0 => ("java/lang/Throwable", "cause", "Ljava/lang/Throwable;", false)
  | 1 => ("java/lang/Throwable", "stackTrace", "[Ljava/lang/StackTraceElement;", false)
  | 2 => ("java/lang/Throwable", "suppressedExceptions", "Ljava/util/List;", false)
  | 3 => ("java/lang/Throwable", "detailMessage", "Ljava/lang/String;", false)
  | 4 => ("java/lang/Throwable", "backtrace", "Ljava/lang/Object;", false)
  | 5 => ("java/lang/Throwable", "depth", "I", false)
  | 6 => ("FlagLaundry$Flaw", "code", "I", true)
  | _ => ("FlagLaundry$Flaw", "position", "I", true)
def tyX4 : Nat → FieldType := fun k => match k with
  | 0 => .object "java/lang/Throwable"
  | 1 => .array (.object "java/lang/StackTraceElement")
  | 2 => .object "java/util/List"
  | 3 => .object "java/lang/String"
  | 4 => .object "java/lang/Object"
  | 5 => .int
  | 6 => .int
  | _ => .int
abbrev wsX40 : List Cond := u_ws RX4 TX4 8
theorem nmX4 : ∀ a, a < 8 → ∀ b, b < 8 → a ≠ b → (TX4 a).2.1 ≠ (TX4 b).2.1 := by decide +kernel
theorem tyX4_ok : ∀ k, k < 8 → parseFieldDescriptor (TX4 k).2.2.1 = some (tyX4 k) := by decide +kernel
abbrev cX4_init : ByteArray := prog_5_method_1_code
def yX4_init : MethodName := ⟨RX4, "<init>", "(II)V"⟩
def dkwX4_init_0 : List UInt8 := [42, 1, 1, 3, 3, 183, 0, 1, 42, 27, 181, 0, 7, 42, 28, 181, 0, 13, 177]
abbrev dktX4_init_0 : List UInt8 := dkwX4_init_0 ++ []
theorem dksX4_init_0 : cX4_init.data.toList.drop 0 = dktX4_init_0 := by decide +kernel
theorem dX4_init_0 : decode cX4_init 0 = .ok (.aload_n 0, 1) := dk_42 (dk_at dksX4_init_0 0 rfl rfl)
theorem dX4_init_1 : decode cX4_init 1 = .ok (.aconst_null, 1) := dk_1 (dk_at dksX4_init_0 1 rfl rfl)
theorem dX4_init_2 : decode cX4_init 2 = .ok (.aconst_null, 1) := dk_1 (dk_at dksX4_init_0 2 rfl rfl)
theorem dX4_init_3 : decode cX4_init 3 = .ok (.iconst 0, 1) := dk_3 (dk_at dksX4_init_0 3 rfl rfl)
theorem dX4_init_4 : decode cX4_init 4 = .ok (.iconst 0, 1) := dk_3 (dk_at dksX4_init_0 4 rfl rfl)
theorem dX4_init_5 : decode cX4_init 5 = .ok (.invokespecial 1, 3) := dk_183 0 1 (dk_at dksX4_init_0 5 rfl rfl)
theorem dX4_init_8 : decode cX4_init 8 = .ok (.aload_n 0, 1) := dk_42 (dk_at dksX4_init_0 8 rfl rfl)
theorem dX4_init_9 : decode cX4_init 9 = .ok (.iload_n 1, 1) := dk_27 (dk_at dksX4_init_0 9 rfl rfl)
theorem dX4_init_10 : decode cX4_init 10 = .ok (.putfield 7, 3) := dk_181 0 7 (dk_at dksX4_init_0 10 rfl rfl)
theorem dX4_init_13 : decode cX4_init 13 = .ok (.aload_n 0, 1) := dk_42 (dk_at dksX4_init_0 13 rfl rfl)
theorem dX4_init_14 : decode cX4_init 14 = .ok (.iload_n 2, 1) := dk_28 (dk_at dksX4_init_0 14 rfl rfl)
theorem dX4_init_15 : decode cX4_init 15 = .ok (.putfield 13, 3) := dk_181 0 13 (dk_at dksX4_init_0 15 rfl rfl)
theorem dX4_init_18 : decode cX4_init 18 = .ok (.return_, 1) := dk_177 (dk_at dksX4_init_0 18 rfl rfl)
theorem q158 : (Jvm.Cond.initialized "FlagLaundry$Flaw") ∈ lw_all := lw_g (lw_at lw_m1 26 rfl) rfl
theorem q318 : (Jvm.Cond.selects "FlagLaundry$Flaw" ({ cls := "java/lang/Throwable", name := "fillInStackTrace", desc := "()Ljava/lang/Throwable;" } : Jvm.MethodName) ({ cls := "java/lang/Throwable", name := "fillInStackTrace", desc := "()Ljava/lang/Throwable;" } : Jvm.MethodName)) ∈ lw_all := lw_g (lw_at lw_m1 186 rfl) rfl
theorem q727 : (Jvm.Cond.instantiable "FlagLaundry$Flaw" (8 : Nat)) ∈ lw_all := lw_g (lw_at lw_m3 115 rfl) rfl
theorem q728 : (Jvm.Cond.castable "FlagLaundry$Flaw" "FlagLaundry$Flaw") ∈ lw_tbl := lw_at lw_m3 116 rfl
theorem q729 : (Jvm.Cond.selects "FlagLaundry$Flaw" ({ cls := "java/lang/Throwable", name := "fillInStackTrace", desc := "(I)Ljava/lang/Throwable;" } : Jvm.MethodName) ({ cls := "java/lang/Throwable", name := "fillInStackTrace", desc := "(I)Ljava/lang/Throwable;" } : Jvm.MethodName)) ∈ lw_all := lw_g (lw_at lw_m3 117 rfl) rfl
theorem q730 : (Jvm.Cond.lays "FlagLaundry$Flaw" "java/lang/Throwable" "cause" "Ljava/lang/Throwable;") ∈ lw_all := lw_g (lw_at lw_m3 118 rfl) rfl
theorem q731 : (Jvm.Cond.lays "FlagLaundry$Flaw" "java/lang/Throwable" "stackTrace" "[Ljava/lang/StackTraceElement;") ∈ lw_all := lw_g (lw_at lw_m3 119 rfl) rfl
theorem q732 : (Jvm.Cond.lays "FlagLaundry$Flaw" "java/lang/Throwable" "suppressedExceptions" "Ljava/util/List;") ∈ lw_all := lw_g (lw_at lw_m3 120 rfl) rfl
theorem q733 : (Jvm.Cond.lays "FlagLaundry$Flaw" "java/lang/Throwable" "detailMessage" "Ljava/lang/String;") ∈ lw_all := lw_g (lw_at lw_m3 121 rfl) rfl
theorem q734 : (Jvm.Cond.lays "FlagLaundry$Flaw" "java/lang/Throwable" "backtrace" "Ljava/lang/Object;") ∈ lw_all := lw_g (lw_at lw_m3 122 rfl) rfl
theorem q736 : (Jvm.Cond.instanceMethod ({ cls := "FlagLaundry$Flaw", name := "<init>", desc := "(II)V" } : Jvm.MethodName)) ∈ lw_all := lw_g (lw_at lw_m3 124 rfl) rfl
theorem q737 : (Jvm.Cond.code ({ cls := "FlagLaundry$Flaw", name := "<init>", desc := "(II)V" } : Jvm.MethodName) prog_5_method_1_code (3 : Nat) (Option.none : Option Jvm.ClassFile.FieldType)) ∈ lw_all := lw_g (lw_at lw_m3 125 rfl) rfl
theorem q738 : (Jvm.Cond.methodLink "FlagLaundry$Flaw" (1 : Nat) ({ cls := "java/lang/Exception", name := "<init>", desc := "(Ljava/lang/String;Ljava/lang/Throwable;ZZ)V" } : Jvm.MethodName)) ∈ lw_all := lw_g (lw_at lw_m3 126 rfl) rfl
theorem q744 : (Jvm.Cond.fieldLink "FlagLaundry$Flaw" (7 : Nat) "FlagLaundry$Flaw" "code" "I") ∈ lw_all := lw_g (lw_at lw_m3 132 rfl) rfl
theorem q746 : (Jvm.Cond.fieldLink "FlagLaundry$Flaw" (13 : Nat) "FlagLaundry$Flaw" "position" "I") ∈ lw_all := lw_g (lw_at lw_m3 134 rfl) rfl
theorem q748 : (Jvm.Cond.laysFinal "FlagLaundry$Flaw" "FlagLaundry$Flaw" "code" "I") ∈ lw_all := lw_g (lw_at lw_m3 136 rfl) rfl
theorem q749 : (Jvm.Cond.soleField "FlagLaundry$Flaw" "code") ∈ lw_all := lw_g (lw_at lw_m3 137 rfl) rfl
theorem q750 : (Jvm.Cond.laysFinal "FlagLaundry$Flaw" "FlagLaundry$Flaw" "position" "I") ∈ lw_all := lw_g (lw_at lw_m3 138 rfl) rfl
theorem q751 : (Jvm.Cond.soleField "FlagLaundry$Flaw" "position") ∈ lw_all := lw_g (lw_at lw_m3 139 rfl) rfl
theorem q752 : (Jvm.Cond.lays "FlagLaundry$Flaw" "java/lang/Throwable" "depth" "I") ∈ lw_all := lw_g (lw_at lw_m3 140 rfl) rfl
theorem q753 : (Jvm.Cond.superclass "FlagLaundry$Flaw" "java/lang/Exception") ∈ lw_all := lw_g (lw_at lw_m3 141 rfl) rfl
theorem q1040 : (Jvm.Cond.selects "FlagLaundry$Flaw" ({ cls := "java/lang/Object", name := "getClass", desc := "()Ljava/lang/Class;" } : Jvm.MethodName) ({ cls := "java/lang/Object", name := "getClass", desc := "()Ljava/lang/Class;" } : Jvm.MethodName)) ∈ lw_all := lw_g (lw_at lw_m4 188 rfl) rfl
theorem q3004 : (Jvm.Cond.castable "FlagLaundry$Flaw" "java/lang/Object") ∈ lw_tbl := lw_at lw_m12 232 rfl
theorem in_X4 : ∀ w ∈ wsX40, w ∈ lw_all := lw_in wsX40 [730, 731, 732, 733, 734, 752, 748, 750] (by decide +kernel) (by decide +kernel)

/-! FlagLaundry$World -/
set_option maxRecDepth 100000
def RX5 : String := "FlagLaundry$World"
def TX5 : u_T := fun k => match k with
  | 0 => ("FlagLaundry$World", "pegs", "I", true)
  | 1 => ("FlagLaundry$World", "runs", "[I", true)
  | 2 => ("FlagLaundry$World", "room", "[I", true)
  | 3 => ("FlagLaundry$World", "nations", "Ljava/util/List;", true)
  | 4 => ("FlagLaundry$World", "flags", "Ljava/util/List;", true)
  | 5 => ("FlagLaundry$World", "unready", "[LFlagLaundry$Test;", true)
  | 6 => ("FlagLaundry$World", "colours", "I", false)
  | 7 => ("FlagLaundry$World", "tubs", "I", false)
  | 8 => ("FlagLaundry$World", "hour", "I", false)
  | 9 => ("FlagLaundry$World", "wind", "I", false)
  | 10 => ("FlagLaundry$World", "earned", "I", false)
  | 11 => ("FlagLaundry$World", "fined", "I", false)
  | 12 => ("FlagLaundry$World", "washes", "I", false)
  | 13 => ("FlagLaundry$World", "falls", "I", false)
  | _ => ("FlagLaundry$World", "puts", "I", false)
def tyX5 : Nat → FieldType := fun k => match k with
  | 0 => .int
  | 1 => .array .int
  | 2 => .array .int
  | 3 => .object "java/util/List"
  | 4 => .object "java/util/List"
  | 5 => .array (.object "FlagLaundry$Test")
  | 6 => .int
  | 7 => .int
  | 8 => .int
  | 9 => .int
  | 10 => .int
  | 11 => .int
  | 12 => .int
  | 13 => .int
  | _ => .int
abbrev wsX50 : List Cond := u_ws RX5 TX5 15
set_option maxRecDepth 100000 in
theorem nmX5 : ∀ a, a < 15 → ∀ b, b < 15 → a ≠ b → (TX5 a).2.1 ≠ (TX5 b).2.1 := by decide +kernel
set_option maxRecDepth 100000 in
theorem tyX5_ok : ∀ k, k < 15 → parseFieldDescriptor (TX5 k).2.2.1 = some (tyX5 k) := by decide +kernel
abbrev cX5_init : ByteArray := prog_18_method_1_code
def yX5_init : MethodName := ⟨RX5, "<init>", "(I)V"⟩
def dkwX5_init_4 : List UInt8 := [186, 0, 40, 0, 0, 83, 89, 16, 6, 186, 0, 41, 0, 0, 83, 181, 0, 42, 42, 27, 181, 0, 46, 177]
abbrev dktX5_init_4 : List UInt8 := dkwX5_init_4 ++ []
def dkwX5_init_3 : List UInt8 := [186, 0, 37, 0, 0, 83, 89, 6, 186, 0, 38, 0, 0, 83, 89, 7, 186, 0, 39, 0, 0, 83, 89, 8]
abbrev dktX5_init_3 : List UInt8 := dkwX5_init_3 ++ dktX5_init_4
def dkwX5_init_2 : List UInt8 := [189, 0, 30, 89, 3, 186, 0, 32, 0, 0, 83, 89, 4, 186, 0, 36, 0, 0, 83, 89, 5]
abbrev dktX5_init_2 : List UInt8 := dkwX5_init_2 ++ dktX5_init_3
def dkwX5_init_1 : List UInt8 := [7, 183, 0, 20, 181, 0, 23, 42, 187, 0, 18, 89, 16, 12, 183, 0, 20, 181, 0, 27, 42, 16, 7]
abbrev dktX5_init_1 : List UInt8 := dkwX5_init_1 ++ dktX5_init_2
def dkwX5_init_0 : List UInt8 := [42, 183, 0, 3, 42, 16, 6, 188, 10, 181, 0, 9, 42, 6, 188, 10, 181, 0, 15, 42, 187, 0, 18, 89]
abbrev dktX5_init_0 : List UInt8 := dkwX5_init_0 ++ dktX5_init_1
theorem dksX5_init_0 : cX5_init.data.toList.drop 0 = dktX5_init_0 := by decide +kernel
theorem dksX5_init_1 : cX5_init.data.toList.drop 24 = dktX5_init_1 := dk_seg dksX5_init_0 24 rfl rfl
theorem dksX5_init_2 : cX5_init.data.toList.drop 47 = dktX5_init_2 := dk_seg dksX5_init_1 23 rfl rfl
theorem dksX5_init_3 : cX5_init.data.toList.drop 68 = dktX5_init_3 := dk_seg dksX5_init_2 21 rfl rfl
theorem dksX5_init_4 : cX5_init.data.toList.drop 92 = dktX5_init_4 := dk_seg dksX5_init_3 24 rfl rfl
theorem dX5_init_0 : decode cX5_init 0 = .ok (.aload_n 0, 1) := dk_42 (dk_at dksX5_init_0 0 rfl rfl)
theorem dX5_init_1 : decode cX5_init 1 = .ok (.invokespecial 3, 3) := dk_183 0 3 (dk_at dksX5_init_0 1 rfl rfl)
theorem dX5_init_4 : decode cX5_init 4 = .ok (.aload_n 0, 1) := dk_42 (dk_at dksX5_init_0 4 rfl rfl)
theorem dX5_init_5 : decode cX5_init 5 = .ok (.bipush 6, 2) := dk_16 6 (dk_at dksX5_init_0 5 rfl rfl)
theorem dX5_init_7 : decode cX5_init 7 = .ok (.newarray .int, 2) := dk_188_10 (dk_at dksX5_init_0 7 rfl rfl)
theorem dX5_init_9 : decode cX5_init 9 = .ok (.putfield 9, 3) := dk_181 0 9 (dk_at dksX5_init_0 9 rfl rfl)
theorem dX5_init_12 : decode cX5_init 12 = .ok (.aload_n 0, 1) := dk_42 (dk_at dksX5_init_0 12 rfl rfl)
theorem dX5_init_13 : decode cX5_init 13 = .ok (.iconst 3, 1) := dk_6 (dk_at dksX5_init_0 13 rfl rfl)
theorem dX5_init_14 : decode cX5_init 14 = .ok (.newarray .int, 2) := dk_188_10 (dk_at dksX5_init_0 14 rfl rfl)
theorem dX5_init_16 : decode cX5_init 16 = .ok (.putfield 15, 3) := dk_181 0 15 (dk_at dksX5_init_0 16 rfl rfl)
theorem dX5_init_19 : decode cX5_init 19 = .ok (.aload_n 0, 1) := dk_42 (dk_at dksX5_init_0 19 rfl rfl)
theorem dX5_init_20 : decode cX5_init 20 = .ok (.new 18, 3) := dk_187 0 18 (dk_at dksX5_init_0 20 rfl rfl)
theorem dX5_init_23 : decode cX5_init 23 = .ok (.dup, 1) := dk_89 (dk_at dksX5_init_0 23 rfl rfl)
theorem dX5_init_24 : decode cX5_init 24 = .ok (.iconst 4, 1) := dk_7 (dk_at dksX5_init_1 0 rfl rfl)
theorem dX5_init_25 : decode cX5_init 25 = .ok (.invokespecial 20, 3) := dk_183 0 20 (dk_at dksX5_init_1 1 rfl rfl)
theorem dX5_init_28 : decode cX5_init 28 = .ok (.putfield 23, 3) := dk_181 0 23 (dk_at dksX5_init_1 4 rfl rfl)
theorem dX5_init_31 : decode cX5_init 31 = .ok (.aload_n 0, 1) := dk_42 (dk_at dksX5_init_1 7 rfl rfl)
theorem dX5_init_32 : decode cX5_init 32 = .ok (.new 18, 3) := dk_187 0 18 (dk_at dksX5_init_1 8 rfl rfl)
theorem dX5_init_35 : decode cX5_init 35 = .ok (.dup, 1) := dk_89 (dk_at dksX5_init_1 11 rfl rfl)
theorem dX5_init_36 : decode cX5_init 36 = .ok (.bipush 12, 2) := dk_16 12 (dk_at dksX5_init_1 12 rfl rfl)
theorem dX5_init_38 : decode cX5_init 38 = .ok (.invokespecial 20, 3) := dk_183 0 20 (dk_at dksX5_init_1 14 rfl rfl)
theorem dX5_init_41 : decode cX5_init 41 = .ok (.putfield 27, 3) := dk_181 0 27 (dk_at dksX5_init_1 17 rfl rfl)
theorem dX5_init_44 : decode cX5_init 44 = .ok (.aload_n 0, 1) := dk_42 (dk_at dksX5_init_1 20 rfl rfl)
theorem dX5_init_45 : decode cX5_init 45 = .ok (.bipush 7, 2) := dk_16 7 (dk_at dksX5_init_1 21 rfl rfl)
theorem dX5_init_47 : decode cX5_init 47 = .ok (.anewarray 30, 3) := dk_189 0 30 (dk_at dksX5_init_2 0 rfl rfl)
theorem dX5_init_50 : decode cX5_init 50 = .ok (.dup, 1) := dk_89 (dk_at dksX5_init_2 3 rfl rfl)
theorem dX5_init_51 : decode cX5_init 51 = .ok (.iconst 0, 1) := dk_3 (dk_at dksX5_init_2 4 rfl rfl)
theorem dX5_init_52 : decode cX5_init 52 = .ok (.invokedynamic 32, 5) := by decide +kernel
theorem dX5_init_57 : decode cX5_init 57 = .ok (.aastore, 1) := dk_83 (dk_at dksX5_init_2 10 rfl rfl)
theorem dX5_init_58 : decode cX5_init 58 = .ok (.dup, 1) := dk_89 (dk_at dksX5_init_2 11 rfl rfl)
theorem dX5_init_59 : decode cX5_init 59 = .ok (.iconst 1, 1) := dk_4 (dk_at dksX5_init_2 12 rfl rfl)
theorem dX5_init_60 : decode cX5_init 60 = .ok (.invokedynamic 36, 5) := by decide +kernel
theorem dX5_init_65 : decode cX5_init 65 = .ok (.aastore, 1) := dk_83 (dk_at dksX5_init_2 18 rfl rfl)
theorem dX5_init_66 : decode cX5_init 66 = .ok (.dup, 1) := dk_89 (dk_at dksX5_init_2 19 rfl rfl)
theorem dX5_init_67 : decode cX5_init 67 = .ok (.iconst 2, 1) := dk_5 (dk_at dksX5_init_2 20 rfl rfl)
theorem dX5_init_68 : decode cX5_init 68 = .ok (.invokedynamic 37, 5) := by decide +kernel
theorem dX5_init_73 : decode cX5_init 73 = .ok (.aastore, 1) := dk_83 (dk_at dksX5_init_3 5 rfl rfl)
theorem dX5_init_74 : decode cX5_init 74 = .ok (.dup, 1) := dk_89 (dk_at dksX5_init_3 6 rfl rfl)
theorem dX5_init_75 : decode cX5_init 75 = .ok (.iconst 3, 1) := dk_6 (dk_at dksX5_init_3 7 rfl rfl)
theorem dX5_init_76 : decode cX5_init 76 = .ok (.invokedynamic 38, 5) := by decide +kernel
theorem dX5_init_81 : decode cX5_init 81 = .ok (.aastore, 1) := dk_83 (dk_at dksX5_init_3 13 rfl rfl)
theorem dX5_init_82 : decode cX5_init 82 = .ok (.dup, 1) := dk_89 (dk_at dksX5_init_3 14 rfl rfl)
theorem dX5_init_83 : decode cX5_init 83 = .ok (.iconst 4, 1) := dk_7 (dk_at dksX5_init_3 15 rfl rfl)
theorem dX5_init_84 : decode cX5_init 84 = .ok (.invokedynamic 39, 5) := by decide +kernel
theorem dX5_init_89 : decode cX5_init 89 = .ok (.aastore, 1) := dk_83 (dk_at dksX5_init_3 21 rfl rfl)
theorem dX5_init_90 : decode cX5_init 90 = .ok (.dup, 1) := dk_89 (dk_at dksX5_init_3 22 rfl rfl)
theorem dX5_init_91 : decode cX5_init 91 = .ok (.iconst 5, 1) := dk_8 (dk_at dksX5_init_3 23 rfl rfl)
theorem dX5_init_92 : decode cX5_init 92 = .ok (.invokedynamic 40, 5) := by decide +kernel
theorem dX5_init_97 : decode cX5_init 97 = .ok (.aastore, 1) := dk_83 (dk_at dksX5_init_4 5 rfl rfl)
theorem dX5_init_98 : decode cX5_init 98 = .ok (.dup, 1) := dk_89 (dk_at dksX5_init_4 6 rfl rfl)
theorem dX5_init_99 : decode cX5_init 99 = .ok (.bipush 6, 2) := dk_16 6 (dk_at dksX5_init_4 7 rfl rfl)
theorem dX5_init_101 : decode cX5_init 101 = .ok (.invokedynamic 41, 5) := by decide +kernel
theorem dX5_init_106 : decode cX5_init 106 = .ok (.aastore, 1) := dk_83 (dk_at dksX5_init_4 14 rfl rfl)
theorem dX5_init_107 : decode cX5_init 107 = .ok (.putfield 42, 3) := dk_181 0 42 (dk_at dksX5_init_4 15 rfl rfl)
theorem dX5_init_110 : decode cX5_init 110 = .ok (.aload_n 0, 1) := dk_42 (dk_at dksX5_init_4 18 rfl rfl)
theorem dX5_init_111 : decode cX5_init 111 = .ok (.iload_n 1, 1) := dk_27 (dk_at dksX5_init_4 19 rfl rfl)
theorem dX5_init_112 : decode cX5_init 112 = .ok (.putfield 46, 3) := dk_181 0 46 (dk_at dksX5_init_4 20 rfl rfl)
theorem dX5_init_115 : decode cX5_init 115 = .ok (.return_, 1) := dk_177 (dk_at dksX5_init_4 23 rfl rfl)
abbrev cX5_lambda_new_0 : ByteArray := prog_18_method_50_code
def yX5_lambda_new_0 : MethodName := ⟨RX5, "lambda$new$0", "(LFlagLaundry$Flag;)Z"⟩
def dkwX5_lambda_new_0_0 : List UInt8 := [42, 180, 0, 215, 193, 1, 18, 172]
abbrev dktX5_lambda_new_0_0 : List UInt8 := dkwX5_lambda_new_0_0 ++ []
theorem dksX5_lambda_new_0_0 : cX5_lambda_new_0.data.toList.drop 0 = dktX5_lambda_new_0_0 := by decide +kernel
theorem dX5_lambda_new_0_0 : decode cX5_lambda_new_0 0 = .ok (.aload_n 0, 1) := dk_42 (dk_at dksX5_lambda_new_0_0 0 rfl rfl)
theorem dX5_lambda_new_0_1 : decode cX5_lambda_new_0 1 = .ok (.getfield 215, 3) := dk_180 0 215 (dk_at dksX5_lambda_new_0_0 1 rfl rfl)
theorem dX5_lambda_new_0_4 : decode cX5_lambda_new_0 4 = .ok (.instanceof 274, 3) := dk_193 1 18 (dk_at dksX5_lambda_new_0_0 4 rfl rfl)
theorem dX5_lambda_new_0_7 : decode cX5_lambda_new_0 7 = .ok (.ireturn, 1) := dk_172 (dk_at dksX5_lambda_new_0_0 7 rfl rfl)
abbrev cX5_lambda_new_1 : ByteArray := prog_18_method_49_code
def yX5_lambda_new_1 : MethodName := ⟨RX5, "lambda$new$1", "(LFlagLaundry$Flag;)Z"⟩
def dkwX5_lambda_new_1_0 : List UInt8 := [42, 180, 0, 215, 193, 0, 210, 172]
abbrev dktX5_lambda_new_1_0 : List UInt8 := dkwX5_lambda_new_1_0 ++ []
theorem dksX5_lambda_new_1_0 : cX5_lambda_new_1.data.toList.drop 0 = dktX5_lambda_new_1_0 := by decide +kernel
theorem dX5_lambda_new_1_0 : decode cX5_lambda_new_1 0 = .ok (.aload_n 0, 1) := dk_42 (dk_at dksX5_lambda_new_1_0 0 rfl rfl)
theorem dX5_lambda_new_1_1 : decode cX5_lambda_new_1 1 = .ok (.getfield 215, 3) := dk_180 0 215 (dk_at dksX5_lambda_new_1_0 1 rfl rfl)
theorem dX5_lambda_new_1_4 : decode cX5_lambda_new_1 4 = .ok (.instanceof 210, 3) := dk_193 0 210 (dk_at dksX5_lambda_new_1_0 4 rfl rfl)
theorem dX5_lambda_new_1_7 : decode cX5_lambda_new_1 7 = .ok (.ireturn, 1) := dk_172 (dk_at dksX5_lambda_new_1_0 7 rfl rfl)
abbrev cX5_lambda_new_2 : ByteArray := prog_18_method_48_code
def yX5_lambda_new_2 : MethodName := ⟨RX5, "lambda$new$2", "(LFlagLaundry$Flag;)Z"⟩
def dkwX5_lambda_new_2_0 : List UInt8 := [42, 180, 0, 215, 193, 0, 243, 172]
abbrev dktX5_lambda_new_2_0 : List UInt8 := dkwX5_lambda_new_2_0 ++ []
theorem dksX5_lambda_new_2_0 : cX5_lambda_new_2.data.toList.drop 0 = dktX5_lambda_new_2_0 := by decide +kernel
theorem dX5_lambda_new_2_0 : decode cX5_lambda_new_2 0 = .ok (.aload_n 0, 1) := dk_42 (dk_at dksX5_lambda_new_2_0 0 rfl rfl)
theorem dX5_lambda_new_2_1 : decode cX5_lambda_new_2 1 = .ok (.getfield 215, 3) := dk_180 0 215 (dk_at dksX5_lambda_new_2_0 1 rfl rfl)
theorem dX5_lambda_new_2_4 : decode cX5_lambda_new_2 4 = .ok (.instanceof 243, 3) := dk_193 0 243 (dk_at dksX5_lambda_new_2_0 4 rfl rfl)
theorem dX5_lambda_new_2_7 : decode cX5_lambda_new_2 7 = .ok (.ireturn, 1) := dk_172 (dk_at dksX5_lambda_new_2_0 7 rfl rfl)
abbrev cX5_lambda_new_3 : ByteArray := prog_18_method_47_code
def yX5_lambda_new_3 : MethodName := ⟨RX5, "lambda$new$3", "(LFlagLaundry$Flag;)Z"⟩
def dkwX5_lambda_new_3_0 : List UInt8 := [42, 180, 0, 204, 158, 0, 7, 4, 167, 0, 4, 3, 172]
abbrev dktX5_lambda_new_3_0 : List UInt8 := dkwX5_lambda_new_3_0 ++ []
theorem dksX5_lambda_new_3_0 : cX5_lambda_new_3.data.toList.drop 0 = dktX5_lambda_new_3_0 := by decide +kernel
theorem dX5_lambda_new_3_0 : decode cX5_lambda_new_3 0 = .ok (.aload_n 0, 1) := dk_42 (dk_at dksX5_lambda_new_3_0 0 rfl rfl)
theorem dX5_lambda_new_3_1 : decode cX5_lambda_new_3 1 = .ok (.getfield 204, 3) := dk_180 0 204 (dk_at dksX5_lambda_new_3_0 1 rfl rfl)
theorem dX5_lambda_new_3_4 : decode cX5_lambda_new_3 4 = .ok (.ifCond .le 7, 3) := dk_158 0 7 (dk_at dksX5_lambda_new_3_0 4 rfl rfl)
theorem dX5_lambda_new_3_7 : decode cX5_lambda_new_3 7 = .ok (.iconst 1, 1) := dk_4 (dk_at dksX5_lambda_new_3_0 7 rfl rfl)
theorem dX5_lambda_new_3_8 : decode cX5_lambda_new_3 8 = .ok (.goto 4, 3) := dk_167 0 4 (dk_at dksX5_lambda_new_3_0 8 rfl rfl)
theorem dX5_lambda_new_3_11 : decode cX5_lambda_new_3 11 = .ok (.iconst 0, 1) := dk_3 (dk_at dksX5_lambda_new_3_0 11 rfl rfl)
theorem dX5_lambda_new_3_12 : decode cX5_lambda_new_3 12 = .ok (.ireturn, 1) := dk_172 (dk_at dksX5_lambda_new_3_0 12 rfl rfl)
abbrev cX5_lambda_new_4 : ByteArray := prog_18_method_46_code
def yX5_lambda_new_4 : MethodName := ⟨RX5, "lambda$new$4", "(LFlagLaundry$Flag;)Z"⟩
def dkwX5_lambda_new_4_0 : List UInt8 := [42, 180, 0, 181, 153, 0, 7, 4, 167, 0, 4, 3, 172]
abbrev dktX5_lambda_new_4_0 : List UInt8 := dkwX5_lambda_new_4_0 ++ []
theorem dksX5_lambda_new_4_0 : cX5_lambda_new_4.data.toList.drop 0 = dktX5_lambda_new_4_0 := by decide +kernel
theorem dX5_lambda_new_4_0 : decode cX5_lambda_new_4 0 = .ok (.aload_n 0, 1) := dk_42 (dk_at dksX5_lambda_new_4_0 0 rfl rfl)
theorem dX5_lambda_new_4_1 : decode cX5_lambda_new_4 1 = .ok (.getfield 181, 3) := dk_180 0 181 (dk_at dksX5_lambda_new_4_0 1 rfl rfl)
theorem dX5_lambda_new_4_4 : decode cX5_lambda_new_4 4 = .ok (.ifCond .eq 7, 3) := dk_153 0 7 (dk_at dksX5_lambda_new_4_0 4 rfl rfl)
theorem dX5_lambda_new_4_7 : decode cX5_lambda_new_4 7 = .ok (.iconst 1, 1) := dk_4 (dk_at dksX5_lambda_new_4_0 7 rfl rfl)
theorem dX5_lambda_new_4_8 : decode cX5_lambda_new_4 8 = .ok (.goto 4, 3) := dk_167 0 4 (dk_at dksX5_lambda_new_4_0 8 rfl rfl)
theorem dX5_lambda_new_4_11 : decode cX5_lambda_new_4 11 = .ok (.iconst 0, 1) := dk_3 (dk_at dksX5_lambda_new_4_0 11 rfl rfl)
theorem dX5_lambda_new_4_12 : decode cX5_lambda_new_4 12 = .ok (.ireturn, 1) := dk_172 (dk_at dksX5_lambda_new_4_0 12 rfl rfl)
abbrev cX5_lambda_new_5 : ByteArray := prog_18_method_45_code
def yX5_lambda_new_5 : MethodName := ⟨RX5, "lambda$new$5", "(LFlagLaundry$Flag;)Z"⟩
def dkwX5_lambda_new_5_0 : List UInt8 := [42, 180, 0, 245, 158, 0, 7, 4, 167, 0, 4, 3, 172]
abbrev dktX5_lambda_new_5_0 : List UInt8 := dkwX5_lambda_new_5_0 ++ []
theorem dksX5_lambda_new_5_0 : cX5_lambda_new_5.data.toList.drop 0 = dktX5_lambda_new_5_0 := by decide +kernel
theorem dX5_lambda_new_5_0 : decode cX5_lambda_new_5 0 = .ok (.aload_n 0, 1) := dk_42 (dk_at dksX5_lambda_new_5_0 0 rfl rfl)
theorem dX5_lambda_new_5_1 : decode cX5_lambda_new_5 1 = .ok (.getfield 245, 3) := dk_180 0 245 (dk_at dksX5_lambda_new_5_0 1 rfl rfl)
theorem dX5_lambda_new_5_4 : decode cX5_lambda_new_5 4 = .ok (.ifCond .le 7, 3) := dk_158 0 7 (dk_at dksX5_lambda_new_5_0 4 rfl rfl)
theorem dX5_lambda_new_5_7 : decode cX5_lambda_new_5 7 = .ok (.iconst 1, 1) := dk_4 (dk_at dksX5_lambda_new_5_0 7 rfl rfl)
theorem dX5_lambda_new_5_8 : decode cX5_lambda_new_5 8 = .ok (.goto 4, 3) := dk_167 0 4 (dk_at dksX5_lambda_new_5_0 8 rfl rfl)
theorem dX5_lambda_new_5_11 : decode cX5_lambda_new_5 11 = .ok (.iconst 0, 1) := dk_3 (dk_at dksX5_lambda_new_5_0 11 rfl rfl)
theorem dX5_lambda_new_5_12 : decode cX5_lambda_new_5 12 = .ok (.ireturn, 1) := dk_172 (dk_at dksX5_lambda_new_5_0 12 rfl rfl)
abbrev cX5_lambda_new_6 : ByteArray := prog_18_method_44_code
def yX5_lambda_new_6 : MethodName := ⟨RX5, "lambda$new$6", "(LFlagLaundry$Flag;)Z"⟩
def dkwX5_lambda_new_6_0 : List UInt8 := [42, 180, 1, 3, 158, 0, 7, 4, 167, 0, 4, 3, 172]
abbrev dktX5_lambda_new_6_0 : List UInt8 := dkwX5_lambda_new_6_0 ++ []
theorem dksX5_lambda_new_6_0 : cX5_lambda_new_6.data.toList.drop 0 = dktX5_lambda_new_6_0 := by decide +kernel
theorem dX5_lambda_new_6_0 : decode cX5_lambda_new_6 0 = .ok (.aload_n 0, 1) := dk_42 (dk_at dksX5_lambda_new_6_0 0 rfl rfl)
theorem dX5_lambda_new_6_1 : decode cX5_lambda_new_6 1 = .ok (.getfield 259, 3) := dk_180 1 3 (dk_at dksX5_lambda_new_6_0 1 rfl rfl)
theorem dX5_lambda_new_6_4 : decode cX5_lambda_new_6 4 = .ok (.ifCond .le 7, 3) := dk_158 0 7 (dk_at dksX5_lambda_new_6_0 4 rfl rfl)
theorem dX5_lambda_new_6_7 : decode cX5_lambda_new_6 7 = .ok (.iconst 1, 1) := dk_4 (dk_at dksX5_lambda_new_6_0 7 rfl rfl)
theorem dX5_lambda_new_6_8 : decode cX5_lambda_new_6 8 = .ok (.goto 4, 3) := dk_167 0 4 (dk_at dksX5_lambda_new_6_0 8 rfl rfl)
theorem dX5_lambda_new_6_11 : decode cX5_lambda_new_6 11 = .ok (.iconst 0, 1) := dk_3 (dk_at dksX5_lambda_new_6_0 11 rfl rfl)
theorem dX5_lambda_new_6_12 : decode cX5_lambda_new_6 12 = .ok (.ireturn, 1) := dk_172 (dk_at dksX5_lambda_new_6_0 12 rfl rfl)
abbrev cX5_adds : ByteArray := prog_18_method_3_code
def yX5_adds : MethodName := ⟨RX5, "adds", "(LFlagLaundry$Nation;)V"⟩
def dkwX5_adds_0 : List UInt8 := [42, 180, 0, 23, 43, 185, 0, 115, 2, 0, 61, 177]
abbrev dktX5_adds_0 : List UInt8 := dkwX5_adds_0 ++ []
theorem dksX5_adds_0 : cX5_adds.data.toList.drop 0 = dktX5_adds_0 := by decide +kernel
theorem dX5_adds_0 : decode cX5_adds 0 = .ok (.aload_n 0, 1) := dk_42 (dk_at dksX5_adds_0 0 rfl rfl)
theorem dX5_adds_1 : decode cX5_adds 1 = .ok (.getfield 23, 3) := dk_180 0 23 (dk_at dksX5_adds_0 1 rfl rfl)
theorem dX5_adds_4 : decode cX5_adds 4 = .ok (.aload_n 1, 1) := dk_43 (dk_at dksX5_adds_0 4 rfl rfl)
theorem dX5_adds_5 : decode cX5_adds 5 = .ok (.invokeinterface 115 2, 5) := by decide +kernel
theorem dX5_adds_10 : decode cX5_adds 10 = .ok (.istore_n 2, 1) := dk_61 (dk_at dksX5_adds_0 10 rfl rfl)
theorem dX5_adds_11 : decode cX5_adds 11 = .ok (.return_, 1) := dk_177 (dk_at dksX5_adds_0 11 rfl rfl)
abbrev cX5_many : ByteArray := prog_18_method_7_code
def yX5_many : MethodName := ⟨RX5, "many", "()I"⟩
def dkwX5_many_0 : List UInt8 := [42, 180, 0, 27, 185, 0, 123, 1, 0, 172]
abbrev dktX5_many_0 : List UInt8 := dkwX5_many_0 ++ []
theorem dksX5_many_0 : cX5_many.data.toList.drop 0 = dktX5_many_0 := by decide +kernel
theorem dX5_many_0 : decode cX5_many 0 = .ok (.aload_n 0, 1) := dk_42 (dk_at dksX5_many_0 0 rfl rfl)
theorem dX5_many_1 : decode cX5_many 1 = .ok (.getfield 27, 3) := dk_180 0 27 (dk_at dksX5_many_0 1 rfl rfl)
theorem dX5_many_4 : decode cX5_many 4 = .ok (.invokeinterface 123 1, 5) := by decide +kernel
theorem dX5_many_9 : decode cX5_many 9 = .ok (.ireturn, 1) := dk_172 (dk_at dksX5_many_0 9 rfl rfl)
abbrev cX5_adds_2 : ByteArray := prog_18_method_4_code
def yX5_adds_2 : MethodName := ⟨RX5, "adds", "(LFlagLaundry$Flag;)V"⟩
def dkwX5_adds_2_0 : List UInt8 := [42, 180, 0, 27, 43, 185, 0, 115, 2, 0, 61, 177]
abbrev dktX5_adds_2_0 : List UInt8 := dkwX5_adds_2_0 ++ []
theorem dksX5_adds_2_0 : cX5_adds_2.data.toList.drop 0 = dktX5_adds_2_0 := by decide +kernel
theorem dX5_adds_2_0 : decode cX5_adds_2 0 = .ok (.aload_n 0, 1) := dk_42 (dk_at dksX5_adds_2_0 0 rfl rfl)
theorem dX5_adds_2_1 : decode cX5_adds_2 1 = .ok (.getfield 27, 3) := dk_180 0 27 (dk_at dksX5_adds_2_0 1 rfl rfl)
theorem dX5_adds_2_4 : decode cX5_adds_2 4 = .ok (.aload_n 1, 1) := dk_43 (dk_at dksX5_adds_2_0 4 rfl rfl)
theorem dX5_adds_2_5 : decode cX5_adds_2 5 = .ok (.invokeinterface 115 2, 5) := by decide +kernel
theorem dX5_adds_2_10 : decode cX5_adds_2 10 = .ok (.istore_n 2, 1) := dk_61 (dk_at dksX5_adds_2_0 10 rfl rfl)
theorem dX5_adds_2_11 : decode cX5_adds_2 11 = .ok (.return_, 1) := dk_177 (dk_at dksX5_adds_2_0 11 rfl rfl)
abbrev cX5_flagOf : ByteArray := prog_18_method_5_code
def yX5_flagOf : MethodName := ⟨RX5, "flagOf", "(I)LFlagLaundry$Flag;"⟩
def dkwX5_flagOf_0 : List UInt8 := [42, 180, 0, 27, 27, 185, 0, 119, 2, 0, 192, 0, 81, 176]
abbrev dktX5_flagOf_0 : List UInt8 := dkwX5_flagOf_0 ++ []
theorem dksX5_flagOf_0 : cX5_flagOf.data.toList.drop 0 = dktX5_flagOf_0 := by decide +kernel
theorem dX5_flagOf_0 : decode cX5_flagOf 0 = .ok (.aload_n 0, 1) := dk_42 (dk_at dksX5_flagOf_0 0 rfl rfl)
theorem dX5_flagOf_1 : decode cX5_flagOf 1 = .ok (.getfield 27, 3) := dk_180 0 27 (dk_at dksX5_flagOf_0 1 rfl rfl)
theorem dX5_flagOf_4 : decode cX5_flagOf 4 = .ok (.iload_n 1, 1) := dk_27 (dk_at dksX5_flagOf_0 4 rfl rfl)
theorem dX5_flagOf_5 : decode cX5_flagOf 5 = .ok (.invokeinterface 119 2, 5) := by decide +kernel
theorem dX5_flagOf_10 : decode cX5_flagOf 10 = .ok (.checkcast 81, 3) := dk_192 0 81 (dk_at dksX5_flagOf_0 10 rfl rfl)
theorem dX5_flagOf_13 : decode cX5_flagOf 13 = .ok (.areturn, 1) := dk_176 (dk_at dksX5_flagOf_0 13 rfl rfl)
abbrev cX5_within : ByteArray := prog_18_method_10_code
def yX5_within : MethodName := ⟨RX5, "within", "(I)I"⟩
def dkwX5_within_0 : List UInt8 := [42, 27, 186, 0, 148, 0, 0, 182, 0, 144, 172]
abbrev dktX5_within_0 : List UInt8 := dkwX5_within_0 ++ []
theorem dksX5_within_0 : cX5_within.data.toList.drop 0 = dktX5_within_0 := by decide +kernel
theorem dX5_within_0 : decode cX5_within 0 = .ok (.aload_n 0, 1) := dk_42 (dk_at dksX5_within_0 0 rfl rfl)
theorem dX5_within_1 : decode cX5_within 1 = .ok (.iload_n 1, 1) := dk_27 (dk_at dksX5_within_0 1 rfl rfl)
theorem dX5_within_2 : decode cX5_within 2 = .ok (.invokedynamic 148, 5) := by decide +kernel
theorem dX5_within_7 : decode cX5_within 7 = .ok (.invokevirtual 144, 3) := dk_182 0 144 (dk_at dksX5_within_0 7 rfl rfl)
theorem dX5_within_10 : decode cX5_within 10 = .ok (.ireturn, 1) := dk_172 (dk_at dksX5_within_0 10 rfl rfl)
abbrev cX5_lambda_within_8 : ByteArray := prog_18_method_42_code
def yX5_lambda_within_8 : MethodName := ⟨RX5, "lambda$within$8", "(ILFlagLaundry$Flag;)Z"⟩
def dkwX5_lambda_within_8_0 : List UInt8 := [43, 26, 182, 0, 167, 172]
abbrev dktX5_lambda_within_8_0 : List UInt8 := dkwX5_lambda_within_8_0 ++ []
theorem dksX5_lambda_within_8_0 : cX5_lambda_within_8.data.toList.drop 0 = dktX5_lambda_within_8_0 := by decide +kernel
theorem dX5_lambda_within_8_0 : decode cX5_lambda_within_8 0 = .ok (.aload_n 1, 1) := dk_43 (dk_at dksX5_lambda_within_8_0 0 rfl rfl)
theorem dX5_lambda_within_8_1 : decode cX5_lambda_within_8 1 = .ok (.iload_n 0, 1) := dk_26 (dk_at dksX5_lambda_within_8_0 1 rfl rfl)
theorem dX5_lambda_within_8_2 : decode cX5_lambda_within_8 2 = .ok (.invokevirtual 167, 3) := dk_182 0 167 (dk_at dksX5_lambda_within_8_0 2 rfl rfl)
theorem dX5_lambda_within_8_5 : decode cX5_lambda_within_8 5 = .ok (.ireturn, 1) := dk_172 (dk_at dksX5_lambda_within_8_0 5 rfl rfl)
abbrev cX5_count : ByteArray := prog_18_method_8_code
def yX5_count : MethodName := ⟨RX5, "count", "(LFlagLaundry$Test;)I"⟩
def dkwX5_count_1 : List UInt8 := [184, 0, 137, 96, 61, 132, 3, 1, 167, 255, 228, 28, 172]
abbrev dktX5_count_1 : List UInt8 := dkwX5_count_1 ++ []
def dkwX5_count_0 : List UInt8 := [3, 61, 3, 62, 29, 42, 182, 0, 127, 162, 0, 26, 28, 43, 42, 29, 182, 0, 130, 185, 0, 134, 2, 0]
abbrev dktX5_count_0 : List UInt8 := dkwX5_count_0 ++ dktX5_count_1
theorem dksX5_count_0 : cX5_count.data.toList.drop 0 = dktX5_count_0 := by decide +kernel
theorem dksX5_count_1 : cX5_count.data.toList.drop 24 = dktX5_count_1 := dk_seg dksX5_count_0 24 rfl rfl
theorem dX5_count_0 : decode cX5_count 0 = .ok (.iconst 0, 1) := dk_3 (dk_at dksX5_count_0 0 rfl rfl)
theorem dX5_count_1 : decode cX5_count 1 = .ok (.istore_n 2, 1) := dk_61 (dk_at dksX5_count_0 1 rfl rfl)
theorem dX5_count_2 : decode cX5_count 2 = .ok (.iconst 0, 1) := dk_3 (dk_at dksX5_count_0 2 rfl rfl)
theorem dX5_count_3 : decode cX5_count 3 = .ok (.istore_n 3, 1) := dk_62 (dk_at dksX5_count_0 3 rfl rfl)
theorem dX5_count_4 : decode cX5_count 4 = .ok (.iload_n 3, 1) := dk_29 (dk_at dksX5_count_0 4 rfl rfl)
theorem dX5_count_5 : decode cX5_count 5 = .ok (.aload_n 0, 1) := dk_42 (dk_at dksX5_count_0 5 rfl rfl)
theorem dX5_count_6 : decode cX5_count 6 = .ok (.invokevirtual 127, 3) := dk_182 0 127 (dk_at dksX5_count_0 6 rfl rfl)
theorem dX5_count_9 : decode cX5_count 9 = .ok (.if_icmp .ge 26, 3) := dk_162 0 26 (dk_at dksX5_count_0 9 rfl rfl)
theorem dX5_count_12 : decode cX5_count 12 = .ok (.iload_n 2, 1) := dk_28 (dk_at dksX5_count_0 12 rfl rfl)
theorem dX5_count_13 : decode cX5_count 13 = .ok (.aload_n 1, 1) := dk_43 (dk_at dksX5_count_0 13 rfl rfl)
theorem dX5_count_14 : decode cX5_count 14 = .ok (.aload_n 0, 1) := dk_42 (dk_at dksX5_count_0 14 rfl rfl)
theorem dX5_count_15 : decode cX5_count 15 = .ok (.iload_n 3, 1) := dk_29 (dk_at dksX5_count_0 15 rfl rfl)
theorem dX5_count_16 : decode cX5_count 16 = .ok (.invokevirtual 130, 3) := dk_182 0 130 (dk_at dksX5_count_0 16 rfl rfl)
theorem dX5_count_19 : decode cX5_count 19 = .ok (.invokeinterface 134 2, 5) := by decide +kernel
theorem dX5_count_24 : decode cX5_count 24 = .ok (.invokestatic 137, 3) := dk_184 0 137 (dk_at dksX5_count_1 0 rfl rfl)
theorem dX5_count_27 : decode cX5_count 27 = .ok (.iadd, 1) := dk_96 (dk_at dksX5_count_1 3 rfl rfl)
theorem dX5_count_28 : decode cX5_count 28 = .ok (.istore_n 2, 1) := dk_61 (dk_at dksX5_count_1 4 rfl rfl)
theorem dX5_count_29 : decode cX5_count 29 = .ok (.iinc 3 1, 3) := dk_132 3 1 (dk_at dksX5_count_1 5 rfl rfl)
theorem dX5_count_32 : decode cX5_count 32 = .ok (.goto (-28), 3) := dk_167 255 228 (dk_at dksX5_count_1 8 rfl rfl)
theorem dX5_count_35 : decode cX5_count 35 = .ok (.iload_n 2, 1) := dk_28 (dk_at dksX5_count_1 11 rfl rfl)
theorem dX5_count_36 : decode cX5_count 36 = .ok (.ireturn, 1) := dk_172 (dk_at dksX5_count_1 12 rfl rfl)
abbrev cX5_puts : ByteArray := prog_18_method_24_code
def yX5_puts : MethodName := ⟨RX5, "puts", "(II)I"⟩
def dkwX5_puts_1 : List UInt8 := [180, 0, 112, 4, 96, 181, 0, 112, 42, 28, 182, 0, 219, 172]
abbrev dktX5_puts_1 : List UInt8 := dkwX5_puts_1 ++ []
def dkwX5_puts_0 : List UInt8 := [42, 27, 182, 0, 130, 187, 0, 210, 89, 28, 42, 180, 0, 112, 183, 0, 212, 181, 0, 215, 42, 89]
abbrev dktX5_puts_0 : List UInt8 := dkwX5_puts_0 ++ dktX5_puts_1
theorem dksX5_puts_0 : cX5_puts.data.toList.drop 0 = dktX5_puts_0 := by decide +kernel
theorem dksX5_puts_1 : cX5_puts.data.toList.drop 22 = dktX5_puts_1 := dk_seg dksX5_puts_0 22 rfl rfl
theorem dX5_puts_0 : decode cX5_puts 0 = .ok (.aload_n 0, 1) := dk_42 (dk_at dksX5_puts_0 0 rfl rfl)
theorem dX5_puts_1 : decode cX5_puts 1 = .ok (.iload_n 1, 1) := dk_27 (dk_at dksX5_puts_0 1 rfl rfl)
theorem dX5_puts_2 : decode cX5_puts 2 = .ok (.invokevirtual 130, 3) := dk_182 0 130 (dk_at dksX5_puts_0 2 rfl rfl)
theorem dX5_puts_5 : decode cX5_puts 5 = .ok (.new 210, 3) := dk_187 0 210 (dk_at dksX5_puts_0 5 rfl rfl)
theorem dX5_puts_8 : decode cX5_puts 8 = .ok (.dup, 1) := dk_89 (dk_at dksX5_puts_0 8 rfl rfl)
theorem dX5_puts_9 : decode cX5_puts 9 = .ok (.iload_n 2, 1) := dk_28 (dk_at dksX5_puts_0 9 rfl rfl)
theorem dX5_puts_10 : decode cX5_puts 10 = .ok (.aload_n 0, 1) := dk_42 (dk_at dksX5_puts_0 10 rfl rfl)
theorem dX5_puts_11 : decode cX5_puts 11 = .ok (.getfield 112, 3) := dk_180 0 112 (dk_at dksX5_puts_0 11 rfl rfl)
theorem dX5_puts_14 : decode cX5_puts 14 = .ok (.invokespecial 212, 3) := dk_183 0 212 (dk_at dksX5_puts_0 14 rfl rfl)
theorem dX5_puts_17 : decode cX5_puts 17 = .ok (.putfield 215, 3) := dk_181 0 215 (dk_at dksX5_puts_0 17 rfl rfl)
theorem dX5_puts_20 : decode cX5_puts 20 = .ok (.aload_n 0, 1) := dk_42 (dk_at dksX5_puts_0 20 rfl rfl)
theorem dX5_puts_21 : decode cX5_puts 21 = .ok (.dup, 1) := dk_89 (dk_at dksX5_puts_0 21 rfl rfl)
theorem dX5_puts_22 : decode cX5_puts 22 = .ok (.getfield 112, 3) := dk_180 0 112 (dk_at dksX5_puts_1 0 rfl rfl)
theorem dX5_puts_25 : decode cX5_puts 25 = .ok (.iconst 1, 1) := dk_4 (dk_at dksX5_puts_1 3 rfl rfl)
theorem dX5_puts_26 : decode cX5_puts 26 = .ok (.iadd, 1) := dk_96 (dk_at dksX5_puts_1 4 rfl rfl)
theorem dX5_puts_27 : decode cX5_puts 27 = .ok (.putfield 112, 3) := dk_181 0 112 (dk_at dksX5_puts_1 5 rfl rfl)
theorem dX5_puts_30 : decode cX5_puts 30 = .ok (.aload_n 0, 1) := dk_42 (dk_at dksX5_puts_1 8 rfl rfl)
theorem dX5_puts_31 : decode cX5_puts 31 = .ok (.iload_n 2, 1) := dk_28 (dk_at dksX5_puts_1 9 rfl rfl)
theorem dX5_puts_32 : decode cX5_puts 32 = .ok (.invokevirtual 219, 3) := dk_182 0 219 (dk_at dksX5_puts_1 10 rfl rfl)
theorem dX5_puts_35 : decode cX5_puts 35 = .ok (.ireturn, 1) := dk_172 (dk_at dksX5_puts_1 13 rfl rfl)
abbrev cX5_bears : ByteArray := prog_18_method_16_code
def yX5_bears : MethodName := ⟨RX5, "bears", "(I)I"⟩
def dkwX5_bears_1 : List UInt8 := [28, 42, 29, 182, 0, 130, 180, 0, 171, 184, 0, 174, 61, 132, 3, 1, 167, 255, 220, 28, 172]
abbrev dktX5_bears_1 : List UInt8 := dkwX5_bears_1 ++ []
def dkwX5_bears_0 : List UInt8 := [6, 61, 3, 62, 29, 42, 182, 0, 127, 162, 0, 34, 42, 29, 182, 0, 130, 27, 182, 0, 167, 153, 0, 16]
abbrev dktX5_bears_0 : List UInt8 := dkwX5_bears_0 ++ dktX5_bears_1
theorem dksX5_bears_0 : cX5_bears.data.toList.drop 0 = dktX5_bears_0 := by decide +kernel
theorem dksX5_bears_1 : cX5_bears.data.toList.drop 24 = dktX5_bears_1 := dk_seg dksX5_bears_0 24 rfl rfl
theorem dX5_bears_0 : decode cX5_bears 0 = .ok (.iconst 3, 1) := dk_6 (dk_at dksX5_bears_0 0 rfl rfl)
theorem dX5_bears_1 : decode cX5_bears 1 = .ok (.istore_n 2, 1) := dk_61 (dk_at dksX5_bears_0 1 rfl rfl)
theorem dX5_bears_2 : decode cX5_bears 2 = .ok (.iconst 0, 1) := dk_3 (dk_at dksX5_bears_0 2 rfl rfl)
theorem dX5_bears_3 : decode cX5_bears 3 = .ok (.istore_n 3, 1) := dk_62 (dk_at dksX5_bears_0 3 rfl rfl)
theorem dX5_bears_4 : decode cX5_bears 4 = .ok (.iload_n 3, 1) := dk_29 (dk_at dksX5_bears_0 4 rfl rfl)
theorem dX5_bears_5 : decode cX5_bears 5 = .ok (.aload_n 0, 1) := dk_42 (dk_at dksX5_bears_0 5 rfl rfl)
theorem dX5_bears_6 : decode cX5_bears 6 = .ok (.invokevirtual 127, 3) := dk_182 0 127 (dk_at dksX5_bears_0 6 rfl rfl)
theorem dX5_bears_9 : decode cX5_bears 9 = .ok (.if_icmp .ge 34, 3) := dk_162 0 34 (dk_at dksX5_bears_0 9 rfl rfl)
theorem dX5_bears_12 : decode cX5_bears 12 = .ok (.aload_n 0, 1) := dk_42 (dk_at dksX5_bears_0 12 rfl rfl)
theorem dX5_bears_13 : decode cX5_bears 13 = .ok (.iload_n 3, 1) := dk_29 (dk_at dksX5_bears_0 13 rfl rfl)
theorem dX5_bears_14 : decode cX5_bears 14 = .ok (.invokevirtual 130, 3) := dk_182 0 130 (dk_at dksX5_bears_0 14 rfl rfl)
theorem dX5_bears_17 : decode cX5_bears 17 = .ok (.iload_n 1, 1) := dk_27 (dk_at dksX5_bears_0 17 rfl rfl)
theorem dX5_bears_18 : decode cX5_bears 18 = .ok (.invokevirtual 167, 3) := dk_182 0 167 (dk_at dksX5_bears_0 18 rfl rfl)
theorem dX5_bears_21 : decode cX5_bears 21 = .ok (.ifCond .eq 16, 3) := dk_153 0 16 (dk_at dksX5_bears_0 21 rfl rfl)
theorem dX5_bears_24 : decode cX5_bears 24 = .ok (.iload_n 2, 1) := dk_28 (dk_at dksX5_bears_1 0 rfl rfl)
theorem dX5_bears_25 : decode cX5_bears 25 = .ok (.aload_n 0, 1) := dk_42 (dk_at dksX5_bears_1 1 rfl rfl)
theorem dX5_bears_26 : decode cX5_bears 26 = .ok (.iload_n 3, 1) := dk_29 (dk_at dksX5_bears_1 2 rfl rfl)
theorem dX5_bears_27 : decode cX5_bears 27 = .ok (.invokevirtual 130, 3) := dk_182 0 130 (dk_at dksX5_bears_1 3 rfl rfl)
theorem dX5_bears_30 : decode cX5_bears 30 = .ok (.getfield 171, 3) := dk_180 0 171 (dk_at dksX5_bears_1 6 rfl rfl)
theorem dX5_bears_33 : decode cX5_bears 33 = .ok (.invokestatic 174, 3) := dk_184 0 174 (dk_at dksX5_bears_1 9 rfl rfl)
theorem dX5_bears_36 : decode cX5_bears 36 = .ok (.istore_n 2, 1) := dk_61 (dk_at dksX5_bears_1 12 rfl rfl)
theorem dX5_bears_37 : decode cX5_bears 37 = .ok (.iinc 3 1, 3) := dk_132 3 1 (dk_at dksX5_bears_1 13 rfl rfl)
theorem dX5_bears_40 : decode cX5_bears 40 = .ok (.goto (-36), 3) := dk_167 255 220 (dk_at dksX5_bears_1 16 rfl rfl)
theorem dX5_bears_43 : decode cX5_bears 43 = .ok (.iload_n 2, 1) := dk_28 (dk_at dksX5_bears_1 19 rfl rfl)
theorem dX5_bears_44 : decode cX5_bears 44 = .ok (.ireturn, 1) := dk_172 (dk_at dksX5_bears_1 20 rfl rfl)
abbrev cX5_washes : ByteArray := prog_18_method_23_code
def yX5_washes : MethodName := ⟨RX5, "washes", "(II)I"⟩
def dkwX5_washes_3 : List UInt8 := [21, 4, 172]
abbrev dktX5_washes_3 : List UInt8 := dkwX5_washes_3 ++ []
def dkwX5_washes_2 : List UInt8 := [29, 182, 0, 207, 96, 54, 4, 132, 5, 1, 167, 255, 212, 42, 89, 180, 0, 106, 4, 96, 181, 0, 106]
abbrev dktX5_washes_2 : List UInt8 := dkwX5_washes_2 ++ dktX5_washes_3
def dkwX5_washes_1 : List UInt8 := [21, 5, 182, 0, 130, 27, 182, 0, 167, 153, 0, 22, 21, 4, 42, 21, 5, 182, 0, 130, 28, 184, 0, 194]
abbrev dktX5_washes_1 : List UInt8 := dkwX5_washes_1 ++ dktX5_washes_2
def dkwX5_washes_0 : List UInt8 := [42, 27, 28, 182, 0, 188, 62, 3, 54, 4, 3, 54, 5, 21, 5, 42, 182, 0, 127, 162, 0, 41, 42]
abbrev dktX5_washes_0 : List UInt8 := dkwX5_washes_0 ++ dktX5_washes_1
theorem dksX5_washes_0 : cX5_washes.data.toList.drop 0 = dktX5_washes_0 := by decide +kernel
theorem dksX5_washes_1 : cX5_washes.data.toList.drop 23 = dktX5_washes_1 := dk_seg dksX5_washes_0 23 rfl rfl
theorem dksX5_washes_2 : cX5_washes.data.toList.drop 47 = dktX5_washes_2 := dk_seg dksX5_washes_1 24 rfl rfl
theorem dksX5_washes_3 : cX5_washes.data.toList.drop 70 = dktX5_washes_3 := dk_seg dksX5_washes_2 23 rfl rfl
theorem dX5_washes_0 : decode cX5_washes 0 = .ok (.aload_n 0, 1) := dk_42 (dk_at dksX5_washes_0 0 rfl rfl)
theorem dX5_washes_1 : decode cX5_washes 1 = .ok (.iload_n 1, 1) := dk_27 (dk_at dksX5_washes_0 1 rfl rfl)
theorem dX5_washes_2 : decode cX5_washes 2 = .ok (.iload_n 2, 1) := dk_28 (dk_at dksX5_washes_0 2 rfl rfl)
theorem dX5_washes_3 : decode cX5_washes 3 = .ok (.invokevirtual 188, 3) := dk_182 0 188 (dk_at dksX5_washes_0 3 rfl rfl)
theorem dX5_washes_6 : decode cX5_washes 6 = .ok (.istore_n 3, 1) := dk_62 (dk_at dksX5_washes_0 6 rfl rfl)
theorem dX5_washes_7 : decode cX5_washes 7 = .ok (.iconst 0, 1) := dk_3 (dk_at dksX5_washes_0 7 rfl rfl)
theorem dX5_washes_8 : decode cX5_washes 8 = .ok (.istore 4, 2) := dk_54 4 (dk_at dksX5_washes_0 8 rfl rfl)
theorem dX5_washes_10 : decode cX5_washes 10 = .ok (.iconst 0, 1) := dk_3 (dk_at dksX5_washes_0 10 rfl rfl)
theorem dX5_washes_11 : decode cX5_washes 11 = .ok (.istore 5, 2) := dk_54 5 (dk_at dksX5_washes_0 11 rfl rfl)
theorem dX5_washes_13 : decode cX5_washes 13 = .ok (.iload 5, 2) := dk_21 5 (dk_at dksX5_washes_0 13 rfl rfl)
theorem dX5_washes_15 : decode cX5_washes 15 = .ok (.aload_n 0, 1) := dk_42 (dk_at dksX5_washes_0 15 rfl rfl)
theorem dX5_washes_16 : decode cX5_washes 16 = .ok (.invokevirtual 127, 3) := dk_182 0 127 (dk_at dksX5_washes_0 16 rfl rfl)
theorem dX5_washes_19 : decode cX5_washes 19 = .ok (.if_icmp .ge 41, 3) := dk_162 0 41 (dk_at dksX5_washes_0 19 rfl rfl)
theorem dX5_washes_22 : decode cX5_washes 22 = .ok (.aload_n 0, 1) := dk_42 (dk_at dksX5_washes_0 22 rfl rfl)
theorem dX5_washes_23 : decode cX5_washes 23 = .ok (.iload 5, 2) := dk_21 5 (dk_at dksX5_washes_1 0 rfl rfl)
theorem dX5_washes_25 : decode cX5_washes 25 = .ok (.invokevirtual 130, 3) := dk_182 0 130 (dk_at dksX5_washes_1 2 rfl rfl)
theorem dX5_washes_28 : decode cX5_washes 28 = .ok (.iload_n 1, 1) := dk_27 (dk_at dksX5_washes_1 5 rfl rfl)
theorem dX5_washes_29 : decode cX5_washes 29 = .ok (.invokevirtual 167, 3) := dk_182 0 167 (dk_at dksX5_washes_1 6 rfl rfl)
theorem dX5_washes_32 : decode cX5_washes 32 = .ok (.ifCond .eq 22, 3) := dk_153 0 22 (dk_at dksX5_washes_1 9 rfl rfl)
theorem dX5_washes_35 : decode cX5_washes 35 = .ok (.iload 4, 2) := dk_21 4 (dk_at dksX5_washes_1 12 rfl rfl)
theorem dX5_washes_37 : decode cX5_washes 37 = .ok (.aload_n 0, 1) := dk_42 (dk_at dksX5_washes_1 14 rfl rfl)
theorem dX5_washes_38 : decode cX5_washes 38 = .ok (.iload 5, 2) := dk_21 5 (dk_at dksX5_washes_1 15 rfl rfl)
theorem dX5_washes_40 : decode cX5_washes 40 = .ok (.invokevirtual 130, 3) := dk_182 0 130 (dk_at dksX5_washes_1 17 rfl rfl)
theorem dX5_washes_43 : decode cX5_washes 43 = .ok (.iload_n 2, 1) := dk_28 (dk_at dksX5_washes_1 20 rfl rfl)
theorem dX5_washes_44 : decode cX5_washes 44 = .ok (.invokestatic 194, 3) := dk_184 0 194 (dk_at dksX5_washes_1 21 rfl rfl)
theorem dX5_washes_47 : decode cX5_washes 47 = .ok (.iload_n 3, 1) := dk_29 (dk_at dksX5_washes_2 0 rfl rfl)
theorem dX5_washes_48 : decode cX5_washes 48 = .ok (.invokevirtual 207, 3) := dk_182 0 207 (dk_at dksX5_washes_2 1 rfl rfl)
theorem dX5_washes_51 : decode cX5_washes 51 = .ok (.iadd, 1) := dk_96 (dk_at dksX5_washes_2 4 rfl rfl)
theorem dX5_washes_52 : decode cX5_washes 52 = .ok (.istore 4, 2) := dk_54 4 (dk_at dksX5_washes_2 5 rfl rfl)
theorem dX5_washes_54 : decode cX5_washes 54 = .ok (.iinc 5 1, 3) := dk_132 5 1 (dk_at dksX5_washes_2 7 rfl rfl)
theorem dX5_washes_57 : decode cX5_washes 57 = .ok (.goto (-44), 3) := dk_167 255 212 (dk_at dksX5_washes_2 10 rfl rfl)
theorem dX5_washes_60 : decode cX5_washes 60 = .ok (.aload_n 0, 1) := dk_42 (dk_at dksX5_washes_2 13 rfl rfl)
theorem dX5_washes_61 : decode cX5_washes 61 = .ok (.dup, 1) := dk_89 (dk_at dksX5_washes_2 14 rfl rfl)
theorem dX5_washes_62 : decode cX5_washes 62 = .ok (.getfield 106, 3) := dk_180 0 106 (dk_at dksX5_washes_2 15 rfl rfl)
theorem dX5_washes_65 : decode cX5_washes 65 = .ok (.iconst 1, 1) := dk_4 (dk_at dksX5_washes_2 18 rfl rfl)
theorem dX5_washes_66 : decode cX5_washes 66 = .ok (.iadd, 1) := dk_96 (dk_at dksX5_washes_2 19 rfl rfl)
theorem dX5_washes_67 : decode cX5_washes 67 = .ok (.putfield 106, 3) := dk_181 0 106 (dk_at dksX5_washes_2 20 rfl rfl)
theorem dX5_washes_70 : decode cX5_washes 70 = .ok (.iload 4, 2) := dk_21 4 (dk_at dksX5_washes_3 0 rfl rfl)
theorem dX5_washes_72 : decode cX5_washes 72 = .ok (.ireturn, 1) := dk_172 (dk_at dksX5_washes_3 2 rfl rfl)
abbrev cX5_running : ByteArray := prog_18_method_19_code
def yX5_running : MethodName := ⟨RX5, "running", "(II)I"⟩
def dkwX5_running_2 : List UInt8 := [62, 132, 4, 1, 167, 255, 209, 29, 42, 28, 182, 0, 184, 126, 172]
abbrev dktX5_running_2 : List UInt8 := dkwX5_running_2 ++ []
def dkwX5_running_1 : List UInt8 := [153, 0, 25, 29, 42, 21, 4, 182, 0, 130, 180, 0, 180, 42, 21, 4, 182, 0, 130, 180, 0, 181, 128, 128]
abbrev dktX5_running_1 : List UInt8 := dkwX5_running_1 ++ dktX5_running_2
def dkwX5_running_0 : List UInt8 := [3, 62, 3, 54, 4, 21, 4, 42, 182, 0, 127, 162, 0, 44, 42, 21, 4, 182, 0, 130, 27, 182, 0, 167]
abbrev dktX5_running_0 : List UInt8 := dkwX5_running_0 ++ dktX5_running_1
theorem dksX5_running_0 : cX5_running.data.toList.drop 0 = dktX5_running_0 := by decide +kernel
theorem dksX5_running_1 : cX5_running.data.toList.drop 24 = dktX5_running_1 := dk_seg dksX5_running_0 24 rfl rfl
theorem dksX5_running_2 : cX5_running.data.toList.drop 48 = dktX5_running_2 := dk_seg dksX5_running_1 24 rfl rfl
theorem dX5_running_0 : decode cX5_running 0 = .ok (.iconst 0, 1) := dk_3 (dk_at dksX5_running_0 0 rfl rfl)
theorem dX5_running_1 : decode cX5_running 1 = .ok (.istore_n 3, 1) := dk_62 (dk_at dksX5_running_0 1 rfl rfl)
theorem dX5_running_2 : decode cX5_running 2 = .ok (.iconst 0, 1) := dk_3 (dk_at dksX5_running_0 2 rfl rfl)
theorem dX5_running_3 : decode cX5_running 3 = .ok (.istore 4, 2) := dk_54 4 (dk_at dksX5_running_0 3 rfl rfl)
theorem dX5_running_5 : decode cX5_running 5 = .ok (.iload 4, 2) := dk_21 4 (dk_at dksX5_running_0 5 rfl rfl)
theorem dX5_running_7 : decode cX5_running 7 = .ok (.aload_n 0, 1) := dk_42 (dk_at dksX5_running_0 7 rfl rfl)
theorem dX5_running_8 : decode cX5_running 8 = .ok (.invokevirtual 127, 3) := dk_182 0 127 (dk_at dksX5_running_0 8 rfl rfl)
theorem dX5_running_11 : decode cX5_running 11 = .ok (.if_icmp .ge 44, 3) := dk_162 0 44 (dk_at dksX5_running_0 11 rfl rfl)
theorem dX5_running_14 : decode cX5_running 14 = .ok (.aload_n 0, 1) := dk_42 (dk_at dksX5_running_0 14 rfl rfl)
theorem dX5_running_15 : decode cX5_running 15 = .ok (.iload 4, 2) := dk_21 4 (dk_at dksX5_running_0 15 rfl rfl)
theorem dX5_running_17 : decode cX5_running 17 = .ok (.invokevirtual 130, 3) := dk_182 0 130 (dk_at dksX5_running_0 17 rfl rfl)
theorem dX5_running_20 : decode cX5_running 20 = .ok (.iload_n 1, 1) := dk_27 (dk_at dksX5_running_0 20 rfl rfl)
theorem dX5_running_21 : decode cX5_running 21 = .ok (.invokevirtual 167, 3) := dk_182 0 167 (dk_at dksX5_running_0 21 rfl rfl)
theorem dX5_running_24 : decode cX5_running 24 = .ok (.ifCond .eq 25, 3) := dk_153 0 25 (dk_at dksX5_running_1 0 rfl rfl)
theorem dX5_running_27 : decode cX5_running 27 = .ok (.iload_n 3, 1) := dk_29 (dk_at dksX5_running_1 3 rfl rfl)
theorem dX5_running_28 : decode cX5_running 28 = .ok (.aload_n 0, 1) := dk_42 (dk_at dksX5_running_1 4 rfl rfl)
theorem dX5_running_29 : decode cX5_running 29 = .ok (.iload 4, 2) := dk_21 4 (dk_at dksX5_running_1 5 rfl rfl)
theorem dX5_running_31 : decode cX5_running 31 = .ok (.invokevirtual 130, 3) := dk_182 0 130 (dk_at dksX5_running_1 7 rfl rfl)
theorem dX5_running_34 : decode cX5_running 34 = .ok (.getfield 180, 3) := dk_180 0 180 (dk_at dksX5_running_1 10 rfl rfl)
theorem dX5_running_37 : decode cX5_running 37 = .ok (.aload_n 0, 1) := dk_42 (dk_at dksX5_running_1 13 rfl rfl)
theorem dX5_running_38 : decode cX5_running 38 = .ok (.iload 4, 2) := dk_21 4 (dk_at dksX5_running_1 14 rfl rfl)
theorem dX5_running_40 : decode cX5_running 40 = .ok (.invokevirtual 130, 3) := dk_182 0 130 (dk_at dksX5_running_1 16 rfl rfl)
theorem dX5_running_43 : decode cX5_running 43 = .ok (.getfield 181, 3) := dk_180 0 181 (dk_at dksX5_running_1 19 rfl rfl)
theorem dX5_running_46 : decode cX5_running 46 = .ok (.ior, 1) := dk_128 (dk_at dksX5_running_1 22 rfl rfl)
theorem dX5_running_47 : decode cX5_running 47 = .ok (.ior, 1) := dk_128 (dk_at dksX5_running_1 23 rfl rfl)
theorem dX5_running_48 : decode cX5_running 48 = .ok (.istore_n 3, 1) := dk_62 (dk_at dksX5_running_2 0 rfl rfl)
theorem dX5_running_49 : decode cX5_running 49 = .ok (.iinc 4 1, 3) := dk_132 4 1 (dk_at dksX5_running_2 1 rfl rfl)
theorem dX5_running_52 : decode cX5_running 52 = .ok (.goto (-47), 3) := dk_167 255 209 (dk_at dksX5_running_2 4 rfl rfl)
theorem dX5_running_55 : decode cX5_running 55 = .ok (.iload_n 3, 1) := dk_29 (dk_at dksX5_running_2 7 rfl rfl)
theorem dX5_running_56 : decode cX5_running 56 = .ok (.aload_n 0, 1) := dk_42 (dk_at dksX5_running_2 8 rfl rfl)
theorem dX5_running_57 : decode cX5_running 57 = .ok (.iload_n 2, 1) := dk_28 (dk_at dksX5_running_2 9 rfl rfl)
theorem dX5_running_58 : decode cX5_running 58 = .ok (.invokevirtual 184, 3) := dk_182 0 184 (dk_at dksX5_running_2 10 rfl rfl)
theorem dX5_running_61 : decode cX5_running 61 = .ok (.iand, 1) := dk_126 (dk_at dksX5_running_2 13 rfl rfl)
theorem dX5_running_62 : decode cX5_running 62 = .ok (.ireturn, 1) := dk_172 (dk_at dksX5_running_2 14 rfl rfl)
abbrev cX5_hot : ByteArray := prog_18_method_18_code
def yX5_hot : MethodName := ⟨RX5, "hot", "(I)I"⟩
def dkwX5_hot_1 : List UInt8 := [29, 120, 128, 61, 132, 3, 1, 167, 255, 229, 28, 172]
abbrev dktX5_hot_1 : List UInt8 := dkwX5_hot_1 ++ []
def dkwX5_hot_0 : List UInt8 := [3, 61, 3, 62, 29, 42, 180, 0, 88, 162, 0, 25, 42, 180, 0, 9, 29, 46, 27, 163, 0, 9, 28, 4]
abbrev dktX5_hot_0 : List UInt8 := dkwX5_hot_0 ++ dktX5_hot_1
theorem dksX5_hot_0 : cX5_hot.data.toList.drop 0 = dktX5_hot_0 := by decide +kernel
theorem dksX5_hot_1 : cX5_hot.data.toList.drop 24 = dktX5_hot_1 := dk_seg dksX5_hot_0 24 rfl rfl
theorem dX5_hot_0 : decode cX5_hot 0 = .ok (.iconst 0, 1) := dk_3 (dk_at dksX5_hot_0 0 rfl rfl)
theorem dX5_hot_1 : decode cX5_hot 1 = .ok (.istore_n 2, 1) := dk_61 (dk_at dksX5_hot_0 1 rfl rfl)
theorem dX5_hot_2 : decode cX5_hot 2 = .ok (.iconst 0, 1) := dk_3 (dk_at dksX5_hot_0 2 rfl rfl)
theorem dX5_hot_3 : decode cX5_hot 3 = .ok (.istore_n 3, 1) := dk_62 (dk_at dksX5_hot_0 3 rfl rfl)
theorem dX5_hot_4 : decode cX5_hot 4 = .ok (.iload_n 3, 1) := dk_29 (dk_at dksX5_hot_0 4 rfl rfl)
theorem dX5_hot_5 : decode cX5_hot 5 = .ok (.aload_n 0, 1) := dk_42 (dk_at dksX5_hot_0 5 rfl rfl)
theorem dX5_hot_6 : decode cX5_hot 6 = .ok (.getfield 88, 3) := dk_180 0 88 (dk_at dksX5_hot_0 6 rfl rfl)
theorem dX5_hot_9 : decode cX5_hot 9 = .ok (.if_icmp .ge 25, 3) := dk_162 0 25 (dk_at dksX5_hot_0 9 rfl rfl)
theorem dX5_hot_12 : decode cX5_hot 12 = .ok (.aload_n 0, 1) := dk_42 (dk_at dksX5_hot_0 12 rfl rfl)
theorem dX5_hot_13 : decode cX5_hot 13 = .ok (.getfield 9, 3) := dk_180 0 9 (dk_at dksX5_hot_0 13 rfl rfl)
theorem dX5_hot_16 : decode cX5_hot 16 = .ok (.iload_n 3, 1) := dk_29 (dk_at dksX5_hot_0 16 rfl rfl)
theorem dX5_hot_17 : decode cX5_hot 17 = .ok (.iaload, 1) := dk_46 (dk_at dksX5_hot_0 17 rfl rfl)
theorem dX5_hot_18 : decode cX5_hot 18 = .ok (.iload_n 1, 1) := dk_27 (dk_at dksX5_hot_0 18 rfl rfl)
theorem dX5_hot_19 : decode cX5_hot 19 = .ok (.if_icmp .gt 9, 3) := dk_163 0 9 (dk_at dksX5_hot_0 19 rfl rfl)
theorem dX5_hot_22 : decode cX5_hot 22 = .ok (.iload_n 2, 1) := dk_28 (dk_at dksX5_hot_0 22 rfl rfl)
theorem dX5_hot_23 : decode cX5_hot 23 = .ok (.iconst 1, 1) := dk_4 (dk_at dksX5_hot_0 23 rfl rfl)
theorem dX5_hot_24 : decode cX5_hot 24 = .ok (.iload_n 3, 1) := dk_29 (dk_at dksX5_hot_1 0 rfl rfl)
theorem dX5_hot_25 : decode cX5_hot 25 = .ok (.ishl, 1) := dk_120 (dk_at dksX5_hot_1 1 rfl rfl)
theorem dX5_hot_26 : decode cX5_hot 26 = .ok (.ior, 1) := dk_128 (dk_at dksX5_hot_1 2 rfl rfl)
theorem dX5_hot_27 : decode cX5_hot 27 = .ok (.istore_n 2, 1) := dk_61 (dk_at dksX5_hot_1 3 rfl rfl)
theorem dX5_hot_28 : decode cX5_hot 28 = .ok (.iinc 3 1, 3) := dk_132 3 1 (dk_at dksX5_hot_1 4 rfl rfl)
theorem dX5_hot_31 : decode cX5_hot 31 = .ok (.goto (-27), 3) := dk_167 255 229 (dk_at dksX5_hot_1 7 rfl rfl)
theorem dX5_hot_34 : decode cX5_hot 34 = .ok (.iload_n 2, 1) := dk_28 (dk_at dksX5_hot_1 10 rfl rfl)
theorem dX5_hot_35 : decode cX5_hot 35 = .ok (.ireturn, 1) := dk_172 (dk_at dksX5_hot_1 11 rfl rfl)
abbrev cX5_freePeg : ByteArray := prog_18_method_30_code
def yX5_freePeg : MethodName := ⟨RX5, "freePeg", "()I"⟩
def dkwX5_freePeg_1 : List UInt8 := [167, 255, 234, 2, 172]
abbrev dktX5_freePeg_1 : List UInt8 := dkwX5_freePeg_1 ++ []
def dkwX5_freePeg_0 : List UInt8 := [3, 60, 27, 42, 180, 0, 46, 162, 0, 20, 42, 27, 182, 0, 240, 2, 160, 0, 5, 27, 172, 132, 1, 1]
abbrev dktX5_freePeg_0 : List UInt8 := dkwX5_freePeg_0 ++ dktX5_freePeg_1
theorem dksX5_freePeg_0 : cX5_freePeg.data.toList.drop 0 = dktX5_freePeg_0 := by decide +kernel
theorem dksX5_freePeg_1 : cX5_freePeg.data.toList.drop 24 = dktX5_freePeg_1 := dk_seg dksX5_freePeg_0 24 rfl rfl
theorem dX5_freePeg_0 : decode cX5_freePeg 0 = .ok (.iconst 0, 1) := dk_3 (dk_at dksX5_freePeg_0 0 rfl rfl)
theorem dX5_freePeg_1 : decode cX5_freePeg 1 = .ok (.istore_n 1, 1) := dk_60 (dk_at dksX5_freePeg_0 1 rfl rfl)
theorem dX5_freePeg_2 : decode cX5_freePeg 2 = .ok (.iload_n 1, 1) := dk_27 (dk_at dksX5_freePeg_0 2 rfl rfl)
theorem dX5_freePeg_3 : decode cX5_freePeg 3 = .ok (.aload_n 0, 1) := dk_42 (dk_at dksX5_freePeg_0 3 rfl rfl)
theorem dX5_freePeg_4 : decode cX5_freePeg 4 = .ok (.getfield 46, 3) := dk_180 0 46 (dk_at dksX5_freePeg_0 4 rfl rfl)
theorem dX5_freePeg_7 : decode cX5_freePeg 7 = .ok (.if_icmp .ge 20, 3) := dk_162 0 20 (dk_at dksX5_freePeg_0 7 rfl rfl)
theorem dX5_freePeg_10 : decode cX5_freePeg 10 = .ok (.aload_n 0, 1) := dk_42 (dk_at dksX5_freePeg_0 10 rfl rfl)
theorem dX5_freePeg_11 : decode cX5_freePeg 11 = .ok (.iload_n 1, 1) := dk_27 (dk_at dksX5_freePeg_0 11 rfl rfl)
theorem dX5_freePeg_12 : decode cX5_freePeg 12 = .ok (.invokevirtual 240, 3) := dk_182 0 240 (dk_at dksX5_freePeg_0 12 rfl rfl)
theorem dX5_freePeg_15 : decode cX5_freePeg 15 = .ok (.iconst (-1), 1) := dk_2 (dk_at dksX5_freePeg_0 15 rfl rfl)
theorem dX5_freePeg_16 : decode cX5_freePeg 16 = .ok (.if_icmp .ne 5, 3) := dk_160 0 5 (dk_at dksX5_freePeg_0 16 rfl rfl)
theorem dX5_freePeg_19 : decode cX5_freePeg 19 = .ok (.iload_n 1, 1) := dk_27 (dk_at dksX5_freePeg_0 19 rfl rfl)
theorem dX5_freePeg_20 : decode cX5_freePeg 20 = .ok (.ireturn, 1) := dk_172 (dk_at dksX5_freePeg_0 20 rfl rfl)
theorem dX5_freePeg_21 : decode cX5_freePeg 21 = .ok (.iinc 1 1, 3) := dk_132 1 1 (dk_at dksX5_freePeg_0 21 rfl rfl)
theorem dX5_freePeg_24 : decode cX5_freePeg 24 = .ok (.goto (-22), 3) := dk_167 255 234 (dk_at dksX5_freePeg_1 0 rfl rfl)
theorem dX5_freePeg_27 : decode cX5_freePeg 27 = .ok (.iconst (-1), 1) := dk_2 (dk_at dksX5_freePeg_1 3 rfl rfl)
theorem dX5_freePeg_28 : decode cX5_freePeg 28 = .ok (.ireturn, 1) := dk_172 (dk_at dksX5_freePeg_1 4 rfl rfl)
abbrev cX5_onPeg : ByteArray := prog_18_method_29_code
def yX5_onPeg : MethodName := ⟨RX5, "onPeg", "(I)I"⟩
def dkwX5_onPeg_1 : List UInt8 := [132, 2, 1, 167, 255, 231, 2, 172]
abbrev dktX5_onPeg_1 : List UInt8 := dkwX5_onPeg_1 ++ []
def dkwX5_onPeg_0 : List UInt8 := [3, 61, 28, 42, 182, 0, 127, 162, 0, 23, 42, 28, 182, 0, 130, 27, 182, 0, 237, 153, 0, 5, 28, 172]
abbrev dktX5_onPeg_0 : List UInt8 := dkwX5_onPeg_0 ++ dktX5_onPeg_1
theorem dksX5_onPeg_0 : cX5_onPeg.data.toList.drop 0 = dktX5_onPeg_0 := by decide +kernel
theorem dksX5_onPeg_1 : cX5_onPeg.data.toList.drop 24 = dktX5_onPeg_1 := dk_seg dksX5_onPeg_0 24 rfl rfl
theorem dX5_onPeg_0 : decode cX5_onPeg 0 = .ok (.iconst 0, 1) := dk_3 (dk_at dksX5_onPeg_0 0 rfl rfl)
theorem dX5_onPeg_1 : decode cX5_onPeg 1 = .ok (.istore_n 2, 1) := dk_61 (dk_at dksX5_onPeg_0 1 rfl rfl)
theorem dX5_onPeg_2 : decode cX5_onPeg 2 = .ok (.iload_n 2, 1) := dk_28 (dk_at dksX5_onPeg_0 2 rfl rfl)
theorem dX5_onPeg_3 : decode cX5_onPeg 3 = .ok (.aload_n 0, 1) := dk_42 (dk_at dksX5_onPeg_0 3 rfl rfl)
theorem dX5_onPeg_4 : decode cX5_onPeg 4 = .ok (.invokevirtual 127, 3) := dk_182 0 127 (dk_at dksX5_onPeg_0 4 rfl rfl)
theorem dX5_onPeg_7 : decode cX5_onPeg 7 = .ok (.if_icmp .ge 23, 3) := dk_162 0 23 (dk_at dksX5_onPeg_0 7 rfl rfl)
theorem dX5_onPeg_10 : decode cX5_onPeg 10 = .ok (.aload_n 0, 1) := dk_42 (dk_at dksX5_onPeg_0 10 rfl rfl)
theorem dX5_onPeg_11 : decode cX5_onPeg 11 = .ok (.iload_n 2, 1) := dk_28 (dk_at dksX5_onPeg_0 11 rfl rfl)
theorem dX5_onPeg_12 : decode cX5_onPeg 12 = .ok (.invokevirtual 130, 3) := dk_182 0 130 (dk_at dksX5_onPeg_0 12 rfl rfl)
theorem dX5_onPeg_15 : decode cX5_onPeg 15 = .ok (.iload_n 1, 1) := dk_27 (dk_at dksX5_onPeg_0 15 rfl rfl)
theorem dX5_onPeg_16 : decode cX5_onPeg 16 = .ok (.invokevirtual 237, 3) := dk_182 0 237 (dk_at dksX5_onPeg_0 16 rfl rfl)
theorem dX5_onPeg_19 : decode cX5_onPeg 19 = .ok (.ifCond .eq 5, 3) := dk_153 0 5 (dk_at dksX5_onPeg_0 19 rfl rfl)
theorem dX5_onPeg_22 : decode cX5_onPeg 22 = .ok (.iload_n 2, 1) := dk_28 (dk_at dksX5_onPeg_0 22 rfl rfl)
theorem dX5_onPeg_23 : decode cX5_onPeg 23 = .ok (.ireturn, 1) := dk_172 (dk_at dksX5_onPeg_0 23 rfl rfl)
theorem dX5_onPeg_24 : decode cX5_onPeg 24 = .ok (.iinc 2 1, 3) := dk_132 2 1 (dk_at dksX5_onPeg_1 0 rfl rfl)
theorem dX5_onPeg_27 : decode cX5_onPeg 27 = .ok (.goto (-25), 3) := dk_167 255 231 (dk_at dksX5_onPeg_1 3 rfl rfl)
theorem dX5_onPeg_30 : decode cX5_onPeg 30 = .ok (.iconst (-1), 1) := dk_2 (dk_at dksX5_onPeg_1 6 rfl rfl)
theorem dX5_onPeg_31 : decode cX5_onPeg 31 = .ok (.ireturn, 1) := dk_172 (dk_at dksX5_onPeg_1 7 rfl rfl)
abbrev cX5_passes : ByteArray := prog_18_method_33_code
def yX5_passes : MethodName := ⟨RX5, "passes", "(I)I"⟩
def dkwX5_passes_0 : List UInt8 := [3, 61, 3, 62, 29, 27, 162, 0, 16, 28, 42, 182, 1, 1, 96, 61, 132, 3, 1, 167, 255, 241, 28, 172]
abbrev dktX5_passes_0 : List UInt8 := dkwX5_passes_0 ++ []
theorem dksX5_passes_0 : cX5_passes.data.toList.drop 0 = dktX5_passes_0 := by decide +kernel
theorem dX5_passes_0 : decode cX5_passes 0 = .ok (.iconst 0, 1) := dk_3 (dk_at dksX5_passes_0 0 rfl rfl)
theorem dX5_passes_1 : decode cX5_passes 1 = .ok (.istore_n 2, 1) := dk_61 (dk_at dksX5_passes_0 1 rfl rfl)
theorem dX5_passes_2 : decode cX5_passes 2 = .ok (.iconst 0, 1) := dk_3 (dk_at dksX5_passes_0 2 rfl rfl)
theorem dX5_passes_3 : decode cX5_passes 3 = .ok (.istore_n 3, 1) := dk_62 (dk_at dksX5_passes_0 3 rfl rfl)
theorem dX5_passes_4 : decode cX5_passes 4 = .ok (.iload_n 3, 1) := dk_29 (dk_at dksX5_passes_0 4 rfl rfl)
theorem dX5_passes_5 : decode cX5_passes 5 = .ok (.iload_n 1, 1) := dk_27 (dk_at dksX5_passes_0 5 rfl rfl)
theorem dX5_passes_6 : decode cX5_passes 6 = .ok (.if_icmp .ge 16, 3) := dk_162 0 16 (dk_at dksX5_passes_0 6 rfl rfl)
theorem dX5_passes_9 : decode cX5_passes 9 = .ok (.iload_n 2, 1) := dk_28 (dk_at dksX5_passes_0 9 rfl rfl)
theorem dX5_passes_10 : decode cX5_passes 10 = .ok (.aload_n 0, 1) := dk_42 (dk_at dksX5_passes_0 10 rfl rfl)
theorem dX5_passes_11 : decode cX5_passes 11 = .ok (.invokevirtual 257, 3) := dk_182 1 1 (dk_at dksX5_passes_0 11 rfl rfl)
theorem dX5_passes_14 : decode cX5_passes 14 = .ok (.iadd, 1) := dk_96 (dk_at dksX5_passes_0 14 rfl rfl)
theorem dX5_passes_15 : decode cX5_passes 15 = .ok (.istore_n 2, 1) := dk_61 (dk_at dksX5_passes_0 15 rfl rfl)
theorem dX5_passes_16 : decode cX5_passes 16 = .ok (.iinc 3 1, 3) := dk_132 3 1 (dk_at dksX5_passes_0 16 rfl rfl)
theorem dX5_passes_19 : decode cX5_passes 19 = .ok (.goto (-15), 3) := dk_167 255 241 (dk_at dksX5_passes_0 19 rfl rfl)
theorem dX5_passes_22 : decode cX5_passes 22 = .ok (.iload_n 2, 1) := dk_28 (dk_at dksX5_passes_0 22 rfl rfl)
theorem dX5_passes_23 : decode cX5_passes 23 = .ok (.ireturn, 1) := dk_172 (dk_at dksX5_passes_0 23 rfl rfl)
abbrev cX5_hour : ByteArray := prog_18_method_32_code
def yX5_hour : MethodName := ⟨RX5, "hour", "()I"⟩
def dkwX5_hour_5 : List UInt8 := [180, 0, 204, 4, 96, 184, 0, 174, 181, 0, 204, 42, 89, 180, 0, 109, 4, 96, 181, 0, 109, 4, 172]
abbrev dktX5_hour_5 : List UInt8 := dkwX5_hour_5 ++ []
def dkwX5_hour_4 : List UInt8 := [172, 42, 27, 182, 0, 130, 77, 44, 187, 0, 254, 89, 183, 1, 0, 181, 0, 215, 44, 16, 9, 44]
abbrev dktX5_hour_4 : List UInt8 := dkwX5_hour_4 ++ dktX5_hour_5
def dkwX5_hour_3 : List UInt8 := [182, 0, 251, 167, 0, 4, 2, 60, 42, 89, 180, 0, 94, 4, 96, 181, 0, 94, 27, 2, 160, 0, 5, 3]
abbrev dktX5_hour_3 : List UInt8 := dkwX5_hour_3 ++ dktX5_hour_4
def dkwX5_hour_2 : List UInt8 := [184, 0, 248, 181, 0, 245, 132, 1, 1, 167, 255, 202, 42, 180, 0, 97, 16, 7, 161, 0, 10, 42]
abbrev dktX5_hour_2 : List UInt8 := dkwX5_hour_2 ++ dktX5_hour_3
def dkwX5_hour_1 : List UInt8 := [42, 27, 182, 0, 130, 3, 42, 27, 182, 0, 130, 180, 0, 245, 4, 100, 42, 180, 0, 97, 6, 108, 100]
abbrev dktX5_hour_1 : List UInt8 := dkwX5_hour_1 ++ dktX5_hour_2
def dkwX5_hour_0 : List UInt8 := [3, 60, 27, 42, 182, 0, 127, 162, 0, 52, 42, 27, 182, 0, 130, 180, 0, 215, 193, 0, 243, 153, 0, 32]
abbrev dktX5_hour_0 : List UInt8 := dkwX5_hour_0 ++ dktX5_hour_1
theorem dksX5_hour_0 : cX5_hour.data.toList.drop 0 = dktX5_hour_0 := by decide +kernel
theorem dksX5_hour_1 : cX5_hour.data.toList.drop 24 = dktX5_hour_1 := dk_seg dksX5_hour_0 24 rfl rfl
theorem dksX5_hour_2 : cX5_hour.data.toList.drop 47 = dktX5_hour_2 := dk_seg dksX5_hour_1 23 rfl rfl
theorem dksX5_hour_3 : cX5_hour.data.toList.drop 69 = dktX5_hour_3 := dk_seg dksX5_hour_2 22 rfl rfl
theorem dksX5_hour_4 : cX5_hour.data.toList.drop 93 = dktX5_hour_4 := dk_seg dksX5_hour_3 24 rfl rfl
theorem dksX5_hour_5 : cX5_hour.data.toList.drop 115 = dktX5_hour_5 := dk_seg dksX5_hour_4 22 rfl rfl
theorem dX5_hour_0 : decode cX5_hour 0 = .ok (.iconst 0, 1) := dk_3 (dk_at dksX5_hour_0 0 rfl rfl)
theorem dX5_hour_1 : decode cX5_hour 1 = .ok (.istore_n 1, 1) := dk_60 (dk_at dksX5_hour_0 1 rfl rfl)
theorem dX5_hour_2 : decode cX5_hour 2 = .ok (.iload_n 1, 1) := dk_27 (dk_at dksX5_hour_0 2 rfl rfl)
theorem dX5_hour_3 : decode cX5_hour 3 = .ok (.aload_n 0, 1) := dk_42 (dk_at dksX5_hour_0 3 rfl rfl)
theorem dX5_hour_4 : decode cX5_hour 4 = .ok (.invokevirtual 127, 3) := dk_182 0 127 (dk_at dksX5_hour_0 4 rfl rfl)
theorem dX5_hour_7 : decode cX5_hour 7 = .ok (.if_icmp .ge 52, 3) := dk_162 0 52 (dk_at dksX5_hour_0 7 rfl rfl)
theorem dX5_hour_10 : decode cX5_hour 10 = .ok (.aload_n 0, 1) := dk_42 (dk_at dksX5_hour_0 10 rfl rfl)
theorem dX5_hour_11 : decode cX5_hour 11 = .ok (.iload_n 1, 1) := dk_27 (dk_at dksX5_hour_0 11 rfl rfl)
theorem dX5_hour_12 : decode cX5_hour 12 = .ok (.invokevirtual 130, 3) := dk_182 0 130 (dk_at dksX5_hour_0 12 rfl rfl)
theorem dX5_hour_15 : decode cX5_hour 15 = .ok (.getfield 215, 3) := dk_180 0 215 (dk_at dksX5_hour_0 15 rfl rfl)
theorem dX5_hour_18 : decode cX5_hour 18 = .ok (.instanceof 243, 3) := dk_193 0 243 (dk_at dksX5_hour_0 18 rfl rfl)
theorem dX5_hour_21 : decode cX5_hour 21 = .ok (.ifCond .eq 32, 3) := dk_153 0 32 (dk_at dksX5_hour_0 21 rfl rfl)
theorem dX5_hour_24 : decode cX5_hour 24 = .ok (.aload_n 0, 1) := dk_42 (dk_at dksX5_hour_1 0 rfl rfl)
theorem dX5_hour_25 : decode cX5_hour 25 = .ok (.iload_n 1, 1) := dk_27 (dk_at dksX5_hour_1 1 rfl rfl)
theorem dX5_hour_26 : decode cX5_hour 26 = .ok (.invokevirtual 130, 3) := dk_182 0 130 (dk_at dksX5_hour_1 2 rfl rfl)
theorem dX5_hour_29 : decode cX5_hour 29 = .ok (.iconst 0, 1) := dk_3 (dk_at dksX5_hour_1 5 rfl rfl)
theorem dX5_hour_30 : decode cX5_hour 30 = .ok (.aload_n 0, 1) := dk_42 (dk_at dksX5_hour_1 6 rfl rfl)
theorem dX5_hour_31 : decode cX5_hour 31 = .ok (.iload_n 1, 1) := dk_27 (dk_at dksX5_hour_1 7 rfl rfl)
theorem dX5_hour_32 : decode cX5_hour 32 = .ok (.invokevirtual 130, 3) := dk_182 0 130 (dk_at dksX5_hour_1 8 rfl rfl)
theorem dX5_hour_35 : decode cX5_hour 35 = .ok (.getfield 245, 3) := dk_180 0 245 (dk_at dksX5_hour_1 11 rfl rfl)
theorem dX5_hour_38 : decode cX5_hour 38 = .ok (.iconst 1, 1) := dk_4 (dk_at dksX5_hour_1 14 rfl rfl)
theorem dX5_hour_39 : decode cX5_hour 39 = .ok (.isub, 1) := dk_100 (dk_at dksX5_hour_1 15 rfl rfl)
theorem dX5_hour_40 : decode cX5_hour 40 = .ok (.aload_n 0, 1) := dk_42 (dk_at dksX5_hour_1 16 rfl rfl)
theorem dX5_hour_41 : decode cX5_hour 41 = .ok (.getfield 97, 3) := dk_180 0 97 (dk_at dksX5_hour_1 17 rfl rfl)
theorem dX5_hour_44 : decode cX5_hour 44 = .ok (.iconst 3, 1) := dk_6 (dk_at dksX5_hour_1 20 rfl rfl)
theorem dX5_hour_45 : decode cX5_hour 45 = .ok (.idiv, 1) := dk_108 (dk_at dksX5_hour_1 21 rfl rfl)
theorem dX5_hour_46 : decode cX5_hour 46 = .ok (.isub, 1) := dk_100 (dk_at dksX5_hour_1 22 rfl rfl)
theorem dX5_hour_47 : decode cX5_hour 47 = .ok (.invokestatic 248, 3) := dk_184 0 248 (dk_at dksX5_hour_2 0 rfl rfl)
theorem dX5_hour_50 : decode cX5_hour 50 = .ok (.putfield 245, 3) := dk_181 0 245 (dk_at dksX5_hour_2 3 rfl rfl)
theorem dX5_hour_53 : decode cX5_hour 53 = .ok (.iinc 1 1, 3) := dk_132 1 1 (dk_at dksX5_hour_2 6 rfl rfl)
theorem dX5_hour_56 : decode cX5_hour 56 = .ok (.goto (-54), 3) := dk_167 255 202 (dk_at dksX5_hour_2 9 rfl rfl)
theorem dX5_hour_59 : decode cX5_hour 59 = .ok (.aload_n 0, 1) := dk_42 (dk_at dksX5_hour_2 12 rfl rfl)
theorem dX5_hour_60 : decode cX5_hour 60 = .ok (.getfield 97, 3) := dk_180 0 97 (dk_at dksX5_hour_2 13 rfl rfl)
theorem dX5_hour_63 : decode cX5_hour 63 = .ok (.bipush 7, 2) := dk_16 7 (dk_at dksX5_hour_2 16 rfl rfl)
theorem dX5_hour_65 : decode cX5_hour 65 = .ok (.if_icmp .lt 10, 3) := dk_161 0 10 (dk_at dksX5_hour_2 18 rfl rfl)
theorem dX5_hour_68 : decode cX5_hour 68 = .ok (.aload_n 0, 1) := dk_42 (dk_at dksX5_hour_2 21 rfl rfl)
theorem dX5_hour_69 : decode cX5_hour 69 = .ok (.invokevirtual 251, 3) := dk_182 0 251 (dk_at dksX5_hour_3 0 rfl rfl)
theorem dX5_hour_72 : decode cX5_hour 72 = .ok (.goto 4, 3) := dk_167 0 4 (dk_at dksX5_hour_3 3 rfl rfl)
theorem dX5_hour_75 : decode cX5_hour 75 = .ok (.iconst (-1), 1) := dk_2 (dk_at dksX5_hour_3 6 rfl rfl)
theorem dX5_hour_76 : decode cX5_hour 76 = .ok (.istore_n 1, 1) := dk_60 (dk_at dksX5_hour_3 7 rfl rfl)
theorem dX5_hour_77 : decode cX5_hour 77 = .ok (.aload_n 0, 1) := dk_42 (dk_at dksX5_hour_3 8 rfl rfl)
theorem dX5_hour_78 : decode cX5_hour 78 = .ok (.dup, 1) := dk_89 (dk_at dksX5_hour_3 9 rfl rfl)
theorem dX5_hour_79 : decode cX5_hour 79 = .ok (.getfield 94, 3) := dk_180 0 94 (dk_at dksX5_hour_3 10 rfl rfl)
theorem dX5_hour_82 : decode cX5_hour 82 = .ok (.iconst 1, 1) := dk_4 (dk_at dksX5_hour_3 13 rfl rfl)
theorem dX5_hour_83 : decode cX5_hour 83 = .ok (.iadd, 1) := dk_96 (dk_at dksX5_hour_3 14 rfl rfl)
theorem dX5_hour_84 : decode cX5_hour 84 = .ok (.putfield 94, 3) := dk_181 0 94 (dk_at dksX5_hour_3 15 rfl rfl)
theorem dX5_hour_87 : decode cX5_hour 87 = .ok (.iload_n 1, 1) := dk_27 (dk_at dksX5_hour_3 18 rfl rfl)
theorem dX5_hour_88 : decode cX5_hour 88 = .ok (.iconst (-1), 1) := dk_2 (dk_at dksX5_hour_3 19 rfl rfl)
theorem dX5_hour_89 : decode cX5_hour 89 = .ok (.if_icmp .ne 5, 3) := dk_160 0 5 (dk_at dksX5_hour_3 20 rfl rfl)
theorem dX5_hour_92 : decode cX5_hour 92 = .ok (.iconst 0, 1) := dk_3 (dk_at dksX5_hour_3 23 rfl rfl)
theorem dX5_hour_93 : decode cX5_hour 93 = .ok (.ireturn, 1) := dk_172 (dk_at dksX5_hour_4 0 rfl rfl)
theorem dX5_hour_94 : decode cX5_hour 94 = .ok (.aload_n 0, 1) := dk_42 (dk_at dksX5_hour_4 1 rfl rfl)
theorem dX5_hour_95 : decode cX5_hour 95 = .ok (.iload_n 1, 1) := dk_27 (dk_at dksX5_hour_4 2 rfl rfl)
theorem dX5_hour_96 : decode cX5_hour 96 = .ok (.invokevirtual 130, 3) := dk_182 0 130 (dk_at dksX5_hour_4 3 rfl rfl)
theorem dX5_hour_99 : decode cX5_hour 99 = .ok (.astore_n 2, 1) := dk_77 (dk_at dksX5_hour_4 6 rfl rfl)
theorem dX5_hour_100 : decode cX5_hour 100 = .ok (.aload_n 2, 1) := dk_44 (dk_at dksX5_hour_4 7 rfl rfl)
theorem dX5_hour_101 : decode cX5_hour 101 = .ok (.new 254, 3) := dk_187 0 254 (dk_at dksX5_hour_4 8 rfl rfl)
theorem dX5_hour_104 : decode cX5_hour 104 = .ok (.dup, 1) := dk_89 (dk_at dksX5_hour_4 11 rfl rfl)
theorem dX5_hour_105 : decode cX5_hour 105 = .ok (.invokespecial 256, 3) := dk_183 1 0 (dk_at dksX5_hour_4 12 rfl rfl)
theorem dX5_hour_108 : decode cX5_hour 108 = .ok (.putfield 215, 3) := dk_181 0 215 (dk_at dksX5_hour_4 15 rfl rfl)
theorem dX5_hour_111 : decode cX5_hour 111 = .ok (.aload_n 2, 1) := dk_44 (dk_at dksX5_hour_4 18 rfl rfl)
theorem dX5_hour_112 : decode cX5_hour 112 = .ok (.bipush 9, 2) := dk_16 9 (dk_at dksX5_hour_4 19 rfl rfl)
theorem dX5_hour_114 : decode cX5_hour 114 = .ok (.aload_n 2, 1) := dk_44 (dk_at dksX5_hour_4 21 rfl rfl)
theorem dX5_hour_115 : decode cX5_hour 115 = .ok (.getfield 204, 3) := dk_180 0 204 (dk_at dksX5_hour_5 0 rfl rfl)
theorem dX5_hour_118 : decode cX5_hour 118 = .ok (.iconst 1, 1) := dk_4 (dk_at dksX5_hour_5 3 rfl rfl)
theorem dX5_hour_119 : decode cX5_hour 119 = .ok (.iadd, 1) := dk_96 (dk_at dksX5_hour_5 4 rfl rfl)
theorem dX5_hour_120 : decode cX5_hour 120 = .ok (.invokestatic 174, 3) := dk_184 0 174 (dk_at dksX5_hour_5 5 rfl rfl)
theorem dX5_hour_123 : decode cX5_hour 123 = .ok (.putfield 204, 3) := dk_181 0 204 (dk_at dksX5_hour_5 8 rfl rfl)
theorem dX5_hour_126 : decode cX5_hour 126 = .ok (.aload_n 0, 1) := dk_42 (dk_at dksX5_hour_5 11 rfl rfl)
theorem dX5_hour_127 : decode cX5_hour 127 = .ok (.dup, 1) := dk_89 (dk_at dksX5_hour_5 12 rfl rfl)
theorem dX5_hour_128 : decode cX5_hour 128 = .ok (.getfield 109, 3) := dk_180 0 109 (dk_at dksX5_hour_5 13 rfl rfl)
theorem dX5_hour_131 : decode cX5_hour 131 = .ok (.iconst 1, 1) := dk_4 (dk_at dksX5_hour_5 16 rfl rfl)
theorem dX5_hour_132 : decode cX5_hour 132 = .ok (.iadd, 1) := dk_96 (dk_at dksX5_hour_5 17 rfl rfl)
theorem dX5_hour_133 : decode cX5_hour 133 = .ok (.putfield 109, 3) := dk_181 0 109 (dk_at dksX5_hour_5 18 rfl rfl)
theorem dX5_hour_136 : decode cX5_hour 136 = .ok (.iconst 1, 1) := dk_4 (dk_at dksX5_hour_5 21 rfl rfl)
theorem dX5_hour_137 : decode cX5_hour 137 = .ok (.ireturn, 1) := dk_172 (dk_at dksX5_hour_5 22 rfl rfl)
abbrev cX5_lastOnLine : ByteArray := prog_18_method_31_code
def yX5_lastOnLine : MethodName := ⟨RX5, "lastOnLine", "()I"⟩
def dkwX5_lastOnLine_1 : List UInt8 := [182, 0, 240, 172, 132, 1, 255, 167, 255, 234, 2, 172]
abbrev dktX5_lastOnLine_1 : List UInt8 := dkwX5_lastOnLine_1 ++ []
def dkwX5_lastOnLine_0 : List UInt8 := [42, 180, 0, 46, 4, 100, 60, 27, 155, 0, 24, 42, 27, 182, 0, 240, 2, 159, 0, 9, 42, 27]
abbrev dktX5_lastOnLine_0 : List UInt8 := dkwX5_lastOnLine_0 ++ dktX5_lastOnLine_1
theorem dksX5_lastOnLine_0 : cX5_lastOnLine.data.toList.drop 0 = dktX5_lastOnLine_0 := by decide +kernel
theorem dksX5_lastOnLine_1 : cX5_lastOnLine.data.toList.drop 22 = dktX5_lastOnLine_1 := dk_seg dksX5_lastOnLine_0 22 rfl rfl
theorem dX5_lastOnLine_0 : decode cX5_lastOnLine 0 = .ok (.aload_n 0, 1) := dk_42 (dk_at dksX5_lastOnLine_0 0 rfl rfl)
theorem dX5_lastOnLine_1 : decode cX5_lastOnLine 1 = .ok (.getfield 46, 3) := dk_180 0 46 (dk_at dksX5_lastOnLine_0 1 rfl rfl)
theorem dX5_lastOnLine_4 : decode cX5_lastOnLine 4 = .ok (.iconst 1, 1) := dk_4 (dk_at dksX5_lastOnLine_0 4 rfl rfl)
theorem dX5_lastOnLine_5 : decode cX5_lastOnLine 5 = .ok (.isub, 1) := dk_100 (dk_at dksX5_lastOnLine_0 5 rfl rfl)
theorem dX5_lastOnLine_6 : decode cX5_lastOnLine 6 = .ok (.istore_n 1, 1) := dk_60 (dk_at dksX5_lastOnLine_0 6 rfl rfl)
theorem dX5_lastOnLine_7 : decode cX5_lastOnLine 7 = .ok (.iload_n 1, 1) := dk_27 (dk_at dksX5_lastOnLine_0 7 rfl rfl)
theorem dX5_lastOnLine_8 : decode cX5_lastOnLine 8 = .ok (.ifCond .lt 24, 3) := dk_155 0 24 (dk_at dksX5_lastOnLine_0 8 rfl rfl)
theorem dX5_lastOnLine_11 : decode cX5_lastOnLine 11 = .ok (.aload_n 0, 1) := dk_42 (dk_at dksX5_lastOnLine_0 11 rfl rfl)
theorem dX5_lastOnLine_12 : decode cX5_lastOnLine 12 = .ok (.iload_n 1, 1) := dk_27 (dk_at dksX5_lastOnLine_0 12 rfl rfl)
theorem dX5_lastOnLine_13 : decode cX5_lastOnLine 13 = .ok (.invokevirtual 240, 3) := dk_182 0 240 (dk_at dksX5_lastOnLine_0 13 rfl rfl)
theorem dX5_lastOnLine_16 : decode cX5_lastOnLine 16 = .ok (.iconst (-1), 1) := dk_2 (dk_at dksX5_lastOnLine_0 16 rfl rfl)
theorem dX5_lastOnLine_17 : decode cX5_lastOnLine 17 = .ok (.if_icmp .eq 9, 3) := dk_159 0 9 (dk_at dksX5_lastOnLine_0 17 rfl rfl)
theorem dX5_lastOnLine_20 : decode cX5_lastOnLine 20 = .ok (.aload_n 0, 1) := dk_42 (dk_at dksX5_lastOnLine_0 20 rfl rfl)
theorem dX5_lastOnLine_21 : decode cX5_lastOnLine 21 = .ok (.iload_n 1, 1) := dk_27 (dk_at dksX5_lastOnLine_0 21 rfl rfl)
theorem dX5_lastOnLine_22 : decode cX5_lastOnLine 22 = .ok (.invokevirtual 240, 3) := dk_182 0 240 (dk_at dksX5_lastOnLine_1 0 rfl rfl)
theorem dX5_lastOnLine_25 : decode cX5_lastOnLine 25 = .ok (.ireturn, 1) := dk_172 (dk_at dksX5_lastOnLine_1 3 rfl rfl)
theorem dX5_lastOnLine_26 : decode cX5_lastOnLine 26 = .ok (.iinc 1 (-1), 3) := dk_132 1 255 (dk_at dksX5_lastOnLine_1 4 rfl rfl)
theorem dX5_lastOnLine_29 : decode cX5_lastOnLine 29 = .ok (.goto (-22), 3) := dk_167 255 234 (dk_at dksX5_lastOnLine_1 7 rfl rfl)
theorem dX5_lastOnLine_32 : decode cX5_lastOnLine 32 = .ok (.iconst (-1), 1) := dk_2 (dk_at dksX5_lastOnLine_1 10 rfl rfl)
theorem dX5_lastOnLine_33 : decode cX5_lastOnLine 33 = .ok (.ireturn, 1) := dk_172 (dk_at dksX5_lastOnLine_1 11 rfl rfl)
abbrev cX5_at : ByteArray := prog_18_method_9_code
def yX5_at : MethodName := ⟨RX5, "at", "(I)I"⟩
def dkwX5_at_0 : List UInt8 := [42, 27, 186, 0, 141, 0, 0, 182, 0, 144, 172]
abbrev dktX5_at_0 : List UInt8 := dkwX5_at_0 ++ []
theorem dksX5_at_0 : cX5_at.data.toList.drop 0 = dktX5_at_0 := by decide +kernel
theorem dX5_at_0 : decode cX5_at 0 = .ok (.aload_n 0, 1) := dk_42 (dk_at dksX5_at_0 0 rfl rfl)
theorem dX5_at_1 : decode cX5_at 1 = .ok (.iload_n 1, 1) := dk_27 (dk_at dksX5_at_0 1 rfl rfl)
theorem dX5_at_2 : decode cX5_at 2 = .ok (.invokedynamic 141, 5) := by decide +kernel
theorem dX5_at_7 : decode cX5_at 7 = .ok (.invokevirtual 144, 3) := dk_182 0 144 (dk_at dksX5_at_0 7 rfl rfl)
theorem dX5_at_10 : decode cX5_at 10 = .ok (.ireturn, 1) := dk_172 (dk_at dksX5_at_0 10 rfl rfl)
abbrev cX5_lambda_at_7 : ByteArray := prog_18_method_43_code
def yX5_lambda_at_7 : MethodName := ⟨RX5, "lambda$at$7", "(ILFlagLaundry$Flag;)Z"⟩
def dkwX5_lambda_at_7_0 : List UInt8 := [43, 180, 0, 215, 184, 1, 36, 26, 160, 0, 7, 4, 167, 0, 4, 3, 172]
abbrev dktX5_lambda_at_7_0 : List UInt8 := dkwX5_lambda_at_7_0 ++ []
theorem dksX5_lambda_at_7_0 : cX5_lambda_at_7.data.toList.drop 0 = dktX5_lambda_at_7_0 := by decide +kernel
theorem dX5_lambda_at_7_0 : decode cX5_lambda_at_7 0 = .ok (.aload_n 1, 1) := dk_43 (dk_at dksX5_lambda_at_7_0 0 rfl rfl)
theorem dX5_lambda_at_7_1 : decode cX5_lambda_at_7 1 = .ok (.getfield 215, 3) := dk_180 0 215 (dk_at dksX5_lambda_at_7_0 1 rfl rfl)
theorem dX5_lambda_at_7_4 : decode cX5_lambda_at_7 4 = .ok (.invokestatic 292, 3) := dk_184 1 36 (dk_at dksX5_lambda_at_7_0 4 rfl rfl)
theorem dX5_lambda_at_7_7 : decode cX5_lambda_at_7 7 = .ok (.iload_n 0, 1) := dk_26 (dk_at dksX5_lambda_at_7_0 7 rfl rfl)
theorem dX5_lambda_at_7_8 : decode cX5_lambda_at_7 8 = .ok (.if_icmp .ne 7, 3) := dk_160 0 7 (dk_at dksX5_lambda_at_7_0 8 rfl rfl)
theorem dX5_lambda_at_7_11 : decode cX5_lambda_at_7 11 = .ok (.iconst 1, 1) := dk_4 (dk_at dksX5_lambda_at_7_0 11 rfl rfl)
theorem dX5_lambda_at_7_12 : decode cX5_lambda_at_7 12 = .ok (.goto 4, 3) := dk_167 0 4 (dk_at dksX5_lambda_at_7_0 12 rfl rfl)
theorem dX5_lambda_at_7_15 : decode cX5_lambda_at_7 15 = .ok (.iconst 0, 1) := dk_3 (dk_at dksX5_lambda_at_7_0 15 rfl rfl)
theorem dX5_lambda_at_7_16 : decode cX5_lambda_at_7 16 = .ok (.ireturn, 1) := dk_172 (dk_at dksX5_lambda_at_7_0 16 rfl rfl)
abbrev cX5_ready : ByteArray := prog_18_method_12_code
def yX5_ready : MethodName := ⟨RX5, "ready", "()I"⟩
def dkwX5_ready_0 : List UInt8 := [42, 42, 186, 0, 153, 0, 0, 182, 0, 144, 172]
abbrev dktX5_ready_0 : List UInt8 := dkwX5_ready_0 ++ []
theorem dksX5_ready_0 : cX5_ready.data.toList.drop 0 = dktX5_ready_0 := by decide +kernel
theorem dX5_ready_0 : decode cX5_ready 0 = .ok (.aload_n 0, 1) := dk_42 (dk_at dksX5_ready_0 0 rfl rfl)
theorem dX5_ready_1 : decode cX5_ready 1 = .ok (.aload_n 0, 1) := dk_42 (dk_at dksX5_ready_0 1 rfl rfl)
theorem dX5_ready_2 : decode cX5_ready 2 = .ok (.invokedynamic 153, 5) := by decide +kernel
theorem dX5_ready_7 : decode cX5_ready 7 = .ok (.invokevirtual 144, 3) := dk_182 0 144 (dk_at dksX5_ready_0 7 rfl rfl)
theorem dX5_ready_10 : decode cX5_ready 10 = .ok (.ireturn, 1) := dk_172 (dk_at dksX5_ready_0 10 rfl rfl)
abbrev cX5_lambda_ready_9 : ByteArray := prog_18_method_41_code
def yX5_lambda_ready_9 : MethodName := ⟨RX5, "lambda$ready$9", "(LFlagLaundry$Flag;)Z"⟩
def dkwX5_lambda_ready_9_0 : List UInt8 := [42, 43, 182, 0, 163, 154, 0, 7, 4, 167, 0, 4, 3, 172]
abbrev dktX5_lambda_ready_9_0 : List UInt8 := dkwX5_lambda_ready_9_0 ++ []
theorem dksX5_lambda_ready_9_0 : cX5_lambda_ready_9.data.toList.drop 0 = dktX5_lambda_ready_9_0 := by decide +kernel
theorem dX5_lambda_ready_9_0 : decode cX5_lambda_ready_9 0 = .ok (.aload_n 0, 1) := dk_42 (dk_at dksX5_lambda_ready_9_0 0 rfl rfl)
theorem dX5_lambda_ready_9_1 : decode cX5_lambda_ready_9 1 = .ok (.aload_n 1, 1) := dk_43 (dk_at dksX5_lambda_ready_9_0 1 rfl rfl)
theorem dX5_lambda_ready_9_2 : decode cX5_lambda_ready_9 2 = .ok (.invokevirtual 163, 3) := dk_182 0 163 (dk_at dksX5_lambda_ready_9_0 2 rfl rfl)
theorem dX5_lambda_ready_9_5 : decode cX5_lambda_ready_9 5 = .ok (.ifCond .ne 7, 3) := dk_154 0 7 (dk_at dksX5_lambda_ready_9_0 5 rfl rfl)
theorem dX5_lambda_ready_9_8 : decode cX5_lambda_ready_9 8 = .ok (.iconst 1, 1) := dk_4 (dk_at dksX5_lambda_ready_9_0 8 rfl rfl)
theorem dX5_lambda_ready_9_9 : decode cX5_lambda_ready_9 9 = .ok (.goto 4, 3) := dk_167 0 4 (dk_at dksX5_lambda_ready_9_0 9 rfl rfl)
theorem dX5_lambda_ready_9_12 : decode cX5_lambda_ready_9 12 = .ok (.iconst 0, 1) := dk_3 (dk_at dksX5_lambda_ready_9_0 12 rfl rfl)
theorem dX5_lambda_ready_9_13 : decode cX5_lambda_ready_9 13 = .ok (.ireturn, 1) := dk_172 (dk_at dksX5_lambda_ready_9_0 13 rfl rfl)
abbrev cX5_why : ByteArray := prog_18_method_11_code
def yX5_why : MethodName := ⟨RX5, "why", "(LFlagLaundry$Flag;)I"⟩
def dkwX5_why_0 : List UInt8 := [43, 42, 180, 0, 42, 184, 0, 149, 172]
abbrev dktX5_why_0 : List UInt8 := dkwX5_why_0 ++ []
theorem dksX5_why_0 : cX5_why.data.toList.drop 0 = dktX5_why_0 := by decide +kernel
theorem dX5_why_0 : decode cX5_why 0 = .ok (.aload_n 1, 1) := dk_43 (dk_at dksX5_why_0 0 rfl rfl)
theorem dX5_why_1 : decode cX5_why 1 = .ok (.aload_n 0, 1) := dk_42 (dk_at dksX5_why_0 1 rfl rfl)
theorem dX5_why_2 : decode cX5_why 2 = .ok (.getfield 42, 3) := dk_180 0 42 (dk_at dksX5_why_0 2 rfl rfl)
theorem dX5_why_5 : decode cX5_why 5 = .ok (.invokestatic 149, 3) := dk_184 0 149 (dk_at dksX5_why_0 5 rfl rfl)
theorem dX5_why_8 : decode cX5_why 8 = .ok (.ireturn, 1) := dk_172 (dk_at dksX5_why_0 8 rfl rfl)
abbrev cX5_nation : ByteArray := prog_18_method_6_code
def yX5_nation : MethodName := ⟨RX5, "nation", "(I)LFlagLaundry$Nation;"⟩
def dkwX5_nation_0 : List UInt8 := [42, 180, 0, 23, 27, 185, 0, 119, 2, 0, 192, 0, 73, 176]
abbrev dktX5_nation_0 : List UInt8 := dkwX5_nation_0 ++ []
theorem dksX5_nation_0 : cX5_nation.data.toList.drop 0 = dktX5_nation_0 := by decide +kernel
theorem dX5_nation_0 : decode cX5_nation 0 = .ok (.aload_n 0, 1) := dk_42 (dk_at dksX5_nation_0 0 rfl rfl)
theorem dX5_nation_1 : decode cX5_nation 1 = .ok (.getfield 23, 3) := dk_180 0 23 (dk_at dksX5_nation_0 1 rfl rfl)
theorem dX5_nation_4 : decode cX5_nation 4 = .ok (.iload_n 1, 1) := dk_27 (dk_at dksX5_nation_0 4 rfl rfl)
theorem dX5_nation_5 : decode cX5_nation 5 = .ok (.invokeinterface 119 2, 5) := by decide +kernel
theorem dX5_nation_10 : decode cX5_nation 10 = .ok (.checkcast 73, 3) := dk_192 0 73 (dk_at dksX5_nation_0 10 rfl rfl)
theorem dX5_nation_13 : decode cX5_nation 13 = .ok (.areturn, 1) := dk_176 (dk_at dksX5_nation_0 13 rfl rfl)
abbrev cX5_flagsOf : ByteArray := prog_18_method_14_code
def yX5_flagsOf : MethodName := ⟨RX5, "flagsOf", "(I)I"⟩
def dkwX5_flagsOf_0 : List UInt8 := [42, 27, 186, 0, 159, 0, 0, 182, 0, 144, 172]
abbrev dktX5_flagsOf_0 : List UInt8 := dkwX5_flagsOf_0 ++ []
theorem dksX5_flagsOf_0 : cX5_flagsOf.data.toList.drop 0 = dktX5_flagsOf_0 := by decide +kernel
theorem dX5_flagsOf_0 : decode cX5_flagsOf 0 = .ok (.aload_n 0, 1) := dk_42 (dk_at dksX5_flagsOf_0 0 rfl rfl)
theorem dX5_flagsOf_1 : decode cX5_flagsOf 1 = .ok (.iload_n 1, 1) := dk_27 (dk_at dksX5_flagsOf_0 1 rfl rfl)
theorem dX5_flagsOf_2 : decode cX5_flagsOf 2 = .ok (.invokedynamic 159, 5) := by decide +kernel
theorem dX5_flagsOf_7 : decode cX5_flagsOf 7 = .ok (.invokevirtual 144, 3) := dk_182 0 144 (dk_at dksX5_flagsOf_0 7 rfl rfl)
theorem dX5_flagsOf_10 : decode cX5_flagsOf 10 = .ok (.ireturn, 1) := dk_172 (dk_at dksX5_flagsOf_0 10 rfl rfl)
abbrev cX5_lambda_flagsOf_11 : ByteArray := prog_18_method_39_code
def yX5_lambda_flagsOf_11 : MethodName := ⟨RX5, "lambda$flagsOf$11", "(ILFlagLaundry$Flag;)Z"⟩
def dkwX5_lambda_flagsOf_11_0 : List UInt8 := [43, 180, 0, 160, 26, 160, 0, 7, 4, 167, 0, 4, 3, 172]
abbrev dktX5_lambda_flagsOf_11_0 : List UInt8 := dkwX5_lambda_flagsOf_11_0 ++ []
theorem dksX5_lambda_flagsOf_11_0 : cX5_lambda_flagsOf_11.data.toList.drop 0 = dktX5_lambda_flagsOf_11_0 := by decide +kernel
theorem dX5_lambda_flagsOf_11_0 : decode cX5_lambda_flagsOf_11 0 = .ok (.aload_n 1, 1) := dk_43 (dk_at dksX5_lambda_flagsOf_11_0 0 rfl rfl)
theorem dX5_lambda_flagsOf_11_1 : decode cX5_lambda_flagsOf_11 1 = .ok (.getfield 160, 3) := dk_180 0 160 (dk_at dksX5_lambda_flagsOf_11_0 1 rfl rfl)
theorem dX5_lambda_flagsOf_11_4 : decode cX5_lambda_flagsOf_11 4 = .ok (.iload_n 0, 1) := dk_26 (dk_at dksX5_lambda_flagsOf_11_0 4 rfl rfl)
theorem dX5_lambda_flagsOf_11_5 : decode cX5_lambda_flagsOf_11 5 = .ok (.if_icmp .ne 7, 3) := dk_160 0 7 (dk_at dksX5_lambda_flagsOf_11_0 5 rfl rfl)
theorem dX5_lambda_flagsOf_11_8 : decode cX5_lambda_flagsOf_11 8 = .ok (.iconst 1, 1) := dk_4 (dk_at dksX5_lambda_flagsOf_11_0 8 rfl rfl)
theorem dX5_lambda_flagsOf_11_9 : decode cX5_lambda_flagsOf_11 9 = .ok (.goto 4, 3) := dk_167 0 4 (dk_at dksX5_lambda_flagsOf_11_0 9 rfl rfl)
theorem dX5_lambda_flagsOf_11_12 : decode cX5_lambda_flagsOf_11 12 = .ok (.iconst 0, 1) := dk_3 (dk_at dksX5_lambda_flagsOf_11_0 12 rfl rfl)
theorem dX5_lambda_flagsOf_11_13 : decode cX5_lambda_flagsOf_11 13 = .ok (.ireturn, 1) := dk_172 (dk_at dksX5_lambda_flagsOf_11_0 13 rfl rfl)
abbrev cX5_readyOf : ByteArray := prog_18_method_13_code
def yX5_readyOf : MethodName := ⟨RX5, "readyOf", "(I)I"⟩
def dkwX5_readyOf_0 : List UInt8 := [42, 42, 27, 186, 0, 156, 0, 0, 182, 0, 144, 172]
abbrev dktX5_readyOf_0 : List UInt8 := dkwX5_readyOf_0 ++ []
theorem dksX5_readyOf_0 : cX5_readyOf.data.toList.drop 0 = dktX5_readyOf_0 := by decide +kernel
theorem dX5_readyOf_0 : decode cX5_readyOf 0 = .ok (.aload_n 0, 1) := dk_42 (dk_at dksX5_readyOf_0 0 rfl rfl)
theorem dX5_readyOf_1 : decode cX5_readyOf 1 = .ok (.aload_n 0, 1) := dk_42 (dk_at dksX5_readyOf_0 1 rfl rfl)
theorem dX5_readyOf_2 : decode cX5_readyOf 2 = .ok (.iload_n 1, 1) := dk_27 (dk_at dksX5_readyOf_0 2 rfl rfl)
theorem dX5_readyOf_3 : decode cX5_readyOf 3 = .ok (.invokedynamic 156, 5) := by decide +kernel
theorem dX5_readyOf_8 : decode cX5_readyOf 8 = .ok (.invokevirtual 144, 3) := dk_182 0 144 (dk_at dksX5_readyOf_0 8 rfl rfl)
theorem dX5_readyOf_11 : decode cX5_readyOf 11 = .ok (.ireturn, 1) := dk_172 (dk_at dksX5_readyOf_0 11 rfl rfl)
abbrev cX5_lambda_readyOf_10 : ByteArray := prog_18_method_40_code
def yX5_lambda_readyOf_10 : MethodName := ⟨RX5, "lambda$readyOf$10", "(ILFlagLaundry$Flag;)Z"⟩
def dkwX5_lambda_readyOf_10_0 : List UInt8 := [44, 180, 0, 160, 27, 160, 0, 15, 42, 44, 182, 0, 163, 154, 0, 7, 4, 167, 0, 4, 3, 172]
abbrev dktX5_lambda_readyOf_10_0 : List UInt8 := dkwX5_lambda_readyOf_10_0 ++ []
theorem dksX5_lambda_readyOf_10_0 : cX5_lambda_readyOf_10.data.toList.drop 0 = dktX5_lambda_readyOf_10_0 := by decide +kernel
theorem dX5_lambda_readyOf_10_0 : decode cX5_lambda_readyOf_10 0 = .ok (.aload_n 2, 1) := dk_44 (dk_at dksX5_lambda_readyOf_10_0 0 rfl rfl)
theorem dX5_lambda_readyOf_10_1 : decode cX5_lambda_readyOf_10 1 = .ok (.getfield 160, 3) := dk_180 0 160 (dk_at dksX5_lambda_readyOf_10_0 1 rfl rfl)
theorem dX5_lambda_readyOf_10_4 : decode cX5_lambda_readyOf_10 4 = .ok (.iload_n 1, 1) := dk_27 (dk_at dksX5_lambda_readyOf_10_0 4 rfl rfl)
theorem dX5_lambda_readyOf_10_5 : decode cX5_lambda_readyOf_10 5 = .ok (.if_icmp .ne 15, 3) := dk_160 0 15 (dk_at dksX5_lambda_readyOf_10_0 5 rfl rfl)
theorem dX5_lambda_readyOf_10_8 : decode cX5_lambda_readyOf_10 8 = .ok (.aload_n 0, 1) := dk_42 (dk_at dksX5_lambda_readyOf_10_0 8 rfl rfl)
theorem dX5_lambda_readyOf_10_9 : decode cX5_lambda_readyOf_10 9 = .ok (.aload_n 2, 1) := dk_44 (dk_at dksX5_lambda_readyOf_10_0 9 rfl rfl)
theorem dX5_lambda_readyOf_10_10 : decode cX5_lambda_readyOf_10 10 = .ok (.invokevirtual 163, 3) := dk_182 0 163 (dk_at dksX5_lambda_readyOf_10_0 10 rfl rfl)
theorem dX5_lambda_readyOf_10_13 : decode cX5_lambda_readyOf_10 13 = .ok (.ifCond .ne 7, 3) := dk_154 0 7 (dk_at dksX5_lambda_readyOf_10_0 13 rfl rfl)
theorem dX5_lambda_readyOf_10_16 : decode cX5_lambda_readyOf_10 16 = .ok (.iconst 1, 1) := dk_4 (dk_at dksX5_lambda_readyOf_10_0 16 rfl rfl)
theorem dX5_lambda_readyOf_10_17 : decode cX5_lambda_readyOf_10 17 = .ok (.goto 4, 3) := dk_167 0 4 (dk_at dksX5_lambda_readyOf_10_0 17 rfl rfl)
theorem dX5_lambda_readyOf_10_20 : decode cX5_lambda_readyOf_10 20 = .ok (.iconst 0, 1) := dk_3 (dk_at dksX5_lambda_readyOf_10_0 20 rfl rfl)
theorem dX5_lambda_readyOf_10_21 : decode cX5_lambda_readyOf_10 21 = .ok (.ireturn, 1) := dk_172 (dk_at dksX5_lambda_readyOf_10_0 21 rfl rfl)
abbrev cX5_dirtIn : ByteArray := prog_18_method_22_code
def yX5_dirtIn : MethodName := ⟨RX5, "dirtIn", "(I)I"⟩
def dkwX5_dirtIn_2 : List UInt8 := [172]
abbrev dktX5_dirtIn_2 : List UInt8 := dkwX5_dirtIn_2 ++ []
def dkwX5_dirtIn_1 : List UInt8 := [153, 0, 14, 42, 29, 182, 0, 130, 180, 0, 204, 167, 0, 4, 3, 96, 61, 132, 3, 1, 167, 255, 218, 28]
abbrev dktX5_dirtIn_1 : List UInt8 := dkwX5_dirtIn_1 ++ dktX5_dirtIn_2
def dkwX5_dirtIn_0 : List UInt8 := [3, 61, 3, 62, 29, 42, 182, 0, 127, 162, 0, 36, 28, 42, 29, 182, 0, 130, 27, 182, 0, 167]
abbrev dktX5_dirtIn_0 : List UInt8 := dkwX5_dirtIn_0 ++ dktX5_dirtIn_1
theorem dksX5_dirtIn_0 : cX5_dirtIn.data.toList.drop 0 = dktX5_dirtIn_0 := by decide +kernel
theorem dksX5_dirtIn_1 : cX5_dirtIn.data.toList.drop 22 = dktX5_dirtIn_1 := dk_seg dksX5_dirtIn_0 22 rfl rfl
theorem dksX5_dirtIn_2 : cX5_dirtIn.data.toList.drop 46 = dktX5_dirtIn_2 := dk_seg dksX5_dirtIn_1 24 rfl rfl
theorem dX5_dirtIn_0 : decode cX5_dirtIn 0 = .ok (.iconst 0, 1) := dk_3 (dk_at dksX5_dirtIn_0 0 rfl rfl)
theorem dX5_dirtIn_1 : decode cX5_dirtIn 1 = .ok (.istore_n 2, 1) := dk_61 (dk_at dksX5_dirtIn_0 1 rfl rfl)
theorem dX5_dirtIn_2 : decode cX5_dirtIn 2 = .ok (.iconst 0, 1) := dk_3 (dk_at dksX5_dirtIn_0 2 rfl rfl)
theorem dX5_dirtIn_3 : decode cX5_dirtIn 3 = .ok (.istore_n 3, 1) := dk_62 (dk_at dksX5_dirtIn_0 3 rfl rfl)
theorem dX5_dirtIn_4 : decode cX5_dirtIn 4 = .ok (.iload_n 3, 1) := dk_29 (dk_at dksX5_dirtIn_0 4 rfl rfl)
theorem dX5_dirtIn_5 : decode cX5_dirtIn 5 = .ok (.aload_n 0, 1) := dk_42 (dk_at dksX5_dirtIn_0 5 rfl rfl)
theorem dX5_dirtIn_6 : decode cX5_dirtIn 6 = .ok (.invokevirtual 127, 3) := dk_182 0 127 (dk_at dksX5_dirtIn_0 6 rfl rfl)
theorem dX5_dirtIn_9 : decode cX5_dirtIn 9 = .ok (.if_icmp .ge 36, 3) := dk_162 0 36 (dk_at dksX5_dirtIn_0 9 rfl rfl)
theorem dX5_dirtIn_12 : decode cX5_dirtIn 12 = .ok (.iload_n 2, 1) := dk_28 (dk_at dksX5_dirtIn_0 12 rfl rfl)
theorem dX5_dirtIn_13 : decode cX5_dirtIn 13 = .ok (.aload_n 0, 1) := dk_42 (dk_at dksX5_dirtIn_0 13 rfl rfl)
theorem dX5_dirtIn_14 : decode cX5_dirtIn 14 = .ok (.iload_n 3, 1) := dk_29 (dk_at dksX5_dirtIn_0 14 rfl rfl)
theorem dX5_dirtIn_15 : decode cX5_dirtIn 15 = .ok (.invokevirtual 130, 3) := dk_182 0 130 (dk_at dksX5_dirtIn_0 15 rfl rfl)
theorem dX5_dirtIn_18 : decode cX5_dirtIn 18 = .ok (.iload_n 1, 1) := dk_27 (dk_at dksX5_dirtIn_0 18 rfl rfl)
theorem dX5_dirtIn_19 : decode cX5_dirtIn 19 = .ok (.invokevirtual 167, 3) := dk_182 0 167 (dk_at dksX5_dirtIn_0 19 rfl rfl)
theorem dX5_dirtIn_22 : decode cX5_dirtIn 22 = .ok (.ifCond .eq 14, 3) := dk_153 0 14 (dk_at dksX5_dirtIn_1 0 rfl rfl)
theorem dX5_dirtIn_25 : decode cX5_dirtIn 25 = .ok (.aload_n 0, 1) := dk_42 (dk_at dksX5_dirtIn_1 3 rfl rfl)
theorem dX5_dirtIn_26 : decode cX5_dirtIn 26 = .ok (.iload_n 3, 1) := dk_29 (dk_at dksX5_dirtIn_1 4 rfl rfl)
theorem dX5_dirtIn_27 : decode cX5_dirtIn 27 = .ok (.invokevirtual 130, 3) := dk_182 0 130 (dk_at dksX5_dirtIn_1 5 rfl rfl)
theorem dX5_dirtIn_30 : decode cX5_dirtIn 30 = .ok (.getfield 204, 3) := dk_180 0 204 (dk_at dksX5_dirtIn_1 8 rfl rfl)
theorem dX5_dirtIn_33 : decode cX5_dirtIn 33 = .ok (.goto 4, 3) := dk_167 0 4 (dk_at dksX5_dirtIn_1 11 rfl rfl)
theorem dX5_dirtIn_36 : decode cX5_dirtIn 36 = .ok (.iconst 0, 1) := dk_3 (dk_at dksX5_dirtIn_1 14 rfl rfl)
theorem dX5_dirtIn_37 : decode cX5_dirtIn 37 = .ok (.iadd, 1) := dk_96 (dk_at dksX5_dirtIn_1 15 rfl rfl)
theorem dX5_dirtIn_38 : decode cX5_dirtIn 38 = .ok (.istore_n 2, 1) := dk_61 (dk_at dksX5_dirtIn_1 16 rfl rfl)
theorem dX5_dirtIn_39 : decode cX5_dirtIn 39 = .ok (.iinc 3 1, 3) := dk_132 3 1 (dk_at dksX5_dirtIn_1 17 rfl rfl)
theorem dX5_dirtIn_42 : decode cX5_dirtIn 42 = .ok (.goto (-38), 3) := dk_167 255 218 (dk_at dksX5_dirtIn_1 20 rfl rfl)
theorem dX5_dirtIn_45 : decode cX5_dirtIn 45 = .ok (.iload_n 2, 1) := dk_28 (dk_at dksX5_dirtIn_1 23 rfl rfl)
theorem dX5_dirtIn_46 : decode cX5_dirtIn 46 = .ok (.ireturn, 1) := dk_172 (dk_at dksX5_dirtIn_2 0 rfl rfl)
abbrev cX5_coloursIn : ByteArray := prog_18_method_17_code
def yX5_coloursIn : MethodName := ⟨RX5, "coloursIn", "(I)I"⟩
def dkwX5_coloursIn_1 : List UInt8 := [28, 42, 29, 182, 0, 130, 180, 0, 180, 128, 61, 132, 3, 1, 167, 255, 222, 28, 172]
abbrev dktX5_coloursIn_1 : List UInt8 := dkwX5_coloursIn_1 ++ []
def dkwX5_coloursIn_0 : List UInt8 := [3, 61, 3, 62, 29, 42, 182, 0, 127, 162, 0, 32, 42, 29, 182, 0, 130, 27, 182, 0, 167, 153, 0, 14]
abbrev dktX5_coloursIn_0 : List UInt8 := dkwX5_coloursIn_0 ++ dktX5_coloursIn_1
theorem dksX5_coloursIn_0 : cX5_coloursIn.data.toList.drop 0 = dktX5_coloursIn_0 := by decide +kernel
theorem dksX5_coloursIn_1 : cX5_coloursIn.data.toList.drop 24 = dktX5_coloursIn_1 := dk_seg dksX5_coloursIn_0 24 rfl rfl
theorem dX5_coloursIn_0 : decode cX5_coloursIn 0 = .ok (.iconst 0, 1) := dk_3 (dk_at dksX5_coloursIn_0 0 rfl rfl)
theorem dX5_coloursIn_1 : decode cX5_coloursIn 1 = .ok (.istore_n 2, 1) := dk_61 (dk_at dksX5_coloursIn_0 1 rfl rfl)
theorem dX5_coloursIn_2 : decode cX5_coloursIn 2 = .ok (.iconst 0, 1) := dk_3 (dk_at dksX5_coloursIn_0 2 rfl rfl)
theorem dX5_coloursIn_3 : decode cX5_coloursIn 3 = .ok (.istore_n 3, 1) := dk_62 (dk_at dksX5_coloursIn_0 3 rfl rfl)
theorem dX5_coloursIn_4 : decode cX5_coloursIn 4 = .ok (.iload_n 3, 1) := dk_29 (dk_at dksX5_coloursIn_0 4 rfl rfl)
theorem dX5_coloursIn_5 : decode cX5_coloursIn 5 = .ok (.aload_n 0, 1) := dk_42 (dk_at dksX5_coloursIn_0 5 rfl rfl)
theorem dX5_coloursIn_6 : decode cX5_coloursIn 6 = .ok (.invokevirtual 127, 3) := dk_182 0 127 (dk_at dksX5_coloursIn_0 6 rfl rfl)
theorem dX5_coloursIn_9 : decode cX5_coloursIn 9 = .ok (.if_icmp .ge 32, 3) := dk_162 0 32 (dk_at dksX5_coloursIn_0 9 rfl rfl)
theorem dX5_coloursIn_12 : decode cX5_coloursIn 12 = .ok (.aload_n 0, 1) := dk_42 (dk_at dksX5_coloursIn_0 12 rfl rfl)
theorem dX5_coloursIn_13 : decode cX5_coloursIn 13 = .ok (.iload_n 3, 1) := dk_29 (dk_at dksX5_coloursIn_0 13 rfl rfl)
theorem dX5_coloursIn_14 : decode cX5_coloursIn 14 = .ok (.invokevirtual 130, 3) := dk_182 0 130 (dk_at dksX5_coloursIn_0 14 rfl rfl)
theorem dX5_coloursIn_17 : decode cX5_coloursIn 17 = .ok (.iload_n 1, 1) := dk_27 (dk_at dksX5_coloursIn_0 17 rfl rfl)
theorem dX5_coloursIn_18 : decode cX5_coloursIn 18 = .ok (.invokevirtual 167, 3) := dk_182 0 167 (dk_at dksX5_coloursIn_0 18 rfl rfl)
theorem dX5_coloursIn_21 : decode cX5_coloursIn 21 = .ok (.ifCond .eq 14, 3) := dk_153 0 14 (dk_at dksX5_coloursIn_0 21 rfl rfl)
theorem dX5_coloursIn_24 : decode cX5_coloursIn 24 = .ok (.iload_n 2, 1) := dk_28 (dk_at dksX5_coloursIn_1 0 rfl rfl)
theorem dX5_coloursIn_25 : decode cX5_coloursIn 25 = .ok (.aload_n 0, 1) := dk_42 (dk_at dksX5_coloursIn_1 1 rfl rfl)
theorem dX5_coloursIn_26 : decode cX5_coloursIn 26 = .ok (.iload_n 3, 1) := dk_29 (dk_at dksX5_coloursIn_1 2 rfl rfl)
theorem dX5_coloursIn_27 : decode cX5_coloursIn 27 = .ok (.invokevirtual 130, 3) := dk_182 0 130 (dk_at dksX5_coloursIn_1 3 rfl rfl)
theorem dX5_coloursIn_30 : decode cX5_coloursIn 30 = .ok (.getfield 180, 3) := dk_180 0 180 (dk_at dksX5_coloursIn_1 6 rfl rfl)
theorem dX5_coloursIn_33 : decode cX5_coloursIn 33 = .ok (.ior, 1) := dk_128 (dk_at dksX5_coloursIn_1 9 rfl rfl)
theorem dX5_coloursIn_34 : decode cX5_coloursIn 34 = .ok (.istore_n 2, 1) := dk_61 (dk_at dksX5_coloursIn_1 10 rfl rfl)
theorem dX5_coloursIn_35 : decode cX5_coloursIn 35 = .ok (.iinc 3 1, 3) := dk_132 3 1 (dk_at dksX5_coloursIn_1 11 rfl rfl)
theorem dX5_coloursIn_38 : decode cX5_coloursIn 38 = .ok (.goto (-34), 3) := dk_167 255 222 (dk_at dksX5_coloursIn_1 14 rfl rfl)
theorem dX5_coloursIn_41 : decode cX5_coloursIn 41 = .ok (.iload_n 2, 1) := dk_28 (dk_at dksX5_coloursIn_1 17 rfl rfl)
theorem dX5_coloursIn_42 : decode cX5_coloursIn 42 = .ok (.ireturn, 1) := dk_172 (dk_at dksX5_coloursIn_1 18 rfl rfl)
abbrev cX5_inTub : ByteArray := prog_18_method_25_code
def yX5_inTub : MethodName := ⟨RX5, "inTub", "(II)I"⟩
def dkwX5_inTub_1 : List UInt8 := [42, 29, 182, 0, 130, 182, 0, 222, 28, 160, 0, 5, 29, 172, 132, 3, 1, 167, 255, 217, 2, 172]
abbrev dktX5_inTub_1 : List UInt8 := dkwX5_inTub_1 ++ []
def dkwX5_inTub_0 : List UInt8 := [3, 62, 29, 42, 182, 0, 127, 162, 0, 37, 42, 29, 182, 0, 130, 27, 182, 0, 167, 153, 0, 19, 42, 27]
abbrev dktX5_inTub_0 : List UInt8 := dkwX5_inTub_0 ++ dktX5_inTub_1
theorem dksX5_inTub_0 : cX5_inTub.data.toList.drop 0 = dktX5_inTub_0 := by decide +kernel
theorem dksX5_inTub_1 : cX5_inTub.data.toList.drop 24 = dktX5_inTub_1 := dk_seg dksX5_inTub_0 24 rfl rfl
theorem dX5_inTub_0 : decode cX5_inTub 0 = .ok (.iconst 0, 1) := dk_3 (dk_at dksX5_inTub_0 0 rfl rfl)
theorem dX5_inTub_1 : decode cX5_inTub 1 = .ok (.istore_n 3, 1) := dk_62 (dk_at dksX5_inTub_0 1 rfl rfl)
theorem dX5_inTub_2 : decode cX5_inTub 2 = .ok (.iload_n 3, 1) := dk_29 (dk_at dksX5_inTub_0 2 rfl rfl)
theorem dX5_inTub_3 : decode cX5_inTub 3 = .ok (.aload_n 0, 1) := dk_42 (dk_at dksX5_inTub_0 3 rfl rfl)
theorem dX5_inTub_4 : decode cX5_inTub 4 = .ok (.invokevirtual 127, 3) := dk_182 0 127 (dk_at dksX5_inTub_0 4 rfl rfl)
theorem dX5_inTub_7 : decode cX5_inTub 7 = .ok (.if_icmp .ge 37, 3) := dk_162 0 37 (dk_at dksX5_inTub_0 7 rfl rfl)
theorem dX5_inTub_10 : decode cX5_inTub 10 = .ok (.aload_n 0, 1) := dk_42 (dk_at dksX5_inTub_0 10 rfl rfl)
theorem dX5_inTub_11 : decode cX5_inTub 11 = .ok (.iload_n 3, 1) := dk_29 (dk_at dksX5_inTub_0 11 rfl rfl)
theorem dX5_inTub_12 : decode cX5_inTub 12 = .ok (.invokevirtual 130, 3) := dk_182 0 130 (dk_at dksX5_inTub_0 12 rfl rfl)
theorem dX5_inTub_15 : decode cX5_inTub 15 = .ok (.iload_n 1, 1) := dk_27 (dk_at dksX5_inTub_0 15 rfl rfl)
theorem dX5_inTub_16 : decode cX5_inTub 16 = .ok (.invokevirtual 167, 3) := dk_182 0 167 (dk_at dksX5_inTub_0 16 rfl rfl)
theorem dX5_inTub_19 : decode cX5_inTub 19 = .ok (.ifCond .eq 19, 3) := dk_153 0 19 (dk_at dksX5_inTub_0 19 rfl rfl)
theorem dX5_inTub_22 : decode cX5_inTub 22 = .ok (.aload_n 0, 1) := dk_42 (dk_at dksX5_inTub_0 22 rfl rfl)
theorem dX5_inTub_23 : decode cX5_inTub 23 = .ok (.iload_n 1, 1) := dk_27 (dk_at dksX5_inTub_0 23 rfl rfl)
theorem dX5_inTub_24 : decode cX5_inTub 24 = .ok (.aload_n 0, 1) := dk_42 (dk_at dksX5_inTub_1 0 rfl rfl)
theorem dX5_inTub_25 : decode cX5_inTub 25 = .ok (.iload_n 3, 1) := dk_29 (dk_at dksX5_inTub_1 1 rfl rfl)
theorem dX5_inTub_26 : decode cX5_inTub 26 = .ok (.invokevirtual 130, 3) := dk_182 0 130 (dk_at dksX5_inTub_1 2 rfl rfl)
theorem dX5_inTub_29 : decode cX5_inTub 29 = .ok (.invokevirtual 222, 3) := dk_182 0 222 (dk_at dksX5_inTub_1 5 rfl rfl)
theorem dX5_inTub_32 : decode cX5_inTub 32 = .ok (.iload_n 2, 1) := dk_28 (dk_at dksX5_inTub_1 8 rfl rfl)
theorem dX5_inTub_33 : decode cX5_inTub 33 = .ok (.if_icmp .ne 5, 3) := dk_160 0 5 (dk_at dksX5_inTub_1 9 rfl rfl)
theorem dX5_inTub_36 : decode cX5_inTub 36 = .ok (.iload_n 3, 1) := dk_29 (dk_at dksX5_inTub_1 12 rfl rfl)
theorem dX5_inTub_37 : decode cX5_inTub 37 = .ok (.ireturn, 1) := dk_172 (dk_at dksX5_inTub_1 13 rfl rfl)
theorem dX5_inTub_38 : decode cX5_inTub 38 = .ok (.iinc 3 1, 3) := dk_132 3 1 (dk_at dksX5_inTub_1 14 rfl rfl)
theorem dX5_inTub_41 : decode cX5_inTub 41 = .ok (.goto (-39), 3) := dk_167 255 217 (dk_at dksX5_inTub_1 17 rfl rfl)
theorem dX5_inTub_44 : decode cX5_inTub 44 = .ok (.iconst (-1), 1) := dk_2 (dk_at dksX5_inTub_1 20 rfl rfl)
theorem dX5_inTub_45 : decode cX5_inTub 45 = .ok (.ireturn, 1) := dk_172 (dk_at dksX5_inTub_1 21 rfl rfl)
abbrev cX5_ahead : ByteArray := prog_18_method_26_code
def yX5_ahead : MethodName := ⟨RX5, "ahead", "(ILFlagLaundry$Flag;)I"⟩
def dkwX5_ahead_1 : List UInt8 := [180, 0, 226, 167, 0, 4, 2, 62, 42, 27, 29, 186, 0, 229, 0, 0, 182, 0, 144, 172]
abbrev dktX5_ahead_1 : List UInt8 := dkwX5_ahead_1 ++ []
def dkwX5_ahead_0 : List UInt8 := [44, 180, 0, 215, 58, 5, 25, 5, 193, 0, 210, 153, 0, 18, 25, 5, 192, 0, 210, 58, 4, 25, 4]
abbrev dktX5_ahead_0 : List UInt8 := dkwX5_ahead_0 ++ dktX5_ahead_1
theorem dksX5_ahead_0 : cX5_ahead.data.toList.drop 0 = dktX5_ahead_0 := by decide +kernel
theorem dksX5_ahead_1 : cX5_ahead.data.toList.drop 23 = dktX5_ahead_1 := dk_seg dksX5_ahead_0 23 rfl rfl
theorem dX5_ahead_0 : decode cX5_ahead 0 = .ok (.aload_n 2, 1) := dk_44 (dk_at dksX5_ahead_0 0 rfl rfl)
theorem dX5_ahead_1 : decode cX5_ahead 1 = .ok (.getfield 215, 3) := dk_180 0 215 (dk_at dksX5_ahead_0 1 rfl rfl)
theorem dX5_ahead_4 : decode cX5_ahead 4 = .ok (.astore 5, 2) := dk_58 5 (dk_at dksX5_ahead_0 4 rfl rfl)
theorem dX5_ahead_6 : decode cX5_ahead 6 = .ok (.aload 5, 2) := dk_25 5 (dk_at dksX5_ahead_0 6 rfl rfl)
theorem dX5_ahead_8 : decode cX5_ahead 8 = .ok (.instanceof 210, 3) := dk_193 0 210 (dk_at dksX5_ahead_0 8 rfl rfl)
theorem dX5_ahead_11 : decode cX5_ahead 11 = .ok (.ifCond .eq 18, 3) := dk_153 0 18 (dk_at dksX5_ahead_0 11 rfl rfl)
theorem dX5_ahead_14 : decode cX5_ahead 14 = .ok (.aload 5, 2) := dk_25 5 (dk_at dksX5_ahead_0 14 rfl rfl)
theorem dX5_ahead_16 : decode cX5_ahead 16 = .ok (.checkcast 210, 3) := dk_192 0 210 (dk_at dksX5_ahead_0 16 rfl rfl)
theorem dX5_ahead_19 : decode cX5_ahead 19 = .ok (.astore 4, 2) := dk_58 4 (dk_at dksX5_ahead_0 19 rfl rfl)
theorem dX5_ahead_21 : decode cX5_ahead 21 = .ok (.aload 4, 2) := dk_25 4 (dk_at dksX5_ahead_0 21 rfl rfl)
theorem dX5_ahead_23 : decode cX5_ahead 23 = .ok (.getfield 226, 3) := dk_180 0 226 (dk_at dksX5_ahead_1 0 rfl rfl)
theorem dX5_ahead_26 : decode cX5_ahead 26 = .ok (.goto 4, 3) := dk_167 0 4 (dk_at dksX5_ahead_1 3 rfl rfl)
theorem dX5_ahead_29 : decode cX5_ahead 29 = .ok (.iconst (-1), 1) := dk_2 (dk_at dksX5_ahead_1 6 rfl rfl)
theorem dX5_ahead_30 : decode cX5_ahead 30 = .ok (.istore_n 3, 1) := dk_62 (dk_at dksX5_ahead_1 7 rfl rfl)
theorem dX5_ahead_31 : decode cX5_ahead 31 = .ok (.aload_n 0, 1) := dk_42 (dk_at dksX5_ahead_1 8 rfl rfl)
theorem dX5_ahead_32 : decode cX5_ahead 32 = .ok (.iload_n 1, 1) := dk_27 (dk_at dksX5_ahead_1 9 rfl rfl)
theorem dX5_ahead_33 : decode cX5_ahead 33 = .ok (.iload_n 3, 1) := dk_29 (dk_at dksX5_ahead_1 10 rfl rfl)
theorem dX5_ahead_34 : decode cX5_ahead 34 = .ok (.invokedynamic 229, 5) := by decide +kernel
theorem dX5_ahead_39 : decode cX5_ahead 39 = .ok (.invokevirtual 144, 3) := dk_182 0 144 (dk_at dksX5_ahead_1 16 rfl rfl)
theorem dX5_ahead_42 : decode cX5_ahead 42 = .ok (.ireturn, 1) := dk_172 (dk_at dksX5_ahead_1 19 rfl rfl)
abbrev cX5_lambda_ahead_13 : ByteArray := prog_18_method_37_code
def yX5_lambda_ahead_13 : MethodName := ⟨RX5, "lambda$ahead$13", "(IILFlagLaundry$Flag;)Z"⟩
def dkwX5_lambda_ahead_13_1 : List UInt8 := [26, 160, 0, 15, 45, 180, 0, 226, 27, 162, 0, 7, 4, 167, 0, 4, 3, 172]
abbrev dktX5_lambda_ahead_13_1 : List UInt8 := dkwX5_lambda_ahead_13_1 ++ []
def dkwX5_lambda_ahead_13_0 : List UInt8 := [44, 180, 0, 215, 58, 4, 25, 4, 193, 0, 210, 153, 0, 29, 25, 4, 192, 0, 210, 78, 45, 180, 1, 33]
abbrev dktX5_lambda_ahead_13_0 : List UInt8 := dkwX5_lambda_ahead_13_0 ++ dktX5_lambda_ahead_13_1
theorem dksX5_lambda_ahead_13_0 : cX5_lambda_ahead_13.data.toList.drop 0 = dktX5_lambda_ahead_13_0 := by decide +kernel
theorem dksX5_lambda_ahead_13_1 : cX5_lambda_ahead_13.data.toList.drop 24 = dktX5_lambda_ahead_13_1 := dk_seg dksX5_lambda_ahead_13_0 24 rfl rfl
theorem dX5_lambda_ahead_13_0 : decode cX5_lambda_ahead_13 0 = .ok (.aload_n 2, 1) := dk_44 (dk_at dksX5_lambda_ahead_13_0 0 rfl rfl)
theorem dX5_lambda_ahead_13_1 : decode cX5_lambda_ahead_13 1 = .ok (.getfield 215, 3) := dk_180 0 215 (dk_at dksX5_lambda_ahead_13_0 1 rfl rfl)
theorem dX5_lambda_ahead_13_4 : decode cX5_lambda_ahead_13 4 = .ok (.astore 4, 2) := dk_58 4 (dk_at dksX5_lambda_ahead_13_0 4 rfl rfl)
theorem dX5_lambda_ahead_13_6 : decode cX5_lambda_ahead_13 6 = .ok (.aload 4, 2) := dk_25 4 (dk_at dksX5_lambda_ahead_13_0 6 rfl rfl)
theorem dX5_lambda_ahead_13_8 : decode cX5_lambda_ahead_13 8 = .ok (.instanceof 210, 3) := dk_193 0 210 (dk_at dksX5_lambda_ahead_13_0 8 rfl rfl)
theorem dX5_lambda_ahead_13_11 : decode cX5_lambda_ahead_13 11 = .ok (.ifCond .eq 29, 3) := dk_153 0 29 (dk_at dksX5_lambda_ahead_13_0 11 rfl rfl)
theorem dX5_lambda_ahead_13_14 : decode cX5_lambda_ahead_13 14 = .ok (.aload 4, 2) := dk_25 4 (dk_at dksX5_lambda_ahead_13_0 14 rfl rfl)
theorem dX5_lambda_ahead_13_16 : decode cX5_lambda_ahead_13 16 = .ok (.checkcast 210, 3) := dk_192 0 210 (dk_at dksX5_lambda_ahead_13_0 16 rfl rfl)
theorem dX5_lambda_ahead_13_19 : decode cX5_lambda_ahead_13 19 = .ok (.astore_n 3, 1) := dk_78 (dk_at dksX5_lambda_ahead_13_0 19 rfl rfl)
theorem dX5_lambda_ahead_13_20 : decode cX5_lambda_ahead_13 20 = .ok (.aload_n 3, 1) := dk_45 (dk_at dksX5_lambda_ahead_13_0 20 rfl rfl)
theorem dX5_lambda_ahead_13_21 : decode cX5_lambda_ahead_13 21 = .ok (.getfield 289, 3) := dk_180 1 33 (dk_at dksX5_lambda_ahead_13_0 21 rfl rfl)
theorem dX5_lambda_ahead_13_24 : decode cX5_lambda_ahead_13 24 = .ok (.iload_n 0, 1) := dk_26 (dk_at dksX5_lambda_ahead_13_1 0 rfl rfl)
theorem dX5_lambda_ahead_13_25 : decode cX5_lambda_ahead_13 25 = .ok (.if_icmp .ne 15, 3) := dk_160 0 15 (dk_at dksX5_lambda_ahead_13_1 1 rfl rfl)
theorem dX5_lambda_ahead_13_28 : decode cX5_lambda_ahead_13 28 = .ok (.aload_n 3, 1) := dk_45 (dk_at dksX5_lambda_ahead_13_1 4 rfl rfl)
theorem dX5_lambda_ahead_13_29 : decode cX5_lambda_ahead_13 29 = .ok (.getfield 226, 3) := dk_180 0 226 (dk_at dksX5_lambda_ahead_13_1 5 rfl rfl)
theorem dX5_lambda_ahead_13_32 : decode cX5_lambda_ahead_13 32 = .ok (.iload_n 1, 1) := dk_27 (dk_at dksX5_lambda_ahead_13_1 8 rfl rfl)
theorem dX5_lambda_ahead_13_33 : decode cX5_lambda_ahead_13 33 = .ok (.if_icmp .ge 7, 3) := dk_162 0 7 (dk_at dksX5_lambda_ahead_13_1 9 rfl rfl)
theorem dX5_lambda_ahead_13_36 : decode cX5_lambda_ahead_13 36 = .ok (.iconst 1, 1) := dk_4 (dk_at dksX5_lambda_ahead_13_1 12 rfl rfl)
theorem dX5_lambda_ahead_13_37 : decode cX5_lambda_ahead_13 37 = .ok (.goto 4, 3) := dk_167 0 4 (dk_at dksX5_lambda_ahead_13_1 13 rfl rfl)
theorem dX5_lambda_ahead_13_40 : decode cX5_lambda_ahead_13 40 = .ok (.iconst 0, 1) := dk_3 (dk_at dksX5_lambda_ahead_13_1 16 rfl rfl)
theorem dX5_lambda_ahead_13_41 : decode cX5_lambda_ahead_13 41 = .ok (.ireturn, 1) := dk_172 (dk_at dksX5_lambda_ahead_13_1 17 rfl rfl)
abbrev cX5_gap : ByteArray := prog_18_method_36_code
def yX5_gap : MethodName := ⟨RX5, "gap", "()I"⟩
def dkwX5_gap_5 : List UInt8 := [184, 1, 30, 96, 42, 180, 0, 100, 42, 180, 0, 103, 96, 28, 100, 184, 1, 30, 96, 172]
abbrev dktX5_gap_5 : List UInt8 := dkwX5_gap_5 ++ []
def dkwX5_gap_4 : List UInt8 := [182, 1, 27, 100, 42, 4, 182, 1, 27, 100, 42, 5, 182, 1, 27, 100, 42, 6, 182, 1, 27, 100]
abbrev dktX5_gap_4 : List UInt8 := dkwX5_gap_4 ++ dktX5_gap_5
def dkwX5_gap_3 : List UInt8 := [126, 153, 0, 7, 4, 167, 0, 4, 3, 184, 0, 137, 96, 60, 167, 255, 185, 27, 42, 182, 0, 127, 42, 3]
abbrev dktX5_gap_3 : List UInt8 := dkwX5_gap_3 ++ dktX5_gap_4
def dkwX5_gap_2 : List UInt8 := [25, 4, 180, 0, 160, 182, 1, 9, 180, 1, 24, 96, 61, 27, 25, 4, 180, 0, 181, 25, 4, 180, 0, 180]
abbrev dktX5_gap_2 : List UInt8 := dkwX5_gap_2 ++ dktX5_gap_3
def dkwX5_gap_1 : List UInt8 := [185, 0, 69, 1, 0, 192, 0, 81, 58, 4, 25, 4, 180, 0, 215, 193, 1, 18, 153, 0, 18, 28, 42]
abbrev dktX5_gap_1 : List UInt8 := dkwX5_gap_1 ++ dktX5_gap_2
def dkwX5_gap_0 : List UInt8 := [3, 60, 3, 61, 42, 180, 0, 27, 185, 0, 57, 1, 0, 78, 45, 185, 0, 63, 1, 0, 153, 0, 68, 45]
abbrev dktX5_gap_0 : List UInt8 := dkwX5_gap_0 ++ dktX5_gap_1
theorem dksX5_gap_0 : cX5_gap.data.toList.drop 0 = dktX5_gap_0 := by decide +kernel
theorem dksX5_gap_1 : cX5_gap.data.toList.drop 24 = dktX5_gap_1 := dk_seg dksX5_gap_0 24 rfl rfl
theorem dksX5_gap_2 : cX5_gap.data.toList.drop 47 = dktX5_gap_2 := dk_seg dksX5_gap_1 23 rfl rfl
theorem dksX5_gap_3 : cX5_gap.data.toList.drop 71 = dktX5_gap_3 := dk_seg dksX5_gap_2 24 rfl rfl
theorem dksX5_gap_4 : cX5_gap.data.toList.drop 95 = dktX5_gap_4 := dk_seg dksX5_gap_3 24 rfl rfl
theorem dksX5_gap_5 : cX5_gap.data.toList.drop 117 = dktX5_gap_5 := dk_seg dksX5_gap_4 22 rfl rfl
theorem dX5_gap_0 : decode cX5_gap 0 = .ok (.iconst 0, 1) := dk_3 (dk_at dksX5_gap_0 0 rfl rfl)
theorem dX5_gap_1 : decode cX5_gap 1 = .ok (.istore_n 1, 1) := dk_60 (dk_at dksX5_gap_0 1 rfl rfl)
theorem dX5_gap_2 : decode cX5_gap 2 = .ok (.iconst 0, 1) := dk_3 (dk_at dksX5_gap_0 2 rfl rfl)
theorem dX5_gap_3 : decode cX5_gap 3 = .ok (.istore_n 2, 1) := dk_61 (dk_at dksX5_gap_0 3 rfl rfl)
theorem dX5_gap_4 : decode cX5_gap 4 = .ok (.aload_n 0, 1) := dk_42 (dk_at dksX5_gap_0 4 rfl rfl)
theorem dX5_gap_5 : decode cX5_gap 5 = .ok (.getfield 27, 3) := dk_180 0 27 (dk_at dksX5_gap_0 5 rfl rfl)
theorem dX5_gap_8 : decode cX5_gap 8 = .ok (.invokeinterface 57 1, 5) := by decide +kernel
theorem dX5_gap_13 : decode cX5_gap 13 = .ok (.astore_n 3, 1) := dk_78 (dk_at dksX5_gap_0 13 rfl rfl)
theorem dX5_gap_14 : decode cX5_gap 14 = .ok (.aload_n 3, 1) := dk_45 (dk_at dksX5_gap_0 14 rfl rfl)
theorem dX5_gap_15 : decode cX5_gap 15 = .ok (.invokeinterface 63 1, 5) := by decide +kernel
theorem dX5_gap_20 : decode cX5_gap 20 = .ok (.ifCond .eq 68, 3) := dk_153 0 68 (dk_at dksX5_gap_0 20 rfl rfl)
theorem dX5_gap_23 : decode cX5_gap 23 = .ok (.aload_n 3, 1) := dk_45 (dk_at dksX5_gap_0 23 rfl rfl)
theorem dX5_gap_24 : decode cX5_gap 24 = .ok (.invokeinterface 69 1, 5) := by decide +kernel
theorem dX5_gap_29 : decode cX5_gap 29 = .ok (.checkcast 81, 3) := dk_192 0 81 (dk_at dksX5_gap_1 5 rfl rfl)
theorem dX5_gap_32 : decode cX5_gap 32 = .ok (.astore 4, 2) := dk_58 4 (dk_at dksX5_gap_1 8 rfl rfl)
theorem dX5_gap_34 : decode cX5_gap 34 = .ok (.aload 4, 2) := dk_25 4 (dk_at dksX5_gap_1 10 rfl rfl)
theorem dX5_gap_36 : decode cX5_gap 36 = .ok (.getfield 215, 3) := dk_180 0 215 (dk_at dksX5_gap_1 12 rfl rfl)
theorem dX5_gap_39 : decode cX5_gap 39 = .ok (.instanceof 274, 3) := dk_193 1 18 (dk_at dksX5_gap_1 15 rfl rfl)
theorem dX5_gap_42 : decode cX5_gap 42 = .ok (.ifCond .eq 18, 3) := dk_153 0 18 (dk_at dksX5_gap_1 18 rfl rfl)
theorem dX5_gap_45 : decode cX5_gap 45 = .ok (.iload_n 2, 1) := dk_28 (dk_at dksX5_gap_1 21 rfl rfl)
theorem dX5_gap_46 : decode cX5_gap 46 = .ok (.aload_n 0, 1) := dk_42 (dk_at dksX5_gap_1 22 rfl rfl)
theorem dX5_gap_47 : decode cX5_gap 47 = .ok (.aload 4, 2) := dk_25 4 (dk_at dksX5_gap_2 0 rfl rfl)
theorem dX5_gap_49 : decode cX5_gap 49 = .ok (.getfield 160, 3) := dk_180 0 160 (dk_at dksX5_gap_2 2 rfl rfl)
theorem dX5_gap_52 : decode cX5_gap 52 = .ok (.invokevirtual 265, 3) := dk_182 1 9 (dk_at dksX5_gap_2 5 rfl rfl)
theorem dX5_gap_55 : decode cX5_gap 55 = .ok (.getfield 280, 3) := dk_180 1 24 (dk_at dksX5_gap_2 8 rfl rfl)
theorem dX5_gap_58 : decode cX5_gap 58 = .ok (.iadd, 1) := dk_96 (dk_at dksX5_gap_2 11 rfl rfl)
theorem dX5_gap_59 : decode cX5_gap 59 = .ok (.istore_n 2, 1) := dk_61 (dk_at dksX5_gap_2 12 rfl rfl)
theorem dX5_gap_60 : decode cX5_gap 60 = .ok (.iload_n 1, 1) := dk_27 (dk_at dksX5_gap_2 13 rfl rfl)
theorem dX5_gap_61 : decode cX5_gap 61 = .ok (.aload 4, 2) := dk_25 4 (dk_at dksX5_gap_2 14 rfl rfl)
theorem dX5_gap_63 : decode cX5_gap 63 = .ok (.getfield 181, 3) := dk_180 0 181 (dk_at dksX5_gap_2 16 rfl rfl)
theorem dX5_gap_66 : decode cX5_gap 66 = .ok (.aload 4, 2) := dk_25 4 (dk_at dksX5_gap_2 19 rfl rfl)
theorem dX5_gap_68 : decode cX5_gap 68 = .ok (.getfield 180, 3) := dk_180 0 180 (dk_at dksX5_gap_2 21 rfl rfl)
theorem dX5_gap_71 : decode cX5_gap 71 = .ok (.iand, 1) := dk_126 (dk_at dksX5_gap_3 0 rfl rfl)
theorem dX5_gap_72 : decode cX5_gap 72 = .ok (.ifCond .eq 7, 3) := dk_153 0 7 (dk_at dksX5_gap_3 1 rfl rfl)
theorem dX5_gap_75 : decode cX5_gap 75 = .ok (.iconst 1, 1) := dk_4 (dk_at dksX5_gap_3 4 rfl rfl)
theorem dX5_gap_76 : decode cX5_gap 76 = .ok (.goto 4, 3) := dk_167 0 4 (dk_at dksX5_gap_3 5 rfl rfl)
theorem dX5_gap_79 : decode cX5_gap 79 = .ok (.iconst 0, 1) := dk_3 (dk_at dksX5_gap_3 8 rfl rfl)
theorem dX5_gap_80 : decode cX5_gap 80 = .ok (.invokestatic 137, 3) := dk_184 0 137 (dk_at dksX5_gap_3 9 rfl rfl)
theorem dX5_gap_83 : decode cX5_gap 83 = .ok (.iadd, 1) := dk_96 (dk_at dksX5_gap_3 12 rfl rfl)
theorem dX5_gap_84 : decode cX5_gap 84 = .ok (.istore_n 1, 1) := dk_60 (dk_at dksX5_gap_3 13 rfl rfl)
theorem dX5_gap_85 : decode cX5_gap 85 = .ok (.goto (-71), 3) := dk_167 255 185 (dk_at dksX5_gap_3 14 rfl rfl)
theorem dX5_gap_88 : decode cX5_gap 88 = .ok (.iload_n 1, 1) := dk_27 (dk_at dksX5_gap_3 17 rfl rfl)
theorem dX5_gap_89 : decode cX5_gap 89 = .ok (.aload_n 0, 1) := dk_42 (dk_at dksX5_gap_3 18 rfl rfl)
theorem dX5_gap_90 : decode cX5_gap 90 = .ok (.invokevirtual 127, 3) := dk_182 0 127 (dk_at dksX5_gap_3 19 rfl rfl)
theorem dX5_gap_93 : decode cX5_gap 93 = .ok (.aload_n 0, 1) := dk_42 (dk_at dksX5_gap_3 22 rfl rfl)
theorem dX5_gap_94 : decode cX5_gap 94 = .ok (.iconst 0, 1) := dk_3 (dk_at dksX5_gap_3 23 rfl rfl)
theorem dX5_gap_95 : decode cX5_gap 95 = .ok (.invokevirtual 283, 3) := dk_182 1 27 (dk_at dksX5_gap_4 0 rfl rfl)
theorem dX5_gap_98 : decode cX5_gap 98 = .ok (.isub, 1) := dk_100 (dk_at dksX5_gap_4 3 rfl rfl)
theorem dX5_gap_99 : decode cX5_gap 99 = .ok (.aload_n 0, 1) := dk_42 (dk_at dksX5_gap_4 4 rfl rfl)
theorem dX5_gap_100 : decode cX5_gap 100 = .ok (.iconst 1, 1) := dk_4 (dk_at dksX5_gap_4 5 rfl rfl)
theorem dX5_gap_101 : decode cX5_gap 101 = .ok (.invokevirtual 283, 3) := dk_182 1 27 (dk_at dksX5_gap_4 6 rfl rfl)
theorem dX5_gap_104 : decode cX5_gap 104 = .ok (.isub, 1) := dk_100 (dk_at dksX5_gap_4 9 rfl rfl)
theorem dX5_gap_105 : decode cX5_gap 105 = .ok (.aload_n 0, 1) := dk_42 (dk_at dksX5_gap_4 10 rfl rfl)
theorem dX5_gap_106 : decode cX5_gap 106 = .ok (.iconst 2, 1) := dk_5 (dk_at dksX5_gap_4 11 rfl rfl)
theorem dX5_gap_107 : decode cX5_gap 107 = .ok (.invokevirtual 283, 3) := dk_182 1 27 (dk_at dksX5_gap_4 12 rfl rfl)
theorem dX5_gap_110 : decode cX5_gap 110 = .ok (.isub, 1) := dk_100 (dk_at dksX5_gap_4 15 rfl rfl)
theorem dX5_gap_111 : decode cX5_gap 111 = .ok (.aload_n 0, 1) := dk_42 (dk_at dksX5_gap_4 16 rfl rfl)
theorem dX5_gap_112 : decode cX5_gap 112 = .ok (.iconst 3, 1) := dk_6 (dk_at dksX5_gap_4 17 rfl rfl)
theorem dX5_gap_113 : decode cX5_gap 113 = .ok (.invokevirtual 283, 3) := dk_182 1 27 (dk_at dksX5_gap_4 18 rfl rfl)
theorem dX5_gap_116 : decode cX5_gap 116 = .ok (.isub, 1) := dk_100 (dk_at dksX5_gap_4 21 rfl rfl)
theorem dX5_gap_117 : decode cX5_gap 117 = .ok (.invokestatic 286, 3) := dk_184 1 30 (dk_at dksX5_gap_5 0 rfl rfl)
theorem dX5_gap_120 : decode cX5_gap 120 = .ok (.iadd, 1) := dk_96 (dk_at dksX5_gap_5 3 rfl rfl)
theorem dX5_gap_121 : decode cX5_gap 121 = .ok (.aload_n 0, 1) := dk_42 (dk_at dksX5_gap_5 4 rfl rfl)
theorem dX5_gap_122 : decode cX5_gap 122 = .ok (.getfield 100, 3) := dk_180 0 100 (dk_at dksX5_gap_5 5 rfl rfl)
theorem dX5_gap_125 : decode cX5_gap 125 = .ok (.aload_n 0, 1) := dk_42 (dk_at dksX5_gap_5 8 rfl rfl)
theorem dX5_gap_126 : decode cX5_gap 126 = .ok (.getfield 103, 3) := dk_180 0 103 (dk_at dksX5_gap_5 9 rfl rfl)
theorem dX5_gap_129 : decode cX5_gap 129 = .ok (.iadd, 1) := dk_96 (dk_at dksX5_gap_5 12 rfl rfl)
theorem dX5_gap_130 : decode cX5_gap 130 = .ok (.iload_n 2, 1) := dk_28 (dk_at dksX5_gap_5 13 rfl rfl)
theorem dX5_gap_131 : decode cX5_gap 131 = .ok (.isub, 1) := dk_100 (dk_at dksX5_gap_5 14 rfl rfl)
theorem dX5_gap_132 : decode cX5_gap 132 = .ok (.invokestatic 286, 3) := dk_184 1 30 (dk_at dksX5_gap_5 15 rfl rfl)
theorem dX5_gap_135 : decode cX5_gap 135 = .ok (.iadd, 1) := dk_96 (dk_at dksX5_gap_5 18 rfl rfl)
theorem dX5_gap_136 : decode cX5_gap 136 = .ok (.ireturn, 1) := dk_172 (dk_at dksX5_gap_5 19 rfl rfl)
abbrev cX5_culprit : ByteArray := prog_18_method_15_code
def yX5_culprit : MethodName := ⟨RX5, "culprit", "(I)I"⟩
def dkwX5_culprit_1 : List UInt8 := [28, 182, 0, 130, 182, 0, 163, 153, 0, 5, 28, 172, 132, 2, 1, 167, 255, 219, 2, 172]
abbrev dktX5_culprit_1 : List UInt8 := dkwX5_culprit_1 ++ []
def dkwX5_culprit_0 : List UInt8 := [3, 61, 28, 42, 182, 0, 127, 162, 0, 35, 42, 28, 182, 0, 130, 180, 0, 160, 27, 160, 0, 17, 42, 42]
abbrev dktX5_culprit_0 : List UInt8 := dkwX5_culprit_0 ++ dktX5_culprit_1
theorem dksX5_culprit_0 : cX5_culprit.data.toList.drop 0 = dktX5_culprit_0 := by decide +kernel
theorem dksX5_culprit_1 : cX5_culprit.data.toList.drop 24 = dktX5_culprit_1 := dk_seg dksX5_culprit_0 24 rfl rfl
theorem dX5_culprit_0 : decode cX5_culprit 0 = .ok (.iconst 0, 1) := dk_3 (dk_at dksX5_culprit_0 0 rfl rfl)
theorem dX5_culprit_1 : decode cX5_culprit 1 = .ok (.istore_n 2, 1) := dk_61 (dk_at dksX5_culprit_0 1 rfl rfl)
theorem dX5_culprit_2 : decode cX5_culprit 2 = .ok (.iload_n 2, 1) := dk_28 (dk_at dksX5_culprit_0 2 rfl rfl)
theorem dX5_culprit_3 : decode cX5_culprit 3 = .ok (.aload_n 0, 1) := dk_42 (dk_at dksX5_culprit_0 3 rfl rfl)
theorem dX5_culprit_4 : decode cX5_culprit 4 = .ok (.invokevirtual 127, 3) := dk_182 0 127 (dk_at dksX5_culprit_0 4 rfl rfl)
theorem dX5_culprit_7 : decode cX5_culprit 7 = .ok (.if_icmp .ge 35, 3) := dk_162 0 35 (dk_at dksX5_culprit_0 7 rfl rfl)
theorem dX5_culprit_10 : decode cX5_culprit 10 = .ok (.aload_n 0, 1) := dk_42 (dk_at dksX5_culprit_0 10 rfl rfl)
theorem dX5_culprit_11 : decode cX5_culprit 11 = .ok (.iload_n 2, 1) := dk_28 (dk_at dksX5_culprit_0 11 rfl rfl)
theorem dX5_culprit_12 : decode cX5_culprit 12 = .ok (.invokevirtual 130, 3) := dk_182 0 130 (dk_at dksX5_culprit_0 12 rfl rfl)
theorem dX5_culprit_15 : decode cX5_culprit 15 = .ok (.getfield 160, 3) := dk_180 0 160 (dk_at dksX5_culprit_0 15 rfl rfl)
theorem dX5_culprit_18 : decode cX5_culprit 18 = .ok (.iload_n 1, 1) := dk_27 (dk_at dksX5_culprit_0 18 rfl rfl)
theorem dX5_culprit_19 : decode cX5_culprit 19 = .ok (.if_icmp .ne 17, 3) := dk_160 0 17 (dk_at dksX5_culprit_0 19 rfl rfl)
theorem dX5_culprit_22 : decode cX5_culprit 22 = .ok (.aload_n 0, 1) := dk_42 (dk_at dksX5_culprit_0 22 rfl rfl)
theorem dX5_culprit_23 : decode cX5_culprit 23 = .ok (.aload_n 0, 1) := dk_42 (dk_at dksX5_culprit_0 23 rfl rfl)
theorem dX5_culprit_24 : decode cX5_culprit 24 = .ok (.iload_n 2, 1) := dk_28 (dk_at dksX5_culprit_1 0 rfl rfl)
theorem dX5_culprit_25 : decode cX5_culprit 25 = .ok (.invokevirtual 130, 3) := dk_182 0 130 (dk_at dksX5_culprit_1 1 rfl rfl)
theorem dX5_culprit_28 : decode cX5_culprit 28 = .ok (.invokevirtual 163, 3) := dk_182 0 163 (dk_at dksX5_culprit_1 4 rfl rfl)
theorem dX5_culprit_31 : decode cX5_culprit 31 = .ok (.ifCond .eq 5, 3) := dk_153 0 5 (dk_at dksX5_culprit_1 7 rfl rfl)
theorem dX5_culprit_34 : decode cX5_culprit 34 = .ok (.iload_n 2, 1) := dk_28 (dk_at dksX5_culprit_1 10 rfl rfl)
theorem dX5_culprit_35 : decode cX5_culprit 35 = .ok (.ireturn, 1) := dk_172 (dk_at dksX5_culprit_1 11 rfl rfl)
theorem dX5_culprit_36 : decode cX5_culprit 36 = .ok (.iinc 2 1, 3) := dk_132 2 1 (dk_at dksX5_culprit_1 12 rfl rfl)
theorem dX5_culprit_39 : decode cX5_culprit 39 = .ok (.goto (-37), 3) := dk_167 255 219 (dk_at dksX5_culprit_1 15 rfl rfl)
theorem dX5_culprit_42 : decode cX5_culprit 42 = .ok (.iconst (-1), 1) := dk_2 (dk_at dksX5_culprit_1 18 rfl rfl)
theorem dX5_culprit_43 : decode cX5_culprit 43 = .ok (.ireturn, 1) := dk_172 (dk_at dksX5_culprit_1 19 rfl rfl)
abbrev cX5_stainedIf : ByteArray := prog_18_method_20_code
def yX5_stainedIf : MethodName := ⟨RX5, "stainedIf", "(II)I"⟩
def dkwX5_stainedIf_0 : List UInt8 := [42, 27, 28, 182, 0, 188, 62, 42, 27, 29, 186, 0, 191, 0, 0, 182, 0, 144, 172]
abbrev dktX5_stainedIf_0 : List UInt8 := dkwX5_stainedIf_0 ++ []
theorem dksX5_stainedIf_0 : cX5_stainedIf.data.toList.drop 0 = dktX5_stainedIf_0 := by decide +kernel
theorem dX5_stainedIf_0 : decode cX5_stainedIf 0 = .ok (.aload_n 0, 1) := dk_42 (dk_at dksX5_stainedIf_0 0 rfl rfl)
theorem dX5_stainedIf_1 : decode cX5_stainedIf 1 = .ok (.iload_n 1, 1) := dk_27 (dk_at dksX5_stainedIf_0 1 rfl rfl)
theorem dX5_stainedIf_2 : decode cX5_stainedIf 2 = .ok (.iload_n 2, 1) := dk_28 (dk_at dksX5_stainedIf_0 2 rfl rfl)
theorem dX5_stainedIf_3 : decode cX5_stainedIf 3 = .ok (.invokevirtual 188, 3) := dk_182 0 188 (dk_at dksX5_stainedIf_0 3 rfl rfl)
theorem dX5_stainedIf_6 : decode cX5_stainedIf 6 = .ok (.istore_n 3, 1) := dk_62 (dk_at dksX5_stainedIf_0 6 rfl rfl)
theorem dX5_stainedIf_7 : decode cX5_stainedIf 7 = .ok (.aload_n 0, 1) := dk_42 (dk_at dksX5_stainedIf_0 7 rfl rfl)
theorem dX5_stainedIf_8 : decode cX5_stainedIf 8 = .ok (.iload_n 1, 1) := dk_27 (dk_at dksX5_stainedIf_0 8 rfl rfl)
theorem dX5_stainedIf_9 : decode cX5_stainedIf 9 = .ok (.iload_n 3, 1) := dk_29 (dk_at dksX5_stainedIf_0 9 rfl rfl)
theorem dX5_stainedIf_10 : decode cX5_stainedIf 10 = .ok (.invokedynamic 191, 5) := by decide +kernel
theorem dX5_stainedIf_15 : decode cX5_stainedIf 15 = .ok (.invokevirtual 144, 3) := dk_182 0 144 (dk_at dksX5_stainedIf_0 15 rfl rfl)
theorem dX5_stainedIf_18 : decode cX5_stainedIf 18 = .ok (.ireturn, 1) := dk_172 (dk_at dksX5_stainedIf_0 18 rfl rfl)
abbrev cX5_lambda_stainedIf_12 : ByteArray := prog_18_method_38_code
def yX5_lambda_stainedIf_12 : MethodName := ⟨RX5, "lambda$stainedIf$12", "(IILFlagLaundry$Flag;)Z"⟩
def dkwX5_lambda_stainedIf_12_0 : List UInt8 := [44, 26, 182, 0, 167, 153, 0, 15, 44, 27, 182, 0, 230, 153, 0, 7, 4, 167, 0, 4, 3, 172]
abbrev dktX5_lambda_stainedIf_12_0 : List UInt8 := dkwX5_lambda_stainedIf_12_0 ++ []
theorem dksX5_lambda_stainedIf_12_0 : cX5_lambda_stainedIf_12.data.toList.drop 0 = dktX5_lambda_stainedIf_12_0 := by decide +kernel
theorem dX5_lambda_stainedIf_12_0 : decode cX5_lambda_stainedIf_12 0 = .ok (.aload_n 2, 1) := dk_44 (dk_at dksX5_lambda_stainedIf_12_0 0 rfl rfl)
theorem dX5_lambda_stainedIf_12_1 : decode cX5_lambda_stainedIf_12 1 = .ok (.iload_n 0, 1) := dk_26 (dk_at dksX5_lambda_stainedIf_12_0 1 rfl rfl)
theorem dX5_lambda_stainedIf_12_2 : decode cX5_lambda_stainedIf_12 2 = .ok (.invokevirtual 167, 3) := dk_182 0 167 (dk_at dksX5_lambda_stainedIf_12_0 2 rfl rfl)
theorem dX5_lambda_stainedIf_12_5 : decode cX5_lambda_stainedIf_12 5 = .ok (.ifCond .eq 15, 3) := dk_153 0 15 (dk_at dksX5_lambda_stainedIf_12_0 5 rfl rfl)
theorem dX5_lambda_stainedIf_12_8 : decode cX5_lambda_stainedIf_12 8 = .ok (.aload_n 2, 1) := dk_44 (dk_at dksX5_lambda_stainedIf_12_0 8 rfl rfl)
theorem dX5_lambda_stainedIf_12_9 : decode cX5_lambda_stainedIf_12 9 = .ok (.iload_n 1, 1) := dk_27 (dk_at dksX5_lambda_stainedIf_12_0 9 rfl rfl)
theorem dX5_lambda_stainedIf_12_10 : decode cX5_lambda_stainedIf_12 10 = .ok (.invokevirtual 230, 3) := dk_182 0 230 (dk_at dksX5_lambda_stainedIf_12_0 10 rfl rfl)
theorem dX5_lambda_stainedIf_12_13 : decode cX5_lambda_stainedIf_12 13 = .ok (.ifCond .eq 7, 3) := dk_153 0 7 (dk_at dksX5_lambda_stainedIf_12_0 13 rfl rfl)
theorem dX5_lambda_stainedIf_12_16 : decode cX5_lambda_stainedIf_12 16 = .ok (.iconst 1, 1) := dk_4 (dk_at dksX5_lambda_stainedIf_12_0 16 rfl rfl)
theorem dX5_lambda_stainedIf_12_17 : decode cX5_lambda_stainedIf_12 17 = .ok (.goto 4, 3) := dk_167 0 4 (dk_at dksX5_lambda_stainedIf_12_0 17 rfl rfl)
theorem dX5_lambda_stainedIf_12_20 : decode cX5_lambda_stainedIf_12 20 = .ok (.iconst 0, 1) := dk_3 (dk_at dksX5_lambda_stainedIf_12_0 20 rfl rfl)
theorem dX5_lambda_stainedIf_12_21 : decode cX5_lambda_stainedIf_12 21 = .ok (.ireturn, 1) := dk_172 (dk_at dksX5_lambda_stainedIf_12_0 21 rfl rfl)
abbrev cX5_dirtIf : ByteArray := prog_18_method_21_code
def yX5_dirtIf : MethodName := ⟨RX5, "dirtIf", "(II)I"⟩
def dkwX5_dirtIf_2 : List UInt8 := [62, 132, 4, 1, 167, 255, 211, 29, 172]
abbrev dktX5_dirtIf_2 : List UInt8 := dkwX5_dirtIf_2 ++ []
def dkwX5_dirtIf_1 : List UInt8 := [182, 0, 167, 153, 0, 19, 42, 21, 4, 182, 0, 130, 28, 184, 0, 194, 182, 0, 200, 167, 0, 4, 3, 96]
abbrev dktX5_dirtIf_1 : List UInt8 := dkwX5_dirtIf_1 ++ dktX5_dirtIf_2
def dkwX5_dirtIf_0 : List UInt8 := [3, 62, 3, 54, 4, 21, 4, 42, 182, 0, 127, 162, 0, 42, 29, 42, 21, 4, 182, 0, 130, 27]
abbrev dktX5_dirtIf_0 : List UInt8 := dkwX5_dirtIf_0 ++ dktX5_dirtIf_1
theorem dksX5_dirtIf_0 : cX5_dirtIf.data.toList.drop 0 = dktX5_dirtIf_0 := by decide +kernel
theorem dksX5_dirtIf_1 : cX5_dirtIf.data.toList.drop 22 = dktX5_dirtIf_1 := dk_seg dksX5_dirtIf_0 22 rfl rfl
theorem dksX5_dirtIf_2 : cX5_dirtIf.data.toList.drop 46 = dktX5_dirtIf_2 := dk_seg dksX5_dirtIf_1 24 rfl rfl
theorem dX5_dirtIf_0 : decode cX5_dirtIf 0 = .ok (.iconst 0, 1) := dk_3 (dk_at dksX5_dirtIf_0 0 rfl rfl)
theorem dX5_dirtIf_1 : decode cX5_dirtIf 1 = .ok (.istore_n 3, 1) := dk_62 (dk_at dksX5_dirtIf_0 1 rfl rfl)
theorem dX5_dirtIf_2 : decode cX5_dirtIf 2 = .ok (.iconst 0, 1) := dk_3 (dk_at dksX5_dirtIf_0 2 rfl rfl)
theorem dX5_dirtIf_3 : decode cX5_dirtIf 3 = .ok (.istore 4, 2) := dk_54 4 (dk_at dksX5_dirtIf_0 3 rfl rfl)
theorem dX5_dirtIf_5 : decode cX5_dirtIf 5 = .ok (.iload 4, 2) := dk_21 4 (dk_at dksX5_dirtIf_0 5 rfl rfl)
theorem dX5_dirtIf_7 : decode cX5_dirtIf 7 = .ok (.aload_n 0, 1) := dk_42 (dk_at dksX5_dirtIf_0 7 rfl rfl)
theorem dX5_dirtIf_8 : decode cX5_dirtIf 8 = .ok (.invokevirtual 127, 3) := dk_182 0 127 (dk_at dksX5_dirtIf_0 8 rfl rfl)
theorem dX5_dirtIf_11 : decode cX5_dirtIf 11 = .ok (.if_icmp .ge 42, 3) := dk_162 0 42 (dk_at dksX5_dirtIf_0 11 rfl rfl)
theorem dX5_dirtIf_14 : decode cX5_dirtIf 14 = .ok (.iload_n 3, 1) := dk_29 (dk_at dksX5_dirtIf_0 14 rfl rfl)
theorem dX5_dirtIf_15 : decode cX5_dirtIf 15 = .ok (.aload_n 0, 1) := dk_42 (dk_at dksX5_dirtIf_0 15 rfl rfl)
theorem dX5_dirtIf_16 : decode cX5_dirtIf 16 = .ok (.iload 4, 2) := dk_21 4 (dk_at dksX5_dirtIf_0 16 rfl rfl)
theorem dX5_dirtIf_18 : decode cX5_dirtIf 18 = .ok (.invokevirtual 130, 3) := dk_182 0 130 (dk_at dksX5_dirtIf_0 18 rfl rfl)
theorem dX5_dirtIf_21 : decode cX5_dirtIf 21 = .ok (.iload_n 1, 1) := dk_27 (dk_at dksX5_dirtIf_0 21 rfl rfl)
theorem dX5_dirtIf_22 : decode cX5_dirtIf 22 = .ok (.invokevirtual 167, 3) := dk_182 0 167 (dk_at dksX5_dirtIf_1 0 rfl rfl)
theorem dX5_dirtIf_25 : decode cX5_dirtIf 25 = .ok (.ifCond .eq 19, 3) := dk_153 0 19 (dk_at dksX5_dirtIf_1 3 rfl rfl)
theorem dX5_dirtIf_28 : decode cX5_dirtIf 28 = .ok (.aload_n 0, 1) := dk_42 (dk_at dksX5_dirtIf_1 6 rfl rfl)
theorem dX5_dirtIf_29 : decode cX5_dirtIf 29 = .ok (.iload 4, 2) := dk_21 4 (dk_at dksX5_dirtIf_1 7 rfl rfl)
theorem dX5_dirtIf_31 : decode cX5_dirtIf 31 = .ok (.invokevirtual 130, 3) := dk_182 0 130 (dk_at dksX5_dirtIf_1 9 rfl rfl)
theorem dX5_dirtIf_34 : decode cX5_dirtIf 34 = .ok (.iload_n 2, 1) := dk_28 (dk_at dksX5_dirtIf_1 12 rfl rfl)
theorem dX5_dirtIf_35 : decode cX5_dirtIf 35 = .ok (.invokestatic 194, 3) := dk_184 0 194 (dk_at dksX5_dirtIf_1 13 rfl rfl)
theorem dX5_dirtIf_38 : decode cX5_dirtIf 38 = .ok (.invokevirtual 200, 3) := dk_182 0 200 (dk_at dksX5_dirtIf_1 16 rfl rfl)
theorem dX5_dirtIf_41 : decode cX5_dirtIf 41 = .ok (.goto 4, 3) := dk_167 0 4 (dk_at dksX5_dirtIf_1 19 rfl rfl)
theorem dX5_dirtIf_44 : decode cX5_dirtIf 44 = .ok (.iconst 0, 1) := dk_3 (dk_at dksX5_dirtIf_1 22 rfl rfl)
theorem dX5_dirtIf_45 : decode cX5_dirtIf 45 = .ok (.iadd, 1) := dk_96 (dk_at dksX5_dirtIf_1 23 rfl rfl)
theorem dX5_dirtIf_46 : decode cX5_dirtIf 46 = .ok (.istore_n 3, 1) := dk_62 (dk_at dksX5_dirtIf_2 0 rfl rfl)
theorem dX5_dirtIf_47 : decode cX5_dirtIf 47 = .ok (.iinc 4 1, 3) := dk_132 4 1 (dk_at dksX5_dirtIf_2 1 rfl rfl)
theorem dX5_dirtIf_50 : decode cX5_dirtIf 50 = .ok (.goto (-45), 3) := dk_167 255 211 (dk_at dksX5_dirtIf_2 4 rfl rfl)
theorem dX5_dirtIf_53 : decode cX5_dirtIf 53 = .ok (.iload_n 3, 1) := dk_29 (dk_at dksX5_dirtIf_2 7 rfl rfl)
theorem dX5_dirtIf_54 : decode cX5_dirtIf 54 = .ok (.ireturn, 1) := dk_172 (dk_at dksX5_dirtIf_2 8 rfl rfl)
abbrev cX5_mixes : ByteArray := prog_18_method_28_code
def yX5_mixes : MethodName := ⟨RX5, "mixes", "(LFlagLaundry$Flag;LFlagLaundry$Flag;I)I"⟩
def dkwX5_mixes_0 : List UInt8 := [42, 43, 44, 29, 182, 0, 233, 184, 0, 137, 5, 42, 44, 43, 29, 182, 0, 233, 184, 0, 137, 104, 96, 172]
abbrev dktX5_mixes_0 : List UInt8 := dkwX5_mixes_0 ++ []
theorem dksX5_mixes_0 : cX5_mixes.data.toList.drop 0 = dktX5_mixes_0 := by decide +kernel
theorem dX5_mixes_0 : decode cX5_mixes 0 = .ok (.aload_n 0, 1) := dk_42 (dk_at dksX5_mixes_0 0 rfl rfl)
theorem dX5_mixes_1 : decode cX5_mixes 1 = .ok (.aload_n 1, 1) := dk_43 (dk_at dksX5_mixes_0 1 rfl rfl)
theorem dX5_mixes_2 : decode cX5_mixes 2 = .ok (.aload_n 2, 1) := dk_44 (dk_at dksX5_mixes_0 2 rfl rfl)
theorem dX5_mixes_3 : decode cX5_mixes 3 = .ok (.iload_n 3, 1) := dk_29 (dk_at dksX5_mixes_0 3 rfl rfl)
theorem dX5_mixes_4 : decode cX5_mixes 4 = .ok (.invokevirtual 233, 3) := dk_182 0 233 (dk_at dksX5_mixes_0 4 rfl rfl)
theorem dX5_mixes_7 : decode cX5_mixes 7 = .ok (.invokestatic 137, 3) := dk_184 0 137 (dk_at dksX5_mixes_0 7 rfl rfl)
theorem dX5_mixes_10 : decode cX5_mixes 10 = .ok (.iconst 2, 1) := dk_5 (dk_at dksX5_mixes_0 10 rfl rfl)
theorem dX5_mixes_11 : decode cX5_mixes 11 = .ok (.aload_n 0, 1) := dk_42 (dk_at dksX5_mixes_0 11 rfl rfl)
theorem dX5_mixes_12 : decode cX5_mixes 12 = .ok (.aload_n 2, 1) := dk_44 (dk_at dksX5_mixes_0 12 rfl rfl)
theorem dX5_mixes_13 : decode cX5_mixes 13 = .ok (.aload_n 1, 1) := dk_43 (dk_at dksX5_mixes_0 13 rfl rfl)
theorem dX5_mixes_14 : decode cX5_mixes 14 = .ok (.iload_n 3, 1) := dk_29 (dk_at dksX5_mixes_0 14 rfl rfl)
theorem dX5_mixes_15 : decode cX5_mixes 15 = .ok (.invokevirtual 233, 3) := dk_182 0 233 (dk_at dksX5_mixes_0 15 rfl rfl)
theorem dX5_mixes_18 : decode cX5_mixes 18 = .ok (.invokestatic 137, 3) := dk_184 0 137 (dk_at dksX5_mixes_0 18 rfl rfl)
theorem dX5_mixes_21 : decode cX5_mixes 21 = .ok (.imul, 1) := dk_104 (dk_at dksX5_mixes_0 21 rfl rfl)
theorem dX5_mixes_22 : decode cX5_mixes 22 = .ok (.iadd, 1) := dk_96 (dk_at dksX5_mixes_0 22 rfl rfl)
theorem dX5_mixes_23 : decode cX5_mixes 23 = .ok (.ireturn, 1) := dk_172 (dk_at dksX5_mixes_0 23 rfl rfl)
abbrev cX5_gives : ByteArray := prog_18_method_27_code
def yX5_gives : MethodName := ⟨RX5, "gives", "(LFlagLaundry$Flag;LFlagLaundry$Flag;I)Z"⟩
def dkwX5_gives_1 : List UInt8 := [167, 0, 4, 3, 172]
abbrev dktX5_gives_1 : List UInt8 := dkwX5_gives_1 ++ []
def dkwX5_gives_0 : List UInt8 := [44, 43, 180, 0, 180, 43, 180, 0, 181, 128, 42, 29, 182, 0, 184, 126, 182, 0, 230, 153, 0, 7, 4]
abbrev dktX5_gives_0 : List UInt8 := dkwX5_gives_0 ++ dktX5_gives_1
theorem dksX5_gives_0 : cX5_gives.data.toList.drop 0 = dktX5_gives_0 := by decide +kernel
theorem dksX5_gives_1 : cX5_gives.data.toList.drop 23 = dktX5_gives_1 := dk_seg dksX5_gives_0 23 rfl rfl
theorem dX5_gives_0 : decode cX5_gives 0 = .ok (.aload_n 2, 1) := dk_44 (dk_at dksX5_gives_0 0 rfl rfl)
theorem dX5_gives_1 : decode cX5_gives 1 = .ok (.aload_n 1, 1) := dk_43 (dk_at dksX5_gives_0 1 rfl rfl)
theorem dX5_gives_2 : decode cX5_gives 2 = .ok (.getfield 180, 3) := dk_180 0 180 (dk_at dksX5_gives_0 2 rfl rfl)
theorem dX5_gives_5 : decode cX5_gives 5 = .ok (.aload_n 1, 1) := dk_43 (dk_at dksX5_gives_0 5 rfl rfl)
theorem dX5_gives_6 : decode cX5_gives 6 = .ok (.getfield 181, 3) := dk_180 0 181 (dk_at dksX5_gives_0 6 rfl rfl)
theorem dX5_gives_9 : decode cX5_gives 9 = .ok (.ior, 1) := dk_128 (dk_at dksX5_gives_0 9 rfl rfl)
theorem dX5_gives_10 : decode cX5_gives 10 = .ok (.aload_n 0, 1) := dk_42 (dk_at dksX5_gives_0 10 rfl rfl)
theorem dX5_gives_11 : decode cX5_gives 11 = .ok (.iload_n 3, 1) := dk_29 (dk_at dksX5_gives_0 11 rfl rfl)
theorem dX5_gives_12 : decode cX5_gives 12 = .ok (.invokevirtual 184, 3) := dk_182 0 184 (dk_at dksX5_gives_0 12 rfl rfl)
theorem dX5_gives_15 : decode cX5_gives 15 = .ok (.iand, 1) := dk_126 (dk_at dksX5_gives_0 15 rfl rfl)
theorem dX5_gives_16 : decode cX5_gives 16 = .ok (.invokevirtual 230, 3) := dk_182 0 230 (dk_at dksX5_gives_0 16 rfl rfl)
theorem dX5_gives_19 : decode cX5_gives 19 = .ok (.ifCond .eq 7, 3) := dk_153 0 7 (dk_at dksX5_gives_0 19 rfl rfl)
theorem dX5_gives_22 : decode cX5_gives 22 = .ok (.iconst 1, 1) := dk_4 (dk_at dksX5_gives_0 22 rfl rfl)
theorem dX5_gives_23 : decode cX5_gives 23 = .ok (.goto 4, 3) := dk_167 0 4 (dk_at dksX5_gives_1 0 rfl rfl)
theorem dX5_gives_26 : decode cX5_gives 26 = .ok (.iconst 0, 1) := dk_3 (dk_at dksX5_gives_1 3 rfl rfl)
theorem dX5_gives_27 : decode cX5_gives 27 = .ok (.ireturn, 1) := dk_172 (dk_at dksX5_gives_1 4 rfl rfl)
abbrev cX5_init_2 : ByteArray := prog_18_method_2_code
def yX5_init_2 : MethodName := ⟨RX5, "<init>", "(LFlagLaundry$World;)V"⟩
def dkwX5_init_2_8 : List UInt8 := [181, 0, 109, 42, 43, 180, 0, 112, 181, 0, 112, 177]
abbrev dktX5_init_2_8 : List UInt8 := dkwX5_init_2_8 ++ []
def dkwX5_init_2_7 : List UInt8 := [181, 0, 100, 42, 43, 180, 0, 103, 181, 0, 103, 42, 43, 180, 0, 106, 181, 0, 106, 42, 43, 180, 0, 109]
abbrev dktX5_init_2_7 : List UInt8 := dkwX5_init_2_7 ++ dktX5_init_2_8
def dkwX5_init_2_6 : List UInt8 := [181, 0, 91, 42, 43, 180, 0, 94, 181, 0, 94, 42, 43, 180, 0, 97, 181, 0, 97, 42, 43, 180, 0, 100]
abbrev dktX5_init_2_6 : List UInt8 := dkwX5_init_2_6 ++ dktX5_init_2_7
def dkwX5_init_2_5 : List UInt8 := [183, 0, 83, 182, 0, 86, 167, 255, 225, 42, 43, 180, 0, 88, 181, 0, 88, 42, 43, 180, 0, 91]
abbrev dktX5_init_2_5 : List UInt8 := dkwX5_init_2_5 ++ dktX5_init_2_6
def dkwX5_init_2_4 : List UInt8 := [185, 0, 63, 1, 0, 153, 0, 28, 44, 185, 0, 69, 1, 0, 192, 0, 81, 78, 42, 187, 0, 81, 89, 45]
abbrev dktX5_init_2_4 : List UInt8 := dkwX5_init_2_4 ++ dktX5_init_2_5
def dkwX5_init_2_3 : List UInt8 := [183, 0, 75, 182, 0, 78, 167, 255, 225, 43, 180, 0, 27, 185, 0, 57, 1, 0, 77, 44]
abbrev dktX5_init_2_3 : List UInt8 := dkwX5_init_2_3 ++ dktX5_init_2_4
def dkwX5_init_2_2 : List UInt8 := [185, 0, 63, 1, 0, 153, 0, 28, 44, 185, 0, 69, 1, 0, 192, 0, 73, 78, 42, 187, 0, 73, 89, 45]
abbrev dktX5_init_2_2 : List UInt8 := dkwX5_init_2_2 ++ dktX5_init_2_3
def dkwX5_init_2_1 : List UInt8 := [180, 0, 15, 3, 42, 180, 0, 15, 3, 6, 184, 0, 51, 43, 180, 0, 23, 185, 0, 57, 1, 0, 77, 44]
abbrev dktX5_init_2_1 : List UInt8 := dkwX5_init_2_1 ++ dktX5_init_2_2
def dkwX5_init_2_0 : List UInt8 := [42, 43, 180, 0, 46, 183, 0, 50, 43, 180, 0, 9, 3, 42, 180, 0, 9, 3, 16, 6, 184, 0, 51, 43]
abbrev dktX5_init_2_0 : List UInt8 := dkwX5_init_2_0 ++ dktX5_init_2_1
theorem dksX5_init_2_0 : cX5_init_2.data.toList.drop 0 = dktX5_init_2_0 := by decide +kernel
theorem dksX5_init_2_1 : cX5_init_2.data.toList.drop 24 = dktX5_init_2_1 := dk_seg dksX5_init_2_0 24 rfl rfl
theorem dksX5_init_2_2 : cX5_init_2.data.toList.drop 48 = dktX5_init_2_2 := dk_seg dksX5_init_2_1 24 rfl rfl
theorem dksX5_init_2_3 : cX5_init_2.data.toList.drop 72 = dktX5_init_2_3 := dk_seg dksX5_init_2_2 24 rfl rfl
theorem dksX5_init_2_4 : cX5_init_2.data.toList.drop 92 = dktX5_init_2_4 := dk_seg dksX5_init_2_3 20 rfl rfl
theorem dksX5_init_2_5 : cX5_init_2.data.toList.drop 116 = dktX5_init_2_5 := dk_seg dksX5_init_2_4 24 rfl rfl
theorem dksX5_init_2_6 : cX5_init_2.data.toList.drop 138 = dktX5_init_2_6 := dk_seg dksX5_init_2_5 22 rfl rfl
theorem dksX5_init_2_7 : cX5_init_2.data.toList.drop 162 = dktX5_init_2_7 := dk_seg dksX5_init_2_6 24 rfl rfl
theorem dksX5_init_2_8 : cX5_init_2.data.toList.drop 186 = dktX5_init_2_8 := dk_seg dksX5_init_2_7 24 rfl rfl
theorem dX5_init_2_0 : decode cX5_init_2 0 = .ok (.aload_n 0, 1) := dk_42 (dk_at dksX5_init_2_0 0 rfl rfl)
theorem dX5_init_2_1 : decode cX5_init_2 1 = .ok (.aload_n 1, 1) := dk_43 (dk_at dksX5_init_2_0 1 rfl rfl)
theorem dX5_init_2_2 : decode cX5_init_2 2 = .ok (.getfield 46, 3) := dk_180 0 46 (dk_at dksX5_init_2_0 2 rfl rfl)
theorem dX5_init_2_5 : decode cX5_init_2 5 = .ok (.invokespecial 50, 3) := dk_183 0 50 (dk_at dksX5_init_2_0 5 rfl rfl)
theorem dX5_init_2_8 : decode cX5_init_2 8 = .ok (.aload_n 1, 1) := dk_43 (dk_at dksX5_init_2_0 8 rfl rfl)
theorem dX5_init_2_9 : decode cX5_init_2 9 = .ok (.getfield 9, 3) := dk_180 0 9 (dk_at dksX5_init_2_0 9 rfl rfl)
theorem dX5_init_2_12 : decode cX5_init_2 12 = .ok (.iconst 0, 1) := dk_3 (dk_at dksX5_init_2_0 12 rfl rfl)
theorem dX5_init_2_13 : decode cX5_init_2 13 = .ok (.aload_n 0, 1) := dk_42 (dk_at dksX5_init_2_0 13 rfl rfl)
theorem dX5_init_2_14 : decode cX5_init_2 14 = .ok (.getfield 9, 3) := dk_180 0 9 (dk_at dksX5_init_2_0 14 rfl rfl)
theorem dX5_init_2_17 : decode cX5_init_2 17 = .ok (.iconst 0, 1) := dk_3 (dk_at dksX5_init_2_0 17 rfl rfl)
theorem dX5_init_2_18 : decode cX5_init_2 18 = .ok (.bipush 6, 2) := dk_16 6 (dk_at dksX5_init_2_0 18 rfl rfl)
theorem dX5_init_2_20 : decode cX5_init_2 20 = .ok (.invokestatic 51, 3) := dk_184 0 51 (dk_at dksX5_init_2_0 20 rfl rfl)
theorem dX5_init_2_23 : decode cX5_init_2 23 = .ok (.aload_n 1, 1) := dk_43 (dk_at dksX5_init_2_0 23 rfl rfl)
theorem dX5_init_2_24 : decode cX5_init_2 24 = .ok (.getfield 15, 3) := dk_180 0 15 (dk_at dksX5_init_2_1 0 rfl rfl)
theorem dX5_init_2_27 : decode cX5_init_2 27 = .ok (.iconst 0, 1) := dk_3 (dk_at dksX5_init_2_1 3 rfl rfl)
theorem dX5_init_2_28 : decode cX5_init_2 28 = .ok (.aload_n 0, 1) := dk_42 (dk_at dksX5_init_2_1 4 rfl rfl)
theorem dX5_init_2_29 : decode cX5_init_2 29 = .ok (.getfield 15, 3) := dk_180 0 15 (dk_at dksX5_init_2_1 5 rfl rfl)
theorem dX5_init_2_32 : decode cX5_init_2 32 = .ok (.iconst 0, 1) := dk_3 (dk_at dksX5_init_2_1 8 rfl rfl)
theorem dX5_init_2_33 : decode cX5_init_2 33 = .ok (.iconst 3, 1) := dk_6 (dk_at dksX5_init_2_1 9 rfl rfl)
theorem dX5_init_2_34 : decode cX5_init_2 34 = .ok (.invokestatic 51, 3) := dk_184 0 51 (dk_at dksX5_init_2_1 10 rfl rfl)
theorem dX5_init_2_37 : decode cX5_init_2 37 = .ok (.aload_n 1, 1) := dk_43 (dk_at dksX5_init_2_1 13 rfl rfl)
theorem dX5_init_2_38 : decode cX5_init_2 38 = .ok (.getfield 23, 3) := dk_180 0 23 (dk_at dksX5_init_2_1 14 rfl rfl)
theorem dX5_init_2_41 : decode cX5_init_2 41 = .ok (.invokeinterface 57 1, 5) := by decide +kernel
theorem dX5_init_2_46 : decode cX5_init_2 46 = .ok (.astore_n 2, 1) := dk_77 (dk_at dksX5_init_2_1 22 rfl rfl)
theorem dX5_init_2_47 : decode cX5_init_2 47 = .ok (.aload_n 2, 1) := dk_44 (dk_at dksX5_init_2_1 23 rfl rfl)
theorem dX5_init_2_48 : decode cX5_init_2 48 = .ok (.invokeinterface 63 1, 5) := by decide +kernel
theorem dX5_init_2_53 : decode cX5_init_2 53 = .ok (.ifCond .eq 28, 3) := dk_153 0 28 (dk_at dksX5_init_2_2 5 rfl rfl)
theorem dX5_init_2_56 : decode cX5_init_2 56 = .ok (.aload_n 2, 1) := dk_44 (dk_at dksX5_init_2_2 8 rfl rfl)
theorem dX5_init_2_57 : decode cX5_init_2 57 = .ok (.invokeinterface 69 1, 5) := by decide +kernel
theorem dX5_init_2_62 : decode cX5_init_2 62 = .ok (.checkcast 73, 3) := dk_192 0 73 (dk_at dksX5_init_2_2 14 rfl rfl)
theorem dX5_init_2_65 : decode cX5_init_2 65 = .ok (.astore_n 3, 1) := dk_78 (dk_at dksX5_init_2_2 17 rfl rfl)
theorem dX5_init_2_66 : decode cX5_init_2 66 = .ok (.aload_n 0, 1) := dk_42 (dk_at dksX5_init_2_2 18 rfl rfl)
theorem dX5_init_2_67 : decode cX5_init_2 67 = .ok (.new 73, 3) := dk_187 0 73 (dk_at dksX5_init_2_2 19 rfl rfl)
theorem dX5_init_2_70 : decode cX5_init_2 70 = .ok (.dup, 1) := dk_89 (dk_at dksX5_init_2_2 22 rfl rfl)
theorem dX5_init_2_71 : decode cX5_init_2 71 = .ok (.aload_n 3, 1) := dk_45 (dk_at dksX5_init_2_2 23 rfl rfl)
theorem dX5_init_2_72 : decode cX5_init_2 72 = .ok (.invokespecial 75, 3) := dk_183 0 75 (dk_at dksX5_init_2_3 0 rfl rfl)
theorem dX5_init_2_75 : decode cX5_init_2 75 = .ok (.invokevirtual 78, 3) := dk_182 0 78 (dk_at dksX5_init_2_3 3 rfl rfl)
theorem dX5_init_2_78 : decode cX5_init_2 78 = .ok (.goto (-31), 3) := dk_167 255 225 (dk_at dksX5_init_2_3 6 rfl rfl)
theorem dX5_init_2_81 : decode cX5_init_2 81 = .ok (.aload_n 1, 1) := dk_43 (dk_at dksX5_init_2_3 9 rfl rfl)
theorem dX5_init_2_82 : decode cX5_init_2 82 = .ok (.getfield 27, 3) := dk_180 0 27 (dk_at dksX5_init_2_3 10 rfl rfl)
theorem dX5_init_2_85 : decode cX5_init_2 85 = .ok (.invokeinterface 57 1, 5) := by decide +kernel
theorem dX5_init_2_90 : decode cX5_init_2 90 = .ok (.astore_n 2, 1) := dk_77 (dk_at dksX5_init_2_3 18 rfl rfl)
theorem dX5_init_2_91 : decode cX5_init_2 91 = .ok (.aload_n 2, 1) := dk_44 (dk_at dksX5_init_2_3 19 rfl rfl)
theorem dX5_init_2_92 : decode cX5_init_2 92 = .ok (.invokeinterface 63 1, 5) := by decide +kernel
theorem dX5_init_2_97 : decode cX5_init_2 97 = .ok (.ifCond .eq 28, 3) := dk_153 0 28 (dk_at dksX5_init_2_4 5 rfl rfl)
theorem dX5_init_2_100 : decode cX5_init_2 100 = .ok (.aload_n 2, 1) := dk_44 (dk_at dksX5_init_2_4 8 rfl rfl)
theorem dX5_init_2_101 : decode cX5_init_2 101 = .ok (.invokeinterface 69 1, 5) := by decide +kernel
theorem dX5_init_2_106 : decode cX5_init_2 106 = .ok (.checkcast 81, 3) := dk_192 0 81 (dk_at dksX5_init_2_4 14 rfl rfl)
theorem dX5_init_2_109 : decode cX5_init_2 109 = .ok (.astore_n 3, 1) := dk_78 (dk_at dksX5_init_2_4 17 rfl rfl)
theorem dX5_init_2_110 : decode cX5_init_2 110 = .ok (.aload_n 0, 1) := dk_42 (dk_at dksX5_init_2_4 18 rfl rfl)
theorem dX5_init_2_111 : decode cX5_init_2 111 = .ok (.new 81, 3) := dk_187 0 81 (dk_at dksX5_init_2_4 19 rfl rfl)
theorem dX5_init_2_114 : decode cX5_init_2 114 = .ok (.dup, 1) := dk_89 (dk_at dksX5_init_2_4 22 rfl rfl)
theorem dX5_init_2_115 : decode cX5_init_2 115 = .ok (.aload_n 3, 1) := dk_45 (dk_at dksX5_init_2_4 23 rfl rfl)
theorem dX5_init_2_116 : decode cX5_init_2 116 = .ok (.invokespecial 83, 3) := dk_183 0 83 (dk_at dksX5_init_2_5 0 rfl rfl)
theorem dX5_init_2_119 : decode cX5_init_2 119 = .ok (.invokevirtual 86, 3) := dk_182 0 86 (dk_at dksX5_init_2_5 3 rfl rfl)
theorem dX5_init_2_122 : decode cX5_init_2 122 = .ok (.goto (-31), 3) := dk_167 255 225 (dk_at dksX5_init_2_5 6 rfl rfl)
theorem dX5_init_2_125 : decode cX5_init_2 125 = .ok (.aload_n 0, 1) := dk_42 (dk_at dksX5_init_2_5 9 rfl rfl)
theorem dX5_init_2_126 : decode cX5_init_2 126 = .ok (.aload_n 1, 1) := dk_43 (dk_at dksX5_init_2_5 10 rfl rfl)
theorem dX5_init_2_127 : decode cX5_init_2 127 = .ok (.getfield 88, 3) := dk_180 0 88 (dk_at dksX5_init_2_5 11 rfl rfl)
theorem dX5_init_2_130 : decode cX5_init_2 130 = .ok (.putfield 88, 3) := dk_181 0 88 (dk_at dksX5_init_2_5 14 rfl rfl)
theorem dX5_init_2_133 : decode cX5_init_2 133 = .ok (.aload_n 0, 1) := dk_42 (dk_at dksX5_init_2_5 17 rfl rfl)
theorem dX5_init_2_134 : decode cX5_init_2 134 = .ok (.aload_n 1, 1) := dk_43 (dk_at dksX5_init_2_5 18 rfl rfl)
theorem dX5_init_2_135 : decode cX5_init_2 135 = .ok (.getfield 91, 3) := dk_180 0 91 (dk_at dksX5_init_2_5 19 rfl rfl)
theorem dX5_init_2_138 : decode cX5_init_2 138 = .ok (.putfield 91, 3) := dk_181 0 91 (dk_at dksX5_init_2_6 0 rfl rfl)
theorem dX5_init_2_141 : decode cX5_init_2 141 = .ok (.aload_n 0, 1) := dk_42 (dk_at dksX5_init_2_6 3 rfl rfl)
theorem dX5_init_2_142 : decode cX5_init_2 142 = .ok (.aload_n 1, 1) := dk_43 (dk_at dksX5_init_2_6 4 rfl rfl)
theorem dX5_init_2_143 : decode cX5_init_2 143 = .ok (.getfield 94, 3) := dk_180 0 94 (dk_at dksX5_init_2_6 5 rfl rfl)
theorem dX5_init_2_146 : decode cX5_init_2 146 = .ok (.putfield 94, 3) := dk_181 0 94 (dk_at dksX5_init_2_6 8 rfl rfl)
theorem dX5_init_2_149 : decode cX5_init_2 149 = .ok (.aload_n 0, 1) := dk_42 (dk_at dksX5_init_2_6 11 rfl rfl)
theorem dX5_init_2_150 : decode cX5_init_2 150 = .ok (.aload_n 1, 1) := dk_43 (dk_at dksX5_init_2_6 12 rfl rfl)
theorem dX5_init_2_151 : decode cX5_init_2 151 = .ok (.getfield 97, 3) := dk_180 0 97 (dk_at dksX5_init_2_6 13 rfl rfl)
theorem dX5_init_2_154 : decode cX5_init_2 154 = .ok (.putfield 97, 3) := dk_181 0 97 (dk_at dksX5_init_2_6 16 rfl rfl)
theorem dX5_init_2_157 : decode cX5_init_2 157 = .ok (.aload_n 0, 1) := dk_42 (dk_at dksX5_init_2_6 19 rfl rfl)
theorem dX5_init_2_158 : decode cX5_init_2 158 = .ok (.aload_n 1, 1) := dk_43 (dk_at dksX5_init_2_6 20 rfl rfl)
theorem dX5_init_2_159 : decode cX5_init_2 159 = .ok (.getfield 100, 3) := dk_180 0 100 (dk_at dksX5_init_2_6 21 rfl rfl)
theorem dX5_init_2_162 : decode cX5_init_2 162 = .ok (.putfield 100, 3) := dk_181 0 100 (dk_at dksX5_init_2_7 0 rfl rfl)
theorem dX5_init_2_165 : decode cX5_init_2 165 = .ok (.aload_n 0, 1) := dk_42 (dk_at dksX5_init_2_7 3 rfl rfl)
theorem dX5_init_2_166 : decode cX5_init_2 166 = .ok (.aload_n 1, 1) := dk_43 (dk_at dksX5_init_2_7 4 rfl rfl)
theorem dX5_init_2_167 : decode cX5_init_2 167 = .ok (.getfield 103, 3) := dk_180 0 103 (dk_at dksX5_init_2_7 5 rfl rfl)
theorem dX5_init_2_170 : decode cX5_init_2 170 = .ok (.putfield 103, 3) := dk_181 0 103 (dk_at dksX5_init_2_7 8 rfl rfl)
theorem dX5_init_2_173 : decode cX5_init_2 173 = .ok (.aload_n 0, 1) := dk_42 (dk_at dksX5_init_2_7 11 rfl rfl)
theorem dX5_init_2_174 : decode cX5_init_2 174 = .ok (.aload_n 1, 1) := dk_43 (dk_at dksX5_init_2_7 12 rfl rfl)
theorem dX5_init_2_175 : decode cX5_init_2 175 = .ok (.getfield 106, 3) := dk_180 0 106 (dk_at dksX5_init_2_7 13 rfl rfl)
theorem dX5_init_2_178 : decode cX5_init_2 178 = .ok (.putfield 106, 3) := dk_181 0 106 (dk_at dksX5_init_2_7 16 rfl rfl)
theorem dX5_init_2_181 : decode cX5_init_2 181 = .ok (.aload_n 0, 1) := dk_42 (dk_at dksX5_init_2_7 19 rfl rfl)
theorem dX5_init_2_182 : decode cX5_init_2 182 = .ok (.aload_n 1, 1) := dk_43 (dk_at dksX5_init_2_7 20 rfl rfl)
theorem dX5_init_2_183 : decode cX5_init_2 183 = .ok (.getfield 109, 3) := dk_180 0 109 (dk_at dksX5_init_2_7 21 rfl rfl)
theorem dX5_init_2_186 : decode cX5_init_2 186 = .ok (.putfield 109, 3) := dk_181 0 109 (dk_at dksX5_init_2_8 0 rfl rfl)
theorem dX5_init_2_189 : decode cX5_init_2 189 = .ok (.aload_n 0, 1) := dk_42 (dk_at dksX5_init_2_8 3 rfl rfl)
theorem dX5_init_2_190 : decode cX5_init_2 190 = .ok (.aload_n 1, 1) := dk_43 (dk_at dksX5_init_2_8 4 rfl rfl)
theorem dX5_init_2_191 : decode cX5_init_2 191 = .ok (.getfield 112, 3) := dk_180 0 112 (dk_at dksX5_init_2_8 5 rfl rfl)
theorem dX5_init_2_194 : decode cX5_init_2 194 = .ok (.putfield 112, 3) := dk_181 0 112 (dk_at dksX5_init_2_8 8 rfl rfl)
theorem dX5_init_2_197 : decode cX5_init_2 197 = .ok (.return_, 1) := dk_177 (dk_at dksX5_init_2_8 11 rfl rfl)
abbrev cX5_irons : ByteArray := prog_18_method_34_code
def yX5_irons : MethodName := ⟨RX5, "irons", "(LFlagLaundry$Flag;I)I"⟩
def dkwX5_irons_2 : List UInt8 := [43, 180, 1, 3, 172]
abbrev dktX5_irons_2 : List UInt8 := dkwX5_irons_2 ++ []
def dkwX5_irons_1 : List UInt8 := [182, 1, 6, 100, 184, 0, 248, 181, 1, 3, 43, 3, 43, 180, 0, 245, 28, 100, 184, 0, 248, 181, 0, 245]
abbrev dktX5_irons_1 : List UInt8 := dkwX5_irons_1 ++ dktX5_irons_2
def dkwX5_irons_0 : List UInt8 := [43, 3, 43, 180, 1, 3, 28, 184, 0, 194, 43, 180, 0, 245, 158, 0, 7, 4, 167, 0, 4, 3]
abbrev dktX5_irons_0 : List UInt8 := dkwX5_irons_0 ++ dktX5_irons_1
theorem dksX5_irons_0 : cX5_irons.data.toList.drop 0 = dktX5_irons_0 := by decide +kernel
theorem dksX5_irons_1 : cX5_irons.data.toList.drop 22 = dktX5_irons_1 := dk_seg dksX5_irons_0 22 rfl rfl
theorem dksX5_irons_2 : cX5_irons.data.toList.drop 46 = dktX5_irons_2 := dk_seg dksX5_irons_1 24 rfl rfl
theorem dX5_irons_0 : decode cX5_irons 0 = .ok (.aload_n 1, 1) := dk_43 (dk_at dksX5_irons_0 0 rfl rfl)
theorem dX5_irons_1 : decode cX5_irons 1 = .ok (.iconst 0, 1) := dk_3 (dk_at dksX5_irons_0 1 rfl rfl)
theorem dX5_irons_2 : decode cX5_irons 2 = .ok (.aload_n 1, 1) := dk_43 (dk_at dksX5_irons_0 2 rfl rfl)
theorem dX5_irons_3 : decode cX5_irons 3 = .ok (.getfield 259, 3) := dk_180 1 3 (dk_at dksX5_irons_0 3 rfl rfl)
theorem dX5_irons_6 : decode cX5_irons 6 = .ok (.iload_n 2, 1) := dk_28 (dk_at dksX5_irons_0 6 rfl rfl)
theorem dX5_irons_7 : decode cX5_irons 7 = .ok (.invokestatic 194, 3) := dk_184 0 194 (dk_at dksX5_irons_0 7 rfl rfl)
theorem dX5_irons_10 : decode cX5_irons 10 = .ok (.aload_n 1, 1) := dk_43 (dk_at dksX5_irons_0 10 rfl rfl)
theorem dX5_irons_11 : decode cX5_irons 11 = .ok (.getfield 245, 3) := dk_180 0 245 (dk_at dksX5_irons_0 11 rfl rfl)
theorem dX5_irons_14 : decode cX5_irons 14 = .ok (.ifCond .le 7, 3) := dk_158 0 7 (dk_at dksX5_irons_0 14 rfl rfl)
theorem dX5_irons_17 : decode cX5_irons 17 = .ok (.iconst 1, 1) := dk_4 (dk_at dksX5_irons_0 17 rfl rfl)
theorem dX5_irons_18 : decode cX5_irons 18 = .ok (.goto 4, 3) := dk_167 0 4 (dk_at dksX5_irons_0 18 rfl rfl)
theorem dX5_irons_21 : decode cX5_irons 21 = .ok (.iconst 0, 1) := dk_3 (dk_at dksX5_irons_0 21 rfl rfl)
theorem dX5_irons_22 : decode cX5_irons 22 = .ok (.invokevirtual 262, 3) := dk_182 1 6 (dk_at dksX5_irons_1 0 rfl rfl)
theorem dX5_irons_25 : decode cX5_irons 25 = .ok (.isub, 1) := dk_100 (dk_at dksX5_irons_1 3 rfl rfl)
theorem dX5_irons_26 : decode cX5_irons 26 = .ok (.invokestatic 248, 3) := dk_184 0 248 (dk_at dksX5_irons_1 4 rfl rfl)
theorem dX5_irons_29 : decode cX5_irons 29 = .ok (.putfield 259, 3) := dk_181 1 3 (dk_at dksX5_irons_1 7 rfl rfl)
theorem dX5_irons_32 : decode cX5_irons 32 = .ok (.aload_n 1, 1) := dk_43 (dk_at dksX5_irons_1 10 rfl rfl)
theorem dX5_irons_33 : decode cX5_irons 33 = .ok (.iconst 0, 1) := dk_3 (dk_at dksX5_irons_1 11 rfl rfl)
theorem dX5_irons_34 : decode cX5_irons 34 = .ok (.aload_n 1, 1) := dk_43 (dk_at dksX5_irons_1 12 rfl rfl)
theorem dX5_irons_35 : decode cX5_irons 35 = .ok (.getfield 245, 3) := dk_180 0 245 (dk_at dksX5_irons_1 13 rfl rfl)
theorem dX5_irons_38 : decode cX5_irons 38 = .ok (.iload_n 2, 1) := dk_28 (dk_at dksX5_irons_1 16 rfl rfl)
theorem dX5_irons_39 : decode cX5_irons 39 = .ok (.isub, 1) := dk_100 (dk_at dksX5_irons_1 17 rfl rfl)
theorem dX5_irons_40 : decode cX5_irons 40 = .ok (.invokestatic 248, 3) := dk_184 0 248 (dk_at dksX5_irons_1 18 rfl rfl)
theorem dX5_irons_43 : decode cX5_irons 43 = .ok (.putfield 245, 3) := dk_181 0 245 (dk_at dksX5_irons_1 21 rfl rfl)
theorem dX5_irons_46 : decode cX5_irons 46 = .ok (.aload_n 1, 1) := dk_43 (dk_at dksX5_irons_2 0 rfl rfl)
theorem dX5_irons_47 : decode cX5_irons 47 = .ok (.getfield 259, 3) := dk_180 1 3 (dk_at dksX5_irons_2 1 rfl rfl)
theorem dX5_irons_50 : decode cX5_irons 50 = .ok (.ireturn, 1) := dk_172 (dk_at dksX5_irons_2 4 rfl rfl)
abbrev cX5_hands : ByteArray := prog_18_method_35_code
def yX5_hands : MethodName := ⟨RX5, "hands", "(I)I"⟩
def dkwX5_hands_5 : List UInt8 := [21, 4, 172]
abbrev dktX5_hands_5 : List UInt8 := dkwX5_hands_5 ++ []
def dkwX5_hands_4 : List UInt8 := [21, 4, 96, 181, 0, 100, 42, 89, 180, 0, 103, 29, 44, 180, 1, 24, 104, 21, 4, 100, 96, 181, 0, 103]
abbrev dktX5_hands_4 : List UInt8 := dkwX5_hands_4 ++ dktX5_hands_5
def dkwX5_hands_3 : List UInt8 := [89, 183, 1, 20, 181, 0, 215, 167, 255, 213, 44, 42, 180, 0, 94, 181, 1, 21, 42, 89, 180, 0, 100]
abbrev dktX5_hands_3 : List UInt8 := dkwX5_hands_3 ++ dktX5_hands_4
def dkwX5_hands_2 : List UInt8 := [185, 0, 69, 1, 0, 192, 0, 81, 58, 6, 25, 6, 180, 0, 160, 27, 160, 0, 15, 25, 6, 187, 1, 18]
abbrev dktX5_hands_2 : List UInt8 := dkwX5_hands_2 ++ dktX5_hands_3
def dkwX5_hands_1 : List UInt8 := [42, 180, 0, 27, 185, 0, 57, 1, 0, 58, 5, 25, 5, 185, 0, 63, 1, 0, 153, 0, 39, 25, 5]
abbrev dktX5_hands_1 : List UInt8 := dkwX5_hands_1 ++ dktX5_hands_2
def dkwX5_hands_0 : List UInt8 := [42, 27, 182, 1, 9, 77, 42, 27, 182, 1, 12, 62, 29, 44, 42, 180, 0, 94, 182, 1, 15, 104, 54, 4]
abbrev dktX5_hands_0 : List UInt8 := dkwX5_hands_0 ++ dktX5_hands_1
theorem dksX5_hands_0 : cX5_hands.data.toList.drop 0 = dktX5_hands_0 := by decide +kernel
theorem dksX5_hands_1 : cX5_hands.data.toList.drop 24 = dktX5_hands_1 := dk_seg dksX5_hands_0 24 rfl rfl
theorem dksX5_hands_2 : cX5_hands.data.toList.drop 47 = dktX5_hands_2 := dk_seg dksX5_hands_1 23 rfl rfl
theorem dksX5_hands_3 : cX5_hands.data.toList.drop 71 = dktX5_hands_3 := dk_seg dksX5_hands_2 24 rfl rfl
theorem dksX5_hands_4 : cX5_hands.data.toList.drop 94 = dktX5_hands_4 := dk_seg dksX5_hands_3 23 rfl rfl
theorem dksX5_hands_5 : cX5_hands.data.toList.drop 118 = dktX5_hands_5 := dk_seg dksX5_hands_4 24 rfl rfl
theorem dX5_hands_0 : decode cX5_hands 0 = .ok (.aload_n 0, 1) := dk_42 (dk_at dksX5_hands_0 0 rfl rfl)
theorem dX5_hands_1 : decode cX5_hands 1 = .ok (.iload_n 1, 1) := dk_27 (dk_at dksX5_hands_0 1 rfl rfl)
theorem dX5_hands_2 : decode cX5_hands 2 = .ok (.invokevirtual 265, 3) := dk_182 1 9 (dk_at dksX5_hands_0 2 rfl rfl)
theorem dX5_hands_5 : decode cX5_hands 5 = .ok (.astore_n 2, 1) := dk_77 (dk_at dksX5_hands_0 5 rfl rfl)
theorem dX5_hands_6 : decode cX5_hands 6 = .ok (.aload_n 0, 1) := dk_42 (dk_at dksX5_hands_0 6 rfl rfl)
theorem dX5_hands_7 : decode cX5_hands 7 = .ok (.iload_n 1, 1) := dk_27 (dk_at dksX5_hands_0 7 rfl rfl)
theorem dX5_hands_8 : decode cX5_hands 8 = .ok (.invokevirtual 268, 3) := dk_182 1 12 (dk_at dksX5_hands_0 8 rfl rfl)
theorem dX5_hands_11 : decode cX5_hands 11 = .ok (.istore_n 3, 1) := dk_62 (dk_at dksX5_hands_0 11 rfl rfl)
theorem dX5_hands_12 : decode cX5_hands 12 = .ok (.iload_n 3, 1) := dk_29 (dk_at dksX5_hands_0 12 rfl rfl)
theorem dX5_hands_13 : decode cX5_hands 13 = .ok (.aload_n 2, 1) := dk_44 (dk_at dksX5_hands_0 13 rfl rfl)
theorem dX5_hands_14 : decode cX5_hands 14 = .ok (.aload_n 0, 1) := dk_42 (dk_at dksX5_hands_0 14 rfl rfl)
theorem dX5_hands_15 : decode cX5_hands 15 = .ok (.getfield 94, 3) := dk_180 0 94 (dk_at dksX5_hands_0 15 rfl rfl)
theorem dX5_hands_18 : decode cX5_hands 18 = .ok (.invokevirtual 271, 3) := dk_182 1 15 (dk_at dksX5_hands_0 18 rfl rfl)
theorem dX5_hands_21 : decode cX5_hands 21 = .ok (.imul, 1) := dk_104 (dk_at dksX5_hands_0 21 rfl rfl)
theorem dX5_hands_22 : decode cX5_hands 22 = .ok (.istore 4, 2) := dk_54 4 (dk_at dksX5_hands_0 22 rfl rfl)
theorem dX5_hands_24 : decode cX5_hands 24 = .ok (.aload_n 0, 1) := dk_42 (dk_at dksX5_hands_1 0 rfl rfl)
theorem dX5_hands_25 : decode cX5_hands 25 = .ok (.getfield 27, 3) := dk_180 0 27 (dk_at dksX5_hands_1 1 rfl rfl)
theorem dX5_hands_28 : decode cX5_hands 28 = .ok (.invokeinterface 57 1, 5) := by decide +kernel
theorem dX5_hands_33 : decode cX5_hands 33 = .ok (.astore 5, 2) := dk_58 5 (dk_at dksX5_hands_1 9 rfl rfl)
theorem dX5_hands_35 : decode cX5_hands 35 = .ok (.aload 5, 2) := dk_25 5 (dk_at dksX5_hands_1 11 rfl rfl)
theorem dX5_hands_37 : decode cX5_hands 37 = .ok (.invokeinterface 63 1, 5) := by decide +kernel
theorem dX5_hands_42 : decode cX5_hands 42 = .ok (.ifCond .eq 39, 3) := dk_153 0 39 (dk_at dksX5_hands_1 18 rfl rfl)
theorem dX5_hands_45 : decode cX5_hands 45 = .ok (.aload 5, 2) := dk_25 5 (dk_at dksX5_hands_1 21 rfl rfl)
theorem dX5_hands_47 : decode cX5_hands 47 = .ok (.invokeinterface 69 1, 5) := by decide +kernel
theorem dX5_hands_52 : decode cX5_hands 52 = .ok (.checkcast 81, 3) := dk_192 0 81 (dk_at dksX5_hands_2 5 rfl rfl)
theorem dX5_hands_55 : decode cX5_hands 55 = .ok (.astore 6, 2) := dk_58 6 (dk_at dksX5_hands_2 8 rfl rfl)
theorem dX5_hands_57 : decode cX5_hands 57 = .ok (.aload 6, 2) := dk_25 6 (dk_at dksX5_hands_2 10 rfl rfl)
theorem dX5_hands_59 : decode cX5_hands 59 = .ok (.getfield 160, 3) := dk_180 0 160 (dk_at dksX5_hands_2 12 rfl rfl)
theorem dX5_hands_62 : decode cX5_hands 62 = .ok (.iload_n 1, 1) := dk_27 (dk_at dksX5_hands_2 15 rfl rfl)
theorem dX5_hands_63 : decode cX5_hands 63 = .ok (.if_icmp .ne 15, 3) := dk_160 0 15 (dk_at dksX5_hands_2 16 rfl rfl)
theorem dX5_hands_66 : decode cX5_hands 66 = .ok (.aload 6, 2) := dk_25 6 (dk_at dksX5_hands_2 19 rfl rfl)
theorem dX5_hands_68 : decode cX5_hands 68 = .ok (.new 274, 3) := dk_187 1 18 (dk_at dksX5_hands_2 21 rfl rfl)
theorem dX5_hands_71 : decode cX5_hands 71 = .ok (.dup, 1) := dk_89 (dk_at dksX5_hands_3 0 rfl rfl)
theorem dX5_hands_72 : decode cX5_hands 72 = .ok (.invokespecial 276, 3) := dk_183 1 20 (dk_at dksX5_hands_3 1 rfl rfl)
theorem dX5_hands_75 : decode cX5_hands 75 = .ok (.putfield 215, 3) := dk_181 0 215 (dk_at dksX5_hands_3 4 rfl rfl)
theorem dX5_hands_78 : decode cX5_hands 78 = .ok (.goto (-43), 3) := dk_167 255 213 (dk_at dksX5_hands_3 7 rfl rfl)
theorem dX5_hands_81 : decode cX5_hands 81 = .ok (.aload_n 2, 1) := dk_44 (dk_at dksX5_hands_3 10 rfl rfl)
theorem dX5_hands_82 : decode cX5_hands 82 = .ok (.aload_n 0, 1) := dk_42 (dk_at dksX5_hands_3 11 rfl rfl)
theorem dX5_hands_83 : decode cX5_hands 83 = .ok (.getfield 94, 3) := dk_180 0 94 (dk_at dksX5_hands_3 12 rfl rfl)
theorem dX5_hands_86 : decode cX5_hands 86 = .ok (.putfield 277, 3) := dk_181 1 21 (dk_at dksX5_hands_3 15 rfl rfl)
theorem dX5_hands_89 : decode cX5_hands 89 = .ok (.aload_n 0, 1) := dk_42 (dk_at dksX5_hands_3 18 rfl rfl)
theorem dX5_hands_90 : decode cX5_hands 90 = .ok (.dup, 1) := dk_89 (dk_at dksX5_hands_3 19 rfl rfl)
theorem dX5_hands_91 : decode cX5_hands 91 = .ok (.getfield 100, 3) := dk_180 0 100 (dk_at dksX5_hands_3 20 rfl rfl)
theorem dX5_hands_94 : decode cX5_hands 94 = .ok (.iload 4, 2) := dk_21 4 (dk_at dksX5_hands_4 0 rfl rfl)
theorem dX5_hands_96 : decode cX5_hands 96 = .ok (.iadd, 1) := dk_96 (dk_at dksX5_hands_4 2 rfl rfl)
theorem dX5_hands_97 : decode cX5_hands 97 = .ok (.putfield 100, 3) := dk_181 0 100 (dk_at dksX5_hands_4 3 rfl rfl)
theorem dX5_hands_100 : decode cX5_hands 100 = .ok (.aload_n 0, 1) := dk_42 (dk_at dksX5_hands_4 6 rfl rfl)
theorem dX5_hands_101 : decode cX5_hands 101 = .ok (.dup, 1) := dk_89 (dk_at dksX5_hands_4 7 rfl rfl)
theorem dX5_hands_102 : decode cX5_hands 102 = .ok (.getfield 103, 3) := dk_180 0 103 (dk_at dksX5_hands_4 8 rfl rfl)
theorem dX5_hands_105 : decode cX5_hands 105 = .ok (.iload_n 3, 1) := dk_29 (dk_at dksX5_hands_4 11 rfl rfl)
theorem dX5_hands_106 : decode cX5_hands 106 = .ok (.aload_n 2, 1) := dk_44 (dk_at dksX5_hands_4 12 rfl rfl)
theorem dX5_hands_107 : decode cX5_hands 107 = .ok (.getfield 280, 3) := dk_180 1 24 (dk_at dksX5_hands_4 13 rfl rfl)
theorem dX5_hands_110 : decode cX5_hands 110 = .ok (.imul, 1) := dk_104 (dk_at dksX5_hands_4 16 rfl rfl)
theorem dX5_hands_111 : decode cX5_hands 111 = .ok (.iload 4, 2) := dk_21 4 (dk_at dksX5_hands_4 17 rfl rfl)
theorem dX5_hands_113 : decode cX5_hands 113 = .ok (.isub, 1) := dk_100 (dk_at dksX5_hands_4 19 rfl rfl)
theorem dX5_hands_114 : decode cX5_hands 114 = .ok (.iadd, 1) := dk_96 (dk_at dksX5_hands_4 20 rfl rfl)
theorem dX5_hands_115 : decode cX5_hands 115 = .ok (.putfield 103, 3) := dk_181 0 103 (dk_at dksX5_hands_4 21 rfl rfl)
theorem dX5_hands_118 : decode cX5_hands 118 = .ok (.iload 4, 2) := dk_21 4 (dk_at dksX5_hands_5 0 rfl rfl)
theorem dX5_hands_120 : decode cX5_hands 120 = .ok (.ireturn, 1) := dk_172 (dk_at dksX5_hands_5 2 rfl rfl)
theorem q159 : (Jvm.Cond.initialized "FlagLaundry$World") ∈ lw_all := lw_g (lw_at lw_m1 27 rfl) rfl
theorem q755 : (Jvm.Cond.instantiable "FlagLaundry$World" (15 : Nat)) ∈ lw_all := lw_g (lw_at lw_m3 143 rfl) rfl
theorem q765 : (Jvm.Cond.instanceMethod ({ cls := "FlagLaundry$World", name := "<init>", desc := "(I)V" } : Jvm.MethodName)) ∈ lw_all := lw_g (lw_at lw_m3 153 rfl) rfl
theorem q766 : (Jvm.Cond.code ({ cls := "FlagLaundry$World", name := "<init>", desc := "(I)V" } : Jvm.MethodName) prog_18_method_1_code (2 : Nat) (Option.none : Option Jvm.ClassFile.FieldType)) ∈ lw_all := lw_g (lw_at lw_m3 154 rfl) rfl
theorem q767 : (Jvm.Cond.methodLink "FlagLaundry$World" (3 : Nat) ({ cls := "java/lang/Object", name := "<init>", desc := "()V" } : Jvm.MethodName)) ∈ lw_all := lw_g (lw_at lw_m3 155 rfl) rfl
theorem q768 : (Jvm.Cond.classLink "FlagLaundry$World" (18 : Nat) "java/util/ArrayList") ∈ lw_all := lw_g (lw_at lw_m3 156 rfl) rfl
theorem q770 : (Jvm.Cond.methodLink "FlagLaundry$World" (20 : Nat) ({ cls := "java/util/ArrayList", name := "<init>", desc := "(I)V" } : Jvm.MethodName)) ∈ lw_all := lw_g (lw_at lw_m3 158 rfl) rfl
theorem q803 : (Jvm.Cond.classLink "FlagLaundry$World" (30 : Nat) "FlagLaundry$Test") ∈ lw_all := lw_g (lw_at lw_m3 191 rfl) rfl
theorem q805 : (Jvm.Cond.static ({ cls := "FlagLaundry$World", name := "lambda$new$0", desc := "(LFlagLaundry$Flag;)Z" } : Jvm.MethodName)) ∈ lw_all := lw_g (lw_at lw_m3 193 rfl) rfl
theorem q806 : (Jvm.Cond.code ({ cls := "FlagLaundry$World", name := "lambda$new$0", desc := "(LFlagLaundry$Flag;)Z" } : Jvm.MethodName) prog_18_method_50_code (1 : Nat) (Option.some Jvm.ClassFile.FieldType.boolean)) ∈ lw_all := lw_g (lw_at lw_m3 194 rfl) rfl
theorem q807 : (Jvm.Cond.classLink "FlagLaundry$World" (274 : Nat) "FlagLaundry$Away") ∈ lw_all := lw_g (lw_at lw_m3 195 rfl) rfl
theorem q808 : (Jvm.Cond.static ({ cls := "FlagLaundry$World", name := "lambda$new$1", desc := "(LFlagLaundry$Flag;)Z" } : Jvm.MethodName)) ∈ lw_all := lw_g (lw_at lw_m3 196 rfl) rfl
theorem q809 : (Jvm.Cond.code ({ cls := "FlagLaundry$World", name := "lambda$new$1", desc := "(LFlagLaundry$Flag;)Z" } : Jvm.MethodName) prog_18_method_49_code (1 : Nat) (Option.some Jvm.ClassFile.FieldType.boolean)) ∈ lw_all := lw_g (lw_at lw_m3 197 rfl) rfl
theorem q810 : (Jvm.Cond.classLink "FlagLaundry$World" (210 : Nat) "FlagLaundry$InTub") ∈ lw_all := lw_g (lw_at lw_m3 198 rfl) rfl
theorem q811 : (Jvm.Cond.static ({ cls := "FlagLaundry$World", name := "lambda$new$2", desc := "(LFlagLaundry$Flag;)Z" } : Jvm.MethodName)) ∈ lw_all := lw_g (lw_at lw_m3 199 rfl) rfl
theorem q812 : (Jvm.Cond.code ({ cls := "FlagLaundry$World", name := "lambda$new$2", desc := "(LFlagLaundry$Flag;)Z" } : Jvm.MethodName) prog_18_method_48_code (1 : Nat) (Option.some Jvm.ClassFile.FieldType.boolean)) ∈ lw_all := lw_g (lw_at lw_m3 200 rfl) rfl
theorem q813 : (Jvm.Cond.classLink "FlagLaundry$World" (243 : Nat) "FlagLaundry$OnPeg") ∈ lw_all := lw_g (lw_at lw_m3 201 rfl) rfl
theorem q814 : (Jvm.Cond.static ({ cls := "FlagLaundry$World", name := "lambda$new$3", desc := "(LFlagLaundry$Flag;)Z" } : Jvm.MethodName)) ∈ lw_all := lw_g (lw_at lw_m3 202 rfl) rfl
theorem q815 : (Jvm.Cond.code ({ cls := "FlagLaundry$World", name := "lambda$new$3", desc := "(LFlagLaundry$Flag;)Z" } : Jvm.MethodName) prog_18_method_47_code (1 : Nat) (Option.some Jvm.ClassFile.FieldType.boolean)) ∈ lw_all := lw_g (lw_at lw_m3 203 rfl) rfl
theorem q816 : (Jvm.Cond.static ({ cls := "FlagLaundry$World", name := "lambda$new$4", desc := "(LFlagLaundry$Flag;)Z" } : Jvm.MethodName)) ∈ lw_all := lw_g (lw_at lw_m3 204 rfl) rfl
theorem q817 : (Jvm.Cond.code ({ cls := "FlagLaundry$World", name := "lambda$new$4", desc := "(LFlagLaundry$Flag;)Z" } : Jvm.MethodName) prog_18_method_46_code (1 : Nat) (Option.some Jvm.ClassFile.FieldType.boolean)) ∈ lw_all := lw_g (lw_at lw_m3 205 rfl) rfl
theorem q818 : (Jvm.Cond.static ({ cls := "FlagLaundry$World", name := "lambda$new$5", desc := "(LFlagLaundry$Flag;)Z" } : Jvm.MethodName)) ∈ lw_all := lw_g (lw_at lw_m3 206 rfl) rfl
theorem q819 : (Jvm.Cond.code ({ cls := "FlagLaundry$World", name := "lambda$new$5", desc := "(LFlagLaundry$Flag;)Z" } : Jvm.MethodName) prog_18_method_45_code (1 : Nat) (Option.some Jvm.ClassFile.FieldType.boolean)) ∈ lw_all := lw_g (lw_at lw_m3 207 rfl) rfl
theorem q820 : (Jvm.Cond.static ({ cls := "FlagLaundry$World", name := "lambda$new$6", desc := "(LFlagLaundry$Flag;)Z" } : Jvm.MethodName)) ∈ lw_all := lw_g (lw_at lw_m3 208 rfl) rfl
theorem q821 : (Jvm.Cond.code ({ cls := "FlagLaundry$World", name := "lambda$new$6", desc := "(LFlagLaundry$Flag;)Z" } : Jvm.MethodName) prog_18_method_44_code (1 : Nat) (Option.some Jvm.ClassFile.FieldType.boolean)) ∈ lw_all := lw_g (lw_at lw_m3 209 rfl) rfl
theorem q822 : (Jvm.Cond.fieldLink "FlagLaundry$World" (46 : Nat) "FlagLaundry$World" "pegs" "I") ∈ lw_all := lw_g (lw_at lw_m3 210 rfl) rfl
theorem q824 : (Jvm.Cond.fieldLink "FlagLaundry$World" (9 : Nat) "FlagLaundry$World" "runs" "[I") ∈ lw_all := lw_g (lw_at lw_m3 212 rfl) rfl
theorem q827 : (Jvm.Cond.fieldLink "FlagLaundry$World" (15 : Nat) "FlagLaundry$World" "room" "[I") ∈ lw_all := lw_g (lw_at lw_m3 215 rfl) rfl
theorem q830 : (Jvm.Cond.fieldLink "FlagLaundry$World" (23 : Nat) "FlagLaundry$World" "nations" "Ljava/util/List;") ∈ lw_all := lw_g (lw_at lw_m3 218 rfl) rfl
theorem q833 : (Jvm.Cond.fieldLink "FlagLaundry$World" (27 : Nat) "FlagLaundry$World" "flags" "Ljava/util/List;") ∈ lw_all := lw_g (lw_at lw_m3 221 rfl) rfl
theorem q835 : (Jvm.Cond.fieldLink "FlagLaundry$World" (42 : Nat) "FlagLaundry$World" "unready" "[LFlagLaundry$Test;") ∈ lw_all := lw_g (lw_at lw_m3 223 rfl) rfl
theorem q837 : (Jvm.Cond.fieldLink "FlagLaundry$World" (88 : Nat) "FlagLaundry$World" "colours" "I") ∈ lw_all := lw_g (lw_at lw_m3 225 rfl) rfl
theorem q840 : (Jvm.Cond.fieldLink "FlagLaundry$World" (91 : Nat) "FlagLaundry$World" "tubs" "I") ∈ lw_all := lw_g (lw_at lw_m3 228 rfl) rfl
theorem q843 : (Jvm.Cond.fieldLink "FlagLaundry$World" (94 : Nat) "FlagLaundry$World" "hour" "I") ∈ lw_all := lw_g (lw_at lw_m3 231 rfl) rfl
theorem q845 : (Jvm.Cond.fieldLink "FlagLaundry$World" (97 : Nat) "FlagLaundry$World" "wind" "I") ∈ lw_all := lw_g (lw_at lw_m3 233 rfl) rfl
theorem q848 : (Jvm.Cond.fieldLink "FlagLaundry$World" (100 : Nat) "FlagLaundry$World" "earned" "I") ∈ lw_all := lw_g (lw_at lw_m3 236 rfl) rfl
theorem q850 : (Jvm.Cond.fieldLink "FlagLaundry$World" (103 : Nat) "FlagLaundry$World" "fined" "I") ∈ lw_all := lw_g (lw_at lw_m3 238 rfl) rfl
theorem q852 : (Jvm.Cond.fieldLink "FlagLaundry$World" (106 : Nat) "FlagLaundry$World" "washes" "I") ∈ lw_all := lw_g (lw_at lw_m4 0 rfl) rfl
theorem q854 : (Jvm.Cond.fieldLink "FlagLaundry$World" (109 : Nat) "FlagLaundry$World" "falls" "I") ∈ lw_all := lw_g (lw_at lw_m4 2 rfl) rfl
theorem q856 : (Jvm.Cond.fieldLink "FlagLaundry$World" (112 : Nat) "FlagLaundry$World" "puts" "I") ∈ lw_all := lw_g (lw_at lw_m4 4 rfl) rfl
theorem q858 : (Jvm.Cond.laysFinal "FlagLaundry$World" "FlagLaundry$World" "pegs" "I") ∈ lw_all := lw_g (lw_at lw_m4 6 rfl) rfl
theorem q859 : (Jvm.Cond.soleField "FlagLaundry$World" "pegs") ∈ lw_all := lw_g (lw_at lw_m4 7 rfl) rfl
theorem q860 : (Jvm.Cond.laysFinal "FlagLaundry$World" "FlagLaundry$World" "runs" "[I") ∈ lw_all := lw_g (lw_at lw_m4 8 rfl) rfl
theorem q861 : (Jvm.Cond.soleField "FlagLaundry$World" "runs") ∈ lw_all := lw_g (lw_at lw_m4 9 rfl) rfl
theorem q862 : (Jvm.Cond.laysFinal "FlagLaundry$World" "FlagLaundry$World" "room" "[I") ∈ lw_all := lw_g (lw_at lw_m4 10 rfl) rfl
theorem q863 : (Jvm.Cond.soleField "FlagLaundry$World" "room") ∈ lw_all := lw_g (lw_at lw_m4 11 rfl) rfl
theorem q864 : (Jvm.Cond.laysFinal "FlagLaundry$World" "FlagLaundry$World" "nations" "Ljava/util/List;") ∈ lw_all := lw_g (lw_at lw_m4 12 rfl) rfl
theorem q865 : (Jvm.Cond.soleField "FlagLaundry$World" "nations") ∈ lw_all := lw_g (lw_at lw_m4 13 rfl) rfl
theorem q866 : (Jvm.Cond.laysFinal "FlagLaundry$World" "FlagLaundry$World" "flags" "Ljava/util/List;") ∈ lw_all := lw_g (lw_at lw_m4 14 rfl) rfl
theorem q867 : (Jvm.Cond.soleField "FlagLaundry$World" "flags") ∈ lw_all := lw_g (lw_at lw_m4 15 rfl) rfl
theorem q868 : (Jvm.Cond.laysFinal "FlagLaundry$World" "FlagLaundry$World" "unready" "[LFlagLaundry$Test;") ∈ lw_all := lw_g (lw_at lw_m4 16 rfl) rfl
theorem q869 : (Jvm.Cond.soleField "FlagLaundry$World" "unready") ∈ lw_all := lw_g (lw_at lw_m4 17 rfl) rfl
theorem q870 : (Jvm.Cond.lays "FlagLaundry$World" "FlagLaundry$World" "colours" "I") ∈ lw_all := lw_g (lw_at lw_m4 18 rfl) rfl
theorem q871 : (Jvm.Cond.soleField "FlagLaundry$World" "colours") ∈ lw_all := lw_g (lw_at lw_m4 19 rfl) rfl
theorem q872 : (Jvm.Cond.lays "FlagLaundry$World" "FlagLaundry$World" "tubs" "I") ∈ lw_all := lw_g (lw_at lw_m4 20 rfl) rfl
theorem q873 : (Jvm.Cond.soleField "FlagLaundry$World" "tubs") ∈ lw_all := lw_g (lw_at lw_m4 21 rfl) rfl
theorem q874 : (Jvm.Cond.lays "FlagLaundry$World" "FlagLaundry$World" "hour" "I") ∈ lw_all := lw_g (lw_at lw_m4 22 rfl) rfl
theorem q875 : (Jvm.Cond.soleField "FlagLaundry$World" "hour") ∈ lw_all := lw_g (lw_at lw_m4 23 rfl) rfl
theorem q876 : (Jvm.Cond.lays "FlagLaundry$World" "FlagLaundry$World" "wind" "I") ∈ lw_all := lw_g (lw_at lw_m4 24 rfl) rfl
theorem q877 : (Jvm.Cond.soleField "FlagLaundry$World" "wind") ∈ lw_all := lw_g (lw_at lw_m4 25 rfl) rfl
theorem q878 : (Jvm.Cond.lays "FlagLaundry$World" "FlagLaundry$World" "earned" "I") ∈ lw_all := lw_g (lw_at lw_m4 26 rfl) rfl
theorem q879 : (Jvm.Cond.soleField "FlagLaundry$World" "earned") ∈ lw_all := lw_g (lw_at lw_m4 27 rfl) rfl
theorem q880 : (Jvm.Cond.lays "FlagLaundry$World" "FlagLaundry$World" "fined" "I") ∈ lw_all := lw_g (lw_at lw_m4 28 rfl) rfl
theorem q881 : (Jvm.Cond.soleField "FlagLaundry$World" "fined") ∈ lw_all := lw_g (lw_at lw_m4 29 rfl) rfl
theorem q882 : (Jvm.Cond.lays "FlagLaundry$World" "FlagLaundry$World" "washes" "I") ∈ lw_all := lw_g (lw_at lw_m4 30 rfl) rfl
theorem q883 : (Jvm.Cond.soleField "FlagLaundry$World" "washes") ∈ lw_all := lw_g (lw_at lw_m4 31 rfl) rfl
theorem q884 : (Jvm.Cond.lays "FlagLaundry$World" "FlagLaundry$World" "falls" "I") ∈ lw_all := lw_g (lw_at lw_m4 32 rfl) rfl
theorem q885 : (Jvm.Cond.soleField "FlagLaundry$World" "falls") ∈ lw_all := lw_g (lw_at lw_m4 33 rfl) rfl
theorem q886 : (Jvm.Cond.lays "FlagLaundry$World" "FlagLaundry$World" "puts" "I") ∈ lw_all := lw_g (lw_at lw_m4 34 rfl) rfl
theorem q887 : (Jvm.Cond.soleField "FlagLaundry$World" "puts") ∈ lw_all := lw_g (lw_at lw_m4 35 rfl) rfl
theorem q888 : (Jvm.Cond.superclass "FlagLaundry$World" "java/lang/Object") ∈ lw_all := lw_g (lw_at lw_m4 36 rfl) rfl
theorem q987 : (Jvm.Cond.fieldLinkNest "FlagLaundry$World" (280 : Nat) "FlagLaundry$Nation" "fee" "I" "FlagLaundry") ∈ lw_tbl := lw_at lw_m4 135 rfl
theorem q992 : (Jvm.Cond.fieldLinkNest "FlagLaundry$World" (277 : Nat) "FlagLaundry$Nation" "handed" "I" "FlagLaundry") ∈ lw_tbl := lw_at lw_m4 140 rfl
theorem q1003 : (Jvm.Cond.instanceMethod ({ cls := "FlagLaundry$World", name := "adds", desc := "(LFlagLaundry$Nation;)V" } : Jvm.MethodName)) ∈ lw_all := lw_g (lw_at lw_m4 151 rfl) rfl
theorem q1004 : (Jvm.Cond.selects "FlagLaundry$World" ({ cls := "FlagLaundry$World", name := "adds", desc := "(LFlagLaundry$Nation;)V" } : Jvm.MethodName) ({ cls := "FlagLaundry$World", name := "adds", desc := "(LFlagLaundry$Nation;)V" } : Jvm.MethodName)) ∈ lw_all := lw_g (lw_at lw_m4 152 rfl) rfl
theorem q1005 : (Jvm.Cond.code ({ cls := "FlagLaundry$World", name := "adds", desc := "(LFlagLaundry$Nation;)V" } : Jvm.MethodName) prog_18_method_3_code (3 : Nat) (Option.none : Option Jvm.ClassFile.FieldType)) ∈ lw_all := lw_g (lw_at lw_m4 153 rfl) rfl
theorem q1006 : (Jvm.Cond.interfaceEntry "FlagLaundry$World" (115 : Nat)) ∈ lw_tbl := lw_at lw_m4 154 rfl
theorem q1007 : (Jvm.Cond.methodLink "FlagLaundry$World" (115 : Nat) ({ cls := "java/util/List", name := "add", desc := "(Ljava/lang/Object;)Z" } : Jvm.MethodName)) ∈ lw_all := lw_g (lw_at lw_m4 155 rfl) rfl
theorem q1050 : (Jvm.Cond.selects "FlagLaundry$World" ({ cls := "java/lang/Object", name := "getClass", desc := "()Ljava/lang/Class;" } : Jvm.MethodName) ({ cls := "java/lang/Object", name := "getClass", desc := "()Ljava/lang/Class;" } : Jvm.MethodName)) ∈ lw_all := lw_g (lw_at lw_m4 198 rfl) rfl
theorem q1075 : (Jvm.Cond.instanceMethod ({ cls := "FlagLaundry$World", name := "many", desc := "()I" } : Jvm.MethodName)) ∈ lw_all := lw_g (lw_at lw_m4 223 rfl) rfl
theorem q1076 : (Jvm.Cond.selects "FlagLaundry$World" ({ cls := "FlagLaundry$World", name := "many", desc := "()I" } : Jvm.MethodName) ({ cls := "FlagLaundry$World", name := "many", desc := "()I" } : Jvm.MethodName)) ∈ lw_all := lw_g (lw_at lw_m4 224 rfl) rfl
theorem q1077 : (Jvm.Cond.code ({ cls := "FlagLaundry$World", name := "many", desc := "()I" } : Jvm.MethodName) prog_18_method_7_code (1 : Nat) (Option.some Jvm.ClassFile.FieldType.int)) ∈ lw_all := lw_g (lw_at lw_m4 225 rfl) rfl
theorem q1078 : (Jvm.Cond.interfaceEntry "FlagLaundry$World" (123 : Nat)) ∈ lw_tbl := lw_at lw_m4 226 rfl
theorem q1079 : (Jvm.Cond.methodLink "FlagLaundry$World" (123 : Nat) ({ cls := "java/util/List", name := "size", desc := "()I" } : Jvm.MethodName)) ∈ lw_all := lw_g (lw_at lw_m4 227 rfl) rfl
theorem q1097 : (Jvm.Cond.fieldLinkNest "FlagLaundry$World" (160 : Nat) "FlagLaundry$Flag" "nation" "I" "FlagLaundry") ∈ lw_tbl := lw_at lw_m5 5 rfl
theorem q1100 : (Jvm.Cond.fieldLinkNest "FlagLaundry$World" (180 : Nat) "FlagLaundry$Flag" "colours" "I" "FlagLaundry") ∈ lw_tbl := lw_at lw_m5 8 rfl
theorem q1103 : (Jvm.Cond.fieldLinkNest "FlagLaundry$World" (171 : Nat) "FlagLaundry$Flag" "care" "I" "FlagLaundry") ∈ lw_tbl := lw_at lw_m5 11 rfl
theorem q1106 : (Jvm.Cond.fieldLinkNest "FlagLaundry$World" (204 : Nat) "FlagLaundry$Flag" "dirt" "I" "FlagLaundry") ∈ lw_tbl := lw_at lw_m5 14 rfl
theorem q1109 : (Jvm.Cond.fieldLinkNest "FlagLaundry$World" (245 : Nat) "FlagLaundry$Flag" "wet" "I" "FlagLaundry") ∈ lw_tbl := lw_at lw_m5 17 rfl
theorem q1113 : (Jvm.Cond.fieldLinkNest "FlagLaundry$World" (259 : Nat) "FlagLaundry$Flag" "crease" "I" "FlagLaundry") ∈ lw_tbl := lw_at lw_m5 21 rfl
theorem q1115 : (Jvm.Cond.fieldLinkNest "FlagLaundry$World" (181 : Nat) "FlagLaundry$Flag" "stains" "I" "FlagLaundry") ∈ lw_tbl := lw_at lw_m5 23 rfl
theorem q1121 : (Jvm.Cond.fieldLinkNest "FlagLaundry$World" (215 : Nat) "FlagLaundry$Flag" "place" "LFlagLaundry$Place;" "FlagLaundry") ∈ lw_tbl := lw_at lw_m5 29 rfl
theorem q1143 : (Jvm.Cond.instanceMethod ({ cls := "FlagLaundry$World", name := "adds", desc := "(LFlagLaundry$Flag;)V" } : Jvm.MethodName)) ∈ lw_all := lw_g (lw_at lw_m5 51 rfl) rfl
theorem q1144 : (Jvm.Cond.selects "FlagLaundry$World" ({ cls := "FlagLaundry$World", name := "adds", desc := "(LFlagLaundry$Flag;)V" } : Jvm.MethodName) ({ cls := "FlagLaundry$World", name := "adds", desc := "(LFlagLaundry$Flag;)V" } : Jvm.MethodName)) ∈ lw_all := lw_g (lw_at lw_m5 52 rfl) rfl
theorem q1145 : (Jvm.Cond.code ({ cls := "FlagLaundry$World", name := "adds", desc := "(LFlagLaundry$Flag;)V" } : Jvm.MethodName) prog_18_method_4_code (3 : Nat) (Option.none : Option Jvm.ClassFile.FieldType)) ∈ lw_all := lw_g (lw_at lw_m5 53 rfl) rfl
theorem q1154 : (Jvm.Cond.instanceMethod ({ cls := "FlagLaundry$World", name := "flagOf", desc := "(I)LFlagLaundry$Flag;" } : Jvm.MethodName)) ∈ lw_all := lw_g (lw_at lw_m5 62 rfl) rfl
theorem q1155 : (Jvm.Cond.selects "FlagLaundry$World" ({ cls := "FlagLaundry$World", name := "flagOf", desc := "(I)LFlagLaundry$Flag;" } : Jvm.MethodName) ({ cls := "FlagLaundry$World", name := "flagOf", desc := "(I)LFlagLaundry$Flag;" } : Jvm.MethodName)) ∈ lw_all := lw_g (lw_at lw_m5 63 rfl) rfl
theorem q1156 : (Jvm.Cond.code ({ cls := "FlagLaundry$World", name := "flagOf", desc := "(I)LFlagLaundry$Flag;" } : Jvm.MethodName) prog_18_method_5_code (2 : Nat) (Option.some (Jvm.ClassFile.FieldType.object "FlagLaundry$Flag"))) ∈ lw_all := lw_g (lw_at lw_m5 64 rfl) rfl
theorem q1157 : (Jvm.Cond.interfaceEntry "FlagLaundry$World" (119 : Nat)) ∈ lw_tbl := lw_at lw_m5 65 rfl
theorem q1158 : (Jvm.Cond.methodLink "FlagLaundry$World" (119 : Nat) ({ cls := "java/util/List", name := "get", desc := "(I)Ljava/lang/Object;" } : Jvm.MethodName)) ∈ lw_all := lw_g (lw_at lw_m5 66 rfl) rfl
theorem q1174 : (Jvm.Cond.classLink "FlagLaundry$World" (81 : Nat) "FlagLaundry$Flag") ∈ lw_all := lw_g (lw_at lw_m5 82 rfl) rfl
theorem q1185 : (Jvm.Cond.instanceMethod ({ cls := "FlagLaundry$World", name := "within", desc := "(I)I" } : Jvm.MethodName)) ∈ lw_all := lw_g (lw_at lw_m5 93 rfl) rfl
theorem q1186 : (Jvm.Cond.selects "FlagLaundry$World" ({ cls := "FlagLaundry$World", name := "within", desc := "(I)I" } : Jvm.MethodName) ({ cls := "FlagLaundry$World", name := "within", desc := "(I)I" } : Jvm.MethodName)) ∈ lw_all := lw_g (lw_at lw_m5 94 rfl) rfl
theorem q1187 : (Jvm.Cond.code ({ cls := "FlagLaundry$World", name := "within", desc := "(I)I" } : Jvm.MethodName) prog_18_method_10_code (2 : Nat) (Option.some Jvm.ClassFile.FieldType.int)) ∈ lw_all := lw_g (lw_at lw_m5 95 rfl) rfl
theorem q1188 : (Jvm.Cond.static ({ cls := "FlagLaundry$World", name := "lambda$within$8", desc := "(ILFlagLaundry$Flag;)Z" } : Jvm.MethodName)) ∈ lw_all := lw_g (lw_at lw_m5 96 rfl) rfl
theorem q1189 : (Jvm.Cond.code ({ cls := "FlagLaundry$World", name := "lambda$within$8", desc := "(ILFlagLaundry$Flag;)Z" } : Jvm.MethodName) prog_18_method_42_code (2 : Nat) (Option.some Jvm.ClassFile.FieldType.boolean)) ∈ lw_all := lw_g (lw_at lw_m5 97 rfl) rfl
theorem q1190 : (Jvm.Cond.methodLink "FlagLaundry$World" (167 : Nat) ({ cls := "FlagLaundry$Flag", name := "isIn", desc := "(I)Z" } : Jvm.MethodName)) ∈ lw_all := lw_g (lw_at lw_m5 98 rfl) rfl
theorem q1195 : (Jvm.Cond.methodLink "FlagLaundry$World" (144 : Nat) ({ cls := "FlagLaundry$World", name := "count", desc := "(LFlagLaundry$Test;)I" } : Jvm.MethodName)) ∈ lw_all := lw_g (lw_at lw_m5 103 rfl) rfl
theorem q1196 : (Jvm.Cond.instanceMethod ({ cls := "FlagLaundry$World", name := "count", desc := "(LFlagLaundry$Test;)I" } : Jvm.MethodName)) ∈ lw_all := lw_g (lw_at lw_m5 104 rfl) rfl
theorem q1197 : (Jvm.Cond.selects "FlagLaundry$World" ({ cls := "FlagLaundry$World", name := "count", desc := "(LFlagLaundry$Test;)I" } : Jvm.MethodName) ({ cls := "FlagLaundry$World", name := "count", desc := "(LFlagLaundry$Test;)I" } : Jvm.MethodName)) ∈ lw_all := lw_g (lw_at lw_m5 105 rfl) rfl
theorem q1198 : (Jvm.Cond.code ({ cls := "FlagLaundry$World", name := "count", desc := "(LFlagLaundry$Test;)I" } : Jvm.MethodName) prog_18_method_8_code (4 : Nat) (Option.some Jvm.ClassFile.FieldType.int)) ∈ lw_all := lw_g (lw_at lw_m5 106 rfl) rfl
theorem q1199 : (Jvm.Cond.methodLink "FlagLaundry$World" (127 : Nat) ({ cls := "FlagLaundry$World", name := "many", desc := "()I" } : Jvm.MethodName)) ∈ lw_all := lw_g (lw_at lw_m5 107 rfl) rfl
theorem q1200 : (Jvm.Cond.methodLink "FlagLaundry$World" (130 : Nat) ({ cls := "FlagLaundry$World", name := "flagOf", desc := "(I)LFlagLaundry$Flag;" } : Jvm.MethodName)) ∈ lw_all := lw_g (lw_at lw_m5 108 rfl) rfl
theorem q1201 : (Jvm.Cond.interfaceEntry "FlagLaundry$World" (134 : Nat)) ∈ lw_tbl := lw_at lw_m5 109 rfl
theorem q1202 : (Jvm.Cond.methodLink "FlagLaundry$World" (134 : Nat) ({ cls := "FlagLaundry$Test", name := "holds", desc := "(LFlagLaundry$Flag;)Z" } : Jvm.MethodName)) ∈ lw_all := lw_g (lw_at lw_m5 110 rfl) rfl
theorem q1205 : (Jvm.Cond.methodLinkNest "FlagLaundry$World" (137 : Nat) ({ cls := "FlagLaundry", name := "one", desc := "(Z)I" } : Jvm.MethodName) "FlagLaundry") ∈ lw_tbl := lw_at lw_m5 113 rfl
theorem q1214 : (Jvm.Cond.instanceMethod ({ cls := "FlagLaundry$World", name := "puts", desc := "(II)I" } : Jvm.MethodName)) ∈ lw_all := lw_g (lw_at lw_m5 122 rfl) rfl
theorem q1215 : (Jvm.Cond.selects "FlagLaundry$World" ({ cls := "FlagLaundry$World", name := "puts", desc := "(II)I" } : Jvm.MethodName) ({ cls := "FlagLaundry$World", name := "puts", desc := "(II)I" } : Jvm.MethodName)) ∈ lw_all := lw_g (lw_at lw_m5 123 rfl) rfl
theorem q1216 : (Jvm.Cond.code ({ cls := "FlagLaundry$World", name := "puts", desc := "(II)I" } : Jvm.MethodName) prog_18_method_24_code (3 : Nat) (Option.some Jvm.ClassFile.FieldType.int)) ∈ lw_all := lw_g (lw_at lw_m5 124 rfl) rfl
theorem q1218 : (Jvm.Cond.methodLink "FlagLaundry$World" (212 : Nat) ({ cls := "FlagLaundry$InTub", name := "<init>", desc := "(II)V" } : Jvm.MethodName)) ∈ lw_all := lw_g (lw_at lw_m5 126 rfl) rfl
theorem q1225 : (Jvm.Cond.fieldLinkNest "FlagLaundry$World" (289 : Nat) "FlagLaundry$InTub" "tub" "I" "FlagLaundry") ∈ lw_tbl := lw_at lw_m5 133 rfl
theorem q1227 : (Jvm.Cond.fieldLinkNest "FlagLaundry$World" (226 : Nat) "FlagLaundry$InTub" "rank" "I" "FlagLaundry") ∈ lw_tbl := lw_at lw_m5 135 rfl
theorem q1233 : (Jvm.Cond.methodLink "FlagLaundry$World" (219 : Nat) ({ cls := "FlagLaundry$World", name := "within", desc := "(I)I" } : Jvm.MethodName)) ∈ lw_all := lw_g (lw_at lw_m5 141 rfl) rfl
theorem q1242 : (Jvm.Cond.instanceMethod ({ cls := "FlagLaundry$World", name := "bears", desc := "(I)I" } : Jvm.MethodName)) ∈ lw_all := lw_g (lw_at lw_m5 150 rfl) rfl
theorem q1243 : (Jvm.Cond.selects "FlagLaundry$World" ({ cls := "FlagLaundry$World", name := "bears", desc := "(I)I" } : Jvm.MethodName) ({ cls := "FlagLaundry$World", name := "bears", desc := "(I)I" } : Jvm.MethodName)) ∈ lw_all := lw_g (lw_at lw_m5 151 rfl) rfl
theorem q1244 : (Jvm.Cond.code ({ cls := "FlagLaundry$World", name := "bears", desc := "(I)I" } : Jvm.MethodName) prog_18_method_16_code (4 : Nat) (Option.some Jvm.ClassFile.FieldType.int)) ∈ lw_all := lw_g (lw_at lw_m5 152 rfl) rfl
theorem q1245 : (Jvm.Cond.methodLink "FlagLaundry$World" (174 : Nat) ({ cls := "java/lang/Math", name := "min", desc := "(II)I" } : Jvm.MethodName)) ∈ lw_all := lw_g (lw_at lw_m5 153 rfl) rfl
theorem q1247 : (Jvm.Cond.instanceMethod ({ cls := "FlagLaundry$World", name := "washes", desc := "(II)I" } : Jvm.MethodName)) ∈ lw_all := lw_g (lw_at lw_m5 155 rfl) rfl
theorem q1248 : (Jvm.Cond.selects "FlagLaundry$World" ({ cls := "FlagLaundry$World", name := "washes", desc := "(II)I" } : Jvm.MethodName) ({ cls := "FlagLaundry$World", name := "washes", desc := "(II)I" } : Jvm.MethodName)) ∈ lw_all := lw_g (lw_at lw_m5 156 rfl) rfl
theorem q1249 : (Jvm.Cond.code ({ cls := "FlagLaundry$World", name := "washes", desc := "(II)I" } : Jvm.MethodName) prog_18_method_23_code (6 : Nat) (Option.some Jvm.ClassFile.FieldType.int)) ∈ lw_all := lw_g (lw_at lw_m5 157 rfl) rfl
theorem q1250 : (Jvm.Cond.methodLink "FlagLaundry$World" (188 : Nat) ({ cls := "FlagLaundry$World", name := "running", desc := "(II)I" } : Jvm.MethodName)) ∈ lw_all := lw_g (lw_at lw_m5 158 rfl) rfl
theorem q1251 : (Jvm.Cond.instanceMethod ({ cls := "FlagLaundry$World", name := "running", desc := "(II)I" } : Jvm.MethodName)) ∈ lw_all := lw_g (lw_at lw_m5 159 rfl) rfl
theorem q1252 : (Jvm.Cond.selects "FlagLaundry$World" ({ cls := "FlagLaundry$World", name := "running", desc := "(II)I" } : Jvm.MethodName) ({ cls := "FlagLaundry$World", name := "running", desc := "(II)I" } : Jvm.MethodName)) ∈ lw_all := lw_g (lw_at lw_m5 160 rfl) rfl
theorem q1253 : (Jvm.Cond.code ({ cls := "FlagLaundry$World", name := "running", desc := "(II)I" } : Jvm.MethodName) prog_18_method_19_code (5 : Nat) (Option.some Jvm.ClassFile.FieldType.int)) ∈ lw_all := lw_g (lw_at lw_m5 161 rfl) rfl
theorem q1254 : (Jvm.Cond.methodLink "FlagLaundry$World" (184 : Nat) ({ cls := "FlagLaundry$World", name := "hot", desc := "(I)I" } : Jvm.MethodName)) ∈ lw_all := lw_g (lw_at lw_m5 162 rfl) rfl
theorem q1255 : (Jvm.Cond.privateMethod ({ cls := "FlagLaundry$World", name := "hot", desc := "(I)I" } : Jvm.MethodName)) ∈ lw_tbl := lw_at lw_m5 163 rfl
theorem q1256 : (Jvm.Cond.instanceMethod ({ cls := "FlagLaundry$World", name := "hot", desc := "(I)I" } : Jvm.MethodName)) ∈ lw_all := lw_g (lw_at lw_m5 164 rfl) rfl
theorem q1257 : (Jvm.Cond.code ({ cls := "FlagLaundry$World", name := "hot", desc := "(I)I" } : Jvm.MethodName) prog_18_method_18_code (4 : Nat) (Option.some Jvm.ClassFile.FieldType.int)) ∈ lw_all := lw_g (lw_at lw_m5 165 rfl) rfl
theorem q1258 : (Jvm.Cond.methodLink "FlagLaundry$World" (194 : Nat) ({ cls := "FlagLaundry$Heat", name := "of", desc := "(I)LFlagLaundry$Heat;" } : Jvm.MethodName)) ∈ lw_all := lw_g (lw_at lw_m5 166 rfl) rfl
theorem q1269 : (Jvm.Cond.methodLink "FlagLaundry$World" (207 : Nat) ({ cls := "FlagLaundry$Flag", name := "washes", desc := "(LFlagLaundry$Heat;I)I" } : Jvm.MethodName)) ∈ lw_all := lw_g (lw_at lw_m5 177 rfl) rfl
theorem q1321 : (Jvm.Cond.instanceMethod ({ cls := "FlagLaundry$World", name := "freePeg", desc := "()I" } : Jvm.MethodName)) ∈ lw_all := lw_g (lw_at lw_m5 229 rfl) rfl
theorem q1322 : (Jvm.Cond.selects "FlagLaundry$World" ({ cls := "FlagLaundry$World", name := "freePeg", desc := "()I" } : Jvm.MethodName) ({ cls := "FlagLaundry$World", name := "freePeg", desc := "()I" } : Jvm.MethodName)) ∈ lw_all := lw_g (lw_at lw_m5 230 rfl) rfl
theorem q1323 : (Jvm.Cond.code ({ cls := "FlagLaundry$World", name := "freePeg", desc := "()I" } : Jvm.MethodName) prog_18_method_30_code (2 : Nat) (Option.some Jvm.ClassFile.FieldType.int)) ∈ lw_all := lw_g (lw_at lw_m5 231 rfl) rfl
theorem q1324 : (Jvm.Cond.methodLink "FlagLaundry$World" (240 : Nat) ({ cls := "FlagLaundry$World", name := "onPeg", desc := "(I)I" } : Jvm.MethodName)) ∈ lw_all := lw_g (lw_at lw_m5 232 rfl) rfl
theorem q1325 : (Jvm.Cond.instanceMethod ({ cls := "FlagLaundry$World", name := "onPeg", desc := "(I)I" } : Jvm.MethodName)) ∈ lw_all := lw_g (lw_at lw_m5 233 rfl) rfl
theorem q1326 : (Jvm.Cond.selects "FlagLaundry$World" ({ cls := "FlagLaundry$World", name := "onPeg", desc := "(I)I" } : Jvm.MethodName) ({ cls := "FlagLaundry$World", name := "onPeg", desc := "(I)I" } : Jvm.MethodName)) ∈ lw_all := lw_g (lw_at lw_m5 234 rfl) rfl
theorem q1327 : (Jvm.Cond.code ({ cls := "FlagLaundry$World", name := "onPeg", desc := "(I)I" } : Jvm.MethodName) prog_18_method_29_code (3 : Nat) (Option.some Jvm.ClassFile.FieldType.int)) ∈ lw_all := lw_g (lw_at lw_m5 235 rfl) rfl
theorem q1328 : (Jvm.Cond.methodLink "FlagLaundry$World" (237 : Nat) ({ cls := "FlagLaundry$Flag", name := "isOn", desc := "(I)Z" } : Jvm.MethodName)) ∈ lw_all := lw_g (lw_at lw_m5 236 rfl) rfl
theorem q1348 : (Jvm.Cond.instanceMethod ({ cls := "FlagLaundry$World", name := "passes", desc := "(I)I" } : Jvm.MethodName)) ∈ lw_all := lw_g (lw_at lw_m6 16 rfl) rfl
theorem q1349 : (Jvm.Cond.selects "FlagLaundry$World" ({ cls := "FlagLaundry$World", name := "passes", desc := "(I)I" } : Jvm.MethodName) ({ cls := "FlagLaundry$World", name := "passes", desc := "(I)I" } : Jvm.MethodName)) ∈ lw_all := lw_g (lw_at lw_m6 17 rfl) rfl
theorem q1350 : (Jvm.Cond.code ({ cls := "FlagLaundry$World", name := "passes", desc := "(I)I" } : Jvm.MethodName) prog_18_method_33_code (4 : Nat) (Option.some Jvm.ClassFile.FieldType.int)) ∈ lw_all := lw_g (lw_at lw_m6 18 rfl) rfl
theorem q1351 : (Jvm.Cond.methodLink "FlagLaundry$World" (257 : Nat) ({ cls := "FlagLaundry$World", name := "hour", desc := "()I" } : Jvm.MethodName)) ∈ lw_all := lw_g (lw_at lw_m6 19 rfl) rfl
theorem q1352 : (Jvm.Cond.instanceMethod ({ cls := "FlagLaundry$World", name := "hour", desc := "()I" } : Jvm.MethodName)) ∈ lw_all := lw_g (lw_at lw_m6 20 rfl) rfl
theorem q1353 : (Jvm.Cond.selects "FlagLaundry$World" ({ cls := "FlagLaundry$World", name := "hour", desc := "()I" } : Jvm.MethodName) ({ cls := "FlagLaundry$World", name := "hour", desc := "()I" } : Jvm.MethodName)) ∈ lw_all := lw_g (lw_at lw_m6 21 rfl) rfl
theorem q1354 : (Jvm.Cond.code ({ cls := "FlagLaundry$World", name := "hour", desc := "()I" } : Jvm.MethodName) prog_18_method_32_code (3 : Nat) (Option.some Jvm.ClassFile.FieldType.int)) ∈ lw_all := lw_g (lw_at lw_m6 22 rfl) rfl
theorem q1355 : (Jvm.Cond.methodLink "FlagLaundry$World" (248 : Nat) ({ cls := "java/lang/Math", name := "max", desc := "(II)I" } : Jvm.MethodName)) ∈ lw_all := lw_g (lw_at lw_m6 23 rfl) rfl
theorem q1356 : (Jvm.Cond.methodLink "FlagLaundry$World" (251 : Nat) ({ cls := "FlagLaundry$World", name := "lastOnLine", desc := "()I" } : Jvm.MethodName)) ∈ lw_all := lw_g (lw_at lw_m6 24 rfl) rfl
theorem q1357 : (Jvm.Cond.privateMethod ({ cls := "FlagLaundry$World", name := "lastOnLine", desc := "()I" } : Jvm.MethodName)) ∈ lw_tbl := lw_at lw_m6 25 rfl
theorem q1358 : (Jvm.Cond.instanceMethod ({ cls := "FlagLaundry$World", name := "lastOnLine", desc := "()I" } : Jvm.MethodName)) ∈ lw_all := lw_g (lw_at lw_m6 26 rfl) rfl
theorem q1359 : (Jvm.Cond.code ({ cls := "FlagLaundry$World", name := "lastOnLine", desc := "()I" } : Jvm.MethodName) prog_18_method_31_code (2 : Nat) (Option.some Jvm.ClassFile.FieldType.int)) ∈ lw_all := lw_g (lw_at lw_m6 27 rfl) rfl
theorem q1360 : (Jvm.Cond.classLink "FlagLaundry$World" (254 : Nat) "FlagLaundry$Basket") ∈ lw_all := lw_g (lw_at lw_m6 28 rfl) rfl
theorem q1361 : (Jvm.Cond.methodLinkNest "FlagLaundry$World" (256 : Nat) ({ cls := "FlagLaundry$Basket", name := "<init>", desc := "()V" } : Jvm.MethodName) "FlagLaundry") ∈ lw_tbl := lw_at lw_m6 29 rfl
theorem q1412 : (Jvm.Cond.instanceMethod ({ cls := "FlagLaundry$World", name := "at", desc := "(I)I" } : Jvm.MethodName)) ∈ lw_all := lw_g (lw_at lw_m6 80 rfl) rfl
theorem q1413 : (Jvm.Cond.selects "FlagLaundry$World" ({ cls := "FlagLaundry$World", name := "at", desc := "(I)I" } : Jvm.MethodName) ({ cls := "FlagLaundry$World", name := "at", desc := "(I)I" } : Jvm.MethodName)) ∈ lw_all := lw_g (lw_at lw_m6 81 rfl) rfl
theorem q1414 : (Jvm.Cond.code ({ cls := "FlagLaundry$World", name := "at", desc := "(I)I" } : Jvm.MethodName) prog_18_method_9_code (2 : Nat) (Option.some Jvm.ClassFile.FieldType.int)) ∈ lw_all := lw_g (lw_at lw_m6 82 rfl) rfl
theorem q1415 : (Jvm.Cond.static ({ cls := "FlagLaundry$World", name := "lambda$at$7", desc := "(ILFlagLaundry$Flag;)Z" } : Jvm.MethodName)) ∈ lw_all := lw_g (lw_at lw_m6 83 rfl) rfl
theorem q1416 : (Jvm.Cond.code ({ cls := "FlagLaundry$World", name := "lambda$at$7", desc := "(ILFlagLaundry$Flag;)Z" } : Jvm.MethodName) prog_18_method_43_code (2 : Nat) (Option.some Jvm.ClassFile.FieldType.boolean)) ∈ lw_all := lw_g (lw_at lw_m6 84 rfl) rfl
theorem q1417 : (Jvm.Cond.methodLinkNest "FlagLaundry$World" (292 : Nat) ({ cls := "FlagLaundry", name := "kindOf", desc := "(LFlagLaundry$Place;)I" } : Jvm.MethodName) "FlagLaundry") ∈ lw_tbl := lw_at lw_m6 85 rfl
theorem q1424 : (Jvm.Cond.instanceMethod ({ cls := "FlagLaundry$World", name := "ready", desc := "()I" } : Jvm.MethodName)) ∈ lw_all := lw_g (lw_at lw_m6 92 rfl) rfl
theorem q1425 : (Jvm.Cond.selects "FlagLaundry$World" ({ cls := "FlagLaundry$World", name := "ready", desc := "()I" } : Jvm.MethodName) ({ cls := "FlagLaundry$World", name := "ready", desc := "()I" } : Jvm.MethodName)) ∈ lw_all := lw_g (lw_at lw_m6 93 rfl) rfl
theorem q1426 : (Jvm.Cond.code ({ cls := "FlagLaundry$World", name := "ready", desc := "()I" } : Jvm.MethodName) prog_18_method_12_code (1 : Nat) (Option.some Jvm.ClassFile.FieldType.int)) ∈ lw_all := lw_g (lw_at lw_m6 94 rfl) rfl
theorem q1427 : (Jvm.Cond.privateMethod ({ cls := "FlagLaundry$World", name := "lambda$ready$9", desc := "(LFlagLaundry$Flag;)Z" } : Jvm.MethodName)) ∈ lw_tbl := lw_at lw_m6 95 rfl
theorem q1428 : (Jvm.Cond.instanceMethod ({ cls := "FlagLaundry$World", name := "lambda$ready$9", desc := "(LFlagLaundry$Flag;)Z" } : Jvm.MethodName)) ∈ lw_all := lw_g (lw_at lw_m6 96 rfl) rfl
theorem q1429 : (Jvm.Cond.code ({ cls := "FlagLaundry$World", name := "lambda$ready$9", desc := "(LFlagLaundry$Flag;)Z" } : Jvm.MethodName) prog_18_method_41_code (2 : Nat) (Option.some Jvm.ClassFile.FieldType.boolean)) ∈ lw_all := lw_g (lw_at lw_m6 97 rfl) rfl
theorem q1430 : (Jvm.Cond.methodLink "FlagLaundry$World" (163 : Nat) ({ cls := "FlagLaundry$World", name := "why", desc := "(LFlagLaundry$Flag;)I" } : Jvm.MethodName)) ∈ lw_all := lw_g (lw_at lw_m6 98 rfl) rfl
theorem q1431 : (Jvm.Cond.instanceMethod ({ cls := "FlagLaundry$World", name := "why", desc := "(LFlagLaundry$Flag;)I" } : Jvm.MethodName)) ∈ lw_all := lw_g (lw_at lw_m6 99 rfl) rfl
theorem q1432 : (Jvm.Cond.selects "FlagLaundry$World" ({ cls := "FlagLaundry$World", name := "why", desc := "(LFlagLaundry$Flag;)I" } : Jvm.MethodName) ({ cls := "FlagLaundry$World", name := "why", desc := "(LFlagLaundry$Flag;)I" } : Jvm.MethodName)) ∈ lw_all := lw_g (lw_at lw_m6 100 rfl) rfl
theorem q1433 : (Jvm.Cond.code ({ cls := "FlagLaundry$World", name := "why", desc := "(LFlagLaundry$Flag;)I" } : Jvm.MethodName) prog_18_method_11_code (2 : Nat) (Option.some Jvm.ClassFile.FieldType.int)) ∈ lw_all := lw_g (lw_at lw_m6 101 rfl) rfl
theorem q1434 : (Jvm.Cond.methodLinkNest "FlagLaundry$World" (149 : Nat) ({ cls := "FlagLaundry", name := "first", desc := "(LFlagLaundry$Flag;[LFlagLaundry$Test;)I" } : Jvm.MethodName) "FlagLaundry") ∈ lw_tbl := lw_at lw_m6 102 rfl
theorem q1460 : (Jvm.Cond.instanceMethod ({ cls := "FlagLaundry$World", name := "nation", desc := "(I)LFlagLaundry$Nation;" } : Jvm.MethodName)) ∈ lw_all := lw_g (lw_at lw_m6 128 rfl) rfl
theorem q1461 : (Jvm.Cond.selects "FlagLaundry$World" ({ cls := "FlagLaundry$World", name := "nation", desc := "(I)LFlagLaundry$Nation;" } : Jvm.MethodName) ({ cls := "FlagLaundry$World", name := "nation", desc := "(I)LFlagLaundry$Nation;" } : Jvm.MethodName)) ∈ lw_all := lw_g (lw_at lw_m6 129 rfl) rfl
theorem q1462 : (Jvm.Cond.code ({ cls := "FlagLaundry$World", name := "nation", desc := "(I)LFlagLaundry$Nation;" } : Jvm.MethodName) prog_18_method_6_code (2 : Nat) (Option.some (Jvm.ClassFile.FieldType.object "FlagLaundry$Nation"))) ∈ lw_all := lw_g (lw_at lw_m6 130 rfl) rfl
theorem q1463 : (Jvm.Cond.classLink "FlagLaundry$World" (73 : Nat) "FlagLaundry$Nation") ∈ lw_all := lw_g (lw_at lw_m6 131 rfl) rfl
theorem q1465 : (Jvm.Cond.instanceMethod ({ cls := "FlagLaundry$World", name := "flagsOf", desc := "(I)I" } : Jvm.MethodName)) ∈ lw_all := lw_g (lw_at lw_m6 133 rfl) rfl
theorem q1466 : (Jvm.Cond.selects "FlagLaundry$World" ({ cls := "FlagLaundry$World", name := "flagsOf", desc := "(I)I" } : Jvm.MethodName) ({ cls := "FlagLaundry$World", name := "flagsOf", desc := "(I)I" } : Jvm.MethodName)) ∈ lw_all := lw_g (lw_at lw_m6 134 rfl) rfl
theorem q1467 : (Jvm.Cond.code ({ cls := "FlagLaundry$World", name := "flagsOf", desc := "(I)I" } : Jvm.MethodName) prog_18_method_14_code (2 : Nat) (Option.some Jvm.ClassFile.FieldType.int)) ∈ lw_all := lw_g (lw_at lw_m6 135 rfl) rfl
theorem q1468 : (Jvm.Cond.static ({ cls := "FlagLaundry$World", name := "lambda$flagsOf$11", desc := "(ILFlagLaundry$Flag;)Z" } : Jvm.MethodName)) ∈ lw_all := lw_g (lw_at lw_m6 136 rfl) rfl
theorem q1469 : (Jvm.Cond.code ({ cls := "FlagLaundry$World", name := "lambda$flagsOf$11", desc := "(ILFlagLaundry$Flag;)Z" } : Jvm.MethodName) prog_18_method_39_code (2 : Nat) (Option.some Jvm.ClassFile.FieldType.boolean)) ∈ lw_all := lw_g (lw_at lw_m6 137 rfl) rfl
theorem q1471 : (Jvm.Cond.instanceMethod ({ cls := "FlagLaundry$World", name := "readyOf", desc := "(I)I" } : Jvm.MethodName)) ∈ lw_all := lw_g (lw_at lw_m6 139 rfl) rfl
theorem q1472 : (Jvm.Cond.selects "FlagLaundry$World" ({ cls := "FlagLaundry$World", name := "readyOf", desc := "(I)I" } : Jvm.MethodName) ({ cls := "FlagLaundry$World", name := "readyOf", desc := "(I)I" } : Jvm.MethodName)) ∈ lw_all := lw_g (lw_at lw_m6 140 rfl) rfl
theorem q1473 : (Jvm.Cond.code ({ cls := "FlagLaundry$World", name := "readyOf", desc := "(I)I" } : Jvm.MethodName) prog_18_method_13_code (2 : Nat) (Option.some Jvm.ClassFile.FieldType.int)) ∈ lw_all := lw_g (lw_at lw_m6 141 rfl) rfl
theorem q1474 : (Jvm.Cond.privateMethod ({ cls := "FlagLaundry$World", name := "lambda$readyOf$10", desc := "(ILFlagLaundry$Flag;)Z" } : Jvm.MethodName)) ∈ lw_tbl := lw_at lw_m6 142 rfl
theorem q1475 : (Jvm.Cond.instanceMethod ({ cls := "FlagLaundry$World", name := "lambda$readyOf$10", desc := "(ILFlagLaundry$Flag;)Z" } : Jvm.MethodName)) ∈ lw_all := lw_g (lw_at lw_m6 143 rfl) rfl
theorem q1476 : (Jvm.Cond.code ({ cls := "FlagLaundry$World", name := "lambda$readyOf$10", desc := "(ILFlagLaundry$Flag;)Z" } : Jvm.MethodName) prog_18_method_40_code (3 : Nat) (Option.some Jvm.ClassFile.FieldType.boolean)) ∈ lw_all := lw_g (lw_at lw_m6 144 rfl) rfl
theorem q1510 : (Jvm.Cond.instanceMethod ({ cls := "FlagLaundry$World", name := "dirtIn", desc := "(I)I" } : Jvm.MethodName)) ∈ lw_all := lw_g (lw_at lw_m6 178 rfl) rfl
theorem q1511 : (Jvm.Cond.selects "FlagLaundry$World" ({ cls := "FlagLaundry$World", name := "dirtIn", desc := "(I)I" } : Jvm.MethodName) ({ cls := "FlagLaundry$World", name := "dirtIn", desc := "(I)I" } : Jvm.MethodName)) ∈ lw_all := lw_g (lw_at lw_m6 179 rfl) rfl
theorem q1512 : (Jvm.Cond.code ({ cls := "FlagLaundry$World", name := "dirtIn", desc := "(I)I" } : Jvm.MethodName) prog_18_method_22_code (4 : Nat) (Option.some Jvm.ClassFile.FieldType.int)) ∈ lw_all := lw_g (lw_at lw_m6 180 rfl) rfl
theorem q1514 : (Jvm.Cond.instanceMethod ({ cls := "FlagLaundry$World", name := "coloursIn", desc := "(I)I" } : Jvm.MethodName)) ∈ lw_all := lw_g (lw_at lw_m6 182 rfl) rfl
theorem q1515 : (Jvm.Cond.selects "FlagLaundry$World" ({ cls := "FlagLaundry$World", name := "coloursIn", desc := "(I)I" } : Jvm.MethodName) ({ cls := "FlagLaundry$World", name := "coloursIn", desc := "(I)I" } : Jvm.MethodName)) ∈ lw_all := lw_g (lw_at lw_m6 183 rfl) rfl
theorem q1516 : (Jvm.Cond.code ({ cls := "FlagLaundry$World", name := "coloursIn", desc := "(I)I" } : Jvm.MethodName) prog_18_method_17_code (4 : Nat) (Option.some Jvm.ClassFile.FieldType.int)) ∈ lw_all := lw_g (lw_at lw_m6 184 rfl) rfl
theorem q1525 : (Jvm.Cond.instanceMethod ({ cls := "FlagLaundry$World", name := "inTub", desc := "(II)I" } : Jvm.MethodName)) ∈ lw_all := lw_g (lw_at lw_m6 193 rfl) rfl
theorem q1526 : (Jvm.Cond.selects "FlagLaundry$World" ({ cls := "FlagLaundry$World", name := "inTub", desc := "(II)I" } : Jvm.MethodName) ({ cls := "FlagLaundry$World", name := "inTub", desc := "(II)I" } : Jvm.MethodName)) ∈ lw_all := lw_g (lw_at lw_m6 194 rfl) rfl
theorem q1527 : (Jvm.Cond.code ({ cls := "FlagLaundry$World", name := "inTub", desc := "(II)I" } : Jvm.MethodName) prog_18_method_25_code (4 : Nat) (Option.some Jvm.ClassFile.FieldType.int)) ∈ lw_all := lw_g (lw_at lw_m6 195 rfl) rfl
theorem q1528 : (Jvm.Cond.methodLink "FlagLaundry$World" (222 : Nat) ({ cls := "FlagLaundry$World", name := "ahead", desc := "(ILFlagLaundry$Flag;)I" } : Jvm.MethodName)) ∈ lw_all := lw_g (lw_at lw_m6 196 rfl) rfl
theorem q1529 : (Jvm.Cond.privateMethod ({ cls := "FlagLaundry$World", name := "ahead", desc := "(ILFlagLaundry$Flag;)I" } : Jvm.MethodName)) ∈ lw_tbl := lw_at lw_m6 197 rfl
theorem q1530 : (Jvm.Cond.instanceMethod ({ cls := "FlagLaundry$World", name := "ahead", desc := "(ILFlagLaundry$Flag;)I" } : Jvm.MethodName)) ∈ lw_all := lw_g (lw_at lw_m6 198 rfl) rfl
theorem q1531 : (Jvm.Cond.code ({ cls := "FlagLaundry$World", name := "ahead", desc := "(ILFlagLaundry$Flag;)I" } : Jvm.MethodName) prog_18_method_26_code (6 : Nat) (Option.some Jvm.ClassFile.FieldType.int)) ∈ lw_all := lw_g (lw_at lw_m6 199 rfl) rfl
theorem q1532 : (Jvm.Cond.static ({ cls := "FlagLaundry$World", name := "lambda$ahead$13", desc := "(IILFlagLaundry$Flag;)Z" } : Jvm.MethodName)) ∈ lw_all := lw_g (lw_at lw_m6 200 rfl) rfl
theorem q1533 : (Jvm.Cond.code ({ cls := "FlagLaundry$World", name := "lambda$ahead$13", desc := "(IILFlagLaundry$Flag;)Z" } : Jvm.MethodName) prog_18_method_37_code (5 : Nat) (Option.some Jvm.ClassFile.FieldType.boolean)) ∈ lw_all := lw_g (lw_at lw_m6 201 rfl) rfl
theorem q1564 : (Jvm.Cond.instanceMethod ({ cls := "FlagLaundry$World", name := "gap", desc := "()I" } : Jvm.MethodName)) ∈ lw_all := lw_g (lw_at lw_m6 232 rfl) rfl
theorem q1565 : (Jvm.Cond.selects "FlagLaundry$World" ({ cls := "FlagLaundry$World", name := "gap", desc := "()I" } : Jvm.MethodName) ({ cls := "FlagLaundry$World", name := "gap", desc := "()I" } : Jvm.MethodName)) ∈ lw_all := lw_g (lw_at lw_m6 233 rfl) rfl
theorem q1566 : (Jvm.Cond.code ({ cls := "FlagLaundry$World", name := "gap", desc := "()I" } : Jvm.MethodName) prog_18_method_36_code (5 : Nat) (Option.some Jvm.ClassFile.FieldType.int)) ∈ lw_all := lw_g (lw_at lw_m6 234 rfl) rfl
theorem q1567 : (Jvm.Cond.interfaceEntry "FlagLaundry$World" (57 : Nat)) ∈ lw_tbl := lw_at lw_m6 235 rfl
theorem q1568 : (Jvm.Cond.methodLink "FlagLaundry$World" (57 : Nat) ({ cls := "java/util/List", name := "iterator", desc := "()Ljava/util/Iterator;" } : Jvm.MethodName)) ∈ lw_all := lw_g (lw_at lw_m6 236 rfl) rfl
theorem q1595 : (Jvm.Cond.interfaceEntry "FlagLaundry$World" (63 : Nat)) ∈ lw_tbl := lw_at lw_m7 23 rfl
theorem q1596 : (Jvm.Cond.methodLink "FlagLaundry$World" (63 : Nat) ({ cls := "java/util/Iterator", name := "hasNext", desc := "()Z" } : Jvm.MethodName)) ∈ lw_all := lw_g (lw_at lw_m7 24 rfl) rfl
theorem q1605 : (Jvm.Cond.interfaceEntry "FlagLaundry$World" (69 : Nat)) ∈ lw_tbl := lw_at lw_m7 33 rfl
theorem q1606 : (Jvm.Cond.methodLink "FlagLaundry$World" (69 : Nat) ({ cls := "java/util/Iterator", name := "next", desc := "()Ljava/lang/Object;" } : Jvm.MethodName)) ∈ lw_all := lw_g (lw_at lw_m7 34 rfl) rfl
theorem q1618 : (Jvm.Cond.methodLink "FlagLaundry$World" (265 : Nat) ({ cls := "FlagLaundry$World", name := "nation", desc := "(I)LFlagLaundry$Nation;" } : Jvm.MethodName)) ∈ lw_all := lw_g (lw_at lw_m7 46 rfl) rfl
theorem q1619 : (Jvm.Cond.methodLink "FlagLaundry$World" (283 : Nat) ({ cls := "FlagLaundry$World", name := "at", desc := "(I)I" } : Jvm.MethodName)) ∈ lw_all := lw_g (lw_at lw_m7 47 rfl) rfl
theorem q1620 : (Jvm.Cond.methodLink "FlagLaundry$World" (286 : Nat) ({ cls := "java/lang/Math", name := "abs", desc := "(I)I" } : Jvm.MethodName)) ∈ lw_all := lw_g (lw_at lw_m7 48 rfl) rfl
theorem q1646 : (Jvm.Cond.instanceMethod ({ cls := "FlagLaundry$World", name := "culprit", desc := "(I)I" } : Jvm.MethodName)) ∈ lw_all := lw_g (lw_at lw_m7 74 rfl) rfl
theorem q1647 : (Jvm.Cond.selects "FlagLaundry$World" ({ cls := "FlagLaundry$World", name := "culprit", desc := "(I)I" } : Jvm.MethodName) ({ cls := "FlagLaundry$World", name := "culprit", desc := "(I)I" } : Jvm.MethodName)) ∈ lw_all := lw_g (lw_at lw_m7 75 rfl) rfl
theorem q1648 : (Jvm.Cond.code ({ cls := "FlagLaundry$World", name := "culprit", desc := "(I)I" } : Jvm.MethodName) prog_18_method_15_code (3 : Nat) (Option.some Jvm.ClassFile.FieldType.int)) ∈ lw_all := lw_g (lw_at lw_m7 76 rfl) rfl
theorem q1731 : (Jvm.Cond.instanceMethod ({ cls := "FlagLaundry$World", name := "stainedIf", desc := "(II)I" } : Jvm.MethodName)) ∈ lw_all := lw_g (lw_at lw_m7 159 rfl) rfl
theorem q1732 : (Jvm.Cond.selects "FlagLaundry$World" ({ cls := "FlagLaundry$World", name := "stainedIf", desc := "(II)I" } : Jvm.MethodName) ({ cls := "FlagLaundry$World", name := "stainedIf", desc := "(II)I" } : Jvm.MethodName)) ∈ lw_all := lw_g (lw_at lw_m7 160 rfl) rfl
theorem q1733 : (Jvm.Cond.code ({ cls := "FlagLaundry$World", name := "stainedIf", desc := "(II)I" } : Jvm.MethodName) prog_18_method_20_code (4 : Nat) (Option.some Jvm.ClassFile.FieldType.int)) ∈ lw_all := lw_g (lw_at lw_m7 161 rfl) rfl
theorem q1734 : (Jvm.Cond.static ({ cls := "FlagLaundry$World", name := "lambda$stainedIf$12", desc := "(IILFlagLaundry$Flag;)Z" } : Jvm.MethodName)) ∈ lw_all := lw_g (lw_at lw_m7 162 rfl) rfl
theorem q1735 : (Jvm.Cond.code ({ cls := "FlagLaundry$World", name := "lambda$stainedIf$12", desc := "(IILFlagLaundry$Flag;)Z" } : Jvm.MethodName) prog_18_method_38_code (3 : Nat) (Option.some Jvm.ClassFile.FieldType.boolean)) ∈ lw_all := lw_g (lw_at lw_m7 163 rfl) rfl
theorem q1736 : (Jvm.Cond.methodLink "FlagLaundry$World" (230 : Nat) ({ cls := "FlagLaundry$Flag", name := "gets", desc := "(I)I" } : Jvm.MethodName)) ∈ lw_all := lw_g (lw_at lw_m7 164 rfl) rfl
theorem q1745 : (Jvm.Cond.instanceMethod ({ cls := "FlagLaundry$World", name := "dirtIf", desc := "(II)I" } : Jvm.MethodName)) ∈ lw_all := lw_g (lw_at lw_m7 173 rfl) rfl
theorem q1746 : (Jvm.Cond.selects "FlagLaundry$World" ({ cls := "FlagLaundry$World", name := "dirtIf", desc := "(II)I" } : Jvm.MethodName) ({ cls := "FlagLaundry$World", name := "dirtIf", desc := "(II)I" } : Jvm.MethodName)) ∈ lw_all := lw_g (lw_at lw_m7 174 rfl) rfl
theorem q1747 : (Jvm.Cond.code ({ cls := "FlagLaundry$World", name := "dirtIf", desc := "(II)I" } : Jvm.MethodName) prog_18_method_21_code (5 : Nat) (Option.some Jvm.ClassFile.FieldType.int)) ∈ lw_all := lw_g (lw_at lw_m7 175 rfl) rfl
theorem q1748 : (Jvm.Cond.methodLink "FlagLaundry$World" (200 : Nat) ({ cls := "FlagLaundry$Flag", name := "washed", desc := "(LFlagLaundry$Heat;)I" } : Jvm.MethodName)) ∈ lw_all := lw_g (lw_at lw_m7 176 rfl) rfl
theorem q1772 : (Jvm.Cond.instanceMethod ({ cls := "FlagLaundry$World", name := "mixes", desc := "(LFlagLaundry$Flag;LFlagLaundry$Flag;I)I" } : Jvm.MethodName)) ∈ lw_all := lw_g (lw_at lw_m7 200 rfl) rfl
theorem q1773 : (Jvm.Cond.selects "FlagLaundry$World" ({ cls := "FlagLaundry$World", name := "mixes", desc := "(LFlagLaundry$Flag;LFlagLaundry$Flag;I)I" } : Jvm.MethodName) ({ cls := "FlagLaundry$World", name := "mixes", desc := "(LFlagLaundry$Flag;LFlagLaundry$Flag;I)I" } : Jvm.MethodName)) ∈ lw_all := lw_g (lw_at lw_m7 201 rfl) rfl
theorem q1774 : (Jvm.Cond.code ({ cls := "FlagLaundry$World", name := "mixes", desc := "(LFlagLaundry$Flag;LFlagLaundry$Flag;I)I" } : Jvm.MethodName) prog_18_method_28_code (4 : Nat) (Option.some Jvm.ClassFile.FieldType.int)) ∈ lw_all := lw_g (lw_at lw_m7 202 rfl) rfl
theorem q1775 : (Jvm.Cond.methodLink "FlagLaundry$World" (233 : Nat) ({ cls := "FlagLaundry$World", name := "gives", desc := "(LFlagLaundry$Flag;LFlagLaundry$Flag;I)Z" } : Jvm.MethodName)) ∈ lw_all := lw_g (lw_at lw_m7 203 rfl) rfl
theorem q1776 : (Jvm.Cond.instanceMethod ({ cls := "FlagLaundry$World", name := "gives", desc := "(LFlagLaundry$Flag;LFlagLaundry$Flag;I)Z" } : Jvm.MethodName)) ∈ lw_all := lw_g (lw_at lw_m7 204 rfl) rfl
theorem q1777 : (Jvm.Cond.selects "FlagLaundry$World" ({ cls := "FlagLaundry$World", name := "gives", desc := "(LFlagLaundry$Flag;LFlagLaundry$Flag;I)Z" } : Jvm.MethodName) ({ cls := "FlagLaundry$World", name := "gives", desc := "(LFlagLaundry$Flag;LFlagLaundry$Flag;I)Z" } : Jvm.MethodName)) ∈ lw_all := lw_g (lw_at lw_m7 205 rfl) rfl
theorem q1778 : (Jvm.Cond.code ({ cls := "FlagLaundry$World", name := "gives", desc := "(LFlagLaundry$Flag;LFlagLaundry$Flag;I)Z" } : Jvm.MethodName) prog_18_method_27_code (4 : Nat) (Option.some Jvm.ClassFile.FieldType.boolean)) ∈ lw_all := lw_g (lw_at lw_m7 206 rfl) rfl
theorem q1821 : (Jvm.Cond.instanceMethod ({ cls := "FlagLaundry$World", name := "<init>", desc := "(LFlagLaundry$World;)V" } : Jvm.MethodName)) ∈ lw_all := lw_g (lw_at lw_m8 9 rfl) rfl
theorem q1822 : (Jvm.Cond.code ({ cls := "FlagLaundry$World", name := "<init>", desc := "(LFlagLaundry$World;)V" } : Jvm.MethodName) prog_18_method_2_code (4 : Nat) (Option.none : Option Jvm.ClassFile.FieldType)) ∈ lw_all := lw_g (lw_at lw_m8 10 rfl) rfl
theorem q1823 : (Jvm.Cond.methodLink "FlagLaundry$World" (50 : Nat) ({ cls := "FlagLaundry$World", name := "<init>", desc := "(I)V" } : Jvm.MethodName)) ∈ lw_all := lw_g (lw_at lw_m8 11 rfl) rfl
theorem q1824 : (Jvm.Cond.methodLink "FlagLaundry$World" (51 : Nat) ({ cls := "java/lang/System", name := "arraycopy", desc := "(Ljava/lang/Object;ILjava/lang/Object;II)V" } : Jvm.MethodName)) ∈ lw_all := lw_g (lw_at lw_m8 12 rfl) rfl
theorem q1825 : (Jvm.Cond.methodLink "FlagLaundry$World" (75 : Nat) ({ cls := "FlagLaundry$Nation", name := "<init>", desc := "(LFlagLaundry$Nation;)V" } : Jvm.MethodName)) ∈ lw_all := lw_g (lw_at lw_m8 13 rfl) rfl
theorem q1829 : (Jvm.Cond.methodLink "FlagLaundry$World" (78 : Nat) ({ cls := "FlagLaundry$World", name := "adds", desc := "(LFlagLaundry$Nation;)V" } : Jvm.MethodName)) ∈ lw_all := lw_g (lw_at lw_m8 17 rfl) rfl
theorem q1830 : (Jvm.Cond.methodLink "FlagLaundry$World" (83 : Nat) ({ cls := "FlagLaundry$Flag", name := "<init>", desc := "(LFlagLaundry$Flag;)V" } : Jvm.MethodName)) ∈ lw_all := lw_g (lw_at lw_m8 18 rfl) rfl
theorem q1834 : (Jvm.Cond.methodLink "FlagLaundry$World" (86 : Nat) ({ cls := "FlagLaundry$World", name := "adds", desc := "(LFlagLaundry$Flag;)V" } : Jvm.MethodName)) ∈ lw_all := lw_g (lw_at lw_m8 22 rfl) rfl
theorem q1889 : (Jvm.Cond.instanceMethod ({ cls := "FlagLaundry$World", name := "irons", desc := "(LFlagLaundry$Flag;I)I" } : Jvm.MethodName)) ∈ lw_all := lw_g (lw_at lw_m8 77 rfl) rfl
theorem q1890 : (Jvm.Cond.selects "FlagLaundry$World" ({ cls := "FlagLaundry$World", name := "irons", desc := "(LFlagLaundry$Flag;I)I" } : Jvm.MethodName) ({ cls := "FlagLaundry$World", name := "irons", desc := "(LFlagLaundry$Flag;I)I" } : Jvm.MethodName)) ∈ lw_all := lw_g (lw_at lw_m8 78 rfl) rfl
theorem q1891 : (Jvm.Cond.code ({ cls := "FlagLaundry$World", name := "irons", desc := "(LFlagLaundry$Flag;I)I" } : Jvm.MethodName) prog_18_method_34_code (3 : Nat) (Option.some Jvm.ClassFile.FieldType.int)) ∈ lw_all := lw_g (lw_at lw_m8 79 rfl) rfl
theorem q1892 : (Jvm.Cond.methodLink "FlagLaundry$World" (262 : Nat) ({ cls := "FlagLaundry$Heat", name := "smooths", desc := "(Z)I" } : Jvm.MethodName)) ∈ lw_all := lw_g (lw_at lw_m8 80 rfl) rfl
theorem q2152 : (Jvm.Cond.instanceMethod ({ cls := "FlagLaundry$World", name := "hands", desc := "(I)I" } : Jvm.MethodName)) ∈ lw_all := lw_g (lw_at lw_m9 100 rfl) rfl
theorem q2153 : (Jvm.Cond.selects "FlagLaundry$World" ({ cls := "FlagLaundry$World", name := "hands", desc := "(I)I" } : Jvm.MethodName) ({ cls := "FlagLaundry$World", name := "hands", desc := "(I)I" } : Jvm.MethodName)) ∈ lw_all := lw_g (lw_at lw_m9 101 rfl) rfl
theorem q2154 : (Jvm.Cond.code ({ cls := "FlagLaundry$World", name := "hands", desc := "(I)I" } : Jvm.MethodName) prog_18_method_35_code (7 : Nat) (Option.some Jvm.ClassFile.FieldType.int)) ∈ lw_all := lw_g (lw_at lw_m9 102 rfl) rfl
theorem q2155 : (Jvm.Cond.methodLink "FlagLaundry$World" (268 : Nat) ({ cls := "FlagLaundry$World", name := "flagsOf", desc := "(I)I" } : Jvm.MethodName)) ∈ lw_all := lw_g (lw_at lw_m9 103 rfl) rfl
theorem q2156 : (Jvm.Cond.methodLink "FlagLaundry$World" (271 : Nat) ({ cls := "FlagLaundry$Nation", name := "pays", desc := "(I)I" } : Jvm.MethodName)) ∈ lw_all := lw_g (lw_at lw_m9 104 rfl) rfl
theorem q2158 : (Jvm.Cond.methodLinkNest "FlagLaundry$World" (276 : Nat) ({ cls := "FlagLaundry$Away", name := "<init>", desc := "()V" } : Jvm.MethodName) "FlagLaundry") ∈ lw_tbl := lw_at lw_m9 106 rfl
theorem q2992 : (Jvm.Cond.castable "FlagLaundry$World" "java/lang/Object") ∈ lw_tbl := lw_at lw_m12 220 rfl
theorem in_X5 : ∀ w ∈ wsX50, w ∈ lw_all := lw_in wsX50 [858, 860, 862, 864, 866, 868, 870, 872, 874, 876, 878, 880, 882, 884, 886] (by decide +kernel) (by decide +kernel)

/-! FlagLaundry$Nation -/
set_option maxRecDepth 100000
def RX6 : String := "FlagLaundry$Nation"
def TX6 : u_T := fun k => match k with
  | 0 => ("FlagLaundry$Nation", "due", "I", true)
  | 1 => ("FlagLaundry$Nation", "fee", "I", true)
  | 2 => ("FlagLaundry$Nation", "fine", "I", true)
  | _ => ("FlagLaundry$Nation", "handed", "I", false)
def tyX6 : Nat → FieldType := fun k => match k with
  | 0 => .int
  | 1 => .int
  | 2 => .int
  | _ => .int
abbrev wsX60 : List Cond := u_ws RX6 TX6 4
theorem nmX6 : ∀ a, a < 4 → ∀ b, b < 4 → a ≠ b → (TX6 a).2.1 ≠ (TX6 b).2.1 := by decide +kernel
theorem tyX6_ok : ∀ k, k < 4 → parseFieldDescriptor (TX6 k).2.2.1 = some (tyX6 k) := by decide +kernel
abbrev cX6_init : ByteArray := prog_12_method_1_code
def yX6_init : MethodName := ⟨RX6, "<init>", "(III)V"⟩
def dkwX6_init_1 : List UInt8 := [177]
abbrev dktX6_init_1 : List UInt8 := dkwX6_init_1 ++ []
def dkwX6_init_0 : List UInt8 := [42, 183, 0, 3, 42, 27, 181, 0, 9, 42, 28, 181, 0, 15, 42, 29, 181, 0, 18, 42, 2, 181, 0, 21]
abbrev dktX6_init_0 : List UInt8 := dkwX6_init_0 ++ dktX6_init_1
theorem dksX6_init_0 : cX6_init.data.toList.drop 0 = dktX6_init_0 := by decide +kernel
theorem dksX6_init_1 : cX6_init.data.toList.drop 24 = dktX6_init_1 := dk_seg dksX6_init_0 24 rfl rfl
theorem dX6_init_0 : decode cX6_init 0 = .ok (.aload_n 0, 1) := dk_42 (dk_at dksX6_init_0 0 rfl rfl)
theorem dX6_init_1 : decode cX6_init 1 = .ok (.invokespecial 3, 3) := dk_183 0 3 (dk_at dksX6_init_0 1 rfl rfl)
theorem dX6_init_4 : decode cX6_init 4 = .ok (.aload_n 0, 1) := dk_42 (dk_at dksX6_init_0 4 rfl rfl)
theorem dX6_init_5 : decode cX6_init 5 = .ok (.iload_n 1, 1) := dk_27 (dk_at dksX6_init_0 5 rfl rfl)
theorem dX6_init_6 : decode cX6_init 6 = .ok (.putfield 9, 3) := dk_181 0 9 (dk_at dksX6_init_0 6 rfl rfl)
theorem dX6_init_9 : decode cX6_init 9 = .ok (.aload_n 0, 1) := dk_42 (dk_at dksX6_init_0 9 rfl rfl)
theorem dX6_init_10 : decode cX6_init 10 = .ok (.iload_n 2, 1) := dk_28 (dk_at dksX6_init_0 10 rfl rfl)
theorem dX6_init_11 : decode cX6_init 11 = .ok (.putfield 15, 3) := dk_181 0 15 (dk_at dksX6_init_0 11 rfl rfl)
theorem dX6_init_14 : decode cX6_init 14 = .ok (.aload_n 0, 1) := dk_42 (dk_at dksX6_init_0 14 rfl rfl)
theorem dX6_init_15 : decode cX6_init 15 = .ok (.iload_n 3, 1) := dk_29 (dk_at dksX6_init_0 15 rfl rfl)
theorem dX6_init_16 : decode cX6_init 16 = .ok (.putfield 18, 3) := dk_181 0 18 (dk_at dksX6_init_0 16 rfl rfl)
theorem dX6_init_19 : decode cX6_init 19 = .ok (.aload_n 0, 1) := dk_42 (dk_at dksX6_init_0 19 rfl rfl)
theorem dX6_init_20 : decode cX6_init 20 = .ok (.iconst (-1), 1) := dk_2 (dk_at dksX6_init_0 20 rfl rfl)
theorem dX6_init_21 : decode cX6_init 21 = .ok (.putfield 21, 3) := dk_181 0 21 (dk_at dksX6_init_0 21 rfl rfl)
theorem dX6_init_24 : decode cX6_init 24 = .ok (.return_, 1) := dk_177 (dk_at dksX6_init_1 0 rfl rfl)
abbrev cX6_late : ByteArray := prog_12_method_3_code
def yX6_late : MethodName := ⟨RX6, "late", "(I)I"⟩
def dkwX6_late_0 : List UInt8 := [3, 27, 42, 180, 0, 9, 100, 184, 0, 27, 172]
abbrev dktX6_late_0 : List UInt8 := dkwX6_late_0 ++ []
theorem dksX6_late_0 : cX6_late.data.toList.drop 0 = dktX6_late_0 := by decide +kernel
theorem dX6_late_0 : decode cX6_late 0 = .ok (.iconst 0, 1) := dk_3 (dk_at dksX6_late_0 0 rfl rfl)
theorem dX6_late_1 : decode cX6_late 1 = .ok (.iload_n 1, 1) := dk_27 (dk_at dksX6_late_0 1 rfl rfl)
theorem dX6_late_2 : decode cX6_late 2 = .ok (.aload_n 0, 1) := dk_42 (dk_at dksX6_late_0 2 rfl rfl)
theorem dX6_late_3 : decode cX6_late 3 = .ok (.getfield 9, 3) := dk_180 0 9 (dk_at dksX6_late_0 3 rfl rfl)
theorem dX6_late_6 : decode cX6_late 6 = .ok (.isub, 1) := dk_100 (dk_at dksX6_late_0 6 rfl rfl)
theorem dX6_late_7 : decode cX6_late 7 = .ok (.invokestatic 27, 3) := dk_184 0 27 (dk_at dksX6_late_0 7 rfl rfl)
theorem dX6_late_10 : decode cX6_late 10 = .ok (.ireturn, 1) := dk_172 (dk_at dksX6_late_0 10 rfl rfl)
abbrev cX6_init_2 : ByteArray := prog_12_method_2_code
def yX6_init_2 : MethodName := ⟨RX6, "<init>", "(LFlagLaundry$Nation;)V"⟩
def dkwX6_init_2_1 : List UInt8 := [177]
abbrev dktX6_init_2_1 : List UInt8 := dkwX6_init_2_1 ++ []
def dkwX6_init_2_0 : List UInt8 := [42, 43, 180, 0, 9, 43, 180, 0, 15, 43, 180, 0, 18, 183, 0, 24, 42, 43, 180, 0, 21, 181, 0, 21]
abbrev dktX6_init_2_0 : List UInt8 := dkwX6_init_2_0 ++ dktX6_init_2_1
theorem dksX6_init_2_0 : cX6_init_2.data.toList.drop 0 = dktX6_init_2_0 := by decide +kernel
theorem dksX6_init_2_1 : cX6_init_2.data.toList.drop 24 = dktX6_init_2_1 := dk_seg dksX6_init_2_0 24 rfl rfl
theorem dX6_init_2_0 : decode cX6_init_2 0 = .ok (.aload_n 0, 1) := dk_42 (dk_at dksX6_init_2_0 0 rfl rfl)
theorem dX6_init_2_1 : decode cX6_init_2 1 = .ok (.aload_n 1, 1) := dk_43 (dk_at dksX6_init_2_0 1 rfl rfl)
theorem dX6_init_2_2 : decode cX6_init_2 2 = .ok (.getfield 9, 3) := dk_180 0 9 (dk_at dksX6_init_2_0 2 rfl rfl)
theorem dX6_init_2_5 : decode cX6_init_2 5 = .ok (.aload_n 1, 1) := dk_43 (dk_at dksX6_init_2_0 5 rfl rfl)
theorem dX6_init_2_6 : decode cX6_init_2 6 = .ok (.getfield 15, 3) := dk_180 0 15 (dk_at dksX6_init_2_0 6 rfl rfl)
theorem dX6_init_2_9 : decode cX6_init_2 9 = .ok (.aload_n 1, 1) := dk_43 (dk_at dksX6_init_2_0 9 rfl rfl)
theorem dX6_init_2_10 : decode cX6_init_2 10 = .ok (.getfield 18, 3) := dk_180 0 18 (dk_at dksX6_init_2_0 10 rfl rfl)
theorem dX6_init_2_13 : decode cX6_init_2 13 = .ok (.invokespecial 24, 3) := dk_183 0 24 (dk_at dksX6_init_2_0 13 rfl rfl)
theorem dX6_init_2_16 : decode cX6_init_2 16 = .ok (.aload_n 0, 1) := dk_42 (dk_at dksX6_init_2_0 16 rfl rfl)
theorem dX6_init_2_17 : decode cX6_init_2 17 = .ok (.aload_n 1, 1) := dk_43 (dk_at dksX6_init_2_0 17 rfl rfl)
theorem dX6_init_2_18 : decode cX6_init_2 18 = .ok (.getfield 21, 3) := dk_180 0 21 (dk_at dksX6_init_2_0 18 rfl rfl)
theorem dX6_init_2_21 : decode cX6_init_2 21 = .ok (.putfield 21, 3) := dk_181 0 21 (dk_at dksX6_init_2_0 21 rfl rfl)
theorem dX6_init_2_24 : decode cX6_init_2 24 = .ok (.return_, 1) := dk_177 (dk_at dksX6_init_2_1 0 rfl rfl)
abbrev cX6_pays : ByteArray := prog_12_method_4_code
def yX6_pays : MethodName := ⟨RX6, "pays", "(I)I"⟩
def dkwX6_pays_0 : List UInt8 := [3, 42, 180, 0, 15, 42, 180, 0, 18, 42, 27, 182, 0, 33, 104, 100, 184, 0, 27, 172]
abbrev dktX6_pays_0 : List UInt8 := dkwX6_pays_0 ++ []
theorem dksX6_pays_0 : cX6_pays.data.toList.drop 0 = dktX6_pays_0 := by decide +kernel
theorem dX6_pays_0 : decode cX6_pays 0 = .ok (.iconst 0, 1) := dk_3 (dk_at dksX6_pays_0 0 rfl rfl)
theorem dX6_pays_1 : decode cX6_pays 1 = .ok (.aload_n 0, 1) := dk_42 (dk_at dksX6_pays_0 1 rfl rfl)
theorem dX6_pays_2 : decode cX6_pays 2 = .ok (.getfield 15, 3) := dk_180 0 15 (dk_at dksX6_pays_0 2 rfl rfl)
theorem dX6_pays_5 : decode cX6_pays 5 = .ok (.aload_n 0, 1) := dk_42 (dk_at dksX6_pays_0 5 rfl rfl)
theorem dX6_pays_6 : decode cX6_pays 6 = .ok (.getfield 18, 3) := dk_180 0 18 (dk_at dksX6_pays_0 6 rfl rfl)
theorem dX6_pays_9 : decode cX6_pays 9 = .ok (.aload_n 0, 1) := dk_42 (dk_at dksX6_pays_0 9 rfl rfl)
theorem dX6_pays_10 : decode cX6_pays 10 = .ok (.iload_n 1, 1) := dk_27 (dk_at dksX6_pays_0 10 rfl rfl)
theorem dX6_pays_11 : decode cX6_pays 11 = .ok (.invokevirtual 33, 3) := dk_182 0 33 (dk_at dksX6_pays_0 11 rfl rfl)
theorem dX6_pays_14 : decode cX6_pays 14 = .ok (.imul, 1) := dk_104 (dk_at dksX6_pays_0 14 rfl rfl)
theorem dX6_pays_15 : decode cX6_pays 15 = .ok (.isub, 1) := dk_100 (dk_at dksX6_pays_0 15 rfl rfl)
theorem dX6_pays_16 : decode cX6_pays 16 = .ok (.invokestatic 27, 3) := dk_184 0 27 (dk_at dksX6_pays_0 16 rfl rfl)
theorem dX6_pays_19 : decode cX6_pays 19 = .ok (.ireturn, 1) := dk_172 (dk_at dksX6_pays_0 19 rfl rfl)
theorem q162 : (Jvm.Cond.initialized "FlagLaundry$Nation") ∈ lw_all := lw_g (lw_at lw_m1 30 rfl) rfl
theorem q978 : (Jvm.Cond.instantiable "FlagLaundry$Nation" (4 : Nat)) ∈ lw_all := lw_g (lw_at lw_m4 126 rfl) rfl
theorem q980 : (Jvm.Cond.instanceMethod ({ cls := "FlagLaundry$Nation", name := "<init>", desc := "(III)V" } : Jvm.MethodName)) ∈ lw_all := lw_g (lw_at lw_m4 128 rfl) rfl
theorem q981 : (Jvm.Cond.code ({ cls := "FlagLaundry$Nation", name := "<init>", desc := "(III)V" } : Jvm.MethodName) prog_12_method_1_code (4 : Nat) (Option.none : Option Jvm.ClassFile.FieldType)) ∈ lw_all := lw_g (lw_at lw_m4 129 rfl) rfl
theorem q982 : (Jvm.Cond.methodLink "FlagLaundry$Nation" (3 : Nat) ({ cls := "java/lang/Object", name := "<init>", desc := "()V" } : Jvm.MethodName)) ∈ lw_all := lw_g (lw_at lw_m4 130 rfl) rfl
theorem q983 : (Jvm.Cond.fieldLink "FlagLaundry$Nation" (9 : Nat) "FlagLaundry$Nation" "due" "I") ∈ lw_all := lw_g (lw_at lw_m4 131 rfl) rfl
theorem q985 : (Jvm.Cond.fieldLink "FlagLaundry$Nation" (15 : Nat) "FlagLaundry$Nation" "fee" "I") ∈ lw_all := lw_g (lw_at lw_m4 133 rfl) rfl
theorem q988 : (Jvm.Cond.fieldLink "FlagLaundry$Nation" (18 : Nat) "FlagLaundry$Nation" "fine" "I") ∈ lw_all := lw_g (lw_at lw_m4 136 rfl) rfl
theorem q990 : (Jvm.Cond.fieldLink "FlagLaundry$Nation" (21 : Nat) "FlagLaundry$Nation" "handed" "I") ∈ lw_all := lw_g (lw_at lw_m4 138 rfl) rfl
theorem q993 : (Jvm.Cond.laysFinal "FlagLaundry$Nation" "FlagLaundry$Nation" "due" "I") ∈ lw_all := lw_g (lw_at lw_m4 141 rfl) rfl
theorem q994 : (Jvm.Cond.soleField "FlagLaundry$Nation" "due") ∈ lw_all := lw_g (lw_at lw_m4 142 rfl) rfl
theorem q995 : (Jvm.Cond.laysFinal "FlagLaundry$Nation" "FlagLaundry$Nation" "fee" "I") ∈ lw_all := lw_g (lw_at lw_m4 143 rfl) rfl
theorem q996 : (Jvm.Cond.soleField "FlagLaundry$Nation" "fee") ∈ lw_all := lw_g (lw_at lw_m4 144 rfl) rfl
theorem q997 : (Jvm.Cond.laysFinal "FlagLaundry$Nation" "FlagLaundry$Nation" "fine" "I") ∈ lw_all := lw_g (lw_at lw_m4 145 rfl) rfl
theorem q998 : (Jvm.Cond.soleField "FlagLaundry$Nation" "fine") ∈ lw_all := lw_g (lw_at lw_m4 146 rfl) rfl
theorem q999 : (Jvm.Cond.lays "FlagLaundry$Nation" "FlagLaundry$Nation" "handed" "I") ∈ lw_all := lw_g (lw_at lw_m4 147 rfl) rfl
theorem q1000 : (Jvm.Cond.soleField "FlagLaundry$Nation" "handed") ∈ lw_all := lw_g (lw_at lw_m4 148 rfl) rfl
theorem q1001 : (Jvm.Cond.superclass "FlagLaundry$Nation" "java/lang/Object") ∈ lw_all := lw_g (lw_at lw_m4 149 rfl) rfl
theorem q1046 : (Jvm.Cond.selects "FlagLaundry$Nation" ({ cls := "java/lang/Object", name := "getClass", desc := "()Ljava/lang/Class;" } : Jvm.MethodName) ({ cls := "java/lang/Object", name := "getClass", desc := "()Ljava/lang/Class;" } : Jvm.MethodName)) ∈ lw_all := lw_g (lw_at lw_m4 194 rfl) rfl
theorem q1479 : (Jvm.Cond.instanceMethod ({ cls := "FlagLaundry$Nation", name := "late", desc := "(I)I" } : Jvm.MethodName)) ∈ lw_all := lw_g (lw_at lw_m6 147 rfl) rfl
theorem q1480 : (Jvm.Cond.selects "FlagLaundry$Nation" ({ cls := "FlagLaundry$Nation", name := "late", desc := "(I)I" } : Jvm.MethodName) ({ cls := "FlagLaundry$Nation", name := "late", desc := "(I)I" } : Jvm.MethodName)) ∈ lw_all := lw_g (lw_at lw_m6 148 rfl) rfl
theorem q1481 : (Jvm.Cond.code ({ cls := "FlagLaundry$Nation", name := "late", desc := "(I)I" } : Jvm.MethodName) prog_12_method_3_code (2 : Nat) (Option.some Jvm.ClassFile.FieldType.int)) ∈ lw_all := lw_g (lw_at lw_m6 149 rfl) rfl
theorem q1482 : (Jvm.Cond.methodLink "FlagLaundry$Nation" (27 : Nat) ({ cls := "java/lang/Math", name := "max", desc := "(II)I" } : Jvm.MethodName)) ∈ lw_all := lw_g (lw_at lw_m6 150 rfl) rfl
theorem q1826 : (Jvm.Cond.instanceMethod ({ cls := "FlagLaundry$Nation", name := "<init>", desc := "(LFlagLaundry$Nation;)V" } : Jvm.MethodName)) ∈ lw_all := lw_g (lw_at lw_m8 14 rfl) rfl
theorem q1827 : (Jvm.Cond.code ({ cls := "FlagLaundry$Nation", name := "<init>", desc := "(LFlagLaundry$Nation;)V" } : Jvm.MethodName) prog_12_method_2_code (2 : Nat) (Option.none : Option Jvm.ClassFile.FieldType)) ∈ lw_all := lw_g (lw_at lw_m8 15 rfl) rfl
theorem q1828 : (Jvm.Cond.methodLink "FlagLaundry$Nation" (24 : Nat) ({ cls := "FlagLaundry$Nation", name := "<init>", desc := "(III)V" } : Jvm.MethodName)) ∈ lw_all := lw_g (lw_at lw_m8 16 rfl) rfl
theorem q1861 : (Jvm.Cond.instanceMethod ({ cls := "FlagLaundry$Nation", name := "pays", desc := "(I)I" } : Jvm.MethodName)) ∈ lw_all := lw_g (lw_at lw_m8 49 rfl) rfl
theorem q1862 : (Jvm.Cond.selects "FlagLaundry$Nation" ({ cls := "FlagLaundry$Nation", name := "pays", desc := "(I)I" } : Jvm.MethodName) ({ cls := "FlagLaundry$Nation", name := "pays", desc := "(I)I" } : Jvm.MethodName)) ∈ lw_all := lw_g (lw_at lw_m8 50 rfl) rfl
theorem q1863 : (Jvm.Cond.code ({ cls := "FlagLaundry$Nation", name := "pays", desc := "(I)I" } : Jvm.MethodName) prog_12_method_4_code (2 : Nat) (Option.some Jvm.ClassFile.FieldType.int)) ∈ lw_all := lw_g (lw_at lw_m8 51 rfl) rfl
theorem q1864 : (Jvm.Cond.methodLink "FlagLaundry$Nation" (33 : Nat) ({ cls := "FlagLaundry$Nation", name := "late", desc := "(I)I" } : Jvm.MethodName)) ∈ lw_all := lw_g (lw_at lw_m8 52 rfl) rfl
theorem q3007 : (Jvm.Cond.castable "FlagLaundry$Nation" "java/lang/Object") ∈ lw_tbl := lw_at lw_m12 235 rfl
theorem in_X6 : ∀ w ∈ wsX60, w ∈ lw_all := lw_in wsX60 [993, 995, 997, 999] (by decide +kernel) (by decide +kernel)

/-! FlagLaundry$Flag -/
set_option maxRecDepth 100000
def RX7 : String := "FlagLaundry$Flag"
def TX7 : u_T := fun k => match k with
  | 0 => ("FlagLaundry$Flag", "nation", "I", true)
  | 1 => ("FlagLaundry$Flag", "colours", "I", true)
  | 2 => ("FlagLaundry$Flag", "care", "I", true)
  | 3 => ("FlagLaundry$Flag", "dirt", "I", false)
  | 4 => ("FlagLaundry$Flag", "wet", "I", false)
  | 5 => ("FlagLaundry$Flag", "crease", "I", false)
  | 6 => ("FlagLaundry$Flag", "stains", "I", false)
  | 7 => ("FlagLaundry$Flag", "bleached", "I", false)
  | _ => ("FlagLaundry$Flag", "place", "LFlagLaundry$Place;", false)
def tyX7 : Nat → FieldType := fun k => match k with
  | 0 => .int
  | 1 => .int
  | 2 => .int
  | 3 => .int
  | 4 => .int
  | 5 => .int
  | 6 => .int
  | 7 => .int
  | _ => .object "FlagLaundry$Place"
abbrev wsX70 : List Cond := u_ws RX7 TX7 9
theorem nmX7 : ∀ a, a < 9 → ∀ b, b < 9 → a ≠ b → (TX7 a).2.1 ≠ (TX7 b).2.1 := by decide +kernel
theorem tyX7_ok : ∀ k, k < 9 → parseFieldDescriptor (TX7 k).2.2.1 = some (tyX7 k) := by decide +kernel
abbrev cX7_init : ByteArray := prog_4_method_1_code
def yX7_init : MethodName := ⟨RX7, "<init>", "(IIII)V"⟩
def dkwX7_init_1 : List UInt8 := [181, 0, 22, 42, 29, 181, 0, 25, 42, 21, 4, 181, 0, 28, 177]
abbrev dktX7_init_1 : List UInt8 := dkwX7_init_1 ++ []
def dkwX7_init_0 : List UInt8 := [42, 183, 0, 3, 42, 187, 0, 9, 89, 183, 0, 11, 181, 0, 12, 42, 27, 181, 0, 18, 42, 28]
abbrev dktX7_init_0 : List UInt8 := dkwX7_init_0 ++ dktX7_init_1
theorem dksX7_init_0 : cX7_init.data.toList.drop 0 = dktX7_init_0 := by decide +kernel
theorem dksX7_init_1 : cX7_init.data.toList.drop 22 = dktX7_init_1 := dk_seg dksX7_init_0 22 rfl rfl
theorem dX7_init_0 : decode cX7_init 0 = .ok (.aload_n 0, 1) := dk_42 (dk_at dksX7_init_0 0 rfl rfl)
theorem dX7_init_1 : decode cX7_init 1 = .ok (.invokespecial 3, 3) := dk_183 0 3 (dk_at dksX7_init_0 1 rfl rfl)
theorem dX7_init_4 : decode cX7_init 4 = .ok (.aload_n 0, 1) := dk_42 (dk_at dksX7_init_0 4 rfl rfl)
theorem dX7_init_5 : decode cX7_init 5 = .ok (.new 9, 3) := dk_187 0 9 (dk_at dksX7_init_0 5 rfl rfl)
theorem dX7_init_8 : decode cX7_init 8 = .ok (.dup, 1) := dk_89 (dk_at dksX7_init_0 8 rfl rfl)
theorem dX7_init_9 : decode cX7_init 9 = .ok (.invokespecial 11, 3) := dk_183 0 11 (dk_at dksX7_init_0 9 rfl rfl)
theorem dX7_init_12 : decode cX7_init 12 = .ok (.putfield 12, 3) := dk_181 0 12 (dk_at dksX7_init_0 12 rfl rfl)
theorem dX7_init_15 : decode cX7_init 15 = .ok (.aload_n 0, 1) := dk_42 (dk_at dksX7_init_0 15 rfl rfl)
theorem dX7_init_16 : decode cX7_init 16 = .ok (.iload_n 1, 1) := dk_27 (dk_at dksX7_init_0 16 rfl rfl)
theorem dX7_init_17 : decode cX7_init 17 = .ok (.putfield 18, 3) := dk_181 0 18 (dk_at dksX7_init_0 17 rfl rfl)
theorem dX7_init_20 : decode cX7_init 20 = .ok (.aload_n 0, 1) := dk_42 (dk_at dksX7_init_0 20 rfl rfl)
theorem dX7_init_21 : decode cX7_init 21 = .ok (.iload_n 2, 1) := dk_28 (dk_at dksX7_init_0 21 rfl rfl)
theorem dX7_init_22 : decode cX7_init 22 = .ok (.putfield 22, 3) := dk_181 0 22 (dk_at dksX7_init_1 0 rfl rfl)
theorem dX7_init_25 : decode cX7_init 25 = .ok (.aload_n 0, 1) := dk_42 (dk_at dksX7_init_1 3 rfl rfl)
theorem dX7_init_26 : decode cX7_init 26 = .ok (.iload_n 3, 1) := dk_29 (dk_at dksX7_init_1 4 rfl rfl)
theorem dX7_init_27 : decode cX7_init 27 = .ok (.putfield 25, 3) := dk_181 0 25 (dk_at dksX7_init_1 5 rfl rfl)
theorem dX7_init_30 : decode cX7_init 30 = .ok (.aload_n 0, 1) := dk_42 (dk_at dksX7_init_1 8 rfl rfl)
theorem dX7_init_31 : decode cX7_init 31 = .ok (.iload 4, 2) := dk_21 4 (dk_at dksX7_init_1 9 rfl rfl)
theorem dX7_init_33 : decode cX7_init 33 = .ok (.putfield 28, 3) := dk_181 0 28 (dk_at dksX7_init_1 11 rfl rfl)
theorem dX7_init_36 : decode cX7_init 36 = .ok (.return_, 1) := dk_177 (dk_at dksX7_init_1 14 rfl rfl)
abbrev cX7_isHere : ByteArray := prog_4_method_3_code
def yX7_isHere : MethodName := ⟨RX7, "isHere", "()Z"⟩
def dkwX7_isHere_0 : List UInt8 := [42, 180, 0, 12, 193, 0, 9, 172]
abbrev dktX7_isHere_0 : List UInt8 := dkwX7_isHere_0 ++ []
theorem dksX7_isHere_0 : cX7_isHere.data.toList.drop 0 = dktX7_isHere_0 := by decide +kernel
theorem dX7_isHere_0 : decode cX7_isHere 0 = .ok (.aload_n 0, 1) := dk_42 (dk_at dksX7_isHere_0 0 rfl rfl)
theorem dX7_isHere_1 : decode cX7_isHere 1 = .ok (.getfield 12, 3) := dk_180 0 12 (dk_at dksX7_isHere_0 1 rfl rfl)
theorem dX7_isHere_4 : decode cX7_isHere 4 = .ok (.instanceof 9, 3) := dk_193 0 9 (dk_at dksX7_isHere_0 4 rfl rfl)
theorem dX7_isHere_7 : decode cX7_isHere 7 = .ok (.ireturn, 1) := dk_172 (dk_at dksX7_isHere_0 7 rfl rfl)
abbrev cX7_isIn : ByteArray := prog_4_method_4_code
def yX7_isIn : MethodName := ⟨RX7, "isIn", "(I)Z"⟩
def dkwX7_isIn_1 : List UInt8 := [160, 0, 7, 4, 167, 0, 4, 3, 172]
abbrev dktX7_isIn_1 : List UInt8 := dkwX7_isIn_1 ++ []
def dkwX7_isIn_0 : List UInt8 := [42, 180, 0, 12, 78, 45, 193, 0, 46, 153, 0, 20, 45, 192, 0, 46, 77, 44, 180, 0, 48, 27]
abbrev dktX7_isIn_0 : List UInt8 := dkwX7_isIn_0 ++ dktX7_isIn_1
theorem dksX7_isIn_0 : cX7_isIn.data.toList.drop 0 = dktX7_isIn_0 := by decide +kernel
theorem dksX7_isIn_1 : cX7_isIn.data.toList.drop 22 = dktX7_isIn_1 := dk_seg dksX7_isIn_0 22 rfl rfl
theorem dX7_isIn_0 : decode cX7_isIn 0 = .ok (.aload_n 0, 1) := dk_42 (dk_at dksX7_isIn_0 0 rfl rfl)
theorem dX7_isIn_1 : decode cX7_isIn 1 = .ok (.getfield 12, 3) := dk_180 0 12 (dk_at dksX7_isIn_0 1 rfl rfl)
theorem dX7_isIn_4 : decode cX7_isIn 4 = .ok (.astore_n 3, 1) := dk_78 (dk_at dksX7_isIn_0 4 rfl rfl)
theorem dX7_isIn_5 : decode cX7_isIn 5 = .ok (.aload_n 3, 1) := dk_45 (dk_at dksX7_isIn_0 5 rfl rfl)
theorem dX7_isIn_6 : decode cX7_isIn 6 = .ok (.instanceof 46, 3) := dk_193 0 46 (dk_at dksX7_isIn_0 6 rfl rfl)
theorem dX7_isIn_9 : decode cX7_isIn 9 = .ok (.ifCond .eq 20, 3) := dk_153 0 20 (dk_at dksX7_isIn_0 9 rfl rfl)
theorem dX7_isIn_12 : decode cX7_isIn 12 = .ok (.aload_n 3, 1) := dk_45 (dk_at dksX7_isIn_0 12 rfl rfl)
theorem dX7_isIn_13 : decode cX7_isIn 13 = .ok (.checkcast 46, 3) := dk_192 0 46 (dk_at dksX7_isIn_0 13 rfl rfl)
theorem dX7_isIn_16 : decode cX7_isIn 16 = .ok (.astore_n 2, 1) := dk_77 (dk_at dksX7_isIn_0 16 rfl rfl)
theorem dX7_isIn_17 : decode cX7_isIn 17 = .ok (.aload_n 2, 1) := dk_44 (dk_at dksX7_isIn_0 17 rfl rfl)
theorem dX7_isIn_18 : decode cX7_isIn 18 = .ok (.getfield 48, 3) := dk_180 0 48 (dk_at dksX7_isIn_0 18 rfl rfl)
theorem dX7_isIn_21 : decode cX7_isIn 21 = .ok (.iload_n 1, 1) := dk_27 (dk_at dksX7_isIn_0 21 rfl rfl)
theorem dX7_isIn_22 : decode cX7_isIn 22 = .ok (.if_icmp .ne 7, 3) := dk_160 0 7 (dk_at dksX7_isIn_1 0 rfl rfl)
theorem dX7_isIn_25 : decode cX7_isIn 25 = .ok (.iconst 1, 1) := dk_4 (dk_at dksX7_isIn_1 3 rfl rfl)
theorem dX7_isIn_26 : decode cX7_isIn 26 = .ok (.goto 4, 3) := dk_167 0 4 (dk_at dksX7_isIn_1 4 rfl rfl)
theorem dX7_isIn_29 : decode cX7_isIn 29 = .ok (.iconst 0, 1) := dk_3 (dk_at dksX7_isIn_1 7 rfl rfl)
theorem dX7_isIn_30 : decode cX7_isIn 30 = .ok (.ireturn, 1) := dk_172 (dk_at dksX7_isIn_1 8 rfl rfl)
abbrev cX7_washes : ByteArray := prog_4_method_8_code
def yX7_washes : MethodName := ⟨RX7, "washes", "(LFlagLaundry$Heat;I)I"⟩
def dkwX7_washes_3 : List UInt8 := [184, 0, 82, 172]
abbrev dktX7_washes_3 : List UInt8 := dkwX7_washes_3 ++ []
def dkwX7_washes_2 : List UInt8 := [181, 0, 37, 42, 187, 0, 9, 89, 183, 0, 11, 181, 0, 12, 29, 153, 0, 7, 4, 167, 0, 4, 3]
abbrev dktX7_washes_2 : List UInt8 := dkwX7_washes_2 ++ dktX7_washes_3
def dkwX7_washes_1 : List UInt8 := [181, 0, 28, 42, 16, 9, 181, 0, 34, 42, 16, 9, 42, 180, 0, 37, 43, 182, 0, 76, 96, 184, 0, 79]
abbrev dktX7_washes_1 : List UInt8 := dkwX7_washes_1 ++ dktX7_washes_2
def dkwX7_washes_0 : List UInt8 := [42, 28, 182, 0, 68, 62, 42, 89, 180, 0, 40, 29, 128, 181, 0, 40, 42, 42, 43, 182, 0, 72]
abbrev dktX7_washes_0 : List UInt8 := dkwX7_washes_0 ++ dktX7_washes_1
theorem dksX7_washes_0 : cX7_washes.data.toList.drop 0 = dktX7_washes_0 := by decide +kernel
theorem dksX7_washes_1 : cX7_washes.data.toList.drop 22 = dktX7_washes_1 := dk_seg dksX7_washes_0 22 rfl rfl
theorem dksX7_washes_2 : cX7_washes.data.toList.drop 46 = dktX7_washes_2 := dk_seg dksX7_washes_1 24 rfl rfl
theorem dksX7_washes_3 : cX7_washes.data.toList.drop 69 = dktX7_washes_3 := dk_seg dksX7_washes_2 23 rfl rfl
theorem dX7_washes_0 : decode cX7_washes 0 = .ok (.aload_n 0, 1) := dk_42 (dk_at dksX7_washes_0 0 rfl rfl)
theorem dX7_washes_1 : decode cX7_washes 1 = .ok (.iload_n 2, 1) := dk_28 (dk_at dksX7_washes_0 1 rfl rfl)
theorem dX7_washes_2 : decode cX7_washes 2 = .ok (.invokevirtual 68, 3) := dk_182 0 68 (dk_at dksX7_washes_0 2 rfl rfl)
theorem dX7_washes_5 : decode cX7_washes 5 = .ok (.istore_n 3, 1) := dk_62 (dk_at dksX7_washes_0 5 rfl rfl)
theorem dX7_washes_6 : decode cX7_washes 6 = .ok (.aload_n 0, 1) := dk_42 (dk_at dksX7_washes_0 6 rfl rfl)
theorem dX7_washes_7 : decode cX7_washes 7 = .ok (.dup, 1) := dk_89 (dk_at dksX7_washes_0 7 rfl rfl)
theorem dX7_washes_8 : decode cX7_washes 8 = .ok (.getfield 40, 3) := dk_180 0 40 (dk_at dksX7_washes_0 8 rfl rfl)
theorem dX7_washes_11 : decode cX7_washes 11 = .ok (.iload_n 3, 1) := dk_29 (dk_at dksX7_washes_0 11 rfl rfl)
theorem dX7_washes_12 : decode cX7_washes 12 = .ok (.ior, 1) := dk_128 (dk_at dksX7_washes_0 12 rfl rfl)
theorem dX7_washes_13 : decode cX7_washes 13 = .ok (.putfield 40, 3) := dk_181 0 40 (dk_at dksX7_washes_0 13 rfl rfl)
theorem dX7_washes_16 : decode cX7_washes 16 = .ok (.aload_n 0, 1) := dk_42 (dk_at dksX7_washes_0 16 rfl rfl)
theorem dX7_washes_17 : decode cX7_washes 17 = .ok (.aload_n 0, 1) := dk_42 (dk_at dksX7_washes_0 17 rfl rfl)
theorem dX7_washes_18 : decode cX7_washes 18 = .ok (.aload_n 1, 1) := dk_43 (dk_at dksX7_washes_0 18 rfl rfl)
theorem dX7_washes_19 : decode cX7_washes 19 = .ok (.invokevirtual 72, 3) := dk_182 0 72 (dk_at dksX7_washes_0 19 rfl rfl)
theorem dX7_washes_22 : decode cX7_washes 22 = .ok (.putfield 28, 3) := dk_181 0 28 (dk_at dksX7_washes_1 0 rfl rfl)
theorem dX7_washes_25 : decode cX7_washes 25 = .ok (.aload_n 0, 1) := dk_42 (dk_at dksX7_washes_1 3 rfl rfl)
theorem dX7_washes_26 : decode cX7_washes 26 = .ok (.bipush 9, 2) := dk_16 9 (dk_at dksX7_washes_1 4 rfl rfl)
theorem dX7_washes_28 : decode cX7_washes 28 = .ok (.putfield 34, 3) := dk_181 0 34 (dk_at dksX7_washes_1 6 rfl rfl)
theorem dX7_washes_31 : decode cX7_washes 31 = .ok (.aload_n 0, 1) := dk_42 (dk_at dksX7_washes_1 9 rfl rfl)
theorem dX7_washes_32 : decode cX7_washes 32 = .ok (.bipush 9, 2) := dk_16 9 (dk_at dksX7_washes_1 10 rfl rfl)
theorem dX7_washes_34 : decode cX7_washes 34 = .ok (.aload_n 0, 1) := dk_42 (dk_at dksX7_washes_1 12 rfl rfl)
theorem dX7_washes_35 : decode cX7_washes 35 = .ok (.getfield 37, 3) := dk_180 0 37 (dk_at dksX7_washes_1 13 rfl rfl)
theorem dX7_washes_38 : decode cX7_washes 38 = .ok (.aload_n 1, 1) := dk_43 (dk_at dksX7_washes_1 16 rfl rfl)
theorem dX7_washes_39 : decode cX7_washes 39 = .ok (.invokevirtual 76, 3) := dk_182 0 76 (dk_at dksX7_washes_1 17 rfl rfl)
theorem dX7_washes_42 : decode cX7_washes 42 = .ok (.iadd, 1) := dk_96 (dk_at dksX7_washes_1 20 rfl rfl)
theorem dX7_washes_43 : decode cX7_washes 43 = .ok (.invokestatic 79, 3) := dk_184 0 79 (dk_at dksX7_washes_1 21 rfl rfl)
theorem dX7_washes_46 : decode cX7_washes 46 = .ok (.putfield 37, 3) := dk_181 0 37 (dk_at dksX7_washes_2 0 rfl rfl)
theorem dX7_washes_49 : decode cX7_washes 49 = .ok (.aload_n 0, 1) := dk_42 (dk_at dksX7_washes_2 3 rfl rfl)
theorem dX7_washes_50 : decode cX7_washes 50 = .ok (.new 9, 3) := dk_187 0 9 (dk_at dksX7_washes_2 4 rfl rfl)
theorem dX7_washes_53 : decode cX7_washes 53 = .ok (.dup, 1) := dk_89 (dk_at dksX7_washes_2 7 rfl rfl)
theorem dX7_washes_54 : decode cX7_washes 54 = .ok (.invokespecial 11, 3) := dk_183 0 11 (dk_at dksX7_washes_2 8 rfl rfl)
theorem dX7_washes_57 : decode cX7_washes 57 = .ok (.putfield 12, 3) := dk_181 0 12 (dk_at dksX7_washes_2 11 rfl rfl)
theorem dX7_washes_60 : decode cX7_washes 60 = .ok (.iload_n 3, 1) := dk_29 (dk_at dksX7_washes_2 14 rfl rfl)
theorem dX7_washes_61 : decode cX7_washes 61 = .ok (.ifCond .eq 7, 3) := dk_153 0 7 (dk_at dksX7_washes_2 15 rfl rfl)
theorem dX7_washes_64 : decode cX7_washes 64 = .ok (.iconst 1, 1) := dk_4 (dk_at dksX7_washes_2 18 rfl rfl)
theorem dX7_washes_65 : decode cX7_washes 65 = .ok (.goto 4, 3) := dk_167 0 4 (dk_at dksX7_washes_2 19 rfl rfl)
theorem dX7_washes_68 : decode cX7_washes 68 = .ok (.iconst 0, 1) := dk_3 (dk_at dksX7_washes_2 22 rfl rfl)
theorem dX7_washes_69 : decode cX7_washes 69 = .ok (.invokestatic 82, 3) := dk_184 0 82 (dk_at dksX7_washes_3 0 rfl rfl)
theorem dX7_washes_72 : decode cX7_washes 72 = .ok (.ireturn, 1) := dk_172 (dk_at dksX7_washes_3 3 rfl rfl)
abbrev cX7_gets : ByteArray := prog_4_method_6_code
def yX7_gets : MethodName := ⟨RX7, "gets", "(I)I"⟩
def dkwX7_gets_0 : List UInt8 := [27, 42, 180, 0, 22, 2, 130, 126, 42, 180, 0, 40, 2, 130, 126, 172]
abbrev dktX7_gets_0 : List UInt8 := dkwX7_gets_0 ++ []
theorem dksX7_gets_0 : cX7_gets.data.toList.drop 0 = dktX7_gets_0 := by decide +kernel
theorem dX7_gets_0 : decode cX7_gets 0 = .ok (.iload_n 1, 1) := dk_27 (dk_at dksX7_gets_0 0 rfl rfl)
theorem dX7_gets_1 : decode cX7_gets 1 = .ok (.aload_n 0, 1) := dk_42 (dk_at dksX7_gets_0 1 rfl rfl)
theorem dX7_gets_2 : decode cX7_gets 2 = .ok (.getfield 22, 3) := dk_180 0 22 (dk_at dksX7_gets_0 2 rfl rfl)
theorem dX7_gets_5 : decode cX7_gets 5 = .ok (.iconst (-1), 1) := dk_2 (dk_at dksX7_gets_0 5 rfl rfl)
theorem dX7_gets_6 : decode cX7_gets 6 = .ok (.ixor, 1) := dk_130 (dk_at dksX7_gets_0 6 rfl rfl)
theorem dX7_gets_7 : decode cX7_gets 7 = .ok (.iand, 1) := dk_126 (dk_at dksX7_gets_0 7 rfl rfl)
theorem dX7_gets_8 : decode cX7_gets 8 = .ok (.aload_n 0, 1) := dk_42 (dk_at dksX7_gets_0 8 rfl rfl)
theorem dX7_gets_9 : decode cX7_gets 9 = .ok (.getfield 40, 3) := dk_180 0 40 (dk_at dksX7_gets_0 9 rfl rfl)
theorem dX7_gets_12 : decode cX7_gets 12 = .ok (.iconst (-1), 1) := dk_2 (dk_at dksX7_gets_0 12 rfl rfl)
theorem dX7_gets_13 : decode cX7_gets 13 = .ok (.ixor, 1) := dk_130 (dk_at dksX7_gets_0 13 rfl rfl)
theorem dX7_gets_14 : decode cX7_gets 14 = .ok (.iand, 1) := dk_126 (dk_at dksX7_gets_0 14 rfl rfl)
theorem dX7_gets_15 : decode cX7_gets 15 = .ok (.ireturn, 1) := dk_172 (dk_at dksX7_gets_0 15 rfl rfl)
abbrev cX7_washed : ByteArray := prog_4_method_7_code
def yX7_washed : MethodName := ⟨RX7, "washed", "(LFlagLaundry$Heat;)I"⟩
def dkwX7_washed_0 : List UInt8 := [3, 42, 180, 0, 28, 43, 182, 0, 56, 100, 184, 0, 62, 172]
abbrev dktX7_washed_0 : List UInt8 := dkwX7_washed_0 ++ []
theorem dksX7_washed_0 : cX7_washed.data.toList.drop 0 = dktX7_washed_0 := by decide +kernel
theorem dX7_washed_0 : decode cX7_washed 0 = .ok (.iconst 0, 1) := dk_3 (dk_at dksX7_washed_0 0 rfl rfl)
theorem dX7_washed_1 : decode cX7_washed 1 = .ok (.aload_n 0, 1) := dk_42 (dk_at dksX7_washed_0 1 rfl rfl)
theorem dX7_washed_2 : decode cX7_washed 2 = .ok (.getfield 28, 3) := dk_180 0 28 (dk_at dksX7_washed_0 2 rfl rfl)
theorem dX7_washed_5 : decode cX7_washed 5 = .ok (.aload_n 1, 1) := dk_43 (dk_at dksX7_washed_0 5 rfl rfl)
theorem dX7_washed_6 : decode cX7_washed 6 = .ok (.invokevirtual 56, 3) := dk_182 0 56 (dk_at dksX7_washed_0 6 rfl rfl)
theorem dX7_washed_9 : decode cX7_washed 9 = .ok (.isub, 1) := dk_100 (dk_at dksX7_washed_0 9 rfl rfl)
theorem dX7_washed_10 : decode cX7_washed 10 = .ok (.invokestatic 62, 3) := dk_184 0 62 (dk_at dksX7_washed_0 10 rfl rfl)
theorem dX7_washed_13 : decode cX7_washed 13 = .ok (.ireturn, 1) := dk_172 (dk_at dksX7_washed_0 13 rfl rfl)
abbrev cX7_isOn : ByteArray := prog_4_method_5_code
def yX7_isOn : MethodName := ⟨RX7, "isOn", "(I)Z"⟩
def dkwX7_isOn_1 : List UInt8 := [160, 0, 7, 4, 167, 0, 4, 3, 172]
abbrev dktX7_isOn_1 : List UInt8 := dkwX7_isOn_1 ++ []
def dkwX7_isOn_0 : List UInt8 := [42, 180, 0, 12, 78, 45, 193, 0, 51, 153, 0, 20, 45, 192, 0, 51, 77, 44, 180, 0, 53, 27]
abbrev dktX7_isOn_0 : List UInt8 := dkwX7_isOn_0 ++ dktX7_isOn_1
theorem dksX7_isOn_0 : cX7_isOn.data.toList.drop 0 = dktX7_isOn_0 := by decide +kernel
theorem dksX7_isOn_1 : cX7_isOn.data.toList.drop 22 = dktX7_isOn_1 := dk_seg dksX7_isOn_0 22 rfl rfl
theorem dX7_isOn_0 : decode cX7_isOn 0 = .ok (.aload_n 0, 1) := dk_42 (dk_at dksX7_isOn_0 0 rfl rfl)
theorem dX7_isOn_1 : decode cX7_isOn 1 = .ok (.getfield 12, 3) := dk_180 0 12 (dk_at dksX7_isOn_0 1 rfl rfl)
theorem dX7_isOn_4 : decode cX7_isOn 4 = .ok (.astore_n 3, 1) := dk_78 (dk_at dksX7_isOn_0 4 rfl rfl)
theorem dX7_isOn_5 : decode cX7_isOn 5 = .ok (.aload_n 3, 1) := dk_45 (dk_at dksX7_isOn_0 5 rfl rfl)
theorem dX7_isOn_6 : decode cX7_isOn 6 = .ok (.instanceof 51, 3) := dk_193 0 51 (dk_at dksX7_isOn_0 6 rfl rfl)
theorem dX7_isOn_9 : decode cX7_isOn 9 = .ok (.ifCond .eq 20, 3) := dk_153 0 20 (dk_at dksX7_isOn_0 9 rfl rfl)
theorem dX7_isOn_12 : decode cX7_isOn 12 = .ok (.aload_n 3, 1) := dk_45 (dk_at dksX7_isOn_0 12 rfl rfl)
theorem dX7_isOn_13 : decode cX7_isOn 13 = .ok (.checkcast 51, 3) := dk_192 0 51 (dk_at dksX7_isOn_0 13 rfl rfl)
theorem dX7_isOn_16 : decode cX7_isOn 16 = .ok (.astore_n 2, 1) := dk_77 (dk_at dksX7_isOn_0 16 rfl rfl)
theorem dX7_isOn_17 : decode cX7_isOn 17 = .ok (.aload_n 2, 1) := dk_44 (dk_at dksX7_isOn_0 17 rfl rfl)
theorem dX7_isOn_18 : decode cX7_isOn 18 = .ok (.getfield 53, 3) := dk_180 0 53 (dk_at dksX7_isOn_0 18 rfl rfl)
theorem dX7_isOn_21 : decode cX7_isOn 21 = .ok (.iload_n 1, 1) := dk_27 (dk_at dksX7_isOn_0 21 rfl rfl)
theorem dX7_isOn_22 : decode cX7_isOn 22 = .ok (.if_icmp .ne 7, 3) := dk_160 0 7 (dk_at dksX7_isOn_1 0 rfl rfl)
theorem dX7_isOn_25 : decode cX7_isOn 25 = .ok (.iconst 1, 1) := dk_4 (dk_at dksX7_isOn_1 3 rfl rfl)
theorem dX7_isOn_26 : decode cX7_isOn 26 = .ok (.goto 4, 3) := dk_167 0 4 (dk_at dksX7_isOn_1 4 rfl rfl)
theorem dX7_isOn_29 : decode cX7_isOn 29 = .ok (.iconst 0, 1) := dk_3 (dk_at dksX7_isOn_1 7 rfl rfl)
theorem dX7_isOn_30 : decode cX7_isOn 30 = .ok (.ireturn, 1) := dk_172 (dk_at dksX7_isOn_1 8 rfl rfl)
abbrev cX7_init_2 : ByteArray := prog_4_method_2_code
def yX7_init_2 : MethodName := ⟨RX7, "<init>", "(LFlagLaundry$Flag;)V"⟩
def dkwX7_init_2_2 : List UInt8 := [180, 0, 43, 181, 0, 43, 42, 43, 180, 0, 12, 181, 0, 12, 177]
abbrev dktX7_init_2_2 : List UInt8 := dkwX7_init_2_2 ++ []
def dkwX7_init_2_1 : List UInt8 := [180, 0, 34, 181, 0, 34, 42, 43, 180, 0, 37, 181, 0, 37, 42, 43, 180, 0, 40, 181, 0, 40, 42, 43]
abbrev dktX7_init_2_1 : List UInt8 := dkwX7_init_2_1 ++ dktX7_init_2_2
def dkwX7_init_2_0 : List UInt8 := [42, 43, 180, 0, 18, 43, 180, 0, 22, 43, 180, 0, 25, 43, 180, 0, 28, 183, 0, 31, 42, 43]
abbrev dktX7_init_2_0 : List UInt8 := dkwX7_init_2_0 ++ dktX7_init_2_1
theorem dksX7_init_2_0 : cX7_init_2.data.toList.drop 0 = dktX7_init_2_0 := by decide +kernel
theorem dksX7_init_2_1 : cX7_init_2.data.toList.drop 22 = dktX7_init_2_1 := dk_seg dksX7_init_2_0 22 rfl rfl
theorem dksX7_init_2_2 : cX7_init_2.data.toList.drop 46 = dktX7_init_2_2 := dk_seg dksX7_init_2_1 24 rfl rfl
theorem dX7_init_2_0 : decode cX7_init_2 0 = .ok (.aload_n 0, 1) := dk_42 (dk_at dksX7_init_2_0 0 rfl rfl)
theorem dX7_init_2_1 : decode cX7_init_2 1 = .ok (.aload_n 1, 1) := dk_43 (dk_at dksX7_init_2_0 1 rfl rfl)
theorem dX7_init_2_2 : decode cX7_init_2 2 = .ok (.getfield 18, 3) := dk_180 0 18 (dk_at dksX7_init_2_0 2 rfl rfl)
theorem dX7_init_2_5 : decode cX7_init_2 5 = .ok (.aload_n 1, 1) := dk_43 (dk_at dksX7_init_2_0 5 rfl rfl)
theorem dX7_init_2_6 : decode cX7_init_2 6 = .ok (.getfield 22, 3) := dk_180 0 22 (dk_at dksX7_init_2_0 6 rfl rfl)
theorem dX7_init_2_9 : decode cX7_init_2 9 = .ok (.aload_n 1, 1) := dk_43 (dk_at dksX7_init_2_0 9 rfl rfl)
theorem dX7_init_2_10 : decode cX7_init_2 10 = .ok (.getfield 25, 3) := dk_180 0 25 (dk_at dksX7_init_2_0 10 rfl rfl)
theorem dX7_init_2_13 : decode cX7_init_2 13 = .ok (.aload_n 1, 1) := dk_43 (dk_at dksX7_init_2_0 13 rfl rfl)
theorem dX7_init_2_14 : decode cX7_init_2 14 = .ok (.getfield 28, 3) := dk_180 0 28 (dk_at dksX7_init_2_0 14 rfl rfl)
theorem dX7_init_2_17 : decode cX7_init_2 17 = .ok (.invokespecial 31, 3) := dk_183 0 31 (dk_at dksX7_init_2_0 17 rfl rfl)
theorem dX7_init_2_20 : decode cX7_init_2 20 = .ok (.aload_n 0, 1) := dk_42 (dk_at dksX7_init_2_0 20 rfl rfl)
theorem dX7_init_2_21 : decode cX7_init_2 21 = .ok (.aload_n 1, 1) := dk_43 (dk_at dksX7_init_2_0 21 rfl rfl)
theorem dX7_init_2_22 : decode cX7_init_2 22 = .ok (.getfield 34, 3) := dk_180 0 34 (dk_at dksX7_init_2_1 0 rfl rfl)
theorem dX7_init_2_25 : decode cX7_init_2 25 = .ok (.putfield 34, 3) := dk_181 0 34 (dk_at dksX7_init_2_1 3 rfl rfl)
theorem dX7_init_2_28 : decode cX7_init_2 28 = .ok (.aload_n 0, 1) := dk_42 (dk_at dksX7_init_2_1 6 rfl rfl)
theorem dX7_init_2_29 : decode cX7_init_2 29 = .ok (.aload_n 1, 1) := dk_43 (dk_at dksX7_init_2_1 7 rfl rfl)
theorem dX7_init_2_30 : decode cX7_init_2 30 = .ok (.getfield 37, 3) := dk_180 0 37 (dk_at dksX7_init_2_1 8 rfl rfl)
theorem dX7_init_2_33 : decode cX7_init_2 33 = .ok (.putfield 37, 3) := dk_181 0 37 (dk_at dksX7_init_2_1 11 rfl rfl)
theorem dX7_init_2_36 : decode cX7_init_2 36 = .ok (.aload_n 0, 1) := dk_42 (dk_at dksX7_init_2_1 14 rfl rfl)
theorem dX7_init_2_37 : decode cX7_init_2 37 = .ok (.aload_n 1, 1) := dk_43 (dk_at dksX7_init_2_1 15 rfl rfl)
theorem dX7_init_2_38 : decode cX7_init_2 38 = .ok (.getfield 40, 3) := dk_180 0 40 (dk_at dksX7_init_2_1 16 rfl rfl)
theorem dX7_init_2_41 : decode cX7_init_2 41 = .ok (.putfield 40, 3) := dk_181 0 40 (dk_at dksX7_init_2_1 19 rfl rfl)
theorem dX7_init_2_44 : decode cX7_init_2 44 = .ok (.aload_n 0, 1) := dk_42 (dk_at dksX7_init_2_1 22 rfl rfl)
theorem dX7_init_2_45 : decode cX7_init_2 45 = .ok (.aload_n 1, 1) := dk_43 (dk_at dksX7_init_2_1 23 rfl rfl)
theorem dX7_init_2_46 : decode cX7_init_2 46 = .ok (.getfield 43, 3) := dk_180 0 43 (dk_at dksX7_init_2_2 0 rfl rfl)
theorem dX7_init_2_49 : decode cX7_init_2 49 = .ok (.putfield 43, 3) := dk_181 0 43 (dk_at dksX7_init_2_2 3 rfl rfl)
theorem dX7_init_2_52 : decode cX7_init_2 52 = .ok (.aload_n 0, 1) := dk_42 (dk_at dksX7_init_2_2 6 rfl rfl)
theorem dX7_init_2_53 : decode cX7_init_2 53 = .ok (.aload_n 1, 1) := dk_43 (dk_at dksX7_init_2_2 7 rfl rfl)
theorem dX7_init_2_54 : decode cX7_init_2 54 = .ok (.getfield 12, 3) := dk_180 0 12 (dk_at dksX7_init_2_2 8 rfl rfl)
theorem dX7_init_2_57 : decode cX7_init_2 57 = .ok (.putfield 12, 3) := dk_181 0 12 (dk_at dksX7_init_2_2 11 rfl rfl)
theorem dX7_init_2_60 : decode cX7_init_2 60 = .ok (.return_, 1) := dk_177 (dk_at dksX7_init_2_2 14 rfl rfl)
theorem q163 : (Jvm.Cond.initialized "FlagLaundry$Flag") ∈ lw_all := lw_g (lw_at lw_m1 31 rfl) rfl
theorem q1039 : (Jvm.Cond.selects "FlagLaundry$Flag" ({ cls := "java/lang/Object", name := "getClass", desc := "()Ljava/lang/Class;" } : Jvm.MethodName) ({ cls := "java/lang/Object", name := "getClass", desc := "()Ljava/lang/Class;" } : Jvm.MethodName)) ∈ lw_all := lw_g (lw_at lw_m4 187 rfl) rfl
theorem q1084 : (Jvm.Cond.instantiable "FlagLaundry$Flag" (9 : Nat)) ∈ lw_all := lw_g (lw_at lw_m4 232 rfl) rfl
theorem q1086 : (Jvm.Cond.instanceMethod ({ cls := "FlagLaundry$Flag", name := "<init>", desc := "(IIII)V" } : Jvm.MethodName)) ∈ lw_all := lw_g (lw_at lw_m4 234 rfl) rfl
theorem q1087 : (Jvm.Cond.code ({ cls := "FlagLaundry$Flag", name := "<init>", desc := "(IIII)V" } : Jvm.MethodName) prog_4_method_1_code (5 : Nat) (Option.none : Option Jvm.ClassFile.FieldType)) ∈ lw_all := lw_g (lw_at lw_m4 235 rfl) rfl
theorem q1088 : (Jvm.Cond.methodLink "FlagLaundry$Flag" (3 : Nat) ({ cls := "java/lang/Object", name := "<init>", desc := "()V" } : Jvm.MethodName)) ∈ lw_all := lw_g (lw_at lw_m4 236 rfl) rfl
theorem q1089 : (Jvm.Cond.classLink "FlagLaundry$Flag" (9 : Nat) "FlagLaundry$Basket") ∈ lw_all := lw_g (lw_at lw_m4 237 rfl) rfl
theorem q1091 : (Jvm.Cond.methodLinkNest "FlagLaundry$Flag" (11 : Nat) ({ cls := "FlagLaundry$Basket", name := "<init>", desc := "()V" } : Jvm.MethodName) "FlagLaundry") ∈ lw_tbl := lw_at lw_m4 239 rfl
theorem q1096 : (Jvm.Cond.fieldLink "FlagLaundry$Flag" (18 : Nat) "FlagLaundry$Flag" "nation" "I") ∈ lw_all := lw_g (lw_at lw_m5 4 rfl) rfl
theorem q1099 : (Jvm.Cond.fieldLink "FlagLaundry$Flag" (22 : Nat) "FlagLaundry$Flag" "colours" "I") ∈ lw_all := lw_g (lw_at lw_m5 7 rfl) rfl
theorem q1102 : (Jvm.Cond.fieldLink "FlagLaundry$Flag" (25 : Nat) "FlagLaundry$Flag" "care" "I") ∈ lw_all := lw_g (lw_at lw_m5 10 rfl) rfl
theorem q1105 : (Jvm.Cond.fieldLink "FlagLaundry$Flag" (28 : Nat) "FlagLaundry$Flag" "dirt" "I") ∈ lw_all := lw_g (lw_at lw_m5 13 rfl) rfl
theorem q1108 : (Jvm.Cond.fieldLink "FlagLaundry$Flag" (34 : Nat) "FlagLaundry$Flag" "wet" "I") ∈ lw_all := lw_g (lw_at lw_m5 16 rfl) rfl
theorem q1111 : (Jvm.Cond.fieldLink "FlagLaundry$Flag" (37 : Nat) "FlagLaundry$Flag" "crease" "I") ∈ lw_all := lw_g (lw_at lw_m5 19 rfl) rfl
theorem q1114 : (Jvm.Cond.fieldLink "FlagLaundry$Flag" (40 : Nat) "FlagLaundry$Flag" "stains" "I") ∈ lw_all := lw_g (lw_at lw_m5 22 rfl) rfl
theorem q1117 : (Jvm.Cond.fieldLink "FlagLaundry$Flag" (43 : Nat) "FlagLaundry$Flag" "bleached" "I") ∈ lw_all := lw_g (lw_at lw_m5 25 rfl) rfl
theorem q1119 : (Jvm.Cond.fieldLink "FlagLaundry$Flag" (12 : Nat) "FlagLaundry$Flag" "place" "LFlagLaundry$Place;") ∈ lw_all := lw_g (lw_at lw_m5 27 rfl) rfl
theorem q1123 : (Jvm.Cond.laysFinal "FlagLaundry$Flag" "FlagLaundry$Flag" "nation" "I") ∈ lw_all := lw_g (lw_at lw_m5 31 rfl) rfl
theorem q1124 : (Jvm.Cond.soleField "FlagLaundry$Flag" "nation") ∈ lw_all := lw_g (lw_at lw_m5 32 rfl) rfl
theorem q1125 : (Jvm.Cond.laysFinal "FlagLaundry$Flag" "FlagLaundry$Flag" "colours" "I") ∈ lw_all := lw_g (lw_at lw_m5 33 rfl) rfl
theorem q1126 : (Jvm.Cond.soleField "FlagLaundry$Flag" "colours") ∈ lw_all := lw_g (lw_at lw_m5 34 rfl) rfl
theorem q1127 : (Jvm.Cond.laysFinal "FlagLaundry$Flag" "FlagLaundry$Flag" "care" "I") ∈ lw_all := lw_g (lw_at lw_m5 35 rfl) rfl
theorem q1128 : (Jvm.Cond.soleField "FlagLaundry$Flag" "care") ∈ lw_all := lw_g (lw_at lw_m5 36 rfl) rfl
theorem q1129 : (Jvm.Cond.lays "FlagLaundry$Flag" "FlagLaundry$Flag" "dirt" "I") ∈ lw_all := lw_g (lw_at lw_m5 37 rfl) rfl
theorem q1130 : (Jvm.Cond.soleField "FlagLaundry$Flag" "dirt") ∈ lw_all := lw_g (lw_at lw_m5 38 rfl) rfl
theorem q1131 : (Jvm.Cond.lays "FlagLaundry$Flag" "FlagLaundry$Flag" "wet" "I") ∈ lw_all := lw_g (lw_at lw_m5 39 rfl) rfl
theorem q1132 : (Jvm.Cond.soleField "FlagLaundry$Flag" "wet") ∈ lw_all := lw_g (lw_at lw_m5 40 rfl) rfl
theorem q1133 : (Jvm.Cond.lays "FlagLaundry$Flag" "FlagLaundry$Flag" "crease" "I") ∈ lw_all := lw_g (lw_at lw_m5 41 rfl) rfl
theorem q1134 : (Jvm.Cond.soleField "FlagLaundry$Flag" "crease") ∈ lw_all := lw_g (lw_at lw_m5 42 rfl) rfl
theorem q1135 : (Jvm.Cond.lays "FlagLaundry$Flag" "FlagLaundry$Flag" "stains" "I") ∈ lw_all := lw_g (lw_at lw_m5 43 rfl) rfl
theorem q1136 : (Jvm.Cond.soleField "FlagLaundry$Flag" "stains") ∈ lw_all := lw_g (lw_at lw_m5 44 rfl) rfl
theorem q1137 : (Jvm.Cond.lays "FlagLaundry$Flag" "FlagLaundry$Flag" "bleached" "I") ∈ lw_all := lw_g (lw_at lw_m5 45 rfl) rfl
theorem q1138 : (Jvm.Cond.soleField "FlagLaundry$Flag" "bleached") ∈ lw_all := lw_g (lw_at lw_m5 46 rfl) rfl
theorem q1139 : (Jvm.Cond.lays "FlagLaundry$Flag" "FlagLaundry$Flag" "place" "LFlagLaundry$Place;") ∈ lw_all := lw_g (lw_at lw_m5 47 rfl) rfl
theorem q1140 : (Jvm.Cond.soleField "FlagLaundry$Flag" "place") ∈ lw_all := lw_g (lw_at lw_m5 48 rfl) rfl
theorem q1141 : (Jvm.Cond.superclass "FlagLaundry$Flag" "java/lang/Object") ∈ lw_all := lw_g (lw_at lw_m5 49 rfl) rfl
theorem q1179 : (Jvm.Cond.instanceMethod ({ cls := "FlagLaundry$Flag", name := "isHere", desc := "()Z" } : Jvm.MethodName)) ∈ lw_all := lw_g (lw_at lw_m5 87 rfl) rfl
theorem q1180 : (Jvm.Cond.selects "FlagLaundry$Flag" ({ cls := "FlagLaundry$Flag", name := "isHere", desc := "()Z" } : Jvm.MethodName) ({ cls := "FlagLaundry$Flag", name := "isHere", desc := "()Z" } : Jvm.MethodName)) ∈ lw_all := lw_g (lw_at lw_m5 88 rfl) rfl
theorem q1181 : (Jvm.Cond.code ({ cls := "FlagLaundry$Flag", name := "isHere", desc := "()Z" } : Jvm.MethodName) prog_4_method_3_code (1 : Nat) (Option.some Jvm.ClassFile.FieldType.boolean)) ∈ lw_all := lw_g (lw_at lw_m5 89 rfl) rfl
theorem q1191 : (Jvm.Cond.instanceMethod ({ cls := "FlagLaundry$Flag", name := "isIn", desc := "(I)Z" } : Jvm.MethodName)) ∈ lw_all := lw_g (lw_at lw_m5 99 rfl) rfl
theorem q1192 : (Jvm.Cond.selects "FlagLaundry$Flag" ({ cls := "FlagLaundry$Flag", name := "isIn", desc := "(I)Z" } : Jvm.MethodName) ({ cls := "FlagLaundry$Flag", name := "isIn", desc := "(I)Z" } : Jvm.MethodName)) ∈ lw_all := lw_g (lw_at lw_m5 100 rfl) rfl
theorem q1193 : (Jvm.Cond.code ({ cls := "FlagLaundry$Flag", name := "isIn", desc := "(I)Z" } : Jvm.MethodName) prog_4_method_4_code (4 : Nat) (Option.some Jvm.ClassFile.FieldType.boolean)) ∈ lw_all := lw_g (lw_at lw_m5 101 rfl) rfl
theorem q1194 : (Jvm.Cond.classLink "FlagLaundry$Flag" (46 : Nat) "FlagLaundry$InTub") ∈ lw_all := lw_g (lw_at lw_m5 102 rfl) rfl
theorem q1223 : (Jvm.Cond.fieldLinkNest "FlagLaundry$Flag" (48 : Nat) "FlagLaundry$InTub" "tub" "I" "FlagLaundry") ∈ lw_tbl := lw_at lw_m5 131 rfl
theorem q1270 : (Jvm.Cond.instanceMethod ({ cls := "FlagLaundry$Flag", name := "washes", desc := "(LFlagLaundry$Heat;I)I" } : Jvm.MethodName)) ∈ lw_all := lw_g (lw_at lw_m5 178 rfl) rfl
theorem q1271 : (Jvm.Cond.selects "FlagLaundry$Flag" ({ cls := "FlagLaundry$Flag", name := "washes", desc := "(LFlagLaundry$Heat;I)I" } : Jvm.MethodName) ({ cls := "FlagLaundry$Flag", name := "washes", desc := "(LFlagLaundry$Heat;I)I" } : Jvm.MethodName)) ∈ lw_all := lw_g (lw_at lw_m5 179 rfl) rfl
theorem q1272 : (Jvm.Cond.code ({ cls := "FlagLaundry$Flag", name := "washes", desc := "(LFlagLaundry$Heat;I)I" } : Jvm.MethodName) prog_4_method_8_code (4 : Nat) (Option.some Jvm.ClassFile.FieldType.int)) ∈ lw_all := lw_g (lw_at lw_m5 180 rfl) rfl
theorem q1273 : (Jvm.Cond.methodLink "FlagLaundry$Flag" (68 : Nat) ({ cls := "FlagLaundry$Flag", name := "gets", desc := "(I)I" } : Jvm.MethodName)) ∈ lw_all := lw_g (lw_at lw_m5 181 rfl) rfl
theorem q1274 : (Jvm.Cond.instanceMethod ({ cls := "FlagLaundry$Flag", name := "gets", desc := "(I)I" } : Jvm.MethodName)) ∈ lw_all := lw_g (lw_at lw_m5 182 rfl) rfl
theorem q1275 : (Jvm.Cond.selects "FlagLaundry$Flag" ({ cls := "FlagLaundry$Flag", name := "gets", desc := "(I)I" } : Jvm.MethodName) ({ cls := "FlagLaundry$Flag", name := "gets", desc := "(I)I" } : Jvm.MethodName)) ∈ lw_all := lw_g (lw_at lw_m5 183 rfl) rfl
theorem q1276 : (Jvm.Cond.code ({ cls := "FlagLaundry$Flag", name := "gets", desc := "(I)I" } : Jvm.MethodName) prog_4_method_6_code (2 : Nat) (Option.some Jvm.ClassFile.FieldType.int)) ∈ lw_all := lw_g (lw_at lw_m5 184 rfl) rfl
theorem q1277 : (Jvm.Cond.methodLink "FlagLaundry$Flag" (72 : Nat) ({ cls := "FlagLaundry$Flag", name := "washed", desc := "(LFlagLaundry$Heat;)I" } : Jvm.MethodName)) ∈ lw_all := lw_g (lw_at lw_m5 185 rfl) rfl
theorem q1278 : (Jvm.Cond.instanceMethod ({ cls := "FlagLaundry$Flag", name := "washed", desc := "(LFlagLaundry$Heat;)I" } : Jvm.MethodName)) ∈ lw_all := lw_g (lw_at lw_m5 186 rfl) rfl
theorem q1279 : (Jvm.Cond.selects "FlagLaundry$Flag" ({ cls := "FlagLaundry$Flag", name := "washed", desc := "(LFlagLaundry$Heat;)I" } : Jvm.MethodName) ({ cls := "FlagLaundry$Flag", name := "washed", desc := "(LFlagLaundry$Heat;)I" } : Jvm.MethodName)) ∈ lw_all := lw_g (lw_at lw_m5 187 rfl) rfl
theorem q1280 : (Jvm.Cond.code ({ cls := "FlagLaundry$Flag", name := "washed", desc := "(LFlagLaundry$Heat;)I" } : Jvm.MethodName) prog_4_method_7_code (2 : Nat) (Option.some Jvm.ClassFile.FieldType.int)) ∈ lw_all := lw_g (lw_at lw_m5 188 rfl) rfl
theorem q1281 : (Jvm.Cond.methodLink "FlagLaundry$Flag" (56 : Nat) ({ cls := "FlagLaundry$Heat", name := "cleans", desc := "()I" } : Jvm.MethodName)) ∈ lw_all := lw_g (lw_at lw_m5 189 rfl) rfl
theorem q1296 : (Jvm.Cond.methodLink "FlagLaundry$Flag" (62 : Nat) ({ cls := "java/lang/Math", name := "max", desc := "(II)I" } : Jvm.MethodName)) ∈ lw_all := lw_g (lw_at lw_m5 204 rfl) rfl
theorem q1297 : (Jvm.Cond.methodLink "FlagLaundry$Flag" (76 : Nat) ({ cls := "FlagLaundry$Heat", name := "creases", desc := "()I" } : Jvm.MethodName)) ∈ lw_all := lw_g (lw_at lw_m5 205 rfl) rfl
theorem q1314 : (Jvm.Cond.methodLink "FlagLaundry$Flag" (79 : Nat) ({ cls := "java/lang/Math", name := "min", desc := "(II)I" } : Jvm.MethodName)) ∈ lw_all := lw_g (lw_at lw_m5 222 rfl) rfl
theorem q1315 : (Jvm.Cond.methodLinkNest "FlagLaundry$Flag" (82 : Nat) ({ cls := "FlagLaundry", name := "one", desc := "(Z)I" } : Jvm.MethodName) "FlagLaundry") ∈ lw_tbl := lw_at lw_m5 223 rfl
theorem q1329 : (Jvm.Cond.instanceMethod ({ cls := "FlagLaundry$Flag", name := "isOn", desc := "(I)Z" } : Jvm.MethodName)) ∈ lw_all := lw_g (lw_at lw_m5 237 rfl) rfl
theorem q1330 : (Jvm.Cond.selects "FlagLaundry$Flag" ({ cls := "FlagLaundry$Flag", name := "isOn", desc := "(I)Z" } : Jvm.MethodName) ({ cls := "FlagLaundry$Flag", name := "isOn", desc := "(I)Z" } : Jvm.MethodName)) ∈ lw_all := lw_g (lw_at lw_m5 238 rfl) rfl
theorem q1331 : (Jvm.Cond.code ({ cls := "FlagLaundry$Flag", name := "isOn", desc := "(I)Z" } : Jvm.MethodName) prog_4_method_5_code (4 : Nat) (Option.some Jvm.ClassFile.FieldType.boolean)) ∈ lw_all := lw_g (lw_at lw_m5 239 rfl) rfl
theorem q1332 : (Jvm.Cond.classLink "FlagLaundry$Flag" (51 : Nat) "FlagLaundry$OnPeg") ∈ lw_all := lw_g (lw_at lw_m6 0 rfl) rfl
theorem q1342 : (Jvm.Cond.fieldLinkNest "FlagLaundry$Flag" (53 : Nat) "FlagLaundry$OnPeg" "peg" "I" "FlagLaundry") ∈ lw_tbl := lw_at lw_m6 10 rfl
theorem q1831 : (Jvm.Cond.instanceMethod ({ cls := "FlagLaundry$Flag", name := "<init>", desc := "(LFlagLaundry$Flag;)V" } : Jvm.MethodName)) ∈ lw_all := lw_g (lw_at lw_m8 19 rfl) rfl
theorem q1832 : (Jvm.Cond.code ({ cls := "FlagLaundry$Flag", name := "<init>", desc := "(LFlagLaundry$Flag;)V" } : Jvm.MethodName) prog_4_method_2_code (2 : Nat) (Option.none : Option Jvm.ClassFile.FieldType)) ∈ lw_all := lw_g (lw_at lw_m8 20 rfl) rfl
theorem q1833 : (Jvm.Cond.methodLink "FlagLaundry$Flag" (31 : Nat) ({ cls := "FlagLaundry$Flag", name := "<init>", desc := "(IIII)V" } : Jvm.MethodName)) ∈ lw_all := lw_g (lw_at lw_m8 21 rfl) rfl
theorem q3008 : (Jvm.Cond.castable "FlagLaundry$Flag" "java/lang/Object") ∈ lw_tbl := lw_at lw_m12 236 rfl
theorem in_X7 : ∀ w ∈ wsX70, w ∈ lw_all := lw_in wsX70 [1123, 1125, 1127, 1129, 1131, 1133, 1135, 1137, 1139] (by decide +kernel) (by decide +kernel)

/-! FlagLaundry$Basket -/
set_option maxRecDepth 100000
def RX8 : String := "FlagLaundry$Basket"
abbrev cX8_init : ByteArray := prog_3_method_1_code
def yX8_init : MethodName := ⟨RX8, "<init>", "()V"⟩
theorem dX8_init_0 : decode cX8_init 0 = .ok (.aload_n 0, 1) := by decide +kernel
theorem dX8_init_1 : decode cX8_init 1 = .ok (.invokespecial 1, 3) := by decide +kernel
theorem dX8_init_4 : decode cX8_init 4 = .ok (.return_, 1) := by decide +kernel
theorem q164 : (Jvm.Cond.initialized "FlagLaundry$Basket") ∈ lw_all := lw_g (lw_at lw_m1 32 rfl) rfl
theorem q1038 : (Jvm.Cond.selects "FlagLaundry$Basket" ({ cls := "java/lang/Object", name := "getClass", desc := "()Ljava/lang/Class;" } : Jvm.MethodName) ({ cls := "java/lang/Object", name := "getClass", desc := "()Ljava/lang/Class;" } : Jvm.MethodName)) ∈ lw_all := lw_g (lw_at lw_m4 186 rfl) rfl
theorem q1090 : (Jvm.Cond.instantiable "FlagLaundry$Basket" (0 : Nat)) ∈ lw_all := lw_g (lw_at lw_m4 238 rfl) rfl
theorem q1092 : (Jvm.Cond.instanceMethod ({ cls := "FlagLaundry$Basket", name := "<init>", desc := "()V" } : Jvm.MethodName)) ∈ lw_all := lw_g (lw_at lw_m5 0 rfl) rfl
theorem q1093 : (Jvm.Cond.code ({ cls := "FlagLaundry$Basket", name := "<init>", desc := "()V" } : Jvm.MethodName) prog_3_method_1_code (1 : Nat) (Option.none : Option Jvm.ClassFile.FieldType)) ∈ lw_all := lw_g (lw_at lw_m5 1 rfl) rfl
theorem q1094 : (Jvm.Cond.methodLink "FlagLaundry$Basket" (1 : Nat) ({ cls := "java/lang/Object", name := "<init>", desc := "()V" } : Jvm.MethodName)) ∈ lw_all := lw_g (lw_at lw_m5 2 rfl) rfl
theorem q1095 : (Jvm.Cond.superclass "FlagLaundry$Basket" "java/lang/Object") ∈ lw_all := lw_g (lw_at lw_m5 3 rfl) rfl
theorem q3009 : (Jvm.Cond.castable "FlagLaundry$Basket" "java/lang/Object") ∈ lw_tbl := lw_at lw_m12 237 rfl

/-! FlagLaundry$InTub -/
set_option maxRecDepth 100000
def RX9 : String := "FlagLaundry$InTub"
def TX9 : u_T := fun k => match k with
  | 0 => ("FlagLaundry$InTub", "tub", "I", true)
  | _ => ("FlagLaundry$InTub", "rank", "I", true)
def tyX9 : Nat → FieldType := fun k => match k with
  | 0 => .int
  | _ => .int
abbrev wsX90 : List Cond := u_ws RX9 TX9 2
theorem nmX9 : ∀ a, a < 2 → ∀ b, b < 2 → a ≠ b → (TX9 a).2.1 ≠ (TX9 b).2.1 := by decide +kernel
theorem tyX9_ok : ∀ k, k < 2 → parseFieldDescriptor (TX9 k).2.2.1 = some (tyX9 k) := by decide +kernel
abbrev cX9_init : ByteArray := prog_11_method_1_code
def yX9_init : MethodName := ⟨RX9, "<init>", "(II)V"⟩
def dkwX9_init_0 : List UInt8 := [42, 183, 0, 1, 42, 27, 181, 0, 7, 42, 28, 181, 0, 13, 177]
abbrev dktX9_init_0 : List UInt8 := dkwX9_init_0 ++ []
theorem dksX9_init_0 : cX9_init.data.toList.drop 0 = dktX9_init_0 := by decide +kernel
theorem dX9_init_0 : decode cX9_init 0 = .ok (.aload_n 0, 1) := dk_42 (dk_at dksX9_init_0 0 rfl rfl)
theorem dX9_init_1 : decode cX9_init 1 = .ok (.invokespecial 1, 3) := dk_183 0 1 (dk_at dksX9_init_0 1 rfl rfl)
theorem dX9_init_4 : decode cX9_init 4 = .ok (.aload_n 0, 1) := dk_42 (dk_at dksX9_init_0 4 rfl rfl)
theorem dX9_init_5 : decode cX9_init 5 = .ok (.iload_n 1, 1) := dk_27 (dk_at dksX9_init_0 5 rfl rfl)
theorem dX9_init_6 : decode cX9_init 6 = .ok (.putfield 7, 3) := dk_181 0 7 (dk_at dksX9_init_0 6 rfl rfl)
theorem dX9_init_9 : decode cX9_init 9 = .ok (.aload_n 0, 1) := dk_42 (dk_at dksX9_init_0 9 rfl rfl)
theorem dX9_init_10 : decode cX9_init 10 = .ok (.iload_n 2, 1) := dk_28 (dk_at dksX9_init_0 10 rfl rfl)
theorem dX9_init_11 : decode cX9_init 11 = .ok (.putfield 13, 3) := dk_181 0 13 (dk_at dksX9_init_0 11 rfl rfl)
theorem dX9_init_14 : decode cX9_init 14 = .ok (.return_, 1) := dk_177 (dk_at dksX9_init_0 14 rfl rfl)
theorem q166 : (Jvm.Cond.initialized "FlagLaundry$InTub") ∈ lw_all := lw_g (lw_at lw_m1 34 rfl) rfl
theorem q1045 : (Jvm.Cond.selects "FlagLaundry$InTub" ({ cls := "java/lang/Object", name := "getClass", desc := "()Ljava/lang/Class;" } : Jvm.MethodName) ({ cls := "java/lang/Object", name := "getClass", desc := "()Ljava/lang/Class;" } : Jvm.MethodName)) ∈ lw_all := lw_g (lw_at lw_m4 193 rfl) rfl
theorem q1217 : (Jvm.Cond.instantiable "FlagLaundry$InTub" (2 : Nat)) ∈ lw_all := lw_g (lw_at lw_m5 125 rfl) rfl
theorem q1219 : (Jvm.Cond.instanceMethod ({ cls := "FlagLaundry$InTub", name := "<init>", desc := "(II)V" } : Jvm.MethodName)) ∈ lw_all := lw_g (lw_at lw_m5 127 rfl) rfl
theorem q1220 : (Jvm.Cond.code ({ cls := "FlagLaundry$InTub", name := "<init>", desc := "(II)V" } : Jvm.MethodName) prog_11_method_1_code (3 : Nat) (Option.none : Option Jvm.ClassFile.FieldType)) ∈ lw_all := lw_g (lw_at lw_m5 128 rfl) rfl
theorem q1221 : (Jvm.Cond.methodLink "FlagLaundry$InTub" (1 : Nat) ({ cls := "java/lang/Object", name := "<init>", desc := "()V" } : Jvm.MethodName)) ∈ lw_all := lw_g (lw_at lw_m5 129 rfl) rfl
theorem q1222 : (Jvm.Cond.fieldLink "FlagLaundry$InTub" (7 : Nat) "FlagLaundry$InTub" "tub" "I") ∈ lw_all := lw_g (lw_at lw_m5 130 rfl) rfl
theorem q1226 : (Jvm.Cond.fieldLink "FlagLaundry$InTub" (13 : Nat) "FlagLaundry$InTub" "rank" "I") ∈ lw_all := lw_g (lw_at lw_m5 134 rfl) rfl
theorem q1228 : (Jvm.Cond.laysFinal "FlagLaundry$InTub" "FlagLaundry$InTub" "tub" "I") ∈ lw_all := lw_g (lw_at lw_m5 136 rfl) rfl
theorem q1229 : (Jvm.Cond.soleField "FlagLaundry$InTub" "tub") ∈ lw_all := lw_g (lw_at lw_m5 137 rfl) rfl
theorem q1230 : (Jvm.Cond.laysFinal "FlagLaundry$InTub" "FlagLaundry$InTub" "rank" "I") ∈ lw_all := lw_g (lw_at lw_m5 138 rfl) rfl
theorem q1231 : (Jvm.Cond.soleField "FlagLaundry$InTub" "rank") ∈ lw_all := lw_g (lw_at lw_m5 139 rfl) rfl
theorem q1232 : (Jvm.Cond.superclass "FlagLaundry$InTub" "java/lang/Object") ∈ lw_all := lw_g (lw_at lw_m5 140 rfl) rfl
theorem q3010 : (Jvm.Cond.castable "FlagLaundry$InTub" "java/lang/Object") ∈ lw_tbl := lw_at lw_m12 238 rfl
theorem in_X9 : ∀ w ∈ wsX90, w ∈ lw_all := lw_in wsX90 [1228, 1230] (by decide +kernel) (by decide +kernel)

/-! FlagLaundry$Heat -/
set_option maxRecDepth 100000
def RX10 : String := "FlagLaundry$Heat"
abbrev cX10_of : ByteArray := prog_6_method_7_code
def yX10_of : MethodName := ⟨RX10, "of", "(I)LFlagLaundry$Heat;"⟩
def dkwX10_of_1 : List UInt8 := [160, 0, 9, 178, 0, 10, 167, 0, 6, 178, 0, 13, 176]
abbrev dktX10_of_1 : List UInt8 := dkwX10_of_1 ++ []
def dkwX10_of_0 : List UInt8 := [26, 154, 0, 9, 178, 0, 3, 167, 0, 28, 26, 4, 160, 0, 9, 178, 0, 7, 167, 0, 17, 26, 5]
abbrev dktX10_of_0 : List UInt8 := dkwX10_of_0 ++ dktX10_of_1
theorem dksX10_of_0 : cX10_of.data.toList.drop 0 = dktX10_of_0 := by decide +kernel
theorem dksX10_of_1 : cX10_of.data.toList.drop 23 = dktX10_of_1 := dk_seg dksX10_of_0 23 rfl rfl
theorem dX10_of_0 : decode cX10_of 0 = .ok (.iload_n 0, 1) := dk_26 (dk_at dksX10_of_0 0 rfl rfl)
theorem dX10_of_1 : decode cX10_of 1 = .ok (.ifCond .ne 9, 3) := dk_154 0 9 (dk_at dksX10_of_0 1 rfl rfl)
theorem dX10_of_4 : decode cX10_of 4 = .ok (.getstatic 3, 3) := dk_178 0 3 (dk_at dksX10_of_0 4 rfl rfl)
theorem dX10_of_7 : decode cX10_of 7 = .ok (.goto 28, 3) := dk_167 0 28 (dk_at dksX10_of_0 7 rfl rfl)
theorem dX10_of_10 : decode cX10_of 10 = .ok (.iload_n 0, 1) := dk_26 (dk_at dksX10_of_0 10 rfl rfl)
theorem dX10_of_11 : decode cX10_of 11 = .ok (.iconst 1, 1) := dk_4 (dk_at dksX10_of_0 11 rfl rfl)
theorem dX10_of_12 : decode cX10_of 12 = .ok (.if_icmp .ne 9, 3) := dk_160 0 9 (dk_at dksX10_of_0 12 rfl rfl)
theorem dX10_of_15 : decode cX10_of 15 = .ok (.getstatic 7, 3) := dk_178 0 7 (dk_at dksX10_of_0 15 rfl rfl)
theorem dX10_of_18 : decode cX10_of 18 = .ok (.goto 17, 3) := dk_167 0 17 (dk_at dksX10_of_0 18 rfl rfl)
theorem dX10_of_21 : decode cX10_of 21 = .ok (.iload_n 0, 1) := dk_26 (dk_at dksX10_of_0 21 rfl rfl)
theorem dX10_of_22 : decode cX10_of 22 = .ok (.iconst 2, 1) := dk_5 (dk_at dksX10_of_0 22 rfl rfl)
theorem dX10_of_23 : decode cX10_of 23 = .ok (.if_icmp .ne 9, 3) := dk_160 0 9 (dk_at dksX10_of_1 0 rfl rfl)
theorem dX10_of_26 : decode cX10_of 26 = .ok (.getstatic 10, 3) := dk_178 0 10 (dk_at dksX10_of_1 3 rfl rfl)
theorem dX10_of_29 : decode cX10_of 29 = .ok (.goto 6, 3) := dk_167 0 6 (dk_at dksX10_of_1 6 rfl rfl)
theorem dX10_of_32 : decode cX10_of 32 = .ok (.getstatic 13, 3) := dk_178 0 13 (dk_at dksX10_of_1 9 rfl rfl)
theorem dX10_of_35 : decode cX10_of 35 = .ok (.areturn, 1) := dk_176 (dk_at dksX10_of_1 12 rfl rfl)
abbrev cX10_creases : ByteArray := prog_6_method_5_code
def yX10_creases : MethodName := ⟨RX10, "creases", "()I"⟩
def dkwX10_creases_0 : List UInt8 := [42, 182, 0, 35, 4, 96, 172]
abbrev dktX10_creases_0 : List UInt8 := dkwX10_creases_0 ++ []
theorem dksX10_creases_0 : cX10_creases.data.toList.drop 0 = dktX10_creases_0 := by decide +kernel
theorem dX10_creases_0 : decode cX10_creases 0 = .ok (.aload_n 0, 1) := dk_42 (dk_at dksX10_creases_0 0 rfl rfl)
theorem dX10_creases_1 : decode cX10_creases 1 = .ok (.invokevirtual 35, 3) := dk_182 0 35 (dk_at dksX10_creases_0 1 rfl rfl)
theorem dX10_creases_4 : decode cX10_creases 4 = .ok (.iconst 1, 1) := dk_4 (dk_at dksX10_creases_0 4 rfl rfl)
theorem dX10_creases_5 : decode cX10_creases 5 = .ok (.iadd, 1) := dk_96 (dk_at dksX10_creases_0 5 rfl rfl)
theorem dX10_creases_6 : decode cX10_creases 6 = .ok (.ireturn, 1) := dk_172 (dk_at dksX10_creases_0 6 rfl rfl)
abbrev cX10_smooths : ByteArray := prog_6_method_6_code
def yX10_smooths : MethodName := ⟨RX10, "smooths", "(Z)I"⟩
def dkwX10_smooths_0 : List UInt8 := [42, 182, 0, 35, 4, 96, 27, 184, 0, 39, 96, 172]
abbrev dktX10_smooths_0 : List UInt8 := dkwX10_smooths_0 ++ []
theorem dksX10_smooths_0 : cX10_smooths.data.toList.drop 0 = dktX10_smooths_0 := by decide +kernel
theorem dX10_smooths_0 : decode cX10_smooths 0 = .ok (.aload_n 0, 1) := dk_42 (dk_at dksX10_smooths_0 0 rfl rfl)
theorem dX10_smooths_1 : decode cX10_smooths 1 = .ok (.invokevirtual 35, 3) := dk_182 0 35 (dk_at dksX10_smooths_0 1 rfl rfl)
theorem dX10_smooths_4 : decode cX10_smooths 4 = .ok (.iconst 1, 1) := dk_4 (dk_at dksX10_smooths_0 4 rfl rfl)
theorem dX10_smooths_5 : decode cX10_smooths 5 = .ok (.iadd, 1) := dk_96 (dk_at dksX10_smooths_0 5 rfl rfl)
theorem dX10_smooths_6 : decode cX10_smooths 6 = .ok (.iload_n 1, 1) := dk_27 (dk_at dksX10_smooths_0 6 rfl rfl)
theorem dX10_smooths_7 : decode cX10_smooths 7 = .ok (.invokestatic 39, 3) := dk_184 0 39 (dk_at dksX10_smooths_0 7 rfl rfl)
theorem dX10_smooths_10 : decode cX10_smooths 10 = .ok (.iadd, 1) := dk_96 (dk_at dksX10_smooths_0 10 rfl rfl)
theorem dX10_smooths_11 : decode cX10_smooths 11 = .ok (.ireturn, 1) := dk_172 (dk_at dksX10_smooths_0 11 rfl rfl)
theorem q167 : (Jvm.Cond.initialized "FlagLaundry$Heat") ∈ lw_all := lw_g (lw_at lw_m1 35 rfl) rfl
theorem q1259 : (Jvm.Cond.static ({ cls := "FlagLaundry$Heat", name := "of", desc := "(I)LFlagLaundry$Heat;" } : Jvm.MethodName)) ∈ lw_all := lw_g (lw_at lw_m5 167 rfl) rfl
theorem q1260 : (Jvm.Cond.code ({ cls := "FlagLaundry$Heat", name := "of", desc := "(I)LFlagLaundry$Heat;" } : Jvm.MethodName) prog_6_method_7_code (1 : Nat) (Option.some (Jvm.ClassFile.FieldType.object "FlagLaundry$Heat"))) ∈ lw_all := lw_g (lw_at lw_m5 168 rfl) rfl
theorem q1261 : (Jvm.Cond.fieldLink "FlagLaundry$Heat" (3 : Nat) "FlagLaundry$Heat" "COLD" "LFlagLaundry$Heat;") ∈ lw_all := lw_g (lw_at lw_m5 169 rfl) rfl
theorem q1262 : (Jvm.Cond.laysStatic "FlagLaundry$Heat" "COLD" "LFlagLaundry$Heat;") ∈ lw_tbl := lw_at lw_m5 170 rfl
theorem q1263 : (Jvm.Cond.fieldLink "FlagLaundry$Heat" (7 : Nat) "FlagLaundry$Heat" "WARM" "LFlagLaundry$Heat;") ∈ lw_all := lw_g (lw_at lw_m5 171 rfl) rfl
theorem q1264 : (Jvm.Cond.laysStatic "FlagLaundry$Heat" "WARM" "LFlagLaundry$Heat;") ∈ lw_tbl := lw_at lw_m5 172 rfl
theorem q1265 : (Jvm.Cond.fieldLink "FlagLaundry$Heat" (10 : Nat) "FlagLaundry$Heat" "HOT" "LFlagLaundry$Heat;") ∈ lw_all := lw_g (lw_at lw_m5 173 rfl) rfl
theorem q1266 : (Jvm.Cond.laysStatic "FlagLaundry$Heat" "HOT" "LFlagLaundry$Heat;") ∈ lw_tbl := lw_at lw_m5 174 rfl
theorem q1267 : (Jvm.Cond.fieldLink "FlagLaundry$Heat" (13 : Nat) "FlagLaundry$Heat" "BOIL" "LFlagLaundry$Heat;") ∈ lw_all := lw_g (lw_at lw_m5 175 rfl) rfl
theorem q1268 : (Jvm.Cond.laysStatic "FlagLaundry$Heat" "BOIL" "LFlagLaundry$Heat;") ∈ lw_tbl := lw_at lw_m5 176 rfl
theorem q1282 : (Jvm.Cond.declares ({ cls := "FlagLaundry$Heat", name := "cleans", desc := "()I" } : Jvm.MethodName)) ∈ lw_tbl := lw_at lw_m5 190 rfl
theorem q1283 : (Jvm.Cond.sameMethod "FlagLaundry$Heat" "FlagLaundry$Heat" "cleans" "()I") ∈ lw_all := lw_g (lw_at lw_m5 191 rfl) rfl
theorem q1298 : (Jvm.Cond.instanceMethod ({ cls := "FlagLaundry$Heat", name := "creases", desc := "()I" } : Jvm.MethodName)) ∈ lw_all := lw_g (lw_at lw_m5 206 rfl) rfl
theorem q1299 : (Jvm.Cond.sameMethod "FlagLaundry$Heat" "FlagLaundry$Heat" "creases" "()I") ∈ lw_all := lw_g (lw_at lw_m5 207 rfl) rfl
theorem q1304 : (Jvm.Cond.code ({ cls := "FlagLaundry$Heat", name := "creases", desc := "()I" } : Jvm.MethodName) prog_6_method_5_code (1 : Nat) (Option.some Jvm.ClassFile.FieldType.int)) ∈ lw_all := lw_g (lw_at lw_m5 212 rfl) rfl
theorem q1305 : (Jvm.Cond.methodLink "FlagLaundry$Heat" (35 : Nat) ({ cls := "FlagLaundry$Heat", name := "ordinal", desc := "()I" } : Jvm.MethodName)) ∈ lw_all := lw_g (lw_at lw_m5 213 rfl) rfl
theorem q1306 : (Jvm.Cond.sameMethod "FlagLaundry$Heat" "java/lang/Enum" "ordinal" "()I") ∈ lw_all := lw_g (lw_at lw_m5 214 rfl) rfl
theorem q1893 : (Jvm.Cond.instanceMethod ({ cls := "FlagLaundry$Heat", name := "smooths", desc := "(Z)I" } : Jvm.MethodName)) ∈ lw_all := lw_g (lw_at lw_m8 81 rfl) rfl
theorem q1894 : (Jvm.Cond.sameMethod "FlagLaundry$Heat" "FlagLaundry$Heat" "smooths" "(Z)I") ∈ lw_all := lw_g (lw_at lw_m8 82 rfl) rfl
theorem q1899 : (Jvm.Cond.code ({ cls := "FlagLaundry$Heat", name := "smooths", desc := "(Z)I" } : Jvm.MethodName) prog_6_method_6_code (2 : Nat) (Option.some Jvm.ClassFile.FieldType.int)) ∈ lw_all := lw_g (lw_at lw_m8 87 rfl) rfl
theorem q1900 : (Jvm.Cond.methodLinkNest "FlagLaundry$Heat" (39 : Nat) ({ cls := "FlagLaundry", name := "one", desc := "(Z)I" } : Jvm.MethodName) "FlagLaundry") ∈ lw_tbl := lw_at lw_m8 88 rfl
theorem q3024 : (Jvm.Cond.castable "FlagLaundry$Heat" "java/lang/Object") ∈ lw_tbl := lw_at lw_m13 12 rfl

/-! FlagLaundry$OnPeg -/
set_option maxRecDepth 100000
def RX11 : String := "FlagLaundry$OnPeg"
def TX11 : u_T := fun k => match k with
  | _ => ("FlagLaundry$OnPeg", "peg", "I", true)
def tyX11 : Nat → FieldType := fun k => match k with
  | _ => .int
abbrev wsX110 : List Cond := u_ws RX11 TX11 1
theorem nmX11 : ∀ a, a < 1 → ∀ b, b < 1 → a ≠ b → (TX11 a).2.1 ≠ (TX11 b).2.1 := by decide +kernel
theorem tyX11_ok : ∀ k, k < 1 → parseFieldDescriptor (TX11 k).2.2.1 = some (tyX11 k) := by decide +kernel
abbrev cX11_init : ByteArray := prog_13_method_1_code
def yX11_init : MethodName := ⟨RX11, "<init>", "(I)V"⟩
def dkwX11_init_0 : List UInt8 := [42, 183, 0, 1, 42, 27, 181, 0, 7, 177]
abbrev dktX11_init_0 : List UInt8 := dkwX11_init_0 ++ []
theorem dksX11_init_0 : cX11_init.data.toList.drop 0 = dktX11_init_0 := by decide +kernel
theorem dX11_init_0 : decode cX11_init 0 = .ok (.aload_n 0, 1) := dk_42 (dk_at dksX11_init_0 0 rfl rfl)
theorem dX11_init_1 : decode cX11_init 1 = .ok (.invokespecial 1, 3) := dk_183 0 1 (dk_at dksX11_init_0 1 rfl rfl)
theorem dX11_init_4 : decode cX11_init 4 = .ok (.aload_n 0, 1) := dk_42 (dk_at dksX11_init_0 4 rfl rfl)
theorem dX11_init_5 : decode cX11_init 5 = .ok (.iload_n 1, 1) := dk_27 (dk_at dksX11_init_0 5 rfl rfl)
theorem dX11_init_6 : decode cX11_init 6 = .ok (.putfield 7, 3) := dk_181 0 7 (dk_at dksX11_init_0 6 rfl rfl)
theorem dX11_init_9 : decode cX11_init 9 = .ok (.return_, 1) := dk_177 (dk_at dksX11_init_0 9 rfl rfl)
theorem q168 : (Jvm.Cond.initialized "FlagLaundry$OnPeg") ∈ lw_all := lw_g (lw_at lw_m1 36 rfl) rfl
theorem q1047 : (Jvm.Cond.selects "FlagLaundry$OnPeg" ({ cls := "java/lang/Object", name := "getClass", desc := "()Ljava/lang/Class;" } : Jvm.MethodName) ({ cls := "java/lang/Object", name := "getClass", desc := "()Ljava/lang/Class;" } : Jvm.MethodName)) ∈ lw_all := lw_g (lw_at lw_m4 195 rfl) rfl
theorem q1336 : (Jvm.Cond.instantiable "FlagLaundry$OnPeg" (1 : Nat)) ∈ lw_all := lw_g (lw_at lw_m6 4 rfl) rfl
theorem q1338 : (Jvm.Cond.instanceMethod ({ cls := "FlagLaundry$OnPeg", name := "<init>", desc := "(I)V" } : Jvm.MethodName)) ∈ lw_all := lw_g (lw_at lw_m6 6 rfl) rfl
theorem q1339 : (Jvm.Cond.code ({ cls := "FlagLaundry$OnPeg", name := "<init>", desc := "(I)V" } : Jvm.MethodName) prog_13_method_1_code (2 : Nat) (Option.none : Option Jvm.ClassFile.FieldType)) ∈ lw_all := lw_g (lw_at lw_m6 7 rfl) rfl
theorem q1340 : (Jvm.Cond.methodLink "FlagLaundry$OnPeg" (1 : Nat) ({ cls := "java/lang/Object", name := "<init>", desc := "()V" } : Jvm.MethodName)) ∈ lw_all := lw_g (lw_at lw_m6 8 rfl) rfl
theorem q1341 : (Jvm.Cond.fieldLink "FlagLaundry$OnPeg" (7 : Nat) "FlagLaundry$OnPeg" "peg" "I") ∈ lw_all := lw_g (lw_at lw_m6 9 rfl) rfl
theorem q1344 : (Jvm.Cond.laysFinal "FlagLaundry$OnPeg" "FlagLaundry$OnPeg" "peg" "I") ∈ lw_all := lw_g (lw_at lw_m6 12 rfl) rfl
theorem q1345 : (Jvm.Cond.soleField "FlagLaundry$OnPeg" "peg") ∈ lw_all := lw_g (lw_at lw_m6 13 rfl) rfl
theorem q1346 : (Jvm.Cond.superclass "FlagLaundry$OnPeg" "java/lang/Object") ∈ lw_all := lw_g (lw_at lw_m6 14 rfl) rfl
theorem q3015 : (Jvm.Cond.castable "FlagLaundry$OnPeg" "java/lang/Object") ∈ lw_tbl := lw_at lw_m13 3 rfl
theorem in_X11 : ∀ w ∈ wsX110, w ∈ lw_all := lw_in wsX110 [1344] (by decide +kernel) (by decide +kernel)

/-! FlagLaundry$Away -/
set_option maxRecDepth 100000
def RX12 : String := "FlagLaundry$Away"
abbrev cX12_init : ByteArray := prog_2_method_1_code
def yX12_init : MethodName := ⟨RX12, "<init>", "()V"⟩
theorem dX12_init_0 : decode cX12_init 0 = .ok (.aload_n 0, 1) := by decide +kernel
theorem dX12_init_1 : decode cX12_init 1 = .ok (.invokespecial 1, 3) := by decide +kernel
theorem dX12_init_4 : decode cX12_init 4 = .ok (.return_, 1) := by decide +kernel
theorem q172 : (Jvm.Cond.initialized "FlagLaundry$Away") ∈ lw_all := lw_g (lw_at lw_m1 40 rfl) rfl
theorem q1037 : (Jvm.Cond.selects "FlagLaundry$Away" ({ cls := "java/lang/Object", name := "getClass", desc := "()Ljava/lang/Class;" } : Jvm.MethodName) ({ cls := "java/lang/Object", name := "getClass", desc := "()Ljava/lang/Class;" } : Jvm.MethodName)) ∈ lw_all := lw_g (lw_at lw_m4 185 rfl) rfl
theorem q2157 : (Jvm.Cond.instantiable "FlagLaundry$Away" (0 : Nat)) ∈ lw_all := lw_g (lw_at lw_m9 105 rfl) rfl
theorem q2159 : (Jvm.Cond.instanceMethod ({ cls := "FlagLaundry$Away", name := "<init>", desc := "()V" } : Jvm.MethodName)) ∈ lw_all := lw_g (lw_at lw_m9 107 rfl) rfl
theorem q2160 : (Jvm.Cond.code ({ cls := "FlagLaundry$Away", name := "<init>", desc := "()V" } : Jvm.MethodName) prog_2_method_1_code (1 : Nat) (Option.none : Option Jvm.ClassFile.FieldType)) ∈ lw_all := lw_g (lw_at lw_m9 108 rfl) rfl
theorem q2161 : (Jvm.Cond.methodLink "FlagLaundry$Away" (1 : Nat) ({ cls := "java/lang/Object", name := "<init>", desc := "()V" } : Jvm.MethodName)) ∈ lw_all := lw_g (lw_at lw_m9 109 rfl) rfl
theorem q2162 : (Jvm.Cond.superclass "FlagLaundry$Away" "java/lang/Object") ∈ lw_all := lw_g (lw_at lw_m9 110 rfl) rfl
theorem q3019 : (Jvm.Cond.castable "FlagLaundry$Away" "java/lang/Object") ∈ lw_tbl := lw_at lw_m13 7 rfl

/-! FlagLaundry$Heat$1 -/
set_option maxRecDepth 100000
def RX13 : String := "FlagLaundry$Heat$1"
abbrev cX13_cleans : ByteArray := prog_7_method_2_code
def yX13_cleans : MethodName := ⟨RX13, "cleans", "()I"⟩
theorem dX13_cleans_0 : decode cX13_cleans 0 = .ok (.iconst 1, 1) := by decide +kernel
theorem dX13_cleans_1 : decode cX13_cleans 1 = .ok (.ireturn, 1) := by decide +kernel
theorem q1041 : (Jvm.Cond.selects "FlagLaundry$Heat$1" ({ cls := "java/lang/Object", name := "getClass", desc := "()Ljava/lang/Class;" } : Jvm.MethodName) ({ cls := "java/lang/Object", name := "getClass", desc := "()Ljava/lang/Class;" } : Jvm.MethodName)) ∈ lw_all := lw_g (lw_at lw_m4 189 rfl) rfl
theorem q1284 : (Jvm.Cond.selects "FlagLaundry$Heat$1" ({ cls := "FlagLaundry$Heat", name := "cleans", desc := "()I" } : Jvm.MethodName) ({ cls := "FlagLaundry$Heat$1", name := "cleans", desc := "()I" } : Jvm.MethodName)) ∈ lw_all := lw_g (lw_at lw_m5 192 rfl) rfl
theorem q1285 : (Jvm.Cond.instanceMethod ({ cls := "FlagLaundry$Heat$1", name := "cleans", desc := "()I" } : Jvm.MethodName)) ∈ lw_all := lw_g (lw_at lw_m5 193 rfl) rfl
theorem q1286 : (Jvm.Cond.code ({ cls := "FlagLaundry$Heat$1", name := "cleans", desc := "()I" } : Jvm.MethodName) prog_7_method_2_code (1 : Nat) (Option.some Jvm.ClassFile.FieldType.int)) ∈ lw_all := lw_g (lw_at lw_m5 194 rfl) rfl
theorem q1300 : (Jvm.Cond.selects "FlagLaundry$Heat$1" ({ cls := "FlagLaundry$Heat", name := "creases", desc := "()I" } : Jvm.MethodName) ({ cls := "FlagLaundry$Heat", name := "creases", desc := "()I" } : Jvm.MethodName)) ∈ lw_all := lw_g (lw_at lw_m5 208 rfl) rfl
theorem q1308 : (Jvm.Cond.selects "FlagLaundry$Heat$1" ({ cls := "FlagLaundry$Heat", name := "ordinal", desc := "()I" } : Jvm.MethodName) ({ cls := "java/lang/Enum", name := "ordinal", desc := "()I" } : Jvm.MethodName)) ∈ lw_all := lw_g (lw_at lw_m5 216 rfl) rfl
theorem q1895 : (Jvm.Cond.selects "FlagLaundry$Heat$1" ({ cls := "FlagLaundry$Heat", name := "smooths", desc := "(Z)I" } : Jvm.MethodName) ({ cls := "FlagLaundry$Heat", name := "smooths", desc := "(Z)I" } : Jvm.MethodName)) ∈ lw_all := lw_g (lw_at lw_m8 83 rfl) rfl
theorem q3011 : (Jvm.Cond.castable "FlagLaundry$Heat$1" "java/lang/Object") ∈ lw_tbl := lw_at lw_m12 239 rfl

/-! FlagLaundry$Heat$2 -/
set_option maxRecDepth 100000
def RX14 : String := "FlagLaundry$Heat$2"
abbrev cX14_cleans : ByteArray := prog_8_method_2_code
def yX14_cleans : MethodName := ⟨RX14, "cleans", "()I"⟩
theorem dX14_cleans_0 : decode cX14_cleans 0 = .ok (.iconst 3, 1) := by decide +kernel
theorem dX14_cleans_1 : decode cX14_cleans 1 = .ok (.ireturn, 1) := by decide +kernel
theorem q1042 : (Jvm.Cond.selects "FlagLaundry$Heat$2" ({ cls := "java/lang/Object", name := "getClass", desc := "()Ljava/lang/Class;" } : Jvm.MethodName) ({ cls := "java/lang/Object", name := "getClass", desc := "()Ljava/lang/Class;" } : Jvm.MethodName)) ∈ lw_all := lw_g (lw_at lw_m4 190 rfl) rfl
theorem q1287 : (Jvm.Cond.selects "FlagLaundry$Heat$2" ({ cls := "FlagLaundry$Heat", name := "cleans", desc := "()I" } : Jvm.MethodName) ({ cls := "FlagLaundry$Heat$2", name := "cleans", desc := "()I" } : Jvm.MethodName)) ∈ lw_all := lw_g (lw_at lw_m5 195 rfl) rfl
theorem q1288 : (Jvm.Cond.instanceMethod ({ cls := "FlagLaundry$Heat$2", name := "cleans", desc := "()I" } : Jvm.MethodName)) ∈ lw_all := lw_g (lw_at lw_m5 196 rfl) rfl
theorem q1289 : (Jvm.Cond.code ({ cls := "FlagLaundry$Heat$2", name := "cleans", desc := "()I" } : Jvm.MethodName) prog_8_method_2_code (1 : Nat) (Option.some Jvm.ClassFile.FieldType.int)) ∈ lw_all := lw_g (lw_at lw_m5 197 rfl) rfl
theorem q1301 : (Jvm.Cond.selects "FlagLaundry$Heat$2" ({ cls := "FlagLaundry$Heat", name := "creases", desc := "()I" } : Jvm.MethodName) ({ cls := "FlagLaundry$Heat", name := "creases", desc := "()I" } : Jvm.MethodName)) ∈ lw_all := lw_g (lw_at lw_m5 209 rfl) rfl
theorem q1309 : (Jvm.Cond.selects "FlagLaundry$Heat$2" ({ cls := "FlagLaundry$Heat", name := "ordinal", desc := "()I" } : Jvm.MethodName) ({ cls := "java/lang/Enum", name := "ordinal", desc := "()I" } : Jvm.MethodName)) ∈ lw_all := lw_g (lw_at lw_m5 217 rfl) rfl
theorem q1896 : (Jvm.Cond.selects "FlagLaundry$Heat$2" ({ cls := "FlagLaundry$Heat", name := "smooths", desc := "(Z)I" } : Jvm.MethodName) ({ cls := "FlagLaundry$Heat", name := "smooths", desc := "(Z)I" } : Jvm.MethodName)) ∈ lw_all := lw_g (lw_at lw_m8 84 rfl) rfl
theorem q3012 : (Jvm.Cond.castable "FlagLaundry$Heat$2" "java/lang/Object") ∈ lw_tbl := lw_at lw_m13 0 rfl

/-! FlagLaundry$Heat$3 -/
set_option maxRecDepth 100000
def RX15 : String := "FlagLaundry$Heat$3"
abbrev cX15_cleans : ByteArray := prog_9_method_2_code
def yX15_cleans : MethodName := ⟨RX15, "cleans", "()I"⟩
theorem dX15_cleans_0 : decode cX15_cleans 0 = .ok (.iconst 5, 1) := by decide +kernel
theorem dX15_cleans_1 : decode cX15_cleans 1 = .ok (.ireturn, 1) := by decide +kernel
theorem q1043 : (Jvm.Cond.selects "FlagLaundry$Heat$3" ({ cls := "java/lang/Object", name := "getClass", desc := "()Ljava/lang/Class;" } : Jvm.MethodName) ({ cls := "java/lang/Object", name := "getClass", desc := "()Ljava/lang/Class;" } : Jvm.MethodName)) ∈ lw_all := lw_g (lw_at lw_m4 191 rfl) rfl
theorem q1290 : (Jvm.Cond.selects "FlagLaundry$Heat$3" ({ cls := "FlagLaundry$Heat", name := "cleans", desc := "()I" } : Jvm.MethodName) ({ cls := "FlagLaundry$Heat$3", name := "cleans", desc := "()I" } : Jvm.MethodName)) ∈ lw_all := lw_g (lw_at lw_m5 198 rfl) rfl
theorem q1291 : (Jvm.Cond.instanceMethod ({ cls := "FlagLaundry$Heat$3", name := "cleans", desc := "()I" } : Jvm.MethodName)) ∈ lw_all := lw_g (lw_at lw_m5 199 rfl) rfl
theorem q1292 : (Jvm.Cond.code ({ cls := "FlagLaundry$Heat$3", name := "cleans", desc := "()I" } : Jvm.MethodName) prog_9_method_2_code (1 : Nat) (Option.some Jvm.ClassFile.FieldType.int)) ∈ lw_all := lw_g (lw_at lw_m5 200 rfl) rfl
theorem q1302 : (Jvm.Cond.selects "FlagLaundry$Heat$3" ({ cls := "FlagLaundry$Heat", name := "creases", desc := "()I" } : Jvm.MethodName) ({ cls := "FlagLaundry$Heat", name := "creases", desc := "()I" } : Jvm.MethodName)) ∈ lw_all := lw_g (lw_at lw_m5 210 rfl) rfl
theorem q1310 : (Jvm.Cond.selects "FlagLaundry$Heat$3" ({ cls := "FlagLaundry$Heat", name := "ordinal", desc := "()I" } : Jvm.MethodName) ({ cls := "java/lang/Enum", name := "ordinal", desc := "()I" } : Jvm.MethodName)) ∈ lw_all := lw_g (lw_at lw_m5 218 rfl) rfl
theorem q1897 : (Jvm.Cond.selects "FlagLaundry$Heat$3" ({ cls := "FlagLaundry$Heat", name := "smooths", desc := "(Z)I" } : Jvm.MethodName) ({ cls := "FlagLaundry$Heat", name := "smooths", desc := "(Z)I" } : Jvm.MethodName)) ∈ lw_all := lw_g (lw_at lw_m8 85 rfl) rfl
theorem q3013 : (Jvm.Cond.castable "FlagLaundry$Heat$3" "java/lang/Object") ∈ lw_tbl := lw_at lw_m13 1 rfl

/-! FlagLaundry$Heat$4 -/
set_option maxRecDepth 100000
def RX16 : String := "FlagLaundry$Heat$4"
abbrev cX16_cleans : ByteArray := prog_10_method_2_code
def yX16_cleans : MethodName := ⟨RX16, "cleans", "()I"⟩
theorem dX16_cleans_0 : decode cX16_cleans 0 = .ok (.bipush 7, 2) := by decide +kernel
theorem dX16_cleans_2 : decode cX16_cleans 2 = .ok (.ireturn, 1) := by decide +kernel
theorem q1044 : (Jvm.Cond.selects "FlagLaundry$Heat$4" ({ cls := "java/lang/Object", name := "getClass", desc := "()Ljava/lang/Class;" } : Jvm.MethodName) ({ cls := "java/lang/Object", name := "getClass", desc := "()Ljava/lang/Class;" } : Jvm.MethodName)) ∈ lw_all := lw_g (lw_at lw_m4 192 rfl) rfl
theorem q1293 : (Jvm.Cond.selects "FlagLaundry$Heat$4" ({ cls := "FlagLaundry$Heat", name := "cleans", desc := "()I" } : Jvm.MethodName) ({ cls := "FlagLaundry$Heat$4", name := "cleans", desc := "()I" } : Jvm.MethodName)) ∈ lw_all := lw_g (lw_at lw_m5 201 rfl) rfl
theorem q1294 : (Jvm.Cond.instanceMethod ({ cls := "FlagLaundry$Heat$4", name := "cleans", desc := "()I" } : Jvm.MethodName)) ∈ lw_all := lw_g (lw_at lw_m5 202 rfl) rfl
theorem q1295 : (Jvm.Cond.code ({ cls := "FlagLaundry$Heat$4", name := "cleans", desc := "()I" } : Jvm.MethodName) prog_10_method_2_code (1 : Nat) (Option.some Jvm.ClassFile.FieldType.int)) ∈ lw_all := lw_g (lw_at lw_m5 203 rfl) rfl
theorem q1303 : (Jvm.Cond.selects "FlagLaundry$Heat$4" ({ cls := "FlagLaundry$Heat", name := "creases", desc := "()I" } : Jvm.MethodName) ({ cls := "FlagLaundry$Heat", name := "creases", desc := "()I" } : Jvm.MethodName)) ∈ lw_all := lw_g (lw_at lw_m5 211 rfl) rfl
theorem q1311 : (Jvm.Cond.selects "FlagLaundry$Heat$4" ({ cls := "FlagLaundry$Heat", name := "ordinal", desc := "()I" } : Jvm.MethodName) ({ cls := "java/lang/Enum", name := "ordinal", desc := "()I" } : Jvm.MethodName)) ∈ lw_all := lw_g (lw_at lw_m5 219 rfl) rfl
theorem q1898 : (Jvm.Cond.selects "FlagLaundry$Heat$4" ({ cls := "FlagLaundry$Heat", name := "smooths", desc := "(Z)I" } : Jvm.MethodName) ({ cls := "FlagLaundry$Heat", name := "smooths", desc := "(Z)I" } : Jvm.MethodName)) ∈ lw_all := lw_g (lw_at lw_m8 86 rfl) rfl
theorem q3014 : (Jvm.Cond.castable "FlagLaundry$Heat$4" "java/lang/Object") ∈ lw_tbl := lw_at lw_m13 2 rfl

