/-! FlagLaundryModel -/
set_option maxRecDepth 100000
def RX2 : String := "FlagLaundryModel"
def TX2 : u_T := fun k => match k with
  | 0 => ("FlagLaundryModel", "thrown", "I", false)
  | 1 => ("FlagLaundryModel", "now", "[I", true)
  | 2 => ("FlagLaundryModel", "aside", "[I", true)
  | 3 => ("FlagLaundryModel", "undos", "[I", true)
  | 4 => ("FlagLaundryModel", "saved", "[I", true)
  | 5 => ("FlagLaundryModel", "isSaved", "[Z", true)
  | 6 => ("FlagLaundryModel", "isThere", "Z", false)
  | 7 => ("FlagLaundryModel", "undoMany", "I", false)
  | 8 => ("FlagLaundryModel", "buffer", "[B", true)
  | 9 => ("FlagLaundryModel", "buffered", "I", false)
  | 10 => ("FlagLaundryModel", "parseCode", "I", false)
  | 11 => ("FlagLaundryModel", "parseAt", "I", false)
  | 12 => ("FlagLaundryModel", "size", "I", false)
  | 13 => ("FlagLaundryModel", "cursor", "I", false)
  | 14 => ("FlagLaundryModel", "start", "I", false)
  | 15 => ("FlagLaundryModel", "token", "I", false)
  | 16 => ("FlagLaundryModel", "told", "I", false)
  | 17 => ("FlagLaundryModel", "group", "[I", true)
  | 18 => ("FlagLaundryModel", "page", "[B", true)
  | _ => ("FlagLaundryModel", "pageSize", "I", false)
def tyX2 : Nat → FieldType := fun k => match k with
  | 0 => .int
  | 1 => .array .int
  | 2 => .array .int
  | 3 => .array .int
  | 4 => .array .int
  | 5 => .array .boolean
  | 6 => .boolean
  | 7 => .int
  | 8 => .array .byte
  | 9 => .int
  | 10 => .int
  | 11 => .int
  | 12 => .int
  | 13 => .int
  | 14 => .int
  | 15 => .int
  | 16 => .int
  | 17 => .array .int
  | 18 => .array .byte
  | _ => .int
abbrev wsX20 : List Cond := u_ws RX2 TX2 20
set_option maxRecDepth 100000 in
theorem nmX2 : ∀ a, a < 20 → ∀ b, b < 20 → a ≠ b → (TX2 a).2.1 ≠ (TX2 b).2.1 := by decide +kernel
set_option maxRecDepth 100000 in
theorem tyX2_ok : ∀ k, k < 20 → parseFieldDescriptor (TX2 k).2.2.1 = some (tyX2 k) := by decide +kernel
abbrev cX2_init : ByteArray := prog_20_method_1_code
def yX2_init : MethodName := ⟨RX2, "<init>", "()V"⟩
def dkwX2_init_3 : List UInt8 := [16, 60, 188, 8, 181, 0, 37, 177]
abbrev dktX2_init_3 : List UInt8 := dkwX2_init_3 ++ []
def dkwX2_init_2 : List UInt8 := [42, 17, 1, 244, 188, 8, 181, 0, 26, 42, 2, 181, 0, 30, 42, 16, 12, 188, 10, 181, 0, 34, 42]
abbrev dktX2_init_2 : List UInt8 := dkwX2_init_2 ++ dktX2_init_3
def dkwX2_init_1 : List UInt8 := [17, 5, 104, 188, 10, 181, 0, 16, 42, 17, 1, 90, 188, 10, 181, 0, 19, 42, 5, 188, 4, 181, 0, 22]
abbrev dktX2_init_1 : List UInt8 := dkwX2_init_1 ++ dktX2_init_2
def dkwX2_init_0 : List UInt8 := [42, 183, 0, 1, 42, 17, 0, 173, 188, 10, 181, 0, 9, 42, 17, 0, 173, 188, 10, 181, 0, 13, 42]
abbrev dktX2_init_0 : List UInt8 := dkwX2_init_0 ++ dktX2_init_1
theorem dksX2_init_0 : cX2_init.data.toList.drop 0 = dktX2_init_0 := by decide +kernel
theorem dksX2_init_1 : cX2_init.data.toList.drop 23 = dktX2_init_1 := dk_seg dksX2_init_0 23 rfl rfl
theorem dksX2_init_2 : cX2_init.data.toList.drop 47 = dktX2_init_2 := dk_seg dksX2_init_1 24 rfl rfl
theorem dksX2_init_3 : cX2_init.data.toList.drop 70 = dktX2_init_3 := dk_seg dksX2_init_2 23 rfl rfl
theorem dX2_init_0 : decode cX2_init 0 = .ok (.aload_n 0, 1) := dk_42 (dk_at dksX2_init_0 0 rfl rfl)
theorem dX2_init_1 : decode cX2_init 1 = .ok (.invokespecial 1, 3) := dk_183 0 1 (dk_at dksX2_init_0 1 rfl rfl)
theorem dX2_init_4 : decode cX2_init 4 = .ok (.aload_n 0, 1) := dk_42 (dk_at dksX2_init_0 4 rfl rfl)
theorem dX2_init_5 : decode cX2_init 5 = .ok (.sipush 173, 3) := dk_17 0 173 (dk_at dksX2_init_0 5 rfl rfl)
theorem dX2_init_8 : decode cX2_init 8 = .ok (.newarray .int, 2) := dk_188_10 (dk_at dksX2_init_0 8 rfl rfl)
theorem dX2_init_10 : decode cX2_init 10 = .ok (.putfield 9, 3) := dk_181 0 9 (dk_at dksX2_init_0 10 rfl rfl)
theorem dX2_init_13 : decode cX2_init 13 = .ok (.aload_n 0, 1) := dk_42 (dk_at dksX2_init_0 13 rfl rfl)
theorem dX2_init_14 : decode cX2_init 14 = .ok (.sipush 173, 3) := dk_17 0 173 (dk_at dksX2_init_0 14 rfl rfl)
theorem dX2_init_17 : decode cX2_init 17 = .ok (.newarray .int, 2) := dk_188_10 (dk_at dksX2_init_0 17 rfl rfl)
theorem dX2_init_19 : decode cX2_init 19 = .ok (.putfield 13, 3) := dk_181 0 13 (dk_at dksX2_init_0 19 rfl rfl)
theorem dX2_init_22 : decode cX2_init 22 = .ok (.aload_n 0, 1) := dk_42 (dk_at dksX2_init_0 22 rfl rfl)
theorem dX2_init_23 : decode cX2_init 23 = .ok (.sipush 1384, 3) := dk_17 5 104 (dk_at dksX2_init_1 0 rfl rfl)
theorem dX2_init_26 : decode cX2_init 26 = .ok (.newarray .int, 2) := dk_188_10 (dk_at dksX2_init_1 3 rfl rfl)
theorem dX2_init_28 : decode cX2_init 28 = .ok (.putfield 16, 3) := dk_181 0 16 (dk_at dksX2_init_1 5 rfl rfl)
theorem dX2_init_31 : decode cX2_init 31 = .ok (.aload_n 0, 1) := dk_42 (dk_at dksX2_init_1 8 rfl rfl)
theorem dX2_init_32 : decode cX2_init 32 = .ok (.sipush 346, 3) := dk_17 1 90 (dk_at dksX2_init_1 9 rfl rfl)
theorem dX2_init_35 : decode cX2_init 35 = .ok (.newarray .int, 2) := dk_188_10 (dk_at dksX2_init_1 12 rfl rfl)
theorem dX2_init_37 : decode cX2_init 37 = .ok (.putfield 19, 3) := dk_181 0 19 (dk_at dksX2_init_1 14 rfl rfl)
theorem dX2_init_40 : decode cX2_init 40 = .ok (.aload_n 0, 1) := dk_42 (dk_at dksX2_init_1 17 rfl rfl)
theorem dX2_init_41 : decode cX2_init 41 = .ok (.iconst 2, 1) := dk_5 (dk_at dksX2_init_1 18 rfl rfl)
theorem dX2_init_42 : decode cX2_init 42 = .ok (.newarray .boolean, 2) := dk_188_4 (dk_at dksX2_init_1 19 rfl rfl)
theorem dX2_init_44 : decode cX2_init 44 = .ok (.putfield 22, 3) := dk_181 0 22 (dk_at dksX2_init_1 21 rfl rfl)
theorem dX2_init_47 : decode cX2_init 47 = .ok (.aload_n 0, 1) := dk_42 (dk_at dksX2_init_2 0 rfl rfl)
theorem dX2_init_48 : decode cX2_init 48 = .ok (.sipush 500, 3) := dk_17 1 244 (dk_at dksX2_init_2 1 rfl rfl)
theorem dX2_init_51 : decode cX2_init 51 = .ok (.newarray .byte, 2) := dk_188_8 (dk_at dksX2_init_2 4 rfl rfl)
theorem dX2_init_53 : decode cX2_init 53 = .ok (.putfield 26, 3) := dk_181 0 26 (dk_at dksX2_init_2 6 rfl rfl)
theorem dX2_init_56 : decode cX2_init 56 = .ok (.aload_n 0, 1) := dk_42 (dk_at dksX2_init_2 9 rfl rfl)
theorem dX2_init_57 : decode cX2_init 57 = .ok (.iconst (-1), 1) := dk_2 (dk_at dksX2_init_2 10 rfl rfl)
theorem dX2_init_58 : decode cX2_init 58 = .ok (.putfield 30, 3) := dk_181 0 30 (dk_at dksX2_init_2 11 rfl rfl)
theorem dX2_init_61 : decode cX2_init 61 = .ok (.aload_n 0, 1) := dk_42 (dk_at dksX2_init_2 14 rfl rfl)
theorem dX2_init_62 : decode cX2_init 62 = .ok (.bipush 12, 2) := dk_16 12 (dk_at dksX2_init_2 15 rfl rfl)
theorem dX2_init_64 : decode cX2_init 64 = .ok (.newarray .int, 2) := dk_188_10 (dk_at dksX2_init_2 17 rfl rfl)
theorem dX2_init_66 : decode cX2_init 66 = .ok (.putfield 34, 3) := dk_181 0 34 (dk_at dksX2_init_2 19 rfl rfl)
theorem dX2_init_69 : decode cX2_init 69 = .ok (.aload_n 0, 1) := dk_42 (dk_at dksX2_init_2 22 rfl rfl)
theorem dX2_init_70 : decode cX2_init 70 = .ok (.bipush 60, 2) := dk_16 60 (dk_at dksX2_init_3 0 rfl rfl)
theorem dX2_init_72 : decode cX2_init 72 = .ok (.newarray .byte, 2) := dk_188_8 (dk_at dksX2_init_3 2 rfl rfl)
theorem dX2_init_74 : decode cX2_init 74 = .ok (.putfield 37, 3) := dk_181 0 37 (dk_at dksX2_init_3 4 rfl rfl)
theorem dX2_init_77 : decode cX2_init 77 = .ok (.return_, 1) := dk_177 (dk_at dksX2_init_3 7 rfl rfl)
abbrev cX2_thrown : ByteArray := prog_20_method_2_code
def yX2_thrown : MethodName := ⟨RX2, "thrown", "()I"⟩
theorem dX2_thrown_0 : decode cX2_thrown 0 = .ok (.aload_n 0, 1) := by decide +kernel
theorem dX2_thrown_1 : decode cX2_thrown 1 = .ok (.getfield 40, 3) := by decide +kernel
theorem dX2_thrown_4 : decode cX2_thrown 4 = .ok (.ireturn, 1) := by decide +kernel
abbrev cX2_append : ByteArray := prog_20_method_12_code
def yX2_append : MethodName := ⟨RX2, "append", "(IIIII)I"⟩
def dkwX2_append_2 : List UInt8 := [172]
abbrev dktX2_append_2 : List UInt8 := dkwX2_append_2 ++ []
def dkwX2_append_1 : List UInt8 := [182, 0, 58, 42, 29, 182, 0, 58, 42, 21, 4, 182, 0, 58, 42, 21, 5, 182, 0, 58, 42, 180, 0, 55]
abbrev dktX2_append_1 : List UInt8 := dkwX2_append_1 ++ dktX2_append_2
def dkwX2_append_0 : List UInt8 := [42, 3, 181, 0, 40, 42, 180, 0, 55, 17, 1, 224, 164, 0, 5, 2, 172, 42, 27, 182, 0, 58, 42, 28]
abbrev dktX2_append_0 : List UInt8 := dkwX2_append_0 ++ dktX2_append_1
theorem dksX2_append_0 : cX2_append.data.toList.drop 0 = dktX2_append_0 := by decide +kernel
theorem dksX2_append_1 : cX2_append.data.toList.drop 24 = dktX2_append_1 := dk_seg dksX2_append_0 24 rfl rfl
theorem dksX2_append_2 : cX2_append.data.toList.drop 48 = dktX2_append_2 := dk_seg dksX2_append_1 24 rfl rfl
theorem dX2_append_0 : decode cX2_append 0 = .ok (.aload_n 0, 1) := dk_42 (dk_at dksX2_append_0 0 rfl rfl)
theorem dX2_append_1 : decode cX2_append 1 = .ok (.iconst 0, 1) := dk_3 (dk_at dksX2_append_0 1 rfl rfl)
theorem dX2_append_2 : decode cX2_append 2 = .ok (.putfield 40, 3) := dk_181 0 40 (dk_at dksX2_append_0 2 rfl rfl)
theorem dX2_append_5 : decode cX2_append 5 = .ok (.aload_n 0, 1) := dk_42 (dk_at dksX2_append_0 5 rfl rfl)
theorem dX2_append_6 : decode cX2_append 6 = .ok (.getfield 55, 3) := dk_180 0 55 (dk_at dksX2_append_0 6 rfl rfl)
theorem dX2_append_9 : decode cX2_append 9 = .ok (.sipush 480, 3) := dk_17 1 224 (dk_at dksX2_append_0 9 rfl rfl)
theorem dX2_append_12 : decode cX2_append 12 = .ok (.if_icmp .le 5, 3) := dk_164 0 5 (dk_at dksX2_append_0 12 rfl rfl)
theorem dX2_append_15 : decode cX2_append 15 = .ok (.iconst (-1), 1) := dk_2 (dk_at dksX2_append_0 15 rfl rfl)
theorem dX2_append_16 : decode cX2_append 16 = .ok (.ireturn, 1) := dk_172 (dk_at dksX2_append_0 16 rfl rfl)
theorem dX2_append_17 : decode cX2_append 17 = .ok (.aload_n 0, 1) := dk_42 (dk_at dksX2_append_0 17 rfl rfl)
theorem dX2_append_18 : decode cX2_append 18 = .ok (.iload_n 1, 1) := dk_27 (dk_at dksX2_append_0 18 rfl rfl)
theorem dX2_append_19 : decode cX2_append 19 = .ok (.invokevirtual 58, 3) := dk_182 0 58 (dk_at dksX2_append_0 19 rfl rfl)
theorem dX2_append_22 : decode cX2_append 22 = .ok (.aload_n 0, 1) := dk_42 (dk_at dksX2_append_0 22 rfl rfl)
theorem dX2_append_23 : decode cX2_append 23 = .ok (.iload_n 2, 1) := dk_28 (dk_at dksX2_append_0 23 rfl rfl)
theorem dX2_append_24 : decode cX2_append 24 = .ok (.invokevirtual 58, 3) := dk_182 0 58 (dk_at dksX2_append_1 0 rfl rfl)
theorem dX2_append_27 : decode cX2_append 27 = .ok (.aload_n 0, 1) := dk_42 (dk_at dksX2_append_1 3 rfl rfl)
theorem dX2_append_28 : decode cX2_append 28 = .ok (.iload_n 3, 1) := dk_29 (dk_at dksX2_append_1 4 rfl rfl)
theorem dX2_append_29 : decode cX2_append 29 = .ok (.invokevirtual 58, 3) := dk_182 0 58 (dk_at dksX2_append_1 5 rfl rfl)
theorem dX2_append_32 : decode cX2_append 32 = .ok (.aload_n 0, 1) := dk_42 (dk_at dksX2_append_1 8 rfl rfl)
theorem dX2_append_33 : decode cX2_append 33 = .ok (.iload 4, 2) := dk_21 4 (dk_at dksX2_append_1 9 rfl rfl)
theorem dX2_append_35 : decode cX2_append 35 = .ok (.invokevirtual 58, 3) := dk_182 0 58 (dk_at dksX2_append_1 11 rfl rfl)
theorem dX2_append_38 : decode cX2_append 38 = .ok (.aload_n 0, 1) := dk_42 (dk_at dksX2_append_1 14 rfl rfl)
theorem dX2_append_39 : decode cX2_append 39 = .ok (.iload 5, 2) := dk_21 5 (dk_at dksX2_append_1 15 rfl rfl)
theorem dX2_append_41 : decode cX2_append 41 = .ok (.invokevirtual 58, 3) := dk_182 0 58 (dk_at dksX2_append_1 17 rfl rfl)
theorem dX2_append_44 : decode cX2_append 44 = .ok (.aload_n 0, 1) := dk_42 (dk_at dksX2_append_1 20 rfl rfl)
theorem dX2_append_45 : decode cX2_append 45 = .ok (.getfield 55, 3) := dk_180 0 55 (dk_at dksX2_append_1 21 rfl rfl)
theorem dX2_append_48 : decode cX2_append 48 = .ok (.ireturn, 1) := dk_172 (dk_at dksX2_append_2 0 rfl rfl)
abbrev cX2_four : ByteArray := prog_20_method_13_code
def yX2_four : MethodName := ⟨RX2, "four", "(I)V"⟩
def dkwX2_four_1 : List UInt8 := [180, 0, 55, 4, 96, 181, 0, 55, 132, 2, 255, 167, 255, 223, 177]
abbrev dktX2_four_1 : List UInt8 := dkwX2_four_1 ++ []
def dkwX2_four_0 : List UInt8 := [6, 61, 28, 155, 0, 35, 42, 180, 0, 26, 42, 180, 0, 55, 27, 16, 8, 28, 104, 122, 145, 84, 42, 89]
abbrev dktX2_four_0 : List UInt8 := dkwX2_four_0 ++ dktX2_four_1
theorem dksX2_four_0 : cX2_four.data.toList.drop 0 = dktX2_four_0 := by decide +kernel
theorem dksX2_four_1 : cX2_four.data.toList.drop 24 = dktX2_four_1 := dk_seg dksX2_four_0 24 rfl rfl
theorem dX2_four_0 : decode cX2_four 0 = .ok (.iconst 3, 1) := dk_6 (dk_at dksX2_four_0 0 rfl rfl)
theorem dX2_four_1 : decode cX2_four 1 = .ok (.istore_n 2, 1) := dk_61 (dk_at dksX2_four_0 1 rfl rfl)
theorem dX2_four_2 : decode cX2_four 2 = .ok (.iload_n 2, 1) := dk_28 (dk_at dksX2_four_0 2 rfl rfl)
theorem dX2_four_3 : decode cX2_four 3 = .ok (.ifCond .lt 35, 3) := dk_155 0 35 (dk_at dksX2_four_0 3 rfl rfl)
theorem dX2_four_6 : decode cX2_four 6 = .ok (.aload_n 0, 1) := dk_42 (dk_at dksX2_four_0 6 rfl rfl)
theorem dX2_four_7 : decode cX2_four 7 = .ok (.getfield 26, 3) := dk_180 0 26 (dk_at dksX2_four_0 7 rfl rfl)
theorem dX2_four_10 : decode cX2_four 10 = .ok (.aload_n 0, 1) := dk_42 (dk_at dksX2_four_0 10 rfl rfl)
theorem dX2_four_11 : decode cX2_four 11 = .ok (.getfield 55, 3) := dk_180 0 55 (dk_at dksX2_four_0 11 rfl rfl)
theorem dX2_four_14 : decode cX2_four 14 = .ok (.iload_n 1, 1) := dk_27 (dk_at dksX2_four_0 14 rfl rfl)
theorem dX2_four_15 : decode cX2_four 15 = .ok (.bipush 8, 2) := dk_16 8 (dk_at dksX2_four_0 15 rfl rfl)
theorem dX2_four_17 : decode cX2_four 17 = .ok (.iload_n 2, 1) := dk_28 (dk_at dksX2_four_0 17 rfl rfl)
theorem dX2_four_18 : decode cX2_four 18 = .ok (.imul, 1) := dk_104 (dk_at dksX2_four_0 18 rfl rfl)
theorem dX2_four_19 : decode cX2_four 19 = .ok (.ishr, 1) := dk_122 (dk_at dksX2_four_0 19 rfl rfl)
theorem dX2_four_20 : decode cX2_four 20 = .ok (.i2b, 1) := dk_145 (dk_at dksX2_four_0 20 rfl rfl)
theorem dX2_four_21 : decode cX2_four 21 = .ok (.bastore, 1) := dk_84 (dk_at dksX2_four_0 21 rfl rfl)
theorem dX2_four_22 : decode cX2_four 22 = .ok (.aload_n 0, 1) := dk_42 (dk_at dksX2_four_0 22 rfl rfl)
theorem dX2_four_23 : decode cX2_four 23 = .ok (.dup, 1) := dk_89 (dk_at dksX2_four_0 23 rfl rfl)
theorem dX2_four_24 : decode cX2_four 24 = .ok (.getfield 55, 3) := dk_180 0 55 (dk_at dksX2_four_1 0 rfl rfl)
theorem dX2_four_27 : decode cX2_four 27 = .ok (.iconst 1, 1) := dk_4 (dk_at dksX2_four_1 3 rfl rfl)
theorem dX2_four_28 : decode cX2_four 28 = .ok (.iadd, 1) := dk_96 (dk_at dksX2_four_1 4 rfl rfl)
theorem dX2_four_29 : decode cX2_four 29 = .ok (.putfield 55, 3) := dk_181 0 55 (dk_at dksX2_four_1 5 rfl rfl)
theorem dX2_four_32 : decode cX2_four 32 = .ok (.iinc 2 (-1), 3) := dk_132 2 255 (dk_at dksX2_four_1 8 rfl rfl)
theorem dX2_four_35 : decode cX2_four 35 = .ok (.goto (-33), 3) := dk_167 255 223 (dk_at dksX2_four_1 11 rfl rfl)
theorem dX2_four_38 : decode cX2_four 38 = .ok (.return_, 1) := dk_177 (dk_at dksX2_four_1 14 rfl rfl)
abbrev cX2_parseError : ByteArray := prog_20_method_14_code
def yX2_parseError : MethodName := ⟨RX2, "parseError", "()I"⟩
def dkwX2_parseError_0 : List UInt8 := [42, 3, 181, 0, 40, 42, 180, 0, 62, 172]
abbrev dktX2_parseError_0 : List UInt8 := dkwX2_parseError_0 ++ []
theorem dksX2_parseError_0 : cX2_parseError.data.toList.drop 0 = dktX2_parseError_0 := by decide +kernel
theorem dX2_parseError_0 : decode cX2_parseError 0 = .ok (.aload_n 0, 1) := dk_42 (dk_at dksX2_parseError_0 0 rfl rfl)
theorem dX2_parseError_1 : decode cX2_parseError 1 = .ok (.iconst 0, 1) := dk_3 (dk_at dksX2_parseError_0 1 rfl rfl)
theorem dX2_parseError_2 : decode cX2_parseError 2 = .ok (.putfield 40, 3) := dk_181 0 40 (dk_at dksX2_parseError_0 2 rfl rfl)
theorem dX2_parseError_5 : decode cX2_parseError 5 = .ok (.aload_n 0, 1) := dk_42 (dk_at dksX2_parseError_0 5 rfl rfl)
theorem dX2_parseError_6 : decode cX2_parseError 6 = .ok (.getfield 62, 3) := dk_180 0 62 (dk_at dksX2_parseError_0 6 rfl rfl)
theorem dX2_parseError_9 : decode cX2_parseError 9 = .ok (.ireturn, 1) := dk_172 (dk_at dksX2_parseError_0 9 rfl rfl)
abbrev cX2_errorPosition : ByteArray := prog_20_method_15_code
def yX2_errorPosition : MethodName := ⟨RX2, "errorPosition", "()I"⟩
def dkwX2_errorPosition_0 : List UInt8 := [42, 3, 181, 0, 40, 42, 180, 0, 30, 172]
abbrev dktX2_errorPosition_0 : List UInt8 := dkwX2_errorPosition_0 ++ []
theorem dksX2_errorPosition_0 : cX2_errorPosition.data.toList.drop 0 = dktX2_errorPosition_0 := by decide +kernel
theorem dX2_errorPosition_0 : decode cX2_errorPosition 0 = .ok (.aload_n 0, 1) := dk_42 (dk_at dksX2_errorPosition_0 0 rfl rfl)
theorem dX2_errorPosition_1 : decode cX2_errorPosition 1 = .ok (.iconst 0, 1) := dk_3 (dk_at dksX2_errorPosition_0 1 rfl rfl)
theorem dX2_errorPosition_2 : decode cX2_errorPosition 2 = .ok (.putfield 40, 3) := dk_181 0 40 (dk_at dksX2_errorPosition_0 2 rfl rfl)
theorem dX2_errorPosition_5 : decode cX2_errorPosition 5 = .ok (.aload_n 0, 1) := dk_42 (dk_at dksX2_errorPosition_0 5 rfl rfl)
theorem dX2_errorPosition_6 : decode cX2_errorPosition 6 = .ok (.getfield 30, 3) := dk_180 0 30 (dk_at dksX2_errorPosition_0 6 rfl rfl)
theorem dX2_errorPosition_9 : decode cX2_errorPosition 9 = .ok (.ireturn, 1) := dk_172 (dk_at dksX2_errorPosition_0 9 rfl rfl)
abbrev cX2_buffered : ByteArray := prog_20_method_16_code
def yX2_buffered : MethodName := ⟨RX2, "buffered", "()I"⟩
def dkwX2_buffered_0 : List UInt8 := [42, 3, 181, 0, 40, 42, 180, 0, 55, 172]
abbrev dktX2_buffered_0 : List UInt8 := dkwX2_buffered_0 ++ []
theorem dksX2_buffered_0 : cX2_buffered.data.toList.drop 0 = dktX2_buffered_0 := by decide +kernel
theorem dX2_buffered_0 : decode cX2_buffered 0 = .ok (.aload_n 0, 1) := dk_42 (dk_at dksX2_buffered_0 0 rfl rfl)
theorem dX2_buffered_1 : decode cX2_buffered 1 = .ok (.iconst 0, 1) := dk_3 (dk_at dksX2_buffered_0 1 rfl rfl)
theorem dX2_buffered_2 : decode cX2_buffered 2 = .ok (.putfield 40, 3) := dk_181 0 40 (dk_at dksX2_buffered_0 2 rfl rfl)
theorem dX2_buffered_5 : decode cX2_buffered 5 = .ok (.aload_n 0, 1) := dk_42 (dk_at dksX2_buffered_0 5 rfl rfl)
theorem dX2_buffered_6 : decode cX2_buffered 6 = .ok (.getfield 55, 3) := dk_180 0 55 (dk_at dksX2_buffered_0 6 rfl rfl)
theorem dX2_buffered_9 : decode cX2_buffered 9 = .ok (.ireturn, 1) := dk_172 (dk_at dksX2_buffered_0 9 rfl rfl)
abbrev cX2_load : ByteArray := prog_20_method_39_code
def yX2_load : MethodName := ⟨RX2, "load", "(I)I"⟩
def dkwX2_load_5 : List UInt8 := [84, 42, 180, 0, 9, 16, 10, 46, 172]
abbrev dktX2_load_5 : List UInt8 := dkwX2_load_5 ++ []
def dkwX2_load_4 : List UInt8 := [172, 42, 4, 181, 0, 47, 42, 3, 181, 0, 224, 42, 180, 0, 22, 3, 3, 84, 42, 180, 0, 22, 4, 3]
abbrev dktX2_load_4 : List UInt8 := dkwX2_load_4 ++ dktX2_load_5
def dkwX2_load_3 : List UInt8 := [167, 255, 239, 42, 182, 0, 218, 42, 180, 0, 62, 158, 0, 14, 42, 5, 181, 0, 40, 42, 3, 182, 0, 221]
abbrev dktX2_load_3 : List UInt8 := dkwX2_load_3 ++ dktX2_load_4
def dkwX2_load_2 : List UInt8 := [182, 0, 215, 3, 61, 28, 17, 0, 173, 162, 0, 16, 42, 180, 0, 9, 28, 3, 79, 132, 2, 1]
abbrev dktX2_load_2 : List UInt8 := dkwX2_load_2 ++ dktX2_load_3
def dkwX2_load_1 : List UInt8 := [181, 0, 65, 42, 3, 181, 0, 72, 42, 3, 181, 0, 55, 42, 3, 181, 0, 62, 42, 2, 181, 0, 30, 42]
abbrev dktX2_load_1 : List UInt8 := dkwX2_load_1 ++ dktX2_load_2
def dkwX2_load_0 : List UInt8 := [42, 27, 3, 42, 180, 0, 55, 184, 0, 68, 4, 4, 182, 0, 43, 154, 0, 5, 3, 172, 42, 27]
abbrev dktX2_load_0 : List UInt8 := dkwX2_load_0 ++ dktX2_load_1
theorem dksX2_load_0 : cX2_load.data.toList.drop 0 = dktX2_load_0 := by decide +kernel
theorem dksX2_load_1 : cX2_load.data.toList.drop 22 = dktX2_load_1 := dk_seg dksX2_load_0 22 rfl rfl
theorem dksX2_load_2 : cX2_load.data.toList.drop 46 = dktX2_load_2 := dk_seg dksX2_load_1 24 rfl rfl
theorem dksX2_load_3 : cX2_load.data.toList.drop 68 = dktX2_load_3 := dk_seg dksX2_load_2 22 rfl rfl
theorem dksX2_load_4 : cX2_load.data.toList.drop 92 = dktX2_load_4 := dk_seg dksX2_load_3 24 rfl rfl
theorem dksX2_load_5 : cX2_load.data.toList.drop 116 = dktX2_load_5 := dk_seg dksX2_load_4 24 rfl rfl
theorem dX2_load_0 : decode cX2_load 0 = .ok (.aload_n 0, 1) := dk_42 (dk_at dksX2_load_0 0 rfl rfl)
theorem dX2_load_1 : decode cX2_load 1 = .ok (.iload_n 1, 1) := dk_27 (dk_at dksX2_load_0 1 rfl rfl)
theorem dX2_load_2 : decode cX2_load 2 = .ok (.iconst 0, 1) := dk_3 (dk_at dksX2_load_0 2 rfl rfl)
theorem dX2_load_3 : decode cX2_load 3 = .ok (.aload_n 0, 1) := dk_42 (dk_at dksX2_load_0 3 rfl rfl)
theorem dX2_load_4 : decode cX2_load 4 = .ok (.getfield 55, 3) := dk_180 0 55 (dk_at dksX2_load_0 4 rfl rfl)
theorem dX2_load_7 : decode cX2_load 7 = .ok (.invokestatic 68, 3) := dk_184 0 68 (dk_at dksX2_load_0 7 rfl rfl)
theorem dX2_load_10 : decode cX2_load 10 = .ok (.iconst 1, 1) := dk_4 (dk_at dksX2_load_0 10 rfl rfl)
theorem dX2_load_11 : decode cX2_load 11 = .ok (.iconst 1, 1) := dk_4 (dk_at dksX2_load_0 11 rfl rfl)
theorem dX2_load_12 : decode cX2_load 12 = .ok (.invokevirtual 43, 3) := dk_182 0 43 (dk_at dksX2_load_0 12 rfl rfl)
theorem dX2_load_15 : decode cX2_load 15 = .ok (.ifCond .ne 5, 3) := dk_154 0 5 (dk_at dksX2_load_0 15 rfl rfl)
theorem dX2_load_18 : decode cX2_load 18 = .ok (.iconst 0, 1) := dk_3 (dk_at dksX2_load_0 18 rfl rfl)
theorem dX2_load_19 : decode cX2_load 19 = .ok (.ireturn, 1) := dk_172 (dk_at dksX2_load_0 19 rfl rfl)
theorem dX2_load_20 : decode cX2_load 20 = .ok (.aload_n 0, 1) := dk_42 (dk_at dksX2_load_0 20 rfl rfl)
theorem dX2_load_21 : decode cX2_load 21 = .ok (.iload_n 1, 1) := dk_27 (dk_at dksX2_load_0 21 rfl rfl)
theorem dX2_load_22 : decode cX2_load 22 = .ok (.putfield 65, 3) := dk_181 0 65 (dk_at dksX2_load_1 0 rfl rfl)
theorem dX2_load_25 : decode cX2_load 25 = .ok (.aload_n 0, 1) := dk_42 (dk_at dksX2_load_1 3 rfl rfl)
theorem dX2_load_26 : decode cX2_load 26 = .ok (.iconst 0, 1) := dk_3 (dk_at dksX2_load_1 4 rfl rfl)
theorem dX2_load_27 : decode cX2_load 27 = .ok (.putfield 72, 3) := dk_181 0 72 (dk_at dksX2_load_1 5 rfl rfl)
theorem dX2_load_30 : decode cX2_load 30 = .ok (.aload_n 0, 1) := dk_42 (dk_at dksX2_load_1 8 rfl rfl)
theorem dX2_load_31 : decode cX2_load 31 = .ok (.iconst 0, 1) := dk_3 (dk_at dksX2_load_1 9 rfl rfl)
theorem dX2_load_32 : decode cX2_load 32 = .ok (.putfield 55, 3) := dk_181 0 55 (dk_at dksX2_load_1 10 rfl rfl)
theorem dX2_load_35 : decode cX2_load 35 = .ok (.aload_n 0, 1) := dk_42 (dk_at dksX2_load_1 13 rfl rfl)
theorem dX2_load_36 : decode cX2_load 36 = .ok (.iconst 0, 1) := dk_3 (dk_at dksX2_load_1 14 rfl rfl)
theorem dX2_load_37 : decode cX2_load 37 = .ok (.putfield 62, 3) := dk_181 0 62 (dk_at dksX2_load_1 15 rfl rfl)
theorem dX2_load_40 : decode cX2_load 40 = .ok (.aload_n 0, 1) := dk_42 (dk_at dksX2_load_1 18 rfl rfl)
theorem dX2_load_41 : decode cX2_load 41 = .ok (.iconst (-1), 1) := dk_2 (dk_at dksX2_load_1 19 rfl rfl)
theorem dX2_load_42 : decode cX2_load 42 = .ok (.putfield 30, 3) := dk_181 0 30 (dk_at dksX2_load_1 20 rfl rfl)
theorem dX2_load_45 : decode cX2_load 45 = .ok (.aload_n 0, 1) := dk_42 (dk_at dksX2_load_1 23 rfl rfl)
theorem dX2_load_46 : decode cX2_load 46 = .ok (.invokevirtual 215, 3) := dk_182 0 215 (dk_at dksX2_load_2 0 rfl rfl)
theorem dX2_load_49 : decode cX2_load 49 = .ok (.iconst 0, 1) := dk_3 (dk_at dksX2_load_2 3 rfl rfl)
theorem dX2_load_50 : decode cX2_load 50 = .ok (.istore_n 2, 1) := dk_61 (dk_at dksX2_load_2 4 rfl rfl)
theorem dX2_load_51 : decode cX2_load 51 = .ok (.iload_n 2, 1) := dk_28 (dk_at dksX2_load_2 5 rfl rfl)
theorem dX2_load_52 : decode cX2_load 52 = .ok (.sipush 173, 3) := dk_17 0 173 (dk_at dksX2_load_2 6 rfl rfl)
theorem dX2_load_55 : decode cX2_load 55 = .ok (.if_icmp .ge 16, 3) := dk_162 0 16 (dk_at dksX2_load_2 9 rfl rfl)
theorem dX2_load_58 : decode cX2_load 58 = .ok (.aload_n 0, 1) := dk_42 (dk_at dksX2_load_2 12 rfl rfl)
theorem dX2_load_59 : decode cX2_load 59 = .ok (.getfield 9, 3) := dk_180 0 9 (dk_at dksX2_load_2 13 rfl rfl)
theorem dX2_load_62 : decode cX2_load 62 = .ok (.iload_n 2, 1) := dk_28 (dk_at dksX2_load_2 16 rfl rfl)
theorem dX2_load_63 : decode cX2_load 63 = .ok (.iconst 0, 1) := dk_3 (dk_at dksX2_load_2 17 rfl rfl)
theorem dX2_load_64 : decode cX2_load 64 = .ok (.iastore, 1) := dk_79 (dk_at dksX2_load_2 18 rfl rfl)
theorem dX2_load_65 : decode cX2_load 65 = .ok (.iinc 2 1, 3) := dk_132 2 1 (dk_at dksX2_load_2 19 rfl rfl)
theorem dX2_load_68 : decode cX2_load 68 = .ok (.goto (-17), 3) := dk_167 255 239 (dk_at dksX2_load_3 0 rfl rfl)
theorem dX2_load_71 : decode cX2_load 71 = .ok (.aload_n 0, 1) := dk_42 (dk_at dksX2_load_3 3 rfl rfl)
theorem dX2_load_72 : decode cX2_load 72 = .ok (.invokevirtual 218, 3) := dk_182 0 218 (dk_at dksX2_load_3 4 rfl rfl)
theorem dX2_load_75 : decode cX2_load 75 = .ok (.aload_n 0, 1) := dk_42 (dk_at dksX2_load_3 7 rfl rfl)
theorem dX2_load_76 : decode cX2_load 76 = .ok (.getfield 62, 3) := dk_180 0 62 (dk_at dksX2_load_3 8 rfl rfl)
theorem dX2_load_79 : decode cX2_load 79 = .ok (.ifCond .le 14, 3) := dk_158 0 14 (dk_at dksX2_load_3 11 rfl rfl)
theorem dX2_load_82 : decode cX2_load 82 = .ok (.aload_n 0, 1) := dk_42 (dk_at dksX2_load_3 14 rfl rfl)
theorem dX2_load_83 : decode cX2_load 83 = .ok (.iconst 2, 1) := dk_5 (dk_at dksX2_load_3 15 rfl rfl)
theorem dX2_load_84 : decode cX2_load 84 = .ok (.putfield 40, 3) := dk_181 0 40 (dk_at dksX2_load_3 16 rfl rfl)
theorem dX2_load_87 : decode cX2_load 87 = .ok (.aload_n 0, 1) := dk_42 (dk_at dksX2_load_3 19 rfl rfl)
theorem dX2_load_88 : decode cX2_load 88 = .ok (.iconst 0, 1) := dk_3 (dk_at dksX2_load_3 20 rfl rfl)
theorem dX2_load_89 : decode cX2_load 89 = .ok (.invokevirtual 221, 3) := dk_182 0 221 (dk_at dksX2_load_3 21 rfl rfl)
theorem dX2_load_92 : decode cX2_load 92 = .ok (.ireturn, 1) := dk_172 (dk_at dksX2_load_4 0 rfl rfl)
theorem dX2_load_93 : decode cX2_load 93 = .ok (.aload_n 0, 1) := dk_42 (dk_at dksX2_load_4 1 rfl rfl)
theorem dX2_load_94 : decode cX2_load 94 = .ok (.iconst 1, 1) := dk_4 (dk_at dksX2_load_4 2 rfl rfl)
theorem dX2_load_95 : decode cX2_load 95 = .ok (.putfield 47, 3) := dk_181 0 47 (dk_at dksX2_load_4 3 rfl rfl)
theorem dX2_load_98 : decode cX2_load 98 = .ok (.aload_n 0, 1) := dk_42 (dk_at dksX2_load_4 6 rfl rfl)
theorem dX2_load_99 : decode cX2_load 99 = .ok (.iconst 0, 1) := dk_3 (dk_at dksX2_load_4 7 rfl rfl)
theorem dX2_load_100 : decode cX2_load 100 = .ok (.putfield 224, 3) := dk_181 0 224 (dk_at dksX2_load_4 8 rfl rfl)
theorem dX2_load_103 : decode cX2_load 103 = .ok (.aload_n 0, 1) := dk_42 (dk_at dksX2_load_4 11 rfl rfl)
theorem dX2_load_104 : decode cX2_load 104 = .ok (.getfield 22, 3) := dk_180 0 22 (dk_at dksX2_load_4 12 rfl rfl)
theorem dX2_load_107 : decode cX2_load 107 = .ok (.iconst 0, 1) := dk_3 (dk_at dksX2_load_4 15 rfl rfl)
theorem dX2_load_108 : decode cX2_load 108 = .ok (.iconst 0, 1) := dk_3 (dk_at dksX2_load_4 16 rfl rfl)
theorem dX2_load_109 : decode cX2_load 109 = .ok (.bastore, 1) := dk_84 (dk_at dksX2_load_4 17 rfl rfl)
theorem dX2_load_110 : decode cX2_load 110 = .ok (.aload_n 0, 1) := dk_42 (dk_at dksX2_load_4 18 rfl rfl)
theorem dX2_load_111 : decode cX2_load 111 = .ok (.getfield 22, 3) := dk_180 0 22 (dk_at dksX2_load_4 19 rfl rfl)
theorem dX2_load_114 : decode cX2_load 114 = .ok (.iconst 1, 1) := dk_4 (dk_at dksX2_load_4 22 rfl rfl)
theorem dX2_load_115 : decode cX2_load 115 = .ok (.iconst 0, 1) := dk_3 (dk_at dksX2_load_4 23 rfl rfl)
theorem dX2_load_116 : decode cX2_load 116 = .ok (.bastore, 1) := dk_84 (dk_at dksX2_load_5 0 rfl rfl)
theorem dX2_load_117 : decode cX2_load 117 = .ok (.aload_n 0, 1) := dk_42 (dk_at dksX2_load_5 1 rfl rfl)
theorem dX2_load_118 : decode cX2_load 118 = .ok (.getfield 9, 3) := dk_180 0 9 (dk_at dksX2_load_5 2 rfl rfl)
theorem dX2_load_121 : decode cX2_load 121 = .ok (.bipush 10, 2) := dk_16 10 (dk_at dksX2_load_5 5 rfl rfl)
theorem dX2_load_123 : decode cX2_load 123 = .ok (.iaload, 1) := dk_46 (dk_at dksX2_load_5 7 rfl rfl)
theorem dX2_load_124 : decode cX2_load 124 = .ok (.ireturn, 1) := dk_172 (dk_at dksX2_load_5 8 rfl rfl)
abbrev cX2_in : ByteArray := prog_20_method_3_code
def yX2_in : MethodName := ⟨RX2, "in", "(III)Z"⟩
def dkwX2_in_0 : List UInt8 := [27, 26, 163, 0, 12, 26, 28, 163, 0, 7, 4, 167, 0, 4, 3, 172]
abbrev dktX2_in_0 : List UInt8 := dkwX2_in_0 ++ []
theorem dksX2_in_0 : cX2_in.data.toList.drop 0 = dktX2_in_0 := by decide +kernel
theorem dX2_in_0 : decode cX2_in 0 = .ok (.iload_n 1, 1) := dk_27 (dk_at dksX2_in_0 0 rfl rfl)
theorem dX2_in_1 : decode cX2_in 1 = .ok (.iload_n 0, 1) := dk_26 (dk_at dksX2_in_0 1 rfl rfl)
theorem dX2_in_2 : decode cX2_in 2 = .ok (.if_icmp .gt 12, 3) := dk_163 0 12 (dk_at dksX2_in_0 2 rfl rfl)
theorem dX2_in_5 : decode cX2_in 5 = .ok (.iload_n 0, 1) := dk_26 (dk_at dksX2_in_0 5 rfl rfl)
theorem dX2_in_6 : decode cX2_in 6 = .ok (.iload_n 2, 1) := dk_28 (dk_at dksX2_in_0 6 rfl rfl)
theorem dX2_in_7 : decode cX2_in 7 = .ok (.if_icmp .gt 7, 3) := dk_163 0 7 (dk_at dksX2_in_0 7 rfl rfl)
theorem dX2_in_10 : decode cX2_in 10 = .ok (.iconst 1, 1) := dk_4 (dk_at dksX2_in_0 10 rfl rfl)
theorem dX2_in_11 : decode cX2_in 11 = .ok (.goto 4, 3) := dk_167 0 4 (dk_at dksX2_in_0 11 rfl rfl)
theorem dX2_in_14 : decode cX2_in 14 = .ok (.iconst 0, 1) := dk_3 (dk_at dksX2_in_0 14 rfl rfl)
theorem dX2_in_15 : decode cX2_in 15 = .ok (.ireturn, 1) := dk_172 (dk_at dksX2_in_0 15 rfl rfl)
abbrev cX2_may : ByteArray := prog_20_method_6_code
def yX2_may : MethodName := ⟨RX2, "may", "(ZZZ)Z"⟩
def dkwX2_may_1 : List UInt8 := [167, 0, 4, 6, 181, 0, 40, 42, 180, 0, 40, 154, 0, 7, 4, 167, 0, 4, 3, 172]
abbrev dktX2_may_1 : List UInt8 := dkwX2_may_1 ++ []
def dkwX2_may_0 : List UInt8 := [42, 27, 154, 0, 7, 4, 167, 0, 20, 28, 154, 0, 7, 5, 167, 0, 12, 29, 153, 0, 7, 3]
abbrev dktX2_may_0 : List UInt8 := dkwX2_may_0 ++ dktX2_may_1
theorem dksX2_may_0 : cX2_may.data.toList.drop 0 = dktX2_may_0 := by decide +kernel
theorem dksX2_may_1 : cX2_may.data.toList.drop 22 = dktX2_may_1 := dk_seg dksX2_may_0 22 rfl rfl
theorem dX2_may_0 : decode cX2_may 0 = .ok (.aload_n 0, 1) := dk_42 (dk_at dksX2_may_0 0 rfl rfl)
theorem dX2_may_1 : decode cX2_may 1 = .ok (.iload_n 1, 1) := dk_27 (dk_at dksX2_may_0 1 rfl rfl)
theorem dX2_may_2 : decode cX2_may 2 = .ok (.ifCond .ne 7, 3) := dk_154 0 7 (dk_at dksX2_may_0 2 rfl rfl)
theorem dX2_may_5 : decode cX2_may 5 = .ok (.iconst 1, 1) := dk_4 (dk_at dksX2_may_0 5 rfl rfl)
theorem dX2_may_6 : decode cX2_may 6 = .ok (.goto 20, 3) := dk_167 0 20 (dk_at dksX2_may_0 6 rfl rfl)
theorem dX2_may_9 : decode cX2_may 9 = .ok (.iload_n 2, 1) := dk_28 (dk_at dksX2_may_0 9 rfl rfl)
theorem dX2_may_10 : decode cX2_may 10 = .ok (.ifCond .ne 7, 3) := dk_154 0 7 (dk_at dksX2_may_0 10 rfl rfl)
theorem dX2_may_13 : decode cX2_may 13 = .ok (.iconst 2, 1) := dk_5 (dk_at dksX2_may_0 13 rfl rfl)
theorem dX2_may_14 : decode cX2_may 14 = .ok (.goto 12, 3) := dk_167 0 12 (dk_at dksX2_may_0 14 rfl rfl)
theorem dX2_may_17 : decode cX2_may 17 = .ok (.iload_n 3, 1) := dk_29 (dk_at dksX2_may_0 17 rfl rfl)
theorem dX2_may_18 : decode cX2_may 18 = .ok (.ifCond .eq 7, 3) := dk_153 0 7 (dk_at dksX2_may_0 18 rfl rfl)
theorem dX2_may_21 : decode cX2_may 21 = .ok (.iconst 0, 1) := dk_3 (dk_at dksX2_may_0 21 rfl rfl)
theorem dX2_may_22 : decode cX2_may 22 = .ok (.goto 4, 3) := dk_167 0 4 (dk_at dksX2_may_1 0 rfl rfl)
theorem dX2_may_25 : decode cX2_may 25 = .ok (.iconst 3, 1) := dk_6 (dk_at dksX2_may_1 3 rfl rfl)
theorem dX2_may_26 : decode cX2_may 26 = .ok (.putfield 40, 3) := dk_181 0 40 (dk_at dksX2_may_1 4 rfl rfl)
theorem dX2_may_29 : decode cX2_may 29 = .ok (.aload_n 0, 1) := dk_42 (dk_at dksX2_may_1 7 rfl rfl)
theorem dX2_may_30 : decode cX2_may 30 = .ok (.getfield 40, 3) := dk_180 0 40 (dk_at dksX2_may_1 8 rfl rfl)
theorem dX2_may_33 : decode cX2_may 33 = .ok (.ifCond .ne 7, 3) := dk_154 0 7 (dk_at dksX2_may_1 11 rfl rfl)
theorem dX2_may_36 : decode cX2_may 36 = .ok (.iconst 1, 1) := dk_4 (dk_at dksX2_may_1 14 rfl rfl)
theorem dX2_may_37 : decode cX2_may 37 = .ok (.goto 4, 3) := dk_167 0 4 (dk_at dksX2_may_1 15 rfl rfl)
theorem dX2_may_40 : decode cX2_may 40 = .ok (.iconst 0, 1) := dk_3 (dk_at dksX2_may_1 18 rfl rfl)
theorem dX2_may_41 : decode cX2_may 41 = .ok (.ireturn, 1) := dk_172 (dk_at dksX2_may_1 19 rfl rfl)
abbrev cX2_thinks : ByteArray := prog_20_method_10_code
def yX2_thinks : MethodName := ⟨RX2, "thinks", "()V"⟩
def dkwX2_thinks_0 : List UInt8 := [42, 180, 0, 9, 3, 42, 180, 0, 13, 3, 184, 0, 51, 177]
abbrev dktX2_thinks_0 : List UInt8 := dkwX2_thinks_0 ++ []
theorem dksX2_thinks_0 : cX2_thinks.data.toList.drop 0 = dktX2_thinks_0 := by decide +kernel
theorem dX2_thinks_0 : decode cX2_thinks 0 = .ok (.aload_n 0, 1) := dk_42 (dk_at dksX2_thinks_0 0 rfl rfl)
theorem dX2_thinks_1 : decode cX2_thinks 1 = .ok (.getfield 9, 3) := dk_180 0 9 (dk_at dksX2_thinks_0 1 rfl rfl)
theorem dX2_thinks_4 : decode cX2_thinks 4 = .ok (.iconst 0, 1) := dk_3 (dk_at dksX2_thinks_0 4 rfl rfl)
theorem dX2_thinks_5 : decode cX2_thinks 5 = .ok (.aload_n 0, 1) := dk_42 (dk_at dksX2_thinks_0 5 rfl rfl)
theorem dX2_thinks_6 : decode cX2_thinks 6 = .ok (.getfield 13, 3) := dk_180 0 13 (dk_at dksX2_thinks_0 6 rfl rfl)
theorem dX2_thinks_9 : decode cX2_thinks 9 = .ok (.iconst 0, 1) := dk_3 (dk_at dksX2_thinks_0 9 rfl rfl)
theorem dX2_thinks_10 : decode cX2_thinks 10 = .ok (.invokestatic 51, 3) := dk_184 0 51 (dk_at dksX2_thinks_0 10 rfl rfl)
theorem dX2_thinks_13 : decode cX2_thinks 13 = .ok (.return_, 1) := dk_177 (dk_at dksX2_thinks_0 13 rfl rfl)
abbrev cX2_lays : ByteArray := prog_20_method_9_code
def yX2_lays : MethodName := ⟨RX2, "lays", "([II[II)V"⟩
def dkwX2_lays_1 : List UInt8 := [132, 4, 1, 167, 255, 233, 177]
abbrev dktX2_lays_1 : List UInt8 := dkwX2_lays_1 ++ []
def dkwX2_lays_0 : List UInt8 := [3, 54, 4, 21, 4, 17, 0, 173, 162, 0, 21, 44, 29, 21, 4, 96, 42, 27, 21, 4, 96, 46, 79]
abbrev dktX2_lays_0 : List UInt8 := dkwX2_lays_0 ++ dktX2_lays_1
theorem dksX2_lays_0 : cX2_lays.data.toList.drop 0 = dktX2_lays_0 := by decide +kernel
theorem dksX2_lays_1 : cX2_lays.data.toList.drop 23 = dktX2_lays_1 := dk_seg dksX2_lays_0 23 rfl rfl
theorem dX2_lays_0 : decode cX2_lays 0 = .ok (.iconst 0, 1) := dk_3 (dk_at dksX2_lays_0 0 rfl rfl)
theorem dX2_lays_1 : decode cX2_lays 1 = .ok (.istore 4, 2) := dk_54 4 (dk_at dksX2_lays_0 1 rfl rfl)
theorem dX2_lays_3 : decode cX2_lays 3 = .ok (.iload 4, 2) := dk_21 4 (dk_at dksX2_lays_0 3 rfl rfl)
theorem dX2_lays_5 : decode cX2_lays 5 = .ok (.sipush 173, 3) := dk_17 0 173 (dk_at dksX2_lays_0 5 rfl rfl)
theorem dX2_lays_8 : decode cX2_lays 8 = .ok (.if_icmp .ge 21, 3) := dk_162 0 21 (dk_at dksX2_lays_0 8 rfl rfl)
theorem dX2_lays_11 : decode cX2_lays 11 = .ok (.aload_n 2, 1) := dk_44 (dk_at dksX2_lays_0 11 rfl rfl)
theorem dX2_lays_12 : decode cX2_lays 12 = .ok (.iload_n 3, 1) := dk_29 (dk_at dksX2_lays_0 12 rfl rfl)
theorem dX2_lays_13 : decode cX2_lays 13 = .ok (.iload 4, 2) := dk_21 4 (dk_at dksX2_lays_0 13 rfl rfl)
theorem dX2_lays_15 : decode cX2_lays 15 = .ok (.iadd, 1) := dk_96 (dk_at dksX2_lays_0 15 rfl rfl)
theorem dX2_lays_16 : decode cX2_lays 16 = .ok (.aload_n 0, 1) := dk_42 (dk_at dksX2_lays_0 16 rfl rfl)
theorem dX2_lays_17 : decode cX2_lays 17 = .ok (.iload_n 1, 1) := dk_27 (dk_at dksX2_lays_0 17 rfl rfl)
theorem dX2_lays_18 : decode cX2_lays 18 = .ok (.iload 4, 2) := dk_21 4 (dk_at dksX2_lays_0 18 rfl rfl)
theorem dX2_lays_20 : decode cX2_lays 20 = .ok (.iadd, 1) := dk_96 (dk_at dksX2_lays_0 20 rfl rfl)
theorem dX2_lays_21 : decode cX2_lays 21 = .ok (.iaload, 1) := dk_46 (dk_at dksX2_lays_0 21 rfl rfl)
theorem dX2_lays_22 : decode cX2_lays 22 = .ok (.iastore, 1) := dk_79 (dk_at dksX2_lays_0 22 rfl rfl)
theorem dX2_lays_23 : decode cX2_lays 23 = .ok (.iinc 4 1, 3) := dk_132 4 1 (dk_at dksX2_lays_1 0 rfl rfl)
theorem dX2_lays_26 : decode cX2_lays 26 = .ok (.goto (-23), 3) := dk_167 255 233 (dk_at dksX2_lays_1 3 rfl rfl)
theorem dX2_lays_29 : decode cX2_lays 29 = .ok (.return_, 1) := dk_177 (dk_at dksX2_lays_1 6 rfl rfl)
abbrev cX2_readsText : ByteArray := prog_20_method_38_code
def yX2_readsText : MethodName := ⟨RX2, "readsText", "()V"⟩
def dkwX2_readsText_4 : List UInt8 := [16, 8, 46, 154, 0, 8, 42, 7, 182, 0, 104, 177]
abbrev dktX2_readsText_4 : List UInt8 := dkwX2_readsText_4 ++ []
def dkwX2_readsText_3 : List UInt8 := [180, 0, 9, 16, 6, 46, 153, 0, 23, 42, 180, 0, 9, 16, 7, 46, 153, 0, 13, 42, 180, 0, 9]
abbrev dktX2_readsText_3 : List UInt8 := dkwX2_readsText_3 ++ dktX2_readsText_4
def dkwX2_readsText_2 : List UInt8 := [182, 0, 111, 42, 182, 0, 212, 167, 255, 240, 42, 4, 182, 0, 91, 154, 0, 8, 42, 4, 182, 0, 104, 42]
abbrev dktX2_readsText_2 : List UInt8 := dkwX2_readsText_2 ++ dktX2_readsText_3
def dkwX2_readsText_1 : List UInt8 := [180, 0, 9, 16, 9, 42, 4, 16, 8, 182, 0, 118, 79, 42, 7, 182, 0, 91, 153, 0, 14, 42]
abbrev dktX2_readsText_1 : List UInt8 := dkwX2_readsText_1 ++ dktX2_readsText_2
def dkwX2_readsText_0 : List UInt8 := [42, 182, 0, 111, 42, 18, 210, 182, 0, 160, 154, 0, 8, 42, 4, 182, 0, 104, 42, 182, 0, 111, 42]
abbrev dktX2_readsText_0 : List UInt8 := dkwX2_readsText_0 ++ dktX2_readsText_1
theorem dksX2_readsText_0 : cX2_readsText.data.toList.drop 0 = dktX2_readsText_0 := by decide +kernel
theorem dksX2_readsText_1 : cX2_readsText.data.toList.drop 23 = dktX2_readsText_1 := dk_seg dksX2_readsText_0 23 rfl rfl
theorem dksX2_readsText_2 : cX2_readsText.data.toList.drop 45 = dktX2_readsText_2 := dk_seg dksX2_readsText_1 22 rfl rfl
theorem dksX2_readsText_3 : cX2_readsText.data.toList.drop 69 = dktX2_readsText_3 := dk_seg dksX2_readsText_2 24 rfl rfl
theorem dksX2_readsText_4 : cX2_readsText.data.toList.drop 92 = dktX2_readsText_4 := dk_seg dksX2_readsText_3 23 rfl rfl
theorem dX2_readsText_0 : decode cX2_readsText 0 = .ok (.aload_n 0, 1) := dk_42 (dk_at dksX2_readsText_0 0 rfl rfl)
theorem dX2_readsText_1 : decode cX2_readsText 1 = .ok (.invokevirtual 111, 3) := dk_182 0 111 (dk_at dksX2_readsText_0 1 rfl rfl)
theorem dX2_readsText_4 : decode cX2_readsText 4 = .ok (.aload_n 0, 1) := dk_42 (dk_at dksX2_readsText_0 4 rfl rfl)
theorem dX2_readsText_5 : decode cX2_readsText 5 = .ok (.ldc 210, 2) := dk_18 210 (dk_at dksX2_readsText_0 5 rfl rfl)
theorem dX2_readsText_7 : decode cX2_readsText 7 = .ok (.invokevirtual 160, 3) := dk_182 0 160 (dk_at dksX2_readsText_0 7 rfl rfl)
theorem dX2_readsText_10 : decode cX2_readsText 10 = .ok (.ifCond .ne 8, 3) := dk_154 0 8 (dk_at dksX2_readsText_0 10 rfl rfl)
theorem dX2_readsText_13 : decode cX2_readsText 13 = .ok (.aload_n 0, 1) := dk_42 (dk_at dksX2_readsText_0 13 rfl rfl)
theorem dX2_readsText_14 : decode cX2_readsText 14 = .ok (.iconst 1, 1) := dk_4 (dk_at dksX2_readsText_0 14 rfl rfl)
theorem dX2_readsText_15 : decode cX2_readsText 15 = .ok (.invokevirtual 104, 3) := dk_182 0 104 (dk_at dksX2_readsText_0 15 rfl rfl)
theorem dX2_readsText_18 : decode cX2_readsText 18 = .ok (.aload_n 0, 1) := dk_42 (dk_at dksX2_readsText_0 18 rfl rfl)
theorem dX2_readsText_19 : decode cX2_readsText 19 = .ok (.invokevirtual 111, 3) := dk_182 0 111 (dk_at dksX2_readsText_0 19 rfl rfl)
theorem dX2_readsText_22 : decode cX2_readsText 22 = .ok (.aload_n 0, 1) := dk_42 (dk_at dksX2_readsText_0 22 rfl rfl)
theorem dX2_readsText_23 : decode cX2_readsText 23 = .ok (.getfield 9, 3) := dk_180 0 9 (dk_at dksX2_readsText_1 0 rfl rfl)
theorem dX2_readsText_26 : decode cX2_readsText 26 = .ok (.bipush 9, 2) := dk_16 9 (dk_at dksX2_readsText_1 3 rfl rfl)
theorem dX2_readsText_28 : decode cX2_readsText 28 = .ok (.aload_n 0, 1) := dk_42 (dk_at dksX2_readsText_1 5 rfl rfl)
theorem dX2_readsText_29 : decode cX2_readsText 29 = .ok (.iconst 1, 1) := dk_4 (dk_at dksX2_readsText_1 6 rfl rfl)
theorem dX2_readsText_30 : decode cX2_readsText 30 = .ok (.bipush 8, 2) := dk_16 8 (dk_at dksX2_readsText_1 7 rfl rfl)
theorem dX2_readsText_32 : decode cX2_readsText 32 = .ok (.invokevirtual 118, 3) := dk_182 0 118 (dk_at dksX2_readsText_1 9 rfl rfl)
theorem dX2_readsText_35 : decode cX2_readsText 35 = .ok (.iastore, 1) := dk_79 (dk_at dksX2_readsText_1 12 rfl rfl)
theorem dX2_readsText_36 : decode cX2_readsText 36 = .ok (.aload_n 0, 1) := dk_42 (dk_at dksX2_readsText_1 13 rfl rfl)
theorem dX2_readsText_37 : decode cX2_readsText 37 = .ok (.iconst 4, 1) := dk_7 (dk_at dksX2_readsText_1 14 rfl rfl)
theorem dX2_readsText_38 : decode cX2_readsText 38 = .ok (.invokevirtual 91, 3) := dk_182 0 91 (dk_at dksX2_readsText_1 15 rfl rfl)
theorem dX2_readsText_41 : decode cX2_readsText 41 = .ok (.ifCond .eq 14, 3) := dk_153 0 14 (dk_at dksX2_readsText_1 18 rfl rfl)
theorem dX2_readsText_44 : decode cX2_readsText 44 = .ok (.aload_n 0, 1) := dk_42 (dk_at dksX2_readsText_1 21 rfl rfl)
theorem dX2_readsText_45 : decode cX2_readsText 45 = .ok (.invokevirtual 111, 3) := dk_182 0 111 (dk_at dksX2_readsText_2 0 rfl rfl)
theorem dX2_readsText_48 : decode cX2_readsText 48 = .ok (.aload_n 0, 1) := dk_42 (dk_at dksX2_readsText_2 3 rfl rfl)
theorem dX2_readsText_49 : decode cX2_readsText 49 = .ok (.invokevirtual 212, 3) := dk_182 0 212 (dk_at dksX2_readsText_2 4 rfl rfl)
theorem dX2_readsText_52 : decode cX2_readsText 52 = .ok (.goto (-16), 3) := dk_167 255 240 (dk_at dksX2_readsText_2 7 rfl rfl)
theorem dX2_readsText_55 : decode cX2_readsText 55 = .ok (.aload_n 0, 1) := dk_42 (dk_at dksX2_readsText_2 10 rfl rfl)
theorem dX2_readsText_56 : decode cX2_readsText 56 = .ok (.iconst 1, 1) := dk_4 (dk_at dksX2_readsText_2 11 rfl rfl)
theorem dX2_readsText_57 : decode cX2_readsText 57 = .ok (.invokevirtual 91, 3) := dk_182 0 91 (dk_at dksX2_readsText_2 12 rfl rfl)
theorem dX2_readsText_60 : decode cX2_readsText 60 = .ok (.ifCond .ne 8, 3) := dk_154 0 8 (dk_at dksX2_readsText_2 15 rfl rfl)
theorem dX2_readsText_63 : decode cX2_readsText 63 = .ok (.aload_n 0, 1) := dk_42 (dk_at dksX2_readsText_2 18 rfl rfl)
theorem dX2_readsText_64 : decode cX2_readsText 64 = .ok (.iconst 1, 1) := dk_4 (dk_at dksX2_readsText_2 19 rfl rfl)
theorem dX2_readsText_65 : decode cX2_readsText 65 = .ok (.invokevirtual 104, 3) := dk_182 0 104 (dk_at dksX2_readsText_2 20 rfl rfl)
theorem dX2_readsText_68 : decode cX2_readsText 68 = .ok (.aload_n 0, 1) := dk_42 (dk_at dksX2_readsText_2 23 rfl rfl)
theorem dX2_readsText_69 : decode cX2_readsText 69 = .ok (.getfield 9, 3) := dk_180 0 9 (dk_at dksX2_readsText_3 0 rfl rfl)
theorem dX2_readsText_72 : decode cX2_readsText 72 = .ok (.bipush 6, 2) := dk_16 6 (dk_at dksX2_readsText_3 3 rfl rfl)
theorem dX2_readsText_74 : decode cX2_readsText 74 = .ok (.iaload, 1) := dk_46 (dk_at dksX2_readsText_3 5 rfl rfl)
theorem dX2_readsText_75 : decode cX2_readsText 75 = .ok (.ifCond .eq 23, 3) := dk_153 0 23 (dk_at dksX2_readsText_3 6 rfl rfl)
theorem dX2_readsText_78 : decode cX2_readsText 78 = .ok (.aload_n 0, 1) := dk_42 (dk_at dksX2_readsText_3 9 rfl rfl)
theorem dX2_readsText_79 : decode cX2_readsText 79 = .ok (.getfield 9, 3) := dk_180 0 9 (dk_at dksX2_readsText_3 10 rfl rfl)
theorem dX2_readsText_82 : decode cX2_readsText 82 = .ok (.bipush 7, 2) := dk_16 7 (dk_at dksX2_readsText_3 13 rfl rfl)
theorem dX2_readsText_84 : decode cX2_readsText 84 = .ok (.iaload, 1) := dk_46 (dk_at dksX2_readsText_3 15 rfl rfl)
theorem dX2_readsText_85 : decode cX2_readsText 85 = .ok (.ifCond .eq 13, 3) := dk_153 0 13 (dk_at dksX2_readsText_3 16 rfl rfl)
theorem dX2_readsText_88 : decode cX2_readsText 88 = .ok (.aload_n 0, 1) := dk_42 (dk_at dksX2_readsText_3 19 rfl rfl)
theorem dX2_readsText_89 : decode cX2_readsText 89 = .ok (.getfield 9, 3) := dk_180 0 9 (dk_at dksX2_readsText_3 20 rfl rfl)
theorem dX2_readsText_92 : decode cX2_readsText 92 = .ok (.bipush 8, 2) := dk_16 8 (dk_at dksX2_readsText_4 0 rfl rfl)
theorem dX2_readsText_94 : decode cX2_readsText 94 = .ok (.iaload, 1) := dk_46 (dk_at dksX2_readsText_4 2 rfl rfl)
theorem dX2_readsText_95 : decode cX2_readsText 95 = .ok (.ifCond .ne 8, 3) := dk_154 0 8 (dk_at dksX2_readsText_4 3 rfl rfl)
theorem dX2_readsText_98 : decode cX2_readsText 98 = .ok (.aload_n 0, 1) := dk_42 (dk_at dksX2_readsText_4 6 rfl rfl)
theorem dX2_readsText_99 : decode cX2_readsText 99 = .ok (.iconst 4, 1) := dk_7 (dk_at dksX2_readsText_4 7 rfl rfl)
theorem dX2_readsText_100 : decode cX2_readsText 100 = .ok (.invokevirtual 104, 3) := dk_182 0 104 (dk_at dksX2_readsText_4 8 rfl rfl)
theorem dX2_readsText_103 : decode cX2_readsText 103 = .ok (.return_, 1) := dk_177 (dk_at dksX2_readsText_4 11 rfl rfl)
abbrev cX2_goes : ByteArray := prog_20_method_19_code
def yX2_goes : MethodName := ⟨RX2, "goes", "()V"⟩
def dkwX2_goes_11 : List UInt8 := [3, 181, 0, 78, 42, 89, 180, 0, 72, 4, 96, 181, 0, 72, 177]
abbrev dktX2_goes_11 : List UInt8 := dkwX2_goes_11 ++ []
def dkwX2_goes_10 : List UInt8 := [3, 181, 0, 78, 177, 42, 42, 180, 0, 26, 42, 180, 0, 72, 51, 16, 59, 160, 0, 7, 7, 167, 0, 4]
abbrev dktX2_goes_10 : List UInt8 := dkwX2_goes_10 ++ dktX2_goes_11
def dkwX2_goes_9 : List UInt8 := [181, 0, 72, 167, 255, 198, 42, 42, 180, 0, 72, 42, 180, 0, 75, 100, 5, 163, 0, 7, 6, 167, 0, 4]
abbrev dktX2_goes_9 : List UInt8 := dkwX2_goes_9 ++ dktX2_goes_10
def dkwX2_goes_8 : List UInt8 := [42, 180, 0, 26, 42, 180, 0, 72, 51, 96, 16, 48, 100, 181, 0, 88, 42, 89, 180, 0, 72, 4, 96]
abbrev dktX2_goes_8 : List UInt8 := dkwX2_goes_8 ++ dktX2_goes_9
def dkwX2_goes_7 : List UInt8 := [153, 0, 53, 42, 180, 0, 72, 42, 180, 0, 75, 100, 5, 162, 0, 27, 42, 16, 10, 42, 180, 0, 88, 104]
abbrev dktX2_goes_7 : List UInt8 := dkwX2_goes_7 ++ dktX2_goes_8
def dkwX2_goes_6 : List UInt8 := [42, 180, 0, 72, 182, 0, 85, 153, 0, 92, 42, 3, 181, 0, 88, 42, 42, 180, 0, 72, 182, 0, 85]
abbrev dktX2_goes_6 : List UInt8 := dkwX2_goes_6 ++ dktX2_goes_7
def dkwX2_goes_5 : List UInt8 := [42, 180, 0, 72, 42, 180, 0, 75, 100, 16, 6, 163, 0, 7, 5, 167, 0, 4, 3, 181, 0, 78, 177, 42]
abbrev dktX2_goes_5 : List UInt8 := dkwX2_goes_5 ++ dktX2_goes_6
def dkwX2_goes_4 : List UInt8 := [42, 180, 0, 72, 182, 0, 81, 153, 0, 16, 42, 89, 180, 0, 72, 4, 96, 181, 0, 72, 167, 255, 235, 42]
abbrev dktX2_goes_4 : List UInt8 := dkwX2_goes_4 ++ dktX2_goes_5
def dkwX2_goes_3 : List UInt8 := [181, 0, 78, 42, 180, 0, 78, 4, 160, 0, 4, 177, 42, 42, 180, 0, 72, 182, 0, 81, 153, 0, 51, 42]
abbrev dktX2_goes_3 : List UInt8 := dkwX2_goes_3 ++ dktX2_goes_4
def dkwX2_goes_2 : List UInt8 := [180, 0, 72, 181, 0, 75, 42, 42, 180, 0, 72, 42, 180, 0, 65, 160, 0, 7, 4, 167, 0, 4, 3]
abbrev dktX2_goes_2 : List UInt8 := dkwX2_goes_2 ++ dktX2_goes_3
def dkwX2_goes_1 : List UInt8 := [180, 0, 72, 51, 16, 32, 160, 0, 16, 42, 89, 180, 0, 72, 4, 96, 181, 0, 72, 167, 255, 221, 42, 42]
abbrev dktX2_goes_1 : List UInt8 := dkwX2_goes_1 ++ dktX2_goes_2
def dkwX2_goes_0 : List UInt8 := [42, 180, 0, 62, 158, 0, 4, 177, 42, 180, 0, 72, 42, 180, 0, 65, 162, 0, 30, 42, 180, 0, 26, 42]
abbrev dktX2_goes_0 : List UInt8 := dkwX2_goes_0 ++ dktX2_goes_1
theorem dksX2_goes_0 : cX2_goes.data.toList.drop 0 = dktX2_goes_0 := by decide +kernel
theorem dksX2_goes_1 : cX2_goes.data.toList.drop 24 = dktX2_goes_1 := dk_seg dksX2_goes_0 24 rfl rfl
theorem dksX2_goes_2 : cX2_goes.data.toList.drop 48 = dktX2_goes_2 := dk_seg dksX2_goes_1 24 rfl rfl
theorem dksX2_goes_3 : cX2_goes.data.toList.drop 71 = dktX2_goes_3 := dk_seg dksX2_goes_2 23 rfl rfl
theorem dksX2_goes_4 : cX2_goes.data.toList.drop 95 = dktX2_goes_4 := dk_seg dksX2_goes_3 24 rfl rfl
theorem dksX2_goes_5 : cX2_goes.data.toList.drop 119 = dktX2_goes_5 := dk_seg dksX2_goes_4 24 rfl rfl
theorem dksX2_goes_6 : cX2_goes.data.toList.drop 143 = dktX2_goes_6 := dk_seg dksX2_goes_5 24 rfl rfl
theorem dksX2_goes_7 : cX2_goes.data.toList.drop 166 = dktX2_goes_7 := dk_seg dksX2_goes_6 23 rfl rfl
theorem dksX2_goes_8 : cX2_goes.data.toList.drop 190 = dktX2_goes_8 := dk_seg dksX2_goes_7 24 rfl rfl
theorem dksX2_goes_9 : cX2_goes.data.toList.drop 213 = dktX2_goes_9 := dk_seg dksX2_goes_8 23 rfl rfl
theorem dksX2_goes_10 : cX2_goes.data.toList.drop 237 = dktX2_goes_10 := dk_seg dksX2_goes_9 24 rfl rfl
theorem dksX2_goes_11 : cX2_goes.data.toList.drop 261 = dktX2_goes_11 := dk_seg dksX2_goes_10 24 rfl rfl
theorem dX2_goes_0 : decode cX2_goes 0 = .ok (.aload_n 0, 1) := dk_42 (dk_at dksX2_goes_0 0 rfl rfl)
theorem dX2_goes_1 : decode cX2_goes 1 = .ok (.getfield 62, 3) := dk_180 0 62 (dk_at dksX2_goes_0 1 rfl rfl)
theorem dX2_goes_4 : decode cX2_goes 4 = .ok (.ifCond .le 4, 3) := dk_158 0 4 (dk_at dksX2_goes_0 4 rfl rfl)
theorem dX2_goes_7 : decode cX2_goes 7 = .ok (.return_, 1) := dk_177 (dk_at dksX2_goes_0 7 rfl rfl)
theorem dX2_goes_8 : decode cX2_goes 8 = .ok (.aload_n 0, 1) := dk_42 (dk_at dksX2_goes_0 8 rfl rfl)
theorem dX2_goes_9 : decode cX2_goes 9 = .ok (.getfield 72, 3) := dk_180 0 72 (dk_at dksX2_goes_0 9 rfl rfl)
theorem dX2_goes_12 : decode cX2_goes 12 = .ok (.aload_n 0, 1) := dk_42 (dk_at dksX2_goes_0 12 rfl rfl)
theorem dX2_goes_13 : decode cX2_goes 13 = .ok (.getfield 65, 3) := dk_180 0 65 (dk_at dksX2_goes_0 13 rfl rfl)
theorem dX2_goes_16 : decode cX2_goes 16 = .ok (.if_icmp .ge 30, 3) := dk_162 0 30 (dk_at dksX2_goes_0 16 rfl rfl)
theorem dX2_goes_19 : decode cX2_goes 19 = .ok (.aload_n 0, 1) := dk_42 (dk_at dksX2_goes_0 19 rfl rfl)
theorem dX2_goes_20 : decode cX2_goes 20 = .ok (.getfield 26, 3) := dk_180 0 26 (dk_at dksX2_goes_0 20 rfl rfl)
theorem dX2_goes_23 : decode cX2_goes 23 = .ok (.aload_n 0, 1) := dk_42 (dk_at dksX2_goes_0 23 rfl rfl)
theorem dX2_goes_24 : decode cX2_goes 24 = .ok (.getfield 72, 3) := dk_180 0 72 (dk_at dksX2_goes_1 0 rfl rfl)
theorem dX2_goes_27 : decode cX2_goes 27 = .ok (.baload, 1) := dk_51 (dk_at dksX2_goes_1 3 rfl rfl)
theorem dX2_goes_28 : decode cX2_goes 28 = .ok (.bipush 32, 2) := dk_16 32 (dk_at dksX2_goes_1 4 rfl rfl)
theorem dX2_goes_30 : decode cX2_goes 30 = .ok (.if_icmp .ne 16, 3) := dk_160 0 16 (dk_at dksX2_goes_1 6 rfl rfl)
theorem dX2_goes_33 : decode cX2_goes 33 = .ok (.aload_n 0, 1) := dk_42 (dk_at dksX2_goes_1 9 rfl rfl)
theorem dX2_goes_34 : decode cX2_goes 34 = .ok (.dup, 1) := dk_89 (dk_at dksX2_goes_1 10 rfl rfl)
theorem dX2_goes_35 : decode cX2_goes 35 = .ok (.getfield 72, 3) := dk_180 0 72 (dk_at dksX2_goes_1 11 rfl rfl)
theorem dX2_goes_38 : decode cX2_goes 38 = .ok (.iconst 1, 1) := dk_4 (dk_at dksX2_goes_1 14 rfl rfl)
theorem dX2_goes_39 : decode cX2_goes 39 = .ok (.iadd, 1) := dk_96 (dk_at dksX2_goes_1 15 rfl rfl)
theorem dX2_goes_40 : decode cX2_goes 40 = .ok (.putfield 72, 3) := dk_181 0 72 (dk_at dksX2_goes_1 16 rfl rfl)
theorem dX2_goes_43 : decode cX2_goes 43 = .ok (.goto (-35), 3) := dk_167 255 221 (dk_at dksX2_goes_1 19 rfl rfl)
theorem dX2_goes_46 : decode cX2_goes 46 = .ok (.aload_n 0, 1) := dk_42 (dk_at dksX2_goes_1 22 rfl rfl)
theorem dX2_goes_47 : decode cX2_goes 47 = .ok (.aload_n 0, 1) := dk_42 (dk_at dksX2_goes_1 23 rfl rfl)
theorem dX2_goes_48 : decode cX2_goes 48 = .ok (.getfield 72, 3) := dk_180 0 72 (dk_at dksX2_goes_2 0 rfl rfl)
theorem dX2_goes_51 : decode cX2_goes 51 = .ok (.putfield 75, 3) := dk_181 0 75 (dk_at dksX2_goes_2 3 rfl rfl)
theorem dX2_goes_54 : decode cX2_goes 54 = .ok (.aload_n 0, 1) := dk_42 (dk_at dksX2_goes_2 6 rfl rfl)
theorem dX2_goes_55 : decode cX2_goes 55 = .ok (.aload_n 0, 1) := dk_42 (dk_at dksX2_goes_2 7 rfl rfl)
theorem dX2_goes_56 : decode cX2_goes 56 = .ok (.getfield 72, 3) := dk_180 0 72 (dk_at dksX2_goes_2 8 rfl rfl)
theorem dX2_goes_59 : decode cX2_goes 59 = .ok (.aload_n 0, 1) := dk_42 (dk_at dksX2_goes_2 11 rfl rfl)
theorem dX2_goes_60 : decode cX2_goes 60 = .ok (.getfield 65, 3) := dk_180 0 65 (dk_at dksX2_goes_2 12 rfl rfl)
theorem dX2_goes_63 : decode cX2_goes 63 = .ok (.if_icmp .ne 7, 3) := dk_160 0 7 (dk_at dksX2_goes_2 15 rfl rfl)
theorem dX2_goes_66 : decode cX2_goes 66 = .ok (.iconst 1, 1) := dk_4 (dk_at dksX2_goes_2 18 rfl rfl)
theorem dX2_goes_67 : decode cX2_goes 67 = .ok (.goto 4, 3) := dk_167 0 4 (dk_at dksX2_goes_2 19 rfl rfl)
theorem dX2_goes_70 : decode cX2_goes 70 = .ok (.iconst 0, 1) := dk_3 (dk_at dksX2_goes_2 22 rfl rfl)
theorem dX2_goes_71 : decode cX2_goes 71 = .ok (.putfield 78, 3) := dk_181 0 78 (dk_at dksX2_goes_3 0 rfl rfl)
theorem dX2_goes_74 : decode cX2_goes 74 = .ok (.aload_n 0, 1) := dk_42 (dk_at dksX2_goes_3 3 rfl rfl)
theorem dX2_goes_75 : decode cX2_goes 75 = .ok (.getfield 78, 3) := dk_180 0 78 (dk_at dksX2_goes_3 4 rfl rfl)
theorem dX2_goes_78 : decode cX2_goes 78 = .ok (.iconst 1, 1) := dk_4 (dk_at dksX2_goes_3 7 rfl rfl)
theorem dX2_goes_79 : decode cX2_goes 79 = .ok (.if_icmp .ne 4, 3) := dk_160 0 4 (dk_at dksX2_goes_3 8 rfl rfl)
theorem dX2_goes_82 : decode cX2_goes 82 = .ok (.return_, 1) := dk_177 (dk_at dksX2_goes_3 11 rfl rfl)
theorem dX2_goes_83 : decode cX2_goes 83 = .ok (.aload_n 0, 1) := dk_42 (dk_at dksX2_goes_3 12 rfl rfl)
theorem dX2_goes_84 : decode cX2_goes 84 = .ok (.aload_n 0, 1) := dk_42 (dk_at dksX2_goes_3 13 rfl rfl)
theorem dX2_goes_85 : decode cX2_goes 85 = .ok (.getfield 72, 3) := dk_180 0 72 (dk_at dksX2_goes_3 14 rfl rfl)
theorem dX2_goes_88 : decode cX2_goes 88 = .ok (.invokevirtual 81, 3) := dk_182 0 81 (dk_at dksX2_goes_3 17 rfl rfl)
theorem dX2_goes_91 : decode cX2_goes 91 = .ok (.ifCond .eq 51, 3) := dk_153 0 51 (dk_at dksX2_goes_3 20 rfl rfl)
theorem dX2_goes_94 : decode cX2_goes 94 = .ok (.aload_n 0, 1) := dk_42 (dk_at dksX2_goes_3 23 rfl rfl)
theorem dX2_goes_95 : decode cX2_goes 95 = .ok (.aload_n 0, 1) := dk_42 (dk_at dksX2_goes_4 0 rfl rfl)
theorem dX2_goes_96 : decode cX2_goes 96 = .ok (.getfield 72, 3) := dk_180 0 72 (dk_at dksX2_goes_4 1 rfl rfl)
theorem dX2_goes_99 : decode cX2_goes 99 = .ok (.invokevirtual 81, 3) := dk_182 0 81 (dk_at dksX2_goes_4 4 rfl rfl)
theorem dX2_goes_102 : decode cX2_goes 102 = .ok (.ifCond .eq 16, 3) := dk_153 0 16 (dk_at dksX2_goes_4 7 rfl rfl)
theorem dX2_goes_105 : decode cX2_goes 105 = .ok (.aload_n 0, 1) := dk_42 (dk_at dksX2_goes_4 10 rfl rfl)
theorem dX2_goes_106 : decode cX2_goes 106 = .ok (.dup, 1) := dk_89 (dk_at dksX2_goes_4 11 rfl rfl)
theorem dX2_goes_107 : decode cX2_goes 107 = .ok (.getfield 72, 3) := dk_180 0 72 (dk_at dksX2_goes_4 12 rfl rfl)
theorem dX2_goes_110 : decode cX2_goes 110 = .ok (.iconst 1, 1) := dk_4 (dk_at dksX2_goes_4 15 rfl rfl)
theorem dX2_goes_111 : decode cX2_goes 111 = .ok (.iadd, 1) := dk_96 (dk_at dksX2_goes_4 16 rfl rfl)
theorem dX2_goes_112 : decode cX2_goes 112 = .ok (.putfield 72, 3) := dk_181 0 72 (dk_at dksX2_goes_4 17 rfl rfl)
theorem dX2_goes_115 : decode cX2_goes 115 = .ok (.goto (-21), 3) := dk_167 255 235 (dk_at dksX2_goes_4 20 rfl rfl)
theorem dX2_goes_118 : decode cX2_goes 118 = .ok (.aload_n 0, 1) := dk_42 (dk_at dksX2_goes_4 23 rfl rfl)
theorem dX2_goes_119 : decode cX2_goes 119 = .ok (.aload_n 0, 1) := dk_42 (dk_at dksX2_goes_5 0 rfl rfl)
theorem dX2_goes_120 : decode cX2_goes 120 = .ok (.getfield 72, 3) := dk_180 0 72 (dk_at dksX2_goes_5 1 rfl rfl)
theorem dX2_goes_123 : decode cX2_goes 123 = .ok (.aload_n 0, 1) := dk_42 (dk_at dksX2_goes_5 4 rfl rfl)
theorem dX2_goes_124 : decode cX2_goes 124 = .ok (.getfield 75, 3) := dk_180 0 75 (dk_at dksX2_goes_5 5 rfl rfl)
theorem dX2_goes_127 : decode cX2_goes 127 = .ok (.isub, 1) := dk_100 (dk_at dksX2_goes_5 8 rfl rfl)
theorem dX2_goes_128 : decode cX2_goes 128 = .ok (.bipush 6, 2) := dk_16 6 (dk_at dksX2_goes_5 9 rfl rfl)
theorem dX2_goes_130 : decode cX2_goes 130 = .ok (.if_icmp .gt 7, 3) := dk_163 0 7 (dk_at dksX2_goes_5 11 rfl rfl)
theorem dX2_goes_133 : decode cX2_goes 133 = .ok (.iconst 2, 1) := dk_5 (dk_at dksX2_goes_5 14 rfl rfl)
theorem dX2_goes_134 : decode cX2_goes 134 = .ok (.goto 4, 3) := dk_167 0 4 (dk_at dksX2_goes_5 15 rfl rfl)
theorem dX2_goes_137 : decode cX2_goes 137 = .ok (.iconst 0, 1) := dk_3 (dk_at dksX2_goes_5 18 rfl rfl)
theorem dX2_goes_138 : decode cX2_goes 138 = .ok (.putfield 78, 3) := dk_181 0 78 (dk_at dksX2_goes_5 19 rfl rfl)
theorem dX2_goes_141 : decode cX2_goes 141 = .ok (.return_, 1) := dk_177 (dk_at dksX2_goes_5 22 rfl rfl)
theorem dX2_goes_142 : decode cX2_goes 142 = .ok (.aload_n 0, 1) := dk_42 (dk_at dksX2_goes_5 23 rfl rfl)
theorem dX2_goes_143 : decode cX2_goes 143 = .ok (.aload_n 0, 1) := dk_42 (dk_at dksX2_goes_6 0 rfl rfl)
theorem dX2_goes_144 : decode cX2_goes 144 = .ok (.getfield 72, 3) := dk_180 0 72 (dk_at dksX2_goes_6 1 rfl rfl)
theorem dX2_goes_147 : decode cX2_goes 147 = .ok (.invokevirtual 85, 3) := dk_182 0 85 (dk_at dksX2_goes_6 4 rfl rfl)
theorem dX2_goes_150 : decode cX2_goes 150 = .ok (.ifCond .eq 92, 3) := dk_153 0 92 (dk_at dksX2_goes_6 7 rfl rfl)
theorem dX2_goes_153 : decode cX2_goes 153 = .ok (.aload_n 0, 1) := dk_42 (dk_at dksX2_goes_6 10 rfl rfl)
theorem dX2_goes_154 : decode cX2_goes 154 = .ok (.iconst 0, 1) := dk_3 (dk_at dksX2_goes_6 11 rfl rfl)
theorem dX2_goes_155 : decode cX2_goes 155 = .ok (.putfield 88, 3) := dk_181 0 88 (dk_at dksX2_goes_6 12 rfl rfl)
theorem dX2_goes_158 : decode cX2_goes 158 = .ok (.aload_n 0, 1) := dk_42 (dk_at dksX2_goes_6 15 rfl rfl)
theorem dX2_goes_159 : decode cX2_goes 159 = .ok (.aload_n 0, 1) := dk_42 (dk_at dksX2_goes_6 16 rfl rfl)
theorem dX2_goes_160 : decode cX2_goes 160 = .ok (.getfield 72, 3) := dk_180 0 72 (dk_at dksX2_goes_6 17 rfl rfl)
theorem dX2_goes_163 : decode cX2_goes 163 = .ok (.invokevirtual 85, 3) := dk_182 0 85 (dk_at dksX2_goes_6 20 rfl rfl)
theorem dX2_goes_166 : decode cX2_goes 166 = .ok (.ifCond .eq 53, 3) := dk_153 0 53 (dk_at dksX2_goes_7 0 rfl rfl)
theorem dX2_goes_169 : decode cX2_goes 169 = .ok (.aload_n 0, 1) := dk_42 (dk_at dksX2_goes_7 3 rfl rfl)
theorem dX2_goes_170 : decode cX2_goes 170 = .ok (.getfield 72, 3) := dk_180 0 72 (dk_at dksX2_goes_7 4 rfl rfl)
theorem dX2_goes_173 : decode cX2_goes 173 = .ok (.aload_n 0, 1) := dk_42 (dk_at dksX2_goes_7 7 rfl rfl)
theorem dX2_goes_174 : decode cX2_goes 174 = .ok (.getfield 75, 3) := dk_180 0 75 (dk_at dksX2_goes_7 8 rfl rfl)
theorem dX2_goes_177 : decode cX2_goes 177 = .ok (.isub, 1) := dk_100 (dk_at dksX2_goes_7 11 rfl rfl)
theorem dX2_goes_178 : decode cX2_goes 178 = .ok (.iconst 2, 1) := dk_5 (dk_at dksX2_goes_7 12 rfl rfl)
theorem dX2_goes_179 : decode cX2_goes 179 = .ok (.if_icmp .ge 27, 3) := dk_162 0 27 (dk_at dksX2_goes_7 13 rfl rfl)
theorem dX2_goes_182 : decode cX2_goes 182 = .ok (.aload_n 0, 1) := dk_42 (dk_at dksX2_goes_7 16 rfl rfl)
theorem dX2_goes_183 : decode cX2_goes 183 = .ok (.bipush 10, 2) := dk_16 10 (dk_at dksX2_goes_7 17 rfl rfl)
theorem dX2_goes_185 : decode cX2_goes 185 = .ok (.aload_n 0, 1) := dk_42 (dk_at dksX2_goes_7 19 rfl rfl)
theorem dX2_goes_186 : decode cX2_goes 186 = .ok (.getfield 88, 3) := dk_180 0 88 (dk_at dksX2_goes_7 20 rfl rfl)
theorem dX2_goes_189 : decode cX2_goes 189 = .ok (.imul, 1) := dk_104 (dk_at dksX2_goes_7 23 rfl rfl)
theorem dX2_goes_190 : decode cX2_goes 190 = .ok (.aload_n 0, 1) := dk_42 (dk_at dksX2_goes_8 0 rfl rfl)
theorem dX2_goes_191 : decode cX2_goes 191 = .ok (.getfield 26, 3) := dk_180 0 26 (dk_at dksX2_goes_8 1 rfl rfl)
theorem dX2_goes_194 : decode cX2_goes 194 = .ok (.aload_n 0, 1) := dk_42 (dk_at dksX2_goes_8 4 rfl rfl)
theorem dX2_goes_195 : decode cX2_goes 195 = .ok (.getfield 72, 3) := dk_180 0 72 (dk_at dksX2_goes_8 5 rfl rfl)
theorem dX2_goes_198 : decode cX2_goes 198 = .ok (.baload, 1) := dk_51 (dk_at dksX2_goes_8 8 rfl rfl)
theorem dX2_goes_199 : decode cX2_goes 199 = .ok (.iadd, 1) := dk_96 (dk_at dksX2_goes_8 9 rfl rfl)
theorem dX2_goes_200 : decode cX2_goes 200 = .ok (.bipush 48, 2) := dk_16 48 (dk_at dksX2_goes_8 10 rfl rfl)
theorem dX2_goes_202 : decode cX2_goes 202 = .ok (.isub, 1) := dk_100 (dk_at dksX2_goes_8 12 rfl rfl)
theorem dX2_goes_203 : decode cX2_goes 203 = .ok (.putfield 88, 3) := dk_181 0 88 (dk_at dksX2_goes_8 13 rfl rfl)
theorem dX2_goes_206 : decode cX2_goes 206 = .ok (.aload_n 0, 1) := dk_42 (dk_at dksX2_goes_8 16 rfl rfl)
theorem dX2_goes_207 : decode cX2_goes 207 = .ok (.dup, 1) := dk_89 (dk_at dksX2_goes_8 17 rfl rfl)
theorem dX2_goes_208 : decode cX2_goes 208 = .ok (.getfield 72, 3) := dk_180 0 72 (dk_at dksX2_goes_8 18 rfl rfl)
theorem dX2_goes_211 : decode cX2_goes 211 = .ok (.iconst 1, 1) := dk_4 (dk_at dksX2_goes_8 21 rfl rfl)
theorem dX2_goes_212 : decode cX2_goes 212 = .ok (.iadd, 1) := dk_96 (dk_at dksX2_goes_8 22 rfl rfl)
theorem dX2_goes_213 : decode cX2_goes 213 = .ok (.putfield 72, 3) := dk_181 0 72 (dk_at dksX2_goes_9 0 rfl rfl)
theorem dX2_goes_216 : decode cX2_goes 216 = .ok (.goto (-58), 3) := dk_167 255 198 (dk_at dksX2_goes_9 3 rfl rfl)
theorem dX2_goes_219 : decode cX2_goes 219 = .ok (.aload_n 0, 1) := dk_42 (dk_at dksX2_goes_9 6 rfl rfl)
theorem dX2_goes_220 : decode cX2_goes 220 = .ok (.aload_n 0, 1) := dk_42 (dk_at dksX2_goes_9 7 rfl rfl)
theorem dX2_goes_221 : decode cX2_goes 221 = .ok (.getfield 72, 3) := dk_180 0 72 (dk_at dksX2_goes_9 8 rfl rfl)
theorem dX2_goes_224 : decode cX2_goes 224 = .ok (.aload_n 0, 1) := dk_42 (dk_at dksX2_goes_9 11 rfl rfl)
theorem dX2_goes_225 : decode cX2_goes 225 = .ok (.getfield 75, 3) := dk_180 0 75 (dk_at dksX2_goes_9 12 rfl rfl)
theorem dX2_goes_228 : decode cX2_goes 228 = .ok (.isub, 1) := dk_100 (dk_at dksX2_goes_9 15 rfl rfl)
theorem dX2_goes_229 : decode cX2_goes 229 = .ok (.iconst 2, 1) := dk_5 (dk_at dksX2_goes_9 16 rfl rfl)
theorem dX2_goes_230 : decode cX2_goes 230 = .ok (.if_icmp .gt 7, 3) := dk_163 0 7 (dk_at dksX2_goes_9 17 rfl rfl)
theorem dX2_goes_233 : decode cX2_goes 233 = .ok (.iconst 3, 1) := dk_6 (dk_at dksX2_goes_9 20 rfl rfl)
theorem dX2_goes_234 : decode cX2_goes 234 = .ok (.goto 4, 3) := dk_167 0 4 (dk_at dksX2_goes_9 21 rfl rfl)
theorem dX2_goes_237 : decode cX2_goes 237 = .ok (.iconst 0, 1) := dk_3 (dk_at dksX2_goes_10 0 rfl rfl)
theorem dX2_goes_238 : decode cX2_goes 238 = .ok (.putfield 78, 3) := dk_181 0 78 (dk_at dksX2_goes_10 1 rfl rfl)
theorem dX2_goes_241 : decode cX2_goes 241 = .ok (.return_, 1) := dk_177 (dk_at dksX2_goes_10 4 rfl rfl)
theorem dX2_goes_242 : decode cX2_goes 242 = .ok (.aload_n 0, 1) := dk_42 (dk_at dksX2_goes_10 5 rfl rfl)
theorem dX2_goes_243 : decode cX2_goes 243 = .ok (.aload_n 0, 1) := dk_42 (dk_at dksX2_goes_10 6 rfl rfl)
theorem dX2_goes_244 : decode cX2_goes 244 = .ok (.getfield 26, 3) := dk_180 0 26 (dk_at dksX2_goes_10 7 rfl rfl)
theorem dX2_goes_247 : decode cX2_goes 247 = .ok (.aload_n 0, 1) := dk_42 (dk_at dksX2_goes_10 10 rfl rfl)
theorem dX2_goes_248 : decode cX2_goes 248 = .ok (.getfield 72, 3) := dk_180 0 72 (dk_at dksX2_goes_10 11 rfl rfl)
theorem dX2_goes_251 : decode cX2_goes 251 = .ok (.baload, 1) := dk_51 (dk_at dksX2_goes_10 14 rfl rfl)
theorem dX2_goes_252 : decode cX2_goes 252 = .ok (.bipush 59, 2) := dk_16 59 (dk_at dksX2_goes_10 15 rfl rfl)
theorem dX2_goes_254 : decode cX2_goes 254 = .ok (.if_icmp .ne 7, 3) := dk_160 0 7 (dk_at dksX2_goes_10 17 rfl rfl)
theorem dX2_goes_257 : decode cX2_goes 257 = .ok (.iconst 4, 1) := dk_7 (dk_at dksX2_goes_10 20 rfl rfl)
theorem dX2_goes_258 : decode cX2_goes 258 = .ok (.goto 4, 3) := dk_167 0 4 (dk_at dksX2_goes_10 21 rfl rfl)
theorem dX2_goes_261 : decode cX2_goes 261 = .ok (.iconst 0, 1) := dk_3 (dk_at dksX2_goes_11 0 rfl rfl)
theorem dX2_goes_262 : decode cX2_goes 262 = .ok (.putfield 78, 3) := dk_181 0 78 (dk_at dksX2_goes_11 1 rfl rfl)
theorem dX2_goes_265 : decode cX2_goes 265 = .ok (.aload_n 0, 1) := dk_42 (dk_at dksX2_goes_11 4 rfl rfl)
theorem dX2_goes_266 : decode cX2_goes 266 = .ok (.dup, 1) := dk_89 (dk_at dksX2_goes_11 5 rfl rfl)
theorem dX2_goes_267 : decode cX2_goes 267 = .ok (.getfield 72, 3) := dk_180 0 72 (dk_at dksX2_goes_11 6 rfl rfl)
theorem dX2_goes_270 : decode cX2_goes 270 = .ok (.iconst 1, 1) := dk_4 (dk_at dksX2_goes_11 9 rfl rfl)
theorem dX2_goes_271 : decode cX2_goes 271 = .ok (.iadd, 1) := dk_96 (dk_at dksX2_goes_11 10 rfl rfl)
theorem dX2_goes_272 : decode cX2_goes 272 = .ok (.putfield 72, 3) := dk_181 0 72 (dk_at dksX2_goes_11 11 rfl rfl)
theorem dX2_goes_275 : decode cX2_goes 275 = .ok (.return_, 1) := dk_177 (dk_at dksX2_goes_11 14 rfl rfl)
abbrev cX2_isLetter : ByteArray := prog_20_method_17_code
def yX2_isLetter : MethodName := ⟨RX2, "isLetter", "(I)Z"⟩
def dkwX2_isLetter_1 : List UInt8 := [4, 167, 0, 4, 3, 172]
abbrev dktX2_isLetter_1 : List UInt8 := dkwX2_isLetter_1 ++ []
def dkwX2_isLetter_0 : List UInt8 := [27, 42, 180, 0, 65, 162, 0, 23, 42, 180, 0, 26, 27, 51, 16, 97, 16, 122, 184, 0, 68, 153, 0, 7]
abbrev dktX2_isLetter_0 : List UInt8 := dkwX2_isLetter_0 ++ dktX2_isLetter_1
theorem dksX2_isLetter_0 : cX2_isLetter.data.toList.drop 0 = dktX2_isLetter_0 := by decide +kernel
theorem dksX2_isLetter_1 : cX2_isLetter.data.toList.drop 24 = dktX2_isLetter_1 := dk_seg dksX2_isLetter_0 24 rfl rfl
theorem dX2_isLetter_0 : decode cX2_isLetter 0 = .ok (.iload_n 1, 1) := dk_27 (dk_at dksX2_isLetter_0 0 rfl rfl)
theorem dX2_isLetter_1 : decode cX2_isLetter 1 = .ok (.aload_n 0, 1) := dk_42 (dk_at dksX2_isLetter_0 1 rfl rfl)
theorem dX2_isLetter_2 : decode cX2_isLetter 2 = .ok (.getfield 65, 3) := dk_180 0 65 (dk_at dksX2_isLetter_0 2 rfl rfl)
theorem dX2_isLetter_5 : decode cX2_isLetter 5 = .ok (.if_icmp .ge 23, 3) := dk_162 0 23 (dk_at dksX2_isLetter_0 5 rfl rfl)
theorem dX2_isLetter_8 : decode cX2_isLetter 8 = .ok (.aload_n 0, 1) := dk_42 (dk_at dksX2_isLetter_0 8 rfl rfl)
theorem dX2_isLetter_9 : decode cX2_isLetter 9 = .ok (.getfield 26, 3) := dk_180 0 26 (dk_at dksX2_isLetter_0 9 rfl rfl)
theorem dX2_isLetter_12 : decode cX2_isLetter 12 = .ok (.iload_n 1, 1) := dk_27 (dk_at dksX2_isLetter_0 12 rfl rfl)
theorem dX2_isLetter_13 : decode cX2_isLetter 13 = .ok (.baload, 1) := dk_51 (dk_at dksX2_isLetter_0 13 rfl rfl)
theorem dX2_isLetter_14 : decode cX2_isLetter 14 = .ok (.bipush 97, 2) := dk_16 97 (dk_at dksX2_isLetter_0 14 rfl rfl)
theorem dX2_isLetter_16 : decode cX2_isLetter 16 = .ok (.bipush 122, 2) := dk_16 122 (dk_at dksX2_isLetter_0 16 rfl rfl)
theorem dX2_isLetter_18 : decode cX2_isLetter 18 = .ok (.invokestatic 68, 3) := dk_184 0 68 (dk_at dksX2_isLetter_0 18 rfl rfl)
theorem dX2_isLetter_21 : decode cX2_isLetter 21 = .ok (.ifCond .eq 7, 3) := dk_153 0 7 (dk_at dksX2_isLetter_0 21 rfl rfl)
theorem dX2_isLetter_24 : decode cX2_isLetter 24 = .ok (.iconst 1, 1) := dk_4 (dk_at dksX2_isLetter_1 0 rfl rfl)
theorem dX2_isLetter_25 : decode cX2_isLetter 25 = .ok (.goto 4, 3) := dk_167 0 4 (dk_at dksX2_isLetter_1 1 rfl rfl)
theorem dX2_isLetter_28 : decode cX2_isLetter 28 = .ok (.iconst 0, 1) := dk_3 (dk_at dksX2_isLetter_1 4 rfl rfl)
theorem dX2_isLetter_29 : decode cX2_isLetter 29 = .ok (.ireturn, 1) := dk_172 (dk_at dksX2_isLetter_1 5 rfl rfl)
abbrev cX2_isDigit : ByteArray := prog_20_method_18_code
def yX2_isDigit : MethodName := ⟨RX2, "isDigit", "(I)Z"⟩
def dkwX2_isDigit_1 : List UInt8 := [4, 167, 0, 4, 3, 172]
abbrev dktX2_isDigit_1 : List UInt8 := dkwX2_isDigit_1 ++ []
def dkwX2_isDigit_0 : List UInt8 := [27, 42, 180, 0, 65, 162, 0, 23, 42, 180, 0, 26, 27, 51, 16, 48, 16, 57, 184, 0, 68, 153, 0, 7]
abbrev dktX2_isDigit_0 : List UInt8 := dkwX2_isDigit_0 ++ dktX2_isDigit_1
theorem dksX2_isDigit_0 : cX2_isDigit.data.toList.drop 0 = dktX2_isDigit_0 := by decide +kernel
theorem dksX2_isDigit_1 : cX2_isDigit.data.toList.drop 24 = dktX2_isDigit_1 := dk_seg dksX2_isDigit_0 24 rfl rfl
theorem dX2_isDigit_0 : decode cX2_isDigit 0 = .ok (.iload_n 1, 1) := dk_27 (dk_at dksX2_isDigit_0 0 rfl rfl)
theorem dX2_isDigit_1 : decode cX2_isDigit 1 = .ok (.aload_n 0, 1) := dk_42 (dk_at dksX2_isDigit_0 1 rfl rfl)
theorem dX2_isDigit_2 : decode cX2_isDigit 2 = .ok (.getfield 65, 3) := dk_180 0 65 (dk_at dksX2_isDigit_0 2 rfl rfl)
theorem dX2_isDigit_5 : decode cX2_isDigit 5 = .ok (.if_icmp .ge 23, 3) := dk_162 0 23 (dk_at dksX2_isDigit_0 5 rfl rfl)
theorem dX2_isDigit_8 : decode cX2_isDigit 8 = .ok (.aload_n 0, 1) := dk_42 (dk_at dksX2_isDigit_0 8 rfl rfl)
theorem dX2_isDigit_9 : decode cX2_isDigit 9 = .ok (.getfield 26, 3) := dk_180 0 26 (dk_at dksX2_isDigit_0 9 rfl rfl)
theorem dX2_isDigit_12 : decode cX2_isDigit 12 = .ok (.iload_n 1, 1) := dk_27 (dk_at dksX2_isDigit_0 12 rfl rfl)
theorem dX2_isDigit_13 : decode cX2_isDigit 13 = .ok (.baload, 1) := dk_51 (dk_at dksX2_isDigit_0 13 rfl rfl)
theorem dX2_isDigit_14 : decode cX2_isDigit 14 = .ok (.bipush 48, 2) := dk_16 48 (dk_at dksX2_isDigit_0 14 rfl rfl)
theorem dX2_isDigit_16 : decode cX2_isDigit 16 = .ok (.bipush 57, 2) := dk_16 57 (dk_at dksX2_isDigit_0 16 rfl rfl)
theorem dX2_isDigit_18 : decode cX2_isDigit 18 = .ok (.invokestatic 68, 3) := dk_184 0 68 (dk_at dksX2_isDigit_0 18 rfl rfl)
theorem dX2_isDigit_21 : decode cX2_isDigit 21 = .ok (.ifCond .eq 7, 3) := dk_153 0 7 (dk_at dksX2_isDigit_0 21 rfl rfl)
theorem dX2_isDigit_24 : decode cX2_isDigit 24 = .ok (.iconst 1, 1) := dk_4 (dk_at dksX2_isDigit_1 0 rfl rfl)
theorem dX2_isDigit_25 : decode cX2_isDigit 25 = .ok (.goto 4, 3) := dk_167 0 4 (dk_at dksX2_isDigit_1 1 rfl rfl)
theorem dX2_isDigit_28 : decode cX2_isDigit 28 = .ok (.iconst 0, 1) := dk_3 (dk_at dksX2_isDigit_1 4 rfl rfl)
theorem dX2_isDigit_29 : decode cX2_isDigit 29 = .ok (.ireturn, 1) := dk_172 (dk_at dksX2_isDigit_1 5 rfl rfl)
abbrev cX2_isWord : ByteArray := prog_20_method_22_code
def yX2_isWord : MethodName := ⟨RX2, "isWord", "(Ljava/lang/String;)Z"⟩
def dkwX2_isWord_2 : List UInt8 := [28, 182, 0, 100, 159, 0, 5, 3, 172, 132, 2, 1, 167, 255, 224, 4, 172]
abbrev dktX2_isWord_2 : List UInt8 := dkwX2_isWord_2 ++ []
def dkwX2_isWord_1 : List UInt8 := [3, 172, 3, 61, 28, 43, 182, 0, 94, 162, 0, 30, 42, 180, 0, 26, 42, 180, 0, 75, 28, 96, 51, 43]
abbrev dktX2_isWord_1 : List UInt8 := dkwX2_isWord_1 ++ dktX2_isWord_2
def dkwX2_isWord_0 : List UInt8 := [42, 5, 182, 0, 91, 153, 0, 19, 42, 180, 0, 72, 42, 180, 0, 75, 100, 43, 182, 0, 94, 159, 0, 5]
abbrev dktX2_isWord_0 : List UInt8 := dkwX2_isWord_0 ++ dktX2_isWord_1
theorem dksX2_isWord_0 : cX2_isWord.data.toList.drop 0 = dktX2_isWord_0 := by decide +kernel
theorem dksX2_isWord_1 : cX2_isWord.data.toList.drop 24 = dktX2_isWord_1 := dk_seg dksX2_isWord_0 24 rfl rfl
theorem dksX2_isWord_2 : cX2_isWord.data.toList.drop 48 = dktX2_isWord_2 := dk_seg dksX2_isWord_1 24 rfl rfl
theorem dX2_isWord_0 : decode cX2_isWord 0 = .ok (.aload_n 0, 1) := dk_42 (dk_at dksX2_isWord_0 0 rfl rfl)
theorem dX2_isWord_1 : decode cX2_isWord 1 = .ok (.iconst 2, 1) := dk_5 (dk_at dksX2_isWord_0 1 rfl rfl)
theorem dX2_isWord_2 : decode cX2_isWord 2 = .ok (.invokevirtual 91, 3) := dk_182 0 91 (dk_at dksX2_isWord_0 2 rfl rfl)
theorem dX2_isWord_5 : decode cX2_isWord 5 = .ok (.ifCond .eq 19, 3) := dk_153 0 19 (dk_at dksX2_isWord_0 5 rfl rfl)
theorem dX2_isWord_8 : decode cX2_isWord 8 = .ok (.aload_n 0, 1) := dk_42 (dk_at dksX2_isWord_0 8 rfl rfl)
theorem dX2_isWord_9 : decode cX2_isWord 9 = .ok (.getfield 72, 3) := dk_180 0 72 (dk_at dksX2_isWord_0 9 rfl rfl)
theorem dX2_isWord_12 : decode cX2_isWord 12 = .ok (.aload_n 0, 1) := dk_42 (dk_at dksX2_isWord_0 12 rfl rfl)
theorem dX2_isWord_13 : decode cX2_isWord 13 = .ok (.getfield 75, 3) := dk_180 0 75 (dk_at dksX2_isWord_0 13 rfl rfl)
theorem dX2_isWord_16 : decode cX2_isWord 16 = .ok (.isub, 1) := dk_100 (dk_at dksX2_isWord_0 16 rfl rfl)
theorem dX2_isWord_17 : decode cX2_isWord 17 = .ok (.aload_n 1, 1) := dk_43 (dk_at dksX2_isWord_0 17 rfl rfl)
theorem dX2_isWord_18 : decode cX2_isWord 18 = .ok (.invokevirtual 94, 3) := dk_182 0 94 (dk_at dksX2_isWord_0 18 rfl rfl)
theorem dX2_isWord_21 : decode cX2_isWord 21 = .ok (.if_icmp .eq 5, 3) := dk_159 0 5 (dk_at dksX2_isWord_0 21 rfl rfl)
theorem dX2_isWord_24 : decode cX2_isWord 24 = .ok (.iconst 0, 1) := dk_3 (dk_at dksX2_isWord_1 0 rfl rfl)
theorem dX2_isWord_25 : decode cX2_isWord 25 = .ok (.ireturn, 1) := dk_172 (dk_at dksX2_isWord_1 1 rfl rfl)
theorem dX2_isWord_26 : decode cX2_isWord 26 = .ok (.iconst 0, 1) := dk_3 (dk_at dksX2_isWord_1 2 rfl rfl)
theorem dX2_isWord_27 : decode cX2_isWord 27 = .ok (.istore_n 2, 1) := dk_61 (dk_at dksX2_isWord_1 3 rfl rfl)
theorem dX2_isWord_28 : decode cX2_isWord 28 = .ok (.iload_n 2, 1) := dk_28 (dk_at dksX2_isWord_1 4 rfl rfl)
theorem dX2_isWord_29 : decode cX2_isWord 29 = .ok (.aload_n 1, 1) := dk_43 (dk_at dksX2_isWord_1 5 rfl rfl)
theorem dX2_isWord_30 : decode cX2_isWord 30 = .ok (.invokevirtual 94, 3) := dk_182 0 94 (dk_at dksX2_isWord_1 6 rfl rfl)
theorem dX2_isWord_33 : decode cX2_isWord 33 = .ok (.if_icmp .ge 30, 3) := dk_162 0 30 (dk_at dksX2_isWord_1 9 rfl rfl)
theorem dX2_isWord_36 : decode cX2_isWord 36 = .ok (.aload_n 0, 1) := dk_42 (dk_at dksX2_isWord_1 12 rfl rfl)
theorem dX2_isWord_37 : decode cX2_isWord 37 = .ok (.getfield 26, 3) := dk_180 0 26 (dk_at dksX2_isWord_1 13 rfl rfl)
theorem dX2_isWord_40 : decode cX2_isWord 40 = .ok (.aload_n 0, 1) := dk_42 (dk_at dksX2_isWord_1 16 rfl rfl)
theorem dX2_isWord_41 : decode cX2_isWord 41 = .ok (.getfield 75, 3) := dk_180 0 75 (dk_at dksX2_isWord_1 17 rfl rfl)
theorem dX2_isWord_44 : decode cX2_isWord 44 = .ok (.iload_n 2, 1) := dk_28 (dk_at dksX2_isWord_1 20 rfl rfl)
theorem dX2_isWord_45 : decode cX2_isWord 45 = .ok (.iadd, 1) := dk_96 (dk_at dksX2_isWord_1 21 rfl rfl)
theorem dX2_isWord_46 : decode cX2_isWord 46 = .ok (.baload, 1) := dk_51 (dk_at dksX2_isWord_1 22 rfl rfl)
theorem dX2_isWord_47 : decode cX2_isWord 47 = .ok (.aload_n 1, 1) := dk_43 (dk_at dksX2_isWord_1 23 rfl rfl)
theorem dX2_isWord_48 : decode cX2_isWord 48 = .ok (.iload_n 2, 1) := dk_28 (dk_at dksX2_isWord_2 0 rfl rfl)
theorem dX2_isWord_49 : decode cX2_isWord 49 = .ok (.invokevirtual 100, 3) := dk_182 0 100 (dk_at dksX2_isWord_2 1 rfl rfl)
theorem dX2_isWord_52 : decode cX2_isWord 52 = .ok (.if_icmp .eq 5, 3) := dk_159 0 5 (dk_at dksX2_isWord_2 4 rfl rfl)
theorem dX2_isWord_55 : decode cX2_isWord 55 = .ok (.iconst 0, 1) := dk_3 (dk_at dksX2_isWord_2 7 rfl rfl)
theorem dX2_isWord_56 : decode cX2_isWord 56 = .ok (.ireturn, 1) := dk_172 (dk_at dksX2_isWord_2 8 rfl rfl)
theorem dX2_isWord_57 : decode cX2_isWord 57 = .ok (.iinc 2 1, 3) := dk_132 2 1 (dk_at dksX2_isWord_2 9 rfl rfl)
theorem dX2_isWord_60 : decode cX2_isWord 60 = .ok (.goto (-32), 3) := dk_167 255 224 (dk_at dksX2_isWord_2 12 rfl rfl)
theorem dX2_isWord_63 : decode cX2_isWord 63 = .ok (.iconst 1, 1) := dk_4 (dk_at dksX2_isWord_2 15 rfl rfl)
theorem dX2_isWord_64 : decode cX2_isWord 64 = .ok (.ireturn, 1) := dk_172 (dk_at dksX2_isWord_2 16 rfl rfl)
abbrev cX2_is : ByteArray := prog_20_method_21_code
def yX2_is : MethodName := ⟨RX2, "is", "(I)Z"⟩
def dkwX2_is_0 : List UInt8 := [42, 180, 0, 62, 154, 0, 15, 42, 180, 0, 78, 27, 160, 0, 7, 4, 167, 0, 4, 3, 172]
abbrev dktX2_is_0 : List UInt8 := dkwX2_is_0 ++ []
theorem dksX2_is_0 : cX2_is.data.toList.drop 0 = dktX2_is_0 := by decide +kernel
theorem dX2_is_0 : decode cX2_is 0 = .ok (.aload_n 0, 1) := dk_42 (dk_at dksX2_is_0 0 rfl rfl)
theorem dX2_is_1 : decode cX2_is 1 = .ok (.getfield 62, 3) := dk_180 0 62 (dk_at dksX2_is_0 1 rfl rfl)
theorem dX2_is_4 : decode cX2_is 4 = .ok (.ifCond .ne 15, 3) := dk_154 0 15 (dk_at dksX2_is_0 4 rfl rfl)
theorem dX2_is_7 : decode cX2_is 7 = .ok (.aload_n 0, 1) := dk_42 (dk_at dksX2_is_0 7 rfl rfl)
theorem dX2_is_8 : decode cX2_is 8 = .ok (.getfield 78, 3) := dk_180 0 78 (dk_at dksX2_is_0 8 rfl rfl)
theorem dX2_is_11 : decode cX2_is 11 = .ok (.iload_n 1, 1) := dk_27 (dk_at dksX2_is_0 11 rfl rfl)
theorem dX2_is_12 : decode cX2_is 12 = .ok (.if_icmp .ne 7, 3) := dk_160 0 7 (dk_at dksX2_is_0 12 rfl rfl)
theorem dX2_is_15 : decode cX2_is 15 = .ok (.iconst 1, 1) := dk_4 (dk_at dksX2_is_0 15 rfl rfl)
theorem dX2_is_16 : decode cX2_is 16 = .ok (.goto 4, 3) := dk_167 0 4 (dk_at dksX2_is_0 16 rfl rfl)
theorem dX2_is_19 : decode cX2_is 19 = .ok (.iconst 0, 1) := dk_3 (dk_at dksX2_is_0 19 rfl rfl)
theorem dX2_is_20 : decode cX2_is 20 = .ok (.ireturn, 1) := dk_172 (dk_at dksX2_is_0 20 rfl rfl)
abbrev cX2_faults : ByteArray := prog_20_method_20_code
def yX2_faults : MethodName := ⟨RX2, "faults", "(I)V"⟩
def dkwX2_faults_0 : List UInt8 := [42, 180, 0, 62, 158, 0, 4, 177, 42, 27, 181, 0, 62, 42, 42, 180, 0, 75, 181, 0, 30, 177]
abbrev dktX2_faults_0 : List UInt8 := dkwX2_faults_0 ++ []
theorem dksX2_faults_0 : cX2_faults.data.toList.drop 0 = dktX2_faults_0 := by decide +kernel
theorem dX2_faults_0 : decode cX2_faults 0 = .ok (.aload_n 0, 1) := dk_42 (dk_at dksX2_faults_0 0 rfl rfl)
theorem dX2_faults_1 : decode cX2_faults 1 = .ok (.getfield 62, 3) := dk_180 0 62 (dk_at dksX2_faults_0 1 rfl rfl)
theorem dX2_faults_4 : decode cX2_faults 4 = .ok (.ifCond .le 4, 3) := dk_158 0 4 (dk_at dksX2_faults_0 4 rfl rfl)
theorem dX2_faults_7 : decode cX2_faults 7 = .ok (.return_, 1) := dk_177 (dk_at dksX2_faults_0 7 rfl rfl)
theorem dX2_faults_8 : decode cX2_faults 8 = .ok (.aload_n 0, 1) := dk_42 (dk_at dksX2_faults_0 8 rfl rfl)
theorem dX2_faults_9 : decode cX2_faults 9 = .ok (.iload_n 1, 1) := dk_27 (dk_at dksX2_faults_0 9 rfl rfl)
theorem dX2_faults_10 : decode cX2_faults 10 = .ok (.putfield 62, 3) := dk_181 0 62 (dk_at dksX2_faults_0 10 rfl rfl)
theorem dX2_faults_13 : decode cX2_faults 13 = .ok (.aload_n 0, 1) := dk_42 (dk_at dksX2_faults_0 13 rfl rfl)
theorem dX2_faults_14 : decode cX2_faults 14 = .ok (.aload_n 0, 1) := dk_42 (dk_at dksX2_faults_0 14 rfl rfl)
theorem dX2_faults_15 : decode cX2_faults 15 = .ok (.getfield 75, 3) := dk_180 0 75 (dk_at dksX2_faults_0 15 rfl rfl)
theorem dX2_faults_18 : decode cX2_faults 18 = .ok (.putfield 30, 3) := dk_181 0 30 (dk_at dksX2_faults_0 18 rfl rfl)
theorem dX2_faults_21 : decode cX2_faults 21 = .ok (.return_, 1) := dk_177 (dk_at dksX2_faults_0 21 rfl rfl)
abbrev cX2_number : ByteArray := prog_20_method_24_code
def yX2_number : MethodName := ⟨RX2, "number", "(II)I"⟩
def dkwX2_number_0 : List UInt8 := [42, 27, 28, 182, 0, 107, 62, 42, 182, 0, 111, 29, 172]
abbrev dktX2_number_0 : List UInt8 := dkwX2_number_0 ++ []
theorem dksX2_number_0 : cX2_number.data.toList.drop 0 = dktX2_number_0 := by decide +kernel
theorem dX2_number_0 : decode cX2_number 0 = .ok (.aload_n 0, 1) := dk_42 (dk_at dksX2_number_0 0 rfl rfl)
theorem dX2_number_1 : decode cX2_number 1 = .ok (.iload_n 1, 1) := dk_27 (dk_at dksX2_number_0 1 rfl rfl)
theorem dX2_number_2 : decode cX2_number 2 = .ok (.iload_n 2, 1) := dk_28 (dk_at dksX2_number_0 2 rfl rfl)
theorem dX2_number_3 : decode cX2_number 3 = .ok (.invokevirtual 107, 3) := dk_182 0 107 (dk_at dksX2_number_0 3 rfl rfl)
theorem dX2_number_6 : decode cX2_number 6 = .ok (.istore_n 3, 1) := dk_62 (dk_at dksX2_number_0 6 rfl rfl)
theorem dX2_number_7 : decode cX2_number 7 = .ok (.aload_n 0, 1) := dk_42 (dk_at dksX2_number_0 7 rfl rfl)
theorem dX2_number_8 : decode cX2_number 8 = .ok (.invokevirtual 111, 3) := dk_182 0 111 (dk_at dksX2_number_0 8 rfl rfl)
theorem dX2_number_11 : decode cX2_number 11 = .ok (.iload_n 3, 1) := dk_29 (dk_at dksX2_number_0 11 rfl rfl)
theorem dX2_number_12 : decode cX2_number 12 = .ok (.ireturn, 1) := dk_172 (dk_at dksX2_number_0 12 rfl rfl)
abbrev cX2_numberHere : ByteArray := prog_20_method_23_code
def yX2_numberHere : MethodName := ⟨RX2, "numberHere", "(II)I"⟩
def dkwX2_numberHere_2 : List UInt8 := [180, 0, 88, 172]
abbrev dktX2_numberHere_2 : List UInt8 := dkwX2_numberHere_2 ++ []
def dkwX2_numberHere_1 : List UInt8 := [184, 0, 68, 154, 0, 8, 42, 5, 182, 0, 104, 42, 180, 0, 62, 158, 0, 7, 27, 167, 0, 7, 42]
abbrev dktX2_numberHere_1 : List UInt8 := dkwX2_numberHere_1 ++ dktX2_numberHere_2
def dkwX2_numberHere_0 : List UInt8 := [42, 6, 182, 0, 91, 154, 0, 11, 42, 4, 182, 0, 104, 167, 0, 20, 42, 180, 0, 88, 27, 28]
abbrev dktX2_numberHere_0 : List UInt8 := dkwX2_numberHere_0 ++ dktX2_numberHere_1
theorem dksX2_numberHere_0 : cX2_numberHere.data.toList.drop 0 = dktX2_numberHere_0 := by decide +kernel
theorem dksX2_numberHere_1 : cX2_numberHere.data.toList.drop 22 = dktX2_numberHere_1 := dk_seg dksX2_numberHere_0 22 rfl rfl
theorem dksX2_numberHere_2 : cX2_numberHere.data.toList.drop 45 = dktX2_numberHere_2 := dk_seg dksX2_numberHere_1 23 rfl rfl
theorem dX2_numberHere_0 : decode cX2_numberHere 0 = .ok (.aload_n 0, 1) := dk_42 (dk_at dksX2_numberHere_0 0 rfl rfl)
theorem dX2_numberHere_1 : decode cX2_numberHere 1 = .ok (.iconst 3, 1) := dk_6 (dk_at dksX2_numberHere_0 1 rfl rfl)
theorem dX2_numberHere_2 : decode cX2_numberHere 2 = .ok (.invokevirtual 91, 3) := dk_182 0 91 (dk_at dksX2_numberHere_0 2 rfl rfl)
theorem dX2_numberHere_5 : decode cX2_numberHere 5 = .ok (.ifCond .ne 11, 3) := dk_154 0 11 (dk_at dksX2_numberHere_0 5 rfl rfl)
theorem dX2_numberHere_8 : decode cX2_numberHere 8 = .ok (.aload_n 0, 1) := dk_42 (dk_at dksX2_numberHere_0 8 rfl rfl)
theorem dX2_numberHere_9 : decode cX2_numberHere 9 = .ok (.iconst 1, 1) := dk_4 (dk_at dksX2_numberHere_0 9 rfl rfl)
theorem dX2_numberHere_10 : decode cX2_numberHere 10 = .ok (.invokevirtual 104, 3) := dk_182 0 104 (dk_at dksX2_numberHere_0 10 rfl rfl)
theorem dX2_numberHere_13 : decode cX2_numberHere 13 = .ok (.goto 20, 3) := dk_167 0 20 (dk_at dksX2_numberHere_0 13 rfl rfl)
theorem dX2_numberHere_16 : decode cX2_numberHere 16 = .ok (.aload_n 0, 1) := dk_42 (dk_at dksX2_numberHere_0 16 rfl rfl)
theorem dX2_numberHere_17 : decode cX2_numberHere 17 = .ok (.getfield 88, 3) := dk_180 0 88 (dk_at dksX2_numberHere_0 17 rfl rfl)
theorem dX2_numberHere_20 : decode cX2_numberHere 20 = .ok (.iload_n 1, 1) := dk_27 (dk_at dksX2_numberHere_0 20 rfl rfl)
theorem dX2_numberHere_21 : decode cX2_numberHere 21 = .ok (.iload_n 2, 1) := dk_28 (dk_at dksX2_numberHere_0 21 rfl rfl)
theorem dX2_numberHere_22 : decode cX2_numberHere 22 = .ok (.invokestatic 68, 3) := dk_184 0 68 (dk_at dksX2_numberHere_1 0 rfl rfl)
theorem dX2_numberHere_25 : decode cX2_numberHere 25 = .ok (.ifCond .ne 8, 3) := dk_154 0 8 (dk_at dksX2_numberHere_1 3 rfl rfl)
theorem dX2_numberHere_28 : decode cX2_numberHere 28 = .ok (.aload_n 0, 1) := dk_42 (dk_at dksX2_numberHere_1 6 rfl rfl)
theorem dX2_numberHere_29 : decode cX2_numberHere 29 = .ok (.iconst 2, 1) := dk_5 (dk_at dksX2_numberHere_1 7 rfl rfl)
theorem dX2_numberHere_30 : decode cX2_numberHere 30 = .ok (.invokevirtual 104, 3) := dk_182 0 104 (dk_at dksX2_numberHere_1 8 rfl rfl)
theorem dX2_numberHere_33 : decode cX2_numberHere 33 = .ok (.aload_n 0, 1) := dk_42 (dk_at dksX2_numberHere_1 11 rfl rfl)
theorem dX2_numberHere_34 : decode cX2_numberHere 34 = .ok (.getfield 62, 3) := dk_180 0 62 (dk_at dksX2_numberHere_1 12 rfl rfl)
theorem dX2_numberHere_37 : decode cX2_numberHere 37 = .ok (.ifCond .le 7, 3) := dk_158 0 7 (dk_at dksX2_numberHere_1 15 rfl rfl)
theorem dX2_numberHere_40 : decode cX2_numberHere 40 = .ok (.iload_n 1, 1) := dk_27 (dk_at dksX2_numberHere_1 18 rfl rfl)
theorem dX2_numberHere_41 : decode cX2_numberHere 41 = .ok (.goto 7, 3) := dk_167 0 7 (dk_at dksX2_numberHere_1 19 rfl rfl)
theorem dX2_numberHere_44 : decode cX2_numberHere 44 = .ok (.aload_n 0, 1) := dk_42 (dk_at dksX2_numberHere_1 22 rfl rfl)
theorem dX2_numberHere_45 : decode cX2_numberHere 45 = .ok (.getfield 88, 3) := dk_180 0 88 (dk_at dksX2_numberHere_2 0 rfl rfl)
theorem dX2_numberHere_48 : decode cX2_numberHere 48 = .ok (.ireturn, 1) := dk_172 (dk_at dksX2_numberHere_2 3 rfl rfl)
abbrev cX2_readsThing : ByteArray := prog_20_method_36_code
def yX2_readsThing : MethodName := ⟨RX2, "readsThing", "()V"⟩
def dkwX2_readsThing_2 : List UInt8 := [167, 0, 23, 42, 18, 177, 182, 0, 160, 153, 0, 10, 42, 182, 0, 179, 167, 0, 7, 42, 182, 0, 182, 177]
abbrev dktX2_readsThing_2 : List UInt8 := dkwX2_readsThing_2 ++ []
def dkwX2_readsThing_1 : List UInt8 := [153, 0, 10, 42, 182, 0, 169, 167, 0, 39, 42, 18, 172, 182, 0, 160, 153, 0, 10, 42, 182, 0, 174]
abbrev dktX2_readsThing_1 : List UInt8 := dkwX2_readsThing_1 ++ dktX2_readsThing_2
def dkwX2_readsThing_0 : List UInt8 := [42, 18, 158, 182, 0, 160, 153, 0, 10, 42, 182, 0, 164, 167, 0, 55, 42, 18, 167, 182, 0, 160]
abbrev dktX2_readsThing_0 : List UInt8 := dkwX2_readsThing_0 ++ dktX2_readsThing_1
theorem dksX2_readsThing_0 : cX2_readsThing.data.toList.drop 0 = dktX2_readsThing_0 := by decide +kernel
theorem dksX2_readsThing_1 : cX2_readsThing.data.toList.drop 22 = dktX2_readsThing_1 := dk_seg dksX2_readsThing_0 22 rfl rfl
theorem dksX2_readsThing_2 : cX2_readsThing.data.toList.drop 45 = dktX2_readsThing_2 := dk_seg dksX2_readsThing_1 23 rfl rfl
theorem dX2_readsThing_0 : decode cX2_readsThing 0 = .ok (.aload_n 0, 1) := dk_42 (dk_at dksX2_readsThing_0 0 rfl rfl)
theorem dX2_readsThing_1 : decode cX2_readsThing 1 = .ok (.ldc 158, 2) := dk_18 158 (dk_at dksX2_readsThing_0 1 rfl rfl)
theorem dX2_readsThing_3 : decode cX2_readsThing 3 = .ok (.invokevirtual 160, 3) := dk_182 0 160 (dk_at dksX2_readsThing_0 3 rfl rfl)
theorem dX2_readsThing_6 : decode cX2_readsThing 6 = .ok (.ifCond .eq 10, 3) := dk_153 0 10 (dk_at dksX2_readsThing_0 6 rfl rfl)
theorem dX2_readsThing_9 : decode cX2_readsThing 9 = .ok (.aload_n 0, 1) := dk_42 (dk_at dksX2_readsThing_0 9 rfl rfl)
theorem dX2_readsThing_10 : decode cX2_readsThing 10 = .ok (.invokevirtual 164, 3) := dk_182 0 164 (dk_at dksX2_readsThing_0 10 rfl rfl)
theorem dX2_readsThing_13 : decode cX2_readsThing 13 = .ok (.goto 55, 3) := dk_167 0 55 (dk_at dksX2_readsThing_0 13 rfl rfl)
theorem dX2_readsThing_16 : decode cX2_readsThing 16 = .ok (.aload_n 0, 1) := dk_42 (dk_at dksX2_readsThing_0 16 rfl rfl)
theorem dX2_readsThing_17 : decode cX2_readsThing 17 = .ok (.ldc 167, 2) := dk_18 167 (dk_at dksX2_readsThing_0 17 rfl rfl)
theorem dX2_readsThing_19 : decode cX2_readsThing 19 = .ok (.invokevirtual 160, 3) := dk_182 0 160 (dk_at dksX2_readsThing_0 19 rfl rfl)
theorem dX2_readsThing_22 : decode cX2_readsThing 22 = .ok (.ifCond .eq 10, 3) := dk_153 0 10 (dk_at dksX2_readsThing_1 0 rfl rfl)
theorem dX2_readsThing_25 : decode cX2_readsThing 25 = .ok (.aload_n 0, 1) := dk_42 (dk_at dksX2_readsThing_1 3 rfl rfl)
theorem dX2_readsThing_26 : decode cX2_readsThing 26 = .ok (.invokevirtual 169, 3) := dk_182 0 169 (dk_at dksX2_readsThing_1 4 rfl rfl)
theorem dX2_readsThing_29 : decode cX2_readsThing 29 = .ok (.goto 39, 3) := dk_167 0 39 (dk_at dksX2_readsThing_1 7 rfl rfl)
theorem dX2_readsThing_32 : decode cX2_readsThing 32 = .ok (.aload_n 0, 1) := dk_42 (dk_at dksX2_readsThing_1 10 rfl rfl)
theorem dX2_readsThing_33 : decode cX2_readsThing 33 = .ok (.ldc 172, 2) := dk_18 172 (dk_at dksX2_readsThing_1 11 rfl rfl)
theorem dX2_readsThing_35 : decode cX2_readsThing 35 = .ok (.invokevirtual 160, 3) := dk_182 0 160 (dk_at dksX2_readsThing_1 13 rfl rfl)
theorem dX2_readsThing_38 : decode cX2_readsThing 38 = .ok (.ifCond .eq 10, 3) := dk_153 0 10 (dk_at dksX2_readsThing_1 16 rfl rfl)
theorem dX2_readsThing_41 : decode cX2_readsThing 41 = .ok (.aload_n 0, 1) := dk_42 (dk_at dksX2_readsThing_1 19 rfl rfl)
theorem dX2_readsThing_42 : decode cX2_readsThing 42 = .ok (.invokevirtual 174, 3) := dk_182 0 174 (dk_at dksX2_readsThing_1 20 rfl rfl)
theorem dX2_readsThing_45 : decode cX2_readsThing 45 = .ok (.goto 23, 3) := dk_167 0 23 (dk_at dksX2_readsThing_2 0 rfl rfl)
theorem dX2_readsThing_48 : decode cX2_readsThing 48 = .ok (.aload_n 0, 1) := dk_42 (dk_at dksX2_readsThing_2 3 rfl rfl)
theorem dX2_readsThing_49 : decode cX2_readsThing 49 = .ok (.ldc 177, 2) := dk_18 177 (dk_at dksX2_readsThing_2 4 rfl rfl)
theorem dX2_readsThing_51 : decode cX2_readsThing 51 = .ok (.invokevirtual 160, 3) := dk_182 0 160 (dk_at dksX2_readsThing_2 6 rfl rfl)
theorem dX2_readsThing_54 : decode cX2_readsThing 54 = .ok (.ifCond .eq 10, 3) := dk_153 0 10 (dk_at dksX2_readsThing_2 9 rfl rfl)
theorem dX2_readsThing_57 : decode cX2_readsThing 57 = .ok (.aload_n 0, 1) := dk_42 (dk_at dksX2_readsThing_2 12 rfl rfl)
theorem dX2_readsThing_58 : decode cX2_readsThing 58 = .ok (.invokevirtual 179, 3) := dk_182 0 179 (dk_at dksX2_readsThing_2 13 rfl rfl)
theorem dX2_readsThing_61 : decode cX2_readsThing 61 = .ok (.goto 7, 3) := dk_167 0 7 (dk_at dksX2_readsThing_2 16 rfl rfl)
theorem dX2_readsThing_64 : decode cX2_readsThing 64 = .ok (.aload_n 0, 1) := dk_42 (dk_at dksX2_readsThing_2 19 rfl rfl)
theorem dX2_readsThing_65 : decode cX2_readsThing 65 = .ok (.invokevirtual 182, 3) := dk_182 0 182 (dk_at dksX2_readsThing_2 20 rfl rfl)
theorem dX2_readsThing_68 : decode cX2_readsThing 68 = .ok (.return_, 1) := dk_177 (dk_at dksX2_readsThing_2 23 rfl rfl)
abbrev cX2_readsColour : ByteArray := prog_20_method_26_code
def yX2_readsColour : MethodName := ⟨RX2, "readsColour", "()V"⟩
def dkwX2_readsColour_2 : List UInt8 := [96, 79, 177]
abbrev dktX2_readsColour_2 : List UInt8 := dkwX2_readsColour_2 ++ []
def dkwX2_readsColour_1 : List UInt8 := [180, 0, 9, 16, 12, 42, 180, 0, 9, 16, 6, 46, 96, 27, 79, 42, 180, 0, 9, 16, 6, 92, 46, 4]
abbrev dktX2_readsColour_1 : List UInt8 := dkwX2_readsColour_1 ++ dktX2_readsColour_2
def dkwX2_readsColour_0 : List UInt8 := [42, 16, 6, 16, 6, 182, 0, 114, 42, 3, 7, 182, 0, 118, 60, 42, 180, 0, 62, 158, 0, 4, 177, 42]
abbrev dktX2_readsColour_0 : List UInt8 := dkwX2_readsColour_0 ++ dktX2_readsColour_1
theorem dksX2_readsColour_0 : cX2_readsColour.data.toList.drop 0 = dktX2_readsColour_0 := by decide +kernel
theorem dksX2_readsColour_1 : cX2_readsColour.data.toList.drop 24 = dktX2_readsColour_1 := dk_seg dksX2_readsColour_0 24 rfl rfl
theorem dksX2_readsColour_2 : cX2_readsColour.data.toList.drop 48 = dktX2_readsColour_2 := dk_seg dksX2_readsColour_1 24 rfl rfl
theorem dX2_readsColour_0 : decode cX2_readsColour 0 = .ok (.aload_n 0, 1) := dk_42 (dk_at dksX2_readsColour_0 0 rfl rfl)
theorem dX2_readsColour_1 : decode cX2_readsColour 1 = .ok (.bipush 6, 2) := dk_16 6 (dk_at dksX2_readsColour_0 1 rfl rfl)
theorem dX2_readsColour_3 : decode cX2_readsColour 3 = .ok (.bipush 6, 2) := dk_16 6 (dk_at dksX2_readsColour_0 3 rfl rfl)
theorem dX2_readsColour_5 : decode cX2_readsColour 5 = .ok (.invokevirtual 114, 3) := dk_182 0 114 (dk_at dksX2_readsColour_0 5 rfl rfl)
theorem dX2_readsColour_8 : decode cX2_readsColour 8 = .ok (.aload_n 0, 1) := dk_42 (dk_at dksX2_readsColour_0 8 rfl rfl)
theorem dX2_readsColour_9 : decode cX2_readsColour 9 = .ok (.iconst 0, 1) := dk_3 (dk_at dksX2_readsColour_0 9 rfl rfl)
theorem dX2_readsColour_10 : decode cX2_readsColour 10 = .ok (.iconst 4, 1) := dk_7 (dk_at dksX2_readsColour_0 10 rfl rfl)
theorem dX2_readsColour_11 : decode cX2_readsColour 11 = .ok (.invokevirtual 118, 3) := dk_182 0 118 (dk_at dksX2_readsColour_0 11 rfl rfl)
theorem dX2_readsColour_14 : decode cX2_readsColour 14 = .ok (.istore_n 1, 1) := dk_60 (dk_at dksX2_readsColour_0 14 rfl rfl)
theorem dX2_readsColour_15 : decode cX2_readsColour 15 = .ok (.aload_n 0, 1) := dk_42 (dk_at dksX2_readsColour_0 15 rfl rfl)
theorem dX2_readsColour_16 : decode cX2_readsColour 16 = .ok (.getfield 62, 3) := dk_180 0 62 (dk_at dksX2_readsColour_0 16 rfl rfl)
theorem dX2_readsColour_19 : decode cX2_readsColour 19 = .ok (.ifCond .le 4, 3) := dk_158 0 4 (dk_at dksX2_readsColour_0 19 rfl rfl)
theorem dX2_readsColour_22 : decode cX2_readsColour 22 = .ok (.return_, 1) := dk_177 (dk_at dksX2_readsColour_0 22 rfl rfl)
theorem dX2_readsColour_23 : decode cX2_readsColour 23 = .ok (.aload_n 0, 1) := dk_42 (dk_at dksX2_readsColour_0 23 rfl rfl)
theorem dX2_readsColour_24 : decode cX2_readsColour 24 = .ok (.getfield 9, 3) := dk_180 0 9 (dk_at dksX2_readsColour_1 0 rfl rfl)
theorem dX2_readsColour_27 : decode cX2_readsColour 27 = .ok (.bipush 12, 2) := dk_16 12 (dk_at dksX2_readsColour_1 3 rfl rfl)
theorem dX2_readsColour_29 : decode cX2_readsColour 29 = .ok (.aload_n 0, 1) := dk_42 (dk_at dksX2_readsColour_1 5 rfl rfl)
theorem dX2_readsColour_30 : decode cX2_readsColour 30 = .ok (.getfield 9, 3) := dk_180 0 9 (dk_at dksX2_readsColour_1 6 rfl rfl)
theorem dX2_readsColour_33 : decode cX2_readsColour 33 = .ok (.bipush 6, 2) := dk_16 6 (dk_at dksX2_readsColour_1 9 rfl rfl)
theorem dX2_readsColour_35 : decode cX2_readsColour 35 = .ok (.iaload, 1) := dk_46 (dk_at dksX2_readsColour_1 11 rfl rfl)
theorem dX2_readsColour_36 : decode cX2_readsColour 36 = .ok (.iadd, 1) := dk_96 (dk_at dksX2_readsColour_1 12 rfl rfl)
theorem dX2_readsColour_37 : decode cX2_readsColour 37 = .ok (.iload_n 1, 1) := dk_27 (dk_at dksX2_readsColour_1 13 rfl rfl)
theorem dX2_readsColour_38 : decode cX2_readsColour 38 = .ok (.iastore, 1) := dk_79 (dk_at dksX2_readsColour_1 14 rfl rfl)
theorem dX2_readsColour_39 : decode cX2_readsColour 39 = .ok (.aload_n 0, 1) := dk_42 (dk_at dksX2_readsColour_1 15 rfl rfl)
theorem dX2_readsColour_40 : decode cX2_readsColour 40 = .ok (.getfield 9, 3) := dk_180 0 9 (dk_at dksX2_readsColour_1 16 rfl rfl)
theorem dX2_readsColour_43 : decode cX2_readsColour 43 = .ok (.bipush 6, 2) := dk_16 6 (dk_at dksX2_readsColour_1 19 rfl rfl)
theorem dX2_readsColour_45 : decode cX2_readsColour 45 = .ok (.dup2, 1) := dk_92 (dk_at dksX2_readsColour_1 21 rfl rfl)
theorem dX2_readsColour_46 : decode cX2_readsColour 46 = .ok (.iaload, 1) := dk_46 (dk_at dksX2_readsColour_1 22 rfl rfl)
theorem dX2_readsColour_47 : decode cX2_readsColour 47 = .ok (.iconst 1, 1) := dk_4 (dk_at dksX2_readsColour_1 23 rfl rfl)
theorem dX2_readsColour_48 : decode cX2_readsColour 48 = .ok (.iadd, 1) := dk_96 (dk_at dksX2_readsColour_2 0 rfl rfl)
theorem dX2_readsColour_49 : decode cX2_readsColour 49 = .ok (.iastore, 1) := dk_79 (dk_at dksX2_readsColour_2 1 rfl rfl)
theorem dX2_readsColour_50 : decode cX2_readsColour 50 = .ok (.return_, 1) := dk_177 (dk_at dksX2_readsColour_2 2 rfl rfl)
abbrev cX2_begins : ByteArray := prog_20_method_25_code
def yX2_begins : MethodName := ⟨RX2, "begins", "(II)V"⟩
def dkwX2_begins_0 : List UInt8 := [42, 180, 0, 9, 27, 46, 28, 160, 0, 8, 42, 7, 182, 0, 104, 42, 182, 0, 111, 177]
abbrev dktX2_begins_0 : List UInt8 := dkwX2_begins_0 ++ []
theorem dksX2_begins_0 : cX2_begins.data.toList.drop 0 = dktX2_begins_0 := by decide +kernel
theorem dX2_begins_0 : decode cX2_begins 0 = .ok (.aload_n 0, 1) := dk_42 (dk_at dksX2_begins_0 0 rfl rfl)
theorem dX2_begins_1 : decode cX2_begins 1 = .ok (.getfield 9, 3) := dk_180 0 9 (dk_at dksX2_begins_0 1 rfl rfl)
theorem dX2_begins_4 : decode cX2_begins 4 = .ok (.iload_n 1, 1) := dk_27 (dk_at dksX2_begins_0 4 rfl rfl)
theorem dX2_begins_5 : decode cX2_begins 5 = .ok (.iaload, 1) := dk_46 (dk_at dksX2_begins_0 5 rfl rfl)
theorem dX2_begins_6 : decode cX2_begins 6 = .ok (.iload_n 2, 1) := dk_28 (dk_at dksX2_begins_0 6 rfl rfl)
theorem dX2_begins_7 : decode cX2_begins 7 = .ok (.if_icmp .ne 8, 3) := dk_160 0 8 (dk_at dksX2_begins_0 7 rfl rfl)
theorem dX2_begins_10 : decode cX2_begins 10 = .ok (.aload_n 0, 1) := dk_42 (dk_at dksX2_begins_0 10 rfl rfl)
theorem dX2_begins_11 : decode cX2_begins 11 = .ok (.iconst 4, 1) := dk_7 (dk_at dksX2_begins_0 11 rfl rfl)
theorem dX2_begins_12 : decode cX2_begins 12 = .ok (.invokevirtual 104, 3) := dk_182 0 104 (dk_at dksX2_begins_0 12 rfl rfl)
theorem dX2_begins_15 : decode cX2_begins 15 = .ok (.aload_n 0, 1) := dk_42 (dk_at dksX2_begins_0 15 rfl rfl)
theorem dX2_begins_16 : decode cX2_begins 16 = .ok (.invokevirtual 111, 3) := dk_182 0 111 (dk_at dksX2_begins_0 16 rfl rfl)
theorem dX2_begins_19 : decode cX2_begins 19 = .ok (.return_, 1) := dk_177 (dk_at dksX2_begins_0 19 rfl rfl)
abbrev cX2_readsNation : ByteArray := prog_20_method_27_code
def yX2_readsNation : MethodName := ⟨RX2, "readsNation", "()V"⟩
def dkwX2_readsNation_3 : List UInt8 := [42, 180, 0, 9, 16, 7, 92, 46, 4, 96, 79, 177]
abbrev dktX2_readsNation_3 : List UInt8 := dkwX2_readsNation_3 ++ []
def dkwX2_readsNation_2 : List UInt8 := [42, 21, 4, 3, 27, 182, 0, 121, 42, 21, 4, 4, 28, 182, 0, 121, 42, 21, 4, 5, 29, 182, 0, 121]
abbrev dktX2_readsNation_2 : List UInt8 := dkwX2_readsNation_2 ++ dktX2_readsNation_3
def dkwX2_readsNation_1 : List UInt8 := [3, 16, 9, 182, 0, 118, 62, 42, 180, 0, 62, 158, 0, 4, 177, 42, 180, 0, 9, 16, 7, 46, 54, 4]
abbrev dktX2_readsNation_1 : List UInt8 := dkwX2_readsNation_1 ++ dktX2_readsNation_2
def dkwX2_readsNation_0 : List UInt8 := [42, 16, 7, 7, 182, 0, 114, 42, 3, 16, 99, 182, 0, 118, 60, 42, 4, 16, 99, 182, 0, 118, 61, 42]
abbrev dktX2_readsNation_0 : List UInt8 := dkwX2_readsNation_0 ++ dktX2_readsNation_1
theorem dksX2_readsNation_0 : cX2_readsNation.data.toList.drop 0 = dktX2_readsNation_0 := by decide +kernel
theorem dksX2_readsNation_1 : cX2_readsNation.data.toList.drop 24 = dktX2_readsNation_1 := dk_seg dksX2_readsNation_0 24 rfl rfl
theorem dksX2_readsNation_2 : cX2_readsNation.data.toList.drop 48 = dktX2_readsNation_2 := dk_seg dksX2_readsNation_1 24 rfl rfl
theorem dksX2_readsNation_3 : cX2_readsNation.data.toList.drop 72 = dktX2_readsNation_3 := dk_seg dksX2_readsNation_2 24 rfl rfl
theorem dX2_readsNation_0 : decode cX2_readsNation 0 = .ok (.aload_n 0, 1) := dk_42 (dk_at dksX2_readsNation_0 0 rfl rfl)
theorem dX2_readsNation_1 : decode cX2_readsNation 1 = .ok (.bipush 7, 2) := dk_16 7 (dk_at dksX2_readsNation_0 1 rfl rfl)
theorem dX2_readsNation_3 : decode cX2_readsNation 3 = .ok (.iconst 4, 1) := dk_7 (dk_at dksX2_readsNation_0 3 rfl rfl)
theorem dX2_readsNation_4 : decode cX2_readsNation 4 = .ok (.invokevirtual 114, 3) := dk_182 0 114 (dk_at dksX2_readsNation_0 4 rfl rfl)
theorem dX2_readsNation_7 : decode cX2_readsNation 7 = .ok (.aload_n 0, 1) := dk_42 (dk_at dksX2_readsNation_0 7 rfl rfl)
theorem dX2_readsNation_8 : decode cX2_readsNation 8 = .ok (.iconst 0, 1) := dk_3 (dk_at dksX2_readsNation_0 8 rfl rfl)
theorem dX2_readsNation_9 : decode cX2_readsNation 9 = .ok (.bipush 99, 2) := dk_16 99 (dk_at dksX2_readsNation_0 9 rfl rfl)
theorem dX2_readsNation_11 : decode cX2_readsNation 11 = .ok (.invokevirtual 118, 3) := dk_182 0 118 (dk_at dksX2_readsNation_0 11 rfl rfl)
theorem dX2_readsNation_14 : decode cX2_readsNation 14 = .ok (.istore_n 1, 1) := dk_60 (dk_at dksX2_readsNation_0 14 rfl rfl)
theorem dX2_readsNation_15 : decode cX2_readsNation 15 = .ok (.aload_n 0, 1) := dk_42 (dk_at dksX2_readsNation_0 15 rfl rfl)
theorem dX2_readsNation_16 : decode cX2_readsNation 16 = .ok (.iconst 1, 1) := dk_4 (dk_at dksX2_readsNation_0 16 rfl rfl)
theorem dX2_readsNation_17 : decode cX2_readsNation 17 = .ok (.bipush 99, 2) := dk_16 99 (dk_at dksX2_readsNation_0 17 rfl rfl)
theorem dX2_readsNation_19 : decode cX2_readsNation 19 = .ok (.invokevirtual 118, 3) := dk_182 0 118 (dk_at dksX2_readsNation_0 19 rfl rfl)
theorem dX2_readsNation_22 : decode cX2_readsNation 22 = .ok (.istore_n 2, 1) := dk_61 (dk_at dksX2_readsNation_0 22 rfl rfl)
theorem dX2_readsNation_23 : decode cX2_readsNation 23 = .ok (.aload_n 0, 1) := dk_42 (dk_at dksX2_readsNation_0 23 rfl rfl)
theorem dX2_readsNation_24 : decode cX2_readsNation 24 = .ok (.iconst 0, 1) := dk_3 (dk_at dksX2_readsNation_1 0 rfl rfl)
theorem dX2_readsNation_25 : decode cX2_readsNation 25 = .ok (.bipush 9, 2) := dk_16 9 (dk_at dksX2_readsNation_1 1 rfl rfl)
theorem dX2_readsNation_27 : decode cX2_readsNation 27 = .ok (.invokevirtual 118, 3) := dk_182 0 118 (dk_at dksX2_readsNation_1 3 rfl rfl)
theorem dX2_readsNation_30 : decode cX2_readsNation 30 = .ok (.istore_n 3, 1) := dk_62 (dk_at dksX2_readsNation_1 6 rfl rfl)
theorem dX2_readsNation_31 : decode cX2_readsNation 31 = .ok (.aload_n 0, 1) := dk_42 (dk_at dksX2_readsNation_1 7 rfl rfl)
theorem dX2_readsNation_32 : decode cX2_readsNation 32 = .ok (.getfield 62, 3) := dk_180 0 62 (dk_at dksX2_readsNation_1 8 rfl rfl)
theorem dX2_readsNation_35 : decode cX2_readsNation 35 = .ok (.ifCond .le 4, 3) := dk_158 0 4 (dk_at dksX2_readsNation_1 11 rfl rfl)
theorem dX2_readsNation_38 : decode cX2_readsNation 38 = .ok (.return_, 1) := dk_177 (dk_at dksX2_readsNation_1 14 rfl rfl)
theorem dX2_readsNation_39 : decode cX2_readsNation 39 = .ok (.aload_n 0, 1) := dk_42 (dk_at dksX2_readsNation_1 15 rfl rfl)
theorem dX2_readsNation_40 : decode cX2_readsNation 40 = .ok (.getfield 9, 3) := dk_180 0 9 (dk_at dksX2_readsNation_1 16 rfl rfl)
theorem dX2_readsNation_43 : decode cX2_readsNation 43 = .ok (.bipush 7, 2) := dk_16 7 (dk_at dksX2_readsNation_1 19 rfl rfl)
theorem dX2_readsNation_45 : decode cX2_readsNation 45 = .ok (.iaload, 1) := dk_46 (dk_at dksX2_readsNation_1 21 rfl rfl)
theorem dX2_readsNation_46 : decode cX2_readsNation 46 = .ok (.istore 4, 2) := dk_54 4 (dk_at dksX2_readsNation_1 22 rfl rfl)
theorem dX2_readsNation_48 : decode cX2_readsNation 48 = .ok (.aload_n 0, 1) := dk_42 (dk_at dksX2_readsNation_2 0 rfl rfl)
theorem dX2_readsNation_49 : decode cX2_readsNation 49 = .ok (.iload 4, 2) := dk_21 4 (dk_at dksX2_readsNation_2 1 rfl rfl)
theorem dX2_readsNation_51 : decode cX2_readsNation 51 = .ok (.iconst 0, 1) := dk_3 (dk_at dksX2_readsNation_2 3 rfl rfl)
theorem dX2_readsNation_52 : decode cX2_readsNation 52 = .ok (.iload_n 1, 1) := dk_27 (dk_at dksX2_readsNation_2 4 rfl rfl)
theorem dX2_readsNation_53 : decode cX2_readsNation 53 = .ok (.invokevirtual 121, 3) := dk_182 0 121 (dk_at dksX2_readsNation_2 5 rfl rfl)
theorem dX2_readsNation_56 : decode cX2_readsNation 56 = .ok (.aload_n 0, 1) := dk_42 (dk_at dksX2_readsNation_2 8 rfl rfl)
theorem dX2_readsNation_57 : decode cX2_readsNation 57 = .ok (.iload 4, 2) := dk_21 4 (dk_at dksX2_readsNation_2 9 rfl rfl)
theorem dX2_readsNation_59 : decode cX2_readsNation 59 = .ok (.iconst 1, 1) := dk_4 (dk_at dksX2_readsNation_2 11 rfl rfl)
theorem dX2_readsNation_60 : decode cX2_readsNation 60 = .ok (.iload_n 2, 1) := dk_28 (dk_at dksX2_readsNation_2 12 rfl rfl)
theorem dX2_readsNation_61 : decode cX2_readsNation 61 = .ok (.invokevirtual 121, 3) := dk_182 0 121 (dk_at dksX2_readsNation_2 13 rfl rfl)
theorem dX2_readsNation_64 : decode cX2_readsNation 64 = .ok (.aload_n 0, 1) := dk_42 (dk_at dksX2_readsNation_2 16 rfl rfl)
theorem dX2_readsNation_65 : decode cX2_readsNation 65 = .ok (.iload 4, 2) := dk_21 4 (dk_at dksX2_readsNation_2 17 rfl rfl)
theorem dX2_readsNation_67 : decode cX2_readsNation 67 = .ok (.iconst 2, 1) := dk_5 (dk_at dksX2_readsNation_2 19 rfl rfl)
theorem dX2_readsNation_68 : decode cX2_readsNation 68 = .ok (.iload_n 3, 1) := dk_29 (dk_at dksX2_readsNation_2 20 rfl rfl)
theorem dX2_readsNation_69 : decode cX2_readsNation 69 = .ok (.invokevirtual 121, 3) := dk_182 0 121 (dk_at dksX2_readsNation_2 21 rfl rfl)
theorem dX2_readsNation_72 : decode cX2_readsNation 72 = .ok (.aload_n 0, 1) := dk_42 (dk_at dksX2_readsNation_3 0 rfl rfl)
theorem dX2_readsNation_73 : decode cX2_readsNation 73 = .ok (.getfield 9, 3) := dk_180 0 9 (dk_at dksX2_readsNation_3 1 rfl rfl)
theorem dX2_readsNation_76 : decode cX2_readsNation 76 = .ok (.bipush 7, 2) := dk_16 7 (dk_at dksX2_readsNation_3 4 rfl rfl)
theorem dX2_readsNation_78 : decode cX2_readsNation 78 = .ok (.dup2, 1) := dk_92 (dk_at dksX2_readsNation_3 6 rfl rfl)
theorem dX2_readsNation_79 : decode cX2_readsNation 79 = .ok (.iaload, 1) := dk_46 (dk_at dksX2_readsNation_3 7 rfl rfl)
theorem dX2_readsNation_80 : decode cX2_readsNation 80 = .ok (.iconst 1, 1) := dk_4 (dk_at dksX2_readsNation_3 8 rfl rfl)
theorem dX2_readsNation_81 : decode cX2_readsNation 81 = .ok (.iadd, 1) := dk_96 (dk_at dksX2_readsNation_3 9 rfl rfl)
theorem dX2_readsNation_82 : decode cX2_readsNation 82 = .ok (.iastore, 1) := dk_79 (dk_at dksX2_readsNation_3 10 rfl rfl)
theorem dX2_readsNation_83 : decode cX2_readsNation 83 = .ok (.return_, 1) := dk_177 (dk_at dksX2_readsNation_3 11 rfl rfl)
abbrev cX2_putsNation : ByteArray := prog_20_method_41_code
def yX2_putsNation : MethodName := ⟨RX2, "putsNation", "(III)V"⟩
def dkwX2_putsNation_0 : List UInt8 := [42, 180, 0, 9, 16, 18, 8, 27, 104, 96, 28, 96, 29, 79, 177]
abbrev dktX2_putsNation_0 : List UInt8 := dkwX2_putsNation_0 ++ []
theorem dksX2_putsNation_0 : cX2_putsNation.data.toList.drop 0 = dktX2_putsNation_0 := by decide +kernel
theorem dX2_putsNation_0 : decode cX2_putsNation 0 = .ok (.aload_n 0, 1) := dk_42 (dk_at dksX2_putsNation_0 0 rfl rfl)
theorem dX2_putsNation_1 : decode cX2_putsNation 1 = .ok (.getfield 9, 3) := dk_180 0 9 (dk_at dksX2_putsNation_0 1 rfl rfl)
theorem dX2_putsNation_4 : decode cX2_putsNation 4 = .ok (.bipush 18, 2) := dk_16 18 (dk_at dksX2_putsNation_0 4 rfl rfl)
theorem dX2_putsNation_6 : decode cX2_putsNation 6 = .ok (.iconst 5, 1) := dk_8 (dk_at dksX2_putsNation_0 6 rfl rfl)
theorem dX2_putsNation_7 : decode cX2_putsNation 7 = .ok (.iload_n 1, 1) := dk_27 (dk_at dksX2_putsNation_0 7 rfl rfl)
theorem dX2_putsNation_8 : decode cX2_putsNation 8 = .ok (.imul, 1) := dk_104 (dk_at dksX2_putsNation_0 8 rfl rfl)
theorem dX2_putsNation_9 : decode cX2_putsNation 9 = .ok (.iadd, 1) := dk_96 (dk_at dksX2_putsNation_0 9 rfl rfl)
theorem dX2_putsNation_10 : decode cX2_putsNation 10 = .ok (.iload_n 2, 1) := dk_28 (dk_at dksX2_putsNation_0 10 rfl rfl)
theorem dX2_putsNation_11 : decode cX2_putsNation 11 = .ok (.iadd, 1) := dk_96 (dk_at dksX2_putsNation_0 11 rfl rfl)
theorem dX2_putsNation_12 : decode cX2_putsNation 12 = .ok (.iload_n 3, 1) := dk_29 (dk_at dksX2_putsNation_0 12 rfl rfl)
theorem dX2_putsNation_13 : decode cX2_putsNation 13 = .ok (.iastore, 1) := dk_79 (dk_at dksX2_putsNation_0 13 rfl rfl)
theorem dX2_putsNation_14 : decode cX2_putsNation 14 = .ok (.return_, 1) := dk_177 (dk_at dksX2_putsNation_0 14 rfl rfl)
abbrev cX2_readsTub : ByteArray := prog_20_method_28_code
def yX2_readsTub : MethodName := ⟨RX2, "readsTub", "()V"⟩
def dkwX2_readsTub_2 : List UInt8 := [96, 79, 177]
abbrev dktX2_readsTub_2 : List UInt8 := dkwX2_readsTub_2 ++ []
def dkwX2_readsTub_1 : List UInt8 := [180, 0, 9, 16, 38, 42, 180, 0, 9, 16, 8, 46, 96, 27, 79, 42, 180, 0, 9, 16, 8, 92, 46, 4]
abbrev dktX2_readsTub_1 : List UInt8 := dkwX2_readsTub_1 ++ dktX2_readsTub_2
def dkwX2_readsTub_0 : List UInt8 := [42, 16, 8, 6, 182, 0, 114, 42, 4, 16, 6, 182, 0, 118, 60, 42, 180, 0, 62, 158, 0, 4, 177, 42]
abbrev dktX2_readsTub_0 : List UInt8 := dkwX2_readsTub_0 ++ dktX2_readsTub_1
theorem dksX2_readsTub_0 : cX2_readsTub.data.toList.drop 0 = dktX2_readsTub_0 := by decide +kernel
theorem dksX2_readsTub_1 : cX2_readsTub.data.toList.drop 24 = dktX2_readsTub_1 := dk_seg dksX2_readsTub_0 24 rfl rfl
theorem dksX2_readsTub_2 : cX2_readsTub.data.toList.drop 48 = dktX2_readsTub_2 := dk_seg dksX2_readsTub_1 24 rfl rfl
theorem dX2_readsTub_0 : decode cX2_readsTub 0 = .ok (.aload_n 0, 1) := dk_42 (dk_at dksX2_readsTub_0 0 rfl rfl)
theorem dX2_readsTub_1 : decode cX2_readsTub 1 = .ok (.bipush 8, 2) := dk_16 8 (dk_at dksX2_readsTub_0 1 rfl rfl)
theorem dX2_readsTub_3 : decode cX2_readsTub 3 = .ok (.iconst 3, 1) := dk_6 (dk_at dksX2_readsTub_0 3 rfl rfl)
theorem dX2_readsTub_4 : decode cX2_readsTub 4 = .ok (.invokevirtual 114, 3) := dk_182 0 114 (dk_at dksX2_readsTub_0 4 rfl rfl)
theorem dX2_readsTub_7 : decode cX2_readsTub 7 = .ok (.aload_n 0, 1) := dk_42 (dk_at dksX2_readsTub_0 7 rfl rfl)
theorem dX2_readsTub_8 : decode cX2_readsTub 8 = .ok (.iconst 1, 1) := dk_4 (dk_at dksX2_readsTub_0 8 rfl rfl)
theorem dX2_readsTub_9 : decode cX2_readsTub 9 = .ok (.bipush 6, 2) := dk_16 6 (dk_at dksX2_readsTub_0 9 rfl rfl)
theorem dX2_readsTub_11 : decode cX2_readsTub 11 = .ok (.invokevirtual 118, 3) := dk_182 0 118 (dk_at dksX2_readsTub_0 11 rfl rfl)
theorem dX2_readsTub_14 : decode cX2_readsTub 14 = .ok (.istore_n 1, 1) := dk_60 (dk_at dksX2_readsTub_0 14 rfl rfl)
theorem dX2_readsTub_15 : decode cX2_readsTub 15 = .ok (.aload_n 0, 1) := dk_42 (dk_at dksX2_readsTub_0 15 rfl rfl)
theorem dX2_readsTub_16 : decode cX2_readsTub 16 = .ok (.getfield 62, 3) := dk_180 0 62 (dk_at dksX2_readsTub_0 16 rfl rfl)
theorem dX2_readsTub_19 : decode cX2_readsTub 19 = .ok (.ifCond .le 4, 3) := dk_158 0 4 (dk_at dksX2_readsTub_0 19 rfl rfl)
theorem dX2_readsTub_22 : decode cX2_readsTub 22 = .ok (.return_, 1) := dk_177 (dk_at dksX2_readsTub_0 22 rfl rfl)
theorem dX2_readsTub_23 : decode cX2_readsTub 23 = .ok (.aload_n 0, 1) := dk_42 (dk_at dksX2_readsTub_0 23 rfl rfl)
theorem dX2_readsTub_24 : decode cX2_readsTub 24 = .ok (.getfield 9, 3) := dk_180 0 9 (dk_at dksX2_readsTub_1 0 rfl rfl)
theorem dX2_readsTub_27 : decode cX2_readsTub 27 = .ok (.bipush 38, 2) := dk_16 38 (dk_at dksX2_readsTub_1 3 rfl rfl)
theorem dX2_readsTub_29 : decode cX2_readsTub 29 = .ok (.aload_n 0, 1) := dk_42 (dk_at dksX2_readsTub_1 5 rfl rfl)
theorem dX2_readsTub_30 : decode cX2_readsTub 30 = .ok (.getfield 9, 3) := dk_180 0 9 (dk_at dksX2_readsTub_1 6 rfl rfl)
theorem dX2_readsTub_33 : decode cX2_readsTub 33 = .ok (.bipush 8, 2) := dk_16 8 (dk_at dksX2_readsTub_1 9 rfl rfl)
theorem dX2_readsTub_35 : decode cX2_readsTub 35 = .ok (.iaload, 1) := dk_46 (dk_at dksX2_readsTub_1 11 rfl rfl)
theorem dX2_readsTub_36 : decode cX2_readsTub 36 = .ok (.iadd, 1) := dk_96 (dk_at dksX2_readsTub_1 12 rfl rfl)
theorem dX2_readsTub_37 : decode cX2_readsTub 37 = .ok (.iload_n 1, 1) := dk_27 (dk_at dksX2_readsTub_1 13 rfl rfl)
theorem dX2_readsTub_38 : decode cX2_readsTub 38 = .ok (.iastore, 1) := dk_79 (dk_at dksX2_readsTub_1 14 rfl rfl)
theorem dX2_readsTub_39 : decode cX2_readsTub 39 = .ok (.aload_n 0, 1) := dk_42 (dk_at dksX2_readsTub_1 15 rfl rfl)
theorem dX2_readsTub_40 : decode cX2_readsTub 40 = .ok (.getfield 9, 3) := dk_180 0 9 (dk_at dksX2_readsTub_1 16 rfl rfl)
theorem dX2_readsTub_43 : decode cX2_readsTub 43 = .ok (.bipush 8, 2) := dk_16 8 (dk_at dksX2_readsTub_1 19 rfl rfl)
theorem dX2_readsTub_45 : decode cX2_readsTub 45 = .ok (.dup2, 1) := dk_92 (dk_at dksX2_readsTub_1 21 rfl rfl)
theorem dX2_readsTub_46 : decode cX2_readsTub 46 = .ok (.iaload, 1) := dk_46 (dk_at dksX2_readsTub_1 22 rfl rfl)
theorem dX2_readsTub_47 : decode cX2_readsTub 47 = .ok (.iconst 1, 1) := dk_4 (dk_at dksX2_readsTub_1 23 rfl rfl)
theorem dX2_readsTub_48 : decode cX2_readsTub 48 = .ok (.iadd, 1) := dk_96 (dk_at dksX2_readsTub_2 0 rfl rfl)
theorem dX2_readsTub_49 : decode cX2_readsTub 49 = .ok (.iastore, 1) := dk_79 (dk_at dksX2_readsTub_2 1 rfl rfl)
theorem dX2_readsTub_50 : decode cX2_readsTub 50 = .ok (.return_, 1) := dk_177 (dk_at dksX2_readsTub_2 2 rfl rfl)
abbrev cX2_readsFlag : ByteArray := prog_20_method_30_code
def yX2_readsFlag : MethodName := ⟨RX2, "readsFlag", "()V"⟩
def dkwX2_readsFlag_3 : List UInt8 := [42, 27, 21, 4, 28, 29, 182, 0, 133, 87, 177]
abbrev dktX2_readsFlag_3 : List UInt8 := dkwX2_readsFlag_3 ++ []
def dkwX2_readsFlag_2 : List UInt8 := [182, 0, 91, 153, 0, 14, 42, 21, 4, 182, 0, 129, 54, 4, 167, 255, 240, 42, 180, 0, 62, 154, 0, 13]
abbrev dktX2_readsFlag_2 : List UInt8 := dkwX2_readsFlag_2 ++ dktX2_readsFlag_3
def dkwX2_readsFlag_1 : List UInt8 := [3, 6, 182, 0, 118, 61, 42, 3, 16, 9, 182, 0, 118, 62, 42, 3, 182, 0, 129, 54, 4, 42, 6]
abbrev dktX2_readsFlag_1 : List UInt8 := dkwX2_readsFlag_1 ++ dktX2_readsFlag_2
def dkwX2_readsFlag_0 : List UInt8 := [42, 16, 10, 16, 12, 182, 0, 114, 42, 3, 42, 180, 0, 9, 16, 7, 46, 4, 100, 182, 0, 118, 60, 42]
abbrev dktX2_readsFlag_0 : List UInt8 := dkwX2_readsFlag_0 ++ dktX2_readsFlag_1
theorem dksX2_readsFlag_0 : cX2_readsFlag.data.toList.drop 0 = dktX2_readsFlag_0 := by decide +kernel
theorem dksX2_readsFlag_1 : cX2_readsFlag.data.toList.drop 24 = dktX2_readsFlag_1 := dk_seg dksX2_readsFlag_0 24 rfl rfl
theorem dksX2_readsFlag_2 : cX2_readsFlag.data.toList.drop 47 = dktX2_readsFlag_2 := dk_seg dksX2_readsFlag_1 23 rfl rfl
theorem dksX2_readsFlag_3 : cX2_readsFlag.data.toList.drop 71 = dktX2_readsFlag_3 := dk_seg dksX2_readsFlag_2 24 rfl rfl
theorem dX2_readsFlag_0 : decode cX2_readsFlag 0 = .ok (.aload_n 0, 1) := dk_42 (dk_at dksX2_readsFlag_0 0 rfl rfl)
theorem dX2_readsFlag_1 : decode cX2_readsFlag 1 = .ok (.bipush 10, 2) := dk_16 10 (dk_at dksX2_readsFlag_0 1 rfl rfl)
theorem dX2_readsFlag_3 : decode cX2_readsFlag 3 = .ok (.bipush 12, 2) := dk_16 12 (dk_at dksX2_readsFlag_0 3 rfl rfl)
theorem dX2_readsFlag_5 : decode cX2_readsFlag 5 = .ok (.invokevirtual 114, 3) := dk_182 0 114 (dk_at dksX2_readsFlag_0 5 rfl rfl)
theorem dX2_readsFlag_8 : decode cX2_readsFlag 8 = .ok (.aload_n 0, 1) := dk_42 (dk_at dksX2_readsFlag_0 8 rfl rfl)
theorem dX2_readsFlag_9 : decode cX2_readsFlag 9 = .ok (.iconst 0, 1) := dk_3 (dk_at dksX2_readsFlag_0 9 rfl rfl)
theorem dX2_readsFlag_10 : decode cX2_readsFlag 10 = .ok (.aload_n 0, 1) := dk_42 (dk_at dksX2_readsFlag_0 10 rfl rfl)
theorem dX2_readsFlag_11 : decode cX2_readsFlag 11 = .ok (.getfield 9, 3) := dk_180 0 9 (dk_at dksX2_readsFlag_0 11 rfl rfl)
theorem dX2_readsFlag_14 : decode cX2_readsFlag 14 = .ok (.bipush 7, 2) := dk_16 7 (dk_at dksX2_readsFlag_0 14 rfl rfl)
theorem dX2_readsFlag_16 : decode cX2_readsFlag 16 = .ok (.iaload, 1) := dk_46 (dk_at dksX2_readsFlag_0 16 rfl rfl)
theorem dX2_readsFlag_17 : decode cX2_readsFlag 17 = .ok (.iconst 1, 1) := dk_4 (dk_at dksX2_readsFlag_0 17 rfl rfl)
theorem dX2_readsFlag_18 : decode cX2_readsFlag 18 = .ok (.isub, 1) := dk_100 (dk_at dksX2_readsFlag_0 18 rfl rfl)
theorem dX2_readsFlag_19 : decode cX2_readsFlag 19 = .ok (.invokevirtual 118, 3) := dk_182 0 118 (dk_at dksX2_readsFlag_0 19 rfl rfl)
theorem dX2_readsFlag_22 : decode cX2_readsFlag 22 = .ok (.istore_n 1, 1) := dk_60 (dk_at dksX2_readsFlag_0 22 rfl rfl)
theorem dX2_readsFlag_23 : decode cX2_readsFlag 23 = .ok (.aload_n 0, 1) := dk_42 (dk_at dksX2_readsFlag_0 23 rfl rfl)
theorem dX2_readsFlag_24 : decode cX2_readsFlag 24 = .ok (.iconst 0, 1) := dk_3 (dk_at dksX2_readsFlag_1 0 rfl rfl)
theorem dX2_readsFlag_25 : decode cX2_readsFlag 25 = .ok (.iconst 3, 1) := dk_6 (dk_at dksX2_readsFlag_1 1 rfl rfl)
theorem dX2_readsFlag_26 : decode cX2_readsFlag 26 = .ok (.invokevirtual 118, 3) := dk_182 0 118 (dk_at dksX2_readsFlag_1 2 rfl rfl)
theorem dX2_readsFlag_29 : decode cX2_readsFlag 29 = .ok (.istore_n 2, 1) := dk_61 (dk_at dksX2_readsFlag_1 5 rfl rfl)
theorem dX2_readsFlag_30 : decode cX2_readsFlag 30 = .ok (.aload_n 0, 1) := dk_42 (dk_at dksX2_readsFlag_1 6 rfl rfl)
theorem dX2_readsFlag_31 : decode cX2_readsFlag 31 = .ok (.iconst 0, 1) := dk_3 (dk_at dksX2_readsFlag_1 7 rfl rfl)
theorem dX2_readsFlag_32 : decode cX2_readsFlag 32 = .ok (.bipush 9, 2) := dk_16 9 (dk_at dksX2_readsFlag_1 8 rfl rfl)
theorem dX2_readsFlag_34 : decode cX2_readsFlag 34 = .ok (.invokevirtual 118, 3) := dk_182 0 118 (dk_at dksX2_readsFlag_1 10 rfl rfl)
theorem dX2_readsFlag_37 : decode cX2_readsFlag 37 = .ok (.istore_n 3, 1) := dk_62 (dk_at dksX2_readsFlag_1 13 rfl rfl)
theorem dX2_readsFlag_38 : decode cX2_readsFlag 38 = .ok (.aload_n 0, 1) := dk_42 (dk_at dksX2_readsFlag_1 14 rfl rfl)
theorem dX2_readsFlag_39 : decode cX2_readsFlag 39 = .ok (.iconst 0, 1) := dk_3 (dk_at dksX2_readsFlag_1 15 rfl rfl)
theorem dX2_readsFlag_40 : decode cX2_readsFlag 40 = .ok (.invokevirtual 129, 3) := dk_182 0 129 (dk_at dksX2_readsFlag_1 16 rfl rfl)
theorem dX2_readsFlag_43 : decode cX2_readsFlag 43 = .ok (.istore 4, 2) := dk_54 4 (dk_at dksX2_readsFlag_1 19 rfl rfl)
theorem dX2_readsFlag_45 : decode cX2_readsFlag 45 = .ok (.aload_n 0, 1) := dk_42 (dk_at dksX2_readsFlag_1 21 rfl rfl)
theorem dX2_readsFlag_46 : decode cX2_readsFlag 46 = .ok (.iconst 3, 1) := dk_6 (dk_at dksX2_readsFlag_1 22 rfl rfl)
theorem dX2_readsFlag_47 : decode cX2_readsFlag 47 = .ok (.invokevirtual 91, 3) := dk_182 0 91 (dk_at dksX2_readsFlag_2 0 rfl rfl)
theorem dX2_readsFlag_50 : decode cX2_readsFlag 50 = .ok (.ifCond .eq 14, 3) := dk_153 0 14 (dk_at dksX2_readsFlag_2 3 rfl rfl)
theorem dX2_readsFlag_53 : decode cX2_readsFlag 53 = .ok (.aload_n 0, 1) := dk_42 (dk_at dksX2_readsFlag_2 6 rfl rfl)
theorem dX2_readsFlag_54 : decode cX2_readsFlag 54 = .ok (.iload 4, 2) := dk_21 4 (dk_at dksX2_readsFlag_2 7 rfl rfl)
theorem dX2_readsFlag_56 : decode cX2_readsFlag 56 = .ok (.invokevirtual 129, 3) := dk_182 0 129 (dk_at dksX2_readsFlag_2 9 rfl rfl)
theorem dX2_readsFlag_59 : decode cX2_readsFlag 59 = .ok (.istore 4, 2) := dk_54 4 (dk_at dksX2_readsFlag_2 12 rfl rfl)
theorem dX2_readsFlag_61 : decode cX2_readsFlag 61 = .ok (.goto (-16), 3) := dk_167 255 240 (dk_at dksX2_readsFlag_2 14 rfl rfl)
theorem dX2_readsFlag_64 : decode cX2_readsFlag 64 = .ok (.aload_n 0, 1) := dk_42 (dk_at dksX2_readsFlag_2 17 rfl rfl)
theorem dX2_readsFlag_65 : decode cX2_readsFlag 65 = .ok (.getfield 62, 3) := dk_180 0 62 (dk_at dksX2_readsFlag_2 18 rfl rfl)
theorem dX2_readsFlag_68 : decode cX2_readsFlag 68 = .ok (.ifCond .ne 13, 3) := dk_154 0 13 (dk_at dksX2_readsFlag_2 21 rfl rfl)
theorem dX2_readsFlag_71 : decode cX2_readsFlag 71 = .ok (.aload_n 0, 1) := dk_42 (dk_at dksX2_readsFlag_3 0 rfl rfl)
theorem dX2_readsFlag_72 : decode cX2_readsFlag 72 = .ok (.iload_n 1, 1) := dk_27 (dk_at dksX2_readsFlag_3 1 rfl rfl)
theorem dX2_readsFlag_73 : decode cX2_readsFlag 73 = .ok (.iload 4, 2) := dk_21 4 (dk_at dksX2_readsFlag_3 2 rfl rfl)
theorem dX2_readsFlag_75 : decode cX2_readsFlag 75 = .ok (.iload_n 2, 1) := dk_28 (dk_at dksX2_readsFlag_3 4 rfl rfl)
theorem dX2_readsFlag_76 : decode cX2_readsFlag 76 = .ok (.iload_n 3, 1) := dk_29 (dk_at dksX2_readsFlag_3 5 rfl rfl)
theorem dX2_readsFlag_77 : decode cX2_readsFlag 77 = .ok (.invokevirtual 133, 3) := dk_182 0 133 (dk_at dksX2_readsFlag_3 6 rfl rfl)
theorem dX2_readsFlag_80 : decode cX2_readsFlag 80 = .ok (.pop, 1) := dk_87 (dk_at dksX2_readsFlag_3 9 rfl rfl)
theorem dX2_readsFlag_81 : decode cX2_readsFlag 81 = .ok (.return_, 1) := dk_177 (dk_at dksX2_readsFlag_3 10 rfl rfl)
abbrev cX2_colourRead : ByteArray := prog_20_method_29_code
def yX2_colourRead : MethodName := ⟨RX2, "colourRead", "(I)I"⟩
def dkwX2_colourRead_2 : List UInt8 := [167, 0, 8, 27, 4, 28, 120, 128, 172]
abbrev dktX2_colourRead_2 : List UInt8 := dkwX2_colourRead_2 ++ []
def dkwX2_colourRead_1 : List UInt8 := [184, 0, 125, 153, 0, 8, 42, 6, 182, 0, 104, 42, 182, 0, 111, 42, 180, 0, 62, 158, 0, 7, 27]
abbrev dktX2_colourRead_1 : List UInt8 := dkwX2_colourRead_1 ++ dktX2_colourRead_2
def dkwX2_colourRead_0 : List UInt8 := [42, 3, 42, 180, 0, 9, 16, 6, 46, 4, 100, 182, 0, 107, 61, 42, 180, 0, 62, 154, 0, 16, 27, 28]
abbrev dktX2_colourRead_0 : List UInt8 := dkwX2_colourRead_0 ++ dktX2_colourRead_1
theorem dksX2_colourRead_0 : cX2_colourRead.data.toList.drop 0 = dktX2_colourRead_0 := by decide +kernel
theorem dksX2_colourRead_1 : cX2_colourRead.data.toList.drop 24 = dktX2_colourRead_1 := dk_seg dksX2_colourRead_0 24 rfl rfl
theorem dksX2_colourRead_2 : cX2_colourRead.data.toList.drop 47 = dktX2_colourRead_2 := dk_seg dksX2_colourRead_1 23 rfl rfl
theorem dX2_colourRead_0 : decode cX2_colourRead 0 = .ok (.aload_n 0, 1) := dk_42 (dk_at dksX2_colourRead_0 0 rfl rfl)
theorem dX2_colourRead_1 : decode cX2_colourRead 1 = .ok (.iconst 0, 1) := dk_3 (dk_at dksX2_colourRead_0 1 rfl rfl)
theorem dX2_colourRead_2 : decode cX2_colourRead 2 = .ok (.aload_n 0, 1) := dk_42 (dk_at dksX2_colourRead_0 2 rfl rfl)
theorem dX2_colourRead_3 : decode cX2_colourRead 3 = .ok (.getfield 9, 3) := dk_180 0 9 (dk_at dksX2_colourRead_0 3 rfl rfl)
theorem dX2_colourRead_6 : decode cX2_colourRead 6 = .ok (.bipush 6, 2) := dk_16 6 (dk_at dksX2_colourRead_0 6 rfl rfl)
theorem dX2_colourRead_8 : decode cX2_colourRead 8 = .ok (.iaload, 1) := dk_46 (dk_at dksX2_colourRead_0 8 rfl rfl)
theorem dX2_colourRead_9 : decode cX2_colourRead 9 = .ok (.iconst 1, 1) := dk_4 (dk_at dksX2_colourRead_0 9 rfl rfl)
theorem dX2_colourRead_10 : decode cX2_colourRead 10 = .ok (.isub, 1) := dk_100 (dk_at dksX2_colourRead_0 10 rfl rfl)
theorem dX2_colourRead_11 : decode cX2_colourRead 11 = .ok (.invokevirtual 107, 3) := dk_182 0 107 (dk_at dksX2_colourRead_0 11 rfl rfl)
theorem dX2_colourRead_14 : decode cX2_colourRead 14 = .ok (.istore_n 2, 1) := dk_61 (dk_at dksX2_colourRead_0 14 rfl rfl)
theorem dX2_colourRead_15 : decode cX2_colourRead 15 = .ok (.aload_n 0, 1) := dk_42 (dk_at dksX2_colourRead_0 15 rfl rfl)
theorem dX2_colourRead_16 : decode cX2_colourRead 16 = .ok (.getfield 62, 3) := dk_180 0 62 (dk_at dksX2_colourRead_0 16 rfl rfl)
theorem dX2_colourRead_19 : decode cX2_colourRead 19 = .ok (.ifCond .ne 16, 3) := dk_154 0 16 (dk_at dksX2_colourRead_0 19 rfl rfl)
theorem dX2_colourRead_22 : decode cX2_colourRead 22 = .ok (.iload_n 1, 1) := dk_27 (dk_at dksX2_colourRead_0 22 rfl rfl)
theorem dX2_colourRead_23 : decode cX2_colourRead 23 = .ok (.iload_n 2, 1) := dk_28 (dk_at dksX2_colourRead_0 23 rfl rfl)
theorem dX2_colourRead_24 : decode cX2_colourRead 24 = .ok (.invokestatic 125, 3) := dk_184 0 125 (dk_at dksX2_colourRead_1 0 rfl rfl)
theorem dX2_colourRead_27 : decode cX2_colourRead 27 = .ok (.ifCond .eq 8, 3) := dk_153 0 8 (dk_at dksX2_colourRead_1 3 rfl rfl)
theorem dX2_colourRead_30 : decode cX2_colourRead 30 = .ok (.aload_n 0, 1) := dk_42 (dk_at dksX2_colourRead_1 6 rfl rfl)
theorem dX2_colourRead_31 : decode cX2_colourRead 31 = .ok (.iconst 3, 1) := dk_6 (dk_at dksX2_colourRead_1 7 rfl rfl)
theorem dX2_colourRead_32 : decode cX2_colourRead 32 = .ok (.invokevirtual 104, 3) := dk_182 0 104 (dk_at dksX2_colourRead_1 8 rfl rfl)
theorem dX2_colourRead_35 : decode cX2_colourRead 35 = .ok (.aload_n 0, 1) := dk_42 (dk_at dksX2_colourRead_1 11 rfl rfl)
theorem dX2_colourRead_36 : decode cX2_colourRead 36 = .ok (.invokevirtual 111, 3) := dk_182 0 111 (dk_at dksX2_colourRead_1 12 rfl rfl)
theorem dX2_colourRead_39 : decode cX2_colourRead 39 = .ok (.aload_n 0, 1) := dk_42 (dk_at dksX2_colourRead_1 15 rfl rfl)
theorem dX2_colourRead_40 : decode cX2_colourRead 40 = .ok (.getfield 62, 3) := dk_180 0 62 (dk_at dksX2_colourRead_1 16 rfl rfl)
theorem dX2_colourRead_43 : decode cX2_colourRead 43 = .ok (.ifCond .le 7, 3) := dk_158 0 7 (dk_at dksX2_colourRead_1 19 rfl rfl)
theorem dX2_colourRead_46 : decode cX2_colourRead 46 = .ok (.iload_n 1, 1) := dk_27 (dk_at dksX2_colourRead_1 22 rfl rfl)
theorem dX2_colourRead_47 : decode cX2_colourRead 47 = .ok (.goto 8, 3) := dk_167 0 8 (dk_at dksX2_colourRead_2 0 rfl rfl)
theorem dX2_colourRead_50 : decode cX2_colourRead 50 = .ok (.iload_n 1, 1) := dk_27 (dk_at dksX2_colourRead_2 3 rfl rfl)
theorem dX2_colourRead_51 : decode cX2_colourRead 51 = .ok (.iconst 1, 1) := dk_4 (dk_at dksX2_colourRead_2 4 rfl rfl)
theorem dX2_colourRead_52 : decode cX2_colourRead 52 = .ok (.iload_n 2, 1) := dk_28 (dk_at dksX2_colourRead_2 5 rfl rfl)
theorem dX2_colourRead_53 : decode cX2_colourRead 53 = .ok (.ishl, 1) := dk_120 (dk_at dksX2_colourRead_2 6 rfl rfl)
theorem dX2_colourRead_54 : decode cX2_colourRead 54 = .ok (.ior, 1) := dk_128 (dk_at dksX2_colourRead_2 7 rfl rfl)
theorem dX2_colourRead_55 : decode cX2_colourRead 55 = .ok (.ireturn, 1) := dk_172 (dk_at dksX2_colourRead_2 8 rfl rfl)
abbrev cX2_has : ByteArray := prog_20_method_5_code
def yX2_has : MethodName := ⟨RX2, "has", "(II)Z"⟩
def dkwX2_has_0 : List UInt8 := [26, 27, 122, 4, 126, 4, 160, 0, 7, 4, 167, 0, 4, 3, 172]
abbrev dktX2_has_0 : List UInt8 := dkwX2_has_0 ++ []
theorem dksX2_has_0 : cX2_has.data.toList.drop 0 = dktX2_has_0 := by decide +kernel
theorem dX2_has_0 : decode cX2_has 0 = .ok (.iload_n 0, 1) := dk_26 (dk_at dksX2_has_0 0 rfl rfl)
theorem dX2_has_1 : decode cX2_has 1 = .ok (.iload_n 1, 1) := dk_27 (dk_at dksX2_has_0 1 rfl rfl)
theorem dX2_has_2 : decode cX2_has 2 = .ok (.ishr, 1) := dk_122 (dk_at dksX2_has_0 2 rfl rfl)
theorem dX2_has_3 : decode cX2_has 3 = .ok (.iconst 1, 1) := dk_4 (dk_at dksX2_has_0 3 rfl rfl)
theorem dX2_has_4 : decode cX2_has 4 = .ok (.iand, 1) := dk_126 (dk_at dksX2_has_0 4 rfl rfl)
theorem dX2_has_5 : decode cX2_has 5 = .ok (.iconst 1, 1) := dk_4 (dk_at dksX2_has_0 5 rfl rfl)
theorem dX2_has_6 : decode cX2_has 6 = .ok (.if_icmp .ne 7, 3) := dk_160 0 7 (dk_at dksX2_has_0 6 rfl rfl)
theorem dX2_has_9 : decode cX2_has 9 = .ok (.iconst 1, 1) := dk_4 (dk_at dksX2_has_0 9 rfl rfl)
theorem dX2_has_10 : decode cX2_has 10 = .ok (.goto 4, 3) := dk_167 0 4 (dk_at dksX2_has_0 10 rfl rfl)
theorem dX2_has_13 : decode cX2_has 13 = .ok (.iconst 0, 1) := dk_3 (dk_at dksX2_has_0 13 rfl rfl)
theorem dX2_has_14 : decode cX2_has 14 = .ok (.ireturn, 1) := dk_172 (dk_at dksX2_has_0 14 rfl rfl)
abbrev cX2_addsFlag : ByteArray := prog_20_method_48_code
def yX2_addsFlag : MethodName := ⟨RX2, "addsFlag", "(IIII)I"⟩
def dkwX2_addsFlag_3 : List UInt8 := [2, 182, 0, 236, 42, 180, 0, 9, 16, 10, 92, 46, 4, 96, 79, 21, 5, 172]
abbrev dktX2_addsFlag_3 : List UInt8 := dkwX2_addsFlag_3 ++ []
def dkwX2_addsFlag_2 : List UInt8 := [182, 0, 233, 42, 21, 5, 5, 29, 182, 0, 233, 42, 21, 5, 6, 21, 4, 182, 0, 233, 42, 21, 5, 3]
abbrev dktX2_addsFlag_2 : List UInt8 := dkwX2_addsFlag_2 ++ dktX2_addsFlag_3
def dkwX2_addsFlag_1 : List UInt8 := [3, 182, 0, 233, 132, 6, 1, 167, 255, 237, 42, 21, 5, 3, 27, 182, 0, 233, 42, 21, 5, 4, 28]
abbrev dktX2_addsFlag_1 : List UInt8 := dkwX2_addsFlag_1 ++ dktX2_addsFlag_2
def dkwX2_addsFlag_0 : List UInt8 := [42, 180, 0, 9, 16, 10, 46, 54, 5, 3, 54, 6, 21, 6, 16, 11, 162, 0, 18, 42, 21, 5, 21, 6]
abbrev dktX2_addsFlag_0 : List UInt8 := dkwX2_addsFlag_0 ++ dktX2_addsFlag_1
theorem dksX2_addsFlag_0 : cX2_addsFlag.data.toList.drop 0 = dktX2_addsFlag_0 := by decide +kernel
theorem dksX2_addsFlag_1 : cX2_addsFlag.data.toList.drop 24 = dktX2_addsFlag_1 := dk_seg dksX2_addsFlag_0 24 rfl rfl
theorem dksX2_addsFlag_2 : cX2_addsFlag.data.toList.drop 47 = dktX2_addsFlag_2 := dk_seg dksX2_addsFlag_1 23 rfl rfl
theorem dksX2_addsFlag_3 : cX2_addsFlag.data.toList.drop 71 = dktX2_addsFlag_3 := dk_seg dksX2_addsFlag_2 24 rfl rfl
theorem dX2_addsFlag_0 : decode cX2_addsFlag 0 = .ok (.aload_n 0, 1) := dk_42 (dk_at dksX2_addsFlag_0 0 rfl rfl)
theorem dX2_addsFlag_1 : decode cX2_addsFlag 1 = .ok (.getfield 9, 3) := dk_180 0 9 (dk_at dksX2_addsFlag_0 1 rfl rfl)
theorem dX2_addsFlag_4 : decode cX2_addsFlag 4 = .ok (.bipush 10, 2) := dk_16 10 (dk_at dksX2_addsFlag_0 4 rfl rfl)
theorem dX2_addsFlag_6 : decode cX2_addsFlag 6 = .ok (.iaload, 1) := dk_46 (dk_at dksX2_addsFlag_0 6 rfl rfl)
theorem dX2_addsFlag_7 : decode cX2_addsFlag 7 = .ok (.istore 5, 2) := dk_54 5 (dk_at dksX2_addsFlag_0 7 rfl rfl)
theorem dX2_addsFlag_9 : decode cX2_addsFlag 9 = .ok (.iconst 0, 1) := dk_3 (dk_at dksX2_addsFlag_0 9 rfl rfl)
theorem dX2_addsFlag_10 : decode cX2_addsFlag 10 = .ok (.istore 6, 2) := dk_54 6 (dk_at dksX2_addsFlag_0 10 rfl rfl)
theorem dX2_addsFlag_12 : decode cX2_addsFlag 12 = .ok (.iload 6, 2) := dk_21 6 (dk_at dksX2_addsFlag_0 12 rfl rfl)
theorem dX2_addsFlag_14 : decode cX2_addsFlag 14 = .ok (.bipush 11, 2) := dk_16 11 (dk_at dksX2_addsFlag_0 14 rfl rfl)
theorem dX2_addsFlag_16 : decode cX2_addsFlag 16 = .ok (.if_icmp .ge 18, 3) := dk_162 0 18 (dk_at dksX2_addsFlag_0 16 rfl rfl)
theorem dX2_addsFlag_19 : decode cX2_addsFlag 19 = .ok (.aload_n 0, 1) := dk_42 (dk_at dksX2_addsFlag_0 19 rfl rfl)
theorem dX2_addsFlag_20 : decode cX2_addsFlag 20 = .ok (.iload 5, 2) := dk_21 5 (dk_at dksX2_addsFlag_0 20 rfl rfl)
theorem dX2_addsFlag_22 : decode cX2_addsFlag 22 = .ok (.iload 6, 2) := dk_21 6 (dk_at dksX2_addsFlag_0 22 rfl rfl)
theorem dX2_addsFlag_24 : decode cX2_addsFlag 24 = .ok (.iconst 0, 1) := dk_3 (dk_at dksX2_addsFlag_1 0 rfl rfl)
theorem dX2_addsFlag_25 : decode cX2_addsFlag 25 = .ok (.invokevirtual 233, 3) := dk_182 0 233 (dk_at dksX2_addsFlag_1 1 rfl rfl)
theorem dX2_addsFlag_28 : decode cX2_addsFlag 28 = .ok (.iinc 6 1, 3) := dk_132 6 1 (dk_at dksX2_addsFlag_1 4 rfl rfl)
theorem dX2_addsFlag_31 : decode cX2_addsFlag 31 = .ok (.goto (-19), 3) := dk_167 255 237 (dk_at dksX2_addsFlag_1 7 rfl rfl)
theorem dX2_addsFlag_34 : decode cX2_addsFlag 34 = .ok (.aload_n 0, 1) := dk_42 (dk_at dksX2_addsFlag_1 10 rfl rfl)
theorem dX2_addsFlag_35 : decode cX2_addsFlag 35 = .ok (.iload 5, 2) := dk_21 5 (dk_at dksX2_addsFlag_1 11 rfl rfl)
theorem dX2_addsFlag_37 : decode cX2_addsFlag 37 = .ok (.iconst 0, 1) := dk_3 (dk_at dksX2_addsFlag_1 13 rfl rfl)
theorem dX2_addsFlag_38 : decode cX2_addsFlag 38 = .ok (.iload_n 1, 1) := dk_27 (dk_at dksX2_addsFlag_1 14 rfl rfl)
theorem dX2_addsFlag_39 : decode cX2_addsFlag 39 = .ok (.invokevirtual 233, 3) := dk_182 0 233 (dk_at dksX2_addsFlag_1 15 rfl rfl)
theorem dX2_addsFlag_42 : decode cX2_addsFlag 42 = .ok (.aload_n 0, 1) := dk_42 (dk_at dksX2_addsFlag_1 18 rfl rfl)
theorem dX2_addsFlag_43 : decode cX2_addsFlag 43 = .ok (.iload 5, 2) := dk_21 5 (dk_at dksX2_addsFlag_1 19 rfl rfl)
theorem dX2_addsFlag_45 : decode cX2_addsFlag 45 = .ok (.iconst 1, 1) := dk_4 (dk_at dksX2_addsFlag_1 21 rfl rfl)
theorem dX2_addsFlag_46 : decode cX2_addsFlag 46 = .ok (.iload_n 2, 1) := dk_28 (dk_at dksX2_addsFlag_1 22 rfl rfl)
theorem dX2_addsFlag_47 : decode cX2_addsFlag 47 = .ok (.invokevirtual 233, 3) := dk_182 0 233 (dk_at dksX2_addsFlag_2 0 rfl rfl)
theorem dX2_addsFlag_50 : decode cX2_addsFlag 50 = .ok (.aload_n 0, 1) := dk_42 (dk_at dksX2_addsFlag_2 3 rfl rfl)
theorem dX2_addsFlag_51 : decode cX2_addsFlag 51 = .ok (.iload 5, 2) := dk_21 5 (dk_at dksX2_addsFlag_2 4 rfl rfl)
theorem dX2_addsFlag_53 : decode cX2_addsFlag 53 = .ok (.iconst 2, 1) := dk_5 (dk_at dksX2_addsFlag_2 6 rfl rfl)
theorem dX2_addsFlag_54 : decode cX2_addsFlag 54 = .ok (.iload_n 3, 1) := dk_29 (dk_at dksX2_addsFlag_2 7 rfl rfl)
theorem dX2_addsFlag_55 : decode cX2_addsFlag 55 = .ok (.invokevirtual 233, 3) := dk_182 0 233 (dk_at dksX2_addsFlag_2 8 rfl rfl)
theorem dX2_addsFlag_58 : decode cX2_addsFlag 58 = .ok (.aload_n 0, 1) := dk_42 (dk_at dksX2_addsFlag_2 11 rfl rfl)
theorem dX2_addsFlag_59 : decode cX2_addsFlag 59 = .ok (.iload 5, 2) := dk_21 5 (dk_at dksX2_addsFlag_2 12 rfl rfl)
theorem dX2_addsFlag_61 : decode cX2_addsFlag 61 = .ok (.iconst 3, 1) := dk_6 (dk_at dksX2_addsFlag_2 14 rfl rfl)
theorem dX2_addsFlag_62 : decode cX2_addsFlag 62 = .ok (.iload 4, 2) := dk_21 4 (dk_at dksX2_addsFlag_2 15 rfl rfl)
theorem dX2_addsFlag_64 : decode cX2_addsFlag 64 = .ok (.invokevirtual 233, 3) := dk_182 0 233 (dk_at dksX2_addsFlag_2 17 rfl rfl)
theorem dX2_addsFlag_67 : decode cX2_addsFlag 67 = .ok (.aload_n 0, 1) := dk_42 (dk_at dksX2_addsFlag_2 20 rfl rfl)
theorem dX2_addsFlag_68 : decode cX2_addsFlag 68 = .ok (.iload 5, 2) := dk_21 5 (dk_at dksX2_addsFlag_2 21 rfl rfl)
theorem dX2_addsFlag_70 : decode cX2_addsFlag 70 = .ok (.iconst 0, 1) := dk_3 (dk_at dksX2_addsFlag_2 23 rfl rfl)
theorem dX2_addsFlag_71 : decode cX2_addsFlag 71 = .ok (.iconst (-1), 1) := dk_2 (dk_at dksX2_addsFlag_3 0 rfl rfl)
theorem dX2_addsFlag_72 : decode cX2_addsFlag 72 = .ok (.invokevirtual 236, 3) := dk_182 0 236 (dk_at dksX2_addsFlag_3 1 rfl rfl)
theorem dX2_addsFlag_75 : decode cX2_addsFlag 75 = .ok (.aload_n 0, 1) := dk_42 (dk_at dksX2_addsFlag_3 4 rfl rfl)
theorem dX2_addsFlag_76 : decode cX2_addsFlag 76 = .ok (.getfield 9, 3) := dk_180 0 9 (dk_at dksX2_addsFlag_3 5 rfl rfl)
theorem dX2_addsFlag_79 : decode cX2_addsFlag 79 = .ok (.bipush 10, 2) := dk_16 10 (dk_at dksX2_addsFlag_3 8 rfl rfl)
theorem dX2_addsFlag_81 : decode cX2_addsFlag 81 = .ok (.dup2, 1) := dk_92 (dk_at dksX2_addsFlag_3 10 rfl rfl)
theorem dX2_addsFlag_82 : decode cX2_addsFlag 82 = .ok (.iaload, 1) := dk_46 (dk_at dksX2_addsFlag_3 11 rfl rfl)
theorem dX2_addsFlag_83 : decode cX2_addsFlag 83 = .ok (.iconst 1, 1) := dk_4 (dk_at dksX2_addsFlag_3 12 rfl rfl)
theorem dX2_addsFlag_84 : decode cX2_addsFlag 84 = .ok (.iadd, 1) := dk_96 (dk_at dksX2_addsFlag_3 13 rfl rfl)
theorem dX2_addsFlag_85 : decode cX2_addsFlag 85 = .ok (.iastore, 1) := dk_79 (dk_at dksX2_addsFlag_3 14 rfl rfl)
theorem dX2_addsFlag_86 : decode cX2_addsFlag 86 = .ok (.iload 5, 2) := dk_21 5 (dk_at dksX2_addsFlag_3 15 rfl rfl)
theorem dX2_addsFlag_88 : decode cX2_addsFlag 88 = .ok (.ireturn, 1) := dk_172 (dk_at dksX2_addsFlag_3 17 rfl rfl)
abbrev cX2_putsFlag : ByteArray := prog_20_method_43_code
def yX2_putsFlag : MethodName := ⟨RX2, "putsFlag", "(III)V"⟩
def dkwX2_putsFlag_0 : List UInt8 := [42, 180, 0, 9, 16, 41, 16, 11, 27, 104, 96, 28, 96, 29, 79, 177]
abbrev dktX2_putsFlag_0 : List UInt8 := dkwX2_putsFlag_0 ++ []
theorem dksX2_putsFlag_0 : cX2_putsFlag.data.toList.drop 0 = dktX2_putsFlag_0 := by decide +kernel
theorem dX2_putsFlag_0 : decode cX2_putsFlag 0 = .ok (.aload_n 0, 1) := dk_42 (dk_at dksX2_putsFlag_0 0 rfl rfl)
theorem dX2_putsFlag_1 : decode cX2_putsFlag 1 = .ok (.getfield 9, 3) := dk_180 0 9 (dk_at dksX2_putsFlag_0 1 rfl rfl)
theorem dX2_putsFlag_4 : decode cX2_putsFlag 4 = .ok (.bipush 41, 2) := dk_16 41 (dk_at dksX2_putsFlag_0 4 rfl rfl)
theorem dX2_putsFlag_6 : decode cX2_putsFlag 6 = .ok (.bipush 11, 2) := dk_16 11 (dk_at dksX2_putsFlag_0 6 rfl rfl)
theorem dX2_putsFlag_8 : decode cX2_putsFlag 8 = .ok (.iload_n 1, 1) := dk_27 (dk_at dksX2_putsFlag_0 8 rfl rfl)
theorem dX2_putsFlag_9 : decode cX2_putsFlag 9 = .ok (.imul, 1) := dk_104 (dk_at dksX2_putsFlag_0 9 rfl rfl)
theorem dX2_putsFlag_10 : decode cX2_putsFlag 10 = .ok (.iadd, 1) := dk_96 (dk_at dksX2_putsFlag_0 10 rfl rfl)
theorem dX2_putsFlag_11 : decode cX2_putsFlag 11 = .ok (.iload_n 2, 1) := dk_28 (dk_at dksX2_putsFlag_0 11 rfl rfl)
theorem dX2_putsFlag_12 : decode cX2_putsFlag 12 = .ok (.iadd, 1) := dk_96 (dk_at dksX2_putsFlag_0 12 rfl rfl)
theorem dX2_putsFlag_13 : decode cX2_putsFlag 13 = .ok (.iload_n 3, 1) := dk_29 (dk_at dksX2_putsFlag_0 13 rfl rfl)
theorem dX2_putsFlag_14 : decode cX2_putsFlag 14 = .ok (.iastore, 1) := dk_79 (dk_at dksX2_putsFlag_0 14 rfl rfl)
theorem dX2_putsFlag_15 : decode cX2_putsFlag 15 = .ok (.return_, 1) := dk_177 (dk_at dksX2_putsFlag_0 15 rfl rfl)
abbrev cX2_goesTo : ByteArray := prog_20_method_47_code
def yX2_goesTo : MethodName := ⟨RX2, "goesTo", "(III)V"⟩
def dkwX2_goesTo_0 : List UInt8 := [42, 27, 16, 8, 28, 182, 0, 233, 42, 27, 16, 9, 29, 182, 0, 233, 177]
abbrev dktX2_goesTo_0 : List UInt8 := dkwX2_goesTo_0 ++ []
theorem dksX2_goesTo_0 : cX2_goesTo.data.toList.drop 0 = dktX2_goesTo_0 := by decide +kernel
theorem dX2_goesTo_0 : decode cX2_goesTo 0 = .ok (.aload_n 0, 1) := dk_42 (dk_at dksX2_goesTo_0 0 rfl rfl)
theorem dX2_goesTo_1 : decode cX2_goesTo 1 = .ok (.iload_n 1, 1) := dk_27 (dk_at dksX2_goesTo_0 1 rfl rfl)
theorem dX2_goesTo_2 : decode cX2_goesTo 2 = .ok (.bipush 8, 2) := dk_16 8 (dk_at dksX2_goesTo_0 2 rfl rfl)
theorem dX2_goesTo_4 : decode cX2_goesTo 4 = .ok (.iload_n 2, 1) := dk_28 (dk_at dksX2_goesTo_0 4 rfl rfl)
theorem dX2_goesTo_5 : decode cX2_goesTo 5 = .ok (.invokevirtual 233, 3) := dk_182 0 233 (dk_at dksX2_goesTo_0 5 rfl rfl)
theorem dX2_goesTo_8 : decode cX2_goesTo 8 = .ok (.aload_n 0, 1) := dk_42 (dk_at dksX2_goesTo_0 8 rfl rfl)
theorem dX2_goesTo_9 : decode cX2_goesTo 9 = .ok (.iload_n 1, 1) := dk_27 (dk_at dksX2_goesTo_0 9 rfl rfl)
theorem dX2_goesTo_10 : decode cX2_goesTo 10 = .ok (.bipush 9, 2) := dk_16 9 (dk_at dksX2_goesTo_0 10 rfl rfl)
theorem dX2_goesTo_12 : decode cX2_goesTo 12 = .ok (.iload_n 3, 1) := dk_29 (dk_at dksX2_goesTo_0 12 rfl rfl)
theorem dX2_goesTo_13 : decode cX2_goesTo 13 = .ok (.invokevirtual 233, 3) := dk_182 0 233 (dk_at dksX2_goesTo_0 13 rfl rfl)
theorem dX2_goesTo_16 : decode cX2_goesTo 16 = .ok (.return_, 1) := dk_177 (dk_at dksX2_goesTo_0 16 rfl rfl)
abbrev cX2_readsDeed : ByteArray := prog_20_method_37_code
def yX2_readsDeed : MethodName := ⟨RX2, "readsDeed", "()V"⟩
def dkwX2_readsDeed_3 : List UInt8 := [182, 0, 160, 153, 0, 10, 42, 182, 0, 207, 167, 0, 8, 42, 4, 182, 0, 104, 177]
abbrev dktX2_readsDeed_3 : List UInt8 := dkwX2_readsDeed_3 ++ []
def dkwX2_readsDeed_2 : List UInt8 := [167, 0, 40, 42, 18, 200, 182, 0, 160, 153, 0, 10, 42, 182, 0, 202, 167, 0, 24, 42, 18, 205]
abbrev dktX2_readsDeed_2 : List UInt8 := dkwX2_readsDeed_2 ++ dktX2_readsDeed_3
def dkwX2_readsDeed_1 : List UInt8 := [153, 0, 10, 42, 182, 0, 192, 167, 0, 56, 42, 18, 195, 182, 0, 160, 153, 0, 10, 42, 182, 0, 197]
abbrev dktX2_readsDeed_1 : List UInt8 := dkwX2_readsDeed_1 ++ dktX2_readsDeed_2
def dkwX2_readsDeed_0 : List UInt8 := [42, 18, 185, 182, 0, 160, 153, 0, 10, 42, 182, 0, 187, 167, 0, 72, 42, 18, 190, 182, 0, 160]
abbrev dktX2_readsDeed_0 : List UInt8 := dkwX2_readsDeed_0 ++ dktX2_readsDeed_1
theorem dksX2_readsDeed_0 : cX2_readsDeed.data.toList.drop 0 = dktX2_readsDeed_0 := by decide +kernel
theorem dksX2_readsDeed_1 : cX2_readsDeed.data.toList.drop 22 = dktX2_readsDeed_1 := dk_seg dksX2_readsDeed_0 22 rfl rfl
theorem dksX2_readsDeed_2 : cX2_readsDeed.data.toList.drop 45 = dktX2_readsDeed_2 := dk_seg dksX2_readsDeed_1 23 rfl rfl
theorem dksX2_readsDeed_3 : cX2_readsDeed.data.toList.drop 67 = dktX2_readsDeed_3 := dk_seg dksX2_readsDeed_2 22 rfl rfl
theorem dX2_readsDeed_0 : decode cX2_readsDeed 0 = .ok (.aload_n 0, 1) := dk_42 (dk_at dksX2_readsDeed_0 0 rfl rfl)
theorem dX2_readsDeed_1 : decode cX2_readsDeed 1 = .ok (.ldc 185, 2) := dk_18 185 (dk_at dksX2_readsDeed_0 1 rfl rfl)
theorem dX2_readsDeed_3 : decode cX2_readsDeed 3 = .ok (.invokevirtual 160, 3) := dk_182 0 160 (dk_at dksX2_readsDeed_0 3 rfl rfl)
theorem dX2_readsDeed_6 : decode cX2_readsDeed 6 = .ok (.ifCond .eq 10, 3) := dk_153 0 10 (dk_at dksX2_readsDeed_0 6 rfl rfl)
theorem dX2_readsDeed_9 : decode cX2_readsDeed 9 = .ok (.aload_n 0, 1) := dk_42 (dk_at dksX2_readsDeed_0 9 rfl rfl)
theorem dX2_readsDeed_10 : decode cX2_readsDeed 10 = .ok (.invokevirtual 187, 3) := dk_182 0 187 (dk_at dksX2_readsDeed_0 10 rfl rfl)
theorem dX2_readsDeed_13 : decode cX2_readsDeed 13 = .ok (.goto 72, 3) := dk_167 0 72 (dk_at dksX2_readsDeed_0 13 rfl rfl)
theorem dX2_readsDeed_16 : decode cX2_readsDeed 16 = .ok (.aload_n 0, 1) := dk_42 (dk_at dksX2_readsDeed_0 16 rfl rfl)
theorem dX2_readsDeed_17 : decode cX2_readsDeed 17 = .ok (.ldc 190, 2) := dk_18 190 (dk_at dksX2_readsDeed_0 17 rfl rfl)
theorem dX2_readsDeed_19 : decode cX2_readsDeed 19 = .ok (.invokevirtual 160, 3) := dk_182 0 160 (dk_at dksX2_readsDeed_0 19 rfl rfl)
theorem dX2_readsDeed_22 : decode cX2_readsDeed 22 = .ok (.ifCond .eq 10, 3) := dk_153 0 10 (dk_at dksX2_readsDeed_1 0 rfl rfl)
theorem dX2_readsDeed_25 : decode cX2_readsDeed 25 = .ok (.aload_n 0, 1) := dk_42 (dk_at dksX2_readsDeed_1 3 rfl rfl)
theorem dX2_readsDeed_26 : decode cX2_readsDeed 26 = .ok (.invokevirtual 192, 3) := dk_182 0 192 (dk_at dksX2_readsDeed_1 4 rfl rfl)
theorem dX2_readsDeed_29 : decode cX2_readsDeed 29 = .ok (.goto 56, 3) := dk_167 0 56 (dk_at dksX2_readsDeed_1 7 rfl rfl)
theorem dX2_readsDeed_32 : decode cX2_readsDeed 32 = .ok (.aload_n 0, 1) := dk_42 (dk_at dksX2_readsDeed_1 10 rfl rfl)
theorem dX2_readsDeed_33 : decode cX2_readsDeed 33 = .ok (.ldc 195, 2) := dk_18 195 (dk_at dksX2_readsDeed_1 11 rfl rfl)
theorem dX2_readsDeed_35 : decode cX2_readsDeed 35 = .ok (.invokevirtual 160, 3) := dk_182 0 160 (dk_at dksX2_readsDeed_1 13 rfl rfl)
theorem dX2_readsDeed_38 : decode cX2_readsDeed 38 = .ok (.ifCond .eq 10, 3) := dk_153 0 10 (dk_at dksX2_readsDeed_1 16 rfl rfl)
theorem dX2_readsDeed_41 : decode cX2_readsDeed 41 = .ok (.aload_n 0, 1) := dk_42 (dk_at dksX2_readsDeed_1 19 rfl rfl)
theorem dX2_readsDeed_42 : decode cX2_readsDeed 42 = .ok (.invokevirtual 197, 3) := dk_182 0 197 (dk_at dksX2_readsDeed_1 20 rfl rfl)
theorem dX2_readsDeed_45 : decode cX2_readsDeed 45 = .ok (.goto 40, 3) := dk_167 0 40 (dk_at dksX2_readsDeed_2 0 rfl rfl)
theorem dX2_readsDeed_48 : decode cX2_readsDeed 48 = .ok (.aload_n 0, 1) := dk_42 (dk_at dksX2_readsDeed_2 3 rfl rfl)
theorem dX2_readsDeed_49 : decode cX2_readsDeed 49 = .ok (.ldc 200, 2) := dk_18 200 (dk_at dksX2_readsDeed_2 4 rfl rfl)
theorem dX2_readsDeed_51 : decode cX2_readsDeed 51 = .ok (.invokevirtual 160, 3) := dk_182 0 160 (dk_at dksX2_readsDeed_2 6 rfl rfl)
theorem dX2_readsDeed_54 : decode cX2_readsDeed 54 = .ok (.ifCond .eq 10, 3) := dk_153 0 10 (dk_at dksX2_readsDeed_2 9 rfl rfl)
theorem dX2_readsDeed_57 : decode cX2_readsDeed 57 = .ok (.aload_n 0, 1) := dk_42 (dk_at dksX2_readsDeed_2 12 rfl rfl)
theorem dX2_readsDeed_58 : decode cX2_readsDeed 58 = .ok (.invokevirtual 202, 3) := dk_182 0 202 (dk_at dksX2_readsDeed_2 13 rfl rfl)
theorem dX2_readsDeed_61 : decode cX2_readsDeed 61 = .ok (.goto 24, 3) := dk_167 0 24 (dk_at dksX2_readsDeed_2 16 rfl rfl)
theorem dX2_readsDeed_64 : decode cX2_readsDeed 64 = .ok (.aload_n 0, 1) := dk_42 (dk_at dksX2_readsDeed_2 19 rfl rfl)
theorem dX2_readsDeed_65 : decode cX2_readsDeed 65 = .ok (.ldc 205, 2) := dk_18 205 (dk_at dksX2_readsDeed_2 20 rfl rfl)
theorem dX2_readsDeed_67 : decode cX2_readsDeed 67 = .ok (.invokevirtual 160, 3) := dk_182 0 160 (dk_at dksX2_readsDeed_3 0 rfl rfl)
theorem dX2_readsDeed_70 : decode cX2_readsDeed 70 = .ok (.ifCond .eq 10, 3) := dk_153 0 10 (dk_at dksX2_readsDeed_3 3 rfl rfl)
theorem dX2_readsDeed_73 : decode cX2_readsDeed 73 = .ok (.aload_n 0, 1) := dk_42 (dk_at dksX2_readsDeed_3 6 rfl rfl)
theorem dX2_readsDeed_74 : decode cX2_readsDeed 74 = .ok (.invokevirtual 207, 3) := dk_182 0 207 (dk_at dksX2_readsDeed_3 7 rfl rfl)
theorem dX2_readsDeed_77 : decode cX2_readsDeed 77 = .ok (.goto 8, 3) := dk_167 0 8 (dk_at dksX2_readsDeed_3 10 rfl rfl)
theorem dX2_readsDeed_80 : decode cX2_readsDeed 80 = .ok (.aload_n 0, 1) := dk_42 (dk_at dksX2_readsDeed_3 13 rfl rfl)
theorem dX2_readsDeed_81 : decode cX2_readsDeed 81 = .ok (.iconst 1, 1) := dk_4 (dk_at dksX2_readsDeed_3 14 rfl rfl)
theorem dX2_readsDeed_82 : decode cX2_readsDeed 82 = .ok (.invokevirtual 104, 3) := dk_182 0 104 (dk_at dksX2_readsDeed_3 15 rfl rfl)
theorem dX2_readsDeed_85 : decode cX2_readsDeed 85 = .ok (.return_, 1) := dk_177 (dk_at dksX2_readsDeed_3 18 rfl rfl)
abbrev cX2_readsPut : ByteArray := prog_20_method_31_code
def yX2_readsPut : MethodName := ⟨RX2, "readsPut", "()V"⟩
def dkwX2_readsPut_3 : List UInt8 := [42, 182, 0, 111, 177]
abbrev dktX2_readsPut_3 : List UInt8 := dkwX2_readsPut_3 ++ []
def dkwX2_readsPut_2 : List UInt8 := [182, 0, 137, 153, 0, 8, 42, 6, 182, 0, 104, 42, 180, 0, 62, 154, 0, 9, 42, 27, 28, 182, 0, 140]
abbrev dktX2_readsPut_2 : List UInt8 := dkwX2_readsPut_2 ++ dktX2_readsPut_3
def dkwX2_readsPut_1 : List UInt8 := [180, 0, 9, 16, 8, 46, 4, 100, 182, 0, 107, 61, 42, 180, 0, 62, 154, 0, 17, 42, 27, 28]
abbrev dktX2_readsPut_1 : List UInt8 := dkwX2_readsPut_1 ++ dktX2_readsPut_2
def dkwX2_readsPut_0 : List UInt8 := [42, 182, 0, 111, 42, 3, 42, 180, 0, 9, 16, 10, 46, 4, 100, 182, 0, 118, 60, 42, 3, 42]
abbrev dktX2_readsPut_0 : List UInt8 := dkwX2_readsPut_0 ++ dktX2_readsPut_1
theorem dksX2_readsPut_0 : cX2_readsPut.data.toList.drop 0 = dktX2_readsPut_0 := by decide +kernel
theorem dksX2_readsPut_1 : cX2_readsPut.data.toList.drop 22 = dktX2_readsPut_1 := dk_seg dksX2_readsPut_0 22 rfl rfl
theorem dksX2_readsPut_2 : cX2_readsPut.data.toList.drop 44 = dktX2_readsPut_2 := dk_seg dksX2_readsPut_1 22 rfl rfl
theorem dksX2_readsPut_3 : cX2_readsPut.data.toList.drop 68 = dktX2_readsPut_3 := dk_seg dksX2_readsPut_2 24 rfl rfl
theorem dX2_readsPut_0 : decode cX2_readsPut 0 = .ok (.aload_n 0, 1) := dk_42 (dk_at dksX2_readsPut_0 0 rfl rfl)
theorem dX2_readsPut_1 : decode cX2_readsPut 1 = .ok (.invokevirtual 111, 3) := dk_182 0 111 (dk_at dksX2_readsPut_0 1 rfl rfl)
theorem dX2_readsPut_4 : decode cX2_readsPut 4 = .ok (.aload_n 0, 1) := dk_42 (dk_at dksX2_readsPut_0 4 rfl rfl)
theorem dX2_readsPut_5 : decode cX2_readsPut 5 = .ok (.iconst 0, 1) := dk_3 (dk_at dksX2_readsPut_0 5 rfl rfl)
theorem dX2_readsPut_6 : decode cX2_readsPut 6 = .ok (.aload_n 0, 1) := dk_42 (dk_at dksX2_readsPut_0 6 rfl rfl)
theorem dX2_readsPut_7 : decode cX2_readsPut 7 = .ok (.getfield 9, 3) := dk_180 0 9 (dk_at dksX2_readsPut_0 7 rfl rfl)
theorem dX2_readsPut_10 : decode cX2_readsPut 10 = .ok (.bipush 10, 2) := dk_16 10 (dk_at dksX2_readsPut_0 10 rfl rfl)
theorem dX2_readsPut_12 : decode cX2_readsPut 12 = .ok (.iaload, 1) := dk_46 (dk_at dksX2_readsPut_0 12 rfl rfl)
theorem dX2_readsPut_13 : decode cX2_readsPut 13 = .ok (.iconst 1, 1) := dk_4 (dk_at dksX2_readsPut_0 13 rfl rfl)
theorem dX2_readsPut_14 : decode cX2_readsPut 14 = .ok (.isub, 1) := dk_100 (dk_at dksX2_readsPut_0 14 rfl rfl)
theorem dX2_readsPut_15 : decode cX2_readsPut 15 = .ok (.invokevirtual 118, 3) := dk_182 0 118 (dk_at dksX2_readsPut_0 15 rfl rfl)
theorem dX2_readsPut_18 : decode cX2_readsPut 18 = .ok (.istore_n 1, 1) := dk_60 (dk_at dksX2_readsPut_0 18 rfl rfl)
theorem dX2_readsPut_19 : decode cX2_readsPut 19 = .ok (.aload_n 0, 1) := dk_42 (dk_at dksX2_readsPut_0 19 rfl rfl)
theorem dX2_readsPut_20 : decode cX2_readsPut 20 = .ok (.iconst 0, 1) := dk_3 (dk_at dksX2_readsPut_0 20 rfl rfl)
theorem dX2_readsPut_21 : decode cX2_readsPut 21 = .ok (.aload_n 0, 1) := dk_42 (dk_at dksX2_readsPut_0 21 rfl rfl)
theorem dX2_readsPut_22 : decode cX2_readsPut 22 = .ok (.getfield 9, 3) := dk_180 0 9 (dk_at dksX2_readsPut_1 0 rfl rfl)
theorem dX2_readsPut_25 : decode cX2_readsPut 25 = .ok (.bipush 8, 2) := dk_16 8 (dk_at dksX2_readsPut_1 3 rfl rfl)
theorem dX2_readsPut_27 : decode cX2_readsPut 27 = .ok (.iaload, 1) := dk_46 (dk_at dksX2_readsPut_1 5 rfl rfl)
theorem dX2_readsPut_28 : decode cX2_readsPut 28 = .ok (.iconst 1, 1) := dk_4 (dk_at dksX2_readsPut_1 6 rfl rfl)
theorem dX2_readsPut_29 : decode cX2_readsPut 29 = .ok (.isub, 1) := dk_100 (dk_at dksX2_readsPut_1 7 rfl rfl)
theorem dX2_readsPut_30 : decode cX2_readsPut 30 = .ok (.invokevirtual 107, 3) := dk_182 0 107 (dk_at dksX2_readsPut_1 8 rfl rfl)
theorem dX2_readsPut_33 : decode cX2_readsPut 33 = .ok (.istore_n 2, 1) := dk_61 (dk_at dksX2_readsPut_1 11 rfl rfl)
theorem dX2_readsPut_34 : decode cX2_readsPut 34 = .ok (.aload_n 0, 1) := dk_42 (dk_at dksX2_readsPut_1 12 rfl rfl)
theorem dX2_readsPut_35 : decode cX2_readsPut 35 = .ok (.getfield 62, 3) := dk_180 0 62 (dk_at dksX2_readsPut_1 13 rfl rfl)
theorem dX2_readsPut_38 : decode cX2_readsPut 38 = .ok (.ifCond .ne 17, 3) := dk_154 0 17 (dk_at dksX2_readsPut_1 16 rfl rfl)
theorem dX2_readsPut_41 : decode cX2_readsPut 41 = .ok (.aload_n 0, 1) := dk_42 (dk_at dksX2_readsPut_1 19 rfl rfl)
theorem dX2_readsPut_42 : decode cX2_readsPut 42 = .ok (.iload_n 1, 1) := dk_27 (dk_at dksX2_readsPut_1 20 rfl rfl)
theorem dX2_readsPut_43 : decode cX2_readsPut 43 = .ok (.iload_n 2, 1) := dk_28 (dk_at dksX2_readsPut_1 21 rfl rfl)
theorem dX2_readsPut_44 : decode cX2_readsPut 44 = .ok (.invokevirtual 137, 3) := dk_182 0 137 (dk_at dksX2_readsPut_2 0 rfl rfl)
theorem dX2_readsPut_47 : decode cX2_readsPut 47 = .ok (.ifCond .eq 8, 3) := dk_153 0 8 (dk_at dksX2_readsPut_2 3 rfl rfl)
theorem dX2_readsPut_50 : decode cX2_readsPut 50 = .ok (.aload_n 0, 1) := dk_42 (dk_at dksX2_readsPut_2 6 rfl rfl)
theorem dX2_readsPut_51 : decode cX2_readsPut 51 = .ok (.iconst 3, 1) := dk_6 (dk_at dksX2_readsPut_2 7 rfl rfl)
theorem dX2_readsPut_52 : decode cX2_readsPut 52 = .ok (.invokevirtual 104, 3) := dk_182 0 104 (dk_at dksX2_readsPut_2 8 rfl rfl)
theorem dX2_readsPut_55 : decode cX2_readsPut 55 = .ok (.aload_n 0, 1) := dk_42 (dk_at dksX2_readsPut_2 11 rfl rfl)
theorem dX2_readsPut_56 : decode cX2_readsPut 56 = .ok (.getfield 62, 3) := dk_180 0 62 (dk_at dksX2_readsPut_2 12 rfl rfl)
theorem dX2_readsPut_59 : decode cX2_readsPut 59 = .ok (.ifCond .ne 9, 3) := dk_154 0 9 (dk_at dksX2_readsPut_2 15 rfl rfl)
theorem dX2_readsPut_62 : decode cX2_readsPut 62 = .ok (.aload_n 0, 1) := dk_42 (dk_at dksX2_readsPut_2 18 rfl rfl)
theorem dX2_readsPut_63 : decode cX2_readsPut 63 = .ok (.iload_n 1, 1) := dk_27 (dk_at dksX2_readsPut_2 19 rfl rfl)
theorem dX2_readsPut_64 : decode cX2_readsPut 64 = .ok (.iload_n 2, 1) := dk_28 (dk_at dksX2_readsPut_2 20 rfl rfl)
theorem dX2_readsPut_65 : decode cX2_readsPut 65 = .ok (.invokevirtual 140, 3) := dk_182 0 140 (dk_at dksX2_readsPut_2 21 rfl rfl)
theorem dX2_readsPut_68 : decode cX2_readsPut 68 = .ok (.aload_n 0, 1) := dk_42 (dk_at dksX2_readsPut_3 0 rfl rfl)
theorem dX2_readsPut_69 : decode cX2_readsPut 69 = .ok (.invokevirtual 111, 3) := dk_182 0 111 (dk_at dksX2_readsPut_3 1 rfl rfl)
theorem dX2_readsPut_72 : decode cX2_readsPut 72 = .ok (.return_, 1) := dk_177 (dk_at dksX2_readsPut_3 4 rfl rfl)
abbrev cX2_whyPut : ByteArray := prog_20_method_52_code
def yX2_whyPut : MethodName := ⟨RX2, "whyPut", "(II)I"⟩
def dkwX2_whyPut_1 : List UInt8 := [162, 0, 7, 3, 167, 0, 4, 5, 172]
abbrev dktX2_whyPut_1 : List UInt8 := dkwX2_whyPut_1 ++ []
def dkwX2_whyPut_0 : List UInt8 := [42, 27, 182, 0, 249, 154, 0, 5, 4, 172, 42, 28, 182, 0, 252, 42, 180, 0, 9, 16, 38, 28, 96, 46]
abbrev dktX2_whyPut_0 : List UInt8 := dkwX2_whyPut_0 ++ dktX2_whyPut_1
theorem dksX2_whyPut_0 : cX2_whyPut.data.toList.drop 0 = dktX2_whyPut_0 := by decide +kernel
theorem dksX2_whyPut_1 : cX2_whyPut.data.toList.drop 24 = dktX2_whyPut_1 := dk_seg dksX2_whyPut_0 24 rfl rfl
theorem dX2_whyPut_0 : decode cX2_whyPut 0 = .ok (.aload_n 0, 1) := dk_42 (dk_at dksX2_whyPut_0 0 rfl rfl)
theorem dX2_whyPut_1 : decode cX2_whyPut 1 = .ok (.iload_n 1, 1) := dk_27 (dk_at dksX2_whyPut_0 1 rfl rfl)
theorem dX2_whyPut_2 : decode cX2_whyPut 2 = .ok (.invokevirtual 249, 3) := dk_182 0 249 (dk_at dksX2_whyPut_0 2 rfl rfl)
theorem dX2_whyPut_5 : decode cX2_whyPut 5 = .ok (.ifCond .ne 5, 3) := dk_154 0 5 (dk_at dksX2_whyPut_0 5 rfl rfl)
theorem dX2_whyPut_8 : decode cX2_whyPut 8 = .ok (.iconst 1, 1) := dk_4 (dk_at dksX2_whyPut_0 8 rfl rfl)
theorem dX2_whyPut_9 : decode cX2_whyPut 9 = .ok (.ireturn, 1) := dk_172 (dk_at dksX2_whyPut_0 9 rfl rfl)
theorem dX2_whyPut_10 : decode cX2_whyPut 10 = .ok (.aload_n 0, 1) := dk_42 (dk_at dksX2_whyPut_0 10 rfl rfl)
theorem dX2_whyPut_11 : decode cX2_whyPut 11 = .ok (.iload_n 2, 1) := dk_28 (dk_at dksX2_whyPut_0 11 rfl rfl)
theorem dX2_whyPut_12 : decode cX2_whyPut 12 = .ok (.invokevirtual 252, 3) := dk_182 0 252 (dk_at dksX2_whyPut_0 12 rfl rfl)
theorem dX2_whyPut_15 : decode cX2_whyPut 15 = .ok (.aload_n 0, 1) := dk_42 (dk_at dksX2_whyPut_0 15 rfl rfl)
theorem dX2_whyPut_16 : decode cX2_whyPut 16 = .ok (.getfield 9, 3) := dk_180 0 9 (dk_at dksX2_whyPut_0 16 rfl rfl)
theorem dX2_whyPut_19 : decode cX2_whyPut 19 = .ok (.bipush 38, 2) := dk_16 38 (dk_at dksX2_whyPut_0 19 rfl rfl)
theorem dX2_whyPut_21 : decode cX2_whyPut 21 = .ok (.iload_n 2, 1) := dk_28 (dk_at dksX2_whyPut_0 21 rfl rfl)
theorem dX2_whyPut_22 : decode cX2_whyPut 22 = .ok (.iadd, 1) := dk_96 (dk_at dksX2_whyPut_0 22 rfl rfl)
theorem dX2_whyPut_23 : decode cX2_whyPut 23 = .ok (.iaload, 1) := dk_46 (dk_at dksX2_whyPut_0 23 rfl rfl)
theorem dX2_whyPut_24 : decode cX2_whyPut 24 = .ok (.if_icmp .ge 7, 3) := dk_162 0 7 (dk_at dksX2_whyPut_1 0 rfl rfl)
theorem dX2_whyPut_27 : decode cX2_whyPut 27 = .ok (.iconst 0, 1) := dk_3 (dk_at dksX2_whyPut_1 3 rfl rfl)
theorem dX2_whyPut_28 : decode cX2_whyPut 28 = .ok (.goto 4, 3) := dk_167 0 4 (dk_at dksX2_whyPut_1 4 rfl rfl)
theorem dX2_whyPut_31 : decode cX2_whyPut 31 = .ok (.iconst 2, 1) := dk_5 (dk_at dksX2_whyPut_1 7 rfl rfl)
theorem dX2_whyPut_32 : decode cX2_whyPut 32 = .ok (.ireturn, 1) := dk_172 (dk_at dksX2_whyPut_1 8 rfl rfl)
abbrev cX2_isInBasket : ByteArray := prog_20_method_45_code
def yX2_isInBasket : MethodName := ⟨RX2, "isInBasket", "(I)Z"⟩
def dkwX2_isInBasket_0 : List UInt8 := [42, 27, 182, 0, 230, 154, 0, 7, 4, 167, 0, 4, 3, 172]
abbrev dktX2_isInBasket_0 : List UInt8 := dkwX2_isInBasket_0 ++ []
theorem dksX2_isInBasket_0 : cX2_isInBasket.data.toList.drop 0 = dktX2_isInBasket_0 := by decide +kernel
theorem dX2_isInBasket_0 : decode cX2_isInBasket 0 = .ok (.aload_n 0, 1) := dk_42 (dk_at dksX2_isInBasket_0 0 rfl rfl)
theorem dX2_isInBasket_1 : decode cX2_isInBasket 1 = .ok (.iload_n 1, 1) := dk_27 (dk_at dksX2_isInBasket_0 1 rfl rfl)
theorem dX2_isInBasket_2 : decode cX2_isInBasket 2 = .ok (.invokevirtual 230, 3) := dk_182 0 230 (dk_at dksX2_isInBasket_0 2 rfl rfl)
theorem dX2_isInBasket_5 : decode cX2_isInBasket 5 = .ok (.ifCond .ne 7, 3) := dk_154 0 7 (dk_at dksX2_isInBasket_0 5 rfl rfl)
theorem dX2_isInBasket_8 : decode cX2_isInBasket 8 = .ok (.iconst 1, 1) := dk_4 (dk_at dksX2_isInBasket_0 8 rfl rfl)
theorem dX2_isInBasket_9 : decode cX2_isInBasket 9 = .ok (.goto 4, 3) := dk_167 0 4 (dk_at dksX2_isInBasket_0 9 rfl rfl)
theorem dX2_isInBasket_12 : decode cX2_isInBasket 12 = .ok (.iconst 0, 1) := dk_3 (dk_at dksX2_isInBasket_0 12 rfl rfl)
theorem dX2_isInBasket_13 : decode cX2_isInBasket 13 = .ok (.ireturn, 1) := dk_172 (dk_at dksX2_isInBasket_0 13 rfl rfl)
abbrev cX2_where : ByteArray := prog_20_method_44_code
def yX2_where : MethodName := ⟨RX2, "where", "(I)I"⟩
def dkwX2_where_0 : List UInt8 := [42, 27, 16, 8, 182, 0, 227, 172]
abbrev dktX2_where_0 : List UInt8 := dkwX2_where_0 ++ []
theorem dksX2_where_0 : cX2_where.data.toList.drop 0 = dktX2_where_0 := by decide +kernel
theorem dX2_where_0 : decode cX2_where 0 = .ok (.aload_n 0, 1) := dk_42 (dk_at dksX2_where_0 0 rfl rfl)
theorem dX2_where_1 : decode cX2_where 1 = .ok (.iload_n 1, 1) := dk_27 (dk_at dksX2_where_0 1 rfl rfl)
theorem dX2_where_2 : decode cX2_where 2 = .ok (.bipush 8, 2) := dk_16 8 (dk_at dksX2_where_0 2 rfl rfl)
theorem dX2_where_4 : decode cX2_where 4 = .ok (.invokevirtual 227, 3) := dk_182 0 227 (dk_at dksX2_where_0 4 rfl rfl)
theorem dX2_where_7 : decode cX2_where 7 = .ok (.ireturn, 1) := dk_172 (dk_at dksX2_where_0 7 rfl rfl)
abbrev cX2_ofFlag : ByteArray := prog_20_method_42_code
def yX2_ofFlag : MethodName := ⟨RX2, "ofFlag", "(II)I"⟩
def dkwX2_ofFlag_0 : List UInt8 := [42, 180, 0, 9, 16, 41, 16, 11, 27, 104, 96, 28, 96, 46, 172]
abbrev dktX2_ofFlag_0 : List UInt8 := dkwX2_ofFlag_0 ++ []
theorem dksX2_ofFlag_0 : cX2_ofFlag.data.toList.drop 0 = dktX2_ofFlag_0 := by decide +kernel
theorem dX2_ofFlag_0 : decode cX2_ofFlag 0 = .ok (.aload_n 0, 1) := dk_42 (dk_at dksX2_ofFlag_0 0 rfl rfl)
theorem dX2_ofFlag_1 : decode cX2_ofFlag 1 = .ok (.getfield 9, 3) := dk_180 0 9 (dk_at dksX2_ofFlag_0 1 rfl rfl)
theorem dX2_ofFlag_4 : decode cX2_ofFlag 4 = .ok (.bipush 41, 2) := dk_16 41 (dk_at dksX2_ofFlag_0 4 rfl rfl)
theorem dX2_ofFlag_6 : decode cX2_ofFlag 6 = .ok (.bipush 11, 2) := dk_16 11 (dk_at dksX2_ofFlag_0 6 rfl rfl)
theorem dX2_ofFlag_8 : decode cX2_ofFlag 8 = .ok (.iload_n 1, 1) := dk_27 (dk_at dksX2_ofFlag_0 8 rfl rfl)
theorem dX2_ofFlag_9 : decode cX2_ofFlag 9 = .ok (.imul, 1) := dk_104 (dk_at dksX2_ofFlag_0 9 rfl rfl)
theorem dX2_ofFlag_10 : decode cX2_ofFlag 10 = .ok (.iadd, 1) := dk_96 (dk_at dksX2_ofFlag_0 10 rfl rfl)
theorem dX2_ofFlag_11 : decode cX2_ofFlag 11 = .ok (.iload_n 2, 1) := dk_28 (dk_at dksX2_ofFlag_0 11 rfl rfl)
theorem dX2_ofFlag_12 : decode cX2_ofFlag 12 = .ok (.iadd, 1) := dk_96 (dk_at dksX2_ofFlag_0 12 rfl rfl)
theorem dX2_ofFlag_13 : decode cX2_ofFlag 13 = .ok (.iaload, 1) := dk_46 (dk_at dksX2_ofFlag_0 13 rfl rfl)
theorem dX2_ofFlag_14 : decode cX2_ofFlag 14 = .ok (.ireturn, 1) := dk_172 (dk_at dksX2_ofFlag_0 14 rfl rfl)
abbrev cX2_manyIn : ByteArray := prog_20_method_51_code
def yX2_manyIn : MethodName := ⟨RX2, "manyIn", "(I)I"⟩
def dkwX2_manyIn_1 : List UInt8 := [184, 0, 245, 96, 61, 132, 3, 1, 167, 255, 230, 28, 172]
abbrev dktX2_manyIn_1 : List UInt8 := dkwX2_manyIn_1 ++ []
def dkwX2_manyIn_0 : List UInt8 := [3, 61, 3, 62, 29, 42, 180, 0, 9, 16, 10, 46, 162, 0, 21, 28, 42, 29, 27, 182, 0, 242]
abbrev dktX2_manyIn_0 : List UInt8 := dkwX2_manyIn_0 ++ dktX2_manyIn_1
theorem dksX2_manyIn_0 : cX2_manyIn.data.toList.drop 0 = dktX2_manyIn_0 := by decide +kernel
theorem dksX2_manyIn_1 : cX2_manyIn.data.toList.drop 22 = dktX2_manyIn_1 := dk_seg dksX2_manyIn_0 22 rfl rfl
theorem dX2_manyIn_0 : decode cX2_manyIn 0 = .ok (.iconst 0, 1) := dk_3 (dk_at dksX2_manyIn_0 0 rfl rfl)
theorem dX2_manyIn_1 : decode cX2_manyIn 1 = .ok (.istore_n 2, 1) := dk_61 (dk_at dksX2_manyIn_0 1 rfl rfl)
theorem dX2_manyIn_2 : decode cX2_manyIn 2 = .ok (.iconst 0, 1) := dk_3 (dk_at dksX2_manyIn_0 2 rfl rfl)
theorem dX2_manyIn_3 : decode cX2_manyIn 3 = .ok (.istore_n 3, 1) := dk_62 (dk_at dksX2_manyIn_0 3 rfl rfl)
theorem dX2_manyIn_4 : decode cX2_manyIn 4 = .ok (.iload_n 3, 1) := dk_29 (dk_at dksX2_manyIn_0 4 rfl rfl)
theorem dX2_manyIn_5 : decode cX2_manyIn 5 = .ok (.aload_n 0, 1) := dk_42 (dk_at dksX2_manyIn_0 5 rfl rfl)
theorem dX2_manyIn_6 : decode cX2_manyIn 6 = .ok (.getfield 9, 3) := dk_180 0 9 (dk_at dksX2_manyIn_0 6 rfl rfl)
theorem dX2_manyIn_9 : decode cX2_manyIn 9 = .ok (.bipush 10, 2) := dk_16 10 (dk_at dksX2_manyIn_0 9 rfl rfl)
theorem dX2_manyIn_11 : decode cX2_manyIn 11 = .ok (.iaload, 1) := dk_46 (dk_at dksX2_manyIn_0 11 rfl rfl)
theorem dX2_manyIn_12 : decode cX2_manyIn 12 = .ok (.if_icmp .ge 21, 3) := dk_162 0 21 (dk_at dksX2_manyIn_0 12 rfl rfl)
theorem dX2_manyIn_15 : decode cX2_manyIn 15 = .ok (.iload_n 2, 1) := dk_28 (dk_at dksX2_manyIn_0 15 rfl rfl)
theorem dX2_manyIn_16 : decode cX2_manyIn 16 = .ok (.aload_n 0, 1) := dk_42 (dk_at dksX2_manyIn_0 16 rfl rfl)
theorem dX2_manyIn_17 : decode cX2_manyIn 17 = .ok (.iload_n 3, 1) := dk_29 (dk_at dksX2_manyIn_0 17 rfl rfl)
theorem dX2_manyIn_18 : decode cX2_manyIn 18 = .ok (.iload_n 1, 1) := dk_27 (dk_at dksX2_manyIn_0 18 rfl rfl)
theorem dX2_manyIn_19 : decode cX2_manyIn 19 = .ok (.invokevirtual 242, 3) := dk_182 0 242 (dk_at dksX2_manyIn_0 19 rfl rfl)
theorem dX2_manyIn_22 : decode cX2_manyIn 22 = .ok (.invokestatic 245, 3) := dk_184 0 245 (dk_at dksX2_manyIn_1 0 rfl rfl)
theorem dX2_manyIn_25 : decode cX2_manyIn 25 = .ok (.iadd, 1) := dk_96 (dk_at dksX2_manyIn_1 3 rfl rfl)
theorem dX2_manyIn_26 : decode cX2_manyIn 26 = .ok (.istore_n 2, 1) := dk_61 (dk_at dksX2_manyIn_1 4 rfl rfl)
theorem dX2_manyIn_27 : decode cX2_manyIn 27 = .ok (.iinc 3 1, 3) := dk_132 3 1 (dk_at dksX2_manyIn_1 5 rfl rfl)
theorem dX2_manyIn_30 : decode cX2_manyIn 30 = .ok (.goto (-26), 3) := dk_167 255 230 (dk_at dksX2_manyIn_1 8 rfl rfl)
theorem dX2_manyIn_33 : decode cX2_manyIn 33 = .ok (.iload_n 2, 1) := dk_28 (dk_at dksX2_manyIn_1 11 rfl rfl)
theorem dX2_manyIn_34 : decode cX2_manyIn 34 = .ok (.ireturn, 1) := dk_172 (dk_at dksX2_manyIn_1 12 rfl rfl)
abbrev cX2_isInTub : ByteArray := prog_20_method_46_code
def yX2_isInTub : MethodName := ⟨RX2, "isInTub", "(II)Z"⟩
def dkwX2_isInTub_1 : List UInt8 := [3, 172]
abbrev dktX2_isInTub_1 : List UInt8 := dkwX2_isInTub_1 ++ []
def dkwX2_isInTub_0 : List UInt8 := [42, 27, 182, 0, 230, 4, 160, 0, 18, 42, 27, 16, 9, 182, 0, 227, 28, 160, 0, 7, 4, 167, 0, 4]
abbrev dktX2_isInTub_0 : List UInt8 := dkwX2_isInTub_0 ++ dktX2_isInTub_1
theorem dksX2_isInTub_0 : cX2_isInTub.data.toList.drop 0 = dktX2_isInTub_0 := by decide +kernel
theorem dksX2_isInTub_1 : cX2_isInTub.data.toList.drop 24 = dktX2_isInTub_1 := dk_seg dksX2_isInTub_0 24 rfl rfl
theorem dX2_isInTub_0 : decode cX2_isInTub 0 = .ok (.aload_n 0, 1) := dk_42 (dk_at dksX2_isInTub_0 0 rfl rfl)
theorem dX2_isInTub_1 : decode cX2_isInTub 1 = .ok (.iload_n 1, 1) := dk_27 (dk_at dksX2_isInTub_0 1 rfl rfl)
theorem dX2_isInTub_2 : decode cX2_isInTub 2 = .ok (.invokevirtual 230, 3) := dk_182 0 230 (dk_at dksX2_isInTub_0 2 rfl rfl)
theorem dX2_isInTub_5 : decode cX2_isInTub 5 = .ok (.iconst 1, 1) := dk_4 (dk_at dksX2_isInTub_0 5 rfl rfl)
theorem dX2_isInTub_6 : decode cX2_isInTub 6 = .ok (.if_icmp .ne 18, 3) := dk_160 0 18 (dk_at dksX2_isInTub_0 6 rfl rfl)
theorem dX2_isInTub_9 : decode cX2_isInTub 9 = .ok (.aload_n 0, 1) := dk_42 (dk_at dksX2_isInTub_0 9 rfl rfl)
theorem dX2_isInTub_10 : decode cX2_isInTub 10 = .ok (.iload_n 1, 1) := dk_27 (dk_at dksX2_isInTub_0 10 rfl rfl)
theorem dX2_isInTub_11 : decode cX2_isInTub 11 = .ok (.bipush 9, 2) := dk_16 9 (dk_at dksX2_isInTub_0 11 rfl rfl)
theorem dX2_isInTub_13 : decode cX2_isInTub 13 = .ok (.invokevirtual 227, 3) := dk_182 0 227 (dk_at dksX2_isInTub_0 13 rfl rfl)
theorem dX2_isInTub_16 : decode cX2_isInTub 16 = .ok (.iload_n 2, 1) := dk_28 (dk_at dksX2_isInTub_0 16 rfl rfl)
theorem dX2_isInTub_17 : decode cX2_isInTub 17 = .ok (.if_icmp .ne 7, 3) := dk_160 0 7 (dk_at dksX2_isInTub_0 17 rfl rfl)
theorem dX2_isInTub_20 : decode cX2_isInTub 20 = .ok (.iconst 1, 1) := dk_4 (dk_at dksX2_isInTub_0 20 rfl rfl)
theorem dX2_isInTub_21 : decode cX2_isInTub 21 = .ok (.goto 4, 3) := dk_167 0 4 (dk_at dksX2_isInTub_0 21 rfl rfl)
theorem dX2_isInTub_24 : decode cX2_isInTub 24 = .ok (.iconst 0, 1) := dk_3 (dk_at dksX2_isInTub_1 0 rfl rfl)
theorem dX2_isInTub_25 : decode cX2_isInTub 25 = .ok (.ireturn, 1) := dk_172 (dk_at dksX2_isInTub_1 1 rfl rfl)
abbrev cX2_one : ByteArray := prog_20_method_4_code
def yX2_one : MethodName := ⟨RX2, "one", "(Z)I"⟩
def dkwX2_one_0 : List UInt8 := [26, 153, 0, 7, 4, 167, 0, 4, 3, 172]
abbrev dktX2_one_0 : List UInt8 := dkwX2_one_0 ++ []
theorem dksX2_one_0 : cX2_one.data.toList.drop 0 = dktX2_one_0 := by decide +kernel
theorem dX2_one_0 : decode cX2_one 0 = .ok (.iload_n 0, 1) := dk_26 (dk_at dksX2_one_0 0 rfl rfl)
theorem dX2_one_1 : decode cX2_one 1 = .ok (.ifCond .eq 7, 3) := dk_153 0 7 (dk_at dksX2_one_0 1 rfl rfl)
theorem dX2_one_4 : decode cX2_one 4 = .ok (.iconst 1, 1) := dk_4 (dk_at dksX2_one_0 4 rfl rfl)
theorem dX2_one_5 : decode cX2_one 5 = .ok (.goto 4, 3) := dk_167 0 4 (dk_at dksX2_one_0 5 rfl rfl)
theorem dX2_one_8 : decode cX2_one 8 = .ok (.iconst 0, 1) := dk_3 (dk_at dksX2_one_0 8 rfl rfl)
theorem dX2_one_9 : decode cX2_one 9 = .ok (.ireturn, 1) := dk_172 (dk_at dksX2_one_0 9 rfl rfl)
abbrev cX2_putsInto : ByteArray := prog_20_method_53_code
def yX2_putsInto : MethodName := ⟨RX2, "putsInto", "(II)V"⟩
def dkwX2_putsInto_1 : List UInt8 := [180, 0, 9, 16, 11, 92, 46, 4, 96, 79, 177]
abbrev dktX2_putsInto_1 : List UInt8 := dkwX2_putsInto_1 ++ []
def dkwX2_putsInto_0 : List UInt8 := [42, 27, 4, 28, 182, 0, 236, 42, 27, 16, 10, 42, 180, 0, 9, 16, 11, 46, 182, 0, 233, 42]
abbrev dktX2_putsInto_0 : List UInt8 := dkwX2_putsInto_0 ++ dktX2_putsInto_1
theorem dksX2_putsInto_0 : cX2_putsInto.data.toList.drop 0 = dktX2_putsInto_0 := by decide +kernel
theorem dksX2_putsInto_1 : cX2_putsInto.data.toList.drop 22 = dktX2_putsInto_1 := dk_seg dksX2_putsInto_0 22 rfl rfl
theorem dX2_putsInto_0 : decode cX2_putsInto 0 = .ok (.aload_n 0, 1) := dk_42 (dk_at dksX2_putsInto_0 0 rfl rfl)
theorem dX2_putsInto_1 : decode cX2_putsInto 1 = .ok (.iload_n 1, 1) := dk_27 (dk_at dksX2_putsInto_0 1 rfl rfl)
theorem dX2_putsInto_2 : decode cX2_putsInto 2 = .ok (.iconst 1, 1) := dk_4 (dk_at dksX2_putsInto_0 2 rfl rfl)
theorem dX2_putsInto_3 : decode cX2_putsInto 3 = .ok (.iload_n 2, 1) := dk_28 (dk_at dksX2_putsInto_0 3 rfl rfl)
theorem dX2_putsInto_4 : decode cX2_putsInto 4 = .ok (.invokevirtual 236, 3) := dk_182 0 236 (dk_at dksX2_putsInto_0 4 rfl rfl)
theorem dX2_putsInto_7 : decode cX2_putsInto 7 = .ok (.aload_n 0, 1) := dk_42 (dk_at dksX2_putsInto_0 7 rfl rfl)
theorem dX2_putsInto_8 : decode cX2_putsInto 8 = .ok (.iload_n 1, 1) := dk_27 (dk_at dksX2_putsInto_0 8 rfl rfl)
theorem dX2_putsInto_9 : decode cX2_putsInto 9 = .ok (.bipush 10, 2) := dk_16 10 (dk_at dksX2_putsInto_0 9 rfl rfl)
theorem dX2_putsInto_11 : decode cX2_putsInto 11 = .ok (.aload_n 0, 1) := dk_42 (dk_at dksX2_putsInto_0 11 rfl rfl)
theorem dX2_putsInto_12 : decode cX2_putsInto 12 = .ok (.getfield 9, 3) := dk_180 0 9 (dk_at dksX2_putsInto_0 12 rfl rfl)
theorem dX2_putsInto_15 : decode cX2_putsInto 15 = .ok (.bipush 11, 2) := dk_16 11 (dk_at dksX2_putsInto_0 15 rfl rfl)
theorem dX2_putsInto_17 : decode cX2_putsInto 17 = .ok (.iaload, 1) := dk_46 (dk_at dksX2_putsInto_0 17 rfl rfl)
theorem dX2_putsInto_18 : decode cX2_putsInto 18 = .ok (.invokevirtual 233, 3) := dk_182 0 233 (dk_at dksX2_putsInto_0 18 rfl rfl)
theorem dX2_putsInto_21 : decode cX2_putsInto 21 = .ok (.aload_n 0, 1) := dk_42 (dk_at dksX2_putsInto_0 21 rfl rfl)
theorem dX2_putsInto_22 : decode cX2_putsInto 22 = .ok (.getfield 9, 3) := dk_180 0 9 (dk_at dksX2_putsInto_1 0 rfl rfl)
theorem dX2_putsInto_25 : decode cX2_putsInto 25 = .ok (.bipush 11, 2) := dk_16 11 (dk_at dksX2_putsInto_1 3 rfl rfl)
theorem dX2_putsInto_27 : decode cX2_putsInto 27 = .ok (.dup2, 1) := dk_92 (dk_at dksX2_putsInto_1 5 rfl rfl)
theorem dX2_putsInto_28 : decode cX2_putsInto 28 = .ok (.iaload, 1) := dk_46 (dk_at dksX2_putsInto_1 6 rfl rfl)
theorem dX2_putsInto_29 : decode cX2_putsInto 29 = .ok (.iconst 1, 1) := dk_4 (dk_at dksX2_putsInto_1 7 rfl rfl)
theorem dX2_putsInto_30 : decode cX2_putsInto 30 = .ok (.iadd, 1) := dk_96 (dk_at dksX2_putsInto_1 8 rfl rfl)
theorem dX2_putsInto_31 : decode cX2_putsInto 31 = .ok (.iastore, 1) := dk_79 (dk_at dksX2_putsInto_1 9 rfl rfl)
theorem dX2_putsInto_32 : decode cX2_putsInto 32 = .ok (.return_, 1) := dk_177 (dk_at dksX2_putsInto_1 10 rfl rfl)
abbrev cX2_readsWash : ByteArray := prog_20_method_32_code
def yX2_readsWash : MethodName := ⟨RX2, "readsWash", "()V"⟩
def dkwX2_readsWash_2 : List UInt8 := [182, 0, 104, 42, 180, 0, 62, 158, 0, 4, 177, 42, 27, 28, 182, 0, 146, 62, 42, 182, 0, 111, 177]
abbrev dktX2_readsWash_2 : List UInt8 := dkwX2_readsWash_2 ++ []
def dkwX2_readsWash_1 : List UInt8 := [182, 0, 107, 61, 42, 180, 0, 62, 154, 0, 17, 42, 27, 28, 182, 0, 143, 153, 0, 8, 42, 6]
abbrev dktX2_readsWash_1 : List UInt8 := dkwX2_readsWash_1 ++ dktX2_readsWash_2
def dkwX2_readsWash_0 : List UInt8 := [42, 182, 0, 111, 42, 3, 42, 180, 0, 9, 16, 8, 46, 4, 100, 182, 0, 118, 60, 42, 3, 6]
abbrev dktX2_readsWash_0 : List UInt8 := dkwX2_readsWash_0 ++ dktX2_readsWash_1
theorem dksX2_readsWash_0 : cX2_readsWash.data.toList.drop 0 = dktX2_readsWash_0 := by decide +kernel
theorem dksX2_readsWash_1 : cX2_readsWash.data.toList.drop 22 = dktX2_readsWash_1 := dk_seg dksX2_readsWash_0 22 rfl rfl
theorem dksX2_readsWash_2 : cX2_readsWash.data.toList.drop 44 = dktX2_readsWash_2 := dk_seg dksX2_readsWash_1 22 rfl rfl
theorem dX2_readsWash_0 : decode cX2_readsWash 0 = .ok (.aload_n 0, 1) := dk_42 (dk_at dksX2_readsWash_0 0 rfl rfl)
theorem dX2_readsWash_1 : decode cX2_readsWash 1 = .ok (.invokevirtual 111, 3) := dk_182 0 111 (dk_at dksX2_readsWash_0 1 rfl rfl)
theorem dX2_readsWash_4 : decode cX2_readsWash 4 = .ok (.aload_n 0, 1) := dk_42 (dk_at dksX2_readsWash_0 4 rfl rfl)
theorem dX2_readsWash_5 : decode cX2_readsWash 5 = .ok (.iconst 0, 1) := dk_3 (dk_at dksX2_readsWash_0 5 rfl rfl)
theorem dX2_readsWash_6 : decode cX2_readsWash 6 = .ok (.aload_n 0, 1) := dk_42 (dk_at dksX2_readsWash_0 6 rfl rfl)
theorem dX2_readsWash_7 : decode cX2_readsWash 7 = .ok (.getfield 9, 3) := dk_180 0 9 (dk_at dksX2_readsWash_0 7 rfl rfl)
theorem dX2_readsWash_10 : decode cX2_readsWash 10 = .ok (.bipush 8, 2) := dk_16 8 (dk_at dksX2_readsWash_0 10 rfl rfl)
theorem dX2_readsWash_12 : decode cX2_readsWash 12 = .ok (.iaload, 1) := dk_46 (dk_at dksX2_readsWash_0 12 rfl rfl)
theorem dX2_readsWash_13 : decode cX2_readsWash 13 = .ok (.iconst 1, 1) := dk_4 (dk_at dksX2_readsWash_0 13 rfl rfl)
theorem dX2_readsWash_14 : decode cX2_readsWash 14 = .ok (.isub, 1) := dk_100 (dk_at dksX2_readsWash_0 14 rfl rfl)
theorem dX2_readsWash_15 : decode cX2_readsWash 15 = .ok (.invokevirtual 118, 3) := dk_182 0 118 (dk_at dksX2_readsWash_0 15 rfl rfl)
theorem dX2_readsWash_18 : decode cX2_readsWash 18 = .ok (.istore_n 1, 1) := dk_60 (dk_at dksX2_readsWash_0 18 rfl rfl)
theorem dX2_readsWash_19 : decode cX2_readsWash 19 = .ok (.aload_n 0, 1) := dk_42 (dk_at dksX2_readsWash_0 19 rfl rfl)
theorem dX2_readsWash_20 : decode cX2_readsWash 20 = .ok (.iconst 0, 1) := dk_3 (dk_at dksX2_readsWash_0 20 rfl rfl)
theorem dX2_readsWash_21 : decode cX2_readsWash 21 = .ok (.iconst 3, 1) := dk_6 (dk_at dksX2_readsWash_0 21 rfl rfl)
theorem dX2_readsWash_22 : decode cX2_readsWash 22 = .ok (.invokevirtual 107, 3) := dk_182 0 107 (dk_at dksX2_readsWash_1 0 rfl rfl)
theorem dX2_readsWash_25 : decode cX2_readsWash 25 = .ok (.istore_n 2, 1) := dk_61 (dk_at dksX2_readsWash_1 3 rfl rfl)
theorem dX2_readsWash_26 : decode cX2_readsWash 26 = .ok (.aload_n 0, 1) := dk_42 (dk_at dksX2_readsWash_1 4 rfl rfl)
theorem dX2_readsWash_27 : decode cX2_readsWash 27 = .ok (.getfield 62, 3) := dk_180 0 62 (dk_at dksX2_readsWash_1 5 rfl rfl)
theorem dX2_readsWash_30 : decode cX2_readsWash 30 = .ok (.ifCond .ne 17, 3) := dk_154 0 17 (dk_at dksX2_readsWash_1 8 rfl rfl)
theorem dX2_readsWash_33 : decode cX2_readsWash 33 = .ok (.aload_n 0, 1) := dk_42 (dk_at dksX2_readsWash_1 11 rfl rfl)
theorem dX2_readsWash_34 : decode cX2_readsWash 34 = .ok (.iload_n 1, 1) := dk_27 (dk_at dksX2_readsWash_1 12 rfl rfl)
theorem dX2_readsWash_35 : decode cX2_readsWash 35 = .ok (.iload_n 2, 1) := dk_28 (dk_at dksX2_readsWash_1 13 rfl rfl)
theorem dX2_readsWash_36 : decode cX2_readsWash 36 = .ok (.invokevirtual 143, 3) := dk_182 0 143 (dk_at dksX2_readsWash_1 14 rfl rfl)
theorem dX2_readsWash_39 : decode cX2_readsWash 39 = .ok (.ifCond .eq 8, 3) := dk_153 0 8 (dk_at dksX2_readsWash_1 17 rfl rfl)
theorem dX2_readsWash_42 : decode cX2_readsWash 42 = .ok (.aload_n 0, 1) := dk_42 (dk_at dksX2_readsWash_1 20 rfl rfl)
theorem dX2_readsWash_43 : decode cX2_readsWash 43 = .ok (.iconst 3, 1) := dk_6 (dk_at dksX2_readsWash_1 21 rfl rfl)
theorem dX2_readsWash_44 : decode cX2_readsWash 44 = .ok (.invokevirtual 104, 3) := dk_182 0 104 (dk_at dksX2_readsWash_2 0 rfl rfl)
theorem dX2_readsWash_47 : decode cX2_readsWash 47 = .ok (.aload_n 0, 1) := dk_42 (dk_at dksX2_readsWash_2 3 rfl rfl)
theorem dX2_readsWash_48 : decode cX2_readsWash 48 = .ok (.getfield 62, 3) := dk_180 0 62 (dk_at dksX2_readsWash_2 4 rfl rfl)
theorem dX2_readsWash_51 : decode cX2_readsWash 51 = .ok (.ifCond .le 4, 3) := dk_158 0 4 (dk_at dksX2_readsWash_2 7 rfl rfl)
theorem dX2_readsWash_54 : decode cX2_readsWash 54 = .ok (.return_, 1) := dk_177 (dk_at dksX2_readsWash_2 10 rfl rfl)
theorem dX2_readsWash_55 : decode cX2_readsWash 55 = .ok (.aload_n 0, 1) := dk_42 (dk_at dksX2_readsWash_2 11 rfl rfl)
theorem dX2_readsWash_56 : decode cX2_readsWash 56 = .ok (.iload_n 1, 1) := dk_27 (dk_at dksX2_readsWash_2 12 rfl rfl)
theorem dX2_readsWash_57 : decode cX2_readsWash 57 = .ok (.iload_n 2, 1) := dk_28 (dk_at dksX2_readsWash_2 13 rfl rfl)
theorem dX2_readsWash_58 : decode cX2_readsWash 58 = .ok (.invokevirtual 146, 3) := dk_182 0 146 (dk_at dksX2_readsWash_2 14 rfl rfl)
theorem dX2_readsWash_61 : decode cX2_readsWash 61 = .ok (.istore_n 3, 1) := dk_62 (dk_at dksX2_readsWash_2 17 rfl rfl)
theorem dX2_readsWash_62 : decode cX2_readsWash 62 = .ok (.aload_n 0, 1) := dk_42 (dk_at dksX2_readsWash_2 18 rfl rfl)
theorem dX2_readsWash_63 : decode cX2_readsWash 63 = .ok (.invokevirtual 111, 3) := dk_182 0 111 (dk_at dksX2_readsWash_2 19 rfl rfl)
theorem dX2_readsWash_66 : decode cX2_readsWash 66 = .ok (.return_, 1) := dk_177 (dk_at dksX2_readsWash_2 22 rfl rfl)
abbrev cX2_whyWash : ByteArray := prog_20_method_55_code
def yX2_whyWash : MethodName := ⟨RX2, "whyWash", "(II)I"⟩
def dkwX2_whyWash_1 : List UInt8 := [172]
abbrev dktX2_whyWash_1 : List UInt8 := dkwX2_whyWash_1 ++ []
def dkwX2_whyWash_0 : List UInt8 := [42, 27, 182, 0, 252, 154, 0, 5, 4, 172, 28, 42, 27, 182, 1, 4, 163, 0, 7, 3, 167, 0, 4, 5]
abbrev dktX2_whyWash_0 : List UInt8 := dkwX2_whyWash_0 ++ dktX2_whyWash_1
theorem dksX2_whyWash_0 : cX2_whyWash.data.toList.drop 0 = dktX2_whyWash_0 := by decide +kernel
theorem dksX2_whyWash_1 : cX2_whyWash.data.toList.drop 24 = dktX2_whyWash_1 := dk_seg dksX2_whyWash_0 24 rfl rfl
theorem dX2_whyWash_0 : decode cX2_whyWash 0 = .ok (.aload_n 0, 1) := dk_42 (dk_at dksX2_whyWash_0 0 rfl rfl)
theorem dX2_whyWash_1 : decode cX2_whyWash 1 = .ok (.iload_n 1, 1) := dk_27 (dk_at dksX2_whyWash_0 1 rfl rfl)
theorem dX2_whyWash_2 : decode cX2_whyWash 2 = .ok (.invokevirtual 252, 3) := dk_182 0 252 (dk_at dksX2_whyWash_0 2 rfl rfl)
theorem dX2_whyWash_5 : decode cX2_whyWash 5 = .ok (.ifCond .ne 5, 3) := dk_154 0 5 (dk_at dksX2_whyWash_0 5 rfl rfl)
theorem dX2_whyWash_8 : decode cX2_whyWash 8 = .ok (.iconst 1, 1) := dk_4 (dk_at dksX2_whyWash_0 8 rfl rfl)
theorem dX2_whyWash_9 : decode cX2_whyWash 9 = .ok (.ireturn, 1) := dk_172 (dk_at dksX2_whyWash_0 9 rfl rfl)
theorem dX2_whyWash_10 : decode cX2_whyWash 10 = .ok (.iload_n 2, 1) := dk_28 (dk_at dksX2_whyWash_0 10 rfl rfl)
theorem dX2_whyWash_11 : decode cX2_whyWash 11 = .ok (.aload_n 0, 1) := dk_42 (dk_at dksX2_whyWash_0 11 rfl rfl)
theorem dX2_whyWash_12 : decode cX2_whyWash 12 = .ok (.iload_n 1, 1) := dk_27 (dk_at dksX2_whyWash_0 12 rfl rfl)
theorem dX2_whyWash_13 : decode cX2_whyWash 13 = .ok (.invokevirtual 260, 3) := dk_182 1 4 (dk_at dksX2_whyWash_0 13 rfl rfl)
theorem dX2_whyWash_16 : decode cX2_whyWash 16 = .ok (.if_icmp .gt 7, 3) := dk_163 0 7 (dk_at dksX2_whyWash_0 16 rfl rfl)
theorem dX2_whyWash_19 : decode cX2_whyWash 19 = .ok (.iconst 0, 1) := dk_3 (dk_at dksX2_whyWash_0 19 rfl rfl)
theorem dX2_whyWash_20 : decode cX2_whyWash 20 = .ok (.goto 4, 3) := dk_167 0 4 (dk_at dksX2_whyWash_0 20 rfl rfl)
theorem dX2_whyWash_23 : decode cX2_whyWash 23 = .ok (.iconst 2, 1) := dk_5 (dk_at dksX2_whyWash_0 23 rfl rfl)
theorem dX2_whyWash_24 : decode cX2_whyWash 24 = .ok (.ireturn, 1) := dk_172 (dk_at dksX2_whyWash_1 0 rfl rfl)
abbrev cX2_leastCare : ByteArray := prog_20_method_54_code
def yX2_leastCare : MethodName := ⟨RX2, "leastCare", "(I)I"⟩
def dkwX2_leastCare_1 : List UInt8 := [28, 42, 29, 5, 182, 0, 227, 184, 0, 255, 61, 132, 3, 1, 167, 255, 222, 28, 172]
abbrev dktX2_leastCare_1 : List UInt8 := dkwX2_leastCare_1 ++ []
def dkwX2_leastCare_0 : List UInt8 := [6, 61, 3, 62, 29, 42, 180, 0, 9, 16, 10, 46, 162, 0, 29, 42, 29, 27, 182, 0, 242, 153, 0, 14]
abbrev dktX2_leastCare_0 : List UInt8 := dkwX2_leastCare_0 ++ dktX2_leastCare_1
theorem dksX2_leastCare_0 : cX2_leastCare.data.toList.drop 0 = dktX2_leastCare_0 := by decide +kernel
theorem dksX2_leastCare_1 : cX2_leastCare.data.toList.drop 24 = dktX2_leastCare_1 := dk_seg dksX2_leastCare_0 24 rfl rfl
theorem dX2_leastCare_0 : decode cX2_leastCare 0 = .ok (.iconst 3, 1) := dk_6 (dk_at dksX2_leastCare_0 0 rfl rfl)
theorem dX2_leastCare_1 : decode cX2_leastCare 1 = .ok (.istore_n 2, 1) := dk_61 (dk_at dksX2_leastCare_0 1 rfl rfl)
theorem dX2_leastCare_2 : decode cX2_leastCare 2 = .ok (.iconst 0, 1) := dk_3 (dk_at dksX2_leastCare_0 2 rfl rfl)
theorem dX2_leastCare_3 : decode cX2_leastCare 3 = .ok (.istore_n 3, 1) := dk_62 (dk_at dksX2_leastCare_0 3 rfl rfl)
theorem dX2_leastCare_4 : decode cX2_leastCare 4 = .ok (.iload_n 3, 1) := dk_29 (dk_at dksX2_leastCare_0 4 rfl rfl)
theorem dX2_leastCare_5 : decode cX2_leastCare 5 = .ok (.aload_n 0, 1) := dk_42 (dk_at dksX2_leastCare_0 5 rfl rfl)
theorem dX2_leastCare_6 : decode cX2_leastCare 6 = .ok (.getfield 9, 3) := dk_180 0 9 (dk_at dksX2_leastCare_0 6 rfl rfl)
theorem dX2_leastCare_9 : decode cX2_leastCare 9 = .ok (.bipush 10, 2) := dk_16 10 (dk_at dksX2_leastCare_0 9 rfl rfl)
theorem dX2_leastCare_11 : decode cX2_leastCare 11 = .ok (.iaload, 1) := dk_46 (dk_at dksX2_leastCare_0 11 rfl rfl)
theorem dX2_leastCare_12 : decode cX2_leastCare 12 = .ok (.if_icmp .ge 29, 3) := dk_162 0 29 (dk_at dksX2_leastCare_0 12 rfl rfl)
theorem dX2_leastCare_15 : decode cX2_leastCare 15 = .ok (.aload_n 0, 1) := dk_42 (dk_at dksX2_leastCare_0 15 rfl rfl)
theorem dX2_leastCare_16 : decode cX2_leastCare 16 = .ok (.iload_n 3, 1) := dk_29 (dk_at dksX2_leastCare_0 16 rfl rfl)
theorem dX2_leastCare_17 : decode cX2_leastCare 17 = .ok (.iload_n 1, 1) := dk_27 (dk_at dksX2_leastCare_0 17 rfl rfl)
theorem dX2_leastCare_18 : decode cX2_leastCare 18 = .ok (.invokevirtual 242, 3) := dk_182 0 242 (dk_at dksX2_leastCare_0 18 rfl rfl)
theorem dX2_leastCare_21 : decode cX2_leastCare 21 = .ok (.ifCond .eq 14, 3) := dk_153 0 14 (dk_at dksX2_leastCare_0 21 rfl rfl)
theorem dX2_leastCare_24 : decode cX2_leastCare 24 = .ok (.iload_n 2, 1) := dk_28 (dk_at dksX2_leastCare_1 0 rfl rfl)
theorem dX2_leastCare_25 : decode cX2_leastCare 25 = .ok (.aload_n 0, 1) := dk_42 (dk_at dksX2_leastCare_1 1 rfl rfl)
theorem dX2_leastCare_26 : decode cX2_leastCare 26 = .ok (.iload_n 3, 1) := dk_29 (dk_at dksX2_leastCare_1 2 rfl rfl)
theorem dX2_leastCare_27 : decode cX2_leastCare 27 = .ok (.iconst 2, 1) := dk_5 (dk_at dksX2_leastCare_1 3 rfl rfl)
theorem dX2_leastCare_28 : decode cX2_leastCare 28 = .ok (.invokevirtual 227, 3) := dk_182 0 227 (dk_at dksX2_leastCare_1 4 rfl rfl)
theorem dX2_leastCare_31 : decode cX2_leastCare 31 = .ok (.invokestatic 255, 3) := dk_184 0 255 (dk_at dksX2_leastCare_1 7 rfl rfl)
theorem dX2_leastCare_34 : decode cX2_leastCare 34 = .ok (.istore_n 2, 1) := dk_61 (dk_at dksX2_leastCare_1 10 rfl rfl)
theorem dX2_leastCare_35 : decode cX2_leastCare 35 = .ok (.iinc 3 1, 3) := dk_132 3 1 (dk_at dksX2_leastCare_1 11 rfl rfl)
theorem dX2_leastCare_38 : decode cX2_leastCare 38 = .ok (.goto (-34), 3) := dk_167 255 222 (dk_at dksX2_leastCare_1 14 rfl rfl)
theorem dX2_leastCare_41 : decode cX2_leastCare 41 = .ok (.iload_n 2, 1) := dk_28 (dk_at dksX2_leastCare_1 17 rfl rfl)
theorem dX2_leastCare_42 : decode cX2_leastCare 42 = .ok (.ireturn, 1) := dk_172 (dk_at dksX2_leastCare_1 18 rfl rfl)
abbrev cX2_washes : ByteArray := prog_20_method_64_code
def yX2_washes : MethodName := ⟨RX2, "washes", "(II)I"⟩
def dkwX2_washes_2 : List UInt8 := [132, 5, 1, 167, 255, 223, 42, 180, 0, 9, 7, 92, 46, 4, 96, 79, 21, 4, 172]
abbrev dktX2_washes_2 : List UInt8 := dkwX2_washes_2 ++ []
def dkwX2_washes_1 : List UInt8 := [16, 10, 46, 162, 0, 27, 42, 21, 5, 27, 182, 0, 242, 153, 0, 11, 42, 21, 5, 29, 28, 182, 1, 28]
abbrev dktX2_washes_1 : List UInt8 := dkwX2_washes_1 ++ dktX2_washes_2
def dkwX2_washes_0 : List UInt8 := [42, 27, 28, 182, 1, 13, 62, 42, 27, 28, 182, 1, 25, 54, 4, 3, 54, 5, 21, 5, 42, 180, 0, 9]
abbrev dktX2_washes_0 : List UInt8 := dkwX2_washes_0 ++ dktX2_washes_1
theorem dksX2_washes_0 : cX2_washes.data.toList.drop 0 = dktX2_washes_0 := by decide +kernel
theorem dksX2_washes_1 : cX2_washes.data.toList.drop 24 = dktX2_washes_1 := dk_seg dksX2_washes_0 24 rfl rfl
theorem dksX2_washes_2 : cX2_washes.data.toList.drop 48 = dktX2_washes_2 := dk_seg dksX2_washes_1 24 rfl rfl
theorem dX2_washes_0 : decode cX2_washes 0 = .ok (.aload_n 0, 1) := dk_42 (dk_at dksX2_washes_0 0 rfl rfl)
theorem dX2_washes_1 : decode cX2_washes 1 = .ok (.iload_n 1, 1) := dk_27 (dk_at dksX2_washes_0 1 rfl rfl)
theorem dX2_washes_2 : decode cX2_washes 2 = .ok (.iload_n 2, 1) := dk_28 (dk_at dksX2_washes_0 2 rfl rfl)
theorem dX2_washes_3 : decode cX2_washes 3 = .ok (.invokevirtual 269, 3) := dk_182 1 13 (dk_at dksX2_washes_0 3 rfl rfl)
theorem dX2_washes_6 : decode cX2_washes 6 = .ok (.istore_n 3, 1) := dk_62 (dk_at dksX2_washes_0 6 rfl rfl)
theorem dX2_washes_7 : decode cX2_washes 7 = .ok (.aload_n 0, 1) := dk_42 (dk_at dksX2_washes_0 7 rfl rfl)
theorem dX2_washes_8 : decode cX2_washes 8 = .ok (.iload_n 1, 1) := dk_27 (dk_at dksX2_washes_0 8 rfl rfl)
theorem dX2_washes_9 : decode cX2_washes 9 = .ok (.iload_n 2, 1) := dk_28 (dk_at dksX2_washes_0 9 rfl rfl)
theorem dX2_washes_10 : decode cX2_washes 10 = .ok (.invokevirtual 281, 3) := dk_182 1 25 (dk_at dksX2_washes_0 10 rfl rfl)
theorem dX2_washes_13 : decode cX2_washes 13 = .ok (.istore 4, 2) := dk_54 4 (dk_at dksX2_washes_0 13 rfl rfl)
theorem dX2_washes_15 : decode cX2_washes 15 = .ok (.iconst 0, 1) := dk_3 (dk_at dksX2_washes_0 15 rfl rfl)
theorem dX2_washes_16 : decode cX2_washes 16 = .ok (.istore 5, 2) := dk_54 5 (dk_at dksX2_washes_0 16 rfl rfl)
theorem dX2_washes_18 : decode cX2_washes 18 = .ok (.iload 5, 2) := dk_21 5 (dk_at dksX2_washes_0 18 rfl rfl)
theorem dX2_washes_20 : decode cX2_washes 20 = .ok (.aload_n 0, 1) := dk_42 (dk_at dksX2_washes_0 20 rfl rfl)
theorem dX2_washes_21 : decode cX2_washes 21 = .ok (.getfield 9, 3) := dk_180 0 9 (dk_at dksX2_washes_0 21 rfl rfl)
theorem dX2_washes_24 : decode cX2_washes 24 = .ok (.bipush 10, 2) := dk_16 10 (dk_at dksX2_washes_1 0 rfl rfl)
theorem dX2_washes_26 : decode cX2_washes 26 = .ok (.iaload, 1) := dk_46 (dk_at dksX2_washes_1 2 rfl rfl)
theorem dX2_washes_27 : decode cX2_washes 27 = .ok (.if_icmp .ge 27, 3) := dk_162 0 27 (dk_at dksX2_washes_1 3 rfl rfl)
theorem dX2_washes_30 : decode cX2_washes 30 = .ok (.aload_n 0, 1) := dk_42 (dk_at dksX2_washes_1 6 rfl rfl)
theorem dX2_washes_31 : decode cX2_washes 31 = .ok (.iload 5, 2) := dk_21 5 (dk_at dksX2_washes_1 7 rfl rfl)
theorem dX2_washes_33 : decode cX2_washes 33 = .ok (.iload_n 1, 1) := dk_27 (dk_at dksX2_washes_1 9 rfl rfl)
theorem dX2_washes_34 : decode cX2_washes 34 = .ok (.invokevirtual 242, 3) := dk_182 0 242 (dk_at dksX2_washes_1 10 rfl rfl)
theorem dX2_washes_37 : decode cX2_washes 37 = .ok (.ifCond .eq 11, 3) := dk_153 0 11 (dk_at dksX2_washes_1 13 rfl rfl)
theorem dX2_washes_40 : decode cX2_washes 40 = .ok (.aload_n 0, 1) := dk_42 (dk_at dksX2_washes_1 16 rfl rfl)
theorem dX2_washes_41 : decode cX2_washes 41 = .ok (.iload 5, 2) := dk_21 5 (dk_at dksX2_washes_1 17 rfl rfl)
theorem dX2_washes_43 : decode cX2_washes 43 = .ok (.iload_n 3, 1) := dk_29 (dk_at dksX2_washes_1 19 rfl rfl)
theorem dX2_washes_44 : decode cX2_washes 44 = .ok (.iload_n 2, 1) := dk_28 (dk_at dksX2_washes_1 20 rfl rfl)
theorem dX2_washes_45 : decode cX2_washes 45 = .ok (.invokevirtual 284, 3) := dk_182 1 28 (dk_at dksX2_washes_1 21 rfl rfl)
theorem dX2_washes_48 : decode cX2_washes 48 = .ok (.iinc 5 1, 3) := dk_132 5 1 (dk_at dksX2_washes_2 0 rfl rfl)
theorem dX2_washes_51 : decode cX2_washes 51 = .ok (.goto (-33), 3) := dk_167 255 223 (dk_at dksX2_washes_2 3 rfl rfl)
theorem dX2_washes_54 : decode cX2_washes 54 = .ok (.aload_n 0, 1) := dk_42 (dk_at dksX2_washes_2 6 rfl rfl)
theorem dX2_washes_55 : decode cX2_washes 55 = .ok (.getfield 9, 3) := dk_180 0 9 (dk_at dksX2_washes_2 7 rfl rfl)
theorem dX2_washes_58 : decode cX2_washes 58 = .ok (.iconst 4, 1) := dk_7 (dk_at dksX2_washes_2 10 rfl rfl)
theorem dX2_washes_59 : decode cX2_washes 59 = .ok (.dup2, 1) := dk_92 (dk_at dksX2_washes_2 11 rfl rfl)
theorem dX2_washes_60 : decode cX2_washes 60 = .ok (.iaload, 1) := dk_46 (dk_at dksX2_washes_2 12 rfl rfl)
theorem dX2_washes_61 : decode cX2_washes 61 = .ok (.iconst 1, 1) := dk_4 (dk_at dksX2_washes_2 13 rfl rfl)
theorem dX2_washes_62 : decode cX2_washes 62 = .ok (.iadd, 1) := dk_96 (dk_at dksX2_washes_2 14 rfl rfl)
theorem dX2_washes_63 : decode cX2_washes 63 = .ok (.iastore, 1) := dk_79 (dk_at dksX2_washes_2 15 rfl rfl)
theorem dX2_washes_64 : decode cX2_washes 64 = .ok (.iload 4, 2) := dk_21 4 (dk_at dksX2_washes_2 16 rfl rfl)
theorem dX2_washes_66 : decode cX2_washes 66 = .ok (.ireturn, 1) := dk_172 (dk_at dksX2_washes_2 18 rfl rfl)
abbrev cX2_runningIn : ByteArray := prog_20_method_58_code
def yX2_runningIn : MethodName := ⟨RX2, "runningIn", "(II)I"⟩
def dkwX2_runningIn_2 : List UInt8 := [167, 255, 217, 29, 172]
abbrev dktX2_runningIn_2 : List UInt8 := dkwX2_runningIn_2 ++ []
def dkwX2_runningIn_1 : List UInt8 := [182, 0, 242, 153, 0, 13, 42, 21, 4, 28, 182, 1, 10, 167, 0, 4, 3, 128, 62, 132, 4, 1]
abbrev dktX2_runningIn_1 : List UInt8 := dkwX2_runningIn_1 ++ dktX2_runningIn_2
def dkwX2_runningIn_0 : List UInt8 := [3, 62, 3, 54, 4, 21, 4, 42, 180, 0, 9, 16, 10, 46, 162, 0, 33, 29, 42, 21, 4, 27]
abbrev dktX2_runningIn_0 : List UInt8 := dkwX2_runningIn_0 ++ dktX2_runningIn_1
theorem dksX2_runningIn_0 : cX2_runningIn.data.toList.drop 0 = dktX2_runningIn_0 := by decide +kernel
theorem dksX2_runningIn_1 : cX2_runningIn.data.toList.drop 22 = dktX2_runningIn_1 := dk_seg dksX2_runningIn_0 22 rfl rfl
theorem dksX2_runningIn_2 : cX2_runningIn.data.toList.drop 44 = dktX2_runningIn_2 := dk_seg dksX2_runningIn_1 22 rfl rfl
theorem dX2_runningIn_0 : decode cX2_runningIn 0 = .ok (.iconst 0, 1) := dk_3 (dk_at dksX2_runningIn_0 0 rfl rfl)
theorem dX2_runningIn_1 : decode cX2_runningIn 1 = .ok (.istore_n 3, 1) := dk_62 (dk_at dksX2_runningIn_0 1 rfl rfl)
theorem dX2_runningIn_2 : decode cX2_runningIn 2 = .ok (.iconst 0, 1) := dk_3 (dk_at dksX2_runningIn_0 2 rfl rfl)
theorem dX2_runningIn_3 : decode cX2_runningIn 3 = .ok (.istore 4, 2) := dk_54 4 (dk_at dksX2_runningIn_0 3 rfl rfl)
theorem dX2_runningIn_5 : decode cX2_runningIn 5 = .ok (.iload 4, 2) := dk_21 4 (dk_at dksX2_runningIn_0 5 rfl rfl)
theorem dX2_runningIn_7 : decode cX2_runningIn 7 = .ok (.aload_n 0, 1) := dk_42 (dk_at dksX2_runningIn_0 7 rfl rfl)
theorem dX2_runningIn_8 : decode cX2_runningIn 8 = .ok (.getfield 9, 3) := dk_180 0 9 (dk_at dksX2_runningIn_0 8 rfl rfl)
theorem dX2_runningIn_11 : decode cX2_runningIn 11 = .ok (.bipush 10, 2) := dk_16 10 (dk_at dksX2_runningIn_0 11 rfl rfl)
theorem dX2_runningIn_13 : decode cX2_runningIn 13 = .ok (.iaload, 1) := dk_46 (dk_at dksX2_runningIn_0 13 rfl rfl)
theorem dX2_runningIn_14 : decode cX2_runningIn 14 = .ok (.if_icmp .ge 33, 3) := dk_162 0 33 (dk_at dksX2_runningIn_0 14 rfl rfl)
theorem dX2_runningIn_17 : decode cX2_runningIn 17 = .ok (.iload_n 3, 1) := dk_29 (dk_at dksX2_runningIn_0 17 rfl rfl)
theorem dX2_runningIn_18 : decode cX2_runningIn 18 = .ok (.aload_n 0, 1) := dk_42 (dk_at dksX2_runningIn_0 18 rfl rfl)
theorem dX2_runningIn_19 : decode cX2_runningIn 19 = .ok (.iload 4, 2) := dk_21 4 (dk_at dksX2_runningIn_0 19 rfl rfl)
theorem dX2_runningIn_21 : decode cX2_runningIn 21 = .ok (.iload_n 1, 1) := dk_27 (dk_at dksX2_runningIn_0 21 rfl rfl)
theorem dX2_runningIn_22 : decode cX2_runningIn 22 = .ok (.invokevirtual 242, 3) := dk_182 0 242 (dk_at dksX2_runningIn_1 0 rfl rfl)
theorem dX2_runningIn_25 : decode cX2_runningIn 25 = .ok (.ifCond .eq 13, 3) := dk_153 0 13 (dk_at dksX2_runningIn_1 3 rfl rfl)
theorem dX2_runningIn_28 : decode cX2_runningIn 28 = .ok (.aload_n 0, 1) := dk_42 (dk_at dksX2_runningIn_1 6 rfl rfl)
theorem dX2_runningIn_29 : decode cX2_runningIn 29 = .ok (.iload 4, 2) := dk_21 4 (dk_at dksX2_runningIn_1 7 rfl rfl)
theorem dX2_runningIn_31 : decode cX2_runningIn 31 = .ok (.iload_n 2, 1) := dk_28 (dk_at dksX2_runningIn_1 9 rfl rfl)
theorem dX2_runningIn_32 : decode cX2_runningIn 32 = .ok (.invokevirtual 266, 3) := dk_182 1 10 (dk_at dksX2_runningIn_1 10 rfl rfl)
theorem dX2_runningIn_35 : decode cX2_runningIn 35 = .ok (.goto 4, 3) := dk_167 0 4 (dk_at dksX2_runningIn_1 13 rfl rfl)
theorem dX2_runningIn_38 : decode cX2_runningIn 38 = .ok (.iconst 0, 1) := dk_3 (dk_at dksX2_runningIn_1 16 rfl rfl)
theorem dX2_runningIn_39 : decode cX2_runningIn 39 = .ok (.ior, 1) := dk_128 (dk_at dksX2_runningIn_1 17 rfl rfl)
theorem dX2_runningIn_40 : decode cX2_runningIn 40 = .ok (.istore_n 3, 1) := dk_62 (dk_at dksX2_runningIn_1 18 rfl rfl)
theorem dX2_runningIn_41 : decode cX2_runningIn 41 = .ok (.iinc 4 1, 3) := dk_132 4 1 (dk_at dksX2_runningIn_1 19 rfl rfl)
theorem dX2_runningIn_44 : decode cX2_runningIn 44 = .ok (.goto (-39), 3) := dk_167 255 217 (dk_at dksX2_runningIn_2 0 rfl rfl)
theorem dX2_runningIn_47 : decode cX2_runningIn 47 = .ok (.iload_n 3, 1) := dk_29 (dk_at dksX2_runningIn_2 3 rfl rfl)
theorem dX2_runningIn_48 : decode cX2_runningIn 48 = .ok (.ireturn, 1) := dk_172 (dk_at dksX2_runningIn_2 4 rfl rfl)
abbrev cX2_runningFrom : ByteArray := prog_20_method_57_code
def yX2_runningFrom : MethodName := ⟨RX2, "runningFrom", "(II)I"⟩
def dkwX2_runningFrom_0 : List UInt8 := [42, 42, 27, 4, 182, 0, 227, 42, 27, 16, 6, 182, 0, 227, 128, 28, 182, 1, 7, 172]
abbrev dktX2_runningFrom_0 : List UInt8 := dkwX2_runningFrom_0 ++ []
theorem dksX2_runningFrom_0 : cX2_runningFrom.data.toList.drop 0 = dktX2_runningFrom_0 := by decide +kernel
theorem dX2_runningFrom_0 : decode cX2_runningFrom 0 = .ok (.aload_n 0, 1) := dk_42 (dk_at dksX2_runningFrom_0 0 rfl rfl)
theorem dX2_runningFrom_1 : decode cX2_runningFrom 1 = .ok (.aload_n 0, 1) := dk_42 (dk_at dksX2_runningFrom_0 1 rfl rfl)
theorem dX2_runningFrom_2 : decode cX2_runningFrom 2 = .ok (.iload_n 1, 1) := dk_27 (dk_at dksX2_runningFrom_0 2 rfl rfl)
theorem dX2_runningFrom_3 : decode cX2_runningFrom 3 = .ok (.iconst 1, 1) := dk_4 (dk_at dksX2_runningFrom_0 3 rfl rfl)
theorem dX2_runningFrom_4 : decode cX2_runningFrom 4 = .ok (.invokevirtual 227, 3) := dk_182 0 227 (dk_at dksX2_runningFrom_0 4 rfl rfl)
theorem dX2_runningFrom_7 : decode cX2_runningFrom 7 = .ok (.aload_n 0, 1) := dk_42 (dk_at dksX2_runningFrom_0 7 rfl rfl)
theorem dX2_runningFrom_8 : decode cX2_runningFrom 8 = .ok (.iload_n 1, 1) := dk_27 (dk_at dksX2_runningFrom_0 8 rfl rfl)
theorem dX2_runningFrom_9 : decode cX2_runningFrom 9 = .ok (.bipush 6, 2) := dk_16 6 (dk_at dksX2_runningFrom_0 9 rfl rfl)
theorem dX2_runningFrom_11 : decode cX2_runningFrom 11 = .ok (.invokevirtual 227, 3) := dk_182 0 227 (dk_at dksX2_runningFrom_0 11 rfl rfl)
theorem dX2_runningFrom_14 : decode cX2_runningFrom 14 = .ok (.ior, 1) := dk_128 (dk_at dksX2_runningFrom_0 14 rfl rfl)
theorem dX2_runningFrom_15 : decode cX2_runningFrom 15 = .ok (.iload_n 2, 1) := dk_28 (dk_at dksX2_runningFrom_0 15 rfl rfl)
theorem dX2_runningFrom_16 : decode cX2_runningFrom 16 = .ok (.invokevirtual 263, 3) := dk_182 1 7 (dk_at dksX2_runningFrom_0 16 rfl rfl)
theorem dX2_runningFrom_19 : decode cX2_runningFrom 19 = .ok (.ireturn, 1) := dk_172 (dk_at dksX2_runningFrom_0 19 rfl rfl)
abbrev cX2_runningOf : ByteArray := prog_20_method_56_code
def yX2_runningOf : MethodName := ⟨RX2, "runningOf", "(II)I"⟩
def dkwX2_runningOf_2 : List UInt8 := [184, 0, 245, 21, 4, 120, 128, 62, 132, 4, 1, 167, 255, 204, 29, 172]
abbrev dktX2_runningOf_2 : List UInt8 := dkwX2_runningOf_2 ++ []
def dkwX2_runningOf_1 : List UInt8 := [153, 0, 21, 42, 180, 0, 9, 16, 12, 21, 4, 96, 46, 28, 163, 0, 7, 4, 167, 0, 4, 3]
abbrev dktX2_runningOf_1 : List UInt8 := dkwX2_runningOf_1 ++ dktX2_runningOf_2
def dkwX2_runningOf_0 : List UInt8 := [3, 62, 3, 54, 4, 21, 4, 42, 180, 0, 9, 16, 6, 46, 162, 0, 46, 29, 27, 21, 4, 184, 0, 125]
abbrev dktX2_runningOf_0 : List UInt8 := dkwX2_runningOf_0 ++ dktX2_runningOf_1
theorem dksX2_runningOf_0 : cX2_runningOf.data.toList.drop 0 = dktX2_runningOf_0 := by decide +kernel
theorem dksX2_runningOf_1 : cX2_runningOf.data.toList.drop 24 = dktX2_runningOf_1 := dk_seg dksX2_runningOf_0 24 rfl rfl
theorem dksX2_runningOf_2 : cX2_runningOf.data.toList.drop 46 = dktX2_runningOf_2 := dk_seg dksX2_runningOf_1 22 rfl rfl
theorem dX2_runningOf_0 : decode cX2_runningOf 0 = .ok (.iconst 0, 1) := dk_3 (dk_at dksX2_runningOf_0 0 rfl rfl)
theorem dX2_runningOf_1 : decode cX2_runningOf 1 = .ok (.istore_n 3, 1) := dk_62 (dk_at dksX2_runningOf_0 1 rfl rfl)
theorem dX2_runningOf_2 : decode cX2_runningOf 2 = .ok (.iconst 0, 1) := dk_3 (dk_at dksX2_runningOf_0 2 rfl rfl)
theorem dX2_runningOf_3 : decode cX2_runningOf 3 = .ok (.istore 4, 2) := dk_54 4 (dk_at dksX2_runningOf_0 3 rfl rfl)
theorem dX2_runningOf_5 : decode cX2_runningOf 5 = .ok (.iload 4, 2) := dk_21 4 (dk_at dksX2_runningOf_0 5 rfl rfl)
theorem dX2_runningOf_7 : decode cX2_runningOf 7 = .ok (.aload_n 0, 1) := dk_42 (dk_at dksX2_runningOf_0 7 rfl rfl)
theorem dX2_runningOf_8 : decode cX2_runningOf 8 = .ok (.getfield 9, 3) := dk_180 0 9 (dk_at dksX2_runningOf_0 8 rfl rfl)
theorem dX2_runningOf_11 : decode cX2_runningOf 11 = .ok (.bipush 6, 2) := dk_16 6 (dk_at dksX2_runningOf_0 11 rfl rfl)
theorem dX2_runningOf_13 : decode cX2_runningOf 13 = .ok (.iaload, 1) := dk_46 (dk_at dksX2_runningOf_0 13 rfl rfl)
theorem dX2_runningOf_14 : decode cX2_runningOf 14 = .ok (.if_icmp .ge 46, 3) := dk_162 0 46 (dk_at dksX2_runningOf_0 14 rfl rfl)
theorem dX2_runningOf_17 : decode cX2_runningOf 17 = .ok (.iload_n 3, 1) := dk_29 (dk_at dksX2_runningOf_0 17 rfl rfl)
theorem dX2_runningOf_18 : decode cX2_runningOf 18 = .ok (.iload_n 1, 1) := dk_27 (dk_at dksX2_runningOf_0 18 rfl rfl)
theorem dX2_runningOf_19 : decode cX2_runningOf 19 = .ok (.iload 4, 2) := dk_21 4 (dk_at dksX2_runningOf_0 19 rfl rfl)
theorem dX2_runningOf_21 : decode cX2_runningOf 21 = .ok (.invokestatic 125, 3) := dk_184 0 125 (dk_at dksX2_runningOf_0 21 rfl rfl)
theorem dX2_runningOf_24 : decode cX2_runningOf 24 = .ok (.ifCond .eq 21, 3) := dk_153 0 21 (dk_at dksX2_runningOf_1 0 rfl rfl)
theorem dX2_runningOf_27 : decode cX2_runningOf 27 = .ok (.aload_n 0, 1) := dk_42 (dk_at dksX2_runningOf_1 3 rfl rfl)
theorem dX2_runningOf_28 : decode cX2_runningOf 28 = .ok (.getfield 9, 3) := dk_180 0 9 (dk_at dksX2_runningOf_1 4 rfl rfl)
theorem dX2_runningOf_31 : decode cX2_runningOf 31 = .ok (.bipush 12, 2) := dk_16 12 (dk_at dksX2_runningOf_1 7 rfl rfl)
theorem dX2_runningOf_33 : decode cX2_runningOf 33 = .ok (.iload 4, 2) := dk_21 4 (dk_at dksX2_runningOf_1 9 rfl rfl)
theorem dX2_runningOf_35 : decode cX2_runningOf 35 = .ok (.iadd, 1) := dk_96 (dk_at dksX2_runningOf_1 11 rfl rfl)
theorem dX2_runningOf_36 : decode cX2_runningOf 36 = .ok (.iaload, 1) := dk_46 (dk_at dksX2_runningOf_1 12 rfl rfl)
theorem dX2_runningOf_37 : decode cX2_runningOf 37 = .ok (.iload_n 2, 1) := dk_28 (dk_at dksX2_runningOf_1 13 rfl rfl)
theorem dX2_runningOf_38 : decode cX2_runningOf 38 = .ok (.if_icmp .gt 7, 3) := dk_163 0 7 (dk_at dksX2_runningOf_1 14 rfl rfl)
theorem dX2_runningOf_41 : decode cX2_runningOf 41 = .ok (.iconst 1, 1) := dk_4 (dk_at dksX2_runningOf_1 17 rfl rfl)
theorem dX2_runningOf_42 : decode cX2_runningOf 42 = .ok (.goto 4, 3) := dk_167 0 4 (dk_at dksX2_runningOf_1 18 rfl rfl)
theorem dX2_runningOf_45 : decode cX2_runningOf 45 = .ok (.iconst 0, 1) := dk_3 (dk_at dksX2_runningOf_1 21 rfl rfl)
theorem dX2_runningOf_46 : decode cX2_runningOf 46 = .ok (.invokestatic 245, 3) := dk_184 0 245 (dk_at dksX2_runningOf_2 0 rfl rfl)
theorem dX2_runningOf_49 : decode cX2_runningOf 49 = .ok (.iload 4, 2) := dk_21 4 (dk_at dksX2_runningOf_2 3 rfl rfl)
theorem dX2_runningOf_51 : decode cX2_runningOf 51 = .ok (.ishl, 1) := dk_120 (dk_at dksX2_runningOf_2 5 rfl rfl)
theorem dX2_runningOf_52 : decode cX2_runningOf 52 = .ok (.ior, 1) := dk_128 (dk_at dksX2_runningOf_2 6 rfl rfl)
theorem dX2_runningOf_53 : decode cX2_runningOf 53 = .ok (.istore_n 3, 1) := dk_62 (dk_at dksX2_runningOf_2 7 rfl rfl)
theorem dX2_runningOf_54 : decode cX2_runningOf 54 = .ok (.iinc 4 1, 3) := dk_132 4 1 (dk_at dksX2_runningOf_2 8 rfl rfl)
theorem dX2_runningOf_57 : decode cX2_runningOf 57 = .ok (.goto (-52), 3) := dk_167 255 204 (dk_at dksX2_runningOf_2 11 rfl rfl)
theorem dX2_runningOf_60 : decode cX2_runningOf 60 = .ok (.iload_n 3, 1) := dk_29 (dk_at dksX2_runningOf_2 14 rfl rfl)
theorem dX2_runningOf_61 : decode cX2_runningOf 61 = .ok (.ireturn, 1) := dk_172 (dk_at dksX2_runningOf_2 15 rfl rfl)
abbrev cX2_stainedBy : ByteArray := prog_20_method_60_code
def yX2_stainedBy : MethodName := ⟨RX2, "stainedBy", "(II)I"⟩
def dkwX2_stainedBy_2 : List UInt8 := [153, 0, 7, 4, 167, 0, 4, 3, 184, 0, 245, 96, 54, 4, 132, 5, 1, 167, 255, 208, 21, 4, 172]
abbrev dktX2_stainedBy_2 : List UInt8 := dkwX2_stainedBy_2 ++ []
def dkwX2_stainedBy_1 : List UInt8 := [162, 0, 42, 21, 4, 42, 21, 5, 27, 182, 0, 242, 153, 0, 17, 42, 21, 5, 29, 182, 1, 16]
abbrev dktX2_stainedBy_1 : List UInt8 := dkwX2_stainedBy_1 ++ dktX2_stainedBy_2
def dkwX2_stainedBy_0 : List UInt8 := [42, 27, 28, 182, 1, 13, 62, 3, 54, 4, 3, 54, 5, 21, 5, 42, 180, 0, 9, 16, 10, 46]
abbrev dktX2_stainedBy_0 : List UInt8 := dkwX2_stainedBy_0 ++ dktX2_stainedBy_1
theorem dksX2_stainedBy_0 : cX2_stainedBy.data.toList.drop 0 = dktX2_stainedBy_0 := by decide +kernel
theorem dksX2_stainedBy_1 : cX2_stainedBy.data.toList.drop 22 = dktX2_stainedBy_1 := dk_seg dksX2_stainedBy_0 22 rfl rfl
theorem dksX2_stainedBy_2 : cX2_stainedBy.data.toList.drop 44 = dktX2_stainedBy_2 := dk_seg dksX2_stainedBy_1 22 rfl rfl
theorem dX2_stainedBy_0 : decode cX2_stainedBy 0 = .ok (.aload_n 0, 1) := dk_42 (dk_at dksX2_stainedBy_0 0 rfl rfl)
theorem dX2_stainedBy_1 : decode cX2_stainedBy 1 = .ok (.iload_n 1, 1) := dk_27 (dk_at dksX2_stainedBy_0 1 rfl rfl)
theorem dX2_stainedBy_2 : decode cX2_stainedBy 2 = .ok (.iload_n 2, 1) := dk_28 (dk_at dksX2_stainedBy_0 2 rfl rfl)
theorem dX2_stainedBy_3 : decode cX2_stainedBy 3 = .ok (.invokevirtual 269, 3) := dk_182 1 13 (dk_at dksX2_stainedBy_0 3 rfl rfl)
theorem dX2_stainedBy_6 : decode cX2_stainedBy 6 = .ok (.istore_n 3, 1) := dk_62 (dk_at dksX2_stainedBy_0 6 rfl rfl)
theorem dX2_stainedBy_7 : decode cX2_stainedBy 7 = .ok (.iconst 0, 1) := dk_3 (dk_at dksX2_stainedBy_0 7 rfl rfl)
theorem dX2_stainedBy_8 : decode cX2_stainedBy 8 = .ok (.istore 4, 2) := dk_54 4 (dk_at dksX2_stainedBy_0 8 rfl rfl)
theorem dX2_stainedBy_10 : decode cX2_stainedBy 10 = .ok (.iconst 0, 1) := dk_3 (dk_at dksX2_stainedBy_0 10 rfl rfl)
theorem dX2_stainedBy_11 : decode cX2_stainedBy 11 = .ok (.istore 5, 2) := dk_54 5 (dk_at dksX2_stainedBy_0 11 rfl rfl)
theorem dX2_stainedBy_13 : decode cX2_stainedBy 13 = .ok (.iload 5, 2) := dk_21 5 (dk_at dksX2_stainedBy_0 13 rfl rfl)
theorem dX2_stainedBy_15 : decode cX2_stainedBy 15 = .ok (.aload_n 0, 1) := dk_42 (dk_at dksX2_stainedBy_0 15 rfl rfl)
theorem dX2_stainedBy_16 : decode cX2_stainedBy 16 = .ok (.getfield 9, 3) := dk_180 0 9 (dk_at dksX2_stainedBy_0 16 rfl rfl)
theorem dX2_stainedBy_19 : decode cX2_stainedBy 19 = .ok (.bipush 10, 2) := dk_16 10 (dk_at dksX2_stainedBy_0 19 rfl rfl)
theorem dX2_stainedBy_21 : decode cX2_stainedBy 21 = .ok (.iaload, 1) := dk_46 (dk_at dksX2_stainedBy_0 21 rfl rfl)
theorem dX2_stainedBy_22 : decode cX2_stainedBy 22 = .ok (.if_icmp .ge 42, 3) := dk_162 0 42 (dk_at dksX2_stainedBy_1 0 rfl rfl)
theorem dX2_stainedBy_25 : decode cX2_stainedBy 25 = .ok (.iload 4, 2) := dk_21 4 (dk_at dksX2_stainedBy_1 3 rfl rfl)
theorem dX2_stainedBy_27 : decode cX2_stainedBy 27 = .ok (.aload_n 0, 1) := dk_42 (dk_at dksX2_stainedBy_1 5 rfl rfl)
theorem dX2_stainedBy_28 : decode cX2_stainedBy 28 = .ok (.iload 5, 2) := dk_21 5 (dk_at dksX2_stainedBy_1 6 rfl rfl)
theorem dX2_stainedBy_30 : decode cX2_stainedBy 30 = .ok (.iload_n 1, 1) := dk_27 (dk_at dksX2_stainedBy_1 8 rfl rfl)
theorem dX2_stainedBy_31 : decode cX2_stainedBy 31 = .ok (.invokevirtual 242, 3) := dk_182 0 242 (dk_at dksX2_stainedBy_1 9 rfl rfl)
theorem dX2_stainedBy_34 : decode cX2_stainedBy 34 = .ok (.ifCond .eq 17, 3) := dk_153 0 17 (dk_at dksX2_stainedBy_1 12 rfl rfl)
theorem dX2_stainedBy_37 : decode cX2_stainedBy 37 = .ok (.aload_n 0, 1) := dk_42 (dk_at dksX2_stainedBy_1 15 rfl rfl)
theorem dX2_stainedBy_38 : decode cX2_stainedBy 38 = .ok (.iload 5, 2) := dk_21 5 (dk_at dksX2_stainedBy_1 16 rfl rfl)
theorem dX2_stainedBy_40 : decode cX2_stainedBy 40 = .ok (.iload_n 3, 1) := dk_29 (dk_at dksX2_stainedBy_1 18 rfl rfl)
theorem dX2_stainedBy_41 : decode cX2_stainedBy 41 = .ok (.invokevirtual 272, 3) := dk_182 1 16 (dk_at dksX2_stainedBy_1 19 rfl rfl)
theorem dX2_stainedBy_44 : decode cX2_stainedBy 44 = .ok (.ifCond .eq 7, 3) := dk_153 0 7 (dk_at dksX2_stainedBy_2 0 rfl rfl)
theorem dX2_stainedBy_47 : decode cX2_stainedBy 47 = .ok (.iconst 1, 1) := dk_4 (dk_at dksX2_stainedBy_2 3 rfl rfl)
theorem dX2_stainedBy_48 : decode cX2_stainedBy 48 = .ok (.goto 4, 3) := dk_167 0 4 (dk_at dksX2_stainedBy_2 4 rfl rfl)
theorem dX2_stainedBy_51 : decode cX2_stainedBy 51 = .ok (.iconst 0, 1) := dk_3 (dk_at dksX2_stainedBy_2 7 rfl rfl)
theorem dX2_stainedBy_52 : decode cX2_stainedBy 52 = .ok (.invokestatic 245, 3) := dk_184 0 245 (dk_at dksX2_stainedBy_2 8 rfl rfl)
theorem dX2_stainedBy_55 : decode cX2_stainedBy 55 = .ok (.iadd, 1) := dk_96 (dk_at dksX2_stainedBy_2 11 rfl rfl)
theorem dX2_stainedBy_56 : decode cX2_stainedBy 56 = .ok (.istore 4, 2) := dk_54 4 (dk_at dksX2_stainedBy_2 12 rfl rfl)
theorem dX2_stainedBy_58 : decode cX2_stainedBy 58 = .ok (.iinc 5 1, 3) := dk_132 5 1 (dk_at dksX2_stainedBy_2 14 rfl rfl)
theorem dX2_stainedBy_61 : decode cX2_stainedBy 61 = .ok (.goto (-48), 3) := dk_167 255 208 (dk_at dksX2_stainedBy_2 17 rfl rfl)
theorem dX2_stainedBy_64 : decode cX2_stainedBy 64 = .ok (.iload 4, 2) := dk_21 4 (dk_at dksX2_stainedBy_2 20 rfl rfl)
theorem dX2_stainedBy_66 : decode cX2_stainedBy 66 = .ok (.ireturn, 1) := dk_172 (dk_at dksX2_stainedBy_2 22 rfl rfl)
abbrev cX2_newStains : ByteArray := prog_20_method_59_code
def yX2_newStains : MethodName := ⟨RX2, "newStains", "(II)I"⟩
def dkwX2_newStains_0 : List UInt8 := [28, 42, 27, 4, 182, 0, 227, 2, 130, 126, 42, 27, 16, 6, 182, 0, 227, 2, 130, 126, 172]
abbrev dktX2_newStains_0 : List UInt8 := dkwX2_newStains_0 ++ []
theorem dksX2_newStains_0 : cX2_newStains.data.toList.drop 0 = dktX2_newStains_0 := by decide +kernel
theorem dX2_newStains_0 : decode cX2_newStains 0 = .ok (.iload_n 2, 1) := dk_28 (dk_at dksX2_newStains_0 0 rfl rfl)
theorem dX2_newStains_1 : decode cX2_newStains 1 = .ok (.aload_n 0, 1) := dk_42 (dk_at dksX2_newStains_0 1 rfl rfl)
theorem dX2_newStains_2 : decode cX2_newStains 2 = .ok (.iload_n 1, 1) := dk_27 (dk_at dksX2_newStains_0 2 rfl rfl)
theorem dX2_newStains_3 : decode cX2_newStains 3 = .ok (.iconst 1, 1) := dk_4 (dk_at dksX2_newStains_0 3 rfl rfl)
theorem dX2_newStains_4 : decode cX2_newStains 4 = .ok (.invokevirtual 227, 3) := dk_182 0 227 (dk_at dksX2_newStains_0 4 rfl rfl)
theorem dX2_newStains_7 : decode cX2_newStains 7 = .ok (.iconst (-1), 1) := dk_2 (dk_at dksX2_newStains_0 7 rfl rfl)
theorem dX2_newStains_8 : decode cX2_newStains 8 = .ok (.ixor, 1) := dk_130 (dk_at dksX2_newStains_0 8 rfl rfl)
theorem dX2_newStains_9 : decode cX2_newStains 9 = .ok (.iand, 1) := dk_126 (dk_at dksX2_newStains_0 9 rfl rfl)
theorem dX2_newStains_10 : decode cX2_newStains 10 = .ok (.aload_n 0, 1) := dk_42 (dk_at dksX2_newStains_0 10 rfl rfl)
theorem dX2_newStains_11 : decode cX2_newStains 11 = .ok (.iload_n 1, 1) := dk_27 (dk_at dksX2_newStains_0 11 rfl rfl)
theorem dX2_newStains_12 : decode cX2_newStains 12 = .ok (.bipush 6, 2) := dk_16 6 (dk_at dksX2_newStains_0 12 rfl rfl)
theorem dX2_newStains_14 : decode cX2_newStains 14 = .ok (.invokevirtual 227, 3) := dk_182 0 227 (dk_at dksX2_newStains_0 14 rfl rfl)
theorem dX2_newStains_17 : decode cX2_newStains 17 = .ok (.iconst (-1), 1) := dk_2 (dk_at dksX2_newStains_0 17 rfl rfl)
theorem dX2_newStains_18 : decode cX2_newStains 18 = .ok (.ixor, 1) := dk_130 (dk_at dksX2_newStains_0 18 rfl rfl)
theorem dX2_newStains_19 : decode cX2_newStains 19 = .ok (.iand, 1) := dk_126 (dk_at dksX2_newStains_0 19 rfl rfl)
theorem dX2_newStains_20 : decode cX2_newStains 20 = .ok (.ireturn, 1) := dk_172 (dk_at dksX2_newStains_0 20 rfl rfl)
abbrev cX2_isWashed : ByteArray := prog_20_method_63_code
def yX2_isWashed : MethodName := ⟨RX2, "isWashed", "(III)V"⟩
def dkwX2_isWashed_2 : List UInt8 := [8, 182, 0, 227, 4, 96, 29, 96, 184, 0, 255, 182, 0, 233, 42, 27, 3, 2, 182, 0, 236, 177]
abbrev dktX2_isWashed_2 : List UInt8 := dkwX2_isWashed_2 ++ []
def dkwX2_isWashed_1 : List UInt8 := [42, 27, 29, 182, 1, 22, 182, 0, 233, 42, 27, 7, 16, 9, 182, 0, 233, 42, 27, 8, 16, 9, 42, 27]
abbrev dktX2_isWashed_1 : List UInt8 := dkwX2_isWashed_1 ++ dktX2_isWashed_2
def dkwX2_isWashed_0 : List UInt8 := [42, 27, 16, 6, 42, 27, 16, 6, 182, 0, 227, 42, 27, 28, 182, 1, 16, 128, 182, 0, 233, 42, 27, 6]
abbrev dktX2_isWashed_0 : List UInt8 := dkwX2_isWashed_0 ++ dktX2_isWashed_1
theorem dksX2_isWashed_0 : cX2_isWashed.data.toList.drop 0 = dktX2_isWashed_0 := by decide +kernel
theorem dksX2_isWashed_1 : cX2_isWashed.data.toList.drop 24 = dktX2_isWashed_1 := dk_seg dksX2_isWashed_0 24 rfl rfl
theorem dksX2_isWashed_2 : cX2_isWashed.data.toList.drop 48 = dktX2_isWashed_2 := dk_seg dksX2_isWashed_1 24 rfl rfl
theorem dX2_isWashed_0 : decode cX2_isWashed 0 = .ok (.aload_n 0, 1) := dk_42 (dk_at dksX2_isWashed_0 0 rfl rfl)
theorem dX2_isWashed_1 : decode cX2_isWashed 1 = .ok (.iload_n 1, 1) := dk_27 (dk_at dksX2_isWashed_0 1 rfl rfl)
theorem dX2_isWashed_2 : decode cX2_isWashed 2 = .ok (.bipush 6, 2) := dk_16 6 (dk_at dksX2_isWashed_0 2 rfl rfl)
theorem dX2_isWashed_4 : decode cX2_isWashed 4 = .ok (.aload_n 0, 1) := dk_42 (dk_at dksX2_isWashed_0 4 rfl rfl)
theorem dX2_isWashed_5 : decode cX2_isWashed 5 = .ok (.iload_n 1, 1) := dk_27 (dk_at dksX2_isWashed_0 5 rfl rfl)
theorem dX2_isWashed_6 : decode cX2_isWashed 6 = .ok (.bipush 6, 2) := dk_16 6 (dk_at dksX2_isWashed_0 6 rfl rfl)
theorem dX2_isWashed_8 : decode cX2_isWashed 8 = .ok (.invokevirtual 227, 3) := dk_182 0 227 (dk_at dksX2_isWashed_0 8 rfl rfl)
theorem dX2_isWashed_11 : decode cX2_isWashed 11 = .ok (.aload_n 0, 1) := dk_42 (dk_at dksX2_isWashed_0 11 rfl rfl)
theorem dX2_isWashed_12 : decode cX2_isWashed 12 = .ok (.iload_n 1, 1) := dk_27 (dk_at dksX2_isWashed_0 12 rfl rfl)
theorem dX2_isWashed_13 : decode cX2_isWashed 13 = .ok (.iload_n 2, 1) := dk_28 (dk_at dksX2_isWashed_0 13 rfl rfl)
theorem dX2_isWashed_14 : decode cX2_isWashed 14 = .ok (.invokevirtual 272, 3) := dk_182 1 16 (dk_at dksX2_isWashed_0 14 rfl rfl)
theorem dX2_isWashed_17 : decode cX2_isWashed 17 = .ok (.ior, 1) := dk_128 (dk_at dksX2_isWashed_0 17 rfl rfl)
theorem dX2_isWashed_18 : decode cX2_isWashed 18 = .ok (.invokevirtual 233, 3) := dk_182 0 233 (dk_at dksX2_isWashed_0 18 rfl rfl)
theorem dX2_isWashed_21 : decode cX2_isWashed 21 = .ok (.aload_n 0, 1) := dk_42 (dk_at dksX2_isWashed_0 21 rfl rfl)
theorem dX2_isWashed_22 : decode cX2_isWashed 22 = .ok (.iload_n 1, 1) := dk_27 (dk_at dksX2_isWashed_0 22 rfl rfl)
theorem dX2_isWashed_23 : decode cX2_isWashed 23 = .ok (.iconst 3, 1) := dk_6 (dk_at dksX2_isWashed_0 23 rfl rfl)
theorem dX2_isWashed_24 : decode cX2_isWashed 24 = .ok (.aload_n 0, 1) := dk_42 (dk_at dksX2_isWashed_1 0 rfl rfl)
theorem dX2_isWashed_25 : decode cX2_isWashed 25 = .ok (.iload_n 1, 1) := dk_27 (dk_at dksX2_isWashed_1 1 rfl rfl)
theorem dX2_isWashed_26 : decode cX2_isWashed 26 = .ok (.iload_n 3, 1) := dk_29 (dk_at dksX2_isWashed_1 2 rfl rfl)
theorem dX2_isWashed_27 : decode cX2_isWashed 27 = .ok (.invokevirtual 278, 3) := dk_182 1 22 (dk_at dksX2_isWashed_1 3 rfl rfl)
theorem dX2_isWashed_30 : decode cX2_isWashed 30 = .ok (.invokevirtual 233, 3) := dk_182 0 233 (dk_at dksX2_isWashed_1 6 rfl rfl)
theorem dX2_isWashed_33 : decode cX2_isWashed 33 = .ok (.aload_n 0, 1) := dk_42 (dk_at dksX2_isWashed_1 9 rfl rfl)
theorem dX2_isWashed_34 : decode cX2_isWashed 34 = .ok (.iload_n 1, 1) := dk_27 (dk_at dksX2_isWashed_1 10 rfl rfl)
theorem dX2_isWashed_35 : decode cX2_isWashed 35 = .ok (.iconst 4, 1) := dk_7 (dk_at dksX2_isWashed_1 11 rfl rfl)
theorem dX2_isWashed_36 : decode cX2_isWashed 36 = .ok (.bipush 9, 2) := dk_16 9 (dk_at dksX2_isWashed_1 12 rfl rfl)
theorem dX2_isWashed_38 : decode cX2_isWashed 38 = .ok (.invokevirtual 233, 3) := dk_182 0 233 (dk_at dksX2_isWashed_1 14 rfl rfl)
theorem dX2_isWashed_41 : decode cX2_isWashed 41 = .ok (.aload_n 0, 1) := dk_42 (dk_at dksX2_isWashed_1 17 rfl rfl)
theorem dX2_isWashed_42 : decode cX2_isWashed 42 = .ok (.iload_n 1, 1) := dk_27 (dk_at dksX2_isWashed_1 18 rfl rfl)
theorem dX2_isWashed_43 : decode cX2_isWashed 43 = .ok (.iconst 5, 1) := dk_8 (dk_at dksX2_isWashed_1 19 rfl rfl)
theorem dX2_isWashed_44 : decode cX2_isWashed 44 = .ok (.bipush 9, 2) := dk_16 9 (dk_at dksX2_isWashed_1 20 rfl rfl)
theorem dX2_isWashed_46 : decode cX2_isWashed 46 = .ok (.aload_n 0, 1) := dk_42 (dk_at dksX2_isWashed_1 22 rfl rfl)
theorem dX2_isWashed_47 : decode cX2_isWashed 47 = .ok (.iload_n 1, 1) := dk_27 (dk_at dksX2_isWashed_1 23 rfl rfl)
theorem dX2_isWashed_48 : decode cX2_isWashed 48 = .ok (.iconst 5, 1) := dk_8 (dk_at dksX2_isWashed_2 0 rfl rfl)
theorem dX2_isWashed_49 : decode cX2_isWashed 49 = .ok (.invokevirtual 227, 3) := dk_182 0 227 (dk_at dksX2_isWashed_2 1 rfl rfl)
theorem dX2_isWashed_52 : decode cX2_isWashed 52 = .ok (.iconst 1, 1) := dk_4 (dk_at dksX2_isWashed_2 4 rfl rfl)
theorem dX2_isWashed_53 : decode cX2_isWashed 53 = .ok (.iadd, 1) := dk_96 (dk_at dksX2_isWashed_2 5 rfl rfl)
theorem dX2_isWashed_54 : decode cX2_isWashed 54 = .ok (.iload_n 3, 1) := dk_29 (dk_at dksX2_isWashed_2 6 rfl rfl)
theorem dX2_isWashed_55 : decode cX2_isWashed 55 = .ok (.iadd, 1) := dk_96 (dk_at dksX2_isWashed_2 7 rfl rfl)
theorem dX2_isWashed_56 : decode cX2_isWashed 56 = .ok (.invokestatic 255, 3) := dk_184 0 255 (dk_at dksX2_isWashed_2 8 rfl rfl)
theorem dX2_isWashed_59 : decode cX2_isWashed 59 = .ok (.invokevirtual 233, 3) := dk_182 0 233 (dk_at dksX2_isWashed_2 11 rfl rfl)
theorem dX2_isWashed_62 : decode cX2_isWashed 62 = .ok (.aload_n 0, 1) := dk_42 (dk_at dksX2_isWashed_2 14 rfl rfl)
theorem dX2_isWashed_63 : decode cX2_isWashed 63 = .ok (.iload_n 1, 1) := dk_27 (dk_at dksX2_isWashed_2 15 rfl rfl)
theorem dX2_isWashed_64 : decode cX2_isWashed 64 = .ok (.iconst 0, 1) := dk_3 (dk_at dksX2_isWashed_2 16 rfl rfl)
theorem dX2_isWashed_65 : decode cX2_isWashed 65 = .ok (.iconst (-1), 1) := dk_2 (dk_at dksX2_isWashed_2 17 rfl rfl)
theorem dX2_isWashed_66 : decode cX2_isWashed 66 = .ok (.invokevirtual 236, 3) := dk_182 0 236 (dk_at dksX2_isWashed_2 18 rfl rfl)
theorem dX2_isWashed_69 : decode cX2_isWashed 69 = .ok (.return_, 1) := dk_177 (dk_at dksX2_isWashed_2 21 rfl rfl)
abbrev cX2_dirtBehind : ByteArray := prog_20_method_61_code
def yX2_dirtBehind : MethodName := ⟨RX2, "dirtBehind", "(II)I"⟩
def dkwX2_dirtBehind_0 : List UInt8 := [3, 42, 27, 6, 182, 0, 227, 4, 100, 5, 28, 104, 100, 184, 1, 19, 172]
abbrev dktX2_dirtBehind_0 : List UInt8 := dkwX2_dirtBehind_0 ++ []
theorem dksX2_dirtBehind_0 : cX2_dirtBehind.data.toList.drop 0 = dktX2_dirtBehind_0 := by decide +kernel
theorem dX2_dirtBehind_0 : decode cX2_dirtBehind 0 = .ok (.iconst 0, 1) := dk_3 (dk_at dksX2_dirtBehind_0 0 rfl rfl)
theorem dX2_dirtBehind_1 : decode cX2_dirtBehind 1 = .ok (.aload_n 0, 1) := dk_42 (dk_at dksX2_dirtBehind_0 1 rfl rfl)
theorem dX2_dirtBehind_2 : decode cX2_dirtBehind 2 = .ok (.iload_n 1, 1) := dk_27 (dk_at dksX2_dirtBehind_0 2 rfl rfl)
theorem dX2_dirtBehind_3 : decode cX2_dirtBehind 3 = .ok (.iconst 3, 1) := dk_6 (dk_at dksX2_dirtBehind_0 3 rfl rfl)
theorem dX2_dirtBehind_4 : decode cX2_dirtBehind 4 = .ok (.invokevirtual 227, 3) := dk_182 0 227 (dk_at dksX2_dirtBehind_0 4 rfl rfl)
theorem dX2_dirtBehind_7 : decode cX2_dirtBehind 7 = .ok (.iconst 1, 1) := dk_4 (dk_at dksX2_dirtBehind_0 7 rfl rfl)
theorem dX2_dirtBehind_8 : decode cX2_dirtBehind 8 = .ok (.isub, 1) := dk_100 (dk_at dksX2_dirtBehind_0 8 rfl rfl)
theorem dX2_dirtBehind_9 : decode cX2_dirtBehind 9 = .ok (.iconst 2, 1) := dk_5 (dk_at dksX2_dirtBehind_0 9 rfl rfl)
theorem dX2_dirtBehind_10 : decode cX2_dirtBehind 10 = .ok (.iload_n 2, 1) := dk_28 (dk_at dksX2_dirtBehind_0 10 rfl rfl)
theorem dX2_dirtBehind_11 : decode cX2_dirtBehind 11 = .ok (.imul, 1) := dk_104 (dk_at dksX2_dirtBehind_0 11 rfl rfl)
theorem dX2_dirtBehind_12 : decode cX2_dirtBehind 12 = .ok (.isub, 1) := dk_100 (dk_at dksX2_dirtBehind_0 12 rfl rfl)
theorem dX2_dirtBehind_13 : decode cX2_dirtBehind 13 = .ok (.invokestatic 275, 3) := dk_184 1 19 (dk_at dksX2_dirtBehind_0 13 rfl rfl)
theorem dX2_dirtBehind_16 : decode cX2_dirtBehind 16 = .ok (.ireturn, 1) := dk_172 (dk_at dksX2_dirtBehind_0 16 rfl rfl)
abbrev cX2_readsHang : ByteArray := prog_20_method_33_code
def yX2_readsHang : MethodName := ⟨RX2, "readsHang", "()V"⟩
def dkwX2_readsHang_2 : List UInt8 := [27, 182, 0, 152, 42, 182, 0, 111, 177]
abbrev dktX2_readsHang_2 : List UInt8 := dkwX2_readsHang_2 ++ []
def dkwX2_readsHang_1 : List UInt8 := [154, 0, 16, 42, 27, 182, 0, 149, 154, 0, 8, 42, 6, 182, 0, 104, 42, 180, 0, 62, 154, 0, 8, 42]
abbrev dktX2_readsHang_1 : List UInt8 := dkwX2_readsHang_1 ++ dktX2_readsHang_2
def dkwX2_readsHang_0 : List UInt8 := [42, 182, 0, 111, 42, 3, 42, 180, 0, 9, 16, 10, 46, 4, 100, 182, 0, 107, 60, 42, 180, 0, 62]
abbrev dktX2_readsHang_0 : List UInt8 := dkwX2_readsHang_0 ++ dktX2_readsHang_1
theorem dksX2_readsHang_0 : cX2_readsHang.data.toList.drop 0 = dktX2_readsHang_0 := by decide +kernel
theorem dksX2_readsHang_1 : cX2_readsHang.data.toList.drop 23 = dktX2_readsHang_1 := dk_seg dksX2_readsHang_0 23 rfl rfl
theorem dksX2_readsHang_2 : cX2_readsHang.data.toList.drop 47 = dktX2_readsHang_2 := dk_seg dksX2_readsHang_1 24 rfl rfl
theorem dX2_readsHang_0 : decode cX2_readsHang 0 = .ok (.aload_n 0, 1) := dk_42 (dk_at dksX2_readsHang_0 0 rfl rfl)
theorem dX2_readsHang_1 : decode cX2_readsHang 1 = .ok (.invokevirtual 111, 3) := dk_182 0 111 (dk_at dksX2_readsHang_0 1 rfl rfl)
theorem dX2_readsHang_4 : decode cX2_readsHang 4 = .ok (.aload_n 0, 1) := dk_42 (dk_at dksX2_readsHang_0 4 rfl rfl)
theorem dX2_readsHang_5 : decode cX2_readsHang 5 = .ok (.iconst 0, 1) := dk_3 (dk_at dksX2_readsHang_0 5 rfl rfl)
theorem dX2_readsHang_6 : decode cX2_readsHang 6 = .ok (.aload_n 0, 1) := dk_42 (dk_at dksX2_readsHang_0 6 rfl rfl)
theorem dX2_readsHang_7 : decode cX2_readsHang 7 = .ok (.getfield 9, 3) := dk_180 0 9 (dk_at dksX2_readsHang_0 7 rfl rfl)
theorem dX2_readsHang_10 : decode cX2_readsHang 10 = .ok (.bipush 10, 2) := dk_16 10 (dk_at dksX2_readsHang_0 10 rfl rfl)
theorem dX2_readsHang_12 : decode cX2_readsHang 12 = .ok (.iaload, 1) := dk_46 (dk_at dksX2_readsHang_0 12 rfl rfl)
theorem dX2_readsHang_13 : decode cX2_readsHang 13 = .ok (.iconst 1, 1) := dk_4 (dk_at dksX2_readsHang_0 13 rfl rfl)
theorem dX2_readsHang_14 : decode cX2_readsHang 14 = .ok (.isub, 1) := dk_100 (dk_at dksX2_readsHang_0 14 rfl rfl)
theorem dX2_readsHang_15 : decode cX2_readsHang 15 = .ok (.invokevirtual 107, 3) := dk_182 0 107 (dk_at dksX2_readsHang_0 15 rfl rfl)
theorem dX2_readsHang_18 : decode cX2_readsHang 18 = .ok (.istore_n 1, 1) := dk_60 (dk_at dksX2_readsHang_0 18 rfl rfl)
theorem dX2_readsHang_19 : decode cX2_readsHang 19 = .ok (.aload_n 0, 1) := dk_42 (dk_at dksX2_readsHang_0 19 rfl rfl)
theorem dX2_readsHang_20 : decode cX2_readsHang 20 = .ok (.getfield 62, 3) := dk_180 0 62 (dk_at dksX2_readsHang_0 20 rfl rfl)
theorem dX2_readsHang_23 : decode cX2_readsHang 23 = .ok (.ifCond .ne 16, 3) := dk_154 0 16 (dk_at dksX2_readsHang_1 0 rfl rfl)
theorem dX2_readsHang_26 : decode cX2_readsHang 26 = .ok (.aload_n 0, 1) := dk_42 (dk_at dksX2_readsHang_1 3 rfl rfl)
theorem dX2_readsHang_27 : decode cX2_readsHang 27 = .ok (.iload_n 1, 1) := dk_27 (dk_at dksX2_readsHang_1 4 rfl rfl)
theorem dX2_readsHang_28 : decode cX2_readsHang 28 = .ok (.invokevirtual 149, 3) := dk_182 0 149 (dk_at dksX2_readsHang_1 5 rfl rfl)
theorem dX2_readsHang_31 : decode cX2_readsHang 31 = .ok (.ifCond .ne 8, 3) := dk_154 0 8 (dk_at dksX2_readsHang_1 8 rfl rfl)
theorem dX2_readsHang_34 : decode cX2_readsHang 34 = .ok (.aload_n 0, 1) := dk_42 (dk_at dksX2_readsHang_1 11 rfl rfl)
theorem dX2_readsHang_35 : decode cX2_readsHang 35 = .ok (.iconst 3, 1) := dk_6 (dk_at dksX2_readsHang_1 12 rfl rfl)
theorem dX2_readsHang_36 : decode cX2_readsHang 36 = .ok (.invokevirtual 104, 3) := dk_182 0 104 (dk_at dksX2_readsHang_1 13 rfl rfl)
theorem dX2_readsHang_39 : decode cX2_readsHang 39 = .ok (.aload_n 0, 1) := dk_42 (dk_at dksX2_readsHang_1 16 rfl rfl)
theorem dX2_readsHang_40 : decode cX2_readsHang 40 = .ok (.getfield 62, 3) := dk_180 0 62 (dk_at dksX2_readsHang_1 17 rfl rfl)
theorem dX2_readsHang_43 : decode cX2_readsHang 43 = .ok (.ifCond .ne 8, 3) := dk_154 0 8 (dk_at dksX2_readsHang_1 20 rfl rfl)
theorem dX2_readsHang_46 : decode cX2_readsHang 46 = .ok (.aload_n 0, 1) := dk_42 (dk_at dksX2_readsHang_1 23 rfl rfl)
theorem dX2_readsHang_47 : decode cX2_readsHang 47 = .ok (.iload_n 1, 1) := dk_27 (dk_at dksX2_readsHang_2 0 rfl rfl)
theorem dX2_readsHang_48 : decode cX2_readsHang 48 = .ok (.invokevirtual 152, 3) := dk_182 0 152 (dk_at dksX2_readsHang_2 1 rfl rfl)
theorem dX2_readsHang_51 : decode cX2_readsHang 51 = .ok (.aload_n 0, 1) := dk_42 (dk_at dksX2_readsHang_2 4 rfl rfl)
theorem dX2_readsHang_52 : decode cX2_readsHang 52 = .ok (.invokevirtual 111, 3) := dk_182 0 111 (dk_at dksX2_readsHang_2 5 rfl rfl)
theorem dX2_readsHang_55 : decode cX2_readsHang 55 = .ok (.return_, 1) := dk_177 (dk_at dksX2_readsHang_2 8 rfl rfl)
abbrev cX2_canHang : ByteArray := prog_20_method_67_code
def yX2_canHang : MethodName := ⟨RX2, "canHang", "(I)Z"⟩
def dkwX2_canHang_0 : List UInt8 := [42, 27, 182, 0, 249, 153, 0, 15, 42, 182, 1, 34, 2, 159, 0, 7, 4, 167, 0, 4, 3, 172]
abbrev dktX2_canHang_0 : List UInt8 := dkwX2_canHang_0 ++ []
theorem dksX2_canHang_0 : cX2_canHang.data.toList.drop 0 = dktX2_canHang_0 := by decide +kernel
theorem dX2_canHang_0 : decode cX2_canHang 0 = .ok (.aload_n 0, 1) := dk_42 (dk_at dksX2_canHang_0 0 rfl rfl)
theorem dX2_canHang_1 : decode cX2_canHang 1 = .ok (.iload_n 1, 1) := dk_27 (dk_at dksX2_canHang_0 1 rfl rfl)
theorem dX2_canHang_2 : decode cX2_canHang 2 = .ok (.invokevirtual 249, 3) := dk_182 0 249 (dk_at dksX2_canHang_0 2 rfl rfl)
theorem dX2_canHang_5 : decode cX2_canHang 5 = .ok (.ifCond .eq 15, 3) := dk_153 0 15 (dk_at dksX2_canHang_0 5 rfl rfl)
theorem dX2_canHang_8 : decode cX2_canHang 8 = .ok (.aload_n 0, 1) := dk_42 (dk_at dksX2_canHang_0 8 rfl rfl)
theorem dX2_canHang_9 : decode cX2_canHang 9 = .ok (.invokevirtual 290, 3) := dk_182 1 34 (dk_at dksX2_canHang_0 9 rfl rfl)
theorem dX2_canHang_12 : decode cX2_canHang 12 = .ok (.iconst (-1), 1) := dk_2 (dk_at dksX2_canHang_0 12 rfl rfl)
theorem dX2_canHang_13 : decode cX2_canHang 13 = .ok (.if_icmp .eq 7, 3) := dk_159 0 7 (dk_at dksX2_canHang_0 13 rfl rfl)
theorem dX2_canHang_16 : decode cX2_canHang 16 = .ok (.iconst 1, 1) := dk_4 (dk_at dksX2_canHang_0 16 rfl rfl)
theorem dX2_canHang_17 : decode cX2_canHang 17 = .ok (.goto 4, 3) := dk_167 0 4 (dk_at dksX2_canHang_0 17 rfl rfl)
theorem dX2_canHang_20 : decode cX2_canHang 20 = .ok (.iconst 0, 1) := dk_3 (dk_at dksX2_canHang_0 20 rfl rfl)
theorem dX2_canHang_21 : decode cX2_canHang 21 = .ok (.ireturn, 1) := dk_172 (dk_at dksX2_canHang_0 21 rfl rfl)
abbrev cX2_freePeg : ByteArray := prog_20_method_66_code
def yX2_freePeg : MethodName := ⟨RX2, "freePeg", "()I"⟩
def dkwX2_freePeg_1 : List UInt8 := [132, 1, 1, 167, 255, 231, 2, 172]
abbrev dktX2_freePeg_1 : List UInt8 := dkwX2_freePeg_1 ++ []
def dkwX2_freePeg_0 : List UInt8 := [3, 60, 27, 42, 180, 0, 9, 16, 9, 46, 162, 0, 20, 42, 27, 182, 1, 31, 2, 160, 0, 5, 27, 172]
abbrev dktX2_freePeg_0 : List UInt8 := dkwX2_freePeg_0 ++ dktX2_freePeg_1
theorem dksX2_freePeg_0 : cX2_freePeg.data.toList.drop 0 = dktX2_freePeg_0 := by decide +kernel
theorem dksX2_freePeg_1 : cX2_freePeg.data.toList.drop 24 = dktX2_freePeg_1 := dk_seg dksX2_freePeg_0 24 rfl rfl
theorem dX2_freePeg_0 : decode cX2_freePeg 0 = .ok (.iconst 0, 1) := dk_3 (dk_at dksX2_freePeg_0 0 rfl rfl)
theorem dX2_freePeg_1 : decode cX2_freePeg 1 = .ok (.istore_n 1, 1) := dk_60 (dk_at dksX2_freePeg_0 1 rfl rfl)
theorem dX2_freePeg_2 : decode cX2_freePeg 2 = .ok (.iload_n 1, 1) := dk_27 (dk_at dksX2_freePeg_0 2 rfl rfl)
theorem dX2_freePeg_3 : decode cX2_freePeg 3 = .ok (.aload_n 0, 1) := dk_42 (dk_at dksX2_freePeg_0 3 rfl rfl)
theorem dX2_freePeg_4 : decode cX2_freePeg 4 = .ok (.getfield 9, 3) := dk_180 0 9 (dk_at dksX2_freePeg_0 4 rfl rfl)
theorem dX2_freePeg_7 : decode cX2_freePeg 7 = .ok (.bipush 9, 2) := dk_16 9 (dk_at dksX2_freePeg_0 7 rfl rfl)
theorem dX2_freePeg_9 : decode cX2_freePeg 9 = .ok (.iaload, 1) := dk_46 (dk_at dksX2_freePeg_0 9 rfl rfl)
theorem dX2_freePeg_10 : decode cX2_freePeg 10 = .ok (.if_icmp .ge 20, 3) := dk_162 0 20 (dk_at dksX2_freePeg_0 10 rfl rfl)
theorem dX2_freePeg_13 : decode cX2_freePeg 13 = .ok (.aload_n 0, 1) := dk_42 (dk_at dksX2_freePeg_0 13 rfl rfl)
theorem dX2_freePeg_14 : decode cX2_freePeg 14 = .ok (.iload_n 1, 1) := dk_27 (dk_at dksX2_freePeg_0 14 rfl rfl)
theorem dX2_freePeg_15 : decode cX2_freePeg 15 = .ok (.invokevirtual 287, 3) := dk_182 1 31 (dk_at dksX2_freePeg_0 15 rfl rfl)
theorem dX2_freePeg_18 : decode cX2_freePeg 18 = .ok (.iconst (-1), 1) := dk_2 (dk_at dksX2_freePeg_0 18 rfl rfl)
theorem dX2_freePeg_19 : decode cX2_freePeg 19 = .ok (.if_icmp .ne 5, 3) := dk_160 0 5 (dk_at dksX2_freePeg_0 19 rfl rfl)
theorem dX2_freePeg_22 : decode cX2_freePeg 22 = .ok (.iload_n 1, 1) := dk_27 (dk_at dksX2_freePeg_0 22 rfl rfl)
theorem dX2_freePeg_23 : decode cX2_freePeg 23 = .ok (.ireturn, 1) := dk_172 (dk_at dksX2_freePeg_0 23 rfl rfl)
theorem dX2_freePeg_24 : decode cX2_freePeg 24 = .ok (.iinc 1 1, 3) := dk_132 1 1 (dk_at dksX2_freePeg_1 0 rfl rfl)
theorem dX2_freePeg_27 : decode cX2_freePeg 27 = .ok (.goto (-25), 3) := dk_167 255 231 (dk_at dksX2_freePeg_1 3 rfl rfl)
theorem dX2_freePeg_30 : decode cX2_freePeg 30 = .ok (.iconst (-1), 1) := dk_2 (dk_at dksX2_freePeg_1 6 rfl rfl)
theorem dX2_freePeg_31 : decode cX2_freePeg 31 = .ok (.ireturn, 1) := dk_172 (dk_at dksX2_freePeg_1 7 rfl rfl)
abbrev cX2_flagOn : ByteArray := prog_20_method_65_code
def yX2_flagOn : MethodName := ⟨RX2, "flagOn", "(I)I"⟩
def dkwX2_flagOn_1 : List UInt8 := [16, 9, 182, 0, 227, 27, 160, 0, 5, 28, 172, 132, 2, 1, 167, 255, 220, 2, 172]
abbrev dktX2_flagOn_1 : List UInt8 := dkwX2_flagOn_1 ++ []
def dkwX2_flagOn_0 : List UInt8 := [3, 61, 28, 42, 180, 0, 9, 16, 10, 46, 162, 0, 31, 42, 28, 182, 0, 230, 5, 160, 0, 16, 42, 28]
abbrev dktX2_flagOn_0 : List UInt8 := dkwX2_flagOn_0 ++ dktX2_flagOn_1
theorem dksX2_flagOn_0 : cX2_flagOn.data.toList.drop 0 = dktX2_flagOn_0 := by decide +kernel
theorem dksX2_flagOn_1 : cX2_flagOn.data.toList.drop 24 = dktX2_flagOn_1 := dk_seg dksX2_flagOn_0 24 rfl rfl
theorem dX2_flagOn_0 : decode cX2_flagOn 0 = .ok (.iconst 0, 1) := dk_3 (dk_at dksX2_flagOn_0 0 rfl rfl)
theorem dX2_flagOn_1 : decode cX2_flagOn 1 = .ok (.istore_n 2, 1) := dk_61 (dk_at dksX2_flagOn_0 1 rfl rfl)
theorem dX2_flagOn_2 : decode cX2_flagOn 2 = .ok (.iload_n 2, 1) := dk_28 (dk_at dksX2_flagOn_0 2 rfl rfl)
theorem dX2_flagOn_3 : decode cX2_flagOn 3 = .ok (.aload_n 0, 1) := dk_42 (dk_at dksX2_flagOn_0 3 rfl rfl)
theorem dX2_flagOn_4 : decode cX2_flagOn 4 = .ok (.getfield 9, 3) := dk_180 0 9 (dk_at dksX2_flagOn_0 4 rfl rfl)
theorem dX2_flagOn_7 : decode cX2_flagOn 7 = .ok (.bipush 10, 2) := dk_16 10 (dk_at dksX2_flagOn_0 7 rfl rfl)
theorem dX2_flagOn_9 : decode cX2_flagOn 9 = .ok (.iaload, 1) := dk_46 (dk_at dksX2_flagOn_0 9 rfl rfl)
theorem dX2_flagOn_10 : decode cX2_flagOn 10 = .ok (.if_icmp .ge 31, 3) := dk_162 0 31 (dk_at dksX2_flagOn_0 10 rfl rfl)
theorem dX2_flagOn_13 : decode cX2_flagOn 13 = .ok (.aload_n 0, 1) := dk_42 (dk_at dksX2_flagOn_0 13 rfl rfl)
theorem dX2_flagOn_14 : decode cX2_flagOn 14 = .ok (.iload_n 2, 1) := dk_28 (dk_at dksX2_flagOn_0 14 rfl rfl)
theorem dX2_flagOn_15 : decode cX2_flagOn 15 = .ok (.invokevirtual 230, 3) := dk_182 0 230 (dk_at dksX2_flagOn_0 15 rfl rfl)
theorem dX2_flagOn_18 : decode cX2_flagOn 18 = .ok (.iconst 2, 1) := dk_5 (dk_at dksX2_flagOn_0 18 rfl rfl)
theorem dX2_flagOn_19 : decode cX2_flagOn 19 = .ok (.if_icmp .ne 16, 3) := dk_160 0 16 (dk_at dksX2_flagOn_0 19 rfl rfl)
theorem dX2_flagOn_22 : decode cX2_flagOn 22 = .ok (.aload_n 0, 1) := dk_42 (dk_at dksX2_flagOn_0 22 rfl rfl)
theorem dX2_flagOn_23 : decode cX2_flagOn 23 = .ok (.iload_n 2, 1) := dk_28 (dk_at dksX2_flagOn_0 23 rfl rfl)
theorem dX2_flagOn_24 : decode cX2_flagOn 24 = .ok (.bipush 9, 2) := dk_16 9 (dk_at dksX2_flagOn_1 0 rfl rfl)
theorem dX2_flagOn_26 : decode cX2_flagOn 26 = .ok (.invokevirtual 227, 3) := dk_182 0 227 (dk_at dksX2_flagOn_1 2 rfl rfl)
theorem dX2_flagOn_29 : decode cX2_flagOn 29 = .ok (.iload_n 1, 1) := dk_27 (dk_at dksX2_flagOn_1 5 rfl rfl)
theorem dX2_flagOn_30 : decode cX2_flagOn 30 = .ok (.if_icmp .ne 5, 3) := dk_160 0 5 (dk_at dksX2_flagOn_1 6 rfl rfl)
theorem dX2_flagOn_33 : decode cX2_flagOn 33 = .ok (.iload_n 2, 1) := dk_28 (dk_at dksX2_flagOn_1 9 rfl rfl)
theorem dX2_flagOn_34 : decode cX2_flagOn 34 = .ok (.ireturn, 1) := dk_172 (dk_at dksX2_flagOn_1 10 rfl rfl)
theorem dX2_flagOn_35 : decode cX2_flagOn 35 = .ok (.iinc 2 1, 3) := dk_132 2 1 (dk_at dksX2_flagOn_1 11 rfl rfl)
theorem dX2_flagOn_38 : decode cX2_flagOn 38 = .ok (.goto (-36), 3) := dk_167 255 220 (dk_at dksX2_flagOn_1 14 rfl rfl)
theorem dX2_flagOn_41 : decode cX2_flagOn 41 = .ok (.iconst (-1), 1) := dk_2 (dk_at dksX2_flagOn_1 17 rfl rfl)
theorem dX2_flagOn_42 : decode cX2_flagOn 42 = .ok (.ireturn, 1) := dk_172 (dk_at dksX2_flagOn_1 18 rfl rfl)
abbrev cX2_hangs : ByteArray := prog_20_method_68_code
def yX2_hangs : MethodName := ⟨RX2, "hangs", "(I)V"⟩
def dkwX2_hangs_0 : List UInt8 := [42, 27, 5, 42, 182, 1, 34, 182, 0, 236, 177]
abbrev dktX2_hangs_0 : List UInt8 := dkwX2_hangs_0 ++ []
theorem dksX2_hangs_0 : cX2_hangs.data.toList.drop 0 = dktX2_hangs_0 := by decide +kernel
theorem dX2_hangs_0 : decode cX2_hangs 0 = .ok (.aload_n 0, 1) := dk_42 (dk_at dksX2_hangs_0 0 rfl rfl)
theorem dX2_hangs_1 : decode cX2_hangs 1 = .ok (.iload_n 1, 1) := dk_27 (dk_at dksX2_hangs_0 1 rfl rfl)
theorem dX2_hangs_2 : decode cX2_hangs 2 = .ok (.iconst 2, 1) := dk_5 (dk_at dksX2_hangs_0 2 rfl rfl)
theorem dX2_hangs_3 : decode cX2_hangs 3 = .ok (.aload_n 0, 1) := dk_42 (dk_at dksX2_hangs_0 3 rfl rfl)
theorem dX2_hangs_4 : decode cX2_hangs 4 = .ok (.invokevirtual 290, 3) := dk_182 1 34 (dk_at dksX2_hangs_0 4 rfl rfl)
theorem dX2_hangs_7 : decode cX2_hangs 7 = .ok (.invokevirtual 236, 3) := dk_182 0 236 (dk_at dksX2_hangs_0 7 rfl rfl)
theorem dX2_hangs_10 : decode cX2_hangs 10 = .ok (.return_, 1) := dk_177 (dk_at dksX2_hangs_0 10 rfl rfl)
abbrev cX2_readsWind : ByteArray := prog_20_method_34_code
def yX2_readsWind : MethodName := ⟨RX2, "readsWind", "()V"⟩
def dkwX2_readsWind_1 : List UInt8 := [27, 79, 177]
abbrev dktX2_readsWind_1 : List UInt8 := dkwX2_readsWind_1 ++ []
def dkwX2_readsWind_0 : List UInt8 := [42, 182, 0, 111, 42, 3, 16, 9, 182, 0, 118, 60, 42, 180, 0, 62, 154, 0, 10, 42, 180, 0, 9, 4]
abbrev dktX2_readsWind_0 : List UInt8 := dkwX2_readsWind_0 ++ dktX2_readsWind_1
theorem dksX2_readsWind_0 : cX2_readsWind.data.toList.drop 0 = dktX2_readsWind_0 := by decide +kernel
theorem dksX2_readsWind_1 : cX2_readsWind.data.toList.drop 24 = dktX2_readsWind_1 := dk_seg dksX2_readsWind_0 24 rfl rfl
theorem dX2_readsWind_0 : decode cX2_readsWind 0 = .ok (.aload_n 0, 1) := dk_42 (dk_at dksX2_readsWind_0 0 rfl rfl)
theorem dX2_readsWind_1 : decode cX2_readsWind 1 = .ok (.invokevirtual 111, 3) := dk_182 0 111 (dk_at dksX2_readsWind_0 1 rfl rfl)
theorem dX2_readsWind_4 : decode cX2_readsWind 4 = .ok (.aload_n 0, 1) := dk_42 (dk_at dksX2_readsWind_0 4 rfl rfl)
theorem dX2_readsWind_5 : decode cX2_readsWind 5 = .ok (.iconst 0, 1) := dk_3 (dk_at dksX2_readsWind_0 5 rfl rfl)
theorem dX2_readsWind_6 : decode cX2_readsWind 6 = .ok (.bipush 9, 2) := dk_16 9 (dk_at dksX2_readsWind_0 6 rfl rfl)
theorem dX2_readsWind_8 : decode cX2_readsWind 8 = .ok (.invokevirtual 118, 3) := dk_182 0 118 (dk_at dksX2_readsWind_0 8 rfl rfl)
theorem dX2_readsWind_11 : decode cX2_readsWind 11 = .ok (.istore_n 1, 1) := dk_60 (dk_at dksX2_readsWind_0 11 rfl rfl)
theorem dX2_readsWind_12 : decode cX2_readsWind 12 = .ok (.aload_n 0, 1) := dk_42 (dk_at dksX2_readsWind_0 12 rfl rfl)
theorem dX2_readsWind_13 : decode cX2_readsWind 13 = .ok (.getfield 62, 3) := dk_180 0 62 (dk_at dksX2_readsWind_0 13 rfl rfl)
theorem dX2_readsWind_16 : decode cX2_readsWind 16 = .ok (.ifCond .ne 10, 3) := dk_154 0 10 (dk_at dksX2_readsWind_0 16 rfl rfl)
theorem dX2_readsWind_19 : decode cX2_readsWind 19 = .ok (.aload_n 0, 1) := dk_42 (dk_at dksX2_readsWind_0 19 rfl rfl)
theorem dX2_readsWind_20 : decode cX2_readsWind 20 = .ok (.getfield 9, 3) := dk_180 0 9 (dk_at dksX2_readsWind_0 20 rfl rfl)
theorem dX2_readsWind_23 : decode cX2_readsWind 23 = .ok (.iconst 1, 1) := dk_4 (dk_at dksX2_readsWind_0 23 rfl rfl)
theorem dX2_readsWind_24 : decode cX2_readsWind 24 = .ok (.iload_n 1, 1) := dk_27 (dk_at dksX2_readsWind_1 0 rfl rfl)
theorem dX2_readsWind_25 : decode cX2_readsWind 25 = .ok (.iastore, 1) := dk_79 (dk_at dksX2_readsWind_1 1 rfl rfl)
theorem dX2_readsWind_26 : decode cX2_readsWind 26 = .ok (.return_, 1) := dk_177 (dk_at dksX2_readsWind_1 2 rfl rfl)
abbrev cX2_readsPass : ByteArray := prog_20_method_35_code
def yX2_readsPass : MethodName := ⟨RX2, "readsPass", "()V"⟩
def dkwX2_readsPass_1 : List UInt8 := [154, 0, 13, 42, 182, 0, 155, 132, 2, 1, 167, 255, 237, 177]
abbrev dktX2_readsPass_1 : List UInt8 := dkwX2_readsPass_1 ++ []
def dkwX2_readsPass_0 : List UInt8 := [42, 182, 0, 111, 42, 4, 16, 50, 182, 0, 118, 60, 3, 61, 28, 27, 162, 0, 20, 42, 180, 0, 62]
abbrev dktX2_readsPass_0 : List UInt8 := dkwX2_readsPass_0 ++ dktX2_readsPass_1
theorem dksX2_readsPass_0 : cX2_readsPass.data.toList.drop 0 = dktX2_readsPass_0 := by decide +kernel
theorem dksX2_readsPass_1 : cX2_readsPass.data.toList.drop 23 = dktX2_readsPass_1 := dk_seg dksX2_readsPass_0 23 rfl rfl
theorem dX2_readsPass_0 : decode cX2_readsPass 0 = .ok (.aload_n 0, 1) := dk_42 (dk_at dksX2_readsPass_0 0 rfl rfl)
theorem dX2_readsPass_1 : decode cX2_readsPass 1 = .ok (.invokevirtual 111, 3) := dk_182 0 111 (dk_at dksX2_readsPass_0 1 rfl rfl)
theorem dX2_readsPass_4 : decode cX2_readsPass 4 = .ok (.aload_n 0, 1) := dk_42 (dk_at dksX2_readsPass_0 4 rfl rfl)
theorem dX2_readsPass_5 : decode cX2_readsPass 5 = .ok (.iconst 1, 1) := dk_4 (dk_at dksX2_readsPass_0 5 rfl rfl)
theorem dX2_readsPass_6 : decode cX2_readsPass 6 = .ok (.bipush 50, 2) := dk_16 50 (dk_at dksX2_readsPass_0 6 rfl rfl)
theorem dX2_readsPass_8 : decode cX2_readsPass 8 = .ok (.invokevirtual 118, 3) := dk_182 0 118 (dk_at dksX2_readsPass_0 8 rfl rfl)
theorem dX2_readsPass_11 : decode cX2_readsPass 11 = .ok (.istore_n 1, 1) := dk_60 (dk_at dksX2_readsPass_0 11 rfl rfl)
theorem dX2_readsPass_12 : decode cX2_readsPass 12 = .ok (.iconst 0, 1) := dk_3 (dk_at dksX2_readsPass_0 12 rfl rfl)
theorem dX2_readsPass_13 : decode cX2_readsPass 13 = .ok (.istore_n 2, 1) := dk_61 (dk_at dksX2_readsPass_0 13 rfl rfl)
theorem dX2_readsPass_14 : decode cX2_readsPass 14 = .ok (.iload_n 2, 1) := dk_28 (dk_at dksX2_readsPass_0 14 rfl rfl)
theorem dX2_readsPass_15 : decode cX2_readsPass 15 = .ok (.iload_n 1, 1) := dk_27 (dk_at dksX2_readsPass_0 15 rfl rfl)
theorem dX2_readsPass_16 : decode cX2_readsPass 16 = .ok (.if_icmp .ge 20, 3) := dk_162 0 20 (dk_at dksX2_readsPass_0 16 rfl rfl)
theorem dX2_readsPass_19 : decode cX2_readsPass 19 = .ok (.aload_n 0, 1) := dk_42 (dk_at dksX2_readsPass_0 19 rfl rfl)
theorem dX2_readsPass_20 : decode cX2_readsPass 20 = .ok (.getfield 62, 3) := dk_180 0 62 (dk_at dksX2_readsPass_0 20 rfl rfl)
theorem dX2_readsPass_23 : decode cX2_readsPass 23 = .ok (.ifCond .ne 13, 3) := dk_154 0 13 (dk_at dksX2_readsPass_1 0 rfl rfl)
theorem dX2_readsPass_26 : decode cX2_readsPass 26 = .ok (.aload_n 0, 1) := dk_42 (dk_at dksX2_readsPass_1 3 rfl rfl)
theorem dX2_readsPass_27 : decode cX2_readsPass 27 = .ok (.invokevirtual 155, 3) := dk_182 0 155 (dk_at dksX2_readsPass_1 4 rfl rfl)
theorem dX2_readsPass_30 : decode cX2_readsPass 30 = .ok (.iinc 2 1, 3) := dk_132 2 1 (dk_at dksX2_readsPass_1 7 rfl rfl)
theorem dX2_readsPass_33 : decode cX2_readsPass 33 = .ok (.goto (-19), 3) := dk_167 255 237 (dk_at dksX2_readsPass_1 10 rfl rfl)
theorem dX2_readsPass_36 : decode cX2_readsPass 36 = .ok (.return_, 1) := dk_177 (dk_at dksX2_readsPass_1 13 rfl rfl)
abbrev cX2_passes : ByteArray := prog_20_method_72_code
def yX2_passes : MethodName := ⟨RX2, "passes", "()V"⟩
def dkwX2_passes_0 : List UInt8 := [42, 182, 1, 40, 42, 182, 1, 43, 42, 180, 0, 9, 3, 92, 46, 4, 96, 79, 177]
abbrev dktX2_passes_0 : List UInt8 := dkwX2_passes_0 ++ []
theorem dksX2_passes_0 : cX2_passes.data.toList.drop 0 = dktX2_passes_0 := by decide +kernel
theorem dX2_passes_0 : decode cX2_passes 0 = .ok (.aload_n 0, 1) := dk_42 (dk_at dksX2_passes_0 0 rfl rfl)
theorem dX2_passes_1 : decode cX2_passes 1 = .ok (.invokevirtual 296, 3) := dk_182 1 40 (dk_at dksX2_passes_0 1 rfl rfl)
theorem dX2_passes_4 : decode cX2_passes 4 = .ok (.aload_n 0, 1) := dk_42 (dk_at dksX2_passes_0 4 rfl rfl)
theorem dX2_passes_5 : decode cX2_passes 5 = .ok (.invokevirtual 299, 3) := dk_182 1 43 (dk_at dksX2_passes_0 5 rfl rfl)
theorem dX2_passes_8 : decode cX2_passes 8 = .ok (.aload_n 0, 1) := dk_42 (dk_at dksX2_passes_0 8 rfl rfl)
theorem dX2_passes_9 : decode cX2_passes 9 = .ok (.getfield 9, 3) := dk_180 0 9 (dk_at dksX2_passes_0 9 rfl rfl)
theorem dX2_passes_12 : decode cX2_passes 12 = .ok (.iconst 0, 1) := dk_3 (dk_at dksX2_passes_0 12 rfl rfl)
theorem dX2_passes_13 : decode cX2_passes 13 = .ok (.dup2, 1) := dk_92 (dk_at dksX2_passes_0 13 rfl rfl)
theorem dX2_passes_14 : decode cX2_passes 14 = .ok (.iaload, 1) := dk_46 (dk_at dksX2_passes_0 14 rfl rfl)
theorem dX2_passes_15 : decode cX2_passes 15 = .ok (.iconst 1, 1) := dk_4 (dk_at dksX2_passes_0 15 rfl rfl)
theorem dX2_passes_16 : decode cX2_passes 16 = .ok (.iadd, 1) := dk_96 (dk_at dksX2_passes_0 16 rfl rfl)
theorem dX2_passes_17 : decode cX2_passes 17 = .ok (.iastore, 1) := dk_79 (dk_at dksX2_passes_0 17 rfl rfl)
theorem dX2_passes_18 : decode cX2_passes 18 = .ok (.return_, 1) := dk_177 (dk_at dksX2_passes_0 18 rfl rfl)
abbrev cX2_dries : ByteArray := prog_20_method_70_code
def yX2_dries : MethodName := ⟨RX2, "dries", "()V"⟩
def dkwX2_dries_2 : List UInt8 := [182, 0, 233, 132, 1, 1, 167, 255, 206, 177]
abbrev dktX2_dries_2 : List UInt8 := dkwX2_dries_2 ++ []
def dkwX2_dries_1 : List UInt8 := [7, 3, 42, 27, 7, 182, 0, 227, 4, 100, 42, 180, 0, 9, 4, 46, 6, 108, 100, 184, 1, 19]
abbrev dktX2_dries_1 : List UInt8 := dkwX2_dries_1 ++ dktX2_dries_2
def dkwX2_dries_0 : List UInt8 := [3, 60, 27, 42, 180, 0, 9, 16, 10, 46, 162, 0, 45, 42, 27, 182, 0, 230, 5, 160, 0, 30, 42, 27]
abbrev dktX2_dries_0 : List UInt8 := dkwX2_dries_0 ++ dktX2_dries_1
theorem dksX2_dries_0 : cX2_dries.data.toList.drop 0 = dktX2_dries_0 := by decide +kernel
theorem dksX2_dries_1 : cX2_dries.data.toList.drop 24 = dktX2_dries_1 := dk_seg dksX2_dries_0 24 rfl rfl
theorem dksX2_dries_2 : cX2_dries.data.toList.drop 46 = dktX2_dries_2 := dk_seg dksX2_dries_1 22 rfl rfl
theorem dX2_dries_0 : decode cX2_dries 0 = .ok (.iconst 0, 1) := dk_3 (dk_at dksX2_dries_0 0 rfl rfl)
theorem dX2_dries_1 : decode cX2_dries 1 = .ok (.istore_n 1, 1) := dk_60 (dk_at dksX2_dries_0 1 rfl rfl)
theorem dX2_dries_2 : decode cX2_dries 2 = .ok (.iload_n 1, 1) := dk_27 (dk_at dksX2_dries_0 2 rfl rfl)
theorem dX2_dries_3 : decode cX2_dries 3 = .ok (.aload_n 0, 1) := dk_42 (dk_at dksX2_dries_0 3 rfl rfl)
theorem dX2_dries_4 : decode cX2_dries 4 = .ok (.getfield 9, 3) := dk_180 0 9 (dk_at dksX2_dries_0 4 rfl rfl)
theorem dX2_dries_7 : decode cX2_dries 7 = .ok (.bipush 10, 2) := dk_16 10 (dk_at dksX2_dries_0 7 rfl rfl)
theorem dX2_dries_9 : decode cX2_dries 9 = .ok (.iaload, 1) := dk_46 (dk_at dksX2_dries_0 9 rfl rfl)
theorem dX2_dries_10 : decode cX2_dries 10 = .ok (.if_icmp .ge 45, 3) := dk_162 0 45 (dk_at dksX2_dries_0 10 rfl rfl)
theorem dX2_dries_13 : decode cX2_dries 13 = .ok (.aload_n 0, 1) := dk_42 (dk_at dksX2_dries_0 13 rfl rfl)
theorem dX2_dries_14 : decode cX2_dries 14 = .ok (.iload_n 1, 1) := dk_27 (dk_at dksX2_dries_0 14 rfl rfl)
theorem dX2_dries_15 : decode cX2_dries 15 = .ok (.invokevirtual 230, 3) := dk_182 0 230 (dk_at dksX2_dries_0 15 rfl rfl)
theorem dX2_dries_18 : decode cX2_dries 18 = .ok (.iconst 2, 1) := dk_5 (dk_at dksX2_dries_0 18 rfl rfl)
theorem dX2_dries_19 : decode cX2_dries 19 = .ok (.if_icmp .ne 30, 3) := dk_160 0 30 (dk_at dksX2_dries_0 19 rfl rfl)
theorem dX2_dries_22 : decode cX2_dries 22 = .ok (.aload_n 0, 1) := dk_42 (dk_at dksX2_dries_0 22 rfl rfl)
theorem dX2_dries_23 : decode cX2_dries 23 = .ok (.iload_n 1, 1) := dk_27 (dk_at dksX2_dries_0 23 rfl rfl)
theorem dX2_dries_24 : decode cX2_dries 24 = .ok (.iconst 4, 1) := dk_7 (dk_at dksX2_dries_1 0 rfl rfl)
theorem dX2_dries_25 : decode cX2_dries 25 = .ok (.iconst 0, 1) := dk_3 (dk_at dksX2_dries_1 1 rfl rfl)
theorem dX2_dries_26 : decode cX2_dries 26 = .ok (.aload_n 0, 1) := dk_42 (dk_at dksX2_dries_1 2 rfl rfl)
theorem dX2_dries_27 : decode cX2_dries 27 = .ok (.iload_n 1, 1) := dk_27 (dk_at dksX2_dries_1 3 rfl rfl)
theorem dX2_dries_28 : decode cX2_dries 28 = .ok (.iconst 4, 1) := dk_7 (dk_at dksX2_dries_1 4 rfl rfl)
theorem dX2_dries_29 : decode cX2_dries 29 = .ok (.invokevirtual 227, 3) := dk_182 0 227 (dk_at dksX2_dries_1 5 rfl rfl)
theorem dX2_dries_32 : decode cX2_dries 32 = .ok (.iconst 1, 1) := dk_4 (dk_at dksX2_dries_1 8 rfl rfl)
theorem dX2_dries_33 : decode cX2_dries 33 = .ok (.isub, 1) := dk_100 (dk_at dksX2_dries_1 9 rfl rfl)
theorem dX2_dries_34 : decode cX2_dries 34 = .ok (.aload_n 0, 1) := dk_42 (dk_at dksX2_dries_1 10 rfl rfl)
theorem dX2_dries_35 : decode cX2_dries 35 = .ok (.getfield 9, 3) := dk_180 0 9 (dk_at dksX2_dries_1 11 rfl rfl)
theorem dX2_dries_38 : decode cX2_dries 38 = .ok (.iconst 1, 1) := dk_4 (dk_at dksX2_dries_1 14 rfl rfl)
theorem dX2_dries_39 : decode cX2_dries 39 = .ok (.iaload, 1) := dk_46 (dk_at dksX2_dries_1 15 rfl rfl)
theorem dX2_dries_40 : decode cX2_dries 40 = .ok (.iconst 3, 1) := dk_6 (dk_at dksX2_dries_1 16 rfl rfl)
theorem dX2_dries_41 : decode cX2_dries 41 = .ok (.idiv, 1) := dk_108 (dk_at dksX2_dries_1 17 rfl rfl)
theorem dX2_dries_42 : decode cX2_dries 42 = .ok (.isub, 1) := dk_100 (dk_at dksX2_dries_1 18 rfl rfl)
theorem dX2_dries_43 : decode cX2_dries 43 = .ok (.invokestatic 275, 3) := dk_184 1 19 (dk_at dksX2_dries_1 19 rfl rfl)
theorem dX2_dries_46 : decode cX2_dries 46 = .ok (.invokevirtual 233, 3) := dk_182 0 233 (dk_at dksX2_dries_2 0 rfl rfl)
theorem dX2_dries_49 : decode cX2_dries 49 = .ok (.iinc 1 1, 3) := dk_132 1 1 (dk_at dksX2_dries_2 3 rfl rfl)
theorem dX2_dries_52 : decode cX2_dries 52 = .ok (.goto (-50), 3) := dk_167 255 206 (dk_at dksX2_dries_2 6 rfl rfl)
theorem dX2_dries_55 : decode cX2_dries 55 = .ok (.return_, 1) := dk_177 (dk_at dksX2_dries_2 9 rfl rfl)
abbrev cX2_falls : ByteArray := prog_20_method_71_code
def yX2_falls : MethodName := ⟨RX2, "falls", "()V"⟩
def dkwX2_falls_2 : List UInt8 := [184, 0, 255, 182, 0, 233, 42, 180, 0, 9, 8, 92, 46, 4, 96, 79, 177]
abbrev dktX2_falls_2 : List UInt8 := dkwX2_falls_2 ++ []
def dkwX2_falls_1 : List UInt8 := [160, 0, 4, 177, 42, 27, 3, 2, 182, 0, 236, 42, 27, 6, 16, 9, 42, 27, 6, 182, 0, 227, 4, 96]
abbrev dktX2_falls_1 : List UInt8 := dkwX2_falls_1 ++ dktX2_falls_2
def dkwX2_falls_0 : List UInt8 := [42, 180, 0, 9, 4, 46, 16, 7, 161, 0, 10, 42, 182, 1, 37, 167, 0, 4, 2, 60, 27, 2]
abbrev dktX2_falls_0 : List UInt8 := dkwX2_falls_0 ++ dktX2_falls_1
theorem dksX2_falls_0 : cX2_falls.data.toList.drop 0 = dktX2_falls_0 := by decide +kernel
theorem dksX2_falls_1 : cX2_falls.data.toList.drop 22 = dktX2_falls_1 := dk_seg dksX2_falls_0 22 rfl rfl
theorem dksX2_falls_2 : cX2_falls.data.toList.drop 46 = dktX2_falls_2 := dk_seg dksX2_falls_1 24 rfl rfl
theorem dX2_falls_0 : decode cX2_falls 0 = .ok (.aload_n 0, 1) := dk_42 (dk_at dksX2_falls_0 0 rfl rfl)
theorem dX2_falls_1 : decode cX2_falls 1 = .ok (.getfield 9, 3) := dk_180 0 9 (dk_at dksX2_falls_0 1 rfl rfl)
theorem dX2_falls_4 : decode cX2_falls 4 = .ok (.iconst 1, 1) := dk_4 (dk_at dksX2_falls_0 4 rfl rfl)
theorem dX2_falls_5 : decode cX2_falls 5 = .ok (.iaload, 1) := dk_46 (dk_at dksX2_falls_0 5 rfl rfl)
theorem dX2_falls_6 : decode cX2_falls 6 = .ok (.bipush 7, 2) := dk_16 7 (dk_at dksX2_falls_0 6 rfl rfl)
theorem dX2_falls_8 : decode cX2_falls 8 = .ok (.if_icmp .lt 10, 3) := dk_161 0 10 (dk_at dksX2_falls_0 8 rfl rfl)
theorem dX2_falls_11 : decode cX2_falls 11 = .ok (.aload_n 0, 1) := dk_42 (dk_at dksX2_falls_0 11 rfl rfl)
theorem dX2_falls_12 : decode cX2_falls 12 = .ok (.invokevirtual 293, 3) := dk_182 1 37 (dk_at dksX2_falls_0 12 rfl rfl)
theorem dX2_falls_15 : decode cX2_falls 15 = .ok (.goto 4, 3) := dk_167 0 4 (dk_at dksX2_falls_0 15 rfl rfl)
theorem dX2_falls_18 : decode cX2_falls 18 = .ok (.iconst (-1), 1) := dk_2 (dk_at dksX2_falls_0 18 rfl rfl)
theorem dX2_falls_19 : decode cX2_falls 19 = .ok (.istore_n 1, 1) := dk_60 (dk_at dksX2_falls_0 19 rfl rfl)
theorem dX2_falls_20 : decode cX2_falls 20 = .ok (.iload_n 1, 1) := dk_27 (dk_at dksX2_falls_0 20 rfl rfl)
theorem dX2_falls_21 : decode cX2_falls 21 = .ok (.iconst (-1), 1) := dk_2 (dk_at dksX2_falls_0 21 rfl rfl)
theorem dX2_falls_22 : decode cX2_falls 22 = .ok (.if_icmp .ne 4, 3) := dk_160 0 4 (dk_at dksX2_falls_1 0 rfl rfl)
theorem dX2_falls_25 : decode cX2_falls 25 = .ok (.return_, 1) := dk_177 (dk_at dksX2_falls_1 3 rfl rfl)
theorem dX2_falls_26 : decode cX2_falls 26 = .ok (.aload_n 0, 1) := dk_42 (dk_at dksX2_falls_1 4 rfl rfl)
theorem dX2_falls_27 : decode cX2_falls 27 = .ok (.iload_n 1, 1) := dk_27 (dk_at dksX2_falls_1 5 rfl rfl)
theorem dX2_falls_28 : decode cX2_falls 28 = .ok (.iconst 0, 1) := dk_3 (dk_at dksX2_falls_1 6 rfl rfl)
theorem dX2_falls_29 : decode cX2_falls 29 = .ok (.iconst (-1), 1) := dk_2 (dk_at dksX2_falls_1 7 rfl rfl)
theorem dX2_falls_30 : decode cX2_falls 30 = .ok (.invokevirtual 236, 3) := dk_182 0 236 (dk_at dksX2_falls_1 8 rfl rfl)
theorem dX2_falls_33 : decode cX2_falls 33 = .ok (.aload_n 0, 1) := dk_42 (dk_at dksX2_falls_1 11 rfl rfl)
theorem dX2_falls_34 : decode cX2_falls 34 = .ok (.iload_n 1, 1) := dk_27 (dk_at dksX2_falls_1 12 rfl rfl)
theorem dX2_falls_35 : decode cX2_falls 35 = .ok (.iconst 3, 1) := dk_6 (dk_at dksX2_falls_1 13 rfl rfl)
theorem dX2_falls_36 : decode cX2_falls 36 = .ok (.bipush 9, 2) := dk_16 9 (dk_at dksX2_falls_1 14 rfl rfl)
theorem dX2_falls_38 : decode cX2_falls 38 = .ok (.aload_n 0, 1) := dk_42 (dk_at dksX2_falls_1 16 rfl rfl)
theorem dX2_falls_39 : decode cX2_falls 39 = .ok (.iload_n 1, 1) := dk_27 (dk_at dksX2_falls_1 17 rfl rfl)
theorem dX2_falls_40 : decode cX2_falls 40 = .ok (.iconst 3, 1) := dk_6 (dk_at dksX2_falls_1 18 rfl rfl)
theorem dX2_falls_41 : decode cX2_falls 41 = .ok (.invokevirtual 227, 3) := dk_182 0 227 (dk_at dksX2_falls_1 19 rfl rfl)
theorem dX2_falls_44 : decode cX2_falls 44 = .ok (.iconst 1, 1) := dk_4 (dk_at dksX2_falls_1 22 rfl rfl)
theorem dX2_falls_45 : decode cX2_falls 45 = .ok (.iadd, 1) := dk_96 (dk_at dksX2_falls_1 23 rfl rfl)
theorem dX2_falls_46 : decode cX2_falls 46 = .ok (.invokestatic 255, 3) := dk_184 0 255 (dk_at dksX2_falls_2 0 rfl rfl)
theorem dX2_falls_49 : decode cX2_falls 49 = .ok (.invokevirtual 233, 3) := dk_182 0 233 (dk_at dksX2_falls_2 3 rfl rfl)
theorem dX2_falls_52 : decode cX2_falls 52 = .ok (.aload_n 0, 1) := dk_42 (dk_at dksX2_falls_2 6 rfl rfl)
theorem dX2_falls_53 : decode cX2_falls 53 = .ok (.getfield 9, 3) := dk_180 0 9 (dk_at dksX2_falls_2 7 rfl rfl)
theorem dX2_falls_56 : decode cX2_falls 56 = .ok (.iconst 5, 1) := dk_8 (dk_at dksX2_falls_2 10 rfl rfl)
theorem dX2_falls_57 : decode cX2_falls 57 = .ok (.dup2, 1) := dk_92 (dk_at dksX2_falls_2 11 rfl rfl)
theorem dX2_falls_58 : decode cX2_falls 58 = .ok (.iaload, 1) := dk_46 (dk_at dksX2_falls_2 12 rfl rfl)
theorem dX2_falls_59 : decode cX2_falls 59 = .ok (.iconst 1, 1) := dk_4 (dk_at dksX2_falls_2 13 rfl rfl)
theorem dX2_falls_60 : decode cX2_falls 60 = .ok (.iadd, 1) := dk_96 (dk_at dksX2_falls_2 14 rfl rfl)
theorem dX2_falls_61 : decode cX2_falls 61 = .ok (.iastore, 1) := dk_79 (dk_at dksX2_falls_2 15 rfl rfl)
theorem dX2_falls_62 : decode cX2_falls 62 = .ok (.return_, 1) := dk_177 (dk_at dksX2_falls_2 16 rfl rfl)
abbrev cX2_lastHung : ByteArray := prog_20_method_69_code
def yX2_lastHung : MethodName := ⟨RX2, "lastHung", "()I"⟩
def dkwX2_lastHung_1 : List UInt8 := [27, 182, 1, 31, 172, 132, 1, 255, 167, 255, 234, 2, 172]
abbrev dktX2_lastHung_1 : List UInt8 := dkwX2_lastHung_1 ++ []
def dkwX2_lastHung_0 : List UInt8 := [42, 180, 0, 9, 16, 9, 46, 4, 100, 60, 27, 155, 0, 24, 42, 27, 182, 1, 31, 2, 159, 0, 9, 42]
abbrev dktX2_lastHung_0 : List UInt8 := dkwX2_lastHung_0 ++ dktX2_lastHung_1
theorem dksX2_lastHung_0 : cX2_lastHung.data.toList.drop 0 = dktX2_lastHung_0 := by decide +kernel
theorem dksX2_lastHung_1 : cX2_lastHung.data.toList.drop 24 = dktX2_lastHung_1 := dk_seg dksX2_lastHung_0 24 rfl rfl
theorem dX2_lastHung_0 : decode cX2_lastHung 0 = .ok (.aload_n 0, 1) := dk_42 (dk_at dksX2_lastHung_0 0 rfl rfl)
theorem dX2_lastHung_1 : decode cX2_lastHung 1 = .ok (.getfield 9, 3) := dk_180 0 9 (dk_at dksX2_lastHung_0 1 rfl rfl)
theorem dX2_lastHung_4 : decode cX2_lastHung 4 = .ok (.bipush 9, 2) := dk_16 9 (dk_at dksX2_lastHung_0 4 rfl rfl)
theorem dX2_lastHung_6 : decode cX2_lastHung 6 = .ok (.iaload, 1) := dk_46 (dk_at dksX2_lastHung_0 6 rfl rfl)
theorem dX2_lastHung_7 : decode cX2_lastHung 7 = .ok (.iconst 1, 1) := dk_4 (dk_at dksX2_lastHung_0 7 rfl rfl)
theorem dX2_lastHung_8 : decode cX2_lastHung 8 = .ok (.isub, 1) := dk_100 (dk_at dksX2_lastHung_0 8 rfl rfl)
theorem dX2_lastHung_9 : decode cX2_lastHung 9 = .ok (.istore_n 1, 1) := dk_60 (dk_at dksX2_lastHung_0 9 rfl rfl)
theorem dX2_lastHung_10 : decode cX2_lastHung 10 = .ok (.iload_n 1, 1) := dk_27 (dk_at dksX2_lastHung_0 10 rfl rfl)
theorem dX2_lastHung_11 : decode cX2_lastHung 11 = .ok (.ifCond .lt 24, 3) := dk_155 0 24 (dk_at dksX2_lastHung_0 11 rfl rfl)
theorem dX2_lastHung_14 : decode cX2_lastHung 14 = .ok (.aload_n 0, 1) := dk_42 (dk_at dksX2_lastHung_0 14 rfl rfl)
theorem dX2_lastHung_15 : decode cX2_lastHung 15 = .ok (.iload_n 1, 1) := dk_27 (dk_at dksX2_lastHung_0 15 rfl rfl)
theorem dX2_lastHung_16 : decode cX2_lastHung 16 = .ok (.invokevirtual 287, 3) := dk_182 1 31 (dk_at dksX2_lastHung_0 16 rfl rfl)
theorem dX2_lastHung_19 : decode cX2_lastHung 19 = .ok (.iconst (-1), 1) := dk_2 (dk_at dksX2_lastHung_0 19 rfl rfl)
theorem dX2_lastHung_20 : decode cX2_lastHung 20 = .ok (.if_icmp .eq 9, 3) := dk_159 0 9 (dk_at dksX2_lastHung_0 20 rfl rfl)
theorem dX2_lastHung_23 : decode cX2_lastHung 23 = .ok (.aload_n 0, 1) := dk_42 (dk_at dksX2_lastHung_0 23 rfl rfl)
theorem dX2_lastHung_24 : decode cX2_lastHung 24 = .ok (.iload_n 1, 1) := dk_27 (dk_at dksX2_lastHung_1 0 rfl rfl)
theorem dX2_lastHung_25 : decode cX2_lastHung 25 = .ok (.invokevirtual 287, 3) := dk_182 1 31 (dk_at dksX2_lastHung_1 1 rfl rfl)
theorem dX2_lastHung_28 : decode cX2_lastHung 28 = .ok (.ireturn, 1) := dk_172 (dk_at dksX2_lastHung_1 4 rfl rfl)
theorem dX2_lastHung_29 : decode cX2_lastHung 29 = .ok (.iinc 1 (-1), 3) := dk_132 1 255 (dk_at dksX2_lastHung_1 5 rfl rfl)
theorem dX2_lastHung_32 : decode cX2_lastHung 32 = .ok (.goto (-22), 3) := dk_167 255 234 (dk_at dksX2_lastHung_1 8 rfl rfl)
theorem dX2_lastHung_35 : decode cX2_lastHung 35 = .ok (.iconst (-1), 1) := dk_2 (dk_at dksX2_lastHung_1 11 rfl rfl)
theorem dX2_lastHung_36 : decode cX2_lastHung 36 = .ok (.ireturn, 1) := dk_172 (dk_at dksX2_lastHung_1 12 rfl rfl)
abbrev cX2_back : ByteArray := prog_20_method_11_code
def yX2_back : MethodName := ⟨RX2, "back", "(I)I"⟩
def dkwX2_back_0 : List UInt8 := [42, 180, 0, 13, 3, 42, 180, 0, 9, 3, 184, 0, 51, 27, 172]
abbrev dktX2_back_0 : List UInt8 := dkwX2_back_0 ++ []
theorem dksX2_back_0 : cX2_back.data.toList.drop 0 = dktX2_back_0 := by decide +kernel
theorem dX2_back_0 : decode cX2_back 0 = .ok (.aload_n 0, 1) := dk_42 (dk_at dksX2_back_0 0 rfl rfl)
theorem dX2_back_1 : decode cX2_back 1 = .ok (.getfield 13, 3) := dk_180 0 13 (dk_at dksX2_back_0 1 rfl rfl)
theorem dX2_back_4 : decode cX2_back 4 = .ok (.iconst 0, 1) := dk_3 (dk_at dksX2_back_0 4 rfl rfl)
theorem dX2_back_5 : decode cX2_back 5 = .ok (.aload_n 0, 1) := dk_42 (dk_at dksX2_back_0 5 rfl rfl)
theorem dX2_back_6 : decode cX2_back 6 = .ok (.getfield 9, 3) := dk_180 0 9 (dk_at dksX2_back_0 6 rfl rfl)
theorem dX2_back_9 : decode cX2_back 9 = .ok (.iconst 0, 1) := dk_3 (dk_at dksX2_back_0 9 rfl rfl)
theorem dX2_back_10 : decode cX2_back 10 = .ok (.invokestatic 51, 3) := dk_184 0 51 (dk_at dksX2_back_0 10 rfl rfl)
theorem dX2_back_13 : decode cX2_back 13 = .ok (.iload_n 1, 1) := dk_27 (dk_at dksX2_back_0 13 rfl rfl)
theorem dX2_back_14 : decode cX2_back 14 = .ok (.ireturn, 1) := dk_172 (dk_at dksX2_back_0 14 rfl rfl)
abbrev cX2_count : ByteArray := prog_20_method_82_code
def yX2_count : MethodName := ⟨RX2, "count", "(I)I"⟩
def dkwX2_count_5 : List UInt8 := [7, 46, 172, 42, 180, 0, 9, 8, 46, 172, 42, 182, 1, 62, 172, 42, 27, 16, 7, 100, 182, 1, 65, 172]
abbrev dktX2_count_5 : List UInt8 := dkwX2_count_5 ++ []
def dkwX2_count_4 : List UInt8 := [180, 0, 9, 4, 46, 172, 42, 180, 0, 9, 5, 46, 172, 42, 180, 0, 9, 6, 46, 172, 42, 180, 0, 9]
abbrev dktX2_count_4 : List UInt8 := dkwX2_count_4 ++ dktX2_count_5
def dkwX2_count_3 : List UInt8 := [42, 180, 0, 9, 16, 9, 46, 172, 42, 180, 0, 9, 16, 10, 46, 172, 42, 180, 0, 9, 3, 46, 172, 42]
abbrev dktX2_count_3 : List UInt8 := dkwX2_count_3 ++ dktX2_count_4
def dkwX2_count_2 : List UInt8 := [42, 180, 0, 9, 16, 6, 46, 172, 42, 180, 0, 9, 16, 7, 46, 172, 42, 180, 0, 9, 16, 8, 46, 172]
abbrev dktX2_count_2 : List UInt8 := dkwX2_count_2 ++ dktX2_count_3
def dkwX2_count_1 : List UInt8 := [170, 0, 0, 0, 0, 0, 166, 0, 0, 0, 0, 0, 0, 0, 15, 0, 0, 0, 79, 0, 0, 0, 87, 0, 0, 0, 95, 0, 0, 0, 103, 0, 0, 0, 111, 0, 0, 0, 119, 0, 0, 0, 126, 0, 0, 0, 166, 0, 0, 0, 166, 0, 0, 0, 166, 0, 0, 0, 166, 0, 0, 0, 133, 0, 0, 0, 140, 0, 0, 0, 147, 0, 0, 0, 154, 0, 0, 0, 161]
abbrev dktX2_count_1 : List UInt8 := dkwX2_count_1 ++ dktX2_count_2
def dkwX2_count_0 : List UInt8 := [42, 42, 180, 0, 47, 27, 3, 16, 15, 184, 0, 68, 182, 1, 58, 154, 0, 5, 3, 172, 27]
abbrev dktX2_count_0 : List UInt8 := dkwX2_count_0 ++ dktX2_count_1
theorem dksX2_count_0 : cX2_count.data.toList.drop 0 = dktX2_count_0 := by decide +kernel
theorem dksX2_count_1 : cX2_count.data.toList.drop 21 = dktX2_count_1 := dk_seg dksX2_count_0 21 rfl rfl
theorem dksX2_count_2 : cX2_count.data.toList.drop 100 = dktX2_count_2 := dk_seg dksX2_count_1 79 rfl rfl
theorem dksX2_count_3 : cX2_count.data.toList.drop 124 = dktX2_count_3 := dk_seg dksX2_count_2 24 rfl rfl
theorem dksX2_count_4 : cX2_count.data.toList.drop 148 = dktX2_count_4 := dk_seg dksX2_count_3 24 rfl rfl
theorem dksX2_count_5 : cX2_count.data.toList.drop 172 = dktX2_count_5 := dk_seg dksX2_count_4 24 rfl rfl
theorem dX2_count_0 : decode cX2_count 0 = .ok (.aload_n 0, 1) := dk_42 (dk_at dksX2_count_0 0 rfl rfl)
theorem dX2_count_1 : decode cX2_count 1 = .ok (.aload_n 0, 1) := dk_42 (dk_at dksX2_count_0 1 rfl rfl)
theorem dX2_count_2 : decode cX2_count 2 = .ok (.getfield 47, 3) := dk_180 0 47 (dk_at dksX2_count_0 2 rfl rfl)
theorem dX2_count_5 : decode cX2_count 5 = .ok (.iload_n 1, 1) := dk_27 (dk_at dksX2_count_0 5 rfl rfl)
theorem dX2_count_6 : decode cX2_count 6 = .ok (.iconst 0, 1) := dk_3 (dk_at dksX2_count_0 6 rfl rfl)
theorem dX2_count_7 : decode cX2_count 7 = .ok (.bipush 15, 2) := dk_16 15 (dk_at dksX2_count_0 7 rfl rfl)
theorem dX2_count_9 : decode cX2_count 9 = .ok (.invokestatic 68, 3) := dk_184 0 68 (dk_at dksX2_count_0 9 rfl rfl)
theorem dX2_count_12 : decode cX2_count 12 = .ok (.invokevirtual 314, 3) := dk_182 1 58 (dk_at dksX2_count_0 12 rfl rfl)
theorem dX2_count_15 : decode cX2_count 15 = .ok (.ifCond .ne 5, 3) := dk_154 0 5 (dk_at dksX2_count_0 15 rfl rfl)
theorem dX2_count_18 : decode cX2_count 18 = .ok (.iconst 0, 1) := dk_3 (dk_at dksX2_count_0 18 rfl rfl)
theorem dX2_count_19 : decode cX2_count 19 = .ok (.ireturn, 1) := dk_172 (dk_at dksX2_count_0 19 rfl rfl)
theorem dX2_count_20 : decode cX2_count 20 = .ok (.iload_n 1, 1) := dk_27 (dk_at dksX2_count_0 20 rfl rfl)
theorem dX2_count_21 : decode cX2_count 21 = .ok (.tableswitch 166 0 15 #[79, 87, 95, 103, 111, 119, 126, 166, 166, 166, 166, 133, 140, 147, 154, 161], 79) := by decide +kernel
theorem dX2_count_100 : decode cX2_count 100 = .ok (.aload_n 0, 1) := dk_42 (dk_at dksX2_count_2 0 rfl rfl)
theorem dX2_count_101 : decode cX2_count 101 = .ok (.getfield 9, 3) := dk_180 0 9 (dk_at dksX2_count_2 1 rfl rfl)
theorem dX2_count_104 : decode cX2_count 104 = .ok (.bipush 6, 2) := dk_16 6 (dk_at dksX2_count_2 4 rfl rfl)
theorem dX2_count_106 : decode cX2_count 106 = .ok (.iaload, 1) := dk_46 (dk_at dksX2_count_2 6 rfl rfl)
theorem dX2_count_107 : decode cX2_count 107 = .ok (.ireturn, 1) := dk_172 (dk_at dksX2_count_2 7 rfl rfl)
theorem dX2_count_108 : decode cX2_count 108 = .ok (.aload_n 0, 1) := dk_42 (dk_at dksX2_count_2 8 rfl rfl)
theorem dX2_count_109 : decode cX2_count 109 = .ok (.getfield 9, 3) := dk_180 0 9 (dk_at dksX2_count_2 9 rfl rfl)
theorem dX2_count_112 : decode cX2_count 112 = .ok (.bipush 7, 2) := dk_16 7 (dk_at dksX2_count_2 12 rfl rfl)
theorem dX2_count_114 : decode cX2_count 114 = .ok (.iaload, 1) := dk_46 (dk_at dksX2_count_2 14 rfl rfl)
theorem dX2_count_115 : decode cX2_count 115 = .ok (.ireturn, 1) := dk_172 (dk_at dksX2_count_2 15 rfl rfl)
theorem dX2_count_116 : decode cX2_count 116 = .ok (.aload_n 0, 1) := dk_42 (dk_at dksX2_count_2 16 rfl rfl)
theorem dX2_count_117 : decode cX2_count 117 = .ok (.getfield 9, 3) := dk_180 0 9 (dk_at dksX2_count_2 17 rfl rfl)
theorem dX2_count_120 : decode cX2_count 120 = .ok (.bipush 8, 2) := dk_16 8 (dk_at dksX2_count_2 20 rfl rfl)
theorem dX2_count_122 : decode cX2_count 122 = .ok (.iaload, 1) := dk_46 (dk_at dksX2_count_2 22 rfl rfl)
theorem dX2_count_123 : decode cX2_count 123 = .ok (.ireturn, 1) := dk_172 (dk_at dksX2_count_2 23 rfl rfl)
theorem dX2_count_124 : decode cX2_count 124 = .ok (.aload_n 0, 1) := dk_42 (dk_at dksX2_count_3 0 rfl rfl)
theorem dX2_count_125 : decode cX2_count 125 = .ok (.getfield 9, 3) := dk_180 0 9 (dk_at dksX2_count_3 1 rfl rfl)
theorem dX2_count_128 : decode cX2_count 128 = .ok (.bipush 9, 2) := dk_16 9 (dk_at dksX2_count_3 4 rfl rfl)
theorem dX2_count_130 : decode cX2_count 130 = .ok (.iaload, 1) := dk_46 (dk_at dksX2_count_3 6 rfl rfl)
theorem dX2_count_131 : decode cX2_count 131 = .ok (.ireturn, 1) := dk_172 (dk_at dksX2_count_3 7 rfl rfl)
theorem dX2_count_132 : decode cX2_count 132 = .ok (.aload_n 0, 1) := dk_42 (dk_at dksX2_count_3 8 rfl rfl)
theorem dX2_count_133 : decode cX2_count 133 = .ok (.getfield 9, 3) := dk_180 0 9 (dk_at dksX2_count_3 9 rfl rfl)
theorem dX2_count_136 : decode cX2_count 136 = .ok (.bipush 10, 2) := dk_16 10 (dk_at dksX2_count_3 12 rfl rfl)
theorem dX2_count_138 : decode cX2_count 138 = .ok (.iaload, 1) := dk_46 (dk_at dksX2_count_3 14 rfl rfl)
theorem dX2_count_139 : decode cX2_count 139 = .ok (.ireturn, 1) := dk_172 (dk_at dksX2_count_3 15 rfl rfl)
theorem dX2_count_140 : decode cX2_count 140 = .ok (.aload_n 0, 1) := dk_42 (dk_at dksX2_count_3 16 rfl rfl)
theorem dX2_count_141 : decode cX2_count 141 = .ok (.getfield 9, 3) := dk_180 0 9 (dk_at dksX2_count_3 17 rfl rfl)
theorem dX2_count_144 : decode cX2_count 144 = .ok (.iconst 0, 1) := dk_3 (dk_at dksX2_count_3 20 rfl rfl)
theorem dX2_count_145 : decode cX2_count 145 = .ok (.iaload, 1) := dk_46 (dk_at dksX2_count_3 21 rfl rfl)
theorem dX2_count_146 : decode cX2_count 146 = .ok (.ireturn, 1) := dk_172 (dk_at dksX2_count_3 22 rfl rfl)
theorem dX2_count_147 : decode cX2_count 147 = .ok (.aload_n 0, 1) := dk_42 (dk_at dksX2_count_3 23 rfl rfl)
theorem dX2_count_148 : decode cX2_count 148 = .ok (.getfield 9, 3) := dk_180 0 9 (dk_at dksX2_count_4 0 rfl rfl)
theorem dX2_count_151 : decode cX2_count 151 = .ok (.iconst 1, 1) := dk_4 (dk_at dksX2_count_4 3 rfl rfl)
theorem dX2_count_152 : decode cX2_count 152 = .ok (.iaload, 1) := dk_46 (dk_at dksX2_count_4 4 rfl rfl)
theorem dX2_count_153 : decode cX2_count 153 = .ok (.ireturn, 1) := dk_172 (dk_at dksX2_count_4 5 rfl rfl)
theorem dX2_count_154 : decode cX2_count 154 = .ok (.aload_n 0, 1) := dk_42 (dk_at dksX2_count_4 6 rfl rfl)
theorem dX2_count_155 : decode cX2_count 155 = .ok (.getfield 9, 3) := dk_180 0 9 (dk_at dksX2_count_4 7 rfl rfl)
theorem dX2_count_158 : decode cX2_count 158 = .ok (.iconst 2, 1) := dk_5 (dk_at dksX2_count_4 10 rfl rfl)
theorem dX2_count_159 : decode cX2_count 159 = .ok (.iaload, 1) := dk_46 (dk_at dksX2_count_4 11 rfl rfl)
theorem dX2_count_160 : decode cX2_count 160 = .ok (.ireturn, 1) := dk_172 (dk_at dksX2_count_4 12 rfl rfl)
theorem dX2_count_161 : decode cX2_count 161 = .ok (.aload_n 0, 1) := dk_42 (dk_at dksX2_count_4 13 rfl rfl)
theorem dX2_count_162 : decode cX2_count 162 = .ok (.getfield 9, 3) := dk_180 0 9 (dk_at dksX2_count_4 14 rfl rfl)
theorem dX2_count_165 : decode cX2_count 165 = .ok (.iconst 3, 1) := dk_6 (dk_at dksX2_count_4 17 rfl rfl)
theorem dX2_count_166 : decode cX2_count 166 = .ok (.iaload, 1) := dk_46 (dk_at dksX2_count_4 18 rfl rfl)
theorem dX2_count_167 : decode cX2_count 167 = .ok (.ireturn, 1) := dk_172 (dk_at dksX2_count_4 19 rfl rfl)
theorem dX2_count_168 : decode cX2_count 168 = .ok (.aload_n 0, 1) := dk_42 (dk_at dksX2_count_4 20 rfl rfl)
theorem dX2_count_169 : decode cX2_count 169 = .ok (.getfield 9, 3) := dk_180 0 9 (dk_at dksX2_count_4 21 rfl rfl)
theorem dX2_count_172 : decode cX2_count 172 = .ok (.iconst 4, 1) := dk_7 (dk_at dksX2_count_5 0 rfl rfl)
theorem dX2_count_173 : decode cX2_count 173 = .ok (.iaload, 1) := dk_46 (dk_at dksX2_count_5 1 rfl rfl)
theorem dX2_count_174 : decode cX2_count 174 = .ok (.ireturn, 1) := dk_172 (dk_at dksX2_count_5 2 rfl rfl)
theorem dX2_count_175 : decode cX2_count 175 = .ok (.aload_n 0, 1) := dk_42 (dk_at dksX2_count_5 3 rfl rfl)
theorem dX2_count_176 : decode cX2_count 176 = .ok (.getfield 9, 3) := dk_180 0 9 (dk_at dksX2_count_5 4 rfl rfl)
theorem dX2_count_179 : decode cX2_count 179 = .ok (.iconst 5, 1) := dk_8 (dk_at dksX2_count_5 7 rfl rfl)
theorem dX2_count_180 : decode cX2_count 180 = .ok (.iaload, 1) := dk_46 (dk_at dksX2_count_5 8 rfl rfl)
theorem dX2_count_181 : decode cX2_count 181 = .ok (.ireturn, 1) := dk_172 (dk_at dksX2_count_5 9 rfl rfl)
theorem dX2_count_182 : decode cX2_count 182 = .ok (.aload_n 0, 1) := dk_42 (dk_at dksX2_count_5 10 rfl rfl)
theorem dX2_count_183 : decode cX2_count 183 = .ok (.invokevirtual 318, 3) := dk_182 1 62 (dk_at dksX2_count_5 11 rfl rfl)
theorem dX2_count_186 : decode cX2_count 186 = .ok (.ireturn, 1) := dk_172 (dk_at dksX2_count_5 14 rfl rfl)
theorem dX2_count_187 : decode cX2_count 187 = .ok (.aload_n 0, 1) := dk_42 (dk_at dksX2_count_5 15 rfl rfl)
theorem dX2_count_188 : decode cX2_count 188 = .ok (.iload_n 1, 1) := dk_27 (dk_at dksX2_count_5 16 rfl rfl)
theorem dX2_count_189 : decode cX2_count 189 = .ok (.bipush 7, 2) := dk_16 7 (dk_at dksX2_count_5 17 rfl rfl)
theorem dX2_count_191 : decode cX2_count 191 = .ok (.isub, 1) := dk_100 (dk_at dksX2_count_5 19 rfl rfl)
theorem dX2_count_192 : decode cX2_count 192 = .ok (.invokevirtual 321, 3) := dk_182 1 65 (dk_at dksX2_count_5 20 rfl rfl)
theorem dX2_count_195 : decode cX2_count 195 = .ok (.ireturn, 1) := dk_172 (dk_at dksX2_count_5 23 rfl rfl)
abbrev cX2_mayTwo : ByteArray := prog_20_method_7_code
def yX2_mayTwo : MethodName := ⟨RX2, "mayTwo", "(ZZ)Z"⟩
def dkwX2_mayTwo_0 : List UInt8 := [42, 27, 28, 4, 182, 0, 43, 172]
abbrev dktX2_mayTwo_0 : List UInt8 := dkwX2_mayTwo_0 ++ []
theorem dksX2_mayTwo_0 : cX2_mayTwo.data.toList.drop 0 = dktX2_mayTwo_0 := by decide +kernel
theorem dX2_mayTwo_0 : decode cX2_mayTwo 0 = .ok (.aload_n 0, 1) := dk_42 (dk_at dksX2_mayTwo_0 0 rfl rfl)
theorem dX2_mayTwo_1 : decode cX2_mayTwo 1 = .ok (.iload_n 1, 1) := dk_27 (dk_at dksX2_mayTwo_0 1 rfl rfl)
theorem dX2_mayTwo_2 : decode cX2_mayTwo 2 = .ok (.iload_n 2, 1) := dk_28 (dk_at dksX2_mayTwo_0 2 rfl rfl)
theorem dX2_mayTwo_3 : decode cX2_mayTwo 3 = .ok (.iconst 1, 1) := dk_4 (dk_at dksX2_mayTwo_0 3 rfl rfl)
theorem dX2_mayTwo_4 : decode cX2_mayTwo 4 = .ok (.invokevirtual 43, 3) := dk_182 0 43 (dk_at dksX2_mayTwo_0 4 rfl rfl)
theorem dX2_mayTwo_7 : decode cX2_mayTwo 7 = .ok (.ireturn, 1) := dk_172 (dk_at dksX2_mayTwo_0 7 rfl rfl)
abbrev cX2_readyMany : ByteArray := prog_20_method_81_code
def yX2_readyMany : MethodName := ⟨RX2, "readyMany", "()I"⟩
def dkwX2_readyMany_1 : List UInt8 := [4, 167, 0, 4, 3, 184, 0, 245, 96, 60, 132, 2, 1, 167, 255, 223, 27, 172]
abbrev dktX2_readyMany_1 : List UInt8 := dkwX2_readyMany_1 ++ []
def dkwX2_readyMany_0 : List UInt8 := [3, 60, 3, 61, 28, 42, 180, 0, 9, 16, 10, 46, 162, 0, 28, 27, 42, 28, 182, 1, 55, 154, 0, 7]
abbrev dktX2_readyMany_0 : List UInt8 := dkwX2_readyMany_0 ++ dktX2_readyMany_1
theorem dksX2_readyMany_0 : cX2_readyMany.data.toList.drop 0 = dktX2_readyMany_0 := by decide +kernel
theorem dksX2_readyMany_1 : cX2_readyMany.data.toList.drop 24 = dktX2_readyMany_1 := dk_seg dksX2_readyMany_0 24 rfl rfl
theorem dX2_readyMany_0 : decode cX2_readyMany 0 = .ok (.iconst 0, 1) := dk_3 (dk_at dksX2_readyMany_0 0 rfl rfl)
theorem dX2_readyMany_1 : decode cX2_readyMany 1 = .ok (.istore_n 1, 1) := dk_60 (dk_at dksX2_readyMany_0 1 rfl rfl)
theorem dX2_readyMany_2 : decode cX2_readyMany 2 = .ok (.iconst 0, 1) := dk_3 (dk_at dksX2_readyMany_0 2 rfl rfl)
theorem dX2_readyMany_3 : decode cX2_readyMany 3 = .ok (.istore_n 2, 1) := dk_61 (dk_at dksX2_readyMany_0 3 rfl rfl)
theorem dX2_readyMany_4 : decode cX2_readyMany 4 = .ok (.iload_n 2, 1) := dk_28 (dk_at dksX2_readyMany_0 4 rfl rfl)
theorem dX2_readyMany_5 : decode cX2_readyMany 5 = .ok (.aload_n 0, 1) := dk_42 (dk_at dksX2_readyMany_0 5 rfl rfl)
theorem dX2_readyMany_6 : decode cX2_readyMany 6 = .ok (.getfield 9, 3) := dk_180 0 9 (dk_at dksX2_readyMany_0 6 rfl rfl)
theorem dX2_readyMany_9 : decode cX2_readyMany 9 = .ok (.bipush 10, 2) := dk_16 10 (dk_at dksX2_readyMany_0 9 rfl rfl)
theorem dX2_readyMany_11 : decode cX2_readyMany 11 = .ok (.iaload, 1) := dk_46 (dk_at dksX2_readyMany_0 11 rfl rfl)
theorem dX2_readyMany_12 : decode cX2_readyMany 12 = .ok (.if_icmp .ge 28, 3) := dk_162 0 28 (dk_at dksX2_readyMany_0 12 rfl rfl)
theorem dX2_readyMany_15 : decode cX2_readyMany 15 = .ok (.iload_n 1, 1) := dk_27 (dk_at dksX2_readyMany_0 15 rfl rfl)
theorem dX2_readyMany_16 : decode cX2_readyMany 16 = .ok (.aload_n 0, 1) := dk_42 (dk_at dksX2_readyMany_0 16 rfl rfl)
theorem dX2_readyMany_17 : decode cX2_readyMany 17 = .ok (.iload_n 2, 1) := dk_28 (dk_at dksX2_readyMany_0 17 rfl rfl)
theorem dX2_readyMany_18 : decode cX2_readyMany 18 = .ok (.invokevirtual 311, 3) := dk_182 1 55 (dk_at dksX2_readyMany_0 18 rfl rfl)
theorem dX2_readyMany_21 : decode cX2_readyMany 21 = .ok (.ifCond .ne 7, 3) := dk_154 0 7 (dk_at dksX2_readyMany_0 21 rfl rfl)
theorem dX2_readyMany_24 : decode cX2_readyMany 24 = .ok (.iconst 1, 1) := dk_4 (dk_at dksX2_readyMany_1 0 rfl rfl)
theorem dX2_readyMany_25 : decode cX2_readyMany 25 = .ok (.goto 4, 3) := dk_167 0 4 (dk_at dksX2_readyMany_1 1 rfl rfl)
theorem dX2_readyMany_28 : decode cX2_readyMany 28 = .ok (.iconst 0, 1) := dk_3 (dk_at dksX2_readyMany_1 4 rfl rfl)
theorem dX2_readyMany_29 : decode cX2_readyMany 29 = .ok (.invokestatic 245, 3) := dk_184 0 245 (dk_at dksX2_readyMany_1 5 rfl rfl)
theorem dX2_readyMany_32 : decode cX2_readyMany 32 = .ok (.iadd, 1) := dk_96 (dk_at dksX2_readyMany_1 8 rfl rfl)
theorem dX2_readyMany_33 : decode cX2_readyMany 33 = .ok (.istore_n 1, 1) := dk_60 (dk_at dksX2_readyMany_1 9 rfl rfl)
theorem dX2_readyMany_34 : decode cX2_readyMany 34 = .ok (.iinc 2 1, 3) := dk_132 2 1 (dk_at dksX2_readyMany_1 10 rfl rfl)
theorem dX2_readyMany_37 : decode cX2_readyMany 37 = .ok (.goto (-33), 3) := dk_167 255 223 (dk_at dksX2_readyMany_1 13 rfl rfl)
theorem dX2_readyMany_40 : decode cX2_readyMany 40 = .ok (.iload_n 1, 1) := dk_27 (dk_at dksX2_readyMany_1 16 rfl rfl)
theorem dX2_readyMany_41 : decode cX2_readyMany 41 = .ok (.ireturn, 1) := dk_172 (dk_at dksX2_readyMany_1 17 rfl rfl)
abbrev cX2_whyNotReady : ByteArray := prog_20_method_50_code
def yX2_whyNotReady : MethodName := ⟨RX2, "whyNotReady", "(I)I"⟩
def dkwX2_whyNotReady_1 : List UInt8 := [167, 255, 236, 3, 172]
abbrev dktX2_whyNotReady_1 : List UInt8 := dkwX2_whyNotReady_1 ++ []
def dkwX2_whyNotReady_0 : List UInt8 := [4, 61, 28, 16, 7, 163, 0, 20, 42, 28, 27, 182, 0, 239, 153, 0, 5, 28, 172, 132, 2, 1]
abbrev dktX2_whyNotReady_0 : List UInt8 := dkwX2_whyNotReady_0 ++ dktX2_whyNotReady_1
theorem dksX2_whyNotReady_0 : cX2_whyNotReady.data.toList.drop 0 = dktX2_whyNotReady_0 := by decide +kernel
theorem dksX2_whyNotReady_1 : cX2_whyNotReady.data.toList.drop 22 = dktX2_whyNotReady_1 := dk_seg dksX2_whyNotReady_0 22 rfl rfl
theorem dX2_whyNotReady_0 : decode cX2_whyNotReady 0 = .ok (.iconst 1, 1) := dk_4 (dk_at dksX2_whyNotReady_0 0 rfl rfl)
theorem dX2_whyNotReady_1 : decode cX2_whyNotReady 1 = .ok (.istore_n 2, 1) := dk_61 (dk_at dksX2_whyNotReady_0 1 rfl rfl)
theorem dX2_whyNotReady_2 : decode cX2_whyNotReady 2 = .ok (.iload_n 2, 1) := dk_28 (dk_at dksX2_whyNotReady_0 2 rfl rfl)
theorem dX2_whyNotReady_3 : decode cX2_whyNotReady 3 = .ok (.bipush 7, 2) := dk_16 7 (dk_at dksX2_whyNotReady_0 3 rfl rfl)
theorem dX2_whyNotReady_5 : decode cX2_whyNotReady 5 = .ok (.if_icmp .gt 20, 3) := dk_163 0 20 (dk_at dksX2_whyNotReady_0 5 rfl rfl)
theorem dX2_whyNotReady_8 : decode cX2_whyNotReady 8 = .ok (.aload_n 0, 1) := dk_42 (dk_at dksX2_whyNotReady_0 8 rfl rfl)
theorem dX2_whyNotReady_9 : decode cX2_whyNotReady 9 = .ok (.iload_n 2, 1) := dk_28 (dk_at dksX2_whyNotReady_0 9 rfl rfl)
theorem dX2_whyNotReady_10 : decode cX2_whyNotReady 10 = .ok (.iload_n 1, 1) := dk_27 (dk_at dksX2_whyNotReady_0 10 rfl rfl)
theorem dX2_whyNotReady_11 : decode cX2_whyNotReady 11 = .ok (.invokevirtual 239, 3) := dk_182 0 239 (dk_at dksX2_whyNotReady_0 11 rfl rfl)
theorem dX2_whyNotReady_14 : decode cX2_whyNotReady 14 = .ok (.ifCond .eq 5, 3) := dk_153 0 5 (dk_at dksX2_whyNotReady_0 14 rfl rfl)
theorem dX2_whyNotReady_17 : decode cX2_whyNotReady 17 = .ok (.iload_n 2, 1) := dk_28 (dk_at dksX2_whyNotReady_0 17 rfl rfl)
theorem dX2_whyNotReady_18 : decode cX2_whyNotReady 18 = .ok (.ireturn, 1) := dk_172 (dk_at dksX2_whyNotReady_0 18 rfl rfl)
theorem dX2_whyNotReady_19 : decode cX2_whyNotReady 19 = .ok (.iinc 2 1, 3) := dk_132 2 1 (dk_at dksX2_whyNotReady_0 19 rfl rfl)
theorem dX2_whyNotReady_22 : decode cX2_whyNotReady 22 = .ok (.goto (-20), 3) := dk_167 255 236 (dk_at dksX2_whyNotReady_1 0 rfl rfl)
theorem dX2_whyNotReady_25 : decode cX2_whyNotReady 25 = .ok (.iconst 0, 1) := dk_3 (dk_at dksX2_whyNotReady_1 3 rfl rfl)
theorem dX2_whyNotReady_26 : decode cX2_whyNotReady 26 = .ok (.ireturn, 1) := dk_172 (dk_at dksX2_whyNotReady_1 4 rfl rfl)
abbrev cX2_applies : ByteArray := prog_20_method_49_code
def yX2_applies : MethodName := ⟨RX2, "applies", "(II)Z"⟩
def dkwX2_applies_6 : List UInt8 := [182, 0, 227, 158, 0, 7, 4, 167, 0, 4, 3, 172]
abbrev dktX2_applies_6 : List UInt8 := dkwX2_applies_6 ++ []
def dkwX2_applies_5 : List UInt8 := [167, 0, 4, 3, 172, 42, 28, 7, 182, 0, 227, 158, 0, 7, 4, 167, 0, 4, 3, 172, 42, 28, 8]
abbrev dktX2_applies_5 : List UInt8 := dkwX2_applies_5 ++ dktX2_applies_6
def dkwX2_applies_4 : List UInt8 := [182, 0, 227, 158, 0, 7, 4, 167, 0, 4, 3, 172, 42, 28, 16, 6, 182, 0, 227, 153, 0, 7, 4]
abbrev dktX2_applies_4 : List UInt8 := dkwX2_applies_4 ++ dktX2_applies_5
def dkwX2_applies_3 : List UInt8 := [4, 167, 0, 4, 3, 172, 42, 28, 182, 0, 230, 5, 160, 0, 7, 4, 167, 0, 4, 3, 172, 42, 28, 6]
abbrev dktX2_applies_3 : List UInt8 := dkwX2_applies_3 ++ dktX2_applies_4
def dkwX2_applies_2 : List UInt8 := [42, 28, 182, 0, 230, 6, 160, 0, 7, 4, 167, 0, 4, 3, 172, 42, 28, 182, 0, 230, 4, 160, 0, 7]
abbrev dktX2_applies_2 : List UInt8 := dkwX2_applies_2 ++ dktX2_applies_3
def dkwX2_applies_1 : List UInt8 := [170, 0, 0, 0, 0, 0, 130, 0, 0, 0, 1, 0, 0, 0, 6, 0, 0, 0, 39, 0, 0, 0, 54, 0, 0, 0, 69, 0, 0, 0, 84, 0, 0, 0, 99, 0, 0, 0, 115]
abbrev dktX2_applies_1 : List UInt8 := dkwX2_applies_1 ++ dktX2_applies_2
def dkwX2_applies_0 : List UInt8 := [27]
abbrev dktX2_applies_0 : List UInt8 := dkwX2_applies_0 ++ dktX2_applies_1
theorem dksX2_applies_0 : cX2_applies.data.toList.drop 0 = dktX2_applies_0 := by decide +kernel
theorem dksX2_applies_1 : cX2_applies.data.toList.drop 1 = dktX2_applies_1 := dk_seg dksX2_applies_0 1 rfl rfl
theorem dksX2_applies_2 : cX2_applies.data.toList.drop 40 = dktX2_applies_2 := dk_seg dksX2_applies_1 39 rfl rfl
theorem dksX2_applies_3 : cX2_applies.data.toList.drop 64 = dktX2_applies_3 := dk_seg dksX2_applies_2 24 rfl rfl
theorem dksX2_applies_4 : cX2_applies.data.toList.drop 88 = dktX2_applies_4 := dk_seg dksX2_applies_3 24 rfl rfl
theorem dksX2_applies_5 : cX2_applies.data.toList.drop 111 = dktX2_applies_5 := dk_seg dksX2_applies_4 23 rfl rfl
theorem dksX2_applies_6 : cX2_applies.data.toList.drop 134 = dktX2_applies_6 := dk_seg dksX2_applies_5 23 rfl rfl
theorem dX2_applies_0 : decode cX2_applies 0 = .ok (.iload_n 1, 1) := dk_27 (dk_at dksX2_applies_0 0 rfl rfl)
theorem dX2_applies_1 : decode cX2_applies 1 = .ok (.tableswitch 130 1 6 #[39, 54, 69, 84, 99, 115], 39) := by decide +kernel
theorem dX2_applies_40 : decode cX2_applies 40 = .ok (.aload_n 0, 1) := dk_42 (dk_at dksX2_applies_2 0 rfl rfl)
theorem dX2_applies_41 : decode cX2_applies 41 = .ok (.iload_n 2, 1) := dk_28 (dk_at dksX2_applies_2 1 rfl rfl)
theorem dX2_applies_42 : decode cX2_applies 42 = .ok (.invokevirtual 230, 3) := dk_182 0 230 (dk_at dksX2_applies_2 2 rfl rfl)
theorem dX2_applies_45 : decode cX2_applies 45 = .ok (.iconst 3, 1) := dk_6 (dk_at dksX2_applies_2 5 rfl rfl)
theorem dX2_applies_46 : decode cX2_applies 46 = .ok (.if_icmp .ne 7, 3) := dk_160 0 7 (dk_at dksX2_applies_2 6 rfl rfl)
theorem dX2_applies_49 : decode cX2_applies 49 = .ok (.iconst 1, 1) := dk_4 (dk_at dksX2_applies_2 9 rfl rfl)
theorem dX2_applies_50 : decode cX2_applies 50 = .ok (.goto 4, 3) := dk_167 0 4 (dk_at dksX2_applies_2 10 rfl rfl)
theorem dX2_applies_53 : decode cX2_applies 53 = .ok (.iconst 0, 1) := dk_3 (dk_at dksX2_applies_2 13 rfl rfl)
theorem dX2_applies_54 : decode cX2_applies 54 = .ok (.ireturn, 1) := dk_172 (dk_at dksX2_applies_2 14 rfl rfl)
theorem dX2_applies_55 : decode cX2_applies 55 = .ok (.aload_n 0, 1) := dk_42 (dk_at dksX2_applies_2 15 rfl rfl)
theorem dX2_applies_56 : decode cX2_applies 56 = .ok (.iload_n 2, 1) := dk_28 (dk_at dksX2_applies_2 16 rfl rfl)
theorem dX2_applies_57 : decode cX2_applies 57 = .ok (.invokevirtual 230, 3) := dk_182 0 230 (dk_at dksX2_applies_2 17 rfl rfl)
theorem dX2_applies_60 : decode cX2_applies 60 = .ok (.iconst 1, 1) := dk_4 (dk_at dksX2_applies_2 20 rfl rfl)
theorem dX2_applies_61 : decode cX2_applies 61 = .ok (.if_icmp .ne 7, 3) := dk_160 0 7 (dk_at dksX2_applies_2 21 rfl rfl)
theorem dX2_applies_64 : decode cX2_applies 64 = .ok (.iconst 1, 1) := dk_4 (dk_at dksX2_applies_3 0 rfl rfl)
theorem dX2_applies_65 : decode cX2_applies 65 = .ok (.goto 4, 3) := dk_167 0 4 (dk_at dksX2_applies_3 1 rfl rfl)
theorem dX2_applies_68 : decode cX2_applies 68 = .ok (.iconst 0, 1) := dk_3 (dk_at dksX2_applies_3 4 rfl rfl)
theorem dX2_applies_69 : decode cX2_applies 69 = .ok (.ireturn, 1) := dk_172 (dk_at dksX2_applies_3 5 rfl rfl)
theorem dX2_applies_70 : decode cX2_applies 70 = .ok (.aload_n 0, 1) := dk_42 (dk_at dksX2_applies_3 6 rfl rfl)
theorem dX2_applies_71 : decode cX2_applies 71 = .ok (.iload_n 2, 1) := dk_28 (dk_at dksX2_applies_3 7 rfl rfl)
theorem dX2_applies_72 : decode cX2_applies 72 = .ok (.invokevirtual 230, 3) := dk_182 0 230 (dk_at dksX2_applies_3 8 rfl rfl)
theorem dX2_applies_75 : decode cX2_applies 75 = .ok (.iconst 2, 1) := dk_5 (dk_at dksX2_applies_3 11 rfl rfl)
theorem dX2_applies_76 : decode cX2_applies 76 = .ok (.if_icmp .ne 7, 3) := dk_160 0 7 (dk_at dksX2_applies_3 12 rfl rfl)
theorem dX2_applies_79 : decode cX2_applies 79 = .ok (.iconst 1, 1) := dk_4 (dk_at dksX2_applies_3 15 rfl rfl)
theorem dX2_applies_80 : decode cX2_applies 80 = .ok (.goto 4, 3) := dk_167 0 4 (dk_at dksX2_applies_3 16 rfl rfl)
theorem dX2_applies_83 : decode cX2_applies 83 = .ok (.iconst 0, 1) := dk_3 (dk_at dksX2_applies_3 19 rfl rfl)
theorem dX2_applies_84 : decode cX2_applies 84 = .ok (.ireturn, 1) := dk_172 (dk_at dksX2_applies_3 20 rfl rfl)
theorem dX2_applies_85 : decode cX2_applies 85 = .ok (.aload_n 0, 1) := dk_42 (dk_at dksX2_applies_3 21 rfl rfl)
theorem dX2_applies_86 : decode cX2_applies 86 = .ok (.iload_n 2, 1) := dk_28 (dk_at dksX2_applies_3 22 rfl rfl)
theorem dX2_applies_87 : decode cX2_applies 87 = .ok (.iconst 3, 1) := dk_6 (dk_at dksX2_applies_3 23 rfl rfl)
theorem dX2_applies_88 : decode cX2_applies 88 = .ok (.invokevirtual 227, 3) := dk_182 0 227 (dk_at dksX2_applies_4 0 rfl rfl)
theorem dX2_applies_91 : decode cX2_applies 91 = .ok (.ifCond .le 7, 3) := dk_158 0 7 (dk_at dksX2_applies_4 3 rfl rfl)
theorem dX2_applies_94 : decode cX2_applies 94 = .ok (.iconst 1, 1) := dk_4 (dk_at dksX2_applies_4 6 rfl rfl)
theorem dX2_applies_95 : decode cX2_applies 95 = .ok (.goto 4, 3) := dk_167 0 4 (dk_at dksX2_applies_4 7 rfl rfl)
theorem dX2_applies_98 : decode cX2_applies 98 = .ok (.iconst 0, 1) := dk_3 (dk_at dksX2_applies_4 10 rfl rfl)
theorem dX2_applies_99 : decode cX2_applies 99 = .ok (.ireturn, 1) := dk_172 (dk_at dksX2_applies_4 11 rfl rfl)
theorem dX2_applies_100 : decode cX2_applies 100 = .ok (.aload_n 0, 1) := dk_42 (dk_at dksX2_applies_4 12 rfl rfl)
theorem dX2_applies_101 : decode cX2_applies 101 = .ok (.iload_n 2, 1) := dk_28 (dk_at dksX2_applies_4 13 rfl rfl)
theorem dX2_applies_102 : decode cX2_applies 102 = .ok (.bipush 6, 2) := dk_16 6 (dk_at dksX2_applies_4 14 rfl rfl)
theorem dX2_applies_104 : decode cX2_applies 104 = .ok (.invokevirtual 227, 3) := dk_182 0 227 (dk_at dksX2_applies_4 16 rfl rfl)
theorem dX2_applies_107 : decode cX2_applies 107 = .ok (.ifCond .eq 7, 3) := dk_153 0 7 (dk_at dksX2_applies_4 19 rfl rfl)
theorem dX2_applies_110 : decode cX2_applies 110 = .ok (.iconst 1, 1) := dk_4 (dk_at dksX2_applies_4 22 rfl rfl)
theorem dX2_applies_111 : decode cX2_applies 111 = .ok (.goto 4, 3) := dk_167 0 4 (dk_at dksX2_applies_5 0 rfl rfl)
theorem dX2_applies_114 : decode cX2_applies 114 = .ok (.iconst 0, 1) := dk_3 (dk_at dksX2_applies_5 3 rfl rfl)
theorem dX2_applies_115 : decode cX2_applies 115 = .ok (.ireturn, 1) := dk_172 (dk_at dksX2_applies_5 4 rfl rfl)
theorem dX2_applies_116 : decode cX2_applies 116 = .ok (.aload_n 0, 1) := dk_42 (dk_at dksX2_applies_5 5 rfl rfl)
theorem dX2_applies_117 : decode cX2_applies 117 = .ok (.iload_n 2, 1) := dk_28 (dk_at dksX2_applies_5 6 rfl rfl)
theorem dX2_applies_118 : decode cX2_applies 118 = .ok (.iconst 4, 1) := dk_7 (dk_at dksX2_applies_5 7 rfl rfl)
theorem dX2_applies_119 : decode cX2_applies 119 = .ok (.invokevirtual 227, 3) := dk_182 0 227 (dk_at dksX2_applies_5 8 rfl rfl)
theorem dX2_applies_122 : decode cX2_applies 122 = .ok (.ifCond .le 7, 3) := dk_158 0 7 (dk_at dksX2_applies_5 11 rfl rfl)
theorem dX2_applies_125 : decode cX2_applies 125 = .ok (.iconst 1, 1) := dk_4 (dk_at dksX2_applies_5 14 rfl rfl)
theorem dX2_applies_126 : decode cX2_applies 126 = .ok (.goto 4, 3) := dk_167 0 4 (dk_at dksX2_applies_5 15 rfl rfl)
theorem dX2_applies_129 : decode cX2_applies 129 = .ok (.iconst 0, 1) := dk_3 (dk_at dksX2_applies_5 18 rfl rfl)
theorem dX2_applies_130 : decode cX2_applies 130 = .ok (.ireturn, 1) := dk_172 (dk_at dksX2_applies_5 19 rfl rfl)
theorem dX2_applies_131 : decode cX2_applies 131 = .ok (.aload_n 0, 1) := dk_42 (dk_at dksX2_applies_5 20 rfl rfl)
theorem dX2_applies_132 : decode cX2_applies 132 = .ok (.iload_n 2, 1) := dk_28 (dk_at dksX2_applies_5 21 rfl rfl)
theorem dX2_applies_133 : decode cX2_applies 133 = .ok (.iconst 5, 1) := dk_8 (dk_at dksX2_applies_5 22 rfl rfl)
theorem dX2_applies_134 : decode cX2_applies 134 = .ok (.invokevirtual 227, 3) := dk_182 0 227 (dk_at dksX2_applies_6 0 rfl rfl)
theorem dX2_applies_137 : decode cX2_applies 137 = .ok (.ifCond .le 7, 3) := dk_158 0 7 (dk_at dksX2_applies_6 3 rfl rfl)
theorem dX2_applies_140 : decode cX2_applies 140 = .ok (.iconst 1, 1) := dk_4 (dk_at dksX2_applies_6 6 rfl rfl)
theorem dX2_applies_141 : decode cX2_applies 141 = .ok (.goto 4, 3) := dk_167 0 4 (dk_at dksX2_applies_6 7 rfl rfl)
theorem dX2_applies_144 : decode cX2_applies 144 = .ok (.iconst 0, 1) := dk_3 (dk_at dksX2_applies_6 10 rfl rfl)
theorem dX2_applies_145 : decode cX2_applies 145 = .ok (.ireturn, 1) := dk_172 (dk_at dksX2_applies_6 11 rfl rfl)
abbrev cX2_flagsAt : ByteArray := prog_20_method_80_code
def yX2_flagsAt : MethodName := ⟨RX2, "flagsAt", "(I)I"⟩
def dkwX2_flagsAt_1 : List UInt8 := [160, 0, 7, 4, 167, 0, 4, 3, 184, 0, 245, 96, 61, 132, 3, 1, 167, 255, 222, 28, 172]
abbrev dktX2_flagsAt_1 : List UInt8 := dkwX2_flagsAt_1 ++ []
def dkwX2_flagsAt_0 : List UInt8 := [3, 61, 3, 62, 29, 42, 180, 0, 9, 16, 10, 46, 162, 0, 29, 28, 42, 29, 182, 0, 230, 27]
abbrev dktX2_flagsAt_0 : List UInt8 := dkwX2_flagsAt_0 ++ dktX2_flagsAt_1
theorem dksX2_flagsAt_0 : cX2_flagsAt.data.toList.drop 0 = dktX2_flagsAt_0 := by decide +kernel
theorem dksX2_flagsAt_1 : cX2_flagsAt.data.toList.drop 22 = dktX2_flagsAt_1 := dk_seg dksX2_flagsAt_0 22 rfl rfl
theorem dX2_flagsAt_0 : decode cX2_flagsAt 0 = .ok (.iconst 0, 1) := dk_3 (dk_at dksX2_flagsAt_0 0 rfl rfl)
theorem dX2_flagsAt_1 : decode cX2_flagsAt 1 = .ok (.istore_n 2, 1) := dk_61 (dk_at dksX2_flagsAt_0 1 rfl rfl)
theorem dX2_flagsAt_2 : decode cX2_flagsAt 2 = .ok (.iconst 0, 1) := dk_3 (dk_at dksX2_flagsAt_0 2 rfl rfl)
theorem dX2_flagsAt_3 : decode cX2_flagsAt 3 = .ok (.istore_n 3, 1) := dk_62 (dk_at dksX2_flagsAt_0 3 rfl rfl)
theorem dX2_flagsAt_4 : decode cX2_flagsAt 4 = .ok (.iload_n 3, 1) := dk_29 (dk_at dksX2_flagsAt_0 4 rfl rfl)
theorem dX2_flagsAt_5 : decode cX2_flagsAt 5 = .ok (.aload_n 0, 1) := dk_42 (dk_at dksX2_flagsAt_0 5 rfl rfl)
theorem dX2_flagsAt_6 : decode cX2_flagsAt 6 = .ok (.getfield 9, 3) := dk_180 0 9 (dk_at dksX2_flagsAt_0 6 rfl rfl)
theorem dX2_flagsAt_9 : decode cX2_flagsAt 9 = .ok (.bipush 10, 2) := dk_16 10 (dk_at dksX2_flagsAt_0 9 rfl rfl)
theorem dX2_flagsAt_11 : decode cX2_flagsAt 11 = .ok (.iaload, 1) := dk_46 (dk_at dksX2_flagsAt_0 11 rfl rfl)
theorem dX2_flagsAt_12 : decode cX2_flagsAt 12 = .ok (.if_icmp .ge 29, 3) := dk_162 0 29 (dk_at dksX2_flagsAt_0 12 rfl rfl)
theorem dX2_flagsAt_15 : decode cX2_flagsAt 15 = .ok (.iload_n 2, 1) := dk_28 (dk_at dksX2_flagsAt_0 15 rfl rfl)
theorem dX2_flagsAt_16 : decode cX2_flagsAt 16 = .ok (.aload_n 0, 1) := dk_42 (dk_at dksX2_flagsAt_0 16 rfl rfl)
theorem dX2_flagsAt_17 : decode cX2_flagsAt 17 = .ok (.iload_n 3, 1) := dk_29 (dk_at dksX2_flagsAt_0 17 rfl rfl)
theorem dX2_flagsAt_18 : decode cX2_flagsAt 18 = .ok (.invokevirtual 230, 3) := dk_182 0 230 (dk_at dksX2_flagsAt_0 18 rfl rfl)
theorem dX2_flagsAt_21 : decode cX2_flagsAt 21 = .ok (.iload_n 1, 1) := dk_27 (dk_at dksX2_flagsAt_0 21 rfl rfl)
theorem dX2_flagsAt_22 : decode cX2_flagsAt 22 = .ok (.if_icmp .ne 7, 3) := dk_160 0 7 (dk_at dksX2_flagsAt_1 0 rfl rfl)
theorem dX2_flagsAt_25 : decode cX2_flagsAt 25 = .ok (.iconst 1, 1) := dk_4 (dk_at dksX2_flagsAt_1 3 rfl rfl)
theorem dX2_flagsAt_26 : decode cX2_flagsAt 26 = .ok (.goto 4, 3) := dk_167 0 4 (dk_at dksX2_flagsAt_1 4 rfl rfl)
theorem dX2_flagsAt_29 : decode cX2_flagsAt 29 = .ok (.iconst 0, 1) := dk_3 (dk_at dksX2_flagsAt_1 7 rfl rfl)
theorem dX2_flagsAt_30 : decode cX2_flagsAt 30 = .ok (.invokestatic 245, 3) := dk_184 0 245 (dk_at dksX2_flagsAt_1 8 rfl rfl)
theorem dX2_flagsAt_33 : decode cX2_flagsAt 33 = .ok (.iadd, 1) := dk_96 (dk_at dksX2_flagsAt_1 11 rfl rfl)
theorem dX2_flagsAt_34 : decode cX2_flagsAt 34 = .ok (.istore_n 2, 1) := dk_61 (dk_at dksX2_flagsAt_1 12 rfl rfl)
theorem dX2_flagsAt_35 : decode cX2_flagsAt 35 = .ok (.iinc 3 1, 3) := dk_132 3 1 (dk_at dksX2_flagsAt_1 13 rfl rfl)
theorem dX2_flagsAt_38 : decode cX2_flagsAt 38 = .ok (.goto (-34), 3) := dk_167 255 222 (dk_at dksX2_flagsAt_1 16 rfl rfl)
theorem dX2_flagsAt_41 : decode cX2_flagsAt 41 = .ok (.iload_n 2, 1) := dk_28 (dk_at dksX2_flagsAt_1 19 rfl rfl)
theorem dX2_flagsAt_42 : decode cX2_flagsAt 42 = .ok (.ireturn, 1) := dk_172 (dk_at dksX2_flagsAt_1 20 rfl rfl)
abbrev cX2_colour : ByteArray := prog_20_method_92_code
def yX2_colour : MethodName := ⟨RX2, "colour", "(II)I"⟩
def dkwX2_colour_2 : List UInt8 := [167, 0, 5, 16, 6, 182, 1, 80, 172]
abbrev dktX2_colour_2 : List UInt8 := dkwX2_colour_2 ++ []
def dkwX2_colour_1 : List UInt8 := [28, 154, 0, 13, 42, 180, 0, 9, 16, 12, 27, 96, 46, 172, 42, 27, 28, 4, 160, 0, 7, 4]
abbrev dktX2_colour_1 : List UInt8 := dkwX2_colour_1 ++ dktX2_colour_2
def dkwX2_colour_0 : List UInt8 := [42, 42, 180, 0, 47, 42, 27, 182, 1, 77, 28, 3, 5, 184, 0, 68, 182, 0, 43, 154, 0, 5, 3, 172]
abbrev dktX2_colour_0 : List UInt8 := dkwX2_colour_0 ++ dktX2_colour_1
theorem dksX2_colour_0 : cX2_colour.data.toList.drop 0 = dktX2_colour_0 := by decide +kernel
theorem dksX2_colour_1 : cX2_colour.data.toList.drop 24 = dktX2_colour_1 := dk_seg dksX2_colour_0 24 rfl rfl
theorem dksX2_colour_2 : cX2_colour.data.toList.drop 46 = dktX2_colour_2 := dk_seg dksX2_colour_1 22 rfl rfl
theorem dX2_colour_0 : decode cX2_colour 0 = .ok (.aload_n 0, 1) := dk_42 (dk_at dksX2_colour_0 0 rfl rfl)
theorem dX2_colour_1 : decode cX2_colour 1 = .ok (.aload_n 0, 1) := dk_42 (dk_at dksX2_colour_0 1 rfl rfl)
theorem dX2_colour_2 : decode cX2_colour 2 = .ok (.getfield 47, 3) := dk_180 0 47 (dk_at dksX2_colour_0 2 rfl rfl)
theorem dX2_colour_5 : decode cX2_colour 5 = .ok (.aload_n 0, 1) := dk_42 (dk_at dksX2_colour_0 5 rfl rfl)
theorem dX2_colour_6 : decode cX2_colour 6 = .ok (.iload_n 1, 1) := dk_27 (dk_at dksX2_colour_0 6 rfl rfl)
theorem dX2_colour_7 : decode cX2_colour 7 = .ok (.invokevirtual 333, 3) := dk_182 1 77 (dk_at dksX2_colour_0 7 rfl rfl)
theorem dX2_colour_10 : decode cX2_colour 10 = .ok (.iload_n 2, 1) := dk_28 (dk_at dksX2_colour_0 10 rfl rfl)
theorem dX2_colour_11 : decode cX2_colour 11 = .ok (.iconst 0, 1) := dk_3 (dk_at dksX2_colour_0 11 rfl rfl)
theorem dX2_colour_12 : decode cX2_colour 12 = .ok (.iconst 2, 1) := dk_5 (dk_at dksX2_colour_0 12 rfl rfl)
theorem dX2_colour_13 : decode cX2_colour 13 = .ok (.invokestatic 68, 3) := dk_184 0 68 (dk_at dksX2_colour_0 13 rfl rfl)
theorem dX2_colour_16 : decode cX2_colour 16 = .ok (.invokevirtual 43, 3) := dk_182 0 43 (dk_at dksX2_colour_0 16 rfl rfl)
theorem dX2_colour_19 : decode cX2_colour 19 = .ok (.ifCond .ne 5, 3) := dk_154 0 5 (dk_at dksX2_colour_0 19 rfl rfl)
theorem dX2_colour_22 : decode cX2_colour 22 = .ok (.iconst 0, 1) := dk_3 (dk_at dksX2_colour_0 22 rfl rfl)
theorem dX2_colour_23 : decode cX2_colour 23 = .ok (.ireturn, 1) := dk_172 (dk_at dksX2_colour_0 23 rfl rfl)
theorem dX2_colour_24 : decode cX2_colour 24 = .ok (.iload_n 2, 1) := dk_28 (dk_at dksX2_colour_1 0 rfl rfl)
theorem dX2_colour_25 : decode cX2_colour 25 = .ok (.ifCond .ne 13, 3) := dk_154 0 13 (dk_at dksX2_colour_1 1 rfl rfl)
theorem dX2_colour_28 : decode cX2_colour 28 = .ok (.aload_n 0, 1) := dk_42 (dk_at dksX2_colour_1 4 rfl rfl)
theorem dX2_colour_29 : decode cX2_colour 29 = .ok (.getfield 9, 3) := dk_180 0 9 (dk_at dksX2_colour_1 5 rfl rfl)
theorem dX2_colour_32 : decode cX2_colour 32 = .ok (.bipush 12, 2) := dk_16 12 (dk_at dksX2_colour_1 8 rfl rfl)
theorem dX2_colour_34 : decode cX2_colour 34 = .ok (.iload_n 1, 1) := dk_27 (dk_at dksX2_colour_1 10 rfl rfl)
theorem dX2_colour_35 : decode cX2_colour 35 = .ok (.iadd, 1) := dk_96 (dk_at dksX2_colour_1 11 rfl rfl)
theorem dX2_colour_36 : decode cX2_colour 36 = .ok (.iaload, 1) := dk_46 (dk_at dksX2_colour_1 12 rfl rfl)
theorem dX2_colour_37 : decode cX2_colour 37 = .ok (.ireturn, 1) := dk_172 (dk_at dksX2_colour_1 13 rfl rfl)
theorem dX2_colour_38 : decode cX2_colour 38 = .ok (.aload_n 0, 1) := dk_42 (dk_at dksX2_colour_1 14 rfl rfl)
theorem dX2_colour_39 : decode cX2_colour 39 = .ok (.iload_n 1, 1) := dk_27 (dk_at dksX2_colour_1 15 rfl rfl)
theorem dX2_colour_40 : decode cX2_colour 40 = .ok (.iload_n 2, 1) := dk_28 (dk_at dksX2_colour_1 16 rfl rfl)
theorem dX2_colour_41 : decode cX2_colour 41 = .ok (.iconst 1, 1) := dk_4 (dk_at dksX2_colour_1 17 rfl rfl)
theorem dX2_colour_42 : decode cX2_colour 42 = .ok (.if_icmp .ne 7, 3) := dk_160 0 7 (dk_at dksX2_colour_1 18 rfl rfl)
theorem dX2_colour_45 : decode cX2_colour 45 = .ok (.iconst 1, 1) := dk_4 (dk_at dksX2_colour_1 21 rfl rfl)
theorem dX2_colour_46 : decode cX2_colour 46 = .ok (.goto 5, 3) := dk_167 0 5 (dk_at dksX2_colour_2 0 rfl rfl)
theorem dX2_colour_49 : decode cX2_colour 49 = .ok (.bipush 6, 2) := dk_16 6 (dk_at dksX2_colour_2 3 rfl rfl)
theorem dX2_colour_51 : decode cX2_colour 51 = .ok (.invokevirtual 336, 3) := dk_182 1 80 (dk_at dksX2_colour_2 5 rfl rfl)
theorem dX2_colour_54 : decode cX2_colour 54 = .ok (.ireturn, 1) := dk_172 (dk_at dksX2_colour_2 8 rfl rfl)
abbrev cX2_isColour : ByteArray := prog_20_method_83_code
def yX2_isColour : MethodName := ⟨RX2, "isColour", "(I)Z"⟩
def dkwX2_isColour_1 : List UInt8 := [4, 167, 0, 4, 3, 172]
abbrev dktX2_isColour_1 : List UInt8 := dkwX2_isColour_1 ++ []
def dkwX2_isColour_0 : List UInt8 := [42, 180, 0, 47, 153, 0, 24, 27, 3, 42, 180, 0, 9, 16, 6, 46, 4, 100, 184, 0, 68, 153, 0, 7]
abbrev dktX2_isColour_0 : List UInt8 := dkwX2_isColour_0 ++ dktX2_isColour_1
theorem dksX2_isColour_0 : cX2_isColour.data.toList.drop 0 = dktX2_isColour_0 := by decide +kernel
theorem dksX2_isColour_1 : cX2_isColour.data.toList.drop 24 = dktX2_isColour_1 := dk_seg dksX2_isColour_0 24 rfl rfl
theorem dX2_isColour_0 : decode cX2_isColour 0 = .ok (.aload_n 0, 1) := dk_42 (dk_at dksX2_isColour_0 0 rfl rfl)
theorem dX2_isColour_1 : decode cX2_isColour 1 = .ok (.getfield 47, 3) := dk_180 0 47 (dk_at dksX2_isColour_0 1 rfl rfl)
theorem dX2_isColour_4 : decode cX2_isColour 4 = .ok (.ifCond .eq 24, 3) := dk_153 0 24 (dk_at dksX2_isColour_0 4 rfl rfl)
theorem dX2_isColour_7 : decode cX2_isColour 7 = .ok (.iload_n 1, 1) := dk_27 (dk_at dksX2_isColour_0 7 rfl rfl)
theorem dX2_isColour_8 : decode cX2_isColour 8 = .ok (.iconst 0, 1) := dk_3 (dk_at dksX2_isColour_0 8 rfl rfl)
theorem dX2_isColour_9 : decode cX2_isColour 9 = .ok (.aload_n 0, 1) := dk_42 (dk_at dksX2_isColour_0 9 rfl rfl)
theorem dX2_isColour_10 : decode cX2_isColour 10 = .ok (.getfield 9, 3) := dk_180 0 9 (dk_at dksX2_isColour_0 10 rfl rfl)
theorem dX2_isColour_13 : decode cX2_isColour 13 = .ok (.bipush 6, 2) := dk_16 6 (dk_at dksX2_isColour_0 13 rfl rfl)
theorem dX2_isColour_15 : decode cX2_isColour 15 = .ok (.iaload, 1) := dk_46 (dk_at dksX2_isColour_0 15 rfl rfl)
theorem dX2_isColour_16 : decode cX2_isColour 16 = .ok (.iconst 1, 1) := dk_4 (dk_at dksX2_isColour_0 16 rfl rfl)
theorem dX2_isColour_17 : decode cX2_isColour 17 = .ok (.isub, 1) := dk_100 (dk_at dksX2_isColour_0 17 rfl rfl)
theorem dX2_isColour_18 : decode cX2_isColour 18 = .ok (.invokestatic 68, 3) := dk_184 0 68 (dk_at dksX2_isColour_0 18 rfl rfl)
theorem dX2_isColour_21 : decode cX2_isColour 21 = .ok (.ifCond .eq 7, 3) := dk_153 0 7 (dk_at dksX2_isColour_0 21 rfl rfl)
theorem dX2_isColour_24 : decode cX2_isColour 24 = .ok (.iconst 1, 1) := dk_4 (dk_at dksX2_isColour_1 0 rfl rfl)
theorem dX2_isColour_25 : decode cX2_isColour 25 = .ok (.goto 4, 3) := dk_167 0 4 (dk_at dksX2_isColour_1 1 rfl rfl)
theorem dX2_isColour_28 : decode cX2_isColour 28 = .ok (.iconst 0, 1) := dk_3 (dk_at dksX2_isColour_1 4 rfl rfl)
theorem dX2_isColour_29 : decode cX2_isColour 29 = .ok (.ireturn, 1) := dk_172 (dk_at dksX2_isColour_1 5 rfl rfl)
abbrev cX2_flagsWith : ByteArray := prog_20_method_91_code
def yX2_flagsWith : MethodName := ⟨RX2, "flagsWith", "(II)I"⟩
def dkwX2_flagsWith_1 : List UInt8 := [182, 0, 227, 27, 184, 0, 125, 184, 0, 245, 96, 62, 132, 4, 1, 167, 255, 224, 29, 172]
abbrev dktX2_flagsWith_1 : List UInt8 := dkwX2_flagsWith_1 ++ []
def dkwX2_flagsWith_0 : List UInt8 := [3, 62, 3, 54, 4, 21, 4, 42, 180, 0, 9, 16, 10, 46, 162, 0, 26, 29, 42, 21, 4, 28]
abbrev dktX2_flagsWith_0 : List UInt8 := dkwX2_flagsWith_0 ++ dktX2_flagsWith_1
theorem dksX2_flagsWith_0 : cX2_flagsWith.data.toList.drop 0 = dktX2_flagsWith_0 := by decide +kernel
theorem dksX2_flagsWith_1 : cX2_flagsWith.data.toList.drop 22 = dktX2_flagsWith_1 := dk_seg dksX2_flagsWith_0 22 rfl rfl
theorem dX2_flagsWith_0 : decode cX2_flagsWith 0 = .ok (.iconst 0, 1) := dk_3 (dk_at dksX2_flagsWith_0 0 rfl rfl)
theorem dX2_flagsWith_1 : decode cX2_flagsWith 1 = .ok (.istore_n 3, 1) := dk_62 (dk_at dksX2_flagsWith_0 1 rfl rfl)
theorem dX2_flagsWith_2 : decode cX2_flagsWith 2 = .ok (.iconst 0, 1) := dk_3 (dk_at dksX2_flagsWith_0 2 rfl rfl)
theorem dX2_flagsWith_3 : decode cX2_flagsWith 3 = .ok (.istore 4, 2) := dk_54 4 (dk_at dksX2_flagsWith_0 3 rfl rfl)
theorem dX2_flagsWith_5 : decode cX2_flagsWith 5 = .ok (.iload 4, 2) := dk_21 4 (dk_at dksX2_flagsWith_0 5 rfl rfl)
theorem dX2_flagsWith_7 : decode cX2_flagsWith 7 = .ok (.aload_n 0, 1) := dk_42 (dk_at dksX2_flagsWith_0 7 rfl rfl)
theorem dX2_flagsWith_8 : decode cX2_flagsWith 8 = .ok (.getfield 9, 3) := dk_180 0 9 (dk_at dksX2_flagsWith_0 8 rfl rfl)
theorem dX2_flagsWith_11 : decode cX2_flagsWith 11 = .ok (.bipush 10, 2) := dk_16 10 (dk_at dksX2_flagsWith_0 11 rfl rfl)
theorem dX2_flagsWith_13 : decode cX2_flagsWith 13 = .ok (.iaload, 1) := dk_46 (dk_at dksX2_flagsWith_0 13 rfl rfl)
theorem dX2_flagsWith_14 : decode cX2_flagsWith 14 = .ok (.if_icmp .ge 26, 3) := dk_162 0 26 (dk_at dksX2_flagsWith_0 14 rfl rfl)
theorem dX2_flagsWith_17 : decode cX2_flagsWith 17 = .ok (.iload_n 3, 1) := dk_29 (dk_at dksX2_flagsWith_0 17 rfl rfl)
theorem dX2_flagsWith_18 : decode cX2_flagsWith 18 = .ok (.aload_n 0, 1) := dk_42 (dk_at dksX2_flagsWith_0 18 rfl rfl)
theorem dX2_flagsWith_19 : decode cX2_flagsWith 19 = .ok (.iload 4, 2) := dk_21 4 (dk_at dksX2_flagsWith_0 19 rfl rfl)
theorem dX2_flagsWith_21 : decode cX2_flagsWith 21 = .ok (.iload_n 2, 1) := dk_28 (dk_at dksX2_flagsWith_0 21 rfl rfl)
theorem dX2_flagsWith_22 : decode cX2_flagsWith 22 = .ok (.invokevirtual 227, 3) := dk_182 0 227 (dk_at dksX2_flagsWith_1 0 rfl rfl)
theorem dX2_flagsWith_25 : decode cX2_flagsWith 25 = .ok (.iload_n 1, 1) := dk_27 (dk_at dksX2_flagsWith_1 3 rfl rfl)
theorem dX2_flagsWith_26 : decode cX2_flagsWith 26 = .ok (.invokestatic 125, 3) := dk_184 0 125 (dk_at dksX2_flagsWith_1 4 rfl rfl)
theorem dX2_flagsWith_29 : decode cX2_flagsWith 29 = .ok (.invokestatic 245, 3) := dk_184 0 245 (dk_at dksX2_flagsWith_1 7 rfl rfl)
theorem dX2_flagsWith_32 : decode cX2_flagsWith 32 = .ok (.iadd, 1) := dk_96 (dk_at dksX2_flagsWith_1 10 rfl rfl)
theorem dX2_flagsWith_33 : decode cX2_flagsWith 33 = .ok (.istore_n 3, 1) := dk_62 (dk_at dksX2_flagsWith_1 11 rfl rfl)
theorem dX2_flagsWith_34 : decode cX2_flagsWith 34 = .ok (.iinc 4 1, 3) := dk_132 4 1 (dk_at dksX2_flagsWith_1 12 rfl rfl)
theorem dX2_flagsWith_37 : decode cX2_flagsWith 37 = .ok (.goto (-32), 3) := dk_167 255 224 (dk_at dksX2_flagsWith_1 15 rfl rfl)
theorem dX2_flagsWith_40 : decode cX2_flagsWith 40 = .ok (.iload_n 3, 1) := dk_29 (dk_at dksX2_flagsWith_1 18 rfl rfl)
theorem dX2_flagsWith_41 : decode cX2_flagsWith 41 = .ok (.ireturn, 1) := dk_172 (dk_at dksX2_flagsWith_1 19 rfl rfl)
abbrev cX2_nation : ByteArray := prog_20_method_94_code
def yX2_nation : MethodName := ⟨RX2, "nation", "(II)I"⟩
def dkwX2_nation_5 : List UInt8 := [42, 27, 28, 182, 1, 46, 172]
abbrev dktX2_nation_5 : List UInt8 := dkwX2_nation_5 ++ []
def dkwX2_nation_4 : List UInt8 := [153, 0, 12, 42, 27, 7, 182, 1, 46, 167, 0, 14, 42, 27, 42, 180, 0, 9, 3, 46, 182, 1, 52, 172]
abbrev dktX2_nation_4 : List UInt8 := dkwX2_nation_4 ++ dktX2_nation_5
def dkwX2_nation_3 : List UInt8 := [42, 27, 182, 1, 49, 172, 42, 27, 182, 1, 86, 172, 42, 27, 6, 182, 1, 46, 172, 42, 27, 182, 1, 89]
abbrev dktX2_nation_3 : List UInt8 := dkwX2_nation_3 ++ dktX2_nation_4
def dkwX2_nation_2 : List UInt8 := [170, 0, 0, 0, 0, 78, 0, 0, 0, 3, 0, 0, 0, 6, 0, 0, 0, 30, 0, 0, 0, 36, 0, 0, 0, 42, 0, 0, 0, 49]
abbrev dktX2_nation_2 : List UInt8 := dkwX2_nation_2 ++ dktX2_nation_3
def dkwX2_nation_1 : List UInt8 := [172, 28]
abbrev dktX2_nation_1 : List UInt8 := dkwX2_nation_1 ++ dktX2_nation_2
def dkwX2_nation_0 : List UInt8 := [42, 42, 180, 0, 47, 42, 27, 182, 1, 83, 28, 3, 16, 6, 184, 0, 68, 182, 0, 43, 154, 0, 5, 3]
abbrev dktX2_nation_0 : List UInt8 := dkwX2_nation_0 ++ dktX2_nation_1
theorem dksX2_nation_0 : cX2_nation.data.toList.drop 0 = dktX2_nation_0 := by decide +kernel
theorem dksX2_nation_1 : cX2_nation.data.toList.drop 24 = dktX2_nation_1 := dk_seg dksX2_nation_0 24 rfl rfl
theorem dksX2_nation_2 : cX2_nation.data.toList.drop 26 = dktX2_nation_2 := dk_seg dksX2_nation_1 2 rfl rfl
theorem dksX2_nation_3 : cX2_nation.data.toList.drop 56 = dktX2_nation_3 := dk_seg dksX2_nation_2 30 rfl rfl
theorem dksX2_nation_4 : cX2_nation.data.toList.drop 80 = dktX2_nation_4 := dk_seg dksX2_nation_3 24 rfl rfl
theorem dksX2_nation_5 : cX2_nation.data.toList.drop 104 = dktX2_nation_5 := dk_seg dksX2_nation_4 24 rfl rfl
theorem dX2_nation_0 : decode cX2_nation 0 = .ok (.aload_n 0, 1) := dk_42 (dk_at dksX2_nation_0 0 rfl rfl)
theorem dX2_nation_1 : decode cX2_nation 1 = .ok (.aload_n 0, 1) := dk_42 (dk_at dksX2_nation_0 1 rfl rfl)
theorem dX2_nation_2 : decode cX2_nation 2 = .ok (.getfield 47, 3) := dk_180 0 47 (dk_at dksX2_nation_0 2 rfl rfl)
theorem dX2_nation_5 : decode cX2_nation 5 = .ok (.aload_n 0, 1) := dk_42 (dk_at dksX2_nation_0 5 rfl rfl)
theorem dX2_nation_6 : decode cX2_nation 6 = .ok (.iload_n 1, 1) := dk_27 (dk_at dksX2_nation_0 6 rfl rfl)
theorem dX2_nation_7 : decode cX2_nation 7 = .ok (.invokevirtual 339, 3) := dk_182 1 83 (dk_at dksX2_nation_0 7 rfl rfl)
theorem dX2_nation_10 : decode cX2_nation 10 = .ok (.iload_n 2, 1) := dk_28 (dk_at dksX2_nation_0 10 rfl rfl)
theorem dX2_nation_11 : decode cX2_nation 11 = .ok (.iconst 0, 1) := dk_3 (dk_at dksX2_nation_0 11 rfl rfl)
theorem dX2_nation_12 : decode cX2_nation 12 = .ok (.bipush 6, 2) := dk_16 6 (dk_at dksX2_nation_0 12 rfl rfl)
theorem dX2_nation_14 : decode cX2_nation 14 = .ok (.invokestatic 68, 3) := dk_184 0 68 (dk_at dksX2_nation_0 14 rfl rfl)
theorem dX2_nation_17 : decode cX2_nation 17 = .ok (.invokevirtual 43, 3) := dk_182 0 43 (dk_at dksX2_nation_0 17 rfl rfl)
theorem dX2_nation_20 : decode cX2_nation 20 = .ok (.ifCond .ne 5, 3) := dk_154 0 5 (dk_at dksX2_nation_0 20 rfl rfl)
theorem dX2_nation_23 : decode cX2_nation 23 = .ok (.iconst 0, 1) := dk_3 (dk_at dksX2_nation_0 23 rfl rfl)
theorem dX2_nation_24 : decode cX2_nation 24 = .ok (.ireturn, 1) := dk_172 (dk_at dksX2_nation_1 0 rfl rfl)
theorem dX2_nation_25 : decode cX2_nation 25 = .ok (.iload_n 2, 1) := dk_28 (dk_at dksX2_nation_1 1 rfl rfl)
theorem dX2_nation_26 : decode cX2_nation 26 = .ok (.tableswitch 78 3 6 #[30, 36, 42, 49], 30) := by decide +kernel
theorem dX2_nation_56 : decode cX2_nation 56 = .ok (.aload_n 0, 1) := dk_42 (dk_at dksX2_nation_3 0 rfl rfl)
theorem dX2_nation_57 : decode cX2_nation 57 = .ok (.iload_n 1, 1) := dk_27 (dk_at dksX2_nation_3 1 rfl rfl)
theorem dX2_nation_58 : decode cX2_nation 58 = .ok (.invokevirtual 305, 3) := dk_182 1 49 (dk_at dksX2_nation_3 2 rfl rfl)
theorem dX2_nation_61 : decode cX2_nation 61 = .ok (.ireturn, 1) := dk_172 (dk_at dksX2_nation_3 5 rfl rfl)
theorem dX2_nation_62 : decode cX2_nation 62 = .ok (.aload_n 0, 1) := dk_42 (dk_at dksX2_nation_3 6 rfl rfl)
theorem dX2_nation_63 : decode cX2_nation 63 = .ok (.iload_n 1, 1) := dk_27 (dk_at dksX2_nation_3 7 rfl rfl)
theorem dX2_nation_64 : decode cX2_nation 64 = .ok (.invokevirtual 342, 3) := dk_182 1 86 (dk_at dksX2_nation_3 8 rfl rfl)
theorem dX2_nation_67 : decode cX2_nation 67 = .ok (.ireturn, 1) := dk_172 (dk_at dksX2_nation_3 11 rfl rfl)
theorem dX2_nation_68 : decode cX2_nation 68 = .ok (.aload_n 0, 1) := dk_42 (dk_at dksX2_nation_3 12 rfl rfl)
theorem dX2_nation_69 : decode cX2_nation 69 = .ok (.iload_n 1, 1) := dk_27 (dk_at dksX2_nation_3 13 rfl rfl)
theorem dX2_nation_70 : decode cX2_nation 70 = .ok (.iconst 3, 1) := dk_6 (dk_at dksX2_nation_3 14 rfl rfl)
theorem dX2_nation_71 : decode cX2_nation 71 = .ok (.invokevirtual 302, 3) := dk_182 1 46 (dk_at dksX2_nation_3 15 rfl rfl)
theorem dX2_nation_74 : decode cX2_nation 74 = .ok (.ireturn, 1) := dk_172 (dk_at dksX2_nation_3 18 rfl rfl)
theorem dX2_nation_75 : decode cX2_nation 75 = .ok (.aload_n 0, 1) := dk_42 (dk_at dksX2_nation_3 19 rfl rfl)
theorem dX2_nation_76 : decode cX2_nation 76 = .ok (.iload_n 1, 1) := dk_27 (dk_at dksX2_nation_3 20 rfl rfl)
theorem dX2_nation_77 : decode cX2_nation 77 = .ok (.invokevirtual 345, 3) := dk_182 1 89 (dk_at dksX2_nation_3 21 rfl rfl)
theorem dX2_nation_80 : decode cX2_nation 80 = .ok (.ifCond .eq 12, 3) := dk_153 0 12 (dk_at dksX2_nation_4 0 rfl rfl)
theorem dX2_nation_83 : decode cX2_nation 83 = .ok (.aload_n 0, 1) := dk_42 (dk_at dksX2_nation_4 3 rfl rfl)
theorem dX2_nation_84 : decode cX2_nation 84 = .ok (.iload_n 1, 1) := dk_27 (dk_at dksX2_nation_4 4 rfl rfl)
theorem dX2_nation_85 : decode cX2_nation 85 = .ok (.iconst 4, 1) := dk_7 (dk_at dksX2_nation_4 5 rfl rfl)
theorem dX2_nation_86 : decode cX2_nation 86 = .ok (.invokevirtual 302, 3) := dk_182 1 46 (dk_at dksX2_nation_4 6 rfl rfl)
theorem dX2_nation_89 : decode cX2_nation 89 = .ok (.goto 14, 3) := dk_167 0 14 (dk_at dksX2_nation_4 9 rfl rfl)
theorem dX2_nation_92 : decode cX2_nation 92 = .ok (.aload_n 0, 1) := dk_42 (dk_at dksX2_nation_4 12 rfl rfl)
theorem dX2_nation_93 : decode cX2_nation 93 = .ok (.iload_n 1, 1) := dk_27 (dk_at dksX2_nation_4 13 rfl rfl)
theorem dX2_nation_94 : decode cX2_nation 94 = .ok (.aload_n 0, 1) := dk_42 (dk_at dksX2_nation_4 14 rfl rfl)
theorem dX2_nation_95 : decode cX2_nation 95 = .ok (.getfield 9, 3) := dk_180 0 9 (dk_at dksX2_nation_4 15 rfl rfl)
theorem dX2_nation_98 : decode cX2_nation 98 = .ok (.iconst 0, 1) := dk_3 (dk_at dksX2_nation_4 18 rfl rfl)
theorem dX2_nation_99 : decode cX2_nation 99 = .ok (.iaload, 1) := dk_46 (dk_at dksX2_nation_4 19 rfl rfl)
theorem dX2_nation_100 : decode cX2_nation 100 = .ok (.invokevirtual 308, 3) := dk_182 1 52 (dk_at dksX2_nation_4 20 rfl rfl)
theorem dX2_nation_103 : decode cX2_nation 103 = .ok (.ireturn, 1) := dk_172 (dk_at dksX2_nation_4 23 rfl rfl)
theorem dX2_nation_104 : decode cX2_nation 104 = .ok (.aload_n 0, 1) := dk_42 (dk_at dksX2_nation_5 0 rfl rfl)
theorem dX2_nation_105 : decode cX2_nation 105 = .ok (.iload_n 1, 1) := dk_27 (dk_at dksX2_nation_5 1 rfl rfl)
theorem dX2_nation_106 : decode cX2_nation 106 = .ok (.iload_n 2, 1) := dk_28 (dk_at dksX2_nation_5 2 rfl rfl)
theorem dX2_nation_107 : decode cX2_nation 107 = .ok (.invokevirtual 302, 3) := dk_182 1 46 (dk_at dksX2_nation_5 3 rfl rfl)
theorem dX2_nation_110 : decode cX2_nation 110 = .ok (.ireturn, 1) := dk_172 (dk_at dksX2_nation_5 6 rfl rfl)
abbrev cX2_isNation : ByteArray := prog_20_method_84_code
def yX2_isNation : MethodName := ⟨RX2, "isNation", "(I)Z"⟩
def dkwX2_isNation_1 : List UInt8 := [4, 167, 0, 4, 3, 172]
abbrev dktX2_isNation_1 : List UInt8 := dkwX2_isNation_1 ++ []
def dkwX2_isNation_0 : List UInt8 := [42, 180, 0, 47, 153, 0, 24, 27, 3, 42, 180, 0, 9, 16, 7, 46, 4, 100, 184, 0, 68, 153, 0, 7]
abbrev dktX2_isNation_0 : List UInt8 := dkwX2_isNation_0 ++ dktX2_isNation_1
theorem dksX2_isNation_0 : cX2_isNation.data.toList.drop 0 = dktX2_isNation_0 := by decide +kernel
theorem dksX2_isNation_1 : cX2_isNation.data.toList.drop 24 = dktX2_isNation_1 := dk_seg dksX2_isNation_0 24 rfl rfl
theorem dX2_isNation_0 : decode cX2_isNation 0 = .ok (.aload_n 0, 1) := dk_42 (dk_at dksX2_isNation_0 0 rfl rfl)
theorem dX2_isNation_1 : decode cX2_isNation 1 = .ok (.getfield 47, 3) := dk_180 0 47 (dk_at dksX2_isNation_0 1 rfl rfl)
theorem dX2_isNation_4 : decode cX2_isNation 4 = .ok (.ifCond .eq 24, 3) := dk_153 0 24 (dk_at dksX2_isNation_0 4 rfl rfl)
theorem dX2_isNation_7 : decode cX2_isNation 7 = .ok (.iload_n 1, 1) := dk_27 (dk_at dksX2_isNation_0 7 rfl rfl)
theorem dX2_isNation_8 : decode cX2_isNation 8 = .ok (.iconst 0, 1) := dk_3 (dk_at dksX2_isNation_0 8 rfl rfl)
theorem dX2_isNation_9 : decode cX2_isNation 9 = .ok (.aload_n 0, 1) := dk_42 (dk_at dksX2_isNation_0 9 rfl rfl)
theorem dX2_isNation_10 : decode cX2_isNation 10 = .ok (.getfield 9, 3) := dk_180 0 9 (dk_at dksX2_isNation_0 10 rfl rfl)
theorem dX2_isNation_13 : decode cX2_isNation 13 = .ok (.bipush 7, 2) := dk_16 7 (dk_at dksX2_isNation_0 13 rfl rfl)
theorem dX2_isNation_15 : decode cX2_isNation 15 = .ok (.iaload, 1) := dk_46 (dk_at dksX2_isNation_0 15 rfl rfl)
theorem dX2_isNation_16 : decode cX2_isNation 16 = .ok (.iconst 1, 1) := dk_4 (dk_at dksX2_isNation_0 16 rfl rfl)
theorem dX2_isNation_17 : decode cX2_isNation 17 = .ok (.isub, 1) := dk_100 (dk_at dksX2_isNation_0 17 rfl rfl)
theorem dX2_isNation_18 : decode cX2_isNation 18 = .ok (.invokestatic 68, 3) := dk_184 0 68 (dk_at dksX2_isNation_0 18 rfl rfl)
theorem dX2_isNation_21 : decode cX2_isNation 21 = .ok (.ifCond .eq 7, 3) := dk_153 0 7 (dk_at dksX2_isNation_0 21 rfl rfl)
theorem dX2_isNation_24 : decode cX2_isNation 24 = .ok (.iconst 1, 1) := dk_4 (dk_at dksX2_isNation_1 0 rfl rfl)
theorem dX2_isNation_25 : decode cX2_isNation 25 = .ok (.goto 4, 3) := dk_167 0 4 (dk_at dksX2_isNation_1 1 rfl rfl)
theorem dX2_isNation_28 : decode cX2_isNation 28 = .ok (.iconst 0, 1) := dk_3 (dk_at dksX2_isNation_1 4 rfl rfl)
theorem dX2_isNation_29 : decode cX2_isNation 29 = .ok (.ireturn, 1) := dk_172 (dk_at dksX2_isNation_1 5 rfl rfl)
abbrev cX2_flagsOf : ByteArray := prog_20_method_75_code
def yX2_flagsOf : MethodName := ⟨RX2, "flagsOf", "(I)I"⟩
def dkwX2_flagsOf_1 : List UInt8 := [160, 0, 7, 4, 167, 0, 4, 3, 184, 0, 245, 96, 61, 132, 3, 1, 167, 255, 221, 28, 172]
abbrev dktX2_flagsOf_1 : List UInt8 := dkwX2_flagsOf_1 ++ []
def dkwX2_flagsOf_0 : List UInt8 := [3, 61, 3, 62, 29, 42, 180, 0, 9, 16, 10, 46, 162, 0, 30, 28, 42, 29, 3, 182, 0, 227, 27]
abbrev dktX2_flagsOf_0 : List UInt8 := dkwX2_flagsOf_0 ++ dktX2_flagsOf_1
theorem dksX2_flagsOf_0 : cX2_flagsOf.data.toList.drop 0 = dktX2_flagsOf_0 := by decide +kernel
theorem dksX2_flagsOf_1 : cX2_flagsOf.data.toList.drop 23 = dktX2_flagsOf_1 := dk_seg dksX2_flagsOf_0 23 rfl rfl
theorem dX2_flagsOf_0 : decode cX2_flagsOf 0 = .ok (.iconst 0, 1) := dk_3 (dk_at dksX2_flagsOf_0 0 rfl rfl)
theorem dX2_flagsOf_1 : decode cX2_flagsOf 1 = .ok (.istore_n 2, 1) := dk_61 (dk_at dksX2_flagsOf_0 1 rfl rfl)
theorem dX2_flagsOf_2 : decode cX2_flagsOf 2 = .ok (.iconst 0, 1) := dk_3 (dk_at dksX2_flagsOf_0 2 rfl rfl)
theorem dX2_flagsOf_3 : decode cX2_flagsOf 3 = .ok (.istore_n 3, 1) := dk_62 (dk_at dksX2_flagsOf_0 3 rfl rfl)
theorem dX2_flagsOf_4 : decode cX2_flagsOf 4 = .ok (.iload_n 3, 1) := dk_29 (dk_at dksX2_flagsOf_0 4 rfl rfl)
theorem dX2_flagsOf_5 : decode cX2_flagsOf 5 = .ok (.aload_n 0, 1) := dk_42 (dk_at dksX2_flagsOf_0 5 rfl rfl)
theorem dX2_flagsOf_6 : decode cX2_flagsOf 6 = .ok (.getfield 9, 3) := dk_180 0 9 (dk_at dksX2_flagsOf_0 6 rfl rfl)
theorem dX2_flagsOf_9 : decode cX2_flagsOf 9 = .ok (.bipush 10, 2) := dk_16 10 (dk_at dksX2_flagsOf_0 9 rfl rfl)
theorem dX2_flagsOf_11 : decode cX2_flagsOf 11 = .ok (.iaload, 1) := dk_46 (dk_at dksX2_flagsOf_0 11 rfl rfl)
theorem dX2_flagsOf_12 : decode cX2_flagsOf 12 = .ok (.if_icmp .ge 30, 3) := dk_162 0 30 (dk_at dksX2_flagsOf_0 12 rfl rfl)
theorem dX2_flagsOf_15 : decode cX2_flagsOf 15 = .ok (.iload_n 2, 1) := dk_28 (dk_at dksX2_flagsOf_0 15 rfl rfl)
theorem dX2_flagsOf_16 : decode cX2_flagsOf 16 = .ok (.aload_n 0, 1) := dk_42 (dk_at dksX2_flagsOf_0 16 rfl rfl)
theorem dX2_flagsOf_17 : decode cX2_flagsOf 17 = .ok (.iload_n 3, 1) := dk_29 (dk_at dksX2_flagsOf_0 17 rfl rfl)
theorem dX2_flagsOf_18 : decode cX2_flagsOf 18 = .ok (.iconst 0, 1) := dk_3 (dk_at dksX2_flagsOf_0 18 rfl rfl)
theorem dX2_flagsOf_19 : decode cX2_flagsOf 19 = .ok (.invokevirtual 227, 3) := dk_182 0 227 (dk_at dksX2_flagsOf_0 19 rfl rfl)
theorem dX2_flagsOf_22 : decode cX2_flagsOf 22 = .ok (.iload_n 1, 1) := dk_27 (dk_at dksX2_flagsOf_0 22 rfl rfl)
theorem dX2_flagsOf_23 : decode cX2_flagsOf 23 = .ok (.if_icmp .ne 7, 3) := dk_160 0 7 (dk_at dksX2_flagsOf_1 0 rfl rfl)
theorem dX2_flagsOf_26 : decode cX2_flagsOf 26 = .ok (.iconst 1, 1) := dk_4 (dk_at dksX2_flagsOf_1 3 rfl rfl)
theorem dX2_flagsOf_27 : decode cX2_flagsOf 27 = .ok (.goto 4, 3) := dk_167 0 4 (dk_at dksX2_flagsOf_1 4 rfl rfl)
theorem dX2_flagsOf_30 : decode cX2_flagsOf 30 = .ok (.iconst 0, 1) := dk_3 (dk_at dksX2_flagsOf_1 7 rfl rfl)
theorem dX2_flagsOf_31 : decode cX2_flagsOf 31 = .ok (.invokestatic 245, 3) := dk_184 0 245 (dk_at dksX2_flagsOf_1 8 rfl rfl)
theorem dX2_flagsOf_34 : decode cX2_flagsOf 34 = .ok (.iadd, 1) := dk_96 (dk_at dksX2_flagsOf_1 11 rfl rfl)
theorem dX2_flagsOf_35 : decode cX2_flagsOf 35 = .ok (.istore_n 2, 1) := dk_61 (dk_at dksX2_flagsOf_1 12 rfl rfl)
theorem dX2_flagsOf_36 : decode cX2_flagsOf 36 = .ok (.iinc 3 1, 3) := dk_132 3 1 (dk_at dksX2_flagsOf_1 13 rfl rfl)
theorem dX2_flagsOf_39 : decode cX2_flagsOf 39 = .ok (.goto (-35), 3) := dk_167 255 221 (dk_at dksX2_flagsOf_1 16 rfl rfl)
theorem dX2_flagsOf_42 : decode cX2_flagsOf 42 = .ok (.iload_n 2, 1) := dk_28 (dk_at dksX2_flagsOf_1 19 rfl rfl)
theorem dX2_flagsOf_43 : decode cX2_flagsOf 43 = .ok (.ireturn, 1) := dk_172 (dk_at dksX2_flagsOf_1 20 rfl rfl)
abbrev cX2_readyOf : ByteArray := prog_20_method_93_code
def yX2_readyOf : MethodName := ⟨RX2, "readyOf", "(I)I"⟩
def dkwX2_readyOf_2 : List UInt8 := [167, 255, 213, 28, 172]
abbrev dktX2_readyOf_2 : List UInt8 := dkwX2_readyOf_2 ++ []
def dkwX2_readyOf_1 : List UInt8 := [160, 0, 15, 42, 29, 182, 1, 55, 154, 0, 7, 4, 167, 0, 4, 3, 184, 0, 245, 96, 61, 132, 3, 1]
abbrev dktX2_readyOf_1 : List UInt8 := dkwX2_readyOf_1 ++ dktX2_readyOf_2
def dkwX2_readyOf_0 : List UInt8 := [3, 61, 3, 62, 29, 42, 180, 0, 9, 16, 10, 46, 162, 0, 38, 28, 42, 29, 3, 182, 0, 227, 27]
abbrev dktX2_readyOf_0 : List UInt8 := dkwX2_readyOf_0 ++ dktX2_readyOf_1
theorem dksX2_readyOf_0 : cX2_readyOf.data.toList.drop 0 = dktX2_readyOf_0 := by decide +kernel
theorem dksX2_readyOf_1 : cX2_readyOf.data.toList.drop 23 = dktX2_readyOf_1 := dk_seg dksX2_readyOf_0 23 rfl rfl
theorem dksX2_readyOf_2 : cX2_readyOf.data.toList.drop 47 = dktX2_readyOf_2 := dk_seg dksX2_readyOf_1 24 rfl rfl
theorem dX2_readyOf_0 : decode cX2_readyOf 0 = .ok (.iconst 0, 1) := dk_3 (dk_at dksX2_readyOf_0 0 rfl rfl)
theorem dX2_readyOf_1 : decode cX2_readyOf 1 = .ok (.istore_n 2, 1) := dk_61 (dk_at dksX2_readyOf_0 1 rfl rfl)
theorem dX2_readyOf_2 : decode cX2_readyOf 2 = .ok (.iconst 0, 1) := dk_3 (dk_at dksX2_readyOf_0 2 rfl rfl)
theorem dX2_readyOf_3 : decode cX2_readyOf 3 = .ok (.istore_n 3, 1) := dk_62 (dk_at dksX2_readyOf_0 3 rfl rfl)
theorem dX2_readyOf_4 : decode cX2_readyOf 4 = .ok (.iload_n 3, 1) := dk_29 (dk_at dksX2_readyOf_0 4 rfl rfl)
theorem dX2_readyOf_5 : decode cX2_readyOf 5 = .ok (.aload_n 0, 1) := dk_42 (dk_at dksX2_readyOf_0 5 rfl rfl)
theorem dX2_readyOf_6 : decode cX2_readyOf 6 = .ok (.getfield 9, 3) := dk_180 0 9 (dk_at dksX2_readyOf_0 6 rfl rfl)
theorem dX2_readyOf_9 : decode cX2_readyOf 9 = .ok (.bipush 10, 2) := dk_16 10 (dk_at dksX2_readyOf_0 9 rfl rfl)
theorem dX2_readyOf_11 : decode cX2_readyOf 11 = .ok (.iaload, 1) := dk_46 (dk_at dksX2_readyOf_0 11 rfl rfl)
theorem dX2_readyOf_12 : decode cX2_readyOf 12 = .ok (.if_icmp .ge 38, 3) := dk_162 0 38 (dk_at dksX2_readyOf_0 12 rfl rfl)
theorem dX2_readyOf_15 : decode cX2_readyOf 15 = .ok (.iload_n 2, 1) := dk_28 (dk_at dksX2_readyOf_0 15 rfl rfl)
theorem dX2_readyOf_16 : decode cX2_readyOf 16 = .ok (.aload_n 0, 1) := dk_42 (dk_at dksX2_readyOf_0 16 rfl rfl)
theorem dX2_readyOf_17 : decode cX2_readyOf 17 = .ok (.iload_n 3, 1) := dk_29 (dk_at dksX2_readyOf_0 17 rfl rfl)
theorem dX2_readyOf_18 : decode cX2_readyOf 18 = .ok (.iconst 0, 1) := dk_3 (dk_at dksX2_readyOf_0 18 rfl rfl)
theorem dX2_readyOf_19 : decode cX2_readyOf 19 = .ok (.invokevirtual 227, 3) := dk_182 0 227 (dk_at dksX2_readyOf_0 19 rfl rfl)
theorem dX2_readyOf_22 : decode cX2_readyOf 22 = .ok (.iload_n 1, 1) := dk_27 (dk_at dksX2_readyOf_0 22 rfl rfl)
theorem dX2_readyOf_23 : decode cX2_readyOf 23 = .ok (.if_icmp .ne 15, 3) := dk_160 0 15 (dk_at dksX2_readyOf_1 0 rfl rfl)
theorem dX2_readyOf_26 : decode cX2_readyOf 26 = .ok (.aload_n 0, 1) := dk_42 (dk_at dksX2_readyOf_1 3 rfl rfl)
theorem dX2_readyOf_27 : decode cX2_readyOf 27 = .ok (.iload_n 3, 1) := dk_29 (dk_at dksX2_readyOf_1 4 rfl rfl)
theorem dX2_readyOf_28 : decode cX2_readyOf 28 = .ok (.invokevirtual 311, 3) := dk_182 1 55 (dk_at dksX2_readyOf_1 5 rfl rfl)
theorem dX2_readyOf_31 : decode cX2_readyOf 31 = .ok (.ifCond .ne 7, 3) := dk_154 0 7 (dk_at dksX2_readyOf_1 8 rfl rfl)
theorem dX2_readyOf_34 : decode cX2_readyOf 34 = .ok (.iconst 1, 1) := dk_4 (dk_at dksX2_readyOf_1 11 rfl rfl)
theorem dX2_readyOf_35 : decode cX2_readyOf 35 = .ok (.goto 4, 3) := dk_167 0 4 (dk_at dksX2_readyOf_1 12 rfl rfl)
theorem dX2_readyOf_38 : decode cX2_readyOf 38 = .ok (.iconst 0, 1) := dk_3 (dk_at dksX2_readyOf_1 15 rfl rfl)
theorem dX2_readyOf_39 : decode cX2_readyOf 39 = .ok (.invokestatic 245, 3) := dk_184 0 245 (dk_at dksX2_readyOf_1 16 rfl rfl)
theorem dX2_readyOf_42 : decode cX2_readyOf 42 = .ok (.iadd, 1) := dk_96 (dk_at dksX2_readyOf_1 19 rfl rfl)
theorem dX2_readyOf_43 : decode cX2_readyOf 43 = .ok (.istore_n 2, 1) := dk_61 (dk_at dksX2_readyOf_1 20 rfl rfl)
theorem dX2_readyOf_44 : decode cX2_readyOf 44 = .ok (.iinc 3 1, 3) := dk_132 3 1 (dk_at dksX2_readyOf_1 21 rfl rfl)
theorem dX2_readyOf_47 : decode cX2_readyOf 47 = .ok (.goto (-43), 3) := dk_167 255 213 (dk_at dksX2_readyOf_2 0 rfl rfl)
theorem dX2_readyOf_50 : decode cX2_readyOf 50 = .ok (.iload_n 2, 1) := dk_28 (dk_at dksX2_readyOf_2 3 rfl rfl)
theorem dX2_readyOf_51 : decode cX2_readyOf 51 = .ok (.ireturn, 1) := dk_172 (dk_at dksX2_readyOf_2 4 rfl rfl)
abbrev cX2_ofNation : ByteArray := prog_20_method_40_code
def yX2_ofNation : MethodName := ⟨RX2, "ofNation", "(II)I"⟩
def dkwX2_ofNation_0 : List UInt8 := [42, 180, 0, 9, 16, 18, 8, 27, 104, 96, 28, 96, 46, 172]
abbrev dktX2_ofNation_0 : List UInt8 := dkwX2_ofNation_0 ++ []
theorem dksX2_ofNation_0 : cX2_ofNation.data.toList.drop 0 = dktX2_ofNation_0 := by decide +kernel
theorem dX2_ofNation_0 : decode cX2_ofNation 0 = .ok (.aload_n 0, 1) := dk_42 (dk_at dksX2_ofNation_0 0 rfl rfl)
theorem dX2_ofNation_1 : decode cX2_ofNation 1 = .ok (.getfield 9, 3) := dk_180 0 9 (dk_at dksX2_ofNation_0 1 rfl rfl)
theorem dX2_ofNation_4 : decode cX2_ofNation 4 = .ok (.bipush 18, 2) := dk_16 18 (dk_at dksX2_ofNation_0 4 rfl rfl)
theorem dX2_ofNation_6 : decode cX2_ofNation 6 = .ok (.iconst 5, 1) := dk_8 (dk_at dksX2_ofNation_0 6 rfl rfl)
theorem dX2_ofNation_7 : decode cX2_ofNation 7 = .ok (.iload_n 1, 1) := dk_27 (dk_at dksX2_ofNation_0 7 rfl rfl)
theorem dX2_ofNation_8 : decode cX2_ofNation 8 = .ok (.imul, 1) := dk_104 (dk_at dksX2_ofNation_0 8 rfl rfl)
theorem dX2_ofNation_9 : decode cX2_ofNation 9 = .ok (.iadd, 1) := dk_96 (dk_at dksX2_ofNation_0 9 rfl rfl)
theorem dX2_ofNation_10 : decode cX2_ofNation 10 = .ok (.iload_n 2, 1) := dk_28 (dk_at dksX2_ofNation_0 10 rfl rfl)
theorem dX2_ofNation_11 : decode cX2_ofNation 11 = .ok (.iadd, 1) := dk_96 (dk_at dksX2_ofNation_0 11 rfl rfl)
theorem dX2_ofNation_12 : decode cX2_ofNation 12 = .ok (.iaload, 1) := dk_46 (dk_at dksX2_ofNation_0 12 rfl rfl)
theorem dX2_ofNation_13 : decode cX2_ofNation 13 = .ok (.ireturn, 1) := dk_172 (dk_at dksX2_ofNation_0 13 rfl rfl)
abbrev cX2_isHanded : ByteArray := prog_20_method_78_code
def yX2_isHanded : MethodName := ⟨RX2, "isHanded", "(I)Z"⟩
def dkwX2_isHanded_0 : List UInt8 := [42, 27, 6, 182, 1, 46, 4, 160, 0, 7, 4, 167, 0, 4, 3, 172]
abbrev dktX2_isHanded_0 : List UInt8 := dkwX2_isHanded_0 ++ []
theorem dksX2_isHanded_0 : cX2_isHanded.data.toList.drop 0 = dktX2_isHanded_0 := by decide +kernel
theorem dX2_isHanded_0 : decode cX2_isHanded 0 = .ok (.aload_n 0, 1) := dk_42 (dk_at dksX2_isHanded_0 0 rfl rfl)
theorem dX2_isHanded_1 : decode cX2_isHanded 1 = .ok (.iload_n 1, 1) := dk_27 (dk_at dksX2_isHanded_0 1 rfl rfl)
theorem dX2_isHanded_2 : decode cX2_isHanded 2 = .ok (.iconst 3, 1) := dk_6 (dk_at dksX2_isHanded_0 2 rfl rfl)
theorem dX2_isHanded_3 : decode cX2_isHanded 3 = .ok (.invokevirtual 302, 3) := dk_182 1 46 (dk_at dksX2_isHanded_0 3 rfl rfl)
theorem dX2_isHanded_6 : decode cX2_isHanded 6 = .ok (.iconst 1, 1) := dk_4 (dk_at dksX2_isHanded_0 6 rfl rfl)
theorem dX2_isHanded_7 : decode cX2_isHanded 7 = .ok (.if_icmp .ne 7, 3) := dk_160 0 7 (dk_at dksX2_isHanded_0 7 rfl rfl)
theorem dX2_isHanded_10 : decode cX2_isHanded 10 = .ok (.iconst 1, 1) := dk_4 (dk_at dksX2_isHanded_0 10 rfl rfl)
theorem dX2_isHanded_11 : decode cX2_isHanded 11 = .ok (.goto 4, 3) := dk_167 0 4 (dk_at dksX2_isHanded_0 11 rfl rfl)
theorem dX2_isHanded_14 : decode cX2_isHanded 14 = .ok (.iconst 0, 1) := dk_3 (dk_at dksX2_isHanded_0 14 rfl rfl)
theorem dX2_isHanded_15 : decode cX2_isHanded 15 = .ok (.ireturn, 1) := dk_172 (dk_at dksX2_isHanded_0 15 rfl rfl)
abbrev cX2_lateAt : ByteArray := prog_20_method_76_code
def yX2_lateAt : MethodName := ⟨RX2, "lateAt", "(II)I"⟩
def dkwX2_lateAt_0 : List UInt8 := [3, 28, 42, 27, 3, 182, 1, 46, 100, 184, 1, 19, 172]
abbrev dktX2_lateAt_0 : List UInt8 := dkwX2_lateAt_0 ++ []
theorem dksX2_lateAt_0 : cX2_lateAt.data.toList.drop 0 = dktX2_lateAt_0 := by decide +kernel
theorem dX2_lateAt_0 : decode cX2_lateAt 0 = .ok (.iconst 0, 1) := dk_3 (dk_at dksX2_lateAt_0 0 rfl rfl)
theorem dX2_lateAt_1 : decode cX2_lateAt 1 = .ok (.iload_n 2, 1) := dk_28 (dk_at dksX2_lateAt_0 1 rfl rfl)
theorem dX2_lateAt_2 : decode cX2_lateAt 2 = .ok (.aload_n 0, 1) := dk_42 (dk_at dksX2_lateAt_0 2 rfl rfl)
theorem dX2_lateAt_3 : decode cX2_lateAt 3 = .ok (.iload_n 1, 1) := dk_27 (dk_at dksX2_lateAt_0 3 rfl rfl)
theorem dX2_lateAt_4 : decode cX2_lateAt 4 = .ok (.iconst 0, 1) := dk_3 (dk_at dksX2_lateAt_0 4 rfl rfl)
theorem dX2_lateAt_5 : decode cX2_lateAt 5 = .ok (.invokevirtual 302, 3) := dk_182 1 46 (dk_at dksX2_lateAt_0 5 rfl rfl)
theorem dX2_lateAt_8 : decode cX2_lateAt 8 = .ok (.isub, 1) := dk_100 (dk_at dksX2_lateAt_0 8 rfl rfl)
theorem dX2_lateAt_9 : decode cX2_lateAt 9 = .ok (.invokestatic 275, 3) := dk_184 1 19 (dk_at dksX2_lateAt_0 9 rfl rfl)
theorem dX2_lateAt_12 : decode cX2_lateAt 12 = .ok (.ireturn, 1) := dk_172 (dk_at dksX2_lateAt_0 12 rfl rfl)
abbrev cX2_flag : ByteArray := prog_20_method_95_code
def yX2_flag : MethodName := ⟨RX2, "flag", "(II)I"⟩
def dkwX2_flag_1 : List UInt8 := [27, 28, 182, 0, 227, 167, 0, 4, 3, 172]
abbrev dktX2_flag_1 : List UInt8 := dkwX2_flag_1 ++ []
def dkwX2_flag_0 : List UInt8 := [42, 42, 180, 0, 47, 42, 27, 182, 1, 68, 28, 3, 16, 9, 184, 0, 68, 182, 0, 43, 153, 0, 12, 42]
abbrev dktX2_flag_0 : List UInt8 := dkwX2_flag_0 ++ dktX2_flag_1
theorem dksX2_flag_0 : cX2_flag.data.toList.drop 0 = dktX2_flag_0 := by decide +kernel
theorem dksX2_flag_1 : cX2_flag.data.toList.drop 24 = dktX2_flag_1 := dk_seg dksX2_flag_0 24 rfl rfl
theorem dX2_flag_0 : decode cX2_flag 0 = .ok (.aload_n 0, 1) := dk_42 (dk_at dksX2_flag_0 0 rfl rfl)
theorem dX2_flag_1 : decode cX2_flag 1 = .ok (.aload_n 0, 1) := dk_42 (dk_at dksX2_flag_0 1 rfl rfl)
theorem dX2_flag_2 : decode cX2_flag 2 = .ok (.getfield 47, 3) := dk_180 0 47 (dk_at dksX2_flag_0 2 rfl rfl)
theorem dX2_flag_5 : decode cX2_flag 5 = .ok (.aload_n 0, 1) := dk_42 (dk_at dksX2_flag_0 5 rfl rfl)
theorem dX2_flag_6 : decode cX2_flag 6 = .ok (.iload_n 1, 1) := dk_27 (dk_at dksX2_flag_0 6 rfl rfl)
theorem dX2_flag_7 : decode cX2_flag 7 = .ok (.invokevirtual 324, 3) := dk_182 1 68 (dk_at dksX2_flag_0 7 rfl rfl)
theorem dX2_flag_10 : decode cX2_flag 10 = .ok (.iload_n 2, 1) := dk_28 (dk_at dksX2_flag_0 10 rfl rfl)
theorem dX2_flag_11 : decode cX2_flag 11 = .ok (.iconst 0, 1) := dk_3 (dk_at dksX2_flag_0 11 rfl rfl)
theorem dX2_flag_12 : decode cX2_flag 12 = .ok (.bipush 9, 2) := dk_16 9 (dk_at dksX2_flag_0 12 rfl rfl)
theorem dX2_flag_14 : decode cX2_flag 14 = .ok (.invokestatic 68, 3) := dk_184 0 68 (dk_at dksX2_flag_0 14 rfl rfl)
theorem dX2_flag_17 : decode cX2_flag 17 = .ok (.invokevirtual 43, 3) := dk_182 0 43 (dk_at dksX2_flag_0 17 rfl rfl)
theorem dX2_flag_20 : decode cX2_flag 20 = .ok (.ifCond .eq 12, 3) := dk_153 0 12 (dk_at dksX2_flag_0 20 rfl rfl)
theorem dX2_flag_23 : decode cX2_flag 23 = .ok (.aload_n 0, 1) := dk_42 (dk_at dksX2_flag_0 23 rfl rfl)
theorem dX2_flag_24 : decode cX2_flag 24 = .ok (.iload_n 1, 1) := dk_27 (dk_at dksX2_flag_1 0 rfl rfl)
theorem dX2_flag_25 : decode cX2_flag 25 = .ok (.iload_n 2, 1) := dk_28 (dk_at dksX2_flag_1 1 rfl rfl)
theorem dX2_flag_26 : decode cX2_flag 26 = .ok (.invokevirtual 227, 3) := dk_182 0 227 (dk_at dksX2_flag_1 2 rfl rfl)
theorem dX2_flag_29 : decode cX2_flag 29 = .ok (.goto 4, 3) := dk_167 0 4 (dk_at dksX2_flag_1 5 rfl rfl)
theorem dX2_flag_32 : decode cX2_flag 32 = .ok (.iconst 0, 1) := dk_3 (dk_at dksX2_flag_1 8 rfl rfl)
theorem dX2_flag_33 : decode cX2_flag 33 = .ok (.ireturn, 1) := dk_172 (dk_at dksX2_flag_1 9 rfl rfl)
abbrev cX2_isFlag : ByteArray := prog_20_method_85_code
def yX2_isFlag : MethodName := ⟨RX2, "isFlag", "(I)Z"⟩
def dkwX2_isFlag_1 : List UInt8 := [4, 167, 0, 4, 3, 172]
abbrev dktX2_isFlag_1 : List UInt8 := dkwX2_isFlag_1 ++ []
def dkwX2_isFlag_0 : List UInt8 := [42, 180, 0, 47, 153, 0, 24, 27, 3, 42, 180, 0, 9, 16, 10, 46, 4, 100, 184, 0, 68, 153, 0, 7]
abbrev dktX2_isFlag_0 : List UInt8 := dkwX2_isFlag_0 ++ dktX2_isFlag_1
theorem dksX2_isFlag_0 : cX2_isFlag.data.toList.drop 0 = dktX2_isFlag_0 := by decide +kernel
theorem dksX2_isFlag_1 : cX2_isFlag.data.toList.drop 24 = dktX2_isFlag_1 := dk_seg dksX2_isFlag_0 24 rfl rfl
theorem dX2_isFlag_0 : decode cX2_isFlag 0 = .ok (.aload_n 0, 1) := dk_42 (dk_at dksX2_isFlag_0 0 rfl rfl)
theorem dX2_isFlag_1 : decode cX2_isFlag 1 = .ok (.getfield 47, 3) := dk_180 0 47 (dk_at dksX2_isFlag_0 1 rfl rfl)
theorem dX2_isFlag_4 : decode cX2_isFlag 4 = .ok (.ifCond .eq 24, 3) := dk_153 0 24 (dk_at dksX2_isFlag_0 4 rfl rfl)
theorem dX2_isFlag_7 : decode cX2_isFlag 7 = .ok (.iload_n 1, 1) := dk_27 (dk_at dksX2_isFlag_0 7 rfl rfl)
theorem dX2_isFlag_8 : decode cX2_isFlag 8 = .ok (.iconst 0, 1) := dk_3 (dk_at dksX2_isFlag_0 8 rfl rfl)
theorem dX2_isFlag_9 : decode cX2_isFlag 9 = .ok (.aload_n 0, 1) := dk_42 (dk_at dksX2_isFlag_0 9 rfl rfl)
theorem dX2_isFlag_10 : decode cX2_isFlag 10 = .ok (.getfield 9, 3) := dk_180 0 9 (dk_at dksX2_isFlag_0 10 rfl rfl)
theorem dX2_isFlag_13 : decode cX2_isFlag 13 = .ok (.bipush 10, 2) := dk_16 10 (dk_at dksX2_isFlag_0 13 rfl rfl)
theorem dX2_isFlag_15 : decode cX2_isFlag 15 = .ok (.iaload, 1) := dk_46 (dk_at dksX2_isFlag_0 15 rfl rfl)
theorem dX2_isFlag_16 : decode cX2_isFlag 16 = .ok (.iconst 1, 1) := dk_4 (dk_at dksX2_isFlag_0 16 rfl rfl)
theorem dX2_isFlag_17 : decode cX2_isFlag 17 = .ok (.isub, 1) := dk_100 (dk_at dksX2_isFlag_0 17 rfl rfl)
theorem dX2_isFlag_18 : decode cX2_isFlag 18 = .ok (.invokestatic 68, 3) := dk_184 0 68 (dk_at dksX2_isFlag_0 18 rfl rfl)
theorem dX2_isFlag_21 : decode cX2_isFlag 21 = .ok (.ifCond .eq 7, 3) := dk_153 0 7 (dk_at dksX2_isFlag_0 21 rfl rfl)
theorem dX2_isFlag_24 : decode cX2_isFlag 24 = .ok (.iconst 1, 1) := dk_4 (dk_at dksX2_isFlag_1 0 rfl rfl)
theorem dX2_isFlag_25 : decode cX2_isFlag 25 = .ok (.goto 4, 3) := dk_167 0 4 (dk_at dksX2_isFlag_1 1 rfl rfl)
theorem dX2_isFlag_28 : decode cX2_isFlag 28 = .ok (.iconst 0, 1) := dk_3 (dk_at dksX2_isFlag_1 4 rfl rfl)
theorem dX2_isFlag_29 : decode cX2_isFlag 29 = .ok (.ireturn, 1) := dk_172 (dk_at dksX2_isFlag_1 5 rfl rfl)
abbrev cX2_tub : ByteArray := prog_20_method_97_code
def yX2_tub : MethodName := ⟨RX2, "tub", "(II)I"⟩
def dkwX2_tub_4 : List UInt8 := [28, 182, 1, 92, 172]
abbrev dktX2_tub_4 : List UInt8 := dkwX2_tub_4 ++ []
def dkwX2_tub_3 : List UInt8 := [42, 180, 0, 9, 16, 38, 27, 96, 46, 172, 42, 27, 182, 0, 252, 172, 42, 27, 182, 1, 4, 172, 42, 27]
abbrev dktX2_tub_3 : List UInt8 := dkwX2_tub_3 ++ dktX2_tub_4
def dkwX2_tub_2 : List UInt8 := [170, 0, 0, 0, 0, 0, 49, 0, 0, 0, 0, 0, 0, 0, 2, 0, 0, 0, 27, 0, 0, 0, 37, 0, 0, 0, 43]
abbrev dktX2_tub_2 : List UInt8 := dkwX2_tub_2 ++ dktX2_tub_3
def dkwX2_tub_1 : List UInt8 := [28]
abbrev dktX2_tub_1 : List UInt8 := dkwX2_tub_1 ++ dktX2_tub_2
def dkwX2_tub_0 : List UInt8 := [42, 42, 180, 0, 47, 42, 27, 182, 1, 71, 28, 3, 7, 184, 0, 68, 182, 0, 43, 154, 0, 5, 3, 172]
abbrev dktX2_tub_0 : List UInt8 := dkwX2_tub_0 ++ dktX2_tub_1
theorem dksX2_tub_0 : cX2_tub.data.toList.drop 0 = dktX2_tub_0 := by decide +kernel
theorem dksX2_tub_1 : cX2_tub.data.toList.drop 24 = dktX2_tub_1 := dk_seg dksX2_tub_0 24 rfl rfl
theorem dksX2_tub_2 : cX2_tub.data.toList.drop 25 = dktX2_tub_2 := dk_seg dksX2_tub_1 1 rfl rfl
theorem dksX2_tub_3 : cX2_tub.data.toList.drop 52 = dktX2_tub_3 := dk_seg dksX2_tub_2 27 rfl rfl
theorem dksX2_tub_4 : cX2_tub.data.toList.drop 76 = dktX2_tub_4 := dk_seg dksX2_tub_3 24 rfl rfl
theorem dX2_tub_0 : decode cX2_tub 0 = .ok (.aload_n 0, 1) := dk_42 (dk_at dksX2_tub_0 0 rfl rfl)
theorem dX2_tub_1 : decode cX2_tub 1 = .ok (.aload_n 0, 1) := dk_42 (dk_at dksX2_tub_0 1 rfl rfl)
theorem dX2_tub_2 : decode cX2_tub 2 = .ok (.getfield 47, 3) := dk_180 0 47 (dk_at dksX2_tub_0 2 rfl rfl)
theorem dX2_tub_5 : decode cX2_tub 5 = .ok (.aload_n 0, 1) := dk_42 (dk_at dksX2_tub_0 5 rfl rfl)
theorem dX2_tub_6 : decode cX2_tub 6 = .ok (.iload_n 1, 1) := dk_27 (dk_at dksX2_tub_0 6 rfl rfl)
theorem dX2_tub_7 : decode cX2_tub 7 = .ok (.invokevirtual 327, 3) := dk_182 1 71 (dk_at dksX2_tub_0 7 rfl rfl)
theorem dX2_tub_10 : decode cX2_tub 10 = .ok (.iload_n 2, 1) := dk_28 (dk_at dksX2_tub_0 10 rfl rfl)
theorem dX2_tub_11 : decode cX2_tub 11 = .ok (.iconst 0, 1) := dk_3 (dk_at dksX2_tub_0 11 rfl rfl)
theorem dX2_tub_12 : decode cX2_tub 12 = .ok (.iconst 4, 1) := dk_7 (dk_at dksX2_tub_0 12 rfl rfl)
theorem dX2_tub_13 : decode cX2_tub 13 = .ok (.invokestatic 68, 3) := dk_184 0 68 (dk_at dksX2_tub_0 13 rfl rfl)
theorem dX2_tub_16 : decode cX2_tub 16 = .ok (.invokevirtual 43, 3) := dk_182 0 43 (dk_at dksX2_tub_0 16 rfl rfl)
theorem dX2_tub_19 : decode cX2_tub 19 = .ok (.ifCond .ne 5, 3) := dk_154 0 5 (dk_at dksX2_tub_0 19 rfl rfl)
theorem dX2_tub_22 : decode cX2_tub 22 = .ok (.iconst 0, 1) := dk_3 (dk_at dksX2_tub_0 22 rfl rfl)
theorem dX2_tub_23 : decode cX2_tub 23 = .ok (.ireturn, 1) := dk_172 (dk_at dksX2_tub_0 23 rfl rfl)
theorem dX2_tub_24 : decode cX2_tub 24 = .ok (.iload_n 2, 1) := dk_28 (dk_at dksX2_tub_1 0 rfl rfl)
theorem dX2_tub_25 : decode cX2_tub 25 = .ok (.tableswitch 49 0 2 #[27, 37, 43], 27) := by decide +kernel
theorem dX2_tub_52 : decode cX2_tub 52 = .ok (.aload_n 0, 1) := dk_42 (dk_at dksX2_tub_3 0 rfl rfl)
theorem dX2_tub_53 : decode cX2_tub 53 = .ok (.getfield 9, 3) := dk_180 0 9 (dk_at dksX2_tub_3 1 rfl rfl)
theorem dX2_tub_56 : decode cX2_tub 56 = .ok (.bipush 38, 2) := dk_16 38 (dk_at dksX2_tub_3 4 rfl rfl)
theorem dX2_tub_58 : decode cX2_tub 58 = .ok (.iload_n 1, 1) := dk_27 (dk_at dksX2_tub_3 6 rfl rfl)
theorem dX2_tub_59 : decode cX2_tub 59 = .ok (.iadd, 1) := dk_96 (dk_at dksX2_tub_3 7 rfl rfl)
theorem dX2_tub_60 : decode cX2_tub 60 = .ok (.iaload, 1) := dk_46 (dk_at dksX2_tub_3 8 rfl rfl)
theorem dX2_tub_61 : decode cX2_tub 61 = .ok (.ireturn, 1) := dk_172 (dk_at dksX2_tub_3 9 rfl rfl)
theorem dX2_tub_62 : decode cX2_tub 62 = .ok (.aload_n 0, 1) := dk_42 (dk_at dksX2_tub_3 10 rfl rfl)
theorem dX2_tub_63 : decode cX2_tub 63 = .ok (.iload_n 1, 1) := dk_27 (dk_at dksX2_tub_3 11 rfl rfl)
theorem dX2_tub_64 : decode cX2_tub 64 = .ok (.invokevirtual 252, 3) := dk_182 0 252 (dk_at dksX2_tub_3 12 rfl rfl)
theorem dX2_tub_67 : decode cX2_tub 67 = .ok (.ireturn, 1) := dk_172 (dk_at dksX2_tub_3 15 rfl rfl)
theorem dX2_tub_68 : decode cX2_tub 68 = .ok (.aload_n 0, 1) := dk_42 (dk_at dksX2_tub_3 16 rfl rfl)
theorem dX2_tub_69 : decode cX2_tub 69 = .ok (.iload_n 1, 1) := dk_27 (dk_at dksX2_tub_3 17 rfl rfl)
theorem dX2_tub_70 : decode cX2_tub 70 = .ok (.invokevirtual 260, 3) := dk_182 1 4 (dk_at dksX2_tub_3 18 rfl rfl)
theorem dX2_tub_73 : decode cX2_tub 73 = .ok (.ireturn, 1) := dk_172 (dk_at dksX2_tub_3 21 rfl rfl)
theorem dX2_tub_74 : decode cX2_tub 74 = .ok (.aload_n 0, 1) := dk_42 (dk_at dksX2_tub_3 22 rfl rfl)
theorem dX2_tub_75 : decode cX2_tub 75 = .ok (.iload_n 1, 1) := dk_27 (dk_at dksX2_tub_3 23 rfl rfl)
theorem dX2_tub_76 : decode cX2_tub 76 = .ok (.iload_n 2, 1) := dk_28 (dk_at dksX2_tub_4 0 rfl rfl)
theorem dX2_tub_77 : decode cX2_tub 77 = .ok (.invokevirtual 348, 3) := dk_182 1 92 (dk_at dksX2_tub_4 1 rfl rfl)
theorem dX2_tub_80 : decode cX2_tub 80 = .ok (.ireturn, 1) := dk_172 (dk_at dksX2_tub_4 4 rfl rfl)
abbrev cX2_isTub : ByteArray := prog_20_method_86_code
def yX2_isTub : MethodName := ⟨RX2, "isTub", "(I)Z"⟩
def dkwX2_isTub_1 : List UInt8 := [4, 167, 0, 4, 3, 172]
abbrev dktX2_isTub_1 : List UInt8 := dkwX2_isTub_1 ++ []
def dkwX2_isTub_0 : List UInt8 := [42, 180, 0, 47, 153, 0, 24, 27, 3, 42, 180, 0, 9, 16, 8, 46, 4, 100, 184, 0, 68, 153, 0, 7]
abbrev dktX2_isTub_0 : List UInt8 := dkwX2_isTub_0 ++ dktX2_isTub_1
theorem dksX2_isTub_0 : cX2_isTub.data.toList.drop 0 = dktX2_isTub_0 := by decide +kernel
theorem dksX2_isTub_1 : cX2_isTub.data.toList.drop 24 = dktX2_isTub_1 := dk_seg dksX2_isTub_0 24 rfl rfl
theorem dX2_isTub_0 : decode cX2_isTub 0 = .ok (.aload_n 0, 1) := dk_42 (dk_at dksX2_isTub_0 0 rfl rfl)
theorem dX2_isTub_1 : decode cX2_isTub 1 = .ok (.getfield 47, 3) := dk_180 0 47 (dk_at dksX2_isTub_0 1 rfl rfl)
theorem dX2_isTub_4 : decode cX2_isTub 4 = .ok (.ifCond .eq 24, 3) := dk_153 0 24 (dk_at dksX2_isTub_0 4 rfl rfl)
theorem dX2_isTub_7 : decode cX2_isTub 7 = .ok (.iload_n 1, 1) := dk_27 (dk_at dksX2_isTub_0 7 rfl rfl)
theorem dX2_isTub_8 : decode cX2_isTub 8 = .ok (.iconst 0, 1) := dk_3 (dk_at dksX2_isTub_0 8 rfl rfl)
theorem dX2_isTub_9 : decode cX2_isTub 9 = .ok (.aload_n 0, 1) := dk_42 (dk_at dksX2_isTub_0 9 rfl rfl)
theorem dX2_isTub_10 : decode cX2_isTub 10 = .ok (.getfield 9, 3) := dk_180 0 9 (dk_at dksX2_isTub_0 10 rfl rfl)
theorem dX2_isTub_13 : decode cX2_isTub 13 = .ok (.bipush 8, 2) := dk_16 8 (dk_at dksX2_isTub_0 13 rfl rfl)
theorem dX2_isTub_15 : decode cX2_isTub 15 = .ok (.iaload, 1) := dk_46 (dk_at dksX2_isTub_0 15 rfl rfl)
theorem dX2_isTub_16 : decode cX2_isTub 16 = .ok (.iconst 1, 1) := dk_4 (dk_at dksX2_isTub_0 16 rfl rfl)
theorem dX2_isTub_17 : decode cX2_isTub 17 = .ok (.isub, 1) := dk_100 (dk_at dksX2_isTub_0 17 rfl rfl)
theorem dX2_isTub_18 : decode cX2_isTub 18 = .ok (.invokestatic 68, 3) := dk_184 0 68 (dk_at dksX2_isTub_0 18 rfl rfl)
theorem dX2_isTub_21 : decode cX2_isTub 21 = .ok (.ifCond .eq 7, 3) := dk_153 0 7 (dk_at dksX2_isTub_0 21 rfl rfl)
theorem dX2_isTub_24 : decode cX2_isTub 24 = .ok (.iconst 1, 1) := dk_4 (dk_at dksX2_isTub_1 0 rfl rfl)
theorem dX2_isTub_25 : decode cX2_isTub 25 = .ok (.goto 4, 3) := dk_167 0 4 (dk_at dksX2_isTub_1 1 rfl rfl)
theorem dX2_isTub_28 : decode cX2_isTub 28 = .ok (.iconst 0, 1) := dk_3 (dk_at dksX2_isTub_1 4 rfl rfl)
theorem dX2_isTub_29 : decode cX2_isTub 29 = .ok (.ireturn, 1) := dk_172 (dk_at dksX2_isTub_1 5 rfl rfl)
abbrev cX2_ofTub : ByteArray := prog_20_method_96_code
def yX2_ofTub : MethodName := ⟨RX2, "ofTub", "(II)I"⟩
def dkwX2_ofTub_2 : List UInt8 := [29, 42, 21, 4, 4, 182, 0, 227, 128, 62, 132, 4, 1, 167, 255, 200, 29, 172]
abbrev dktX2_ofTub_2 : List UInt8 := dkwX2_ofTub_2 ++ []
def dkwX2_ofTub_1 : List UInt8 := [154, 0, 6, 167, 0, 31, 28, 6, 160, 0, 16, 29, 42, 21, 4, 6, 182, 0, 227, 96, 62, 167, 0, 13]
abbrev dktX2_ofTub_1 : List UInt8 := dkwX2_ofTub_1 ++ dktX2_ofTub_2
def dkwX2_ofTub_0 : List UInt8 := [3, 62, 3, 54, 4, 21, 4, 42, 180, 0, 9, 16, 10, 46, 162, 0, 50, 42, 21, 4, 27, 182, 0, 242]
abbrev dktX2_ofTub_0 : List UInt8 := dkwX2_ofTub_0 ++ dktX2_ofTub_1
theorem dksX2_ofTub_0 : cX2_ofTub.data.toList.drop 0 = dktX2_ofTub_0 := by decide +kernel
theorem dksX2_ofTub_1 : cX2_ofTub.data.toList.drop 24 = dktX2_ofTub_1 := dk_seg dksX2_ofTub_0 24 rfl rfl
theorem dksX2_ofTub_2 : cX2_ofTub.data.toList.drop 48 = dktX2_ofTub_2 := dk_seg dksX2_ofTub_1 24 rfl rfl
theorem dX2_ofTub_0 : decode cX2_ofTub 0 = .ok (.iconst 0, 1) := dk_3 (dk_at dksX2_ofTub_0 0 rfl rfl)
theorem dX2_ofTub_1 : decode cX2_ofTub 1 = .ok (.istore_n 3, 1) := dk_62 (dk_at dksX2_ofTub_0 1 rfl rfl)
theorem dX2_ofTub_2 : decode cX2_ofTub 2 = .ok (.iconst 0, 1) := dk_3 (dk_at dksX2_ofTub_0 2 rfl rfl)
theorem dX2_ofTub_3 : decode cX2_ofTub 3 = .ok (.istore 4, 2) := dk_54 4 (dk_at dksX2_ofTub_0 3 rfl rfl)
theorem dX2_ofTub_5 : decode cX2_ofTub 5 = .ok (.iload 4, 2) := dk_21 4 (dk_at dksX2_ofTub_0 5 rfl rfl)
theorem dX2_ofTub_7 : decode cX2_ofTub 7 = .ok (.aload_n 0, 1) := dk_42 (dk_at dksX2_ofTub_0 7 rfl rfl)
theorem dX2_ofTub_8 : decode cX2_ofTub 8 = .ok (.getfield 9, 3) := dk_180 0 9 (dk_at dksX2_ofTub_0 8 rfl rfl)
theorem dX2_ofTub_11 : decode cX2_ofTub 11 = .ok (.bipush 10, 2) := dk_16 10 (dk_at dksX2_ofTub_0 11 rfl rfl)
theorem dX2_ofTub_13 : decode cX2_ofTub 13 = .ok (.iaload, 1) := dk_46 (dk_at dksX2_ofTub_0 13 rfl rfl)
theorem dX2_ofTub_14 : decode cX2_ofTub 14 = .ok (.if_icmp .ge 50, 3) := dk_162 0 50 (dk_at dksX2_ofTub_0 14 rfl rfl)
theorem dX2_ofTub_17 : decode cX2_ofTub 17 = .ok (.aload_n 0, 1) := dk_42 (dk_at dksX2_ofTub_0 17 rfl rfl)
theorem dX2_ofTub_18 : decode cX2_ofTub 18 = .ok (.iload 4, 2) := dk_21 4 (dk_at dksX2_ofTub_0 18 rfl rfl)
theorem dX2_ofTub_20 : decode cX2_ofTub 20 = .ok (.iload_n 1, 1) := dk_27 (dk_at dksX2_ofTub_0 20 rfl rfl)
theorem dX2_ofTub_21 : decode cX2_ofTub 21 = .ok (.invokevirtual 242, 3) := dk_182 0 242 (dk_at dksX2_ofTub_0 21 rfl rfl)
theorem dX2_ofTub_24 : decode cX2_ofTub 24 = .ok (.ifCond .ne 6, 3) := dk_154 0 6 (dk_at dksX2_ofTub_1 0 rfl rfl)
theorem dX2_ofTub_27 : decode cX2_ofTub 27 = .ok (.goto 31, 3) := dk_167 0 31 (dk_at dksX2_ofTub_1 3 rfl rfl)
theorem dX2_ofTub_30 : decode cX2_ofTub 30 = .ok (.iload_n 2, 1) := dk_28 (dk_at dksX2_ofTub_1 6 rfl rfl)
theorem dX2_ofTub_31 : decode cX2_ofTub 31 = .ok (.iconst 3, 1) := dk_6 (dk_at dksX2_ofTub_1 7 rfl rfl)
theorem dX2_ofTub_32 : decode cX2_ofTub 32 = .ok (.if_icmp .ne 16, 3) := dk_160 0 16 (dk_at dksX2_ofTub_1 8 rfl rfl)
theorem dX2_ofTub_35 : decode cX2_ofTub 35 = .ok (.iload_n 3, 1) := dk_29 (dk_at dksX2_ofTub_1 11 rfl rfl)
theorem dX2_ofTub_36 : decode cX2_ofTub 36 = .ok (.aload_n 0, 1) := dk_42 (dk_at dksX2_ofTub_1 12 rfl rfl)
theorem dX2_ofTub_37 : decode cX2_ofTub 37 = .ok (.iload 4, 2) := dk_21 4 (dk_at dksX2_ofTub_1 13 rfl rfl)
theorem dX2_ofTub_39 : decode cX2_ofTub 39 = .ok (.iconst 3, 1) := dk_6 (dk_at dksX2_ofTub_1 15 rfl rfl)
theorem dX2_ofTub_40 : decode cX2_ofTub 40 = .ok (.invokevirtual 227, 3) := dk_182 0 227 (dk_at dksX2_ofTub_1 16 rfl rfl)
theorem dX2_ofTub_43 : decode cX2_ofTub 43 = .ok (.iadd, 1) := dk_96 (dk_at dksX2_ofTub_1 19 rfl rfl)
theorem dX2_ofTub_44 : decode cX2_ofTub 44 = .ok (.istore_n 3, 1) := dk_62 (dk_at dksX2_ofTub_1 20 rfl rfl)
theorem dX2_ofTub_45 : decode cX2_ofTub 45 = .ok (.goto 13, 3) := dk_167 0 13 (dk_at dksX2_ofTub_1 21 rfl rfl)
theorem dX2_ofTub_48 : decode cX2_ofTub 48 = .ok (.iload_n 3, 1) := dk_29 (dk_at dksX2_ofTub_2 0 rfl rfl)
theorem dX2_ofTub_49 : decode cX2_ofTub 49 = .ok (.aload_n 0, 1) := dk_42 (dk_at dksX2_ofTub_2 1 rfl rfl)
theorem dX2_ofTub_50 : decode cX2_ofTub 50 = .ok (.iload 4, 2) := dk_21 4 (dk_at dksX2_ofTub_2 2 rfl rfl)
theorem dX2_ofTub_52 : decode cX2_ofTub 52 = .ok (.iconst 1, 1) := dk_4 (dk_at dksX2_ofTub_2 4 rfl rfl)
theorem dX2_ofTub_53 : decode cX2_ofTub 53 = .ok (.invokevirtual 227, 3) := dk_182 0 227 (dk_at dksX2_ofTub_2 5 rfl rfl)
theorem dX2_ofTub_56 : decode cX2_ofTub 56 = .ok (.ior, 1) := dk_128 (dk_at dksX2_ofTub_2 8 rfl rfl)
theorem dX2_ofTub_57 : decode cX2_ofTub 57 = .ok (.istore_n 3, 1) := dk_62 (dk_at dksX2_ofTub_2 9 rfl rfl)
theorem dX2_ofTub_58 : decode cX2_ofTub 58 = .ok (.iinc 4 1, 3) := dk_132 4 1 (dk_at dksX2_ofTub_2 10 rfl rfl)
theorem dX2_ofTub_61 : decode cX2_ofTub 61 = .ok (.goto (-56), 3) := dk_167 255 200 (dk_at dksX2_ofTub_2 13 rfl rfl)
theorem dX2_ofTub_64 : decode cX2_ofTub 64 = .ok (.iload_n 3, 1) := dk_29 (dk_at dksX2_ofTub_2 16 rfl rfl)
theorem dX2_ofTub_65 : decode cX2_ofTub 65 = .ok (.ireturn, 1) := dk_172 (dk_at dksX2_ofTub_2 17 rfl rfl)
abbrev cX2_inTub : ByteArray := prog_20_method_100_code
def yX2_inTub : MethodName := ⟨RX2, "inTub", "(II)I"⟩
def dkwX2_inTub_0 : List UInt8 := [42, 27, 182, 1, 98, 153, 0, 12, 42, 27, 28, 182, 1, 101, 167, 0, 4, 3, 172]
abbrev dktX2_inTub_0 : List UInt8 := dkwX2_inTub_0 ++ []
theorem dksX2_inTub_0 : cX2_inTub.data.toList.drop 0 = dktX2_inTub_0 := by decide +kernel
theorem dX2_inTub_0 : decode cX2_inTub 0 = .ok (.aload_n 0, 1) := dk_42 (dk_at dksX2_inTub_0 0 rfl rfl)
theorem dX2_inTub_1 : decode cX2_inTub 1 = .ok (.iload_n 1, 1) := dk_27 (dk_at dksX2_inTub_0 1 rfl rfl)
theorem dX2_inTub_2 : decode cX2_inTub 2 = .ok (.invokevirtual 354, 3) := dk_182 1 98 (dk_at dksX2_inTub_0 2 rfl rfl)
theorem dX2_inTub_5 : decode cX2_inTub 5 = .ok (.ifCond .eq 12, 3) := dk_153 0 12 (dk_at dksX2_inTub_0 5 rfl rfl)
theorem dX2_inTub_8 : decode cX2_inTub 8 = .ok (.aload_n 0, 1) := dk_42 (dk_at dksX2_inTub_0 8 rfl rfl)
theorem dX2_inTub_9 : decode cX2_inTub 9 = .ok (.iload_n 1, 1) := dk_27 (dk_at dksX2_inTub_0 9 rfl rfl)
theorem dX2_inTub_10 : decode cX2_inTub 10 = .ok (.iload_n 2, 1) := dk_28 (dk_at dksX2_inTub_0 10 rfl rfl)
theorem dX2_inTub_11 : decode cX2_inTub 11 = .ok (.invokevirtual 357, 3) := dk_182 1 101 (dk_at dksX2_inTub_0 11 rfl rfl)
theorem dX2_inTub_14 : decode cX2_inTub 14 = .ok (.goto 4, 3) := dk_167 0 4 (dk_at dksX2_inTub_0 14 rfl rfl)
theorem dX2_inTub_17 : decode cX2_inTub 17 = .ok (.iconst 0, 1) := dk_3 (dk_at dksX2_inTub_0 17 rfl rfl)
theorem dX2_inTub_18 : decode cX2_inTub 18 = .ok (.ireturn, 1) := dk_172 (dk_at dksX2_inTub_0 18 rfl rfl)
abbrev cX2_mayTub : ByteArray := prog_20_method_89_code
def yX2_mayTub : MethodName := ⟨RX2, "mayTub", "(I)Z"⟩
def dkwX2_mayTub_0 : List UInt8 := [42, 42, 180, 0, 47, 42, 27, 182, 1, 71, 182, 1, 58, 172]
abbrev dktX2_mayTub_0 : List UInt8 := dkwX2_mayTub_0 ++ []
theorem dksX2_mayTub_0 : cX2_mayTub.data.toList.drop 0 = dktX2_mayTub_0 := by decide +kernel
theorem dX2_mayTub_0 : decode cX2_mayTub 0 = .ok (.aload_n 0, 1) := dk_42 (dk_at dksX2_mayTub_0 0 rfl rfl)
theorem dX2_mayTub_1 : decode cX2_mayTub 1 = .ok (.aload_n 0, 1) := dk_42 (dk_at dksX2_mayTub_0 1 rfl rfl)
theorem dX2_mayTub_2 : decode cX2_mayTub 2 = .ok (.getfield 47, 3) := dk_180 0 47 (dk_at dksX2_mayTub_0 2 rfl rfl)
theorem dX2_mayTub_5 : decode cX2_mayTub 5 = .ok (.aload_n 0, 1) := dk_42 (dk_at dksX2_mayTub_0 5 rfl rfl)
theorem dX2_mayTub_6 : decode cX2_mayTub 6 = .ok (.iload_n 1, 1) := dk_27 (dk_at dksX2_mayTub_0 6 rfl rfl)
theorem dX2_mayTub_7 : decode cX2_mayTub 7 = .ok (.invokevirtual 327, 3) := dk_182 1 71 (dk_at dksX2_mayTub_0 7 rfl rfl)
theorem dX2_mayTub_10 : decode cX2_mayTub 10 = .ok (.invokevirtual 314, 3) := dk_182 1 58 (dk_at dksX2_mayTub_0 10 rfl rfl)
theorem dX2_mayTub_13 : decode cX2_mayTub 13 = .ok (.ireturn, 1) := dk_172 (dk_at dksX2_mayTub_0 13 rfl rfl)
abbrev cX2_flagIn : ByteArray := prog_20_method_99_code
def yX2_flagIn : MethodName := ⟨RX2, "flagIn", "(II)I"⟩
def dkwX2_flagIn_1 : List UInt8 := [182, 1, 95, 28, 160, 0, 5, 29, 172, 132, 3, 1, 167, 255, 222, 2, 172]
abbrev dktX2_flagIn_1 : List UInt8 := dkwX2_flagIn_1 ++ []
def dkwX2_flagIn_0 : List UInt8 := [3, 62, 29, 42, 180, 0, 9, 16, 10, 46, 162, 0, 29, 42, 29, 27, 182, 0, 242, 153, 0, 14, 42, 29]
abbrev dktX2_flagIn_0 : List UInt8 := dkwX2_flagIn_0 ++ dktX2_flagIn_1
theorem dksX2_flagIn_0 : cX2_flagIn.data.toList.drop 0 = dktX2_flagIn_0 := by decide +kernel
theorem dksX2_flagIn_1 : cX2_flagIn.data.toList.drop 24 = dktX2_flagIn_1 := dk_seg dksX2_flagIn_0 24 rfl rfl
theorem dX2_flagIn_0 : decode cX2_flagIn 0 = .ok (.iconst 0, 1) := dk_3 (dk_at dksX2_flagIn_0 0 rfl rfl)
theorem dX2_flagIn_1 : decode cX2_flagIn 1 = .ok (.istore_n 3, 1) := dk_62 (dk_at dksX2_flagIn_0 1 rfl rfl)
theorem dX2_flagIn_2 : decode cX2_flagIn 2 = .ok (.iload_n 3, 1) := dk_29 (dk_at dksX2_flagIn_0 2 rfl rfl)
theorem dX2_flagIn_3 : decode cX2_flagIn 3 = .ok (.aload_n 0, 1) := dk_42 (dk_at dksX2_flagIn_0 3 rfl rfl)
theorem dX2_flagIn_4 : decode cX2_flagIn 4 = .ok (.getfield 9, 3) := dk_180 0 9 (dk_at dksX2_flagIn_0 4 rfl rfl)
theorem dX2_flagIn_7 : decode cX2_flagIn 7 = .ok (.bipush 10, 2) := dk_16 10 (dk_at dksX2_flagIn_0 7 rfl rfl)
theorem dX2_flagIn_9 : decode cX2_flagIn 9 = .ok (.iaload, 1) := dk_46 (dk_at dksX2_flagIn_0 9 rfl rfl)
theorem dX2_flagIn_10 : decode cX2_flagIn 10 = .ok (.if_icmp .ge 29, 3) := dk_162 0 29 (dk_at dksX2_flagIn_0 10 rfl rfl)
theorem dX2_flagIn_13 : decode cX2_flagIn 13 = .ok (.aload_n 0, 1) := dk_42 (dk_at dksX2_flagIn_0 13 rfl rfl)
theorem dX2_flagIn_14 : decode cX2_flagIn 14 = .ok (.iload_n 3, 1) := dk_29 (dk_at dksX2_flagIn_0 14 rfl rfl)
theorem dX2_flagIn_15 : decode cX2_flagIn 15 = .ok (.iload_n 1, 1) := dk_27 (dk_at dksX2_flagIn_0 15 rfl rfl)
theorem dX2_flagIn_16 : decode cX2_flagIn 16 = .ok (.invokevirtual 242, 3) := dk_182 0 242 (dk_at dksX2_flagIn_0 16 rfl rfl)
theorem dX2_flagIn_19 : decode cX2_flagIn 19 = .ok (.ifCond .eq 14, 3) := dk_153 0 14 (dk_at dksX2_flagIn_0 19 rfl rfl)
theorem dX2_flagIn_22 : decode cX2_flagIn 22 = .ok (.aload_n 0, 1) := dk_42 (dk_at dksX2_flagIn_0 22 rfl rfl)
theorem dX2_flagIn_23 : decode cX2_flagIn 23 = .ok (.iload_n 3, 1) := dk_29 (dk_at dksX2_flagIn_0 23 rfl rfl)
theorem dX2_flagIn_24 : decode cX2_flagIn 24 = .ok (.invokevirtual 351, 3) := dk_182 1 95 (dk_at dksX2_flagIn_1 0 rfl rfl)
theorem dX2_flagIn_27 : decode cX2_flagIn 27 = .ok (.iload_n 2, 1) := dk_28 (dk_at dksX2_flagIn_1 3 rfl rfl)
theorem dX2_flagIn_28 : decode cX2_flagIn 28 = .ok (.if_icmp .ne 5, 3) := dk_160 0 5 (dk_at dksX2_flagIn_1 4 rfl rfl)
theorem dX2_flagIn_31 : decode cX2_flagIn 31 = .ok (.iload_n 3, 1) := dk_29 (dk_at dksX2_flagIn_1 7 rfl rfl)
theorem dX2_flagIn_32 : decode cX2_flagIn 32 = .ok (.ireturn, 1) := dk_172 (dk_at dksX2_flagIn_1 8 rfl rfl)
theorem dX2_flagIn_33 : decode cX2_flagIn 33 = .ok (.iinc 3 1, 3) := dk_132 3 1 (dk_at dksX2_flagIn_1 9 rfl rfl)
theorem dX2_flagIn_36 : decode cX2_flagIn 36 = .ok (.goto (-34), 3) := dk_167 255 222 (dk_at dksX2_flagIn_1 12 rfl rfl)
theorem dX2_flagIn_39 : decode cX2_flagIn 39 = .ok (.iconst (-1), 1) := dk_2 (dk_at dksX2_flagIn_1 15 rfl rfl)
theorem dX2_flagIn_40 : decode cX2_flagIn 40 = .ok (.ireturn, 1) := dk_172 (dk_at dksX2_flagIn_1 16 rfl rfl)
abbrev cX2_ahead : ByteArray := prog_20_method_98_code
def yX2_ahead : MethodName := ⟨RX2, "ahead", "(I)I"⟩
def dkwX2_ahead_2 : List UInt8 := [162, 0, 7, 4, 167, 0, 4, 3, 184, 0, 245, 96, 61, 132, 3, 1, 167, 255, 199, 28, 172]
abbrev dktX2_ahead_2 : List UInt8 := dkwX2_ahead_2 ++ []
def dkwX2_ahead_1 : List UInt8 := [182, 0, 227, 182, 0, 242, 153, 0, 24, 42, 29, 16, 10, 182, 0, 227, 42, 27, 16, 10, 182, 0, 227]
abbrev dktX2_ahead_1 : List UInt8 := dkwX2_ahead_1 ++ dktX2_ahead_2
def dkwX2_ahead_0 : List UInt8 := [3, 61, 3, 62, 29, 42, 180, 0, 9, 16, 10, 46, 162, 0, 52, 28, 42, 29, 42, 27, 16, 9]
abbrev dktX2_ahead_0 : List UInt8 := dkwX2_ahead_0 ++ dktX2_ahead_1
theorem dksX2_ahead_0 : cX2_ahead.data.toList.drop 0 = dktX2_ahead_0 := by decide +kernel
theorem dksX2_ahead_1 : cX2_ahead.data.toList.drop 22 = dktX2_ahead_1 := dk_seg dksX2_ahead_0 22 rfl rfl
theorem dksX2_ahead_2 : cX2_ahead.data.toList.drop 45 = dktX2_ahead_2 := dk_seg dksX2_ahead_1 23 rfl rfl
theorem dX2_ahead_0 : decode cX2_ahead 0 = .ok (.iconst 0, 1) := dk_3 (dk_at dksX2_ahead_0 0 rfl rfl)
theorem dX2_ahead_1 : decode cX2_ahead 1 = .ok (.istore_n 2, 1) := dk_61 (dk_at dksX2_ahead_0 1 rfl rfl)
theorem dX2_ahead_2 : decode cX2_ahead 2 = .ok (.iconst 0, 1) := dk_3 (dk_at dksX2_ahead_0 2 rfl rfl)
theorem dX2_ahead_3 : decode cX2_ahead 3 = .ok (.istore_n 3, 1) := dk_62 (dk_at dksX2_ahead_0 3 rfl rfl)
theorem dX2_ahead_4 : decode cX2_ahead 4 = .ok (.iload_n 3, 1) := dk_29 (dk_at dksX2_ahead_0 4 rfl rfl)
theorem dX2_ahead_5 : decode cX2_ahead 5 = .ok (.aload_n 0, 1) := dk_42 (dk_at dksX2_ahead_0 5 rfl rfl)
theorem dX2_ahead_6 : decode cX2_ahead 6 = .ok (.getfield 9, 3) := dk_180 0 9 (dk_at dksX2_ahead_0 6 rfl rfl)
theorem dX2_ahead_9 : decode cX2_ahead 9 = .ok (.bipush 10, 2) := dk_16 10 (dk_at dksX2_ahead_0 9 rfl rfl)
theorem dX2_ahead_11 : decode cX2_ahead 11 = .ok (.iaload, 1) := dk_46 (dk_at dksX2_ahead_0 11 rfl rfl)
theorem dX2_ahead_12 : decode cX2_ahead 12 = .ok (.if_icmp .ge 52, 3) := dk_162 0 52 (dk_at dksX2_ahead_0 12 rfl rfl)
theorem dX2_ahead_15 : decode cX2_ahead 15 = .ok (.iload_n 2, 1) := dk_28 (dk_at dksX2_ahead_0 15 rfl rfl)
theorem dX2_ahead_16 : decode cX2_ahead 16 = .ok (.aload_n 0, 1) := dk_42 (dk_at dksX2_ahead_0 16 rfl rfl)
theorem dX2_ahead_17 : decode cX2_ahead 17 = .ok (.iload_n 3, 1) := dk_29 (dk_at dksX2_ahead_0 17 rfl rfl)
theorem dX2_ahead_18 : decode cX2_ahead 18 = .ok (.aload_n 0, 1) := dk_42 (dk_at dksX2_ahead_0 18 rfl rfl)
theorem dX2_ahead_19 : decode cX2_ahead 19 = .ok (.iload_n 1, 1) := dk_27 (dk_at dksX2_ahead_0 19 rfl rfl)
theorem dX2_ahead_20 : decode cX2_ahead 20 = .ok (.bipush 9, 2) := dk_16 9 (dk_at dksX2_ahead_0 20 rfl rfl)
theorem dX2_ahead_22 : decode cX2_ahead 22 = .ok (.invokevirtual 227, 3) := dk_182 0 227 (dk_at dksX2_ahead_1 0 rfl rfl)
theorem dX2_ahead_25 : decode cX2_ahead 25 = .ok (.invokevirtual 242, 3) := dk_182 0 242 (dk_at dksX2_ahead_1 3 rfl rfl)
theorem dX2_ahead_28 : decode cX2_ahead 28 = .ok (.ifCond .eq 24, 3) := dk_153 0 24 (dk_at dksX2_ahead_1 6 rfl rfl)
theorem dX2_ahead_31 : decode cX2_ahead 31 = .ok (.aload_n 0, 1) := dk_42 (dk_at dksX2_ahead_1 9 rfl rfl)
theorem dX2_ahead_32 : decode cX2_ahead 32 = .ok (.iload_n 3, 1) := dk_29 (dk_at dksX2_ahead_1 10 rfl rfl)
theorem dX2_ahead_33 : decode cX2_ahead 33 = .ok (.bipush 10, 2) := dk_16 10 (dk_at dksX2_ahead_1 11 rfl rfl)
theorem dX2_ahead_35 : decode cX2_ahead 35 = .ok (.invokevirtual 227, 3) := dk_182 0 227 (dk_at dksX2_ahead_1 13 rfl rfl)
theorem dX2_ahead_38 : decode cX2_ahead 38 = .ok (.aload_n 0, 1) := dk_42 (dk_at dksX2_ahead_1 16 rfl rfl)
theorem dX2_ahead_39 : decode cX2_ahead 39 = .ok (.iload_n 1, 1) := dk_27 (dk_at dksX2_ahead_1 17 rfl rfl)
theorem dX2_ahead_40 : decode cX2_ahead 40 = .ok (.bipush 10, 2) := dk_16 10 (dk_at dksX2_ahead_1 18 rfl rfl)
theorem dX2_ahead_42 : decode cX2_ahead 42 = .ok (.invokevirtual 227, 3) := dk_182 0 227 (dk_at dksX2_ahead_1 20 rfl rfl)
theorem dX2_ahead_45 : decode cX2_ahead 45 = .ok (.if_icmp .ge 7, 3) := dk_162 0 7 (dk_at dksX2_ahead_2 0 rfl rfl)
theorem dX2_ahead_48 : decode cX2_ahead 48 = .ok (.iconst 1, 1) := dk_4 (dk_at dksX2_ahead_2 3 rfl rfl)
theorem dX2_ahead_49 : decode cX2_ahead 49 = .ok (.goto 4, 3) := dk_167 0 4 (dk_at dksX2_ahead_2 4 rfl rfl)
theorem dX2_ahead_52 : decode cX2_ahead 52 = .ok (.iconst 0, 1) := dk_3 (dk_at dksX2_ahead_2 7 rfl rfl)
theorem dX2_ahead_53 : decode cX2_ahead 53 = .ok (.invokestatic 245, 3) := dk_184 0 245 (dk_at dksX2_ahead_2 8 rfl rfl)
theorem dX2_ahead_56 : decode cX2_ahead 56 = .ok (.iadd, 1) := dk_96 (dk_at dksX2_ahead_2 11 rfl rfl)
theorem dX2_ahead_57 : decode cX2_ahead 57 = .ok (.istore_n 2, 1) := dk_61 (dk_at dksX2_ahead_2 12 rfl rfl)
theorem dX2_ahead_58 : decode cX2_ahead 58 = .ok (.iinc 3 1, 3) := dk_132 3 1 (dk_at dksX2_ahead_2 13 rfl rfl)
theorem dX2_ahead_61 : decode cX2_ahead 61 = .ok (.goto (-57), 3) := dk_167 255 199 (dk_at dksX2_ahead_2 16 rfl rfl)
theorem dX2_ahead_64 : decode cX2_ahead 64 = .ok (.iload_n 2, 1) := dk_28 (dk_at dksX2_ahead_2 19 rfl rfl)
theorem dX2_ahead_65 : decode cX2_ahead 65 = .ok (.ireturn, 1) := dk_172 (dk_at dksX2_ahead_2 20 rfl rfl)
abbrev cX2_onPeg : ByteArray := prog_20_method_101_code
def yX2_onPeg : MethodName := ⟨RX2, "onPeg", "(I)I"⟩
def dkwX2_onPeg_2 : List UInt8 := [167, 0, 4, 3, 172]
abbrev dktX2_onPeg_2 : List UInt8 := dkwX2_onPeg_2 ++ []
def dkwX2_onPeg_1 : List UInt8 := [184, 0, 68, 153, 0, 7, 4, 167, 0, 4, 3, 182, 1, 58, 153, 0, 11, 42, 27, 182, 1, 31]
abbrev dktX2_onPeg_1 : List UInt8 := dkwX2_onPeg_1 ++ dktX2_onPeg_2
def dkwX2_onPeg_0 : List UInt8 := [42, 42, 180, 0, 47, 42, 180, 0, 47, 153, 0, 24, 27, 3, 42, 180, 0, 9, 16, 9, 46, 4, 100]
abbrev dktX2_onPeg_0 : List UInt8 := dkwX2_onPeg_0 ++ dktX2_onPeg_1
theorem dksX2_onPeg_0 : cX2_onPeg.data.toList.drop 0 = dktX2_onPeg_0 := by decide +kernel
theorem dksX2_onPeg_1 : cX2_onPeg.data.toList.drop 23 = dktX2_onPeg_1 := dk_seg dksX2_onPeg_0 23 rfl rfl
theorem dksX2_onPeg_2 : cX2_onPeg.data.toList.drop 45 = dktX2_onPeg_2 := dk_seg dksX2_onPeg_1 22 rfl rfl
theorem dX2_onPeg_0 : decode cX2_onPeg 0 = .ok (.aload_n 0, 1) := dk_42 (dk_at dksX2_onPeg_0 0 rfl rfl)
theorem dX2_onPeg_1 : decode cX2_onPeg 1 = .ok (.aload_n 0, 1) := dk_42 (dk_at dksX2_onPeg_0 1 rfl rfl)
theorem dX2_onPeg_2 : decode cX2_onPeg 2 = .ok (.getfield 47, 3) := dk_180 0 47 (dk_at dksX2_onPeg_0 2 rfl rfl)
theorem dX2_onPeg_5 : decode cX2_onPeg 5 = .ok (.aload_n 0, 1) := dk_42 (dk_at dksX2_onPeg_0 5 rfl rfl)
theorem dX2_onPeg_6 : decode cX2_onPeg 6 = .ok (.getfield 47, 3) := dk_180 0 47 (dk_at dksX2_onPeg_0 6 rfl rfl)
theorem dX2_onPeg_9 : decode cX2_onPeg 9 = .ok (.ifCond .eq 24, 3) := dk_153 0 24 (dk_at dksX2_onPeg_0 9 rfl rfl)
theorem dX2_onPeg_12 : decode cX2_onPeg 12 = .ok (.iload_n 1, 1) := dk_27 (dk_at dksX2_onPeg_0 12 rfl rfl)
theorem dX2_onPeg_13 : decode cX2_onPeg 13 = .ok (.iconst 0, 1) := dk_3 (dk_at dksX2_onPeg_0 13 rfl rfl)
theorem dX2_onPeg_14 : decode cX2_onPeg 14 = .ok (.aload_n 0, 1) := dk_42 (dk_at dksX2_onPeg_0 14 rfl rfl)
theorem dX2_onPeg_15 : decode cX2_onPeg 15 = .ok (.getfield 9, 3) := dk_180 0 9 (dk_at dksX2_onPeg_0 15 rfl rfl)
theorem dX2_onPeg_18 : decode cX2_onPeg 18 = .ok (.bipush 9, 2) := dk_16 9 (dk_at dksX2_onPeg_0 18 rfl rfl)
theorem dX2_onPeg_20 : decode cX2_onPeg 20 = .ok (.iaload, 1) := dk_46 (dk_at dksX2_onPeg_0 20 rfl rfl)
theorem dX2_onPeg_21 : decode cX2_onPeg 21 = .ok (.iconst 1, 1) := dk_4 (dk_at dksX2_onPeg_0 21 rfl rfl)
theorem dX2_onPeg_22 : decode cX2_onPeg 22 = .ok (.isub, 1) := dk_100 (dk_at dksX2_onPeg_0 22 rfl rfl)
theorem dX2_onPeg_23 : decode cX2_onPeg 23 = .ok (.invokestatic 68, 3) := dk_184 0 68 (dk_at dksX2_onPeg_1 0 rfl rfl)
theorem dX2_onPeg_26 : decode cX2_onPeg 26 = .ok (.ifCond .eq 7, 3) := dk_153 0 7 (dk_at dksX2_onPeg_1 3 rfl rfl)
theorem dX2_onPeg_29 : decode cX2_onPeg 29 = .ok (.iconst 1, 1) := dk_4 (dk_at dksX2_onPeg_1 6 rfl rfl)
theorem dX2_onPeg_30 : decode cX2_onPeg 30 = .ok (.goto 4, 3) := dk_167 0 4 (dk_at dksX2_onPeg_1 7 rfl rfl)
theorem dX2_onPeg_33 : decode cX2_onPeg 33 = .ok (.iconst 0, 1) := dk_3 (dk_at dksX2_onPeg_1 10 rfl rfl)
theorem dX2_onPeg_34 : decode cX2_onPeg 34 = .ok (.invokevirtual 314, 3) := dk_182 1 58 (dk_at dksX2_onPeg_1 11 rfl rfl)
theorem dX2_onPeg_37 : decode cX2_onPeg 37 = .ok (.ifCond .eq 11, 3) := dk_153 0 11 (dk_at dksX2_onPeg_1 14 rfl rfl)
theorem dX2_onPeg_40 : decode cX2_onPeg 40 = .ok (.aload_n 0, 1) := dk_42 (dk_at dksX2_onPeg_1 17 rfl rfl)
theorem dX2_onPeg_41 : decode cX2_onPeg 41 = .ok (.iload_n 1, 1) := dk_27 (dk_at dksX2_onPeg_1 18 rfl rfl)
theorem dX2_onPeg_42 : decode cX2_onPeg 42 = .ok (.invokevirtual 287, 3) := dk_182 1 31 (dk_at dksX2_onPeg_1 19 rfl rfl)
theorem dX2_onPeg_45 : decode cX2_onPeg 45 = .ok (.goto 4, 3) := dk_167 0 4 (dk_at dksX2_onPeg_2 0 rfl rfl)
theorem dX2_onPeg_48 : decode cX2_onPeg 48 = .ok (.iconst 0, 1) := dk_3 (dk_at dksX2_onPeg_2 3 rfl rfl)
theorem dX2_onPeg_49 : decode cX2_onPeg 49 = .ok (.ireturn, 1) := dk_172 (dk_at dksX2_onPeg_2 4 rfl rfl)
abbrev cX2_freePegs : ByteArray := prog_20_method_102_code
def yX2_freePegs : MethodName := ⟨RX2, "freePegs", "()I"⟩
def dkwX2_freePegs_1 : List UInt8 := [172]
abbrev dktX2_freePegs_1 : List UInt8 := dkwX2_freePegs_1 ++ []
def dkwX2_freePegs_0 : List UInt8 := [42, 182, 1, 104, 153, 0, 19, 42, 180, 0, 9, 16, 9, 46, 42, 5, 182, 1, 65, 100, 167, 0, 4, 3]
abbrev dktX2_freePegs_0 : List UInt8 := dkwX2_freePegs_0 ++ dktX2_freePegs_1
theorem dksX2_freePegs_0 : cX2_freePegs.data.toList.drop 0 = dktX2_freePegs_0 := by decide +kernel
theorem dksX2_freePegs_1 : cX2_freePegs.data.toList.drop 24 = dktX2_freePegs_1 := dk_seg dksX2_freePegs_0 24 rfl rfl
theorem dX2_freePegs_0 : decode cX2_freePegs 0 = .ok (.aload_n 0, 1) := dk_42 (dk_at dksX2_freePegs_0 0 rfl rfl)
theorem dX2_freePegs_1 : decode cX2_freePegs 1 = .ok (.invokevirtual 360, 3) := dk_182 1 104 (dk_at dksX2_freePegs_0 1 rfl rfl)
theorem dX2_freePegs_4 : decode cX2_freePegs 4 = .ok (.ifCond .eq 19, 3) := dk_153 0 19 (dk_at dksX2_freePegs_0 4 rfl rfl)
theorem dX2_freePegs_7 : decode cX2_freePegs 7 = .ok (.aload_n 0, 1) := dk_42 (dk_at dksX2_freePegs_0 7 rfl rfl)
theorem dX2_freePegs_8 : decode cX2_freePegs 8 = .ok (.getfield 9, 3) := dk_180 0 9 (dk_at dksX2_freePegs_0 8 rfl rfl)
theorem dX2_freePegs_11 : decode cX2_freePegs 11 = .ok (.bipush 9, 2) := dk_16 9 (dk_at dksX2_freePegs_0 11 rfl rfl)
theorem dX2_freePegs_13 : decode cX2_freePegs 13 = .ok (.iaload, 1) := dk_46 (dk_at dksX2_freePegs_0 13 rfl rfl)
theorem dX2_freePegs_14 : decode cX2_freePegs 14 = .ok (.aload_n 0, 1) := dk_42 (dk_at dksX2_freePegs_0 14 rfl rfl)
theorem dX2_freePegs_15 : decode cX2_freePegs 15 = .ok (.iconst 2, 1) := dk_5 (dk_at dksX2_freePegs_0 15 rfl rfl)
theorem dX2_freePegs_16 : decode cX2_freePegs 16 = .ok (.invokevirtual 321, 3) := dk_182 1 65 (dk_at dksX2_freePegs_0 16 rfl rfl)
theorem dX2_freePegs_19 : decode cX2_freePegs 19 = .ok (.isub, 1) := dk_100 (dk_at dksX2_freePegs_0 19 rfl rfl)
theorem dX2_freePegs_20 : decode cX2_freePegs 20 = .ok (.goto 4, 3) := dk_167 0 4 (dk_at dksX2_freePegs_0 20 rfl rfl)
theorem dX2_freePegs_23 : decode cX2_freePegs 23 = .ok (.iconst 0, 1) := dk_3 (dk_at dksX2_freePegs_0 23 rfl rfl)
theorem dX2_freePegs_24 : decode cX2_freePegs 24 = .ok (.ireturn, 1) := dk_172 (dk_at dksX2_freePegs_1 0 rfl rfl)
abbrev cX2_mayLook : ByteArray := prog_20_method_8_code
def yX2_mayLook : MethodName := ⟨RX2, "mayLook", "()Z"⟩
def dkwX2_mayLook_0 : List UInt8 := [42, 42, 180, 0, 47, 4, 4, 182, 0, 43, 172]
abbrev dktX2_mayLook_0 : List UInt8 := dkwX2_mayLook_0 ++ []
theorem dksX2_mayLook_0 : cX2_mayLook.data.toList.drop 0 = dktX2_mayLook_0 := by decide +kernel
theorem dX2_mayLook_0 : decode cX2_mayLook 0 = .ok (.aload_n 0, 1) := dk_42 (dk_at dksX2_mayLook_0 0 rfl rfl)
theorem dX2_mayLook_1 : decode cX2_mayLook 1 = .ok (.aload_n 0, 1) := dk_42 (dk_at dksX2_mayLook_0 1 rfl rfl)
theorem dX2_mayLook_2 : decode cX2_mayLook 2 = .ok (.getfield 47, 3) := dk_180 0 47 (dk_at dksX2_mayLook_0 2 rfl rfl)
theorem dX2_mayLook_5 : decode cX2_mayLook 5 = .ok (.iconst 1, 1) := dk_4 (dk_at dksX2_mayLook_0 5 rfl rfl)
theorem dX2_mayLook_6 : decode cX2_mayLook 6 = .ok (.iconst 1, 1) := dk_4 (dk_at dksX2_mayLook_0 6 rfl rfl)
theorem dX2_mayLook_7 : decode cX2_mayLook 7 = .ok (.invokevirtual 43, 3) := dk_182 0 43 (dk_at dksX2_mayLook_0 7 rfl rfl)
theorem dX2_mayLook_10 : decode cX2_mayLook 10 = .ok (.ireturn, 1) := dk_172 (dk_at dksX2_mayLook_0 10 rfl rfl)
abbrev cX2_wettest : ByteArray := prog_20_method_103_code
def yX2_wettest : MethodName := ⟨RX2, "wettest", "()I"⟩
def dkwX2_wettest_2 : List UInt8 := [182, 0, 227, 164, 0, 5, 28, 60, 132, 2, 1, 167, 255, 211, 27, 172]
abbrev dktX2_wettest_2 : List UInt8 := dkwX2_wettest_2 ++ []
def dkwX2_wettest_1 : List UInt8 := [42, 28, 182, 0, 230, 5, 160, 0, 25, 27, 2, 159, 0, 18, 42, 28, 7, 182, 0, 227, 42, 27, 7]
abbrev dktX2_wettest_1 : List UInt8 := dkwX2_wettest_1 ++ dktX2_wettest_2
def dkwX2_wettest_0 : List UInt8 := [42, 182, 1, 104, 154, 0, 5, 3, 172, 2, 60, 3, 61, 28, 42, 180, 0, 9, 16, 10, 46, 162, 0, 40]
abbrev dktX2_wettest_0 : List UInt8 := dkwX2_wettest_0 ++ dktX2_wettest_1
theorem dksX2_wettest_0 : cX2_wettest.data.toList.drop 0 = dktX2_wettest_0 := by decide +kernel
theorem dksX2_wettest_1 : cX2_wettest.data.toList.drop 24 = dktX2_wettest_1 := dk_seg dksX2_wettest_0 24 rfl rfl
theorem dksX2_wettest_2 : cX2_wettest.data.toList.drop 47 = dktX2_wettest_2 := dk_seg dksX2_wettest_1 23 rfl rfl
theorem dX2_wettest_0 : decode cX2_wettest 0 = .ok (.aload_n 0, 1) := dk_42 (dk_at dksX2_wettest_0 0 rfl rfl)
theorem dX2_wettest_1 : decode cX2_wettest 1 = .ok (.invokevirtual 360, 3) := dk_182 1 104 (dk_at dksX2_wettest_0 1 rfl rfl)
theorem dX2_wettest_4 : decode cX2_wettest 4 = .ok (.ifCond .ne 5, 3) := dk_154 0 5 (dk_at dksX2_wettest_0 4 rfl rfl)
theorem dX2_wettest_7 : decode cX2_wettest 7 = .ok (.iconst 0, 1) := dk_3 (dk_at dksX2_wettest_0 7 rfl rfl)
theorem dX2_wettest_8 : decode cX2_wettest 8 = .ok (.ireturn, 1) := dk_172 (dk_at dksX2_wettest_0 8 rfl rfl)
theorem dX2_wettest_9 : decode cX2_wettest 9 = .ok (.iconst (-1), 1) := dk_2 (dk_at dksX2_wettest_0 9 rfl rfl)
theorem dX2_wettest_10 : decode cX2_wettest 10 = .ok (.istore_n 1, 1) := dk_60 (dk_at dksX2_wettest_0 10 rfl rfl)
theorem dX2_wettest_11 : decode cX2_wettest 11 = .ok (.iconst 0, 1) := dk_3 (dk_at dksX2_wettest_0 11 rfl rfl)
theorem dX2_wettest_12 : decode cX2_wettest 12 = .ok (.istore_n 2, 1) := dk_61 (dk_at dksX2_wettest_0 12 rfl rfl)
theorem dX2_wettest_13 : decode cX2_wettest 13 = .ok (.iload_n 2, 1) := dk_28 (dk_at dksX2_wettest_0 13 rfl rfl)
theorem dX2_wettest_14 : decode cX2_wettest 14 = .ok (.aload_n 0, 1) := dk_42 (dk_at dksX2_wettest_0 14 rfl rfl)
theorem dX2_wettest_15 : decode cX2_wettest 15 = .ok (.getfield 9, 3) := dk_180 0 9 (dk_at dksX2_wettest_0 15 rfl rfl)
theorem dX2_wettest_18 : decode cX2_wettest 18 = .ok (.bipush 10, 2) := dk_16 10 (dk_at dksX2_wettest_0 18 rfl rfl)
theorem dX2_wettest_20 : decode cX2_wettest 20 = .ok (.iaload, 1) := dk_46 (dk_at dksX2_wettest_0 20 rfl rfl)
theorem dX2_wettest_21 : decode cX2_wettest 21 = .ok (.if_icmp .ge 40, 3) := dk_162 0 40 (dk_at dksX2_wettest_0 21 rfl rfl)
theorem dX2_wettest_24 : decode cX2_wettest 24 = .ok (.aload_n 0, 1) := dk_42 (dk_at dksX2_wettest_1 0 rfl rfl)
theorem dX2_wettest_25 : decode cX2_wettest 25 = .ok (.iload_n 2, 1) := dk_28 (dk_at dksX2_wettest_1 1 rfl rfl)
theorem dX2_wettest_26 : decode cX2_wettest 26 = .ok (.invokevirtual 230, 3) := dk_182 0 230 (dk_at dksX2_wettest_1 2 rfl rfl)
theorem dX2_wettest_29 : decode cX2_wettest 29 = .ok (.iconst 2, 1) := dk_5 (dk_at dksX2_wettest_1 5 rfl rfl)
theorem dX2_wettest_30 : decode cX2_wettest 30 = .ok (.if_icmp .ne 25, 3) := dk_160 0 25 (dk_at dksX2_wettest_1 6 rfl rfl)
theorem dX2_wettest_33 : decode cX2_wettest 33 = .ok (.iload_n 1, 1) := dk_27 (dk_at dksX2_wettest_1 9 rfl rfl)
theorem dX2_wettest_34 : decode cX2_wettest 34 = .ok (.iconst (-1), 1) := dk_2 (dk_at dksX2_wettest_1 10 rfl rfl)
theorem dX2_wettest_35 : decode cX2_wettest 35 = .ok (.if_icmp .eq 18, 3) := dk_159 0 18 (dk_at dksX2_wettest_1 11 rfl rfl)
theorem dX2_wettest_38 : decode cX2_wettest 38 = .ok (.aload_n 0, 1) := dk_42 (dk_at dksX2_wettest_1 14 rfl rfl)
theorem dX2_wettest_39 : decode cX2_wettest 39 = .ok (.iload_n 2, 1) := dk_28 (dk_at dksX2_wettest_1 15 rfl rfl)
theorem dX2_wettest_40 : decode cX2_wettest 40 = .ok (.iconst 4, 1) := dk_7 (dk_at dksX2_wettest_1 16 rfl rfl)
theorem dX2_wettest_41 : decode cX2_wettest 41 = .ok (.invokevirtual 227, 3) := dk_182 0 227 (dk_at dksX2_wettest_1 17 rfl rfl)
theorem dX2_wettest_44 : decode cX2_wettest 44 = .ok (.aload_n 0, 1) := dk_42 (dk_at dksX2_wettest_1 20 rfl rfl)
theorem dX2_wettest_45 : decode cX2_wettest 45 = .ok (.iload_n 1, 1) := dk_27 (dk_at dksX2_wettest_1 21 rfl rfl)
theorem dX2_wettest_46 : decode cX2_wettest 46 = .ok (.iconst 4, 1) := dk_7 (dk_at dksX2_wettest_1 22 rfl rfl)
theorem dX2_wettest_47 : decode cX2_wettest 47 = .ok (.invokevirtual 227, 3) := dk_182 0 227 (dk_at dksX2_wettest_2 0 rfl rfl)
theorem dX2_wettest_50 : decode cX2_wettest 50 = .ok (.if_icmp .le 5, 3) := dk_164 0 5 (dk_at dksX2_wettest_2 3 rfl rfl)
theorem dX2_wettest_53 : decode cX2_wettest 53 = .ok (.iload_n 2, 1) := dk_28 (dk_at dksX2_wettest_2 6 rfl rfl)
theorem dX2_wettest_54 : decode cX2_wettest 54 = .ok (.istore_n 1, 1) := dk_60 (dk_at dksX2_wettest_2 7 rfl rfl)
theorem dX2_wettest_55 : decode cX2_wettest 55 = .ok (.iinc 2 1, 3) := dk_132 2 1 (dk_at dksX2_wettest_2 8 rfl rfl)
theorem dX2_wettest_58 : decode cX2_wettest 58 = .ok (.goto (-45), 3) := dk_167 255 211 (dk_at dksX2_wettest_2 11 rfl rfl)
theorem dX2_wettest_61 : decode cX2_wettest 61 = .ok (.iload_n 1, 1) := dk_27 (dk_at dksX2_wettest_2 14 rfl rfl)
theorem dX2_wettest_62 : decode cX2_wettest 62 = .ok (.ireturn, 1) := dk_172 (dk_at dksX2_wettest_2 15 rfl rfl)
abbrev cX2_gap : ByteArray := prog_20_method_104_code
def yX2_gap : MethodName := ⟨RX2, "gap", "()I"⟩
def dkwX2_gap_6 : List UInt8 := [184, 1, 108, 96, 172]
abbrev dktX2_gap_6 : List UInt8 := dkwX2_gap_6 ++ []
def dkwX2_gap_5 : List UInt8 := [46, 29, 100, 184, 1, 108, 96, 42, 180, 0, 9, 5, 46, 42, 180, 0, 9, 6, 46, 96, 27, 100]
abbrev dktX2_gap_5 : List UInt8 := dkwX2_gap_5 ++ dktX2_gap_6
def dkwX2_gap_4 : List UInt8 := [182, 1, 65, 96, 42, 5, 182, 1, 65, 96, 42, 6, 182, 1, 65, 96, 62, 28, 42, 180, 0, 9, 16, 10]
abbrev dktX2_gap_4 : List UInt8 := dkwX2_gap_4 ++ dktX2_gap_5
def dkwX2_gap_3 : List UInt8 := [4, 167, 0, 4, 3, 184, 0, 245, 96, 61, 132, 3, 1, 167, 255, 187, 42, 3, 182, 1, 65, 42, 4]
abbrev dktX2_gap_3 : List UInt8 := dkwX2_gap_3 ++ dktX2_gap_4
def dkwX2_gap_2 : List UInt8 := [167, 0, 4, 3, 96, 60, 28, 42, 29, 16, 6, 182, 0, 227, 42, 29, 4, 182, 0, 227, 126, 153, 0, 7]
abbrev dktX2_gap_2 : List UInt8 := dkwX2_gap_2 ++ dktX2_gap_3
def dkwX2_gap_1 : List UInt8 := [162, 0, 64, 27, 42, 29, 182, 0, 230, 6, 160, 0, 17, 42, 42, 29, 3, 182, 0, 227, 4, 182, 1, 46]
abbrev dktX2_gap_1 : List UInt8 := dkwX2_gap_1 ++ dktX2_gap_2
def dkwX2_gap_0 : List UInt8 := [42, 182, 1, 104, 154, 0, 5, 3, 172, 3, 60, 3, 61, 3, 62, 29, 42, 180, 0, 9, 16, 10, 46]
abbrev dktX2_gap_0 : List UInt8 := dkwX2_gap_0 ++ dktX2_gap_1
theorem dksX2_gap_0 : cX2_gap.data.toList.drop 0 = dktX2_gap_0 := by decide +kernel
theorem dksX2_gap_1 : cX2_gap.data.toList.drop 23 = dktX2_gap_1 := dk_seg dksX2_gap_0 23 rfl rfl
theorem dksX2_gap_2 : cX2_gap.data.toList.drop 47 = dktX2_gap_2 := dk_seg dksX2_gap_1 24 rfl rfl
theorem dksX2_gap_3 : cX2_gap.data.toList.drop 71 = dktX2_gap_3 := dk_seg dksX2_gap_2 24 rfl rfl
theorem dksX2_gap_4 : cX2_gap.data.toList.drop 94 = dktX2_gap_4 := dk_seg dksX2_gap_3 23 rfl rfl
theorem dksX2_gap_5 : cX2_gap.data.toList.drop 118 = dktX2_gap_5 := dk_seg dksX2_gap_4 24 rfl rfl
theorem dksX2_gap_6 : cX2_gap.data.toList.drop 140 = dktX2_gap_6 := dk_seg dksX2_gap_5 22 rfl rfl
theorem dX2_gap_0 : decode cX2_gap 0 = .ok (.aload_n 0, 1) := dk_42 (dk_at dksX2_gap_0 0 rfl rfl)
theorem dX2_gap_1 : decode cX2_gap 1 = .ok (.invokevirtual 360, 3) := dk_182 1 104 (dk_at dksX2_gap_0 1 rfl rfl)
theorem dX2_gap_4 : decode cX2_gap 4 = .ok (.ifCond .ne 5, 3) := dk_154 0 5 (dk_at dksX2_gap_0 4 rfl rfl)
theorem dX2_gap_7 : decode cX2_gap 7 = .ok (.iconst 0, 1) := dk_3 (dk_at dksX2_gap_0 7 rfl rfl)
theorem dX2_gap_8 : decode cX2_gap 8 = .ok (.ireturn, 1) := dk_172 (dk_at dksX2_gap_0 8 rfl rfl)
theorem dX2_gap_9 : decode cX2_gap 9 = .ok (.iconst 0, 1) := dk_3 (dk_at dksX2_gap_0 9 rfl rfl)
theorem dX2_gap_10 : decode cX2_gap 10 = .ok (.istore_n 1, 1) := dk_60 (dk_at dksX2_gap_0 10 rfl rfl)
theorem dX2_gap_11 : decode cX2_gap 11 = .ok (.iconst 0, 1) := dk_3 (dk_at dksX2_gap_0 11 rfl rfl)
theorem dX2_gap_12 : decode cX2_gap 12 = .ok (.istore_n 2, 1) := dk_61 (dk_at dksX2_gap_0 12 rfl rfl)
theorem dX2_gap_13 : decode cX2_gap 13 = .ok (.iconst 0, 1) := dk_3 (dk_at dksX2_gap_0 13 rfl rfl)
theorem dX2_gap_14 : decode cX2_gap 14 = .ok (.istore_n 3, 1) := dk_62 (dk_at dksX2_gap_0 14 rfl rfl)
theorem dX2_gap_15 : decode cX2_gap 15 = .ok (.iload_n 3, 1) := dk_29 (dk_at dksX2_gap_0 15 rfl rfl)
theorem dX2_gap_16 : decode cX2_gap 16 = .ok (.aload_n 0, 1) := dk_42 (dk_at dksX2_gap_0 16 rfl rfl)
theorem dX2_gap_17 : decode cX2_gap 17 = .ok (.getfield 9, 3) := dk_180 0 9 (dk_at dksX2_gap_0 17 rfl rfl)
theorem dX2_gap_20 : decode cX2_gap 20 = .ok (.bipush 10, 2) := dk_16 10 (dk_at dksX2_gap_0 20 rfl rfl)
theorem dX2_gap_22 : decode cX2_gap 22 = .ok (.iaload, 1) := dk_46 (dk_at dksX2_gap_0 22 rfl rfl)
theorem dX2_gap_23 : decode cX2_gap 23 = .ok (.if_icmp .ge 64, 3) := dk_162 0 64 (dk_at dksX2_gap_1 0 rfl rfl)
theorem dX2_gap_26 : decode cX2_gap 26 = .ok (.iload_n 1, 1) := dk_27 (dk_at dksX2_gap_1 3 rfl rfl)
theorem dX2_gap_27 : decode cX2_gap 27 = .ok (.aload_n 0, 1) := dk_42 (dk_at dksX2_gap_1 4 rfl rfl)
theorem dX2_gap_28 : decode cX2_gap 28 = .ok (.iload_n 3, 1) := dk_29 (dk_at dksX2_gap_1 5 rfl rfl)
theorem dX2_gap_29 : decode cX2_gap 29 = .ok (.invokevirtual 230, 3) := dk_182 0 230 (dk_at dksX2_gap_1 6 rfl rfl)
theorem dX2_gap_32 : decode cX2_gap 32 = .ok (.iconst 3, 1) := dk_6 (dk_at dksX2_gap_1 9 rfl rfl)
theorem dX2_gap_33 : decode cX2_gap 33 = .ok (.if_icmp .ne 17, 3) := dk_160 0 17 (dk_at dksX2_gap_1 10 rfl rfl)
theorem dX2_gap_36 : decode cX2_gap 36 = .ok (.aload_n 0, 1) := dk_42 (dk_at dksX2_gap_1 13 rfl rfl)
theorem dX2_gap_37 : decode cX2_gap 37 = .ok (.aload_n 0, 1) := dk_42 (dk_at dksX2_gap_1 14 rfl rfl)
theorem dX2_gap_38 : decode cX2_gap 38 = .ok (.iload_n 3, 1) := dk_29 (dk_at dksX2_gap_1 15 rfl rfl)
theorem dX2_gap_39 : decode cX2_gap 39 = .ok (.iconst 0, 1) := dk_3 (dk_at dksX2_gap_1 16 rfl rfl)
theorem dX2_gap_40 : decode cX2_gap 40 = .ok (.invokevirtual 227, 3) := dk_182 0 227 (dk_at dksX2_gap_1 17 rfl rfl)
theorem dX2_gap_43 : decode cX2_gap 43 = .ok (.iconst 1, 1) := dk_4 (dk_at dksX2_gap_1 20 rfl rfl)
theorem dX2_gap_44 : decode cX2_gap 44 = .ok (.invokevirtual 302, 3) := dk_182 1 46 (dk_at dksX2_gap_1 21 rfl rfl)
theorem dX2_gap_47 : decode cX2_gap 47 = .ok (.goto 4, 3) := dk_167 0 4 (dk_at dksX2_gap_2 0 rfl rfl)
theorem dX2_gap_50 : decode cX2_gap 50 = .ok (.iconst 0, 1) := dk_3 (dk_at dksX2_gap_2 3 rfl rfl)
theorem dX2_gap_51 : decode cX2_gap 51 = .ok (.iadd, 1) := dk_96 (dk_at dksX2_gap_2 4 rfl rfl)
theorem dX2_gap_52 : decode cX2_gap 52 = .ok (.istore_n 1, 1) := dk_60 (dk_at dksX2_gap_2 5 rfl rfl)
theorem dX2_gap_53 : decode cX2_gap 53 = .ok (.iload_n 2, 1) := dk_28 (dk_at dksX2_gap_2 6 rfl rfl)
theorem dX2_gap_54 : decode cX2_gap 54 = .ok (.aload_n 0, 1) := dk_42 (dk_at dksX2_gap_2 7 rfl rfl)
theorem dX2_gap_55 : decode cX2_gap 55 = .ok (.iload_n 3, 1) := dk_29 (dk_at dksX2_gap_2 8 rfl rfl)
theorem dX2_gap_56 : decode cX2_gap 56 = .ok (.bipush 6, 2) := dk_16 6 (dk_at dksX2_gap_2 9 rfl rfl)
theorem dX2_gap_58 : decode cX2_gap 58 = .ok (.invokevirtual 227, 3) := dk_182 0 227 (dk_at dksX2_gap_2 11 rfl rfl)
theorem dX2_gap_61 : decode cX2_gap 61 = .ok (.aload_n 0, 1) := dk_42 (dk_at dksX2_gap_2 14 rfl rfl)
theorem dX2_gap_62 : decode cX2_gap 62 = .ok (.iload_n 3, 1) := dk_29 (dk_at dksX2_gap_2 15 rfl rfl)
theorem dX2_gap_63 : decode cX2_gap 63 = .ok (.iconst 1, 1) := dk_4 (dk_at dksX2_gap_2 16 rfl rfl)
theorem dX2_gap_64 : decode cX2_gap 64 = .ok (.invokevirtual 227, 3) := dk_182 0 227 (dk_at dksX2_gap_2 17 rfl rfl)
theorem dX2_gap_67 : decode cX2_gap 67 = .ok (.iand, 1) := dk_126 (dk_at dksX2_gap_2 20 rfl rfl)
theorem dX2_gap_68 : decode cX2_gap 68 = .ok (.ifCond .eq 7, 3) := dk_153 0 7 (dk_at dksX2_gap_2 21 rfl rfl)
theorem dX2_gap_71 : decode cX2_gap 71 = .ok (.iconst 1, 1) := dk_4 (dk_at dksX2_gap_3 0 rfl rfl)
theorem dX2_gap_72 : decode cX2_gap 72 = .ok (.goto 4, 3) := dk_167 0 4 (dk_at dksX2_gap_3 1 rfl rfl)
theorem dX2_gap_75 : decode cX2_gap 75 = .ok (.iconst 0, 1) := dk_3 (dk_at dksX2_gap_3 4 rfl rfl)
theorem dX2_gap_76 : decode cX2_gap 76 = .ok (.invokestatic 245, 3) := dk_184 0 245 (dk_at dksX2_gap_3 5 rfl rfl)
theorem dX2_gap_79 : decode cX2_gap 79 = .ok (.iadd, 1) := dk_96 (dk_at dksX2_gap_3 8 rfl rfl)
theorem dX2_gap_80 : decode cX2_gap 80 = .ok (.istore_n 2, 1) := dk_61 (dk_at dksX2_gap_3 9 rfl rfl)
theorem dX2_gap_81 : decode cX2_gap 81 = .ok (.iinc 3 1, 3) := dk_132 3 1 (dk_at dksX2_gap_3 10 rfl rfl)
theorem dX2_gap_84 : decode cX2_gap 84 = .ok (.goto (-69), 3) := dk_167 255 187 (dk_at dksX2_gap_3 13 rfl rfl)
theorem dX2_gap_87 : decode cX2_gap 87 = .ok (.aload_n 0, 1) := dk_42 (dk_at dksX2_gap_3 16 rfl rfl)
theorem dX2_gap_88 : decode cX2_gap 88 = .ok (.iconst 0, 1) := dk_3 (dk_at dksX2_gap_3 17 rfl rfl)
theorem dX2_gap_89 : decode cX2_gap 89 = .ok (.invokevirtual 321, 3) := dk_182 1 65 (dk_at dksX2_gap_3 18 rfl rfl)
theorem dX2_gap_92 : decode cX2_gap 92 = .ok (.aload_n 0, 1) := dk_42 (dk_at dksX2_gap_3 21 rfl rfl)
theorem dX2_gap_93 : decode cX2_gap 93 = .ok (.iconst 1, 1) := dk_4 (dk_at dksX2_gap_3 22 rfl rfl)
theorem dX2_gap_94 : decode cX2_gap 94 = .ok (.invokevirtual 321, 3) := dk_182 1 65 (dk_at dksX2_gap_4 0 rfl rfl)
theorem dX2_gap_97 : decode cX2_gap 97 = .ok (.iadd, 1) := dk_96 (dk_at dksX2_gap_4 3 rfl rfl)
theorem dX2_gap_98 : decode cX2_gap 98 = .ok (.aload_n 0, 1) := dk_42 (dk_at dksX2_gap_4 4 rfl rfl)
theorem dX2_gap_99 : decode cX2_gap 99 = .ok (.iconst 2, 1) := dk_5 (dk_at dksX2_gap_4 5 rfl rfl)
theorem dX2_gap_100 : decode cX2_gap 100 = .ok (.invokevirtual 321, 3) := dk_182 1 65 (dk_at dksX2_gap_4 6 rfl rfl)
theorem dX2_gap_103 : decode cX2_gap 103 = .ok (.iadd, 1) := dk_96 (dk_at dksX2_gap_4 9 rfl rfl)
theorem dX2_gap_104 : decode cX2_gap 104 = .ok (.aload_n 0, 1) := dk_42 (dk_at dksX2_gap_4 10 rfl rfl)
theorem dX2_gap_105 : decode cX2_gap 105 = .ok (.iconst 3, 1) := dk_6 (dk_at dksX2_gap_4 11 rfl rfl)
theorem dX2_gap_106 : decode cX2_gap 106 = .ok (.invokevirtual 321, 3) := dk_182 1 65 (dk_at dksX2_gap_4 12 rfl rfl)
theorem dX2_gap_109 : decode cX2_gap 109 = .ok (.iadd, 1) := dk_96 (dk_at dksX2_gap_4 15 rfl rfl)
theorem dX2_gap_110 : decode cX2_gap 110 = .ok (.istore_n 3, 1) := dk_62 (dk_at dksX2_gap_4 16 rfl rfl)
theorem dX2_gap_111 : decode cX2_gap 111 = .ok (.iload_n 2, 1) := dk_28 (dk_at dksX2_gap_4 17 rfl rfl)
theorem dX2_gap_112 : decode cX2_gap 112 = .ok (.aload_n 0, 1) := dk_42 (dk_at dksX2_gap_4 18 rfl rfl)
theorem dX2_gap_113 : decode cX2_gap 113 = .ok (.getfield 9, 3) := dk_180 0 9 (dk_at dksX2_gap_4 19 rfl rfl)
theorem dX2_gap_116 : decode cX2_gap 116 = .ok (.bipush 10, 2) := dk_16 10 (dk_at dksX2_gap_4 22 rfl rfl)
theorem dX2_gap_118 : decode cX2_gap 118 = .ok (.iaload, 1) := dk_46 (dk_at dksX2_gap_5 0 rfl rfl)
theorem dX2_gap_119 : decode cX2_gap 119 = .ok (.iload_n 3, 1) := dk_29 (dk_at dksX2_gap_5 1 rfl rfl)
theorem dX2_gap_120 : decode cX2_gap 120 = .ok (.isub, 1) := dk_100 (dk_at dksX2_gap_5 2 rfl rfl)
theorem dX2_gap_121 : decode cX2_gap 121 = .ok (.invokestatic 364, 3) := dk_184 1 108 (dk_at dksX2_gap_5 3 rfl rfl)
theorem dX2_gap_124 : decode cX2_gap 124 = .ok (.iadd, 1) := dk_96 (dk_at dksX2_gap_5 6 rfl rfl)
theorem dX2_gap_125 : decode cX2_gap 125 = .ok (.aload_n 0, 1) := dk_42 (dk_at dksX2_gap_5 7 rfl rfl)
theorem dX2_gap_126 : decode cX2_gap 126 = .ok (.getfield 9, 3) := dk_180 0 9 (dk_at dksX2_gap_5 8 rfl rfl)
theorem dX2_gap_129 : decode cX2_gap 129 = .ok (.iconst 2, 1) := dk_5 (dk_at dksX2_gap_5 11 rfl rfl)
theorem dX2_gap_130 : decode cX2_gap 130 = .ok (.iaload, 1) := dk_46 (dk_at dksX2_gap_5 12 rfl rfl)
theorem dX2_gap_131 : decode cX2_gap 131 = .ok (.aload_n 0, 1) := dk_42 (dk_at dksX2_gap_5 13 rfl rfl)
theorem dX2_gap_132 : decode cX2_gap 132 = .ok (.getfield 9, 3) := dk_180 0 9 (dk_at dksX2_gap_5 14 rfl rfl)
theorem dX2_gap_135 : decode cX2_gap 135 = .ok (.iconst 3, 1) := dk_6 (dk_at dksX2_gap_5 17 rfl rfl)
theorem dX2_gap_136 : decode cX2_gap 136 = .ok (.iaload, 1) := dk_46 (dk_at dksX2_gap_5 18 rfl rfl)
theorem dX2_gap_137 : decode cX2_gap 137 = .ok (.iadd, 1) := dk_96 (dk_at dksX2_gap_5 19 rfl rfl)
theorem dX2_gap_138 : decode cX2_gap 138 = .ok (.iload_n 1, 1) := dk_27 (dk_at dksX2_gap_5 20 rfl rfl)
theorem dX2_gap_139 : decode cX2_gap 139 = .ok (.isub, 1) := dk_100 (dk_at dksX2_gap_5 21 rfl rfl)
theorem dX2_gap_140 : decode cX2_gap 140 = .ok (.invokestatic 364, 3) := dk_184 1 108 (dk_at dksX2_gap_6 0 rfl rfl)
theorem dX2_gap_143 : decode cX2_gap 143 = .ok (.iadd, 1) := dk_96 (dk_at dksX2_gap_6 3 rfl rfl)
theorem dX2_gap_144 : decode cX2_gap 144 = .ok (.ireturn, 1) := dk_172 (dk_at dksX2_gap_6 4 rfl rfl)
abbrev cX2_why : ByteArray := prog_20_method_105_code
def yX2_why : MethodName := ⟨RX2, "why", "(I)I"⟩
def dkwX2_why_0 : List UInt8 := [42, 27, 182, 1, 111, 153, 0, 11, 42, 27, 182, 1, 55, 167, 0, 4, 3, 172]
abbrev dktX2_why_0 : List UInt8 := dkwX2_why_0 ++ []
theorem dksX2_why_0 : cX2_why.data.toList.drop 0 = dktX2_why_0 := by decide +kernel
theorem dX2_why_0 : decode cX2_why 0 = .ok (.aload_n 0, 1) := dk_42 (dk_at dksX2_why_0 0 rfl rfl)
theorem dX2_why_1 : decode cX2_why 1 = .ok (.iload_n 1, 1) := dk_27 (dk_at dksX2_why_0 1 rfl rfl)
theorem dX2_why_2 : decode cX2_why 2 = .ok (.invokevirtual 367, 3) := dk_182 1 111 (dk_at dksX2_why_0 2 rfl rfl)
theorem dX2_why_5 : decode cX2_why 5 = .ok (.ifCond .eq 11, 3) := dk_153 0 11 (dk_at dksX2_why_0 5 rfl rfl)
theorem dX2_why_8 : decode cX2_why 8 = .ok (.aload_n 0, 1) := dk_42 (dk_at dksX2_why_0 8 rfl rfl)
theorem dX2_why_9 : decode cX2_why 9 = .ok (.iload_n 1, 1) := dk_27 (dk_at dksX2_why_0 9 rfl rfl)
theorem dX2_why_10 : decode cX2_why 10 = .ok (.invokevirtual 311, 3) := dk_182 1 55 (dk_at dksX2_why_0 10 rfl rfl)
theorem dX2_why_13 : decode cX2_why 13 = .ok (.goto 4, 3) := dk_167 0 4 (dk_at dksX2_why_0 13 rfl rfl)
theorem dX2_why_16 : decode cX2_why 16 = .ok (.iconst 0, 1) := dk_3 (dk_at dksX2_why_0 16 rfl rfl)
theorem dX2_why_17 : decode cX2_why 17 = .ok (.ireturn, 1) := dk_172 (dk_at dksX2_why_0 17 rfl rfl)
abbrev cX2_mayFlag : ByteArray := prog_20_method_88_code
def yX2_mayFlag : MethodName := ⟨RX2, "mayFlag", "(I)Z"⟩
def dkwX2_mayFlag_0 : List UInt8 := [42, 42, 180, 0, 47, 42, 27, 182, 1, 68, 182, 1, 58, 172]
abbrev dktX2_mayFlag_0 : List UInt8 := dkwX2_mayFlag_0 ++ []
theorem dksX2_mayFlag_0 : cX2_mayFlag.data.toList.drop 0 = dktX2_mayFlag_0 := by decide +kernel
theorem dX2_mayFlag_0 : decode cX2_mayFlag 0 = .ok (.aload_n 0, 1) := dk_42 (dk_at dksX2_mayFlag_0 0 rfl rfl)
theorem dX2_mayFlag_1 : decode cX2_mayFlag 1 = .ok (.aload_n 0, 1) := dk_42 (dk_at dksX2_mayFlag_0 1 rfl rfl)
theorem dX2_mayFlag_2 : decode cX2_mayFlag 2 = .ok (.getfield 47, 3) := dk_180 0 47 (dk_at dksX2_mayFlag_0 2 rfl rfl)
theorem dX2_mayFlag_5 : decode cX2_mayFlag 5 = .ok (.aload_n 0, 1) := dk_42 (dk_at dksX2_mayFlag_0 5 rfl rfl)
theorem dX2_mayFlag_6 : decode cX2_mayFlag 6 = .ok (.iload_n 1, 1) := dk_27 (dk_at dksX2_mayFlag_0 6 rfl rfl)
theorem dX2_mayFlag_7 : decode cX2_mayFlag 7 = .ok (.invokevirtual 324, 3) := dk_182 1 68 (dk_at dksX2_mayFlag_0 7 rfl rfl)
theorem dX2_mayFlag_10 : decode cX2_mayFlag 10 = .ok (.invokevirtual 314, 3) := dk_182 1 58 (dk_at dksX2_mayFlag_0 10 rfl rfl)
theorem dX2_mayFlag_13 : decode cX2_mayFlag 13 = .ok (.ireturn, 1) := dk_172 (dk_at dksX2_mayFlag_0 13 rfl rfl)
abbrev cX2_reasons : ByteArray := prog_20_method_106_code
def yX2_reasons : MethodName := ⟨RX2, "reasons", "(I)I"⟩
def dkwX2_reasons_1 : List UInt8 := [182, 0, 239, 184, 0, 245, 29, 120, 128, 61, 132, 3, 1, 167, 255, 233, 28, 172]
abbrev dktX2_reasons_1 : List UInt8 := dkwX2_reasons_1 ++ []
def dkwX2_reasons_0 : List UInt8 := [42, 27, 182, 1, 111, 154, 0, 5, 3, 172, 3, 61, 4, 62, 29, 16, 7, 163, 0, 23, 28, 42, 29, 27]
abbrev dktX2_reasons_0 : List UInt8 := dkwX2_reasons_0 ++ dktX2_reasons_1
theorem dksX2_reasons_0 : cX2_reasons.data.toList.drop 0 = dktX2_reasons_0 := by decide +kernel
theorem dksX2_reasons_1 : cX2_reasons.data.toList.drop 24 = dktX2_reasons_1 := dk_seg dksX2_reasons_0 24 rfl rfl
theorem dX2_reasons_0 : decode cX2_reasons 0 = .ok (.aload_n 0, 1) := dk_42 (dk_at dksX2_reasons_0 0 rfl rfl)
theorem dX2_reasons_1 : decode cX2_reasons 1 = .ok (.iload_n 1, 1) := dk_27 (dk_at dksX2_reasons_0 1 rfl rfl)
theorem dX2_reasons_2 : decode cX2_reasons 2 = .ok (.invokevirtual 367, 3) := dk_182 1 111 (dk_at dksX2_reasons_0 2 rfl rfl)
theorem dX2_reasons_5 : decode cX2_reasons 5 = .ok (.ifCond .ne 5, 3) := dk_154 0 5 (dk_at dksX2_reasons_0 5 rfl rfl)
theorem dX2_reasons_8 : decode cX2_reasons 8 = .ok (.iconst 0, 1) := dk_3 (dk_at dksX2_reasons_0 8 rfl rfl)
theorem dX2_reasons_9 : decode cX2_reasons 9 = .ok (.ireturn, 1) := dk_172 (dk_at dksX2_reasons_0 9 rfl rfl)
theorem dX2_reasons_10 : decode cX2_reasons 10 = .ok (.iconst 0, 1) := dk_3 (dk_at dksX2_reasons_0 10 rfl rfl)
theorem dX2_reasons_11 : decode cX2_reasons 11 = .ok (.istore_n 2, 1) := dk_61 (dk_at dksX2_reasons_0 11 rfl rfl)
theorem dX2_reasons_12 : decode cX2_reasons 12 = .ok (.iconst 1, 1) := dk_4 (dk_at dksX2_reasons_0 12 rfl rfl)
theorem dX2_reasons_13 : decode cX2_reasons 13 = .ok (.istore_n 3, 1) := dk_62 (dk_at dksX2_reasons_0 13 rfl rfl)
theorem dX2_reasons_14 : decode cX2_reasons 14 = .ok (.iload_n 3, 1) := dk_29 (dk_at dksX2_reasons_0 14 rfl rfl)
theorem dX2_reasons_15 : decode cX2_reasons 15 = .ok (.bipush 7, 2) := dk_16 7 (dk_at dksX2_reasons_0 15 rfl rfl)
theorem dX2_reasons_17 : decode cX2_reasons 17 = .ok (.if_icmp .gt 23, 3) := dk_163 0 23 (dk_at dksX2_reasons_0 17 rfl rfl)
theorem dX2_reasons_20 : decode cX2_reasons 20 = .ok (.iload_n 2, 1) := dk_28 (dk_at dksX2_reasons_0 20 rfl rfl)
theorem dX2_reasons_21 : decode cX2_reasons 21 = .ok (.aload_n 0, 1) := dk_42 (dk_at dksX2_reasons_0 21 rfl rfl)
theorem dX2_reasons_22 : decode cX2_reasons 22 = .ok (.iload_n 3, 1) := dk_29 (dk_at dksX2_reasons_0 22 rfl rfl)
theorem dX2_reasons_23 : decode cX2_reasons 23 = .ok (.iload_n 1, 1) := dk_27 (dk_at dksX2_reasons_0 23 rfl rfl)
theorem dX2_reasons_24 : decode cX2_reasons 24 = .ok (.invokevirtual 239, 3) := dk_182 0 239 (dk_at dksX2_reasons_1 0 rfl rfl)
theorem dX2_reasons_27 : decode cX2_reasons 27 = .ok (.invokestatic 245, 3) := dk_184 0 245 (dk_at dksX2_reasons_1 3 rfl rfl)
theorem dX2_reasons_30 : decode cX2_reasons 30 = .ok (.iload_n 3, 1) := dk_29 (dk_at dksX2_reasons_1 6 rfl rfl)
theorem dX2_reasons_31 : decode cX2_reasons 31 = .ok (.ishl, 1) := dk_120 (dk_at dksX2_reasons_1 7 rfl rfl)
theorem dX2_reasons_32 : decode cX2_reasons 32 = .ok (.ior, 1) := dk_128 (dk_at dksX2_reasons_1 8 rfl rfl)
theorem dX2_reasons_33 : decode cX2_reasons 33 = .ok (.istore_n 2, 1) := dk_61 (dk_at dksX2_reasons_1 9 rfl rfl)
theorem dX2_reasons_34 : decode cX2_reasons 34 = .ok (.iinc 3 1, 3) := dk_132 3 1 (dk_at dksX2_reasons_1 10 rfl rfl)
theorem dX2_reasons_37 : decode cX2_reasons 37 = .ok (.goto (-23), 3) := dk_167 255 233 (dk_at dksX2_reasons_1 13 rfl rfl)
theorem dX2_reasons_40 : decode cX2_reasons 40 = .ok (.iload_n 2, 1) := dk_28 (dk_at dksX2_reasons_1 16 rfl rfl)
theorem dX2_reasons_41 : decode cX2_reasons 41 = .ok (.ireturn, 1) := dk_172 (dk_at dksX2_reasons_1 17 rfl rfl)
abbrev cX2_culprit : ByteArray := prog_20_method_107_code
def yX2_culprit : MethodName := ⟨RX2, "culprit", "(I)I"⟩
def dkwX2_culprit_1 : List UInt8 := [3, 172]
abbrev dktX2_culprit_1 : List UInt8 := dkwX2_culprit_1 ++ []
def dkwX2_culprit_0 : List UInt8 := [42, 42, 180, 0, 47, 42, 27, 182, 1, 83, 182, 1, 58, 153, 0, 11, 42, 27, 182, 1, 114, 167, 0, 4]
abbrev dktX2_culprit_0 : List UInt8 := dkwX2_culprit_0 ++ dktX2_culprit_1
theorem dksX2_culprit_0 : cX2_culprit.data.toList.drop 0 = dktX2_culprit_0 := by decide +kernel
theorem dksX2_culprit_1 : cX2_culprit.data.toList.drop 24 = dktX2_culprit_1 := dk_seg dksX2_culprit_0 24 rfl rfl
theorem dX2_culprit_0 : decode cX2_culprit 0 = .ok (.aload_n 0, 1) := dk_42 (dk_at dksX2_culprit_0 0 rfl rfl)
theorem dX2_culprit_1 : decode cX2_culprit 1 = .ok (.aload_n 0, 1) := dk_42 (dk_at dksX2_culprit_0 1 rfl rfl)
theorem dX2_culprit_2 : decode cX2_culprit 2 = .ok (.getfield 47, 3) := dk_180 0 47 (dk_at dksX2_culprit_0 2 rfl rfl)
theorem dX2_culprit_5 : decode cX2_culprit 5 = .ok (.aload_n 0, 1) := dk_42 (dk_at dksX2_culprit_0 5 rfl rfl)
theorem dX2_culprit_6 : decode cX2_culprit 6 = .ok (.iload_n 1, 1) := dk_27 (dk_at dksX2_culprit_0 6 rfl rfl)
theorem dX2_culprit_7 : decode cX2_culprit 7 = .ok (.invokevirtual 339, 3) := dk_182 1 83 (dk_at dksX2_culprit_0 7 rfl rfl)
theorem dX2_culprit_10 : decode cX2_culprit 10 = .ok (.invokevirtual 314, 3) := dk_182 1 58 (dk_at dksX2_culprit_0 10 rfl rfl)
theorem dX2_culprit_13 : decode cX2_culprit 13 = .ok (.ifCond .eq 11, 3) := dk_153 0 11 (dk_at dksX2_culprit_0 13 rfl rfl)
theorem dX2_culprit_16 : decode cX2_culprit 16 = .ok (.aload_n 0, 1) := dk_42 (dk_at dksX2_culprit_0 16 rfl rfl)
theorem dX2_culprit_17 : decode cX2_culprit 17 = .ok (.iload_n 1, 1) := dk_27 (dk_at dksX2_culprit_0 17 rfl rfl)
theorem dX2_culprit_18 : decode cX2_culprit 18 = .ok (.invokevirtual 370, 3) := dk_182 1 114 (dk_at dksX2_culprit_0 18 rfl rfl)
theorem dX2_culprit_21 : decode cX2_culprit 21 = .ok (.goto 4, 3) := dk_167 0 4 (dk_at dksX2_culprit_0 21 rfl rfl)
theorem dX2_culprit_24 : decode cX2_culprit 24 = .ok (.iconst 0, 1) := dk_3 (dk_at dksX2_culprit_1 0 rfl rfl)
theorem dX2_culprit_25 : decode cX2_culprit 25 = .ok (.ireturn, 1) := dk_172 (dk_at dksX2_culprit_1 1 rfl rfl)
abbrev cX2_culpritOf : ByteArray := prog_20_method_79_code
def yX2_culpritOf : MethodName := ⟨RX2, "culpritOf", "(I)I"⟩
def dkwX2_culpritOf_1 : List UInt8 := [28, 182, 1, 55, 153, 0, 5, 28, 172, 132, 2, 1, 167, 255, 222, 2, 172]
abbrev dktX2_culpritOf_1 : List UInt8 := dkwX2_culpritOf_1 ++ []
def dkwX2_culpritOf_0 : List UInt8 := [3, 61, 28, 42, 180, 0, 9, 16, 10, 46, 162, 0, 29, 42, 28, 3, 182, 0, 227, 27, 160, 0, 13, 42]
abbrev dktX2_culpritOf_0 : List UInt8 := dkwX2_culpritOf_0 ++ dktX2_culpritOf_1
theorem dksX2_culpritOf_0 : cX2_culpritOf.data.toList.drop 0 = dktX2_culpritOf_0 := by decide +kernel
theorem dksX2_culpritOf_1 : cX2_culpritOf.data.toList.drop 24 = dktX2_culpritOf_1 := dk_seg dksX2_culpritOf_0 24 rfl rfl
theorem dX2_culpritOf_0 : decode cX2_culpritOf 0 = .ok (.iconst 0, 1) := dk_3 (dk_at dksX2_culpritOf_0 0 rfl rfl)
theorem dX2_culpritOf_1 : decode cX2_culpritOf 1 = .ok (.istore_n 2, 1) := dk_61 (dk_at dksX2_culpritOf_0 1 rfl rfl)
theorem dX2_culpritOf_2 : decode cX2_culpritOf 2 = .ok (.iload_n 2, 1) := dk_28 (dk_at dksX2_culpritOf_0 2 rfl rfl)
theorem dX2_culpritOf_3 : decode cX2_culpritOf 3 = .ok (.aload_n 0, 1) := dk_42 (dk_at dksX2_culpritOf_0 3 rfl rfl)
theorem dX2_culpritOf_4 : decode cX2_culpritOf 4 = .ok (.getfield 9, 3) := dk_180 0 9 (dk_at dksX2_culpritOf_0 4 rfl rfl)
theorem dX2_culpritOf_7 : decode cX2_culpritOf 7 = .ok (.bipush 10, 2) := dk_16 10 (dk_at dksX2_culpritOf_0 7 rfl rfl)
theorem dX2_culpritOf_9 : decode cX2_culpritOf 9 = .ok (.iaload, 1) := dk_46 (dk_at dksX2_culpritOf_0 9 rfl rfl)
theorem dX2_culpritOf_10 : decode cX2_culpritOf 10 = .ok (.if_icmp .ge 29, 3) := dk_162 0 29 (dk_at dksX2_culpritOf_0 10 rfl rfl)
theorem dX2_culpritOf_13 : decode cX2_culpritOf 13 = .ok (.aload_n 0, 1) := dk_42 (dk_at dksX2_culpritOf_0 13 rfl rfl)
theorem dX2_culpritOf_14 : decode cX2_culpritOf 14 = .ok (.iload_n 2, 1) := dk_28 (dk_at dksX2_culpritOf_0 14 rfl rfl)
theorem dX2_culpritOf_15 : decode cX2_culpritOf 15 = .ok (.iconst 0, 1) := dk_3 (dk_at dksX2_culpritOf_0 15 rfl rfl)
theorem dX2_culpritOf_16 : decode cX2_culpritOf 16 = .ok (.invokevirtual 227, 3) := dk_182 0 227 (dk_at dksX2_culpritOf_0 16 rfl rfl)
theorem dX2_culpritOf_19 : decode cX2_culpritOf 19 = .ok (.iload_n 1, 1) := dk_27 (dk_at dksX2_culpritOf_0 19 rfl rfl)
theorem dX2_culpritOf_20 : decode cX2_culpritOf 20 = .ok (.if_icmp .ne 13, 3) := dk_160 0 13 (dk_at dksX2_culpritOf_0 20 rfl rfl)
theorem dX2_culpritOf_23 : decode cX2_culpritOf 23 = .ok (.aload_n 0, 1) := dk_42 (dk_at dksX2_culpritOf_0 23 rfl rfl)
theorem dX2_culpritOf_24 : decode cX2_culpritOf 24 = .ok (.iload_n 2, 1) := dk_28 (dk_at dksX2_culpritOf_1 0 rfl rfl)
theorem dX2_culpritOf_25 : decode cX2_culpritOf 25 = .ok (.invokevirtual 311, 3) := dk_182 1 55 (dk_at dksX2_culpritOf_1 1 rfl rfl)
theorem dX2_culpritOf_28 : decode cX2_culpritOf 28 = .ok (.ifCond .eq 5, 3) := dk_153 0 5 (dk_at dksX2_culpritOf_1 4 rfl rfl)
theorem dX2_culpritOf_31 : decode cX2_culpritOf 31 = .ok (.iload_n 2, 1) := dk_28 (dk_at dksX2_culpritOf_1 7 rfl rfl)
theorem dX2_culpritOf_32 : decode cX2_culpritOf 32 = .ok (.ireturn, 1) := dk_172 (dk_at dksX2_culpritOf_1 8 rfl rfl)
theorem dX2_culpritOf_33 : decode cX2_culpritOf 33 = .ok (.iinc 2 1, 3) := dk_132 2 1 (dk_at dksX2_culpritOf_1 9 rfl rfl)
theorem dX2_culpritOf_36 : decode cX2_culpritOf 36 = .ok (.goto (-34), 3) := dk_167 255 222 (dk_at dksX2_culpritOf_1 12 rfl rfl)
theorem dX2_culpritOf_39 : decode cX2_culpritOf 39 = .ok (.iconst (-1), 1) := dk_2 (dk_at dksX2_culpritOf_1 15 rfl rfl)
theorem dX2_culpritOf_40 : decode cX2_culpritOf 40 = .ok (.ireturn, 1) := dk_172 (dk_at dksX2_culpritOf_1 16 rfl rfl)
abbrev cX2_whyNotPut : ByteArray := prog_20_method_108_code
def yX2_whyNotPut : MethodName := ⟨RX2, "whyNotPut", "(II)I"⟩
def dkwX2_whyNotPut_1 : List UInt8 := [167, 0, 4, 3, 182, 1, 58, 153, 0, 12, 42, 27, 28, 182, 0, 137, 167, 0, 4, 3, 172]
abbrev dktX2_whyNotPut_1 : List UInt8 := dkwX2_whyNotPut_1 ++ []
def dkwX2_whyNotPut_0 : List UInt8 := [42, 42, 180, 0, 47, 42, 27, 182, 1, 68, 153, 0, 15, 42, 28, 182, 1, 71, 153, 0, 7, 4]
abbrev dktX2_whyNotPut_0 : List UInt8 := dkwX2_whyNotPut_0 ++ dktX2_whyNotPut_1
theorem dksX2_whyNotPut_0 : cX2_whyNotPut.data.toList.drop 0 = dktX2_whyNotPut_0 := by decide +kernel
theorem dksX2_whyNotPut_1 : cX2_whyNotPut.data.toList.drop 22 = dktX2_whyNotPut_1 := dk_seg dksX2_whyNotPut_0 22 rfl rfl
theorem dX2_whyNotPut_0 : decode cX2_whyNotPut 0 = .ok (.aload_n 0, 1) := dk_42 (dk_at dksX2_whyNotPut_0 0 rfl rfl)
theorem dX2_whyNotPut_1 : decode cX2_whyNotPut 1 = .ok (.aload_n 0, 1) := dk_42 (dk_at dksX2_whyNotPut_0 1 rfl rfl)
theorem dX2_whyNotPut_2 : decode cX2_whyNotPut 2 = .ok (.getfield 47, 3) := dk_180 0 47 (dk_at dksX2_whyNotPut_0 2 rfl rfl)
theorem dX2_whyNotPut_5 : decode cX2_whyNotPut 5 = .ok (.aload_n 0, 1) := dk_42 (dk_at dksX2_whyNotPut_0 5 rfl rfl)
theorem dX2_whyNotPut_6 : decode cX2_whyNotPut 6 = .ok (.iload_n 1, 1) := dk_27 (dk_at dksX2_whyNotPut_0 6 rfl rfl)
theorem dX2_whyNotPut_7 : decode cX2_whyNotPut 7 = .ok (.invokevirtual 324, 3) := dk_182 1 68 (dk_at dksX2_whyNotPut_0 7 rfl rfl)
theorem dX2_whyNotPut_10 : decode cX2_whyNotPut 10 = .ok (.ifCond .eq 15, 3) := dk_153 0 15 (dk_at dksX2_whyNotPut_0 10 rfl rfl)
theorem dX2_whyNotPut_13 : decode cX2_whyNotPut 13 = .ok (.aload_n 0, 1) := dk_42 (dk_at dksX2_whyNotPut_0 13 rfl rfl)
theorem dX2_whyNotPut_14 : decode cX2_whyNotPut 14 = .ok (.iload_n 2, 1) := dk_28 (dk_at dksX2_whyNotPut_0 14 rfl rfl)
theorem dX2_whyNotPut_15 : decode cX2_whyNotPut 15 = .ok (.invokevirtual 327, 3) := dk_182 1 71 (dk_at dksX2_whyNotPut_0 15 rfl rfl)
theorem dX2_whyNotPut_18 : decode cX2_whyNotPut 18 = .ok (.ifCond .eq 7, 3) := dk_153 0 7 (dk_at dksX2_whyNotPut_0 18 rfl rfl)
theorem dX2_whyNotPut_21 : decode cX2_whyNotPut 21 = .ok (.iconst 1, 1) := dk_4 (dk_at dksX2_whyNotPut_0 21 rfl rfl)
theorem dX2_whyNotPut_22 : decode cX2_whyNotPut 22 = .ok (.goto 4, 3) := dk_167 0 4 (dk_at dksX2_whyNotPut_1 0 rfl rfl)
theorem dX2_whyNotPut_25 : decode cX2_whyNotPut 25 = .ok (.iconst 0, 1) := dk_3 (dk_at dksX2_whyNotPut_1 3 rfl rfl)
theorem dX2_whyNotPut_26 : decode cX2_whyNotPut 26 = .ok (.invokevirtual 314, 3) := dk_182 1 58 (dk_at dksX2_whyNotPut_1 4 rfl rfl)
theorem dX2_whyNotPut_29 : decode cX2_whyNotPut 29 = .ok (.ifCond .eq 12, 3) := dk_153 0 12 (dk_at dksX2_whyNotPut_1 7 rfl rfl)
theorem dX2_whyNotPut_32 : decode cX2_whyNotPut 32 = .ok (.aload_n 0, 1) := dk_42 (dk_at dksX2_whyNotPut_1 10 rfl rfl)
theorem dX2_whyNotPut_33 : decode cX2_whyNotPut 33 = .ok (.iload_n 1, 1) := dk_27 (dk_at dksX2_whyNotPut_1 11 rfl rfl)
theorem dX2_whyNotPut_34 : decode cX2_whyNotPut 34 = .ok (.iload_n 2, 1) := dk_28 (dk_at dksX2_whyNotPut_1 12 rfl rfl)
theorem dX2_whyNotPut_35 : decode cX2_whyNotPut 35 = .ok (.invokevirtual 137, 3) := dk_182 0 137 (dk_at dksX2_whyNotPut_1 13 rfl rfl)
theorem dX2_whyNotPut_38 : decode cX2_whyNotPut 38 = .ok (.goto 4, 3) := dk_167 0 4 (dk_at dksX2_whyNotPut_1 16 rfl rfl)
theorem dX2_whyNotPut_41 : decode cX2_whyNotPut 41 = .ok (.iconst 0, 1) := dk_3 (dk_at dksX2_whyNotPut_1 19 rfl rfl)
theorem dX2_whyNotPut_42 : decode cX2_whyNotPut 42 = .ok (.ireturn, 1) := dk_172 (dk_at dksX2_whyNotPut_1 20 rfl rfl)
abbrev cX2_whyNotWash : ByteArray := prog_20_method_109_code
def yX2_whyNotWash : MethodName := ⟨RX2, "whyNotWash", "(II)I"⟩
def dkwX2_whyNotWash_0 : List UInt8 := [42, 27, 28, 182, 1, 117, 153, 0, 12, 42, 27, 28, 182, 0, 143, 167, 0, 4, 3, 172]
abbrev dktX2_whyNotWash_0 : List UInt8 := dkwX2_whyNotWash_0 ++ []
theorem dksX2_whyNotWash_0 : cX2_whyNotWash.data.toList.drop 0 = dktX2_whyNotWash_0 := by decide +kernel
theorem dX2_whyNotWash_0 : decode cX2_whyNotWash 0 = .ok (.aload_n 0, 1) := dk_42 (dk_at dksX2_whyNotWash_0 0 rfl rfl)
theorem dX2_whyNotWash_1 : decode cX2_whyNotWash 1 = .ok (.iload_n 1, 1) := dk_27 (dk_at dksX2_whyNotWash_0 1 rfl rfl)
theorem dX2_whyNotWash_2 : decode cX2_whyNotWash 2 = .ok (.iload_n 2, 1) := dk_28 (dk_at dksX2_whyNotWash_0 2 rfl rfl)
theorem dX2_whyNotWash_3 : decode cX2_whyNotWash 3 = .ok (.invokevirtual 373, 3) := dk_182 1 117 (dk_at dksX2_whyNotWash_0 3 rfl rfl)
theorem dX2_whyNotWash_6 : decode cX2_whyNotWash 6 = .ok (.ifCond .eq 12, 3) := dk_153 0 12 (dk_at dksX2_whyNotWash_0 6 rfl rfl)
theorem dX2_whyNotWash_9 : decode cX2_whyNotWash 9 = .ok (.aload_n 0, 1) := dk_42 (dk_at dksX2_whyNotWash_0 9 rfl rfl)
theorem dX2_whyNotWash_10 : decode cX2_whyNotWash 10 = .ok (.iload_n 1, 1) := dk_27 (dk_at dksX2_whyNotWash_0 10 rfl rfl)
theorem dX2_whyNotWash_11 : decode cX2_whyNotWash 11 = .ok (.iload_n 2, 1) := dk_28 (dk_at dksX2_whyNotWash_0 11 rfl rfl)
theorem dX2_whyNotWash_12 : decode cX2_whyNotWash 12 = .ok (.invokevirtual 143, 3) := dk_182 0 143 (dk_at dksX2_whyNotWash_0 12 rfl rfl)
theorem dX2_whyNotWash_15 : decode cX2_whyNotWash 15 = .ok (.goto 4, 3) := dk_167 0 4 (dk_at dksX2_whyNotWash_0 15 rfl rfl)
theorem dX2_whyNotWash_18 : decode cX2_whyNotWash 18 = .ok (.iconst 0, 1) := dk_3 (dk_at dksX2_whyNotWash_0 18 rfl rfl)
theorem dX2_whyNotWash_19 : decode cX2_whyNotWash 19 = .ok (.ireturn, 1) := dk_172 (dk_at dksX2_whyNotWash_0 19 rfl rfl)
abbrev cX2_mayHeat : ByteArray := prog_20_method_90_code
def yX2_mayHeat : MethodName := ⟨RX2, "mayHeat", "(II)Z"⟩
def dkwX2_mayHeat_0 : List UInt8 := [42, 42, 180, 0, 47, 42, 27, 182, 1, 71, 28, 184, 1, 74, 182, 0, 43, 172]
abbrev dktX2_mayHeat_0 : List UInt8 := dkwX2_mayHeat_0 ++ []
theorem dksX2_mayHeat_0 : cX2_mayHeat.data.toList.drop 0 = dktX2_mayHeat_0 := by decide +kernel
theorem dX2_mayHeat_0 : decode cX2_mayHeat 0 = .ok (.aload_n 0, 1) := dk_42 (dk_at dksX2_mayHeat_0 0 rfl rfl)
theorem dX2_mayHeat_1 : decode cX2_mayHeat 1 = .ok (.aload_n 0, 1) := dk_42 (dk_at dksX2_mayHeat_0 1 rfl rfl)
theorem dX2_mayHeat_2 : decode cX2_mayHeat 2 = .ok (.getfield 47, 3) := dk_180 0 47 (dk_at dksX2_mayHeat_0 2 rfl rfl)
theorem dX2_mayHeat_5 : decode cX2_mayHeat 5 = .ok (.aload_n 0, 1) := dk_42 (dk_at dksX2_mayHeat_0 5 rfl rfl)
theorem dX2_mayHeat_6 : decode cX2_mayHeat 6 = .ok (.iload_n 1, 1) := dk_27 (dk_at dksX2_mayHeat_0 6 rfl rfl)
theorem dX2_mayHeat_7 : decode cX2_mayHeat 7 = .ok (.invokevirtual 327, 3) := dk_182 1 71 (dk_at dksX2_mayHeat_0 7 rfl rfl)
theorem dX2_mayHeat_10 : decode cX2_mayHeat 10 = .ok (.iload_n 2, 1) := dk_28 (dk_at dksX2_mayHeat_0 10 rfl rfl)
theorem dX2_mayHeat_11 : decode cX2_mayHeat 11 = .ok (.invokestatic 330, 3) := dk_184 1 74 (dk_at dksX2_mayHeat_0 11 rfl rfl)
theorem dX2_mayHeat_14 : decode cX2_mayHeat 14 = .ok (.invokevirtual 43, 3) := dk_182 0 43 (dk_at dksX2_mayHeat_0 14 rfl rfl)
theorem dX2_mayHeat_17 : decode cX2_mayHeat 17 = .ok (.ireturn, 1) := dk_172 (dk_at dksX2_mayHeat_0 17 rfl rfl)
abbrev cX2_isHeat : ByteArray := prog_20_method_87_code
def yX2_isHeat : MethodName := ⟨RX2, "isHeat", "(I)Z"⟩
def dkwX2_isHeat_0 : List UInt8 := [26, 3, 6, 184, 0, 68, 172]
abbrev dktX2_isHeat_0 : List UInt8 := dkwX2_isHeat_0 ++ []
theorem dksX2_isHeat_0 : cX2_isHeat.data.toList.drop 0 = dktX2_isHeat_0 := by decide +kernel
theorem dX2_isHeat_0 : decode cX2_isHeat 0 = .ok (.iload_n 0, 1) := dk_26 (dk_at dksX2_isHeat_0 0 rfl rfl)
theorem dX2_isHeat_1 : decode cX2_isHeat 1 = .ok (.iconst 0, 1) := dk_3 (dk_at dksX2_isHeat_0 1 rfl rfl)
theorem dX2_isHeat_2 : decode cX2_isHeat 2 = .ok (.iconst 3, 1) := dk_6 (dk_at dksX2_isHeat_0 2 rfl rfl)
theorem dX2_isHeat_3 : decode cX2_isHeat 3 = .ok (.invokestatic 68, 3) := dk_184 0 68 (dk_at dksX2_isHeat_0 3 rfl rfl)
theorem dX2_isHeat_6 : decode cX2_isHeat 6 = .ok (.ireturn, 1) := dk_172 (dk_at dksX2_isHeat_0 6 rfl rfl)
abbrev cX2_whyNotIron : ByteArray := prog_20_method_110_code
def yX2_whyNotIron : MethodName := ⟨RX2, "whyNotIron", "(II)I"⟩
def dkwX2_whyNotIron_1 : List UInt8 := [182, 1, 120, 167, 0, 4, 3, 172]
abbrev dktX2_whyNotIron_1 : List UInt8 := dkwX2_whyNotIron_1 ++ []
def dkwX2_whyNotIron_0 : List UInt8 := [42, 42, 180, 0, 47, 42, 27, 182, 1, 68, 28, 184, 1, 74, 182, 0, 43, 153, 0, 12, 42, 27, 28]
abbrev dktX2_whyNotIron_0 : List UInt8 := dkwX2_whyNotIron_0 ++ dktX2_whyNotIron_1
theorem dksX2_whyNotIron_0 : cX2_whyNotIron.data.toList.drop 0 = dktX2_whyNotIron_0 := by decide +kernel
theorem dksX2_whyNotIron_1 : cX2_whyNotIron.data.toList.drop 23 = dktX2_whyNotIron_1 := dk_seg dksX2_whyNotIron_0 23 rfl rfl
theorem dX2_whyNotIron_0 : decode cX2_whyNotIron 0 = .ok (.aload_n 0, 1) := dk_42 (dk_at dksX2_whyNotIron_0 0 rfl rfl)
theorem dX2_whyNotIron_1 : decode cX2_whyNotIron 1 = .ok (.aload_n 0, 1) := dk_42 (dk_at dksX2_whyNotIron_0 1 rfl rfl)
theorem dX2_whyNotIron_2 : decode cX2_whyNotIron 2 = .ok (.getfield 47, 3) := dk_180 0 47 (dk_at dksX2_whyNotIron_0 2 rfl rfl)
theorem dX2_whyNotIron_5 : decode cX2_whyNotIron 5 = .ok (.aload_n 0, 1) := dk_42 (dk_at dksX2_whyNotIron_0 5 rfl rfl)
theorem dX2_whyNotIron_6 : decode cX2_whyNotIron 6 = .ok (.iload_n 1, 1) := dk_27 (dk_at dksX2_whyNotIron_0 6 rfl rfl)
theorem dX2_whyNotIron_7 : decode cX2_whyNotIron 7 = .ok (.invokevirtual 324, 3) := dk_182 1 68 (dk_at dksX2_whyNotIron_0 7 rfl rfl)
theorem dX2_whyNotIron_10 : decode cX2_whyNotIron 10 = .ok (.iload_n 2, 1) := dk_28 (dk_at dksX2_whyNotIron_0 10 rfl rfl)
theorem dX2_whyNotIron_11 : decode cX2_whyNotIron 11 = .ok (.invokestatic 330, 3) := dk_184 1 74 (dk_at dksX2_whyNotIron_0 11 rfl rfl)
theorem dX2_whyNotIron_14 : decode cX2_whyNotIron 14 = .ok (.invokevirtual 43, 3) := dk_182 0 43 (dk_at dksX2_whyNotIron_0 14 rfl rfl)
theorem dX2_whyNotIron_17 : decode cX2_whyNotIron 17 = .ok (.ifCond .eq 12, 3) := dk_153 0 12 (dk_at dksX2_whyNotIron_0 17 rfl rfl)
theorem dX2_whyNotIron_20 : decode cX2_whyNotIron 20 = .ok (.aload_n 0, 1) := dk_42 (dk_at dksX2_whyNotIron_0 20 rfl rfl)
theorem dX2_whyNotIron_21 : decode cX2_whyNotIron 21 = .ok (.iload_n 1, 1) := dk_27 (dk_at dksX2_whyNotIron_0 21 rfl rfl)
theorem dX2_whyNotIron_22 : decode cX2_whyNotIron 22 = .ok (.iload_n 2, 1) := dk_28 (dk_at dksX2_whyNotIron_0 22 rfl rfl)
theorem dX2_whyNotIron_23 : decode cX2_whyNotIron 23 = .ok (.invokevirtual 376, 3) := dk_182 1 120 (dk_at dksX2_whyNotIron_1 0 rfl rfl)
theorem dX2_whyNotIron_26 : decode cX2_whyNotIron 26 = .ok (.goto 4, 3) := dk_167 0 4 (dk_at dksX2_whyNotIron_1 3 rfl rfl)
theorem dX2_whyNotIron_29 : decode cX2_whyNotIron 29 = .ok (.iconst 0, 1) := dk_3 (dk_at dksX2_whyNotIron_1 6 rfl rfl)
theorem dX2_whyNotIron_30 : decode cX2_whyNotIron 30 = .ok (.ireturn, 1) := dk_172 (dk_at dksX2_whyNotIron_1 7 rfl rfl)
abbrev cX2_whyIron : ByteArray := prog_20_method_73_code
def yX2_whyIron : MethodName := ⟨RX2, "whyIron", "(II)I"⟩
def dkwX2_whyIron_2 : List UInt8 := [7, 172]
abbrev dktX2_whyIron_2 : List UInt8 := dkwX2_whyIron_2 ++ []
def dkwX2_whyIron_1 : List UInt8 := [7, 182, 0, 227, 6, 164, 0, 5, 6, 172, 42, 27, 16, 6, 182, 0, 227, 154, 0, 7, 3, 167, 0, 4]
abbrev dktX2_whyIron_1 : List UInt8 := dkwX2_whyIron_1 ++ dktX2_whyIron_2
def dkwX2_whyIron_0 : List UInt8 := [42, 27, 182, 0, 249, 154, 0, 5, 4, 172, 28, 42, 27, 5, 182, 0, 227, 164, 0, 5, 5, 172, 42, 27]
abbrev dktX2_whyIron_0 : List UInt8 := dkwX2_whyIron_0 ++ dktX2_whyIron_1
theorem dksX2_whyIron_0 : cX2_whyIron.data.toList.drop 0 = dktX2_whyIron_0 := by decide +kernel
theorem dksX2_whyIron_1 : cX2_whyIron.data.toList.drop 24 = dktX2_whyIron_1 := dk_seg dksX2_whyIron_0 24 rfl rfl
theorem dksX2_whyIron_2 : cX2_whyIron.data.toList.drop 48 = dktX2_whyIron_2 := dk_seg dksX2_whyIron_1 24 rfl rfl
theorem dX2_whyIron_0 : decode cX2_whyIron 0 = .ok (.aload_n 0, 1) := dk_42 (dk_at dksX2_whyIron_0 0 rfl rfl)
theorem dX2_whyIron_1 : decode cX2_whyIron 1 = .ok (.iload_n 1, 1) := dk_27 (dk_at dksX2_whyIron_0 1 rfl rfl)
theorem dX2_whyIron_2 : decode cX2_whyIron 2 = .ok (.invokevirtual 249, 3) := dk_182 0 249 (dk_at dksX2_whyIron_0 2 rfl rfl)
theorem dX2_whyIron_5 : decode cX2_whyIron 5 = .ok (.ifCond .ne 5, 3) := dk_154 0 5 (dk_at dksX2_whyIron_0 5 rfl rfl)
theorem dX2_whyIron_8 : decode cX2_whyIron 8 = .ok (.iconst 1, 1) := dk_4 (dk_at dksX2_whyIron_0 8 rfl rfl)
theorem dX2_whyIron_9 : decode cX2_whyIron 9 = .ok (.ireturn, 1) := dk_172 (dk_at dksX2_whyIron_0 9 rfl rfl)
theorem dX2_whyIron_10 : decode cX2_whyIron 10 = .ok (.iload_n 2, 1) := dk_28 (dk_at dksX2_whyIron_0 10 rfl rfl)
theorem dX2_whyIron_11 : decode cX2_whyIron 11 = .ok (.aload_n 0, 1) := dk_42 (dk_at dksX2_whyIron_0 11 rfl rfl)
theorem dX2_whyIron_12 : decode cX2_whyIron 12 = .ok (.iload_n 1, 1) := dk_27 (dk_at dksX2_whyIron_0 12 rfl rfl)
theorem dX2_whyIron_13 : decode cX2_whyIron 13 = .ok (.iconst 2, 1) := dk_5 (dk_at dksX2_whyIron_0 13 rfl rfl)
theorem dX2_whyIron_14 : decode cX2_whyIron 14 = .ok (.invokevirtual 227, 3) := dk_182 0 227 (dk_at dksX2_whyIron_0 14 rfl rfl)
theorem dX2_whyIron_17 : decode cX2_whyIron 17 = .ok (.if_icmp .le 5, 3) := dk_164 0 5 (dk_at dksX2_whyIron_0 17 rfl rfl)
theorem dX2_whyIron_20 : decode cX2_whyIron 20 = .ok (.iconst 2, 1) := dk_5 (dk_at dksX2_whyIron_0 20 rfl rfl)
theorem dX2_whyIron_21 : decode cX2_whyIron 21 = .ok (.ireturn, 1) := dk_172 (dk_at dksX2_whyIron_0 21 rfl rfl)
theorem dX2_whyIron_22 : decode cX2_whyIron 22 = .ok (.aload_n 0, 1) := dk_42 (dk_at dksX2_whyIron_0 22 rfl rfl)
theorem dX2_whyIron_23 : decode cX2_whyIron 23 = .ok (.iload_n 1, 1) := dk_27 (dk_at dksX2_whyIron_0 23 rfl rfl)
theorem dX2_whyIron_24 : decode cX2_whyIron 24 = .ok (.iconst 4, 1) := dk_7 (dk_at dksX2_whyIron_1 0 rfl rfl)
theorem dX2_whyIron_25 : decode cX2_whyIron 25 = .ok (.invokevirtual 227, 3) := dk_182 0 227 (dk_at dksX2_whyIron_1 1 rfl rfl)
theorem dX2_whyIron_28 : decode cX2_whyIron 28 = .ok (.iconst 3, 1) := dk_6 (dk_at dksX2_whyIron_1 4 rfl rfl)
theorem dX2_whyIron_29 : decode cX2_whyIron 29 = .ok (.if_icmp .le 5, 3) := dk_164 0 5 (dk_at dksX2_whyIron_1 5 rfl rfl)
theorem dX2_whyIron_32 : decode cX2_whyIron 32 = .ok (.iconst 3, 1) := dk_6 (dk_at dksX2_whyIron_1 8 rfl rfl)
theorem dX2_whyIron_33 : decode cX2_whyIron 33 = .ok (.ireturn, 1) := dk_172 (dk_at dksX2_whyIron_1 9 rfl rfl)
theorem dX2_whyIron_34 : decode cX2_whyIron 34 = .ok (.aload_n 0, 1) := dk_42 (dk_at dksX2_whyIron_1 10 rfl rfl)
theorem dX2_whyIron_35 : decode cX2_whyIron 35 = .ok (.iload_n 1, 1) := dk_27 (dk_at dksX2_whyIron_1 11 rfl rfl)
theorem dX2_whyIron_36 : decode cX2_whyIron 36 = .ok (.bipush 6, 2) := dk_16 6 (dk_at dksX2_whyIron_1 12 rfl rfl)
theorem dX2_whyIron_38 : decode cX2_whyIron 38 = .ok (.invokevirtual 227, 3) := dk_182 0 227 (dk_at dksX2_whyIron_1 14 rfl rfl)
theorem dX2_whyIron_41 : decode cX2_whyIron 41 = .ok (.ifCond .ne 7, 3) := dk_154 0 7 (dk_at dksX2_whyIron_1 17 rfl rfl)
theorem dX2_whyIron_44 : decode cX2_whyIron 44 = .ok (.iconst 0, 1) := dk_3 (dk_at dksX2_whyIron_1 20 rfl rfl)
theorem dX2_whyIron_45 : decode cX2_whyIron 45 = .ok (.goto 4, 3) := dk_167 0 4 (dk_at dksX2_whyIron_1 21 rfl rfl)
theorem dX2_whyIron_48 : decode cX2_whyIron 48 = .ok (.iconst 4, 1) := dk_7 (dk_at dksX2_whyIron_2 0 rfl rfl)
theorem dX2_whyIron_49 : decode cX2_whyIron 49 = .ok (.ireturn, 1) := dk_172 (dk_at dksX2_whyIron_2 1 rfl rfl)
abbrev cX2_whyNotBleach : ByteArray := prog_20_method_112_code
def yX2_whyNotBleach : MethodName := ⟨RX2, "whyNotBleach", "(I)I"⟩
def dkwX2_whyNotBleach_0 : List UInt8 := [42, 27, 182, 1, 111, 153, 0, 11, 42, 27, 182, 1, 123, 167, 0, 4, 3, 172]
abbrev dktX2_whyNotBleach_0 : List UInt8 := dkwX2_whyNotBleach_0 ++ []
theorem dksX2_whyNotBleach_0 : cX2_whyNotBleach.data.toList.drop 0 = dktX2_whyNotBleach_0 := by decide +kernel
theorem dX2_whyNotBleach_0 : decode cX2_whyNotBleach 0 = .ok (.aload_n 0, 1) := dk_42 (dk_at dksX2_whyNotBleach_0 0 rfl rfl)
theorem dX2_whyNotBleach_1 : decode cX2_whyNotBleach 1 = .ok (.iload_n 1, 1) := dk_27 (dk_at dksX2_whyNotBleach_0 1 rfl rfl)
theorem dX2_whyNotBleach_2 : decode cX2_whyNotBleach 2 = .ok (.invokevirtual 367, 3) := dk_182 1 111 (dk_at dksX2_whyNotBleach_0 2 rfl rfl)
theorem dX2_whyNotBleach_5 : decode cX2_whyNotBleach 5 = .ok (.ifCond .eq 11, 3) := dk_153 0 11 (dk_at dksX2_whyNotBleach_0 5 rfl rfl)
theorem dX2_whyNotBleach_8 : decode cX2_whyNotBleach 8 = .ok (.aload_n 0, 1) := dk_42 (dk_at dksX2_whyNotBleach_0 8 rfl rfl)
theorem dX2_whyNotBleach_9 : decode cX2_whyNotBleach 9 = .ok (.iload_n 1, 1) := dk_27 (dk_at dksX2_whyNotBleach_0 9 rfl rfl)
theorem dX2_whyNotBleach_10 : decode cX2_whyNotBleach 10 = .ok (.invokevirtual 379, 3) := dk_182 1 123 (dk_at dksX2_whyNotBleach_0 10 rfl rfl)
theorem dX2_whyNotBleach_13 : decode cX2_whyNotBleach 13 = .ok (.goto 4, 3) := dk_167 0 4 (dk_at dksX2_whyNotBleach_0 13 rfl rfl)
theorem dX2_whyNotBleach_16 : decode cX2_whyNotBleach 16 = .ok (.iconst 0, 1) := dk_3 (dk_at dksX2_whyNotBleach_0 16 rfl rfl)
theorem dX2_whyNotBleach_17 : decode cX2_whyNotBleach 17 = .ok (.ireturn, 1) := dk_172 (dk_at dksX2_whyNotBleach_0 17 rfl rfl)
abbrev cX2_whyBleach : ByteArray := prog_20_method_111_code
def yX2_whyBleach : MethodName := ⟨RX2, "whyBleach", "(I)I"⟩
def dkwX2_whyBleach_1 : List UInt8 := [16, 7, 182, 0, 227, 5, 160, 0, 7, 6, 167, 0, 4, 3, 172]
abbrev dktX2_whyBleach_1 : List UInt8 := dkwX2_whyBleach_1 ++ []
def dkwX2_whyBleach_0 : List UInt8 := [42, 27, 182, 0, 249, 154, 0, 5, 4, 172, 42, 27, 16, 6, 182, 0, 227, 154, 0, 5, 5, 172, 42, 27]
abbrev dktX2_whyBleach_0 : List UInt8 := dkwX2_whyBleach_0 ++ dktX2_whyBleach_1
theorem dksX2_whyBleach_0 : cX2_whyBleach.data.toList.drop 0 = dktX2_whyBleach_0 := by decide +kernel
theorem dksX2_whyBleach_1 : cX2_whyBleach.data.toList.drop 24 = dktX2_whyBleach_1 := dk_seg dksX2_whyBleach_0 24 rfl rfl
theorem dX2_whyBleach_0 : decode cX2_whyBleach 0 = .ok (.aload_n 0, 1) := dk_42 (dk_at dksX2_whyBleach_0 0 rfl rfl)
theorem dX2_whyBleach_1 : decode cX2_whyBleach 1 = .ok (.iload_n 1, 1) := dk_27 (dk_at dksX2_whyBleach_0 1 rfl rfl)
theorem dX2_whyBleach_2 : decode cX2_whyBleach 2 = .ok (.invokevirtual 249, 3) := dk_182 0 249 (dk_at dksX2_whyBleach_0 2 rfl rfl)
theorem dX2_whyBleach_5 : decode cX2_whyBleach 5 = .ok (.ifCond .ne 5, 3) := dk_154 0 5 (dk_at dksX2_whyBleach_0 5 rfl rfl)
theorem dX2_whyBleach_8 : decode cX2_whyBleach 8 = .ok (.iconst 1, 1) := dk_4 (dk_at dksX2_whyBleach_0 8 rfl rfl)
theorem dX2_whyBleach_9 : decode cX2_whyBleach 9 = .ok (.ireturn, 1) := dk_172 (dk_at dksX2_whyBleach_0 9 rfl rfl)
theorem dX2_whyBleach_10 : decode cX2_whyBleach 10 = .ok (.aload_n 0, 1) := dk_42 (dk_at dksX2_whyBleach_0 10 rfl rfl)
theorem dX2_whyBleach_11 : decode cX2_whyBleach 11 = .ok (.iload_n 1, 1) := dk_27 (dk_at dksX2_whyBleach_0 11 rfl rfl)
theorem dX2_whyBleach_12 : decode cX2_whyBleach 12 = .ok (.bipush 6, 2) := dk_16 6 (dk_at dksX2_whyBleach_0 12 rfl rfl)
theorem dX2_whyBleach_14 : decode cX2_whyBleach 14 = .ok (.invokevirtual 227, 3) := dk_182 0 227 (dk_at dksX2_whyBleach_0 14 rfl rfl)
theorem dX2_whyBleach_17 : decode cX2_whyBleach 17 = .ok (.ifCond .ne 5, 3) := dk_154 0 5 (dk_at dksX2_whyBleach_0 17 rfl rfl)
theorem dX2_whyBleach_20 : decode cX2_whyBleach 20 = .ok (.iconst 2, 1) := dk_5 (dk_at dksX2_whyBleach_0 20 rfl rfl)
theorem dX2_whyBleach_21 : decode cX2_whyBleach 21 = .ok (.ireturn, 1) := dk_172 (dk_at dksX2_whyBleach_0 21 rfl rfl)
theorem dX2_whyBleach_22 : decode cX2_whyBleach 22 = .ok (.aload_n 0, 1) := dk_42 (dk_at dksX2_whyBleach_0 22 rfl rfl)
theorem dX2_whyBleach_23 : decode cX2_whyBleach 23 = .ok (.iload_n 1, 1) := dk_27 (dk_at dksX2_whyBleach_0 23 rfl rfl)
theorem dX2_whyBleach_24 : decode cX2_whyBleach 24 = .ok (.bipush 7, 2) := dk_16 7 (dk_at dksX2_whyBleach_1 0 rfl rfl)
theorem dX2_whyBleach_26 : decode cX2_whyBleach 26 = .ok (.invokevirtual 227, 3) := dk_182 0 227 (dk_at dksX2_whyBleach_1 2 rfl rfl)
theorem dX2_whyBleach_29 : decode cX2_whyBleach 29 = .ok (.iconst 2, 1) := dk_5 (dk_at dksX2_whyBleach_1 5 rfl rfl)
theorem dX2_whyBleach_30 : decode cX2_whyBleach 30 = .ok (.if_icmp .ne 7, 3) := dk_160 0 7 (dk_at dksX2_whyBleach_1 6 rfl rfl)
theorem dX2_whyBleach_33 : decode cX2_whyBleach 33 = .ok (.iconst 3, 1) := dk_6 (dk_at dksX2_whyBleach_1 9 rfl rfl)
theorem dX2_whyBleach_34 : decode cX2_whyBleach 34 = .ok (.goto 4, 3) := dk_167 0 4 (dk_at dksX2_whyBleach_1 10 rfl rfl)
theorem dX2_whyBleach_37 : decode cX2_whyBleach 37 = .ok (.iconst 0, 1) := dk_3 (dk_at dksX2_whyBleach_1 13 rfl rfl)
theorem dX2_whyBleach_38 : decode cX2_whyBleach 38 = .ok (.ireturn, 1) := dk_172 (dk_at dksX2_whyBleach_1 14 rfl rfl)
abbrev cX2_running : ByteArray := prog_20_method_113_code
def yX2_running : MethodName := ⟨RX2, "running", "(II)I"⟩
def dkwX2_running_0 : List UInt8 := [42, 27, 28, 182, 1, 117, 153, 0, 12, 42, 27, 28, 182, 1, 13, 167, 0, 4, 3, 172]
abbrev dktX2_running_0 : List UInt8 := dkwX2_running_0 ++ []
theorem dksX2_running_0 : cX2_running.data.toList.drop 0 = dktX2_running_0 := by decide +kernel
theorem dX2_running_0 : decode cX2_running 0 = .ok (.aload_n 0, 1) := dk_42 (dk_at dksX2_running_0 0 rfl rfl)
theorem dX2_running_1 : decode cX2_running 1 = .ok (.iload_n 1, 1) := dk_27 (dk_at dksX2_running_0 1 rfl rfl)
theorem dX2_running_2 : decode cX2_running 2 = .ok (.iload_n 2, 1) := dk_28 (dk_at dksX2_running_0 2 rfl rfl)
theorem dX2_running_3 : decode cX2_running 3 = .ok (.invokevirtual 373, 3) := dk_182 1 117 (dk_at dksX2_running_0 3 rfl rfl)
theorem dX2_running_6 : decode cX2_running 6 = .ok (.ifCond .eq 12, 3) := dk_153 0 12 (dk_at dksX2_running_0 6 rfl rfl)
theorem dX2_running_9 : decode cX2_running 9 = .ok (.aload_n 0, 1) := dk_42 (dk_at dksX2_running_0 9 rfl rfl)
theorem dX2_running_10 : decode cX2_running 10 = .ok (.iload_n 1, 1) := dk_27 (dk_at dksX2_running_0 10 rfl rfl)
theorem dX2_running_11 : decode cX2_running 11 = .ok (.iload_n 2, 1) := dk_28 (dk_at dksX2_running_0 11 rfl rfl)
theorem dX2_running_12 : decode cX2_running 12 = .ok (.invokevirtual 269, 3) := dk_182 1 13 (dk_at dksX2_running_0 12 rfl rfl)
theorem dX2_running_15 : decode cX2_running 15 = .ok (.goto 4, 3) := dk_167 0 4 (dk_at dksX2_running_0 15 rfl rfl)
theorem dX2_running_18 : decode cX2_running 18 = .ok (.iconst 0, 1) := dk_3 (dk_at dksX2_running_0 18 rfl rfl)
theorem dX2_running_19 : decode cX2_running 19 = .ok (.ireturn, 1) := dk_172 (dk_at dksX2_running_0 19 rfl rfl)
abbrev cX2_stainedIf : ByteArray := prog_20_method_114_code
def yX2_stainedIf : MethodName := ⟨RX2, "stainedIf", "(II)I"⟩
def dkwX2_stainedIf_0 : List UInt8 := [42, 27, 28, 182, 1, 117, 153, 0, 12, 42, 27, 28, 182, 1, 25, 167, 0, 4, 3, 172]
abbrev dktX2_stainedIf_0 : List UInt8 := dkwX2_stainedIf_0 ++ []
theorem dksX2_stainedIf_0 : cX2_stainedIf.data.toList.drop 0 = dktX2_stainedIf_0 := by decide +kernel
theorem dX2_stainedIf_0 : decode cX2_stainedIf 0 = .ok (.aload_n 0, 1) := dk_42 (dk_at dksX2_stainedIf_0 0 rfl rfl)
theorem dX2_stainedIf_1 : decode cX2_stainedIf 1 = .ok (.iload_n 1, 1) := dk_27 (dk_at dksX2_stainedIf_0 1 rfl rfl)
theorem dX2_stainedIf_2 : decode cX2_stainedIf 2 = .ok (.iload_n 2, 1) := dk_28 (dk_at dksX2_stainedIf_0 2 rfl rfl)
theorem dX2_stainedIf_3 : decode cX2_stainedIf 3 = .ok (.invokevirtual 373, 3) := dk_182 1 117 (dk_at dksX2_stainedIf_0 3 rfl rfl)
theorem dX2_stainedIf_6 : decode cX2_stainedIf 6 = .ok (.ifCond .eq 12, 3) := dk_153 0 12 (dk_at dksX2_stainedIf_0 6 rfl rfl)
theorem dX2_stainedIf_9 : decode cX2_stainedIf 9 = .ok (.aload_n 0, 1) := dk_42 (dk_at dksX2_stainedIf_0 9 rfl rfl)
theorem dX2_stainedIf_10 : decode cX2_stainedIf 10 = .ok (.iload_n 1, 1) := dk_27 (dk_at dksX2_stainedIf_0 10 rfl rfl)
theorem dX2_stainedIf_11 : decode cX2_stainedIf 11 = .ok (.iload_n 2, 1) := dk_28 (dk_at dksX2_stainedIf_0 11 rfl rfl)
theorem dX2_stainedIf_12 : decode cX2_stainedIf 12 = .ok (.invokevirtual 281, 3) := dk_182 1 25 (dk_at dksX2_stainedIf_0 12 rfl rfl)
theorem dX2_stainedIf_15 : decode cX2_stainedIf 15 = .ok (.goto 4, 3) := dk_167 0 4 (dk_at dksX2_stainedIf_0 15 rfl rfl)
theorem dX2_stainedIf_18 : decode cX2_stainedIf 18 = .ok (.iconst 0, 1) := dk_3 (dk_at dksX2_stainedIf_0 18 rfl rfl)
theorem dX2_stainedIf_19 : decode cX2_stainedIf 19 = .ok (.ireturn, 1) := dk_172 (dk_at dksX2_stainedIf_0 19 rfl rfl)
abbrev cX2_dirtIf : ByteArray := prog_20_method_115_code
def yX2_dirtIf : MethodName := ⟨RX2, "dirtIf", "(II)I"⟩
def dkwX2_dirtIf_0 : List UInt8 := [42, 27, 28, 182, 1, 117, 153, 0, 12, 42, 27, 28, 182, 1, 126, 167, 0, 4, 3, 172]
abbrev dktX2_dirtIf_0 : List UInt8 := dkwX2_dirtIf_0 ++ []
theorem dksX2_dirtIf_0 : cX2_dirtIf.data.toList.drop 0 = dktX2_dirtIf_0 := by decide +kernel
theorem dX2_dirtIf_0 : decode cX2_dirtIf 0 = .ok (.aload_n 0, 1) := dk_42 (dk_at dksX2_dirtIf_0 0 rfl rfl)
theorem dX2_dirtIf_1 : decode cX2_dirtIf 1 = .ok (.iload_n 1, 1) := dk_27 (dk_at dksX2_dirtIf_0 1 rfl rfl)
theorem dX2_dirtIf_2 : decode cX2_dirtIf 2 = .ok (.iload_n 2, 1) := dk_28 (dk_at dksX2_dirtIf_0 2 rfl rfl)
theorem dX2_dirtIf_3 : decode cX2_dirtIf 3 = .ok (.invokevirtual 373, 3) := dk_182 1 117 (dk_at dksX2_dirtIf_0 3 rfl rfl)
theorem dX2_dirtIf_6 : decode cX2_dirtIf 6 = .ok (.ifCond .eq 12, 3) := dk_153 0 12 (dk_at dksX2_dirtIf_0 6 rfl rfl)
theorem dX2_dirtIf_9 : decode cX2_dirtIf 9 = .ok (.aload_n 0, 1) := dk_42 (dk_at dksX2_dirtIf_0 9 rfl rfl)
theorem dX2_dirtIf_10 : decode cX2_dirtIf 10 = .ok (.iload_n 1, 1) := dk_27 (dk_at dksX2_dirtIf_0 10 rfl rfl)
theorem dX2_dirtIf_11 : decode cX2_dirtIf 11 = .ok (.iload_n 2, 1) := dk_28 (dk_at dksX2_dirtIf_0 11 rfl rfl)
theorem dX2_dirtIf_12 : decode cX2_dirtIf 12 = .ok (.invokevirtual 382, 3) := dk_182 1 126 (dk_at dksX2_dirtIf_0 12 rfl rfl)
theorem dX2_dirtIf_15 : decode cX2_dirtIf 15 = .ok (.goto 4, 3) := dk_167 0 4 (dk_at dksX2_dirtIf_0 15 rfl rfl)
theorem dX2_dirtIf_18 : decode cX2_dirtIf 18 = .ok (.iconst 0, 1) := dk_3 (dk_at dksX2_dirtIf_0 18 rfl rfl)
theorem dX2_dirtIf_19 : decode cX2_dirtIf 19 = .ok (.ireturn, 1) := dk_172 (dk_at dksX2_dirtIf_0 19 rfl rfl)
abbrev cX2_dirtBy : ByteArray := prog_20_method_62_code
def yX2_dirtBy : MethodName := ⟨RX2, "dirtBy", "(II)I"⟩
def dkwX2_dirtBy_2 : List UInt8 := [167, 255, 217, 29, 172]
abbrev dktX2_dirtBy_2 : List UInt8 := dkwX2_dirtBy_2 ++ []
def dkwX2_dirtBy_1 : List UInt8 := [182, 0, 242, 153, 0, 13, 42, 21, 4, 28, 182, 1, 22, 167, 0, 4, 3, 96, 62, 132, 4, 1]
abbrev dktX2_dirtBy_1 : List UInt8 := dkwX2_dirtBy_1 ++ dktX2_dirtBy_2
def dkwX2_dirtBy_0 : List UInt8 := [3, 62, 3, 54, 4, 21, 4, 42, 180, 0, 9, 16, 10, 46, 162, 0, 33, 29, 42, 21, 4, 27]
abbrev dktX2_dirtBy_0 : List UInt8 := dkwX2_dirtBy_0 ++ dktX2_dirtBy_1
theorem dksX2_dirtBy_0 : cX2_dirtBy.data.toList.drop 0 = dktX2_dirtBy_0 := by decide +kernel
theorem dksX2_dirtBy_1 : cX2_dirtBy.data.toList.drop 22 = dktX2_dirtBy_1 := dk_seg dksX2_dirtBy_0 22 rfl rfl
theorem dksX2_dirtBy_2 : cX2_dirtBy.data.toList.drop 44 = dktX2_dirtBy_2 := dk_seg dksX2_dirtBy_1 22 rfl rfl
theorem dX2_dirtBy_0 : decode cX2_dirtBy 0 = .ok (.iconst 0, 1) := dk_3 (dk_at dksX2_dirtBy_0 0 rfl rfl)
theorem dX2_dirtBy_1 : decode cX2_dirtBy 1 = .ok (.istore_n 3, 1) := dk_62 (dk_at dksX2_dirtBy_0 1 rfl rfl)
theorem dX2_dirtBy_2 : decode cX2_dirtBy 2 = .ok (.iconst 0, 1) := dk_3 (dk_at dksX2_dirtBy_0 2 rfl rfl)
theorem dX2_dirtBy_3 : decode cX2_dirtBy 3 = .ok (.istore 4, 2) := dk_54 4 (dk_at dksX2_dirtBy_0 3 rfl rfl)
theorem dX2_dirtBy_5 : decode cX2_dirtBy 5 = .ok (.iload 4, 2) := dk_21 4 (dk_at dksX2_dirtBy_0 5 rfl rfl)
theorem dX2_dirtBy_7 : decode cX2_dirtBy 7 = .ok (.aload_n 0, 1) := dk_42 (dk_at dksX2_dirtBy_0 7 rfl rfl)
theorem dX2_dirtBy_8 : decode cX2_dirtBy 8 = .ok (.getfield 9, 3) := dk_180 0 9 (dk_at dksX2_dirtBy_0 8 rfl rfl)
theorem dX2_dirtBy_11 : decode cX2_dirtBy 11 = .ok (.bipush 10, 2) := dk_16 10 (dk_at dksX2_dirtBy_0 11 rfl rfl)
theorem dX2_dirtBy_13 : decode cX2_dirtBy 13 = .ok (.iaload, 1) := dk_46 (dk_at dksX2_dirtBy_0 13 rfl rfl)
theorem dX2_dirtBy_14 : decode cX2_dirtBy 14 = .ok (.if_icmp .ge 33, 3) := dk_162 0 33 (dk_at dksX2_dirtBy_0 14 rfl rfl)
theorem dX2_dirtBy_17 : decode cX2_dirtBy 17 = .ok (.iload_n 3, 1) := dk_29 (dk_at dksX2_dirtBy_0 17 rfl rfl)
theorem dX2_dirtBy_18 : decode cX2_dirtBy 18 = .ok (.aload_n 0, 1) := dk_42 (dk_at dksX2_dirtBy_0 18 rfl rfl)
theorem dX2_dirtBy_19 : decode cX2_dirtBy 19 = .ok (.iload 4, 2) := dk_21 4 (dk_at dksX2_dirtBy_0 19 rfl rfl)
theorem dX2_dirtBy_21 : decode cX2_dirtBy 21 = .ok (.iload_n 1, 1) := dk_27 (dk_at dksX2_dirtBy_0 21 rfl rfl)
theorem dX2_dirtBy_22 : decode cX2_dirtBy 22 = .ok (.invokevirtual 242, 3) := dk_182 0 242 (dk_at dksX2_dirtBy_1 0 rfl rfl)
theorem dX2_dirtBy_25 : decode cX2_dirtBy 25 = .ok (.ifCond .eq 13, 3) := dk_153 0 13 (dk_at dksX2_dirtBy_1 3 rfl rfl)
theorem dX2_dirtBy_28 : decode cX2_dirtBy 28 = .ok (.aload_n 0, 1) := dk_42 (dk_at dksX2_dirtBy_1 6 rfl rfl)
theorem dX2_dirtBy_29 : decode cX2_dirtBy 29 = .ok (.iload 4, 2) := dk_21 4 (dk_at dksX2_dirtBy_1 7 rfl rfl)
theorem dX2_dirtBy_31 : decode cX2_dirtBy 31 = .ok (.iload_n 2, 1) := dk_28 (dk_at dksX2_dirtBy_1 9 rfl rfl)
theorem dX2_dirtBy_32 : decode cX2_dirtBy 32 = .ok (.invokevirtual 278, 3) := dk_182 1 22 (dk_at dksX2_dirtBy_1 10 rfl rfl)
theorem dX2_dirtBy_35 : decode cX2_dirtBy 35 = .ok (.goto 4, 3) := dk_167 0 4 (dk_at dksX2_dirtBy_1 13 rfl rfl)
theorem dX2_dirtBy_38 : decode cX2_dirtBy 38 = .ok (.iconst 0, 1) := dk_3 (dk_at dksX2_dirtBy_1 16 rfl rfl)
theorem dX2_dirtBy_39 : decode cX2_dirtBy 39 = .ok (.iadd, 1) := dk_96 (dk_at dksX2_dirtBy_1 17 rfl rfl)
theorem dX2_dirtBy_40 : decode cX2_dirtBy 40 = .ok (.istore_n 3, 1) := dk_62 (dk_at dksX2_dirtBy_1 18 rfl rfl)
theorem dX2_dirtBy_41 : decode cX2_dirtBy 41 = .ok (.iinc 4 1, 3) := dk_132 4 1 (dk_at dksX2_dirtBy_1 19 rfl rfl)
theorem dX2_dirtBy_44 : decode cX2_dirtBy 44 = .ok (.goto (-39), 3) := dk_167 255 217 (dk_at dksX2_dirtBy_2 0 rfl rfl)
theorem dX2_dirtBy_47 : decode cX2_dirtBy 47 = .ok (.iload_n 3, 1) := dk_29 (dk_at dksX2_dirtBy_2 3 rfl rfl)
theorem dX2_dirtBy_48 : decode cX2_dirtBy 48 = .ok (.ireturn, 1) := dk_172 (dk_at dksX2_dirtBy_2 4 rfl rfl)
abbrev cX2_bestHeat : ByteArray := prog_20_method_117_code
def yX2_bestHeat : MethodName := ⟨RX2, "bestHeat", "(I)I"⟩
def dkwX2_bestHeat_2 : List UInt8 := [167, 255, 232, 28, 172]
abbrev dktX2_bestHeat_2 : List UInt8 := dkwX2_bestHeat_2 ++ []
def dkwX2_bestHeat_1 : List UInt8 := [29, 42, 27, 182, 1, 4, 163, 0, 21, 42, 27, 29, 28, 182, 1, 129, 153, 0, 5, 29, 61, 132, 3, 1]
abbrev dktX2_bestHeat_1 : List UInt8 := dkwX2_bestHeat_1 ++ dktX2_bestHeat_2
def dkwX2_bestHeat_0 : List UInt8 := [42, 27, 182, 1, 98, 154, 0, 5, 3, 172, 42, 27, 182, 0, 252, 154, 0, 5, 2, 172, 3, 61, 4, 62]
abbrev dktX2_bestHeat_0 : List UInt8 := dkwX2_bestHeat_0 ++ dktX2_bestHeat_1
theorem dksX2_bestHeat_0 : cX2_bestHeat.data.toList.drop 0 = dktX2_bestHeat_0 := by decide +kernel
theorem dksX2_bestHeat_1 : cX2_bestHeat.data.toList.drop 24 = dktX2_bestHeat_1 := dk_seg dksX2_bestHeat_0 24 rfl rfl
theorem dksX2_bestHeat_2 : cX2_bestHeat.data.toList.drop 48 = dktX2_bestHeat_2 := dk_seg dksX2_bestHeat_1 24 rfl rfl
theorem dX2_bestHeat_0 : decode cX2_bestHeat 0 = .ok (.aload_n 0, 1) := dk_42 (dk_at dksX2_bestHeat_0 0 rfl rfl)
theorem dX2_bestHeat_1 : decode cX2_bestHeat 1 = .ok (.iload_n 1, 1) := dk_27 (dk_at dksX2_bestHeat_0 1 rfl rfl)
theorem dX2_bestHeat_2 : decode cX2_bestHeat 2 = .ok (.invokevirtual 354, 3) := dk_182 1 98 (dk_at dksX2_bestHeat_0 2 rfl rfl)
theorem dX2_bestHeat_5 : decode cX2_bestHeat 5 = .ok (.ifCond .ne 5, 3) := dk_154 0 5 (dk_at dksX2_bestHeat_0 5 rfl rfl)
theorem dX2_bestHeat_8 : decode cX2_bestHeat 8 = .ok (.iconst 0, 1) := dk_3 (dk_at dksX2_bestHeat_0 8 rfl rfl)
theorem dX2_bestHeat_9 : decode cX2_bestHeat 9 = .ok (.ireturn, 1) := dk_172 (dk_at dksX2_bestHeat_0 9 rfl rfl)
theorem dX2_bestHeat_10 : decode cX2_bestHeat 10 = .ok (.aload_n 0, 1) := dk_42 (dk_at dksX2_bestHeat_0 10 rfl rfl)
theorem dX2_bestHeat_11 : decode cX2_bestHeat 11 = .ok (.iload_n 1, 1) := dk_27 (dk_at dksX2_bestHeat_0 11 rfl rfl)
theorem dX2_bestHeat_12 : decode cX2_bestHeat 12 = .ok (.invokevirtual 252, 3) := dk_182 0 252 (dk_at dksX2_bestHeat_0 12 rfl rfl)
theorem dX2_bestHeat_15 : decode cX2_bestHeat 15 = .ok (.ifCond .ne 5, 3) := dk_154 0 5 (dk_at dksX2_bestHeat_0 15 rfl rfl)
theorem dX2_bestHeat_18 : decode cX2_bestHeat 18 = .ok (.iconst (-1), 1) := dk_2 (dk_at dksX2_bestHeat_0 18 rfl rfl)
theorem dX2_bestHeat_19 : decode cX2_bestHeat 19 = .ok (.ireturn, 1) := dk_172 (dk_at dksX2_bestHeat_0 19 rfl rfl)
theorem dX2_bestHeat_20 : decode cX2_bestHeat 20 = .ok (.iconst 0, 1) := dk_3 (dk_at dksX2_bestHeat_0 20 rfl rfl)
theorem dX2_bestHeat_21 : decode cX2_bestHeat 21 = .ok (.istore_n 2, 1) := dk_61 (dk_at dksX2_bestHeat_0 21 rfl rfl)
theorem dX2_bestHeat_22 : decode cX2_bestHeat 22 = .ok (.iconst 1, 1) := dk_4 (dk_at dksX2_bestHeat_0 22 rfl rfl)
theorem dX2_bestHeat_23 : decode cX2_bestHeat 23 = .ok (.istore_n 3, 1) := dk_62 (dk_at dksX2_bestHeat_0 23 rfl rfl)
theorem dX2_bestHeat_24 : decode cX2_bestHeat 24 = .ok (.iload_n 3, 1) := dk_29 (dk_at dksX2_bestHeat_1 0 rfl rfl)
theorem dX2_bestHeat_25 : decode cX2_bestHeat 25 = .ok (.aload_n 0, 1) := dk_42 (dk_at dksX2_bestHeat_1 1 rfl rfl)
theorem dX2_bestHeat_26 : decode cX2_bestHeat 26 = .ok (.iload_n 1, 1) := dk_27 (dk_at dksX2_bestHeat_1 2 rfl rfl)
theorem dX2_bestHeat_27 : decode cX2_bestHeat 27 = .ok (.invokevirtual 260, 3) := dk_182 1 4 (dk_at dksX2_bestHeat_1 3 rfl rfl)
theorem dX2_bestHeat_30 : decode cX2_bestHeat 30 = .ok (.if_icmp .gt 21, 3) := dk_163 0 21 (dk_at dksX2_bestHeat_1 6 rfl rfl)
theorem dX2_bestHeat_33 : decode cX2_bestHeat 33 = .ok (.aload_n 0, 1) := dk_42 (dk_at dksX2_bestHeat_1 9 rfl rfl)
theorem dX2_bestHeat_34 : decode cX2_bestHeat 34 = .ok (.iload_n 1, 1) := dk_27 (dk_at dksX2_bestHeat_1 10 rfl rfl)
theorem dX2_bestHeat_35 : decode cX2_bestHeat 35 = .ok (.iload_n 3, 1) := dk_29 (dk_at dksX2_bestHeat_1 11 rfl rfl)
theorem dX2_bestHeat_36 : decode cX2_bestHeat 36 = .ok (.iload_n 2, 1) := dk_28 (dk_at dksX2_bestHeat_1 12 rfl rfl)
theorem dX2_bestHeat_37 : decode cX2_bestHeat 37 = .ok (.invokevirtual 385, 3) := dk_182 1 129 (dk_at dksX2_bestHeat_1 13 rfl rfl)
theorem dX2_bestHeat_40 : decode cX2_bestHeat 40 = .ok (.ifCond .eq 5, 3) := dk_153 0 5 (dk_at dksX2_bestHeat_1 16 rfl rfl)
theorem dX2_bestHeat_43 : decode cX2_bestHeat 43 = .ok (.iload_n 3, 1) := dk_29 (dk_at dksX2_bestHeat_1 19 rfl rfl)
theorem dX2_bestHeat_44 : decode cX2_bestHeat 44 = .ok (.istore_n 2, 1) := dk_61 (dk_at dksX2_bestHeat_1 20 rfl rfl)
theorem dX2_bestHeat_45 : decode cX2_bestHeat 45 = .ok (.iinc 3 1, 3) := dk_132 3 1 (dk_at dksX2_bestHeat_1 21 rfl rfl)
theorem dX2_bestHeat_48 : decode cX2_bestHeat 48 = .ok (.goto (-24), 3) := dk_167 255 232 (dk_at dksX2_bestHeat_2 0 rfl rfl)
theorem dX2_bestHeat_51 : decode cX2_bestHeat 51 = .ok (.iload_n 2, 1) := dk_28 (dk_at dksX2_bestHeat_2 3 rfl rfl)
theorem dX2_bestHeat_52 : decode cX2_bestHeat 52 = .ok (.ireturn, 1) := dk_172 (dk_at dksX2_bestHeat_2 4 rfl rfl)
abbrev cX2_isBetterHeat : ByteArray := prog_20_method_116_code
def yX2_isBetterHeat : MethodName := ⟨RX2, "isBetterHeat", "(III)Z"⟩
def dkwX2_isBetterHeat_1 : List UInt8 := [154, 0, 22, 42, 27, 28, 182, 1, 126, 42, 27, 29, 182, 1, 126, 162, 0, 7, 4, 167, 0, 4, 3, 172]
abbrev dktX2_isBetterHeat_1 : List UInt8 := dkwX2_isBetterHeat_1 ++ []
def dkwX2_isBetterHeat_0 : List UInt8 := [42, 27, 28, 182, 1, 25, 42, 27, 29, 182, 1, 25, 100, 54, 4, 21, 4, 155, 0, 23, 21, 4]
abbrev dktX2_isBetterHeat_0 : List UInt8 := dkwX2_isBetterHeat_0 ++ dktX2_isBetterHeat_1
theorem dksX2_isBetterHeat_0 : cX2_isBetterHeat.data.toList.drop 0 = dktX2_isBetterHeat_0 := by decide +kernel
theorem dksX2_isBetterHeat_1 : cX2_isBetterHeat.data.toList.drop 22 = dktX2_isBetterHeat_1 := dk_seg dksX2_isBetterHeat_0 22 rfl rfl
theorem dX2_isBetterHeat_0 : decode cX2_isBetterHeat 0 = .ok (.aload_n 0, 1) := dk_42 (dk_at dksX2_isBetterHeat_0 0 rfl rfl)
theorem dX2_isBetterHeat_1 : decode cX2_isBetterHeat 1 = .ok (.iload_n 1, 1) := dk_27 (dk_at dksX2_isBetterHeat_0 1 rfl rfl)
theorem dX2_isBetterHeat_2 : decode cX2_isBetterHeat 2 = .ok (.iload_n 2, 1) := dk_28 (dk_at dksX2_isBetterHeat_0 2 rfl rfl)
theorem dX2_isBetterHeat_3 : decode cX2_isBetterHeat 3 = .ok (.invokevirtual 281, 3) := dk_182 1 25 (dk_at dksX2_isBetterHeat_0 3 rfl rfl)
theorem dX2_isBetterHeat_6 : decode cX2_isBetterHeat 6 = .ok (.aload_n 0, 1) := dk_42 (dk_at dksX2_isBetterHeat_0 6 rfl rfl)
theorem dX2_isBetterHeat_7 : decode cX2_isBetterHeat 7 = .ok (.iload_n 1, 1) := dk_27 (dk_at dksX2_isBetterHeat_0 7 rfl rfl)
theorem dX2_isBetterHeat_8 : decode cX2_isBetterHeat 8 = .ok (.iload_n 3, 1) := dk_29 (dk_at dksX2_isBetterHeat_0 8 rfl rfl)
theorem dX2_isBetterHeat_9 : decode cX2_isBetterHeat 9 = .ok (.invokevirtual 281, 3) := dk_182 1 25 (dk_at dksX2_isBetterHeat_0 9 rfl rfl)
theorem dX2_isBetterHeat_12 : decode cX2_isBetterHeat 12 = .ok (.isub, 1) := dk_100 (dk_at dksX2_isBetterHeat_0 12 rfl rfl)
theorem dX2_isBetterHeat_13 : decode cX2_isBetterHeat 13 = .ok (.istore 4, 2) := dk_54 4 (dk_at dksX2_isBetterHeat_0 13 rfl rfl)
theorem dX2_isBetterHeat_15 : decode cX2_isBetterHeat 15 = .ok (.iload 4, 2) := dk_21 4 (dk_at dksX2_isBetterHeat_0 15 rfl rfl)
theorem dX2_isBetterHeat_17 : decode cX2_isBetterHeat 17 = .ok (.ifCond .lt 23, 3) := dk_155 0 23 (dk_at dksX2_isBetterHeat_0 17 rfl rfl)
theorem dX2_isBetterHeat_20 : decode cX2_isBetterHeat 20 = .ok (.iload 4, 2) := dk_21 4 (dk_at dksX2_isBetterHeat_0 20 rfl rfl)
theorem dX2_isBetterHeat_22 : decode cX2_isBetterHeat 22 = .ok (.ifCond .ne 22, 3) := dk_154 0 22 (dk_at dksX2_isBetterHeat_1 0 rfl rfl)
theorem dX2_isBetterHeat_25 : decode cX2_isBetterHeat 25 = .ok (.aload_n 0, 1) := dk_42 (dk_at dksX2_isBetterHeat_1 3 rfl rfl)
theorem dX2_isBetterHeat_26 : decode cX2_isBetterHeat 26 = .ok (.iload_n 1, 1) := dk_27 (dk_at dksX2_isBetterHeat_1 4 rfl rfl)
theorem dX2_isBetterHeat_27 : decode cX2_isBetterHeat 27 = .ok (.iload_n 2, 1) := dk_28 (dk_at dksX2_isBetterHeat_1 5 rfl rfl)
theorem dX2_isBetterHeat_28 : decode cX2_isBetterHeat 28 = .ok (.invokevirtual 382, 3) := dk_182 1 126 (dk_at dksX2_isBetterHeat_1 6 rfl rfl)
theorem dX2_isBetterHeat_31 : decode cX2_isBetterHeat 31 = .ok (.aload_n 0, 1) := dk_42 (dk_at dksX2_isBetterHeat_1 9 rfl rfl)
theorem dX2_isBetterHeat_32 : decode cX2_isBetterHeat 32 = .ok (.iload_n 1, 1) := dk_27 (dk_at dksX2_isBetterHeat_1 10 rfl rfl)
theorem dX2_isBetterHeat_33 : decode cX2_isBetterHeat 33 = .ok (.iload_n 3, 1) := dk_29 (dk_at dksX2_isBetterHeat_1 11 rfl rfl)
theorem dX2_isBetterHeat_34 : decode cX2_isBetterHeat 34 = .ok (.invokevirtual 382, 3) := dk_182 1 126 (dk_at dksX2_isBetterHeat_1 12 rfl rfl)
theorem dX2_isBetterHeat_37 : decode cX2_isBetterHeat 37 = .ok (.if_icmp .ge 7, 3) := dk_162 0 7 (dk_at dksX2_isBetterHeat_1 15 rfl rfl)
theorem dX2_isBetterHeat_40 : decode cX2_isBetterHeat 40 = .ok (.iconst 1, 1) := dk_4 (dk_at dksX2_isBetterHeat_1 18 rfl rfl)
theorem dX2_isBetterHeat_41 : decode cX2_isBetterHeat 41 = .ok (.goto 4, 3) := dk_167 0 4 (dk_at dksX2_isBetterHeat_1 19 rfl rfl)
theorem dX2_isBetterHeat_44 : decode cX2_isBetterHeat 44 = .ok (.iconst 0, 1) := dk_3 (dk_at dksX2_isBetterHeat_1 22 rfl rfl)
theorem dX2_isBetterHeat_45 : decode cX2_isBetterHeat 45 = .ok (.ireturn, 1) := dk_172 (dk_at dksX2_isBetterHeat_1 23 rfl rfl)
abbrev cX2_firstSafe : ByteArray := prog_20_method_119_code
def yX2_firstSafe : MethodName := ⟨RX2, "firstSafe", "(II)I"⟩
def dkwX2_firstSafe_1 : List UInt8 := [42, 29, 27, 28, 182, 1, 132, 153, 0, 5, 29, 172, 132, 3, 1, 167, 255, 230, 2, 172]
abbrev dktX2_firstSafe_1 : List UInt8 := dkwX2_firstSafe_1 ++ []
def dkwX2_firstSafe_0 : List UInt8 := [42, 27, 28, 182, 1, 117, 154, 0, 5, 3, 172, 3, 62, 29, 42, 180, 0, 9, 16, 10, 46, 162, 0, 21]
abbrev dktX2_firstSafe_0 : List UInt8 := dkwX2_firstSafe_0 ++ dktX2_firstSafe_1
theorem dksX2_firstSafe_0 : cX2_firstSafe.data.toList.drop 0 = dktX2_firstSafe_0 := by decide +kernel
theorem dksX2_firstSafe_1 : cX2_firstSafe.data.toList.drop 24 = dktX2_firstSafe_1 := dk_seg dksX2_firstSafe_0 24 rfl rfl
theorem dX2_firstSafe_0 : decode cX2_firstSafe 0 = .ok (.aload_n 0, 1) := dk_42 (dk_at dksX2_firstSafe_0 0 rfl rfl)
theorem dX2_firstSafe_1 : decode cX2_firstSafe 1 = .ok (.iload_n 1, 1) := dk_27 (dk_at dksX2_firstSafe_0 1 rfl rfl)
theorem dX2_firstSafe_2 : decode cX2_firstSafe 2 = .ok (.iload_n 2, 1) := dk_28 (dk_at dksX2_firstSafe_0 2 rfl rfl)
theorem dX2_firstSafe_3 : decode cX2_firstSafe 3 = .ok (.invokevirtual 373, 3) := dk_182 1 117 (dk_at dksX2_firstSafe_0 3 rfl rfl)
theorem dX2_firstSafe_6 : decode cX2_firstSafe 6 = .ok (.ifCond .ne 5, 3) := dk_154 0 5 (dk_at dksX2_firstSafe_0 6 rfl rfl)
theorem dX2_firstSafe_9 : decode cX2_firstSafe 9 = .ok (.iconst 0, 1) := dk_3 (dk_at dksX2_firstSafe_0 9 rfl rfl)
theorem dX2_firstSafe_10 : decode cX2_firstSafe 10 = .ok (.ireturn, 1) := dk_172 (dk_at dksX2_firstSafe_0 10 rfl rfl)
theorem dX2_firstSafe_11 : decode cX2_firstSafe 11 = .ok (.iconst 0, 1) := dk_3 (dk_at dksX2_firstSafe_0 11 rfl rfl)
theorem dX2_firstSafe_12 : decode cX2_firstSafe 12 = .ok (.istore_n 3, 1) := dk_62 (dk_at dksX2_firstSafe_0 12 rfl rfl)
theorem dX2_firstSafe_13 : decode cX2_firstSafe 13 = .ok (.iload_n 3, 1) := dk_29 (dk_at dksX2_firstSafe_0 13 rfl rfl)
theorem dX2_firstSafe_14 : decode cX2_firstSafe 14 = .ok (.aload_n 0, 1) := dk_42 (dk_at dksX2_firstSafe_0 14 rfl rfl)
theorem dX2_firstSafe_15 : decode cX2_firstSafe 15 = .ok (.getfield 9, 3) := dk_180 0 9 (dk_at dksX2_firstSafe_0 15 rfl rfl)
theorem dX2_firstSafe_18 : decode cX2_firstSafe 18 = .ok (.bipush 10, 2) := dk_16 10 (dk_at dksX2_firstSafe_0 18 rfl rfl)
theorem dX2_firstSafe_20 : decode cX2_firstSafe 20 = .ok (.iaload, 1) := dk_46 (dk_at dksX2_firstSafe_0 20 rfl rfl)
theorem dX2_firstSafe_21 : decode cX2_firstSafe 21 = .ok (.if_icmp .ge 21, 3) := dk_162 0 21 (dk_at dksX2_firstSafe_0 21 rfl rfl)
theorem dX2_firstSafe_24 : decode cX2_firstSafe 24 = .ok (.aload_n 0, 1) := dk_42 (dk_at dksX2_firstSafe_1 0 rfl rfl)
theorem dX2_firstSafe_25 : decode cX2_firstSafe 25 = .ok (.iload_n 3, 1) := dk_29 (dk_at dksX2_firstSafe_1 1 rfl rfl)
theorem dX2_firstSafe_26 : decode cX2_firstSafe 26 = .ok (.iload_n 1, 1) := dk_27 (dk_at dksX2_firstSafe_1 2 rfl rfl)
theorem dX2_firstSafe_27 : decode cX2_firstSafe 27 = .ok (.iload_n 2, 1) := dk_28 (dk_at dksX2_firstSafe_1 3 rfl rfl)
theorem dX2_firstSafe_28 : decode cX2_firstSafe 28 = .ok (.invokevirtual 388, 3) := dk_182 1 132 (dk_at dksX2_firstSafe_1 4 rfl rfl)
theorem dX2_firstSafe_31 : decode cX2_firstSafe 31 = .ok (.ifCond .eq 5, 3) := dk_153 0 5 (dk_at dksX2_firstSafe_1 7 rfl rfl)
theorem dX2_firstSafe_34 : decode cX2_firstSafe 34 = .ok (.iload_n 3, 1) := dk_29 (dk_at dksX2_firstSafe_1 10 rfl rfl)
theorem dX2_firstSafe_35 : decode cX2_firstSafe 35 = .ok (.ireturn, 1) := dk_172 (dk_at dksX2_firstSafe_1 11 rfl rfl)
theorem dX2_firstSafe_36 : decode cX2_firstSafe 36 = .ok (.iinc 3 1, 3) := dk_132 3 1 (dk_at dksX2_firstSafe_1 12 rfl rfl)
theorem dX2_firstSafe_39 : decode cX2_firstSafe 39 = .ok (.goto (-26), 3) := dk_167 255 230 (dk_at dksX2_firstSafe_1 15 rfl rfl)
theorem dX2_firstSafe_42 : decode cX2_firstSafe 42 = .ok (.iconst (-1), 1) := dk_2 (dk_at dksX2_firstSafe_1 18 rfl rfl)
theorem dX2_firstSafe_43 : decode cX2_firstSafe 43 = .ok (.ireturn, 1) := dk_172 (dk_at dksX2_firstSafe_1 19 rfl rfl)
abbrev cX2_isSafe : ByteArray := prog_20_method_118_code
def yX2_isSafe : MethodName := ⟨RX2, "isSafe", "(III)Z"⟩
def dkwX2_isSafe_1 : List UInt8 := [29, 182, 0, 143, 42, 28, 29, 182, 1, 25, 96, 182, 0, 221, 154, 0, 7, 4, 167, 0, 4, 3, 172]
abbrev dktX2_isSafe_1 : List UInt8 := dkwX2_isSafe_1 ++ []
def dkwX2_isSafe_0 : List UInt8 := [42, 27, 28, 182, 0, 137, 153, 0, 5, 3, 172, 42, 182, 0, 215, 42, 27, 28, 182, 0, 140, 42, 42, 28]
abbrev dktX2_isSafe_0 : List UInt8 := dkwX2_isSafe_0 ++ dktX2_isSafe_1
theorem dksX2_isSafe_0 : cX2_isSafe.data.toList.drop 0 = dktX2_isSafe_0 := by decide +kernel
theorem dksX2_isSafe_1 : cX2_isSafe.data.toList.drop 24 = dktX2_isSafe_1 := dk_seg dksX2_isSafe_0 24 rfl rfl
theorem dX2_isSafe_0 : decode cX2_isSafe 0 = .ok (.aload_n 0, 1) := dk_42 (dk_at dksX2_isSafe_0 0 rfl rfl)
theorem dX2_isSafe_1 : decode cX2_isSafe 1 = .ok (.iload_n 1, 1) := dk_27 (dk_at dksX2_isSafe_0 1 rfl rfl)
theorem dX2_isSafe_2 : decode cX2_isSafe 2 = .ok (.iload_n 2, 1) := dk_28 (dk_at dksX2_isSafe_0 2 rfl rfl)
theorem dX2_isSafe_3 : decode cX2_isSafe 3 = .ok (.invokevirtual 137, 3) := dk_182 0 137 (dk_at dksX2_isSafe_0 3 rfl rfl)
theorem dX2_isSafe_6 : decode cX2_isSafe 6 = .ok (.ifCond .eq 5, 3) := dk_153 0 5 (dk_at dksX2_isSafe_0 6 rfl rfl)
theorem dX2_isSafe_9 : decode cX2_isSafe 9 = .ok (.iconst 0, 1) := dk_3 (dk_at dksX2_isSafe_0 9 rfl rfl)
theorem dX2_isSafe_10 : decode cX2_isSafe 10 = .ok (.ireturn, 1) := dk_172 (dk_at dksX2_isSafe_0 10 rfl rfl)
theorem dX2_isSafe_11 : decode cX2_isSafe 11 = .ok (.aload_n 0, 1) := dk_42 (dk_at dksX2_isSafe_0 11 rfl rfl)
theorem dX2_isSafe_12 : decode cX2_isSafe 12 = .ok (.invokevirtual 215, 3) := dk_182 0 215 (dk_at dksX2_isSafe_0 12 rfl rfl)
theorem dX2_isSafe_15 : decode cX2_isSafe 15 = .ok (.aload_n 0, 1) := dk_42 (dk_at dksX2_isSafe_0 15 rfl rfl)
theorem dX2_isSafe_16 : decode cX2_isSafe 16 = .ok (.iload_n 1, 1) := dk_27 (dk_at dksX2_isSafe_0 16 rfl rfl)
theorem dX2_isSafe_17 : decode cX2_isSafe 17 = .ok (.iload_n 2, 1) := dk_28 (dk_at dksX2_isSafe_0 17 rfl rfl)
theorem dX2_isSafe_18 : decode cX2_isSafe 18 = .ok (.invokevirtual 140, 3) := dk_182 0 140 (dk_at dksX2_isSafe_0 18 rfl rfl)
theorem dX2_isSafe_21 : decode cX2_isSafe 21 = .ok (.aload_n 0, 1) := dk_42 (dk_at dksX2_isSafe_0 21 rfl rfl)
theorem dX2_isSafe_22 : decode cX2_isSafe 22 = .ok (.aload_n 0, 1) := dk_42 (dk_at dksX2_isSafe_0 22 rfl rfl)
theorem dX2_isSafe_23 : decode cX2_isSafe 23 = .ok (.iload_n 2, 1) := dk_28 (dk_at dksX2_isSafe_0 23 rfl rfl)
theorem dX2_isSafe_24 : decode cX2_isSafe 24 = .ok (.iload_n 3, 1) := dk_29 (dk_at dksX2_isSafe_1 0 rfl rfl)
theorem dX2_isSafe_25 : decode cX2_isSafe 25 = .ok (.invokevirtual 143, 3) := dk_182 0 143 (dk_at dksX2_isSafe_1 1 rfl rfl)
theorem dX2_isSafe_28 : decode cX2_isSafe 28 = .ok (.aload_n 0, 1) := dk_42 (dk_at dksX2_isSafe_1 4 rfl rfl)
theorem dX2_isSafe_29 : decode cX2_isSafe 29 = .ok (.iload_n 2, 1) := dk_28 (dk_at dksX2_isSafe_1 5 rfl rfl)
theorem dX2_isSafe_30 : decode cX2_isSafe 30 = .ok (.iload_n 3, 1) := dk_29 (dk_at dksX2_isSafe_1 6 rfl rfl)
theorem dX2_isSafe_31 : decode cX2_isSafe 31 = .ok (.invokevirtual 281, 3) := dk_182 1 25 (dk_at dksX2_isSafe_1 7 rfl rfl)
theorem dX2_isSafe_34 : decode cX2_isSafe 34 = .ok (.iadd, 1) := dk_96 (dk_at dksX2_isSafe_1 10 rfl rfl)
theorem dX2_isSafe_35 : decode cX2_isSafe 35 = .ok (.invokevirtual 221, 3) := dk_182 0 221 (dk_at dksX2_isSafe_1 11 rfl rfl)
theorem dX2_isSafe_38 : decode cX2_isSafe 38 = .ok (.ifCond .ne 7, 3) := dk_154 0 7 (dk_at dksX2_isSafe_1 14 rfl rfl)
theorem dX2_isSafe_41 : decode cX2_isSafe 41 = .ok (.iconst 1, 1) := dk_4 (dk_at dksX2_isSafe_1 17 rfl rfl)
theorem dX2_isSafe_42 : decode cX2_isSafe 42 = .ok (.goto 4, 3) := dk_167 0 4 (dk_at dksX2_isSafe_1 18 rfl rfl)
theorem dX2_isSafe_45 : decode cX2_isSafe 45 = .ok (.iconst 0, 1) := dk_3 (dk_at dksX2_isSafe_1 21 rfl rfl)
theorem dX2_isSafe_46 : decode cX2_isSafe 46 = .ok (.ireturn, 1) := dk_172 (dk_at dksX2_isSafe_1 22 rfl rfl)
abbrev cX2_doNotMix : ByteArray := prog_20_method_121_code
def yX2_doNotMix : MethodName := ⟨RX2, "doNotMix", "(III)I"⟩
def dkwX2_doNotMix_2 : List UInt8 := [3, 172]
abbrev dktX2_doNotMix_2 : List UInt8 := dkwX2_doNotMix_2 ++ []
def dkwX2_doNotMix_1 : List UInt8 := [167, 0, 4, 3, 29, 184, 1, 74, 182, 0, 43, 153, 0, 13, 42, 27, 28, 29, 182, 1, 135, 167, 0, 4]
abbrev dktX2_doNotMix_1 : List UInt8 := dkwX2_doNotMix_1 ++ dktX2_doNotMix_2
def dkwX2_doNotMix_0 : List UInt8 := [42, 42, 180, 0, 47, 42, 27, 182, 1, 68, 153, 0, 15, 42, 28, 182, 1, 68, 153, 0, 7, 4]
abbrev dktX2_doNotMix_0 : List UInt8 := dkwX2_doNotMix_0 ++ dktX2_doNotMix_1
theorem dksX2_doNotMix_0 : cX2_doNotMix.data.toList.drop 0 = dktX2_doNotMix_0 := by decide +kernel
theorem dksX2_doNotMix_1 : cX2_doNotMix.data.toList.drop 22 = dktX2_doNotMix_1 := dk_seg dksX2_doNotMix_0 22 rfl rfl
theorem dksX2_doNotMix_2 : cX2_doNotMix.data.toList.drop 46 = dktX2_doNotMix_2 := dk_seg dksX2_doNotMix_1 24 rfl rfl
theorem dX2_doNotMix_0 : decode cX2_doNotMix 0 = .ok (.aload_n 0, 1) := dk_42 (dk_at dksX2_doNotMix_0 0 rfl rfl)
theorem dX2_doNotMix_1 : decode cX2_doNotMix 1 = .ok (.aload_n 0, 1) := dk_42 (dk_at dksX2_doNotMix_0 1 rfl rfl)
theorem dX2_doNotMix_2 : decode cX2_doNotMix 2 = .ok (.getfield 47, 3) := dk_180 0 47 (dk_at dksX2_doNotMix_0 2 rfl rfl)
theorem dX2_doNotMix_5 : decode cX2_doNotMix 5 = .ok (.aload_n 0, 1) := dk_42 (dk_at dksX2_doNotMix_0 5 rfl rfl)
theorem dX2_doNotMix_6 : decode cX2_doNotMix 6 = .ok (.iload_n 1, 1) := dk_27 (dk_at dksX2_doNotMix_0 6 rfl rfl)
theorem dX2_doNotMix_7 : decode cX2_doNotMix 7 = .ok (.invokevirtual 324, 3) := dk_182 1 68 (dk_at dksX2_doNotMix_0 7 rfl rfl)
theorem dX2_doNotMix_10 : decode cX2_doNotMix 10 = .ok (.ifCond .eq 15, 3) := dk_153 0 15 (dk_at dksX2_doNotMix_0 10 rfl rfl)
theorem dX2_doNotMix_13 : decode cX2_doNotMix 13 = .ok (.aload_n 0, 1) := dk_42 (dk_at dksX2_doNotMix_0 13 rfl rfl)
theorem dX2_doNotMix_14 : decode cX2_doNotMix 14 = .ok (.iload_n 2, 1) := dk_28 (dk_at dksX2_doNotMix_0 14 rfl rfl)
theorem dX2_doNotMix_15 : decode cX2_doNotMix 15 = .ok (.invokevirtual 324, 3) := dk_182 1 68 (dk_at dksX2_doNotMix_0 15 rfl rfl)
theorem dX2_doNotMix_18 : decode cX2_doNotMix 18 = .ok (.ifCond .eq 7, 3) := dk_153 0 7 (dk_at dksX2_doNotMix_0 18 rfl rfl)
theorem dX2_doNotMix_21 : decode cX2_doNotMix 21 = .ok (.iconst 1, 1) := dk_4 (dk_at dksX2_doNotMix_0 21 rfl rfl)
theorem dX2_doNotMix_22 : decode cX2_doNotMix 22 = .ok (.goto 4, 3) := dk_167 0 4 (dk_at dksX2_doNotMix_1 0 rfl rfl)
theorem dX2_doNotMix_25 : decode cX2_doNotMix 25 = .ok (.iconst 0, 1) := dk_3 (dk_at dksX2_doNotMix_1 3 rfl rfl)
theorem dX2_doNotMix_26 : decode cX2_doNotMix 26 = .ok (.iload_n 3, 1) := dk_29 (dk_at dksX2_doNotMix_1 4 rfl rfl)
theorem dX2_doNotMix_27 : decode cX2_doNotMix 27 = .ok (.invokestatic 330, 3) := dk_184 1 74 (dk_at dksX2_doNotMix_1 5 rfl rfl)
theorem dX2_doNotMix_30 : decode cX2_doNotMix 30 = .ok (.invokevirtual 43, 3) := dk_182 0 43 (dk_at dksX2_doNotMix_1 8 rfl rfl)
theorem dX2_doNotMix_33 : decode cX2_doNotMix 33 = .ok (.ifCond .eq 13, 3) := dk_153 0 13 (dk_at dksX2_doNotMix_1 11 rfl rfl)
theorem dX2_doNotMix_36 : decode cX2_doNotMix 36 = .ok (.aload_n 0, 1) := dk_42 (dk_at dksX2_doNotMix_1 14 rfl rfl)
theorem dX2_doNotMix_37 : decode cX2_doNotMix 37 = .ok (.iload_n 1, 1) := dk_27 (dk_at dksX2_doNotMix_1 15 rfl rfl)
theorem dX2_doNotMix_38 : decode cX2_doNotMix 38 = .ok (.iload_n 2, 1) := dk_28 (dk_at dksX2_doNotMix_1 16 rfl rfl)
theorem dX2_doNotMix_39 : decode cX2_doNotMix 39 = .ok (.iload_n 3, 1) := dk_29 (dk_at dksX2_doNotMix_1 17 rfl rfl)
theorem dX2_doNotMix_40 : decode cX2_doNotMix 40 = .ok (.invokevirtual 391, 3) := dk_182 1 135 (dk_at dksX2_doNotMix_1 18 rfl rfl)
theorem dX2_doNotMix_43 : decode cX2_doNotMix 43 = .ok (.goto 4, 3) := dk_167 0 4 (dk_at dksX2_doNotMix_1 21 rfl rfl)
theorem dX2_doNotMix_46 : decode cX2_doNotMix 46 = .ok (.iconst 0, 1) := dk_3 (dk_at dksX2_doNotMix_2 0 rfl rfl)
theorem dX2_doNotMix_47 : decode cX2_doNotMix 47 = .ok (.ireturn, 1) := dk_172 (dk_at dksX2_doNotMix_2 1 rfl rfl)
abbrev cX2_mixes : ByteArray := prog_20_method_120_code
def yX2_mixes : MethodName := ⟨RX2, "mixes", "(III)I"⟩
def dkwX2_mixes_2 : List UInt8 := [167, 0, 4, 3, 184, 0, 245, 104, 96, 172]
abbrev dktX2_mixes_2 : List UInt8 := dkwX2_mixes_2 ++ []
def dkwX2_mixes_1 : List UInt8 := [167, 0, 4, 3, 184, 0, 245, 5, 42, 27, 42, 28, 29, 182, 1, 10, 182, 1, 16, 153, 0, 7, 4]
abbrev dktX2_mixes_1 : List UInt8 := dkwX2_mixes_1 ++ dktX2_mixes_2
def dkwX2_mixes_0 : List UInt8 := [27, 28, 160, 0, 5, 3, 172, 42, 28, 42, 27, 29, 182, 1, 10, 182, 1, 16, 153, 0, 7, 4]
abbrev dktX2_mixes_0 : List UInt8 := dkwX2_mixes_0 ++ dktX2_mixes_1
theorem dksX2_mixes_0 : cX2_mixes.data.toList.drop 0 = dktX2_mixes_0 := by decide +kernel
theorem dksX2_mixes_1 : cX2_mixes.data.toList.drop 22 = dktX2_mixes_1 := dk_seg dksX2_mixes_0 22 rfl rfl
theorem dksX2_mixes_2 : cX2_mixes.data.toList.drop 45 = dktX2_mixes_2 := dk_seg dksX2_mixes_1 23 rfl rfl
theorem dX2_mixes_0 : decode cX2_mixes 0 = .ok (.iload_n 1, 1) := dk_27 (dk_at dksX2_mixes_0 0 rfl rfl)
theorem dX2_mixes_1 : decode cX2_mixes 1 = .ok (.iload_n 2, 1) := dk_28 (dk_at dksX2_mixes_0 1 rfl rfl)
theorem dX2_mixes_2 : decode cX2_mixes 2 = .ok (.if_icmp .ne 5, 3) := dk_160 0 5 (dk_at dksX2_mixes_0 2 rfl rfl)
theorem dX2_mixes_5 : decode cX2_mixes 5 = .ok (.iconst 0, 1) := dk_3 (dk_at dksX2_mixes_0 5 rfl rfl)
theorem dX2_mixes_6 : decode cX2_mixes 6 = .ok (.ireturn, 1) := dk_172 (dk_at dksX2_mixes_0 6 rfl rfl)
theorem dX2_mixes_7 : decode cX2_mixes 7 = .ok (.aload_n 0, 1) := dk_42 (dk_at dksX2_mixes_0 7 rfl rfl)
theorem dX2_mixes_8 : decode cX2_mixes 8 = .ok (.iload_n 2, 1) := dk_28 (dk_at dksX2_mixes_0 8 rfl rfl)
theorem dX2_mixes_9 : decode cX2_mixes 9 = .ok (.aload_n 0, 1) := dk_42 (dk_at dksX2_mixes_0 9 rfl rfl)
theorem dX2_mixes_10 : decode cX2_mixes 10 = .ok (.iload_n 1, 1) := dk_27 (dk_at dksX2_mixes_0 10 rfl rfl)
theorem dX2_mixes_11 : decode cX2_mixes 11 = .ok (.iload_n 3, 1) := dk_29 (dk_at dksX2_mixes_0 11 rfl rfl)
theorem dX2_mixes_12 : decode cX2_mixes 12 = .ok (.invokevirtual 266, 3) := dk_182 1 10 (dk_at dksX2_mixes_0 12 rfl rfl)
theorem dX2_mixes_15 : decode cX2_mixes 15 = .ok (.invokevirtual 272, 3) := dk_182 1 16 (dk_at dksX2_mixes_0 15 rfl rfl)
theorem dX2_mixes_18 : decode cX2_mixes 18 = .ok (.ifCond .eq 7, 3) := dk_153 0 7 (dk_at dksX2_mixes_0 18 rfl rfl)
theorem dX2_mixes_21 : decode cX2_mixes 21 = .ok (.iconst 1, 1) := dk_4 (dk_at dksX2_mixes_0 21 rfl rfl)
theorem dX2_mixes_22 : decode cX2_mixes 22 = .ok (.goto 4, 3) := dk_167 0 4 (dk_at dksX2_mixes_1 0 rfl rfl)
theorem dX2_mixes_25 : decode cX2_mixes 25 = .ok (.iconst 0, 1) := dk_3 (dk_at dksX2_mixes_1 3 rfl rfl)
theorem dX2_mixes_26 : decode cX2_mixes 26 = .ok (.invokestatic 245, 3) := dk_184 0 245 (dk_at dksX2_mixes_1 4 rfl rfl)
theorem dX2_mixes_29 : decode cX2_mixes 29 = .ok (.iconst 2, 1) := dk_5 (dk_at dksX2_mixes_1 7 rfl rfl)
theorem dX2_mixes_30 : decode cX2_mixes 30 = .ok (.aload_n 0, 1) := dk_42 (dk_at dksX2_mixes_1 8 rfl rfl)
theorem dX2_mixes_31 : decode cX2_mixes 31 = .ok (.iload_n 1, 1) := dk_27 (dk_at dksX2_mixes_1 9 rfl rfl)
theorem dX2_mixes_32 : decode cX2_mixes 32 = .ok (.aload_n 0, 1) := dk_42 (dk_at dksX2_mixes_1 10 rfl rfl)
theorem dX2_mixes_33 : decode cX2_mixes 33 = .ok (.iload_n 2, 1) := dk_28 (dk_at dksX2_mixes_1 11 rfl rfl)
theorem dX2_mixes_34 : decode cX2_mixes 34 = .ok (.iload_n 3, 1) := dk_29 (dk_at dksX2_mixes_1 12 rfl rfl)
theorem dX2_mixes_35 : decode cX2_mixes 35 = .ok (.invokevirtual 266, 3) := dk_182 1 10 (dk_at dksX2_mixes_1 13 rfl rfl)
theorem dX2_mixes_38 : decode cX2_mixes 38 = .ok (.invokevirtual 272, 3) := dk_182 1 16 (dk_at dksX2_mixes_1 16 rfl rfl)
theorem dX2_mixes_41 : decode cX2_mixes 41 = .ok (.ifCond .eq 7, 3) := dk_153 0 7 (dk_at dksX2_mixes_1 19 rfl rfl)
theorem dX2_mixes_44 : decode cX2_mixes 44 = .ok (.iconst 1, 1) := dk_4 (dk_at dksX2_mixes_1 22 rfl rfl)
theorem dX2_mixes_45 : decode cX2_mixes 45 = .ok (.goto 4, 3) := dk_167 0 4 (dk_at dksX2_mixes_2 0 rfl rfl)
theorem dX2_mixes_48 : decode cX2_mixes 48 = .ok (.iconst 0, 1) := dk_3 (dk_at dksX2_mixes_2 3 rfl rfl)
theorem dX2_mixes_49 : decode cX2_mixes 49 = .ok (.invokestatic 245, 3) := dk_184 0 245 (dk_at dksX2_mixes_2 4 rfl rfl)
theorem dX2_mixes_52 : decode cX2_mixes 52 = .ok (.imul, 1) := dk_104 (dk_at dksX2_mixes_2 7 rfl rfl)
theorem dX2_mixes_53 : decode cX2_mixes 53 = .ok (.iadd, 1) := dk_96 (dk_at dksX2_mixes_2 8 rfl rfl)
theorem dX2_mixes_54 : decode cX2_mixes 54 = .ok (.ireturn, 1) := dk_172 (dk_at dksX2_mixes_2 9 rfl rfl)
abbrev cX2_groups : ByteArray := prog_20_method_123_code
def yX2_groups : MethodName := ⟨RX2, "groups", "(I)I"⟩
def dkwX2_groups_5 : List UInt8 := [167, 255, 162, 28, 172]
abbrev dktX2_groups_5 : List UInt8 := dkwX2_groups_5 ++ []
def dkwX2_groups_4 : List UInt8 := [167, 255, 236, 42, 180, 0, 34, 29, 21, 4, 79, 28, 21, 4, 4, 96, 184, 1, 19, 61, 132, 3, 1]
abbrev dktX2_groups_4 : List UInt8 := dkwX2_groups_4 ++ dktX2_groups_5
def dkwX2_groups_3 : List UInt8 := [54, 4, 21, 4, 28, 162, 0, 20, 42, 29, 21, 4, 27, 182, 1, 139, 154, 0, 9, 132, 4, 1]
abbrev dktX2_groups_3 : List UInt8 := dkwX2_groups_3 ++ dktX2_groups_4
def dkwX2_groups_2 : List UInt8 := [42, 29, 6, 182, 0, 227, 153, 0, 59, 42, 29, 5, 182, 0, 227, 27, 162, 0, 6, 167, 0, 46, 3]
abbrev dktX2_groups_2 : List UInt8 := dkwX2_groups_2 ++ dktX2_groups_3
def dkwX2_groups_1 : List UInt8 := [180, 0, 9, 16, 10, 46, 162, 0, 89, 42, 180, 0, 34, 29, 2, 79, 42, 29, 182, 0, 249, 153, 0, 68]
abbrev dktX2_groups_1 : List UInt8 := dkwX2_groups_1 ++ dktX2_groups_2
def dkwX2_groups_0 : List UInt8 := [42, 42, 180, 0, 47, 27, 184, 1, 74, 182, 1, 58, 154, 0, 5, 3, 172, 3, 61, 3, 62, 29, 42]
abbrev dktX2_groups_0 : List UInt8 := dkwX2_groups_0 ++ dktX2_groups_1
theorem dksX2_groups_0 : cX2_groups.data.toList.drop 0 = dktX2_groups_0 := by decide +kernel
theorem dksX2_groups_1 : cX2_groups.data.toList.drop 23 = dktX2_groups_1 := dk_seg dksX2_groups_0 23 rfl rfl
theorem dksX2_groups_2 : cX2_groups.data.toList.drop 47 = dktX2_groups_2 := dk_seg dksX2_groups_1 24 rfl rfl
theorem dksX2_groups_3 : cX2_groups.data.toList.drop 70 = dktX2_groups_3 := dk_seg dksX2_groups_2 23 rfl rfl
theorem dksX2_groups_4 : cX2_groups.data.toList.drop 92 = dktX2_groups_4 := dk_seg dksX2_groups_3 22 rfl rfl
theorem dksX2_groups_5 : cX2_groups.data.toList.drop 115 = dktX2_groups_5 := dk_seg dksX2_groups_4 23 rfl rfl
theorem dX2_groups_0 : decode cX2_groups 0 = .ok (.aload_n 0, 1) := dk_42 (dk_at dksX2_groups_0 0 rfl rfl)
theorem dX2_groups_1 : decode cX2_groups 1 = .ok (.aload_n 0, 1) := dk_42 (dk_at dksX2_groups_0 1 rfl rfl)
theorem dX2_groups_2 : decode cX2_groups 2 = .ok (.getfield 47, 3) := dk_180 0 47 (dk_at dksX2_groups_0 2 rfl rfl)
theorem dX2_groups_5 : decode cX2_groups 5 = .ok (.iload_n 1, 1) := dk_27 (dk_at dksX2_groups_0 5 rfl rfl)
theorem dX2_groups_6 : decode cX2_groups 6 = .ok (.invokestatic 330, 3) := dk_184 1 74 (dk_at dksX2_groups_0 6 rfl rfl)
theorem dX2_groups_9 : decode cX2_groups 9 = .ok (.invokevirtual 314, 3) := dk_182 1 58 (dk_at dksX2_groups_0 9 rfl rfl)
theorem dX2_groups_12 : decode cX2_groups 12 = .ok (.ifCond .ne 5, 3) := dk_154 0 5 (dk_at dksX2_groups_0 12 rfl rfl)
theorem dX2_groups_15 : decode cX2_groups 15 = .ok (.iconst 0, 1) := dk_3 (dk_at dksX2_groups_0 15 rfl rfl)
theorem dX2_groups_16 : decode cX2_groups 16 = .ok (.ireturn, 1) := dk_172 (dk_at dksX2_groups_0 16 rfl rfl)
theorem dX2_groups_17 : decode cX2_groups 17 = .ok (.iconst 0, 1) := dk_3 (dk_at dksX2_groups_0 17 rfl rfl)
theorem dX2_groups_18 : decode cX2_groups 18 = .ok (.istore_n 2, 1) := dk_61 (dk_at dksX2_groups_0 18 rfl rfl)
theorem dX2_groups_19 : decode cX2_groups 19 = .ok (.iconst 0, 1) := dk_3 (dk_at dksX2_groups_0 19 rfl rfl)
theorem dX2_groups_20 : decode cX2_groups 20 = .ok (.istore_n 3, 1) := dk_62 (dk_at dksX2_groups_0 20 rfl rfl)
theorem dX2_groups_21 : decode cX2_groups 21 = .ok (.iload_n 3, 1) := dk_29 (dk_at dksX2_groups_0 21 rfl rfl)
theorem dX2_groups_22 : decode cX2_groups 22 = .ok (.aload_n 0, 1) := dk_42 (dk_at dksX2_groups_0 22 rfl rfl)
theorem dX2_groups_23 : decode cX2_groups 23 = .ok (.getfield 9, 3) := dk_180 0 9 (dk_at dksX2_groups_1 0 rfl rfl)
theorem dX2_groups_26 : decode cX2_groups 26 = .ok (.bipush 10, 2) := dk_16 10 (dk_at dksX2_groups_1 3 rfl rfl)
theorem dX2_groups_28 : decode cX2_groups 28 = .ok (.iaload, 1) := dk_46 (dk_at dksX2_groups_1 5 rfl rfl)
theorem dX2_groups_29 : decode cX2_groups 29 = .ok (.if_icmp .ge 89, 3) := dk_162 0 89 (dk_at dksX2_groups_1 6 rfl rfl)
theorem dX2_groups_32 : decode cX2_groups 32 = .ok (.aload_n 0, 1) := dk_42 (dk_at dksX2_groups_1 9 rfl rfl)
theorem dX2_groups_33 : decode cX2_groups 33 = .ok (.getfield 34, 3) := dk_180 0 34 (dk_at dksX2_groups_1 10 rfl rfl)
theorem dX2_groups_36 : decode cX2_groups 36 = .ok (.iload_n 3, 1) := dk_29 (dk_at dksX2_groups_1 13 rfl rfl)
theorem dX2_groups_37 : decode cX2_groups 37 = .ok (.iconst (-1), 1) := dk_2 (dk_at dksX2_groups_1 14 rfl rfl)
theorem dX2_groups_38 : decode cX2_groups 38 = .ok (.iastore, 1) := dk_79 (dk_at dksX2_groups_1 15 rfl rfl)
theorem dX2_groups_39 : decode cX2_groups 39 = .ok (.aload_n 0, 1) := dk_42 (dk_at dksX2_groups_1 16 rfl rfl)
theorem dX2_groups_40 : decode cX2_groups 40 = .ok (.iload_n 3, 1) := dk_29 (dk_at dksX2_groups_1 17 rfl rfl)
theorem dX2_groups_41 : decode cX2_groups 41 = .ok (.invokevirtual 249, 3) := dk_182 0 249 (dk_at dksX2_groups_1 18 rfl rfl)
theorem dX2_groups_44 : decode cX2_groups 44 = .ok (.ifCond .eq 68, 3) := dk_153 0 68 (dk_at dksX2_groups_1 21 rfl rfl)
theorem dX2_groups_47 : decode cX2_groups 47 = .ok (.aload_n 0, 1) := dk_42 (dk_at dksX2_groups_2 0 rfl rfl)
theorem dX2_groups_48 : decode cX2_groups 48 = .ok (.iload_n 3, 1) := dk_29 (dk_at dksX2_groups_2 1 rfl rfl)
theorem dX2_groups_49 : decode cX2_groups 49 = .ok (.iconst 3, 1) := dk_6 (dk_at dksX2_groups_2 2 rfl rfl)
theorem dX2_groups_50 : decode cX2_groups 50 = .ok (.invokevirtual 227, 3) := dk_182 0 227 (dk_at dksX2_groups_2 3 rfl rfl)
theorem dX2_groups_53 : decode cX2_groups 53 = .ok (.ifCond .eq 59, 3) := dk_153 0 59 (dk_at dksX2_groups_2 6 rfl rfl)
theorem dX2_groups_56 : decode cX2_groups 56 = .ok (.aload_n 0, 1) := dk_42 (dk_at dksX2_groups_2 9 rfl rfl)
theorem dX2_groups_57 : decode cX2_groups 57 = .ok (.iload_n 3, 1) := dk_29 (dk_at dksX2_groups_2 10 rfl rfl)
theorem dX2_groups_58 : decode cX2_groups 58 = .ok (.iconst 2, 1) := dk_5 (dk_at dksX2_groups_2 11 rfl rfl)
theorem dX2_groups_59 : decode cX2_groups 59 = .ok (.invokevirtual 227, 3) := dk_182 0 227 (dk_at dksX2_groups_2 12 rfl rfl)
theorem dX2_groups_62 : decode cX2_groups 62 = .ok (.iload_n 1, 1) := dk_27 (dk_at dksX2_groups_2 15 rfl rfl)
theorem dX2_groups_63 : decode cX2_groups 63 = .ok (.if_icmp .ge 6, 3) := dk_162 0 6 (dk_at dksX2_groups_2 16 rfl rfl)
theorem dX2_groups_66 : decode cX2_groups 66 = .ok (.goto 46, 3) := dk_167 0 46 (dk_at dksX2_groups_2 19 rfl rfl)
theorem dX2_groups_69 : decode cX2_groups 69 = .ok (.iconst 0, 1) := dk_3 (dk_at dksX2_groups_2 22 rfl rfl)
theorem dX2_groups_70 : decode cX2_groups 70 = .ok (.istore 4, 2) := dk_54 4 (dk_at dksX2_groups_3 0 rfl rfl)
theorem dX2_groups_72 : decode cX2_groups 72 = .ok (.iload 4, 2) := dk_21 4 (dk_at dksX2_groups_3 2 rfl rfl)
theorem dX2_groups_74 : decode cX2_groups 74 = .ok (.iload_n 2, 1) := dk_28 (dk_at dksX2_groups_3 4 rfl rfl)
theorem dX2_groups_75 : decode cX2_groups 75 = .ok (.if_icmp .ge 20, 3) := dk_162 0 20 (dk_at dksX2_groups_3 5 rfl rfl)
theorem dX2_groups_78 : decode cX2_groups 78 = .ok (.aload_n 0, 1) := dk_42 (dk_at dksX2_groups_3 8 rfl rfl)
theorem dX2_groups_79 : decode cX2_groups 79 = .ok (.iload_n 3, 1) := dk_29 (dk_at dksX2_groups_3 9 rfl rfl)
theorem dX2_groups_80 : decode cX2_groups 80 = .ok (.iload 4, 2) := dk_21 4 (dk_at dksX2_groups_3 10 rfl rfl)
theorem dX2_groups_82 : decode cX2_groups 82 = .ok (.iload_n 1, 1) := dk_27 (dk_at dksX2_groups_3 12 rfl rfl)
theorem dX2_groups_83 : decode cX2_groups 83 = .ok (.invokevirtual 395, 3) := dk_182 1 139 (dk_at dksX2_groups_3 13 rfl rfl)
theorem dX2_groups_86 : decode cX2_groups 86 = .ok (.ifCond .ne 9, 3) := dk_154 0 9 (dk_at dksX2_groups_3 16 rfl rfl)
theorem dX2_groups_89 : decode cX2_groups 89 = .ok (.iinc 4 1, 3) := dk_132 4 1 (dk_at dksX2_groups_3 19 rfl rfl)
theorem dX2_groups_92 : decode cX2_groups 92 = .ok (.goto (-20), 3) := dk_167 255 236 (dk_at dksX2_groups_4 0 rfl rfl)
theorem dX2_groups_95 : decode cX2_groups 95 = .ok (.aload_n 0, 1) := dk_42 (dk_at dksX2_groups_4 3 rfl rfl)
theorem dX2_groups_96 : decode cX2_groups 96 = .ok (.getfield 34, 3) := dk_180 0 34 (dk_at dksX2_groups_4 4 rfl rfl)
theorem dX2_groups_99 : decode cX2_groups 99 = .ok (.iload_n 3, 1) := dk_29 (dk_at dksX2_groups_4 7 rfl rfl)
theorem dX2_groups_100 : decode cX2_groups 100 = .ok (.iload 4, 2) := dk_21 4 (dk_at dksX2_groups_4 8 rfl rfl)
theorem dX2_groups_102 : decode cX2_groups 102 = .ok (.iastore, 1) := dk_79 (dk_at dksX2_groups_4 10 rfl rfl)
theorem dX2_groups_103 : decode cX2_groups 103 = .ok (.iload_n 2, 1) := dk_28 (dk_at dksX2_groups_4 11 rfl rfl)
theorem dX2_groups_104 : decode cX2_groups 104 = .ok (.iload 4, 2) := dk_21 4 (dk_at dksX2_groups_4 12 rfl rfl)
theorem dX2_groups_106 : decode cX2_groups 106 = .ok (.iconst 1, 1) := dk_4 (dk_at dksX2_groups_4 14 rfl rfl)
theorem dX2_groups_107 : decode cX2_groups 107 = .ok (.iadd, 1) := dk_96 (dk_at dksX2_groups_4 15 rfl rfl)
theorem dX2_groups_108 : decode cX2_groups 108 = .ok (.invokestatic 275, 3) := dk_184 1 19 (dk_at dksX2_groups_4 16 rfl rfl)
theorem dX2_groups_111 : decode cX2_groups 111 = .ok (.istore_n 2, 1) := dk_61 (dk_at dksX2_groups_4 19 rfl rfl)
theorem dX2_groups_112 : decode cX2_groups 112 = .ok (.iinc 3 1, 3) := dk_132 3 1 (dk_at dksX2_groups_4 20 rfl rfl)
theorem dX2_groups_115 : decode cX2_groups 115 = .ok (.goto (-94), 3) := dk_167 255 162 (dk_at dksX2_groups_5 0 rfl rfl)
theorem dX2_groups_118 : decode cX2_groups 118 = .ok (.iload_n 2, 1) := dk_28 (dk_at dksX2_groups_5 3 rfl rfl)
theorem dX2_groups_119 : decode cX2_groups 119 = .ok (.ireturn, 1) := dk_172 (dk_at dksX2_groups_5 4 rfl rfl)
abbrev cX2_canJoin : ByteArray := prog_20_method_122_code
def yX2_canJoin : MethodName := ⟨RX2, "canJoin", "(III)Z"⟩
def dkwX2_canJoin_1 : List UInt8 := [29, 182, 1, 135, 153, 0, 5, 3, 172, 132, 4, 1, 167, 255, 223, 4, 172]
abbrev dktX2_canJoin_1 : List UInt8 := dkwX2_canJoin_1 ++ []
def dkwX2_canJoin_0 : List UInt8 := [3, 54, 4, 21, 4, 27, 162, 0, 33, 42, 180, 0, 34, 21, 4, 46, 28, 160, 0, 16, 42, 21, 4, 27]
abbrev dktX2_canJoin_0 : List UInt8 := dkwX2_canJoin_0 ++ dktX2_canJoin_1
theorem dksX2_canJoin_0 : cX2_canJoin.data.toList.drop 0 = dktX2_canJoin_0 := by decide +kernel
theorem dksX2_canJoin_1 : cX2_canJoin.data.toList.drop 24 = dktX2_canJoin_1 := dk_seg dksX2_canJoin_0 24 rfl rfl
theorem dX2_canJoin_0 : decode cX2_canJoin 0 = .ok (.iconst 0, 1) := dk_3 (dk_at dksX2_canJoin_0 0 rfl rfl)
theorem dX2_canJoin_1 : decode cX2_canJoin 1 = .ok (.istore 4, 2) := dk_54 4 (dk_at dksX2_canJoin_0 1 rfl rfl)
theorem dX2_canJoin_3 : decode cX2_canJoin 3 = .ok (.iload 4, 2) := dk_21 4 (dk_at dksX2_canJoin_0 3 rfl rfl)
theorem dX2_canJoin_5 : decode cX2_canJoin 5 = .ok (.iload_n 1, 1) := dk_27 (dk_at dksX2_canJoin_0 5 rfl rfl)
theorem dX2_canJoin_6 : decode cX2_canJoin 6 = .ok (.if_icmp .ge 33, 3) := dk_162 0 33 (dk_at dksX2_canJoin_0 6 rfl rfl)
theorem dX2_canJoin_9 : decode cX2_canJoin 9 = .ok (.aload_n 0, 1) := dk_42 (dk_at dksX2_canJoin_0 9 rfl rfl)
theorem dX2_canJoin_10 : decode cX2_canJoin 10 = .ok (.getfield 34, 3) := dk_180 0 34 (dk_at dksX2_canJoin_0 10 rfl rfl)
theorem dX2_canJoin_13 : decode cX2_canJoin 13 = .ok (.iload 4, 2) := dk_21 4 (dk_at dksX2_canJoin_0 13 rfl rfl)
theorem dX2_canJoin_15 : decode cX2_canJoin 15 = .ok (.iaload, 1) := dk_46 (dk_at dksX2_canJoin_0 15 rfl rfl)
theorem dX2_canJoin_16 : decode cX2_canJoin 16 = .ok (.iload_n 2, 1) := dk_28 (dk_at dksX2_canJoin_0 16 rfl rfl)
theorem dX2_canJoin_17 : decode cX2_canJoin 17 = .ok (.if_icmp .ne 16, 3) := dk_160 0 16 (dk_at dksX2_canJoin_0 17 rfl rfl)
theorem dX2_canJoin_20 : decode cX2_canJoin 20 = .ok (.aload_n 0, 1) := dk_42 (dk_at dksX2_canJoin_0 20 rfl rfl)
theorem dX2_canJoin_21 : decode cX2_canJoin 21 = .ok (.iload 4, 2) := dk_21 4 (dk_at dksX2_canJoin_0 21 rfl rfl)
theorem dX2_canJoin_23 : decode cX2_canJoin 23 = .ok (.iload_n 1, 1) := dk_27 (dk_at dksX2_canJoin_0 23 rfl rfl)
theorem dX2_canJoin_24 : decode cX2_canJoin 24 = .ok (.iload_n 3, 1) := dk_29 (dk_at dksX2_canJoin_1 0 rfl rfl)
theorem dX2_canJoin_25 : decode cX2_canJoin 25 = .ok (.invokevirtual 391, 3) := dk_182 1 135 (dk_at dksX2_canJoin_1 1 rfl rfl)
theorem dX2_canJoin_28 : decode cX2_canJoin 28 = .ok (.ifCond .eq 5, 3) := dk_153 0 5 (dk_at dksX2_canJoin_1 4 rfl rfl)
theorem dX2_canJoin_31 : decode cX2_canJoin 31 = .ok (.iconst 0, 1) := dk_3 (dk_at dksX2_canJoin_1 7 rfl rfl)
theorem dX2_canJoin_32 : decode cX2_canJoin 32 = .ok (.ireturn, 1) := dk_172 (dk_at dksX2_canJoin_1 8 rfl rfl)
theorem dX2_canJoin_33 : decode cX2_canJoin 33 = .ok (.iinc 4 1, 3) := dk_132 4 1 (dk_at dksX2_canJoin_1 9 rfl rfl)
theorem dX2_canJoin_36 : decode cX2_canJoin 36 = .ok (.goto (-33), 3) := dk_167 255 223 (dk_at dksX2_canJoin_1 12 rfl rfl)
theorem dX2_canJoin_39 : decode cX2_canJoin 39 = .ok (.iconst 1, 1) := dk_4 (dk_at dksX2_canJoin_1 15 rfl rfl)
theorem dX2_canJoin_40 : decode cX2_canJoin 40 = .ok (.ireturn, 1) := dk_172 (dk_at dksX2_canJoin_1 16 rfl rfl)
abbrev cX2_purest : ByteArray := prog_20_method_125_code
def yX2_purest : MethodName := ⟨RX2, "purest", "(I)I"⟩
def dkwX2_purest_2 : List UInt8 := [27, 182, 1, 142, 42, 28, 27, 182, 1, 142, 162, 0, 5, 29, 61, 132, 3, 1, 167, 255, 212, 28, 172]
abbrev dktX2_purest_2 : List UInt8 := dkwX2_purest_2 ++ []
def dkwX2_purest_1 : List UInt8 := [180, 0, 9, 16, 10, 46, 162, 0, 39, 42, 29, 182, 0, 249, 153, 0, 25, 28, 2, 159, 0, 18, 42, 29]
abbrev dktX2_purest_1 : List UInt8 := dkwX2_purest_1 ++ dktX2_purest_2
def dkwX2_purest_0 : List UInt8 := [42, 42, 180, 0, 47, 27, 184, 1, 74, 182, 1, 58, 154, 0, 5, 3, 172, 2, 61, 3, 62, 29, 42]
abbrev dktX2_purest_0 : List UInt8 := dkwX2_purest_0 ++ dktX2_purest_1
theorem dksX2_purest_0 : cX2_purest.data.toList.drop 0 = dktX2_purest_0 := by decide +kernel
theorem dksX2_purest_1 : cX2_purest.data.toList.drop 23 = dktX2_purest_1 := dk_seg dksX2_purest_0 23 rfl rfl
theorem dksX2_purest_2 : cX2_purest.data.toList.drop 47 = dktX2_purest_2 := dk_seg dksX2_purest_1 24 rfl rfl
theorem dX2_purest_0 : decode cX2_purest 0 = .ok (.aload_n 0, 1) := dk_42 (dk_at dksX2_purest_0 0 rfl rfl)
theorem dX2_purest_1 : decode cX2_purest 1 = .ok (.aload_n 0, 1) := dk_42 (dk_at dksX2_purest_0 1 rfl rfl)
theorem dX2_purest_2 : decode cX2_purest 2 = .ok (.getfield 47, 3) := dk_180 0 47 (dk_at dksX2_purest_0 2 rfl rfl)
theorem dX2_purest_5 : decode cX2_purest 5 = .ok (.iload_n 1, 1) := dk_27 (dk_at dksX2_purest_0 5 rfl rfl)
theorem dX2_purest_6 : decode cX2_purest 6 = .ok (.invokestatic 330, 3) := dk_184 1 74 (dk_at dksX2_purest_0 6 rfl rfl)
theorem dX2_purest_9 : decode cX2_purest 9 = .ok (.invokevirtual 314, 3) := dk_182 1 58 (dk_at dksX2_purest_0 9 rfl rfl)
theorem dX2_purest_12 : decode cX2_purest 12 = .ok (.ifCond .ne 5, 3) := dk_154 0 5 (dk_at dksX2_purest_0 12 rfl rfl)
theorem dX2_purest_15 : decode cX2_purest 15 = .ok (.iconst 0, 1) := dk_3 (dk_at dksX2_purest_0 15 rfl rfl)
theorem dX2_purest_16 : decode cX2_purest 16 = .ok (.ireturn, 1) := dk_172 (dk_at dksX2_purest_0 16 rfl rfl)
theorem dX2_purest_17 : decode cX2_purest 17 = .ok (.iconst (-1), 1) := dk_2 (dk_at dksX2_purest_0 17 rfl rfl)
theorem dX2_purest_18 : decode cX2_purest 18 = .ok (.istore_n 2, 1) := dk_61 (dk_at dksX2_purest_0 18 rfl rfl)
theorem dX2_purest_19 : decode cX2_purest 19 = .ok (.iconst 0, 1) := dk_3 (dk_at dksX2_purest_0 19 rfl rfl)
theorem dX2_purest_20 : decode cX2_purest 20 = .ok (.istore_n 3, 1) := dk_62 (dk_at dksX2_purest_0 20 rfl rfl)
theorem dX2_purest_21 : decode cX2_purest 21 = .ok (.iload_n 3, 1) := dk_29 (dk_at dksX2_purest_0 21 rfl rfl)
theorem dX2_purest_22 : decode cX2_purest 22 = .ok (.aload_n 0, 1) := dk_42 (dk_at dksX2_purest_0 22 rfl rfl)
theorem dX2_purest_23 : decode cX2_purest 23 = .ok (.getfield 9, 3) := dk_180 0 9 (dk_at dksX2_purest_1 0 rfl rfl)
theorem dX2_purest_26 : decode cX2_purest 26 = .ok (.bipush 10, 2) := dk_16 10 (dk_at dksX2_purest_1 3 rfl rfl)
theorem dX2_purest_28 : decode cX2_purest 28 = .ok (.iaload, 1) := dk_46 (dk_at dksX2_purest_1 5 rfl rfl)
theorem dX2_purest_29 : decode cX2_purest 29 = .ok (.if_icmp .ge 39, 3) := dk_162 0 39 (dk_at dksX2_purest_1 6 rfl rfl)
theorem dX2_purest_32 : decode cX2_purest 32 = .ok (.aload_n 0, 1) := dk_42 (dk_at dksX2_purest_1 9 rfl rfl)
theorem dX2_purest_33 : decode cX2_purest 33 = .ok (.iload_n 3, 1) := dk_29 (dk_at dksX2_purest_1 10 rfl rfl)
theorem dX2_purest_34 : decode cX2_purest 34 = .ok (.invokevirtual 249, 3) := dk_182 0 249 (dk_at dksX2_purest_1 11 rfl rfl)
theorem dX2_purest_37 : decode cX2_purest 37 = .ok (.ifCond .eq 25, 3) := dk_153 0 25 (dk_at dksX2_purest_1 14 rfl rfl)
theorem dX2_purest_40 : decode cX2_purest 40 = .ok (.iload_n 2, 1) := dk_28 (dk_at dksX2_purest_1 17 rfl rfl)
theorem dX2_purest_41 : decode cX2_purest 41 = .ok (.iconst (-1), 1) := dk_2 (dk_at dksX2_purest_1 18 rfl rfl)
theorem dX2_purest_42 : decode cX2_purest 42 = .ok (.if_icmp .eq 18, 3) := dk_159 0 18 (dk_at dksX2_purest_1 19 rfl rfl)
theorem dX2_purest_45 : decode cX2_purest 45 = .ok (.aload_n 0, 1) := dk_42 (dk_at dksX2_purest_1 22 rfl rfl)
theorem dX2_purest_46 : decode cX2_purest 46 = .ok (.iload_n 3, 1) := dk_29 (dk_at dksX2_purest_1 23 rfl rfl)
theorem dX2_purest_47 : decode cX2_purest 47 = .ok (.iload_n 1, 1) := dk_27 (dk_at dksX2_purest_2 0 rfl rfl)
theorem dX2_purest_48 : decode cX2_purest 48 = .ok (.invokevirtual 398, 3) := dk_182 1 142 (dk_at dksX2_purest_2 1 rfl rfl)
theorem dX2_purest_51 : decode cX2_purest 51 = .ok (.aload_n 0, 1) := dk_42 (dk_at dksX2_purest_2 4 rfl rfl)
theorem dX2_purest_52 : decode cX2_purest 52 = .ok (.iload_n 2, 1) := dk_28 (dk_at dksX2_purest_2 5 rfl rfl)
theorem dX2_purest_53 : decode cX2_purest 53 = .ok (.iload_n 1, 1) := dk_27 (dk_at dksX2_purest_2 6 rfl rfl)
theorem dX2_purest_54 : decode cX2_purest 54 = .ok (.invokevirtual 398, 3) := dk_182 1 142 (dk_at dksX2_purest_2 7 rfl rfl)
theorem dX2_purest_57 : decode cX2_purest 57 = .ok (.if_icmp .ge 5, 3) := dk_162 0 5 (dk_at dksX2_purest_2 10 rfl rfl)
theorem dX2_purest_60 : decode cX2_purest 60 = .ok (.iload_n 3, 1) := dk_29 (dk_at dksX2_purest_2 13 rfl rfl)
theorem dX2_purest_61 : decode cX2_purest 61 = .ok (.istore_n 2, 1) := dk_61 (dk_at dksX2_purest_2 14 rfl rfl)
theorem dX2_purest_62 : decode cX2_purest 62 = .ok (.iinc 3 1, 3) := dk_132 3 1 (dk_at dksX2_purest_2 15 rfl rfl)
theorem dX2_purest_65 : decode cX2_purest 65 = .ok (.goto (-44), 3) := dk_167 255 212 (dk_at dksX2_purest_2 18 rfl rfl)
theorem dX2_purest_68 : decode cX2_purest 68 = .ok (.iload_n 2, 1) := dk_28 (dk_at dksX2_purest_2 21 rfl rfl)
theorem dX2_purest_69 : decode cX2_purest 69 = .ok (.ireturn, 1) := dk_172 (dk_at dksX2_purest_2 22 rfl rfl)
abbrev cX2_mixedWith : ByteArray := prog_20_method_124_code
def yX2_mixedWith : MethodName := ⟨RX2, "mixedWith", "(II)I"⟩
def dkwX2_mixedWith_2 : List UInt8 := [132, 4, 1, 167, 255, 210, 29, 172]
abbrev dktX2_mixedWith_2 : List UInt8 := dkwX2_mixedWith_2 ++ []
def dkwX2_mixedWith_1 : List UInt8 := [153, 0, 18, 42, 27, 21, 4, 28, 182, 1, 135, 153, 0, 7, 4, 167, 0, 4, 3, 184, 0, 245, 96, 62]
abbrev dktX2_mixedWith_1 : List UInt8 := dkwX2_mixedWith_1 ++ dktX2_mixedWith_2
def dkwX2_mixedWith_0 : List UInt8 := [3, 62, 3, 54, 4, 21, 4, 42, 180, 0, 9, 16, 10, 46, 162, 0, 40, 29, 42, 21, 4, 182, 0, 249]
abbrev dktX2_mixedWith_0 : List UInt8 := dkwX2_mixedWith_0 ++ dktX2_mixedWith_1
theorem dksX2_mixedWith_0 : cX2_mixedWith.data.toList.drop 0 = dktX2_mixedWith_0 := by decide +kernel
theorem dksX2_mixedWith_1 : cX2_mixedWith.data.toList.drop 24 = dktX2_mixedWith_1 := dk_seg dksX2_mixedWith_0 24 rfl rfl
theorem dksX2_mixedWith_2 : cX2_mixedWith.data.toList.drop 48 = dktX2_mixedWith_2 := dk_seg dksX2_mixedWith_1 24 rfl rfl
theorem dX2_mixedWith_0 : decode cX2_mixedWith 0 = .ok (.iconst 0, 1) := dk_3 (dk_at dksX2_mixedWith_0 0 rfl rfl)
theorem dX2_mixedWith_1 : decode cX2_mixedWith 1 = .ok (.istore_n 3, 1) := dk_62 (dk_at dksX2_mixedWith_0 1 rfl rfl)
theorem dX2_mixedWith_2 : decode cX2_mixedWith 2 = .ok (.iconst 0, 1) := dk_3 (dk_at dksX2_mixedWith_0 2 rfl rfl)
theorem dX2_mixedWith_3 : decode cX2_mixedWith 3 = .ok (.istore 4, 2) := dk_54 4 (dk_at dksX2_mixedWith_0 3 rfl rfl)
theorem dX2_mixedWith_5 : decode cX2_mixedWith 5 = .ok (.iload 4, 2) := dk_21 4 (dk_at dksX2_mixedWith_0 5 rfl rfl)
theorem dX2_mixedWith_7 : decode cX2_mixedWith 7 = .ok (.aload_n 0, 1) := dk_42 (dk_at dksX2_mixedWith_0 7 rfl rfl)
theorem dX2_mixedWith_8 : decode cX2_mixedWith 8 = .ok (.getfield 9, 3) := dk_180 0 9 (dk_at dksX2_mixedWith_0 8 rfl rfl)
theorem dX2_mixedWith_11 : decode cX2_mixedWith 11 = .ok (.bipush 10, 2) := dk_16 10 (dk_at dksX2_mixedWith_0 11 rfl rfl)
theorem dX2_mixedWith_13 : decode cX2_mixedWith 13 = .ok (.iaload, 1) := dk_46 (dk_at dksX2_mixedWith_0 13 rfl rfl)
theorem dX2_mixedWith_14 : decode cX2_mixedWith 14 = .ok (.if_icmp .ge 40, 3) := dk_162 0 40 (dk_at dksX2_mixedWith_0 14 rfl rfl)
theorem dX2_mixedWith_17 : decode cX2_mixedWith 17 = .ok (.iload_n 3, 1) := dk_29 (dk_at dksX2_mixedWith_0 17 rfl rfl)
theorem dX2_mixedWith_18 : decode cX2_mixedWith 18 = .ok (.aload_n 0, 1) := dk_42 (dk_at dksX2_mixedWith_0 18 rfl rfl)
theorem dX2_mixedWith_19 : decode cX2_mixedWith 19 = .ok (.iload 4, 2) := dk_21 4 (dk_at dksX2_mixedWith_0 19 rfl rfl)
theorem dX2_mixedWith_21 : decode cX2_mixedWith 21 = .ok (.invokevirtual 249, 3) := dk_182 0 249 (dk_at dksX2_mixedWith_0 21 rfl rfl)
theorem dX2_mixedWith_24 : decode cX2_mixedWith 24 = .ok (.ifCond .eq 18, 3) := dk_153 0 18 (dk_at dksX2_mixedWith_1 0 rfl rfl)
theorem dX2_mixedWith_27 : decode cX2_mixedWith 27 = .ok (.aload_n 0, 1) := dk_42 (dk_at dksX2_mixedWith_1 3 rfl rfl)
theorem dX2_mixedWith_28 : decode cX2_mixedWith 28 = .ok (.iload_n 1, 1) := dk_27 (dk_at dksX2_mixedWith_1 4 rfl rfl)
theorem dX2_mixedWith_29 : decode cX2_mixedWith 29 = .ok (.iload 4, 2) := dk_21 4 (dk_at dksX2_mixedWith_1 5 rfl rfl)
theorem dX2_mixedWith_31 : decode cX2_mixedWith 31 = .ok (.iload_n 2, 1) := dk_28 (dk_at dksX2_mixedWith_1 7 rfl rfl)
theorem dX2_mixedWith_32 : decode cX2_mixedWith 32 = .ok (.invokevirtual 391, 3) := dk_182 1 135 (dk_at dksX2_mixedWith_1 8 rfl rfl)
theorem dX2_mixedWith_35 : decode cX2_mixedWith 35 = .ok (.ifCond .eq 7, 3) := dk_153 0 7 (dk_at dksX2_mixedWith_1 11 rfl rfl)
theorem dX2_mixedWith_38 : decode cX2_mixedWith 38 = .ok (.iconst 1, 1) := dk_4 (dk_at dksX2_mixedWith_1 14 rfl rfl)
theorem dX2_mixedWith_39 : decode cX2_mixedWith 39 = .ok (.goto 4, 3) := dk_167 0 4 (dk_at dksX2_mixedWith_1 15 rfl rfl)
theorem dX2_mixedWith_42 : decode cX2_mixedWith 42 = .ok (.iconst 0, 1) := dk_3 (dk_at dksX2_mixedWith_1 18 rfl rfl)
theorem dX2_mixedWith_43 : decode cX2_mixedWith 43 = .ok (.invokestatic 245, 3) := dk_184 0 245 (dk_at dksX2_mixedWith_1 19 rfl rfl)
theorem dX2_mixedWith_46 : decode cX2_mixedWith 46 = .ok (.iadd, 1) := dk_96 (dk_at dksX2_mixedWith_1 22 rfl rfl)
theorem dX2_mixedWith_47 : decode cX2_mixedWith 47 = .ok (.istore_n 3, 1) := dk_62 (dk_at dksX2_mixedWith_1 23 rfl rfl)
theorem dX2_mixedWith_48 : decode cX2_mixedWith 48 = .ok (.iinc 4 1, 3) := dk_132 4 1 (dk_at dksX2_mixedWith_2 0 rfl rfl)
theorem dX2_mixedWith_51 : decode cX2_mixedWith 51 = .ok (.goto (-46), 3) := dk_167 255 210 (dk_at dksX2_mixedWith_2 3 rfl rfl)
theorem dX2_mixedWith_54 : decode cX2_mixedWith 54 = .ok (.iload_n 3, 1) := dk_29 (dk_at dksX2_mixedWith_2 6 rfl rfl)
theorem dX2_mixedWith_55 : decode cX2_mixedWith 55 = .ok (.ireturn, 1) := dk_172 (dk_at dksX2_mixedWith_2 7 rfl rfl)
abbrev cX2_washesFor : ByteArray := prog_20_method_126_code
def yX2_washesFor : MethodName := ⟨RX2, "washesFor", "(I)I"⟩
def dkwX2_washesFor_1 : List UInt8 := [182, 0, 227, 28, 96, 4, 100, 28, 108, 172]
abbrev dktX2_washesFor_1 : List UInt8 := dkwX2_washesFor_1 ++ []
def dkwX2_washesFor_0 : List UInt8 := [42, 27, 182, 1, 111, 154, 0, 5, 3, 172, 4, 5, 42, 27, 5, 182, 0, 227, 104, 96, 61, 42, 27, 6]
abbrev dktX2_washesFor_0 : List UInt8 := dkwX2_washesFor_0 ++ dktX2_washesFor_1
theorem dksX2_washesFor_0 : cX2_washesFor.data.toList.drop 0 = dktX2_washesFor_0 := by decide +kernel
theorem dksX2_washesFor_1 : cX2_washesFor.data.toList.drop 24 = dktX2_washesFor_1 := dk_seg dksX2_washesFor_0 24 rfl rfl
theorem dX2_washesFor_0 : decode cX2_washesFor 0 = .ok (.aload_n 0, 1) := dk_42 (dk_at dksX2_washesFor_0 0 rfl rfl)
theorem dX2_washesFor_1 : decode cX2_washesFor 1 = .ok (.iload_n 1, 1) := dk_27 (dk_at dksX2_washesFor_0 1 rfl rfl)
theorem dX2_washesFor_2 : decode cX2_washesFor 2 = .ok (.invokevirtual 367, 3) := dk_182 1 111 (dk_at dksX2_washesFor_0 2 rfl rfl)
theorem dX2_washesFor_5 : decode cX2_washesFor 5 = .ok (.ifCond .ne 5, 3) := dk_154 0 5 (dk_at dksX2_washesFor_0 5 rfl rfl)
theorem dX2_washesFor_8 : decode cX2_washesFor 8 = .ok (.iconst 0, 1) := dk_3 (dk_at dksX2_washesFor_0 8 rfl rfl)
theorem dX2_washesFor_9 : decode cX2_washesFor 9 = .ok (.ireturn, 1) := dk_172 (dk_at dksX2_washesFor_0 9 rfl rfl)
theorem dX2_washesFor_10 : decode cX2_washesFor 10 = .ok (.iconst 1, 1) := dk_4 (dk_at dksX2_washesFor_0 10 rfl rfl)
theorem dX2_washesFor_11 : decode cX2_washesFor 11 = .ok (.iconst 2, 1) := dk_5 (dk_at dksX2_washesFor_0 11 rfl rfl)
theorem dX2_washesFor_12 : decode cX2_washesFor 12 = .ok (.aload_n 0, 1) := dk_42 (dk_at dksX2_washesFor_0 12 rfl rfl)
theorem dX2_washesFor_13 : decode cX2_washesFor 13 = .ok (.iload_n 1, 1) := dk_27 (dk_at dksX2_washesFor_0 13 rfl rfl)
theorem dX2_washesFor_14 : decode cX2_washesFor 14 = .ok (.iconst 2, 1) := dk_5 (dk_at dksX2_washesFor_0 14 rfl rfl)
theorem dX2_washesFor_15 : decode cX2_washesFor 15 = .ok (.invokevirtual 227, 3) := dk_182 0 227 (dk_at dksX2_washesFor_0 15 rfl rfl)
theorem dX2_washesFor_18 : decode cX2_washesFor 18 = .ok (.imul, 1) := dk_104 (dk_at dksX2_washesFor_0 18 rfl rfl)
theorem dX2_washesFor_19 : decode cX2_washesFor 19 = .ok (.iadd, 1) := dk_96 (dk_at dksX2_washesFor_0 19 rfl rfl)
theorem dX2_washesFor_20 : decode cX2_washesFor 20 = .ok (.istore_n 2, 1) := dk_61 (dk_at dksX2_washesFor_0 20 rfl rfl)
theorem dX2_washesFor_21 : decode cX2_washesFor 21 = .ok (.aload_n 0, 1) := dk_42 (dk_at dksX2_washesFor_0 21 rfl rfl)
theorem dX2_washesFor_22 : decode cX2_washesFor 22 = .ok (.iload_n 1, 1) := dk_27 (dk_at dksX2_washesFor_0 22 rfl rfl)
theorem dX2_washesFor_23 : decode cX2_washesFor 23 = .ok (.iconst 3, 1) := dk_6 (dk_at dksX2_washesFor_0 23 rfl rfl)
theorem dX2_washesFor_24 : decode cX2_washesFor 24 = .ok (.invokevirtual 227, 3) := dk_182 0 227 (dk_at dksX2_washesFor_1 0 rfl rfl)
theorem dX2_washesFor_27 : decode cX2_washesFor 27 = .ok (.iload_n 2, 1) := dk_28 (dk_at dksX2_washesFor_1 3 rfl rfl)
theorem dX2_washesFor_28 : decode cX2_washesFor 28 = .ok (.iadd, 1) := dk_96 (dk_at dksX2_washesFor_1 4 rfl rfl)
theorem dX2_washesFor_29 : decode cX2_washesFor 29 = .ok (.iconst 1, 1) := dk_4 (dk_at dksX2_washesFor_1 5 rfl rfl)
theorem dX2_washesFor_30 : decode cX2_washesFor 30 = .ok (.isub, 1) := dk_100 (dk_at dksX2_washesFor_1 6 rfl rfl)
theorem dX2_washesFor_31 : decode cX2_washesFor 31 = .ok (.iload_n 2, 1) := dk_28 (dk_at dksX2_washesFor_1 7 rfl rfl)
theorem dX2_washesFor_32 : decode cX2_washesFor 32 = .ok (.idiv, 1) := dk_108 (dk_at dksX2_washesFor_1 8 rfl rfl)
theorem dX2_washesFor_33 : decode cX2_washesFor 33 = .ok (.ireturn, 1) := dk_172 (dk_at dksX2_washesFor_1 9 rfl rfl)
abbrev cX2_dryIn : ByteArray := prog_20_method_128_code
def yX2_dryIn : MethodName := ⟨RX2, "dryIn", "(I)I"⟩
def dkwX2_dryIn_0 : List UInt8 := [42, 27, 182, 1, 111, 154, 0, 5, 3, 172, 42, 182, 0, 215, 42, 42, 27, 182, 1, 145, 182, 0, 221, 172]
abbrev dktX2_dryIn_0 : List UInt8 := dkwX2_dryIn_0 ++ []
theorem dksX2_dryIn_0 : cX2_dryIn.data.toList.drop 0 = dktX2_dryIn_0 := by decide +kernel
theorem dX2_dryIn_0 : decode cX2_dryIn 0 = .ok (.aload_n 0, 1) := dk_42 (dk_at dksX2_dryIn_0 0 rfl rfl)
theorem dX2_dryIn_1 : decode cX2_dryIn 1 = .ok (.iload_n 1, 1) := dk_27 (dk_at dksX2_dryIn_0 1 rfl rfl)
theorem dX2_dryIn_2 : decode cX2_dryIn 2 = .ok (.invokevirtual 367, 3) := dk_182 1 111 (dk_at dksX2_dryIn_0 2 rfl rfl)
theorem dX2_dryIn_5 : decode cX2_dryIn 5 = .ok (.ifCond .ne 5, 3) := dk_154 0 5 (dk_at dksX2_dryIn_0 5 rfl rfl)
theorem dX2_dryIn_8 : decode cX2_dryIn 8 = .ok (.iconst 0, 1) := dk_3 (dk_at dksX2_dryIn_0 8 rfl rfl)
theorem dX2_dryIn_9 : decode cX2_dryIn 9 = .ok (.ireturn, 1) := dk_172 (dk_at dksX2_dryIn_0 9 rfl rfl)
theorem dX2_dryIn_10 : decode cX2_dryIn 10 = .ok (.aload_n 0, 1) := dk_42 (dk_at dksX2_dryIn_0 10 rfl rfl)
theorem dX2_dryIn_11 : decode cX2_dryIn 11 = .ok (.invokevirtual 215, 3) := dk_182 0 215 (dk_at dksX2_dryIn_0 11 rfl rfl)
theorem dX2_dryIn_14 : decode cX2_dryIn 14 = .ok (.aload_n 0, 1) := dk_42 (dk_at dksX2_dryIn_0 14 rfl rfl)
theorem dX2_dryIn_15 : decode cX2_dryIn 15 = .ok (.aload_n 0, 1) := dk_42 (dk_at dksX2_dryIn_0 15 rfl rfl)
theorem dX2_dryIn_16 : decode cX2_dryIn 16 = .ok (.iload_n 1, 1) := dk_27 (dk_at dksX2_dryIn_0 16 rfl rfl)
theorem dX2_dryIn_17 : decode cX2_dryIn 17 = .ok (.invokevirtual 401, 3) := dk_182 1 145 (dk_at dksX2_dryIn_0 17 rfl rfl)
theorem dX2_dryIn_20 : decode cX2_dryIn 20 = .ok (.invokevirtual 221, 3) := dk_182 0 221 (dk_at dksX2_dryIn_0 20 rfl rfl)
theorem dX2_dryIn_23 : decode cX2_dryIn 23 = .ok (.ireturn, 1) := dk_172 (dk_at dksX2_dryIn_0 23 rfl rfl)
abbrev cX2_driesIn : ByteArray := prog_20_method_127_code
def yX2_driesIn : MethodName := ⟨RX2, "driesIn", "(I)I"⟩
def dkwX2_driesIn_3 : List UInt8 := [132, 2, 1, 167, 255, 186, 2, 172]
abbrev dktX2_driesIn_3 : List UInt8 := dkwX2_driesIn_3 ++ []
def dkwX2_driesIn_2 : List UInt8 := [28, 4, 96, 167, 0, 4, 2, 172, 42, 182, 1, 43, 42, 180, 0, 9, 3, 92, 46, 4, 96, 79]
abbrev dktX2_driesIn_2 : List UInt8 := dkwX2_driesIn_2 ++ dktX2_driesIn_3
def dkwX2_driesIn_1 : List UInt8 := [154, 0, 5, 28, 172, 42, 182, 1, 40, 42, 27, 7, 182, 0, 227, 154, 0, 17, 28, 16, 99, 162, 0, 9]
abbrev dktX2_driesIn_1 : List UInt8 := dkwX2_driesIn_1 ++ dktX2_driesIn_2
def dkwX2_driesIn_0 : List UInt8 := [3, 61, 28, 16, 99, 163, 0, 70, 42, 27, 182, 0, 230, 5, 160, 0, 61, 42, 27, 7, 182, 0, 227]
abbrev dktX2_driesIn_0 : List UInt8 := dkwX2_driesIn_0 ++ dktX2_driesIn_1
theorem dksX2_driesIn_0 : cX2_driesIn.data.toList.drop 0 = dktX2_driesIn_0 := by decide +kernel
theorem dksX2_driesIn_1 : cX2_driesIn.data.toList.drop 23 = dktX2_driesIn_1 := dk_seg dksX2_driesIn_0 23 rfl rfl
theorem dksX2_driesIn_2 : cX2_driesIn.data.toList.drop 47 = dktX2_driesIn_2 := dk_seg dksX2_driesIn_1 24 rfl rfl
theorem dksX2_driesIn_3 : cX2_driesIn.data.toList.drop 69 = dktX2_driesIn_3 := dk_seg dksX2_driesIn_2 22 rfl rfl
theorem dX2_driesIn_0 : decode cX2_driesIn 0 = .ok (.iconst 0, 1) := dk_3 (dk_at dksX2_driesIn_0 0 rfl rfl)
theorem dX2_driesIn_1 : decode cX2_driesIn 1 = .ok (.istore_n 2, 1) := dk_61 (dk_at dksX2_driesIn_0 1 rfl rfl)
theorem dX2_driesIn_2 : decode cX2_driesIn 2 = .ok (.iload_n 2, 1) := dk_28 (dk_at dksX2_driesIn_0 2 rfl rfl)
theorem dX2_driesIn_3 : decode cX2_driesIn 3 = .ok (.bipush 99, 2) := dk_16 99 (dk_at dksX2_driesIn_0 3 rfl rfl)
theorem dX2_driesIn_5 : decode cX2_driesIn 5 = .ok (.if_icmp .gt 70, 3) := dk_163 0 70 (dk_at dksX2_driesIn_0 5 rfl rfl)
theorem dX2_driesIn_8 : decode cX2_driesIn 8 = .ok (.aload_n 0, 1) := dk_42 (dk_at dksX2_driesIn_0 8 rfl rfl)
theorem dX2_driesIn_9 : decode cX2_driesIn 9 = .ok (.iload_n 1, 1) := dk_27 (dk_at dksX2_driesIn_0 9 rfl rfl)
theorem dX2_driesIn_10 : decode cX2_driesIn 10 = .ok (.invokevirtual 230, 3) := dk_182 0 230 (dk_at dksX2_driesIn_0 10 rfl rfl)
theorem dX2_driesIn_13 : decode cX2_driesIn 13 = .ok (.iconst 2, 1) := dk_5 (dk_at dksX2_driesIn_0 13 rfl rfl)
theorem dX2_driesIn_14 : decode cX2_driesIn 14 = .ok (.if_icmp .ne 61, 3) := dk_160 0 61 (dk_at dksX2_driesIn_0 14 rfl rfl)
theorem dX2_driesIn_17 : decode cX2_driesIn 17 = .ok (.aload_n 0, 1) := dk_42 (dk_at dksX2_driesIn_0 17 rfl rfl)
theorem dX2_driesIn_18 : decode cX2_driesIn 18 = .ok (.iload_n 1, 1) := dk_27 (dk_at dksX2_driesIn_0 18 rfl rfl)
theorem dX2_driesIn_19 : decode cX2_driesIn 19 = .ok (.iconst 4, 1) := dk_7 (dk_at dksX2_driesIn_0 19 rfl rfl)
theorem dX2_driesIn_20 : decode cX2_driesIn 20 = .ok (.invokevirtual 227, 3) := dk_182 0 227 (dk_at dksX2_driesIn_0 20 rfl rfl)
theorem dX2_driesIn_23 : decode cX2_driesIn 23 = .ok (.ifCond .ne 5, 3) := dk_154 0 5 (dk_at dksX2_driesIn_1 0 rfl rfl)
theorem dX2_driesIn_26 : decode cX2_driesIn 26 = .ok (.iload_n 2, 1) := dk_28 (dk_at dksX2_driesIn_1 3 rfl rfl)
theorem dX2_driesIn_27 : decode cX2_driesIn 27 = .ok (.ireturn, 1) := dk_172 (dk_at dksX2_driesIn_1 4 rfl rfl)
theorem dX2_driesIn_28 : decode cX2_driesIn 28 = .ok (.aload_n 0, 1) := dk_42 (dk_at dksX2_driesIn_1 5 rfl rfl)
theorem dX2_driesIn_29 : decode cX2_driesIn 29 = .ok (.invokevirtual 296, 3) := dk_182 1 40 (dk_at dksX2_driesIn_1 6 rfl rfl)
theorem dX2_driesIn_32 : decode cX2_driesIn 32 = .ok (.aload_n 0, 1) := dk_42 (dk_at dksX2_driesIn_1 9 rfl rfl)
theorem dX2_driesIn_33 : decode cX2_driesIn 33 = .ok (.iload_n 1, 1) := dk_27 (dk_at dksX2_driesIn_1 10 rfl rfl)
theorem dX2_driesIn_34 : decode cX2_driesIn 34 = .ok (.iconst 4, 1) := dk_7 (dk_at dksX2_driesIn_1 11 rfl rfl)
theorem dX2_driesIn_35 : decode cX2_driesIn 35 = .ok (.invokevirtual 227, 3) := dk_182 0 227 (dk_at dksX2_driesIn_1 12 rfl rfl)
theorem dX2_driesIn_38 : decode cX2_driesIn 38 = .ok (.ifCond .ne 17, 3) := dk_154 0 17 (dk_at dksX2_driesIn_1 15 rfl rfl)
theorem dX2_driesIn_41 : decode cX2_driesIn 41 = .ok (.iload_n 2, 1) := dk_28 (dk_at dksX2_driesIn_1 18 rfl rfl)
theorem dX2_driesIn_42 : decode cX2_driesIn 42 = .ok (.bipush 99, 2) := dk_16 99 (dk_at dksX2_driesIn_1 19 rfl rfl)
theorem dX2_driesIn_44 : decode cX2_driesIn 44 = .ok (.if_icmp .ge 9, 3) := dk_162 0 9 (dk_at dksX2_driesIn_1 21 rfl rfl)
theorem dX2_driesIn_47 : decode cX2_driesIn 47 = .ok (.iload_n 2, 1) := dk_28 (dk_at dksX2_driesIn_2 0 rfl rfl)
theorem dX2_driesIn_48 : decode cX2_driesIn 48 = .ok (.iconst 1, 1) := dk_4 (dk_at dksX2_driesIn_2 1 rfl rfl)
theorem dX2_driesIn_49 : decode cX2_driesIn 49 = .ok (.iadd, 1) := dk_96 (dk_at dksX2_driesIn_2 2 rfl rfl)
theorem dX2_driesIn_50 : decode cX2_driesIn 50 = .ok (.goto 4, 3) := dk_167 0 4 (dk_at dksX2_driesIn_2 3 rfl rfl)
theorem dX2_driesIn_53 : decode cX2_driesIn 53 = .ok (.iconst (-1), 1) := dk_2 (dk_at dksX2_driesIn_2 6 rfl rfl)
theorem dX2_driesIn_54 : decode cX2_driesIn 54 = .ok (.ireturn, 1) := dk_172 (dk_at dksX2_driesIn_2 7 rfl rfl)
theorem dX2_driesIn_55 : decode cX2_driesIn 55 = .ok (.aload_n 0, 1) := dk_42 (dk_at dksX2_driesIn_2 8 rfl rfl)
theorem dX2_driesIn_56 : decode cX2_driesIn 56 = .ok (.invokevirtual 299, 3) := dk_182 1 43 (dk_at dksX2_driesIn_2 9 rfl rfl)
theorem dX2_driesIn_59 : decode cX2_driesIn 59 = .ok (.aload_n 0, 1) := dk_42 (dk_at dksX2_driesIn_2 12 rfl rfl)
theorem dX2_driesIn_60 : decode cX2_driesIn 60 = .ok (.getfield 9, 3) := dk_180 0 9 (dk_at dksX2_driesIn_2 13 rfl rfl)
theorem dX2_driesIn_63 : decode cX2_driesIn 63 = .ok (.iconst 0, 1) := dk_3 (dk_at dksX2_driesIn_2 16 rfl rfl)
theorem dX2_driesIn_64 : decode cX2_driesIn 64 = .ok (.dup2, 1) := dk_92 (dk_at dksX2_driesIn_2 17 rfl rfl)
theorem dX2_driesIn_65 : decode cX2_driesIn 65 = .ok (.iaload, 1) := dk_46 (dk_at dksX2_driesIn_2 18 rfl rfl)
theorem dX2_driesIn_66 : decode cX2_driesIn 66 = .ok (.iconst 1, 1) := dk_4 (dk_at dksX2_driesIn_2 19 rfl rfl)
theorem dX2_driesIn_67 : decode cX2_driesIn 67 = .ok (.iadd, 1) := dk_96 (dk_at dksX2_driesIn_2 20 rfl rfl)
theorem dX2_driesIn_68 : decode cX2_driesIn 68 = .ok (.iastore, 1) := dk_79 (dk_at dksX2_driesIn_2 21 rfl rfl)
theorem dX2_driesIn_69 : decode cX2_driesIn 69 = .ok (.iinc 2 1, 3) := dk_132 2 1 (dk_at dksX2_driesIn_3 0 rfl rfl)
theorem dX2_driesIn_72 : decode cX2_driesIn 72 = .ok (.goto (-70), 3) := dk_167 255 186 (dk_at dksX2_driesIn_3 3 rfl rfl)
theorem dX2_driesIn_75 : decode cX2_driesIn 75 = .ok (.iconst (-1), 1) := dk_2 (dk_at dksX2_driesIn_3 6 rfl rfl)
theorem dX2_driesIn_76 : decode cX2_driesIn 76 = .ok (.ireturn, 1) := dk_172 (dk_at dksX2_driesIn_3 7 rfl rfl)
abbrev cX2_dryByWind : ByteArray := prog_20_method_130_code
def yX2_dryByWind : MethodName := ⟨RX2, "dryByWind", "(II)I"⟩
def dkwX2_dryByWind_1 : List UInt8 := [182, 0, 215, 42, 180, 0, 9, 4, 28, 79, 42, 42, 27, 182, 1, 145, 182, 0, 221, 172]
abbrev dktX2_dryByWind_1 : List UInt8 := dkwX2_dryByWind_1 ++ []
def dkwX2_dryByWind_0 : List UInt8 := [42, 42, 180, 0, 47, 42, 27, 182, 1, 68, 28, 184, 1, 148, 182, 0, 43, 154, 0, 5, 3, 172, 42]
abbrev dktX2_dryByWind_0 : List UInt8 := dkwX2_dryByWind_0 ++ dktX2_dryByWind_1
theorem dksX2_dryByWind_0 : cX2_dryByWind.data.toList.drop 0 = dktX2_dryByWind_0 := by decide +kernel
theorem dksX2_dryByWind_1 : cX2_dryByWind.data.toList.drop 23 = dktX2_dryByWind_1 := dk_seg dksX2_dryByWind_0 23 rfl rfl
theorem dX2_dryByWind_0 : decode cX2_dryByWind 0 = .ok (.aload_n 0, 1) := dk_42 (dk_at dksX2_dryByWind_0 0 rfl rfl)
theorem dX2_dryByWind_1 : decode cX2_dryByWind 1 = .ok (.aload_n 0, 1) := dk_42 (dk_at dksX2_dryByWind_0 1 rfl rfl)
theorem dX2_dryByWind_2 : decode cX2_dryByWind 2 = .ok (.getfield 47, 3) := dk_180 0 47 (dk_at dksX2_dryByWind_0 2 rfl rfl)
theorem dX2_dryByWind_5 : decode cX2_dryByWind 5 = .ok (.aload_n 0, 1) := dk_42 (dk_at dksX2_dryByWind_0 5 rfl rfl)
theorem dX2_dryByWind_6 : decode cX2_dryByWind 6 = .ok (.iload_n 1, 1) := dk_27 (dk_at dksX2_dryByWind_0 6 rfl rfl)
theorem dX2_dryByWind_7 : decode cX2_dryByWind 7 = .ok (.invokevirtual 324, 3) := dk_182 1 68 (dk_at dksX2_dryByWind_0 7 rfl rfl)
theorem dX2_dryByWind_10 : decode cX2_dryByWind 10 = .ok (.iload_n 2, 1) := dk_28 (dk_at dksX2_dryByWind_0 10 rfl rfl)
theorem dX2_dryByWind_11 : decode cX2_dryByWind 11 = .ok (.invokestatic 404, 3) := dk_184 1 148 (dk_at dksX2_dryByWind_0 11 rfl rfl)
theorem dX2_dryByWind_14 : decode cX2_dryByWind 14 = .ok (.invokevirtual 43, 3) := dk_182 0 43 (dk_at dksX2_dryByWind_0 14 rfl rfl)
theorem dX2_dryByWind_17 : decode cX2_dryByWind 17 = .ok (.ifCond .ne 5, 3) := dk_154 0 5 (dk_at dksX2_dryByWind_0 17 rfl rfl)
theorem dX2_dryByWind_20 : decode cX2_dryByWind 20 = .ok (.iconst 0, 1) := dk_3 (dk_at dksX2_dryByWind_0 20 rfl rfl)
theorem dX2_dryByWind_21 : decode cX2_dryByWind 21 = .ok (.ireturn, 1) := dk_172 (dk_at dksX2_dryByWind_0 21 rfl rfl)
theorem dX2_dryByWind_22 : decode cX2_dryByWind 22 = .ok (.aload_n 0, 1) := dk_42 (dk_at dksX2_dryByWind_0 22 rfl rfl)
theorem dX2_dryByWind_23 : decode cX2_dryByWind 23 = .ok (.invokevirtual 215, 3) := dk_182 0 215 (dk_at dksX2_dryByWind_1 0 rfl rfl)
theorem dX2_dryByWind_26 : decode cX2_dryByWind 26 = .ok (.aload_n 0, 1) := dk_42 (dk_at dksX2_dryByWind_1 3 rfl rfl)
theorem dX2_dryByWind_27 : decode cX2_dryByWind 27 = .ok (.getfield 9, 3) := dk_180 0 9 (dk_at dksX2_dryByWind_1 4 rfl rfl)
theorem dX2_dryByWind_30 : decode cX2_dryByWind 30 = .ok (.iconst 1, 1) := dk_4 (dk_at dksX2_dryByWind_1 7 rfl rfl)
theorem dX2_dryByWind_31 : decode cX2_dryByWind 31 = .ok (.iload_n 2, 1) := dk_28 (dk_at dksX2_dryByWind_1 8 rfl rfl)
theorem dX2_dryByWind_32 : decode cX2_dryByWind 32 = .ok (.iastore, 1) := dk_79 (dk_at dksX2_dryByWind_1 9 rfl rfl)
theorem dX2_dryByWind_33 : decode cX2_dryByWind 33 = .ok (.aload_n 0, 1) := dk_42 (dk_at dksX2_dryByWind_1 10 rfl rfl)
theorem dX2_dryByWind_34 : decode cX2_dryByWind 34 = .ok (.aload_n 0, 1) := dk_42 (dk_at dksX2_dryByWind_1 11 rfl rfl)
theorem dX2_dryByWind_35 : decode cX2_dryByWind 35 = .ok (.iload_n 1, 1) := dk_27 (dk_at dksX2_dryByWind_1 12 rfl rfl)
theorem dX2_dryByWind_36 : decode cX2_dryByWind 36 = .ok (.invokevirtual 401, 3) := dk_182 1 145 (dk_at dksX2_dryByWind_1 13 rfl rfl)
theorem dX2_dryByWind_39 : decode cX2_dryByWind 39 = .ok (.invokevirtual 221, 3) := dk_182 0 221 (dk_at dksX2_dryByWind_1 16 rfl rfl)
theorem dX2_dryByWind_42 : decode cX2_dryByWind 42 = .ok (.ireturn, 1) := dk_172 (dk_at dksX2_dryByWind_1 19 rfl rfl)
abbrev cX2_isWind : ByteArray := prog_20_method_129_code
def yX2_isWind : MethodName := ⟨RX2, "isWind", "(I)Z"⟩
def dkwX2_isWind_0 : List UInt8 := [26, 3, 16, 9, 184, 0, 68, 172]
abbrev dktX2_isWind_0 : List UInt8 := dkwX2_isWind_0 ++ []
theorem dksX2_isWind_0 : cX2_isWind.data.toList.drop 0 = dktX2_isWind_0 := by decide +kernel
theorem dX2_isWind_0 : decode cX2_isWind 0 = .ok (.iload_n 0, 1) := dk_26 (dk_at dksX2_isWind_0 0 rfl rfl)
theorem dX2_isWind_1 : decode cX2_isWind 1 = .ok (.iconst 0, 1) := dk_3 (dk_at dksX2_isWind_0 1 rfl rfl)
theorem dX2_isWind_2 : decode cX2_isWind 2 = .ok (.bipush 9, 2) := dk_16 9 (dk_at dksX2_isWind_0 2 rfl rfl)
theorem dX2_isWind_4 : decode cX2_isWind 4 = .ok (.invokestatic 68, 3) := dk_184 0 68 (dk_at dksX2_isWind_0 4 rfl rfl)
theorem dX2_isWind_7 : decode cX2_isWind 7 = .ok (.ireturn, 1) := dk_172 (dk_at dksX2_isWind_0 7 rfl rfl)
abbrev cX2_fallsIn : ByteArray := prog_20_method_131_code
def yX2_fallsIn : MethodName := ⟨RX2, "fallsIn", "(I)I"⟩
def dkwX2_fallsIn_2 : List UInt8 := [42, 42, 180, 0, 9, 8, 46, 28, 100, 182, 0, 221, 172]
abbrev dktX2_fallsIn_2 : List UInt8 := dkwX2_fallsIn_2 ++ []
def dkwX2_fallsIn_1 : List UInt8 := [8, 46, 61, 42, 182, 0, 215, 3, 62, 29, 27, 162, 0, 13, 42, 182, 0, 155, 132, 3, 1, 167, 255, 244]
abbrev dktX2_fallsIn_1 : List UInt8 := dkwX2_fallsIn_1 ++ dktX2_fallsIn_2
def dkwX2_fallsIn_0 : List UInt8 := [42, 42, 180, 0, 47, 27, 3, 16, 99, 184, 0, 68, 182, 1, 58, 154, 0, 5, 3, 172, 42, 180, 0, 9]
abbrev dktX2_fallsIn_0 : List UInt8 := dkwX2_fallsIn_0 ++ dktX2_fallsIn_1
theorem dksX2_fallsIn_0 : cX2_fallsIn.data.toList.drop 0 = dktX2_fallsIn_0 := by decide +kernel
theorem dksX2_fallsIn_1 : cX2_fallsIn.data.toList.drop 24 = dktX2_fallsIn_1 := dk_seg dksX2_fallsIn_0 24 rfl rfl
theorem dksX2_fallsIn_2 : cX2_fallsIn.data.toList.drop 48 = dktX2_fallsIn_2 := dk_seg dksX2_fallsIn_1 24 rfl rfl
theorem dX2_fallsIn_0 : decode cX2_fallsIn 0 = .ok (.aload_n 0, 1) := dk_42 (dk_at dksX2_fallsIn_0 0 rfl rfl)
theorem dX2_fallsIn_1 : decode cX2_fallsIn 1 = .ok (.aload_n 0, 1) := dk_42 (dk_at dksX2_fallsIn_0 1 rfl rfl)
theorem dX2_fallsIn_2 : decode cX2_fallsIn 2 = .ok (.getfield 47, 3) := dk_180 0 47 (dk_at dksX2_fallsIn_0 2 rfl rfl)
theorem dX2_fallsIn_5 : decode cX2_fallsIn 5 = .ok (.iload_n 1, 1) := dk_27 (dk_at dksX2_fallsIn_0 5 rfl rfl)
theorem dX2_fallsIn_6 : decode cX2_fallsIn 6 = .ok (.iconst 0, 1) := dk_3 (dk_at dksX2_fallsIn_0 6 rfl rfl)
theorem dX2_fallsIn_7 : decode cX2_fallsIn 7 = .ok (.bipush 99, 2) := dk_16 99 (dk_at dksX2_fallsIn_0 7 rfl rfl)
theorem dX2_fallsIn_9 : decode cX2_fallsIn 9 = .ok (.invokestatic 68, 3) := dk_184 0 68 (dk_at dksX2_fallsIn_0 9 rfl rfl)
theorem dX2_fallsIn_12 : decode cX2_fallsIn 12 = .ok (.invokevirtual 314, 3) := dk_182 1 58 (dk_at dksX2_fallsIn_0 12 rfl rfl)
theorem dX2_fallsIn_15 : decode cX2_fallsIn 15 = .ok (.ifCond .ne 5, 3) := dk_154 0 5 (dk_at dksX2_fallsIn_0 15 rfl rfl)
theorem dX2_fallsIn_18 : decode cX2_fallsIn 18 = .ok (.iconst 0, 1) := dk_3 (dk_at dksX2_fallsIn_0 18 rfl rfl)
theorem dX2_fallsIn_19 : decode cX2_fallsIn 19 = .ok (.ireturn, 1) := dk_172 (dk_at dksX2_fallsIn_0 19 rfl rfl)
theorem dX2_fallsIn_20 : decode cX2_fallsIn 20 = .ok (.aload_n 0, 1) := dk_42 (dk_at dksX2_fallsIn_0 20 rfl rfl)
theorem dX2_fallsIn_21 : decode cX2_fallsIn 21 = .ok (.getfield 9, 3) := dk_180 0 9 (dk_at dksX2_fallsIn_0 21 rfl rfl)
theorem dX2_fallsIn_24 : decode cX2_fallsIn 24 = .ok (.iconst 5, 1) := dk_8 (dk_at dksX2_fallsIn_1 0 rfl rfl)
theorem dX2_fallsIn_25 : decode cX2_fallsIn 25 = .ok (.iaload, 1) := dk_46 (dk_at dksX2_fallsIn_1 1 rfl rfl)
theorem dX2_fallsIn_26 : decode cX2_fallsIn 26 = .ok (.istore_n 2, 1) := dk_61 (dk_at dksX2_fallsIn_1 2 rfl rfl)
theorem dX2_fallsIn_27 : decode cX2_fallsIn 27 = .ok (.aload_n 0, 1) := dk_42 (dk_at dksX2_fallsIn_1 3 rfl rfl)
theorem dX2_fallsIn_28 : decode cX2_fallsIn 28 = .ok (.invokevirtual 215, 3) := dk_182 0 215 (dk_at dksX2_fallsIn_1 4 rfl rfl)
theorem dX2_fallsIn_31 : decode cX2_fallsIn 31 = .ok (.iconst 0, 1) := dk_3 (dk_at dksX2_fallsIn_1 7 rfl rfl)
theorem dX2_fallsIn_32 : decode cX2_fallsIn 32 = .ok (.istore_n 3, 1) := dk_62 (dk_at dksX2_fallsIn_1 8 rfl rfl)
theorem dX2_fallsIn_33 : decode cX2_fallsIn 33 = .ok (.iload_n 3, 1) := dk_29 (dk_at dksX2_fallsIn_1 9 rfl rfl)
theorem dX2_fallsIn_34 : decode cX2_fallsIn 34 = .ok (.iload_n 1, 1) := dk_27 (dk_at dksX2_fallsIn_1 10 rfl rfl)
theorem dX2_fallsIn_35 : decode cX2_fallsIn 35 = .ok (.if_icmp .ge 13, 3) := dk_162 0 13 (dk_at dksX2_fallsIn_1 11 rfl rfl)
theorem dX2_fallsIn_38 : decode cX2_fallsIn 38 = .ok (.aload_n 0, 1) := dk_42 (dk_at dksX2_fallsIn_1 14 rfl rfl)
theorem dX2_fallsIn_39 : decode cX2_fallsIn 39 = .ok (.invokevirtual 155, 3) := dk_182 0 155 (dk_at dksX2_fallsIn_1 15 rfl rfl)
theorem dX2_fallsIn_42 : decode cX2_fallsIn 42 = .ok (.iinc 3 1, 3) := dk_132 3 1 (dk_at dksX2_fallsIn_1 18 rfl rfl)
theorem dX2_fallsIn_45 : decode cX2_fallsIn 45 = .ok (.goto (-12), 3) := dk_167 255 244 (dk_at dksX2_fallsIn_1 21 rfl rfl)
theorem dX2_fallsIn_48 : decode cX2_fallsIn 48 = .ok (.aload_n 0, 1) := dk_42 (dk_at dksX2_fallsIn_2 0 rfl rfl)
theorem dX2_fallsIn_49 : decode cX2_fallsIn 49 = .ok (.aload_n 0, 1) := dk_42 (dk_at dksX2_fallsIn_2 1 rfl rfl)
theorem dX2_fallsIn_50 : decode cX2_fallsIn 50 = .ok (.getfield 9, 3) := dk_180 0 9 (dk_at dksX2_fallsIn_2 2 rfl rfl)
theorem dX2_fallsIn_53 : decode cX2_fallsIn 53 = .ok (.iconst 5, 1) := dk_8 (dk_at dksX2_fallsIn_2 5 rfl rfl)
theorem dX2_fallsIn_54 : decode cX2_fallsIn 54 = .ok (.iaload, 1) := dk_46 (dk_at dksX2_fallsIn_2 6 rfl rfl)
theorem dX2_fallsIn_55 : decode cX2_fallsIn 55 = .ok (.iload_n 2, 1) := dk_28 (dk_at dksX2_fallsIn_2 7 rfl rfl)
theorem dX2_fallsIn_56 : decode cX2_fallsIn 56 = .ok (.isub, 1) := dk_100 (dk_at dksX2_fallsIn_2 8 rfl rfl)
theorem dX2_fallsIn_57 : decode cX2_fallsIn 57 = .ok (.invokevirtual 221, 3) := dk_182 0 221 (dk_at dksX2_fallsIn_2 9 rfl rfl)
theorem dX2_fallsIn_60 : decode cX2_fallsIn 60 = .ok (.ireturn, 1) := dk_172 (dk_at dksX2_fallsIn_2 12 rfl rfl)
abbrev cX2_payIf : ByteArray := prog_20_method_133_code
def yX2_payIf : MethodName := ⟨RX2, "payIf", "(II)I"⟩
def dkwX2_payIf_1 : List UInt8 := [27, 28, 182, 1, 154, 167, 0, 4, 3, 172]
abbrev dktX2_payIf_1 : List UInt8 := dkwX2_payIf_1 ++ []
def dkwX2_payIf_0 : List UInt8 := [42, 42, 180, 0, 47, 42, 27, 182, 1, 83, 28, 3, 16, 99, 184, 0, 68, 182, 0, 43, 153, 0, 12, 42]
abbrev dktX2_payIf_0 : List UInt8 := dkwX2_payIf_0 ++ dktX2_payIf_1
theorem dksX2_payIf_0 : cX2_payIf.data.toList.drop 0 = dktX2_payIf_0 := by decide +kernel
theorem dksX2_payIf_1 : cX2_payIf.data.toList.drop 24 = dktX2_payIf_1 := dk_seg dksX2_payIf_0 24 rfl rfl
theorem dX2_payIf_0 : decode cX2_payIf 0 = .ok (.aload_n 0, 1) := dk_42 (dk_at dksX2_payIf_0 0 rfl rfl)
theorem dX2_payIf_1 : decode cX2_payIf 1 = .ok (.aload_n 0, 1) := dk_42 (dk_at dksX2_payIf_0 1 rfl rfl)
theorem dX2_payIf_2 : decode cX2_payIf 2 = .ok (.getfield 47, 3) := dk_180 0 47 (dk_at dksX2_payIf_0 2 rfl rfl)
theorem dX2_payIf_5 : decode cX2_payIf 5 = .ok (.aload_n 0, 1) := dk_42 (dk_at dksX2_payIf_0 5 rfl rfl)
theorem dX2_payIf_6 : decode cX2_payIf 6 = .ok (.iload_n 1, 1) := dk_27 (dk_at dksX2_payIf_0 6 rfl rfl)
theorem dX2_payIf_7 : decode cX2_payIf 7 = .ok (.invokevirtual 339, 3) := dk_182 1 83 (dk_at dksX2_payIf_0 7 rfl rfl)
theorem dX2_payIf_10 : decode cX2_payIf 10 = .ok (.iload_n 2, 1) := dk_28 (dk_at dksX2_payIf_0 10 rfl rfl)
theorem dX2_payIf_11 : decode cX2_payIf 11 = .ok (.iconst 0, 1) := dk_3 (dk_at dksX2_payIf_0 11 rfl rfl)
theorem dX2_payIf_12 : decode cX2_payIf 12 = .ok (.bipush 99, 2) := dk_16 99 (dk_at dksX2_payIf_0 12 rfl rfl)
theorem dX2_payIf_14 : decode cX2_payIf 14 = .ok (.invokestatic 68, 3) := dk_184 0 68 (dk_at dksX2_payIf_0 14 rfl rfl)
theorem dX2_payIf_17 : decode cX2_payIf 17 = .ok (.invokevirtual 43, 3) := dk_182 0 43 (dk_at dksX2_payIf_0 17 rfl rfl)
theorem dX2_payIf_20 : decode cX2_payIf 20 = .ok (.ifCond .eq 12, 3) := dk_153 0 12 (dk_at dksX2_payIf_0 20 rfl rfl)
theorem dX2_payIf_23 : decode cX2_payIf 23 = .ok (.aload_n 0, 1) := dk_42 (dk_at dksX2_payIf_0 23 rfl rfl)
theorem dX2_payIf_24 : decode cX2_payIf 24 = .ok (.iload_n 1, 1) := dk_27 (dk_at dksX2_payIf_1 0 rfl rfl)
theorem dX2_payIf_25 : decode cX2_payIf 25 = .ok (.iload_n 2, 1) := dk_28 (dk_at dksX2_payIf_1 1 rfl rfl)
theorem dX2_payIf_26 : decode cX2_payIf 26 = .ok (.invokevirtual 410, 3) := dk_182 1 154 (dk_at dksX2_payIf_1 2 rfl rfl)
theorem dX2_payIf_29 : decode cX2_payIf 29 = .ok (.goto 4, 3) := dk_167 0 4 (dk_at dksX2_payIf_1 5 rfl rfl)
theorem dX2_payIf_32 : decode cX2_payIf 32 = .ok (.iconst 0, 1) := dk_3 (dk_at dksX2_payIf_1 8 rfl rfl)
theorem dX2_payIf_33 : decode cX2_payIf 33 = .ok (.ireturn, 1) := dk_172 (dk_at dksX2_payIf_1 9 rfl rfl)
abbrev cX2_payIn : ByteArray := prog_20_method_132_code
def yX2_payIn : MethodName := ⟨RX2, "payIn", "(II)I"⟩
def dkwX2_payIn_1 : List UInt8 := [182, 1, 151, 172]
abbrev dktX2_payIn_1 : List UInt8 := dkwX2_payIn_1 ++ []
def dkwX2_payIn_0 : List UInt8 := [42, 27, 182, 1, 89, 153, 0, 7, 3, 167, 0, 16, 42, 27, 42, 180, 0, 9, 3, 46, 28, 96]
abbrev dktX2_payIn_0 : List UInt8 := dkwX2_payIn_0 ++ dktX2_payIn_1
theorem dksX2_payIn_0 : cX2_payIn.data.toList.drop 0 = dktX2_payIn_0 := by decide +kernel
theorem dksX2_payIn_1 : cX2_payIn.data.toList.drop 22 = dktX2_payIn_1 := dk_seg dksX2_payIn_0 22 rfl rfl
theorem dX2_payIn_0 : decode cX2_payIn 0 = .ok (.aload_n 0, 1) := dk_42 (dk_at dksX2_payIn_0 0 rfl rfl)
theorem dX2_payIn_1 : decode cX2_payIn 1 = .ok (.iload_n 1, 1) := dk_27 (dk_at dksX2_payIn_0 1 rfl rfl)
theorem dX2_payIn_2 : decode cX2_payIn 2 = .ok (.invokevirtual 345, 3) := dk_182 1 89 (dk_at dksX2_payIn_0 2 rfl rfl)
theorem dX2_payIn_5 : decode cX2_payIn 5 = .ok (.ifCond .eq 7, 3) := dk_153 0 7 (dk_at dksX2_payIn_0 5 rfl rfl)
theorem dX2_payIn_8 : decode cX2_payIn 8 = .ok (.iconst 0, 1) := dk_3 (dk_at dksX2_payIn_0 8 rfl rfl)
theorem dX2_payIn_9 : decode cX2_payIn 9 = .ok (.goto 16, 3) := dk_167 0 16 (dk_at dksX2_payIn_0 9 rfl rfl)
theorem dX2_payIn_12 : decode cX2_payIn 12 = .ok (.aload_n 0, 1) := dk_42 (dk_at dksX2_payIn_0 12 rfl rfl)
theorem dX2_payIn_13 : decode cX2_payIn 13 = .ok (.iload_n 1, 1) := dk_27 (dk_at dksX2_payIn_0 13 rfl rfl)
theorem dX2_payIn_14 : decode cX2_payIn 14 = .ok (.aload_n 0, 1) := dk_42 (dk_at dksX2_payIn_0 14 rfl rfl)
theorem dX2_payIn_15 : decode cX2_payIn 15 = .ok (.getfield 9, 3) := dk_180 0 9 (dk_at dksX2_payIn_0 15 rfl rfl)
theorem dX2_payIn_18 : decode cX2_payIn 18 = .ok (.iconst 0, 1) := dk_3 (dk_at dksX2_payIn_0 18 rfl rfl)
theorem dX2_payIn_19 : decode cX2_payIn 19 = .ok (.iaload, 1) := dk_46 (dk_at dksX2_payIn_0 19 rfl rfl)
theorem dX2_payIn_20 : decode cX2_payIn 20 = .ok (.iload_n 2, 1) := dk_28 (dk_at dksX2_payIn_0 20 rfl rfl)
theorem dX2_payIn_21 : decode cX2_payIn 21 = .ok (.iadd, 1) := dk_96 (dk_at dksX2_payIn_0 21 rfl rfl)
theorem dX2_payIn_22 : decode cX2_payIn 22 = .ok (.invokevirtual 407, 3) := dk_182 1 151 (dk_at dksX2_payIn_1 0 rfl rfl)
theorem dX2_payIn_25 : decode cX2_payIn 25 = .ok (.ireturn, 1) := dk_172 (dk_at dksX2_payIn_1 3 rfl rfl)
abbrev cX2_payAt : ByteArray := prog_20_method_77_code
def yX2_payAt : MethodName := ⟨RX2, "payAt", "(II)I"⟩
def dkwX2_payAt_1 : List UInt8 := [104, 100, 184, 1, 19, 104, 172]
abbrev dktX2_payAt_1 : List UInt8 := dkwX2_payAt_1 ++ []
def dkwX2_payAt_0 : List UInt8 := [42, 27, 182, 1, 49, 3, 42, 27, 4, 182, 1, 46, 42, 27, 5, 182, 1, 46, 42, 27, 28, 182, 1, 52]
abbrev dktX2_payAt_0 : List UInt8 := dkwX2_payAt_0 ++ dktX2_payAt_1
theorem dksX2_payAt_0 : cX2_payAt.data.toList.drop 0 = dktX2_payAt_0 := by decide +kernel
theorem dksX2_payAt_1 : cX2_payAt.data.toList.drop 24 = dktX2_payAt_1 := dk_seg dksX2_payAt_0 24 rfl rfl
theorem dX2_payAt_0 : decode cX2_payAt 0 = .ok (.aload_n 0, 1) := dk_42 (dk_at dksX2_payAt_0 0 rfl rfl)
theorem dX2_payAt_1 : decode cX2_payAt 1 = .ok (.iload_n 1, 1) := dk_27 (dk_at dksX2_payAt_0 1 rfl rfl)
theorem dX2_payAt_2 : decode cX2_payAt 2 = .ok (.invokevirtual 305, 3) := dk_182 1 49 (dk_at dksX2_payAt_0 2 rfl rfl)
theorem dX2_payAt_5 : decode cX2_payAt 5 = .ok (.iconst 0, 1) := dk_3 (dk_at dksX2_payAt_0 5 rfl rfl)
theorem dX2_payAt_6 : decode cX2_payAt 6 = .ok (.aload_n 0, 1) := dk_42 (dk_at dksX2_payAt_0 6 rfl rfl)
theorem dX2_payAt_7 : decode cX2_payAt 7 = .ok (.iload_n 1, 1) := dk_27 (dk_at dksX2_payAt_0 7 rfl rfl)
theorem dX2_payAt_8 : decode cX2_payAt 8 = .ok (.iconst 1, 1) := dk_4 (dk_at dksX2_payAt_0 8 rfl rfl)
theorem dX2_payAt_9 : decode cX2_payAt 9 = .ok (.invokevirtual 302, 3) := dk_182 1 46 (dk_at dksX2_payAt_0 9 rfl rfl)
theorem dX2_payAt_12 : decode cX2_payAt 12 = .ok (.aload_n 0, 1) := dk_42 (dk_at dksX2_payAt_0 12 rfl rfl)
theorem dX2_payAt_13 : decode cX2_payAt 13 = .ok (.iload_n 1, 1) := dk_27 (dk_at dksX2_payAt_0 13 rfl rfl)
theorem dX2_payAt_14 : decode cX2_payAt 14 = .ok (.iconst 2, 1) := dk_5 (dk_at dksX2_payAt_0 14 rfl rfl)
theorem dX2_payAt_15 : decode cX2_payAt 15 = .ok (.invokevirtual 302, 3) := dk_182 1 46 (dk_at dksX2_payAt_0 15 rfl rfl)
theorem dX2_payAt_18 : decode cX2_payAt 18 = .ok (.aload_n 0, 1) := dk_42 (dk_at dksX2_payAt_0 18 rfl rfl)
theorem dX2_payAt_19 : decode cX2_payAt 19 = .ok (.iload_n 1, 1) := dk_27 (dk_at dksX2_payAt_0 19 rfl rfl)
theorem dX2_payAt_20 : decode cX2_payAt 20 = .ok (.iload_n 2, 1) := dk_28 (dk_at dksX2_payAt_0 20 rfl rfl)
theorem dX2_payAt_21 : decode cX2_payAt 21 = .ok (.invokevirtual 308, 3) := dk_182 1 52 (dk_at dksX2_payAt_0 21 rfl rfl)
theorem dX2_payAt_24 : decode cX2_payAt 24 = .ok (.imul, 1) := dk_104 (dk_at dksX2_payAt_1 0 rfl rfl)
theorem dX2_payAt_25 : decode cX2_payAt 25 = .ok (.isub, 1) := dk_100 (dk_at dksX2_payAt_1 1 rfl rfl)
theorem dX2_payAt_26 : decode cX2_payAt 26 = .ok (.invokestatic 275, 3) := dk_184 1 19 (dk_at dksX2_payAt_1 2 rfl rfl)
theorem dX2_payAt_29 : decode cX2_payAt 29 = .ok (.imul, 1) := dk_104 (dk_at dksX2_payAt_1 5 rfl rfl)
theorem dX2_payAt_30 : decode cX2_payAt 30 = .ok (.ireturn, 1) := dk_172 (dk_at dksX2_payAt_1 6 rfl rfl)
abbrev cX2_latest : ByteArray := prog_20_method_135_code
def yX2_latest : MethodName := ⟨RX2, "latest", "(I)I"⟩
def dkwX2_latest_1 : List UInt8 := [3, 172]
abbrev dktX2_latest_1 : List UInt8 := dkwX2_latest_1 ++ []
def dkwX2_latest_0 : List UInt8 := [42, 42, 180, 0, 47, 42, 27, 182, 1, 83, 182, 1, 58, 153, 0, 11, 42, 27, 182, 1, 157, 167, 0, 4]
abbrev dktX2_latest_0 : List UInt8 := dkwX2_latest_0 ++ dktX2_latest_1
theorem dksX2_latest_0 : cX2_latest.data.toList.drop 0 = dktX2_latest_0 := by decide +kernel
theorem dksX2_latest_1 : cX2_latest.data.toList.drop 24 = dktX2_latest_1 := dk_seg dksX2_latest_0 24 rfl rfl
theorem dX2_latest_0 : decode cX2_latest 0 = .ok (.aload_n 0, 1) := dk_42 (dk_at dksX2_latest_0 0 rfl rfl)
theorem dX2_latest_1 : decode cX2_latest 1 = .ok (.aload_n 0, 1) := dk_42 (dk_at dksX2_latest_0 1 rfl rfl)
theorem dX2_latest_2 : decode cX2_latest 2 = .ok (.getfield 47, 3) := dk_180 0 47 (dk_at dksX2_latest_0 2 rfl rfl)
theorem dX2_latest_5 : decode cX2_latest 5 = .ok (.aload_n 0, 1) := dk_42 (dk_at dksX2_latest_0 5 rfl rfl)
theorem dX2_latest_6 : decode cX2_latest 6 = .ok (.iload_n 1, 1) := dk_27 (dk_at dksX2_latest_0 6 rfl rfl)
theorem dX2_latest_7 : decode cX2_latest 7 = .ok (.invokevirtual 339, 3) := dk_182 1 83 (dk_at dksX2_latest_0 7 rfl rfl)
theorem dX2_latest_10 : decode cX2_latest 10 = .ok (.invokevirtual 314, 3) := dk_182 1 58 (dk_at dksX2_latest_0 10 rfl rfl)
theorem dX2_latest_13 : decode cX2_latest 13 = .ok (.ifCond .eq 11, 3) := dk_153 0 11 (dk_at dksX2_latest_0 13 rfl rfl)
theorem dX2_latest_16 : decode cX2_latest 16 = .ok (.aload_n 0, 1) := dk_42 (dk_at dksX2_latest_0 16 rfl rfl)
theorem dX2_latest_17 : decode cX2_latest 17 = .ok (.iload_n 1, 1) := dk_27 (dk_at dksX2_latest_0 17 rfl rfl)
theorem dX2_latest_18 : decode cX2_latest 18 = .ok (.invokevirtual 413, 3) := dk_182 1 157 (dk_at dksX2_latest_0 18 rfl rfl)
theorem dX2_latest_21 : decode cX2_latest 21 = .ok (.goto 4, 3) := dk_167 0 4 (dk_at dksX2_latest_0 21 rfl rfl)
theorem dX2_latest_24 : decode cX2_latest 24 = .ok (.iconst 0, 1) := dk_3 (dk_at dksX2_latest_1 0 rfl rfl)
theorem dX2_latest_25 : decode cX2_latest 25 = .ok (.ireturn, 1) := dk_172 (dk_at dksX2_latest_1 1 rfl rfl)
abbrev cX2_lastHour : ByteArray := prog_20_method_134_code
def yX2_lastHour : MethodName := ⟨RX2, "lastHour", "(I)I"⟩
def dkwX2_lastHour_2 : List UInt8 := [182, 1, 46, 108, 96, 61, 28, 42, 180, 0, 9, 3, 46, 162, 0, 7, 2, 167, 0, 4, 28, 172]
abbrev dktX2_lastHour_2 : List UInt8 := dkwX2_lastHour_2 ++ []
def dkwX2_lastHour_1 : List UInt8 := [154, 0, 7, 17, 3, 231, 172, 42, 27, 3, 182, 1, 46, 42, 27, 4, 182, 1, 46, 4, 100, 42, 27, 5]
abbrev dktX2_lastHour_1 : List UInt8 := dkwX2_lastHour_1 ++ dktX2_lastHour_2
def dkwX2_lastHour_0 : List UInt8 := [42, 27, 182, 1, 89, 154, 0, 11, 42, 27, 182, 1, 49, 154, 0, 5, 2, 172, 42, 27, 5, 182, 1, 46]
abbrev dktX2_lastHour_0 : List UInt8 := dkwX2_lastHour_0 ++ dktX2_lastHour_1
theorem dksX2_lastHour_0 : cX2_lastHour.data.toList.drop 0 = dktX2_lastHour_0 := by decide +kernel
theorem dksX2_lastHour_1 : cX2_lastHour.data.toList.drop 24 = dktX2_lastHour_1 := dk_seg dksX2_lastHour_0 24 rfl rfl
theorem dksX2_lastHour_2 : cX2_lastHour.data.toList.drop 48 = dktX2_lastHour_2 := dk_seg dksX2_lastHour_1 24 rfl rfl
theorem dX2_lastHour_0 : decode cX2_lastHour 0 = .ok (.aload_n 0, 1) := dk_42 (dk_at dksX2_lastHour_0 0 rfl rfl)
theorem dX2_lastHour_1 : decode cX2_lastHour 1 = .ok (.iload_n 1, 1) := dk_27 (dk_at dksX2_lastHour_0 1 rfl rfl)
theorem dX2_lastHour_2 : decode cX2_lastHour 2 = .ok (.invokevirtual 345, 3) := dk_182 1 89 (dk_at dksX2_lastHour_0 2 rfl rfl)
theorem dX2_lastHour_5 : decode cX2_lastHour 5 = .ok (.ifCond .ne 11, 3) := dk_154 0 11 (dk_at dksX2_lastHour_0 5 rfl rfl)
theorem dX2_lastHour_8 : decode cX2_lastHour 8 = .ok (.aload_n 0, 1) := dk_42 (dk_at dksX2_lastHour_0 8 rfl rfl)
theorem dX2_lastHour_9 : decode cX2_lastHour 9 = .ok (.iload_n 1, 1) := dk_27 (dk_at dksX2_lastHour_0 9 rfl rfl)
theorem dX2_lastHour_10 : decode cX2_lastHour 10 = .ok (.invokevirtual 305, 3) := dk_182 1 49 (dk_at dksX2_lastHour_0 10 rfl rfl)
theorem dX2_lastHour_13 : decode cX2_lastHour 13 = .ok (.ifCond .ne 5, 3) := dk_154 0 5 (dk_at dksX2_lastHour_0 13 rfl rfl)
theorem dX2_lastHour_16 : decode cX2_lastHour 16 = .ok (.iconst (-1), 1) := dk_2 (dk_at dksX2_lastHour_0 16 rfl rfl)
theorem dX2_lastHour_17 : decode cX2_lastHour 17 = .ok (.ireturn, 1) := dk_172 (dk_at dksX2_lastHour_0 17 rfl rfl)
theorem dX2_lastHour_18 : decode cX2_lastHour 18 = .ok (.aload_n 0, 1) := dk_42 (dk_at dksX2_lastHour_0 18 rfl rfl)
theorem dX2_lastHour_19 : decode cX2_lastHour 19 = .ok (.iload_n 1, 1) := dk_27 (dk_at dksX2_lastHour_0 19 rfl rfl)
theorem dX2_lastHour_20 : decode cX2_lastHour 20 = .ok (.iconst 2, 1) := dk_5 (dk_at dksX2_lastHour_0 20 rfl rfl)
theorem dX2_lastHour_21 : decode cX2_lastHour 21 = .ok (.invokevirtual 302, 3) := dk_182 1 46 (dk_at dksX2_lastHour_0 21 rfl rfl)
theorem dX2_lastHour_24 : decode cX2_lastHour 24 = .ok (.ifCond .ne 7, 3) := dk_154 0 7 (dk_at dksX2_lastHour_1 0 rfl rfl)
theorem dX2_lastHour_27 : decode cX2_lastHour 27 = .ok (.sipush 999, 3) := dk_17 3 231 (dk_at dksX2_lastHour_1 3 rfl rfl)
theorem dX2_lastHour_30 : decode cX2_lastHour 30 = .ok (.ireturn, 1) := dk_172 (dk_at dksX2_lastHour_1 6 rfl rfl)
theorem dX2_lastHour_31 : decode cX2_lastHour 31 = .ok (.aload_n 0, 1) := dk_42 (dk_at dksX2_lastHour_1 7 rfl rfl)
theorem dX2_lastHour_32 : decode cX2_lastHour 32 = .ok (.iload_n 1, 1) := dk_27 (dk_at dksX2_lastHour_1 8 rfl rfl)
theorem dX2_lastHour_33 : decode cX2_lastHour 33 = .ok (.iconst 0, 1) := dk_3 (dk_at dksX2_lastHour_1 9 rfl rfl)
theorem dX2_lastHour_34 : decode cX2_lastHour 34 = .ok (.invokevirtual 302, 3) := dk_182 1 46 (dk_at dksX2_lastHour_1 10 rfl rfl)
theorem dX2_lastHour_37 : decode cX2_lastHour 37 = .ok (.aload_n 0, 1) := dk_42 (dk_at dksX2_lastHour_1 13 rfl rfl)
theorem dX2_lastHour_38 : decode cX2_lastHour 38 = .ok (.iload_n 1, 1) := dk_27 (dk_at dksX2_lastHour_1 14 rfl rfl)
theorem dX2_lastHour_39 : decode cX2_lastHour 39 = .ok (.iconst 1, 1) := dk_4 (dk_at dksX2_lastHour_1 15 rfl rfl)
theorem dX2_lastHour_40 : decode cX2_lastHour 40 = .ok (.invokevirtual 302, 3) := dk_182 1 46 (dk_at dksX2_lastHour_1 16 rfl rfl)
theorem dX2_lastHour_43 : decode cX2_lastHour 43 = .ok (.iconst 1, 1) := dk_4 (dk_at dksX2_lastHour_1 19 rfl rfl)
theorem dX2_lastHour_44 : decode cX2_lastHour 44 = .ok (.isub, 1) := dk_100 (dk_at dksX2_lastHour_1 20 rfl rfl)
theorem dX2_lastHour_45 : decode cX2_lastHour 45 = .ok (.aload_n 0, 1) := dk_42 (dk_at dksX2_lastHour_1 21 rfl rfl)
theorem dX2_lastHour_46 : decode cX2_lastHour 46 = .ok (.iload_n 1, 1) := dk_27 (dk_at dksX2_lastHour_1 22 rfl rfl)
theorem dX2_lastHour_47 : decode cX2_lastHour 47 = .ok (.iconst 2, 1) := dk_5 (dk_at dksX2_lastHour_1 23 rfl rfl)
theorem dX2_lastHour_48 : decode cX2_lastHour 48 = .ok (.invokevirtual 302, 3) := dk_182 1 46 (dk_at dksX2_lastHour_2 0 rfl rfl)
theorem dX2_lastHour_51 : decode cX2_lastHour 51 = .ok (.idiv, 1) := dk_108 (dk_at dksX2_lastHour_2 3 rfl rfl)
theorem dX2_lastHour_52 : decode cX2_lastHour 52 = .ok (.iadd, 1) := dk_96 (dk_at dksX2_lastHour_2 4 rfl rfl)
theorem dX2_lastHour_53 : decode cX2_lastHour 53 = .ok (.istore_n 2, 1) := dk_61 (dk_at dksX2_lastHour_2 5 rfl rfl)
theorem dX2_lastHour_54 : decode cX2_lastHour 54 = .ok (.iload_n 2, 1) := dk_28 (dk_at dksX2_lastHour_2 6 rfl rfl)
theorem dX2_lastHour_55 : decode cX2_lastHour 55 = .ok (.aload_n 0, 1) := dk_42 (dk_at dksX2_lastHour_2 7 rfl rfl)
theorem dX2_lastHour_56 : decode cX2_lastHour 56 = .ok (.getfield 9, 3) := dk_180 0 9 (dk_at dksX2_lastHour_2 8 rfl rfl)
theorem dX2_lastHour_59 : decode cX2_lastHour 59 = .ok (.iconst 0, 1) := dk_3 (dk_at dksX2_lastHour_2 11 rfl rfl)
theorem dX2_lastHour_60 : decode cX2_lastHour 60 = .ok (.iaload, 1) := dk_46 (dk_at dksX2_lastHour_2 12 rfl rfl)
theorem dX2_lastHour_61 : decode cX2_lastHour 61 = .ok (.if_icmp .ge 7, 3) := dk_162 0 7 (dk_at dksX2_lastHour_2 13 rfl rfl)
theorem dX2_lastHour_64 : decode cX2_lastHour 64 = .ok (.iconst (-1), 1) := dk_2 (dk_at dksX2_lastHour_2 16 rfl rfl)
theorem dX2_lastHour_65 : decode cX2_lastHour 65 = .ok (.goto 4, 3) := dk_167 0 4 (dk_at dksX2_lastHour_2 17 rfl rfl)
theorem dX2_lastHour_68 : decode cX2_lastHour 68 = .ok (.iload_n 2, 1) := dk_28 (dk_at dksX2_lastHour_2 20 rfl rfl)
theorem dX2_lastHour_69 : decode cX2_lastHour 69 = .ok (.ireturn, 1) := dk_172 (dk_at dksX2_lastHour_2 21 rfl rfl)
abbrev cX2_dearest : ByteArray := prog_20_method_136_code
def yX2_dearest : MethodName := ⟨RX2, "dearest", "()I"⟩
def dkwX2_dearest_2 : List UInt8 := [167, 0, 8, 21, 4, 61, 29, 60, 132, 3, 1, 167, 255, 213, 27, 172]
abbrev dktX2_dearest_2 : List UInt8 := dkwX2_dearest_2 ++ []
def dkwX2_dearest_1 : List UInt8 := [162, 0, 38, 42, 29, 3, 182, 1, 154, 42, 29, 4, 182, 1, 154, 100, 54, 4, 21, 4, 28, 163, 0, 6]
abbrev dktX2_dearest_1 : List UInt8 := dkwX2_dearest_1 ++ dktX2_dearest_2
def dkwX2_dearest_0 : List UInt8 := [42, 182, 1, 104, 154, 0, 5, 3, 172, 2, 60, 3, 61, 3, 62, 29, 42, 180, 0, 9, 16, 7, 46]
abbrev dktX2_dearest_0 : List UInt8 := dkwX2_dearest_0 ++ dktX2_dearest_1
theorem dksX2_dearest_0 : cX2_dearest.data.toList.drop 0 = dktX2_dearest_0 := by decide +kernel
theorem dksX2_dearest_1 : cX2_dearest.data.toList.drop 23 = dktX2_dearest_1 := dk_seg dksX2_dearest_0 23 rfl rfl
theorem dksX2_dearest_2 : cX2_dearest.data.toList.drop 47 = dktX2_dearest_2 := dk_seg dksX2_dearest_1 24 rfl rfl
theorem dX2_dearest_0 : decode cX2_dearest 0 = .ok (.aload_n 0, 1) := dk_42 (dk_at dksX2_dearest_0 0 rfl rfl)
theorem dX2_dearest_1 : decode cX2_dearest 1 = .ok (.invokevirtual 360, 3) := dk_182 1 104 (dk_at dksX2_dearest_0 1 rfl rfl)
theorem dX2_dearest_4 : decode cX2_dearest 4 = .ok (.ifCond .ne 5, 3) := dk_154 0 5 (dk_at dksX2_dearest_0 4 rfl rfl)
theorem dX2_dearest_7 : decode cX2_dearest 7 = .ok (.iconst 0, 1) := dk_3 (dk_at dksX2_dearest_0 7 rfl rfl)
theorem dX2_dearest_8 : decode cX2_dearest 8 = .ok (.ireturn, 1) := dk_172 (dk_at dksX2_dearest_0 8 rfl rfl)
theorem dX2_dearest_9 : decode cX2_dearest 9 = .ok (.iconst (-1), 1) := dk_2 (dk_at dksX2_dearest_0 9 rfl rfl)
theorem dX2_dearest_10 : decode cX2_dearest 10 = .ok (.istore_n 1, 1) := dk_60 (dk_at dksX2_dearest_0 10 rfl rfl)
theorem dX2_dearest_11 : decode cX2_dearest 11 = .ok (.iconst 0, 1) := dk_3 (dk_at dksX2_dearest_0 11 rfl rfl)
theorem dX2_dearest_12 : decode cX2_dearest 12 = .ok (.istore_n 2, 1) := dk_61 (dk_at dksX2_dearest_0 12 rfl rfl)
theorem dX2_dearest_13 : decode cX2_dearest 13 = .ok (.iconst 0, 1) := dk_3 (dk_at dksX2_dearest_0 13 rfl rfl)
theorem dX2_dearest_14 : decode cX2_dearest 14 = .ok (.istore_n 3, 1) := dk_62 (dk_at dksX2_dearest_0 14 rfl rfl)
theorem dX2_dearest_15 : decode cX2_dearest 15 = .ok (.iload_n 3, 1) := dk_29 (dk_at dksX2_dearest_0 15 rfl rfl)
theorem dX2_dearest_16 : decode cX2_dearest 16 = .ok (.aload_n 0, 1) := dk_42 (dk_at dksX2_dearest_0 16 rfl rfl)
theorem dX2_dearest_17 : decode cX2_dearest 17 = .ok (.getfield 9, 3) := dk_180 0 9 (dk_at dksX2_dearest_0 17 rfl rfl)
theorem dX2_dearest_20 : decode cX2_dearest 20 = .ok (.bipush 7, 2) := dk_16 7 (dk_at dksX2_dearest_0 20 rfl rfl)
theorem dX2_dearest_22 : decode cX2_dearest 22 = .ok (.iaload, 1) := dk_46 (dk_at dksX2_dearest_0 22 rfl rfl)
theorem dX2_dearest_23 : decode cX2_dearest 23 = .ok (.if_icmp .ge 38, 3) := dk_162 0 38 (dk_at dksX2_dearest_1 0 rfl rfl)
theorem dX2_dearest_26 : decode cX2_dearest 26 = .ok (.aload_n 0, 1) := dk_42 (dk_at dksX2_dearest_1 3 rfl rfl)
theorem dX2_dearest_27 : decode cX2_dearest 27 = .ok (.iload_n 3, 1) := dk_29 (dk_at dksX2_dearest_1 4 rfl rfl)
theorem dX2_dearest_28 : decode cX2_dearest 28 = .ok (.iconst 0, 1) := dk_3 (dk_at dksX2_dearest_1 5 rfl rfl)
theorem dX2_dearest_29 : decode cX2_dearest 29 = .ok (.invokevirtual 410, 3) := dk_182 1 154 (dk_at dksX2_dearest_1 6 rfl rfl)
theorem dX2_dearest_32 : decode cX2_dearest 32 = .ok (.aload_n 0, 1) := dk_42 (dk_at dksX2_dearest_1 9 rfl rfl)
theorem dX2_dearest_33 : decode cX2_dearest 33 = .ok (.iload_n 3, 1) := dk_29 (dk_at dksX2_dearest_1 10 rfl rfl)
theorem dX2_dearest_34 : decode cX2_dearest 34 = .ok (.iconst 1, 1) := dk_4 (dk_at dksX2_dearest_1 11 rfl rfl)
theorem dX2_dearest_35 : decode cX2_dearest 35 = .ok (.invokevirtual 410, 3) := dk_182 1 154 (dk_at dksX2_dearest_1 12 rfl rfl)
theorem dX2_dearest_38 : decode cX2_dearest 38 = .ok (.isub, 1) := dk_100 (dk_at dksX2_dearest_1 15 rfl rfl)
theorem dX2_dearest_39 : decode cX2_dearest 39 = .ok (.istore 4, 2) := dk_54 4 (dk_at dksX2_dearest_1 16 rfl rfl)
theorem dX2_dearest_41 : decode cX2_dearest 41 = .ok (.iload 4, 2) := dk_21 4 (dk_at dksX2_dearest_1 18 rfl rfl)
theorem dX2_dearest_43 : decode cX2_dearest 43 = .ok (.iload_n 2, 1) := dk_28 (dk_at dksX2_dearest_1 20 rfl rfl)
theorem dX2_dearest_44 : decode cX2_dearest 44 = .ok (.if_icmp .gt 6, 3) := dk_163 0 6 (dk_at dksX2_dearest_1 21 rfl rfl)
theorem dX2_dearest_47 : decode cX2_dearest 47 = .ok (.goto 8, 3) := dk_167 0 8 (dk_at dksX2_dearest_2 0 rfl rfl)
theorem dX2_dearest_50 : decode cX2_dearest 50 = .ok (.iload 4, 2) := dk_21 4 (dk_at dksX2_dearest_2 3 rfl rfl)
theorem dX2_dearest_52 : decode cX2_dearest 52 = .ok (.istore_n 2, 1) := dk_61 (dk_at dksX2_dearest_2 5 rfl rfl)
theorem dX2_dearest_53 : decode cX2_dearest 53 = .ok (.iload_n 3, 1) := dk_29 (dk_at dksX2_dearest_2 6 rfl rfl)
theorem dX2_dearest_54 : decode cX2_dearest 54 = .ok (.istore_n 1, 1) := dk_60 (dk_at dksX2_dearest_2 7 rfl rfl)
theorem dX2_dearest_55 : decode cX2_dearest 55 = .ok (.iinc 3 1, 3) := dk_132 3 1 (dk_at dksX2_dearest_2 8 rfl rfl)
theorem dX2_dearest_58 : decode cX2_dearest 58 = .ok (.goto (-43), 3) := dk_167 255 213 (dk_at dksX2_dearest_2 11 rfl rfl)
theorem dX2_dearest_61 : decode cX2_dearest 61 = .ok (.iload_n 1, 1) := dk_27 (dk_at dksX2_dearest_2 14 rfl rfl)
theorem dX2_dearest_62 : decode cX2_dearest 62 = .ok (.ireturn, 1) := dk_172 (dk_at dksX2_dearest_2 15 rfl rfl)
abbrev cX2_ironsFor : ByteArray := prog_20_method_138_code
def yX2_ironsFor : MethodName := ⟨RX2, "ironsFor", "(II)I"⟩
def dkwX2_ironsFor_2 : List UInt8 := [167, 0, 4, 2, 172]
abbrev dktX2_ironsFor_2 : List UInt8 := dkwX2_ironsFor_2 ++ []
def dkwX2_ironsFor_1 : List UInt8 := [8, 182, 0, 227, 154, 0, 5, 3, 172, 42, 27, 28, 182, 1, 120, 154, 0, 12, 42, 27, 28, 182, 1, 163]
abbrev dktX2_ironsFor_1 : List UInt8 := dkwX2_ironsFor_1 ++ dktX2_ironsFor_2
def dkwX2_ironsFor_0 : List UInt8 := [42, 42, 180, 0, 47, 42, 27, 182, 1, 68, 28, 184, 1, 74, 182, 0, 43, 154, 0, 5, 3, 172, 42, 27]
abbrev dktX2_ironsFor_0 : List UInt8 := dkwX2_ironsFor_0 ++ dktX2_ironsFor_1
theorem dksX2_ironsFor_0 : cX2_ironsFor.data.toList.drop 0 = dktX2_ironsFor_0 := by decide +kernel
theorem dksX2_ironsFor_1 : cX2_ironsFor.data.toList.drop 24 = dktX2_ironsFor_1 := dk_seg dksX2_ironsFor_0 24 rfl rfl
theorem dksX2_ironsFor_2 : cX2_ironsFor.data.toList.drop 48 = dktX2_ironsFor_2 := dk_seg dksX2_ironsFor_1 24 rfl rfl
theorem dX2_ironsFor_0 : decode cX2_ironsFor 0 = .ok (.aload_n 0, 1) := dk_42 (dk_at dksX2_ironsFor_0 0 rfl rfl)
theorem dX2_ironsFor_1 : decode cX2_ironsFor 1 = .ok (.aload_n 0, 1) := dk_42 (dk_at dksX2_ironsFor_0 1 rfl rfl)
theorem dX2_ironsFor_2 : decode cX2_ironsFor 2 = .ok (.getfield 47, 3) := dk_180 0 47 (dk_at dksX2_ironsFor_0 2 rfl rfl)
theorem dX2_ironsFor_5 : decode cX2_ironsFor 5 = .ok (.aload_n 0, 1) := dk_42 (dk_at dksX2_ironsFor_0 5 rfl rfl)
theorem dX2_ironsFor_6 : decode cX2_ironsFor 6 = .ok (.iload_n 1, 1) := dk_27 (dk_at dksX2_ironsFor_0 6 rfl rfl)
theorem dX2_ironsFor_7 : decode cX2_ironsFor 7 = .ok (.invokevirtual 324, 3) := dk_182 1 68 (dk_at dksX2_ironsFor_0 7 rfl rfl)
theorem dX2_ironsFor_10 : decode cX2_ironsFor 10 = .ok (.iload_n 2, 1) := dk_28 (dk_at dksX2_ironsFor_0 10 rfl rfl)
theorem dX2_ironsFor_11 : decode cX2_ironsFor 11 = .ok (.invokestatic 330, 3) := dk_184 1 74 (dk_at dksX2_ironsFor_0 11 rfl rfl)
theorem dX2_ironsFor_14 : decode cX2_ironsFor 14 = .ok (.invokevirtual 43, 3) := dk_182 0 43 (dk_at dksX2_ironsFor_0 14 rfl rfl)
theorem dX2_ironsFor_17 : decode cX2_ironsFor 17 = .ok (.ifCond .ne 5, 3) := dk_154 0 5 (dk_at dksX2_ironsFor_0 17 rfl rfl)
theorem dX2_ironsFor_20 : decode cX2_ironsFor 20 = .ok (.iconst 0, 1) := dk_3 (dk_at dksX2_ironsFor_0 20 rfl rfl)
theorem dX2_ironsFor_21 : decode cX2_ironsFor 21 = .ok (.ireturn, 1) := dk_172 (dk_at dksX2_ironsFor_0 21 rfl rfl)
theorem dX2_ironsFor_22 : decode cX2_ironsFor 22 = .ok (.aload_n 0, 1) := dk_42 (dk_at dksX2_ironsFor_0 22 rfl rfl)
theorem dX2_ironsFor_23 : decode cX2_ironsFor 23 = .ok (.iload_n 1, 1) := dk_27 (dk_at dksX2_ironsFor_0 23 rfl rfl)
theorem dX2_ironsFor_24 : decode cX2_ironsFor 24 = .ok (.iconst 5, 1) := dk_8 (dk_at dksX2_ironsFor_1 0 rfl rfl)
theorem dX2_ironsFor_25 : decode cX2_ironsFor 25 = .ok (.invokevirtual 227, 3) := dk_182 0 227 (dk_at dksX2_ironsFor_1 1 rfl rfl)
theorem dX2_ironsFor_28 : decode cX2_ironsFor 28 = .ok (.ifCond .ne 5, 3) := dk_154 0 5 (dk_at dksX2_ironsFor_1 4 rfl rfl)
theorem dX2_ironsFor_31 : decode cX2_ironsFor 31 = .ok (.iconst 0, 1) := dk_3 (dk_at dksX2_ironsFor_1 7 rfl rfl)
theorem dX2_ironsFor_32 : decode cX2_ironsFor 32 = .ok (.ireturn, 1) := dk_172 (dk_at dksX2_ironsFor_1 8 rfl rfl)
theorem dX2_ironsFor_33 : decode cX2_ironsFor 33 = .ok (.aload_n 0, 1) := dk_42 (dk_at dksX2_ironsFor_1 9 rfl rfl)
theorem dX2_ironsFor_34 : decode cX2_ironsFor 34 = .ok (.iload_n 1, 1) := dk_27 (dk_at dksX2_ironsFor_1 10 rfl rfl)
theorem dX2_ironsFor_35 : decode cX2_ironsFor 35 = .ok (.iload_n 2, 1) := dk_28 (dk_at dksX2_ironsFor_1 11 rfl rfl)
theorem dX2_ironsFor_36 : decode cX2_ironsFor 36 = .ok (.invokevirtual 376, 3) := dk_182 1 120 (dk_at dksX2_ironsFor_1 12 rfl rfl)
theorem dX2_ironsFor_39 : decode cX2_ironsFor 39 = .ok (.ifCond .ne 12, 3) := dk_154 0 12 (dk_at dksX2_ironsFor_1 15 rfl rfl)
theorem dX2_ironsFor_42 : decode cX2_ironsFor 42 = .ok (.aload_n 0, 1) := dk_42 (dk_at dksX2_ironsFor_1 18 rfl rfl)
theorem dX2_ironsFor_43 : decode cX2_ironsFor 43 = .ok (.iload_n 1, 1) := dk_27 (dk_at dksX2_ironsFor_1 19 rfl rfl)
theorem dX2_ironsFor_44 : decode cX2_ironsFor 44 = .ok (.iload_n 2, 1) := dk_28 (dk_at dksX2_ironsFor_1 20 rfl rfl)
theorem dX2_ironsFor_45 : decode cX2_ironsFor 45 = .ok (.invokevirtual 419, 3) := dk_182 1 163 (dk_at dksX2_ironsFor_1 21 rfl rfl)
theorem dX2_ironsFor_48 : decode cX2_ironsFor 48 = .ok (.goto 4, 3) := dk_167 0 4 (dk_at dksX2_ironsFor_2 0 rfl rfl)
theorem dX2_ironsFor_51 : decode cX2_ironsFor 51 = .ok (.iconst (-1), 1) := dk_2 (dk_at dksX2_ironsFor_2 3 rfl rfl)
theorem dX2_ironsFor_52 : decode cX2_ironsFor 52 = .ok (.ireturn, 1) := dk_172 (dk_at dksX2_ironsFor_2 4 rfl rfl)
abbrev cX2_ironsUntil : ByteArray := prog_20_method_137_code
def yX2_ironsUntil : MethodName := ⟨RX2, "ironsUntil", "(II)I"⟩
def dkwX2_ironsUntil_1 : List UInt8 := [167, 255, 238, 42, 29, 182, 0, 221, 172]
abbrev dktX2_ironsUntil_1 : List UInt8 := dkwX2_ironsUntil_1 ++ []
def dkwX2_ironsUntil_0 : List UInt8 := [3, 62, 42, 182, 0, 215, 42, 27, 8, 182, 0, 227, 158, 0, 15, 42, 27, 28, 182, 1, 160, 132, 3, 1]
abbrev dktX2_ironsUntil_0 : List UInt8 := dkwX2_ironsUntil_0 ++ dktX2_ironsUntil_1
theorem dksX2_ironsUntil_0 : cX2_ironsUntil.data.toList.drop 0 = dktX2_ironsUntil_0 := by decide +kernel
theorem dksX2_ironsUntil_1 : cX2_ironsUntil.data.toList.drop 24 = dktX2_ironsUntil_1 := dk_seg dksX2_ironsUntil_0 24 rfl rfl
theorem dX2_ironsUntil_0 : decode cX2_ironsUntil 0 = .ok (.iconst 0, 1) := dk_3 (dk_at dksX2_ironsUntil_0 0 rfl rfl)
theorem dX2_ironsUntil_1 : decode cX2_ironsUntil 1 = .ok (.istore_n 3, 1) := dk_62 (dk_at dksX2_ironsUntil_0 1 rfl rfl)
theorem dX2_ironsUntil_2 : decode cX2_ironsUntil 2 = .ok (.aload_n 0, 1) := dk_42 (dk_at dksX2_ironsUntil_0 2 rfl rfl)
theorem dX2_ironsUntil_3 : decode cX2_ironsUntil 3 = .ok (.invokevirtual 215, 3) := dk_182 0 215 (dk_at dksX2_ironsUntil_0 3 rfl rfl)
theorem dX2_ironsUntil_6 : decode cX2_ironsUntil 6 = .ok (.aload_n 0, 1) := dk_42 (dk_at dksX2_ironsUntil_0 6 rfl rfl)
theorem dX2_ironsUntil_7 : decode cX2_ironsUntil 7 = .ok (.iload_n 1, 1) := dk_27 (dk_at dksX2_ironsUntil_0 7 rfl rfl)
theorem dX2_ironsUntil_8 : decode cX2_ironsUntil 8 = .ok (.iconst 5, 1) := dk_8 (dk_at dksX2_ironsUntil_0 8 rfl rfl)
theorem dX2_ironsUntil_9 : decode cX2_ironsUntil 9 = .ok (.invokevirtual 227, 3) := dk_182 0 227 (dk_at dksX2_ironsUntil_0 9 rfl rfl)
theorem dX2_ironsUntil_12 : decode cX2_ironsUntil 12 = .ok (.ifCond .le 15, 3) := dk_158 0 15 (dk_at dksX2_ironsUntil_0 12 rfl rfl)
theorem dX2_ironsUntil_15 : decode cX2_ironsUntil 15 = .ok (.aload_n 0, 1) := dk_42 (dk_at dksX2_ironsUntil_0 15 rfl rfl)
theorem dX2_ironsUntil_16 : decode cX2_ironsUntil 16 = .ok (.iload_n 1, 1) := dk_27 (dk_at dksX2_ironsUntil_0 16 rfl rfl)
theorem dX2_ironsUntil_17 : decode cX2_ironsUntil 17 = .ok (.iload_n 2, 1) := dk_28 (dk_at dksX2_ironsUntil_0 17 rfl rfl)
theorem dX2_ironsUntil_18 : decode cX2_ironsUntil 18 = .ok (.invokevirtual 416, 3) := dk_182 1 160 (dk_at dksX2_ironsUntil_0 18 rfl rfl)
theorem dX2_ironsUntil_21 : decode cX2_ironsUntil 21 = .ok (.iinc 3 1, 3) := dk_132 3 1 (dk_at dksX2_ironsUntil_0 21 rfl rfl)
theorem dX2_ironsUntil_24 : decode cX2_ironsUntil 24 = .ok (.goto (-18), 3) := dk_167 255 238 (dk_at dksX2_ironsUntil_1 0 rfl rfl)
theorem dX2_ironsUntil_27 : decode cX2_ironsUntil 27 = .ok (.aload_n 0, 1) := dk_42 (dk_at dksX2_ironsUntil_1 3 rfl rfl)
theorem dX2_ironsUntil_28 : decode cX2_ironsUntil 28 = .ok (.iload_n 3, 1) := dk_29 (dk_at dksX2_ironsUntil_1 4 rfl rfl)
theorem dX2_ironsUntil_29 : decode cX2_ironsUntil 29 = .ok (.invokevirtual 221, 3) := dk_182 0 221 (dk_at dksX2_ironsUntil_1 5 rfl rfl)
theorem dX2_ironsUntil_32 : decode cX2_ironsUntil 32 = .ok (.ireturn, 1) := dk_172 (dk_at dksX2_ironsUntil_1 8 rfl rfl)
abbrev cX2_irons : ByteArray := prog_20_method_74_code
def yX2_irons : MethodName := ⟨RX2, "irons", "(II)V"⟩
def dkwX2_irons_2 : List UInt8 := [28, 100, 184, 1, 19, 182, 0, 233, 177]
abbrev dktX2_irons_2 : List UInt8 := dkwX2_irons_2 ++ []
def dkwX2_irons_1 : List UInt8 := [167, 0, 4, 3, 184, 0, 245, 100, 184, 1, 19, 182, 0, 233, 42, 27, 7, 3, 42, 27, 7, 182, 0, 227]
abbrev dktX2_irons_1 : List UInt8 := dkwX2_irons_1 ++ dktX2_irons_2
def dkwX2_irons_0 : List UInt8 := [42, 27, 8, 3, 42, 27, 8, 182, 0, 227, 4, 100, 28, 100, 42, 27, 7, 182, 0, 227, 158, 0, 7, 4]
abbrev dktX2_irons_0 : List UInt8 := dkwX2_irons_0 ++ dktX2_irons_1
theorem dksX2_irons_0 : cX2_irons.data.toList.drop 0 = dktX2_irons_0 := by decide +kernel
theorem dksX2_irons_1 : cX2_irons.data.toList.drop 24 = dktX2_irons_1 := dk_seg dksX2_irons_0 24 rfl rfl
theorem dksX2_irons_2 : cX2_irons.data.toList.drop 48 = dktX2_irons_2 := dk_seg dksX2_irons_1 24 rfl rfl
theorem dX2_irons_0 : decode cX2_irons 0 = .ok (.aload_n 0, 1) := dk_42 (dk_at dksX2_irons_0 0 rfl rfl)
theorem dX2_irons_1 : decode cX2_irons 1 = .ok (.iload_n 1, 1) := dk_27 (dk_at dksX2_irons_0 1 rfl rfl)
theorem dX2_irons_2 : decode cX2_irons 2 = .ok (.iconst 5, 1) := dk_8 (dk_at dksX2_irons_0 2 rfl rfl)
theorem dX2_irons_3 : decode cX2_irons 3 = .ok (.iconst 0, 1) := dk_3 (dk_at dksX2_irons_0 3 rfl rfl)
theorem dX2_irons_4 : decode cX2_irons 4 = .ok (.aload_n 0, 1) := dk_42 (dk_at dksX2_irons_0 4 rfl rfl)
theorem dX2_irons_5 : decode cX2_irons 5 = .ok (.iload_n 1, 1) := dk_27 (dk_at dksX2_irons_0 5 rfl rfl)
theorem dX2_irons_6 : decode cX2_irons 6 = .ok (.iconst 5, 1) := dk_8 (dk_at dksX2_irons_0 6 rfl rfl)
theorem dX2_irons_7 : decode cX2_irons 7 = .ok (.invokevirtual 227, 3) := dk_182 0 227 (dk_at dksX2_irons_0 7 rfl rfl)
theorem dX2_irons_10 : decode cX2_irons 10 = .ok (.iconst 1, 1) := dk_4 (dk_at dksX2_irons_0 10 rfl rfl)
theorem dX2_irons_11 : decode cX2_irons 11 = .ok (.isub, 1) := dk_100 (dk_at dksX2_irons_0 11 rfl rfl)
theorem dX2_irons_12 : decode cX2_irons 12 = .ok (.iload_n 2, 1) := dk_28 (dk_at dksX2_irons_0 12 rfl rfl)
theorem dX2_irons_13 : decode cX2_irons 13 = .ok (.isub, 1) := dk_100 (dk_at dksX2_irons_0 13 rfl rfl)
theorem dX2_irons_14 : decode cX2_irons 14 = .ok (.aload_n 0, 1) := dk_42 (dk_at dksX2_irons_0 14 rfl rfl)
theorem dX2_irons_15 : decode cX2_irons 15 = .ok (.iload_n 1, 1) := dk_27 (dk_at dksX2_irons_0 15 rfl rfl)
theorem dX2_irons_16 : decode cX2_irons 16 = .ok (.iconst 4, 1) := dk_7 (dk_at dksX2_irons_0 16 rfl rfl)
theorem dX2_irons_17 : decode cX2_irons 17 = .ok (.invokevirtual 227, 3) := dk_182 0 227 (dk_at dksX2_irons_0 17 rfl rfl)
theorem dX2_irons_20 : decode cX2_irons 20 = .ok (.ifCond .le 7, 3) := dk_158 0 7 (dk_at dksX2_irons_0 20 rfl rfl)
theorem dX2_irons_23 : decode cX2_irons 23 = .ok (.iconst 1, 1) := dk_4 (dk_at dksX2_irons_0 23 rfl rfl)
theorem dX2_irons_24 : decode cX2_irons 24 = .ok (.goto 4, 3) := dk_167 0 4 (dk_at dksX2_irons_1 0 rfl rfl)
theorem dX2_irons_27 : decode cX2_irons 27 = .ok (.iconst 0, 1) := dk_3 (dk_at dksX2_irons_1 3 rfl rfl)
theorem dX2_irons_28 : decode cX2_irons 28 = .ok (.invokestatic 245, 3) := dk_184 0 245 (dk_at dksX2_irons_1 4 rfl rfl)
theorem dX2_irons_31 : decode cX2_irons 31 = .ok (.isub, 1) := dk_100 (dk_at dksX2_irons_1 7 rfl rfl)
theorem dX2_irons_32 : decode cX2_irons 32 = .ok (.invokestatic 275, 3) := dk_184 1 19 (dk_at dksX2_irons_1 8 rfl rfl)
theorem dX2_irons_35 : decode cX2_irons 35 = .ok (.invokevirtual 233, 3) := dk_182 0 233 (dk_at dksX2_irons_1 11 rfl rfl)
theorem dX2_irons_38 : decode cX2_irons 38 = .ok (.aload_n 0, 1) := dk_42 (dk_at dksX2_irons_1 14 rfl rfl)
theorem dX2_irons_39 : decode cX2_irons 39 = .ok (.iload_n 1, 1) := dk_27 (dk_at dksX2_irons_1 15 rfl rfl)
theorem dX2_irons_40 : decode cX2_irons 40 = .ok (.iconst 4, 1) := dk_7 (dk_at dksX2_irons_1 16 rfl rfl)
theorem dX2_irons_41 : decode cX2_irons 41 = .ok (.iconst 0, 1) := dk_3 (dk_at dksX2_irons_1 17 rfl rfl)
theorem dX2_irons_42 : decode cX2_irons 42 = .ok (.aload_n 0, 1) := dk_42 (dk_at dksX2_irons_1 18 rfl rfl)
theorem dX2_irons_43 : decode cX2_irons 43 = .ok (.iload_n 1, 1) := dk_27 (dk_at dksX2_irons_1 19 rfl rfl)
theorem dX2_irons_44 : decode cX2_irons 44 = .ok (.iconst 4, 1) := dk_7 (dk_at dksX2_irons_1 20 rfl rfl)
theorem dX2_irons_45 : decode cX2_irons 45 = .ok (.invokevirtual 227, 3) := dk_182 0 227 (dk_at dksX2_irons_1 21 rfl rfl)
theorem dX2_irons_48 : decode cX2_irons 48 = .ok (.iload_n 2, 1) := dk_28 (dk_at dksX2_irons_2 0 rfl rfl)
theorem dX2_irons_49 : decode cX2_irons 49 = .ok (.isub, 1) := dk_100 (dk_at dksX2_irons_2 1 rfl rfl)
theorem dX2_irons_50 : decode cX2_irons 50 = .ok (.invokestatic 275, 3) := dk_184 1 19 (dk_at dksX2_irons_2 2 rfl rfl)
theorem dX2_irons_53 : decode cX2_irons 53 = .ok (.invokevirtual 233, 3) := dk_182 0 233 (dk_at dksX2_irons_2 5 rfl rfl)
theorem dX2_irons_56 : decode cX2_irons 56 = .ok (.return_, 1) := dk_177 (dk_at dksX2_irons_2 8 rfl rfl)
abbrev cX2_readyShare : ByteArray := prog_20_method_139_code
def yX2_readyShare : MethodName := ⟨RX2, "readyShare", "()F"⟩
def dkwX2_readyShare_1 : List UInt8 := [182, 1, 65, 96, 134, 42, 180, 0, 9, 16, 10, 46, 134, 110, 167, 0, 4, 11, 174]
abbrev dktX2_readyShare_1 : List UInt8 := dkwX2_readyShare_1 ++ []
def dkwX2_readyShare_0 : List UInt8 := [42, 182, 1, 104, 153, 0, 36, 42, 180, 0, 9, 16, 10, 46, 158, 0, 26, 42, 182, 1, 62, 42, 6]
abbrev dktX2_readyShare_0 : List UInt8 := dkwX2_readyShare_0 ++ dktX2_readyShare_1
theorem dksX2_readyShare_0 : cX2_readyShare.data.toList.drop 0 = dktX2_readyShare_0 := by decide +kernel
theorem dksX2_readyShare_1 : cX2_readyShare.data.toList.drop 23 = dktX2_readyShare_1 := dk_seg dksX2_readyShare_0 23 rfl rfl
theorem dX2_readyShare_0 : decode cX2_readyShare 0 = .ok (.aload_n 0, 1) := dk_42 (dk_at dksX2_readyShare_0 0 rfl rfl)
theorem dX2_readyShare_1 : decode cX2_readyShare 1 = .ok (.invokevirtual 360, 3) := dk_182 1 104 (dk_at dksX2_readyShare_0 1 rfl rfl)
theorem dX2_readyShare_4 : decode cX2_readyShare 4 = .ok (.ifCond .eq 36, 3) := dk_153 0 36 (dk_at dksX2_readyShare_0 4 rfl rfl)
theorem dX2_readyShare_7 : decode cX2_readyShare 7 = .ok (.aload_n 0, 1) := dk_42 (dk_at dksX2_readyShare_0 7 rfl rfl)
theorem dX2_readyShare_8 : decode cX2_readyShare 8 = .ok (.getfield 9, 3) := dk_180 0 9 (dk_at dksX2_readyShare_0 8 rfl rfl)
theorem dX2_readyShare_11 : decode cX2_readyShare 11 = .ok (.bipush 10, 2) := dk_16 10 (dk_at dksX2_readyShare_0 11 rfl rfl)
theorem dX2_readyShare_13 : decode cX2_readyShare 13 = .ok (.iaload, 1) := dk_46 (dk_at dksX2_readyShare_0 13 rfl rfl)
theorem dX2_readyShare_14 : decode cX2_readyShare 14 = .ok (.ifCond .le 26, 3) := dk_158 0 26 (dk_at dksX2_readyShare_0 14 rfl rfl)
theorem dX2_readyShare_17 : decode cX2_readyShare 17 = .ok (.aload_n 0, 1) := dk_42 (dk_at dksX2_readyShare_0 17 rfl rfl)
theorem dX2_readyShare_18 : decode cX2_readyShare 18 = .ok (.invokevirtual 318, 3) := dk_182 1 62 (dk_at dksX2_readyShare_0 18 rfl rfl)
theorem dX2_readyShare_21 : decode cX2_readyShare 21 = .ok (.aload_n 0, 1) := dk_42 (dk_at dksX2_readyShare_0 21 rfl rfl)
theorem dX2_readyShare_22 : decode cX2_readyShare 22 = .ok (.iconst 3, 1) := dk_6 (dk_at dksX2_readyShare_0 22 rfl rfl)
theorem dX2_readyShare_23 : decode cX2_readyShare 23 = .ok (.invokevirtual 321, 3) := dk_182 1 65 (dk_at dksX2_readyShare_1 0 rfl rfl)
theorem dX2_readyShare_26 : decode cX2_readyShare 26 = .ok (.iadd, 1) := dk_96 (dk_at dksX2_readyShare_1 3 rfl rfl)
theorem dX2_readyShare_27 : decode cX2_readyShare 27 = .ok (.i2f, 1) := dk_134 (dk_at dksX2_readyShare_1 4 rfl rfl)
theorem dX2_readyShare_28 : decode cX2_readyShare 28 = .ok (.aload_n 0, 1) := dk_42 (dk_at dksX2_readyShare_1 5 rfl rfl)
theorem dX2_readyShare_29 : decode cX2_readyShare 29 = .ok (.getfield 9, 3) := dk_180 0 9 (dk_at dksX2_readyShare_1 6 rfl rfl)
theorem dX2_readyShare_32 : decode cX2_readyShare 32 = .ok (.bipush 10, 2) := dk_16 10 (dk_at dksX2_readyShare_1 9 rfl rfl)
theorem dX2_readyShare_34 : decode cX2_readyShare 34 = .ok (.iaload, 1) := dk_46 (dk_at dksX2_readyShare_1 11 rfl rfl)
theorem dX2_readyShare_35 : decode cX2_readyShare 35 = .ok (.i2f, 1) := dk_134 (dk_at dksX2_readyShare_1 12 rfl rfl)
theorem dX2_readyShare_36 : decode cX2_readyShare 36 = .ok (.fdiv, 1) := dk_110 (dk_at dksX2_readyShare_1 13 rfl rfl)
theorem dX2_readyShare_37 : decode cX2_readyShare 37 = .ok (.goto 4, 3) := dk_167 0 4 (dk_at dksX2_readyShare_1 14 rfl rfl)
theorem dX2_readyShare_40 : decode cX2_readyShare 40 = .ok (.fconst 0, 1) := dk_11 (dk_at dksX2_readyShare_1 17 rfl rfl)
theorem dX2_readyShare_41 : decode cX2_readyShare 41 = .ok (.freturn, 1) := dk_174 (dk_at dksX2_readyShare_1 18 rfl rfl)
abbrev cX2_meanDirt : ByteArray := prog_20_method_141_code
def yX2_meanDirt : MethodName := ⟨RX2, "meanDirt", "()D"⟩
def dkwX2_meanDirt_1 : List UInt8 := [180, 0, 9, 16, 10, 46, 135, 111, 167, 0, 4, 14, 175]
abbrev dktX2_meanDirt_1 : List UInt8 := dkwX2_meanDirt_1 ++ []
def dkwX2_meanDirt_0 : List UInt8 := [42, 182, 1, 104, 153, 0, 30, 42, 180, 0, 9, 16, 10, 46, 158, 0, 20, 42, 182, 1, 166, 135, 42]
abbrev dktX2_meanDirt_0 : List UInt8 := dkwX2_meanDirt_0 ++ dktX2_meanDirt_1
theorem dksX2_meanDirt_0 : cX2_meanDirt.data.toList.drop 0 = dktX2_meanDirt_0 := by decide +kernel
theorem dksX2_meanDirt_1 : cX2_meanDirt.data.toList.drop 23 = dktX2_meanDirt_1 := dk_seg dksX2_meanDirt_0 23 rfl rfl
theorem dX2_meanDirt_0 : decode cX2_meanDirt 0 = .ok (.aload_n 0, 1) := dk_42 (dk_at dksX2_meanDirt_0 0 rfl rfl)
theorem dX2_meanDirt_1 : decode cX2_meanDirt 1 = .ok (.invokevirtual 360, 3) := dk_182 1 104 (dk_at dksX2_meanDirt_0 1 rfl rfl)
theorem dX2_meanDirt_4 : decode cX2_meanDirt 4 = .ok (.ifCond .eq 30, 3) := dk_153 0 30 (dk_at dksX2_meanDirt_0 4 rfl rfl)
theorem dX2_meanDirt_7 : decode cX2_meanDirt 7 = .ok (.aload_n 0, 1) := dk_42 (dk_at dksX2_meanDirt_0 7 rfl rfl)
theorem dX2_meanDirt_8 : decode cX2_meanDirt 8 = .ok (.getfield 9, 3) := dk_180 0 9 (dk_at dksX2_meanDirt_0 8 rfl rfl)
theorem dX2_meanDirt_11 : decode cX2_meanDirt 11 = .ok (.bipush 10, 2) := dk_16 10 (dk_at dksX2_meanDirt_0 11 rfl rfl)
theorem dX2_meanDirt_13 : decode cX2_meanDirt 13 = .ok (.iaload, 1) := dk_46 (dk_at dksX2_meanDirt_0 13 rfl rfl)
theorem dX2_meanDirt_14 : decode cX2_meanDirt 14 = .ok (.ifCond .le 20, 3) := dk_158 0 20 (dk_at dksX2_meanDirt_0 14 rfl rfl)
theorem dX2_meanDirt_17 : decode cX2_meanDirt 17 = .ok (.aload_n 0, 1) := dk_42 (dk_at dksX2_meanDirt_0 17 rfl rfl)
theorem dX2_meanDirt_18 : decode cX2_meanDirt 18 = .ok (.invokevirtual 422, 3) := dk_182 1 166 (dk_at dksX2_meanDirt_0 18 rfl rfl)
theorem dX2_meanDirt_21 : decode cX2_meanDirt 21 = .ok (.i2d, 1) := dk_135 (dk_at dksX2_meanDirt_0 21 rfl rfl)
theorem dX2_meanDirt_22 : decode cX2_meanDirt 22 = .ok (.aload_n 0, 1) := dk_42 (dk_at dksX2_meanDirt_0 22 rfl rfl)
theorem dX2_meanDirt_23 : decode cX2_meanDirt 23 = .ok (.getfield 9, 3) := dk_180 0 9 (dk_at dksX2_meanDirt_1 0 rfl rfl)
theorem dX2_meanDirt_26 : decode cX2_meanDirt 26 = .ok (.bipush 10, 2) := dk_16 10 (dk_at dksX2_meanDirt_1 3 rfl rfl)
theorem dX2_meanDirt_28 : decode cX2_meanDirt 28 = .ok (.iaload, 1) := dk_46 (dk_at dksX2_meanDirt_1 5 rfl rfl)
theorem dX2_meanDirt_29 : decode cX2_meanDirt 29 = .ok (.i2d, 1) := dk_135 (dk_at dksX2_meanDirt_1 6 rfl rfl)
theorem dX2_meanDirt_30 : decode cX2_meanDirt 30 = .ok (.ddiv, 1) := dk_111 (dk_at dksX2_meanDirt_1 7 rfl rfl)
theorem dX2_meanDirt_31 : decode cX2_meanDirt 31 = .ok (.goto 4, 3) := dk_167 0 4 (dk_at dksX2_meanDirt_1 8 rfl rfl)
theorem dX2_meanDirt_34 : decode cX2_meanDirt 34 = .ok (.dconst 0, 1) := dk_14 (dk_at dksX2_meanDirt_1 11 rfl rfl)
theorem dX2_meanDirt_35 : decode cX2_meanDirt 35 = .ok (.dreturn, 1) := dk_175 (dk_at dksX2_meanDirt_1 12 rfl rfl)
abbrev cX2_allDirt : ByteArray := prog_20_method_140_code
def yX2_allDirt : MethodName := ⟨RX2, "allDirt", "()I"⟩
def dkwX2_allDirt_1 : List UInt8 := [132, 2, 1, 167, 255, 233, 27, 172]
abbrev dktX2_allDirt_1 : List UInt8 := dkwX2_allDirt_1 ++ []
def dkwX2_allDirt_0 : List UInt8 := [3, 60, 3, 61, 28, 42, 180, 0, 9, 16, 10, 46, 162, 0, 18, 27, 42, 28, 6, 182, 0, 227, 96, 60]
abbrev dktX2_allDirt_0 : List UInt8 := dkwX2_allDirt_0 ++ dktX2_allDirt_1
theorem dksX2_allDirt_0 : cX2_allDirt.data.toList.drop 0 = dktX2_allDirt_0 := by decide +kernel
theorem dksX2_allDirt_1 : cX2_allDirt.data.toList.drop 24 = dktX2_allDirt_1 := dk_seg dksX2_allDirt_0 24 rfl rfl
theorem dX2_allDirt_0 : decode cX2_allDirt 0 = .ok (.iconst 0, 1) := dk_3 (dk_at dksX2_allDirt_0 0 rfl rfl)
theorem dX2_allDirt_1 : decode cX2_allDirt 1 = .ok (.istore_n 1, 1) := dk_60 (dk_at dksX2_allDirt_0 1 rfl rfl)
theorem dX2_allDirt_2 : decode cX2_allDirt 2 = .ok (.iconst 0, 1) := dk_3 (dk_at dksX2_allDirt_0 2 rfl rfl)
theorem dX2_allDirt_3 : decode cX2_allDirt 3 = .ok (.istore_n 2, 1) := dk_61 (dk_at dksX2_allDirt_0 3 rfl rfl)
theorem dX2_allDirt_4 : decode cX2_allDirt 4 = .ok (.iload_n 2, 1) := dk_28 (dk_at dksX2_allDirt_0 4 rfl rfl)
theorem dX2_allDirt_5 : decode cX2_allDirt 5 = .ok (.aload_n 0, 1) := dk_42 (dk_at dksX2_allDirt_0 5 rfl rfl)
theorem dX2_allDirt_6 : decode cX2_allDirt 6 = .ok (.getfield 9, 3) := dk_180 0 9 (dk_at dksX2_allDirt_0 6 rfl rfl)
theorem dX2_allDirt_9 : decode cX2_allDirt 9 = .ok (.bipush 10, 2) := dk_16 10 (dk_at dksX2_allDirt_0 9 rfl rfl)
theorem dX2_allDirt_11 : decode cX2_allDirt 11 = .ok (.iaload, 1) := dk_46 (dk_at dksX2_allDirt_0 11 rfl rfl)
theorem dX2_allDirt_12 : decode cX2_allDirt 12 = .ok (.if_icmp .ge 18, 3) := dk_162 0 18 (dk_at dksX2_allDirt_0 12 rfl rfl)
theorem dX2_allDirt_15 : decode cX2_allDirt 15 = .ok (.iload_n 1, 1) := dk_27 (dk_at dksX2_allDirt_0 15 rfl rfl)
theorem dX2_allDirt_16 : decode cX2_allDirt 16 = .ok (.aload_n 0, 1) := dk_42 (dk_at dksX2_allDirt_0 16 rfl rfl)
theorem dX2_allDirt_17 : decode cX2_allDirt 17 = .ok (.iload_n 2, 1) := dk_28 (dk_at dksX2_allDirt_0 17 rfl rfl)
theorem dX2_allDirt_18 : decode cX2_allDirt 18 = .ok (.iconst 3, 1) := dk_6 (dk_at dksX2_allDirt_0 18 rfl rfl)
theorem dX2_allDirt_19 : decode cX2_allDirt 19 = .ok (.invokevirtual 227, 3) := dk_182 0 227 (dk_at dksX2_allDirt_0 19 rfl rfl)
theorem dX2_allDirt_22 : decode cX2_allDirt 22 = .ok (.iadd, 1) := dk_96 (dk_at dksX2_allDirt_0 22 rfl rfl)
theorem dX2_allDirt_23 : decode cX2_allDirt 23 = .ok (.istore_n 1, 1) := dk_60 (dk_at dksX2_allDirt_0 23 rfl rfl)
theorem dX2_allDirt_24 : decode cX2_allDirt 24 = .ok (.iinc 2 1, 3) := dk_132 2 1 (dk_at dksX2_allDirt_1 0 rfl rfl)
theorem dX2_allDirt_27 : decode cX2_allDirt 27 = .ok (.goto (-23), 3) := dk_167 255 233 (dk_at dksX2_allDirt_1 3 rfl rfl)
theorem dX2_allDirt_30 : decode cX2_allDirt 30 = .ok (.iload_n 1, 1) := dk_27 (dk_at dksX2_allDirt_1 6 rfl rfl)
theorem dX2_allDirt_31 : decode cX2_allDirt 31 = .ok (.ireturn, 1) := dk_172 (dk_at dksX2_allDirt_1 7 rfl rfl)
abbrev cX2_writeFlag : ByteArray := prog_20_method_145_code
def yX2_writeFlag : MethodName := ⟨RX2, "writeFlag", "(I)I"⟩
def dkwX2_writeFlag_4 : List UInt8 := [182, 1, 178, 132, 2, 1, 167, 255, 214, 42, 180, 1, 169, 172]
abbrev dktX2_writeFlag_4 : List UInt8 := dkwX2_writeFlag_4 ++ []
def dkwX2_writeFlag_3 : List UInt8 := [16, 6, 182, 0, 227, 28, 184, 0, 125, 154, 0, 6, 167, 0, 14, 42, 16, 43, 182, 1, 172, 42, 28]
abbrev dktX2_writeFlag_3 : List UInt8 := dkwX2_writeFlag_3 ++ dktX2_writeFlag_4
def dkwX2_writeFlag_2 : List UInt8 := [42, 27, 8, 182, 0, 227, 182, 1, 178, 3, 61, 28, 42, 180, 0, 9, 16, 6, 46, 162, 0, 37, 42, 27]
abbrev dktX2_writeFlag_2 : List UInt8 := dkwX2_writeFlag_2 ++ dktX2_writeFlag_3
def dkwX2_writeFlag_1 : List UInt8 := [182, 1, 172, 42, 42, 27, 6, 182, 0, 227, 182, 1, 178, 42, 42, 27, 7, 182, 0, 227, 182, 1, 178, 42]
abbrev dktX2_writeFlag_1 : List UInt8 := dkwX2_writeFlag_1 ++ dktX2_writeFlag_2
def dkwX2_writeFlag_0 : List UInt8 := [42, 27, 182, 1, 111, 154, 0, 5, 3, 172, 42, 3, 181, 1, 169, 42, 42, 27, 182, 0, 230, 184, 1, 175]
abbrev dktX2_writeFlag_0 : List UInt8 := dkwX2_writeFlag_0 ++ dktX2_writeFlag_1
theorem dksX2_writeFlag_0 : cX2_writeFlag.data.toList.drop 0 = dktX2_writeFlag_0 := by decide +kernel
theorem dksX2_writeFlag_1 : cX2_writeFlag.data.toList.drop 24 = dktX2_writeFlag_1 := dk_seg dksX2_writeFlag_0 24 rfl rfl
theorem dksX2_writeFlag_2 : cX2_writeFlag.data.toList.drop 48 = dktX2_writeFlag_2 := dk_seg dksX2_writeFlag_1 24 rfl rfl
theorem dksX2_writeFlag_3 : cX2_writeFlag.data.toList.drop 72 = dktX2_writeFlag_3 := dk_seg dksX2_writeFlag_2 24 rfl rfl
theorem dksX2_writeFlag_4 : cX2_writeFlag.data.toList.drop 95 = dktX2_writeFlag_4 := dk_seg dksX2_writeFlag_3 23 rfl rfl
theorem dX2_writeFlag_0 : decode cX2_writeFlag 0 = .ok (.aload_n 0, 1) := dk_42 (dk_at dksX2_writeFlag_0 0 rfl rfl)
theorem dX2_writeFlag_1 : decode cX2_writeFlag 1 = .ok (.iload_n 1, 1) := dk_27 (dk_at dksX2_writeFlag_0 1 rfl rfl)
theorem dX2_writeFlag_2 : decode cX2_writeFlag 2 = .ok (.invokevirtual 367, 3) := dk_182 1 111 (dk_at dksX2_writeFlag_0 2 rfl rfl)
theorem dX2_writeFlag_5 : decode cX2_writeFlag 5 = .ok (.ifCond .ne 5, 3) := dk_154 0 5 (dk_at dksX2_writeFlag_0 5 rfl rfl)
theorem dX2_writeFlag_8 : decode cX2_writeFlag 8 = .ok (.iconst 0, 1) := dk_3 (dk_at dksX2_writeFlag_0 8 rfl rfl)
theorem dX2_writeFlag_9 : decode cX2_writeFlag 9 = .ok (.ireturn, 1) := dk_172 (dk_at dksX2_writeFlag_0 9 rfl rfl)
theorem dX2_writeFlag_10 : decode cX2_writeFlag 10 = .ok (.aload_n 0, 1) := dk_42 (dk_at dksX2_writeFlag_0 10 rfl rfl)
theorem dX2_writeFlag_11 : decode cX2_writeFlag 11 = .ok (.iconst 0, 1) := dk_3 (dk_at dksX2_writeFlag_0 11 rfl rfl)
theorem dX2_writeFlag_12 : decode cX2_writeFlag 12 = .ok (.putfield 425, 3) := dk_181 1 169 (dk_at dksX2_writeFlag_0 12 rfl rfl)
theorem dX2_writeFlag_15 : decode cX2_writeFlag 15 = .ok (.aload_n 0, 1) := dk_42 (dk_at dksX2_writeFlag_0 15 rfl rfl)
theorem dX2_writeFlag_16 : decode cX2_writeFlag 16 = .ok (.aload_n 0, 1) := dk_42 (dk_at dksX2_writeFlag_0 16 rfl rfl)
theorem dX2_writeFlag_17 : decode cX2_writeFlag 17 = .ok (.iload_n 1, 1) := dk_27 (dk_at dksX2_writeFlag_0 17 rfl rfl)
theorem dX2_writeFlag_18 : decode cX2_writeFlag 18 = .ok (.invokevirtual 230, 3) := dk_182 0 230 (dk_at dksX2_writeFlag_0 18 rfl rfl)
theorem dX2_writeFlag_21 : decode cX2_writeFlag 21 = .ok (.invokestatic 431, 3) := dk_184 1 175 (dk_at dksX2_writeFlag_0 21 rfl rfl)
theorem dX2_writeFlag_24 : decode cX2_writeFlag 24 = .ok (.invokevirtual 428, 3) := dk_182 1 172 (dk_at dksX2_writeFlag_1 0 rfl rfl)
theorem dX2_writeFlag_27 : decode cX2_writeFlag 27 = .ok (.aload_n 0, 1) := dk_42 (dk_at dksX2_writeFlag_1 3 rfl rfl)
theorem dX2_writeFlag_28 : decode cX2_writeFlag 28 = .ok (.aload_n 0, 1) := dk_42 (dk_at dksX2_writeFlag_1 4 rfl rfl)
theorem dX2_writeFlag_29 : decode cX2_writeFlag 29 = .ok (.iload_n 1, 1) := dk_27 (dk_at dksX2_writeFlag_1 5 rfl rfl)
theorem dX2_writeFlag_30 : decode cX2_writeFlag 30 = .ok (.iconst 3, 1) := dk_6 (dk_at dksX2_writeFlag_1 6 rfl rfl)
theorem dX2_writeFlag_31 : decode cX2_writeFlag 31 = .ok (.invokevirtual 227, 3) := dk_182 0 227 (dk_at dksX2_writeFlag_1 7 rfl rfl)
theorem dX2_writeFlag_34 : decode cX2_writeFlag 34 = .ok (.invokevirtual 434, 3) := dk_182 1 178 (dk_at dksX2_writeFlag_1 10 rfl rfl)
theorem dX2_writeFlag_37 : decode cX2_writeFlag 37 = .ok (.aload_n 0, 1) := dk_42 (dk_at dksX2_writeFlag_1 13 rfl rfl)
theorem dX2_writeFlag_38 : decode cX2_writeFlag 38 = .ok (.aload_n 0, 1) := dk_42 (dk_at dksX2_writeFlag_1 14 rfl rfl)
theorem dX2_writeFlag_39 : decode cX2_writeFlag 39 = .ok (.iload_n 1, 1) := dk_27 (dk_at dksX2_writeFlag_1 15 rfl rfl)
theorem dX2_writeFlag_40 : decode cX2_writeFlag 40 = .ok (.iconst 4, 1) := dk_7 (dk_at dksX2_writeFlag_1 16 rfl rfl)
theorem dX2_writeFlag_41 : decode cX2_writeFlag 41 = .ok (.invokevirtual 227, 3) := dk_182 0 227 (dk_at dksX2_writeFlag_1 17 rfl rfl)
theorem dX2_writeFlag_44 : decode cX2_writeFlag 44 = .ok (.invokevirtual 434, 3) := dk_182 1 178 (dk_at dksX2_writeFlag_1 20 rfl rfl)
theorem dX2_writeFlag_47 : decode cX2_writeFlag 47 = .ok (.aload_n 0, 1) := dk_42 (dk_at dksX2_writeFlag_1 23 rfl rfl)
theorem dX2_writeFlag_48 : decode cX2_writeFlag 48 = .ok (.aload_n 0, 1) := dk_42 (dk_at dksX2_writeFlag_2 0 rfl rfl)
theorem dX2_writeFlag_49 : decode cX2_writeFlag 49 = .ok (.iload_n 1, 1) := dk_27 (dk_at dksX2_writeFlag_2 1 rfl rfl)
theorem dX2_writeFlag_50 : decode cX2_writeFlag 50 = .ok (.iconst 5, 1) := dk_8 (dk_at dksX2_writeFlag_2 2 rfl rfl)
theorem dX2_writeFlag_51 : decode cX2_writeFlag 51 = .ok (.invokevirtual 227, 3) := dk_182 0 227 (dk_at dksX2_writeFlag_2 3 rfl rfl)
theorem dX2_writeFlag_54 : decode cX2_writeFlag 54 = .ok (.invokevirtual 434, 3) := dk_182 1 178 (dk_at dksX2_writeFlag_2 6 rfl rfl)
theorem dX2_writeFlag_57 : decode cX2_writeFlag 57 = .ok (.iconst 0, 1) := dk_3 (dk_at dksX2_writeFlag_2 9 rfl rfl)
theorem dX2_writeFlag_58 : decode cX2_writeFlag 58 = .ok (.istore_n 2, 1) := dk_61 (dk_at dksX2_writeFlag_2 10 rfl rfl)
theorem dX2_writeFlag_59 : decode cX2_writeFlag 59 = .ok (.iload_n 2, 1) := dk_28 (dk_at dksX2_writeFlag_2 11 rfl rfl)
theorem dX2_writeFlag_60 : decode cX2_writeFlag 60 = .ok (.aload_n 0, 1) := dk_42 (dk_at dksX2_writeFlag_2 12 rfl rfl)
theorem dX2_writeFlag_61 : decode cX2_writeFlag 61 = .ok (.getfield 9, 3) := dk_180 0 9 (dk_at dksX2_writeFlag_2 13 rfl rfl)
theorem dX2_writeFlag_64 : decode cX2_writeFlag 64 = .ok (.bipush 6, 2) := dk_16 6 (dk_at dksX2_writeFlag_2 16 rfl rfl)
theorem dX2_writeFlag_66 : decode cX2_writeFlag 66 = .ok (.iaload, 1) := dk_46 (dk_at dksX2_writeFlag_2 18 rfl rfl)
theorem dX2_writeFlag_67 : decode cX2_writeFlag 67 = .ok (.if_icmp .ge 37, 3) := dk_162 0 37 (dk_at dksX2_writeFlag_2 19 rfl rfl)
theorem dX2_writeFlag_70 : decode cX2_writeFlag 70 = .ok (.aload_n 0, 1) := dk_42 (dk_at dksX2_writeFlag_2 22 rfl rfl)
theorem dX2_writeFlag_71 : decode cX2_writeFlag 71 = .ok (.iload_n 1, 1) := dk_27 (dk_at dksX2_writeFlag_2 23 rfl rfl)
theorem dX2_writeFlag_72 : decode cX2_writeFlag 72 = .ok (.bipush 6, 2) := dk_16 6 (dk_at dksX2_writeFlag_3 0 rfl rfl)
theorem dX2_writeFlag_74 : decode cX2_writeFlag 74 = .ok (.invokevirtual 227, 3) := dk_182 0 227 (dk_at dksX2_writeFlag_3 2 rfl rfl)
theorem dX2_writeFlag_77 : decode cX2_writeFlag 77 = .ok (.iload_n 2, 1) := dk_28 (dk_at dksX2_writeFlag_3 5 rfl rfl)
theorem dX2_writeFlag_78 : decode cX2_writeFlag 78 = .ok (.invokestatic 125, 3) := dk_184 0 125 (dk_at dksX2_writeFlag_3 6 rfl rfl)
theorem dX2_writeFlag_81 : decode cX2_writeFlag 81 = .ok (.ifCond .ne 6, 3) := dk_154 0 6 (dk_at dksX2_writeFlag_3 9 rfl rfl)
theorem dX2_writeFlag_84 : decode cX2_writeFlag 84 = .ok (.goto 14, 3) := dk_167 0 14 (dk_at dksX2_writeFlag_3 12 rfl rfl)
theorem dX2_writeFlag_87 : decode cX2_writeFlag 87 = .ok (.aload_n 0, 1) := dk_42 (dk_at dksX2_writeFlag_3 15 rfl rfl)
theorem dX2_writeFlag_88 : decode cX2_writeFlag 88 = .ok (.bipush 43, 2) := dk_16 43 (dk_at dksX2_writeFlag_3 16 rfl rfl)
theorem dX2_writeFlag_90 : decode cX2_writeFlag 90 = .ok (.invokevirtual 428, 3) := dk_182 1 172 (dk_at dksX2_writeFlag_3 18 rfl rfl)
theorem dX2_writeFlag_93 : decode cX2_writeFlag 93 = .ok (.aload_n 0, 1) := dk_42 (dk_at dksX2_writeFlag_3 21 rfl rfl)
theorem dX2_writeFlag_94 : decode cX2_writeFlag 94 = .ok (.iload_n 2, 1) := dk_28 (dk_at dksX2_writeFlag_3 22 rfl rfl)
theorem dX2_writeFlag_95 : decode cX2_writeFlag 95 = .ok (.invokevirtual 434, 3) := dk_182 1 178 (dk_at dksX2_writeFlag_4 0 rfl rfl)
theorem dX2_writeFlag_98 : decode cX2_writeFlag 98 = .ok (.iinc 2 1, 3) := dk_132 2 1 (dk_at dksX2_writeFlag_4 3 rfl rfl)
theorem dX2_writeFlag_101 : decode cX2_writeFlag 101 = .ok (.goto (-42), 3) := dk_167 255 214 (dk_at dksX2_writeFlag_4 6 rfl rfl)
theorem dX2_writeFlag_104 : decode cX2_writeFlag 104 = .ok (.aload_n 0, 1) := dk_42 (dk_at dksX2_writeFlag_4 9 rfl rfl)
theorem dX2_writeFlag_105 : decode cX2_writeFlag 105 = .ok (.getfield 425, 3) := dk_180 1 169 (dk_at dksX2_writeFlag_4 10 rfl rfl)
theorem dX2_writeFlag_108 : decode cX2_writeFlag 108 = .ok (.ireturn, 1) := dk_172 (dk_at dksX2_writeFlag_4 13 rfl rfl)
abbrev cX2_letterOf : ByteArray := prog_20_method_144_code
def yX2_letterOf : MethodName := ⟨RX2, "letterOf", "(I)I"⟩
def dkwX2_letterOf_1 : List UInt8 := [16, 108, 167, 0, 5, 16, 103, 172]
abbrev dktX2_letterOf_1 : List UInt8 := dkwX2_letterOf_1 ++ []
def dkwX2_letterOf_0 : List UInt8 := [26, 154, 0, 8, 16, 98, 167, 0, 25, 26, 4, 160, 0, 8, 16, 116, 167, 0, 15, 26, 5, 160, 0, 8]
abbrev dktX2_letterOf_0 : List UInt8 := dkwX2_letterOf_0 ++ dktX2_letterOf_1
theorem dksX2_letterOf_0 : cX2_letterOf.data.toList.drop 0 = dktX2_letterOf_0 := by decide +kernel
theorem dksX2_letterOf_1 : cX2_letterOf.data.toList.drop 24 = dktX2_letterOf_1 := dk_seg dksX2_letterOf_0 24 rfl rfl
theorem dX2_letterOf_0 : decode cX2_letterOf 0 = .ok (.iload_n 0, 1) := dk_26 (dk_at dksX2_letterOf_0 0 rfl rfl)
theorem dX2_letterOf_1 : decode cX2_letterOf 1 = .ok (.ifCond .ne 8, 3) := dk_154 0 8 (dk_at dksX2_letterOf_0 1 rfl rfl)
theorem dX2_letterOf_4 : decode cX2_letterOf 4 = .ok (.bipush 98, 2) := dk_16 98 (dk_at dksX2_letterOf_0 4 rfl rfl)
theorem dX2_letterOf_6 : decode cX2_letterOf 6 = .ok (.goto 25, 3) := dk_167 0 25 (dk_at dksX2_letterOf_0 6 rfl rfl)
theorem dX2_letterOf_9 : decode cX2_letterOf 9 = .ok (.iload_n 0, 1) := dk_26 (dk_at dksX2_letterOf_0 9 rfl rfl)
theorem dX2_letterOf_10 : decode cX2_letterOf 10 = .ok (.iconst 1, 1) := dk_4 (dk_at dksX2_letterOf_0 10 rfl rfl)
theorem dX2_letterOf_11 : decode cX2_letterOf 11 = .ok (.if_icmp .ne 8, 3) := dk_160 0 8 (dk_at dksX2_letterOf_0 11 rfl rfl)
theorem dX2_letterOf_14 : decode cX2_letterOf 14 = .ok (.bipush 116, 2) := dk_16 116 (dk_at dksX2_letterOf_0 14 rfl rfl)
theorem dX2_letterOf_16 : decode cX2_letterOf 16 = .ok (.goto 15, 3) := dk_167 0 15 (dk_at dksX2_letterOf_0 16 rfl rfl)
theorem dX2_letterOf_19 : decode cX2_letterOf 19 = .ok (.iload_n 0, 1) := dk_26 (dk_at dksX2_letterOf_0 19 rfl rfl)
theorem dX2_letterOf_20 : decode cX2_letterOf 20 = .ok (.iconst 2, 1) := dk_5 (dk_at dksX2_letterOf_0 20 rfl rfl)
theorem dX2_letterOf_21 : decode cX2_letterOf 21 = .ok (.if_icmp .ne 8, 3) := dk_160 0 8 (dk_at dksX2_letterOf_0 21 rfl rfl)
theorem dX2_letterOf_24 : decode cX2_letterOf 24 = .ok (.bipush 108, 2) := dk_16 108 (dk_at dksX2_letterOf_1 0 rfl rfl)
theorem dX2_letterOf_26 : decode cX2_letterOf 26 = .ok (.goto 5, 3) := dk_167 0 5 (dk_at dksX2_letterOf_1 2 rfl rfl)
theorem dX2_letterOf_29 : decode cX2_letterOf 29 = .ok (.bipush 103, 2) := dk_16 103 (dk_at dksX2_letterOf_1 5 rfl rfl)
theorem dX2_letterOf_31 : decode cX2_letterOf 31 = .ok (.ireturn, 1) := dk_172 (dk_at dksX2_letterOf_1 7 rfl rfl)
abbrev cX2_writesByte : ByteArray := prog_20_method_142_code
def yX2_writesByte : MethodName := ⟨RX2, "writesByte", "(I)V"⟩
def dkwX2_writesByte_0 : List UInt8 := [42, 180, 0, 37, 42, 180, 1, 169, 27, 145, 84, 42, 89, 180, 1, 169, 4, 96, 181, 1, 169, 177]
abbrev dktX2_writesByte_0 : List UInt8 := dkwX2_writesByte_0 ++ []
theorem dksX2_writesByte_0 : cX2_writesByte.data.toList.drop 0 = dktX2_writesByte_0 := by decide +kernel
theorem dX2_writesByte_0 : decode cX2_writesByte 0 = .ok (.aload_n 0, 1) := dk_42 (dk_at dksX2_writesByte_0 0 rfl rfl)
theorem dX2_writesByte_1 : decode cX2_writesByte 1 = .ok (.getfield 37, 3) := dk_180 0 37 (dk_at dksX2_writesByte_0 1 rfl rfl)
theorem dX2_writesByte_4 : decode cX2_writesByte 4 = .ok (.aload_n 0, 1) := dk_42 (dk_at dksX2_writesByte_0 4 rfl rfl)
theorem dX2_writesByte_5 : decode cX2_writesByte 5 = .ok (.getfield 425, 3) := dk_180 1 169 (dk_at dksX2_writesByte_0 5 rfl rfl)
theorem dX2_writesByte_8 : decode cX2_writesByte 8 = .ok (.iload_n 1, 1) := dk_27 (dk_at dksX2_writesByte_0 8 rfl rfl)
theorem dX2_writesByte_9 : decode cX2_writesByte 9 = .ok (.i2b, 1) := dk_145 (dk_at dksX2_writesByte_0 9 rfl rfl)
theorem dX2_writesByte_10 : decode cX2_writesByte 10 = .ok (.bastore, 1) := dk_84 (dk_at dksX2_writesByte_0 10 rfl rfl)
theorem dX2_writesByte_11 : decode cX2_writesByte 11 = .ok (.aload_n 0, 1) := dk_42 (dk_at dksX2_writesByte_0 11 rfl rfl)
theorem dX2_writesByte_12 : decode cX2_writesByte 12 = .ok (.dup, 1) := dk_89 (dk_at dksX2_writesByte_0 12 rfl rfl)
theorem dX2_writesByte_13 : decode cX2_writesByte 13 = .ok (.getfield 425, 3) := dk_180 1 169 (dk_at dksX2_writesByte_0 13 rfl rfl)
theorem dX2_writesByte_16 : decode cX2_writesByte 16 = .ok (.iconst 1, 1) := dk_4 (dk_at dksX2_writesByte_0 16 rfl rfl)
theorem dX2_writesByte_17 : decode cX2_writesByte 17 = .ok (.iadd, 1) := dk_96 (dk_at dksX2_writesByte_0 17 rfl rfl)
theorem dX2_writesByte_18 : decode cX2_writesByte 18 = .ok (.putfield 425, 3) := dk_181 1 169 (dk_at dksX2_writesByte_0 18 rfl rfl)
theorem dX2_writesByte_21 : decode cX2_writesByte 21 = .ok (.return_, 1) := dk_177 (dk_at dksX2_writesByte_0 21 rfl rfl)
abbrev cX2_writesNumber : ByteArray := prog_20_method_143_code
def yX2_writesNumber : MethodName := ⟨RX2, "writesNumber", "(I)V"⟩
def dkwX2_writesNumber_1 : List UInt8 := [96, 182, 1, 172, 177]
abbrev dktX2_writesNumber_1 : List UInt8 := dkwX2_writesNumber_1 ++ []
def dkwX2_writesNumber_0 : List UInt8 := [27, 16, 9, 164, 0, 14, 42, 16, 48, 27, 16, 10, 108, 96, 182, 1, 172, 42, 16, 48, 27, 16, 10, 112]
abbrev dktX2_writesNumber_0 : List UInt8 := dkwX2_writesNumber_0 ++ dktX2_writesNumber_1
theorem dksX2_writesNumber_0 : cX2_writesNumber.data.toList.drop 0 = dktX2_writesNumber_0 := by decide +kernel
theorem dksX2_writesNumber_1 : cX2_writesNumber.data.toList.drop 24 = dktX2_writesNumber_1 := dk_seg dksX2_writesNumber_0 24 rfl rfl
theorem dX2_writesNumber_0 : decode cX2_writesNumber 0 = .ok (.iload_n 1, 1) := dk_27 (dk_at dksX2_writesNumber_0 0 rfl rfl)
theorem dX2_writesNumber_1 : decode cX2_writesNumber 1 = .ok (.bipush 9, 2) := dk_16 9 (dk_at dksX2_writesNumber_0 1 rfl rfl)
theorem dX2_writesNumber_3 : decode cX2_writesNumber 3 = .ok (.if_icmp .le 14, 3) := dk_164 0 14 (dk_at dksX2_writesNumber_0 3 rfl rfl)
theorem dX2_writesNumber_6 : decode cX2_writesNumber 6 = .ok (.aload_n 0, 1) := dk_42 (dk_at dksX2_writesNumber_0 6 rfl rfl)
theorem dX2_writesNumber_7 : decode cX2_writesNumber 7 = .ok (.bipush 48, 2) := dk_16 48 (dk_at dksX2_writesNumber_0 7 rfl rfl)
theorem dX2_writesNumber_9 : decode cX2_writesNumber 9 = .ok (.iload_n 1, 1) := dk_27 (dk_at dksX2_writesNumber_0 9 rfl rfl)
theorem dX2_writesNumber_10 : decode cX2_writesNumber 10 = .ok (.bipush 10, 2) := dk_16 10 (dk_at dksX2_writesNumber_0 10 rfl rfl)
theorem dX2_writesNumber_12 : decode cX2_writesNumber 12 = .ok (.idiv, 1) := dk_108 (dk_at dksX2_writesNumber_0 12 rfl rfl)
theorem dX2_writesNumber_13 : decode cX2_writesNumber 13 = .ok (.iadd, 1) := dk_96 (dk_at dksX2_writesNumber_0 13 rfl rfl)
theorem dX2_writesNumber_14 : decode cX2_writesNumber 14 = .ok (.invokevirtual 428, 3) := dk_182 1 172 (dk_at dksX2_writesNumber_0 14 rfl rfl)
theorem dX2_writesNumber_17 : decode cX2_writesNumber 17 = .ok (.aload_n 0, 1) := dk_42 (dk_at dksX2_writesNumber_0 17 rfl rfl)
theorem dX2_writesNumber_18 : decode cX2_writesNumber 18 = .ok (.bipush 48, 2) := dk_16 48 (dk_at dksX2_writesNumber_0 18 rfl rfl)
theorem dX2_writesNumber_20 : decode cX2_writesNumber 20 = .ok (.iload_n 1, 1) := dk_27 (dk_at dksX2_writesNumber_0 20 rfl rfl)
theorem dX2_writesNumber_21 : decode cX2_writesNumber 21 = .ok (.bipush 10, 2) := dk_16 10 (dk_at dksX2_writesNumber_0 21 rfl rfl)
theorem dX2_writesNumber_23 : decode cX2_writesNumber 23 = .ok (.irem, 1) := dk_112 (dk_at dksX2_writesNumber_0 23 rfl rfl)
theorem dX2_writesNumber_24 : decode cX2_writesNumber 24 = .ok (.iadd, 1) := dk_96 (dk_at dksX2_writesNumber_1 0 rfl rfl)
theorem dX2_writesNumber_25 : decode cX2_writesNumber 25 = .ok (.invokevirtual 428, 3) := dk_182 1 172 (dk_at dksX2_writesNumber_1 1 rfl rfl)
theorem dX2_writesNumber_28 : decode cX2_writesNumber 28 = .ok (.return_, 1) := dk_177 (dk_at dksX2_writesNumber_1 4 rfl rfl)
abbrev cX2_writeTub : ByteArray := prog_20_method_146_code
def yX2_writeTub : MethodName := ⟨RX2, "writeTub", "(I)I"⟩
def dkwX2_writeTub_2 : List UInt8 := [132, 3, 1, 167, 255, 228, 28, 154, 0, 9, 42, 16, 45, 182, 1, 172, 42, 180, 1, 169, 172]
abbrev dktX2_writeTub_2 : List UInt8 := dkwX2_writeTub_2 ++ []
def dkwX2_writeTub_1 : List UInt8 := [28, 162, 0, 29, 29, 158, 0, 9, 42, 16, 44, 182, 1, 172, 42, 42, 27, 29, 182, 1, 101, 182, 1, 178]
abbrev dktX2_writeTub_1 : List UInt8 := dkwX2_writeTub_1 ++ dktX2_writeTub_2
def dkwX2_writeTub_0 : List UInt8 := [42, 27, 182, 1, 98, 154, 0, 5, 3, 172, 42, 3, 181, 1, 169, 42, 27, 182, 0, 252, 61, 3, 62, 29]
abbrev dktX2_writeTub_0 : List UInt8 := dkwX2_writeTub_0 ++ dktX2_writeTub_1
theorem dksX2_writeTub_0 : cX2_writeTub.data.toList.drop 0 = dktX2_writeTub_0 := by decide +kernel
theorem dksX2_writeTub_1 : cX2_writeTub.data.toList.drop 24 = dktX2_writeTub_1 := dk_seg dksX2_writeTub_0 24 rfl rfl
theorem dksX2_writeTub_2 : cX2_writeTub.data.toList.drop 48 = dktX2_writeTub_2 := dk_seg dksX2_writeTub_1 24 rfl rfl
theorem dX2_writeTub_0 : decode cX2_writeTub 0 = .ok (.aload_n 0, 1) := dk_42 (dk_at dksX2_writeTub_0 0 rfl rfl)
theorem dX2_writeTub_1 : decode cX2_writeTub 1 = .ok (.iload_n 1, 1) := dk_27 (dk_at dksX2_writeTub_0 1 rfl rfl)
theorem dX2_writeTub_2 : decode cX2_writeTub 2 = .ok (.invokevirtual 354, 3) := dk_182 1 98 (dk_at dksX2_writeTub_0 2 rfl rfl)
theorem dX2_writeTub_5 : decode cX2_writeTub 5 = .ok (.ifCond .ne 5, 3) := dk_154 0 5 (dk_at dksX2_writeTub_0 5 rfl rfl)
theorem dX2_writeTub_8 : decode cX2_writeTub 8 = .ok (.iconst 0, 1) := dk_3 (dk_at dksX2_writeTub_0 8 rfl rfl)
theorem dX2_writeTub_9 : decode cX2_writeTub 9 = .ok (.ireturn, 1) := dk_172 (dk_at dksX2_writeTub_0 9 rfl rfl)
theorem dX2_writeTub_10 : decode cX2_writeTub 10 = .ok (.aload_n 0, 1) := dk_42 (dk_at dksX2_writeTub_0 10 rfl rfl)
theorem dX2_writeTub_11 : decode cX2_writeTub 11 = .ok (.iconst 0, 1) := dk_3 (dk_at dksX2_writeTub_0 11 rfl rfl)
theorem dX2_writeTub_12 : decode cX2_writeTub 12 = .ok (.putfield 425, 3) := dk_181 1 169 (dk_at dksX2_writeTub_0 12 rfl rfl)
theorem dX2_writeTub_15 : decode cX2_writeTub 15 = .ok (.aload_n 0, 1) := dk_42 (dk_at dksX2_writeTub_0 15 rfl rfl)
theorem dX2_writeTub_16 : decode cX2_writeTub 16 = .ok (.iload_n 1, 1) := dk_27 (dk_at dksX2_writeTub_0 16 rfl rfl)
theorem dX2_writeTub_17 : decode cX2_writeTub 17 = .ok (.invokevirtual 252, 3) := dk_182 0 252 (dk_at dksX2_writeTub_0 17 rfl rfl)
theorem dX2_writeTub_20 : decode cX2_writeTub 20 = .ok (.istore_n 2, 1) := dk_61 (dk_at dksX2_writeTub_0 20 rfl rfl)
theorem dX2_writeTub_21 : decode cX2_writeTub 21 = .ok (.iconst 0, 1) := dk_3 (dk_at dksX2_writeTub_0 21 rfl rfl)
theorem dX2_writeTub_22 : decode cX2_writeTub 22 = .ok (.istore_n 3, 1) := dk_62 (dk_at dksX2_writeTub_0 22 rfl rfl)
theorem dX2_writeTub_23 : decode cX2_writeTub 23 = .ok (.iload_n 3, 1) := dk_29 (dk_at dksX2_writeTub_0 23 rfl rfl)
theorem dX2_writeTub_24 : decode cX2_writeTub 24 = .ok (.iload_n 2, 1) := dk_28 (dk_at dksX2_writeTub_1 0 rfl rfl)
theorem dX2_writeTub_25 : decode cX2_writeTub 25 = .ok (.if_icmp .ge 29, 3) := dk_162 0 29 (dk_at dksX2_writeTub_1 1 rfl rfl)
theorem dX2_writeTub_28 : decode cX2_writeTub 28 = .ok (.iload_n 3, 1) := dk_29 (dk_at dksX2_writeTub_1 4 rfl rfl)
theorem dX2_writeTub_29 : decode cX2_writeTub 29 = .ok (.ifCond .le 9, 3) := dk_158 0 9 (dk_at dksX2_writeTub_1 5 rfl rfl)
theorem dX2_writeTub_32 : decode cX2_writeTub 32 = .ok (.aload_n 0, 1) := dk_42 (dk_at dksX2_writeTub_1 8 rfl rfl)
theorem dX2_writeTub_33 : decode cX2_writeTub 33 = .ok (.bipush 44, 2) := dk_16 44 (dk_at dksX2_writeTub_1 9 rfl rfl)
theorem dX2_writeTub_35 : decode cX2_writeTub 35 = .ok (.invokevirtual 428, 3) := dk_182 1 172 (dk_at dksX2_writeTub_1 11 rfl rfl)
theorem dX2_writeTub_38 : decode cX2_writeTub 38 = .ok (.aload_n 0, 1) := dk_42 (dk_at dksX2_writeTub_1 14 rfl rfl)
theorem dX2_writeTub_39 : decode cX2_writeTub 39 = .ok (.aload_n 0, 1) := dk_42 (dk_at dksX2_writeTub_1 15 rfl rfl)
theorem dX2_writeTub_40 : decode cX2_writeTub 40 = .ok (.iload_n 1, 1) := dk_27 (dk_at dksX2_writeTub_1 16 rfl rfl)
theorem dX2_writeTub_41 : decode cX2_writeTub 41 = .ok (.iload_n 3, 1) := dk_29 (dk_at dksX2_writeTub_1 17 rfl rfl)
theorem dX2_writeTub_42 : decode cX2_writeTub 42 = .ok (.invokevirtual 357, 3) := dk_182 1 101 (dk_at dksX2_writeTub_1 18 rfl rfl)
theorem dX2_writeTub_45 : decode cX2_writeTub 45 = .ok (.invokevirtual 434, 3) := dk_182 1 178 (dk_at dksX2_writeTub_1 21 rfl rfl)
theorem dX2_writeTub_48 : decode cX2_writeTub 48 = .ok (.iinc 3 1, 3) := dk_132 3 1 (dk_at dksX2_writeTub_2 0 rfl rfl)
theorem dX2_writeTub_51 : decode cX2_writeTub 51 = .ok (.goto (-28), 3) := dk_167 255 228 (dk_at dksX2_writeTub_2 3 rfl rfl)
theorem dX2_writeTub_54 : decode cX2_writeTub 54 = .ok (.iload_n 2, 1) := dk_28 (dk_at dksX2_writeTub_2 6 rfl rfl)
theorem dX2_writeTub_55 : decode cX2_writeTub 55 = .ok (.ifCond .ne 9, 3) := dk_154 0 9 (dk_at dksX2_writeTub_2 7 rfl rfl)
theorem dX2_writeTub_58 : decode cX2_writeTub 58 = .ok (.aload_n 0, 1) := dk_42 (dk_at dksX2_writeTub_2 10 rfl rfl)
theorem dX2_writeTub_59 : decode cX2_writeTub 59 = .ok (.bipush 45, 2) := dk_16 45 (dk_at dksX2_writeTub_2 11 rfl rfl)
theorem dX2_writeTub_61 : decode cX2_writeTub 61 = .ok (.invokevirtual 428, 3) := dk_182 1 172 (dk_at dksX2_writeTub_2 13 rfl rfl)
theorem dX2_writeTub_64 : decode cX2_writeTub 64 = .ok (.aload_n 0, 1) := dk_42 (dk_at dksX2_writeTub_2 16 rfl rfl)
theorem dX2_writeTub_65 : decode cX2_writeTub 65 = .ok (.getfield 425, 3) := dk_180 1 169 (dk_at dksX2_writeTub_2 17 rfl rfl)
theorem dX2_writeTub_68 : decode cX2_writeTub 68 = .ok (.ireturn, 1) := dk_172 (dk_at dksX2_writeTub_2 20 rfl rfl)
abbrev cX2_writeNation : ByteArray := prog_20_method_148_code
def yX2_writeNation : MethodName := ⟨RX2, "writeNation", "(I)I"⟩
def dkwX2_writeNation_3 : List UInt8 := [180, 1, 169, 172]
abbrev dktX2_writeNation_3 : List UInt8 := dkwX2_writeNation_3 ++ []
def dkwX2_writeNation_2 : List UInt8 := [182, 1, 181, 132, 2, 1, 167, 255, 227, 42, 180, 1, 169, 154, 0, 9, 42, 16, 45, 182, 1, 172, 42]
abbrev dktX2_writeNation_2 : List UInt8 := dkwX2_writeNation_2 ++ dktX2_writeNation_3
def dkwX2_writeNation_1 : List UInt8 := [61, 28, 42, 180, 0, 9, 16, 10, 46, 162, 0, 24, 42, 28, 3, 182, 0, 227, 27, 160, 0, 8, 42, 28]
abbrev dktX2_writeNation_1 : List UInt8 := dkwX2_writeNation_1 ++ dktX2_writeNation_2
def dkwX2_writeNation_0 : List UInt8 := [42, 42, 180, 0, 47, 42, 27, 182, 1, 83, 182, 1, 58, 154, 0, 5, 3, 172, 42, 3, 181, 1, 169, 3]
abbrev dktX2_writeNation_0 : List UInt8 := dkwX2_writeNation_0 ++ dktX2_writeNation_1
theorem dksX2_writeNation_0 : cX2_writeNation.data.toList.drop 0 = dktX2_writeNation_0 := by decide +kernel
theorem dksX2_writeNation_1 : cX2_writeNation.data.toList.drop 24 = dktX2_writeNation_1 := dk_seg dksX2_writeNation_0 24 rfl rfl
theorem dksX2_writeNation_2 : cX2_writeNation.data.toList.drop 48 = dktX2_writeNation_2 := dk_seg dksX2_writeNation_1 24 rfl rfl
theorem dksX2_writeNation_3 : cX2_writeNation.data.toList.drop 71 = dktX2_writeNation_3 := dk_seg dksX2_writeNation_2 23 rfl rfl
theorem dX2_writeNation_0 : decode cX2_writeNation 0 = .ok (.aload_n 0, 1) := dk_42 (dk_at dksX2_writeNation_0 0 rfl rfl)
theorem dX2_writeNation_1 : decode cX2_writeNation 1 = .ok (.aload_n 0, 1) := dk_42 (dk_at dksX2_writeNation_0 1 rfl rfl)
theorem dX2_writeNation_2 : decode cX2_writeNation 2 = .ok (.getfield 47, 3) := dk_180 0 47 (dk_at dksX2_writeNation_0 2 rfl rfl)
theorem dX2_writeNation_5 : decode cX2_writeNation 5 = .ok (.aload_n 0, 1) := dk_42 (dk_at dksX2_writeNation_0 5 rfl rfl)
theorem dX2_writeNation_6 : decode cX2_writeNation 6 = .ok (.iload_n 1, 1) := dk_27 (dk_at dksX2_writeNation_0 6 rfl rfl)
theorem dX2_writeNation_7 : decode cX2_writeNation 7 = .ok (.invokevirtual 339, 3) := dk_182 1 83 (dk_at dksX2_writeNation_0 7 rfl rfl)
theorem dX2_writeNation_10 : decode cX2_writeNation 10 = .ok (.invokevirtual 314, 3) := dk_182 1 58 (dk_at dksX2_writeNation_0 10 rfl rfl)
theorem dX2_writeNation_13 : decode cX2_writeNation 13 = .ok (.ifCond .ne 5, 3) := dk_154 0 5 (dk_at dksX2_writeNation_0 13 rfl rfl)
theorem dX2_writeNation_16 : decode cX2_writeNation 16 = .ok (.iconst 0, 1) := dk_3 (dk_at dksX2_writeNation_0 16 rfl rfl)
theorem dX2_writeNation_17 : decode cX2_writeNation 17 = .ok (.ireturn, 1) := dk_172 (dk_at dksX2_writeNation_0 17 rfl rfl)
theorem dX2_writeNation_18 : decode cX2_writeNation 18 = .ok (.aload_n 0, 1) := dk_42 (dk_at dksX2_writeNation_0 18 rfl rfl)
theorem dX2_writeNation_19 : decode cX2_writeNation 19 = .ok (.iconst 0, 1) := dk_3 (dk_at dksX2_writeNation_0 19 rfl rfl)
theorem dX2_writeNation_20 : decode cX2_writeNation 20 = .ok (.putfield 425, 3) := dk_181 1 169 (dk_at dksX2_writeNation_0 20 rfl rfl)
theorem dX2_writeNation_23 : decode cX2_writeNation 23 = .ok (.iconst 0, 1) := dk_3 (dk_at dksX2_writeNation_0 23 rfl rfl)
theorem dX2_writeNation_24 : decode cX2_writeNation 24 = .ok (.istore_n 2, 1) := dk_61 (dk_at dksX2_writeNation_1 0 rfl rfl)
theorem dX2_writeNation_25 : decode cX2_writeNation 25 = .ok (.iload_n 2, 1) := dk_28 (dk_at dksX2_writeNation_1 1 rfl rfl)
theorem dX2_writeNation_26 : decode cX2_writeNation 26 = .ok (.aload_n 0, 1) := dk_42 (dk_at dksX2_writeNation_1 2 rfl rfl)
theorem dX2_writeNation_27 : decode cX2_writeNation 27 = .ok (.getfield 9, 3) := dk_180 0 9 (dk_at dksX2_writeNation_1 3 rfl rfl)
theorem dX2_writeNation_30 : decode cX2_writeNation 30 = .ok (.bipush 10, 2) := dk_16 10 (dk_at dksX2_writeNation_1 6 rfl rfl)
theorem dX2_writeNation_32 : decode cX2_writeNation 32 = .ok (.iaload, 1) := dk_46 (dk_at dksX2_writeNation_1 8 rfl rfl)
theorem dX2_writeNation_33 : decode cX2_writeNation 33 = .ok (.if_icmp .ge 24, 3) := dk_162 0 24 (dk_at dksX2_writeNation_1 9 rfl rfl)
theorem dX2_writeNation_36 : decode cX2_writeNation 36 = .ok (.aload_n 0, 1) := dk_42 (dk_at dksX2_writeNation_1 12 rfl rfl)
theorem dX2_writeNation_37 : decode cX2_writeNation 37 = .ok (.iload_n 2, 1) := dk_28 (dk_at dksX2_writeNation_1 13 rfl rfl)
theorem dX2_writeNation_38 : decode cX2_writeNation 38 = .ok (.iconst 0, 1) := dk_3 (dk_at dksX2_writeNation_1 14 rfl rfl)
theorem dX2_writeNation_39 : decode cX2_writeNation 39 = .ok (.invokevirtual 227, 3) := dk_182 0 227 (dk_at dksX2_writeNation_1 15 rfl rfl)
theorem dX2_writeNation_42 : decode cX2_writeNation 42 = .ok (.iload_n 1, 1) := dk_27 (dk_at dksX2_writeNation_1 18 rfl rfl)
theorem dX2_writeNation_43 : decode cX2_writeNation 43 = .ok (.if_icmp .ne 8, 3) := dk_160 0 8 (dk_at dksX2_writeNation_1 19 rfl rfl)
theorem dX2_writeNation_46 : decode cX2_writeNation 46 = .ok (.aload_n 0, 1) := dk_42 (dk_at dksX2_writeNation_1 22 rfl rfl)
theorem dX2_writeNation_47 : decode cX2_writeNation 47 = .ok (.iload_n 2, 1) := dk_28 (dk_at dksX2_writeNation_1 23 rfl rfl)
theorem dX2_writeNation_48 : decode cX2_writeNation 48 = .ok (.invokevirtual 437, 3) := dk_182 1 181 (dk_at dksX2_writeNation_2 0 rfl rfl)
theorem dX2_writeNation_51 : decode cX2_writeNation 51 = .ok (.iinc 2 1, 3) := dk_132 2 1 (dk_at dksX2_writeNation_2 3 rfl rfl)
theorem dX2_writeNation_54 : decode cX2_writeNation 54 = .ok (.goto (-29), 3) := dk_167 255 227 (dk_at dksX2_writeNation_2 6 rfl rfl)
theorem dX2_writeNation_57 : decode cX2_writeNation 57 = .ok (.aload_n 0, 1) := dk_42 (dk_at dksX2_writeNation_2 9 rfl rfl)
theorem dX2_writeNation_58 : decode cX2_writeNation 58 = .ok (.getfield 425, 3) := dk_180 1 169 (dk_at dksX2_writeNation_2 10 rfl rfl)
theorem dX2_writeNation_61 : decode cX2_writeNation 61 = .ok (.ifCond .ne 9, 3) := dk_154 0 9 (dk_at dksX2_writeNation_2 13 rfl rfl)
theorem dX2_writeNation_64 : decode cX2_writeNation 64 = .ok (.aload_n 0, 1) := dk_42 (dk_at dksX2_writeNation_2 16 rfl rfl)
theorem dX2_writeNation_65 : decode cX2_writeNation 65 = .ok (.bipush 45, 2) := dk_16 45 (dk_at dksX2_writeNation_2 17 rfl rfl)
theorem dX2_writeNation_67 : decode cX2_writeNation 67 = .ok (.invokevirtual 428, 3) := dk_182 1 172 (dk_at dksX2_writeNation_2 19 rfl rfl)
theorem dX2_writeNation_70 : decode cX2_writeNation 70 = .ok (.aload_n 0, 1) := dk_42 (dk_at dksX2_writeNation_2 22 rfl rfl)
theorem dX2_writeNation_71 : decode cX2_writeNation 71 = .ok (.getfield 425, 3) := dk_180 1 169 (dk_at dksX2_writeNation_3 0 rfl rfl)
theorem dX2_writeNation_74 : decode cX2_writeNation 74 = .ok (.ireturn, 1) := dk_172 (dk_at dksX2_writeNation_3 3 rfl rfl)
abbrev cX2_writesReason : ByteArray := prog_20_method_147_code
def yX2_writesReason : MethodName := ⟨RX2, "writesReason", "(I)V"⟩
def dkwX2_writesReason_1 : List UInt8 := [42, 42, 27, 182, 1, 55, 182, 1, 178, 177]
abbrev dktX2_writesReason_1 : List UInt8 := dkwX2_writesReason_1 ++ []
def dkwX2_writesReason_0 : List UInt8 := [42, 180, 1, 169, 158, 0, 9, 42, 16, 32, 182, 1, 172, 42, 27, 182, 1, 178, 42, 16, 58, 182, 1, 172]
abbrev dktX2_writesReason_0 : List UInt8 := dkwX2_writesReason_0 ++ dktX2_writesReason_1
theorem dksX2_writesReason_0 : cX2_writesReason.data.toList.drop 0 = dktX2_writesReason_0 := by decide +kernel
theorem dksX2_writesReason_1 : cX2_writesReason.data.toList.drop 24 = dktX2_writesReason_1 := dk_seg dksX2_writesReason_0 24 rfl rfl
theorem dX2_writesReason_0 : decode cX2_writesReason 0 = .ok (.aload_n 0, 1) := dk_42 (dk_at dksX2_writesReason_0 0 rfl rfl)
theorem dX2_writesReason_1 : decode cX2_writesReason 1 = .ok (.getfield 425, 3) := dk_180 1 169 (dk_at dksX2_writesReason_0 1 rfl rfl)
theorem dX2_writesReason_4 : decode cX2_writesReason 4 = .ok (.ifCond .le 9, 3) := dk_158 0 9 (dk_at dksX2_writesReason_0 4 rfl rfl)
theorem dX2_writesReason_7 : decode cX2_writesReason 7 = .ok (.aload_n 0, 1) := dk_42 (dk_at dksX2_writesReason_0 7 rfl rfl)
theorem dX2_writesReason_8 : decode cX2_writesReason 8 = .ok (.bipush 32, 2) := dk_16 32 (dk_at dksX2_writesReason_0 8 rfl rfl)
theorem dX2_writesReason_10 : decode cX2_writesReason 10 = .ok (.invokevirtual 428, 3) := dk_182 1 172 (dk_at dksX2_writesReason_0 10 rfl rfl)
theorem dX2_writesReason_13 : decode cX2_writesReason 13 = .ok (.aload_n 0, 1) := dk_42 (dk_at dksX2_writesReason_0 13 rfl rfl)
theorem dX2_writesReason_14 : decode cX2_writesReason 14 = .ok (.iload_n 1, 1) := dk_27 (dk_at dksX2_writesReason_0 14 rfl rfl)
theorem dX2_writesReason_15 : decode cX2_writesReason 15 = .ok (.invokevirtual 434, 3) := dk_182 1 178 (dk_at dksX2_writesReason_0 15 rfl rfl)
theorem dX2_writesReason_18 : decode cX2_writesReason 18 = .ok (.aload_n 0, 1) := dk_42 (dk_at dksX2_writesReason_0 18 rfl rfl)
theorem dX2_writesReason_19 : decode cX2_writesReason 19 = .ok (.bipush 58, 2) := dk_16 58 (dk_at dksX2_writesReason_0 19 rfl rfl)
theorem dX2_writesReason_21 : decode cX2_writesReason 21 = .ok (.invokevirtual 428, 3) := dk_182 1 172 (dk_at dksX2_writesReason_0 21 rfl rfl)
theorem dX2_writesReason_24 : decode cX2_writesReason 24 = .ok (.aload_n 0, 1) := dk_42 (dk_at dksX2_writesReason_1 0 rfl rfl)
theorem dX2_writesReason_25 : decode cX2_writesReason 25 = .ok (.aload_n 0, 1) := dk_42 (dk_at dksX2_writesReason_1 1 rfl rfl)
theorem dX2_writesReason_26 : decode cX2_writesReason 26 = .ok (.iload_n 1, 1) := dk_27 (dk_at dksX2_writesReason_1 2 rfl rfl)
theorem dX2_writesReason_27 : decode cX2_writesReason 27 = .ok (.invokevirtual 311, 3) := dk_182 1 55 (dk_at dksX2_writesReason_1 3 rfl rfl)
theorem dX2_writesReason_30 : decode cX2_writesReason 30 = .ok (.invokevirtual 434, 3) := dk_182 1 178 (dk_at dksX2_writesReason_1 6 rfl rfl)
theorem dX2_writesReason_33 : decode cX2_writesReason 33 = .ok (.return_, 1) := dk_177 (dk_at dksX2_writesReason_1 9 rfl rfl)
abbrev cX2_writeLine : ByteArray := prog_20_method_149_code
def yX2_writeLine : MethodName := ⟨RX2, "writeLine", "()I"⟩
def dkwX2_writeLine_3 : List UInt8 := [180, 1, 169, 172]
abbrev dktX2_writeLine_3 : List UInt8 := dkwX2_writeLine_3 ++ []
def dkwX2_writeLine_2 : List UInt8 := [16, 46, 182, 1, 172, 167, 0, 12, 42, 42, 27, 182, 1, 31, 182, 1, 178, 132, 1, 1, 167, 255, 205, 42]
abbrev dktX2_writeLine_2 : List UInt8 := dkwX2_writeLine_2 ++ dktX2_writeLine_3
def dkwX2_writeLine_1 : List UInt8 := [162, 0, 46, 27, 158, 0, 9, 42, 16, 47, 182, 1, 172, 42, 27, 182, 1, 31, 2, 160, 0, 12, 42]
abbrev dktX2_writeLine_1 : List UInt8 := dkwX2_writeLine_1 ++ dktX2_writeLine_2
def dkwX2_writeLine_0 : List UInt8 := [42, 182, 1, 104, 154, 0, 5, 3, 172, 42, 3, 181, 1, 169, 3, 60, 27, 42, 180, 0, 9, 16, 9, 46]
abbrev dktX2_writeLine_0 : List UInt8 := dkwX2_writeLine_0 ++ dktX2_writeLine_1
theorem dksX2_writeLine_0 : cX2_writeLine.data.toList.drop 0 = dktX2_writeLine_0 := by decide +kernel
theorem dksX2_writeLine_1 : cX2_writeLine.data.toList.drop 24 = dktX2_writeLine_1 := dk_seg dksX2_writeLine_0 24 rfl rfl
theorem dksX2_writeLine_2 : cX2_writeLine.data.toList.drop 47 = dktX2_writeLine_2 := dk_seg dksX2_writeLine_1 23 rfl rfl
theorem dksX2_writeLine_3 : cX2_writeLine.data.toList.drop 71 = dktX2_writeLine_3 := dk_seg dksX2_writeLine_2 24 rfl rfl
theorem dX2_writeLine_0 : decode cX2_writeLine 0 = .ok (.aload_n 0, 1) := dk_42 (dk_at dksX2_writeLine_0 0 rfl rfl)
theorem dX2_writeLine_1 : decode cX2_writeLine 1 = .ok (.invokevirtual 360, 3) := dk_182 1 104 (dk_at dksX2_writeLine_0 1 rfl rfl)
theorem dX2_writeLine_4 : decode cX2_writeLine 4 = .ok (.ifCond .ne 5, 3) := dk_154 0 5 (dk_at dksX2_writeLine_0 4 rfl rfl)
theorem dX2_writeLine_7 : decode cX2_writeLine 7 = .ok (.iconst 0, 1) := dk_3 (dk_at dksX2_writeLine_0 7 rfl rfl)
theorem dX2_writeLine_8 : decode cX2_writeLine 8 = .ok (.ireturn, 1) := dk_172 (dk_at dksX2_writeLine_0 8 rfl rfl)
theorem dX2_writeLine_9 : decode cX2_writeLine 9 = .ok (.aload_n 0, 1) := dk_42 (dk_at dksX2_writeLine_0 9 rfl rfl)
theorem dX2_writeLine_10 : decode cX2_writeLine 10 = .ok (.iconst 0, 1) := dk_3 (dk_at dksX2_writeLine_0 10 rfl rfl)
theorem dX2_writeLine_11 : decode cX2_writeLine 11 = .ok (.putfield 425, 3) := dk_181 1 169 (dk_at dksX2_writeLine_0 11 rfl rfl)
theorem dX2_writeLine_14 : decode cX2_writeLine 14 = .ok (.iconst 0, 1) := dk_3 (dk_at dksX2_writeLine_0 14 rfl rfl)
theorem dX2_writeLine_15 : decode cX2_writeLine 15 = .ok (.istore_n 1, 1) := dk_60 (dk_at dksX2_writeLine_0 15 rfl rfl)
theorem dX2_writeLine_16 : decode cX2_writeLine 16 = .ok (.iload_n 1, 1) := dk_27 (dk_at dksX2_writeLine_0 16 rfl rfl)
theorem dX2_writeLine_17 : decode cX2_writeLine 17 = .ok (.aload_n 0, 1) := dk_42 (dk_at dksX2_writeLine_0 17 rfl rfl)
theorem dX2_writeLine_18 : decode cX2_writeLine 18 = .ok (.getfield 9, 3) := dk_180 0 9 (dk_at dksX2_writeLine_0 18 rfl rfl)
theorem dX2_writeLine_21 : decode cX2_writeLine 21 = .ok (.bipush 9, 2) := dk_16 9 (dk_at dksX2_writeLine_0 21 rfl rfl)
theorem dX2_writeLine_23 : decode cX2_writeLine 23 = .ok (.iaload, 1) := dk_46 (dk_at dksX2_writeLine_0 23 rfl rfl)
theorem dX2_writeLine_24 : decode cX2_writeLine 24 = .ok (.if_icmp .ge 46, 3) := dk_162 0 46 (dk_at dksX2_writeLine_1 0 rfl rfl)
theorem dX2_writeLine_27 : decode cX2_writeLine 27 = .ok (.iload_n 1, 1) := dk_27 (dk_at dksX2_writeLine_1 3 rfl rfl)
theorem dX2_writeLine_28 : decode cX2_writeLine 28 = .ok (.ifCond .le 9, 3) := dk_158 0 9 (dk_at dksX2_writeLine_1 4 rfl rfl)
theorem dX2_writeLine_31 : decode cX2_writeLine 31 = .ok (.aload_n 0, 1) := dk_42 (dk_at dksX2_writeLine_1 7 rfl rfl)
theorem dX2_writeLine_32 : decode cX2_writeLine 32 = .ok (.bipush 47, 2) := dk_16 47 (dk_at dksX2_writeLine_1 8 rfl rfl)
theorem dX2_writeLine_34 : decode cX2_writeLine 34 = .ok (.invokevirtual 428, 3) := dk_182 1 172 (dk_at dksX2_writeLine_1 10 rfl rfl)
theorem dX2_writeLine_37 : decode cX2_writeLine 37 = .ok (.aload_n 0, 1) := dk_42 (dk_at dksX2_writeLine_1 13 rfl rfl)
theorem dX2_writeLine_38 : decode cX2_writeLine 38 = .ok (.iload_n 1, 1) := dk_27 (dk_at dksX2_writeLine_1 14 rfl rfl)
theorem dX2_writeLine_39 : decode cX2_writeLine 39 = .ok (.invokevirtual 287, 3) := dk_182 1 31 (dk_at dksX2_writeLine_1 15 rfl rfl)
theorem dX2_writeLine_42 : decode cX2_writeLine 42 = .ok (.iconst (-1), 1) := dk_2 (dk_at dksX2_writeLine_1 18 rfl rfl)
theorem dX2_writeLine_43 : decode cX2_writeLine 43 = .ok (.if_icmp .ne 12, 3) := dk_160 0 12 (dk_at dksX2_writeLine_1 19 rfl rfl)
theorem dX2_writeLine_46 : decode cX2_writeLine 46 = .ok (.aload_n 0, 1) := dk_42 (dk_at dksX2_writeLine_1 22 rfl rfl)
theorem dX2_writeLine_47 : decode cX2_writeLine 47 = .ok (.bipush 46, 2) := dk_16 46 (dk_at dksX2_writeLine_2 0 rfl rfl)
theorem dX2_writeLine_49 : decode cX2_writeLine 49 = .ok (.invokevirtual 428, 3) := dk_182 1 172 (dk_at dksX2_writeLine_2 2 rfl rfl)
theorem dX2_writeLine_52 : decode cX2_writeLine 52 = .ok (.goto 12, 3) := dk_167 0 12 (dk_at dksX2_writeLine_2 5 rfl rfl)
theorem dX2_writeLine_55 : decode cX2_writeLine 55 = .ok (.aload_n 0, 1) := dk_42 (dk_at dksX2_writeLine_2 8 rfl rfl)
theorem dX2_writeLine_56 : decode cX2_writeLine 56 = .ok (.aload_n 0, 1) := dk_42 (dk_at dksX2_writeLine_2 9 rfl rfl)
theorem dX2_writeLine_57 : decode cX2_writeLine 57 = .ok (.iload_n 1, 1) := dk_27 (dk_at dksX2_writeLine_2 10 rfl rfl)
theorem dX2_writeLine_58 : decode cX2_writeLine 58 = .ok (.invokevirtual 287, 3) := dk_182 1 31 (dk_at dksX2_writeLine_2 11 rfl rfl)
theorem dX2_writeLine_61 : decode cX2_writeLine 61 = .ok (.invokevirtual 434, 3) := dk_182 1 178 (dk_at dksX2_writeLine_2 14 rfl rfl)
theorem dX2_writeLine_64 : decode cX2_writeLine 64 = .ok (.iinc 1 1, 3) := dk_132 1 1 (dk_at dksX2_writeLine_2 17 rfl rfl)
theorem dX2_writeLine_67 : decode cX2_writeLine 67 = .ok (.goto (-51), 3) := dk_167 255 205 (dk_at dksX2_writeLine_2 20 rfl rfl)
theorem dX2_writeLine_70 : decode cX2_writeLine 70 = .ok (.aload_n 0, 1) := dk_42 (dk_at dksX2_writeLine_2 23 rfl rfl)
theorem dX2_writeLine_71 : decode cX2_writeLine 71 = .ok (.getfield 425, 3) := dk_180 1 169 (dk_at dksX2_writeLine_3 0 rfl rfl)
theorem dX2_writeLine_74 : decode cX2_writeLine 74 = .ok (.ireturn, 1) := dk_172 (dk_at dksX2_writeLine_3 3 rfl rfl)
abbrev cX2_textByte : ByteArray := prog_20_method_150_code
def yX2_textByte : MethodName := ⟨RX2, "textByte", "(I)I"⟩
def dkwX2_textByte_1 : List UInt8 := [27, 51, 167, 0, 4, 3, 172]
abbrev dktX2_textByte_1 : List UInt8 := dkwX2_textByte_1 ++ []
def dkwX2_textByte_0 : List UInt8 := [42, 27, 3, 42, 180, 1, 169, 4, 100, 184, 0, 68, 4, 4, 182, 0, 43, 153, 0, 12, 42, 180, 0, 37]
abbrev dktX2_textByte_0 : List UInt8 := dkwX2_textByte_0 ++ dktX2_textByte_1
theorem dksX2_textByte_0 : cX2_textByte.data.toList.drop 0 = dktX2_textByte_0 := by decide +kernel
theorem dksX2_textByte_1 : cX2_textByte.data.toList.drop 24 = dktX2_textByte_1 := dk_seg dksX2_textByte_0 24 rfl rfl
theorem dX2_textByte_0 : decode cX2_textByte 0 = .ok (.aload_n 0, 1) := dk_42 (dk_at dksX2_textByte_0 0 rfl rfl)
theorem dX2_textByte_1 : decode cX2_textByte 1 = .ok (.iload_n 1, 1) := dk_27 (dk_at dksX2_textByte_0 1 rfl rfl)
theorem dX2_textByte_2 : decode cX2_textByte 2 = .ok (.iconst 0, 1) := dk_3 (dk_at dksX2_textByte_0 2 rfl rfl)
theorem dX2_textByte_3 : decode cX2_textByte 3 = .ok (.aload_n 0, 1) := dk_42 (dk_at dksX2_textByte_0 3 rfl rfl)
theorem dX2_textByte_4 : decode cX2_textByte 4 = .ok (.getfield 425, 3) := dk_180 1 169 (dk_at dksX2_textByte_0 4 rfl rfl)
theorem dX2_textByte_7 : decode cX2_textByte 7 = .ok (.iconst 1, 1) := dk_4 (dk_at dksX2_textByte_0 7 rfl rfl)
theorem dX2_textByte_8 : decode cX2_textByte 8 = .ok (.isub, 1) := dk_100 (dk_at dksX2_textByte_0 8 rfl rfl)
theorem dX2_textByte_9 : decode cX2_textByte 9 = .ok (.invokestatic 68, 3) := dk_184 0 68 (dk_at dksX2_textByte_0 9 rfl rfl)
theorem dX2_textByte_12 : decode cX2_textByte 12 = .ok (.iconst 1, 1) := dk_4 (dk_at dksX2_textByte_0 12 rfl rfl)
theorem dX2_textByte_13 : decode cX2_textByte 13 = .ok (.iconst 1, 1) := dk_4 (dk_at dksX2_textByte_0 13 rfl rfl)
theorem dX2_textByte_14 : decode cX2_textByte 14 = .ok (.invokevirtual 43, 3) := dk_182 0 43 (dk_at dksX2_textByte_0 14 rfl rfl)
theorem dX2_textByte_17 : decode cX2_textByte 17 = .ok (.ifCond .eq 12, 3) := dk_153 0 12 (dk_at dksX2_textByte_0 17 rfl rfl)
theorem dX2_textByte_20 : decode cX2_textByte 20 = .ok (.aload_n 0, 1) := dk_42 (dk_at dksX2_textByte_0 20 rfl rfl)
theorem dX2_textByte_21 : decode cX2_textByte 21 = .ok (.getfield 37, 3) := dk_180 0 37 (dk_at dksX2_textByte_0 21 rfl rfl)
theorem dX2_textByte_24 : decode cX2_textByte 24 = .ok (.iload_n 1, 1) := dk_27 (dk_at dksX2_textByte_1 0 rfl rfl)
theorem dX2_textByte_25 : decode cX2_textByte 25 = .ok (.baload, 1) := dk_51 (dk_at dksX2_textByte_1 1 rfl rfl)
theorem dX2_textByte_26 : decode cX2_textByte 26 = .ok (.goto 4, 3) := dk_167 0 4 (dk_at dksX2_textByte_1 2 rfl rfl)
theorem dX2_textByte_29 : decode cX2_textByte 29 = .ok (.iconst 0, 1) := dk_3 (dk_at dksX2_textByte_1 5 rfl rfl)
theorem dX2_textByte_30 : decode cX2_textByte 30 = .ok (.ireturn, 1) := dk_172 (dk_at dksX2_textByte_1 6 rfl rfl)
abbrev cX2_put : ByteArray := prog_20_method_152_code
def yX2_put : MethodName := ⟨RX2, "put", "(II)I"⟩
def dkwX2_put_2 : List UInt8 := [182, 0, 43, 154, 0, 5, 3, 172, 42, 182, 1, 184, 42, 27, 28, 182, 0, 140, 42, 28, 182, 0, 252, 172]
abbrev dktX2_put_2 : List UInt8 := dkwX2_put_2 ++ []
def dkwX2_put_1 : List UInt8 := [180, 0, 47, 29, 29, 153, 0, 16, 42, 27, 28, 182, 0, 137, 154, 0, 7, 4, 167, 0, 4, 3]
abbrev dktX2_put_1 : List UInt8 := dkwX2_put_1 ++ dktX2_put_2
def dkwX2_put_0 : List UInt8 := [42, 27, 182, 1, 68, 153, 0, 15, 42, 28, 182, 1, 71, 153, 0, 7, 4, 167, 0, 4, 3, 62, 42, 42]
abbrev dktX2_put_0 : List UInt8 := dkwX2_put_0 ++ dktX2_put_1
theorem dksX2_put_0 : cX2_put.data.toList.drop 0 = dktX2_put_0 := by decide +kernel
theorem dksX2_put_1 : cX2_put.data.toList.drop 24 = dktX2_put_1 := dk_seg dksX2_put_0 24 rfl rfl
theorem dksX2_put_2 : cX2_put.data.toList.drop 46 = dktX2_put_2 := dk_seg dksX2_put_1 22 rfl rfl
theorem dX2_put_0 : decode cX2_put 0 = .ok (.aload_n 0, 1) := dk_42 (dk_at dksX2_put_0 0 rfl rfl)
theorem dX2_put_1 : decode cX2_put 1 = .ok (.iload_n 1, 1) := dk_27 (dk_at dksX2_put_0 1 rfl rfl)
theorem dX2_put_2 : decode cX2_put 2 = .ok (.invokevirtual 324, 3) := dk_182 1 68 (dk_at dksX2_put_0 2 rfl rfl)
theorem dX2_put_5 : decode cX2_put 5 = .ok (.ifCond .eq 15, 3) := dk_153 0 15 (dk_at dksX2_put_0 5 rfl rfl)
theorem dX2_put_8 : decode cX2_put 8 = .ok (.aload_n 0, 1) := dk_42 (dk_at dksX2_put_0 8 rfl rfl)
theorem dX2_put_9 : decode cX2_put 9 = .ok (.iload_n 2, 1) := dk_28 (dk_at dksX2_put_0 9 rfl rfl)
theorem dX2_put_10 : decode cX2_put 10 = .ok (.invokevirtual 327, 3) := dk_182 1 71 (dk_at dksX2_put_0 10 rfl rfl)
theorem dX2_put_13 : decode cX2_put 13 = .ok (.ifCond .eq 7, 3) := dk_153 0 7 (dk_at dksX2_put_0 13 rfl rfl)
theorem dX2_put_16 : decode cX2_put 16 = .ok (.iconst 1, 1) := dk_4 (dk_at dksX2_put_0 16 rfl rfl)
theorem dX2_put_17 : decode cX2_put 17 = .ok (.goto 4, 3) := dk_167 0 4 (dk_at dksX2_put_0 17 rfl rfl)
theorem dX2_put_20 : decode cX2_put 20 = .ok (.iconst 0, 1) := dk_3 (dk_at dksX2_put_0 20 rfl rfl)
theorem dX2_put_21 : decode cX2_put 21 = .ok (.istore_n 3, 1) := dk_62 (dk_at dksX2_put_0 21 rfl rfl)
theorem dX2_put_22 : decode cX2_put 22 = .ok (.aload_n 0, 1) := dk_42 (dk_at dksX2_put_0 22 rfl rfl)
theorem dX2_put_23 : decode cX2_put 23 = .ok (.aload_n 0, 1) := dk_42 (dk_at dksX2_put_0 23 rfl rfl)
theorem dX2_put_24 : decode cX2_put 24 = .ok (.getfield 47, 3) := dk_180 0 47 (dk_at dksX2_put_1 0 rfl rfl)
theorem dX2_put_27 : decode cX2_put 27 = .ok (.iload_n 3, 1) := dk_29 (dk_at dksX2_put_1 3 rfl rfl)
theorem dX2_put_28 : decode cX2_put 28 = .ok (.iload_n 3, 1) := dk_29 (dk_at dksX2_put_1 4 rfl rfl)
theorem dX2_put_29 : decode cX2_put 29 = .ok (.ifCond .eq 16, 3) := dk_153 0 16 (dk_at dksX2_put_1 5 rfl rfl)
theorem dX2_put_32 : decode cX2_put 32 = .ok (.aload_n 0, 1) := dk_42 (dk_at dksX2_put_1 8 rfl rfl)
theorem dX2_put_33 : decode cX2_put 33 = .ok (.iload_n 1, 1) := dk_27 (dk_at dksX2_put_1 9 rfl rfl)
theorem dX2_put_34 : decode cX2_put 34 = .ok (.iload_n 2, 1) := dk_28 (dk_at dksX2_put_1 10 rfl rfl)
theorem dX2_put_35 : decode cX2_put 35 = .ok (.invokevirtual 137, 3) := dk_182 0 137 (dk_at dksX2_put_1 11 rfl rfl)
theorem dX2_put_38 : decode cX2_put 38 = .ok (.ifCond .ne 7, 3) := dk_154 0 7 (dk_at dksX2_put_1 14 rfl rfl)
theorem dX2_put_41 : decode cX2_put 41 = .ok (.iconst 1, 1) := dk_4 (dk_at dksX2_put_1 17 rfl rfl)
theorem dX2_put_42 : decode cX2_put 42 = .ok (.goto 4, 3) := dk_167 0 4 (dk_at dksX2_put_1 18 rfl rfl)
theorem dX2_put_45 : decode cX2_put 45 = .ok (.iconst 0, 1) := dk_3 (dk_at dksX2_put_1 21 rfl rfl)
theorem dX2_put_46 : decode cX2_put 46 = .ok (.invokevirtual 43, 3) := dk_182 0 43 (dk_at dksX2_put_2 0 rfl rfl)
theorem dX2_put_49 : decode cX2_put 49 = .ok (.ifCond .ne 5, 3) := dk_154 0 5 (dk_at dksX2_put_2 3 rfl rfl)
theorem dX2_put_52 : decode cX2_put 52 = .ok (.iconst 0, 1) := dk_3 (dk_at dksX2_put_2 6 rfl rfl)
theorem dX2_put_53 : decode cX2_put 53 = .ok (.ireturn, 1) := dk_172 (dk_at dksX2_put_2 7 rfl rfl)
theorem dX2_put_54 : decode cX2_put 54 = .ok (.aload_n 0, 1) := dk_42 (dk_at dksX2_put_2 8 rfl rfl)
theorem dX2_put_55 : decode cX2_put 55 = .ok (.invokevirtual 440, 3) := dk_182 1 184 (dk_at dksX2_put_2 9 rfl rfl)
theorem dX2_put_58 : decode cX2_put 58 = .ok (.aload_n 0, 1) := dk_42 (dk_at dksX2_put_2 12 rfl rfl)
theorem dX2_put_59 : decode cX2_put 59 = .ok (.iload_n 1, 1) := dk_27 (dk_at dksX2_put_2 13 rfl rfl)
theorem dX2_put_60 : decode cX2_put 60 = .ok (.iload_n 2, 1) := dk_28 (dk_at dksX2_put_2 14 rfl rfl)
theorem dX2_put_61 : decode cX2_put 61 = .ok (.invokevirtual 140, 3) := dk_182 0 140 (dk_at dksX2_put_2 15 rfl rfl)
theorem dX2_put_64 : decode cX2_put 64 = .ok (.aload_n 0, 1) := dk_42 (dk_at dksX2_put_2 18 rfl rfl)
theorem dX2_put_65 : decode cX2_put 65 = .ok (.iload_n 2, 1) := dk_28 (dk_at dksX2_put_2 19 rfl rfl)
theorem dX2_put_66 : decode cX2_put 66 = .ok (.invokevirtual 252, 3) := dk_182 0 252 (dk_at dksX2_put_2 20 rfl rfl)
theorem dX2_put_69 : decode cX2_put 69 = .ok (.ireturn, 1) := dk_172 (dk_at dksX2_put_2 23 rfl rfl)
abbrev cX2_remembers : ByteArray := prog_20_method_151_code
def yX2_remembers : MethodName := ⟨RX2, "remembers", "()V"⟩
def dkwX2_remembers_3 : List UInt8 := [89, 180, 0, 224, 4, 96, 181, 0, 224, 177]
abbrev dktX2_remembers_3 : List UInt8 := dkwX2_remembers_3 ++ []
def dkwX2_remembers_2 : List UInt8 := [181, 0, 224, 42, 180, 0, 9, 3, 42, 180, 0, 16, 42, 180, 0, 224, 17, 0, 173, 104, 184, 0, 51, 42]
abbrev dktX2_remembers_2 : List UInt8 := dkwX2_remembers_2 ++ dktX2_remembers_3
def dkwX2_remembers_1 : List UInt8 := [180, 0, 16, 27, 17, 0, 173, 96, 46, 79, 132, 1, 1, 167, 255, 230, 42, 89, 180, 0, 224, 4, 100]
abbrev dktX2_remembers_1 : List UInt8 := dkwX2_remembers_1 ++ dktX2_remembers_2
def dkwX2_remembers_0 : List UInt8 := [42, 180, 0, 224, 16, 8, 160, 0, 44, 3, 60, 27, 17, 4, 187, 162, 0, 25, 42, 180, 0, 16, 27, 42]
abbrev dktX2_remembers_0 : List UInt8 := dkwX2_remembers_0 ++ dktX2_remembers_1
theorem dksX2_remembers_0 : cX2_remembers.data.toList.drop 0 = dktX2_remembers_0 := by decide +kernel
theorem dksX2_remembers_1 : cX2_remembers.data.toList.drop 24 = dktX2_remembers_1 := dk_seg dksX2_remembers_0 24 rfl rfl
theorem dksX2_remembers_2 : cX2_remembers.data.toList.drop 47 = dktX2_remembers_2 := dk_seg dksX2_remembers_1 23 rfl rfl
theorem dksX2_remembers_3 : cX2_remembers.data.toList.drop 71 = dktX2_remembers_3 := dk_seg dksX2_remembers_2 24 rfl rfl
theorem dX2_remembers_0 : decode cX2_remembers 0 = .ok (.aload_n 0, 1) := dk_42 (dk_at dksX2_remembers_0 0 rfl rfl)
theorem dX2_remembers_1 : decode cX2_remembers 1 = .ok (.getfield 224, 3) := dk_180 0 224 (dk_at dksX2_remembers_0 1 rfl rfl)
theorem dX2_remembers_4 : decode cX2_remembers 4 = .ok (.bipush 8, 2) := dk_16 8 (dk_at dksX2_remembers_0 4 rfl rfl)
theorem dX2_remembers_6 : decode cX2_remembers 6 = .ok (.if_icmp .ne 44, 3) := dk_160 0 44 (dk_at dksX2_remembers_0 6 rfl rfl)
theorem dX2_remembers_9 : decode cX2_remembers 9 = .ok (.iconst 0, 1) := dk_3 (dk_at dksX2_remembers_0 9 rfl rfl)
theorem dX2_remembers_10 : decode cX2_remembers 10 = .ok (.istore_n 1, 1) := dk_60 (dk_at dksX2_remembers_0 10 rfl rfl)
theorem dX2_remembers_11 : decode cX2_remembers 11 = .ok (.iload_n 1, 1) := dk_27 (dk_at dksX2_remembers_0 11 rfl rfl)
theorem dX2_remembers_12 : decode cX2_remembers 12 = .ok (.sipush 1211, 3) := dk_17 4 187 (dk_at dksX2_remembers_0 12 rfl rfl)
theorem dX2_remembers_15 : decode cX2_remembers 15 = .ok (.if_icmp .ge 25, 3) := dk_162 0 25 (dk_at dksX2_remembers_0 15 rfl rfl)
theorem dX2_remembers_18 : decode cX2_remembers 18 = .ok (.aload_n 0, 1) := dk_42 (dk_at dksX2_remembers_0 18 rfl rfl)
theorem dX2_remembers_19 : decode cX2_remembers 19 = .ok (.getfield 16, 3) := dk_180 0 16 (dk_at dksX2_remembers_0 19 rfl rfl)
theorem dX2_remembers_22 : decode cX2_remembers 22 = .ok (.iload_n 1, 1) := dk_27 (dk_at dksX2_remembers_0 22 rfl rfl)
theorem dX2_remembers_23 : decode cX2_remembers 23 = .ok (.aload_n 0, 1) := dk_42 (dk_at dksX2_remembers_0 23 rfl rfl)
theorem dX2_remembers_24 : decode cX2_remembers 24 = .ok (.getfield 16, 3) := dk_180 0 16 (dk_at dksX2_remembers_1 0 rfl rfl)
theorem dX2_remembers_27 : decode cX2_remembers 27 = .ok (.iload_n 1, 1) := dk_27 (dk_at dksX2_remembers_1 3 rfl rfl)
theorem dX2_remembers_28 : decode cX2_remembers 28 = .ok (.sipush 173, 3) := dk_17 0 173 (dk_at dksX2_remembers_1 4 rfl rfl)
theorem dX2_remembers_31 : decode cX2_remembers 31 = .ok (.iadd, 1) := dk_96 (dk_at dksX2_remembers_1 7 rfl rfl)
theorem dX2_remembers_32 : decode cX2_remembers 32 = .ok (.iaload, 1) := dk_46 (dk_at dksX2_remembers_1 8 rfl rfl)
theorem dX2_remembers_33 : decode cX2_remembers 33 = .ok (.iastore, 1) := dk_79 (dk_at dksX2_remembers_1 9 rfl rfl)
theorem dX2_remembers_34 : decode cX2_remembers 34 = .ok (.iinc 1 1, 3) := dk_132 1 1 (dk_at dksX2_remembers_1 10 rfl rfl)
theorem dX2_remembers_37 : decode cX2_remembers 37 = .ok (.goto (-26), 3) := dk_167 255 230 (dk_at dksX2_remembers_1 13 rfl rfl)
theorem dX2_remembers_40 : decode cX2_remembers 40 = .ok (.aload_n 0, 1) := dk_42 (dk_at dksX2_remembers_1 16 rfl rfl)
theorem dX2_remembers_41 : decode cX2_remembers 41 = .ok (.dup, 1) := dk_89 (dk_at dksX2_remembers_1 17 rfl rfl)
theorem dX2_remembers_42 : decode cX2_remembers 42 = .ok (.getfield 224, 3) := dk_180 0 224 (dk_at dksX2_remembers_1 18 rfl rfl)
theorem dX2_remembers_45 : decode cX2_remembers 45 = .ok (.iconst 1, 1) := dk_4 (dk_at dksX2_remembers_1 21 rfl rfl)
theorem dX2_remembers_46 : decode cX2_remembers 46 = .ok (.isub, 1) := dk_100 (dk_at dksX2_remembers_1 22 rfl rfl)
theorem dX2_remembers_47 : decode cX2_remembers 47 = .ok (.putfield 224, 3) := dk_181 0 224 (dk_at dksX2_remembers_2 0 rfl rfl)
theorem dX2_remembers_50 : decode cX2_remembers 50 = .ok (.aload_n 0, 1) := dk_42 (dk_at dksX2_remembers_2 3 rfl rfl)
theorem dX2_remembers_51 : decode cX2_remembers 51 = .ok (.getfield 9, 3) := dk_180 0 9 (dk_at dksX2_remembers_2 4 rfl rfl)
theorem dX2_remembers_54 : decode cX2_remembers 54 = .ok (.iconst 0, 1) := dk_3 (dk_at dksX2_remembers_2 7 rfl rfl)
theorem dX2_remembers_55 : decode cX2_remembers 55 = .ok (.aload_n 0, 1) := dk_42 (dk_at dksX2_remembers_2 8 rfl rfl)
theorem dX2_remembers_56 : decode cX2_remembers 56 = .ok (.getfield 16, 3) := dk_180 0 16 (dk_at dksX2_remembers_2 9 rfl rfl)
theorem dX2_remembers_59 : decode cX2_remembers 59 = .ok (.aload_n 0, 1) := dk_42 (dk_at dksX2_remembers_2 12 rfl rfl)
theorem dX2_remembers_60 : decode cX2_remembers 60 = .ok (.getfield 224, 3) := dk_180 0 224 (dk_at dksX2_remembers_2 13 rfl rfl)
theorem dX2_remembers_63 : decode cX2_remembers 63 = .ok (.sipush 173, 3) := dk_17 0 173 (dk_at dksX2_remembers_2 16 rfl rfl)
theorem dX2_remembers_66 : decode cX2_remembers 66 = .ok (.imul, 1) := dk_104 (dk_at dksX2_remembers_2 19 rfl rfl)
theorem dX2_remembers_67 : decode cX2_remembers 67 = .ok (.invokestatic 51, 3) := dk_184 0 51 (dk_at dksX2_remembers_2 20 rfl rfl)
theorem dX2_remembers_70 : decode cX2_remembers 70 = .ok (.aload_n 0, 1) := dk_42 (dk_at dksX2_remembers_2 23 rfl rfl)
theorem dX2_remembers_71 : decode cX2_remembers 71 = .ok (.dup, 1) := dk_89 (dk_at dksX2_remembers_3 0 rfl rfl)
theorem dX2_remembers_72 : decode cX2_remembers 72 = .ok (.getfield 224, 3) := dk_180 0 224 (dk_at dksX2_remembers_3 1 rfl rfl)
theorem dX2_remembers_75 : decode cX2_remembers 75 = .ok (.iconst 1, 1) := dk_4 (dk_at dksX2_remembers_3 4 rfl rfl)
theorem dX2_remembers_76 : decode cX2_remembers 76 = .ok (.iadd, 1) := dk_96 (dk_at dksX2_remembers_3 5 rfl rfl)
theorem dX2_remembers_77 : decode cX2_remembers 77 = .ok (.putfield 224, 3) := dk_181 0 224 (dk_at dksX2_remembers_3 6 rfl rfl)
theorem dX2_remembers_80 : decode cX2_remembers 80 = .ok (.return_, 1) := dk_177 (dk_at dksX2_remembers_3 9 rfl rfl)
abbrev cX2_wash : ByteArray := prog_20_method_153_code
def yX2_wash : MethodName := ⟨RX2, "wash", "(II)I"⟩
def dkwX2_wash_2 : List UInt8 := [182, 1, 184, 42, 27, 28, 182, 0, 146, 172]
abbrev dktX2_wash_2 : List UInt8 := dkwX2_wash_2 ++ []
def dkwX2_wash_1 : List UInt8 := [27, 28, 182, 0, 143, 154, 0, 7, 4, 167, 0, 4, 3, 182, 0, 43, 154, 0, 5, 3, 172, 42]
abbrev dktX2_wash_1 : List UInt8 := dkwX2_wash_1 ++ dktX2_wash_2
def dkwX2_wash_0 : List UInt8 := [42, 27, 182, 1, 71, 62, 42, 42, 180, 0, 47, 29, 29, 153, 0, 23, 28, 184, 1, 74, 153, 0, 16, 42]
abbrev dktX2_wash_0 : List UInt8 := dkwX2_wash_0 ++ dktX2_wash_1
theorem dksX2_wash_0 : cX2_wash.data.toList.drop 0 = dktX2_wash_0 := by decide +kernel
theorem dksX2_wash_1 : cX2_wash.data.toList.drop 24 = dktX2_wash_1 := dk_seg dksX2_wash_0 24 rfl rfl
theorem dksX2_wash_2 : cX2_wash.data.toList.drop 46 = dktX2_wash_2 := dk_seg dksX2_wash_1 22 rfl rfl
theorem dX2_wash_0 : decode cX2_wash 0 = .ok (.aload_n 0, 1) := dk_42 (dk_at dksX2_wash_0 0 rfl rfl)
theorem dX2_wash_1 : decode cX2_wash 1 = .ok (.iload_n 1, 1) := dk_27 (dk_at dksX2_wash_0 1 rfl rfl)
theorem dX2_wash_2 : decode cX2_wash 2 = .ok (.invokevirtual 327, 3) := dk_182 1 71 (dk_at dksX2_wash_0 2 rfl rfl)
theorem dX2_wash_5 : decode cX2_wash 5 = .ok (.istore_n 3, 1) := dk_62 (dk_at dksX2_wash_0 5 rfl rfl)
theorem dX2_wash_6 : decode cX2_wash 6 = .ok (.aload_n 0, 1) := dk_42 (dk_at dksX2_wash_0 6 rfl rfl)
theorem dX2_wash_7 : decode cX2_wash 7 = .ok (.aload_n 0, 1) := dk_42 (dk_at dksX2_wash_0 7 rfl rfl)
theorem dX2_wash_8 : decode cX2_wash 8 = .ok (.getfield 47, 3) := dk_180 0 47 (dk_at dksX2_wash_0 8 rfl rfl)
theorem dX2_wash_11 : decode cX2_wash 11 = .ok (.iload_n 3, 1) := dk_29 (dk_at dksX2_wash_0 11 rfl rfl)
theorem dX2_wash_12 : decode cX2_wash 12 = .ok (.iload_n 3, 1) := dk_29 (dk_at dksX2_wash_0 12 rfl rfl)
theorem dX2_wash_13 : decode cX2_wash 13 = .ok (.ifCond .eq 23, 3) := dk_153 0 23 (dk_at dksX2_wash_0 13 rfl rfl)
theorem dX2_wash_16 : decode cX2_wash 16 = .ok (.iload_n 2, 1) := dk_28 (dk_at dksX2_wash_0 16 rfl rfl)
theorem dX2_wash_17 : decode cX2_wash 17 = .ok (.invokestatic 330, 3) := dk_184 1 74 (dk_at dksX2_wash_0 17 rfl rfl)
theorem dX2_wash_20 : decode cX2_wash 20 = .ok (.ifCond .eq 16, 3) := dk_153 0 16 (dk_at dksX2_wash_0 20 rfl rfl)
theorem dX2_wash_23 : decode cX2_wash 23 = .ok (.aload_n 0, 1) := dk_42 (dk_at dksX2_wash_0 23 rfl rfl)
theorem dX2_wash_24 : decode cX2_wash 24 = .ok (.iload_n 1, 1) := dk_27 (dk_at dksX2_wash_1 0 rfl rfl)
theorem dX2_wash_25 : decode cX2_wash 25 = .ok (.iload_n 2, 1) := dk_28 (dk_at dksX2_wash_1 1 rfl rfl)
theorem dX2_wash_26 : decode cX2_wash 26 = .ok (.invokevirtual 143, 3) := dk_182 0 143 (dk_at dksX2_wash_1 2 rfl rfl)
theorem dX2_wash_29 : decode cX2_wash 29 = .ok (.ifCond .ne 7, 3) := dk_154 0 7 (dk_at dksX2_wash_1 5 rfl rfl)
theorem dX2_wash_32 : decode cX2_wash 32 = .ok (.iconst 1, 1) := dk_4 (dk_at dksX2_wash_1 8 rfl rfl)
theorem dX2_wash_33 : decode cX2_wash 33 = .ok (.goto 4, 3) := dk_167 0 4 (dk_at dksX2_wash_1 9 rfl rfl)
theorem dX2_wash_36 : decode cX2_wash 36 = .ok (.iconst 0, 1) := dk_3 (dk_at dksX2_wash_1 12 rfl rfl)
theorem dX2_wash_37 : decode cX2_wash 37 = .ok (.invokevirtual 43, 3) := dk_182 0 43 (dk_at dksX2_wash_1 13 rfl rfl)
theorem dX2_wash_40 : decode cX2_wash 40 = .ok (.ifCond .ne 5, 3) := dk_154 0 5 (dk_at dksX2_wash_1 16 rfl rfl)
theorem dX2_wash_43 : decode cX2_wash 43 = .ok (.iconst 0, 1) := dk_3 (dk_at dksX2_wash_1 19 rfl rfl)
theorem dX2_wash_44 : decode cX2_wash 44 = .ok (.ireturn, 1) := dk_172 (dk_at dksX2_wash_1 20 rfl rfl)
theorem dX2_wash_45 : decode cX2_wash 45 = .ok (.aload_n 0, 1) := dk_42 (dk_at dksX2_wash_1 21 rfl rfl)
theorem dX2_wash_46 : decode cX2_wash 46 = .ok (.invokevirtual 440, 3) := dk_182 1 184 (dk_at dksX2_wash_2 0 rfl rfl)
theorem dX2_wash_49 : decode cX2_wash 49 = .ok (.aload_n 0, 1) := dk_42 (dk_at dksX2_wash_2 3 rfl rfl)
theorem dX2_wash_50 : decode cX2_wash 50 = .ok (.iload_n 1, 1) := dk_27 (dk_at dksX2_wash_2 4 rfl rfl)
theorem dX2_wash_51 : decode cX2_wash 51 = .ok (.iload_n 2, 1) := dk_28 (dk_at dksX2_wash_2 5 rfl rfl)
theorem dX2_wash_52 : decode cX2_wash 52 = .ok (.invokevirtual 146, 3) := dk_182 0 146 (dk_at dksX2_wash_2 6 rfl rfl)
theorem dX2_wash_55 : decode cX2_wash 55 = .ok (.ireturn, 1) := dk_172 (dk_at dksX2_wash_2 9 rfl rfl)
abbrev cX2_hang : ByteArray := prog_20_method_154_code
def yX2_hang : MethodName := ⟨RX2, "hang", "(I)I"⟩
def dkwX2_hang_2 : List UInt8 := [16, 9, 182, 0, 227, 172]
abbrev dktX2_hang_2 : List UInt8 := dkwX2_hang_2 ++ []
def dkwX2_hang_1 : List UInt8 := [4, 167, 0, 4, 3, 182, 0, 43, 154, 0, 5, 3, 172, 42, 182, 1, 184, 42, 27, 182, 0, 152, 42, 27]
abbrev dktX2_hang_1 : List UInt8 := dkwX2_hang_1 ++ dktX2_hang_2
def dkwX2_hang_0 : List UInt8 := [42, 27, 182, 1, 68, 61, 42, 42, 180, 0, 47, 28, 28, 153, 0, 15, 42, 27, 182, 0, 149, 153, 0, 7]
abbrev dktX2_hang_0 : List UInt8 := dkwX2_hang_0 ++ dktX2_hang_1
theorem dksX2_hang_0 : cX2_hang.data.toList.drop 0 = dktX2_hang_0 := by decide +kernel
theorem dksX2_hang_1 : cX2_hang.data.toList.drop 24 = dktX2_hang_1 := dk_seg dksX2_hang_0 24 rfl rfl
theorem dksX2_hang_2 : cX2_hang.data.toList.drop 48 = dktX2_hang_2 := dk_seg dksX2_hang_1 24 rfl rfl
theorem dX2_hang_0 : decode cX2_hang 0 = .ok (.aload_n 0, 1) := dk_42 (dk_at dksX2_hang_0 0 rfl rfl)
theorem dX2_hang_1 : decode cX2_hang 1 = .ok (.iload_n 1, 1) := dk_27 (dk_at dksX2_hang_0 1 rfl rfl)
theorem dX2_hang_2 : decode cX2_hang 2 = .ok (.invokevirtual 324, 3) := dk_182 1 68 (dk_at dksX2_hang_0 2 rfl rfl)
theorem dX2_hang_5 : decode cX2_hang 5 = .ok (.istore_n 2, 1) := dk_61 (dk_at dksX2_hang_0 5 rfl rfl)
theorem dX2_hang_6 : decode cX2_hang 6 = .ok (.aload_n 0, 1) := dk_42 (dk_at dksX2_hang_0 6 rfl rfl)
theorem dX2_hang_7 : decode cX2_hang 7 = .ok (.aload_n 0, 1) := dk_42 (dk_at dksX2_hang_0 7 rfl rfl)
theorem dX2_hang_8 : decode cX2_hang 8 = .ok (.getfield 47, 3) := dk_180 0 47 (dk_at dksX2_hang_0 8 rfl rfl)
theorem dX2_hang_11 : decode cX2_hang 11 = .ok (.iload_n 2, 1) := dk_28 (dk_at dksX2_hang_0 11 rfl rfl)
theorem dX2_hang_12 : decode cX2_hang 12 = .ok (.iload_n 2, 1) := dk_28 (dk_at dksX2_hang_0 12 rfl rfl)
theorem dX2_hang_13 : decode cX2_hang 13 = .ok (.ifCond .eq 15, 3) := dk_153 0 15 (dk_at dksX2_hang_0 13 rfl rfl)
theorem dX2_hang_16 : decode cX2_hang 16 = .ok (.aload_n 0, 1) := dk_42 (dk_at dksX2_hang_0 16 rfl rfl)
theorem dX2_hang_17 : decode cX2_hang 17 = .ok (.iload_n 1, 1) := dk_27 (dk_at dksX2_hang_0 17 rfl rfl)
theorem dX2_hang_18 : decode cX2_hang 18 = .ok (.invokevirtual 149, 3) := dk_182 0 149 (dk_at dksX2_hang_0 18 rfl rfl)
theorem dX2_hang_21 : decode cX2_hang 21 = .ok (.ifCond .eq 7, 3) := dk_153 0 7 (dk_at dksX2_hang_0 21 rfl rfl)
theorem dX2_hang_24 : decode cX2_hang 24 = .ok (.iconst 1, 1) := dk_4 (dk_at dksX2_hang_1 0 rfl rfl)
theorem dX2_hang_25 : decode cX2_hang 25 = .ok (.goto 4, 3) := dk_167 0 4 (dk_at dksX2_hang_1 1 rfl rfl)
theorem dX2_hang_28 : decode cX2_hang 28 = .ok (.iconst 0, 1) := dk_3 (dk_at dksX2_hang_1 4 rfl rfl)
theorem dX2_hang_29 : decode cX2_hang 29 = .ok (.invokevirtual 43, 3) := dk_182 0 43 (dk_at dksX2_hang_1 5 rfl rfl)
theorem dX2_hang_32 : decode cX2_hang 32 = .ok (.ifCond .ne 5, 3) := dk_154 0 5 (dk_at dksX2_hang_1 8 rfl rfl)
theorem dX2_hang_35 : decode cX2_hang 35 = .ok (.iconst 0, 1) := dk_3 (dk_at dksX2_hang_1 11 rfl rfl)
theorem dX2_hang_36 : decode cX2_hang 36 = .ok (.ireturn, 1) := dk_172 (dk_at dksX2_hang_1 12 rfl rfl)
theorem dX2_hang_37 : decode cX2_hang 37 = .ok (.aload_n 0, 1) := dk_42 (dk_at dksX2_hang_1 13 rfl rfl)
theorem dX2_hang_38 : decode cX2_hang 38 = .ok (.invokevirtual 440, 3) := dk_182 1 184 (dk_at dksX2_hang_1 14 rfl rfl)
theorem dX2_hang_41 : decode cX2_hang 41 = .ok (.aload_n 0, 1) := dk_42 (dk_at dksX2_hang_1 17 rfl rfl)
theorem dX2_hang_42 : decode cX2_hang 42 = .ok (.iload_n 1, 1) := dk_27 (dk_at dksX2_hang_1 18 rfl rfl)
theorem dX2_hang_43 : decode cX2_hang 43 = .ok (.invokevirtual 152, 3) := dk_182 0 152 (dk_at dksX2_hang_1 19 rfl rfl)
theorem dX2_hang_46 : decode cX2_hang 46 = .ok (.aload_n 0, 1) := dk_42 (dk_at dksX2_hang_1 22 rfl rfl)
theorem dX2_hang_47 : decode cX2_hang 47 = .ok (.iload_n 1, 1) := dk_27 (dk_at dksX2_hang_1 23 rfl rfl)
theorem dX2_hang_48 : decode cX2_hang 48 = .ok (.bipush 9, 2) := dk_16 9 (dk_at dksX2_hang_2 0 rfl rfl)
theorem dX2_hang_50 : decode cX2_hang 50 = .ok (.invokevirtual 227, 3) := dk_182 0 227 (dk_at dksX2_hang_2 2 rfl rfl)
theorem dX2_hang_53 : decode cX2_hang 53 = .ok (.ireturn, 1) := dk_172 (dk_at dksX2_hang_2 5 rfl rfl)
abbrev cX2_hangAll : ByteArray := prog_20_method_155_code
def yX2_hangAll : MethodName := ⟨RX2, "hangAll", "()I"⟩
def dkwX2_hangAll_2 : List UInt8 := [42, 28, 182, 0, 152, 132, 1, 1, 132, 2, 1, 167, 255, 214, 27, 172]
abbrev dktX2_hangAll_2 : List UInt8 := dkwX2_hangAll_2 ++ []
def dkwX2_hangAll_1 : List UInt8 := [46, 162, 0, 37, 42, 28, 7, 182, 0, 227, 153, 0, 22, 42, 28, 182, 0, 149, 154, 0, 6, 167, 0, 11]
abbrev dktX2_hangAll_1 : List UInt8 := dkwX2_hangAll_1 ++ dktX2_hangAll_2
def dkwX2_hangAll_0 : List UInt8 := [42, 182, 1, 104, 154, 0, 5, 3, 172, 42, 182, 1, 184, 3, 60, 3, 61, 28, 42, 180, 0, 9, 16, 10]
abbrev dktX2_hangAll_0 : List UInt8 := dkwX2_hangAll_0 ++ dktX2_hangAll_1
theorem dksX2_hangAll_0 : cX2_hangAll.data.toList.drop 0 = dktX2_hangAll_0 := by decide +kernel
theorem dksX2_hangAll_1 : cX2_hangAll.data.toList.drop 24 = dktX2_hangAll_1 := dk_seg dksX2_hangAll_0 24 rfl rfl
theorem dksX2_hangAll_2 : cX2_hangAll.data.toList.drop 48 = dktX2_hangAll_2 := dk_seg dksX2_hangAll_1 24 rfl rfl
theorem dX2_hangAll_0 : decode cX2_hangAll 0 = .ok (.aload_n 0, 1) := dk_42 (dk_at dksX2_hangAll_0 0 rfl rfl)
theorem dX2_hangAll_1 : decode cX2_hangAll 1 = .ok (.invokevirtual 360, 3) := dk_182 1 104 (dk_at dksX2_hangAll_0 1 rfl rfl)
theorem dX2_hangAll_4 : decode cX2_hangAll 4 = .ok (.ifCond .ne 5, 3) := dk_154 0 5 (dk_at dksX2_hangAll_0 4 rfl rfl)
theorem dX2_hangAll_7 : decode cX2_hangAll 7 = .ok (.iconst 0, 1) := dk_3 (dk_at dksX2_hangAll_0 7 rfl rfl)
theorem dX2_hangAll_8 : decode cX2_hangAll 8 = .ok (.ireturn, 1) := dk_172 (dk_at dksX2_hangAll_0 8 rfl rfl)
theorem dX2_hangAll_9 : decode cX2_hangAll 9 = .ok (.aload_n 0, 1) := dk_42 (dk_at dksX2_hangAll_0 9 rfl rfl)
theorem dX2_hangAll_10 : decode cX2_hangAll 10 = .ok (.invokevirtual 440, 3) := dk_182 1 184 (dk_at dksX2_hangAll_0 10 rfl rfl)
theorem dX2_hangAll_13 : decode cX2_hangAll 13 = .ok (.iconst 0, 1) := dk_3 (dk_at dksX2_hangAll_0 13 rfl rfl)
theorem dX2_hangAll_14 : decode cX2_hangAll 14 = .ok (.istore_n 1, 1) := dk_60 (dk_at dksX2_hangAll_0 14 rfl rfl)
theorem dX2_hangAll_15 : decode cX2_hangAll 15 = .ok (.iconst 0, 1) := dk_3 (dk_at dksX2_hangAll_0 15 rfl rfl)
theorem dX2_hangAll_16 : decode cX2_hangAll 16 = .ok (.istore_n 2, 1) := dk_61 (dk_at dksX2_hangAll_0 16 rfl rfl)
theorem dX2_hangAll_17 : decode cX2_hangAll 17 = .ok (.iload_n 2, 1) := dk_28 (dk_at dksX2_hangAll_0 17 rfl rfl)
theorem dX2_hangAll_18 : decode cX2_hangAll 18 = .ok (.aload_n 0, 1) := dk_42 (dk_at dksX2_hangAll_0 18 rfl rfl)
theorem dX2_hangAll_19 : decode cX2_hangAll 19 = .ok (.getfield 9, 3) := dk_180 0 9 (dk_at dksX2_hangAll_0 19 rfl rfl)
theorem dX2_hangAll_22 : decode cX2_hangAll 22 = .ok (.bipush 10, 2) := dk_16 10 (dk_at dksX2_hangAll_0 22 rfl rfl)
theorem dX2_hangAll_24 : decode cX2_hangAll 24 = .ok (.iaload, 1) := dk_46 (dk_at dksX2_hangAll_1 0 rfl rfl)
theorem dX2_hangAll_25 : decode cX2_hangAll 25 = .ok (.if_icmp .ge 37, 3) := dk_162 0 37 (dk_at dksX2_hangAll_1 1 rfl rfl)
theorem dX2_hangAll_28 : decode cX2_hangAll 28 = .ok (.aload_n 0, 1) := dk_42 (dk_at dksX2_hangAll_1 4 rfl rfl)
theorem dX2_hangAll_29 : decode cX2_hangAll 29 = .ok (.iload_n 2, 1) := dk_28 (dk_at dksX2_hangAll_1 5 rfl rfl)
theorem dX2_hangAll_30 : decode cX2_hangAll 30 = .ok (.iconst 4, 1) := dk_7 (dk_at dksX2_hangAll_1 6 rfl rfl)
theorem dX2_hangAll_31 : decode cX2_hangAll 31 = .ok (.invokevirtual 227, 3) := dk_182 0 227 (dk_at dksX2_hangAll_1 7 rfl rfl)
theorem dX2_hangAll_34 : decode cX2_hangAll 34 = .ok (.ifCond .eq 22, 3) := dk_153 0 22 (dk_at dksX2_hangAll_1 10 rfl rfl)
theorem dX2_hangAll_37 : decode cX2_hangAll 37 = .ok (.aload_n 0, 1) := dk_42 (dk_at dksX2_hangAll_1 13 rfl rfl)
theorem dX2_hangAll_38 : decode cX2_hangAll 38 = .ok (.iload_n 2, 1) := dk_28 (dk_at dksX2_hangAll_1 14 rfl rfl)
theorem dX2_hangAll_39 : decode cX2_hangAll 39 = .ok (.invokevirtual 149, 3) := dk_182 0 149 (dk_at dksX2_hangAll_1 15 rfl rfl)
theorem dX2_hangAll_42 : decode cX2_hangAll 42 = .ok (.ifCond .ne 6, 3) := dk_154 0 6 (dk_at dksX2_hangAll_1 18 rfl rfl)
theorem dX2_hangAll_45 : decode cX2_hangAll 45 = .ok (.goto 11, 3) := dk_167 0 11 (dk_at dksX2_hangAll_1 21 rfl rfl)
theorem dX2_hangAll_48 : decode cX2_hangAll 48 = .ok (.aload_n 0, 1) := dk_42 (dk_at dksX2_hangAll_2 0 rfl rfl)
theorem dX2_hangAll_49 : decode cX2_hangAll 49 = .ok (.iload_n 2, 1) := dk_28 (dk_at dksX2_hangAll_2 1 rfl rfl)
theorem dX2_hangAll_50 : decode cX2_hangAll 50 = .ok (.invokevirtual 152, 3) := dk_182 0 152 (dk_at dksX2_hangAll_2 2 rfl rfl)
theorem dX2_hangAll_53 : decode cX2_hangAll 53 = .ok (.iinc 1 1, 3) := dk_132 1 1 (dk_at dksX2_hangAll_2 5 rfl rfl)
theorem dX2_hangAll_56 : decode cX2_hangAll 56 = .ok (.iinc 2 1, 3) := dk_132 2 1 (dk_at dksX2_hangAll_2 8 rfl rfl)
theorem dX2_hangAll_59 : decode cX2_hangAll 59 = .ok (.goto (-42), 3) := dk_167 255 214 (dk_at dksX2_hangAll_2 11 rfl rfl)
theorem dX2_hangAll_62 : decode cX2_hangAll 62 = .ok (.iload_n 1, 1) := dk_27 (dk_at dksX2_hangAll_2 14 rfl rfl)
theorem dX2_hangAll_63 : decode cX2_hangAll 63 = .ok (.ireturn, 1) := dk_172 (dk_at dksX2_hangAll_2 15 rfl rfl)
abbrev cX2_clearTub : ByteArray := prog_20_method_156_code
def yX2_clearTub : MethodName := ⟨RX2, "clearTub", "(I)I"⟩
def dkwX2_clearTub_2 : List UInt8 := [182, 0, 236, 132, 3, 1, 167, 255, 226, 28, 172]
abbrev dktX2_clearTub_2 : List UInt8 := dkwX2_clearTub_2 ++ []
def dkwX2_clearTub_1 : List UInt8 := [180, 0, 9, 16, 10, 46, 162, 0, 25, 42, 29, 27, 182, 0, 242, 153, 0, 10, 42, 29, 3, 2]
abbrev dktX2_clearTub_1 : List UInt8 := dkwX2_clearTub_1 ++ dktX2_clearTub_2
def dkwX2_clearTub_0 : List UInt8 := [42, 27, 182, 1, 98, 154, 0, 5, 3, 172, 42, 182, 1, 184, 42, 27, 182, 0, 252, 61, 3, 62, 29, 42]
abbrev dktX2_clearTub_0 : List UInt8 := dkwX2_clearTub_0 ++ dktX2_clearTub_1
theorem dksX2_clearTub_0 : cX2_clearTub.data.toList.drop 0 = dktX2_clearTub_0 := by decide +kernel
theorem dksX2_clearTub_1 : cX2_clearTub.data.toList.drop 24 = dktX2_clearTub_1 := dk_seg dksX2_clearTub_0 24 rfl rfl
theorem dksX2_clearTub_2 : cX2_clearTub.data.toList.drop 46 = dktX2_clearTub_2 := dk_seg dksX2_clearTub_1 22 rfl rfl
theorem dX2_clearTub_0 : decode cX2_clearTub 0 = .ok (.aload_n 0, 1) := dk_42 (dk_at dksX2_clearTub_0 0 rfl rfl)
theorem dX2_clearTub_1 : decode cX2_clearTub 1 = .ok (.iload_n 1, 1) := dk_27 (dk_at dksX2_clearTub_0 1 rfl rfl)
theorem dX2_clearTub_2 : decode cX2_clearTub 2 = .ok (.invokevirtual 354, 3) := dk_182 1 98 (dk_at dksX2_clearTub_0 2 rfl rfl)
theorem dX2_clearTub_5 : decode cX2_clearTub 5 = .ok (.ifCond .ne 5, 3) := dk_154 0 5 (dk_at dksX2_clearTub_0 5 rfl rfl)
theorem dX2_clearTub_8 : decode cX2_clearTub 8 = .ok (.iconst 0, 1) := dk_3 (dk_at dksX2_clearTub_0 8 rfl rfl)
theorem dX2_clearTub_9 : decode cX2_clearTub 9 = .ok (.ireturn, 1) := dk_172 (dk_at dksX2_clearTub_0 9 rfl rfl)
theorem dX2_clearTub_10 : decode cX2_clearTub 10 = .ok (.aload_n 0, 1) := dk_42 (dk_at dksX2_clearTub_0 10 rfl rfl)
theorem dX2_clearTub_11 : decode cX2_clearTub 11 = .ok (.invokevirtual 440, 3) := dk_182 1 184 (dk_at dksX2_clearTub_0 11 rfl rfl)
theorem dX2_clearTub_14 : decode cX2_clearTub 14 = .ok (.aload_n 0, 1) := dk_42 (dk_at dksX2_clearTub_0 14 rfl rfl)
theorem dX2_clearTub_15 : decode cX2_clearTub 15 = .ok (.iload_n 1, 1) := dk_27 (dk_at dksX2_clearTub_0 15 rfl rfl)
theorem dX2_clearTub_16 : decode cX2_clearTub 16 = .ok (.invokevirtual 252, 3) := dk_182 0 252 (dk_at dksX2_clearTub_0 16 rfl rfl)
theorem dX2_clearTub_19 : decode cX2_clearTub 19 = .ok (.istore_n 2, 1) := dk_61 (dk_at dksX2_clearTub_0 19 rfl rfl)
theorem dX2_clearTub_20 : decode cX2_clearTub 20 = .ok (.iconst 0, 1) := dk_3 (dk_at dksX2_clearTub_0 20 rfl rfl)
theorem dX2_clearTub_21 : decode cX2_clearTub 21 = .ok (.istore_n 3, 1) := dk_62 (dk_at dksX2_clearTub_0 21 rfl rfl)
theorem dX2_clearTub_22 : decode cX2_clearTub 22 = .ok (.iload_n 3, 1) := dk_29 (dk_at dksX2_clearTub_0 22 rfl rfl)
theorem dX2_clearTub_23 : decode cX2_clearTub 23 = .ok (.aload_n 0, 1) := dk_42 (dk_at dksX2_clearTub_0 23 rfl rfl)
theorem dX2_clearTub_24 : decode cX2_clearTub 24 = .ok (.getfield 9, 3) := dk_180 0 9 (dk_at dksX2_clearTub_1 0 rfl rfl)
theorem dX2_clearTub_27 : decode cX2_clearTub 27 = .ok (.bipush 10, 2) := dk_16 10 (dk_at dksX2_clearTub_1 3 rfl rfl)
theorem dX2_clearTub_29 : decode cX2_clearTub 29 = .ok (.iaload, 1) := dk_46 (dk_at dksX2_clearTub_1 5 rfl rfl)
theorem dX2_clearTub_30 : decode cX2_clearTub 30 = .ok (.if_icmp .ge 25, 3) := dk_162 0 25 (dk_at dksX2_clearTub_1 6 rfl rfl)
theorem dX2_clearTub_33 : decode cX2_clearTub 33 = .ok (.aload_n 0, 1) := dk_42 (dk_at dksX2_clearTub_1 9 rfl rfl)
theorem dX2_clearTub_34 : decode cX2_clearTub 34 = .ok (.iload_n 3, 1) := dk_29 (dk_at dksX2_clearTub_1 10 rfl rfl)
theorem dX2_clearTub_35 : decode cX2_clearTub 35 = .ok (.iload_n 1, 1) := dk_27 (dk_at dksX2_clearTub_1 11 rfl rfl)
theorem dX2_clearTub_36 : decode cX2_clearTub 36 = .ok (.invokevirtual 242, 3) := dk_182 0 242 (dk_at dksX2_clearTub_1 12 rfl rfl)
theorem dX2_clearTub_39 : decode cX2_clearTub 39 = .ok (.ifCond .eq 10, 3) := dk_153 0 10 (dk_at dksX2_clearTub_1 15 rfl rfl)
theorem dX2_clearTub_42 : decode cX2_clearTub 42 = .ok (.aload_n 0, 1) := dk_42 (dk_at dksX2_clearTub_1 18 rfl rfl)
theorem dX2_clearTub_43 : decode cX2_clearTub 43 = .ok (.iload_n 3, 1) := dk_29 (dk_at dksX2_clearTub_1 19 rfl rfl)
theorem dX2_clearTub_44 : decode cX2_clearTub 44 = .ok (.iconst 0, 1) := dk_3 (dk_at dksX2_clearTub_1 20 rfl rfl)
theorem dX2_clearTub_45 : decode cX2_clearTub 45 = .ok (.iconst (-1), 1) := dk_2 (dk_at dksX2_clearTub_1 21 rfl rfl)
theorem dX2_clearTub_46 : decode cX2_clearTub 46 = .ok (.invokevirtual 236, 3) := dk_182 0 236 (dk_at dksX2_clearTub_2 0 rfl rfl)
theorem dX2_clearTub_49 : decode cX2_clearTub 49 = .ok (.iinc 3 1, 3) := dk_132 3 1 (dk_at dksX2_clearTub_2 3 rfl rfl)
theorem dX2_clearTub_52 : decode cX2_clearTub 52 = .ok (.goto (-30), 3) := dk_167 255 226 (dk_at dksX2_clearTub_2 6 rfl rfl)
theorem dX2_clearTub_55 : decode cX2_clearTub 55 = .ok (.iload_n 2, 1) := dk_28 (dk_at dksX2_clearTub_2 9 rfl rfl)
theorem dX2_clearTub_56 : decode cX2_clearTub 56 = .ok (.ireturn, 1) := dk_172 (dk_at dksX2_clearTub_2 10 rfl rfl)
abbrev cX2_takeDown : ByteArray := prog_20_method_157_code
def yX2_takeDown : MethodName := ⟨RX2, "takeDown", "(I)I"⟩
def dkwX2_takeDown_2 : List UInt8 := [172, 42, 182, 1, 184, 42, 27, 3, 2, 182, 0, 236, 42, 27, 7, 182, 0, 227, 172]
abbrev dktX2_takeDown_2 : List UInt8 := dkwX2_takeDown_2 ++ []
def dkwX2_takeDown_1 : List UInt8 := [159, 0, 12, 42, 27, 182, 0, 230, 5, 160, 0, 7, 4, 167, 0, 4, 3, 182, 0, 43, 154, 0, 5, 3]
abbrev dktX2_takeDown_1 : List UInt8 := dkwX2_takeDown_1 ++ dktX2_takeDown_2
def dkwX2_takeDown_0 : List UInt8 := [42, 27, 182, 1, 68, 61, 42, 42, 180, 0, 47, 28, 28, 153, 0, 25, 42, 27, 182, 0, 230, 4]
abbrev dktX2_takeDown_0 : List UInt8 := dkwX2_takeDown_0 ++ dktX2_takeDown_1
theorem dksX2_takeDown_0 : cX2_takeDown.data.toList.drop 0 = dktX2_takeDown_0 := by decide +kernel
theorem dksX2_takeDown_1 : cX2_takeDown.data.toList.drop 22 = dktX2_takeDown_1 := dk_seg dksX2_takeDown_0 22 rfl rfl
theorem dksX2_takeDown_2 : cX2_takeDown.data.toList.drop 46 = dktX2_takeDown_2 := dk_seg dksX2_takeDown_1 24 rfl rfl
theorem dX2_takeDown_0 : decode cX2_takeDown 0 = .ok (.aload_n 0, 1) := dk_42 (dk_at dksX2_takeDown_0 0 rfl rfl)
theorem dX2_takeDown_1 : decode cX2_takeDown 1 = .ok (.iload_n 1, 1) := dk_27 (dk_at dksX2_takeDown_0 1 rfl rfl)
theorem dX2_takeDown_2 : decode cX2_takeDown 2 = .ok (.invokevirtual 324, 3) := dk_182 1 68 (dk_at dksX2_takeDown_0 2 rfl rfl)
theorem dX2_takeDown_5 : decode cX2_takeDown 5 = .ok (.istore_n 2, 1) := dk_61 (dk_at dksX2_takeDown_0 5 rfl rfl)
theorem dX2_takeDown_6 : decode cX2_takeDown 6 = .ok (.aload_n 0, 1) := dk_42 (dk_at dksX2_takeDown_0 6 rfl rfl)
theorem dX2_takeDown_7 : decode cX2_takeDown 7 = .ok (.aload_n 0, 1) := dk_42 (dk_at dksX2_takeDown_0 7 rfl rfl)
theorem dX2_takeDown_8 : decode cX2_takeDown 8 = .ok (.getfield 47, 3) := dk_180 0 47 (dk_at dksX2_takeDown_0 8 rfl rfl)
theorem dX2_takeDown_11 : decode cX2_takeDown 11 = .ok (.iload_n 2, 1) := dk_28 (dk_at dksX2_takeDown_0 11 rfl rfl)
theorem dX2_takeDown_12 : decode cX2_takeDown 12 = .ok (.iload_n 2, 1) := dk_28 (dk_at dksX2_takeDown_0 12 rfl rfl)
theorem dX2_takeDown_13 : decode cX2_takeDown 13 = .ok (.ifCond .eq 25, 3) := dk_153 0 25 (dk_at dksX2_takeDown_0 13 rfl rfl)
theorem dX2_takeDown_16 : decode cX2_takeDown 16 = .ok (.aload_n 0, 1) := dk_42 (dk_at dksX2_takeDown_0 16 rfl rfl)
theorem dX2_takeDown_17 : decode cX2_takeDown 17 = .ok (.iload_n 1, 1) := dk_27 (dk_at dksX2_takeDown_0 17 rfl rfl)
theorem dX2_takeDown_18 : decode cX2_takeDown 18 = .ok (.invokevirtual 230, 3) := dk_182 0 230 (dk_at dksX2_takeDown_0 18 rfl rfl)
theorem dX2_takeDown_21 : decode cX2_takeDown 21 = .ok (.iconst 1, 1) := dk_4 (dk_at dksX2_takeDown_0 21 rfl rfl)
theorem dX2_takeDown_22 : decode cX2_takeDown 22 = .ok (.if_icmp .eq 12, 3) := dk_159 0 12 (dk_at dksX2_takeDown_1 0 rfl rfl)
theorem dX2_takeDown_25 : decode cX2_takeDown 25 = .ok (.aload_n 0, 1) := dk_42 (dk_at dksX2_takeDown_1 3 rfl rfl)
theorem dX2_takeDown_26 : decode cX2_takeDown 26 = .ok (.iload_n 1, 1) := dk_27 (dk_at dksX2_takeDown_1 4 rfl rfl)
theorem dX2_takeDown_27 : decode cX2_takeDown 27 = .ok (.invokevirtual 230, 3) := dk_182 0 230 (dk_at dksX2_takeDown_1 5 rfl rfl)
theorem dX2_takeDown_30 : decode cX2_takeDown 30 = .ok (.iconst 2, 1) := dk_5 (dk_at dksX2_takeDown_1 8 rfl rfl)
theorem dX2_takeDown_31 : decode cX2_takeDown 31 = .ok (.if_icmp .ne 7, 3) := dk_160 0 7 (dk_at dksX2_takeDown_1 9 rfl rfl)
theorem dX2_takeDown_34 : decode cX2_takeDown 34 = .ok (.iconst 1, 1) := dk_4 (dk_at dksX2_takeDown_1 12 rfl rfl)
theorem dX2_takeDown_35 : decode cX2_takeDown 35 = .ok (.goto 4, 3) := dk_167 0 4 (dk_at dksX2_takeDown_1 13 rfl rfl)
theorem dX2_takeDown_38 : decode cX2_takeDown 38 = .ok (.iconst 0, 1) := dk_3 (dk_at dksX2_takeDown_1 16 rfl rfl)
theorem dX2_takeDown_39 : decode cX2_takeDown 39 = .ok (.invokevirtual 43, 3) := dk_182 0 43 (dk_at dksX2_takeDown_1 17 rfl rfl)
theorem dX2_takeDown_42 : decode cX2_takeDown 42 = .ok (.ifCond .ne 5, 3) := dk_154 0 5 (dk_at dksX2_takeDown_1 20 rfl rfl)
theorem dX2_takeDown_45 : decode cX2_takeDown 45 = .ok (.iconst 0, 1) := dk_3 (dk_at dksX2_takeDown_1 23 rfl rfl)
theorem dX2_takeDown_46 : decode cX2_takeDown 46 = .ok (.ireturn, 1) := dk_172 (dk_at dksX2_takeDown_2 0 rfl rfl)
theorem dX2_takeDown_47 : decode cX2_takeDown 47 = .ok (.aload_n 0, 1) := dk_42 (dk_at dksX2_takeDown_2 1 rfl rfl)
theorem dX2_takeDown_48 : decode cX2_takeDown 48 = .ok (.invokevirtual 440, 3) := dk_182 1 184 (dk_at dksX2_takeDown_2 2 rfl rfl)
theorem dX2_takeDown_51 : decode cX2_takeDown 51 = .ok (.aload_n 0, 1) := dk_42 (dk_at dksX2_takeDown_2 5 rfl rfl)
theorem dX2_takeDown_52 : decode cX2_takeDown 52 = .ok (.iload_n 1, 1) := dk_27 (dk_at dksX2_takeDown_2 6 rfl rfl)
theorem dX2_takeDown_53 : decode cX2_takeDown 53 = .ok (.iconst 0, 1) := dk_3 (dk_at dksX2_takeDown_2 7 rfl rfl)
theorem dX2_takeDown_54 : decode cX2_takeDown 54 = .ok (.iconst (-1), 1) := dk_2 (dk_at dksX2_takeDown_2 8 rfl rfl)
theorem dX2_takeDown_55 : decode cX2_takeDown 55 = .ok (.invokevirtual 236, 3) := dk_182 0 236 (dk_at dksX2_takeDown_2 9 rfl rfl)
theorem dX2_takeDown_58 : decode cX2_takeDown 58 = .ok (.aload_n 0, 1) := dk_42 (dk_at dksX2_takeDown_2 12 rfl rfl)
theorem dX2_takeDown_59 : decode cX2_takeDown 59 = .ok (.iload_n 1, 1) := dk_27 (dk_at dksX2_takeDown_2 13 rfl rfl)
theorem dX2_takeDown_60 : decode cX2_takeDown 60 = .ok (.iconst 4, 1) := dk_7 (dk_at dksX2_takeDown_2 14 rfl rfl)
theorem dX2_takeDown_61 : decode cX2_takeDown 61 = .ok (.invokevirtual 227, 3) := dk_182 0 227 (dk_at dksX2_takeDown_2 15 rfl rfl)
theorem dX2_takeDown_64 : decode cX2_takeDown 64 = .ok (.ireturn, 1) := dk_172 (dk_at dksX2_takeDown_2 18 rfl rfl)
abbrev cX2_iron : ByteArray := prog_20_method_158_code
def yX2_iron : MethodName := ⟨RX2, "iron", "(II)I"⟩
def dkwX2_iron_2 : List UInt8 := [182, 1, 184, 42, 27, 28, 182, 1, 160, 42, 27, 8, 182, 0, 227, 172]
abbrev dktX2_iron_2 : List UInt8 := dkwX2_iron_2 ++ []
def dkwX2_iron_1 : List UInt8 := [27, 28, 182, 1, 120, 154, 0, 7, 4, 167, 0, 4, 3, 182, 0, 43, 154, 0, 5, 3, 172, 42]
abbrev dktX2_iron_1 : List UInt8 := dkwX2_iron_1 ++ dktX2_iron_2
def dkwX2_iron_0 : List UInt8 := [42, 27, 182, 1, 68, 62, 42, 42, 180, 0, 47, 29, 29, 153, 0, 23, 28, 184, 1, 74, 153, 0, 16, 42]
abbrev dktX2_iron_0 : List UInt8 := dkwX2_iron_0 ++ dktX2_iron_1
theorem dksX2_iron_0 : cX2_iron.data.toList.drop 0 = dktX2_iron_0 := by decide +kernel
theorem dksX2_iron_1 : cX2_iron.data.toList.drop 24 = dktX2_iron_1 := dk_seg dksX2_iron_0 24 rfl rfl
theorem dksX2_iron_2 : cX2_iron.data.toList.drop 46 = dktX2_iron_2 := dk_seg dksX2_iron_1 22 rfl rfl
theorem dX2_iron_0 : decode cX2_iron 0 = .ok (.aload_n 0, 1) := dk_42 (dk_at dksX2_iron_0 0 rfl rfl)
theorem dX2_iron_1 : decode cX2_iron 1 = .ok (.iload_n 1, 1) := dk_27 (dk_at dksX2_iron_0 1 rfl rfl)
theorem dX2_iron_2 : decode cX2_iron 2 = .ok (.invokevirtual 324, 3) := dk_182 1 68 (dk_at dksX2_iron_0 2 rfl rfl)
theorem dX2_iron_5 : decode cX2_iron 5 = .ok (.istore_n 3, 1) := dk_62 (dk_at dksX2_iron_0 5 rfl rfl)
theorem dX2_iron_6 : decode cX2_iron 6 = .ok (.aload_n 0, 1) := dk_42 (dk_at dksX2_iron_0 6 rfl rfl)
theorem dX2_iron_7 : decode cX2_iron 7 = .ok (.aload_n 0, 1) := dk_42 (dk_at dksX2_iron_0 7 rfl rfl)
theorem dX2_iron_8 : decode cX2_iron 8 = .ok (.getfield 47, 3) := dk_180 0 47 (dk_at dksX2_iron_0 8 rfl rfl)
theorem dX2_iron_11 : decode cX2_iron 11 = .ok (.iload_n 3, 1) := dk_29 (dk_at dksX2_iron_0 11 rfl rfl)
theorem dX2_iron_12 : decode cX2_iron 12 = .ok (.iload_n 3, 1) := dk_29 (dk_at dksX2_iron_0 12 rfl rfl)
theorem dX2_iron_13 : decode cX2_iron 13 = .ok (.ifCond .eq 23, 3) := dk_153 0 23 (dk_at dksX2_iron_0 13 rfl rfl)
theorem dX2_iron_16 : decode cX2_iron 16 = .ok (.iload_n 2, 1) := dk_28 (dk_at dksX2_iron_0 16 rfl rfl)
theorem dX2_iron_17 : decode cX2_iron 17 = .ok (.invokestatic 330, 3) := dk_184 1 74 (dk_at dksX2_iron_0 17 rfl rfl)
theorem dX2_iron_20 : decode cX2_iron 20 = .ok (.ifCond .eq 16, 3) := dk_153 0 16 (dk_at dksX2_iron_0 20 rfl rfl)
theorem dX2_iron_23 : decode cX2_iron 23 = .ok (.aload_n 0, 1) := dk_42 (dk_at dksX2_iron_0 23 rfl rfl)
theorem dX2_iron_24 : decode cX2_iron 24 = .ok (.iload_n 1, 1) := dk_27 (dk_at dksX2_iron_1 0 rfl rfl)
theorem dX2_iron_25 : decode cX2_iron 25 = .ok (.iload_n 2, 1) := dk_28 (dk_at dksX2_iron_1 1 rfl rfl)
theorem dX2_iron_26 : decode cX2_iron 26 = .ok (.invokevirtual 376, 3) := dk_182 1 120 (dk_at dksX2_iron_1 2 rfl rfl)
theorem dX2_iron_29 : decode cX2_iron 29 = .ok (.ifCond .ne 7, 3) := dk_154 0 7 (dk_at dksX2_iron_1 5 rfl rfl)
theorem dX2_iron_32 : decode cX2_iron 32 = .ok (.iconst 1, 1) := dk_4 (dk_at dksX2_iron_1 8 rfl rfl)
theorem dX2_iron_33 : decode cX2_iron 33 = .ok (.goto 4, 3) := dk_167 0 4 (dk_at dksX2_iron_1 9 rfl rfl)
theorem dX2_iron_36 : decode cX2_iron 36 = .ok (.iconst 0, 1) := dk_3 (dk_at dksX2_iron_1 12 rfl rfl)
theorem dX2_iron_37 : decode cX2_iron 37 = .ok (.invokevirtual 43, 3) := dk_182 0 43 (dk_at dksX2_iron_1 13 rfl rfl)
theorem dX2_iron_40 : decode cX2_iron 40 = .ok (.ifCond .ne 5, 3) := dk_154 0 5 (dk_at dksX2_iron_1 16 rfl rfl)
theorem dX2_iron_43 : decode cX2_iron 43 = .ok (.iconst 0, 1) := dk_3 (dk_at dksX2_iron_1 19 rfl rfl)
theorem dX2_iron_44 : decode cX2_iron 44 = .ok (.ireturn, 1) := dk_172 (dk_at dksX2_iron_1 20 rfl rfl)
theorem dX2_iron_45 : decode cX2_iron 45 = .ok (.aload_n 0, 1) := dk_42 (dk_at dksX2_iron_1 21 rfl rfl)
theorem dX2_iron_46 : decode cX2_iron 46 = .ok (.invokevirtual 440, 3) := dk_182 1 184 (dk_at dksX2_iron_2 0 rfl rfl)
theorem dX2_iron_49 : decode cX2_iron 49 = .ok (.aload_n 0, 1) := dk_42 (dk_at dksX2_iron_2 3 rfl rfl)
theorem dX2_iron_50 : decode cX2_iron 50 = .ok (.iload_n 1, 1) := dk_27 (dk_at dksX2_iron_2 4 rfl rfl)
theorem dX2_iron_51 : decode cX2_iron 51 = .ok (.iload_n 2, 1) := dk_28 (dk_at dksX2_iron_2 5 rfl rfl)
theorem dX2_iron_52 : decode cX2_iron 52 = .ok (.invokevirtual 416, 3) := dk_182 1 160 (dk_at dksX2_iron_2 6 rfl rfl)
theorem dX2_iron_55 : decode cX2_iron 55 = .ok (.aload_n 0, 1) := dk_42 (dk_at dksX2_iron_2 9 rfl rfl)
theorem dX2_iron_56 : decode cX2_iron 56 = .ok (.iload_n 1, 1) := dk_27 (dk_at dksX2_iron_2 10 rfl rfl)
theorem dX2_iron_57 : decode cX2_iron 57 = .ok (.iconst 5, 1) := dk_8 (dk_at dksX2_iron_2 11 rfl rfl)
theorem dX2_iron_58 : decode cX2_iron 58 = .ok (.invokevirtual 227, 3) := dk_182 0 227 (dk_at dksX2_iron_2 12 rfl rfl)
theorem dX2_iron_61 : decode cX2_iron 61 = .ok (.ireturn, 1) := dk_172 (dk_at dksX2_iron_2 15 rfl rfl)
abbrev cX2_bleach : ByteArray := prog_20_method_160_code
def yX2_bleach : MethodName := ⟨RX2, "bleach", "(I)I"⟩
def dkwX2_bleach_3 : List UInt8 := [172]
abbrev dktX2_bleach_3 : List UInt8 := dkwX2_bleach_3 ++ []
def dkwX2_bleach_2 : List UInt8 := [27, 16, 6, 3, 182, 0, 233, 42, 27, 16, 7, 42, 27, 16, 7, 182, 0, 227, 4, 96, 182, 0, 233, 29]
abbrev dktX2_bleach_2 : List UInt8 := dkwX2_bleach_2 ++ dktX2_bleach_3
def dkwX2_bleach_1 : List UInt8 := [4, 167, 0, 4, 3, 182, 0, 43, 154, 0, 5, 3, 172, 42, 182, 1, 184, 42, 27, 182, 1, 187, 62, 42]
abbrev dktX2_bleach_1 : List UInt8 := dkwX2_bleach_1 ++ dktX2_bleach_2
def dkwX2_bleach_0 : List UInt8 := [42, 27, 182, 1, 68, 61, 42, 42, 180, 0, 47, 28, 28, 153, 0, 15, 42, 27, 182, 1, 123, 154, 0, 7]
abbrev dktX2_bleach_0 : List UInt8 := dkwX2_bleach_0 ++ dktX2_bleach_1
theorem dksX2_bleach_0 : cX2_bleach.data.toList.drop 0 = dktX2_bleach_0 := by decide +kernel
theorem dksX2_bleach_1 : cX2_bleach.data.toList.drop 24 = dktX2_bleach_1 := dk_seg dksX2_bleach_0 24 rfl rfl
theorem dksX2_bleach_2 : cX2_bleach.data.toList.drop 48 = dktX2_bleach_2 := dk_seg dksX2_bleach_1 24 rfl rfl
theorem dksX2_bleach_3 : cX2_bleach.data.toList.drop 72 = dktX2_bleach_3 := dk_seg dksX2_bleach_2 24 rfl rfl
theorem dX2_bleach_0 : decode cX2_bleach 0 = .ok (.aload_n 0, 1) := dk_42 (dk_at dksX2_bleach_0 0 rfl rfl)
theorem dX2_bleach_1 : decode cX2_bleach 1 = .ok (.iload_n 1, 1) := dk_27 (dk_at dksX2_bleach_0 1 rfl rfl)
theorem dX2_bleach_2 : decode cX2_bleach 2 = .ok (.invokevirtual 324, 3) := dk_182 1 68 (dk_at dksX2_bleach_0 2 rfl rfl)
theorem dX2_bleach_5 : decode cX2_bleach 5 = .ok (.istore_n 2, 1) := dk_61 (dk_at dksX2_bleach_0 5 rfl rfl)
theorem dX2_bleach_6 : decode cX2_bleach 6 = .ok (.aload_n 0, 1) := dk_42 (dk_at dksX2_bleach_0 6 rfl rfl)
theorem dX2_bleach_7 : decode cX2_bleach 7 = .ok (.aload_n 0, 1) := dk_42 (dk_at dksX2_bleach_0 7 rfl rfl)
theorem dX2_bleach_8 : decode cX2_bleach 8 = .ok (.getfield 47, 3) := dk_180 0 47 (dk_at dksX2_bleach_0 8 rfl rfl)
theorem dX2_bleach_11 : decode cX2_bleach 11 = .ok (.iload_n 2, 1) := dk_28 (dk_at dksX2_bleach_0 11 rfl rfl)
theorem dX2_bleach_12 : decode cX2_bleach 12 = .ok (.iload_n 2, 1) := dk_28 (dk_at dksX2_bleach_0 12 rfl rfl)
theorem dX2_bleach_13 : decode cX2_bleach 13 = .ok (.ifCond .eq 15, 3) := dk_153 0 15 (dk_at dksX2_bleach_0 13 rfl rfl)
theorem dX2_bleach_16 : decode cX2_bleach 16 = .ok (.aload_n 0, 1) := dk_42 (dk_at dksX2_bleach_0 16 rfl rfl)
theorem dX2_bleach_17 : decode cX2_bleach 17 = .ok (.iload_n 1, 1) := dk_27 (dk_at dksX2_bleach_0 17 rfl rfl)
theorem dX2_bleach_18 : decode cX2_bleach 18 = .ok (.invokevirtual 379, 3) := dk_182 1 123 (dk_at dksX2_bleach_0 18 rfl rfl)
theorem dX2_bleach_21 : decode cX2_bleach 21 = .ok (.ifCond .ne 7, 3) := dk_154 0 7 (dk_at dksX2_bleach_0 21 rfl rfl)
theorem dX2_bleach_24 : decode cX2_bleach 24 = .ok (.iconst 1, 1) := dk_4 (dk_at dksX2_bleach_1 0 rfl rfl)
theorem dX2_bleach_25 : decode cX2_bleach 25 = .ok (.goto 4, 3) := dk_167 0 4 (dk_at dksX2_bleach_1 1 rfl rfl)
theorem dX2_bleach_28 : decode cX2_bleach 28 = .ok (.iconst 0, 1) := dk_3 (dk_at dksX2_bleach_1 4 rfl rfl)
theorem dX2_bleach_29 : decode cX2_bleach 29 = .ok (.invokevirtual 43, 3) := dk_182 0 43 (dk_at dksX2_bleach_1 5 rfl rfl)
theorem dX2_bleach_32 : decode cX2_bleach 32 = .ok (.ifCond .ne 5, 3) := dk_154 0 5 (dk_at dksX2_bleach_1 8 rfl rfl)
theorem dX2_bleach_35 : decode cX2_bleach 35 = .ok (.iconst 0, 1) := dk_3 (dk_at dksX2_bleach_1 11 rfl rfl)
theorem dX2_bleach_36 : decode cX2_bleach 36 = .ok (.ireturn, 1) := dk_172 (dk_at dksX2_bleach_1 12 rfl rfl)
theorem dX2_bleach_37 : decode cX2_bleach 37 = .ok (.aload_n 0, 1) := dk_42 (dk_at dksX2_bleach_1 13 rfl rfl)
theorem dX2_bleach_38 : decode cX2_bleach 38 = .ok (.invokevirtual 440, 3) := dk_182 1 184 (dk_at dksX2_bleach_1 14 rfl rfl)
theorem dX2_bleach_41 : decode cX2_bleach 41 = .ok (.aload_n 0, 1) := dk_42 (dk_at dksX2_bleach_1 17 rfl rfl)
theorem dX2_bleach_42 : decode cX2_bleach 42 = .ok (.iload_n 1, 1) := dk_27 (dk_at dksX2_bleach_1 18 rfl rfl)
theorem dX2_bleach_43 : decode cX2_bleach 43 = .ok (.invokevirtual 443, 3) := dk_182 1 187 (dk_at dksX2_bleach_1 19 rfl rfl)
theorem dX2_bleach_46 : decode cX2_bleach 46 = .ok (.istore_n 3, 1) := dk_62 (dk_at dksX2_bleach_1 22 rfl rfl)
theorem dX2_bleach_47 : decode cX2_bleach 47 = .ok (.aload_n 0, 1) := dk_42 (dk_at dksX2_bleach_1 23 rfl rfl)
theorem dX2_bleach_48 : decode cX2_bleach 48 = .ok (.iload_n 1, 1) := dk_27 (dk_at dksX2_bleach_2 0 rfl rfl)
theorem dX2_bleach_49 : decode cX2_bleach 49 = .ok (.bipush 6, 2) := dk_16 6 (dk_at dksX2_bleach_2 1 rfl rfl)
theorem dX2_bleach_51 : decode cX2_bleach 51 = .ok (.iconst 0, 1) := dk_3 (dk_at dksX2_bleach_2 3 rfl rfl)
theorem dX2_bleach_52 : decode cX2_bleach 52 = .ok (.invokevirtual 233, 3) := dk_182 0 233 (dk_at dksX2_bleach_2 4 rfl rfl)
theorem dX2_bleach_55 : decode cX2_bleach 55 = .ok (.aload_n 0, 1) := dk_42 (dk_at dksX2_bleach_2 7 rfl rfl)
theorem dX2_bleach_56 : decode cX2_bleach 56 = .ok (.iload_n 1, 1) := dk_27 (dk_at dksX2_bleach_2 8 rfl rfl)
theorem dX2_bleach_57 : decode cX2_bleach 57 = .ok (.bipush 7, 2) := dk_16 7 (dk_at dksX2_bleach_2 9 rfl rfl)
theorem dX2_bleach_59 : decode cX2_bleach 59 = .ok (.aload_n 0, 1) := dk_42 (dk_at dksX2_bleach_2 11 rfl rfl)
theorem dX2_bleach_60 : decode cX2_bleach 60 = .ok (.iload_n 1, 1) := dk_27 (dk_at dksX2_bleach_2 12 rfl rfl)
theorem dX2_bleach_61 : decode cX2_bleach 61 = .ok (.bipush 7, 2) := dk_16 7 (dk_at dksX2_bleach_2 13 rfl rfl)
theorem dX2_bleach_63 : decode cX2_bleach 63 = .ok (.invokevirtual 227, 3) := dk_182 0 227 (dk_at dksX2_bleach_2 15 rfl rfl)
theorem dX2_bleach_66 : decode cX2_bleach 66 = .ok (.iconst 1, 1) := dk_4 (dk_at dksX2_bleach_2 18 rfl rfl)
theorem dX2_bleach_67 : decode cX2_bleach 67 = .ok (.iadd, 1) := dk_96 (dk_at dksX2_bleach_2 19 rfl rfl)
theorem dX2_bleach_68 : decode cX2_bleach 68 = .ok (.invokevirtual 233, 3) := dk_182 0 233 (dk_at dksX2_bleach_2 20 rfl rfl)
theorem dX2_bleach_71 : decode cX2_bleach 71 = .ok (.iload_n 3, 1) := dk_29 (dk_at dksX2_bleach_2 23 rfl rfl)
theorem dX2_bleach_72 : decode cX2_bleach 72 = .ok (.ireturn, 1) := dk_172 (dk_at dksX2_bleach_3 0 rfl rfl)
abbrev cX2_stainsOf : ByteArray := prog_20_method_159_code
def yX2_stainsOf : MethodName := ⟨RX2, "stainsOf", "(I)I"⟩
def dkwX2_stainsOf_1 : List UInt8 := [184, 0, 125, 184, 0, 245, 96, 61, 132, 3, 1, 167, 255, 225, 28, 172]
abbrev dktX2_stainsOf_1 : List UInt8 := dkwX2_stainsOf_1 ++ []
def dkwX2_stainsOf_0 : List UInt8 := [3, 61, 3, 62, 29, 42, 180, 0, 9, 16, 6, 46, 162, 0, 26, 28, 42, 27, 16, 6, 182, 0, 227, 29]
abbrev dktX2_stainsOf_0 : List UInt8 := dkwX2_stainsOf_0 ++ dktX2_stainsOf_1
theorem dksX2_stainsOf_0 : cX2_stainsOf.data.toList.drop 0 = dktX2_stainsOf_0 := by decide +kernel
theorem dksX2_stainsOf_1 : cX2_stainsOf.data.toList.drop 24 = dktX2_stainsOf_1 := dk_seg dksX2_stainsOf_0 24 rfl rfl
theorem dX2_stainsOf_0 : decode cX2_stainsOf 0 = .ok (.iconst 0, 1) := dk_3 (dk_at dksX2_stainsOf_0 0 rfl rfl)
theorem dX2_stainsOf_1 : decode cX2_stainsOf 1 = .ok (.istore_n 2, 1) := dk_61 (dk_at dksX2_stainsOf_0 1 rfl rfl)
theorem dX2_stainsOf_2 : decode cX2_stainsOf 2 = .ok (.iconst 0, 1) := dk_3 (dk_at dksX2_stainsOf_0 2 rfl rfl)
theorem dX2_stainsOf_3 : decode cX2_stainsOf 3 = .ok (.istore_n 3, 1) := dk_62 (dk_at dksX2_stainsOf_0 3 rfl rfl)
theorem dX2_stainsOf_4 : decode cX2_stainsOf 4 = .ok (.iload_n 3, 1) := dk_29 (dk_at dksX2_stainsOf_0 4 rfl rfl)
theorem dX2_stainsOf_5 : decode cX2_stainsOf 5 = .ok (.aload_n 0, 1) := dk_42 (dk_at dksX2_stainsOf_0 5 rfl rfl)
theorem dX2_stainsOf_6 : decode cX2_stainsOf 6 = .ok (.getfield 9, 3) := dk_180 0 9 (dk_at dksX2_stainsOf_0 6 rfl rfl)
theorem dX2_stainsOf_9 : decode cX2_stainsOf 9 = .ok (.bipush 6, 2) := dk_16 6 (dk_at dksX2_stainsOf_0 9 rfl rfl)
theorem dX2_stainsOf_11 : decode cX2_stainsOf 11 = .ok (.iaload, 1) := dk_46 (dk_at dksX2_stainsOf_0 11 rfl rfl)
theorem dX2_stainsOf_12 : decode cX2_stainsOf 12 = .ok (.if_icmp .ge 26, 3) := dk_162 0 26 (dk_at dksX2_stainsOf_0 12 rfl rfl)
theorem dX2_stainsOf_15 : decode cX2_stainsOf 15 = .ok (.iload_n 2, 1) := dk_28 (dk_at dksX2_stainsOf_0 15 rfl rfl)
theorem dX2_stainsOf_16 : decode cX2_stainsOf 16 = .ok (.aload_n 0, 1) := dk_42 (dk_at dksX2_stainsOf_0 16 rfl rfl)
theorem dX2_stainsOf_17 : decode cX2_stainsOf 17 = .ok (.iload_n 1, 1) := dk_27 (dk_at dksX2_stainsOf_0 17 rfl rfl)
theorem dX2_stainsOf_18 : decode cX2_stainsOf 18 = .ok (.bipush 6, 2) := dk_16 6 (dk_at dksX2_stainsOf_0 18 rfl rfl)
theorem dX2_stainsOf_20 : decode cX2_stainsOf 20 = .ok (.invokevirtual 227, 3) := dk_182 0 227 (dk_at dksX2_stainsOf_0 20 rfl rfl)
theorem dX2_stainsOf_23 : decode cX2_stainsOf 23 = .ok (.iload_n 3, 1) := dk_29 (dk_at dksX2_stainsOf_0 23 rfl rfl)
theorem dX2_stainsOf_24 : decode cX2_stainsOf 24 = .ok (.invokestatic 125, 3) := dk_184 0 125 (dk_at dksX2_stainsOf_1 0 rfl rfl)
theorem dX2_stainsOf_27 : decode cX2_stainsOf 27 = .ok (.invokestatic 245, 3) := dk_184 0 245 (dk_at dksX2_stainsOf_1 3 rfl rfl)
theorem dX2_stainsOf_30 : decode cX2_stainsOf 30 = .ok (.iadd, 1) := dk_96 (dk_at dksX2_stainsOf_1 6 rfl rfl)
theorem dX2_stainsOf_31 : decode cX2_stainsOf 31 = .ok (.istore_n 2, 1) := dk_61 (dk_at dksX2_stainsOf_1 7 rfl rfl)
theorem dX2_stainsOf_32 : decode cX2_stainsOf 32 = .ok (.iinc 3 1, 3) := dk_132 3 1 (dk_at dksX2_stainsOf_1 8 rfl rfl)
theorem dX2_stainsOf_35 : decode cX2_stainsOf 35 = .ok (.goto (-31), 3) := dk_167 255 225 (dk_at dksX2_stainsOf_1 11 rfl rfl)
theorem dX2_stainsOf_38 : decode cX2_stainsOf 38 = .ok (.iload_n 2, 1) := dk_28 (dk_at dksX2_stainsOf_1 14 rfl rfl)
theorem dX2_stainsOf_39 : decode cX2_stainsOf 39 = .ok (.ireturn, 1) := dk_172 (dk_at dksX2_stainsOf_1 15 rfl rfl)
abbrev cX2_handOver : ByteArray := prog_20_method_162_code
def yX2_handOver : MethodName := ⟨RX2, "handOver", "(I)I"⟩
def dkwX2_handOver_5 : List UInt8 := [180, 0, 9, 3, 46, 182, 1, 52, 182, 0, 121, 42, 27, 182, 1, 190, 29, 172]
abbrev dktX2_handOver_5 : List UInt8 := dkwX2_handOver_5 ++ []
def dkwX2_handOver_4 : List UInt8 := [4, 182, 1, 46, 104, 29, 100, 96, 79, 42, 27, 6, 4, 182, 0, 121, 42, 27, 7, 42, 27, 42]
abbrev dktX2_handOver_4 : List UInt8 := dkwX2_handOver_4 ++ dktX2_handOver_5
def dkwX2_handOver_3 : List UInt8 := [42, 180, 0, 9, 5, 92, 46, 29, 96, 79, 42, 180, 0, 9, 6, 92, 46, 42, 27, 182, 1, 49, 42, 27]
abbrev dktX2_handOver_3 : List UInt8 := dkwX2_handOver_3 ++ dktX2_handOver_4
def dkwX2_handOver_2 : List UInt8 := [182, 0, 43, 154, 0, 5, 3, 172, 42, 182, 1, 184, 42, 27, 42, 180, 0, 9, 3, 46, 182, 1, 151, 62]
abbrev dktX2_handOver_2 : List UInt8 := dkwX2_handOver_2 ++ dktX2_handOver_3
def dkwX2_handOver_1 : List UInt8 := [42, 27, 182, 1, 89, 154, 0, 16, 42, 27, 182, 1, 114, 2, 160, 0, 7, 4, 167, 0, 4, 3]
abbrev dktX2_handOver_1 : List UInt8 := dkwX2_handOver_1 ++ dktX2_handOver_2
def dkwX2_handOver_0 : List UInt8 := [42, 27, 182, 1, 83, 61, 42, 42, 180, 0, 47, 28, 28, 153, 0, 32, 42, 27, 182, 1, 49, 158, 0, 24]
abbrev dktX2_handOver_0 : List UInt8 := dkwX2_handOver_0 ++ dktX2_handOver_1
theorem dksX2_handOver_0 : cX2_handOver.data.toList.drop 0 = dktX2_handOver_0 := by decide +kernel
theorem dksX2_handOver_1 : cX2_handOver.data.toList.drop 24 = dktX2_handOver_1 := dk_seg dksX2_handOver_0 24 rfl rfl
theorem dksX2_handOver_2 : cX2_handOver.data.toList.drop 46 = dktX2_handOver_2 := dk_seg dksX2_handOver_1 22 rfl rfl
theorem dksX2_handOver_3 : cX2_handOver.data.toList.drop 70 = dktX2_handOver_3 := dk_seg dksX2_handOver_2 24 rfl rfl
theorem dksX2_handOver_4 : cX2_handOver.data.toList.drop 94 = dktX2_handOver_4 := dk_seg dksX2_handOver_3 24 rfl rfl
theorem dksX2_handOver_5 : cX2_handOver.data.toList.drop 116 = dktX2_handOver_5 := dk_seg dksX2_handOver_4 22 rfl rfl
theorem dX2_handOver_0 : decode cX2_handOver 0 = .ok (.aload_n 0, 1) := dk_42 (dk_at dksX2_handOver_0 0 rfl rfl)
theorem dX2_handOver_1 : decode cX2_handOver 1 = .ok (.iload_n 1, 1) := dk_27 (dk_at dksX2_handOver_0 1 rfl rfl)
theorem dX2_handOver_2 : decode cX2_handOver 2 = .ok (.invokevirtual 339, 3) := dk_182 1 83 (dk_at dksX2_handOver_0 2 rfl rfl)
theorem dX2_handOver_5 : decode cX2_handOver 5 = .ok (.istore_n 2, 1) := dk_61 (dk_at dksX2_handOver_0 5 rfl rfl)
theorem dX2_handOver_6 : decode cX2_handOver 6 = .ok (.aload_n 0, 1) := dk_42 (dk_at dksX2_handOver_0 6 rfl rfl)
theorem dX2_handOver_7 : decode cX2_handOver 7 = .ok (.aload_n 0, 1) := dk_42 (dk_at dksX2_handOver_0 7 rfl rfl)
theorem dX2_handOver_8 : decode cX2_handOver 8 = .ok (.getfield 47, 3) := dk_180 0 47 (dk_at dksX2_handOver_0 8 rfl rfl)
theorem dX2_handOver_11 : decode cX2_handOver 11 = .ok (.iload_n 2, 1) := dk_28 (dk_at dksX2_handOver_0 11 rfl rfl)
theorem dX2_handOver_12 : decode cX2_handOver 12 = .ok (.iload_n 2, 1) := dk_28 (dk_at dksX2_handOver_0 12 rfl rfl)
theorem dX2_handOver_13 : decode cX2_handOver 13 = .ok (.ifCond .eq 32, 3) := dk_153 0 32 (dk_at dksX2_handOver_0 13 rfl rfl)
theorem dX2_handOver_16 : decode cX2_handOver 16 = .ok (.aload_n 0, 1) := dk_42 (dk_at dksX2_handOver_0 16 rfl rfl)
theorem dX2_handOver_17 : decode cX2_handOver 17 = .ok (.iload_n 1, 1) := dk_27 (dk_at dksX2_handOver_0 17 rfl rfl)
theorem dX2_handOver_18 : decode cX2_handOver 18 = .ok (.invokevirtual 305, 3) := dk_182 1 49 (dk_at dksX2_handOver_0 18 rfl rfl)
theorem dX2_handOver_21 : decode cX2_handOver 21 = .ok (.ifCond .le 24, 3) := dk_158 0 24 (dk_at dksX2_handOver_0 21 rfl rfl)
theorem dX2_handOver_24 : decode cX2_handOver 24 = .ok (.aload_n 0, 1) := dk_42 (dk_at dksX2_handOver_1 0 rfl rfl)
theorem dX2_handOver_25 : decode cX2_handOver 25 = .ok (.iload_n 1, 1) := dk_27 (dk_at dksX2_handOver_1 1 rfl rfl)
theorem dX2_handOver_26 : decode cX2_handOver 26 = .ok (.invokevirtual 345, 3) := dk_182 1 89 (dk_at dksX2_handOver_1 2 rfl rfl)
theorem dX2_handOver_29 : decode cX2_handOver 29 = .ok (.ifCond .ne 16, 3) := dk_154 0 16 (dk_at dksX2_handOver_1 5 rfl rfl)
theorem dX2_handOver_32 : decode cX2_handOver 32 = .ok (.aload_n 0, 1) := dk_42 (dk_at dksX2_handOver_1 8 rfl rfl)
theorem dX2_handOver_33 : decode cX2_handOver 33 = .ok (.iload_n 1, 1) := dk_27 (dk_at dksX2_handOver_1 9 rfl rfl)
theorem dX2_handOver_34 : decode cX2_handOver 34 = .ok (.invokevirtual 370, 3) := dk_182 1 114 (dk_at dksX2_handOver_1 10 rfl rfl)
theorem dX2_handOver_37 : decode cX2_handOver 37 = .ok (.iconst (-1), 1) := dk_2 (dk_at dksX2_handOver_1 13 rfl rfl)
theorem dX2_handOver_38 : decode cX2_handOver 38 = .ok (.if_icmp .ne 7, 3) := dk_160 0 7 (dk_at dksX2_handOver_1 14 rfl rfl)
theorem dX2_handOver_41 : decode cX2_handOver 41 = .ok (.iconst 1, 1) := dk_4 (dk_at dksX2_handOver_1 17 rfl rfl)
theorem dX2_handOver_42 : decode cX2_handOver 42 = .ok (.goto 4, 3) := dk_167 0 4 (dk_at dksX2_handOver_1 18 rfl rfl)
theorem dX2_handOver_45 : decode cX2_handOver 45 = .ok (.iconst 0, 1) := dk_3 (dk_at dksX2_handOver_1 21 rfl rfl)
theorem dX2_handOver_46 : decode cX2_handOver 46 = .ok (.invokevirtual 43, 3) := dk_182 0 43 (dk_at dksX2_handOver_2 0 rfl rfl)
theorem dX2_handOver_49 : decode cX2_handOver 49 = .ok (.ifCond .ne 5, 3) := dk_154 0 5 (dk_at dksX2_handOver_2 3 rfl rfl)
theorem dX2_handOver_52 : decode cX2_handOver 52 = .ok (.iconst 0, 1) := dk_3 (dk_at dksX2_handOver_2 6 rfl rfl)
theorem dX2_handOver_53 : decode cX2_handOver 53 = .ok (.ireturn, 1) := dk_172 (dk_at dksX2_handOver_2 7 rfl rfl)
theorem dX2_handOver_54 : decode cX2_handOver 54 = .ok (.aload_n 0, 1) := dk_42 (dk_at dksX2_handOver_2 8 rfl rfl)
theorem dX2_handOver_55 : decode cX2_handOver 55 = .ok (.invokevirtual 440, 3) := dk_182 1 184 (dk_at dksX2_handOver_2 9 rfl rfl)
theorem dX2_handOver_58 : decode cX2_handOver 58 = .ok (.aload_n 0, 1) := dk_42 (dk_at dksX2_handOver_2 12 rfl rfl)
theorem dX2_handOver_59 : decode cX2_handOver 59 = .ok (.iload_n 1, 1) := dk_27 (dk_at dksX2_handOver_2 13 rfl rfl)
theorem dX2_handOver_60 : decode cX2_handOver 60 = .ok (.aload_n 0, 1) := dk_42 (dk_at dksX2_handOver_2 14 rfl rfl)
theorem dX2_handOver_61 : decode cX2_handOver 61 = .ok (.getfield 9, 3) := dk_180 0 9 (dk_at dksX2_handOver_2 15 rfl rfl)
theorem dX2_handOver_64 : decode cX2_handOver 64 = .ok (.iconst 0, 1) := dk_3 (dk_at dksX2_handOver_2 18 rfl rfl)
theorem dX2_handOver_65 : decode cX2_handOver 65 = .ok (.iaload, 1) := dk_46 (dk_at dksX2_handOver_2 19 rfl rfl)
theorem dX2_handOver_66 : decode cX2_handOver 66 = .ok (.invokevirtual 407, 3) := dk_182 1 151 (dk_at dksX2_handOver_2 20 rfl rfl)
theorem dX2_handOver_69 : decode cX2_handOver 69 = .ok (.istore_n 3, 1) := dk_62 (dk_at dksX2_handOver_2 23 rfl rfl)
theorem dX2_handOver_70 : decode cX2_handOver 70 = .ok (.aload_n 0, 1) := dk_42 (dk_at dksX2_handOver_3 0 rfl rfl)
theorem dX2_handOver_71 : decode cX2_handOver 71 = .ok (.getfield 9, 3) := dk_180 0 9 (dk_at dksX2_handOver_3 1 rfl rfl)
theorem dX2_handOver_74 : decode cX2_handOver 74 = .ok (.iconst 2, 1) := dk_5 (dk_at dksX2_handOver_3 4 rfl rfl)
theorem dX2_handOver_75 : decode cX2_handOver 75 = .ok (.dup2, 1) := dk_92 (dk_at dksX2_handOver_3 5 rfl rfl)
theorem dX2_handOver_76 : decode cX2_handOver 76 = .ok (.iaload, 1) := dk_46 (dk_at dksX2_handOver_3 6 rfl rfl)
theorem dX2_handOver_77 : decode cX2_handOver 77 = .ok (.iload_n 3, 1) := dk_29 (dk_at dksX2_handOver_3 7 rfl rfl)
theorem dX2_handOver_78 : decode cX2_handOver 78 = .ok (.iadd, 1) := dk_96 (dk_at dksX2_handOver_3 8 rfl rfl)
theorem dX2_handOver_79 : decode cX2_handOver 79 = .ok (.iastore, 1) := dk_79 (dk_at dksX2_handOver_3 9 rfl rfl)
theorem dX2_handOver_80 : decode cX2_handOver 80 = .ok (.aload_n 0, 1) := dk_42 (dk_at dksX2_handOver_3 10 rfl rfl)
theorem dX2_handOver_81 : decode cX2_handOver 81 = .ok (.getfield 9, 3) := dk_180 0 9 (dk_at dksX2_handOver_3 11 rfl rfl)
theorem dX2_handOver_84 : decode cX2_handOver 84 = .ok (.iconst 3, 1) := dk_6 (dk_at dksX2_handOver_3 14 rfl rfl)
theorem dX2_handOver_85 : decode cX2_handOver 85 = .ok (.dup2, 1) := dk_92 (dk_at dksX2_handOver_3 15 rfl rfl)
theorem dX2_handOver_86 : decode cX2_handOver 86 = .ok (.iaload, 1) := dk_46 (dk_at dksX2_handOver_3 16 rfl rfl)
theorem dX2_handOver_87 : decode cX2_handOver 87 = .ok (.aload_n 0, 1) := dk_42 (dk_at dksX2_handOver_3 17 rfl rfl)
theorem dX2_handOver_88 : decode cX2_handOver 88 = .ok (.iload_n 1, 1) := dk_27 (dk_at dksX2_handOver_3 18 rfl rfl)
theorem dX2_handOver_89 : decode cX2_handOver 89 = .ok (.invokevirtual 305, 3) := dk_182 1 49 (dk_at dksX2_handOver_3 19 rfl rfl)
theorem dX2_handOver_92 : decode cX2_handOver 92 = .ok (.aload_n 0, 1) := dk_42 (dk_at dksX2_handOver_3 22 rfl rfl)
theorem dX2_handOver_93 : decode cX2_handOver 93 = .ok (.iload_n 1, 1) := dk_27 (dk_at dksX2_handOver_3 23 rfl rfl)
theorem dX2_handOver_94 : decode cX2_handOver 94 = .ok (.iconst 1, 1) := dk_4 (dk_at dksX2_handOver_4 0 rfl rfl)
theorem dX2_handOver_95 : decode cX2_handOver 95 = .ok (.invokevirtual 302, 3) := dk_182 1 46 (dk_at dksX2_handOver_4 1 rfl rfl)
theorem dX2_handOver_98 : decode cX2_handOver 98 = .ok (.imul, 1) := dk_104 (dk_at dksX2_handOver_4 4 rfl rfl)
theorem dX2_handOver_99 : decode cX2_handOver 99 = .ok (.iload_n 3, 1) := dk_29 (dk_at dksX2_handOver_4 5 rfl rfl)
theorem dX2_handOver_100 : decode cX2_handOver 100 = .ok (.isub, 1) := dk_100 (dk_at dksX2_handOver_4 6 rfl rfl)
theorem dX2_handOver_101 : decode cX2_handOver 101 = .ok (.iadd, 1) := dk_96 (dk_at dksX2_handOver_4 7 rfl rfl)
theorem dX2_handOver_102 : decode cX2_handOver 102 = .ok (.iastore, 1) := dk_79 (dk_at dksX2_handOver_4 8 rfl rfl)
theorem dX2_handOver_103 : decode cX2_handOver 103 = .ok (.aload_n 0, 1) := dk_42 (dk_at dksX2_handOver_4 9 rfl rfl)
theorem dX2_handOver_104 : decode cX2_handOver 104 = .ok (.iload_n 1, 1) := dk_27 (dk_at dksX2_handOver_4 10 rfl rfl)
theorem dX2_handOver_105 : decode cX2_handOver 105 = .ok (.iconst 3, 1) := dk_6 (dk_at dksX2_handOver_4 11 rfl rfl)
theorem dX2_handOver_106 : decode cX2_handOver 106 = .ok (.iconst 1, 1) := dk_4 (dk_at dksX2_handOver_4 12 rfl rfl)
theorem dX2_handOver_107 : decode cX2_handOver 107 = .ok (.invokevirtual 121, 3) := dk_182 0 121 (dk_at dksX2_handOver_4 13 rfl rfl)
theorem dX2_handOver_110 : decode cX2_handOver 110 = .ok (.aload_n 0, 1) := dk_42 (dk_at dksX2_handOver_4 16 rfl rfl)
theorem dX2_handOver_111 : decode cX2_handOver 111 = .ok (.iload_n 1, 1) := dk_27 (dk_at dksX2_handOver_4 17 rfl rfl)
theorem dX2_handOver_112 : decode cX2_handOver 112 = .ok (.iconst 4, 1) := dk_7 (dk_at dksX2_handOver_4 18 rfl rfl)
theorem dX2_handOver_113 : decode cX2_handOver 113 = .ok (.aload_n 0, 1) := dk_42 (dk_at dksX2_handOver_4 19 rfl rfl)
theorem dX2_handOver_114 : decode cX2_handOver 114 = .ok (.iload_n 1, 1) := dk_27 (dk_at dksX2_handOver_4 20 rfl rfl)
theorem dX2_handOver_115 : decode cX2_handOver 115 = .ok (.aload_n 0, 1) := dk_42 (dk_at dksX2_handOver_4 21 rfl rfl)
theorem dX2_handOver_116 : decode cX2_handOver 116 = .ok (.getfield 9, 3) := dk_180 0 9 (dk_at dksX2_handOver_5 0 rfl rfl)
theorem dX2_handOver_119 : decode cX2_handOver 119 = .ok (.iconst 0, 1) := dk_3 (dk_at dksX2_handOver_5 3 rfl rfl)
theorem dX2_handOver_120 : decode cX2_handOver 120 = .ok (.iaload, 1) := dk_46 (dk_at dksX2_handOver_5 4 rfl rfl)
theorem dX2_handOver_121 : decode cX2_handOver 121 = .ok (.invokevirtual 308, 3) := dk_182 1 52 (dk_at dksX2_handOver_5 5 rfl rfl)
theorem dX2_handOver_124 : decode cX2_handOver 124 = .ok (.invokevirtual 121, 3) := dk_182 0 121 (dk_at dksX2_handOver_5 8 rfl rfl)
theorem dX2_handOver_127 : decode cX2_handOver 127 = .ok (.aload_n 0, 1) := dk_42 (dk_at dksX2_handOver_5 11 rfl rfl)
theorem dX2_handOver_128 : decode cX2_handOver 128 = .ok (.iload_n 1, 1) := dk_27 (dk_at dksX2_handOver_5 12 rfl rfl)
theorem dX2_handOver_129 : decode cX2_handOver 129 = .ok (.invokevirtual 446, 3) := dk_182 1 190 (dk_at dksX2_handOver_5 13 rfl rfl)
theorem dX2_handOver_132 : decode cX2_handOver 132 = .ok (.iload_n 3, 1) := dk_29 (dk_at dksX2_handOver_5 16 rfl rfl)
theorem dX2_handOver_133 : decode cX2_handOver 133 = .ok (.ireturn, 1) := dk_172 (dk_at dksX2_handOver_5 17 rfl rfl)
abbrev cX2_leaves : ByteArray := prog_20_method_161_code
def yX2_leaves : MethodName := ⟨RX2, "leaves", "(I)V"⟩
def dkwX2_leaves_1 : List UInt8 := [28, 6, 2, 182, 0, 236, 132, 2, 1, 167, 255, 225, 177]
abbrev dktX2_leaves_1 : List UInt8 := dkwX2_leaves_1 ++ []
def dkwX2_leaves_0 : List UInt8 := [3, 61, 28, 42, 180, 0, 9, 16, 10, 46, 162, 0, 26, 42, 28, 3, 182, 0, 227, 27, 160, 0, 10, 42]
abbrev dktX2_leaves_0 : List UInt8 := dkwX2_leaves_0 ++ dktX2_leaves_1
theorem dksX2_leaves_0 : cX2_leaves.data.toList.drop 0 = dktX2_leaves_0 := by decide +kernel
theorem dksX2_leaves_1 : cX2_leaves.data.toList.drop 24 = dktX2_leaves_1 := dk_seg dksX2_leaves_0 24 rfl rfl
theorem dX2_leaves_0 : decode cX2_leaves 0 = .ok (.iconst 0, 1) := dk_3 (dk_at dksX2_leaves_0 0 rfl rfl)
theorem dX2_leaves_1 : decode cX2_leaves 1 = .ok (.istore_n 2, 1) := dk_61 (dk_at dksX2_leaves_0 1 rfl rfl)
theorem dX2_leaves_2 : decode cX2_leaves 2 = .ok (.iload_n 2, 1) := dk_28 (dk_at dksX2_leaves_0 2 rfl rfl)
theorem dX2_leaves_3 : decode cX2_leaves 3 = .ok (.aload_n 0, 1) := dk_42 (dk_at dksX2_leaves_0 3 rfl rfl)
theorem dX2_leaves_4 : decode cX2_leaves 4 = .ok (.getfield 9, 3) := dk_180 0 9 (dk_at dksX2_leaves_0 4 rfl rfl)
theorem dX2_leaves_7 : decode cX2_leaves 7 = .ok (.bipush 10, 2) := dk_16 10 (dk_at dksX2_leaves_0 7 rfl rfl)
theorem dX2_leaves_9 : decode cX2_leaves 9 = .ok (.iaload, 1) := dk_46 (dk_at dksX2_leaves_0 9 rfl rfl)
theorem dX2_leaves_10 : decode cX2_leaves 10 = .ok (.if_icmp .ge 26, 3) := dk_162 0 26 (dk_at dksX2_leaves_0 10 rfl rfl)
theorem dX2_leaves_13 : decode cX2_leaves 13 = .ok (.aload_n 0, 1) := dk_42 (dk_at dksX2_leaves_0 13 rfl rfl)
theorem dX2_leaves_14 : decode cX2_leaves 14 = .ok (.iload_n 2, 1) := dk_28 (dk_at dksX2_leaves_0 14 rfl rfl)
theorem dX2_leaves_15 : decode cX2_leaves 15 = .ok (.iconst 0, 1) := dk_3 (dk_at dksX2_leaves_0 15 rfl rfl)
theorem dX2_leaves_16 : decode cX2_leaves 16 = .ok (.invokevirtual 227, 3) := dk_182 0 227 (dk_at dksX2_leaves_0 16 rfl rfl)
theorem dX2_leaves_19 : decode cX2_leaves 19 = .ok (.iload_n 1, 1) := dk_27 (dk_at dksX2_leaves_0 19 rfl rfl)
theorem dX2_leaves_20 : decode cX2_leaves 20 = .ok (.if_icmp .ne 10, 3) := dk_160 0 10 (dk_at dksX2_leaves_0 20 rfl rfl)
theorem dX2_leaves_23 : decode cX2_leaves 23 = .ok (.aload_n 0, 1) := dk_42 (dk_at dksX2_leaves_0 23 rfl rfl)
theorem dX2_leaves_24 : decode cX2_leaves 24 = .ok (.iload_n 2, 1) := dk_28 (dk_at dksX2_leaves_1 0 rfl rfl)
theorem dX2_leaves_25 : decode cX2_leaves 25 = .ok (.iconst 3, 1) := dk_6 (dk_at dksX2_leaves_1 1 rfl rfl)
theorem dX2_leaves_26 : decode cX2_leaves 26 = .ok (.iconst (-1), 1) := dk_2 (dk_at dksX2_leaves_1 2 rfl rfl)
theorem dX2_leaves_27 : decode cX2_leaves 27 = .ok (.invokevirtual 236, 3) := dk_182 0 236 (dk_at dksX2_leaves_1 3 rfl rfl)
theorem dX2_leaves_30 : decode cX2_leaves 30 = .ok (.iinc 2 1, 3) := dk_132 2 1 (dk_at dksX2_leaves_1 6 rfl rfl)
theorem dX2_leaves_33 : decode cX2_leaves 33 = .ok (.goto (-31), 3) := dk_167 255 225 (dk_at dksX2_leaves_1 9 rfl rfl)
theorem dX2_leaves_36 : decode cX2_leaves 36 = .ok (.return_, 1) := dk_177 (dk_at dksX2_leaves_1 12 rfl rfl)
abbrev cX2_pass : ByteArray := prog_20_method_163_code
def yX2_pass : MethodName := ⟨RX2, "pass", "(I)I"⟩
def dkwX2_pass_2 : List UInt8 := [42, 180, 0, 9, 8, 46, 28, 100, 172]
abbrev dktX2_pass_2 : List UInt8 := dkwX2_pass_2 ++ []
def dkwX2_pass_1 : List UInt8 := [42, 180, 0, 9, 8, 46, 61, 3, 62, 29, 27, 162, 0, 13, 42, 182, 0, 155, 132, 3, 1, 167, 255, 244]
abbrev dktX2_pass_1 : List UInt8 := dkwX2_pass_1 ++ dktX2_pass_2
def dkwX2_pass_0 : List UInt8 := [42, 42, 180, 0, 47, 27, 4, 16, 50, 184, 0, 68, 182, 1, 58, 154, 0, 5, 3, 172, 42, 182, 1, 184]
abbrev dktX2_pass_0 : List UInt8 := dkwX2_pass_0 ++ dktX2_pass_1
theorem dksX2_pass_0 : cX2_pass.data.toList.drop 0 = dktX2_pass_0 := by decide +kernel
theorem dksX2_pass_1 : cX2_pass.data.toList.drop 24 = dktX2_pass_1 := dk_seg dksX2_pass_0 24 rfl rfl
theorem dksX2_pass_2 : cX2_pass.data.toList.drop 48 = dktX2_pass_2 := dk_seg dksX2_pass_1 24 rfl rfl
theorem dX2_pass_0 : decode cX2_pass 0 = .ok (.aload_n 0, 1) := dk_42 (dk_at dksX2_pass_0 0 rfl rfl)
theorem dX2_pass_1 : decode cX2_pass 1 = .ok (.aload_n 0, 1) := dk_42 (dk_at dksX2_pass_0 1 rfl rfl)
theorem dX2_pass_2 : decode cX2_pass 2 = .ok (.getfield 47, 3) := dk_180 0 47 (dk_at dksX2_pass_0 2 rfl rfl)
theorem dX2_pass_5 : decode cX2_pass 5 = .ok (.iload_n 1, 1) := dk_27 (dk_at dksX2_pass_0 5 rfl rfl)
theorem dX2_pass_6 : decode cX2_pass 6 = .ok (.iconst 1, 1) := dk_4 (dk_at dksX2_pass_0 6 rfl rfl)
theorem dX2_pass_7 : decode cX2_pass 7 = .ok (.bipush 50, 2) := dk_16 50 (dk_at dksX2_pass_0 7 rfl rfl)
theorem dX2_pass_9 : decode cX2_pass 9 = .ok (.invokestatic 68, 3) := dk_184 0 68 (dk_at dksX2_pass_0 9 rfl rfl)
theorem dX2_pass_12 : decode cX2_pass 12 = .ok (.invokevirtual 314, 3) := dk_182 1 58 (dk_at dksX2_pass_0 12 rfl rfl)
theorem dX2_pass_15 : decode cX2_pass 15 = .ok (.ifCond .ne 5, 3) := dk_154 0 5 (dk_at dksX2_pass_0 15 rfl rfl)
theorem dX2_pass_18 : decode cX2_pass 18 = .ok (.iconst 0, 1) := dk_3 (dk_at dksX2_pass_0 18 rfl rfl)
theorem dX2_pass_19 : decode cX2_pass 19 = .ok (.ireturn, 1) := dk_172 (dk_at dksX2_pass_0 19 rfl rfl)
theorem dX2_pass_20 : decode cX2_pass 20 = .ok (.aload_n 0, 1) := dk_42 (dk_at dksX2_pass_0 20 rfl rfl)
theorem dX2_pass_21 : decode cX2_pass 21 = .ok (.invokevirtual 440, 3) := dk_182 1 184 (dk_at dksX2_pass_0 21 rfl rfl)
theorem dX2_pass_24 : decode cX2_pass 24 = .ok (.aload_n 0, 1) := dk_42 (dk_at dksX2_pass_1 0 rfl rfl)
theorem dX2_pass_25 : decode cX2_pass 25 = .ok (.getfield 9, 3) := dk_180 0 9 (dk_at dksX2_pass_1 1 rfl rfl)
theorem dX2_pass_28 : decode cX2_pass 28 = .ok (.iconst 5, 1) := dk_8 (dk_at dksX2_pass_1 4 rfl rfl)
theorem dX2_pass_29 : decode cX2_pass 29 = .ok (.iaload, 1) := dk_46 (dk_at dksX2_pass_1 5 rfl rfl)
theorem dX2_pass_30 : decode cX2_pass 30 = .ok (.istore_n 2, 1) := dk_61 (dk_at dksX2_pass_1 6 rfl rfl)
theorem dX2_pass_31 : decode cX2_pass 31 = .ok (.iconst 0, 1) := dk_3 (dk_at dksX2_pass_1 7 rfl rfl)
theorem dX2_pass_32 : decode cX2_pass 32 = .ok (.istore_n 3, 1) := dk_62 (dk_at dksX2_pass_1 8 rfl rfl)
theorem dX2_pass_33 : decode cX2_pass 33 = .ok (.iload_n 3, 1) := dk_29 (dk_at dksX2_pass_1 9 rfl rfl)
theorem dX2_pass_34 : decode cX2_pass 34 = .ok (.iload_n 1, 1) := dk_27 (dk_at dksX2_pass_1 10 rfl rfl)
theorem dX2_pass_35 : decode cX2_pass 35 = .ok (.if_icmp .ge 13, 3) := dk_162 0 13 (dk_at dksX2_pass_1 11 rfl rfl)
theorem dX2_pass_38 : decode cX2_pass 38 = .ok (.aload_n 0, 1) := dk_42 (dk_at dksX2_pass_1 14 rfl rfl)
theorem dX2_pass_39 : decode cX2_pass 39 = .ok (.invokevirtual 155, 3) := dk_182 0 155 (dk_at dksX2_pass_1 15 rfl rfl)
theorem dX2_pass_42 : decode cX2_pass 42 = .ok (.iinc 3 1, 3) := dk_132 3 1 (dk_at dksX2_pass_1 18 rfl rfl)
theorem dX2_pass_45 : decode cX2_pass 45 = .ok (.goto (-12), 3) := dk_167 255 244 (dk_at dksX2_pass_1 21 rfl rfl)
theorem dX2_pass_48 : decode cX2_pass 48 = .ok (.aload_n 0, 1) := dk_42 (dk_at dksX2_pass_2 0 rfl rfl)
theorem dX2_pass_49 : decode cX2_pass 49 = .ok (.getfield 9, 3) := dk_180 0 9 (dk_at dksX2_pass_2 1 rfl rfl)
theorem dX2_pass_52 : decode cX2_pass 52 = .ok (.iconst 5, 1) := dk_8 (dk_at dksX2_pass_2 4 rfl rfl)
theorem dX2_pass_53 : decode cX2_pass 53 = .ok (.iaload, 1) := dk_46 (dk_at dksX2_pass_2 5 rfl rfl)
theorem dX2_pass_54 : decode cX2_pass 54 = .ok (.iload_n 2, 1) := dk_28 (dk_at dksX2_pass_2 6 rfl rfl)
theorem dX2_pass_55 : decode cX2_pass 55 = .ok (.isub, 1) := dk_100 (dk_at dksX2_pass_2 7 rfl rfl)
theorem dX2_pass_56 : decode cX2_pass 56 = .ok (.ireturn, 1) := dk_172 (dk_at dksX2_pass_2 8 rfl rfl)
abbrev cX2_setWind : ByteArray := prog_20_method_164_code
def yX2_setWind : MethodName := ⟨RX2, "setWind", "(I)I"⟩
def dkwX2_setWind_1 : List UInt8 := [180, 0, 9, 4, 46, 61, 42, 180, 0, 9, 4, 27, 79, 28, 172]
abbrev dktX2_setWind_1 : List UInt8 := dkwX2_setWind_1 ++ []
def dkwX2_setWind_0 : List UInt8 := [42, 42, 180, 0, 47, 27, 184, 1, 148, 182, 1, 58, 154, 0, 5, 3, 172, 42, 182, 1, 184, 42]
abbrev dktX2_setWind_0 : List UInt8 := dkwX2_setWind_0 ++ dktX2_setWind_1
theorem dksX2_setWind_0 : cX2_setWind.data.toList.drop 0 = dktX2_setWind_0 := by decide +kernel
theorem dksX2_setWind_1 : cX2_setWind.data.toList.drop 22 = dktX2_setWind_1 := dk_seg dksX2_setWind_0 22 rfl rfl
theorem dX2_setWind_0 : decode cX2_setWind 0 = .ok (.aload_n 0, 1) := dk_42 (dk_at dksX2_setWind_0 0 rfl rfl)
theorem dX2_setWind_1 : decode cX2_setWind 1 = .ok (.aload_n 0, 1) := dk_42 (dk_at dksX2_setWind_0 1 rfl rfl)
theorem dX2_setWind_2 : decode cX2_setWind 2 = .ok (.getfield 47, 3) := dk_180 0 47 (dk_at dksX2_setWind_0 2 rfl rfl)
theorem dX2_setWind_5 : decode cX2_setWind 5 = .ok (.iload_n 1, 1) := dk_27 (dk_at dksX2_setWind_0 5 rfl rfl)
theorem dX2_setWind_6 : decode cX2_setWind 6 = .ok (.invokestatic 404, 3) := dk_184 1 148 (dk_at dksX2_setWind_0 6 rfl rfl)
theorem dX2_setWind_9 : decode cX2_setWind 9 = .ok (.invokevirtual 314, 3) := dk_182 1 58 (dk_at dksX2_setWind_0 9 rfl rfl)
theorem dX2_setWind_12 : decode cX2_setWind 12 = .ok (.ifCond .ne 5, 3) := dk_154 0 5 (dk_at dksX2_setWind_0 12 rfl rfl)
theorem dX2_setWind_15 : decode cX2_setWind 15 = .ok (.iconst 0, 1) := dk_3 (dk_at dksX2_setWind_0 15 rfl rfl)
theorem dX2_setWind_16 : decode cX2_setWind 16 = .ok (.ireturn, 1) := dk_172 (dk_at dksX2_setWind_0 16 rfl rfl)
theorem dX2_setWind_17 : decode cX2_setWind 17 = .ok (.aload_n 0, 1) := dk_42 (dk_at dksX2_setWind_0 17 rfl rfl)
theorem dX2_setWind_18 : decode cX2_setWind 18 = .ok (.invokevirtual 440, 3) := dk_182 1 184 (dk_at dksX2_setWind_0 18 rfl rfl)
theorem dX2_setWind_21 : decode cX2_setWind 21 = .ok (.aload_n 0, 1) := dk_42 (dk_at dksX2_setWind_0 21 rfl rfl)
theorem dX2_setWind_22 : decode cX2_setWind 22 = .ok (.getfield 9, 3) := dk_180 0 9 (dk_at dksX2_setWind_1 0 rfl rfl)
theorem dX2_setWind_25 : decode cX2_setWind 25 = .ok (.iconst 1, 1) := dk_4 (dk_at dksX2_setWind_1 3 rfl rfl)
theorem dX2_setWind_26 : decode cX2_setWind 26 = .ok (.iaload, 1) := dk_46 (dk_at dksX2_setWind_1 4 rfl rfl)
theorem dX2_setWind_27 : decode cX2_setWind 27 = .ok (.istore_n 2, 1) := dk_61 (dk_at dksX2_setWind_1 5 rfl rfl)
theorem dX2_setWind_28 : decode cX2_setWind 28 = .ok (.aload_n 0, 1) := dk_42 (dk_at dksX2_setWind_1 6 rfl rfl)
theorem dX2_setWind_29 : decode cX2_setWind 29 = .ok (.getfield 9, 3) := dk_180 0 9 (dk_at dksX2_setWind_1 7 rfl rfl)
theorem dX2_setWind_32 : decode cX2_setWind 32 = .ok (.iconst 1, 1) := dk_4 (dk_at dksX2_setWind_1 10 rfl rfl)
theorem dX2_setWind_33 : decode cX2_setWind 33 = .ok (.iload_n 1, 1) := dk_27 (dk_at dksX2_setWind_1 11 rfl rfl)
theorem dX2_setWind_34 : decode cX2_setWind 34 = .ok (.iastore, 1) := dk_79 (dk_at dksX2_setWind_1 12 rfl rfl)
theorem dX2_setWind_35 : decode cX2_setWind 35 = .ok (.iload_n 2, 1) := dk_28 (dk_at dksX2_setWind_1 13 rfl rfl)
theorem dX2_setWind_36 : decode cX2_setWind 36 = .ok (.ireturn, 1) := dk_172 (dk_at dksX2_setWind_1 14 rfl rfl)
abbrev cX2_addFlag : ByteArray := prog_20_method_165_code
def yX2_addFlag : MethodName := ⟨RX2, "addFlag", "(IIII)I"⟩
def dkwX2_addFlag_4 : List UInt8 := [182, 0, 43, 154, 0, 5, 3, 172, 42, 182, 1, 184, 42, 27, 28, 29, 21, 4, 182, 0, 133, 172]
abbrev dktX2_addFlag_4 : List UInt8 := dkwX2_addFlag_4 ++ []
def dkwX2_addFlag_3 : List UInt8 := [182, 1, 89, 154, 0, 19, 42, 180, 0, 9, 16, 10, 46, 16, 12, 162, 0, 7, 4, 167, 0, 4, 3]
abbrev dktX2_addFlag_3 : List UInt8 := dkwX2_addFlag_3 ++ dktX2_addFlag_4
def dkwX2_addFlag_2 : List UInt8 := [153, 0, 7, 4, 167, 0, 4, 3, 54, 6, 42, 42, 180, 0, 47, 21, 5, 21, 6, 153, 0, 27, 42, 27]
abbrev dktX2_addFlag_2 : List UInt8 := dkwX2_addFlag_2 ++ dktX2_addFlag_3
def dkwX2_addFlag_1 : List UInt8 := [100, 184, 0, 68, 153, 0, 27, 29, 3, 6, 184, 0, 68, 153, 0, 18, 21, 4, 3, 16, 9, 184, 0, 68]
abbrev dktX2_addFlag_1 : List UInt8 := dkwX2_addFlag_1 ++ dktX2_addFlag_2
def dkwX2_addFlag_0 : List UInt8 := [42, 27, 182, 1, 83, 54, 5, 21, 5, 153, 0, 46, 28, 4, 4, 42, 180, 0, 9, 16, 6, 46, 120, 4]
abbrev dktX2_addFlag_0 : List UInt8 := dkwX2_addFlag_0 ++ dktX2_addFlag_1
theorem dksX2_addFlag_0 : cX2_addFlag.data.toList.drop 0 = dktX2_addFlag_0 := by decide +kernel
theorem dksX2_addFlag_1 : cX2_addFlag.data.toList.drop 24 = dktX2_addFlag_1 := dk_seg dksX2_addFlag_0 24 rfl rfl
theorem dksX2_addFlag_2 : cX2_addFlag.data.toList.drop 48 = dktX2_addFlag_2 := dk_seg dksX2_addFlag_1 24 rfl rfl
theorem dksX2_addFlag_3 : cX2_addFlag.data.toList.drop 72 = dktX2_addFlag_3 := dk_seg dksX2_addFlag_2 24 rfl rfl
theorem dksX2_addFlag_4 : cX2_addFlag.data.toList.drop 95 = dktX2_addFlag_4 := dk_seg dksX2_addFlag_3 23 rfl rfl
theorem dX2_addFlag_0 : decode cX2_addFlag 0 = .ok (.aload_n 0, 1) := dk_42 (dk_at dksX2_addFlag_0 0 rfl rfl)
theorem dX2_addFlag_1 : decode cX2_addFlag 1 = .ok (.iload_n 1, 1) := dk_27 (dk_at dksX2_addFlag_0 1 rfl rfl)
theorem dX2_addFlag_2 : decode cX2_addFlag 2 = .ok (.invokevirtual 339, 3) := dk_182 1 83 (dk_at dksX2_addFlag_0 2 rfl rfl)
theorem dX2_addFlag_5 : decode cX2_addFlag 5 = .ok (.istore 5, 2) := dk_54 5 (dk_at dksX2_addFlag_0 5 rfl rfl)
theorem dX2_addFlag_7 : decode cX2_addFlag 7 = .ok (.iload 5, 2) := dk_21 5 (dk_at dksX2_addFlag_0 7 rfl rfl)
theorem dX2_addFlag_9 : decode cX2_addFlag 9 = .ok (.ifCond .eq 46, 3) := dk_153 0 46 (dk_at dksX2_addFlag_0 9 rfl rfl)
theorem dX2_addFlag_12 : decode cX2_addFlag 12 = .ok (.iload_n 2, 1) := dk_28 (dk_at dksX2_addFlag_0 12 rfl rfl)
theorem dX2_addFlag_13 : decode cX2_addFlag 13 = .ok (.iconst 1, 1) := dk_4 (dk_at dksX2_addFlag_0 13 rfl rfl)
theorem dX2_addFlag_14 : decode cX2_addFlag 14 = .ok (.iconst 1, 1) := dk_4 (dk_at dksX2_addFlag_0 14 rfl rfl)
theorem dX2_addFlag_15 : decode cX2_addFlag 15 = .ok (.aload_n 0, 1) := dk_42 (dk_at dksX2_addFlag_0 15 rfl rfl)
theorem dX2_addFlag_16 : decode cX2_addFlag 16 = .ok (.getfield 9, 3) := dk_180 0 9 (dk_at dksX2_addFlag_0 16 rfl rfl)
theorem dX2_addFlag_19 : decode cX2_addFlag 19 = .ok (.bipush 6, 2) := dk_16 6 (dk_at dksX2_addFlag_0 19 rfl rfl)
theorem dX2_addFlag_21 : decode cX2_addFlag 21 = .ok (.iaload, 1) := dk_46 (dk_at dksX2_addFlag_0 21 rfl rfl)
theorem dX2_addFlag_22 : decode cX2_addFlag 22 = .ok (.ishl, 1) := dk_120 (dk_at dksX2_addFlag_0 22 rfl rfl)
theorem dX2_addFlag_23 : decode cX2_addFlag 23 = .ok (.iconst 1, 1) := dk_4 (dk_at dksX2_addFlag_0 23 rfl rfl)
theorem dX2_addFlag_24 : decode cX2_addFlag 24 = .ok (.isub, 1) := dk_100 (dk_at dksX2_addFlag_1 0 rfl rfl)
theorem dX2_addFlag_25 : decode cX2_addFlag 25 = .ok (.invokestatic 68, 3) := dk_184 0 68 (dk_at dksX2_addFlag_1 1 rfl rfl)
theorem dX2_addFlag_28 : decode cX2_addFlag 28 = .ok (.ifCond .eq 27, 3) := dk_153 0 27 (dk_at dksX2_addFlag_1 4 rfl rfl)
theorem dX2_addFlag_31 : decode cX2_addFlag 31 = .ok (.iload_n 3, 1) := dk_29 (dk_at dksX2_addFlag_1 7 rfl rfl)
theorem dX2_addFlag_32 : decode cX2_addFlag 32 = .ok (.iconst 0, 1) := dk_3 (dk_at dksX2_addFlag_1 8 rfl rfl)
theorem dX2_addFlag_33 : decode cX2_addFlag 33 = .ok (.iconst 3, 1) := dk_6 (dk_at dksX2_addFlag_1 9 rfl rfl)
theorem dX2_addFlag_34 : decode cX2_addFlag 34 = .ok (.invokestatic 68, 3) := dk_184 0 68 (dk_at dksX2_addFlag_1 10 rfl rfl)
theorem dX2_addFlag_37 : decode cX2_addFlag 37 = .ok (.ifCond .eq 18, 3) := dk_153 0 18 (dk_at dksX2_addFlag_1 13 rfl rfl)
theorem dX2_addFlag_40 : decode cX2_addFlag 40 = .ok (.iload 4, 2) := dk_21 4 (dk_at dksX2_addFlag_1 16 rfl rfl)
theorem dX2_addFlag_42 : decode cX2_addFlag 42 = .ok (.iconst 0, 1) := dk_3 (dk_at dksX2_addFlag_1 18 rfl rfl)
theorem dX2_addFlag_43 : decode cX2_addFlag 43 = .ok (.bipush 9, 2) := dk_16 9 (dk_at dksX2_addFlag_1 19 rfl rfl)
theorem dX2_addFlag_45 : decode cX2_addFlag 45 = .ok (.invokestatic 68, 3) := dk_184 0 68 (dk_at dksX2_addFlag_1 21 rfl rfl)
theorem dX2_addFlag_48 : decode cX2_addFlag 48 = .ok (.ifCond .eq 7, 3) := dk_153 0 7 (dk_at dksX2_addFlag_2 0 rfl rfl)
theorem dX2_addFlag_51 : decode cX2_addFlag 51 = .ok (.iconst 1, 1) := dk_4 (dk_at dksX2_addFlag_2 3 rfl rfl)
theorem dX2_addFlag_52 : decode cX2_addFlag 52 = .ok (.goto 4, 3) := dk_167 0 4 (dk_at dksX2_addFlag_2 4 rfl rfl)
theorem dX2_addFlag_55 : decode cX2_addFlag 55 = .ok (.iconst 0, 1) := dk_3 (dk_at dksX2_addFlag_2 7 rfl rfl)
theorem dX2_addFlag_56 : decode cX2_addFlag 56 = .ok (.istore 6, 2) := dk_54 6 (dk_at dksX2_addFlag_2 8 rfl rfl)
theorem dX2_addFlag_58 : decode cX2_addFlag 58 = .ok (.aload_n 0, 1) := dk_42 (dk_at dksX2_addFlag_2 10 rfl rfl)
theorem dX2_addFlag_59 : decode cX2_addFlag 59 = .ok (.aload_n 0, 1) := dk_42 (dk_at dksX2_addFlag_2 11 rfl rfl)
theorem dX2_addFlag_60 : decode cX2_addFlag 60 = .ok (.getfield 47, 3) := dk_180 0 47 (dk_at dksX2_addFlag_2 12 rfl rfl)
theorem dX2_addFlag_63 : decode cX2_addFlag 63 = .ok (.iload 5, 2) := dk_21 5 (dk_at dksX2_addFlag_2 15 rfl rfl)
theorem dX2_addFlag_65 : decode cX2_addFlag 65 = .ok (.iload 6, 2) := dk_21 6 (dk_at dksX2_addFlag_2 17 rfl rfl)
theorem dX2_addFlag_67 : decode cX2_addFlag 67 = .ok (.ifCond .eq 27, 3) := dk_153 0 27 (dk_at dksX2_addFlag_2 19 rfl rfl)
theorem dX2_addFlag_70 : decode cX2_addFlag 70 = .ok (.aload_n 0, 1) := dk_42 (dk_at dksX2_addFlag_2 22 rfl rfl)
theorem dX2_addFlag_71 : decode cX2_addFlag 71 = .ok (.iload_n 1, 1) := dk_27 (dk_at dksX2_addFlag_2 23 rfl rfl)
theorem dX2_addFlag_72 : decode cX2_addFlag 72 = .ok (.invokevirtual 345, 3) := dk_182 1 89 (dk_at dksX2_addFlag_3 0 rfl rfl)
theorem dX2_addFlag_75 : decode cX2_addFlag 75 = .ok (.ifCond .ne 19, 3) := dk_154 0 19 (dk_at dksX2_addFlag_3 3 rfl rfl)
theorem dX2_addFlag_78 : decode cX2_addFlag 78 = .ok (.aload_n 0, 1) := dk_42 (dk_at dksX2_addFlag_3 6 rfl rfl)
theorem dX2_addFlag_79 : decode cX2_addFlag 79 = .ok (.getfield 9, 3) := dk_180 0 9 (dk_at dksX2_addFlag_3 7 rfl rfl)
theorem dX2_addFlag_82 : decode cX2_addFlag 82 = .ok (.bipush 10, 2) := dk_16 10 (dk_at dksX2_addFlag_3 10 rfl rfl)
theorem dX2_addFlag_84 : decode cX2_addFlag 84 = .ok (.iaload, 1) := dk_46 (dk_at dksX2_addFlag_3 12 rfl rfl)
theorem dX2_addFlag_85 : decode cX2_addFlag 85 = .ok (.bipush 12, 2) := dk_16 12 (dk_at dksX2_addFlag_3 13 rfl rfl)
theorem dX2_addFlag_87 : decode cX2_addFlag 87 = .ok (.if_icmp .ge 7, 3) := dk_162 0 7 (dk_at dksX2_addFlag_3 15 rfl rfl)
theorem dX2_addFlag_90 : decode cX2_addFlag 90 = .ok (.iconst 1, 1) := dk_4 (dk_at dksX2_addFlag_3 18 rfl rfl)
theorem dX2_addFlag_91 : decode cX2_addFlag 91 = .ok (.goto 4, 3) := dk_167 0 4 (dk_at dksX2_addFlag_3 19 rfl rfl)
theorem dX2_addFlag_94 : decode cX2_addFlag 94 = .ok (.iconst 0, 1) := dk_3 (dk_at dksX2_addFlag_3 22 rfl rfl)
theorem dX2_addFlag_95 : decode cX2_addFlag 95 = .ok (.invokevirtual 43, 3) := dk_182 0 43 (dk_at dksX2_addFlag_4 0 rfl rfl)
theorem dX2_addFlag_98 : decode cX2_addFlag 98 = .ok (.ifCond .ne 5, 3) := dk_154 0 5 (dk_at dksX2_addFlag_4 3 rfl rfl)
theorem dX2_addFlag_101 : decode cX2_addFlag 101 = .ok (.iconst 0, 1) := dk_3 (dk_at dksX2_addFlag_4 6 rfl rfl)
theorem dX2_addFlag_102 : decode cX2_addFlag 102 = .ok (.ireturn, 1) := dk_172 (dk_at dksX2_addFlag_4 7 rfl rfl)
theorem dX2_addFlag_103 : decode cX2_addFlag 103 = .ok (.aload_n 0, 1) := dk_42 (dk_at dksX2_addFlag_4 8 rfl rfl)
theorem dX2_addFlag_104 : decode cX2_addFlag 104 = .ok (.invokevirtual 440, 3) := dk_182 1 184 (dk_at dksX2_addFlag_4 9 rfl rfl)
theorem dX2_addFlag_107 : decode cX2_addFlag 107 = .ok (.aload_n 0, 1) := dk_42 (dk_at dksX2_addFlag_4 12 rfl rfl)
theorem dX2_addFlag_108 : decode cX2_addFlag 108 = .ok (.iload_n 1, 1) := dk_27 (dk_at dksX2_addFlag_4 13 rfl rfl)
theorem dX2_addFlag_109 : decode cX2_addFlag 109 = .ok (.iload_n 2, 1) := dk_28 (dk_at dksX2_addFlag_4 14 rfl rfl)
theorem dX2_addFlag_110 : decode cX2_addFlag 110 = .ok (.iload_n 3, 1) := dk_29 (dk_at dksX2_addFlag_4 15 rfl rfl)
theorem dX2_addFlag_111 : decode cX2_addFlag 111 = .ok (.iload 4, 2) := dk_21 4 (dk_at dksX2_addFlag_4 16 rfl rfl)
theorem dX2_addFlag_113 : decode cX2_addFlag 113 = .ok (.invokevirtual 133, 3) := dk_182 0 133 (dk_at dksX2_addFlag_4 18 rfl rfl)
theorem dX2_addFlag_116 : decode cX2_addFlag 116 = .ok (.ireturn, 1) := dk_172 (dk_at dksX2_addFlag_4 21 rfl rfl)
abbrev cX2_undo : ByteArray := prog_20_method_166_code
def yX2_undo : MethodName := ⟨RX2, "undo", "()I"⟩
def dkwX2_undo_2 : List UInt8 := [180, 0, 9, 3, 184, 0, 51, 42, 180, 0, 224, 172]
abbrev dktX2_undo_2 : List UInt8 := dkwX2_undo_2 ++ []
def dkwX2_undo_1 : List UInt8 := [89, 180, 0, 224, 4, 100, 181, 0, 224, 42, 180, 0, 16, 42, 180, 0, 224, 17, 0, 173, 104, 42]
abbrev dktX2_undo_1 : List UInt8 := dkwX2_undo_1 ++ dktX2_undo_2
def dkwX2_undo_0 : List UInt8 := [42, 42, 180, 0, 224, 158, 0, 7, 4, 167, 0, 4, 3, 4, 4, 182, 0, 43, 154, 0, 5, 3, 172, 42]
abbrev dktX2_undo_0 : List UInt8 := dkwX2_undo_0 ++ dktX2_undo_1
theorem dksX2_undo_0 : cX2_undo.data.toList.drop 0 = dktX2_undo_0 := by decide +kernel
theorem dksX2_undo_1 : cX2_undo.data.toList.drop 24 = dktX2_undo_1 := dk_seg dksX2_undo_0 24 rfl rfl
theorem dksX2_undo_2 : cX2_undo.data.toList.drop 46 = dktX2_undo_2 := dk_seg dksX2_undo_1 22 rfl rfl
theorem dX2_undo_0 : decode cX2_undo 0 = .ok (.aload_n 0, 1) := dk_42 (dk_at dksX2_undo_0 0 rfl rfl)
theorem dX2_undo_1 : decode cX2_undo 1 = .ok (.aload_n 0, 1) := dk_42 (dk_at dksX2_undo_0 1 rfl rfl)
theorem dX2_undo_2 : decode cX2_undo 2 = .ok (.getfield 224, 3) := dk_180 0 224 (dk_at dksX2_undo_0 2 rfl rfl)
theorem dX2_undo_5 : decode cX2_undo 5 = .ok (.ifCond .le 7, 3) := dk_158 0 7 (dk_at dksX2_undo_0 5 rfl rfl)
theorem dX2_undo_8 : decode cX2_undo 8 = .ok (.iconst 1, 1) := dk_4 (dk_at dksX2_undo_0 8 rfl rfl)
theorem dX2_undo_9 : decode cX2_undo 9 = .ok (.goto 4, 3) := dk_167 0 4 (dk_at dksX2_undo_0 9 rfl rfl)
theorem dX2_undo_12 : decode cX2_undo 12 = .ok (.iconst 0, 1) := dk_3 (dk_at dksX2_undo_0 12 rfl rfl)
theorem dX2_undo_13 : decode cX2_undo 13 = .ok (.iconst 1, 1) := dk_4 (dk_at dksX2_undo_0 13 rfl rfl)
theorem dX2_undo_14 : decode cX2_undo 14 = .ok (.iconst 1, 1) := dk_4 (dk_at dksX2_undo_0 14 rfl rfl)
theorem dX2_undo_15 : decode cX2_undo 15 = .ok (.invokevirtual 43, 3) := dk_182 0 43 (dk_at dksX2_undo_0 15 rfl rfl)
theorem dX2_undo_18 : decode cX2_undo 18 = .ok (.ifCond .ne 5, 3) := dk_154 0 5 (dk_at dksX2_undo_0 18 rfl rfl)
theorem dX2_undo_21 : decode cX2_undo 21 = .ok (.iconst 0, 1) := dk_3 (dk_at dksX2_undo_0 21 rfl rfl)
theorem dX2_undo_22 : decode cX2_undo 22 = .ok (.ireturn, 1) := dk_172 (dk_at dksX2_undo_0 22 rfl rfl)
theorem dX2_undo_23 : decode cX2_undo 23 = .ok (.aload_n 0, 1) := dk_42 (dk_at dksX2_undo_0 23 rfl rfl)
theorem dX2_undo_24 : decode cX2_undo 24 = .ok (.dup, 1) := dk_89 (dk_at dksX2_undo_1 0 rfl rfl)
theorem dX2_undo_25 : decode cX2_undo 25 = .ok (.getfield 224, 3) := dk_180 0 224 (dk_at dksX2_undo_1 1 rfl rfl)
theorem dX2_undo_28 : decode cX2_undo 28 = .ok (.iconst 1, 1) := dk_4 (dk_at dksX2_undo_1 4 rfl rfl)
theorem dX2_undo_29 : decode cX2_undo 29 = .ok (.isub, 1) := dk_100 (dk_at dksX2_undo_1 5 rfl rfl)
theorem dX2_undo_30 : decode cX2_undo 30 = .ok (.putfield 224, 3) := dk_181 0 224 (dk_at dksX2_undo_1 6 rfl rfl)
theorem dX2_undo_33 : decode cX2_undo 33 = .ok (.aload_n 0, 1) := dk_42 (dk_at dksX2_undo_1 9 rfl rfl)
theorem dX2_undo_34 : decode cX2_undo 34 = .ok (.getfield 16, 3) := dk_180 0 16 (dk_at dksX2_undo_1 10 rfl rfl)
theorem dX2_undo_37 : decode cX2_undo 37 = .ok (.aload_n 0, 1) := dk_42 (dk_at dksX2_undo_1 13 rfl rfl)
theorem dX2_undo_38 : decode cX2_undo 38 = .ok (.getfield 224, 3) := dk_180 0 224 (dk_at dksX2_undo_1 14 rfl rfl)
theorem dX2_undo_41 : decode cX2_undo 41 = .ok (.sipush 173, 3) := dk_17 0 173 (dk_at dksX2_undo_1 17 rfl rfl)
theorem dX2_undo_44 : decode cX2_undo 44 = .ok (.imul, 1) := dk_104 (dk_at dksX2_undo_1 20 rfl rfl)
theorem dX2_undo_45 : decode cX2_undo 45 = .ok (.aload_n 0, 1) := dk_42 (dk_at dksX2_undo_1 21 rfl rfl)
theorem dX2_undo_46 : decode cX2_undo 46 = .ok (.getfield 9, 3) := dk_180 0 9 (dk_at dksX2_undo_2 0 rfl rfl)
theorem dX2_undo_49 : decode cX2_undo 49 = .ok (.iconst 0, 1) := dk_3 (dk_at dksX2_undo_2 3 rfl rfl)
theorem dX2_undo_50 : decode cX2_undo 50 = .ok (.invokestatic 51, 3) := dk_184 0 51 (dk_at dksX2_undo_2 4 rfl rfl)
theorem dX2_undo_53 : decode cX2_undo 53 = .ok (.aload_n 0, 1) := dk_42 (dk_at dksX2_undo_2 7 rfl rfl)
theorem dX2_undo_54 : decode cX2_undo 54 = .ok (.getfield 224, 3) := dk_180 0 224 (dk_at dksX2_undo_2 8 rfl rfl)
theorem dX2_undo_57 : decode cX2_undo 57 = .ok (.ireturn, 1) := dk_172 (dk_at dksX2_undo_2 11 rfl rfl)
abbrev cX2_undoable : ByteArray := prog_20_method_167_code
def yX2_undoable : MethodName := ⟨RX2, "undoable", "()I"⟩
def dkwX2_undoable_0 : List UInt8 := [42, 3, 181, 0, 40, 42, 180, 0, 224, 172]
abbrev dktX2_undoable_0 : List UInt8 := dkwX2_undoable_0 ++ []
theorem dksX2_undoable_0 : cX2_undoable.data.toList.drop 0 = dktX2_undoable_0 := by decide +kernel
theorem dX2_undoable_0 : decode cX2_undoable 0 = .ok (.aload_n 0, 1) := dk_42 (dk_at dksX2_undoable_0 0 rfl rfl)
theorem dX2_undoable_1 : decode cX2_undoable 1 = .ok (.iconst 0, 1) := dk_3 (dk_at dksX2_undoable_0 1 rfl rfl)
theorem dX2_undoable_2 : decode cX2_undoable 2 = .ok (.putfield 40, 3) := dk_181 0 40 (dk_at dksX2_undoable_0 2 rfl rfl)
theorem dX2_undoable_5 : decode cX2_undoable 5 = .ok (.aload_n 0, 1) := dk_42 (dk_at dksX2_undoable_0 5 rfl rfl)
theorem dX2_undoable_6 : decode cX2_undoable 6 = .ok (.getfield 224, 3) := dk_180 0 224 (dk_at dksX2_undoable_0 6 rfl rfl)
theorem dX2_undoable_9 : decode cX2_undoable 9 = .ok (.ireturn, 1) := dk_172 (dk_at dksX2_undoable_0 9 rfl rfl)
abbrev cX2_save : ByteArray := prog_20_method_169_code
def yX2_save : MethodName := ⟨RX2, "save", "(I)I"⟩
def dkwX2_save_2 : List UInt8 := [172]
abbrev dktX2_save_2 : List UInt8 := dkwX2_save_2 ++ []
def dkwX2_save_1 : List UInt8 := [180, 0, 19, 27, 17, 0, 173, 104, 184, 0, 51, 42, 180, 0, 22, 27, 4, 84, 42, 180, 0, 9, 3, 46]
abbrev dktX2_save_1 : List UInt8 := dkwX2_save_1 ++ dktX2_save_2
def dkwX2_save_0 : List UInt8 := [42, 42, 180, 0, 47, 27, 184, 1, 193, 182, 1, 58, 154, 0, 5, 3, 172, 42, 180, 0, 9, 3, 42]
abbrev dktX2_save_0 : List UInt8 := dkwX2_save_0 ++ dktX2_save_1
theorem dksX2_save_0 : cX2_save.data.toList.drop 0 = dktX2_save_0 := by decide +kernel
theorem dksX2_save_1 : cX2_save.data.toList.drop 23 = dktX2_save_1 := dk_seg dksX2_save_0 23 rfl rfl
theorem dksX2_save_2 : cX2_save.data.toList.drop 47 = dktX2_save_2 := dk_seg dksX2_save_1 24 rfl rfl
theorem dX2_save_0 : decode cX2_save 0 = .ok (.aload_n 0, 1) := dk_42 (dk_at dksX2_save_0 0 rfl rfl)
theorem dX2_save_1 : decode cX2_save 1 = .ok (.aload_n 0, 1) := dk_42 (dk_at dksX2_save_0 1 rfl rfl)
theorem dX2_save_2 : decode cX2_save 2 = .ok (.getfield 47, 3) := dk_180 0 47 (dk_at dksX2_save_0 2 rfl rfl)
theorem dX2_save_5 : decode cX2_save 5 = .ok (.iload_n 1, 1) := dk_27 (dk_at dksX2_save_0 5 rfl rfl)
theorem dX2_save_6 : decode cX2_save 6 = .ok (.invokestatic 449, 3) := dk_184 1 193 (dk_at dksX2_save_0 6 rfl rfl)
theorem dX2_save_9 : decode cX2_save 9 = .ok (.invokevirtual 314, 3) := dk_182 1 58 (dk_at dksX2_save_0 9 rfl rfl)
theorem dX2_save_12 : decode cX2_save 12 = .ok (.ifCond .ne 5, 3) := dk_154 0 5 (dk_at dksX2_save_0 12 rfl rfl)
theorem dX2_save_15 : decode cX2_save 15 = .ok (.iconst 0, 1) := dk_3 (dk_at dksX2_save_0 15 rfl rfl)
theorem dX2_save_16 : decode cX2_save 16 = .ok (.ireturn, 1) := dk_172 (dk_at dksX2_save_0 16 rfl rfl)
theorem dX2_save_17 : decode cX2_save 17 = .ok (.aload_n 0, 1) := dk_42 (dk_at dksX2_save_0 17 rfl rfl)
theorem dX2_save_18 : decode cX2_save 18 = .ok (.getfield 9, 3) := dk_180 0 9 (dk_at dksX2_save_0 18 rfl rfl)
theorem dX2_save_21 : decode cX2_save 21 = .ok (.iconst 0, 1) := dk_3 (dk_at dksX2_save_0 21 rfl rfl)
theorem dX2_save_22 : decode cX2_save 22 = .ok (.aload_n 0, 1) := dk_42 (dk_at dksX2_save_0 22 rfl rfl)
theorem dX2_save_23 : decode cX2_save 23 = .ok (.getfield 19, 3) := dk_180 0 19 (dk_at dksX2_save_1 0 rfl rfl)
theorem dX2_save_26 : decode cX2_save 26 = .ok (.iload_n 1, 1) := dk_27 (dk_at dksX2_save_1 3 rfl rfl)
theorem dX2_save_27 : decode cX2_save 27 = .ok (.sipush 173, 3) := dk_17 0 173 (dk_at dksX2_save_1 4 rfl rfl)
theorem dX2_save_30 : decode cX2_save 30 = .ok (.imul, 1) := dk_104 (dk_at dksX2_save_1 7 rfl rfl)
theorem dX2_save_31 : decode cX2_save 31 = .ok (.invokestatic 51, 3) := dk_184 0 51 (dk_at dksX2_save_1 8 rfl rfl)
theorem dX2_save_34 : decode cX2_save 34 = .ok (.aload_n 0, 1) := dk_42 (dk_at dksX2_save_1 11 rfl rfl)
theorem dX2_save_35 : decode cX2_save 35 = .ok (.getfield 22, 3) := dk_180 0 22 (dk_at dksX2_save_1 12 rfl rfl)
theorem dX2_save_38 : decode cX2_save 38 = .ok (.iload_n 1, 1) := dk_27 (dk_at dksX2_save_1 15 rfl rfl)
theorem dX2_save_39 : decode cX2_save 39 = .ok (.iconst 1, 1) := dk_4 (dk_at dksX2_save_1 16 rfl rfl)
theorem dX2_save_40 : decode cX2_save 40 = .ok (.bastore, 1) := dk_84 (dk_at dksX2_save_1 17 rfl rfl)
theorem dX2_save_41 : decode cX2_save 41 = .ok (.aload_n 0, 1) := dk_42 (dk_at dksX2_save_1 18 rfl rfl)
theorem dX2_save_42 : decode cX2_save 42 = .ok (.getfield 9, 3) := dk_180 0 9 (dk_at dksX2_save_1 19 rfl rfl)
theorem dX2_save_45 : decode cX2_save 45 = .ok (.iconst 0, 1) := dk_3 (dk_at dksX2_save_1 22 rfl rfl)
theorem dX2_save_46 : decode cX2_save 46 = .ok (.iaload, 1) := dk_46 (dk_at dksX2_save_1 23 rfl rfl)
theorem dX2_save_47 : decode cX2_save 47 = .ok (.ireturn, 1) := dk_172 (dk_at dksX2_save_2 0 rfl rfl)
abbrev cX2_isSlot : ByteArray := prog_20_method_168_code
def yX2_isSlot : MethodName := ⟨RX2, "isSlot", "(I)Z"⟩
def dkwX2_isSlot_0 : List UInt8 := [26, 3, 4, 184, 0, 68, 172]
abbrev dktX2_isSlot_0 : List UInt8 := dkwX2_isSlot_0 ++ []
theorem dksX2_isSlot_0 : cX2_isSlot.data.toList.drop 0 = dktX2_isSlot_0 := by decide +kernel
theorem dX2_isSlot_0 : decode cX2_isSlot 0 = .ok (.iload_n 0, 1) := dk_26 (dk_at dksX2_isSlot_0 0 rfl rfl)
theorem dX2_isSlot_1 : decode cX2_isSlot 1 = .ok (.iconst 0, 1) := dk_3 (dk_at dksX2_isSlot_0 1 rfl rfl)
theorem dX2_isSlot_2 : decode cX2_isSlot 2 = .ok (.iconst 1, 1) := dk_4 (dk_at dksX2_isSlot_0 2 rfl rfl)
theorem dX2_isSlot_3 : decode cX2_isSlot 3 = .ok (.invokestatic 68, 3) := dk_184 0 68 (dk_at dksX2_isSlot_0 3 rfl rfl)
theorem dX2_isSlot_6 : decode cX2_isSlot 6 = .ok (.ireturn, 1) := dk_172 (dk_at dksX2_isSlot_0 6 rfl rfl)
abbrev cX2_restore : ByteArray := prog_20_method_170_code
def yX2_restore : MethodName := ⟨RX2, "restore", "(I)I"⟩
def dkwX2_restore_2 : List UInt8 := [184, 0, 51, 42, 3, 181, 0, 224, 42, 180, 0, 9, 3, 46, 172]
abbrev dktX2_restore_2 : List UInt8 := dkwX2_restore_2 ++ []
def dkwX2_restore_1 : List UInt8 := [3, 182, 1, 58, 154, 0, 5, 3, 172, 42, 180, 0, 19, 27, 17, 0, 173, 104, 42, 180, 0, 9, 3]
abbrev dktX2_restore_1 : List UInt8 := dkwX2_restore_1 ++ dktX2_restore_2
def dkwX2_restore_0 : List UInt8 := [27, 184, 1, 193, 61, 42, 28, 28, 153, 0, 16, 42, 180, 0, 22, 27, 51, 153, 0, 7, 4, 167, 0, 4]
abbrev dktX2_restore_0 : List UInt8 := dkwX2_restore_0 ++ dktX2_restore_1
theorem dksX2_restore_0 : cX2_restore.data.toList.drop 0 = dktX2_restore_0 := by decide +kernel
theorem dksX2_restore_1 : cX2_restore.data.toList.drop 24 = dktX2_restore_1 := dk_seg dksX2_restore_0 24 rfl rfl
theorem dksX2_restore_2 : cX2_restore.data.toList.drop 47 = dktX2_restore_2 := dk_seg dksX2_restore_1 23 rfl rfl
theorem dX2_restore_0 : decode cX2_restore 0 = .ok (.iload_n 1, 1) := dk_27 (dk_at dksX2_restore_0 0 rfl rfl)
theorem dX2_restore_1 : decode cX2_restore 1 = .ok (.invokestatic 449, 3) := dk_184 1 193 (dk_at dksX2_restore_0 1 rfl rfl)
theorem dX2_restore_4 : decode cX2_restore 4 = .ok (.istore_n 2, 1) := dk_61 (dk_at dksX2_restore_0 4 rfl rfl)
theorem dX2_restore_5 : decode cX2_restore 5 = .ok (.aload_n 0, 1) := dk_42 (dk_at dksX2_restore_0 5 rfl rfl)
theorem dX2_restore_6 : decode cX2_restore 6 = .ok (.iload_n 2, 1) := dk_28 (dk_at dksX2_restore_0 6 rfl rfl)
theorem dX2_restore_7 : decode cX2_restore 7 = .ok (.iload_n 2, 1) := dk_28 (dk_at dksX2_restore_0 7 rfl rfl)
theorem dX2_restore_8 : decode cX2_restore 8 = .ok (.ifCond .eq 16, 3) := dk_153 0 16 (dk_at dksX2_restore_0 8 rfl rfl)
theorem dX2_restore_11 : decode cX2_restore 11 = .ok (.aload_n 0, 1) := dk_42 (dk_at dksX2_restore_0 11 rfl rfl)
theorem dX2_restore_12 : decode cX2_restore 12 = .ok (.getfield 22, 3) := dk_180 0 22 (dk_at dksX2_restore_0 12 rfl rfl)
theorem dX2_restore_15 : decode cX2_restore 15 = .ok (.iload_n 1, 1) := dk_27 (dk_at dksX2_restore_0 15 rfl rfl)
theorem dX2_restore_16 : decode cX2_restore 16 = .ok (.baload, 1) := dk_51 (dk_at dksX2_restore_0 16 rfl rfl)
theorem dX2_restore_17 : decode cX2_restore 17 = .ok (.ifCond .eq 7, 3) := dk_153 0 7 (dk_at dksX2_restore_0 17 rfl rfl)
theorem dX2_restore_20 : decode cX2_restore 20 = .ok (.iconst 1, 1) := dk_4 (dk_at dksX2_restore_0 20 rfl rfl)
theorem dX2_restore_21 : decode cX2_restore 21 = .ok (.goto 4, 3) := dk_167 0 4 (dk_at dksX2_restore_0 21 rfl rfl)
theorem dX2_restore_24 : decode cX2_restore 24 = .ok (.iconst 0, 1) := dk_3 (dk_at dksX2_restore_1 0 rfl rfl)
theorem dX2_restore_25 : decode cX2_restore 25 = .ok (.invokevirtual 314, 3) := dk_182 1 58 (dk_at dksX2_restore_1 1 rfl rfl)
theorem dX2_restore_28 : decode cX2_restore 28 = .ok (.ifCond .ne 5, 3) := dk_154 0 5 (dk_at dksX2_restore_1 4 rfl rfl)
theorem dX2_restore_31 : decode cX2_restore 31 = .ok (.iconst 0, 1) := dk_3 (dk_at dksX2_restore_1 7 rfl rfl)
theorem dX2_restore_32 : decode cX2_restore 32 = .ok (.ireturn, 1) := dk_172 (dk_at dksX2_restore_1 8 rfl rfl)
theorem dX2_restore_33 : decode cX2_restore 33 = .ok (.aload_n 0, 1) := dk_42 (dk_at dksX2_restore_1 9 rfl rfl)
theorem dX2_restore_34 : decode cX2_restore 34 = .ok (.getfield 19, 3) := dk_180 0 19 (dk_at dksX2_restore_1 10 rfl rfl)
theorem dX2_restore_37 : decode cX2_restore 37 = .ok (.iload_n 1, 1) := dk_27 (dk_at dksX2_restore_1 13 rfl rfl)
theorem dX2_restore_38 : decode cX2_restore 38 = .ok (.sipush 173, 3) := dk_17 0 173 (dk_at dksX2_restore_1 14 rfl rfl)
theorem dX2_restore_41 : decode cX2_restore 41 = .ok (.imul, 1) := dk_104 (dk_at dksX2_restore_1 17 rfl rfl)
theorem dX2_restore_42 : decode cX2_restore 42 = .ok (.aload_n 0, 1) := dk_42 (dk_at dksX2_restore_1 18 rfl rfl)
theorem dX2_restore_43 : decode cX2_restore 43 = .ok (.getfield 9, 3) := dk_180 0 9 (dk_at dksX2_restore_1 19 rfl rfl)
theorem dX2_restore_46 : decode cX2_restore 46 = .ok (.iconst 0, 1) := dk_3 (dk_at dksX2_restore_1 22 rfl rfl)
theorem dX2_restore_47 : decode cX2_restore 47 = .ok (.invokestatic 51, 3) := dk_184 0 51 (dk_at dksX2_restore_2 0 rfl rfl)
theorem dX2_restore_50 : decode cX2_restore 50 = .ok (.aload_n 0, 1) := dk_42 (dk_at dksX2_restore_2 3 rfl rfl)
theorem dX2_restore_51 : decode cX2_restore 51 = .ok (.iconst 0, 1) := dk_3 (dk_at dksX2_restore_2 4 rfl rfl)
theorem dX2_restore_52 : decode cX2_restore 52 = .ok (.putfield 224, 3) := dk_181 0 224 (dk_at dksX2_restore_2 5 rfl rfl)
theorem dX2_restore_55 : decode cX2_restore 55 = .ok (.aload_n 0, 1) := dk_42 (dk_at dksX2_restore_2 8 rfl rfl)
theorem dX2_restore_56 : decode cX2_restore 56 = .ok (.getfield 9, 3) := dk_180 0 9 (dk_at dksX2_restore_2 9 rfl rfl)
theorem dX2_restore_59 : decode cX2_restore 59 = .ok (.iconst 0, 1) := dk_3 (dk_at dksX2_restore_2 12 rfl rfl)
theorem dX2_restore_60 : decode cX2_restore 60 = .ok (.iaload, 1) := dk_46 (dk_at dksX2_restore_2 13 rfl rfl)
theorem dX2_restore_61 : decode cX2_restore 61 = .ok (.ireturn, 1) := dk_172 (dk_at dksX2_restore_2 14 rfl rfl)
theorem q140 : (Jvm.Cond.initialized "FlagLaundryModel") ∈ lw_all := lw_g (lw_at lw_m1 8 rfl) rfl
theorem q1051 : (Jvm.Cond.selects "FlagLaundryModel" ({ cls := "java/lang/Object", name := "getClass", desc := "()Ljava/lang/Class;" } : Jvm.MethodName) ({ cls := "java/lang/Object", name := "getClass", desc := "()Ljava/lang/Class;" } : Jvm.MethodName)) ∈ lw_all := lw_g (lw_at lw_m4 199 rfl) rfl
theorem q2224 : (Jvm.Cond.instantiable "FlagLaundryModel" (20 : Nat)) ∈ lw_all := lw_g (lw_at lw_m9 172 rfl) rfl
theorem q2226 : (Jvm.Cond.instanceMethod ({ cls := "FlagLaundryModel", name := "<init>", desc := "()V" } : Jvm.MethodName)) ∈ lw_all := lw_g (lw_at lw_m9 174 rfl) rfl
theorem q2227 : (Jvm.Cond.code ({ cls := "FlagLaundryModel", name := "<init>", desc := "()V" } : Jvm.MethodName) prog_20_method_1_code (1 : Nat) (Option.none : Option Jvm.ClassFile.FieldType)) ∈ lw_all := lw_g (lw_at lw_m9 175 rfl) rfl
theorem q2228 : (Jvm.Cond.methodLink "FlagLaundryModel" (1 : Nat) ({ cls := "java/lang/Object", name := "<init>", desc := "()V" } : Jvm.MethodName)) ∈ lw_all := lw_g (lw_at lw_m9 176 rfl) rfl
theorem q2229 : (Jvm.Cond.fieldLink "FlagLaundryModel" (40 : Nat) "FlagLaundryModel" "thrown" "I") ∈ lw_all := lw_g (lw_at lw_m9 177 rfl) rfl
theorem q2230 : (Jvm.Cond.fieldLink "FlagLaundryModel" (9 : Nat) "FlagLaundryModel" "now" "[I") ∈ lw_all := lw_g (lw_at lw_m9 178 rfl) rfl
theorem q2231 : (Jvm.Cond.fieldLink "FlagLaundryModel" (13 : Nat) "FlagLaundryModel" "aside" "[I") ∈ lw_all := lw_g (lw_at lw_m9 179 rfl) rfl
theorem q2232 : (Jvm.Cond.fieldLink "FlagLaundryModel" (16 : Nat) "FlagLaundryModel" "undos" "[I") ∈ lw_all := lw_g (lw_at lw_m9 180 rfl) rfl
theorem q2233 : (Jvm.Cond.fieldLink "FlagLaundryModel" (19 : Nat) "FlagLaundryModel" "saved" "[I") ∈ lw_all := lw_g (lw_at lw_m9 181 rfl) rfl
theorem q2234 : (Jvm.Cond.fieldLink "FlagLaundryModel" (22 : Nat) "FlagLaundryModel" "isSaved" "[Z") ∈ lw_all := lw_g (lw_at lw_m9 182 rfl) rfl
theorem q2235 : (Jvm.Cond.fieldLink "FlagLaundryModel" (47 : Nat) "FlagLaundryModel" "isThere" "Z") ∈ lw_all := lw_g (lw_at lw_m9 183 rfl) rfl
theorem q2236 : (Jvm.Cond.fieldLink "FlagLaundryModel" (224 : Nat) "FlagLaundryModel" "undoMany" "I") ∈ lw_all := lw_g (lw_at lw_m9 184 rfl) rfl
theorem q2237 : (Jvm.Cond.fieldLink "FlagLaundryModel" (26 : Nat) "FlagLaundryModel" "buffer" "[B") ∈ lw_all := lw_g (lw_at lw_m9 185 rfl) rfl
theorem q2238 : (Jvm.Cond.fieldLink "FlagLaundryModel" (55 : Nat) "FlagLaundryModel" "buffered" "I") ∈ lw_all := lw_g (lw_at lw_m9 186 rfl) rfl
theorem q2239 : (Jvm.Cond.fieldLink "FlagLaundryModel" (62 : Nat) "FlagLaundryModel" "parseCode" "I") ∈ lw_all := lw_g (lw_at lw_m9 187 rfl) rfl
theorem q2240 : (Jvm.Cond.fieldLink "FlagLaundryModel" (30 : Nat) "FlagLaundryModel" "parseAt" "I") ∈ lw_all := lw_g (lw_at lw_m9 188 rfl) rfl
theorem q2241 : (Jvm.Cond.fieldLink "FlagLaundryModel" (65 : Nat) "FlagLaundryModel" "size" "I") ∈ lw_all := lw_g (lw_at lw_m9 189 rfl) rfl
theorem q2242 : (Jvm.Cond.fieldLink "FlagLaundryModel" (72 : Nat) "FlagLaundryModel" "cursor" "I") ∈ lw_all := lw_g (lw_at lw_m9 190 rfl) rfl
theorem q2243 : (Jvm.Cond.fieldLink "FlagLaundryModel" (75 : Nat) "FlagLaundryModel" "start" "I") ∈ lw_all := lw_g (lw_at lw_m9 191 rfl) rfl
theorem q2244 : (Jvm.Cond.fieldLink "FlagLaundryModel" (78 : Nat) "FlagLaundryModel" "token" "I") ∈ lw_all := lw_g (lw_at lw_m9 192 rfl) rfl
theorem q2245 : (Jvm.Cond.fieldLink "FlagLaundryModel" (88 : Nat) "FlagLaundryModel" "told" "I") ∈ lw_all := lw_g (lw_at lw_m9 193 rfl) rfl
theorem q2246 : (Jvm.Cond.fieldLink "FlagLaundryModel" (34 : Nat) "FlagLaundryModel" "group" "[I") ∈ lw_all := lw_g (lw_at lw_m9 194 rfl) rfl
theorem q2247 : (Jvm.Cond.fieldLink "FlagLaundryModel" (37 : Nat) "FlagLaundryModel" "page" "[B") ∈ lw_all := lw_g (lw_at lw_m9 195 rfl) rfl
theorem q2248 : (Jvm.Cond.fieldLink "FlagLaundryModel" (425 : Nat) "FlagLaundryModel" "pageSize" "I") ∈ lw_all := lw_g (lw_at lw_m9 196 rfl) rfl
theorem q2249 : (Jvm.Cond.lays "FlagLaundryModel" "FlagLaundryModel" "thrown" "I") ∈ lw_all := lw_g (lw_at lw_m9 197 rfl) rfl
theorem q2250 : (Jvm.Cond.soleField "FlagLaundryModel" "thrown") ∈ lw_all := lw_g (lw_at lw_m9 198 rfl) rfl
theorem q2251 : (Jvm.Cond.laysFinal "FlagLaundryModel" "FlagLaundryModel" "now" "[I") ∈ lw_all := lw_g (lw_at lw_m9 199 rfl) rfl
theorem q2252 : (Jvm.Cond.soleField "FlagLaundryModel" "now") ∈ lw_all := lw_g (lw_at lw_m9 200 rfl) rfl
theorem q2253 : (Jvm.Cond.laysFinal "FlagLaundryModel" "FlagLaundryModel" "aside" "[I") ∈ lw_all := lw_g (lw_at lw_m9 201 rfl) rfl
theorem q2254 : (Jvm.Cond.soleField "FlagLaundryModel" "aside") ∈ lw_all := lw_g (lw_at lw_m9 202 rfl) rfl
theorem q2255 : (Jvm.Cond.laysFinal "FlagLaundryModel" "FlagLaundryModel" "undos" "[I") ∈ lw_all := lw_g (lw_at lw_m9 203 rfl) rfl
theorem q2256 : (Jvm.Cond.soleField "FlagLaundryModel" "undos") ∈ lw_all := lw_g (lw_at lw_m9 204 rfl) rfl
theorem q2257 : (Jvm.Cond.laysFinal "FlagLaundryModel" "FlagLaundryModel" "saved" "[I") ∈ lw_all := lw_g (lw_at lw_m9 205 rfl) rfl
theorem q2258 : (Jvm.Cond.soleField "FlagLaundryModel" "saved") ∈ lw_all := lw_g (lw_at lw_m9 206 rfl) rfl
theorem q2259 : (Jvm.Cond.laysFinal "FlagLaundryModel" "FlagLaundryModel" "isSaved" "[Z") ∈ lw_all := lw_g (lw_at lw_m9 207 rfl) rfl
theorem q2260 : (Jvm.Cond.soleField "FlagLaundryModel" "isSaved") ∈ lw_all := lw_g (lw_at lw_m9 208 rfl) rfl
theorem q2261 : (Jvm.Cond.lays "FlagLaundryModel" "FlagLaundryModel" "isThere" "Z") ∈ lw_all := lw_g (lw_at lw_m9 209 rfl) rfl
theorem q2262 : (Jvm.Cond.soleField "FlagLaundryModel" "isThere") ∈ lw_all := lw_g (lw_at lw_m9 210 rfl) rfl
theorem q2263 : (Jvm.Cond.lays "FlagLaundryModel" "FlagLaundryModel" "undoMany" "I") ∈ lw_all := lw_g (lw_at lw_m9 211 rfl) rfl
theorem q2264 : (Jvm.Cond.soleField "FlagLaundryModel" "undoMany") ∈ lw_all := lw_g (lw_at lw_m9 212 rfl) rfl
theorem q2265 : (Jvm.Cond.laysFinal "FlagLaundryModel" "FlagLaundryModel" "buffer" "[B") ∈ lw_all := lw_g (lw_at lw_m9 213 rfl) rfl
theorem q2266 : (Jvm.Cond.soleField "FlagLaundryModel" "buffer") ∈ lw_all := lw_g (lw_at lw_m9 214 rfl) rfl
theorem q2267 : (Jvm.Cond.lays "FlagLaundryModel" "FlagLaundryModel" "buffered" "I") ∈ lw_all := lw_g (lw_at lw_m9 215 rfl) rfl
theorem q2268 : (Jvm.Cond.soleField "FlagLaundryModel" "buffered") ∈ lw_all := lw_g (lw_at lw_m9 216 rfl) rfl
theorem q2269 : (Jvm.Cond.lays "FlagLaundryModel" "FlagLaundryModel" "parseCode" "I") ∈ lw_all := lw_g (lw_at lw_m9 217 rfl) rfl
theorem q2270 : (Jvm.Cond.soleField "FlagLaundryModel" "parseCode") ∈ lw_all := lw_g (lw_at lw_m9 218 rfl) rfl
theorem q2271 : (Jvm.Cond.lays "FlagLaundryModel" "FlagLaundryModel" "parseAt" "I") ∈ lw_all := lw_g (lw_at lw_m9 219 rfl) rfl
theorem q2272 : (Jvm.Cond.soleField "FlagLaundryModel" "parseAt") ∈ lw_all := lw_g (lw_at lw_m9 220 rfl) rfl
theorem q2273 : (Jvm.Cond.lays "FlagLaundryModel" "FlagLaundryModel" "size" "I") ∈ lw_all := lw_g (lw_at lw_m9 221 rfl) rfl
theorem q2274 : (Jvm.Cond.soleField "FlagLaundryModel" "size") ∈ lw_all := lw_g (lw_at lw_m9 222 rfl) rfl
theorem q2275 : (Jvm.Cond.lays "FlagLaundryModel" "FlagLaundryModel" "cursor" "I") ∈ lw_all := lw_g (lw_at lw_m9 223 rfl) rfl
theorem q2276 : (Jvm.Cond.soleField "FlagLaundryModel" "cursor") ∈ lw_all := lw_g (lw_at lw_m9 224 rfl) rfl
theorem q2277 : (Jvm.Cond.lays "FlagLaundryModel" "FlagLaundryModel" "start" "I") ∈ lw_all := lw_g (lw_at lw_m9 225 rfl) rfl
theorem q2278 : (Jvm.Cond.soleField "FlagLaundryModel" "start") ∈ lw_all := lw_g (lw_at lw_m9 226 rfl) rfl
theorem q2279 : (Jvm.Cond.lays "FlagLaundryModel" "FlagLaundryModel" "token" "I") ∈ lw_all := lw_g (lw_at lw_m9 227 rfl) rfl
theorem q2280 : (Jvm.Cond.soleField "FlagLaundryModel" "token") ∈ lw_all := lw_g (lw_at lw_m9 228 rfl) rfl
theorem q2281 : (Jvm.Cond.lays "FlagLaundryModel" "FlagLaundryModel" "told" "I") ∈ lw_all := lw_g (lw_at lw_m9 229 rfl) rfl
theorem q2282 : (Jvm.Cond.soleField "FlagLaundryModel" "told") ∈ lw_all := lw_g (lw_at lw_m9 230 rfl) rfl
theorem q2283 : (Jvm.Cond.laysFinal "FlagLaundryModel" "FlagLaundryModel" "group" "[I") ∈ lw_all := lw_g (lw_at lw_m9 231 rfl) rfl
theorem q2284 : (Jvm.Cond.soleField "FlagLaundryModel" "group") ∈ lw_all := lw_g (lw_at lw_m9 232 rfl) rfl
theorem q2285 : (Jvm.Cond.laysFinal "FlagLaundryModel" "FlagLaundryModel" "page" "[B") ∈ lw_all := lw_g (lw_at lw_m9 233 rfl) rfl
theorem q2286 : (Jvm.Cond.soleField "FlagLaundryModel" "page") ∈ lw_all := lw_g (lw_at lw_m9 234 rfl) rfl
theorem q2287 : (Jvm.Cond.lays "FlagLaundryModel" "FlagLaundryModel" "pageSize" "I") ∈ lw_all := lw_g (lw_at lw_m9 235 rfl) rfl
theorem q2288 : (Jvm.Cond.soleField "FlagLaundryModel" "pageSize") ∈ lw_all := lw_g (lw_at lw_m9 236 rfl) rfl
theorem q2289 : (Jvm.Cond.superclass "FlagLaundryModel" "java/lang/Object") ∈ lw_all := lw_g (lw_at lw_m9 237 rfl) rfl
theorem q2292 : (Jvm.Cond.instanceMethod ({ cls := "FlagLaundryModel", name := "thrown", desc := "()I" } : Jvm.MethodName)) ∈ lw_all := lw_g (lw_at lw_m10 0 rfl) rfl
theorem q2293 : (Jvm.Cond.selects "FlagLaundryModel" ({ cls := "FlagLaundryModel", name := "thrown", desc := "()I" } : Jvm.MethodName) ({ cls := "FlagLaundryModel", name := "thrown", desc := "()I" } : Jvm.MethodName)) ∈ lw_all := lw_g (lw_at lw_m10 1 rfl) rfl
theorem q2294 : (Jvm.Cond.code ({ cls := "FlagLaundryModel", name := "thrown", desc := "()I" } : Jvm.MethodName) prog_20_method_2_code (1 : Nat) (Option.some Jvm.ClassFile.FieldType.int)) ∈ lw_all := lw_g (lw_at lw_m10 2 rfl) rfl
theorem q2296 : (Jvm.Cond.instanceMethod ({ cls := "FlagLaundryModel", name := "append", desc := "(IIIII)I" } : Jvm.MethodName)) ∈ lw_all := lw_g (lw_at lw_m10 4 rfl) rfl
theorem q2297 : (Jvm.Cond.selects "FlagLaundryModel" ({ cls := "FlagLaundryModel", name := "append", desc := "(IIIII)I" } : Jvm.MethodName) ({ cls := "FlagLaundryModel", name := "append", desc := "(IIIII)I" } : Jvm.MethodName)) ∈ lw_all := lw_g (lw_at lw_m10 5 rfl) rfl
theorem q2298 : (Jvm.Cond.code ({ cls := "FlagLaundryModel", name := "append", desc := "(IIIII)I" } : Jvm.MethodName) prog_20_method_12_code (6 : Nat) (Option.some Jvm.ClassFile.FieldType.int)) ∈ lw_all := lw_g (lw_at lw_m10 6 rfl) rfl
theorem q2299 : (Jvm.Cond.methodLink "FlagLaundryModel" (58 : Nat) ({ cls := "FlagLaundryModel", name := "four", desc := "(I)V" } : Jvm.MethodName)) ∈ lw_all := lw_g (lw_at lw_m10 7 rfl) rfl
theorem q2300 : (Jvm.Cond.privateMethod ({ cls := "FlagLaundryModel", name := "four", desc := "(I)V" } : Jvm.MethodName)) ∈ lw_tbl := lw_at lw_m10 8 rfl
theorem q2301 : (Jvm.Cond.instanceMethod ({ cls := "FlagLaundryModel", name := "four", desc := "(I)V" } : Jvm.MethodName)) ∈ lw_all := lw_g (lw_at lw_m10 9 rfl) rfl
theorem q2302 : (Jvm.Cond.code ({ cls := "FlagLaundryModel", name := "four", desc := "(I)V" } : Jvm.MethodName) prog_20_method_13_code (3 : Nat) (Option.none : Option Jvm.ClassFile.FieldType)) ∈ lw_all := lw_g (lw_at lw_m10 10 rfl) rfl
theorem q2304 : (Jvm.Cond.instanceMethod ({ cls := "FlagLaundryModel", name := "parseError", desc := "()I" } : Jvm.MethodName)) ∈ lw_all := lw_g (lw_at lw_m10 12 rfl) rfl
theorem q2305 : (Jvm.Cond.selects "FlagLaundryModel" ({ cls := "FlagLaundryModel", name := "parseError", desc := "()I" } : Jvm.MethodName) ({ cls := "FlagLaundryModel", name := "parseError", desc := "()I" } : Jvm.MethodName)) ∈ lw_all := lw_g (lw_at lw_m10 13 rfl) rfl
theorem q2306 : (Jvm.Cond.code ({ cls := "FlagLaundryModel", name := "parseError", desc := "()I" } : Jvm.MethodName) prog_20_method_14_code (1 : Nat) (Option.some Jvm.ClassFile.FieldType.int)) ∈ lw_all := lw_g (lw_at lw_m10 14 rfl) rfl
theorem q2308 : (Jvm.Cond.instanceMethod ({ cls := "FlagLaundryModel", name := "errorPosition", desc := "()I" } : Jvm.MethodName)) ∈ lw_all := lw_g (lw_at lw_m10 16 rfl) rfl
theorem q2309 : (Jvm.Cond.selects "FlagLaundryModel" ({ cls := "FlagLaundryModel", name := "errorPosition", desc := "()I" } : Jvm.MethodName) ({ cls := "FlagLaundryModel", name := "errorPosition", desc := "()I" } : Jvm.MethodName)) ∈ lw_all := lw_g (lw_at lw_m10 17 rfl) rfl
theorem q2310 : (Jvm.Cond.code ({ cls := "FlagLaundryModel", name := "errorPosition", desc := "()I" } : Jvm.MethodName) prog_20_method_15_code (1 : Nat) (Option.some Jvm.ClassFile.FieldType.int)) ∈ lw_all := lw_g (lw_at lw_m10 18 rfl) rfl
theorem q2312 : (Jvm.Cond.instanceMethod ({ cls := "FlagLaundryModel", name := "buffered", desc := "()I" } : Jvm.MethodName)) ∈ lw_all := lw_g (lw_at lw_m10 20 rfl) rfl
theorem q2313 : (Jvm.Cond.selects "FlagLaundryModel" ({ cls := "FlagLaundryModel", name := "buffered", desc := "()I" } : Jvm.MethodName) ({ cls := "FlagLaundryModel", name := "buffered", desc := "()I" } : Jvm.MethodName)) ∈ lw_all := lw_g (lw_at lw_m10 21 rfl) rfl
theorem q2314 : (Jvm.Cond.code ({ cls := "FlagLaundryModel", name := "buffered", desc := "()I" } : Jvm.MethodName) prog_20_method_16_code (1 : Nat) (Option.some Jvm.ClassFile.FieldType.int)) ∈ lw_all := lw_g (lw_at lw_m10 22 rfl) rfl
theorem q2316 : (Jvm.Cond.instanceMethod ({ cls := "FlagLaundryModel", name := "load", desc := "(I)I" } : Jvm.MethodName)) ∈ lw_all := lw_g (lw_at lw_m10 24 rfl) rfl
theorem q2317 : (Jvm.Cond.selects "FlagLaundryModel" ({ cls := "FlagLaundryModel", name := "load", desc := "(I)I" } : Jvm.MethodName) ({ cls := "FlagLaundryModel", name := "load", desc := "(I)I" } : Jvm.MethodName)) ∈ lw_all := lw_g (lw_at lw_m10 25 rfl) rfl
theorem q2318 : (Jvm.Cond.code ({ cls := "FlagLaundryModel", name := "load", desc := "(I)I" } : Jvm.MethodName) prog_20_method_39_code (3 : Nat) (Option.some Jvm.ClassFile.FieldType.int)) ∈ lw_all := lw_g (lw_at lw_m10 26 rfl) rfl
theorem q2319 : (Jvm.Cond.methodLink "FlagLaundryModel" (68 : Nat) ({ cls := "FlagLaundryModel", name := "in", desc := "(III)Z" } : Jvm.MethodName)) ∈ lw_all := lw_g (lw_at lw_m10 27 rfl) rfl
theorem q2320 : (Jvm.Cond.static ({ cls := "FlagLaundryModel", name := "in", desc := "(III)Z" } : Jvm.MethodName)) ∈ lw_all := lw_g (lw_at lw_m10 28 rfl) rfl
theorem q2321 : (Jvm.Cond.code ({ cls := "FlagLaundryModel", name := "in", desc := "(III)Z" } : Jvm.MethodName) prog_20_method_3_code (3 : Nat) (Option.some Jvm.ClassFile.FieldType.boolean)) ∈ lw_all := lw_g (lw_at lw_m10 29 rfl) rfl
theorem q2322 : (Jvm.Cond.methodLink "FlagLaundryModel" (43 : Nat) ({ cls := "FlagLaundryModel", name := "may", desc := "(ZZZ)Z" } : Jvm.MethodName)) ∈ lw_all := lw_g (lw_at lw_m10 30 rfl) rfl
theorem q2323 : (Jvm.Cond.privateMethod ({ cls := "FlagLaundryModel", name := "may", desc := "(ZZZ)Z" } : Jvm.MethodName)) ∈ lw_tbl := lw_at lw_m10 31 rfl
theorem q2324 : (Jvm.Cond.instanceMethod ({ cls := "FlagLaundryModel", name := "may", desc := "(ZZZ)Z" } : Jvm.MethodName)) ∈ lw_all := lw_g (lw_at lw_m10 32 rfl) rfl
theorem q2325 : (Jvm.Cond.code ({ cls := "FlagLaundryModel", name := "may", desc := "(ZZZ)Z" } : Jvm.MethodName) prog_20_method_6_code (4 : Nat) (Option.some Jvm.ClassFile.FieldType.boolean)) ∈ lw_all := lw_g (lw_at lw_m10 33 rfl) rfl
theorem q2326 : (Jvm.Cond.methodLink "FlagLaundryModel" (215 : Nat) ({ cls := "FlagLaundryModel", name := "thinks", desc := "()V" } : Jvm.MethodName)) ∈ lw_all := lw_g (lw_at lw_m10 34 rfl) rfl
theorem q2327 : (Jvm.Cond.privateMethod ({ cls := "FlagLaundryModel", name := "thinks", desc := "()V" } : Jvm.MethodName)) ∈ lw_tbl := lw_at lw_m10 35 rfl
theorem q2328 : (Jvm.Cond.instanceMethod ({ cls := "FlagLaundryModel", name := "thinks", desc := "()V" } : Jvm.MethodName)) ∈ lw_all := lw_g (lw_at lw_m10 36 rfl) rfl
theorem q2329 : (Jvm.Cond.code ({ cls := "FlagLaundryModel", name := "thinks", desc := "()V" } : Jvm.MethodName) prog_20_method_10_code (1 : Nat) (Option.none : Option Jvm.ClassFile.FieldType)) ∈ lw_all := lw_g (lw_at lw_m10 37 rfl) rfl
theorem q2330 : (Jvm.Cond.methodLink "FlagLaundryModel" (51 : Nat) ({ cls := "FlagLaundryModel", name := "lays", desc := "([II[II)V" } : Jvm.MethodName)) ∈ lw_all := lw_g (lw_at lw_m10 38 rfl) rfl
theorem q2331 : (Jvm.Cond.static ({ cls := "FlagLaundryModel", name := "lays", desc := "([II[II)V" } : Jvm.MethodName)) ∈ lw_all := lw_g (lw_at lw_m10 39 rfl) rfl
theorem q2332 : (Jvm.Cond.code ({ cls := "FlagLaundryModel", name := "lays", desc := "([II[II)V" } : Jvm.MethodName) prog_20_method_9_code (5 : Nat) (Option.none : Option Jvm.ClassFile.FieldType)) ∈ lw_all := lw_g (lw_at lw_m10 40 rfl) rfl
theorem q2333 : (Jvm.Cond.methodLink "FlagLaundryModel" (218 : Nat) ({ cls := "FlagLaundryModel", name := "readsText", desc := "()V" } : Jvm.MethodName)) ∈ lw_all := lw_g (lw_at lw_m10 41 rfl) rfl
theorem q2334 : (Jvm.Cond.privateMethod ({ cls := "FlagLaundryModel", name := "readsText", desc := "()V" } : Jvm.MethodName)) ∈ lw_tbl := lw_at lw_m10 42 rfl
theorem q2335 : (Jvm.Cond.instanceMethod ({ cls := "FlagLaundryModel", name := "readsText", desc := "()V" } : Jvm.MethodName)) ∈ lw_all := lw_g (lw_at lw_m10 43 rfl) rfl
theorem q2336 : (Jvm.Cond.code ({ cls := "FlagLaundryModel", name := "readsText", desc := "()V" } : Jvm.MethodName) prog_20_method_38_code (1 : Nat) (Option.none : Option Jvm.ClassFile.FieldType)) ∈ lw_all := lw_g (lw_at lw_m10 44 rfl) rfl
theorem q2337 : (Jvm.Cond.methodLink "FlagLaundryModel" (111 : Nat) ({ cls := "FlagLaundryModel", name := "goes", desc := "()V" } : Jvm.MethodName)) ∈ lw_all := lw_g (lw_at lw_m10 45 rfl) rfl
theorem q2338 : (Jvm.Cond.privateMethod ({ cls := "FlagLaundryModel", name := "goes", desc := "()V" } : Jvm.MethodName)) ∈ lw_tbl := lw_at lw_m10 46 rfl
theorem q2339 : (Jvm.Cond.instanceMethod ({ cls := "FlagLaundryModel", name := "goes", desc := "()V" } : Jvm.MethodName)) ∈ lw_all := lw_g (lw_at lw_m10 47 rfl) rfl
theorem q2340 : (Jvm.Cond.code ({ cls := "FlagLaundryModel", name := "goes", desc := "()V" } : Jvm.MethodName) prog_20_method_19_code (1 : Nat) (Option.none : Option Jvm.ClassFile.FieldType)) ∈ lw_all := lw_g (lw_at lw_m10 48 rfl) rfl
theorem q2341 : (Jvm.Cond.methodLink "FlagLaundryModel" (81 : Nat) ({ cls := "FlagLaundryModel", name := "isLetter", desc := "(I)Z" } : Jvm.MethodName)) ∈ lw_all := lw_g (lw_at lw_m10 49 rfl) rfl
theorem q2342 : (Jvm.Cond.privateMethod ({ cls := "FlagLaundryModel", name := "isLetter", desc := "(I)Z" } : Jvm.MethodName)) ∈ lw_tbl := lw_at lw_m10 50 rfl
theorem q2343 : (Jvm.Cond.instanceMethod ({ cls := "FlagLaundryModel", name := "isLetter", desc := "(I)Z" } : Jvm.MethodName)) ∈ lw_all := lw_g (lw_at lw_m10 51 rfl) rfl
theorem q2344 : (Jvm.Cond.code ({ cls := "FlagLaundryModel", name := "isLetter", desc := "(I)Z" } : Jvm.MethodName) prog_20_method_17_code (2 : Nat) (Option.some Jvm.ClassFile.FieldType.boolean)) ∈ lw_all := lw_g (lw_at lw_m10 52 rfl) rfl
theorem q2345 : (Jvm.Cond.methodLink "FlagLaundryModel" (85 : Nat) ({ cls := "FlagLaundryModel", name := "isDigit", desc := "(I)Z" } : Jvm.MethodName)) ∈ lw_all := lw_g (lw_at lw_m10 53 rfl) rfl
theorem q2346 : (Jvm.Cond.privateMethod ({ cls := "FlagLaundryModel", name := "isDigit", desc := "(I)Z" } : Jvm.MethodName)) ∈ lw_tbl := lw_at lw_m10 54 rfl
theorem q2347 : (Jvm.Cond.instanceMethod ({ cls := "FlagLaundryModel", name := "isDigit", desc := "(I)Z" } : Jvm.MethodName)) ∈ lw_all := lw_g (lw_at lw_m10 55 rfl) rfl
theorem q2348 : (Jvm.Cond.code ({ cls := "FlagLaundryModel", name := "isDigit", desc := "(I)Z" } : Jvm.MethodName) prog_20_method_18_code (2 : Nat) (Option.some Jvm.ClassFile.FieldType.boolean)) ∈ lw_all := lw_g (lw_at lw_m10 56 rfl) rfl
theorem q2349 : (Jvm.Cond.stringRef "FlagLaundryModel" (210 : Nat) "line") ∈ lw_tbl := lw_at lw_m10 57 rfl
theorem q2350 : (Jvm.Cond.methodLink "FlagLaundryModel" (160 : Nat) ({ cls := "FlagLaundryModel", name := "isWord", desc := "(Ljava/lang/String;)Z" } : Jvm.MethodName)) ∈ lw_all := lw_g (lw_at lw_m10 58 rfl) rfl
theorem q2351 : (Jvm.Cond.privateMethod ({ cls := "FlagLaundryModel", name := "isWord", desc := "(Ljava/lang/String;)Z" } : Jvm.MethodName)) ∈ lw_tbl := lw_at lw_m10 59 rfl
theorem q2352 : (Jvm.Cond.instanceMethod ({ cls := "FlagLaundryModel", name := "isWord", desc := "(Ljava/lang/String;)Z" } : Jvm.MethodName)) ∈ lw_all := lw_g (lw_at lw_m10 60 rfl) rfl
theorem q2353 : (Jvm.Cond.code ({ cls := "FlagLaundryModel", name := "isWord", desc := "(Ljava/lang/String;)Z" } : Jvm.MethodName) prog_20_method_22_code (3 : Nat) (Option.some Jvm.ClassFile.FieldType.boolean)) ∈ lw_all := lw_g (lw_at lw_m10 61 rfl) rfl
theorem q2354 : (Jvm.Cond.methodLink "FlagLaundryModel" (91 : Nat) ({ cls := "FlagLaundryModel", name := "is", desc := "(I)Z" } : Jvm.MethodName)) ∈ lw_all := lw_g (lw_at lw_m10 62 rfl) rfl
theorem q2355 : (Jvm.Cond.privateMethod ({ cls := "FlagLaundryModel", name := "is", desc := "(I)Z" } : Jvm.MethodName)) ∈ lw_tbl := lw_at lw_m10 63 rfl
theorem q2356 : (Jvm.Cond.instanceMethod ({ cls := "FlagLaundryModel", name := "is", desc := "(I)Z" } : Jvm.MethodName)) ∈ lw_all := lw_g (lw_at lw_m10 64 rfl) rfl
theorem q2357 : (Jvm.Cond.code ({ cls := "FlagLaundryModel", name := "is", desc := "(I)Z" } : Jvm.MethodName) prog_20_method_21_code (2 : Nat) (Option.some Jvm.ClassFile.FieldType.boolean)) ∈ lw_all := lw_g (lw_at lw_m10 65 rfl) rfl
theorem q2358 : (Jvm.Cond.methodLink "FlagLaundryModel" (94 : Nat) ({ cls := "java/lang/String", name := "length", desc := "()I" } : Jvm.MethodName)) ∈ lw_all := lw_g (lw_at lw_m10 66 rfl) rfl
theorem q2359 : (Jvm.Cond.methodLink "FlagLaundryModel" (100 : Nat) ({ cls := "java/lang/String", name := "charAt", desc := "(I)C" } : Jvm.MethodName)) ∈ lw_all := lw_g (lw_at lw_m10 67 rfl) rfl
theorem q2360 : (Jvm.Cond.methodLink "FlagLaundryModel" (104 : Nat) ({ cls := "FlagLaundryModel", name := "faults", desc := "(I)V" } : Jvm.MethodName)) ∈ lw_all := lw_g (lw_at lw_m10 68 rfl) rfl
theorem q2361 : (Jvm.Cond.privateMethod ({ cls := "FlagLaundryModel", name := "faults", desc := "(I)V" } : Jvm.MethodName)) ∈ lw_tbl := lw_at lw_m10 69 rfl
theorem q2362 : (Jvm.Cond.instanceMethod ({ cls := "FlagLaundryModel", name := "faults", desc := "(I)V" } : Jvm.MethodName)) ∈ lw_all := lw_g (lw_at lw_m10 70 rfl) rfl
theorem q2363 : (Jvm.Cond.code ({ cls := "FlagLaundryModel", name := "faults", desc := "(I)V" } : Jvm.MethodName) prog_20_method_20_code (2 : Nat) (Option.none : Option Jvm.ClassFile.FieldType)) ∈ lw_all := lw_g (lw_at lw_m10 71 rfl) rfl
theorem q2364 : (Jvm.Cond.methodLink "FlagLaundryModel" (118 : Nat) ({ cls := "FlagLaundryModel", name := "number", desc := "(II)I" } : Jvm.MethodName)) ∈ lw_all := lw_g (lw_at lw_m10 72 rfl) rfl
theorem q2365 : (Jvm.Cond.privateMethod ({ cls := "FlagLaundryModel", name := "number", desc := "(II)I" } : Jvm.MethodName)) ∈ lw_tbl := lw_at lw_m10 73 rfl
theorem q2366 : (Jvm.Cond.instanceMethod ({ cls := "FlagLaundryModel", name := "number", desc := "(II)I" } : Jvm.MethodName)) ∈ lw_all := lw_g (lw_at lw_m10 74 rfl) rfl
theorem q2367 : (Jvm.Cond.code ({ cls := "FlagLaundryModel", name := "number", desc := "(II)I" } : Jvm.MethodName) prog_20_method_24_code (4 : Nat) (Option.some Jvm.ClassFile.FieldType.int)) ∈ lw_all := lw_g (lw_at lw_m10 75 rfl) rfl
theorem q2368 : (Jvm.Cond.methodLink "FlagLaundryModel" (107 : Nat) ({ cls := "FlagLaundryModel", name := "numberHere", desc := "(II)I" } : Jvm.MethodName)) ∈ lw_all := lw_g (lw_at lw_m10 76 rfl) rfl
theorem q2369 : (Jvm.Cond.privateMethod ({ cls := "FlagLaundryModel", name := "numberHere", desc := "(II)I" } : Jvm.MethodName)) ∈ lw_tbl := lw_at lw_m10 77 rfl
theorem q2370 : (Jvm.Cond.instanceMethod ({ cls := "FlagLaundryModel", name := "numberHere", desc := "(II)I" } : Jvm.MethodName)) ∈ lw_all := lw_g (lw_at lw_m10 78 rfl) rfl
theorem q2371 : (Jvm.Cond.code ({ cls := "FlagLaundryModel", name := "numberHere", desc := "(II)I" } : Jvm.MethodName) prog_20_method_23_code (3 : Nat) (Option.some Jvm.ClassFile.FieldType.int)) ∈ lw_all := lw_g (lw_at lw_m10 79 rfl) rfl
theorem q2372 : (Jvm.Cond.methodLink "FlagLaundryModel" (212 : Nat) ({ cls := "FlagLaundryModel", name := "readsThing", desc := "()V" } : Jvm.MethodName)) ∈ lw_all := lw_g (lw_at lw_m10 80 rfl) rfl
theorem q2373 : (Jvm.Cond.privateMethod ({ cls := "FlagLaundryModel", name := "readsThing", desc := "()V" } : Jvm.MethodName)) ∈ lw_tbl := lw_at lw_m10 81 rfl
theorem q2374 : (Jvm.Cond.instanceMethod ({ cls := "FlagLaundryModel", name := "readsThing", desc := "()V" } : Jvm.MethodName)) ∈ lw_all := lw_g (lw_at lw_m10 82 rfl) rfl
theorem q2375 : (Jvm.Cond.code ({ cls := "FlagLaundryModel", name := "readsThing", desc := "()V" } : Jvm.MethodName) prog_20_method_36_code (1 : Nat) (Option.none : Option Jvm.ClassFile.FieldType)) ∈ lw_all := lw_g (lw_at lw_m10 83 rfl) rfl
theorem q2376 : (Jvm.Cond.stringRef "FlagLaundryModel" (158 : Nat) "colour") ∈ lw_tbl := lw_at lw_m10 84 rfl
theorem q2377 : (Jvm.Cond.methodLink "FlagLaundryModel" (164 : Nat) ({ cls := "FlagLaundryModel", name := "readsColour", desc := "()V" } : Jvm.MethodName)) ∈ lw_all := lw_g (lw_at lw_m10 85 rfl) rfl
theorem q2378 : (Jvm.Cond.privateMethod ({ cls := "FlagLaundryModel", name := "readsColour", desc := "()V" } : Jvm.MethodName)) ∈ lw_tbl := lw_at lw_m10 86 rfl
theorem q2379 : (Jvm.Cond.instanceMethod ({ cls := "FlagLaundryModel", name := "readsColour", desc := "()V" } : Jvm.MethodName)) ∈ lw_all := lw_g (lw_at lw_m10 87 rfl) rfl
theorem q2380 : (Jvm.Cond.code ({ cls := "FlagLaundryModel", name := "readsColour", desc := "()V" } : Jvm.MethodName) prog_20_method_26_code (2 : Nat) (Option.none : Option Jvm.ClassFile.FieldType)) ∈ lw_all := lw_g (lw_at lw_m10 88 rfl) rfl
theorem q2381 : (Jvm.Cond.methodLink "FlagLaundryModel" (114 : Nat) ({ cls := "FlagLaundryModel", name := "begins", desc := "(II)V" } : Jvm.MethodName)) ∈ lw_all := lw_g (lw_at lw_m10 89 rfl) rfl
theorem q2382 : (Jvm.Cond.privateMethod ({ cls := "FlagLaundryModel", name := "begins", desc := "(II)V" } : Jvm.MethodName)) ∈ lw_tbl := lw_at lw_m10 90 rfl
theorem q2383 : (Jvm.Cond.instanceMethod ({ cls := "FlagLaundryModel", name := "begins", desc := "(II)V" } : Jvm.MethodName)) ∈ lw_all := lw_g (lw_at lw_m10 91 rfl) rfl
theorem q2384 : (Jvm.Cond.code ({ cls := "FlagLaundryModel", name := "begins", desc := "(II)V" } : Jvm.MethodName) prog_20_method_25_code (3 : Nat) (Option.none : Option Jvm.ClassFile.FieldType)) ∈ lw_all := lw_g (lw_at lw_m10 92 rfl) rfl
theorem q2385 : (Jvm.Cond.stringRef "FlagLaundryModel" (167 : Nat) "nation") ∈ lw_tbl := lw_at lw_m10 93 rfl
theorem q2386 : (Jvm.Cond.methodLink "FlagLaundryModel" (169 : Nat) ({ cls := "FlagLaundryModel", name := "readsNation", desc := "()V" } : Jvm.MethodName)) ∈ lw_all := lw_g (lw_at lw_m10 94 rfl) rfl
theorem q2387 : (Jvm.Cond.privateMethod ({ cls := "FlagLaundryModel", name := "readsNation", desc := "()V" } : Jvm.MethodName)) ∈ lw_tbl := lw_at lw_m10 95 rfl
theorem q2388 : (Jvm.Cond.instanceMethod ({ cls := "FlagLaundryModel", name := "readsNation", desc := "()V" } : Jvm.MethodName)) ∈ lw_all := lw_g (lw_at lw_m10 96 rfl) rfl
theorem q2389 : (Jvm.Cond.code ({ cls := "FlagLaundryModel", name := "readsNation", desc := "()V" } : Jvm.MethodName) prog_20_method_27_code (5 : Nat) (Option.none : Option Jvm.ClassFile.FieldType)) ∈ lw_all := lw_g (lw_at lw_m10 97 rfl) rfl
theorem q2390 : (Jvm.Cond.methodLink "FlagLaundryModel" (121 : Nat) ({ cls := "FlagLaundryModel", name := "putsNation", desc := "(III)V" } : Jvm.MethodName)) ∈ lw_all := lw_g (lw_at lw_m10 98 rfl) rfl
theorem q2391 : (Jvm.Cond.privateMethod ({ cls := "FlagLaundryModel", name := "putsNation", desc := "(III)V" } : Jvm.MethodName)) ∈ lw_tbl := lw_at lw_m10 99 rfl
theorem q2392 : (Jvm.Cond.instanceMethod ({ cls := "FlagLaundryModel", name := "putsNation", desc := "(III)V" } : Jvm.MethodName)) ∈ lw_all := lw_g (lw_at lw_m10 100 rfl) rfl
theorem q2393 : (Jvm.Cond.code ({ cls := "FlagLaundryModel", name := "putsNation", desc := "(III)V" } : Jvm.MethodName) prog_20_method_41_code (4 : Nat) (Option.none : Option Jvm.ClassFile.FieldType)) ∈ lw_all := lw_g (lw_at lw_m10 101 rfl) rfl
theorem q2394 : (Jvm.Cond.stringRef "FlagLaundryModel" (172 : Nat) "tub") ∈ lw_tbl := lw_at lw_m10 102 rfl
theorem q2395 : (Jvm.Cond.methodLink "FlagLaundryModel" (174 : Nat) ({ cls := "FlagLaundryModel", name := "readsTub", desc := "()V" } : Jvm.MethodName)) ∈ lw_all := lw_g (lw_at lw_m10 103 rfl) rfl
theorem q2396 : (Jvm.Cond.privateMethod ({ cls := "FlagLaundryModel", name := "readsTub", desc := "()V" } : Jvm.MethodName)) ∈ lw_tbl := lw_at lw_m10 104 rfl
theorem q2397 : (Jvm.Cond.instanceMethod ({ cls := "FlagLaundryModel", name := "readsTub", desc := "()V" } : Jvm.MethodName)) ∈ lw_all := lw_g (lw_at lw_m10 105 rfl) rfl
theorem q2398 : (Jvm.Cond.code ({ cls := "FlagLaundryModel", name := "readsTub", desc := "()V" } : Jvm.MethodName) prog_20_method_28_code (2 : Nat) (Option.none : Option Jvm.ClassFile.FieldType)) ∈ lw_all := lw_g (lw_at lw_m10 106 rfl) rfl
theorem q2399 : (Jvm.Cond.stringRef "FlagLaundryModel" (177 : Nat) "flag") ∈ lw_tbl := lw_at lw_m10 107 rfl
theorem q2400 : (Jvm.Cond.methodLink "FlagLaundryModel" (179 : Nat) ({ cls := "FlagLaundryModel", name := "readsFlag", desc := "()V" } : Jvm.MethodName)) ∈ lw_all := lw_g (lw_at lw_m10 108 rfl) rfl
theorem q2401 : (Jvm.Cond.privateMethod ({ cls := "FlagLaundryModel", name := "readsFlag", desc := "()V" } : Jvm.MethodName)) ∈ lw_tbl := lw_at lw_m10 109 rfl
theorem q2402 : (Jvm.Cond.instanceMethod ({ cls := "FlagLaundryModel", name := "readsFlag", desc := "()V" } : Jvm.MethodName)) ∈ lw_all := lw_g (lw_at lw_m10 110 rfl) rfl
theorem q2403 : (Jvm.Cond.code ({ cls := "FlagLaundryModel", name := "readsFlag", desc := "()V" } : Jvm.MethodName) prog_20_method_30_code (5 : Nat) (Option.none : Option Jvm.ClassFile.FieldType)) ∈ lw_all := lw_g (lw_at lw_m10 111 rfl) rfl
theorem q2404 : (Jvm.Cond.methodLink "FlagLaundryModel" (129 : Nat) ({ cls := "FlagLaundryModel", name := "colourRead", desc := "(I)I" } : Jvm.MethodName)) ∈ lw_all := lw_g (lw_at lw_m10 112 rfl) rfl
theorem q2405 : (Jvm.Cond.privateMethod ({ cls := "FlagLaundryModel", name := "colourRead", desc := "(I)I" } : Jvm.MethodName)) ∈ lw_tbl := lw_at lw_m10 113 rfl
theorem q2406 : (Jvm.Cond.instanceMethod ({ cls := "FlagLaundryModel", name := "colourRead", desc := "(I)I" } : Jvm.MethodName)) ∈ lw_all := lw_g (lw_at lw_m10 114 rfl) rfl
theorem q2407 : (Jvm.Cond.code ({ cls := "FlagLaundryModel", name := "colourRead", desc := "(I)I" } : Jvm.MethodName) prog_20_method_29_code (3 : Nat) (Option.some Jvm.ClassFile.FieldType.int)) ∈ lw_all := lw_g (lw_at lw_m10 115 rfl) rfl
theorem q2408 : (Jvm.Cond.methodLink "FlagLaundryModel" (125 : Nat) ({ cls := "FlagLaundryModel", name := "has", desc := "(II)Z" } : Jvm.MethodName)) ∈ lw_all := lw_g (lw_at lw_m10 116 rfl) rfl
theorem q2409 : (Jvm.Cond.static ({ cls := "FlagLaundryModel", name := "has", desc := "(II)Z" } : Jvm.MethodName)) ∈ lw_all := lw_g (lw_at lw_m10 117 rfl) rfl
theorem q2410 : (Jvm.Cond.code ({ cls := "FlagLaundryModel", name := "has", desc := "(II)Z" } : Jvm.MethodName) prog_20_method_5_code (2 : Nat) (Option.some Jvm.ClassFile.FieldType.boolean)) ∈ lw_all := lw_g (lw_at lw_m10 118 rfl) rfl
theorem q2411 : (Jvm.Cond.methodLink "FlagLaundryModel" (133 : Nat) ({ cls := "FlagLaundryModel", name := "addsFlag", desc := "(IIII)I" } : Jvm.MethodName)) ∈ lw_all := lw_g (lw_at lw_m10 119 rfl) rfl
theorem q2412 : (Jvm.Cond.privateMethod ({ cls := "FlagLaundryModel", name := "addsFlag", desc := "(IIII)I" } : Jvm.MethodName)) ∈ lw_tbl := lw_at lw_m10 120 rfl
theorem q2413 : (Jvm.Cond.instanceMethod ({ cls := "FlagLaundryModel", name := "addsFlag", desc := "(IIII)I" } : Jvm.MethodName)) ∈ lw_all := lw_g (lw_at lw_m10 121 rfl) rfl
theorem q2414 : (Jvm.Cond.code ({ cls := "FlagLaundryModel", name := "addsFlag", desc := "(IIII)I" } : Jvm.MethodName) prog_20_method_48_code (7 : Nat) (Option.some Jvm.ClassFile.FieldType.int)) ∈ lw_all := lw_g (lw_at lw_m10 122 rfl) rfl
theorem q2415 : (Jvm.Cond.methodLink "FlagLaundryModel" (233 : Nat) ({ cls := "FlagLaundryModel", name := "putsFlag", desc := "(III)V" } : Jvm.MethodName)) ∈ lw_all := lw_g (lw_at lw_m10 123 rfl) rfl
theorem q2416 : (Jvm.Cond.privateMethod ({ cls := "FlagLaundryModel", name := "putsFlag", desc := "(III)V" } : Jvm.MethodName)) ∈ lw_tbl := lw_at lw_m10 124 rfl
theorem q2417 : (Jvm.Cond.instanceMethod ({ cls := "FlagLaundryModel", name := "putsFlag", desc := "(III)V" } : Jvm.MethodName)) ∈ lw_all := lw_g (lw_at lw_m10 125 rfl) rfl
theorem q2418 : (Jvm.Cond.code ({ cls := "FlagLaundryModel", name := "putsFlag", desc := "(III)V" } : Jvm.MethodName) prog_20_method_43_code (4 : Nat) (Option.none : Option Jvm.ClassFile.FieldType)) ∈ lw_all := lw_g (lw_at lw_m10 126 rfl) rfl
theorem q2419 : (Jvm.Cond.methodLink "FlagLaundryModel" (236 : Nat) ({ cls := "FlagLaundryModel", name := "goesTo", desc := "(III)V" } : Jvm.MethodName)) ∈ lw_all := lw_g (lw_at lw_m10 127 rfl) rfl
theorem q2420 : (Jvm.Cond.privateMethod ({ cls := "FlagLaundryModel", name := "goesTo", desc := "(III)V" } : Jvm.MethodName)) ∈ lw_tbl := lw_at lw_m10 128 rfl
theorem q2421 : (Jvm.Cond.instanceMethod ({ cls := "FlagLaundryModel", name := "goesTo", desc := "(III)V" } : Jvm.MethodName)) ∈ lw_all := lw_g (lw_at lw_m10 129 rfl) rfl
theorem q2422 : (Jvm.Cond.code ({ cls := "FlagLaundryModel", name := "goesTo", desc := "(III)V" } : Jvm.MethodName) prog_20_method_47_code (4 : Nat) (Option.none : Option Jvm.ClassFile.FieldType)) ∈ lw_all := lw_g (lw_at lw_m10 130 rfl) rfl
theorem q2423 : (Jvm.Cond.methodLink "FlagLaundryModel" (182 : Nat) ({ cls := "FlagLaundryModel", name := "readsDeed", desc := "()V" } : Jvm.MethodName)) ∈ lw_all := lw_g (lw_at lw_m10 131 rfl) rfl
theorem q2424 : (Jvm.Cond.privateMethod ({ cls := "FlagLaundryModel", name := "readsDeed", desc := "()V" } : Jvm.MethodName)) ∈ lw_tbl := lw_at lw_m10 132 rfl
theorem q2425 : (Jvm.Cond.instanceMethod ({ cls := "FlagLaundryModel", name := "readsDeed", desc := "()V" } : Jvm.MethodName)) ∈ lw_all := lw_g (lw_at lw_m10 133 rfl) rfl
theorem q2426 : (Jvm.Cond.code ({ cls := "FlagLaundryModel", name := "readsDeed", desc := "()V" } : Jvm.MethodName) prog_20_method_37_code (1 : Nat) (Option.none : Option Jvm.ClassFile.FieldType)) ∈ lw_all := lw_g (lw_at lw_m10 134 rfl) rfl
theorem q2427 : (Jvm.Cond.stringRef "FlagLaundryModel" (185 : Nat) "put") ∈ lw_tbl := lw_at lw_m10 135 rfl
theorem q2428 : (Jvm.Cond.methodLink "FlagLaundryModel" (187 : Nat) ({ cls := "FlagLaundryModel", name := "readsPut", desc := "()V" } : Jvm.MethodName)) ∈ lw_all := lw_g (lw_at lw_m10 136 rfl) rfl
theorem q2429 : (Jvm.Cond.privateMethod ({ cls := "FlagLaundryModel", name := "readsPut", desc := "()V" } : Jvm.MethodName)) ∈ lw_tbl := lw_at lw_m10 137 rfl
theorem q2430 : (Jvm.Cond.instanceMethod ({ cls := "FlagLaundryModel", name := "readsPut", desc := "()V" } : Jvm.MethodName)) ∈ lw_all := lw_g (lw_at lw_m10 138 rfl) rfl
theorem q2431 : (Jvm.Cond.code ({ cls := "FlagLaundryModel", name := "readsPut", desc := "()V" } : Jvm.MethodName) prog_20_method_31_code (3 : Nat) (Option.none : Option Jvm.ClassFile.FieldType)) ∈ lw_all := lw_g (lw_at lw_m10 139 rfl) rfl
theorem q2432 : (Jvm.Cond.methodLink "FlagLaundryModel" (137 : Nat) ({ cls := "FlagLaundryModel", name := "whyPut", desc := "(II)I" } : Jvm.MethodName)) ∈ lw_all := lw_g (lw_at lw_m10 140 rfl) rfl
theorem q2433 : (Jvm.Cond.privateMethod ({ cls := "FlagLaundryModel", name := "whyPut", desc := "(II)I" } : Jvm.MethodName)) ∈ lw_tbl := lw_at lw_m10 141 rfl
theorem q2434 : (Jvm.Cond.instanceMethod ({ cls := "FlagLaundryModel", name := "whyPut", desc := "(II)I" } : Jvm.MethodName)) ∈ lw_all := lw_g (lw_at lw_m10 142 rfl) rfl
theorem q2435 : (Jvm.Cond.code ({ cls := "FlagLaundryModel", name := "whyPut", desc := "(II)I" } : Jvm.MethodName) prog_20_method_52_code (3 : Nat) (Option.some Jvm.ClassFile.FieldType.int)) ∈ lw_all := lw_g (lw_at lw_m10 143 rfl) rfl
theorem q2436 : (Jvm.Cond.methodLink "FlagLaundryModel" (249 : Nat) ({ cls := "FlagLaundryModel", name := "isInBasket", desc := "(I)Z" } : Jvm.MethodName)) ∈ lw_all := lw_g (lw_at lw_m10 144 rfl) rfl
theorem q2437 : (Jvm.Cond.privateMethod ({ cls := "FlagLaundryModel", name := "isInBasket", desc := "(I)Z" } : Jvm.MethodName)) ∈ lw_tbl := lw_at lw_m10 145 rfl
theorem q2438 : (Jvm.Cond.instanceMethod ({ cls := "FlagLaundryModel", name := "isInBasket", desc := "(I)Z" } : Jvm.MethodName)) ∈ lw_all := lw_g (lw_at lw_m10 146 rfl) rfl
theorem q2439 : (Jvm.Cond.code ({ cls := "FlagLaundryModel", name := "isInBasket", desc := "(I)Z" } : Jvm.MethodName) prog_20_method_45_code (2 : Nat) (Option.some Jvm.ClassFile.FieldType.boolean)) ∈ lw_all := lw_g (lw_at lw_m10 147 rfl) rfl
theorem q2440 : (Jvm.Cond.methodLink "FlagLaundryModel" (230 : Nat) ({ cls := "FlagLaundryModel", name := "where", desc := "(I)I" } : Jvm.MethodName)) ∈ lw_all := lw_g (lw_at lw_m10 148 rfl) rfl
theorem q2441 : (Jvm.Cond.privateMethod ({ cls := "FlagLaundryModel", name := "where", desc := "(I)I" } : Jvm.MethodName)) ∈ lw_tbl := lw_at lw_m10 149 rfl
theorem q2442 : (Jvm.Cond.instanceMethod ({ cls := "FlagLaundryModel", name := "where", desc := "(I)I" } : Jvm.MethodName)) ∈ lw_all := lw_g (lw_at lw_m10 150 rfl) rfl
theorem q2443 : (Jvm.Cond.code ({ cls := "FlagLaundryModel", name := "where", desc := "(I)I" } : Jvm.MethodName) prog_20_method_44_code (2 : Nat) (Option.some Jvm.ClassFile.FieldType.int)) ∈ lw_all := lw_g (lw_at lw_m10 151 rfl) rfl
theorem q2444 : (Jvm.Cond.methodLink "FlagLaundryModel" (227 : Nat) ({ cls := "FlagLaundryModel", name := "ofFlag", desc := "(II)I" } : Jvm.MethodName)) ∈ lw_all := lw_g (lw_at lw_m10 152 rfl) rfl
theorem q2445 : (Jvm.Cond.privateMethod ({ cls := "FlagLaundryModel", name := "ofFlag", desc := "(II)I" } : Jvm.MethodName)) ∈ lw_tbl := lw_at lw_m10 153 rfl
theorem q2446 : (Jvm.Cond.instanceMethod ({ cls := "FlagLaundryModel", name := "ofFlag", desc := "(II)I" } : Jvm.MethodName)) ∈ lw_all := lw_g (lw_at lw_m10 154 rfl) rfl
theorem q2447 : (Jvm.Cond.code ({ cls := "FlagLaundryModel", name := "ofFlag", desc := "(II)I" } : Jvm.MethodName) prog_20_method_42_code (3 : Nat) (Option.some Jvm.ClassFile.FieldType.int)) ∈ lw_all := lw_g (lw_at lw_m10 155 rfl) rfl
theorem q2448 : (Jvm.Cond.methodLink "FlagLaundryModel" (252 : Nat) ({ cls := "FlagLaundryModel", name := "manyIn", desc := "(I)I" } : Jvm.MethodName)) ∈ lw_all := lw_g (lw_at lw_m10 156 rfl) rfl
theorem q2449 : (Jvm.Cond.privateMethod ({ cls := "FlagLaundryModel", name := "manyIn", desc := "(I)I" } : Jvm.MethodName)) ∈ lw_tbl := lw_at lw_m10 157 rfl
theorem q2450 : (Jvm.Cond.instanceMethod ({ cls := "FlagLaundryModel", name := "manyIn", desc := "(I)I" } : Jvm.MethodName)) ∈ lw_all := lw_g (lw_at lw_m10 158 rfl) rfl
theorem q2451 : (Jvm.Cond.code ({ cls := "FlagLaundryModel", name := "manyIn", desc := "(I)I" } : Jvm.MethodName) prog_20_method_51_code (4 : Nat) (Option.some Jvm.ClassFile.FieldType.int)) ∈ lw_all := lw_g (lw_at lw_m10 159 rfl) rfl
theorem q2452 : (Jvm.Cond.methodLink "FlagLaundryModel" (242 : Nat) ({ cls := "FlagLaundryModel", name := "isInTub", desc := "(II)Z" } : Jvm.MethodName)) ∈ lw_all := lw_g (lw_at lw_m10 160 rfl) rfl
theorem q2453 : (Jvm.Cond.privateMethod ({ cls := "FlagLaundryModel", name := "isInTub", desc := "(II)Z" } : Jvm.MethodName)) ∈ lw_tbl := lw_at lw_m10 161 rfl
theorem q2454 : (Jvm.Cond.instanceMethod ({ cls := "FlagLaundryModel", name := "isInTub", desc := "(II)Z" } : Jvm.MethodName)) ∈ lw_all := lw_g (lw_at lw_m10 162 rfl) rfl
theorem q2455 : (Jvm.Cond.code ({ cls := "FlagLaundryModel", name := "isInTub", desc := "(II)Z" } : Jvm.MethodName) prog_20_method_46_code (3 : Nat) (Option.some Jvm.ClassFile.FieldType.boolean)) ∈ lw_all := lw_g (lw_at lw_m10 163 rfl) rfl
theorem q2456 : (Jvm.Cond.methodLink "FlagLaundryModel" (245 : Nat) ({ cls := "FlagLaundryModel", name := "one", desc := "(Z)I" } : Jvm.MethodName)) ∈ lw_all := lw_g (lw_at lw_m10 164 rfl) rfl
theorem q2457 : (Jvm.Cond.static ({ cls := "FlagLaundryModel", name := "one", desc := "(Z)I" } : Jvm.MethodName)) ∈ lw_all := lw_g (lw_at lw_m10 165 rfl) rfl
theorem q2458 : (Jvm.Cond.code ({ cls := "FlagLaundryModel", name := "one", desc := "(Z)I" } : Jvm.MethodName) prog_20_method_4_code (1 : Nat) (Option.some Jvm.ClassFile.FieldType.int)) ∈ lw_all := lw_g (lw_at lw_m10 166 rfl) rfl
theorem q2459 : (Jvm.Cond.methodLink "FlagLaundryModel" (140 : Nat) ({ cls := "FlagLaundryModel", name := "putsInto", desc := "(II)V" } : Jvm.MethodName)) ∈ lw_all := lw_g (lw_at lw_m10 167 rfl) rfl
theorem q2460 : (Jvm.Cond.privateMethod ({ cls := "FlagLaundryModel", name := "putsInto", desc := "(II)V" } : Jvm.MethodName)) ∈ lw_tbl := lw_at lw_m10 168 rfl
theorem q2461 : (Jvm.Cond.instanceMethod ({ cls := "FlagLaundryModel", name := "putsInto", desc := "(II)V" } : Jvm.MethodName)) ∈ lw_all := lw_g (lw_at lw_m10 169 rfl) rfl
theorem q2462 : (Jvm.Cond.code ({ cls := "FlagLaundryModel", name := "putsInto", desc := "(II)V" } : Jvm.MethodName) prog_20_method_53_code (3 : Nat) (Option.none : Option Jvm.ClassFile.FieldType)) ∈ lw_all := lw_g (lw_at lw_m10 170 rfl) rfl
theorem q2463 : (Jvm.Cond.stringRef "FlagLaundryModel" (190 : Nat) "wash") ∈ lw_tbl := lw_at lw_m10 171 rfl
theorem q2464 : (Jvm.Cond.methodLink "FlagLaundryModel" (192 : Nat) ({ cls := "FlagLaundryModel", name := "readsWash", desc := "()V" } : Jvm.MethodName)) ∈ lw_all := lw_g (lw_at lw_m10 172 rfl) rfl
theorem q2465 : (Jvm.Cond.privateMethod ({ cls := "FlagLaundryModel", name := "readsWash", desc := "()V" } : Jvm.MethodName)) ∈ lw_tbl := lw_at lw_m10 173 rfl
theorem q2466 : (Jvm.Cond.instanceMethod ({ cls := "FlagLaundryModel", name := "readsWash", desc := "()V" } : Jvm.MethodName)) ∈ lw_all := lw_g (lw_at lw_m10 174 rfl) rfl
theorem q2467 : (Jvm.Cond.code ({ cls := "FlagLaundryModel", name := "readsWash", desc := "()V" } : Jvm.MethodName) prog_20_method_32_code (4 : Nat) (Option.none : Option Jvm.ClassFile.FieldType)) ∈ lw_all := lw_g (lw_at lw_m10 175 rfl) rfl
theorem q2468 : (Jvm.Cond.methodLink "FlagLaundryModel" (143 : Nat) ({ cls := "FlagLaundryModel", name := "whyWash", desc := "(II)I" } : Jvm.MethodName)) ∈ lw_all := lw_g (lw_at lw_m10 176 rfl) rfl
theorem q2469 : (Jvm.Cond.privateMethod ({ cls := "FlagLaundryModel", name := "whyWash", desc := "(II)I" } : Jvm.MethodName)) ∈ lw_tbl := lw_at lw_m10 177 rfl
theorem q2470 : (Jvm.Cond.instanceMethod ({ cls := "FlagLaundryModel", name := "whyWash", desc := "(II)I" } : Jvm.MethodName)) ∈ lw_all := lw_g (lw_at lw_m10 178 rfl) rfl
theorem q2471 : (Jvm.Cond.code ({ cls := "FlagLaundryModel", name := "whyWash", desc := "(II)I" } : Jvm.MethodName) prog_20_method_55_code (3 : Nat) (Option.some Jvm.ClassFile.FieldType.int)) ∈ lw_all := lw_g (lw_at lw_m10 179 rfl) rfl
theorem q2472 : (Jvm.Cond.methodLink "FlagLaundryModel" (260 : Nat) ({ cls := "FlagLaundryModel", name := "leastCare", desc := "(I)I" } : Jvm.MethodName)) ∈ lw_all := lw_g (lw_at lw_m10 180 rfl) rfl
theorem q2473 : (Jvm.Cond.privateMethod ({ cls := "FlagLaundryModel", name := "leastCare", desc := "(I)I" } : Jvm.MethodName)) ∈ lw_tbl := lw_at lw_m10 181 rfl
theorem q2474 : (Jvm.Cond.instanceMethod ({ cls := "FlagLaundryModel", name := "leastCare", desc := "(I)I" } : Jvm.MethodName)) ∈ lw_all := lw_g (lw_at lw_m10 182 rfl) rfl
theorem q2475 : (Jvm.Cond.code ({ cls := "FlagLaundryModel", name := "leastCare", desc := "(I)I" } : Jvm.MethodName) prog_20_method_54_code (4 : Nat) (Option.some Jvm.ClassFile.FieldType.int)) ∈ lw_all := lw_g (lw_at lw_m10 183 rfl) rfl
theorem q2476 : (Jvm.Cond.methodLink "FlagLaundryModel" (255 : Nat) ({ cls := "java/lang/Math", name := "min", desc := "(II)I" } : Jvm.MethodName)) ∈ lw_all := lw_g (lw_at lw_m10 184 rfl) rfl
theorem q2477 : (Jvm.Cond.methodLink "FlagLaundryModel" (146 : Nat) ({ cls := "FlagLaundryModel", name := "washes", desc := "(II)I" } : Jvm.MethodName)) ∈ lw_all := lw_g (lw_at lw_m10 185 rfl) rfl
theorem q2478 : (Jvm.Cond.privateMethod ({ cls := "FlagLaundryModel", name := "washes", desc := "(II)I" } : Jvm.MethodName)) ∈ lw_tbl := lw_at lw_m10 186 rfl
theorem q2479 : (Jvm.Cond.instanceMethod ({ cls := "FlagLaundryModel", name := "washes", desc := "(II)I" } : Jvm.MethodName)) ∈ lw_all := lw_g (lw_at lw_m10 187 rfl) rfl
theorem q2480 : (Jvm.Cond.code ({ cls := "FlagLaundryModel", name := "washes", desc := "(II)I" } : Jvm.MethodName) prog_20_method_64_code (6 : Nat) (Option.some Jvm.ClassFile.FieldType.int)) ∈ lw_all := lw_g (lw_at lw_m10 188 rfl) rfl
theorem q2481 : (Jvm.Cond.methodLink "FlagLaundryModel" (269 : Nat) ({ cls := "FlagLaundryModel", name := "runningIn", desc := "(II)I" } : Jvm.MethodName)) ∈ lw_all := lw_g (lw_at lw_m10 189 rfl) rfl
theorem q2482 : (Jvm.Cond.privateMethod ({ cls := "FlagLaundryModel", name := "runningIn", desc := "(II)I" } : Jvm.MethodName)) ∈ lw_tbl := lw_at lw_m10 190 rfl
theorem q2483 : (Jvm.Cond.instanceMethod ({ cls := "FlagLaundryModel", name := "runningIn", desc := "(II)I" } : Jvm.MethodName)) ∈ lw_all := lw_g (lw_at lw_m10 191 rfl) rfl
theorem q2484 : (Jvm.Cond.code ({ cls := "FlagLaundryModel", name := "runningIn", desc := "(II)I" } : Jvm.MethodName) prog_20_method_58_code (5 : Nat) (Option.some Jvm.ClassFile.FieldType.int)) ∈ lw_all := lw_g (lw_at lw_m10 192 rfl) rfl
theorem q2485 : (Jvm.Cond.methodLink "FlagLaundryModel" (266 : Nat) ({ cls := "FlagLaundryModel", name := "runningFrom", desc := "(II)I" } : Jvm.MethodName)) ∈ lw_all := lw_g (lw_at lw_m10 193 rfl) rfl
theorem q2486 : (Jvm.Cond.privateMethod ({ cls := "FlagLaundryModel", name := "runningFrom", desc := "(II)I" } : Jvm.MethodName)) ∈ lw_tbl := lw_at lw_m10 194 rfl
theorem q2487 : (Jvm.Cond.instanceMethod ({ cls := "FlagLaundryModel", name := "runningFrom", desc := "(II)I" } : Jvm.MethodName)) ∈ lw_all := lw_g (lw_at lw_m10 195 rfl) rfl
theorem q2488 : (Jvm.Cond.code ({ cls := "FlagLaundryModel", name := "runningFrom", desc := "(II)I" } : Jvm.MethodName) prog_20_method_57_code (3 : Nat) (Option.some Jvm.ClassFile.FieldType.int)) ∈ lw_all := lw_g (lw_at lw_m10 196 rfl) rfl
theorem q2489 : (Jvm.Cond.methodLink "FlagLaundryModel" (263 : Nat) ({ cls := "FlagLaundryModel", name := "runningOf", desc := "(II)I" } : Jvm.MethodName)) ∈ lw_all := lw_g (lw_at lw_m10 197 rfl) rfl
theorem q2490 : (Jvm.Cond.privateMethod ({ cls := "FlagLaundryModel", name := "runningOf", desc := "(II)I" } : Jvm.MethodName)) ∈ lw_tbl := lw_at lw_m10 198 rfl
theorem q2491 : (Jvm.Cond.instanceMethod ({ cls := "FlagLaundryModel", name := "runningOf", desc := "(II)I" } : Jvm.MethodName)) ∈ lw_all := lw_g (lw_at lw_m10 199 rfl) rfl
theorem q2492 : (Jvm.Cond.code ({ cls := "FlagLaundryModel", name := "runningOf", desc := "(II)I" } : Jvm.MethodName) prog_20_method_56_code (5 : Nat) (Option.some Jvm.ClassFile.FieldType.int)) ∈ lw_all := lw_g (lw_at lw_m10 200 rfl) rfl
theorem q2493 : (Jvm.Cond.methodLink "FlagLaundryModel" (281 : Nat) ({ cls := "FlagLaundryModel", name := "stainedBy", desc := "(II)I" } : Jvm.MethodName)) ∈ lw_all := lw_g (lw_at lw_m10 201 rfl) rfl
theorem q2494 : (Jvm.Cond.privateMethod ({ cls := "FlagLaundryModel", name := "stainedBy", desc := "(II)I" } : Jvm.MethodName)) ∈ lw_tbl := lw_at lw_m10 202 rfl
theorem q2495 : (Jvm.Cond.instanceMethod ({ cls := "FlagLaundryModel", name := "stainedBy", desc := "(II)I" } : Jvm.MethodName)) ∈ lw_all := lw_g (lw_at lw_m10 203 rfl) rfl
theorem q2496 : (Jvm.Cond.code ({ cls := "FlagLaundryModel", name := "stainedBy", desc := "(II)I" } : Jvm.MethodName) prog_20_method_60_code (6 : Nat) (Option.some Jvm.ClassFile.FieldType.int)) ∈ lw_all := lw_g (lw_at lw_m10 204 rfl) rfl
theorem q2497 : (Jvm.Cond.methodLink "FlagLaundryModel" (272 : Nat) ({ cls := "FlagLaundryModel", name := "newStains", desc := "(II)I" } : Jvm.MethodName)) ∈ lw_all := lw_g (lw_at lw_m10 205 rfl) rfl
theorem q2498 : (Jvm.Cond.privateMethod ({ cls := "FlagLaundryModel", name := "newStains", desc := "(II)I" } : Jvm.MethodName)) ∈ lw_tbl := lw_at lw_m10 206 rfl
theorem q2499 : (Jvm.Cond.instanceMethod ({ cls := "FlagLaundryModel", name := "newStains", desc := "(II)I" } : Jvm.MethodName)) ∈ lw_all := lw_g (lw_at lw_m10 207 rfl) rfl
theorem q2500 : (Jvm.Cond.code ({ cls := "FlagLaundryModel", name := "newStains", desc := "(II)I" } : Jvm.MethodName) prog_20_method_59_code (3 : Nat) (Option.some Jvm.ClassFile.FieldType.int)) ∈ lw_all := lw_g (lw_at lw_m10 208 rfl) rfl
theorem q2501 : (Jvm.Cond.methodLink "FlagLaundryModel" (284 : Nat) ({ cls := "FlagLaundryModel", name := "isWashed", desc := "(III)V" } : Jvm.MethodName)) ∈ lw_all := lw_g (lw_at lw_m10 209 rfl) rfl
theorem q2502 : (Jvm.Cond.privateMethod ({ cls := "FlagLaundryModel", name := "isWashed", desc := "(III)V" } : Jvm.MethodName)) ∈ lw_tbl := lw_at lw_m10 210 rfl
theorem q2503 : (Jvm.Cond.instanceMethod ({ cls := "FlagLaundryModel", name := "isWashed", desc := "(III)V" } : Jvm.MethodName)) ∈ lw_all := lw_g (lw_at lw_m10 211 rfl) rfl
theorem q2504 : (Jvm.Cond.code ({ cls := "FlagLaundryModel", name := "isWashed", desc := "(III)V" } : Jvm.MethodName) prog_20_method_63_code (4 : Nat) (Option.none : Option Jvm.ClassFile.FieldType)) ∈ lw_all := lw_g (lw_at lw_m10 212 rfl) rfl
theorem q2505 : (Jvm.Cond.methodLink "FlagLaundryModel" (278 : Nat) ({ cls := "FlagLaundryModel", name := "dirtBehind", desc := "(II)I" } : Jvm.MethodName)) ∈ lw_all := lw_g (lw_at lw_m10 213 rfl) rfl
theorem q2506 : (Jvm.Cond.privateMethod ({ cls := "FlagLaundryModel", name := "dirtBehind", desc := "(II)I" } : Jvm.MethodName)) ∈ lw_tbl := lw_at lw_m10 214 rfl
theorem q2507 : (Jvm.Cond.instanceMethod ({ cls := "FlagLaundryModel", name := "dirtBehind", desc := "(II)I" } : Jvm.MethodName)) ∈ lw_all := lw_g (lw_at lw_m10 215 rfl) rfl
theorem q2508 : (Jvm.Cond.code ({ cls := "FlagLaundryModel", name := "dirtBehind", desc := "(II)I" } : Jvm.MethodName) prog_20_method_61_code (3 : Nat) (Option.some Jvm.ClassFile.FieldType.int)) ∈ lw_all := lw_g (lw_at lw_m10 216 rfl) rfl
theorem q2509 : (Jvm.Cond.methodLink "FlagLaundryModel" (275 : Nat) ({ cls := "java/lang/Math", name := "max", desc := "(II)I" } : Jvm.MethodName)) ∈ lw_all := lw_g (lw_at lw_m10 217 rfl) rfl
theorem q2510 : (Jvm.Cond.stringRef "FlagLaundryModel" (195 : Nat) "hang") ∈ lw_tbl := lw_at lw_m10 218 rfl
theorem q2511 : (Jvm.Cond.methodLink "FlagLaundryModel" (197 : Nat) ({ cls := "FlagLaundryModel", name := "readsHang", desc := "()V" } : Jvm.MethodName)) ∈ lw_all := lw_g (lw_at lw_m10 219 rfl) rfl
theorem q2512 : (Jvm.Cond.privateMethod ({ cls := "FlagLaundryModel", name := "readsHang", desc := "()V" } : Jvm.MethodName)) ∈ lw_tbl := lw_at lw_m10 220 rfl
theorem q2513 : (Jvm.Cond.instanceMethod ({ cls := "FlagLaundryModel", name := "readsHang", desc := "()V" } : Jvm.MethodName)) ∈ lw_all := lw_g (lw_at lw_m10 221 rfl) rfl
theorem q2514 : (Jvm.Cond.code ({ cls := "FlagLaundryModel", name := "readsHang", desc := "()V" } : Jvm.MethodName) prog_20_method_33_code (2 : Nat) (Option.none : Option Jvm.ClassFile.FieldType)) ∈ lw_all := lw_g (lw_at lw_m10 222 rfl) rfl
theorem q2515 : (Jvm.Cond.methodLink "FlagLaundryModel" (149 : Nat) ({ cls := "FlagLaundryModel", name := "canHang", desc := "(I)Z" } : Jvm.MethodName)) ∈ lw_all := lw_g (lw_at lw_m10 223 rfl) rfl
theorem q2516 : (Jvm.Cond.privateMethod ({ cls := "FlagLaundryModel", name := "canHang", desc := "(I)Z" } : Jvm.MethodName)) ∈ lw_tbl := lw_at lw_m10 224 rfl
theorem q2517 : (Jvm.Cond.instanceMethod ({ cls := "FlagLaundryModel", name := "canHang", desc := "(I)Z" } : Jvm.MethodName)) ∈ lw_all := lw_g (lw_at lw_m10 225 rfl) rfl
theorem q2518 : (Jvm.Cond.code ({ cls := "FlagLaundryModel", name := "canHang", desc := "(I)Z" } : Jvm.MethodName) prog_20_method_67_code (2 : Nat) (Option.some Jvm.ClassFile.FieldType.boolean)) ∈ lw_all := lw_g (lw_at lw_m10 226 rfl) rfl
theorem q2519 : (Jvm.Cond.methodLink "FlagLaundryModel" (290 : Nat) ({ cls := "FlagLaundryModel", name := "freePeg", desc := "()I" } : Jvm.MethodName)) ∈ lw_all := lw_g (lw_at lw_m10 227 rfl) rfl
theorem q2520 : (Jvm.Cond.privateMethod ({ cls := "FlagLaundryModel", name := "freePeg", desc := "()I" } : Jvm.MethodName)) ∈ lw_tbl := lw_at lw_m10 228 rfl
theorem q2521 : (Jvm.Cond.instanceMethod ({ cls := "FlagLaundryModel", name := "freePeg", desc := "()I" } : Jvm.MethodName)) ∈ lw_all := lw_g (lw_at lw_m10 229 rfl) rfl
theorem q2522 : (Jvm.Cond.code ({ cls := "FlagLaundryModel", name := "freePeg", desc := "()I" } : Jvm.MethodName) prog_20_method_66_code (2 : Nat) (Option.some Jvm.ClassFile.FieldType.int)) ∈ lw_all := lw_g (lw_at lw_m10 230 rfl) rfl
theorem q2523 : (Jvm.Cond.methodLink "FlagLaundryModel" (287 : Nat) ({ cls := "FlagLaundryModel", name := "flagOn", desc := "(I)I" } : Jvm.MethodName)) ∈ lw_all := lw_g (lw_at lw_m10 231 rfl) rfl
theorem q2524 : (Jvm.Cond.privateMethod ({ cls := "FlagLaundryModel", name := "flagOn", desc := "(I)I" } : Jvm.MethodName)) ∈ lw_tbl := lw_at lw_m10 232 rfl
theorem q2525 : (Jvm.Cond.instanceMethod ({ cls := "FlagLaundryModel", name := "flagOn", desc := "(I)I" } : Jvm.MethodName)) ∈ lw_all := lw_g (lw_at lw_m10 233 rfl) rfl
theorem q2526 : (Jvm.Cond.code ({ cls := "FlagLaundryModel", name := "flagOn", desc := "(I)I" } : Jvm.MethodName) prog_20_method_65_code (3 : Nat) (Option.some Jvm.ClassFile.FieldType.int)) ∈ lw_all := lw_g (lw_at lw_m10 234 rfl) rfl
theorem q2527 : (Jvm.Cond.methodLink "FlagLaundryModel" (152 : Nat) ({ cls := "FlagLaundryModel", name := "hangs", desc := "(I)V" } : Jvm.MethodName)) ∈ lw_all := lw_g (lw_at lw_m10 235 rfl) rfl
theorem q2528 : (Jvm.Cond.privateMethod ({ cls := "FlagLaundryModel", name := "hangs", desc := "(I)V" } : Jvm.MethodName)) ∈ lw_tbl := lw_at lw_m10 236 rfl
theorem q2529 : (Jvm.Cond.instanceMethod ({ cls := "FlagLaundryModel", name := "hangs", desc := "(I)V" } : Jvm.MethodName)) ∈ lw_all := lw_g (lw_at lw_m10 237 rfl) rfl
theorem q2530 : (Jvm.Cond.code ({ cls := "FlagLaundryModel", name := "hangs", desc := "(I)V" } : Jvm.MethodName) prog_20_method_68_code (2 : Nat) (Option.none : Option Jvm.ClassFile.FieldType)) ∈ lw_all := lw_g (lw_at lw_m10 238 rfl) rfl
theorem q2531 : (Jvm.Cond.stringRef "FlagLaundryModel" (200 : Nat) "wind") ∈ lw_tbl := lw_at lw_m10 239 rfl
theorem q2532 : (Jvm.Cond.methodLink "FlagLaundryModel" (202 : Nat) ({ cls := "FlagLaundryModel", name := "readsWind", desc := "()V" } : Jvm.MethodName)) ∈ lw_all := lw_g (lw_at lw_m11 0 rfl) rfl
theorem q2533 : (Jvm.Cond.privateMethod ({ cls := "FlagLaundryModel", name := "readsWind", desc := "()V" } : Jvm.MethodName)) ∈ lw_tbl := lw_at lw_m11 1 rfl
theorem q2534 : (Jvm.Cond.instanceMethod ({ cls := "FlagLaundryModel", name := "readsWind", desc := "()V" } : Jvm.MethodName)) ∈ lw_all := lw_g (lw_at lw_m11 2 rfl) rfl
theorem q2535 : (Jvm.Cond.code ({ cls := "FlagLaundryModel", name := "readsWind", desc := "()V" } : Jvm.MethodName) prog_20_method_34_code (2 : Nat) (Option.none : Option Jvm.ClassFile.FieldType)) ∈ lw_all := lw_g (lw_at lw_m11 3 rfl) rfl
theorem q2536 : (Jvm.Cond.stringRef "FlagLaundryModel" (205 : Nat) "pass") ∈ lw_tbl := lw_at lw_m11 4 rfl
theorem q2537 : (Jvm.Cond.methodLink "FlagLaundryModel" (207 : Nat) ({ cls := "FlagLaundryModel", name := "readsPass", desc := "()V" } : Jvm.MethodName)) ∈ lw_all := lw_g (lw_at lw_m11 5 rfl) rfl
theorem q2538 : (Jvm.Cond.privateMethod ({ cls := "FlagLaundryModel", name := "readsPass", desc := "()V" } : Jvm.MethodName)) ∈ lw_tbl := lw_at lw_m11 6 rfl
theorem q2539 : (Jvm.Cond.instanceMethod ({ cls := "FlagLaundryModel", name := "readsPass", desc := "()V" } : Jvm.MethodName)) ∈ lw_all := lw_g (lw_at lw_m11 7 rfl) rfl
theorem q2540 : (Jvm.Cond.code ({ cls := "FlagLaundryModel", name := "readsPass", desc := "()V" } : Jvm.MethodName) prog_20_method_35_code (3 : Nat) (Option.none : Option Jvm.ClassFile.FieldType)) ∈ lw_all := lw_g (lw_at lw_m11 8 rfl) rfl
theorem q2541 : (Jvm.Cond.methodLink "FlagLaundryModel" (155 : Nat) ({ cls := "FlagLaundryModel", name := "passes", desc := "()V" } : Jvm.MethodName)) ∈ lw_all := lw_g (lw_at lw_m11 9 rfl) rfl
theorem q2542 : (Jvm.Cond.privateMethod ({ cls := "FlagLaundryModel", name := "passes", desc := "()V" } : Jvm.MethodName)) ∈ lw_tbl := lw_at lw_m11 10 rfl
theorem q2543 : (Jvm.Cond.instanceMethod ({ cls := "FlagLaundryModel", name := "passes", desc := "()V" } : Jvm.MethodName)) ∈ lw_all := lw_g (lw_at lw_m11 11 rfl) rfl
theorem q2544 : (Jvm.Cond.code ({ cls := "FlagLaundryModel", name := "passes", desc := "()V" } : Jvm.MethodName) prog_20_method_72_code (1 : Nat) (Option.none : Option Jvm.ClassFile.FieldType)) ∈ lw_all := lw_g (lw_at lw_m11 12 rfl) rfl
theorem q2545 : (Jvm.Cond.methodLink "FlagLaundryModel" (296 : Nat) ({ cls := "FlagLaundryModel", name := "dries", desc := "()V" } : Jvm.MethodName)) ∈ lw_all := lw_g (lw_at lw_m11 13 rfl) rfl
theorem q2546 : (Jvm.Cond.privateMethod ({ cls := "FlagLaundryModel", name := "dries", desc := "()V" } : Jvm.MethodName)) ∈ lw_tbl := lw_at lw_m11 14 rfl
theorem q2547 : (Jvm.Cond.instanceMethod ({ cls := "FlagLaundryModel", name := "dries", desc := "()V" } : Jvm.MethodName)) ∈ lw_all := lw_g (lw_at lw_m11 15 rfl) rfl
theorem q2548 : (Jvm.Cond.code ({ cls := "FlagLaundryModel", name := "dries", desc := "()V" } : Jvm.MethodName) prog_20_method_70_code (2 : Nat) (Option.none : Option Jvm.ClassFile.FieldType)) ∈ lw_all := lw_g (lw_at lw_m11 16 rfl) rfl
theorem q2549 : (Jvm.Cond.methodLink "FlagLaundryModel" (299 : Nat) ({ cls := "FlagLaundryModel", name := "falls", desc := "()V" } : Jvm.MethodName)) ∈ lw_all := lw_g (lw_at lw_m11 17 rfl) rfl
theorem q2550 : (Jvm.Cond.privateMethod ({ cls := "FlagLaundryModel", name := "falls", desc := "()V" } : Jvm.MethodName)) ∈ lw_tbl := lw_at lw_m11 18 rfl
theorem q2551 : (Jvm.Cond.instanceMethod ({ cls := "FlagLaundryModel", name := "falls", desc := "()V" } : Jvm.MethodName)) ∈ lw_all := lw_g (lw_at lw_m11 19 rfl) rfl
theorem q2552 : (Jvm.Cond.code ({ cls := "FlagLaundryModel", name := "falls", desc := "()V" } : Jvm.MethodName) prog_20_method_71_code (2 : Nat) (Option.none : Option Jvm.ClassFile.FieldType)) ∈ lw_all := lw_g (lw_at lw_m11 20 rfl) rfl
theorem q2553 : (Jvm.Cond.methodLink "FlagLaundryModel" (293 : Nat) ({ cls := "FlagLaundryModel", name := "lastHung", desc := "()I" } : Jvm.MethodName)) ∈ lw_all := lw_g (lw_at lw_m11 21 rfl) rfl
theorem q2554 : (Jvm.Cond.privateMethod ({ cls := "FlagLaundryModel", name := "lastHung", desc := "()I" } : Jvm.MethodName)) ∈ lw_tbl := lw_at lw_m11 22 rfl
theorem q2555 : (Jvm.Cond.instanceMethod ({ cls := "FlagLaundryModel", name := "lastHung", desc := "()I" } : Jvm.MethodName)) ∈ lw_all := lw_g (lw_at lw_m11 23 rfl) rfl
theorem q2556 : (Jvm.Cond.code ({ cls := "FlagLaundryModel", name := "lastHung", desc := "()I" } : Jvm.MethodName) prog_20_method_69_code (2 : Nat) (Option.some Jvm.ClassFile.FieldType.int)) ∈ lw_all := lw_g (lw_at lw_m11 24 rfl) rfl
theorem q2557 : (Jvm.Cond.methodLink "FlagLaundryModel" (221 : Nat) ({ cls := "FlagLaundryModel", name := "back", desc := "(I)I" } : Jvm.MethodName)) ∈ lw_all := lw_g (lw_at lw_m11 25 rfl) rfl
theorem q2558 : (Jvm.Cond.privateMethod ({ cls := "FlagLaundryModel", name := "back", desc := "(I)I" } : Jvm.MethodName)) ∈ lw_tbl := lw_at lw_m11 26 rfl
theorem q2559 : (Jvm.Cond.instanceMethod ({ cls := "FlagLaundryModel", name := "back", desc := "(I)I" } : Jvm.MethodName)) ∈ lw_all := lw_g (lw_at lw_m11 27 rfl) rfl
theorem q2560 : (Jvm.Cond.code ({ cls := "FlagLaundryModel", name := "back", desc := "(I)I" } : Jvm.MethodName) prog_20_method_11_code (2 : Nat) (Option.some Jvm.ClassFile.FieldType.int)) ∈ lw_all := lw_g (lw_at lw_m11 28 rfl) rfl
theorem q2562 : (Jvm.Cond.instanceMethod ({ cls := "FlagLaundryModel", name := "count", desc := "(I)I" } : Jvm.MethodName)) ∈ lw_all := lw_g (lw_at lw_m11 30 rfl) rfl
theorem q2563 : (Jvm.Cond.selects "FlagLaundryModel" ({ cls := "FlagLaundryModel", name := "count", desc := "(I)I" } : Jvm.MethodName) ({ cls := "FlagLaundryModel", name := "count", desc := "(I)I" } : Jvm.MethodName)) ∈ lw_all := lw_g (lw_at lw_m11 31 rfl) rfl
theorem q2564 : (Jvm.Cond.code ({ cls := "FlagLaundryModel", name := "count", desc := "(I)I" } : Jvm.MethodName) prog_20_method_82_code (2 : Nat) (Option.some Jvm.ClassFile.FieldType.int)) ∈ lw_all := lw_g (lw_at lw_m11 32 rfl) rfl
theorem q2565 : (Jvm.Cond.methodLink "FlagLaundryModel" (314 : Nat) ({ cls := "FlagLaundryModel", name := "mayTwo", desc := "(ZZ)Z" } : Jvm.MethodName)) ∈ lw_all := lw_g (lw_at lw_m11 33 rfl) rfl
theorem q2566 : (Jvm.Cond.privateMethod ({ cls := "FlagLaundryModel", name := "mayTwo", desc := "(ZZ)Z" } : Jvm.MethodName)) ∈ lw_tbl := lw_at lw_m11 34 rfl
theorem q2567 : (Jvm.Cond.instanceMethod ({ cls := "FlagLaundryModel", name := "mayTwo", desc := "(ZZ)Z" } : Jvm.MethodName)) ∈ lw_all := lw_g (lw_at lw_m11 35 rfl) rfl
theorem q2568 : (Jvm.Cond.code ({ cls := "FlagLaundryModel", name := "mayTwo", desc := "(ZZ)Z" } : Jvm.MethodName) prog_20_method_7_code (3 : Nat) (Option.some Jvm.ClassFile.FieldType.boolean)) ∈ lw_all := lw_g (lw_at lw_m11 36 rfl) rfl
theorem q2569 : (Jvm.Cond.methodLink "FlagLaundryModel" (318 : Nat) ({ cls := "FlagLaundryModel", name := "readyMany", desc := "()I" } : Jvm.MethodName)) ∈ lw_all := lw_g (lw_at lw_m11 37 rfl) rfl
theorem q2570 : (Jvm.Cond.privateMethod ({ cls := "FlagLaundryModel", name := "readyMany", desc := "()I" } : Jvm.MethodName)) ∈ lw_tbl := lw_at lw_m11 38 rfl
theorem q2571 : (Jvm.Cond.instanceMethod ({ cls := "FlagLaundryModel", name := "readyMany", desc := "()I" } : Jvm.MethodName)) ∈ lw_all := lw_g (lw_at lw_m11 39 rfl) rfl
theorem q2572 : (Jvm.Cond.code ({ cls := "FlagLaundryModel", name := "readyMany", desc := "()I" } : Jvm.MethodName) prog_20_method_81_code (3 : Nat) (Option.some Jvm.ClassFile.FieldType.int)) ∈ lw_all := lw_g (lw_at lw_m11 40 rfl) rfl
theorem q2573 : (Jvm.Cond.methodLink "FlagLaundryModel" (311 : Nat) ({ cls := "FlagLaundryModel", name := "whyNotReady", desc := "(I)I" } : Jvm.MethodName)) ∈ lw_all := lw_g (lw_at lw_m11 41 rfl) rfl
theorem q2574 : (Jvm.Cond.privateMethod ({ cls := "FlagLaundryModel", name := "whyNotReady", desc := "(I)I" } : Jvm.MethodName)) ∈ lw_tbl := lw_at lw_m11 42 rfl
theorem q2575 : (Jvm.Cond.instanceMethod ({ cls := "FlagLaundryModel", name := "whyNotReady", desc := "(I)I" } : Jvm.MethodName)) ∈ lw_all := lw_g (lw_at lw_m11 43 rfl) rfl
theorem q2576 : (Jvm.Cond.code ({ cls := "FlagLaundryModel", name := "whyNotReady", desc := "(I)I" } : Jvm.MethodName) prog_20_method_50_code (3 : Nat) (Option.some Jvm.ClassFile.FieldType.int)) ∈ lw_all := lw_g (lw_at lw_m11 44 rfl) rfl
theorem q2577 : (Jvm.Cond.methodLink "FlagLaundryModel" (239 : Nat) ({ cls := "FlagLaundryModel", name := "applies", desc := "(II)Z" } : Jvm.MethodName)) ∈ lw_all := lw_g (lw_at lw_m11 45 rfl) rfl
theorem q2578 : (Jvm.Cond.privateMethod ({ cls := "FlagLaundryModel", name := "applies", desc := "(II)Z" } : Jvm.MethodName)) ∈ lw_tbl := lw_at lw_m11 46 rfl
theorem q2579 : (Jvm.Cond.instanceMethod ({ cls := "FlagLaundryModel", name := "applies", desc := "(II)Z" } : Jvm.MethodName)) ∈ lw_all := lw_g (lw_at lw_m11 47 rfl) rfl
theorem q2580 : (Jvm.Cond.code ({ cls := "FlagLaundryModel", name := "applies", desc := "(II)Z" } : Jvm.MethodName) prog_20_method_49_code (3 : Nat) (Option.some Jvm.ClassFile.FieldType.boolean)) ∈ lw_all := lw_g (lw_at lw_m11 48 rfl) rfl
theorem q2581 : (Jvm.Cond.methodLink "FlagLaundryModel" (321 : Nat) ({ cls := "FlagLaundryModel", name := "flagsAt", desc := "(I)I" } : Jvm.MethodName)) ∈ lw_all := lw_g (lw_at lw_m11 49 rfl) rfl
theorem q2582 : (Jvm.Cond.privateMethod ({ cls := "FlagLaundryModel", name := "flagsAt", desc := "(I)I" } : Jvm.MethodName)) ∈ lw_tbl := lw_at lw_m11 50 rfl
theorem q2583 : (Jvm.Cond.instanceMethod ({ cls := "FlagLaundryModel", name := "flagsAt", desc := "(I)I" } : Jvm.MethodName)) ∈ lw_all := lw_g (lw_at lw_m11 51 rfl) rfl
theorem q2584 : (Jvm.Cond.code ({ cls := "FlagLaundryModel", name := "flagsAt", desc := "(I)I" } : Jvm.MethodName) prog_20_method_80_code (4 : Nat) (Option.some Jvm.ClassFile.FieldType.int)) ∈ lw_all := lw_g (lw_at lw_m11 52 rfl) rfl
theorem q2586 : (Jvm.Cond.instanceMethod ({ cls := "FlagLaundryModel", name := "colour", desc := "(II)I" } : Jvm.MethodName)) ∈ lw_all := lw_g (lw_at lw_m11 54 rfl) rfl
theorem q2587 : (Jvm.Cond.selects "FlagLaundryModel" ({ cls := "FlagLaundryModel", name := "colour", desc := "(II)I" } : Jvm.MethodName) ({ cls := "FlagLaundryModel", name := "colour", desc := "(II)I" } : Jvm.MethodName)) ∈ lw_all := lw_g (lw_at lw_m11 55 rfl) rfl
theorem q2588 : (Jvm.Cond.code ({ cls := "FlagLaundryModel", name := "colour", desc := "(II)I" } : Jvm.MethodName) prog_20_method_92_code (3 : Nat) (Option.some Jvm.ClassFile.FieldType.int)) ∈ lw_all := lw_g (lw_at lw_m11 56 rfl) rfl
theorem q2589 : (Jvm.Cond.methodLink "FlagLaundryModel" (333 : Nat) ({ cls := "FlagLaundryModel", name := "isColour", desc := "(I)Z" } : Jvm.MethodName)) ∈ lw_all := lw_g (lw_at lw_m11 57 rfl) rfl
theorem q2590 : (Jvm.Cond.privateMethod ({ cls := "FlagLaundryModel", name := "isColour", desc := "(I)Z" } : Jvm.MethodName)) ∈ lw_tbl := lw_at lw_m11 58 rfl
theorem q2591 : (Jvm.Cond.instanceMethod ({ cls := "FlagLaundryModel", name := "isColour", desc := "(I)Z" } : Jvm.MethodName)) ∈ lw_all := lw_g (lw_at lw_m11 59 rfl) rfl
theorem q2592 : (Jvm.Cond.code ({ cls := "FlagLaundryModel", name := "isColour", desc := "(I)Z" } : Jvm.MethodName) prog_20_method_83_code (2 : Nat) (Option.some Jvm.ClassFile.FieldType.boolean)) ∈ lw_all := lw_g (lw_at lw_m11 60 rfl) rfl
theorem q2593 : (Jvm.Cond.methodLink "FlagLaundryModel" (336 : Nat) ({ cls := "FlagLaundryModel", name := "flagsWith", desc := "(II)I" } : Jvm.MethodName)) ∈ lw_all := lw_g (lw_at lw_m11 61 rfl) rfl
theorem q2594 : (Jvm.Cond.privateMethod ({ cls := "FlagLaundryModel", name := "flagsWith", desc := "(II)I" } : Jvm.MethodName)) ∈ lw_tbl := lw_at lw_m11 62 rfl
theorem q2595 : (Jvm.Cond.instanceMethod ({ cls := "FlagLaundryModel", name := "flagsWith", desc := "(II)I" } : Jvm.MethodName)) ∈ lw_all := lw_g (lw_at lw_m11 63 rfl) rfl
theorem q2596 : (Jvm.Cond.code ({ cls := "FlagLaundryModel", name := "flagsWith", desc := "(II)I" } : Jvm.MethodName) prog_20_method_91_code (5 : Nat) (Option.some Jvm.ClassFile.FieldType.int)) ∈ lw_all := lw_g (lw_at lw_m11 64 rfl) rfl
theorem q2598 : (Jvm.Cond.instanceMethod ({ cls := "FlagLaundryModel", name := "nation", desc := "(II)I" } : Jvm.MethodName)) ∈ lw_all := lw_g (lw_at lw_m11 66 rfl) rfl
theorem q2599 : (Jvm.Cond.selects "FlagLaundryModel" ({ cls := "FlagLaundryModel", name := "nation", desc := "(II)I" } : Jvm.MethodName) ({ cls := "FlagLaundryModel", name := "nation", desc := "(II)I" } : Jvm.MethodName)) ∈ lw_all := lw_g (lw_at lw_m11 67 rfl) rfl
theorem q2600 : (Jvm.Cond.code ({ cls := "FlagLaundryModel", name := "nation", desc := "(II)I" } : Jvm.MethodName) prog_20_method_94_code (3 : Nat) (Option.some Jvm.ClassFile.FieldType.int)) ∈ lw_all := lw_g (lw_at lw_m11 68 rfl) rfl
theorem q2601 : (Jvm.Cond.methodLink "FlagLaundryModel" (339 : Nat) ({ cls := "FlagLaundryModel", name := "isNation", desc := "(I)Z" } : Jvm.MethodName)) ∈ lw_all := lw_g (lw_at lw_m11 69 rfl) rfl
theorem q2602 : (Jvm.Cond.privateMethod ({ cls := "FlagLaundryModel", name := "isNation", desc := "(I)Z" } : Jvm.MethodName)) ∈ lw_tbl := lw_at lw_m11 70 rfl
theorem q2603 : (Jvm.Cond.instanceMethod ({ cls := "FlagLaundryModel", name := "isNation", desc := "(I)Z" } : Jvm.MethodName)) ∈ lw_all := lw_g (lw_at lw_m11 71 rfl) rfl
theorem q2604 : (Jvm.Cond.code ({ cls := "FlagLaundryModel", name := "isNation", desc := "(I)Z" } : Jvm.MethodName) prog_20_method_84_code (2 : Nat) (Option.some Jvm.ClassFile.FieldType.boolean)) ∈ lw_all := lw_g (lw_at lw_m11 72 rfl) rfl
theorem q2605 : (Jvm.Cond.methodLink "FlagLaundryModel" (305 : Nat) ({ cls := "FlagLaundryModel", name := "flagsOf", desc := "(I)I" } : Jvm.MethodName)) ∈ lw_all := lw_g (lw_at lw_m11 73 rfl) rfl
theorem q2606 : (Jvm.Cond.privateMethod ({ cls := "FlagLaundryModel", name := "flagsOf", desc := "(I)I" } : Jvm.MethodName)) ∈ lw_tbl := lw_at lw_m11 74 rfl
theorem q2607 : (Jvm.Cond.instanceMethod ({ cls := "FlagLaundryModel", name := "flagsOf", desc := "(I)I" } : Jvm.MethodName)) ∈ lw_all := lw_g (lw_at lw_m11 75 rfl) rfl
theorem q2608 : (Jvm.Cond.code ({ cls := "FlagLaundryModel", name := "flagsOf", desc := "(I)I" } : Jvm.MethodName) prog_20_method_75_code (4 : Nat) (Option.some Jvm.ClassFile.FieldType.int)) ∈ lw_all := lw_g (lw_at lw_m11 76 rfl) rfl
theorem q2609 : (Jvm.Cond.methodLink "FlagLaundryModel" (342 : Nat) ({ cls := "FlagLaundryModel", name := "readyOf", desc := "(I)I" } : Jvm.MethodName)) ∈ lw_all := lw_g (lw_at lw_m11 77 rfl) rfl
theorem q2610 : (Jvm.Cond.privateMethod ({ cls := "FlagLaundryModel", name := "readyOf", desc := "(I)I" } : Jvm.MethodName)) ∈ lw_tbl := lw_at lw_m11 78 rfl
theorem q2611 : (Jvm.Cond.instanceMethod ({ cls := "FlagLaundryModel", name := "readyOf", desc := "(I)I" } : Jvm.MethodName)) ∈ lw_all := lw_g (lw_at lw_m11 79 rfl) rfl
theorem q2612 : (Jvm.Cond.code ({ cls := "FlagLaundryModel", name := "readyOf", desc := "(I)I" } : Jvm.MethodName) prog_20_method_93_code (4 : Nat) (Option.some Jvm.ClassFile.FieldType.int)) ∈ lw_all := lw_g (lw_at lw_m11 80 rfl) rfl
theorem q2613 : (Jvm.Cond.methodLink "FlagLaundryModel" (302 : Nat) ({ cls := "FlagLaundryModel", name := "ofNation", desc := "(II)I" } : Jvm.MethodName)) ∈ lw_all := lw_g (lw_at lw_m11 81 rfl) rfl
theorem q2614 : (Jvm.Cond.privateMethod ({ cls := "FlagLaundryModel", name := "ofNation", desc := "(II)I" } : Jvm.MethodName)) ∈ lw_tbl := lw_at lw_m11 82 rfl
theorem q2615 : (Jvm.Cond.instanceMethod ({ cls := "FlagLaundryModel", name := "ofNation", desc := "(II)I" } : Jvm.MethodName)) ∈ lw_all := lw_g (lw_at lw_m11 83 rfl) rfl
theorem q2616 : (Jvm.Cond.code ({ cls := "FlagLaundryModel", name := "ofNation", desc := "(II)I" } : Jvm.MethodName) prog_20_method_40_code (3 : Nat) (Option.some Jvm.ClassFile.FieldType.int)) ∈ lw_all := lw_g (lw_at lw_m11 84 rfl) rfl
theorem q2617 : (Jvm.Cond.methodLink "FlagLaundryModel" (345 : Nat) ({ cls := "FlagLaundryModel", name := "isHanded", desc := "(I)Z" } : Jvm.MethodName)) ∈ lw_all := lw_g (lw_at lw_m11 85 rfl) rfl
theorem q2618 : (Jvm.Cond.privateMethod ({ cls := "FlagLaundryModel", name := "isHanded", desc := "(I)Z" } : Jvm.MethodName)) ∈ lw_tbl := lw_at lw_m11 86 rfl
theorem q2619 : (Jvm.Cond.instanceMethod ({ cls := "FlagLaundryModel", name := "isHanded", desc := "(I)Z" } : Jvm.MethodName)) ∈ lw_all := lw_g (lw_at lw_m11 87 rfl) rfl
theorem q2620 : (Jvm.Cond.code ({ cls := "FlagLaundryModel", name := "isHanded", desc := "(I)Z" } : Jvm.MethodName) prog_20_method_78_code (2 : Nat) (Option.some Jvm.ClassFile.FieldType.boolean)) ∈ lw_all := lw_g (lw_at lw_m11 88 rfl) rfl
theorem q2621 : (Jvm.Cond.methodLink "FlagLaundryModel" (308 : Nat) ({ cls := "FlagLaundryModel", name := "lateAt", desc := "(II)I" } : Jvm.MethodName)) ∈ lw_all := lw_g (lw_at lw_m11 89 rfl) rfl
theorem q2622 : (Jvm.Cond.privateMethod ({ cls := "FlagLaundryModel", name := "lateAt", desc := "(II)I" } : Jvm.MethodName)) ∈ lw_tbl := lw_at lw_m11 90 rfl
theorem q2623 : (Jvm.Cond.instanceMethod ({ cls := "FlagLaundryModel", name := "lateAt", desc := "(II)I" } : Jvm.MethodName)) ∈ lw_all := lw_g (lw_at lw_m11 91 rfl) rfl
theorem q2624 : (Jvm.Cond.code ({ cls := "FlagLaundryModel", name := "lateAt", desc := "(II)I" } : Jvm.MethodName) prog_20_method_76_code (3 : Nat) (Option.some Jvm.ClassFile.FieldType.int)) ∈ lw_all := lw_g (lw_at lw_m11 92 rfl) rfl
theorem q2626 : (Jvm.Cond.instanceMethod ({ cls := "FlagLaundryModel", name := "flag", desc := "(II)I" } : Jvm.MethodName)) ∈ lw_all := lw_g (lw_at lw_m11 94 rfl) rfl
theorem q2627 : (Jvm.Cond.selects "FlagLaundryModel" ({ cls := "FlagLaundryModel", name := "flag", desc := "(II)I" } : Jvm.MethodName) ({ cls := "FlagLaundryModel", name := "flag", desc := "(II)I" } : Jvm.MethodName)) ∈ lw_all := lw_g (lw_at lw_m11 95 rfl) rfl
theorem q2628 : (Jvm.Cond.code ({ cls := "FlagLaundryModel", name := "flag", desc := "(II)I" } : Jvm.MethodName) prog_20_method_95_code (3 : Nat) (Option.some Jvm.ClassFile.FieldType.int)) ∈ lw_all := lw_g (lw_at lw_m11 96 rfl) rfl
theorem q2629 : (Jvm.Cond.methodLink "FlagLaundryModel" (324 : Nat) ({ cls := "FlagLaundryModel", name := "isFlag", desc := "(I)Z" } : Jvm.MethodName)) ∈ lw_all := lw_g (lw_at lw_m11 97 rfl) rfl
theorem q2630 : (Jvm.Cond.privateMethod ({ cls := "FlagLaundryModel", name := "isFlag", desc := "(I)Z" } : Jvm.MethodName)) ∈ lw_tbl := lw_at lw_m11 98 rfl
theorem q2631 : (Jvm.Cond.instanceMethod ({ cls := "FlagLaundryModel", name := "isFlag", desc := "(I)Z" } : Jvm.MethodName)) ∈ lw_all := lw_g (lw_at lw_m11 99 rfl) rfl
theorem q2632 : (Jvm.Cond.code ({ cls := "FlagLaundryModel", name := "isFlag", desc := "(I)Z" } : Jvm.MethodName) prog_20_method_85_code (2 : Nat) (Option.some Jvm.ClassFile.FieldType.boolean)) ∈ lw_all := lw_g (lw_at lw_m11 100 rfl) rfl
theorem q2634 : (Jvm.Cond.instanceMethod ({ cls := "FlagLaundryModel", name := "tub", desc := "(II)I" } : Jvm.MethodName)) ∈ lw_all := lw_g (lw_at lw_m11 102 rfl) rfl
theorem q2635 : (Jvm.Cond.selects "FlagLaundryModel" ({ cls := "FlagLaundryModel", name := "tub", desc := "(II)I" } : Jvm.MethodName) ({ cls := "FlagLaundryModel", name := "tub", desc := "(II)I" } : Jvm.MethodName)) ∈ lw_all := lw_g (lw_at lw_m11 103 rfl) rfl
theorem q2636 : (Jvm.Cond.code ({ cls := "FlagLaundryModel", name := "tub", desc := "(II)I" } : Jvm.MethodName) prog_20_method_97_code (3 : Nat) (Option.some Jvm.ClassFile.FieldType.int)) ∈ lw_all := lw_g (lw_at lw_m11 104 rfl) rfl
theorem q2637 : (Jvm.Cond.methodLink "FlagLaundryModel" (327 : Nat) ({ cls := "FlagLaundryModel", name := "isTub", desc := "(I)Z" } : Jvm.MethodName)) ∈ lw_all := lw_g (lw_at lw_m11 105 rfl) rfl
theorem q2638 : (Jvm.Cond.privateMethod ({ cls := "FlagLaundryModel", name := "isTub", desc := "(I)Z" } : Jvm.MethodName)) ∈ lw_tbl := lw_at lw_m11 106 rfl
theorem q2639 : (Jvm.Cond.instanceMethod ({ cls := "FlagLaundryModel", name := "isTub", desc := "(I)Z" } : Jvm.MethodName)) ∈ lw_all := lw_g (lw_at lw_m11 107 rfl) rfl
theorem q2640 : (Jvm.Cond.code ({ cls := "FlagLaundryModel", name := "isTub", desc := "(I)Z" } : Jvm.MethodName) prog_20_method_86_code (2 : Nat) (Option.some Jvm.ClassFile.FieldType.boolean)) ∈ lw_all := lw_g (lw_at lw_m11 108 rfl) rfl
theorem q2641 : (Jvm.Cond.methodLink "FlagLaundryModel" (348 : Nat) ({ cls := "FlagLaundryModel", name := "ofTub", desc := "(II)I" } : Jvm.MethodName)) ∈ lw_all := lw_g (lw_at lw_m11 109 rfl) rfl
theorem q2642 : (Jvm.Cond.privateMethod ({ cls := "FlagLaundryModel", name := "ofTub", desc := "(II)I" } : Jvm.MethodName)) ∈ lw_tbl := lw_at lw_m11 110 rfl
theorem q2643 : (Jvm.Cond.instanceMethod ({ cls := "FlagLaundryModel", name := "ofTub", desc := "(II)I" } : Jvm.MethodName)) ∈ lw_all := lw_g (lw_at lw_m11 111 rfl) rfl
theorem q2644 : (Jvm.Cond.code ({ cls := "FlagLaundryModel", name := "ofTub", desc := "(II)I" } : Jvm.MethodName) prog_20_method_96_code (5 : Nat) (Option.some Jvm.ClassFile.FieldType.int)) ∈ lw_all := lw_g (lw_at lw_m11 112 rfl) rfl
theorem q2646 : (Jvm.Cond.instanceMethod ({ cls := "FlagLaundryModel", name := "inTub", desc := "(II)I" } : Jvm.MethodName)) ∈ lw_all := lw_g (lw_at lw_m11 114 rfl) rfl
theorem q2647 : (Jvm.Cond.selects "FlagLaundryModel" ({ cls := "FlagLaundryModel", name := "inTub", desc := "(II)I" } : Jvm.MethodName) ({ cls := "FlagLaundryModel", name := "inTub", desc := "(II)I" } : Jvm.MethodName)) ∈ lw_all := lw_g (lw_at lw_m11 115 rfl) rfl
theorem q2648 : (Jvm.Cond.code ({ cls := "FlagLaundryModel", name := "inTub", desc := "(II)I" } : Jvm.MethodName) prog_20_method_100_code (3 : Nat) (Option.some Jvm.ClassFile.FieldType.int)) ∈ lw_all := lw_g (lw_at lw_m11 116 rfl) rfl
theorem q2649 : (Jvm.Cond.methodLink "FlagLaundryModel" (354 : Nat) ({ cls := "FlagLaundryModel", name := "mayTub", desc := "(I)Z" } : Jvm.MethodName)) ∈ lw_all := lw_g (lw_at lw_m11 117 rfl) rfl
theorem q2650 : (Jvm.Cond.privateMethod ({ cls := "FlagLaundryModel", name := "mayTub", desc := "(I)Z" } : Jvm.MethodName)) ∈ lw_tbl := lw_at lw_m11 118 rfl
theorem q2651 : (Jvm.Cond.instanceMethod ({ cls := "FlagLaundryModel", name := "mayTub", desc := "(I)Z" } : Jvm.MethodName)) ∈ lw_all := lw_g (lw_at lw_m11 119 rfl) rfl
theorem q2652 : (Jvm.Cond.code ({ cls := "FlagLaundryModel", name := "mayTub", desc := "(I)Z" } : Jvm.MethodName) prog_20_method_89_code (2 : Nat) (Option.some Jvm.ClassFile.FieldType.boolean)) ∈ lw_all := lw_g (lw_at lw_m11 120 rfl) rfl
theorem q2653 : (Jvm.Cond.methodLink "FlagLaundryModel" (357 : Nat) ({ cls := "FlagLaundryModel", name := "flagIn", desc := "(II)I" } : Jvm.MethodName)) ∈ lw_all := lw_g (lw_at lw_m11 121 rfl) rfl
theorem q2654 : (Jvm.Cond.privateMethod ({ cls := "FlagLaundryModel", name := "flagIn", desc := "(II)I" } : Jvm.MethodName)) ∈ lw_tbl := lw_at lw_m11 122 rfl
theorem q2655 : (Jvm.Cond.instanceMethod ({ cls := "FlagLaundryModel", name := "flagIn", desc := "(II)I" } : Jvm.MethodName)) ∈ lw_all := lw_g (lw_at lw_m11 123 rfl) rfl
theorem q2656 : (Jvm.Cond.code ({ cls := "FlagLaundryModel", name := "flagIn", desc := "(II)I" } : Jvm.MethodName) prog_20_method_99_code (4 : Nat) (Option.some Jvm.ClassFile.FieldType.int)) ∈ lw_all := lw_g (lw_at lw_m11 124 rfl) rfl
theorem q2657 : (Jvm.Cond.methodLink "FlagLaundryModel" (351 : Nat) ({ cls := "FlagLaundryModel", name := "ahead", desc := "(I)I" } : Jvm.MethodName)) ∈ lw_all := lw_g (lw_at lw_m11 125 rfl) rfl
theorem q2658 : (Jvm.Cond.privateMethod ({ cls := "FlagLaundryModel", name := "ahead", desc := "(I)I" } : Jvm.MethodName)) ∈ lw_tbl := lw_at lw_m11 126 rfl
theorem q2659 : (Jvm.Cond.instanceMethod ({ cls := "FlagLaundryModel", name := "ahead", desc := "(I)I" } : Jvm.MethodName)) ∈ lw_all := lw_g (lw_at lw_m11 127 rfl) rfl
theorem q2660 : (Jvm.Cond.code ({ cls := "FlagLaundryModel", name := "ahead", desc := "(I)I" } : Jvm.MethodName) prog_20_method_98_code (4 : Nat) (Option.some Jvm.ClassFile.FieldType.int)) ∈ lw_all := lw_g (lw_at lw_m11 128 rfl) rfl
theorem q2662 : (Jvm.Cond.instanceMethod ({ cls := "FlagLaundryModel", name := "onPeg", desc := "(I)I" } : Jvm.MethodName)) ∈ lw_all := lw_g (lw_at lw_m11 130 rfl) rfl
theorem q2663 : (Jvm.Cond.selects "FlagLaundryModel" ({ cls := "FlagLaundryModel", name := "onPeg", desc := "(I)I" } : Jvm.MethodName) ({ cls := "FlagLaundryModel", name := "onPeg", desc := "(I)I" } : Jvm.MethodName)) ∈ lw_all := lw_g (lw_at lw_m11 131 rfl) rfl
theorem q2664 : (Jvm.Cond.code ({ cls := "FlagLaundryModel", name := "onPeg", desc := "(I)I" } : Jvm.MethodName) prog_20_method_101_code (2 : Nat) (Option.some Jvm.ClassFile.FieldType.int)) ∈ lw_all := lw_g (lw_at lw_m11 132 rfl) rfl
theorem q2666 : (Jvm.Cond.instanceMethod ({ cls := "FlagLaundryModel", name := "freePegs", desc := "()I" } : Jvm.MethodName)) ∈ lw_all := lw_g (lw_at lw_m11 134 rfl) rfl
theorem q2667 : (Jvm.Cond.selects "FlagLaundryModel" ({ cls := "FlagLaundryModel", name := "freePegs", desc := "()I" } : Jvm.MethodName) ({ cls := "FlagLaundryModel", name := "freePegs", desc := "()I" } : Jvm.MethodName)) ∈ lw_all := lw_g (lw_at lw_m11 135 rfl) rfl
theorem q2668 : (Jvm.Cond.code ({ cls := "FlagLaundryModel", name := "freePegs", desc := "()I" } : Jvm.MethodName) prog_20_method_102_code (1 : Nat) (Option.some Jvm.ClassFile.FieldType.int)) ∈ lw_all := lw_g (lw_at lw_m11 136 rfl) rfl
theorem q2669 : (Jvm.Cond.methodLink "FlagLaundryModel" (360 : Nat) ({ cls := "FlagLaundryModel", name := "mayLook", desc := "()Z" } : Jvm.MethodName)) ∈ lw_all := lw_g (lw_at lw_m11 137 rfl) rfl
theorem q2670 : (Jvm.Cond.privateMethod ({ cls := "FlagLaundryModel", name := "mayLook", desc := "()Z" } : Jvm.MethodName)) ∈ lw_tbl := lw_at lw_m11 138 rfl
theorem q2671 : (Jvm.Cond.instanceMethod ({ cls := "FlagLaundryModel", name := "mayLook", desc := "()Z" } : Jvm.MethodName)) ∈ lw_all := lw_g (lw_at lw_m11 139 rfl) rfl
theorem q2672 : (Jvm.Cond.code ({ cls := "FlagLaundryModel", name := "mayLook", desc := "()Z" } : Jvm.MethodName) prog_20_method_8_code (1 : Nat) (Option.some Jvm.ClassFile.FieldType.boolean)) ∈ lw_all := lw_g (lw_at lw_m11 140 rfl) rfl
theorem q2674 : (Jvm.Cond.instanceMethod ({ cls := "FlagLaundryModel", name := "wettest", desc := "()I" } : Jvm.MethodName)) ∈ lw_all := lw_g (lw_at lw_m11 142 rfl) rfl
theorem q2675 : (Jvm.Cond.selects "FlagLaundryModel" ({ cls := "FlagLaundryModel", name := "wettest", desc := "()I" } : Jvm.MethodName) ({ cls := "FlagLaundryModel", name := "wettest", desc := "()I" } : Jvm.MethodName)) ∈ lw_all := lw_g (lw_at lw_m11 143 rfl) rfl
theorem q2676 : (Jvm.Cond.code ({ cls := "FlagLaundryModel", name := "wettest", desc := "()I" } : Jvm.MethodName) prog_20_method_103_code (3 : Nat) (Option.some Jvm.ClassFile.FieldType.int)) ∈ lw_all := lw_g (lw_at lw_m11 144 rfl) rfl
theorem q2678 : (Jvm.Cond.instanceMethod ({ cls := "FlagLaundryModel", name := "gap", desc := "()I" } : Jvm.MethodName)) ∈ lw_all := lw_g (lw_at lw_m11 146 rfl) rfl
theorem q2679 : (Jvm.Cond.selects "FlagLaundryModel" ({ cls := "FlagLaundryModel", name := "gap", desc := "()I" } : Jvm.MethodName) ({ cls := "FlagLaundryModel", name := "gap", desc := "()I" } : Jvm.MethodName)) ∈ lw_all := lw_g (lw_at lw_m11 147 rfl) rfl
theorem q2680 : (Jvm.Cond.code ({ cls := "FlagLaundryModel", name := "gap", desc := "()I" } : Jvm.MethodName) prog_20_method_104_code (4 : Nat) (Option.some Jvm.ClassFile.FieldType.int)) ∈ lw_all := lw_g (lw_at lw_m11 148 rfl) rfl
theorem q2681 : (Jvm.Cond.methodLink "FlagLaundryModel" (364 : Nat) ({ cls := "java/lang/Math", name := "abs", desc := "(I)I" } : Jvm.MethodName)) ∈ lw_all := lw_g (lw_at lw_m11 149 rfl) rfl
theorem q2683 : (Jvm.Cond.instanceMethod ({ cls := "FlagLaundryModel", name := "why", desc := "(I)I" } : Jvm.MethodName)) ∈ lw_all := lw_g (lw_at lw_m11 151 rfl) rfl
theorem q2684 : (Jvm.Cond.selects "FlagLaundryModel" ({ cls := "FlagLaundryModel", name := "why", desc := "(I)I" } : Jvm.MethodName) ({ cls := "FlagLaundryModel", name := "why", desc := "(I)I" } : Jvm.MethodName)) ∈ lw_all := lw_g (lw_at lw_m11 152 rfl) rfl
theorem q2685 : (Jvm.Cond.code ({ cls := "FlagLaundryModel", name := "why", desc := "(I)I" } : Jvm.MethodName) prog_20_method_105_code (2 : Nat) (Option.some Jvm.ClassFile.FieldType.int)) ∈ lw_all := lw_g (lw_at lw_m11 153 rfl) rfl
theorem q2686 : (Jvm.Cond.methodLink "FlagLaundryModel" (367 : Nat) ({ cls := "FlagLaundryModel", name := "mayFlag", desc := "(I)Z" } : Jvm.MethodName)) ∈ lw_all := lw_g (lw_at lw_m11 154 rfl) rfl
theorem q2687 : (Jvm.Cond.privateMethod ({ cls := "FlagLaundryModel", name := "mayFlag", desc := "(I)Z" } : Jvm.MethodName)) ∈ lw_tbl := lw_at lw_m11 155 rfl
theorem q2688 : (Jvm.Cond.instanceMethod ({ cls := "FlagLaundryModel", name := "mayFlag", desc := "(I)Z" } : Jvm.MethodName)) ∈ lw_all := lw_g (lw_at lw_m11 156 rfl) rfl
theorem q2689 : (Jvm.Cond.code ({ cls := "FlagLaundryModel", name := "mayFlag", desc := "(I)Z" } : Jvm.MethodName) prog_20_method_88_code (2 : Nat) (Option.some Jvm.ClassFile.FieldType.boolean)) ∈ lw_all := lw_g (lw_at lw_m11 157 rfl) rfl
theorem q2691 : (Jvm.Cond.instanceMethod ({ cls := "FlagLaundryModel", name := "reasons", desc := "(I)I" } : Jvm.MethodName)) ∈ lw_all := lw_g (lw_at lw_m11 159 rfl) rfl
theorem q2692 : (Jvm.Cond.selects "FlagLaundryModel" ({ cls := "FlagLaundryModel", name := "reasons", desc := "(I)I" } : Jvm.MethodName) ({ cls := "FlagLaundryModel", name := "reasons", desc := "(I)I" } : Jvm.MethodName)) ∈ lw_all := lw_g (lw_at lw_m11 160 rfl) rfl
theorem q2693 : (Jvm.Cond.code ({ cls := "FlagLaundryModel", name := "reasons", desc := "(I)I" } : Jvm.MethodName) prog_20_method_106_code (4 : Nat) (Option.some Jvm.ClassFile.FieldType.int)) ∈ lw_all := lw_g (lw_at lw_m11 161 rfl) rfl
theorem q2695 : (Jvm.Cond.instanceMethod ({ cls := "FlagLaundryModel", name := "culprit", desc := "(I)I" } : Jvm.MethodName)) ∈ lw_all := lw_g (lw_at lw_m11 163 rfl) rfl
theorem q2696 : (Jvm.Cond.selects "FlagLaundryModel" ({ cls := "FlagLaundryModel", name := "culprit", desc := "(I)I" } : Jvm.MethodName) ({ cls := "FlagLaundryModel", name := "culprit", desc := "(I)I" } : Jvm.MethodName)) ∈ lw_all := lw_g (lw_at lw_m11 164 rfl) rfl
theorem q2697 : (Jvm.Cond.code ({ cls := "FlagLaundryModel", name := "culprit", desc := "(I)I" } : Jvm.MethodName) prog_20_method_107_code (2 : Nat) (Option.some Jvm.ClassFile.FieldType.int)) ∈ lw_all := lw_g (lw_at lw_m11 165 rfl) rfl
theorem q2698 : (Jvm.Cond.methodLink "FlagLaundryModel" (370 : Nat) ({ cls := "FlagLaundryModel", name := "culpritOf", desc := "(I)I" } : Jvm.MethodName)) ∈ lw_all := lw_g (lw_at lw_m11 166 rfl) rfl
theorem q2699 : (Jvm.Cond.privateMethod ({ cls := "FlagLaundryModel", name := "culpritOf", desc := "(I)I" } : Jvm.MethodName)) ∈ lw_tbl := lw_at lw_m11 167 rfl
theorem q2700 : (Jvm.Cond.instanceMethod ({ cls := "FlagLaundryModel", name := "culpritOf", desc := "(I)I" } : Jvm.MethodName)) ∈ lw_all := lw_g (lw_at lw_m11 168 rfl) rfl
theorem q2701 : (Jvm.Cond.code ({ cls := "FlagLaundryModel", name := "culpritOf", desc := "(I)I" } : Jvm.MethodName) prog_20_method_79_code (3 : Nat) (Option.some Jvm.ClassFile.FieldType.int)) ∈ lw_all := lw_g (lw_at lw_m11 169 rfl) rfl
theorem q2703 : (Jvm.Cond.instanceMethod ({ cls := "FlagLaundryModel", name := "whyNotPut", desc := "(II)I" } : Jvm.MethodName)) ∈ lw_all := lw_g (lw_at lw_m11 171 rfl) rfl
theorem q2704 : (Jvm.Cond.selects "FlagLaundryModel" ({ cls := "FlagLaundryModel", name := "whyNotPut", desc := "(II)I" } : Jvm.MethodName) ({ cls := "FlagLaundryModel", name := "whyNotPut", desc := "(II)I" } : Jvm.MethodName)) ∈ lw_all := lw_g (lw_at lw_m11 172 rfl) rfl
theorem q2705 : (Jvm.Cond.code ({ cls := "FlagLaundryModel", name := "whyNotPut", desc := "(II)I" } : Jvm.MethodName) prog_20_method_108_code (3 : Nat) (Option.some Jvm.ClassFile.FieldType.int)) ∈ lw_all := lw_g (lw_at lw_m11 173 rfl) rfl
theorem q2707 : (Jvm.Cond.instanceMethod ({ cls := "FlagLaundryModel", name := "whyNotWash", desc := "(II)I" } : Jvm.MethodName)) ∈ lw_all := lw_g (lw_at lw_m11 175 rfl) rfl
theorem q2708 : (Jvm.Cond.selects "FlagLaundryModel" ({ cls := "FlagLaundryModel", name := "whyNotWash", desc := "(II)I" } : Jvm.MethodName) ({ cls := "FlagLaundryModel", name := "whyNotWash", desc := "(II)I" } : Jvm.MethodName)) ∈ lw_all := lw_g (lw_at lw_m11 176 rfl) rfl
theorem q2709 : (Jvm.Cond.code ({ cls := "FlagLaundryModel", name := "whyNotWash", desc := "(II)I" } : Jvm.MethodName) prog_20_method_109_code (3 : Nat) (Option.some Jvm.ClassFile.FieldType.int)) ∈ lw_all := lw_g (lw_at lw_m11 177 rfl) rfl
theorem q2710 : (Jvm.Cond.methodLink "FlagLaundryModel" (373 : Nat) ({ cls := "FlagLaundryModel", name := "mayHeat", desc := "(II)Z" } : Jvm.MethodName)) ∈ lw_all := lw_g (lw_at lw_m11 178 rfl) rfl
theorem q2711 : (Jvm.Cond.privateMethod ({ cls := "FlagLaundryModel", name := "mayHeat", desc := "(II)Z" } : Jvm.MethodName)) ∈ lw_tbl := lw_at lw_m11 179 rfl
theorem q2712 : (Jvm.Cond.instanceMethod ({ cls := "FlagLaundryModel", name := "mayHeat", desc := "(II)Z" } : Jvm.MethodName)) ∈ lw_all := lw_g (lw_at lw_m11 180 rfl) rfl
theorem q2713 : (Jvm.Cond.code ({ cls := "FlagLaundryModel", name := "mayHeat", desc := "(II)Z" } : Jvm.MethodName) prog_20_method_90_code (3 : Nat) (Option.some Jvm.ClassFile.FieldType.boolean)) ∈ lw_all := lw_g (lw_at lw_m11 181 rfl) rfl
theorem q2714 : (Jvm.Cond.methodLink "FlagLaundryModel" (330 : Nat) ({ cls := "FlagLaundryModel", name := "isHeat", desc := "(I)Z" } : Jvm.MethodName)) ∈ lw_all := lw_g (lw_at lw_m11 182 rfl) rfl
theorem q2715 : (Jvm.Cond.static ({ cls := "FlagLaundryModel", name := "isHeat", desc := "(I)Z" } : Jvm.MethodName)) ∈ lw_all := lw_g (lw_at lw_m11 183 rfl) rfl
theorem q2716 : (Jvm.Cond.code ({ cls := "FlagLaundryModel", name := "isHeat", desc := "(I)Z" } : Jvm.MethodName) prog_20_method_87_code (1 : Nat) (Option.some Jvm.ClassFile.FieldType.boolean)) ∈ lw_all := lw_g (lw_at lw_m11 184 rfl) rfl
theorem q2718 : (Jvm.Cond.instanceMethod ({ cls := "FlagLaundryModel", name := "whyNotIron", desc := "(II)I" } : Jvm.MethodName)) ∈ lw_all := lw_g (lw_at lw_m11 186 rfl) rfl
theorem q2719 : (Jvm.Cond.selects "FlagLaundryModel" ({ cls := "FlagLaundryModel", name := "whyNotIron", desc := "(II)I" } : Jvm.MethodName) ({ cls := "FlagLaundryModel", name := "whyNotIron", desc := "(II)I" } : Jvm.MethodName)) ∈ lw_all := lw_g (lw_at lw_m11 187 rfl) rfl
theorem q2720 : (Jvm.Cond.code ({ cls := "FlagLaundryModel", name := "whyNotIron", desc := "(II)I" } : Jvm.MethodName) prog_20_method_110_code (3 : Nat) (Option.some Jvm.ClassFile.FieldType.int)) ∈ lw_all := lw_g (lw_at lw_m11 188 rfl) rfl
theorem q2721 : (Jvm.Cond.methodLink "FlagLaundryModel" (376 : Nat) ({ cls := "FlagLaundryModel", name := "whyIron", desc := "(II)I" } : Jvm.MethodName)) ∈ lw_all := lw_g (lw_at lw_m11 189 rfl) rfl
theorem q2722 : (Jvm.Cond.privateMethod ({ cls := "FlagLaundryModel", name := "whyIron", desc := "(II)I" } : Jvm.MethodName)) ∈ lw_tbl := lw_at lw_m11 190 rfl
theorem q2723 : (Jvm.Cond.instanceMethod ({ cls := "FlagLaundryModel", name := "whyIron", desc := "(II)I" } : Jvm.MethodName)) ∈ lw_all := lw_g (lw_at lw_m11 191 rfl) rfl
theorem q2724 : (Jvm.Cond.code ({ cls := "FlagLaundryModel", name := "whyIron", desc := "(II)I" } : Jvm.MethodName) prog_20_method_73_code (3 : Nat) (Option.some Jvm.ClassFile.FieldType.int)) ∈ lw_all := lw_g (lw_at lw_m11 192 rfl) rfl
theorem q2726 : (Jvm.Cond.instanceMethod ({ cls := "FlagLaundryModel", name := "whyNotBleach", desc := "(I)I" } : Jvm.MethodName)) ∈ lw_all := lw_g (lw_at lw_m11 194 rfl) rfl
theorem q2727 : (Jvm.Cond.selects "FlagLaundryModel" ({ cls := "FlagLaundryModel", name := "whyNotBleach", desc := "(I)I" } : Jvm.MethodName) ({ cls := "FlagLaundryModel", name := "whyNotBleach", desc := "(I)I" } : Jvm.MethodName)) ∈ lw_all := lw_g (lw_at lw_m11 195 rfl) rfl
theorem q2728 : (Jvm.Cond.code ({ cls := "FlagLaundryModel", name := "whyNotBleach", desc := "(I)I" } : Jvm.MethodName) prog_20_method_112_code (2 : Nat) (Option.some Jvm.ClassFile.FieldType.int)) ∈ lw_all := lw_g (lw_at lw_m11 196 rfl) rfl
theorem q2729 : (Jvm.Cond.methodLink "FlagLaundryModel" (379 : Nat) ({ cls := "FlagLaundryModel", name := "whyBleach", desc := "(I)I" } : Jvm.MethodName)) ∈ lw_all := lw_g (lw_at lw_m11 197 rfl) rfl
theorem q2730 : (Jvm.Cond.privateMethod ({ cls := "FlagLaundryModel", name := "whyBleach", desc := "(I)I" } : Jvm.MethodName)) ∈ lw_tbl := lw_at lw_m11 198 rfl
theorem q2731 : (Jvm.Cond.instanceMethod ({ cls := "FlagLaundryModel", name := "whyBleach", desc := "(I)I" } : Jvm.MethodName)) ∈ lw_all := lw_g (lw_at lw_m11 199 rfl) rfl
theorem q2732 : (Jvm.Cond.code ({ cls := "FlagLaundryModel", name := "whyBleach", desc := "(I)I" } : Jvm.MethodName) prog_20_method_111_code (2 : Nat) (Option.some Jvm.ClassFile.FieldType.int)) ∈ lw_all := lw_g (lw_at lw_m11 200 rfl) rfl
theorem q2734 : (Jvm.Cond.instanceMethod ({ cls := "FlagLaundryModel", name := "running", desc := "(II)I" } : Jvm.MethodName)) ∈ lw_all := lw_g (lw_at lw_m11 202 rfl) rfl
theorem q2735 : (Jvm.Cond.selects "FlagLaundryModel" ({ cls := "FlagLaundryModel", name := "running", desc := "(II)I" } : Jvm.MethodName) ({ cls := "FlagLaundryModel", name := "running", desc := "(II)I" } : Jvm.MethodName)) ∈ lw_all := lw_g (lw_at lw_m11 203 rfl) rfl
theorem q2736 : (Jvm.Cond.code ({ cls := "FlagLaundryModel", name := "running", desc := "(II)I" } : Jvm.MethodName) prog_20_method_113_code (3 : Nat) (Option.some Jvm.ClassFile.FieldType.int)) ∈ lw_all := lw_g (lw_at lw_m11 204 rfl) rfl
theorem q2738 : (Jvm.Cond.instanceMethod ({ cls := "FlagLaundryModel", name := "stainedIf", desc := "(II)I" } : Jvm.MethodName)) ∈ lw_all := lw_g (lw_at lw_m11 206 rfl) rfl
theorem q2739 : (Jvm.Cond.selects "FlagLaundryModel" ({ cls := "FlagLaundryModel", name := "stainedIf", desc := "(II)I" } : Jvm.MethodName) ({ cls := "FlagLaundryModel", name := "stainedIf", desc := "(II)I" } : Jvm.MethodName)) ∈ lw_all := lw_g (lw_at lw_m11 207 rfl) rfl
theorem q2740 : (Jvm.Cond.code ({ cls := "FlagLaundryModel", name := "stainedIf", desc := "(II)I" } : Jvm.MethodName) prog_20_method_114_code (3 : Nat) (Option.some Jvm.ClassFile.FieldType.int)) ∈ lw_all := lw_g (lw_at lw_m11 208 rfl) rfl
theorem q2742 : (Jvm.Cond.instanceMethod ({ cls := "FlagLaundryModel", name := "dirtIf", desc := "(II)I" } : Jvm.MethodName)) ∈ lw_all := lw_g (lw_at lw_m11 210 rfl) rfl
theorem q2743 : (Jvm.Cond.selects "FlagLaundryModel" ({ cls := "FlagLaundryModel", name := "dirtIf", desc := "(II)I" } : Jvm.MethodName) ({ cls := "FlagLaundryModel", name := "dirtIf", desc := "(II)I" } : Jvm.MethodName)) ∈ lw_all := lw_g (lw_at lw_m11 211 rfl) rfl
theorem q2744 : (Jvm.Cond.code ({ cls := "FlagLaundryModel", name := "dirtIf", desc := "(II)I" } : Jvm.MethodName) prog_20_method_115_code (3 : Nat) (Option.some Jvm.ClassFile.FieldType.int)) ∈ lw_all := lw_g (lw_at lw_m11 212 rfl) rfl
theorem q2745 : (Jvm.Cond.methodLink "FlagLaundryModel" (382 : Nat) ({ cls := "FlagLaundryModel", name := "dirtBy", desc := "(II)I" } : Jvm.MethodName)) ∈ lw_all := lw_g (lw_at lw_m11 213 rfl) rfl
theorem q2746 : (Jvm.Cond.privateMethod ({ cls := "FlagLaundryModel", name := "dirtBy", desc := "(II)I" } : Jvm.MethodName)) ∈ lw_tbl := lw_at lw_m11 214 rfl
theorem q2747 : (Jvm.Cond.instanceMethod ({ cls := "FlagLaundryModel", name := "dirtBy", desc := "(II)I" } : Jvm.MethodName)) ∈ lw_all := lw_g (lw_at lw_m11 215 rfl) rfl
theorem q2748 : (Jvm.Cond.code ({ cls := "FlagLaundryModel", name := "dirtBy", desc := "(II)I" } : Jvm.MethodName) prog_20_method_62_code (5 : Nat) (Option.some Jvm.ClassFile.FieldType.int)) ∈ lw_all := lw_g (lw_at lw_m11 216 rfl) rfl
theorem q2750 : (Jvm.Cond.instanceMethod ({ cls := "FlagLaundryModel", name := "bestHeat", desc := "(I)I" } : Jvm.MethodName)) ∈ lw_all := lw_g (lw_at lw_m11 218 rfl) rfl
theorem q2751 : (Jvm.Cond.selects "FlagLaundryModel" ({ cls := "FlagLaundryModel", name := "bestHeat", desc := "(I)I" } : Jvm.MethodName) ({ cls := "FlagLaundryModel", name := "bestHeat", desc := "(I)I" } : Jvm.MethodName)) ∈ lw_all := lw_g (lw_at lw_m11 219 rfl) rfl
theorem q2752 : (Jvm.Cond.code ({ cls := "FlagLaundryModel", name := "bestHeat", desc := "(I)I" } : Jvm.MethodName) prog_20_method_117_code (4 : Nat) (Option.some Jvm.ClassFile.FieldType.int)) ∈ lw_all := lw_g (lw_at lw_m11 220 rfl) rfl
theorem q2753 : (Jvm.Cond.methodLink "FlagLaundryModel" (385 : Nat) ({ cls := "FlagLaundryModel", name := "isBetterHeat", desc := "(III)Z" } : Jvm.MethodName)) ∈ lw_all := lw_g (lw_at lw_m11 221 rfl) rfl
theorem q2754 : (Jvm.Cond.privateMethod ({ cls := "FlagLaundryModel", name := "isBetterHeat", desc := "(III)Z" } : Jvm.MethodName)) ∈ lw_tbl := lw_at lw_m11 222 rfl
theorem q2755 : (Jvm.Cond.instanceMethod ({ cls := "FlagLaundryModel", name := "isBetterHeat", desc := "(III)Z" } : Jvm.MethodName)) ∈ lw_all := lw_g (lw_at lw_m11 223 rfl) rfl
theorem q2756 : (Jvm.Cond.code ({ cls := "FlagLaundryModel", name := "isBetterHeat", desc := "(III)Z" } : Jvm.MethodName) prog_20_method_116_code (5 : Nat) (Option.some Jvm.ClassFile.FieldType.boolean)) ∈ lw_all := lw_g (lw_at lw_m11 224 rfl) rfl
theorem q2758 : (Jvm.Cond.instanceMethod ({ cls := "FlagLaundryModel", name := "firstSafe", desc := "(II)I" } : Jvm.MethodName)) ∈ lw_all := lw_g (lw_at lw_m11 226 rfl) rfl
theorem q2759 : (Jvm.Cond.selects "FlagLaundryModel" ({ cls := "FlagLaundryModel", name := "firstSafe", desc := "(II)I" } : Jvm.MethodName) ({ cls := "FlagLaundryModel", name := "firstSafe", desc := "(II)I" } : Jvm.MethodName)) ∈ lw_all := lw_g (lw_at lw_m11 227 rfl) rfl
theorem q2760 : (Jvm.Cond.code ({ cls := "FlagLaundryModel", name := "firstSafe", desc := "(II)I" } : Jvm.MethodName) prog_20_method_119_code (4 : Nat) (Option.some Jvm.ClassFile.FieldType.int)) ∈ lw_all := lw_g (lw_at lw_m11 228 rfl) rfl
theorem q2761 : (Jvm.Cond.methodLink "FlagLaundryModel" (388 : Nat) ({ cls := "FlagLaundryModel", name := "isSafe", desc := "(III)Z" } : Jvm.MethodName)) ∈ lw_all := lw_g (lw_at lw_m11 229 rfl) rfl
theorem q2762 : (Jvm.Cond.privateMethod ({ cls := "FlagLaundryModel", name := "isSafe", desc := "(III)Z" } : Jvm.MethodName)) ∈ lw_tbl := lw_at lw_m11 230 rfl
theorem q2763 : (Jvm.Cond.instanceMethod ({ cls := "FlagLaundryModel", name := "isSafe", desc := "(III)Z" } : Jvm.MethodName)) ∈ lw_all := lw_g (lw_at lw_m11 231 rfl) rfl
theorem q2764 : (Jvm.Cond.code ({ cls := "FlagLaundryModel", name := "isSafe", desc := "(III)Z" } : Jvm.MethodName) prog_20_method_118_code (4 : Nat) (Option.some Jvm.ClassFile.FieldType.boolean)) ∈ lw_all := lw_g (lw_at lw_m11 232 rfl) rfl
theorem q2766 : (Jvm.Cond.instanceMethod ({ cls := "FlagLaundryModel", name := "doNotMix", desc := "(III)I" } : Jvm.MethodName)) ∈ lw_all := lw_g (lw_at lw_m11 234 rfl) rfl
theorem q2767 : (Jvm.Cond.selects "FlagLaundryModel" ({ cls := "FlagLaundryModel", name := "doNotMix", desc := "(III)I" } : Jvm.MethodName) ({ cls := "FlagLaundryModel", name := "doNotMix", desc := "(III)I" } : Jvm.MethodName)) ∈ lw_all := lw_g (lw_at lw_m11 235 rfl) rfl
theorem q2768 : (Jvm.Cond.code ({ cls := "FlagLaundryModel", name := "doNotMix", desc := "(III)I" } : Jvm.MethodName) prog_20_method_121_code (4 : Nat) (Option.some Jvm.ClassFile.FieldType.int)) ∈ lw_all := lw_g (lw_at lw_m11 236 rfl) rfl
theorem q2769 : (Jvm.Cond.methodLink "FlagLaundryModel" (391 : Nat) ({ cls := "FlagLaundryModel", name := "mixes", desc := "(III)I" } : Jvm.MethodName)) ∈ lw_all := lw_g (lw_at lw_m11 237 rfl) rfl
theorem q2770 : (Jvm.Cond.privateMethod ({ cls := "FlagLaundryModel", name := "mixes", desc := "(III)I" } : Jvm.MethodName)) ∈ lw_tbl := lw_at lw_m11 238 rfl
theorem q2771 : (Jvm.Cond.instanceMethod ({ cls := "FlagLaundryModel", name := "mixes", desc := "(III)I" } : Jvm.MethodName)) ∈ lw_all := lw_g (lw_at lw_m11 239 rfl) rfl
theorem q2772 : (Jvm.Cond.code ({ cls := "FlagLaundryModel", name := "mixes", desc := "(III)I" } : Jvm.MethodName) prog_20_method_120_code (4 : Nat) (Option.some Jvm.ClassFile.FieldType.int)) ∈ lw_all := lw_g (lw_at lw_m12 0 rfl) rfl
theorem q2774 : (Jvm.Cond.instanceMethod ({ cls := "FlagLaundryModel", name := "groups", desc := "(I)I" } : Jvm.MethodName)) ∈ lw_all := lw_g (lw_at lw_m12 2 rfl) rfl
theorem q2775 : (Jvm.Cond.selects "FlagLaundryModel" ({ cls := "FlagLaundryModel", name := "groups", desc := "(I)I" } : Jvm.MethodName) ({ cls := "FlagLaundryModel", name := "groups", desc := "(I)I" } : Jvm.MethodName)) ∈ lw_all := lw_g (lw_at lw_m12 3 rfl) rfl
theorem q2776 : (Jvm.Cond.code ({ cls := "FlagLaundryModel", name := "groups", desc := "(I)I" } : Jvm.MethodName) prog_20_method_123_code (5 : Nat) (Option.some Jvm.ClassFile.FieldType.int)) ∈ lw_all := lw_g (lw_at lw_m12 4 rfl) rfl
theorem q2777 : (Jvm.Cond.methodLink "FlagLaundryModel" (395 : Nat) ({ cls := "FlagLaundryModel", name := "canJoin", desc := "(III)Z" } : Jvm.MethodName)) ∈ lw_all := lw_g (lw_at lw_m12 5 rfl) rfl
theorem q2778 : (Jvm.Cond.privateMethod ({ cls := "FlagLaundryModel", name := "canJoin", desc := "(III)Z" } : Jvm.MethodName)) ∈ lw_tbl := lw_at lw_m12 6 rfl
theorem q2779 : (Jvm.Cond.instanceMethod ({ cls := "FlagLaundryModel", name := "canJoin", desc := "(III)Z" } : Jvm.MethodName)) ∈ lw_all := lw_g (lw_at lw_m12 7 rfl) rfl
theorem q2780 : (Jvm.Cond.code ({ cls := "FlagLaundryModel", name := "canJoin", desc := "(III)Z" } : Jvm.MethodName) prog_20_method_122_code (5 : Nat) (Option.some Jvm.ClassFile.FieldType.boolean)) ∈ lw_all := lw_g (lw_at lw_m12 8 rfl) rfl
theorem q2782 : (Jvm.Cond.instanceMethod ({ cls := "FlagLaundryModel", name := "purest", desc := "(I)I" } : Jvm.MethodName)) ∈ lw_all := lw_g (lw_at lw_m12 10 rfl) rfl
theorem q2783 : (Jvm.Cond.selects "FlagLaundryModel" ({ cls := "FlagLaundryModel", name := "purest", desc := "(I)I" } : Jvm.MethodName) ({ cls := "FlagLaundryModel", name := "purest", desc := "(I)I" } : Jvm.MethodName)) ∈ lw_all := lw_g (lw_at lw_m12 11 rfl) rfl
theorem q2784 : (Jvm.Cond.code ({ cls := "FlagLaundryModel", name := "purest", desc := "(I)I" } : Jvm.MethodName) prog_20_method_125_code (4 : Nat) (Option.some Jvm.ClassFile.FieldType.int)) ∈ lw_all := lw_g (lw_at lw_m12 12 rfl) rfl
theorem q2785 : (Jvm.Cond.methodLink "FlagLaundryModel" (398 : Nat) ({ cls := "FlagLaundryModel", name := "mixedWith", desc := "(II)I" } : Jvm.MethodName)) ∈ lw_all := lw_g (lw_at lw_m12 13 rfl) rfl
theorem q2786 : (Jvm.Cond.privateMethod ({ cls := "FlagLaundryModel", name := "mixedWith", desc := "(II)I" } : Jvm.MethodName)) ∈ lw_tbl := lw_at lw_m12 14 rfl
theorem q2787 : (Jvm.Cond.instanceMethod ({ cls := "FlagLaundryModel", name := "mixedWith", desc := "(II)I" } : Jvm.MethodName)) ∈ lw_all := lw_g (lw_at lw_m12 15 rfl) rfl
theorem q2788 : (Jvm.Cond.code ({ cls := "FlagLaundryModel", name := "mixedWith", desc := "(II)I" } : Jvm.MethodName) prog_20_method_124_code (5 : Nat) (Option.some Jvm.ClassFile.FieldType.int)) ∈ lw_all := lw_g (lw_at lw_m12 16 rfl) rfl
theorem q2790 : (Jvm.Cond.instanceMethod ({ cls := "FlagLaundryModel", name := "washesFor", desc := "(I)I" } : Jvm.MethodName)) ∈ lw_all := lw_g (lw_at lw_m12 18 rfl) rfl
theorem q2791 : (Jvm.Cond.selects "FlagLaundryModel" ({ cls := "FlagLaundryModel", name := "washesFor", desc := "(I)I" } : Jvm.MethodName) ({ cls := "FlagLaundryModel", name := "washesFor", desc := "(I)I" } : Jvm.MethodName)) ∈ lw_all := lw_g (lw_at lw_m12 19 rfl) rfl
theorem q2792 : (Jvm.Cond.code ({ cls := "FlagLaundryModel", name := "washesFor", desc := "(I)I" } : Jvm.MethodName) prog_20_method_126_code (3 : Nat) (Option.some Jvm.ClassFile.FieldType.int)) ∈ lw_all := lw_g (lw_at lw_m12 20 rfl) rfl
theorem q2794 : (Jvm.Cond.instanceMethod ({ cls := "FlagLaundryModel", name := "dryIn", desc := "(I)I" } : Jvm.MethodName)) ∈ lw_all := lw_g (lw_at lw_m12 22 rfl) rfl
theorem q2795 : (Jvm.Cond.selects "FlagLaundryModel" ({ cls := "FlagLaundryModel", name := "dryIn", desc := "(I)I" } : Jvm.MethodName) ({ cls := "FlagLaundryModel", name := "dryIn", desc := "(I)I" } : Jvm.MethodName)) ∈ lw_all := lw_g (lw_at lw_m12 23 rfl) rfl
theorem q2796 : (Jvm.Cond.code ({ cls := "FlagLaundryModel", name := "dryIn", desc := "(I)I" } : Jvm.MethodName) prog_20_method_128_code (2 : Nat) (Option.some Jvm.ClassFile.FieldType.int)) ∈ lw_all := lw_g (lw_at lw_m12 24 rfl) rfl
theorem q2797 : (Jvm.Cond.methodLink "FlagLaundryModel" (401 : Nat) ({ cls := "FlagLaundryModel", name := "driesIn", desc := "(I)I" } : Jvm.MethodName)) ∈ lw_all := lw_g (lw_at lw_m12 25 rfl) rfl
theorem q2798 : (Jvm.Cond.privateMethod ({ cls := "FlagLaundryModel", name := "driesIn", desc := "(I)I" } : Jvm.MethodName)) ∈ lw_tbl := lw_at lw_m12 26 rfl
theorem q2799 : (Jvm.Cond.instanceMethod ({ cls := "FlagLaundryModel", name := "driesIn", desc := "(I)I" } : Jvm.MethodName)) ∈ lw_all := lw_g (lw_at lw_m12 27 rfl) rfl
theorem q2800 : (Jvm.Cond.code ({ cls := "FlagLaundryModel", name := "driesIn", desc := "(I)I" } : Jvm.MethodName) prog_20_method_127_code (3 : Nat) (Option.some Jvm.ClassFile.FieldType.int)) ∈ lw_all := lw_g (lw_at lw_m12 28 rfl) rfl
theorem q2802 : (Jvm.Cond.instanceMethod ({ cls := "FlagLaundryModel", name := "dryByWind", desc := "(II)I" } : Jvm.MethodName)) ∈ lw_all := lw_g (lw_at lw_m12 30 rfl) rfl
theorem q2803 : (Jvm.Cond.selects "FlagLaundryModel" ({ cls := "FlagLaundryModel", name := "dryByWind", desc := "(II)I" } : Jvm.MethodName) ({ cls := "FlagLaundryModel", name := "dryByWind", desc := "(II)I" } : Jvm.MethodName)) ∈ lw_all := lw_g (lw_at lw_m12 31 rfl) rfl
theorem q2804 : (Jvm.Cond.code ({ cls := "FlagLaundryModel", name := "dryByWind", desc := "(II)I" } : Jvm.MethodName) prog_20_method_130_code (3 : Nat) (Option.some Jvm.ClassFile.FieldType.int)) ∈ lw_all := lw_g (lw_at lw_m12 32 rfl) rfl
theorem q2805 : (Jvm.Cond.methodLink "FlagLaundryModel" (404 : Nat) ({ cls := "FlagLaundryModel", name := "isWind", desc := "(I)Z" } : Jvm.MethodName)) ∈ lw_all := lw_g (lw_at lw_m12 33 rfl) rfl
theorem q2806 : (Jvm.Cond.static ({ cls := "FlagLaundryModel", name := "isWind", desc := "(I)Z" } : Jvm.MethodName)) ∈ lw_all := lw_g (lw_at lw_m12 34 rfl) rfl
theorem q2807 : (Jvm.Cond.code ({ cls := "FlagLaundryModel", name := "isWind", desc := "(I)Z" } : Jvm.MethodName) prog_20_method_129_code (1 : Nat) (Option.some Jvm.ClassFile.FieldType.boolean)) ∈ lw_all := lw_g (lw_at lw_m12 35 rfl) rfl
theorem q2809 : (Jvm.Cond.instanceMethod ({ cls := "FlagLaundryModel", name := "fallsIn", desc := "(I)I" } : Jvm.MethodName)) ∈ lw_all := lw_g (lw_at lw_m12 37 rfl) rfl
theorem q2810 : (Jvm.Cond.selects "FlagLaundryModel" ({ cls := "FlagLaundryModel", name := "fallsIn", desc := "(I)I" } : Jvm.MethodName) ({ cls := "FlagLaundryModel", name := "fallsIn", desc := "(I)I" } : Jvm.MethodName)) ∈ lw_all := lw_g (lw_at lw_m12 38 rfl) rfl
theorem q2811 : (Jvm.Cond.code ({ cls := "FlagLaundryModel", name := "fallsIn", desc := "(I)I" } : Jvm.MethodName) prog_20_method_131_code (4 : Nat) (Option.some Jvm.ClassFile.FieldType.int)) ∈ lw_all := lw_g (lw_at lw_m12 39 rfl) rfl
theorem q2813 : (Jvm.Cond.instanceMethod ({ cls := "FlagLaundryModel", name := "payIf", desc := "(II)I" } : Jvm.MethodName)) ∈ lw_all := lw_g (lw_at lw_m12 41 rfl) rfl
theorem q2814 : (Jvm.Cond.selects "FlagLaundryModel" ({ cls := "FlagLaundryModel", name := "payIf", desc := "(II)I" } : Jvm.MethodName) ({ cls := "FlagLaundryModel", name := "payIf", desc := "(II)I" } : Jvm.MethodName)) ∈ lw_all := lw_g (lw_at lw_m12 42 rfl) rfl
theorem q2815 : (Jvm.Cond.code ({ cls := "FlagLaundryModel", name := "payIf", desc := "(II)I" } : Jvm.MethodName) prog_20_method_133_code (3 : Nat) (Option.some Jvm.ClassFile.FieldType.int)) ∈ lw_all := lw_g (lw_at lw_m12 43 rfl) rfl
theorem q2816 : (Jvm.Cond.methodLink "FlagLaundryModel" (410 : Nat) ({ cls := "FlagLaundryModel", name := "payIn", desc := "(II)I" } : Jvm.MethodName)) ∈ lw_all := lw_g (lw_at lw_m12 44 rfl) rfl
theorem q2817 : (Jvm.Cond.privateMethod ({ cls := "FlagLaundryModel", name := "payIn", desc := "(II)I" } : Jvm.MethodName)) ∈ lw_tbl := lw_at lw_m12 45 rfl
theorem q2818 : (Jvm.Cond.instanceMethod ({ cls := "FlagLaundryModel", name := "payIn", desc := "(II)I" } : Jvm.MethodName)) ∈ lw_all := lw_g (lw_at lw_m12 46 rfl) rfl
theorem q2819 : (Jvm.Cond.code ({ cls := "FlagLaundryModel", name := "payIn", desc := "(II)I" } : Jvm.MethodName) prog_20_method_132_code (3 : Nat) (Option.some Jvm.ClassFile.FieldType.int)) ∈ lw_all := lw_g (lw_at lw_m12 47 rfl) rfl
theorem q2820 : (Jvm.Cond.methodLink "FlagLaundryModel" (407 : Nat) ({ cls := "FlagLaundryModel", name := "payAt", desc := "(II)I" } : Jvm.MethodName)) ∈ lw_all := lw_g (lw_at lw_m12 48 rfl) rfl
theorem q2821 : (Jvm.Cond.privateMethod ({ cls := "FlagLaundryModel", name := "payAt", desc := "(II)I" } : Jvm.MethodName)) ∈ lw_tbl := lw_at lw_m12 49 rfl
theorem q2822 : (Jvm.Cond.instanceMethod ({ cls := "FlagLaundryModel", name := "payAt", desc := "(II)I" } : Jvm.MethodName)) ∈ lw_all := lw_g (lw_at lw_m12 50 rfl) rfl
theorem q2823 : (Jvm.Cond.code ({ cls := "FlagLaundryModel", name := "payAt", desc := "(II)I" } : Jvm.MethodName) prog_20_method_77_code (3 : Nat) (Option.some Jvm.ClassFile.FieldType.int)) ∈ lw_all := lw_g (lw_at lw_m12 51 rfl) rfl
theorem q2825 : (Jvm.Cond.instanceMethod ({ cls := "FlagLaundryModel", name := "latest", desc := "(I)I" } : Jvm.MethodName)) ∈ lw_all := lw_g (lw_at lw_m12 53 rfl) rfl
theorem q2826 : (Jvm.Cond.selects "FlagLaundryModel" ({ cls := "FlagLaundryModel", name := "latest", desc := "(I)I" } : Jvm.MethodName) ({ cls := "FlagLaundryModel", name := "latest", desc := "(I)I" } : Jvm.MethodName)) ∈ lw_all := lw_g (lw_at lw_m12 54 rfl) rfl
theorem q2827 : (Jvm.Cond.code ({ cls := "FlagLaundryModel", name := "latest", desc := "(I)I" } : Jvm.MethodName) prog_20_method_135_code (2 : Nat) (Option.some Jvm.ClassFile.FieldType.int)) ∈ lw_all := lw_g (lw_at lw_m12 55 rfl) rfl
theorem q2828 : (Jvm.Cond.methodLink "FlagLaundryModel" (413 : Nat) ({ cls := "FlagLaundryModel", name := "lastHour", desc := "(I)I" } : Jvm.MethodName)) ∈ lw_all := lw_g (lw_at lw_m12 56 rfl) rfl
theorem q2829 : (Jvm.Cond.privateMethod ({ cls := "FlagLaundryModel", name := "lastHour", desc := "(I)I" } : Jvm.MethodName)) ∈ lw_tbl := lw_at lw_m12 57 rfl
theorem q2830 : (Jvm.Cond.instanceMethod ({ cls := "FlagLaundryModel", name := "lastHour", desc := "(I)I" } : Jvm.MethodName)) ∈ lw_all := lw_g (lw_at lw_m12 58 rfl) rfl
theorem q2831 : (Jvm.Cond.code ({ cls := "FlagLaundryModel", name := "lastHour", desc := "(I)I" } : Jvm.MethodName) prog_20_method_134_code (3 : Nat) (Option.some Jvm.ClassFile.FieldType.int)) ∈ lw_all := lw_g (lw_at lw_m12 59 rfl) rfl
theorem q2833 : (Jvm.Cond.instanceMethod ({ cls := "FlagLaundryModel", name := "dearest", desc := "()I" } : Jvm.MethodName)) ∈ lw_all := lw_g (lw_at lw_m12 61 rfl) rfl
theorem q2834 : (Jvm.Cond.selects "FlagLaundryModel" ({ cls := "FlagLaundryModel", name := "dearest", desc := "()I" } : Jvm.MethodName) ({ cls := "FlagLaundryModel", name := "dearest", desc := "()I" } : Jvm.MethodName)) ∈ lw_all := lw_g (lw_at lw_m12 62 rfl) rfl
theorem q2835 : (Jvm.Cond.code ({ cls := "FlagLaundryModel", name := "dearest", desc := "()I" } : Jvm.MethodName) prog_20_method_136_code (5 : Nat) (Option.some Jvm.ClassFile.FieldType.int)) ∈ lw_all := lw_g (lw_at lw_m12 63 rfl) rfl
theorem q2837 : (Jvm.Cond.instanceMethod ({ cls := "FlagLaundryModel", name := "ironsFor", desc := "(II)I" } : Jvm.MethodName)) ∈ lw_all := lw_g (lw_at lw_m12 65 rfl) rfl
theorem q2838 : (Jvm.Cond.selects "FlagLaundryModel" ({ cls := "FlagLaundryModel", name := "ironsFor", desc := "(II)I" } : Jvm.MethodName) ({ cls := "FlagLaundryModel", name := "ironsFor", desc := "(II)I" } : Jvm.MethodName)) ∈ lw_all := lw_g (lw_at lw_m12 66 rfl) rfl
theorem q2839 : (Jvm.Cond.code ({ cls := "FlagLaundryModel", name := "ironsFor", desc := "(II)I" } : Jvm.MethodName) prog_20_method_138_code (3 : Nat) (Option.some Jvm.ClassFile.FieldType.int)) ∈ lw_all := lw_g (lw_at lw_m12 67 rfl) rfl
theorem q2840 : (Jvm.Cond.methodLink "FlagLaundryModel" (419 : Nat) ({ cls := "FlagLaundryModel", name := "ironsUntil", desc := "(II)I" } : Jvm.MethodName)) ∈ lw_all := lw_g (lw_at lw_m12 68 rfl) rfl
theorem q2841 : (Jvm.Cond.privateMethod ({ cls := "FlagLaundryModel", name := "ironsUntil", desc := "(II)I" } : Jvm.MethodName)) ∈ lw_tbl := lw_at lw_m12 69 rfl
theorem q2842 : (Jvm.Cond.instanceMethod ({ cls := "FlagLaundryModel", name := "ironsUntil", desc := "(II)I" } : Jvm.MethodName)) ∈ lw_all := lw_g (lw_at lw_m12 70 rfl) rfl
theorem q2843 : (Jvm.Cond.code ({ cls := "FlagLaundryModel", name := "ironsUntil", desc := "(II)I" } : Jvm.MethodName) prog_20_method_137_code (4 : Nat) (Option.some Jvm.ClassFile.FieldType.int)) ∈ lw_all := lw_g (lw_at lw_m12 71 rfl) rfl
theorem q2844 : (Jvm.Cond.methodLink "FlagLaundryModel" (416 : Nat) ({ cls := "FlagLaundryModel", name := "irons", desc := "(II)V" } : Jvm.MethodName)) ∈ lw_all := lw_g (lw_at lw_m12 72 rfl) rfl
theorem q2845 : (Jvm.Cond.privateMethod ({ cls := "FlagLaundryModel", name := "irons", desc := "(II)V" } : Jvm.MethodName)) ∈ lw_tbl := lw_at lw_m12 73 rfl
theorem q2846 : (Jvm.Cond.instanceMethod ({ cls := "FlagLaundryModel", name := "irons", desc := "(II)V" } : Jvm.MethodName)) ∈ lw_all := lw_g (lw_at lw_m12 74 rfl) rfl
theorem q2847 : (Jvm.Cond.code ({ cls := "FlagLaundryModel", name := "irons", desc := "(II)V" } : Jvm.MethodName) prog_20_method_74_code (3 : Nat) (Option.none : Option Jvm.ClassFile.FieldType)) ∈ lw_all := lw_g (lw_at lw_m12 75 rfl) rfl
theorem q2849 : (Jvm.Cond.instanceMethod ({ cls := "FlagLaundryModel", name := "readyShare", desc := "()F" } : Jvm.MethodName)) ∈ lw_all := lw_g (lw_at lw_m12 77 rfl) rfl
theorem q2850 : (Jvm.Cond.selects "FlagLaundryModel" ({ cls := "FlagLaundryModel", name := "readyShare", desc := "()F" } : Jvm.MethodName) ({ cls := "FlagLaundryModel", name := "readyShare", desc := "()F" } : Jvm.MethodName)) ∈ lw_all := lw_g (lw_at lw_m12 78 rfl) rfl
theorem q2851 : (Jvm.Cond.code ({ cls := "FlagLaundryModel", name := "readyShare", desc := "()F" } : Jvm.MethodName) prog_20_method_139_code (1 : Nat) (Option.some Jvm.ClassFile.FieldType.float)) ∈ lw_all := lw_g (lw_at lw_m12 79 rfl) rfl
theorem q2853 : (Jvm.Cond.instanceMethod ({ cls := "FlagLaundryModel", name := "meanDirt", desc := "()D" } : Jvm.MethodName)) ∈ lw_all := lw_g (lw_at lw_m12 81 rfl) rfl
theorem q2854 : (Jvm.Cond.selects "FlagLaundryModel" ({ cls := "FlagLaundryModel", name := "meanDirt", desc := "()D" } : Jvm.MethodName) ({ cls := "FlagLaundryModel", name := "meanDirt", desc := "()D" } : Jvm.MethodName)) ∈ lw_all := lw_g (lw_at lw_m12 82 rfl) rfl
theorem q2855 : (Jvm.Cond.code ({ cls := "FlagLaundryModel", name := "meanDirt", desc := "()D" } : Jvm.MethodName) prog_20_method_141_code (1 : Nat) (Option.some Jvm.ClassFile.FieldType.double)) ∈ lw_all := lw_g (lw_at lw_m12 83 rfl) rfl
theorem q2856 : (Jvm.Cond.methodLink "FlagLaundryModel" (422 : Nat) ({ cls := "FlagLaundryModel", name := "allDirt", desc := "()I" } : Jvm.MethodName)) ∈ lw_all := lw_g (lw_at lw_m12 84 rfl) rfl
theorem q2857 : (Jvm.Cond.privateMethod ({ cls := "FlagLaundryModel", name := "allDirt", desc := "()I" } : Jvm.MethodName)) ∈ lw_tbl := lw_at lw_m12 85 rfl
theorem q2858 : (Jvm.Cond.instanceMethod ({ cls := "FlagLaundryModel", name := "allDirt", desc := "()I" } : Jvm.MethodName)) ∈ lw_all := lw_g (lw_at lw_m12 86 rfl) rfl
theorem q2859 : (Jvm.Cond.code ({ cls := "FlagLaundryModel", name := "allDirt", desc := "()I" } : Jvm.MethodName) prog_20_method_140_code (3 : Nat) (Option.some Jvm.ClassFile.FieldType.int)) ∈ lw_all := lw_g (lw_at lw_m12 87 rfl) rfl
theorem q2861 : (Jvm.Cond.instanceMethod ({ cls := "FlagLaundryModel", name := "writeFlag", desc := "(I)I" } : Jvm.MethodName)) ∈ lw_all := lw_g (lw_at lw_m12 89 rfl) rfl
theorem q2862 : (Jvm.Cond.selects "FlagLaundryModel" ({ cls := "FlagLaundryModel", name := "writeFlag", desc := "(I)I" } : Jvm.MethodName) ({ cls := "FlagLaundryModel", name := "writeFlag", desc := "(I)I" } : Jvm.MethodName)) ∈ lw_all := lw_g (lw_at lw_m12 90 rfl) rfl
theorem q2863 : (Jvm.Cond.code ({ cls := "FlagLaundryModel", name := "writeFlag", desc := "(I)I" } : Jvm.MethodName) prog_20_method_145_code (3 : Nat) (Option.some Jvm.ClassFile.FieldType.int)) ∈ lw_all := lw_g (lw_at lw_m12 91 rfl) rfl
theorem q2864 : (Jvm.Cond.methodLink "FlagLaundryModel" (431 : Nat) ({ cls := "FlagLaundryModel", name := "letterOf", desc := "(I)I" } : Jvm.MethodName)) ∈ lw_all := lw_g (lw_at lw_m12 92 rfl) rfl
theorem q2865 : (Jvm.Cond.static ({ cls := "FlagLaundryModel", name := "letterOf", desc := "(I)I" } : Jvm.MethodName)) ∈ lw_all := lw_g (lw_at lw_m12 93 rfl) rfl
theorem q2866 : (Jvm.Cond.code ({ cls := "FlagLaundryModel", name := "letterOf", desc := "(I)I" } : Jvm.MethodName) prog_20_method_144_code (1 : Nat) (Option.some Jvm.ClassFile.FieldType.int)) ∈ lw_all := lw_g (lw_at lw_m12 94 rfl) rfl
theorem q2867 : (Jvm.Cond.methodLink "FlagLaundryModel" (428 : Nat) ({ cls := "FlagLaundryModel", name := "writesByte", desc := "(I)V" } : Jvm.MethodName)) ∈ lw_all := lw_g (lw_at lw_m12 95 rfl) rfl
theorem q2868 : (Jvm.Cond.privateMethod ({ cls := "FlagLaundryModel", name := "writesByte", desc := "(I)V" } : Jvm.MethodName)) ∈ lw_tbl := lw_at lw_m12 96 rfl
theorem q2869 : (Jvm.Cond.instanceMethod ({ cls := "FlagLaundryModel", name := "writesByte", desc := "(I)V" } : Jvm.MethodName)) ∈ lw_all := lw_g (lw_at lw_m12 97 rfl) rfl
theorem q2870 : (Jvm.Cond.code ({ cls := "FlagLaundryModel", name := "writesByte", desc := "(I)V" } : Jvm.MethodName) prog_20_method_142_code (2 : Nat) (Option.none : Option Jvm.ClassFile.FieldType)) ∈ lw_all := lw_g (lw_at lw_m12 98 rfl) rfl
theorem q2871 : (Jvm.Cond.methodLink "FlagLaundryModel" (434 : Nat) ({ cls := "FlagLaundryModel", name := "writesNumber", desc := "(I)V" } : Jvm.MethodName)) ∈ lw_all := lw_g (lw_at lw_m12 99 rfl) rfl
theorem q2872 : (Jvm.Cond.privateMethod ({ cls := "FlagLaundryModel", name := "writesNumber", desc := "(I)V" } : Jvm.MethodName)) ∈ lw_tbl := lw_at lw_m12 100 rfl
theorem q2873 : (Jvm.Cond.instanceMethod ({ cls := "FlagLaundryModel", name := "writesNumber", desc := "(I)V" } : Jvm.MethodName)) ∈ lw_all := lw_g (lw_at lw_m12 101 rfl) rfl
theorem q2874 : (Jvm.Cond.code ({ cls := "FlagLaundryModel", name := "writesNumber", desc := "(I)V" } : Jvm.MethodName) prog_20_method_143_code (2 : Nat) (Option.none : Option Jvm.ClassFile.FieldType)) ∈ lw_all := lw_g (lw_at lw_m12 102 rfl) rfl
theorem q2876 : (Jvm.Cond.instanceMethod ({ cls := "FlagLaundryModel", name := "writeTub", desc := "(I)I" } : Jvm.MethodName)) ∈ lw_all := lw_g (lw_at lw_m12 104 rfl) rfl
theorem q2877 : (Jvm.Cond.selects "FlagLaundryModel" ({ cls := "FlagLaundryModel", name := "writeTub", desc := "(I)I" } : Jvm.MethodName) ({ cls := "FlagLaundryModel", name := "writeTub", desc := "(I)I" } : Jvm.MethodName)) ∈ lw_all := lw_g (lw_at lw_m12 105 rfl) rfl
theorem q2878 : (Jvm.Cond.code ({ cls := "FlagLaundryModel", name := "writeTub", desc := "(I)I" } : Jvm.MethodName) prog_20_method_146_code (4 : Nat) (Option.some Jvm.ClassFile.FieldType.int)) ∈ lw_all := lw_g (lw_at lw_m12 106 rfl) rfl
theorem q2880 : (Jvm.Cond.instanceMethod ({ cls := "FlagLaundryModel", name := "writeNation", desc := "(I)I" } : Jvm.MethodName)) ∈ lw_all := lw_g (lw_at lw_m12 108 rfl) rfl
theorem q2881 : (Jvm.Cond.selects "FlagLaundryModel" ({ cls := "FlagLaundryModel", name := "writeNation", desc := "(I)I" } : Jvm.MethodName) ({ cls := "FlagLaundryModel", name := "writeNation", desc := "(I)I" } : Jvm.MethodName)) ∈ lw_all := lw_g (lw_at lw_m12 109 rfl) rfl
theorem q2882 : (Jvm.Cond.code ({ cls := "FlagLaundryModel", name := "writeNation", desc := "(I)I" } : Jvm.MethodName) prog_20_method_148_code (3 : Nat) (Option.some Jvm.ClassFile.FieldType.int)) ∈ lw_all := lw_g (lw_at lw_m12 110 rfl) rfl
theorem q2883 : (Jvm.Cond.methodLink "FlagLaundryModel" (437 : Nat) ({ cls := "FlagLaundryModel", name := "writesReason", desc := "(I)V" } : Jvm.MethodName)) ∈ lw_all := lw_g (lw_at lw_m12 111 rfl) rfl
theorem q2884 : (Jvm.Cond.privateMethod ({ cls := "FlagLaundryModel", name := "writesReason", desc := "(I)V" } : Jvm.MethodName)) ∈ lw_tbl := lw_at lw_m12 112 rfl
theorem q2885 : (Jvm.Cond.instanceMethod ({ cls := "FlagLaundryModel", name := "writesReason", desc := "(I)V" } : Jvm.MethodName)) ∈ lw_all := lw_g (lw_at lw_m12 113 rfl) rfl
theorem q2886 : (Jvm.Cond.code ({ cls := "FlagLaundryModel", name := "writesReason", desc := "(I)V" } : Jvm.MethodName) prog_20_method_147_code (2 : Nat) (Option.none : Option Jvm.ClassFile.FieldType)) ∈ lw_all := lw_g (lw_at lw_m12 114 rfl) rfl
theorem q2888 : (Jvm.Cond.instanceMethod ({ cls := "FlagLaundryModel", name := "writeLine", desc := "()I" } : Jvm.MethodName)) ∈ lw_all := lw_g (lw_at lw_m12 116 rfl) rfl
theorem q2889 : (Jvm.Cond.selects "FlagLaundryModel" ({ cls := "FlagLaundryModel", name := "writeLine", desc := "()I" } : Jvm.MethodName) ({ cls := "FlagLaundryModel", name := "writeLine", desc := "()I" } : Jvm.MethodName)) ∈ lw_all := lw_g (lw_at lw_m12 117 rfl) rfl
theorem q2890 : (Jvm.Cond.code ({ cls := "FlagLaundryModel", name := "writeLine", desc := "()I" } : Jvm.MethodName) prog_20_method_149_code (2 : Nat) (Option.some Jvm.ClassFile.FieldType.int)) ∈ lw_all := lw_g (lw_at lw_m12 118 rfl) rfl
theorem q2892 : (Jvm.Cond.instanceMethod ({ cls := "FlagLaundryModel", name := "textByte", desc := "(I)I" } : Jvm.MethodName)) ∈ lw_all := lw_g (lw_at lw_m12 120 rfl) rfl
theorem q2893 : (Jvm.Cond.selects "FlagLaundryModel" ({ cls := "FlagLaundryModel", name := "textByte", desc := "(I)I" } : Jvm.MethodName) ({ cls := "FlagLaundryModel", name := "textByte", desc := "(I)I" } : Jvm.MethodName)) ∈ lw_all := lw_g (lw_at lw_m12 121 rfl) rfl
theorem q2894 : (Jvm.Cond.code ({ cls := "FlagLaundryModel", name := "textByte", desc := "(I)I" } : Jvm.MethodName) prog_20_method_150_code (2 : Nat) (Option.some Jvm.ClassFile.FieldType.int)) ∈ lw_all := lw_g (lw_at lw_m12 122 rfl) rfl
theorem q2896 : (Jvm.Cond.instanceMethod ({ cls := "FlagLaundryModel", name := "put", desc := "(II)I" } : Jvm.MethodName)) ∈ lw_all := lw_g (lw_at lw_m12 124 rfl) rfl
theorem q2897 : (Jvm.Cond.selects "FlagLaundryModel" ({ cls := "FlagLaundryModel", name := "put", desc := "(II)I" } : Jvm.MethodName) ({ cls := "FlagLaundryModel", name := "put", desc := "(II)I" } : Jvm.MethodName)) ∈ lw_all := lw_g (lw_at lw_m12 125 rfl) rfl
theorem q2898 : (Jvm.Cond.code ({ cls := "FlagLaundryModel", name := "put", desc := "(II)I" } : Jvm.MethodName) prog_20_method_152_code (4 : Nat) (Option.some Jvm.ClassFile.FieldType.int)) ∈ lw_all := lw_g (lw_at lw_m12 126 rfl) rfl
theorem q2899 : (Jvm.Cond.methodLink "FlagLaundryModel" (440 : Nat) ({ cls := "FlagLaundryModel", name := "remembers", desc := "()V" } : Jvm.MethodName)) ∈ lw_all := lw_g (lw_at lw_m12 127 rfl) rfl
theorem q2900 : (Jvm.Cond.privateMethod ({ cls := "FlagLaundryModel", name := "remembers", desc := "()V" } : Jvm.MethodName)) ∈ lw_tbl := lw_at lw_m12 128 rfl
theorem q2901 : (Jvm.Cond.instanceMethod ({ cls := "FlagLaundryModel", name := "remembers", desc := "()V" } : Jvm.MethodName)) ∈ lw_all := lw_g (lw_at lw_m12 129 rfl) rfl
theorem q2902 : (Jvm.Cond.code ({ cls := "FlagLaundryModel", name := "remembers", desc := "()V" } : Jvm.MethodName) prog_20_method_151_code (2 : Nat) (Option.none : Option Jvm.ClassFile.FieldType)) ∈ lw_all := lw_g (lw_at lw_m12 130 rfl) rfl
theorem q2904 : (Jvm.Cond.instanceMethod ({ cls := "FlagLaundryModel", name := "wash", desc := "(II)I" } : Jvm.MethodName)) ∈ lw_all := lw_g (lw_at lw_m12 132 rfl) rfl
theorem q2905 : (Jvm.Cond.selects "FlagLaundryModel" ({ cls := "FlagLaundryModel", name := "wash", desc := "(II)I" } : Jvm.MethodName) ({ cls := "FlagLaundryModel", name := "wash", desc := "(II)I" } : Jvm.MethodName)) ∈ lw_all := lw_g (lw_at lw_m12 133 rfl) rfl
theorem q2906 : (Jvm.Cond.code ({ cls := "FlagLaundryModel", name := "wash", desc := "(II)I" } : Jvm.MethodName) prog_20_method_153_code (4 : Nat) (Option.some Jvm.ClassFile.FieldType.int)) ∈ lw_all := lw_g (lw_at lw_m12 134 rfl) rfl
theorem q2908 : (Jvm.Cond.instanceMethod ({ cls := "FlagLaundryModel", name := "hang", desc := "(I)I" } : Jvm.MethodName)) ∈ lw_all := lw_g (lw_at lw_m12 136 rfl) rfl
theorem q2909 : (Jvm.Cond.selects "FlagLaundryModel" ({ cls := "FlagLaundryModel", name := "hang", desc := "(I)I" } : Jvm.MethodName) ({ cls := "FlagLaundryModel", name := "hang", desc := "(I)I" } : Jvm.MethodName)) ∈ lw_all := lw_g (lw_at lw_m12 137 rfl) rfl
theorem q2910 : (Jvm.Cond.code ({ cls := "FlagLaundryModel", name := "hang", desc := "(I)I" } : Jvm.MethodName) prog_20_method_154_code (3 : Nat) (Option.some Jvm.ClassFile.FieldType.int)) ∈ lw_all := lw_g (lw_at lw_m12 138 rfl) rfl
theorem q2912 : (Jvm.Cond.instanceMethod ({ cls := "FlagLaundryModel", name := "hangAll", desc := "()I" } : Jvm.MethodName)) ∈ lw_all := lw_g (lw_at lw_m12 140 rfl) rfl
theorem q2913 : (Jvm.Cond.selects "FlagLaundryModel" ({ cls := "FlagLaundryModel", name := "hangAll", desc := "()I" } : Jvm.MethodName) ({ cls := "FlagLaundryModel", name := "hangAll", desc := "()I" } : Jvm.MethodName)) ∈ lw_all := lw_g (lw_at lw_m12 141 rfl) rfl
theorem q2914 : (Jvm.Cond.code ({ cls := "FlagLaundryModel", name := "hangAll", desc := "()I" } : Jvm.MethodName) prog_20_method_155_code (3 : Nat) (Option.some Jvm.ClassFile.FieldType.int)) ∈ lw_all := lw_g (lw_at lw_m12 142 rfl) rfl
theorem q2916 : (Jvm.Cond.instanceMethod ({ cls := "FlagLaundryModel", name := "clearTub", desc := "(I)I" } : Jvm.MethodName)) ∈ lw_all := lw_g (lw_at lw_m12 144 rfl) rfl
theorem q2917 : (Jvm.Cond.selects "FlagLaundryModel" ({ cls := "FlagLaundryModel", name := "clearTub", desc := "(I)I" } : Jvm.MethodName) ({ cls := "FlagLaundryModel", name := "clearTub", desc := "(I)I" } : Jvm.MethodName)) ∈ lw_all := lw_g (lw_at lw_m12 145 rfl) rfl
theorem q2918 : (Jvm.Cond.code ({ cls := "FlagLaundryModel", name := "clearTub", desc := "(I)I" } : Jvm.MethodName) prog_20_method_156_code (4 : Nat) (Option.some Jvm.ClassFile.FieldType.int)) ∈ lw_all := lw_g (lw_at lw_m12 146 rfl) rfl
theorem q2920 : (Jvm.Cond.instanceMethod ({ cls := "FlagLaundryModel", name := "takeDown", desc := "(I)I" } : Jvm.MethodName)) ∈ lw_all := lw_g (lw_at lw_m12 148 rfl) rfl
theorem q2921 : (Jvm.Cond.selects "FlagLaundryModel" ({ cls := "FlagLaundryModel", name := "takeDown", desc := "(I)I" } : Jvm.MethodName) ({ cls := "FlagLaundryModel", name := "takeDown", desc := "(I)I" } : Jvm.MethodName)) ∈ lw_all := lw_g (lw_at lw_m12 149 rfl) rfl
theorem q2922 : (Jvm.Cond.code ({ cls := "FlagLaundryModel", name := "takeDown", desc := "(I)I" } : Jvm.MethodName) prog_20_method_157_code (3 : Nat) (Option.some Jvm.ClassFile.FieldType.int)) ∈ lw_all := lw_g (lw_at lw_m12 150 rfl) rfl
theorem q2924 : (Jvm.Cond.instanceMethod ({ cls := "FlagLaundryModel", name := "iron", desc := "(II)I" } : Jvm.MethodName)) ∈ lw_all := lw_g (lw_at lw_m12 152 rfl) rfl
theorem q2925 : (Jvm.Cond.selects "FlagLaundryModel" ({ cls := "FlagLaundryModel", name := "iron", desc := "(II)I" } : Jvm.MethodName) ({ cls := "FlagLaundryModel", name := "iron", desc := "(II)I" } : Jvm.MethodName)) ∈ lw_all := lw_g (lw_at lw_m12 153 rfl) rfl
theorem q2926 : (Jvm.Cond.code ({ cls := "FlagLaundryModel", name := "iron", desc := "(II)I" } : Jvm.MethodName) prog_20_method_158_code (4 : Nat) (Option.some Jvm.ClassFile.FieldType.int)) ∈ lw_all := lw_g (lw_at lw_m12 154 rfl) rfl
theorem q2928 : (Jvm.Cond.instanceMethod ({ cls := "FlagLaundryModel", name := "bleach", desc := "(I)I" } : Jvm.MethodName)) ∈ lw_all := lw_g (lw_at lw_m12 156 rfl) rfl
theorem q2929 : (Jvm.Cond.selects "FlagLaundryModel" ({ cls := "FlagLaundryModel", name := "bleach", desc := "(I)I" } : Jvm.MethodName) ({ cls := "FlagLaundryModel", name := "bleach", desc := "(I)I" } : Jvm.MethodName)) ∈ lw_all := lw_g (lw_at lw_m12 157 rfl) rfl
theorem q2930 : (Jvm.Cond.code ({ cls := "FlagLaundryModel", name := "bleach", desc := "(I)I" } : Jvm.MethodName) prog_20_method_160_code (4 : Nat) (Option.some Jvm.ClassFile.FieldType.int)) ∈ lw_all := lw_g (lw_at lw_m12 158 rfl) rfl
theorem q2931 : (Jvm.Cond.methodLink "FlagLaundryModel" (443 : Nat) ({ cls := "FlagLaundryModel", name := "stainsOf", desc := "(I)I" } : Jvm.MethodName)) ∈ lw_all := lw_g (lw_at lw_m12 159 rfl) rfl
theorem q2932 : (Jvm.Cond.privateMethod ({ cls := "FlagLaundryModel", name := "stainsOf", desc := "(I)I" } : Jvm.MethodName)) ∈ lw_tbl := lw_at lw_m12 160 rfl
theorem q2933 : (Jvm.Cond.instanceMethod ({ cls := "FlagLaundryModel", name := "stainsOf", desc := "(I)I" } : Jvm.MethodName)) ∈ lw_all := lw_g (lw_at lw_m12 161 rfl) rfl
theorem q2934 : (Jvm.Cond.code ({ cls := "FlagLaundryModel", name := "stainsOf", desc := "(I)I" } : Jvm.MethodName) prog_20_method_159_code (4 : Nat) (Option.some Jvm.ClassFile.FieldType.int)) ∈ lw_all := lw_g (lw_at lw_m12 162 rfl) rfl
theorem q2936 : (Jvm.Cond.instanceMethod ({ cls := "FlagLaundryModel", name := "handOver", desc := "(I)I" } : Jvm.MethodName)) ∈ lw_all := lw_g (lw_at lw_m12 164 rfl) rfl
theorem q2937 : (Jvm.Cond.selects "FlagLaundryModel" ({ cls := "FlagLaundryModel", name := "handOver", desc := "(I)I" } : Jvm.MethodName) ({ cls := "FlagLaundryModel", name := "handOver", desc := "(I)I" } : Jvm.MethodName)) ∈ lw_all := lw_g (lw_at lw_m12 165 rfl) rfl
theorem q2938 : (Jvm.Cond.code ({ cls := "FlagLaundryModel", name := "handOver", desc := "(I)I" } : Jvm.MethodName) prog_20_method_162_code (4 : Nat) (Option.some Jvm.ClassFile.FieldType.int)) ∈ lw_all := lw_g (lw_at lw_m12 166 rfl) rfl
theorem q2939 : (Jvm.Cond.methodLink "FlagLaundryModel" (446 : Nat) ({ cls := "FlagLaundryModel", name := "leaves", desc := "(I)V" } : Jvm.MethodName)) ∈ lw_all := lw_g (lw_at lw_m12 167 rfl) rfl
theorem q2940 : (Jvm.Cond.privateMethod ({ cls := "FlagLaundryModel", name := "leaves", desc := "(I)V" } : Jvm.MethodName)) ∈ lw_tbl := lw_at lw_m12 168 rfl
theorem q2941 : (Jvm.Cond.instanceMethod ({ cls := "FlagLaundryModel", name := "leaves", desc := "(I)V" } : Jvm.MethodName)) ∈ lw_all := lw_g (lw_at lw_m12 169 rfl) rfl
theorem q2942 : (Jvm.Cond.code ({ cls := "FlagLaundryModel", name := "leaves", desc := "(I)V" } : Jvm.MethodName) prog_20_method_161_code (3 : Nat) (Option.none : Option Jvm.ClassFile.FieldType)) ∈ lw_all := lw_g (lw_at lw_m12 170 rfl) rfl
theorem q2944 : (Jvm.Cond.instanceMethod ({ cls := "FlagLaundryModel", name := "pass", desc := "(I)I" } : Jvm.MethodName)) ∈ lw_all := lw_g (lw_at lw_m12 172 rfl) rfl
theorem q2945 : (Jvm.Cond.selects "FlagLaundryModel" ({ cls := "FlagLaundryModel", name := "pass", desc := "(I)I" } : Jvm.MethodName) ({ cls := "FlagLaundryModel", name := "pass", desc := "(I)I" } : Jvm.MethodName)) ∈ lw_all := lw_g (lw_at lw_m12 173 rfl) rfl
theorem q2946 : (Jvm.Cond.code ({ cls := "FlagLaundryModel", name := "pass", desc := "(I)I" } : Jvm.MethodName) prog_20_method_163_code (4 : Nat) (Option.some Jvm.ClassFile.FieldType.int)) ∈ lw_all := lw_g (lw_at lw_m12 174 rfl) rfl
theorem q2948 : (Jvm.Cond.instanceMethod ({ cls := "FlagLaundryModel", name := "setWind", desc := "(I)I" } : Jvm.MethodName)) ∈ lw_all := lw_g (lw_at lw_m12 176 rfl) rfl
theorem q2949 : (Jvm.Cond.selects "FlagLaundryModel" ({ cls := "FlagLaundryModel", name := "setWind", desc := "(I)I" } : Jvm.MethodName) ({ cls := "FlagLaundryModel", name := "setWind", desc := "(I)I" } : Jvm.MethodName)) ∈ lw_all := lw_g (lw_at lw_m12 177 rfl) rfl
theorem q2950 : (Jvm.Cond.code ({ cls := "FlagLaundryModel", name := "setWind", desc := "(I)I" } : Jvm.MethodName) prog_20_method_164_code (3 : Nat) (Option.some Jvm.ClassFile.FieldType.int)) ∈ lw_all := lw_g (lw_at lw_m12 178 rfl) rfl
theorem q2952 : (Jvm.Cond.instanceMethod ({ cls := "FlagLaundryModel", name := "addFlag", desc := "(IIII)I" } : Jvm.MethodName)) ∈ lw_all := lw_g (lw_at lw_m12 180 rfl) rfl
theorem q2953 : (Jvm.Cond.selects "FlagLaundryModel" ({ cls := "FlagLaundryModel", name := "addFlag", desc := "(IIII)I" } : Jvm.MethodName) ({ cls := "FlagLaundryModel", name := "addFlag", desc := "(IIII)I" } : Jvm.MethodName)) ∈ lw_all := lw_g (lw_at lw_m12 181 rfl) rfl
theorem q2954 : (Jvm.Cond.code ({ cls := "FlagLaundryModel", name := "addFlag", desc := "(IIII)I" } : Jvm.MethodName) prog_20_method_165_code (7 : Nat) (Option.some Jvm.ClassFile.FieldType.int)) ∈ lw_all := lw_g (lw_at lw_m12 182 rfl) rfl
theorem q2956 : (Jvm.Cond.instanceMethod ({ cls := "FlagLaundryModel", name := "undo", desc := "()I" } : Jvm.MethodName)) ∈ lw_all := lw_g (lw_at lw_m12 184 rfl) rfl
theorem q2957 : (Jvm.Cond.selects "FlagLaundryModel" ({ cls := "FlagLaundryModel", name := "undo", desc := "()I" } : Jvm.MethodName) ({ cls := "FlagLaundryModel", name := "undo", desc := "()I" } : Jvm.MethodName)) ∈ lw_all := lw_g (lw_at lw_m12 185 rfl) rfl
theorem q2958 : (Jvm.Cond.code ({ cls := "FlagLaundryModel", name := "undo", desc := "()I" } : Jvm.MethodName) prog_20_method_166_code (1 : Nat) (Option.some Jvm.ClassFile.FieldType.int)) ∈ lw_all := lw_g (lw_at lw_m12 186 rfl) rfl
theorem q2960 : (Jvm.Cond.instanceMethod ({ cls := "FlagLaundryModel", name := "undoable", desc := "()I" } : Jvm.MethodName)) ∈ lw_all := lw_g (lw_at lw_m12 188 rfl) rfl
theorem q2961 : (Jvm.Cond.selects "FlagLaundryModel" ({ cls := "FlagLaundryModel", name := "undoable", desc := "()I" } : Jvm.MethodName) ({ cls := "FlagLaundryModel", name := "undoable", desc := "()I" } : Jvm.MethodName)) ∈ lw_all := lw_g (lw_at lw_m12 189 rfl) rfl
theorem q2962 : (Jvm.Cond.code ({ cls := "FlagLaundryModel", name := "undoable", desc := "()I" } : Jvm.MethodName) prog_20_method_167_code (1 : Nat) (Option.some Jvm.ClassFile.FieldType.int)) ∈ lw_all := lw_g (lw_at lw_m12 190 rfl) rfl
theorem q2964 : (Jvm.Cond.instanceMethod ({ cls := "FlagLaundryModel", name := "save", desc := "(I)I" } : Jvm.MethodName)) ∈ lw_all := lw_g (lw_at lw_m12 192 rfl) rfl
theorem q2965 : (Jvm.Cond.selects "FlagLaundryModel" ({ cls := "FlagLaundryModel", name := "save", desc := "(I)I" } : Jvm.MethodName) ({ cls := "FlagLaundryModel", name := "save", desc := "(I)I" } : Jvm.MethodName)) ∈ lw_all := lw_g (lw_at lw_m12 193 rfl) rfl
theorem q2966 : (Jvm.Cond.code ({ cls := "FlagLaundryModel", name := "save", desc := "(I)I" } : Jvm.MethodName) prog_20_method_169_code (2 : Nat) (Option.some Jvm.ClassFile.FieldType.int)) ∈ lw_all := lw_g (lw_at lw_m12 194 rfl) rfl
theorem q2967 : (Jvm.Cond.methodLink "FlagLaundryModel" (449 : Nat) ({ cls := "FlagLaundryModel", name := "isSlot", desc := "(I)Z" } : Jvm.MethodName)) ∈ lw_all := lw_g (lw_at lw_m12 195 rfl) rfl
theorem q2968 : (Jvm.Cond.static ({ cls := "FlagLaundryModel", name := "isSlot", desc := "(I)Z" } : Jvm.MethodName)) ∈ lw_all := lw_g (lw_at lw_m12 196 rfl) rfl
theorem q2969 : (Jvm.Cond.code ({ cls := "FlagLaundryModel", name := "isSlot", desc := "(I)Z" } : Jvm.MethodName) prog_20_method_168_code (1 : Nat) (Option.some Jvm.ClassFile.FieldType.boolean)) ∈ lw_all := lw_g (lw_at lw_m12 197 rfl) rfl
theorem q2971 : (Jvm.Cond.instanceMethod ({ cls := "FlagLaundryModel", name := "restore", desc := "(I)I" } : Jvm.MethodName)) ∈ lw_all := lw_g (lw_at lw_m12 199 rfl) rfl
theorem q2972 : (Jvm.Cond.selects "FlagLaundryModel" ({ cls := "FlagLaundryModel", name := "restore", desc := "(I)I" } : Jvm.MethodName) ({ cls := "FlagLaundryModel", name := "restore", desc := "(I)I" } : Jvm.MethodName)) ∈ lw_all := lw_g (lw_at lw_m12 200 rfl) rfl
theorem q2973 : (Jvm.Cond.code ({ cls := "FlagLaundryModel", name := "restore", desc := "(I)I" } : Jvm.MethodName) prog_20_method_170_code (3 : Nat) (Option.some Jvm.ClassFile.FieldType.int)) ∈ lw_all := lw_g (lw_at lw_m12 201 rfl) rfl
theorem q2997 : (Jvm.Cond.castable "FlagLaundryModel" "java/lang/Object") ∈ lw_tbl := lw_at lw_m12 225 rfl
theorem in_X2 : ∀ w ∈ wsX20, w ∈ lw_all := lw_in wsX20 [2249, 2251, 2253, 2255, 2257, 2259, 2261, 2263, 2265, 2267, 2269, 2271, 2273, 2275, 2277, 2279, 2281, 2283, 2285, 2287] (by decide +kernel) (by decide +kernel)

