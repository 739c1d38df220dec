/-! FlagLaundryLaw -/
set_option maxRecDepth 100000
def RX0 : String := "FlagLaundryLaw"
abbrev cX0_load : ByteArray := method_3_code
def yX0_load : MethodName := ⟨RX0, "load", "(LFlagLaundry;I[J)I"⟩
def dkwX0_load_0 : List UInt8 := [44, 3, 42, 27, 182, 0, 7, 133, 80, 167, 0, 9, 78, 4, 172, 78, 5, 172, 3, 172]
abbrev dktX0_load_0 : List UInt8 := dkwX0_load_0 ++ []
theorem dksX0_load_0 : cX0_load.data.toList.drop 0 = dktX0_load_0 := by decide +kernel
theorem dX0_load_0 : decode cX0_load 0 = .ok (.aload_n 2, 1) := dk_44 (dk_at dksX0_load_0 0 rfl rfl)
theorem dX0_load_1 : decode cX0_load 1 = .ok (.iconst 0, 1) := dk_3 (dk_at dksX0_load_0 1 rfl rfl)
theorem dX0_load_2 : decode cX0_load 2 = .ok (.aload_n 0, 1) := dk_42 (dk_at dksX0_load_0 2 rfl rfl)
theorem dX0_load_3 : decode cX0_load 3 = .ok (.iload_n 1, 1) := dk_27 (dk_at dksX0_load_0 3 rfl rfl)
theorem dX0_load_4 : decode cX0_load 4 = .ok (.invokevirtual 7, 3) := dk_182 0 7 (dk_at dksX0_load_0 4 rfl rfl)
theorem dX0_load_7 : decode cX0_load 7 = .ok (.i2l, 1) := dk_133 (dk_at dksX0_load_0 7 rfl rfl)
theorem dX0_load_8 : decode cX0_load 8 = .ok (.lastore, 1) := dk_80 (dk_at dksX0_load_0 8 rfl rfl)
theorem dX0_load_9 : decode cX0_load 9 = .ok (.goto 9, 3) := dk_167 0 9 (dk_at dksX0_load_0 9 rfl rfl)
theorem dX0_load_12 : decode cX0_load 12 = .ok (.astore_n 3, 1) := dk_78 (dk_at dksX0_load_0 12 rfl rfl)
theorem dX0_load_13 : decode cX0_load 13 = .ok (.iconst 1, 1) := dk_4 (dk_at dksX0_load_0 13 rfl rfl)
theorem dX0_load_14 : decode cX0_load 14 = .ok (.ireturn, 1) := dk_172 (dk_at dksX0_load_0 14 rfl rfl)
theorem dX0_load_15 : decode cX0_load 15 = .ok (.astore_n 3, 1) := dk_78 (dk_at dksX0_load_0 15 rfl rfl)
theorem dX0_load_16 : decode cX0_load 16 = .ok (.iconst 2, 1) := dk_5 (dk_at dksX0_load_0 16 rfl rfl)
theorem dX0_load_17 : decode cX0_load 17 = .ok (.ireturn, 1) := dk_172 (dk_at dksX0_load_0 17 rfl rfl)
theorem dX0_load_18 : decode cX0_load 18 = .ok (.iconst 0, 1) := dk_3 (dk_at dksX0_load_0 18 rfl rfl)
theorem dX0_load_19 : decode cX0_load 19 = .ok (.ireturn, 1) := dk_172 (dk_at dksX0_load_0 19 rfl rfl)
abbrev cX0_count : ByteArray := method_4_code
def yX0_count : MethodName := ⟨RX0, "count", "(LFlagLaundry;I[J)I"⟩
def dkwX0_count_0 : List UInt8 := [44, 3, 42, 27, 182, 0, 17, 133, 80, 167, 0, 9, 78, 4, 172, 78, 5, 172, 3, 172]
abbrev dktX0_count_0 : List UInt8 := dkwX0_count_0 ++ []
theorem dksX0_count_0 : cX0_count.data.toList.drop 0 = dktX0_count_0 := by decide +kernel
theorem dX0_count_0 : decode cX0_count 0 = .ok (.aload_n 2, 1) := dk_44 (dk_at dksX0_count_0 0 rfl rfl)
theorem dX0_count_1 : decode cX0_count 1 = .ok (.iconst 0, 1) := dk_3 (dk_at dksX0_count_0 1 rfl rfl)
theorem dX0_count_2 : decode cX0_count 2 = .ok (.aload_n 0, 1) := dk_42 (dk_at dksX0_count_0 2 rfl rfl)
theorem dX0_count_3 : decode cX0_count 3 = .ok (.iload_n 1, 1) := dk_27 (dk_at dksX0_count_0 3 rfl rfl)
theorem dX0_count_4 : decode cX0_count 4 = .ok (.invokevirtual 17, 3) := dk_182 0 17 (dk_at dksX0_count_0 4 rfl rfl)
theorem dX0_count_7 : decode cX0_count 7 = .ok (.i2l, 1) := dk_133 (dk_at dksX0_count_0 7 rfl rfl)
theorem dX0_count_8 : decode cX0_count 8 = .ok (.lastore, 1) := dk_80 (dk_at dksX0_count_0 8 rfl rfl)
theorem dX0_count_9 : decode cX0_count 9 = .ok (.goto 9, 3) := dk_167 0 9 (dk_at dksX0_count_0 9 rfl rfl)
theorem dX0_count_12 : decode cX0_count 12 = .ok (.astore_n 3, 1) := dk_78 (dk_at dksX0_count_0 12 rfl rfl)
theorem dX0_count_13 : decode cX0_count 13 = .ok (.iconst 1, 1) := dk_4 (dk_at dksX0_count_0 13 rfl rfl)
theorem dX0_count_14 : decode cX0_count 14 = .ok (.ireturn, 1) := dk_172 (dk_at dksX0_count_0 14 rfl rfl)
theorem dX0_count_15 : decode cX0_count 15 = .ok (.astore_n 3, 1) := dk_78 (dk_at dksX0_count_0 15 rfl rfl)
theorem dX0_count_16 : decode cX0_count 16 = .ok (.iconst 2, 1) := dk_5 (dk_at dksX0_count_0 16 rfl rfl)
theorem dX0_count_17 : decode cX0_count 17 = .ok (.ireturn, 1) := dk_172 (dk_at dksX0_count_0 17 rfl rfl)
theorem dX0_count_18 : decode cX0_count 18 = .ok (.iconst 0, 1) := dk_3 (dk_at dksX0_count_0 18 rfl rfl)
theorem dX0_count_19 : decode cX0_count 19 = .ok (.ireturn, 1) := dk_172 (dk_at dksX0_count_0 19 rfl rfl)
abbrev cX0_colour : ByteArray := method_5_code
def yX0_colour : MethodName := ⟨RX0, "colour", "(LFlagLaundry;II[J)I"⟩
def dkwX0_colour_1 : List UInt8 := [172, 3, 172]
abbrev dktX0_colour_1 : List UInt8 := dkwX0_colour_1 ++ []
def dkwX0_colour_0 : List UInt8 := [45, 3, 42, 27, 28, 182, 0, 22, 133, 80, 167, 0, 15, 58, 4, 4, 172, 58, 4, 5, 172, 58, 4, 6]
abbrev dktX0_colour_0 : List UInt8 := dkwX0_colour_0 ++ dktX0_colour_1
theorem dksX0_colour_0 : cX0_colour.data.toList.drop 0 = dktX0_colour_0 := by decide +kernel
theorem dksX0_colour_1 : cX0_colour.data.toList.drop 24 = dktX0_colour_1 := dk_seg dksX0_colour_0 24 rfl rfl
theorem dX0_colour_0 : decode cX0_colour 0 = .ok (.aload_n 3, 1) := dk_45 (dk_at dksX0_colour_0 0 rfl rfl)
theorem dX0_colour_1 : decode cX0_colour 1 = .ok (.iconst 0, 1) := dk_3 (dk_at dksX0_colour_0 1 rfl rfl)
theorem dX0_colour_2 : decode cX0_colour 2 = .ok (.aload_n 0, 1) := dk_42 (dk_at dksX0_colour_0 2 rfl rfl)
theorem dX0_colour_3 : decode cX0_colour 3 = .ok (.iload_n 1, 1) := dk_27 (dk_at dksX0_colour_0 3 rfl rfl)
theorem dX0_colour_4 : decode cX0_colour 4 = .ok (.iload_n 2, 1) := dk_28 (dk_at dksX0_colour_0 4 rfl rfl)
theorem dX0_colour_5 : decode cX0_colour 5 = .ok (.invokevirtual 22, 3) := dk_182 0 22 (dk_at dksX0_colour_0 5 rfl rfl)
theorem dX0_colour_8 : decode cX0_colour 8 = .ok (.i2l, 1) := dk_133 (dk_at dksX0_colour_0 8 rfl rfl)
theorem dX0_colour_9 : decode cX0_colour 9 = .ok (.lastore, 1) := dk_80 (dk_at dksX0_colour_0 9 rfl rfl)
theorem dX0_colour_10 : decode cX0_colour 10 = .ok (.goto 15, 3) := dk_167 0 15 (dk_at dksX0_colour_0 10 rfl rfl)
theorem dX0_colour_13 : decode cX0_colour 13 = .ok (.astore 4, 2) := dk_58 4 (dk_at dksX0_colour_0 13 rfl rfl)
theorem dX0_colour_15 : decode cX0_colour 15 = .ok (.iconst 1, 1) := dk_4 (dk_at dksX0_colour_0 15 rfl rfl)
theorem dX0_colour_16 : decode cX0_colour 16 = .ok (.ireturn, 1) := dk_172 (dk_at dksX0_colour_0 16 rfl rfl)
theorem dX0_colour_17 : decode cX0_colour 17 = .ok (.astore 4, 2) := dk_58 4 (dk_at dksX0_colour_0 17 rfl rfl)
theorem dX0_colour_19 : decode cX0_colour 19 = .ok (.iconst 2, 1) := dk_5 (dk_at dksX0_colour_0 19 rfl rfl)
theorem dX0_colour_20 : decode cX0_colour 20 = .ok (.ireturn, 1) := dk_172 (dk_at dksX0_colour_0 20 rfl rfl)
theorem dX0_colour_21 : decode cX0_colour 21 = .ok (.astore 4, 2) := dk_58 4 (dk_at dksX0_colour_0 21 rfl rfl)
theorem dX0_colour_23 : decode cX0_colour 23 = .ok (.iconst 3, 1) := dk_6 (dk_at dksX0_colour_0 23 rfl rfl)
theorem dX0_colour_24 : decode cX0_colour 24 = .ok (.ireturn, 1) := dk_172 (dk_at dksX0_colour_1 0 rfl rfl)
theorem dX0_colour_25 : decode cX0_colour 25 = .ok (.iconst 0, 1) := dk_3 (dk_at dksX0_colour_1 1 rfl rfl)
theorem dX0_colour_26 : decode cX0_colour 26 = .ok (.ireturn, 1) := dk_172 (dk_at dksX0_colour_1 2 rfl rfl)
abbrev cX0_nation : ByteArray := method_6_code
def yX0_nation : MethodName := ⟨RX0, "nation", "(LFlagLaundry;II[J)I"⟩
def dkwX0_nation_1 : List UInt8 := [172, 3, 172]
abbrev dktX0_nation_1 : List UInt8 := dkwX0_nation_1 ++ []
def dkwX0_nation_0 : List UInt8 := [45, 3, 42, 27, 28, 182, 0, 26, 133, 80, 167, 0, 15, 58, 4, 4, 172, 58, 4, 5, 172, 58, 4, 6]
abbrev dktX0_nation_0 : List UInt8 := dkwX0_nation_0 ++ dktX0_nation_1
theorem dksX0_nation_0 : cX0_nation.data.toList.drop 0 = dktX0_nation_0 := by decide +kernel
theorem dksX0_nation_1 : cX0_nation.data.toList.drop 24 = dktX0_nation_1 := dk_seg dksX0_nation_0 24 rfl rfl
theorem dX0_nation_0 : decode cX0_nation 0 = .ok (.aload_n 3, 1) := dk_45 (dk_at dksX0_nation_0 0 rfl rfl)
theorem dX0_nation_1 : decode cX0_nation 1 = .ok (.iconst 0, 1) := dk_3 (dk_at dksX0_nation_0 1 rfl rfl)
theorem dX0_nation_2 : decode cX0_nation 2 = .ok (.aload_n 0, 1) := dk_42 (dk_at dksX0_nation_0 2 rfl rfl)
theorem dX0_nation_3 : decode cX0_nation 3 = .ok (.iload_n 1, 1) := dk_27 (dk_at dksX0_nation_0 3 rfl rfl)
theorem dX0_nation_4 : decode cX0_nation 4 = .ok (.iload_n 2, 1) := dk_28 (dk_at dksX0_nation_0 4 rfl rfl)
theorem dX0_nation_5 : decode cX0_nation 5 = .ok (.invokevirtual 26, 3) := dk_182 0 26 (dk_at dksX0_nation_0 5 rfl rfl)
theorem dX0_nation_8 : decode cX0_nation 8 = .ok (.i2l, 1) := dk_133 (dk_at dksX0_nation_0 8 rfl rfl)
theorem dX0_nation_9 : decode cX0_nation 9 = .ok (.lastore, 1) := dk_80 (dk_at dksX0_nation_0 9 rfl rfl)
theorem dX0_nation_10 : decode cX0_nation 10 = .ok (.goto 15, 3) := dk_167 0 15 (dk_at dksX0_nation_0 10 rfl rfl)
theorem dX0_nation_13 : decode cX0_nation 13 = .ok (.astore 4, 2) := dk_58 4 (dk_at dksX0_nation_0 13 rfl rfl)
theorem dX0_nation_15 : decode cX0_nation 15 = .ok (.iconst 1, 1) := dk_4 (dk_at dksX0_nation_0 15 rfl rfl)
theorem dX0_nation_16 : decode cX0_nation 16 = .ok (.ireturn, 1) := dk_172 (dk_at dksX0_nation_0 16 rfl rfl)
theorem dX0_nation_17 : decode cX0_nation 17 = .ok (.astore 4, 2) := dk_58 4 (dk_at dksX0_nation_0 17 rfl rfl)
theorem dX0_nation_19 : decode cX0_nation 19 = .ok (.iconst 2, 1) := dk_5 (dk_at dksX0_nation_0 19 rfl rfl)
theorem dX0_nation_20 : decode cX0_nation 20 = .ok (.ireturn, 1) := dk_172 (dk_at dksX0_nation_0 20 rfl rfl)
theorem dX0_nation_21 : decode cX0_nation 21 = .ok (.astore 4, 2) := dk_58 4 (dk_at dksX0_nation_0 21 rfl rfl)
theorem dX0_nation_23 : decode cX0_nation 23 = .ok (.iconst 3, 1) := dk_6 (dk_at dksX0_nation_0 23 rfl rfl)
theorem dX0_nation_24 : decode cX0_nation 24 = .ok (.ireturn, 1) := dk_172 (dk_at dksX0_nation_1 0 rfl rfl)
theorem dX0_nation_25 : decode cX0_nation 25 = .ok (.iconst 0, 1) := dk_3 (dk_at dksX0_nation_1 1 rfl rfl)
theorem dX0_nation_26 : decode cX0_nation 26 = .ok (.ireturn, 1) := dk_172 (dk_at dksX0_nation_1 2 rfl rfl)
abbrev cX0_flag : ByteArray := method_7_code
def yX0_flag : MethodName := ⟨RX0, "flag", "(LFlagLaundry;II[J)I"⟩
def dkwX0_flag_1 : List UInt8 := [172, 3, 172]
abbrev dktX0_flag_1 : List UInt8 := dkwX0_flag_1 ++ []
def dkwX0_flag_0 : List UInt8 := [45, 3, 42, 27, 28, 182, 0, 29, 133, 80, 167, 0, 15, 58, 4, 4, 172, 58, 4, 5, 172, 58, 4, 6]
abbrev dktX0_flag_0 : List UInt8 := dkwX0_flag_0 ++ dktX0_flag_1
theorem dksX0_flag_0 : cX0_flag.data.toList.drop 0 = dktX0_flag_0 := by decide +kernel
theorem dksX0_flag_1 : cX0_flag.data.toList.drop 24 = dktX0_flag_1 := dk_seg dksX0_flag_0 24 rfl rfl
theorem dX0_flag_0 : decode cX0_flag 0 = .ok (.aload_n 3, 1) := dk_45 (dk_at dksX0_flag_0 0 rfl rfl)
theorem dX0_flag_1 : decode cX0_flag 1 = .ok (.iconst 0, 1) := dk_3 (dk_at dksX0_flag_0 1 rfl rfl)
theorem dX0_flag_2 : decode cX0_flag 2 = .ok (.aload_n 0, 1) := dk_42 (dk_at dksX0_flag_0 2 rfl rfl)
theorem dX0_flag_3 : decode cX0_flag 3 = .ok (.iload_n 1, 1) := dk_27 (dk_at dksX0_flag_0 3 rfl rfl)
theorem dX0_flag_4 : decode cX0_flag 4 = .ok (.iload_n 2, 1) := dk_28 (dk_at dksX0_flag_0 4 rfl rfl)
theorem dX0_flag_5 : decode cX0_flag 5 = .ok (.invokevirtual 29, 3) := dk_182 0 29 (dk_at dksX0_flag_0 5 rfl rfl)
theorem dX0_flag_8 : decode cX0_flag 8 = .ok (.i2l, 1) := dk_133 (dk_at dksX0_flag_0 8 rfl rfl)
theorem dX0_flag_9 : decode cX0_flag 9 = .ok (.lastore, 1) := dk_80 (dk_at dksX0_flag_0 9 rfl rfl)
theorem dX0_flag_10 : decode cX0_flag 10 = .ok (.goto 15, 3) := dk_167 0 15 (dk_at dksX0_flag_0 10 rfl rfl)
theorem dX0_flag_13 : decode cX0_flag 13 = .ok (.astore 4, 2) := dk_58 4 (dk_at dksX0_flag_0 13 rfl rfl)
theorem dX0_flag_15 : decode cX0_flag 15 = .ok (.iconst 1, 1) := dk_4 (dk_at dksX0_flag_0 15 rfl rfl)
theorem dX0_flag_16 : decode cX0_flag 16 = .ok (.ireturn, 1) := dk_172 (dk_at dksX0_flag_0 16 rfl rfl)
theorem dX0_flag_17 : decode cX0_flag 17 = .ok (.astore 4, 2) := dk_58 4 (dk_at dksX0_flag_0 17 rfl rfl)
theorem dX0_flag_19 : decode cX0_flag 19 = .ok (.iconst 2, 1) := dk_5 (dk_at dksX0_flag_0 19 rfl rfl)
theorem dX0_flag_20 : decode cX0_flag 20 = .ok (.ireturn, 1) := dk_172 (dk_at dksX0_flag_0 20 rfl rfl)
theorem dX0_flag_21 : decode cX0_flag 21 = .ok (.astore 4, 2) := dk_58 4 (dk_at dksX0_flag_0 21 rfl rfl)
theorem dX0_flag_23 : decode cX0_flag 23 = .ok (.iconst 3, 1) := dk_6 (dk_at dksX0_flag_0 23 rfl rfl)
theorem dX0_flag_24 : decode cX0_flag 24 = .ok (.ireturn, 1) := dk_172 (dk_at dksX0_flag_1 0 rfl rfl)
theorem dX0_flag_25 : decode cX0_flag 25 = .ok (.iconst 0, 1) := dk_3 (dk_at dksX0_flag_1 1 rfl rfl)
theorem dX0_flag_26 : decode cX0_flag 26 = .ok (.ireturn, 1) := dk_172 (dk_at dksX0_flag_1 2 rfl rfl)
abbrev cX0_tub : ByteArray := method_8_code
def yX0_tub : MethodName := ⟨RX0, "tub", "(LFlagLaundry;II[J)I"⟩
def dkwX0_tub_1 : List UInt8 := [172, 3, 172]
abbrev dktX0_tub_1 : List UInt8 := dkwX0_tub_1 ++ []
def dkwX0_tub_0 : List UInt8 := [45, 3, 42, 27, 28, 182, 0, 32, 133, 80, 167, 0, 15, 58, 4, 4, 172, 58, 4, 5, 172, 58, 4, 6]
abbrev dktX0_tub_0 : List UInt8 := dkwX0_tub_0 ++ dktX0_tub_1
theorem dksX0_tub_0 : cX0_tub.data.toList.drop 0 = dktX0_tub_0 := by decide +kernel
theorem dksX0_tub_1 : cX0_tub.data.toList.drop 24 = dktX0_tub_1 := dk_seg dksX0_tub_0 24 rfl rfl
theorem dX0_tub_0 : decode cX0_tub 0 = .ok (.aload_n 3, 1) := dk_45 (dk_at dksX0_tub_0 0 rfl rfl)
theorem dX0_tub_1 : decode cX0_tub 1 = .ok (.iconst 0, 1) := dk_3 (dk_at dksX0_tub_0 1 rfl rfl)
theorem dX0_tub_2 : decode cX0_tub 2 = .ok (.aload_n 0, 1) := dk_42 (dk_at dksX0_tub_0 2 rfl rfl)
theorem dX0_tub_3 : decode cX0_tub 3 = .ok (.iload_n 1, 1) := dk_27 (dk_at dksX0_tub_0 3 rfl rfl)
theorem dX0_tub_4 : decode cX0_tub 4 = .ok (.iload_n 2, 1) := dk_28 (dk_at dksX0_tub_0 4 rfl rfl)
theorem dX0_tub_5 : decode cX0_tub 5 = .ok (.invokevirtual 32, 3) := dk_182 0 32 (dk_at dksX0_tub_0 5 rfl rfl)
theorem dX0_tub_8 : decode cX0_tub 8 = .ok (.i2l, 1) := dk_133 (dk_at dksX0_tub_0 8 rfl rfl)
theorem dX0_tub_9 : decode cX0_tub 9 = .ok (.lastore, 1) := dk_80 (dk_at dksX0_tub_0 9 rfl rfl)
theorem dX0_tub_10 : decode cX0_tub 10 = .ok (.goto 15, 3) := dk_167 0 15 (dk_at dksX0_tub_0 10 rfl rfl)
theorem dX0_tub_13 : decode cX0_tub 13 = .ok (.astore 4, 2) := dk_58 4 (dk_at dksX0_tub_0 13 rfl rfl)
theorem dX0_tub_15 : decode cX0_tub 15 = .ok (.iconst 1, 1) := dk_4 (dk_at dksX0_tub_0 15 rfl rfl)
theorem dX0_tub_16 : decode cX0_tub 16 = .ok (.ireturn, 1) := dk_172 (dk_at dksX0_tub_0 16 rfl rfl)
theorem dX0_tub_17 : decode cX0_tub 17 = .ok (.astore 4, 2) := dk_58 4 (dk_at dksX0_tub_0 17 rfl rfl)
theorem dX0_tub_19 : decode cX0_tub 19 = .ok (.iconst 2, 1) := dk_5 (dk_at dksX0_tub_0 19 rfl rfl)
theorem dX0_tub_20 : decode cX0_tub 20 = .ok (.ireturn, 1) := dk_172 (dk_at dksX0_tub_0 20 rfl rfl)
theorem dX0_tub_21 : decode cX0_tub 21 = .ok (.astore 4, 2) := dk_58 4 (dk_at dksX0_tub_0 21 rfl rfl)
theorem dX0_tub_23 : decode cX0_tub 23 = .ok (.iconst 3, 1) := dk_6 (dk_at dksX0_tub_0 23 rfl rfl)
theorem dX0_tub_24 : decode cX0_tub 24 = .ok (.ireturn, 1) := dk_172 (dk_at dksX0_tub_1 0 rfl rfl)
theorem dX0_tub_25 : decode cX0_tub 25 = .ok (.iconst 0, 1) := dk_3 (dk_at dksX0_tub_1 1 rfl rfl)
theorem dX0_tub_26 : decode cX0_tub 26 = .ok (.ireturn, 1) := dk_172 (dk_at dksX0_tub_1 2 rfl rfl)
abbrev cX0_inTub : ByteArray := method_9_code
def yX0_inTub : MethodName := ⟨RX0, "inTub", "(LFlagLaundry;II[J)I"⟩
def dkwX0_inTub_0 : List UInt8 := [45, 3, 42, 27, 28, 182, 0, 35, 133, 80, 167, 0, 11, 58, 4, 4, 172, 58, 4, 5, 172, 3, 172]
abbrev dktX0_inTub_0 : List UInt8 := dkwX0_inTub_0 ++ []
theorem dksX0_inTub_0 : cX0_inTub.data.toList.drop 0 = dktX0_inTub_0 := by decide +kernel
theorem dX0_inTub_0 : decode cX0_inTub 0 = .ok (.aload_n 3, 1) := dk_45 (dk_at dksX0_inTub_0 0 rfl rfl)
theorem dX0_inTub_1 : decode cX0_inTub 1 = .ok (.iconst 0, 1) := dk_3 (dk_at dksX0_inTub_0 1 rfl rfl)
theorem dX0_inTub_2 : decode cX0_inTub 2 = .ok (.aload_n 0, 1) := dk_42 (dk_at dksX0_inTub_0 2 rfl rfl)
theorem dX0_inTub_3 : decode cX0_inTub 3 = .ok (.iload_n 1, 1) := dk_27 (dk_at dksX0_inTub_0 3 rfl rfl)
theorem dX0_inTub_4 : decode cX0_inTub 4 = .ok (.iload_n 2, 1) := dk_28 (dk_at dksX0_inTub_0 4 rfl rfl)
theorem dX0_inTub_5 : decode cX0_inTub 5 = .ok (.invokevirtual 35, 3) := dk_182 0 35 (dk_at dksX0_inTub_0 5 rfl rfl)
theorem dX0_inTub_8 : decode cX0_inTub 8 = .ok (.i2l, 1) := dk_133 (dk_at dksX0_inTub_0 8 rfl rfl)
theorem dX0_inTub_9 : decode cX0_inTub 9 = .ok (.lastore, 1) := dk_80 (dk_at dksX0_inTub_0 9 rfl rfl)
theorem dX0_inTub_10 : decode cX0_inTub 10 = .ok (.goto 11, 3) := dk_167 0 11 (dk_at dksX0_inTub_0 10 rfl rfl)
theorem dX0_inTub_13 : decode cX0_inTub 13 = .ok (.astore 4, 2) := dk_58 4 (dk_at dksX0_inTub_0 13 rfl rfl)
theorem dX0_inTub_15 : decode cX0_inTub 15 = .ok (.iconst 1, 1) := dk_4 (dk_at dksX0_inTub_0 15 rfl rfl)
theorem dX0_inTub_16 : decode cX0_inTub 16 = .ok (.ireturn, 1) := dk_172 (dk_at dksX0_inTub_0 16 rfl rfl)
theorem dX0_inTub_17 : decode cX0_inTub 17 = .ok (.astore 4, 2) := dk_58 4 (dk_at dksX0_inTub_0 17 rfl rfl)
theorem dX0_inTub_19 : decode cX0_inTub 19 = .ok (.iconst 2, 1) := dk_5 (dk_at dksX0_inTub_0 19 rfl rfl)
theorem dX0_inTub_20 : decode cX0_inTub 20 = .ok (.ireturn, 1) := dk_172 (dk_at dksX0_inTub_0 20 rfl rfl)
theorem dX0_inTub_21 : decode cX0_inTub 21 = .ok (.iconst 0, 1) := dk_3 (dk_at dksX0_inTub_0 21 rfl rfl)
theorem dX0_inTub_22 : decode cX0_inTub 22 = .ok (.ireturn, 1) := dk_172 (dk_at dksX0_inTub_0 22 rfl rfl)
abbrev cX0_onPeg : ByteArray := method_10_code
def yX0_onPeg : MethodName := ⟨RX0, "onPeg", "(LFlagLaundry;I[J)I"⟩
def dkwX0_onPeg_0 : List UInt8 := [44, 3, 42, 27, 182, 0, 38, 133, 80, 167, 0, 9, 78, 4, 172, 78, 5, 172, 3, 172]
abbrev dktX0_onPeg_0 : List UInt8 := dkwX0_onPeg_0 ++ []
theorem dksX0_onPeg_0 : cX0_onPeg.data.toList.drop 0 = dktX0_onPeg_0 := by decide +kernel
theorem dX0_onPeg_0 : decode cX0_onPeg 0 = .ok (.aload_n 2, 1) := dk_44 (dk_at dksX0_onPeg_0 0 rfl rfl)
theorem dX0_onPeg_1 : decode cX0_onPeg 1 = .ok (.iconst 0, 1) := dk_3 (dk_at dksX0_onPeg_0 1 rfl rfl)
theorem dX0_onPeg_2 : decode cX0_onPeg 2 = .ok (.aload_n 0, 1) := dk_42 (dk_at dksX0_onPeg_0 2 rfl rfl)
theorem dX0_onPeg_3 : decode cX0_onPeg 3 = .ok (.iload_n 1, 1) := dk_27 (dk_at dksX0_onPeg_0 3 rfl rfl)
theorem dX0_onPeg_4 : decode cX0_onPeg 4 = .ok (.invokevirtual 38, 3) := dk_182 0 38 (dk_at dksX0_onPeg_0 4 rfl rfl)
theorem dX0_onPeg_7 : decode cX0_onPeg 7 = .ok (.i2l, 1) := dk_133 (dk_at dksX0_onPeg_0 7 rfl rfl)
theorem dX0_onPeg_8 : decode cX0_onPeg 8 = .ok (.lastore, 1) := dk_80 (dk_at dksX0_onPeg_0 8 rfl rfl)
theorem dX0_onPeg_9 : decode cX0_onPeg 9 = .ok (.goto 9, 3) := dk_167 0 9 (dk_at dksX0_onPeg_0 9 rfl rfl)
theorem dX0_onPeg_12 : decode cX0_onPeg 12 = .ok (.astore_n 3, 1) := dk_78 (dk_at dksX0_onPeg_0 12 rfl rfl)
theorem dX0_onPeg_13 : decode cX0_onPeg 13 = .ok (.iconst 1, 1) := dk_4 (dk_at dksX0_onPeg_0 13 rfl rfl)
theorem dX0_onPeg_14 : decode cX0_onPeg 14 = .ok (.ireturn, 1) := dk_172 (dk_at dksX0_onPeg_0 14 rfl rfl)
theorem dX0_onPeg_15 : decode cX0_onPeg 15 = .ok (.astore_n 3, 1) := dk_78 (dk_at dksX0_onPeg_0 15 rfl rfl)
theorem dX0_onPeg_16 : decode cX0_onPeg 16 = .ok (.iconst 2, 1) := dk_5 (dk_at dksX0_onPeg_0 16 rfl rfl)
theorem dX0_onPeg_17 : decode cX0_onPeg 17 = .ok (.ireturn, 1) := dk_172 (dk_at dksX0_onPeg_0 17 rfl rfl)
theorem dX0_onPeg_18 : decode cX0_onPeg 18 = .ok (.iconst 0, 1) := dk_3 (dk_at dksX0_onPeg_0 18 rfl rfl)
theorem dX0_onPeg_19 : decode cX0_onPeg 19 = .ok (.ireturn, 1) := dk_172 (dk_at dksX0_onPeg_0 19 rfl rfl)
abbrev cX0_freePegs : ByteArray := method_11_code
def yX0_freePegs : MethodName := ⟨RX0, "freePegs", "(LFlagLaundry;[J)I"⟩
def dkwX0_freePegs_0 : List UInt8 := [43, 3, 42, 182, 0, 41, 133, 80, 167, 0, 6, 77, 4, 172, 3, 172]
abbrev dktX0_freePegs_0 : List UInt8 := dkwX0_freePegs_0 ++ []
theorem dksX0_freePegs_0 : cX0_freePegs.data.toList.drop 0 = dktX0_freePegs_0 := by decide +kernel
theorem dX0_freePegs_0 : decode cX0_freePegs 0 = .ok (.aload_n 1, 1) := dk_43 (dk_at dksX0_freePegs_0 0 rfl rfl)
theorem dX0_freePegs_1 : decode cX0_freePegs 1 = .ok (.iconst 0, 1) := dk_3 (dk_at dksX0_freePegs_0 1 rfl rfl)
theorem dX0_freePegs_2 : decode cX0_freePegs 2 = .ok (.aload_n 0, 1) := dk_42 (dk_at dksX0_freePegs_0 2 rfl rfl)
theorem dX0_freePegs_3 : decode cX0_freePegs 3 = .ok (.invokevirtual 41, 3) := dk_182 0 41 (dk_at dksX0_freePegs_0 3 rfl rfl)
theorem dX0_freePegs_6 : decode cX0_freePegs 6 = .ok (.i2l, 1) := dk_133 (dk_at dksX0_freePegs_0 6 rfl rfl)
theorem dX0_freePegs_7 : decode cX0_freePegs 7 = .ok (.lastore, 1) := dk_80 (dk_at dksX0_freePegs_0 7 rfl rfl)
theorem dX0_freePegs_8 : decode cX0_freePegs 8 = .ok (.goto 6, 3) := dk_167 0 6 (dk_at dksX0_freePegs_0 8 rfl rfl)
theorem dX0_freePegs_11 : decode cX0_freePegs 11 = .ok (.astore_n 2, 1) := dk_77 (dk_at dksX0_freePegs_0 11 rfl rfl)
theorem dX0_freePegs_12 : decode cX0_freePegs 12 = .ok (.iconst 1, 1) := dk_4 (dk_at dksX0_freePegs_0 12 rfl rfl)
theorem dX0_freePegs_13 : decode cX0_freePegs 13 = .ok (.ireturn, 1) := dk_172 (dk_at dksX0_freePegs_0 13 rfl rfl)
theorem dX0_freePegs_14 : decode cX0_freePegs 14 = .ok (.iconst 0, 1) := dk_3 (dk_at dksX0_freePegs_0 14 rfl rfl)
theorem dX0_freePegs_15 : decode cX0_freePegs 15 = .ok (.ireturn, 1) := dk_172 (dk_at dksX0_freePegs_0 15 rfl rfl)
abbrev cX0_wettest : ByteArray := method_12_code
def yX0_wettest : MethodName := ⟨RX0, "wettest", "(LFlagLaundry;[J)I"⟩
def dkwX0_wettest_0 : List UInt8 := [43, 3, 42, 182, 0, 45, 133, 80, 167, 0, 6, 77, 4, 172, 3, 172]
abbrev dktX0_wettest_0 : List UInt8 := dkwX0_wettest_0 ++ []
theorem dksX0_wettest_0 : cX0_wettest.data.toList.drop 0 = dktX0_wettest_0 := by decide +kernel
theorem dX0_wettest_0 : decode cX0_wettest 0 = .ok (.aload_n 1, 1) := dk_43 (dk_at dksX0_wettest_0 0 rfl rfl)
theorem dX0_wettest_1 : decode cX0_wettest 1 = .ok (.iconst 0, 1) := dk_3 (dk_at dksX0_wettest_0 1 rfl rfl)
theorem dX0_wettest_2 : decode cX0_wettest 2 = .ok (.aload_n 0, 1) := dk_42 (dk_at dksX0_wettest_0 2 rfl rfl)
theorem dX0_wettest_3 : decode cX0_wettest 3 = .ok (.invokevirtual 45, 3) := dk_182 0 45 (dk_at dksX0_wettest_0 3 rfl rfl)
theorem dX0_wettest_6 : decode cX0_wettest 6 = .ok (.i2l, 1) := dk_133 (dk_at dksX0_wettest_0 6 rfl rfl)
theorem dX0_wettest_7 : decode cX0_wettest 7 = .ok (.lastore, 1) := dk_80 (dk_at dksX0_wettest_0 7 rfl rfl)
theorem dX0_wettest_8 : decode cX0_wettest 8 = .ok (.goto 6, 3) := dk_167 0 6 (dk_at dksX0_wettest_0 8 rfl rfl)
theorem dX0_wettest_11 : decode cX0_wettest 11 = .ok (.astore_n 2, 1) := dk_77 (dk_at dksX0_wettest_0 11 rfl rfl)
theorem dX0_wettest_12 : decode cX0_wettest 12 = .ok (.iconst 1, 1) := dk_4 (dk_at dksX0_wettest_0 12 rfl rfl)
theorem dX0_wettest_13 : decode cX0_wettest 13 = .ok (.ireturn, 1) := dk_172 (dk_at dksX0_wettest_0 13 rfl rfl)
theorem dX0_wettest_14 : decode cX0_wettest 14 = .ok (.iconst 0, 1) := dk_3 (dk_at dksX0_wettest_0 14 rfl rfl)
theorem dX0_wettest_15 : decode cX0_wettest 15 = .ok (.ireturn, 1) := dk_172 (dk_at dksX0_wettest_0 15 rfl rfl)
abbrev cX0_gap : ByteArray := method_13_code
def yX0_gap : MethodName := ⟨RX0, "gap", "(LFlagLaundry;[J)I"⟩
def dkwX0_gap_0 : List UInt8 := [43, 3, 42, 182, 0, 48, 133, 80, 167, 0, 6, 77, 4, 172, 3, 172]
abbrev dktX0_gap_0 : List UInt8 := dkwX0_gap_0 ++ []
theorem dksX0_gap_0 : cX0_gap.data.toList.drop 0 = dktX0_gap_0 := by decide +kernel
theorem dX0_gap_0 : decode cX0_gap 0 = .ok (.aload_n 1, 1) := dk_43 (dk_at dksX0_gap_0 0 rfl rfl)
theorem dX0_gap_1 : decode cX0_gap 1 = .ok (.iconst 0, 1) := dk_3 (dk_at dksX0_gap_0 1 rfl rfl)
theorem dX0_gap_2 : decode cX0_gap 2 = .ok (.aload_n 0, 1) := dk_42 (dk_at dksX0_gap_0 2 rfl rfl)
theorem dX0_gap_3 : decode cX0_gap 3 = .ok (.invokevirtual 48, 3) := dk_182 0 48 (dk_at dksX0_gap_0 3 rfl rfl)
theorem dX0_gap_6 : decode cX0_gap 6 = .ok (.i2l, 1) := dk_133 (dk_at dksX0_gap_0 6 rfl rfl)
theorem dX0_gap_7 : decode cX0_gap 7 = .ok (.lastore, 1) := dk_80 (dk_at dksX0_gap_0 7 rfl rfl)
theorem dX0_gap_8 : decode cX0_gap 8 = .ok (.goto 6, 3) := dk_167 0 6 (dk_at dksX0_gap_0 8 rfl rfl)
theorem dX0_gap_11 : decode cX0_gap 11 = .ok (.astore_n 2, 1) := dk_77 (dk_at dksX0_gap_0 11 rfl rfl)
theorem dX0_gap_12 : decode cX0_gap 12 = .ok (.iconst 1, 1) := dk_4 (dk_at dksX0_gap_0 12 rfl rfl)
theorem dX0_gap_13 : decode cX0_gap 13 = .ok (.ireturn, 1) := dk_172 (dk_at dksX0_gap_0 13 rfl rfl)
theorem dX0_gap_14 : decode cX0_gap 14 = .ok (.iconst 0, 1) := dk_3 (dk_at dksX0_gap_0 14 rfl rfl)
theorem dX0_gap_15 : decode cX0_gap 15 = .ok (.ireturn, 1) := dk_172 (dk_at dksX0_gap_0 15 rfl rfl)
abbrev cX0_why : ByteArray := method_14_code
def yX0_why : MethodName := ⟨RX0, "why", "(LFlagLaundry;I[J)I"⟩
def dkwX0_why_0 : List UInt8 := [44, 3, 42, 27, 182, 0, 51, 133, 80, 167, 0, 9, 78, 4, 172, 78, 5, 172, 3, 172]
abbrev dktX0_why_0 : List UInt8 := dkwX0_why_0 ++ []
theorem dksX0_why_0 : cX0_why.data.toList.drop 0 = dktX0_why_0 := by decide +kernel
theorem dX0_why_0 : decode cX0_why 0 = .ok (.aload_n 2, 1) := dk_44 (dk_at dksX0_why_0 0 rfl rfl)
theorem dX0_why_1 : decode cX0_why 1 = .ok (.iconst 0, 1) := dk_3 (dk_at dksX0_why_0 1 rfl rfl)
theorem dX0_why_2 : decode cX0_why 2 = .ok (.aload_n 0, 1) := dk_42 (dk_at dksX0_why_0 2 rfl rfl)
theorem dX0_why_3 : decode cX0_why 3 = .ok (.iload_n 1, 1) := dk_27 (dk_at dksX0_why_0 3 rfl rfl)
theorem dX0_why_4 : decode cX0_why 4 = .ok (.invokevirtual 51, 3) := dk_182 0 51 (dk_at dksX0_why_0 4 rfl rfl)
theorem dX0_why_7 : decode cX0_why 7 = .ok (.i2l, 1) := dk_133 (dk_at dksX0_why_0 7 rfl rfl)
theorem dX0_why_8 : decode cX0_why 8 = .ok (.lastore, 1) := dk_80 (dk_at dksX0_why_0 8 rfl rfl)
theorem dX0_why_9 : decode cX0_why 9 = .ok (.goto 9, 3) := dk_167 0 9 (dk_at dksX0_why_0 9 rfl rfl)
theorem dX0_why_12 : decode cX0_why 12 = .ok (.astore_n 3, 1) := dk_78 (dk_at dksX0_why_0 12 rfl rfl)
theorem dX0_why_13 : decode cX0_why 13 = .ok (.iconst 1, 1) := dk_4 (dk_at dksX0_why_0 13 rfl rfl)
theorem dX0_why_14 : decode cX0_why 14 = .ok (.ireturn, 1) := dk_172 (dk_at dksX0_why_0 14 rfl rfl)
theorem dX0_why_15 : decode cX0_why 15 = .ok (.astore_n 3, 1) := dk_78 (dk_at dksX0_why_0 15 rfl rfl)
theorem dX0_why_16 : decode cX0_why 16 = .ok (.iconst 2, 1) := dk_5 (dk_at dksX0_why_0 16 rfl rfl)
theorem dX0_why_17 : decode cX0_why 17 = .ok (.ireturn, 1) := dk_172 (dk_at dksX0_why_0 17 rfl rfl)
theorem dX0_why_18 : decode cX0_why 18 = .ok (.iconst 0, 1) := dk_3 (dk_at dksX0_why_0 18 rfl rfl)
theorem dX0_why_19 : decode cX0_why 19 = .ok (.ireturn, 1) := dk_172 (dk_at dksX0_why_0 19 rfl rfl)
abbrev cX0_reasons : ByteArray := method_15_code
def yX0_reasons : MethodName := ⟨RX0, "reasons", "(LFlagLaundry;I[J)I"⟩
def dkwX0_reasons_0 : List UInt8 := [44, 3, 42, 27, 182, 0, 54, 133, 80, 167, 0, 9, 78, 4, 172, 78, 5, 172, 3, 172]
abbrev dktX0_reasons_0 : List UInt8 := dkwX0_reasons_0 ++ []
theorem dksX0_reasons_0 : cX0_reasons.data.toList.drop 0 = dktX0_reasons_0 := by decide +kernel
theorem dX0_reasons_0 : decode cX0_reasons 0 = .ok (.aload_n 2, 1) := dk_44 (dk_at dksX0_reasons_0 0 rfl rfl)
theorem dX0_reasons_1 : decode cX0_reasons 1 = .ok (.iconst 0, 1) := dk_3 (dk_at dksX0_reasons_0 1 rfl rfl)
theorem dX0_reasons_2 : decode cX0_reasons 2 = .ok (.aload_n 0, 1) := dk_42 (dk_at dksX0_reasons_0 2 rfl rfl)
theorem dX0_reasons_3 : decode cX0_reasons 3 = .ok (.iload_n 1, 1) := dk_27 (dk_at dksX0_reasons_0 3 rfl rfl)
theorem dX0_reasons_4 : decode cX0_reasons 4 = .ok (.invokevirtual 54, 3) := dk_182 0 54 (dk_at dksX0_reasons_0 4 rfl rfl)
theorem dX0_reasons_7 : decode cX0_reasons 7 = .ok (.i2l, 1) := dk_133 (dk_at dksX0_reasons_0 7 rfl rfl)
theorem dX0_reasons_8 : decode cX0_reasons 8 = .ok (.lastore, 1) := dk_80 (dk_at dksX0_reasons_0 8 rfl rfl)
theorem dX0_reasons_9 : decode cX0_reasons 9 = .ok (.goto 9, 3) := dk_167 0 9 (dk_at dksX0_reasons_0 9 rfl rfl)
theorem dX0_reasons_12 : decode cX0_reasons 12 = .ok (.astore_n 3, 1) := dk_78 (dk_at dksX0_reasons_0 12 rfl rfl)
theorem dX0_reasons_13 : decode cX0_reasons 13 = .ok (.iconst 1, 1) := dk_4 (dk_at dksX0_reasons_0 13 rfl rfl)
theorem dX0_reasons_14 : decode cX0_reasons 14 = .ok (.ireturn, 1) := dk_172 (dk_at dksX0_reasons_0 14 rfl rfl)
theorem dX0_reasons_15 : decode cX0_reasons 15 = .ok (.astore_n 3, 1) := dk_78 (dk_at dksX0_reasons_0 15 rfl rfl)
theorem dX0_reasons_16 : decode cX0_reasons 16 = .ok (.iconst 2, 1) := dk_5 (dk_at dksX0_reasons_0 16 rfl rfl)
theorem dX0_reasons_17 : decode cX0_reasons 17 = .ok (.ireturn, 1) := dk_172 (dk_at dksX0_reasons_0 17 rfl rfl)
theorem dX0_reasons_18 : decode cX0_reasons 18 = .ok (.iconst 0, 1) := dk_3 (dk_at dksX0_reasons_0 18 rfl rfl)
theorem dX0_reasons_19 : decode cX0_reasons 19 = .ok (.ireturn, 1) := dk_172 (dk_at dksX0_reasons_0 19 rfl rfl)
abbrev cX0_culprit : ByteArray := method_16_code
def yX0_culprit : MethodName := ⟨RX0, "culprit", "(LFlagLaundry;I[J)I"⟩
def dkwX0_culprit_0 : List UInt8 := [44, 3, 42, 27, 182, 0, 57, 133, 80, 167, 0, 9, 78, 4, 172, 78, 5, 172, 3, 172]
abbrev dktX0_culprit_0 : List UInt8 := dkwX0_culprit_0 ++ []
theorem dksX0_culprit_0 : cX0_culprit.data.toList.drop 0 = dktX0_culprit_0 := by decide +kernel
theorem dX0_culprit_0 : decode cX0_culprit 0 = .ok (.aload_n 2, 1) := dk_44 (dk_at dksX0_culprit_0 0 rfl rfl)
theorem dX0_culprit_1 : decode cX0_culprit 1 = .ok (.iconst 0, 1) := dk_3 (dk_at dksX0_culprit_0 1 rfl rfl)
theorem dX0_culprit_2 : decode cX0_culprit 2 = .ok (.aload_n 0, 1) := dk_42 (dk_at dksX0_culprit_0 2 rfl rfl)
theorem dX0_culprit_3 : decode cX0_culprit 3 = .ok (.iload_n 1, 1) := dk_27 (dk_at dksX0_culprit_0 3 rfl rfl)
theorem dX0_culprit_4 : decode cX0_culprit 4 = .ok (.invokevirtual 57, 3) := dk_182 0 57 (dk_at dksX0_culprit_0 4 rfl rfl)
theorem dX0_culprit_7 : decode cX0_culprit 7 = .ok (.i2l, 1) := dk_133 (dk_at dksX0_culprit_0 7 rfl rfl)
theorem dX0_culprit_8 : decode cX0_culprit 8 = .ok (.lastore, 1) := dk_80 (dk_at dksX0_culprit_0 8 rfl rfl)
theorem dX0_culprit_9 : decode cX0_culprit 9 = .ok (.goto 9, 3) := dk_167 0 9 (dk_at dksX0_culprit_0 9 rfl rfl)
theorem dX0_culprit_12 : decode cX0_culprit 12 = .ok (.astore_n 3, 1) := dk_78 (dk_at dksX0_culprit_0 12 rfl rfl)
theorem dX0_culprit_13 : decode cX0_culprit 13 = .ok (.iconst 1, 1) := dk_4 (dk_at dksX0_culprit_0 13 rfl rfl)
theorem dX0_culprit_14 : decode cX0_culprit 14 = .ok (.ireturn, 1) := dk_172 (dk_at dksX0_culprit_0 14 rfl rfl)
theorem dX0_culprit_15 : decode cX0_culprit 15 = .ok (.astore_n 3, 1) := dk_78 (dk_at dksX0_culprit_0 15 rfl rfl)
theorem dX0_culprit_16 : decode cX0_culprit 16 = .ok (.iconst 2, 1) := dk_5 (dk_at dksX0_culprit_0 16 rfl rfl)
theorem dX0_culprit_17 : decode cX0_culprit 17 = .ok (.ireturn, 1) := dk_172 (dk_at dksX0_culprit_0 17 rfl rfl)
theorem dX0_culprit_18 : decode cX0_culprit 18 = .ok (.iconst 0, 1) := dk_3 (dk_at dksX0_culprit_0 18 rfl rfl)
theorem dX0_culprit_19 : decode cX0_culprit 19 = .ok (.ireturn, 1) := dk_172 (dk_at dksX0_culprit_0 19 rfl rfl)
abbrev cX0_whyNotPut : ByteArray := method_17_code
def yX0_whyNotPut : MethodName := ⟨RX0, "whyNotPut", "(LFlagLaundry;II[J)I"⟩
def dkwX0_whyNotPut_0 : List UInt8 := [45, 3, 42, 27, 28, 182, 0, 60, 133, 80, 167, 0, 11, 58, 4, 4, 172, 58, 4, 5, 172, 3, 172]
abbrev dktX0_whyNotPut_0 : List UInt8 := dkwX0_whyNotPut_0 ++ []
theorem dksX0_whyNotPut_0 : cX0_whyNotPut.data.toList.drop 0 = dktX0_whyNotPut_0 := by decide +kernel
theorem dX0_whyNotPut_0 : decode cX0_whyNotPut 0 = .ok (.aload_n 3, 1) := dk_45 (dk_at dksX0_whyNotPut_0 0 rfl rfl)
theorem dX0_whyNotPut_1 : decode cX0_whyNotPut 1 = .ok (.iconst 0, 1) := dk_3 (dk_at dksX0_whyNotPut_0 1 rfl rfl)
theorem dX0_whyNotPut_2 : decode cX0_whyNotPut 2 = .ok (.aload_n 0, 1) := dk_42 (dk_at dksX0_whyNotPut_0 2 rfl rfl)
theorem dX0_whyNotPut_3 : decode cX0_whyNotPut 3 = .ok (.iload_n 1, 1) := dk_27 (dk_at dksX0_whyNotPut_0 3 rfl rfl)
theorem dX0_whyNotPut_4 : decode cX0_whyNotPut 4 = .ok (.iload_n 2, 1) := dk_28 (dk_at dksX0_whyNotPut_0 4 rfl rfl)
theorem dX0_whyNotPut_5 : decode cX0_whyNotPut 5 = .ok (.invokevirtual 60, 3) := dk_182 0 60 (dk_at dksX0_whyNotPut_0 5 rfl rfl)
theorem dX0_whyNotPut_8 : decode cX0_whyNotPut 8 = .ok (.i2l, 1) := dk_133 (dk_at dksX0_whyNotPut_0 8 rfl rfl)
theorem dX0_whyNotPut_9 : decode cX0_whyNotPut 9 = .ok (.lastore, 1) := dk_80 (dk_at dksX0_whyNotPut_0 9 rfl rfl)
theorem dX0_whyNotPut_10 : decode cX0_whyNotPut 10 = .ok (.goto 11, 3) := dk_167 0 11 (dk_at dksX0_whyNotPut_0 10 rfl rfl)
theorem dX0_whyNotPut_13 : decode cX0_whyNotPut 13 = .ok (.astore 4, 2) := dk_58 4 (dk_at dksX0_whyNotPut_0 13 rfl rfl)
theorem dX0_whyNotPut_15 : decode cX0_whyNotPut 15 = .ok (.iconst 1, 1) := dk_4 (dk_at dksX0_whyNotPut_0 15 rfl rfl)
theorem dX0_whyNotPut_16 : decode cX0_whyNotPut 16 = .ok (.ireturn, 1) := dk_172 (dk_at dksX0_whyNotPut_0 16 rfl rfl)
theorem dX0_whyNotPut_17 : decode cX0_whyNotPut 17 = .ok (.astore 4, 2) := dk_58 4 (dk_at dksX0_whyNotPut_0 17 rfl rfl)
theorem dX0_whyNotPut_19 : decode cX0_whyNotPut 19 = .ok (.iconst 2, 1) := dk_5 (dk_at dksX0_whyNotPut_0 19 rfl rfl)
theorem dX0_whyNotPut_20 : decode cX0_whyNotPut 20 = .ok (.ireturn, 1) := dk_172 (dk_at dksX0_whyNotPut_0 20 rfl rfl)
theorem dX0_whyNotPut_21 : decode cX0_whyNotPut 21 = .ok (.iconst 0, 1) := dk_3 (dk_at dksX0_whyNotPut_0 21 rfl rfl)
theorem dX0_whyNotPut_22 : decode cX0_whyNotPut 22 = .ok (.ireturn, 1) := dk_172 (dk_at dksX0_whyNotPut_0 22 rfl rfl)
abbrev cX0_whyNotWash : ByteArray := method_18_code
def yX0_whyNotWash : MethodName := ⟨RX0, "whyNotWash", "(LFlagLaundry;II[J)I"⟩
def dkwX0_whyNotWash_1 : List UInt8 := [172, 3, 172]
abbrev dktX0_whyNotWash_1 : List UInt8 := dkwX0_whyNotWash_1 ++ []
def dkwX0_whyNotWash_0 : List UInt8 := [45, 3, 42, 27, 28, 182, 0, 63, 133, 80, 167, 0, 15, 58, 4, 4, 172, 58, 4, 5, 172, 58, 4, 6]
abbrev dktX0_whyNotWash_0 : List UInt8 := dkwX0_whyNotWash_0 ++ dktX0_whyNotWash_1
theorem dksX0_whyNotWash_0 : cX0_whyNotWash.data.toList.drop 0 = dktX0_whyNotWash_0 := by decide +kernel
theorem dksX0_whyNotWash_1 : cX0_whyNotWash.data.toList.drop 24 = dktX0_whyNotWash_1 := dk_seg dksX0_whyNotWash_0 24 rfl rfl
theorem dX0_whyNotWash_0 : decode cX0_whyNotWash 0 = .ok (.aload_n 3, 1) := dk_45 (dk_at dksX0_whyNotWash_0 0 rfl rfl)
theorem dX0_whyNotWash_1 : decode cX0_whyNotWash 1 = .ok (.iconst 0, 1) := dk_3 (dk_at dksX0_whyNotWash_0 1 rfl rfl)
theorem dX0_whyNotWash_2 : decode cX0_whyNotWash 2 = .ok (.aload_n 0, 1) := dk_42 (dk_at dksX0_whyNotWash_0 2 rfl rfl)
theorem dX0_whyNotWash_3 : decode cX0_whyNotWash 3 = .ok (.iload_n 1, 1) := dk_27 (dk_at dksX0_whyNotWash_0 3 rfl rfl)
theorem dX0_whyNotWash_4 : decode cX0_whyNotWash 4 = .ok (.iload_n 2, 1) := dk_28 (dk_at dksX0_whyNotWash_0 4 rfl rfl)
theorem dX0_whyNotWash_5 : decode cX0_whyNotWash 5 = .ok (.invokevirtual 63, 3) := dk_182 0 63 (dk_at dksX0_whyNotWash_0 5 rfl rfl)
theorem dX0_whyNotWash_8 : decode cX0_whyNotWash 8 = .ok (.i2l, 1) := dk_133 (dk_at dksX0_whyNotWash_0 8 rfl rfl)
theorem dX0_whyNotWash_9 : decode cX0_whyNotWash 9 = .ok (.lastore, 1) := dk_80 (dk_at dksX0_whyNotWash_0 9 rfl rfl)
theorem dX0_whyNotWash_10 : decode cX0_whyNotWash 10 = .ok (.goto 15, 3) := dk_167 0 15 (dk_at dksX0_whyNotWash_0 10 rfl rfl)
theorem dX0_whyNotWash_13 : decode cX0_whyNotWash 13 = .ok (.astore 4, 2) := dk_58 4 (dk_at dksX0_whyNotWash_0 13 rfl rfl)
theorem dX0_whyNotWash_15 : decode cX0_whyNotWash 15 = .ok (.iconst 1, 1) := dk_4 (dk_at dksX0_whyNotWash_0 15 rfl rfl)
theorem dX0_whyNotWash_16 : decode cX0_whyNotWash 16 = .ok (.ireturn, 1) := dk_172 (dk_at dksX0_whyNotWash_0 16 rfl rfl)
theorem dX0_whyNotWash_17 : decode cX0_whyNotWash 17 = .ok (.astore 4, 2) := dk_58 4 (dk_at dksX0_whyNotWash_0 17 rfl rfl)
theorem dX0_whyNotWash_19 : decode cX0_whyNotWash 19 = .ok (.iconst 2, 1) := dk_5 (dk_at dksX0_whyNotWash_0 19 rfl rfl)
theorem dX0_whyNotWash_20 : decode cX0_whyNotWash 20 = .ok (.ireturn, 1) := dk_172 (dk_at dksX0_whyNotWash_0 20 rfl rfl)
theorem dX0_whyNotWash_21 : decode cX0_whyNotWash 21 = .ok (.astore 4, 2) := dk_58 4 (dk_at dksX0_whyNotWash_0 21 rfl rfl)
theorem dX0_whyNotWash_23 : decode cX0_whyNotWash 23 = .ok (.iconst 3, 1) := dk_6 (dk_at dksX0_whyNotWash_0 23 rfl rfl)
theorem dX0_whyNotWash_24 : decode cX0_whyNotWash 24 = .ok (.ireturn, 1) := dk_172 (dk_at dksX0_whyNotWash_1 0 rfl rfl)
theorem dX0_whyNotWash_25 : decode cX0_whyNotWash 25 = .ok (.iconst 0, 1) := dk_3 (dk_at dksX0_whyNotWash_1 1 rfl rfl)
theorem dX0_whyNotWash_26 : decode cX0_whyNotWash 26 = .ok (.ireturn, 1) := dk_172 (dk_at dksX0_whyNotWash_1 2 rfl rfl)
abbrev cX0_whyNotIron : ByteArray := method_19_code
def yX0_whyNotIron : MethodName := ⟨RX0, "whyNotIron", "(LFlagLaundry;II[J)I"⟩
def dkwX0_whyNotIron_1 : List UInt8 := [172, 3, 172]
abbrev dktX0_whyNotIron_1 : List UInt8 := dkwX0_whyNotIron_1 ++ []
def dkwX0_whyNotIron_0 : List UInt8 := [45, 3, 42, 27, 28, 182, 0, 66, 133, 80, 167, 0, 15, 58, 4, 4, 172, 58, 4, 5, 172, 58, 4, 6]
abbrev dktX0_whyNotIron_0 : List UInt8 := dkwX0_whyNotIron_0 ++ dktX0_whyNotIron_1
theorem dksX0_whyNotIron_0 : cX0_whyNotIron.data.toList.drop 0 = dktX0_whyNotIron_0 := by decide +kernel
theorem dksX0_whyNotIron_1 : cX0_whyNotIron.data.toList.drop 24 = dktX0_whyNotIron_1 := dk_seg dksX0_whyNotIron_0 24 rfl rfl
theorem dX0_whyNotIron_0 : decode cX0_whyNotIron 0 = .ok (.aload_n 3, 1) := dk_45 (dk_at dksX0_whyNotIron_0 0 rfl rfl)
theorem dX0_whyNotIron_1 : decode cX0_whyNotIron 1 = .ok (.iconst 0, 1) := dk_3 (dk_at dksX0_whyNotIron_0 1 rfl rfl)
theorem dX0_whyNotIron_2 : decode cX0_whyNotIron 2 = .ok (.aload_n 0, 1) := dk_42 (dk_at dksX0_whyNotIron_0 2 rfl rfl)
theorem dX0_whyNotIron_3 : decode cX0_whyNotIron 3 = .ok (.iload_n 1, 1) := dk_27 (dk_at dksX0_whyNotIron_0 3 rfl rfl)
theorem dX0_whyNotIron_4 : decode cX0_whyNotIron 4 = .ok (.iload_n 2, 1) := dk_28 (dk_at dksX0_whyNotIron_0 4 rfl rfl)
theorem dX0_whyNotIron_5 : decode cX0_whyNotIron 5 = .ok (.invokevirtual 66, 3) := dk_182 0 66 (dk_at dksX0_whyNotIron_0 5 rfl rfl)
theorem dX0_whyNotIron_8 : decode cX0_whyNotIron 8 = .ok (.i2l, 1) := dk_133 (dk_at dksX0_whyNotIron_0 8 rfl rfl)
theorem dX0_whyNotIron_9 : decode cX0_whyNotIron 9 = .ok (.lastore, 1) := dk_80 (dk_at dksX0_whyNotIron_0 9 rfl rfl)
theorem dX0_whyNotIron_10 : decode cX0_whyNotIron 10 = .ok (.goto 15, 3) := dk_167 0 15 (dk_at dksX0_whyNotIron_0 10 rfl rfl)
theorem dX0_whyNotIron_13 : decode cX0_whyNotIron 13 = .ok (.astore 4, 2) := dk_58 4 (dk_at dksX0_whyNotIron_0 13 rfl rfl)
theorem dX0_whyNotIron_15 : decode cX0_whyNotIron 15 = .ok (.iconst 1, 1) := dk_4 (dk_at dksX0_whyNotIron_0 15 rfl rfl)
theorem dX0_whyNotIron_16 : decode cX0_whyNotIron 16 = .ok (.ireturn, 1) := dk_172 (dk_at dksX0_whyNotIron_0 16 rfl rfl)
theorem dX0_whyNotIron_17 : decode cX0_whyNotIron 17 = .ok (.astore 4, 2) := dk_58 4 (dk_at dksX0_whyNotIron_0 17 rfl rfl)
theorem dX0_whyNotIron_19 : decode cX0_whyNotIron 19 = .ok (.iconst 2, 1) := dk_5 (dk_at dksX0_whyNotIron_0 19 rfl rfl)
theorem dX0_whyNotIron_20 : decode cX0_whyNotIron 20 = .ok (.ireturn, 1) := dk_172 (dk_at dksX0_whyNotIron_0 20 rfl rfl)
theorem dX0_whyNotIron_21 : decode cX0_whyNotIron 21 = .ok (.astore 4, 2) := dk_58 4 (dk_at dksX0_whyNotIron_0 21 rfl rfl)
theorem dX0_whyNotIron_23 : decode cX0_whyNotIron 23 = .ok (.iconst 3, 1) := dk_6 (dk_at dksX0_whyNotIron_0 23 rfl rfl)
theorem dX0_whyNotIron_24 : decode cX0_whyNotIron 24 = .ok (.ireturn, 1) := dk_172 (dk_at dksX0_whyNotIron_1 0 rfl rfl)
theorem dX0_whyNotIron_25 : decode cX0_whyNotIron 25 = .ok (.iconst 0, 1) := dk_3 (dk_at dksX0_whyNotIron_1 1 rfl rfl)
theorem dX0_whyNotIron_26 : decode cX0_whyNotIron 26 = .ok (.ireturn, 1) := dk_172 (dk_at dksX0_whyNotIron_1 2 rfl rfl)
abbrev cX0_whyNotBleach : ByteArray := method_20_code
def yX0_whyNotBleach : MethodName := ⟨RX0, "whyNotBleach", "(LFlagLaundry;I[J)I"⟩
def dkwX0_whyNotBleach_0 : List UInt8 := [44, 3, 42, 27, 182, 0, 69, 133, 80, 167, 0, 9, 78, 4, 172, 78, 5, 172, 3, 172]
abbrev dktX0_whyNotBleach_0 : List UInt8 := dkwX0_whyNotBleach_0 ++ []
theorem dksX0_whyNotBleach_0 : cX0_whyNotBleach.data.toList.drop 0 = dktX0_whyNotBleach_0 := by decide +kernel
theorem dX0_whyNotBleach_0 : decode cX0_whyNotBleach 0 = .ok (.aload_n 2, 1) := dk_44 (dk_at dksX0_whyNotBleach_0 0 rfl rfl)
theorem dX0_whyNotBleach_1 : decode cX0_whyNotBleach 1 = .ok (.iconst 0, 1) := dk_3 (dk_at dksX0_whyNotBleach_0 1 rfl rfl)
theorem dX0_whyNotBleach_2 : decode cX0_whyNotBleach 2 = .ok (.aload_n 0, 1) := dk_42 (dk_at dksX0_whyNotBleach_0 2 rfl rfl)
theorem dX0_whyNotBleach_3 : decode cX0_whyNotBleach 3 = .ok (.iload_n 1, 1) := dk_27 (dk_at dksX0_whyNotBleach_0 3 rfl rfl)
theorem dX0_whyNotBleach_4 : decode cX0_whyNotBleach 4 = .ok (.invokevirtual 69, 3) := dk_182 0 69 (dk_at dksX0_whyNotBleach_0 4 rfl rfl)
theorem dX0_whyNotBleach_7 : decode cX0_whyNotBleach 7 = .ok (.i2l, 1) := dk_133 (dk_at dksX0_whyNotBleach_0 7 rfl rfl)
theorem dX0_whyNotBleach_8 : decode cX0_whyNotBleach 8 = .ok (.lastore, 1) := dk_80 (dk_at dksX0_whyNotBleach_0 8 rfl rfl)
theorem dX0_whyNotBleach_9 : decode cX0_whyNotBleach 9 = .ok (.goto 9, 3) := dk_167 0 9 (dk_at dksX0_whyNotBleach_0 9 rfl rfl)
theorem dX0_whyNotBleach_12 : decode cX0_whyNotBleach 12 = .ok (.astore_n 3, 1) := dk_78 (dk_at dksX0_whyNotBleach_0 12 rfl rfl)
theorem dX0_whyNotBleach_13 : decode cX0_whyNotBleach 13 = .ok (.iconst 1, 1) := dk_4 (dk_at dksX0_whyNotBleach_0 13 rfl rfl)
theorem dX0_whyNotBleach_14 : decode cX0_whyNotBleach 14 = .ok (.ireturn, 1) := dk_172 (dk_at dksX0_whyNotBleach_0 14 rfl rfl)
theorem dX0_whyNotBleach_15 : decode cX0_whyNotBleach 15 = .ok (.astore_n 3, 1) := dk_78 (dk_at dksX0_whyNotBleach_0 15 rfl rfl)
theorem dX0_whyNotBleach_16 : decode cX0_whyNotBleach 16 = .ok (.iconst 2, 1) := dk_5 (dk_at dksX0_whyNotBleach_0 16 rfl rfl)
theorem dX0_whyNotBleach_17 : decode cX0_whyNotBleach 17 = .ok (.ireturn, 1) := dk_172 (dk_at dksX0_whyNotBleach_0 17 rfl rfl)
theorem dX0_whyNotBleach_18 : decode cX0_whyNotBleach 18 = .ok (.iconst 0, 1) := dk_3 (dk_at dksX0_whyNotBleach_0 18 rfl rfl)
theorem dX0_whyNotBleach_19 : decode cX0_whyNotBleach 19 = .ok (.ireturn, 1) := dk_172 (dk_at dksX0_whyNotBleach_0 19 rfl rfl)
abbrev cX0_running : ByteArray := method_21_code
def yX0_running : MethodName := ⟨RX0, "running", "(LFlagLaundry;II[J)I"⟩
def dkwX0_running_1 : List UInt8 := [172, 3, 172]
abbrev dktX0_running_1 : List UInt8 := dkwX0_running_1 ++ []
def dkwX0_running_0 : List UInt8 := [45, 3, 42, 27, 28, 182, 0, 72, 133, 80, 167, 0, 15, 58, 4, 4, 172, 58, 4, 5, 172, 58, 4, 6]
abbrev dktX0_running_0 : List UInt8 := dkwX0_running_0 ++ dktX0_running_1
theorem dksX0_running_0 : cX0_running.data.toList.drop 0 = dktX0_running_0 := by decide +kernel
theorem dksX0_running_1 : cX0_running.data.toList.drop 24 = dktX0_running_1 := dk_seg dksX0_running_0 24 rfl rfl
theorem dX0_running_0 : decode cX0_running 0 = .ok (.aload_n 3, 1) := dk_45 (dk_at dksX0_running_0 0 rfl rfl)
theorem dX0_running_1 : decode cX0_running 1 = .ok (.iconst 0, 1) := dk_3 (dk_at dksX0_running_0 1 rfl rfl)
theorem dX0_running_2 : decode cX0_running 2 = .ok (.aload_n 0, 1) := dk_42 (dk_at dksX0_running_0 2 rfl rfl)
theorem dX0_running_3 : decode cX0_running 3 = .ok (.iload_n 1, 1) := dk_27 (dk_at dksX0_running_0 3 rfl rfl)
theorem dX0_running_4 : decode cX0_running 4 = .ok (.iload_n 2, 1) := dk_28 (dk_at dksX0_running_0 4 rfl rfl)
theorem dX0_running_5 : decode cX0_running 5 = .ok (.invokevirtual 72, 3) := dk_182 0 72 (dk_at dksX0_running_0 5 rfl rfl)
theorem dX0_running_8 : decode cX0_running 8 = .ok (.i2l, 1) := dk_133 (dk_at dksX0_running_0 8 rfl rfl)
theorem dX0_running_9 : decode cX0_running 9 = .ok (.lastore, 1) := dk_80 (dk_at dksX0_running_0 9 rfl rfl)
theorem dX0_running_10 : decode cX0_running 10 = .ok (.goto 15, 3) := dk_167 0 15 (dk_at dksX0_running_0 10 rfl rfl)
theorem dX0_running_13 : decode cX0_running 13 = .ok (.astore 4, 2) := dk_58 4 (dk_at dksX0_running_0 13 rfl rfl)
theorem dX0_running_15 : decode cX0_running 15 = .ok (.iconst 1, 1) := dk_4 (dk_at dksX0_running_0 15 rfl rfl)
theorem dX0_running_16 : decode cX0_running 16 = .ok (.ireturn, 1) := dk_172 (dk_at dksX0_running_0 16 rfl rfl)
theorem dX0_running_17 : decode cX0_running 17 = .ok (.astore 4, 2) := dk_58 4 (dk_at dksX0_running_0 17 rfl rfl)
theorem dX0_running_19 : decode cX0_running 19 = .ok (.iconst 2, 1) := dk_5 (dk_at dksX0_running_0 19 rfl rfl)
theorem dX0_running_20 : decode cX0_running 20 = .ok (.ireturn, 1) := dk_172 (dk_at dksX0_running_0 20 rfl rfl)
theorem dX0_running_21 : decode cX0_running 21 = .ok (.astore 4, 2) := dk_58 4 (dk_at dksX0_running_0 21 rfl rfl)
theorem dX0_running_23 : decode cX0_running 23 = .ok (.iconst 3, 1) := dk_6 (dk_at dksX0_running_0 23 rfl rfl)
theorem dX0_running_24 : decode cX0_running 24 = .ok (.ireturn, 1) := dk_172 (dk_at dksX0_running_1 0 rfl rfl)
theorem dX0_running_25 : decode cX0_running 25 = .ok (.iconst 0, 1) := dk_3 (dk_at dksX0_running_1 1 rfl rfl)
theorem dX0_running_26 : decode cX0_running 26 = .ok (.ireturn, 1) := dk_172 (dk_at dksX0_running_1 2 rfl rfl)
abbrev cX0_stainedIf : ByteArray := method_22_code
def yX0_stainedIf : MethodName := ⟨RX0, "stainedIf", "(LFlagLaundry;II[J)I"⟩
def dkwX0_stainedIf_1 : List UInt8 := [172, 3, 172]
abbrev dktX0_stainedIf_1 : List UInt8 := dkwX0_stainedIf_1 ++ []
def dkwX0_stainedIf_0 : List UInt8 := [45, 3, 42, 27, 28, 182, 0, 75, 133, 80, 167, 0, 15, 58, 4, 4, 172, 58, 4, 5, 172, 58, 4, 6]
abbrev dktX0_stainedIf_0 : List UInt8 := dkwX0_stainedIf_0 ++ dktX0_stainedIf_1
theorem dksX0_stainedIf_0 : cX0_stainedIf.data.toList.drop 0 = dktX0_stainedIf_0 := by decide +kernel
theorem dksX0_stainedIf_1 : cX0_stainedIf.data.toList.drop 24 = dktX0_stainedIf_1 := dk_seg dksX0_stainedIf_0 24 rfl rfl
theorem dX0_stainedIf_0 : decode cX0_stainedIf 0 = .ok (.aload_n 3, 1) := dk_45 (dk_at dksX0_stainedIf_0 0 rfl rfl)
theorem dX0_stainedIf_1 : decode cX0_stainedIf 1 = .ok (.iconst 0, 1) := dk_3 (dk_at dksX0_stainedIf_0 1 rfl rfl)
theorem dX0_stainedIf_2 : decode cX0_stainedIf 2 = .ok (.aload_n 0, 1) := dk_42 (dk_at dksX0_stainedIf_0 2 rfl rfl)
theorem dX0_stainedIf_3 : decode cX0_stainedIf 3 = .ok (.iload_n 1, 1) := dk_27 (dk_at dksX0_stainedIf_0 3 rfl rfl)
theorem dX0_stainedIf_4 : decode cX0_stainedIf 4 = .ok (.iload_n 2, 1) := dk_28 (dk_at dksX0_stainedIf_0 4 rfl rfl)
theorem dX0_stainedIf_5 : decode cX0_stainedIf 5 = .ok (.invokevirtual 75, 3) := dk_182 0 75 (dk_at dksX0_stainedIf_0 5 rfl rfl)
theorem dX0_stainedIf_8 : decode cX0_stainedIf 8 = .ok (.i2l, 1) := dk_133 (dk_at dksX0_stainedIf_0 8 rfl rfl)
theorem dX0_stainedIf_9 : decode cX0_stainedIf 9 = .ok (.lastore, 1) := dk_80 (dk_at dksX0_stainedIf_0 9 rfl rfl)
theorem dX0_stainedIf_10 : decode cX0_stainedIf 10 = .ok (.goto 15, 3) := dk_167 0 15 (dk_at dksX0_stainedIf_0 10 rfl rfl)
theorem dX0_stainedIf_13 : decode cX0_stainedIf 13 = .ok (.astore 4, 2) := dk_58 4 (dk_at dksX0_stainedIf_0 13 rfl rfl)
theorem dX0_stainedIf_15 : decode cX0_stainedIf 15 = .ok (.iconst 1, 1) := dk_4 (dk_at dksX0_stainedIf_0 15 rfl rfl)
theorem dX0_stainedIf_16 : decode cX0_stainedIf 16 = .ok (.ireturn, 1) := dk_172 (dk_at dksX0_stainedIf_0 16 rfl rfl)
theorem dX0_stainedIf_17 : decode cX0_stainedIf 17 = .ok (.astore 4, 2) := dk_58 4 (dk_at dksX0_stainedIf_0 17 rfl rfl)
theorem dX0_stainedIf_19 : decode cX0_stainedIf 19 = .ok (.iconst 2, 1) := dk_5 (dk_at dksX0_stainedIf_0 19 rfl rfl)
theorem dX0_stainedIf_20 : decode cX0_stainedIf 20 = .ok (.ireturn, 1) := dk_172 (dk_at dksX0_stainedIf_0 20 rfl rfl)
theorem dX0_stainedIf_21 : decode cX0_stainedIf 21 = .ok (.astore 4, 2) := dk_58 4 (dk_at dksX0_stainedIf_0 21 rfl rfl)
theorem dX0_stainedIf_23 : decode cX0_stainedIf 23 = .ok (.iconst 3, 1) := dk_6 (dk_at dksX0_stainedIf_0 23 rfl rfl)
theorem dX0_stainedIf_24 : decode cX0_stainedIf 24 = .ok (.ireturn, 1) := dk_172 (dk_at dksX0_stainedIf_1 0 rfl rfl)
theorem dX0_stainedIf_25 : decode cX0_stainedIf 25 = .ok (.iconst 0, 1) := dk_3 (dk_at dksX0_stainedIf_1 1 rfl rfl)
theorem dX0_stainedIf_26 : decode cX0_stainedIf 26 = .ok (.ireturn, 1) := dk_172 (dk_at dksX0_stainedIf_1 2 rfl rfl)
abbrev cX0_dirtIf : ByteArray := method_23_code
def yX0_dirtIf : MethodName := ⟨RX0, "dirtIf", "(LFlagLaundry;II[J)I"⟩
def dkwX0_dirtIf_1 : List UInt8 := [172, 3, 172]
abbrev dktX0_dirtIf_1 : List UInt8 := dkwX0_dirtIf_1 ++ []
def dkwX0_dirtIf_0 : List UInt8 := [45, 3, 42, 27, 28, 182, 0, 78, 133, 80, 167, 0, 15, 58, 4, 4, 172, 58, 4, 5, 172, 58, 4, 6]
abbrev dktX0_dirtIf_0 : List UInt8 := dkwX0_dirtIf_0 ++ dktX0_dirtIf_1
theorem dksX0_dirtIf_0 : cX0_dirtIf.data.toList.drop 0 = dktX0_dirtIf_0 := by decide +kernel
theorem dksX0_dirtIf_1 : cX0_dirtIf.data.toList.drop 24 = dktX0_dirtIf_1 := dk_seg dksX0_dirtIf_0 24 rfl rfl
theorem dX0_dirtIf_0 : decode cX0_dirtIf 0 = .ok (.aload_n 3, 1) := dk_45 (dk_at dksX0_dirtIf_0 0 rfl rfl)
theorem dX0_dirtIf_1 : decode cX0_dirtIf 1 = .ok (.iconst 0, 1) := dk_3 (dk_at dksX0_dirtIf_0 1 rfl rfl)
theorem dX0_dirtIf_2 : decode cX0_dirtIf 2 = .ok (.aload_n 0, 1) := dk_42 (dk_at dksX0_dirtIf_0 2 rfl rfl)
theorem dX0_dirtIf_3 : decode cX0_dirtIf 3 = .ok (.iload_n 1, 1) := dk_27 (dk_at dksX0_dirtIf_0 3 rfl rfl)
theorem dX0_dirtIf_4 : decode cX0_dirtIf 4 = .ok (.iload_n 2, 1) := dk_28 (dk_at dksX0_dirtIf_0 4 rfl rfl)
theorem dX0_dirtIf_5 : decode cX0_dirtIf 5 = .ok (.invokevirtual 78, 3) := dk_182 0 78 (dk_at dksX0_dirtIf_0 5 rfl rfl)
theorem dX0_dirtIf_8 : decode cX0_dirtIf 8 = .ok (.i2l, 1) := dk_133 (dk_at dksX0_dirtIf_0 8 rfl rfl)
theorem dX0_dirtIf_9 : decode cX0_dirtIf 9 = .ok (.lastore, 1) := dk_80 (dk_at dksX0_dirtIf_0 9 rfl rfl)
theorem dX0_dirtIf_10 : decode cX0_dirtIf 10 = .ok (.goto 15, 3) := dk_167 0 15 (dk_at dksX0_dirtIf_0 10 rfl rfl)
theorem dX0_dirtIf_13 : decode cX0_dirtIf 13 = .ok (.astore 4, 2) := dk_58 4 (dk_at dksX0_dirtIf_0 13 rfl rfl)
theorem dX0_dirtIf_15 : decode cX0_dirtIf 15 = .ok (.iconst 1, 1) := dk_4 (dk_at dksX0_dirtIf_0 15 rfl rfl)
theorem dX0_dirtIf_16 : decode cX0_dirtIf 16 = .ok (.ireturn, 1) := dk_172 (dk_at dksX0_dirtIf_0 16 rfl rfl)
theorem dX0_dirtIf_17 : decode cX0_dirtIf 17 = .ok (.astore 4, 2) := dk_58 4 (dk_at dksX0_dirtIf_0 17 rfl rfl)
theorem dX0_dirtIf_19 : decode cX0_dirtIf 19 = .ok (.iconst 2, 1) := dk_5 (dk_at dksX0_dirtIf_0 19 rfl rfl)
theorem dX0_dirtIf_20 : decode cX0_dirtIf 20 = .ok (.ireturn, 1) := dk_172 (dk_at dksX0_dirtIf_0 20 rfl rfl)
theorem dX0_dirtIf_21 : decode cX0_dirtIf 21 = .ok (.astore 4, 2) := dk_58 4 (dk_at dksX0_dirtIf_0 21 rfl rfl)
theorem dX0_dirtIf_23 : decode cX0_dirtIf 23 = .ok (.iconst 3, 1) := dk_6 (dk_at dksX0_dirtIf_0 23 rfl rfl)
theorem dX0_dirtIf_24 : decode cX0_dirtIf 24 = .ok (.ireturn, 1) := dk_172 (dk_at dksX0_dirtIf_1 0 rfl rfl)
theorem dX0_dirtIf_25 : decode cX0_dirtIf 25 = .ok (.iconst 0, 1) := dk_3 (dk_at dksX0_dirtIf_1 1 rfl rfl)
theorem dX0_dirtIf_26 : decode cX0_dirtIf 26 = .ok (.ireturn, 1) := dk_172 (dk_at dksX0_dirtIf_1 2 rfl rfl)
abbrev cX0_bestHeat : ByteArray := method_24_code
def yX0_bestHeat : MethodName := ⟨RX0, "bestHeat", "(LFlagLaundry;I[J)I"⟩
def dkwX0_bestHeat_0 : List UInt8 := [44, 3, 42, 27, 182, 0, 81, 133, 80, 167, 0, 9, 78, 4, 172, 78, 5, 172, 3, 172]
abbrev dktX0_bestHeat_0 : List UInt8 := dkwX0_bestHeat_0 ++ []
theorem dksX0_bestHeat_0 : cX0_bestHeat.data.toList.drop 0 = dktX0_bestHeat_0 := by decide +kernel
theorem dX0_bestHeat_0 : decode cX0_bestHeat 0 = .ok (.aload_n 2, 1) := dk_44 (dk_at dksX0_bestHeat_0 0 rfl rfl)
theorem dX0_bestHeat_1 : decode cX0_bestHeat 1 = .ok (.iconst 0, 1) := dk_3 (dk_at dksX0_bestHeat_0 1 rfl rfl)
theorem dX0_bestHeat_2 : decode cX0_bestHeat 2 = .ok (.aload_n 0, 1) := dk_42 (dk_at dksX0_bestHeat_0 2 rfl rfl)
theorem dX0_bestHeat_3 : decode cX0_bestHeat 3 = .ok (.iload_n 1, 1) := dk_27 (dk_at dksX0_bestHeat_0 3 rfl rfl)
theorem dX0_bestHeat_4 : decode cX0_bestHeat 4 = .ok (.invokevirtual 81, 3) := dk_182 0 81 (dk_at dksX0_bestHeat_0 4 rfl rfl)
theorem dX0_bestHeat_7 : decode cX0_bestHeat 7 = .ok (.i2l, 1) := dk_133 (dk_at dksX0_bestHeat_0 7 rfl rfl)
theorem dX0_bestHeat_8 : decode cX0_bestHeat 8 = .ok (.lastore, 1) := dk_80 (dk_at dksX0_bestHeat_0 8 rfl rfl)
theorem dX0_bestHeat_9 : decode cX0_bestHeat 9 = .ok (.goto 9, 3) := dk_167 0 9 (dk_at dksX0_bestHeat_0 9 rfl rfl)
theorem dX0_bestHeat_12 : decode cX0_bestHeat 12 = .ok (.astore_n 3, 1) := dk_78 (dk_at dksX0_bestHeat_0 12 rfl rfl)
theorem dX0_bestHeat_13 : decode cX0_bestHeat 13 = .ok (.iconst 1, 1) := dk_4 (dk_at dksX0_bestHeat_0 13 rfl rfl)
theorem dX0_bestHeat_14 : decode cX0_bestHeat 14 = .ok (.ireturn, 1) := dk_172 (dk_at dksX0_bestHeat_0 14 rfl rfl)
theorem dX0_bestHeat_15 : decode cX0_bestHeat 15 = .ok (.astore_n 3, 1) := dk_78 (dk_at dksX0_bestHeat_0 15 rfl rfl)
theorem dX0_bestHeat_16 : decode cX0_bestHeat 16 = .ok (.iconst 2, 1) := dk_5 (dk_at dksX0_bestHeat_0 16 rfl rfl)
theorem dX0_bestHeat_17 : decode cX0_bestHeat 17 = .ok (.ireturn, 1) := dk_172 (dk_at dksX0_bestHeat_0 17 rfl rfl)
theorem dX0_bestHeat_18 : decode cX0_bestHeat 18 = .ok (.iconst 0, 1) := dk_3 (dk_at dksX0_bestHeat_0 18 rfl rfl)
theorem dX0_bestHeat_19 : decode cX0_bestHeat 19 = .ok (.ireturn, 1) := dk_172 (dk_at dksX0_bestHeat_0 19 rfl rfl)
abbrev cX0_firstSafe : ByteArray := method_25_code
def yX0_firstSafe : MethodName := ⟨RX0, "firstSafe", "(LFlagLaundry;II[J)I"⟩
def dkwX0_firstSafe_1 : List UInt8 := [172, 3, 172]
abbrev dktX0_firstSafe_1 : List UInt8 := dkwX0_firstSafe_1 ++ []
def dkwX0_firstSafe_0 : List UInt8 := [45, 3, 42, 27, 28, 182, 0, 84, 133, 80, 167, 0, 15, 58, 4, 4, 172, 58, 4, 5, 172, 58, 4, 6]
abbrev dktX0_firstSafe_0 : List UInt8 := dkwX0_firstSafe_0 ++ dktX0_firstSafe_1
theorem dksX0_firstSafe_0 : cX0_firstSafe.data.toList.drop 0 = dktX0_firstSafe_0 := by decide +kernel
theorem dksX0_firstSafe_1 : cX0_firstSafe.data.toList.drop 24 = dktX0_firstSafe_1 := dk_seg dksX0_firstSafe_0 24 rfl rfl
theorem dX0_firstSafe_0 : decode cX0_firstSafe 0 = .ok (.aload_n 3, 1) := dk_45 (dk_at dksX0_firstSafe_0 0 rfl rfl)
theorem dX0_firstSafe_1 : decode cX0_firstSafe 1 = .ok (.iconst 0, 1) := dk_3 (dk_at dksX0_firstSafe_0 1 rfl rfl)
theorem dX0_firstSafe_2 : decode cX0_firstSafe 2 = .ok (.aload_n 0, 1) := dk_42 (dk_at dksX0_firstSafe_0 2 rfl rfl)
theorem dX0_firstSafe_3 : decode cX0_firstSafe 3 = .ok (.iload_n 1, 1) := dk_27 (dk_at dksX0_firstSafe_0 3 rfl rfl)
theorem dX0_firstSafe_4 : decode cX0_firstSafe 4 = .ok (.iload_n 2, 1) := dk_28 (dk_at dksX0_firstSafe_0 4 rfl rfl)
theorem dX0_firstSafe_5 : decode cX0_firstSafe 5 = .ok (.invokevirtual 84, 3) := dk_182 0 84 (dk_at dksX0_firstSafe_0 5 rfl rfl)
theorem dX0_firstSafe_8 : decode cX0_firstSafe 8 = .ok (.i2l, 1) := dk_133 (dk_at dksX0_firstSafe_0 8 rfl rfl)
theorem dX0_firstSafe_9 : decode cX0_firstSafe 9 = .ok (.lastore, 1) := dk_80 (dk_at dksX0_firstSafe_0 9 rfl rfl)
theorem dX0_firstSafe_10 : decode cX0_firstSafe 10 = .ok (.goto 15, 3) := dk_167 0 15 (dk_at dksX0_firstSafe_0 10 rfl rfl)
theorem dX0_firstSafe_13 : decode cX0_firstSafe 13 = .ok (.astore 4, 2) := dk_58 4 (dk_at dksX0_firstSafe_0 13 rfl rfl)
theorem dX0_firstSafe_15 : decode cX0_firstSafe 15 = .ok (.iconst 1, 1) := dk_4 (dk_at dksX0_firstSafe_0 15 rfl rfl)
theorem dX0_firstSafe_16 : decode cX0_firstSafe 16 = .ok (.ireturn, 1) := dk_172 (dk_at dksX0_firstSafe_0 16 rfl rfl)
theorem dX0_firstSafe_17 : decode cX0_firstSafe 17 = .ok (.astore 4, 2) := dk_58 4 (dk_at dksX0_firstSafe_0 17 rfl rfl)
theorem dX0_firstSafe_19 : decode cX0_firstSafe 19 = .ok (.iconst 2, 1) := dk_5 (dk_at dksX0_firstSafe_0 19 rfl rfl)
theorem dX0_firstSafe_20 : decode cX0_firstSafe 20 = .ok (.ireturn, 1) := dk_172 (dk_at dksX0_firstSafe_0 20 rfl rfl)
theorem dX0_firstSafe_21 : decode cX0_firstSafe 21 = .ok (.astore 4, 2) := dk_58 4 (dk_at dksX0_firstSafe_0 21 rfl rfl)
theorem dX0_firstSafe_23 : decode cX0_firstSafe 23 = .ok (.iconst 3, 1) := dk_6 (dk_at dksX0_firstSafe_0 23 rfl rfl)
theorem dX0_firstSafe_24 : decode cX0_firstSafe 24 = .ok (.ireturn, 1) := dk_172 (dk_at dksX0_firstSafe_1 0 rfl rfl)
theorem dX0_firstSafe_25 : decode cX0_firstSafe 25 = .ok (.iconst 0, 1) := dk_3 (dk_at dksX0_firstSafe_1 1 rfl rfl)
theorem dX0_firstSafe_26 : decode cX0_firstSafe 26 = .ok (.ireturn, 1) := dk_172 (dk_at dksX0_firstSafe_1 2 rfl rfl)
abbrev cX0_doNotMix : ByteArray := method_26_code
def yX0_doNotMix : MethodName := ⟨RX0, "doNotMix", "(LFlagLaundry;III[J)I"⟩
def dkwX0_doNotMix_1 : List UInt8 := [58, 5, 6, 172, 3, 172]
abbrev dktX0_doNotMix_1 : List UInt8 := dkwX0_doNotMix_1 ++ []
def dkwX0_doNotMix_0 : List UInt8 := [25, 4, 3, 42, 27, 28, 29, 182, 0, 87, 133, 80, 167, 0, 15, 58, 5, 4, 172, 58, 5, 5, 172]
abbrev dktX0_doNotMix_0 : List UInt8 := dkwX0_doNotMix_0 ++ dktX0_doNotMix_1
theorem dksX0_doNotMix_0 : cX0_doNotMix.data.toList.drop 0 = dktX0_doNotMix_0 := by decide +kernel
theorem dksX0_doNotMix_1 : cX0_doNotMix.data.toList.drop 23 = dktX0_doNotMix_1 := dk_seg dksX0_doNotMix_0 23 rfl rfl
theorem dX0_doNotMix_0 : decode cX0_doNotMix 0 = .ok (.aload 4, 2) := dk_25 4 (dk_at dksX0_doNotMix_0 0 rfl rfl)
theorem dX0_doNotMix_2 : decode cX0_doNotMix 2 = .ok (.iconst 0, 1) := dk_3 (dk_at dksX0_doNotMix_0 2 rfl rfl)
theorem dX0_doNotMix_3 : decode cX0_doNotMix 3 = .ok (.aload_n 0, 1) := dk_42 (dk_at dksX0_doNotMix_0 3 rfl rfl)
theorem dX0_doNotMix_4 : decode cX0_doNotMix 4 = .ok (.iload_n 1, 1) := dk_27 (dk_at dksX0_doNotMix_0 4 rfl rfl)
theorem dX0_doNotMix_5 : decode cX0_doNotMix 5 = .ok (.iload_n 2, 1) := dk_28 (dk_at dksX0_doNotMix_0 5 rfl rfl)
theorem dX0_doNotMix_6 : decode cX0_doNotMix 6 = .ok (.iload_n 3, 1) := dk_29 (dk_at dksX0_doNotMix_0 6 rfl rfl)
theorem dX0_doNotMix_7 : decode cX0_doNotMix 7 = .ok (.invokevirtual 87, 3) := dk_182 0 87 (dk_at dksX0_doNotMix_0 7 rfl rfl)
theorem dX0_doNotMix_10 : decode cX0_doNotMix 10 = .ok (.i2l, 1) := dk_133 (dk_at dksX0_doNotMix_0 10 rfl rfl)
theorem dX0_doNotMix_11 : decode cX0_doNotMix 11 = .ok (.lastore, 1) := dk_80 (dk_at dksX0_doNotMix_0 11 rfl rfl)
theorem dX0_doNotMix_12 : decode cX0_doNotMix 12 = .ok (.goto 15, 3) := dk_167 0 15 (dk_at dksX0_doNotMix_0 12 rfl rfl)
theorem dX0_doNotMix_15 : decode cX0_doNotMix 15 = .ok (.astore 5, 2) := dk_58 5 (dk_at dksX0_doNotMix_0 15 rfl rfl)
theorem dX0_doNotMix_17 : decode cX0_doNotMix 17 = .ok (.iconst 1, 1) := dk_4 (dk_at dksX0_doNotMix_0 17 rfl rfl)
theorem dX0_doNotMix_18 : decode cX0_doNotMix 18 = .ok (.ireturn, 1) := dk_172 (dk_at dksX0_doNotMix_0 18 rfl rfl)
theorem dX0_doNotMix_19 : decode cX0_doNotMix 19 = .ok (.astore 5, 2) := dk_58 5 (dk_at dksX0_doNotMix_0 19 rfl rfl)
theorem dX0_doNotMix_21 : decode cX0_doNotMix 21 = .ok (.iconst 2, 1) := dk_5 (dk_at dksX0_doNotMix_0 21 rfl rfl)
theorem dX0_doNotMix_22 : decode cX0_doNotMix 22 = .ok (.ireturn, 1) := dk_172 (dk_at dksX0_doNotMix_0 22 rfl rfl)
theorem dX0_doNotMix_23 : decode cX0_doNotMix 23 = .ok (.astore 5, 2) := dk_58 5 (dk_at dksX0_doNotMix_1 0 rfl rfl)
theorem dX0_doNotMix_25 : decode cX0_doNotMix 25 = .ok (.iconst 3, 1) := dk_6 (dk_at dksX0_doNotMix_1 2 rfl rfl)
theorem dX0_doNotMix_26 : decode cX0_doNotMix 26 = .ok (.ireturn, 1) := dk_172 (dk_at dksX0_doNotMix_1 3 rfl rfl)
theorem dX0_doNotMix_27 : decode cX0_doNotMix 27 = .ok (.iconst 0, 1) := dk_3 (dk_at dksX0_doNotMix_1 4 rfl rfl)
theorem dX0_doNotMix_28 : decode cX0_doNotMix 28 = .ok (.ireturn, 1) := dk_172 (dk_at dksX0_doNotMix_1 5 rfl rfl)
abbrev cX0_groups : ByteArray := method_27_code
def yX0_groups : MethodName := ⟨RX0, "groups", "(LFlagLaundry;I[J)I"⟩
def dkwX0_groups_0 : List UInt8 := [44, 3, 42, 27, 182, 0, 91, 133, 80, 167, 0, 9, 78, 4, 172, 78, 5, 172, 3, 172]
abbrev dktX0_groups_0 : List UInt8 := dkwX0_groups_0 ++ []
theorem dksX0_groups_0 : cX0_groups.data.toList.drop 0 = dktX0_groups_0 := by decide +kernel
theorem dX0_groups_0 : decode cX0_groups 0 = .ok (.aload_n 2, 1) := dk_44 (dk_at dksX0_groups_0 0 rfl rfl)
theorem dX0_groups_1 : decode cX0_groups 1 = .ok (.iconst 0, 1) := dk_3 (dk_at dksX0_groups_0 1 rfl rfl)
theorem dX0_groups_2 : decode cX0_groups 2 = .ok (.aload_n 0, 1) := dk_42 (dk_at dksX0_groups_0 2 rfl rfl)
theorem dX0_groups_3 : decode cX0_groups 3 = .ok (.iload_n 1, 1) := dk_27 (dk_at dksX0_groups_0 3 rfl rfl)
theorem dX0_groups_4 : decode cX0_groups 4 = .ok (.invokevirtual 91, 3) := dk_182 0 91 (dk_at dksX0_groups_0 4 rfl rfl)
theorem dX0_groups_7 : decode cX0_groups 7 = .ok (.i2l, 1) := dk_133 (dk_at dksX0_groups_0 7 rfl rfl)
theorem dX0_groups_8 : decode cX0_groups 8 = .ok (.lastore, 1) := dk_80 (dk_at dksX0_groups_0 8 rfl rfl)
theorem dX0_groups_9 : decode cX0_groups 9 = .ok (.goto 9, 3) := dk_167 0 9 (dk_at dksX0_groups_0 9 rfl rfl)
theorem dX0_groups_12 : decode cX0_groups 12 = .ok (.astore_n 3, 1) := dk_78 (dk_at dksX0_groups_0 12 rfl rfl)
theorem dX0_groups_13 : decode cX0_groups 13 = .ok (.iconst 1, 1) := dk_4 (dk_at dksX0_groups_0 13 rfl rfl)
theorem dX0_groups_14 : decode cX0_groups 14 = .ok (.ireturn, 1) := dk_172 (dk_at dksX0_groups_0 14 rfl rfl)
theorem dX0_groups_15 : decode cX0_groups 15 = .ok (.astore_n 3, 1) := dk_78 (dk_at dksX0_groups_0 15 rfl rfl)
theorem dX0_groups_16 : decode cX0_groups 16 = .ok (.iconst 2, 1) := dk_5 (dk_at dksX0_groups_0 16 rfl rfl)
theorem dX0_groups_17 : decode cX0_groups 17 = .ok (.ireturn, 1) := dk_172 (dk_at dksX0_groups_0 17 rfl rfl)
theorem dX0_groups_18 : decode cX0_groups 18 = .ok (.iconst 0, 1) := dk_3 (dk_at dksX0_groups_0 18 rfl rfl)
theorem dX0_groups_19 : decode cX0_groups 19 = .ok (.ireturn, 1) := dk_172 (dk_at dksX0_groups_0 19 rfl rfl)
abbrev cX0_purest : ByteArray := method_28_code
def yX0_purest : MethodName := ⟨RX0, "purest", "(LFlagLaundry;I[J)I"⟩
def dkwX0_purest_0 : List UInt8 := [44, 3, 42, 27, 182, 0, 94, 133, 80, 167, 0, 9, 78, 4, 172, 78, 5, 172, 3, 172]
abbrev dktX0_purest_0 : List UInt8 := dkwX0_purest_0 ++ []
theorem dksX0_purest_0 : cX0_purest.data.toList.drop 0 = dktX0_purest_0 := by decide +kernel
theorem dX0_purest_0 : decode cX0_purest 0 = .ok (.aload_n 2, 1) := dk_44 (dk_at dksX0_purest_0 0 rfl rfl)
theorem dX0_purest_1 : decode cX0_purest 1 = .ok (.iconst 0, 1) := dk_3 (dk_at dksX0_purest_0 1 rfl rfl)
theorem dX0_purest_2 : decode cX0_purest 2 = .ok (.aload_n 0, 1) := dk_42 (dk_at dksX0_purest_0 2 rfl rfl)
theorem dX0_purest_3 : decode cX0_purest 3 = .ok (.iload_n 1, 1) := dk_27 (dk_at dksX0_purest_0 3 rfl rfl)
theorem dX0_purest_4 : decode cX0_purest 4 = .ok (.invokevirtual 94, 3) := dk_182 0 94 (dk_at dksX0_purest_0 4 rfl rfl)
theorem dX0_purest_7 : decode cX0_purest 7 = .ok (.i2l, 1) := dk_133 (dk_at dksX0_purest_0 7 rfl rfl)
theorem dX0_purest_8 : decode cX0_purest 8 = .ok (.lastore, 1) := dk_80 (dk_at dksX0_purest_0 8 rfl rfl)
theorem dX0_purest_9 : decode cX0_purest 9 = .ok (.goto 9, 3) := dk_167 0 9 (dk_at dksX0_purest_0 9 rfl rfl)
theorem dX0_purest_12 : decode cX0_purest 12 = .ok (.astore_n 3, 1) := dk_78 (dk_at dksX0_purest_0 12 rfl rfl)
theorem dX0_purest_13 : decode cX0_purest 13 = .ok (.iconst 1, 1) := dk_4 (dk_at dksX0_purest_0 13 rfl rfl)
theorem dX0_purest_14 : decode cX0_purest 14 = .ok (.ireturn, 1) := dk_172 (dk_at dksX0_purest_0 14 rfl rfl)
theorem dX0_purest_15 : decode cX0_purest 15 = .ok (.astore_n 3, 1) := dk_78 (dk_at dksX0_purest_0 15 rfl rfl)
theorem dX0_purest_16 : decode cX0_purest 16 = .ok (.iconst 2, 1) := dk_5 (dk_at dksX0_purest_0 16 rfl rfl)
theorem dX0_purest_17 : decode cX0_purest 17 = .ok (.ireturn, 1) := dk_172 (dk_at dksX0_purest_0 17 rfl rfl)
theorem dX0_purest_18 : decode cX0_purest 18 = .ok (.iconst 0, 1) := dk_3 (dk_at dksX0_purest_0 18 rfl rfl)
theorem dX0_purest_19 : decode cX0_purest 19 = .ok (.ireturn, 1) := dk_172 (dk_at dksX0_purest_0 19 rfl rfl)
abbrev cX0_washesFor : ByteArray := method_29_code
def yX0_washesFor : MethodName := ⟨RX0, "washesFor", "(LFlagLaundry;I[J)I"⟩
def dkwX0_washesFor_0 : List UInt8 := [44, 3, 42, 27, 182, 0, 97, 133, 80, 167, 0, 9, 78, 4, 172, 78, 5, 172, 3, 172]
abbrev dktX0_washesFor_0 : List UInt8 := dkwX0_washesFor_0 ++ []
theorem dksX0_washesFor_0 : cX0_washesFor.data.toList.drop 0 = dktX0_washesFor_0 := by decide +kernel
theorem dX0_washesFor_0 : decode cX0_washesFor 0 = .ok (.aload_n 2, 1) := dk_44 (dk_at dksX0_washesFor_0 0 rfl rfl)
theorem dX0_washesFor_1 : decode cX0_washesFor 1 = .ok (.iconst 0, 1) := dk_3 (dk_at dksX0_washesFor_0 1 rfl rfl)
theorem dX0_washesFor_2 : decode cX0_washesFor 2 = .ok (.aload_n 0, 1) := dk_42 (dk_at dksX0_washesFor_0 2 rfl rfl)
theorem dX0_washesFor_3 : decode cX0_washesFor 3 = .ok (.iload_n 1, 1) := dk_27 (dk_at dksX0_washesFor_0 3 rfl rfl)
theorem dX0_washesFor_4 : decode cX0_washesFor 4 = .ok (.invokevirtual 97, 3) := dk_182 0 97 (dk_at dksX0_washesFor_0 4 rfl rfl)
theorem dX0_washesFor_7 : decode cX0_washesFor 7 = .ok (.i2l, 1) := dk_133 (dk_at dksX0_washesFor_0 7 rfl rfl)
theorem dX0_washesFor_8 : decode cX0_washesFor 8 = .ok (.lastore, 1) := dk_80 (dk_at dksX0_washesFor_0 8 rfl rfl)
theorem dX0_washesFor_9 : decode cX0_washesFor 9 = .ok (.goto 9, 3) := dk_167 0 9 (dk_at dksX0_washesFor_0 9 rfl rfl)
theorem dX0_washesFor_12 : decode cX0_washesFor 12 = .ok (.astore_n 3, 1) := dk_78 (dk_at dksX0_washesFor_0 12 rfl rfl)
theorem dX0_washesFor_13 : decode cX0_washesFor 13 = .ok (.iconst 1, 1) := dk_4 (dk_at dksX0_washesFor_0 13 rfl rfl)
theorem dX0_washesFor_14 : decode cX0_washesFor 14 = .ok (.ireturn, 1) := dk_172 (dk_at dksX0_washesFor_0 14 rfl rfl)
theorem dX0_washesFor_15 : decode cX0_washesFor 15 = .ok (.astore_n 3, 1) := dk_78 (dk_at dksX0_washesFor_0 15 rfl rfl)
theorem dX0_washesFor_16 : decode cX0_washesFor 16 = .ok (.iconst 2, 1) := dk_5 (dk_at dksX0_washesFor_0 16 rfl rfl)
theorem dX0_washesFor_17 : decode cX0_washesFor 17 = .ok (.ireturn, 1) := dk_172 (dk_at dksX0_washesFor_0 17 rfl rfl)
theorem dX0_washesFor_18 : decode cX0_washesFor 18 = .ok (.iconst 0, 1) := dk_3 (dk_at dksX0_washesFor_0 18 rfl rfl)
theorem dX0_washesFor_19 : decode cX0_washesFor 19 = .ok (.ireturn, 1) := dk_172 (dk_at dksX0_washesFor_0 19 rfl rfl)
abbrev cX0_dryIn : ByteArray := method_30_code
def yX0_dryIn : MethodName := ⟨RX0, "dryIn", "(LFlagLaundry;I[J)I"⟩
def dkwX0_dryIn_0 : List UInt8 := [44, 3, 42, 27, 182, 0, 100, 133, 80, 167, 0, 9, 78, 4, 172, 78, 5, 172, 3, 172]
abbrev dktX0_dryIn_0 : List UInt8 := dkwX0_dryIn_0 ++ []
theorem dksX0_dryIn_0 : cX0_dryIn.data.toList.drop 0 = dktX0_dryIn_0 := by decide +kernel
theorem dX0_dryIn_0 : decode cX0_dryIn 0 = .ok (.aload_n 2, 1) := dk_44 (dk_at dksX0_dryIn_0 0 rfl rfl)
theorem dX0_dryIn_1 : decode cX0_dryIn 1 = .ok (.iconst 0, 1) := dk_3 (dk_at dksX0_dryIn_0 1 rfl rfl)
theorem dX0_dryIn_2 : decode cX0_dryIn 2 = .ok (.aload_n 0, 1) := dk_42 (dk_at dksX0_dryIn_0 2 rfl rfl)
theorem dX0_dryIn_3 : decode cX0_dryIn 3 = .ok (.iload_n 1, 1) := dk_27 (dk_at dksX0_dryIn_0 3 rfl rfl)
theorem dX0_dryIn_4 : decode cX0_dryIn 4 = .ok (.invokevirtual 100, 3) := dk_182 0 100 (dk_at dksX0_dryIn_0 4 rfl rfl)
theorem dX0_dryIn_7 : decode cX0_dryIn 7 = .ok (.i2l, 1) := dk_133 (dk_at dksX0_dryIn_0 7 rfl rfl)
theorem dX0_dryIn_8 : decode cX0_dryIn 8 = .ok (.lastore, 1) := dk_80 (dk_at dksX0_dryIn_0 8 rfl rfl)
theorem dX0_dryIn_9 : decode cX0_dryIn 9 = .ok (.goto 9, 3) := dk_167 0 9 (dk_at dksX0_dryIn_0 9 rfl rfl)
theorem dX0_dryIn_12 : decode cX0_dryIn 12 = .ok (.astore_n 3, 1) := dk_78 (dk_at dksX0_dryIn_0 12 rfl rfl)
theorem dX0_dryIn_13 : decode cX0_dryIn 13 = .ok (.iconst 1, 1) := dk_4 (dk_at dksX0_dryIn_0 13 rfl rfl)
theorem dX0_dryIn_14 : decode cX0_dryIn 14 = .ok (.ireturn, 1) := dk_172 (dk_at dksX0_dryIn_0 14 rfl rfl)
theorem dX0_dryIn_15 : decode cX0_dryIn 15 = .ok (.astore_n 3, 1) := dk_78 (dk_at dksX0_dryIn_0 15 rfl rfl)
theorem dX0_dryIn_16 : decode cX0_dryIn 16 = .ok (.iconst 2, 1) := dk_5 (dk_at dksX0_dryIn_0 16 rfl rfl)
theorem dX0_dryIn_17 : decode cX0_dryIn 17 = .ok (.ireturn, 1) := dk_172 (dk_at dksX0_dryIn_0 17 rfl rfl)
theorem dX0_dryIn_18 : decode cX0_dryIn 18 = .ok (.iconst 0, 1) := dk_3 (dk_at dksX0_dryIn_0 18 rfl rfl)
theorem dX0_dryIn_19 : decode cX0_dryIn 19 = .ok (.ireturn, 1) := dk_172 (dk_at dksX0_dryIn_0 19 rfl rfl)
abbrev cX0_dryByWind : ByteArray := method_31_code
def yX0_dryByWind : MethodName := ⟨RX0, "dryByWind", "(LFlagLaundry;II[J)I"⟩
def dkwX0_dryByWind_1 : List UInt8 := [172, 3, 172]
abbrev dktX0_dryByWind_1 : List UInt8 := dkwX0_dryByWind_1 ++ []
def dkwX0_dryByWind_0 : List UInt8 := [45, 3, 42, 27, 28, 182, 0, 103, 133, 80, 167, 0, 15, 58, 4, 4, 172, 58, 4, 5, 172, 58, 4, 6]
abbrev dktX0_dryByWind_0 : List UInt8 := dkwX0_dryByWind_0 ++ dktX0_dryByWind_1
theorem dksX0_dryByWind_0 : cX0_dryByWind.data.toList.drop 0 = dktX0_dryByWind_0 := by decide +kernel
theorem dksX0_dryByWind_1 : cX0_dryByWind.data.toList.drop 24 = dktX0_dryByWind_1 := dk_seg dksX0_dryByWind_0 24 rfl rfl
theorem dX0_dryByWind_0 : decode cX0_dryByWind 0 = .ok (.aload_n 3, 1) := dk_45 (dk_at dksX0_dryByWind_0 0 rfl rfl)
theorem dX0_dryByWind_1 : decode cX0_dryByWind 1 = .ok (.iconst 0, 1) := dk_3 (dk_at dksX0_dryByWind_0 1 rfl rfl)
theorem dX0_dryByWind_2 : decode cX0_dryByWind 2 = .ok (.aload_n 0, 1) := dk_42 (dk_at dksX0_dryByWind_0 2 rfl rfl)
theorem dX0_dryByWind_3 : decode cX0_dryByWind 3 = .ok (.iload_n 1, 1) := dk_27 (dk_at dksX0_dryByWind_0 3 rfl rfl)
theorem dX0_dryByWind_4 : decode cX0_dryByWind 4 = .ok (.iload_n 2, 1) := dk_28 (dk_at dksX0_dryByWind_0 4 rfl rfl)
theorem dX0_dryByWind_5 : decode cX0_dryByWind 5 = .ok (.invokevirtual 103, 3) := dk_182 0 103 (dk_at dksX0_dryByWind_0 5 rfl rfl)
theorem dX0_dryByWind_8 : decode cX0_dryByWind 8 = .ok (.i2l, 1) := dk_133 (dk_at dksX0_dryByWind_0 8 rfl rfl)
theorem dX0_dryByWind_9 : decode cX0_dryByWind 9 = .ok (.lastore, 1) := dk_80 (dk_at dksX0_dryByWind_0 9 rfl rfl)
theorem dX0_dryByWind_10 : decode cX0_dryByWind 10 = .ok (.goto 15, 3) := dk_167 0 15 (dk_at dksX0_dryByWind_0 10 rfl rfl)
theorem dX0_dryByWind_13 : decode cX0_dryByWind 13 = .ok (.astore 4, 2) := dk_58 4 (dk_at dksX0_dryByWind_0 13 rfl rfl)
theorem dX0_dryByWind_15 : decode cX0_dryByWind 15 = .ok (.iconst 1, 1) := dk_4 (dk_at dksX0_dryByWind_0 15 rfl rfl)
theorem dX0_dryByWind_16 : decode cX0_dryByWind 16 = .ok (.ireturn, 1) := dk_172 (dk_at dksX0_dryByWind_0 16 rfl rfl)
theorem dX0_dryByWind_17 : decode cX0_dryByWind 17 = .ok (.astore 4, 2) := dk_58 4 (dk_at dksX0_dryByWind_0 17 rfl rfl)
theorem dX0_dryByWind_19 : decode cX0_dryByWind 19 = .ok (.iconst 2, 1) := dk_5 (dk_at dksX0_dryByWind_0 19 rfl rfl)
theorem dX0_dryByWind_20 : decode cX0_dryByWind 20 = .ok (.ireturn, 1) := dk_172 (dk_at dksX0_dryByWind_0 20 rfl rfl)
theorem dX0_dryByWind_21 : decode cX0_dryByWind 21 = .ok (.astore 4, 2) := dk_58 4 (dk_at dksX0_dryByWind_0 21 rfl rfl)
theorem dX0_dryByWind_23 : decode cX0_dryByWind 23 = .ok (.iconst 3, 1) := dk_6 (dk_at dksX0_dryByWind_0 23 rfl rfl)
theorem dX0_dryByWind_24 : decode cX0_dryByWind 24 = .ok (.ireturn, 1) := dk_172 (dk_at dksX0_dryByWind_1 0 rfl rfl)
theorem dX0_dryByWind_25 : decode cX0_dryByWind 25 = .ok (.iconst 0, 1) := dk_3 (dk_at dksX0_dryByWind_1 1 rfl rfl)
theorem dX0_dryByWind_26 : decode cX0_dryByWind 26 = .ok (.ireturn, 1) := dk_172 (dk_at dksX0_dryByWind_1 2 rfl rfl)
abbrev cX0_fallsIn : ByteArray := method_32_code
def yX0_fallsIn : MethodName := ⟨RX0, "fallsIn", "(LFlagLaundry;I[J)I"⟩
def dkwX0_fallsIn_0 : List UInt8 := [44, 3, 42, 27, 182, 0, 106, 133, 80, 167, 0, 9, 78, 4, 172, 78, 5, 172, 3, 172]
abbrev dktX0_fallsIn_0 : List UInt8 := dkwX0_fallsIn_0 ++ []
theorem dksX0_fallsIn_0 : cX0_fallsIn.data.toList.drop 0 = dktX0_fallsIn_0 := by decide +kernel
theorem dX0_fallsIn_0 : decode cX0_fallsIn 0 = .ok (.aload_n 2, 1) := dk_44 (dk_at dksX0_fallsIn_0 0 rfl rfl)
theorem dX0_fallsIn_1 : decode cX0_fallsIn 1 = .ok (.iconst 0, 1) := dk_3 (dk_at dksX0_fallsIn_0 1 rfl rfl)
theorem dX0_fallsIn_2 : decode cX0_fallsIn 2 = .ok (.aload_n 0, 1) := dk_42 (dk_at dksX0_fallsIn_0 2 rfl rfl)
theorem dX0_fallsIn_3 : decode cX0_fallsIn 3 = .ok (.iload_n 1, 1) := dk_27 (dk_at dksX0_fallsIn_0 3 rfl rfl)
theorem dX0_fallsIn_4 : decode cX0_fallsIn 4 = .ok (.invokevirtual 106, 3) := dk_182 0 106 (dk_at dksX0_fallsIn_0 4 rfl rfl)
theorem dX0_fallsIn_7 : decode cX0_fallsIn 7 = .ok (.i2l, 1) := dk_133 (dk_at dksX0_fallsIn_0 7 rfl rfl)
theorem dX0_fallsIn_8 : decode cX0_fallsIn 8 = .ok (.lastore, 1) := dk_80 (dk_at dksX0_fallsIn_0 8 rfl rfl)
theorem dX0_fallsIn_9 : decode cX0_fallsIn 9 = .ok (.goto 9, 3) := dk_167 0 9 (dk_at dksX0_fallsIn_0 9 rfl rfl)
theorem dX0_fallsIn_12 : decode cX0_fallsIn 12 = .ok (.astore_n 3, 1) := dk_78 (dk_at dksX0_fallsIn_0 12 rfl rfl)
theorem dX0_fallsIn_13 : decode cX0_fallsIn 13 = .ok (.iconst 1, 1) := dk_4 (dk_at dksX0_fallsIn_0 13 rfl rfl)
theorem dX0_fallsIn_14 : decode cX0_fallsIn 14 = .ok (.ireturn, 1) := dk_172 (dk_at dksX0_fallsIn_0 14 rfl rfl)
theorem dX0_fallsIn_15 : decode cX0_fallsIn 15 = .ok (.astore_n 3, 1) := dk_78 (dk_at dksX0_fallsIn_0 15 rfl rfl)
theorem dX0_fallsIn_16 : decode cX0_fallsIn 16 = .ok (.iconst 2, 1) := dk_5 (dk_at dksX0_fallsIn_0 16 rfl rfl)
theorem dX0_fallsIn_17 : decode cX0_fallsIn 17 = .ok (.ireturn, 1) := dk_172 (dk_at dksX0_fallsIn_0 17 rfl rfl)
theorem dX0_fallsIn_18 : decode cX0_fallsIn 18 = .ok (.iconst 0, 1) := dk_3 (dk_at dksX0_fallsIn_0 18 rfl rfl)
theorem dX0_fallsIn_19 : decode cX0_fallsIn 19 = .ok (.ireturn, 1) := dk_172 (dk_at dksX0_fallsIn_0 19 rfl rfl)
abbrev cX0_payIf : ByteArray := method_33_code
def yX0_payIf : MethodName := ⟨RX0, "payIf", "(LFlagLaundry;II[J)I"⟩
def dkwX0_payIf_1 : List UInt8 := [172, 3, 172]
abbrev dktX0_payIf_1 : List UInt8 := dkwX0_payIf_1 ++ []
def dkwX0_payIf_0 : List UInt8 := [45, 3, 42, 27, 28, 182, 0, 109, 133, 80, 167, 0, 15, 58, 4, 4, 172, 58, 4, 5, 172, 58, 4, 6]
abbrev dktX0_payIf_0 : List UInt8 := dkwX0_payIf_0 ++ dktX0_payIf_1
theorem dksX0_payIf_0 : cX0_payIf.data.toList.drop 0 = dktX0_payIf_0 := by decide +kernel
theorem dksX0_payIf_1 : cX0_payIf.data.toList.drop 24 = dktX0_payIf_1 := dk_seg dksX0_payIf_0 24 rfl rfl
theorem dX0_payIf_0 : decode cX0_payIf 0 = .ok (.aload_n 3, 1) := dk_45 (dk_at dksX0_payIf_0 0 rfl rfl)
theorem dX0_payIf_1 : decode cX0_payIf 1 = .ok (.iconst 0, 1) := dk_3 (dk_at dksX0_payIf_0 1 rfl rfl)
theorem dX0_payIf_2 : decode cX0_payIf 2 = .ok (.aload_n 0, 1) := dk_42 (dk_at dksX0_payIf_0 2 rfl rfl)
theorem dX0_payIf_3 : decode cX0_payIf 3 = .ok (.iload_n 1, 1) := dk_27 (dk_at dksX0_payIf_0 3 rfl rfl)
theorem dX0_payIf_4 : decode cX0_payIf 4 = .ok (.iload_n 2, 1) := dk_28 (dk_at dksX0_payIf_0 4 rfl rfl)
theorem dX0_payIf_5 : decode cX0_payIf 5 = .ok (.invokevirtual 109, 3) := dk_182 0 109 (dk_at dksX0_payIf_0 5 rfl rfl)
theorem dX0_payIf_8 : decode cX0_payIf 8 = .ok (.i2l, 1) := dk_133 (dk_at dksX0_payIf_0 8 rfl rfl)
theorem dX0_payIf_9 : decode cX0_payIf 9 = .ok (.lastore, 1) := dk_80 (dk_at dksX0_payIf_0 9 rfl rfl)
theorem dX0_payIf_10 : decode cX0_payIf 10 = .ok (.goto 15, 3) := dk_167 0 15 (dk_at dksX0_payIf_0 10 rfl rfl)
theorem dX0_payIf_13 : decode cX0_payIf 13 = .ok (.astore 4, 2) := dk_58 4 (dk_at dksX0_payIf_0 13 rfl rfl)
theorem dX0_payIf_15 : decode cX0_payIf 15 = .ok (.iconst 1, 1) := dk_4 (dk_at dksX0_payIf_0 15 rfl rfl)
theorem dX0_payIf_16 : decode cX0_payIf 16 = .ok (.ireturn, 1) := dk_172 (dk_at dksX0_payIf_0 16 rfl rfl)
theorem dX0_payIf_17 : decode cX0_payIf 17 = .ok (.astore 4, 2) := dk_58 4 (dk_at dksX0_payIf_0 17 rfl rfl)
theorem dX0_payIf_19 : decode cX0_payIf 19 = .ok (.iconst 2, 1) := dk_5 (dk_at dksX0_payIf_0 19 rfl rfl)
theorem dX0_payIf_20 : decode cX0_payIf 20 = .ok (.ireturn, 1) := dk_172 (dk_at dksX0_payIf_0 20 rfl rfl)
theorem dX0_payIf_21 : decode cX0_payIf 21 = .ok (.astore 4, 2) := dk_58 4 (dk_at dksX0_payIf_0 21 rfl rfl)
theorem dX0_payIf_23 : decode cX0_payIf 23 = .ok (.iconst 3, 1) := dk_6 (dk_at dksX0_payIf_0 23 rfl rfl)
theorem dX0_payIf_24 : decode cX0_payIf 24 = .ok (.ireturn, 1) := dk_172 (dk_at dksX0_payIf_1 0 rfl rfl)
theorem dX0_payIf_25 : decode cX0_payIf 25 = .ok (.iconst 0, 1) := dk_3 (dk_at dksX0_payIf_1 1 rfl rfl)
theorem dX0_payIf_26 : decode cX0_payIf 26 = .ok (.ireturn, 1) := dk_172 (dk_at dksX0_payIf_1 2 rfl rfl)
abbrev cX0_latest : ByteArray := method_34_code
def yX0_latest : MethodName := ⟨RX0, "latest", "(LFlagLaundry;I[J)I"⟩
def dkwX0_latest_0 : List UInt8 := [44, 3, 42, 27, 182, 0, 112, 133, 80, 167, 0, 9, 78, 4, 172, 78, 5, 172, 3, 172]
abbrev dktX0_latest_0 : List UInt8 := dkwX0_latest_0 ++ []
theorem dksX0_latest_0 : cX0_latest.data.toList.drop 0 = dktX0_latest_0 := by decide +kernel
theorem dX0_latest_0 : decode cX0_latest 0 = .ok (.aload_n 2, 1) := dk_44 (dk_at dksX0_latest_0 0 rfl rfl)
theorem dX0_latest_1 : decode cX0_latest 1 = .ok (.iconst 0, 1) := dk_3 (dk_at dksX0_latest_0 1 rfl rfl)
theorem dX0_latest_2 : decode cX0_latest 2 = .ok (.aload_n 0, 1) := dk_42 (dk_at dksX0_latest_0 2 rfl rfl)
theorem dX0_latest_3 : decode cX0_latest 3 = .ok (.iload_n 1, 1) := dk_27 (dk_at dksX0_latest_0 3 rfl rfl)
theorem dX0_latest_4 : decode cX0_latest 4 = .ok (.invokevirtual 112, 3) := dk_182 0 112 (dk_at dksX0_latest_0 4 rfl rfl)
theorem dX0_latest_7 : decode cX0_latest 7 = .ok (.i2l, 1) := dk_133 (dk_at dksX0_latest_0 7 rfl rfl)
theorem dX0_latest_8 : decode cX0_latest 8 = .ok (.lastore, 1) := dk_80 (dk_at dksX0_latest_0 8 rfl rfl)
theorem dX0_latest_9 : decode cX0_latest 9 = .ok (.goto 9, 3) := dk_167 0 9 (dk_at dksX0_latest_0 9 rfl rfl)
theorem dX0_latest_12 : decode cX0_latest 12 = .ok (.astore_n 3, 1) := dk_78 (dk_at dksX0_latest_0 12 rfl rfl)
theorem dX0_latest_13 : decode cX0_latest 13 = .ok (.iconst 1, 1) := dk_4 (dk_at dksX0_latest_0 13 rfl rfl)
theorem dX0_latest_14 : decode cX0_latest 14 = .ok (.ireturn, 1) := dk_172 (dk_at dksX0_latest_0 14 rfl rfl)
theorem dX0_latest_15 : decode cX0_latest 15 = .ok (.astore_n 3, 1) := dk_78 (dk_at dksX0_latest_0 15 rfl rfl)
theorem dX0_latest_16 : decode cX0_latest 16 = .ok (.iconst 2, 1) := dk_5 (dk_at dksX0_latest_0 16 rfl rfl)
theorem dX0_latest_17 : decode cX0_latest 17 = .ok (.ireturn, 1) := dk_172 (dk_at dksX0_latest_0 17 rfl rfl)
theorem dX0_latest_18 : decode cX0_latest 18 = .ok (.iconst 0, 1) := dk_3 (dk_at dksX0_latest_0 18 rfl rfl)
theorem dX0_latest_19 : decode cX0_latest 19 = .ok (.ireturn, 1) := dk_172 (dk_at dksX0_latest_0 19 rfl rfl)
abbrev cX0_dearest : ByteArray := method_35_code
def yX0_dearest : MethodName := ⟨RX0, "dearest", "(LFlagLaundry;[J)I"⟩
def dkwX0_dearest_0 : List UInt8 := [43, 3, 42, 182, 0, 115, 133, 80, 167, 0, 6, 77, 4, 172, 3, 172]
abbrev dktX0_dearest_0 : List UInt8 := dkwX0_dearest_0 ++ []
theorem dksX0_dearest_0 : cX0_dearest.data.toList.drop 0 = dktX0_dearest_0 := by decide +kernel
theorem dX0_dearest_0 : decode cX0_dearest 0 = .ok (.aload_n 1, 1) := dk_43 (dk_at dksX0_dearest_0 0 rfl rfl)
theorem dX0_dearest_1 : decode cX0_dearest 1 = .ok (.iconst 0, 1) := dk_3 (dk_at dksX0_dearest_0 1 rfl rfl)
theorem dX0_dearest_2 : decode cX0_dearest 2 = .ok (.aload_n 0, 1) := dk_42 (dk_at dksX0_dearest_0 2 rfl rfl)
theorem dX0_dearest_3 : decode cX0_dearest 3 = .ok (.invokevirtual 115, 3) := dk_182 0 115 (dk_at dksX0_dearest_0 3 rfl rfl)
theorem dX0_dearest_6 : decode cX0_dearest 6 = .ok (.i2l, 1) := dk_133 (dk_at dksX0_dearest_0 6 rfl rfl)
theorem dX0_dearest_7 : decode cX0_dearest 7 = .ok (.lastore, 1) := dk_80 (dk_at dksX0_dearest_0 7 rfl rfl)
theorem dX0_dearest_8 : decode cX0_dearest 8 = .ok (.goto 6, 3) := dk_167 0 6 (dk_at dksX0_dearest_0 8 rfl rfl)
theorem dX0_dearest_11 : decode cX0_dearest 11 = .ok (.astore_n 2, 1) := dk_77 (dk_at dksX0_dearest_0 11 rfl rfl)
theorem dX0_dearest_12 : decode cX0_dearest 12 = .ok (.iconst 1, 1) := dk_4 (dk_at dksX0_dearest_0 12 rfl rfl)
theorem dX0_dearest_13 : decode cX0_dearest 13 = .ok (.ireturn, 1) := dk_172 (dk_at dksX0_dearest_0 13 rfl rfl)
theorem dX0_dearest_14 : decode cX0_dearest 14 = .ok (.iconst 0, 1) := dk_3 (dk_at dksX0_dearest_0 14 rfl rfl)
theorem dX0_dearest_15 : decode cX0_dearest 15 = .ok (.ireturn, 1) := dk_172 (dk_at dksX0_dearest_0 15 rfl rfl)
abbrev cX0_ironsFor : ByteArray := method_36_code
def yX0_ironsFor : MethodName := ⟨RX0, "ironsFor", "(LFlagLaundry;II[J)I"⟩
def dkwX0_ironsFor_1 : List UInt8 := [172, 3, 172]
abbrev dktX0_ironsFor_1 : List UInt8 := dkwX0_ironsFor_1 ++ []
def dkwX0_ironsFor_0 : List UInt8 := [45, 3, 42, 27, 28, 182, 0, 118, 133, 80, 167, 0, 15, 58, 4, 4, 172, 58, 4, 5, 172, 58, 4, 6]
abbrev dktX0_ironsFor_0 : List UInt8 := dkwX0_ironsFor_0 ++ dktX0_ironsFor_1
theorem dksX0_ironsFor_0 : cX0_ironsFor.data.toList.drop 0 = dktX0_ironsFor_0 := by decide +kernel
theorem dksX0_ironsFor_1 : cX0_ironsFor.data.toList.drop 24 = dktX0_ironsFor_1 := dk_seg dksX0_ironsFor_0 24 rfl rfl
theorem dX0_ironsFor_0 : decode cX0_ironsFor 0 = .ok (.aload_n 3, 1) := dk_45 (dk_at dksX0_ironsFor_0 0 rfl rfl)
theorem dX0_ironsFor_1 : decode cX0_ironsFor 1 = .ok (.iconst 0, 1) := dk_3 (dk_at dksX0_ironsFor_0 1 rfl rfl)
theorem dX0_ironsFor_2 : decode cX0_ironsFor 2 = .ok (.aload_n 0, 1) := dk_42 (dk_at dksX0_ironsFor_0 2 rfl rfl)
theorem dX0_ironsFor_3 : decode cX0_ironsFor 3 = .ok (.iload_n 1, 1) := dk_27 (dk_at dksX0_ironsFor_0 3 rfl rfl)
theorem dX0_ironsFor_4 : decode cX0_ironsFor 4 = .ok (.iload_n 2, 1) := dk_28 (dk_at dksX0_ironsFor_0 4 rfl rfl)
theorem dX0_ironsFor_5 : decode cX0_ironsFor 5 = .ok (.invokevirtual 118, 3) := dk_182 0 118 (dk_at dksX0_ironsFor_0 5 rfl rfl)
theorem dX0_ironsFor_8 : decode cX0_ironsFor 8 = .ok (.i2l, 1) := dk_133 (dk_at dksX0_ironsFor_0 8 rfl rfl)
theorem dX0_ironsFor_9 : decode cX0_ironsFor 9 = .ok (.lastore, 1) := dk_80 (dk_at dksX0_ironsFor_0 9 rfl rfl)
theorem dX0_ironsFor_10 : decode cX0_ironsFor 10 = .ok (.goto 15, 3) := dk_167 0 15 (dk_at dksX0_ironsFor_0 10 rfl rfl)
theorem dX0_ironsFor_13 : decode cX0_ironsFor 13 = .ok (.astore 4, 2) := dk_58 4 (dk_at dksX0_ironsFor_0 13 rfl rfl)
theorem dX0_ironsFor_15 : decode cX0_ironsFor 15 = .ok (.iconst 1, 1) := dk_4 (dk_at dksX0_ironsFor_0 15 rfl rfl)
theorem dX0_ironsFor_16 : decode cX0_ironsFor 16 = .ok (.ireturn, 1) := dk_172 (dk_at dksX0_ironsFor_0 16 rfl rfl)
theorem dX0_ironsFor_17 : decode cX0_ironsFor 17 = .ok (.astore 4, 2) := dk_58 4 (dk_at dksX0_ironsFor_0 17 rfl rfl)
theorem dX0_ironsFor_19 : decode cX0_ironsFor 19 = .ok (.iconst 2, 1) := dk_5 (dk_at dksX0_ironsFor_0 19 rfl rfl)
theorem dX0_ironsFor_20 : decode cX0_ironsFor 20 = .ok (.ireturn, 1) := dk_172 (dk_at dksX0_ironsFor_0 20 rfl rfl)
theorem dX0_ironsFor_21 : decode cX0_ironsFor 21 = .ok (.astore 4, 2) := dk_58 4 (dk_at dksX0_ironsFor_0 21 rfl rfl)
theorem dX0_ironsFor_23 : decode cX0_ironsFor 23 = .ok (.iconst 3, 1) := dk_6 (dk_at dksX0_ironsFor_0 23 rfl rfl)
theorem dX0_ironsFor_24 : decode cX0_ironsFor 24 = .ok (.ireturn, 1) := dk_172 (dk_at dksX0_ironsFor_1 0 rfl rfl)
theorem dX0_ironsFor_25 : decode cX0_ironsFor 25 = .ok (.iconst 0, 1) := dk_3 (dk_at dksX0_ironsFor_1 1 rfl rfl)
theorem dX0_ironsFor_26 : decode cX0_ironsFor 26 = .ok (.ireturn, 1) := dk_172 (dk_at dksX0_ironsFor_1 2 rfl rfl)
abbrev cX0_readyShare : ByteArray := method_37_code
def yX0_readyShare : MethodName := ⟨RX0, "readyShare", "(LFlagLaundry;[D)I"⟩
def dkwX0_readyShare_0 : List UInt8 := [43, 3, 42, 182, 0, 121, 141, 82, 167, 0, 6, 77, 4, 172, 3, 172]
abbrev dktX0_readyShare_0 : List UInt8 := dkwX0_readyShare_0 ++ []
theorem dksX0_readyShare_0 : cX0_readyShare.data.toList.drop 0 = dktX0_readyShare_0 := by decide +kernel
theorem dX0_readyShare_0 : decode cX0_readyShare 0 = .ok (.aload_n 1, 1) := dk_43 (dk_at dksX0_readyShare_0 0 rfl rfl)
theorem dX0_readyShare_1 : decode cX0_readyShare 1 = .ok (.iconst 0, 1) := dk_3 (dk_at dksX0_readyShare_0 1 rfl rfl)
theorem dX0_readyShare_2 : decode cX0_readyShare 2 = .ok (.aload_n 0, 1) := dk_42 (dk_at dksX0_readyShare_0 2 rfl rfl)
theorem dX0_readyShare_3 : decode cX0_readyShare 3 = .ok (.invokevirtual 121, 3) := dk_182 0 121 (dk_at dksX0_readyShare_0 3 rfl rfl)
theorem dX0_readyShare_6 : decode cX0_readyShare 6 = .ok (.f2d, 1) := dk_141 (dk_at dksX0_readyShare_0 6 rfl rfl)
theorem dX0_readyShare_7 : decode cX0_readyShare 7 = .ok (.dastore, 1) := dk_82 (dk_at dksX0_readyShare_0 7 rfl rfl)
theorem dX0_readyShare_8 : decode cX0_readyShare 8 = .ok (.goto 6, 3) := dk_167 0 6 (dk_at dksX0_readyShare_0 8 rfl rfl)
theorem dX0_readyShare_11 : decode cX0_readyShare 11 = .ok (.astore_n 2, 1) := dk_77 (dk_at dksX0_readyShare_0 11 rfl rfl)
theorem dX0_readyShare_12 : decode cX0_readyShare 12 = .ok (.iconst 1, 1) := dk_4 (dk_at dksX0_readyShare_0 12 rfl rfl)
theorem dX0_readyShare_13 : decode cX0_readyShare 13 = .ok (.ireturn, 1) := dk_172 (dk_at dksX0_readyShare_0 13 rfl rfl)
theorem dX0_readyShare_14 : decode cX0_readyShare 14 = .ok (.iconst 0, 1) := dk_3 (dk_at dksX0_readyShare_0 14 rfl rfl)
theorem dX0_readyShare_15 : decode cX0_readyShare 15 = .ok (.ireturn, 1) := dk_172 (dk_at dksX0_readyShare_0 15 rfl rfl)
abbrev cX0_meanDirt : ByteArray := method_38_code
def yX0_meanDirt : MethodName := ⟨RX0, "meanDirt", "(LFlagLaundry;[D)I"⟩
def dkwX0_meanDirt_0 : List UInt8 := [43, 3, 42, 182, 0, 125, 82, 167, 0, 6, 77, 4, 172, 3, 172]
abbrev dktX0_meanDirt_0 : List UInt8 := dkwX0_meanDirt_0 ++ []
theorem dksX0_meanDirt_0 : cX0_meanDirt.data.toList.drop 0 = dktX0_meanDirt_0 := by decide +kernel
theorem dX0_meanDirt_0 : decode cX0_meanDirt 0 = .ok (.aload_n 1, 1) := dk_43 (dk_at dksX0_meanDirt_0 0 rfl rfl)
theorem dX0_meanDirt_1 : decode cX0_meanDirt 1 = .ok (.iconst 0, 1) := dk_3 (dk_at dksX0_meanDirt_0 1 rfl rfl)
theorem dX0_meanDirt_2 : decode cX0_meanDirt 2 = .ok (.aload_n 0, 1) := dk_42 (dk_at dksX0_meanDirt_0 2 rfl rfl)
theorem dX0_meanDirt_3 : decode cX0_meanDirt 3 = .ok (.invokevirtual 125, 3) := dk_182 0 125 (dk_at dksX0_meanDirt_0 3 rfl rfl)
theorem dX0_meanDirt_6 : decode cX0_meanDirt 6 = .ok (.dastore, 1) := dk_82 (dk_at dksX0_meanDirt_0 6 rfl rfl)
theorem dX0_meanDirt_7 : decode cX0_meanDirt 7 = .ok (.goto 6, 3) := dk_167 0 6 (dk_at dksX0_meanDirt_0 7 rfl rfl)
theorem dX0_meanDirt_10 : decode cX0_meanDirt 10 = .ok (.astore_n 2, 1) := dk_77 (dk_at dksX0_meanDirt_0 10 rfl rfl)
theorem dX0_meanDirt_11 : decode cX0_meanDirt 11 = .ok (.iconst 1, 1) := dk_4 (dk_at dksX0_meanDirt_0 11 rfl rfl)
theorem dX0_meanDirt_12 : decode cX0_meanDirt 12 = .ok (.ireturn, 1) := dk_172 (dk_at dksX0_meanDirt_0 12 rfl rfl)
theorem dX0_meanDirt_13 : decode cX0_meanDirt 13 = .ok (.iconst 0, 1) := dk_3 (dk_at dksX0_meanDirt_0 13 rfl rfl)
theorem dX0_meanDirt_14 : decode cX0_meanDirt 14 = .ok (.ireturn, 1) := dk_172 (dk_at dksX0_meanDirt_0 14 rfl rfl)
abbrev cX0_writeFlag : ByteArray := method_39_code
def yX0_writeFlag : MethodName := ⟨RX0, "writeFlag", "(LFlagLaundry;I[J)I"⟩
def dkwX0_writeFlag_0 : List UInt8 := [44, 3, 42, 27, 182, 0, 129, 133, 80, 167, 0, 9, 78, 4, 172, 78, 5, 172, 3, 172]
abbrev dktX0_writeFlag_0 : List UInt8 := dkwX0_writeFlag_0 ++ []
theorem dksX0_writeFlag_0 : cX0_writeFlag.data.toList.drop 0 = dktX0_writeFlag_0 := by decide +kernel
theorem dX0_writeFlag_0 : decode cX0_writeFlag 0 = .ok (.aload_n 2, 1) := dk_44 (dk_at dksX0_writeFlag_0 0 rfl rfl)
theorem dX0_writeFlag_1 : decode cX0_writeFlag 1 = .ok (.iconst 0, 1) := dk_3 (dk_at dksX0_writeFlag_0 1 rfl rfl)
theorem dX0_writeFlag_2 : decode cX0_writeFlag 2 = .ok (.aload_n 0, 1) := dk_42 (dk_at dksX0_writeFlag_0 2 rfl rfl)
theorem dX0_writeFlag_3 : decode cX0_writeFlag 3 = .ok (.iload_n 1, 1) := dk_27 (dk_at dksX0_writeFlag_0 3 rfl rfl)
theorem dX0_writeFlag_4 : decode cX0_writeFlag 4 = .ok (.invokevirtual 129, 3) := dk_182 0 129 (dk_at dksX0_writeFlag_0 4 rfl rfl)
theorem dX0_writeFlag_7 : decode cX0_writeFlag 7 = .ok (.i2l, 1) := dk_133 (dk_at dksX0_writeFlag_0 7 rfl rfl)
theorem dX0_writeFlag_8 : decode cX0_writeFlag 8 = .ok (.lastore, 1) := dk_80 (dk_at dksX0_writeFlag_0 8 rfl rfl)
theorem dX0_writeFlag_9 : decode cX0_writeFlag 9 = .ok (.goto 9, 3) := dk_167 0 9 (dk_at dksX0_writeFlag_0 9 rfl rfl)
theorem dX0_writeFlag_12 : decode cX0_writeFlag 12 = .ok (.astore_n 3, 1) := dk_78 (dk_at dksX0_writeFlag_0 12 rfl rfl)
theorem dX0_writeFlag_13 : decode cX0_writeFlag 13 = .ok (.iconst 1, 1) := dk_4 (dk_at dksX0_writeFlag_0 13 rfl rfl)
theorem dX0_writeFlag_14 : decode cX0_writeFlag 14 = .ok (.ireturn, 1) := dk_172 (dk_at dksX0_writeFlag_0 14 rfl rfl)
theorem dX0_writeFlag_15 : decode cX0_writeFlag 15 = .ok (.astore_n 3, 1) := dk_78 (dk_at dksX0_writeFlag_0 15 rfl rfl)
theorem dX0_writeFlag_16 : decode cX0_writeFlag 16 = .ok (.iconst 2, 1) := dk_5 (dk_at dksX0_writeFlag_0 16 rfl rfl)
theorem dX0_writeFlag_17 : decode cX0_writeFlag 17 = .ok (.ireturn, 1) := dk_172 (dk_at dksX0_writeFlag_0 17 rfl rfl)
theorem dX0_writeFlag_18 : decode cX0_writeFlag 18 = .ok (.iconst 0, 1) := dk_3 (dk_at dksX0_writeFlag_0 18 rfl rfl)
theorem dX0_writeFlag_19 : decode cX0_writeFlag 19 = .ok (.ireturn, 1) := dk_172 (dk_at dksX0_writeFlag_0 19 rfl rfl)
abbrev cX0_writeTub : ByteArray := method_40_code
def yX0_writeTub : MethodName := ⟨RX0, "writeTub", "(LFlagLaundry;I[J)I"⟩
def dkwX0_writeTub_0 : List UInt8 := [44, 3, 42, 27, 182, 0, 132, 133, 80, 167, 0, 9, 78, 4, 172, 78, 5, 172, 3, 172]
abbrev dktX0_writeTub_0 : List UInt8 := dkwX0_writeTub_0 ++ []
theorem dksX0_writeTub_0 : cX0_writeTub.data.toList.drop 0 = dktX0_writeTub_0 := by decide +kernel
theorem dX0_writeTub_0 : decode cX0_writeTub 0 = .ok (.aload_n 2, 1) := dk_44 (dk_at dksX0_writeTub_0 0 rfl rfl)
theorem dX0_writeTub_1 : decode cX0_writeTub 1 = .ok (.iconst 0, 1) := dk_3 (dk_at dksX0_writeTub_0 1 rfl rfl)
theorem dX0_writeTub_2 : decode cX0_writeTub 2 = .ok (.aload_n 0, 1) := dk_42 (dk_at dksX0_writeTub_0 2 rfl rfl)
theorem dX0_writeTub_3 : decode cX0_writeTub 3 = .ok (.iload_n 1, 1) := dk_27 (dk_at dksX0_writeTub_0 3 rfl rfl)
theorem dX0_writeTub_4 : decode cX0_writeTub 4 = .ok (.invokevirtual 132, 3) := dk_182 0 132 (dk_at dksX0_writeTub_0 4 rfl rfl)
theorem dX0_writeTub_7 : decode cX0_writeTub 7 = .ok (.i2l, 1) := dk_133 (dk_at dksX0_writeTub_0 7 rfl rfl)
theorem dX0_writeTub_8 : decode cX0_writeTub 8 = .ok (.lastore, 1) := dk_80 (dk_at dksX0_writeTub_0 8 rfl rfl)
theorem dX0_writeTub_9 : decode cX0_writeTub 9 = .ok (.goto 9, 3) := dk_167 0 9 (dk_at dksX0_writeTub_0 9 rfl rfl)
theorem dX0_writeTub_12 : decode cX0_writeTub 12 = .ok (.astore_n 3, 1) := dk_78 (dk_at dksX0_writeTub_0 12 rfl rfl)
theorem dX0_writeTub_13 : decode cX0_writeTub 13 = .ok (.iconst 1, 1) := dk_4 (dk_at dksX0_writeTub_0 13 rfl rfl)
theorem dX0_writeTub_14 : decode cX0_writeTub 14 = .ok (.ireturn, 1) := dk_172 (dk_at dksX0_writeTub_0 14 rfl rfl)
theorem dX0_writeTub_15 : decode cX0_writeTub 15 = .ok (.astore_n 3, 1) := dk_78 (dk_at dksX0_writeTub_0 15 rfl rfl)
theorem dX0_writeTub_16 : decode cX0_writeTub 16 = .ok (.iconst 2, 1) := dk_5 (dk_at dksX0_writeTub_0 16 rfl rfl)
theorem dX0_writeTub_17 : decode cX0_writeTub 17 = .ok (.ireturn, 1) := dk_172 (dk_at dksX0_writeTub_0 17 rfl rfl)
theorem dX0_writeTub_18 : decode cX0_writeTub 18 = .ok (.iconst 0, 1) := dk_3 (dk_at dksX0_writeTub_0 18 rfl rfl)
theorem dX0_writeTub_19 : decode cX0_writeTub 19 = .ok (.ireturn, 1) := dk_172 (dk_at dksX0_writeTub_0 19 rfl rfl)
abbrev cX0_writeNation : ByteArray := method_41_code
def yX0_writeNation : MethodName := ⟨RX0, "writeNation", "(LFlagLaundry;I[J)I"⟩
def dkwX0_writeNation_0 : List UInt8 := [44, 3, 42, 27, 182, 0, 135, 133, 80, 167, 0, 9, 78, 4, 172, 78, 5, 172, 3, 172]
abbrev dktX0_writeNation_0 : List UInt8 := dkwX0_writeNation_0 ++ []
theorem dksX0_writeNation_0 : cX0_writeNation.data.toList.drop 0 = dktX0_writeNation_0 := by decide +kernel
theorem dX0_writeNation_0 : decode cX0_writeNation 0 = .ok (.aload_n 2, 1) := dk_44 (dk_at dksX0_writeNation_0 0 rfl rfl)
theorem dX0_writeNation_1 : decode cX0_writeNation 1 = .ok (.iconst 0, 1) := dk_3 (dk_at dksX0_writeNation_0 1 rfl rfl)
theorem dX0_writeNation_2 : decode cX0_writeNation 2 = .ok (.aload_n 0, 1) := dk_42 (dk_at dksX0_writeNation_0 2 rfl rfl)
theorem dX0_writeNation_3 : decode cX0_writeNation 3 = .ok (.iload_n 1, 1) := dk_27 (dk_at dksX0_writeNation_0 3 rfl rfl)
theorem dX0_writeNation_4 : decode cX0_writeNation 4 = .ok (.invokevirtual 135, 3) := dk_182 0 135 (dk_at dksX0_writeNation_0 4 rfl rfl)
theorem dX0_writeNation_7 : decode cX0_writeNation 7 = .ok (.i2l, 1) := dk_133 (dk_at dksX0_writeNation_0 7 rfl rfl)
theorem dX0_writeNation_8 : decode cX0_writeNation 8 = .ok (.lastore, 1) := dk_80 (dk_at dksX0_writeNation_0 8 rfl rfl)
theorem dX0_writeNation_9 : decode cX0_writeNation 9 = .ok (.goto 9, 3) := dk_167 0 9 (dk_at dksX0_writeNation_0 9 rfl rfl)
theorem dX0_writeNation_12 : decode cX0_writeNation 12 = .ok (.astore_n 3, 1) := dk_78 (dk_at dksX0_writeNation_0 12 rfl rfl)
theorem dX0_writeNation_13 : decode cX0_writeNation 13 = .ok (.iconst 1, 1) := dk_4 (dk_at dksX0_writeNation_0 13 rfl rfl)
theorem dX0_writeNation_14 : decode cX0_writeNation 14 = .ok (.ireturn, 1) := dk_172 (dk_at dksX0_writeNation_0 14 rfl rfl)
theorem dX0_writeNation_15 : decode cX0_writeNation 15 = .ok (.astore_n 3, 1) := dk_78 (dk_at dksX0_writeNation_0 15 rfl rfl)
theorem dX0_writeNation_16 : decode cX0_writeNation 16 = .ok (.iconst 2, 1) := dk_5 (dk_at dksX0_writeNation_0 16 rfl rfl)
theorem dX0_writeNation_17 : decode cX0_writeNation 17 = .ok (.ireturn, 1) := dk_172 (dk_at dksX0_writeNation_0 17 rfl rfl)
theorem dX0_writeNation_18 : decode cX0_writeNation 18 = .ok (.iconst 0, 1) := dk_3 (dk_at dksX0_writeNation_0 18 rfl rfl)
theorem dX0_writeNation_19 : decode cX0_writeNation 19 = .ok (.ireturn, 1) := dk_172 (dk_at dksX0_writeNation_0 19 rfl rfl)
abbrev cX0_writeLine : ByteArray := method_42_code
def yX0_writeLine : MethodName := ⟨RX0, "writeLine", "(LFlagLaundry;[J)I"⟩
def dkwX0_writeLine_0 : List UInt8 := [43, 3, 42, 182, 0, 138, 133, 80, 167, 0, 6, 77, 4, 172, 3, 172]
abbrev dktX0_writeLine_0 : List UInt8 := dkwX0_writeLine_0 ++ []
theorem dksX0_writeLine_0 : cX0_writeLine.data.toList.drop 0 = dktX0_writeLine_0 := by decide +kernel
theorem dX0_writeLine_0 : decode cX0_writeLine 0 = .ok (.aload_n 1, 1) := dk_43 (dk_at dksX0_writeLine_0 0 rfl rfl)
theorem dX0_writeLine_1 : decode cX0_writeLine 1 = .ok (.iconst 0, 1) := dk_3 (dk_at dksX0_writeLine_0 1 rfl rfl)
theorem dX0_writeLine_2 : decode cX0_writeLine 2 = .ok (.aload_n 0, 1) := dk_42 (dk_at dksX0_writeLine_0 2 rfl rfl)
theorem dX0_writeLine_3 : decode cX0_writeLine 3 = .ok (.invokevirtual 138, 3) := dk_182 0 138 (dk_at dksX0_writeLine_0 3 rfl rfl)
theorem dX0_writeLine_6 : decode cX0_writeLine 6 = .ok (.i2l, 1) := dk_133 (dk_at dksX0_writeLine_0 6 rfl rfl)
theorem dX0_writeLine_7 : decode cX0_writeLine 7 = .ok (.lastore, 1) := dk_80 (dk_at dksX0_writeLine_0 7 rfl rfl)
theorem dX0_writeLine_8 : decode cX0_writeLine 8 = .ok (.goto 6, 3) := dk_167 0 6 (dk_at dksX0_writeLine_0 8 rfl rfl)
theorem dX0_writeLine_11 : decode cX0_writeLine 11 = .ok (.astore_n 2, 1) := dk_77 (dk_at dksX0_writeLine_0 11 rfl rfl)
theorem dX0_writeLine_12 : decode cX0_writeLine 12 = .ok (.iconst 1, 1) := dk_4 (dk_at dksX0_writeLine_0 12 rfl rfl)
theorem dX0_writeLine_13 : decode cX0_writeLine 13 = .ok (.ireturn, 1) := dk_172 (dk_at dksX0_writeLine_0 13 rfl rfl)
theorem dX0_writeLine_14 : decode cX0_writeLine 14 = .ok (.iconst 0, 1) := dk_3 (dk_at dksX0_writeLine_0 14 rfl rfl)
theorem dX0_writeLine_15 : decode cX0_writeLine 15 = .ok (.ireturn, 1) := dk_172 (dk_at dksX0_writeLine_0 15 rfl rfl)
abbrev cX0_textByte : ByteArray := method_43_code
def yX0_textByte : MethodName := ⟨RX0, "textByte", "(LFlagLaundry;I[J)I"⟩
def dkwX0_textByte_0 : List UInt8 := [44, 3, 42, 27, 182, 0, 141, 133, 80, 167, 0, 6, 78, 4, 172, 3, 172]
abbrev dktX0_textByte_0 : List UInt8 := dkwX0_textByte_0 ++ []
theorem dksX0_textByte_0 : cX0_textByte.data.toList.drop 0 = dktX0_textByte_0 := by decide +kernel
theorem dX0_textByte_0 : decode cX0_textByte 0 = .ok (.aload_n 2, 1) := dk_44 (dk_at dksX0_textByte_0 0 rfl rfl)
theorem dX0_textByte_1 : decode cX0_textByte 1 = .ok (.iconst 0, 1) := dk_3 (dk_at dksX0_textByte_0 1 rfl rfl)
theorem dX0_textByte_2 : decode cX0_textByte 2 = .ok (.aload_n 0, 1) := dk_42 (dk_at dksX0_textByte_0 2 rfl rfl)
theorem dX0_textByte_3 : decode cX0_textByte 3 = .ok (.iload_n 1, 1) := dk_27 (dk_at dksX0_textByte_0 3 rfl rfl)
theorem dX0_textByte_4 : decode cX0_textByte 4 = .ok (.invokevirtual 141, 3) := dk_182 0 141 (dk_at dksX0_textByte_0 4 rfl rfl)
theorem dX0_textByte_7 : decode cX0_textByte 7 = .ok (.i2l, 1) := dk_133 (dk_at dksX0_textByte_0 7 rfl rfl)
theorem dX0_textByte_8 : decode cX0_textByte 8 = .ok (.lastore, 1) := dk_80 (dk_at dksX0_textByte_0 8 rfl rfl)
theorem dX0_textByte_9 : decode cX0_textByte 9 = .ok (.goto 6, 3) := dk_167 0 6 (dk_at dksX0_textByte_0 9 rfl rfl)
theorem dX0_textByte_12 : decode cX0_textByte 12 = .ok (.astore_n 3, 1) := dk_78 (dk_at dksX0_textByte_0 12 rfl rfl)
theorem dX0_textByte_13 : decode cX0_textByte 13 = .ok (.iconst 1, 1) := dk_4 (dk_at dksX0_textByte_0 13 rfl rfl)
theorem dX0_textByte_14 : decode cX0_textByte 14 = .ok (.ireturn, 1) := dk_172 (dk_at dksX0_textByte_0 14 rfl rfl)
theorem dX0_textByte_15 : decode cX0_textByte 15 = .ok (.iconst 0, 1) := dk_3 (dk_at dksX0_textByte_0 15 rfl rfl)
theorem dX0_textByte_16 : decode cX0_textByte 16 = .ok (.ireturn, 1) := dk_172 (dk_at dksX0_textByte_0 16 rfl rfl)
abbrev cX0_put : ByteArray := method_44_code
def yX0_put : MethodName := ⟨RX0, "put", "(LFlagLaundry;II[J)I"⟩
def dkwX0_put_1 : List UInt8 := [172, 3, 172]
abbrev dktX0_put_1 : List UInt8 := dkwX0_put_1 ++ []
def dkwX0_put_0 : List UInt8 := [45, 3, 42, 27, 28, 182, 0, 144, 133, 80, 167, 0, 15, 58, 4, 4, 172, 58, 4, 5, 172, 58, 4, 6]
abbrev dktX0_put_0 : List UInt8 := dkwX0_put_0 ++ dktX0_put_1
theorem dksX0_put_0 : cX0_put.data.toList.drop 0 = dktX0_put_0 := by decide +kernel
theorem dksX0_put_1 : cX0_put.data.toList.drop 24 = dktX0_put_1 := dk_seg dksX0_put_0 24 rfl rfl
theorem dX0_put_0 : decode cX0_put 0 = .ok (.aload_n 3, 1) := dk_45 (dk_at dksX0_put_0 0 rfl rfl)
theorem dX0_put_1 : decode cX0_put 1 = .ok (.iconst 0, 1) := dk_3 (dk_at dksX0_put_0 1 rfl rfl)
theorem dX0_put_2 : decode cX0_put 2 = .ok (.aload_n 0, 1) := dk_42 (dk_at dksX0_put_0 2 rfl rfl)
theorem dX0_put_3 : decode cX0_put 3 = .ok (.iload_n 1, 1) := dk_27 (dk_at dksX0_put_0 3 rfl rfl)
theorem dX0_put_4 : decode cX0_put 4 = .ok (.iload_n 2, 1) := dk_28 (dk_at dksX0_put_0 4 rfl rfl)
theorem dX0_put_5 : decode cX0_put 5 = .ok (.invokevirtual 144, 3) := dk_182 0 144 (dk_at dksX0_put_0 5 rfl rfl)
theorem dX0_put_8 : decode cX0_put 8 = .ok (.i2l, 1) := dk_133 (dk_at dksX0_put_0 8 rfl rfl)
theorem dX0_put_9 : decode cX0_put 9 = .ok (.lastore, 1) := dk_80 (dk_at dksX0_put_0 9 rfl rfl)
theorem dX0_put_10 : decode cX0_put 10 = .ok (.goto 15, 3) := dk_167 0 15 (dk_at dksX0_put_0 10 rfl rfl)
theorem dX0_put_13 : decode cX0_put 13 = .ok (.astore 4, 2) := dk_58 4 (dk_at dksX0_put_0 13 rfl rfl)
theorem dX0_put_15 : decode cX0_put 15 = .ok (.iconst 1, 1) := dk_4 (dk_at dksX0_put_0 15 rfl rfl)
theorem dX0_put_16 : decode cX0_put 16 = .ok (.ireturn, 1) := dk_172 (dk_at dksX0_put_0 16 rfl rfl)
theorem dX0_put_17 : decode cX0_put 17 = .ok (.astore 4, 2) := dk_58 4 (dk_at dksX0_put_0 17 rfl rfl)
theorem dX0_put_19 : decode cX0_put 19 = .ok (.iconst 2, 1) := dk_5 (dk_at dksX0_put_0 19 rfl rfl)
theorem dX0_put_20 : decode cX0_put 20 = .ok (.ireturn, 1) := dk_172 (dk_at dksX0_put_0 20 rfl rfl)
theorem dX0_put_21 : decode cX0_put 21 = .ok (.astore 4, 2) := dk_58 4 (dk_at dksX0_put_0 21 rfl rfl)
theorem dX0_put_23 : decode cX0_put 23 = .ok (.iconst 3, 1) := dk_6 (dk_at dksX0_put_0 23 rfl rfl)
theorem dX0_put_24 : decode cX0_put 24 = .ok (.ireturn, 1) := dk_172 (dk_at dksX0_put_1 0 rfl rfl)
theorem dX0_put_25 : decode cX0_put 25 = .ok (.iconst 0, 1) := dk_3 (dk_at dksX0_put_1 1 rfl rfl)
theorem dX0_put_26 : decode cX0_put 26 = .ok (.ireturn, 1) := dk_172 (dk_at dksX0_put_1 2 rfl rfl)
abbrev cX0_wash : ByteArray := method_45_code
def yX0_wash : MethodName := ⟨RX0, "wash", "(LFlagLaundry;II[J)I"⟩
def dkwX0_wash_1 : List UInt8 := [172, 3, 172]
abbrev dktX0_wash_1 : List UInt8 := dkwX0_wash_1 ++ []
def dkwX0_wash_0 : List UInt8 := [45, 3, 42, 27, 28, 182, 0, 147, 133, 80, 167, 0, 15, 58, 4, 4, 172, 58, 4, 5, 172, 58, 4, 6]
abbrev dktX0_wash_0 : List UInt8 := dkwX0_wash_0 ++ dktX0_wash_1
theorem dksX0_wash_0 : cX0_wash.data.toList.drop 0 = dktX0_wash_0 := by decide +kernel
theorem dksX0_wash_1 : cX0_wash.data.toList.drop 24 = dktX0_wash_1 := dk_seg dksX0_wash_0 24 rfl rfl
theorem dX0_wash_0 : decode cX0_wash 0 = .ok (.aload_n 3, 1) := dk_45 (dk_at dksX0_wash_0 0 rfl rfl)
theorem dX0_wash_1 : decode cX0_wash 1 = .ok (.iconst 0, 1) := dk_3 (dk_at dksX0_wash_0 1 rfl rfl)
theorem dX0_wash_2 : decode cX0_wash 2 = .ok (.aload_n 0, 1) := dk_42 (dk_at dksX0_wash_0 2 rfl rfl)
theorem dX0_wash_3 : decode cX0_wash 3 = .ok (.iload_n 1, 1) := dk_27 (dk_at dksX0_wash_0 3 rfl rfl)
theorem dX0_wash_4 : decode cX0_wash 4 = .ok (.iload_n 2, 1) := dk_28 (dk_at dksX0_wash_0 4 rfl rfl)
theorem dX0_wash_5 : decode cX0_wash 5 = .ok (.invokevirtual 147, 3) := dk_182 0 147 (dk_at dksX0_wash_0 5 rfl rfl)
theorem dX0_wash_8 : decode cX0_wash 8 = .ok (.i2l, 1) := dk_133 (dk_at dksX0_wash_0 8 rfl rfl)
theorem dX0_wash_9 : decode cX0_wash 9 = .ok (.lastore, 1) := dk_80 (dk_at dksX0_wash_0 9 rfl rfl)
theorem dX0_wash_10 : decode cX0_wash 10 = .ok (.goto 15, 3) := dk_167 0 15 (dk_at dksX0_wash_0 10 rfl rfl)
theorem dX0_wash_13 : decode cX0_wash 13 = .ok (.astore 4, 2) := dk_58 4 (dk_at dksX0_wash_0 13 rfl rfl)
theorem dX0_wash_15 : decode cX0_wash 15 = .ok (.iconst 1, 1) := dk_4 (dk_at dksX0_wash_0 15 rfl rfl)
theorem dX0_wash_16 : decode cX0_wash 16 = .ok (.ireturn, 1) := dk_172 (dk_at dksX0_wash_0 16 rfl rfl)
theorem dX0_wash_17 : decode cX0_wash 17 = .ok (.astore 4, 2) := dk_58 4 (dk_at dksX0_wash_0 17 rfl rfl)
theorem dX0_wash_19 : decode cX0_wash 19 = .ok (.iconst 2, 1) := dk_5 (dk_at dksX0_wash_0 19 rfl rfl)
theorem dX0_wash_20 : decode cX0_wash 20 = .ok (.ireturn, 1) := dk_172 (dk_at dksX0_wash_0 20 rfl rfl)
theorem dX0_wash_21 : decode cX0_wash 21 = .ok (.astore 4, 2) := dk_58 4 (dk_at dksX0_wash_0 21 rfl rfl)
theorem dX0_wash_23 : decode cX0_wash 23 = .ok (.iconst 3, 1) := dk_6 (dk_at dksX0_wash_0 23 rfl rfl)
theorem dX0_wash_24 : decode cX0_wash 24 = .ok (.ireturn, 1) := dk_172 (dk_at dksX0_wash_1 0 rfl rfl)
theorem dX0_wash_25 : decode cX0_wash 25 = .ok (.iconst 0, 1) := dk_3 (dk_at dksX0_wash_1 1 rfl rfl)
theorem dX0_wash_26 : decode cX0_wash 26 = .ok (.ireturn, 1) := dk_172 (dk_at dksX0_wash_1 2 rfl rfl)
abbrev cX0_hang : ByteArray := method_46_code
def yX0_hang : MethodName := ⟨RX0, "hang", "(LFlagLaundry;I[J)I"⟩
def dkwX0_hang_0 : List UInt8 := [44, 3, 42, 27, 182, 0, 150, 133, 80, 167, 0, 12, 78, 4, 172, 78, 5, 172, 78, 6, 172, 3, 172]
abbrev dktX0_hang_0 : List UInt8 := dkwX0_hang_0 ++ []
theorem dksX0_hang_0 : cX0_hang.data.toList.drop 0 = dktX0_hang_0 := by decide +kernel
theorem dX0_hang_0 : decode cX0_hang 0 = .ok (.aload_n 2, 1) := dk_44 (dk_at dksX0_hang_0 0 rfl rfl)
theorem dX0_hang_1 : decode cX0_hang 1 = .ok (.iconst 0, 1) := dk_3 (dk_at dksX0_hang_0 1 rfl rfl)
theorem dX0_hang_2 : decode cX0_hang 2 = .ok (.aload_n 0, 1) := dk_42 (dk_at dksX0_hang_0 2 rfl rfl)
theorem dX0_hang_3 : decode cX0_hang 3 = .ok (.iload_n 1, 1) := dk_27 (dk_at dksX0_hang_0 3 rfl rfl)
theorem dX0_hang_4 : decode cX0_hang 4 = .ok (.invokevirtual 150, 3) := dk_182 0 150 (dk_at dksX0_hang_0 4 rfl rfl)
theorem dX0_hang_7 : decode cX0_hang 7 = .ok (.i2l, 1) := dk_133 (dk_at dksX0_hang_0 7 rfl rfl)
theorem dX0_hang_8 : decode cX0_hang 8 = .ok (.lastore, 1) := dk_80 (dk_at dksX0_hang_0 8 rfl rfl)
theorem dX0_hang_9 : decode cX0_hang 9 = .ok (.goto 12, 3) := dk_167 0 12 (dk_at dksX0_hang_0 9 rfl rfl)
theorem dX0_hang_12 : decode cX0_hang 12 = .ok (.astore_n 3, 1) := dk_78 (dk_at dksX0_hang_0 12 rfl rfl)
theorem dX0_hang_13 : decode cX0_hang 13 = .ok (.iconst 1, 1) := dk_4 (dk_at dksX0_hang_0 13 rfl rfl)
theorem dX0_hang_14 : decode cX0_hang 14 = .ok (.ireturn, 1) := dk_172 (dk_at dksX0_hang_0 14 rfl rfl)
theorem dX0_hang_15 : decode cX0_hang 15 = .ok (.astore_n 3, 1) := dk_78 (dk_at dksX0_hang_0 15 rfl rfl)
theorem dX0_hang_16 : decode cX0_hang 16 = .ok (.iconst 2, 1) := dk_5 (dk_at dksX0_hang_0 16 rfl rfl)
theorem dX0_hang_17 : decode cX0_hang 17 = .ok (.ireturn, 1) := dk_172 (dk_at dksX0_hang_0 17 rfl rfl)
theorem dX0_hang_18 : decode cX0_hang 18 = .ok (.astore_n 3, 1) := dk_78 (dk_at dksX0_hang_0 18 rfl rfl)
theorem dX0_hang_19 : decode cX0_hang 19 = .ok (.iconst 3, 1) := dk_6 (dk_at dksX0_hang_0 19 rfl rfl)
theorem dX0_hang_20 : decode cX0_hang 20 = .ok (.ireturn, 1) := dk_172 (dk_at dksX0_hang_0 20 rfl rfl)
theorem dX0_hang_21 : decode cX0_hang 21 = .ok (.iconst 0, 1) := dk_3 (dk_at dksX0_hang_0 21 rfl rfl)
theorem dX0_hang_22 : decode cX0_hang 22 = .ok (.ireturn, 1) := dk_172 (dk_at dksX0_hang_0 22 rfl rfl)
abbrev cX0_hangAll : ByteArray := method_47_code
def yX0_hangAll : MethodName := ⟨RX0, "hangAll", "(LFlagLaundry;[J)I"⟩
def dkwX0_hangAll_0 : List UInt8 := [43, 3, 42, 182, 0, 153, 133, 80, 167, 0, 6, 77, 4, 172, 3, 172]
abbrev dktX0_hangAll_0 : List UInt8 := dkwX0_hangAll_0 ++ []
theorem dksX0_hangAll_0 : cX0_hangAll.data.toList.drop 0 = dktX0_hangAll_0 := by decide +kernel
theorem dX0_hangAll_0 : decode cX0_hangAll 0 = .ok (.aload_n 1, 1) := dk_43 (dk_at dksX0_hangAll_0 0 rfl rfl)
theorem dX0_hangAll_1 : decode cX0_hangAll 1 = .ok (.iconst 0, 1) := dk_3 (dk_at dksX0_hangAll_0 1 rfl rfl)
theorem dX0_hangAll_2 : decode cX0_hangAll 2 = .ok (.aload_n 0, 1) := dk_42 (dk_at dksX0_hangAll_0 2 rfl rfl)
theorem dX0_hangAll_3 : decode cX0_hangAll 3 = .ok (.invokevirtual 153, 3) := dk_182 0 153 (dk_at dksX0_hangAll_0 3 rfl rfl)
theorem dX0_hangAll_6 : decode cX0_hangAll 6 = .ok (.i2l, 1) := dk_133 (dk_at dksX0_hangAll_0 6 rfl rfl)
theorem dX0_hangAll_7 : decode cX0_hangAll 7 = .ok (.lastore, 1) := dk_80 (dk_at dksX0_hangAll_0 7 rfl rfl)
theorem dX0_hangAll_8 : decode cX0_hangAll 8 = .ok (.goto 6, 3) := dk_167 0 6 (dk_at dksX0_hangAll_0 8 rfl rfl)
theorem dX0_hangAll_11 : decode cX0_hangAll 11 = .ok (.astore_n 2, 1) := dk_77 (dk_at dksX0_hangAll_0 11 rfl rfl)
theorem dX0_hangAll_12 : decode cX0_hangAll 12 = .ok (.iconst 1, 1) := dk_4 (dk_at dksX0_hangAll_0 12 rfl rfl)
theorem dX0_hangAll_13 : decode cX0_hangAll 13 = .ok (.ireturn, 1) := dk_172 (dk_at dksX0_hangAll_0 13 rfl rfl)
theorem dX0_hangAll_14 : decode cX0_hangAll 14 = .ok (.iconst 0, 1) := dk_3 (dk_at dksX0_hangAll_0 14 rfl rfl)
theorem dX0_hangAll_15 : decode cX0_hangAll 15 = .ok (.ireturn, 1) := dk_172 (dk_at dksX0_hangAll_0 15 rfl rfl)
abbrev cX0_takeDown : ByteArray := method_48_code
def yX0_takeDown : MethodName := ⟨RX0, "takeDown", "(LFlagLaundry;I[J)I"⟩
def dkwX0_takeDown_0 : List UInt8 := [44, 3, 42, 27, 182, 0, 156, 133, 80, 167, 0, 12, 78, 4, 172, 78, 5, 172, 78, 6, 172, 3, 172]
abbrev dktX0_takeDown_0 : List UInt8 := dkwX0_takeDown_0 ++ []
theorem dksX0_takeDown_0 : cX0_takeDown.data.toList.drop 0 = dktX0_takeDown_0 := by decide +kernel
theorem dX0_takeDown_0 : decode cX0_takeDown 0 = .ok (.aload_n 2, 1) := dk_44 (dk_at dksX0_takeDown_0 0 rfl rfl)
theorem dX0_takeDown_1 : decode cX0_takeDown 1 = .ok (.iconst 0, 1) := dk_3 (dk_at dksX0_takeDown_0 1 rfl rfl)
theorem dX0_takeDown_2 : decode cX0_takeDown 2 = .ok (.aload_n 0, 1) := dk_42 (dk_at dksX0_takeDown_0 2 rfl rfl)
theorem dX0_takeDown_3 : decode cX0_takeDown 3 = .ok (.iload_n 1, 1) := dk_27 (dk_at dksX0_takeDown_0 3 rfl rfl)
theorem dX0_takeDown_4 : decode cX0_takeDown 4 = .ok (.invokevirtual 156, 3) := dk_182 0 156 (dk_at dksX0_takeDown_0 4 rfl rfl)
theorem dX0_takeDown_7 : decode cX0_takeDown 7 = .ok (.i2l, 1) := dk_133 (dk_at dksX0_takeDown_0 7 rfl rfl)
theorem dX0_takeDown_8 : decode cX0_takeDown 8 = .ok (.lastore, 1) := dk_80 (dk_at dksX0_takeDown_0 8 rfl rfl)
theorem dX0_takeDown_9 : decode cX0_takeDown 9 = .ok (.goto 12, 3) := dk_167 0 12 (dk_at dksX0_takeDown_0 9 rfl rfl)
theorem dX0_takeDown_12 : decode cX0_takeDown 12 = .ok (.astore_n 3, 1) := dk_78 (dk_at dksX0_takeDown_0 12 rfl rfl)
theorem dX0_takeDown_13 : decode cX0_takeDown 13 = .ok (.iconst 1, 1) := dk_4 (dk_at dksX0_takeDown_0 13 rfl rfl)
theorem dX0_takeDown_14 : decode cX0_takeDown 14 = .ok (.ireturn, 1) := dk_172 (dk_at dksX0_takeDown_0 14 rfl rfl)
theorem dX0_takeDown_15 : decode cX0_takeDown 15 = .ok (.astore_n 3, 1) := dk_78 (dk_at dksX0_takeDown_0 15 rfl rfl)
theorem dX0_takeDown_16 : decode cX0_takeDown 16 = .ok (.iconst 2, 1) := dk_5 (dk_at dksX0_takeDown_0 16 rfl rfl)
theorem dX0_takeDown_17 : decode cX0_takeDown 17 = .ok (.ireturn, 1) := dk_172 (dk_at dksX0_takeDown_0 17 rfl rfl)
theorem dX0_takeDown_18 : decode cX0_takeDown 18 = .ok (.astore_n 3, 1) := dk_78 (dk_at dksX0_takeDown_0 18 rfl rfl)
theorem dX0_takeDown_19 : decode cX0_takeDown 19 = .ok (.iconst 3, 1) := dk_6 (dk_at dksX0_takeDown_0 19 rfl rfl)
theorem dX0_takeDown_20 : decode cX0_takeDown 20 = .ok (.ireturn, 1) := dk_172 (dk_at dksX0_takeDown_0 20 rfl rfl)
theorem dX0_takeDown_21 : decode cX0_takeDown 21 = .ok (.iconst 0, 1) := dk_3 (dk_at dksX0_takeDown_0 21 rfl rfl)
theorem dX0_takeDown_22 : decode cX0_takeDown 22 = .ok (.ireturn, 1) := dk_172 (dk_at dksX0_takeDown_0 22 rfl rfl)
abbrev cX0_clearTub : ByteArray := method_49_code
def yX0_clearTub : MethodName := ⟨RX0, "clearTub", "(LFlagLaundry;I[J)I"⟩
def dkwX0_clearTub_0 : List UInt8 := [44, 3, 42, 27, 182, 0, 159, 133, 80, 167, 0, 9, 78, 4, 172, 78, 5, 172, 3, 172]
abbrev dktX0_clearTub_0 : List UInt8 := dkwX0_clearTub_0 ++ []
theorem dksX0_clearTub_0 : cX0_clearTub.data.toList.drop 0 = dktX0_clearTub_0 := by decide +kernel
theorem dX0_clearTub_0 : decode cX0_clearTub 0 = .ok (.aload_n 2, 1) := dk_44 (dk_at dksX0_clearTub_0 0 rfl rfl)
theorem dX0_clearTub_1 : decode cX0_clearTub 1 = .ok (.iconst 0, 1) := dk_3 (dk_at dksX0_clearTub_0 1 rfl rfl)
theorem dX0_clearTub_2 : decode cX0_clearTub 2 = .ok (.aload_n 0, 1) := dk_42 (dk_at dksX0_clearTub_0 2 rfl rfl)
theorem dX0_clearTub_3 : decode cX0_clearTub 3 = .ok (.iload_n 1, 1) := dk_27 (dk_at dksX0_clearTub_0 3 rfl rfl)
theorem dX0_clearTub_4 : decode cX0_clearTub 4 = .ok (.invokevirtual 159, 3) := dk_182 0 159 (dk_at dksX0_clearTub_0 4 rfl rfl)
theorem dX0_clearTub_7 : decode cX0_clearTub 7 = .ok (.i2l, 1) := dk_133 (dk_at dksX0_clearTub_0 7 rfl rfl)
theorem dX0_clearTub_8 : decode cX0_clearTub 8 = .ok (.lastore, 1) := dk_80 (dk_at dksX0_clearTub_0 8 rfl rfl)
theorem dX0_clearTub_9 : decode cX0_clearTub 9 = .ok (.goto 9, 3) := dk_167 0 9 (dk_at dksX0_clearTub_0 9 rfl rfl)
theorem dX0_clearTub_12 : decode cX0_clearTub 12 = .ok (.astore_n 3, 1) := dk_78 (dk_at dksX0_clearTub_0 12 rfl rfl)
theorem dX0_clearTub_13 : decode cX0_clearTub 13 = .ok (.iconst 1, 1) := dk_4 (dk_at dksX0_clearTub_0 13 rfl rfl)
theorem dX0_clearTub_14 : decode cX0_clearTub 14 = .ok (.ireturn, 1) := dk_172 (dk_at dksX0_clearTub_0 14 rfl rfl)
theorem dX0_clearTub_15 : decode cX0_clearTub 15 = .ok (.astore_n 3, 1) := dk_78 (dk_at dksX0_clearTub_0 15 rfl rfl)
theorem dX0_clearTub_16 : decode cX0_clearTub 16 = .ok (.iconst 2, 1) := dk_5 (dk_at dksX0_clearTub_0 16 rfl rfl)
theorem dX0_clearTub_17 : decode cX0_clearTub 17 = .ok (.ireturn, 1) := dk_172 (dk_at dksX0_clearTub_0 17 rfl rfl)
theorem dX0_clearTub_18 : decode cX0_clearTub 18 = .ok (.iconst 0, 1) := dk_3 (dk_at dksX0_clearTub_0 18 rfl rfl)
theorem dX0_clearTub_19 : decode cX0_clearTub 19 = .ok (.ireturn, 1) := dk_172 (dk_at dksX0_clearTub_0 19 rfl rfl)
abbrev cX0_iron : ByteArray := method_50_code
def yX0_iron : MethodName := ⟨RX0, "iron", "(LFlagLaundry;II[J)I"⟩
def dkwX0_iron_1 : List UInt8 := [172, 3, 172]
abbrev dktX0_iron_1 : List UInt8 := dkwX0_iron_1 ++ []
def dkwX0_iron_0 : List UInt8 := [45, 3, 42, 27, 28, 182, 0, 162, 133, 80, 167, 0, 15, 58, 4, 4, 172, 58, 4, 5, 172, 58, 4, 6]
abbrev dktX0_iron_0 : List UInt8 := dkwX0_iron_0 ++ dktX0_iron_1
theorem dksX0_iron_0 : cX0_iron.data.toList.drop 0 = dktX0_iron_0 := by decide +kernel
theorem dksX0_iron_1 : cX0_iron.data.toList.drop 24 = dktX0_iron_1 := dk_seg dksX0_iron_0 24 rfl rfl
theorem dX0_iron_0 : decode cX0_iron 0 = .ok (.aload_n 3, 1) := dk_45 (dk_at dksX0_iron_0 0 rfl rfl)
theorem dX0_iron_1 : decode cX0_iron 1 = .ok (.iconst 0, 1) := dk_3 (dk_at dksX0_iron_0 1 rfl rfl)
theorem dX0_iron_2 : decode cX0_iron 2 = .ok (.aload_n 0, 1) := dk_42 (dk_at dksX0_iron_0 2 rfl rfl)
theorem dX0_iron_3 : decode cX0_iron 3 = .ok (.iload_n 1, 1) := dk_27 (dk_at dksX0_iron_0 3 rfl rfl)
theorem dX0_iron_4 : decode cX0_iron 4 = .ok (.iload_n 2, 1) := dk_28 (dk_at dksX0_iron_0 4 rfl rfl)
theorem dX0_iron_5 : decode cX0_iron 5 = .ok (.invokevirtual 162, 3) := dk_182 0 162 (dk_at dksX0_iron_0 5 rfl rfl)
theorem dX0_iron_8 : decode cX0_iron 8 = .ok (.i2l, 1) := dk_133 (dk_at dksX0_iron_0 8 rfl rfl)
theorem dX0_iron_9 : decode cX0_iron 9 = .ok (.lastore, 1) := dk_80 (dk_at dksX0_iron_0 9 rfl rfl)
theorem dX0_iron_10 : decode cX0_iron 10 = .ok (.goto 15, 3) := dk_167 0 15 (dk_at dksX0_iron_0 10 rfl rfl)
theorem dX0_iron_13 : decode cX0_iron 13 = .ok (.astore 4, 2) := dk_58 4 (dk_at dksX0_iron_0 13 rfl rfl)
theorem dX0_iron_15 : decode cX0_iron 15 = .ok (.iconst 1, 1) := dk_4 (dk_at dksX0_iron_0 15 rfl rfl)
theorem dX0_iron_16 : decode cX0_iron 16 = .ok (.ireturn, 1) := dk_172 (dk_at dksX0_iron_0 16 rfl rfl)
theorem dX0_iron_17 : decode cX0_iron 17 = .ok (.astore 4, 2) := dk_58 4 (dk_at dksX0_iron_0 17 rfl rfl)
theorem dX0_iron_19 : decode cX0_iron 19 = .ok (.iconst 2, 1) := dk_5 (dk_at dksX0_iron_0 19 rfl rfl)
theorem dX0_iron_20 : decode cX0_iron 20 = .ok (.ireturn, 1) := dk_172 (dk_at dksX0_iron_0 20 rfl rfl)
theorem dX0_iron_21 : decode cX0_iron 21 = .ok (.astore 4, 2) := dk_58 4 (dk_at dksX0_iron_0 21 rfl rfl)
theorem dX0_iron_23 : decode cX0_iron 23 = .ok (.iconst 3, 1) := dk_6 (dk_at dksX0_iron_0 23 rfl rfl)
theorem dX0_iron_24 : decode cX0_iron 24 = .ok (.ireturn, 1) := dk_172 (dk_at dksX0_iron_1 0 rfl rfl)
theorem dX0_iron_25 : decode cX0_iron 25 = .ok (.iconst 0, 1) := dk_3 (dk_at dksX0_iron_1 1 rfl rfl)
theorem dX0_iron_26 : decode cX0_iron 26 = .ok (.ireturn, 1) := dk_172 (dk_at dksX0_iron_1 2 rfl rfl)
abbrev cX0_bleach : ByteArray := method_51_code
def yX0_bleach : MethodName := ⟨RX0, "bleach", "(LFlagLaundry;I[J)I"⟩
def dkwX0_bleach_0 : List UInt8 := [44, 3, 42, 27, 182, 0, 165, 133, 80, 167, 0, 12, 78, 4, 172, 78, 5, 172, 78, 6, 172, 3, 172]
abbrev dktX0_bleach_0 : List UInt8 := dkwX0_bleach_0 ++ []
theorem dksX0_bleach_0 : cX0_bleach.data.toList.drop 0 = dktX0_bleach_0 := by decide +kernel
theorem dX0_bleach_0 : decode cX0_bleach 0 = .ok (.aload_n 2, 1) := dk_44 (dk_at dksX0_bleach_0 0 rfl rfl)
theorem dX0_bleach_1 : decode cX0_bleach 1 = .ok (.iconst 0, 1) := dk_3 (dk_at dksX0_bleach_0 1 rfl rfl)
theorem dX0_bleach_2 : decode cX0_bleach 2 = .ok (.aload_n 0, 1) := dk_42 (dk_at dksX0_bleach_0 2 rfl rfl)
theorem dX0_bleach_3 : decode cX0_bleach 3 = .ok (.iload_n 1, 1) := dk_27 (dk_at dksX0_bleach_0 3 rfl rfl)
theorem dX0_bleach_4 : decode cX0_bleach 4 = .ok (.invokevirtual 165, 3) := dk_182 0 165 (dk_at dksX0_bleach_0 4 rfl rfl)
theorem dX0_bleach_7 : decode cX0_bleach 7 = .ok (.i2l, 1) := dk_133 (dk_at dksX0_bleach_0 7 rfl rfl)
theorem dX0_bleach_8 : decode cX0_bleach 8 = .ok (.lastore, 1) := dk_80 (dk_at dksX0_bleach_0 8 rfl rfl)
theorem dX0_bleach_9 : decode cX0_bleach 9 = .ok (.goto 12, 3) := dk_167 0 12 (dk_at dksX0_bleach_0 9 rfl rfl)
theorem dX0_bleach_12 : decode cX0_bleach 12 = .ok (.astore_n 3, 1) := dk_78 (dk_at dksX0_bleach_0 12 rfl rfl)
theorem dX0_bleach_13 : decode cX0_bleach 13 = .ok (.iconst 1, 1) := dk_4 (dk_at dksX0_bleach_0 13 rfl rfl)
theorem dX0_bleach_14 : decode cX0_bleach 14 = .ok (.ireturn, 1) := dk_172 (dk_at dksX0_bleach_0 14 rfl rfl)
theorem dX0_bleach_15 : decode cX0_bleach 15 = .ok (.astore_n 3, 1) := dk_78 (dk_at dksX0_bleach_0 15 rfl rfl)
theorem dX0_bleach_16 : decode cX0_bleach 16 = .ok (.iconst 2, 1) := dk_5 (dk_at dksX0_bleach_0 16 rfl rfl)
theorem dX0_bleach_17 : decode cX0_bleach 17 = .ok (.ireturn, 1) := dk_172 (dk_at dksX0_bleach_0 17 rfl rfl)
theorem dX0_bleach_18 : decode cX0_bleach 18 = .ok (.astore_n 3, 1) := dk_78 (dk_at dksX0_bleach_0 18 rfl rfl)
theorem dX0_bleach_19 : decode cX0_bleach 19 = .ok (.iconst 3, 1) := dk_6 (dk_at dksX0_bleach_0 19 rfl rfl)
theorem dX0_bleach_20 : decode cX0_bleach 20 = .ok (.ireturn, 1) := dk_172 (dk_at dksX0_bleach_0 20 rfl rfl)
theorem dX0_bleach_21 : decode cX0_bleach 21 = .ok (.iconst 0, 1) := dk_3 (dk_at dksX0_bleach_0 21 rfl rfl)
theorem dX0_bleach_22 : decode cX0_bleach 22 = .ok (.ireturn, 1) := dk_172 (dk_at dksX0_bleach_0 22 rfl rfl)
abbrev cX0_handOver : ByteArray := method_52_code
def yX0_handOver : MethodName := ⟨RX0, "handOver", "(LFlagLaundry;I[J)I"⟩
def dkwX0_handOver_0 : List UInt8 := [44, 3, 42, 27, 182, 0, 168, 133, 80, 167, 0, 12, 78, 4, 172, 78, 5, 172, 78, 6, 172, 3, 172]
abbrev dktX0_handOver_0 : List UInt8 := dkwX0_handOver_0 ++ []
theorem dksX0_handOver_0 : cX0_handOver.data.toList.drop 0 = dktX0_handOver_0 := by decide +kernel
theorem dX0_handOver_0 : decode cX0_handOver 0 = .ok (.aload_n 2, 1) := dk_44 (dk_at dksX0_handOver_0 0 rfl rfl)
theorem dX0_handOver_1 : decode cX0_handOver 1 = .ok (.iconst 0, 1) := dk_3 (dk_at dksX0_handOver_0 1 rfl rfl)
theorem dX0_handOver_2 : decode cX0_handOver 2 = .ok (.aload_n 0, 1) := dk_42 (dk_at dksX0_handOver_0 2 rfl rfl)
theorem dX0_handOver_3 : decode cX0_handOver 3 = .ok (.iload_n 1, 1) := dk_27 (dk_at dksX0_handOver_0 3 rfl rfl)
theorem dX0_handOver_4 : decode cX0_handOver 4 = .ok (.invokevirtual 168, 3) := dk_182 0 168 (dk_at dksX0_handOver_0 4 rfl rfl)
theorem dX0_handOver_7 : decode cX0_handOver 7 = .ok (.i2l, 1) := dk_133 (dk_at dksX0_handOver_0 7 rfl rfl)
theorem dX0_handOver_8 : decode cX0_handOver 8 = .ok (.lastore, 1) := dk_80 (dk_at dksX0_handOver_0 8 rfl rfl)
theorem dX0_handOver_9 : decode cX0_handOver 9 = .ok (.goto 12, 3) := dk_167 0 12 (dk_at dksX0_handOver_0 9 rfl rfl)
theorem dX0_handOver_12 : decode cX0_handOver 12 = .ok (.astore_n 3, 1) := dk_78 (dk_at dksX0_handOver_0 12 rfl rfl)
theorem dX0_handOver_13 : decode cX0_handOver 13 = .ok (.iconst 1, 1) := dk_4 (dk_at dksX0_handOver_0 13 rfl rfl)
theorem dX0_handOver_14 : decode cX0_handOver 14 = .ok (.ireturn, 1) := dk_172 (dk_at dksX0_handOver_0 14 rfl rfl)
theorem dX0_handOver_15 : decode cX0_handOver 15 = .ok (.astore_n 3, 1) := dk_78 (dk_at dksX0_handOver_0 15 rfl rfl)
theorem dX0_handOver_16 : decode cX0_handOver 16 = .ok (.iconst 2, 1) := dk_5 (dk_at dksX0_handOver_0 16 rfl rfl)
theorem dX0_handOver_17 : decode cX0_handOver 17 = .ok (.ireturn, 1) := dk_172 (dk_at dksX0_handOver_0 17 rfl rfl)
theorem dX0_handOver_18 : decode cX0_handOver 18 = .ok (.astore_n 3, 1) := dk_78 (dk_at dksX0_handOver_0 18 rfl rfl)
theorem dX0_handOver_19 : decode cX0_handOver 19 = .ok (.iconst 3, 1) := dk_6 (dk_at dksX0_handOver_0 19 rfl rfl)
theorem dX0_handOver_20 : decode cX0_handOver 20 = .ok (.ireturn, 1) := dk_172 (dk_at dksX0_handOver_0 20 rfl rfl)
theorem dX0_handOver_21 : decode cX0_handOver 21 = .ok (.iconst 0, 1) := dk_3 (dk_at dksX0_handOver_0 21 rfl rfl)
theorem dX0_handOver_22 : decode cX0_handOver 22 = .ok (.ireturn, 1) := dk_172 (dk_at dksX0_handOver_0 22 rfl rfl)
abbrev cX0_pass : ByteArray := method_53_code
def yX0_pass : MethodName := ⟨RX0, "pass", "(LFlagLaundry;I[J)I"⟩
def dkwX0_pass_0 : List UInt8 := [44, 3, 42, 27, 182, 0, 171, 133, 80, 167, 0, 9, 78, 4, 172, 78, 5, 172, 3, 172]
abbrev dktX0_pass_0 : List UInt8 := dkwX0_pass_0 ++ []
theorem dksX0_pass_0 : cX0_pass.data.toList.drop 0 = dktX0_pass_0 := by decide +kernel
theorem dX0_pass_0 : decode cX0_pass 0 = .ok (.aload_n 2, 1) := dk_44 (dk_at dksX0_pass_0 0 rfl rfl)
theorem dX0_pass_1 : decode cX0_pass 1 = .ok (.iconst 0, 1) := dk_3 (dk_at dksX0_pass_0 1 rfl rfl)
theorem dX0_pass_2 : decode cX0_pass 2 = .ok (.aload_n 0, 1) := dk_42 (dk_at dksX0_pass_0 2 rfl rfl)
theorem dX0_pass_3 : decode cX0_pass 3 = .ok (.iload_n 1, 1) := dk_27 (dk_at dksX0_pass_0 3 rfl rfl)
theorem dX0_pass_4 : decode cX0_pass 4 = .ok (.invokevirtual 171, 3) := dk_182 0 171 (dk_at dksX0_pass_0 4 rfl rfl)
theorem dX0_pass_7 : decode cX0_pass 7 = .ok (.i2l, 1) := dk_133 (dk_at dksX0_pass_0 7 rfl rfl)
theorem dX0_pass_8 : decode cX0_pass 8 = .ok (.lastore, 1) := dk_80 (dk_at dksX0_pass_0 8 rfl rfl)
theorem dX0_pass_9 : decode cX0_pass 9 = .ok (.goto 9, 3) := dk_167 0 9 (dk_at dksX0_pass_0 9 rfl rfl)
theorem dX0_pass_12 : decode cX0_pass 12 = .ok (.astore_n 3, 1) := dk_78 (dk_at dksX0_pass_0 12 rfl rfl)
theorem dX0_pass_13 : decode cX0_pass 13 = .ok (.iconst 1, 1) := dk_4 (dk_at dksX0_pass_0 13 rfl rfl)
theorem dX0_pass_14 : decode cX0_pass 14 = .ok (.ireturn, 1) := dk_172 (dk_at dksX0_pass_0 14 rfl rfl)
theorem dX0_pass_15 : decode cX0_pass 15 = .ok (.astore_n 3, 1) := dk_78 (dk_at dksX0_pass_0 15 rfl rfl)
theorem dX0_pass_16 : decode cX0_pass 16 = .ok (.iconst 2, 1) := dk_5 (dk_at dksX0_pass_0 16 rfl rfl)
theorem dX0_pass_17 : decode cX0_pass 17 = .ok (.ireturn, 1) := dk_172 (dk_at dksX0_pass_0 17 rfl rfl)
theorem dX0_pass_18 : decode cX0_pass 18 = .ok (.iconst 0, 1) := dk_3 (dk_at dksX0_pass_0 18 rfl rfl)
theorem dX0_pass_19 : decode cX0_pass 19 = .ok (.ireturn, 1) := dk_172 (dk_at dksX0_pass_0 19 rfl rfl)
abbrev cX0_setWind : ByteArray := method_54_code
def yX0_setWind : MethodName := ⟨RX0, "setWind", "(LFlagLaundry;I[J)I"⟩
def dkwX0_setWind_0 : List UInt8 := [44, 3, 42, 27, 182, 0, 174, 133, 80, 167, 0, 9, 78, 4, 172, 78, 5, 172, 3, 172]
abbrev dktX0_setWind_0 : List UInt8 := dkwX0_setWind_0 ++ []
theorem dksX0_setWind_0 : cX0_setWind.data.toList.drop 0 = dktX0_setWind_0 := by decide +kernel
theorem dX0_setWind_0 : decode cX0_setWind 0 = .ok (.aload_n 2, 1) := dk_44 (dk_at dksX0_setWind_0 0 rfl rfl)
theorem dX0_setWind_1 : decode cX0_setWind 1 = .ok (.iconst 0, 1) := dk_3 (dk_at dksX0_setWind_0 1 rfl rfl)
theorem dX0_setWind_2 : decode cX0_setWind 2 = .ok (.aload_n 0, 1) := dk_42 (dk_at dksX0_setWind_0 2 rfl rfl)
theorem dX0_setWind_3 : decode cX0_setWind 3 = .ok (.iload_n 1, 1) := dk_27 (dk_at dksX0_setWind_0 3 rfl rfl)
theorem dX0_setWind_4 : decode cX0_setWind 4 = .ok (.invokevirtual 174, 3) := dk_182 0 174 (dk_at dksX0_setWind_0 4 rfl rfl)
theorem dX0_setWind_7 : decode cX0_setWind 7 = .ok (.i2l, 1) := dk_133 (dk_at dksX0_setWind_0 7 rfl rfl)
theorem dX0_setWind_8 : decode cX0_setWind 8 = .ok (.lastore, 1) := dk_80 (dk_at dksX0_setWind_0 8 rfl rfl)
theorem dX0_setWind_9 : decode cX0_setWind 9 = .ok (.goto 9, 3) := dk_167 0 9 (dk_at dksX0_setWind_0 9 rfl rfl)
theorem dX0_setWind_12 : decode cX0_setWind 12 = .ok (.astore_n 3, 1) := dk_78 (dk_at dksX0_setWind_0 12 rfl rfl)
theorem dX0_setWind_13 : decode cX0_setWind 13 = .ok (.iconst 1, 1) := dk_4 (dk_at dksX0_setWind_0 13 rfl rfl)
theorem dX0_setWind_14 : decode cX0_setWind 14 = .ok (.ireturn, 1) := dk_172 (dk_at dksX0_setWind_0 14 rfl rfl)
theorem dX0_setWind_15 : decode cX0_setWind 15 = .ok (.astore_n 3, 1) := dk_78 (dk_at dksX0_setWind_0 15 rfl rfl)
theorem dX0_setWind_16 : decode cX0_setWind 16 = .ok (.iconst 2, 1) := dk_5 (dk_at dksX0_setWind_0 16 rfl rfl)
theorem dX0_setWind_17 : decode cX0_setWind 17 = .ok (.ireturn, 1) := dk_172 (dk_at dksX0_setWind_0 17 rfl rfl)
theorem dX0_setWind_18 : decode cX0_setWind 18 = .ok (.iconst 0, 1) := dk_3 (dk_at dksX0_setWind_0 18 rfl rfl)
theorem dX0_setWind_19 : decode cX0_setWind 19 = .ok (.ireturn, 1) := dk_172 (dk_at dksX0_setWind_0 19 rfl rfl)
abbrev cX0_addFlag : ByteArray := method_55_code
def yX0_addFlag : MethodName := ⟨RX0, "addFlag", "(LFlagLaundry;IIII[J)I"⟩
def dkwX0_addFlag_1 : List UInt8 := [172, 58, 6, 6, 172, 3, 172]
abbrev dktX0_addFlag_1 : List UInt8 := dkwX0_addFlag_1 ++ []
def dkwX0_addFlag_0 : List UInt8 := [25, 5, 3, 42, 27, 28, 29, 21, 4, 182, 0, 177, 133, 80, 167, 0, 15, 58, 6, 4, 172, 58, 6, 5]
abbrev dktX0_addFlag_0 : List UInt8 := dkwX0_addFlag_0 ++ dktX0_addFlag_1
theorem dksX0_addFlag_0 : cX0_addFlag.data.toList.drop 0 = dktX0_addFlag_0 := by decide +kernel
theorem dksX0_addFlag_1 : cX0_addFlag.data.toList.drop 24 = dktX0_addFlag_1 := dk_seg dksX0_addFlag_0 24 rfl rfl
theorem dX0_addFlag_0 : decode cX0_addFlag 0 = .ok (.aload 5, 2) := dk_25 5 (dk_at dksX0_addFlag_0 0 rfl rfl)
theorem dX0_addFlag_2 : decode cX0_addFlag 2 = .ok (.iconst 0, 1) := dk_3 (dk_at dksX0_addFlag_0 2 rfl rfl)
theorem dX0_addFlag_3 : decode cX0_addFlag 3 = .ok (.aload_n 0, 1) := dk_42 (dk_at dksX0_addFlag_0 3 rfl rfl)
theorem dX0_addFlag_4 : decode cX0_addFlag 4 = .ok (.iload_n 1, 1) := dk_27 (dk_at dksX0_addFlag_0 4 rfl rfl)
theorem dX0_addFlag_5 : decode cX0_addFlag 5 = .ok (.iload_n 2, 1) := dk_28 (dk_at dksX0_addFlag_0 5 rfl rfl)
theorem dX0_addFlag_6 : decode cX0_addFlag 6 = .ok (.iload_n 3, 1) := dk_29 (dk_at dksX0_addFlag_0 6 rfl rfl)
theorem dX0_addFlag_7 : decode cX0_addFlag 7 = .ok (.iload 4, 2) := dk_21 4 (dk_at dksX0_addFlag_0 7 rfl rfl)
theorem dX0_addFlag_9 : decode cX0_addFlag 9 = .ok (.invokevirtual 177, 3) := dk_182 0 177 (dk_at dksX0_addFlag_0 9 rfl rfl)
theorem dX0_addFlag_12 : decode cX0_addFlag 12 = .ok (.i2l, 1) := dk_133 (dk_at dksX0_addFlag_0 12 rfl rfl)
theorem dX0_addFlag_13 : decode cX0_addFlag 13 = .ok (.lastore, 1) := dk_80 (dk_at dksX0_addFlag_0 13 rfl rfl)
theorem dX0_addFlag_14 : decode cX0_addFlag 14 = .ok (.goto 15, 3) := dk_167 0 15 (dk_at dksX0_addFlag_0 14 rfl rfl)
theorem dX0_addFlag_17 : decode cX0_addFlag 17 = .ok (.astore 6, 2) := dk_58 6 (dk_at dksX0_addFlag_0 17 rfl rfl)
theorem dX0_addFlag_19 : decode cX0_addFlag 19 = .ok (.iconst 1, 1) := dk_4 (dk_at dksX0_addFlag_0 19 rfl rfl)
theorem dX0_addFlag_20 : decode cX0_addFlag 20 = .ok (.ireturn, 1) := dk_172 (dk_at dksX0_addFlag_0 20 rfl rfl)
theorem dX0_addFlag_21 : decode cX0_addFlag 21 = .ok (.astore 6, 2) := dk_58 6 (dk_at dksX0_addFlag_0 21 rfl rfl)
theorem dX0_addFlag_23 : decode cX0_addFlag 23 = .ok (.iconst 2, 1) := dk_5 (dk_at dksX0_addFlag_0 23 rfl rfl)
theorem dX0_addFlag_24 : decode cX0_addFlag 24 = .ok (.ireturn, 1) := dk_172 (dk_at dksX0_addFlag_1 0 rfl rfl)
theorem dX0_addFlag_25 : decode cX0_addFlag 25 = .ok (.astore 6, 2) := dk_58 6 (dk_at dksX0_addFlag_1 1 rfl rfl)
theorem dX0_addFlag_27 : decode cX0_addFlag 27 = .ok (.iconst 3, 1) := dk_6 (dk_at dksX0_addFlag_1 3 rfl rfl)
theorem dX0_addFlag_28 : decode cX0_addFlag 28 = .ok (.ireturn, 1) := dk_172 (dk_at dksX0_addFlag_1 4 rfl rfl)
theorem dX0_addFlag_29 : decode cX0_addFlag 29 = .ok (.iconst 0, 1) := dk_3 (dk_at dksX0_addFlag_1 5 rfl rfl)
theorem dX0_addFlag_30 : decode cX0_addFlag 30 = .ok (.ireturn, 1) := dk_172 (dk_at dksX0_addFlag_1 6 rfl rfl)
abbrev cX0_undo : ByteArray := method_56_code
def yX0_undo : MethodName := ⟨RX0, "undo", "(LFlagLaundry;[J)I"⟩
def dkwX0_undo_0 : List UInt8 := [43, 3, 42, 182, 0, 181, 133, 80, 167, 0, 6, 77, 4, 172, 3, 172]
abbrev dktX0_undo_0 : List UInt8 := dkwX0_undo_0 ++ []
theorem dksX0_undo_0 : cX0_undo.data.toList.drop 0 = dktX0_undo_0 := by decide +kernel
theorem dX0_undo_0 : decode cX0_undo 0 = .ok (.aload_n 1, 1) := dk_43 (dk_at dksX0_undo_0 0 rfl rfl)
theorem dX0_undo_1 : decode cX0_undo 1 = .ok (.iconst 0, 1) := dk_3 (dk_at dksX0_undo_0 1 rfl rfl)
theorem dX0_undo_2 : decode cX0_undo 2 = .ok (.aload_n 0, 1) := dk_42 (dk_at dksX0_undo_0 2 rfl rfl)
theorem dX0_undo_3 : decode cX0_undo 3 = .ok (.invokevirtual 181, 3) := dk_182 0 181 (dk_at dksX0_undo_0 3 rfl rfl)
theorem dX0_undo_6 : decode cX0_undo 6 = .ok (.i2l, 1) := dk_133 (dk_at dksX0_undo_0 6 rfl rfl)
theorem dX0_undo_7 : decode cX0_undo 7 = .ok (.lastore, 1) := dk_80 (dk_at dksX0_undo_0 7 rfl rfl)
theorem dX0_undo_8 : decode cX0_undo 8 = .ok (.goto 6, 3) := dk_167 0 6 (dk_at dksX0_undo_0 8 rfl rfl)
theorem dX0_undo_11 : decode cX0_undo 11 = .ok (.astore_n 2, 1) := dk_77 (dk_at dksX0_undo_0 11 rfl rfl)
theorem dX0_undo_12 : decode cX0_undo 12 = .ok (.iconst 1, 1) := dk_4 (dk_at dksX0_undo_0 12 rfl rfl)
theorem dX0_undo_13 : decode cX0_undo 13 = .ok (.ireturn, 1) := dk_172 (dk_at dksX0_undo_0 13 rfl rfl)
theorem dX0_undo_14 : decode cX0_undo 14 = .ok (.iconst 0, 1) := dk_3 (dk_at dksX0_undo_0 14 rfl rfl)
theorem dX0_undo_15 : decode cX0_undo 15 = .ok (.ireturn, 1) := dk_172 (dk_at dksX0_undo_0 15 rfl rfl)
abbrev cX0_save : ByteArray := method_57_code
def yX0_save : MethodName := ⟨RX0, "save", "(LFlagLaundry;I[J)I"⟩
def dkwX0_save_0 : List UInt8 := [44, 3, 42, 27, 182, 0, 184, 133, 80, 167, 0, 9, 78, 4, 172, 78, 5, 172, 3, 172]
abbrev dktX0_save_0 : List UInt8 := dkwX0_save_0 ++ []
theorem dksX0_save_0 : cX0_save.data.toList.drop 0 = dktX0_save_0 := by decide +kernel
theorem dX0_save_0 : decode cX0_save 0 = .ok (.aload_n 2, 1) := dk_44 (dk_at dksX0_save_0 0 rfl rfl)
theorem dX0_save_1 : decode cX0_save 1 = .ok (.iconst 0, 1) := dk_3 (dk_at dksX0_save_0 1 rfl rfl)
theorem dX0_save_2 : decode cX0_save 2 = .ok (.aload_n 0, 1) := dk_42 (dk_at dksX0_save_0 2 rfl rfl)
theorem dX0_save_3 : decode cX0_save 3 = .ok (.iload_n 1, 1) := dk_27 (dk_at dksX0_save_0 3 rfl rfl)
theorem dX0_save_4 : decode cX0_save 4 = .ok (.invokevirtual 184, 3) := dk_182 0 184 (dk_at dksX0_save_0 4 rfl rfl)
theorem dX0_save_7 : decode cX0_save 7 = .ok (.i2l, 1) := dk_133 (dk_at dksX0_save_0 7 rfl rfl)
theorem dX0_save_8 : decode cX0_save 8 = .ok (.lastore, 1) := dk_80 (dk_at dksX0_save_0 8 rfl rfl)
theorem dX0_save_9 : decode cX0_save 9 = .ok (.goto 9, 3) := dk_167 0 9 (dk_at dksX0_save_0 9 rfl rfl)
theorem dX0_save_12 : decode cX0_save 12 = .ok (.astore_n 3, 1) := dk_78 (dk_at dksX0_save_0 12 rfl rfl)
theorem dX0_save_13 : decode cX0_save 13 = .ok (.iconst 1, 1) := dk_4 (dk_at dksX0_save_0 13 rfl rfl)
theorem dX0_save_14 : decode cX0_save 14 = .ok (.ireturn, 1) := dk_172 (dk_at dksX0_save_0 14 rfl rfl)
theorem dX0_save_15 : decode cX0_save 15 = .ok (.astore_n 3, 1) := dk_78 (dk_at dksX0_save_0 15 rfl rfl)
theorem dX0_save_16 : decode cX0_save 16 = .ok (.iconst 2, 1) := dk_5 (dk_at dksX0_save_0 16 rfl rfl)
theorem dX0_save_17 : decode cX0_save 17 = .ok (.ireturn, 1) := dk_172 (dk_at dksX0_save_0 17 rfl rfl)
theorem dX0_save_18 : decode cX0_save 18 = .ok (.iconst 0, 1) := dk_3 (dk_at dksX0_save_0 18 rfl rfl)
theorem dX0_save_19 : decode cX0_save 19 = .ok (.ireturn, 1) := dk_172 (dk_at dksX0_save_0 19 rfl rfl)
abbrev cX0_restore : ByteArray := method_58_code
def yX0_restore : MethodName := ⟨RX0, "restore", "(LFlagLaundry;I[J)I"⟩
def dkwX0_restore_0 : List UInt8 := [44, 3, 42, 27, 182, 0, 187, 133, 80, 167, 0, 9, 78, 4, 172, 78, 5, 172, 3, 172]
abbrev dktX0_restore_0 : List UInt8 := dkwX0_restore_0 ++ []
theorem dksX0_restore_0 : cX0_restore.data.toList.drop 0 = dktX0_restore_0 := by decide +kernel
theorem dX0_restore_0 : decode cX0_restore 0 = .ok (.aload_n 2, 1) := dk_44 (dk_at dksX0_restore_0 0 rfl rfl)
theorem dX0_restore_1 : decode cX0_restore 1 = .ok (.iconst 0, 1) := dk_3 (dk_at dksX0_restore_0 1 rfl rfl)
theorem dX0_restore_2 : decode cX0_restore 2 = .ok (.aload_n 0, 1) := dk_42 (dk_at dksX0_restore_0 2 rfl rfl)
theorem dX0_restore_3 : decode cX0_restore 3 = .ok (.iload_n 1, 1) := dk_27 (dk_at dksX0_restore_0 3 rfl rfl)
theorem dX0_restore_4 : decode cX0_restore 4 = .ok (.invokevirtual 187, 3) := dk_182 0 187 (dk_at dksX0_restore_0 4 rfl rfl)
theorem dX0_restore_7 : decode cX0_restore 7 = .ok (.i2l, 1) := dk_133 (dk_at dksX0_restore_0 7 rfl rfl)
theorem dX0_restore_8 : decode cX0_restore 8 = .ok (.lastore, 1) := dk_80 (dk_at dksX0_restore_0 8 rfl rfl)
theorem dX0_restore_9 : decode cX0_restore 9 = .ok (.goto 9, 3) := dk_167 0 9 (dk_at dksX0_restore_0 9 rfl rfl)
theorem dX0_restore_12 : decode cX0_restore 12 = .ok (.astore_n 3, 1) := dk_78 (dk_at dksX0_restore_0 12 rfl rfl)
theorem dX0_restore_13 : decode cX0_restore 13 = .ok (.iconst 1, 1) := dk_4 (dk_at dksX0_restore_0 13 rfl rfl)
theorem dX0_restore_14 : decode cX0_restore 14 = .ok (.ireturn, 1) := dk_172 (dk_at dksX0_restore_0 14 rfl rfl)
theorem dX0_restore_15 : decode cX0_restore 15 = .ok (.astore_n 3, 1) := dk_78 (dk_at dksX0_restore_0 15 rfl rfl)
theorem dX0_restore_16 : decode cX0_restore 16 = .ok (.iconst 2, 1) := dk_5 (dk_at dksX0_restore_0 16 rfl rfl)
theorem dX0_restore_17 : decode cX0_restore 17 = .ok (.ireturn, 1) := dk_172 (dk_at dksX0_restore_0 17 rfl rfl)
theorem dX0_restore_18 : decode cX0_restore 18 = .ok (.iconst 0, 1) := dk_3 (dk_at dksX0_restore_0 18 rfl rfl)
theorem dX0_restore_19 : decode cX0_restore 19 = .ok (.ireturn, 1) := dk_172 (dk_at dksX0_restore_0 19 rfl rfl)
theorem q132 : (Jvm.Cond.initialized "FlagLaundryLaw") ∈ lw_all := lw_g (lw_at lw_m1 0 rfl) rfl
theorem q173 : (Jvm.Cond.classLink "FlagLaundryLaw" (8 : Nat) "FlagLaundry") ∈ lw_all := lw_g (lw_at lw_m1 41 rfl) rfl
theorem q175 : (Jvm.Cond.methodLink "FlagLaundryLaw" (190 : Nat) ({ cls := "FlagLaundry", name := "<init>", desc := "()V" } : Jvm.MethodName)) ∈ lw_all := lw_g (lw_at lw_m1 43 rfl) rfl
theorem q263 : (Jvm.Cond.methodLink "FlagLaundryLaw" (194 : Nat) ({ cls := "FlagLaundry", name := "append", desc := "(IIIII)I" } : Jvm.MethodName)) ∈ lw_all := lw_g (lw_at lw_m1 131 rfl) rfl
theorem q268 : (Jvm.Cond.methodLink "FlagLaundryLaw" (208 : Nat) ({ cls := "FlagLaundry", name := "parseError", desc := "()I" } : Jvm.MethodName)) ∈ lw_all := lw_g (lw_at lw_m1 136 rfl) rfl
theorem q272 : (Jvm.Cond.methodLink "FlagLaundryLaw" (212 : Nat) ({ cls := "FlagLaundry", name := "errorPosition", desc := "()I" } : Jvm.MethodName)) ∈ lw_all := lw_g (lw_at lw_m1 140 rfl) rfl
theorem q276 : (Jvm.Cond.methodLink "FlagLaundryLaw" (216 : Nat) ({ cls := "FlagLaundry", name := "buffered", desc := "()I" } : Jvm.MethodName)) ∈ lw_all := lw_g (lw_at lw_m1 144 rfl) rfl
theorem q280 : (Jvm.Cond.methodLink "FlagLaundryLaw" (384 : Nat) ({ cls := "FlagLaundry", name := "undoable", desc := "()I" } : Jvm.MethodName)) ∈ lw_all := lw_g (lw_at lw_m1 148 rfl) rfl
theorem q291 : (Jvm.Cond.methodLink "FlagLaundryLaw" (199 : Nat) ({ cls := "FlagLaundryLaw", name := "load", desc := "(LFlagLaundry;I[J)I" } : Jvm.MethodName)) ∈ lw_all := lw_g (lw_at lw_m1 159 rfl) rfl
theorem q292 : (Jvm.Cond.static ({ cls := "FlagLaundryLaw", name := "load", desc := "(LFlagLaundry;I[J)I" } : Jvm.MethodName)) ∈ lw_all := lw_g (lw_at lw_m1 160 rfl) rfl
theorem q293 : (Jvm.Cond.codeWith ({ cls := "FlagLaundryLaw", name := "load", desc := "(LFlagLaundry;I[J)I" } : Jvm.MethodName) method_3_code (4 : Nat) (Option.some Jvm.ClassFile.FieldType.int) [((0 : Nat), (9 : Nat), (12 : Nat), (13 : Nat)), ((0 : Nat), (9 : Nat), (15 : Nat), (15 : Nat))]) ∈ lw_all := lw_g (lw_at lw_m1 161 rfl) rfl
theorem q294 : (Jvm.Cond.classLink "FlagLaundryLaw" (13 : Nat) "java/lang/IndexOutOfBoundsException") ∈ lw_all := lw_g (lw_at lw_m1 162 rfl) rfl
theorem q372 : (Jvm.Cond.classLink "FlagLaundryLaw" (15 : Nat) "java/lang/IllegalArgumentException") ∈ lw_all := lw_g (lw_at lw_m2 0 rfl) rfl
theorem q373 : (Jvm.Cond.methodLink "FlagLaundryLaw" (7 : Nat) ({ cls := "FlagLaundry", name := "load", desc := "(I)I" } : Jvm.MethodName)) ∈ lw_all := lw_g (lw_at lw_m2 1 rfl) rfl
theorem q1375 : (Jvm.Cond.methodLink "FlagLaundryLaw" (220 : Nat) ({ cls := "FlagLaundryLaw", name := "count", desc := "(LFlagLaundry;I[J)I" } : Jvm.MethodName)) ∈ lw_all := lw_g (lw_at lw_m6 43 rfl) rfl
theorem q1376 : (Jvm.Cond.static ({ cls := "FlagLaundryLaw", name := "count", desc := "(LFlagLaundry;I[J)I" } : Jvm.MethodName)) ∈ lw_all := lw_g (lw_at lw_m6 44 rfl) rfl
theorem q1377 : (Jvm.Cond.codeWith ({ cls := "FlagLaundryLaw", name := "count", desc := "(LFlagLaundry;I[J)I" } : Jvm.MethodName) method_4_code (4 : Nat) (Option.some Jvm.ClassFile.FieldType.int) [((0 : Nat), (9 : Nat), (12 : Nat), (20 : Nat)), ((0 : Nat), (9 : Nat), (15 : Nat), (15 : Nat))]) ∈ lw_all := lw_g (lw_at lw_m6 45 rfl) rfl
theorem q1378 : (Jvm.Cond.classLink "FlagLaundryLaw" (20 : Nat) "java/lang/IllegalStateException") ∈ lw_all := lw_g (lw_at lw_m6 46 rfl) rfl
theorem q1379 : (Jvm.Cond.methodLink "FlagLaundryLaw" (17 : Nat) ({ cls := "FlagLaundry", name := "count", desc := "(I)I" } : Jvm.MethodName)) ∈ lw_all := lw_g (lw_at lw_m6 47 rfl) rfl
theorem q1435 : (Jvm.Cond.methodLink "FlagLaundryLaw" (223 : Nat) ({ cls := "FlagLaundryLaw", name := "colour", desc := "(LFlagLaundry;II[J)I" } : Jvm.MethodName)) ∈ lw_all := lw_g (lw_at lw_m6 103 rfl) rfl
theorem q1436 : (Jvm.Cond.static ({ cls := "FlagLaundryLaw", name := "colour", desc := "(LFlagLaundry;II[J)I" } : Jvm.MethodName)) ∈ lw_all := lw_g (lw_at lw_m6 104 rfl) rfl
theorem q1437 : (Jvm.Cond.codeWith ({ cls := "FlagLaundryLaw", name := "colour", desc := "(LFlagLaundry;II[J)I" } : Jvm.MethodName) method_5_code (5 : Nat) (Option.some Jvm.ClassFile.FieldType.int) [((0 : Nat), (10 : Nat), (13 : Nat), (20 : Nat)), ((0 : Nat), (10 : Nat), (17 : Nat), (13 : Nat)), ((0 : Nat), (10 : Nat), (21 : Nat), (15 : Nat))]) ∈ lw_all := lw_g (lw_at lw_m6 105 rfl) rfl
theorem q1438 : (Jvm.Cond.methodLink "FlagLaundryLaw" (22 : Nat) ({ cls := "FlagLaundry", name := "colour", desc := "(II)I" } : Jvm.MethodName)) ∈ lw_all := lw_g (lw_at lw_m6 106 rfl) rfl
theorem q1448 : (Jvm.Cond.methodLink "FlagLaundryLaw" (227 : Nat) ({ cls := "FlagLaundryLaw", name := "nation", desc := "(LFlagLaundry;II[J)I" } : Jvm.MethodName)) ∈ lw_all := lw_g (lw_at lw_m6 116 rfl) rfl
theorem q1449 : (Jvm.Cond.static ({ cls := "FlagLaundryLaw", name := "nation", desc := "(LFlagLaundry;II[J)I" } : Jvm.MethodName)) ∈ lw_all := lw_g (lw_at lw_m6 117 rfl) rfl
theorem q1450 : (Jvm.Cond.codeWith ({ cls := "FlagLaundryLaw", name := "nation", desc := "(LFlagLaundry;II[J)I" } : Jvm.MethodName) method_6_code (5 : Nat) (Option.some Jvm.ClassFile.FieldType.int) [((0 : Nat), (10 : Nat), (13 : Nat), (20 : Nat)), ((0 : Nat), (10 : Nat), (17 : Nat), (13 : Nat)), ((0 : Nat), (10 : Nat), (21 : Nat), (15 : Nat))]) ∈ lw_all := lw_g (lw_at lw_m6 118 rfl) rfl
theorem q1451 : (Jvm.Cond.methodLink "FlagLaundryLaw" (26 : Nat) ({ cls := "FlagLaundry", name := "nation", desc := "(II)I" } : Jvm.MethodName)) ∈ lw_all := lw_g (lw_at lw_m6 119 rfl) rfl
theorem q1483 : (Jvm.Cond.methodLink "FlagLaundryLaw" (230 : Nat) ({ cls := "FlagLaundryLaw", name := "flag", desc := "(LFlagLaundry;II[J)I" } : Jvm.MethodName)) ∈ lw_all := lw_g (lw_at lw_m6 151 rfl) rfl
theorem q1484 : (Jvm.Cond.static ({ cls := "FlagLaundryLaw", name := "flag", desc := "(LFlagLaundry;II[J)I" } : Jvm.MethodName)) ∈ lw_all := lw_g (lw_at lw_m6 152 rfl) rfl
theorem q1485 : (Jvm.Cond.codeWith ({ cls := "FlagLaundryLaw", name := "flag", desc := "(LFlagLaundry;II[J)I" } : Jvm.MethodName) method_7_code (5 : Nat) (Option.some Jvm.ClassFile.FieldType.int) [((0 : Nat), (10 : Nat), (13 : Nat), (20 : Nat)), ((0 : Nat), (10 : Nat), (17 : Nat), (13 : Nat)), ((0 : Nat), (10 : Nat), (21 : Nat), (15 : Nat))]) ∈ lw_all := lw_g (lw_at lw_m6 153 rfl) rfl
theorem q1486 : (Jvm.Cond.methodLink "FlagLaundryLaw" (29 : Nat) ({ cls := "FlagLaundry", name := "flag", desc := "(II)I" } : Jvm.MethodName)) ∈ lw_all := lw_g (lw_at lw_m6 154 rfl) rfl
theorem q1498 : (Jvm.Cond.methodLink "FlagLaundryLaw" (233 : Nat) ({ cls := "FlagLaundryLaw", name := "tub", desc := "(LFlagLaundry;II[J)I" } : Jvm.MethodName)) ∈ lw_all := lw_g (lw_at lw_m6 166 rfl) rfl
theorem q1499 : (Jvm.Cond.static ({ cls := "FlagLaundryLaw", name := "tub", desc := "(LFlagLaundry;II[J)I" } : Jvm.MethodName)) ∈ lw_all := lw_g (lw_at lw_m6 167 rfl) rfl
theorem q1500 : (Jvm.Cond.codeWith ({ cls := "FlagLaundryLaw", name := "tub", desc := "(LFlagLaundry;II[J)I" } : Jvm.MethodName) method_8_code (5 : Nat) (Option.some Jvm.ClassFile.FieldType.int) [((0 : Nat), (10 : Nat), (13 : Nat), (20 : Nat)), ((0 : Nat), (10 : Nat), (17 : Nat), (13 : Nat)), ((0 : Nat), (10 : Nat), (21 : Nat), (15 : Nat))]) ∈ lw_all := lw_g (lw_at lw_m6 168 rfl) rfl
theorem q1501 : (Jvm.Cond.methodLink "FlagLaundryLaw" (32 : Nat) ({ cls := "FlagLaundry", name := "tub", desc := "(II)I" } : Jvm.MethodName)) ∈ lw_all := lw_g (lw_at lw_m6 169 rfl) rfl
theorem q1517 : (Jvm.Cond.methodLink "FlagLaundryLaw" (236 : Nat) ({ cls := "FlagLaundryLaw", name := "inTub", desc := "(LFlagLaundry;II[J)I" } : Jvm.MethodName)) ∈ lw_all := lw_g (lw_at lw_m6 185 rfl) rfl
theorem q1518 : (Jvm.Cond.static ({ cls := "FlagLaundryLaw", name := "inTub", desc := "(LFlagLaundry;II[J)I" } : Jvm.MethodName)) ∈ lw_all := lw_g (lw_at lw_m6 186 rfl) rfl
theorem q1519 : (Jvm.Cond.codeWith ({ cls := "FlagLaundryLaw", name := "inTub", desc := "(LFlagLaundry;II[J)I" } : Jvm.MethodName) method_9_code (5 : Nat) (Option.some Jvm.ClassFile.FieldType.int) [((0 : Nat), (10 : Nat), (13 : Nat), (20 : Nat)), ((0 : Nat), (10 : Nat), (17 : Nat), (13 : Nat))]) ∈ lw_all := lw_g (lw_at lw_m6 187 rfl) rfl
theorem q1520 : (Jvm.Cond.methodLink "FlagLaundryLaw" (35 : Nat) ({ cls := "FlagLaundry", name := "inTub", desc := "(II)I" } : Jvm.MethodName)) ∈ lw_all := lw_g (lw_at lw_m6 188 rfl) rfl
theorem q1534 : (Jvm.Cond.methodLink "FlagLaundryLaw" (239 : Nat) ({ cls := "FlagLaundryLaw", name := "onPeg", desc := "(LFlagLaundry;I[J)I" } : Jvm.MethodName)) ∈ lw_all := lw_g (lw_at lw_m6 202 rfl) rfl
theorem q1535 : (Jvm.Cond.static ({ cls := "FlagLaundryLaw", name := "onPeg", desc := "(LFlagLaundry;I[J)I" } : Jvm.MethodName)) ∈ lw_all := lw_g (lw_at lw_m6 203 rfl) rfl
theorem q1536 : (Jvm.Cond.codeWith ({ cls := "FlagLaundryLaw", name := "onPeg", desc := "(LFlagLaundry;I[J)I" } : Jvm.MethodName) method_10_code (4 : Nat) (Option.some Jvm.ClassFile.FieldType.int) [((0 : Nat), (9 : Nat), (12 : Nat), (20 : Nat)), ((0 : Nat), (9 : Nat), (15 : Nat), (13 : Nat))]) ∈ lw_all := lw_g (lw_at lw_m6 204 rfl) rfl
theorem q1537 : (Jvm.Cond.methodLink "FlagLaundryLaw" (38 : Nat) ({ cls := "FlagLaundry", name := "onPeg", desc := "(I)I" } : Jvm.MethodName)) ∈ lw_all := lw_g (lw_at lw_m6 205 rfl) rfl
theorem q1542 : (Jvm.Cond.methodLink "FlagLaundryLaw" (242 : Nat) ({ cls := "FlagLaundryLaw", name := "freePegs", desc := "(LFlagLaundry;[J)I" } : Jvm.MethodName)) ∈ lw_all := lw_g (lw_at lw_m6 210 rfl) rfl
theorem q1543 : (Jvm.Cond.static ({ cls := "FlagLaundryLaw", name := "freePegs", desc := "(LFlagLaundry;[J)I" } : Jvm.MethodName)) ∈ lw_all := lw_g (lw_at lw_m6 211 rfl) rfl
theorem q1544 : (Jvm.Cond.codeWith ({ cls := "FlagLaundryLaw", name := "freePegs", desc := "(LFlagLaundry;[J)I" } : Jvm.MethodName) method_11_code (3 : Nat) (Option.some Jvm.ClassFile.FieldType.int) [((0 : Nat), (8 : Nat), (11 : Nat), (20 : Nat))]) ∈ lw_all := lw_g (lw_at lw_m6 212 rfl) rfl
theorem q1545 : (Jvm.Cond.methodLink "FlagLaundryLaw" (41 : Nat) ({ cls := "FlagLaundry", name := "freePegs", desc := "()I" } : Jvm.MethodName)) ∈ lw_all := lw_g (lw_at lw_m6 213 rfl) rfl
theorem q1549 : (Jvm.Cond.methodLink "FlagLaundryLaw" (246 : Nat) ({ cls := "FlagLaundryLaw", name := "wettest", desc := "(LFlagLaundry;[J)I" } : Jvm.MethodName)) ∈ lw_all := lw_g (lw_at lw_m6 217 rfl) rfl
theorem q1550 : (Jvm.Cond.static ({ cls := "FlagLaundryLaw", name := "wettest", desc := "(LFlagLaundry;[J)I" } : Jvm.MethodName)) ∈ lw_all := lw_g (lw_at lw_m6 218 rfl) rfl
theorem q1551 : (Jvm.Cond.codeWith ({ cls := "FlagLaundryLaw", name := "wettest", desc := "(LFlagLaundry;[J)I" } : Jvm.MethodName) method_12_code (3 : Nat) (Option.some Jvm.ClassFile.FieldType.int) [((0 : Nat), (8 : Nat), (11 : Nat), (20 : Nat))]) ∈ lw_all := lw_g (lw_at lw_m6 219 rfl) rfl
theorem q1552 : (Jvm.Cond.methodLink "FlagLaundryLaw" (45 : Nat) ({ cls := "FlagLaundry", name := "wettest", desc := "()I" } : Jvm.MethodName)) ∈ lw_all := lw_g (lw_at lw_m6 220 rfl) rfl
theorem q1556 : (Jvm.Cond.methodLink "FlagLaundryLaw" (249 : Nat) ({ cls := "FlagLaundryLaw", name := "gap", desc := "(LFlagLaundry;[J)I" } : Jvm.MethodName)) ∈ lw_all := lw_g (lw_at lw_m6 224 rfl) rfl
theorem q1557 : (Jvm.Cond.static ({ cls := "FlagLaundryLaw", name := "gap", desc := "(LFlagLaundry;[J)I" } : Jvm.MethodName)) ∈ lw_all := lw_g (lw_at lw_m6 225 rfl) rfl
theorem q1558 : (Jvm.Cond.codeWith ({ cls := "FlagLaundryLaw", name := "gap", desc := "(LFlagLaundry;[J)I" } : Jvm.MethodName) method_13_code (3 : Nat) (Option.some Jvm.ClassFile.FieldType.int) [((0 : Nat), (8 : Nat), (11 : Nat), (20 : Nat))]) ∈ lw_all := lw_g (lw_at lw_m6 226 rfl) rfl
theorem q1559 : (Jvm.Cond.methodLink "FlagLaundryLaw" (48 : Nat) ({ cls := "FlagLaundry", name := "gap", desc := "()I" } : Jvm.MethodName)) ∈ lw_all := lw_g (lw_at lw_m6 227 rfl) rfl
theorem q1623 : (Jvm.Cond.methodLink "FlagLaundryLaw" (252 : Nat) ({ cls := "FlagLaundryLaw", name := "why", desc := "(LFlagLaundry;I[J)I" } : Jvm.MethodName)) ∈ lw_all := lw_g (lw_at lw_m7 51 rfl) rfl
theorem q1624 : (Jvm.Cond.static ({ cls := "FlagLaundryLaw", name := "why", desc := "(LFlagLaundry;I[J)I" } : Jvm.MethodName)) ∈ lw_all := lw_g (lw_at lw_m7 52 rfl) rfl
theorem q1625 : (Jvm.Cond.codeWith ({ cls := "FlagLaundryLaw", name := "why", desc := "(LFlagLaundry;I[J)I" } : Jvm.MethodName) method_14_code (4 : Nat) (Option.some Jvm.ClassFile.FieldType.int) [((0 : Nat), (9 : Nat), (12 : Nat), (20 : Nat)), ((0 : Nat), (9 : Nat), (15 : Nat), (13 : Nat))]) ∈ lw_all := lw_g (lw_at lw_m7 53 rfl) rfl
theorem q1626 : (Jvm.Cond.methodLink "FlagLaundryLaw" (51 : Nat) ({ cls := "FlagLaundry", name := "why", desc := "(I)I" } : Jvm.MethodName)) ∈ lw_all := lw_g (lw_at lw_m7 54 rfl) rfl
theorem q1631 : (Jvm.Cond.methodLink "FlagLaundryLaw" (255 : Nat) ({ cls := "FlagLaundryLaw", name := "reasons", desc := "(LFlagLaundry;I[J)I" } : Jvm.MethodName)) ∈ lw_all := lw_g (lw_at lw_m7 59 rfl) rfl
theorem q1632 : (Jvm.Cond.static ({ cls := "FlagLaundryLaw", name := "reasons", desc := "(LFlagLaundry;I[J)I" } : Jvm.MethodName)) ∈ lw_all := lw_g (lw_at lw_m7 60 rfl) rfl
theorem q1633 : (Jvm.Cond.codeWith ({ cls := "FlagLaundryLaw", name := "reasons", desc := "(LFlagLaundry;I[J)I" } : Jvm.MethodName) method_15_code (4 : Nat) (Option.some Jvm.ClassFile.FieldType.int) [((0 : Nat), (9 : Nat), (12 : Nat), (20 : Nat)), ((0 : Nat), (9 : Nat), (15 : Nat), (13 : Nat))]) ∈ lw_all := lw_g (lw_at lw_m7 61 rfl) rfl
theorem q1634 : (Jvm.Cond.methodLink "FlagLaundryLaw" (54 : Nat) ({ cls := "FlagLaundry", name := "reasons", desc := "(I)I" } : Jvm.MethodName)) ∈ lw_all := lw_g (lw_at lw_m7 62 rfl) rfl
theorem q1638 : (Jvm.Cond.methodLink "FlagLaundryLaw" (258 : Nat) ({ cls := "FlagLaundryLaw", name := "culprit", desc := "(LFlagLaundry;I[J)I" } : Jvm.MethodName)) ∈ lw_all := lw_g (lw_at lw_m7 66 rfl) rfl
theorem q1639 : (Jvm.Cond.static ({ cls := "FlagLaundryLaw", name := "culprit", desc := "(LFlagLaundry;I[J)I" } : Jvm.MethodName)) ∈ lw_all := lw_g (lw_at lw_m7 67 rfl) rfl
theorem q1640 : (Jvm.Cond.codeWith ({ cls := "FlagLaundryLaw", name := "culprit", desc := "(LFlagLaundry;I[J)I" } : Jvm.MethodName) method_16_code (4 : Nat) (Option.some Jvm.ClassFile.FieldType.int) [((0 : Nat), (9 : Nat), (12 : Nat), (20 : Nat)), ((0 : Nat), (9 : Nat), (15 : Nat), (13 : Nat))]) ∈ lw_all := lw_g (lw_at lw_m7 68 rfl) rfl
theorem q1641 : (Jvm.Cond.methodLink "FlagLaundryLaw" (57 : Nat) ({ cls := "FlagLaundry", name := "culprit", desc := "(I)I" } : Jvm.MethodName)) ∈ lw_all := lw_g (lw_at lw_m7 69 rfl) rfl
theorem q1649 : (Jvm.Cond.methodLink "FlagLaundryLaw" (261 : Nat) ({ cls := "FlagLaundryLaw", name := "whyNotPut", desc := "(LFlagLaundry;II[J)I" } : Jvm.MethodName)) ∈ lw_all := lw_g (lw_at lw_m7 77 rfl) rfl
theorem q1650 : (Jvm.Cond.static ({ cls := "FlagLaundryLaw", name := "whyNotPut", desc := "(LFlagLaundry;II[J)I" } : Jvm.MethodName)) ∈ lw_all := lw_g (lw_at lw_m7 78 rfl) rfl
theorem q1651 : (Jvm.Cond.codeWith ({ cls := "FlagLaundryLaw", name := "whyNotPut", desc := "(LFlagLaundry;II[J)I" } : Jvm.MethodName) method_17_code (5 : Nat) (Option.some Jvm.ClassFile.FieldType.int) [((0 : Nat), (10 : Nat), (13 : Nat), (20 : Nat)), ((0 : Nat), (10 : Nat), (17 : Nat), (13 : Nat))]) ∈ lw_all := lw_g (lw_at lw_m7 79 rfl) rfl
theorem q1652 : (Jvm.Cond.methodLink "FlagLaundryLaw" (60 : Nat) ({ cls := "FlagLaundry", name := "whyNotPut", desc := "(II)I" } : Jvm.MethodName)) ∈ lw_all := lw_g (lw_at lw_m7 80 rfl) rfl
theorem q1661 : (Jvm.Cond.methodLink "FlagLaundryLaw" (264 : Nat) ({ cls := "FlagLaundryLaw", name := "whyNotWash", desc := "(LFlagLaundry;II[J)I" } : Jvm.MethodName)) ∈ lw_all := lw_g (lw_at lw_m7 89 rfl) rfl
theorem q1662 : (Jvm.Cond.static ({ cls := "FlagLaundryLaw", name := "whyNotWash", desc := "(LFlagLaundry;II[J)I" } : Jvm.MethodName)) ∈ lw_all := lw_g (lw_at lw_m7 90 rfl) rfl
theorem q1663 : (Jvm.Cond.codeWith ({ cls := "FlagLaundryLaw", name := "whyNotWash", desc := "(LFlagLaundry;II[J)I" } : Jvm.MethodName) method_18_code (5 : Nat) (Option.some Jvm.ClassFile.FieldType.int) [((0 : Nat), (10 : Nat), (13 : Nat), (20 : Nat)), ((0 : Nat), (10 : Nat), (17 : Nat), (13 : Nat)), ((0 : Nat), (10 : Nat), (21 : Nat), (15 : Nat))]) ∈ lw_all := lw_g (lw_at lw_m7 91 rfl) rfl
theorem q1664 : (Jvm.Cond.methodLink "FlagLaundryLaw" (63 : Nat) ({ cls := "FlagLaundry", name := "whyNotWash", desc := "(II)I" } : Jvm.MethodName)) ∈ lw_all := lw_g (lw_at lw_m7 92 rfl) rfl
theorem q1677 : (Jvm.Cond.methodLink "FlagLaundryLaw" (267 : Nat) ({ cls := "FlagLaundryLaw", name := "whyNotIron", desc := "(LFlagLaundry;II[J)I" } : Jvm.MethodName)) ∈ lw_all := lw_g (lw_at lw_m7 105 rfl) rfl
theorem q1678 : (Jvm.Cond.static ({ cls := "FlagLaundryLaw", name := "whyNotIron", desc := "(LFlagLaundry;II[J)I" } : Jvm.MethodName)) ∈ lw_all := lw_g (lw_at lw_m7 106 rfl) rfl
theorem q1679 : (Jvm.Cond.codeWith ({ cls := "FlagLaundryLaw", name := "whyNotIron", desc := "(LFlagLaundry;II[J)I" } : Jvm.MethodName) method_19_code (5 : Nat) (Option.some Jvm.ClassFile.FieldType.int) [((0 : Nat), (10 : Nat), (13 : Nat), (20 : Nat)), ((0 : Nat), (10 : Nat), (17 : Nat), (13 : Nat)), ((0 : Nat), (10 : Nat), (21 : Nat), (15 : Nat))]) ∈ lw_all := lw_g (lw_at lw_m7 107 rfl) rfl
theorem q1680 : (Jvm.Cond.methodLink "FlagLaundryLaw" (66 : Nat) ({ cls := "FlagLaundry", name := "whyNotIron", desc := "(II)I" } : Jvm.MethodName)) ∈ lw_all := lw_g (lw_at lw_m7 108 rfl) rfl
theorem q1699 : (Jvm.Cond.methodLink "FlagLaundryLaw" (270 : Nat) ({ cls := "FlagLaundryLaw", name := "whyNotBleach", desc := "(LFlagLaundry;I[J)I" } : Jvm.MethodName)) ∈ lw_all := lw_g (lw_at lw_m7 127 rfl) rfl
theorem q1700 : (Jvm.Cond.static ({ cls := "FlagLaundryLaw", name := "whyNotBleach", desc := "(LFlagLaundry;I[J)I" } : Jvm.MethodName)) ∈ lw_all := lw_g (lw_at lw_m7 128 rfl) rfl
theorem q1701 : (Jvm.Cond.codeWith ({ cls := "FlagLaundryLaw", name := "whyNotBleach", desc := "(LFlagLaundry;I[J)I" } : Jvm.MethodName) method_20_code (4 : Nat) (Option.some Jvm.ClassFile.FieldType.int) [((0 : Nat), (9 : Nat), (12 : Nat), (20 : Nat)), ((0 : Nat), (9 : Nat), (15 : Nat), (13 : Nat))]) ∈ lw_all := lw_g (lw_at lw_m7 129 rfl) rfl
theorem q1702 : (Jvm.Cond.methodLink "FlagLaundryLaw" (69 : Nat) ({ cls := "FlagLaundry", name := "whyNotBleach", desc := "(I)I" } : Jvm.MethodName)) ∈ lw_all := lw_g (lw_at lw_m7 130 rfl) rfl
theorem q1715 : (Jvm.Cond.methodLink "FlagLaundryLaw" (273 : Nat) ({ cls := "FlagLaundryLaw", name := "running", desc := "(LFlagLaundry;II[J)I" } : Jvm.MethodName)) ∈ lw_all := lw_g (lw_at lw_m7 143 rfl) rfl
theorem q1716 : (Jvm.Cond.static ({ cls := "FlagLaundryLaw", name := "running", desc := "(LFlagLaundry;II[J)I" } : Jvm.MethodName)) ∈ lw_all := lw_g (lw_at lw_m7 144 rfl) rfl
theorem q1717 : (Jvm.Cond.codeWith ({ cls := "FlagLaundryLaw", name := "running", desc := "(LFlagLaundry;II[J)I" } : Jvm.MethodName) method_21_code (5 : Nat) (Option.some Jvm.ClassFile.FieldType.int) [((0 : Nat), (10 : Nat), (13 : Nat), (20 : Nat)), ((0 : Nat), (10 : Nat), (17 : Nat), (13 : Nat)), ((0 : Nat), (10 : Nat), (21 : Nat), (15 : Nat))]) ∈ lw_all := lw_g (lw_at lw_m7 145 rfl) rfl
theorem q1718 : (Jvm.Cond.methodLink "FlagLaundryLaw" (72 : Nat) ({ cls := "FlagLaundry", name := "running", desc := "(II)I" } : Jvm.MethodName)) ∈ lw_all := lw_g (lw_at lw_m7 146 rfl) rfl
theorem q1723 : (Jvm.Cond.methodLink "FlagLaundryLaw" (276 : Nat) ({ cls := "FlagLaundryLaw", name := "stainedIf", desc := "(LFlagLaundry;II[J)I" } : Jvm.MethodName)) ∈ lw_all := lw_g (lw_at lw_m7 151 rfl) rfl
theorem q1724 : (Jvm.Cond.static ({ cls := "FlagLaundryLaw", name := "stainedIf", desc := "(LFlagLaundry;II[J)I" } : Jvm.MethodName)) ∈ lw_all := lw_g (lw_at lw_m7 152 rfl) rfl
theorem q1725 : (Jvm.Cond.codeWith ({ cls := "FlagLaundryLaw", name := "stainedIf", desc := "(LFlagLaundry;II[J)I" } : Jvm.MethodName) method_22_code (5 : Nat) (Option.some Jvm.ClassFile.FieldType.int) [((0 : Nat), (10 : Nat), (13 : Nat), (20 : Nat)), ((0 : Nat), (10 : Nat), (17 : Nat), (13 : Nat)), ((0 : Nat), (10 : Nat), (21 : Nat), (15 : Nat))]) ∈ lw_all := lw_g (lw_at lw_m7 153 rfl) rfl
theorem q1726 : (Jvm.Cond.methodLink "FlagLaundryLaw" (75 : Nat) ({ cls := "FlagLaundry", name := "stainedIf", desc := "(II)I" } : Jvm.MethodName)) ∈ lw_all := lw_g (lw_at lw_m7 154 rfl) rfl
theorem q1737 : (Jvm.Cond.methodLink "FlagLaundryLaw" (279 : Nat) ({ cls := "FlagLaundryLaw", name := "dirtIf", desc := "(LFlagLaundry;II[J)I" } : Jvm.MethodName)) ∈ lw_all := lw_g (lw_at lw_m7 165 rfl) rfl
theorem q1738 : (Jvm.Cond.static ({ cls := "FlagLaundryLaw", name := "dirtIf", desc := "(LFlagLaundry;II[J)I" } : Jvm.MethodName)) ∈ lw_all := lw_g (lw_at lw_m7 166 rfl) rfl
theorem q1739 : (Jvm.Cond.codeWith ({ cls := "FlagLaundryLaw", name := "dirtIf", desc := "(LFlagLaundry;II[J)I" } : Jvm.MethodName) method_23_code (5 : Nat) (Option.some Jvm.ClassFile.FieldType.int) [((0 : Nat), (10 : Nat), (13 : Nat), (20 : Nat)), ((0 : Nat), (10 : Nat), (17 : Nat), (13 : Nat)), ((0 : Nat), (10 : Nat), (21 : Nat), (15 : Nat))]) ∈ lw_all := lw_g (lw_at lw_m7 167 rfl) rfl
theorem q1740 : (Jvm.Cond.methodLink "FlagLaundryLaw" (78 : Nat) ({ cls := "FlagLaundry", name := "dirtIf", desc := "(II)I" } : Jvm.MethodName)) ∈ lw_all := lw_g (lw_at lw_m7 168 rfl) rfl
theorem q1749 : (Jvm.Cond.methodLink "FlagLaundryLaw" (282 : Nat) ({ cls := "FlagLaundryLaw", name := "bestHeat", desc := "(LFlagLaundry;I[J)I" } : Jvm.MethodName)) ∈ lw_all := lw_g (lw_at lw_m7 177 rfl) rfl
theorem q1750 : (Jvm.Cond.static ({ cls := "FlagLaundryLaw", name := "bestHeat", desc := "(LFlagLaundry;I[J)I" } : Jvm.MethodName)) ∈ lw_all := lw_g (lw_at lw_m7 178 rfl) rfl
theorem q1751 : (Jvm.Cond.codeWith ({ cls := "FlagLaundryLaw", name := "bestHeat", desc := "(LFlagLaundry;I[J)I" } : Jvm.MethodName) method_24_code (4 : Nat) (Option.some Jvm.ClassFile.FieldType.int) [((0 : Nat), (9 : Nat), (12 : Nat), (20 : Nat)), ((0 : Nat), (9 : Nat), (15 : Nat), (13 : Nat))]) ∈ lw_all := lw_g (lw_at lw_m7 179 rfl) rfl
theorem q1752 : (Jvm.Cond.methodLink "FlagLaundryLaw" (81 : Nat) ({ cls := "FlagLaundry", name := "bestHeat", desc := "(I)I" } : Jvm.MethodName)) ∈ lw_all := lw_g (lw_at lw_m7 180 rfl) rfl
theorem q1756 : (Jvm.Cond.methodLink "FlagLaundryLaw" (285 : Nat) ({ cls := "FlagLaundryLaw", name := "firstSafe", desc := "(LFlagLaundry;II[J)I" } : Jvm.MethodName)) ∈ lw_all := lw_g (lw_at lw_m7 184 rfl) rfl
theorem q1757 : (Jvm.Cond.static ({ cls := "FlagLaundryLaw", name := "firstSafe", desc := "(LFlagLaundry;II[J)I" } : Jvm.MethodName)) ∈ lw_all := lw_g (lw_at lw_m7 185 rfl) rfl
theorem q1758 : (Jvm.Cond.codeWith ({ cls := "FlagLaundryLaw", name := "firstSafe", desc := "(LFlagLaundry;II[J)I" } : Jvm.MethodName) method_25_code (5 : Nat) (Option.some Jvm.ClassFile.FieldType.int) [((0 : Nat), (10 : Nat), (13 : Nat), (20 : Nat)), ((0 : Nat), (10 : Nat), (17 : Nat), (13 : Nat)), ((0 : Nat), (10 : Nat), (21 : Nat), (15 : Nat))]) ∈ lw_all := lw_g (lw_at lw_m7 186 rfl) rfl
theorem q1759 : (Jvm.Cond.methodLink "FlagLaundryLaw" (84 : Nat) ({ cls := "FlagLaundry", name := "firstSafe", desc := "(II)I" } : Jvm.MethodName)) ∈ lw_all := lw_g (lw_at lw_m7 187 rfl) rfl
theorem q1764 : (Jvm.Cond.methodLink "FlagLaundryLaw" (288 : Nat) ({ cls := "FlagLaundryLaw", name := "doNotMix", desc := "(LFlagLaundry;III[J)I" } : Jvm.MethodName)) ∈ lw_all := lw_g (lw_at lw_m7 192 rfl) rfl
theorem q1765 : (Jvm.Cond.static ({ cls := "FlagLaundryLaw", name := "doNotMix", desc := "(LFlagLaundry;III[J)I" } : Jvm.MethodName)) ∈ lw_all := lw_g (lw_at lw_m7 193 rfl) rfl
theorem q1766 : (Jvm.Cond.codeWith ({ cls := "FlagLaundryLaw", name := "doNotMix", desc := "(LFlagLaundry;III[J)I" } : Jvm.MethodName) method_26_code (6 : Nat) (Option.some Jvm.ClassFile.FieldType.int) [((0 : Nat), (12 : Nat), (15 : Nat), (20 : Nat)), ((0 : Nat), (12 : Nat), (19 : Nat), (13 : Nat)), ((0 : Nat), (12 : Nat), (23 : Nat), (15 : Nat))]) ∈ lw_all := lw_g (lw_at lw_m7 194 rfl) rfl
theorem q1767 : (Jvm.Cond.methodLink "FlagLaundryLaw" (87 : Nat) ({ cls := "FlagLaundry", name := "doNotMix", desc := "(III)I" } : Jvm.MethodName)) ∈ lw_all := lw_g (lw_at lw_m7 195 rfl) rfl
theorem q1779 : (Jvm.Cond.methodLink "FlagLaundryLaw" (292 : Nat) ({ cls := "FlagLaundryLaw", name := "groups", desc := "(LFlagLaundry;I[J)I" } : Jvm.MethodName)) ∈ lw_all := lw_g (lw_at lw_m7 207 rfl) rfl
theorem q1780 : (Jvm.Cond.static ({ cls := "FlagLaundryLaw", name := "groups", desc := "(LFlagLaundry;I[J)I" } : Jvm.MethodName)) ∈ lw_all := lw_g (lw_at lw_m7 208 rfl) rfl
theorem q1781 : (Jvm.Cond.codeWith ({ cls := "FlagLaundryLaw", name := "groups", desc := "(LFlagLaundry;I[J)I" } : Jvm.MethodName) method_27_code (4 : Nat) (Option.some Jvm.ClassFile.FieldType.int) [((0 : Nat), (9 : Nat), (12 : Nat), (20 : Nat)), ((0 : Nat), (9 : Nat), (15 : Nat), (15 : Nat))]) ∈ lw_all := lw_g (lw_at lw_m7 209 rfl) rfl
theorem q1782 : (Jvm.Cond.methodLink "FlagLaundryLaw" (91 : Nat) ({ cls := "FlagLaundry", name := "groups", desc := "(I)I" } : Jvm.MethodName)) ∈ lw_all := lw_g (lw_at lw_m7 210 rfl) rfl
theorem q1791 : (Jvm.Cond.methodLink "FlagLaundryLaw" (295 : Nat) ({ cls := "FlagLaundryLaw", name := "purest", desc := "(LFlagLaundry;I[J)I" } : Jvm.MethodName)) ∈ lw_all := lw_g (lw_at lw_m7 219 rfl) rfl
theorem q1792 : (Jvm.Cond.static ({ cls := "FlagLaundryLaw", name := "purest", desc := "(LFlagLaundry;I[J)I" } : Jvm.MethodName)) ∈ lw_all := lw_g (lw_at lw_m7 220 rfl) rfl
theorem q1793 : (Jvm.Cond.codeWith ({ cls := "FlagLaundryLaw", name := "purest", desc := "(LFlagLaundry;I[J)I" } : Jvm.MethodName) method_28_code (4 : Nat) (Option.some Jvm.ClassFile.FieldType.int) [((0 : Nat), (9 : Nat), (12 : Nat), (20 : Nat)), ((0 : Nat), (9 : Nat), (15 : Nat), (15 : Nat))]) ∈ lw_all := lw_g (lw_at lw_m7 221 rfl) rfl
theorem q1794 : (Jvm.Cond.methodLink "FlagLaundryLaw" (94 : Nat) ({ cls := "FlagLaundry", name := "purest", desc := "(I)I" } : Jvm.MethodName)) ∈ lw_all := lw_g (lw_at lw_m7 222 rfl) rfl
theorem q1800 : (Jvm.Cond.methodLink "FlagLaundryLaw" (298 : Nat) ({ cls := "FlagLaundryLaw", name := "washesFor", desc := "(LFlagLaundry;I[J)I" } : Jvm.MethodName)) ∈ lw_all := lw_g (lw_at lw_m7 228 rfl) rfl
theorem q1801 : (Jvm.Cond.static ({ cls := "FlagLaundryLaw", name := "washesFor", desc := "(LFlagLaundry;I[J)I" } : Jvm.MethodName)) ∈ lw_all := lw_g (lw_at lw_m7 229 rfl) rfl
theorem q1802 : (Jvm.Cond.codeWith ({ cls := "FlagLaundryLaw", name := "washesFor", desc := "(LFlagLaundry;I[J)I" } : Jvm.MethodName) method_29_code (4 : Nat) (Option.some Jvm.ClassFile.FieldType.int) [((0 : Nat), (9 : Nat), (12 : Nat), (20 : Nat)), ((0 : Nat), (9 : Nat), (15 : Nat), (13 : Nat))]) ∈ lw_all := lw_g (lw_at lw_m7 230 rfl) rfl
theorem q1803 : (Jvm.Cond.methodLink "FlagLaundryLaw" (97 : Nat) ({ cls := "FlagLaundry", name := "washesFor", desc := "(I)I" } : Jvm.MethodName)) ∈ lw_all := lw_g (lw_at lw_m7 231 rfl) rfl
theorem q1809 : (Jvm.Cond.methodLink "FlagLaundryLaw" (301 : Nat) ({ cls := "FlagLaundryLaw", name := "dryIn", desc := "(LFlagLaundry;I[J)I" } : Jvm.MethodName)) ∈ lw_all := lw_g (lw_at lw_m7 237 rfl) rfl
theorem q1810 : (Jvm.Cond.static ({ cls := "FlagLaundryLaw", name := "dryIn", desc := "(LFlagLaundry;I[J)I" } : Jvm.MethodName)) ∈ lw_all := lw_g (lw_at lw_m7 238 rfl) rfl
theorem q1811 : (Jvm.Cond.codeWith ({ cls := "FlagLaundryLaw", name := "dryIn", desc := "(LFlagLaundry;I[J)I" } : Jvm.MethodName) method_30_code (4 : Nat) (Option.some Jvm.ClassFile.FieldType.int) [((0 : Nat), (9 : Nat), (12 : Nat), (20 : Nat)), ((0 : Nat), (9 : Nat), (15 : Nat), (13 : Nat))]) ∈ lw_all := lw_g (lw_at lw_m7 239 rfl) rfl
theorem q1812 : (Jvm.Cond.methodLink "FlagLaundryLaw" (100 : Nat) ({ cls := "FlagLaundry", name := "dryIn", desc := "(I)I" } : Jvm.MethodName)) ∈ lw_all := lw_g (lw_at lw_m8 0 rfl) rfl
theorem q1836 : (Jvm.Cond.methodLink "FlagLaundryLaw" (304 : Nat) ({ cls := "FlagLaundryLaw", name := "dryByWind", desc := "(LFlagLaundry;II[J)I" } : Jvm.MethodName)) ∈ lw_all := lw_g (lw_at lw_m8 24 rfl) rfl
theorem q1837 : (Jvm.Cond.static ({ cls := "FlagLaundryLaw", name := "dryByWind", desc := "(LFlagLaundry;II[J)I" } : Jvm.MethodName)) ∈ lw_all := lw_g (lw_at lw_m8 25 rfl) rfl
theorem q1838 : (Jvm.Cond.codeWith ({ cls := "FlagLaundryLaw", name := "dryByWind", desc := "(LFlagLaundry;II[J)I" } : Jvm.MethodName) method_31_code (5 : Nat) (Option.some Jvm.ClassFile.FieldType.int) [((0 : Nat), (10 : Nat), (13 : Nat), (20 : Nat)), ((0 : Nat), (10 : Nat), (17 : Nat), (13 : Nat)), ((0 : Nat), (10 : Nat), (21 : Nat), (15 : Nat))]) ∈ lw_all := lw_g (lw_at lw_m8 26 rfl) rfl
theorem q1839 : (Jvm.Cond.methodLink "FlagLaundryLaw" (103 : Nat) ({ cls := "FlagLaundry", name := "dryByWind", desc := "(II)I" } : Jvm.MethodName)) ∈ lw_all := lw_g (lw_at lw_m8 27 rfl) rfl
theorem q1844 : (Jvm.Cond.methodLink "FlagLaundryLaw" (307 : Nat) ({ cls := "FlagLaundryLaw", name := "fallsIn", desc := "(LFlagLaundry;I[J)I" } : Jvm.MethodName)) ∈ lw_all := lw_g (lw_at lw_m8 32 rfl) rfl
theorem q1845 : (Jvm.Cond.static ({ cls := "FlagLaundryLaw", name := "fallsIn", desc := "(LFlagLaundry;I[J)I" } : Jvm.MethodName)) ∈ lw_all := lw_g (lw_at lw_m8 33 rfl) rfl
theorem q1846 : (Jvm.Cond.codeWith ({ cls := "FlagLaundryLaw", name := "fallsIn", desc := "(LFlagLaundry;I[J)I" } : Jvm.MethodName) method_32_code (4 : Nat) (Option.some Jvm.ClassFile.FieldType.int) [((0 : Nat), (9 : Nat), (12 : Nat), (20 : Nat)), ((0 : Nat), (9 : Nat), (15 : Nat), (15 : Nat))]) ∈ lw_all := lw_g (lw_at lw_m8 34 rfl) rfl
theorem q1847 : (Jvm.Cond.methodLink "FlagLaundryLaw" (106 : Nat) ({ cls := "FlagLaundry", name := "fallsIn", desc := "(I)I" } : Jvm.MethodName)) ∈ lw_all := lw_g (lw_at lw_m8 35 rfl) rfl
theorem q1853 : (Jvm.Cond.methodLink "FlagLaundryLaw" (310 : Nat) ({ cls := "FlagLaundryLaw", name := "payIf", desc := "(LFlagLaundry;II[J)I" } : Jvm.MethodName)) ∈ lw_all := lw_g (lw_at lw_m8 41 rfl) rfl
theorem q1854 : (Jvm.Cond.static ({ cls := "FlagLaundryLaw", name := "payIf", desc := "(LFlagLaundry;II[J)I" } : Jvm.MethodName)) ∈ lw_all := lw_g (lw_at lw_m8 42 rfl) rfl
theorem q1855 : (Jvm.Cond.codeWith ({ cls := "FlagLaundryLaw", name := "payIf", desc := "(LFlagLaundry;II[J)I" } : Jvm.MethodName) method_33_code (5 : Nat) (Option.some Jvm.ClassFile.FieldType.int) [((0 : Nat), (10 : Nat), (13 : Nat), (20 : Nat)), ((0 : Nat), (10 : Nat), (17 : Nat), (13 : Nat)), ((0 : Nat), (10 : Nat), (21 : Nat), (15 : Nat))]) ∈ lw_all := lw_g (lw_at lw_m8 43 rfl) rfl
theorem q1856 : (Jvm.Cond.methodLink "FlagLaundryLaw" (109 : Nat) ({ cls := "FlagLaundry", name := "payIf", desc := "(II)I" } : Jvm.MethodName)) ∈ lw_all := lw_g (lw_at lw_m8 44 rfl) rfl
theorem q1865 : (Jvm.Cond.methodLink "FlagLaundryLaw" (313 : Nat) ({ cls := "FlagLaundryLaw", name := "latest", desc := "(LFlagLaundry;I[J)I" } : Jvm.MethodName)) ∈ lw_all := lw_g (lw_at lw_m8 53 rfl) rfl
theorem q1866 : (Jvm.Cond.static ({ cls := "FlagLaundryLaw", name := "latest", desc := "(LFlagLaundry;I[J)I" } : Jvm.MethodName)) ∈ lw_all := lw_g (lw_at lw_m8 54 rfl) rfl
theorem q1867 : (Jvm.Cond.codeWith ({ cls := "FlagLaundryLaw", name := "latest", desc := "(LFlagLaundry;I[J)I" } : Jvm.MethodName) method_34_code (4 : Nat) (Option.some Jvm.ClassFile.FieldType.int) [((0 : Nat), (9 : Nat), (12 : Nat), (20 : Nat)), ((0 : Nat), (9 : Nat), (15 : Nat), (13 : Nat))]) ∈ lw_all := lw_g (lw_at lw_m8 55 rfl) rfl
theorem q1868 : (Jvm.Cond.methodLink "FlagLaundryLaw" (112 : Nat) ({ cls := "FlagLaundry", name := "latest", desc := "(I)I" } : Jvm.MethodName)) ∈ lw_all := lw_g (lw_at lw_m8 56 rfl) rfl
theorem q1872 : (Jvm.Cond.methodLink "FlagLaundryLaw" (316 : Nat) ({ cls := "FlagLaundryLaw", name := "dearest", desc := "(LFlagLaundry;[J)I" } : Jvm.MethodName)) ∈ lw_all := lw_g (lw_at lw_m8 60 rfl) rfl
theorem q1873 : (Jvm.Cond.static ({ cls := "FlagLaundryLaw", name := "dearest", desc := "(LFlagLaundry;[J)I" } : Jvm.MethodName)) ∈ lw_all := lw_g (lw_at lw_m8 61 rfl) rfl
theorem q1874 : (Jvm.Cond.codeWith ({ cls := "FlagLaundryLaw", name := "dearest", desc := "(LFlagLaundry;[J)I" } : Jvm.MethodName) method_35_code (3 : Nat) (Option.some Jvm.ClassFile.FieldType.int) [((0 : Nat), (8 : Nat), (11 : Nat), (20 : Nat))]) ∈ lw_all := lw_g (lw_at lw_m8 62 rfl) rfl
theorem q1875 : (Jvm.Cond.methodLink "FlagLaundryLaw" (115 : Nat) ({ cls := "FlagLaundry", name := "dearest", desc := "()I" } : Jvm.MethodName)) ∈ lw_all := lw_g (lw_at lw_m8 63 rfl) rfl
theorem q1879 : (Jvm.Cond.methodLink "FlagLaundryLaw" (319 : Nat) ({ cls := "FlagLaundryLaw", name := "ironsFor", desc := "(LFlagLaundry;II[J)I" } : Jvm.MethodName)) ∈ lw_all := lw_g (lw_at lw_m8 67 rfl) rfl
theorem q1880 : (Jvm.Cond.static ({ cls := "FlagLaundryLaw", name := "ironsFor", desc := "(LFlagLaundry;II[J)I" } : Jvm.MethodName)) ∈ lw_all := lw_g (lw_at lw_m8 68 rfl) rfl
theorem q1881 : (Jvm.Cond.codeWith ({ cls := "FlagLaundryLaw", name := "ironsFor", desc := "(LFlagLaundry;II[J)I" } : Jvm.MethodName) method_36_code (5 : Nat) (Option.some Jvm.ClassFile.FieldType.int) [((0 : Nat), (10 : Nat), (13 : Nat), (20 : Nat)), ((0 : Nat), (10 : Nat), (17 : Nat), (13 : Nat)), ((0 : Nat), (10 : Nat), (21 : Nat), (15 : Nat))]) ∈ lw_all := lw_g (lw_at lw_m8 69 rfl) rfl
theorem q1882 : (Jvm.Cond.methodLink "FlagLaundryLaw" (118 : Nat) ({ cls := "FlagLaundry", name := "ironsFor", desc := "(II)I" } : Jvm.MethodName)) ∈ lw_all := lw_g (lw_at lw_m8 70 rfl) rfl
theorem q1901 : (Jvm.Cond.methodLink "FlagLaundryLaw" (322 : Nat) ({ cls := "FlagLaundryLaw", name := "readyShare", desc := "(LFlagLaundry;[D)I" } : Jvm.MethodName)) ∈ lw_all := lw_g (lw_at lw_m8 89 rfl) rfl
theorem q1902 : (Jvm.Cond.static ({ cls := "FlagLaundryLaw", name := "readyShare", desc := "(LFlagLaundry;[D)I" } : Jvm.MethodName)) ∈ lw_all := lw_g (lw_at lw_m8 90 rfl) rfl
theorem q1903 : (Jvm.Cond.codeWith ({ cls := "FlagLaundryLaw", name := "readyShare", desc := "(LFlagLaundry;[D)I" } : Jvm.MethodName) method_37_code (3 : Nat) (Option.some Jvm.ClassFile.FieldType.int) [((0 : Nat), (8 : Nat), (11 : Nat), (20 : Nat))]) ∈ lw_all := lw_g (lw_at lw_m8 91 rfl) rfl
theorem q1904 : (Jvm.Cond.methodLink "FlagLaundryLaw" (121 : Nat) ({ cls := "FlagLaundry", name := "readyShare", desc := "()F" } : Jvm.MethodName)) ∈ lw_all := lw_g (lw_at lw_m8 92 rfl) rfl
theorem q1908 : (Jvm.Cond.methodLink "FlagLaundryLaw" (326 : Nat) ({ cls := "FlagLaundryLaw", name := "meanDirt", desc := "(LFlagLaundry;[D)I" } : Jvm.MethodName)) ∈ lw_all := lw_g (lw_at lw_m8 96 rfl) rfl
theorem q1909 : (Jvm.Cond.static ({ cls := "FlagLaundryLaw", name := "meanDirt", desc := "(LFlagLaundry;[D)I" } : Jvm.MethodName)) ∈ lw_all := lw_g (lw_at lw_m8 97 rfl) rfl
theorem q1910 : (Jvm.Cond.codeWith ({ cls := "FlagLaundryLaw", name := "meanDirt", desc := "(LFlagLaundry;[D)I" } : Jvm.MethodName) method_38_code (3 : Nat) (Option.some Jvm.ClassFile.FieldType.int) [((0 : Nat), (7 : Nat), (10 : Nat), (20 : Nat))]) ∈ lw_all := lw_g (lw_at lw_m8 98 rfl) rfl
theorem q1911 : (Jvm.Cond.methodLink "FlagLaundryLaw" (125 : Nat) ({ cls := "FlagLaundry", name := "meanDirt", desc := "()D" } : Jvm.MethodName)) ∈ lw_all := lw_g (lw_at lw_m8 99 rfl) rfl
theorem q1921 : (Jvm.Cond.methodLink "FlagLaundryLaw" (329 : Nat) ({ cls := "FlagLaundryLaw", name := "writeFlag", desc := "(LFlagLaundry;I[J)I" } : Jvm.MethodName)) ∈ lw_all := lw_g (lw_at lw_m8 109 rfl) rfl
theorem q1922 : (Jvm.Cond.static ({ cls := "FlagLaundryLaw", name := "writeFlag", desc := "(LFlagLaundry;I[J)I" } : Jvm.MethodName)) ∈ lw_all := lw_g (lw_at lw_m8 110 rfl) rfl
theorem q1923 : (Jvm.Cond.codeWith ({ cls := "FlagLaundryLaw", name := "writeFlag", desc := "(LFlagLaundry;I[J)I" } : Jvm.MethodName) method_39_code (4 : Nat) (Option.some Jvm.ClassFile.FieldType.int) [((0 : Nat), (9 : Nat), (12 : Nat), (20 : Nat)), ((0 : Nat), (9 : Nat), (15 : Nat), (13 : Nat))]) ∈ lw_all := lw_g (lw_at lw_m8 111 rfl) rfl
theorem q1924 : (Jvm.Cond.methodLink "FlagLaundryLaw" (129 : Nat) ({ cls := "FlagLaundry", name := "writeFlag", desc := "(I)I" } : Jvm.MethodName)) ∈ lw_all := lw_g (lw_at lw_m8 112 rfl) rfl
theorem q1995 : (Jvm.Cond.methodLink "FlagLaundryLaw" (332 : Nat) ({ cls := "FlagLaundryLaw", name := "writeTub", desc := "(LFlagLaundry;I[J)I" } : Jvm.MethodName)) ∈ lw_all := lw_g (lw_at lw_m8 183 rfl) rfl
theorem q1996 : (Jvm.Cond.static ({ cls := "FlagLaundryLaw", name := "writeTub", desc := "(LFlagLaundry;I[J)I" } : Jvm.MethodName)) ∈ lw_all := lw_g (lw_at lw_m8 184 rfl) rfl
theorem q1997 : (Jvm.Cond.codeWith ({ cls := "FlagLaundryLaw", name := "writeTub", desc := "(LFlagLaundry;I[J)I" } : Jvm.MethodName) method_40_code (4 : Nat) (Option.some Jvm.ClassFile.FieldType.int) [((0 : Nat), (9 : Nat), (12 : Nat), (20 : Nat)), ((0 : Nat), (9 : Nat), (15 : Nat), (13 : Nat))]) ∈ lw_all := lw_g (lw_at lw_m8 185 rfl) rfl
theorem q1998 : (Jvm.Cond.methodLink "FlagLaundryLaw" (132 : Nat) ({ cls := "FlagLaundry", name := "writeTub", desc := "(I)I" } : Jvm.MethodName)) ∈ lw_all := lw_g (lw_at lw_m8 186 rfl) rfl
theorem q2002 : (Jvm.Cond.methodLink "FlagLaundryLaw" (335 : Nat) ({ cls := "FlagLaundryLaw", name := "writeNation", desc := "(LFlagLaundry;I[J)I" } : Jvm.MethodName)) ∈ lw_all := lw_g (lw_at lw_m8 190 rfl) rfl
theorem q2003 : (Jvm.Cond.static ({ cls := "FlagLaundryLaw", name := "writeNation", desc := "(LFlagLaundry;I[J)I" } : Jvm.MethodName)) ∈ lw_all := lw_g (lw_at lw_m8 191 rfl) rfl
theorem q2004 : (Jvm.Cond.codeWith ({ cls := "FlagLaundryLaw", name := "writeNation", desc := "(LFlagLaundry;I[J)I" } : Jvm.MethodName) method_41_code (4 : Nat) (Option.some Jvm.ClassFile.FieldType.int) [((0 : Nat), (9 : Nat), (12 : Nat), (20 : Nat)), ((0 : Nat), (9 : Nat), (15 : Nat), (13 : Nat))]) ∈ lw_all := lw_g (lw_at lw_m8 192 rfl) rfl
theorem q2005 : (Jvm.Cond.methodLink "FlagLaundryLaw" (135 : Nat) ({ cls := "FlagLaundry", name := "writeNation", desc := "(I)I" } : Jvm.MethodName)) ∈ lw_all := lw_g (lw_at lw_m8 193 rfl) rfl
theorem q2009 : (Jvm.Cond.methodLink "FlagLaundryLaw" (338 : Nat) ({ cls := "FlagLaundryLaw", name := "writeLine", desc := "(LFlagLaundry;[J)I" } : Jvm.MethodName)) ∈ lw_all := lw_g (lw_at lw_m8 197 rfl) rfl
theorem q2010 : (Jvm.Cond.static ({ cls := "FlagLaundryLaw", name := "writeLine", desc := "(LFlagLaundry;[J)I" } : Jvm.MethodName)) ∈ lw_all := lw_g (lw_at lw_m8 198 rfl) rfl
theorem q2011 : (Jvm.Cond.codeWith ({ cls := "FlagLaundryLaw", name := "writeLine", desc := "(LFlagLaundry;[J)I" } : Jvm.MethodName) method_42_code (3 : Nat) (Option.some Jvm.ClassFile.FieldType.int) [((0 : Nat), (8 : Nat), (11 : Nat), (20 : Nat))]) ∈ lw_all := lw_g (lw_at lw_m8 199 rfl) rfl
theorem q2012 : (Jvm.Cond.methodLink "FlagLaundryLaw" (138 : Nat) ({ cls := "FlagLaundry", name := "writeLine", desc := "()I" } : Jvm.MethodName)) ∈ lw_all := lw_g (lw_at lw_m8 200 rfl) rfl
theorem q2016 : (Jvm.Cond.methodLink "FlagLaundryLaw" (341 : Nat) ({ cls := "FlagLaundryLaw", name := "textByte", desc := "(LFlagLaundry;I[J)I" } : Jvm.MethodName)) ∈ lw_all := lw_g (lw_at lw_m8 204 rfl) rfl
theorem q2017 : (Jvm.Cond.static ({ cls := "FlagLaundryLaw", name := "textByte", desc := "(LFlagLaundry;I[J)I" } : Jvm.MethodName)) ∈ lw_all := lw_g (lw_at lw_m8 205 rfl) rfl
theorem q2018 : (Jvm.Cond.codeWith ({ cls := "FlagLaundryLaw", name := "textByte", desc := "(LFlagLaundry;I[J)I" } : Jvm.MethodName) method_43_code (4 : Nat) (Option.some Jvm.ClassFile.FieldType.int) [((0 : Nat), (9 : Nat), (12 : Nat), (13 : Nat))]) ∈ lw_all := lw_g (lw_at lw_m8 206 rfl) rfl
theorem q2019 : (Jvm.Cond.methodLink "FlagLaundryLaw" (141 : Nat) ({ cls := "FlagLaundry", name := "textByte", desc := "(I)I" } : Jvm.MethodName)) ∈ lw_all := lw_g (lw_at lw_m8 207 rfl) rfl
theorem q2033 : (Jvm.Cond.methodLink "FlagLaundryLaw" (344 : Nat) ({ cls := "FlagLaundryLaw", name := "put", desc := "(LFlagLaundry;II[J)I" } : Jvm.MethodName)) ∈ lw_all := lw_g (lw_at lw_m8 221 rfl) rfl
theorem q2034 : (Jvm.Cond.static ({ cls := "FlagLaundryLaw", name := "put", desc := "(LFlagLaundry;II[J)I" } : Jvm.MethodName)) ∈ lw_all := lw_g (lw_at lw_m8 222 rfl) rfl
theorem q2035 : (Jvm.Cond.codeWith ({ cls := "FlagLaundryLaw", name := "put", desc := "(LFlagLaundry;II[J)I" } : Jvm.MethodName) method_44_code (5 : Nat) (Option.some Jvm.ClassFile.FieldType.int) [((0 : Nat), (10 : Nat), (13 : Nat), (20 : Nat)), ((0 : Nat), (10 : Nat), (17 : Nat), (13 : Nat)), ((0 : Nat), (10 : Nat), (21 : Nat), (15 : Nat))]) ∈ lw_all := lw_g (lw_at lw_m8 223 rfl) rfl
theorem q2036 : (Jvm.Cond.methodLink "FlagLaundryLaw" (144 : Nat) ({ cls := "FlagLaundry", name := "put", desc := "(II)I" } : Jvm.MethodName)) ∈ lw_all := lw_g (lw_at lw_m8 224 rfl) rfl
theorem q2081 : (Jvm.Cond.methodLink "FlagLaundryLaw" (347 : Nat) ({ cls := "FlagLaundryLaw", name := "wash", desc := "(LFlagLaundry;II[J)I" } : Jvm.MethodName)) ∈ lw_all := lw_g (lw_at lw_m9 29 rfl) rfl
theorem q2082 : (Jvm.Cond.static ({ cls := "FlagLaundryLaw", name := "wash", desc := "(LFlagLaundry;II[J)I" } : Jvm.MethodName)) ∈ lw_all := lw_g (lw_at lw_m9 30 rfl) rfl
theorem q2083 : (Jvm.Cond.codeWith ({ cls := "FlagLaundryLaw", name := "wash", desc := "(LFlagLaundry;II[J)I" } : Jvm.MethodName) method_45_code (5 : Nat) (Option.some Jvm.ClassFile.FieldType.int) [((0 : Nat), (10 : Nat), (13 : Nat), (20 : Nat)), ((0 : Nat), (10 : Nat), (17 : Nat), (13 : Nat)), ((0 : Nat), (10 : Nat), (21 : Nat), (15 : Nat))]) ∈ lw_all := lw_g (lw_at lw_m9 31 rfl) rfl
theorem q2084 : (Jvm.Cond.methodLink "FlagLaundryLaw" (147 : Nat) ({ cls := "FlagLaundry", name := "wash", desc := "(II)I" } : Jvm.MethodName)) ∈ lw_all := lw_g (lw_at lw_m9 32 rfl) rfl
theorem q2089 : (Jvm.Cond.methodLink "FlagLaundryLaw" (350 : Nat) ({ cls := "FlagLaundryLaw", name := "hang", desc := "(LFlagLaundry;I[J)I" } : Jvm.MethodName)) ∈ lw_all := lw_g (lw_at lw_m9 37 rfl) rfl
theorem q2090 : (Jvm.Cond.static ({ cls := "FlagLaundryLaw", name := "hang", desc := "(LFlagLaundry;I[J)I" } : Jvm.MethodName)) ∈ lw_all := lw_g (lw_at lw_m9 38 rfl) rfl
theorem q2091 : (Jvm.Cond.codeWith ({ cls := "FlagLaundryLaw", name := "hang", desc := "(LFlagLaundry;I[J)I" } : Jvm.MethodName) method_46_code (4 : Nat) (Option.some Jvm.ClassFile.FieldType.int) [((0 : Nat), (9 : Nat), (12 : Nat), (20 : Nat)), ((0 : Nat), (9 : Nat), (15 : Nat), (13 : Nat)), ((0 : Nat), (9 : Nat), (18 : Nat), (15 : Nat))]) ∈ lw_all := lw_g (lw_at lw_m9 39 rfl) rfl
theorem q2092 : (Jvm.Cond.methodLink "FlagLaundryLaw" (150 : Nat) ({ cls := "FlagLaundry", name := "hang", desc := "(I)I" } : Jvm.MethodName)) ∈ lw_all := lw_g (lw_at lw_m9 40 rfl) rfl
theorem q2098 : (Jvm.Cond.methodLink "FlagLaundryLaw" (353 : Nat) ({ cls := "FlagLaundryLaw", name := "hangAll", desc := "(LFlagLaundry;[J)I" } : Jvm.MethodName)) ∈ lw_all := lw_g (lw_at lw_m9 46 rfl) rfl
theorem q2099 : (Jvm.Cond.static ({ cls := "FlagLaundryLaw", name := "hangAll", desc := "(LFlagLaundry;[J)I" } : Jvm.MethodName)) ∈ lw_all := lw_g (lw_at lw_m9 47 rfl) rfl
theorem q2100 : (Jvm.Cond.codeWith ({ cls := "FlagLaundryLaw", name := "hangAll", desc := "(LFlagLaundry;[J)I" } : Jvm.MethodName) method_47_code (3 : Nat) (Option.some Jvm.ClassFile.FieldType.int) [((0 : Nat), (8 : Nat), (11 : Nat), (20 : Nat))]) ∈ lw_all := lw_g (lw_at lw_m9 48 rfl) rfl
theorem q2101 : (Jvm.Cond.methodLink "FlagLaundryLaw" (153 : Nat) ({ cls := "FlagLaundry", name := "hangAll", desc := "()I" } : Jvm.MethodName)) ∈ lw_all := lw_g (lw_at lw_m9 49 rfl) rfl
theorem q2105 : (Jvm.Cond.methodLink "FlagLaundryLaw" (356 : Nat) ({ cls := "FlagLaundryLaw", name := "takeDown", desc := "(LFlagLaundry;I[J)I" } : Jvm.MethodName)) ∈ lw_all := lw_g (lw_at lw_m9 53 rfl) rfl
theorem q2106 : (Jvm.Cond.static ({ cls := "FlagLaundryLaw", name := "takeDown", desc := "(LFlagLaundry;I[J)I" } : Jvm.MethodName)) ∈ lw_all := lw_g (lw_at lw_m9 54 rfl) rfl
theorem q2107 : (Jvm.Cond.codeWith ({ cls := "FlagLaundryLaw", name := "takeDown", desc := "(LFlagLaundry;I[J)I" } : Jvm.MethodName) method_48_code (4 : Nat) (Option.some Jvm.ClassFile.FieldType.int) [((0 : Nat), (9 : Nat), (12 : Nat), (20 : Nat)), ((0 : Nat), (9 : Nat), (15 : Nat), (13 : Nat)), ((0 : Nat), (9 : Nat), (18 : Nat), (15 : Nat))]) ∈ lw_all := lw_g (lw_at lw_m9 55 rfl) rfl
theorem q2108 : (Jvm.Cond.methodLink "FlagLaundryLaw" (156 : Nat) ({ cls := "FlagLaundry", name := "takeDown", desc := "(I)I" } : Jvm.MethodName)) ∈ lw_all := lw_g (lw_at lw_m9 56 rfl) rfl
theorem q2113 : (Jvm.Cond.methodLink "FlagLaundryLaw" (359 : Nat) ({ cls := "FlagLaundryLaw", name := "clearTub", desc := "(LFlagLaundry;I[J)I" } : Jvm.MethodName)) ∈ lw_all := lw_g (lw_at lw_m9 61 rfl) rfl
theorem q2114 : (Jvm.Cond.static ({ cls := "FlagLaundryLaw", name := "clearTub", desc := "(LFlagLaundry;I[J)I" } : Jvm.MethodName)) ∈ lw_all := lw_g (lw_at lw_m9 62 rfl) rfl
theorem q2115 : (Jvm.Cond.codeWith ({ cls := "FlagLaundryLaw", name := "clearTub", desc := "(LFlagLaundry;I[J)I" } : Jvm.MethodName) method_49_code (4 : Nat) (Option.some Jvm.ClassFile.FieldType.int) [((0 : Nat), (9 : Nat), (12 : Nat), (20 : Nat)), ((0 : Nat), (9 : Nat), (15 : Nat), (13 : Nat))]) ∈ lw_all := lw_g (lw_at lw_m9 63 rfl) rfl
theorem q2116 : (Jvm.Cond.methodLink "FlagLaundryLaw" (159 : Nat) ({ cls := "FlagLaundry", name := "clearTub", desc := "(I)I" } : Jvm.MethodName)) ∈ lw_all := lw_g (lw_at lw_m9 64 rfl) rfl
theorem q2121 : (Jvm.Cond.methodLink "FlagLaundryLaw" (362 : Nat) ({ cls := "FlagLaundryLaw", name := "iron", desc := "(LFlagLaundry;II[J)I" } : Jvm.MethodName)) ∈ lw_all := lw_g (lw_at lw_m9 69 rfl) rfl
theorem q2122 : (Jvm.Cond.static ({ cls := "FlagLaundryLaw", name := "iron", desc := "(LFlagLaundry;II[J)I" } : Jvm.MethodName)) ∈ lw_all := lw_g (lw_at lw_m9 70 rfl) rfl
theorem q2123 : (Jvm.Cond.codeWith ({ cls := "FlagLaundryLaw", name := "iron", desc := "(LFlagLaundry;II[J)I" } : Jvm.MethodName) method_50_code (5 : Nat) (Option.some Jvm.ClassFile.FieldType.int) [((0 : Nat), (10 : Nat), (13 : Nat), (20 : Nat)), ((0 : Nat), (10 : Nat), (17 : Nat), (13 : Nat)), ((0 : Nat), (10 : Nat), (21 : Nat), (15 : Nat))]) ∈ lw_all := lw_g (lw_at lw_m9 71 rfl) rfl
theorem q2124 : (Jvm.Cond.methodLink "FlagLaundryLaw" (162 : Nat) ({ cls := "FlagLaundry", name := "iron", desc := "(II)I" } : Jvm.MethodName)) ∈ lw_all := lw_g (lw_at lw_m9 72 rfl) rfl
theorem q2128 : (Jvm.Cond.methodLink "FlagLaundryLaw" (365 : Nat) ({ cls := "FlagLaundryLaw", name := "bleach", desc := "(LFlagLaundry;I[J)I" } : Jvm.MethodName)) ∈ lw_all := lw_g (lw_at lw_m9 76 rfl) rfl
theorem q2129 : (Jvm.Cond.static ({ cls := "FlagLaundryLaw", name := "bleach", desc := "(LFlagLaundry;I[J)I" } : Jvm.MethodName)) ∈ lw_all := lw_g (lw_at lw_m9 77 rfl) rfl
theorem q2130 : (Jvm.Cond.codeWith ({ cls := "FlagLaundryLaw", name := "bleach", desc := "(LFlagLaundry;I[J)I" } : Jvm.MethodName) method_51_code (4 : Nat) (Option.some Jvm.ClassFile.FieldType.int) [((0 : Nat), (9 : Nat), (12 : Nat), (20 : Nat)), ((0 : Nat), (9 : Nat), (15 : Nat), (13 : Nat)), ((0 : Nat), (9 : Nat), (18 : Nat), (15 : Nat))]) ∈ lw_all := lw_g (lw_at lw_m9 78 rfl) rfl
theorem q2131 : (Jvm.Cond.methodLink "FlagLaundryLaw" (165 : Nat) ({ cls := "FlagLaundry", name := "bleach", desc := "(I)I" } : Jvm.MethodName)) ∈ lw_all := lw_g (lw_at lw_m9 79 rfl) rfl
theorem q2144 : (Jvm.Cond.methodLink "FlagLaundryLaw" (368 : Nat) ({ cls := "FlagLaundryLaw", name := "handOver", desc := "(LFlagLaundry;I[J)I" } : Jvm.MethodName)) ∈ lw_all := lw_g (lw_at lw_m9 92 rfl) rfl
theorem q2145 : (Jvm.Cond.static ({ cls := "FlagLaundryLaw", name := "handOver", desc := "(LFlagLaundry;I[J)I" } : Jvm.MethodName)) ∈ lw_all := lw_g (lw_at lw_m9 93 rfl) rfl
theorem q2146 : (Jvm.Cond.codeWith ({ cls := "FlagLaundryLaw", name := "handOver", desc := "(LFlagLaundry;I[J)I" } : Jvm.MethodName) method_52_code (4 : Nat) (Option.some Jvm.ClassFile.FieldType.int) [((0 : Nat), (9 : Nat), (12 : Nat), (20 : Nat)), ((0 : Nat), (9 : Nat), (15 : Nat), (13 : Nat)), ((0 : Nat), (9 : Nat), (18 : Nat), (15 : Nat))]) ∈ lw_all := lw_g (lw_at lw_m9 94 rfl) rfl
theorem q2147 : (Jvm.Cond.methodLink "FlagLaundryLaw" (168 : Nat) ({ cls := "FlagLaundry", name := "handOver", desc := "(I)I" } : Jvm.MethodName)) ∈ lw_all := lw_g (lw_at lw_m9 95 rfl) rfl
theorem q2163 : (Jvm.Cond.methodLink "FlagLaundryLaw" (371 : Nat) ({ cls := "FlagLaundryLaw", name := "pass", desc := "(LFlagLaundry;I[J)I" } : Jvm.MethodName)) ∈ lw_all := lw_g (lw_at lw_m9 111 rfl) rfl
theorem q2164 : (Jvm.Cond.static ({ cls := "FlagLaundryLaw", name := "pass", desc := "(LFlagLaundry;I[J)I" } : Jvm.MethodName)) ∈ lw_all := lw_g (lw_at lw_m9 112 rfl) rfl
theorem q2165 : (Jvm.Cond.codeWith ({ cls := "FlagLaundryLaw", name := "pass", desc := "(LFlagLaundry;I[J)I" } : Jvm.MethodName) method_53_code (4 : Nat) (Option.some Jvm.ClassFile.FieldType.int) [((0 : Nat), (9 : Nat), (12 : Nat), (20 : Nat)), ((0 : Nat), (9 : Nat), (15 : Nat), (15 : Nat))]) ∈ lw_all := lw_g (lw_at lw_m9 113 rfl) rfl
theorem q2166 : (Jvm.Cond.methodLink "FlagLaundryLaw" (171 : Nat) ({ cls := "FlagLaundry", name := "pass", desc := "(I)I" } : Jvm.MethodName)) ∈ lw_all := lw_g (lw_at lw_m9 114 rfl) rfl
theorem q2171 : (Jvm.Cond.methodLink "FlagLaundryLaw" (374 : Nat) ({ cls := "FlagLaundryLaw", name := "setWind", desc := "(LFlagLaundry;I[J)I" } : Jvm.MethodName)) ∈ lw_all := lw_g (lw_at lw_m9 119 rfl) rfl
theorem q2172 : (Jvm.Cond.static ({ cls := "FlagLaundryLaw", name := "setWind", desc := "(LFlagLaundry;I[J)I" } : Jvm.MethodName)) ∈ lw_all := lw_g (lw_at lw_m9 120 rfl) rfl
theorem q2173 : (Jvm.Cond.codeWith ({ cls := "FlagLaundryLaw", name := "setWind", desc := "(LFlagLaundry;I[J)I" } : Jvm.MethodName) method_54_code (4 : Nat) (Option.some Jvm.ClassFile.FieldType.int) [((0 : Nat), (9 : Nat), (12 : Nat), (20 : Nat)), ((0 : Nat), (9 : Nat), (15 : Nat), (15 : Nat))]) ∈ lw_all := lw_g (lw_at lw_m9 121 rfl) rfl
theorem q2174 : (Jvm.Cond.methodLink "FlagLaundryLaw" (174 : Nat) ({ cls := "FlagLaundry", name := "setWind", desc := "(I)I" } : Jvm.MethodName)) ∈ lw_all := lw_g (lw_at lw_m9 122 rfl) rfl
theorem q2178 : (Jvm.Cond.methodLink "FlagLaundryLaw" (377 : Nat) ({ cls := "FlagLaundryLaw", name := "addFlag", desc := "(LFlagLaundry;IIII[J)I" } : Jvm.MethodName)) ∈ lw_all := lw_g (lw_at lw_m9 126 rfl) rfl
theorem q2179 : (Jvm.Cond.static ({ cls := "FlagLaundryLaw", name := "addFlag", desc := "(LFlagLaundry;IIII[J)I" } : Jvm.MethodName)) ∈ lw_all := lw_g (lw_at lw_m9 127 rfl) rfl
theorem q2180 : (Jvm.Cond.codeWith ({ cls := "FlagLaundryLaw", name := "addFlag", desc := "(LFlagLaundry;IIII[J)I" } : Jvm.MethodName) method_55_code (7 : Nat) (Option.some Jvm.ClassFile.FieldType.int) [((0 : Nat), (14 : Nat), (17 : Nat), (20 : Nat)), ((0 : Nat), (14 : Nat), (21 : Nat), (13 : Nat)), ((0 : Nat), (14 : Nat), (25 : Nat), (15 : Nat))]) ∈ lw_all := lw_g (lw_at lw_m9 128 rfl) rfl
theorem q2181 : (Jvm.Cond.methodLink "FlagLaundryLaw" (177 : Nat) ({ cls := "FlagLaundry", name := "addFlag", desc := "(IIII)I" } : Jvm.MethodName)) ∈ lw_all := lw_g (lw_at lw_m9 129 rfl) rfl
theorem q2187 : (Jvm.Cond.methodLink "FlagLaundryLaw" (381 : Nat) ({ cls := "FlagLaundryLaw", name := "undo", desc := "(LFlagLaundry;[J)I" } : Jvm.MethodName)) ∈ lw_all := lw_g (lw_at lw_m9 135 rfl) rfl
theorem q2188 : (Jvm.Cond.static ({ cls := "FlagLaundryLaw", name := "undo", desc := "(LFlagLaundry;[J)I" } : Jvm.MethodName)) ∈ lw_all := lw_g (lw_at lw_m9 136 rfl) rfl
theorem q2189 : (Jvm.Cond.codeWith ({ cls := "FlagLaundryLaw", name := "undo", desc := "(LFlagLaundry;[J)I" } : Jvm.MethodName) method_56_code (3 : Nat) (Option.some Jvm.ClassFile.FieldType.int) [((0 : Nat), (8 : Nat), (11 : Nat), (20 : Nat))]) ∈ lw_all := lw_g (lw_at lw_m9 137 rfl) rfl
theorem q2190 : (Jvm.Cond.methodLink "FlagLaundryLaw" (181 : Nat) ({ cls := "FlagLaundry", name := "undo", desc := "()I" } : Jvm.MethodName)) ∈ lw_all := lw_g (lw_at lw_m9 138 rfl) rfl
theorem q2209 : (Jvm.Cond.methodLink "FlagLaundryLaw" (388 : Nat) ({ cls := "FlagLaundryLaw", name := "save", desc := "(LFlagLaundry;I[J)I" } : Jvm.MethodName)) ∈ lw_all := lw_g (lw_at lw_m9 157 rfl) rfl
theorem q2210 : (Jvm.Cond.static ({ cls := "FlagLaundryLaw", name := "save", desc := "(LFlagLaundry;I[J)I" } : Jvm.MethodName)) ∈ lw_all := lw_g (lw_at lw_m9 158 rfl) rfl
theorem q2211 : (Jvm.Cond.codeWith ({ cls := "FlagLaundryLaw", name := "save", desc := "(LFlagLaundry;I[J)I" } : Jvm.MethodName) method_57_code (4 : Nat) (Option.some Jvm.ClassFile.FieldType.int) [((0 : Nat), (9 : Nat), (12 : Nat), (20 : Nat)), ((0 : Nat), (9 : Nat), (15 : Nat), (13 : Nat))]) ∈ lw_all := lw_g (lw_at lw_m9 159 rfl) rfl
theorem q2212 : (Jvm.Cond.methodLink "FlagLaundryLaw" (184 : Nat) ({ cls := "FlagLaundry", name := "save", desc := "(I)I" } : Jvm.MethodName)) ∈ lw_all := lw_g (lw_at lw_m9 160 rfl) rfl
theorem q2216 : (Jvm.Cond.methodLink "FlagLaundryLaw" (391 : Nat) ({ cls := "FlagLaundryLaw", name := "restore", desc := "(LFlagLaundry;I[J)I" } : Jvm.MethodName)) ∈ lw_all := lw_g (lw_at lw_m9 164 rfl) rfl
theorem q2217 : (Jvm.Cond.static ({ cls := "FlagLaundryLaw", name := "restore", desc := "(LFlagLaundry;I[J)I" } : Jvm.MethodName)) ∈ lw_all := lw_g (lw_at lw_m9 165 rfl) rfl
theorem q2218 : (Jvm.Cond.codeWith ({ cls := "FlagLaundryLaw", name := "restore", desc := "(LFlagLaundry;I[J)I" } : Jvm.MethodName) method_58_code (4 : Nat) (Option.some Jvm.ClassFile.FieldType.int) [((0 : Nat), (9 : Nat), (12 : Nat), (13 : Nat)), ((0 : Nat), (9 : Nat), (15 : Nat), (20 : Nat))]) ∈ lw_all := lw_g (lw_at lw_m9 166 rfl) rfl
theorem q2219 : (Jvm.Cond.methodLink "FlagLaundryLaw" (187 : Nat) ({ cls := "FlagLaundry", name := "restore", desc := "(I)I" } : Jvm.MethodName)) ∈ lw_all := lw_g (lw_at lw_m9 167 rfl) rfl
theorem q2223 : (Jvm.Cond.classLink "FlagLaundryLaw" (191 : Nat) "FlagLaundryModel") ∈ lw_all := lw_g (lw_at lw_m9 171 rfl) rfl
theorem q2225 : (Jvm.Cond.methodLink "FlagLaundryLaw" (193 : Nat) ({ cls := "FlagLaundryModel", name := "<init>", desc := "()V" } : Jvm.MethodName)) ∈ lw_all := lw_g (lw_at lw_m9 173 rfl) rfl
theorem q2291 : (Jvm.Cond.methodLink "FlagLaundryLaw" (205 : Nat) ({ cls := "FlagLaundryModel", name := "thrown", desc := "()I" } : Jvm.MethodName)) ∈ lw_all := lw_g (lw_at lw_m9 239 rfl) rfl
theorem q2295 : (Jvm.Cond.methodLink "FlagLaundryLaw" (198 : Nat) ({ cls := "FlagLaundryModel", name := "append", desc := "(IIIII)I" } : Jvm.MethodName)) ∈ lw_all := lw_g (lw_at lw_m10 3 rfl) rfl
theorem q2303 : (Jvm.Cond.methodLink "FlagLaundryLaw" (211 : Nat) ({ cls := "FlagLaundryModel", name := "parseError", desc := "()I" } : Jvm.MethodName)) ∈ lw_all := lw_g (lw_at lw_m10 11 rfl) rfl
theorem q2307 : (Jvm.Cond.methodLink "FlagLaundryLaw" (215 : Nat) ({ cls := "FlagLaundryModel", name := "errorPosition", desc := "()I" } : Jvm.MethodName)) ∈ lw_all := lw_g (lw_at lw_m10 15 rfl) rfl
theorem q2311 : (Jvm.Cond.methodLink "FlagLaundryLaw" (219 : Nat) ({ cls := "FlagLaundryModel", name := "buffered", desc := "()I" } : Jvm.MethodName)) ∈ lw_all := lw_g (lw_at lw_m10 19 rfl) rfl
theorem q2315 : (Jvm.Cond.methodLink "FlagLaundryLaw" (204 : Nat) ({ cls := "FlagLaundryModel", name := "load", desc := "(I)I" } : Jvm.MethodName)) ∈ lw_all := lw_g (lw_at lw_m10 23 rfl) rfl
theorem q2561 : (Jvm.Cond.methodLink "FlagLaundryLaw" (222 : Nat) ({ cls := "FlagLaundryModel", name := "count", desc := "(I)I" } : Jvm.MethodName)) ∈ lw_all := lw_g (lw_at lw_m11 29 rfl) rfl
theorem q2585 : (Jvm.Cond.methodLink "FlagLaundryLaw" (226 : Nat) ({ cls := "FlagLaundryModel", name := "colour", desc := "(II)I" } : Jvm.MethodName)) ∈ lw_all := lw_g (lw_at lw_m11 53 rfl) rfl
theorem q2597 : (Jvm.Cond.methodLink "FlagLaundryLaw" (229 : Nat) ({ cls := "FlagLaundryModel", name := "nation", desc := "(II)I" } : Jvm.MethodName)) ∈ lw_all := lw_g (lw_at lw_m11 65 rfl) rfl
theorem q2625 : (Jvm.Cond.methodLink "FlagLaundryLaw" (232 : Nat) ({ cls := "FlagLaundryModel", name := "flag", desc := "(II)I" } : Jvm.MethodName)) ∈ lw_all := lw_g (lw_at lw_m11 93 rfl) rfl
theorem q2633 : (Jvm.Cond.methodLink "FlagLaundryLaw" (235 : Nat) ({ cls := "FlagLaundryModel", name := "tub", desc := "(II)I" } : Jvm.MethodName)) ∈ lw_all := lw_g (lw_at lw_m11 101 rfl) rfl
theorem q2645 : (Jvm.Cond.methodLink "FlagLaundryLaw" (238 : Nat) ({ cls := "FlagLaundryModel", name := "inTub", desc := "(II)I" } : Jvm.MethodName)) ∈ lw_all := lw_g (lw_at lw_m11 113 rfl) rfl
theorem q2661 : (Jvm.Cond.methodLink "FlagLaundryLaw" (241 : Nat) ({ cls := "FlagLaundryModel", name := "onPeg", desc := "(I)I" } : Jvm.MethodName)) ∈ lw_all := lw_g (lw_at lw_m11 129 rfl) rfl
theorem q2665 : (Jvm.Cond.methodLink "FlagLaundryLaw" (245 : Nat) ({ cls := "FlagLaundryModel", name := "freePegs", desc := "()I" } : Jvm.MethodName)) ∈ lw_all := lw_g (lw_at lw_m11 133 rfl) rfl
theorem q2673 : (Jvm.Cond.methodLink "FlagLaundryLaw" (248 : Nat) ({ cls := "FlagLaundryModel", name := "wettest", desc := "()I" } : Jvm.MethodName)) ∈ lw_all := lw_g (lw_at lw_m11 141 rfl) rfl
theorem q2677 : (Jvm.Cond.methodLink "FlagLaundryLaw" (251 : Nat) ({ cls := "FlagLaundryModel", name := "gap", desc := "()I" } : Jvm.MethodName)) ∈ lw_all := lw_g (lw_at lw_m11 145 rfl) rfl
theorem q2682 : (Jvm.Cond.methodLink "FlagLaundryLaw" (254 : Nat) ({ cls := "FlagLaundryModel", name := "why", desc := "(I)I" } : Jvm.MethodName)) ∈ lw_all := lw_g (lw_at lw_m11 150 rfl) rfl
theorem q2690 : (Jvm.Cond.methodLink "FlagLaundryLaw" (257 : Nat) ({ cls := "FlagLaundryModel", name := "reasons", desc := "(I)I" } : Jvm.MethodName)) ∈ lw_all := lw_g (lw_at lw_m11 158 rfl) rfl
theorem q2694 : (Jvm.Cond.methodLink "FlagLaundryLaw" (260 : Nat) ({ cls := "FlagLaundryModel", name := "culprit", desc := "(I)I" } : Jvm.MethodName)) ∈ lw_all := lw_g (lw_at lw_m11 162 rfl) rfl
theorem q2702 : (Jvm.Cond.methodLink "FlagLaundryLaw" (263 : Nat) ({ cls := "FlagLaundryModel", name := "whyNotPut", desc := "(II)I" } : Jvm.MethodName)) ∈ lw_all := lw_g (lw_at lw_m11 170 rfl) rfl
theorem q2706 : (Jvm.Cond.methodLink "FlagLaundryLaw" (266 : Nat) ({ cls := "FlagLaundryModel", name := "whyNotWash", desc := "(II)I" } : Jvm.MethodName)) ∈ lw_all := lw_g (lw_at lw_m11 174 rfl) rfl
theorem q2717 : (Jvm.Cond.methodLink "FlagLaundryLaw" (269 : Nat) ({ cls := "FlagLaundryModel", name := "whyNotIron", desc := "(II)I" } : Jvm.MethodName)) ∈ lw_all := lw_g (lw_at lw_m11 185 rfl) rfl
theorem q2725 : (Jvm.Cond.methodLink "FlagLaundryLaw" (272 : Nat) ({ cls := "FlagLaundryModel", name := "whyNotBleach", desc := "(I)I" } : Jvm.MethodName)) ∈ lw_all := lw_g (lw_at lw_m11 193 rfl) rfl
theorem q2733 : (Jvm.Cond.methodLink "FlagLaundryLaw" (275 : Nat) ({ cls := "FlagLaundryModel", name := "running", desc := "(II)I" } : Jvm.MethodName)) ∈ lw_all := lw_g (lw_at lw_m11 201 rfl) rfl
theorem q2737 : (Jvm.Cond.methodLink "FlagLaundryLaw" (278 : Nat) ({ cls := "FlagLaundryModel", name := "stainedIf", desc := "(II)I" } : Jvm.MethodName)) ∈ lw_all := lw_g (lw_at lw_m11 205 rfl) rfl
theorem q2741 : (Jvm.Cond.methodLink "FlagLaundryLaw" (281 : Nat) ({ cls := "FlagLaundryModel", name := "dirtIf", desc := "(II)I" } : Jvm.MethodName)) ∈ lw_all := lw_g (lw_at lw_m11 209 rfl) rfl
theorem q2749 : (Jvm.Cond.methodLink "FlagLaundryLaw" (284 : Nat) ({ cls := "FlagLaundryModel", name := "bestHeat", desc := "(I)I" } : Jvm.MethodName)) ∈ lw_all := lw_g (lw_at lw_m11 217 rfl) rfl
theorem q2757 : (Jvm.Cond.methodLink "FlagLaundryLaw" (287 : Nat) ({ cls := "FlagLaundryModel", name := "firstSafe", desc := "(II)I" } : Jvm.MethodName)) ∈ lw_all := lw_g (lw_at lw_m11 225 rfl) rfl
theorem q2765 : (Jvm.Cond.methodLink "FlagLaundryLaw" (291 : Nat) ({ cls := "FlagLaundryModel", name := "doNotMix", desc := "(III)I" } : Jvm.MethodName)) ∈ lw_all := lw_g (lw_at lw_m11 233 rfl) rfl
theorem q2773 : (Jvm.Cond.methodLink "FlagLaundryLaw" (294 : Nat) ({ cls := "FlagLaundryModel", name := "groups", desc := "(I)I" } : Jvm.MethodName)) ∈ lw_all := lw_g (lw_at lw_m12 1 rfl) rfl
theorem q2781 : (Jvm.Cond.methodLink "FlagLaundryLaw" (297 : Nat) ({ cls := "FlagLaundryModel", name := "purest", desc := "(I)I" } : Jvm.MethodName)) ∈ lw_all := lw_g (lw_at lw_m12 9 rfl) rfl
theorem q2789 : (Jvm.Cond.methodLink "FlagLaundryLaw" (300 : Nat) ({ cls := "FlagLaundryModel", name := "washesFor", desc := "(I)I" } : Jvm.MethodName)) ∈ lw_all := lw_g (lw_at lw_m12 17 rfl) rfl
theorem q2793 : (Jvm.Cond.methodLink "FlagLaundryLaw" (303 : Nat) ({ cls := "FlagLaundryModel", name := "dryIn", desc := "(I)I" } : Jvm.MethodName)) ∈ lw_all := lw_g (lw_at lw_m12 21 rfl) rfl
theorem q2801 : (Jvm.Cond.methodLink "FlagLaundryLaw" (306 : Nat) ({ cls := "FlagLaundryModel", name := "dryByWind", desc := "(II)I" } : Jvm.MethodName)) ∈ lw_all := lw_g (lw_at lw_m12 29 rfl) rfl
theorem q2808 : (Jvm.Cond.methodLink "FlagLaundryLaw" (309 : Nat) ({ cls := "FlagLaundryModel", name := "fallsIn", desc := "(I)I" } : Jvm.MethodName)) ∈ lw_all := lw_g (lw_at lw_m12 36 rfl) rfl
theorem q2812 : (Jvm.Cond.methodLink "FlagLaundryLaw" (312 : Nat) ({ cls := "FlagLaundryModel", name := "payIf", desc := "(II)I" } : Jvm.MethodName)) ∈ lw_all := lw_g (lw_at lw_m12 40 rfl) rfl
theorem q2824 : (Jvm.Cond.methodLink "FlagLaundryLaw" (315 : Nat) ({ cls := "FlagLaundryModel", name := "latest", desc := "(I)I" } : Jvm.MethodName)) ∈ lw_all := lw_g (lw_at lw_m12 52 rfl) rfl
theorem q2832 : (Jvm.Cond.methodLink "FlagLaundryLaw" (318 : Nat) ({ cls := "FlagLaundryModel", name := "dearest", desc := "()I" } : Jvm.MethodName)) ∈ lw_all := lw_g (lw_at lw_m12 60 rfl) rfl
theorem q2836 : (Jvm.Cond.methodLink "FlagLaundryLaw" (321 : Nat) ({ cls := "FlagLaundryModel", name := "ironsFor", desc := "(II)I" } : Jvm.MethodName)) ∈ lw_all := lw_g (lw_at lw_m12 64 rfl) rfl
theorem q2848 : (Jvm.Cond.methodLink "FlagLaundryLaw" (325 : Nat) ({ cls := "FlagLaundryModel", name := "readyShare", desc := "()F" } : Jvm.MethodName)) ∈ lw_all := lw_g (lw_at lw_m12 76 rfl) rfl
theorem q2852 : (Jvm.Cond.methodLink "FlagLaundryLaw" (328 : Nat) ({ cls := "FlagLaundryModel", name := "meanDirt", desc := "()D" } : Jvm.MethodName)) ∈ lw_all := lw_g (lw_at lw_m12 80 rfl) rfl
theorem q2860 : (Jvm.Cond.methodLink "FlagLaundryLaw" (331 : Nat) ({ cls := "FlagLaundryModel", name := "writeFlag", desc := "(I)I" } : Jvm.MethodName)) ∈ lw_all := lw_g (lw_at lw_m12 88 rfl) rfl
theorem q2875 : (Jvm.Cond.methodLink "FlagLaundryLaw" (334 : Nat) ({ cls := "FlagLaundryModel", name := "writeTub", desc := "(I)I" } : Jvm.MethodName)) ∈ lw_all := lw_g (lw_at lw_m12 103 rfl) rfl
theorem q2879 : (Jvm.Cond.methodLink "FlagLaundryLaw" (337 : Nat) ({ cls := "FlagLaundryModel", name := "writeNation", desc := "(I)I" } : Jvm.MethodName)) ∈ lw_all := lw_g (lw_at lw_m12 107 rfl) rfl
theorem q2887 : (Jvm.Cond.methodLink "FlagLaundryLaw" (340 : Nat) ({ cls := "FlagLaundryModel", name := "writeLine", desc := "()I" } : Jvm.MethodName)) ∈ lw_all := lw_g (lw_at lw_m12 115 rfl) rfl
theorem q2891 : (Jvm.Cond.methodLink "FlagLaundryLaw" (343 : Nat) ({ cls := "FlagLaundryModel", name := "textByte", desc := "(I)I" } : Jvm.MethodName)) ∈ lw_all := lw_g (lw_at lw_m12 119 rfl) rfl
theorem q2895 : (Jvm.Cond.methodLink "FlagLaundryLaw" (346 : Nat) ({ cls := "FlagLaundryModel", name := "put", desc := "(II)I" } : Jvm.MethodName)) ∈ lw_all := lw_g (lw_at lw_m12 123 rfl) rfl
theorem q2903 : (Jvm.Cond.methodLink "FlagLaundryLaw" (349 : Nat) ({ cls := "FlagLaundryModel", name := "wash", desc := "(II)I" } : Jvm.MethodName)) ∈ lw_all := lw_g (lw_at lw_m12 131 rfl) rfl
theorem q2907 : (Jvm.Cond.methodLink "FlagLaundryLaw" (352 : Nat) ({ cls := "FlagLaundryModel", name := "hang", desc := "(I)I" } : Jvm.MethodName)) ∈ lw_all := lw_g (lw_at lw_m12 135 rfl) rfl
theorem q2911 : (Jvm.Cond.methodLink "FlagLaundryLaw" (355 : Nat) ({ cls := "FlagLaundryModel", name := "hangAll", desc := "()I" } : Jvm.MethodName)) ∈ lw_all := lw_g (lw_at lw_m12 139 rfl) rfl
theorem q2915 : (Jvm.Cond.methodLink "FlagLaundryLaw" (361 : Nat) ({ cls := "FlagLaundryModel", name := "clearTub", desc := "(I)I" } : Jvm.MethodName)) ∈ lw_all := lw_g (lw_at lw_m12 143 rfl) rfl
theorem q2919 : (Jvm.Cond.methodLink "FlagLaundryLaw" (358 : Nat) ({ cls := "FlagLaundryModel", name := "takeDown", desc := "(I)I" } : Jvm.MethodName)) ∈ lw_all := lw_g (lw_at lw_m12 147 rfl) rfl
theorem q2923 : (Jvm.Cond.methodLink "FlagLaundryLaw" (364 : Nat) ({ cls := "FlagLaundryModel", name := "iron", desc := "(II)I" } : Jvm.MethodName)) ∈ lw_all := lw_g (lw_at lw_m12 151 rfl) rfl
theorem q2927 : (Jvm.Cond.methodLink "FlagLaundryLaw" (367 : Nat) ({ cls := "FlagLaundryModel", name := "bleach", desc := "(I)I" } : Jvm.MethodName)) ∈ lw_all := lw_g (lw_at lw_m12 155 rfl) rfl
theorem q2935 : (Jvm.Cond.methodLink "FlagLaundryLaw" (370 : Nat) ({ cls := "FlagLaundryModel", name := "handOver", desc := "(I)I" } : Jvm.MethodName)) ∈ lw_all := lw_g (lw_at lw_m12 163 rfl) rfl
theorem q2943 : (Jvm.Cond.methodLink "FlagLaundryLaw" (373 : Nat) ({ cls := "FlagLaundryModel", name := "pass", desc := "(I)I" } : Jvm.MethodName)) ∈ lw_all := lw_g (lw_at lw_m12 171 rfl) rfl
theorem q2947 : (Jvm.Cond.methodLink "FlagLaundryLaw" (376 : Nat) ({ cls := "FlagLaundryModel", name := "setWind", desc := "(I)I" } : Jvm.MethodName)) ∈ lw_all := lw_g (lw_at lw_m12 175 rfl) rfl
theorem q2951 : (Jvm.Cond.methodLink "FlagLaundryLaw" (380 : Nat) ({ cls := "FlagLaundryModel", name := "addFlag", desc := "(IIII)I" } : Jvm.MethodName)) ∈ lw_all := lw_g (lw_at lw_m12 179 rfl) rfl
theorem q2955 : (Jvm.Cond.methodLink "FlagLaundryLaw" (383 : Nat) ({ cls := "FlagLaundryModel", name := "undo", desc := "()I" } : Jvm.MethodName)) ∈ lw_all := lw_g (lw_at lw_m12 183 rfl) rfl
theorem q2959 : (Jvm.Cond.methodLink "FlagLaundryLaw" (387 : Nat) ({ cls := "FlagLaundryModel", name := "undoable", desc := "()I" } : Jvm.MethodName)) ∈ lw_all := lw_g (lw_at lw_m12 187 rfl) rfl
theorem q2963 : (Jvm.Cond.methodLink "FlagLaundryLaw" (390 : Nat) ({ cls := "FlagLaundryModel", name := "save", desc := "(I)I" } : Jvm.MethodName)) ∈ lw_all := lw_g (lw_at lw_m12 191 rfl) rfl
theorem q2970 : (Jvm.Cond.methodLink "FlagLaundryLaw" (393 : Nat) ({ cls := "FlagLaundryModel", name := "restore", desc := "(I)I" } : Jvm.MethodName)) ∈ lw_all := lw_g (lw_at lw_m12 198 rfl) rfl

/-! the law's own entry -/
set_option maxRecDepth 100000
abbrev cL_law : ByteArray := code
def dkwL_law_152 : List UInt8 := [167, 241, 89, 4, 172]
abbrev dktL_law_152 : List UInt8 := dkwL_law_152 ++ []
def dkwL_law_151 : List UInt8 := [172, 21, 6, 154, 0, 15, 45, 3, 47, 21, 7, 133, 148, 153, 0, 5, 3, 172, 167, 0, 3, 132, 5, 6]
abbrev dktL_law_151 : List UInt8 := dkwL_law_151 ++ dktL_law_152
def dkwL_law_150 : List UInt8 := [54, 6, 44, 42, 21, 5, 4, 96, 46, 182, 1, 137, 54, 7, 44, 182, 0, 205, 21, 6, 159, 0, 5, 3]
abbrev dktL_law_150 : List UInt8 := dkwL_law_150 ++ dktL_law_151
def dkwL_law_149 : List UInt8 := [47, 21, 7, 133, 148, 153, 0, 5, 3, 172, 167, 0, 59, 43, 42, 21, 5, 4, 96, 46, 45, 184, 1, 135]
abbrev dktL_law_149 : List UInt8 := dkwL_law_149 ++ dktL_law_150
def dkwL_law_148 : List UInt8 := [46, 182, 1, 134, 54, 7, 44, 182, 0, 205, 21, 6, 159, 0, 5, 3, 172, 21, 6, 154, 0, 15, 45, 3]
abbrev dktL_law_148 : List UInt8 := dkwL_law_148 ++ dktL_law_149
def dkwL_law_147 : List UInt8 := [159, 0, 117, 3, 172, 43, 42, 21, 5, 4, 96, 46, 45, 184, 1, 132, 54, 6, 44, 42, 21, 5, 4, 96]
abbrev dktL_law_147 : List UInt8 := dkwL_law_147 ++ dktL_law_148
def dkwL_law_146 : List UInt8 := [45, 3, 47, 21, 7, 133, 148, 153, 0, 5, 3, 172, 167, 0, 128, 43, 182, 1, 128, 44, 182, 1, 131]
abbrev dktL_law_146 : List UInt8 := dkwL_law_146 ++ dktL_law_147
def dkwL_law_145 : List UInt8 := [54, 6, 44, 182, 1, 127, 54, 7, 44, 182, 0, 205, 21, 6, 159, 0, 5, 3, 172, 21, 6, 154, 0, 15]
abbrev dktL_law_145 : List UInt8 := dkwL_law_145 ++ dktL_law_146
def dkwL_law_144 : List UInt8 := [154, 0, 15, 45, 3, 47, 21, 7, 133, 148, 153, 0, 5, 3, 172, 167, 0, 172, 43, 45, 184, 1, 125]
abbrev dktL_law_144 : List UInt8 := dkwL_law_144 ++ dktL_law_145
def dkwL_law_143 : List UInt8 := [42, 21, 5, 7, 96, 46, 182, 1, 124, 54, 7, 44, 182, 0, 205, 21, 6, 159, 0, 5, 3, 172, 21, 6]
abbrev dktL_law_143 : List UInt8 := dkwL_law_143 ++ dktL_law_144
def dkwL_law_142 : List UInt8 := [184, 1, 121, 54, 6, 44, 42, 21, 5, 4, 96, 46, 42, 21, 5, 5, 96, 46, 42, 21, 5, 6, 96, 46]
abbrev dktL_law_142 : List UInt8 := dkwL_law_142 ++ dktL_law_143
def dkwL_law_141 : List UInt8 := [21, 5, 4, 96, 46, 42, 21, 5, 5, 96, 46, 42, 21, 5, 6, 96, 46, 42, 21, 5, 7, 96, 46, 45]
abbrev dktL_law_141 : List UInt8 := dkwL_law_141 ++ dktL_law_142
def dkwL_law_140 : List UInt8 := [172, 21, 6, 154, 0, 15, 45, 3, 47, 21, 7, 133, 148, 153, 0, 5, 3, 172, 167, 1, 8, 43, 42]
abbrev dktL_law_140 : List UInt8 := dkwL_law_140 ++ dktL_law_141
def dkwL_law_139 : List UInt8 := [54, 6, 44, 42, 21, 5, 4, 96, 46, 182, 1, 120, 54, 7, 44, 182, 0, 205, 21, 6, 159, 0, 5, 3]
abbrev dktL_law_139 : List UInt8 := dkwL_law_139 ++ dktL_law_140
def dkwL_law_138 : List UInt8 := [21, 7, 133, 148, 153, 0, 5, 3, 172, 167, 1, 64, 43, 42, 21, 5, 4, 96, 46, 45, 184, 1, 118]
abbrev dktL_law_138 : List UInt8 := dkwL_law_138 ++ dktL_law_139
def dkwL_law_137 : List UInt8 := [182, 1, 117, 54, 7, 44, 182, 0, 205, 21, 6, 159, 0, 5, 3, 172, 21, 6, 154, 0, 15, 45, 3, 47]
abbrev dktL_law_137 : List UInt8 := dkwL_law_137 ++ dktL_law_138
def dkwL_law_136 : List UInt8 := [167, 1, 120, 43, 42, 21, 5, 4, 96, 46, 45, 184, 1, 115, 54, 6, 44, 42, 21, 5, 4, 96, 46]
abbrev dktL_law_136 : List UInt8 := dkwL_law_136 ++ dktL_law_137
def dkwL_law_135 : List UInt8 := [21, 6, 159, 0, 5, 3, 172, 21, 6, 154, 0, 15, 45, 3, 47, 21, 7, 133, 148, 153, 0, 5, 3, 172]
abbrev dktL_law_135 : List UInt8 := dkwL_law_135 ++ dktL_law_136
def dkwL_law_134 : List UInt8 := [46, 45, 184, 1, 112, 54, 6, 44, 42, 21, 5, 4, 96, 46, 182, 1, 114, 54, 7, 44, 182, 0, 205]
abbrev dktL_law_134 : List UInt8 := dkwL_law_134 ++ dktL_law_135
def dkwL_law_133 : List UInt8 := [154, 0, 15, 45, 3, 47, 21, 7, 133, 148, 153, 0, 5, 3, 172, 167, 1, 176, 43, 42, 21, 5, 4, 96]
abbrev dktL_law_133 : List UInt8 := dkwL_law_133 ++ dktL_law_134
def dkwL_law_132 : List UInt8 := [21, 5, 4, 96, 46, 182, 1, 111, 54, 7, 44, 182, 0, 205, 21, 6, 159, 0, 5, 3, 172, 21, 6]
abbrev dktL_law_132 : List UInt8 := dkwL_law_132 ++ dktL_law_133
def dkwL_law_131 : List UInt8 := [148, 153, 0, 5, 3, 172, 167, 1, 232, 43, 42, 21, 5, 4, 96, 46, 45, 184, 1, 109, 54, 6, 44, 42]
abbrev dktL_law_131 : List UInt8 := dkwL_law_131 ++ dktL_law_132
def dkwL_law_130 : List UInt8 := [54, 7, 44, 182, 0, 205, 21, 6, 159, 0, 5, 3, 172, 21, 6, 154, 0, 15, 45, 3, 47, 21, 7, 133]
abbrev dktL_law_130 : List UInt8 := dkwL_law_130 ++ dktL_law_131
def dkwL_law_129 : List UInt8 := [46, 45, 184, 1, 106, 54, 6, 44, 42, 21, 5, 4, 96, 46, 42, 21, 5, 5, 96, 46, 182, 1, 108]
abbrev dktL_law_129 : List UInt8 := dkwL_law_129 ++ dktL_law_130
def dkwL_law_128 : List UInt8 := [21, 7, 133, 148, 153, 0, 5, 3, 172, 167, 2, 44, 43, 42, 21, 5, 4, 96, 46, 42, 21, 5, 5, 96]
abbrev dktL_law_128 : List UInt8 := dkwL_law_128 ++ dktL_law_129
def dkwL_law_127 : List UInt8 := [182, 1, 105, 54, 7, 44, 182, 0, 205, 21, 6, 159, 0, 5, 3, 172, 21, 6, 154, 0, 15, 45, 3, 47]
abbrev dktL_law_127 : List UInt8 := dkwL_law_127 ++ dktL_law_128
def dkwL_law_126 : List UInt8 := [167, 2, 100, 43, 42, 21, 5, 4, 96, 46, 45, 184, 1, 103, 54, 6, 44, 42, 21, 5, 4, 96, 46]
abbrev dktL_law_126 : List UInt8 := dkwL_law_126 ++ dktL_law_127
def dkwL_law_125 : List UInt8 := [159, 0, 5, 3, 172, 21, 6, 154, 0, 15, 45, 3, 47, 21, 7, 133, 148, 153, 0, 5, 3, 172]
abbrev dktL_law_125 : List UInt8 := dkwL_law_125 ++ dktL_law_126
def dkwL_law_124 : List UInt8 := [184, 1, 100, 54, 6, 44, 42, 21, 5, 4, 96, 46, 182, 1, 102, 54, 7, 44, 182, 0, 205, 21, 6]
abbrev dktL_law_124 : List UInt8 := dkwL_law_124 ++ dktL_law_125
def dkwL_law_123 : List UInt8 := [45, 3, 47, 21, 7, 133, 148, 153, 0, 5, 3, 172, 167, 2, 156, 43, 42, 21, 5, 4, 96, 46, 45]
abbrev dktL_law_123 : List UInt8 := dkwL_law_123 ++ dktL_law_124
def dkwL_law_122 : List UInt8 := [54, 6, 44, 182, 1, 99, 54, 7, 44, 182, 0, 205, 21, 6, 159, 0, 5, 3, 172, 21, 6, 154, 0, 15]
abbrev dktL_law_122 : List UInt8 := dkwL_law_122 ++ dktL_law_123
def dkwL_law_121 : List UInt8 := [154, 0, 15, 45, 3, 47, 21, 7, 133, 148, 153, 0, 5, 3, 172, 167, 2, 200, 43, 45, 184, 1, 97]
abbrev dktL_law_121 : List UInt8 := dkwL_law_121 ++ dktL_law_122
def dkwL_law_120 : List UInt8 := [21, 5, 4, 96, 46, 182, 1, 96, 54, 7, 44, 182, 0, 205, 21, 6, 159, 0, 5, 3, 172, 21, 6]
abbrev dktL_law_120 : List UInt8 := dkwL_law_120 ++ dktL_law_121
def dkwL_law_119 : List UInt8 := [153, 0, 5, 3, 172, 167, 3, 0, 43, 42, 21, 5, 4, 96, 46, 45, 184, 1, 94, 54, 6, 44, 42]
abbrev dktL_law_119 : List UInt8 := dkwL_law_119 ++ dktL_law_120
def dkwL_law_118 : List UInt8 := [182, 0, 205, 21, 6, 159, 0, 5, 3, 172, 21, 6, 154, 0, 15, 45, 3, 47, 21, 7, 133, 148]
abbrev dktL_law_118 : List UInt8 := dkwL_law_118 ++ dktL_law_119
def dkwL_law_117 : List UInt8 := [184, 1, 91, 54, 6, 44, 42, 21, 5, 4, 96, 46, 42, 21, 5, 5, 96, 46, 182, 1, 93, 54, 7, 44]
abbrev dktL_law_117 : List UInt8 := dkwL_law_117 ++ dktL_law_118
def dkwL_law_116 : List UInt8 := [148, 153, 0, 5, 3, 172, 167, 3, 68, 43, 42, 21, 5, 4, 96, 46, 42, 21, 5, 5, 96, 46, 45]
abbrev dktL_law_116 : List UInt8 := dkwL_law_116 ++ dktL_law_117
def dkwL_law_115 : List UInt8 := [54, 7, 44, 182, 0, 205, 21, 6, 159, 0, 5, 3, 172, 21, 6, 154, 0, 15, 45, 3, 47, 21, 7, 133]
abbrev dktL_law_115 : List UInt8 := dkwL_law_115 ++ dktL_law_116
def dkwL_law_114 : List UInt8 := [46, 45, 184, 1, 88, 54, 6, 44, 42, 21, 5, 4, 96, 46, 42, 21, 5, 5, 96, 46, 182, 1, 90]
abbrev dktL_law_114 : List UInt8 := dkwL_law_114 ++ dktL_law_115
def dkwL_law_113 : List UInt8 := [21, 7, 133, 148, 153, 0, 5, 3, 172, 167, 3, 136, 43, 42, 21, 5, 4, 96, 46, 42, 21, 5, 5, 96]
abbrev dktL_law_113 : List UInt8 := dkwL_law_113 ++ dktL_law_114
def dkwL_law_112 : List UInt8 := [182, 1, 87, 54, 7, 44, 182, 0, 205, 21, 6, 159, 0, 5, 3, 172, 21, 6, 154, 0, 15, 45, 3, 47]
abbrev dktL_law_112 : List UInt8 := dkwL_law_112 ++ dktL_law_113
def dkwL_law_111 : List UInt8 := [167, 3, 192, 43, 42, 21, 5, 4, 96, 46, 45, 184, 1, 85, 54, 6, 44, 42, 21, 5, 4, 96, 46]
abbrev dktL_law_111 : List UInt8 := dkwL_law_111 ++ dktL_law_112
def dkwL_law_110 : List UInt8 := [159, 0, 5, 3, 172, 21, 6, 154, 0, 15, 45, 3, 47, 21, 7, 133, 148, 153, 0, 5, 3, 172]
abbrev dktL_law_110 : List UInt8 := dkwL_law_110 ++ dktL_law_111
def dkwL_law_109 : List UInt8 := [167, 3, 236, 43, 45, 184, 1, 82, 54, 6, 44, 182, 1, 84, 54, 7, 44, 182, 0, 205, 21, 6]
abbrev dktL_law_109 : List UInt8 := dkwL_law_109 ++ dktL_law_110
def dkwL_law_108 : List UInt8 := [21, 6, 159, 0, 5, 3, 172, 21, 6, 154, 0, 15, 45, 3, 47, 21, 7, 133, 148, 153, 0, 5, 3, 172]
abbrev dktL_law_108 : List UInt8 := dkwL_law_108 ++ dktL_law_109
def dkwL_law_107 : List UInt8 := [46, 45, 184, 1, 79, 54, 6, 44, 42, 21, 5, 4, 96, 46, 182, 1, 81, 54, 7, 44, 182, 0, 205]
abbrev dktL_law_107 : List UInt8 := dkwL_law_107 ++ dktL_law_108
def dkwL_law_106 : List UInt8 := [154, 0, 15, 45, 3, 47, 21, 7, 133, 148, 153, 0, 5, 3, 172, 167, 4, 36, 43, 42, 21, 5, 4, 96]
abbrev dktL_law_106 : List UInt8 := dkwL_law_106 ++ dktL_law_107
def dkwL_law_105 : List UInt8 := [21, 5, 4, 96, 46, 182, 1, 78, 54, 7, 44, 182, 0, 205, 21, 6, 159, 0, 5, 3, 172, 21, 6]
abbrev dktL_law_105 : List UInt8 := dkwL_law_105 ++ dktL_law_106
def dkwL_law_104 : List UInt8 := [153, 0, 5, 3, 172, 167, 4, 92, 43, 42, 21, 5, 4, 96, 46, 45, 184, 1, 76, 54, 6, 44, 42]
abbrev dktL_law_104 : List UInt8 := dkwL_law_104 ++ dktL_law_105
def dkwL_law_103 : List UInt8 := [182, 0, 205, 21, 6, 159, 0, 5, 3, 172, 21, 6, 154, 0, 15, 45, 3, 47, 21, 7, 133, 148]
abbrev dktL_law_103 : List UInt8 := dkwL_law_103 ++ dktL_law_104
def dkwL_law_102 : List UInt8 := [21, 5, 4, 96, 46, 45, 184, 1, 73, 54, 6, 44, 42, 21, 5, 4, 96, 46, 182, 1, 75, 54, 7, 44]
abbrev dktL_law_102 : List UInt8 := dkwL_law_102 ++ dktL_law_103
def dkwL_law_101 : List UInt8 := [25, 4, 3, 49, 151, 153, 0, 11, 24, 7, 24, 7, 151, 154, 0, 5, 3, 172, 167, 4, 148, 43, 42]
abbrev dktL_law_101 : List UInt8 := dkwL_law_101 ++ dktL_law_102
def dkwL_law_100 : List UInt8 := [159, 0, 5, 3, 172, 21, 6, 154, 0, 35, 25, 4, 3, 49, 24, 7, 151, 153, 0, 25, 25, 4, 3, 49]
abbrev dktL_law_100 : List UInt8 := dkwL_law_100 ++ dktL_law_101
def dkwL_law_99 : List UInt8 := [172, 167, 4, 213, 43, 25, 4, 184, 1, 70, 54, 6, 44, 182, 1, 72, 57, 7, 44, 182, 0, 205, 21, 6]
abbrev dktL_law_99 : List UInt8 := dkwL_law_99 ++ dktL_law_100
def dkwL_law_98 : List UInt8 := [153, 0, 25, 25, 4, 3, 49, 25, 4, 3, 49, 151, 153, 0, 11, 23, 7, 23, 7, 149, 154, 0, 5, 3]
abbrev dktL_law_98 : List UInt8 := dkwL_law_98 ++ dktL_law_99
def dkwL_law_97 : List UInt8 := [182, 0, 205, 21, 6, 159, 0, 5, 3, 172, 21, 6, 154, 0, 36, 25, 4, 3, 49, 23, 7, 141, 151]
abbrev dktL_law_97 : List UInt8 := dkwL_law_97 ++ dktL_law_98
def dkwL_law_96 : List UInt8 := [153, 0, 5, 3, 172, 167, 5, 23, 43, 25, 4, 184, 1, 66, 54, 6, 44, 182, 1, 69, 56, 7, 44]
abbrev dktL_law_96 : List UInt8 := dkwL_law_96 ++ dktL_law_97
def dkwL_law_95 : List UInt8 := [182, 0, 205, 21, 6, 159, 0, 5, 3, 172, 21, 6, 154, 0, 15, 45, 3, 47, 21, 7, 133, 148]
abbrev dktL_law_95 : List UInt8 := dkwL_law_95 ++ dktL_law_96
def dkwL_law_94 : List UInt8 := [184, 1, 63, 54, 6, 44, 42, 21, 5, 4, 96, 46, 42, 21, 5, 5, 96, 46, 182, 1, 65, 54, 7, 44]
abbrev dktL_law_94 : List UInt8 := dkwL_law_94 ++ dktL_law_95
def dkwL_law_93 : List UInt8 := [148, 153, 0, 5, 3, 172, 167, 5, 91, 43, 42, 21, 5, 4, 96, 46, 42, 21, 5, 5, 96, 46, 45]
abbrev dktL_law_93 : List UInt8 := dkwL_law_93 ++ dktL_law_94
def dkwL_law_92 : List UInt8 := [54, 7, 44, 182, 0, 205, 21, 6, 159, 0, 5, 3, 172, 21, 6, 154, 0, 15, 45, 3, 47, 21, 7, 133]
abbrev dktL_law_92 : List UInt8 := dkwL_law_92 ++ dktL_law_93
def dkwL_law_91 : List UInt8 := [21, 7, 133, 148, 153, 0, 5, 3, 172, 167, 5, 135, 43, 45, 184, 1, 60, 54, 6, 44, 182, 1, 62]
abbrev dktL_law_91 : List UInt8 := dkwL_law_91 ++ dktL_law_92
def dkwL_law_90 : List UInt8 := [182, 1, 59, 54, 7, 44, 182, 0, 205, 21, 6, 159, 0, 5, 3, 172, 21, 6, 154, 0, 15, 45, 3, 47]
abbrev dktL_law_90 : List UInt8 := dkwL_law_90 ++ dktL_law_91
def dkwL_law_89 : List UInt8 := [167, 5, 191, 43, 42, 21, 5, 4, 96, 46, 45, 184, 1, 57, 54, 6, 44, 42, 21, 5, 4, 96, 46]
abbrev dktL_law_89 : List UInt8 := dkwL_law_89 ++ dktL_law_90
def dkwL_law_88 : List UInt8 := [159, 0, 5, 3, 172, 21, 6, 154, 0, 15, 45, 3, 47, 21, 7, 133, 148, 153, 0, 5, 3, 172]
abbrev dktL_law_88 : List UInt8 := dkwL_law_88 ++ dktL_law_89
def dkwL_law_87 : List UInt8 := [21, 5, 4, 96, 46, 42, 21, 5, 5, 96, 46, 182, 1, 56, 54, 7, 44, 182, 0, 205, 21, 6]
abbrev dktL_law_87 : List UInt8 := dkwL_law_87 ++ dktL_law_88
def dkwL_law_86 : List UInt8 := [167, 6, 3, 43, 42, 21, 5, 4, 96, 46, 42, 21, 5, 5, 96, 46, 45, 184, 1, 54, 54, 6, 44, 42]
abbrev dktL_law_86 : List UInt8 := dkwL_law_86 ++ dktL_law_87
def dkwL_law_85 : List UInt8 := [159, 0, 5, 3, 172, 21, 6, 154, 0, 15, 45, 3, 47, 21, 7, 133, 148, 153, 0, 5, 3, 172]
abbrev dktL_law_85 : List UInt8 := dkwL_law_85 ++ dktL_law_86
def dkwL_law_84 : List UInt8 := [184, 1, 51, 54, 6, 44, 42, 21, 5, 4, 96, 46, 182, 1, 53, 54, 7, 44, 182, 0, 205, 21, 6]
abbrev dktL_law_84 : List UInt8 := dkwL_law_84 ++ dktL_law_85
def dkwL_law_83 : List UInt8 := [3, 47, 21, 7, 133, 148, 153, 0, 5, 3, 172, 167, 6, 59, 43, 42, 21, 5, 4, 96, 46, 45]
abbrev dktL_law_83 : List UInt8 := dkwL_law_83 ++ dktL_law_84
def dkwL_law_82 : List UInt8 := [96, 46, 182, 1, 50, 54, 7, 44, 182, 0, 205, 21, 6, 159, 0, 5, 3, 172, 21, 6, 154, 0, 15, 45]
abbrev dktL_law_82 : List UInt8 := dkwL_law_82 ++ dktL_law_83
def dkwL_law_81 : List UInt8 := [46, 42, 21, 5, 5, 96, 46, 45, 184, 1, 48, 54, 6, 44, 42, 21, 5, 4, 96, 46, 42, 21, 5, 5]
abbrev dktL_law_81 : List UInt8 := dkwL_law_81 ++ dktL_law_82
def dkwL_law_80 : List UInt8 := [154, 0, 15, 45, 3, 47, 21, 7, 133, 148, 153, 0, 5, 3, 172, 167, 6, 127, 43, 42, 21, 5, 4, 96]
abbrev dktL_law_80 : List UInt8 := dkwL_law_80 ++ dktL_law_81
def dkwL_law_79 : List UInt8 := [21, 5, 4, 96, 46, 182, 1, 47, 54, 7, 44, 182, 0, 205, 21, 6, 159, 0, 5, 3, 172, 21, 6]
abbrev dktL_law_79 : List UInt8 := dkwL_law_79 ++ dktL_law_80
def dkwL_law_78 : List UInt8 := [153, 0, 5, 3, 172, 167, 6, 183, 43, 42, 21, 5, 4, 96, 46, 45, 184, 1, 45, 54, 6, 44, 42]
abbrev dktL_law_78 : List UInt8 := dkwL_law_78 ++ dktL_law_79
def dkwL_law_77 : List UInt8 := [182, 0, 205, 21, 6, 159, 0, 5, 3, 172, 21, 6, 154, 0, 15, 45, 3, 47, 21, 7, 133, 148]
abbrev dktL_law_77 : List UInt8 := dkwL_law_77 ++ dktL_law_78
def dkwL_law_76 : List UInt8 := [21, 5, 4, 96, 46, 45, 184, 1, 42, 54, 6, 44, 42, 21, 5, 4, 96, 46, 182, 1, 44, 54, 7, 44]
abbrev dktL_law_76 : List UInt8 := dkwL_law_76 ++ dktL_law_77
def dkwL_law_75 : List UInt8 := [172, 21, 6, 154, 0, 15, 45, 3, 47, 21, 7, 133, 148, 153, 0, 5, 3, 172, 167, 6, 239, 43, 42]
abbrev dktL_law_75 : List UInt8 := dkwL_law_75 ++ dktL_law_76
def dkwL_law_74 : List UInt8 := [54, 6, 44, 42, 21, 5, 4, 96, 46, 182, 1, 41, 54, 7, 44, 182, 0, 205, 21, 6, 159, 0, 5, 3]
abbrev dktL_law_74 : List UInt8 := dkwL_law_74 ++ dktL_law_75
def dkwL_law_73 : List UInt8 := [21, 7, 133, 148, 153, 0, 5, 3, 172, 167, 7, 39, 43, 42, 21, 5, 4, 96, 46, 45, 184, 1, 39]
abbrev dktL_law_73 : List UInt8 := dkwL_law_73 ++ dktL_law_74
def dkwL_law_72 : List UInt8 := [182, 1, 38, 54, 7, 44, 182, 0, 205, 21, 6, 159, 0, 5, 3, 172, 21, 6, 154, 0, 15, 45, 3, 47]
abbrev dktL_law_72 : List UInt8 := dkwL_law_72 ++ dktL_law_73
def dkwL_law_71 : List UInt8 := [167, 7, 95, 43, 42, 21, 5, 4, 96, 46, 45, 184, 1, 36, 54, 6, 44, 42, 21, 5, 4, 96, 46]
abbrev dktL_law_71 : List UInt8 := dkwL_law_71 ++ dktL_law_72
def dkwL_law_70 : List UInt8 := [159, 0, 5, 3, 172, 21, 6, 154, 0, 15, 45, 3, 47, 21, 7, 133, 148, 153, 0, 5, 3, 172]
abbrev dktL_law_70 : List UInt8 := dkwL_law_70 ++ dktL_law_71
def dkwL_law_69 : List UInt8 := [21, 5, 5, 96, 46, 42, 21, 5, 6, 96, 46, 182, 1, 35, 54, 7, 44, 182, 0, 205, 21, 6]
abbrev dktL_law_69 : List UInt8 := dkwL_law_69 ++ dktL_law_70
def dkwL_law_68 : List UInt8 := [5, 96, 46, 42, 21, 5, 6, 96, 46, 45, 184, 1, 32, 54, 6, 44, 42, 21, 5, 4, 96, 46, 42]
abbrev dktL_law_68 : List UInt8 := dkwL_law_68 ++ dktL_law_69
def dkwL_law_67 : List UInt8 := [3, 47, 21, 7, 133, 148, 153, 0, 5, 3, 172, 167, 7, 175, 43, 42, 21, 5, 4, 96, 46, 42, 21, 5]
abbrev dktL_law_67 : List UInt8 := dkwL_law_67 ++ dktL_law_68
def dkwL_law_66 : List UInt8 := [96, 46, 182, 1, 31, 54, 7, 44, 182, 0, 205, 21, 6, 159, 0, 5, 3, 172, 21, 6, 154, 0, 15, 45]
abbrev dktL_law_66 : List UInt8 := dkwL_law_66 ++ dktL_law_67
def dkwL_law_65 : List UInt8 := [46, 42, 21, 5, 5, 96, 46, 45, 184, 1, 29, 54, 6, 44, 42, 21, 5, 4, 96, 46, 42, 21, 5, 5]
abbrev dktL_law_65 : List UInt8 := dkwL_law_65 ++ dktL_law_66
def dkwL_law_64 : List UInt8 := [154, 0, 15, 45, 3, 47, 21, 7, 133, 148, 153, 0, 5, 3, 172, 167, 7, 243, 43, 42, 21, 5, 4, 96]
abbrev dktL_law_64 : List UInt8 := dkwL_law_64 ++ dktL_law_65
def dkwL_law_63 : List UInt8 := [21, 5, 4, 96, 46, 182, 1, 28, 54, 7, 44, 182, 0, 205, 21, 6, 159, 0, 5, 3, 172, 21, 6]
abbrev dktL_law_63 : List UInt8 := dkwL_law_63 ++ dktL_law_64
def dkwL_law_62 : List UInt8 := [148, 153, 0, 5, 3, 172, 167, 8, 43, 43, 42, 21, 5, 4, 96, 46, 45, 184, 1, 26, 54, 6, 44, 42]
abbrev dktL_law_62 : List UInt8 := dkwL_law_62 ++ dktL_law_63
def dkwL_law_61 : List UInt8 := [54, 7, 44, 182, 0, 205, 21, 6, 159, 0, 5, 3, 172, 21, 6, 154, 0, 15, 45, 3, 47, 21, 7, 133]
abbrev dktL_law_61 : List UInt8 := dkwL_law_61 ++ dktL_law_62
def dkwL_law_60 : List UInt8 := [46, 45, 184, 1, 23, 54, 6, 44, 42, 21, 5, 4, 96, 46, 42, 21, 5, 5, 96, 46, 182, 1, 25]
abbrev dktL_law_60 : List UInt8 := dkwL_law_60 ++ dktL_law_61
def dkwL_law_59 : List UInt8 := [21, 7, 133, 148, 153, 0, 5, 3, 172, 167, 8, 111, 43, 42, 21, 5, 4, 96, 46, 42, 21, 5, 5, 96]
abbrev dktL_law_59 : List UInt8 := dkwL_law_59 ++ dktL_law_60
def dkwL_law_58 : List UInt8 := [182, 1, 22, 54, 7, 44, 182, 0, 205, 21, 6, 159, 0, 5, 3, 172, 21, 6, 154, 0, 15, 45, 3, 47]
abbrev dktL_law_58 : List UInt8 := dkwL_law_58 ++ dktL_law_59
def dkwL_law_57 : List UInt8 := [5, 96, 46, 45, 184, 1, 20, 54, 6, 44, 42, 21, 5, 4, 96, 46, 42, 21, 5, 5, 96, 46]
abbrev dktL_law_57 : List UInt8 := dkwL_law_57 ++ dktL_law_58
def dkwL_law_56 : List UInt8 := [3, 47, 21, 7, 133, 148, 153, 0, 5, 3, 172, 167, 8, 179, 43, 42, 21, 5, 4, 96, 46, 42, 21, 5]
abbrev dktL_law_56 : List UInt8 := dkwL_law_56 ++ dktL_law_57
def dkwL_law_55 : List UInt8 := [96, 46, 182, 1, 19, 54, 7, 44, 182, 0, 205, 21, 6, 159, 0, 5, 3, 172, 21, 6, 154, 0, 15, 45]
abbrev dktL_law_55 : List UInt8 := dkwL_law_55 ++ dktL_law_56
def dkwL_law_54 : List UInt8 := [46, 42, 21, 5, 5, 96, 46, 45, 184, 1, 17, 54, 6, 44, 42, 21, 5, 4, 96, 46, 42, 21, 5, 5]
abbrev dktL_law_54 : List UInt8 := dkwL_law_54 ++ dktL_law_55
def dkwL_law_53 : List UInt8 := [154, 0, 15, 45, 3, 47, 21, 7, 133, 148, 153, 0, 5, 3, 172, 167, 8, 247, 43, 42, 21, 5, 4, 96]
abbrev dktL_law_53 : List UInt8 := dkwL_law_53 ++ dktL_law_54
def dkwL_law_52 : List UInt8 := [21, 5, 4, 96, 46, 182, 1, 16, 54, 7, 44, 182, 0, 205, 21, 6, 159, 0, 5, 3, 172, 21, 6]
abbrev dktL_law_52 : List UInt8 := dkwL_law_52 ++ dktL_law_53
def dkwL_law_51 : List UInt8 := [153, 0, 5, 3, 172, 167, 9, 47, 43, 42, 21, 5, 4, 96, 46, 45, 184, 1, 14, 54, 6, 44, 42]
abbrev dktL_law_51 : List UInt8 := dkwL_law_51 ++ dktL_law_52
def dkwL_law_50 : List UInt8 := [182, 0, 205, 21, 6, 159, 0, 5, 3, 172, 21, 6, 154, 0, 15, 45, 3, 47, 21, 7, 133, 148]
abbrev dktL_law_50 : List UInt8 := dkwL_law_50 ++ dktL_law_51
def dkwL_law_49 : List UInt8 := [184, 1, 11, 54, 6, 44, 42, 21, 5, 4, 96, 46, 42, 21, 5, 5, 96, 46, 182, 1, 13, 54, 7, 44]
abbrev dktL_law_49 : List UInt8 := dkwL_law_49 ++ dktL_law_50
def dkwL_law_48 : List UInt8 := [153, 0, 5, 3, 172, 167, 9, 115, 43, 42, 21, 5, 4, 96, 46, 42, 21, 5, 5, 96, 46, 45]
abbrev dktL_law_48 : List UInt8 := dkwL_law_48 ++ dktL_law_49
def dkwL_law_47 : List UInt8 := [182, 0, 205, 21, 6, 159, 0, 5, 3, 172, 21, 6, 154, 0, 15, 45, 3, 47, 21, 7, 133, 148]
abbrev dktL_law_47 : List UInt8 := dkwL_law_47 ++ dktL_law_48
def dkwL_law_46 : List UInt8 := [184, 1, 8, 54, 6, 44, 42, 21, 5, 4, 96, 46, 42, 21, 5, 5, 96, 46, 182, 1, 10, 54, 7, 44]
abbrev dktL_law_46 : List UInt8 := dkwL_law_46 ++ dktL_law_47
def dkwL_law_45 : List UInt8 := [148, 153, 0, 5, 3, 172, 167, 9, 183, 43, 42, 21, 5, 4, 96, 46, 42, 21, 5, 5, 96, 46, 45]
abbrev dktL_law_45 : List UInt8 := dkwL_law_45 ++ dktL_law_46
def dkwL_law_44 : List UInt8 := [54, 7, 44, 182, 0, 205, 21, 6, 159, 0, 5, 3, 172, 21, 6, 154, 0, 15, 45, 3, 47, 21, 7, 133]
abbrev dktL_law_44 : List UInt8 := dkwL_law_44 ++ dktL_law_45
def dkwL_law_43 : List UInt8 := [46, 45, 184, 1, 5, 54, 6, 44, 42, 21, 5, 4, 96, 46, 42, 21, 5, 5, 96, 46, 182, 1, 7]
abbrev dktL_law_43 : List UInt8 := dkwL_law_43 ++ dktL_law_44
def dkwL_law_42 : List UInt8 := [21, 7, 133, 148, 153, 0, 5, 3, 172, 167, 9, 251, 43, 42, 21, 5, 4, 96, 46, 42, 21, 5, 5, 96]
abbrev dktL_law_42 : List UInt8 := dkwL_law_42 ++ dktL_law_43
def dkwL_law_41 : List UInt8 := [182, 1, 4, 54, 7, 44, 182, 0, 205, 21, 6, 159, 0, 5, 3, 172, 21, 6, 154, 0, 15, 45, 3, 47]
abbrev dktL_law_41 : List UInt8 := dkwL_law_41 ++ dktL_law_42
def dkwL_law_40 : List UInt8 := [167, 10, 51, 43, 42, 21, 5, 4, 96, 46, 45, 184, 1, 2, 54, 6, 44, 42, 21, 5, 4, 96, 46]
abbrev dktL_law_40 : List UInt8 := dkwL_law_40 ++ dktL_law_41
def dkwL_law_39 : List UInt8 := [21, 6, 159, 0, 5, 3, 172, 21, 6, 154, 0, 15, 45, 3, 47, 21, 7, 133, 148, 153, 0, 5, 3, 172]
abbrev dktL_law_39 : List UInt8 := dkwL_law_39 ++ dktL_law_40
def dkwL_law_38 : List UInt8 := [46, 45, 184, 0, 255, 54, 6, 44, 42, 21, 5, 4, 96, 46, 182, 1, 1, 54, 7, 44, 182, 0, 205]
abbrev dktL_law_38 : List UInt8 := dkwL_law_38 ++ dktL_law_39
def dkwL_law_37 : List UInt8 := [154, 0, 15, 45, 3, 47, 21, 7, 133, 148, 153, 0, 5, 3, 172, 167, 10, 107, 43, 42, 21, 5, 4, 96]
abbrev dktL_law_37 : List UInt8 := dkwL_law_37 ++ dktL_law_38
def dkwL_law_36 : List UInt8 := [21, 5, 4, 96, 46, 182, 0, 254, 54, 7, 44, 182, 0, 205, 21, 6, 159, 0, 5, 3, 172, 21, 6]
abbrev dktL_law_36 : List UInt8 := dkwL_law_36 ++ dktL_law_37
def dkwL_law_35 : List UInt8 := [148, 153, 0, 5, 3, 172, 167, 10, 163, 43, 42, 21, 5, 4, 96, 46, 45, 184, 0, 252, 54, 6, 44, 42]
abbrev dktL_law_35 : List UInt8 := dkwL_law_35 ++ dktL_law_36
def dkwL_law_34 : List UInt8 := [54, 7, 44, 182, 0, 205, 21, 6, 159, 0, 5, 3, 172, 21, 6, 154, 0, 15, 45, 3, 47, 21, 7, 133]
abbrev dktL_law_34 : List UInt8 := dkwL_law_34 ++ dktL_law_35
def dkwL_law_33 : List UInt8 := [21, 7, 133, 148, 153, 0, 5, 3, 172, 167, 10, 207, 43, 45, 184, 0, 249, 54, 6, 44, 182, 0, 251]
abbrev dktL_law_33 : List UInt8 := dkwL_law_33 ++ dktL_law_34
def dkwL_law_32 : List UInt8 := [182, 0, 248, 54, 7, 44, 182, 0, 205, 21, 6, 159, 0, 5, 3, 172, 21, 6, 154, 0, 15, 45, 3, 47]
abbrev dktL_law_32 : List UInt8 := dkwL_law_32 ++ dktL_law_33
def dkwL_law_31 : List UInt8 := [45, 3, 47, 21, 7, 133, 148, 153, 0, 5, 3, 172, 167, 10, 251, 43, 45, 184, 0, 246, 54, 6, 44]
abbrev dktL_law_31 : List UInt8 := dkwL_law_31 ++ dktL_law_32
def dkwL_law_30 : List UInt8 := [54, 6, 44, 182, 0, 245, 54, 7, 44, 182, 0, 205, 21, 6, 159, 0, 5, 3, 172, 21, 6, 154, 0, 15]
abbrev dktL_law_30 : List UInt8 := dkwL_law_30 ++ dktL_law_31
def dkwL_law_29 : List UInt8 := [154, 0, 15, 45, 3, 47, 21, 7, 133, 148, 153, 0, 5, 3, 172, 167, 11, 39, 43, 45, 184, 0, 242]
abbrev dktL_law_29 : List UInt8 := dkwL_law_29 ++ dktL_law_30
def dkwL_law_28 : List UInt8 := [21, 5, 4, 96, 46, 182, 0, 241, 54, 7, 44, 182, 0, 205, 21, 6, 159, 0, 5, 3, 172, 21, 6]
abbrev dktL_law_28 : List UInt8 := dkwL_law_28 ++ dktL_law_29
def dkwL_law_27 : List UInt8 := [153, 0, 5, 3, 172, 167, 11, 95, 43, 42, 21, 5, 4, 96, 46, 45, 184, 0, 239, 54, 6, 44, 42]
abbrev dktL_law_27 : List UInt8 := dkwL_law_27 ++ dktL_law_28
def dkwL_law_26 : List UInt8 := [182, 0, 205, 21, 6, 159, 0, 5, 3, 172, 21, 6, 154, 0, 15, 45, 3, 47, 21, 7, 133, 148]
abbrev dktL_law_26 : List UInt8 := dkwL_law_26 ++ dktL_law_27
def dkwL_law_25 : List UInt8 := [184, 0, 236, 54, 6, 44, 42, 21, 5, 4, 96, 46, 42, 21, 5, 5, 96, 46, 182, 0, 238, 54, 7, 44]
abbrev dktL_law_25 : List UInt8 := dkwL_law_25 ++ dktL_law_26
def dkwL_law_24 : List UInt8 := [153, 0, 5, 3, 172, 167, 11, 163, 43, 42, 21, 5, 4, 96, 46, 42, 21, 5, 5, 96, 46, 45]
abbrev dktL_law_24 : List UInt8 := dkwL_law_24 ++ dktL_law_25
def dkwL_law_23 : List UInt8 := [182, 0, 205, 21, 6, 159, 0, 5, 3, 172, 21, 6, 154, 0, 15, 45, 3, 47, 21, 7, 133, 148]
abbrev dktL_law_23 : List UInt8 := dkwL_law_23 ++ dktL_law_24
def dkwL_law_22 : List UInt8 := [184, 0, 233, 54, 6, 44, 42, 21, 5, 4, 96, 46, 42, 21, 5, 5, 96, 46, 182, 0, 235, 54, 7, 44]
abbrev dktL_law_22 : List UInt8 := dkwL_law_22 ++ dktL_law_23
def dkwL_law_21 : List UInt8 := [153, 0, 5, 3, 172, 167, 11, 231, 43, 42, 21, 5, 4, 96, 46, 42, 21, 5, 5, 96, 46, 45]
abbrev dktL_law_21 : List UInt8 := dkwL_law_21 ++ dktL_law_22
def dkwL_law_20 : List UInt8 := [182, 0, 205, 21, 6, 159, 0, 5, 3, 172, 21, 6, 154, 0, 15, 45, 3, 47, 21, 7, 133, 148]
abbrev dktL_law_20 : List UInt8 := dkwL_law_20 ++ dktL_law_21
def dkwL_law_19 : List UInt8 := [184, 0, 230, 54, 6, 44, 42, 21, 5, 4, 96, 46, 42, 21, 5, 5, 96, 46, 182, 0, 232, 54, 7, 44]
abbrev dktL_law_19 : List UInt8 := dkwL_law_19 ++ dktL_law_20
def dkwL_law_18 : List UInt8 := [153, 0, 5, 3, 172, 167, 12, 43, 43, 42, 21, 5, 4, 96, 46, 42, 21, 5, 5, 96, 46, 45]
abbrev dktL_law_18 : List UInt8 := dkwL_law_18 ++ dktL_law_19
def dkwL_law_17 : List UInt8 := [182, 0, 205, 21, 6, 159, 0, 5, 3, 172, 21, 6, 154, 0, 15, 45, 3, 47, 21, 7, 133, 148]
abbrev dktL_law_17 : List UInt8 := dkwL_law_17 ++ dktL_law_18
def dkwL_law_16 : List UInt8 := [184, 0, 227, 54, 6, 44, 42, 21, 5, 4, 96, 46, 42, 21, 5, 5, 96, 46, 182, 0, 229, 54, 7, 44]
abbrev dktL_law_16 : List UInt8 := dkwL_law_16 ++ dktL_law_17
def dkwL_law_15 : List UInt8 := [153, 0, 5, 3, 172, 167, 12, 111, 43, 42, 21, 5, 4, 96, 46, 42, 21, 5, 5, 96, 46, 45]
abbrev dktL_law_15 : List UInt8 := dkwL_law_15 ++ dktL_law_16
def dkwL_law_14 : List UInt8 := [182, 0, 205, 21, 6, 159, 0, 5, 3, 172, 21, 6, 154, 0, 15, 45, 3, 47, 21, 7, 133, 148]
abbrev dktL_law_14 : List UInt8 := dkwL_law_14 ++ dktL_law_15
def dkwL_law_13 : List UInt8 := [184, 0, 223, 54, 6, 44, 42, 21, 5, 4, 96, 46, 42, 21, 5, 5, 96, 46, 182, 0, 226, 54, 7, 44]
abbrev dktL_law_13 : List UInt8 := dkwL_law_13 ++ dktL_law_14
def dkwL_law_12 : List UInt8 := [148, 153, 0, 5, 3, 172, 167, 12, 179, 43, 42, 21, 5, 4, 96, 46, 42, 21, 5, 5, 96, 46, 45]
abbrev dktL_law_12 : List UInt8 := dkwL_law_12 ++ dktL_law_13
def dkwL_law_11 : List UInt8 := [54, 7, 44, 182, 0, 205, 21, 6, 159, 0, 5, 3, 172, 21, 6, 154, 0, 15, 45, 3, 47, 21, 7, 133]
abbrev dktL_law_11 : List UInt8 := dkwL_law_11 ++ dktL_law_12
def dkwL_law_10 : List UInt8 := [172, 43, 42, 21, 5, 4, 96, 46, 45, 184, 0, 220, 54, 6, 44, 42, 21, 5, 4, 96, 46, 182, 0, 222]
abbrev dktL_law_10 : List UInt8 := dkwL_law_10 ++ dktL_law_11
def dkwL_law_9 : List UInt8 := [182, 0, 212, 44, 182, 0, 215, 159, 12, 250, 3, 172, 43, 182, 0, 216, 44, 182, 0, 219, 159, 12, 237, 3]
abbrev dktL_law_9 : List UInt8 := dkwL_law_9 ++ dktL_law_10
def dkwL_law_8 : List UInt8 := [148, 153, 0, 5, 3, 172, 167, 13, 18, 43, 182, 0, 208, 44, 182, 0, 211, 159, 13, 7, 3, 172, 43]
abbrev dktL_law_8 : List UInt8 := dkwL_law_8 ++ dktL_law_9
def dkwL_law_7 : List UInt8 := [54, 7, 44, 182, 0, 205, 21, 6, 159, 0, 5, 3, 172, 21, 6, 154, 0, 15, 45, 3, 47, 21, 7, 133]
abbrev dktL_law_7 : List UInt8 := dkwL_law_7 ++ dktL_law_8
def dkwL_law_6 : List UInt8 := [172, 43, 42, 21, 5, 4, 96, 46, 45, 184, 0, 199, 54, 6, 44, 42, 21, 5, 4, 96, 46, 182, 0, 204]
abbrev dktL_law_6 : List UInt8 := dkwL_law_6 ++ dktL_law_7
def dkwL_law_5 : List UInt8 := [21, 5, 6, 96, 46, 42, 21, 5, 7, 96, 46, 42, 21, 5, 8, 96, 46, 182, 0, 198, 159, 13, 76, 3]
abbrev dktL_law_5 : List UInt8 := dkwL_law_5 ++ dktL_law_6
def dkwL_law_4 : List UInt8 := [46, 42, 21, 5, 8, 96, 46, 182, 0, 194, 44, 42, 21, 5, 4, 96, 46, 42, 21, 5, 5, 96, 46, 42]
abbrev dktL_law_4 : List UInt8 := dkwL_law_4 ++ dktL_law_5
def dkwL_law_3 : List UInt8 := [43, 42, 21, 5, 4, 96, 46, 42, 21, 5, 5, 96, 46, 42, 21, 5, 6, 96, 46, 42, 21, 5, 7, 96]
abbrev dktL_law_3 : List UInt8 := dkwL_law_3 ++ dktL_law_4
def dkwL_law_2 : List UInt8 := [170, 0, 0, 0, 0, 14, 147, 0, 0, 0, 0, 0, 0, 0, 60, 0, 0, 1, 3, 0, 0, 1, 76, 0, 0, 1, 132, 0, 0, 1, 145, 0, 0, 1, 158, 0, 0, 1, 171, 0, 0, 1, 227, 0, 0, 2, 39, 0, 0, 2, 107, 0, 0, 2, 175, 0, 0, 2, 243, 0, 0, 3, 55, 0, 0, 3, 111, 0, 0, 3, 155, 0, 0, 3, 199, 0, 0, 3, 243, 0, 0, 4, 43, 0, 0, 4, 99, 0, 0, 4, 155, 0, 0, 4, 223, 0, 0, 5, 35, 0, 0, 5, 103, 0, 0, 5, 159, 0, 0, 5, 227, 0, 0, 6, 39, 0, 0, 6, 107, 0, 0, 6, 163, 0, 0, 6, 231, 0, 0, 7, 55, 0, 0, 7, 111, 0, 0, 7, 167, 0, 0, 7, 223, 0, 0, 8, 23, 0, 0, 8, 91, 0, 0, 8, 147, 0, 0, 8, 215, 0, 0, 9, 15, 0, 0, 9, 59, 0, 0, 9, 127, 0, 0, 9, 193, 0, 0, 10, 2, 0, 0, 10, 58, 0, 0, 10, 114, 0, 0, 10, 170, 0, 0, 10, 214, 0, 0, 11, 14, 0, 0, 11, 82, 0, 0, 11, 150, 0, 0, 11, 206, 0, 0, 11, 250, 0, 0, 12, 50, 0, 0, 12, 106, 0, 0, 12, 174, 0, 0, 12, 230, 0, 0, 13, 30, 0, 0, 13, 86, 0, 0, 13, 142, 0, 0, 13, 234, 0, 0, 14, 22, 0, 0, 14, 35, 0, 0, 14, 91]
abbrev dktL_law_2 : List UInt8 := dkwL_law_2 ++ dktL_law_3
def dkwL_law_1 : List UInt8 := [58, 4, 3, 54, 5, 21, 5, 42, 190, 16, 6, 100, 163, 14, 163, 42, 21, 5, 46, 16, 63, 126]
abbrev dktL_law_1 : List UInt8 := dkwL_law_1 ++ dktL_law_2
def dkwL_law_0 : List UInt8 := [187, 0, 8, 89, 183, 0, 190, 76, 187, 0, 191, 89, 183, 0, 193, 77, 4, 188, 11, 78, 4, 188, 7]
abbrev dktL_law_0 : List UInt8 := dkwL_law_0 ++ dktL_law_1
theorem dksL_law_0 : cL_law.data.toList.drop 0 = dktL_law_0 := by decide +kernel
theorem dksL_law_1 : cL_law.data.toList.drop 23 = dktL_law_1 := dk_seg dksL_law_0 23 rfl rfl
theorem dksL_law_2 : cL_law.data.toList.drop 45 = dktL_law_2 := dk_seg dksL_law_1 22 rfl rfl
theorem dksL_law_3 : cL_law.data.toList.drop 304 = dktL_law_3 := dk_seg dksL_law_2 259 rfl rfl
theorem dksL_law_4 : cL_law.data.toList.drop 328 = dktL_law_4 := dk_seg dksL_law_3 24 rfl rfl
theorem dksL_law_5 : cL_law.data.toList.drop 352 = dktL_law_5 := dk_seg dksL_law_4 24 rfl rfl
theorem dksL_law_6 : cL_law.data.toList.drop 376 = dktL_law_6 := dk_seg dksL_law_5 24 rfl rfl
theorem dksL_law_7 : cL_law.data.toList.drop 400 = dktL_law_7 := dk_seg dksL_law_6 24 rfl rfl
theorem dksL_law_8 : cL_law.data.toList.drop 424 = dktL_law_8 := dk_seg dksL_law_7 24 rfl rfl
theorem dksL_law_9 : cL_law.data.toList.drop 447 = dktL_law_9 := dk_seg dksL_law_8 23 rfl rfl
theorem dksL_law_10 : cL_law.data.toList.drop 471 = dktL_law_10 := dk_seg dksL_law_9 24 rfl rfl
theorem dksL_law_11 : cL_law.data.toList.drop 495 = dktL_law_11 := dk_seg dksL_law_10 24 rfl rfl
theorem dksL_law_12 : cL_law.data.toList.drop 519 = dktL_law_12 := dk_seg dksL_law_11 24 rfl rfl
theorem dksL_law_13 : cL_law.data.toList.drop 542 = dktL_law_13 := dk_seg dksL_law_12 23 rfl rfl
theorem dksL_law_14 : cL_law.data.toList.drop 566 = dktL_law_14 := dk_seg dksL_law_13 24 rfl rfl
theorem dksL_law_15 : cL_law.data.toList.drop 588 = dktL_law_15 := dk_seg dksL_law_14 22 rfl rfl
theorem dksL_law_16 : cL_law.data.toList.drop 610 = dktL_law_16 := dk_seg dksL_law_15 22 rfl rfl
theorem dksL_law_17 : cL_law.data.toList.drop 634 = dktL_law_17 := dk_seg dksL_law_16 24 rfl rfl
theorem dksL_law_18 : cL_law.data.toList.drop 656 = dktL_law_18 := dk_seg dksL_law_17 22 rfl rfl
theorem dksL_law_19 : cL_law.data.toList.drop 678 = dktL_law_19 := dk_seg dksL_law_18 22 rfl rfl
theorem dksL_law_20 : cL_law.data.toList.drop 702 = dktL_law_20 := dk_seg dksL_law_19 24 rfl rfl
theorem dksL_law_21 : cL_law.data.toList.drop 724 = dktL_law_21 := dk_seg dksL_law_20 22 rfl rfl
theorem dksL_law_22 : cL_law.data.toList.drop 746 = dktL_law_22 := dk_seg dksL_law_21 22 rfl rfl
theorem dksL_law_23 : cL_law.data.toList.drop 770 = dktL_law_23 := dk_seg dksL_law_22 24 rfl rfl
theorem dksL_law_24 : cL_law.data.toList.drop 792 = dktL_law_24 := dk_seg dksL_law_23 22 rfl rfl
theorem dksL_law_25 : cL_law.data.toList.drop 814 = dktL_law_25 := dk_seg dksL_law_24 22 rfl rfl
theorem dksL_law_26 : cL_law.data.toList.drop 838 = dktL_law_26 := dk_seg dksL_law_25 24 rfl rfl
theorem dksL_law_27 : cL_law.data.toList.drop 860 = dktL_law_27 := dk_seg dksL_law_26 22 rfl rfl
theorem dksL_law_28 : cL_law.data.toList.drop 883 = dktL_law_28 := dk_seg dksL_law_27 23 rfl rfl
theorem dksL_law_29 : cL_law.data.toList.drop 906 = dktL_law_29 := dk_seg dksL_law_28 23 rfl rfl
theorem dksL_law_30 : cL_law.data.toList.drop 929 = dktL_law_30 := dk_seg dksL_law_29 23 rfl rfl
theorem dksL_law_31 : cL_law.data.toList.drop 953 = dktL_law_31 := dk_seg dksL_law_30 24 rfl rfl
theorem dksL_law_32 : cL_law.data.toList.drop 976 = dktL_law_32 := dk_seg dksL_law_31 23 rfl rfl
theorem dksL_law_33 : cL_law.data.toList.drop 1000 = dktL_law_33 := dk_seg dksL_law_32 24 rfl rfl
theorem dksL_law_34 : cL_law.data.toList.drop 1023 = dktL_law_34 := dk_seg dksL_law_33 23 rfl rfl
theorem dksL_law_35 : cL_law.data.toList.drop 1047 = dktL_law_35 := dk_seg dksL_law_34 24 rfl rfl
theorem dksL_law_36 : cL_law.data.toList.drop 1071 = dktL_law_36 := dk_seg dksL_law_35 24 rfl rfl
theorem dksL_law_37 : cL_law.data.toList.drop 1094 = dktL_law_37 := dk_seg dksL_law_36 23 rfl rfl
theorem dksL_law_38 : cL_law.data.toList.drop 1118 = dktL_law_38 := dk_seg dksL_law_37 24 rfl rfl
theorem dksL_law_39 : cL_law.data.toList.drop 1141 = dktL_law_39 := dk_seg dksL_law_38 23 rfl rfl
theorem dksL_law_40 : cL_law.data.toList.drop 1165 = dktL_law_40 := dk_seg dksL_law_39 24 rfl rfl
theorem dksL_law_41 : cL_law.data.toList.drop 1188 = dktL_law_41 := dk_seg dksL_law_40 23 rfl rfl
theorem dksL_law_42 : cL_law.data.toList.drop 1212 = dktL_law_42 := dk_seg dksL_law_41 24 rfl rfl
theorem dksL_law_43 : cL_law.data.toList.drop 1236 = dktL_law_43 := dk_seg dksL_law_42 24 rfl rfl
theorem dksL_law_44 : cL_law.data.toList.drop 1259 = dktL_law_44 := dk_seg dksL_law_43 23 rfl rfl
theorem dksL_law_45 : cL_law.data.toList.drop 1283 = dktL_law_45 := dk_seg dksL_law_44 24 rfl rfl
theorem dksL_law_46 : cL_law.data.toList.drop 1306 = dktL_law_46 := dk_seg dksL_law_45 23 rfl rfl
theorem dksL_law_47 : cL_law.data.toList.drop 1330 = dktL_law_47 := dk_seg dksL_law_46 24 rfl rfl
theorem dksL_law_48 : cL_law.data.toList.drop 1352 = dktL_law_48 := dk_seg dksL_law_47 22 rfl rfl
theorem dksL_law_49 : cL_law.data.toList.drop 1374 = dktL_law_49 := dk_seg dksL_law_48 22 rfl rfl
theorem dksL_law_50 : cL_law.data.toList.drop 1398 = dktL_law_50 := dk_seg dksL_law_49 24 rfl rfl
theorem dksL_law_51 : cL_law.data.toList.drop 1420 = dktL_law_51 := dk_seg dksL_law_50 22 rfl rfl
theorem dksL_law_52 : cL_law.data.toList.drop 1443 = dktL_law_52 := dk_seg dksL_law_51 23 rfl rfl
theorem dksL_law_53 : cL_law.data.toList.drop 1466 = dktL_law_53 := dk_seg dksL_law_52 23 rfl rfl
theorem dksL_law_54 : cL_law.data.toList.drop 1490 = dktL_law_54 := dk_seg dksL_law_53 24 rfl rfl
theorem dksL_law_55 : cL_law.data.toList.drop 1514 = dktL_law_55 := dk_seg dksL_law_54 24 rfl rfl
theorem dksL_law_56 : cL_law.data.toList.drop 1538 = dktL_law_56 := dk_seg dksL_law_55 24 rfl rfl
theorem dksL_law_57 : cL_law.data.toList.drop 1562 = dktL_law_57 := dk_seg dksL_law_56 24 rfl rfl
theorem dksL_law_58 : cL_law.data.toList.drop 1584 = dktL_law_58 := dk_seg dksL_law_57 22 rfl rfl
theorem dksL_law_59 : cL_law.data.toList.drop 1608 = dktL_law_59 := dk_seg dksL_law_58 24 rfl rfl
theorem dksL_law_60 : cL_law.data.toList.drop 1632 = dktL_law_60 := dk_seg dksL_law_59 24 rfl rfl
theorem dksL_law_61 : cL_law.data.toList.drop 1655 = dktL_law_61 := dk_seg dksL_law_60 23 rfl rfl
theorem dksL_law_62 : cL_law.data.toList.drop 1679 = dktL_law_62 := dk_seg dksL_law_61 24 rfl rfl
theorem dksL_law_63 : cL_law.data.toList.drop 1703 = dktL_law_63 := dk_seg dksL_law_62 24 rfl rfl
theorem dksL_law_64 : cL_law.data.toList.drop 1726 = dktL_law_64 := dk_seg dksL_law_63 23 rfl rfl
theorem dksL_law_65 : cL_law.data.toList.drop 1750 = dktL_law_65 := dk_seg dksL_law_64 24 rfl rfl
theorem dksL_law_66 : cL_law.data.toList.drop 1774 = dktL_law_66 := dk_seg dksL_law_65 24 rfl rfl
theorem dksL_law_67 : cL_law.data.toList.drop 1798 = dktL_law_67 := dk_seg dksL_law_66 24 rfl rfl
theorem dksL_law_68 : cL_law.data.toList.drop 1822 = dktL_law_68 := dk_seg dksL_law_67 24 rfl rfl
theorem dksL_law_69 : cL_law.data.toList.drop 1845 = dktL_law_69 := dk_seg dksL_law_68 23 rfl rfl
theorem dksL_law_70 : cL_law.data.toList.drop 1867 = dktL_law_70 := dk_seg dksL_law_69 22 rfl rfl
theorem dksL_law_71 : cL_law.data.toList.drop 1889 = dktL_law_71 := dk_seg dksL_law_70 22 rfl rfl
theorem dksL_law_72 : cL_law.data.toList.drop 1912 = dktL_law_72 := dk_seg dksL_law_71 23 rfl rfl
theorem dksL_law_73 : cL_law.data.toList.drop 1936 = dktL_law_73 := dk_seg dksL_law_72 24 rfl rfl
theorem dksL_law_74 : cL_law.data.toList.drop 1959 = dktL_law_74 := dk_seg dksL_law_73 23 rfl rfl
theorem dksL_law_75 : cL_law.data.toList.drop 1983 = dktL_law_75 := dk_seg dksL_law_74 24 rfl rfl
theorem dksL_law_76 : cL_law.data.toList.drop 2006 = dktL_law_76 := dk_seg dksL_law_75 23 rfl rfl
theorem dksL_law_77 : cL_law.data.toList.drop 2030 = dktL_law_77 := dk_seg dksL_law_76 24 rfl rfl
theorem dksL_law_78 : cL_law.data.toList.drop 2052 = dktL_law_78 := dk_seg dksL_law_77 22 rfl rfl
theorem dksL_law_79 : cL_law.data.toList.drop 2075 = dktL_law_79 := dk_seg dksL_law_78 23 rfl rfl
theorem dksL_law_80 : cL_law.data.toList.drop 2098 = dktL_law_80 := dk_seg dksL_law_79 23 rfl rfl
theorem dksL_law_81 : cL_law.data.toList.drop 2122 = dktL_law_81 := dk_seg dksL_law_80 24 rfl rfl
theorem dksL_law_82 : cL_law.data.toList.drop 2146 = dktL_law_82 := dk_seg dksL_law_81 24 rfl rfl
theorem dksL_law_83 : cL_law.data.toList.drop 2170 = dktL_law_83 := dk_seg dksL_law_82 24 rfl rfl
theorem dksL_law_84 : cL_law.data.toList.drop 2192 = dktL_law_84 := dk_seg dksL_law_83 22 rfl rfl
theorem dksL_law_85 : cL_law.data.toList.drop 2215 = dktL_law_85 := dk_seg dksL_law_84 23 rfl rfl
theorem dksL_law_86 : cL_law.data.toList.drop 2237 = dktL_law_86 := dk_seg dksL_law_85 22 rfl rfl
theorem dksL_law_87 : cL_law.data.toList.drop 2261 = dktL_law_87 := dk_seg dksL_law_86 24 rfl rfl
theorem dksL_law_88 : cL_law.data.toList.drop 2283 = dktL_law_88 := dk_seg dksL_law_87 22 rfl rfl
theorem dksL_law_89 : cL_law.data.toList.drop 2305 = dktL_law_89 := dk_seg dksL_law_88 22 rfl rfl
theorem dksL_law_90 : cL_law.data.toList.drop 2328 = dktL_law_90 := dk_seg dksL_law_89 23 rfl rfl
theorem dksL_law_91 : cL_law.data.toList.drop 2352 = dktL_law_91 := dk_seg dksL_law_90 24 rfl rfl
theorem dksL_law_92 : cL_law.data.toList.drop 2375 = dktL_law_92 := dk_seg dksL_law_91 23 rfl rfl
theorem dksL_law_93 : cL_law.data.toList.drop 2399 = dktL_law_93 := dk_seg dksL_law_92 24 rfl rfl
theorem dksL_law_94 : cL_law.data.toList.drop 2422 = dktL_law_94 := dk_seg dksL_law_93 23 rfl rfl
theorem dksL_law_95 : cL_law.data.toList.drop 2446 = dktL_law_95 := dk_seg dksL_law_94 24 rfl rfl
theorem dksL_law_96 : cL_law.data.toList.drop 2468 = dktL_law_96 := dk_seg dksL_law_95 22 rfl rfl
theorem dksL_law_97 : cL_law.data.toList.drop 2491 = dktL_law_97 := dk_seg dksL_law_96 23 rfl rfl
theorem dksL_law_98 : cL_law.data.toList.drop 2514 = dktL_law_98 := dk_seg dksL_law_97 23 rfl rfl
theorem dksL_law_99 : cL_law.data.toList.drop 2538 = dktL_law_99 := dk_seg dksL_law_98 24 rfl rfl
theorem dksL_law_100 : cL_law.data.toList.drop 2562 = dktL_law_100 := dk_seg dksL_law_99 24 rfl rfl
theorem dksL_law_101 : cL_law.data.toList.drop 2586 = dktL_law_101 := dk_seg dksL_law_100 24 rfl rfl
theorem dksL_law_102 : cL_law.data.toList.drop 2609 = dktL_law_102 := dk_seg dksL_law_101 23 rfl rfl
theorem dksL_law_103 : cL_law.data.toList.drop 2633 = dktL_law_103 := dk_seg dksL_law_102 24 rfl rfl
theorem dksL_law_104 : cL_law.data.toList.drop 2655 = dktL_law_104 := dk_seg dksL_law_103 22 rfl rfl
theorem dksL_law_105 : cL_law.data.toList.drop 2678 = dktL_law_105 := dk_seg dksL_law_104 23 rfl rfl
theorem dksL_law_106 : cL_law.data.toList.drop 2701 = dktL_law_106 := dk_seg dksL_law_105 23 rfl rfl
theorem dksL_law_107 : cL_law.data.toList.drop 2725 = dktL_law_107 := dk_seg dksL_law_106 24 rfl rfl
theorem dksL_law_108 : cL_law.data.toList.drop 2748 = dktL_law_108 := dk_seg dksL_law_107 23 rfl rfl
theorem dksL_law_109 : cL_law.data.toList.drop 2772 = dktL_law_109 := dk_seg dksL_law_108 24 rfl rfl
theorem dksL_law_110 : cL_law.data.toList.drop 2794 = dktL_law_110 := dk_seg dksL_law_109 22 rfl rfl
theorem dksL_law_111 : cL_law.data.toList.drop 2816 = dktL_law_111 := dk_seg dksL_law_110 22 rfl rfl
theorem dksL_law_112 : cL_law.data.toList.drop 2839 = dktL_law_112 := dk_seg dksL_law_111 23 rfl rfl
theorem dksL_law_113 : cL_law.data.toList.drop 2863 = dktL_law_113 := dk_seg dksL_law_112 24 rfl rfl
theorem dksL_law_114 : cL_law.data.toList.drop 2887 = dktL_law_114 := dk_seg dksL_law_113 24 rfl rfl
theorem dksL_law_115 : cL_law.data.toList.drop 2910 = dktL_law_115 := dk_seg dksL_law_114 23 rfl rfl
theorem dksL_law_116 : cL_law.data.toList.drop 2934 = dktL_law_116 := dk_seg dksL_law_115 24 rfl rfl
theorem dksL_law_117 : cL_law.data.toList.drop 2957 = dktL_law_117 := dk_seg dksL_law_116 23 rfl rfl
theorem dksL_law_118 : cL_law.data.toList.drop 2981 = dktL_law_118 := dk_seg dksL_law_117 24 rfl rfl
theorem dksL_law_119 : cL_law.data.toList.drop 3003 = dktL_law_119 := dk_seg dksL_law_118 22 rfl rfl
theorem dksL_law_120 : cL_law.data.toList.drop 3026 = dktL_law_120 := dk_seg dksL_law_119 23 rfl rfl
theorem dksL_law_121 : cL_law.data.toList.drop 3049 = dktL_law_121 := dk_seg dksL_law_120 23 rfl rfl
theorem dksL_law_122 : cL_law.data.toList.drop 3072 = dktL_law_122 := dk_seg dksL_law_121 23 rfl rfl
theorem dksL_law_123 : cL_law.data.toList.drop 3096 = dktL_law_123 := dk_seg dksL_law_122 24 rfl rfl
theorem dksL_law_124 : cL_law.data.toList.drop 3119 = dktL_law_124 := dk_seg dksL_law_123 23 rfl rfl
theorem dksL_law_125 : cL_law.data.toList.drop 3142 = dktL_law_125 := dk_seg dksL_law_124 23 rfl rfl
theorem dksL_law_126 : cL_law.data.toList.drop 3164 = dktL_law_126 := dk_seg dksL_law_125 22 rfl rfl
theorem dksL_law_127 : cL_law.data.toList.drop 3187 = dktL_law_127 := dk_seg dksL_law_126 23 rfl rfl
theorem dksL_law_128 : cL_law.data.toList.drop 3211 = dktL_law_128 := dk_seg dksL_law_127 24 rfl rfl
theorem dksL_law_129 : cL_law.data.toList.drop 3235 = dktL_law_129 := dk_seg dksL_law_128 24 rfl rfl
theorem dksL_law_130 : cL_law.data.toList.drop 3258 = dktL_law_130 := dk_seg dksL_law_129 23 rfl rfl
theorem dksL_law_131 : cL_law.data.toList.drop 3282 = dktL_law_131 := dk_seg dksL_law_130 24 rfl rfl
theorem dksL_law_132 : cL_law.data.toList.drop 3306 = dktL_law_132 := dk_seg dksL_law_131 24 rfl rfl
theorem dksL_law_133 : cL_law.data.toList.drop 3329 = dktL_law_133 := dk_seg dksL_law_132 23 rfl rfl
theorem dksL_law_134 : cL_law.data.toList.drop 3353 = dktL_law_134 := dk_seg dksL_law_133 24 rfl rfl
theorem dksL_law_135 : cL_law.data.toList.drop 3376 = dktL_law_135 := dk_seg dksL_law_134 23 rfl rfl
theorem dksL_law_136 : cL_law.data.toList.drop 3400 = dktL_law_136 := dk_seg dksL_law_135 24 rfl rfl
theorem dksL_law_137 : cL_law.data.toList.drop 3423 = dktL_law_137 := dk_seg dksL_law_136 23 rfl rfl
theorem dksL_law_138 : cL_law.data.toList.drop 3447 = dktL_law_138 := dk_seg dksL_law_137 24 rfl rfl
theorem dksL_law_139 : cL_law.data.toList.drop 3470 = dktL_law_139 := dk_seg dksL_law_138 23 rfl rfl
theorem dksL_law_140 : cL_law.data.toList.drop 3494 = dktL_law_140 := dk_seg dksL_law_139 24 rfl rfl
theorem dksL_law_141 : cL_law.data.toList.drop 3517 = dktL_law_141 := dk_seg dksL_law_140 23 rfl rfl
theorem dksL_law_142 : cL_law.data.toList.drop 3541 = dktL_law_142 := dk_seg dksL_law_141 24 rfl rfl
theorem dksL_law_143 : cL_law.data.toList.drop 3565 = dktL_law_143 := dk_seg dksL_law_142 24 rfl rfl
theorem dksL_law_144 : cL_law.data.toList.drop 3589 = dktL_law_144 := dk_seg dksL_law_143 24 rfl rfl
theorem dksL_law_145 : cL_law.data.toList.drop 3612 = dktL_law_145 := dk_seg dksL_law_144 23 rfl rfl
theorem dksL_law_146 : cL_law.data.toList.drop 3636 = dktL_law_146 := dk_seg dksL_law_145 24 rfl rfl
theorem dksL_law_147 : cL_law.data.toList.drop 3659 = dktL_law_147 := dk_seg dksL_law_146 23 rfl rfl
theorem dksL_law_148 : cL_law.data.toList.drop 3683 = dktL_law_148 := dk_seg dksL_law_147 24 rfl rfl
theorem dksL_law_149 : cL_law.data.toList.drop 3707 = dktL_law_149 := dk_seg dksL_law_148 24 rfl rfl
theorem dksL_law_150 : cL_law.data.toList.drop 3731 = dktL_law_150 := dk_seg dksL_law_149 24 rfl rfl
theorem dksL_law_151 : cL_law.data.toList.drop 3755 = dktL_law_151 := dk_seg dksL_law_150 24 rfl rfl
theorem dksL_law_152 : cL_law.data.toList.drop 3779 = dktL_law_152 := dk_seg dksL_law_151 24 rfl rfl
theorem dL_law_0 : decode cL_law 0 = .ok (.new 8, 3) := dk_187 0 8 (dk_at dksL_law_0 0 rfl rfl)
theorem dL_law_3 : decode cL_law 3 = .ok (.dup, 1) := dk_89 (dk_at dksL_law_0 3 rfl rfl)
theorem dL_law_4 : decode cL_law 4 = .ok (.invokespecial 190, 3) := dk_183 0 190 (dk_at dksL_law_0 4 rfl rfl)
theorem dL_law_7 : decode cL_law 7 = .ok (.astore_n 1, 1) := dk_76 (dk_at dksL_law_0 7 rfl rfl)
theorem dL_law_8 : decode cL_law 8 = .ok (.new 191, 3) := dk_187 0 191 (dk_at dksL_law_0 8 rfl rfl)
theorem dL_law_11 : decode cL_law 11 = .ok (.dup, 1) := dk_89 (dk_at dksL_law_0 11 rfl rfl)
theorem dL_law_12 : decode cL_law 12 = .ok (.invokespecial 193, 3) := dk_183 0 193 (dk_at dksL_law_0 12 rfl rfl)
theorem dL_law_15 : decode cL_law 15 = .ok (.astore_n 2, 1) := dk_77 (dk_at dksL_law_0 15 rfl rfl)
theorem dL_law_16 : decode cL_law 16 = .ok (.iconst 1, 1) := dk_4 (dk_at dksL_law_0 16 rfl rfl)
theorem dL_law_17 : decode cL_law 17 = .ok (.newarray .long, 2) := dk_188_11 (dk_at dksL_law_0 17 rfl rfl)
theorem dL_law_19 : decode cL_law 19 = .ok (.astore_n 3, 1) := dk_78 (dk_at dksL_law_0 19 rfl rfl)
theorem dL_law_20 : decode cL_law 20 = .ok (.iconst 1, 1) := dk_4 (dk_at dksL_law_0 20 rfl rfl)
theorem dL_law_21 : decode cL_law 21 = .ok (.newarray .double, 2) := dk_188_7 (dk_at dksL_law_0 21 rfl rfl)
theorem dL_law_23 : decode cL_law 23 = .ok (.astore 4, 2) := dk_58 4 (dk_at dksL_law_1 0 rfl rfl)
theorem dL_law_25 : decode cL_law 25 = .ok (.iconst 0, 1) := dk_3 (dk_at dksL_law_1 2 rfl rfl)
theorem dL_law_26 : decode cL_law 26 = .ok (.istore 5, 2) := dk_54 5 (dk_at dksL_law_1 3 rfl rfl)
theorem dL_law_28 : decode cL_law 28 = .ok (.iload 5, 2) := dk_21 5 (dk_at dksL_law_1 5 rfl rfl)
theorem dL_law_30 : decode cL_law 30 = .ok (.aload_n 0, 1) := dk_42 (dk_at dksL_law_1 7 rfl rfl)
theorem dL_law_31 : decode cL_law 31 = .ok (.arraylength, 1) := dk_190 (dk_at dksL_law_1 8 rfl rfl)
theorem dL_law_32 : decode cL_law 32 = .ok (.bipush 6, 2) := dk_16 6 (dk_at dksL_law_1 9 rfl rfl)
theorem dL_law_34 : decode cL_law 34 = .ok (.isub, 1) := dk_100 (dk_at dksL_law_1 11 rfl rfl)
theorem dL_law_35 : decode cL_law 35 = .ok (.if_icmp .gt 3747, 3) := dk_163 14 163 (dk_at dksL_law_1 12 rfl rfl)
theorem dL_law_38 : decode cL_law 38 = .ok (.aload_n 0, 1) := dk_42 (dk_at dksL_law_1 15 rfl rfl)
theorem dL_law_39 : decode cL_law 39 = .ok (.iload 5, 2) := dk_21 5 (dk_at dksL_law_1 16 rfl rfl)
theorem dL_law_41 : decode cL_law 41 = .ok (.iaload, 1) := dk_46 (dk_at dksL_law_1 18 rfl rfl)
theorem dL_law_42 : decode cL_law 42 = .ok (.bipush 63, 2) := dk_16 63 (dk_at dksL_law_1 19 rfl rfl)
theorem dL_law_44 : decode cL_law 44 = .ok (.iand, 1) := dk_126 (dk_at dksL_law_1 21 rfl rfl)
theorem dL_law_45 : decode cL_law 45 = .ok (.tableswitch 3731 0 60 #[259, 332, 388, 401, 414, 427, 483, 551, 619, 687, 755, 823, 879, 923, 967, 1011, 1067, 1123, 1179, 1247, 1315, 1383, 1439, 1507, 1575, 1643, 1699, 1767, 1847, 1903, 1959, 2015, 2071, 2139, 2195, 2263, 2319, 2363, 2431, 2497, 2562, 2618, 2674, 2730, 2774, 2830, 2898, 2966, 3022, 3066, 3122, 3178, 3246, 3302, 3358, 3414, 3470, 3562, 3606, 3619, 3675], 259) := by decide +kernel
theorem dL_law_304 : decode cL_law 304 = .ok (.aload_n 1, 1) := dk_43 (dk_at dksL_law_3 0 rfl rfl)
theorem dL_law_305 : decode cL_law 305 = .ok (.aload_n 0, 1) := dk_42 (dk_at dksL_law_3 1 rfl rfl)
theorem dL_law_306 : decode cL_law 306 = .ok (.iload 5, 2) := dk_21 5 (dk_at dksL_law_3 2 rfl rfl)
theorem dL_law_308 : decode cL_law 308 = .ok (.iconst 1, 1) := dk_4 (dk_at dksL_law_3 4 rfl rfl)
theorem dL_law_309 : decode cL_law 309 = .ok (.iadd, 1) := dk_96 (dk_at dksL_law_3 5 rfl rfl)
theorem dL_law_310 : decode cL_law 310 = .ok (.iaload, 1) := dk_46 (dk_at dksL_law_3 6 rfl rfl)
theorem dL_law_311 : decode cL_law 311 = .ok (.aload_n 0, 1) := dk_42 (dk_at dksL_law_3 7 rfl rfl)
theorem dL_law_312 : decode cL_law 312 = .ok (.iload 5, 2) := dk_21 5 (dk_at dksL_law_3 8 rfl rfl)
theorem dL_law_314 : decode cL_law 314 = .ok (.iconst 2, 1) := dk_5 (dk_at dksL_law_3 10 rfl rfl)
theorem dL_law_315 : decode cL_law 315 = .ok (.iadd, 1) := dk_96 (dk_at dksL_law_3 11 rfl rfl)
theorem dL_law_316 : decode cL_law 316 = .ok (.iaload, 1) := dk_46 (dk_at dksL_law_3 12 rfl rfl)
theorem dL_law_317 : decode cL_law 317 = .ok (.aload_n 0, 1) := dk_42 (dk_at dksL_law_3 13 rfl rfl)
theorem dL_law_318 : decode cL_law 318 = .ok (.iload 5, 2) := dk_21 5 (dk_at dksL_law_3 14 rfl rfl)
theorem dL_law_320 : decode cL_law 320 = .ok (.iconst 3, 1) := dk_6 (dk_at dksL_law_3 16 rfl rfl)
theorem dL_law_321 : decode cL_law 321 = .ok (.iadd, 1) := dk_96 (dk_at dksL_law_3 17 rfl rfl)
theorem dL_law_322 : decode cL_law 322 = .ok (.iaload, 1) := dk_46 (dk_at dksL_law_3 18 rfl rfl)
theorem dL_law_323 : decode cL_law 323 = .ok (.aload_n 0, 1) := dk_42 (dk_at dksL_law_3 19 rfl rfl)
theorem dL_law_324 : decode cL_law 324 = .ok (.iload 5, 2) := dk_21 5 (dk_at dksL_law_3 20 rfl rfl)
theorem dL_law_326 : decode cL_law 326 = .ok (.iconst 4, 1) := dk_7 (dk_at dksL_law_3 22 rfl rfl)
theorem dL_law_327 : decode cL_law 327 = .ok (.iadd, 1) := dk_96 (dk_at dksL_law_3 23 rfl rfl)
theorem dL_law_328 : decode cL_law 328 = .ok (.iaload, 1) := dk_46 (dk_at dksL_law_4 0 rfl rfl)
theorem dL_law_329 : decode cL_law 329 = .ok (.aload_n 0, 1) := dk_42 (dk_at dksL_law_4 1 rfl rfl)
theorem dL_law_330 : decode cL_law 330 = .ok (.iload 5, 2) := dk_21 5 (dk_at dksL_law_4 2 rfl rfl)
theorem dL_law_332 : decode cL_law 332 = .ok (.iconst 5, 1) := dk_8 (dk_at dksL_law_4 4 rfl rfl)
theorem dL_law_333 : decode cL_law 333 = .ok (.iadd, 1) := dk_96 (dk_at dksL_law_4 5 rfl rfl)
theorem dL_law_334 : decode cL_law 334 = .ok (.iaload, 1) := dk_46 (dk_at dksL_law_4 6 rfl rfl)
theorem dL_law_335 : decode cL_law 335 = .ok (.invokevirtual 194, 3) := dk_182 0 194 (dk_at dksL_law_4 7 rfl rfl)
theorem dL_law_338 : decode cL_law 338 = .ok (.aload_n 2, 1) := dk_44 (dk_at dksL_law_4 10 rfl rfl)
theorem dL_law_339 : decode cL_law 339 = .ok (.aload_n 0, 1) := dk_42 (dk_at dksL_law_4 11 rfl rfl)
theorem dL_law_340 : decode cL_law 340 = .ok (.iload 5, 2) := dk_21 5 (dk_at dksL_law_4 12 rfl rfl)
theorem dL_law_342 : decode cL_law 342 = .ok (.iconst 1, 1) := dk_4 (dk_at dksL_law_4 14 rfl rfl)
theorem dL_law_343 : decode cL_law 343 = .ok (.iadd, 1) := dk_96 (dk_at dksL_law_4 15 rfl rfl)
theorem dL_law_344 : decode cL_law 344 = .ok (.iaload, 1) := dk_46 (dk_at dksL_law_4 16 rfl rfl)
theorem dL_law_345 : decode cL_law 345 = .ok (.aload_n 0, 1) := dk_42 (dk_at dksL_law_4 17 rfl rfl)
theorem dL_law_346 : decode cL_law 346 = .ok (.iload 5, 2) := dk_21 5 (dk_at dksL_law_4 18 rfl rfl)
theorem dL_law_348 : decode cL_law 348 = .ok (.iconst 2, 1) := dk_5 (dk_at dksL_law_4 20 rfl rfl)
theorem dL_law_349 : decode cL_law 349 = .ok (.iadd, 1) := dk_96 (dk_at dksL_law_4 21 rfl rfl)
theorem dL_law_350 : decode cL_law 350 = .ok (.iaload, 1) := dk_46 (dk_at dksL_law_4 22 rfl rfl)
theorem dL_law_351 : decode cL_law 351 = .ok (.aload_n 0, 1) := dk_42 (dk_at dksL_law_4 23 rfl rfl)
theorem dL_law_352 : decode cL_law 352 = .ok (.iload 5, 2) := dk_21 5 (dk_at dksL_law_5 0 rfl rfl)
theorem dL_law_354 : decode cL_law 354 = .ok (.iconst 3, 1) := dk_6 (dk_at dksL_law_5 2 rfl rfl)
theorem dL_law_355 : decode cL_law 355 = .ok (.iadd, 1) := dk_96 (dk_at dksL_law_5 3 rfl rfl)
theorem dL_law_356 : decode cL_law 356 = .ok (.iaload, 1) := dk_46 (dk_at dksL_law_5 4 rfl rfl)
theorem dL_law_357 : decode cL_law 357 = .ok (.aload_n 0, 1) := dk_42 (dk_at dksL_law_5 5 rfl rfl)
theorem dL_law_358 : decode cL_law 358 = .ok (.iload 5, 2) := dk_21 5 (dk_at dksL_law_5 6 rfl rfl)
theorem dL_law_360 : decode cL_law 360 = .ok (.iconst 4, 1) := dk_7 (dk_at dksL_law_5 8 rfl rfl)
theorem dL_law_361 : decode cL_law 361 = .ok (.iadd, 1) := dk_96 (dk_at dksL_law_5 9 rfl rfl)
theorem dL_law_362 : decode cL_law 362 = .ok (.iaload, 1) := dk_46 (dk_at dksL_law_5 10 rfl rfl)
theorem dL_law_363 : decode cL_law 363 = .ok (.aload_n 0, 1) := dk_42 (dk_at dksL_law_5 11 rfl rfl)
theorem dL_law_364 : decode cL_law 364 = .ok (.iload 5, 2) := dk_21 5 (dk_at dksL_law_5 12 rfl rfl)
theorem dL_law_366 : decode cL_law 366 = .ok (.iconst 5, 1) := dk_8 (dk_at dksL_law_5 14 rfl rfl)
theorem dL_law_367 : decode cL_law 367 = .ok (.iadd, 1) := dk_96 (dk_at dksL_law_5 15 rfl rfl)
theorem dL_law_368 : decode cL_law 368 = .ok (.iaload, 1) := dk_46 (dk_at dksL_law_5 16 rfl rfl)
theorem dL_law_369 : decode cL_law 369 = .ok (.invokevirtual 198, 3) := dk_182 0 198 (dk_at dksL_law_5 17 rfl rfl)
theorem dL_law_372 : decode cL_law 372 = .ok (.if_icmp .eq 3404, 3) := dk_159 13 76 (dk_at dksL_law_5 20 rfl rfl)
theorem dL_law_375 : decode cL_law 375 = .ok (.iconst 0, 1) := dk_3 (dk_at dksL_law_5 23 rfl rfl)
theorem dL_law_376 : decode cL_law 376 = .ok (.ireturn, 1) := dk_172 (dk_at dksL_law_6 0 rfl rfl)
theorem dL_law_377 : decode cL_law 377 = .ok (.aload_n 1, 1) := dk_43 (dk_at dksL_law_6 1 rfl rfl)
theorem dL_law_378 : decode cL_law 378 = .ok (.aload_n 0, 1) := dk_42 (dk_at dksL_law_6 2 rfl rfl)
theorem dL_law_379 : decode cL_law 379 = .ok (.iload 5, 2) := dk_21 5 (dk_at dksL_law_6 3 rfl rfl)
theorem dL_law_381 : decode cL_law 381 = .ok (.iconst 1, 1) := dk_4 (dk_at dksL_law_6 5 rfl rfl)
theorem dL_law_382 : decode cL_law 382 = .ok (.iadd, 1) := dk_96 (dk_at dksL_law_6 6 rfl rfl)
theorem dL_law_383 : decode cL_law 383 = .ok (.iaload, 1) := dk_46 (dk_at dksL_law_6 7 rfl rfl)
theorem dL_law_384 : decode cL_law 384 = .ok (.aload_n 3, 1) := dk_45 (dk_at dksL_law_6 8 rfl rfl)
theorem dL_law_385 : decode cL_law 385 = .ok (.invokestatic 199, 3) := dk_184 0 199 (dk_at dksL_law_6 9 rfl rfl)
theorem dL_law_388 : decode cL_law 388 = .ok (.istore 6, 2) := dk_54 6 (dk_at dksL_law_6 12 rfl rfl)
theorem dL_law_390 : decode cL_law 390 = .ok (.aload_n 2, 1) := dk_44 (dk_at dksL_law_6 14 rfl rfl)
theorem dL_law_391 : decode cL_law 391 = .ok (.aload_n 0, 1) := dk_42 (dk_at dksL_law_6 15 rfl rfl)
theorem dL_law_392 : decode cL_law 392 = .ok (.iload 5, 2) := dk_21 5 (dk_at dksL_law_6 16 rfl rfl)
theorem dL_law_394 : decode cL_law 394 = .ok (.iconst 1, 1) := dk_4 (dk_at dksL_law_6 18 rfl rfl)
theorem dL_law_395 : decode cL_law 395 = .ok (.iadd, 1) := dk_96 (dk_at dksL_law_6 19 rfl rfl)
theorem dL_law_396 : decode cL_law 396 = .ok (.iaload, 1) := dk_46 (dk_at dksL_law_6 20 rfl rfl)
theorem dL_law_397 : decode cL_law 397 = .ok (.invokevirtual 204, 3) := dk_182 0 204 (dk_at dksL_law_6 21 rfl rfl)
theorem dL_law_400 : decode cL_law 400 = .ok (.istore 7, 2) := dk_54 7 (dk_at dksL_law_7 0 rfl rfl)
theorem dL_law_402 : decode cL_law 402 = .ok (.aload_n 2, 1) := dk_44 (dk_at dksL_law_7 2 rfl rfl)
theorem dL_law_403 : decode cL_law 403 = .ok (.invokevirtual 205, 3) := dk_182 0 205 (dk_at dksL_law_7 3 rfl rfl)
theorem dL_law_406 : decode cL_law 406 = .ok (.iload 6, 2) := dk_21 6 (dk_at dksL_law_7 6 rfl rfl)
theorem dL_law_408 : decode cL_law 408 = .ok (.if_icmp .eq 5, 3) := dk_159 0 5 (dk_at dksL_law_7 8 rfl rfl)
theorem dL_law_411 : decode cL_law 411 = .ok (.iconst 0, 1) := dk_3 (dk_at dksL_law_7 11 rfl rfl)
theorem dL_law_412 : decode cL_law 412 = .ok (.ireturn, 1) := dk_172 (dk_at dksL_law_7 12 rfl rfl)
theorem dL_law_413 : decode cL_law 413 = .ok (.iload 6, 2) := dk_21 6 (dk_at dksL_law_7 13 rfl rfl)
theorem dL_law_415 : decode cL_law 415 = .ok (.ifCond .ne 15, 3) := dk_154 0 15 (dk_at dksL_law_7 15 rfl rfl)
theorem dL_law_418 : decode cL_law 418 = .ok (.aload_n 3, 1) := dk_45 (dk_at dksL_law_7 18 rfl rfl)
theorem dL_law_419 : decode cL_law 419 = .ok (.iconst 0, 1) := dk_3 (dk_at dksL_law_7 19 rfl rfl)
theorem dL_law_420 : decode cL_law 420 = .ok (.laload, 1) := dk_47 (dk_at dksL_law_7 20 rfl rfl)
theorem dL_law_421 : decode cL_law 421 = .ok (.iload 7, 2) := dk_21 7 (dk_at dksL_law_7 21 rfl rfl)
theorem dL_law_423 : decode cL_law 423 = .ok (.i2l, 1) := dk_133 (dk_at dksL_law_7 23 rfl rfl)
theorem dL_law_424 : decode cL_law 424 = .ok (.lcmp, 1) := dk_148 (dk_at dksL_law_8 0 rfl rfl)
theorem dL_law_425 : decode cL_law 425 = .ok (.ifCond .eq 5, 3) := dk_153 0 5 (dk_at dksL_law_8 1 rfl rfl)
theorem dL_law_428 : decode cL_law 428 = .ok (.iconst 0, 1) := dk_3 (dk_at dksL_law_8 4 rfl rfl)
theorem dL_law_429 : decode cL_law 429 = .ok (.ireturn, 1) := dk_172 (dk_at dksL_law_8 5 rfl rfl)
theorem dL_law_430 : decode cL_law 430 = .ok (.goto 3346, 3) := dk_167 13 18 (dk_at dksL_law_8 6 rfl rfl)
theorem dL_law_433 : decode cL_law 433 = .ok (.aload_n 1, 1) := dk_43 (dk_at dksL_law_8 9 rfl rfl)
theorem dL_law_434 : decode cL_law 434 = .ok (.invokevirtual 208, 3) := dk_182 0 208 (dk_at dksL_law_8 10 rfl rfl)
theorem dL_law_437 : decode cL_law 437 = .ok (.aload_n 2, 1) := dk_44 (dk_at dksL_law_8 13 rfl rfl)
theorem dL_law_438 : decode cL_law 438 = .ok (.invokevirtual 211, 3) := dk_182 0 211 (dk_at dksL_law_8 14 rfl rfl)
theorem dL_law_441 : decode cL_law 441 = .ok (.if_icmp .eq 3335, 3) := dk_159 13 7 (dk_at dksL_law_8 17 rfl rfl)
theorem dL_law_444 : decode cL_law 444 = .ok (.iconst 0, 1) := dk_3 (dk_at dksL_law_8 20 rfl rfl)
theorem dL_law_445 : decode cL_law 445 = .ok (.ireturn, 1) := dk_172 (dk_at dksL_law_8 21 rfl rfl)
theorem dL_law_446 : decode cL_law 446 = .ok (.aload_n 1, 1) := dk_43 (dk_at dksL_law_8 22 rfl rfl)
theorem dL_law_447 : decode cL_law 447 = .ok (.invokevirtual 212, 3) := dk_182 0 212 (dk_at dksL_law_9 0 rfl rfl)
theorem dL_law_450 : decode cL_law 450 = .ok (.aload_n 2, 1) := dk_44 (dk_at dksL_law_9 3 rfl rfl)
theorem dL_law_451 : decode cL_law 451 = .ok (.invokevirtual 215, 3) := dk_182 0 215 (dk_at dksL_law_9 4 rfl rfl)
theorem dL_law_454 : decode cL_law 454 = .ok (.if_icmp .eq 3322, 3) := dk_159 12 250 (dk_at dksL_law_9 7 rfl rfl)
theorem dL_law_457 : decode cL_law 457 = .ok (.iconst 0, 1) := dk_3 (dk_at dksL_law_9 10 rfl rfl)
theorem dL_law_458 : decode cL_law 458 = .ok (.ireturn, 1) := dk_172 (dk_at dksL_law_9 11 rfl rfl)
theorem dL_law_459 : decode cL_law 459 = .ok (.aload_n 1, 1) := dk_43 (dk_at dksL_law_9 12 rfl rfl)
theorem dL_law_460 : decode cL_law 460 = .ok (.invokevirtual 216, 3) := dk_182 0 216 (dk_at dksL_law_9 13 rfl rfl)
theorem dL_law_463 : decode cL_law 463 = .ok (.aload_n 2, 1) := dk_44 (dk_at dksL_law_9 16 rfl rfl)
theorem dL_law_464 : decode cL_law 464 = .ok (.invokevirtual 219, 3) := dk_182 0 219 (dk_at dksL_law_9 17 rfl rfl)
theorem dL_law_467 : decode cL_law 467 = .ok (.if_icmp .eq 3309, 3) := dk_159 12 237 (dk_at dksL_law_9 20 rfl rfl)
theorem dL_law_470 : decode cL_law 470 = .ok (.iconst 0, 1) := dk_3 (dk_at dksL_law_9 23 rfl rfl)
theorem dL_law_471 : decode cL_law 471 = .ok (.ireturn, 1) := dk_172 (dk_at dksL_law_10 0 rfl rfl)
theorem dL_law_472 : decode cL_law 472 = .ok (.aload_n 1, 1) := dk_43 (dk_at dksL_law_10 1 rfl rfl)
theorem dL_law_473 : decode cL_law 473 = .ok (.aload_n 0, 1) := dk_42 (dk_at dksL_law_10 2 rfl rfl)
theorem dL_law_474 : decode cL_law 474 = .ok (.iload 5, 2) := dk_21 5 (dk_at dksL_law_10 3 rfl rfl)
theorem dL_law_476 : decode cL_law 476 = .ok (.iconst 1, 1) := dk_4 (dk_at dksL_law_10 5 rfl rfl)
theorem dL_law_477 : decode cL_law 477 = .ok (.iadd, 1) := dk_96 (dk_at dksL_law_10 6 rfl rfl)
theorem dL_law_478 : decode cL_law 478 = .ok (.iaload, 1) := dk_46 (dk_at dksL_law_10 7 rfl rfl)
theorem dL_law_479 : decode cL_law 479 = .ok (.aload_n 3, 1) := dk_45 (dk_at dksL_law_10 8 rfl rfl)
theorem dL_law_480 : decode cL_law 480 = .ok (.invokestatic 220, 3) := dk_184 0 220 (dk_at dksL_law_10 9 rfl rfl)
theorem dL_law_483 : decode cL_law 483 = .ok (.istore 6, 2) := dk_54 6 (dk_at dksL_law_10 12 rfl rfl)
theorem dL_law_485 : decode cL_law 485 = .ok (.aload_n 2, 1) := dk_44 (dk_at dksL_law_10 14 rfl rfl)
theorem dL_law_486 : decode cL_law 486 = .ok (.aload_n 0, 1) := dk_42 (dk_at dksL_law_10 15 rfl rfl)
theorem dL_law_487 : decode cL_law 487 = .ok (.iload 5, 2) := dk_21 5 (dk_at dksL_law_10 16 rfl rfl)
theorem dL_law_489 : decode cL_law 489 = .ok (.iconst 1, 1) := dk_4 (dk_at dksL_law_10 18 rfl rfl)
theorem dL_law_490 : decode cL_law 490 = .ok (.iadd, 1) := dk_96 (dk_at dksL_law_10 19 rfl rfl)
theorem dL_law_491 : decode cL_law 491 = .ok (.iaload, 1) := dk_46 (dk_at dksL_law_10 20 rfl rfl)
theorem dL_law_492 : decode cL_law 492 = .ok (.invokevirtual 222, 3) := dk_182 0 222 (dk_at dksL_law_10 21 rfl rfl)
theorem dL_law_495 : decode cL_law 495 = .ok (.istore 7, 2) := dk_54 7 (dk_at dksL_law_11 0 rfl rfl)
theorem dL_law_497 : decode cL_law 497 = .ok (.aload_n 2, 1) := dk_44 (dk_at dksL_law_11 2 rfl rfl)
theorem dL_law_498 : decode cL_law 498 = .ok (.invokevirtual 205, 3) := dk_182 0 205 (dk_at dksL_law_11 3 rfl rfl)
theorem dL_law_501 : decode cL_law 501 = .ok (.iload 6, 2) := dk_21 6 (dk_at dksL_law_11 6 rfl rfl)
theorem dL_law_503 : decode cL_law 503 = .ok (.if_icmp .eq 5, 3) := dk_159 0 5 (dk_at dksL_law_11 8 rfl rfl)
theorem dL_law_506 : decode cL_law 506 = .ok (.iconst 0, 1) := dk_3 (dk_at dksL_law_11 11 rfl rfl)
theorem dL_law_507 : decode cL_law 507 = .ok (.ireturn, 1) := dk_172 (dk_at dksL_law_11 12 rfl rfl)
theorem dL_law_508 : decode cL_law 508 = .ok (.iload 6, 2) := dk_21 6 (dk_at dksL_law_11 13 rfl rfl)
theorem dL_law_510 : decode cL_law 510 = .ok (.ifCond .ne 15, 3) := dk_154 0 15 (dk_at dksL_law_11 15 rfl rfl)
theorem dL_law_513 : decode cL_law 513 = .ok (.aload_n 3, 1) := dk_45 (dk_at dksL_law_11 18 rfl rfl)
theorem dL_law_514 : decode cL_law 514 = .ok (.iconst 0, 1) := dk_3 (dk_at dksL_law_11 19 rfl rfl)
theorem dL_law_515 : decode cL_law 515 = .ok (.laload, 1) := dk_47 (dk_at dksL_law_11 20 rfl rfl)
theorem dL_law_516 : decode cL_law 516 = .ok (.iload 7, 2) := dk_21 7 (dk_at dksL_law_11 21 rfl rfl)
theorem dL_law_518 : decode cL_law 518 = .ok (.i2l, 1) := dk_133 (dk_at dksL_law_11 23 rfl rfl)
theorem dL_law_519 : decode cL_law 519 = .ok (.lcmp, 1) := dk_148 (dk_at dksL_law_12 0 rfl rfl)
theorem dL_law_520 : decode cL_law 520 = .ok (.ifCond .eq 5, 3) := dk_153 0 5 (dk_at dksL_law_12 1 rfl rfl)
theorem dL_law_523 : decode cL_law 523 = .ok (.iconst 0, 1) := dk_3 (dk_at dksL_law_12 4 rfl rfl)
theorem dL_law_524 : decode cL_law 524 = .ok (.ireturn, 1) := dk_172 (dk_at dksL_law_12 5 rfl rfl)
theorem dL_law_525 : decode cL_law 525 = .ok (.goto 3251, 3) := dk_167 12 179 (dk_at dksL_law_12 6 rfl rfl)
theorem dL_law_528 : decode cL_law 528 = .ok (.aload_n 1, 1) := dk_43 (dk_at dksL_law_12 9 rfl rfl)
theorem dL_law_529 : decode cL_law 529 = .ok (.aload_n 0, 1) := dk_42 (dk_at dksL_law_12 10 rfl rfl)
theorem dL_law_530 : decode cL_law 530 = .ok (.iload 5, 2) := dk_21 5 (dk_at dksL_law_12 11 rfl rfl)
theorem dL_law_532 : decode cL_law 532 = .ok (.iconst 1, 1) := dk_4 (dk_at dksL_law_12 13 rfl rfl)
theorem dL_law_533 : decode cL_law 533 = .ok (.iadd, 1) := dk_96 (dk_at dksL_law_12 14 rfl rfl)
theorem dL_law_534 : decode cL_law 534 = .ok (.iaload, 1) := dk_46 (dk_at dksL_law_12 15 rfl rfl)
theorem dL_law_535 : decode cL_law 535 = .ok (.aload_n 0, 1) := dk_42 (dk_at dksL_law_12 16 rfl rfl)
theorem dL_law_536 : decode cL_law 536 = .ok (.iload 5, 2) := dk_21 5 (dk_at dksL_law_12 17 rfl rfl)
theorem dL_law_538 : decode cL_law 538 = .ok (.iconst 2, 1) := dk_5 (dk_at dksL_law_12 19 rfl rfl)
theorem dL_law_539 : decode cL_law 539 = .ok (.iadd, 1) := dk_96 (dk_at dksL_law_12 20 rfl rfl)
theorem dL_law_540 : decode cL_law 540 = .ok (.iaload, 1) := dk_46 (dk_at dksL_law_12 21 rfl rfl)
theorem dL_law_541 : decode cL_law 541 = .ok (.aload_n 3, 1) := dk_45 (dk_at dksL_law_12 22 rfl rfl)
theorem dL_law_542 : decode cL_law 542 = .ok (.invokestatic 223, 3) := dk_184 0 223 (dk_at dksL_law_13 0 rfl rfl)
theorem dL_law_545 : decode cL_law 545 = .ok (.istore 6, 2) := dk_54 6 (dk_at dksL_law_13 3 rfl rfl)
theorem dL_law_547 : decode cL_law 547 = .ok (.aload_n 2, 1) := dk_44 (dk_at dksL_law_13 5 rfl rfl)
theorem dL_law_548 : decode cL_law 548 = .ok (.aload_n 0, 1) := dk_42 (dk_at dksL_law_13 6 rfl rfl)
theorem dL_law_549 : decode cL_law 549 = .ok (.iload 5, 2) := dk_21 5 (dk_at dksL_law_13 7 rfl rfl)
theorem dL_law_551 : decode cL_law 551 = .ok (.iconst 1, 1) := dk_4 (dk_at dksL_law_13 9 rfl rfl)
theorem dL_law_552 : decode cL_law 552 = .ok (.iadd, 1) := dk_96 (dk_at dksL_law_13 10 rfl rfl)
theorem dL_law_553 : decode cL_law 553 = .ok (.iaload, 1) := dk_46 (dk_at dksL_law_13 11 rfl rfl)
theorem dL_law_554 : decode cL_law 554 = .ok (.aload_n 0, 1) := dk_42 (dk_at dksL_law_13 12 rfl rfl)
theorem dL_law_555 : decode cL_law 555 = .ok (.iload 5, 2) := dk_21 5 (dk_at dksL_law_13 13 rfl rfl)
theorem dL_law_557 : decode cL_law 557 = .ok (.iconst 2, 1) := dk_5 (dk_at dksL_law_13 15 rfl rfl)
theorem dL_law_558 : decode cL_law 558 = .ok (.iadd, 1) := dk_96 (dk_at dksL_law_13 16 rfl rfl)
theorem dL_law_559 : decode cL_law 559 = .ok (.iaload, 1) := dk_46 (dk_at dksL_law_13 17 rfl rfl)
theorem dL_law_560 : decode cL_law 560 = .ok (.invokevirtual 226, 3) := dk_182 0 226 (dk_at dksL_law_13 18 rfl rfl)
theorem dL_law_563 : decode cL_law 563 = .ok (.istore 7, 2) := dk_54 7 (dk_at dksL_law_13 21 rfl rfl)
theorem dL_law_565 : decode cL_law 565 = .ok (.aload_n 2, 1) := dk_44 (dk_at dksL_law_13 23 rfl rfl)
theorem dL_law_566 : decode cL_law 566 = .ok (.invokevirtual 205, 3) := dk_182 0 205 (dk_at dksL_law_14 0 rfl rfl)
theorem dL_law_569 : decode cL_law 569 = .ok (.iload 6, 2) := dk_21 6 (dk_at dksL_law_14 3 rfl rfl)
theorem dL_law_571 : decode cL_law 571 = .ok (.if_icmp .eq 5, 3) := dk_159 0 5 (dk_at dksL_law_14 5 rfl rfl)
theorem dL_law_574 : decode cL_law 574 = .ok (.iconst 0, 1) := dk_3 (dk_at dksL_law_14 8 rfl rfl)
theorem dL_law_575 : decode cL_law 575 = .ok (.ireturn, 1) := dk_172 (dk_at dksL_law_14 9 rfl rfl)
theorem dL_law_576 : decode cL_law 576 = .ok (.iload 6, 2) := dk_21 6 (dk_at dksL_law_14 10 rfl rfl)
theorem dL_law_578 : decode cL_law 578 = .ok (.ifCond .ne 15, 3) := dk_154 0 15 (dk_at dksL_law_14 12 rfl rfl)
theorem dL_law_581 : decode cL_law 581 = .ok (.aload_n 3, 1) := dk_45 (dk_at dksL_law_14 15 rfl rfl)
theorem dL_law_582 : decode cL_law 582 = .ok (.iconst 0, 1) := dk_3 (dk_at dksL_law_14 16 rfl rfl)
theorem dL_law_583 : decode cL_law 583 = .ok (.laload, 1) := dk_47 (dk_at dksL_law_14 17 rfl rfl)
theorem dL_law_584 : decode cL_law 584 = .ok (.iload 7, 2) := dk_21 7 (dk_at dksL_law_14 18 rfl rfl)
theorem dL_law_586 : decode cL_law 586 = .ok (.i2l, 1) := dk_133 (dk_at dksL_law_14 20 rfl rfl)
theorem dL_law_587 : decode cL_law 587 = .ok (.lcmp, 1) := dk_148 (dk_at dksL_law_14 21 rfl rfl)
theorem dL_law_588 : decode cL_law 588 = .ok (.ifCond .eq 5, 3) := dk_153 0 5 (dk_at dksL_law_15 0 rfl rfl)
theorem dL_law_591 : decode cL_law 591 = .ok (.iconst 0, 1) := dk_3 (dk_at dksL_law_15 3 rfl rfl)
theorem dL_law_592 : decode cL_law 592 = .ok (.ireturn, 1) := dk_172 (dk_at dksL_law_15 4 rfl rfl)
theorem dL_law_593 : decode cL_law 593 = .ok (.goto 3183, 3) := dk_167 12 111 (dk_at dksL_law_15 5 rfl rfl)
theorem dL_law_596 : decode cL_law 596 = .ok (.aload_n 1, 1) := dk_43 (dk_at dksL_law_15 8 rfl rfl)
theorem dL_law_597 : decode cL_law 597 = .ok (.aload_n 0, 1) := dk_42 (dk_at dksL_law_15 9 rfl rfl)
theorem dL_law_598 : decode cL_law 598 = .ok (.iload 5, 2) := dk_21 5 (dk_at dksL_law_15 10 rfl rfl)
theorem dL_law_600 : decode cL_law 600 = .ok (.iconst 1, 1) := dk_4 (dk_at dksL_law_15 12 rfl rfl)
theorem dL_law_601 : decode cL_law 601 = .ok (.iadd, 1) := dk_96 (dk_at dksL_law_15 13 rfl rfl)
theorem dL_law_602 : decode cL_law 602 = .ok (.iaload, 1) := dk_46 (dk_at dksL_law_15 14 rfl rfl)
theorem dL_law_603 : decode cL_law 603 = .ok (.aload_n 0, 1) := dk_42 (dk_at dksL_law_15 15 rfl rfl)
theorem dL_law_604 : decode cL_law 604 = .ok (.iload 5, 2) := dk_21 5 (dk_at dksL_law_15 16 rfl rfl)
theorem dL_law_606 : decode cL_law 606 = .ok (.iconst 2, 1) := dk_5 (dk_at dksL_law_15 18 rfl rfl)
theorem dL_law_607 : decode cL_law 607 = .ok (.iadd, 1) := dk_96 (dk_at dksL_law_15 19 rfl rfl)
theorem dL_law_608 : decode cL_law 608 = .ok (.iaload, 1) := dk_46 (dk_at dksL_law_15 20 rfl rfl)
theorem dL_law_609 : decode cL_law 609 = .ok (.aload_n 3, 1) := dk_45 (dk_at dksL_law_15 21 rfl rfl)
theorem dL_law_610 : decode cL_law 610 = .ok (.invokestatic 227, 3) := dk_184 0 227 (dk_at dksL_law_16 0 rfl rfl)
theorem dL_law_613 : decode cL_law 613 = .ok (.istore 6, 2) := dk_54 6 (dk_at dksL_law_16 3 rfl rfl)
theorem dL_law_615 : decode cL_law 615 = .ok (.aload_n 2, 1) := dk_44 (dk_at dksL_law_16 5 rfl rfl)
theorem dL_law_616 : decode cL_law 616 = .ok (.aload_n 0, 1) := dk_42 (dk_at dksL_law_16 6 rfl rfl)
theorem dL_law_617 : decode cL_law 617 = .ok (.iload 5, 2) := dk_21 5 (dk_at dksL_law_16 7 rfl rfl)
theorem dL_law_619 : decode cL_law 619 = .ok (.iconst 1, 1) := dk_4 (dk_at dksL_law_16 9 rfl rfl)
theorem dL_law_620 : decode cL_law 620 = .ok (.iadd, 1) := dk_96 (dk_at dksL_law_16 10 rfl rfl)
theorem dL_law_621 : decode cL_law 621 = .ok (.iaload, 1) := dk_46 (dk_at dksL_law_16 11 rfl rfl)
theorem dL_law_622 : decode cL_law 622 = .ok (.aload_n 0, 1) := dk_42 (dk_at dksL_law_16 12 rfl rfl)
theorem dL_law_623 : decode cL_law 623 = .ok (.iload 5, 2) := dk_21 5 (dk_at dksL_law_16 13 rfl rfl)
theorem dL_law_625 : decode cL_law 625 = .ok (.iconst 2, 1) := dk_5 (dk_at dksL_law_16 15 rfl rfl)
theorem dL_law_626 : decode cL_law 626 = .ok (.iadd, 1) := dk_96 (dk_at dksL_law_16 16 rfl rfl)
theorem dL_law_627 : decode cL_law 627 = .ok (.iaload, 1) := dk_46 (dk_at dksL_law_16 17 rfl rfl)
theorem dL_law_628 : decode cL_law 628 = .ok (.invokevirtual 229, 3) := dk_182 0 229 (dk_at dksL_law_16 18 rfl rfl)
theorem dL_law_631 : decode cL_law 631 = .ok (.istore 7, 2) := dk_54 7 (dk_at dksL_law_16 21 rfl rfl)
theorem dL_law_633 : decode cL_law 633 = .ok (.aload_n 2, 1) := dk_44 (dk_at dksL_law_16 23 rfl rfl)
theorem dL_law_634 : decode cL_law 634 = .ok (.invokevirtual 205, 3) := dk_182 0 205 (dk_at dksL_law_17 0 rfl rfl)
theorem dL_law_637 : decode cL_law 637 = .ok (.iload 6, 2) := dk_21 6 (dk_at dksL_law_17 3 rfl rfl)
theorem dL_law_639 : decode cL_law 639 = .ok (.if_icmp .eq 5, 3) := dk_159 0 5 (dk_at dksL_law_17 5 rfl rfl)
theorem dL_law_642 : decode cL_law 642 = .ok (.iconst 0, 1) := dk_3 (dk_at dksL_law_17 8 rfl rfl)
theorem dL_law_643 : decode cL_law 643 = .ok (.ireturn, 1) := dk_172 (dk_at dksL_law_17 9 rfl rfl)
theorem dL_law_644 : decode cL_law 644 = .ok (.iload 6, 2) := dk_21 6 (dk_at dksL_law_17 10 rfl rfl)
theorem dL_law_646 : decode cL_law 646 = .ok (.ifCond .ne 15, 3) := dk_154 0 15 (dk_at dksL_law_17 12 rfl rfl)
theorem dL_law_649 : decode cL_law 649 = .ok (.aload_n 3, 1) := dk_45 (dk_at dksL_law_17 15 rfl rfl)
theorem dL_law_650 : decode cL_law 650 = .ok (.iconst 0, 1) := dk_3 (dk_at dksL_law_17 16 rfl rfl)
theorem dL_law_651 : decode cL_law 651 = .ok (.laload, 1) := dk_47 (dk_at dksL_law_17 17 rfl rfl)
theorem dL_law_652 : decode cL_law 652 = .ok (.iload 7, 2) := dk_21 7 (dk_at dksL_law_17 18 rfl rfl)
theorem dL_law_654 : decode cL_law 654 = .ok (.i2l, 1) := dk_133 (dk_at dksL_law_17 20 rfl rfl)
theorem dL_law_655 : decode cL_law 655 = .ok (.lcmp, 1) := dk_148 (dk_at dksL_law_17 21 rfl rfl)
theorem dL_law_656 : decode cL_law 656 = .ok (.ifCond .eq 5, 3) := dk_153 0 5 (dk_at dksL_law_18 0 rfl rfl)
theorem dL_law_659 : decode cL_law 659 = .ok (.iconst 0, 1) := dk_3 (dk_at dksL_law_18 3 rfl rfl)
theorem dL_law_660 : decode cL_law 660 = .ok (.ireturn, 1) := dk_172 (dk_at dksL_law_18 4 rfl rfl)
theorem dL_law_661 : decode cL_law 661 = .ok (.goto 3115, 3) := dk_167 12 43 (dk_at dksL_law_18 5 rfl rfl)
theorem dL_law_664 : decode cL_law 664 = .ok (.aload_n 1, 1) := dk_43 (dk_at dksL_law_18 8 rfl rfl)
theorem dL_law_665 : decode cL_law 665 = .ok (.aload_n 0, 1) := dk_42 (dk_at dksL_law_18 9 rfl rfl)
theorem dL_law_666 : decode cL_law 666 = .ok (.iload 5, 2) := dk_21 5 (dk_at dksL_law_18 10 rfl rfl)
theorem dL_law_668 : decode cL_law 668 = .ok (.iconst 1, 1) := dk_4 (dk_at dksL_law_18 12 rfl rfl)
theorem dL_law_669 : decode cL_law 669 = .ok (.iadd, 1) := dk_96 (dk_at dksL_law_18 13 rfl rfl)
theorem dL_law_670 : decode cL_law 670 = .ok (.iaload, 1) := dk_46 (dk_at dksL_law_18 14 rfl rfl)
theorem dL_law_671 : decode cL_law 671 = .ok (.aload_n 0, 1) := dk_42 (dk_at dksL_law_18 15 rfl rfl)
theorem dL_law_672 : decode cL_law 672 = .ok (.iload 5, 2) := dk_21 5 (dk_at dksL_law_18 16 rfl rfl)
theorem dL_law_674 : decode cL_law 674 = .ok (.iconst 2, 1) := dk_5 (dk_at dksL_law_18 18 rfl rfl)
theorem dL_law_675 : decode cL_law 675 = .ok (.iadd, 1) := dk_96 (dk_at dksL_law_18 19 rfl rfl)
theorem dL_law_676 : decode cL_law 676 = .ok (.iaload, 1) := dk_46 (dk_at dksL_law_18 20 rfl rfl)
theorem dL_law_677 : decode cL_law 677 = .ok (.aload_n 3, 1) := dk_45 (dk_at dksL_law_18 21 rfl rfl)
theorem dL_law_678 : decode cL_law 678 = .ok (.invokestatic 230, 3) := dk_184 0 230 (dk_at dksL_law_19 0 rfl rfl)
theorem dL_law_681 : decode cL_law 681 = .ok (.istore 6, 2) := dk_54 6 (dk_at dksL_law_19 3 rfl rfl)
theorem dL_law_683 : decode cL_law 683 = .ok (.aload_n 2, 1) := dk_44 (dk_at dksL_law_19 5 rfl rfl)
theorem dL_law_684 : decode cL_law 684 = .ok (.aload_n 0, 1) := dk_42 (dk_at dksL_law_19 6 rfl rfl)
theorem dL_law_685 : decode cL_law 685 = .ok (.iload 5, 2) := dk_21 5 (dk_at dksL_law_19 7 rfl rfl)
theorem dL_law_687 : decode cL_law 687 = .ok (.iconst 1, 1) := dk_4 (dk_at dksL_law_19 9 rfl rfl)
theorem dL_law_688 : decode cL_law 688 = .ok (.iadd, 1) := dk_96 (dk_at dksL_law_19 10 rfl rfl)
theorem dL_law_689 : decode cL_law 689 = .ok (.iaload, 1) := dk_46 (dk_at dksL_law_19 11 rfl rfl)
theorem dL_law_690 : decode cL_law 690 = .ok (.aload_n 0, 1) := dk_42 (dk_at dksL_law_19 12 rfl rfl)
theorem dL_law_691 : decode cL_law 691 = .ok (.iload 5, 2) := dk_21 5 (dk_at dksL_law_19 13 rfl rfl)
theorem dL_law_693 : decode cL_law 693 = .ok (.iconst 2, 1) := dk_5 (dk_at dksL_law_19 15 rfl rfl)
theorem dL_law_694 : decode cL_law 694 = .ok (.iadd, 1) := dk_96 (dk_at dksL_law_19 16 rfl rfl)
theorem dL_law_695 : decode cL_law 695 = .ok (.iaload, 1) := dk_46 (dk_at dksL_law_19 17 rfl rfl)
theorem dL_law_696 : decode cL_law 696 = .ok (.invokevirtual 232, 3) := dk_182 0 232 (dk_at dksL_law_19 18 rfl rfl)
theorem dL_law_699 : decode cL_law 699 = .ok (.istore 7, 2) := dk_54 7 (dk_at dksL_law_19 21 rfl rfl)
theorem dL_law_701 : decode cL_law 701 = .ok (.aload_n 2, 1) := dk_44 (dk_at dksL_law_19 23 rfl rfl)
theorem dL_law_702 : decode cL_law 702 = .ok (.invokevirtual 205, 3) := dk_182 0 205 (dk_at dksL_law_20 0 rfl rfl)
theorem dL_law_705 : decode cL_law 705 = .ok (.iload 6, 2) := dk_21 6 (dk_at dksL_law_20 3 rfl rfl)
theorem dL_law_707 : decode cL_law 707 = .ok (.if_icmp .eq 5, 3) := dk_159 0 5 (dk_at dksL_law_20 5 rfl rfl)
theorem dL_law_710 : decode cL_law 710 = .ok (.iconst 0, 1) := dk_3 (dk_at dksL_law_20 8 rfl rfl)
theorem dL_law_711 : decode cL_law 711 = .ok (.ireturn, 1) := dk_172 (dk_at dksL_law_20 9 rfl rfl)
theorem dL_law_712 : decode cL_law 712 = .ok (.iload 6, 2) := dk_21 6 (dk_at dksL_law_20 10 rfl rfl)
theorem dL_law_714 : decode cL_law 714 = .ok (.ifCond .ne 15, 3) := dk_154 0 15 (dk_at dksL_law_20 12 rfl rfl)
theorem dL_law_717 : decode cL_law 717 = .ok (.aload_n 3, 1) := dk_45 (dk_at dksL_law_20 15 rfl rfl)
theorem dL_law_718 : decode cL_law 718 = .ok (.iconst 0, 1) := dk_3 (dk_at dksL_law_20 16 rfl rfl)
theorem dL_law_719 : decode cL_law 719 = .ok (.laload, 1) := dk_47 (dk_at dksL_law_20 17 rfl rfl)
theorem dL_law_720 : decode cL_law 720 = .ok (.iload 7, 2) := dk_21 7 (dk_at dksL_law_20 18 rfl rfl)
theorem dL_law_722 : decode cL_law 722 = .ok (.i2l, 1) := dk_133 (dk_at dksL_law_20 20 rfl rfl)
theorem dL_law_723 : decode cL_law 723 = .ok (.lcmp, 1) := dk_148 (dk_at dksL_law_20 21 rfl rfl)
theorem dL_law_724 : decode cL_law 724 = .ok (.ifCond .eq 5, 3) := dk_153 0 5 (dk_at dksL_law_21 0 rfl rfl)
theorem dL_law_727 : decode cL_law 727 = .ok (.iconst 0, 1) := dk_3 (dk_at dksL_law_21 3 rfl rfl)
theorem dL_law_728 : decode cL_law 728 = .ok (.ireturn, 1) := dk_172 (dk_at dksL_law_21 4 rfl rfl)
theorem dL_law_729 : decode cL_law 729 = .ok (.goto 3047, 3) := dk_167 11 231 (dk_at dksL_law_21 5 rfl rfl)
theorem dL_law_732 : decode cL_law 732 = .ok (.aload_n 1, 1) := dk_43 (dk_at dksL_law_21 8 rfl rfl)
theorem dL_law_733 : decode cL_law 733 = .ok (.aload_n 0, 1) := dk_42 (dk_at dksL_law_21 9 rfl rfl)
theorem dL_law_734 : decode cL_law 734 = .ok (.iload 5, 2) := dk_21 5 (dk_at dksL_law_21 10 rfl rfl)
theorem dL_law_736 : decode cL_law 736 = .ok (.iconst 1, 1) := dk_4 (dk_at dksL_law_21 12 rfl rfl)
theorem dL_law_737 : decode cL_law 737 = .ok (.iadd, 1) := dk_96 (dk_at dksL_law_21 13 rfl rfl)
theorem dL_law_738 : decode cL_law 738 = .ok (.iaload, 1) := dk_46 (dk_at dksL_law_21 14 rfl rfl)
theorem dL_law_739 : decode cL_law 739 = .ok (.aload_n 0, 1) := dk_42 (dk_at dksL_law_21 15 rfl rfl)
theorem dL_law_740 : decode cL_law 740 = .ok (.iload 5, 2) := dk_21 5 (dk_at dksL_law_21 16 rfl rfl)
theorem dL_law_742 : decode cL_law 742 = .ok (.iconst 2, 1) := dk_5 (dk_at dksL_law_21 18 rfl rfl)
theorem dL_law_743 : decode cL_law 743 = .ok (.iadd, 1) := dk_96 (dk_at dksL_law_21 19 rfl rfl)
theorem dL_law_744 : decode cL_law 744 = .ok (.iaload, 1) := dk_46 (dk_at dksL_law_21 20 rfl rfl)
theorem dL_law_745 : decode cL_law 745 = .ok (.aload_n 3, 1) := dk_45 (dk_at dksL_law_21 21 rfl rfl)
theorem dL_law_746 : decode cL_law 746 = .ok (.invokestatic 233, 3) := dk_184 0 233 (dk_at dksL_law_22 0 rfl rfl)
theorem dL_law_749 : decode cL_law 749 = .ok (.istore 6, 2) := dk_54 6 (dk_at dksL_law_22 3 rfl rfl)
theorem dL_law_751 : decode cL_law 751 = .ok (.aload_n 2, 1) := dk_44 (dk_at dksL_law_22 5 rfl rfl)
theorem dL_law_752 : decode cL_law 752 = .ok (.aload_n 0, 1) := dk_42 (dk_at dksL_law_22 6 rfl rfl)
theorem dL_law_753 : decode cL_law 753 = .ok (.iload 5, 2) := dk_21 5 (dk_at dksL_law_22 7 rfl rfl)
theorem dL_law_755 : decode cL_law 755 = .ok (.iconst 1, 1) := dk_4 (dk_at dksL_law_22 9 rfl rfl)
theorem dL_law_756 : decode cL_law 756 = .ok (.iadd, 1) := dk_96 (dk_at dksL_law_22 10 rfl rfl)
theorem dL_law_757 : decode cL_law 757 = .ok (.iaload, 1) := dk_46 (dk_at dksL_law_22 11 rfl rfl)
theorem dL_law_758 : decode cL_law 758 = .ok (.aload_n 0, 1) := dk_42 (dk_at dksL_law_22 12 rfl rfl)
theorem dL_law_759 : decode cL_law 759 = .ok (.iload 5, 2) := dk_21 5 (dk_at dksL_law_22 13 rfl rfl)
theorem dL_law_761 : decode cL_law 761 = .ok (.iconst 2, 1) := dk_5 (dk_at dksL_law_22 15 rfl rfl)
theorem dL_law_762 : decode cL_law 762 = .ok (.iadd, 1) := dk_96 (dk_at dksL_law_22 16 rfl rfl)
theorem dL_law_763 : decode cL_law 763 = .ok (.iaload, 1) := dk_46 (dk_at dksL_law_22 17 rfl rfl)
theorem dL_law_764 : decode cL_law 764 = .ok (.invokevirtual 235, 3) := dk_182 0 235 (dk_at dksL_law_22 18 rfl rfl)
theorem dL_law_767 : decode cL_law 767 = .ok (.istore 7, 2) := dk_54 7 (dk_at dksL_law_22 21 rfl rfl)
theorem dL_law_769 : decode cL_law 769 = .ok (.aload_n 2, 1) := dk_44 (dk_at dksL_law_22 23 rfl rfl)
theorem dL_law_770 : decode cL_law 770 = .ok (.invokevirtual 205, 3) := dk_182 0 205 (dk_at dksL_law_23 0 rfl rfl)
theorem dL_law_773 : decode cL_law 773 = .ok (.iload 6, 2) := dk_21 6 (dk_at dksL_law_23 3 rfl rfl)
theorem dL_law_775 : decode cL_law 775 = .ok (.if_icmp .eq 5, 3) := dk_159 0 5 (dk_at dksL_law_23 5 rfl rfl)
theorem dL_law_778 : decode cL_law 778 = .ok (.iconst 0, 1) := dk_3 (dk_at dksL_law_23 8 rfl rfl)
theorem dL_law_779 : decode cL_law 779 = .ok (.ireturn, 1) := dk_172 (dk_at dksL_law_23 9 rfl rfl)
theorem dL_law_780 : decode cL_law 780 = .ok (.iload 6, 2) := dk_21 6 (dk_at dksL_law_23 10 rfl rfl)
theorem dL_law_782 : decode cL_law 782 = .ok (.ifCond .ne 15, 3) := dk_154 0 15 (dk_at dksL_law_23 12 rfl rfl)
theorem dL_law_785 : decode cL_law 785 = .ok (.aload_n 3, 1) := dk_45 (dk_at dksL_law_23 15 rfl rfl)
theorem dL_law_786 : decode cL_law 786 = .ok (.iconst 0, 1) := dk_3 (dk_at dksL_law_23 16 rfl rfl)
theorem dL_law_787 : decode cL_law 787 = .ok (.laload, 1) := dk_47 (dk_at dksL_law_23 17 rfl rfl)
theorem dL_law_788 : decode cL_law 788 = .ok (.iload 7, 2) := dk_21 7 (dk_at dksL_law_23 18 rfl rfl)
theorem dL_law_790 : decode cL_law 790 = .ok (.i2l, 1) := dk_133 (dk_at dksL_law_23 20 rfl rfl)
theorem dL_law_791 : decode cL_law 791 = .ok (.lcmp, 1) := dk_148 (dk_at dksL_law_23 21 rfl rfl)
theorem dL_law_792 : decode cL_law 792 = .ok (.ifCond .eq 5, 3) := dk_153 0 5 (dk_at dksL_law_24 0 rfl rfl)
theorem dL_law_795 : decode cL_law 795 = .ok (.iconst 0, 1) := dk_3 (dk_at dksL_law_24 3 rfl rfl)
theorem dL_law_796 : decode cL_law 796 = .ok (.ireturn, 1) := dk_172 (dk_at dksL_law_24 4 rfl rfl)
theorem dL_law_797 : decode cL_law 797 = .ok (.goto 2979, 3) := dk_167 11 163 (dk_at dksL_law_24 5 rfl rfl)
theorem dL_law_800 : decode cL_law 800 = .ok (.aload_n 1, 1) := dk_43 (dk_at dksL_law_24 8 rfl rfl)
theorem dL_law_801 : decode cL_law 801 = .ok (.aload_n 0, 1) := dk_42 (dk_at dksL_law_24 9 rfl rfl)
theorem dL_law_802 : decode cL_law 802 = .ok (.iload 5, 2) := dk_21 5 (dk_at dksL_law_24 10 rfl rfl)
theorem dL_law_804 : decode cL_law 804 = .ok (.iconst 1, 1) := dk_4 (dk_at dksL_law_24 12 rfl rfl)
theorem dL_law_805 : decode cL_law 805 = .ok (.iadd, 1) := dk_96 (dk_at dksL_law_24 13 rfl rfl)
theorem dL_law_806 : decode cL_law 806 = .ok (.iaload, 1) := dk_46 (dk_at dksL_law_24 14 rfl rfl)
theorem dL_law_807 : decode cL_law 807 = .ok (.aload_n 0, 1) := dk_42 (dk_at dksL_law_24 15 rfl rfl)
theorem dL_law_808 : decode cL_law 808 = .ok (.iload 5, 2) := dk_21 5 (dk_at dksL_law_24 16 rfl rfl)
theorem dL_law_810 : decode cL_law 810 = .ok (.iconst 2, 1) := dk_5 (dk_at dksL_law_24 18 rfl rfl)
theorem dL_law_811 : decode cL_law 811 = .ok (.iadd, 1) := dk_96 (dk_at dksL_law_24 19 rfl rfl)
theorem dL_law_812 : decode cL_law 812 = .ok (.iaload, 1) := dk_46 (dk_at dksL_law_24 20 rfl rfl)
theorem dL_law_813 : decode cL_law 813 = .ok (.aload_n 3, 1) := dk_45 (dk_at dksL_law_24 21 rfl rfl)
theorem dL_law_814 : decode cL_law 814 = .ok (.invokestatic 236, 3) := dk_184 0 236 (dk_at dksL_law_25 0 rfl rfl)
theorem dL_law_817 : decode cL_law 817 = .ok (.istore 6, 2) := dk_54 6 (dk_at dksL_law_25 3 rfl rfl)
theorem dL_law_819 : decode cL_law 819 = .ok (.aload_n 2, 1) := dk_44 (dk_at dksL_law_25 5 rfl rfl)
theorem dL_law_820 : decode cL_law 820 = .ok (.aload_n 0, 1) := dk_42 (dk_at dksL_law_25 6 rfl rfl)
theorem dL_law_821 : decode cL_law 821 = .ok (.iload 5, 2) := dk_21 5 (dk_at dksL_law_25 7 rfl rfl)
theorem dL_law_823 : decode cL_law 823 = .ok (.iconst 1, 1) := dk_4 (dk_at dksL_law_25 9 rfl rfl)
theorem dL_law_824 : decode cL_law 824 = .ok (.iadd, 1) := dk_96 (dk_at dksL_law_25 10 rfl rfl)
theorem dL_law_825 : decode cL_law 825 = .ok (.iaload, 1) := dk_46 (dk_at dksL_law_25 11 rfl rfl)
theorem dL_law_826 : decode cL_law 826 = .ok (.aload_n 0, 1) := dk_42 (dk_at dksL_law_25 12 rfl rfl)
theorem dL_law_827 : decode cL_law 827 = .ok (.iload 5, 2) := dk_21 5 (dk_at dksL_law_25 13 rfl rfl)
theorem dL_law_829 : decode cL_law 829 = .ok (.iconst 2, 1) := dk_5 (dk_at dksL_law_25 15 rfl rfl)
theorem dL_law_830 : decode cL_law 830 = .ok (.iadd, 1) := dk_96 (dk_at dksL_law_25 16 rfl rfl)
theorem dL_law_831 : decode cL_law 831 = .ok (.iaload, 1) := dk_46 (dk_at dksL_law_25 17 rfl rfl)
theorem dL_law_832 : decode cL_law 832 = .ok (.invokevirtual 238, 3) := dk_182 0 238 (dk_at dksL_law_25 18 rfl rfl)
theorem dL_law_835 : decode cL_law 835 = .ok (.istore 7, 2) := dk_54 7 (dk_at dksL_law_25 21 rfl rfl)
theorem dL_law_837 : decode cL_law 837 = .ok (.aload_n 2, 1) := dk_44 (dk_at dksL_law_25 23 rfl rfl)
theorem dL_law_838 : decode cL_law 838 = .ok (.invokevirtual 205, 3) := dk_182 0 205 (dk_at dksL_law_26 0 rfl rfl)
theorem dL_law_841 : decode cL_law 841 = .ok (.iload 6, 2) := dk_21 6 (dk_at dksL_law_26 3 rfl rfl)
theorem dL_law_843 : decode cL_law 843 = .ok (.if_icmp .eq 5, 3) := dk_159 0 5 (dk_at dksL_law_26 5 rfl rfl)
theorem dL_law_846 : decode cL_law 846 = .ok (.iconst 0, 1) := dk_3 (dk_at dksL_law_26 8 rfl rfl)
theorem dL_law_847 : decode cL_law 847 = .ok (.ireturn, 1) := dk_172 (dk_at dksL_law_26 9 rfl rfl)
theorem dL_law_848 : decode cL_law 848 = .ok (.iload 6, 2) := dk_21 6 (dk_at dksL_law_26 10 rfl rfl)
theorem dL_law_850 : decode cL_law 850 = .ok (.ifCond .ne 15, 3) := dk_154 0 15 (dk_at dksL_law_26 12 rfl rfl)
theorem dL_law_853 : decode cL_law 853 = .ok (.aload_n 3, 1) := dk_45 (dk_at dksL_law_26 15 rfl rfl)
theorem dL_law_854 : decode cL_law 854 = .ok (.iconst 0, 1) := dk_3 (dk_at dksL_law_26 16 rfl rfl)
theorem dL_law_855 : decode cL_law 855 = .ok (.laload, 1) := dk_47 (dk_at dksL_law_26 17 rfl rfl)
theorem dL_law_856 : decode cL_law 856 = .ok (.iload 7, 2) := dk_21 7 (dk_at dksL_law_26 18 rfl rfl)
theorem dL_law_858 : decode cL_law 858 = .ok (.i2l, 1) := dk_133 (dk_at dksL_law_26 20 rfl rfl)
theorem dL_law_859 : decode cL_law 859 = .ok (.lcmp, 1) := dk_148 (dk_at dksL_law_26 21 rfl rfl)
theorem dL_law_860 : decode cL_law 860 = .ok (.ifCond .eq 5, 3) := dk_153 0 5 (dk_at dksL_law_27 0 rfl rfl)
theorem dL_law_863 : decode cL_law 863 = .ok (.iconst 0, 1) := dk_3 (dk_at dksL_law_27 3 rfl rfl)
theorem dL_law_864 : decode cL_law 864 = .ok (.ireturn, 1) := dk_172 (dk_at dksL_law_27 4 rfl rfl)
theorem dL_law_865 : decode cL_law 865 = .ok (.goto 2911, 3) := dk_167 11 95 (dk_at dksL_law_27 5 rfl rfl)
theorem dL_law_868 : decode cL_law 868 = .ok (.aload_n 1, 1) := dk_43 (dk_at dksL_law_27 8 rfl rfl)
theorem dL_law_869 : decode cL_law 869 = .ok (.aload_n 0, 1) := dk_42 (dk_at dksL_law_27 9 rfl rfl)
theorem dL_law_870 : decode cL_law 870 = .ok (.iload 5, 2) := dk_21 5 (dk_at dksL_law_27 10 rfl rfl)
theorem dL_law_872 : decode cL_law 872 = .ok (.iconst 1, 1) := dk_4 (dk_at dksL_law_27 12 rfl rfl)
theorem dL_law_873 : decode cL_law 873 = .ok (.iadd, 1) := dk_96 (dk_at dksL_law_27 13 rfl rfl)
theorem dL_law_874 : decode cL_law 874 = .ok (.iaload, 1) := dk_46 (dk_at dksL_law_27 14 rfl rfl)
theorem dL_law_875 : decode cL_law 875 = .ok (.aload_n 3, 1) := dk_45 (dk_at dksL_law_27 15 rfl rfl)
theorem dL_law_876 : decode cL_law 876 = .ok (.invokestatic 239, 3) := dk_184 0 239 (dk_at dksL_law_27 16 rfl rfl)
theorem dL_law_879 : decode cL_law 879 = .ok (.istore 6, 2) := dk_54 6 (dk_at dksL_law_27 19 rfl rfl)
theorem dL_law_881 : decode cL_law 881 = .ok (.aload_n 2, 1) := dk_44 (dk_at dksL_law_27 21 rfl rfl)
theorem dL_law_882 : decode cL_law 882 = .ok (.aload_n 0, 1) := dk_42 (dk_at dksL_law_27 22 rfl rfl)
theorem dL_law_883 : decode cL_law 883 = .ok (.iload 5, 2) := dk_21 5 (dk_at dksL_law_28 0 rfl rfl)
theorem dL_law_885 : decode cL_law 885 = .ok (.iconst 1, 1) := dk_4 (dk_at dksL_law_28 2 rfl rfl)
theorem dL_law_886 : decode cL_law 886 = .ok (.iadd, 1) := dk_96 (dk_at dksL_law_28 3 rfl rfl)
theorem dL_law_887 : decode cL_law 887 = .ok (.iaload, 1) := dk_46 (dk_at dksL_law_28 4 rfl rfl)
theorem dL_law_888 : decode cL_law 888 = .ok (.invokevirtual 241, 3) := dk_182 0 241 (dk_at dksL_law_28 5 rfl rfl)
theorem dL_law_891 : decode cL_law 891 = .ok (.istore 7, 2) := dk_54 7 (dk_at dksL_law_28 8 rfl rfl)
theorem dL_law_893 : decode cL_law 893 = .ok (.aload_n 2, 1) := dk_44 (dk_at dksL_law_28 10 rfl rfl)
theorem dL_law_894 : decode cL_law 894 = .ok (.invokevirtual 205, 3) := dk_182 0 205 (dk_at dksL_law_28 11 rfl rfl)
theorem dL_law_897 : decode cL_law 897 = .ok (.iload 6, 2) := dk_21 6 (dk_at dksL_law_28 14 rfl rfl)
theorem dL_law_899 : decode cL_law 899 = .ok (.if_icmp .eq 5, 3) := dk_159 0 5 (dk_at dksL_law_28 16 rfl rfl)
theorem dL_law_902 : decode cL_law 902 = .ok (.iconst 0, 1) := dk_3 (dk_at dksL_law_28 19 rfl rfl)
theorem dL_law_903 : decode cL_law 903 = .ok (.ireturn, 1) := dk_172 (dk_at dksL_law_28 20 rfl rfl)
theorem dL_law_904 : decode cL_law 904 = .ok (.iload 6, 2) := dk_21 6 (dk_at dksL_law_28 21 rfl rfl)
theorem dL_law_906 : decode cL_law 906 = .ok (.ifCond .ne 15, 3) := dk_154 0 15 (dk_at dksL_law_29 0 rfl rfl)
theorem dL_law_909 : decode cL_law 909 = .ok (.aload_n 3, 1) := dk_45 (dk_at dksL_law_29 3 rfl rfl)
theorem dL_law_910 : decode cL_law 910 = .ok (.iconst 0, 1) := dk_3 (dk_at dksL_law_29 4 rfl rfl)
theorem dL_law_911 : decode cL_law 911 = .ok (.laload, 1) := dk_47 (dk_at dksL_law_29 5 rfl rfl)
theorem dL_law_912 : decode cL_law 912 = .ok (.iload 7, 2) := dk_21 7 (dk_at dksL_law_29 6 rfl rfl)
theorem dL_law_914 : decode cL_law 914 = .ok (.i2l, 1) := dk_133 (dk_at dksL_law_29 8 rfl rfl)
theorem dL_law_915 : decode cL_law 915 = .ok (.lcmp, 1) := dk_148 (dk_at dksL_law_29 9 rfl rfl)
theorem dL_law_916 : decode cL_law 916 = .ok (.ifCond .eq 5, 3) := dk_153 0 5 (dk_at dksL_law_29 10 rfl rfl)
theorem dL_law_919 : decode cL_law 919 = .ok (.iconst 0, 1) := dk_3 (dk_at dksL_law_29 13 rfl rfl)
theorem dL_law_920 : decode cL_law 920 = .ok (.ireturn, 1) := dk_172 (dk_at dksL_law_29 14 rfl rfl)
theorem dL_law_921 : decode cL_law 921 = .ok (.goto 2855, 3) := dk_167 11 39 (dk_at dksL_law_29 15 rfl rfl)
theorem dL_law_924 : decode cL_law 924 = .ok (.aload_n 1, 1) := dk_43 (dk_at dksL_law_29 18 rfl rfl)
theorem dL_law_925 : decode cL_law 925 = .ok (.aload_n 3, 1) := dk_45 (dk_at dksL_law_29 19 rfl rfl)
theorem dL_law_926 : decode cL_law 926 = .ok (.invokestatic 242, 3) := dk_184 0 242 (dk_at dksL_law_29 20 rfl rfl)
theorem dL_law_929 : decode cL_law 929 = .ok (.istore 6, 2) := dk_54 6 (dk_at dksL_law_30 0 rfl rfl)
theorem dL_law_931 : decode cL_law 931 = .ok (.aload_n 2, 1) := dk_44 (dk_at dksL_law_30 2 rfl rfl)
theorem dL_law_932 : decode cL_law 932 = .ok (.invokevirtual 245, 3) := dk_182 0 245 (dk_at dksL_law_30 3 rfl rfl)
theorem dL_law_935 : decode cL_law 935 = .ok (.istore 7, 2) := dk_54 7 (dk_at dksL_law_30 6 rfl rfl)
theorem dL_law_937 : decode cL_law 937 = .ok (.aload_n 2, 1) := dk_44 (dk_at dksL_law_30 8 rfl rfl)
theorem dL_law_938 : decode cL_law 938 = .ok (.invokevirtual 205, 3) := dk_182 0 205 (dk_at dksL_law_30 9 rfl rfl)
theorem dL_law_941 : decode cL_law 941 = .ok (.iload 6, 2) := dk_21 6 (dk_at dksL_law_30 12 rfl rfl)
theorem dL_law_943 : decode cL_law 943 = .ok (.if_icmp .eq 5, 3) := dk_159 0 5 (dk_at dksL_law_30 14 rfl rfl)
theorem dL_law_946 : decode cL_law 946 = .ok (.iconst 0, 1) := dk_3 (dk_at dksL_law_30 17 rfl rfl)
theorem dL_law_947 : decode cL_law 947 = .ok (.ireturn, 1) := dk_172 (dk_at dksL_law_30 18 rfl rfl)
theorem dL_law_948 : decode cL_law 948 = .ok (.iload 6, 2) := dk_21 6 (dk_at dksL_law_30 19 rfl rfl)
theorem dL_law_950 : decode cL_law 950 = .ok (.ifCond .ne 15, 3) := dk_154 0 15 (dk_at dksL_law_30 21 rfl rfl)
theorem dL_law_953 : decode cL_law 953 = .ok (.aload_n 3, 1) := dk_45 (dk_at dksL_law_31 0 rfl rfl)
theorem dL_law_954 : decode cL_law 954 = .ok (.iconst 0, 1) := dk_3 (dk_at dksL_law_31 1 rfl rfl)
theorem dL_law_955 : decode cL_law 955 = .ok (.laload, 1) := dk_47 (dk_at dksL_law_31 2 rfl rfl)
theorem dL_law_956 : decode cL_law 956 = .ok (.iload 7, 2) := dk_21 7 (dk_at dksL_law_31 3 rfl rfl)
theorem dL_law_958 : decode cL_law 958 = .ok (.i2l, 1) := dk_133 (dk_at dksL_law_31 5 rfl rfl)
theorem dL_law_959 : decode cL_law 959 = .ok (.lcmp, 1) := dk_148 (dk_at dksL_law_31 6 rfl rfl)
theorem dL_law_960 : decode cL_law 960 = .ok (.ifCond .eq 5, 3) := dk_153 0 5 (dk_at dksL_law_31 7 rfl rfl)
theorem dL_law_963 : decode cL_law 963 = .ok (.iconst 0, 1) := dk_3 (dk_at dksL_law_31 10 rfl rfl)
theorem dL_law_964 : decode cL_law 964 = .ok (.ireturn, 1) := dk_172 (dk_at dksL_law_31 11 rfl rfl)
theorem dL_law_965 : decode cL_law 965 = .ok (.goto 2811, 3) := dk_167 10 251 (dk_at dksL_law_31 12 rfl rfl)
theorem dL_law_968 : decode cL_law 968 = .ok (.aload_n 1, 1) := dk_43 (dk_at dksL_law_31 15 rfl rfl)
theorem dL_law_969 : decode cL_law 969 = .ok (.aload_n 3, 1) := dk_45 (dk_at dksL_law_31 16 rfl rfl)
theorem dL_law_970 : decode cL_law 970 = .ok (.invokestatic 246, 3) := dk_184 0 246 (dk_at dksL_law_31 17 rfl rfl)
theorem dL_law_973 : decode cL_law 973 = .ok (.istore 6, 2) := dk_54 6 (dk_at dksL_law_31 20 rfl rfl)
theorem dL_law_975 : decode cL_law 975 = .ok (.aload_n 2, 1) := dk_44 (dk_at dksL_law_31 22 rfl rfl)
theorem dL_law_976 : decode cL_law 976 = .ok (.invokevirtual 248, 3) := dk_182 0 248 (dk_at dksL_law_32 0 rfl rfl)
theorem dL_law_979 : decode cL_law 979 = .ok (.istore 7, 2) := dk_54 7 (dk_at dksL_law_32 3 rfl rfl)
theorem dL_law_981 : decode cL_law 981 = .ok (.aload_n 2, 1) := dk_44 (dk_at dksL_law_32 5 rfl rfl)
theorem dL_law_982 : decode cL_law 982 = .ok (.invokevirtual 205, 3) := dk_182 0 205 (dk_at dksL_law_32 6 rfl rfl)
theorem dL_law_985 : decode cL_law 985 = .ok (.iload 6, 2) := dk_21 6 (dk_at dksL_law_32 9 rfl rfl)
theorem dL_law_987 : decode cL_law 987 = .ok (.if_icmp .eq 5, 3) := dk_159 0 5 (dk_at dksL_law_32 11 rfl rfl)
theorem dL_law_990 : decode cL_law 990 = .ok (.iconst 0, 1) := dk_3 (dk_at dksL_law_32 14 rfl rfl)
theorem dL_law_991 : decode cL_law 991 = .ok (.ireturn, 1) := dk_172 (dk_at dksL_law_32 15 rfl rfl)
theorem dL_law_992 : decode cL_law 992 = .ok (.iload 6, 2) := dk_21 6 (dk_at dksL_law_32 16 rfl rfl)
theorem dL_law_994 : decode cL_law 994 = .ok (.ifCond .ne 15, 3) := dk_154 0 15 (dk_at dksL_law_32 18 rfl rfl)
theorem dL_law_997 : decode cL_law 997 = .ok (.aload_n 3, 1) := dk_45 (dk_at dksL_law_32 21 rfl rfl)
theorem dL_law_998 : decode cL_law 998 = .ok (.iconst 0, 1) := dk_3 (dk_at dksL_law_32 22 rfl rfl)
theorem dL_law_999 : decode cL_law 999 = .ok (.laload, 1) := dk_47 (dk_at dksL_law_32 23 rfl rfl)
theorem dL_law_1000 : decode cL_law 1000 = .ok (.iload 7, 2) := dk_21 7 (dk_at dksL_law_33 0 rfl rfl)
theorem dL_law_1002 : decode cL_law 1002 = .ok (.i2l, 1) := dk_133 (dk_at dksL_law_33 2 rfl rfl)
theorem dL_law_1003 : decode cL_law 1003 = .ok (.lcmp, 1) := dk_148 (dk_at dksL_law_33 3 rfl rfl)
theorem dL_law_1004 : decode cL_law 1004 = .ok (.ifCond .eq 5, 3) := dk_153 0 5 (dk_at dksL_law_33 4 rfl rfl)
theorem dL_law_1007 : decode cL_law 1007 = .ok (.iconst 0, 1) := dk_3 (dk_at dksL_law_33 7 rfl rfl)
theorem dL_law_1008 : decode cL_law 1008 = .ok (.ireturn, 1) := dk_172 (dk_at dksL_law_33 8 rfl rfl)
theorem dL_law_1009 : decode cL_law 1009 = .ok (.goto 2767, 3) := dk_167 10 207 (dk_at dksL_law_33 9 rfl rfl)
theorem dL_law_1012 : decode cL_law 1012 = .ok (.aload_n 1, 1) := dk_43 (dk_at dksL_law_33 12 rfl rfl)
theorem dL_law_1013 : decode cL_law 1013 = .ok (.aload_n 3, 1) := dk_45 (dk_at dksL_law_33 13 rfl rfl)
theorem dL_law_1014 : decode cL_law 1014 = .ok (.invokestatic 249, 3) := dk_184 0 249 (dk_at dksL_law_33 14 rfl rfl)
theorem dL_law_1017 : decode cL_law 1017 = .ok (.istore 6, 2) := dk_54 6 (dk_at dksL_law_33 17 rfl rfl)
theorem dL_law_1019 : decode cL_law 1019 = .ok (.aload_n 2, 1) := dk_44 (dk_at dksL_law_33 19 rfl rfl)
theorem dL_law_1020 : decode cL_law 1020 = .ok (.invokevirtual 251, 3) := dk_182 0 251 (dk_at dksL_law_33 20 rfl rfl)
theorem dL_law_1023 : decode cL_law 1023 = .ok (.istore 7, 2) := dk_54 7 (dk_at dksL_law_34 0 rfl rfl)
theorem dL_law_1025 : decode cL_law 1025 = .ok (.aload_n 2, 1) := dk_44 (dk_at dksL_law_34 2 rfl rfl)
theorem dL_law_1026 : decode cL_law 1026 = .ok (.invokevirtual 205, 3) := dk_182 0 205 (dk_at dksL_law_34 3 rfl rfl)
theorem dL_law_1029 : decode cL_law 1029 = .ok (.iload 6, 2) := dk_21 6 (dk_at dksL_law_34 6 rfl rfl)
theorem dL_law_1031 : decode cL_law 1031 = .ok (.if_icmp .eq 5, 3) := dk_159 0 5 (dk_at dksL_law_34 8 rfl rfl)
theorem dL_law_1034 : decode cL_law 1034 = .ok (.iconst 0, 1) := dk_3 (dk_at dksL_law_34 11 rfl rfl)
theorem dL_law_1035 : decode cL_law 1035 = .ok (.ireturn, 1) := dk_172 (dk_at dksL_law_34 12 rfl rfl)
theorem dL_law_1036 : decode cL_law 1036 = .ok (.iload 6, 2) := dk_21 6 (dk_at dksL_law_34 13 rfl rfl)
theorem dL_law_1038 : decode cL_law 1038 = .ok (.ifCond .ne 15, 3) := dk_154 0 15 (dk_at dksL_law_34 15 rfl rfl)
theorem dL_law_1041 : decode cL_law 1041 = .ok (.aload_n 3, 1) := dk_45 (dk_at dksL_law_34 18 rfl rfl)
theorem dL_law_1042 : decode cL_law 1042 = .ok (.iconst 0, 1) := dk_3 (dk_at dksL_law_34 19 rfl rfl)
theorem dL_law_1043 : decode cL_law 1043 = .ok (.laload, 1) := dk_47 (dk_at dksL_law_34 20 rfl rfl)
theorem dL_law_1044 : decode cL_law 1044 = .ok (.iload 7, 2) := dk_21 7 (dk_at dksL_law_34 21 rfl rfl)
theorem dL_law_1046 : decode cL_law 1046 = .ok (.i2l, 1) := dk_133 (dk_at dksL_law_34 23 rfl rfl)
theorem dL_law_1047 : decode cL_law 1047 = .ok (.lcmp, 1) := dk_148 (dk_at dksL_law_35 0 rfl rfl)
theorem dL_law_1048 : decode cL_law 1048 = .ok (.ifCond .eq 5, 3) := dk_153 0 5 (dk_at dksL_law_35 1 rfl rfl)
theorem dL_law_1051 : decode cL_law 1051 = .ok (.iconst 0, 1) := dk_3 (dk_at dksL_law_35 4 rfl rfl)
theorem dL_law_1052 : decode cL_law 1052 = .ok (.ireturn, 1) := dk_172 (dk_at dksL_law_35 5 rfl rfl)
theorem dL_law_1053 : decode cL_law 1053 = .ok (.goto 2723, 3) := dk_167 10 163 (dk_at dksL_law_35 6 rfl rfl)
theorem dL_law_1056 : decode cL_law 1056 = .ok (.aload_n 1, 1) := dk_43 (dk_at dksL_law_35 9 rfl rfl)
theorem dL_law_1057 : decode cL_law 1057 = .ok (.aload_n 0, 1) := dk_42 (dk_at dksL_law_35 10 rfl rfl)
theorem dL_law_1058 : decode cL_law 1058 = .ok (.iload 5, 2) := dk_21 5 (dk_at dksL_law_35 11 rfl rfl)
theorem dL_law_1060 : decode cL_law 1060 = .ok (.iconst 1, 1) := dk_4 (dk_at dksL_law_35 13 rfl rfl)
theorem dL_law_1061 : decode cL_law 1061 = .ok (.iadd, 1) := dk_96 (dk_at dksL_law_35 14 rfl rfl)
theorem dL_law_1062 : decode cL_law 1062 = .ok (.iaload, 1) := dk_46 (dk_at dksL_law_35 15 rfl rfl)
theorem dL_law_1063 : decode cL_law 1063 = .ok (.aload_n 3, 1) := dk_45 (dk_at dksL_law_35 16 rfl rfl)
theorem dL_law_1064 : decode cL_law 1064 = .ok (.invokestatic 252, 3) := dk_184 0 252 (dk_at dksL_law_35 17 rfl rfl)
theorem dL_law_1067 : decode cL_law 1067 = .ok (.istore 6, 2) := dk_54 6 (dk_at dksL_law_35 20 rfl rfl)
theorem dL_law_1069 : decode cL_law 1069 = .ok (.aload_n 2, 1) := dk_44 (dk_at dksL_law_35 22 rfl rfl)
theorem dL_law_1070 : decode cL_law 1070 = .ok (.aload_n 0, 1) := dk_42 (dk_at dksL_law_35 23 rfl rfl)
theorem dL_law_1071 : decode cL_law 1071 = .ok (.iload 5, 2) := dk_21 5 (dk_at dksL_law_36 0 rfl rfl)
theorem dL_law_1073 : decode cL_law 1073 = .ok (.iconst 1, 1) := dk_4 (dk_at dksL_law_36 2 rfl rfl)
theorem dL_law_1074 : decode cL_law 1074 = .ok (.iadd, 1) := dk_96 (dk_at dksL_law_36 3 rfl rfl)
theorem dL_law_1075 : decode cL_law 1075 = .ok (.iaload, 1) := dk_46 (dk_at dksL_law_36 4 rfl rfl)
theorem dL_law_1076 : decode cL_law 1076 = .ok (.invokevirtual 254, 3) := dk_182 0 254 (dk_at dksL_law_36 5 rfl rfl)
theorem dL_law_1079 : decode cL_law 1079 = .ok (.istore 7, 2) := dk_54 7 (dk_at dksL_law_36 8 rfl rfl)
theorem dL_law_1081 : decode cL_law 1081 = .ok (.aload_n 2, 1) := dk_44 (dk_at dksL_law_36 10 rfl rfl)
theorem dL_law_1082 : decode cL_law 1082 = .ok (.invokevirtual 205, 3) := dk_182 0 205 (dk_at dksL_law_36 11 rfl rfl)
theorem dL_law_1085 : decode cL_law 1085 = .ok (.iload 6, 2) := dk_21 6 (dk_at dksL_law_36 14 rfl rfl)
theorem dL_law_1087 : decode cL_law 1087 = .ok (.if_icmp .eq 5, 3) := dk_159 0 5 (dk_at dksL_law_36 16 rfl rfl)
theorem dL_law_1090 : decode cL_law 1090 = .ok (.iconst 0, 1) := dk_3 (dk_at dksL_law_36 19 rfl rfl)
theorem dL_law_1091 : decode cL_law 1091 = .ok (.ireturn, 1) := dk_172 (dk_at dksL_law_36 20 rfl rfl)
theorem dL_law_1092 : decode cL_law 1092 = .ok (.iload 6, 2) := dk_21 6 (dk_at dksL_law_36 21 rfl rfl)
theorem dL_law_1094 : decode cL_law 1094 = .ok (.ifCond .ne 15, 3) := dk_154 0 15 (dk_at dksL_law_37 0 rfl rfl)
theorem dL_law_1097 : decode cL_law 1097 = .ok (.aload_n 3, 1) := dk_45 (dk_at dksL_law_37 3 rfl rfl)
theorem dL_law_1098 : decode cL_law 1098 = .ok (.iconst 0, 1) := dk_3 (dk_at dksL_law_37 4 rfl rfl)
theorem dL_law_1099 : decode cL_law 1099 = .ok (.laload, 1) := dk_47 (dk_at dksL_law_37 5 rfl rfl)
theorem dL_law_1100 : decode cL_law 1100 = .ok (.iload 7, 2) := dk_21 7 (dk_at dksL_law_37 6 rfl rfl)
theorem dL_law_1102 : decode cL_law 1102 = .ok (.i2l, 1) := dk_133 (dk_at dksL_law_37 8 rfl rfl)
theorem dL_law_1103 : decode cL_law 1103 = .ok (.lcmp, 1) := dk_148 (dk_at dksL_law_37 9 rfl rfl)
theorem dL_law_1104 : decode cL_law 1104 = .ok (.ifCond .eq 5, 3) := dk_153 0 5 (dk_at dksL_law_37 10 rfl rfl)
theorem dL_law_1107 : decode cL_law 1107 = .ok (.iconst 0, 1) := dk_3 (dk_at dksL_law_37 13 rfl rfl)
theorem dL_law_1108 : decode cL_law 1108 = .ok (.ireturn, 1) := dk_172 (dk_at dksL_law_37 14 rfl rfl)
theorem dL_law_1109 : decode cL_law 1109 = .ok (.goto 2667, 3) := dk_167 10 107 (dk_at dksL_law_37 15 rfl rfl)
theorem dL_law_1112 : decode cL_law 1112 = .ok (.aload_n 1, 1) := dk_43 (dk_at dksL_law_37 18 rfl rfl)
theorem dL_law_1113 : decode cL_law 1113 = .ok (.aload_n 0, 1) := dk_42 (dk_at dksL_law_37 19 rfl rfl)
theorem dL_law_1114 : decode cL_law 1114 = .ok (.iload 5, 2) := dk_21 5 (dk_at dksL_law_37 20 rfl rfl)
theorem dL_law_1116 : decode cL_law 1116 = .ok (.iconst 1, 1) := dk_4 (dk_at dksL_law_37 22 rfl rfl)
theorem dL_law_1117 : decode cL_law 1117 = .ok (.iadd, 1) := dk_96 (dk_at dksL_law_37 23 rfl rfl)
theorem dL_law_1118 : decode cL_law 1118 = .ok (.iaload, 1) := dk_46 (dk_at dksL_law_38 0 rfl rfl)
theorem dL_law_1119 : decode cL_law 1119 = .ok (.aload_n 3, 1) := dk_45 (dk_at dksL_law_38 1 rfl rfl)
theorem dL_law_1120 : decode cL_law 1120 = .ok (.invokestatic 255, 3) := dk_184 0 255 (dk_at dksL_law_38 2 rfl rfl)
theorem dL_law_1123 : decode cL_law 1123 = .ok (.istore 6, 2) := dk_54 6 (dk_at dksL_law_38 5 rfl rfl)
theorem dL_law_1125 : decode cL_law 1125 = .ok (.aload_n 2, 1) := dk_44 (dk_at dksL_law_38 7 rfl rfl)
theorem dL_law_1126 : decode cL_law 1126 = .ok (.aload_n 0, 1) := dk_42 (dk_at dksL_law_38 8 rfl rfl)
theorem dL_law_1127 : decode cL_law 1127 = .ok (.iload 5, 2) := dk_21 5 (dk_at dksL_law_38 9 rfl rfl)
theorem dL_law_1129 : decode cL_law 1129 = .ok (.iconst 1, 1) := dk_4 (dk_at dksL_law_38 11 rfl rfl)
theorem dL_law_1130 : decode cL_law 1130 = .ok (.iadd, 1) := dk_96 (dk_at dksL_law_38 12 rfl rfl)
theorem dL_law_1131 : decode cL_law 1131 = .ok (.iaload, 1) := dk_46 (dk_at dksL_law_38 13 rfl rfl)
theorem dL_law_1132 : decode cL_law 1132 = .ok (.invokevirtual 257, 3) := dk_182 1 1 (dk_at dksL_law_38 14 rfl rfl)
theorem dL_law_1135 : decode cL_law 1135 = .ok (.istore 7, 2) := dk_54 7 (dk_at dksL_law_38 17 rfl rfl)
theorem dL_law_1137 : decode cL_law 1137 = .ok (.aload_n 2, 1) := dk_44 (dk_at dksL_law_38 19 rfl rfl)
theorem dL_law_1138 : decode cL_law 1138 = .ok (.invokevirtual 205, 3) := dk_182 0 205 (dk_at dksL_law_38 20 rfl rfl)
theorem dL_law_1141 : decode cL_law 1141 = .ok (.iload 6, 2) := dk_21 6 (dk_at dksL_law_39 0 rfl rfl)
theorem dL_law_1143 : decode cL_law 1143 = .ok (.if_icmp .eq 5, 3) := dk_159 0 5 (dk_at dksL_law_39 2 rfl rfl)
theorem dL_law_1146 : decode cL_law 1146 = .ok (.iconst 0, 1) := dk_3 (dk_at dksL_law_39 5 rfl rfl)
theorem dL_law_1147 : decode cL_law 1147 = .ok (.ireturn, 1) := dk_172 (dk_at dksL_law_39 6 rfl rfl)
theorem dL_law_1148 : decode cL_law 1148 = .ok (.iload 6, 2) := dk_21 6 (dk_at dksL_law_39 7 rfl rfl)
theorem dL_law_1150 : decode cL_law 1150 = .ok (.ifCond .ne 15, 3) := dk_154 0 15 (dk_at dksL_law_39 9 rfl rfl)
theorem dL_law_1153 : decode cL_law 1153 = .ok (.aload_n 3, 1) := dk_45 (dk_at dksL_law_39 12 rfl rfl)
theorem dL_law_1154 : decode cL_law 1154 = .ok (.iconst 0, 1) := dk_3 (dk_at dksL_law_39 13 rfl rfl)
theorem dL_law_1155 : decode cL_law 1155 = .ok (.laload, 1) := dk_47 (dk_at dksL_law_39 14 rfl rfl)
theorem dL_law_1156 : decode cL_law 1156 = .ok (.iload 7, 2) := dk_21 7 (dk_at dksL_law_39 15 rfl rfl)
theorem dL_law_1158 : decode cL_law 1158 = .ok (.i2l, 1) := dk_133 (dk_at dksL_law_39 17 rfl rfl)
theorem dL_law_1159 : decode cL_law 1159 = .ok (.lcmp, 1) := dk_148 (dk_at dksL_law_39 18 rfl rfl)
theorem dL_law_1160 : decode cL_law 1160 = .ok (.ifCond .eq 5, 3) := dk_153 0 5 (dk_at dksL_law_39 19 rfl rfl)
theorem dL_law_1163 : decode cL_law 1163 = .ok (.iconst 0, 1) := dk_3 (dk_at dksL_law_39 22 rfl rfl)
theorem dL_law_1164 : decode cL_law 1164 = .ok (.ireturn, 1) := dk_172 (dk_at dksL_law_39 23 rfl rfl)
theorem dL_law_1165 : decode cL_law 1165 = .ok (.goto 2611, 3) := dk_167 10 51 (dk_at dksL_law_40 0 rfl rfl)
theorem dL_law_1168 : decode cL_law 1168 = .ok (.aload_n 1, 1) := dk_43 (dk_at dksL_law_40 3 rfl rfl)
theorem dL_law_1169 : decode cL_law 1169 = .ok (.aload_n 0, 1) := dk_42 (dk_at dksL_law_40 4 rfl rfl)
theorem dL_law_1170 : decode cL_law 1170 = .ok (.iload 5, 2) := dk_21 5 (dk_at dksL_law_40 5 rfl rfl)
theorem dL_law_1172 : decode cL_law 1172 = .ok (.iconst 1, 1) := dk_4 (dk_at dksL_law_40 7 rfl rfl)
theorem dL_law_1173 : decode cL_law 1173 = .ok (.iadd, 1) := dk_96 (dk_at dksL_law_40 8 rfl rfl)
theorem dL_law_1174 : decode cL_law 1174 = .ok (.iaload, 1) := dk_46 (dk_at dksL_law_40 9 rfl rfl)
theorem dL_law_1175 : decode cL_law 1175 = .ok (.aload_n 3, 1) := dk_45 (dk_at dksL_law_40 10 rfl rfl)
theorem dL_law_1176 : decode cL_law 1176 = .ok (.invokestatic 258, 3) := dk_184 1 2 (dk_at dksL_law_40 11 rfl rfl)
theorem dL_law_1179 : decode cL_law 1179 = .ok (.istore 6, 2) := dk_54 6 (dk_at dksL_law_40 14 rfl rfl)
theorem dL_law_1181 : decode cL_law 1181 = .ok (.aload_n 2, 1) := dk_44 (dk_at dksL_law_40 16 rfl rfl)
theorem dL_law_1182 : decode cL_law 1182 = .ok (.aload_n 0, 1) := dk_42 (dk_at dksL_law_40 17 rfl rfl)
theorem dL_law_1183 : decode cL_law 1183 = .ok (.iload 5, 2) := dk_21 5 (dk_at dksL_law_40 18 rfl rfl)
theorem dL_law_1185 : decode cL_law 1185 = .ok (.iconst 1, 1) := dk_4 (dk_at dksL_law_40 20 rfl rfl)
theorem dL_law_1186 : decode cL_law 1186 = .ok (.iadd, 1) := dk_96 (dk_at dksL_law_40 21 rfl rfl)
theorem dL_law_1187 : decode cL_law 1187 = .ok (.iaload, 1) := dk_46 (dk_at dksL_law_40 22 rfl rfl)
theorem dL_law_1188 : decode cL_law 1188 = .ok (.invokevirtual 260, 3) := dk_182 1 4 (dk_at dksL_law_41 0 rfl rfl)
theorem dL_law_1191 : decode cL_law 1191 = .ok (.istore 7, 2) := dk_54 7 (dk_at dksL_law_41 3 rfl rfl)
theorem dL_law_1193 : decode cL_law 1193 = .ok (.aload_n 2, 1) := dk_44 (dk_at dksL_law_41 5 rfl rfl)
theorem dL_law_1194 : decode cL_law 1194 = .ok (.invokevirtual 205, 3) := dk_182 0 205 (dk_at dksL_law_41 6 rfl rfl)
theorem dL_law_1197 : decode cL_law 1197 = .ok (.iload 6, 2) := dk_21 6 (dk_at dksL_law_41 9 rfl rfl)
theorem dL_law_1199 : decode cL_law 1199 = .ok (.if_icmp .eq 5, 3) := dk_159 0 5 (dk_at dksL_law_41 11 rfl rfl)
theorem dL_law_1202 : decode cL_law 1202 = .ok (.iconst 0, 1) := dk_3 (dk_at dksL_law_41 14 rfl rfl)
theorem dL_law_1203 : decode cL_law 1203 = .ok (.ireturn, 1) := dk_172 (dk_at dksL_law_41 15 rfl rfl)
theorem dL_law_1204 : decode cL_law 1204 = .ok (.iload 6, 2) := dk_21 6 (dk_at dksL_law_41 16 rfl rfl)
theorem dL_law_1206 : decode cL_law 1206 = .ok (.ifCond .ne 15, 3) := dk_154 0 15 (dk_at dksL_law_41 18 rfl rfl)
theorem dL_law_1209 : decode cL_law 1209 = .ok (.aload_n 3, 1) := dk_45 (dk_at dksL_law_41 21 rfl rfl)
theorem dL_law_1210 : decode cL_law 1210 = .ok (.iconst 0, 1) := dk_3 (dk_at dksL_law_41 22 rfl rfl)
theorem dL_law_1211 : decode cL_law 1211 = .ok (.laload, 1) := dk_47 (dk_at dksL_law_41 23 rfl rfl)
theorem dL_law_1212 : decode cL_law 1212 = .ok (.iload 7, 2) := dk_21 7 (dk_at dksL_law_42 0 rfl rfl)
theorem dL_law_1214 : decode cL_law 1214 = .ok (.i2l, 1) := dk_133 (dk_at dksL_law_42 2 rfl rfl)
theorem dL_law_1215 : decode cL_law 1215 = .ok (.lcmp, 1) := dk_148 (dk_at dksL_law_42 3 rfl rfl)
theorem dL_law_1216 : decode cL_law 1216 = .ok (.ifCond .eq 5, 3) := dk_153 0 5 (dk_at dksL_law_42 4 rfl rfl)
theorem dL_law_1219 : decode cL_law 1219 = .ok (.iconst 0, 1) := dk_3 (dk_at dksL_law_42 7 rfl rfl)
theorem dL_law_1220 : decode cL_law 1220 = .ok (.ireturn, 1) := dk_172 (dk_at dksL_law_42 8 rfl rfl)
theorem dL_law_1221 : decode cL_law 1221 = .ok (.goto 2555, 3) := dk_167 9 251 (dk_at dksL_law_42 9 rfl rfl)
theorem dL_law_1224 : decode cL_law 1224 = .ok (.aload_n 1, 1) := dk_43 (dk_at dksL_law_42 12 rfl rfl)
theorem dL_law_1225 : decode cL_law 1225 = .ok (.aload_n 0, 1) := dk_42 (dk_at dksL_law_42 13 rfl rfl)
theorem dL_law_1226 : decode cL_law 1226 = .ok (.iload 5, 2) := dk_21 5 (dk_at dksL_law_42 14 rfl rfl)
theorem dL_law_1228 : decode cL_law 1228 = .ok (.iconst 1, 1) := dk_4 (dk_at dksL_law_42 16 rfl rfl)
theorem dL_law_1229 : decode cL_law 1229 = .ok (.iadd, 1) := dk_96 (dk_at dksL_law_42 17 rfl rfl)
theorem dL_law_1230 : decode cL_law 1230 = .ok (.iaload, 1) := dk_46 (dk_at dksL_law_42 18 rfl rfl)
theorem dL_law_1231 : decode cL_law 1231 = .ok (.aload_n 0, 1) := dk_42 (dk_at dksL_law_42 19 rfl rfl)
theorem dL_law_1232 : decode cL_law 1232 = .ok (.iload 5, 2) := dk_21 5 (dk_at dksL_law_42 20 rfl rfl)
theorem dL_law_1234 : decode cL_law 1234 = .ok (.iconst 2, 1) := dk_5 (dk_at dksL_law_42 22 rfl rfl)
theorem dL_law_1235 : decode cL_law 1235 = .ok (.iadd, 1) := dk_96 (dk_at dksL_law_42 23 rfl rfl)
theorem dL_law_1236 : decode cL_law 1236 = .ok (.iaload, 1) := dk_46 (dk_at dksL_law_43 0 rfl rfl)
theorem dL_law_1237 : decode cL_law 1237 = .ok (.aload_n 3, 1) := dk_45 (dk_at dksL_law_43 1 rfl rfl)
theorem dL_law_1238 : decode cL_law 1238 = .ok (.invokestatic 261, 3) := dk_184 1 5 (dk_at dksL_law_43 2 rfl rfl)
theorem dL_law_1241 : decode cL_law 1241 = .ok (.istore 6, 2) := dk_54 6 (dk_at dksL_law_43 5 rfl rfl)
theorem dL_law_1243 : decode cL_law 1243 = .ok (.aload_n 2, 1) := dk_44 (dk_at dksL_law_43 7 rfl rfl)
theorem dL_law_1244 : decode cL_law 1244 = .ok (.aload_n 0, 1) := dk_42 (dk_at dksL_law_43 8 rfl rfl)
theorem dL_law_1245 : decode cL_law 1245 = .ok (.iload 5, 2) := dk_21 5 (dk_at dksL_law_43 9 rfl rfl)
theorem dL_law_1247 : decode cL_law 1247 = .ok (.iconst 1, 1) := dk_4 (dk_at dksL_law_43 11 rfl rfl)
theorem dL_law_1248 : decode cL_law 1248 = .ok (.iadd, 1) := dk_96 (dk_at dksL_law_43 12 rfl rfl)
theorem dL_law_1249 : decode cL_law 1249 = .ok (.iaload, 1) := dk_46 (dk_at dksL_law_43 13 rfl rfl)
theorem dL_law_1250 : decode cL_law 1250 = .ok (.aload_n 0, 1) := dk_42 (dk_at dksL_law_43 14 rfl rfl)
theorem dL_law_1251 : decode cL_law 1251 = .ok (.iload 5, 2) := dk_21 5 (dk_at dksL_law_43 15 rfl rfl)
theorem dL_law_1253 : decode cL_law 1253 = .ok (.iconst 2, 1) := dk_5 (dk_at dksL_law_43 17 rfl rfl)
theorem dL_law_1254 : decode cL_law 1254 = .ok (.iadd, 1) := dk_96 (dk_at dksL_law_43 18 rfl rfl)
theorem dL_law_1255 : decode cL_law 1255 = .ok (.iaload, 1) := dk_46 (dk_at dksL_law_43 19 rfl rfl)
theorem dL_law_1256 : decode cL_law 1256 = .ok (.invokevirtual 263, 3) := dk_182 1 7 (dk_at dksL_law_43 20 rfl rfl)
theorem dL_law_1259 : decode cL_law 1259 = .ok (.istore 7, 2) := dk_54 7 (dk_at dksL_law_44 0 rfl rfl)
theorem dL_law_1261 : decode cL_law 1261 = .ok (.aload_n 2, 1) := dk_44 (dk_at dksL_law_44 2 rfl rfl)
theorem dL_law_1262 : decode cL_law 1262 = .ok (.invokevirtual 205, 3) := dk_182 0 205 (dk_at dksL_law_44 3 rfl rfl)
theorem dL_law_1265 : decode cL_law 1265 = .ok (.iload 6, 2) := dk_21 6 (dk_at dksL_law_44 6 rfl rfl)
theorem dL_law_1267 : decode cL_law 1267 = .ok (.if_icmp .eq 5, 3) := dk_159 0 5 (dk_at dksL_law_44 8 rfl rfl)
theorem dL_law_1270 : decode cL_law 1270 = .ok (.iconst 0, 1) := dk_3 (dk_at dksL_law_44 11 rfl rfl)
theorem dL_law_1271 : decode cL_law 1271 = .ok (.ireturn, 1) := dk_172 (dk_at dksL_law_44 12 rfl rfl)
theorem dL_law_1272 : decode cL_law 1272 = .ok (.iload 6, 2) := dk_21 6 (dk_at dksL_law_44 13 rfl rfl)
theorem dL_law_1274 : decode cL_law 1274 = .ok (.ifCond .ne 15, 3) := dk_154 0 15 (dk_at dksL_law_44 15 rfl rfl)
theorem dL_law_1277 : decode cL_law 1277 = .ok (.aload_n 3, 1) := dk_45 (dk_at dksL_law_44 18 rfl rfl)
theorem dL_law_1278 : decode cL_law 1278 = .ok (.iconst 0, 1) := dk_3 (dk_at dksL_law_44 19 rfl rfl)
theorem dL_law_1279 : decode cL_law 1279 = .ok (.laload, 1) := dk_47 (dk_at dksL_law_44 20 rfl rfl)
theorem dL_law_1280 : decode cL_law 1280 = .ok (.iload 7, 2) := dk_21 7 (dk_at dksL_law_44 21 rfl rfl)
theorem dL_law_1282 : decode cL_law 1282 = .ok (.i2l, 1) := dk_133 (dk_at dksL_law_44 23 rfl rfl)
theorem dL_law_1283 : decode cL_law 1283 = .ok (.lcmp, 1) := dk_148 (dk_at dksL_law_45 0 rfl rfl)
theorem dL_law_1284 : decode cL_law 1284 = .ok (.ifCond .eq 5, 3) := dk_153 0 5 (dk_at dksL_law_45 1 rfl rfl)
theorem dL_law_1287 : decode cL_law 1287 = .ok (.iconst 0, 1) := dk_3 (dk_at dksL_law_45 4 rfl rfl)
theorem dL_law_1288 : decode cL_law 1288 = .ok (.ireturn, 1) := dk_172 (dk_at dksL_law_45 5 rfl rfl)
theorem dL_law_1289 : decode cL_law 1289 = .ok (.goto 2487, 3) := dk_167 9 183 (dk_at dksL_law_45 6 rfl rfl)
theorem dL_law_1292 : decode cL_law 1292 = .ok (.aload_n 1, 1) := dk_43 (dk_at dksL_law_45 9 rfl rfl)
theorem dL_law_1293 : decode cL_law 1293 = .ok (.aload_n 0, 1) := dk_42 (dk_at dksL_law_45 10 rfl rfl)
theorem dL_law_1294 : decode cL_law 1294 = .ok (.iload 5, 2) := dk_21 5 (dk_at dksL_law_45 11 rfl rfl)
theorem dL_law_1296 : decode cL_law 1296 = .ok (.iconst 1, 1) := dk_4 (dk_at dksL_law_45 13 rfl rfl)
theorem dL_law_1297 : decode cL_law 1297 = .ok (.iadd, 1) := dk_96 (dk_at dksL_law_45 14 rfl rfl)
theorem dL_law_1298 : decode cL_law 1298 = .ok (.iaload, 1) := dk_46 (dk_at dksL_law_45 15 rfl rfl)
theorem dL_law_1299 : decode cL_law 1299 = .ok (.aload_n 0, 1) := dk_42 (dk_at dksL_law_45 16 rfl rfl)
theorem dL_law_1300 : decode cL_law 1300 = .ok (.iload 5, 2) := dk_21 5 (dk_at dksL_law_45 17 rfl rfl)
theorem dL_law_1302 : decode cL_law 1302 = .ok (.iconst 2, 1) := dk_5 (dk_at dksL_law_45 19 rfl rfl)
theorem dL_law_1303 : decode cL_law 1303 = .ok (.iadd, 1) := dk_96 (dk_at dksL_law_45 20 rfl rfl)
theorem dL_law_1304 : decode cL_law 1304 = .ok (.iaload, 1) := dk_46 (dk_at dksL_law_45 21 rfl rfl)
theorem dL_law_1305 : decode cL_law 1305 = .ok (.aload_n 3, 1) := dk_45 (dk_at dksL_law_45 22 rfl rfl)
theorem dL_law_1306 : decode cL_law 1306 = .ok (.invokestatic 264, 3) := dk_184 1 8 (dk_at dksL_law_46 0 rfl rfl)
theorem dL_law_1309 : decode cL_law 1309 = .ok (.istore 6, 2) := dk_54 6 (dk_at dksL_law_46 3 rfl rfl)
theorem dL_law_1311 : decode cL_law 1311 = .ok (.aload_n 2, 1) := dk_44 (dk_at dksL_law_46 5 rfl rfl)
theorem dL_law_1312 : decode cL_law 1312 = .ok (.aload_n 0, 1) := dk_42 (dk_at dksL_law_46 6 rfl rfl)
theorem dL_law_1313 : decode cL_law 1313 = .ok (.iload 5, 2) := dk_21 5 (dk_at dksL_law_46 7 rfl rfl)
theorem dL_law_1315 : decode cL_law 1315 = .ok (.iconst 1, 1) := dk_4 (dk_at dksL_law_46 9 rfl rfl)
theorem dL_law_1316 : decode cL_law 1316 = .ok (.iadd, 1) := dk_96 (dk_at dksL_law_46 10 rfl rfl)
theorem dL_law_1317 : decode cL_law 1317 = .ok (.iaload, 1) := dk_46 (dk_at dksL_law_46 11 rfl rfl)
theorem dL_law_1318 : decode cL_law 1318 = .ok (.aload_n 0, 1) := dk_42 (dk_at dksL_law_46 12 rfl rfl)
theorem dL_law_1319 : decode cL_law 1319 = .ok (.iload 5, 2) := dk_21 5 (dk_at dksL_law_46 13 rfl rfl)
theorem dL_law_1321 : decode cL_law 1321 = .ok (.iconst 2, 1) := dk_5 (dk_at dksL_law_46 15 rfl rfl)
theorem dL_law_1322 : decode cL_law 1322 = .ok (.iadd, 1) := dk_96 (dk_at dksL_law_46 16 rfl rfl)
theorem dL_law_1323 : decode cL_law 1323 = .ok (.iaload, 1) := dk_46 (dk_at dksL_law_46 17 rfl rfl)
theorem dL_law_1324 : decode cL_law 1324 = .ok (.invokevirtual 266, 3) := dk_182 1 10 (dk_at dksL_law_46 18 rfl rfl)
theorem dL_law_1327 : decode cL_law 1327 = .ok (.istore 7, 2) := dk_54 7 (dk_at dksL_law_46 21 rfl rfl)
theorem dL_law_1329 : decode cL_law 1329 = .ok (.aload_n 2, 1) := dk_44 (dk_at dksL_law_46 23 rfl rfl)
theorem dL_law_1330 : decode cL_law 1330 = .ok (.invokevirtual 205, 3) := dk_182 0 205 (dk_at dksL_law_47 0 rfl rfl)
theorem dL_law_1333 : decode cL_law 1333 = .ok (.iload 6, 2) := dk_21 6 (dk_at dksL_law_47 3 rfl rfl)
theorem dL_law_1335 : decode cL_law 1335 = .ok (.if_icmp .eq 5, 3) := dk_159 0 5 (dk_at dksL_law_47 5 rfl rfl)
theorem dL_law_1338 : decode cL_law 1338 = .ok (.iconst 0, 1) := dk_3 (dk_at dksL_law_47 8 rfl rfl)
theorem dL_law_1339 : decode cL_law 1339 = .ok (.ireturn, 1) := dk_172 (dk_at dksL_law_47 9 rfl rfl)
theorem dL_law_1340 : decode cL_law 1340 = .ok (.iload 6, 2) := dk_21 6 (dk_at dksL_law_47 10 rfl rfl)
theorem dL_law_1342 : decode cL_law 1342 = .ok (.ifCond .ne 15, 3) := dk_154 0 15 (dk_at dksL_law_47 12 rfl rfl)
theorem dL_law_1345 : decode cL_law 1345 = .ok (.aload_n 3, 1) := dk_45 (dk_at dksL_law_47 15 rfl rfl)
theorem dL_law_1346 : decode cL_law 1346 = .ok (.iconst 0, 1) := dk_3 (dk_at dksL_law_47 16 rfl rfl)
theorem dL_law_1347 : decode cL_law 1347 = .ok (.laload, 1) := dk_47 (dk_at dksL_law_47 17 rfl rfl)
theorem dL_law_1348 : decode cL_law 1348 = .ok (.iload 7, 2) := dk_21 7 (dk_at dksL_law_47 18 rfl rfl)
theorem dL_law_1350 : decode cL_law 1350 = .ok (.i2l, 1) := dk_133 (dk_at dksL_law_47 20 rfl rfl)
theorem dL_law_1351 : decode cL_law 1351 = .ok (.lcmp, 1) := dk_148 (dk_at dksL_law_47 21 rfl rfl)
theorem dL_law_1352 : decode cL_law 1352 = .ok (.ifCond .eq 5, 3) := dk_153 0 5 (dk_at dksL_law_48 0 rfl rfl)
theorem dL_law_1355 : decode cL_law 1355 = .ok (.iconst 0, 1) := dk_3 (dk_at dksL_law_48 3 rfl rfl)
theorem dL_law_1356 : decode cL_law 1356 = .ok (.ireturn, 1) := dk_172 (dk_at dksL_law_48 4 rfl rfl)
theorem dL_law_1357 : decode cL_law 1357 = .ok (.goto 2419, 3) := dk_167 9 115 (dk_at dksL_law_48 5 rfl rfl)
theorem dL_law_1360 : decode cL_law 1360 = .ok (.aload_n 1, 1) := dk_43 (dk_at dksL_law_48 8 rfl rfl)
theorem dL_law_1361 : decode cL_law 1361 = .ok (.aload_n 0, 1) := dk_42 (dk_at dksL_law_48 9 rfl rfl)
theorem dL_law_1362 : decode cL_law 1362 = .ok (.iload 5, 2) := dk_21 5 (dk_at dksL_law_48 10 rfl rfl)
theorem dL_law_1364 : decode cL_law 1364 = .ok (.iconst 1, 1) := dk_4 (dk_at dksL_law_48 12 rfl rfl)
theorem dL_law_1365 : decode cL_law 1365 = .ok (.iadd, 1) := dk_96 (dk_at dksL_law_48 13 rfl rfl)
theorem dL_law_1366 : decode cL_law 1366 = .ok (.iaload, 1) := dk_46 (dk_at dksL_law_48 14 rfl rfl)
theorem dL_law_1367 : decode cL_law 1367 = .ok (.aload_n 0, 1) := dk_42 (dk_at dksL_law_48 15 rfl rfl)
theorem dL_law_1368 : decode cL_law 1368 = .ok (.iload 5, 2) := dk_21 5 (dk_at dksL_law_48 16 rfl rfl)
theorem dL_law_1370 : decode cL_law 1370 = .ok (.iconst 2, 1) := dk_5 (dk_at dksL_law_48 18 rfl rfl)
theorem dL_law_1371 : decode cL_law 1371 = .ok (.iadd, 1) := dk_96 (dk_at dksL_law_48 19 rfl rfl)
theorem dL_law_1372 : decode cL_law 1372 = .ok (.iaload, 1) := dk_46 (dk_at dksL_law_48 20 rfl rfl)
theorem dL_law_1373 : decode cL_law 1373 = .ok (.aload_n 3, 1) := dk_45 (dk_at dksL_law_48 21 rfl rfl)
theorem dL_law_1374 : decode cL_law 1374 = .ok (.invokestatic 267, 3) := dk_184 1 11 (dk_at dksL_law_49 0 rfl rfl)
theorem dL_law_1377 : decode cL_law 1377 = .ok (.istore 6, 2) := dk_54 6 (dk_at dksL_law_49 3 rfl rfl)
theorem dL_law_1379 : decode cL_law 1379 = .ok (.aload_n 2, 1) := dk_44 (dk_at dksL_law_49 5 rfl rfl)
theorem dL_law_1380 : decode cL_law 1380 = .ok (.aload_n 0, 1) := dk_42 (dk_at dksL_law_49 6 rfl rfl)
theorem dL_law_1381 : decode cL_law 1381 = .ok (.iload 5, 2) := dk_21 5 (dk_at dksL_law_49 7 rfl rfl)
theorem dL_law_1383 : decode cL_law 1383 = .ok (.iconst 1, 1) := dk_4 (dk_at dksL_law_49 9 rfl rfl)
theorem dL_law_1384 : decode cL_law 1384 = .ok (.iadd, 1) := dk_96 (dk_at dksL_law_49 10 rfl rfl)
theorem dL_law_1385 : decode cL_law 1385 = .ok (.iaload, 1) := dk_46 (dk_at dksL_law_49 11 rfl rfl)
theorem dL_law_1386 : decode cL_law 1386 = .ok (.aload_n 0, 1) := dk_42 (dk_at dksL_law_49 12 rfl rfl)
theorem dL_law_1387 : decode cL_law 1387 = .ok (.iload 5, 2) := dk_21 5 (dk_at dksL_law_49 13 rfl rfl)
theorem dL_law_1389 : decode cL_law 1389 = .ok (.iconst 2, 1) := dk_5 (dk_at dksL_law_49 15 rfl rfl)
theorem dL_law_1390 : decode cL_law 1390 = .ok (.iadd, 1) := dk_96 (dk_at dksL_law_49 16 rfl rfl)
theorem dL_law_1391 : decode cL_law 1391 = .ok (.iaload, 1) := dk_46 (dk_at dksL_law_49 17 rfl rfl)
theorem dL_law_1392 : decode cL_law 1392 = .ok (.invokevirtual 269, 3) := dk_182 1 13 (dk_at dksL_law_49 18 rfl rfl)
theorem dL_law_1395 : decode cL_law 1395 = .ok (.istore 7, 2) := dk_54 7 (dk_at dksL_law_49 21 rfl rfl)
theorem dL_law_1397 : decode cL_law 1397 = .ok (.aload_n 2, 1) := dk_44 (dk_at dksL_law_49 23 rfl rfl)
theorem dL_law_1398 : decode cL_law 1398 = .ok (.invokevirtual 205, 3) := dk_182 0 205 (dk_at dksL_law_50 0 rfl rfl)
theorem dL_law_1401 : decode cL_law 1401 = .ok (.iload 6, 2) := dk_21 6 (dk_at dksL_law_50 3 rfl rfl)
theorem dL_law_1403 : decode cL_law 1403 = .ok (.if_icmp .eq 5, 3) := dk_159 0 5 (dk_at dksL_law_50 5 rfl rfl)
theorem dL_law_1406 : decode cL_law 1406 = .ok (.iconst 0, 1) := dk_3 (dk_at dksL_law_50 8 rfl rfl)
theorem dL_law_1407 : decode cL_law 1407 = .ok (.ireturn, 1) := dk_172 (dk_at dksL_law_50 9 rfl rfl)
theorem dL_law_1408 : decode cL_law 1408 = .ok (.iload 6, 2) := dk_21 6 (dk_at dksL_law_50 10 rfl rfl)
theorem dL_law_1410 : decode cL_law 1410 = .ok (.ifCond .ne 15, 3) := dk_154 0 15 (dk_at dksL_law_50 12 rfl rfl)
theorem dL_law_1413 : decode cL_law 1413 = .ok (.aload_n 3, 1) := dk_45 (dk_at dksL_law_50 15 rfl rfl)
theorem dL_law_1414 : decode cL_law 1414 = .ok (.iconst 0, 1) := dk_3 (dk_at dksL_law_50 16 rfl rfl)
theorem dL_law_1415 : decode cL_law 1415 = .ok (.laload, 1) := dk_47 (dk_at dksL_law_50 17 rfl rfl)
theorem dL_law_1416 : decode cL_law 1416 = .ok (.iload 7, 2) := dk_21 7 (dk_at dksL_law_50 18 rfl rfl)
theorem dL_law_1418 : decode cL_law 1418 = .ok (.i2l, 1) := dk_133 (dk_at dksL_law_50 20 rfl rfl)
theorem dL_law_1419 : decode cL_law 1419 = .ok (.lcmp, 1) := dk_148 (dk_at dksL_law_50 21 rfl rfl)
theorem dL_law_1420 : decode cL_law 1420 = .ok (.ifCond .eq 5, 3) := dk_153 0 5 (dk_at dksL_law_51 0 rfl rfl)
theorem dL_law_1423 : decode cL_law 1423 = .ok (.iconst 0, 1) := dk_3 (dk_at dksL_law_51 3 rfl rfl)
theorem dL_law_1424 : decode cL_law 1424 = .ok (.ireturn, 1) := dk_172 (dk_at dksL_law_51 4 rfl rfl)
theorem dL_law_1425 : decode cL_law 1425 = .ok (.goto 2351, 3) := dk_167 9 47 (dk_at dksL_law_51 5 rfl rfl)
theorem dL_law_1428 : decode cL_law 1428 = .ok (.aload_n 1, 1) := dk_43 (dk_at dksL_law_51 8 rfl rfl)
theorem dL_law_1429 : decode cL_law 1429 = .ok (.aload_n 0, 1) := dk_42 (dk_at dksL_law_51 9 rfl rfl)
theorem dL_law_1430 : decode cL_law 1430 = .ok (.iload 5, 2) := dk_21 5 (dk_at dksL_law_51 10 rfl rfl)
theorem dL_law_1432 : decode cL_law 1432 = .ok (.iconst 1, 1) := dk_4 (dk_at dksL_law_51 12 rfl rfl)
theorem dL_law_1433 : decode cL_law 1433 = .ok (.iadd, 1) := dk_96 (dk_at dksL_law_51 13 rfl rfl)
theorem dL_law_1434 : decode cL_law 1434 = .ok (.iaload, 1) := dk_46 (dk_at dksL_law_51 14 rfl rfl)
theorem dL_law_1435 : decode cL_law 1435 = .ok (.aload_n 3, 1) := dk_45 (dk_at dksL_law_51 15 rfl rfl)
theorem dL_law_1436 : decode cL_law 1436 = .ok (.invokestatic 270, 3) := dk_184 1 14 (dk_at dksL_law_51 16 rfl rfl)
theorem dL_law_1439 : decode cL_law 1439 = .ok (.istore 6, 2) := dk_54 6 (dk_at dksL_law_51 19 rfl rfl)
theorem dL_law_1441 : decode cL_law 1441 = .ok (.aload_n 2, 1) := dk_44 (dk_at dksL_law_51 21 rfl rfl)
theorem dL_law_1442 : decode cL_law 1442 = .ok (.aload_n 0, 1) := dk_42 (dk_at dksL_law_51 22 rfl rfl)
theorem dL_law_1443 : decode cL_law 1443 = .ok (.iload 5, 2) := dk_21 5 (dk_at dksL_law_52 0 rfl rfl)
theorem dL_law_1445 : decode cL_law 1445 = .ok (.iconst 1, 1) := dk_4 (dk_at dksL_law_52 2 rfl rfl)
theorem dL_law_1446 : decode cL_law 1446 = .ok (.iadd, 1) := dk_96 (dk_at dksL_law_52 3 rfl rfl)
theorem dL_law_1447 : decode cL_law 1447 = .ok (.iaload, 1) := dk_46 (dk_at dksL_law_52 4 rfl rfl)
theorem dL_law_1448 : decode cL_law 1448 = .ok (.invokevirtual 272, 3) := dk_182 1 16 (dk_at dksL_law_52 5 rfl rfl)
theorem dL_law_1451 : decode cL_law 1451 = .ok (.istore 7, 2) := dk_54 7 (dk_at dksL_law_52 8 rfl rfl)
theorem dL_law_1453 : decode cL_law 1453 = .ok (.aload_n 2, 1) := dk_44 (dk_at dksL_law_52 10 rfl rfl)
theorem dL_law_1454 : decode cL_law 1454 = .ok (.invokevirtual 205, 3) := dk_182 0 205 (dk_at dksL_law_52 11 rfl rfl)
theorem dL_law_1457 : decode cL_law 1457 = .ok (.iload 6, 2) := dk_21 6 (dk_at dksL_law_52 14 rfl rfl)
theorem dL_law_1459 : decode cL_law 1459 = .ok (.if_icmp .eq 5, 3) := dk_159 0 5 (dk_at dksL_law_52 16 rfl rfl)
theorem dL_law_1462 : decode cL_law 1462 = .ok (.iconst 0, 1) := dk_3 (dk_at dksL_law_52 19 rfl rfl)
theorem dL_law_1463 : decode cL_law 1463 = .ok (.ireturn, 1) := dk_172 (dk_at dksL_law_52 20 rfl rfl)
theorem dL_law_1464 : decode cL_law 1464 = .ok (.iload 6, 2) := dk_21 6 (dk_at dksL_law_52 21 rfl rfl)
theorem dL_law_1466 : decode cL_law 1466 = .ok (.ifCond .ne 15, 3) := dk_154 0 15 (dk_at dksL_law_53 0 rfl rfl)
theorem dL_law_1469 : decode cL_law 1469 = .ok (.aload_n 3, 1) := dk_45 (dk_at dksL_law_53 3 rfl rfl)
theorem dL_law_1470 : decode cL_law 1470 = .ok (.iconst 0, 1) := dk_3 (dk_at dksL_law_53 4 rfl rfl)
theorem dL_law_1471 : decode cL_law 1471 = .ok (.laload, 1) := dk_47 (dk_at dksL_law_53 5 rfl rfl)
theorem dL_law_1472 : decode cL_law 1472 = .ok (.iload 7, 2) := dk_21 7 (dk_at dksL_law_53 6 rfl rfl)
theorem dL_law_1474 : decode cL_law 1474 = .ok (.i2l, 1) := dk_133 (dk_at dksL_law_53 8 rfl rfl)
theorem dL_law_1475 : decode cL_law 1475 = .ok (.lcmp, 1) := dk_148 (dk_at dksL_law_53 9 rfl rfl)
theorem dL_law_1476 : decode cL_law 1476 = .ok (.ifCond .eq 5, 3) := dk_153 0 5 (dk_at dksL_law_53 10 rfl rfl)
theorem dL_law_1479 : decode cL_law 1479 = .ok (.iconst 0, 1) := dk_3 (dk_at dksL_law_53 13 rfl rfl)
theorem dL_law_1480 : decode cL_law 1480 = .ok (.ireturn, 1) := dk_172 (dk_at dksL_law_53 14 rfl rfl)
theorem dL_law_1481 : decode cL_law 1481 = .ok (.goto 2295, 3) := dk_167 8 247 (dk_at dksL_law_53 15 rfl rfl)
theorem dL_law_1484 : decode cL_law 1484 = .ok (.aload_n 1, 1) := dk_43 (dk_at dksL_law_53 18 rfl rfl)
theorem dL_law_1485 : decode cL_law 1485 = .ok (.aload_n 0, 1) := dk_42 (dk_at dksL_law_53 19 rfl rfl)
theorem dL_law_1486 : decode cL_law 1486 = .ok (.iload 5, 2) := dk_21 5 (dk_at dksL_law_53 20 rfl rfl)
theorem dL_law_1488 : decode cL_law 1488 = .ok (.iconst 1, 1) := dk_4 (dk_at dksL_law_53 22 rfl rfl)
theorem dL_law_1489 : decode cL_law 1489 = .ok (.iadd, 1) := dk_96 (dk_at dksL_law_53 23 rfl rfl)
theorem dL_law_1490 : decode cL_law 1490 = .ok (.iaload, 1) := dk_46 (dk_at dksL_law_54 0 rfl rfl)
theorem dL_law_1491 : decode cL_law 1491 = .ok (.aload_n 0, 1) := dk_42 (dk_at dksL_law_54 1 rfl rfl)
theorem dL_law_1492 : decode cL_law 1492 = .ok (.iload 5, 2) := dk_21 5 (dk_at dksL_law_54 2 rfl rfl)
theorem dL_law_1494 : decode cL_law 1494 = .ok (.iconst 2, 1) := dk_5 (dk_at dksL_law_54 4 rfl rfl)
theorem dL_law_1495 : decode cL_law 1495 = .ok (.iadd, 1) := dk_96 (dk_at dksL_law_54 5 rfl rfl)
theorem dL_law_1496 : decode cL_law 1496 = .ok (.iaload, 1) := dk_46 (dk_at dksL_law_54 6 rfl rfl)
theorem dL_law_1497 : decode cL_law 1497 = .ok (.aload_n 3, 1) := dk_45 (dk_at dksL_law_54 7 rfl rfl)
theorem dL_law_1498 : decode cL_law 1498 = .ok (.invokestatic 273, 3) := dk_184 1 17 (dk_at dksL_law_54 8 rfl rfl)
theorem dL_law_1501 : decode cL_law 1501 = .ok (.istore 6, 2) := dk_54 6 (dk_at dksL_law_54 11 rfl rfl)
theorem dL_law_1503 : decode cL_law 1503 = .ok (.aload_n 2, 1) := dk_44 (dk_at dksL_law_54 13 rfl rfl)
theorem dL_law_1504 : decode cL_law 1504 = .ok (.aload_n 0, 1) := dk_42 (dk_at dksL_law_54 14 rfl rfl)
theorem dL_law_1505 : decode cL_law 1505 = .ok (.iload 5, 2) := dk_21 5 (dk_at dksL_law_54 15 rfl rfl)
theorem dL_law_1507 : decode cL_law 1507 = .ok (.iconst 1, 1) := dk_4 (dk_at dksL_law_54 17 rfl rfl)
theorem dL_law_1508 : decode cL_law 1508 = .ok (.iadd, 1) := dk_96 (dk_at dksL_law_54 18 rfl rfl)
theorem dL_law_1509 : decode cL_law 1509 = .ok (.iaload, 1) := dk_46 (dk_at dksL_law_54 19 rfl rfl)
theorem dL_law_1510 : decode cL_law 1510 = .ok (.aload_n 0, 1) := dk_42 (dk_at dksL_law_54 20 rfl rfl)
theorem dL_law_1511 : decode cL_law 1511 = .ok (.iload 5, 2) := dk_21 5 (dk_at dksL_law_54 21 rfl rfl)
theorem dL_law_1513 : decode cL_law 1513 = .ok (.iconst 2, 1) := dk_5 (dk_at dksL_law_54 23 rfl rfl)
theorem dL_law_1514 : decode cL_law 1514 = .ok (.iadd, 1) := dk_96 (dk_at dksL_law_55 0 rfl rfl)
theorem dL_law_1515 : decode cL_law 1515 = .ok (.iaload, 1) := dk_46 (dk_at dksL_law_55 1 rfl rfl)
theorem dL_law_1516 : decode cL_law 1516 = .ok (.invokevirtual 275, 3) := dk_182 1 19 (dk_at dksL_law_55 2 rfl rfl)
theorem dL_law_1519 : decode cL_law 1519 = .ok (.istore 7, 2) := dk_54 7 (dk_at dksL_law_55 5 rfl rfl)
theorem dL_law_1521 : decode cL_law 1521 = .ok (.aload_n 2, 1) := dk_44 (dk_at dksL_law_55 7 rfl rfl)
theorem dL_law_1522 : decode cL_law 1522 = .ok (.invokevirtual 205, 3) := dk_182 0 205 (dk_at dksL_law_55 8 rfl rfl)
theorem dL_law_1525 : decode cL_law 1525 = .ok (.iload 6, 2) := dk_21 6 (dk_at dksL_law_55 11 rfl rfl)
theorem dL_law_1527 : decode cL_law 1527 = .ok (.if_icmp .eq 5, 3) := dk_159 0 5 (dk_at dksL_law_55 13 rfl rfl)
theorem dL_law_1530 : decode cL_law 1530 = .ok (.iconst 0, 1) := dk_3 (dk_at dksL_law_55 16 rfl rfl)
theorem dL_law_1531 : decode cL_law 1531 = .ok (.ireturn, 1) := dk_172 (dk_at dksL_law_55 17 rfl rfl)
theorem dL_law_1532 : decode cL_law 1532 = .ok (.iload 6, 2) := dk_21 6 (dk_at dksL_law_55 18 rfl rfl)
theorem dL_law_1534 : decode cL_law 1534 = .ok (.ifCond .ne 15, 3) := dk_154 0 15 (dk_at dksL_law_55 20 rfl rfl)
theorem dL_law_1537 : decode cL_law 1537 = .ok (.aload_n 3, 1) := dk_45 (dk_at dksL_law_55 23 rfl rfl)
theorem dL_law_1538 : decode cL_law 1538 = .ok (.iconst 0, 1) := dk_3 (dk_at dksL_law_56 0 rfl rfl)
theorem dL_law_1539 : decode cL_law 1539 = .ok (.laload, 1) := dk_47 (dk_at dksL_law_56 1 rfl rfl)
theorem dL_law_1540 : decode cL_law 1540 = .ok (.iload 7, 2) := dk_21 7 (dk_at dksL_law_56 2 rfl rfl)
theorem dL_law_1542 : decode cL_law 1542 = .ok (.i2l, 1) := dk_133 (dk_at dksL_law_56 4 rfl rfl)
theorem dL_law_1543 : decode cL_law 1543 = .ok (.lcmp, 1) := dk_148 (dk_at dksL_law_56 5 rfl rfl)
theorem dL_law_1544 : decode cL_law 1544 = .ok (.ifCond .eq 5, 3) := dk_153 0 5 (dk_at dksL_law_56 6 rfl rfl)
theorem dL_law_1547 : decode cL_law 1547 = .ok (.iconst 0, 1) := dk_3 (dk_at dksL_law_56 9 rfl rfl)
theorem dL_law_1548 : decode cL_law 1548 = .ok (.ireturn, 1) := dk_172 (dk_at dksL_law_56 10 rfl rfl)
theorem dL_law_1549 : decode cL_law 1549 = .ok (.goto 2227, 3) := dk_167 8 179 (dk_at dksL_law_56 11 rfl rfl)
theorem dL_law_1552 : decode cL_law 1552 = .ok (.aload_n 1, 1) := dk_43 (dk_at dksL_law_56 14 rfl rfl)
theorem dL_law_1553 : decode cL_law 1553 = .ok (.aload_n 0, 1) := dk_42 (dk_at dksL_law_56 15 rfl rfl)
theorem dL_law_1554 : decode cL_law 1554 = .ok (.iload 5, 2) := dk_21 5 (dk_at dksL_law_56 16 rfl rfl)
theorem dL_law_1556 : decode cL_law 1556 = .ok (.iconst 1, 1) := dk_4 (dk_at dksL_law_56 18 rfl rfl)
theorem dL_law_1557 : decode cL_law 1557 = .ok (.iadd, 1) := dk_96 (dk_at dksL_law_56 19 rfl rfl)
theorem dL_law_1558 : decode cL_law 1558 = .ok (.iaload, 1) := dk_46 (dk_at dksL_law_56 20 rfl rfl)
theorem dL_law_1559 : decode cL_law 1559 = .ok (.aload_n 0, 1) := dk_42 (dk_at dksL_law_56 21 rfl rfl)
theorem dL_law_1560 : decode cL_law 1560 = .ok (.iload 5, 2) := dk_21 5 (dk_at dksL_law_56 22 rfl rfl)
theorem dL_law_1562 : decode cL_law 1562 = .ok (.iconst 2, 1) := dk_5 (dk_at dksL_law_57 0 rfl rfl)
theorem dL_law_1563 : decode cL_law 1563 = .ok (.iadd, 1) := dk_96 (dk_at dksL_law_57 1 rfl rfl)
theorem dL_law_1564 : decode cL_law 1564 = .ok (.iaload, 1) := dk_46 (dk_at dksL_law_57 2 rfl rfl)
theorem dL_law_1565 : decode cL_law 1565 = .ok (.aload_n 3, 1) := dk_45 (dk_at dksL_law_57 3 rfl rfl)
theorem dL_law_1566 : decode cL_law 1566 = .ok (.invokestatic 276, 3) := dk_184 1 20 (dk_at dksL_law_57 4 rfl rfl)
theorem dL_law_1569 : decode cL_law 1569 = .ok (.istore 6, 2) := dk_54 6 (dk_at dksL_law_57 7 rfl rfl)
theorem dL_law_1571 : decode cL_law 1571 = .ok (.aload_n 2, 1) := dk_44 (dk_at dksL_law_57 9 rfl rfl)
theorem dL_law_1572 : decode cL_law 1572 = .ok (.aload_n 0, 1) := dk_42 (dk_at dksL_law_57 10 rfl rfl)
theorem dL_law_1573 : decode cL_law 1573 = .ok (.iload 5, 2) := dk_21 5 (dk_at dksL_law_57 11 rfl rfl)
theorem dL_law_1575 : decode cL_law 1575 = .ok (.iconst 1, 1) := dk_4 (dk_at dksL_law_57 13 rfl rfl)
theorem dL_law_1576 : decode cL_law 1576 = .ok (.iadd, 1) := dk_96 (dk_at dksL_law_57 14 rfl rfl)
theorem dL_law_1577 : decode cL_law 1577 = .ok (.iaload, 1) := dk_46 (dk_at dksL_law_57 15 rfl rfl)
theorem dL_law_1578 : decode cL_law 1578 = .ok (.aload_n 0, 1) := dk_42 (dk_at dksL_law_57 16 rfl rfl)
theorem dL_law_1579 : decode cL_law 1579 = .ok (.iload 5, 2) := dk_21 5 (dk_at dksL_law_57 17 rfl rfl)
theorem dL_law_1581 : decode cL_law 1581 = .ok (.iconst 2, 1) := dk_5 (dk_at dksL_law_57 19 rfl rfl)
theorem dL_law_1582 : decode cL_law 1582 = .ok (.iadd, 1) := dk_96 (dk_at dksL_law_57 20 rfl rfl)
theorem dL_law_1583 : decode cL_law 1583 = .ok (.iaload, 1) := dk_46 (dk_at dksL_law_57 21 rfl rfl)
theorem dL_law_1584 : decode cL_law 1584 = .ok (.invokevirtual 278, 3) := dk_182 1 22 (dk_at dksL_law_58 0 rfl rfl)
theorem dL_law_1587 : decode cL_law 1587 = .ok (.istore 7, 2) := dk_54 7 (dk_at dksL_law_58 3 rfl rfl)
theorem dL_law_1589 : decode cL_law 1589 = .ok (.aload_n 2, 1) := dk_44 (dk_at dksL_law_58 5 rfl rfl)
theorem dL_law_1590 : decode cL_law 1590 = .ok (.invokevirtual 205, 3) := dk_182 0 205 (dk_at dksL_law_58 6 rfl rfl)
theorem dL_law_1593 : decode cL_law 1593 = .ok (.iload 6, 2) := dk_21 6 (dk_at dksL_law_58 9 rfl rfl)
theorem dL_law_1595 : decode cL_law 1595 = .ok (.if_icmp .eq 5, 3) := dk_159 0 5 (dk_at dksL_law_58 11 rfl rfl)
theorem dL_law_1598 : decode cL_law 1598 = .ok (.iconst 0, 1) := dk_3 (dk_at dksL_law_58 14 rfl rfl)
theorem dL_law_1599 : decode cL_law 1599 = .ok (.ireturn, 1) := dk_172 (dk_at dksL_law_58 15 rfl rfl)
theorem dL_law_1600 : decode cL_law 1600 = .ok (.iload 6, 2) := dk_21 6 (dk_at dksL_law_58 16 rfl rfl)
theorem dL_law_1602 : decode cL_law 1602 = .ok (.ifCond .ne 15, 3) := dk_154 0 15 (dk_at dksL_law_58 18 rfl rfl)
theorem dL_law_1605 : decode cL_law 1605 = .ok (.aload_n 3, 1) := dk_45 (dk_at dksL_law_58 21 rfl rfl)
theorem dL_law_1606 : decode cL_law 1606 = .ok (.iconst 0, 1) := dk_3 (dk_at dksL_law_58 22 rfl rfl)
theorem dL_law_1607 : decode cL_law 1607 = .ok (.laload, 1) := dk_47 (dk_at dksL_law_58 23 rfl rfl)
theorem dL_law_1608 : decode cL_law 1608 = .ok (.iload 7, 2) := dk_21 7 (dk_at dksL_law_59 0 rfl rfl)
theorem dL_law_1610 : decode cL_law 1610 = .ok (.i2l, 1) := dk_133 (dk_at dksL_law_59 2 rfl rfl)
theorem dL_law_1611 : decode cL_law 1611 = .ok (.lcmp, 1) := dk_148 (dk_at dksL_law_59 3 rfl rfl)
theorem dL_law_1612 : decode cL_law 1612 = .ok (.ifCond .eq 5, 3) := dk_153 0 5 (dk_at dksL_law_59 4 rfl rfl)
theorem dL_law_1615 : decode cL_law 1615 = .ok (.iconst 0, 1) := dk_3 (dk_at dksL_law_59 7 rfl rfl)
theorem dL_law_1616 : decode cL_law 1616 = .ok (.ireturn, 1) := dk_172 (dk_at dksL_law_59 8 rfl rfl)
theorem dL_law_1617 : decode cL_law 1617 = .ok (.goto 2159, 3) := dk_167 8 111 (dk_at dksL_law_59 9 rfl rfl)
theorem dL_law_1620 : decode cL_law 1620 = .ok (.aload_n 1, 1) := dk_43 (dk_at dksL_law_59 12 rfl rfl)
theorem dL_law_1621 : decode cL_law 1621 = .ok (.aload_n 0, 1) := dk_42 (dk_at dksL_law_59 13 rfl rfl)
theorem dL_law_1622 : decode cL_law 1622 = .ok (.iload 5, 2) := dk_21 5 (dk_at dksL_law_59 14 rfl rfl)
theorem dL_law_1624 : decode cL_law 1624 = .ok (.iconst 1, 1) := dk_4 (dk_at dksL_law_59 16 rfl rfl)
theorem dL_law_1625 : decode cL_law 1625 = .ok (.iadd, 1) := dk_96 (dk_at dksL_law_59 17 rfl rfl)
theorem dL_law_1626 : decode cL_law 1626 = .ok (.iaload, 1) := dk_46 (dk_at dksL_law_59 18 rfl rfl)
theorem dL_law_1627 : decode cL_law 1627 = .ok (.aload_n 0, 1) := dk_42 (dk_at dksL_law_59 19 rfl rfl)
theorem dL_law_1628 : decode cL_law 1628 = .ok (.iload 5, 2) := dk_21 5 (dk_at dksL_law_59 20 rfl rfl)
theorem dL_law_1630 : decode cL_law 1630 = .ok (.iconst 2, 1) := dk_5 (dk_at dksL_law_59 22 rfl rfl)
theorem dL_law_1631 : decode cL_law 1631 = .ok (.iadd, 1) := dk_96 (dk_at dksL_law_59 23 rfl rfl)
theorem dL_law_1632 : decode cL_law 1632 = .ok (.iaload, 1) := dk_46 (dk_at dksL_law_60 0 rfl rfl)
theorem dL_law_1633 : decode cL_law 1633 = .ok (.aload_n 3, 1) := dk_45 (dk_at dksL_law_60 1 rfl rfl)
theorem dL_law_1634 : decode cL_law 1634 = .ok (.invokestatic 279, 3) := dk_184 1 23 (dk_at dksL_law_60 2 rfl rfl)
theorem dL_law_1637 : decode cL_law 1637 = .ok (.istore 6, 2) := dk_54 6 (dk_at dksL_law_60 5 rfl rfl)
theorem dL_law_1639 : decode cL_law 1639 = .ok (.aload_n 2, 1) := dk_44 (dk_at dksL_law_60 7 rfl rfl)
theorem dL_law_1640 : decode cL_law 1640 = .ok (.aload_n 0, 1) := dk_42 (dk_at dksL_law_60 8 rfl rfl)
theorem dL_law_1641 : decode cL_law 1641 = .ok (.iload 5, 2) := dk_21 5 (dk_at dksL_law_60 9 rfl rfl)
theorem dL_law_1643 : decode cL_law 1643 = .ok (.iconst 1, 1) := dk_4 (dk_at dksL_law_60 11 rfl rfl)
theorem dL_law_1644 : decode cL_law 1644 = .ok (.iadd, 1) := dk_96 (dk_at dksL_law_60 12 rfl rfl)
theorem dL_law_1645 : decode cL_law 1645 = .ok (.iaload, 1) := dk_46 (dk_at dksL_law_60 13 rfl rfl)
theorem dL_law_1646 : decode cL_law 1646 = .ok (.aload_n 0, 1) := dk_42 (dk_at dksL_law_60 14 rfl rfl)
theorem dL_law_1647 : decode cL_law 1647 = .ok (.iload 5, 2) := dk_21 5 (dk_at dksL_law_60 15 rfl rfl)
theorem dL_law_1649 : decode cL_law 1649 = .ok (.iconst 2, 1) := dk_5 (dk_at dksL_law_60 17 rfl rfl)
theorem dL_law_1650 : decode cL_law 1650 = .ok (.iadd, 1) := dk_96 (dk_at dksL_law_60 18 rfl rfl)
theorem dL_law_1651 : decode cL_law 1651 = .ok (.iaload, 1) := dk_46 (dk_at dksL_law_60 19 rfl rfl)
theorem dL_law_1652 : decode cL_law 1652 = .ok (.invokevirtual 281, 3) := dk_182 1 25 (dk_at dksL_law_60 20 rfl rfl)
theorem dL_law_1655 : decode cL_law 1655 = .ok (.istore 7, 2) := dk_54 7 (dk_at dksL_law_61 0 rfl rfl)
theorem dL_law_1657 : decode cL_law 1657 = .ok (.aload_n 2, 1) := dk_44 (dk_at dksL_law_61 2 rfl rfl)
theorem dL_law_1658 : decode cL_law 1658 = .ok (.invokevirtual 205, 3) := dk_182 0 205 (dk_at dksL_law_61 3 rfl rfl)
theorem dL_law_1661 : decode cL_law 1661 = .ok (.iload 6, 2) := dk_21 6 (dk_at dksL_law_61 6 rfl rfl)
theorem dL_law_1663 : decode cL_law 1663 = .ok (.if_icmp .eq 5, 3) := dk_159 0 5 (dk_at dksL_law_61 8 rfl rfl)
theorem dL_law_1666 : decode cL_law 1666 = .ok (.iconst 0, 1) := dk_3 (dk_at dksL_law_61 11 rfl rfl)
theorem dL_law_1667 : decode cL_law 1667 = .ok (.ireturn, 1) := dk_172 (dk_at dksL_law_61 12 rfl rfl)
theorem dL_law_1668 : decode cL_law 1668 = .ok (.iload 6, 2) := dk_21 6 (dk_at dksL_law_61 13 rfl rfl)
theorem dL_law_1670 : decode cL_law 1670 = .ok (.ifCond .ne 15, 3) := dk_154 0 15 (dk_at dksL_law_61 15 rfl rfl)
theorem dL_law_1673 : decode cL_law 1673 = .ok (.aload_n 3, 1) := dk_45 (dk_at dksL_law_61 18 rfl rfl)
theorem dL_law_1674 : decode cL_law 1674 = .ok (.iconst 0, 1) := dk_3 (dk_at dksL_law_61 19 rfl rfl)
theorem dL_law_1675 : decode cL_law 1675 = .ok (.laload, 1) := dk_47 (dk_at dksL_law_61 20 rfl rfl)
theorem dL_law_1676 : decode cL_law 1676 = .ok (.iload 7, 2) := dk_21 7 (dk_at dksL_law_61 21 rfl rfl)
theorem dL_law_1678 : decode cL_law 1678 = .ok (.i2l, 1) := dk_133 (dk_at dksL_law_61 23 rfl rfl)
theorem dL_law_1679 : decode cL_law 1679 = .ok (.lcmp, 1) := dk_148 (dk_at dksL_law_62 0 rfl rfl)
theorem dL_law_1680 : decode cL_law 1680 = .ok (.ifCond .eq 5, 3) := dk_153 0 5 (dk_at dksL_law_62 1 rfl rfl)
theorem dL_law_1683 : decode cL_law 1683 = .ok (.iconst 0, 1) := dk_3 (dk_at dksL_law_62 4 rfl rfl)
theorem dL_law_1684 : decode cL_law 1684 = .ok (.ireturn, 1) := dk_172 (dk_at dksL_law_62 5 rfl rfl)
theorem dL_law_1685 : decode cL_law 1685 = .ok (.goto 2091, 3) := dk_167 8 43 (dk_at dksL_law_62 6 rfl rfl)
theorem dL_law_1688 : decode cL_law 1688 = .ok (.aload_n 1, 1) := dk_43 (dk_at dksL_law_62 9 rfl rfl)
theorem dL_law_1689 : decode cL_law 1689 = .ok (.aload_n 0, 1) := dk_42 (dk_at dksL_law_62 10 rfl rfl)
theorem dL_law_1690 : decode cL_law 1690 = .ok (.iload 5, 2) := dk_21 5 (dk_at dksL_law_62 11 rfl rfl)
theorem dL_law_1692 : decode cL_law 1692 = .ok (.iconst 1, 1) := dk_4 (dk_at dksL_law_62 13 rfl rfl)
theorem dL_law_1693 : decode cL_law 1693 = .ok (.iadd, 1) := dk_96 (dk_at dksL_law_62 14 rfl rfl)
theorem dL_law_1694 : decode cL_law 1694 = .ok (.iaload, 1) := dk_46 (dk_at dksL_law_62 15 rfl rfl)
theorem dL_law_1695 : decode cL_law 1695 = .ok (.aload_n 3, 1) := dk_45 (dk_at dksL_law_62 16 rfl rfl)
theorem dL_law_1696 : decode cL_law 1696 = .ok (.invokestatic 282, 3) := dk_184 1 26 (dk_at dksL_law_62 17 rfl rfl)
theorem dL_law_1699 : decode cL_law 1699 = .ok (.istore 6, 2) := dk_54 6 (dk_at dksL_law_62 20 rfl rfl)
theorem dL_law_1701 : decode cL_law 1701 = .ok (.aload_n 2, 1) := dk_44 (dk_at dksL_law_62 22 rfl rfl)
theorem dL_law_1702 : decode cL_law 1702 = .ok (.aload_n 0, 1) := dk_42 (dk_at dksL_law_62 23 rfl rfl)
theorem dL_law_1703 : decode cL_law 1703 = .ok (.iload 5, 2) := dk_21 5 (dk_at dksL_law_63 0 rfl rfl)
theorem dL_law_1705 : decode cL_law 1705 = .ok (.iconst 1, 1) := dk_4 (dk_at dksL_law_63 2 rfl rfl)
theorem dL_law_1706 : decode cL_law 1706 = .ok (.iadd, 1) := dk_96 (dk_at dksL_law_63 3 rfl rfl)
theorem dL_law_1707 : decode cL_law 1707 = .ok (.iaload, 1) := dk_46 (dk_at dksL_law_63 4 rfl rfl)
theorem dL_law_1708 : decode cL_law 1708 = .ok (.invokevirtual 284, 3) := dk_182 1 28 (dk_at dksL_law_63 5 rfl rfl)
theorem dL_law_1711 : decode cL_law 1711 = .ok (.istore 7, 2) := dk_54 7 (dk_at dksL_law_63 8 rfl rfl)
theorem dL_law_1713 : decode cL_law 1713 = .ok (.aload_n 2, 1) := dk_44 (dk_at dksL_law_63 10 rfl rfl)
theorem dL_law_1714 : decode cL_law 1714 = .ok (.invokevirtual 205, 3) := dk_182 0 205 (dk_at dksL_law_63 11 rfl rfl)
theorem dL_law_1717 : decode cL_law 1717 = .ok (.iload 6, 2) := dk_21 6 (dk_at dksL_law_63 14 rfl rfl)
theorem dL_law_1719 : decode cL_law 1719 = .ok (.if_icmp .eq 5, 3) := dk_159 0 5 (dk_at dksL_law_63 16 rfl rfl)
theorem dL_law_1722 : decode cL_law 1722 = .ok (.iconst 0, 1) := dk_3 (dk_at dksL_law_63 19 rfl rfl)
theorem dL_law_1723 : decode cL_law 1723 = .ok (.ireturn, 1) := dk_172 (dk_at dksL_law_63 20 rfl rfl)
theorem dL_law_1724 : decode cL_law 1724 = .ok (.iload 6, 2) := dk_21 6 (dk_at dksL_law_63 21 rfl rfl)
theorem dL_law_1726 : decode cL_law 1726 = .ok (.ifCond .ne 15, 3) := dk_154 0 15 (dk_at dksL_law_64 0 rfl rfl)
theorem dL_law_1729 : decode cL_law 1729 = .ok (.aload_n 3, 1) := dk_45 (dk_at dksL_law_64 3 rfl rfl)
theorem dL_law_1730 : decode cL_law 1730 = .ok (.iconst 0, 1) := dk_3 (dk_at dksL_law_64 4 rfl rfl)
theorem dL_law_1731 : decode cL_law 1731 = .ok (.laload, 1) := dk_47 (dk_at dksL_law_64 5 rfl rfl)
theorem dL_law_1732 : decode cL_law 1732 = .ok (.iload 7, 2) := dk_21 7 (dk_at dksL_law_64 6 rfl rfl)
theorem dL_law_1734 : decode cL_law 1734 = .ok (.i2l, 1) := dk_133 (dk_at dksL_law_64 8 rfl rfl)
theorem dL_law_1735 : decode cL_law 1735 = .ok (.lcmp, 1) := dk_148 (dk_at dksL_law_64 9 rfl rfl)
theorem dL_law_1736 : decode cL_law 1736 = .ok (.ifCond .eq 5, 3) := dk_153 0 5 (dk_at dksL_law_64 10 rfl rfl)
theorem dL_law_1739 : decode cL_law 1739 = .ok (.iconst 0, 1) := dk_3 (dk_at dksL_law_64 13 rfl rfl)
theorem dL_law_1740 : decode cL_law 1740 = .ok (.ireturn, 1) := dk_172 (dk_at dksL_law_64 14 rfl rfl)
theorem dL_law_1741 : decode cL_law 1741 = .ok (.goto 2035, 3) := dk_167 7 243 (dk_at dksL_law_64 15 rfl rfl)
theorem dL_law_1744 : decode cL_law 1744 = .ok (.aload_n 1, 1) := dk_43 (dk_at dksL_law_64 18 rfl rfl)
theorem dL_law_1745 : decode cL_law 1745 = .ok (.aload_n 0, 1) := dk_42 (dk_at dksL_law_64 19 rfl rfl)
theorem dL_law_1746 : decode cL_law 1746 = .ok (.iload 5, 2) := dk_21 5 (dk_at dksL_law_64 20 rfl rfl)
theorem dL_law_1748 : decode cL_law 1748 = .ok (.iconst 1, 1) := dk_4 (dk_at dksL_law_64 22 rfl rfl)
theorem dL_law_1749 : decode cL_law 1749 = .ok (.iadd, 1) := dk_96 (dk_at dksL_law_64 23 rfl rfl)
theorem dL_law_1750 : decode cL_law 1750 = .ok (.iaload, 1) := dk_46 (dk_at dksL_law_65 0 rfl rfl)
theorem dL_law_1751 : decode cL_law 1751 = .ok (.aload_n 0, 1) := dk_42 (dk_at dksL_law_65 1 rfl rfl)
theorem dL_law_1752 : decode cL_law 1752 = .ok (.iload 5, 2) := dk_21 5 (dk_at dksL_law_65 2 rfl rfl)
theorem dL_law_1754 : decode cL_law 1754 = .ok (.iconst 2, 1) := dk_5 (dk_at dksL_law_65 4 rfl rfl)
theorem dL_law_1755 : decode cL_law 1755 = .ok (.iadd, 1) := dk_96 (dk_at dksL_law_65 5 rfl rfl)
theorem dL_law_1756 : decode cL_law 1756 = .ok (.iaload, 1) := dk_46 (dk_at dksL_law_65 6 rfl rfl)
theorem dL_law_1757 : decode cL_law 1757 = .ok (.aload_n 3, 1) := dk_45 (dk_at dksL_law_65 7 rfl rfl)
theorem dL_law_1758 : decode cL_law 1758 = .ok (.invokestatic 285, 3) := dk_184 1 29 (dk_at dksL_law_65 8 rfl rfl)
theorem dL_law_1761 : decode cL_law 1761 = .ok (.istore 6, 2) := dk_54 6 (dk_at dksL_law_65 11 rfl rfl)
theorem dL_law_1763 : decode cL_law 1763 = .ok (.aload_n 2, 1) := dk_44 (dk_at dksL_law_65 13 rfl rfl)
theorem dL_law_1764 : decode cL_law 1764 = .ok (.aload_n 0, 1) := dk_42 (dk_at dksL_law_65 14 rfl rfl)
theorem dL_law_1765 : decode cL_law 1765 = .ok (.iload 5, 2) := dk_21 5 (dk_at dksL_law_65 15 rfl rfl)
theorem dL_law_1767 : decode cL_law 1767 = .ok (.iconst 1, 1) := dk_4 (dk_at dksL_law_65 17 rfl rfl)
theorem dL_law_1768 : decode cL_law 1768 = .ok (.iadd, 1) := dk_96 (dk_at dksL_law_65 18 rfl rfl)
theorem dL_law_1769 : decode cL_law 1769 = .ok (.iaload, 1) := dk_46 (dk_at dksL_law_65 19 rfl rfl)
theorem dL_law_1770 : decode cL_law 1770 = .ok (.aload_n 0, 1) := dk_42 (dk_at dksL_law_65 20 rfl rfl)
theorem dL_law_1771 : decode cL_law 1771 = .ok (.iload 5, 2) := dk_21 5 (dk_at dksL_law_65 21 rfl rfl)
theorem dL_law_1773 : decode cL_law 1773 = .ok (.iconst 2, 1) := dk_5 (dk_at dksL_law_65 23 rfl rfl)
theorem dL_law_1774 : decode cL_law 1774 = .ok (.iadd, 1) := dk_96 (dk_at dksL_law_66 0 rfl rfl)
theorem dL_law_1775 : decode cL_law 1775 = .ok (.iaload, 1) := dk_46 (dk_at dksL_law_66 1 rfl rfl)
theorem dL_law_1776 : decode cL_law 1776 = .ok (.invokevirtual 287, 3) := dk_182 1 31 (dk_at dksL_law_66 2 rfl rfl)
theorem dL_law_1779 : decode cL_law 1779 = .ok (.istore 7, 2) := dk_54 7 (dk_at dksL_law_66 5 rfl rfl)
theorem dL_law_1781 : decode cL_law 1781 = .ok (.aload_n 2, 1) := dk_44 (dk_at dksL_law_66 7 rfl rfl)
theorem dL_law_1782 : decode cL_law 1782 = .ok (.invokevirtual 205, 3) := dk_182 0 205 (dk_at dksL_law_66 8 rfl rfl)
theorem dL_law_1785 : decode cL_law 1785 = .ok (.iload 6, 2) := dk_21 6 (dk_at dksL_law_66 11 rfl rfl)
theorem dL_law_1787 : decode cL_law 1787 = .ok (.if_icmp .eq 5, 3) := dk_159 0 5 (dk_at dksL_law_66 13 rfl rfl)
theorem dL_law_1790 : decode cL_law 1790 = .ok (.iconst 0, 1) := dk_3 (dk_at dksL_law_66 16 rfl rfl)
theorem dL_law_1791 : decode cL_law 1791 = .ok (.ireturn, 1) := dk_172 (dk_at dksL_law_66 17 rfl rfl)
theorem dL_law_1792 : decode cL_law 1792 = .ok (.iload 6, 2) := dk_21 6 (dk_at dksL_law_66 18 rfl rfl)
theorem dL_law_1794 : decode cL_law 1794 = .ok (.ifCond .ne 15, 3) := dk_154 0 15 (dk_at dksL_law_66 20 rfl rfl)
theorem dL_law_1797 : decode cL_law 1797 = .ok (.aload_n 3, 1) := dk_45 (dk_at dksL_law_66 23 rfl rfl)
theorem dL_law_1798 : decode cL_law 1798 = .ok (.iconst 0, 1) := dk_3 (dk_at dksL_law_67 0 rfl rfl)
theorem dL_law_1799 : decode cL_law 1799 = .ok (.laload, 1) := dk_47 (dk_at dksL_law_67 1 rfl rfl)
theorem dL_law_1800 : decode cL_law 1800 = .ok (.iload 7, 2) := dk_21 7 (dk_at dksL_law_67 2 rfl rfl)
theorem dL_law_1802 : decode cL_law 1802 = .ok (.i2l, 1) := dk_133 (dk_at dksL_law_67 4 rfl rfl)
theorem dL_law_1803 : decode cL_law 1803 = .ok (.lcmp, 1) := dk_148 (dk_at dksL_law_67 5 rfl rfl)
theorem dL_law_1804 : decode cL_law 1804 = .ok (.ifCond .eq 5, 3) := dk_153 0 5 (dk_at dksL_law_67 6 rfl rfl)
theorem dL_law_1807 : decode cL_law 1807 = .ok (.iconst 0, 1) := dk_3 (dk_at dksL_law_67 9 rfl rfl)
theorem dL_law_1808 : decode cL_law 1808 = .ok (.ireturn, 1) := dk_172 (dk_at dksL_law_67 10 rfl rfl)
theorem dL_law_1809 : decode cL_law 1809 = .ok (.goto 1967, 3) := dk_167 7 175 (dk_at dksL_law_67 11 rfl rfl)
theorem dL_law_1812 : decode cL_law 1812 = .ok (.aload_n 1, 1) := dk_43 (dk_at dksL_law_67 14 rfl rfl)
theorem dL_law_1813 : decode cL_law 1813 = .ok (.aload_n 0, 1) := dk_42 (dk_at dksL_law_67 15 rfl rfl)
theorem dL_law_1814 : decode cL_law 1814 = .ok (.iload 5, 2) := dk_21 5 (dk_at dksL_law_67 16 rfl rfl)
theorem dL_law_1816 : decode cL_law 1816 = .ok (.iconst 1, 1) := dk_4 (dk_at dksL_law_67 18 rfl rfl)
theorem dL_law_1817 : decode cL_law 1817 = .ok (.iadd, 1) := dk_96 (dk_at dksL_law_67 19 rfl rfl)
theorem dL_law_1818 : decode cL_law 1818 = .ok (.iaload, 1) := dk_46 (dk_at dksL_law_67 20 rfl rfl)
theorem dL_law_1819 : decode cL_law 1819 = .ok (.aload_n 0, 1) := dk_42 (dk_at dksL_law_67 21 rfl rfl)
theorem dL_law_1820 : decode cL_law 1820 = .ok (.iload 5, 2) := dk_21 5 (dk_at dksL_law_67 22 rfl rfl)
theorem dL_law_1822 : decode cL_law 1822 = .ok (.iconst 2, 1) := dk_5 (dk_at dksL_law_68 0 rfl rfl)
theorem dL_law_1823 : decode cL_law 1823 = .ok (.iadd, 1) := dk_96 (dk_at dksL_law_68 1 rfl rfl)
theorem dL_law_1824 : decode cL_law 1824 = .ok (.iaload, 1) := dk_46 (dk_at dksL_law_68 2 rfl rfl)
theorem dL_law_1825 : decode cL_law 1825 = .ok (.aload_n 0, 1) := dk_42 (dk_at dksL_law_68 3 rfl rfl)
theorem dL_law_1826 : decode cL_law 1826 = .ok (.iload 5, 2) := dk_21 5 (dk_at dksL_law_68 4 rfl rfl)
theorem dL_law_1828 : decode cL_law 1828 = .ok (.iconst 3, 1) := dk_6 (dk_at dksL_law_68 6 rfl rfl)
theorem dL_law_1829 : decode cL_law 1829 = .ok (.iadd, 1) := dk_96 (dk_at dksL_law_68 7 rfl rfl)
theorem dL_law_1830 : decode cL_law 1830 = .ok (.iaload, 1) := dk_46 (dk_at dksL_law_68 8 rfl rfl)
theorem dL_law_1831 : decode cL_law 1831 = .ok (.aload_n 3, 1) := dk_45 (dk_at dksL_law_68 9 rfl rfl)
theorem dL_law_1832 : decode cL_law 1832 = .ok (.invokestatic 288, 3) := dk_184 1 32 (dk_at dksL_law_68 10 rfl rfl)
theorem dL_law_1835 : decode cL_law 1835 = .ok (.istore 6, 2) := dk_54 6 (dk_at dksL_law_68 13 rfl rfl)
theorem dL_law_1837 : decode cL_law 1837 = .ok (.aload_n 2, 1) := dk_44 (dk_at dksL_law_68 15 rfl rfl)
theorem dL_law_1838 : decode cL_law 1838 = .ok (.aload_n 0, 1) := dk_42 (dk_at dksL_law_68 16 rfl rfl)
theorem dL_law_1839 : decode cL_law 1839 = .ok (.iload 5, 2) := dk_21 5 (dk_at dksL_law_68 17 rfl rfl)
theorem dL_law_1841 : decode cL_law 1841 = .ok (.iconst 1, 1) := dk_4 (dk_at dksL_law_68 19 rfl rfl)
theorem dL_law_1842 : decode cL_law 1842 = .ok (.iadd, 1) := dk_96 (dk_at dksL_law_68 20 rfl rfl)
theorem dL_law_1843 : decode cL_law 1843 = .ok (.iaload, 1) := dk_46 (dk_at dksL_law_68 21 rfl rfl)
theorem dL_law_1844 : decode cL_law 1844 = .ok (.aload_n 0, 1) := dk_42 (dk_at dksL_law_68 22 rfl rfl)
theorem dL_law_1845 : decode cL_law 1845 = .ok (.iload 5, 2) := dk_21 5 (dk_at dksL_law_69 0 rfl rfl)
theorem dL_law_1847 : decode cL_law 1847 = .ok (.iconst 2, 1) := dk_5 (dk_at dksL_law_69 2 rfl rfl)
theorem dL_law_1848 : decode cL_law 1848 = .ok (.iadd, 1) := dk_96 (dk_at dksL_law_69 3 rfl rfl)
theorem dL_law_1849 : decode cL_law 1849 = .ok (.iaload, 1) := dk_46 (dk_at dksL_law_69 4 rfl rfl)
theorem dL_law_1850 : decode cL_law 1850 = .ok (.aload_n 0, 1) := dk_42 (dk_at dksL_law_69 5 rfl rfl)
theorem dL_law_1851 : decode cL_law 1851 = .ok (.iload 5, 2) := dk_21 5 (dk_at dksL_law_69 6 rfl rfl)
theorem dL_law_1853 : decode cL_law 1853 = .ok (.iconst 3, 1) := dk_6 (dk_at dksL_law_69 8 rfl rfl)
theorem dL_law_1854 : decode cL_law 1854 = .ok (.iadd, 1) := dk_96 (dk_at dksL_law_69 9 rfl rfl)
theorem dL_law_1855 : decode cL_law 1855 = .ok (.iaload, 1) := dk_46 (dk_at dksL_law_69 10 rfl rfl)
theorem dL_law_1856 : decode cL_law 1856 = .ok (.invokevirtual 291, 3) := dk_182 1 35 (dk_at dksL_law_69 11 rfl rfl)
theorem dL_law_1859 : decode cL_law 1859 = .ok (.istore 7, 2) := dk_54 7 (dk_at dksL_law_69 14 rfl rfl)
theorem dL_law_1861 : decode cL_law 1861 = .ok (.aload_n 2, 1) := dk_44 (dk_at dksL_law_69 16 rfl rfl)
theorem dL_law_1862 : decode cL_law 1862 = .ok (.invokevirtual 205, 3) := dk_182 0 205 (dk_at dksL_law_69 17 rfl rfl)
theorem dL_law_1865 : decode cL_law 1865 = .ok (.iload 6, 2) := dk_21 6 (dk_at dksL_law_69 20 rfl rfl)
theorem dL_law_1867 : decode cL_law 1867 = .ok (.if_icmp .eq 5, 3) := dk_159 0 5 (dk_at dksL_law_70 0 rfl rfl)
theorem dL_law_1870 : decode cL_law 1870 = .ok (.iconst 0, 1) := dk_3 (dk_at dksL_law_70 3 rfl rfl)
theorem dL_law_1871 : decode cL_law 1871 = .ok (.ireturn, 1) := dk_172 (dk_at dksL_law_70 4 rfl rfl)
theorem dL_law_1872 : decode cL_law 1872 = .ok (.iload 6, 2) := dk_21 6 (dk_at dksL_law_70 5 rfl rfl)
theorem dL_law_1874 : decode cL_law 1874 = .ok (.ifCond .ne 15, 3) := dk_154 0 15 (dk_at dksL_law_70 7 rfl rfl)
theorem dL_law_1877 : decode cL_law 1877 = .ok (.aload_n 3, 1) := dk_45 (dk_at dksL_law_70 10 rfl rfl)
theorem dL_law_1878 : decode cL_law 1878 = .ok (.iconst 0, 1) := dk_3 (dk_at dksL_law_70 11 rfl rfl)
theorem dL_law_1879 : decode cL_law 1879 = .ok (.laload, 1) := dk_47 (dk_at dksL_law_70 12 rfl rfl)
theorem dL_law_1880 : decode cL_law 1880 = .ok (.iload 7, 2) := dk_21 7 (dk_at dksL_law_70 13 rfl rfl)
theorem dL_law_1882 : decode cL_law 1882 = .ok (.i2l, 1) := dk_133 (dk_at dksL_law_70 15 rfl rfl)
theorem dL_law_1883 : decode cL_law 1883 = .ok (.lcmp, 1) := dk_148 (dk_at dksL_law_70 16 rfl rfl)
theorem dL_law_1884 : decode cL_law 1884 = .ok (.ifCond .eq 5, 3) := dk_153 0 5 (dk_at dksL_law_70 17 rfl rfl)
theorem dL_law_1887 : decode cL_law 1887 = .ok (.iconst 0, 1) := dk_3 (dk_at dksL_law_70 20 rfl rfl)
theorem dL_law_1888 : decode cL_law 1888 = .ok (.ireturn, 1) := dk_172 (dk_at dksL_law_70 21 rfl rfl)
theorem dL_law_1889 : decode cL_law 1889 = .ok (.goto 1887, 3) := dk_167 7 95 (dk_at dksL_law_71 0 rfl rfl)
theorem dL_law_1892 : decode cL_law 1892 = .ok (.aload_n 1, 1) := dk_43 (dk_at dksL_law_71 3 rfl rfl)
theorem dL_law_1893 : decode cL_law 1893 = .ok (.aload_n 0, 1) := dk_42 (dk_at dksL_law_71 4 rfl rfl)
theorem dL_law_1894 : decode cL_law 1894 = .ok (.iload 5, 2) := dk_21 5 (dk_at dksL_law_71 5 rfl rfl)
theorem dL_law_1896 : decode cL_law 1896 = .ok (.iconst 1, 1) := dk_4 (dk_at dksL_law_71 7 rfl rfl)
theorem dL_law_1897 : decode cL_law 1897 = .ok (.iadd, 1) := dk_96 (dk_at dksL_law_71 8 rfl rfl)
theorem dL_law_1898 : decode cL_law 1898 = .ok (.iaload, 1) := dk_46 (dk_at dksL_law_71 9 rfl rfl)
theorem dL_law_1899 : decode cL_law 1899 = .ok (.aload_n 3, 1) := dk_45 (dk_at dksL_law_71 10 rfl rfl)
theorem dL_law_1900 : decode cL_law 1900 = .ok (.invokestatic 292, 3) := dk_184 1 36 (dk_at dksL_law_71 11 rfl rfl)
theorem dL_law_1903 : decode cL_law 1903 = .ok (.istore 6, 2) := dk_54 6 (dk_at dksL_law_71 14 rfl rfl)
theorem dL_law_1905 : decode cL_law 1905 = .ok (.aload_n 2, 1) := dk_44 (dk_at dksL_law_71 16 rfl rfl)
theorem dL_law_1906 : decode cL_law 1906 = .ok (.aload_n 0, 1) := dk_42 (dk_at dksL_law_71 17 rfl rfl)
theorem dL_law_1907 : decode cL_law 1907 = .ok (.iload 5, 2) := dk_21 5 (dk_at dksL_law_71 18 rfl rfl)
theorem dL_law_1909 : decode cL_law 1909 = .ok (.iconst 1, 1) := dk_4 (dk_at dksL_law_71 20 rfl rfl)
theorem dL_law_1910 : decode cL_law 1910 = .ok (.iadd, 1) := dk_96 (dk_at dksL_law_71 21 rfl rfl)
theorem dL_law_1911 : decode cL_law 1911 = .ok (.iaload, 1) := dk_46 (dk_at dksL_law_71 22 rfl rfl)
theorem dL_law_1912 : decode cL_law 1912 = .ok (.invokevirtual 294, 3) := dk_182 1 38 (dk_at dksL_law_72 0 rfl rfl)
theorem dL_law_1915 : decode cL_law 1915 = .ok (.istore 7, 2) := dk_54 7 (dk_at dksL_law_72 3 rfl rfl)
theorem dL_law_1917 : decode cL_law 1917 = .ok (.aload_n 2, 1) := dk_44 (dk_at dksL_law_72 5 rfl rfl)
theorem dL_law_1918 : decode cL_law 1918 = .ok (.invokevirtual 205, 3) := dk_182 0 205 (dk_at dksL_law_72 6 rfl rfl)
theorem dL_law_1921 : decode cL_law 1921 = .ok (.iload 6, 2) := dk_21 6 (dk_at dksL_law_72 9 rfl rfl)
theorem dL_law_1923 : decode cL_law 1923 = .ok (.if_icmp .eq 5, 3) := dk_159 0 5 (dk_at dksL_law_72 11 rfl rfl)
theorem dL_law_1926 : decode cL_law 1926 = .ok (.iconst 0, 1) := dk_3 (dk_at dksL_law_72 14 rfl rfl)
theorem dL_law_1927 : decode cL_law 1927 = .ok (.ireturn, 1) := dk_172 (dk_at dksL_law_72 15 rfl rfl)
theorem dL_law_1928 : decode cL_law 1928 = .ok (.iload 6, 2) := dk_21 6 (dk_at dksL_law_72 16 rfl rfl)
theorem dL_law_1930 : decode cL_law 1930 = .ok (.ifCond .ne 15, 3) := dk_154 0 15 (dk_at dksL_law_72 18 rfl rfl)
theorem dL_law_1933 : decode cL_law 1933 = .ok (.aload_n 3, 1) := dk_45 (dk_at dksL_law_72 21 rfl rfl)
theorem dL_law_1934 : decode cL_law 1934 = .ok (.iconst 0, 1) := dk_3 (dk_at dksL_law_72 22 rfl rfl)
theorem dL_law_1935 : decode cL_law 1935 = .ok (.laload, 1) := dk_47 (dk_at dksL_law_72 23 rfl rfl)
theorem dL_law_1936 : decode cL_law 1936 = .ok (.iload 7, 2) := dk_21 7 (dk_at dksL_law_73 0 rfl rfl)
theorem dL_law_1938 : decode cL_law 1938 = .ok (.i2l, 1) := dk_133 (dk_at dksL_law_73 2 rfl rfl)
theorem dL_law_1939 : decode cL_law 1939 = .ok (.lcmp, 1) := dk_148 (dk_at dksL_law_73 3 rfl rfl)
theorem dL_law_1940 : decode cL_law 1940 = .ok (.ifCond .eq 5, 3) := dk_153 0 5 (dk_at dksL_law_73 4 rfl rfl)
theorem dL_law_1943 : decode cL_law 1943 = .ok (.iconst 0, 1) := dk_3 (dk_at dksL_law_73 7 rfl rfl)
theorem dL_law_1944 : decode cL_law 1944 = .ok (.ireturn, 1) := dk_172 (dk_at dksL_law_73 8 rfl rfl)
theorem dL_law_1945 : decode cL_law 1945 = .ok (.goto 1831, 3) := dk_167 7 39 (dk_at dksL_law_73 9 rfl rfl)
theorem dL_law_1948 : decode cL_law 1948 = .ok (.aload_n 1, 1) := dk_43 (dk_at dksL_law_73 12 rfl rfl)
theorem dL_law_1949 : decode cL_law 1949 = .ok (.aload_n 0, 1) := dk_42 (dk_at dksL_law_73 13 rfl rfl)
theorem dL_law_1950 : decode cL_law 1950 = .ok (.iload 5, 2) := dk_21 5 (dk_at dksL_law_73 14 rfl rfl)
theorem dL_law_1952 : decode cL_law 1952 = .ok (.iconst 1, 1) := dk_4 (dk_at dksL_law_73 16 rfl rfl)
theorem dL_law_1953 : decode cL_law 1953 = .ok (.iadd, 1) := dk_96 (dk_at dksL_law_73 17 rfl rfl)
theorem dL_law_1954 : decode cL_law 1954 = .ok (.iaload, 1) := dk_46 (dk_at dksL_law_73 18 rfl rfl)
theorem dL_law_1955 : decode cL_law 1955 = .ok (.aload_n 3, 1) := dk_45 (dk_at dksL_law_73 19 rfl rfl)
theorem dL_law_1956 : decode cL_law 1956 = .ok (.invokestatic 295, 3) := dk_184 1 39 (dk_at dksL_law_73 20 rfl rfl)
theorem dL_law_1959 : decode cL_law 1959 = .ok (.istore 6, 2) := dk_54 6 (dk_at dksL_law_74 0 rfl rfl)
theorem dL_law_1961 : decode cL_law 1961 = .ok (.aload_n 2, 1) := dk_44 (dk_at dksL_law_74 2 rfl rfl)
theorem dL_law_1962 : decode cL_law 1962 = .ok (.aload_n 0, 1) := dk_42 (dk_at dksL_law_74 3 rfl rfl)
theorem dL_law_1963 : decode cL_law 1963 = .ok (.iload 5, 2) := dk_21 5 (dk_at dksL_law_74 4 rfl rfl)
theorem dL_law_1965 : decode cL_law 1965 = .ok (.iconst 1, 1) := dk_4 (dk_at dksL_law_74 6 rfl rfl)
theorem dL_law_1966 : decode cL_law 1966 = .ok (.iadd, 1) := dk_96 (dk_at dksL_law_74 7 rfl rfl)
theorem dL_law_1967 : decode cL_law 1967 = .ok (.iaload, 1) := dk_46 (dk_at dksL_law_74 8 rfl rfl)
theorem dL_law_1968 : decode cL_law 1968 = .ok (.invokevirtual 297, 3) := dk_182 1 41 (dk_at dksL_law_74 9 rfl rfl)
theorem dL_law_1971 : decode cL_law 1971 = .ok (.istore 7, 2) := dk_54 7 (dk_at dksL_law_74 12 rfl rfl)
theorem dL_law_1973 : decode cL_law 1973 = .ok (.aload_n 2, 1) := dk_44 (dk_at dksL_law_74 14 rfl rfl)
theorem dL_law_1974 : decode cL_law 1974 = .ok (.invokevirtual 205, 3) := dk_182 0 205 (dk_at dksL_law_74 15 rfl rfl)
theorem dL_law_1977 : decode cL_law 1977 = .ok (.iload 6, 2) := dk_21 6 (dk_at dksL_law_74 18 rfl rfl)
theorem dL_law_1979 : decode cL_law 1979 = .ok (.if_icmp .eq 5, 3) := dk_159 0 5 (dk_at dksL_law_74 20 rfl rfl)
theorem dL_law_1982 : decode cL_law 1982 = .ok (.iconst 0, 1) := dk_3 (dk_at dksL_law_74 23 rfl rfl)
theorem dL_law_1983 : decode cL_law 1983 = .ok (.ireturn, 1) := dk_172 (dk_at dksL_law_75 0 rfl rfl)
theorem dL_law_1984 : decode cL_law 1984 = .ok (.iload 6, 2) := dk_21 6 (dk_at dksL_law_75 1 rfl rfl)
theorem dL_law_1986 : decode cL_law 1986 = .ok (.ifCond .ne 15, 3) := dk_154 0 15 (dk_at dksL_law_75 3 rfl rfl)
theorem dL_law_1989 : decode cL_law 1989 = .ok (.aload_n 3, 1) := dk_45 (dk_at dksL_law_75 6 rfl rfl)
theorem dL_law_1990 : decode cL_law 1990 = .ok (.iconst 0, 1) := dk_3 (dk_at dksL_law_75 7 rfl rfl)
theorem dL_law_1991 : decode cL_law 1991 = .ok (.laload, 1) := dk_47 (dk_at dksL_law_75 8 rfl rfl)
theorem dL_law_1992 : decode cL_law 1992 = .ok (.iload 7, 2) := dk_21 7 (dk_at dksL_law_75 9 rfl rfl)
theorem dL_law_1994 : decode cL_law 1994 = .ok (.i2l, 1) := dk_133 (dk_at dksL_law_75 11 rfl rfl)
theorem dL_law_1995 : decode cL_law 1995 = .ok (.lcmp, 1) := dk_148 (dk_at dksL_law_75 12 rfl rfl)
theorem dL_law_1996 : decode cL_law 1996 = .ok (.ifCond .eq 5, 3) := dk_153 0 5 (dk_at dksL_law_75 13 rfl rfl)
theorem dL_law_1999 : decode cL_law 1999 = .ok (.iconst 0, 1) := dk_3 (dk_at dksL_law_75 16 rfl rfl)
theorem dL_law_2000 : decode cL_law 2000 = .ok (.ireturn, 1) := dk_172 (dk_at dksL_law_75 17 rfl rfl)
theorem dL_law_2001 : decode cL_law 2001 = .ok (.goto 1775, 3) := dk_167 6 239 (dk_at dksL_law_75 18 rfl rfl)
theorem dL_law_2004 : decode cL_law 2004 = .ok (.aload_n 1, 1) := dk_43 (dk_at dksL_law_75 21 rfl rfl)
theorem dL_law_2005 : decode cL_law 2005 = .ok (.aload_n 0, 1) := dk_42 (dk_at dksL_law_75 22 rfl rfl)
theorem dL_law_2006 : decode cL_law 2006 = .ok (.iload 5, 2) := dk_21 5 (dk_at dksL_law_76 0 rfl rfl)
theorem dL_law_2008 : decode cL_law 2008 = .ok (.iconst 1, 1) := dk_4 (dk_at dksL_law_76 2 rfl rfl)
theorem dL_law_2009 : decode cL_law 2009 = .ok (.iadd, 1) := dk_96 (dk_at dksL_law_76 3 rfl rfl)
theorem dL_law_2010 : decode cL_law 2010 = .ok (.iaload, 1) := dk_46 (dk_at dksL_law_76 4 rfl rfl)
theorem dL_law_2011 : decode cL_law 2011 = .ok (.aload_n 3, 1) := dk_45 (dk_at dksL_law_76 5 rfl rfl)
theorem dL_law_2012 : decode cL_law 2012 = .ok (.invokestatic 298, 3) := dk_184 1 42 (dk_at dksL_law_76 6 rfl rfl)
theorem dL_law_2015 : decode cL_law 2015 = .ok (.istore 6, 2) := dk_54 6 (dk_at dksL_law_76 9 rfl rfl)
theorem dL_law_2017 : decode cL_law 2017 = .ok (.aload_n 2, 1) := dk_44 (dk_at dksL_law_76 11 rfl rfl)
theorem dL_law_2018 : decode cL_law 2018 = .ok (.aload_n 0, 1) := dk_42 (dk_at dksL_law_76 12 rfl rfl)
theorem dL_law_2019 : decode cL_law 2019 = .ok (.iload 5, 2) := dk_21 5 (dk_at dksL_law_76 13 rfl rfl)
theorem dL_law_2021 : decode cL_law 2021 = .ok (.iconst 1, 1) := dk_4 (dk_at dksL_law_76 15 rfl rfl)
theorem dL_law_2022 : decode cL_law 2022 = .ok (.iadd, 1) := dk_96 (dk_at dksL_law_76 16 rfl rfl)
theorem dL_law_2023 : decode cL_law 2023 = .ok (.iaload, 1) := dk_46 (dk_at dksL_law_76 17 rfl rfl)
theorem dL_law_2024 : decode cL_law 2024 = .ok (.invokevirtual 300, 3) := dk_182 1 44 (dk_at dksL_law_76 18 rfl rfl)
theorem dL_law_2027 : decode cL_law 2027 = .ok (.istore 7, 2) := dk_54 7 (dk_at dksL_law_76 21 rfl rfl)
theorem dL_law_2029 : decode cL_law 2029 = .ok (.aload_n 2, 1) := dk_44 (dk_at dksL_law_76 23 rfl rfl)
theorem dL_law_2030 : decode cL_law 2030 = .ok (.invokevirtual 205, 3) := dk_182 0 205 (dk_at dksL_law_77 0 rfl rfl)
theorem dL_law_2033 : decode cL_law 2033 = .ok (.iload 6, 2) := dk_21 6 (dk_at dksL_law_77 3 rfl rfl)
theorem dL_law_2035 : decode cL_law 2035 = .ok (.if_icmp .eq 5, 3) := dk_159 0 5 (dk_at dksL_law_77 5 rfl rfl)
theorem dL_law_2038 : decode cL_law 2038 = .ok (.iconst 0, 1) := dk_3 (dk_at dksL_law_77 8 rfl rfl)
theorem dL_law_2039 : decode cL_law 2039 = .ok (.ireturn, 1) := dk_172 (dk_at dksL_law_77 9 rfl rfl)
theorem dL_law_2040 : decode cL_law 2040 = .ok (.iload 6, 2) := dk_21 6 (dk_at dksL_law_77 10 rfl rfl)
theorem dL_law_2042 : decode cL_law 2042 = .ok (.ifCond .ne 15, 3) := dk_154 0 15 (dk_at dksL_law_77 12 rfl rfl)
theorem dL_law_2045 : decode cL_law 2045 = .ok (.aload_n 3, 1) := dk_45 (dk_at dksL_law_77 15 rfl rfl)
theorem dL_law_2046 : decode cL_law 2046 = .ok (.iconst 0, 1) := dk_3 (dk_at dksL_law_77 16 rfl rfl)
theorem dL_law_2047 : decode cL_law 2047 = .ok (.laload, 1) := dk_47 (dk_at dksL_law_77 17 rfl rfl)
theorem dL_law_2048 : decode cL_law 2048 = .ok (.iload 7, 2) := dk_21 7 (dk_at dksL_law_77 18 rfl rfl)
theorem dL_law_2050 : decode cL_law 2050 = .ok (.i2l, 1) := dk_133 (dk_at dksL_law_77 20 rfl rfl)
theorem dL_law_2051 : decode cL_law 2051 = .ok (.lcmp, 1) := dk_148 (dk_at dksL_law_77 21 rfl rfl)
theorem dL_law_2052 : decode cL_law 2052 = .ok (.ifCond .eq 5, 3) := dk_153 0 5 (dk_at dksL_law_78 0 rfl rfl)
theorem dL_law_2055 : decode cL_law 2055 = .ok (.iconst 0, 1) := dk_3 (dk_at dksL_law_78 3 rfl rfl)
theorem dL_law_2056 : decode cL_law 2056 = .ok (.ireturn, 1) := dk_172 (dk_at dksL_law_78 4 rfl rfl)
theorem dL_law_2057 : decode cL_law 2057 = .ok (.goto 1719, 3) := dk_167 6 183 (dk_at dksL_law_78 5 rfl rfl)
theorem dL_law_2060 : decode cL_law 2060 = .ok (.aload_n 1, 1) := dk_43 (dk_at dksL_law_78 8 rfl rfl)
theorem dL_law_2061 : decode cL_law 2061 = .ok (.aload_n 0, 1) := dk_42 (dk_at dksL_law_78 9 rfl rfl)
theorem dL_law_2062 : decode cL_law 2062 = .ok (.iload 5, 2) := dk_21 5 (dk_at dksL_law_78 10 rfl rfl)
theorem dL_law_2064 : decode cL_law 2064 = .ok (.iconst 1, 1) := dk_4 (dk_at dksL_law_78 12 rfl rfl)
theorem dL_law_2065 : decode cL_law 2065 = .ok (.iadd, 1) := dk_96 (dk_at dksL_law_78 13 rfl rfl)
theorem dL_law_2066 : decode cL_law 2066 = .ok (.iaload, 1) := dk_46 (dk_at dksL_law_78 14 rfl rfl)
theorem dL_law_2067 : decode cL_law 2067 = .ok (.aload_n 3, 1) := dk_45 (dk_at dksL_law_78 15 rfl rfl)
theorem dL_law_2068 : decode cL_law 2068 = .ok (.invokestatic 301, 3) := dk_184 1 45 (dk_at dksL_law_78 16 rfl rfl)
theorem dL_law_2071 : decode cL_law 2071 = .ok (.istore 6, 2) := dk_54 6 (dk_at dksL_law_78 19 rfl rfl)
theorem dL_law_2073 : decode cL_law 2073 = .ok (.aload_n 2, 1) := dk_44 (dk_at dksL_law_78 21 rfl rfl)
theorem dL_law_2074 : decode cL_law 2074 = .ok (.aload_n 0, 1) := dk_42 (dk_at dksL_law_78 22 rfl rfl)
theorem dL_law_2075 : decode cL_law 2075 = .ok (.iload 5, 2) := dk_21 5 (dk_at dksL_law_79 0 rfl rfl)
theorem dL_law_2077 : decode cL_law 2077 = .ok (.iconst 1, 1) := dk_4 (dk_at dksL_law_79 2 rfl rfl)
theorem dL_law_2078 : decode cL_law 2078 = .ok (.iadd, 1) := dk_96 (dk_at dksL_law_79 3 rfl rfl)
theorem dL_law_2079 : decode cL_law 2079 = .ok (.iaload, 1) := dk_46 (dk_at dksL_law_79 4 rfl rfl)
theorem dL_law_2080 : decode cL_law 2080 = .ok (.invokevirtual 303, 3) := dk_182 1 47 (dk_at dksL_law_79 5 rfl rfl)
theorem dL_law_2083 : decode cL_law 2083 = .ok (.istore 7, 2) := dk_54 7 (dk_at dksL_law_79 8 rfl rfl)
theorem dL_law_2085 : decode cL_law 2085 = .ok (.aload_n 2, 1) := dk_44 (dk_at dksL_law_79 10 rfl rfl)
theorem dL_law_2086 : decode cL_law 2086 = .ok (.invokevirtual 205, 3) := dk_182 0 205 (dk_at dksL_law_79 11 rfl rfl)
theorem dL_law_2089 : decode cL_law 2089 = .ok (.iload 6, 2) := dk_21 6 (dk_at dksL_law_79 14 rfl rfl)
theorem dL_law_2091 : decode cL_law 2091 = .ok (.if_icmp .eq 5, 3) := dk_159 0 5 (dk_at dksL_law_79 16 rfl rfl)
theorem dL_law_2094 : decode cL_law 2094 = .ok (.iconst 0, 1) := dk_3 (dk_at dksL_law_79 19 rfl rfl)
theorem dL_law_2095 : decode cL_law 2095 = .ok (.ireturn, 1) := dk_172 (dk_at dksL_law_79 20 rfl rfl)
theorem dL_law_2096 : decode cL_law 2096 = .ok (.iload 6, 2) := dk_21 6 (dk_at dksL_law_79 21 rfl rfl)
theorem dL_law_2098 : decode cL_law 2098 = .ok (.ifCond .ne 15, 3) := dk_154 0 15 (dk_at dksL_law_80 0 rfl rfl)
theorem dL_law_2101 : decode cL_law 2101 = .ok (.aload_n 3, 1) := dk_45 (dk_at dksL_law_80 3 rfl rfl)
theorem dL_law_2102 : decode cL_law 2102 = .ok (.iconst 0, 1) := dk_3 (dk_at dksL_law_80 4 rfl rfl)
theorem dL_law_2103 : decode cL_law 2103 = .ok (.laload, 1) := dk_47 (dk_at dksL_law_80 5 rfl rfl)
theorem dL_law_2104 : decode cL_law 2104 = .ok (.iload 7, 2) := dk_21 7 (dk_at dksL_law_80 6 rfl rfl)
theorem dL_law_2106 : decode cL_law 2106 = .ok (.i2l, 1) := dk_133 (dk_at dksL_law_80 8 rfl rfl)
theorem dL_law_2107 : decode cL_law 2107 = .ok (.lcmp, 1) := dk_148 (dk_at dksL_law_80 9 rfl rfl)
theorem dL_law_2108 : decode cL_law 2108 = .ok (.ifCond .eq 5, 3) := dk_153 0 5 (dk_at dksL_law_80 10 rfl rfl)
theorem dL_law_2111 : decode cL_law 2111 = .ok (.iconst 0, 1) := dk_3 (dk_at dksL_law_80 13 rfl rfl)
theorem dL_law_2112 : decode cL_law 2112 = .ok (.ireturn, 1) := dk_172 (dk_at dksL_law_80 14 rfl rfl)
theorem dL_law_2113 : decode cL_law 2113 = .ok (.goto 1663, 3) := dk_167 6 127 (dk_at dksL_law_80 15 rfl rfl)
theorem dL_law_2116 : decode cL_law 2116 = .ok (.aload_n 1, 1) := dk_43 (dk_at dksL_law_80 18 rfl rfl)
theorem dL_law_2117 : decode cL_law 2117 = .ok (.aload_n 0, 1) := dk_42 (dk_at dksL_law_80 19 rfl rfl)
theorem dL_law_2118 : decode cL_law 2118 = .ok (.iload 5, 2) := dk_21 5 (dk_at dksL_law_80 20 rfl rfl)
theorem dL_law_2120 : decode cL_law 2120 = .ok (.iconst 1, 1) := dk_4 (dk_at dksL_law_80 22 rfl rfl)
theorem dL_law_2121 : decode cL_law 2121 = .ok (.iadd, 1) := dk_96 (dk_at dksL_law_80 23 rfl rfl)
theorem dL_law_2122 : decode cL_law 2122 = .ok (.iaload, 1) := dk_46 (dk_at dksL_law_81 0 rfl rfl)
theorem dL_law_2123 : decode cL_law 2123 = .ok (.aload_n 0, 1) := dk_42 (dk_at dksL_law_81 1 rfl rfl)
theorem dL_law_2124 : decode cL_law 2124 = .ok (.iload 5, 2) := dk_21 5 (dk_at dksL_law_81 2 rfl rfl)
theorem dL_law_2126 : decode cL_law 2126 = .ok (.iconst 2, 1) := dk_5 (dk_at dksL_law_81 4 rfl rfl)
theorem dL_law_2127 : decode cL_law 2127 = .ok (.iadd, 1) := dk_96 (dk_at dksL_law_81 5 rfl rfl)
theorem dL_law_2128 : decode cL_law 2128 = .ok (.iaload, 1) := dk_46 (dk_at dksL_law_81 6 rfl rfl)
theorem dL_law_2129 : decode cL_law 2129 = .ok (.aload_n 3, 1) := dk_45 (dk_at dksL_law_81 7 rfl rfl)
theorem dL_law_2130 : decode cL_law 2130 = .ok (.invokestatic 304, 3) := dk_184 1 48 (dk_at dksL_law_81 8 rfl rfl)
theorem dL_law_2133 : decode cL_law 2133 = .ok (.istore 6, 2) := dk_54 6 (dk_at dksL_law_81 11 rfl rfl)
theorem dL_law_2135 : decode cL_law 2135 = .ok (.aload_n 2, 1) := dk_44 (dk_at dksL_law_81 13 rfl rfl)
theorem dL_law_2136 : decode cL_law 2136 = .ok (.aload_n 0, 1) := dk_42 (dk_at dksL_law_81 14 rfl rfl)
theorem dL_law_2137 : decode cL_law 2137 = .ok (.iload 5, 2) := dk_21 5 (dk_at dksL_law_81 15 rfl rfl)
theorem dL_law_2139 : decode cL_law 2139 = .ok (.iconst 1, 1) := dk_4 (dk_at dksL_law_81 17 rfl rfl)
theorem dL_law_2140 : decode cL_law 2140 = .ok (.iadd, 1) := dk_96 (dk_at dksL_law_81 18 rfl rfl)
theorem dL_law_2141 : decode cL_law 2141 = .ok (.iaload, 1) := dk_46 (dk_at dksL_law_81 19 rfl rfl)
theorem dL_law_2142 : decode cL_law 2142 = .ok (.aload_n 0, 1) := dk_42 (dk_at dksL_law_81 20 rfl rfl)
theorem dL_law_2143 : decode cL_law 2143 = .ok (.iload 5, 2) := dk_21 5 (dk_at dksL_law_81 21 rfl rfl)
theorem dL_law_2145 : decode cL_law 2145 = .ok (.iconst 2, 1) := dk_5 (dk_at dksL_law_81 23 rfl rfl)
theorem dL_law_2146 : decode cL_law 2146 = .ok (.iadd, 1) := dk_96 (dk_at dksL_law_82 0 rfl rfl)
theorem dL_law_2147 : decode cL_law 2147 = .ok (.iaload, 1) := dk_46 (dk_at dksL_law_82 1 rfl rfl)
theorem dL_law_2148 : decode cL_law 2148 = .ok (.invokevirtual 306, 3) := dk_182 1 50 (dk_at dksL_law_82 2 rfl rfl)
theorem dL_law_2151 : decode cL_law 2151 = .ok (.istore 7, 2) := dk_54 7 (dk_at dksL_law_82 5 rfl rfl)
theorem dL_law_2153 : decode cL_law 2153 = .ok (.aload_n 2, 1) := dk_44 (dk_at dksL_law_82 7 rfl rfl)
theorem dL_law_2154 : decode cL_law 2154 = .ok (.invokevirtual 205, 3) := dk_182 0 205 (dk_at dksL_law_82 8 rfl rfl)
theorem dL_law_2157 : decode cL_law 2157 = .ok (.iload 6, 2) := dk_21 6 (dk_at dksL_law_82 11 rfl rfl)
theorem dL_law_2159 : decode cL_law 2159 = .ok (.if_icmp .eq 5, 3) := dk_159 0 5 (dk_at dksL_law_82 13 rfl rfl)
theorem dL_law_2162 : decode cL_law 2162 = .ok (.iconst 0, 1) := dk_3 (dk_at dksL_law_82 16 rfl rfl)
theorem dL_law_2163 : decode cL_law 2163 = .ok (.ireturn, 1) := dk_172 (dk_at dksL_law_82 17 rfl rfl)
theorem dL_law_2164 : decode cL_law 2164 = .ok (.iload 6, 2) := dk_21 6 (dk_at dksL_law_82 18 rfl rfl)
theorem dL_law_2166 : decode cL_law 2166 = .ok (.ifCond .ne 15, 3) := dk_154 0 15 (dk_at dksL_law_82 20 rfl rfl)
theorem dL_law_2169 : decode cL_law 2169 = .ok (.aload_n 3, 1) := dk_45 (dk_at dksL_law_82 23 rfl rfl)
theorem dL_law_2170 : decode cL_law 2170 = .ok (.iconst 0, 1) := dk_3 (dk_at dksL_law_83 0 rfl rfl)
theorem dL_law_2171 : decode cL_law 2171 = .ok (.laload, 1) := dk_47 (dk_at dksL_law_83 1 rfl rfl)
theorem dL_law_2172 : decode cL_law 2172 = .ok (.iload 7, 2) := dk_21 7 (dk_at dksL_law_83 2 rfl rfl)
theorem dL_law_2174 : decode cL_law 2174 = .ok (.i2l, 1) := dk_133 (dk_at dksL_law_83 4 rfl rfl)
theorem dL_law_2175 : decode cL_law 2175 = .ok (.lcmp, 1) := dk_148 (dk_at dksL_law_83 5 rfl rfl)
theorem dL_law_2176 : decode cL_law 2176 = .ok (.ifCond .eq 5, 3) := dk_153 0 5 (dk_at dksL_law_83 6 rfl rfl)
theorem dL_law_2179 : decode cL_law 2179 = .ok (.iconst 0, 1) := dk_3 (dk_at dksL_law_83 9 rfl rfl)
theorem dL_law_2180 : decode cL_law 2180 = .ok (.ireturn, 1) := dk_172 (dk_at dksL_law_83 10 rfl rfl)
theorem dL_law_2181 : decode cL_law 2181 = .ok (.goto 1595, 3) := dk_167 6 59 (dk_at dksL_law_83 11 rfl rfl)
theorem dL_law_2184 : decode cL_law 2184 = .ok (.aload_n 1, 1) := dk_43 (dk_at dksL_law_83 14 rfl rfl)
theorem dL_law_2185 : decode cL_law 2185 = .ok (.aload_n 0, 1) := dk_42 (dk_at dksL_law_83 15 rfl rfl)
theorem dL_law_2186 : decode cL_law 2186 = .ok (.iload 5, 2) := dk_21 5 (dk_at dksL_law_83 16 rfl rfl)
theorem dL_law_2188 : decode cL_law 2188 = .ok (.iconst 1, 1) := dk_4 (dk_at dksL_law_83 18 rfl rfl)
theorem dL_law_2189 : decode cL_law 2189 = .ok (.iadd, 1) := dk_96 (dk_at dksL_law_83 19 rfl rfl)
theorem dL_law_2190 : decode cL_law 2190 = .ok (.iaload, 1) := dk_46 (dk_at dksL_law_83 20 rfl rfl)
theorem dL_law_2191 : decode cL_law 2191 = .ok (.aload_n 3, 1) := dk_45 (dk_at dksL_law_83 21 rfl rfl)
theorem dL_law_2192 : decode cL_law 2192 = .ok (.invokestatic 307, 3) := dk_184 1 51 (dk_at dksL_law_84 0 rfl rfl)
theorem dL_law_2195 : decode cL_law 2195 = .ok (.istore 6, 2) := dk_54 6 (dk_at dksL_law_84 3 rfl rfl)
theorem dL_law_2197 : decode cL_law 2197 = .ok (.aload_n 2, 1) := dk_44 (dk_at dksL_law_84 5 rfl rfl)
theorem dL_law_2198 : decode cL_law 2198 = .ok (.aload_n 0, 1) := dk_42 (dk_at dksL_law_84 6 rfl rfl)
theorem dL_law_2199 : decode cL_law 2199 = .ok (.iload 5, 2) := dk_21 5 (dk_at dksL_law_84 7 rfl rfl)
theorem dL_law_2201 : decode cL_law 2201 = .ok (.iconst 1, 1) := dk_4 (dk_at dksL_law_84 9 rfl rfl)
theorem dL_law_2202 : decode cL_law 2202 = .ok (.iadd, 1) := dk_96 (dk_at dksL_law_84 10 rfl rfl)
theorem dL_law_2203 : decode cL_law 2203 = .ok (.iaload, 1) := dk_46 (dk_at dksL_law_84 11 rfl rfl)
theorem dL_law_2204 : decode cL_law 2204 = .ok (.invokevirtual 309, 3) := dk_182 1 53 (dk_at dksL_law_84 12 rfl rfl)
theorem dL_law_2207 : decode cL_law 2207 = .ok (.istore 7, 2) := dk_54 7 (dk_at dksL_law_84 15 rfl rfl)
theorem dL_law_2209 : decode cL_law 2209 = .ok (.aload_n 2, 1) := dk_44 (dk_at dksL_law_84 17 rfl rfl)
theorem dL_law_2210 : decode cL_law 2210 = .ok (.invokevirtual 205, 3) := dk_182 0 205 (dk_at dksL_law_84 18 rfl rfl)
theorem dL_law_2213 : decode cL_law 2213 = .ok (.iload 6, 2) := dk_21 6 (dk_at dksL_law_84 21 rfl rfl)
theorem dL_law_2215 : decode cL_law 2215 = .ok (.if_icmp .eq 5, 3) := dk_159 0 5 (dk_at dksL_law_85 0 rfl rfl)
theorem dL_law_2218 : decode cL_law 2218 = .ok (.iconst 0, 1) := dk_3 (dk_at dksL_law_85 3 rfl rfl)
theorem dL_law_2219 : decode cL_law 2219 = .ok (.ireturn, 1) := dk_172 (dk_at dksL_law_85 4 rfl rfl)
theorem dL_law_2220 : decode cL_law 2220 = .ok (.iload 6, 2) := dk_21 6 (dk_at dksL_law_85 5 rfl rfl)
theorem dL_law_2222 : decode cL_law 2222 = .ok (.ifCond .ne 15, 3) := dk_154 0 15 (dk_at dksL_law_85 7 rfl rfl)
theorem dL_law_2225 : decode cL_law 2225 = .ok (.aload_n 3, 1) := dk_45 (dk_at dksL_law_85 10 rfl rfl)
theorem dL_law_2226 : decode cL_law 2226 = .ok (.iconst 0, 1) := dk_3 (dk_at dksL_law_85 11 rfl rfl)
theorem dL_law_2227 : decode cL_law 2227 = .ok (.laload, 1) := dk_47 (dk_at dksL_law_85 12 rfl rfl)
theorem dL_law_2228 : decode cL_law 2228 = .ok (.iload 7, 2) := dk_21 7 (dk_at dksL_law_85 13 rfl rfl)
theorem dL_law_2230 : decode cL_law 2230 = .ok (.i2l, 1) := dk_133 (dk_at dksL_law_85 15 rfl rfl)
theorem dL_law_2231 : decode cL_law 2231 = .ok (.lcmp, 1) := dk_148 (dk_at dksL_law_85 16 rfl rfl)
theorem dL_law_2232 : decode cL_law 2232 = .ok (.ifCond .eq 5, 3) := dk_153 0 5 (dk_at dksL_law_85 17 rfl rfl)
theorem dL_law_2235 : decode cL_law 2235 = .ok (.iconst 0, 1) := dk_3 (dk_at dksL_law_85 20 rfl rfl)
theorem dL_law_2236 : decode cL_law 2236 = .ok (.ireturn, 1) := dk_172 (dk_at dksL_law_85 21 rfl rfl)
theorem dL_law_2237 : decode cL_law 2237 = .ok (.goto 1539, 3) := dk_167 6 3 (dk_at dksL_law_86 0 rfl rfl)
theorem dL_law_2240 : decode cL_law 2240 = .ok (.aload_n 1, 1) := dk_43 (dk_at dksL_law_86 3 rfl rfl)
theorem dL_law_2241 : decode cL_law 2241 = .ok (.aload_n 0, 1) := dk_42 (dk_at dksL_law_86 4 rfl rfl)
theorem dL_law_2242 : decode cL_law 2242 = .ok (.iload 5, 2) := dk_21 5 (dk_at dksL_law_86 5 rfl rfl)
theorem dL_law_2244 : decode cL_law 2244 = .ok (.iconst 1, 1) := dk_4 (dk_at dksL_law_86 7 rfl rfl)
theorem dL_law_2245 : decode cL_law 2245 = .ok (.iadd, 1) := dk_96 (dk_at dksL_law_86 8 rfl rfl)
theorem dL_law_2246 : decode cL_law 2246 = .ok (.iaload, 1) := dk_46 (dk_at dksL_law_86 9 rfl rfl)
theorem dL_law_2247 : decode cL_law 2247 = .ok (.aload_n 0, 1) := dk_42 (dk_at dksL_law_86 10 rfl rfl)
theorem dL_law_2248 : decode cL_law 2248 = .ok (.iload 5, 2) := dk_21 5 (dk_at dksL_law_86 11 rfl rfl)
theorem dL_law_2250 : decode cL_law 2250 = .ok (.iconst 2, 1) := dk_5 (dk_at dksL_law_86 13 rfl rfl)
theorem dL_law_2251 : decode cL_law 2251 = .ok (.iadd, 1) := dk_96 (dk_at dksL_law_86 14 rfl rfl)
theorem dL_law_2252 : decode cL_law 2252 = .ok (.iaload, 1) := dk_46 (dk_at dksL_law_86 15 rfl rfl)
theorem dL_law_2253 : decode cL_law 2253 = .ok (.aload_n 3, 1) := dk_45 (dk_at dksL_law_86 16 rfl rfl)
theorem dL_law_2254 : decode cL_law 2254 = .ok (.invokestatic 310, 3) := dk_184 1 54 (dk_at dksL_law_86 17 rfl rfl)
theorem dL_law_2257 : decode cL_law 2257 = .ok (.istore 6, 2) := dk_54 6 (dk_at dksL_law_86 20 rfl rfl)
theorem dL_law_2259 : decode cL_law 2259 = .ok (.aload_n 2, 1) := dk_44 (dk_at dksL_law_86 22 rfl rfl)
theorem dL_law_2260 : decode cL_law 2260 = .ok (.aload_n 0, 1) := dk_42 (dk_at dksL_law_86 23 rfl rfl)
theorem dL_law_2261 : decode cL_law 2261 = .ok (.iload 5, 2) := dk_21 5 (dk_at dksL_law_87 0 rfl rfl)
theorem dL_law_2263 : decode cL_law 2263 = .ok (.iconst 1, 1) := dk_4 (dk_at dksL_law_87 2 rfl rfl)
theorem dL_law_2264 : decode cL_law 2264 = .ok (.iadd, 1) := dk_96 (dk_at dksL_law_87 3 rfl rfl)
theorem dL_law_2265 : decode cL_law 2265 = .ok (.iaload, 1) := dk_46 (dk_at dksL_law_87 4 rfl rfl)
theorem dL_law_2266 : decode cL_law 2266 = .ok (.aload_n 0, 1) := dk_42 (dk_at dksL_law_87 5 rfl rfl)
theorem dL_law_2267 : decode cL_law 2267 = .ok (.iload 5, 2) := dk_21 5 (dk_at dksL_law_87 6 rfl rfl)
theorem dL_law_2269 : decode cL_law 2269 = .ok (.iconst 2, 1) := dk_5 (dk_at dksL_law_87 8 rfl rfl)
theorem dL_law_2270 : decode cL_law 2270 = .ok (.iadd, 1) := dk_96 (dk_at dksL_law_87 9 rfl rfl)
theorem dL_law_2271 : decode cL_law 2271 = .ok (.iaload, 1) := dk_46 (dk_at dksL_law_87 10 rfl rfl)
theorem dL_law_2272 : decode cL_law 2272 = .ok (.invokevirtual 312, 3) := dk_182 1 56 (dk_at dksL_law_87 11 rfl rfl)
theorem dL_law_2275 : decode cL_law 2275 = .ok (.istore 7, 2) := dk_54 7 (dk_at dksL_law_87 14 rfl rfl)
theorem dL_law_2277 : decode cL_law 2277 = .ok (.aload_n 2, 1) := dk_44 (dk_at dksL_law_87 16 rfl rfl)
theorem dL_law_2278 : decode cL_law 2278 = .ok (.invokevirtual 205, 3) := dk_182 0 205 (dk_at dksL_law_87 17 rfl rfl)
theorem dL_law_2281 : decode cL_law 2281 = .ok (.iload 6, 2) := dk_21 6 (dk_at dksL_law_87 20 rfl rfl)
theorem dL_law_2283 : decode cL_law 2283 = .ok (.if_icmp .eq 5, 3) := dk_159 0 5 (dk_at dksL_law_88 0 rfl rfl)
theorem dL_law_2286 : decode cL_law 2286 = .ok (.iconst 0, 1) := dk_3 (dk_at dksL_law_88 3 rfl rfl)
theorem dL_law_2287 : decode cL_law 2287 = .ok (.ireturn, 1) := dk_172 (dk_at dksL_law_88 4 rfl rfl)
theorem dL_law_2288 : decode cL_law 2288 = .ok (.iload 6, 2) := dk_21 6 (dk_at dksL_law_88 5 rfl rfl)
theorem dL_law_2290 : decode cL_law 2290 = .ok (.ifCond .ne 15, 3) := dk_154 0 15 (dk_at dksL_law_88 7 rfl rfl)
theorem dL_law_2293 : decode cL_law 2293 = .ok (.aload_n 3, 1) := dk_45 (dk_at dksL_law_88 10 rfl rfl)
theorem dL_law_2294 : decode cL_law 2294 = .ok (.iconst 0, 1) := dk_3 (dk_at dksL_law_88 11 rfl rfl)
theorem dL_law_2295 : decode cL_law 2295 = .ok (.laload, 1) := dk_47 (dk_at dksL_law_88 12 rfl rfl)
theorem dL_law_2296 : decode cL_law 2296 = .ok (.iload 7, 2) := dk_21 7 (dk_at dksL_law_88 13 rfl rfl)
theorem dL_law_2298 : decode cL_law 2298 = .ok (.i2l, 1) := dk_133 (dk_at dksL_law_88 15 rfl rfl)
theorem dL_law_2299 : decode cL_law 2299 = .ok (.lcmp, 1) := dk_148 (dk_at dksL_law_88 16 rfl rfl)
theorem dL_law_2300 : decode cL_law 2300 = .ok (.ifCond .eq 5, 3) := dk_153 0 5 (dk_at dksL_law_88 17 rfl rfl)
theorem dL_law_2303 : decode cL_law 2303 = .ok (.iconst 0, 1) := dk_3 (dk_at dksL_law_88 20 rfl rfl)
theorem dL_law_2304 : decode cL_law 2304 = .ok (.ireturn, 1) := dk_172 (dk_at dksL_law_88 21 rfl rfl)
theorem dL_law_2305 : decode cL_law 2305 = .ok (.goto 1471, 3) := dk_167 5 191 (dk_at dksL_law_89 0 rfl rfl)
theorem dL_law_2308 : decode cL_law 2308 = .ok (.aload_n 1, 1) := dk_43 (dk_at dksL_law_89 3 rfl rfl)
theorem dL_law_2309 : decode cL_law 2309 = .ok (.aload_n 0, 1) := dk_42 (dk_at dksL_law_89 4 rfl rfl)
theorem dL_law_2310 : decode cL_law 2310 = .ok (.iload 5, 2) := dk_21 5 (dk_at dksL_law_89 5 rfl rfl)
theorem dL_law_2312 : decode cL_law 2312 = .ok (.iconst 1, 1) := dk_4 (dk_at dksL_law_89 7 rfl rfl)
theorem dL_law_2313 : decode cL_law 2313 = .ok (.iadd, 1) := dk_96 (dk_at dksL_law_89 8 rfl rfl)
theorem dL_law_2314 : decode cL_law 2314 = .ok (.iaload, 1) := dk_46 (dk_at dksL_law_89 9 rfl rfl)
theorem dL_law_2315 : decode cL_law 2315 = .ok (.aload_n 3, 1) := dk_45 (dk_at dksL_law_89 10 rfl rfl)
theorem dL_law_2316 : decode cL_law 2316 = .ok (.invokestatic 313, 3) := dk_184 1 57 (dk_at dksL_law_89 11 rfl rfl)
theorem dL_law_2319 : decode cL_law 2319 = .ok (.istore 6, 2) := dk_54 6 (dk_at dksL_law_89 14 rfl rfl)
theorem dL_law_2321 : decode cL_law 2321 = .ok (.aload_n 2, 1) := dk_44 (dk_at dksL_law_89 16 rfl rfl)
theorem dL_law_2322 : decode cL_law 2322 = .ok (.aload_n 0, 1) := dk_42 (dk_at dksL_law_89 17 rfl rfl)
theorem dL_law_2323 : decode cL_law 2323 = .ok (.iload 5, 2) := dk_21 5 (dk_at dksL_law_89 18 rfl rfl)
theorem dL_law_2325 : decode cL_law 2325 = .ok (.iconst 1, 1) := dk_4 (dk_at dksL_law_89 20 rfl rfl)
theorem dL_law_2326 : decode cL_law 2326 = .ok (.iadd, 1) := dk_96 (dk_at dksL_law_89 21 rfl rfl)
theorem dL_law_2327 : decode cL_law 2327 = .ok (.iaload, 1) := dk_46 (dk_at dksL_law_89 22 rfl rfl)
theorem dL_law_2328 : decode cL_law 2328 = .ok (.invokevirtual 315, 3) := dk_182 1 59 (dk_at dksL_law_90 0 rfl rfl)
theorem dL_law_2331 : decode cL_law 2331 = .ok (.istore 7, 2) := dk_54 7 (dk_at dksL_law_90 3 rfl rfl)
theorem dL_law_2333 : decode cL_law 2333 = .ok (.aload_n 2, 1) := dk_44 (dk_at dksL_law_90 5 rfl rfl)
theorem dL_law_2334 : decode cL_law 2334 = .ok (.invokevirtual 205, 3) := dk_182 0 205 (dk_at dksL_law_90 6 rfl rfl)
theorem dL_law_2337 : decode cL_law 2337 = .ok (.iload 6, 2) := dk_21 6 (dk_at dksL_law_90 9 rfl rfl)
theorem dL_law_2339 : decode cL_law 2339 = .ok (.if_icmp .eq 5, 3) := dk_159 0 5 (dk_at dksL_law_90 11 rfl rfl)
theorem dL_law_2342 : decode cL_law 2342 = .ok (.iconst 0, 1) := dk_3 (dk_at dksL_law_90 14 rfl rfl)
theorem dL_law_2343 : decode cL_law 2343 = .ok (.ireturn, 1) := dk_172 (dk_at dksL_law_90 15 rfl rfl)
theorem dL_law_2344 : decode cL_law 2344 = .ok (.iload 6, 2) := dk_21 6 (dk_at dksL_law_90 16 rfl rfl)
theorem dL_law_2346 : decode cL_law 2346 = .ok (.ifCond .ne 15, 3) := dk_154 0 15 (dk_at dksL_law_90 18 rfl rfl)
theorem dL_law_2349 : decode cL_law 2349 = .ok (.aload_n 3, 1) := dk_45 (dk_at dksL_law_90 21 rfl rfl)
theorem dL_law_2350 : decode cL_law 2350 = .ok (.iconst 0, 1) := dk_3 (dk_at dksL_law_90 22 rfl rfl)
theorem dL_law_2351 : decode cL_law 2351 = .ok (.laload, 1) := dk_47 (dk_at dksL_law_90 23 rfl rfl)
theorem dL_law_2352 : decode cL_law 2352 = .ok (.iload 7, 2) := dk_21 7 (dk_at dksL_law_91 0 rfl rfl)
theorem dL_law_2354 : decode cL_law 2354 = .ok (.i2l, 1) := dk_133 (dk_at dksL_law_91 2 rfl rfl)
theorem dL_law_2355 : decode cL_law 2355 = .ok (.lcmp, 1) := dk_148 (dk_at dksL_law_91 3 rfl rfl)
theorem dL_law_2356 : decode cL_law 2356 = .ok (.ifCond .eq 5, 3) := dk_153 0 5 (dk_at dksL_law_91 4 rfl rfl)
theorem dL_law_2359 : decode cL_law 2359 = .ok (.iconst 0, 1) := dk_3 (dk_at dksL_law_91 7 rfl rfl)
theorem dL_law_2360 : decode cL_law 2360 = .ok (.ireturn, 1) := dk_172 (dk_at dksL_law_91 8 rfl rfl)
theorem dL_law_2361 : decode cL_law 2361 = .ok (.goto 1415, 3) := dk_167 5 135 (dk_at dksL_law_91 9 rfl rfl)
theorem dL_law_2364 : decode cL_law 2364 = .ok (.aload_n 1, 1) := dk_43 (dk_at dksL_law_91 12 rfl rfl)
theorem dL_law_2365 : decode cL_law 2365 = .ok (.aload_n 3, 1) := dk_45 (dk_at dksL_law_91 13 rfl rfl)
theorem dL_law_2366 : decode cL_law 2366 = .ok (.invokestatic 316, 3) := dk_184 1 60 (dk_at dksL_law_91 14 rfl rfl)
theorem dL_law_2369 : decode cL_law 2369 = .ok (.istore 6, 2) := dk_54 6 (dk_at dksL_law_91 17 rfl rfl)
theorem dL_law_2371 : decode cL_law 2371 = .ok (.aload_n 2, 1) := dk_44 (dk_at dksL_law_91 19 rfl rfl)
theorem dL_law_2372 : decode cL_law 2372 = .ok (.invokevirtual 318, 3) := dk_182 1 62 (dk_at dksL_law_91 20 rfl rfl)
theorem dL_law_2375 : decode cL_law 2375 = .ok (.istore 7, 2) := dk_54 7 (dk_at dksL_law_92 0 rfl rfl)
theorem dL_law_2377 : decode cL_law 2377 = .ok (.aload_n 2, 1) := dk_44 (dk_at dksL_law_92 2 rfl rfl)
theorem dL_law_2378 : decode cL_law 2378 = .ok (.invokevirtual 205, 3) := dk_182 0 205 (dk_at dksL_law_92 3 rfl rfl)
theorem dL_law_2381 : decode cL_law 2381 = .ok (.iload 6, 2) := dk_21 6 (dk_at dksL_law_92 6 rfl rfl)
theorem dL_law_2383 : decode cL_law 2383 = .ok (.if_icmp .eq 5, 3) := dk_159 0 5 (dk_at dksL_law_92 8 rfl rfl)
theorem dL_law_2386 : decode cL_law 2386 = .ok (.iconst 0, 1) := dk_3 (dk_at dksL_law_92 11 rfl rfl)
theorem dL_law_2387 : decode cL_law 2387 = .ok (.ireturn, 1) := dk_172 (dk_at dksL_law_92 12 rfl rfl)
theorem dL_law_2388 : decode cL_law 2388 = .ok (.iload 6, 2) := dk_21 6 (dk_at dksL_law_92 13 rfl rfl)
theorem dL_law_2390 : decode cL_law 2390 = .ok (.ifCond .ne 15, 3) := dk_154 0 15 (dk_at dksL_law_92 15 rfl rfl)
theorem dL_law_2393 : decode cL_law 2393 = .ok (.aload_n 3, 1) := dk_45 (dk_at dksL_law_92 18 rfl rfl)
theorem dL_law_2394 : decode cL_law 2394 = .ok (.iconst 0, 1) := dk_3 (dk_at dksL_law_92 19 rfl rfl)
theorem dL_law_2395 : decode cL_law 2395 = .ok (.laload, 1) := dk_47 (dk_at dksL_law_92 20 rfl rfl)
theorem dL_law_2396 : decode cL_law 2396 = .ok (.iload 7, 2) := dk_21 7 (dk_at dksL_law_92 21 rfl rfl)
theorem dL_law_2398 : decode cL_law 2398 = .ok (.i2l, 1) := dk_133 (dk_at dksL_law_92 23 rfl rfl)
theorem dL_law_2399 : decode cL_law 2399 = .ok (.lcmp, 1) := dk_148 (dk_at dksL_law_93 0 rfl rfl)
theorem dL_law_2400 : decode cL_law 2400 = .ok (.ifCond .eq 5, 3) := dk_153 0 5 (dk_at dksL_law_93 1 rfl rfl)
theorem dL_law_2403 : decode cL_law 2403 = .ok (.iconst 0, 1) := dk_3 (dk_at dksL_law_93 4 rfl rfl)
theorem dL_law_2404 : decode cL_law 2404 = .ok (.ireturn, 1) := dk_172 (dk_at dksL_law_93 5 rfl rfl)
theorem dL_law_2405 : decode cL_law 2405 = .ok (.goto 1371, 3) := dk_167 5 91 (dk_at dksL_law_93 6 rfl rfl)
theorem dL_law_2408 : decode cL_law 2408 = .ok (.aload_n 1, 1) := dk_43 (dk_at dksL_law_93 9 rfl rfl)
theorem dL_law_2409 : decode cL_law 2409 = .ok (.aload_n 0, 1) := dk_42 (dk_at dksL_law_93 10 rfl rfl)
theorem dL_law_2410 : decode cL_law 2410 = .ok (.iload 5, 2) := dk_21 5 (dk_at dksL_law_93 11 rfl rfl)
theorem dL_law_2412 : decode cL_law 2412 = .ok (.iconst 1, 1) := dk_4 (dk_at dksL_law_93 13 rfl rfl)
theorem dL_law_2413 : decode cL_law 2413 = .ok (.iadd, 1) := dk_96 (dk_at dksL_law_93 14 rfl rfl)
theorem dL_law_2414 : decode cL_law 2414 = .ok (.iaload, 1) := dk_46 (dk_at dksL_law_93 15 rfl rfl)
theorem dL_law_2415 : decode cL_law 2415 = .ok (.aload_n 0, 1) := dk_42 (dk_at dksL_law_93 16 rfl rfl)
theorem dL_law_2416 : decode cL_law 2416 = .ok (.iload 5, 2) := dk_21 5 (dk_at dksL_law_93 17 rfl rfl)
theorem dL_law_2418 : decode cL_law 2418 = .ok (.iconst 2, 1) := dk_5 (dk_at dksL_law_93 19 rfl rfl)
theorem dL_law_2419 : decode cL_law 2419 = .ok (.iadd, 1) := dk_96 (dk_at dksL_law_93 20 rfl rfl)
theorem dL_law_2420 : decode cL_law 2420 = .ok (.iaload, 1) := dk_46 (dk_at dksL_law_93 21 rfl rfl)
theorem dL_law_2421 : decode cL_law 2421 = .ok (.aload_n 3, 1) := dk_45 (dk_at dksL_law_93 22 rfl rfl)
theorem dL_law_2422 : decode cL_law 2422 = .ok (.invokestatic 319, 3) := dk_184 1 63 (dk_at dksL_law_94 0 rfl rfl)
theorem dL_law_2425 : decode cL_law 2425 = .ok (.istore 6, 2) := dk_54 6 (dk_at dksL_law_94 3 rfl rfl)
theorem dL_law_2427 : decode cL_law 2427 = .ok (.aload_n 2, 1) := dk_44 (dk_at dksL_law_94 5 rfl rfl)
theorem dL_law_2428 : decode cL_law 2428 = .ok (.aload_n 0, 1) := dk_42 (dk_at dksL_law_94 6 rfl rfl)
theorem dL_law_2429 : decode cL_law 2429 = .ok (.iload 5, 2) := dk_21 5 (dk_at dksL_law_94 7 rfl rfl)
theorem dL_law_2431 : decode cL_law 2431 = .ok (.iconst 1, 1) := dk_4 (dk_at dksL_law_94 9 rfl rfl)
theorem dL_law_2432 : decode cL_law 2432 = .ok (.iadd, 1) := dk_96 (dk_at dksL_law_94 10 rfl rfl)
theorem dL_law_2433 : decode cL_law 2433 = .ok (.iaload, 1) := dk_46 (dk_at dksL_law_94 11 rfl rfl)
theorem dL_law_2434 : decode cL_law 2434 = .ok (.aload_n 0, 1) := dk_42 (dk_at dksL_law_94 12 rfl rfl)
theorem dL_law_2435 : decode cL_law 2435 = .ok (.iload 5, 2) := dk_21 5 (dk_at dksL_law_94 13 rfl rfl)
theorem dL_law_2437 : decode cL_law 2437 = .ok (.iconst 2, 1) := dk_5 (dk_at dksL_law_94 15 rfl rfl)
theorem dL_law_2438 : decode cL_law 2438 = .ok (.iadd, 1) := dk_96 (dk_at dksL_law_94 16 rfl rfl)
theorem dL_law_2439 : decode cL_law 2439 = .ok (.iaload, 1) := dk_46 (dk_at dksL_law_94 17 rfl rfl)
theorem dL_law_2440 : decode cL_law 2440 = .ok (.invokevirtual 321, 3) := dk_182 1 65 (dk_at dksL_law_94 18 rfl rfl)
theorem dL_law_2443 : decode cL_law 2443 = .ok (.istore 7, 2) := dk_54 7 (dk_at dksL_law_94 21 rfl rfl)
theorem dL_law_2445 : decode cL_law 2445 = .ok (.aload_n 2, 1) := dk_44 (dk_at dksL_law_94 23 rfl rfl)
theorem dL_law_2446 : decode cL_law 2446 = .ok (.invokevirtual 205, 3) := dk_182 0 205 (dk_at dksL_law_95 0 rfl rfl)
theorem dL_law_2449 : decode cL_law 2449 = .ok (.iload 6, 2) := dk_21 6 (dk_at dksL_law_95 3 rfl rfl)
theorem dL_law_2451 : decode cL_law 2451 = .ok (.if_icmp .eq 5, 3) := dk_159 0 5 (dk_at dksL_law_95 5 rfl rfl)
theorem dL_law_2454 : decode cL_law 2454 = .ok (.iconst 0, 1) := dk_3 (dk_at dksL_law_95 8 rfl rfl)
theorem dL_law_2455 : decode cL_law 2455 = .ok (.ireturn, 1) := dk_172 (dk_at dksL_law_95 9 rfl rfl)
theorem dL_law_2456 : decode cL_law 2456 = .ok (.iload 6, 2) := dk_21 6 (dk_at dksL_law_95 10 rfl rfl)
theorem dL_law_2458 : decode cL_law 2458 = .ok (.ifCond .ne 15, 3) := dk_154 0 15 (dk_at dksL_law_95 12 rfl rfl)
theorem dL_law_2461 : decode cL_law 2461 = .ok (.aload_n 3, 1) := dk_45 (dk_at dksL_law_95 15 rfl rfl)
theorem dL_law_2462 : decode cL_law 2462 = .ok (.iconst 0, 1) := dk_3 (dk_at dksL_law_95 16 rfl rfl)
theorem dL_law_2463 : decode cL_law 2463 = .ok (.laload, 1) := dk_47 (dk_at dksL_law_95 17 rfl rfl)
theorem dL_law_2464 : decode cL_law 2464 = .ok (.iload 7, 2) := dk_21 7 (dk_at dksL_law_95 18 rfl rfl)
theorem dL_law_2466 : decode cL_law 2466 = .ok (.i2l, 1) := dk_133 (dk_at dksL_law_95 20 rfl rfl)
theorem dL_law_2467 : decode cL_law 2467 = .ok (.lcmp, 1) := dk_148 (dk_at dksL_law_95 21 rfl rfl)
theorem dL_law_2468 : decode cL_law 2468 = .ok (.ifCond .eq 5, 3) := dk_153 0 5 (dk_at dksL_law_96 0 rfl rfl)
theorem dL_law_2471 : decode cL_law 2471 = .ok (.iconst 0, 1) := dk_3 (dk_at dksL_law_96 3 rfl rfl)
theorem dL_law_2472 : decode cL_law 2472 = .ok (.ireturn, 1) := dk_172 (dk_at dksL_law_96 4 rfl rfl)
theorem dL_law_2473 : decode cL_law 2473 = .ok (.goto 1303, 3) := dk_167 5 23 (dk_at dksL_law_96 5 rfl rfl)
theorem dL_law_2476 : decode cL_law 2476 = .ok (.aload_n 1, 1) := dk_43 (dk_at dksL_law_96 8 rfl rfl)
theorem dL_law_2477 : decode cL_law 2477 = .ok (.aload 4, 2) := dk_25 4 (dk_at dksL_law_96 9 rfl rfl)
theorem dL_law_2479 : decode cL_law 2479 = .ok (.invokestatic 322, 3) := dk_184 1 66 (dk_at dksL_law_96 11 rfl rfl)
theorem dL_law_2482 : decode cL_law 2482 = .ok (.istore 6, 2) := dk_54 6 (dk_at dksL_law_96 14 rfl rfl)
theorem dL_law_2484 : decode cL_law 2484 = .ok (.aload_n 2, 1) := dk_44 (dk_at dksL_law_96 16 rfl rfl)
theorem dL_law_2485 : decode cL_law 2485 = .ok (.invokevirtual 325, 3) := dk_182 1 69 (dk_at dksL_law_96 17 rfl rfl)
theorem dL_law_2488 : decode cL_law 2488 = .ok (.fstore 7, 2) := dk_56 7 (dk_at dksL_law_96 20 rfl rfl)
theorem dL_law_2490 : decode cL_law 2490 = .ok (.aload_n 2, 1) := dk_44 (dk_at dksL_law_96 22 rfl rfl)
theorem dL_law_2491 : decode cL_law 2491 = .ok (.invokevirtual 205, 3) := dk_182 0 205 (dk_at dksL_law_97 0 rfl rfl)
theorem dL_law_2494 : decode cL_law 2494 = .ok (.iload 6, 2) := dk_21 6 (dk_at dksL_law_97 3 rfl rfl)
theorem dL_law_2496 : decode cL_law 2496 = .ok (.if_icmp .eq 5, 3) := dk_159 0 5 (dk_at dksL_law_97 5 rfl rfl)
theorem dL_law_2499 : decode cL_law 2499 = .ok (.iconst 0, 1) := dk_3 (dk_at dksL_law_97 8 rfl rfl)
theorem dL_law_2500 : decode cL_law 2500 = .ok (.ireturn, 1) := dk_172 (dk_at dksL_law_97 9 rfl rfl)
theorem dL_law_2501 : decode cL_law 2501 = .ok (.iload 6, 2) := dk_21 6 (dk_at dksL_law_97 10 rfl rfl)
theorem dL_law_2503 : decode cL_law 2503 = .ok (.ifCond .ne 36, 3) := dk_154 0 36 (dk_at dksL_law_97 12 rfl rfl)
theorem dL_law_2506 : decode cL_law 2506 = .ok (.aload 4, 2) := dk_25 4 (dk_at dksL_law_97 15 rfl rfl)
theorem dL_law_2508 : decode cL_law 2508 = .ok (.iconst 0, 1) := dk_3 (dk_at dksL_law_97 17 rfl rfl)
theorem dL_law_2509 : decode cL_law 2509 = .ok (.daload, 1) := dk_49 (dk_at dksL_law_97 18 rfl rfl)
theorem dL_law_2510 : decode cL_law 2510 = .ok (.fload 7, 2) := dk_23 7 (dk_at dksL_law_97 19 rfl rfl)
theorem dL_law_2512 : decode cL_law 2512 = .ok (.f2d, 1) := dk_141 (dk_at dksL_law_97 21 rfl rfl)
theorem dL_law_2513 : decode cL_law 2513 = .ok (.dcmp .l, 1) := dk_151 (dk_at dksL_law_97 22 rfl rfl)
theorem dL_law_2514 : decode cL_law 2514 = .ok (.ifCond .eq 25, 3) := dk_153 0 25 (dk_at dksL_law_98 0 rfl rfl)
theorem dL_law_2517 : decode cL_law 2517 = .ok (.aload 4, 2) := dk_25 4 (dk_at dksL_law_98 3 rfl rfl)
theorem dL_law_2519 : decode cL_law 2519 = .ok (.iconst 0, 1) := dk_3 (dk_at dksL_law_98 5 rfl rfl)
theorem dL_law_2520 : decode cL_law 2520 = .ok (.daload, 1) := dk_49 (dk_at dksL_law_98 6 rfl rfl)
theorem dL_law_2521 : decode cL_law 2521 = .ok (.aload 4, 2) := dk_25 4 (dk_at dksL_law_98 7 rfl rfl)
theorem dL_law_2523 : decode cL_law 2523 = .ok (.iconst 0, 1) := dk_3 (dk_at dksL_law_98 9 rfl rfl)
theorem dL_law_2524 : decode cL_law 2524 = .ok (.daload, 1) := dk_49 (dk_at dksL_law_98 10 rfl rfl)
theorem dL_law_2525 : decode cL_law 2525 = .ok (.dcmp .l, 1) := dk_151 (dk_at dksL_law_98 11 rfl rfl)
theorem dL_law_2526 : decode cL_law 2526 = .ok (.ifCond .eq 11, 3) := dk_153 0 11 (dk_at dksL_law_98 12 rfl rfl)
theorem dL_law_2529 : decode cL_law 2529 = .ok (.fload 7, 2) := dk_23 7 (dk_at dksL_law_98 15 rfl rfl)
theorem dL_law_2531 : decode cL_law 2531 = .ok (.fload 7, 2) := dk_23 7 (dk_at dksL_law_98 17 rfl rfl)
theorem dL_law_2533 : decode cL_law 2533 = .ok (.fcmp .l, 1) := dk_149 (dk_at dksL_law_98 19 rfl rfl)
theorem dL_law_2534 : decode cL_law 2534 = .ok (.ifCond .ne 5, 3) := dk_154 0 5 (dk_at dksL_law_98 20 rfl rfl)
theorem dL_law_2537 : decode cL_law 2537 = .ok (.iconst 0, 1) := dk_3 (dk_at dksL_law_98 23 rfl rfl)
theorem dL_law_2538 : decode cL_law 2538 = .ok (.ireturn, 1) := dk_172 (dk_at dksL_law_99 0 rfl rfl)
theorem dL_law_2539 : decode cL_law 2539 = .ok (.goto 1237, 3) := dk_167 4 213 (dk_at dksL_law_99 1 rfl rfl)
theorem dL_law_2542 : decode cL_law 2542 = .ok (.aload_n 1, 1) := dk_43 (dk_at dksL_law_99 4 rfl rfl)
theorem dL_law_2543 : decode cL_law 2543 = .ok (.aload 4, 2) := dk_25 4 (dk_at dksL_law_99 5 rfl rfl)
theorem dL_law_2545 : decode cL_law 2545 = .ok (.invokestatic 326, 3) := dk_184 1 70 (dk_at dksL_law_99 7 rfl rfl)
theorem dL_law_2548 : decode cL_law 2548 = .ok (.istore 6, 2) := dk_54 6 (dk_at dksL_law_99 10 rfl rfl)
theorem dL_law_2550 : decode cL_law 2550 = .ok (.aload_n 2, 1) := dk_44 (dk_at dksL_law_99 12 rfl rfl)
theorem dL_law_2551 : decode cL_law 2551 = .ok (.invokevirtual 328, 3) := dk_182 1 72 (dk_at dksL_law_99 13 rfl rfl)
theorem dL_law_2554 : decode cL_law 2554 = .ok (.dstore 7, 2) := dk_57 7 (dk_at dksL_law_99 16 rfl rfl)
theorem dL_law_2556 : decode cL_law 2556 = .ok (.aload_n 2, 1) := dk_44 (dk_at dksL_law_99 18 rfl rfl)
theorem dL_law_2557 : decode cL_law 2557 = .ok (.invokevirtual 205, 3) := dk_182 0 205 (dk_at dksL_law_99 19 rfl rfl)
theorem dL_law_2560 : decode cL_law 2560 = .ok (.iload 6, 2) := dk_21 6 (dk_at dksL_law_99 22 rfl rfl)
theorem dL_law_2562 : decode cL_law 2562 = .ok (.if_icmp .eq 5, 3) := dk_159 0 5 (dk_at dksL_law_100 0 rfl rfl)
theorem dL_law_2565 : decode cL_law 2565 = .ok (.iconst 0, 1) := dk_3 (dk_at dksL_law_100 3 rfl rfl)
theorem dL_law_2566 : decode cL_law 2566 = .ok (.ireturn, 1) := dk_172 (dk_at dksL_law_100 4 rfl rfl)
theorem dL_law_2567 : decode cL_law 2567 = .ok (.iload 6, 2) := dk_21 6 (dk_at dksL_law_100 5 rfl rfl)
theorem dL_law_2569 : decode cL_law 2569 = .ok (.ifCond .ne 35, 3) := dk_154 0 35 (dk_at dksL_law_100 7 rfl rfl)
theorem dL_law_2572 : decode cL_law 2572 = .ok (.aload 4, 2) := dk_25 4 (dk_at dksL_law_100 10 rfl rfl)
theorem dL_law_2574 : decode cL_law 2574 = .ok (.iconst 0, 1) := dk_3 (dk_at dksL_law_100 12 rfl rfl)
theorem dL_law_2575 : decode cL_law 2575 = .ok (.daload, 1) := dk_49 (dk_at dksL_law_100 13 rfl rfl)
theorem dL_law_2576 : decode cL_law 2576 = .ok (.dload 7, 2) := dk_24 7 (dk_at dksL_law_100 14 rfl rfl)
theorem dL_law_2578 : decode cL_law 2578 = .ok (.dcmp .l, 1) := dk_151 (dk_at dksL_law_100 16 rfl rfl)
theorem dL_law_2579 : decode cL_law 2579 = .ok (.ifCond .eq 25, 3) := dk_153 0 25 (dk_at dksL_law_100 17 rfl rfl)
theorem dL_law_2582 : decode cL_law 2582 = .ok (.aload 4, 2) := dk_25 4 (dk_at dksL_law_100 20 rfl rfl)
theorem dL_law_2584 : decode cL_law 2584 = .ok (.iconst 0, 1) := dk_3 (dk_at dksL_law_100 22 rfl rfl)
theorem dL_law_2585 : decode cL_law 2585 = .ok (.daload, 1) := dk_49 (dk_at dksL_law_100 23 rfl rfl)
theorem dL_law_2586 : decode cL_law 2586 = .ok (.aload 4, 2) := dk_25 4 (dk_at dksL_law_101 0 rfl rfl)
theorem dL_law_2588 : decode cL_law 2588 = .ok (.iconst 0, 1) := dk_3 (dk_at dksL_law_101 2 rfl rfl)
theorem dL_law_2589 : decode cL_law 2589 = .ok (.daload, 1) := dk_49 (dk_at dksL_law_101 3 rfl rfl)
theorem dL_law_2590 : decode cL_law 2590 = .ok (.dcmp .l, 1) := dk_151 (dk_at dksL_law_101 4 rfl rfl)
theorem dL_law_2591 : decode cL_law 2591 = .ok (.ifCond .eq 11, 3) := dk_153 0 11 (dk_at dksL_law_101 5 rfl rfl)
theorem dL_law_2594 : decode cL_law 2594 = .ok (.dload 7, 2) := dk_24 7 (dk_at dksL_law_101 8 rfl rfl)
theorem dL_law_2596 : decode cL_law 2596 = .ok (.dload 7, 2) := dk_24 7 (dk_at dksL_law_101 10 rfl rfl)
theorem dL_law_2598 : decode cL_law 2598 = .ok (.dcmp .l, 1) := dk_151 (dk_at dksL_law_101 12 rfl rfl)
theorem dL_law_2599 : decode cL_law 2599 = .ok (.ifCond .ne 5, 3) := dk_154 0 5 (dk_at dksL_law_101 13 rfl rfl)
theorem dL_law_2602 : decode cL_law 2602 = .ok (.iconst 0, 1) := dk_3 (dk_at dksL_law_101 16 rfl rfl)
theorem dL_law_2603 : decode cL_law 2603 = .ok (.ireturn, 1) := dk_172 (dk_at dksL_law_101 17 rfl rfl)
theorem dL_law_2604 : decode cL_law 2604 = .ok (.goto 1172, 3) := dk_167 4 148 (dk_at dksL_law_101 18 rfl rfl)
theorem dL_law_2607 : decode cL_law 2607 = .ok (.aload_n 1, 1) := dk_43 (dk_at dksL_law_101 21 rfl rfl)
theorem dL_law_2608 : decode cL_law 2608 = .ok (.aload_n 0, 1) := dk_42 (dk_at dksL_law_101 22 rfl rfl)
theorem dL_law_2609 : decode cL_law 2609 = .ok (.iload 5, 2) := dk_21 5 (dk_at dksL_law_102 0 rfl rfl)
theorem dL_law_2611 : decode cL_law 2611 = .ok (.iconst 1, 1) := dk_4 (dk_at dksL_law_102 2 rfl rfl)
theorem dL_law_2612 : decode cL_law 2612 = .ok (.iadd, 1) := dk_96 (dk_at dksL_law_102 3 rfl rfl)
theorem dL_law_2613 : decode cL_law 2613 = .ok (.iaload, 1) := dk_46 (dk_at dksL_law_102 4 rfl rfl)
theorem dL_law_2614 : decode cL_law 2614 = .ok (.aload_n 3, 1) := dk_45 (dk_at dksL_law_102 5 rfl rfl)
theorem dL_law_2615 : decode cL_law 2615 = .ok (.invokestatic 329, 3) := dk_184 1 73 (dk_at dksL_law_102 6 rfl rfl)
theorem dL_law_2618 : decode cL_law 2618 = .ok (.istore 6, 2) := dk_54 6 (dk_at dksL_law_102 9 rfl rfl)
theorem dL_law_2620 : decode cL_law 2620 = .ok (.aload_n 2, 1) := dk_44 (dk_at dksL_law_102 11 rfl rfl)
theorem dL_law_2621 : decode cL_law 2621 = .ok (.aload_n 0, 1) := dk_42 (dk_at dksL_law_102 12 rfl rfl)
theorem dL_law_2622 : decode cL_law 2622 = .ok (.iload 5, 2) := dk_21 5 (dk_at dksL_law_102 13 rfl rfl)
theorem dL_law_2624 : decode cL_law 2624 = .ok (.iconst 1, 1) := dk_4 (dk_at dksL_law_102 15 rfl rfl)
theorem dL_law_2625 : decode cL_law 2625 = .ok (.iadd, 1) := dk_96 (dk_at dksL_law_102 16 rfl rfl)
theorem dL_law_2626 : decode cL_law 2626 = .ok (.iaload, 1) := dk_46 (dk_at dksL_law_102 17 rfl rfl)
theorem dL_law_2627 : decode cL_law 2627 = .ok (.invokevirtual 331, 3) := dk_182 1 75 (dk_at dksL_law_102 18 rfl rfl)
theorem dL_law_2630 : decode cL_law 2630 = .ok (.istore 7, 2) := dk_54 7 (dk_at dksL_law_102 21 rfl rfl)
theorem dL_law_2632 : decode cL_law 2632 = .ok (.aload_n 2, 1) := dk_44 (dk_at dksL_law_102 23 rfl rfl)
theorem dL_law_2633 : decode cL_law 2633 = .ok (.invokevirtual 205, 3) := dk_182 0 205 (dk_at dksL_law_103 0 rfl rfl)
theorem dL_law_2636 : decode cL_law 2636 = .ok (.iload 6, 2) := dk_21 6 (dk_at dksL_law_103 3 rfl rfl)
theorem dL_law_2638 : decode cL_law 2638 = .ok (.if_icmp .eq 5, 3) := dk_159 0 5 (dk_at dksL_law_103 5 rfl rfl)
theorem dL_law_2641 : decode cL_law 2641 = .ok (.iconst 0, 1) := dk_3 (dk_at dksL_law_103 8 rfl rfl)
theorem dL_law_2642 : decode cL_law 2642 = .ok (.ireturn, 1) := dk_172 (dk_at dksL_law_103 9 rfl rfl)
theorem dL_law_2643 : decode cL_law 2643 = .ok (.iload 6, 2) := dk_21 6 (dk_at dksL_law_103 10 rfl rfl)
theorem dL_law_2645 : decode cL_law 2645 = .ok (.ifCond .ne 15, 3) := dk_154 0 15 (dk_at dksL_law_103 12 rfl rfl)
theorem dL_law_2648 : decode cL_law 2648 = .ok (.aload_n 3, 1) := dk_45 (dk_at dksL_law_103 15 rfl rfl)
theorem dL_law_2649 : decode cL_law 2649 = .ok (.iconst 0, 1) := dk_3 (dk_at dksL_law_103 16 rfl rfl)
theorem dL_law_2650 : decode cL_law 2650 = .ok (.laload, 1) := dk_47 (dk_at dksL_law_103 17 rfl rfl)
theorem dL_law_2651 : decode cL_law 2651 = .ok (.iload 7, 2) := dk_21 7 (dk_at dksL_law_103 18 rfl rfl)
theorem dL_law_2653 : decode cL_law 2653 = .ok (.i2l, 1) := dk_133 (dk_at dksL_law_103 20 rfl rfl)
theorem dL_law_2654 : decode cL_law 2654 = .ok (.lcmp, 1) := dk_148 (dk_at dksL_law_103 21 rfl rfl)
theorem dL_law_2655 : decode cL_law 2655 = .ok (.ifCond .eq 5, 3) := dk_153 0 5 (dk_at dksL_law_104 0 rfl rfl)
theorem dL_law_2658 : decode cL_law 2658 = .ok (.iconst 0, 1) := dk_3 (dk_at dksL_law_104 3 rfl rfl)
theorem dL_law_2659 : decode cL_law 2659 = .ok (.ireturn, 1) := dk_172 (dk_at dksL_law_104 4 rfl rfl)
theorem dL_law_2660 : decode cL_law 2660 = .ok (.goto 1116, 3) := dk_167 4 92 (dk_at dksL_law_104 5 rfl rfl)
theorem dL_law_2663 : decode cL_law 2663 = .ok (.aload_n 1, 1) := dk_43 (dk_at dksL_law_104 8 rfl rfl)
theorem dL_law_2664 : decode cL_law 2664 = .ok (.aload_n 0, 1) := dk_42 (dk_at dksL_law_104 9 rfl rfl)
theorem dL_law_2665 : decode cL_law 2665 = .ok (.iload 5, 2) := dk_21 5 (dk_at dksL_law_104 10 rfl rfl)
theorem dL_law_2667 : decode cL_law 2667 = .ok (.iconst 1, 1) := dk_4 (dk_at dksL_law_104 12 rfl rfl)
theorem dL_law_2668 : decode cL_law 2668 = .ok (.iadd, 1) := dk_96 (dk_at dksL_law_104 13 rfl rfl)
theorem dL_law_2669 : decode cL_law 2669 = .ok (.iaload, 1) := dk_46 (dk_at dksL_law_104 14 rfl rfl)
theorem dL_law_2670 : decode cL_law 2670 = .ok (.aload_n 3, 1) := dk_45 (dk_at dksL_law_104 15 rfl rfl)
theorem dL_law_2671 : decode cL_law 2671 = .ok (.invokestatic 332, 3) := dk_184 1 76 (dk_at dksL_law_104 16 rfl rfl)
theorem dL_law_2674 : decode cL_law 2674 = .ok (.istore 6, 2) := dk_54 6 (dk_at dksL_law_104 19 rfl rfl)
theorem dL_law_2676 : decode cL_law 2676 = .ok (.aload_n 2, 1) := dk_44 (dk_at dksL_law_104 21 rfl rfl)
theorem dL_law_2677 : decode cL_law 2677 = .ok (.aload_n 0, 1) := dk_42 (dk_at dksL_law_104 22 rfl rfl)
theorem dL_law_2678 : decode cL_law 2678 = .ok (.iload 5, 2) := dk_21 5 (dk_at dksL_law_105 0 rfl rfl)
theorem dL_law_2680 : decode cL_law 2680 = .ok (.iconst 1, 1) := dk_4 (dk_at dksL_law_105 2 rfl rfl)
theorem dL_law_2681 : decode cL_law 2681 = .ok (.iadd, 1) := dk_96 (dk_at dksL_law_105 3 rfl rfl)
theorem dL_law_2682 : decode cL_law 2682 = .ok (.iaload, 1) := dk_46 (dk_at dksL_law_105 4 rfl rfl)
theorem dL_law_2683 : decode cL_law 2683 = .ok (.invokevirtual 334, 3) := dk_182 1 78 (dk_at dksL_law_105 5 rfl rfl)
theorem dL_law_2686 : decode cL_law 2686 = .ok (.istore 7, 2) := dk_54 7 (dk_at dksL_law_105 8 rfl rfl)
theorem dL_law_2688 : decode cL_law 2688 = .ok (.aload_n 2, 1) := dk_44 (dk_at dksL_law_105 10 rfl rfl)
theorem dL_law_2689 : decode cL_law 2689 = .ok (.invokevirtual 205, 3) := dk_182 0 205 (dk_at dksL_law_105 11 rfl rfl)
theorem dL_law_2692 : decode cL_law 2692 = .ok (.iload 6, 2) := dk_21 6 (dk_at dksL_law_105 14 rfl rfl)
theorem dL_law_2694 : decode cL_law 2694 = .ok (.if_icmp .eq 5, 3) := dk_159 0 5 (dk_at dksL_law_105 16 rfl rfl)
theorem dL_law_2697 : decode cL_law 2697 = .ok (.iconst 0, 1) := dk_3 (dk_at dksL_law_105 19 rfl rfl)
theorem dL_law_2698 : decode cL_law 2698 = .ok (.ireturn, 1) := dk_172 (dk_at dksL_law_105 20 rfl rfl)
theorem dL_law_2699 : decode cL_law 2699 = .ok (.iload 6, 2) := dk_21 6 (dk_at dksL_law_105 21 rfl rfl)
theorem dL_law_2701 : decode cL_law 2701 = .ok (.ifCond .ne 15, 3) := dk_154 0 15 (dk_at dksL_law_106 0 rfl rfl)
theorem dL_law_2704 : decode cL_law 2704 = .ok (.aload_n 3, 1) := dk_45 (dk_at dksL_law_106 3 rfl rfl)
theorem dL_law_2705 : decode cL_law 2705 = .ok (.iconst 0, 1) := dk_3 (dk_at dksL_law_106 4 rfl rfl)
theorem dL_law_2706 : decode cL_law 2706 = .ok (.laload, 1) := dk_47 (dk_at dksL_law_106 5 rfl rfl)
theorem dL_law_2707 : decode cL_law 2707 = .ok (.iload 7, 2) := dk_21 7 (dk_at dksL_law_106 6 rfl rfl)
theorem dL_law_2709 : decode cL_law 2709 = .ok (.i2l, 1) := dk_133 (dk_at dksL_law_106 8 rfl rfl)
theorem dL_law_2710 : decode cL_law 2710 = .ok (.lcmp, 1) := dk_148 (dk_at dksL_law_106 9 rfl rfl)
theorem dL_law_2711 : decode cL_law 2711 = .ok (.ifCond .eq 5, 3) := dk_153 0 5 (dk_at dksL_law_106 10 rfl rfl)
theorem dL_law_2714 : decode cL_law 2714 = .ok (.iconst 0, 1) := dk_3 (dk_at dksL_law_106 13 rfl rfl)
theorem dL_law_2715 : decode cL_law 2715 = .ok (.ireturn, 1) := dk_172 (dk_at dksL_law_106 14 rfl rfl)
theorem dL_law_2716 : decode cL_law 2716 = .ok (.goto 1060, 3) := dk_167 4 36 (dk_at dksL_law_106 15 rfl rfl)
theorem dL_law_2719 : decode cL_law 2719 = .ok (.aload_n 1, 1) := dk_43 (dk_at dksL_law_106 18 rfl rfl)
theorem dL_law_2720 : decode cL_law 2720 = .ok (.aload_n 0, 1) := dk_42 (dk_at dksL_law_106 19 rfl rfl)
theorem dL_law_2721 : decode cL_law 2721 = .ok (.iload 5, 2) := dk_21 5 (dk_at dksL_law_106 20 rfl rfl)
theorem dL_law_2723 : decode cL_law 2723 = .ok (.iconst 1, 1) := dk_4 (dk_at dksL_law_106 22 rfl rfl)
theorem dL_law_2724 : decode cL_law 2724 = .ok (.iadd, 1) := dk_96 (dk_at dksL_law_106 23 rfl rfl)
theorem dL_law_2725 : decode cL_law 2725 = .ok (.iaload, 1) := dk_46 (dk_at dksL_law_107 0 rfl rfl)
theorem dL_law_2726 : decode cL_law 2726 = .ok (.aload_n 3, 1) := dk_45 (dk_at dksL_law_107 1 rfl rfl)
theorem dL_law_2727 : decode cL_law 2727 = .ok (.invokestatic 335, 3) := dk_184 1 79 (dk_at dksL_law_107 2 rfl rfl)
theorem dL_law_2730 : decode cL_law 2730 = .ok (.istore 6, 2) := dk_54 6 (dk_at dksL_law_107 5 rfl rfl)
theorem dL_law_2732 : decode cL_law 2732 = .ok (.aload_n 2, 1) := dk_44 (dk_at dksL_law_107 7 rfl rfl)
theorem dL_law_2733 : decode cL_law 2733 = .ok (.aload_n 0, 1) := dk_42 (dk_at dksL_law_107 8 rfl rfl)
theorem dL_law_2734 : decode cL_law 2734 = .ok (.iload 5, 2) := dk_21 5 (dk_at dksL_law_107 9 rfl rfl)
theorem dL_law_2736 : decode cL_law 2736 = .ok (.iconst 1, 1) := dk_4 (dk_at dksL_law_107 11 rfl rfl)
theorem dL_law_2737 : decode cL_law 2737 = .ok (.iadd, 1) := dk_96 (dk_at dksL_law_107 12 rfl rfl)
theorem dL_law_2738 : decode cL_law 2738 = .ok (.iaload, 1) := dk_46 (dk_at dksL_law_107 13 rfl rfl)
theorem dL_law_2739 : decode cL_law 2739 = .ok (.invokevirtual 337, 3) := dk_182 1 81 (dk_at dksL_law_107 14 rfl rfl)
theorem dL_law_2742 : decode cL_law 2742 = .ok (.istore 7, 2) := dk_54 7 (dk_at dksL_law_107 17 rfl rfl)
theorem dL_law_2744 : decode cL_law 2744 = .ok (.aload_n 2, 1) := dk_44 (dk_at dksL_law_107 19 rfl rfl)
theorem dL_law_2745 : decode cL_law 2745 = .ok (.invokevirtual 205, 3) := dk_182 0 205 (dk_at dksL_law_107 20 rfl rfl)
theorem dL_law_2748 : decode cL_law 2748 = .ok (.iload 6, 2) := dk_21 6 (dk_at dksL_law_108 0 rfl rfl)
theorem dL_law_2750 : decode cL_law 2750 = .ok (.if_icmp .eq 5, 3) := dk_159 0 5 (dk_at dksL_law_108 2 rfl rfl)
theorem dL_law_2753 : decode cL_law 2753 = .ok (.iconst 0, 1) := dk_3 (dk_at dksL_law_108 5 rfl rfl)
theorem dL_law_2754 : decode cL_law 2754 = .ok (.ireturn, 1) := dk_172 (dk_at dksL_law_108 6 rfl rfl)
theorem dL_law_2755 : decode cL_law 2755 = .ok (.iload 6, 2) := dk_21 6 (dk_at dksL_law_108 7 rfl rfl)
theorem dL_law_2757 : decode cL_law 2757 = .ok (.ifCond .ne 15, 3) := dk_154 0 15 (dk_at dksL_law_108 9 rfl rfl)
theorem dL_law_2760 : decode cL_law 2760 = .ok (.aload_n 3, 1) := dk_45 (dk_at dksL_law_108 12 rfl rfl)
theorem dL_law_2761 : decode cL_law 2761 = .ok (.iconst 0, 1) := dk_3 (dk_at dksL_law_108 13 rfl rfl)
theorem dL_law_2762 : decode cL_law 2762 = .ok (.laload, 1) := dk_47 (dk_at dksL_law_108 14 rfl rfl)
theorem dL_law_2763 : decode cL_law 2763 = .ok (.iload 7, 2) := dk_21 7 (dk_at dksL_law_108 15 rfl rfl)
theorem dL_law_2765 : decode cL_law 2765 = .ok (.i2l, 1) := dk_133 (dk_at dksL_law_108 17 rfl rfl)
theorem dL_law_2766 : decode cL_law 2766 = .ok (.lcmp, 1) := dk_148 (dk_at dksL_law_108 18 rfl rfl)
theorem dL_law_2767 : decode cL_law 2767 = .ok (.ifCond .eq 5, 3) := dk_153 0 5 (dk_at dksL_law_108 19 rfl rfl)
theorem dL_law_2770 : decode cL_law 2770 = .ok (.iconst 0, 1) := dk_3 (dk_at dksL_law_108 22 rfl rfl)
theorem dL_law_2771 : decode cL_law 2771 = .ok (.ireturn, 1) := dk_172 (dk_at dksL_law_108 23 rfl rfl)
theorem dL_law_2772 : decode cL_law 2772 = .ok (.goto 1004, 3) := dk_167 3 236 (dk_at dksL_law_109 0 rfl rfl)
theorem dL_law_2775 : decode cL_law 2775 = .ok (.aload_n 1, 1) := dk_43 (dk_at dksL_law_109 3 rfl rfl)
theorem dL_law_2776 : decode cL_law 2776 = .ok (.aload_n 3, 1) := dk_45 (dk_at dksL_law_109 4 rfl rfl)
theorem dL_law_2777 : decode cL_law 2777 = .ok (.invokestatic 338, 3) := dk_184 1 82 (dk_at dksL_law_109 5 rfl rfl)
theorem dL_law_2780 : decode cL_law 2780 = .ok (.istore 6, 2) := dk_54 6 (dk_at dksL_law_109 8 rfl rfl)
theorem dL_law_2782 : decode cL_law 2782 = .ok (.aload_n 2, 1) := dk_44 (dk_at dksL_law_109 10 rfl rfl)
theorem dL_law_2783 : decode cL_law 2783 = .ok (.invokevirtual 340, 3) := dk_182 1 84 (dk_at dksL_law_109 11 rfl rfl)
theorem dL_law_2786 : decode cL_law 2786 = .ok (.istore 7, 2) := dk_54 7 (dk_at dksL_law_109 14 rfl rfl)
theorem dL_law_2788 : decode cL_law 2788 = .ok (.aload_n 2, 1) := dk_44 (dk_at dksL_law_109 16 rfl rfl)
theorem dL_law_2789 : decode cL_law 2789 = .ok (.invokevirtual 205, 3) := dk_182 0 205 (dk_at dksL_law_109 17 rfl rfl)
theorem dL_law_2792 : decode cL_law 2792 = .ok (.iload 6, 2) := dk_21 6 (dk_at dksL_law_109 20 rfl rfl)
theorem dL_law_2794 : decode cL_law 2794 = .ok (.if_icmp .eq 5, 3) := dk_159 0 5 (dk_at dksL_law_110 0 rfl rfl)
theorem dL_law_2797 : decode cL_law 2797 = .ok (.iconst 0, 1) := dk_3 (dk_at dksL_law_110 3 rfl rfl)
theorem dL_law_2798 : decode cL_law 2798 = .ok (.ireturn, 1) := dk_172 (dk_at dksL_law_110 4 rfl rfl)
theorem dL_law_2799 : decode cL_law 2799 = .ok (.iload 6, 2) := dk_21 6 (dk_at dksL_law_110 5 rfl rfl)
theorem dL_law_2801 : decode cL_law 2801 = .ok (.ifCond .ne 15, 3) := dk_154 0 15 (dk_at dksL_law_110 7 rfl rfl)
theorem dL_law_2804 : decode cL_law 2804 = .ok (.aload_n 3, 1) := dk_45 (dk_at dksL_law_110 10 rfl rfl)
theorem dL_law_2805 : decode cL_law 2805 = .ok (.iconst 0, 1) := dk_3 (dk_at dksL_law_110 11 rfl rfl)
theorem dL_law_2806 : decode cL_law 2806 = .ok (.laload, 1) := dk_47 (dk_at dksL_law_110 12 rfl rfl)
theorem dL_law_2807 : decode cL_law 2807 = .ok (.iload 7, 2) := dk_21 7 (dk_at dksL_law_110 13 rfl rfl)
theorem dL_law_2809 : decode cL_law 2809 = .ok (.i2l, 1) := dk_133 (dk_at dksL_law_110 15 rfl rfl)
theorem dL_law_2810 : decode cL_law 2810 = .ok (.lcmp, 1) := dk_148 (dk_at dksL_law_110 16 rfl rfl)
theorem dL_law_2811 : decode cL_law 2811 = .ok (.ifCond .eq 5, 3) := dk_153 0 5 (dk_at dksL_law_110 17 rfl rfl)
theorem dL_law_2814 : decode cL_law 2814 = .ok (.iconst 0, 1) := dk_3 (dk_at dksL_law_110 20 rfl rfl)
theorem dL_law_2815 : decode cL_law 2815 = .ok (.ireturn, 1) := dk_172 (dk_at dksL_law_110 21 rfl rfl)
theorem dL_law_2816 : decode cL_law 2816 = .ok (.goto 960, 3) := dk_167 3 192 (dk_at dksL_law_111 0 rfl rfl)
theorem dL_law_2819 : decode cL_law 2819 = .ok (.aload_n 1, 1) := dk_43 (dk_at dksL_law_111 3 rfl rfl)
theorem dL_law_2820 : decode cL_law 2820 = .ok (.aload_n 0, 1) := dk_42 (dk_at dksL_law_111 4 rfl rfl)
theorem dL_law_2821 : decode cL_law 2821 = .ok (.iload 5, 2) := dk_21 5 (dk_at dksL_law_111 5 rfl rfl)
theorem dL_law_2823 : decode cL_law 2823 = .ok (.iconst 1, 1) := dk_4 (dk_at dksL_law_111 7 rfl rfl)
theorem dL_law_2824 : decode cL_law 2824 = .ok (.iadd, 1) := dk_96 (dk_at dksL_law_111 8 rfl rfl)
theorem dL_law_2825 : decode cL_law 2825 = .ok (.iaload, 1) := dk_46 (dk_at dksL_law_111 9 rfl rfl)
theorem dL_law_2826 : decode cL_law 2826 = .ok (.aload_n 3, 1) := dk_45 (dk_at dksL_law_111 10 rfl rfl)
theorem dL_law_2827 : decode cL_law 2827 = .ok (.invokestatic 341, 3) := dk_184 1 85 (dk_at dksL_law_111 11 rfl rfl)
theorem dL_law_2830 : decode cL_law 2830 = .ok (.istore 6, 2) := dk_54 6 (dk_at dksL_law_111 14 rfl rfl)
theorem dL_law_2832 : decode cL_law 2832 = .ok (.aload_n 2, 1) := dk_44 (dk_at dksL_law_111 16 rfl rfl)
theorem dL_law_2833 : decode cL_law 2833 = .ok (.aload_n 0, 1) := dk_42 (dk_at dksL_law_111 17 rfl rfl)
theorem dL_law_2834 : decode cL_law 2834 = .ok (.iload 5, 2) := dk_21 5 (dk_at dksL_law_111 18 rfl rfl)
theorem dL_law_2836 : decode cL_law 2836 = .ok (.iconst 1, 1) := dk_4 (dk_at dksL_law_111 20 rfl rfl)
theorem dL_law_2837 : decode cL_law 2837 = .ok (.iadd, 1) := dk_96 (dk_at dksL_law_111 21 rfl rfl)
theorem dL_law_2838 : decode cL_law 2838 = .ok (.iaload, 1) := dk_46 (dk_at dksL_law_111 22 rfl rfl)
theorem dL_law_2839 : decode cL_law 2839 = .ok (.invokevirtual 343, 3) := dk_182 1 87 (dk_at dksL_law_112 0 rfl rfl)
theorem dL_law_2842 : decode cL_law 2842 = .ok (.istore 7, 2) := dk_54 7 (dk_at dksL_law_112 3 rfl rfl)
theorem dL_law_2844 : decode cL_law 2844 = .ok (.aload_n 2, 1) := dk_44 (dk_at dksL_law_112 5 rfl rfl)
theorem dL_law_2845 : decode cL_law 2845 = .ok (.invokevirtual 205, 3) := dk_182 0 205 (dk_at dksL_law_112 6 rfl rfl)
theorem dL_law_2848 : decode cL_law 2848 = .ok (.iload 6, 2) := dk_21 6 (dk_at dksL_law_112 9 rfl rfl)
theorem dL_law_2850 : decode cL_law 2850 = .ok (.if_icmp .eq 5, 3) := dk_159 0 5 (dk_at dksL_law_112 11 rfl rfl)
theorem dL_law_2853 : decode cL_law 2853 = .ok (.iconst 0, 1) := dk_3 (dk_at dksL_law_112 14 rfl rfl)
theorem dL_law_2854 : decode cL_law 2854 = .ok (.ireturn, 1) := dk_172 (dk_at dksL_law_112 15 rfl rfl)
theorem dL_law_2855 : decode cL_law 2855 = .ok (.iload 6, 2) := dk_21 6 (dk_at dksL_law_112 16 rfl rfl)
theorem dL_law_2857 : decode cL_law 2857 = .ok (.ifCond .ne 15, 3) := dk_154 0 15 (dk_at dksL_law_112 18 rfl rfl)
theorem dL_law_2860 : decode cL_law 2860 = .ok (.aload_n 3, 1) := dk_45 (dk_at dksL_law_112 21 rfl rfl)
theorem dL_law_2861 : decode cL_law 2861 = .ok (.iconst 0, 1) := dk_3 (dk_at dksL_law_112 22 rfl rfl)
theorem dL_law_2862 : decode cL_law 2862 = .ok (.laload, 1) := dk_47 (dk_at dksL_law_112 23 rfl rfl)
theorem dL_law_2863 : decode cL_law 2863 = .ok (.iload 7, 2) := dk_21 7 (dk_at dksL_law_113 0 rfl rfl)
theorem dL_law_2865 : decode cL_law 2865 = .ok (.i2l, 1) := dk_133 (dk_at dksL_law_113 2 rfl rfl)
theorem dL_law_2866 : decode cL_law 2866 = .ok (.lcmp, 1) := dk_148 (dk_at dksL_law_113 3 rfl rfl)
theorem dL_law_2867 : decode cL_law 2867 = .ok (.ifCond .eq 5, 3) := dk_153 0 5 (dk_at dksL_law_113 4 rfl rfl)
theorem dL_law_2870 : decode cL_law 2870 = .ok (.iconst 0, 1) := dk_3 (dk_at dksL_law_113 7 rfl rfl)
theorem dL_law_2871 : decode cL_law 2871 = .ok (.ireturn, 1) := dk_172 (dk_at dksL_law_113 8 rfl rfl)
theorem dL_law_2872 : decode cL_law 2872 = .ok (.goto 904, 3) := dk_167 3 136 (dk_at dksL_law_113 9 rfl rfl)
theorem dL_law_2875 : decode cL_law 2875 = .ok (.aload_n 1, 1) := dk_43 (dk_at dksL_law_113 12 rfl rfl)
theorem dL_law_2876 : decode cL_law 2876 = .ok (.aload_n 0, 1) := dk_42 (dk_at dksL_law_113 13 rfl rfl)
theorem dL_law_2877 : decode cL_law 2877 = .ok (.iload 5, 2) := dk_21 5 (dk_at dksL_law_113 14 rfl rfl)
theorem dL_law_2879 : decode cL_law 2879 = .ok (.iconst 1, 1) := dk_4 (dk_at dksL_law_113 16 rfl rfl)
theorem dL_law_2880 : decode cL_law 2880 = .ok (.iadd, 1) := dk_96 (dk_at dksL_law_113 17 rfl rfl)
theorem dL_law_2881 : decode cL_law 2881 = .ok (.iaload, 1) := dk_46 (dk_at dksL_law_113 18 rfl rfl)
theorem dL_law_2882 : decode cL_law 2882 = .ok (.aload_n 0, 1) := dk_42 (dk_at dksL_law_113 19 rfl rfl)
theorem dL_law_2883 : decode cL_law 2883 = .ok (.iload 5, 2) := dk_21 5 (dk_at dksL_law_113 20 rfl rfl)
theorem dL_law_2885 : decode cL_law 2885 = .ok (.iconst 2, 1) := dk_5 (dk_at dksL_law_113 22 rfl rfl)
theorem dL_law_2886 : decode cL_law 2886 = .ok (.iadd, 1) := dk_96 (dk_at dksL_law_113 23 rfl rfl)
theorem dL_law_2887 : decode cL_law 2887 = .ok (.iaload, 1) := dk_46 (dk_at dksL_law_114 0 rfl rfl)
theorem dL_law_2888 : decode cL_law 2888 = .ok (.aload_n 3, 1) := dk_45 (dk_at dksL_law_114 1 rfl rfl)
theorem dL_law_2889 : decode cL_law 2889 = .ok (.invokestatic 344, 3) := dk_184 1 88 (dk_at dksL_law_114 2 rfl rfl)
theorem dL_law_2892 : decode cL_law 2892 = .ok (.istore 6, 2) := dk_54 6 (dk_at dksL_law_114 5 rfl rfl)
theorem dL_law_2894 : decode cL_law 2894 = .ok (.aload_n 2, 1) := dk_44 (dk_at dksL_law_114 7 rfl rfl)
theorem dL_law_2895 : decode cL_law 2895 = .ok (.aload_n 0, 1) := dk_42 (dk_at dksL_law_114 8 rfl rfl)
theorem dL_law_2896 : decode cL_law 2896 = .ok (.iload 5, 2) := dk_21 5 (dk_at dksL_law_114 9 rfl rfl)
theorem dL_law_2898 : decode cL_law 2898 = .ok (.iconst 1, 1) := dk_4 (dk_at dksL_law_114 11 rfl rfl)
theorem dL_law_2899 : decode cL_law 2899 = .ok (.iadd, 1) := dk_96 (dk_at dksL_law_114 12 rfl rfl)
theorem dL_law_2900 : decode cL_law 2900 = .ok (.iaload, 1) := dk_46 (dk_at dksL_law_114 13 rfl rfl)
theorem dL_law_2901 : decode cL_law 2901 = .ok (.aload_n 0, 1) := dk_42 (dk_at dksL_law_114 14 rfl rfl)
theorem dL_law_2902 : decode cL_law 2902 = .ok (.iload 5, 2) := dk_21 5 (dk_at dksL_law_114 15 rfl rfl)
theorem dL_law_2904 : decode cL_law 2904 = .ok (.iconst 2, 1) := dk_5 (dk_at dksL_law_114 17 rfl rfl)
theorem dL_law_2905 : decode cL_law 2905 = .ok (.iadd, 1) := dk_96 (dk_at dksL_law_114 18 rfl rfl)
theorem dL_law_2906 : decode cL_law 2906 = .ok (.iaload, 1) := dk_46 (dk_at dksL_law_114 19 rfl rfl)
theorem dL_law_2907 : decode cL_law 2907 = .ok (.invokevirtual 346, 3) := dk_182 1 90 (dk_at dksL_law_114 20 rfl rfl)
theorem dL_law_2910 : decode cL_law 2910 = .ok (.istore 7, 2) := dk_54 7 (dk_at dksL_law_115 0 rfl rfl)
theorem dL_law_2912 : decode cL_law 2912 = .ok (.aload_n 2, 1) := dk_44 (dk_at dksL_law_115 2 rfl rfl)
theorem dL_law_2913 : decode cL_law 2913 = .ok (.invokevirtual 205, 3) := dk_182 0 205 (dk_at dksL_law_115 3 rfl rfl)
theorem dL_law_2916 : decode cL_law 2916 = .ok (.iload 6, 2) := dk_21 6 (dk_at dksL_law_115 6 rfl rfl)
theorem dL_law_2918 : decode cL_law 2918 = .ok (.if_icmp .eq 5, 3) := dk_159 0 5 (dk_at dksL_law_115 8 rfl rfl)
theorem dL_law_2921 : decode cL_law 2921 = .ok (.iconst 0, 1) := dk_3 (dk_at dksL_law_115 11 rfl rfl)
theorem dL_law_2922 : decode cL_law 2922 = .ok (.ireturn, 1) := dk_172 (dk_at dksL_law_115 12 rfl rfl)
theorem dL_law_2923 : decode cL_law 2923 = .ok (.iload 6, 2) := dk_21 6 (dk_at dksL_law_115 13 rfl rfl)
theorem dL_law_2925 : decode cL_law 2925 = .ok (.ifCond .ne 15, 3) := dk_154 0 15 (dk_at dksL_law_115 15 rfl rfl)
theorem dL_law_2928 : decode cL_law 2928 = .ok (.aload_n 3, 1) := dk_45 (dk_at dksL_law_115 18 rfl rfl)
theorem dL_law_2929 : decode cL_law 2929 = .ok (.iconst 0, 1) := dk_3 (dk_at dksL_law_115 19 rfl rfl)
theorem dL_law_2930 : decode cL_law 2930 = .ok (.laload, 1) := dk_47 (dk_at dksL_law_115 20 rfl rfl)
theorem dL_law_2931 : decode cL_law 2931 = .ok (.iload 7, 2) := dk_21 7 (dk_at dksL_law_115 21 rfl rfl)
theorem dL_law_2933 : decode cL_law 2933 = .ok (.i2l, 1) := dk_133 (dk_at dksL_law_115 23 rfl rfl)
theorem dL_law_2934 : decode cL_law 2934 = .ok (.lcmp, 1) := dk_148 (dk_at dksL_law_116 0 rfl rfl)
theorem dL_law_2935 : decode cL_law 2935 = .ok (.ifCond .eq 5, 3) := dk_153 0 5 (dk_at dksL_law_116 1 rfl rfl)
theorem dL_law_2938 : decode cL_law 2938 = .ok (.iconst 0, 1) := dk_3 (dk_at dksL_law_116 4 rfl rfl)
theorem dL_law_2939 : decode cL_law 2939 = .ok (.ireturn, 1) := dk_172 (dk_at dksL_law_116 5 rfl rfl)
theorem dL_law_2940 : decode cL_law 2940 = .ok (.goto 836, 3) := dk_167 3 68 (dk_at dksL_law_116 6 rfl rfl)
theorem dL_law_2943 : decode cL_law 2943 = .ok (.aload_n 1, 1) := dk_43 (dk_at dksL_law_116 9 rfl rfl)
theorem dL_law_2944 : decode cL_law 2944 = .ok (.aload_n 0, 1) := dk_42 (dk_at dksL_law_116 10 rfl rfl)
theorem dL_law_2945 : decode cL_law 2945 = .ok (.iload 5, 2) := dk_21 5 (dk_at dksL_law_116 11 rfl rfl)
theorem dL_law_2947 : decode cL_law 2947 = .ok (.iconst 1, 1) := dk_4 (dk_at dksL_law_116 13 rfl rfl)
theorem dL_law_2948 : decode cL_law 2948 = .ok (.iadd, 1) := dk_96 (dk_at dksL_law_116 14 rfl rfl)
theorem dL_law_2949 : decode cL_law 2949 = .ok (.iaload, 1) := dk_46 (dk_at dksL_law_116 15 rfl rfl)
theorem dL_law_2950 : decode cL_law 2950 = .ok (.aload_n 0, 1) := dk_42 (dk_at dksL_law_116 16 rfl rfl)
theorem dL_law_2951 : decode cL_law 2951 = .ok (.iload 5, 2) := dk_21 5 (dk_at dksL_law_116 17 rfl rfl)
theorem dL_law_2953 : decode cL_law 2953 = .ok (.iconst 2, 1) := dk_5 (dk_at dksL_law_116 19 rfl rfl)
theorem dL_law_2954 : decode cL_law 2954 = .ok (.iadd, 1) := dk_96 (dk_at dksL_law_116 20 rfl rfl)
theorem dL_law_2955 : decode cL_law 2955 = .ok (.iaload, 1) := dk_46 (dk_at dksL_law_116 21 rfl rfl)
theorem dL_law_2956 : decode cL_law 2956 = .ok (.aload_n 3, 1) := dk_45 (dk_at dksL_law_116 22 rfl rfl)
theorem dL_law_2957 : decode cL_law 2957 = .ok (.invokestatic 347, 3) := dk_184 1 91 (dk_at dksL_law_117 0 rfl rfl)
theorem dL_law_2960 : decode cL_law 2960 = .ok (.istore 6, 2) := dk_54 6 (dk_at dksL_law_117 3 rfl rfl)
theorem dL_law_2962 : decode cL_law 2962 = .ok (.aload_n 2, 1) := dk_44 (dk_at dksL_law_117 5 rfl rfl)
theorem dL_law_2963 : decode cL_law 2963 = .ok (.aload_n 0, 1) := dk_42 (dk_at dksL_law_117 6 rfl rfl)
theorem dL_law_2964 : decode cL_law 2964 = .ok (.iload 5, 2) := dk_21 5 (dk_at dksL_law_117 7 rfl rfl)
theorem dL_law_2966 : decode cL_law 2966 = .ok (.iconst 1, 1) := dk_4 (dk_at dksL_law_117 9 rfl rfl)
theorem dL_law_2967 : decode cL_law 2967 = .ok (.iadd, 1) := dk_96 (dk_at dksL_law_117 10 rfl rfl)
theorem dL_law_2968 : decode cL_law 2968 = .ok (.iaload, 1) := dk_46 (dk_at dksL_law_117 11 rfl rfl)
theorem dL_law_2969 : decode cL_law 2969 = .ok (.aload_n 0, 1) := dk_42 (dk_at dksL_law_117 12 rfl rfl)
theorem dL_law_2970 : decode cL_law 2970 = .ok (.iload 5, 2) := dk_21 5 (dk_at dksL_law_117 13 rfl rfl)
theorem dL_law_2972 : decode cL_law 2972 = .ok (.iconst 2, 1) := dk_5 (dk_at dksL_law_117 15 rfl rfl)
theorem dL_law_2973 : decode cL_law 2973 = .ok (.iadd, 1) := dk_96 (dk_at dksL_law_117 16 rfl rfl)
theorem dL_law_2974 : decode cL_law 2974 = .ok (.iaload, 1) := dk_46 (dk_at dksL_law_117 17 rfl rfl)
theorem dL_law_2975 : decode cL_law 2975 = .ok (.invokevirtual 349, 3) := dk_182 1 93 (dk_at dksL_law_117 18 rfl rfl)
theorem dL_law_2978 : decode cL_law 2978 = .ok (.istore 7, 2) := dk_54 7 (dk_at dksL_law_117 21 rfl rfl)
theorem dL_law_2980 : decode cL_law 2980 = .ok (.aload_n 2, 1) := dk_44 (dk_at dksL_law_117 23 rfl rfl)
theorem dL_law_2981 : decode cL_law 2981 = .ok (.invokevirtual 205, 3) := dk_182 0 205 (dk_at dksL_law_118 0 rfl rfl)
theorem dL_law_2984 : decode cL_law 2984 = .ok (.iload 6, 2) := dk_21 6 (dk_at dksL_law_118 3 rfl rfl)
theorem dL_law_2986 : decode cL_law 2986 = .ok (.if_icmp .eq 5, 3) := dk_159 0 5 (dk_at dksL_law_118 5 rfl rfl)
theorem dL_law_2989 : decode cL_law 2989 = .ok (.iconst 0, 1) := dk_3 (dk_at dksL_law_118 8 rfl rfl)
theorem dL_law_2990 : decode cL_law 2990 = .ok (.ireturn, 1) := dk_172 (dk_at dksL_law_118 9 rfl rfl)
theorem dL_law_2991 : decode cL_law 2991 = .ok (.iload 6, 2) := dk_21 6 (dk_at dksL_law_118 10 rfl rfl)
theorem dL_law_2993 : decode cL_law 2993 = .ok (.ifCond .ne 15, 3) := dk_154 0 15 (dk_at dksL_law_118 12 rfl rfl)
theorem dL_law_2996 : decode cL_law 2996 = .ok (.aload_n 3, 1) := dk_45 (dk_at dksL_law_118 15 rfl rfl)
theorem dL_law_2997 : decode cL_law 2997 = .ok (.iconst 0, 1) := dk_3 (dk_at dksL_law_118 16 rfl rfl)
theorem dL_law_2998 : decode cL_law 2998 = .ok (.laload, 1) := dk_47 (dk_at dksL_law_118 17 rfl rfl)
theorem dL_law_2999 : decode cL_law 2999 = .ok (.iload 7, 2) := dk_21 7 (dk_at dksL_law_118 18 rfl rfl)
theorem dL_law_3001 : decode cL_law 3001 = .ok (.i2l, 1) := dk_133 (dk_at dksL_law_118 20 rfl rfl)
theorem dL_law_3002 : decode cL_law 3002 = .ok (.lcmp, 1) := dk_148 (dk_at dksL_law_118 21 rfl rfl)
theorem dL_law_3003 : decode cL_law 3003 = .ok (.ifCond .eq 5, 3) := dk_153 0 5 (dk_at dksL_law_119 0 rfl rfl)
theorem dL_law_3006 : decode cL_law 3006 = .ok (.iconst 0, 1) := dk_3 (dk_at dksL_law_119 3 rfl rfl)
theorem dL_law_3007 : decode cL_law 3007 = .ok (.ireturn, 1) := dk_172 (dk_at dksL_law_119 4 rfl rfl)
theorem dL_law_3008 : decode cL_law 3008 = .ok (.goto 768, 3) := dk_167 3 0 (dk_at dksL_law_119 5 rfl rfl)
theorem dL_law_3011 : decode cL_law 3011 = .ok (.aload_n 1, 1) := dk_43 (dk_at dksL_law_119 8 rfl rfl)
theorem dL_law_3012 : decode cL_law 3012 = .ok (.aload_n 0, 1) := dk_42 (dk_at dksL_law_119 9 rfl rfl)
theorem dL_law_3013 : decode cL_law 3013 = .ok (.iload 5, 2) := dk_21 5 (dk_at dksL_law_119 10 rfl rfl)
theorem dL_law_3015 : decode cL_law 3015 = .ok (.iconst 1, 1) := dk_4 (dk_at dksL_law_119 12 rfl rfl)
theorem dL_law_3016 : decode cL_law 3016 = .ok (.iadd, 1) := dk_96 (dk_at dksL_law_119 13 rfl rfl)
theorem dL_law_3017 : decode cL_law 3017 = .ok (.iaload, 1) := dk_46 (dk_at dksL_law_119 14 rfl rfl)
theorem dL_law_3018 : decode cL_law 3018 = .ok (.aload_n 3, 1) := dk_45 (dk_at dksL_law_119 15 rfl rfl)
theorem dL_law_3019 : decode cL_law 3019 = .ok (.invokestatic 350, 3) := dk_184 1 94 (dk_at dksL_law_119 16 rfl rfl)
theorem dL_law_3022 : decode cL_law 3022 = .ok (.istore 6, 2) := dk_54 6 (dk_at dksL_law_119 19 rfl rfl)
theorem dL_law_3024 : decode cL_law 3024 = .ok (.aload_n 2, 1) := dk_44 (dk_at dksL_law_119 21 rfl rfl)
theorem dL_law_3025 : decode cL_law 3025 = .ok (.aload_n 0, 1) := dk_42 (dk_at dksL_law_119 22 rfl rfl)
theorem dL_law_3026 : decode cL_law 3026 = .ok (.iload 5, 2) := dk_21 5 (dk_at dksL_law_120 0 rfl rfl)
theorem dL_law_3028 : decode cL_law 3028 = .ok (.iconst 1, 1) := dk_4 (dk_at dksL_law_120 2 rfl rfl)
theorem dL_law_3029 : decode cL_law 3029 = .ok (.iadd, 1) := dk_96 (dk_at dksL_law_120 3 rfl rfl)
theorem dL_law_3030 : decode cL_law 3030 = .ok (.iaload, 1) := dk_46 (dk_at dksL_law_120 4 rfl rfl)
theorem dL_law_3031 : decode cL_law 3031 = .ok (.invokevirtual 352, 3) := dk_182 1 96 (dk_at dksL_law_120 5 rfl rfl)
theorem dL_law_3034 : decode cL_law 3034 = .ok (.istore 7, 2) := dk_54 7 (dk_at dksL_law_120 8 rfl rfl)
theorem dL_law_3036 : decode cL_law 3036 = .ok (.aload_n 2, 1) := dk_44 (dk_at dksL_law_120 10 rfl rfl)
theorem dL_law_3037 : decode cL_law 3037 = .ok (.invokevirtual 205, 3) := dk_182 0 205 (dk_at dksL_law_120 11 rfl rfl)
theorem dL_law_3040 : decode cL_law 3040 = .ok (.iload 6, 2) := dk_21 6 (dk_at dksL_law_120 14 rfl rfl)
theorem dL_law_3042 : decode cL_law 3042 = .ok (.if_icmp .eq 5, 3) := dk_159 0 5 (dk_at dksL_law_120 16 rfl rfl)
theorem dL_law_3045 : decode cL_law 3045 = .ok (.iconst 0, 1) := dk_3 (dk_at dksL_law_120 19 rfl rfl)
theorem dL_law_3046 : decode cL_law 3046 = .ok (.ireturn, 1) := dk_172 (dk_at dksL_law_120 20 rfl rfl)
theorem dL_law_3047 : decode cL_law 3047 = .ok (.iload 6, 2) := dk_21 6 (dk_at dksL_law_120 21 rfl rfl)
theorem dL_law_3049 : decode cL_law 3049 = .ok (.ifCond .ne 15, 3) := dk_154 0 15 (dk_at dksL_law_121 0 rfl rfl)
theorem dL_law_3052 : decode cL_law 3052 = .ok (.aload_n 3, 1) := dk_45 (dk_at dksL_law_121 3 rfl rfl)
theorem dL_law_3053 : decode cL_law 3053 = .ok (.iconst 0, 1) := dk_3 (dk_at dksL_law_121 4 rfl rfl)
theorem dL_law_3054 : decode cL_law 3054 = .ok (.laload, 1) := dk_47 (dk_at dksL_law_121 5 rfl rfl)
theorem dL_law_3055 : decode cL_law 3055 = .ok (.iload 7, 2) := dk_21 7 (dk_at dksL_law_121 6 rfl rfl)
theorem dL_law_3057 : decode cL_law 3057 = .ok (.i2l, 1) := dk_133 (dk_at dksL_law_121 8 rfl rfl)
theorem dL_law_3058 : decode cL_law 3058 = .ok (.lcmp, 1) := dk_148 (dk_at dksL_law_121 9 rfl rfl)
theorem dL_law_3059 : decode cL_law 3059 = .ok (.ifCond .eq 5, 3) := dk_153 0 5 (dk_at dksL_law_121 10 rfl rfl)
theorem dL_law_3062 : decode cL_law 3062 = .ok (.iconst 0, 1) := dk_3 (dk_at dksL_law_121 13 rfl rfl)
theorem dL_law_3063 : decode cL_law 3063 = .ok (.ireturn, 1) := dk_172 (dk_at dksL_law_121 14 rfl rfl)
theorem dL_law_3064 : decode cL_law 3064 = .ok (.goto 712, 3) := dk_167 2 200 (dk_at dksL_law_121 15 rfl rfl)
theorem dL_law_3067 : decode cL_law 3067 = .ok (.aload_n 1, 1) := dk_43 (dk_at dksL_law_121 18 rfl rfl)
theorem dL_law_3068 : decode cL_law 3068 = .ok (.aload_n 3, 1) := dk_45 (dk_at dksL_law_121 19 rfl rfl)
theorem dL_law_3069 : decode cL_law 3069 = .ok (.invokestatic 353, 3) := dk_184 1 97 (dk_at dksL_law_121 20 rfl rfl)
theorem dL_law_3072 : decode cL_law 3072 = .ok (.istore 6, 2) := dk_54 6 (dk_at dksL_law_122 0 rfl rfl)
theorem dL_law_3074 : decode cL_law 3074 = .ok (.aload_n 2, 1) := dk_44 (dk_at dksL_law_122 2 rfl rfl)
theorem dL_law_3075 : decode cL_law 3075 = .ok (.invokevirtual 355, 3) := dk_182 1 99 (dk_at dksL_law_122 3 rfl rfl)
theorem dL_law_3078 : decode cL_law 3078 = .ok (.istore 7, 2) := dk_54 7 (dk_at dksL_law_122 6 rfl rfl)
theorem dL_law_3080 : decode cL_law 3080 = .ok (.aload_n 2, 1) := dk_44 (dk_at dksL_law_122 8 rfl rfl)
theorem dL_law_3081 : decode cL_law 3081 = .ok (.invokevirtual 205, 3) := dk_182 0 205 (dk_at dksL_law_122 9 rfl rfl)
theorem dL_law_3084 : decode cL_law 3084 = .ok (.iload 6, 2) := dk_21 6 (dk_at dksL_law_122 12 rfl rfl)
theorem dL_law_3086 : decode cL_law 3086 = .ok (.if_icmp .eq 5, 3) := dk_159 0 5 (dk_at dksL_law_122 14 rfl rfl)
theorem dL_law_3089 : decode cL_law 3089 = .ok (.iconst 0, 1) := dk_3 (dk_at dksL_law_122 17 rfl rfl)
theorem dL_law_3090 : decode cL_law 3090 = .ok (.ireturn, 1) := dk_172 (dk_at dksL_law_122 18 rfl rfl)
theorem dL_law_3091 : decode cL_law 3091 = .ok (.iload 6, 2) := dk_21 6 (dk_at dksL_law_122 19 rfl rfl)
theorem dL_law_3093 : decode cL_law 3093 = .ok (.ifCond .ne 15, 3) := dk_154 0 15 (dk_at dksL_law_122 21 rfl rfl)
theorem dL_law_3096 : decode cL_law 3096 = .ok (.aload_n 3, 1) := dk_45 (dk_at dksL_law_123 0 rfl rfl)
theorem dL_law_3097 : decode cL_law 3097 = .ok (.iconst 0, 1) := dk_3 (dk_at dksL_law_123 1 rfl rfl)
theorem dL_law_3098 : decode cL_law 3098 = .ok (.laload, 1) := dk_47 (dk_at dksL_law_123 2 rfl rfl)
theorem dL_law_3099 : decode cL_law 3099 = .ok (.iload 7, 2) := dk_21 7 (dk_at dksL_law_123 3 rfl rfl)
theorem dL_law_3101 : decode cL_law 3101 = .ok (.i2l, 1) := dk_133 (dk_at dksL_law_123 5 rfl rfl)
theorem dL_law_3102 : decode cL_law 3102 = .ok (.lcmp, 1) := dk_148 (dk_at dksL_law_123 6 rfl rfl)
theorem dL_law_3103 : decode cL_law 3103 = .ok (.ifCond .eq 5, 3) := dk_153 0 5 (dk_at dksL_law_123 7 rfl rfl)
theorem dL_law_3106 : decode cL_law 3106 = .ok (.iconst 0, 1) := dk_3 (dk_at dksL_law_123 10 rfl rfl)
theorem dL_law_3107 : decode cL_law 3107 = .ok (.ireturn, 1) := dk_172 (dk_at dksL_law_123 11 rfl rfl)
theorem dL_law_3108 : decode cL_law 3108 = .ok (.goto 668, 3) := dk_167 2 156 (dk_at dksL_law_123 12 rfl rfl)
theorem dL_law_3111 : decode cL_law 3111 = .ok (.aload_n 1, 1) := dk_43 (dk_at dksL_law_123 15 rfl rfl)
theorem dL_law_3112 : decode cL_law 3112 = .ok (.aload_n 0, 1) := dk_42 (dk_at dksL_law_123 16 rfl rfl)
theorem dL_law_3113 : decode cL_law 3113 = .ok (.iload 5, 2) := dk_21 5 (dk_at dksL_law_123 17 rfl rfl)
theorem dL_law_3115 : decode cL_law 3115 = .ok (.iconst 1, 1) := dk_4 (dk_at dksL_law_123 19 rfl rfl)
theorem dL_law_3116 : decode cL_law 3116 = .ok (.iadd, 1) := dk_96 (dk_at dksL_law_123 20 rfl rfl)
theorem dL_law_3117 : decode cL_law 3117 = .ok (.iaload, 1) := dk_46 (dk_at dksL_law_123 21 rfl rfl)
theorem dL_law_3118 : decode cL_law 3118 = .ok (.aload_n 3, 1) := dk_45 (dk_at dksL_law_123 22 rfl rfl)
theorem dL_law_3119 : decode cL_law 3119 = .ok (.invokestatic 356, 3) := dk_184 1 100 (dk_at dksL_law_124 0 rfl rfl)
theorem dL_law_3122 : decode cL_law 3122 = .ok (.istore 6, 2) := dk_54 6 (dk_at dksL_law_124 3 rfl rfl)
theorem dL_law_3124 : decode cL_law 3124 = .ok (.aload_n 2, 1) := dk_44 (dk_at dksL_law_124 5 rfl rfl)
theorem dL_law_3125 : decode cL_law 3125 = .ok (.aload_n 0, 1) := dk_42 (dk_at dksL_law_124 6 rfl rfl)
theorem dL_law_3126 : decode cL_law 3126 = .ok (.iload 5, 2) := dk_21 5 (dk_at dksL_law_124 7 rfl rfl)
theorem dL_law_3128 : decode cL_law 3128 = .ok (.iconst 1, 1) := dk_4 (dk_at dksL_law_124 9 rfl rfl)
theorem dL_law_3129 : decode cL_law 3129 = .ok (.iadd, 1) := dk_96 (dk_at dksL_law_124 10 rfl rfl)
theorem dL_law_3130 : decode cL_law 3130 = .ok (.iaload, 1) := dk_46 (dk_at dksL_law_124 11 rfl rfl)
theorem dL_law_3131 : decode cL_law 3131 = .ok (.invokevirtual 358, 3) := dk_182 1 102 (dk_at dksL_law_124 12 rfl rfl)
theorem dL_law_3134 : decode cL_law 3134 = .ok (.istore 7, 2) := dk_54 7 (dk_at dksL_law_124 15 rfl rfl)
theorem dL_law_3136 : decode cL_law 3136 = .ok (.aload_n 2, 1) := dk_44 (dk_at dksL_law_124 17 rfl rfl)
theorem dL_law_3137 : decode cL_law 3137 = .ok (.invokevirtual 205, 3) := dk_182 0 205 (dk_at dksL_law_124 18 rfl rfl)
theorem dL_law_3140 : decode cL_law 3140 = .ok (.iload 6, 2) := dk_21 6 (dk_at dksL_law_124 21 rfl rfl)
theorem dL_law_3142 : decode cL_law 3142 = .ok (.if_icmp .eq 5, 3) := dk_159 0 5 (dk_at dksL_law_125 0 rfl rfl)
theorem dL_law_3145 : decode cL_law 3145 = .ok (.iconst 0, 1) := dk_3 (dk_at dksL_law_125 3 rfl rfl)
theorem dL_law_3146 : decode cL_law 3146 = .ok (.ireturn, 1) := dk_172 (dk_at dksL_law_125 4 rfl rfl)
theorem dL_law_3147 : decode cL_law 3147 = .ok (.iload 6, 2) := dk_21 6 (dk_at dksL_law_125 5 rfl rfl)
theorem dL_law_3149 : decode cL_law 3149 = .ok (.ifCond .ne 15, 3) := dk_154 0 15 (dk_at dksL_law_125 7 rfl rfl)
theorem dL_law_3152 : decode cL_law 3152 = .ok (.aload_n 3, 1) := dk_45 (dk_at dksL_law_125 10 rfl rfl)
theorem dL_law_3153 : decode cL_law 3153 = .ok (.iconst 0, 1) := dk_3 (dk_at dksL_law_125 11 rfl rfl)
theorem dL_law_3154 : decode cL_law 3154 = .ok (.laload, 1) := dk_47 (dk_at dksL_law_125 12 rfl rfl)
theorem dL_law_3155 : decode cL_law 3155 = .ok (.iload 7, 2) := dk_21 7 (dk_at dksL_law_125 13 rfl rfl)
theorem dL_law_3157 : decode cL_law 3157 = .ok (.i2l, 1) := dk_133 (dk_at dksL_law_125 15 rfl rfl)
theorem dL_law_3158 : decode cL_law 3158 = .ok (.lcmp, 1) := dk_148 (dk_at dksL_law_125 16 rfl rfl)
theorem dL_law_3159 : decode cL_law 3159 = .ok (.ifCond .eq 5, 3) := dk_153 0 5 (dk_at dksL_law_125 17 rfl rfl)
theorem dL_law_3162 : decode cL_law 3162 = .ok (.iconst 0, 1) := dk_3 (dk_at dksL_law_125 20 rfl rfl)
theorem dL_law_3163 : decode cL_law 3163 = .ok (.ireturn, 1) := dk_172 (dk_at dksL_law_125 21 rfl rfl)
theorem dL_law_3164 : decode cL_law 3164 = .ok (.goto 612, 3) := dk_167 2 100 (dk_at dksL_law_126 0 rfl rfl)
theorem dL_law_3167 : decode cL_law 3167 = .ok (.aload_n 1, 1) := dk_43 (dk_at dksL_law_126 3 rfl rfl)
theorem dL_law_3168 : decode cL_law 3168 = .ok (.aload_n 0, 1) := dk_42 (dk_at dksL_law_126 4 rfl rfl)
theorem dL_law_3169 : decode cL_law 3169 = .ok (.iload 5, 2) := dk_21 5 (dk_at dksL_law_126 5 rfl rfl)
theorem dL_law_3171 : decode cL_law 3171 = .ok (.iconst 1, 1) := dk_4 (dk_at dksL_law_126 7 rfl rfl)
theorem dL_law_3172 : decode cL_law 3172 = .ok (.iadd, 1) := dk_96 (dk_at dksL_law_126 8 rfl rfl)
theorem dL_law_3173 : decode cL_law 3173 = .ok (.iaload, 1) := dk_46 (dk_at dksL_law_126 9 rfl rfl)
theorem dL_law_3174 : decode cL_law 3174 = .ok (.aload_n 3, 1) := dk_45 (dk_at dksL_law_126 10 rfl rfl)
theorem dL_law_3175 : decode cL_law 3175 = .ok (.invokestatic 359, 3) := dk_184 1 103 (dk_at dksL_law_126 11 rfl rfl)
theorem dL_law_3178 : decode cL_law 3178 = .ok (.istore 6, 2) := dk_54 6 (dk_at dksL_law_126 14 rfl rfl)
theorem dL_law_3180 : decode cL_law 3180 = .ok (.aload_n 2, 1) := dk_44 (dk_at dksL_law_126 16 rfl rfl)
theorem dL_law_3181 : decode cL_law 3181 = .ok (.aload_n 0, 1) := dk_42 (dk_at dksL_law_126 17 rfl rfl)
theorem dL_law_3182 : decode cL_law 3182 = .ok (.iload 5, 2) := dk_21 5 (dk_at dksL_law_126 18 rfl rfl)
theorem dL_law_3184 : decode cL_law 3184 = .ok (.iconst 1, 1) := dk_4 (dk_at dksL_law_126 20 rfl rfl)
theorem dL_law_3185 : decode cL_law 3185 = .ok (.iadd, 1) := dk_96 (dk_at dksL_law_126 21 rfl rfl)
theorem dL_law_3186 : decode cL_law 3186 = .ok (.iaload, 1) := dk_46 (dk_at dksL_law_126 22 rfl rfl)
theorem dL_law_3187 : decode cL_law 3187 = .ok (.invokevirtual 361, 3) := dk_182 1 105 (dk_at dksL_law_127 0 rfl rfl)
theorem dL_law_3190 : decode cL_law 3190 = .ok (.istore 7, 2) := dk_54 7 (dk_at dksL_law_127 3 rfl rfl)
theorem dL_law_3192 : decode cL_law 3192 = .ok (.aload_n 2, 1) := dk_44 (dk_at dksL_law_127 5 rfl rfl)
theorem dL_law_3193 : decode cL_law 3193 = .ok (.invokevirtual 205, 3) := dk_182 0 205 (dk_at dksL_law_127 6 rfl rfl)
theorem dL_law_3196 : decode cL_law 3196 = .ok (.iload 6, 2) := dk_21 6 (dk_at dksL_law_127 9 rfl rfl)
theorem dL_law_3198 : decode cL_law 3198 = .ok (.if_icmp .eq 5, 3) := dk_159 0 5 (dk_at dksL_law_127 11 rfl rfl)
theorem dL_law_3201 : decode cL_law 3201 = .ok (.iconst 0, 1) := dk_3 (dk_at dksL_law_127 14 rfl rfl)
theorem dL_law_3202 : decode cL_law 3202 = .ok (.ireturn, 1) := dk_172 (dk_at dksL_law_127 15 rfl rfl)
theorem dL_law_3203 : decode cL_law 3203 = .ok (.iload 6, 2) := dk_21 6 (dk_at dksL_law_127 16 rfl rfl)
theorem dL_law_3205 : decode cL_law 3205 = .ok (.ifCond .ne 15, 3) := dk_154 0 15 (dk_at dksL_law_127 18 rfl rfl)
theorem dL_law_3208 : decode cL_law 3208 = .ok (.aload_n 3, 1) := dk_45 (dk_at dksL_law_127 21 rfl rfl)
theorem dL_law_3209 : decode cL_law 3209 = .ok (.iconst 0, 1) := dk_3 (dk_at dksL_law_127 22 rfl rfl)
theorem dL_law_3210 : decode cL_law 3210 = .ok (.laload, 1) := dk_47 (dk_at dksL_law_127 23 rfl rfl)
theorem dL_law_3211 : decode cL_law 3211 = .ok (.iload 7, 2) := dk_21 7 (dk_at dksL_law_128 0 rfl rfl)
theorem dL_law_3213 : decode cL_law 3213 = .ok (.i2l, 1) := dk_133 (dk_at dksL_law_128 2 rfl rfl)
theorem dL_law_3214 : decode cL_law 3214 = .ok (.lcmp, 1) := dk_148 (dk_at dksL_law_128 3 rfl rfl)
theorem dL_law_3215 : decode cL_law 3215 = .ok (.ifCond .eq 5, 3) := dk_153 0 5 (dk_at dksL_law_128 4 rfl rfl)
theorem dL_law_3218 : decode cL_law 3218 = .ok (.iconst 0, 1) := dk_3 (dk_at dksL_law_128 7 rfl rfl)
theorem dL_law_3219 : decode cL_law 3219 = .ok (.ireturn, 1) := dk_172 (dk_at dksL_law_128 8 rfl rfl)
theorem dL_law_3220 : decode cL_law 3220 = .ok (.goto 556, 3) := dk_167 2 44 (dk_at dksL_law_128 9 rfl rfl)
theorem dL_law_3223 : decode cL_law 3223 = .ok (.aload_n 1, 1) := dk_43 (dk_at dksL_law_128 12 rfl rfl)
theorem dL_law_3224 : decode cL_law 3224 = .ok (.aload_n 0, 1) := dk_42 (dk_at dksL_law_128 13 rfl rfl)
theorem dL_law_3225 : decode cL_law 3225 = .ok (.iload 5, 2) := dk_21 5 (dk_at dksL_law_128 14 rfl rfl)
theorem dL_law_3227 : decode cL_law 3227 = .ok (.iconst 1, 1) := dk_4 (dk_at dksL_law_128 16 rfl rfl)
theorem dL_law_3228 : decode cL_law 3228 = .ok (.iadd, 1) := dk_96 (dk_at dksL_law_128 17 rfl rfl)
theorem dL_law_3229 : decode cL_law 3229 = .ok (.iaload, 1) := dk_46 (dk_at dksL_law_128 18 rfl rfl)
theorem dL_law_3230 : decode cL_law 3230 = .ok (.aload_n 0, 1) := dk_42 (dk_at dksL_law_128 19 rfl rfl)
theorem dL_law_3231 : decode cL_law 3231 = .ok (.iload 5, 2) := dk_21 5 (dk_at dksL_law_128 20 rfl rfl)
theorem dL_law_3233 : decode cL_law 3233 = .ok (.iconst 2, 1) := dk_5 (dk_at dksL_law_128 22 rfl rfl)
theorem dL_law_3234 : decode cL_law 3234 = .ok (.iadd, 1) := dk_96 (dk_at dksL_law_128 23 rfl rfl)
theorem dL_law_3235 : decode cL_law 3235 = .ok (.iaload, 1) := dk_46 (dk_at dksL_law_129 0 rfl rfl)
theorem dL_law_3236 : decode cL_law 3236 = .ok (.aload_n 3, 1) := dk_45 (dk_at dksL_law_129 1 rfl rfl)
theorem dL_law_3237 : decode cL_law 3237 = .ok (.invokestatic 362, 3) := dk_184 1 106 (dk_at dksL_law_129 2 rfl rfl)
theorem dL_law_3240 : decode cL_law 3240 = .ok (.istore 6, 2) := dk_54 6 (dk_at dksL_law_129 5 rfl rfl)
theorem dL_law_3242 : decode cL_law 3242 = .ok (.aload_n 2, 1) := dk_44 (dk_at dksL_law_129 7 rfl rfl)
theorem dL_law_3243 : decode cL_law 3243 = .ok (.aload_n 0, 1) := dk_42 (dk_at dksL_law_129 8 rfl rfl)
theorem dL_law_3244 : decode cL_law 3244 = .ok (.iload 5, 2) := dk_21 5 (dk_at dksL_law_129 9 rfl rfl)
theorem dL_law_3246 : decode cL_law 3246 = .ok (.iconst 1, 1) := dk_4 (dk_at dksL_law_129 11 rfl rfl)
theorem dL_law_3247 : decode cL_law 3247 = .ok (.iadd, 1) := dk_96 (dk_at dksL_law_129 12 rfl rfl)
theorem dL_law_3248 : decode cL_law 3248 = .ok (.iaload, 1) := dk_46 (dk_at dksL_law_129 13 rfl rfl)
theorem dL_law_3249 : decode cL_law 3249 = .ok (.aload_n 0, 1) := dk_42 (dk_at dksL_law_129 14 rfl rfl)
theorem dL_law_3250 : decode cL_law 3250 = .ok (.iload 5, 2) := dk_21 5 (dk_at dksL_law_129 15 rfl rfl)
theorem dL_law_3252 : decode cL_law 3252 = .ok (.iconst 2, 1) := dk_5 (dk_at dksL_law_129 17 rfl rfl)
theorem dL_law_3253 : decode cL_law 3253 = .ok (.iadd, 1) := dk_96 (dk_at dksL_law_129 18 rfl rfl)
theorem dL_law_3254 : decode cL_law 3254 = .ok (.iaload, 1) := dk_46 (dk_at dksL_law_129 19 rfl rfl)
theorem dL_law_3255 : decode cL_law 3255 = .ok (.invokevirtual 364, 3) := dk_182 1 108 (dk_at dksL_law_129 20 rfl rfl)
theorem dL_law_3258 : decode cL_law 3258 = .ok (.istore 7, 2) := dk_54 7 (dk_at dksL_law_130 0 rfl rfl)
theorem dL_law_3260 : decode cL_law 3260 = .ok (.aload_n 2, 1) := dk_44 (dk_at dksL_law_130 2 rfl rfl)
theorem dL_law_3261 : decode cL_law 3261 = .ok (.invokevirtual 205, 3) := dk_182 0 205 (dk_at dksL_law_130 3 rfl rfl)
theorem dL_law_3264 : decode cL_law 3264 = .ok (.iload 6, 2) := dk_21 6 (dk_at dksL_law_130 6 rfl rfl)
theorem dL_law_3266 : decode cL_law 3266 = .ok (.if_icmp .eq 5, 3) := dk_159 0 5 (dk_at dksL_law_130 8 rfl rfl)
theorem dL_law_3269 : decode cL_law 3269 = .ok (.iconst 0, 1) := dk_3 (dk_at dksL_law_130 11 rfl rfl)
theorem dL_law_3270 : decode cL_law 3270 = .ok (.ireturn, 1) := dk_172 (dk_at dksL_law_130 12 rfl rfl)
theorem dL_law_3271 : decode cL_law 3271 = .ok (.iload 6, 2) := dk_21 6 (dk_at dksL_law_130 13 rfl rfl)
theorem dL_law_3273 : decode cL_law 3273 = .ok (.ifCond .ne 15, 3) := dk_154 0 15 (dk_at dksL_law_130 15 rfl rfl)
theorem dL_law_3276 : decode cL_law 3276 = .ok (.aload_n 3, 1) := dk_45 (dk_at dksL_law_130 18 rfl rfl)
theorem dL_law_3277 : decode cL_law 3277 = .ok (.iconst 0, 1) := dk_3 (dk_at dksL_law_130 19 rfl rfl)
theorem dL_law_3278 : decode cL_law 3278 = .ok (.laload, 1) := dk_47 (dk_at dksL_law_130 20 rfl rfl)
theorem dL_law_3279 : decode cL_law 3279 = .ok (.iload 7, 2) := dk_21 7 (dk_at dksL_law_130 21 rfl rfl)
theorem dL_law_3281 : decode cL_law 3281 = .ok (.i2l, 1) := dk_133 (dk_at dksL_law_130 23 rfl rfl)
theorem dL_law_3282 : decode cL_law 3282 = .ok (.lcmp, 1) := dk_148 (dk_at dksL_law_131 0 rfl rfl)
theorem dL_law_3283 : decode cL_law 3283 = .ok (.ifCond .eq 5, 3) := dk_153 0 5 (dk_at dksL_law_131 1 rfl rfl)
theorem dL_law_3286 : decode cL_law 3286 = .ok (.iconst 0, 1) := dk_3 (dk_at dksL_law_131 4 rfl rfl)
theorem dL_law_3287 : decode cL_law 3287 = .ok (.ireturn, 1) := dk_172 (dk_at dksL_law_131 5 rfl rfl)
theorem dL_law_3288 : decode cL_law 3288 = .ok (.goto 488, 3) := dk_167 1 232 (dk_at dksL_law_131 6 rfl rfl)
theorem dL_law_3291 : decode cL_law 3291 = .ok (.aload_n 1, 1) := dk_43 (dk_at dksL_law_131 9 rfl rfl)
theorem dL_law_3292 : decode cL_law 3292 = .ok (.aload_n 0, 1) := dk_42 (dk_at dksL_law_131 10 rfl rfl)
theorem dL_law_3293 : decode cL_law 3293 = .ok (.iload 5, 2) := dk_21 5 (dk_at dksL_law_131 11 rfl rfl)
theorem dL_law_3295 : decode cL_law 3295 = .ok (.iconst 1, 1) := dk_4 (dk_at dksL_law_131 13 rfl rfl)
theorem dL_law_3296 : decode cL_law 3296 = .ok (.iadd, 1) := dk_96 (dk_at dksL_law_131 14 rfl rfl)
theorem dL_law_3297 : decode cL_law 3297 = .ok (.iaload, 1) := dk_46 (dk_at dksL_law_131 15 rfl rfl)
theorem dL_law_3298 : decode cL_law 3298 = .ok (.aload_n 3, 1) := dk_45 (dk_at dksL_law_131 16 rfl rfl)
theorem dL_law_3299 : decode cL_law 3299 = .ok (.invokestatic 365, 3) := dk_184 1 109 (dk_at dksL_law_131 17 rfl rfl)
theorem dL_law_3302 : decode cL_law 3302 = .ok (.istore 6, 2) := dk_54 6 (dk_at dksL_law_131 20 rfl rfl)
theorem dL_law_3304 : decode cL_law 3304 = .ok (.aload_n 2, 1) := dk_44 (dk_at dksL_law_131 22 rfl rfl)
theorem dL_law_3305 : decode cL_law 3305 = .ok (.aload_n 0, 1) := dk_42 (dk_at dksL_law_131 23 rfl rfl)
theorem dL_law_3306 : decode cL_law 3306 = .ok (.iload 5, 2) := dk_21 5 (dk_at dksL_law_132 0 rfl rfl)
theorem dL_law_3308 : decode cL_law 3308 = .ok (.iconst 1, 1) := dk_4 (dk_at dksL_law_132 2 rfl rfl)
theorem dL_law_3309 : decode cL_law 3309 = .ok (.iadd, 1) := dk_96 (dk_at dksL_law_132 3 rfl rfl)
theorem dL_law_3310 : decode cL_law 3310 = .ok (.iaload, 1) := dk_46 (dk_at dksL_law_132 4 rfl rfl)
theorem dL_law_3311 : decode cL_law 3311 = .ok (.invokevirtual 367, 3) := dk_182 1 111 (dk_at dksL_law_132 5 rfl rfl)
theorem dL_law_3314 : decode cL_law 3314 = .ok (.istore 7, 2) := dk_54 7 (dk_at dksL_law_132 8 rfl rfl)
theorem dL_law_3316 : decode cL_law 3316 = .ok (.aload_n 2, 1) := dk_44 (dk_at dksL_law_132 10 rfl rfl)
theorem dL_law_3317 : decode cL_law 3317 = .ok (.invokevirtual 205, 3) := dk_182 0 205 (dk_at dksL_law_132 11 rfl rfl)
theorem dL_law_3320 : decode cL_law 3320 = .ok (.iload 6, 2) := dk_21 6 (dk_at dksL_law_132 14 rfl rfl)
theorem dL_law_3322 : decode cL_law 3322 = .ok (.if_icmp .eq 5, 3) := dk_159 0 5 (dk_at dksL_law_132 16 rfl rfl)
theorem dL_law_3325 : decode cL_law 3325 = .ok (.iconst 0, 1) := dk_3 (dk_at dksL_law_132 19 rfl rfl)
theorem dL_law_3326 : decode cL_law 3326 = .ok (.ireturn, 1) := dk_172 (dk_at dksL_law_132 20 rfl rfl)
theorem dL_law_3327 : decode cL_law 3327 = .ok (.iload 6, 2) := dk_21 6 (dk_at dksL_law_132 21 rfl rfl)
theorem dL_law_3329 : decode cL_law 3329 = .ok (.ifCond .ne 15, 3) := dk_154 0 15 (dk_at dksL_law_133 0 rfl rfl)
theorem dL_law_3332 : decode cL_law 3332 = .ok (.aload_n 3, 1) := dk_45 (dk_at dksL_law_133 3 rfl rfl)
theorem dL_law_3333 : decode cL_law 3333 = .ok (.iconst 0, 1) := dk_3 (dk_at dksL_law_133 4 rfl rfl)
theorem dL_law_3334 : decode cL_law 3334 = .ok (.laload, 1) := dk_47 (dk_at dksL_law_133 5 rfl rfl)
theorem dL_law_3335 : decode cL_law 3335 = .ok (.iload 7, 2) := dk_21 7 (dk_at dksL_law_133 6 rfl rfl)
theorem dL_law_3337 : decode cL_law 3337 = .ok (.i2l, 1) := dk_133 (dk_at dksL_law_133 8 rfl rfl)
theorem dL_law_3338 : decode cL_law 3338 = .ok (.lcmp, 1) := dk_148 (dk_at dksL_law_133 9 rfl rfl)
theorem dL_law_3339 : decode cL_law 3339 = .ok (.ifCond .eq 5, 3) := dk_153 0 5 (dk_at dksL_law_133 10 rfl rfl)
theorem dL_law_3342 : decode cL_law 3342 = .ok (.iconst 0, 1) := dk_3 (dk_at dksL_law_133 13 rfl rfl)
theorem dL_law_3343 : decode cL_law 3343 = .ok (.ireturn, 1) := dk_172 (dk_at dksL_law_133 14 rfl rfl)
theorem dL_law_3344 : decode cL_law 3344 = .ok (.goto 432, 3) := dk_167 1 176 (dk_at dksL_law_133 15 rfl rfl)
theorem dL_law_3347 : decode cL_law 3347 = .ok (.aload_n 1, 1) := dk_43 (dk_at dksL_law_133 18 rfl rfl)
theorem dL_law_3348 : decode cL_law 3348 = .ok (.aload_n 0, 1) := dk_42 (dk_at dksL_law_133 19 rfl rfl)
theorem dL_law_3349 : decode cL_law 3349 = .ok (.iload 5, 2) := dk_21 5 (dk_at dksL_law_133 20 rfl rfl)
theorem dL_law_3351 : decode cL_law 3351 = .ok (.iconst 1, 1) := dk_4 (dk_at dksL_law_133 22 rfl rfl)
theorem dL_law_3352 : decode cL_law 3352 = .ok (.iadd, 1) := dk_96 (dk_at dksL_law_133 23 rfl rfl)
theorem dL_law_3353 : decode cL_law 3353 = .ok (.iaload, 1) := dk_46 (dk_at dksL_law_134 0 rfl rfl)
theorem dL_law_3354 : decode cL_law 3354 = .ok (.aload_n 3, 1) := dk_45 (dk_at dksL_law_134 1 rfl rfl)
theorem dL_law_3355 : decode cL_law 3355 = .ok (.invokestatic 368, 3) := dk_184 1 112 (dk_at dksL_law_134 2 rfl rfl)
theorem dL_law_3358 : decode cL_law 3358 = .ok (.istore 6, 2) := dk_54 6 (dk_at dksL_law_134 5 rfl rfl)
theorem dL_law_3360 : decode cL_law 3360 = .ok (.aload_n 2, 1) := dk_44 (dk_at dksL_law_134 7 rfl rfl)
theorem dL_law_3361 : decode cL_law 3361 = .ok (.aload_n 0, 1) := dk_42 (dk_at dksL_law_134 8 rfl rfl)
theorem dL_law_3362 : decode cL_law 3362 = .ok (.iload 5, 2) := dk_21 5 (dk_at dksL_law_134 9 rfl rfl)
theorem dL_law_3364 : decode cL_law 3364 = .ok (.iconst 1, 1) := dk_4 (dk_at dksL_law_134 11 rfl rfl)
theorem dL_law_3365 : decode cL_law 3365 = .ok (.iadd, 1) := dk_96 (dk_at dksL_law_134 12 rfl rfl)
theorem dL_law_3366 : decode cL_law 3366 = .ok (.iaload, 1) := dk_46 (dk_at dksL_law_134 13 rfl rfl)
theorem dL_law_3367 : decode cL_law 3367 = .ok (.invokevirtual 370, 3) := dk_182 1 114 (dk_at dksL_law_134 14 rfl rfl)
theorem dL_law_3370 : decode cL_law 3370 = .ok (.istore 7, 2) := dk_54 7 (dk_at dksL_law_134 17 rfl rfl)
theorem dL_law_3372 : decode cL_law 3372 = .ok (.aload_n 2, 1) := dk_44 (dk_at dksL_law_134 19 rfl rfl)
theorem dL_law_3373 : decode cL_law 3373 = .ok (.invokevirtual 205, 3) := dk_182 0 205 (dk_at dksL_law_134 20 rfl rfl)
theorem dL_law_3376 : decode cL_law 3376 = .ok (.iload 6, 2) := dk_21 6 (dk_at dksL_law_135 0 rfl rfl)
theorem dL_law_3378 : decode cL_law 3378 = .ok (.if_icmp .eq 5, 3) := dk_159 0 5 (dk_at dksL_law_135 2 rfl rfl)
theorem dL_law_3381 : decode cL_law 3381 = .ok (.iconst 0, 1) := dk_3 (dk_at dksL_law_135 5 rfl rfl)
theorem dL_law_3382 : decode cL_law 3382 = .ok (.ireturn, 1) := dk_172 (dk_at dksL_law_135 6 rfl rfl)
theorem dL_law_3383 : decode cL_law 3383 = .ok (.iload 6, 2) := dk_21 6 (dk_at dksL_law_135 7 rfl rfl)
theorem dL_law_3385 : decode cL_law 3385 = .ok (.ifCond .ne 15, 3) := dk_154 0 15 (dk_at dksL_law_135 9 rfl rfl)
theorem dL_law_3388 : decode cL_law 3388 = .ok (.aload_n 3, 1) := dk_45 (dk_at dksL_law_135 12 rfl rfl)
theorem dL_law_3389 : decode cL_law 3389 = .ok (.iconst 0, 1) := dk_3 (dk_at dksL_law_135 13 rfl rfl)
theorem dL_law_3390 : decode cL_law 3390 = .ok (.laload, 1) := dk_47 (dk_at dksL_law_135 14 rfl rfl)
theorem dL_law_3391 : decode cL_law 3391 = .ok (.iload 7, 2) := dk_21 7 (dk_at dksL_law_135 15 rfl rfl)
theorem dL_law_3393 : decode cL_law 3393 = .ok (.i2l, 1) := dk_133 (dk_at dksL_law_135 17 rfl rfl)
theorem dL_law_3394 : decode cL_law 3394 = .ok (.lcmp, 1) := dk_148 (dk_at dksL_law_135 18 rfl rfl)
theorem dL_law_3395 : decode cL_law 3395 = .ok (.ifCond .eq 5, 3) := dk_153 0 5 (dk_at dksL_law_135 19 rfl rfl)
theorem dL_law_3398 : decode cL_law 3398 = .ok (.iconst 0, 1) := dk_3 (dk_at dksL_law_135 22 rfl rfl)
theorem dL_law_3399 : decode cL_law 3399 = .ok (.ireturn, 1) := dk_172 (dk_at dksL_law_135 23 rfl rfl)
theorem dL_law_3400 : decode cL_law 3400 = .ok (.goto 376, 3) := dk_167 1 120 (dk_at dksL_law_136 0 rfl rfl)
theorem dL_law_3403 : decode cL_law 3403 = .ok (.aload_n 1, 1) := dk_43 (dk_at dksL_law_136 3 rfl rfl)
theorem dL_law_3404 : decode cL_law 3404 = .ok (.aload_n 0, 1) := dk_42 (dk_at dksL_law_136 4 rfl rfl)
theorem dL_law_3405 : decode cL_law 3405 = .ok (.iload 5, 2) := dk_21 5 (dk_at dksL_law_136 5 rfl rfl)
theorem dL_law_3407 : decode cL_law 3407 = .ok (.iconst 1, 1) := dk_4 (dk_at dksL_law_136 7 rfl rfl)
theorem dL_law_3408 : decode cL_law 3408 = .ok (.iadd, 1) := dk_96 (dk_at dksL_law_136 8 rfl rfl)
theorem dL_law_3409 : decode cL_law 3409 = .ok (.iaload, 1) := dk_46 (dk_at dksL_law_136 9 rfl rfl)
theorem dL_law_3410 : decode cL_law 3410 = .ok (.aload_n 3, 1) := dk_45 (dk_at dksL_law_136 10 rfl rfl)
theorem dL_law_3411 : decode cL_law 3411 = .ok (.invokestatic 371, 3) := dk_184 1 115 (dk_at dksL_law_136 11 rfl rfl)
theorem dL_law_3414 : decode cL_law 3414 = .ok (.istore 6, 2) := dk_54 6 (dk_at dksL_law_136 14 rfl rfl)
theorem dL_law_3416 : decode cL_law 3416 = .ok (.aload_n 2, 1) := dk_44 (dk_at dksL_law_136 16 rfl rfl)
theorem dL_law_3417 : decode cL_law 3417 = .ok (.aload_n 0, 1) := dk_42 (dk_at dksL_law_136 17 rfl rfl)
theorem dL_law_3418 : decode cL_law 3418 = .ok (.iload 5, 2) := dk_21 5 (dk_at dksL_law_136 18 rfl rfl)
theorem dL_law_3420 : decode cL_law 3420 = .ok (.iconst 1, 1) := dk_4 (dk_at dksL_law_136 20 rfl rfl)
theorem dL_law_3421 : decode cL_law 3421 = .ok (.iadd, 1) := dk_96 (dk_at dksL_law_136 21 rfl rfl)
theorem dL_law_3422 : decode cL_law 3422 = .ok (.iaload, 1) := dk_46 (dk_at dksL_law_136 22 rfl rfl)
theorem dL_law_3423 : decode cL_law 3423 = .ok (.invokevirtual 373, 3) := dk_182 1 117 (dk_at dksL_law_137 0 rfl rfl)
theorem dL_law_3426 : decode cL_law 3426 = .ok (.istore 7, 2) := dk_54 7 (dk_at dksL_law_137 3 rfl rfl)
theorem dL_law_3428 : decode cL_law 3428 = .ok (.aload_n 2, 1) := dk_44 (dk_at dksL_law_137 5 rfl rfl)
theorem dL_law_3429 : decode cL_law 3429 = .ok (.invokevirtual 205, 3) := dk_182 0 205 (dk_at dksL_law_137 6 rfl rfl)
theorem dL_law_3432 : decode cL_law 3432 = .ok (.iload 6, 2) := dk_21 6 (dk_at dksL_law_137 9 rfl rfl)
theorem dL_law_3434 : decode cL_law 3434 = .ok (.if_icmp .eq 5, 3) := dk_159 0 5 (dk_at dksL_law_137 11 rfl rfl)
theorem dL_law_3437 : decode cL_law 3437 = .ok (.iconst 0, 1) := dk_3 (dk_at dksL_law_137 14 rfl rfl)
theorem dL_law_3438 : decode cL_law 3438 = .ok (.ireturn, 1) := dk_172 (dk_at dksL_law_137 15 rfl rfl)
theorem dL_law_3439 : decode cL_law 3439 = .ok (.iload 6, 2) := dk_21 6 (dk_at dksL_law_137 16 rfl rfl)
theorem dL_law_3441 : decode cL_law 3441 = .ok (.ifCond .ne 15, 3) := dk_154 0 15 (dk_at dksL_law_137 18 rfl rfl)
theorem dL_law_3444 : decode cL_law 3444 = .ok (.aload_n 3, 1) := dk_45 (dk_at dksL_law_137 21 rfl rfl)
theorem dL_law_3445 : decode cL_law 3445 = .ok (.iconst 0, 1) := dk_3 (dk_at dksL_law_137 22 rfl rfl)
theorem dL_law_3446 : decode cL_law 3446 = .ok (.laload, 1) := dk_47 (dk_at dksL_law_137 23 rfl rfl)
theorem dL_law_3447 : decode cL_law 3447 = .ok (.iload 7, 2) := dk_21 7 (dk_at dksL_law_138 0 rfl rfl)
theorem dL_law_3449 : decode cL_law 3449 = .ok (.i2l, 1) := dk_133 (dk_at dksL_law_138 2 rfl rfl)
theorem dL_law_3450 : decode cL_law 3450 = .ok (.lcmp, 1) := dk_148 (dk_at dksL_law_138 3 rfl rfl)
theorem dL_law_3451 : decode cL_law 3451 = .ok (.ifCond .eq 5, 3) := dk_153 0 5 (dk_at dksL_law_138 4 rfl rfl)
theorem dL_law_3454 : decode cL_law 3454 = .ok (.iconst 0, 1) := dk_3 (dk_at dksL_law_138 7 rfl rfl)
theorem dL_law_3455 : decode cL_law 3455 = .ok (.ireturn, 1) := dk_172 (dk_at dksL_law_138 8 rfl rfl)
theorem dL_law_3456 : decode cL_law 3456 = .ok (.goto 320, 3) := dk_167 1 64 (dk_at dksL_law_138 9 rfl rfl)
theorem dL_law_3459 : decode cL_law 3459 = .ok (.aload_n 1, 1) := dk_43 (dk_at dksL_law_138 12 rfl rfl)
theorem dL_law_3460 : decode cL_law 3460 = .ok (.aload_n 0, 1) := dk_42 (dk_at dksL_law_138 13 rfl rfl)
theorem dL_law_3461 : decode cL_law 3461 = .ok (.iload 5, 2) := dk_21 5 (dk_at dksL_law_138 14 rfl rfl)
theorem dL_law_3463 : decode cL_law 3463 = .ok (.iconst 1, 1) := dk_4 (dk_at dksL_law_138 16 rfl rfl)
theorem dL_law_3464 : decode cL_law 3464 = .ok (.iadd, 1) := dk_96 (dk_at dksL_law_138 17 rfl rfl)
theorem dL_law_3465 : decode cL_law 3465 = .ok (.iaload, 1) := dk_46 (dk_at dksL_law_138 18 rfl rfl)
theorem dL_law_3466 : decode cL_law 3466 = .ok (.aload_n 3, 1) := dk_45 (dk_at dksL_law_138 19 rfl rfl)
theorem dL_law_3467 : decode cL_law 3467 = .ok (.invokestatic 374, 3) := dk_184 1 118 (dk_at dksL_law_138 20 rfl rfl)
theorem dL_law_3470 : decode cL_law 3470 = .ok (.istore 6, 2) := dk_54 6 (dk_at dksL_law_139 0 rfl rfl)
theorem dL_law_3472 : decode cL_law 3472 = .ok (.aload_n 2, 1) := dk_44 (dk_at dksL_law_139 2 rfl rfl)
theorem dL_law_3473 : decode cL_law 3473 = .ok (.aload_n 0, 1) := dk_42 (dk_at dksL_law_139 3 rfl rfl)
theorem dL_law_3474 : decode cL_law 3474 = .ok (.iload 5, 2) := dk_21 5 (dk_at dksL_law_139 4 rfl rfl)
theorem dL_law_3476 : decode cL_law 3476 = .ok (.iconst 1, 1) := dk_4 (dk_at dksL_law_139 6 rfl rfl)
theorem dL_law_3477 : decode cL_law 3477 = .ok (.iadd, 1) := dk_96 (dk_at dksL_law_139 7 rfl rfl)
theorem dL_law_3478 : decode cL_law 3478 = .ok (.iaload, 1) := dk_46 (dk_at dksL_law_139 8 rfl rfl)
theorem dL_law_3479 : decode cL_law 3479 = .ok (.invokevirtual 376, 3) := dk_182 1 120 (dk_at dksL_law_139 9 rfl rfl)
theorem dL_law_3482 : decode cL_law 3482 = .ok (.istore 7, 2) := dk_54 7 (dk_at dksL_law_139 12 rfl rfl)
theorem dL_law_3484 : decode cL_law 3484 = .ok (.aload_n 2, 1) := dk_44 (dk_at dksL_law_139 14 rfl rfl)
theorem dL_law_3485 : decode cL_law 3485 = .ok (.invokevirtual 205, 3) := dk_182 0 205 (dk_at dksL_law_139 15 rfl rfl)
theorem dL_law_3488 : decode cL_law 3488 = .ok (.iload 6, 2) := dk_21 6 (dk_at dksL_law_139 18 rfl rfl)
theorem dL_law_3490 : decode cL_law 3490 = .ok (.if_icmp .eq 5, 3) := dk_159 0 5 (dk_at dksL_law_139 20 rfl rfl)
theorem dL_law_3493 : decode cL_law 3493 = .ok (.iconst 0, 1) := dk_3 (dk_at dksL_law_139 23 rfl rfl)
theorem dL_law_3494 : decode cL_law 3494 = .ok (.ireturn, 1) := dk_172 (dk_at dksL_law_140 0 rfl rfl)
theorem dL_law_3495 : decode cL_law 3495 = .ok (.iload 6, 2) := dk_21 6 (dk_at dksL_law_140 1 rfl rfl)
theorem dL_law_3497 : decode cL_law 3497 = .ok (.ifCond .ne 15, 3) := dk_154 0 15 (dk_at dksL_law_140 3 rfl rfl)
theorem dL_law_3500 : decode cL_law 3500 = .ok (.aload_n 3, 1) := dk_45 (dk_at dksL_law_140 6 rfl rfl)
theorem dL_law_3501 : decode cL_law 3501 = .ok (.iconst 0, 1) := dk_3 (dk_at dksL_law_140 7 rfl rfl)
theorem dL_law_3502 : decode cL_law 3502 = .ok (.laload, 1) := dk_47 (dk_at dksL_law_140 8 rfl rfl)
theorem dL_law_3503 : decode cL_law 3503 = .ok (.iload 7, 2) := dk_21 7 (dk_at dksL_law_140 9 rfl rfl)
theorem dL_law_3505 : decode cL_law 3505 = .ok (.i2l, 1) := dk_133 (dk_at dksL_law_140 11 rfl rfl)
theorem dL_law_3506 : decode cL_law 3506 = .ok (.lcmp, 1) := dk_148 (dk_at dksL_law_140 12 rfl rfl)
theorem dL_law_3507 : decode cL_law 3507 = .ok (.ifCond .eq 5, 3) := dk_153 0 5 (dk_at dksL_law_140 13 rfl rfl)
theorem dL_law_3510 : decode cL_law 3510 = .ok (.iconst 0, 1) := dk_3 (dk_at dksL_law_140 16 rfl rfl)
theorem dL_law_3511 : decode cL_law 3511 = .ok (.ireturn, 1) := dk_172 (dk_at dksL_law_140 17 rfl rfl)
theorem dL_law_3512 : decode cL_law 3512 = .ok (.goto 264, 3) := dk_167 1 8 (dk_at dksL_law_140 18 rfl rfl)
theorem dL_law_3515 : decode cL_law 3515 = .ok (.aload_n 1, 1) := dk_43 (dk_at dksL_law_140 21 rfl rfl)
theorem dL_law_3516 : decode cL_law 3516 = .ok (.aload_n 0, 1) := dk_42 (dk_at dksL_law_140 22 rfl rfl)
theorem dL_law_3517 : decode cL_law 3517 = .ok (.iload 5, 2) := dk_21 5 (dk_at dksL_law_141 0 rfl rfl)
theorem dL_law_3519 : decode cL_law 3519 = .ok (.iconst 1, 1) := dk_4 (dk_at dksL_law_141 2 rfl rfl)
theorem dL_law_3520 : decode cL_law 3520 = .ok (.iadd, 1) := dk_96 (dk_at dksL_law_141 3 rfl rfl)
theorem dL_law_3521 : decode cL_law 3521 = .ok (.iaload, 1) := dk_46 (dk_at dksL_law_141 4 rfl rfl)
theorem dL_law_3522 : decode cL_law 3522 = .ok (.aload_n 0, 1) := dk_42 (dk_at dksL_law_141 5 rfl rfl)
theorem dL_law_3523 : decode cL_law 3523 = .ok (.iload 5, 2) := dk_21 5 (dk_at dksL_law_141 6 rfl rfl)
theorem dL_law_3525 : decode cL_law 3525 = .ok (.iconst 2, 1) := dk_5 (dk_at dksL_law_141 8 rfl rfl)
theorem dL_law_3526 : decode cL_law 3526 = .ok (.iadd, 1) := dk_96 (dk_at dksL_law_141 9 rfl rfl)
theorem dL_law_3527 : decode cL_law 3527 = .ok (.iaload, 1) := dk_46 (dk_at dksL_law_141 10 rfl rfl)
theorem dL_law_3528 : decode cL_law 3528 = .ok (.aload_n 0, 1) := dk_42 (dk_at dksL_law_141 11 rfl rfl)
theorem dL_law_3529 : decode cL_law 3529 = .ok (.iload 5, 2) := dk_21 5 (dk_at dksL_law_141 12 rfl rfl)
theorem dL_law_3531 : decode cL_law 3531 = .ok (.iconst 3, 1) := dk_6 (dk_at dksL_law_141 14 rfl rfl)
theorem dL_law_3532 : decode cL_law 3532 = .ok (.iadd, 1) := dk_96 (dk_at dksL_law_141 15 rfl rfl)
theorem dL_law_3533 : decode cL_law 3533 = .ok (.iaload, 1) := dk_46 (dk_at dksL_law_141 16 rfl rfl)
theorem dL_law_3534 : decode cL_law 3534 = .ok (.aload_n 0, 1) := dk_42 (dk_at dksL_law_141 17 rfl rfl)
theorem dL_law_3535 : decode cL_law 3535 = .ok (.iload 5, 2) := dk_21 5 (dk_at dksL_law_141 18 rfl rfl)
theorem dL_law_3537 : decode cL_law 3537 = .ok (.iconst 4, 1) := dk_7 (dk_at dksL_law_141 20 rfl rfl)
theorem dL_law_3538 : decode cL_law 3538 = .ok (.iadd, 1) := dk_96 (dk_at dksL_law_141 21 rfl rfl)
theorem dL_law_3539 : decode cL_law 3539 = .ok (.iaload, 1) := dk_46 (dk_at dksL_law_141 22 rfl rfl)
theorem dL_law_3540 : decode cL_law 3540 = .ok (.aload_n 3, 1) := dk_45 (dk_at dksL_law_141 23 rfl rfl)
theorem dL_law_3541 : decode cL_law 3541 = .ok (.invokestatic 377, 3) := dk_184 1 121 (dk_at dksL_law_142 0 rfl rfl)
theorem dL_law_3544 : decode cL_law 3544 = .ok (.istore 6, 2) := dk_54 6 (dk_at dksL_law_142 3 rfl rfl)
theorem dL_law_3546 : decode cL_law 3546 = .ok (.aload_n 2, 1) := dk_44 (dk_at dksL_law_142 5 rfl rfl)
theorem dL_law_3547 : decode cL_law 3547 = .ok (.aload_n 0, 1) := dk_42 (dk_at dksL_law_142 6 rfl rfl)
theorem dL_law_3548 : decode cL_law 3548 = .ok (.iload 5, 2) := dk_21 5 (dk_at dksL_law_142 7 rfl rfl)
theorem dL_law_3550 : decode cL_law 3550 = .ok (.iconst 1, 1) := dk_4 (dk_at dksL_law_142 9 rfl rfl)
theorem dL_law_3551 : decode cL_law 3551 = .ok (.iadd, 1) := dk_96 (dk_at dksL_law_142 10 rfl rfl)
theorem dL_law_3552 : decode cL_law 3552 = .ok (.iaload, 1) := dk_46 (dk_at dksL_law_142 11 rfl rfl)
theorem dL_law_3553 : decode cL_law 3553 = .ok (.aload_n 0, 1) := dk_42 (dk_at dksL_law_142 12 rfl rfl)
theorem dL_law_3554 : decode cL_law 3554 = .ok (.iload 5, 2) := dk_21 5 (dk_at dksL_law_142 13 rfl rfl)
theorem dL_law_3556 : decode cL_law 3556 = .ok (.iconst 2, 1) := dk_5 (dk_at dksL_law_142 15 rfl rfl)
theorem dL_law_3557 : decode cL_law 3557 = .ok (.iadd, 1) := dk_96 (dk_at dksL_law_142 16 rfl rfl)
theorem dL_law_3558 : decode cL_law 3558 = .ok (.iaload, 1) := dk_46 (dk_at dksL_law_142 17 rfl rfl)
theorem dL_law_3559 : decode cL_law 3559 = .ok (.aload_n 0, 1) := dk_42 (dk_at dksL_law_142 18 rfl rfl)
theorem dL_law_3560 : decode cL_law 3560 = .ok (.iload 5, 2) := dk_21 5 (dk_at dksL_law_142 19 rfl rfl)
theorem dL_law_3562 : decode cL_law 3562 = .ok (.iconst 3, 1) := dk_6 (dk_at dksL_law_142 21 rfl rfl)
theorem dL_law_3563 : decode cL_law 3563 = .ok (.iadd, 1) := dk_96 (dk_at dksL_law_142 22 rfl rfl)
theorem dL_law_3564 : decode cL_law 3564 = .ok (.iaload, 1) := dk_46 (dk_at dksL_law_142 23 rfl rfl)
theorem dL_law_3565 : decode cL_law 3565 = .ok (.aload_n 0, 1) := dk_42 (dk_at dksL_law_143 0 rfl rfl)
theorem dL_law_3566 : decode cL_law 3566 = .ok (.iload 5, 2) := dk_21 5 (dk_at dksL_law_143 1 rfl rfl)
theorem dL_law_3568 : decode cL_law 3568 = .ok (.iconst 4, 1) := dk_7 (dk_at dksL_law_143 3 rfl rfl)
theorem dL_law_3569 : decode cL_law 3569 = .ok (.iadd, 1) := dk_96 (dk_at dksL_law_143 4 rfl rfl)
theorem dL_law_3570 : decode cL_law 3570 = .ok (.iaload, 1) := dk_46 (dk_at dksL_law_143 5 rfl rfl)
theorem dL_law_3571 : decode cL_law 3571 = .ok (.invokevirtual 380, 3) := dk_182 1 124 (dk_at dksL_law_143 6 rfl rfl)
theorem dL_law_3574 : decode cL_law 3574 = .ok (.istore 7, 2) := dk_54 7 (dk_at dksL_law_143 9 rfl rfl)
theorem dL_law_3576 : decode cL_law 3576 = .ok (.aload_n 2, 1) := dk_44 (dk_at dksL_law_143 11 rfl rfl)
theorem dL_law_3577 : decode cL_law 3577 = .ok (.invokevirtual 205, 3) := dk_182 0 205 (dk_at dksL_law_143 12 rfl rfl)
theorem dL_law_3580 : decode cL_law 3580 = .ok (.iload 6, 2) := dk_21 6 (dk_at dksL_law_143 15 rfl rfl)
theorem dL_law_3582 : decode cL_law 3582 = .ok (.if_icmp .eq 5, 3) := dk_159 0 5 (dk_at dksL_law_143 17 rfl rfl)
theorem dL_law_3585 : decode cL_law 3585 = .ok (.iconst 0, 1) := dk_3 (dk_at dksL_law_143 20 rfl rfl)
theorem dL_law_3586 : decode cL_law 3586 = .ok (.ireturn, 1) := dk_172 (dk_at dksL_law_143 21 rfl rfl)
theorem dL_law_3587 : decode cL_law 3587 = .ok (.iload 6, 2) := dk_21 6 (dk_at dksL_law_143 22 rfl rfl)
theorem dL_law_3589 : decode cL_law 3589 = .ok (.ifCond .ne 15, 3) := dk_154 0 15 (dk_at dksL_law_144 0 rfl rfl)
theorem dL_law_3592 : decode cL_law 3592 = .ok (.aload_n 3, 1) := dk_45 (dk_at dksL_law_144 3 rfl rfl)
theorem dL_law_3593 : decode cL_law 3593 = .ok (.iconst 0, 1) := dk_3 (dk_at dksL_law_144 4 rfl rfl)
theorem dL_law_3594 : decode cL_law 3594 = .ok (.laload, 1) := dk_47 (dk_at dksL_law_144 5 rfl rfl)
theorem dL_law_3595 : decode cL_law 3595 = .ok (.iload 7, 2) := dk_21 7 (dk_at dksL_law_144 6 rfl rfl)
theorem dL_law_3597 : decode cL_law 3597 = .ok (.i2l, 1) := dk_133 (dk_at dksL_law_144 8 rfl rfl)
theorem dL_law_3598 : decode cL_law 3598 = .ok (.lcmp, 1) := dk_148 (dk_at dksL_law_144 9 rfl rfl)
theorem dL_law_3599 : decode cL_law 3599 = .ok (.ifCond .eq 5, 3) := dk_153 0 5 (dk_at dksL_law_144 10 rfl rfl)
theorem dL_law_3602 : decode cL_law 3602 = .ok (.iconst 0, 1) := dk_3 (dk_at dksL_law_144 13 rfl rfl)
theorem dL_law_3603 : decode cL_law 3603 = .ok (.ireturn, 1) := dk_172 (dk_at dksL_law_144 14 rfl rfl)
theorem dL_law_3604 : decode cL_law 3604 = .ok (.goto 172, 3) := dk_167 0 172 (dk_at dksL_law_144 15 rfl rfl)
theorem dL_law_3607 : decode cL_law 3607 = .ok (.aload_n 1, 1) := dk_43 (dk_at dksL_law_144 18 rfl rfl)
theorem dL_law_3608 : decode cL_law 3608 = .ok (.aload_n 3, 1) := dk_45 (dk_at dksL_law_144 19 rfl rfl)
theorem dL_law_3609 : decode cL_law 3609 = .ok (.invokestatic 381, 3) := dk_184 1 125 (dk_at dksL_law_144 20 rfl rfl)
theorem dL_law_3612 : decode cL_law 3612 = .ok (.istore 6, 2) := dk_54 6 (dk_at dksL_law_145 0 rfl rfl)
theorem dL_law_3614 : decode cL_law 3614 = .ok (.aload_n 2, 1) := dk_44 (dk_at dksL_law_145 2 rfl rfl)
theorem dL_law_3615 : decode cL_law 3615 = .ok (.invokevirtual 383, 3) := dk_182 1 127 (dk_at dksL_law_145 3 rfl rfl)
theorem dL_law_3618 : decode cL_law 3618 = .ok (.istore 7, 2) := dk_54 7 (dk_at dksL_law_145 6 rfl rfl)
theorem dL_law_3620 : decode cL_law 3620 = .ok (.aload_n 2, 1) := dk_44 (dk_at dksL_law_145 8 rfl rfl)
theorem dL_law_3621 : decode cL_law 3621 = .ok (.invokevirtual 205, 3) := dk_182 0 205 (dk_at dksL_law_145 9 rfl rfl)
theorem dL_law_3624 : decode cL_law 3624 = .ok (.iload 6, 2) := dk_21 6 (dk_at dksL_law_145 12 rfl rfl)
theorem dL_law_3626 : decode cL_law 3626 = .ok (.if_icmp .eq 5, 3) := dk_159 0 5 (dk_at dksL_law_145 14 rfl rfl)
theorem dL_law_3629 : decode cL_law 3629 = .ok (.iconst 0, 1) := dk_3 (dk_at dksL_law_145 17 rfl rfl)
theorem dL_law_3630 : decode cL_law 3630 = .ok (.ireturn, 1) := dk_172 (dk_at dksL_law_145 18 rfl rfl)
theorem dL_law_3631 : decode cL_law 3631 = .ok (.iload 6, 2) := dk_21 6 (dk_at dksL_law_145 19 rfl rfl)
theorem dL_law_3633 : decode cL_law 3633 = .ok (.ifCond .ne 15, 3) := dk_154 0 15 (dk_at dksL_law_145 21 rfl rfl)
theorem dL_law_3636 : decode cL_law 3636 = .ok (.aload_n 3, 1) := dk_45 (dk_at dksL_law_146 0 rfl rfl)
theorem dL_law_3637 : decode cL_law 3637 = .ok (.iconst 0, 1) := dk_3 (dk_at dksL_law_146 1 rfl rfl)
theorem dL_law_3638 : decode cL_law 3638 = .ok (.laload, 1) := dk_47 (dk_at dksL_law_146 2 rfl rfl)
theorem dL_law_3639 : decode cL_law 3639 = .ok (.iload 7, 2) := dk_21 7 (dk_at dksL_law_146 3 rfl rfl)
theorem dL_law_3641 : decode cL_law 3641 = .ok (.i2l, 1) := dk_133 (dk_at dksL_law_146 5 rfl rfl)
theorem dL_law_3642 : decode cL_law 3642 = .ok (.lcmp, 1) := dk_148 (dk_at dksL_law_146 6 rfl rfl)
theorem dL_law_3643 : decode cL_law 3643 = .ok (.ifCond .eq 5, 3) := dk_153 0 5 (dk_at dksL_law_146 7 rfl rfl)
theorem dL_law_3646 : decode cL_law 3646 = .ok (.iconst 0, 1) := dk_3 (dk_at dksL_law_146 10 rfl rfl)
theorem dL_law_3647 : decode cL_law 3647 = .ok (.ireturn, 1) := dk_172 (dk_at dksL_law_146 11 rfl rfl)
theorem dL_law_3648 : decode cL_law 3648 = .ok (.goto 128, 3) := dk_167 0 128 (dk_at dksL_law_146 12 rfl rfl)
theorem dL_law_3651 : decode cL_law 3651 = .ok (.aload_n 1, 1) := dk_43 (dk_at dksL_law_146 15 rfl rfl)
theorem dL_law_3652 : decode cL_law 3652 = .ok (.invokevirtual 384, 3) := dk_182 1 128 (dk_at dksL_law_146 16 rfl rfl)
theorem dL_law_3655 : decode cL_law 3655 = .ok (.aload_n 2, 1) := dk_44 (dk_at dksL_law_146 19 rfl rfl)
theorem dL_law_3656 : decode cL_law 3656 = .ok (.invokevirtual 387, 3) := dk_182 1 131 (dk_at dksL_law_146 20 rfl rfl)
theorem dL_law_3659 : decode cL_law 3659 = .ok (.if_icmp .eq 117, 3) := dk_159 0 117 (dk_at dksL_law_147 0 rfl rfl)
theorem dL_law_3662 : decode cL_law 3662 = .ok (.iconst 0, 1) := dk_3 (dk_at dksL_law_147 3 rfl rfl)
theorem dL_law_3663 : decode cL_law 3663 = .ok (.ireturn, 1) := dk_172 (dk_at dksL_law_147 4 rfl rfl)
theorem dL_law_3664 : decode cL_law 3664 = .ok (.aload_n 1, 1) := dk_43 (dk_at dksL_law_147 5 rfl rfl)
theorem dL_law_3665 : decode cL_law 3665 = .ok (.aload_n 0, 1) := dk_42 (dk_at dksL_law_147 6 rfl rfl)
theorem dL_law_3666 : decode cL_law 3666 = .ok (.iload 5, 2) := dk_21 5 (dk_at dksL_law_147 7 rfl rfl)
theorem dL_law_3668 : decode cL_law 3668 = .ok (.iconst 1, 1) := dk_4 (dk_at dksL_law_147 9 rfl rfl)
theorem dL_law_3669 : decode cL_law 3669 = .ok (.iadd, 1) := dk_96 (dk_at dksL_law_147 10 rfl rfl)
theorem dL_law_3670 : decode cL_law 3670 = .ok (.iaload, 1) := dk_46 (dk_at dksL_law_147 11 rfl rfl)
theorem dL_law_3671 : decode cL_law 3671 = .ok (.aload_n 3, 1) := dk_45 (dk_at dksL_law_147 12 rfl rfl)
theorem dL_law_3672 : decode cL_law 3672 = .ok (.invokestatic 388, 3) := dk_184 1 132 (dk_at dksL_law_147 13 rfl rfl)
theorem dL_law_3675 : decode cL_law 3675 = .ok (.istore 6, 2) := dk_54 6 (dk_at dksL_law_147 16 rfl rfl)
theorem dL_law_3677 : decode cL_law 3677 = .ok (.aload_n 2, 1) := dk_44 (dk_at dksL_law_147 18 rfl rfl)
theorem dL_law_3678 : decode cL_law 3678 = .ok (.aload_n 0, 1) := dk_42 (dk_at dksL_law_147 19 rfl rfl)
theorem dL_law_3679 : decode cL_law 3679 = .ok (.iload 5, 2) := dk_21 5 (dk_at dksL_law_147 20 rfl rfl)
theorem dL_law_3681 : decode cL_law 3681 = .ok (.iconst 1, 1) := dk_4 (dk_at dksL_law_147 22 rfl rfl)
theorem dL_law_3682 : decode cL_law 3682 = .ok (.iadd, 1) := dk_96 (dk_at dksL_law_147 23 rfl rfl)
theorem dL_law_3683 : decode cL_law 3683 = .ok (.iaload, 1) := dk_46 (dk_at dksL_law_148 0 rfl rfl)
theorem dL_law_3684 : decode cL_law 3684 = .ok (.invokevirtual 390, 3) := dk_182 1 134 (dk_at dksL_law_148 1 rfl rfl)
theorem dL_law_3687 : decode cL_law 3687 = .ok (.istore 7, 2) := dk_54 7 (dk_at dksL_law_148 4 rfl rfl)
theorem dL_law_3689 : decode cL_law 3689 = .ok (.aload_n 2, 1) := dk_44 (dk_at dksL_law_148 6 rfl rfl)
theorem dL_law_3690 : decode cL_law 3690 = .ok (.invokevirtual 205, 3) := dk_182 0 205 (dk_at dksL_law_148 7 rfl rfl)
theorem dL_law_3693 : decode cL_law 3693 = .ok (.iload 6, 2) := dk_21 6 (dk_at dksL_law_148 10 rfl rfl)
theorem dL_law_3695 : decode cL_law 3695 = .ok (.if_icmp .eq 5, 3) := dk_159 0 5 (dk_at dksL_law_148 12 rfl rfl)
theorem dL_law_3698 : decode cL_law 3698 = .ok (.iconst 0, 1) := dk_3 (dk_at dksL_law_148 15 rfl rfl)
theorem dL_law_3699 : decode cL_law 3699 = .ok (.ireturn, 1) := dk_172 (dk_at dksL_law_148 16 rfl rfl)
theorem dL_law_3700 : decode cL_law 3700 = .ok (.iload 6, 2) := dk_21 6 (dk_at dksL_law_148 17 rfl rfl)
theorem dL_law_3702 : decode cL_law 3702 = .ok (.ifCond .ne 15, 3) := dk_154 0 15 (dk_at dksL_law_148 19 rfl rfl)
theorem dL_law_3705 : decode cL_law 3705 = .ok (.aload_n 3, 1) := dk_45 (dk_at dksL_law_148 22 rfl rfl)
theorem dL_law_3706 : decode cL_law 3706 = .ok (.iconst 0, 1) := dk_3 (dk_at dksL_law_148 23 rfl rfl)
theorem dL_law_3707 : decode cL_law 3707 = .ok (.laload, 1) := dk_47 (dk_at dksL_law_149 0 rfl rfl)
theorem dL_law_3708 : decode cL_law 3708 = .ok (.iload 7, 2) := dk_21 7 (dk_at dksL_law_149 1 rfl rfl)
theorem dL_law_3710 : decode cL_law 3710 = .ok (.i2l, 1) := dk_133 (dk_at dksL_law_149 3 rfl rfl)
theorem dL_law_3711 : decode cL_law 3711 = .ok (.lcmp, 1) := dk_148 (dk_at dksL_law_149 4 rfl rfl)
theorem dL_law_3712 : decode cL_law 3712 = .ok (.ifCond .eq 5, 3) := dk_153 0 5 (dk_at dksL_law_149 5 rfl rfl)
theorem dL_law_3715 : decode cL_law 3715 = .ok (.iconst 0, 1) := dk_3 (dk_at dksL_law_149 8 rfl rfl)
theorem dL_law_3716 : decode cL_law 3716 = .ok (.ireturn, 1) := dk_172 (dk_at dksL_law_149 9 rfl rfl)
theorem dL_law_3717 : decode cL_law 3717 = .ok (.goto 59, 3) := dk_167 0 59 (dk_at dksL_law_149 10 rfl rfl)
theorem dL_law_3720 : decode cL_law 3720 = .ok (.aload_n 1, 1) := dk_43 (dk_at dksL_law_149 13 rfl rfl)
theorem dL_law_3721 : decode cL_law 3721 = .ok (.aload_n 0, 1) := dk_42 (dk_at dksL_law_149 14 rfl rfl)
theorem dL_law_3722 : decode cL_law 3722 = .ok (.iload 5, 2) := dk_21 5 (dk_at dksL_law_149 15 rfl rfl)
theorem dL_law_3724 : decode cL_law 3724 = .ok (.iconst 1, 1) := dk_4 (dk_at dksL_law_149 17 rfl rfl)
theorem dL_law_3725 : decode cL_law 3725 = .ok (.iadd, 1) := dk_96 (dk_at dksL_law_149 18 rfl rfl)
theorem dL_law_3726 : decode cL_law 3726 = .ok (.iaload, 1) := dk_46 (dk_at dksL_law_149 19 rfl rfl)
theorem dL_law_3727 : decode cL_law 3727 = .ok (.aload_n 3, 1) := dk_45 (dk_at dksL_law_149 20 rfl rfl)
theorem dL_law_3728 : decode cL_law 3728 = .ok (.invokestatic 391, 3) := dk_184 1 135 (dk_at dksL_law_149 21 rfl rfl)
theorem dL_law_3731 : decode cL_law 3731 = .ok (.istore 6, 2) := dk_54 6 (dk_at dksL_law_150 0 rfl rfl)
theorem dL_law_3733 : decode cL_law 3733 = .ok (.aload_n 2, 1) := dk_44 (dk_at dksL_law_150 2 rfl rfl)
theorem dL_law_3734 : decode cL_law 3734 = .ok (.aload_n 0, 1) := dk_42 (dk_at dksL_law_150 3 rfl rfl)
theorem dL_law_3735 : decode cL_law 3735 = .ok (.iload 5, 2) := dk_21 5 (dk_at dksL_law_150 4 rfl rfl)
theorem dL_law_3737 : decode cL_law 3737 = .ok (.iconst 1, 1) := dk_4 (dk_at dksL_law_150 6 rfl rfl)
theorem dL_law_3738 : decode cL_law 3738 = .ok (.iadd, 1) := dk_96 (dk_at dksL_law_150 7 rfl rfl)
theorem dL_law_3739 : decode cL_law 3739 = .ok (.iaload, 1) := dk_46 (dk_at dksL_law_150 8 rfl rfl)
theorem dL_law_3740 : decode cL_law 3740 = .ok (.invokevirtual 393, 3) := dk_182 1 137 (dk_at dksL_law_150 9 rfl rfl)
theorem dL_law_3743 : decode cL_law 3743 = .ok (.istore 7, 2) := dk_54 7 (dk_at dksL_law_150 12 rfl rfl)
theorem dL_law_3745 : decode cL_law 3745 = .ok (.aload_n 2, 1) := dk_44 (dk_at dksL_law_150 14 rfl rfl)
theorem dL_law_3746 : decode cL_law 3746 = .ok (.invokevirtual 205, 3) := dk_182 0 205 (dk_at dksL_law_150 15 rfl rfl)
theorem dL_law_3749 : decode cL_law 3749 = .ok (.iload 6, 2) := dk_21 6 (dk_at dksL_law_150 18 rfl rfl)
theorem dL_law_3751 : decode cL_law 3751 = .ok (.if_icmp .eq 5, 3) := dk_159 0 5 (dk_at dksL_law_150 20 rfl rfl)
theorem dL_law_3754 : decode cL_law 3754 = .ok (.iconst 0, 1) := dk_3 (dk_at dksL_law_150 23 rfl rfl)
theorem dL_law_3755 : decode cL_law 3755 = .ok (.ireturn, 1) := dk_172 (dk_at dksL_law_151 0 rfl rfl)
theorem dL_law_3756 : decode cL_law 3756 = .ok (.iload 6, 2) := dk_21 6 (dk_at dksL_law_151 1 rfl rfl)
theorem dL_law_3758 : decode cL_law 3758 = .ok (.ifCond .ne 15, 3) := dk_154 0 15 (dk_at dksL_law_151 3 rfl rfl)
theorem dL_law_3761 : decode cL_law 3761 = .ok (.aload_n 3, 1) := dk_45 (dk_at dksL_law_151 6 rfl rfl)
theorem dL_law_3762 : decode cL_law 3762 = .ok (.iconst 0, 1) := dk_3 (dk_at dksL_law_151 7 rfl rfl)
theorem dL_law_3763 : decode cL_law 3763 = .ok (.laload, 1) := dk_47 (dk_at dksL_law_151 8 rfl rfl)
theorem dL_law_3764 : decode cL_law 3764 = .ok (.iload 7, 2) := dk_21 7 (dk_at dksL_law_151 9 rfl rfl)
theorem dL_law_3766 : decode cL_law 3766 = .ok (.i2l, 1) := dk_133 (dk_at dksL_law_151 11 rfl rfl)
theorem dL_law_3767 : decode cL_law 3767 = .ok (.lcmp, 1) := dk_148 (dk_at dksL_law_151 12 rfl rfl)
theorem dL_law_3768 : decode cL_law 3768 = .ok (.ifCond .eq 5, 3) := dk_153 0 5 (dk_at dksL_law_151 13 rfl rfl)
theorem dL_law_3771 : decode cL_law 3771 = .ok (.iconst 0, 1) := dk_3 (dk_at dksL_law_151 16 rfl rfl)
theorem dL_law_3772 : decode cL_law 3772 = .ok (.ireturn, 1) := dk_172 (dk_at dksL_law_151 17 rfl rfl)
theorem dL_law_3773 : decode cL_law 3773 = .ok (.goto 3, 3) := dk_167 0 3 (dk_at dksL_law_151 18 rfl rfl)
theorem dL_law_3776 : decode cL_law 3776 = .ok (.iinc 5 6, 3) := dk_132 5 6 (dk_at dksL_law_151 21 rfl rfl)
theorem dL_law_3779 : decode cL_law 3779 = .ok (.goto (-3751), 3) := dk_167 241 89 (dk_at dksL_law_152 0 rfl rfl)
theorem dL_law_3782 : decode cL_law 3782 = .ok (.iconst 1, 1) := dk_4 (dk_at dksL_law_152 3 rfl rfl)
theorem dL_law_3783 : decode cL_law 3783 = .ok (.ireturn, 1) := dk_172 (dk_at dksL_law_152 4 rfl rfl)

