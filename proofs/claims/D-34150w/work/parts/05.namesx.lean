/-! RecipeOfScalesLaw -/
set_option maxRecDepth 100000
def RX0 : String := "RecipeOfScalesLaw"
abbrev cX0_tell : ByteArray := method_3_code
def yX0_tell : MethodName := ⟨RX0, "tell", "(LRecipeOfScales;II[J)I"⟩
def dkwX0_tell_0 : List UInt8 := [45, 3, 42, 27, 28, 182, 0, 7, 133, 80, 167, 0, 11, 58, 4, 4, 172, 58, 4, 5, 172, 3, 172]
abbrev dktX0_tell_0 : List UInt8 := dkwX0_tell_0 ++ []
theorem dksX0_tell_0 : cX0_tell.data.toList.drop 0 = dktX0_tell_0 := by decide +kernel
theorem dX0_tell_0 : decode cX0_tell 0 = .ok (.aload_n 3, 1) := dk_45 (dk_at dksX0_tell_0 0 rfl rfl)
theorem dX0_tell_1 : decode cX0_tell 1 = .ok (.iconst 0, 1) := dk_3 (dk_at dksX0_tell_0 1 rfl rfl)
theorem dX0_tell_2 : decode cX0_tell 2 = .ok (.aload_n 0, 1) := dk_42 (dk_at dksX0_tell_0 2 rfl rfl)
theorem dX0_tell_3 : decode cX0_tell 3 = .ok (.iload_n 1, 1) := dk_27 (dk_at dksX0_tell_0 3 rfl rfl)
theorem dX0_tell_4 : decode cX0_tell 4 = .ok (.iload_n 2, 1) := dk_28 (dk_at dksX0_tell_0 4 rfl rfl)
theorem dX0_tell_5 : decode cX0_tell 5 = .ok (.invokevirtual 7, 3) := dk_182 0 7 (dk_at dksX0_tell_0 5 rfl rfl)
theorem dX0_tell_8 : decode cX0_tell 8 = .ok (.i2l, 1) := dk_133 (dk_at dksX0_tell_0 8 rfl rfl)
theorem dX0_tell_9 : decode cX0_tell 9 = .ok (.lastore, 1) := dk_80 (dk_at dksX0_tell_0 9 rfl rfl)
theorem dX0_tell_10 : decode cX0_tell 10 = .ok (.goto 11, 3) := dk_167 0 11 (dk_at dksX0_tell_0 10 rfl rfl)
theorem dX0_tell_13 : decode cX0_tell 13 = .ok (.astore 4, 2) := dk_58 4 (dk_at dksX0_tell_0 13 rfl rfl)
theorem dX0_tell_15 : decode cX0_tell 15 = .ok (.iconst 1, 1) := dk_4 (dk_at dksX0_tell_0 15 rfl rfl)
theorem dX0_tell_16 : decode cX0_tell 16 = .ok (.ireturn, 1) := dk_172 (dk_at dksX0_tell_0 16 rfl rfl)
theorem dX0_tell_17 : decode cX0_tell 17 = .ok (.astore 4, 2) := dk_58 4 (dk_at dksX0_tell_0 17 rfl rfl)
theorem dX0_tell_19 : decode cX0_tell 19 = .ok (.iconst 2, 1) := dk_5 (dk_at dksX0_tell_0 19 rfl rfl)
theorem dX0_tell_20 : decode cX0_tell 20 = .ok (.ireturn, 1) := dk_172 (dk_at dksX0_tell_0 20 rfl rfl)
theorem dX0_tell_21 : decode cX0_tell 21 = .ok (.iconst 0, 1) := dk_3 (dk_at dksX0_tell_0 21 rfl rfl)
theorem dX0_tell_22 : decode cX0_tell 22 = .ok (.ireturn, 1) := dk_172 (dk_at dksX0_tell_0 22 rfl rfl)
abbrev cX0_takeAway : ByteArray := method_4_code
def yX0_takeAway : MethodName := ⟨RX0, "takeAway", "(LRecipeOfScales;I[J)I"⟩
def dkwX0_takeAway_0 : List UInt8 := [44, 3, 42, 27, 182, 0, 17, 133, 80, 167, 0, 6, 78, 4, 172, 3, 172]
abbrev dktX0_takeAway_0 : List UInt8 := dkwX0_takeAway_0 ++ []
theorem dksX0_takeAway_0 : cX0_takeAway.data.toList.drop 0 = dktX0_takeAway_0 := by decide +kernel
theorem dX0_takeAway_0 : decode cX0_takeAway 0 = .ok (.aload_n 2, 1) := dk_44 (dk_at dksX0_takeAway_0 0 rfl rfl)
theorem dX0_takeAway_1 : decode cX0_takeAway 1 = .ok (.iconst 0, 1) := dk_3 (dk_at dksX0_takeAway_0 1 rfl rfl)
theorem dX0_takeAway_2 : decode cX0_takeAway 2 = .ok (.aload_n 0, 1) := dk_42 (dk_at dksX0_takeAway_0 2 rfl rfl)
theorem dX0_takeAway_3 : decode cX0_takeAway 3 = .ok (.iload_n 1, 1) := dk_27 (dk_at dksX0_takeAway_0 3 rfl rfl)
theorem dX0_takeAway_4 : decode cX0_takeAway 4 = .ok (.invokevirtual 17, 3) := dk_182 0 17 (dk_at dksX0_takeAway_0 4 rfl rfl)
theorem dX0_takeAway_7 : decode cX0_takeAway 7 = .ok (.i2l, 1) := dk_133 (dk_at dksX0_takeAway_0 7 rfl rfl)
theorem dX0_takeAway_8 : decode cX0_takeAway 8 = .ok (.lastore, 1) := dk_80 (dk_at dksX0_takeAway_0 8 rfl rfl)
theorem dX0_takeAway_9 : decode cX0_takeAway 9 = .ok (.goto 6, 3) := dk_167 0 6 (dk_at dksX0_takeAway_0 9 rfl rfl)
theorem dX0_takeAway_12 : decode cX0_takeAway 12 = .ok (.astore_n 3, 1) := dk_78 (dk_at dksX0_takeAway_0 12 rfl rfl)
theorem dX0_takeAway_13 : decode cX0_takeAway 13 = .ok (.iconst 1, 1) := dk_4 (dk_at dksX0_takeAway_0 13 rfl rfl)
theorem dX0_takeAway_14 : decode cX0_takeAway 14 = .ok (.ireturn, 1) := dk_172 (dk_at dksX0_takeAway_0 14 rfl rfl)
theorem dX0_takeAway_15 : decode cX0_takeAway 15 = .ok (.iconst 0, 1) := dk_3 (dk_at dksX0_takeAway_0 15 rfl rfl)
theorem dX0_takeAway_16 : decode cX0_takeAway 16 = .ok (.ireturn, 1) := dk_172 (dk_at dksX0_takeAway_0 16 rfl rfl)
abbrev cX0_massOf : ByteArray := method_5_code
def yX0_massOf : MethodName := ⟨RX0, "massOf", "(LRecipeOfScales;I[J)I"⟩
def dkwX0_massOf_0 : List UInt8 := [44, 3, 42, 27, 182, 0, 23, 133, 80, 167, 0, 6, 78, 4, 172, 3, 172]
abbrev dktX0_massOf_0 : List UInt8 := dkwX0_massOf_0 ++ []
theorem dksX0_massOf_0 : cX0_massOf.data.toList.drop 0 = dktX0_massOf_0 := by decide +kernel
theorem dX0_massOf_0 : decode cX0_massOf 0 = .ok (.aload_n 2, 1) := dk_44 (dk_at dksX0_massOf_0 0 rfl rfl)
theorem dX0_massOf_1 : decode cX0_massOf 1 = .ok (.iconst 0, 1) := dk_3 (dk_at dksX0_massOf_0 1 rfl rfl)
theorem dX0_massOf_2 : decode cX0_massOf 2 = .ok (.aload_n 0, 1) := dk_42 (dk_at dksX0_massOf_0 2 rfl rfl)
theorem dX0_massOf_3 : decode cX0_massOf 3 = .ok (.iload_n 1, 1) := dk_27 (dk_at dksX0_massOf_0 3 rfl rfl)
theorem dX0_massOf_4 : decode cX0_massOf 4 = .ok (.invokevirtual 23, 3) := dk_182 0 23 (dk_at dksX0_massOf_0 4 rfl rfl)
theorem dX0_massOf_7 : decode cX0_massOf 7 = .ok (.i2l, 1) := dk_133 (dk_at dksX0_massOf_0 7 rfl rfl)
theorem dX0_massOf_8 : decode cX0_massOf 8 = .ok (.lastore, 1) := dk_80 (dk_at dksX0_massOf_0 8 rfl rfl)
theorem dX0_massOf_9 : decode cX0_massOf 9 = .ok (.goto 6, 3) := dk_167 0 6 (dk_at dksX0_massOf_0 9 rfl rfl)
theorem dX0_massOf_12 : decode cX0_massOf 12 = .ok (.astore_n 3, 1) := dk_78 (dk_at dksX0_massOf_0 12 rfl rfl)
theorem dX0_massOf_13 : decode cX0_massOf 13 = .ok (.iconst 1, 1) := dk_4 (dk_at dksX0_massOf_0 13 rfl rfl)
theorem dX0_massOf_14 : decode cX0_massOf 14 = .ok (.ireturn, 1) := dk_172 (dk_at dksX0_massOf_0 14 rfl rfl)
theorem dX0_massOf_15 : decode cX0_massOf 15 = .ok (.iconst 0, 1) := dk_3 (dk_at dksX0_massOf_0 15 rfl rfl)
theorem dX0_massOf_16 : decode cX0_massOf 16 = .ok (.ireturn, 1) := dk_172 (dk_at dksX0_massOf_0 16 rfl rfl)
abbrev cX0_canWeigh : ByteArray := method_6_code
def yX0_canWeigh : MethodName := ⟨RX0, "canWeigh", "(LRecipeOfScales;I[J)I"⟩
def dkwX0_canWeigh_0 : List UInt8 := [44, 3, 42, 27, 182, 0, 26, 153, 0, 7, 10, 167, 0, 4, 9, 80, 167, 0, 6, 78, 4, 172, 3, 172]
abbrev dktX0_canWeigh_0 : List UInt8 := dkwX0_canWeigh_0 ++ []
theorem dksX0_canWeigh_0 : cX0_canWeigh.data.toList.drop 0 = dktX0_canWeigh_0 := by decide +kernel
theorem dX0_canWeigh_0 : decode cX0_canWeigh 0 = .ok (.aload_n 2, 1) := dk_44 (dk_at dksX0_canWeigh_0 0 rfl rfl)
theorem dX0_canWeigh_1 : decode cX0_canWeigh 1 = .ok (.iconst 0, 1) := dk_3 (dk_at dksX0_canWeigh_0 1 rfl rfl)
theorem dX0_canWeigh_2 : decode cX0_canWeigh 2 = .ok (.aload_n 0, 1) := dk_42 (dk_at dksX0_canWeigh_0 2 rfl rfl)
theorem dX0_canWeigh_3 : decode cX0_canWeigh 3 = .ok (.iload_n 1, 1) := dk_27 (dk_at dksX0_canWeigh_0 3 rfl rfl)
theorem dX0_canWeigh_4 : decode cX0_canWeigh 4 = .ok (.invokevirtual 26, 3) := dk_182 0 26 (dk_at dksX0_canWeigh_0 4 rfl rfl)
theorem dX0_canWeigh_7 : decode cX0_canWeigh 7 = .ok (.ifCond .eq 7, 3) := dk_153 0 7 (dk_at dksX0_canWeigh_0 7 rfl rfl)
theorem dX0_canWeigh_10 : decode cX0_canWeigh 10 = .ok (.lconst 1, 1) := dk_10 (dk_at dksX0_canWeigh_0 10 rfl rfl)
theorem dX0_canWeigh_11 : decode cX0_canWeigh 11 = .ok (.goto 4, 3) := dk_167 0 4 (dk_at dksX0_canWeigh_0 11 rfl rfl)
theorem dX0_canWeigh_14 : decode cX0_canWeigh 14 = .ok (.lconst 0, 1) := dk_9 (dk_at dksX0_canWeigh_0 14 rfl rfl)
theorem dX0_canWeigh_15 : decode cX0_canWeigh 15 = .ok (.lastore, 1) := dk_80 (dk_at dksX0_canWeigh_0 15 rfl rfl)
theorem dX0_canWeigh_16 : decode cX0_canWeigh 16 = .ok (.goto 6, 3) := dk_167 0 6 (dk_at dksX0_canWeigh_0 16 rfl rfl)
theorem dX0_canWeigh_19 : decode cX0_canWeigh 19 = .ok (.astore_n 3, 1) := dk_78 (dk_at dksX0_canWeigh_0 19 rfl rfl)
theorem dX0_canWeigh_20 : decode cX0_canWeigh 20 = .ok (.iconst 1, 1) := dk_4 (dk_at dksX0_canWeigh_0 20 rfl rfl)
theorem dX0_canWeigh_21 : decode cX0_canWeigh 21 = .ok (.ireturn, 1) := dk_172 (dk_at dksX0_canWeigh_0 21 rfl rfl)
theorem dX0_canWeigh_22 : decode cX0_canWeigh 22 = .ok (.iconst 0, 1) := dk_3 (dk_at dksX0_canWeigh_0 22 rfl rfl)
theorem dX0_canWeigh_23 : decode cX0_canWeigh 23 = .ok (.ireturn, 1) := dk_172 (dk_at dksX0_canWeigh_0 23 rfl rfl)
abbrev cX0_canWeighOnOnePan : ByteArray := method_7_code
def yX0_canWeighOnOnePan : MethodName := ⟨RX0, "canWeighOnOnePan", "(LRecipeOfScales;I[J)I"⟩
def dkwX0_canWeighOnOnePan_0 : List UInt8 := [44, 3, 42, 27, 182, 0, 30, 153, 0, 7, 10, 167, 0, 4, 9, 80, 167, 0, 6, 78, 4, 172, 3, 172]
abbrev dktX0_canWeighOnOnePan_0 : List UInt8 := dkwX0_canWeighOnOnePan_0 ++ []
theorem dksX0_canWeighOnOnePan_0 : cX0_canWeighOnOnePan.data.toList.drop 0 = dktX0_canWeighOnOnePan_0 := by decide +kernel
theorem dX0_canWeighOnOnePan_0 : decode cX0_canWeighOnOnePan 0 = .ok (.aload_n 2, 1) := dk_44 (dk_at dksX0_canWeighOnOnePan_0 0 rfl rfl)
theorem dX0_canWeighOnOnePan_1 : decode cX0_canWeighOnOnePan 1 = .ok (.iconst 0, 1) := dk_3 (dk_at dksX0_canWeighOnOnePan_0 1 rfl rfl)
theorem dX0_canWeighOnOnePan_2 : decode cX0_canWeighOnOnePan 2 = .ok (.aload_n 0, 1) := dk_42 (dk_at dksX0_canWeighOnOnePan_0 2 rfl rfl)
theorem dX0_canWeighOnOnePan_3 : decode cX0_canWeighOnOnePan 3 = .ok (.iload_n 1, 1) := dk_27 (dk_at dksX0_canWeighOnOnePan_0 3 rfl rfl)
theorem dX0_canWeighOnOnePan_4 : decode cX0_canWeighOnOnePan 4 = .ok (.invokevirtual 30, 3) := dk_182 0 30 (dk_at dksX0_canWeighOnOnePan_0 4 rfl rfl)
theorem dX0_canWeighOnOnePan_7 : decode cX0_canWeighOnOnePan 7 = .ok (.ifCond .eq 7, 3) := dk_153 0 7 (dk_at dksX0_canWeighOnOnePan_0 7 rfl rfl)
theorem dX0_canWeighOnOnePan_10 : decode cX0_canWeighOnOnePan 10 = .ok (.lconst 1, 1) := dk_10 (dk_at dksX0_canWeighOnOnePan_0 10 rfl rfl)
theorem dX0_canWeighOnOnePan_11 : decode cX0_canWeighOnOnePan 11 = .ok (.goto 4, 3) := dk_167 0 4 (dk_at dksX0_canWeighOnOnePan_0 11 rfl rfl)
theorem dX0_canWeighOnOnePan_14 : decode cX0_canWeighOnOnePan 14 = .ok (.lconst 0, 1) := dk_9 (dk_at dksX0_canWeighOnOnePan_0 14 rfl rfl)
theorem dX0_canWeighOnOnePan_15 : decode cX0_canWeighOnOnePan 15 = .ok (.lastore, 1) := dk_80 (dk_at dksX0_canWeighOnOnePan_0 15 rfl rfl)
theorem dX0_canWeighOnOnePan_16 : decode cX0_canWeighOnOnePan 16 = .ok (.goto 6, 3) := dk_167 0 6 (dk_at dksX0_canWeighOnOnePan_0 16 rfl rfl)
theorem dX0_canWeighOnOnePan_19 : decode cX0_canWeighOnOnePan 19 = .ok (.astore_n 3, 1) := dk_78 (dk_at dksX0_canWeighOnOnePan_0 19 rfl rfl)
theorem dX0_canWeighOnOnePan_20 : decode cX0_canWeighOnOnePan 20 = .ok (.iconst 1, 1) := dk_4 (dk_at dksX0_canWeighOnOnePan_0 20 rfl rfl)
theorem dX0_canWeighOnOnePan_21 : decode cX0_canWeighOnOnePan 21 = .ok (.ireturn, 1) := dk_172 (dk_at dksX0_canWeighOnOnePan_0 21 rfl rfl)
theorem dX0_canWeighOnOnePan_22 : decode cX0_canWeighOnOnePan 22 = .ok (.iconst 0, 1) := dk_3 (dk_at dksX0_canWeighOnOnePan_0 22 rfl rfl)
theorem dX0_canWeighOnOnePan_23 : decode cX0_canWeighOnOnePan 23 = .ok (.ireturn, 1) := dk_172 (dk_at dksX0_canWeighOnOnePan_0 23 rfl rfl)
abbrev cX0_ways : ByteArray := method_8_code
def yX0_ways : MethodName := ⟨RX0, "ways", "(LRecipeOfScales;I[J)I"⟩
def dkwX0_ways_0 : List UInt8 := [44, 3, 42, 27, 182, 0, 33, 133, 80, 167, 0, 6, 78, 4, 172, 3, 172]
abbrev dktX0_ways_0 : List UInt8 := dkwX0_ways_0 ++ []
theorem dksX0_ways_0 : cX0_ways.data.toList.drop 0 = dktX0_ways_0 := by decide +kernel
theorem dX0_ways_0 : decode cX0_ways 0 = .ok (.aload_n 2, 1) := dk_44 (dk_at dksX0_ways_0 0 rfl rfl)
theorem dX0_ways_1 : decode cX0_ways 1 = .ok (.iconst 0, 1) := dk_3 (dk_at dksX0_ways_0 1 rfl rfl)
theorem dX0_ways_2 : decode cX0_ways 2 = .ok (.aload_n 0, 1) := dk_42 (dk_at dksX0_ways_0 2 rfl rfl)
theorem dX0_ways_3 : decode cX0_ways 3 = .ok (.iload_n 1, 1) := dk_27 (dk_at dksX0_ways_0 3 rfl rfl)
theorem dX0_ways_4 : decode cX0_ways 4 = .ok (.invokevirtual 33, 3) := dk_182 0 33 (dk_at dksX0_ways_0 4 rfl rfl)
theorem dX0_ways_7 : decode cX0_ways 7 = .ok (.i2l, 1) := dk_133 (dk_at dksX0_ways_0 7 rfl rfl)
theorem dX0_ways_8 : decode cX0_ways 8 = .ok (.lastore, 1) := dk_80 (dk_at dksX0_ways_0 8 rfl rfl)
theorem dX0_ways_9 : decode cX0_ways 9 = .ok (.goto 6, 3) := dk_167 0 6 (dk_at dksX0_ways_0 9 rfl rfl)
theorem dX0_ways_12 : decode cX0_ways 12 = .ok (.astore_n 3, 1) := dk_78 (dk_at dksX0_ways_0 12 rfl rfl)
theorem dX0_ways_13 : decode cX0_ways 13 = .ok (.iconst 1, 1) := dk_4 (dk_at dksX0_ways_0 13 rfl rfl)
theorem dX0_ways_14 : decode cX0_ways 14 = .ok (.ireturn, 1) := dk_172 (dk_at dksX0_ways_0 14 rfl rfl)
theorem dX0_ways_15 : decode cX0_ways 15 = .ok (.iconst 0, 1) := dk_3 (dk_at dksX0_ways_0 15 rfl rfl)
theorem dX0_ways_16 : decode cX0_ways 16 = .ok (.ireturn, 1) := dk_172 (dk_at dksX0_ways_0 16 rfl rfl)
abbrev cX0_waysByPlacings : ByteArray := method_9_code
def yX0_waysByPlacings : MethodName := ⟨RX0, "waysByPlacings", "(LRecipeOfScales;I[J)I"⟩
def dkwX0_waysByPlacings_0 : List UInt8 := [44, 3, 42, 27, 182, 0, 36, 133, 80, 167, 0, 6, 78, 4, 172, 3, 172]
abbrev dktX0_waysByPlacings_0 : List UInt8 := dkwX0_waysByPlacings_0 ++ []
theorem dksX0_waysByPlacings_0 : cX0_waysByPlacings.data.toList.drop 0 = dktX0_waysByPlacings_0 := by decide +kernel
theorem dX0_waysByPlacings_0 : decode cX0_waysByPlacings 0 = .ok (.aload_n 2, 1) := dk_44 (dk_at dksX0_waysByPlacings_0 0 rfl rfl)
theorem dX0_waysByPlacings_1 : decode cX0_waysByPlacings 1 = .ok (.iconst 0, 1) := dk_3 (dk_at dksX0_waysByPlacings_0 1 rfl rfl)
theorem dX0_waysByPlacings_2 : decode cX0_waysByPlacings 2 = .ok (.aload_n 0, 1) := dk_42 (dk_at dksX0_waysByPlacings_0 2 rfl rfl)
theorem dX0_waysByPlacings_3 : decode cX0_waysByPlacings 3 = .ok (.iload_n 1, 1) := dk_27 (dk_at dksX0_waysByPlacings_0 3 rfl rfl)
theorem dX0_waysByPlacings_4 : decode cX0_waysByPlacings 4 = .ok (.invokevirtual 36, 3) := dk_182 0 36 (dk_at dksX0_waysByPlacings_0 4 rfl rfl)
theorem dX0_waysByPlacings_7 : decode cX0_waysByPlacings 7 = .ok (.i2l, 1) := dk_133 (dk_at dksX0_waysByPlacings_0 7 rfl rfl)
theorem dX0_waysByPlacings_8 : decode cX0_waysByPlacings 8 = .ok (.lastore, 1) := dk_80 (dk_at dksX0_waysByPlacings_0 8 rfl rfl)
theorem dX0_waysByPlacings_9 : decode cX0_waysByPlacings 9 = .ok (.goto 6, 3) := dk_167 0 6 (dk_at dksX0_waysByPlacings_0 9 rfl rfl)
theorem dX0_waysByPlacings_12 : decode cX0_waysByPlacings 12 = .ok (.astore_n 3, 1) := dk_78 (dk_at dksX0_waysByPlacings_0 12 rfl rfl)
theorem dX0_waysByPlacings_13 : decode cX0_waysByPlacings 13 = .ok (.iconst 1, 1) := dk_4 (dk_at dksX0_waysByPlacings_0 13 rfl rfl)
theorem dX0_waysByPlacings_14 : decode cX0_waysByPlacings 14 = .ok (.ireturn, 1) := dk_172 (dk_at dksX0_waysByPlacings_0 14 rfl rfl)
theorem dX0_waysByPlacings_15 : decode cX0_waysByPlacings 15 = .ok (.iconst 0, 1) := dk_3 (dk_at dksX0_waysByPlacings_0 15 rfl rfl)
theorem dX0_waysByPlacings_16 : decode cX0_waysByPlacings 16 = .ok (.ireturn, 1) := dk_172 (dk_at dksX0_waysByPlacings_0 16 rfl rfl)
abbrev cX0_fewest : ByteArray := method_10_code
def yX0_fewest : MethodName := ⟨RX0, "fewest", "(LRecipeOfScales;I[J)I"⟩
def dkwX0_fewest_0 : List UInt8 := [44, 3, 42, 27, 182, 0, 39, 133, 80, 167, 0, 6, 78, 4, 172, 3, 172]
abbrev dktX0_fewest_0 : List UInt8 := dkwX0_fewest_0 ++ []
theorem dksX0_fewest_0 : cX0_fewest.data.toList.drop 0 = dktX0_fewest_0 := by decide +kernel
theorem dX0_fewest_0 : decode cX0_fewest 0 = .ok (.aload_n 2, 1) := dk_44 (dk_at dksX0_fewest_0 0 rfl rfl)
theorem dX0_fewest_1 : decode cX0_fewest 1 = .ok (.iconst 0, 1) := dk_3 (dk_at dksX0_fewest_0 1 rfl rfl)
theorem dX0_fewest_2 : decode cX0_fewest 2 = .ok (.aload_n 0, 1) := dk_42 (dk_at dksX0_fewest_0 2 rfl rfl)
theorem dX0_fewest_3 : decode cX0_fewest 3 = .ok (.iload_n 1, 1) := dk_27 (dk_at dksX0_fewest_0 3 rfl rfl)
theorem dX0_fewest_4 : decode cX0_fewest 4 = .ok (.invokevirtual 39, 3) := dk_182 0 39 (dk_at dksX0_fewest_0 4 rfl rfl)
theorem dX0_fewest_7 : decode cX0_fewest 7 = .ok (.i2l, 1) := dk_133 (dk_at dksX0_fewest_0 7 rfl rfl)
theorem dX0_fewest_8 : decode cX0_fewest 8 = .ok (.lastore, 1) := dk_80 (dk_at dksX0_fewest_0 8 rfl rfl)
theorem dX0_fewest_9 : decode cX0_fewest 9 = .ok (.goto 6, 3) := dk_167 0 6 (dk_at dksX0_fewest_0 9 rfl rfl)
theorem dX0_fewest_12 : decode cX0_fewest 12 = .ok (.astore_n 3, 1) := dk_78 (dk_at dksX0_fewest_0 12 rfl rfl)
theorem dX0_fewest_13 : decode cX0_fewest 13 = .ok (.iconst 1, 1) := dk_4 (dk_at dksX0_fewest_0 13 rfl rfl)
theorem dX0_fewest_14 : decode cX0_fewest 14 = .ok (.ireturn, 1) := dk_172 (dk_at dksX0_fewest_0 14 rfl rfl)
theorem dX0_fewest_15 : decode cX0_fewest 15 = .ok (.iconst 0, 1) := dk_3 (dk_at dksX0_fewest_0 15 rfl rfl)
theorem dX0_fewest_16 : decode cX0_fewest 16 = .ok (.ireturn, 1) := dk_172 (dk_at dksX0_fewest_0 16 rfl rfl)
abbrev cX0_placed : ByteArray := method_11_code
def yX0_placed : MethodName := ⟨RX0, "placed", "(LRecipeOfScales;II[J)I"⟩
def dkwX0_placed_1 : List UInt8 := [172, 3, 172]
abbrev dktX0_placed_1 : List UInt8 := dkwX0_placed_1 ++ []
def dkwX0_placed_0 : List UInt8 := [45, 3, 42, 27, 28, 182, 0, 42, 133, 80, 167, 0, 15, 58, 4, 4, 172, 58, 4, 5, 172, 58, 4, 6]
abbrev dktX0_placed_0 : List UInt8 := dkwX0_placed_0 ++ dktX0_placed_1
theorem dksX0_placed_0 : cX0_placed.data.toList.drop 0 = dktX0_placed_0 := by decide +kernel
theorem dksX0_placed_1 : cX0_placed.data.toList.drop 24 = dktX0_placed_1 := dk_seg dksX0_placed_0 24 rfl rfl
theorem dX0_placed_0 : decode cX0_placed 0 = .ok (.aload_n 3, 1) := dk_45 (dk_at dksX0_placed_0 0 rfl rfl)
theorem dX0_placed_1 : decode cX0_placed 1 = .ok (.iconst 0, 1) := dk_3 (dk_at dksX0_placed_0 1 rfl rfl)
theorem dX0_placed_2 : decode cX0_placed 2 = .ok (.aload_n 0, 1) := dk_42 (dk_at dksX0_placed_0 2 rfl rfl)
theorem dX0_placed_3 : decode cX0_placed 3 = .ok (.iload_n 1, 1) := dk_27 (dk_at dksX0_placed_0 3 rfl rfl)
theorem dX0_placed_4 : decode cX0_placed 4 = .ok (.iload_n 2, 1) := dk_28 (dk_at dksX0_placed_0 4 rfl rfl)
theorem dX0_placed_5 : decode cX0_placed 5 = .ok (.invokevirtual 42, 3) := dk_182 0 42 (dk_at dksX0_placed_0 5 rfl rfl)
theorem dX0_placed_8 : decode cX0_placed 8 = .ok (.i2l, 1) := dk_133 (dk_at dksX0_placed_0 8 rfl rfl)
theorem dX0_placed_9 : decode cX0_placed 9 = .ok (.lastore, 1) := dk_80 (dk_at dksX0_placed_0 9 rfl rfl)
theorem dX0_placed_10 : decode cX0_placed 10 = .ok (.goto 15, 3) := dk_167 0 15 (dk_at dksX0_placed_0 10 rfl rfl)
theorem dX0_placed_13 : decode cX0_placed 13 = .ok (.astore 4, 2) := dk_58 4 (dk_at dksX0_placed_0 13 rfl rfl)
theorem dX0_placed_15 : decode cX0_placed 15 = .ok (.iconst 1, 1) := dk_4 (dk_at dksX0_placed_0 15 rfl rfl)
theorem dX0_placed_16 : decode cX0_placed 16 = .ok (.ireturn, 1) := dk_172 (dk_at dksX0_placed_0 16 rfl rfl)
theorem dX0_placed_17 : decode cX0_placed 17 = .ok (.astore 4, 2) := dk_58 4 (dk_at dksX0_placed_0 17 rfl rfl)
theorem dX0_placed_19 : decode cX0_placed 19 = .ok (.iconst 2, 1) := dk_5 (dk_at dksX0_placed_0 19 rfl rfl)
theorem dX0_placed_20 : decode cX0_placed 20 = .ok (.ireturn, 1) := dk_172 (dk_at dksX0_placed_0 20 rfl rfl)
theorem dX0_placed_21 : decode cX0_placed 21 = .ok (.astore 4, 2) := dk_58 4 (dk_at dksX0_placed_0 21 rfl rfl)
theorem dX0_placed_23 : decode cX0_placed 23 = .ok (.iconst 3, 1) := dk_6 (dk_at dksX0_placed_0 23 rfl rfl)
theorem dX0_placed_24 : decode cX0_placed 24 = .ok (.ireturn, 1) := dk_172 (dk_at dksX0_placed_1 0 rfl rfl)
theorem dX0_placed_25 : decode cX0_placed 25 = .ok (.iconst 0, 1) := dk_3 (dk_at dksX0_placed_1 1 rfl rfl)
theorem dX0_placed_26 : decode cX0_placed 26 = .ok (.ireturn, 1) := dk_172 (dk_at dksX0_placed_1 2 rfl rfl)
abbrev cX0_leastError : ByteArray := method_12_code
def yX0_leastError : MethodName := ⟨RX0, "leastError", "(LRecipeOfScales;I[J)I"⟩
def dkwX0_leastError_0 : List UInt8 := [44, 3, 42, 27, 182, 0, 47, 133, 80, 167, 0, 6, 78, 4, 172, 3, 172]
abbrev dktX0_leastError_0 : List UInt8 := dkwX0_leastError_0 ++ []
theorem dksX0_leastError_0 : cX0_leastError.data.toList.drop 0 = dktX0_leastError_0 := by decide +kernel
theorem dX0_leastError_0 : decode cX0_leastError 0 = .ok (.aload_n 2, 1) := dk_44 (dk_at dksX0_leastError_0 0 rfl rfl)
theorem dX0_leastError_1 : decode cX0_leastError 1 = .ok (.iconst 0, 1) := dk_3 (dk_at dksX0_leastError_0 1 rfl rfl)
theorem dX0_leastError_2 : decode cX0_leastError 2 = .ok (.aload_n 0, 1) := dk_42 (dk_at dksX0_leastError_0 2 rfl rfl)
theorem dX0_leastError_3 : decode cX0_leastError 3 = .ok (.iload_n 1, 1) := dk_27 (dk_at dksX0_leastError_0 3 rfl rfl)
theorem dX0_leastError_4 : decode cX0_leastError 4 = .ok (.invokevirtual 47, 3) := dk_182 0 47 (dk_at dksX0_leastError_0 4 rfl rfl)
theorem dX0_leastError_7 : decode cX0_leastError 7 = .ok (.i2l, 1) := dk_133 (dk_at dksX0_leastError_0 7 rfl rfl)
theorem dX0_leastError_8 : decode cX0_leastError 8 = .ok (.lastore, 1) := dk_80 (dk_at dksX0_leastError_0 8 rfl rfl)
theorem dX0_leastError_9 : decode cX0_leastError 9 = .ok (.goto 6, 3) := dk_167 0 6 (dk_at dksX0_leastError_0 9 rfl rfl)
theorem dX0_leastError_12 : decode cX0_leastError 12 = .ok (.astore_n 3, 1) := dk_78 (dk_at dksX0_leastError_0 12 rfl rfl)
theorem dX0_leastError_13 : decode cX0_leastError 13 = .ok (.iconst 1, 1) := dk_4 (dk_at dksX0_leastError_0 13 rfl rfl)
theorem dX0_leastError_14 : decode cX0_leastError 14 = .ok (.ireturn, 1) := dk_172 (dk_at dksX0_leastError_0 14 rfl rfl)
theorem dX0_leastError_15 : decode cX0_leastError 15 = .ok (.iconst 0, 1) := dk_3 (dk_at dksX0_leastError_0 15 rfl rfl)
theorem dX0_leastError_16 : decode cX0_leastError 16 = .ok (.ireturn, 1) := dk_172 (dk_at dksX0_leastError_0 16 rfl rfl)
abbrev cX0_needed : ByteArray := method_13_code
def yX0_needed : MethodName := ⟨RX0, "needed", "(LRecipeOfScales;I[J)I"⟩
def dkwX0_needed_0 : List UInt8 := [44, 3, 42, 27, 182, 0, 50, 133, 80, 167, 0, 6, 78, 4, 172, 3, 172]
abbrev dktX0_needed_0 : List UInt8 := dkwX0_needed_0 ++ []
theorem dksX0_needed_0 : cX0_needed.data.toList.drop 0 = dktX0_needed_0 := by decide +kernel
theorem dX0_needed_0 : decode cX0_needed 0 = .ok (.aload_n 2, 1) := dk_44 (dk_at dksX0_needed_0 0 rfl rfl)
theorem dX0_needed_1 : decode cX0_needed 1 = .ok (.iconst 0, 1) := dk_3 (dk_at dksX0_needed_0 1 rfl rfl)
theorem dX0_needed_2 : decode cX0_needed 2 = .ok (.aload_n 0, 1) := dk_42 (dk_at dksX0_needed_0 2 rfl rfl)
theorem dX0_needed_3 : decode cX0_needed 3 = .ok (.iload_n 1, 1) := dk_27 (dk_at dksX0_needed_0 3 rfl rfl)
theorem dX0_needed_4 : decode cX0_needed 4 = .ok (.invokevirtual 50, 3) := dk_182 0 50 (dk_at dksX0_needed_0 4 rfl rfl)
theorem dX0_needed_7 : decode cX0_needed 7 = .ok (.i2l, 1) := dk_133 (dk_at dksX0_needed_0 7 rfl rfl)
theorem dX0_needed_8 : decode cX0_needed 8 = .ok (.lastore, 1) := dk_80 (dk_at dksX0_needed_0 8 rfl rfl)
theorem dX0_needed_9 : decode cX0_needed 9 = .ok (.goto 6, 3) := dk_167 0 6 (dk_at dksX0_needed_0 9 rfl rfl)
theorem dX0_needed_12 : decode cX0_needed 12 = .ok (.astore_n 3, 1) := dk_78 (dk_at dksX0_needed_0 12 rfl rfl)
theorem dX0_needed_13 : decode cX0_needed 13 = .ok (.iconst 1, 1) := dk_4 (dk_at dksX0_needed_0 13 rfl rfl)
theorem dX0_needed_14 : decode cX0_needed 14 = .ok (.ireturn, 1) := dk_172 (dk_at dksX0_needed_0 14 rfl rfl)
theorem dX0_needed_15 : decode cX0_needed 15 = .ok (.iconst 0, 1) := dk_3 (dk_at dksX0_needed_0 15 rfl rfl)
theorem dX0_needed_16 : decode cX0_needed 16 = .ok (.ireturn, 1) := dk_172 (dk_at dksX0_needed_0 16 rfl rfl)
abbrev cX0_bestMore : ByteArray := method_14_code
def yX0_bestMore : MethodName := ⟨RX0, "bestMore", "(LRecipeOfScales;[J)I"⟩
def dkwX0_bestMore_0 : List UInt8 := [43, 3, 42, 182, 0, 53, 133, 80, 167, 0, 6, 77, 4, 172, 3, 172]
abbrev dktX0_bestMore_0 : List UInt8 := dkwX0_bestMore_0 ++ []
theorem dksX0_bestMore_0 : cX0_bestMore.data.toList.drop 0 = dktX0_bestMore_0 := by decide +kernel
theorem dX0_bestMore_0 : decode cX0_bestMore 0 = .ok (.aload_n 1, 1) := dk_43 (dk_at dksX0_bestMore_0 0 rfl rfl)
theorem dX0_bestMore_1 : decode cX0_bestMore 1 = .ok (.iconst 0, 1) := dk_3 (dk_at dksX0_bestMore_0 1 rfl rfl)
theorem dX0_bestMore_2 : decode cX0_bestMore 2 = .ok (.aload_n 0, 1) := dk_42 (dk_at dksX0_bestMore_0 2 rfl rfl)
theorem dX0_bestMore_3 : decode cX0_bestMore 3 = .ok (.invokevirtual 53, 3) := dk_182 0 53 (dk_at dksX0_bestMore_0 3 rfl rfl)
theorem dX0_bestMore_6 : decode cX0_bestMore 6 = .ok (.i2l, 1) := dk_133 (dk_at dksX0_bestMore_0 6 rfl rfl)
theorem dX0_bestMore_7 : decode cX0_bestMore 7 = .ok (.lastore, 1) := dk_80 (dk_at dksX0_bestMore_0 7 rfl rfl)
theorem dX0_bestMore_8 : decode cX0_bestMore 8 = .ok (.goto 6, 3) := dk_167 0 6 (dk_at dksX0_bestMore_0 8 rfl rfl)
theorem dX0_bestMore_11 : decode cX0_bestMore 11 = .ok (.astore_n 2, 1) := dk_77 (dk_at dksX0_bestMore_0 11 rfl rfl)
theorem dX0_bestMore_12 : decode cX0_bestMore 12 = .ok (.iconst 1, 1) := dk_4 (dk_at dksX0_bestMore_0 12 rfl rfl)
theorem dX0_bestMore_13 : decode cX0_bestMore 13 = .ok (.ireturn, 1) := dk_172 (dk_at dksX0_bestMore_0 13 rfl rfl)
theorem dX0_bestMore_14 : decode cX0_bestMore 14 = .ok (.iconst 0, 1) := dk_3 (dk_at dksX0_bestMore_0 14 rfl rfl)
theorem dX0_bestMore_15 : decode cX0_bestMore 15 = .ok (.ireturn, 1) := dk_172 (dk_at dksX0_bestMore_0 15 rfl rfl)
abbrev cX0_lay : ByteArray := method_15_code
def yX0_lay : MethodName := ⟨RX0, "lay", "(LRecipeOfScales;I[J)I"⟩
def dkwX0_lay_0 : List UInt8 := [44, 3, 42, 27, 182, 0, 57, 133, 80, 167, 0, 6, 78, 4, 172, 3, 172]
abbrev dktX0_lay_0 : List UInt8 := dkwX0_lay_0 ++ []
theorem dksX0_lay_0 : cX0_lay.data.toList.drop 0 = dktX0_lay_0 := by decide +kernel
theorem dX0_lay_0 : decode cX0_lay 0 = .ok (.aload_n 2, 1) := dk_44 (dk_at dksX0_lay_0 0 rfl rfl)
theorem dX0_lay_1 : decode cX0_lay 1 = .ok (.iconst 0, 1) := dk_3 (dk_at dksX0_lay_0 1 rfl rfl)
theorem dX0_lay_2 : decode cX0_lay 2 = .ok (.aload_n 0, 1) := dk_42 (dk_at dksX0_lay_0 2 rfl rfl)
theorem dX0_lay_3 : decode cX0_lay 3 = .ok (.iload_n 1, 1) := dk_27 (dk_at dksX0_lay_0 3 rfl rfl)
theorem dX0_lay_4 : decode cX0_lay 4 = .ok (.invokevirtual 57, 3) := dk_182 0 57 (dk_at dksX0_lay_0 4 rfl rfl)
theorem dX0_lay_7 : decode cX0_lay 7 = .ok (.i2l, 1) := dk_133 (dk_at dksX0_lay_0 7 rfl rfl)
theorem dX0_lay_8 : decode cX0_lay 8 = .ok (.lastore, 1) := dk_80 (dk_at dksX0_lay_0 8 rfl rfl)
theorem dX0_lay_9 : decode cX0_lay 9 = .ok (.goto 6, 3) := dk_167 0 6 (dk_at dksX0_lay_0 9 rfl rfl)
theorem dX0_lay_12 : decode cX0_lay 12 = .ok (.astore_n 3, 1) := dk_78 (dk_at dksX0_lay_0 12 rfl rfl)
theorem dX0_lay_13 : decode cX0_lay 13 = .ok (.iconst 1, 1) := dk_4 (dk_at dksX0_lay_0 13 rfl rfl)
theorem dX0_lay_14 : decode cX0_lay 14 = .ok (.ireturn, 1) := dk_172 (dk_at dksX0_lay_0 14 rfl rfl)
theorem dX0_lay_15 : decode cX0_lay 15 = .ok (.iconst 0, 1) := dk_3 (dk_at dksX0_lay_0 15 rfl rfl)
theorem dX0_lay_16 : decode cX0_lay 16 = .ok (.ireturn, 1) := dk_172 (dk_at dksX0_lay_0 16 rfl rfl)
abbrev cX0_weigh : ByteArray := method_16_code
def yX0_weigh : MethodName := ⟨RX0, "weigh", "(LRecipeOfScales;III[J)I"⟩
def dkwX0_weigh_1 : List UInt8 := [172]
abbrev dktX0_weigh_1 : List UInt8 := dkwX0_weigh_1 ++ []
def dkwX0_weigh_0 : List UInt8 := [25, 4, 3, 42, 27, 28, 29, 182, 0, 60, 133, 80, 167, 0, 11, 58, 5, 4, 172, 58, 5, 5, 172, 3]
abbrev dktX0_weigh_0 : List UInt8 := dkwX0_weigh_0 ++ dktX0_weigh_1
theorem dksX0_weigh_0 : cX0_weigh.data.toList.drop 0 = dktX0_weigh_0 := by decide +kernel
theorem dksX0_weigh_1 : cX0_weigh.data.toList.drop 24 = dktX0_weigh_1 := dk_seg dksX0_weigh_0 24 rfl rfl
theorem dX0_weigh_0 : decode cX0_weigh 0 = .ok (.aload 4, 2) := dk_25 4 (dk_at dksX0_weigh_0 0 rfl rfl)
theorem dX0_weigh_2 : decode cX0_weigh 2 = .ok (.iconst 0, 1) := dk_3 (dk_at dksX0_weigh_0 2 rfl rfl)
theorem dX0_weigh_3 : decode cX0_weigh 3 = .ok (.aload_n 0, 1) := dk_42 (dk_at dksX0_weigh_0 3 rfl rfl)
theorem dX0_weigh_4 : decode cX0_weigh 4 = .ok (.iload_n 1, 1) := dk_27 (dk_at dksX0_weigh_0 4 rfl rfl)
theorem dX0_weigh_5 : decode cX0_weigh 5 = .ok (.iload_n 2, 1) := dk_28 (dk_at dksX0_weigh_0 5 rfl rfl)
theorem dX0_weigh_6 : decode cX0_weigh 6 = .ok (.iload_n 3, 1) := dk_29 (dk_at dksX0_weigh_0 6 rfl rfl)
theorem dX0_weigh_7 : decode cX0_weigh 7 = .ok (.invokevirtual 60, 3) := dk_182 0 60 (dk_at dksX0_weigh_0 7 rfl rfl)
theorem dX0_weigh_10 : decode cX0_weigh 10 = .ok (.i2l, 1) := dk_133 (dk_at dksX0_weigh_0 10 rfl rfl)
theorem dX0_weigh_11 : decode cX0_weigh 11 = .ok (.lastore, 1) := dk_80 (dk_at dksX0_weigh_0 11 rfl rfl)
theorem dX0_weigh_12 : decode cX0_weigh 12 = .ok (.goto 11, 3) := dk_167 0 11 (dk_at dksX0_weigh_0 12 rfl rfl)
theorem dX0_weigh_15 : decode cX0_weigh 15 = .ok (.astore 5, 2) := dk_58 5 (dk_at dksX0_weigh_0 15 rfl rfl)
theorem dX0_weigh_17 : decode cX0_weigh 17 = .ok (.iconst 1, 1) := dk_4 (dk_at dksX0_weigh_0 17 rfl rfl)
theorem dX0_weigh_18 : decode cX0_weigh 18 = .ok (.ireturn, 1) := dk_172 (dk_at dksX0_weigh_0 18 rfl rfl)
theorem dX0_weigh_19 : decode cX0_weigh 19 = .ok (.astore 5, 2) := dk_58 5 (dk_at dksX0_weigh_0 19 rfl rfl)
theorem dX0_weigh_21 : decode cX0_weigh 21 = .ok (.iconst 2, 1) := dk_5 (dk_at dksX0_weigh_0 21 rfl rfl)
theorem dX0_weigh_22 : decode cX0_weigh 22 = .ok (.ireturn, 1) := dk_172 (dk_at dksX0_weigh_0 22 rfl rfl)
theorem dX0_weigh_23 : decode cX0_weigh 23 = .ok (.iconst 0, 1) := dk_3 (dk_at dksX0_weigh_0 23 rfl rfl)
theorem dX0_weigh_24 : decode cX0_weigh 24 = .ok (.ireturn, 1) := dk_172 (dk_at dksX0_weigh_1 0 rfl rfl)
abbrev cX0_mayBe : ByteArray := method_17_code
def yX0_mayBe : MethodName := ⟨RX0, "mayBe", "(LRecipeOfScales;IZ[J)I"⟩
def dkwX0_mayBe_1 : List UInt8 := [3, 172]
abbrev dktX0_mayBe_1 : List UInt8 := dkwX0_mayBe_1 ++ []
def dkwX0_mayBe_0 : List UInt8 := [45, 3, 42, 27, 28, 182, 0, 64, 153, 0, 7, 10, 167, 0, 4, 9, 80, 167, 0, 7, 58, 4, 4, 172]
abbrev dktX0_mayBe_0 : List UInt8 := dkwX0_mayBe_0 ++ dktX0_mayBe_1
theorem dksX0_mayBe_0 : cX0_mayBe.data.toList.drop 0 = dktX0_mayBe_0 := by decide +kernel
theorem dksX0_mayBe_1 : cX0_mayBe.data.toList.drop 24 = dktX0_mayBe_1 := dk_seg dksX0_mayBe_0 24 rfl rfl
theorem dX0_mayBe_0 : decode cX0_mayBe 0 = .ok (.aload_n 3, 1) := dk_45 (dk_at dksX0_mayBe_0 0 rfl rfl)
theorem dX0_mayBe_1 : decode cX0_mayBe 1 = .ok (.iconst 0, 1) := dk_3 (dk_at dksX0_mayBe_0 1 rfl rfl)
theorem dX0_mayBe_2 : decode cX0_mayBe 2 = .ok (.aload_n 0, 1) := dk_42 (dk_at dksX0_mayBe_0 2 rfl rfl)
theorem dX0_mayBe_3 : decode cX0_mayBe 3 = .ok (.iload_n 1, 1) := dk_27 (dk_at dksX0_mayBe_0 3 rfl rfl)
theorem dX0_mayBe_4 : decode cX0_mayBe 4 = .ok (.iload_n 2, 1) := dk_28 (dk_at dksX0_mayBe_0 4 rfl rfl)
theorem dX0_mayBe_5 : decode cX0_mayBe 5 = .ok (.invokevirtual 64, 3) := dk_182 0 64 (dk_at dksX0_mayBe_0 5 rfl rfl)
theorem dX0_mayBe_8 : decode cX0_mayBe 8 = .ok (.ifCond .eq 7, 3) := dk_153 0 7 (dk_at dksX0_mayBe_0 8 rfl rfl)
theorem dX0_mayBe_11 : decode cX0_mayBe 11 = .ok (.lconst 1, 1) := dk_10 (dk_at dksX0_mayBe_0 11 rfl rfl)
theorem dX0_mayBe_12 : decode cX0_mayBe 12 = .ok (.goto 4, 3) := dk_167 0 4 (dk_at dksX0_mayBe_0 12 rfl rfl)
theorem dX0_mayBe_15 : decode cX0_mayBe 15 = .ok (.lconst 0, 1) := dk_9 (dk_at dksX0_mayBe_0 15 rfl rfl)
theorem dX0_mayBe_16 : decode cX0_mayBe 16 = .ok (.lastore, 1) := dk_80 (dk_at dksX0_mayBe_0 16 rfl rfl)
theorem dX0_mayBe_17 : decode cX0_mayBe 17 = .ok (.goto 7, 3) := dk_167 0 7 (dk_at dksX0_mayBe_0 17 rfl rfl)
theorem dX0_mayBe_20 : decode cX0_mayBe 20 = .ok (.astore 4, 2) := dk_58 4 (dk_at dksX0_mayBe_0 20 rfl rfl)
theorem dX0_mayBe_22 : decode cX0_mayBe 22 = .ok (.iconst 1, 1) := dk_4 (dk_at dksX0_mayBe_0 22 rfl rfl)
theorem dX0_mayBe_23 : decode cX0_mayBe 23 = .ok (.ireturn, 1) := dk_172 (dk_at dksX0_mayBe_0 23 rfl rfl)
theorem dX0_mayBe_24 : decode cX0_mayBe 24 = .ok (.iconst 0, 1) := dk_3 (dk_at dksX0_mayBe_1 0 rfl rfl)
theorem dX0_mayBe_25 : decode cX0_mayBe 25 = .ok (.ireturn, 1) := dk_172 (dk_at dksX0_mayBe_1 1 rfl rfl)
abbrev cX0_faulty : ByteArray := method_18_code
def yX0_faulty : MethodName := ⟨RX0, "faulty", "(LRecipeOfScales;[J)I"⟩
def dkwX0_faulty_0 : List UInt8 := [43, 3, 42, 182, 0, 68, 133, 80, 167, 0, 6, 77, 4, 172, 3, 172]
abbrev dktX0_faulty_0 : List UInt8 := dkwX0_faulty_0 ++ []
theorem dksX0_faulty_0 : cX0_faulty.data.toList.drop 0 = dktX0_faulty_0 := by decide +kernel
theorem dX0_faulty_0 : decode cX0_faulty 0 = .ok (.aload_n 1, 1) := dk_43 (dk_at dksX0_faulty_0 0 rfl rfl)
theorem dX0_faulty_1 : decode cX0_faulty 1 = .ok (.iconst 0, 1) := dk_3 (dk_at dksX0_faulty_0 1 rfl rfl)
theorem dX0_faulty_2 : decode cX0_faulty 2 = .ok (.aload_n 0, 1) := dk_42 (dk_at dksX0_faulty_0 2 rfl rfl)
theorem dX0_faulty_3 : decode cX0_faulty 3 = .ok (.invokevirtual 68, 3) := dk_182 0 68 (dk_at dksX0_faulty_0 3 rfl rfl)
theorem dX0_faulty_6 : decode cX0_faulty 6 = .ok (.i2l, 1) := dk_133 (dk_at dksX0_faulty_0 6 rfl rfl)
theorem dX0_faulty_7 : decode cX0_faulty 7 = .ok (.lastore, 1) := dk_80 (dk_at dksX0_faulty_0 7 rfl rfl)
theorem dX0_faulty_8 : decode cX0_faulty 8 = .ok (.goto 6, 3) := dk_167 0 6 (dk_at dksX0_faulty_0 8 rfl rfl)
theorem dX0_faulty_11 : decode cX0_faulty 11 = .ok (.astore_n 2, 1) := dk_77 (dk_at dksX0_faulty_0 11 rfl rfl)
theorem dX0_faulty_12 : decode cX0_faulty 12 = .ok (.iconst 1, 1) := dk_4 (dk_at dksX0_faulty_0 12 rfl rfl)
theorem dX0_faulty_13 : decode cX0_faulty 13 = .ok (.ireturn, 1) := dk_172 (dk_at dksX0_faulty_0 13 rfl rfl)
theorem dX0_faulty_14 : decode cX0_faulty 14 = .ok (.iconst 0, 1) := dk_3 (dk_at dksX0_faulty_0 14 rfl rfl)
theorem dX0_faulty_15 : decode cX0_faulty 15 = .ok (.ireturn, 1) := dk_172 (dk_at dksX0_faulty_0 15 rfl rfl)
abbrev cX0_isGood : ByteArray := method_19_code
def yX0_isGood : MethodName := ⟨RX0, "isGood", "(LRecipeOfScales;II[J)I"⟩
def dkwX0_isGood_1 : List UInt8 := [3, 172]
abbrev dktX0_isGood_1 : List UInt8 := dkwX0_isGood_1 ++ []
def dkwX0_isGood_0 : List UInt8 := [45, 3, 42, 27, 28, 182, 0, 71, 153, 0, 7, 10, 167, 0, 4, 9, 80, 167, 0, 7, 58, 4, 4, 172]
abbrev dktX0_isGood_0 : List UInt8 := dkwX0_isGood_0 ++ dktX0_isGood_1
theorem dksX0_isGood_0 : cX0_isGood.data.toList.drop 0 = dktX0_isGood_0 := by decide +kernel
theorem dksX0_isGood_1 : cX0_isGood.data.toList.drop 24 = dktX0_isGood_1 := dk_seg dksX0_isGood_0 24 rfl rfl
theorem dX0_isGood_0 : decode cX0_isGood 0 = .ok (.aload_n 3, 1) := dk_45 (dk_at dksX0_isGood_0 0 rfl rfl)
theorem dX0_isGood_1 : decode cX0_isGood 1 = .ok (.iconst 0, 1) := dk_3 (dk_at dksX0_isGood_0 1 rfl rfl)
theorem dX0_isGood_2 : decode cX0_isGood 2 = .ok (.aload_n 0, 1) := dk_42 (dk_at dksX0_isGood_0 2 rfl rfl)
theorem dX0_isGood_3 : decode cX0_isGood 3 = .ok (.iload_n 1, 1) := dk_27 (dk_at dksX0_isGood_0 3 rfl rfl)
theorem dX0_isGood_4 : decode cX0_isGood 4 = .ok (.iload_n 2, 1) := dk_28 (dk_at dksX0_isGood_0 4 rfl rfl)
theorem dX0_isGood_5 : decode cX0_isGood 5 = .ok (.invokevirtual 71, 3) := dk_182 0 71 (dk_at dksX0_isGood_0 5 rfl rfl)
theorem dX0_isGood_8 : decode cX0_isGood 8 = .ok (.ifCond .eq 7, 3) := dk_153 0 7 (dk_at dksX0_isGood_0 8 rfl rfl)
theorem dX0_isGood_11 : decode cX0_isGood 11 = .ok (.lconst 1, 1) := dk_10 (dk_at dksX0_isGood_0 11 rfl rfl)
theorem dX0_isGood_12 : decode cX0_isGood 12 = .ok (.goto 4, 3) := dk_167 0 4 (dk_at dksX0_isGood_0 12 rfl rfl)
theorem dX0_isGood_15 : decode cX0_isGood 15 = .ok (.lconst 0, 1) := dk_9 (dk_at dksX0_isGood_0 15 rfl rfl)
theorem dX0_isGood_16 : decode cX0_isGood 16 = .ok (.lastore, 1) := dk_80 (dk_at dksX0_isGood_0 16 rfl rfl)
theorem dX0_isGood_17 : decode cX0_isGood 17 = .ok (.goto 7, 3) := dk_167 0 7 (dk_at dksX0_isGood_0 17 rfl rfl)
theorem dX0_isGood_20 : decode cX0_isGood 20 = .ok (.astore 4, 2) := dk_58 4 (dk_at dksX0_isGood_0 20 rfl rfl)
theorem dX0_isGood_22 : decode cX0_isGood 22 = .ok (.iconst 1, 1) := dk_4 (dk_at dksX0_isGood_0 22 rfl rfl)
theorem dX0_isGood_23 : decode cX0_isGood 23 = .ok (.ireturn, 1) := dk_172 (dk_at dksX0_isGood_0 23 rfl rfl)
theorem dX0_isGood_24 : decode cX0_isGood 24 = .ok (.iconst 0, 1) := dk_3 (dk_at dksX0_isGood_1 0 rfl rfl)
theorem dX0_isGood_25 : decode cX0_isGood 25 = .ok (.ireturn, 1) := dk_172 (dk_at dksX0_isGood_1 1 rfl rfl)
abbrev cX0_goodLeft : ByteArray := method_20_code
def yX0_goodLeft : MethodName := ⟨RX0, "goodLeft", "(LRecipeOfScales;[J)I"⟩
def dkwX0_goodLeft_0 : List UInt8 := [43, 3, 42, 182, 0, 75, 133, 80, 167, 0, 6, 77, 4, 172, 3, 172]
abbrev dktX0_goodLeft_0 : List UInt8 := dkwX0_goodLeft_0 ++ []
theorem dksX0_goodLeft_0 : cX0_goodLeft.data.toList.drop 0 = dktX0_goodLeft_0 := by decide +kernel
theorem dX0_goodLeft_0 : decode cX0_goodLeft 0 = .ok (.aload_n 1, 1) := dk_43 (dk_at dksX0_goodLeft_0 0 rfl rfl)
theorem dX0_goodLeft_1 : decode cX0_goodLeft 1 = .ok (.iconst 0, 1) := dk_3 (dk_at dksX0_goodLeft_0 1 rfl rfl)
theorem dX0_goodLeft_2 : decode cX0_goodLeft 2 = .ok (.aload_n 0, 1) := dk_42 (dk_at dksX0_goodLeft_0 2 rfl rfl)
theorem dX0_goodLeft_3 : decode cX0_goodLeft 3 = .ok (.invokevirtual 75, 3) := dk_182 0 75 (dk_at dksX0_goodLeft_0 3 rfl rfl)
theorem dX0_goodLeft_6 : decode cX0_goodLeft 6 = .ok (.i2l, 1) := dk_133 (dk_at dksX0_goodLeft_0 6 rfl rfl)
theorem dX0_goodLeft_7 : decode cX0_goodLeft 7 = .ok (.lastore, 1) := dk_80 (dk_at dksX0_goodLeft_0 7 rfl rfl)
theorem dX0_goodLeft_8 : decode cX0_goodLeft 8 = .ok (.goto 6, 3) := dk_167 0 6 (dk_at dksX0_goodLeft_0 8 rfl rfl)
theorem dX0_goodLeft_11 : decode cX0_goodLeft 11 = .ok (.astore_n 2, 1) := dk_77 (dk_at dksX0_goodLeft_0 11 rfl rfl)
theorem dX0_goodLeft_12 : decode cX0_goodLeft 12 = .ok (.iconst 1, 1) := dk_4 (dk_at dksX0_goodLeft_0 12 rfl rfl)
theorem dX0_goodLeft_13 : decode cX0_goodLeft 13 = .ok (.ireturn, 1) := dk_172 (dk_at dksX0_goodLeft_0 13 rfl rfl)
theorem dX0_goodLeft_14 : decode cX0_goodLeft 14 = .ok (.iconst 0, 1) := dk_3 (dk_at dksX0_goodLeft_0 14 rfl rfl)
theorem dX0_goodLeft_15 : decode cX0_goodLeft 15 = .ok (.ireturn, 1) := dk_172 (dk_at dksX0_goodLeft_0 15 rfl rfl)
abbrev cX0_goodRight : ByteArray := method_21_code
def yX0_goodRight : MethodName := ⟨RX0, "goodRight", "(LRecipeOfScales;[J)I"⟩
def dkwX0_goodRight_0 : List UInt8 := [43, 3, 42, 182, 0, 78, 133, 80, 167, 0, 6, 77, 4, 172, 3, 172]
abbrev dktX0_goodRight_0 : List UInt8 := dkwX0_goodRight_0 ++ []
theorem dksX0_goodRight_0 : cX0_goodRight.data.toList.drop 0 = dktX0_goodRight_0 := by decide +kernel
theorem dX0_goodRight_0 : decode cX0_goodRight 0 = .ok (.aload_n 1, 1) := dk_43 (dk_at dksX0_goodRight_0 0 rfl rfl)
theorem dX0_goodRight_1 : decode cX0_goodRight 1 = .ok (.iconst 0, 1) := dk_3 (dk_at dksX0_goodRight_0 1 rfl rfl)
theorem dX0_goodRight_2 : decode cX0_goodRight 2 = .ok (.aload_n 0, 1) := dk_42 (dk_at dksX0_goodRight_0 2 rfl rfl)
theorem dX0_goodRight_3 : decode cX0_goodRight 3 = .ok (.invokevirtual 78, 3) := dk_182 0 78 (dk_at dksX0_goodRight_0 3 rfl rfl)
theorem dX0_goodRight_6 : decode cX0_goodRight 6 = .ok (.i2l, 1) := dk_133 (dk_at dksX0_goodRight_0 6 rfl rfl)
theorem dX0_goodRight_7 : decode cX0_goodRight 7 = .ok (.lastore, 1) := dk_80 (dk_at dksX0_goodRight_0 7 rfl rfl)
theorem dX0_goodRight_8 : decode cX0_goodRight 8 = .ok (.goto 6, 3) := dk_167 0 6 (dk_at dksX0_goodRight_0 8 rfl rfl)
theorem dX0_goodRight_11 : decode cX0_goodRight 11 = .ok (.astore_n 2, 1) := dk_77 (dk_at dksX0_goodRight_0 11 rfl rfl)
theorem dX0_goodRight_12 : decode cX0_goodRight 12 = .ok (.iconst 1, 1) := dk_4 (dk_at dksX0_goodRight_0 12 rfl rfl)
theorem dX0_goodRight_13 : decode cX0_goodRight 13 = .ok (.ireturn, 1) := dk_172 (dk_at dksX0_goodRight_0 13 rfl rfl)
theorem dX0_goodRight_14 : decode cX0_goodRight 14 = .ok (.iconst 0, 1) := dk_3 (dk_at dksX0_goodRight_0 14 rfl rfl)
theorem dX0_goodRight_15 : decode cX0_goodRight 15 = .ok (.ireturn, 1) := dk_172 (dk_at dksX0_goodRight_0 15 rfl rfl)
theorem q50 : (Jvm.Cond.initialized "RecipeOfScalesLaw") ∈ lw_all := lw_g (lw_at lw_m1 0 rfl) rfl
theorem q81 : (Jvm.Cond.classLink "RecipeOfScalesLaw" (8 : Nat) "RecipeOfScales") ∈ lw_all := lw_g (lw_at lw_m1 31 rfl) rfl
theorem q83 : (Jvm.Cond.methodLink "RecipeOfScalesLaw" (81 : Nat) ({ cls := "RecipeOfScales", name := "<init>", desc := "()V" } : Jvm.MethodName)) ∈ lw_all := lw_g (lw_at lw_m1 33 rfl) rfl
theorem q176 : (Jvm.Cond.methodLink "RecipeOfScalesLaw" (98 : Nat) ({ cls := "RecipeOfScales", name := "weights", desc := "()I" } : Jvm.MethodName)) ∈ lw_all := lw_g (lw_at lw_m1 126 rfl) rfl
theorem q190 : (Jvm.Cond.methodLink "RecipeOfScalesLaw" (126 : Nat) ({ cls := "RecipeOfScales", name := "gap", desc := "()I" } : Jvm.MethodName)) ∈ lw_all := lw_g (lw_at lw_m1 140 rfl) rfl
theorem q382 : (Jvm.Cond.methodLink "RecipeOfScalesLaw" (130 : Nat) ({ cls := "RecipeOfScales", name := "masses", desc := "()I" } : Jvm.MethodName)) ∈ lw_all := lw_g (lw_at lw_m2 92 rfl) rfl
theorem q387 : (Jvm.Cond.methodLink "RecipeOfScalesLaw" (148 : Nat) ({ cls := "RecipeOfScales", name := "coins", desc := "()I" } : Jvm.MethodName)) ∈ lw_all := lw_g (lw_at lw_m2 97 rfl) rfl
theorem q391 : (Jvm.Cond.methodLink "RecipeOfScalesLaw" (152 : Nat) ({ cls := "RecipeOfScales", name := "possible", desc := "()I" } : Jvm.MethodName)) ∈ lw_all := lw_g (lw_at lw_m2 101 rfl) rfl
theorem q401 : (Jvm.Cond.methodLink "RecipeOfScalesLaw" (163 : Nat) ({ cls := "RecipeOfScales", name := "weighings", desc := "()I" } : Jvm.MethodName)) ∈ lw_all := lw_g (lw_at lw_m2 111 rfl) rfl
theorem q421 : (Jvm.Cond.methodLink "RecipeOfScalesLaw" (85 : Nat) ({ cls := "RecipeOfScalesLaw", name := "tell", desc := "(LRecipeOfScales;II[J)I" } : Jvm.MethodName)) ∈ lw_all := lw_g (lw_at lw_m2 131 rfl) rfl
theorem q422 : (Jvm.Cond.static ({ cls := "RecipeOfScalesLaw", name := "tell", desc := "(LRecipeOfScales;II[J)I" } : Jvm.MethodName)) ∈ lw_all := lw_g (lw_at lw_m2 132 rfl) rfl
theorem q423 : (Jvm.Cond.codeWith ({ cls := "RecipeOfScalesLaw", name := "tell", desc := "(LRecipeOfScales;II[J)I" } : Jvm.MethodName) method_3_code (5 : Nat) (Option.some Jvm.ClassFile.FieldType.int) [((0 : Nat), (10 : Nat), (13 : Nat), (13 : Nat)), ((0 : Nat), (10 : Nat), (17 : Nat), (15 : Nat))]) ∈ lw_all := lw_g (lw_at lw_m2 133 rfl) rfl
theorem q424 : (Jvm.Cond.classLink "RecipeOfScalesLaw" (13 : Nat) "java/lang/IllegalArgumentException") ∈ lw_all := lw_g (lw_at lw_m2 134 rfl) rfl
theorem q425 : (Jvm.Cond.classLink "RecipeOfScalesLaw" (15 : Nat) "java/lang/IllegalStateException") ∈ lw_all := lw_g (lw_at lw_m2 135 rfl) rfl
theorem q426 : (Jvm.Cond.methodLink "RecipeOfScalesLaw" (7 : Nat) ({ cls := "RecipeOfScales", name := "tell", desc := "(II)I" } : Jvm.MethodName)) ∈ lw_all := lw_g (lw_at lw_m2 136 rfl) rfl
theorem q778 : (Jvm.Cond.methodLink "RecipeOfScalesLaw" (94 : Nat) ({ cls := "RecipeOfScalesLaw", name := "takeAway", desc := "(LRecipeOfScales;I[J)I" } : Jvm.MethodName)) ∈ lw_all := lw_g (lw_at lw_m4 8 rfl) rfl
theorem q779 : (Jvm.Cond.static ({ cls := "RecipeOfScalesLaw", name := "takeAway", desc := "(LRecipeOfScales;I[J)I" } : Jvm.MethodName)) ∈ lw_all := lw_g (lw_at lw_m4 9 rfl) rfl
theorem q780 : (Jvm.Cond.codeWith ({ cls := "RecipeOfScalesLaw", name := "takeAway", desc := "(LRecipeOfScales;I[J)I" } : Jvm.MethodName) method_4_code (4 : Nat) (Option.some Jvm.ClassFile.FieldType.int) [((0 : Nat), (9 : Nat), (12 : Nat), (21 : Nat))]) ∈ lw_all := lw_g (lw_at lw_m4 10 rfl) rfl
theorem q781 : (Jvm.Cond.classLink "RecipeOfScalesLaw" (21 : Nat) "java/lang/IndexOutOfBoundsException") ∈ lw_all := lw_g (lw_at lw_m4 11 rfl) rfl
theorem q800 : (Jvm.Cond.methodLink "RecipeOfScalesLaw" (17 : Nat) ({ cls := "RecipeOfScales", name := "takeAway", desc := "(I)I" } : Jvm.MethodName)) ∈ lw_all := lw_g (lw_at lw_m4 30 rfl) rfl
theorem q837 : (Jvm.Cond.methodLink "RecipeOfScalesLaw" (102 : Nat) ({ cls := "RecipeOfScalesLaw", name := "massOf", desc := "(LRecipeOfScales;I[J)I" } : Jvm.MethodName)) ∈ lw_all := lw_g (lw_at lw_m4 67 rfl) rfl
theorem q838 : (Jvm.Cond.static ({ cls := "RecipeOfScalesLaw", name := "massOf", desc := "(LRecipeOfScales;I[J)I" } : Jvm.MethodName)) ∈ lw_all := lw_g (lw_at lw_m4 68 rfl) rfl
theorem q839 : (Jvm.Cond.codeWith ({ cls := "RecipeOfScalesLaw", name := "massOf", desc := "(LRecipeOfScales;I[J)I" } : Jvm.MethodName) method_5_code (4 : Nat) (Option.some Jvm.ClassFile.FieldType.int) [((0 : Nat), (9 : Nat), (12 : Nat), (21 : Nat))]) ∈ lw_all := lw_g (lw_at lw_m4 69 rfl) rfl
theorem q840 : (Jvm.Cond.methodLink "RecipeOfScalesLaw" (23 : Nat) ({ cls := "RecipeOfScales", name := "massOf", desc := "(I)I" } : Jvm.MethodName)) ∈ lw_all := lw_g (lw_at lw_m4 70 rfl) rfl
theorem q845 : (Jvm.Cond.methodLink "RecipeOfScalesLaw" (105 : Nat) ({ cls := "RecipeOfScalesLaw", name := "canWeigh", desc := "(LRecipeOfScales;I[J)I" } : Jvm.MethodName)) ∈ lw_all := lw_g (lw_at lw_m4 75 rfl) rfl
theorem q846 : (Jvm.Cond.static ({ cls := "RecipeOfScalesLaw", name := "canWeigh", desc := "(LRecipeOfScales;I[J)I" } : Jvm.MethodName)) ∈ lw_all := lw_g (lw_at lw_m4 76 rfl) rfl
theorem q847 : (Jvm.Cond.codeWith ({ cls := "RecipeOfScalesLaw", name := "canWeigh", desc := "(LRecipeOfScales;I[J)I" } : Jvm.MethodName) method_6_code (4 : Nat) (Option.some Jvm.ClassFile.FieldType.int) [((0 : Nat), (16 : Nat), (19 : Nat), (13 : Nat))]) ∈ lw_all := lw_g (lw_at lw_m4 77 rfl) rfl
theorem q848 : (Jvm.Cond.methodLink "RecipeOfScalesLaw" (26 : Nat) ({ cls := "RecipeOfScales", name := "canWeigh", desc := "(I)Z" } : Jvm.MethodName)) ∈ lw_all := lw_g (lw_at lw_m4 78 rfl) rfl
theorem q856 : (Jvm.Cond.methodLink "RecipeOfScalesLaw" (108 : Nat) ({ cls := "RecipeOfScalesLaw", name := "canWeighOnOnePan", desc := "(LRecipeOfScales;I[J)I" } : Jvm.MethodName)) ∈ lw_all := lw_g (lw_at lw_m4 86 rfl) rfl
theorem q857 : (Jvm.Cond.static ({ cls := "RecipeOfScalesLaw", name := "canWeighOnOnePan", desc := "(LRecipeOfScales;I[J)I" } : Jvm.MethodName)) ∈ lw_all := lw_g (lw_at lw_m4 87 rfl) rfl
theorem q858 : (Jvm.Cond.codeWith ({ cls := "RecipeOfScalesLaw", name := "canWeighOnOnePan", desc := "(LRecipeOfScales;I[J)I" } : Jvm.MethodName) method_7_code (4 : Nat) (Option.some Jvm.ClassFile.FieldType.int) [((0 : Nat), (16 : Nat), (19 : Nat), (13 : Nat))]) ∈ lw_all := lw_g (lw_at lw_m4 88 rfl) rfl
theorem q859 : (Jvm.Cond.methodLink "RecipeOfScalesLaw" (30 : Nat) ({ cls := "RecipeOfScales", name := "canWeighOnOnePan", desc := "(I)Z" } : Jvm.MethodName)) ∈ lw_all := lw_g (lw_at lw_m4 89 rfl) rfl
theorem q867 : (Jvm.Cond.methodLink "RecipeOfScalesLaw" (111 : Nat) ({ cls := "RecipeOfScalesLaw", name := "ways", desc := "(LRecipeOfScales;I[J)I" } : Jvm.MethodName)) ∈ lw_all := lw_g (lw_at lw_m4 97 rfl) rfl
theorem q868 : (Jvm.Cond.static ({ cls := "RecipeOfScalesLaw", name := "ways", desc := "(LRecipeOfScales;I[J)I" } : Jvm.MethodName)) ∈ lw_all := lw_g (lw_at lw_m4 98 rfl) rfl
theorem q869 : (Jvm.Cond.codeWith ({ cls := "RecipeOfScalesLaw", name := "ways", desc := "(LRecipeOfScales;I[J)I" } : Jvm.MethodName) method_8_code (4 : Nat) (Option.some Jvm.ClassFile.FieldType.int) [((0 : Nat), (9 : Nat), (12 : Nat), (13 : Nat))]) ∈ lw_all := lw_g (lw_at lw_m4 99 rfl) rfl
theorem q870 : (Jvm.Cond.methodLink "RecipeOfScalesLaw" (33 : Nat) ({ cls := "RecipeOfScales", name := "ways", desc := "(I)I" } : Jvm.MethodName)) ∈ lw_all := lw_g (lw_at lw_m4 100 rfl) rfl
theorem q875 : (Jvm.Cond.methodLink "RecipeOfScalesLaw" (114 : Nat) ({ cls := "RecipeOfScalesLaw", name := "waysByPlacings", desc := "(LRecipeOfScales;I[J)I" } : Jvm.MethodName)) ∈ lw_all := lw_g (lw_at lw_m4 105 rfl) rfl
theorem q876 : (Jvm.Cond.static ({ cls := "RecipeOfScalesLaw", name := "waysByPlacings", desc := "(LRecipeOfScales;I[J)I" } : Jvm.MethodName)) ∈ lw_all := lw_g (lw_at lw_m4 106 rfl) rfl
theorem q877 : (Jvm.Cond.codeWith ({ cls := "RecipeOfScalesLaw", name := "waysByPlacings", desc := "(LRecipeOfScales;I[J)I" } : Jvm.MethodName) method_9_code (4 : Nat) (Option.some Jvm.ClassFile.FieldType.int) [((0 : Nat), (9 : Nat), (12 : Nat), (13 : Nat))]) ∈ lw_all := lw_g (lw_at lw_m4 107 rfl) rfl
theorem q878 : (Jvm.Cond.methodLink "RecipeOfScalesLaw" (36 : Nat) ({ cls := "RecipeOfScales", name := "waysByPlacings", desc := "(I)I" } : Jvm.MethodName)) ∈ lw_all := lw_g (lw_at lw_m4 108 rfl) rfl
theorem q886 : (Jvm.Cond.methodLink "RecipeOfScalesLaw" (117 : Nat) ({ cls := "RecipeOfScalesLaw", name := "fewest", desc := "(LRecipeOfScales;I[J)I" } : Jvm.MethodName)) ∈ lw_all := lw_g (lw_at lw_m4 116 rfl) rfl
theorem q887 : (Jvm.Cond.static ({ cls := "RecipeOfScalesLaw", name := "fewest", desc := "(LRecipeOfScales;I[J)I" } : Jvm.MethodName)) ∈ lw_all := lw_g (lw_at lw_m4 117 rfl) rfl
theorem q888 : (Jvm.Cond.codeWith ({ cls := "RecipeOfScalesLaw", name := "fewest", desc := "(LRecipeOfScales;I[J)I" } : Jvm.MethodName) method_10_code (4 : Nat) (Option.some Jvm.ClassFile.FieldType.int) [((0 : Nat), (9 : Nat), (12 : Nat), (13 : Nat))]) ∈ lw_all := lw_g (lw_at lw_m4 118 rfl) rfl
theorem q889 : (Jvm.Cond.methodLink "RecipeOfScalesLaw" (39 : Nat) ({ cls := "RecipeOfScales", name := "fewest", desc := "(I)I" } : Jvm.MethodName)) ∈ lw_all := lw_g (lw_at lw_m4 119 rfl) rfl
theorem q894 : (Jvm.Cond.methodLink "RecipeOfScalesLaw" (120 : Nat) ({ cls := "RecipeOfScalesLaw", name := "placed", desc := "(LRecipeOfScales;II[J)I" } : Jvm.MethodName)) ∈ lw_all := lw_g (lw_at lw_m4 124 rfl) rfl
theorem q895 : (Jvm.Cond.static ({ cls := "RecipeOfScalesLaw", name := "placed", desc := "(LRecipeOfScales;II[J)I" } : Jvm.MethodName)) ∈ lw_all := lw_g (lw_at lw_m4 125 rfl) rfl
theorem q896 : (Jvm.Cond.codeWith ({ cls := "RecipeOfScalesLaw", name := "placed", desc := "(LRecipeOfScales;II[J)I" } : Jvm.MethodName) method_11_code (5 : Nat) (Option.some Jvm.ClassFile.FieldType.int) [((0 : Nat), (10 : Nat), (13 : Nat), (13 : Nat)), ((0 : Nat), (10 : Nat), (17 : Nat), (21 : Nat)), ((0 : Nat), (10 : Nat), (21 : Nat), (45 : Nat))]) ∈ lw_all := lw_g (lw_at lw_m4 126 rfl) rfl
theorem q897 : (Jvm.Cond.classLink "RecipeOfScalesLaw" (45 : Nat) "java/util/NoSuchElementException") ∈ lw_all := lw_g (lw_at lw_m4 127 rfl) rfl
theorem q898 : (Jvm.Cond.methodLink "RecipeOfScalesLaw" (42 : Nat) ({ cls := "RecipeOfScales", name := "placed", desc := "(II)I" } : Jvm.MethodName)) ∈ lw_all := lw_g (lw_at lw_m4 128 rfl) rfl
theorem q908 : (Jvm.Cond.methodLink "RecipeOfScalesLaw" (123 : Nat) ({ cls := "RecipeOfScalesLaw", name := "leastError", desc := "(LRecipeOfScales;I[J)I" } : Jvm.MethodName)) ∈ lw_all := lw_g (lw_at lw_m4 138 rfl) rfl
theorem q909 : (Jvm.Cond.static ({ cls := "RecipeOfScalesLaw", name := "leastError", desc := "(LRecipeOfScales;I[J)I" } : Jvm.MethodName)) ∈ lw_all := lw_g (lw_at lw_m4 139 rfl) rfl
theorem q910 : (Jvm.Cond.codeWith ({ cls := "RecipeOfScalesLaw", name := "leastError", desc := "(LRecipeOfScales;I[J)I" } : Jvm.MethodName) method_12_code (4 : Nat) (Option.some Jvm.ClassFile.FieldType.int) [((0 : Nat), (9 : Nat), (12 : Nat), (13 : Nat))]) ∈ lw_all := lw_g (lw_at lw_m4 140 rfl) rfl
theorem q911 : (Jvm.Cond.methodLink "RecipeOfScalesLaw" (47 : Nat) ({ cls := "RecipeOfScales", name := "leastError", desc := "(I)I" } : Jvm.MethodName)) ∈ lw_all := lw_g (lw_at lw_m4 141 rfl) rfl
theorem q915 : (Jvm.Cond.methodLink "RecipeOfScalesLaw" (134 : Nat) ({ cls := "RecipeOfScalesLaw", name := "needed", desc := "(LRecipeOfScales;I[J)I" } : Jvm.MethodName)) ∈ lw_all := lw_g (lw_at lw_m4 145 rfl) rfl
theorem q916 : (Jvm.Cond.static ({ cls := "RecipeOfScalesLaw", name := "needed", desc := "(LRecipeOfScales;I[J)I" } : Jvm.MethodName)) ∈ lw_all := lw_g (lw_at lw_m4 146 rfl) rfl
theorem q917 : (Jvm.Cond.codeWith ({ cls := "RecipeOfScalesLaw", name := "needed", desc := "(LRecipeOfScales;I[J)I" } : Jvm.MethodName) method_13_code (4 : Nat) (Option.some Jvm.ClassFile.FieldType.int) [((0 : Nat), (9 : Nat), (12 : Nat), (13 : Nat))]) ∈ lw_all := lw_g (lw_at lw_m4 147 rfl) rfl
theorem q918 : (Jvm.Cond.methodLink "RecipeOfScalesLaw" (50 : Nat) ({ cls := "RecipeOfScales", name := "needed", desc := "(I)I" } : Jvm.MethodName)) ∈ lw_all := lw_g (lw_at lw_m4 148 rfl) rfl
theorem q940 : (Jvm.Cond.methodLink "RecipeOfScalesLaw" (137 : Nat) ({ cls := "RecipeOfScalesLaw", name := "bestMore", desc := "(LRecipeOfScales;[J)I" } : Jvm.MethodName)) ∈ lw_all := lw_g (lw_at lw_m4 170 rfl) rfl
theorem q941 : (Jvm.Cond.static ({ cls := "RecipeOfScalesLaw", name := "bestMore", desc := "(LRecipeOfScales;[J)I" } : Jvm.MethodName)) ∈ lw_all := lw_g (lw_at lw_m4 171 rfl) rfl
theorem q942 : (Jvm.Cond.codeWith ({ cls := "RecipeOfScalesLaw", name := "bestMore", desc := "(LRecipeOfScales;[J)I" } : Jvm.MethodName) method_14_code (3 : Nat) (Option.some Jvm.ClassFile.FieldType.int) [((0 : Nat), (8 : Nat), (11 : Nat), (15 : Nat))]) ∈ lw_all := lw_g (lw_at lw_m4 172 rfl) rfl
theorem q943 : (Jvm.Cond.methodLink "RecipeOfScalesLaw" (53 : Nat) ({ cls := "RecipeOfScales", name := "bestMore", desc := "()I" } : Jvm.MethodName)) ∈ lw_all := lw_g (lw_at lw_m4 173 rfl) rfl
theorem q947 : (Jvm.Cond.methodLink "RecipeOfScalesLaw" (141 : Nat) ({ cls := "RecipeOfScalesLaw", name := "lay", desc := "(LRecipeOfScales;I[J)I" } : Jvm.MethodName)) ∈ lw_all := lw_g (lw_at lw_m4 177 rfl) rfl
theorem q948 : (Jvm.Cond.static ({ cls := "RecipeOfScalesLaw", name := "lay", desc := "(LRecipeOfScales;I[J)I" } : Jvm.MethodName)) ∈ lw_all := lw_g (lw_at lw_m4 178 rfl) rfl
theorem q949 : (Jvm.Cond.codeWith ({ cls := "RecipeOfScalesLaw", name := "lay", desc := "(LRecipeOfScales;I[J)I" } : Jvm.MethodName) method_15_code (4 : Nat) (Option.some Jvm.ClassFile.FieldType.int) [((0 : Nat), (9 : Nat), (12 : Nat), (13 : Nat))]) ∈ lw_all := lw_g (lw_at lw_m4 179 rfl) rfl
theorem q950 : (Jvm.Cond.methodLink "RecipeOfScalesLaw" (57 : Nat) ({ cls := "RecipeOfScales", name := "lay", desc := "(I)I" } : Jvm.MethodName)) ∈ lw_all := lw_g (lw_at lw_m4 180 rfl) rfl
theorem q954 : (Jvm.Cond.methodLink "RecipeOfScalesLaw" (144 : Nat) ({ cls := "RecipeOfScalesLaw", name := "weigh", desc := "(LRecipeOfScales;III[J)I" } : Jvm.MethodName)) ∈ lw_all := lw_g (lw_at lw_m4 184 rfl) rfl
theorem q955 : (Jvm.Cond.static ({ cls := "RecipeOfScalesLaw", name := "weigh", desc := "(LRecipeOfScales;III[J)I" } : Jvm.MethodName)) ∈ lw_all := lw_g (lw_at lw_m4 185 rfl) rfl
theorem q956 : (Jvm.Cond.codeWith ({ cls := "RecipeOfScalesLaw", name := "weigh", desc := "(LRecipeOfScales;III[J)I" } : Jvm.MethodName) method_16_code (6 : Nat) (Option.some Jvm.ClassFile.FieldType.int) [((0 : Nat), (12 : Nat), (15 : Nat), (13 : Nat)), ((0 : Nat), (12 : Nat), (19 : Nat), (15 : Nat))]) ∈ lw_all := lw_g (lw_at lw_m4 186 rfl) rfl
theorem q957 : (Jvm.Cond.methodLink "RecipeOfScalesLaw" (60 : Nat) ({ cls := "RecipeOfScales", name := "weigh", desc := "(III)I" } : Jvm.MethodName)) ∈ lw_all := lw_g (lw_at lw_m4 187 rfl) rfl
theorem q976 : (Jvm.Cond.methodLink "RecipeOfScalesLaw" (156 : Nat) ({ cls := "RecipeOfScalesLaw", name := "mayBe", desc := "(LRecipeOfScales;IZ[J)I" } : Jvm.MethodName)) ∈ lw_all := lw_g (lw_at lw_m4 206 rfl) rfl
theorem q977 : (Jvm.Cond.static ({ cls := "RecipeOfScalesLaw", name := "mayBe", desc := "(LRecipeOfScales;IZ[J)I" } : Jvm.MethodName)) ∈ lw_all := lw_g (lw_at lw_m4 207 rfl) rfl
theorem q978 : (Jvm.Cond.codeWith ({ cls := "RecipeOfScalesLaw", name := "mayBe", desc := "(LRecipeOfScales;IZ[J)I" } : Jvm.MethodName) method_17_code (5 : Nat) (Option.some Jvm.ClassFile.FieldType.int) [((0 : Nat), (17 : Nat), (20 : Nat), (21 : Nat))]) ∈ lw_all := lw_g (lw_at lw_m4 208 rfl) rfl
theorem q979 : (Jvm.Cond.methodLink "RecipeOfScalesLaw" (64 : Nat) ({ cls := "RecipeOfScales", name := "mayBe", desc := "(IZ)Z" } : Jvm.MethodName)) ∈ lw_all := lw_g (lw_at lw_m4 209 rfl) rfl
theorem q984 : (Jvm.Cond.methodLink "RecipeOfScalesLaw" (160 : Nat) ({ cls := "RecipeOfScalesLaw", name := "faulty", desc := "(LRecipeOfScales;[J)I" } : Jvm.MethodName)) ∈ lw_all := lw_g (lw_at lw_m4 214 rfl) rfl
theorem q985 : (Jvm.Cond.static ({ cls := "RecipeOfScalesLaw", name := "faulty", desc := "(LRecipeOfScales;[J)I" } : Jvm.MethodName)) ∈ lw_all := lw_g (lw_at lw_m4 215 rfl) rfl
theorem q986 : (Jvm.Cond.codeWith ({ cls := "RecipeOfScalesLaw", name := "faulty", desc := "(LRecipeOfScales;[J)I" } : Jvm.MethodName) method_18_code (3 : Nat) (Option.some Jvm.ClassFile.FieldType.int) [((0 : Nat), (8 : Nat), (11 : Nat), (45 : Nat))]) ∈ lw_all := lw_g (lw_at lw_m4 216 rfl) rfl
theorem q987 : (Jvm.Cond.methodLink "RecipeOfScalesLaw" (68 : Nat) ({ cls := "RecipeOfScales", name := "faulty", desc := "()I" } : Jvm.MethodName)) ∈ lw_all := lw_g (lw_at lw_m4 217 rfl) rfl
theorem q996 : (Jvm.Cond.methodLink "RecipeOfScalesLaw" (167 : Nat) ({ cls := "RecipeOfScalesLaw", name := "isGood", desc := "(LRecipeOfScales;II[J)I" } : Jvm.MethodName)) ∈ lw_all := lw_g (lw_at lw_m4 226 rfl) rfl
theorem q997 : (Jvm.Cond.static ({ cls := "RecipeOfScalesLaw", name := "isGood", desc := "(LRecipeOfScales;II[J)I" } : Jvm.MethodName)) ∈ lw_all := lw_g (lw_at lw_m4 227 rfl) rfl
theorem q998 : (Jvm.Cond.codeWith ({ cls := "RecipeOfScalesLaw", name := "isGood", desc := "(LRecipeOfScales;II[J)I" } : Jvm.MethodName) method_19_code (5 : Nat) (Option.some Jvm.ClassFile.FieldType.int) [((0 : Nat), (17 : Nat), (20 : Nat), (13 : Nat))]) ∈ lw_all := lw_g (lw_at lw_m4 228 rfl) rfl
theorem q999 : (Jvm.Cond.methodLink "RecipeOfScalesLaw" (71 : Nat) ({ cls := "RecipeOfScales", name := "isGood", desc := "(II)Z" } : Jvm.MethodName)) ∈ lw_all := lw_g (lw_at lw_m4 229 rfl) rfl
theorem q1008 : (Jvm.Cond.methodLink "RecipeOfScalesLaw" (170 : Nat) ({ cls := "RecipeOfScalesLaw", name := "goodLeft", desc := "(LRecipeOfScales;[J)I" } : Jvm.MethodName)) ∈ lw_all := lw_g (lw_at lw_m4 238 rfl) rfl
theorem q1009 : (Jvm.Cond.static ({ cls := "RecipeOfScalesLaw", name := "goodLeft", desc := "(LRecipeOfScales;[J)I" } : Jvm.MethodName)) ∈ lw_all := lw_g (lw_at lw_m4 239 rfl) rfl
theorem q1010 : (Jvm.Cond.codeWith ({ cls := "RecipeOfScalesLaw", name := "goodLeft", desc := "(LRecipeOfScales;[J)I" } : Jvm.MethodName) method_20_code (3 : Nat) (Option.some Jvm.ClassFile.FieldType.int) [((0 : Nat), (8 : Nat), (11 : Nat), (45 : Nat))]) ∈ lw_all := lw_g (lw_at lw_m5 0 rfl) rfl
theorem q1011 : (Jvm.Cond.methodLink "RecipeOfScalesLaw" (75 : Nat) ({ cls := "RecipeOfScales", name := "goodLeft", desc := "()I" } : Jvm.MethodName)) ∈ lw_all := lw_g (lw_at lw_m5 1 rfl) rfl
theorem q1020 : (Jvm.Cond.methodLink "RecipeOfScalesLaw" (173 : Nat) ({ cls := "RecipeOfScalesLaw", name := "goodRight", desc := "(LRecipeOfScales;[J)I" } : Jvm.MethodName)) ∈ lw_all := lw_g (lw_at lw_m5 10 rfl) rfl
theorem q1021 : (Jvm.Cond.static ({ cls := "RecipeOfScalesLaw", name := "goodRight", desc := "(LRecipeOfScales;[J)I" } : Jvm.MethodName)) ∈ lw_all := lw_g (lw_at lw_m5 11 rfl) rfl
theorem q1022 : (Jvm.Cond.codeWith ({ cls := "RecipeOfScalesLaw", name := "goodRight", desc := "(LRecipeOfScales;[J)I" } : Jvm.MethodName) method_21_code (3 : Nat) (Option.some Jvm.ClassFile.FieldType.int) [((0 : Nat), (8 : Nat), (11 : Nat), (45 : Nat))]) ∈ lw_all := lw_g (lw_at lw_m5 12 rfl) rfl
theorem q1023 : (Jvm.Cond.methodLink "RecipeOfScalesLaw" (78 : Nat) ({ cls := "RecipeOfScales", name := "goodRight", desc := "()I" } : Jvm.MethodName)) ∈ lw_all := lw_g (lw_at lw_m5 13 rfl) rfl
theorem q1027 : (Jvm.Cond.classLink "RecipeOfScalesLaw" (82 : Nat) "RecipeOfScalesModel") ∈ lw_all := lw_g (lw_at lw_m5 17 rfl) rfl
theorem q1029 : (Jvm.Cond.methodLink "RecipeOfScalesLaw" (84 : Nat) ({ cls := "RecipeOfScalesModel", name := "<init>", desc := "()V" } : Jvm.MethodName)) ∈ lw_all := lw_g (lw_at lw_m5 19 rfl) rfl
theorem q1111 : (Jvm.Cond.methodLink "RecipeOfScalesLaw" (91 : Nat) ({ cls := "RecipeOfScalesModel", name := "thrown", desc := "()I" } : Jvm.MethodName)) ∈ lw_all := lw_g (lw_at lw_m5 101 rfl) rfl
theorem q1115 : (Jvm.Cond.methodLink "RecipeOfScalesLaw" (90 : Nat) ({ cls := "RecipeOfScalesModel", name := "tell", desc := "(II)I" } : Jvm.MethodName)) ∈ lw_all := lw_g (lw_at lw_m5 105 rfl) rfl
theorem q1126 : (Jvm.Cond.methodLink "RecipeOfScalesLaw" (97 : Nat) ({ cls := "RecipeOfScalesModel", name := "takeAway", desc := "(I)I" } : Jvm.MethodName)) ∈ lw_all := lw_g (lw_at lw_m5 116 rfl) rfl
theorem q1134 : (Jvm.Cond.methodLink "RecipeOfScalesLaw" (101 : Nat) ({ cls := "RecipeOfScalesModel", name := "weights", desc := "()I" } : Jvm.MethodName)) ∈ lw_all := lw_g (lw_at lw_m5 124 rfl) rfl
theorem q1138 : (Jvm.Cond.methodLink "RecipeOfScalesLaw" (104 : Nat) ({ cls := "RecipeOfScalesModel", name := "massOf", desc := "(I)I" } : Jvm.MethodName)) ∈ lw_all := lw_g (lw_at lw_m5 128 rfl) rfl
theorem q1142 : (Jvm.Cond.methodLink "RecipeOfScalesLaw" (107 : Nat) ({ cls := "RecipeOfScalesModel", name := "canWeigh", desc := "(I)Z" } : Jvm.MethodName)) ∈ lw_all := lw_g (lw_at lw_m5 132 rfl) rfl
theorem q1161 : (Jvm.Cond.methodLink "RecipeOfScalesLaw" (110 : Nat) ({ cls := "RecipeOfScalesModel", name := "canWeighOnOnePan", desc := "(I)Z" } : Jvm.MethodName)) ∈ lw_all := lw_g (lw_at lw_m5 151 rfl) rfl
theorem q1169 : (Jvm.Cond.methodLink "RecipeOfScalesLaw" (113 : Nat) ({ cls := "RecipeOfScalesModel", name := "ways", desc := "(I)I" } : Jvm.MethodName)) ∈ lw_all := lw_g (lw_at lw_m5 159 rfl) rfl
theorem q1173 : (Jvm.Cond.methodLink "RecipeOfScalesLaw" (116 : Nat) ({ cls := "RecipeOfScalesModel", name := "waysByPlacings", desc := "(I)I" } : Jvm.MethodName)) ∈ lw_all := lw_g (lw_at lw_m5 163 rfl) rfl
theorem q1177 : (Jvm.Cond.methodLink "RecipeOfScalesLaw" (119 : Nat) ({ cls := "RecipeOfScalesModel", name := "fewest", desc := "(I)I" } : Jvm.MethodName)) ∈ lw_all := lw_g (lw_at lw_m5 167 rfl) rfl
theorem q1189 : (Jvm.Cond.methodLink "RecipeOfScalesLaw" (122 : Nat) ({ cls := "RecipeOfScalesModel", name := "placed", desc := "(II)I" } : Jvm.MethodName)) ∈ lw_all := lw_g (lw_at lw_m5 179 rfl) rfl
theorem q1193 : (Jvm.Cond.methodLink "RecipeOfScalesLaw" (125 : Nat) ({ cls := "RecipeOfScalesModel", name := "leastError", desc := "(I)I" } : Jvm.MethodName)) ∈ lw_all := lw_g (lw_at lw_m5 183 rfl) rfl
theorem q1201 : (Jvm.Cond.methodLink "RecipeOfScalesLaw" (129 : Nat) ({ cls := "RecipeOfScalesModel", name := "gap", desc := "()I" } : Jvm.MethodName)) ∈ lw_all := lw_g (lw_at lw_m5 191 rfl) rfl
theorem q1220 : (Jvm.Cond.methodLink "RecipeOfScalesLaw" (133 : Nat) ({ cls := "RecipeOfScalesModel", name := "masses", desc := "()I" } : Jvm.MethodName)) ∈ lw_all := lw_g (lw_at lw_m5 210 rfl) rfl
theorem q1224 : (Jvm.Cond.methodLink "RecipeOfScalesLaw" (136 : Nat) ({ cls := "RecipeOfScalesModel", name := "needed", desc := "(I)I" } : Jvm.MethodName)) ∈ lw_all := lw_g (lw_at lw_m5 214 rfl) rfl
theorem q1231 : (Jvm.Cond.methodLink "RecipeOfScalesLaw" (140 : Nat) ({ cls := "RecipeOfScalesModel", name := "bestMore", desc := "()I" } : Jvm.MethodName)) ∈ lw_all := lw_g (lw_at lw_m5 221 rfl) rfl
theorem q1235 : (Jvm.Cond.methodLink "RecipeOfScalesLaw" (143 : Nat) ({ cls := "RecipeOfScalesModel", name := "lay", desc := "(I)I" } : Jvm.MethodName)) ∈ lw_all := lw_g (lw_at lw_m5 225 rfl) rfl
theorem q1251 : (Jvm.Cond.methodLink "RecipeOfScalesLaw" (147 : Nat) ({ cls := "RecipeOfScalesModel", name := "weigh", desc := "(III)I" } : Jvm.MethodName)) ∈ lw_all := lw_g (lw_at lw_m6 1 rfl) rfl
theorem q1267 : (Jvm.Cond.methodLink "RecipeOfScalesLaw" (151 : Nat) ({ cls := "RecipeOfScalesModel", name := "coins", desc := "()I" } : Jvm.MethodName)) ∈ lw_all := lw_g (lw_at lw_m6 17 rfl) rfl
theorem q1271 : (Jvm.Cond.methodLink "RecipeOfScalesLaw" (155 : Nat) ({ cls := "RecipeOfScalesModel", name := "possible", desc := "()I" } : Jvm.MethodName)) ∈ lw_all := lw_g (lw_at lw_m6 21 rfl) rfl
theorem q1275 : (Jvm.Cond.methodLink "RecipeOfScalesLaw" (159 : Nat) ({ cls := "RecipeOfScalesModel", name := "mayBe", desc := "(IZ)Z" } : Jvm.MethodName)) ∈ lw_all := lw_g (lw_at lw_m6 25 rfl) rfl
theorem q1279 : (Jvm.Cond.methodLink "RecipeOfScalesLaw" (162 : Nat) ({ cls := "RecipeOfScalesModel", name := "faulty", desc := "()I" } : Jvm.MethodName)) ∈ lw_all := lw_g (lw_at lw_m6 29 rfl) rfl
theorem q1283 : (Jvm.Cond.methodLink "RecipeOfScalesLaw" (166 : Nat) ({ cls := "RecipeOfScalesModel", name := "weighings", desc := "()I" } : Jvm.MethodName)) ∈ lw_all := lw_g (lw_at lw_m6 33 rfl) rfl
theorem q1287 : (Jvm.Cond.methodLink "RecipeOfScalesLaw" (169 : Nat) ({ cls := "RecipeOfScalesModel", name := "isGood", desc := "(II)Z" } : Jvm.MethodName)) ∈ lw_all := lw_g (lw_at lw_m6 37 rfl) rfl
theorem q1295 : (Jvm.Cond.methodLink "RecipeOfScalesLaw" (172 : Nat) ({ cls := "RecipeOfScalesModel", name := "goodLeft", desc := "()I" } : Jvm.MethodName)) ∈ lw_all := lw_g (lw_at lw_m6 45 rfl) rfl
theorem q1303 : (Jvm.Cond.methodLink "RecipeOfScalesLaw" (175 : Nat) ({ cls := "RecipeOfScalesModel", name := "goodRight", desc := "()I" } : Jvm.MethodName)) ∈ lw_all := lw_g (lw_at lw_m6 53 rfl) rfl
/-! RecipeOfScales -/
set_option maxRecDepth 100000
def RX1 : String := "RecipeOfScales"
def TX1 : u_T := fun k => match k with
  | 0 => ("RecipeOfScales", "weights", "Ljava/util/List;", true)
  | 1 => ("RecipeOfScales", "book", "LRecipeOfScales$Book;", true)
  | 2 => ("RecipeOfScales", "part", "LRecipeOfScales$Book;", true)
  | 3 => ("RecipeOfScales", "isWritten", "Z", false)
  | 4 => ("RecipeOfScales", "coins", "I", false)
  | 5 => ("RecipeOfScales", "heavier", "I", false)
  | 6 => ("RecipeOfScales", "lighter", "I", false)
  | _ => ("RecipeOfScales", "needs", "[[[B", true)
def tyX1 : Nat → FieldType := fun k => match k with
  | 0 => .object "java/util/List"
  | 1 => .object "RecipeOfScales$Book"
  | 2 => .object "RecipeOfScales$Book"
  | 3 => .boolean
  | 4 => .int
  | 5 => .int
  | 6 => .int
  | _ => .array (.array (.array .byte))
abbrev wsX10 : List Cond := u_ws RX1 TX1 8
theorem nmX1 : ∀ a, a < 8 → ∀ b, b < 8 → a ≠ b → (TX1 a).2.1 ≠ (TX1 b).2.1 := by decide +kernel
theorem tyX1_ok : ∀ k, k < 8 → parseFieldDescriptor (TX1 k).2.2.1 = some (tyX1 k) := by decide +kernel
abbrev cX1_init : ByteArray := prog_1_method_1_code
def yX1_init : MethodName := ⟨RX1, "<init>", "()V"⟩
def dkwX1_init_2 : List UInt8 := [16, 10, 197, 0, 30, 3, 181, 0, 32, 42, 6, 182, 0, 35, 177]
abbrev dktX1_init_2 : List UInt8 := dkwX1_init_2 ++ []
def dkwX1_init_1 : List UInt8 := [181, 0, 19, 42, 187, 0, 16, 89, 183, 0, 18, 181, 0, 23, 42, 6, 181, 0, 26, 42, 16, 10, 16, 10]
abbrev dktX1_init_1 : List UInt8 := dkwX1_init_1 ++ dktX1_init_2
def dkwX1_init_0 : List UInt8 := [42, 183, 0, 3, 42, 187, 0, 9, 89, 183, 0, 11, 181, 0, 12, 42, 187, 0, 16, 89, 183, 0, 18]
abbrev dktX1_init_0 : List UInt8 := dkwX1_init_0 ++ dktX1_init_1
theorem dksX1_init_0 : cX1_init.data.toList.drop 0 = dktX1_init_0 := by decide +kernel
theorem dksX1_init_1 : cX1_init.data.toList.drop 23 = dktX1_init_1 := dk_seg dksX1_init_0 23 rfl rfl
theorem dksX1_init_2 : cX1_init.data.toList.drop 47 = dktX1_init_2 := dk_seg dksX1_init_1 24 rfl rfl
theorem dX1_init_0 : decode cX1_init 0 = .ok (.aload_n 0, 1) := dk_42 (dk_at dksX1_init_0 0 rfl rfl)
theorem dX1_init_1 : decode cX1_init 1 = .ok (.invokespecial 3, 3) := dk_183 0 3 (dk_at dksX1_init_0 1 rfl rfl)
theorem dX1_init_4 : decode cX1_init 4 = .ok (.aload_n 0, 1) := dk_42 (dk_at dksX1_init_0 4 rfl rfl)
theorem dX1_init_5 : decode cX1_init 5 = .ok (.new 9, 3) := dk_187 0 9 (dk_at dksX1_init_0 5 rfl rfl)
theorem dX1_init_8 : decode cX1_init 8 = .ok (.dup, 1) := dk_89 (dk_at dksX1_init_0 8 rfl rfl)
theorem dX1_init_9 : decode cX1_init 9 = .ok (.invokespecial 11, 3) := dk_183 0 11 (dk_at dksX1_init_0 9 rfl rfl)
theorem dX1_init_12 : decode cX1_init 12 = .ok (.putfield 12, 3) := dk_181 0 12 (dk_at dksX1_init_0 12 rfl rfl)
theorem dX1_init_15 : decode cX1_init 15 = .ok (.aload_n 0, 1) := dk_42 (dk_at dksX1_init_0 15 rfl rfl)
theorem dX1_init_16 : decode cX1_init 16 = .ok (.new 16, 3) := dk_187 0 16 (dk_at dksX1_init_0 16 rfl rfl)
theorem dX1_init_19 : decode cX1_init 19 = .ok (.dup, 1) := dk_89 (dk_at dksX1_init_0 19 rfl rfl)
theorem dX1_init_20 : decode cX1_init 20 = .ok (.invokespecial 18, 3) := dk_183 0 18 (dk_at dksX1_init_0 20 rfl rfl)
theorem dX1_init_23 : decode cX1_init 23 = .ok (.putfield 19, 3) := dk_181 0 19 (dk_at dksX1_init_1 0 rfl rfl)
theorem dX1_init_26 : decode cX1_init 26 = .ok (.aload_n 0, 1) := dk_42 (dk_at dksX1_init_1 3 rfl rfl)
theorem dX1_init_27 : decode cX1_init 27 = .ok (.new 16, 3) := dk_187 0 16 (dk_at dksX1_init_1 4 rfl rfl)
theorem dX1_init_30 : decode cX1_init 30 = .ok (.dup, 1) := dk_89 (dk_at dksX1_init_1 7 rfl rfl)
theorem dX1_init_31 : decode cX1_init 31 = .ok (.invokespecial 18, 3) := dk_183 0 18 (dk_at dksX1_init_1 8 rfl rfl)
theorem dX1_init_34 : decode cX1_init 34 = .ok (.putfield 23, 3) := dk_181 0 23 (dk_at dksX1_init_1 11 rfl rfl)
theorem dX1_init_37 : decode cX1_init 37 = .ok (.aload_n 0, 1) := dk_42 (dk_at dksX1_init_1 14 rfl rfl)
theorem dX1_init_38 : decode cX1_init 38 = .ok (.iconst 3, 1) := dk_6 (dk_at dksX1_init_1 15 rfl rfl)
theorem dX1_init_39 : decode cX1_init 39 = .ok (.putfield 26, 3) := dk_181 0 26 (dk_at dksX1_init_1 16 rfl rfl)
theorem dX1_init_42 : decode cX1_init 42 = .ok (.aload_n 0, 1) := dk_42 (dk_at dksX1_init_1 19 rfl rfl)
theorem dX1_init_43 : decode cX1_init 43 = .ok (.bipush 10, 2) := dk_16 10 (dk_at dksX1_init_1 20 rfl rfl)
theorem dX1_init_45 : decode cX1_init 45 = .ok (.bipush 10, 2) := dk_16 10 (dk_at dksX1_init_1 22 rfl rfl)
theorem dX1_init_47 : decode cX1_init 47 = .ok (.bipush 10, 2) := dk_16 10 (dk_at dksX1_init_2 0 rfl rfl)
theorem dX1_init_49 : decode cX1_init 49 = .ok (.multianewarray 30 3, 4) := by decide +kernel
theorem dX1_init_53 : decode cX1_init 53 = .ok (.putfield 32, 3) := dk_181 0 32 (dk_at dksX1_init_2 6 rfl rfl)
theorem dX1_init_56 : decode cX1_init 56 = .ok (.aload_n 0, 1) := dk_42 (dk_at dksX1_init_2 9 rfl rfl)
theorem dX1_init_57 : decode cX1_init 57 = .ok (.iconst 3, 1) := dk_6 (dk_at dksX1_init_2 10 rfl rfl)
theorem dX1_init_58 : decode cX1_init 58 = .ok (.invokevirtual 35, 3) := dk_182 0 35 (dk_at dksX1_init_2 11 rfl rfl)
theorem dX1_init_61 : decode cX1_init 61 = .ok (.return_, 1) := dk_177 (dk_at dksX1_init_2 14 rfl rfl)
abbrev cX1_lays : ByteArray := prog_1_method_24_code
def yX1_lays : MethodName := ⟨RX1, "lays", "(I)V"⟩
def dkwX1_lays_4 : List UInt8 := [132, 8, 1, 167, 255, 216, 132, 4, 1, 167, 255, 186, 177]
abbrev dktX1_lays_4 : List UInt8 := dkwX1_lays_4 ++ []
def dkwX1_lays_3 : List UInt8 := [3, 54, 10, 21, 10, 25, 9, 190, 162, 0, 15, 25, 9, 21, 10, 3, 84, 132, 10, 1, 167, 255, 239]
abbrev dktX1_lays_3 : List UInt8 := dkwX1_lays_3 ++ dktX1_lays_4
def dkwX1_lays_2 : List UInt8 := [58, 6, 25, 6, 190, 54, 7, 3, 54, 8, 21, 8, 21, 7, 162, 0, 39, 25, 6, 21, 8, 50, 58, 9]
abbrev dktX1_lays_2 : List UInt8 := dkwX1_lays_2 ++ dktX1_lays_3
def dkwX1_lays_1 : List UInt8 := [180, 0, 32, 77, 44, 190, 62, 3, 54, 4, 21, 4, 29, 162, 0, 70, 44, 21, 4, 50, 58, 5, 25, 5]
abbrev dktX1_lays_1 : List UInt8 := dkwX1_lays_1 ++ dktX1_lays_2
def dkwX1_lays_0 : List UInt8 := [42, 27, 181, 0, 26, 42, 4, 27, 120, 4, 100, 181, 0, 173, 42, 42, 180, 0, 173, 181, 0, 176, 42]
abbrev dktX1_lays_0 : List UInt8 := dkwX1_lays_0 ++ dktX1_lays_1
theorem dksX1_lays_0 : cX1_lays.data.toList.drop 0 = dktX1_lays_0 := by decide +kernel
theorem dksX1_lays_1 : cX1_lays.data.toList.drop 23 = dktX1_lays_1 := dk_seg dksX1_lays_0 23 rfl rfl
theorem dksX1_lays_2 : cX1_lays.data.toList.drop 47 = dktX1_lays_2 := dk_seg dksX1_lays_1 24 rfl rfl
theorem dksX1_lays_3 : cX1_lays.data.toList.drop 71 = dktX1_lays_3 := dk_seg dksX1_lays_2 24 rfl rfl
theorem dksX1_lays_4 : cX1_lays.data.toList.drop 94 = dktX1_lays_4 := dk_seg dksX1_lays_3 23 rfl rfl
theorem dX1_lays_0 : decode cX1_lays 0 = .ok (.aload_n 0, 1) := dk_42 (dk_at dksX1_lays_0 0 rfl rfl)
theorem dX1_lays_1 : decode cX1_lays 1 = .ok (.iload_n 1, 1) := dk_27 (dk_at dksX1_lays_0 1 rfl rfl)
theorem dX1_lays_2 : decode cX1_lays 2 = .ok (.putfield 26, 3) := dk_181 0 26 (dk_at dksX1_lays_0 2 rfl rfl)
theorem dX1_lays_5 : decode cX1_lays 5 = .ok (.aload_n 0, 1) := dk_42 (dk_at dksX1_lays_0 5 rfl rfl)
theorem dX1_lays_6 : decode cX1_lays 6 = .ok (.iconst 1, 1) := dk_4 (dk_at dksX1_lays_0 6 rfl rfl)
theorem dX1_lays_7 : decode cX1_lays 7 = .ok (.iload_n 1, 1) := dk_27 (dk_at dksX1_lays_0 7 rfl rfl)
theorem dX1_lays_8 : decode cX1_lays 8 = .ok (.ishl, 1) := dk_120 (dk_at dksX1_lays_0 8 rfl rfl)
theorem dX1_lays_9 : decode cX1_lays 9 = .ok (.iconst 1, 1) := dk_4 (dk_at dksX1_lays_0 9 rfl rfl)
theorem dX1_lays_10 : decode cX1_lays 10 = .ok (.isub, 1) := dk_100 (dk_at dksX1_lays_0 10 rfl rfl)
theorem dX1_lays_11 : decode cX1_lays 11 = .ok (.putfield 173, 3) := dk_181 0 173 (dk_at dksX1_lays_0 11 rfl rfl)
theorem dX1_lays_14 : decode cX1_lays 14 = .ok (.aload_n 0, 1) := dk_42 (dk_at dksX1_lays_0 14 rfl rfl)
theorem dX1_lays_15 : decode cX1_lays 15 = .ok (.aload_n 0, 1) := dk_42 (dk_at dksX1_lays_0 15 rfl rfl)
theorem dX1_lays_16 : decode cX1_lays 16 = .ok (.getfield 173, 3) := dk_180 0 173 (dk_at dksX1_lays_0 16 rfl rfl)
theorem dX1_lays_19 : decode cX1_lays 19 = .ok (.putfield 176, 3) := dk_181 0 176 (dk_at dksX1_lays_0 19 rfl rfl)
theorem dX1_lays_22 : decode cX1_lays 22 = .ok (.aload_n 0, 1) := dk_42 (dk_at dksX1_lays_0 22 rfl rfl)
theorem dX1_lays_23 : decode cX1_lays 23 = .ok (.getfield 32, 3) := dk_180 0 32 (dk_at dksX1_lays_1 0 rfl rfl)
theorem dX1_lays_26 : decode cX1_lays 26 = .ok (.astore_n 2, 1) := dk_77 (dk_at dksX1_lays_1 3 rfl rfl)
theorem dX1_lays_27 : decode cX1_lays 27 = .ok (.aload_n 2, 1) := dk_44 (dk_at dksX1_lays_1 4 rfl rfl)
theorem dX1_lays_28 : decode cX1_lays 28 = .ok (.arraylength, 1) := dk_190 (dk_at dksX1_lays_1 5 rfl rfl)
theorem dX1_lays_29 : decode cX1_lays 29 = .ok (.istore_n 3, 1) := dk_62 (dk_at dksX1_lays_1 6 rfl rfl)
theorem dX1_lays_30 : decode cX1_lays 30 = .ok (.iconst 0, 1) := dk_3 (dk_at dksX1_lays_1 7 rfl rfl)
theorem dX1_lays_31 : decode cX1_lays 31 = .ok (.istore 4, 2) := dk_54 4 (dk_at dksX1_lays_1 8 rfl rfl)
theorem dX1_lays_33 : decode cX1_lays 33 = .ok (.iload 4, 2) := dk_21 4 (dk_at dksX1_lays_1 10 rfl rfl)
theorem dX1_lays_35 : decode cX1_lays 35 = .ok (.iload_n 3, 1) := dk_29 (dk_at dksX1_lays_1 12 rfl rfl)
theorem dX1_lays_36 : decode cX1_lays 36 = .ok (.if_icmp .ge 70, 3) := dk_162 0 70 (dk_at dksX1_lays_1 13 rfl rfl)
theorem dX1_lays_39 : decode cX1_lays 39 = .ok (.aload_n 2, 1) := dk_44 (dk_at dksX1_lays_1 16 rfl rfl)
theorem dX1_lays_40 : decode cX1_lays 40 = .ok (.iload 4, 2) := dk_21 4 (dk_at dksX1_lays_1 17 rfl rfl)
theorem dX1_lays_42 : decode cX1_lays 42 = .ok (.aaload, 1) := dk_50 (dk_at dksX1_lays_1 19 rfl rfl)
theorem dX1_lays_43 : decode cX1_lays 43 = .ok (.astore 5, 2) := dk_58 5 (dk_at dksX1_lays_1 20 rfl rfl)
theorem dX1_lays_45 : decode cX1_lays 45 = .ok (.aload 5, 2) := dk_25 5 (dk_at dksX1_lays_1 22 rfl rfl)
theorem dX1_lays_47 : decode cX1_lays 47 = .ok (.astore 6, 2) := dk_58 6 (dk_at dksX1_lays_2 0 rfl rfl)
theorem dX1_lays_49 : decode cX1_lays 49 = .ok (.aload 6, 2) := dk_25 6 (dk_at dksX1_lays_2 2 rfl rfl)
theorem dX1_lays_51 : decode cX1_lays 51 = .ok (.arraylength, 1) := dk_190 (dk_at dksX1_lays_2 4 rfl rfl)
theorem dX1_lays_52 : decode cX1_lays 52 = .ok (.istore 7, 2) := dk_54 7 (dk_at dksX1_lays_2 5 rfl rfl)
theorem dX1_lays_54 : decode cX1_lays 54 = .ok (.iconst 0, 1) := dk_3 (dk_at dksX1_lays_2 7 rfl rfl)
theorem dX1_lays_55 : decode cX1_lays 55 = .ok (.istore 8, 2) := dk_54 8 (dk_at dksX1_lays_2 8 rfl rfl)
theorem dX1_lays_57 : decode cX1_lays 57 = .ok (.iload 8, 2) := dk_21 8 (dk_at dksX1_lays_2 10 rfl rfl)
theorem dX1_lays_59 : decode cX1_lays 59 = .ok (.iload 7, 2) := dk_21 7 (dk_at dksX1_lays_2 12 rfl rfl)
theorem dX1_lays_61 : decode cX1_lays 61 = .ok (.if_icmp .ge 39, 3) := dk_162 0 39 (dk_at dksX1_lays_2 14 rfl rfl)
theorem dX1_lays_64 : decode cX1_lays 64 = .ok (.aload 6, 2) := dk_25 6 (dk_at dksX1_lays_2 17 rfl rfl)
theorem dX1_lays_66 : decode cX1_lays 66 = .ok (.iload 8, 2) := dk_21 8 (dk_at dksX1_lays_2 19 rfl rfl)
theorem dX1_lays_68 : decode cX1_lays 68 = .ok (.aaload, 1) := dk_50 (dk_at dksX1_lays_2 21 rfl rfl)
theorem dX1_lays_69 : decode cX1_lays 69 = .ok (.astore 9, 2) := dk_58 9 (dk_at dksX1_lays_2 22 rfl rfl)
theorem dX1_lays_71 : decode cX1_lays 71 = .ok (.iconst 0, 1) := dk_3 (dk_at dksX1_lays_3 0 rfl rfl)
theorem dX1_lays_72 : decode cX1_lays 72 = .ok (.istore 10, 2) := dk_54 10 (dk_at dksX1_lays_3 1 rfl rfl)
theorem dX1_lays_74 : decode cX1_lays 74 = .ok (.iload 10, 2) := dk_21 10 (dk_at dksX1_lays_3 3 rfl rfl)
theorem dX1_lays_76 : decode cX1_lays 76 = .ok (.aload 9, 2) := dk_25 9 (dk_at dksX1_lays_3 5 rfl rfl)
theorem dX1_lays_78 : decode cX1_lays 78 = .ok (.arraylength, 1) := dk_190 (dk_at dksX1_lays_3 7 rfl rfl)
theorem dX1_lays_79 : decode cX1_lays 79 = .ok (.if_icmp .ge 15, 3) := dk_162 0 15 (dk_at dksX1_lays_3 8 rfl rfl)
theorem dX1_lays_82 : decode cX1_lays 82 = .ok (.aload 9, 2) := dk_25 9 (dk_at dksX1_lays_3 11 rfl rfl)
theorem dX1_lays_84 : decode cX1_lays 84 = .ok (.iload 10, 2) := dk_21 10 (dk_at dksX1_lays_3 13 rfl rfl)
theorem dX1_lays_86 : decode cX1_lays 86 = .ok (.iconst 0, 1) := dk_3 (dk_at dksX1_lays_3 15 rfl rfl)
theorem dX1_lays_87 : decode cX1_lays 87 = .ok (.bastore, 1) := dk_84 (dk_at dksX1_lays_3 16 rfl rfl)
theorem dX1_lays_88 : decode cX1_lays 88 = .ok (.iinc 10 1, 3) := dk_132 10 1 (dk_at dksX1_lays_3 17 rfl rfl)
theorem dX1_lays_91 : decode cX1_lays 91 = .ok (.goto (-17), 3) := dk_167 255 239 (dk_at dksX1_lays_3 20 rfl rfl)
theorem dX1_lays_94 : decode cX1_lays 94 = .ok (.iinc 8 1, 3) := dk_132 8 1 (dk_at dksX1_lays_4 0 rfl rfl)
theorem dX1_lays_97 : decode cX1_lays 97 = .ok (.goto (-40), 3) := dk_167 255 216 (dk_at dksX1_lays_4 3 rfl rfl)
theorem dX1_lays_100 : decode cX1_lays 100 = .ok (.iinc 4 1, 3) := dk_132 4 1 (dk_at dksX1_lays_4 6 rfl rfl)
theorem dX1_lays_103 : decode cX1_lays 103 = .ok (.goto (-70), 3) := dk_167 255 186 (dk_at dksX1_lays_4 9 rfl rfl)
theorem dX1_lays_106 : decode cX1_lays 106 = .ok (.return_, 1) := dk_177 (dk_at dksX1_lays_4 12 rfl rfl)
abbrev cX1_weights : ByteArray := prog_1_method_8_code
def yX1_weights : MethodName := ⟨RX1, "weights", "()I"⟩
def dkwX1_weights_0 : List UInt8 := [42, 180, 0, 12, 185, 0, 62, 1, 0, 172]
abbrev dktX1_weights_0 : List UInt8 := dkwX1_weights_0 ++ []
theorem dksX1_weights_0 : cX1_weights.data.toList.drop 0 = dktX1_weights_0 := by decide +kernel
theorem dX1_weights_0 : decode cX1_weights 0 = .ok (.aload_n 0, 1) := dk_42 (dk_at dksX1_weights_0 0 rfl rfl)
theorem dX1_weights_1 : decode cX1_weights 1 = .ok (.getfield 12, 3) := dk_180 0 12 (dk_at dksX1_weights_0 1 rfl rfl)
theorem dX1_weights_4 : decode cX1_weights 4 = .ok (.invokeinterface 62 1, 5) := by decide +kernel
theorem dX1_weights_9 : decode cX1_weights 9 = .ok (.ireturn, 1) := dk_172 (dk_at dksX1_weights_0 9 rfl rfl)
abbrev cX1_gap : ByteArray := prog_1_method_19_code
def yX1_gap : MethodName := ⟨RX1, "gap", "()I"⟩
def dkwX1_gap_0 : List UInt8 := [42, 182, 0, 83, 3, 182, 0, 151, 172]
abbrev dktX1_gap_0 : List UInt8 := dkwX1_gap_0 ++ []
theorem dksX1_gap_0 : cX1_gap.data.toList.drop 0 = dktX1_gap_0 := by decide +kernel
theorem dX1_gap_0 : decode cX1_gap 0 = .ok (.aload_n 0, 1) := dk_42 (dk_at dksX1_gap_0 0 rfl rfl)
theorem dX1_gap_1 : decode cX1_gap 1 = .ok (.invokevirtual 83, 3) := dk_182 0 83 (dk_at dksX1_gap_0 1 rfl rfl)
theorem dX1_gap_4 : decode cX1_gap 4 = .ok (.iconst 0, 1) := dk_3 (dk_at dksX1_gap_0 4 rfl rfl)
theorem dX1_gap_5 : decode cX1_gap 5 = .ok (.invokevirtual 151, 3) := dk_182 0 151 (dk_at dksX1_gap_0 5 rfl rfl)
theorem dX1_gap_8 : decode cX1_gap 8 = .ok (.ireturn, 1) := dk_172 (dk_at dksX1_gap_0 8 rfl rfl)
abbrev cX1_written : ByteArray := prog_1_method_5_code
def yX1_written : MethodName := ⟨RX1, "written", "()LRecipeOfScales$Book;"⟩
def dkwX1_written_1 : List UInt8 := [180, 0, 19, 176]
abbrev dktX1_written_1 : List UInt8 := dkwX1_written_1 ++ []
def dkwX1_written_0 : List UInt8 := [42, 180, 0, 87, 154, 0, 19, 42, 180, 0, 19, 42, 180, 0, 12, 182, 0, 91, 42, 4, 181, 0, 87, 42]
abbrev dktX1_written_0 : List UInt8 := dkwX1_written_0 ++ dktX1_written_1
theorem dksX1_written_0 : cX1_written.data.toList.drop 0 = dktX1_written_0 := by decide +kernel
theorem dksX1_written_1 : cX1_written.data.toList.drop 24 = dktX1_written_1 := dk_seg dksX1_written_0 24 rfl rfl
theorem dX1_written_0 : decode cX1_written 0 = .ok (.aload_n 0, 1) := dk_42 (dk_at dksX1_written_0 0 rfl rfl)
theorem dX1_written_1 : decode cX1_written 1 = .ok (.getfield 87, 3) := dk_180 0 87 (dk_at dksX1_written_0 1 rfl rfl)
theorem dX1_written_4 : decode cX1_written 4 = .ok (.ifCond .ne 19, 3) := dk_154 0 19 (dk_at dksX1_written_0 4 rfl rfl)
theorem dX1_written_7 : decode cX1_written 7 = .ok (.aload_n 0, 1) := dk_42 (dk_at dksX1_written_0 7 rfl rfl)
theorem dX1_written_8 : decode cX1_written 8 = .ok (.getfield 19, 3) := dk_180 0 19 (dk_at dksX1_written_0 8 rfl rfl)
theorem dX1_written_11 : decode cX1_written 11 = .ok (.aload_n 0, 1) := dk_42 (dk_at dksX1_written_0 11 rfl rfl)
theorem dX1_written_12 : decode cX1_written 12 = .ok (.getfield 12, 3) := dk_180 0 12 (dk_at dksX1_written_0 12 rfl rfl)
theorem dX1_written_15 : decode cX1_written 15 = .ok (.invokevirtual 91, 3) := dk_182 0 91 (dk_at dksX1_written_0 15 rfl rfl)
theorem dX1_written_18 : decode cX1_written 18 = .ok (.aload_n 0, 1) := dk_42 (dk_at dksX1_written_0 18 rfl rfl)
theorem dX1_written_19 : decode cX1_written 19 = .ok (.iconst 1, 1) := dk_4 (dk_at dksX1_written_0 19 rfl rfl)
theorem dX1_written_20 : decode cX1_written 20 = .ok (.putfield 87, 3) := dk_181 0 87 (dk_at dksX1_written_0 20 rfl rfl)
theorem dX1_written_23 : decode cX1_written 23 = .ok (.aload_n 0, 1) := dk_42 (dk_at dksX1_written_0 23 rfl rfl)
theorem dX1_written_24 : decode cX1_written 24 = .ok (.getfield 19, 3) := dk_180 0 19 (dk_at dksX1_written_1 0 rfl rfl)
theorem dX1_written_27 : decode cX1_written 27 = .ok (.areturn, 1) := dk_176 (dk_at dksX1_written_1 3 rfl rfl)
abbrev cX1_masses : ByteArray := prog_1_method_20_code
def yX1_masses : MethodName := ⟨RX1, "masses", "()I"⟩
def dkwX1_masses_1 : List UInt8 := [153, 0, 7, 4, 167, 0, 4, 3, 96, 61, 132, 3, 1, 167, 255, 230, 28, 172]
abbrev dktX1_masses_1 : List UInt8 := dkwX1_masses_1 ++ []
def dkwX1_masses_0 : List UInt8 := [42, 182, 0, 83, 76, 3, 61, 4, 62, 29, 17, 13, 172, 163, 0, 25, 28, 43, 29, 182, 0, 120]
abbrev dktX1_masses_0 : List UInt8 := dkwX1_masses_0 ++ dktX1_masses_1
theorem dksX1_masses_0 : cX1_masses.data.toList.drop 0 = dktX1_masses_0 := by decide +kernel
theorem dksX1_masses_1 : cX1_masses.data.toList.drop 22 = dktX1_masses_1 := dk_seg dksX1_masses_0 22 rfl rfl
theorem dX1_masses_0 : decode cX1_masses 0 = .ok (.aload_n 0, 1) := dk_42 (dk_at dksX1_masses_0 0 rfl rfl)
theorem dX1_masses_1 : decode cX1_masses 1 = .ok (.invokevirtual 83, 3) := dk_182 0 83 (dk_at dksX1_masses_0 1 rfl rfl)
theorem dX1_masses_4 : decode cX1_masses 4 = .ok (.astore_n 1, 1) := dk_76 (dk_at dksX1_masses_0 4 rfl rfl)
theorem dX1_masses_5 : decode cX1_masses 5 = .ok (.iconst 0, 1) := dk_3 (dk_at dksX1_masses_0 5 rfl rfl)
theorem dX1_masses_6 : decode cX1_masses 6 = .ok (.istore_n 2, 1) := dk_61 (dk_at dksX1_masses_0 6 rfl rfl)
theorem dX1_masses_7 : decode cX1_masses 7 = .ok (.iconst 1, 1) := dk_4 (dk_at dksX1_masses_0 7 rfl rfl)
theorem dX1_masses_8 : decode cX1_masses 8 = .ok (.istore_n 3, 1) := dk_62 (dk_at dksX1_masses_0 8 rfl rfl)
theorem dX1_masses_9 : decode cX1_masses 9 = .ok (.iload_n 3, 1) := dk_29 (dk_at dksX1_masses_0 9 rfl rfl)
theorem dX1_masses_10 : decode cX1_masses 10 = .ok (.sipush 3500, 3) := dk_17 13 172 (dk_at dksX1_masses_0 10 rfl rfl)
theorem dX1_masses_13 : decode cX1_masses 13 = .ok (.if_icmp .gt 25, 3) := dk_163 0 25 (dk_at dksX1_masses_0 13 rfl rfl)
theorem dX1_masses_16 : decode cX1_masses 16 = .ok (.iload_n 2, 1) := dk_28 (dk_at dksX1_masses_0 16 rfl rfl)
theorem dX1_masses_17 : decode cX1_masses 17 = .ok (.aload_n 1, 1) := dk_43 (dk_at dksX1_masses_0 17 rfl rfl)
theorem dX1_masses_18 : decode cX1_masses 18 = .ok (.iload_n 3, 1) := dk_29 (dk_at dksX1_masses_0 18 rfl rfl)
theorem dX1_masses_19 : decode cX1_masses 19 = .ok (.invokevirtual 120, 3) := dk_182 0 120 (dk_at dksX1_masses_0 19 rfl rfl)
theorem dX1_masses_22 : decode cX1_masses 22 = .ok (.ifCond .eq 7, 3) := dk_153 0 7 (dk_at dksX1_masses_1 0 rfl rfl)
theorem dX1_masses_25 : decode cX1_masses 25 = .ok (.iconst 1, 1) := dk_4 (dk_at dksX1_masses_1 3 rfl rfl)
theorem dX1_masses_26 : decode cX1_masses 26 = .ok (.goto 4, 3) := dk_167 0 4 (dk_at dksX1_masses_1 4 rfl rfl)
theorem dX1_masses_29 : decode cX1_masses 29 = .ok (.iconst 0, 1) := dk_3 (dk_at dksX1_masses_1 7 rfl rfl)
theorem dX1_masses_30 : decode cX1_masses 30 = .ok (.iadd, 1) := dk_96 (dk_at dksX1_masses_1 8 rfl rfl)
theorem dX1_masses_31 : decode cX1_masses 31 = .ok (.istore_n 2, 1) := dk_61 (dk_at dksX1_masses_1 9 rfl rfl)
theorem dX1_masses_32 : decode cX1_masses 32 = .ok (.iinc 3 1, 3) := dk_132 3 1 (dk_at dksX1_masses_1 10 rfl rfl)
theorem dX1_masses_35 : decode cX1_masses 35 = .ok (.goto (-26), 3) := dk_167 255 230 (dk_at dksX1_masses_1 13 rfl rfl)
theorem dX1_masses_38 : decode cX1_masses 38 = .ok (.iload_n 2, 1) := dk_28 (dk_at dksX1_masses_1 16 rfl rfl)
theorem dX1_masses_39 : decode cX1_masses 39 = .ok (.ireturn, 1) := dk_172 (dk_at dksX1_masses_1 17 rfl rfl)
abbrev cX1_coins : ByteArray := prog_1_method_33_code
def yX1_coins : MethodName := ⟨RX1, "coins", "()I"⟩
theorem dX1_coins_0 : decode cX1_coins 0 = .ok (.aload_n 0, 1) := by decide +kernel
theorem dX1_coins_1 : decode cX1_coins 1 = .ok (.getfield 26, 3) := by decide +kernel
theorem dX1_coins_4 : decode cX1_coins 4 = .ok (.ireturn, 1) := by decide +kernel
abbrev cX1_possible : ByteArray := prog_1_method_34_code
def yX1_possible : MethodName := ⟨RX1, "possible", "()I"⟩
def dkwX1_possible_0 : List UInt8 := [42, 180, 0, 173, 184, 0, 155, 42, 180, 0, 176, 184, 0, 155, 96, 172]
abbrev dktX1_possible_0 : List UInt8 := dkwX1_possible_0 ++ []
theorem dksX1_possible_0 : cX1_possible.data.toList.drop 0 = dktX1_possible_0 := by decide +kernel
theorem dX1_possible_0 : decode cX1_possible 0 = .ok (.aload_n 0, 1) := dk_42 (dk_at dksX1_possible_0 0 rfl rfl)
theorem dX1_possible_1 : decode cX1_possible 1 = .ok (.getfield 173, 3) := dk_180 0 173 (dk_at dksX1_possible_0 1 rfl rfl)
theorem dX1_possible_4 : decode cX1_possible 4 = .ok (.invokestatic 155, 3) := dk_184 0 155 (dk_at dksX1_possible_0 4 rfl rfl)
theorem dX1_possible_7 : decode cX1_possible 7 = .ok (.aload_n 0, 1) := dk_42 (dk_at dksX1_possible_0 7 rfl rfl)
theorem dX1_possible_8 : decode cX1_possible 8 = .ok (.getfield 176, 3) := dk_180 0 176 (dk_at dksX1_possible_0 8 rfl rfl)
theorem dX1_possible_11 : decode cX1_possible 11 = .ok (.invokestatic 155, 3) := dk_184 0 155 (dk_at dksX1_possible_0 11 rfl rfl)
theorem dX1_possible_14 : decode cX1_possible 14 = .ok (.iadd, 1) := dk_96 (dk_at dksX1_possible_0 14 rfl rfl)
theorem dX1_possible_15 : decode cX1_possible 15 = .ok (.ireturn, 1) := dk_172 (dk_at dksX1_possible_0 15 rfl rfl)
abbrev cX1_weighings : ByteArray := prog_1_method_37_code
def yX1_weighings : MethodName := ⟨RX1, "weighings", "()I"⟩
def dkwX1_weighings_0 : List UInt8 := [42, 42, 180, 0, 173, 42, 180, 0, 176, 182, 0, 193, 172]
abbrev dktX1_weighings_0 : List UInt8 := dkwX1_weighings_0 ++ []
theorem dksX1_weighings_0 : cX1_weighings.data.toList.drop 0 = dktX1_weighings_0 := by decide +kernel
theorem dX1_weighings_0 : decode cX1_weighings 0 = .ok (.aload_n 0, 1) := dk_42 (dk_at dksX1_weighings_0 0 rfl rfl)
theorem dX1_weighings_1 : decode cX1_weighings 1 = .ok (.aload_n 0, 1) := dk_42 (dk_at dksX1_weighings_0 1 rfl rfl)
theorem dX1_weighings_2 : decode cX1_weighings 2 = .ok (.getfield 173, 3) := dk_180 0 173 (dk_at dksX1_weighings_0 2 rfl rfl)
theorem dX1_weighings_5 : decode cX1_weighings 5 = .ok (.aload_n 0, 1) := dk_42 (dk_at dksX1_weighings_0 5 rfl rfl)
theorem dX1_weighings_6 : decode cX1_weighings 6 = .ok (.getfield 176, 3) := dk_180 0 176 (dk_at dksX1_weighings_0 6 rfl rfl)
theorem dX1_weighings_9 : decode cX1_weighings 9 = .ok (.invokevirtual 193, 3) := dk_182 0 193 (dk_at dksX1_weighings_0 9 rfl rfl)
theorem dX1_weighings_12 : decode cX1_weighings 12 = .ok (.ireturn, 1) := dk_172 (dk_at dksX1_weighings_0 12 rfl rfl)
abbrev cX1_needsOf : ByteArray := prog_1_method_25_code
def yX1_needsOf : MethodName := ⟨RX1, "needsOf", "(II)I"⟩
def dkwX1_needsOf_1 : List UInt8 := [172]
abbrev dktX1_needsOf_1 : List UInt8 := dkwX1_needsOf_1 ++ []
def dkwX1_needsOf_0 : List UInt8 := [27, 28, 126, 184, 0, 155, 62, 42, 29, 27, 184, 0, 155, 29, 100, 28, 184, 0, 155, 29, 100, 182, 0, 179]
abbrev dktX1_needsOf_0 : List UInt8 := dkwX1_needsOf_0 ++ dktX1_needsOf_1
theorem dksX1_needsOf_0 : cX1_needsOf.data.toList.drop 0 = dktX1_needsOf_0 := by decide +kernel
theorem dksX1_needsOf_1 : cX1_needsOf.data.toList.drop 24 = dktX1_needsOf_1 := dk_seg dksX1_needsOf_0 24 rfl rfl
theorem dX1_needsOf_0 : decode cX1_needsOf 0 = .ok (.iload_n 1, 1) := dk_27 (dk_at dksX1_needsOf_0 0 rfl rfl)
theorem dX1_needsOf_1 : decode cX1_needsOf 1 = .ok (.iload_n 2, 1) := dk_28 (dk_at dksX1_needsOf_0 1 rfl rfl)
theorem dX1_needsOf_2 : decode cX1_needsOf 2 = .ok (.iand, 1) := dk_126 (dk_at dksX1_needsOf_0 2 rfl rfl)
theorem dX1_needsOf_3 : decode cX1_needsOf 3 = .ok (.invokestatic 155, 3) := dk_184 0 155 (dk_at dksX1_needsOf_0 3 rfl rfl)
theorem dX1_needsOf_6 : decode cX1_needsOf 6 = .ok (.istore_n 3, 1) := dk_62 (dk_at dksX1_needsOf_0 6 rfl rfl)
theorem dX1_needsOf_7 : decode cX1_needsOf 7 = .ok (.aload_n 0, 1) := dk_42 (dk_at dksX1_needsOf_0 7 rfl rfl)
theorem dX1_needsOf_8 : decode cX1_needsOf 8 = .ok (.iload_n 3, 1) := dk_29 (dk_at dksX1_needsOf_0 8 rfl rfl)
theorem dX1_needsOf_9 : decode cX1_needsOf 9 = .ok (.iload_n 1, 1) := dk_27 (dk_at dksX1_needsOf_0 9 rfl rfl)
theorem dX1_needsOf_10 : decode cX1_needsOf 10 = .ok (.invokestatic 155, 3) := dk_184 0 155 (dk_at dksX1_needsOf_0 10 rfl rfl)
theorem dX1_needsOf_13 : decode cX1_needsOf 13 = .ok (.iload_n 3, 1) := dk_29 (dk_at dksX1_needsOf_0 13 rfl rfl)
theorem dX1_needsOf_14 : decode cX1_needsOf 14 = .ok (.isub, 1) := dk_100 (dk_at dksX1_needsOf_0 14 rfl rfl)
theorem dX1_needsOf_15 : decode cX1_needsOf 15 = .ok (.iload_n 2, 1) := dk_28 (dk_at dksX1_needsOf_0 15 rfl rfl)
theorem dX1_needsOf_16 : decode cX1_needsOf 16 = .ok (.invokestatic 155, 3) := dk_184 0 155 (dk_at dksX1_needsOf_0 16 rfl rfl)
theorem dX1_needsOf_19 : decode cX1_needsOf 19 = .ok (.iload_n 3, 1) := dk_29 (dk_at dksX1_needsOf_0 19 rfl rfl)
theorem dX1_needsOf_20 : decode cX1_needsOf 20 = .ok (.isub, 1) := dk_100 (dk_at dksX1_needsOf_0 20 rfl rfl)
theorem dX1_needsOf_21 : decode cX1_needsOf 21 = .ok (.invokevirtual 179, 3) := dk_182 0 179 (dk_at dksX1_needsOf_0 21 rfl rfl)
theorem dX1_needsOf_24 : decode cX1_needsOf 24 = .ok (.ireturn, 1) := dk_172 (dk_at dksX1_needsOf_1 0 rfl rfl)
abbrev cX1_needs : ByteArray := prog_1_method_26_code
def yX1_needs : MethodName := ⟨RX1, "needs", "(III)I"⟩
def dkwX1_needs_7 : List UInt8 := [42, 180, 0, 32, 27, 50, 28, 50, 29, 51, 4, 100, 172]
abbrev dktX1_needs_7 : List UInt8 := dkwX1_needs_7 ++ []
def dkwX1_needs_6 : List UInt8 := [167, 255, 163, 132, 5, 1, 167, 255, 143, 42, 180, 0, 32, 27, 50, 28, 50, 29, 21, 4, 4, 96, 145, 84]
abbrev dktX1_needs_6 : List UInt8 := dkwX1_needs_6 ++ dktX1_needs_7
def dkwX1_needs_5 : List UInt8 := [182, 0, 184, 184, 0, 188, 54, 4, 132, 8, 1, 167, 255, 210, 132, 7, 1, 167, 255, 185, 132, 6, 1]
abbrev dktX1_needs_5 : List UInt8 := dkwX1_needs_5 ++ dktX1_needs_6
def dkwX1_needs_4 : List UInt8 := [96, 21, 5, 163, 0, 33, 21, 4, 42, 27, 28, 29, 21, 5, 21, 6, 21, 7, 21, 8, 21, 4]
abbrev dktX1_needs_4 : List UInt8 := dkwX1_needs_4 ++ dktX1_needs_5
def dkwX1_needs_3 : List UInt8 := [21, 7, 96, 21, 5, 163, 0, 61, 3, 54, 8, 21, 8, 29, 163, 0, 46, 21, 6, 21, 7, 96, 21, 8]
abbrev dktX1_needs_3 : List UInt8 := dkwX1_needs_3 ++ dktX1_needs_4
def dkwX1_needs_2 : List UInt8 := [21, 6, 27, 163, 0, 93, 21, 6, 21, 5, 163, 0, 86, 3, 54, 7, 21, 7, 28, 163, 0, 71, 21, 6]
abbrev dktX1_needs_2 : List UInt8 := dkwX1_needs_2 ++ dktX1_needs_3
def dkwX1_needs_1 : List UInt8 := [154, 0, 141, 16, 126, 54, 4, 4, 54, 5, 21, 5, 42, 180, 0, 26, 5, 108, 163, 0, 108, 3, 54, 6]
abbrev dktX1_needs_1 : List UInt8 := dkwX1_needs_1 ++ dktX1_needs_2
def dkwX1_needs_0 : List UInt8 := [5, 27, 104, 28, 96, 29, 96, 4, 163, 0, 5, 3, 172, 42, 180, 0, 32, 27, 50, 28, 50, 29, 51]
abbrev dktX1_needs_0 : List UInt8 := dkwX1_needs_0 ++ dktX1_needs_1
theorem dksX1_needs_0 : cX1_needs.data.toList.drop 0 = dktX1_needs_0 := by decide +kernel
theorem dksX1_needs_1 : cX1_needs.data.toList.drop 23 = dktX1_needs_1 := dk_seg dksX1_needs_0 23 rfl rfl
theorem dksX1_needs_2 : cX1_needs.data.toList.drop 47 = dktX1_needs_2 := dk_seg dksX1_needs_1 24 rfl rfl
theorem dksX1_needs_3 : cX1_needs.data.toList.drop 71 = dktX1_needs_3 := dk_seg dksX1_needs_2 24 rfl rfl
theorem dksX1_needs_4 : cX1_needs.data.toList.drop 95 = dktX1_needs_4 := dk_seg dksX1_needs_3 24 rfl rfl
theorem dksX1_needs_5 : cX1_needs.data.toList.drop 117 = dktX1_needs_5 := dk_seg dksX1_needs_4 22 rfl rfl
theorem dksX1_needs_6 : cX1_needs.data.toList.drop 140 = dktX1_needs_6 := dk_seg dksX1_needs_5 23 rfl rfl
theorem dksX1_needs_7 : cX1_needs.data.toList.drop 164 = dktX1_needs_7 := dk_seg dksX1_needs_6 24 rfl rfl
theorem dX1_needs_0 : decode cX1_needs 0 = .ok (.iconst 2, 1) := dk_5 (dk_at dksX1_needs_0 0 rfl rfl)
theorem dX1_needs_1 : decode cX1_needs 1 = .ok (.iload_n 1, 1) := dk_27 (dk_at dksX1_needs_0 1 rfl rfl)
theorem dX1_needs_2 : decode cX1_needs 2 = .ok (.imul, 1) := dk_104 (dk_at dksX1_needs_0 2 rfl rfl)
theorem dX1_needs_3 : decode cX1_needs 3 = .ok (.iload_n 2, 1) := dk_28 (dk_at dksX1_needs_0 3 rfl rfl)
theorem dX1_needs_4 : decode cX1_needs 4 = .ok (.iadd, 1) := dk_96 (dk_at dksX1_needs_0 4 rfl rfl)
theorem dX1_needs_5 : decode cX1_needs 5 = .ok (.iload_n 3, 1) := dk_29 (dk_at dksX1_needs_0 5 rfl rfl)
theorem dX1_needs_6 : decode cX1_needs 6 = .ok (.iadd, 1) := dk_96 (dk_at dksX1_needs_0 6 rfl rfl)
theorem dX1_needs_7 : decode cX1_needs 7 = .ok (.iconst 1, 1) := dk_4 (dk_at dksX1_needs_0 7 rfl rfl)
theorem dX1_needs_8 : decode cX1_needs 8 = .ok (.if_icmp .gt 5, 3) := dk_163 0 5 (dk_at dksX1_needs_0 8 rfl rfl)
theorem dX1_needs_11 : decode cX1_needs 11 = .ok (.iconst 0, 1) := dk_3 (dk_at dksX1_needs_0 11 rfl rfl)
theorem dX1_needs_12 : decode cX1_needs 12 = .ok (.ireturn, 1) := dk_172 (dk_at dksX1_needs_0 12 rfl rfl)
theorem dX1_needs_13 : decode cX1_needs 13 = .ok (.aload_n 0, 1) := dk_42 (dk_at dksX1_needs_0 13 rfl rfl)
theorem dX1_needs_14 : decode cX1_needs 14 = .ok (.getfield 32, 3) := dk_180 0 32 (dk_at dksX1_needs_0 14 rfl rfl)
theorem dX1_needs_17 : decode cX1_needs 17 = .ok (.iload_n 1, 1) := dk_27 (dk_at dksX1_needs_0 17 rfl rfl)
theorem dX1_needs_18 : decode cX1_needs 18 = .ok (.aaload, 1) := dk_50 (dk_at dksX1_needs_0 18 rfl rfl)
theorem dX1_needs_19 : decode cX1_needs 19 = .ok (.iload_n 2, 1) := dk_28 (dk_at dksX1_needs_0 19 rfl rfl)
theorem dX1_needs_20 : decode cX1_needs 20 = .ok (.aaload, 1) := dk_50 (dk_at dksX1_needs_0 20 rfl rfl)
theorem dX1_needs_21 : decode cX1_needs 21 = .ok (.iload_n 3, 1) := dk_29 (dk_at dksX1_needs_0 21 rfl rfl)
theorem dX1_needs_22 : decode cX1_needs 22 = .ok (.baload, 1) := dk_51 (dk_at dksX1_needs_0 22 rfl rfl)
theorem dX1_needs_23 : decode cX1_needs 23 = .ok (.ifCond .ne 141, 3) := dk_154 0 141 (dk_at dksX1_needs_1 0 rfl rfl)
theorem dX1_needs_26 : decode cX1_needs 26 = .ok (.bipush 126, 2) := dk_16 126 (dk_at dksX1_needs_1 3 rfl rfl)
theorem dX1_needs_28 : decode cX1_needs 28 = .ok (.istore 4, 2) := dk_54 4 (dk_at dksX1_needs_1 5 rfl rfl)
theorem dX1_needs_30 : decode cX1_needs 30 = .ok (.iconst 1, 1) := dk_4 (dk_at dksX1_needs_1 7 rfl rfl)
theorem dX1_needs_31 : decode cX1_needs 31 = .ok (.istore 5, 2) := dk_54 5 (dk_at dksX1_needs_1 8 rfl rfl)
theorem dX1_needs_33 : decode cX1_needs 33 = .ok (.iload 5, 2) := dk_21 5 (dk_at dksX1_needs_1 10 rfl rfl)
theorem dX1_needs_35 : decode cX1_needs 35 = .ok (.aload_n 0, 1) := dk_42 (dk_at dksX1_needs_1 12 rfl rfl)
theorem dX1_needs_36 : decode cX1_needs 36 = .ok (.getfield 26, 3) := dk_180 0 26 (dk_at dksX1_needs_1 13 rfl rfl)
theorem dX1_needs_39 : decode cX1_needs 39 = .ok (.iconst 2, 1) := dk_5 (dk_at dksX1_needs_1 16 rfl rfl)
theorem dX1_needs_40 : decode cX1_needs 40 = .ok (.idiv, 1) := dk_108 (dk_at dksX1_needs_1 17 rfl rfl)
theorem dX1_needs_41 : decode cX1_needs 41 = .ok (.if_icmp .gt 108, 3) := dk_163 0 108 (dk_at dksX1_needs_1 18 rfl rfl)
theorem dX1_needs_44 : decode cX1_needs 44 = .ok (.iconst 0, 1) := dk_3 (dk_at dksX1_needs_1 21 rfl rfl)
theorem dX1_needs_45 : decode cX1_needs 45 = .ok (.istore 6, 2) := dk_54 6 (dk_at dksX1_needs_1 22 rfl rfl)
theorem dX1_needs_47 : decode cX1_needs 47 = .ok (.iload 6, 2) := dk_21 6 (dk_at dksX1_needs_2 0 rfl rfl)
theorem dX1_needs_49 : decode cX1_needs 49 = .ok (.iload_n 1, 1) := dk_27 (dk_at dksX1_needs_2 2 rfl rfl)
theorem dX1_needs_50 : decode cX1_needs 50 = .ok (.if_icmp .gt 93, 3) := dk_163 0 93 (dk_at dksX1_needs_2 3 rfl rfl)
theorem dX1_needs_53 : decode cX1_needs 53 = .ok (.iload 6, 2) := dk_21 6 (dk_at dksX1_needs_2 6 rfl rfl)
theorem dX1_needs_55 : decode cX1_needs 55 = .ok (.iload 5, 2) := dk_21 5 (dk_at dksX1_needs_2 8 rfl rfl)
theorem dX1_needs_57 : decode cX1_needs 57 = .ok (.if_icmp .gt 86, 3) := dk_163 0 86 (dk_at dksX1_needs_2 10 rfl rfl)
theorem dX1_needs_60 : decode cX1_needs 60 = .ok (.iconst 0, 1) := dk_3 (dk_at dksX1_needs_2 13 rfl rfl)
theorem dX1_needs_61 : decode cX1_needs 61 = .ok (.istore 7, 2) := dk_54 7 (dk_at dksX1_needs_2 14 rfl rfl)
theorem dX1_needs_63 : decode cX1_needs 63 = .ok (.iload 7, 2) := dk_21 7 (dk_at dksX1_needs_2 16 rfl rfl)
theorem dX1_needs_65 : decode cX1_needs 65 = .ok (.iload_n 2, 1) := dk_28 (dk_at dksX1_needs_2 18 rfl rfl)
theorem dX1_needs_66 : decode cX1_needs 66 = .ok (.if_icmp .gt 71, 3) := dk_163 0 71 (dk_at dksX1_needs_2 19 rfl rfl)
theorem dX1_needs_69 : decode cX1_needs 69 = .ok (.iload 6, 2) := dk_21 6 (dk_at dksX1_needs_2 22 rfl rfl)
theorem dX1_needs_71 : decode cX1_needs 71 = .ok (.iload 7, 2) := dk_21 7 (dk_at dksX1_needs_3 0 rfl rfl)
theorem dX1_needs_73 : decode cX1_needs 73 = .ok (.iadd, 1) := dk_96 (dk_at dksX1_needs_3 2 rfl rfl)
theorem dX1_needs_74 : decode cX1_needs 74 = .ok (.iload 5, 2) := dk_21 5 (dk_at dksX1_needs_3 3 rfl rfl)
theorem dX1_needs_76 : decode cX1_needs 76 = .ok (.if_icmp .gt 61, 3) := dk_163 0 61 (dk_at dksX1_needs_3 5 rfl rfl)
theorem dX1_needs_79 : decode cX1_needs 79 = .ok (.iconst 0, 1) := dk_3 (dk_at dksX1_needs_3 8 rfl rfl)
theorem dX1_needs_80 : decode cX1_needs 80 = .ok (.istore 8, 2) := dk_54 8 (dk_at dksX1_needs_3 9 rfl rfl)
theorem dX1_needs_82 : decode cX1_needs 82 = .ok (.iload 8, 2) := dk_21 8 (dk_at dksX1_needs_3 11 rfl rfl)
theorem dX1_needs_84 : decode cX1_needs 84 = .ok (.iload_n 3, 1) := dk_29 (dk_at dksX1_needs_3 13 rfl rfl)
theorem dX1_needs_85 : decode cX1_needs 85 = .ok (.if_icmp .gt 46, 3) := dk_163 0 46 (dk_at dksX1_needs_3 14 rfl rfl)
theorem dX1_needs_88 : decode cX1_needs 88 = .ok (.iload 6, 2) := dk_21 6 (dk_at dksX1_needs_3 17 rfl rfl)
theorem dX1_needs_90 : decode cX1_needs 90 = .ok (.iload 7, 2) := dk_21 7 (dk_at dksX1_needs_3 19 rfl rfl)
theorem dX1_needs_92 : decode cX1_needs 92 = .ok (.iadd, 1) := dk_96 (dk_at dksX1_needs_3 21 rfl rfl)
theorem dX1_needs_93 : decode cX1_needs 93 = .ok (.iload 8, 2) := dk_21 8 (dk_at dksX1_needs_3 22 rfl rfl)
theorem dX1_needs_95 : decode cX1_needs 95 = .ok (.iadd, 1) := dk_96 (dk_at dksX1_needs_4 0 rfl rfl)
theorem dX1_needs_96 : decode cX1_needs 96 = .ok (.iload 5, 2) := dk_21 5 (dk_at dksX1_needs_4 1 rfl rfl)
theorem dX1_needs_98 : decode cX1_needs 98 = .ok (.if_icmp .gt 33, 3) := dk_163 0 33 (dk_at dksX1_needs_4 3 rfl rfl)
theorem dX1_needs_101 : decode cX1_needs 101 = .ok (.iload 4, 2) := dk_21 4 (dk_at dksX1_needs_4 6 rfl rfl)
theorem dX1_needs_103 : decode cX1_needs 103 = .ok (.aload_n 0, 1) := dk_42 (dk_at dksX1_needs_4 8 rfl rfl)
theorem dX1_needs_104 : decode cX1_needs 104 = .ok (.iload_n 1, 1) := dk_27 (dk_at dksX1_needs_4 9 rfl rfl)
theorem dX1_needs_105 : decode cX1_needs 105 = .ok (.iload_n 2, 1) := dk_28 (dk_at dksX1_needs_4 10 rfl rfl)
theorem dX1_needs_106 : decode cX1_needs 106 = .ok (.iload_n 3, 1) := dk_29 (dk_at dksX1_needs_4 11 rfl rfl)
theorem dX1_needs_107 : decode cX1_needs 107 = .ok (.iload 5, 2) := dk_21 5 (dk_at dksX1_needs_4 12 rfl rfl)
theorem dX1_needs_109 : decode cX1_needs 109 = .ok (.iload 6, 2) := dk_21 6 (dk_at dksX1_needs_4 14 rfl rfl)
theorem dX1_needs_111 : decode cX1_needs 111 = .ok (.iload 7, 2) := dk_21 7 (dk_at dksX1_needs_4 16 rfl rfl)
theorem dX1_needs_113 : decode cX1_needs 113 = .ok (.iload 8, 2) := dk_21 8 (dk_at dksX1_needs_4 18 rfl rfl)
theorem dX1_needs_115 : decode cX1_needs 115 = .ok (.iload 4, 2) := dk_21 4 (dk_at dksX1_needs_4 20 rfl rfl)
theorem dX1_needs_117 : decode cX1_needs 117 = .ok (.invokevirtual 184, 3) := dk_182 0 184 (dk_at dksX1_needs_5 0 rfl rfl)
theorem dX1_needs_120 : decode cX1_needs 120 = .ok (.invokestatic 188, 3) := dk_184 0 188 (dk_at dksX1_needs_5 3 rfl rfl)
theorem dX1_needs_123 : decode cX1_needs 123 = .ok (.istore 4, 2) := dk_54 4 (dk_at dksX1_needs_5 6 rfl rfl)
theorem dX1_needs_125 : decode cX1_needs 125 = .ok (.iinc 8 1, 3) := dk_132 8 1 (dk_at dksX1_needs_5 8 rfl rfl)
theorem dX1_needs_128 : decode cX1_needs 128 = .ok (.goto (-46), 3) := dk_167 255 210 (dk_at dksX1_needs_5 11 rfl rfl)
theorem dX1_needs_131 : decode cX1_needs 131 = .ok (.iinc 7 1, 3) := dk_132 7 1 (dk_at dksX1_needs_5 14 rfl rfl)
theorem dX1_needs_134 : decode cX1_needs 134 = .ok (.goto (-71), 3) := dk_167 255 185 (dk_at dksX1_needs_5 17 rfl rfl)
theorem dX1_needs_137 : decode cX1_needs 137 = .ok (.iinc 6 1, 3) := dk_132 6 1 (dk_at dksX1_needs_5 20 rfl rfl)
theorem dX1_needs_140 : decode cX1_needs 140 = .ok (.goto (-93), 3) := dk_167 255 163 (dk_at dksX1_needs_6 0 rfl rfl)
theorem dX1_needs_143 : decode cX1_needs 143 = .ok (.iinc 5 1, 3) := dk_132 5 1 (dk_at dksX1_needs_6 3 rfl rfl)
theorem dX1_needs_146 : decode cX1_needs 146 = .ok (.goto (-113), 3) := dk_167 255 143 (dk_at dksX1_needs_6 6 rfl rfl)
theorem dX1_needs_149 : decode cX1_needs 149 = .ok (.aload_n 0, 1) := dk_42 (dk_at dksX1_needs_6 9 rfl rfl)
theorem dX1_needs_150 : decode cX1_needs 150 = .ok (.getfield 32, 3) := dk_180 0 32 (dk_at dksX1_needs_6 10 rfl rfl)
theorem dX1_needs_153 : decode cX1_needs 153 = .ok (.iload_n 1, 1) := dk_27 (dk_at dksX1_needs_6 13 rfl rfl)
theorem dX1_needs_154 : decode cX1_needs 154 = .ok (.aaload, 1) := dk_50 (dk_at dksX1_needs_6 14 rfl rfl)
theorem dX1_needs_155 : decode cX1_needs 155 = .ok (.iload_n 2, 1) := dk_28 (dk_at dksX1_needs_6 15 rfl rfl)
theorem dX1_needs_156 : decode cX1_needs 156 = .ok (.aaload, 1) := dk_50 (dk_at dksX1_needs_6 16 rfl rfl)
theorem dX1_needs_157 : decode cX1_needs 157 = .ok (.iload_n 3, 1) := dk_29 (dk_at dksX1_needs_6 17 rfl rfl)
theorem dX1_needs_158 : decode cX1_needs 158 = .ok (.iload 4, 2) := dk_21 4 (dk_at dksX1_needs_6 18 rfl rfl)
theorem dX1_needs_160 : decode cX1_needs 160 = .ok (.iconst 1, 1) := dk_4 (dk_at dksX1_needs_6 20 rfl rfl)
theorem dX1_needs_161 : decode cX1_needs 161 = .ok (.iadd, 1) := dk_96 (dk_at dksX1_needs_6 21 rfl rfl)
theorem dX1_needs_162 : decode cX1_needs 162 = .ok (.i2b, 1) := dk_145 (dk_at dksX1_needs_6 22 rfl rfl)
theorem dX1_needs_163 : decode cX1_needs 163 = .ok (.bastore, 1) := dk_84 (dk_at dksX1_needs_6 23 rfl rfl)
theorem dX1_needs_164 : decode cX1_needs 164 = .ok (.aload_n 0, 1) := dk_42 (dk_at dksX1_needs_7 0 rfl rfl)
theorem dX1_needs_165 : decode cX1_needs 165 = .ok (.getfield 32, 3) := dk_180 0 32 (dk_at dksX1_needs_7 1 rfl rfl)
theorem dX1_needs_168 : decode cX1_needs 168 = .ok (.iload_n 1, 1) := dk_27 (dk_at dksX1_needs_7 4 rfl rfl)
theorem dX1_needs_169 : decode cX1_needs 169 = .ok (.aaload, 1) := dk_50 (dk_at dksX1_needs_7 5 rfl rfl)
theorem dX1_needs_170 : decode cX1_needs 170 = .ok (.iload_n 2, 1) := dk_28 (dk_at dksX1_needs_7 6 rfl rfl)
theorem dX1_needs_171 : decode cX1_needs 171 = .ok (.aaload, 1) := dk_50 (dk_at dksX1_needs_7 7 rfl rfl)
theorem dX1_needs_172 : decode cX1_needs 172 = .ok (.iload_n 3, 1) := dk_29 (dk_at dksX1_needs_7 8 rfl rfl)
theorem dX1_needs_173 : decode cX1_needs 173 = .ok (.baload, 1) := dk_51 (dk_at dksX1_needs_7 9 rfl rfl)
theorem dX1_needs_174 : decode cX1_needs 174 = .ok (.iconst 1, 1) := dk_4 (dk_at dksX1_needs_7 10 rfl rfl)
theorem dX1_needs_175 : decode cX1_needs 175 = .ok (.isub, 1) := dk_100 (dk_at dksX1_needs_7 11 rfl rfl)
theorem dX1_needs_176 : decode cX1_needs 176 = .ok (.ireturn, 1) := dk_172 (dk_at dksX1_needs_7 12 rfl rfl)
abbrev cX1_rest : ByteArray := prog_1_method_27_code
def yX1_rest : MethodName := ⟨RX1, "rest", "(IIIIIIII)I"⟩
def dkwX1_rest_12 : List UInt8 := [21, 9, 172]
abbrev dktX1_rest_12 : List UInt8 := dkwX1_rest_12 ++ []
def dkwX1_rest_11 : List UInt8 := [184, 0, 188, 54, 9, 132, 13, 1, 167, 255, 67, 132, 12, 1, 167, 255, 39, 132, 11, 1, 167, 255, 9]
abbrev dktX1_rest_11 : List UInt8 := dkwX1_rest_11 ++ dktX1_rest_12
def dkwX1_rest_10 : List UInt8 := [100, 29, 21, 7, 100, 21, 13, 100, 182, 0, 179, 184, 0, 168, 54, 18, 21, 9, 21, 18, 4, 96]
abbrev dktX1_rest_10 : List UInt8 := dkwX1_rest_10 ++ dktX1_rest_11
def dkwX1_rest_9 : List UInt8 := [182, 0, 179, 184, 0, 168, 54, 18, 21, 18, 42, 27, 21, 5, 100, 21, 11, 100, 28, 21, 6, 100, 21, 12]
abbrev dktX1_rest_9 : List UInt8 := dkwX1_rest_9 ++ dktX1_rest_10
def dkwX1_rest_8 : List UInt8 := [21, 11, 21, 13, 96, 182, 0, 179, 54, 18, 21, 18, 42, 3, 21, 11, 21, 12, 96, 21, 5, 21, 7, 96]
abbrev dktX1_rest_8 : List UInt8 := dkwX1_rest_8 ++ dktX1_rest_9
def dkwX1_rest_7 : List UInt8 := [162, 0, 99, 21, 16, 21, 14, 162, 0, 92, 21, 17, 21, 14, 162, 0, 85, 42, 3, 21, 5, 21, 6, 96]
abbrev dktX1_rest_7 : List UInt8 := dkwX1_rest_7 ++ dktX1_rest_8
def dkwX1_rest_6 : List UInt8 := [21, 11, 96, 21, 12, 96, 54, 16, 21, 14, 21, 15, 100, 21, 16, 100, 54, 17, 21, 15, 21, 14]
abbrev dktX1_rest_6 : List UInt8 := dkwX1_rest_6 ++ dktX1_rest_7
def dkwX1_rest_5 : List UInt8 := [28, 96, 29, 96, 54, 14, 21, 5, 21, 6, 96, 21, 11, 96, 21, 13, 96, 54, 15, 21, 5, 21, 7, 96]
abbrev dktX1_rest_5 : List UInt8 := dkwX1_rest_5 ++ dktX1_rest_6
def dkwX1_rest_4 : List UInt8 := [21, 4, 163, 0, 173, 21, 4, 21, 11, 100, 21, 12, 100, 21, 13, 100, 21, 10, 163, 0, 151, 5, 27, 104]
abbrev dktX1_rest_4 : List UInt8 := dkwX1_rest_4 ++ dktX1_rest_5
def dkwX1_rest_3 : List UInt8 := [163, 0, 204, 3, 54, 13, 21, 13, 29, 21, 7, 100, 163, 0, 186, 21, 11, 21, 12, 96, 21, 13, 96]
abbrev dktX1_rest_3 : List UInt8 := dkwX1_rest_3 ++ dktX1_rest_4
def dkwX1_rest_2 : List UInt8 := [21, 10, 155, 0, 232, 3, 54, 12, 21, 12, 28, 21, 6, 100, 163, 0, 214, 21, 11, 21, 12, 96, 21, 4]
abbrev dktX1_rest_2 : List UInt8 := dkwX1_rest_2 ++ dktX1_rest_3
def dkwX1_rest_1 : List UInt8 := [100, 100, 54, 10, 3, 54, 11, 21, 11, 27, 21, 5, 100, 163, 0, 244, 21, 11, 21, 4, 163, 0, 237]
abbrev dktX1_rest_1 : List UInt8 := dkwX1_rest_1 ++ dktX1_rest_2
def dkwX1_rest_0 : List UInt8 := [21, 8, 54, 9, 42, 180, 0, 26, 27, 100, 28, 100, 29, 100, 21, 4, 21, 5, 100, 21, 6, 100, 21, 7]
abbrev dktX1_rest_0 : List UInt8 := dkwX1_rest_0 ++ dktX1_rest_1
theorem dksX1_rest_0 : cX1_rest.data.toList.drop 0 = dktX1_rest_0 := by decide +kernel
theorem dksX1_rest_1 : cX1_rest.data.toList.drop 24 = dktX1_rest_1 := dk_seg dksX1_rest_0 24 rfl rfl
theorem dksX1_rest_2 : cX1_rest.data.toList.drop 47 = dktX1_rest_2 := dk_seg dksX1_rest_1 23 rfl rfl
theorem dksX1_rest_3 : cX1_rest.data.toList.drop 71 = dktX1_rest_3 := dk_seg dksX1_rest_2 24 rfl rfl
theorem dksX1_rest_4 : cX1_rest.data.toList.drop 94 = dktX1_rest_4 := dk_seg dksX1_rest_3 23 rfl rfl
theorem dksX1_rest_5 : cX1_rest.data.toList.drop 118 = dktX1_rest_5 := dk_seg dksX1_rest_4 24 rfl rfl
theorem dksX1_rest_6 : cX1_rest.data.toList.drop 142 = dktX1_rest_6 := dk_seg dksX1_rest_5 24 rfl rfl
theorem dksX1_rest_7 : cX1_rest.data.toList.drop 164 = dktX1_rest_7 := dk_seg dksX1_rest_6 22 rfl rfl
theorem dksX1_rest_8 : cX1_rest.data.toList.drop 188 = dktX1_rest_8 := dk_seg dksX1_rest_7 24 rfl rfl
theorem dksX1_rest_9 : cX1_rest.data.toList.drop 212 = dktX1_rest_9 := dk_seg dksX1_rest_8 24 rfl rfl
theorem dksX1_rest_10 : cX1_rest.data.toList.drop 236 = dktX1_rest_10 := dk_seg dksX1_rest_9 24 rfl rfl
theorem dksX1_rest_11 : cX1_rest.data.toList.drop 258 = dktX1_rest_11 := dk_seg dksX1_rest_10 22 rfl rfl
theorem dksX1_rest_12 : cX1_rest.data.toList.drop 281 = dktX1_rest_12 := dk_seg dksX1_rest_11 23 rfl rfl
theorem dX1_rest_0 : decode cX1_rest 0 = .ok (.iload 8, 2) := dk_21 8 (dk_at dksX1_rest_0 0 rfl rfl)
theorem dX1_rest_2 : decode cX1_rest 2 = .ok (.istore 9, 2) := dk_54 9 (dk_at dksX1_rest_0 2 rfl rfl)
theorem dX1_rest_4 : decode cX1_rest 4 = .ok (.aload_n 0, 1) := dk_42 (dk_at dksX1_rest_0 4 rfl rfl)
theorem dX1_rest_5 : decode cX1_rest 5 = .ok (.getfield 26, 3) := dk_180 0 26 (dk_at dksX1_rest_0 5 rfl rfl)
theorem dX1_rest_8 : decode cX1_rest 8 = .ok (.iload_n 1, 1) := dk_27 (dk_at dksX1_rest_0 8 rfl rfl)
theorem dX1_rest_9 : decode cX1_rest 9 = .ok (.isub, 1) := dk_100 (dk_at dksX1_rest_0 9 rfl rfl)
theorem dX1_rest_10 : decode cX1_rest 10 = .ok (.iload_n 2, 1) := dk_28 (dk_at dksX1_rest_0 10 rfl rfl)
theorem dX1_rest_11 : decode cX1_rest 11 = .ok (.isub, 1) := dk_100 (dk_at dksX1_rest_0 11 rfl rfl)
theorem dX1_rest_12 : decode cX1_rest 12 = .ok (.iload_n 3, 1) := dk_29 (dk_at dksX1_rest_0 12 rfl rfl)
theorem dX1_rest_13 : decode cX1_rest 13 = .ok (.isub, 1) := dk_100 (dk_at dksX1_rest_0 13 rfl rfl)
theorem dX1_rest_14 : decode cX1_rest 14 = .ok (.iload 4, 2) := dk_21 4 (dk_at dksX1_rest_0 14 rfl rfl)
theorem dX1_rest_16 : decode cX1_rest 16 = .ok (.iload 5, 2) := dk_21 5 (dk_at dksX1_rest_0 16 rfl rfl)
theorem dX1_rest_18 : decode cX1_rest 18 = .ok (.isub, 1) := dk_100 (dk_at dksX1_rest_0 18 rfl rfl)
theorem dX1_rest_19 : decode cX1_rest 19 = .ok (.iload 6, 2) := dk_21 6 (dk_at dksX1_rest_0 19 rfl rfl)
theorem dX1_rest_21 : decode cX1_rest 21 = .ok (.isub, 1) := dk_100 (dk_at dksX1_rest_0 21 rfl rfl)
theorem dX1_rest_22 : decode cX1_rest 22 = .ok (.iload 7, 2) := dk_21 7 (dk_at dksX1_rest_0 22 rfl rfl)
theorem dX1_rest_24 : decode cX1_rest 24 = .ok (.isub, 1) := dk_100 (dk_at dksX1_rest_1 0 rfl rfl)
theorem dX1_rest_25 : decode cX1_rest 25 = .ok (.isub, 1) := dk_100 (dk_at dksX1_rest_1 1 rfl rfl)
theorem dX1_rest_26 : decode cX1_rest 26 = .ok (.istore 10, 2) := dk_54 10 (dk_at dksX1_rest_1 2 rfl rfl)
theorem dX1_rest_28 : decode cX1_rest 28 = .ok (.iconst 0, 1) := dk_3 (dk_at dksX1_rest_1 4 rfl rfl)
theorem dX1_rest_29 : decode cX1_rest 29 = .ok (.istore 11, 2) := dk_54 11 (dk_at dksX1_rest_1 5 rfl rfl)
theorem dX1_rest_31 : decode cX1_rest 31 = .ok (.iload 11, 2) := dk_21 11 (dk_at dksX1_rest_1 7 rfl rfl)
theorem dX1_rest_33 : decode cX1_rest 33 = .ok (.iload_n 1, 1) := dk_27 (dk_at dksX1_rest_1 9 rfl rfl)
theorem dX1_rest_34 : decode cX1_rest 34 = .ok (.iload 5, 2) := dk_21 5 (dk_at dksX1_rest_1 10 rfl rfl)
theorem dX1_rest_36 : decode cX1_rest 36 = .ok (.isub, 1) := dk_100 (dk_at dksX1_rest_1 12 rfl rfl)
theorem dX1_rest_37 : decode cX1_rest 37 = .ok (.if_icmp .gt 244, 3) := dk_163 0 244 (dk_at dksX1_rest_1 13 rfl rfl)
theorem dX1_rest_40 : decode cX1_rest 40 = .ok (.iload 11, 2) := dk_21 11 (dk_at dksX1_rest_1 16 rfl rfl)
theorem dX1_rest_42 : decode cX1_rest 42 = .ok (.iload 4, 2) := dk_21 4 (dk_at dksX1_rest_1 18 rfl rfl)
theorem dX1_rest_44 : decode cX1_rest 44 = .ok (.if_icmp .gt 237, 3) := dk_163 0 237 (dk_at dksX1_rest_1 20 rfl rfl)
theorem dX1_rest_47 : decode cX1_rest 47 = .ok (.iload 10, 2) := dk_21 10 (dk_at dksX1_rest_2 0 rfl rfl)
theorem dX1_rest_49 : decode cX1_rest 49 = .ok (.ifCond .lt 232, 3) := dk_155 0 232 (dk_at dksX1_rest_2 2 rfl rfl)
theorem dX1_rest_52 : decode cX1_rest 52 = .ok (.iconst 0, 1) := dk_3 (dk_at dksX1_rest_2 5 rfl rfl)
theorem dX1_rest_53 : decode cX1_rest 53 = .ok (.istore 12, 2) := dk_54 12 (dk_at dksX1_rest_2 6 rfl rfl)
theorem dX1_rest_55 : decode cX1_rest 55 = .ok (.iload 12, 2) := dk_21 12 (dk_at dksX1_rest_2 8 rfl rfl)
theorem dX1_rest_57 : decode cX1_rest 57 = .ok (.iload_n 2, 1) := dk_28 (dk_at dksX1_rest_2 10 rfl rfl)
theorem dX1_rest_58 : decode cX1_rest 58 = .ok (.iload 6, 2) := dk_21 6 (dk_at dksX1_rest_2 11 rfl rfl)
theorem dX1_rest_60 : decode cX1_rest 60 = .ok (.isub, 1) := dk_100 (dk_at dksX1_rest_2 13 rfl rfl)
theorem dX1_rest_61 : decode cX1_rest 61 = .ok (.if_icmp .gt 214, 3) := dk_163 0 214 (dk_at dksX1_rest_2 14 rfl rfl)
theorem dX1_rest_64 : decode cX1_rest 64 = .ok (.iload 11, 2) := dk_21 11 (dk_at dksX1_rest_2 17 rfl rfl)
theorem dX1_rest_66 : decode cX1_rest 66 = .ok (.iload 12, 2) := dk_21 12 (dk_at dksX1_rest_2 19 rfl rfl)
theorem dX1_rest_68 : decode cX1_rest 68 = .ok (.iadd, 1) := dk_96 (dk_at dksX1_rest_2 21 rfl rfl)
theorem dX1_rest_69 : decode cX1_rest 69 = .ok (.iload 4, 2) := dk_21 4 (dk_at dksX1_rest_2 22 rfl rfl)
theorem dX1_rest_71 : decode cX1_rest 71 = .ok (.if_icmp .gt 204, 3) := dk_163 0 204 (dk_at dksX1_rest_3 0 rfl rfl)
theorem dX1_rest_74 : decode cX1_rest 74 = .ok (.iconst 0, 1) := dk_3 (dk_at dksX1_rest_3 3 rfl rfl)
theorem dX1_rest_75 : decode cX1_rest 75 = .ok (.istore 13, 2) := dk_54 13 (dk_at dksX1_rest_3 4 rfl rfl)
theorem dX1_rest_77 : decode cX1_rest 77 = .ok (.iload 13, 2) := dk_21 13 (dk_at dksX1_rest_3 6 rfl rfl)
theorem dX1_rest_79 : decode cX1_rest 79 = .ok (.iload_n 3, 1) := dk_29 (dk_at dksX1_rest_3 8 rfl rfl)
theorem dX1_rest_80 : decode cX1_rest 80 = .ok (.iload 7, 2) := dk_21 7 (dk_at dksX1_rest_3 9 rfl rfl)
theorem dX1_rest_82 : decode cX1_rest 82 = .ok (.isub, 1) := dk_100 (dk_at dksX1_rest_3 11 rfl rfl)
theorem dX1_rest_83 : decode cX1_rest 83 = .ok (.if_icmp .gt 186, 3) := dk_163 0 186 (dk_at dksX1_rest_3 12 rfl rfl)
theorem dX1_rest_86 : decode cX1_rest 86 = .ok (.iload 11, 2) := dk_21 11 (dk_at dksX1_rest_3 15 rfl rfl)
theorem dX1_rest_88 : decode cX1_rest 88 = .ok (.iload 12, 2) := dk_21 12 (dk_at dksX1_rest_3 17 rfl rfl)
theorem dX1_rest_90 : decode cX1_rest 90 = .ok (.iadd, 1) := dk_96 (dk_at dksX1_rest_3 19 rfl rfl)
theorem dX1_rest_91 : decode cX1_rest 91 = .ok (.iload 13, 2) := dk_21 13 (dk_at dksX1_rest_3 20 rfl rfl)
theorem dX1_rest_93 : decode cX1_rest 93 = .ok (.iadd, 1) := dk_96 (dk_at dksX1_rest_3 22 rfl rfl)
theorem dX1_rest_94 : decode cX1_rest 94 = .ok (.iload 4, 2) := dk_21 4 (dk_at dksX1_rest_4 0 rfl rfl)
theorem dX1_rest_96 : decode cX1_rest 96 = .ok (.if_icmp .gt 173, 3) := dk_163 0 173 (dk_at dksX1_rest_4 2 rfl rfl)
theorem dX1_rest_99 : decode cX1_rest 99 = .ok (.iload 4, 2) := dk_21 4 (dk_at dksX1_rest_4 5 rfl rfl)
theorem dX1_rest_101 : decode cX1_rest 101 = .ok (.iload 11, 2) := dk_21 11 (dk_at dksX1_rest_4 7 rfl rfl)
theorem dX1_rest_103 : decode cX1_rest 103 = .ok (.isub, 1) := dk_100 (dk_at dksX1_rest_4 9 rfl rfl)
theorem dX1_rest_104 : decode cX1_rest 104 = .ok (.iload 12, 2) := dk_21 12 (dk_at dksX1_rest_4 10 rfl rfl)
theorem dX1_rest_106 : decode cX1_rest 106 = .ok (.isub, 1) := dk_100 (dk_at dksX1_rest_4 12 rfl rfl)
theorem dX1_rest_107 : decode cX1_rest 107 = .ok (.iload 13, 2) := dk_21 13 (dk_at dksX1_rest_4 13 rfl rfl)
theorem dX1_rest_109 : decode cX1_rest 109 = .ok (.isub, 1) := dk_100 (dk_at dksX1_rest_4 15 rfl rfl)
theorem dX1_rest_110 : decode cX1_rest 110 = .ok (.iload 10, 2) := dk_21 10 (dk_at dksX1_rest_4 16 rfl rfl)
theorem dX1_rest_112 : decode cX1_rest 112 = .ok (.if_icmp .gt 151, 3) := dk_163 0 151 (dk_at dksX1_rest_4 18 rfl rfl)
theorem dX1_rest_115 : decode cX1_rest 115 = .ok (.iconst 2, 1) := dk_5 (dk_at dksX1_rest_4 21 rfl rfl)
theorem dX1_rest_116 : decode cX1_rest 116 = .ok (.iload_n 1, 1) := dk_27 (dk_at dksX1_rest_4 22 rfl rfl)
theorem dX1_rest_117 : decode cX1_rest 117 = .ok (.imul, 1) := dk_104 (dk_at dksX1_rest_4 23 rfl rfl)
theorem dX1_rest_118 : decode cX1_rest 118 = .ok (.iload_n 2, 1) := dk_28 (dk_at dksX1_rest_5 0 rfl rfl)
theorem dX1_rest_119 : decode cX1_rest 119 = .ok (.iadd, 1) := dk_96 (dk_at dksX1_rest_5 1 rfl rfl)
theorem dX1_rest_120 : decode cX1_rest 120 = .ok (.iload_n 3, 1) := dk_29 (dk_at dksX1_rest_5 2 rfl rfl)
theorem dX1_rest_121 : decode cX1_rest 121 = .ok (.iadd, 1) := dk_96 (dk_at dksX1_rest_5 3 rfl rfl)
theorem dX1_rest_122 : decode cX1_rest 122 = .ok (.istore 14, 2) := dk_54 14 (dk_at dksX1_rest_5 4 rfl rfl)
theorem dX1_rest_124 : decode cX1_rest 124 = .ok (.iload 5, 2) := dk_21 5 (dk_at dksX1_rest_5 6 rfl rfl)
theorem dX1_rest_126 : decode cX1_rest 126 = .ok (.iload 6, 2) := dk_21 6 (dk_at dksX1_rest_5 8 rfl rfl)
theorem dX1_rest_128 : decode cX1_rest 128 = .ok (.iadd, 1) := dk_96 (dk_at dksX1_rest_5 10 rfl rfl)
theorem dX1_rest_129 : decode cX1_rest 129 = .ok (.iload 11, 2) := dk_21 11 (dk_at dksX1_rest_5 11 rfl rfl)
theorem dX1_rest_131 : decode cX1_rest 131 = .ok (.iadd, 1) := dk_96 (dk_at dksX1_rest_5 13 rfl rfl)
theorem dX1_rest_132 : decode cX1_rest 132 = .ok (.iload 13, 2) := dk_21 13 (dk_at dksX1_rest_5 14 rfl rfl)
theorem dX1_rest_134 : decode cX1_rest 134 = .ok (.iadd, 1) := dk_96 (dk_at dksX1_rest_5 16 rfl rfl)
theorem dX1_rest_135 : decode cX1_rest 135 = .ok (.istore 15, 2) := dk_54 15 (dk_at dksX1_rest_5 17 rfl rfl)
theorem dX1_rest_137 : decode cX1_rest 137 = .ok (.iload 5, 2) := dk_21 5 (dk_at dksX1_rest_5 19 rfl rfl)
theorem dX1_rest_139 : decode cX1_rest 139 = .ok (.iload 7, 2) := dk_21 7 (dk_at dksX1_rest_5 21 rfl rfl)
theorem dX1_rest_141 : decode cX1_rest 141 = .ok (.iadd, 1) := dk_96 (dk_at dksX1_rest_5 23 rfl rfl)
theorem dX1_rest_142 : decode cX1_rest 142 = .ok (.iload 11, 2) := dk_21 11 (dk_at dksX1_rest_6 0 rfl rfl)
theorem dX1_rest_144 : decode cX1_rest 144 = .ok (.iadd, 1) := dk_96 (dk_at dksX1_rest_6 2 rfl rfl)
theorem dX1_rest_145 : decode cX1_rest 145 = .ok (.iload 12, 2) := dk_21 12 (dk_at dksX1_rest_6 3 rfl rfl)
theorem dX1_rest_147 : decode cX1_rest 147 = .ok (.iadd, 1) := dk_96 (dk_at dksX1_rest_6 5 rfl rfl)
theorem dX1_rest_148 : decode cX1_rest 148 = .ok (.istore 16, 2) := dk_54 16 (dk_at dksX1_rest_6 6 rfl rfl)
theorem dX1_rest_150 : decode cX1_rest 150 = .ok (.iload 14, 2) := dk_21 14 (dk_at dksX1_rest_6 8 rfl rfl)
theorem dX1_rest_152 : decode cX1_rest 152 = .ok (.iload 15, 2) := dk_21 15 (dk_at dksX1_rest_6 10 rfl rfl)
theorem dX1_rest_154 : decode cX1_rest 154 = .ok (.isub, 1) := dk_100 (dk_at dksX1_rest_6 12 rfl rfl)
theorem dX1_rest_155 : decode cX1_rest 155 = .ok (.iload 16, 2) := dk_21 16 (dk_at dksX1_rest_6 13 rfl rfl)
theorem dX1_rest_157 : decode cX1_rest 157 = .ok (.isub, 1) := dk_100 (dk_at dksX1_rest_6 15 rfl rfl)
theorem dX1_rest_158 : decode cX1_rest 158 = .ok (.istore 17, 2) := dk_54 17 (dk_at dksX1_rest_6 16 rfl rfl)
theorem dX1_rest_160 : decode cX1_rest 160 = .ok (.iload 15, 2) := dk_21 15 (dk_at dksX1_rest_6 18 rfl rfl)
theorem dX1_rest_162 : decode cX1_rest 162 = .ok (.iload 14, 2) := dk_21 14 (dk_at dksX1_rest_6 20 rfl rfl)
theorem dX1_rest_164 : decode cX1_rest 164 = .ok (.if_icmp .ge 99, 3) := dk_162 0 99 (dk_at dksX1_rest_7 0 rfl rfl)
theorem dX1_rest_167 : decode cX1_rest 167 = .ok (.iload 16, 2) := dk_21 16 (dk_at dksX1_rest_7 3 rfl rfl)
theorem dX1_rest_169 : decode cX1_rest 169 = .ok (.iload 14, 2) := dk_21 14 (dk_at dksX1_rest_7 5 rfl rfl)
theorem dX1_rest_171 : decode cX1_rest 171 = .ok (.if_icmp .ge 92, 3) := dk_162 0 92 (dk_at dksX1_rest_7 7 rfl rfl)
theorem dX1_rest_174 : decode cX1_rest 174 = .ok (.iload 17, 2) := dk_21 17 (dk_at dksX1_rest_7 10 rfl rfl)
theorem dX1_rest_176 : decode cX1_rest 176 = .ok (.iload 14, 2) := dk_21 14 (dk_at dksX1_rest_7 12 rfl rfl)
theorem dX1_rest_178 : decode cX1_rest 178 = .ok (.if_icmp .ge 85, 3) := dk_162 0 85 (dk_at dksX1_rest_7 14 rfl rfl)
theorem dX1_rest_181 : decode cX1_rest 181 = .ok (.aload_n 0, 1) := dk_42 (dk_at dksX1_rest_7 17 rfl rfl)
theorem dX1_rest_182 : decode cX1_rest 182 = .ok (.iconst 0, 1) := dk_3 (dk_at dksX1_rest_7 18 rfl rfl)
theorem dX1_rest_183 : decode cX1_rest 183 = .ok (.iload 5, 2) := dk_21 5 (dk_at dksX1_rest_7 19 rfl rfl)
theorem dX1_rest_185 : decode cX1_rest 185 = .ok (.iload 6, 2) := dk_21 6 (dk_at dksX1_rest_7 21 rfl rfl)
theorem dX1_rest_187 : decode cX1_rest 187 = .ok (.iadd, 1) := dk_96 (dk_at dksX1_rest_7 23 rfl rfl)
theorem dX1_rest_188 : decode cX1_rest 188 = .ok (.iload 11, 2) := dk_21 11 (dk_at dksX1_rest_8 0 rfl rfl)
theorem dX1_rest_190 : decode cX1_rest 190 = .ok (.iload 13, 2) := dk_21 13 (dk_at dksX1_rest_8 2 rfl rfl)
theorem dX1_rest_192 : decode cX1_rest 192 = .ok (.iadd, 1) := dk_96 (dk_at dksX1_rest_8 4 rfl rfl)
theorem dX1_rest_193 : decode cX1_rest 193 = .ok (.invokevirtual 179, 3) := dk_182 0 179 (dk_at dksX1_rest_8 5 rfl rfl)
theorem dX1_rest_196 : decode cX1_rest 196 = .ok (.istore 18, 2) := dk_54 18 (dk_at dksX1_rest_8 8 rfl rfl)
theorem dX1_rest_198 : decode cX1_rest 198 = .ok (.iload 18, 2) := dk_21 18 (dk_at dksX1_rest_8 10 rfl rfl)
theorem dX1_rest_200 : decode cX1_rest 200 = .ok (.aload_n 0, 1) := dk_42 (dk_at dksX1_rest_8 12 rfl rfl)
theorem dX1_rest_201 : decode cX1_rest 201 = .ok (.iconst 0, 1) := dk_3 (dk_at dksX1_rest_8 13 rfl rfl)
theorem dX1_rest_202 : decode cX1_rest 202 = .ok (.iload 11, 2) := dk_21 11 (dk_at dksX1_rest_8 14 rfl rfl)
theorem dX1_rest_204 : decode cX1_rest 204 = .ok (.iload 12, 2) := dk_21 12 (dk_at dksX1_rest_8 16 rfl rfl)
theorem dX1_rest_206 : decode cX1_rest 206 = .ok (.iadd, 1) := dk_96 (dk_at dksX1_rest_8 18 rfl rfl)
theorem dX1_rest_207 : decode cX1_rest 207 = .ok (.iload 5, 2) := dk_21 5 (dk_at dksX1_rest_8 19 rfl rfl)
theorem dX1_rest_209 : decode cX1_rest 209 = .ok (.iload 7, 2) := dk_21 7 (dk_at dksX1_rest_8 21 rfl rfl)
theorem dX1_rest_211 : decode cX1_rest 211 = .ok (.iadd, 1) := dk_96 (dk_at dksX1_rest_8 23 rfl rfl)
theorem dX1_rest_212 : decode cX1_rest 212 = .ok (.invokevirtual 179, 3) := dk_182 0 179 (dk_at dksX1_rest_9 0 rfl rfl)
theorem dX1_rest_215 : decode cX1_rest 215 = .ok (.invokestatic 168, 3) := dk_184 0 168 (dk_at dksX1_rest_9 3 rfl rfl)
theorem dX1_rest_218 : decode cX1_rest 218 = .ok (.istore 18, 2) := dk_54 18 (dk_at dksX1_rest_9 6 rfl rfl)
theorem dX1_rest_220 : decode cX1_rest 220 = .ok (.iload 18, 2) := dk_21 18 (dk_at dksX1_rest_9 8 rfl rfl)
theorem dX1_rest_222 : decode cX1_rest 222 = .ok (.aload_n 0, 1) := dk_42 (dk_at dksX1_rest_9 10 rfl rfl)
theorem dX1_rest_223 : decode cX1_rest 223 = .ok (.iload_n 1, 1) := dk_27 (dk_at dksX1_rest_9 11 rfl rfl)
theorem dX1_rest_224 : decode cX1_rest 224 = .ok (.iload 5, 2) := dk_21 5 (dk_at dksX1_rest_9 12 rfl rfl)
theorem dX1_rest_226 : decode cX1_rest 226 = .ok (.isub, 1) := dk_100 (dk_at dksX1_rest_9 14 rfl rfl)
theorem dX1_rest_227 : decode cX1_rest 227 = .ok (.iload 11, 2) := dk_21 11 (dk_at dksX1_rest_9 15 rfl rfl)
theorem dX1_rest_229 : decode cX1_rest 229 = .ok (.isub, 1) := dk_100 (dk_at dksX1_rest_9 17 rfl rfl)
theorem dX1_rest_230 : decode cX1_rest 230 = .ok (.iload_n 2, 1) := dk_28 (dk_at dksX1_rest_9 18 rfl rfl)
theorem dX1_rest_231 : decode cX1_rest 231 = .ok (.iload 6, 2) := dk_21 6 (dk_at dksX1_rest_9 19 rfl rfl)
theorem dX1_rest_233 : decode cX1_rest 233 = .ok (.isub, 1) := dk_100 (dk_at dksX1_rest_9 21 rfl rfl)
theorem dX1_rest_234 : decode cX1_rest 234 = .ok (.iload 12, 2) := dk_21 12 (dk_at dksX1_rest_9 22 rfl rfl)
theorem dX1_rest_236 : decode cX1_rest 236 = .ok (.isub, 1) := dk_100 (dk_at dksX1_rest_10 0 rfl rfl)
theorem dX1_rest_237 : decode cX1_rest 237 = .ok (.iload_n 3, 1) := dk_29 (dk_at dksX1_rest_10 1 rfl rfl)
theorem dX1_rest_238 : decode cX1_rest 238 = .ok (.iload 7, 2) := dk_21 7 (dk_at dksX1_rest_10 2 rfl rfl)
theorem dX1_rest_240 : decode cX1_rest 240 = .ok (.isub, 1) := dk_100 (dk_at dksX1_rest_10 4 rfl rfl)
theorem dX1_rest_241 : decode cX1_rest 241 = .ok (.iload 13, 2) := dk_21 13 (dk_at dksX1_rest_10 5 rfl rfl)
theorem dX1_rest_243 : decode cX1_rest 243 = .ok (.isub, 1) := dk_100 (dk_at dksX1_rest_10 7 rfl rfl)
theorem dX1_rest_244 : decode cX1_rest 244 = .ok (.invokevirtual 179, 3) := dk_182 0 179 (dk_at dksX1_rest_10 8 rfl rfl)
theorem dX1_rest_247 : decode cX1_rest 247 = .ok (.invokestatic 168, 3) := dk_184 0 168 (dk_at dksX1_rest_10 11 rfl rfl)
theorem dX1_rest_250 : decode cX1_rest 250 = .ok (.istore 18, 2) := dk_54 18 (dk_at dksX1_rest_10 14 rfl rfl)
theorem dX1_rest_252 : decode cX1_rest 252 = .ok (.iload 9, 2) := dk_21 9 (dk_at dksX1_rest_10 16 rfl rfl)
theorem dX1_rest_254 : decode cX1_rest 254 = .ok (.iload 18, 2) := dk_21 18 (dk_at dksX1_rest_10 18 rfl rfl)
theorem dX1_rest_256 : decode cX1_rest 256 = .ok (.iconst 1, 1) := dk_4 (dk_at dksX1_rest_10 20 rfl rfl)
theorem dX1_rest_257 : decode cX1_rest 257 = .ok (.iadd, 1) := dk_96 (dk_at dksX1_rest_10 21 rfl rfl)
theorem dX1_rest_258 : decode cX1_rest 258 = .ok (.invokestatic 188, 3) := dk_184 0 188 (dk_at dksX1_rest_11 0 rfl rfl)
theorem dX1_rest_261 : decode cX1_rest 261 = .ok (.istore 9, 2) := dk_54 9 (dk_at dksX1_rest_11 3 rfl rfl)
theorem dX1_rest_263 : decode cX1_rest 263 = .ok (.iinc 13 1, 3) := dk_132 13 1 (dk_at dksX1_rest_11 5 rfl rfl)
theorem dX1_rest_266 : decode cX1_rest 266 = .ok (.goto (-189), 3) := dk_167 255 67 (dk_at dksX1_rest_11 8 rfl rfl)
theorem dX1_rest_269 : decode cX1_rest 269 = .ok (.iinc 12 1, 3) := dk_132 12 1 (dk_at dksX1_rest_11 11 rfl rfl)
theorem dX1_rest_272 : decode cX1_rest 272 = .ok (.goto (-217), 3) := dk_167 255 39 (dk_at dksX1_rest_11 14 rfl rfl)
theorem dX1_rest_275 : decode cX1_rest 275 = .ok (.iinc 11 1, 3) := dk_132 11 1 (dk_at dksX1_rest_11 17 rfl rfl)
theorem dX1_rest_278 : decode cX1_rest 278 = .ok (.goto (-247), 3) := dk_167 255 9 (dk_at dksX1_rest_11 20 rfl rfl)
theorem dX1_rest_281 : decode cX1_rest 281 = .ok (.iload 9, 2) := dk_21 9 (dk_at dksX1_rest_12 0 rfl rfl)
theorem dX1_rest_283 : decode cX1_rest 283 = .ok (.ireturn, 1) := dk_172 (dk_at dksX1_rest_12 2 rfl rfl)
abbrev cX1_tell : ByteArray := prog_1_method_6_code
def yX1_tell : MethodName := ⟨RX1, "tell", "(II)I"⟩
def dkwX1_tell_3 : List UInt8 := [4, 100, 172]
abbrev dktX1_tell_3 : List UInt8 := dkwX1_tell_3 ++ []
def dkwX1_tell_2 : List UInt8 := [28, 183, 0, 100, 185, 0, 103, 2, 0, 87, 42, 3, 181, 0, 87, 42, 180, 0, 12, 185, 0, 62, 1, 0]
abbrev dktX1_tell_2 : List UInt8 := dkwX1_tell_2 ++ dktX1_tell_3
def dkwX1_tell_1 : List UInt8 := [16, 7, 160, 0, 13, 187, 0, 95, 89, 18, 97, 183, 0, 99, 191, 42, 180, 0, 12, 187, 0, 77, 89, 27]
abbrev dktX1_tell_1 : List UInt8 := dkwX1_tell_1 ++ dktX1_tell_2
def dkwX1_tell_0 : List UInt8 := [27, 4, 17, 1, 244, 184, 0, 79, 28, 3, 16, 9, 184, 0, 79, 42, 180, 0, 12, 185, 0, 62, 1, 0]
abbrev dktX1_tell_0 : List UInt8 := dkwX1_tell_0 ++ dktX1_tell_1
theorem dksX1_tell_0 : cX1_tell.data.toList.drop 0 = dktX1_tell_0 := by decide +kernel
theorem dksX1_tell_1 : cX1_tell.data.toList.drop 24 = dktX1_tell_1 := dk_seg dksX1_tell_0 24 rfl rfl
theorem dksX1_tell_2 : cX1_tell.data.toList.drop 48 = dktX1_tell_2 := dk_seg dksX1_tell_1 24 rfl rfl
theorem dksX1_tell_3 : cX1_tell.data.toList.drop 72 = dktX1_tell_3 := dk_seg dksX1_tell_2 24 rfl rfl
theorem dX1_tell_0 : decode cX1_tell 0 = .ok (.iload_n 1, 1) := dk_27 (dk_at dksX1_tell_0 0 rfl rfl)
theorem dX1_tell_1 : decode cX1_tell 1 = .ok (.iconst 1, 1) := dk_4 (dk_at dksX1_tell_0 1 rfl rfl)
theorem dX1_tell_2 : decode cX1_tell 2 = .ok (.sipush 500, 3) := dk_17 1 244 (dk_at dksX1_tell_0 2 rfl rfl)
theorem dX1_tell_5 : decode cX1_tell 5 = .ok (.invokestatic 79, 3) := dk_184 0 79 (dk_at dksX1_tell_0 5 rfl rfl)
theorem dX1_tell_8 : decode cX1_tell 8 = .ok (.iload_n 2, 1) := dk_28 (dk_at dksX1_tell_0 8 rfl rfl)
theorem dX1_tell_9 : decode cX1_tell 9 = .ok (.iconst 0, 1) := dk_3 (dk_at dksX1_tell_0 9 rfl rfl)
theorem dX1_tell_10 : decode cX1_tell 10 = .ok (.bipush 9, 2) := dk_16 9 (dk_at dksX1_tell_0 10 rfl rfl)
theorem dX1_tell_12 : decode cX1_tell 12 = .ok (.invokestatic 79, 3) := dk_184 0 79 (dk_at dksX1_tell_0 12 rfl rfl)
theorem dX1_tell_15 : decode cX1_tell 15 = .ok (.aload_n 0, 1) := dk_42 (dk_at dksX1_tell_0 15 rfl rfl)
theorem dX1_tell_16 : decode cX1_tell 16 = .ok (.getfield 12, 3) := dk_180 0 12 (dk_at dksX1_tell_0 16 rfl rfl)
theorem dX1_tell_19 : decode cX1_tell 19 = .ok (.invokeinterface 62 1, 5) := by decide +kernel
theorem dX1_tell_24 : decode cX1_tell 24 = .ok (.bipush 7, 2) := dk_16 7 (dk_at dksX1_tell_1 0 rfl rfl)
theorem dX1_tell_26 : decode cX1_tell 26 = .ok (.if_icmp .ne 13, 3) := dk_160 0 13 (dk_at dksX1_tell_1 2 rfl rfl)
theorem dX1_tell_29 : decode cX1_tell 29 = .ok (.new 95, 3) := dk_187 0 95 (dk_at dksX1_tell_1 5 rfl rfl)
theorem dX1_tell_32 : decode cX1_tell 32 = .ok (.dup, 1) := dk_89 (dk_at dksX1_tell_1 8 rfl rfl)
theorem dX1_tell_33 : decode cX1_tell 33 = .ok (.ldc 97, 2) := dk_18 97 (dk_at dksX1_tell_1 9 rfl rfl)
theorem dX1_tell_35 : decode cX1_tell 35 = .ok (.invokespecial 99, 3) := dk_183 0 99 (dk_at dksX1_tell_1 11 rfl rfl)
theorem dX1_tell_38 : decode cX1_tell 38 = .ok (.athrow, 1) := dk_191 (dk_at dksX1_tell_1 14 rfl rfl)
theorem dX1_tell_39 : decode cX1_tell 39 = .ok (.aload_n 0, 1) := dk_42 (dk_at dksX1_tell_1 15 rfl rfl)
theorem dX1_tell_40 : decode cX1_tell 40 = .ok (.getfield 12, 3) := dk_180 0 12 (dk_at dksX1_tell_1 16 rfl rfl)
theorem dX1_tell_43 : decode cX1_tell 43 = .ok (.new 77, 3) := dk_187 0 77 (dk_at dksX1_tell_1 19 rfl rfl)
theorem dX1_tell_46 : decode cX1_tell 46 = .ok (.dup, 1) := dk_89 (dk_at dksX1_tell_1 22 rfl rfl)
theorem dX1_tell_47 : decode cX1_tell 47 = .ok (.iload_n 1, 1) := dk_27 (dk_at dksX1_tell_1 23 rfl rfl)
theorem dX1_tell_48 : decode cX1_tell 48 = .ok (.iload_n 2, 1) := dk_28 (dk_at dksX1_tell_2 0 rfl rfl)
theorem dX1_tell_49 : decode cX1_tell 49 = .ok (.invokespecial 100, 3) := dk_183 0 100 (dk_at dksX1_tell_2 1 rfl rfl)
theorem dX1_tell_52 : decode cX1_tell 52 = .ok (.invokeinterface 103 2, 5) := by decide +kernel
theorem dX1_tell_57 : decode cX1_tell 57 = .ok (.pop, 1) := dk_87 (dk_at dksX1_tell_2 9 rfl rfl)
theorem dX1_tell_58 : decode cX1_tell 58 = .ok (.aload_n 0, 1) := dk_42 (dk_at dksX1_tell_2 10 rfl rfl)
theorem dX1_tell_59 : decode cX1_tell 59 = .ok (.iconst 0, 1) := dk_3 (dk_at dksX1_tell_2 11 rfl rfl)
theorem dX1_tell_60 : decode cX1_tell 60 = .ok (.putfield 87, 3) := dk_181 0 87 (dk_at dksX1_tell_2 12 rfl rfl)
theorem dX1_tell_63 : decode cX1_tell 63 = .ok (.aload_n 0, 1) := dk_42 (dk_at dksX1_tell_2 15 rfl rfl)
theorem dX1_tell_64 : decode cX1_tell 64 = .ok (.getfield 12, 3) := dk_180 0 12 (dk_at dksX1_tell_2 16 rfl rfl)
theorem dX1_tell_67 : decode cX1_tell 67 = .ok (.invokeinterface 62 1, 5) := by decide +kernel
theorem dX1_tell_72 : decode cX1_tell 72 = .ok (.iconst 1, 1) := dk_4 (dk_at dksX1_tell_3 0 rfl rfl)
theorem dX1_tell_73 : decode cX1_tell 73 = .ok (.isub, 1) := dk_100 (dk_at dksX1_tell_3 1 rfl rfl)
theorem dX1_tell_74 : decode cX1_tell 74 = .ok (.ireturn, 1) := dk_172 (dk_at dksX1_tell_3 2 rfl rfl)
abbrev cX1_isWithin : ByteArray := prog_1_method_2_code
def yX1_isWithin : MethodName := ⟨RX1, "isWithin", "(III)V"⟩
def dkwX1_isWithin_2 : List UInt8 := [183, 0, 59, 191, 177]
abbrev dktX1_isWithin_2 : List UInt8 := dkwX1_isWithin_2 ++ []
def dkwX1_isWithin_1 : List UInt8 := [182, 0, 44, 18, 48, 182, 0, 50, 27, 182, 0, 44, 18, 53, 182, 0, 50, 28, 182, 0, 44, 182, 0, 55]
abbrev dktX1_isWithin_1 : List UInt8 := dkwX1_isWithin_1 ++ dktX1_isWithin_2
def dkwX1_isWithin_0 : List UInt8 := [26, 27, 161, 0, 8, 26, 28, 164, 0, 43, 187, 0, 39, 89, 187, 0, 41, 89, 183, 0, 43, 26]
abbrev dktX1_isWithin_0 : List UInt8 := dkwX1_isWithin_0 ++ dktX1_isWithin_1
theorem dksX1_isWithin_0 : cX1_isWithin.data.toList.drop 0 = dktX1_isWithin_0 := by decide +kernel
theorem dksX1_isWithin_1 : cX1_isWithin.data.toList.drop 22 = dktX1_isWithin_1 := dk_seg dksX1_isWithin_0 22 rfl rfl
theorem dksX1_isWithin_2 : cX1_isWithin.data.toList.drop 46 = dktX1_isWithin_2 := dk_seg dksX1_isWithin_1 24 rfl rfl
theorem dX1_isWithin_0 : decode cX1_isWithin 0 = .ok (.iload_n 0, 1) := dk_26 (dk_at dksX1_isWithin_0 0 rfl rfl)
theorem dX1_isWithin_1 : decode cX1_isWithin 1 = .ok (.iload_n 1, 1) := dk_27 (dk_at dksX1_isWithin_0 1 rfl rfl)
theorem dX1_isWithin_2 : decode cX1_isWithin 2 = .ok (.if_icmp .lt 8, 3) := dk_161 0 8 (dk_at dksX1_isWithin_0 2 rfl rfl)
theorem dX1_isWithin_5 : decode cX1_isWithin 5 = .ok (.iload_n 0, 1) := dk_26 (dk_at dksX1_isWithin_0 5 rfl rfl)
theorem dX1_isWithin_6 : decode cX1_isWithin 6 = .ok (.iload_n 2, 1) := dk_28 (dk_at dksX1_isWithin_0 6 rfl rfl)
theorem dX1_isWithin_7 : decode cX1_isWithin 7 = .ok (.if_icmp .le 43, 3) := dk_164 0 43 (dk_at dksX1_isWithin_0 7 rfl rfl)
theorem dX1_isWithin_10 : decode cX1_isWithin 10 = .ok (.new 39, 3) := dk_187 0 39 (dk_at dksX1_isWithin_0 10 rfl rfl)
theorem dX1_isWithin_13 : decode cX1_isWithin 13 = .ok (.dup, 1) := dk_89 (dk_at dksX1_isWithin_0 13 rfl rfl)
theorem dX1_isWithin_14 : decode cX1_isWithin 14 = .ok (.new 41, 3) := dk_187 0 41 (dk_at dksX1_isWithin_0 14 rfl rfl)
theorem dX1_isWithin_17 : decode cX1_isWithin 17 = .ok (.dup, 1) := dk_89 (dk_at dksX1_isWithin_0 17 rfl rfl)
theorem dX1_isWithin_18 : decode cX1_isWithin 18 = .ok (.invokespecial 43, 3) := dk_183 0 43 (dk_at dksX1_isWithin_0 18 rfl rfl)
theorem dX1_isWithin_21 : decode cX1_isWithin 21 = .ok (.iload_n 0, 1) := dk_26 (dk_at dksX1_isWithin_0 21 rfl rfl)
theorem dX1_isWithin_22 : decode cX1_isWithin 22 = .ok (.invokevirtual 44, 3) := dk_182 0 44 (dk_at dksX1_isWithin_1 0 rfl rfl)
theorem dX1_isWithin_25 : decode cX1_isWithin 25 = .ok (.ldc 48, 2) := dk_18 48 (dk_at dksX1_isWithin_1 3 rfl rfl)
theorem dX1_isWithin_27 : decode cX1_isWithin 27 = .ok (.invokevirtual 50, 3) := dk_182 0 50 (dk_at dksX1_isWithin_1 5 rfl rfl)
theorem dX1_isWithin_30 : decode cX1_isWithin 30 = .ok (.iload_n 1, 1) := dk_27 (dk_at dksX1_isWithin_1 8 rfl rfl)
theorem dX1_isWithin_31 : decode cX1_isWithin 31 = .ok (.invokevirtual 44, 3) := dk_182 0 44 (dk_at dksX1_isWithin_1 9 rfl rfl)
theorem dX1_isWithin_34 : decode cX1_isWithin 34 = .ok (.ldc 53, 2) := dk_18 53 (dk_at dksX1_isWithin_1 12 rfl rfl)
theorem dX1_isWithin_36 : decode cX1_isWithin 36 = .ok (.invokevirtual 50, 3) := dk_182 0 50 (dk_at dksX1_isWithin_1 14 rfl rfl)
theorem dX1_isWithin_39 : decode cX1_isWithin 39 = .ok (.iload_n 2, 1) := dk_28 (dk_at dksX1_isWithin_1 17 rfl rfl)
theorem dX1_isWithin_40 : decode cX1_isWithin 40 = .ok (.invokevirtual 44, 3) := dk_182 0 44 (dk_at dksX1_isWithin_1 18 rfl rfl)
theorem dX1_isWithin_43 : decode cX1_isWithin 43 = .ok (.invokevirtual 55, 3) := dk_182 0 55 (dk_at dksX1_isWithin_1 21 rfl rfl)
theorem dX1_isWithin_46 : decode cX1_isWithin 46 = .ok (.invokespecial 59, 3) := dk_183 0 59 (dk_at dksX1_isWithin_2 0 rfl rfl)
theorem dX1_isWithin_49 : decode cX1_isWithin 49 = .ok (.athrow, 1) := dk_191 (dk_at dksX1_isWithin_2 3 rfl rfl)
theorem dX1_isWithin_50 : decode cX1_isWithin 50 = .ok (.return_, 1) := dk_177 (dk_at dksX1_isWithin_2 4 rfl rfl)
abbrev cX1_takeAway : ByteArray := prog_1_method_7_code
def yX1_takeAway : MethodName := ⟨RX1, "takeAway", "(I)I"⟩
def dkwX1_takeAway_1 : List UInt8 := [180, 0, 12, 185, 0, 62, 1, 0, 172]
abbrev dktX1_takeAway_1 : List UInt8 := dkwX1_takeAway_1 ++ []
def dkwX1_takeAway_0 : List UInt8 := [42, 27, 182, 0, 107, 87, 42, 180, 0, 12, 27, 185, 0, 111, 2, 0, 87, 42, 3, 181, 0, 87, 42]
abbrev dktX1_takeAway_0 : List UInt8 := dkwX1_takeAway_0 ++ dktX1_takeAway_1
theorem dksX1_takeAway_0 : cX1_takeAway.data.toList.drop 0 = dktX1_takeAway_0 := by decide +kernel
theorem dksX1_takeAway_1 : cX1_takeAway.data.toList.drop 23 = dktX1_takeAway_1 := dk_seg dksX1_takeAway_0 23 rfl rfl
theorem dX1_takeAway_0 : decode cX1_takeAway 0 = .ok (.aload_n 0, 1) := dk_42 (dk_at dksX1_takeAway_0 0 rfl rfl)
theorem dX1_takeAway_1 : decode cX1_takeAway 1 = .ok (.iload_n 1, 1) := dk_27 (dk_at dksX1_takeAway_0 1 rfl rfl)
theorem dX1_takeAway_2 : decode cX1_takeAway 2 = .ok (.invokevirtual 107, 3) := dk_182 0 107 (dk_at dksX1_takeAway_0 2 rfl rfl)
theorem dX1_takeAway_5 : decode cX1_takeAway 5 = .ok (.pop, 1) := dk_87 (dk_at dksX1_takeAway_0 5 rfl rfl)
theorem dX1_takeAway_6 : decode cX1_takeAway 6 = .ok (.aload_n 0, 1) := dk_42 (dk_at dksX1_takeAway_0 6 rfl rfl)
theorem dX1_takeAway_7 : decode cX1_takeAway 7 = .ok (.getfield 12, 3) := dk_180 0 12 (dk_at dksX1_takeAway_0 7 rfl rfl)
theorem dX1_takeAway_10 : decode cX1_takeAway 10 = .ok (.iload_n 1, 1) := dk_27 (dk_at dksX1_takeAway_0 10 rfl rfl)
theorem dX1_takeAway_11 : decode cX1_takeAway 11 = .ok (.invokeinterface 111 2, 5) := by decide +kernel
theorem dX1_takeAway_16 : decode cX1_takeAway 16 = .ok (.pop, 1) := dk_87 (dk_at dksX1_takeAway_0 16 rfl rfl)
theorem dX1_takeAway_17 : decode cX1_takeAway 17 = .ok (.aload_n 0, 1) := dk_42 (dk_at dksX1_takeAway_0 17 rfl rfl)
theorem dX1_takeAway_18 : decode cX1_takeAway 18 = .ok (.iconst 0, 1) := dk_3 (dk_at dksX1_takeAway_0 18 rfl rfl)
theorem dX1_takeAway_19 : decode cX1_takeAway 19 = .ok (.putfield 87, 3) := dk_181 0 87 (dk_at dksX1_takeAway_0 19 rfl rfl)
theorem dX1_takeAway_22 : decode cX1_takeAway 22 = .ok (.aload_n 0, 1) := dk_42 (dk_at dksX1_takeAway_0 22 rfl rfl)
theorem dX1_takeAway_23 : decode cX1_takeAway 23 = .ok (.getfield 12, 3) := dk_180 0 12 (dk_at dksX1_takeAway_1 0 rfl rfl)
theorem dX1_takeAway_26 : decode cX1_takeAway 26 = .ok (.invokeinterface 62 1, 5) := by decide +kernel
theorem dX1_takeAway_31 : decode cX1_takeAway 31 = .ok (.ireturn, 1) := dk_172 (dk_at dksX1_takeAway_1 8 rfl rfl)
abbrev cX1_weight : ByteArray := prog_1_method_3_code
def yX1_weight : MethodName := ⟨RX1, "weight", "(I)LRecipeOfScales$Weight;"⟩
def dkwX1_weight_2 : List UInt8 := [27, 185, 0, 73, 2, 0, 192, 0, 77, 176]
abbrev dktX1_weight_2 : List UInt8 := dkwX1_weight_2 ++ []
def dkwX1_weight_1 : List UInt8 := [89, 183, 0, 43, 18, 70, 182, 0, 50, 27, 182, 0, 44, 182, 0, 55, 183, 0, 72, 191, 42, 180, 0, 12]
abbrev dktX1_weight_1 : List UInt8 := dkwX1_weight_1 ++ dktX1_weight_2
def dkwX1_weight_0 : List UInt8 := [27, 155, 0, 16, 27, 42, 180, 0, 12, 185, 0, 62, 1, 0, 161, 0, 30, 187, 0, 68, 89, 187, 0, 41]
abbrev dktX1_weight_0 : List UInt8 := dkwX1_weight_0 ++ dktX1_weight_1
theorem dksX1_weight_0 : cX1_weight.data.toList.drop 0 = dktX1_weight_0 := by decide +kernel
theorem dksX1_weight_1 : cX1_weight.data.toList.drop 24 = dktX1_weight_1 := dk_seg dksX1_weight_0 24 rfl rfl
theorem dksX1_weight_2 : cX1_weight.data.toList.drop 48 = dktX1_weight_2 := dk_seg dksX1_weight_1 24 rfl rfl
theorem dX1_weight_0 : decode cX1_weight 0 = .ok (.iload_n 1, 1) := dk_27 (dk_at dksX1_weight_0 0 rfl rfl)
theorem dX1_weight_1 : decode cX1_weight 1 = .ok (.ifCond .lt 16, 3) := dk_155 0 16 (dk_at dksX1_weight_0 1 rfl rfl)
theorem dX1_weight_4 : decode cX1_weight 4 = .ok (.iload_n 1, 1) := dk_27 (dk_at dksX1_weight_0 4 rfl rfl)
theorem dX1_weight_5 : decode cX1_weight 5 = .ok (.aload_n 0, 1) := dk_42 (dk_at dksX1_weight_0 5 rfl rfl)
theorem dX1_weight_6 : decode cX1_weight 6 = .ok (.getfield 12, 3) := dk_180 0 12 (dk_at dksX1_weight_0 6 rfl rfl)
theorem dX1_weight_9 : decode cX1_weight 9 = .ok (.invokeinterface 62 1, 5) := by decide +kernel
theorem dX1_weight_14 : decode cX1_weight 14 = .ok (.if_icmp .lt 30, 3) := dk_161 0 30 (dk_at dksX1_weight_0 14 rfl rfl)
theorem dX1_weight_17 : decode cX1_weight 17 = .ok (.new 68, 3) := dk_187 0 68 (dk_at dksX1_weight_0 17 rfl rfl)
theorem dX1_weight_20 : decode cX1_weight 20 = .ok (.dup, 1) := dk_89 (dk_at dksX1_weight_0 20 rfl rfl)
theorem dX1_weight_21 : decode cX1_weight 21 = .ok (.new 41, 3) := dk_187 0 41 (dk_at dksX1_weight_0 21 rfl rfl)
theorem dX1_weight_24 : decode cX1_weight 24 = .ok (.dup, 1) := dk_89 (dk_at dksX1_weight_1 0 rfl rfl)
theorem dX1_weight_25 : decode cX1_weight 25 = .ok (.invokespecial 43, 3) := dk_183 0 43 (dk_at dksX1_weight_1 1 rfl rfl)
theorem dX1_weight_28 : decode cX1_weight 28 = .ok (.ldc 70, 2) := dk_18 70 (dk_at dksX1_weight_1 4 rfl rfl)
theorem dX1_weight_30 : decode cX1_weight 30 = .ok (.invokevirtual 50, 3) := dk_182 0 50 (dk_at dksX1_weight_1 6 rfl rfl)
theorem dX1_weight_33 : decode cX1_weight 33 = .ok (.iload_n 1, 1) := dk_27 (dk_at dksX1_weight_1 9 rfl rfl)
theorem dX1_weight_34 : decode cX1_weight 34 = .ok (.invokevirtual 44, 3) := dk_182 0 44 (dk_at dksX1_weight_1 10 rfl rfl)
theorem dX1_weight_37 : decode cX1_weight 37 = .ok (.invokevirtual 55, 3) := dk_182 0 55 (dk_at dksX1_weight_1 13 rfl rfl)
theorem dX1_weight_40 : decode cX1_weight 40 = .ok (.invokespecial 72, 3) := dk_183 0 72 (dk_at dksX1_weight_1 16 rfl rfl)
theorem dX1_weight_43 : decode cX1_weight 43 = .ok (.athrow, 1) := dk_191 (dk_at dksX1_weight_1 19 rfl rfl)
theorem dX1_weight_44 : decode cX1_weight 44 = .ok (.aload_n 0, 1) := dk_42 (dk_at dksX1_weight_1 20 rfl rfl)
theorem dX1_weight_45 : decode cX1_weight 45 = .ok (.getfield 12, 3) := dk_180 0 12 (dk_at dksX1_weight_1 21 rfl rfl)
theorem dX1_weight_48 : decode cX1_weight 48 = .ok (.iload_n 1, 1) := dk_27 (dk_at dksX1_weight_2 0 rfl rfl)
theorem dX1_weight_49 : decode cX1_weight 49 = .ok (.invokeinterface 73 2, 5) := by decide +kernel
theorem dX1_weight_54 : decode cX1_weight 54 = .ok (.checkcast 77, 3) := dk_192 0 77 (dk_at dksX1_weight_2 6 rfl rfl)
theorem dX1_weight_57 : decode cX1_weight 57 = .ok (.areturn, 1) := dk_176 (dk_at dksX1_weight_2 9 rfl rfl)
abbrev cX1_massOf : ByteArray := prog_1_method_9_code
def yX1_massOf : MethodName := ⟨RX1, "massOf", "(I)I"⟩
def dkwX1_massOf_0 : List UInt8 := [42, 27, 182, 0, 107, 182, 0, 114, 172]
abbrev dktX1_massOf_0 : List UInt8 := dkwX1_massOf_0 ++ []
theorem dksX1_massOf_0 : cX1_massOf.data.toList.drop 0 = dktX1_massOf_0 := by decide +kernel
theorem dX1_massOf_0 : decode cX1_massOf 0 = .ok (.aload_n 0, 1) := dk_42 (dk_at dksX1_massOf_0 0 rfl rfl)
theorem dX1_massOf_1 : decode cX1_massOf 1 = .ok (.iload_n 1, 1) := dk_27 (dk_at dksX1_massOf_0 1 rfl rfl)
theorem dX1_massOf_2 : decode cX1_massOf 2 = .ok (.invokevirtual 107, 3) := dk_182 0 107 (dk_at dksX1_massOf_0 2 rfl rfl)
theorem dX1_massOf_5 : decode cX1_massOf 5 = .ok (.invokevirtual 114, 3) := dk_182 0 114 (dk_at dksX1_massOf_0 5 rfl rfl)
theorem dX1_massOf_8 : decode cX1_massOf 8 = .ok (.ireturn, 1) := dk_172 (dk_at dksX1_massOf_0 8 rfl rfl)
abbrev cX1_canWeigh : ByteArray := prog_1_method_10_code
def yX1_canWeigh : MethodName := ⟨RX1, "canWeigh", "(I)Z"⟩
def dkwX1_canWeigh_0 : List UInt8 := [42, 27, 182, 0, 117, 27, 182, 0, 120, 172]
abbrev dktX1_canWeigh_0 : List UInt8 := dkwX1_canWeigh_0 ++ []
theorem dksX1_canWeigh_0 : cX1_canWeigh.data.toList.drop 0 = dktX1_canWeigh_0 := by decide +kernel
theorem dX1_canWeigh_0 : decode cX1_canWeigh 0 = .ok (.aload_n 0, 1) := dk_42 (dk_at dksX1_canWeigh_0 0 rfl rfl)
theorem dX1_canWeigh_1 : decode cX1_canWeigh 1 = .ok (.iload_n 1, 1) := dk_27 (dk_at dksX1_canWeigh_0 1 rfl rfl)
theorem dX1_canWeigh_2 : decode cX1_canWeigh 2 = .ok (.invokevirtual 117, 3) := dk_182 0 117 (dk_at dksX1_canWeigh_0 2 rfl rfl)
theorem dX1_canWeigh_5 : decode cX1_canWeigh 5 = .ok (.iload_n 1, 1) := dk_27 (dk_at dksX1_canWeigh_0 5 rfl rfl)
theorem dX1_canWeigh_6 : decode cX1_canWeigh 6 = .ok (.invokevirtual 120, 3) := dk_182 0 120 (dk_at dksX1_canWeigh_0 6 rfl rfl)
theorem dX1_canWeigh_9 : decode cX1_canWeigh 9 = .ok (.ireturn, 1) := dk_172 (dk_at dksX1_canWeigh_0 9 rfl rfl)
abbrev cX1_written_2 : ByteArray := prog_1_method_4_code
def yX1_written_2 : MethodName := ⟨RX1, "written", "(I)LRecipeOfScales$Book;"⟩
def dkwX1_written_2_0 : List UInt8 := [27, 4, 17, 15, 160, 184, 0, 79, 42, 182, 0, 83, 176]
abbrev dktX1_written_2_0 : List UInt8 := dkwX1_written_2_0 ++ []
theorem dksX1_written_2_0 : cX1_written_2.data.toList.drop 0 = dktX1_written_2_0 := by decide +kernel
theorem dX1_written_2_0 : decode cX1_written_2 0 = .ok (.iload_n 1, 1) := dk_27 (dk_at dksX1_written_2_0 0 rfl rfl)
theorem dX1_written_2_1 : decode cX1_written_2 1 = .ok (.iconst 1, 1) := dk_4 (dk_at dksX1_written_2_0 1 rfl rfl)
theorem dX1_written_2_2 : decode cX1_written_2 2 = .ok (.sipush 4000, 3) := dk_17 15 160 (dk_at dksX1_written_2_0 2 rfl rfl)
theorem dX1_written_2_5 : decode cX1_written_2 5 = .ok (.invokestatic 79, 3) := dk_184 0 79 (dk_at dksX1_written_2_0 5 rfl rfl)
theorem dX1_written_2_8 : decode cX1_written_2 8 = .ok (.aload_n 0, 1) := dk_42 (dk_at dksX1_written_2_0 8 rfl rfl)
theorem dX1_written_2_9 : decode cX1_written_2 9 = .ok (.invokevirtual 83, 3) := dk_182 0 83 (dk_at dksX1_written_2_0 9 rfl rfl)
theorem dX1_written_2_12 : decode cX1_written_2 12 = .ok (.areturn, 1) := dk_176 (dk_at dksX1_written_2_0 12 rfl rfl)
abbrev cX1_canWeighOnOnePan : ByteArray := prog_1_method_11_code
def yX1_canWeighOnOnePan : MethodName := ⟨RX1, "canWeighOnOnePan", "(I)Z"⟩
def dkwX1_canWeighOnOnePan_0 : List UInt8 := [27, 4, 17, 15, 160, 184, 0, 79, 42, 3, 27, 182, 0, 124, 172]
abbrev dktX1_canWeighOnOnePan_0 : List UInt8 := dkwX1_canWeighOnOnePan_0 ++ []
theorem dksX1_canWeighOnOnePan_0 : cX1_canWeighOnOnePan.data.toList.drop 0 = dktX1_canWeighOnOnePan_0 := by decide +kernel
theorem dX1_canWeighOnOnePan_0 : decode cX1_canWeighOnOnePan 0 = .ok (.iload_n 1, 1) := dk_27 (dk_at dksX1_canWeighOnOnePan_0 0 rfl rfl)
theorem dX1_canWeighOnOnePan_1 : decode cX1_canWeighOnOnePan 1 = .ok (.iconst 1, 1) := dk_4 (dk_at dksX1_canWeighOnOnePan_0 1 rfl rfl)
theorem dX1_canWeighOnOnePan_2 : decode cX1_canWeighOnOnePan 2 = .ok (.sipush 4000, 3) := dk_17 15 160 (dk_at dksX1_canWeighOnOnePan_0 2 rfl rfl)
theorem dX1_canWeighOnOnePan_5 : decode cX1_canWeighOnOnePan 5 = .ok (.invokestatic 79, 3) := dk_184 0 79 (dk_at dksX1_canWeighOnOnePan_0 5 rfl rfl)
theorem dX1_canWeighOnOnePan_8 : decode cX1_canWeighOnOnePan 8 = .ok (.aload_n 0, 1) := dk_42 (dk_at dksX1_canWeighOnOnePan_0 8 rfl rfl)
theorem dX1_canWeighOnOnePan_9 : decode cX1_canWeighOnOnePan 9 = .ok (.iconst 0, 1) := dk_3 (dk_at dksX1_canWeighOnOnePan_0 9 rfl rfl)
theorem dX1_canWeighOnOnePan_10 : decode cX1_canWeighOnOnePan 10 = .ok (.iload_n 1, 1) := dk_27 (dk_at dksX1_canWeighOnOnePan_0 10 rfl rfl)
theorem dX1_canWeighOnOnePan_11 : decode cX1_canWeighOnOnePan 11 = .ok (.invokevirtual 124, 3) := dk_182 0 124 (dk_at dksX1_canWeighOnOnePan_0 11 rfl rfl)
theorem dX1_canWeighOnOnePan_14 : decode cX1_canWeighOnOnePan 14 = .ok (.ireturn, 1) := dk_172 (dk_at dksX1_canWeighOnOnePan_0 14 rfl rfl)
abbrev cX1_canReach : ByteArray := prog_1_method_12_code
def yX1_canReach : MethodName := ⟨RX1, "canReach", "(II)Z"⟩
def dkwX1_canReach_3 : List UInt8 := [167, 0, 4, 3, 172]
abbrev dktX1_canReach_3 : List UInt8 := dkwX1_canReach_3 ++ []
def dkwX1_canReach_2 : List UInt8 := [182, 0, 114, 100, 182, 0, 124, 154, 0, 14, 42, 27, 4, 96, 28, 182, 0, 124, 153, 0, 7, 4]
abbrev dktX1_canReach_2 : List UInt8 := dkwX1_canReach_2 ++ dktX1_canReach_3
def dkwX1_canReach_1 : List UInt8 := [167, 0, 4, 3, 172, 42, 27, 4, 96, 28, 42, 180, 0, 12, 27, 185, 0, 73, 2, 0, 192, 0, 77]
abbrev dktX1_canReach_1 : List UInt8 := dkwX1_canReach_1 ++ dktX1_canReach_2
def dkwX1_canReach_0 : List UInt8 := [28, 158, 0, 16, 27, 42, 180, 0, 12, 185, 0, 62, 1, 0, 160, 0, 13, 28, 154, 0, 7, 4]
abbrev dktX1_canReach_0 : List UInt8 := dkwX1_canReach_0 ++ dktX1_canReach_1
theorem dksX1_canReach_0 : cX1_canReach.data.toList.drop 0 = dktX1_canReach_0 := by decide +kernel
theorem dksX1_canReach_1 : cX1_canReach.data.toList.drop 22 = dktX1_canReach_1 := dk_seg dksX1_canReach_0 22 rfl rfl
theorem dksX1_canReach_2 : cX1_canReach.data.toList.drop 45 = dktX1_canReach_2 := dk_seg dksX1_canReach_1 23 rfl rfl
theorem dksX1_canReach_3 : cX1_canReach.data.toList.drop 67 = dktX1_canReach_3 := dk_seg dksX1_canReach_2 22 rfl rfl
theorem dX1_canReach_0 : decode cX1_canReach 0 = .ok (.iload_n 2, 1) := dk_28 (dk_at dksX1_canReach_0 0 rfl rfl)
theorem dX1_canReach_1 : decode cX1_canReach 1 = .ok (.ifCond .le 16, 3) := dk_158 0 16 (dk_at dksX1_canReach_0 1 rfl rfl)
theorem dX1_canReach_4 : decode cX1_canReach 4 = .ok (.iload_n 1, 1) := dk_27 (dk_at dksX1_canReach_0 4 rfl rfl)
theorem dX1_canReach_5 : decode cX1_canReach 5 = .ok (.aload_n 0, 1) := dk_42 (dk_at dksX1_canReach_0 5 rfl rfl)
theorem dX1_canReach_6 : decode cX1_canReach 6 = .ok (.getfield 12, 3) := dk_180 0 12 (dk_at dksX1_canReach_0 6 rfl rfl)
theorem dX1_canReach_9 : decode cX1_canReach 9 = .ok (.invokeinterface 62 1, 5) := by decide +kernel
theorem dX1_canReach_14 : decode cX1_canReach 14 = .ok (.if_icmp .ne 13, 3) := dk_160 0 13 (dk_at dksX1_canReach_0 14 rfl rfl)
theorem dX1_canReach_17 : decode cX1_canReach 17 = .ok (.iload_n 2, 1) := dk_28 (dk_at dksX1_canReach_0 17 rfl rfl)
theorem dX1_canReach_18 : decode cX1_canReach 18 = .ok (.ifCond .ne 7, 3) := dk_154 0 7 (dk_at dksX1_canReach_0 18 rfl rfl)
theorem dX1_canReach_21 : decode cX1_canReach 21 = .ok (.iconst 1, 1) := dk_4 (dk_at dksX1_canReach_0 21 rfl rfl)
theorem dX1_canReach_22 : decode cX1_canReach 22 = .ok (.goto 4, 3) := dk_167 0 4 (dk_at dksX1_canReach_1 0 rfl rfl)
theorem dX1_canReach_25 : decode cX1_canReach 25 = .ok (.iconst 0, 1) := dk_3 (dk_at dksX1_canReach_1 3 rfl rfl)
theorem dX1_canReach_26 : decode cX1_canReach 26 = .ok (.ireturn, 1) := dk_172 (dk_at dksX1_canReach_1 4 rfl rfl)
theorem dX1_canReach_27 : decode cX1_canReach 27 = .ok (.aload_n 0, 1) := dk_42 (dk_at dksX1_canReach_1 5 rfl rfl)
theorem dX1_canReach_28 : decode cX1_canReach 28 = .ok (.iload_n 1, 1) := dk_27 (dk_at dksX1_canReach_1 6 rfl rfl)
theorem dX1_canReach_29 : decode cX1_canReach 29 = .ok (.iconst 1, 1) := dk_4 (dk_at dksX1_canReach_1 7 rfl rfl)
theorem dX1_canReach_30 : decode cX1_canReach 30 = .ok (.iadd, 1) := dk_96 (dk_at dksX1_canReach_1 8 rfl rfl)
theorem dX1_canReach_31 : decode cX1_canReach 31 = .ok (.iload_n 2, 1) := dk_28 (dk_at dksX1_canReach_1 9 rfl rfl)
theorem dX1_canReach_32 : decode cX1_canReach 32 = .ok (.aload_n 0, 1) := dk_42 (dk_at dksX1_canReach_1 10 rfl rfl)
theorem dX1_canReach_33 : decode cX1_canReach 33 = .ok (.getfield 12, 3) := dk_180 0 12 (dk_at dksX1_canReach_1 11 rfl rfl)
theorem dX1_canReach_36 : decode cX1_canReach 36 = .ok (.iload_n 1, 1) := dk_27 (dk_at dksX1_canReach_1 14 rfl rfl)
theorem dX1_canReach_37 : decode cX1_canReach 37 = .ok (.invokeinterface 73 2, 5) := by decide +kernel
theorem dX1_canReach_42 : decode cX1_canReach 42 = .ok (.checkcast 77, 3) := dk_192 0 77 (dk_at dksX1_canReach_1 20 rfl rfl)
theorem dX1_canReach_45 : decode cX1_canReach 45 = .ok (.invokevirtual 114, 3) := dk_182 0 114 (dk_at dksX1_canReach_2 0 rfl rfl)
theorem dX1_canReach_48 : decode cX1_canReach 48 = .ok (.isub, 1) := dk_100 (dk_at dksX1_canReach_2 3 rfl rfl)
theorem dX1_canReach_49 : decode cX1_canReach 49 = .ok (.invokevirtual 124, 3) := dk_182 0 124 (dk_at dksX1_canReach_2 4 rfl rfl)
theorem dX1_canReach_52 : decode cX1_canReach 52 = .ok (.ifCond .ne 14, 3) := dk_154 0 14 (dk_at dksX1_canReach_2 7 rfl rfl)
theorem dX1_canReach_55 : decode cX1_canReach 55 = .ok (.aload_n 0, 1) := dk_42 (dk_at dksX1_canReach_2 10 rfl rfl)
theorem dX1_canReach_56 : decode cX1_canReach 56 = .ok (.iload_n 1, 1) := dk_27 (dk_at dksX1_canReach_2 11 rfl rfl)
theorem dX1_canReach_57 : decode cX1_canReach 57 = .ok (.iconst 1, 1) := dk_4 (dk_at dksX1_canReach_2 12 rfl rfl)
theorem dX1_canReach_58 : decode cX1_canReach 58 = .ok (.iadd, 1) := dk_96 (dk_at dksX1_canReach_2 13 rfl rfl)
theorem dX1_canReach_59 : decode cX1_canReach 59 = .ok (.iload_n 2, 1) := dk_28 (dk_at dksX1_canReach_2 14 rfl rfl)
theorem dX1_canReach_60 : decode cX1_canReach 60 = .ok (.invokevirtual 124, 3) := dk_182 0 124 (dk_at dksX1_canReach_2 15 rfl rfl)
theorem dX1_canReach_63 : decode cX1_canReach 63 = .ok (.ifCond .eq 7, 3) := dk_153 0 7 (dk_at dksX1_canReach_2 18 rfl rfl)
theorem dX1_canReach_66 : decode cX1_canReach 66 = .ok (.iconst 1, 1) := dk_4 (dk_at dksX1_canReach_2 21 rfl rfl)
theorem dX1_canReach_67 : decode cX1_canReach 67 = .ok (.goto 4, 3) := dk_167 0 4 (dk_at dksX1_canReach_3 0 rfl rfl)
theorem dX1_canReach_70 : decode cX1_canReach 70 = .ok (.iconst 0, 1) := dk_3 (dk_at dksX1_canReach_3 3 rfl rfl)
theorem dX1_canReach_71 : decode cX1_canReach 71 = .ok (.ireturn, 1) := dk_172 (dk_at dksX1_canReach_3 4 rfl rfl)
abbrev cX1_ways : ByteArray := prog_1_method_13_code
def yX1_ways : MethodName := ⟨RX1, "ways", "(I)I"⟩
def dkwX1_ways_0 : List UInt8 := [42, 27, 182, 0, 117, 180, 0, 128, 17, 13, 172, 27, 96, 3, 184, 0, 132, 172]
abbrev dktX1_ways_0 : List UInt8 := dkwX1_ways_0 ++ []
theorem dksX1_ways_0 : cX1_ways.data.toList.drop 0 = dktX1_ways_0 := by decide +kernel
theorem dX1_ways_0 : decode cX1_ways 0 = .ok (.aload_n 0, 1) := dk_42 (dk_at dksX1_ways_0 0 rfl rfl)
theorem dX1_ways_1 : decode cX1_ways 1 = .ok (.iload_n 1, 1) := dk_27 (dk_at dksX1_ways_0 1 rfl rfl)
theorem dX1_ways_2 : decode cX1_ways 2 = .ok (.invokevirtual 117, 3) := dk_182 0 117 (dk_at dksX1_ways_0 2 rfl rfl)
theorem dX1_ways_5 : decode cX1_ways 5 = .ok (.getfield 128, 3) := dk_180 0 128 (dk_at dksX1_ways_0 5 rfl rfl)
theorem dX1_ways_8 : decode cX1_ways 8 = .ok (.sipush 3500, 3) := dk_17 13 172 (dk_at dksX1_ways_0 8 rfl rfl)
theorem dX1_ways_11 : decode cX1_ways 11 = .ok (.iload_n 1, 1) := dk_27 (dk_at dksX1_ways_0 11 rfl rfl)
theorem dX1_ways_12 : decode cX1_ways 12 = .ok (.iadd, 1) := dk_96 (dk_at dksX1_ways_0 12 rfl rfl)
theorem dX1_ways_13 : decode cX1_ways 13 = .ok (.iconst 0, 1) := dk_3 (dk_at dksX1_ways_0 13 rfl rfl)
theorem dX1_ways_14 : decode cX1_ways 14 = .ok (.invokestatic 132, 3) := dk_184 0 132 (dk_at dksX1_ways_0 14 rfl rfl)
theorem dX1_ways_17 : decode cX1_ways 17 = .ok (.ireturn, 1) := dk_172 (dk_at dksX1_ways_0 17 rfl rfl)
abbrev cX1_waysByPlacings : ByteArray := prog_1_method_14_code
def yX1_waysByPlacings : MethodName := ⟨RX1, "waysByPlacings", "(I)I"⟩
def dkwX1_waysByPlacings_0 : List UInt8 := [27, 4, 17, 15, 160, 184, 0, 79, 42, 3, 27, 182, 0, 136, 172]
abbrev dktX1_waysByPlacings_0 : List UInt8 := dkwX1_waysByPlacings_0 ++ []
theorem dksX1_waysByPlacings_0 : cX1_waysByPlacings.data.toList.drop 0 = dktX1_waysByPlacings_0 := by decide +kernel
theorem dX1_waysByPlacings_0 : decode cX1_waysByPlacings 0 = .ok (.iload_n 1, 1) := dk_27 (dk_at dksX1_waysByPlacings_0 0 rfl rfl)
theorem dX1_waysByPlacings_1 : decode cX1_waysByPlacings 1 = .ok (.iconst 1, 1) := dk_4 (dk_at dksX1_waysByPlacings_0 1 rfl rfl)
theorem dX1_waysByPlacings_2 : decode cX1_waysByPlacings 2 = .ok (.sipush 4000, 3) := dk_17 15 160 (dk_at dksX1_waysByPlacings_0 2 rfl rfl)
theorem dX1_waysByPlacings_5 : decode cX1_waysByPlacings 5 = .ok (.invokestatic 79, 3) := dk_184 0 79 (dk_at dksX1_waysByPlacings_0 5 rfl rfl)
theorem dX1_waysByPlacings_8 : decode cX1_waysByPlacings 8 = .ok (.aload_n 0, 1) := dk_42 (dk_at dksX1_waysByPlacings_0 8 rfl rfl)
theorem dX1_waysByPlacings_9 : decode cX1_waysByPlacings 9 = .ok (.iconst 0, 1) := dk_3 (dk_at dksX1_waysByPlacings_0 9 rfl rfl)
theorem dX1_waysByPlacings_10 : decode cX1_waysByPlacings 10 = .ok (.iload_n 1, 1) := dk_27 (dk_at dksX1_waysByPlacings_0 10 rfl rfl)
theorem dX1_waysByPlacings_11 : decode cX1_waysByPlacings 11 = .ok (.invokevirtual 136, 3) := dk_182 0 136 (dk_at dksX1_waysByPlacings_0 11 rfl rfl)
theorem dX1_waysByPlacings_14 : decode cX1_waysByPlacings 14 = .ok (.ireturn, 1) := dk_172 (dk_at dksX1_waysByPlacings_0 14 rfl rfl)
abbrev cX1_placings : ByteArray := prog_1_method_15_code
def yX1_placings : MethodName := ⟨RX1, "placings", "(II)I"⟩
def dkwX1_placings_2 : List UInt8 := [182, 0, 136, 42, 27, 4, 96, 28, 182, 0, 136, 96, 42, 27, 4, 96, 28, 29, 96, 182, 0, 136, 96, 172]
abbrev dktX1_placings_2 : List UInt8 := dkwX1_placings_2 ++ []
def dkwX1_placings_1 : List UInt8 := [180, 0, 12, 27, 185, 0, 73, 2, 0, 192, 0, 77, 182, 0, 114, 62, 42, 27, 4, 96, 28, 29, 100]
abbrev dktX1_placings_1 : List UInt8 := dkwX1_placings_1 ++ dktX1_placings_2
def dkwX1_placings_0 : List UInt8 := [27, 42, 180, 0, 12, 185, 0, 62, 1, 0, 160, 0, 13, 28, 154, 0, 7, 4, 167, 0, 4, 3, 172, 42]
abbrev dktX1_placings_0 : List UInt8 := dkwX1_placings_0 ++ dktX1_placings_1
theorem dksX1_placings_0 : cX1_placings.data.toList.drop 0 = dktX1_placings_0 := by decide +kernel
theorem dksX1_placings_1 : cX1_placings.data.toList.drop 24 = dktX1_placings_1 := dk_seg dksX1_placings_0 24 rfl rfl
theorem dksX1_placings_2 : cX1_placings.data.toList.drop 47 = dktX1_placings_2 := dk_seg dksX1_placings_1 23 rfl rfl
theorem dX1_placings_0 : decode cX1_placings 0 = .ok (.iload_n 1, 1) := dk_27 (dk_at dksX1_placings_0 0 rfl rfl)
theorem dX1_placings_1 : decode cX1_placings 1 = .ok (.aload_n 0, 1) := dk_42 (dk_at dksX1_placings_0 1 rfl rfl)
theorem dX1_placings_2 : decode cX1_placings 2 = .ok (.getfield 12, 3) := dk_180 0 12 (dk_at dksX1_placings_0 2 rfl rfl)
theorem dX1_placings_5 : decode cX1_placings 5 = .ok (.invokeinterface 62 1, 5) := by decide +kernel
theorem dX1_placings_10 : decode cX1_placings 10 = .ok (.if_icmp .ne 13, 3) := dk_160 0 13 (dk_at dksX1_placings_0 10 rfl rfl)
theorem dX1_placings_13 : decode cX1_placings 13 = .ok (.iload_n 2, 1) := dk_28 (dk_at dksX1_placings_0 13 rfl rfl)
theorem dX1_placings_14 : decode cX1_placings 14 = .ok (.ifCond .ne 7, 3) := dk_154 0 7 (dk_at dksX1_placings_0 14 rfl rfl)
theorem dX1_placings_17 : decode cX1_placings 17 = .ok (.iconst 1, 1) := dk_4 (dk_at dksX1_placings_0 17 rfl rfl)
theorem dX1_placings_18 : decode cX1_placings 18 = .ok (.goto 4, 3) := dk_167 0 4 (dk_at dksX1_placings_0 18 rfl rfl)
theorem dX1_placings_21 : decode cX1_placings 21 = .ok (.iconst 0, 1) := dk_3 (dk_at dksX1_placings_0 21 rfl rfl)
theorem dX1_placings_22 : decode cX1_placings 22 = .ok (.ireturn, 1) := dk_172 (dk_at dksX1_placings_0 22 rfl rfl)
theorem dX1_placings_23 : decode cX1_placings 23 = .ok (.aload_n 0, 1) := dk_42 (dk_at dksX1_placings_0 23 rfl rfl)
theorem dX1_placings_24 : decode cX1_placings 24 = .ok (.getfield 12, 3) := dk_180 0 12 (dk_at dksX1_placings_1 0 rfl rfl)
theorem dX1_placings_27 : decode cX1_placings 27 = .ok (.iload_n 1, 1) := dk_27 (dk_at dksX1_placings_1 3 rfl rfl)
theorem dX1_placings_28 : decode cX1_placings 28 = .ok (.invokeinterface 73 2, 5) := by decide +kernel
theorem dX1_placings_33 : decode cX1_placings 33 = .ok (.checkcast 77, 3) := dk_192 0 77 (dk_at dksX1_placings_1 9 rfl rfl)
theorem dX1_placings_36 : decode cX1_placings 36 = .ok (.invokevirtual 114, 3) := dk_182 0 114 (dk_at dksX1_placings_1 12 rfl rfl)
theorem dX1_placings_39 : decode cX1_placings 39 = .ok (.istore_n 3, 1) := dk_62 (dk_at dksX1_placings_1 15 rfl rfl)
theorem dX1_placings_40 : decode cX1_placings 40 = .ok (.aload_n 0, 1) := dk_42 (dk_at dksX1_placings_1 16 rfl rfl)
theorem dX1_placings_41 : decode cX1_placings 41 = .ok (.iload_n 1, 1) := dk_27 (dk_at dksX1_placings_1 17 rfl rfl)
theorem dX1_placings_42 : decode cX1_placings 42 = .ok (.iconst 1, 1) := dk_4 (dk_at dksX1_placings_1 18 rfl rfl)
theorem dX1_placings_43 : decode cX1_placings 43 = .ok (.iadd, 1) := dk_96 (dk_at dksX1_placings_1 19 rfl rfl)
theorem dX1_placings_44 : decode cX1_placings 44 = .ok (.iload_n 2, 1) := dk_28 (dk_at dksX1_placings_1 20 rfl rfl)
theorem dX1_placings_45 : decode cX1_placings 45 = .ok (.iload_n 3, 1) := dk_29 (dk_at dksX1_placings_1 21 rfl rfl)
theorem dX1_placings_46 : decode cX1_placings 46 = .ok (.isub, 1) := dk_100 (dk_at dksX1_placings_1 22 rfl rfl)
theorem dX1_placings_47 : decode cX1_placings 47 = .ok (.invokevirtual 136, 3) := dk_182 0 136 (dk_at dksX1_placings_2 0 rfl rfl)
theorem dX1_placings_50 : decode cX1_placings 50 = .ok (.aload_n 0, 1) := dk_42 (dk_at dksX1_placings_2 3 rfl rfl)
theorem dX1_placings_51 : decode cX1_placings 51 = .ok (.iload_n 1, 1) := dk_27 (dk_at dksX1_placings_2 4 rfl rfl)
theorem dX1_placings_52 : decode cX1_placings 52 = .ok (.iconst 1, 1) := dk_4 (dk_at dksX1_placings_2 5 rfl rfl)
theorem dX1_placings_53 : decode cX1_placings 53 = .ok (.iadd, 1) := dk_96 (dk_at dksX1_placings_2 6 rfl rfl)
theorem dX1_placings_54 : decode cX1_placings 54 = .ok (.iload_n 2, 1) := dk_28 (dk_at dksX1_placings_2 7 rfl rfl)
theorem dX1_placings_55 : decode cX1_placings 55 = .ok (.invokevirtual 136, 3) := dk_182 0 136 (dk_at dksX1_placings_2 8 rfl rfl)
theorem dX1_placings_58 : decode cX1_placings 58 = .ok (.iadd, 1) := dk_96 (dk_at dksX1_placings_2 11 rfl rfl)
theorem dX1_placings_59 : decode cX1_placings 59 = .ok (.aload_n 0, 1) := dk_42 (dk_at dksX1_placings_2 12 rfl rfl)
theorem dX1_placings_60 : decode cX1_placings 60 = .ok (.iload_n 1, 1) := dk_27 (dk_at dksX1_placings_2 13 rfl rfl)
theorem dX1_placings_61 : decode cX1_placings 61 = .ok (.iconst 1, 1) := dk_4 (dk_at dksX1_placings_2 14 rfl rfl)
theorem dX1_placings_62 : decode cX1_placings 62 = .ok (.iadd, 1) := dk_96 (dk_at dksX1_placings_2 15 rfl rfl)
theorem dX1_placings_63 : decode cX1_placings 63 = .ok (.iload_n 2, 1) := dk_28 (dk_at dksX1_placings_2 16 rfl rfl)
theorem dX1_placings_64 : decode cX1_placings 64 = .ok (.iload_n 3, 1) := dk_29 (dk_at dksX1_placings_2 17 rfl rfl)
theorem dX1_placings_65 : decode cX1_placings 65 = .ok (.iadd, 1) := dk_96 (dk_at dksX1_placings_2 18 rfl rfl)
theorem dX1_placings_66 : decode cX1_placings 66 = .ok (.invokevirtual 136, 3) := dk_182 0 136 (dk_at dksX1_placings_2 19 rfl rfl)
theorem dX1_placings_69 : decode cX1_placings 69 = .ok (.iadd, 1) := dk_96 (dk_at dksX1_placings_2 22 rfl rfl)
theorem dX1_placings_70 : decode cX1_placings 70 = .ok (.ireturn, 1) := dk_172 (dk_at dksX1_placings_2 23 rfl rfl)
abbrev cX1_fewest : ByteArray := prog_1_method_16_code
def yX1_fewest : MethodName := ⟨RX1, "fewest", "(I)I"⟩
def dkwX1_fewest_1 : List UInt8 := [16, 16, 108, 172]
abbrev dktX1_fewest_1 : List UInt8 := dkwX1_fewest_1 ++ []
def dkwX1_fewest_0 : List UInt8 := [42, 27, 182, 0, 117, 3, 27, 182, 0, 140, 61, 28, 17, 39, 15, 161, 0, 7, 2, 167, 0, 7, 28]
abbrev dktX1_fewest_0 : List UInt8 := dkwX1_fewest_0 ++ dktX1_fewest_1
theorem dksX1_fewest_0 : cX1_fewest.data.toList.drop 0 = dktX1_fewest_0 := by decide +kernel
theorem dksX1_fewest_1 : cX1_fewest.data.toList.drop 23 = dktX1_fewest_1 := dk_seg dksX1_fewest_0 23 rfl rfl
theorem dX1_fewest_0 : decode cX1_fewest 0 = .ok (.aload_n 0, 1) := dk_42 (dk_at dksX1_fewest_0 0 rfl rfl)
theorem dX1_fewest_1 : decode cX1_fewest 1 = .ok (.iload_n 1, 1) := dk_27 (dk_at dksX1_fewest_0 1 rfl rfl)
theorem dX1_fewest_2 : decode cX1_fewest 2 = .ok (.invokevirtual 117, 3) := dk_182 0 117 (dk_at dksX1_fewest_0 2 rfl rfl)
theorem dX1_fewest_5 : decode cX1_fewest 5 = .ok (.iconst 0, 1) := dk_3 (dk_at dksX1_fewest_0 5 rfl rfl)
theorem dX1_fewest_6 : decode cX1_fewest 6 = .ok (.iload_n 1, 1) := dk_27 (dk_at dksX1_fewest_0 6 rfl rfl)
theorem dX1_fewest_7 : decode cX1_fewest 7 = .ok (.invokevirtual 140, 3) := dk_182 0 140 (dk_at dksX1_fewest_0 7 rfl rfl)
theorem dX1_fewest_10 : decode cX1_fewest 10 = .ok (.istore_n 2, 1) := dk_61 (dk_at dksX1_fewest_0 10 rfl rfl)
theorem dX1_fewest_11 : decode cX1_fewest 11 = .ok (.iload_n 2, 1) := dk_28 (dk_at dksX1_fewest_0 11 rfl rfl)
theorem dX1_fewest_12 : decode cX1_fewest 12 = .ok (.sipush 9999, 3) := dk_17 39 15 (dk_at dksX1_fewest_0 12 rfl rfl)
theorem dX1_fewest_15 : decode cX1_fewest 15 = .ok (.if_icmp .lt 7, 3) := dk_161 0 7 (dk_at dksX1_fewest_0 15 rfl rfl)
theorem dX1_fewest_18 : decode cX1_fewest 18 = .ok (.iconst (-1), 1) := dk_2 (dk_at dksX1_fewest_0 18 rfl rfl)
theorem dX1_fewest_19 : decode cX1_fewest 19 = .ok (.goto 7, 3) := dk_167 0 7 (dk_at dksX1_fewest_0 19 rfl rfl)
theorem dX1_fewest_22 : decode cX1_fewest 22 = .ok (.iload_n 2, 1) := dk_28 (dk_at dksX1_fewest_0 22 rfl rfl)
theorem dX1_fewest_23 : decode cX1_fewest 23 = .ok (.bipush 16, 2) := dk_16 16 (dk_at dksX1_fewest_1 0 rfl rfl)
theorem dX1_fewest_25 : decode cX1_fewest 25 = .ok (.idiv, 1) := dk_108 (dk_at dksX1_fewest_1 2 rfl rfl)
theorem dX1_fewest_26 : decode cX1_fewest 26 = .ok (.ireturn, 1) := dk_172 (dk_at dksX1_fewest_1 3 rfl rfl)
abbrev cX1_placed : ByteArray := prog_1_method_17_code
def yX1_placed : MethodName := ⟨RX1, "placed", "(II)I"⟩
def dkwX1_placed_6 : List UInt8 := [54, 5, 21, 4, 21, 5, 21, 7, 104, 100, 54, 4, 132, 6, 1, 167, 255, 161, 21, 5, 172]
abbrev dktX1_placed_6 : List UInt8 := dkwX1_placed_6 ++ []
def dkwX1_placed_5 : List UInt8 := [167, 0, 23, 45, 21, 6, 4, 96, 21, 4, 182, 0, 140, 21, 8, 160, 0, 7, 3, 167, 0, 4, 2]
abbrev dktX1_placed_5 : List UInt8 := dkwX1_placed_5 ++ dktX1_placed_6
def dkwX1_placed_4 : List UInt8 := [16, 16, 45, 21, 6, 4, 96, 21, 4, 21, 7, 100, 182, 0, 140, 96, 21, 8, 160, 0, 7, 4]
abbrev dktX1_placed_4 : List UInt8 := dkwX1_placed_4 ++ dktX1_placed_5
def dkwX1_placed_3 : List UInt8 := [185, 0, 73, 2, 0, 192, 0, 77, 182, 0, 114, 54, 7, 45, 21, 6, 21, 4, 182, 0, 140, 54, 8]
abbrev dktX1_placed_3 : List UInt8 := dkwX1_placed_3 ++ dktX1_placed_4
def dkwX1_placed_2 : List UInt8 := [54, 4, 3, 54, 5, 3, 54, 6, 21, 6, 28, 163, 0, 95, 42, 180, 0, 12, 21, 6]
abbrev dktX1_placed_2 : List UInt8 := dkwX1_placed_2 ++ dktX1_placed_3
def dkwX1_placed_1 : List UInt8 := [187, 0, 41, 89, 183, 0, 43, 27, 182, 0, 44, 18, 145, 182, 0, 50, 182, 0, 55, 183, 0, 147, 191, 27]
abbrev dktX1_placed_1 : List UInt8 := dkwX1_placed_1 ++ dktX1_placed_2
def dkwX1_placed_0 : List UInt8 := [42, 27, 182, 0, 117, 78, 42, 28, 182, 0, 107, 87, 45, 27, 182, 0, 120, 154, 0, 30, 187, 0, 143, 89]
abbrev dktX1_placed_0 : List UInt8 := dkwX1_placed_0 ++ dktX1_placed_1
theorem dksX1_placed_0 : cX1_placed.data.toList.drop 0 = dktX1_placed_0 := by decide +kernel
theorem dksX1_placed_1 : cX1_placed.data.toList.drop 24 = dktX1_placed_1 := dk_seg dksX1_placed_0 24 rfl rfl
theorem dksX1_placed_2 : cX1_placed.data.toList.drop 48 = dktX1_placed_2 := dk_seg dksX1_placed_1 24 rfl rfl
theorem dksX1_placed_3 : cX1_placed.data.toList.drop 68 = dktX1_placed_3 := dk_seg dksX1_placed_2 20 rfl rfl
theorem dksX1_placed_4 : cX1_placed.data.toList.drop 91 = dktX1_placed_4 := dk_seg dksX1_placed_3 23 rfl rfl
theorem dksX1_placed_5 : cX1_placed.data.toList.drop 113 = dktX1_placed_5 := dk_seg dksX1_placed_4 22 rfl rfl
theorem dksX1_placed_6 : cX1_placed.data.toList.drop 136 = dktX1_placed_6 := dk_seg dksX1_placed_5 23 rfl rfl
theorem dX1_placed_0 : decode cX1_placed 0 = .ok (.aload_n 0, 1) := dk_42 (dk_at dksX1_placed_0 0 rfl rfl)
theorem dX1_placed_1 : decode cX1_placed 1 = .ok (.iload_n 1, 1) := dk_27 (dk_at dksX1_placed_0 1 rfl rfl)
theorem dX1_placed_2 : decode cX1_placed 2 = .ok (.invokevirtual 117, 3) := dk_182 0 117 (dk_at dksX1_placed_0 2 rfl rfl)
theorem dX1_placed_5 : decode cX1_placed 5 = .ok (.astore_n 3, 1) := dk_78 (dk_at dksX1_placed_0 5 rfl rfl)
theorem dX1_placed_6 : decode cX1_placed 6 = .ok (.aload_n 0, 1) := dk_42 (dk_at dksX1_placed_0 6 rfl rfl)
theorem dX1_placed_7 : decode cX1_placed 7 = .ok (.iload_n 2, 1) := dk_28 (dk_at dksX1_placed_0 7 rfl rfl)
theorem dX1_placed_8 : decode cX1_placed 8 = .ok (.invokevirtual 107, 3) := dk_182 0 107 (dk_at dksX1_placed_0 8 rfl rfl)
theorem dX1_placed_11 : decode cX1_placed 11 = .ok (.pop, 1) := dk_87 (dk_at dksX1_placed_0 11 rfl rfl)
theorem dX1_placed_12 : decode cX1_placed 12 = .ok (.aload_n 3, 1) := dk_45 (dk_at dksX1_placed_0 12 rfl rfl)
theorem dX1_placed_13 : decode cX1_placed 13 = .ok (.iload_n 1, 1) := dk_27 (dk_at dksX1_placed_0 13 rfl rfl)
theorem dX1_placed_14 : decode cX1_placed 14 = .ok (.invokevirtual 120, 3) := dk_182 0 120 (dk_at dksX1_placed_0 14 rfl rfl)
theorem dX1_placed_17 : decode cX1_placed 17 = .ok (.ifCond .ne 30, 3) := dk_154 0 30 (dk_at dksX1_placed_0 17 rfl rfl)
theorem dX1_placed_20 : decode cX1_placed 20 = .ok (.new 143, 3) := dk_187 0 143 (dk_at dksX1_placed_0 20 rfl rfl)
theorem dX1_placed_23 : decode cX1_placed 23 = .ok (.dup, 1) := dk_89 (dk_at dksX1_placed_0 23 rfl rfl)
theorem dX1_placed_24 : decode cX1_placed 24 = .ok (.new 41, 3) := dk_187 0 41 (dk_at dksX1_placed_1 0 rfl rfl)
theorem dX1_placed_27 : decode cX1_placed 27 = .ok (.dup, 1) := dk_89 (dk_at dksX1_placed_1 3 rfl rfl)
theorem dX1_placed_28 : decode cX1_placed 28 = .ok (.invokespecial 43, 3) := dk_183 0 43 (dk_at dksX1_placed_1 4 rfl rfl)
theorem dX1_placed_31 : decode cX1_placed 31 = .ok (.iload_n 1, 1) := dk_27 (dk_at dksX1_placed_1 7 rfl rfl)
theorem dX1_placed_32 : decode cX1_placed 32 = .ok (.invokevirtual 44, 3) := dk_182 0 44 (dk_at dksX1_placed_1 8 rfl rfl)
theorem dX1_placed_35 : decode cX1_placed 35 = .ok (.ldc 145, 2) := dk_18 145 (dk_at dksX1_placed_1 11 rfl rfl)
theorem dX1_placed_37 : decode cX1_placed 37 = .ok (.invokevirtual 50, 3) := dk_182 0 50 (dk_at dksX1_placed_1 13 rfl rfl)
theorem dX1_placed_40 : decode cX1_placed 40 = .ok (.invokevirtual 55, 3) := dk_182 0 55 (dk_at dksX1_placed_1 16 rfl rfl)
theorem dX1_placed_43 : decode cX1_placed 43 = .ok (.invokespecial 147, 3) := dk_183 0 147 (dk_at dksX1_placed_1 19 rfl rfl)
theorem dX1_placed_46 : decode cX1_placed 46 = .ok (.athrow, 1) := dk_191 (dk_at dksX1_placed_1 22 rfl rfl)
theorem dX1_placed_47 : decode cX1_placed 47 = .ok (.iload_n 1, 1) := dk_27 (dk_at dksX1_placed_1 23 rfl rfl)
theorem dX1_placed_48 : decode cX1_placed 48 = .ok (.istore 4, 2) := dk_54 4 (dk_at dksX1_placed_2 0 rfl rfl)
theorem dX1_placed_50 : decode cX1_placed 50 = .ok (.iconst 0, 1) := dk_3 (dk_at dksX1_placed_2 2 rfl rfl)
theorem dX1_placed_51 : decode cX1_placed 51 = .ok (.istore 5, 2) := dk_54 5 (dk_at dksX1_placed_2 3 rfl rfl)
theorem dX1_placed_53 : decode cX1_placed 53 = .ok (.iconst 0, 1) := dk_3 (dk_at dksX1_placed_2 5 rfl rfl)
theorem dX1_placed_54 : decode cX1_placed 54 = .ok (.istore 6, 2) := dk_54 6 (dk_at dksX1_placed_2 6 rfl rfl)
theorem dX1_placed_56 : decode cX1_placed 56 = .ok (.iload 6, 2) := dk_21 6 (dk_at dksX1_placed_2 8 rfl rfl)
theorem dX1_placed_58 : decode cX1_placed 58 = .ok (.iload_n 2, 1) := dk_28 (dk_at dksX1_placed_2 10 rfl rfl)
theorem dX1_placed_59 : decode cX1_placed 59 = .ok (.if_icmp .gt 95, 3) := dk_163 0 95 (dk_at dksX1_placed_2 11 rfl rfl)
theorem dX1_placed_62 : decode cX1_placed 62 = .ok (.aload_n 0, 1) := dk_42 (dk_at dksX1_placed_2 14 rfl rfl)
theorem dX1_placed_63 : decode cX1_placed 63 = .ok (.getfield 12, 3) := dk_180 0 12 (dk_at dksX1_placed_2 15 rfl rfl)
theorem dX1_placed_66 : decode cX1_placed 66 = .ok (.iload 6, 2) := dk_21 6 (dk_at dksX1_placed_2 18 rfl rfl)
theorem dX1_placed_68 : decode cX1_placed 68 = .ok (.invokeinterface 73 2, 5) := by decide +kernel
theorem dX1_placed_73 : decode cX1_placed 73 = .ok (.checkcast 77, 3) := dk_192 0 77 (dk_at dksX1_placed_3 5 rfl rfl)
theorem dX1_placed_76 : decode cX1_placed 76 = .ok (.invokevirtual 114, 3) := dk_182 0 114 (dk_at dksX1_placed_3 8 rfl rfl)
theorem dX1_placed_79 : decode cX1_placed 79 = .ok (.istore 7, 2) := dk_54 7 (dk_at dksX1_placed_3 11 rfl rfl)
theorem dX1_placed_81 : decode cX1_placed 81 = .ok (.aload_n 3, 1) := dk_45 (dk_at dksX1_placed_3 13 rfl rfl)
theorem dX1_placed_82 : decode cX1_placed 82 = .ok (.iload 6, 2) := dk_21 6 (dk_at dksX1_placed_3 14 rfl rfl)
theorem dX1_placed_84 : decode cX1_placed 84 = .ok (.iload 4, 2) := dk_21 4 (dk_at dksX1_placed_3 16 rfl rfl)
theorem dX1_placed_86 : decode cX1_placed 86 = .ok (.invokevirtual 140, 3) := dk_182 0 140 (dk_at dksX1_placed_3 18 rfl rfl)
theorem dX1_placed_89 : decode cX1_placed 89 = .ok (.istore 8, 2) := dk_54 8 (dk_at dksX1_placed_3 21 rfl rfl)
theorem dX1_placed_91 : decode cX1_placed 91 = .ok (.bipush 16, 2) := dk_16 16 (dk_at dksX1_placed_4 0 rfl rfl)
theorem dX1_placed_93 : decode cX1_placed 93 = .ok (.aload_n 3, 1) := dk_45 (dk_at dksX1_placed_4 2 rfl rfl)
theorem dX1_placed_94 : decode cX1_placed 94 = .ok (.iload 6, 2) := dk_21 6 (dk_at dksX1_placed_4 3 rfl rfl)
theorem dX1_placed_96 : decode cX1_placed 96 = .ok (.iconst 1, 1) := dk_4 (dk_at dksX1_placed_4 5 rfl rfl)
theorem dX1_placed_97 : decode cX1_placed 97 = .ok (.iadd, 1) := dk_96 (dk_at dksX1_placed_4 6 rfl rfl)
theorem dX1_placed_98 : decode cX1_placed 98 = .ok (.iload 4, 2) := dk_21 4 (dk_at dksX1_placed_4 7 rfl rfl)
theorem dX1_placed_100 : decode cX1_placed 100 = .ok (.iload 7, 2) := dk_21 7 (dk_at dksX1_placed_4 9 rfl rfl)
theorem dX1_placed_102 : decode cX1_placed 102 = .ok (.isub, 1) := dk_100 (dk_at dksX1_placed_4 11 rfl rfl)
theorem dX1_placed_103 : decode cX1_placed 103 = .ok (.invokevirtual 140, 3) := dk_182 0 140 (dk_at dksX1_placed_4 12 rfl rfl)
theorem dX1_placed_106 : decode cX1_placed 106 = .ok (.iadd, 1) := dk_96 (dk_at dksX1_placed_4 15 rfl rfl)
theorem dX1_placed_107 : decode cX1_placed 107 = .ok (.iload 8, 2) := dk_21 8 (dk_at dksX1_placed_4 16 rfl rfl)
theorem dX1_placed_109 : decode cX1_placed 109 = .ok (.if_icmp .ne 7, 3) := dk_160 0 7 (dk_at dksX1_placed_4 18 rfl rfl)
theorem dX1_placed_112 : decode cX1_placed 112 = .ok (.iconst 1, 1) := dk_4 (dk_at dksX1_placed_4 21 rfl rfl)
theorem dX1_placed_113 : decode cX1_placed 113 = .ok (.goto 23, 3) := dk_167 0 23 (dk_at dksX1_placed_5 0 rfl rfl)
theorem dX1_placed_116 : decode cX1_placed 116 = .ok (.aload_n 3, 1) := dk_45 (dk_at dksX1_placed_5 3 rfl rfl)
theorem dX1_placed_117 : decode cX1_placed 117 = .ok (.iload 6, 2) := dk_21 6 (dk_at dksX1_placed_5 4 rfl rfl)
theorem dX1_placed_119 : decode cX1_placed 119 = .ok (.iconst 1, 1) := dk_4 (dk_at dksX1_placed_5 6 rfl rfl)
theorem dX1_placed_120 : decode cX1_placed 120 = .ok (.iadd, 1) := dk_96 (dk_at dksX1_placed_5 7 rfl rfl)
theorem dX1_placed_121 : decode cX1_placed 121 = .ok (.iload 4, 2) := dk_21 4 (dk_at dksX1_placed_5 8 rfl rfl)
theorem dX1_placed_123 : decode cX1_placed 123 = .ok (.invokevirtual 140, 3) := dk_182 0 140 (dk_at dksX1_placed_5 10 rfl rfl)
theorem dX1_placed_126 : decode cX1_placed 126 = .ok (.iload 8, 2) := dk_21 8 (dk_at dksX1_placed_5 13 rfl rfl)
theorem dX1_placed_128 : decode cX1_placed 128 = .ok (.if_icmp .ne 7, 3) := dk_160 0 7 (dk_at dksX1_placed_5 15 rfl rfl)
theorem dX1_placed_131 : decode cX1_placed 131 = .ok (.iconst 0, 1) := dk_3 (dk_at dksX1_placed_5 18 rfl rfl)
theorem dX1_placed_132 : decode cX1_placed 132 = .ok (.goto 4, 3) := dk_167 0 4 (dk_at dksX1_placed_5 19 rfl rfl)
theorem dX1_placed_135 : decode cX1_placed 135 = .ok (.iconst (-1), 1) := dk_2 (dk_at dksX1_placed_5 22 rfl rfl)
theorem dX1_placed_136 : decode cX1_placed 136 = .ok (.istore 5, 2) := dk_54 5 (dk_at dksX1_placed_6 0 rfl rfl)
theorem dX1_placed_138 : decode cX1_placed 138 = .ok (.iload 4, 2) := dk_21 4 (dk_at dksX1_placed_6 2 rfl rfl)
theorem dX1_placed_140 : decode cX1_placed 140 = .ok (.iload 5, 2) := dk_21 5 (dk_at dksX1_placed_6 4 rfl rfl)
theorem dX1_placed_142 : decode cX1_placed 142 = .ok (.iload 7, 2) := dk_21 7 (dk_at dksX1_placed_6 6 rfl rfl)
theorem dX1_placed_144 : decode cX1_placed 144 = .ok (.imul, 1) := dk_104 (dk_at dksX1_placed_6 8 rfl rfl)
theorem dX1_placed_145 : decode cX1_placed 145 = .ok (.isub, 1) := dk_100 (dk_at dksX1_placed_6 9 rfl rfl)
theorem dX1_placed_146 : decode cX1_placed 146 = .ok (.istore 4, 2) := dk_54 4 (dk_at dksX1_placed_6 10 rfl rfl)
theorem dX1_placed_148 : decode cX1_placed 148 = .ok (.iinc 6 1, 3) := dk_132 6 1 (dk_at dksX1_placed_6 12 rfl rfl)
theorem dX1_placed_151 : decode cX1_placed 151 = .ok (.goto (-95), 3) := dk_167 255 161 (dk_at dksX1_placed_6 15 rfl rfl)
theorem dX1_placed_154 : decode cX1_placed 154 = .ok (.iload 5, 2) := dk_21 5 (dk_at dksX1_placed_6 18 rfl rfl)
theorem dX1_placed_156 : decode cX1_placed 156 = .ok (.ireturn, 1) := dk_172 (dk_at dksX1_placed_6 20 rfl rfl)
abbrev cX1_leastError : ByteArray := prog_1_method_18_code
def yX1_leastError : MethodName := ⟨RX1, "leastError", "(I)I"⟩
def dkwX1_leastError_1 : List UInt8 := [161, 0, 7, 2, 167, 0, 4, 28, 172]
abbrev dktX1_leastError_1 : List UInt8 := dkwX1_leastError_1 ++ []
def dkwX1_leastError_0 : List UInt8 := [42, 27, 182, 0, 117, 180, 0, 148, 17, 13, 172, 27, 96, 17, 39, 15, 184, 0, 132, 61, 28, 17, 39, 15]
abbrev dktX1_leastError_0 : List UInt8 := dkwX1_leastError_0 ++ dktX1_leastError_1
theorem dksX1_leastError_0 : cX1_leastError.data.toList.drop 0 = dktX1_leastError_0 := by decide +kernel
theorem dksX1_leastError_1 : cX1_leastError.data.toList.drop 24 = dktX1_leastError_1 := dk_seg dksX1_leastError_0 24 rfl rfl
theorem dX1_leastError_0 : decode cX1_leastError 0 = .ok (.aload_n 0, 1) := dk_42 (dk_at dksX1_leastError_0 0 rfl rfl)
theorem dX1_leastError_1 : decode cX1_leastError 1 = .ok (.iload_n 1, 1) := dk_27 (dk_at dksX1_leastError_0 1 rfl rfl)
theorem dX1_leastError_2 : decode cX1_leastError 2 = .ok (.invokevirtual 117, 3) := dk_182 0 117 (dk_at dksX1_leastError_0 2 rfl rfl)
theorem dX1_leastError_5 : decode cX1_leastError 5 = .ok (.getfield 148, 3) := dk_180 0 148 (dk_at dksX1_leastError_0 5 rfl rfl)
theorem dX1_leastError_8 : decode cX1_leastError 8 = .ok (.sipush 3500, 3) := dk_17 13 172 (dk_at dksX1_leastError_0 8 rfl rfl)
theorem dX1_leastError_11 : decode cX1_leastError 11 = .ok (.iload_n 1, 1) := dk_27 (dk_at dksX1_leastError_0 11 rfl rfl)
theorem dX1_leastError_12 : decode cX1_leastError 12 = .ok (.iadd, 1) := dk_96 (dk_at dksX1_leastError_0 12 rfl rfl)
theorem dX1_leastError_13 : decode cX1_leastError 13 = .ok (.sipush 9999, 3) := dk_17 39 15 (dk_at dksX1_leastError_0 13 rfl rfl)
theorem dX1_leastError_16 : decode cX1_leastError 16 = .ok (.invokestatic 132, 3) := dk_184 0 132 (dk_at dksX1_leastError_0 16 rfl rfl)
theorem dX1_leastError_19 : decode cX1_leastError 19 = .ok (.istore_n 2, 1) := dk_61 (dk_at dksX1_leastError_0 19 rfl rfl)
theorem dX1_leastError_20 : decode cX1_leastError 20 = .ok (.iload_n 2, 1) := dk_28 (dk_at dksX1_leastError_0 20 rfl rfl)
theorem dX1_leastError_21 : decode cX1_leastError 21 = .ok (.sipush 9999, 3) := dk_17 39 15 (dk_at dksX1_leastError_0 21 rfl rfl)
theorem dX1_leastError_24 : decode cX1_leastError 24 = .ok (.if_icmp .lt 7, 3) := dk_161 0 7 (dk_at dksX1_leastError_1 0 rfl rfl)
theorem dX1_leastError_27 : decode cX1_leastError 27 = .ok (.iconst (-1), 1) := dk_2 (dk_at dksX1_leastError_1 3 rfl rfl)
theorem dX1_leastError_28 : decode cX1_leastError 28 = .ok (.goto 4, 3) := dk_167 0 4 (dk_at dksX1_leastError_1 4 rfl rfl)
theorem dX1_leastError_31 : decode cX1_leastError 31 = .ok (.iload_n 2, 1) := dk_28 (dk_at dksX1_leastError_1 7 rfl rfl)
theorem dX1_leastError_32 : decode cX1_leastError 32 = .ok (.ireturn, 1) := dk_172 (dk_at dksX1_leastError_1 8 rfl rfl)
abbrev cX1_needed : ByteArray := prog_1_method_21_code
def yX1_needed : MethodName := ⟨RX1, "needed", "(I)I"⟩
def dkwX1_needed_3 : List UInt8 := [172]
abbrev dktX1_needed_3 : List UInt8 := dkwX1_needed_3 ++ []
def dkwX1_needed_2 : List UInt8 := [42, 29, 182, 0, 160, 27, 164, 0, 5, 29, 172, 132, 3, 1, 167, 255, 219, 132, 2, 1, 167, 255, 198, 2]
abbrev dktX1_needed_2 : List UInt8 := dkwX1_needed_2 ++ dktX1_needed_3
def dkwX1_needed_1 : List UInt8 := [62, 29, 4, 42, 180, 0, 12, 185, 0, 62, 1, 0, 120, 162, 0, 28, 29, 184, 0, 155, 28, 160, 0, 14]
abbrev dktX1_needed_1 : List UInt8 := dkwX1_needed_1 ++ dktX1_needed_2
def dkwX1_needed_0 : List UInt8 := [27, 4, 17, 15, 160, 184, 0, 79, 3, 61, 28, 42, 180, 0, 12, 185, 0, 62, 1, 0, 163, 0, 51, 3]
abbrev dktX1_needed_0 : List UInt8 := dkwX1_needed_0 ++ dktX1_needed_1
theorem dksX1_needed_0 : cX1_needed.data.toList.drop 0 = dktX1_needed_0 := by decide +kernel
theorem dksX1_needed_1 : cX1_needed.data.toList.drop 24 = dktX1_needed_1 := dk_seg dksX1_needed_0 24 rfl rfl
theorem dksX1_needed_2 : cX1_needed.data.toList.drop 48 = dktX1_needed_2 := dk_seg dksX1_needed_1 24 rfl rfl
theorem dksX1_needed_3 : cX1_needed.data.toList.drop 72 = dktX1_needed_3 := dk_seg dksX1_needed_2 24 rfl rfl
theorem dX1_needed_0 : decode cX1_needed 0 = .ok (.iload_n 1, 1) := dk_27 (dk_at dksX1_needed_0 0 rfl rfl)
theorem dX1_needed_1 : decode cX1_needed 1 = .ok (.iconst 1, 1) := dk_4 (dk_at dksX1_needed_0 1 rfl rfl)
theorem dX1_needed_2 : decode cX1_needed 2 = .ok (.sipush 4000, 3) := dk_17 15 160 (dk_at dksX1_needed_0 2 rfl rfl)
theorem dX1_needed_5 : decode cX1_needed 5 = .ok (.invokestatic 79, 3) := dk_184 0 79 (dk_at dksX1_needed_0 5 rfl rfl)
theorem dX1_needed_8 : decode cX1_needed 8 = .ok (.iconst 0, 1) := dk_3 (dk_at dksX1_needed_0 8 rfl rfl)
theorem dX1_needed_9 : decode cX1_needed 9 = .ok (.istore_n 2, 1) := dk_61 (dk_at dksX1_needed_0 9 rfl rfl)
theorem dX1_needed_10 : decode cX1_needed 10 = .ok (.iload_n 2, 1) := dk_28 (dk_at dksX1_needed_0 10 rfl rfl)
theorem dX1_needed_11 : decode cX1_needed 11 = .ok (.aload_n 0, 1) := dk_42 (dk_at dksX1_needed_0 11 rfl rfl)
theorem dX1_needed_12 : decode cX1_needed 12 = .ok (.getfield 12, 3) := dk_180 0 12 (dk_at dksX1_needed_0 12 rfl rfl)
theorem dX1_needed_15 : decode cX1_needed 15 = .ok (.invokeinterface 62 1, 5) := by decide +kernel
theorem dX1_needed_20 : decode cX1_needed 20 = .ok (.if_icmp .gt 51, 3) := dk_163 0 51 (dk_at dksX1_needed_0 20 rfl rfl)
theorem dX1_needed_23 : decode cX1_needed 23 = .ok (.iconst 0, 1) := dk_3 (dk_at dksX1_needed_0 23 rfl rfl)
theorem dX1_needed_24 : decode cX1_needed 24 = .ok (.istore_n 3, 1) := dk_62 (dk_at dksX1_needed_1 0 rfl rfl)
theorem dX1_needed_25 : decode cX1_needed 25 = .ok (.iload_n 3, 1) := dk_29 (dk_at dksX1_needed_1 1 rfl rfl)
theorem dX1_needed_26 : decode cX1_needed 26 = .ok (.iconst 1, 1) := dk_4 (dk_at dksX1_needed_1 2 rfl rfl)
theorem dX1_needed_27 : decode cX1_needed 27 = .ok (.aload_n 0, 1) := dk_42 (dk_at dksX1_needed_1 3 rfl rfl)
theorem dX1_needed_28 : decode cX1_needed 28 = .ok (.getfield 12, 3) := dk_180 0 12 (dk_at dksX1_needed_1 4 rfl rfl)
theorem dX1_needed_31 : decode cX1_needed 31 = .ok (.invokeinterface 62 1, 5) := by decide +kernel
theorem dX1_needed_36 : decode cX1_needed 36 = .ok (.ishl, 1) := dk_120 (dk_at dksX1_needed_1 12 rfl rfl)
theorem dX1_needed_37 : decode cX1_needed 37 = .ok (.if_icmp .ge 28, 3) := dk_162 0 28 (dk_at dksX1_needed_1 13 rfl rfl)
theorem dX1_needed_40 : decode cX1_needed 40 = .ok (.iload_n 3, 1) := dk_29 (dk_at dksX1_needed_1 16 rfl rfl)
theorem dX1_needed_41 : decode cX1_needed 41 = .ok (.invokestatic 155, 3) := dk_184 0 155 (dk_at dksX1_needed_1 17 rfl rfl)
theorem dX1_needed_44 : decode cX1_needed 44 = .ok (.iload_n 2, 1) := dk_28 (dk_at dksX1_needed_1 20 rfl rfl)
theorem dX1_needed_45 : decode cX1_needed 45 = .ok (.if_icmp .ne 14, 3) := dk_160 0 14 (dk_at dksX1_needed_1 21 rfl rfl)
theorem dX1_needed_48 : decode cX1_needed 48 = .ok (.aload_n 0, 1) := dk_42 (dk_at dksX1_needed_2 0 rfl rfl)
theorem dX1_needed_49 : decode cX1_needed 49 = .ok (.iload_n 3, 1) := dk_29 (dk_at dksX1_needed_2 1 rfl rfl)
theorem dX1_needed_50 : decode cX1_needed 50 = .ok (.invokevirtual 160, 3) := dk_182 0 160 (dk_at dksX1_needed_2 2 rfl rfl)
theorem dX1_needed_53 : decode cX1_needed 53 = .ok (.iload_n 1, 1) := dk_27 (dk_at dksX1_needed_2 5 rfl rfl)
theorem dX1_needed_54 : decode cX1_needed 54 = .ok (.if_icmp .le 5, 3) := dk_164 0 5 (dk_at dksX1_needed_2 6 rfl rfl)
theorem dX1_needed_57 : decode cX1_needed 57 = .ok (.iload_n 3, 1) := dk_29 (dk_at dksX1_needed_2 9 rfl rfl)
theorem dX1_needed_58 : decode cX1_needed 58 = .ok (.ireturn, 1) := dk_172 (dk_at dksX1_needed_2 10 rfl rfl)
theorem dX1_needed_59 : decode cX1_needed 59 = .ok (.iinc 3 1, 3) := dk_132 3 1 (dk_at dksX1_needed_2 11 rfl rfl)
theorem dX1_needed_62 : decode cX1_needed 62 = .ok (.goto (-37), 3) := dk_167 255 219 (dk_at dksX1_needed_2 14 rfl rfl)
theorem dX1_needed_65 : decode cX1_needed 65 = .ok (.iinc 2 1, 3) := dk_132 2 1 (dk_at dksX1_needed_2 17 rfl rfl)
theorem dX1_needed_68 : decode cX1_needed 68 = .ok (.goto (-58), 3) := dk_167 255 198 (dk_at dksX1_needed_2 20 rfl rfl)
theorem dX1_needed_71 : decode cX1_needed 71 = .ok (.iconst (-1), 1) := dk_2 (dk_at dksX1_needed_2 23 rfl rfl)
theorem dX1_needed_72 : decode cX1_needed 72 = .ok (.ireturn, 1) := dk_172 (dk_at dksX1_needed_3 0 rfl rfl)
abbrev cX1_partGap : ByteArray := prog_1_method_22_code
def yX1_partGap : MethodName := ⟨RX1, "partGap", "(I)I"⟩
def dkwX1_partGap_3 : List UInt8 := [180, 0, 23, 3, 182, 0, 151, 172]
abbrev dktX1_partGap_3 : List UInt8 := dkwX1_partGap_3 ++ []
def dkwX1_partGap_2 : List UInt8 := [192, 0, 77, 185, 0, 103, 2, 0, 87, 132, 3, 1, 167, 255, 211, 42, 180, 0, 23, 44, 182, 0, 165, 42]
abbrev dktX1_partGap_2 : List UInt8 := dkwX1_partGap_2 ++ dktX1_partGap_3
def dkwX1_partGap_1 : List UInt8 := [162, 0, 38, 27, 29, 122, 4, 126, 4, 160, 0, 23, 44, 42, 180, 0, 12, 29, 185, 0, 73, 2, 0]
abbrev dktX1_partGap_1 : List UInt8 := dkwX1_partGap_1 ++ dktX1_partGap_2
def dkwX1_partGap_0 : List UInt8 := [187, 0, 9, 89, 16, 7, 183, 0, 163, 77, 3, 62, 29, 42, 180, 0, 12, 185, 0, 62, 1, 0]
abbrev dktX1_partGap_0 : List UInt8 := dkwX1_partGap_0 ++ dktX1_partGap_1
theorem dksX1_partGap_0 : cX1_partGap.data.toList.drop 0 = dktX1_partGap_0 := by decide +kernel
theorem dksX1_partGap_1 : cX1_partGap.data.toList.drop 22 = dktX1_partGap_1 := dk_seg dksX1_partGap_0 22 rfl rfl
theorem dksX1_partGap_2 : cX1_partGap.data.toList.drop 45 = dktX1_partGap_2 := dk_seg dksX1_partGap_1 23 rfl rfl
theorem dksX1_partGap_3 : cX1_partGap.data.toList.drop 69 = dktX1_partGap_3 := dk_seg dksX1_partGap_2 24 rfl rfl
theorem dX1_partGap_0 : decode cX1_partGap 0 = .ok (.new 9, 3) := dk_187 0 9 (dk_at dksX1_partGap_0 0 rfl rfl)
theorem dX1_partGap_3 : decode cX1_partGap 3 = .ok (.dup, 1) := dk_89 (dk_at dksX1_partGap_0 3 rfl rfl)
theorem dX1_partGap_4 : decode cX1_partGap 4 = .ok (.bipush 7, 2) := dk_16 7 (dk_at dksX1_partGap_0 4 rfl rfl)
theorem dX1_partGap_6 : decode cX1_partGap 6 = .ok (.invokespecial 163, 3) := dk_183 0 163 (dk_at dksX1_partGap_0 6 rfl rfl)
theorem dX1_partGap_9 : decode cX1_partGap 9 = .ok (.astore_n 2, 1) := dk_77 (dk_at dksX1_partGap_0 9 rfl rfl)
theorem dX1_partGap_10 : decode cX1_partGap 10 = .ok (.iconst 0, 1) := dk_3 (dk_at dksX1_partGap_0 10 rfl rfl)
theorem dX1_partGap_11 : decode cX1_partGap 11 = .ok (.istore_n 3, 1) := dk_62 (dk_at dksX1_partGap_0 11 rfl rfl)
theorem dX1_partGap_12 : decode cX1_partGap 12 = .ok (.iload_n 3, 1) := dk_29 (dk_at dksX1_partGap_0 12 rfl rfl)
theorem dX1_partGap_13 : decode cX1_partGap 13 = .ok (.aload_n 0, 1) := dk_42 (dk_at dksX1_partGap_0 13 rfl rfl)
theorem dX1_partGap_14 : decode cX1_partGap 14 = .ok (.getfield 12, 3) := dk_180 0 12 (dk_at dksX1_partGap_0 14 rfl rfl)
theorem dX1_partGap_17 : decode cX1_partGap 17 = .ok (.invokeinterface 62 1, 5) := by decide +kernel
theorem dX1_partGap_22 : decode cX1_partGap 22 = .ok (.if_icmp .ge 38, 3) := dk_162 0 38 (dk_at dksX1_partGap_1 0 rfl rfl)
theorem dX1_partGap_25 : decode cX1_partGap 25 = .ok (.iload_n 1, 1) := dk_27 (dk_at dksX1_partGap_1 3 rfl rfl)
theorem dX1_partGap_26 : decode cX1_partGap 26 = .ok (.iload_n 3, 1) := dk_29 (dk_at dksX1_partGap_1 4 rfl rfl)
theorem dX1_partGap_27 : decode cX1_partGap 27 = .ok (.ishr, 1) := dk_122 (dk_at dksX1_partGap_1 5 rfl rfl)
theorem dX1_partGap_28 : decode cX1_partGap 28 = .ok (.iconst 1, 1) := dk_4 (dk_at dksX1_partGap_1 6 rfl rfl)
theorem dX1_partGap_29 : decode cX1_partGap 29 = .ok (.iand, 1) := dk_126 (dk_at dksX1_partGap_1 7 rfl rfl)
theorem dX1_partGap_30 : decode cX1_partGap 30 = .ok (.iconst 1, 1) := dk_4 (dk_at dksX1_partGap_1 8 rfl rfl)
theorem dX1_partGap_31 : decode cX1_partGap 31 = .ok (.if_icmp .ne 23, 3) := dk_160 0 23 (dk_at dksX1_partGap_1 9 rfl rfl)
theorem dX1_partGap_34 : decode cX1_partGap 34 = .ok (.aload_n 2, 1) := dk_44 (dk_at dksX1_partGap_1 12 rfl rfl)
theorem dX1_partGap_35 : decode cX1_partGap 35 = .ok (.aload_n 0, 1) := dk_42 (dk_at dksX1_partGap_1 13 rfl rfl)
theorem dX1_partGap_36 : decode cX1_partGap 36 = .ok (.getfield 12, 3) := dk_180 0 12 (dk_at dksX1_partGap_1 14 rfl rfl)
theorem dX1_partGap_39 : decode cX1_partGap 39 = .ok (.iload_n 3, 1) := dk_29 (dk_at dksX1_partGap_1 17 rfl rfl)
theorem dX1_partGap_40 : decode cX1_partGap 40 = .ok (.invokeinterface 73 2, 5) := by decide +kernel
theorem dX1_partGap_45 : decode cX1_partGap 45 = .ok (.checkcast 77, 3) := dk_192 0 77 (dk_at dksX1_partGap_2 0 rfl rfl)
theorem dX1_partGap_48 : decode cX1_partGap 48 = .ok (.invokeinterface 103 2, 5) := by decide +kernel
theorem dX1_partGap_53 : decode cX1_partGap 53 = .ok (.pop, 1) := dk_87 (dk_at dksX1_partGap_2 8 rfl rfl)
theorem dX1_partGap_54 : decode cX1_partGap 54 = .ok (.iinc 3 1, 3) := dk_132 3 1 (dk_at dksX1_partGap_2 9 rfl rfl)
theorem dX1_partGap_57 : decode cX1_partGap 57 = .ok (.goto (-45), 3) := dk_167 255 211 (dk_at dksX1_partGap_2 12 rfl rfl)
theorem dX1_partGap_60 : decode cX1_partGap 60 = .ok (.aload_n 0, 1) := dk_42 (dk_at dksX1_partGap_2 15 rfl rfl)
theorem dX1_partGap_61 : decode cX1_partGap 61 = .ok (.getfield 23, 3) := dk_180 0 23 (dk_at dksX1_partGap_2 16 rfl rfl)
theorem dX1_partGap_64 : decode cX1_partGap 64 = .ok (.aload_n 2, 1) := dk_44 (dk_at dksX1_partGap_2 19 rfl rfl)
theorem dX1_partGap_65 : decode cX1_partGap 65 = .ok (.invokevirtual 165, 3) := dk_182 0 165 (dk_at dksX1_partGap_2 20 rfl rfl)
theorem dX1_partGap_68 : decode cX1_partGap 68 = .ok (.aload_n 0, 1) := dk_42 (dk_at dksX1_partGap_2 23 rfl rfl)
theorem dX1_partGap_69 : decode cX1_partGap 69 = .ok (.getfield 23, 3) := dk_180 0 23 (dk_at dksX1_partGap_3 0 rfl rfl)
theorem dX1_partGap_72 : decode cX1_partGap 72 = .ok (.iconst 0, 1) := dk_3 (dk_at dksX1_partGap_3 3 rfl rfl)
theorem dX1_partGap_73 : decode cX1_partGap 73 = .ok (.invokevirtual 151, 3) := dk_182 0 151 (dk_at dksX1_partGap_3 4 rfl rfl)
theorem dX1_partGap_76 : decode cX1_partGap 76 = .ok (.ireturn, 1) := dk_172 (dk_at dksX1_partGap_3 7 rfl rfl)
abbrev cX1_bestMore : ByteArray := prog_1_method_23_code
def yX1_bestMore : MethodName := ⟨RX1, "bestMore", "()I"⟩
def dkwX1_bestMore_3 : List UInt8 := [62, 132, 4, 1, 167, 255, 217, 28, 172]
abbrev dktX1_bestMore_3 : List UInt8 := dkwX1_bestMore_3 ++ []
def dkwX1_bestMore_2 : List UInt8 := [182, 0, 151, 54, 5, 21, 5, 29, 164, 0, 8, 21, 4, 167, 0, 4, 28, 61, 29, 21, 5, 184, 0, 168]
abbrev dktX1_bestMore_2 : List UInt8 := dkwX1_bestMore_2 ++ dktX1_bestMore_3
def dkwX1_bestMore_1 : List UInt8 := [42, 182, 0, 83, 76, 4, 61, 3, 62, 4, 54, 4, 21, 4, 17, 1, 244, 163, 0, 37, 43, 21, 4]
abbrev dktX1_bestMore_1 : List UInt8 := dkwX1_bestMore_1 ++ dktX1_bestMore_2
def dkwX1_bestMore_0 : List UInt8 := [42, 180, 0, 12, 185, 0, 62, 1, 0, 16, 7, 160, 0, 13, 187, 0, 95, 89, 18, 97, 183, 0, 99, 191]
abbrev dktX1_bestMore_0 : List UInt8 := dkwX1_bestMore_0 ++ dktX1_bestMore_1
theorem dksX1_bestMore_0 : cX1_bestMore.data.toList.drop 0 = dktX1_bestMore_0 := by decide +kernel
theorem dksX1_bestMore_1 : cX1_bestMore.data.toList.drop 24 = dktX1_bestMore_1 := dk_seg dksX1_bestMore_0 24 rfl rfl
theorem dksX1_bestMore_2 : cX1_bestMore.data.toList.drop 47 = dktX1_bestMore_2 := dk_seg dksX1_bestMore_1 23 rfl rfl
theorem dksX1_bestMore_3 : cX1_bestMore.data.toList.drop 71 = dktX1_bestMore_3 := dk_seg dksX1_bestMore_2 24 rfl rfl
theorem dX1_bestMore_0 : decode cX1_bestMore 0 = .ok (.aload_n 0, 1) := dk_42 (dk_at dksX1_bestMore_0 0 rfl rfl)
theorem dX1_bestMore_1 : decode cX1_bestMore 1 = .ok (.getfield 12, 3) := dk_180 0 12 (dk_at dksX1_bestMore_0 1 rfl rfl)
theorem dX1_bestMore_4 : decode cX1_bestMore 4 = .ok (.invokeinterface 62 1, 5) := by decide +kernel
theorem dX1_bestMore_9 : decode cX1_bestMore 9 = .ok (.bipush 7, 2) := dk_16 7 (dk_at dksX1_bestMore_0 9 rfl rfl)
theorem dX1_bestMore_11 : decode cX1_bestMore 11 = .ok (.if_icmp .ne 13, 3) := dk_160 0 13 (dk_at dksX1_bestMore_0 11 rfl rfl)
theorem dX1_bestMore_14 : decode cX1_bestMore 14 = .ok (.new 95, 3) := dk_187 0 95 (dk_at dksX1_bestMore_0 14 rfl rfl)
theorem dX1_bestMore_17 : decode cX1_bestMore 17 = .ok (.dup, 1) := dk_89 (dk_at dksX1_bestMore_0 17 rfl rfl)
theorem dX1_bestMore_18 : decode cX1_bestMore 18 = .ok (.ldc 97, 2) := dk_18 97 (dk_at dksX1_bestMore_0 18 rfl rfl)
theorem dX1_bestMore_20 : decode cX1_bestMore 20 = .ok (.invokespecial 99, 3) := dk_183 0 99 (dk_at dksX1_bestMore_0 20 rfl rfl)
theorem dX1_bestMore_23 : decode cX1_bestMore 23 = .ok (.athrow, 1) := dk_191 (dk_at dksX1_bestMore_0 23 rfl rfl)
theorem dX1_bestMore_24 : decode cX1_bestMore 24 = .ok (.aload_n 0, 1) := dk_42 (dk_at dksX1_bestMore_1 0 rfl rfl)
theorem dX1_bestMore_25 : decode cX1_bestMore 25 = .ok (.invokevirtual 83, 3) := dk_182 0 83 (dk_at dksX1_bestMore_1 1 rfl rfl)
theorem dX1_bestMore_28 : decode cX1_bestMore 28 = .ok (.astore_n 1, 1) := dk_76 (dk_at dksX1_bestMore_1 4 rfl rfl)
theorem dX1_bestMore_29 : decode cX1_bestMore 29 = .ok (.iconst 1, 1) := dk_4 (dk_at dksX1_bestMore_1 5 rfl rfl)
theorem dX1_bestMore_30 : decode cX1_bestMore 30 = .ok (.istore_n 2, 1) := dk_61 (dk_at dksX1_bestMore_1 6 rfl rfl)
theorem dX1_bestMore_31 : decode cX1_bestMore 31 = .ok (.iconst 0, 1) := dk_3 (dk_at dksX1_bestMore_1 7 rfl rfl)
theorem dX1_bestMore_32 : decode cX1_bestMore 32 = .ok (.istore_n 3, 1) := dk_62 (dk_at dksX1_bestMore_1 8 rfl rfl)
theorem dX1_bestMore_33 : decode cX1_bestMore 33 = .ok (.iconst 1, 1) := dk_4 (dk_at dksX1_bestMore_1 9 rfl rfl)
theorem dX1_bestMore_34 : decode cX1_bestMore 34 = .ok (.istore 4, 2) := dk_54 4 (dk_at dksX1_bestMore_1 10 rfl rfl)
theorem dX1_bestMore_36 : decode cX1_bestMore 36 = .ok (.iload 4, 2) := dk_21 4 (dk_at dksX1_bestMore_1 12 rfl rfl)
theorem dX1_bestMore_38 : decode cX1_bestMore 38 = .ok (.sipush 500, 3) := dk_17 1 244 (dk_at dksX1_bestMore_1 14 rfl rfl)
theorem dX1_bestMore_41 : decode cX1_bestMore 41 = .ok (.if_icmp .gt 37, 3) := dk_163 0 37 (dk_at dksX1_bestMore_1 17 rfl rfl)
theorem dX1_bestMore_44 : decode cX1_bestMore 44 = .ok (.aload_n 1, 1) := dk_43 (dk_at dksX1_bestMore_1 20 rfl rfl)
theorem dX1_bestMore_45 : decode cX1_bestMore 45 = .ok (.iload 4, 2) := dk_21 4 (dk_at dksX1_bestMore_1 21 rfl rfl)
theorem dX1_bestMore_47 : decode cX1_bestMore 47 = .ok (.invokevirtual 151, 3) := dk_182 0 151 (dk_at dksX1_bestMore_2 0 rfl rfl)
theorem dX1_bestMore_50 : decode cX1_bestMore 50 = .ok (.istore 5, 2) := dk_54 5 (dk_at dksX1_bestMore_2 3 rfl rfl)
theorem dX1_bestMore_52 : decode cX1_bestMore 52 = .ok (.iload 5, 2) := dk_21 5 (dk_at dksX1_bestMore_2 5 rfl rfl)
theorem dX1_bestMore_54 : decode cX1_bestMore 54 = .ok (.iload_n 3, 1) := dk_29 (dk_at dksX1_bestMore_2 7 rfl rfl)
theorem dX1_bestMore_55 : decode cX1_bestMore 55 = .ok (.if_icmp .le 8, 3) := dk_164 0 8 (dk_at dksX1_bestMore_2 8 rfl rfl)
theorem dX1_bestMore_58 : decode cX1_bestMore 58 = .ok (.iload 4, 2) := dk_21 4 (dk_at dksX1_bestMore_2 11 rfl rfl)
theorem dX1_bestMore_60 : decode cX1_bestMore 60 = .ok (.goto 4, 3) := dk_167 0 4 (dk_at dksX1_bestMore_2 13 rfl rfl)
theorem dX1_bestMore_63 : decode cX1_bestMore 63 = .ok (.iload_n 2, 1) := dk_28 (dk_at dksX1_bestMore_2 16 rfl rfl)
theorem dX1_bestMore_64 : decode cX1_bestMore 64 = .ok (.istore_n 2, 1) := dk_61 (dk_at dksX1_bestMore_2 17 rfl rfl)
theorem dX1_bestMore_65 : decode cX1_bestMore 65 = .ok (.iload_n 3, 1) := dk_29 (dk_at dksX1_bestMore_2 18 rfl rfl)
theorem dX1_bestMore_66 : decode cX1_bestMore 66 = .ok (.iload 5, 2) := dk_21 5 (dk_at dksX1_bestMore_2 19 rfl rfl)
theorem dX1_bestMore_68 : decode cX1_bestMore 68 = .ok (.invokestatic 168, 3) := dk_184 0 168 (dk_at dksX1_bestMore_2 21 rfl rfl)
theorem dX1_bestMore_71 : decode cX1_bestMore 71 = .ok (.istore_n 3, 1) := dk_62 (dk_at dksX1_bestMore_3 0 rfl rfl)
theorem dX1_bestMore_72 : decode cX1_bestMore 72 = .ok (.iinc 4 1, 3) := dk_132 4 1 (dk_at dksX1_bestMore_3 1 rfl rfl)
theorem dX1_bestMore_75 : decode cX1_bestMore 75 = .ok (.goto (-39), 3) := dk_167 255 217 (dk_at dksX1_bestMore_3 4 rfl rfl)
theorem dX1_bestMore_78 : decode cX1_bestMore 78 = .ok (.iload_n 2, 1) := dk_28 (dk_at dksX1_bestMore_3 7 rfl rfl)
theorem dX1_bestMore_79 : decode cX1_bestMore 79 = .ok (.ireturn, 1) := dk_172 (dk_at dksX1_bestMore_3 8 rfl rfl)
abbrev cX1_lay : ByteArray := prog_1_method_31_code
def yX1_lay : MethodName := ⟨RX1, "lay", "(I)I"⟩
def dkwX1_lay_1 : List UInt8 := [172]
abbrev dktX1_lay_1 : List UInt8 := dkwX1_lay_1 ++ []
def dkwX1_lay_0 : List UInt8 := [27, 6, 16, 9, 184, 0, 79, 42, 27, 182, 0, 35, 42, 42, 180, 0, 173, 42, 180, 0, 176, 182, 0, 193]
abbrev dktX1_lay_0 : List UInt8 := dkwX1_lay_0 ++ dktX1_lay_1
theorem dksX1_lay_0 : cX1_lay.data.toList.drop 0 = dktX1_lay_0 := by decide +kernel
theorem dksX1_lay_1 : cX1_lay.data.toList.drop 24 = dktX1_lay_1 := dk_seg dksX1_lay_0 24 rfl rfl
theorem dX1_lay_0 : decode cX1_lay 0 = .ok (.iload_n 1, 1) := dk_27 (dk_at dksX1_lay_0 0 rfl rfl)
theorem dX1_lay_1 : decode cX1_lay 1 = .ok (.iconst 3, 1) := dk_6 (dk_at dksX1_lay_0 1 rfl rfl)
theorem dX1_lay_2 : decode cX1_lay 2 = .ok (.bipush 9, 2) := dk_16 9 (dk_at dksX1_lay_0 2 rfl rfl)
theorem dX1_lay_4 : decode cX1_lay 4 = .ok (.invokestatic 79, 3) := dk_184 0 79 (dk_at dksX1_lay_0 4 rfl rfl)
theorem dX1_lay_7 : decode cX1_lay 7 = .ok (.aload_n 0, 1) := dk_42 (dk_at dksX1_lay_0 7 rfl rfl)
theorem dX1_lay_8 : decode cX1_lay 8 = .ok (.iload_n 1, 1) := dk_27 (dk_at dksX1_lay_0 8 rfl rfl)
theorem dX1_lay_9 : decode cX1_lay 9 = .ok (.invokevirtual 35, 3) := dk_182 0 35 (dk_at dksX1_lay_0 9 rfl rfl)
theorem dX1_lay_12 : decode cX1_lay 12 = .ok (.aload_n 0, 1) := dk_42 (dk_at dksX1_lay_0 12 rfl rfl)
theorem dX1_lay_13 : decode cX1_lay 13 = .ok (.aload_n 0, 1) := dk_42 (dk_at dksX1_lay_0 13 rfl rfl)
theorem dX1_lay_14 : decode cX1_lay 14 = .ok (.getfield 173, 3) := dk_180 0 173 (dk_at dksX1_lay_0 14 rfl rfl)
theorem dX1_lay_17 : decode cX1_lay 17 = .ok (.aload_n 0, 1) := dk_42 (dk_at dksX1_lay_0 17 rfl rfl)
theorem dX1_lay_18 : decode cX1_lay 18 = .ok (.getfield 176, 3) := dk_180 0 176 (dk_at dksX1_lay_0 18 rfl rfl)
theorem dX1_lay_21 : decode cX1_lay 21 = .ok (.invokevirtual 193, 3) := dk_182 0 193 (dk_at dksX1_lay_0 21 rfl rfl)
theorem dX1_lay_24 : decode cX1_lay 24 = .ok (.ireturn, 1) := dk_172 (dk_at dksX1_lay_1 0 rfl rfl)
abbrev cX1_weigh : ByteArray := prog_1_method_32_code
def yX1_weigh : MethodName := ⟨RX1, "weigh", "(III)I"⟩
def dkwX1_weigh_2 : List UInt8 := [42, 21, 4, 181, 0, 173, 42, 21, 5, 181, 0, 176, 42, 182, 0, 207, 172]
abbrev dktX1_weigh_2 : List UInt8 := dkwX1_weigh_2 ++ []
def dkwX1_weigh_1 : List UInt8 := [29, 182, 0, 202, 54, 5, 21, 4, 21, 5, 128, 154, 0, 13, 187, 0, 95, 89, 18, 205, 183, 0, 99, 191]
abbrev dktX1_weigh_1 : List UInt8 := dkwX1_weigh_1 ++ dktX1_weigh_2
def dkwX1_weigh_0 : List UInt8 := [29, 2, 4, 184, 0, 79, 42, 27, 28, 182, 0, 196, 42, 27, 28, 29, 182, 0, 199, 54, 4, 42, 27, 28]
abbrev dktX1_weigh_0 : List UInt8 := dkwX1_weigh_0 ++ dktX1_weigh_1
theorem dksX1_weigh_0 : cX1_weigh.data.toList.drop 0 = dktX1_weigh_0 := by decide +kernel
theorem dksX1_weigh_1 : cX1_weigh.data.toList.drop 24 = dktX1_weigh_1 := dk_seg dksX1_weigh_0 24 rfl rfl
theorem dksX1_weigh_2 : cX1_weigh.data.toList.drop 48 = dktX1_weigh_2 := dk_seg dksX1_weigh_1 24 rfl rfl
theorem dX1_weigh_0 : decode cX1_weigh 0 = .ok (.iload_n 3, 1) := dk_29 (dk_at dksX1_weigh_0 0 rfl rfl)
theorem dX1_weigh_1 : decode cX1_weigh 1 = .ok (.iconst (-1), 1) := dk_2 (dk_at dksX1_weigh_0 1 rfl rfl)
theorem dX1_weigh_2 : decode cX1_weigh 2 = .ok (.iconst 1, 1) := dk_4 (dk_at dksX1_weigh_0 2 rfl rfl)
theorem dX1_weigh_3 : decode cX1_weigh 3 = .ok (.invokestatic 79, 3) := dk_184 0 79 (dk_at dksX1_weigh_0 3 rfl rfl)
theorem dX1_weigh_6 : decode cX1_weigh 6 = .ok (.aload_n 0, 1) := dk_42 (dk_at dksX1_weigh_0 6 rfl rfl)
theorem dX1_weigh_7 : decode cX1_weigh 7 = .ok (.iload_n 1, 1) := dk_27 (dk_at dksX1_weigh_0 7 rfl rfl)
theorem dX1_weigh_8 : decode cX1_weigh 8 = .ok (.iload_n 2, 1) := dk_28 (dk_at dksX1_weigh_0 8 rfl rfl)
theorem dX1_weigh_9 : decode cX1_weigh 9 = .ok (.invokevirtual 196, 3) := dk_182 0 196 (dk_at dksX1_weigh_0 9 rfl rfl)
theorem dX1_weigh_12 : decode cX1_weigh 12 = .ok (.aload_n 0, 1) := dk_42 (dk_at dksX1_weigh_0 12 rfl rfl)
theorem dX1_weigh_13 : decode cX1_weigh 13 = .ok (.iload_n 1, 1) := dk_27 (dk_at dksX1_weigh_0 13 rfl rfl)
theorem dX1_weigh_14 : decode cX1_weigh 14 = .ok (.iload_n 2, 1) := dk_28 (dk_at dksX1_weigh_0 14 rfl rfl)
theorem dX1_weigh_15 : decode cX1_weigh 15 = .ok (.iload_n 3, 1) := dk_29 (dk_at dksX1_weigh_0 15 rfl rfl)
theorem dX1_weigh_16 : decode cX1_weigh 16 = .ok (.invokevirtual 199, 3) := dk_182 0 199 (dk_at dksX1_weigh_0 16 rfl rfl)
theorem dX1_weigh_19 : decode cX1_weigh 19 = .ok (.istore 4, 2) := dk_54 4 (dk_at dksX1_weigh_0 19 rfl rfl)
theorem dX1_weigh_21 : decode cX1_weigh 21 = .ok (.aload_n 0, 1) := dk_42 (dk_at dksX1_weigh_0 21 rfl rfl)
theorem dX1_weigh_22 : decode cX1_weigh 22 = .ok (.iload_n 1, 1) := dk_27 (dk_at dksX1_weigh_0 22 rfl rfl)
theorem dX1_weigh_23 : decode cX1_weigh 23 = .ok (.iload_n 2, 1) := dk_28 (dk_at dksX1_weigh_0 23 rfl rfl)
theorem dX1_weigh_24 : decode cX1_weigh 24 = .ok (.iload_n 3, 1) := dk_29 (dk_at dksX1_weigh_1 0 rfl rfl)
theorem dX1_weigh_25 : decode cX1_weigh 25 = .ok (.invokevirtual 202, 3) := dk_182 0 202 (dk_at dksX1_weigh_1 1 rfl rfl)
theorem dX1_weigh_28 : decode cX1_weigh 28 = .ok (.istore 5, 2) := dk_54 5 (dk_at dksX1_weigh_1 4 rfl rfl)
theorem dX1_weigh_30 : decode cX1_weigh 30 = .ok (.iload 4, 2) := dk_21 4 (dk_at dksX1_weigh_1 6 rfl rfl)
theorem dX1_weigh_32 : decode cX1_weigh 32 = .ok (.iload 5, 2) := dk_21 5 (dk_at dksX1_weigh_1 8 rfl rfl)
theorem dX1_weigh_34 : decode cX1_weigh 34 = .ok (.ior, 1) := dk_128 (dk_at dksX1_weigh_1 10 rfl rfl)
theorem dX1_weigh_35 : decode cX1_weigh 35 = .ok (.ifCond .ne 13, 3) := dk_154 0 13 (dk_at dksX1_weigh_1 11 rfl rfl)
theorem dX1_weigh_38 : decode cX1_weigh 38 = .ok (.new 95, 3) := dk_187 0 95 (dk_at dksX1_weigh_1 14 rfl rfl)
theorem dX1_weigh_41 : decode cX1_weigh 41 = .ok (.dup, 1) := dk_89 (dk_at dksX1_weigh_1 17 rfl rfl)
theorem dX1_weigh_42 : decode cX1_weigh 42 = .ok (.ldc 205, 2) := dk_18 205 (dk_at dksX1_weigh_1 18 rfl rfl)
theorem dX1_weigh_44 : decode cX1_weigh 44 = .ok (.invokespecial 99, 3) := dk_183 0 99 (dk_at dksX1_weigh_1 20 rfl rfl)
theorem dX1_weigh_47 : decode cX1_weigh 47 = .ok (.athrow, 1) := dk_191 (dk_at dksX1_weigh_1 23 rfl rfl)
theorem dX1_weigh_48 : decode cX1_weigh 48 = .ok (.aload_n 0, 1) := dk_42 (dk_at dksX1_weigh_2 0 rfl rfl)
theorem dX1_weigh_49 : decode cX1_weigh 49 = .ok (.iload 4, 2) := dk_21 4 (dk_at dksX1_weigh_2 1 rfl rfl)
theorem dX1_weigh_51 : decode cX1_weigh 51 = .ok (.putfield 173, 3) := dk_181 0 173 (dk_at dksX1_weigh_2 3 rfl rfl)
theorem dX1_weigh_54 : decode cX1_weigh 54 = .ok (.aload_n 0, 1) := dk_42 (dk_at dksX1_weigh_2 6 rfl rfl)
theorem dX1_weigh_55 : decode cX1_weigh 55 = .ok (.iload 5, 2) := dk_21 5 (dk_at dksX1_weigh_2 7 rfl rfl)
theorem dX1_weigh_57 : decode cX1_weigh 57 = .ok (.putfield 176, 3) := dk_181 0 176 (dk_at dksX1_weigh_2 9 rfl rfl)
theorem dX1_weigh_60 : decode cX1_weigh 60 = .ok (.aload_n 0, 1) := dk_42 (dk_at dksX1_weigh_2 12 rfl rfl)
theorem dX1_weigh_61 : decode cX1_weigh 61 = .ok (.invokevirtual 207, 3) := dk_182 0 207 (dk_at dksX1_weigh_2 13 rfl rfl)
theorem dX1_weigh_64 : decode cX1_weigh 64 = .ok (.ireturn, 1) := dk_172 (dk_at dksX1_weigh_2 16 rfl rfl)
abbrev cX1_isWeighing : ByteArray := prog_1_method_28_code
def yX1_isWeighing : MethodName := ⟨RX1, "isWeighing", "(II)V"⟩
def dkwX1_isWeighing_3 : List UInt8 := [183, 0, 59, 191, 177]
abbrev dktX1_isWeighing_3 : List UInt8 := dkwX1_isWeighing_3 ++ []
def dkwX1_isWeighing_2 : List UInt8 := [21, 4, 153, 0, 14, 27, 184, 0, 155, 28, 184, 0, 155, 159, 0, 13, 187, 0, 39, 89, 18, 191]
abbrev dktX1_isWeighing_2 : List UInt8 := dkwX1_isWeighing_2 ++ dktX1_isWeighing_3
def dkwX1_isWeighing_1 : List UInt8 := [154, 0, 21, 28, 29, 2, 130, 126, 154, 0, 13, 27, 28, 126, 154, 0, 7, 4, 167, 0, 4, 3, 54, 4]
abbrev dktX1_isWeighing_1 : List UInt8 := dkwX1_isWeighing_1 ++ dktX1_isWeighing_2
def dkwX1_isWeighing_0 : List UInt8 := [4, 42, 180, 0, 26, 120, 4, 100, 62, 27, 158, 0, 33, 28, 158, 0, 29, 27, 29, 2, 130, 126]
abbrev dktX1_isWeighing_0 : List UInt8 := dkwX1_isWeighing_0 ++ dktX1_isWeighing_1
theorem dksX1_isWeighing_0 : cX1_isWeighing.data.toList.drop 0 = dktX1_isWeighing_0 := by decide +kernel
theorem dksX1_isWeighing_1 : cX1_isWeighing.data.toList.drop 22 = dktX1_isWeighing_1 := dk_seg dksX1_isWeighing_0 22 rfl rfl
theorem dksX1_isWeighing_2 : cX1_isWeighing.data.toList.drop 46 = dktX1_isWeighing_2 := dk_seg dksX1_isWeighing_1 24 rfl rfl
theorem dksX1_isWeighing_3 : cX1_isWeighing.data.toList.drop 68 = dktX1_isWeighing_3 := dk_seg dksX1_isWeighing_2 22 rfl rfl
theorem dX1_isWeighing_0 : decode cX1_isWeighing 0 = .ok (.iconst 1, 1) := dk_4 (dk_at dksX1_isWeighing_0 0 rfl rfl)
theorem dX1_isWeighing_1 : decode cX1_isWeighing 1 = .ok (.aload_n 0, 1) := dk_42 (dk_at dksX1_isWeighing_0 1 rfl rfl)
theorem dX1_isWeighing_2 : decode cX1_isWeighing 2 = .ok (.getfield 26, 3) := dk_180 0 26 (dk_at dksX1_isWeighing_0 2 rfl rfl)
theorem dX1_isWeighing_5 : decode cX1_isWeighing 5 = .ok (.ishl, 1) := dk_120 (dk_at dksX1_isWeighing_0 5 rfl rfl)
theorem dX1_isWeighing_6 : decode cX1_isWeighing 6 = .ok (.iconst 1, 1) := dk_4 (dk_at dksX1_isWeighing_0 6 rfl rfl)
theorem dX1_isWeighing_7 : decode cX1_isWeighing 7 = .ok (.isub, 1) := dk_100 (dk_at dksX1_isWeighing_0 7 rfl rfl)
theorem dX1_isWeighing_8 : decode cX1_isWeighing 8 = .ok (.istore_n 3, 1) := dk_62 (dk_at dksX1_isWeighing_0 8 rfl rfl)
theorem dX1_isWeighing_9 : decode cX1_isWeighing 9 = .ok (.iload_n 1, 1) := dk_27 (dk_at dksX1_isWeighing_0 9 rfl rfl)
theorem dX1_isWeighing_10 : decode cX1_isWeighing 10 = .ok (.ifCond .le 33, 3) := dk_158 0 33 (dk_at dksX1_isWeighing_0 10 rfl rfl)
theorem dX1_isWeighing_13 : decode cX1_isWeighing 13 = .ok (.iload_n 2, 1) := dk_28 (dk_at dksX1_isWeighing_0 13 rfl rfl)
theorem dX1_isWeighing_14 : decode cX1_isWeighing 14 = .ok (.ifCond .le 29, 3) := dk_158 0 29 (dk_at dksX1_isWeighing_0 14 rfl rfl)
theorem dX1_isWeighing_17 : decode cX1_isWeighing 17 = .ok (.iload_n 1, 1) := dk_27 (dk_at dksX1_isWeighing_0 17 rfl rfl)
theorem dX1_isWeighing_18 : decode cX1_isWeighing 18 = .ok (.iload_n 3, 1) := dk_29 (dk_at dksX1_isWeighing_0 18 rfl rfl)
theorem dX1_isWeighing_19 : decode cX1_isWeighing 19 = .ok (.iconst (-1), 1) := dk_2 (dk_at dksX1_isWeighing_0 19 rfl rfl)
theorem dX1_isWeighing_20 : decode cX1_isWeighing 20 = .ok (.ixor, 1) := dk_130 (dk_at dksX1_isWeighing_0 20 rfl rfl)
theorem dX1_isWeighing_21 : decode cX1_isWeighing 21 = .ok (.iand, 1) := dk_126 (dk_at dksX1_isWeighing_0 21 rfl rfl)
theorem dX1_isWeighing_22 : decode cX1_isWeighing 22 = .ok (.ifCond .ne 21, 3) := dk_154 0 21 (dk_at dksX1_isWeighing_1 0 rfl rfl)
theorem dX1_isWeighing_25 : decode cX1_isWeighing 25 = .ok (.iload_n 2, 1) := dk_28 (dk_at dksX1_isWeighing_1 3 rfl rfl)
theorem dX1_isWeighing_26 : decode cX1_isWeighing 26 = .ok (.iload_n 3, 1) := dk_29 (dk_at dksX1_isWeighing_1 4 rfl rfl)
theorem dX1_isWeighing_27 : decode cX1_isWeighing 27 = .ok (.iconst (-1), 1) := dk_2 (dk_at dksX1_isWeighing_1 5 rfl rfl)
theorem dX1_isWeighing_28 : decode cX1_isWeighing 28 = .ok (.ixor, 1) := dk_130 (dk_at dksX1_isWeighing_1 6 rfl rfl)
theorem dX1_isWeighing_29 : decode cX1_isWeighing 29 = .ok (.iand, 1) := dk_126 (dk_at dksX1_isWeighing_1 7 rfl rfl)
theorem dX1_isWeighing_30 : decode cX1_isWeighing 30 = .ok (.ifCond .ne 13, 3) := dk_154 0 13 (dk_at dksX1_isWeighing_1 8 rfl rfl)
theorem dX1_isWeighing_33 : decode cX1_isWeighing 33 = .ok (.iload_n 1, 1) := dk_27 (dk_at dksX1_isWeighing_1 11 rfl rfl)
theorem dX1_isWeighing_34 : decode cX1_isWeighing 34 = .ok (.iload_n 2, 1) := dk_28 (dk_at dksX1_isWeighing_1 12 rfl rfl)
theorem dX1_isWeighing_35 : decode cX1_isWeighing 35 = .ok (.iand, 1) := dk_126 (dk_at dksX1_isWeighing_1 13 rfl rfl)
theorem dX1_isWeighing_36 : decode cX1_isWeighing 36 = .ok (.ifCond .ne 7, 3) := dk_154 0 7 (dk_at dksX1_isWeighing_1 14 rfl rfl)
theorem dX1_isWeighing_39 : decode cX1_isWeighing 39 = .ok (.iconst 1, 1) := dk_4 (dk_at dksX1_isWeighing_1 17 rfl rfl)
theorem dX1_isWeighing_40 : decode cX1_isWeighing 40 = .ok (.goto 4, 3) := dk_167 0 4 (dk_at dksX1_isWeighing_1 18 rfl rfl)
theorem dX1_isWeighing_43 : decode cX1_isWeighing 43 = .ok (.iconst 0, 1) := dk_3 (dk_at dksX1_isWeighing_1 21 rfl rfl)
theorem dX1_isWeighing_44 : decode cX1_isWeighing 44 = .ok (.istore 4, 2) := dk_54 4 (dk_at dksX1_isWeighing_1 22 rfl rfl)
theorem dX1_isWeighing_46 : decode cX1_isWeighing 46 = .ok (.iload 4, 2) := dk_21 4 (dk_at dksX1_isWeighing_2 0 rfl rfl)
theorem dX1_isWeighing_48 : decode cX1_isWeighing 48 = .ok (.ifCond .eq 14, 3) := dk_153 0 14 (dk_at dksX1_isWeighing_2 2 rfl rfl)
theorem dX1_isWeighing_51 : decode cX1_isWeighing 51 = .ok (.iload_n 1, 1) := dk_27 (dk_at dksX1_isWeighing_2 5 rfl rfl)
theorem dX1_isWeighing_52 : decode cX1_isWeighing 52 = .ok (.invokestatic 155, 3) := dk_184 0 155 (dk_at dksX1_isWeighing_2 6 rfl rfl)
theorem dX1_isWeighing_55 : decode cX1_isWeighing 55 = .ok (.iload_n 2, 1) := dk_28 (dk_at dksX1_isWeighing_2 9 rfl rfl)
theorem dX1_isWeighing_56 : decode cX1_isWeighing 56 = .ok (.invokestatic 155, 3) := dk_184 0 155 (dk_at dksX1_isWeighing_2 10 rfl rfl)
theorem dX1_isWeighing_59 : decode cX1_isWeighing 59 = .ok (.if_icmp .eq 13, 3) := dk_159 0 13 (dk_at dksX1_isWeighing_2 13 rfl rfl)
theorem dX1_isWeighing_62 : decode cX1_isWeighing 62 = .ok (.new 39, 3) := dk_187 0 39 (dk_at dksX1_isWeighing_2 16 rfl rfl)
theorem dX1_isWeighing_65 : decode cX1_isWeighing 65 = .ok (.dup, 1) := dk_89 (dk_at dksX1_isWeighing_2 19 rfl rfl)
theorem dX1_isWeighing_66 : decode cX1_isWeighing 66 = .ok (.ldc 191, 2) := dk_18 191 (dk_at dksX1_isWeighing_2 20 rfl rfl)
theorem dX1_isWeighing_68 : decode cX1_isWeighing 68 = .ok (.invokespecial 59, 3) := dk_183 0 59 (dk_at dksX1_isWeighing_3 0 rfl rfl)
theorem dX1_isWeighing_71 : decode cX1_isWeighing 71 = .ok (.athrow, 1) := dk_191 (dk_at dksX1_isWeighing_3 3 rfl rfl)
theorem dX1_isWeighing_72 : decode cX1_isWeighing 72 = .ok (.return_, 1) := dk_177 (dk_at dksX1_isWeighing_3 4 rfl rfl)
abbrev cX1_heavyBehind : ByteArray := prog_1_method_29_code
def yX1_heavyBehind : MethodName := ⟨RX1, "heavyBehind", "(III)I"⟩
def dkwX1_heavyBehind_1 : List UInt8 := [167, 0, 4, 28, 126, 172]
abbrev dktX1_heavyBehind_1 : List UInt8 := dkwX1_heavyBehind_1 ++ []
def dkwX1_heavyBehind_0 : List UInt8 := [42, 180, 0, 173, 29, 4, 160, 0, 7, 27, 167, 0, 16, 29, 154, 0, 11, 27, 28, 128, 2, 130]
abbrev dktX1_heavyBehind_0 : List UInt8 := dkwX1_heavyBehind_0 ++ dktX1_heavyBehind_1
theorem dksX1_heavyBehind_0 : cX1_heavyBehind.data.toList.drop 0 = dktX1_heavyBehind_0 := by decide +kernel
theorem dksX1_heavyBehind_1 : cX1_heavyBehind.data.toList.drop 22 = dktX1_heavyBehind_1 := dk_seg dksX1_heavyBehind_0 22 rfl rfl
theorem dX1_heavyBehind_0 : decode cX1_heavyBehind 0 = .ok (.aload_n 0, 1) := dk_42 (dk_at dksX1_heavyBehind_0 0 rfl rfl)
theorem dX1_heavyBehind_1 : decode cX1_heavyBehind 1 = .ok (.getfield 173, 3) := dk_180 0 173 (dk_at dksX1_heavyBehind_0 1 rfl rfl)
theorem dX1_heavyBehind_4 : decode cX1_heavyBehind 4 = .ok (.iload_n 3, 1) := dk_29 (dk_at dksX1_heavyBehind_0 4 rfl rfl)
theorem dX1_heavyBehind_5 : decode cX1_heavyBehind 5 = .ok (.iconst 1, 1) := dk_4 (dk_at dksX1_heavyBehind_0 5 rfl rfl)
theorem dX1_heavyBehind_6 : decode cX1_heavyBehind 6 = .ok (.if_icmp .ne 7, 3) := dk_160 0 7 (dk_at dksX1_heavyBehind_0 6 rfl rfl)
theorem dX1_heavyBehind_9 : decode cX1_heavyBehind 9 = .ok (.iload_n 1, 1) := dk_27 (dk_at dksX1_heavyBehind_0 9 rfl rfl)
theorem dX1_heavyBehind_10 : decode cX1_heavyBehind 10 = .ok (.goto 16, 3) := dk_167 0 16 (dk_at dksX1_heavyBehind_0 10 rfl rfl)
theorem dX1_heavyBehind_13 : decode cX1_heavyBehind 13 = .ok (.iload_n 3, 1) := dk_29 (dk_at dksX1_heavyBehind_0 13 rfl rfl)
theorem dX1_heavyBehind_14 : decode cX1_heavyBehind 14 = .ok (.ifCond .ne 11, 3) := dk_154 0 11 (dk_at dksX1_heavyBehind_0 14 rfl rfl)
theorem dX1_heavyBehind_17 : decode cX1_heavyBehind 17 = .ok (.iload_n 1, 1) := dk_27 (dk_at dksX1_heavyBehind_0 17 rfl rfl)
theorem dX1_heavyBehind_18 : decode cX1_heavyBehind 18 = .ok (.iload_n 2, 1) := dk_28 (dk_at dksX1_heavyBehind_0 18 rfl rfl)
theorem dX1_heavyBehind_19 : decode cX1_heavyBehind 19 = .ok (.ior, 1) := dk_128 (dk_at dksX1_heavyBehind_0 19 rfl rfl)
theorem dX1_heavyBehind_20 : decode cX1_heavyBehind 20 = .ok (.iconst (-1), 1) := dk_2 (dk_at dksX1_heavyBehind_0 20 rfl rfl)
theorem dX1_heavyBehind_21 : decode cX1_heavyBehind 21 = .ok (.ixor, 1) := dk_130 (dk_at dksX1_heavyBehind_0 21 rfl rfl)
theorem dX1_heavyBehind_22 : decode cX1_heavyBehind 22 = .ok (.goto 4, 3) := dk_167 0 4 (dk_at dksX1_heavyBehind_1 0 rfl rfl)
theorem dX1_heavyBehind_25 : decode cX1_heavyBehind 25 = .ok (.iload_n 2, 1) := dk_28 (dk_at dksX1_heavyBehind_1 3 rfl rfl)
theorem dX1_heavyBehind_26 : decode cX1_heavyBehind 26 = .ok (.iand, 1) := dk_126 (dk_at dksX1_heavyBehind_1 4 rfl rfl)
theorem dX1_heavyBehind_27 : decode cX1_heavyBehind 27 = .ok (.ireturn, 1) := dk_172 (dk_at dksX1_heavyBehind_1 5 rfl rfl)
abbrev cX1_lightBehind : ByteArray := prog_1_method_30_code
def yX1_lightBehind : MethodName := ⟨RX1, "lightBehind", "(III)I"⟩
def dkwX1_lightBehind_1 : List UInt8 := [167, 0, 4, 27, 126, 172]
abbrev dktX1_lightBehind_1 : List UInt8 := dkwX1_lightBehind_1 ++ []
def dkwX1_lightBehind_0 : List UInt8 := [42, 180, 0, 176, 29, 4, 160, 0, 7, 28, 167, 0, 16, 29, 154, 0, 11, 27, 28, 128, 2, 130]
abbrev dktX1_lightBehind_0 : List UInt8 := dkwX1_lightBehind_0 ++ dktX1_lightBehind_1
theorem dksX1_lightBehind_0 : cX1_lightBehind.data.toList.drop 0 = dktX1_lightBehind_0 := by decide +kernel
theorem dksX1_lightBehind_1 : cX1_lightBehind.data.toList.drop 22 = dktX1_lightBehind_1 := dk_seg dksX1_lightBehind_0 22 rfl rfl
theorem dX1_lightBehind_0 : decode cX1_lightBehind 0 = .ok (.aload_n 0, 1) := dk_42 (dk_at dksX1_lightBehind_0 0 rfl rfl)
theorem dX1_lightBehind_1 : decode cX1_lightBehind 1 = .ok (.getfield 176, 3) := dk_180 0 176 (dk_at dksX1_lightBehind_0 1 rfl rfl)
theorem dX1_lightBehind_4 : decode cX1_lightBehind 4 = .ok (.iload_n 3, 1) := dk_29 (dk_at dksX1_lightBehind_0 4 rfl rfl)
theorem dX1_lightBehind_5 : decode cX1_lightBehind 5 = .ok (.iconst 1, 1) := dk_4 (dk_at dksX1_lightBehind_0 5 rfl rfl)
theorem dX1_lightBehind_6 : decode cX1_lightBehind 6 = .ok (.if_icmp .ne 7, 3) := dk_160 0 7 (dk_at dksX1_lightBehind_0 6 rfl rfl)
theorem dX1_lightBehind_9 : decode cX1_lightBehind 9 = .ok (.iload_n 2, 1) := dk_28 (dk_at dksX1_lightBehind_0 9 rfl rfl)
theorem dX1_lightBehind_10 : decode cX1_lightBehind 10 = .ok (.goto 16, 3) := dk_167 0 16 (dk_at dksX1_lightBehind_0 10 rfl rfl)
theorem dX1_lightBehind_13 : decode cX1_lightBehind 13 = .ok (.iload_n 3, 1) := dk_29 (dk_at dksX1_lightBehind_0 13 rfl rfl)
theorem dX1_lightBehind_14 : decode cX1_lightBehind 14 = .ok (.ifCond .ne 11, 3) := dk_154 0 11 (dk_at dksX1_lightBehind_0 14 rfl rfl)
theorem dX1_lightBehind_17 : decode cX1_lightBehind 17 = .ok (.iload_n 1, 1) := dk_27 (dk_at dksX1_lightBehind_0 17 rfl rfl)
theorem dX1_lightBehind_18 : decode cX1_lightBehind 18 = .ok (.iload_n 2, 1) := dk_28 (dk_at dksX1_lightBehind_0 18 rfl rfl)
theorem dX1_lightBehind_19 : decode cX1_lightBehind 19 = .ok (.ior, 1) := dk_128 (dk_at dksX1_lightBehind_0 19 rfl rfl)
theorem dX1_lightBehind_20 : decode cX1_lightBehind 20 = .ok (.iconst (-1), 1) := dk_2 (dk_at dksX1_lightBehind_0 20 rfl rfl)
theorem dX1_lightBehind_21 : decode cX1_lightBehind 21 = .ok (.ixor, 1) := dk_130 (dk_at dksX1_lightBehind_0 21 rfl rfl)
theorem dX1_lightBehind_22 : decode cX1_lightBehind 22 = .ok (.goto 4, 3) := dk_167 0 4 (dk_at dksX1_lightBehind_1 0 rfl rfl)
theorem dX1_lightBehind_25 : decode cX1_lightBehind 25 = .ok (.iload_n 1, 1) := dk_27 (dk_at dksX1_lightBehind_1 3 rfl rfl)
theorem dX1_lightBehind_26 : decode cX1_lightBehind 26 = .ok (.iand, 1) := dk_126 (dk_at dksX1_lightBehind_1 4 rfl rfl)
theorem dX1_lightBehind_27 : decode cX1_lightBehind 27 = .ok (.ireturn, 1) := dk_172 (dk_at dksX1_lightBehind_1 5 rfl rfl)
abbrev cX1_mayBe : ByteArray := prog_1_method_35_code
def yX1_mayBe : MethodName := ⟨RX1, "mayBe", "(IZ)Z"⟩
def dkwX1_mayBe_2 : List UInt8 := [167, 0, 7, 42, 180, 0, 176, 27, 122, 4, 126, 4, 160, 0, 7, 4, 167, 0, 4, 3, 172]
abbrev dktX1_mayBe_2 : List UInt8 := dkwX1_mayBe_2 ++ []
def dkwX1_mayBe_1 : List UInt8 := [18, 210, 182, 0, 50, 27, 182, 0, 44, 182, 0, 55, 183, 0, 72, 191, 28, 153, 0, 10, 42, 180, 0, 173]
abbrev dktX1_mayBe_1 : List UInt8 := dkwX1_mayBe_1 ++ dktX1_mayBe_2
def dkwX1_mayBe_0 : List UInt8 := [27, 155, 0, 11, 27, 42, 180, 0, 26, 161, 0, 30, 187, 0, 68, 89, 187, 0, 41, 89, 183, 0, 43]
abbrev dktX1_mayBe_0 : List UInt8 := dkwX1_mayBe_0 ++ dktX1_mayBe_1
theorem dksX1_mayBe_0 : cX1_mayBe.data.toList.drop 0 = dktX1_mayBe_0 := by decide +kernel
theorem dksX1_mayBe_1 : cX1_mayBe.data.toList.drop 23 = dktX1_mayBe_1 := dk_seg dksX1_mayBe_0 23 rfl rfl
theorem dksX1_mayBe_2 : cX1_mayBe.data.toList.drop 47 = dktX1_mayBe_2 := dk_seg dksX1_mayBe_1 24 rfl rfl
theorem dX1_mayBe_0 : decode cX1_mayBe 0 = .ok (.iload_n 1, 1) := dk_27 (dk_at dksX1_mayBe_0 0 rfl rfl)
theorem dX1_mayBe_1 : decode cX1_mayBe 1 = .ok (.ifCond .lt 11, 3) := dk_155 0 11 (dk_at dksX1_mayBe_0 1 rfl rfl)
theorem dX1_mayBe_4 : decode cX1_mayBe 4 = .ok (.iload_n 1, 1) := dk_27 (dk_at dksX1_mayBe_0 4 rfl rfl)
theorem dX1_mayBe_5 : decode cX1_mayBe 5 = .ok (.aload_n 0, 1) := dk_42 (dk_at dksX1_mayBe_0 5 rfl rfl)
theorem dX1_mayBe_6 : decode cX1_mayBe 6 = .ok (.getfield 26, 3) := dk_180 0 26 (dk_at dksX1_mayBe_0 6 rfl rfl)
theorem dX1_mayBe_9 : decode cX1_mayBe 9 = .ok (.if_icmp .lt 30, 3) := dk_161 0 30 (dk_at dksX1_mayBe_0 9 rfl rfl)
theorem dX1_mayBe_12 : decode cX1_mayBe 12 = .ok (.new 68, 3) := dk_187 0 68 (dk_at dksX1_mayBe_0 12 rfl rfl)
theorem dX1_mayBe_15 : decode cX1_mayBe 15 = .ok (.dup, 1) := dk_89 (dk_at dksX1_mayBe_0 15 rfl rfl)
theorem dX1_mayBe_16 : decode cX1_mayBe 16 = .ok (.new 41, 3) := dk_187 0 41 (dk_at dksX1_mayBe_0 16 rfl rfl)
theorem dX1_mayBe_19 : decode cX1_mayBe 19 = .ok (.dup, 1) := dk_89 (dk_at dksX1_mayBe_0 19 rfl rfl)
theorem dX1_mayBe_20 : decode cX1_mayBe 20 = .ok (.invokespecial 43, 3) := dk_183 0 43 (dk_at dksX1_mayBe_0 20 rfl rfl)
theorem dX1_mayBe_23 : decode cX1_mayBe 23 = .ok (.ldc 210, 2) := dk_18 210 (dk_at dksX1_mayBe_1 0 rfl rfl)
theorem dX1_mayBe_25 : decode cX1_mayBe 25 = .ok (.invokevirtual 50, 3) := dk_182 0 50 (dk_at dksX1_mayBe_1 2 rfl rfl)
theorem dX1_mayBe_28 : decode cX1_mayBe 28 = .ok (.iload_n 1, 1) := dk_27 (dk_at dksX1_mayBe_1 5 rfl rfl)
theorem dX1_mayBe_29 : decode cX1_mayBe 29 = .ok (.invokevirtual 44, 3) := dk_182 0 44 (dk_at dksX1_mayBe_1 6 rfl rfl)
theorem dX1_mayBe_32 : decode cX1_mayBe 32 = .ok (.invokevirtual 55, 3) := dk_182 0 55 (dk_at dksX1_mayBe_1 9 rfl rfl)
theorem dX1_mayBe_35 : decode cX1_mayBe 35 = .ok (.invokespecial 72, 3) := dk_183 0 72 (dk_at dksX1_mayBe_1 12 rfl rfl)
theorem dX1_mayBe_38 : decode cX1_mayBe 38 = .ok (.athrow, 1) := dk_191 (dk_at dksX1_mayBe_1 15 rfl rfl)
theorem dX1_mayBe_39 : decode cX1_mayBe 39 = .ok (.iload_n 2, 1) := dk_28 (dk_at dksX1_mayBe_1 16 rfl rfl)
theorem dX1_mayBe_40 : decode cX1_mayBe 40 = .ok (.ifCond .eq 10, 3) := dk_153 0 10 (dk_at dksX1_mayBe_1 17 rfl rfl)
theorem dX1_mayBe_43 : decode cX1_mayBe 43 = .ok (.aload_n 0, 1) := dk_42 (dk_at dksX1_mayBe_1 20 rfl rfl)
theorem dX1_mayBe_44 : decode cX1_mayBe 44 = .ok (.getfield 173, 3) := dk_180 0 173 (dk_at dksX1_mayBe_1 21 rfl rfl)
theorem dX1_mayBe_47 : decode cX1_mayBe 47 = .ok (.goto 7, 3) := dk_167 0 7 (dk_at dksX1_mayBe_2 0 rfl rfl)
theorem dX1_mayBe_50 : decode cX1_mayBe 50 = .ok (.aload_n 0, 1) := dk_42 (dk_at dksX1_mayBe_2 3 rfl rfl)
theorem dX1_mayBe_51 : decode cX1_mayBe 51 = .ok (.getfield 176, 3) := dk_180 0 176 (dk_at dksX1_mayBe_2 4 rfl rfl)
theorem dX1_mayBe_54 : decode cX1_mayBe 54 = .ok (.iload_n 1, 1) := dk_27 (dk_at dksX1_mayBe_2 7 rfl rfl)
theorem dX1_mayBe_55 : decode cX1_mayBe 55 = .ok (.ishr, 1) := dk_122 (dk_at dksX1_mayBe_2 8 rfl rfl)
theorem dX1_mayBe_56 : decode cX1_mayBe 56 = .ok (.iconst 1, 1) := dk_4 (dk_at dksX1_mayBe_2 9 rfl rfl)
theorem dX1_mayBe_57 : decode cX1_mayBe 57 = .ok (.iand, 1) := dk_126 (dk_at dksX1_mayBe_2 10 rfl rfl)
theorem dX1_mayBe_58 : decode cX1_mayBe 58 = .ok (.iconst 1, 1) := dk_4 (dk_at dksX1_mayBe_2 11 rfl rfl)
theorem dX1_mayBe_59 : decode cX1_mayBe 59 = .ok (.if_icmp .ne 7, 3) := dk_160 0 7 (dk_at dksX1_mayBe_2 12 rfl rfl)
theorem dX1_mayBe_62 : decode cX1_mayBe 62 = .ok (.iconst 1, 1) := dk_4 (dk_at dksX1_mayBe_2 15 rfl rfl)
theorem dX1_mayBe_63 : decode cX1_mayBe 63 = .ok (.goto 4, 3) := dk_167 0 4 (dk_at dksX1_mayBe_2 16 rfl rfl)
theorem dX1_mayBe_66 : decode cX1_mayBe 66 = .ok (.iconst 0, 1) := dk_3 (dk_at dksX1_mayBe_2 19 rfl rfl)
theorem dX1_mayBe_67 : decode cX1_mayBe 67 = .ok (.ireturn, 1) := dk_172 (dk_at dksX1_mayBe_2 20 rfl rfl)
abbrev cX1_faulty : ByteArray := prog_1_method_36_code
def yX1_faulty : MethodName := ⟨RX1, "faulty", "()I"⟩
def dkwX1_faulty_1 : List UInt8 := [180, 0, 176, 128, 184, 0, 214, 172]
abbrev dktX1_faulty_1 : List UInt8 := dkwX1_faulty_1 ++ []
def dkwX1_faulty_0 : List UInt8 := [42, 182, 0, 207, 4, 159, 0, 13, 187, 0, 143, 89, 18, 212, 183, 0, 147, 191, 42, 180, 0, 173, 42]
abbrev dktX1_faulty_0 : List UInt8 := dkwX1_faulty_0 ++ dktX1_faulty_1
theorem dksX1_faulty_0 : cX1_faulty.data.toList.drop 0 = dktX1_faulty_0 := by decide +kernel
theorem dksX1_faulty_1 : cX1_faulty.data.toList.drop 23 = dktX1_faulty_1 := dk_seg dksX1_faulty_0 23 rfl rfl
theorem dX1_faulty_0 : decode cX1_faulty 0 = .ok (.aload_n 0, 1) := dk_42 (dk_at dksX1_faulty_0 0 rfl rfl)
theorem dX1_faulty_1 : decode cX1_faulty 1 = .ok (.invokevirtual 207, 3) := dk_182 0 207 (dk_at dksX1_faulty_0 1 rfl rfl)
theorem dX1_faulty_4 : decode cX1_faulty 4 = .ok (.iconst 1, 1) := dk_4 (dk_at dksX1_faulty_0 4 rfl rfl)
theorem dX1_faulty_5 : decode cX1_faulty 5 = .ok (.if_icmp .eq 13, 3) := dk_159 0 13 (dk_at dksX1_faulty_0 5 rfl rfl)
theorem dX1_faulty_8 : decode cX1_faulty 8 = .ok (.new 143, 3) := dk_187 0 143 (dk_at dksX1_faulty_0 8 rfl rfl)
theorem dX1_faulty_11 : decode cX1_faulty 11 = .ok (.dup, 1) := dk_89 (dk_at dksX1_faulty_0 11 rfl rfl)
theorem dX1_faulty_12 : decode cX1_faulty 12 = .ok (.ldc 212, 2) := dk_18 212 (dk_at dksX1_faulty_0 12 rfl rfl)
theorem dX1_faulty_14 : decode cX1_faulty 14 = .ok (.invokespecial 147, 3) := dk_183 0 147 (dk_at dksX1_faulty_0 14 rfl rfl)
theorem dX1_faulty_17 : decode cX1_faulty 17 = .ok (.athrow, 1) := dk_191 (dk_at dksX1_faulty_0 17 rfl rfl)
theorem dX1_faulty_18 : decode cX1_faulty 18 = .ok (.aload_n 0, 1) := dk_42 (dk_at dksX1_faulty_0 18 rfl rfl)
theorem dX1_faulty_19 : decode cX1_faulty 19 = .ok (.getfield 173, 3) := dk_180 0 173 (dk_at dksX1_faulty_0 19 rfl rfl)
theorem dX1_faulty_22 : decode cX1_faulty 22 = .ok (.aload_n 0, 1) := dk_42 (dk_at dksX1_faulty_0 22 rfl rfl)
theorem dX1_faulty_23 : decode cX1_faulty 23 = .ok (.getfield 176, 3) := dk_180 0 176 (dk_at dksX1_faulty_1 0 rfl rfl)
theorem dX1_faulty_26 : decode cX1_faulty 26 = .ok (.ior, 1) := dk_128 (dk_at dksX1_faulty_1 3 rfl rfl)
theorem dX1_faulty_27 : decode cX1_faulty 27 = .ok (.invokestatic 214, 3) := dk_184 0 214 (dk_at dksX1_faulty_1 4 rfl rfl)
theorem dX1_faulty_30 : decode cX1_faulty 30 = .ok (.ireturn, 1) := dk_172 (dk_at dksX1_faulty_1 7 rfl rfl)
abbrev cX1_isGood : ByteArray := prog_1_method_39_code
def yX1_isGood : MethodName := ⟨RX1, "isGood", "(II)Z"⟩
def dkwX1_isGood_0 : List UInt8 := [42, 27, 28, 182, 0, 196, 42, 27, 28, 42, 182, 0, 217, 182, 0, 220, 172]
abbrev dktX1_isGood_0 : List UInt8 := dkwX1_isGood_0 ++ []
theorem dksX1_isGood_0 : cX1_isGood.data.toList.drop 0 = dktX1_isGood_0 := by decide +kernel
theorem dX1_isGood_0 : decode cX1_isGood 0 = .ok (.aload_n 0, 1) := dk_42 (dk_at dksX1_isGood_0 0 rfl rfl)
theorem dX1_isGood_1 : decode cX1_isGood 1 = .ok (.iload_n 1, 1) := dk_27 (dk_at dksX1_isGood_0 1 rfl rfl)
theorem dX1_isGood_2 : decode cX1_isGood 2 = .ok (.iload_n 2, 1) := dk_28 (dk_at dksX1_isGood_0 2 rfl rfl)
theorem dX1_isGood_3 : decode cX1_isGood 3 = .ok (.invokevirtual 196, 3) := dk_182 0 196 (dk_at dksX1_isGood_0 3 rfl rfl)
theorem dX1_isGood_6 : decode cX1_isGood 6 = .ok (.aload_n 0, 1) := dk_42 (dk_at dksX1_isGood_0 6 rfl rfl)
theorem dX1_isGood_7 : decode cX1_isGood 7 = .ok (.iload_n 1, 1) := dk_27 (dk_at dksX1_isGood_0 7 rfl rfl)
theorem dX1_isGood_8 : decode cX1_isGood 8 = .ok (.iload_n 2, 1) := dk_28 (dk_at dksX1_isGood_0 8 rfl rfl)
theorem dX1_isGood_9 : decode cX1_isGood 9 = .ok (.aload_n 0, 1) := dk_42 (dk_at dksX1_isGood_0 9 rfl rfl)
theorem dX1_isGood_10 : decode cX1_isGood 10 = .ok (.invokevirtual 217, 3) := dk_182 0 217 (dk_at dksX1_isGood_0 10 rfl rfl)
theorem dX1_isGood_13 : decode cX1_isGood 13 = .ok (.invokevirtual 220, 3) := dk_182 0 220 (dk_at dksX1_isGood_0 13 rfl rfl)
theorem dX1_isGood_16 : decode cX1_isGood 16 = .ok (.ireturn, 1) := dk_172 (dk_at dksX1_isGood_0 16 rfl rfl)
abbrev cX1_isGoodFor : ByteArray := prog_1_method_38_code
def yX1_isGoodFor : MethodName := ⟨RX1, "isGoodFor", "(III)Z"⟩
def dkwX1_isGoodFor_2 : List UInt8 := [162, 0, 7, 4, 167, 0, 4, 3, 54, 4, 132, 5, 1, 167, 255, 211, 21, 4, 172]
abbrev dktX1_isGoodFor_2 : List UInt8 := dkwX1_isGoodFor_2 ++ []
def dkwX1_isGoodFor_1 : List UInt8 := [153, 0, 40, 42, 42, 27, 28, 21, 5, 182, 0, 199, 42, 27, 28, 21, 5, 182, 0, 202, 182, 0, 193, 29]
abbrev dktX1_isGoodFor_1 : List UInt8 := dkwX1_isGoodFor_1 ++ dktX1_isGoodFor_2
def dkwX1_isGoodFor_0 : List UInt8 := [29, 158, 0, 7, 4, 167, 0, 4, 3, 54, 4, 2, 54, 5, 21, 5, 4, 163, 0, 45, 21, 4]
abbrev dktX1_isGoodFor_0 : List UInt8 := dkwX1_isGoodFor_0 ++ dktX1_isGoodFor_1
theorem dksX1_isGoodFor_0 : cX1_isGoodFor.data.toList.drop 0 = dktX1_isGoodFor_0 := by decide +kernel
theorem dksX1_isGoodFor_1 : cX1_isGoodFor.data.toList.drop 22 = dktX1_isGoodFor_1 := dk_seg dksX1_isGoodFor_0 22 rfl rfl
theorem dksX1_isGoodFor_2 : cX1_isGoodFor.data.toList.drop 46 = dktX1_isGoodFor_2 := dk_seg dksX1_isGoodFor_1 24 rfl rfl
theorem dX1_isGoodFor_0 : decode cX1_isGoodFor 0 = .ok (.iload_n 3, 1) := dk_29 (dk_at dksX1_isGoodFor_0 0 rfl rfl)
theorem dX1_isGoodFor_1 : decode cX1_isGoodFor 1 = .ok (.ifCond .le 7, 3) := dk_158 0 7 (dk_at dksX1_isGoodFor_0 1 rfl rfl)
theorem dX1_isGoodFor_4 : decode cX1_isGoodFor 4 = .ok (.iconst 1, 1) := dk_4 (dk_at dksX1_isGoodFor_0 4 rfl rfl)
theorem dX1_isGoodFor_5 : decode cX1_isGoodFor 5 = .ok (.goto 4, 3) := dk_167 0 4 (dk_at dksX1_isGoodFor_0 5 rfl rfl)
theorem dX1_isGoodFor_8 : decode cX1_isGoodFor 8 = .ok (.iconst 0, 1) := dk_3 (dk_at dksX1_isGoodFor_0 8 rfl rfl)
theorem dX1_isGoodFor_9 : decode cX1_isGoodFor 9 = .ok (.istore 4, 2) := dk_54 4 (dk_at dksX1_isGoodFor_0 9 rfl rfl)
theorem dX1_isGoodFor_11 : decode cX1_isGoodFor 11 = .ok (.iconst (-1), 1) := dk_2 (dk_at dksX1_isGoodFor_0 11 rfl rfl)
theorem dX1_isGoodFor_12 : decode cX1_isGoodFor 12 = .ok (.istore 5, 2) := dk_54 5 (dk_at dksX1_isGoodFor_0 12 rfl rfl)
theorem dX1_isGoodFor_14 : decode cX1_isGoodFor 14 = .ok (.iload 5, 2) := dk_21 5 (dk_at dksX1_isGoodFor_0 14 rfl rfl)
theorem dX1_isGoodFor_16 : decode cX1_isGoodFor 16 = .ok (.iconst 1, 1) := dk_4 (dk_at dksX1_isGoodFor_0 16 rfl rfl)
theorem dX1_isGoodFor_17 : decode cX1_isGoodFor 17 = .ok (.if_icmp .gt 45, 3) := dk_163 0 45 (dk_at dksX1_isGoodFor_0 17 rfl rfl)
theorem dX1_isGoodFor_20 : decode cX1_isGoodFor 20 = .ok (.iload 4, 2) := dk_21 4 (dk_at dksX1_isGoodFor_0 20 rfl rfl)
theorem dX1_isGoodFor_22 : decode cX1_isGoodFor 22 = .ok (.ifCond .eq 40, 3) := dk_153 0 40 (dk_at dksX1_isGoodFor_1 0 rfl rfl)
theorem dX1_isGoodFor_25 : decode cX1_isGoodFor 25 = .ok (.aload_n 0, 1) := dk_42 (dk_at dksX1_isGoodFor_1 3 rfl rfl)
theorem dX1_isGoodFor_26 : decode cX1_isGoodFor 26 = .ok (.aload_n 0, 1) := dk_42 (dk_at dksX1_isGoodFor_1 4 rfl rfl)
theorem dX1_isGoodFor_27 : decode cX1_isGoodFor 27 = .ok (.iload_n 1, 1) := dk_27 (dk_at dksX1_isGoodFor_1 5 rfl rfl)
theorem dX1_isGoodFor_28 : decode cX1_isGoodFor 28 = .ok (.iload_n 2, 1) := dk_28 (dk_at dksX1_isGoodFor_1 6 rfl rfl)
theorem dX1_isGoodFor_29 : decode cX1_isGoodFor 29 = .ok (.iload 5, 2) := dk_21 5 (dk_at dksX1_isGoodFor_1 7 rfl rfl)
theorem dX1_isGoodFor_31 : decode cX1_isGoodFor 31 = .ok (.invokevirtual 199, 3) := dk_182 0 199 (dk_at dksX1_isGoodFor_1 9 rfl rfl)
theorem dX1_isGoodFor_34 : decode cX1_isGoodFor 34 = .ok (.aload_n 0, 1) := dk_42 (dk_at dksX1_isGoodFor_1 12 rfl rfl)
theorem dX1_isGoodFor_35 : decode cX1_isGoodFor 35 = .ok (.iload_n 1, 1) := dk_27 (dk_at dksX1_isGoodFor_1 13 rfl rfl)
theorem dX1_isGoodFor_36 : decode cX1_isGoodFor 36 = .ok (.iload_n 2, 1) := dk_28 (dk_at dksX1_isGoodFor_1 14 rfl rfl)
theorem dX1_isGoodFor_37 : decode cX1_isGoodFor 37 = .ok (.iload 5, 2) := dk_21 5 (dk_at dksX1_isGoodFor_1 15 rfl rfl)
theorem dX1_isGoodFor_39 : decode cX1_isGoodFor 39 = .ok (.invokevirtual 202, 3) := dk_182 0 202 (dk_at dksX1_isGoodFor_1 17 rfl rfl)
theorem dX1_isGoodFor_42 : decode cX1_isGoodFor 42 = .ok (.invokevirtual 193, 3) := dk_182 0 193 (dk_at dksX1_isGoodFor_1 20 rfl rfl)
theorem dX1_isGoodFor_45 : decode cX1_isGoodFor 45 = .ok (.iload_n 3, 1) := dk_29 (dk_at dksX1_isGoodFor_1 23 rfl rfl)
theorem dX1_isGoodFor_46 : decode cX1_isGoodFor 46 = .ok (.if_icmp .ge 7, 3) := dk_162 0 7 (dk_at dksX1_isGoodFor_2 0 rfl rfl)
theorem dX1_isGoodFor_49 : decode cX1_isGoodFor 49 = .ok (.iconst 1, 1) := dk_4 (dk_at dksX1_isGoodFor_2 3 rfl rfl)
theorem dX1_isGoodFor_50 : decode cX1_isGoodFor 50 = .ok (.goto 4, 3) := dk_167 0 4 (dk_at dksX1_isGoodFor_2 4 rfl rfl)
theorem dX1_isGoodFor_53 : decode cX1_isGoodFor 53 = .ok (.iconst 0, 1) := dk_3 (dk_at dksX1_isGoodFor_2 7 rfl rfl)
theorem dX1_isGoodFor_54 : decode cX1_isGoodFor 54 = .ok (.istore 4, 2) := dk_54 4 (dk_at dksX1_isGoodFor_2 8 rfl rfl)
theorem dX1_isGoodFor_56 : decode cX1_isGoodFor 56 = .ok (.iinc 5 1, 3) := dk_132 5 1 (dk_at dksX1_isGoodFor_2 10 rfl rfl)
theorem dX1_isGoodFor_59 : decode cX1_isGoodFor 59 = .ok (.goto (-45), 3) := dk_167 255 211 (dk_at dksX1_isGoodFor_2 13 rfl rfl)
theorem dX1_isGoodFor_62 : decode cX1_isGoodFor 62 = .ok (.iload 4, 2) := dk_21 4 (dk_at dksX1_isGoodFor_2 16 rfl rfl)
theorem dX1_isGoodFor_64 : decode cX1_isGoodFor 64 = .ok (.ireturn, 1) := dk_172 (dk_at dksX1_isGoodFor_2 18 rfl rfl)
abbrev cX1_goodLeft : ByteArray := prog_1_method_41_code
def yX1_goodLeft : MethodName := ⟨RX1, "goodLeft", "()I"⟩
def dkwX1_goodLeft_0 : List UInt8 := [42, 182, 0, 226, 16, 9, 122, 172]
abbrev dktX1_goodLeft_0 : List UInt8 := dkwX1_goodLeft_0 ++ []
theorem dksX1_goodLeft_0 : cX1_goodLeft.data.toList.drop 0 = dktX1_goodLeft_0 := by decide +kernel
theorem dX1_goodLeft_0 : decode cX1_goodLeft 0 = .ok (.aload_n 0, 1) := dk_42 (dk_at dksX1_goodLeft_0 0 rfl rfl)
theorem dX1_goodLeft_1 : decode cX1_goodLeft 1 = .ok (.invokevirtual 226, 3) := dk_182 0 226 (dk_at dksX1_goodLeft_0 1 rfl rfl)
theorem dX1_goodLeft_4 : decode cX1_goodLeft 4 = .ok (.bipush 9, 2) := dk_16 9 (dk_at dksX1_goodLeft_0 4 rfl rfl)
theorem dX1_goodLeft_6 : decode cX1_goodLeft 6 = .ok (.ishr, 1) := dk_122 (dk_at dksX1_goodLeft_0 6 rfl rfl)
theorem dX1_goodLeft_7 : decode cX1_goodLeft 7 = .ok (.ireturn, 1) := dk_172 (dk_at dksX1_goodLeft_0 7 rfl rfl)
abbrev cX1_goodWeighing : ByteArray := prog_1_method_40_code
def yX1_goodWeighing : MethodName := ⟨RX1, "goodWeighing", "()I"⟩
def dkwX1_goodWeighing_5 : List UInt8 := [154, 0, 13, 187, 0, 143, 89, 18, 224, 183, 0, 147, 191, 28, 172]
abbrev dktX1_goodWeighing_5 : List UInt8 := dkwX1_goodWeighing_5 ++ []
def dkwX1_goodWeighing_4 : List UInt8 := [167, 0, 21, 132, 5, 1, 167, 255, 192, 132, 4, 1, 167, 255, 172, 132, 3, 1, 167, 255, 153, 28]
abbrev dktX1_goodWeighing_4 : List UInt8 := dkwX1_goodWeighing_4 ++ dktX1_goodWeighing_5
def dkwX1_goodWeighing_3 : List UInt8 := [160, 0, 27, 42, 21, 4, 21, 5, 27, 182, 0, 220, 153, 0, 15, 21, 4, 16, 9, 120, 21, 5, 128, 61]
abbrev dktX1_goodWeighing_3 : List UInt8 := dkwX1_goodWeighing_3 ++ dktX1_goodWeighing_4
def dkwX1_goodWeighing_2 : List UInt8 := [21, 4, 184, 0, 155, 29, 160, 0, 50, 21, 4, 21, 5, 126, 154, 0, 36, 21, 5, 184, 0, 155, 29]
abbrev dktX1_goodWeighing_2 : List UInt8 := dkwX1_goodWeighing_2 ++ dktX1_goodWeighing_3
def dkwX1_goodWeighing_1 : List UInt8 := [4, 42, 180, 0, 26, 120, 162, 0, 79, 4, 54, 5, 21, 5, 4, 42, 180, 0, 26, 120, 162, 0, 59]
abbrev dktX1_goodWeighing_1 : List UInt8 := dkwX1_goodWeighing_1 ++ dktX1_goodWeighing_2
def dkwX1_goodWeighing_0 : List UInt8 := [42, 182, 0, 217, 60, 3, 61, 4, 62, 29, 42, 180, 0, 26, 5, 108, 163, 0, 99, 4, 54, 4, 21, 4]
abbrev dktX1_goodWeighing_0 : List UInt8 := dkwX1_goodWeighing_0 ++ dktX1_goodWeighing_1
theorem dksX1_goodWeighing_0 : cX1_goodWeighing.data.toList.drop 0 = dktX1_goodWeighing_0 := by decide +kernel
theorem dksX1_goodWeighing_1 : cX1_goodWeighing.data.toList.drop 24 = dktX1_goodWeighing_1 := dk_seg dksX1_goodWeighing_0 24 rfl rfl
theorem dksX1_goodWeighing_2 : cX1_goodWeighing.data.toList.drop 47 = dktX1_goodWeighing_2 := dk_seg dksX1_goodWeighing_1 23 rfl rfl
theorem dksX1_goodWeighing_3 : cX1_goodWeighing.data.toList.drop 70 = dktX1_goodWeighing_3 := dk_seg dksX1_goodWeighing_2 23 rfl rfl
theorem dksX1_goodWeighing_4 : cX1_goodWeighing.data.toList.drop 94 = dktX1_goodWeighing_4 := dk_seg dksX1_goodWeighing_3 24 rfl rfl
theorem dksX1_goodWeighing_5 : cX1_goodWeighing.data.toList.drop 116 = dktX1_goodWeighing_5 := dk_seg dksX1_goodWeighing_4 22 rfl rfl
theorem dX1_goodWeighing_0 : decode cX1_goodWeighing 0 = .ok (.aload_n 0, 1) := dk_42 (dk_at dksX1_goodWeighing_0 0 rfl rfl)
theorem dX1_goodWeighing_1 : decode cX1_goodWeighing 1 = .ok (.invokevirtual 217, 3) := dk_182 0 217 (dk_at dksX1_goodWeighing_0 1 rfl rfl)
theorem dX1_goodWeighing_4 : decode cX1_goodWeighing 4 = .ok (.istore_n 1, 1) := dk_60 (dk_at dksX1_goodWeighing_0 4 rfl rfl)
theorem dX1_goodWeighing_5 : decode cX1_goodWeighing 5 = .ok (.iconst 0, 1) := dk_3 (dk_at dksX1_goodWeighing_0 5 rfl rfl)
theorem dX1_goodWeighing_6 : decode cX1_goodWeighing 6 = .ok (.istore_n 2, 1) := dk_61 (dk_at dksX1_goodWeighing_0 6 rfl rfl)
theorem dX1_goodWeighing_7 : decode cX1_goodWeighing 7 = .ok (.iconst 1, 1) := dk_4 (dk_at dksX1_goodWeighing_0 7 rfl rfl)
theorem dX1_goodWeighing_8 : decode cX1_goodWeighing 8 = .ok (.istore_n 3, 1) := dk_62 (dk_at dksX1_goodWeighing_0 8 rfl rfl)
theorem dX1_goodWeighing_9 : decode cX1_goodWeighing 9 = .ok (.iload_n 3, 1) := dk_29 (dk_at dksX1_goodWeighing_0 9 rfl rfl)
theorem dX1_goodWeighing_10 : decode cX1_goodWeighing 10 = .ok (.aload_n 0, 1) := dk_42 (dk_at dksX1_goodWeighing_0 10 rfl rfl)
theorem dX1_goodWeighing_11 : decode cX1_goodWeighing 11 = .ok (.getfield 26, 3) := dk_180 0 26 (dk_at dksX1_goodWeighing_0 11 rfl rfl)
theorem dX1_goodWeighing_14 : decode cX1_goodWeighing 14 = .ok (.iconst 2, 1) := dk_5 (dk_at dksX1_goodWeighing_0 14 rfl rfl)
theorem dX1_goodWeighing_15 : decode cX1_goodWeighing 15 = .ok (.idiv, 1) := dk_108 (dk_at dksX1_goodWeighing_0 15 rfl rfl)
theorem dX1_goodWeighing_16 : decode cX1_goodWeighing 16 = .ok (.if_icmp .gt 99, 3) := dk_163 0 99 (dk_at dksX1_goodWeighing_0 16 rfl rfl)
theorem dX1_goodWeighing_19 : decode cX1_goodWeighing 19 = .ok (.iconst 1, 1) := dk_4 (dk_at dksX1_goodWeighing_0 19 rfl rfl)
theorem dX1_goodWeighing_20 : decode cX1_goodWeighing 20 = .ok (.istore 4, 2) := dk_54 4 (dk_at dksX1_goodWeighing_0 20 rfl rfl)
theorem dX1_goodWeighing_22 : decode cX1_goodWeighing 22 = .ok (.iload 4, 2) := dk_21 4 (dk_at dksX1_goodWeighing_0 22 rfl rfl)
theorem dX1_goodWeighing_24 : decode cX1_goodWeighing 24 = .ok (.iconst 1, 1) := dk_4 (dk_at dksX1_goodWeighing_1 0 rfl rfl)
theorem dX1_goodWeighing_25 : decode cX1_goodWeighing 25 = .ok (.aload_n 0, 1) := dk_42 (dk_at dksX1_goodWeighing_1 1 rfl rfl)
theorem dX1_goodWeighing_26 : decode cX1_goodWeighing 26 = .ok (.getfield 26, 3) := dk_180 0 26 (dk_at dksX1_goodWeighing_1 2 rfl rfl)
theorem dX1_goodWeighing_29 : decode cX1_goodWeighing 29 = .ok (.ishl, 1) := dk_120 (dk_at dksX1_goodWeighing_1 5 rfl rfl)
theorem dX1_goodWeighing_30 : decode cX1_goodWeighing 30 = .ok (.if_icmp .ge 79, 3) := dk_162 0 79 (dk_at dksX1_goodWeighing_1 6 rfl rfl)
theorem dX1_goodWeighing_33 : decode cX1_goodWeighing 33 = .ok (.iconst 1, 1) := dk_4 (dk_at dksX1_goodWeighing_1 9 rfl rfl)
theorem dX1_goodWeighing_34 : decode cX1_goodWeighing 34 = .ok (.istore 5, 2) := dk_54 5 (dk_at dksX1_goodWeighing_1 10 rfl rfl)
theorem dX1_goodWeighing_36 : decode cX1_goodWeighing 36 = .ok (.iload 5, 2) := dk_21 5 (dk_at dksX1_goodWeighing_1 12 rfl rfl)
theorem dX1_goodWeighing_38 : decode cX1_goodWeighing 38 = .ok (.iconst 1, 1) := dk_4 (dk_at dksX1_goodWeighing_1 14 rfl rfl)
theorem dX1_goodWeighing_39 : decode cX1_goodWeighing 39 = .ok (.aload_n 0, 1) := dk_42 (dk_at dksX1_goodWeighing_1 15 rfl rfl)
theorem dX1_goodWeighing_40 : decode cX1_goodWeighing 40 = .ok (.getfield 26, 3) := dk_180 0 26 (dk_at dksX1_goodWeighing_1 16 rfl rfl)
theorem dX1_goodWeighing_43 : decode cX1_goodWeighing 43 = .ok (.ishl, 1) := dk_120 (dk_at dksX1_goodWeighing_1 19 rfl rfl)
theorem dX1_goodWeighing_44 : decode cX1_goodWeighing 44 = .ok (.if_icmp .ge 59, 3) := dk_162 0 59 (dk_at dksX1_goodWeighing_1 20 rfl rfl)
theorem dX1_goodWeighing_47 : decode cX1_goodWeighing 47 = .ok (.iload 4, 2) := dk_21 4 (dk_at dksX1_goodWeighing_2 0 rfl rfl)
theorem dX1_goodWeighing_49 : decode cX1_goodWeighing 49 = .ok (.invokestatic 155, 3) := dk_184 0 155 (dk_at dksX1_goodWeighing_2 2 rfl rfl)
theorem dX1_goodWeighing_52 : decode cX1_goodWeighing 52 = .ok (.iload_n 3, 1) := dk_29 (dk_at dksX1_goodWeighing_2 5 rfl rfl)
theorem dX1_goodWeighing_53 : decode cX1_goodWeighing 53 = .ok (.if_icmp .ne 50, 3) := dk_160 0 50 (dk_at dksX1_goodWeighing_2 6 rfl rfl)
theorem dX1_goodWeighing_56 : decode cX1_goodWeighing 56 = .ok (.iload 4, 2) := dk_21 4 (dk_at dksX1_goodWeighing_2 9 rfl rfl)
theorem dX1_goodWeighing_58 : decode cX1_goodWeighing 58 = .ok (.iload 5, 2) := dk_21 5 (dk_at dksX1_goodWeighing_2 11 rfl rfl)
theorem dX1_goodWeighing_60 : decode cX1_goodWeighing 60 = .ok (.iand, 1) := dk_126 (dk_at dksX1_goodWeighing_2 13 rfl rfl)
theorem dX1_goodWeighing_61 : decode cX1_goodWeighing 61 = .ok (.ifCond .ne 36, 3) := dk_154 0 36 (dk_at dksX1_goodWeighing_2 14 rfl rfl)
theorem dX1_goodWeighing_64 : decode cX1_goodWeighing 64 = .ok (.iload 5, 2) := dk_21 5 (dk_at dksX1_goodWeighing_2 17 rfl rfl)
theorem dX1_goodWeighing_66 : decode cX1_goodWeighing 66 = .ok (.invokestatic 155, 3) := dk_184 0 155 (dk_at dksX1_goodWeighing_2 19 rfl rfl)
theorem dX1_goodWeighing_69 : decode cX1_goodWeighing 69 = .ok (.iload_n 3, 1) := dk_29 (dk_at dksX1_goodWeighing_2 22 rfl rfl)
theorem dX1_goodWeighing_70 : decode cX1_goodWeighing 70 = .ok (.if_icmp .ne 27, 3) := dk_160 0 27 (dk_at dksX1_goodWeighing_3 0 rfl rfl)
theorem dX1_goodWeighing_73 : decode cX1_goodWeighing 73 = .ok (.aload_n 0, 1) := dk_42 (dk_at dksX1_goodWeighing_3 3 rfl rfl)
theorem dX1_goodWeighing_74 : decode cX1_goodWeighing 74 = .ok (.iload 4, 2) := dk_21 4 (dk_at dksX1_goodWeighing_3 4 rfl rfl)
theorem dX1_goodWeighing_76 : decode cX1_goodWeighing 76 = .ok (.iload 5, 2) := dk_21 5 (dk_at dksX1_goodWeighing_3 6 rfl rfl)
theorem dX1_goodWeighing_78 : decode cX1_goodWeighing 78 = .ok (.iload_n 1, 1) := dk_27 (dk_at dksX1_goodWeighing_3 8 rfl rfl)
theorem dX1_goodWeighing_79 : decode cX1_goodWeighing 79 = .ok (.invokevirtual 220, 3) := dk_182 0 220 (dk_at dksX1_goodWeighing_3 9 rfl rfl)
theorem dX1_goodWeighing_82 : decode cX1_goodWeighing 82 = .ok (.ifCond .eq 15, 3) := dk_153 0 15 (dk_at dksX1_goodWeighing_3 12 rfl rfl)
theorem dX1_goodWeighing_85 : decode cX1_goodWeighing 85 = .ok (.iload 4, 2) := dk_21 4 (dk_at dksX1_goodWeighing_3 15 rfl rfl)
theorem dX1_goodWeighing_87 : decode cX1_goodWeighing 87 = .ok (.bipush 9, 2) := dk_16 9 (dk_at dksX1_goodWeighing_3 17 rfl rfl)
theorem dX1_goodWeighing_89 : decode cX1_goodWeighing 89 = .ok (.ishl, 1) := dk_120 (dk_at dksX1_goodWeighing_3 19 rfl rfl)
theorem dX1_goodWeighing_90 : decode cX1_goodWeighing 90 = .ok (.iload 5, 2) := dk_21 5 (dk_at dksX1_goodWeighing_3 20 rfl rfl)
theorem dX1_goodWeighing_92 : decode cX1_goodWeighing 92 = .ok (.ior, 1) := dk_128 (dk_at dksX1_goodWeighing_3 22 rfl rfl)
theorem dX1_goodWeighing_93 : decode cX1_goodWeighing 93 = .ok (.istore_n 2, 1) := dk_61 (dk_at dksX1_goodWeighing_3 23 rfl rfl)
theorem dX1_goodWeighing_94 : decode cX1_goodWeighing 94 = .ok (.goto 21, 3) := dk_167 0 21 (dk_at dksX1_goodWeighing_4 0 rfl rfl)
theorem dX1_goodWeighing_97 : decode cX1_goodWeighing 97 = .ok (.iinc 5 1, 3) := dk_132 5 1 (dk_at dksX1_goodWeighing_4 3 rfl rfl)
theorem dX1_goodWeighing_100 : decode cX1_goodWeighing 100 = .ok (.goto (-64), 3) := dk_167 255 192 (dk_at dksX1_goodWeighing_4 6 rfl rfl)
theorem dX1_goodWeighing_103 : decode cX1_goodWeighing 103 = .ok (.iinc 4 1, 3) := dk_132 4 1 (dk_at dksX1_goodWeighing_4 9 rfl rfl)
theorem dX1_goodWeighing_106 : decode cX1_goodWeighing 106 = .ok (.goto (-84), 3) := dk_167 255 172 (dk_at dksX1_goodWeighing_4 12 rfl rfl)
theorem dX1_goodWeighing_109 : decode cX1_goodWeighing 109 = .ok (.iinc 3 1, 3) := dk_132 3 1 (dk_at dksX1_goodWeighing_4 15 rfl rfl)
theorem dX1_goodWeighing_112 : decode cX1_goodWeighing 112 = .ok (.goto (-103), 3) := dk_167 255 153 (dk_at dksX1_goodWeighing_4 18 rfl rfl)
theorem dX1_goodWeighing_115 : decode cX1_goodWeighing 115 = .ok (.iload_n 2, 1) := dk_28 (dk_at dksX1_goodWeighing_4 21 rfl rfl)
theorem dX1_goodWeighing_116 : decode cX1_goodWeighing 116 = .ok (.ifCond .ne 13, 3) := dk_154 0 13 (dk_at dksX1_goodWeighing_5 0 rfl rfl)
theorem dX1_goodWeighing_119 : decode cX1_goodWeighing 119 = .ok (.new 143, 3) := dk_187 0 143 (dk_at dksX1_goodWeighing_5 3 rfl rfl)
theorem dX1_goodWeighing_122 : decode cX1_goodWeighing 122 = .ok (.dup, 1) := dk_89 (dk_at dksX1_goodWeighing_5 6 rfl rfl)
theorem dX1_goodWeighing_123 : decode cX1_goodWeighing 123 = .ok (.ldc 224, 2) := dk_18 224 (dk_at dksX1_goodWeighing_5 7 rfl rfl)
theorem dX1_goodWeighing_125 : decode cX1_goodWeighing 125 = .ok (.invokespecial 147, 3) := dk_183 0 147 (dk_at dksX1_goodWeighing_5 9 rfl rfl)
theorem dX1_goodWeighing_128 : decode cX1_goodWeighing 128 = .ok (.athrow, 1) := dk_191 (dk_at dksX1_goodWeighing_5 12 rfl rfl)
theorem dX1_goodWeighing_129 : decode cX1_goodWeighing 129 = .ok (.iload_n 2, 1) := dk_28 (dk_at dksX1_goodWeighing_5 13 rfl rfl)
theorem dX1_goodWeighing_130 : decode cX1_goodWeighing 130 = .ok (.ireturn, 1) := dk_172 (dk_at dksX1_goodWeighing_5 14 rfl rfl)
abbrev cX1_goodRight : ByteArray := prog_1_method_42_code
def yX1_goodRight : MethodName := ⟨RX1, "goodRight", "()I"⟩
def dkwX1_goodRight_0 : List UInt8 := [42, 182, 0, 226, 17, 1, 255, 126, 172]
abbrev dktX1_goodRight_0 : List UInt8 := dkwX1_goodRight_0 ++ []
theorem dksX1_goodRight_0 : cX1_goodRight.data.toList.drop 0 = dktX1_goodRight_0 := by decide +kernel
theorem dX1_goodRight_0 : decode cX1_goodRight 0 = .ok (.aload_n 0, 1) := dk_42 (dk_at dksX1_goodRight_0 0 rfl rfl)
theorem dX1_goodRight_1 : decode cX1_goodRight 1 = .ok (.invokevirtual 226, 3) := dk_182 0 226 (dk_at dksX1_goodRight_0 1 rfl rfl)
theorem dX1_goodRight_4 : decode cX1_goodRight 4 = .ok (.sipush 511, 3) := dk_17 1 255 (dk_at dksX1_goodRight_0 4 rfl rfl)
theorem dX1_goodRight_7 : decode cX1_goodRight 7 = .ok (.iand, 1) := dk_126 (dk_at dksX1_goodRight_0 7 rfl rfl)
theorem dX1_goodRight_8 : decode cX1_goodRight 8 = .ok (.ireturn, 1) := dk_172 (dk_at dksX1_goodRight_0 8 rfl rfl)
theorem q51 : (Jvm.Cond.initialized "RecipeOfScales") ∈ lw_all := lw_g (lw_at lw_m1 1 rfl) rfl
theorem q82 : (Jvm.Cond.instantiable "RecipeOfScales" (8 : Nat)) ∈ lw_all := lw_g (lw_at lw_m1 32 rfl) rfl
theorem q84 : (Jvm.Cond.instanceMethod ({ cls := "RecipeOfScales", name := "<init>", desc := "()V" } : Jvm.MethodName)) ∈ lw_all := lw_g (lw_at lw_m1 34 rfl) rfl
theorem q85 : (Jvm.Cond.code ({ cls := "RecipeOfScales", name := "<init>", desc := "()V" } : Jvm.MethodName) prog_1_method_1_code (1 : Nat) (Option.none : Option Jvm.ClassFile.FieldType)) ∈ lw_all := lw_g (lw_at lw_m1 35 rfl) rfl
theorem q86 : (Jvm.Cond.methodLink "RecipeOfScales" (3 : Nat) ({ cls := "java/lang/Object", name := "<init>", desc := "()V" } : Jvm.MethodName)) ∈ lw_all := lw_g (lw_at lw_m1 36 rfl) rfl
theorem q89 : (Jvm.Cond.classLink "RecipeOfScales" (9 : Nat) "java/util/ArrayList") ∈ lw_all := lw_g (lw_at lw_m1 39 rfl) rfl
theorem q91 : (Jvm.Cond.methodLink "RecipeOfScales" (11 : Nat) ({ cls := "java/util/ArrayList", name := "<init>", desc := "()V" } : Jvm.MethodName)) ∈ lw_all := lw_g (lw_at lw_m1 41 rfl) rfl
theorem q118 : (Jvm.Cond.classLink "RecipeOfScales" (16 : Nat) "RecipeOfScales$Book") ∈ lw_all := lw_g (lw_at lw_m1 68 rfl) rfl
theorem q120 : (Jvm.Cond.methodLinkNest "RecipeOfScales" (18 : Nat) ({ cls := "RecipeOfScales$Book", name := "<init>", desc := "()V" } : Jvm.MethodName) "RecipeOfScales") ∈ lw_tbl := lw_at lw_m1 70 rfl
theorem q128 : (Jvm.Cond.fieldLinkNest "RecipeOfScales" (128 : Nat) "RecipeOfScales$Book" "ways" "[S" "RecipeOfScales") ∈ lw_tbl := lw_at lw_m1 78 rfl
theorem q130 : (Jvm.Cond.fieldLinkNest "RecipeOfScales" (148 : Nat) "RecipeOfScales$Book" "errors" "[S" "RecipeOfScales") ∈ lw_tbl := lw_at lw_m1 80 rfl
theorem q143 : (Jvm.Cond.classLink "RecipeOfScales" (30 : Nat) "[[[B") ∈ lw_all := lw_g (lw_at lw_m1 93 rfl) rfl
theorem q146 : (Jvm.Cond.methodLink "RecipeOfScales" (35 : Nat) ({ cls := "RecipeOfScales", name := "lays", desc := "(I)V" } : Jvm.MethodName)) ∈ lw_all := lw_g (lw_at lw_m1 96 rfl) rfl
theorem q147 : (Jvm.Cond.privateMethod ({ cls := "RecipeOfScales", name := "lays", desc := "(I)V" } : Jvm.MethodName)) ∈ lw_tbl := lw_at lw_m1 97 rfl
theorem q148 : (Jvm.Cond.instanceMethod ({ cls := "RecipeOfScales", name := "lays", desc := "(I)V" } : Jvm.MethodName)) ∈ lw_all := lw_g (lw_at lw_m1 98 rfl) rfl
theorem q149 : (Jvm.Cond.code ({ cls := "RecipeOfScales", name := "lays", desc := "(I)V" } : Jvm.MethodName) prog_1_method_24_code (11 : Nat) (Option.none : Option Jvm.ClassFile.FieldType)) ∈ lw_all := lw_g (lw_at lw_m1 99 rfl) rfl
theorem q150 : (Jvm.Cond.fieldLink "RecipeOfScales" (12 : Nat) "RecipeOfScales" "weights" "Ljava/util/List;") ∈ lw_all := lw_g (lw_at lw_m1 100 rfl) rfl
theorem q151 : (Jvm.Cond.fieldLink "RecipeOfScales" (19 : Nat) "RecipeOfScales" "book" "LRecipeOfScales$Book;") ∈ lw_all := lw_g (lw_at lw_m1 101 rfl) rfl
theorem q152 : (Jvm.Cond.fieldLink "RecipeOfScales" (23 : Nat) "RecipeOfScales" "part" "LRecipeOfScales$Book;") ∈ lw_all := lw_g (lw_at lw_m1 102 rfl) rfl
theorem q153 : (Jvm.Cond.fieldLink "RecipeOfScales" (87 : Nat) "RecipeOfScales" "isWritten" "Z") ∈ lw_all := lw_g (lw_at lw_m1 103 rfl) rfl
theorem q154 : (Jvm.Cond.fieldLink "RecipeOfScales" (26 : Nat) "RecipeOfScales" "coins" "I") ∈ lw_all := lw_g (lw_at lw_m1 104 rfl) rfl
theorem q155 : (Jvm.Cond.fieldLink "RecipeOfScales" (173 : Nat) "RecipeOfScales" "heavier" "I") ∈ lw_all := lw_g (lw_at lw_m1 105 rfl) rfl
theorem q156 : (Jvm.Cond.fieldLink "RecipeOfScales" (176 : Nat) "RecipeOfScales" "lighter" "I") ∈ lw_all := lw_g (lw_at lw_m1 106 rfl) rfl
theorem q157 : (Jvm.Cond.fieldLink "RecipeOfScales" (32 : Nat) "RecipeOfScales" "needs" "[[[B") ∈ lw_all := lw_g (lw_at lw_m1 107 rfl) rfl
theorem q158 : (Jvm.Cond.laysFinal "RecipeOfScales" "RecipeOfScales" "weights" "Ljava/util/List;") ∈ lw_all := lw_g (lw_at lw_m1 108 rfl) rfl
theorem q159 : (Jvm.Cond.soleField "RecipeOfScales" "weights") ∈ lw_all := lw_g (lw_at lw_m1 109 rfl) rfl
theorem q160 : (Jvm.Cond.laysFinal "RecipeOfScales" "RecipeOfScales" "book" "LRecipeOfScales$Book;") ∈ lw_all := lw_g (lw_at lw_m1 110 rfl) rfl
theorem q161 : (Jvm.Cond.soleField "RecipeOfScales" "book") ∈ lw_all := lw_g (lw_at lw_m1 111 rfl) rfl
theorem q162 : (Jvm.Cond.laysFinal "RecipeOfScales" "RecipeOfScales" "part" "LRecipeOfScales$Book;") ∈ lw_all := lw_g (lw_at lw_m1 112 rfl) rfl
theorem q163 : (Jvm.Cond.soleField "RecipeOfScales" "part") ∈ lw_all := lw_g (lw_at lw_m1 113 rfl) rfl
theorem q164 : (Jvm.Cond.lays "RecipeOfScales" "RecipeOfScales" "isWritten" "Z") ∈ lw_all := lw_g (lw_at lw_m1 114 rfl) rfl
theorem q165 : (Jvm.Cond.soleField "RecipeOfScales" "isWritten") ∈ lw_all := lw_g (lw_at lw_m1 115 rfl) rfl
theorem q166 : (Jvm.Cond.lays "RecipeOfScales" "RecipeOfScales" "coins" "I") ∈ lw_all := lw_g (lw_at lw_m1 116 rfl) rfl
theorem q167 : (Jvm.Cond.soleField "RecipeOfScales" "coins") ∈ lw_all := lw_g (lw_at lw_m1 117 rfl) rfl
theorem q168 : (Jvm.Cond.lays "RecipeOfScales" "RecipeOfScales" "heavier" "I") ∈ lw_all := lw_g (lw_at lw_m1 118 rfl) rfl
theorem q169 : (Jvm.Cond.soleField "RecipeOfScales" "heavier") ∈ lw_all := lw_g (lw_at lw_m1 119 rfl) rfl
theorem q170 : (Jvm.Cond.lays "RecipeOfScales" "RecipeOfScales" "lighter" "I") ∈ lw_all := lw_g (lw_at lw_m1 120 rfl) rfl
theorem q171 : (Jvm.Cond.soleField "RecipeOfScales" "lighter") ∈ lw_all := lw_g (lw_at lw_m1 121 rfl) rfl
theorem q172 : (Jvm.Cond.laysFinal "RecipeOfScales" "RecipeOfScales" "needs" "[[[B") ∈ lw_all := lw_g (lw_at lw_m1 122 rfl) rfl
theorem q173 : (Jvm.Cond.soleField "RecipeOfScales" "needs") ∈ lw_all := lw_g (lw_at lw_m1 123 rfl) rfl
theorem q174 : (Jvm.Cond.superclass "RecipeOfScales" "java/lang/Object") ∈ lw_all := lw_g (lw_at lw_m1 124 rfl) rfl
theorem q177 : (Jvm.Cond.instanceMethod ({ cls := "RecipeOfScales", name := "weights", desc := "()I" } : Jvm.MethodName)) ∈ lw_all := lw_g (lw_at lw_m1 127 rfl) rfl
theorem q178 : (Jvm.Cond.selects "RecipeOfScales" ({ cls := "RecipeOfScales", name := "weights", desc := "()I" } : Jvm.MethodName) ({ cls := "RecipeOfScales", name := "weights", desc := "()I" } : Jvm.MethodName)) ∈ lw_all := lw_g (lw_at lw_m1 128 rfl) rfl
theorem q179 : (Jvm.Cond.code ({ cls := "RecipeOfScales", name := "weights", desc := "()I" } : Jvm.MethodName) prog_1_method_8_code (1 : Nat) (Option.some Jvm.ClassFile.FieldType.int)) ∈ lw_all := lw_g (lw_at lw_m1 129 rfl) rfl
theorem q180 : (Jvm.Cond.interfaceEntry "RecipeOfScales" (62 : Nat)) ∈ lw_tbl := lw_at lw_m1 130 rfl
theorem q181 : (Jvm.Cond.methodLink "RecipeOfScales" (62 : Nat) ({ cls := "java/util/List", name := "size", desc := "()I" } : Jvm.MethodName)) ∈ lw_all := lw_g (lw_at lw_m1 131 rfl) rfl
theorem q191 : (Jvm.Cond.instanceMethod ({ cls := "RecipeOfScales", name := "gap", desc := "()I" } : Jvm.MethodName)) ∈ lw_all := lw_g (lw_at lw_m1 141 rfl) rfl
theorem q192 : (Jvm.Cond.selects "RecipeOfScales" ({ cls := "RecipeOfScales", name := "gap", desc := "()I" } : Jvm.MethodName) ({ cls := "RecipeOfScales", name := "gap", desc := "()I" } : Jvm.MethodName)) ∈ lw_all := lw_g (lw_at lw_m1 142 rfl) rfl
theorem q193 : (Jvm.Cond.code ({ cls := "RecipeOfScales", name := "gap", desc := "()I" } : Jvm.MethodName) prog_1_method_19_code (1 : Nat) (Option.some Jvm.ClassFile.FieldType.int)) ∈ lw_all := lw_g (lw_at lw_m1 143 rfl) rfl
theorem q194 : (Jvm.Cond.methodLink "RecipeOfScales" (83 : Nat) ({ cls := "RecipeOfScales", name := "written", desc := "()LRecipeOfScales$Book;" } : Jvm.MethodName)) ∈ lw_all := lw_g (lw_at lw_m1 144 rfl) rfl
theorem q195 : (Jvm.Cond.privateMethod ({ cls := "RecipeOfScales", name := "written", desc := "()LRecipeOfScales$Book;" } : Jvm.MethodName)) ∈ lw_tbl := lw_at lw_m1 145 rfl
theorem q196 : (Jvm.Cond.instanceMethod ({ cls := "RecipeOfScales", name := "written", desc := "()LRecipeOfScales$Book;" } : Jvm.MethodName)) ∈ lw_all := lw_g (lw_at lw_m1 146 rfl) rfl
theorem q197 : (Jvm.Cond.code ({ cls := "RecipeOfScales", name := "written", desc := "()LRecipeOfScales$Book;" } : Jvm.MethodName) prog_1_method_5_code (1 : Nat) (Option.some (Jvm.ClassFile.FieldType.object "RecipeOfScales$Book"))) ∈ lw_all := lw_g (lw_at lw_m1 147 rfl) rfl
theorem q198 : (Jvm.Cond.methodLink "RecipeOfScales" (91 : Nat) ({ cls := "RecipeOfScales$Book", name := "writes", desc := "(Ljava/util/List;)V" } : Jvm.MethodName)) ∈ lw_all := lw_g (lw_at lw_m1 148 rfl) rfl
theorem q374 : (Jvm.Cond.methodLink "RecipeOfScales" (151 : Nat) ({ cls := "RecipeOfScales$Book", name := "gap", desc := "(I)I" } : Jvm.MethodName)) ∈ lw_all := lw_g (lw_at lw_m2 84 rfl) rfl
theorem q383 : (Jvm.Cond.instanceMethod ({ cls := "RecipeOfScales", name := "masses", desc := "()I" } : Jvm.MethodName)) ∈ lw_all := lw_g (lw_at lw_m2 93 rfl) rfl
theorem q384 : (Jvm.Cond.selects "RecipeOfScales" ({ cls := "RecipeOfScales", name := "masses", desc := "()I" } : Jvm.MethodName) ({ cls := "RecipeOfScales", name := "masses", desc := "()I" } : Jvm.MethodName)) ∈ lw_all := lw_g (lw_at lw_m2 94 rfl) rfl
theorem q385 : (Jvm.Cond.code ({ cls := "RecipeOfScales", name := "masses", desc := "()I" } : Jvm.MethodName) prog_1_method_20_code (4 : Nat) (Option.some Jvm.ClassFile.FieldType.int)) ∈ lw_all := lw_g (lw_at lw_m2 95 rfl) rfl
theorem q386 : (Jvm.Cond.methodLink "RecipeOfScales" (120 : Nat) ({ cls := "RecipeOfScales$Book", name := "has", desc := "(I)Z" } : Jvm.MethodName)) ∈ lw_all := lw_g (lw_at lw_m2 96 rfl) rfl
theorem q388 : (Jvm.Cond.instanceMethod ({ cls := "RecipeOfScales", name := "coins", desc := "()I" } : Jvm.MethodName)) ∈ lw_all := lw_g (lw_at lw_m2 98 rfl) rfl
theorem q389 : (Jvm.Cond.selects "RecipeOfScales" ({ cls := "RecipeOfScales", name := "coins", desc := "()I" } : Jvm.MethodName) ({ cls := "RecipeOfScales", name := "coins", desc := "()I" } : Jvm.MethodName)) ∈ lw_all := lw_g (lw_at lw_m2 99 rfl) rfl
theorem q390 : (Jvm.Cond.code ({ cls := "RecipeOfScales", name := "coins", desc := "()I" } : Jvm.MethodName) prog_1_method_33_code (1 : Nat) (Option.some Jvm.ClassFile.FieldType.int)) ∈ lw_all := lw_g (lw_at lw_m2 100 rfl) rfl
theorem q392 : (Jvm.Cond.instanceMethod ({ cls := "RecipeOfScales", name := "possible", desc := "()I" } : Jvm.MethodName)) ∈ lw_all := lw_g (lw_at lw_m2 102 rfl) rfl
theorem q393 : (Jvm.Cond.selects "RecipeOfScales" ({ cls := "RecipeOfScales", name := "possible", desc := "()I" } : Jvm.MethodName) ({ cls := "RecipeOfScales", name := "possible", desc := "()I" } : Jvm.MethodName)) ∈ lw_all := lw_g (lw_at lw_m2 103 rfl) rfl
theorem q394 : (Jvm.Cond.code ({ cls := "RecipeOfScales", name := "possible", desc := "()I" } : Jvm.MethodName) prog_1_method_34_code (1 : Nat) (Option.some Jvm.ClassFile.FieldType.int)) ∈ lw_all := lw_g (lw_at lw_m2 104 rfl) rfl
theorem q395 : (Jvm.Cond.methodLink "RecipeOfScales" (155 : Nat) ({ cls := "java/lang/Integer", name := "bitCount", desc := "(I)I" } : Jvm.MethodName)) ∈ lw_all := lw_g (lw_at lw_m2 105 rfl) rfl
theorem q402 : (Jvm.Cond.instanceMethod ({ cls := "RecipeOfScales", name := "weighings", desc := "()I" } : Jvm.MethodName)) ∈ lw_all := lw_g (lw_at lw_m2 112 rfl) rfl
theorem q403 : (Jvm.Cond.selects "RecipeOfScales" ({ cls := "RecipeOfScales", name := "weighings", desc := "()I" } : Jvm.MethodName) ({ cls := "RecipeOfScales", name := "weighings", desc := "()I" } : Jvm.MethodName)) ∈ lw_all := lw_g (lw_at lw_m2 113 rfl) rfl
theorem q404 : (Jvm.Cond.code ({ cls := "RecipeOfScales", name := "weighings", desc := "()I" } : Jvm.MethodName) prog_1_method_37_code (1 : Nat) (Option.some Jvm.ClassFile.FieldType.int)) ∈ lw_all := lw_g (lw_at lw_m2 114 rfl) rfl
theorem q405 : (Jvm.Cond.methodLink "RecipeOfScales" (193 : Nat) ({ cls := "RecipeOfScales", name := "needsOf", desc := "(II)I" } : Jvm.MethodName)) ∈ lw_all := lw_g (lw_at lw_m2 115 rfl) rfl
theorem q406 : (Jvm.Cond.privateMethod ({ cls := "RecipeOfScales", name := "needsOf", desc := "(II)I" } : Jvm.MethodName)) ∈ lw_tbl := lw_at lw_m2 116 rfl
theorem q407 : (Jvm.Cond.instanceMethod ({ cls := "RecipeOfScales", name := "needsOf", desc := "(II)I" } : Jvm.MethodName)) ∈ lw_all := lw_g (lw_at lw_m2 117 rfl) rfl
theorem q408 : (Jvm.Cond.code ({ cls := "RecipeOfScales", name := "needsOf", desc := "(II)I" } : Jvm.MethodName) prog_1_method_25_code (4 : Nat) (Option.some Jvm.ClassFile.FieldType.int)) ∈ lw_all := lw_g (lw_at lw_m2 118 rfl) rfl
theorem q409 : (Jvm.Cond.methodLink "RecipeOfScales" (179 : Nat) ({ cls := "RecipeOfScales", name := "needs", desc := "(III)I" } : Jvm.MethodName)) ∈ lw_all := lw_g (lw_at lw_m2 119 rfl) rfl
theorem q410 : (Jvm.Cond.privateMethod ({ cls := "RecipeOfScales", name := "needs", desc := "(III)I" } : Jvm.MethodName)) ∈ lw_tbl := lw_at lw_m2 120 rfl
theorem q411 : (Jvm.Cond.instanceMethod ({ cls := "RecipeOfScales", name := "needs", desc := "(III)I" } : Jvm.MethodName)) ∈ lw_all := lw_g (lw_at lw_m2 121 rfl) rfl
theorem q412 : (Jvm.Cond.code ({ cls := "RecipeOfScales", name := "needs", desc := "(III)I" } : Jvm.MethodName) prog_1_method_26_code (9 : Nat) (Option.some Jvm.ClassFile.FieldType.int)) ∈ lw_all := lw_g (lw_at lw_m2 122 rfl) rfl
theorem q413 : (Jvm.Cond.methodLink "RecipeOfScales" (184 : Nat) ({ cls := "RecipeOfScales", name := "rest", desc := "(IIIIIIII)I" } : Jvm.MethodName)) ∈ lw_all := lw_g (lw_at lw_m2 123 rfl) rfl
theorem q414 : (Jvm.Cond.privateMethod ({ cls := "RecipeOfScales", name := "rest", desc := "(IIIIIIII)I" } : Jvm.MethodName)) ∈ lw_tbl := lw_at lw_m2 124 rfl
theorem q415 : (Jvm.Cond.instanceMethod ({ cls := "RecipeOfScales", name := "rest", desc := "(IIIIIIII)I" } : Jvm.MethodName)) ∈ lw_all := lw_g (lw_at lw_m2 125 rfl) rfl
theorem q416 : (Jvm.Cond.code ({ cls := "RecipeOfScales", name := "rest", desc := "(IIIIIIII)I" } : Jvm.MethodName) prog_1_method_27_code (19 : Nat) (Option.some Jvm.ClassFile.FieldType.int)) ∈ lw_all := lw_g (lw_at lw_m2 126 rfl) rfl
theorem q417 : (Jvm.Cond.methodLink "RecipeOfScales" (168 : Nat) ({ cls := "java/lang/Math", name := "max", desc := "(II)I" } : Jvm.MethodName)) ∈ lw_all := lw_g (lw_at lw_m2 127 rfl) rfl
theorem q420 : (Jvm.Cond.methodLink "RecipeOfScales" (188 : Nat) ({ cls := "java/lang/Math", name := "min", desc := "(II)I" } : Jvm.MethodName)) ∈ lw_all := lw_g (lw_at lw_m2 130 rfl) rfl
theorem q427 : (Jvm.Cond.instanceMethod ({ cls := "RecipeOfScales", name := "tell", desc := "(II)I" } : Jvm.MethodName)) ∈ lw_all := lw_g (lw_at lw_m2 137 rfl) rfl
theorem q428 : (Jvm.Cond.selects "RecipeOfScales" ({ cls := "RecipeOfScales", name := "tell", desc := "(II)I" } : Jvm.MethodName) ({ cls := "RecipeOfScales", name := "tell", desc := "(II)I" } : Jvm.MethodName)) ∈ lw_all := lw_g (lw_at lw_m2 138 rfl) rfl
theorem q429 : (Jvm.Cond.code ({ cls := "RecipeOfScales", name := "tell", desc := "(II)I" } : Jvm.MethodName) prog_1_method_6_code (3 : Nat) (Option.some Jvm.ClassFile.FieldType.int)) ∈ lw_all := lw_g (lw_at lw_m2 139 rfl) rfl
theorem q430 : (Jvm.Cond.methodLink "RecipeOfScales" (79 : Nat) ({ cls := "RecipeOfScales", name := "isWithin", desc := "(III)V" } : Jvm.MethodName)) ∈ lw_all := lw_g (lw_at lw_m2 140 rfl) rfl
theorem q431 : (Jvm.Cond.static ({ cls := "RecipeOfScales", name := "isWithin", desc := "(III)V" } : Jvm.MethodName)) ∈ lw_all := lw_g (lw_at lw_m2 141 rfl) rfl
theorem q432 : (Jvm.Cond.code ({ cls := "RecipeOfScales", name := "isWithin", desc := "(III)V" } : Jvm.MethodName) prog_1_method_2_code (3 : Nat) (Option.none : Option Jvm.ClassFile.FieldType)) ∈ lw_all := lw_g (lw_at lw_m2 142 rfl) rfl
theorem q433 : (Jvm.Cond.classLink "RecipeOfScales" (39 : Nat) "java/lang/IllegalArgumentException") ∈ lw_all := lw_g (lw_at lw_m2 143 rfl) rfl
theorem q442 : (Jvm.Cond.classLink "RecipeOfScales" (41 : Nat) "java/lang/StringBuilder") ∈ lw_all := lw_g (lw_at lw_m2 152 rfl) rfl
theorem q444 : (Jvm.Cond.methodLink "RecipeOfScales" (43 : Nat) ({ cls := "java/lang/StringBuilder", name := "<init>", desc := "()V" } : Jvm.MethodName)) ∈ lw_all := lw_g (lw_at lw_m2 154 rfl) rfl
theorem q473 : (Jvm.Cond.methodLink "RecipeOfScales" (44 : Nat) ({ cls := "java/lang/StringBuilder", name := "append", desc := "(I)Ljava/lang/StringBuilder;" } : Jvm.MethodName)) ∈ lw_all := lw_g (lw_at lw_m2 183 rfl) rfl
theorem q555 : (Jvm.Cond.stringRef "RecipeOfScales" (48 : Nat) " is not from ") ∈ lw_tbl := lw_at lw_m3 25 rfl
theorem q556 : (Jvm.Cond.methodLink "RecipeOfScales" (50 : Nat) ({ cls := "java/lang/StringBuilder", name := "append", desc := "(Ljava/lang/String;)Ljava/lang/StringBuilder;" } : Jvm.MethodName)) ∈ lw_all := lw_g (lw_at lw_m3 26 rfl) rfl
theorem q613 : (Jvm.Cond.stringRef "RecipeOfScales" (53 : Nat) " to ") ∈ lw_tbl := lw_at lw_m3 83 rfl
theorem q614 : (Jvm.Cond.methodLink "RecipeOfScales" (55 : Nat) ({ cls := "java/lang/StringBuilder", name := "toString", desc := "()Ljava/lang/String;" } : Jvm.MethodName)) ∈ lw_all := lw_g (lw_at lw_m3 84 rfl) rfl
theorem q695 : (Jvm.Cond.methodLink "RecipeOfScales" (59 : Nat) ({ cls := "java/lang/IllegalArgumentException", name := "<init>", desc := "(Ljava/lang/String;)V" } : Jvm.MethodName)) ∈ lw_all := lw_g (lw_at lw_m3 165 rfl) rfl
theorem q696 : (Jvm.Cond.classLink "RecipeOfScales" (95 : Nat) "java/lang/IllegalStateException") ∈ lw_all := lw_g (lw_at lw_m3 166 rfl) rfl
theorem q705 : (Jvm.Cond.stringRef "RecipeOfScales" (97 : Nat) "there are too many weights") ∈ lw_tbl := lw_at lw_m3 175 rfl
theorem q706 : (Jvm.Cond.methodLink "RecipeOfScales" (99 : Nat) ({ cls := "java/lang/IllegalStateException", name := "<init>", desc := "(Ljava/lang/String;)V" } : Jvm.MethodName)) ∈ lw_all := lw_g (lw_at lw_m3 176 rfl) rfl
theorem q712 : (Jvm.Cond.classLink "RecipeOfScales" (77 : Nat) "RecipeOfScales$Weight") ∈ lw_all := lw_g (lw_at lw_m3 182 rfl) rfl
theorem q714 : (Jvm.Cond.methodLinkNest "RecipeOfScales" (100 : Nat) ({ cls := "RecipeOfScales$Weight", name := "<init>", desc := "(II)V" } : Jvm.MethodName) "RecipeOfScales") ∈ lw_tbl := lw_at lw_m3 184 rfl
theorem q728 : (Jvm.Cond.interfaceEntry "RecipeOfScales" (103 : Nat)) ∈ lw_tbl := lw_at lw_m3 198 rfl
theorem q729 : (Jvm.Cond.methodLink "RecipeOfScales" (103 : Nat) ({ cls := "java/util/List", name := "add", desc := "(Ljava/lang/Object;)Z" } : Jvm.MethodName)) ∈ lw_all := lw_g (lw_at lw_m3 199 rfl) rfl
theorem q756 : (Jvm.Cond.selects "RecipeOfScales" ({ cls := "java/lang/Object", name := "getClass", desc := "()Ljava/lang/Class;" } : Jvm.MethodName) ({ cls := "java/lang/Object", name := "getClass", desc := "()Ljava/lang/Class;" } : Jvm.MethodName)) ∈ lw_all := lw_g (lw_at lw_m3 226 rfl) rfl
theorem q801 : (Jvm.Cond.instanceMethod ({ cls := "RecipeOfScales", name := "takeAway", desc := "(I)I" } : Jvm.MethodName)) ∈ lw_all := lw_g (lw_at lw_m4 31 rfl) rfl
theorem q802 : (Jvm.Cond.selects "RecipeOfScales" ({ cls := "RecipeOfScales", name := "takeAway", desc := "(I)I" } : Jvm.MethodName) ({ cls := "RecipeOfScales", name := "takeAway", desc := "(I)I" } : Jvm.MethodName)) ∈ lw_all := lw_g (lw_at lw_m4 32 rfl) rfl
theorem q803 : (Jvm.Cond.code ({ cls := "RecipeOfScales", name := "takeAway", desc := "(I)I" } : Jvm.MethodName) prog_1_method_7_code (2 : Nat) (Option.some Jvm.ClassFile.FieldType.int)) ∈ lw_all := lw_g (lw_at lw_m4 33 rfl) rfl
theorem q804 : (Jvm.Cond.methodLink "RecipeOfScales" (107 : Nat) ({ cls := "RecipeOfScales", name := "weight", desc := "(I)LRecipeOfScales$Weight;" } : Jvm.MethodName)) ∈ lw_all := lw_g (lw_at lw_m4 34 rfl) rfl
theorem q805 : (Jvm.Cond.privateMethod ({ cls := "RecipeOfScales", name := "weight", desc := "(I)LRecipeOfScales$Weight;" } : Jvm.MethodName)) ∈ lw_tbl := lw_at lw_m4 35 rfl
theorem q806 : (Jvm.Cond.instanceMethod ({ cls := "RecipeOfScales", name := "weight", desc := "(I)LRecipeOfScales$Weight;" } : Jvm.MethodName)) ∈ lw_all := lw_g (lw_at lw_m4 36 rfl) rfl
theorem q807 : (Jvm.Cond.code ({ cls := "RecipeOfScales", name := "weight", desc := "(I)LRecipeOfScales$Weight;" } : Jvm.MethodName) prog_1_method_3_code (2 : Nat) (Option.some (Jvm.ClassFile.FieldType.object "RecipeOfScales$Weight"))) ∈ lw_all := lw_g (lw_at lw_m4 37 rfl) rfl
theorem q808 : (Jvm.Cond.classLink "RecipeOfScales" (68 : Nat) "java/lang/IndexOutOfBoundsException") ∈ lw_all := lw_g (lw_at lw_m4 38 rfl) rfl
theorem q817 : (Jvm.Cond.stringRef "RecipeOfScales" (70 : Nat) "no weight ") ∈ lw_tbl := lw_at lw_m4 47 rfl
theorem q818 : (Jvm.Cond.methodLink "RecipeOfScales" (72 : Nat) ({ cls := "java/lang/IndexOutOfBoundsException", name := "<init>", desc := "(Ljava/lang/String;)V" } : Jvm.MethodName)) ∈ lw_all := lw_g (lw_at lw_m4 48 rfl) rfl
theorem q821 : (Jvm.Cond.interfaceEntry "RecipeOfScales" (73 : Nat)) ∈ lw_tbl := lw_at lw_m4 51 rfl
theorem q822 : (Jvm.Cond.methodLink "RecipeOfScales" (73 : Nat) ({ cls := "java/util/List", name := "get", desc := "(I)Ljava/lang/Object;" } : Jvm.MethodName)) ∈ lw_all := lw_g (lw_at lw_m4 52 rfl) rfl
theorem q823 : (Jvm.Cond.interfaceEntry "RecipeOfScales" (111 : Nat)) ∈ lw_tbl := lw_at lw_m4 53 rfl
theorem q824 : (Jvm.Cond.methodLink "RecipeOfScales" (111 : Nat) ({ cls := "java/util/List", name := "remove", desc := "(I)Ljava/lang/Object;" } : Jvm.MethodName)) ∈ lw_all := lw_g (lw_at lw_m4 54 rfl) rfl
theorem q841 : (Jvm.Cond.instanceMethod ({ cls := "RecipeOfScales", name := "massOf", desc := "(I)I" } : Jvm.MethodName)) ∈ lw_all := lw_g (lw_at lw_m4 71 rfl) rfl
theorem q842 : (Jvm.Cond.selects "RecipeOfScales" ({ cls := "RecipeOfScales", name := "massOf", desc := "(I)I" } : Jvm.MethodName) ({ cls := "RecipeOfScales", name := "massOf", desc := "(I)I" } : Jvm.MethodName)) ∈ lw_all := lw_g (lw_at lw_m4 72 rfl) rfl
theorem q843 : (Jvm.Cond.code ({ cls := "RecipeOfScales", name := "massOf", desc := "(I)I" } : Jvm.MethodName) prog_1_method_9_code (2 : Nat) (Option.some Jvm.ClassFile.FieldType.int)) ∈ lw_all := lw_g (lw_at lw_m4 73 rfl) rfl
theorem q844 : (Jvm.Cond.methodLink "RecipeOfScales" (114 : Nat) ({ cls := "RecipeOfScales$Weight", name := "mass", desc := "()I" } : Jvm.MethodName)) ∈ lw_all := lw_g (lw_at lw_m4 74 rfl) rfl
theorem q849 : (Jvm.Cond.instanceMethod ({ cls := "RecipeOfScales", name := "canWeigh", desc := "(I)Z" } : Jvm.MethodName)) ∈ lw_all := lw_g (lw_at lw_m4 79 rfl) rfl
theorem q850 : (Jvm.Cond.selects "RecipeOfScales" ({ cls := "RecipeOfScales", name := "canWeigh", desc := "(I)Z" } : Jvm.MethodName) ({ cls := "RecipeOfScales", name := "canWeigh", desc := "(I)Z" } : Jvm.MethodName)) ∈ lw_all := lw_g (lw_at lw_m4 80 rfl) rfl
theorem q851 : (Jvm.Cond.code ({ cls := "RecipeOfScales", name := "canWeigh", desc := "(I)Z" } : Jvm.MethodName) prog_1_method_10_code (2 : Nat) (Option.some Jvm.ClassFile.FieldType.boolean)) ∈ lw_all := lw_g (lw_at lw_m4 81 rfl) rfl
theorem q852 : (Jvm.Cond.methodLink "RecipeOfScales" (117 : Nat) ({ cls := "RecipeOfScales", name := "written", desc := "(I)LRecipeOfScales$Book;" } : Jvm.MethodName)) ∈ lw_all := lw_g (lw_at lw_m4 82 rfl) rfl
theorem q853 : (Jvm.Cond.privateMethod ({ cls := "RecipeOfScales", name := "written", desc := "(I)LRecipeOfScales$Book;" } : Jvm.MethodName)) ∈ lw_tbl := lw_at lw_m4 83 rfl
theorem q854 : (Jvm.Cond.instanceMethod ({ cls := "RecipeOfScales", name := "written", desc := "(I)LRecipeOfScales$Book;" } : Jvm.MethodName)) ∈ lw_all := lw_g (lw_at lw_m4 84 rfl) rfl
theorem q855 : (Jvm.Cond.code ({ cls := "RecipeOfScales", name := "written", desc := "(I)LRecipeOfScales$Book;" } : Jvm.MethodName) prog_1_method_4_code (2 : Nat) (Option.some (Jvm.ClassFile.FieldType.object "RecipeOfScales$Book"))) ∈ lw_all := lw_g (lw_at lw_m4 85 rfl) rfl
theorem q860 : (Jvm.Cond.instanceMethod ({ cls := "RecipeOfScales", name := "canWeighOnOnePan", desc := "(I)Z" } : Jvm.MethodName)) ∈ lw_all := lw_g (lw_at lw_m4 90 rfl) rfl
theorem q861 : (Jvm.Cond.selects "RecipeOfScales" ({ cls := "RecipeOfScales", name := "canWeighOnOnePan", desc := "(I)Z" } : Jvm.MethodName) ({ cls := "RecipeOfScales", name := "canWeighOnOnePan", desc := "(I)Z" } : Jvm.MethodName)) ∈ lw_all := lw_g (lw_at lw_m4 91 rfl) rfl
theorem q862 : (Jvm.Cond.code ({ cls := "RecipeOfScales", name := "canWeighOnOnePan", desc := "(I)Z" } : Jvm.MethodName) prog_1_method_11_code (2 : Nat) (Option.some Jvm.ClassFile.FieldType.boolean)) ∈ lw_all := lw_g (lw_at lw_m4 92 rfl) rfl
theorem q863 : (Jvm.Cond.methodLink "RecipeOfScales" (124 : Nat) ({ cls := "RecipeOfScales", name := "canReach", desc := "(II)Z" } : Jvm.MethodName)) ∈ lw_all := lw_g (lw_at lw_m4 93 rfl) rfl
theorem q864 : (Jvm.Cond.privateMethod ({ cls := "RecipeOfScales", name := "canReach", desc := "(II)Z" } : Jvm.MethodName)) ∈ lw_tbl := lw_at lw_m4 94 rfl
theorem q865 : (Jvm.Cond.instanceMethod ({ cls := "RecipeOfScales", name := "canReach", desc := "(II)Z" } : Jvm.MethodName)) ∈ lw_all := lw_g (lw_at lw_m4 95 rfl) rfl
theorem q866 : (Jvm.Cond.code ({ cls := "RecipeOfScales", name := "canReach", desc := "(II)Z" } : Jvm.MethodName) prog_1_method_12_code (3 : Nat) (Option.some Jvm.ClassFile.FieldType.boolean)) ∈ lw_all := lw_g (lw_at lw_m4 96 rfl) rfl
theorem q871 : (Jvm.Cond.instanceMethod ({ cls := "RecipeOfScales", name := "ways", desc := "(I)I" } : Jvm.MethodName)) ∈ lw_all := lw_g (lw_at lw_m4 101 rfl) rfl
theorem q872 : (Jvm.Cond.selects "RecipeOfScales" ({ cls := "RecipeOfScales", name := "ways", desc := "(I)I" } : Jvm.MethodName) ({ cls := "RecipeOfScales", name := "ways", desc := "(I)I" } : Jvm.MethodName)) ∈ lw_all := lw_g (lw_at lw_m4 102 rfl) rfl
theorem q873 : (Jvm.Cond.code ({ cls := "RecipeOfScales", name := "ways", desc := "(I)I" } : Jvm.MethodName) prog_1_method_13_code (2 : Nat) (Option.some Jvm.ClassFile.FieldType.int)) ∈ lw_all := lw_g (lw_at lw_m4 103 rfl) rfl
theorem q874 : (Jvm.Cond.methodLinkNest "RecipeOfScales" (132 : Nat) ({ cls := "RecipeOfScales$Book", name := "of", desc := "([SII)I" } : Jvm.MethodName) "RecipeOfScales") ∈ lw_tbl := lw_at lw_m4 104 rfl
theorem q879 : (Jvm.Cond.instanceMethod ({ cls := "RecipeOfScales", name := "waysByPlacings", desc := "(I)I" } : Jvm.MethodName)) ∈ lw_all := lw_g (lw_at lw_m4 109 rfl) rfl
theorem q880 : (Jvm.Cond.selects "RecipeOfScales" ({ cls := "RecipeOfScales", name := "waysByPlacings", desc := "(I)I" } : Jvm.MethodName) ({ cls := "RecipeOfScales", name := "waysByPlacings", desc := "(I)I" } : Jvm.MethodName)) ∈ lw_all := lw_g (lw_at lw_m4 110 rfl) rfl
theorem q881 : (Jvm.Cond.code ({ cls := "RecipeOfScales", name := "waysByPlacings", desc := "(I)I" } : Jvm.MethodName) prog_1_method_14_code (2 : Nat) (Option.some Jvm.ClassFile.FieldType.int)) ∈ lw_all := lw_g (lw_at lw_m4 111 rfl) rfl
theorem q882 : (Jvm.Cond.methodLink "RecipeOfScales" (136 : Nat) ({ cls := "RecipeOfScales", name := "placings", desc := "(II)I" } : Jvm.MethodName)) ∈ lw_all := lw_g (lw_at lw_m4 112 rfl) rfl
theorem q883 : (Jvm.Cond.privateMethod ({ cls := "RecipeOfScales", name := "placings", desc := "(II)I" } : Jvm.MethodName)) ∈ lw_tbl := lw_at lw_m4 113 rfl
theorem q884 : (Jvm.Cond.instanceMethod ({ cls := "RecipeOfScales", name := "placings", desc := "(II)I" } : Jvm.MethodName)) ∈ lw_all := lw_g (lw_at lw_m4 114 rfl) rfl
theorem q885 : (Jvm.Cond.code ({ cls := "RecipeOfScales", name := "placings", desc := "(II)I" } : Jvm.MethodName) prog_1_method_15_code (4 : Nat) (Option.some Jvm.ClassFile.FieldType.int)) ∈ lw_all := lw_g (lw_at lw_m4 115 rfl) rfl
theorem q890 : (Jvm.Cond.instanceMethod ({ cls := "RecipeOfScales", name := "fewest", desc := "(I)I" } : Jvm.MethodName)) ∈ lw_all := lw_g (lw_at lw_m4 120 rfl) rfl
theorem q891 : (Jvm.Cond.selects "RecipeOfScales" ({ cls := "RecipeOfScales", name := "fewest", desc := "(I)I" } : Jvm.MethodName) ({ cls := "RecipeOfScales", name := "fewest", desc := "(I)I" } : Jvm.MethodName)) ∈ lw_all := lw_g (lw_at lw_m4 121 rfl) rfl
theorem q892 : (Jvm.Cond.code ({ cls := "RecipeOfScales", name := "fewest", desc := "(I)I" } : Jvm.MethodName) prog_1_method_16_code (3 : Nat) (Option.some Jvm.ClassFile.FieldType.int)) ∈ lw_all := lw_g (lw_at lw_m4 122 rfl) rfl
theorem q893 : (Jvm.Cond.methodLink "RecipeOfScales" (140 : Nat) ({ cls := "RecipeOfScales$Book", name := "cost", desc := "(II)I" } : Jvm.MethodName)) ∈ lw_all := lw_g (lw_at lw_m4 123 rfl) rfl
theorem q899 : (Jvm.Cond.instanceMethod ({ cls := "RecipeOfScales", name := "placed", desc := "(II)I" } : Jvm.MethodName)) ∈ lw_all := lw_g (lw_at lw_m4 129 rfl) rfl
theorem q900 : (Jvm.Cond.selects "RecipeOfScales" ({ cls := "RecipeOfScales", name := "placed", desc := "(II)I" } : Jvm.MethodName) ({ cls := "RecipeOfScales", name := "placed", desc := "(II)I" } : Jvm.MethodName)) ∈ lw_all := lw_g (lw_at lw_m4 130 rfl) rfl
theorem q901 : (Jvm.Cond.code ({ cls := "RecipeOfScales", name := "placed", desc := "(II)I" } : Jvm.MethodName) prog_1_method_17_code (9 : Nat) (Option.some Jvm.ClassFile.FieldType.int)) ∈ lw_all := lw_g (lw_at lw_m4 131 rfl) rfl
theorem q902 : (Jvm.Cond.classLink "RecipeOfScales" (143 : Nat) "java/util/NoSuchElementException") ∈ lw_all := lw_g (lw_at lw_m4 132 rfl) rfl
theorem q903 : (Jvm.Cond.stringRef "RecipeOfScales" (145 : Nat) " cannot be weighed") ∈ lw_tbl := lw_at lw_m4 133 rfl
theorem q904 : (Jvm.Cond.methodLink "RecipeOfScales" (147 : Nat) ({ cls := "java/util/NoSuchElementException", name := "<init>", desc := "(Ljava/lang/String;)V" } : Jvm.MethodName)) ∈ lw_all := lw_g (lw_at lw_m4 134 rfl) rfl
theorem q912 : (Jvm.Cond.instanceMethod ({ cls := "RecipeOfScales", name := "leastError", desc := "(I)I" } : Jvm.MethodName)) ∈ lw_all := lw_g (lw_at lw_m4 142 rfl) rfl
theorem q913 : (Jvm.Cond.selects "RecipeOfScales" ({ cls := "RecipeOfScales", name := "leastError", desc := "(I)I" } : Jvm.MethodName) ({ cls := "RecipeOfScales", name := "leastError", desc := "(I)I" } : Jvm.MethodName)) ∈ lw_all := lw_g (lw_at lw_m4 143 rfl) rfl
theorem q914 : (Jvm.Cond.code ({ cls := "RecipeOfScales", name := "leastError", desc := "(I)I" } : Jvm.MethodName) prog_1_method_18_code (3 : Nat) (Option.some Jvm.ClassFile.FieldType.int)) ∈ lw_all := lw_g (lw_at lw_m4 144 rfl) rfl
theorem q919 : (Jvm.Cond.instanceMethod ({ cls := "RecipeOfScales", name := "needed", desc := "(I)I" } : Jvm.MethodName)) ∈ lw_all := lw_g (lw_at lw_m4 149 rfl) rfl
theorem q920 : (Jvm.Cond.selects "RecipeOfScales" ({ cls := "RecipeOfScales", name := "needed", desc := "(I)I" } : Jvm.MethodName) ({ cls := "RecipeOfScales", name := "needed", desc := "(I)I" } : Jvm.MethodName)) ∈ lw_all := lw_g (lw_at lw_m4 150 rfl) rfl
theorem q921 : (Jvm.Cond.code ({ cls := "RecipeOfScales", name := "needed", desc := "(I)I" } : Jvm.MethodName) prog_1_method_21_code (4 : Nat) (Option.some Jvm.ClassFile.FieldType.int)) ∈ lw_all := lw_g (lw_at lw_m4 151 rfl) rfl
theorem q922 : (Jvm.Cond.methodLink "RecipeOfScales" (160 : Nat) ({ cls := "RecipeOfScales", name := "partGap", desc := "(I)I" } : Jvm.MethodName)) ∈ lw_all := lw_g (lw_at lw_m4 152 rfl) rfl
theorem q923 : (Jvm.Cond.privateMethod ({ cls := "RecipeOfScales", name := "partGap", desc := "(I)I" } : Jvm.MethodName)) ∈ lw_tbl := lw_at lw_m4 153 rfl
theorem q924 : (Jvm.Cond.instanceMethod ({ cls := "RecipeOfScales", name := "partGap", desc := "(I)I" } : Jvm.MethodName)) ∈ lw_all := lw_g (lw_at lw_m4 154 rfl) rfl
theorem q925 : (Jvm.Cond.code ({ cls := "RecipeOfScales", name := "partGap", desc := "(I)I" } : Jvm.MethodName) prog_1_method_22_code (4 : Nat) (Option.some Jvm.ClassFile.FieldType.int)) ∈ lw_all := lw_g (lw_at lw_m4 155 rfl) rfl
theorem q926 : (Jvm.Cond.methodLink "RecipeOfScales" (163 : Nat) ({ cls := "java/util/ArrayList", name := "<init>", desc := "(I)V" } : Jvm.MethodName)) ∈ lw_all := lw_g (lw_at lw_m4 156 rfl) rfl
theorem q939 : (Jvm.Cond.methodLinkNest "RecipeOfScales" (165 : Nat) ({ cls := "RecipeOfScales$Book", name := "writesBest", desc := "(Ljava/util/List;)V" } : Jvm.MethodName) "RecipeOfScales") ∈ lw_tbl := lw_at lw_m4 169 rfl
theorem q944 : (Jvm.Cond.instanceMethod ({ cls := "RecipeOfScales", name := "bestMore", desc := "()I" } : Jvm.MethodName)) ∈ lw_all := lw_g (lw_at lw_m4 174 rfl) rfl
theorem q945 : (Jvm.Cond.selects "RecipeOfScales" ({ cls := "RecipeOfScales", name := "bestMore", desc := "()I" } : Jvm.MethodName) ({ cls := "RecipeOfScales", name := "bestMore", desc := "()I" } : Jvm.MethodName)) ∈ lw_all := lw_g (lw_at lw_m4 175 rfl) rfl
theorem q946 : (Jvm.Cond.code ({ cls := "RecipeOfScales", name := "bestMore", desc := "()I" } : Jvm.MethodName) prog_1_method_23_code (6 : Nat) (Option.some Jvm.ClassFile.FieldType.int)) ∈ lw_all := lw_g (lw_at lw_m4 176 rfl) rfl
theorem q951 : (Jvm.Cond.instanceMethod ({ cls := "RecipeOfScales", name := "lay", desc := "(I)I" } : Jvm.MethodName)) ∈ lw_all := lw_g (lw_at lw_m4 181 rfl) rfl
theorem q952 : (Jvm.Cond.selects "RecipeOfScales" ({ cls := "RecipeOfScales", name := "lay", desc := "(I)I" } : Jvm.MethodName) ({ cls := "RecipeOfScales", name := "lay", desc := "(I)I" } : Jvm.MethodName)) ∈ lw_all := lw_g (lw_at lw_m4 182 rfl) rfl
theorem q953 : (Jvm.Cond.code ({ cls := "RecipeOfScales", name := "lay", desc := "(I)I" } : Jvm.MethodName) prog_1_method_31_code (2 : Nat) (Option.some Jvm.ClassFile.FieldType.int)) ∈ lw_all := lw_g (lw_at lw_m4 183 rfl) rfl
theorem q958 : (Jvm.Cond.instanceMethod ({ cls := "RecipeOfScales", name := "weigh", desc := "(III)I" } : Jvm.MethodName)) ∈ lw_all := lw_g (lw_at lw_m4 188 rfl) rfl
theorem q959 : (Jvm.Cond.selects "RecipeOfScales" ({ cls := "RecipeOfScales", name := "weigh", desc := "(III)I" } : Jvm.MethodName) ({ cls := "RecipeOfScales", name := "weigh", desc := "(III)I" } : Jvm.MethodName)) ∈ lw_all := lw_g (lw_at lw_m4 189 rfl) rfl
theorem q960 : (Jvm.Cond.code ({ cls := "RecipeOfScales", name := "weigh", desc := "(III)I" } : Jvm.MethodName) prog_1_method_32_code (6 : Nat) (Option.some Jvm.ClassFile.FieldType.int)) ∈ lw_all := lw_g (lw_at lw_m4 190 rfl) rfl
theorem q961 : (Jvm.Cond.methodLink "RecipeOfScales" (196 : Nat) ({ cls := "RecipeOfScales", name := "isWeighing", desc := "(II)V" } : Jvm.MethodName)) ∈ lw_all := lw_g (lw_at lw_m4 191 rfl) rfl
theorem q962 : (Jvm.Cond.privateMethod ({ cls := "RecipeOfScales", name := "isWeighing", desc := "(II)V" } : Jvm.MethodName)) ∈ lw_tbl := lw_at lw_m4 192 rfl
theorem q963 : (Jvm.Cond.instanceMethod ({ cls := "RecipeOfScales", name := "isWeighing", desc := "(II)V" } : Jvm.MethodName)) ∈ lw_all := lw_g (lw_at lw_m4 193 rfl) rfl
theorem q964 : (Jvm.Cond.code ({ cls := "RecipeOfScales", name := "isWeighing", desc := "(II)V" } : Jvm.MethodName) prog_1_method_28_code (5 : Nat) (Option.none : Option Jvm.ClassFile.FieldType)) ∈ lw_all := lw_g (lw_at lw_m4 194 rfl) rfl
theorem q965 : (Jvm.Cond.stringRef "RecipeOfScales" (191 : Nat) "that is no weighing") ∈ lw_tbl := lw_at lw_m4 195 rfl
theorem q966 : (Jvm.Cond.methodLink "RecipeOfScales" (199 : Nat) ({ cls := "RecipeOfScales", name := "heavyBehind", desc := "(III)I" } : Jvm.MethodName)) ∈ lw_all := lw_g (lw_at lw_m4 196 rfl) rfl
theorem q967 : (Jvm.Cond.privateMethod ({ cls := "RecipeOfScales", name := "heavyBehind", desc := "(III)I" } : Jvm.MethodName)) ∈ lw_tbl := lw_at lw_m4 197 rfl
theorem q968 : (Jvm.Cond.instanceMethod ({ cls := "RecipeOfScales", name := "heavyBehind", desc := "(III)I" } : Jvm.MethodName)) ∈ lw_all := lw_g (lw_at lw_m4 198 rfl) rfl
theorem q969 : (Jvm.Cond.code ({ cls := "RecipeOfScales", name := "heavyBehind", desc := "(III)I" } : Jvm.MethodName) prog_1_method_29_code (4 : Nat) (Option.some Jvm.ClassFile.FieldType.int)) ∈ lw_all := lw_g (lw_at lw_m4 199 rfl) rfl
theorem q970 : (Jvm.Cond.methodLink "RecipeOfScales" (202 : Nat) ({ cls := "RecipeOfScales", name := "lightBehind", desc := "(III)I" } : Jvm.MethodName)) ∈ lw_all := lw_g (lw_at lw_m4 200 rfl) rfl
theorem q971 : (Jvm.Cond.privateMethod ({ cls := "RecipeOfScales", name := "lightBehind", desc := "(III)I" } : Jvm.MethodName)) ∈ lw_tbl := lw_at lw_m4 201 rfl
theorem q972 : (Jvm.Cond.instanceMethod ({ cls := "RecipeOfScales", name := "lightBehind", desc := "(III)I" } : Jvm.MethodName)) ∈ lw_all := lw_g (lw_at lw_m4 202 rfl) rfl
theorem q973 : (Jvm.Cond.code ({ cls := "RecipeOfScales", name := "lightBehind", desc := "(III)I" } : Jvm.MethodName) prog_1_method_30_code (4 : Nat) (Option.some Jvm.ClassFile.FieldType.int)) ∈ lw_all := lw_g (lw_at lw_m4 203 rfl) rfl
theorem q974 : (Jvm.Cond.stringRef "RecipeOfScales" (205 : Nat) "no coin would lead to that") ∈ lw_tbl := lw_at lw_m4 204 rfl
theorem q975 : (Jvm.Cond.methodLink "RecipeOfScales" (207 : Nat) ({ cls := "RecipeOfScales", name := "possible", desc := "()I" } : Jvm.MethodName)) ∈ lw_all := lw_g (lw_at lw_m4 205 rfl) rfl
theorem q980 : (Jvm.Cond.instanceMethod ({ cls := "RecipeOfScales", name := "mayBe", desc := "(IZ)Z" } : Jvm.MethodName)) ∈ lw_all := lw_g (lw_at lw_m4 210 rfl) rfl
theorem q981 : (Jvm.Cond.selects "RecipeOfScales" ({ cls := "RecipeOfScales", name := "mayBe", desc := "(IZ)Z" } : Jvm.MethodName) ({ cls := "RecipeOfScales", name := "mayBe", desc := "(IZ)Z" } : Jvm.MethodName)) ∈ lw_all := lw_g (lw_at lw_m4 211 rfl) rfl
theorem q982 : (Jvm.Cond.code ({ cls := "RecipeOfScales", name := "mayBe", desc := "(IZ)Z" } : Jvm.MethodName) prog_1_method_35_code (3 : Nat) (Option.some Jvm.ClassFile.FieldType.boolean)) ∈ lw_all := lw_g (lw_at lw_m4 212 rfl) rfl
theorem q983 : (Jvm.Cond.stringRef "RecipeOfScales" (210 : Nat) "no coin ") ∈ lw_tbl := lw_at lw_m4 213 rfl
theorem q988 : (Jvm.Cond.instanceMethod ({ cls := "RecipeOfScales", name := "faulty", desc := "()I" } : Jvm.MethodName)) ∈ lw_all := lw_g (lw_at lw_m4 218 rfl) rfl
theorem q989 : (Jvm.Cond.selects "RecipeOfScales" ({ cls := "RecipeOfScales", name := "faulty", desc := "()I" } : Jvm.MethodName) ({ cls := "RecipeOfScales", name := "faulty", desc := "()I" } : Jvm.MethodName)) ∈ lw_all := lw_g (lw_at lw_m4 219 rfl) rfl
theorem q990 : (Jvm.Cond.code ({ cls := "RecipeOfScales", name := "faulty", desc := "()I" } : Jvm.MethodName) prog_1_method_36_code (1 : Nat) (Option.some Jvm.ClassFile.FieldType.int)) ∈ lw_all := lw_g (lw_at lw_m4 220 rfl) rfl
theorem q991 : (Jvm.Cond.stringRef "RecipeOfScales" (212 : Nat) "the coin is not found") ∈ lw_tbl := lw_at lw_m4 221 rfl
theorem q992 : (Jvm.Cond.methodLink "RecipeOfScales" (214 : Nat) ({ cls := "java/lang/Integer", name := "numberOfTrailingZeros", desc := "(I)I" } : Jvm.MethodName)) ∈ lw_all := lw_g (lw_at lw_m4 222 rfl) rfl
theorem q1000 : (Jvm.Cond.instanceMethod ({ cls := "RecipeOfScales", name := "isGood", desc := "(II)Z" } : Jvm.MethodName)) ∈ lw_all := lw_g (lw_at lw_m4 230 rfl) rfl
theorem q1001 : (Jvm.Cond.selects "RecipeOfScales" ({ cls := "RecipeOfScales", name := "isGood", desc := "(II)Z" } : Jvm.MethodName) ({ cls := "RecipeOfScales", name := "isGood", desc := "(II)Z" } : Jvm.MethodName)) ∈ lw_all := lw_g (lw_at lw_m4 231 rfl) rfl
theorem q1002 : (Jvm.Cond.code ({ cls := "RecipeOfScales", name := "isGood", desc := "(II)Z" } : Jvm.MethodName) prog_1_method_39_code (3 : Nat) (Option.some Jvm.ClassFile.FieldType.boolean)) ∈ lw_all := lw_g (lw_at lw_m4 232 rfl) rfl
theorem q1003 : (Jvm.Cond.methodLink "RecipeOfScales" (217 : Nat) ({ cls := "RecipeOfScales", name := "weighings", desc := "()I" } : Jvm.MethodName)) ∈ lw_all := lw_g (lw_at lw_m4 233 rfl) rfl
theorem q1004 : (Jvm.Cond.methodLink "RecipeOfScales" (220 : Nat) ({ cls := "RecipeOfScales", name := "isGoodFor", desc := "(III)Z" } : Jvm.MethodName)) ∈ lw_all := lw_g (lw_at lw_m4 234 rfl) rfl
theorem q1005 : (Jvm.Cond.privateMethod ({ cls := "RecipeOfScales", name := "isGoodFor", desc := "(III)Z" } : Jvm.MethodName)) ∈ lw_tbl := lw_at lw_m4 235 rfl
theorem q1006 : (Jvm.Cond.instanceMethod ({ cls := "RecipeOfScales", name := "isGoodFor", desc := "(III)Z" } : Jvm.MethodName)) ∈ lw_all := lw_g (lw_at lw_m4 236 rfl) rfl
theorem q1007 : (Jvm.Cond.code ({ cls := "RecipeOfScales", name := "isGoodFor", desc := "(III)Z" } : Jvm.MethodName) prog_1_method_38_code (6 : Nat) (Option.some Jvm.ClassFile.FieldType.boolean)) ∈ lw_all := lw_g (lw_at lw_m4 237 rfl) rfl
theorem q1012 : (Jvm.Cond.instanceMethod ({ cls := "RecipeOfScales", name := "goodLeft", desc := "()I" } : Jvm.MethodName)) ∈ lw_all := lw_g (lw_at lw_m5 2 rfl) rfl
theorem q1013 : (Jvm.Cond.selects "RecipeOfScales" ({ cls := "RecipeOfScales", name := "goodLeft", desc := "()I" } : Jvm.MethodName) ({ cls := "RecipeOfScales", name := "goodLeft", desc := "()I" } : Jvm.MethodName)) ∈ lw_all := lw_g (lw_at lw_m5 3 rfl) rfl
theorem q1014 : (Jvm.Cond.code ({ cls := "RecipeOfScales", name := "goodLeft", desc := "()I" } : Jvm.MethodName) prog_1_method_41_code (1 : Nat) (Option.some Jvm.ClassFile.FieldType.int)) ∈ lw_all := lw_g (lw_at lw_m5 4 rfl) rfl
theorem q1015 : (Jvm.Cond.methodLink "RecipeOfScales" (226 : Nat) ({ cls := "RecipeOfScales", name := "goodWeighing", desc := "()I" } : Jvm.MethodName)) ∈ lw_all := lw_g (lw_at lw_m5 5 rfl) rfl
theorem q1016 : (Jvm.Cond.privateMethod ({ cls := "RecipeOfScales", name := "goodWeighing", desc := "()I" } : Jvm.MethodName)) ∈ lw_tbl := lw_at lw_m5 6 rfl
theorem q1017 : (Jvm.Cond.instanceMethod ({ cls := "RecipeOfScales", name := "goodWeighing", desc := "()I" } : Jvm.MethodName)) ∈ lw_all := lw_g (lw_at lw_m5 7 rfl) rfl
theorem q1018 : (Jvm.Cond.code ({ cls := "RecipeOfScales", name := "goodWeighing", desc := "()I" } : Jvm.MethodName) prog_1_method_40_code (6 : Nat) (Option.some Jvm.ClassFile.FieldType.int)) ∈ lw_all := lw_g (lw_at lw_m5 8 rfl) rfl
theorem q1019 : (Jvm.Cond.stringRef "RecipeOfScales" (224 : Nat) "the coin is found") ∈ lw_tbl := lw_at lw_m5 9 rfl
theorem q1024 : (Jvm.Cond.instanceMethod ({ cls := "RecipeOfScales", name := "goodRight", desc := "()I" } : Jvm.MethodName)) ∈ lw_all := lw_g (lw_at lw_m5 14 rfl) rfl
theorem q1025 : (Jvm.Cond.selects "RecipeOfScales" ({ cls := "RecipeOfScales", name := "goodRight", desc := "()I" } : Jvm.MethodName) ({ cls := "RecipeOfScales", name := "goodRight", desc := "()I" } : Jvm.MethodName)) ∈ lw_all := lw_g (lw_at lw_m5 15 rfl) rfl
theorem q1026 : (Jvm.Cond.code ({ cls := "RecipeOfScales", name := "goodRight", desc := "()I" } : Jvm.MethodName) prog_1_method_42_code (1 : Nat) (Option.some Jvm.ClassFile.FieldType.int)) ∈ lw_all := lw_g (lw_at lw_m5 16 rfl) rfl
theorem q1319 : (Jvm.Cond.castable "RecipeOfScales" "java/lang/Object") ∈ lw_tbl := lw_at lw_m6 69 rfl
theorem in_X1 : ∀ w ∈ wsX10, w ∈ lw_all := lw_in wsX10 [158, 160, 162, 164, 166, 168, 170, 172] (by decide +kernel) (by decide +kernel)
/-! RecipeOfScales$Book -/
set_option maxRecDepth 100000
def RX2 : String := "RecipeOfScales$Book"
def TX2 : u_T := fun k => match k with
  | 0 => ("RecipeOfScales$Book", "best", "[[I", true)
  | 1 => ("RecipeOfScales$Book", "ways", "[S", true)
  | 2 => ("RecipeOfScales$Book", "errors", "[S", true)
  | _ => ("RecipeOfScales$Book", "before", "[S", true)
def tyX2 : Nat → FieldType := fun k => match k with
  | 0 => .array (.array .int)
  | 1 => .array .short
  | 2 => .array .short
  | _ => .array .short
abbrev wsX20 : List Cond := u_ws RX2 TX2 4
theorem nmX2 : ∀ a, a < 4 → ∀ b, b < 4 → a ≠ b → (TX2 a).2.1 ≠ (TX2 b).2.1 := by decide +kernel
theorem tyX2_ok : ∀ k, k < 4 → parseFieldDescriptor (TX2 k).2.2.1 = some (tyX2 k) := by decide +kernel
abbrev cX2_init : ByteArray := prog_2_method_1_code
def yX2_init : MethodName := ⟨RX2, "<init>", "()V"⟩
def dkwX2_init_1 : List UInt8 := [181, 0, 16, 42, 17, 27, 89, 188, 9, 181, 0, 20, 42, 17, 27, 89, 188, 9, 181, 0, 23, 177]
abbrev dktX2_init_1 : List UInt8 := dkwX2_init_1 ++ []
def dkwX2_init_0 : List UInt8 := [42, 183, 0, 3, 42, 16, 8, 17, 27, 89, 197, 0, 9, 2, 181, 0, 11, 42, 17, 27, 89, 188, 9]
abbrev dktX2_init_0 : List UInt8 := dkwX2_init_0 ++ dktX2_init_1
theorem dksX2_init_0 : cX2_init.data.toList.drop 0 = dktX2_init_0 := by decide +kernel
theorem dksX2_init_1 : cX2_init.data.toList.drop 23 = dktX2_init_1 := dk_seg dksX2_init_0 23 rfl rfl
theorem dX2_init_0 : decode cX2_init 0 = .ok (.aload_n 0, 1) := dk_42 (dk_at dksX2_init_0 0 rfl rfl)
theorem dX2_init_1 : decode cX2_init 1 = .ok (.invokespecial 3, 3) := dk_183 0 3 (dk_at dksX2_init_0 1 rfl rfl)
theorem dX2_init_4 : decode cX2_init 4 = .ok (.aload_n 0, 1) := dk_42 (dk_at dksX2_init_0 4 rfl rfl)
theorem dX2_init_5 : decode cX2_init 5 = .ok (.bipush 8, 2) := dk_16 8 (dk_at dksX2_init_0 5 rfl rfl)
theorem dX2_init_7 : decode cX2_init 7 = .ok (.sipush 7001, 3) := dk_17 27 89 (dk_at dksX2_init_0 7 rfl rfl)
theorem dX2_init_10 : decode cX2_init 10 = .ok (.multianewarray 9 2, 4) := by decide +kernel
theorem dX2_init_14 : decode cX2_init 14 = .ok (.putfield 11, 3) := dk_181 0 11 (dk_at dksX2_init_0 14 rfl rfl)
theorem dX2_init_17 : decode cX2_init 17 = .ok (.aload_n 0, 1) := dk_42 (dk_at dksX2_init_0 17 rfl rfl)
theorem dX2_init_18 : decode cX2_init 18 = .ok (.sipush 7001, 3) := dk_17 27 89 (dk_at dksX2_init_0 18 rfl rfl)
theorem dX2_init_21 : decode cX2_init 21 = .ok (.newarray .short, 2) := dk_188_9 (dk_at dksX2_init_0 21 rfl rfl)
theorem dX2_init_23 : decode cX2_init 23 = .ok (.putfield 16, 3) := dk_181 0 16 (dk_at dksX2_init_1 0 rfl rfl)
theorem dX2_init_26 : decode cX2_init 26 = .ok (.aload_n 0, 1) := dk_42 (dk_at dksX2_init_1 3 rfl rfl)
theorem dX2_init_27 : decode cX2_init 27 = .ok (.sipush 7001, 3) := dk_17 27 89 (dk_at dksX2_init_1 4 rfl rfl)
theorem dX2_init_30 : decode cX2_init 30 = .ok (.newarray .short, 2) := dk_188_9 (dk_at dksX2_init_1 7 rfl rfl)
theorem dX2_init_32 : decode cX2_init 32 = .ok (.putfield 20, 3) := dk_181 0 20 (dk_at dksX2_init_1 9 rfl rfl)
theorem dX2_init_35 : decode cX2_init 35 = .ok (.aload_n 0, 1) := dk_42 (dk_at dksX2_init_1 12 rfl rfl)
theorem dX2_init_36 : decode cX2_init 36 = .ok (.sipush 7001, 3) := dk_17 27 89 (dk_at dksX2_init_1 13 rfl rfl)
theorem dX2_init_39 : decode cX2_init 39 = .ok (.newarray .short, 2) := dk_188_9 (dk_at dksX2_init_1 16 rfl rfl)
theorem dX2_init_41 : decode cX2_init 41 = .ok (.putfield 23, 3) := dk_181 0 23 (dk_at dksX2_init_1 18 rfl rfl)
theorem dX2_init_44 : decode cX2_init 44 = .ok (.return_, 1) := dk_177 (dk_at dksX2_init_1 21 rfl rfl)
abbrev cX2_writes : ByteArray := prog_2_method_2_code
def yX2_writes : MethodName := ⟨RX2, "writes", "(Ljava/util/List;)V"⟩
def dkwX2_writes_4 : List UInt8 := [167, 255, 224, 177]
abbrev dktX2_writes_4 : List UInt8 := dkwX2_writes_4 ++ []
def dkwX2_writes_3 : List UInt8 := [44, 185, 0, 42, 1, 0, 192, 0, 46, 78, 42, 45, 182, 0, 48, 182, 0, 52, 42, 45, 182, 0, 56]
abbrev dktX2_writes_3 : List UInt8 := dkwX2_writes_3 ++ dktX2_writes_4
def dkwX2_writes_2 : List UInt8 := [180, 0, 20, 17, 13, 172, 3, 86, 43, 185, 0, 30, 1, 0, 77, 44, 185, 0, 36, 1, 0, 153, 0, 29]
abbrev dktX2_writes_2 : List UInt8 := dkwX2_writes_2 ++ dktX2_writes_3
def dkwX2_writes_1 : List UInt8 := [180, 0, 20, 28, 17, 39, 15, 86, 132, 2, 1, 167, 255, 228, 42, 180, 0, 16, 17, 13, 172, 4, 86, 42]
abbrev dktX2_writes_1 : List UInt8 := dkwX2_writes_1 ++ dktX2_writes_2
def dkwX2_writes_0 : List UInt8 := [42, 43, 182, 0, 26, 3, 61, 28, 42, 180, 0, 16, 190, 162, 0, 25, 42, 180, 0, 16, 28, 3, 86, 42]
abbrev dktX2_writes_0 : List UInt8 := dkwX2_writes_0 ++ dktX2_writes_1
theorem dksX2_writes_0 : cX2_writes.data.toList.drop 0 = dktX2_writes_0 := by decide +kernel
theorem dksX2_writes_1 : cX2_writes.data.toList.drop 24 = dktX2_writes_1 := dk_seg dksX2_writes_0 24 rfl rfl
theorem dksX2_writes_2 : cX2_writes.data.toList.drop 48 = dktX2_writes_2 := dk_seg dksX2_writes_1 24 rfl rfl
theorem dksX2_writes_3 : cX2_writes.data.toList.drop 72 = dktX2_writes_3 := dk_seg dksX2_writes_2 24 rfl rfl
theorem dksX2_writes_4 : cX2_writes.data.toList.drop 95 = dktX2_writes_4 := dk_seg dksX2_writes_3 23 rfl rfl
theorem dX2_writes_0 : decode cX2_writes 0 = .ok (.aload_n 0, 1) := dk_42 (dk_at dksX2_writes_0 0 rfl rfl)
theorem dX2_writes_1 : decode cX2_writes 1 = .ok (.aload_n 1, 1) := dk_43 (dk_at dksX2_writes_0 1 rfl rfl)
theorem dX2_writes_2 : decode cX2_writes 2 = .ok (.invokevirtual 26, 3) := dk_182 0 26 (dk_at dksX2_writes_0 2 rfl rfl)
theorem dX2_writes_5 : decode cX2_writes 5 = .ok (.iconst 0, 1) := dk_3 (dk_at dksX2_writes_0 5 rfl rfl)
theorem dX2_writes_6 : decode cX2_writes 6 = .ok (.istore_n 2, 1) := dk_61 (dk_at dksX2_writes_0 6 rfl rfl)
theorem dX2_writes_7 : decode cX2_writes 7 = .ok (.iload_n 2, 1) := dk_28 (dk_at dksX2_writes_0 7 rfl rfl)
theorem dX2_writes_8 : decode cX2_writes 8 = .ok (.aload_n 0, 1) := dk_42 (dk_at dksX2_writes_0 8 rfl rfl)
theorem dX2_writes_9 : decode cX2_writes 9 = .ok (.getfield 16, 3) := dk_180 0 16 (dk_at dksX2_writes_0 9 rfl rfl)
theorem dX2_writes_12 : decode cX2_writes 12 = .ok (.arraylength, 1) := dk_190 (dk_at dksX2_writes_0 12 rfl rfl)
theorem dX2_writes_13 : decode cX2_writes 13 = .ok (.if_icmp .ge 25, 3) := dk_162 0 25 (dk_at dksX2_writes_0 13 rfl rfl)
theorem dX2_writes_16 : decode cX2_writes 16 = .ok (.aload_n 0, 1) := dk_42 (dk_at dksX2_writes_0 16 rfl rfl)
theorem dX2_writes_17 : decode cX2_writes 17 = .ok (.getfield 16, 3) := dk_180 0 16 (dk_at dksX2_writes_0 17 rfl rfl)
theorem dX2_writes_20 : decode cX2_writes 20 = .ok (.iload_n 2, 1) := dk_28 (dk_at dksX2_writes_0 20 rfl rfl)
theorem dX2_writes_21 : decode cX2_writes 21 = .ok (.iconst 0, 1) := dk_3 (dk_at dksX2_writes_0 21 rfl rfl)
theorem dX2_writes_22 : decode cX2_writes 22 = .ok (.sastore, 1) := dk_86 (dk_at dksX2_writes_0 22 rfl rfl)
theorem dX2_writes_23 : decode cX2_writes 23 = .ok (.aload_n 0, 1) := dk_42 (dk_at dksX2_writes_0 23 rfl rfl)
theorem dX2_writes_24 : decode cX2_writes 24 = .ok (.getfield 20, 3) := dk_180 0 20 (dk_at dksX2_writes_1 0 rfl rfl)
theorem dX2_writes_27 : decode cX2_writes 27 = .ok (.iload_n 2, 1) := dk_28 (dk_at dksX2_writes_1 3 rfl rfl)
theorem dX2_writes_28 : decode cX2_writes 28 = .ok (.sipush 9999, 3) := dk_17 39 15 (dk_at dksX2_writes_1 4 rfl rfl)
theorem dX2_writes_31 : decode cX2_writes 31 = .ok (.sastore, 1) := dk_86 (dk_at dksX2_writes_1 7 rfl rfl)
theorem dX2_writes_32 : decode cX2_writes 32 = .ok (.iinc 2 1, 3) := dk_132 2 1 (dk_at dksX2_writes_1 8 rfl rfl)
theorem dX2_writes_35 : decode cX2_writes 35 = .ok (.goto (-28), 3) := dk_167 255 228 (dk_at dksX2_writes_1 11 rfl rfl)
theorem dX2_writes_38 : decode cX2_writes 38 = .ok (.aload_n 0, 1) := dk_42 (dk_at dksX2_writes_1 14 rfl rfl)
theorem dX2_writes_39 : decode cX2_writes 39 = .ok (.getfield 16, 3) := dk_180 0 16 (dk_at dksX2_writes_1 15 rfl rfl)
theorem dX2_writes_42 : decode cX2_writes 42 = .ok (.sipush 3500, 3) := dk_17 13 172 (dk_at dksX2_writes_1 18 rfl rfl)
theorem dX2_writes_45 : decode cX2_writes 45 = .ok (.iconst 1, 1) := dk_4 (dk_at dksX2_writes_1 21 rfl rfl)
theorem dX2_writes_46 : decode cX2_writes 46 = .ok (.sastore, 1) := dk_86 (dk_at dksX2_writes_1 22 rfl rfl)
theorem dX2_writes_47 : decode cX2_writes 47 = .ok (.aload_n 0, 1) := dk_42 (dk_at dksX2_writes_1 23 rfl rfl)
theorem dX2_writes_48 : decode cX2_writes 48 = .ok (.getfield 20, 3) := dk_180 0 20 (dk_at dksX2_writes_2 0 rfl rfl)
theorem dX2_writes_51 : decode cX2_writes 51 = .ok (.sipush 3500, 3) := dk_17 13 172 (dk_at dksX2_writes_2 3 rfl rfl)
theorem dX2_writes_54 : decode cX2_writes 54 = .ok (.iconst 0, 1) := dk_3 (dk_at dksX2_writes_2 6 rfl rfl)
theorem dX2_writes_55 : decode cX2_writes 55 = .ok (.sastore, 1) := dk_86 (dk_at dksX2_writes_2 7 rfl rfl)
theorem dX2_writes_56 : decode cX2_writes 56 = .ok (.aload_n 1, 1) := dk_43 (dk_at dksX2_writes_2 8 rfl rfl)
theorem dX2_writes_57 : decode cX2_writes 57 = .ok (.invokeinterface 30 1, 5) := by decide +kernel
theorem dX2_writes_62 : decode cX2_writes 62 = .ok (.astore_n 2, 1) := dk_77 (dk_at dksX2_writes_2 14 rfl rfl)
theorem dX2_writes_63 : decode cX2_writes 63 = .ok (.aload_n 2, 1) := dk_44 (dk_at dksX2_writes_2 15 rfl rfl)
theorem dX2_writes_64 : decode cX2_writes 64 = .ok (.invokeinterface 36 1, 5) := by decide +kernel
theorem dX2_writes_69 : decode cX2_writes 69 = .ok (.ifCond .eq 29, 3) := dk_153 0 29 (dk_at dksX2_writes_2 21 rfl rfl)
theorem dX2_writes_72 : decode cX2_writes 72 = .ok (.aload_n 2, 1) := dk_44 (dk_at dksX2_writes_3 0 rfl rfl)
theorem dX2_writes_73 : decode cX2_writes 73 = .ok (.invokeinterface 42 1, 5) := by decide +kernel
theorem dX2_writes_78 : decode cX2_writes 78 = .ok (.checkcast 46, 3) := dk_192 0 46 (dk_at dksX2_writes_3 6 rfl rfl)
theorem dX2_writes_81 : decode cX2_writes 81 = .ok (.astore_n 3, 1) := dk_78 (dk_at dksX2_writes_3 9 rfl rfl)
theorem dX2_writes_82 : decode cX2_writes 82 = .ok (.aload_n 0, 1) := dk_42 (dk_at dksX2_writes_3 10 rfl rfl)
theorem dX2_writes_83 : decode cX2_writes 83 = .ok (.aload_n 3, 1) := dk_45 (dk_at dksX2_writes_3 11 rfl rfl)
theorem dX2_writes_84 : decode cX2_writes 84 = .ok (.invokevirtual 48, 3) := dk_182 0 48 (dk_at dksX2_writes_3 12 rfl rfl)
theorem dX2_writes_87 : decode cX2_writes 87 = .ok (.invokevirtual 52, 3) := dk_182 0 52 (dk_at dksX2_writes_3 15 rfl rfl)
theorem dX2_writes_90 : decode cX2_writes 90 = .ok (.aload_n 0, 1) := dk_42 (dk_at dksX2_writes_3 18 rfl rfl)
theorem dX2_writes_91 : decode cX2_writes 91 = .ok (.aload_n 3, 1) := dk_45 (dk_at dksX2_writes_3 19 rfl rfl)
theorem dX2_writes_92 : decode cX2_writes 92 = .ok (.invokevirtual 56, 3) := dk_182 0 56 (dk_at dksX2_writes_3 20 rfl rfl)
theorem dX2_writes_95 : decode cX2_writes 95 = .ok (.goto (-32), 3) := dk_167 255 224 (dk_at dksX2_writes_4 0 rfl rfl)
theorem dX2_writes_98 : decode cX2_writes 98 = .ok (.return_, 1) := dk_177 (dk_at dksX2_writes_4 3 rfl rfl)
abbrev cX2_writesBest : ByteArray := prog_2_method_3_code
def yX2_writesBest : MethodName := ⟨RX2, "writesBest", "(Ljava/util/List;)V"⟩
def dkwX2_writesBest_7 : List UInt8 := [167, 255, 149, 177]
abbrev dktX2_writesBest_7 : List UInt8 := dkwX2_writesBest_7 ++ []
def dkwX2_writesBest_6 : List UInt8 := [182, 0, 67, 21, 6, 21, 7, 184, 0, 71, 184, 0, 71, 79, 132, 5, 1, 167, 255, 179, 132, 3, 255]
abbrev dktX2_writesBest_6 : List UInt8 := dkwX2_writesBest_6 ++ dktX2_writesBest_7
def dkwX2_writesBest_5 : List UInt8 := [182, 0, 67, 96, 54, 7, 42, 180, 0, 11, 29, 50, 17, 13, 172, 21, 5, 96, 42, 29, 4, 96, 21, 5]
abbrev dktX2_writesBest_5 : List UInt8 := dkwX2_writesBest_5 ++ dktX2_writesBest_6
def dkwX2_writesBest_4 : List UInt8 := [21, 5, 21, 4, 100, 182, 0, 67, 96, 54, 6, 16, 17, 42, 29, 4, 96, 21, 5, 21, 4, 96]
abbrev dktX2_writesBest_4 : List UInt8 := dkwX2_writesBest_4 ++ dktX2_writesBest_5
def dkwX2_writesBest_3 : List UInt8 := [182, 0, 48, 54, 4, 17, 242, 84, 54, 5, 21, 5, 17, 13, 172, 163, 0, 75, 16, 16, 42, 29, 4, 96]
abbrev dktX2_writesBest_3 : List UInt8 := dkwX2_writesBest_3 ++ dktX2_writesBest_4
def dkwX2_writesBest_2 : List UInt8 := [185, 0, 60, 1, 0, 4, 100, 62, 29, 155, 0, 109, 43, 29, 185, 0, 63, 2, 0, 192, 0, 46]
abbrev dktX2_writesBest_2 : List UInt8 := dkwX2_writesBest_2 ++ dktX2_writesBest_3
def dkwX2_writesBest_1 : List UInt8 := [17, 13, 172, 160, 0, 7, 3, 167, 0, 6, 17, 39, 15, 79, 132, 3, 1, 167, 255, 230, 43]
abbrev dktX2_writesBest_1 : List UInt8 := dkwX2_writesBest_1 ++ dktX2_writesBest_2
def dkwX2_writesBest_0 : List UInt8 := [42, 180, 0, 11, 43, 185, 0, 60, 1, 0, 50, 77, 3, 62, 29, 44, 190, 162, 0, 26, 44, 29, 29]
abbrev dktX2_writesBest_0 : List UInt8 := dkwX2_writesBest_0 ++ dktX2_writesBest_1
theorem dksX2_writesBest_0 : cX2_writesBest.data.toList.drop 0 = dktX2_writesBest_0 := by decide +kernel
theorem dksX2_writesBest_1 : cX2_writesBest.data.toList.drop 23 = dktX2_writesBest_1 := dk_seg dksX2_writesBest_0 23 rfl rfl
theorem dksX2_writesBest_2 : cX2_writesBest.data.toList.drop 44 = dktX2_writesBest_2 := dk_seg dksX2_writesBest_1 21 rfl rfl
theorem dksX2_writesBest_3 : cX2_writesBest.data.toList.drop 66 = dktX2_writesBest_3 := dk_seg dksX2_writesBest_2 22 rfl rfl
theorem dksX2_writesBest_4 : cX2_writesBest.data.toList.drop 90 = dktX2_writesBest_4 := dk_seg dksX2_writesBest_3 24 rfl rfl
theorem dksX2_writesBest_5 : cX2_writesBest.data.toList.drop 112 = dktX2_writesBest_5 := dk_seg dksX2_writesBest_4 22 rfl rfl
theorem dksX2_writesBest_6 : cX2_writesBest.data.toList.drop 136 = dktX2_writesBest_6 := dk_seg dksX2_writesBest_5 24 rfl rfl
theorem dksX2_writesBest_7 : cX2_writesBest.data.toList.drop 159 = dktX2_writesBest_7 := dk_seg dksX2_writesBest_6 23 rfl rfl
theorem dX2_writesBest_0 : decode cX2_writesBest 0 = .ok (.aload_n 0, 1) := dk_42 (dk_at dksX2_writesBest_0 0 rfl rfl)
theorem dX2_writesBest_1 : decode cX2_writesBest 1 = .ok (.getfield 11, 3) := dk_180 0 11 (dk_at dksX2_writesBest_0 1 rfl rfl)
theorem dX2_writesBest_4 : decode cX2_writesBest 4 = .ok (.aload_n 1, 1) := dk_43 (dk_at dksX2_writesBest_0 4 rfl rfl)
theorem dX2_writesBest_5 : decode cX2_writesBest 5 = .ok (.invokeinterface 60 1, 5) := by decide +kernel
theorem dX2_writesBest_10 : decode cX2_writesBest 10 = .ok (.aaload, 1) := dk_50 (dk_at dksX2_writesBest_0 10 rfl rfl)
theorem dX2_writesBest_11 : decode cX2_writesBest 11 = .ok (.astore_n 2, 1) := dk_77 (dk_at dksX2_writesBest_0 11 rfl rfl)
theorem dX2_writesBest_12 : decode cX2_writesBest 12 = .ok (.iconst 0, 1) := dk_3 (dk_at dksX2_writesBest_0 12 rfl rfl)
theorem dX2_writesBest_13 : decode cX2_writesBest 13 = .ok (.istore_n 3, 1) := dk_62 (dk_at dksX2_writesBest_0 13 rfl rfl)
theorem dX2_writesBest_14 : decode cX2_writesBest 14 = .ok (.iload_n 3, 1) := dk_29 (dk_at dksX2_writesBest_0 14 rfl rfl)
theorem dX2_writesBest_15 : decode cX2_writesBest 15 = .ok (.aload_n 2, 1) := dk_44 (dk_at dksX2_writesBest_0 15 rfl rfl)
theorem dX2_writesBest_16 : decode cX2_writesBest 16 = .ok (.arraylength, 1) := dk_190 (dk_at dksX2_writesBest_0 16 rfl rfl)
theorem dX2_writesBest_17 : decode cX2_writesBest 17 = .ok (.if_icmp .ge 26, 3) := dk_162 0 26 (dk_at dksX2_writesBest_0 17 rfl rfl)
theorem dX2_writesBest_20 : decode cX2_writesBest 20 = .ok (.aload_n 2, 1) := dk_44 (dk_at dksX2_writesBest_0 20 rfl rfl)
theorem dX2_writesBest_21 : decode cX2_writesBest 21 = .ok (.iload_n 3, 1) := dk_29 (dk_at dksX2_writesBest_0 21 rfl rfl)
theorem dX2_writesBest_22 : decode cX2_writesBest 22 = .ok (.iload_n 3, 1) := dk_29 (dk_at dksX2_writesBest_0 22 rfl rfl)
theorem dX2_writesBest_23 : decode cX2_writesBest 23 = .ok (.sipush 3500, 3) := dk_17 13 172 (dk_at dksX2_writesBest_1 0 rfl rfl)
theorem dX2_writesBest_26 : decode cX2_writesBest 26 = .ok (.if_icmp .ne 7, 3) := dk_160 0 7 (dk_at dksX2_writesBest_1 3 rfl rfl)
theorem dX2_writesBest_29 : decode cX2_writesBest 29 = .ok (.iconst 0, 1) := dk_3 (dk_at dksX2_writesBest_1 6 rfl rfl)
theorem dX2_writesBest_30 : decode cX2_writesBest 30 = .ok (.goto 6, 3) := dk_167 0 6 (dk_at dksX2_writesBest_1 7 rfl rfl)
theorem dX2_writesBest_33 : decode cX2_writesBest 33 = .ok (.sipush 9999, 3) := dk_17 39 15 (dk_at dksX2_writesBest_1 10 rfl rfl)
theorem dX2_writesBest_36 : decode cX2_writesBest 36 = .ok (.iastore, 1) := dk_79 (dk_at dksX2_writesBest_1 13 rfl rfl)
theorem dX2_writesBest_37 : decode cX2_writesBest 37 = .ok (.iinc 3 1, 3) := dk_132 3 1 (dk_at dksX2_writesBest_1 14 rfl rfl)
theorem dX2_writesBest_40 : decode cX2_writesBest 40 = .ok (.goto (-26), 3) := dk_167 255 230 (dk_at dksX2_writesBest_1 17 rfl rfl)
theorem dX2_writesBest_43 : decode cX2_writesBest 43 = .ok (.aload_n 1, 1) := dk_43 (dk_at dksX2_writesBest_1 20 rfl rfl)
theorem dX2_writesBest_44 : decode cX2_writesBest 44 = .ok (.invokeinterface 60 1, 5) := by decide +kernel
theorem dX2_writesBest_49 : decode cX2_writesBest 49 = .ok (.iconst 1, 1) := dk_4 (dk_at dksX2_writesBest_2 5 rfl rfl)
theorem dX2_writesBest_50 : decode cX2_writesBest 50 = .ok (.isub, 1) := dk_100 (dk_at dksX2_writesBest_2 6 rfl rfl)
theorem dX2_writesBest_51 : decode cX2_writesBest 51 = .ok (.istore_n 3, 1) := dk_62 (dk_at dksX2_writesBest_2 7 rfl rfl)
theorem dX2_writesBest_52 : decode cX2_writesBest 52 = .ok (.iload_n 3, 1) := dk_29 (dk_at dksX2_writesBest_2 8 rfl rfl)
theorem dX2_writesBest_53 : decode cX2_writesBest 53 = .ok (.ifCond .lt 109, 3) := dk_155 0 109 (dk_at dksX2_writesBest_2 9 rfl rfl)
theorem dX2_writesBest_56 : decode cX2_writesBest 56 = .ok (.aload_n 1, 1) := dk_43 (dk_at dksX2_writesBest_2 12 rfl rfl)
theorem dX2_writesBest_57 : decode cX2_writesBest 57 = .ok (.iload_n 3, 1) := dk_29 (dk_at dksX2_writesBest_2 13 rfl rfl)
theorem dX2_writesBest_58 : decode cX2_writesBest 58 = .ok (.invokeinterface 63 2, 5) := by decide +kernel
theorem dX2_writesBest_63 : decode cX2_writesBest 63 = .ok (.checkcast 46, 3) := dk_192 0 46 (dk_at dksX2_writesBest_2 19 rfl rfl)
theorem dX2_writesBest_66 : decode cX2_writesBest 66 = .ok (.invokevirtual 48, 3) := dk_182 0 48 (dk_at dksX2_writesBest_3 0 rfl rfl)
theorem dX2_writesBest_69 : decode cX2_writesBest 69 = .ok (.istore 4, 2) := dk_54 4 (dk_at dksX2_writesBest_3 3 rfl rfl)
theorem dX2_writesBest_71 : decode cX2_writesBest 71 = .ok (.sipush (-3500), 3) := dk_17 242 84 (dk_at dksX2_writesBest_3 5 rfl rfl)
theorem dX2_writesBest_74 : decode cX2_writesBest 74 = .ok (.istore 5, 2) := dk_54 5 (dk_at dksX2_writesBest_3 8 rfl rfl)
theorem dX2_writesBest_76 : decode cX2_writesBest 76 = .ok (.iload 5, 2) := dk_21 5 (dk_at dksX2_writesBest_3 10 rfl rfl)
theorem dX2_writesBest_78 : decode cX2_writesBest 78 = .ok (.sipush 3500, 3) := dk_17 13 172 (dk_at dksX2_writesBest_3 12 rfl rfl)
theorem dX2_writesBest_81 : decode cX2_writesBest 81 = .ok (.if_icmp .gt 75, 3) := dk_163 0 75 (dk_at dksX2_writesBest_3 15 rfl rfl)
theorem dX2_writesBest_84 : decode cX2_writesBest 84 = .ok (.bipush 16, 2) := dk_16 16 (dk_at dksX2_writesBest_3 18 rfl rfl)
theorem dX2_writesBest_86 : decode cX2_writesBest 86 = .ok (.aload_n 0, 1) := dk_42 (dk_at dksX2_writesBest_3 20 rfl rfl)
theorem dX2_writesBest_87 : decode cX2_writesBest 87 = .ok (.iload_n 3, 1) := dk_29 (dk_at dksX2_writesBest_3 21 rfl rfl)
theorem dX2_writesBest_88 : decode cX2_writesBest 88 = .ok (.iconst 1, 1) := dk_4 (dk_at dksX2_writesBest_3 22 rfl rfl)
theorem dX2_writesBest_89 : decode cX2_writesBest 89 = .ok (.iadd, 1) := dk_96 (dk_at dksX2_writesBest_3 23 rfl rfl)
theorem dX2_writesBest_90 : decode cX2_writesBest 90 = .ok (.iload 5, 2) := dk_21 5 (dk_at dksX2_writesBest_4 0 rfl rfl)
theorem dX2_writesBest_92 : decode cX2_writesBest 92 = .ok (.iload 4, 2) := dk_21 4 (dk_at dksX2_writesBest_4 2 rfl rfl)
theorem dX2_writesBest_94 : decode cX2_writesBest 94 = .ok (.isub, 1) := dk_100 (dk_at dksX2_writesBest_4 4 rfl rfl)
theorem dX2_writesBest_95 : decode cX2_writesBest 95 = .ok (.invokevirtual 67, 3) := dk_182 0 67 (dk_at dksX2_writesBest_4 5 rfl rfl)
theorem dX2_writesBest_98 : decode cX2_writesBest 98 = .ok (.iadd, 1) := dk_96 (dk_at dksX2_writesBest_4 8 rfl rfl)
theorem dX2_writesBest_99 : decode cX2_writesBest 99 = .ok (.istore 6, 2) := dk_54 6 (dk_at dksX2_writesBest_4 9 rfl rfl)
theorem dX2_writesBest_101 : decode cX2_writesBest 101 = .ok (.bipush 17, 2) := dk_16 17 (dk_at dksX2_writesBest_4 11 rfl rfl)
theorem dX2_writesBest_103 : decode cX2_writesBest 103 = .ok (.aload_n 0, 1) := dk_42 (dk_at dksX2_writesBest_4 13 rfl rfl)
theorem dX2_writesBest_104 : decode cX2_writesBest 104 = .ok (.iload_n 3, 1) := dk_29 (dk_at dksX2_writesBest_4 14 rfl rfl)
theorem dX2_writesBest_105 : decode cX2_writesBest 105 = .ok (.iconst 1, 1) := dk_4 (dk_at dksX2_writesBest_4 15 rfl rfl)
theorem dX2_writesBest_106 : decode cX2_writesBest 106 = .ok (.iadd, 1) := dk_96 (dk_at dksX2_writesBest_4 16 rfl rfl)
theorem dX2_writesBest_107 : decode cX2_writesBest 107 = .ok (.iload 5, 2) := dk_21 5 (dk_at dksX2_writesBest_4 17 rfl rfl)
theorem dX2_writesBest_109 : decode cX2_writesBest 109 = .ok (.iload 4, 2) := dk_21 4 (dk_at dksX2_writesBest_4 19 rfl rfl)
theorem dX2_writesBest_111 : decode cX2_writesBest 111 = .ok (.iadd, 1) := dk_96 (dk_at dksX2_writesBest_4 21 rfl rfl)
theorem dX2_writesBest_112 : decode cX2_writesBest 112 = .ok (.invokevirtual 67, 3) := dk_182 0 67 (dk_at dksX2_writesBest_5 0 rfl rfl)
theorem dX2_writesBest_115 : decode cX2_writesBest 115 = .ok (.iadd, 1) := dk_96 (dk_at dksX2_writesBest_5 3 rfl rfl)
theorem dX2_writesBest_116 : decode cX2_writesBest 116 = .ok (.istore 7, 2) := dk_54 7 (dk_at dksX2_writesBest_5 4 rfl rfl)
theorem dX2_writesBest_118 : decode cX2_writesBest 118 = .ok (.aload_n 0, 1) := dk_42 (dk_at dksX2_writesBest_5 6 rfl rfl)
theorem dX2_writesBest_119 : decode cX2_writesBest 119 = .ok (.getfield 11, 3) := dk_180 0 11 (dk_at dksX2_writesBest_5 7 rfl rfl)
theorem dX2_writesBest_122 : decode cX2_writesBest 122 = .ok (.iload_n 3, 1) := dk_29 (dk_at dksX2_writesBest_5 10 rfl rfl)
theorem dX2_writesBest_123 : decode cX2_writesBest 123 = .ok (.aaload, 1) := dk_50 (dk_at dksX2_writesBest_5 11 rfl rfl)
theorem dX2_writesBest_124 : decode cX2_writesBest 124 = .ok (.sipush 3500, 3) := dk_17 13 172 (dk_at dksX2_writesBest_5 12 rfl rfl)
theorem dX2_writesBest_127 : decode cX2_writesBest 127 = .ok (.iload 5, 2) := dk_21 5 (dk_at dksX2_writesBest_5 15 rfl rfl)
theorem dX2_writesBest_129 : decode cX2_writesBest 129 = .ok (.iadd, 1) := dk_96 (dk_at dksX2_writesBest_5 17 rfl rfl)
theorem dX2_writesBest_130 : decode cX2_writesBest 130 = .ok (.aload_n 0, 1) := dk_42 (dk_at dksX2_writesBest_5 18 rfl rfl)
theorem dX2_writesBest_131 : decode cX2_writesBest 131 = .ok (.iload_n 3, 1) := dk_29 (dk_at dksX2_writesBest_5 19 rfl rfl)
theorem dX2_writesBest_132 : decode cX2_writesBest 132 = .ok (.iconst 1, 1) := dk_4 (dk_at dksX2_writesBest_5 20 rfl rfl)
theorem dX2_writesBest_133 : decode cX2_writesBest 133 = .ok (.iadd, 1) := dk_96 (dk_at dksX2_writesBest_5 21 rfl rfl)
theorem dX2_writesBest_134 : decode cX2_writesBest 134 = .ok (.iload 5, 2) := dk_21 5 (dk_at dksX2_writesBest_5 22 rfl rfl)
theorem dX2_writesBest_136 : decode cX2_writesBest 136 = .ok (.invokevirtual 67, 3) := dk_182 0 67 (dk_at dksX2_writesBest_6 0 rfl rfl)
theorem dX2_writesBest_139 : decode cX2_writesBest 139 = .ok (.iload 6, 2) := dk_21 6 (dk_at dksX2_writesBest_6 3 rfl rfl)
theorem dX2_writesBest_141 : decode cX2_writesBest 141 = .ok (.iload 7, 2) := dk_21 7 (dk_at dksX2_writesBest_6 5 rfl rfl)
theorem dX2_writesBest_143 : decode cX2_writesBest 143 = .ok (.invokestatic 71, 3) := dk_184 0 71 (dk_at dksX2_writesBest_6 7 rfl rfl)
theorem dX2_writesBest_146 : decode cX2_writesBest 146 = .ok (.invokestatic 71, 3) := dk_184 0 71 (dk_at dksX2_writesBest_6 10 rfl rfl)
theorem dX2_writesBest_149 : decode cX2_writesBest 149 = .ok (.iastore, 1) := dk_79 (dk_at dksX2_writesBest_6 13 rfl rfl)
theorem dX2_writesBest_150 : decode cX2_writesBest 150 = .ok (.iinc 5 1, 3) := dk_132 5 1 (dk_at dksX2_writesBest_6 14 rfl rfl)
theorem dX2_writesBest_153 : decode cX2_writesBest 153 = .ok (.goto (-77), 3) := dk_167 255 179 (dk_at dksX2_writesBest_6 17 rfl rfl)
theorem dX2_writesBest_156 : decode cX2_writesBest 156 = .ok (.iinc 3 (-1), 3) := dk_132 3 255 (dk_at dksX2_writesBest_6 20 rfl rfl)
theorem dX2_writesBest_159 : decode cX2_writesBest 159 = .ok (.goto (-107), 3) := dk_167 255 149 (dk_at dksX2_writesBest_7 0 rfl rfl)
theorem dX2_writesBest_162 : decode cX2_writesBest 162 = .ok (.return_, 1) := dk_177 (dk_at dksX2_writesBest_7 3 rfl rfl)
abbrev cX2_cost : ByteArray := prog_2_method_4_code
def yX2_cost : MethodName := ⟨RX2, "cost", "(II)I"⟩
def dkwX2_cost_1 : List UInt8 := [27, 50, 17, 13, 172, 28, 96, 46, 172]
abbrev dktX2_cost_1 : List UInt8 := dkwX2_cost_1 ++ []
def dkwX2_cost_0 : List UInt8 := [28, 17, 242, 84, 161, 0, 10, 28, 17, 13, 172, 164, 0, 9, 17, 39, 15, 167, 0, 15, 42, 180, 0, 11]
abbrev dktX2_cost_0 : List UInt8 := dkwX2_cost_0 ++ dktX2_cost_1
theorem dksX2_cost_0 : cX2_cost.data.toList.drop 0 = dktX2_cost_0 := by decide +kernel
theorem dksX2_cost_1 : cX2_cost.data.toList.drop 24 = dktX2_cost_1 := dk_seg dksX2_cost_0 24 rfl rfl
theorem dX2_cost_0 : decode cX2_cost 0 = .ok (.iload_n 2, 1) := dk_28 (dk_at dksX2_cost_0 0 rfl rfl)
theorem dX2_cost_1 : decode cX2_cost 1 = .ok (.sipush (-3500), 3) := dk_17 242 84 (dk_at dksX2_cost_0 1 rfl rfl)
theorem dX2_cost_4 : decode cX2_cost 4 = .ok (.if_icmp .lt 10, 3) := dk_161 0 10 (dk_at dksX2_cost_0 4 rfl rfl)
theorem dX2_cost_7 : decode cX2_cost 7 = .ok (.iload_n 2, 1) := dk_28 (dk_at dksX2_cost_0 7 rfl rfl)
theorem dX2_cost_8 : decode cX2_cost 8 = .ok (.sipush 3500, 3) := dk_17 13 172 (dk_at dksX2_cost_0 8 rfl rfl)
theorem dX2_cost_11 : decode cX2_cost 11 = .ok (.if_icmp .le 9, 3) := dk_164 0 9 (dk_at dksX2_cost_0 11 rfl rfl)
theorem dX2_cost_14 : decode cX2_cost 14 = .ok (.sipush 9999, 3) := dk_17 39 15 (dk_at dksX2_cost_0 14 rfl rfl)
theorem dX2_cost_17 : decode cX2_cost 17 = .ok (.goto 15, 3) := dk_167 0 15 (dk_at dksX2_cost_0 17 rfl rfl)
theorem dX2_cost_20 : decode cX2_cost 20 = .ok (.aload_n 0, 1) := dk_42 (dk_at dksX2_cost_0 20 rfl rfl)
theorem dX2_cost_21 : decode cX2_cost 21 = .ok (.getfield 11, 3) := dk_180 0 11 (dk_at dksX2_cost_0 21 rfl rfl)
theorem dX2_cost_24 : decode cX2_cost 24 = .ok (.iload_n 1, 1) := dk_27 (dk_at dksX2_cost_1 0 rfl rfl)
theorem dX2_cost_25 : decode cX2_cost 25 = .ok (.aaload, 1) := dk_50 (dk_at dksX2_cost_1 1 rfl rfl)
theorem dX2_cost_26 : decode cX2_cost 26 = .ok (.sipush 3500, 3) := dk_17 13 172 (dk_at dksX2_cost_1 2 rfl rfl)
theorem dX2_cost_29 : decode cX2_cost 29 = .ok (.iload_n 2, 1) := dk_28 (dk_at dksX2_cost_1 5 rfl rfl)
theorem dX2_cost_30 : decode cX2_cost 30 = .ok (.iadd, 1) := dk_96 (dk_at dksX2_cost_1 6 rfl rfl)
theorem dX2_cost_31 : decode cX2_cost 31 = .ok (.iaload, 1) := dk_46 (dk_at dksX2_cost_1 7 rfl rfl)
theorem dX2_cost_32 : decode cX2_cost 32 = .ok (.ireturn, 1) := dk_172 (dk_at dksX2_cost_1 8 rfl rfl)
abbrev cX2_writesWays : ByteArray := prog_2_method_6_code
def yX2_writesWays : MethodName := ⟨RX2, "writesWays", "(I)V"⟩
def dkwX2_writesWays_3 : List UInt8 := [167, 255, 210, 177]
abbrev dktX2_writesWays_3 : List UInt8 := dkwX2_writesWays_3 ++ []
def dkwX2_writesWays_2 : List UInt8 := [184, 0, 82, 42, 180, 0, 23, 28, 27, 96, 3, 184, 0, 82, 96, 147, 96, 147, 86, 132, 2, 1]
abbrev dktX2_writesWays_2 : List UInt8 := dkwX2_writesWays_2 ++ dktX2_writesWays_3
def dkwX2_writesWays_1 : List UInt8 := [180, 0, 16, 190, 162, 0, 43, 42, 180, 0, 16, 28, 92, 53, 42, 180, 0, 23, 28, 27, 100, 3]
abbrev dktX2_writesWays_1 : List UInt8 := dkwX2_writesWays_1 ++ dktX2_writesWays_2
def dkwX2_writesWays_0 : List UInt8 := [42, 180, 0, 16, 3, 42, 180, 0, 23, 3, 42, 180, 0, 16, 190, 184, 0, 76, 3, 61, 28, 42]
abbrev dktX2_writesWays_0 : List UInt8 := dkwX2_writesWays_0 ++ dktX2_writesWays_1
theorem dksX2_writesWays_0 : cX2_writesWays.data.toList.drop 0 = dktX2_writesWays_0 := by decide +kernel
theorem dksX2_writesWays_1 : cX2_writesWays.data.toList.drop 22 = dktX2_writesWays_1 := dk_seg dksX2_writesWays_0 22 rfl rfl
theorem dksX2_writesWays_2 : cX2_writesWays.data.toList.drop 44 = dktX2_writesWays_2 := dk_seg dksX2_writesWays_1 22 rfl rfl
theorem dksX2_writesWays_3 : cX2_writesWays.data.toList.drop 66 = dktX2_writesWays_3 := dk_seg dksX2_writesWays_2 22 rfl rfl
theorem dX2_writesWays_0 : decode cX2_writesWays 0 = .ok (.aload_n 0, 1) := dk_42 (dk_at dksX2_writesWays_0 0 rfl rfl)
theorem dX2_writesWays_1 : decode cX2_writesWays 1 = .ok (.getfield 16, 3) := dk_180 0 16 (dk_at dksX2_writesWays_0 1 rfl rfl)
theorem dX2_writesWays_4 : decode cX2_writesWays 4 = .ok (.iconst 0, 1) := dk_3 (dk_at dksX2_writesWays_0 4 rfl rfl)
theorem dX2_writesWays_5 : decode cX2_writesWays 5 = .ok (.aload_n 0, 1) := dk_42 (dk_at dksX2_writesWays_0 5 rfl rfl)
theorem dX2_writesWays_6 : decode cX2_writesWays 6 = .ok (.getfield 23, 3) := dk_180 0 23 (dk_at dksX2_writesWays_0 6 rfl rfl)
theorem dX2_writesWays_9 : decode cX2_writesWays 9 = .ok (.iconst 0, 1) := dk_3 (dk_at dksX2_writesWays_0 9 rfl rfl)
theorem dX2_writesWays_10 : decode cX2_writesWays 10 = .ok (.aload_n 0, 1) := dk_42 (dk_at dksX2_writesWays_0 10 rfl rfl)
theorem dX2_writesWays_11 : decode cX2_writesWays 11 = .ok (.getfield 16, 3) := dk_180 0 16 (dk_at dksX2_writesWays_0 11 rfl rfl)
theorem dX2_writesWays_14 : decode cX2_writesWays 14 = .ok (.arraylength, 1) := dk_190 (dk_at dksX2_writesWays_0 14 rfl rfl)
theorem dX2_writesWays_15 : decode cX2_writesWays 15 = .ok (.invokestatic 76, 3) := dk_184 0 76 (dk_at dksX2_writesWays_0 15 rfl rfl)
theorem dX2_writesWays_18 : decode cX2_writesWays 18 = .ok (.iconst 0, 1) := dk_3 (dk_at dksX2_writesWays_0 18 rfl rfl)
theorem dX2_writesWays_19 : decode cX2_writesWays 19 = .ok (.istore_n 2, 1) := dk_61 (dk_at dksX2_writesWays_0 19 rfl rfl)
theorem dX2_writesWays_20 : decode cX2_writesWays 20 = .ok (.iload_n 2, 1) := dk_28 (dk_at dksX2_writesWays_0 20 rfl rfl)
theorem dX2_writesWays_21 : decode cX2_writesWays 21 = .ok (.aload_n 0, 1) := dk_42 (dk_at dksX2_writesWays_0 21 rfl rfl)
theorem dX2_writesWays_22 : decode cX2_writesWays 22 = .ok (.getfield 16, 3) := dk_180 0 16 (dk_at dksX2_writesWays_1 0 rfl rfl)
theorem dX2_writesWays_25 : decode cX2_writesWays 25 = .ok (.arraylength, 1) := dk_190 (dk_at dksX2_writesWays_1 3 rfl rfl)
theorem dX2_writesWays_26 : decode cX2_writesWays 26 = .ok (.if_icmp .ge 43, 3) := dk_162 0 43 (dk_at dksX2_writesWays_1 4 rfl rfl)
theorem dX2_writesWays_29 : decode cX2_writesWays 29 = .ok (.aload_n 0, 1) := dk_42 (dk_at dksX2_writesWays_1 7 rfl rfl)
theorem dX2_writesWays_30 : decode cX2_writesWays 30 = .ok (.getfield 16, 3) := dk_180 0 16 (dk_at dksX2_writesWays_1 8 rfl rfl)
theorem dX2_writesWays_33 : decode cX2_writesWays 33 = .ok (.iload_n 2, 1) := dk_28 (dk_at dksX2_writesWays_1 11 rfl rfl)
theorem dX2_writesWays_34 : decode cX2_writesWays 34 = .ok (.dup2, 1) := dk_92 (dk_at dksX2_writesWays_1 12 rfl rfl)
theorem dX2_writesWays_35 : decode cX2_writesWays 35 = .ok (.saload, 1) := dk_53 (dk_at dksX2_writesWays_1 13 rfl rfl)
theorem dX2_writesWays_36 : decode cX2_writesWays 36 = .ok (.aload_n 0, 1) := dk_42 (dk_at dksX2_writesWays_1 14 rfl rfl)
theorem dX2_writesWays_37 : decode cX2_writesWays 37 = .ok (.getfield 23, 3) := dk_180 0 23 (dk_at dksX2_writesWays_1 15 rfl rfl)
theorem dX2_writesWays_40 : decode cX2_writesWays 40 = .ok (.iload_n 2, 1) := dk_28 (dk_at dksX2_writesWays_1 18 rfl rfl)
theorem dX2_writesWays_41 : decode cX2_writesWays 41 = .ok (.iload_n 1, 1) := dk_27 (dk_at dksX2_writesWays_1 19 rfl rfl)
theorem dX2_writesWays_42 : decode cX2_writesWays 42 = .ok (.isub, 1) := dk_100 (dk_at dksX2_writesWays_1 20 rfl rfl)
theorem dX2_writesWays_43 : decode cX2_writesWays 43 = .ok (.iconst 0, 1) := dk_3 (dk_at dksX2_writesWays_1 21 rfl rfl)
theorem dX2_writesWays_44 : decode cX2_writesWays 44 = .ok (.invokestatic 82, 3) := dk_184 0 82 (dk_at dksX2_writesWays_2 0 rfl rfl)
theorem dX2_writesWays_47 : decode cX2_writesWays 47 = .ok (.aload_n 0, 1) := dk_42 (dk_at dksX2_writesWays_2 3 rfl rfl)
theorem dX2_writesWays_48 : decode cX2_writesWays 48 = .ok (.getfield 23, 3) := dk_180 0 23 (dk_at dksX2_writesWays_2 4 rfl rfl)
theorem dX2_writesWays_51 : decode cX2_writesWays 51 = .ok (.iload_n 2, 1) := dk_28 (dk_at dksX2_writesWays_2 7 rfl rfl)
theorem dX2_writesWays_52 : decode cX2_writesWays 52 = .ok (.iload_n 1, 1) := dk_27 (dk_at dksX2_writesWays_2 8 rfl rfl)
theorem dX2_writesWays_53 : decode cX2_writesWays 53 = .ok (.iadd, 1) := dk_96 (dk_at dksX2_writesWays_2 9 rfl rfl)
theorem dX2_writesWays_54 : decode cX2_writesWays 54 = .ok (.iconst 0, 1) := dk_3 (dk_at dksX2_writesWays_2 10 rfl rfl)
theorem dX2_writesWays_55 : decode cX2_writesWays 55 = .ok (.invokestatic 82, 3) := dk_184 0 82 (dk_at dksX2_writesWays_2 11 rfl rfl)
theorem dX2_writesWays_58 : decode cX2_writesWays 58 = .ok (.iadd, 1) := dk_96 (dk_at dksX2_writesWays_2 14 rfl rfl)
theorem dX2_writesWays_59 : decode cX2_writesWays 59 = .ok (.i2s, 1) := dk_147 (dk_at dksX2_writesWays_2 15 rfl rfl)
theorem dX2_writesWays_60 : decode cX2_writesWays 60 = .ok (.iadd, 1) := dk_96 (dk_at dksX2_writesWays_2 16 rfl rfl)
theorem dX2_writesWays_61 : decode cX2_writesWays 61 = .ok (.i2s, 1) := dk_147 (dk_at dksX2_writesWays_2 17 rfl rfl)
theorem dX2_writesWays_62 : decode cX2_writesWays 62 = .ok (.sastore, 1) := dk_86 (dk_at dksX2_writesWays_2 18 rfl rfl)
theorem dX2_writesWays_63 : decode cX2_writesWays 63 = .ok (.iinc 2 1, 3) := dk_132 2 1 (dk_at dksX2_writesWays_2 19 rfl rfl)
theorem dX2_writesWays_66 : decode cX2_writesWays 66 = .ok (.goto (-46), 3) := dk_167 255 210 (dk_at dksX2_writesWays_3 0 rfl rfl)
theorem dX2_writesWays_69 : decode cX2_writesWays 69 = .ok (.return_, 1) := dk_177 (dk_at dksX2_writesWays_3 3 rfl rfl)
abbrev cX2_of : ByteArray := prog_2_method_5_code
def yX2_of : MethodName := ⟨RX2, "of", "([SII)I"⟩
def dkwX2_of_0 : List UInt8 := [27, 155, 0, 9, 27, 42, 190, 161, 0, 7, 28, 167, 0, 6, 42, 27, 53, 172]
abbrev dktX2_of_0 : List UInt8 := dkwX2_of_0 ++ []
theorem dksX2_of_0 : cX2_of.data.toList.drop 0 = dktX2_of_0 := by decide +kernel
theorem dX2_of_0 : decode cX2_of 0 = .ok (.iload_n 1, 1) := dk_27 (dk_at dksX2_of_0 0 rfl rfl)
theorem dX2_of_1 : decode cX2_of 1 = .ok (.ifCond .lt 9, 3) := dk_155 0 9 (dk_at dksX2_of_0 1 rfl rfl)
theorem dX2_of_4 : decode cX2_of 4 = .ok (.iload_n 1, 1) := dk_27 (dk_at dksX2_of_0 4 rfl rfl)
theorem dX2_of_5 : decode cX2_of 5 = .ok (.aload_n 0, 1) := dk_42 (dk_at dksX2_of_0 5 rfl rfl)
theorem dX2_of_6 : decode cX2_of 6 = .ok (.arraylength, 1) := dk_190 (dk_at dksX2_of_0 6 rfl rfl)
theorem dX2_of_7 : decode cX2_of 7 = .ok (.if_icmp .lt 7, 3) := dk_161 0 7 (dk_at dksX2_of_0 7 rfl rfl)
theorem dX2_of_10 : decode cX2_of 10 = .ok (.iload_n 2, 1) := dk_28 (dk_at dksX2_of_0 10 rfl rfl)
theorem dX2_of_11 : decode cX2_of 11 = .ok (.goto 6, 3) := dk_167 0 6 (dk_at dksX2_of_0 11 rfl rfl)
theorem dX2_of_14 : decode cX2_of 14 = .ok (.aload_n 0, 1) := dk_42 (dk_at dksX2_of_0 14 rfl rfl)
theorem dX2_of_15 : decode cX2_of 15 = .ok (.iload_n 1, 1) := dk_27 (dk_at dksX2_of_0 15 rfl rfl)
theorem dX2_of_16 : decode cX2_of 16 = .ok (.saload, 1) := dk_53 (dk_at dksX2_of_0 16 rfl rfl)
theorem dX2_of_17 : decode cX2_of 17 = .ok (.ireturn, 1) := dk_172 (dk_at dksX2_of_0 17 rfl rfl)
abbrev cX2_writesErrors : ByteArray := prog_2_method_7_code
def yX2_writesErrors : MethodName := ⟨RX2, "writesErrors", "(LRecipeOfScales$Weight;)V"⟩
def dkwX2_writesErrors_4 : List UInt8 := [132, 2, 1, 167, 255, 180, 177]
abbrev dktX2_writesErrors_4 : List UInt8 := dkwX2_writesErrors_4 ++ []
def dkwX2_writesErrors_3 : List UInt8 := [42, 180, 0, 20, 28, 42, 180, 0, 20, 28, 53, 17, 39, 15, 29, 184, 0, 71, 184, 0, 71, 147, 86]
abbrev dktX2_writesErrors_3 : List UInt8 := dkwX2_writesErrors_3 ++ dktX2_writesErrors_4
def dkwX2_writesErrors_2 : List UInt8 := [184, 0, 82, 42, 180, 0, 23, 28, 43, 182, 0, 48, 96, 17, 39, 15, 184, 0, 82, 184, 0, 71, 96, 62]
abbrev dktX2_writesErrors_2 : List UInt8 := dkwX2_writesErrors_2 ++ dktX2_writesErrors_3
def dkwX2_writesErrors_1 : List UInt8 := [180, 0, 20, 190, 162, 0, 73, 43, 182, 0, 86, 42, 180, 0, 23, 28, 43, 182, 0, 48, 100, 17, 39, 15]
abbrev dktX2_writesErrors_1 : List UInt8 := dkwX2_writesErrors_1 ++ dktX2_writesErrors_2
def dkwX2_writesErrors_0 : List UInt8 := [42, 180, 0, 20, 3, 42, 180, 0, 23, 3, 42, 180, 0, 20, 190, 184, 0, 76, 3, 61, 28, 42]
abbrev dktX2_writesErrors_0 : List UInt8 := dkwX2_writesErrors_0 ++ dktX2_writesErrors_1
theorem dksX2_writesErrors_0 : cX2_writesErrors.data.toList.drop 0 = dktX2_writesErrors_0 := by decide +kernel
theorem dksX2_writesErrors_1 : cX2_writesErrors.data.toList.drop 22 = dktX2_writesErrors_1 := dk_seg dksX2_writesErrors_0 22 rfl rfl
theorem dksX2_writesErrors_2 : cX2_writesErrors.data.toList.drop 46 = dktX2_writesErrors_2 := dk_seg dksX2_writesErrors_1 24 rfl rfl
theorem dksX2_writesErrors_3 : cX2_writesErrors.data.toList.drop 70 = dktX2_writesErrors_3 := dk_seg dksX2_writesErrors_2 24 rfl rfl
theorem dksX2_writesErrors_4 : cX2_writesErrors.data.toList.drop 93 = dktX2_writesErrors_4 := dk_seg dksX2_writesErrors_3 23 rfl rfl
theorem dX2_writesErrors_0 : decode cX2_writesErrors 0 = .ok (.aload_n 0, 1) := dk_42 (dk_at dksX2_writesErrors_0 0 rfl rfl)
theorem dX2_writesErrors_1 : decode cX2_writesErrors 1 = .ok (.getfield 20, 3) := dk_180 0 20 (dk_at dksX2_writesErrors_0 1 rfl rfl)
theorem dX2_writesErrors_4 : decode cX2_writesErrors 4 = .ok (.iconst 0, 1) := dk_3 (dk_at dksX2_writesErrors_0 4 rfl rfl)
theorem dX2_writesErrors_5 : decode cX2_writesErrors 5 = .ok (.aload_n 0, 1) := dk_42 (dk_at dksX2_writesErrors_0 5 rfl rfl)
theorem dX2_writesErrors_6 : decode cX2_writesErrors 6 = .ok (.getfield 23, 3) := dk_180 0 23 (dk_at dksX2_writesErrors_0 6 rfl rfl)
theorem dX2_writesErrors_9 : decode cX2_writesErrors 9 = .ok (.iconst 0, 1) := dk_3 (dk_at dksX2_writesErrors_0 9 rfl rfl)
theorem dX2_writesErrors_10 : decode cX2_writesErrors 10 = .ok (.aload_n 0, 1) := dk_42 (dk_at dksX2_writesErrors_0 10 rfl rfl)
theorem dX2_writesErrors_11 : decode cX2_writesErrors 11 = .ok (.getfield 20, 3) := dk_180 0 20 (dk_at dksX2_writesErrors_0 11 rfl rfl)
theorem dX2_writesErrors_14 : decode cX2_writesErrors 14 = .ok (.arraylength, 1) := dk_190 (dk_at dksX2_writesErrors_0 14 rfl rfl)
theorem dX2_writesErrors_15 : decode cX2_writesErrors 15 = .ok (.invokestatic 76, 3) := dk_184 0 76 (dk_at dksX2_writesErrors_0 15 rfl rfl)
theorem dX2_writesErrors_18 : decode cX2_writesErrors 18 = .ok (.iconst 0, 1) := dk_3 (dk_at dksX2_writesErrors_0 18 rfl rfl)
theorem dX2_writesErrors_19 : decode cX2_writesErrors 19 = .ok (.istore_n 2, 1) := dk_61 (dk_at dksX2_writesErrors_0 19 rfl rfl)
theorem dX2_writesErrors_20 : decode cX2_writesErrors 20 = .ok (.iload_n 2, 1) := dk_28 (dk_at dksX2_writesErrors_0 20 rfl rfl)
theorem dX2_writesErrors_21 : decode cX2_writesErrors 21 = .ok (.aload_n 0, 1) := dk_42 (dk_at dksX2_writesErrors_0 21 rfl rfl)
theorem dX2_writesErrors_22 : decode cX2_writesErrors 22 = .ok (.getfield 20, 3) := dk_180 0 20 (dk_at dksX2_writesErrors_1 0 rfl rfl)
theorem dX2_writesErrors_25 : decode cX2_writesErrors 25 = .ok (.arraylength, 1) := dk_190 (dk_at dksX2_writesErrors_1 3 rfl rfl)
theorem dX2_writesErrors_26 : decode cX2_writesErrors 26 = .ok (.if_icmp .ge 73, 3) := dk_162 0 73 (dk_at dksX2_writesErrors_1 4 rfl rfl)
theorem dX2_writesErrors_29 : decode cX2_writesErrors 29 = .ok (.aload_n 1, 1) := dk_43 (dk_at dksX2_writesErrors_1 7 rfl rfl)
theorem dX2_writesErrors_30 : decode cX2_writesErrors 30 = .ok (.invokevirtual 86, 3) := dk_182 0 86 (dk_at dksX2_writesErrors_1 8 rfl rfl)
theorem dX2_writesErrors_33 : decode cX2_writesErrors 33 = .ok (.aload_n 0, 1) := dk_42 (dk_at dksX2_writesErrors_1 11 rfl rfl)
theorem dX2_writesErrors_34 : decode cX2_writesErrors 34 = .ok (.getfield 23, 3) := dk_180 0 23 (dk_at dksX2_writesErrors_1 12 rfl rfl)
theorem dX2_writesErrors_37 : decode cX2_writesErrors 37 = .ok (.iload_n 2, 1) := dk_28 (dk_at dksX2_writesErrors_1 15 rfl rfl)
theorem dX2_writesErrors_38 : decode cX2_writesErrors 38 = .ok (.aload_n 1, 1) := dk_43 (dk_at dksX2_writesErrors_1 16 rfl rfl)
theorem dX2_writesErrors_39 : decode cX2_writesErrors 39 = .ok (.invokevirtual 48, 3) := dk_182 0 48 (dk_at dksX2_writesErrors_1 17 rfl rfl)
theorem dX2_writesErrors_42 : decode cX2_writesErrors 42 = .ok (.isub, 1) := dk_100 (dk_at dksX2_writesErrors_1 20 rfl rfl)
theorem dX2_writesErrors_43 : decode cX2_writesErrors 43 = .ok (.sipush 9999, 3) := dk_17 39 15 (dk_at dksX2_writesErrors_1 21 rfl rfl)
theorem dX2_writesErrors_46 : decode cX2_writesErrors 46 = .ok (.invokestatic 82, 3) := dk_184 0 82 (dk_at dksX2_writesErrors_2 0 rfl rfl)
theorem dX2_writesErrors_49 : decode cX2_writesErrors 49 = .ok (.aload_n 0, 1) := dk_42 (dk_at dksX2_writesErrors_2 3 rfl rfl)
theorem dX2_writesErrors_50 : decode cX2_writesErrors 50 = .ok (.getfield 23, 3) := dk_180 0 23 (dk_at dksX2_writesErrors_2 4 rfl rfl)
theorem dX2_writesErrors_53 : decode cX2_writesErrors 53 = .ok (.iload_n 2, 1) := dk_28 (dk_at dksX2_writesErrors_2 7 rfl rfl)
theorem dX2_writesErrors_54 : decode cX2_writesErrors 54 = .ok (.aload_n 1, 1) := dk_43 (dk_at dksX2_writesErrors_2 8 rfl rfl)
theorem dX2_writesErrors_55 : decode cX2_writesErrors 55 = .ok (.invokevirtual 48, 3) := dk_182 0 48 (dk_at dksX2_writesErrors_2 9 rfl rfl)
theorem dX2_writesErrors_58 : decode cX2_writesErrors 58 = .ok (.iadd, 1) := dk_96 (dk_at dksX2_writesErrors_2 12 rfl rfl)
theorem dX2_writesErrors_59 : decode cX2_writesErrors 59 = .ok (.sipush 9999, 3) := dk_17 39 15 (dk_at dksX2_writesErrors_2 13 rfl rfl)
theorem dX2_writesErrors_62 : decode cX2_writesErrors 62 = .ok (.invokestatic 82, 3) := dk_184 0 82 (dk_at dksX2_writesErrors_2 16 rfl rfl)
theorem dX2_writesErrors_65 : decode cX2_writesErrors 65 = .ok (.invokestatic 71, 3) := dk_184 0 71 (dk_at dksX2_writesErrors_2 19 rfl rfl)
theorem dX2_writesErrors_68 : decode cX2_writesErrors 68 = .ok (.iadd, 1) := dk_96 (dk_at dksX2_writesErrors_2 22 rfl rfl)
theorem dX2_writesErrors_69 : decode cX2_writesErrors 69 = .ok (.istore_n 3, 1) := dk_62 (dk_at dksX2_writesErrors_2 23 rfl rfl)
theorem dX2_writesErrors_70 : decode cX2_writesErrors 70 = .ok (.aload_n 0, 1) := dk_42 (dk_at dksX2_writesErrors_3 0 rfl rfl)
theorem dX2_writesErrors_71 : decode cX2_writesErrors 71 = .ok (.getfield 20, 3) := dk_180 0 20 (dk_at dksX2_writesErrors_3 1 rfl rfl)
theorem dX2_writesErrors_74 : decode cX2_writesErrors 74 = .ok (.iload_n 2, 1) := dk_28 (dk_at dksX2_writesErrors_3 4 rfl rfl)
theorem dX2_writesErrors_75 : decode cX2_writesErrors 75 = .ok (.aload_n 0, 1) := dk_42 (dk_at dksX2_writesErrors_3 5 rfl rfl)
theorem dX2_writesErrors_76 : decode cX2_writesErrors 76 = .ok (.getfield 20, 3) := dk_180 0 20 (dk_at dksX2_writesErrors_3 6 rfl rfl)
theorem dX2_writesErrors_79 : decode cX2_writesErrors 79 = .ok (.iload_n 2, 1) := dk_28 (dk_at dksX2_writesErrors_3 9 rfl rfl)
theorem dX2_writesErrors_80 : decode cX2_writesErrors 80 = .ok (.saload, 1) := dk_53 (dk_at dksX2_writesErrors_3 10 rfl rfl)
theorem dX2_writesErrors_81 : decode cX2_writesErrors 81 = .ok (.sipush 9999, 3) := dk_17 39 15 (dk_at dksX2_writesErrors_3 11 rfl rfl)
theorem dX2_writesErrors_84 : decode cX2_writesErrors 84 = .ok (.iload_n 3, 1) := dk_29 (dk_at dksX2_writesErrors_3 14 rfl rfl)
theorem dX2_writesErrors_85 : decode cX2_writesErrors 85 = .ok (.invokestatic 71, 3) := dk_184 0 71 (dk_at dksX2_writesErrors_3 15 rfl rfl)
theorem dX2_writesErrors_88 : decode cX2_writesErrors 88 = .ok (.invokestatic 71, 3) := dk_184 0 71 (dk_at dksX2_writesErrors_3 18 rfl rfl)
theorem dX2_writesErrors_91 : decode cX2_writesErrors 91 = .ok (.i2s, 1) := dk_147 (dk_at dksX2_writesErrors_3 21 rfl rfl)
theorem dX2_writesErrors_92 : decode cX2_writesErrors 92 = .ok (.sastore, 1) := dk_86 (dk_at dksX2_writesErrors_3 22 rfl rfl)
theorem dX2_writesErrors_93 : decode cX2_writesErrors 93 = .ok (.iinc 2 1, 3) := dk_132 2 1 (dk_at dksX2_writesErrors_4 0 rfl rfl)
theorem dX2_writesErrors_96 : decode cX2_writesErrors 96 = .ok (.goto (-76), 3) := dk_167 255 180 (dk_at dksX2_writesErrors_4 3 rfl rfl)
theorem dX2_writesErrors_99 : decode cX2_writesErrors 99 = .ok (.return_, 1) := dk_177 (dk_at dksX2_writesErrors_4 6 rfl rfl)
abbrev cX2_gap : ByteArray := prog_2_method_9_code
def yX2_gap : MethodName := ⟨RX2, "gap", "(I)I"⟩
def dkwX2_gap_1 : List UInt8 := [182, 0, 89, 153, 0, 9, 132, 2, 1, 167, 255, 225, 28, 172]
abbrev dktX2_gap_1 : List UInt8 := dkwX2_gap_1 ++ []
def dkwX2_gap_0 : List UInt8 := [4, 61, 42, 28, 182, 0, 89, 154, 0, 23, 42, 28, 27, 100, 182, 0, 89, 154, 0, 13, 42, 28, 27, 96]
abbrev dktX2_gap_0 : List UInt8 := dkwX2_gap_0 ++ dktX2_gap_1
theorem dksX2_gap_0 : cX2_gap.data.toList.drop 0 = dktX2_gap_0 := by decide +kernel
theorem dksX2_gap_1 : cX2_gap.data.toList.drop 24 = dktX2_gap_1 := dk_seg dksX2_gap_0 24 rfl rfl
theorem dX2_gap_0 : decode cX2_gap 0 = .ok (.iconst 1, 1) := dk_4 (dk_at dksX2_gap_0 0 rfl rfl)
theorem dX2_gap_1 : decode cX2_gap 1 = .ok (.istore_n 2, 1) := dk_61 (dk_at dksX2_gap_0 1 rfl rfl)
theorem dX2_gap_2 : decode cX2_gap 2 = .ok (.aload_n 0, 1) := dk_42 (dk_at dksX2_gap_0 2 rfl rfl)
theorem dX2_gap_3 : decode cX2_gap 3 = .ok (.iload_n 2, 1) := dk_28 (dk_at dksX2_gap_0 3 rfl rfl)
theorem dX2_gap_4 : decode cX2_gap 4 = .ok (.invokevirtual 89, 3) := dk_182 0 89 (dk_at dksX2_gap_0 4 rfl rfl)
theorem dX2_gap_7 : decode cX2_gap 7 = .ok (.ifCond .ne 23, 3) := dk_154 0 23 (dk_at dksX2_gap_0 7 rfl rfl)
theorem dX2_gap_10 : decode cX2_gap 10 = .ok (.aload_n 0, 1) := dk_42 (dk_at dksX2_gap_0 10 rfl rfl)
theorem dX2_gap_11 : decode cX2_gap 11 = .ok (.iload_n 2, 1) := dk_28 (dk_at dksX2_gap_0 11 rfl rfl)
theorem dX2_gap_12 : decode cX2_gap 12 = .ok (.iload_n 1, 1) := dk_27 (dk_at dksX2_gap_0 12 rfl rfl)
theorem dX2_gap_13 : decode cX2_gap 13 = .ok (.isub, 1) := dk_100 (dk_at dksX2_gap_0 13 rfl rfl)
theorem dX2_gap_14 : decode cX2_gap 14 = .ok (.invokevirtual 89, 3) := dk_182 0 89 (dk_at dksX2_gap_0 14 rfl rfl)
theorem dX2_gap_17 : decode cX2_gap 17 = .ok (.ifCond .ne 13, 3) := dk_154 0 13 (dk_at dksX2_gap_0 17 rfl rfl)
theorem dX2_gap_20 : decode cX2_gap 20 = .ok (.aload_n 0, 1) := dk_42 (dk_at dksX2_gap_0 20 rfl rfl)
theorem dX2_gap_21 : decode cX2_gap 21 = .ok (.iload_n 2, 1) := dk_28 (dk_at dksX2_gap_0 21 rfl rfl)
theorem dX2_gap_22 : decode cX2_gap 22 = .ok (.iload_n 1, 1) := dk_27 (dk_at dksX2_gap_0 22 rfl rfl)
theorem dX2_gap_23 : decode cX2_gap 23 = .ok (.iadd, 1) := dk_96 (dk_at dksX2_gap_0 23 rfl rfl)
theorem dX2_gap_24 : decode cX2_gap 24 = .ok (.invokevirtual 89, 3) := dk_182 0 89 (dk_at dksX2_gap_1 0 rfl rfl)
theorem dX2_gap_27 : decode cX2_gap 27 = .ok (.ifCond .eq 9, 3) := dk_153 0 9 (dk_at dksX2_gap_1 3 rfl rfl)
theorem dX2_gap_30 : decode cX2_gap 30 = .ok (.iinc 2 1, 3) := dk_132 2 1 (dk_at dksX2_gap_1 6 rfl rfl)
theorem dX2_gap_33 : decode cX2_gap 33 = .ok (.goto (-31), 3) := dk_167 255 225 (dk_at dksX2_gap_1 9 rfl rfl)
theorem dX2_gap_36 : decode cX2_gap 36 = .ok (.iload_n 2, 1) := dk_28 (dk_at dksX2_gap_1 12 rfl rfl)
theorem dX2_gap_37 : decode cX2_gap 37 = .ok (.ireturn, 1) := dk_172 (dk_at dksX2_gap_1 13 rfl rfl)
abbrev cX2_has : ByteArray := prog_2_method_8_code
def yX2_has : MethodName := ⟨RX2, "has", "(I)Z"⟩
def dkwX2_has_0 : List UInt8 := [42, 3, 27, 182, 0, 67, 17, 39, 15, 162, 0, 7, 4, 167, 0, 4, 3, 172]
abbrev dktX2_has_0 : List UInt8 := dkwX2_has_0 ++ []
theorem dksX2_has_0 : cX2_has.data.toList.drop 0 = dktX2_has_0 := by decide +kernel
theorem dX2_has_0 : decode cX2_has 0 = .ok (.aload_n 0, 1) := dk_42 (dk_at dksX2_has_0 0 rfl rfl)
theorem dX2_has_1 : decode cX2_has 1 = .ok (.iconst 0, 1) := dk_3 (dk_at dksX2_has_0 1 rfl rfl)
theorem dX2_has_2 : decode cX2_has 2 = .ok (.iload_n 1, 1) := dk_27 (dk_at dksX2_has_0 2 rfl rfl)
theorem dX2_has_3 : decode cX2_has 3 = .ok (.invokevirtual 67, 3) := dk_182 0 67 (dk_at dksX2_has_0 3 rfl rfl)
theorem dX2_has_6 : decode cX2_has 6 = .ok (.sipush 9999, 3) := dk_17 39 15 (dk_at dksX2_has_0 6 rfl rfl)
theorem dX2_has_9 : decode cX2_has 9 = .ok (.if_icmp .ge 7, 3) := dk_162 0 7 (dk_at dksX2_has_0 9 rfl rfl)
theorem dX2_has_12 : decode cX2_has 12 = .ok (.iconst 1, 1) := dk_4 (dk_at dksX2_has_0 12 rfl rfl)
theorem dX2_has_13 : decode cX2_has 13 = .ok (.goto 4, 3) := dk_167 0 4 (dk_at dksX2_has_0 13 rfl rfl)
theorem dX2_has_16 : decode cX2_has 16 = .ok (.iconst 0, 1) := dk_3 (dk_at dksX2_has_0 16 rfl rfl)
theorem dX2_has_17 : decode cX2_has 17 = .ok (.ireturn, 1) := dk_172 (dk_at dksX2_has_0 17 rfl rfl)
theorem q55 : (Jvm.Cond.initialized "RecipeOfScales$Book") ∈ lw_all := lw_g (lw_at lw_m1 5 rfl) rfl
theorem q119 : (Jvm.Cond.instantiable "RecipeOfScales$Book" (4 : Nat)) ∈ lw_all := lw_g (lw_at lw_m1 69 rfl) rfl
theorem q121 : (Jvm.Cond.instanceMethod ({ cls := "RecipeOfScales$Book", name := "<init>", desc := "()V" } : Jvm.MethodName)) ∈ lw_all := lw_g (lw_at lw_m1 71 rfl) rfl
theorem q122 : (Jvm.Cond.code ({ cls := "RecipeOfScales$Book", name := "<init>", desc := "()V" } : Jvm.MethodName) prog_2_method_1_code (1 : Nat) (Option.none : Option Jvm.ClassFile.FieldType)) ∈ lw_all := lw_g (lw_at lw_m1 72 rfl) rfl
theorem q123 : (Jvm.Cond.methodLink "RecipeOfScales$Book" (3 : Nat) ({ cls := "java/lang/Object", name := "<init>", desc := "()V" } : Jvm.MethodName)) ∈ lw_all := lw_g (lw_at lw_m1 73 rfl) rfl
theorem q124 : (Jvm.Cond.classLink "RecipeOfScales$Book" (9 : Nat) "[[I") ∈ lw_all := lw_g (lw_at lw_m1 74 rfl) rfl
theorem q126 : (Jvm.Cond.fieldLink "RecipeOfScales$Book" (11 : Nat) "RecipeOfScales$Book" "best" "[[I") ∈ lw_all := lw_g (lw_at lw_m1 76 rfl) rfl
theorem q127 : (Jvm.Cond.fieldLink "RecipeOfScales$Book" (16 : Nat) "RecipeOfScales$Book" "ways" "[S") ∈ lw_all := lw_g (lw_at lw_m1 77 rfl) rfl
theorem q129 : (Jvm.Cond.fieldLink "RecipeOfScales$Book" (20 : Nat) "RecipeOfScales$Book" "errors" "[S") ∈ lw_all := lw_g (lw_at lw_m1 79 rfl) rfl
theorem q131 : (Jvm.Cond.fieldLink "RecipeOfScales$Book" (23 : Nat) "RecipeOfScales$Book" "before" "[S") ∈ lw_all := lw_g (lw_at lw_m1 81 rfl) rfl
theorem q132 : (Jvm.Cond.laysFinal "RecipeOfScales$Book" "RecipeOfScales$Book" "best" "[[I") ∈ lw_all := lw_g (lw_at lw_m1 82 rfl) rfl
theorem q133 : (Jvm.Cond.soleField "RecipeOfScales$Book" "best") ∈ lw_all := lw_g (lw_at lw_m1 83 rfl) rfl
theorem q134 : (Jvm.Cond.laysFinal "RecipeOfScales$Book" "RecipeOfScales$Book" "ways" "[S") ∈ lw_all := lw_g (lw_at lw_m1 84 rfl) rfl
theorem q135 : (Jvm.Cond.soleField "RecipeOfScales$Book" "ways") ∈ lw_all := lw_g (lw_at lw_m1 85 rfl) rfl
theorem q136 : (Jvm.Cond.laysFinal "RecipeOfScales$Book" "RecipeOfScales$Book" "errors" "[S") ∈ lw_all := lw_g (lw_at lw_m1 86 rfl) rfl
theorem q137 : (Jvm.Cond.soleField "RecipeOfScales$Book" "errors") ∈ lw_all := lw_g (lw_at lw_m1 87 rfl) rfl
theorem q138 : (Jvm.Cond.laysFinal "RecipeOfScales$Book" "RecipeOfScales$Book" "before" "[S") ∈ lw_all := lw_g (lw_at lw_m1 88 rfl) rfl
theorem q139 : (Jvm.Cond.soleField "RecipeOfScales$Book" "before") ∈ lw_all := lw_g (lw_at lw_m1 89 rfl) rfl
theorem q140 : (Jvm.Cond.superclass "RecipeOfScales$Book" "java/lang/Object") ∈ lw_all := lw_g (lw_at lw_m1 90 rfl) rfl
theorem q199 : (Jvm.Cond.instanceMethod ({ cls := "RecipeOfScales$Book", name := "writes", desc := "(Ljava/util/List;)V" } : Jvm.MethodName)) ∈ lw_all := lw_g (lw_at lw_m1 149 rfl) rfl
theorem q200 : (Jvm.Cond.selects "RecipeOfScales$Book" ({ cls := "RecipeOfScales$Book", name := "writes", desc := "(Ljava/util/List;)V" } : Jvm.MethodName) ({ cls := "RecipeOfScales$Book", name := "writes", desc := "(Ljava/util/List;)V" } : Jvm.MethodName)) ∈ lw_all := lw_g (lw_at lw_m1 150 rfl) rfl
theorem q201 : (Jvm.Cond.code ({ cls := "RecipeOfScales$Book", name := "writes", desc := "(Ljava/util/List;)V" } : Jvm.MethodName) prog_2_method_2_code (4 : Nat) (Option.none : Option Jvm.ClassFile.FieldType)) ∈ lw_all := lw_g (lw_at lw_m1 151 rfl) rfl
theorem q202 : (Jvm.Cond.methodLink "RecipeOfScales$Book" (26 : Nat) ({ cls := "RecipeOfScales$Book", name := "writesBest", desc := "(Ljava/util/List;)V" } : Jvm.MethodName)) ∈ lw_all := lw_g (lw_at lw_m1 152 rfl) rfl
theorem q203 : (Jvm.Cond.privateMethod ({ cls := "RecipeOfScales$Book", name := "writesBest", desc := "(Ljava/util/List;)V" } : Jvm.MethodName)) ∈ lw_tbl := lw_at lw_m1 153 rfl
theorem q204 : (Jvm.Cond.instanceMethod ({ cls := "RecipeOfScales$Book", name := "writesBest", desc := "(Ljava/util/List;)V" } : Jvm.MethodName)) ∈ lw_all := lw_g (lw_at lw_m1 154 rfl) rfl
theorem q205 : (Jvm.Cond.code ({ cls := "RecipeOfScales$Book", name := "writesBest", desc := "(Ljava/util/List;)V" } : Jvm.MethodName) prog_2_method_3_code (8 : Nat) (Option.none : Option Jvm.ClassFile.FieldType)) ∈ lw_all := lw_g (lw_at lw_m1 155 rfl) rfl
theorem q206 : (Jvm.Cond.interfaceEntry "RecipeOfScales$Book" (60 : Nat)) ∈ lw_tbl := lw_at lw_m1 156 rfl
theorem q207 : (Jvm.Cond.methodLink "RecipeOfScales$Book" (60 : Nat) ({ cls := "java/util/List", name := "size", desc := "()I" } : Jvm.MethodName)) ∈ lw_all := lw_g (lw_at lw_m1 157 rfl) rfl
theorem q208 : (Jvm.Cond.interfaceEntry "RecipeOfScales$Book" (63 : Nat)) ∈ lw_tbl := lw_at lw_m1 158 rfl
theorem q209 : (Jvm.Cond.methodLink "RecipeOfScales$Book" (63 : Nat) ({ cls := "java/util/List", name := "get", desc := "(I)Ljava/lang/Object;" } : Jvm.MethodName)) ∈ lw_all := lw_g (lw_at lw_m1 159 rfl) rfl
theorem q227 : (Jvm.Cond.classLink "RecipeOfScales$Book" (46 : Nat) "RecipeOfScales$Weight") ∈ lw_all := lw_g (lw_at lw_m1 177 rfl) rfl
theorem q228 : (Jvm.Cond.methodLink "RecipeOfScales$Book" (48 : Nat) ({ cls := "RecipeOfScales$Weight", name := "mass", desc := "()I" } : Jvm.MethodName)) ∈ lw_all := lw_g (lw_at lw_m1 178 rfl) rfl
theorem q232 : (Jvm.Cond.methodLink "RecipeOfScales$Book" (67 : Nat) ({ cls := "RecipeOfScales$Book", name := "cost", desc := "(II)I" } : Jvm.MethodName)) ∈ lw_all := lw_g (lw_at lw_m1 182 rfl) rfl
theorem q233 : (Jvm.Cond.instanceMethod ({ cls := "RecipeOfScales$Book", name := "cost", desc := "(II)I" } : Jvm.MethodName)) ∈ lw_all := lw_g (lw_at lw_m1 183 rfl) rfl
theorem q234 : (Jvm.Cond.selects "RecipeOfScales$Book" ({ cls := "RecipeOfScales$Book", name := "cost", desc := "(II)I" } : Jvm.MethodName) ({ cls := "RecipeOfScales$Book", name := "cost", desc := "(II)I" } : Jvm.MethodName)) ∈ lw_all := lw_g (lw_at lw_m1 184 rfl) rfl
theorem q235 : (Jvm.Cond.code ({ cls := "RecipeOfScales$Book", name := "cost", desc := "(II)I" } : Jvm.MethodName) prog_2_method_4_code (3 : Nat) (Option.some Jvm.ClassFile.FieldType.int)) ∈ lw_all := lw_g (lw_at lw_m1 185 rfl) rfl
theorem q236 : (Jvm.Cond.methodLink "RecipeOfScales$Book" (71 : Nat) ({ cls := "java/lang/Math", name := "min", desc := "(II)I" } : Jvm.MethodName)) ∈ lw_all := lw_g (lw_at lw_m1 186 rfl) rfl
theorem q239 : (Jvm.Cond.interfaceEntry "RecipeOfScales$Book" (30 : Nat)) ∈ lw_tbl := lw_at lw_m1 189 rfl
theorem q240 : (Jvm.Cond.methodLink "RecipeOfScales$Book" (30 : Nat) ({ cls := "java/util/List", name := "iterator", desc := "()Ljava/util/Iterator;" } : Jvm.MethodName)) ∈ lw_all := lw_g (lw_at lw_m1 190 rfl) rfl
theorem q267 : (Jvm.Cond.interfaceEntry "RecipeOfScales$Book" (36 : Nat)) ∈ lw_tbl := lw_at lw_m1 217 rfl
theorem q268 : (Jvm.Cond.methodLink "RecipeOfScales$Book" (36 : Nat) ({ cls := "java/util/Iterator", name := "hasNext", desc := "()Z" } : Jvm.MethodName)) ∈ lw_all := lw_g (lw_at lw_m1 218 rfl) rfl
theorem q277 : (Jvm.Cond.interfaceEntry "RecipeOfScales$Book" (42 : Nat)) ∈ lw_tbl := lw_at lw_m1 227 rfl
theorem q278 : (Jvm.Cond.methodLink "RecipeOfScales$Book" (42 : Nat) ({ cls := "java/util/Iterator", name := "next", desc := "()Ljava/lang/Object;" } : Jvm.MethodName)) ∈ lw_all := lw_g (lw_at lw_m1 228 rfl) rfl
theorem q356 : (Jvm.Cond.methodLink "RecipeOfScales$Book" (52 : Nat) ({ cls := "RecipeOfScales$Book", name := "writesWays", desc := "(I)V" } : Jvm.MethodName)) ∈ lw_all := lw_g (lw_at lw_m2 66 rfl) rfl
theorem q357 : (Jvm.Cond.privateMethod ({ cls := "RecipeOfScales$Book", name := "writesWays", desc := "(I)V" } : Jvm.MethodName)) ∈ lw_tbl := lw_at lw_m2 67 rfl
theorem q358 : (Jvm.Cond.instanceMethod ({ cls := "RecipeOfScales$Book", name := "writesWays", desc := "(I)V" } : Jvm.MethodName)) ∈ lw_all := lw_g (lw_at lw_m2 68 rfl) rfl
theorem q359 : (Jvm.Cond.code ({ cls := "RecipeOfScales$Book", name := "writesWays", desc := "(I)V" } : Jvm.MethodName) prog_2_method_6_code (3 : Nat) (Option.none : Option Jvm.ClassFile.FieldType)) ∈ lw_all := lw_g (lw_at lw_m2 69 rfl) rfl
theorem q360 : (Jvm.Cond.methodLink "RecipeOfScales$Book" (76 : Nat) ({ cls := "java/lang/System", name := "arraycopy", desc := "(Ljava/lang/Object;ILjava/lang/Object;II)V" } : Jvm.MethodName)) ∈ lw_all := lw_g (lw_at lw_m2 70 rfl) rfl
theorem q363 : (Jvm.Cond.methodLink "RecipeOfScales$Book" (82 : Nat) ({ cls := "RecipeOfScales$Book", name := "of", desc := "([SII)I" } : Jvm.MethodName)) ∈ lw_all := lw_g (lw_at lw_m2 73 rfl) rfl
theorem q364 : (Jvm.Cond.static ({ cls := "RecipeOfScales$Book", name := "of", desc := "([SII)I" } : Jvm.MethodName)) ∈ lw_all := lw_g (lw_at lw_m2 74 rfl) rfl
theorem q365 : (Jvm.Cond.code ({ cls := "RecipeOfScales$Book", name := "of", desc := "([SII)I" } : Jvm.MethodName) prog_2_method_5_code (3 : Nat) (Option.some Jvm.ClassFile.FieldType.int)) ∈ lw_all := lw_g (lw_at lw_m2 75 rfl) rfl
theorem q366 : (Jvm.Cond.methodLink "RecipeOfScales$Book" (56 : Nat) ({ cls := "RecipeOfScales$Book", name := "writesErrors", desc := "(LRecipeOfScales$Weight;)V" } : Jvm.MethodName)) ∈ lw_all := lw_g (lw_at lw_m2 76 rfl) rfl
theorem q367 : (Jvm.Cond.privateMethod ({ cls := "RecipeOfScales$Book", name := "writesErrors", desc := "(LRecipeOfScales$Weight;)V" } : Jvm.MethodName)) ∈ lw_tbl := lw_at lw_m2 77 rfl
theorem q368 : (Jvm.Cond.instanceMethod ({ cls := "RecipeOfScales$Book", name := "writesErrors", desc := "(LRecipeOfScales$Weight;)V" } : Jvm.MethodName)) ∈ lw_all := lw_g (lw_at lw_m2 78 rfl) rfl
theorem q369 : (Jvm.Cond.code ({ cls := "RecipeOfScales$Book", name := "writesErrors", desc := "(LRecipeOfScales$Weight;)V" } : Jvm.MethodName) prog_2_method_7_code (4 : Nat) (Option.none : Option Jvm.ClassFile.FieldType)) ∈ lw_all := lw_g (lw_at lw_m2 79 rfl) rfl
theorem q370 : (Jvm.Cond.methodLink "RecipeOfScales$Book" (86 : Nat) ({ cls := "RecipeOfScales$Weight", name := "error", desc := "()I" } : Jvm.MethodName)) ∈ lw_all := lw_g (lw_at lw_m2 80 rfl) rfl
theorem q375 : (Jvm.Cond.instanceMethod ({ cls := "RecipeOfScales$Book", name := "gap", desc := "(I)I" } : Jvm.MethodName)) ∈ lw_all := lw_g (lw_at lw_m2 85 rfl) rfl
theorem q376 : (Jvm.Cond.selects "RecipeOfScales$Book" ({ cls := "RecipeOfScales$Book", name := "gap", desc := "(I)I" } : Jvm.MethodName) ({ cls := "RecipeOfScales$Book", name := "gap", desc := "(I)I" } : Jvm.MethodName)) ∈ lw_all := lw_g (lw_at lw_m2 86 rfl) rfl
theorem q377 : (Jvm.Cond.code ({ cls := "RecipeOfScales$Book", name := "gap", desc := "(I)I" } : Jvm.MethodName) prog_2_method_9_code (3 : Nat) (Option.some Jvm.ClassFile.FieldType.int)) ∈ lw_all := lw_g (lw_at lw_m2 87 rfl) rfl
theorem q378 : (Jvm.Cond.methodLink "RecipeOfScales$Book" (89 : Nat) ({ cls := "RecipeOfScales$Book", name := "has", desc := "(I)Z" } : Jvm.MethodName)) ∈ lw_all := lw_g (lw_at lw_m2 88 rfl) rfl
theorem q379 : (Jvm.Cond.instanceMethod ({ cls := "RecipeOfScales$Book", name := "has", desc := "(I)Z" } : Jvm.MethodName)) ∈ lw_all := lw_g (lw_at lw_m2 89 rfl) rfl
theorem q380 : (Jvm.Cond.selects "RecipeOfScales$Book" ({ cls := "RecipeOfScales$Book", name := "has", desc := "(I)Z" } : Jvm.MethodName) ({ cls := "RecipeOfScales$Book", name := "has", desc := "(I)Z" } : Jvm.MethodName)) ∈ lw_all := lw_g (lw_at lw_m2 90 rfl) rfl
theorem q381 : (Jvm.Cond.code ({ cls := "RecipeOfScales$Book", name := "has", desc := "(I)Z" } : Jvm.MethodName) prog_2_method_8_code (2 : Nat) (Option.some Jvm.ClassFile.FieldType.boolean)) ∈ lw_all := lw_g (lw_at lw_m2 91 rfl) rfl
theorem q757 : (Jvm.Cond.selects "RecipeOfScales$Book" ({ cls := "java/lang/Object", name := "getClass", desc := "()Ljava/lang/Class;" } : Jvm.MethodName) ({ cls := "java/lang/Object", name := "getClass", desc := "()Ljava/lang/Class;" } : Jvm.MethodName)) ∈ lw_all := lw_g (lw_at lw_m3 227 rfl) rfl
theorem q1321 : (Jvm.Cond.castable "RecipeOfScales$Book" "java/lang/Object") ∈ lw_tbl := lw_at lw_m6 71 rfl
theorem in_X2 : ∀ w ∈ wsX20, w ∈ lw_all := lw_in wsX20 [132, 134, 136, 138] (by decide +kernel) (by decide +kernel)
/-! RecipeOfScales$Weight -/
set_option maxRecDepth 100000
def RX4 : String := "RecipeOfScales$Weight"
def TX4 : u_T := fun k => match k with
  | 0 => ("RecipeOfScales$Weight", "mass", "I", true)
  | _ => ("RecipeOfScales$Weight", "error", "I", true)
def tyX4 : Nat → FieldType := fun k => match k with
  | 0 => .int
  | _ => .int
abbrev wsX40 : List Cond := u_ws RX4 TX4 2
theorem nmX4 : ∀ a, a < 2 → ∀ b, b < 2 → a ≠ b → (TX4 a).2.1 ≠ (TX4 b).2.1 := by decide +kernel
theorem tyX4_ok : ∀ k, k < 2 → parseFieldDescriptor (TX4 k).2.2.1 = some (tyX4 k) := by decide +kernel
abbrev cX4_mass : ByteArray := prog_3_method_5_code
def yX4_mass : MethodName := ⟨RX4, "mass", "()I"⟩
theorem dX4_mass_0 : decode cX4_mass 0 = .ok (.aload_n 0, 1) := by decide +kernel
theorem dX4_mass_1 : decode cX4_mass 1 = .ok (.getfield 7, 3) := by decide +kernel
theorem dX4_mass_4 : decode cX4_mass 4 = .ok (.ireturn, 1) := by decide +kernel
abbrev cX4_error : ByteArray := prog_3_method_6_code
def yX4_error : MethodName := ⟨RX4, "error", "()I"⟩
theorem dX4_error_0 : decode cX4_error 0 = .ok (.aload_n 0, 1) := by decide +kernel
theorem dX4_error_1 : decode cX4_error 1 = .ok (.getfield 13, 3) := by decide +kernel
theorem dX4_error_4 : decode cX4_error 4 = .ok (.ireturn, 1) := by decide +kernel
abbrev cX4_init : ByteArray := prog_3_method_1_code
def yX4_init : MethodName := ⟨RX4, "<init>", "(II)V"⟩
def dkwX4_init_0 : List UInt8 := [42, 183, 0, 1, 42, 27, 181, 0, 7, 42, 28, 181, 0, 13, 177]
abbrev dktX4_init_0 : List UInt8 := dkwX4_init_0 ++ []
theorem dksX4_init_0 : cX4_init.data.toList.drop 0 = dktX4_init_0 := by decide +kernel
theorem dX4_init_0 : decode cX4_init 0 = .ok (.aload_n 0, 1) := dk_42 (dk_at dksX4_init_0 0 rfl rfl)
theorem dX4_init_1 : decode cX4_init 1 = .ok (.invokespecial 1, 3) := dk_183 0 1 (dk_at dksX4_init_0 1 rfl rfl)
theorem dX4_init_4 : decode cX4_init 4 = .ok (.aload_n 0, 1) := dk_42 (dk_at dksX4_init_0 4 rfl rfl)
theorem dX4_init_5 : decode cX4_init 5 = .ok (.iload_n 1, 1) := dk_27 (dk_at dksX4_init_0 5 rfl rfl)
theorem dX4_init_6 : decode cX4_init 6 = .ok (.putfield 7, 3) := dk_181 0 7 (dk_at dksX4_init_0 6 rfl rfl)
theorem dX4_init_9 : decode cX4_init 9 = .ok (.aload_n 0, 1) := dk_42 (dk_at dksX4_init_0 9 rfl rfl)
theorem dX4_init_10 : decode cX4_init 10 = .ok (.iload_n 2, 1) := dk_28 (dk_at dksX4_init_0 10 rfl rfl)
theorem dX4_init_11 : decode cX4_init 11 = .ok (.putfield 13, 3) := dk_181 0 13 (dk_at dksX4_init_0 11 rfl rfl)
theorem dX4_init_14 : decode cX4_init 14 = .ok (.return_, 1) := dk_177 (dk_at dksX4_init_0 14 rfl rfl)
theorem q75 : (Jvm.Cond.initialized "RecipeOfScales$Weight") ∈ lw_all := lw_g (lw_at lw_m1 25 rfl) rfl
theorem q229 : (Jvm.Cond.instanceMethod ({ cls := "RecipeOfScales$Weight", name := "mass", desc := "()I" } : Jvm.MethodName)) ∈ lw_all := lw_g (lw_at lw_m1 179 rfl) rfl
theorem q230 : (Jvm.Cond.selects "RecipeOfScales$Weight" ({ cls := "RecipeOfScales$Weight", name := "mass", desc := "()I" } : Jvm.MethodName) ({ cls := "RecipeOfScales$Weight", name := "mass", desc := "()I" } : Jvm.MethodName)) ∈ lw_all := lw_g (lw_at lw_m1 180 rfl) rfl
theorem q231 : (Jvm.Cond.code ({ cls := "RecipeOfScales$Weight", name := "mass", desc := "()I" } : Jvm.MethodName) prog_3_method_5_code (1 : Nat) (Option.some Jvm.ClassFile.FieldType.int)) ∈ lw_all := lw_g (lw_at lw_m1 181 rfl) rfl
theorem q371 : (Jvm.Cond.instanceMethod ({ cls := "RecipeOfScales$Weight", name := "error", desc := "()I" } : Jvm.MethodName)) ∈ lw_all := lw_g (lw_at lw_m2 81 rfl) rfl
theorem q372 : (Jvm.Cond.selects "RecipeOfScales$Weight" ({ cls := "RecipeOfScales$Weight", name := "error", desc := "()I" } : Jvm.MethodName) ({ cls := "RecipeOfScales$Weight", name := "error", desc := "()I" } : Jvm.MethodName)) ∈ lw_all := lw_g (lw_at lw_m2 82 rfl) rfl
theorem q373 : (Jvm.Cond.code ({ cls := "RecipeOfScales$Weight", name := "error", desc := "()I" } : Jvm.MethodName) prog_3_method_6_code (1 : Nat) (Option.some Jvm.ClassFile.FieldType.int)) ∈ lw_all := lw_g (lw_at lw_m2 83 rfl) rfl
theorem q713 : (Jvm.Cond.instantiable "RecipeOfScales$Weight" (2 : Nat)) ∈ lw_all := lw_g (lw_at lw_m3 183 rfl) rfl
theorem q715 : (Jvm.Cond.instanceMethod ({ cls := "RecipeOfScales$Weight", name := "<init>", desc := "(II)V" } : Jvm.MethodName)) ∈ lw_all := lw_g (lw_at lw_m3 185 rfl) rfl
theorem q716 : (Jvm.Cond.code ({ cls := "RecipeOfScales$Weight", name := "<init>", desc := "(II)V" } : Jvm.MethodName) prog_3_method_1_code (3 : Nat) (Option.none : Option Jvm.ClassFile.FieldType)) ∈ lw_all := lw_g (lw_at lw_m3 186 rfl) rfl
theorem q717 : (Jvm.Cond.methodLink "RecipeOfScales$Weight" (1 : Nat) ({ cls := "java/lang/Record", name := "<init>", desc := "()V" } : Jvm.MethodName)) ∈ lw_all := lw_g (lw_at lw_m3 187 rfl) rfl
theorem q721 : (Jvm.Cond.fieldLink "RecipeOfScales$Weight" (7 : Nat) "RecipeOfScales$Weight" "mass" "I") ∈ lw_all := lw_g (lw_at lw_m3 191 rfl) rfl
theorem q722 : (Jvm.Cond.fieldLink "RecipeOfScales$Weight" (13 : Nat) "RecipeOfScales$Weight" "error" "I") ∈ lw_all := lw_g (lw_at lw_m3 192 rfl) rfl
theorem q723 : (Jvm.Cond.laysFinal "RecipeOfScales$Weight" "RecipeOfScales$Weight" "mass" "I") ∈ lw_all := lw_g (lw_at lw_m3 193 rfl) rfl
theorem q724 : (Jvm.Cond.soleField "RecipeOfScales$Weight" "mass") ∈ lw_all := lw_g (lw_at lw_m3 194 rfl) rfl
theorem q725 : (Jvm.Cond.laysFinal "RecipeOfScales$Weight" "RecipeOfScales$Weight" "error" "I") ∈ lw_all := lw_g (lw_at lw_m3 195 rfl) rfl
theorem q726 : (Jvm.Cond.soleField "RecipeOfScales$Weight" "error") ∈ lw_all := lw_g (lw_at lw_m3 196 rfl) rfl
theorem q727 : (Jvm.Cond.superclass "RecipeOfScales$Weight" "java/lang/Record") ∈ lw_all := lw_g (lw_at lw_m3 197 rfl) rfl
theorem q758 : (Jvm.Cond.selects "RecipeOfScales$Weight" ({ cls := "java/lang/Object", name := "getClass", desc := "()Ljava/lang/Class;" } : Jvm.MethodName) ({ cls := "java/lang/Object", name := "getClass", desc := "()Ljava/lang/Class;" } : Jvm.MethodName)) ∈ lw_all := lw_g (lw_at lw_m3 228 rfl) rfl
theorem q1327 : (Jvm.Cond.castable "RecipeOfScales$Weight" "java/lang/Object") ∈ lw_tbl := lw_at lw_m6 77 rfl
theorem in_X4 : ∀ w ∈ wsX40, w ∈ lw_all := lw_in wsX40 [723, 725] (by decide +kernel) (by decide +kernel)
