/-! RecipeOfScalesModel -/
set_option maxRecDepth 100000
def RX3 : String := "RecipeOfScalesModel"
def TX3 : u_T := fun k => match k with
  | 0 => ("RecipeOfScalesModel", "thrown", "I", false)
  | 1 => ("RecipeOfScalesModel", "masses", "[I", true)
  | 2 => ("RecipeOfScalesModel", "errors", "[I", true)
  | 3 => ("RecipeOfScalesModel", "many", "I", false)
  | 4 => ("RecipeOfScalesModel", "placing", "[I", true)
  | 5 => ("RecipeOfScalesModel", "best", "[I", true)
  | 6 => ("RecipeOfScalesModel", "isWeighed", "[Z", true)
  | 7 => ("RecipeOfScalesModel", "coins", "I", false)
  | 8 => ("RecipeOfScalesModel", "pairs", "[I", true)
  | 9 => ("RecipeOfScalesModel", "needs", "[I", true)
  | 10 => ("RecipeOfScalesModel", "both", "[I", true)
  | 11 => ("RecipeOfScalesModel", "heavy", "[I", true)
  | _ => ("RecipeOfScalesModel", "light", "[I", true)
def tyX3 : Nat → FieldType := fun k => match k with
  | 0 => .int
  | 1 => .array .int
  | 2 => .array .int
  | 3 => .int
  | 4 => .array .int
  | 5 => .array .int
  | 6 => .array .boolean
  | 7 => .int
  | 8 => .array .int
  | 9 => .array .int
  | 10 => .array .int
  | 11 => .array .int
  | _ => .array .int
abbrev wsX30 : List Cond := u_ws RX3 TX3 13
set_option maxRecDepth 100000 in
theorem nmX3 : ∀ a, a < 13 → ∀ b, b < 13 → a ≠ b → (TX3 a).2.1 ≠ (TX3 b).2.1 := by decide +kernel
set_option maxRecDepth 100000 in
theorem tyX3_ok : ∀ k, k < 13 → parseFieldDescriptor (TX3 k).2.2.1 = some (tyX3 k) := by decide +kernel
abbrev cX3_init : ByteArray := prog_5_method_1_code
def yX3_init : MethodName := ⟨RX3, "<init>", "()V"⟩
def dkwX3_init_3 : List UInt8 := [181, 0, 36, 42, 6, 188, 10, 181, 0, 39, 42, 6, 188, 10, 181, 0, 42, 42, 6, 182, 0, 45, 177]
abbrev dktX3_init_3 : List UInt8 := dkwX3_init_3 ++ []
def dkwX3_init_2 : List UInt8 := [181, 0, 26, 42, 16, 9, 188, 10, 181, 0, 30, 42, 17, 3, 232, 188, 10, 181, 0, 33, 42, 6, 188, 10]
abbrev dktX3_init_2 : List UInt8 := dkwX3_init_2 ++ dktX3_init_3
def dkwX3_init_1 : List UInt8 := [188, 10, 181, 0, 16, 42, 16, 7, 188, 10, 181, 0, 19, 42, 17, 31, 65, 188, 4, 181, 0, 22, 42, 6]
abbrev dktX3_init_1 : List UInt8 := dkwX3_init_1 ++ dktX3_init_2
def dkwX3_init_0 : List UInt8 := [42, 183, 0, 1, 42, 16, 7, 188, 10, 181, 0, 7, 42, 16, 7, 188, 10, 181, 0, 13, 42, 16, 7]
abbrev dktX3_init_0 : List UInt8 := dkwX3_init_0 ++ dktX3_init_1
theorem dksX3_init_0 : cX3_init.data.toList.drop 0 = dktX3_init_0 := by decide +kernel
theorem dksX3_init_1 : cX3_init.data.toList.drop 23 = dktX3_init_1 := dk_seg dksX3_init_0 23 rfl rfl
theorem dksX3_init_2 : cX3_init.data.toList.drop 47 = dktX3_init_2 := dk_seg dksX3_init_1 24 rfl rfl
theorem dksX3_init_3 : cX3_init.data.toList.drop 71 = dktX3_init_3 := dk_seg dksX3_init_2 24 rfl rfl
theorem dX3_init_0 : decode cX3_init 0 = .ok (.aload_n 0, 1) := dk_42 (dk_at dksX3_init_0 0 rfl rfl)
theorem dX3_init_1 : decode cX3_init 1 = .ok (.invokespecial 1, 3) := dk_183 0 1 (dk_at dksX3_init_0 1 rfl rfl)
theorem dX3_init_4 : decode cX3_init 4 = .ok (.aload_n 0, 1) := dk_42 (dk_at dksX3_init_0 4 rfl rfl)
theorem dX3_init_5 : decode cX3_init 5 = .ok (.bipush 7, 2) := dk_16 7 (dk_at dksX3_init_0 5 rfl rfl)
theorem dX3_init_7 : decode cX3_init 7 = .ok (.newarray .int, 2) := dk_188_10 (dk_at dksX3_init_0 7 rfl rfl)
theorem dX3_init_9 : decode cX3_init 9 = .ok (.putfield 7, 3) := dk_181 0 7 (dk_at dksX3_init_0 9 rfl rfl)
theorem dX3_init_12 : decode cX3_init 12 = .ok (.aload_n 0, 1) := dk_42 (dk_at dksX3_init_0 12 rfl rfl)
theorem dX3_init_13 : decode cX3_init 13 = .ok (.bipush 7, 2) := dk_16 7 (dk_at dksX3_init_0 13 rfl rfl)
theorem dX3_init_15 : decode cX3_init 15 = .ok (.newarray .int, 2) := dk_188_10 (dk_at dksX3_init_0 15 rfl rfl)
theorem dX3_init_17 : decode cX3_init 17 = .ok (.putfield 13, 3) := dk_181 0 13 (dk_at dksX3_init_0 17 rfl rfl)
theorem dX3_init_20 : decode cX3_init 20 = .ok (.aload_n 0, 1) := dk_42 (dk_at dksX3_init_0 20 rfl rfl)
theorem dX3_init_21 : decode cX3_init 21 = .ok (.bipush 7, 2) := dk_16 7 (dk_at dksX3_init_0 21 rfl rfl)
theorem dX3_init_23 : decode cX3_init 23 = .ok (.newarray .int, 2) := dk_188_10 (dk_at dksX3_init_1 0 rfl rfl)
theorem dX3_init_25 : decode cX3_init 25 = .ok (.putfield 16, 3) := dk_181 0 16 (dk_at dksX3_init_1 2 rfl rfl)
theorem dX3_init_28 : decode cX3_init 28 = .ok (.aload_n 0, 1) := dk_42 (dk_at dksX3_init_1 5 rfl rfl)
theorem dX3_init_29 : decode cX3_init 29 = .ok (.bipush 7, 2) := dk_16 7 (dk_at dksX3_init_1 6 rfl rfl)
theorem dX3_init_31 : decode cX3_init 31 = .ok (.newarray .int, 2) := dk_188_10 (dk_at dksX3_init_1 8 rfl rfl)
theorem dX3_init_33 : decode cX3_init 33 = .ok (.putfield 19, 3) := dk_181 0 19 (dk_at dksX3_init_1 10 rfl rfl)
theorem dX3_init_36 : decode cX3_init 36 = .ok (.aload_n 0, 1) := dk_42 (dk_at dksX3_init_1 13 rfl rfl)
theorem dX3_init_37 : decode cX3_init 37 = .ok (.sipush 8001, 3) := dk_17 31 65 (dk_at dksX3_init_1 14 rfl rfl)
theorem dX3_init_40 : decode cX3_init 40 = .ok (.newarray .boolean, 2) := dk_188_4 (dk_at dksX3_init_1 17 rfl rfl)
theorem dX3_init_42 : decode cX3_init 42 = .ok (.putfield 22, 3) := dk_181 0 22 (dk_at dksX3_init_1 19 rfl rfl)
theorem dX3_init_45 : decode cX3_init 45 = .ok (.aload_n 0, 1) := dk_42 (dk_at dksX3_init_1 22 rfl rfl)
theorem dX3_init_46 : decode cX3_init 46 = .ok (.iconst 3, 1) := dk_6 (dk_at dksX3_init_1 23 rfl rfl)
theorem dX3_init_47 : decode cX3_init 47 = .ok (.putfield 26, 3) := dk_181 0 26 (dk_at dksX3_init_2 0 rfl rfl)
theorem dX3_init_50 : decode cX3_init 50 = .ok (.aload_n 0, 1) := dk_42 (dk_at dksX3_init_2 3 rfl rfl)
theorem dX3_init_51 : decode cX3_init 51 = .ok (.bipush 9, 2) := dk_16 9 (dk_at dksX3_init_2 4 rfl rfl)
theorem dX3_init_53 : decode cX3_init 53 = .ok (.newarray .int, 2) := dk_188_10 (dk_at dksX3_init_2 6 rfl rfl)
theorem dX3_init_55 : decode cX3_init 55 = .ok (.putfield 30, 3) := dk_181 0 30 (dk_at dksX3_init_2 8 rfl rfl)
theorem dX3_init_58 : decode cX3_init 58 = .ok (.aload_n 0, 1) := dk_42 (dk_at dksX3_init_2 11 rfl rfl)
theorem dX3_init_59 : decode cX3_init 59 = .ok (.sipush 1000, 3) := dk_17 3 232 (dk_at dksX3_init_2 12 rfl rfl)
theorem dX3_init_62 : decode cX3_init 62 = .ok (.newarray .int, 2) := dk_188_10 (dk_at dksX3_init_2 15 rfl rfl)
theorem dX3_init_64 : decode cX3_init 64 = .ok (.putfield 33, 3) := dk_181 0 33 (dk_at dksX3_init_2 17 rfl rfl)
theorem dX3_init_67 : decode cX3_init 67 = .ok (.aload_n 0, 1) := dk_42 (dk_at dksX3_init_2 20 rfl rfl)
theorem dX3_init_68 : decode cX3_init 68 = .ok (.iconst 3, 1) := dk_6 (dk_at dksX3_init_2 21 rfl rfl)
theorem dX3_init_69 : decode cX3_init 69 = .ok (.newarray .int, 2) := dk_188_10 (dk_at dksX3_init_2 22 rfl rfl)
theorem dX3_init_71 : decode cX3_init 71 = .ok (.putfield 36, 3) := dk_181 0 36 (dk_at dksX3_init_3 0 rfl rfl)
theorem dX3_init_74 : decode cX3_init 74 = .ok (.aload_n 0, 1) := dk_42 (dk_at dksX3_init_3 3 rfl rfl)
theorem dX3_init_75 : decode cX3_init 75 = .ok (.iconst 3, 1) := dk_6 (dk_at dksX3_init_3 4 rfl rfl)
theorem dX3_init_76 : decode cX3_init 76 = .ok (.newarray .int, 2) := dk_188_10 (dk_at dksX3_init_3 5 rfl rfl)
theorem dX3_init_78 : decode cX3_init 78 = .ok (.putfield 39, 3) := dk_181 0 39 (dk_at dksX3_init_3 7 rfl rfl)
theorem dX3_init_81 : decode cX3_init 81 = .ok (.aload_n 0, 1) := dk_42 (dk_at dksX3_init_3 10 rfl rfl)
theorem dX3_init_82 : decode cX3_init 82 = .ok (.iconst 3, 1) := dk_6 (dk_at dksX3_init_3 11 rfl rfl)
theorem dX3_init_83 : decode cX3_init 83 = .ok (.newarray .int, 2) := dk_188_10 (dk_at dksX3_init_3 12 rfl rfl)
theorem dX3_init_85 : decode cX3_init 85 = .ok (.putfield 42, 3) := dk_181 0 42 (dk_at dksX3_init_3 14 rfl rfl)
theorem dX3_init_88 : decode cX3_init 88 = .ok (.aload_n 0, 1) := dk_42 (dk_at dksX3_init_3 17 rfl rfl)
theorem dX3_init_89 : decode cX3_init 89 = .ok (.iconst 3, 1) := dk_6 (dk_at dksX3_init_3 18 rfl rfl)
theorem dX3_init_90 : decode cX3_init 90 = .ok (.invokevirtual 45, 3) := dk_182 0 45 (dk_at dksX3_init_3 19 rfl rfl)
theorem dX3_init_93 : decode cX3_init 93 = .ok (.return_, 1) := dk_177 (dk_at dksX3_init_3 22 rfl rfl)
abbrev cX3_begin : ByteArray := prog_5_method_43_code
def yX3_begin : MethodName := ⟨RX3, "begin", "(I)V"⟩
def dkwX3_begin_1 : List UInt8 := [167, 0, 4, 3, 79, 132, 2, 1, 167, 255, 231, 42, 182, 0, 135, 177]
abbrev dktX3_begin_1 : List UInt8 := dkwX3_begin_1 ++ []
def dkwX3_begin_0 : List UInt8 := [42, 27, 181, 0, 26, 3, 61, 28, 16, 9, 162, 0, 25, 42, 180, 0, 30, 28, 28, 27, 162, 0, 7, 6]
abbrev dktX3_begin_0 : List UInt8 := dkwX3_begin_0 ++ dktX3_begin_1
theorem dksX3_begin_0 : cX3_begin.data.toList.drop 0 = dktX3_begin_0 := by decide +kernel
theorem dksX3_begin_1 : cX3_begin.data.toList.drop 24 = dktX3_begin_1 := dk_seg dksX3_begin_0 24 rfl rfl
theorem dX3_begin_0 : decode cX3_begin 0 = .ok (.aload_n 0, 1) := dk_42 (dk_at dksX3_begin_0 0 rfl rfl)
theorem dX3_begin_1 : decode cX3_begin 1 = .ok (.iload_n 1, 1) := dk_27 (dk_at dksX3_begin_0 1 rfl rfl)
theorem dX3_begin_2 : decode cX3_begin 2 = .ok (.putfield 26, 3) := dk_181 0 26 (dk_at dksX3_begin_0 2 rfl rfl)
theorem dX3_begin_5 : decode cX3_begin 5 = .ok (.iconst 0, 1) := dk_3 (dk_at dksX3_begin_0 5 rfl rfl)
theorem dX3_begin_6 : decode cX3_begin 6 = .ok (.istore_n 2, 1) := dk_61 (dk_at dksX3_begin_0 6 rfl rfl)
theorem dX3_begin_7 : decode cX3_begin 7 = .ok (.iload_n 2, 1) := dk_28 (dk_at dksX3_begin_0 7 rfl rfl)
theorem dX3_begin_8 : decode cX3_begin 8 = .ok (.bipush 9, 2) := dk_16 9 (dk_at dksX3_begin_0 8 rfl rfl)
theorem dX3_begin_10 : decode cX3_begin 10 = .ok (.if_icmp .ge 25, 3) := dk_162 0 25 (dk_at dksX3_begin_0 10 rfl rfl)
theorem dX3_begin_13 : decode cX3_begin 13 = .ok (.aload_n 0, 1) := dk_42 (dk_at dksX3_begin_0 13 rfl rfl)
theorem dX3_begin_14 : decode cX3_begin 14 = .ok (.getfield 30, 3) := dk_180 0 30 (dk_at dksX3_begin_0 14 rfl rfl)
theorem dX3_begin_17 : decode cX3_begin 17 = .ok (.iload_n 2, 1) := dk_28 (dk_at dksX3_begin_0 17 rfl rfl)
theorem dX3_begin_18 : decode cX3_begin 18 = .ok (.iload_n 2, 1) := dk_28 (dk_at dksX3_begin_0 18 rfl rfl)
theorem dX3_begin_19 : decode cX3_begin 19 = .ok (.iload_n 1, 1) := dk_27 (dk_at dksX3_begin_0 19 rfl rfl)
theorem dX3_begin_20 : decode cX3_begin 20 = .ok (.if_icmp .ge 7, 3) := dk_162 0 7 (dk_at dksX3_begin_0 20 rfl rfl)
theorem dX3_begin_23 : decode cX3_begin 23 = .ok (.iconst 3, 1) := dk_6 (dk_at dksX3_begin_0 23 rfl rfl)
theorem dX3_begin_24 : decode cX3_begin 24 = .ok (.goto 4, 3) := dk_167 0 4 (dk_at dksX3_begin_1 0 rfl rfl)
theorem dX3_begin_27 : decode cX3_begin 27 = .ok (.iconst 0, 1) := dk_3 (dk_at dksX3_begin_1 3 rfl rfl)
theorem dX3_begin_28 : decode cX3_begin 28 = .ok (.iastore, 1) := dk_79 (dk_at dksX3_begin_1 4 rfl rfl)
theorem dX3_begin_29 : decode cX3_begin 29 = .ok (.iinc 2 1, 3) := dk_132 2 1 (dk_at dksX3_begin_1 5 rfl rfl)
theorem dX3_begin_32 : decode cX3_begin 32 = .ok (.goto (-25), 3) := dk_167 255 231 (dk_at dksX3_begin_1 8 rfl rfl)
theorem dX3_begin_35 : decode cX3_begin 35 = .ok (.aload_n 0, 1) := dk_42 (dk_at dksX3_begin_1 11 rfl rfl)
theorem dX3_begin_36 : decode cX3_begin 36 = .ok (.invokevirtual 135, 3) := dk_182 0 135 (dk_at dksX3_begin_1 12 rfl rfl)
theorem dX3_begin_39 : decode cX3_begin 39 = .ok (.return_, 1) := dk_177 (dk_at dksX3_begin_1 15 rfl rfl)
abbrev cX3_layNeeds : ByteArray := prog_5_method_42_code
def yX3_layNeeds : MethodName := ⟨RX3, "layNeeds", "()V"⟩
def dkwX3_layNeeds_5 : List UInt8 := [153, 0, 10, 42, 180, 0, 33, 28, 27, 79, 132, 2, 1, 167, 255, 181, 132, 1, 1, 167, 255, 168, 177]
abbrev dktX3_layNeeds_5 : List UInt8 := dkwX3_layNeeds_5 ++ []
def dkwX3_layNeeds_4 : List UInt8 := [163, 0, 34, 42, 180, 0, 33, 28, 46, 16, 99, 160, 0, 23, 42, 29, 21, 4, 21, 5, 27, 182, 0, 132]
abbrev dktX3_layNeeds_4 : List UInt8 := dkwX3_layNeeds_4 ++ dktX3_layNeeds_5
def dkwX3_layNeeds_3 : List UInt8 := [16, 10, 112, 54, 4, 28, 16, 10, 112, 54, 5, 29, 21, 4, 96, 21, 5, 96, 42, 180, 0, 26]
abbrev dktX3_layNeeds_3 : List UInt8 := dkwX3_layNeeds_3 ++ dktX3_layNeeds_4
def dkwX3_layNeeds_2 : List UInt8 := [60, 27, 7, 163, 0, 89, 4, 61, 28, 17, 3, 232, 162, 0, 74, 28, 16, 100, 108, 62, 28, 16, 10, 108]
abbrev dktX3_layNeeds_2 : List UInt8 := dkwX3_layNeeds_2 ++ dktX3_layNeeds_3
def dkwX3_layNeeds_1 : List UInt8 := [180, 0, 33, 3, 4, 3, 184, 0, 111, 3, 79, 42, 180, 0, 33, 3, 3, 4, 184, 0, 111, 3, 79, 4]
abbrev dktX3_layNeeds_1 : List UInt8 := dkwX3_layNeeds_1 ++ dktX3_layNeeds_2
def dkwX3_layNeeds_0 : List UInt8 := [3, 60, 27, 17, 3, 232, 162, 0, 17, 42, 180, 0, 33, 27, 16, 99, 79, 132, 1, 1, 167, 255, 238, 42]
abbrev dktX3_layNeeds_0 : List UInt8 := dkwX3_layNeeds_0 ++ dktX3_layNeeds_1
theorem dksX3_layNeeds_0 : cX3_layNeeds.data.toList.drop 0 = dktX3_layNeeds_0 := by decide +kernel
theorem dksX3_layNeeds_1 : cX3_layNeeds.data.toList.drop 24 = dktX3_layNeeds_1 := dk_seg dksX3_layNeeds_0 24 rfl rfl
theorem dksX3_layNeeds_2 : cX3_layNeeds.data.toList.drop 48 = dktX3_layNeeds_2 := dk_seg dksX3_layNeeds_1 24 rfl rfl
theorem dksX3_layNeeds_3 : cX3_layNeeds.data.toList.drop 72 = dktX3_layNeeds_3 := dk_seg dksX3_layNeeds_2 24 rfl rfl
theorem dksX3_layNeeds_4 : cX3_layNeeds.data.toList.drop 94 = dktX3_layNeeds_4 := dk_seg dksX3_layNeeds_3 22 rfl rfl
theorem dksX3_layNeeds_5 : cX3_layNeeds.data.toList.drop 118 = dktX3_layNeeds_5 := dk_seg dksX3_layNeeds_4 24 rfl rfl
theorem dX3_layNeeds_0 : decode cX3_layNeeds 0 = .ok (.iconst 0, 1) := dk_3 (dk_at dksX3_layNeeds_0 0 rfl rfl)
theorem dX3_layNeeds_1 : decode cX3_layNeeds 1 = .ok (.istore_n 1, 1) := dk_60 (dk_at dksX3_layNeeds_0 1 rfl rfl)
theorem dX3_layNeeds_2 : decode cX3_layNeeds 2 = .ok (.iload_n 1, 1) := dk_27 (dk_at dksX3_layNeeds_0 2 rfl rfl)
theorem dX3_layNeeds_3 : decode cX3_layNeeds 3 = .ok (.sipush 1000, 3) := dk_17 3 232 (dk_at dksX3_layNeeds_0 3 rfl rfl)
theorem dX3_layNeeds_6 : decode cX3_layNeeds 6 = .ok (.if_icmp .ge 17, 3) := dk_162 0 17 (dk_at dksX3_layNeeds_0 6 rfl rfl)
theorem dX3_layNeeds_9 : decode cX3_layNeeds 9 = .ok (.aload_n 0, 1) := dk_42 (dk_at dksX3_layNeeds_0 9 rfl rfl)
theorem dX3_layNeeds_10 : decode cX3_layNeeds 10 = .ok (.getfield 33, 3) := dk_180 0 33 (dk_at dksX3_layNeeds_0 10 rfl rfl)
theorem dX3_layNeeds_13 : decode cX3_layNeeds 13 = .ok (.iload_n 1, 1) := dk_27 (dk_at dksX3_layNeeds_0 13 rfl rfl)
theorem dX3_layNeeds_14 : decode cX3_layNeeds 14 = .ok (.bipush 99, 2) := dk_16 99 (dk_at dksX3_layNeeds_0 14 rfl rfl)
theorem dX3_layNeeds_16 : decode cX3_layNeeds 16 = .ok (.iastore, 1) := dk_79 (dk_at dksX3_layNeeds_0 16 rfl rfl)
theorem dX3_layNeeds_17 : decode cX3_layNeeds 17 = .ok (.iinc 1 1, 3) := dk_132 1 1 (dk_at dksX3_layNeeds_0 17 rfl rfl)
theorem dX3_layNeeds_20 : decode cX3_layNeeds 20 = .ok (.goto (-18), 3) := dk_167 255 238 (dk_at dksX3_layNeeds_0 20 rfl rfl)
theorem dX3_layNeeds_23 : decode cX3_layNeeds 23 = .ok (.aload_n 0, 1) := dk_42 (dk_at dksX3_layNeeds_0 23 rfl rfl)
theorem dX3_layNeeds_24 : decode cX3_layNeeds 24 = .ok (.getfield 33, 3) := dk_180 0 33 (dk_at dksX3_layNeeds_1 0 rfl rfl)
theorem dX3_layNeeds_27 : decode cX3_layNeeds 27 = .ok (.iconst 0, 1) := dk_3 (dk_at dksX3_layNeeds_1 3 rfl rfl)
theorem dX3_layNeeds_28 : decode cX3_layNeeds 28 = .ok (.iconst 1, 1) := dk_4 (dk_at dksX3_layNeeds_1 4 rfl rfl)
theorem dX3_layNeeds_29 : decode cX3_layNeeds 29 = .ok (.iconst 0, 1) := dk_3 (dk_at dksX3_layNeeds_1 5 rfl rfl)
theorem dX3_layNeeds_30 : decode cX3_layNeeds 30 = .ok (.invokestatic 111, 3) := dk_184 0 111 (dk_at dksX3_layNeeds_1 6 rfl rfl)
theorem dX3_layNeeds_33 : decode cX3_layNeeds 33 = .ok (.iconst 0, 1) := dk_3 (dk_at dksX3_layNeeds_1 9 rfl rfl)
theorem dX3_layNeeds_34 : decode cX3_layNeeds 34 = .ok (.iastore, 1) := dk_79 (dk_at dksX3_layNeeds_1 10 rfl rfl)
theorem dX3_layNeeds_35 : decode cX3_layNeeds 35 = .ok (.aload_n 0, 1) := dk_42 (dk_at dksX3_layNeeds_1 11 rfl rfl)
theorem dX3_layNeeds_36 : decode cX3_layNeeds 36 = .ok (.getfield 33, 3) := dk_180 0 33 (dk_at dksX3_layNeeds_1 12 rfl rfl)
theorem dX3_layNeeds_39 : decode cX3_layNeeds 39 = .ok (.iconst 0, 1) := dk_3 (dk_at dksX3_layNeeds_1 15 rfl rfl)
theorem dX3_layNeeds_40 : decode cX3_layNeeds 40 = .ok (.iconst 0, 1) := dk_3 (dk_at dksX3_layNeeds_1 16 rfl rfl)
theorem dX3_layNeeds_41 : decode cX3_layNeeds 41 = .ok (.iconst 1, 1) := dk_4 (dk_at dksX3_layNeeds_1 17 rfl rfl)
theorem dX3_layNeeds_42 : decode cX3_layNeeds 42 = .ok (.invokestatic 111, 3) := dk_184 0 111 (dk_at dksX3_layNeeds_1 18 rfl rfl)
theorem dX3_layNeeds_45 : decode cX3_layNeeds 45 = .ok (.iconst 0, 1) := dk_3 (dk_at dksX3_layNeeds_1 21 rfl rfl)
theorem dX3_layNeeds_46 : decode cX3_layNeeds 46 = .ok (.iastore, 1) := dk_79 (dk_at dksX3_layNeeds_1 22 rfl rfl)
theorem dX3_layNeeds_47 : decode cX3_layNeeds 47 = .ok (.iconst 1, 1) := dk_4 (dk_at dksX3_layNeeds_1 23 rfl rfl)
theorem dX3_layNeeds_48 : decode cX3_layNeeds 48 = .ok (.istore_n 1, 1) := dk_60 (dk_at dksX3_layNeeds_2 0 rfl rfl)
theorem dX3_layNeeds_49 : decode cX3_layNeeds 49 = .ok (.iload_n 1, 1) := dk_27 (dk_at dksX3_layNeeds_2 1 rfl rfl)
theorem dX3_layNeeds_50 : decode cX3_layNeeds 50 = .ok (.iconst 4, 1) := dk_7 (dk_at dksX3_layNeeds_2 2 rfl rfl)
theorem dX3_layNeeds_51 : decode cX3_layNeeds 51 = .ok (.if_icmp .gt 89, 3) := dk_163 0 89 (dk_at dksX3_layNeeds_2 3 rfl rfl)
theorem dX3_layNeeds_54 : decode cX3_layNeeds 54 = .ok (.iconst 1, 1) := dk_4 (dk_at dksX3_layNeeds_2 6 rfl rfl)
theorem dX3_layNeeds_55 : decode cX3_layNeeds 55 = .ok (.istore_n 2, 1) := dk_61 (dk_at dksX3_layNeeds_2 7 rfl rfl)
theorem dX3_layNeeds_56 : decode cX3_layNeeds 56 = .ok (.iload_n 2, 1) := dk_28 (dk_at dksX3_layNeeds_2 8 rfl rfl)
theorem dX3_layNeeds_57 : decode cX3_layNeeds 57 = .ok (.sipush 1000, 3) := dk_17 3 232 (dk_at dksX3_layNeeds_2 9 rfl rfl)
theorem dX3_layNeeds_60 : decode cX3_layNeeds 60 = .ok (.if_icmp .ge 74, 3) := dk_162 0 74 (dk_at dksX3_layNeeds_2 12 rfl rfl)
theorem dX3_layNeeds_63 : decode cX3_layNeeds 63 = .ok (.iload_n 2, 1) := dk_28 (dk_at dksX3_layNeeds_2 15 rfl rfl)
theorem dX3_layNeeds_64 : decode cX3_layNeeds 64 = .ok (.bipush 100, 2) := dk_16 100 (dk_at dksX3_layNeeds_2 16 rfl rfl)
theorem dX3_layNeeds_66 : decode cX3_layNeeds 66 = .ok (.idiv, 1) := dk_108 (dk_at dksX3_layNeeds_2 18 rfl rfl)
theorem dX3_layNeeds_67 : decode cX3_layNeeds 67 = .ok (.istore_n 3, 1) := dk_62 (dk_at dksX3_layNeeds_2 19 rfl rfl)
theorem dX3_layNeeds_68 : decode cX3_layNeeds 68 = .ok (.iload_n 2, 1) := dk_28 (dk_at dksX3_layNeeds_2 20 rfl rfl)
theorem dX3_layNeeds_69 : decode cX3_layNeeds 69 = .ok (.bipush 10, 2) := dk_16 10 (dk_at dksX3_layNeeds_2 21 rfl rfl)
theorem dX3_layNeeds_71 : decode cX3_layNeeds 71 = .ok (.idiv, 1) := dk_108 (dk_at dksX3_layNeeds_2 23 rfl rfl)
theorem dX3_layNeeds_72 : decode cX3_layNeeds 72 = .ok (.bipush 10, 2) := dk_16 10 (dk_at dksX3_layNeeds_3 0 rfl rfl)
theorem dX3_layNeeds_74 : decode cX3_layNeeds 74 = .ok (.irem, 1) := dk_112 (dk_at dksX3_layNeeds_3 2 rfl rfl)
theorem dX3_layNeeds_75 : decode cX3_layNeeds 75 = .ok (.istore 4, 2) := dk_54 4 (dk_at dksX3_layNeeds_3 3 rfl rfl)
theorem dX3_layNeeds_77 : decode cX3_layNeeds 77 = .ok (.iload_n 2, 1) := dk_28 (dk_at dksX3_layNeeds_3 5 rfl rfl)
theorem dX3_layNeeds_78 : decode cX3_layNeeds 78 = .ok (.bipush 10, 2) := dk_16 10 (dk_at dksX3_layNeeds_3 6 rfl rfl)
theorem dX3_layNeeds_80 : decode cX3_layNeeds 80 = .ok (.irem, 1) := dk_112 (dk_at dksX3_layNeeds_3 8 rfl rfl)
theorem dX3_layNeeds_81 : decode cX3_layNeeds 81 = .ok (.istore 5, 2) := dk_54 5 (dk_at dksX3_layNeeds_3 9 rfl rfl)
theorem dX3_layNeeds_83 : decode cX3_layNeeds 83 = .ok (.iload_n 3, 1) := dk_29 (dk_at dksX3_layNeeds_3 11 rfl rfl)
theorem dX3_layNeeds_84 : decode cX3_layNeeds 84 = .ok (.iload 4, 2) := dk_21 4 (dk_at dksX3_layNeeds_3 12 rfl rfl)
theorem dX3_layNeeds_86 : decode cX3_layNeeds 86 = .ok (.iadd, 1) := dk_96 (dk_at dksX3_layNeeds_3 14 rfl rfl)
theorem dX3_layNeeds_87 : decode cX3_layNeeds 87 = .ok (.iload 5, 2) := dk_21 5 (dk_at dksX3_layNeeds_3 15 rfl rfl)
theorem dX3_layNeeds_89 : decode cX3_layNeeds 89 = .ok (.iadd, 1) := dk_96 (dk_at dksX3_layNeeds_3 17 rfl rfl)
theorem dX3_layNeeds_90 : decode cX3_layNeeds 90 = .ok (.aload_n 0, 1) := dk_42 (dk_at dksX3_layNeeds_3 18 rfl rfl)
theorem dX3_layNeeds_91 : decode cX3_layNeeds 91 = .ok (.getfield 26, 3) := dk_180 0 26 (dk_at dksX3_layNeeds_3 19 rfl rfl)
theorem dX3_layNeeds_94 : decode cX3_layNeeds 94 = .ok (.if_icmp .gt 34, 3) := dk_163 0 34 (dk_at dksX3_layNeeds_4 0 rfl rfl)
theorem dX3_layNeeds_97 : decode cX3_layNeeds 97 = .ok (.aload_n 0, 1) := dk_42 (dk_at dksX3_layNeeds_4 3 rfl rfl)
theorem dX3_layNeeds_98 : decode cX3_layNeeds 98 = .ok (.getfield 33, 3) := dk_180 0 33 (dk_at dksX3_layNeeds_4 4 rfl rfl)
theorem dX3_layNeeds_101 : decode cX3_layNeeds 101 = .ok (.iload_n 2, 1) := dk_28 (dk_at dksX3_layNeeds_4 7 rfl rfl)
theorem dX3_layNeeds_102 : decode cX3_layNeeds 102 = .ok (.iaload, 1) := dk_46 (dk_at dksX3_layNeeds_4 8 rfl rfl)
theorem dX3_layNeeds_103 : decode cX3_layNeeds 103 = .ok (.bipush 99, 2) := dk_16 99 (dk_at dksX3_layNeeds_4 9 rfl rfl)
theorem dX3_layNeeds_105 : decode cX3_layNeeds 105 = .ok (.if_icmp .ne 23, 3) := dk_160 0 23 (dk_at dksX3_layNeeds_4 11 rfl rfl)
theorem dX3_layNeeds_108 : decode cX3_layNeeds 108 = .ok (.aload_n 0, 1) := dk_42 (dk_at dksX3_layNeeds_4 14 rfl rfl)
theorem dX3_layNeeds_109 : decode cX3_layNeeds 109 = .ok (.iload_n 3, 1) := dk_29 (dk_at dksX3_layNeeds_4 15 rfl rfl)
theorem dX3_layNeeds_110 : decode cX3_layNeeds 110 = .ok (.iload 4, 2) := dk_21 4 (dk_at dksX3_layNeeds_4 16 rfl rfl)
theorem dX3_layNeeds_112 : decode cX3_layNeeds 112 = .ok (.iload 5, 2) := dk_21 5 (dk_at dksX3_layNeeds_4 18 rfl rfl)
theorem dX3_layNeeds_114 : decode cX3_layNeeds 114 = .ok (.iload_n 1, 1) := dk_27 (dk_at dksX3_layNeeds_4 20 rfl rfl)
theorem dX3_layNeeds_115 : decode cX3_layNeeds 115 = .ok (.invokevirtual 132, 3) := dk_182 0 132 (dk_at dksX3_layNeeds_4 21 rfl rfl)
theorem dX3_layNeeds_118 : decode cX3_layNeeds 118 = .ok (.ifCond .eq 10, 3) := dk_153 0 10 (dk_at dksX3_layNeeds_5 0 rfl rfl)
theorem dX3_layNeeds_121 : decode cX3_layNeeds 121 = .ok (.aload_n 0, 1) := dk_42 (dk_at dksX3_layNeeds_5 3 rfl rfl)
theorem dX3_layNeeds_122 : decode cX3_layNeeds 122 = .ok (.getfield 33, 3) := dk_180 0 33 (dk_at dksX3_layNeeds_5 4 rfl rfl)
theorem dX3_layNeeds_125 : decode cX3_layNeeds 125 = .ok (.iload_n 2, 1) := dk_28 (dk_at dksX3_layNeeds_5 7 rfl rfl)
theorem dX3_layNeeds_126 : decode cX3_layNeeds 126 = .ok (.iload_n 1, 1) := dk_27 (dk_at dksX3_layNeeds_5 8 rfl rfl)
theorem dX3_layNeeds_127 : decode cX3_layNeeds 127 = .ok (.iastore, 1) := dk_79 (dk_at dksX3_layNeeds_5 9 rfl rfl)
theorem dX3_layNeeds_128 : decode cX3_layNeeds 128 = .ok (.iinc 2 1, 3) := dk_132 2 1 (dk_at dksX3_layNeeds_5 10 rfl rfl)
theorem dX3_layNeeds_131 : decode cX3_layNeeds 131 = .ok (.goto (-75), 3) := dk_167 255 181 (dk_at dksX3_layNeeds_5 13 rfl rfl)
theorem dX3_layNeeds_134 : decode cX3_layNeeds 134 = .ok (.iinc 1 1, 3) := dk_132 1 1 (dk_at dksX3_layNeeds_5 16 rfl rfl)
theorem dX3_layNeeds_137 : decode cX3_layNeeds 137 = .ok (.goto (-88), 3) := dk_167 255 168 (dk_at dksX3_layNeeds_5 19 rfl rfl)
theorem dX3_layNeeds_140 : decode cX3_layNeeds 140 = .ok (.return_, 1) := dk_177 (dk_at dksX3_layNeeds_5 22 rfl rfl)
abbrev cX3_at : ByteArray := prog_5_method_34_code
def yX3_at : MethodName := ⟨RX3, "at", "(III)I"⟩
def dkwX3_at_0 : List UInt8 := [16, 100, 26, 104, 16, 10, 27, 104, 96, 28, 96, 172]
abbrev dktX3_at_0 : List UInt8 := dkwX3_at_0 ++ []
theorem dksX3_at_0 : cX3_at.data.toList.drop 0 = dktX3_at_0 := by decide +kernel
theorem dX3_at_0 : decode cX3_at 0 = .ok (.bipush 100, 2) := dk_16 100 (dk_at dksX3_at_0 0 rfl rfl)
theorem dX3_at_2 : decode cX3_at 2 = .ok (.iload_n 0, 1) := dk_26 (dk_at dksX3_at_0 2 rfl rfl)
theorem dX3_at_3 : decode cX3_at 3 = .ok (.imul, 1) := dk_104 (dk_at dksX3_at_0 3 rfl rfl)
theorem dX3_at_4 : decode cX3_at 4 = .ok (.bipush 10, 2) := dk_16 10 (dk_at dksX3_at_0 4 rfl rfl)
theorem dX3_at_6 : decode cX3_at 6 = .ok (.iload_n 1, 1) := dk_27 (dk_at dksX3_at_0 6 rfl rfl)
theorem dX3_at_7 : decode cX3_at 7 = .ok (.imul, 1) := dk_104 (dk_at dksX3_at_0 7 rfl rfl)
theorem dX3_at_8 : decode cX3_at 8 = .ok (.iadd, 1) := dk_96 (dk_at dksX3_at_0 8 rfl rfl)
theorem dX3_at_9 : decode cX3_at 9 = .ok (.iload_n 2, 1) := dk_28 (dk_at dksX3_at_0 9 rfl rfl)
theorem dX3_at_10 : decode cX3_at 10 = .ok (.iadd, 1) := dk_96 (dk_at dksX3_at_0 10 rfl rfl)
theorem dX3_at_11 : decode cX3_at 11 = .ok (.ireturn, 1) := dk_172 (dk_at dksX3_at_0 11 rfl rfl)
abbrev cX3_canDo : ByteArray := prog_5_method_41_code
def yX3_canDo : MethodName := ⟨RX3, "canDo", "(IIII)Z"⟩
def dkwX3_canDo_8 : List UInt8 := [132, 6, 1, 167, 255, 79, 3, 172]
abbrev dktX3_canDo_8 : List UInt8 := dkwX3_canDo_8 ++ []
def dkwX3_canDo_7 : List UInt8 := [21, 6, 21, 7, 182, 0, 125, 42, 182, 0, 129, 21, 4, 162, 0, 5, 4, 172, 132, 7, 1, 167, 255, 96]
abbrev dktX3_canDo_7 : List UInt8 := dkwX3_canDo_7 ++ dktX3_canDo_8
def dkwX3_canDo_6 : List UInt8 := [184, 0, 122, 96, 158, 0, 7, 4, 167, 0, 4, 3, 54, 12, 21, 12, 153, 0, 25, 42, 27, 28, 29]
abbrev dktX3_canDo_6 : List UInt8 := dkwX3_canDo_6 ++ dktX3_canDo_7
def dkwX3_canDo_5 : List UInt8 := [21, 11, 21, 5, 163, 0, 29, 21, 11, 116, 21, 5, 163, 0, 21, 21, 6, 184, 0, 122, 21, 7]
abbrev dktX3_canDo_5 : List UInt8 := dkwX3_canDo_5 ++ dktX3_canDo_6
def dkwX3_canDo_4 : List UInt8 := [184, 0, 122, 100, 54, 11, 21, 8, 27, 163, 0, 48, 21, 9, 28, 163, 0, 42, 21, 10, 29, 163, 0, 36]
abbrev dktX3_canDo_4 : List UInt8 := dkwX3_canDo_4 ++ dktX3_canDo_5
def dkwX3_canDo_3 : List UInt8 := [112, 96, 54, 9, 21, 6, 16, 10, 112, 21, 7, 16, 10, 112, 96, 54, 10, 21, 6, 184, 0, 122, 21, 7]
abbrev dktX3_canDo_3 : List UInt8 := dkwX3_canDo_3 ++ dktX3_canDo_4
def dkwX3_canDo_2 : List UInt8 := [108, 21, 7, 16, 100, 108, 96, 54, 8, 21, 6, 16, 10, 108, 16, 10, 112, 21, 7, 16, 10, 108, 16, 10]
abbrev dktX3_canDo_2 : List UInt8 := dkwX3_canDo_2 ++ dktX3_canDo_3
def dkwX3_canDo_1 : List UInt8 := [54, 7, 21, 7, 21, 6, 163, 0, 159, 21, 6, 27, 28, 29, 184, 0, 118, 153, 0, 148, 21, 6, 16, 100]
abbrev dktX3_canDo_1 : List UInt8 := dkwX3_canDo_1 ++ dktX3_canDo_2
def dkwX3_canDo_0 : List UInt8 := [42, 180, 0, 26, 27, 100, 28, 100, 29, 100, 54, 5, 3, 54, 6, 21, 6, 17, 3, 232, 162, 0, 175, 3]
abbrev dktX3_canDo_0 : List UInt8 := dkwX3_canDo_0 ++ dktX3_canDo_1
theorem dksX3_canDo_0 : cX3_canDo.data.toList.drop 0 = dktX3_canDo_0 := by decide +kernel
theorem dksX3_canDo_1 : cX3_canDo.data.toList.drop 24 = dktX3_canDo_1 := dk_seg dksX3_canDo_0 24 rfl rfl
theorem dksX3_canDo_2 : cX3_canDo.data.toList.drop 48 = dktX3_canDo_2 := dk_seg dksX3_canDo_1 24 rfl rfl
theorem dksX3_canDo_3 : cX3_canDo.data.toList.drop 72 = dktX3_canDo_3 := dk_seg dksX3_canDo_2 24 rfl rfl
theorem dksX3_canDo_4 : cX3_canDo.data.toList.drop 96 = dktX3_canDo_4 := dk_seg dksX3_canDo_3 24 rfl rfl
theorem dksX3_canDo_5 : cX3_canDo.data.toList.drop 120 = dktX3_canDo_5 := dk_seg dksX3_canDo_4 24 rfl rfl
theorem dksX3_canDo_6 : cX3_canDo.data.toList.drop 142 = dktX3_canDo_6 := dk_seg dksX3_canDo_5 22 rfl rfl
theorem dksX3_canDo_7 : cX3_canDo.data.toList.drop 165 = dktX3_canDo_7 := dk_seg dksX3_canDo_6 23 rfl rfl
theorem dksX3_canDo_8 : cX3_canDo.data.toList.drop 189 = dktX3_canDo_8 := dk_seg dksX3_canDo_7 24 rfl rfl
theorem dX3_canDo_0 : decode cX3_canDo 0 = .ok (.aload_n 0, 1) := dk_42 (dk_at dksX3_canDo_0 0 rfl rfl)
theorem dX3_canDo_1 : decode cX3_canDo 1 = .ok (.getfield 26, 3) := dk_180 0 26 (dk_at dksX3_canDo_0 1 rfl rfl)
theorem dX3_canDo_4 : decode cX3_canDo 4 = .ok (.iload_n 1, 1) := dk_27 (dk_at dksX3_canDo_0 4 rfl rfl)
theorem dX3_canDo_5 : decode cX3_canDo 5 = .ok (.isub, 1) := dk_100 (dk_at dksX3_canDo_0 5 rfl rfl)
theorem dX3_canDo_6 : decode cX3_canDo 6 = .ok (.iload_n 2, 1) := dk_28 (dk_at dksX3_canDo_0 6 rfl rfl)
theorem dX3_canDo_7 : decode cX3_canDo 7 = .ok (.isub, 1) := dk_100 (dk_at dksX3_canDo_0 7 rfl rfl)
theorem dX3_canDo_8 : decode cX3_canDo 8 = .ok (.iload_n 3, 1) := dk_29 (dk_at dksX3_canDo_0 8 rfl rfl)
theorem dX3_canDo_9 : decode cX3_canDo 9 = .ok (.isub, 1) := dk_100 (dk_at dksX3_canDo_0 9 rfl rfl)
theorem dX3_canDo_10 : decode cX3_canDo 10 = .ok (.istore 5, 2) := dk_54 5 (dk_at dksX3_canDo_0 10 rfl rfl)
theorem dX3_canDo_12 : decode cX3_canDo 12 = .ok (.iconst 0, 1) := dk_3 (dk_at dksX3_canDo_0 12 rfl rfl)
theorem dX3_canDo_13 : decode cX3_canDo 13 = .ok (.istore 6, 2) := dk_54 6 (dk_at dksX3_canDo_0 13 rfl rfl)
theorem dX3_canDo_15 : decode cX3_canDo 15 = .ok (.iload 6, 2) := dk_21 6 (dk_at dksX3_canDo_0 15 rfl rfl)
theorem dX3_canDo_17 : decode cX3_canDo 17 = .ok (.sipush 1000, 3) := dk_17 3 232 (dk_at dksX3_canDo_0 17 rfl rfl)
theorem dX3_canDo_20 : decode cX3_canDo 20 = .ok (.if_icmp .ge 175, 3) := dk_162 0 175 (dk_at dksX3_canDo_0 20 rfl rfl)
theorem dX3_canDo_23 : decode cX3_canDo 23 = .ok (.iconst 0, 1) := dk_3 (dk_at dksX3_canDo_0 23 rfl rfl)
theorem dX3_canDo_24 : decode cX3_canDo 24 = .ok (.istore 7, 2) := dk_54 7 (dk_at dksX3_canDo_1 0 rfl rfl)
theorem dX3_canDo_26 : decode cX3_canDo 26 = .ok (.iload 7, 2) := dk_21 7 (dk_at dksX3_canDo_1 2 rfl rfl)
theorem dX3_canDo_28 : decode cX3_canDo 28 = .ok (.iload 6, 2) := dk_21 6 (dk_at dksX3_canDo_1 4 rfl rfl)
theorem dX3_canDo_30 : decode cX3_canDo 30 = .ok (.if_icmp .gt 159, 3) := dk_163 0 159 (dk_at dksX3_canDo_1 6 rfl rfl)
theorem dX3_canDo_33 : decode cX3_canDo 33 = .ok (.iload 6, 2) := dk_21 6 (dk_at dksX3_canDo_1 9 rfl rfl)
theorem dX3_canDo_35 : decode cX3_canDo 35 = .ok (.iload_n 1, 1) := dk_27 (dk_at dksX3_canDo_1 11 rfl rfl)
theorem dX3_canDo_36 : decode cX3_canDo 36 = .ok (.iload_n 2, 1) := dk_28 (dk_at dksX3_canDo_1 12 rfl rfl)
theorem dX3_canDo_37 : decode cX3_canDo 37 = .ok (.iload_n 3, 1) := dk_29 (dk_at dksX3_canDo_1 13 rfl rfl)
theorem dX3_canDo_38 : decode cX3_canDo 38 = .ok (.invokestatic 118, 3) := dk_184 0 118 (dk_at dksX3_canDo_1 14 rfl rfl)
theorem dX3_canDo_41 : decode cX3_canDo 41 = .ok (.ifCond .eq 148, 3) := dk_153 0 148 (dk_at dksX3_canDo_1 17 rfl rfl)
theorem dX3_canDo_44 : decode cX3_canDo 44 = .ok (.iload 6, 2) := dk_21 6 (dk_at dksX3_canDo_1 20 rfl rfl)
theorem dX3_canDo_46 : decode cX3_canDo 46 = .ok (.bipush 100, 2) := dk_16 100 (dk_at dksX3_canDo_1 22 rfl rfl)
theorem dX3_canDo_48 : decode cX3_canDo 48 = .ok (.idiv, 1) := dk_108 (dk_at dksX3_canDo_2 0 rfl rfl)
theorem dX3_canDo_49 : decode cX3_canDo 49 = .ok (.iload 7, 2) := dk_21 7 (dk_at dksX3_canDo_2 1 rfl rfl)
theorem dX3_canDo_51 : decode cX3_canDo 51 = .ok (.bipush 100, 2) := dk_16 100 (dk_at dksX3_canDo_2 3 rfl rfl)
theorem dX3_canDo_53 : decode cX3_canDo 53 = .ok (.idiv, 1) := dk_108 (dk_at dksX3_canDo_2 5 rfl rfl)
theorem dX3_canDo_54 : decode cX3_canDo 54 = .ok (.iadd, 1) := dk_96 (dk_at dksX3_canDo_2 6 rfl rfl)
theorem dX3_canDo_55 : decode cX3_canDo 55 = .ok (.istore 8, 2) := dk_54 8 (dk_at dksX3_canDo_2 7 rfl rfl)
theorem dX3_canDo_57 : decode cX3_canDo 57 = .ok (.iload 6, 2) := dk_21 6 (dk_at dksX3_canDo_2 9 rfl rfl)
theorem dX3_canDo_59 : decode cX3_canDo 59 = .ok (.bipush 10, 2) := dk_16 10 (dk_at dksX3_canDo_2 11 rfl rfl)
theorem dX3_canDo_61 : decode cX3_canDo 61 = .ok (.idiv, 1) := dk_108 (dk_at dksX3_canDo_2 13 rfl rfl)
theorem dX3_canDo_62 : decode cX3_canDo 62 = .ok (.bipush 10, 2) := dk_16 10 (dk_at dksX3_canDo_2 14 rfl rfl)
theorem dX3_canDo_64 : decode cX3_canDo 64 = .ok (.irem, 1) := dk_112 (dk_at dksX3_canDo_2 16 rfl rfl)
theorem dX3_canDo_65 : decode cX3_canDo 65 = .ok (.iload 7, 2) := dk_21 7 (dk_at dksX3_canDo_2 17 rfl rfl)
theorem dX3_canDo_67 : decode cX3_canDo 67 = .ok (.bipush 10, 2) := dk_16 10 (dk_at dksX3_canDo_2 19 rfl rfl)
theorem dX3_canDo_69 : decode cX3_canDo 69 = .ok (.idiv, 1) := dk_108 (dk_at dksX3_canDo_2 21 rfl rfl)
theorem dX3_canDo_70 : decode cX3_canDo 70 = .ok (.bipush 10, 2) := dk_16 10 (dk_at dksX3_canDo_2 22 rfl rfl)
theorem dX3_canDo_72 : decode cX3_canDo 72 = .ok (.irem, 1) := dk_112 (dk_at dksX3_canDo_3 0 rfl rfl)
theorem dX3_canDo_73 : decode cX3_canDo 73 = .ok (.iadd, 1) := dk_96 (dk_at dksX3_canDo_3 1 rfl rfl)
theorem dX3_canDo_74 : decode cX3_canDo 74 = .ok (.istore 9, 2) := dk_54 9 (dk_at dksX3_canDo_3 2 rfl rfl)
theorem dX3_canDo_76 : decode cX3_canDo 76 = .ok (.iload 6, 2) := dk_21 6 (dk_at dksX3_canDo_3 4 rfl rfl)
theorem dX3_canDo_78 : decode cX3_canDo 78 = .ok (.bipush 10, 2) := dk_16 10 (dk_at dksX3_canDo_3 6 rfl rfl)
theorem dX3_canDo_80 : decode cX3_canDo 80 = .ok (.irem, 1) := dk_112 (dk_at dksX3_canDo_3 8 rfl rfl)
theorem dX3_canDo_81 : decode cX3_canDo 81 = .ok (.iload 7, 2) := dk_21 7 (dk_at dksX3_canDo_3 9 rfl rfl)
theorem dX3_canDo_83 : decode cX3_canDo 83 = .ok (.bipush 10, 2) := dk_16 10 (dk_at dksX3_canDo_3 11 rfl rfl)
theorem dX3_canDo_85 : decode cX3_canDo 85 = .ok (.irem, 1) := dk_112 (dk_at dksX3_canDo_3 13 rfl rfl)
theorem dX3_canDo_86 : decode cX3_canDo 86 = .ok (.iadd, 1) := dk_96 (dk_at dksX3_canDo_3 14 rfl rfl)
theorem dX3_canDo_87 : decode cX3_canDo 87 = .ok (.istore 10, 2) := dk_54 10 (dk_at dksX3_canDo_3 15 rfl rfl)
theorem dX3_canDo_89 : decode cX3_canDo 89 = .ok (.iload 6, 2) := dk_21 6 (dk_at dksX3_canDo_3 17 rfl rfl)
theorem dX3_canDo_91 : decode cX3_canDo 91 = .ok (.invokestatic 122, 3) := dk_184 0 122 (dk_at dksX3_canDo_3 19 rfl rfl)
theorem dX3_canDo_94 : decode cX3_canDo 94 = .ok (.iload 7, 2) := dk_21 7 (dk_at dksX3_canDo_3 22 rfl rfl)
theorem dX3_canDo_96 : decode cX3_canDo 96 = .ok (.invokestatic 122, 3) := dk_184 0 122 (dk_at dksX3_canDo_4 0 rfl rfl)
theorem dX3_canDo_99 : decode cX3_canDo 99 = .ok (.isub, 1) := dk_100 (dk_at dksX3_canDo_4 3 rfl rfl)
theorem dX3_canDo_100 : decode cX3_canDo 100 = .ok (.istore 11, 2) := dk_54 11 (dk_at dksX3_canDo_4 4 rfl rfl)
theorem dX3_canDo_102 : decode cX3_canDo 102 = .ok (.iload 8, 2) := dk_21 8 (dk_at dksX3_canDo_4 6 rfl rfl)
theorem dX3_canDo_104 : decode cX3_canDo 104 = .ok (.iload_n 1, 1) := dk_27 (dk_at dksX3_canDo_4 8 rfl rfl)
theorem dX3_canDo_105 : decode cX3_canDo 105 = .ok (.if_icmp .gt 48, 3) := dk_163 0 48 (dk_at dksX3_canDo_4 9 rfl rfl)
theorem dX3_canDo_108 : decode cX3_canDo 108 = .ok (.iload 9, 2) := dk_21 9 (dk_at dksX3_canDo_4 12 rfl rfl)
theorem dX3_canDo_110 : decode cX3_canDo 110 = .ok (.iload_n 2, 1) := dk_28 (dk_at dksX3_canDo_4 14 rfl rfl)
theorem dX3_canDo_111 : decode cX3_canDo 111 = .ok (.if_icmp .gt 42, 3) := dk_163 0 42 (dk_at dksX3_canDo_4 15 rfl rfl)
theorem dX3_canDo_114 : decode cX3_canDo 114 = .ok (.iload 10, 2) := dk_21 10 (dk_at dksX3_canDo_4 18 rfl rfl)
theorem dX3_canDo_116 : decode cX3_canDo 116 = .ok (.iload_n 3, 1) := dk_29 (dk_at dksX3_canDo_4 20 rfl rfl)
theorem dX3_canDo_117 : decode cX3_canDo 117 = .ok (.if_icmp .gt 36, 3) := dk_163 0 36 (dk_at dksX3_canDo_4 21 rfl rfl)
theorem dX3_canDo_120 : decode cX3_canDo 120 = .ok (.iload 11, 2) := dk_21 11 (dk_at dksX3_canDo_5 0 rfl rfl)
theorem dX3_canDo_122 : decode cX3_canDo 122 = .ok (.iload 5, 2) := dk_21 5 (dk_at dksX3_canDo_5 2 rfl rfl)
theorem dX3_canDo_124 : decode cX3_canDo 124 = .ok (.if_icmp .gt 29, 3) := dk_163 0 29 (dk_at dksX3_canDo_5 4 rfl rfl)
theorem dX3_canDo_127 : decode cX3_canDo 127 = .ok (.iload 11, 2) := dk_21 11 (dk_at dksX3_canDo_5 7 rfl rfl)
theorem dX3_canDo_129 : decode cX3_canDo 129 = .ok (.ineg, 1) := dk_116 (dk_at dksX3_canDo_5 9 rfl rfl)
theorem dX3_canDo_130 : decode cX3_canDo 130 = .ok (.iload 5, 2) := dk_21 5 (dk_at dksX3_canDo_5 10 rfl rfl)
theorem dX3_canDo_132 : decode cX3_canDo 132 = .ok (.if_icmp .gt 21, 3) := dk_163 0 21 (dk_at dksX3_canDo_5 12 rfl rfl)
theorem dX3_canDo_135 : decode cX3_canDo 135 = .ok (.iload 6, 2) := dk_21 6 (dk_at dksX3_canDo_5 15 rfl rfl)
theorem dX3_canDo_137 : decode cX3_canDo 137 = .ok (.invokestatic 122, 3) := dk_184 0 122 (dk_at dksX3_canDo_5 17 rfl rfl)
theorem dX3_canDo_140 : decode cX3_canDo 140 = .ok (.iload 7, 2) := dk_21 7 (dk_at dksX3_canDo_5 20 rfl rfl)
theorem dX3_canDo_142 : decode cX3_canDo 142 = .ok (.invokestatic 122, 3) := dk_184 0 122 (dk_at dksX3_canDo_6 0 rfl rfl)
theorem dX3_canDo_145 : decode cX3_canDo 145 = .ok (.iadd, 1) := dk_96 (dk_at dksX3_canDo_6 3 rfl rfl)
theorem dX3_canDo_146 : decode cX3_canDo 146 = .ok (.ifCond .le 7, 3) := dk_158 0 7 (dk_at dksX3_canDo_6 4 rfl rfl)
theorem dX3_canDo_149 : decode cX3_canDo 149 = .ok (.iconst 1, 1) := dk_4 (dk_at dksX3_canDo_6 7 rfl rfl)
theorem dX3_canDo_150 : decode cX3_canDo 150 = .ok (.goto 4, 3) := dk_167 0 4 (dk_at dksX3_canDo_6 8 rfl rfl)
theorem dX3_canDo_153 : decode cX3_canDo 153 = .ok (.iconst 0, 1) := dk_3 (dk_at dksX3_canDo_6 11 rfl rfl)
theorem dX3_canDo_154 : decode cX3_canDo 154 = .ok (.istore 12, 2) := dk_54 12 (dk_at dksX3_canDo_6 12 rfl rfl)
theorem dX3_canDo_156 : decode cX3_canDo 156 = .ok (.iload 12, 2) := dk_21 12 (dk_at dksX3_canDo_6 14 rfl rfl)
theorem dX3_canDo_158 : decode cX3_canDo 158 = .ok (.ifCond .eq 25, 3) := dk_153 0 25 (dk_at dksX3_canDo_6 16 rfl rfl)
theorem dX3_canDo_161 : decode cX3_canDo 161 = .ok (.aload_n 0, 1) := dk_42 (dk_at dksX3_canDo_6 19 rfl rfl)
theorem dX3_canDo_162 : decode cX3_canDo 162 = .ok (.iload_n 1, 1) := dk_27 (dk_at dksX3_canDo_6 20 rfl rfl)
theorem dX3_canDo_163 : decode cX3_canDo 163 = .ok (.iload_n 2, 1) := dk_28 (dk_at dksX3_canDo_6 21 rfl rfl)
theorem dX3_canDo_164 : decode cX3_canDo 164 = .ok (.iload_n 3, 1) := dk_29 (dk_at dksX3_canDo_6 22 rfl rfl)
theorem dX3_canDo_165 : decode cX3_canDo 165 = .ok (.iload 6, 2) := dk_21 6 (dk_at dksX3_canDo_7 0 rfl rfl)
theorem dX3_canDo_167 : decode cX3_canDo 167 = .ok (.iload 7, 2) := dk_21 7 (dk_at dksX3_canDo_7 2 rfl rfl)
theorem dX3_canDo_169 : decode cX3_canDo 169 = .ok (.invokevirtual 125, 3) := dk_182 0 125 (dk_at dksX3_canDo_7 4 rfl rfl)
theorem dX3_canDo_172 : decode cX3_canDo 172 = .ok (.aload_n 0, 1) := dk_42 (dk_at dksX3_canDo_7 7 rfl rfl)
theorem dX3_canDo_173 : decode cX3_canDo 173 = .ok (.invokevirtual 129, 3) := dk_182 0 129 (dk_at dksX3_canDo_7 8 rfl rfl)
theorem dX3_canDo_176 : decode cX3_canDo 176 = .ok (.iload 4, 2) := dk_21 4 (dk_at dksX3_canDo_7 11 rfl rfl)
theorem dX3_canDo_178 : decode cX3_canDo 178 = .ok (.if_icmp .ge 5, 3) := dk_162 0 5 (dk_at dksX3_canDo_7 13 rfl rfl)
theorem dX3_canDo_181 : decode cX3_canDo 181 = .ok (.iconst 1, 1) := dk_4 (dk_at dksX3_canDo_7 16 rfl rfl)
theorem dX3_canDo_182 : decode cX3_canDo 182 = .ok (.ireturn, 1) := dk_172 (dk_at dksX3_canDo_7 17 rfl rfl)
theorem dX3_canDo_183 : decode cX3_canDo 183 = .ok (.iinc 7 1, 3) := dk_132 7 1 (dk_at dksX3_canDo_7 18 rfl rfl)
theorem dX3_canDo_186 : decode cX3_canDo 186 = .ok (.goto (-160), 3) := dk_167 255 96 (dk_at dksX3_canDo_7 21 rfl rfl)
theorem dX3_canDo_189 : decode cX3_canDo 189 = .ok (.iinc 6 1, 3) := dk_132 6 1 (dk_at dksX3_canDo_8 0 rfl rfl)
theorem dX3_canDo_192 : decode cX3_canDo 192 = .ok (.goto (-177), 3) := dk_167 255 79 (dk_at dksX3_canDo_8 3 rfl rfl)
theorem dX3_canDo_195 : decode cX3_canDo 195 = .ok (.iconst 0, 1) := dk_3 (dk_at dksX3_canDo_8 6 rfl rfl)
theorem dX3_canDo_196 : decode cX3_canDo 196 = .ok (.ireturn, 1) := dk_172 (dk_at dksX3_canDo_8 7 rfl rfl)
abbrev cX3_fits : ByteArray := prog_5_method_40_code
def yX3_fits : MethodName := ⟨RX3, "fits", "(IIII)Z"⟩
def dkwX3_fits_1 : List UInt8 := [163, 0, 7, 4, 167, 0, 4, 3, 172]
abbrev dktX3_fits_1 : List UInt8 := dkwX3_fits_1 ++ []
def dkwX3_fits_0 : List UInt8 := [26, 16, 100, 108, 27, 163, 0, 26, 26, 16, 10, 108, 16, 10, 112, 28, 163, 0, 15, 26, 16, 10, 112, 29]
abbrev dktX3_fits_0 : List UInt8 := dkwX3_fits_0 ++ dktX3_fits_1
theorem dksX3_fits_0 : cX3_fits.data.toList.drop 0 = dktX3_fits_0 := by decide +kernel
theorem dksX3_fits_1 : cX3_fits.data.toList.drop 24 = dktX3_fits_1 := dk_seg dksX3_fits_0 24 rfl rfl
theorem dX3_fits_0 : decode cX3_fits 0 = .ok (.iload_n 0, 1) := dk_26 (dk_at dksX3_fits_0 0 rfl rfl)
theorem dX3_fits_1 : decode cX3_fits 1 = .ok (.bipush 100, 2) := dk_16 100 (dk_at dksX3_fits_0 1 rfl rfl)
theorem dX3_fits_3 : decode cX3_fits 3 = .ok (.idiv, 1) := dk_108 (dk_at dksX3_fits_0 3 rfl rfl)
theorem dX3_fits_4 : decode cX3_fits 4 = .ok (.iload_n 1, 1) := dk_27 (dk_at dksX3_fits_0 4 rfl rfl)
theorem dX3_fits_5 : decode cX3_fits 5 = .ok (.if_icmp .gt 26, 3) := dk_163 0 26 (dk_at dksX3_fits_0 5 rfl rfl)
theorem dX3_fits_8 : decode cX3_fits 8 = .ok (.iload_n 0, 1) := dk_26 (dk_at dksX3_fits_0 8 rfl rfl)
theorem dX3_fits_9 : decode cX3_fits 9 = .ok (.bipush 10, 2) := dk_16 10 (dk_at dksX3_fits_0 9 rfl rfl)
theorem dX3_fits_11 : decode cX3_fits 11 = .ok (.idiv, 1) := dk_108 (dk_at dksX3_fits_0 11 rfl rfl)
theorem dX3_fits_12 : decode cX3_fits 12 = .ok (.bipush 10, 2) := dk_16 10 (dk_at dksX3_fits_0 12 rfl rfl)
theorem dX3_fits_14 : decode cX3_fits 14 = .ok (.irem, 1) := dk_112 (dk_at dksX3_fits_0 14 rfl rfl)
theorem dX3_fits_15 : decode cX3_fits 15 = .ok (.iload_n 2, 1) := dk_28 (dk_at dksX3_fits_0 15 rfl rfl)
theorem dX3_fits_16 : decode cX3_fits 16 = .ok (.if_icmp .gt 15, 3) := dk_163 0 15 (dk_at dksX3_fits_0 16 rfl rfl)
theorem dX3_fits_19 : decode cX3_fits 19 = .ok (.iload_n 0, 1) := dk_26 (dk_at dksX3_fits_0 19 rfl rfl)
theorem dX3_fits_20 : decode cX3_fits 20 = .ok (.bipush 10, 2) := dk_16 10 (dk_at dksX3_fits_0 20 rfl rfl)
theorem dX3_fits_22 : decode cX3_fits 22 = .ok (.irem, 1) := dk_112 (dk_at dksX3_fits_0 22 rfl rfl)
theorem dX3_fits_23 : decode cX3_fits 23 = .ok (.iload_n 3, 1) := dk_29 (dk_at dksX3_fits_0 23 rfl rfl)
theorem dX3_fits_24 : decode cX3_fits 24 = .ok (.if_icmp .gt 7, 3) := dk_163 0 7 (dk_at dksX3_fits_1 0 rfl rfl)
theorem dX3_fits_27 : decode cX3_fits 27 = .ok (.iconst 1, 1) := dk_4 (dk_at dksX3_fits_1 3 rfl rfl)
theorem dX3_fits_28 : decode cX3_fits 28 = .ok (.goto 4, 3) := dk_167 0 4 (dk_at dksX3_fits_1 4 rfl rfl)
theorem dX3_fits_31 : decode cX3_fits 31 = .ok (.iconst 0, 1) := dk_3 (dk_at dksX3_fits_1 7 rfl rfl)
theorem dX3_fits_32 : decode cX3_fits 32 = .ok (.ireturn, 1) := dk_172 (dk_at dksX3_fits_1 8 rfl rfl)
abbrev cX3_sum : ByteArray := prog_5_method_39_code
def yX3_sum : MethodName := ⟨RX3, "sum", "(I)I"⟩
def dkwX3_sum_0 : List UInt8 := [26, 16, 100, 108, 26, 16, 10, 108, 16, 10, 112, 96, 26, 16, 10, 112, 96, 172]
abbrev dktX3_sum_0 : List UInt8 := dkwX3_sum_0 ++ []
theorem dksX3_sum_0 : cX3_sum.data.toList.drop 0 = dktX3_sum_0 := by decide +kernel
theorem dX3_sum_0 : decode cX3_sum 0 = .ok (.iload_n 0, 1) := dk_26 (dk_at dksX3_sum_0 0 rfl rfl)
theorem dX3_sum_1 : decode cX3_sum 1 = .ok (.bipush 100, 2) := dk_16 100 (dk_at dksX3_sum_0 1 rfl rfl)
theorem dX3_sum_3 : decode cX3_sum 3 = .ok (.idiv, 1) := dk_108 (dk_at dksX3_sum_0 3 rfl rfl)
theorem dX3_sum_4 : decode cX3_sum 4 = .ok (.iload_n 0, 1) := dk_26 (dk_at dksX3_sum_0 4 rfl rfl)
theorem dX3_sum_5 : decode cX3_sum 5 = .ok (.bipush 10, 2) := dk_16 10 (dk_at dksX3_sum_0 5 rfl rfl)
theorem dX3_sum_7 : decode cX3_sum 7 = .ok (.idiv, 1) := dk_108 (dk_at dksX3_sum_0 7 rfl rfl)
theorem dX3_sum_8 : decode cX3_sum 8 = .ok (.bipush 10, 2) := dk_16 10 (dk_at dksX3_sum_0 8 rfl rfl)
theorem dX3_sum_10 : decode cX3_sum 10 = .ok (.irem, 1) := dk_112 (dk_at dksX3_sum_0 10 rfl rfl)
theorem dX3_sum_11 : decode cX3_sum 11 = .ok (.iadd, 1) := dk_96 (dk_at dksX3_sum_0 11 rfl rfl)
theorem dX3_sum_12 : decode cX3_sum 12 = .ok (.iload_n 0, 1) := dk_26 (dk_at dksX3_sum_0 12 rfl rfl)
theorem dX3_sum_13 : decode cX3_sum 13 = .ok (.bipush 10, 2) := dk_16 10 (dk_at dksX3_sum_0 13 rfl rfl)
theorem dX3_sum_15 : decode cX3_sum 15 = .ok (.irem, 1) := dk_112 (dk_at dksX3_sum_0 15 rfl rfl)
theorem dX3_sum_16 : decode cX3_sum 16 = .ok (.iadd, 1) := dk_96 (dk_at dksX3_sum_0 16 rfl rfl)
theorem dX3_sum_17 : decode cX3_sum 17 = .ok (.ireturn, 1) := dk_172 (dk_at dksX3_sum_0 17 rfl rfl)
abbrev cX3_split : ByteArray := prog_5_method_38_code
def yX3_split : MethodName := ⟨RX3, "split", "(IIIII)V"⟩
def dkwX3_split_6 : List UInt8 := [21, 11, 96, 79, 177]
abbrev dktX3_split_6 : List UInt8 := dkwX3_split_6 ++ []
def dkwX3_split_5 : List UInt8 := [180, 0, 36, 5, 3, 79, 42, 180, 0, 39, 5, 21, 6, 21, 7, 96, 79, 42, 180, 0, 42, 5, 21, 9]
abbrev dktX3_split_5 : List UInt8 := dkwX3_split_5 ++ dktX3_split_6
def dkwX3_split_4 : List UInt8 := [28, 21, 7, 100, 21, 10, 100, 79, 42, 180, 0, 42, 4, 29, 21, 8, 100, 21, 11, 100, 79, 42]
abbrev dktX3_split_4 : List UInt8 := dkwX3_split_4 ++ dktX3_split_5
def dkwX3_split_3 : List UInt8 := [21, 6, 21, 8, 96, 79, 42, 180, 0, 36, 4, 27, 21, 6, 100, 21, 9, 100, 79, 42, 180, 0, 39, 4]
abbrev dktX3_split_3 : List UInt8 := dkwX3_split_3 ++ dktX3_split_4
def dkwX3_split_2 : List UInt8 := [42, 180, 0, 36, 3, 3, 79, 42, 180, 0, 39, 3, 21, 9, 21, 10, 96, 79, 42, 180, 0, 42, 3]
abbrev dktX3_split_2 : List UInt8 := dkwX3_split_2 ++ dktX3_split_3
def dkwX3_split_1 : List UInt8 := [21, 5, 16, 100, 108, 54, 9, 21, 5, 16, 10, 108, 16, 10, 112, 54, 10, 21, 5, 16, 10, 112, 54, 11]
abbrev dktX3_split_1 : List UInt8 := dkwX3_split_1 ++ dktX3_split_2
def dkwX3_split_0 : List UInt8 := [21, 4, 16, 100, 108, 54, 6, 21, 4, 16, 10, 108, 16, 10, 112, 54, 7, 21, 4, 16, 10, 112, 54, 8]
abbrev dktX3_split_0 : List UInt8 := dkwX3_split_0 ++ dktX3_split_1
theorem dksX3_split_0 : cX3_split.data.toList.drop 0 = dktX3_split_0 := by decide +kernel
theorem dksX3_split_1 : cX3_split.data.toList.drop 24 = dktX3_split_1 := dk_seg dksX3_split_0 24 rfl rfl
theorem dksX3_split_2 : cX3_split.data.toList.drop 48 = dktX3_split_2 := dk_seg dksX3_split_1 24 rfl rfl
theorem dksX3_split_3 : cX3_split.data.toList.drop 71 = dktX3_split_3 := dk_seg dksX3_split_2 23 rfl rfl
theorem dksX3_split_4 : cX3_split.data.toList.drop 95 = dktX3_split_4 := dk_seg dksX3_split_3 24 rfl rfl
theorem dksX3_split_5 : cX3_split.data.toList.drop 117 = dktX3_split_5 := dk_seg dksX3_split_4 22 rfl rfl
theorem dksX3_split_6 : cX3_split.data.toList.drop 141 = dktX3_split_6 := dk_seg dksX3_split_5 24 rfl rfl
theorem dX3_split_0 : decode cX3_split 0 = .ok (.iload 4, 2) := dk_21 4 (dk_at dksX3_split_0 0 rfl rfl)
theorem dX3_split_2 : decode cX3_split 2 = .ok (.bipush 100, 2) := dk_16 100 (dk_at dksX3_split_0 2 rfl rfl)
theorem dX3_split_4 : decode cX3_split 4 = .ok (.idiv, 1) := dk_108 (dk_at dksX3_split_0 4 rfl rfl)
theorem dX3_split_5 : decode cX3_split 5 = .ok (.istore 6, 2) := dk_54 6 (dk_at dksX3_split_0 5 rfl rfl)
theorem dX3_split_7 : decode cX3_split 7 = .ok (.iload 4, 2) := dk_21 4 (dk_at dksX3_split_0 7 rfl rfl)
theorem dX3_split_9 : decode cX3_split 9 = .ok (.bipush 10, 2) := dk_16 10 (dk_at dksX3_split_0 9 rfl rfl)
theorem dX3_split_11 : decode cX3_split 11 = .ok (.idiv, 1) := dk_108 (dk_at dksX3_split_0 11 rfl rfl)
theorem dX3_split_12 : decode cX3_split 12 = .ok (.bipush 10, 2) := dk_16 10 (dk_at dksX3_split_0 12 rfl rfl)
theorem dX3_split_14 : decode cX3_split 14 = .ok (.irem, 1) := dk_112 (dk_at dksX3_split_0 14 rfl rfl)
theorem dX3_split_15 : decode cX3_split 15 = .ok (.istore 7, 2) := dk_54 7 (dk_at dksX3_split_0 15 rfl rfl)
theorem dX3_split_17 : decode cX3_split 17 = .ok (.iload 4, 2) := dk_21 4 (dk_at dksX3_split_0 17 rfl rfl)
theorem dX3_split_19 : decode cX3_split 19 = .ok (.bipush 10, 2) := dk_16 10 (dk_at dksX3_split_0 19 rfl rfl)
theorem dX3_split_21 : decode cX3_split 21 = .ok (.irem, 1) := dk_112 (dk_at dksX3_split_0 21 rfl rfl)
theorem dX3_split_22 : decode cX3_split 22 = .ok (.istore 8, 2) := dk_54 8 (dk_at dksX3_split_0 22 rfl rfl)
theorem dX3_split_24 : decode cX3_split 24 = .ok (.iload 5, 2) := dk_21 5 (dk_at dksX3_split_1 0 rfl rfl)
theorem dX3_split_26 : decode cX3_split 26 = .ok (.bipush 100, 2) := dk_16 100 (dk_at dksX3_split_1 2 rfl rfl)
theorem dX3_split_28 : decode cX3_split 28 = .ok (.idiv, 1) := dk_108 (dk_at dksX3_split_1 4 rfl rfl)
theorem dX3_split_29 : decode cX3_split 29 = .ok (.istore 9, 2) := dk_54 9 (dk_at dksX3_split_1 5 rfl rfl)
theorem dX3_split_31 : decode cX3_split 31 = .ok (.iload 5, 2) := dk_21 5 (dk_at dksX3_split_1 7 rfl rfl)
theorem dX3_split_33 : decode cX3_split 33 = .ok (.bipush 10, 2) := dk_16 10 (dk_at dksX3_split_1 9 rfl rfl)
theorem dX3_split_35 : decode cX3_split 35 = .ok (.idiv, 1) := dk_108 (dk_at dksX3_split_1 11 rfl rfl)
theorem dX3_split_36 : decode cX3_split 36 = .ok (.bipush 10, 2) := dk_16 10 (dk_at dksX3_split_1 12 rfl rfl)
theorem dX3_split_38 : decode cX3_split 38 = .ok (.irem, 1) := dk_112 (dk_at dksX3_split_1 14 rfl rfl)
theorem dX3_split_39 : decode cX3_split 39 = .ok (.istore 10, 2) := dk_54 10 (dk_at dksX3_split_1 15 rfl rfl)
theorem dX3_split_41 : decode cX3_split 41 = .ok (.iload 5, 2) := dk_21 5 (dk_at dksX3_split_1 17 rfl rfl)
theorem dX3_split_43 : decode cX3_split 43 = .ok (.bipush 10, 2) := dk_16 10 (dk_at dksX3_split_1 19 rfl rfl)
theorem dX3_split_45 : decode cX3_split 45 = .ok (.irem, 1) := dk_112 (dk_at dksX3_split_1 21 rfl rfl)
theorem dX3_split_46 : decode cX3_split 46 = .ok (.istore 11, 2) := dk_54 11 (dk_at dksX3_split_1 22 rfl rfl)
theorem dX3_split_48 : decode cX3_split 48 = .ok (.aload_n 0, 1) := dk_42 (dk_at dksX3_split_2 0 rfl rfl)
theorem dX3_split_49 : decode cX3_split 49 = .ok (.getfield 36, 3) := dk_180 0 36 (dk_at dksX3_split_2 1 rfl rfl)
theorem dX3_split_52 : decode cX3_split 52 = .ok (.iconst 0, 1) := dk_3 (dk_at dksX3_split_2 4 rfl rfl)
theorem dX3_split_53 : decode cX3_split 53 = .ok (.iconst 0, 1) := dk_3 (dk_at dksX3_split_2 5 rfl rfl)
theorem dX3_split_54 : decode cX3_split 54 = .ok (.iastore, 1) := dk_79 (dk_at dksX3_split_2 6 rfl rfl)
theorem dX3_split_55 : decode cX3_split 55 = .ok (.aload_n 0, 1) := dk_42 (dk_at dksX3_split_2 7 rfl rfl)
theorem dX3_split_56 : decode cX3_split 56 = .ok (.getfield 39, 3) := dk_180 0 39 (dk_at dksX3_split_2 8 rfl rfl)
theorem dX3_split_59 : decode cX3_split 59 = .ok (.iconst 0, 1) := dk_3 (dk_at dksX3_split_2 11 rfl rfl)
theorem dX3_split_60 : decode cX3_split 60 = .ok (.iload 9, 2) := dk_21 9 (dk_at dksX3_split_2 12 rfl rfl)
theorem dX3_split_62 : decode cX3_split 62 = .ok (.iload 10, 2) := dk_21 10 (dk_at dksX3_split_2 14 rfl rfl)
theorem dX3_split_64 : decode cX3_split 64 = .ok (.iadd, 1) := dk_96 (dk_at dksX3_split_2 16 rfl rfl)
theorem dX3_split_65 : decode cX3_split 65 = .ok (.iastore, 1) := dk_79 (dk_at dksX3_split_2 17 rfl rfl)
theorem dX3_split_66 : decode cX3_split 66 = .ok (.aload_n 0, 1) := dk_42 (dk_at dksX3_split_2 18 rfl rfl)
theorem dX3_split_67 : decode cX3_split 67 = .ok (.getfield 42, 3) := dk_180 0 42 (dk_at dksX3_split_2 19 rfl rfl)
theorem dX3_split_70 : decode cX3_split 70 = .ok (.iconst 0, 1) := dk_3 (dk_at dksX3_split_2 22 rfl rfl)
theorem dX3_split_71 : decode cX3_split 71 = .ok (.iload 6, 2) := dk_21 6 (dk_at dksX3_split_3 0 rfl rfl)
theorem dX3_split_73 : decode cX3_split 73 = .ok (.iload 8, 2) := dk_21 8 (dk_at dksX3_split_3 2 rfl rfl)
theorem dX3_split_75 : decode cX3_split 75 = .ok (.iadd, 1) := dk_96 (dk_at dksX3_split_3 4 rfl rfl)
theorem dX3_split_76 : decode cX3_split 76 = .ok (.iastore, 1) := dk_79 (dk_at dksX3_split_3 5 rfl rfl)
theorem dX3_split_77 : decode cX3_split 77 = .ok (.aload_n 0, 1) := dk_42 (dk_at dksX3_split_3 6 rfl rfl)
theorem dX3_split_78 : decode cX3_split 78 = .ok (.getfield 36, 3) := dk_180 0 36 (dk_at dksX3_split_3 7 rfl rfl)
theorem dX3_split_81 : decode cX3_split 81 = .ok (.iconst 1, 1) := dk_4 (dk_at dksX3_split_3 10 rfl rfl)
theorem dX3_split_82 : decode cX3_split 82 = .ok (.iload_n 1, 1) := dk_27 (dk_at dksX3_split_3 11 rfl rfl)
theorem dX3_split_83 : decode cX3_split 83 = .ok (.iload 6, 2) := dk_21 6 (dk_at dksX3_split_3 12 rfl rfl)
theorem dX3_split_85 : decode cX3_split 85 = .ok (.isub, 1) := dk_100 (dk_at dksX3_split_3 14 rfl rfl)
theorem dX3_split_86 : decode cX3_split 86 = .ok (.iload 9, 2) := dk_21 9 (dk_at dksX3_split_3 15 rfl rfl)
theorem dX3_split_88 : decode cX3_split 88 = .ok (.isub, 1) := dk_100 (dk_at dksX3_split_3 17 rfl rfl)
theorem dX3_split_89 : decode cX3_split 89 = .ok (.iastore, 1) := dk_79 (dk_at dksX3_split_3 18 rfl rfl)
theorem dX3_split_90 : decode cX3_split 90 = .ok (.aload_n 0, 1) := dk_42 (dk_at dksX3_split_3 19 rfl rfl)
theorem dX3_split_91 : decode cX3_split 91 = .ok (.getfield 39, 3) := dk_180 0 39 (dk_at dksX3_split_3 20 rfl rfl)
theorem dX3_split_94 : decode cX3_split 94 = .ok (.iconst 1, 1) := dk_4 (dk_at dksX3_split_3 23 rfl rfl)
theorem dX3_split_95 : decode cX3_split 95 = .ok (.iload_n 2, 1) := dk_28 (dk_at dksX3_split_4 0 rfl rfl)
theorem dX3_split_96 : decode cX3_split 96 = .ok (.iload 7, 2) := dk_21 7 (dk_at dksX3_split_4 1 rfl rfl)
theorem dX3_split_98 : decode cX3_split 98 = .ok (.isub, 1) := dk_100 (dk_at dksX3_split_4 3 rfl rfl)
theorem dX3_split_99 : decode cX3_split 99 = .ok (.iload 10, 2) := dk_21 10 (dk_at dksX3_split_4 4 rfl rfl)
theorem dX3_split_101 : decode cX3_split 101 = .ok (.isub, 1) := dk_100 (dk_at dksX3_split_4 6 rfl rfl)
theorem dX3_split_102 : decode cX3_split 102 = .ok (.iastore, 1) := dk_79 (dk_at dksX3_split_4 7 rfl rfl)
theorem dX3_split_103 : decode cX3_split 103 = .ok (.aload_n 0, 1) := dk_42 (dk_at dksX3_split_4 8 rfl rfl)
theorem dX3_split_104 : decode cX3_split 104 = .ok (.getfield 42, 3) := dk_180 0 42 (dk_at dksX3_split_4 9 rfl rfl)
theorem dX3_split_107 : decode cX3_split 107 = .ok (.iconst 1, 1) := dk_4 (dk_at dksX3_split_4 12 rfl rfl)
theorem dX3_split_108 : decode cX3_split 108 = .ok (.iload_n 3, 1) := dk_29 (dk_at dksX3_split_4 13 rfl rfl)
theorem dX3_split_109 : decode cX3_split 109 = .ok (.iload 8, 2) := dk_21 8 (dk_at dksX3_split_4 14 rfl rfl)
theorem dX3_split_111 : decode cX3_split 111 = .ok (.isub, 1) := dk_100 (dk_at dksX3_split_4 16 rfl rfl)
theorem dX3_split_112 : decode cX3_split 112 = .ok (.iload 11, 2) := dk_21 11 (dk_at dksX3_split_4 17 rfl rfl)
theorem dX3_split_114 : decode cX3_split 114 = .ok (.isub, 1) := dk_100 (dk_at dksX3_split_4 19 rfl rfl)
theorem dX3_split_115 : decode cX3_split 115 = .ok (.iastore, 1) := dk_79 (dk_at dksX3_split_4 20 rfl rfl)
theorem dX3_split_116 : decode cX3_split 116 = .ok (.aload_n 0, 1) := dk_42 (dk_at dksX3_split_4 21 rfl rfl)
theorem dX3_split_117 : decode cX3_split 117 = .ok (.getfield 36, 3) := dk_180 0 36 (dk_at dksX3_split_5 0 rfl rfl)
theorem dX3_split_120 : decode cX3_split 120 = .ok (.iconst 2, 1) := dk_5 (dk_at dksX3_split_5 3 rfl rfl)
theorem dX3_split_121 : decode cX3_split 121 = .ok (.iconst 0, 1) := dk_3 (dk_at dksX3_split_5 4 rfl rfl)
theorem dX3_split_122 : decode cX3_split 122 = .ok (.iastore, 1) := dk_79 (dk_at dksX3_split_5 5 rfl rfl)
theorem dX3_split_123 : decode cX3_split 123 = .ok (.aload_n 0, 1) := dk_42 (dk_at dksX3_split_5 6 rfl rfl)
theorem dX3_split_124 : decode cX3_split 124 = .ok (.getfield 39, 3) := dk_180 0 39 (dk_at dksX3_split_5 7 rfl rfl)
theorem dX3_split_127 : decode cX3_split 127 = .ok (.iconst 2, 1) := dk_5 (dk_at dksX3_split_5 10 rfl rfl)
theorem dX3_split_128 : decode cX3_split 128 = .ok (.iload 6, 2) := dk_21 6 (dk_at dksX3_split_5 11 rfl rfl)
theorem dX3_split_130 : decode cX3_split 130 = .ok (.iload 7, 2) := dk_21 7 (dk_at dksX3_split_5 13 rfl rfl)
theorem dX3_split_132 : decode cX3_split 132 = .ok (.iadd, 1) := dk_96 (dk_at dksX3_split_5 15 rfl rfl)
theorem dX3_split_133 : decode cX3_split 133 = .ok (.iastore, 1) := dk_79 (dk_at dksX3_split_5 16 rfl rfl)
theorem dX3_split_134 : decode cX3_split 134 = .ok (.aload_n 0, 1) := dk_42 (dk_at dksX3_split_5 17 rfl rfl)
theorem dX3_split_135 : decode cX3_split 135 = .ok (.getfield 42, 3) := dk_180 0 42 (dk_at dksX3_split_5 18 rfl rfl)
theorem dX3_split_138 : decode cX3_split 138 = .ok (.iconst 2, 1) := dk_5 (dk_at dksX3_split_5 21 rfl rfl)
theorem dX3_split_139 : decode cX3_split 139 = .ok (.iload 9, 2) := dk_21 9 (dk_at dksX3_split_5 22 rfl rfl)
theorem dX3_split_141 : decode cX3_split 141 = .ok (.iload 11, 2) := dk_21 11 (dk_at dksX3_split_6 0 rfl rfl)
theorem dX3_split_143 : decode cX3_split 143 = .ok (.iadd, 1) := dk_96 (dk_at dksX3_split_6 2 rfl rfl)
theorem dX3_split_144 : decode cX3_split 144 = .ok (.iastore, 1) := dk_79 (dk_at dksX3_split_6 3 rfl rfl)
theorem dX3_split_145 : decode cX3_split 145 = .ok (.return_, 1) := dk_177 (dk_at dksX3_split_6 4 rfl rfl)
abbrev cX3_worst : ByteArray := prog_5_method_37_code
def yX3_worst : MethodName := ⟨RX3, "worst", "()I"⟩
def dkwX3_worst_1 : List UInt8 := [60, 42, 5, 182, 0, 115, 27, 164, 0, 11, 42, 5, 182, 0, 115, 167, 0, 4, 27, 172]
abbrev dktX3_worst_1 : List UInt8 := dkwX3_worst_1 ++ []
def dkwX3_worst_0 : List UInt8 := [42, 3, 182, 0, 115, 60, 42, 4, 182, 0, 115, 27, 164, 0, 11, 42, 4, 182, 0, 115, 167, 0, 4, 27]
abbrev dktX3_worst_0 : List UInt8 := dkwX3_worst_0 ++ dktX3_worst_1
theorem dksX3_worst_0 : cX3_worst.data.toList.drop 0 = dktX3_worst_0 := by decide +kernel
theorem dksX3_worst_1 : cX3_worst.data.toList.drop 24 = dktX3_worst_1 := dk_seg dksX3_worst_0 24 rfl rfl
theorem dX3_worst_0 : decode cX3_worst 0 = .ok (.aload_n 0, 1) := dk_42 (dk_at dksX3_worst_0 0 rfl rfl)
theorem dX3_worst_1 : decode cX3_worst 1 = .ok (.iconst 0, 1) := dk_3 (dk_at dksX3_worst_0 1 rfl rfl)
theorem dX3_worst_2 : decode cX3_worst 2 = .ok (.invokevirtual 115, 3) := dk_182 0 115 (dk_at dksX3_worst_0 2 rfl rfl)
theorem dX3_worst_5 : decode cX3_worst 5 = .ok (.istore_n 1, 1) := dk_60 (dk_at dksX3_worst_0 5 rfl rfl)
theorem dX3_worst_6 : decode cX3_worst 6 = .ok (.aload_n 0, 1) := dk_42 (dk_at dksX3_worst_0 6 rfl rfl)
theorem dX3_worst_7 : decode cX3_worst 7 = .ok (.iconst 1, 1) := dk_4 (dk_at dksX3_worst_0 7 rfl rfl)
theorem dX3_worst_8 : decode cX3_worst 8 = .ok (.invokevirtual 115, 3) := dk_182 0 115 (dk_at dksX3_worst_0 8 rfl rfl)
theorem dX3_worst_11 : decode cX3_worst 11 = .ok (.iload_n 1, 1) := dk_27 (dk_at dksX3_worst_0 11 rfl rfl)
theorem dX3_worst_12 : decode cX3_worst 12 = .ok (.if_icmp .le 11, 3) := dk_164 0 11 (dk_at dksX3_worst_0 12 rfl rfl)
theorem dX3_worst_15 : decode cX3_worst 15 = .ok (.aload_n 0, 1) := dk_42 (dk_at dksX3_worst_0 15 rfl rfl)
theorem dX3_worst_16 : decode cX3_worst 16 = .ok (.iconst 1, 1) := dk_4 (dk_at dksX3_worst_0 16 rfl rfl)
theorem dX3_worst_17 : decode cX3_worst 17 = .ok (.invokevirtual 115, 3) := dk_182 0 115 (dk_at dksX3_worst_0 17 rfl rfl)
theorem dX3_worst_20 : decode cX3_worst 20 = .ok (.goto 4, 3) := dk_167 0 4 (dk_at dksX3_worst_0 20 rfl rfl)
theorem dX3_worst_23 : decode cX3_worst 23 = .ok (.iload_n 1, 1) := dk_27 (dk_at dksX3_worst_0 23 rfl rfl)
theorem dX3_worst_24 : decode cX3_worst 24 = .ok (.istore_n 1, 1) := dk_60 (dk_at dksX3_worst_1 0 rfl rfl)
theorem dX3_worst_25 : decode cX3_worst 25 = .ok (.aload_n 0, 1) := dk_42 (dk_at dksX3_worst_1 1 rfl rfl)
theorem dX3_worst_26 : decode cX3_worst 26 = .ok (.iconst 2, 1) := dk_5 (dk_at dksX3_worst_1 2 rfl rfl)
theorem dX3_worst_27 : decode cX3_worst 27 = .ok (.invokevirtual 115, 3) := dk_182 0 115 (dk_at dksX3_worst_1 3 rfl rfl)
theorem dX3_worst_30 : decode cX3_worst 30 = .ok (.iload_n 1, 1) := dk_27 (dk_at dksX3_worst_1 6 rfl rfl)
theorem dX3_worst_31 : decode cX3_worst 31 = .ok (.if_icmp .le 11, 3) := dk_164 0 11 (dk_at dksX3_worst_1 7 rfl rfl)
theorem dX3_worst_34 : decode cX3_worst 34 = .ok (.aload_n 0, 1) := dk_42 (dk_at dksX3_worst_1 10 rfl rfl)
theorem dX3_worst_35 : decode cX3_worst 35 = .ok (.iconst 2, 1) := dk_5 (dk_at dksX3_worst_1 11 rfl rfl)
theorem dX3_worst_36 : decode cX3_worst 36 = .ok (.invokevirtual 115, 3) := dk_182 0 115 (dk_at dksX3_worst_1 12 rfl rfl)
theorem dX3_worst_39 : decode cX3_worst 39 = .ok (.goto 4, 3) := dk_167 0 4 (dk_at dksX3_worst_1 15 rfl rfl)
theorem dX3_worst_42 : decode cX3_worst 42 = .ok (.iload_n 1, 1) := dk_27 (dk_at dksX3_worst_1 18 rfl rfl)
theorem dX3_worst_43 : decode cX3_worst 43 = .ok (.ireturn, 1) := dk_172 (dk_at dksX3_worst_1 19 rfl rfl)
abbrev cX3_needOf : ByteArray := prog_5_method_36_code
def yX3_needOf : MethodName := ⟨RX3, "needOf", "(I)I"⟩
def dkwX3_needOf_1 : List UInt8 := [180, 0, 39, 27, 46, 42, 180, 0, 42, 27, 46, 184, 0, 111, 46, 172]
abbrev dktX3_needOf_1 : List UInt8 := dkwX3_needOf_1 ++ []
def dkwX3_needOf_0 : List UInt8 := [42, 27, 182, 0, 108, 154, 0, 7, 3, 167, 0, 29, 42, 180, 0, 33, 42, 180, 0, 36, 27, 46, 42]
abbrev dktX3_needOf_0 : List UInt8 := dkwX3_needOf_0 ++ dktX3_needOf_1
theorem dksX3_needOf_0 : cX3_needOf.data.toList.drop 0 = dktX3_needOf_0 := by decide +kernel
theorem dksX3_needOf_1 : cX3_needOf.data.toList.drop 23 = dktX3_needOf_1 := dk_seg dksX3_needOf_0 23 rfl rfl
theorem dX3_needOf_0 : decode cX3_needOf 0 = .ok (.aload_n 0, 1) := dk_42 (dk_at dksX3_needOf_0 0 rfl rfl)
theorem dX3_needOf_1 : decode cX3_needOf 1 = .ok (.iload_n 1, 1) := dk_27 (dk_at dksX3_needOf_0 1 rfl rfl)
theorem dX3_needOf_2 : decode cX3_needOf 2 = .ok (.invokevirtual 108, 3) := dk_182 0 108 (dk_at dksX3_needOf_0 2 rfl rfl)
theorem dX3_needOf_5 : decode cX3_needOf 5 = .ok (.ifCond .ne 7, 3) := dk_154 0 7 (dk_at dksX3_needOf_0 5 rfl rfl)
theorem dX3_needOf_8 : decode cX3_needOf 8 = .ok (.iconst 0, 1) := dk_3 (dk_at dksX3_needOf_0 8 rfl rfl)
theorem dX3_needOf_9 : decode cX3_needOf 9 = .ok (.goto 29, 3) := dk_167 0 29 (dk_at dksX3_needOf_0 9 rfl rfl)
theorem dX3_needOf_12 : decode cX3_needOf 12 = .ok (.aload_n 0, 1) := dk_42 (dk_at dksX3_needOf_0 12 rfl rfl)
theorem dX3_needOf_13 : decode cX3_needOf 13 = .ok (.getfield 33, 3) := dk_180 0 33 (dk_at dksX3_needOf_0 13 rfl rfl)
theorem dX3_needOf_16 : decode cX3_needOf 16 = .ok (.aload_n 0, 1) := dk_42 (dk_at dksX3_needOf_0 16 rfl rfl)
theorem dX3_needOf_17 : decode cX3_needOf 17 = .ok (.getfield 36, 3) := dk_180 0 36 (dk_at dksX3_needOf_0 17 rfl rfl)
theorem dX3_needOf_20 : decode cX3_needOf 20 = .ok (.iload_n 1, 1) := dk_27 (dk_at dksX3_needOf_0 20 rfl rfl)
theorem dX3_needOf_21 : decode cX3_needOf 21 = .ok (.iaload, 1) := dk_46 (dk_at dksX3_needOf_0 21 rfl rfl)
theorem dX3_needOf_22 : decode cX3_needOf 22 = .ok (.aload_n 0, 1) := dk_42 (dk_at dksX3_needOf_0 22 rfl rfl)
theorem dX3_needOf_23 : decode cX3_needOf 23 = .ok (.getfield 39, 3) := dk_180 0 39 (dk_at dksX3_needOf_1 0 rfl rfl)
theorem dX3_needOf_26 : decode cX3_needOf 26 = .ok (.iload_n 1, 1) := dk_27 (dk_at dksX3_needOf_1 3 rfl rfl)
theorem dX3_needOf_27 : decode cX3_needOf 27 = .ok (.iaload, 1) := dk_46 (dk_at dksX3_needOf_1 4 rfl rfl)
theorem dX3_needOf_28 : decode cX3_needOf 28 = .ok (.aload_n 0, 1) := dk_42 (dk_at dksX3_needOf_1 5 rfl rfl)
theorem dX3_needOf_29 : decode cX3_needOf 29 = .ok (.getfield 42, 3) := dk_180 0 42 (dk_at dksX3_needOf_1 6 rfl rfl)
theorem dX3_needOf_32 : decode cX3_needOf 32 = .ok (.iload_n 1, 1) := dk_27 (dk_at dksX3_needOf_1 9 rfl rfl)
theorem dX3_needOf_33 : decode cX3_needOf 33 = .ok (.iaload, 1) := dk_46 (dk_at dksX3_needOf_1 10 rfl rfl)
theorem dX3_needOf_34 : decode cX3_needOf 34 = .ok (.invokestatic 111, 3) := dk_184 0 111 (dk_at dksX3_needOf_1 11 rfl rfl)
theorem dX3_needOf_37 : decode cX3_needOf 37 = .ok (.iaload, 1) := dk_46 (dk_at dksX3_needOf_1 14 rfl rfl)
theorem dX3_needOf_38 : decode cX3_needOf 38 = .ok (.ireturn, 1) := dk_172 (dk_at dksX3_needOf_1 15 rfl rfl)
abbrev cX3_pairsOf : ByteArray := prog_5_method_35_code
def yX3_pairsOf : MethodName := ⟨RX3, "pairsOf", "(I)I"⟩
def dkwX3_pairsOf_0 : List UInt8 := [5, 42, 180, 0, 36, 27, 46, 104, 42, 180, 0, 39, 27, 46, 96, 42, 180, 0, 42, 27, 46, 96, 172]
abbrev dktX3_pairsOf_0 : List UInt8 := dkwX3_pairsOf_0 ++ []
theorem dksX3_pairsOf_0 : cX3_pairsOf.data.toList.drop 0 = dktX3_pairsOf_0 := by decide +kernel
theorem dX3_pairsOf_0 : decode cX3_pairsOf 0 = .ok (.iconst 2, 1) := dk_5 (dk_at dksX3_pairsOf_0 0 rfl rfl)
theorem dX3_pairsOf_1 : decode cX3_pairsOf 1 = .ok (.aload_n 0, 1) := dk_42 (dk_at dksX3_pairsOf_0 1 rfl rfl)
theorem dX3_pairsOf_2 : decode cX3_pairsOf 2 = .ok (.getfield 36, 3) := dk_180 0 36 (dk_at dksX3_pairsOf_0 2 rfl rfl)
theorem dX3_pairsOf_5 : decode cX3_pairsOf 5 = .ok (.iload_n 1, 1) := dk_27 (dk_at dksX3_pairsOf_0 5 rfl rfl)
theorem dX3_pairsOf_6 : decode cX3_pairsOf 6 = .ok (.iaload, 1) := dk_46 (dk_at dksX3_pairsOf_0 6 rfl rfl)
theorem dX3_pairsOf_7 : decode cX3_pairsOf 7 = .ok (.imul, 1) := dk_104 (dk_at dksX3_pairsOf_0 7 rfl rfl)
theorem dX3_pairsOf_8 : decode cX3_pairsOf 8 = .ok (.aload_n 0, 1) := dk_42 (dk_at dksX3_pairsOf_0 8 rfl rfl)
theorem dX3_pairsOf_9 : decode cX3_pairsOf 9 = .ok (.getfield 39, 3) := dk_180 0 39 (dk_at dksX3_pairsOf_0 9 rfl rfl)
theorem dX3_pairsOf_12 : decode cX3_pairsOf 12 = .ok (.iload_n 1, 1) := dk_27 (dk_at dksX3_pairsOf_0 12 rfl rfl)
theorem dX3_pairsOf_13 : decode cX3_pairsOf 13 = .ok (.iaload, 1) := dk_46 (dk_at dksX3_pairsOf_0 13 rfl rfl)
theorem dX3_pairsOf_14 : decode cX3_pairsOf 14 = .ok (.iadd, 1) := dk_96 (dk_at dksX3_pairsOf_0 14 rfl rfl)
theorem dX3_pairsOf_15 : decode cX3_pairsOf 15 = .ok (.aload_n 0, 1) := dk_42 (dk_at dksX3_pairsOf_0 15 rfl rfl)
theorem dX3_pairsOf_16 : decode cX3_pairsOf 16 = .ok (.getfield 42, 3) := dk_180 0 42 (dk_at dksX3_pairsOf_0 16 rfl rfl)
theorem dX3_pairsOf_19 : decode cX3_pairsOf 19 = .ok (.iload_n 1, 1) := dk_27 (dk_at dksX3_pairsOf_0 19 rfl rfl)
theorem dX3_pairsOf_20 : decode cX3_pairsOf 20 = .ok (.iaload, 1) := dk_46 (dk_at dksX3_pairsOf_0 20 rfl rfl)
theorem dX3_pairsOf_21 : decode cX3_pairsOf 21 = .ok (.iadd, 1) := dk_96 (dk_at dksX3_pairsOf_0 21 rfl rfl)
theorem dX3_pairsOf_22 : decode cX3_pairsOf 22 = .ok (.ireturn, 1) := dk_172 (dk_at dksX3_pairsOf_0 22 rfl rfl)
abbrev cX3_thrown : ByteArray := prog_5_method_2_code
def yX3_thrown : MethodName := ⟨RX3, "thrown", "()I"⟩
theorem dX3_thrown_0 : decode cX3_thrown 0 = .ok (.aload_n 0, 1) := by decide +kernel
theorem dX3_thrown_1 : decode cX3_thrown 1 = .ok (.getfield 49, 3) := by decide +kernel
theorem dX3_thrown_4 : decode cX3_thrown 4 = .ok (.ireturn, 1) := by decide +kernel
abbrev cX3_tell : ByteArray := prog_5_method_8_code
def yX3_tell : MethodName := ⟨RX3, "tell", "(II)I"⟩
def dkwX3_tell_3 : List UInt8 := [180, 0, 56, 4, 96, 181, 0, 56, 42, 180, 0, 56, 4, 100, 172]
abbrev dktX3_tell_3 : List UInt8 := dkwX3_tell_3 ++ []
def dkwX3_tell_2 : List UInt8 := [172, 42, 180, 0, 7, 42, 180, 0, 56, 27, 79, 42, 180, 0, 13, 42, 180, 0, 56, 28, 79, 42, 89]
abbrev dktX3_tell_2 : List UInt8 := dkwX3_tell_2 ++ dktX3_tell_3
def dkwX3_tell_1 : List UInt8 := [167, 0, 17, 42, 180, 0, 56, 16, 7, 160, 0, 7, 5, 167, 0, 4, 3, 182, 0, 59, 154, 0, 5, 3]
abbrev dktX3_tell_1 : List UInt8 := dkwX3_tell_1 ++ dktX3_tell_2
def dkwX3_tell_0 : List UInt8 := [42, 27, 4, 17, 1, 244, 184, 0, 52, 153, 0, 13, 28, 3, 16, 9, 184, 0, 52, 154, 0, 7, 4]
abbrev dktX3_tell_0 : List UInt8 := dkwX3_tell_0 ++ dktX3_tell_1
theorem dksX3_tell_0 : cX3_tell.data.toList.drop 0 = dktX3_tell_0 := by decide +kernel
theorem dksX3_tell_1 : cX3_tell.data.toList.drop 23 = dktX3_tell_1 := dk_seg dksX3_tell_0 23 rfl rfl
theorem dksX3_tell_2 : cX3_tell.data.toList.drop 47 = dktX3_tell_2 := dk_seg dksX3_tell_1 24 rfl rfl
theorem dksX3_tell_3 : cX3_tell.data.toList.drop 70 = dktX3_tell_3 := dk_seg dksX3_tell_2 23 rfl rfl
theorem dX3_tell_0 : decode cX3_tell 0 = .ok (.aload_n 0, 1) := dk_42 (dk_at dksX3_tell_0 0 rfl rfl)
theorem dX3_tell_1 : decode cX3_tell 1 = .ok (.iload_n 1, 1) := dk_27 (dk_at dksX3_tell_0 1 rfl rfl)
theorem dX3_tell_2 : decode cX3_tell 2 = .ok (.iconst 1, 1) := dk_4 (dk_at dksX3_tell_0 2 rfl rfl)
theorem dX3_tell_3 : decode cX3_tell 3 = .ok (.sipush 500, 3) := dk_17 1 244 (dk_at dksX3_tell_0 3 rfl rfl)
theorem dX3_tell_6 : decode cX3_tell 6 = .ok (.invokestatic 52, 3) := dk_184 0 52 (dk_at dksX3_tell_0 6 rfl rfl)
theorem dX3_tell_9 : decode cX3_tell 9 = .ok (.ifCond .eq 13, 3) := dk_153 0 13 (dk_at dksX3_tell_0 9 rfl rfl)
theorem dX3_tell_12 : decode cX3_tell 12 = .ok (.iload_n 2, 1) := dk_28 (dk_at dksX3_tell_0 12 rfl rfl)
theorem dX3_tell_13 : decode cX3_tell 13 = .ok (.iconst 0, 1) := dk_3 (dk_at dksX3_tell_0 13 rfl rfl)
theorem dX3_tell_14 : decode cX3_tell 14 = .ok (.bipush 9, 2) := dk_16 9 (dk_at dksX3_tell_0 14 rfl rfl)
theorem dX3_tell_16 : decode cX3_tell 16 = .ok (.invokestatic 52, 3) := dk_184 0 52 (dk_at dksX3_tell_0 16 rfl rfl)
theorem dX3_tell_19 : decode cX3_tell 19 = .ok (.ifCond .ne 7, 3) := dk_154 0 7 (dk_at dksX3_tell_0 19 rfl rfl)
theorem dX3_tell_22 : decode cX3_tell 22 = .ok (.iconst 1, 1) := dk_4 (dk_at dksX3_tell_0 22 rfl rfl)
theorem dX3_tell_23 : decode cX3_tell 23 = .ok (.goto 17, 3) := dk_167 0 17 (dk_at dksX3_tell_1 0 rfl rfl)
theorem dX3_tell_26 : decode cX3_tell 26 = .ok (.aload_n 0, 1) := dk_42 (dk_at dksX3_tell_1 3 rfl rfl)
theorem dX3_tell_27 : decode cX3_tell 27 = .ok (.getfield 56, 3) := dk_180 0 56 (dk_at dksX3_tell_1 4 rfl rfl)
theorem dX3_tell_30 : decode cX3_tell 30 = .ok (.bipush 7, 2) := dk_16 7 (dk_at dksX3_tell_1 7 rfl rfl)
theorem dX3_tell_32 : decode cX3_tell 32 = .ok (.if_icmp .ne 7, 3) := dk_160 0 7 (dk_at dksX3_tell_1 9 rfl rfl)
theorem dX3_tell_35 : decode cX3_tell 35 = .ok (.iconst 2, 1) := dk_5 (dk_at dksX3_tell_1 12 rfl rfl)
theorem dX3_tell_36 : decode cX3_tell 36 = .ok (.goto 4, 3) := dk_167 0 4 (dk_at dksX3_tell_1 13 rfl rfl)
theorem dX3_tell_39 : decode cX3_tell 39 = .ok (.iconst 0, 1) := dk_3 (dk_at dksX3_tell_1 16 rfl rfl)
theorem dX3_tell_40 : decode cX3_tell 40 = .ok (.invokevirtual 59, 3) := dk_182 0 59 (dk_at dksX3_tell_1 17 rfl rfl)
theorem dX3_tell_43 : decode cX3_tell 43 = .ok (.ifCond .ne 5, 3) := dk_154 0 5 (dk_at dksX3_tell_1 20 rfl rfl)
theorem dX3_tell_46 : decode cX3_tell 46 = .ok (.iconst 0, 1) := dk_3 (dk_at dksX3_tell_1 23 rfl rfl)
theorem dX3_tell_47 : decode cX3_tell 47 = .ok (.ireturn, 1) := dk_172 (dk_at dksX3_tell_2 0 rfl rfl)
theorem dX3_tell_48 : decode cX3_tell 48 = .ok (.aload_n 0, 1) := dk_42 (dk_at dksX3_tell_2 1 rfl rfl)
theorem dX3_tell_49 : decode cX3_tell 49 = .ok (.getfield 7, 3) := dk_180 0 7 (dk_at dksX3_tell_2 2 rfl rfl)
theorem dX3_tell_52 : decode cX3_tell 52 = .ok (.aload_n 0, 1) := dk_42 (dk_at dksX3_tell_2 5 rfl rfl)
theorem dX3_tell_53 : decode cX3_tell 53 = .ok (.getfield 56, 3) := dk_180 0 56 (dk_at dksX3_tell_2 6 rfl rfl)
theorem dX3_tell_56 : decode cX3_tell 56 = .ok (.iload_n 1, 1) := dk_27 (dk_at dksX3_tell_2 9 rfl rfl)
theorem dX3_tell_57 : decode cX3_tell 57 = .ok (.iastore, 1) := dk_79 (dk_at dksX3_tell_2 10 rfl rfl)
theorem dX3_tell_58 : decode cX3_tell 58 = .ok (.aload_n 0, 1) := dk_42 (dk_at dksX3_tell_2 11 rfl rfl)
theorem dX3_tell_59 : decode cX3_tell 59 = .ok (.getfield 13, 3) := dk_180 0 13 (dk_at dksX3_tell_2 12 rfl rfl)
theorem dX3_tell_62 : decode cX3_tell 62 = .ok (.aload_n 0, 1) := dk_42 (dk_at dksX3_tell_2 15 rfl rfl)
theorem dX3_tell_63 : decode cX3_tell 63 = .ok (.getfield 56, 3) := dk_180 0 56 (dk_at dksX3_tell_2 16 rfl rfl)
theorem dX3_tell_66 : decode cX3_tell 66 = .ok (.iload_n 2, 1) := dk_28 (dk_at dksX3_tell_2 19 rfl rfl)
theorem dX3_tell_67 : decode cX3_tell 67 = .ok (.iastore, 1) := dk_79 (dk_at dksX3_tell_2 20 rfl rfl)
theorem dX3_tell_68 : decode cX3_tell 68 = .ok (.aload_n 0, 1) := dk_42 (dk_at dksX3_tell_2 21 rfl rfl)
theorem dX3_tell_69 : decode cX3_tell 69 = .ok (.dup, 1) := dk_89 (dk_at dksX3_tell_2 22 rfl rfl)
theorem dX3_tell_70 : decode cX3_tell 70 = .ok (.getfield 56, 3) := dk_180 0 56 (dk_at dksX3_tell_3 0 rfl rfl)
theorem dX3_tell_73 : decode cX3_tell 73 = .ok (.iconst 1, 1) := dk_4 (dk_at dksX3_tell_3 3 rfl rfl)
theorem dX3_tell_74 : decode cX3_tell 74 = .ok (.iadd, 1) := dk_96 (dk_at dksX3_tell_3 4 rfl rfl)
theorem dX3_tell_75 : decode cX3_tell 75 = .ok (.putfield 56, 3) := dk_181 0 56 (dk_at dksX3_tell_3 5 rfl rfl)
theorem dX3_tell_78 : decode cX3_tell 78 = .ok (.aload_n 0, 1) := dk_42 (dk_at dksX3_tell_3 8 rfl rfl)
theorem dX3_tell_79 : decode cX3_tell 79 = .ok (.getfield 56, 3) := dk_180 0 56 (dk_at dksX3_tell_3 9 rfl rfl)
theorem dX3_tell_82 : decode cX3_tell 82 = .ok (.iconst 1, 1) := dk_4 (dk_at dksX3_tell_3 12 rfl rfl)
theorem dX3_tell_83 : decode cX3_tell 83 = .ok (.isub, 1) := dk_100 (dk_at dksX3_tell_3 13 rfl rfl)
theorem dX3_tell_84 : decode cX3_tell 84 = .ok (.ireturn, 1) := dk_172 (dk_at dksX3_tell_3 14 rfl rfl)
abbrev cX3_in : ByteArray := prog_5_method_4_code
def yX3_in : MethodName := ⟨RX3, "in", "(III)Z"⟩
def dkwX3_in_0 : List UInt8 := [26, 27, 161, 0, 12, 26, 28, 163, 0, 7, 4, 167, 0, 4, 3, 172]
abbrev dktX3_in_0 : List UInt8 := dkwX3_in_0 ++ []
theorem dksX3_in_0 : cX3_in.data.toList.drop 0 = dktX3_in_0 := by decide +kernel
theorem dX3_in_0 : decode cX3_in 0 = .ok (.iload_n 0, 1) := dk_26 (dk_at dksX3_in_0 0 rfl rfl)
theorem dX3_in_1 : decode cX3_in 1 = .ok (.iload_n 1, 1) := dk_27 (dk_at dksX3_in_0 1 rfl rfl)
theorem dX3_in_2 : decode cX3_in 2 = .ok (.if_icmp .lt 12, 3) := dk_161 0 12 (dk_at dksX3_in_0 2 rfl rfl)
theorem dX3_in_5 : decode cX3_in 5 = .ok (.iload_n 0, 1) := dk_26 (dk_at dksX3_in_0 5 rfl rfl)
theorem dX3_in_6 : decode cX3_in 6 = .ok (.iload_n 2, 1) := dk_28 (dk_at dksX3_in_0 6 rfl rfl)
theorem dX3_in_7 : decode cX3_in 7 = .ok (.if_icmp .gt 7, 3) := dk_163 0 7 (dk_at dksX3_in_0 7 rfl rfl)
theorem dX3_in_10 : decode cX3_in 10 = .ok (.iconst 1, 1) := dk_4 (dk_at dksX3_in_0 10 rfl rfl)
theorem dX3_in_11 : decode cX3_in 11 = .ok (.goto 4, 3) := dk_167 0 4 (dk_at dksX3_in_0 11 rfl rfl)
theorem dX3_in_14 : decode cX3_in 14 = .ok (.iconst 0, 1) := dk_3 (dk_at dksX3_in_0 14 rfl rfl)
theorem dX3_in_15 : decode cX3_in 15 = .ok (.ireturn, 1) := dk_172 (dk_at dksX3_in_0 15 rfl rfl)
abbrev cX3_goesWell : ByteArray := prog_5_method_3_code
def yX3_goesWell : MethodName := ⟨RX3, "goesWell", "(I)Z"⟩
def dkwX3_goesWell_0 : List UInt8 := [42, 27, 181, 0, 49, 27, 154, 0, 7, 4, 167, 0, 4, 3, 172]
abbrev dktX3_goesWell_0 : List UInt8 := dkwX3_goesWell_0 ++ []
theorem dksX3_goesWell_0 : cX3_goesWell.data.toList.drop 0 = dktX3_goesWell_0 := by decide +kernel
theorem dX3_goesWell_0 : decode cX3_goesWell 0 = .ok (.aload_n 0, 1) := dk_42 (dk_at dksX3_goesWell_0 0 rfl rfl)
theorem dX3_goesWell_1 : decode cX3_goesWell 1 = .ok (.iload_n 1, 1) := dk_27 (dk_at dksX3_goesWell_0 1 rfl rfl)
theorem dX3_goesWell_2 : decode cX3_goesWell 2 = .ok (.putfield 49, 3) := dk_181 0 49 (dk_at dksX3_goesWell_0 2 rfl rfl)
theorem dX3_goesWell_5 : decode cX3_goesWell 5 = .ok (.iload_n 1, 1) := dk_27 (dk_at dksX3_goesWell_0 5 rfl rfl)
theorem dX3_goesWell_6 : decode cX3_goesWell 6 = .ok (.ifCond .ne 7, 3) := dk_154 0 7 (dk_at dksX3_goesWell_0 6 rfl rfl)
theorem dX3_goesWell_9 : decode cX3_goesWell 9 = .ok (.iconst 1, 1) := dk_4 (dk_at dksX3_goesWell_0 9 rfl rfl)
theorem dX3_goesWell_10 : decode cX3_goesWell 10 = .ok (.goto 4, 3) := dk_167 0 4 (dk_at dksX3_goesWell_0 10 rfl rfl)
theorem dX3_goesWell_13 : decode cX3_goesWell 13 = .ok (.iconst 0, 1) := dk_3 (dk_at dksX3_goesWell_0 13 rfl rfl)
theorem dX3_goesWell_14 : decode cX3_goesWell 14 = .ok (.ireturn, 1) := dk_172 (dk_at dksX3_goesWell_0 14 rfl rfl)
abbrev cX3_takeAway : ByteArray := prog_5_method_9_code
def yX3_takeAway : MethodName := ⟨RX3, "takeAway", "(I)I"⟩
def dkwX3_takeAway_3 : List UInt8 := [132, 2, 1, 167, 255, 217, 42, 180, 0, 56, 172]
abbrev dktX3_takeAway_3 : List UInt8 := dkwX3_takeAway_3 ++ []
def dkwX3_takeAway_2 : List UInt8 := [180, 0, 7, 28, 4, 96, 46, 79, 42, 180, 0, 13, 28, 42, 180, 0, 13, 28, 4, 96, 46, 79]
abbrev dktX3_takeAway_2 : List UInt8 := dkwX3_takeAway_2 ++ dktX3_takeAway_3
def dkwX3_takeAway_1 : List UInt8 := [180, 0, 56, 4, 100, 181, 0, 56, 27, 61, 28, 42, 180, 0, 56, 162, 0, 37, 42, 180, 0, 7, 28, 42]
abbrev dktX3_takeAway_1 : List UInt8 := dkwX3_takeAway_1 ++ dktX3_takeAway_2
def dkwX3_takeAway_0 : List UInt8 := [42, 42, 27, 182, 0, 63, 153, 0, 7, 3, 167, 0, 4, 4, 182, 0, 59, 154, 0, 5, 3, 172, 42, 89]
abbrev dktX3_takeAway_0 : List UInt8 := dkwX3_takeAway_0 ++ dktX3_takeAway_1
theorem dksX3_takeAway_0 : cX3_takeAway.data.toList.drop 0 = dktX3_takeAway_0 := by decide +kernel
theorem dksX3_takeAway_1 : cX3_takeAway.data.toList.drop 24 = dktX3_takeAway_1 := dk_seg dksX3_takeAway_0 24 rfl rfl
theorem dksX3_takeAway_2 : cX3_takeAway.data.toList.drop 48 = dktX3_takeAway_2 := dk_seg dksX3_takeAway_1 24 rfl rfl
theorem dksX3_takeAway_3 : cX3_takeAway.data.toList.drop 70 = dktX3_takeAway_3 := dk_seg dksX3_takeAway_2 22 rfl rfl
theorem dX3_takeAway_0 : decode cX3_takeAway 0 = .ok (.aload_n 0, 1) := dk_42 (dk_at dksX3_takeAway_0 0 rfl rfl)
theorem dX3_takeAway_1 : decode cX3_takeAway 1 = .ok (.aload_n 0, 1) := dk_42 (dk_at dksX3_takeAway_0 1 rfl rfl)
theorem dX3_takeAway_2 : decode cX3_takeAway 2 = .ok (.iload_n 1, 1) := dk_27 (dk_at dksX3_takeAway_0 2 rfl rfl)
theorem dX3_takeAway_3 : decode cX3_takeAway 3 = .ok (.invokevirtual 63, 3) := dk_182 0 63 (dk_at dksX3_takeAway_0 3 rfl rfl)
theorem dX3_takeAway_6 : decode cX3_takeAway 6 = .ok (.ifCond .eq 7, 3) := dk_153 0 7 (dk_at dksX3_takeAway_0 6 rfl rfl)
theorem dX3_takeAway_9 : decode cX3_takeAway 9 = .ok (.iconst 0, 1) := dk_3 (dk_at dksX3_takeAway_0 9 rfl rfl)
theorem dX3_takeAway_10 : decode cX3_takeAway 10 = .ok (.goto 4, 3) := dk_167 0 4 (dk_at dksX3_takeAway_0 10 rfl rfl)
theorem dX3_takeAway_13 : decode cX3_takeAway 13 = .ok (.iconst 1, 1) := dk_4 (dk_at dksX3_takeAway_0 13 rfl rfl)
theorem dX3_takeAway_14 : decode cX3_takeAway 14 = .ok (.invokevirtual 59, 3) := dk_182 0 59 (dk_at dksX3_takeAway_0 14 rfl rfl)
theorem dX3_takeAway_17 : decode cX3_takeAway 17 = .ok (.ifCond .ne 5, 3) := dk_154 0 5 (dk_at dksX3_takeAway_0 17 rfl rfl)
theorem dX3_takeAway_20 : decode cX3_takeAway 20 = .ok (.iconst 0, 1) := dk_3 (dk_at dksX3_takeAway_0 20 rfl rfl)
theorem dX3_takeAway_21 : decode cX3_takeAway 21 = .ok (.ireturn, 1) := dk_172 (dk_at dksX3_takeAway_0 21 rfl rfl)
theorem dX3_takeAway_22 : decode cX3_takeAway 22 = .ok (.aload_n 0, 1) := dk_42 (dk_at dksX3_takeAway_0 22 rfl rfl)
theorem dX3_takeAway_23 : decode cX3_takeAway 23 = .ok (.dup, 1) := dk_89 (dk_at dksX3_takeAway_0 23 rfl rfl)
theorem dX3_takeAway_24 : decode cX3_takeAway 24 = .ok (.getfield 56, 3) := dk_180 0 56 (dk_at dksX3_takeAway_1 0 rfl rfl)
theorem dX3_takeAway_27 : decode cX3_takeAway 27 = .ok (.iconst 1, 1) := dk_4 (dk_at dksX3_takeAway_1 3 rfl rfl)
theorem dX3_takeAway_28 : decode cX3_takeAway 28 = .ok (.isub, 1) := dk_100 (dk_at dksX3_takeAway_1 4 rfl rfl)
theorem dX3_takeAway_29 : decode cX3_takeAway 29 = .ok (.putfield 56, 3) := dk_181 0 56 (dk_at dksX3_takeAway_1 5 rfl rfl)
theorem dX3_takeAway_32 : decode cX3_takeAway 32 = .ok (.iload_n 1, 1) := dk_27 (dk_at dksX3_takeAway_1 8 rfl rfl)
theorem dX3_takeAway_33 : decode cX3_takeAway 33 = .ok (.istore_n 2, 1) := dk_61 (dk_at dksX3_takeAway_1 9 rfl rfl)
theorem dX3_takeAway_34 : decode cX3_takeAway 34 = .ok (.iload_n 2, 1) := dk_28 (dk_at dksX3_takeAway_1 10 rfl rfl)
theorem dX3_takeAway_35 : decode cX3_takeAway 35 = .ok (.aload_n 0, 1) := dk_42 (dk_at dksX3_takeAway_1 11 rfl rfl)
theorem dX3_takeAway_36 : decode cX3_takeAway 36 = .ok (.getfield 56, 3) := dk_180 0 56 (dk_at dksX3_takeAway_1 12 rfl rfl)
theorem dX3_takeAway_39 : decode cX3_takeAway 39 = .ok (.if_icmp .ge 37, 3) := dk_162 0 37 (dk_at dksX3_takeAway_1 15 rfl rfl)
theorem dX3_takeAway_42 : decode cX3_takeAway 42 = .ok (.aload_n 0, 1) := dk_42 (dk_at dksX3_takeAway_1 18 rfl rfl)
theorem dX3_takeAway_43 : decode cX3_takeAway 43 = .ok (.getfield 7, 3) := dk_180 0 7 (dk_at dksX3_takeAway_1 19 rfl rfl)
theorem dX3_takeAway_46 : decode cX3_takeAway 46 = .ok (.iload_n 2, 1) := dk_28 (dk_at dksX3_takeAway_1 22 rfl rfl)
theorem dX3_takeAway_47 : decode cX3_takeAway 47 = .ok (.aload_n 0, 1) := dk_42 (dk_at dksX3_takeAway_1 23 rfl rfl)
theorem dX3_takeAway_48 : decode cX3_takeAway 48 = .ok (.getfield 7, 3) := dk_180 0 7 (dk_at dksX3_takeAway_2 0 rfl rfl)
theorem dX3_takeAway_51 : decode cX3_takeAway 51 = .ok (.iload_n 2, 1) := dk_28 (dk_at dksX3_takeAway_2 3 rfl rfl)
theorem dX3_takeAway_52 : decode cX3_takeAway 52 = .ok (.iconst 1, 1) := dk_4 (dk_at dksX3_takeAway_2 4 rfl rfl)
theorem dX3_takeAway_53 : decode cX3_takeAway 53 = .ok (.iadd, 1) := dk_96 (dk_at dksX3_takeAway_2 5 rfl rfl)
theorem dX3_takeAway_54 : decode cX3_takeAway 54 = .ok (.iaload, 1) := dk_46 (dk_at dksX3_takeAway_2 6 rfl rfl)
theorem dX3_takeAway_55 : decode cX3_takeAway 55 = .ok (.iastore, 1) := dk_79 (dk_at dksX3_takeAway_2 7 rfl rfl)
theorem dX3_takeAway_56 : decode cX3_takeAway 56 = .ok (.aload_n 0, 1) := dk_42 (dk_at dksX3_takeAway_2 8 rfl rfl)
theorem dX3_takeAway_57 : decode cX3_takeAway 57 = .ok (.getfield 13, 3) := dk_180 0 13 (dk_at dksX3_takeAway_2 9 rfl rfl)
theorem dX3_takeAway_60 : decode cX3_takeAway 60 = .ok (.iload_n 2, 1) := dk_28 (dk_at dksX3_takeAway_2 12 rfl rfl)
theorem dX3_takeAway_61 : decode cX3_takeAway 61 = .ok (.aload_n 0, 1) := dk_42 (dk_at dksX3_takeAway_2 13 rfl rfl)
theorem dX3_takeAway_62 : decode cX3_takeAway 62 = .ok (.getfield 13, 3) := dk_180 0 13 (dk_at dksX3_takeAway_2 14 rfl rfl)
theorem dX3_takeAway_65 : decode cX3_takeAway 65 = .ok (.iload_n 2, 1) := dk_28 (dk_at dksX3_takeAway_2 17 rfl rfl)
theorem dX3_takeAway_66 : decode cX3_takeAway 66 = .ok (.iconst 1, 1) := dk_4 (dk_at dksX3_takeAway_2 18 rfl rfl)
theorem dX3_takeAway_67 : decode cX3_takeAway 67 = .ok (.iadd, 1) := dk_96 (dk_at dksX3_takeAway_2 19 rfl rfl)
theorem dX3_takeAway_68 : decode cX3_takeAway 68 = .ok (.iaload, 1) := dk_46 (dk_at dksX3_takeAway_2 20 rfl rfl)
theorem dX3_takeAway_69 : decode cX3_takeAway 69 = .ok (.iastore, 1) := dk_79 (dk_at dksX3_takeAway_2 21 rfl rfl)
theorem dX3_takeAway_70 : decode cX3_takeAway 70 = .ok (.iinc 2 1, 3) := dk_132 2 1 (dk_at dksX3_takeAway_3 0 rfl rfl)
theorem dX3_takeAway_73 : decode cX3_takeAway 73 = .ok (.goto (-39), 3) := dk_167 255 217 (dk_at dksX3_takeAway_3 3 rfl rfl)
theorem dX3_takeAway_76 : decode cX3_takeAway 76 = .ok (.aload_n 0, 1) := dk_42 (dk_at dksX3_takeAway_3 6 rfl rfl)
theorem dX3_takeAway_77 : decode cX3_takeAway 77 = .ok (.getfield 56, 3) := dk_180 0 56 (dk_at dksX3_takeAway_3 7 rfl rfl)
theorem dX3_takeAway_80 : decode cX3_takeAway 80 = .ok (.ireturn, 1) := dk_172 (dk_at dksX3_takeAway_3 10 rfl rfl)
abbrev cX3_isWeight : ByteArray := prog_5_method_6_code
def yX3_isWeight : MethodName := ⟨RX3, "isWeight", "(I)Z"⟩
def dkwX3_isWeight_0 : List UInt8 := [27, 3, 42, 180, 0, 56, 4, 100, 184, 0, 52, 172]
abbrev dktX3_isWeight_0 : List UInt8 := dkwX3_isWeight_0 ++ []
theorem dksX3_isWeight_0 : cX3_isWeight.data.toList.drop 0 = dktX3_isWeight_0 := by decide +kernel
theorem dX3_isWeight_0 : decode cX3_isWeight 0 = .ok (.iload_n 1, 1) := dk_27 (dk_at dksX3_isWeight_0 0 rfl rfl)
theorem dX3_isWeight_1 : decode cX3_isWeight 1 = .ok (.iconst 0, 1) := dk_3 (dk_at dksX3_isWeight_0 1 rfl rfl)
theorem dX3_isWeight_2 : decode cX3_isWeight 2 = .ok (.aload_n 0, 1) := dk_42 (dk_at dksX3_isWeight_0 2 rfl rfl)
theorem dX3_isWeight_3 : decode cX3_isWeight 3 = .ok (.getfield 56, 3) := dk_180 0 56 (dk_at dksX3_isWeight_0 3 rfl rfl)
theorem dX3_isWeight_6 : decode cX3_isWeight 6 = .ok (.iconst 1, 1) := dk_4 (dk_at dksX3_isWeight_0 6 rfl rfl)
theorem dX3_isWeight_7 : decode cX3_isWeight 7 = .ok (.isub, 1) := dk_100 (dk_at dksX3_isWeight_0 7 rfl rfl)
theorem dX3_isWeight_8 : decode cX3_isWeight 8 = .ok (.invokestatic 52, 3) := dk_184 0 52 (dk_at dksX3_isWeight_0 8 rfl rfl)
theorem dX3_isWeight_11 : decode cX3_isWeight 11 = .ok (.ireturn, 1) := dk_172 (dk_at dksX3_isWeight_0 11 rfl rfl)
abbrev cX3_weights : ByteArray := prog_5_method_10_code
def yX3_weights : MethodName := ⟨RX3, "weights", "()I"⟩
def dkwX3_weights_0 : List UInt8 := [42, 3, 181, 0, 49, 42, 180, 0, 56, 172]
abbrev dktX3_weights_0 : List UInt8 := dkwX3_weights_0 ++ []
theorem dksX3_weights_0 : cX3_weights.data.toList.drop 0 = dktX3_weights_0 := by decide +kernel
theorem dX3_weights_0 : decode cX3_weights 0 = .ok (.aload_n 0, 1) := dk_42 (dk_at dksX3_weights_0 0 rfl rfl)
theorem dX3_weights_1 : decode cX3_weights 1 = .ok (.iconst 0, 1) := dk_3 (dk_at dksX3_weights_0 1 rfl rfl)
theorem dX3_weights_2 : decode cX3_weights 2 = .ok (.putfield 49, 3) := dk_181 0 49 (dk_at dksX3_weights_0 2 rfl rfl)
theorem dX3_weights_5 : decode cX3_weights 5 = .ok (.aload_n 0, 1) := dk_42 (dk_at dksX3_weights_0 5 rfl rfl)
theorem dX3_weights_6 : decode cX3_weights 6 = .ok (.getfield 56, 3) := dk_180 0 56 (dk_at dksX3_weights_0 6 rfl rfl)
theorem dX3_weights_9 : decode cX3_weights 9 = .ok (.ireturn, 1) := dk_172 (dk_at dksX3_weights_0 9 rfl rfl)
abbrev cX3_massOf : ByteArray := prog_5_method_11_code
def yX3_massOf : MethodName := ⟨RX3, "massOf", "(I)I"⟩
def dkwX3_massOf_1 : List UInt8 := [27, 46, 167, 0, 4, 3, 172]
abbrev dktX3_massOf_1 : List UInt8 := dkwX3_massOf_1 ++ []
def dkwX3_massOf_0 : List UInt8 := [42, 42, 27, 182, 0, 63, 153, 0, 7, 3, 167, 0, 4, 4, 182, 0, 59, 153, 0, 12, 42, 180, 0, 7]
abbrev dktX3_massOf_0 : List UInt8 := dkwX3_massOf_0 ++ dktX3_massOf_1
theorem dksX3_massOf_0 : cX3_massOf.data.toList.drop 0 = dktX3_massOf_0 := by decide +kernel
theorem dksX3_massOf_1 : cX3_massOf.data.toList.drop 24 = dktX3_massOf_1 := dk_seg dksX3_massOf_0 24 rfl rfl
theorem dX3_massOf_0 : decode cX3_massOf 0 = .ok (.aload_n 0, 1) := dk_42 (dk_at dksX3_massOf_0 0 rfl rfl)
theorem dX3_massOf_1 : decode cX3_massOf 1 = .ok (.aload_n 0, 1) := dk_42 (dk_at dksX3_massOf_0 1 rfl rfl)
theorem dX3_massOf_2 : decode cX3_massOf 2 = .ok (.iload_n 1, 1) := dk_27 (dk_at dksX3_massOf_0 2 rfl rfl)
theorem dX3_massOf_3 : decode cX3_massOf 3 = .ok (.invokevirtual 63, 3) := dk_182 0 63 (dk_at dksX3_massOf_0 3 rfl rfl)
theorem dX3_massOf_6 : decode cX3_massOf 6 = .ok (.ifCond .eq 7, 3) := dk_153 0 7 (dk_at dksX3_massOf_0 6 rfl rfl)
theorem dX3_massOf_9 : decode cX3_massOf 9 = .ok (.iconst 0, 1) := dk_3 (dk_at dksX3_massOf_0 9 rfl rfl)
theorem dX3_massOf_10 : decode cX3_massOf 10 = .ok (.goto 4, 3) := dk_167 0 4 (dk_at dksX3_massOf_0 10 rfl rfl)
theorem dX3_massOf_13 : decode cX3_massOf 13 = .ok (.iconst 1, 1) := dk_4 (dk_at dksX3_massOf_0 13 rfl rfl)
theorem dX3_massOf_14 : decode cX3_massOf 14 = .ok (.invokevirtual 59, 3) := dk_182 0 59 (dk_at dksX3_massOf_0 14 rfl rfl)
theorem dX3_massOf_17 : decode cX3_massOf 17 = .ok (.ifCond .eq 12, 3) := dk_153 0 12 (dk_at dksX3_massOf_0 17 rfl rfl)
theorem dX3_massOf_20 : decode cX3_massOf 20 = .ok (.aload_n 0, 1) := dk_42 (dk_at dksX3_massOf_0 20 rfl rfl)
theorem dX3_massOf_21 : decode cX3_massOf 21 = .ok (.getfield 7, 3) := dk_180 0 7 (dk_at dksX3_massOf_0 21 rfl rfl)
theorem dX3_massOf_24 : decode cX3_massOf 24 = .ok (.iload_n 1, 1) := dk_27 (dk_at dksX3_massOf_1 0 rfl rfl)
theorem dX3_massOf_25 : decode cX3_massOf 25 = .ok (.iaload, 1) := dk_46 (dk_at dksX3_massOf_1 1 rfl rfl)
theorem dX3_massOf_26 : decode cX3_massOf 26 = .ok (.goto 4, 3) := dk_167 0 4 (dk_at dksX3_massOf_1 2 rfl rfl)
theorem dX3_massOf_29 : decode cX3_massOf 29 = .ok (.iconst 0, 1) := dk_3 (dk_at dksX3_massOf_1 5 rfl rfl)
theorem dX3_massOf_30 : decode cX3_massOf 30 = .ok (.ireturn, 1) := dk_172 (dk_at dksX3_massOf_1 6 rfl rfl)
abbrev cX3_canWeigh : ByteArray := prog_5_method_18_code
def yX3_canWeigh : MethodName := ⟨RX3, "canWeigh", "(I)Z"⟩
def dkwX3_canWeigh_1 : List UInt8 := [158, 0, 7, 4, 167, 0, 4, 3, 172]
abbrev dktX3_canWeigh_1 : List UInt8 := dkwX3_canWeigh_1 ++ []
def dkwX3_canWeigh_0 : List UInt8 := [42, 27, 184, 0, 74, 153, 0, 7, 3, 167, 0, 4, 4, 182, 0, 59, 153, 0, 15, 42, 27, 182, 0, 77]
abbrev dktX3_canWeigh_0 : List UInt8 := dkwX3_canWeigh_0 ++ dktX3_canWeigh_1
theorem dksX3_canWeigh_0 : cX3_canWeigh.data.toList.drop 0 = dktX3_canWeigh_0 := by decide +kernel
theorem dksX3_canWeigh_1 : cX3_canWeigh.data.toList.drop 24 = dktX3_canWeigh_1 := dk_seg dksX3_canWeigh_0 24 rfl rfl
theorem dX3_canWeigh_0 : decode cX3_canWeigh 0 = .ok (.aload_n 0, 1) := dk_42 (dk_at dksX3_canWeigh_0 0 rfl rfl)
theorem dX3_canWeigh_1 : decode cX3_canWeigh 1 = .ok (.iload_n 1, 1) := dk_27 (dk_at dksX3_canWeigh_0 1 rfl rfl)
theorem dX3_canWeigh_2 : decode cX3_canWeigh 2 = .ok (.invokestatic 74, 3) := dk_184 0 74 (dk_at dksX3_canWeigh_0 2 rfl rfl)
theorem dX3_canWeigh_5 : decode cX3_canWeigh 5 = .ok (.ifCond .eq 7, 3) := dk_153 0 7 (dk_at dksX3_canWeigh_0 5 rfl rfl)
theorem dX3_canWeigh_8 : decode cX3_canWeigh 8 = .ok (.iconst 0, 1) := dk_3 (dk_at dksX3_canWeigh_0 8 rfl rfl)
theorem dX3_canWeigh_9 : decode cX3_canWeigh 9 = .ok (.goto 4, 3) := dk_167 0 4 (dk_at dksX3_canWeigh_0 9 rfl rfl)
theorem dX3_canWeigh_12 : decode cX3_canWeigh 12 = .ok (.iconst 1, 1) := dk_4 (dk_at dksX3_canWeigh_0 12 rfl rfl)
theorem dX3_canWeigh_13 : decode cX3_canWeigh 13 = .ok (.invokevirtual 59, 3) := dk_182 0 59 (dk_at dksX3_canWeigh_0 13 rfl rfl)
theorem dX3_canWeigh_16 : decode cX3_canWeigh 16 = .ok (.ifCond .eq 15, 3) := dk_153 0 15 (dk_at dksX3_canWeigh_0 16 rfl rfl)
theorem dX3_canWeigh_19 : decode cX3_canWeigh 19 = .ok (.aload_n 0, 1) := dk_42 (dk_at dksX3_canWeigh_0 19 rfl rfl)
theorem dX3_canWeigh_20 : decode cX3_canWeigh 20 = .ok (.iload_n 1, 1) := dk_27 (dk_at dksX3_canWeigh_0 20 rfl rfl)
theorem dX3_canWeigh_21 : decode cX3_canWeigh 21 = .ok (.invokevirtual 77, 3) := dk_182 0 77 (dk_at dksX3_canWeigh_0 21 rfl rfl)
theorem dX3_canWeigh_24 : decode cX3_canWeigh 24 = .ok (.ifCond .le 7, 3) := dk_158 0 7 (dk_at dksX3_canWeigh_1 0 rfl rfl)
theorem dX3_canWeigh_27 : decode cX3_canWeigh 27 = .ok (.iconst 1, 1) := dk_4 (dk_at dksX3_canWeigh_1 3 rfl rfl)
theorem dX3_canWeigh_28 : decode cX3_canWeigh 28 = .ok (.goto 4, 3) := dk_167 0 4 (dk_at dksX3_canWeigh_1 4 rfl rfl)
theorem dX3_canWeigh_31 : decode cX3_canWeigh 31 = .ok (.iconst 0, 1) := dk_3 (dk_at dksX3_canWeigh_1 7 rfl rfl)
theorem dX3_canWeigh_32 : decode cX3_canWeigh 32 = .ok (.ireturn, 1) := dk_172 (dk_at dksX3_canWeigh_1 8 rfl rfl)
abbrev cX3_isMass : ByteArray := prog_5_method_5_code
def yX3_isMass : MethodName := ⟨RX3, "isMass", "(I)Z"⟩
def dkwX3_isMass_0 : List UInt8 := [26, 4, 17, 15, 160, 184, 0, 52, 172]
abbrev dktX3_isMass_0 : List UInt8 := dkwX3_isMass_0 ++ []
theorem dksX3_isMass_0 : cX3_isMass.data.toList.drop 0 = dktX3_isMass_0 := by decide +kernel
theorem dX3_isMass_0 : decode cX3_isMass 0 = .ok (.iload_n 0, 1) := dk_26 (dk_at dksX3_isMass_0 0 rfl rfl)
theorem dX3_isMass_1 : decode cX3_isMass 1 = .ok (.iconst 1, 1) := dk_4 (dk_at dksX3_isMass_0 1 rfl rfl)
theorem dX3_isMass_2 : decode cX3_isMass 2 = .ok (.sipush 4000, 3) := dk_17 15 160 (dk_at dksX3_isMass_0 2 rfl rfl)
theorem dX3_isMass_5 : decode cX3_isMass 5 = .ok (.invokestatic 52, 3) := dk_184 0 52 (dk_at dksX3_isMass_0 5 rfl rfl)
theorem dX3_isMass_8 : decode cX3_isMass 8 = .ok (.ireturn, 1) := dk_172 (dk_at dksX3_isMass_0 8 rfl rfl)
abbrev cX3_count : ByteArray := prog_5_method_17_code
def yX3_count : MethodName := ⟨RX3, "count", "(I)I"⟩
def dkwX3_count_1 : List UInt8 := [167, 0, 4, 3, 96, 61, 132, 3, 1, 167, 255, 228, 28, 172]
abbrev dktX3_count_1 : List UInt8 := dkwX3_count_1 ++ []
def dkwX3_count_0 : List UInt8 := [3, 61, 3, 62, 29, 42, 182, 0, 66, 162, 0, 26, 28, 42, 29, 182, 0, 70, 27, 160, 0, 7, 4]
abbrev dktX3_count_0 : List UInt8 := dkwX3_count_0 ++ dktX3_count_1
theorem dksX3_count_0 : cX3_count.data.toList.drop 0 = dktX3_count_0 := by decide +kernel
theorem dksX3_count_1 : cX3_count.data.toList.drop 23 = dktX3_count_1 := dk_seg dksX3_count_0 23 rfl rfl
theorem dX3_count_0 : decode cX3_count 0 = .ok (.iconst 0, 1) := dk_3 (dk_at dksX3_count_0 0 rfl rfl)
theorem dX3_count_1 : decode cX3_count 1 = .ok (.istore_n 2, 1) := dk_61 (dk_at dksX3_count_0 1 rfl rfl)
theorem dX3_count_2 : decode cX3_count 2 = .ok (.iconst 0, 1) := dk_3 (dk_at dksX3_count_0 2 rfl rfl)
theorem dX3_count_3 : decode cX3_count 3 = .ok (.istore_n 3, 1) := dk_62 (dk_at dksX3_count_0 3 rfl rfl)
theorem dX3_count_4 : decode cX3_count 4 = .ok (.iload_n 3, 1) := dk_29 (dk_at dksX3_count_0 4 rfl rfl)
theorem dX3_count_5 : decode cX3_count 5 = .ok (.aload_n 0, 1) := dk_42 (dk_at dksX3_count_0 5 rfl rfl)
theorem dX3_count_6 : decode cX3_count 6 = .ok (.invokevirtual 66, 3) := dk_182 0 66 (dk_at dksX3_count_0 6 rfl rfl)
theorem dX3_count_9 : decode cX3_count 9 = .ok (.if_icmp .ge 26, 3) := dk_162 0 26 (dk_at dksX3_count_0 9 rfl rfl)
theorem dX3_count_12 : decode cX3_count 12 = .ok (.iload_n 2, 1) := dk_28 (dk_at dksX3_count_0 12 rfl rfl)
theorem dX3_count_13 : decode cX3_count 13 = .ok (.aload_n 0, 1) := dk_42 (dk_at dksX3_count_0 13 rfl rfl)
theorem dX3_count_14 : decode cX3_count 14 = .ok (.iload_n 3, 1) := dk_29 (dk_at dksX3_count_0 14 rfl rfl)
theorem dX3_count_15 : decode cX3_count 15 = .ok (.invokevirtual 70, 3) := dk_182 0 70 (dk_at dksX3_count_0 15 rfl rfl)
theorem dX3_count_18 : decode cX3_count 18 = .ok (.iload_n 1, 1) := dk_27 (dk_at dksX3_count_0 18 rfl rfl)
theorem dX3_count_19 : decode cX3_count 19 = .ok (.if_icmp .ne 7, 3) := dk_160 0 7 (dk_at dksX3_count_0 19 rfl rfl)
theorem dX3_count_22 : decode cX3_count 22 = .ok (.iconst 1, 1) := dk_4 (dk_at dksX3_count_0 22 rfl rfl)
theorem dX3_count_23 : decode cX3_count 23 = .ok (.goto 4, 3) := dk_167 0 4 (dk_at dksX3_count_1 0 rfl rfl)
theorem dX3_count_26 : decode cX3_count 26 = .ok (.iconst 0, 1) := dk_3 (dk_at dksX3_count_1 3 rfl rfl)
theorem dX3_count_27 : decode cX3_count 27 = .ok (.iadd, 1) := dk_96 (dk_at dksX3_count_1 4 rfl rfl)
theorem dX3_count_28 : decode cX3_count 28 = .ok (.istore_n 2, 1) := dk_61 (dk_at dksX3_count_1 5 rfl rfl)
theorem dX3_count_29 : decode cX3_count 29 = .ok (.iinc 3 1, 3) := dk_132 3 1 (dk_at dksX3_count_1 6 rfl rfl)
theorem dX3_count_32 : decode cX3_count 32 = .ok (.goto (-28), 3) := dk_167 255 228 (dk_at dksX3_count_1 9 rfl rfl)
theorem dX3_count_35 : decode cX3_count 35 = .ok (.iload_n 2, 1) := dk_28 (dk_at dksX3_count_1 12 rfl rfl)
theorem dX3_count_36 : decode cX3_count 36 = .ok (.ireturn, 1) := dk_172 (dk_at dksX3_count_1 13 rfl rfl)
abbrev cX3_placings : ByteArray := prog_5_method_12_code
def yX3_placings : MethodName := ⟨RX3, "placings", "()I"⟩
def dkwX3_placings_0 : List UInt8 := [4, 60, 3, 61, 28, 42, 180, 0, 56, 162, 0, 13, 27, 6, 104, 60, 132, 2, 1, 167, 255, 241, 27, 172]
abbrev dktX3_placings_0 : List UInt8 := dkwX3_placings_0 ++ []
theorem dksX3_placings_0 : cX3_placings.data.toList.drop 0 = dktX3_placings_0 := by decide +kernel
theorem dX3_placings_0 : decode cX3_placings 0 = .ok (.iconst 1, 1) := dk_4 (dk_at dksX3_placings_0 0 rfl rfl)
theorem dX3_placings_1 : decode cX3_placings 1 = .ok (.istore_n 1, 1) := dk_60 (dk_at dksX3_placings_0 1 rfl rfl)
theorem dX3_placings_2 : decode cX3_placings 2 = .ok (.iconst 0, 1) := dk_3 (dk_at dksX3_placings_0 2 rfl rfl)
theorem dX3_placings_3 : decode cX3_placings 3 = .ok (.istore_n 2, 1) := dk_61 (dk_at dksX3_placings_0 3 rfl rfl)
theorem dX3_placings_4 : decode cX3_placings 4 = .ok (.iload_n 2, 1) := dk_28 (dk_at dksX3_placings_0 4 rfl rfl)
theorem dX3_placings_5 : decode cX3_placings 5 = .ok (.aload_n 0, 1) := dk_42 (dk_at dksX3_placings_0 5 rfl rfl)
theorem dX3_placings_6 : decode cX3_placings 6 = .ok (.getfield 56, 3) := dk_180 0 56 (dk_at dksX3_placings_0 6 rfl rfl)
theorem dX3_placings_9 : decode cX3_placings 9 = .ok (.if_icmp .ge 13, 3) := dk_162 0 13 (dk_at dksX3_placings_0 9 rfl rfl)
theorem dX3_placings_12 : decode cX3_placings 12 = .ok (.iload_n 1, 1) := dk_27 (dk_at dksX3_placings_0 12 rfl rfl)
theorem dX3_placings_13 : decode cX3_placings 13 = .ok (.iconst 3, 1) := dk_6 (dk_at dksX3_placings_0 13 rfl rfl)
theorem dX3_placings_14 : decode cX3_placings 14 = .ok (.imul, 1) := dk_104 (dk_at dksX3_placings_0 14 rfl rfl)
theorem dX3_placings_15 : decode cX3_placings 15 = .ok (.istore_n 1, 1) := dk_60 (dk_at dksX3_placings_0 15 rfl rfl)
theorem dX3_placings_16 : decode cX3_placings 16 = .ok (.iinc 2 1, 3) := dk_132 2 1 (dk_at dksX3_placings_0 16 rfl rfl)
theorem dX3_placings_19 : decode cX3_placings 19 = .ok (.goto (-15), 3) := dk_167 255 241 (dk_at dksX3_placings_0 19 rfl rfl)
theorem dX3_placings_22 : decode cX3_placings 22 = .ok (.iload_n 1, 1) := dk_27 (dk_at dksX3_placings_0 22 rfl rfl)
theorem dX3_placings_23 : decode cX3_placings 23 = .ok (.ireturn, 1) := dk_172 (dk_at dksX3_placings_0 23 rfl rfl)
abbrev cX3_place : ByteArray := prog_5_method_13_code
def yX3_place : MethodName := ⟨RX3, "place", "(I)I"⟩
def dkwX3_place_2 : List UInt8 := [6, 108, 61, 132, 4, 255, 167, 255, 214, 29, 172]
abbrev dktX3_place_2 : List UInt8 := dkwX3_place_2 ++ []
def dkwX3_place_1 : List UInt8 := [28, 6, 112, 100, 79, 29, 42, 180, 0, 16, 21, 4, 46, 42, 180, 0, 7, 21, 4, 46, 104, 96, 62, 28]
abbrev dktX3_place_1 : List UInt8 := dkwX3_place_1 ++ dktX3_place_2
def dkwX3_place_0 : List UInt8 := [27, 61, 3, 62, 42, 180, 0, 56, 4, 100, 54, 4, 21, 4, 155, 0, 43, 42, 180, 0, 16, 21, 4, 4]
abbrev dktX3_place_0 : List UInt8 := dkwX3_place_0 ++ dktX3_place_1
theorem dksX3_place_0 : cX3_place.data.toList.drop 0 = dktX3_place_0 := by decide +kernel
theorem dksX3_place_1 : cX3_place.data.toList.drop 24 = dktX3_place_1 := dk_seg dksX3_place_0 24 rfl rfl
theorem dksX3_place_2 : cX3_place.data.toList.drop 48 = dktX3_place_2 := dk_seg dksX3_place_1 24 rfl rfl
theorem dX3_place_0 : decode cX3_place 0 = .ok (.iload_n 1, 1) := dk_27 (dk_at dksX3_place_0 0 rfl rfl)
theorem dX3_place_1 : decode cX3_place 1 = .ok (.istore_n 2, 1) := dk_61 (dk_at dksX3_place_0 1 rfl rfl)
theorem dX3_place_2 : decode cX3_place 2 = .ok (.iconst 0, 1) := dk_3 (dk_at dksX3_place_0 2 rfl rfl)
theorem dX3_place_3 : decode cX3_place 3 = .ok (.istore_n 3, 1) := dk_62 (dk_at dksX3_place_0 3 rfl rfl)
theorem dX3_place_4 : decode cX3_place 4 = .ok (.aload_n 0, 1) := dk_42 (dk_at dksX3_place_0 4 rfl rfl)
theorem dX3_place_5 : decode cX3_place 5 = .ok (.getfield 56, 3) := dk_180 0 56 (dk_at dksX3_place_0 5 rfl rfl)
theorem dX3_place_8 : decode cX3_place 8 = .ok (.iconst 1, 1) := dk_4 (dk_at dksX3_place_0 8 rfl rfl)
theorem dX3_place_9 : decode cX3_place 9 = .ok (.isub, 1) := dk_100 (dk_at dksX3_place_0 9 rfl rfl)
theorem dX3_place_10 : decode cX3_place 10 = .ok (.istore 4, 2) := dk_54 4 (dk_at dksX3_place_0 10 rfl rfl)
theorem dX3_place_12 : decode cX3_place 12 = .ok (.iload 4, 2) := dk_21 4 (dk_at dksX3_place_0 12 rfl rfl)
theorem dX3_place_14 : decode cX3_place 14 = .ok (.ifCond .lt 43, 3) := dk_155 0 43 (dk_at dksX3_place_0 14 rfl rfl)
theorem dX3_place_17 : decode cX3_place 17 = .ok (.aload_n 0, 1) := dk_42 (dk_at dksX3_place_0 17 rfl rfl)
theorem dX3_place_18 : decode cX3_place 18 = .ok (.getfield 16, 3) := dk_180 0 16 (dk_at dksX3_place_0 18 rfl rfl)
theorem dX3_place_21 : decode cX3_place 21 = .ok (.iload 4, 2) := dk_21 4 (dk_at dksX3_place_0 21 rfl rfl)
theorem dX3_place_23 : decode cX3_place 23 = .ok (.iconst 1, 1) := dk_4 (dk_at dksX3_place_0 23 rfl rfl)
theorem dX3_place_24 : decode cX3_place 24 = .ok (.iload_n 2, 1) := dk_28 (dk_at dksX3_place_1 0 rfl rfl)
theorem dX3_place_25 : decode cX3_place 25 = .ok (.iconst 3, 1) := dk_6 (dk_at dksX3_place_1 1 rfl rfl)
theorem dX3_place_26 : decode cX3_place 26 = .ok (.irem, 1) := dk_112 (dk_at dksX3_place_1 2 rfl rfl)
theorem dX3_place_27 : decode cX3_place 27 = .ok (.isub, 1) := dk_100 (dk_at dksX3_place_1 3 rfl rfl)
theorem dX3_place_28 : decode cX3_place 28 = .ok (.iastore, 1) := dk_79 (dk_at dksX3_place_1 4 rfl rfl)
theorem dX3_place_29 : decode cX3_place 29 = .ok (.iload_n 3, 1) := dk_29 (dk_at dksX3_place_1 5 rfl rfl)
theorem dX3_place_30 : decode cX3_place 30 = .ok (.aload_n 0, 1) := dk_42 (dk_at dksX3_place_1 6 rfl rfl)
theorem dX3_place_31 : decode cX3_place 31 = .ok (.getfield 16, 3) := dk_180 0 16 (dk_at dksX3_place_1 7 rfl rfl)
theorem dX3_place_34 : decode cX3_place 34 = .ok (.iload 4, 2) := dk_21 4 (dk_at dksX3_place_1 10 rfl rfl)
theorem dX3_place_36 : decode cX3_place 36 = .ok (.iaload, 1) := dk_46 (dk_at dksX3_place_1 12 rfl rfl)
theorem dX3_place_37 : decode cX3_place 37 = .ok (.aload_n 0, 1) := dk_42 (dk_at dksX3_place_1 13 rfl rfl)
theorem dX3_place_38 : decode cX3_place 38 = .ok (.getfield 7, 3) := dk_180 0 7 (dk_at dksX3_place_1 14 rfl rfl)
theorem dX3_place_41 : decode cX3_place 41 = .ok (.iload 4, 2) := dk_21 4 (dk_at dksX3_place_1 17 rfl rfl)
theorem dX3_place_43 : decode cX3_place 43 = .ok (.iaload, 1) := dk_46 (dk_at dksX3_place_1 19 rfl rfl)
theorem dX3_place_44 : decode cX3_place 44 = .ok (.imul, 1) := dk_104 (dk_at dksX3_place_1 20 rfl rfl)
theorem dX3_place_45 : decode cX3_place 45 = .ok (.iadd, 1) := dk_96 (dk_at dksX3_place_1 21 rfl rfl)
theorem dX3_place_46 : decode cX3_place 46 = .ok (.istore_n 3, 1) := dk_62 (dk_at dksX3_place_1 22 rfl rfl)
theorem dX3_place_47 : decode cX3_place 47 = .ok (.iload_n 2, 1) := dk_28 (dk_at dksX3_place_1 23 rfl rfl)
theorem dX3_place_48 : decode cX3_place 48 = .ok (.iconst 3, 1) := dk_6 (dk_at dksX3_place_2 0 rfl rfl)
theorem dX3_place_49 : decode cX3_place 49 = .ok (.idiv, 1) := dk_108 (dk_at dksX3_place_2 1 rfl rfl)
theorem dX3_place_50 : decode cX3_place 50 = .ok (.istore_n 2, 1) := dk_61 (dk_at dksX3_place_2 2 rfl rfl)
theorem dX3_place_51 : decode cX3_place 51 = .ok (.iinc 4 (-1), 3) := dk_132 4 255 (dk_at dksX3_place_2 3 rfl rfl)
theorem dX3_place_54 : decode cX3_place 54 = .ok (.goto (-42), 3) := dk_167 255 214 (dk_at dksX3_place_2 6 rfl rfl)
theorem dX3_place_57 : decode cX3_place 57 = .ok (.iload_n 3, 1) := dk_29 (dk_at dksX3_place_2 9 rfl rfl)
theorem dX3_place_58 : decode cX3_place 58 = .ok (.ireturn, 1) := dk_172 (dk_at dksX3_place_2 10 rfl rfl)
abbrev cX3_canWeighOnOnePan : ByteArray := prog_5_method_19_code
def yX3_canWeighOnOnePan : MethodName := ⟨RX3, "canWeighOnOnePan", "(I)Z"⟩
def dkwX3_canWeighOnOnePan_2 : List UInt8 := [182, 0, 80, 154, 0, 7, 4, 167, 0, 4, 3, 61, 132, 3, 1, 167, 255, 219, 28, 172]
abbrev dktX3_canWeighOnOnePan_2 : List UInt8 := dkwX3_canWeighOnOnePan_2 ++ []
def dkwX3_canWeighOnOnePan_1 : List UInt8 := [62, 29, 42, 182, 0, 66, 162, 0, 35, 28, 154, 0, 19, 42, 29, 182, 0, 70, 27, 160, 0, 14, 42]
abbrev dktX3_canWeighOnOnePan_1 : List UInt8 := dkwX3_canWeighOnOnePan_1 ++ dktX3_canWeighOnOnePan_2
def dkwX3_canWeighOnOnePan_0 : List UInt8 := [42, 27, 184, 0, 74, 153, 0, 7, 3, 167, 0, 4, 4, 182, 0, 59, 154, 0, 5, 3, 172, 3, 61, 3]
abbrev dktX3_canWeighOnOnePan_0 : List UInt8 := dkwX3_canWeighOnOnePan_0 ++ dktX3_canWeighOnOnePan_1
theorem dksX3_canWeighOnOnePan_0 : cX3_canWeighOnOnePan.data.toList.drop 0 = dktX3_canWeighOnOnePan_0 := by decide +kernel
theorem dksX3_canWeighOnOnePan_1 : cX3_canWeighOnOnePan.data.toList.drop 24 = dktX3_canWeighOnOnePan_1 := dk_seg dksX3_canWeighOnOnePan_0 24 rfl rfl
theorem dksX3_canWeighOnOnePan_2 : cX3_canWeighOnOnePan.data.toList.drop 47 = dktX3_canWeighOnOnePan_2 := dk_seg dksX3_canWeighOnOnePan_1 23 rfl rfl
theorem dX3_canWeighOnOnePan_0 : decode cX3_canWeighOnOnePan 0 = .ok (.aload_n 0, 1) := dk_42 (dk_at dksX3_canWeighOnOnePan_0 0 rfl rfl)
theorem dX3_canWeighOnOnePan_1 : decode cX3_canWeighOnOnePan 1 = .ok (.iload_n 1, 1) := dk_27 (dk_at dksX3_canWeighOnOnePan_0 1 rfl rfl)
theorem dX3_canWeighOnOnePan_2 : decode cX3_canWeighOnOnePan 2 = .ok (.invokestatic 74, 3) := dk_184 0 74 (dk_at dksX3_canWeighOnOnePan_0 2 rfl rfl)
theorem dX3_canWeighOnOnePan_5 : decode cX3_canWeighOnOnePan 5 = .ok (.ifCond .eq 7, 3) := dk_153 0 7 (dk_at dksX3_canWeighOnOnePan_0 5 rfl rfl)
theorem dX3_canWeighOnOnePan_8 : decode cX3_canWeighOnOnePan 8 = .ok (.iconst 0, 1) := dk_3 (dk_at dksX3_canWeighOnOnePan_0 8 rfl rfl)
theorem dX3_canWeighOnOnePan_9 : decode cX3_canWeighOnOnePan 9 = .ok (.goto 4, 3) := dk_167 0 4 (dk_at dksX3_canWeighOnOnePan_0 9 rfl rfl)
theorem dX3_canWeighOnOnePan_12 : decode cX3_canWeighOnOnePan 12 = .ok (.iconst 1, 1) := dk_4 (dk_at dksX3_canWeighOnOnePan_0 12 rfl rfl)
theorem dX3_canWeighOnOnePan_13 : decode cX3_canWeighOnOnePan 13 = .ok (.invokevirtual 59, 3) := dk_182 0 59 (dk_at dksX3_canWeighOnOnePan_0 13 rfl rfl)
theorem dX3_canWeighOnOnePan_16 : decode cX3_canWeighOnOnePan 16 = .ok (.ifCond .ne 5, 3) := dk_154 0 5 (dk_at dksX3_canWeighOnOnePan_0 16 rfl rfl)
theorem dX3_canWeighOnOnePan_19 : decode cX3_canWeighOnOnePan 19 = .ok (.iconst 0, 1) := dk_3 (dk_at dksX3_canWeighOnOnePan_0 19 rfl rfl)
theorem dX3_canWeighOnOnePan_20 : decode cX3_canWeighOnOnePan 20 = .ok (.ireturn, 1) := dk_172 (dk_at dksX3_canWeighOnOnePan_0 20 rfl rfl)
theorem dX3_canWeighOnOnePan_21 : decode cX3_canWeighOnOnePan 21 = .ok (.iconst 0, 1) := dk_3 (dk_at dksX3_canWeighOnOnePan_0 21 rfl rfl)
theorem dX3_canWeighOnOnePan_22 : decode cX3_canWeighOnOnePan 22 = .ok (.istore_n 2, 1) := dk_61 (dk_at dksX3_canWeighOnOnePan_0 22 rfl rfl)
theorem dX3_canWeighOnOnePan_23 : decode cX3_canWeighOnOnePan 23 = .ok (.iconst 0, 1) := dk_3 (dk_at dksX3_canWeighOnOnePan_0 23 rfl rfl)
theorem dX3_canWeighOnOnePan_24 : decode cX3_canWeighOnOnePan 24 = .ok (.istore_n 3, 1) := dk_62 (dk_at dksX3_canWeighOnOnePan_1 0 rfl rfl)
theorem dX3_canWeighOnOnePan_25 : decode cX3_canWeighOnOnePan 25 = .ok (.iload_n 3, 1) := dk_29 (dk_at dksX3_canWeighOnOnePan_1 1 rfl rfl)
theorem dX3_canWeighOnOnePan_26 : decode cX3_canWeighOnOnePan 26 = .ok (.aload_n 0, 1) := dk_42 (dk_at dksX3_canWeighOnOnePan_1 2 rfl rfl)
theorem dX3_canWeighOnOnePan_27 : decode cX3_canWeighOnOnePan 27 = .ok (.invokevirtual 66, 3) := dk_182 0 66 (dk_at dksX3_canWeighOnOnePan_1 3 rfl rfl)
theorem dX3_canWeighOnOnePan_30 : decode cX3_canWeighOnOnePan 30 = .ok (.if_icmp .ge 35, 3) := dk_162 0 35 (dk_at dksX3_canWeighOnOnePan_1 6 rfl rfl)
theorem dX3_canWeighOnOnePan_33 : decode cX3_canWeighOnOnePan 33 = .ok (.iload_n 2, 1) := dk_28 (dk_at dksX3_canWeighOnOnePan_1 9 rfl rfl)
theorem dX3_canWeighOnOnePan_34 : decode cX3_canWeighOnOnePan 34 = .ok (.ifCond .ne 19, 3) := dk_154 0 19 (dk_at dksX3_canWeighOnOnePan_1 10 rfl rfl)
theorem dX3_canWeighOnOnePan_37 : decode cX3_canWeighOnOnePan 37 = .ok (.aload_n 0, 1) := dk_42 (dk_at dksX3_canWeighOnOnePan_1 13 rfl rfl)
theorem dX3_canWeighOnOnePan_38 : decode cX3_canWeighOnOnePan 38 = .ok (.iload_n 3, 1) := dk_29 (dk_at dksX3_canWeighOnOnePan_1 14 rfl rfl)
theorem dX3_canWeighOnOnePan_39 : decode cX3_canWeighOnOnePan 39 = .ok (.invokevirtual 70, 3) := dk_182 0 70 (dk_at dksX3_canWeighOnOnePan_1 15 rfl rfl)
theorem dX3_canWeighOnOnePan_42 : decode cX3_canWeighOnOnePan 42 = .ok (.iload_n 1, 1) := dk_27 (dk_at dksX3_canWeighOnOnePan_1 18 rfl rfl)
theorem dX3_canWeighOnOnePan_43 : decode cX3_canWeighOnOnePan 43 = .ok (.if_icmp .ne 14, 3) := dk_160 0 14 (dk_at dksX3_canWeighOnOnePan_1 19 rfl rfl)
theorem dX3_canWeighOnOnePan_46 : decode cX3_canWeighOnOnePan 46 = .ok (.aload_n 0, 1) := dk_42 (dk_at dksX3_canWeighOnOnePan_1 22 rfl rfl)
theorem dX3_canWeighOnOnePan_47 : decode cX3_canWeighOnOnePan 47 = .ok (.invokevirtual 80, 3) := dk_182 0 80 (dk_at dksX3_canWeighOnOnePan_2 0 rfl rfl)
theorem dX3_canWeighOnOnePan_50 : decode cX3_canWeighOnOnePan 50 = .ok (.ifCond .ne 7, 3) := dk_154 0 7 (dk_at dksX3_canWeighOnOnePan_2 3 rfl rfl)
theorem dX3_canWeighOnOnePan_53 : decode cX3_canWeighOnOnePan 53 = .ok (.iconst 1, 1) := dk_4 (dk_at dksX3_canWeighOnOnePan_2 6 rfl rfl)
theorem dX3_canWeighOnOnePan_54 : decode cX3_canWeighOnOnePan 54 = .ok (.goto 4, 3) := dk_167 0 4 (dk_at dksX3_canWeighOnOnePan_2 7 rfl rfl)
theorem dX3_canWeighOnOnePan_57 : decode cX3_canWeighOnOnePan 57 = .ok (.iconst 0, 1) := dk_3 (dk_at dksX3_canWeighOnOnePan_2 10 rfl rfl)
theorem dX3_canWeighOnOnePan_58 : decode cX3_canWeighOnOnePan 58 = .ok (.istore_n 2, 1) := dk_61 (dk_at dksX3_canWeighOnOnePan_2 11 rfl rfl)
theorem dX3_canWeighOnOnePan_59 : decode cX3_canWeighOnOnePan 59 = .ok (.iinc 3 1, 3) := dk_132 3 1 (dk_at dksX3_canWeighOnOnePan_2 12 rfl rfl)
theorem dX3_canWeighOnOnePan_62 : decode cX3_canWeighOnOnePan 62 = .ok (.goto (-37), 3) := dk_167 255 219 (dk_at dksX3_canWeighOnOnePan_2 15 rfl rfl)
theorem dX3_canWeighOnOnePan_65 : decode cX3_canWeighOnOnePan 65 = .ok (.iload_n 2, 1) := dk_28 (dk_at dksX3_canWeighOnOnePan_2 18 rfl rfl)
theorem dX3_canWeighOnOnePan_66 : decode cX3_canWeighOnOnePan 66 = .ok (.ireturn, 1) := dk_172 (dk_at dksX3_canWeighOnOnePan_2 19 rfl rfl)
abbrev cX3_leftOf : ByteArray := prog_5_method_15_code
def yX3_leftOf : MethodName := ⟨RX3, "leftOf", "()I"⟩
def dkwX3_leftOf_1 : List UInt8 := [167, 0, 4, 3, 96, 60, 132, 2, 1, 167, 255, 227, 27, 172]
abbrev dktX3_leftOf_1 : List UInt8 := dkwX3_leftOf_1 ++ []
def dkwX3_leftOf_0 : List UInt8 := [3, 60, 3, 61, 28, 42, 180, 0, 56, 162, 0, 27, 27, 42, 180, 0, 16, 28, 46, 2, 160, 0, 7, 4]
abbrev dktX3_leftOf_0 : List UInt8 := dkwX3_leftOf_0 ++ dktX3_leftOf_1
theorem dksX3_leftOf_0 : cX3_leftOf.data.toList.drop 0 = dktX3_leftOf_0 := by decide +kernel
theorem dksX3_leftOf_1 : cX3_leftOf.data.toList.drop 24 = dktX3_leftOf_1 := dk_seg dksX3_leftOf_0 24 rfl rfl
theorem dX3_leftOf_0 : decode cX3_leftOf 0 = .ok (.iconst 0, 1) := dk_3 (dk_at dksX3_leftOf_0 0 rfl rfl)
theorem dX3_leftOf_1 : decode cX3_leftOf 1 = .ok (.istore_n 1, 1) := dk_60 (dk_at dksX3_leftOf_0 1 rfl rfl)
theorem dX3_leftOf_2 : decode cX3_leftOf 2 = .ok (.iconst 0, 1) := dk_3 (dk_at dksX3_leftOf_0 2 rfl rfl)
theorem dX3_leftOf_3 : decode cX3_leftOf 3 = .ok (.istore_n 2, 1) := dk_61 (dk_at dksX3_leftOf_0 3 rfl rfl)
theorem dX3_leftOf_4 : decode cX3_leftOf 4 = .ok (.iload_n 2, 1) := dk_28 (dk_at dksX3_leftOf_0 4 rfl rfl)
theorem dX3_leftOf_5 : decode cX3_leftOf 5 = .ok (.aload_n 0, 1) := dk_42 (dk_at dksX3_leftOf_0 5 rfl rfl)
theorem dX3_leftOf_6 : decode cX3_leftOf 6 = .ok (.getfield 56, 3) := dk_180 0 56 (dk_at dksX3_leftOf_0 6 rfl rfl)
theorem dX3_leftOf_9 : decode cX3_leftOf 9 = .ok (.if_icmp .ge 27, 3) := dk_162 0 27 (dk_at dksX3_leftOf_0 9 rfl rfl)
theorem dX3_leftOf_12 : decode cX3_leftOf 12 = .ok (.iload_n 1, 1) := dk_27 (dk_at dksX3_leftOf_0 12 rfl rfl)
theorem dX3_leftOf_13 : decode cX3_leftOf 13 = .ok (.aload_n 0, 1) := dk_42 (dk_at dksX3_leftOf_0 13 rfl rfl)
theorem dX3_leftOf_14 : decode cX3_leftOf 14 = .ok (.getfield 16, 3) := dk_180 0 16 (dk_at dksX3_leftOf_0 14 rfl rfl)
theorem dX3_leftOf_17 : decode cX3_leftOf 17 = .ok (.iload_n 2, 1) := dk_28 (dk_at dksX3_leftOf_0 17 rfl rfl)
theorem dX3_leftOf_18 : decode cX3_leftOf 18 = .ok (.iaload, 1) := dk_46 (dk_at dksX3_leftOf_0 18 rfl rfl)
theorem dX3_leftOf_19 : decode cX3_leftOf 19 = .ok (.iconst (-1), 1) := dk_2 (dk_at dksX3_leftOf_0 19 rfl rfl)
theorem dX3_leftOf_20 : decode cX3_leftOf 20 = .ok (.if_icmp .ne 7, 3) := dk_160 0 7 (dk_at dksX3_leftOf_0 20 rfl rfl)
theorem dX3_leftOf_23 : decode cX3_leftOf 23 = .ok (.iconst 1, 1) := dk_4 (dk_at dksX3_leftOf_0 23 rfl rfl)
theorem dX3_leftOf_24 : decode cX3_leftOf 24 = .ok (.goto 4, 3) := dk_167 0 4 (dk_at dksX3_leftOf_1 0 rfl rfl)
theorem dX3_leftOf_27 : decode cX3_leftOf 27 = .ok (.iconst 0, 1) := dk_3 (dk_at dksX3_leftOf_1 3 rfl rfl)
theorem dX3_leftOf_28 : decode cX3_leftOf 28 = .ok (.iadd, 1) := dk_96 (dk_at dksX3_leftOf_1 4 rfl rfl)
theorem dX3_leftOf_29 : decode cX3_leftOf 29 = .ok (.istore_n 1, 1) := dk_60 (dk_at dksX3_leftOf_1 5 rfl rfl)
theorem dX3_leftOf_30 : decode cX3_leftOf 30 = .ok (.iinc 2 1, 3) := dk_132 2 1 (dk_at dksX3_leftOf_1 6 rfl rfl)
theorem dX3_leftOf_33 : decode cX3_leftOf 33 = .ok (.goto (-29), 3) := dk_167 255 227 (dk_at dksX3_leftOf_1 9 rfl rfl)
theorem dX3_leftOf_36 : decode cX3_leftOf 36 = .ok (.iload_n 1, 1) := dk_27 (dk_at dksX3_leftOf_1 12 rfl rfl)
theorem dX3_leftOf_37 : decode cX3_leftOf 37 = .ok (.ireturn, 1) := dk_172 (dk_at dksX3_leftOf_1 13 rfl rfl)
abbrev cX3_ways : ByteArray := prog_5_method_20_code
def yX3_ways : MethodName := ⟨RX3, "ways", "(I)I"⟩
def dkwX3_ways_1 : List UInt8 := [167, 0, 4, 3, 172]
abbrev dktX3_ways_1 : List UInt8 := dkwX3_ways_1 ++ []
def dkwX3_ways_0 : List UInt8 := [42, 27, 184, 0, 74, 153, 0, 7, 3, 167, 0, 4, 4, 182, 0, 59, 153, 0, 11, 42, 27, 182, 0, 77]
abbrev dktX3_ways_0 : List UInt8 := dkwX3_ways_0 ++ dktX3_ways_1
theorem dksX3_ways_0 : cX3_ways.data.toList.drop 0 = dktX3_ways_0 := by decide +kernel
theorem dksX3_ways_1 : cX3_ways.data.toList.drop 24 = dktX3_ways_1 := dk_seg dksX3_ways_0 24 rfl rfl
theorem dX3_ways_0 : decode cX3_ways 0 = .ok (.aload_n 0, 1) := dk_42 (dk_at dksX3_ways_0 0 rfl rfl)
theorem dX3_ways_1 : decode cX3_ways 1 = .ok (.iload_n 1, 1) := dk_27 (dk_at dksX3_ways_0 1 rfl rfl)
theorem dX3_ways_2 : decode cX3_ways 2 = .ok (.invokestatic 74, 3) := dk_184 0 74 (dk_at dksX3_ways_0 2 rfl rfl)
theorem dX3_ways_5 : decode cX3_ways 5 = .ok (.ifCond .eq 7, 3) := dk_153 0 7 (dk_at dksX3_ways_0 5 rfl rfl)
theorem dX3_ways_8 : decode cX3_ways 8 = .ok (.iconst 0, 1) := dk_3 (dk_at dksX3_ways_0 8 rfl rfl)
theorem dX3_ways_9 : decode cX3_ways 9 = .ok (.goto 4, 3) := dk_167 0 4 (dk_at dksX3_ways_0 9 rfl rfl)
theorem dX3_ways_12 : decode cX3_ways 12 = .ok (.iconst 1, 1) := dk_4 (dk_at dksX3_ways_0 12 rfl rfl)
theorem dX3_ways_13 : decode cX3_ways 13 = .ok (.invokevirtual 59, 3) := dk_182 0 59 (dk_at dksX3_ways_0 13 rfl rfl)
theorem dX3_ways_16 : decode cX3_ways 16 = .ok (.ifCond .eq 11, 3) := dk_153 0 11 (dk_at dksX3_ways_0 16 rfl rfl)
theorem dX3_ways_19 : decode cX3_ways 19 = .ok (.aload_n 0, 1) := dk_42 (dk_at dksX3_ways_0 19 rfl rfl)
theorem dX3_ways_20 : decode cX3_ways 20 = .ok (.iload_n 1, 1) := dk_27 (dk_at dksX3_ways_0 20 rfl rfl)
theorem dX3_ways_21 : decode cX3_ways 21 = .ok (.invokevirtual 77, 3) := dk_182 0 77 (dk_at dksX3_ways_0 21 rfl rfl)
theorem dX3_ways_24 : decode cX3_ways 24 = .ok (.goto 4, 3) := dk_167 0 4 (dk_at dksX3_ways_1 0 rfl rfl)
theorem dX3_ways_27 : decode cX3_ways 27 = .ok (.iconst 0, 1) := dk_3 (dk_at dksX3_ways_1 3 rfl rfl)
theorem dX3_ways_28 : decode cX3_ways 28 = .ok (.ireturn, 1) := dk_172 (dk_at dksX3_ways_1 4 rfl rfl)
abbrev cX3_waysByPlacings : ByteArray := prog_5_method_21_code
def yX3_waysByPlacings : MethodName := ⟨RX3, "waysByPlacings", "(I)I"⟩
def dkwX3_waysByPlacings_1 : List UInt8 := [167, 0, 4, 3, 172]
abbrev dktX3_waysByPlacings_1 : List UInt8 := dkwX3_waysByPlacings_1 ++ []
def dkwX3_waysByPlacings_0 : List UInt8 := [42, 27, 184, 0, 74, 153, 0, 7, 3, 167, 0, 4, 4, 182, 0, 59, 153, 0, 11, 42, 27, 182, 0, 77]
abbrev dktX3_waysByPlacings_0 : List UInt8 := dkwX3_waysByPlacings_0 ++ dktX3_waysByPlacings_1
theorem dksX3_waysByPlacings_0 : cX3_waysByPlacings.data.toList.drop 0 = dktX3_waysByPlacings_0 := by decide +kernel
theorem dksX3_waysByPlacings_1 : cX3_waysByPlacings.data.toList.drop 24 = dktX3_waysByPlacings_1 := dk_seg dksX3_waysByPlacings_0 24 rfl rfl
theorem dX3_waysByPlacings_0 : decode cX3_waysByPlacings 0 = .ok (.aload_n 0, 1) := dk_42 (dk_at dksX3_waysByPlacings_0 0 rfl rfl)
theorem dX3_waysByPlacings_1 : decode cX3_waysByPlacings 1 = .ok (.iload_n 1, 1) := dk_27 (dk_at dksX3_waysByPlacings_0 1 rfl rfl)
theorem dX3_waysByPlacings_2 : decode cX3_waysByPlacings 2 = .ok (.invokestatic 74, 3) := dk_184 0 74 (dk_at dksX3_waysByPlacings_0 2 rfl rfl)
theorem dX3_waysByPlacings_5 : decode cX3_waysByPlacings 5 = .ok (.ifCond .eq 7, 3) := dk_153 0 7 (dk_at dksX3_waysByPlacings_0 5 rfl rfl)
theorem dX3_waysByPlacings_8 : decode cX3_waysByPlacings 8 = .ok (.iconst 0, 1) := dk_3 (dk_at dksX3_waysByPlacings_0 8 rfl rfl)
theorem dX3_waysByPlacings_9 : decode cX3_waysByPlacings 9 = .ok (.goto 4, 3) := dk_167 0 4 (dk_at dksX3_waysByPlacings_0 9 rfl rfl)
theorem dX3_waysByPlacings_12 : decode cX3_waysByPlacings 12 = .ok (.iconst 1, 1) := dk_4 (dk_at dksX3_waysByPlacings_0 12 rfl rfl)
theorem dX3_waysByPlacings_13 : decode cX3_waysByPlacings 13 = .ok (.invokevirtual 59, 3) := dk_182 0 59 (dk_at dksX3_waysByPlacings_0 13 rfl rfl)
theorem dX3_waysByPlacings_16 : decode cX3_waysByPlacings 16 = .ok (.ifCond .eq 11, 3) := dk_153 0 11 (dk_at dksX3_waysByPlacings_0 16 rfl rfl)
theorem dX3_waysByPlacings_19 : decode cX3_waysByPlacings 19 = .ok (.aload_n 0, 1) := dk_42 (dk_at dksX3_waysByPlacings_0 19 rfl rfl)
theorem dX3_waysByPlacings_20 : decode cX3_waysByPlacings 20 = .ok (.iload_n 1, 1) := dk_27 (dk_at dksX3_waysByPlacings_0 20 rfl rfl)
theorem dX3_waysByPlacings_21 : decode cX3_waysByPlacings 21 = .ok (.invokevirtual 77, 3) := dk_182 0 77 (dk_at dksX3_waysByPlacings_0 21 rfl rfl)
theorem dX3_waysByPlacings_24 : decode cX3_waysByPlacings 24 = .ok (.goto 4, 3) := dk_167 0 4 (dk_at dksX3_waysByPlacings_1 0 rfl rfl)
theorem dX3_waysByPlacings_27 : decode cX3_waysByPlacings 27 = .ok (.iconst 0, 1) := dk_3 (dk_at dksX3_waysByPlacings_1 3 rfl rfl)
theorem dX3_waysByPlacings_28 : decode cX3_waysByPlacings 28 = .ok (.ireturn, 1) := dk_172 (dk_at dksX3_waysByPlacings_1 4 rfl rfl)
abbrev cX3_fewest : ByteArray := prog_5_method_23_code
def yX3_fewest : MethodName := ⟨RX3, "fewest", "(I)I"⟩
def dkwX3_fewest_1 : List UInt8 := [167, 0, 4, 3, 172]
abbrev dktX3_fewest_1 : List UInt8 := dkwX3_fewest_1 ++ []
def dkwX3_fewest_0 : List UInt8 := [42, 27, 184, 0, 74, 153, 0, 7, 3, 167, 0, 4, 4, 182, 0, 59, 153, 0, 11, 42, 27, 182, 0, 86]
abbrev dktX3_fewest_0 : List UInt8 := dkwX3_fewest_0 ++ dktX3_fewest_1
theorem dksX3_fewest_0 : cX3_fewest.data.toList.drop 0 = dktX3_fewest_0 := by decide +kernel
theorem dksX3_fewest_1 : cX3_fewest.data.toList.drop 24 = dktX3_fewest_1 := dk_seg dksX3_fewest_0 24 rfl rfl
theorem dX3_fewest_0 : decode cX3_fewest 0 = .ok (.aload_n 0, 1) := dk_42 (dk_at dksX3_fewest_0 0 rfl rfl)
theorem dX3_fewest_1 : decode cX3_fewest 1 = .ok (.iload_n 1, 1) := dk_27 (dk_at dksX3_fewest_0 1 rfl rfl)
theorem dX3_fewest_2 : decode cX3_fewest 2 = .ok (.invokestatic 74, 3) := dk_184 0 74 (dk_at dksX3_fewest_0 2 rfl rfl)
theorem dX3_fewest_5 : decode cX3_fewest 5 = .ok (.ifCond .eq 7, 3) := dk_153 0 7 (dk_at dksX3_fewest_0 5 rfl rfl)
theorem dX3_fewest_8 : decode cX3_fewest 8 = .ok (.iconst 0, 1) := dk_3 (dk_at dksX3_fewest_0 8 rfl rfl)
theorem dX3_fewest_9 : decode cX3_fewest 9 = .ok (.goto 4, 3) := dk_167 0 4 (dk_at dksX3_fewest_0 9 rfl rfl)
theorem dX3_fewest_12 : decode cX3_fewest 12 = .ok (.iconst 1, 1) := dk_4 (dk_at dksX3_fewest_0 12 rfl rfl)
theorem dX3_fewest_13 : decode cX3_fewest 13 = .ok (.invokevirtual 59, 3) := dk_182 0 59 (dk_at dksX3_fewest_0 13 rfl rfl)
theorem dX3_fewest_16 : decode cX3_fewest 16 = .ok (.ifCond .eq 11, 3) := dk_153 0 11 (dk_at dksX3_fewest_0 16 rfl rfl)
theorem dX3_fewest_19 : decode cX3_fewest 19 = .ok (.aload_n 0, 1) := dk_42 (dk_at dksX3_fewest_0 19 rfl rfl)
theorem dX3_fewest_20 : decode cX3_fewest 20 = .ok (.iload_n 1, 1) := dk_27 (dk_at dksX3_fewest_0 20 rfl rfl)
theorem dX3_fewest_21 : decode cX3_fewest 21 = .ok (.invokevirtual 86, 3) := dk_182 0 86 (dk_at dksX3_fewest_0 21 rfl rfl)
theorem dX3_fewest_24 : decode cX3_fewest 24 = .ok (.goto 4, 3) := dk_167 0 4 (dk_at dksX3_fewest_1 0 rfl rfl)
theorem dX3_fewest_27 : decode cX3_fewest 27 = .ok (.iconst 0, 1) := dk_3 (dk_at dksX3_fewest_1 3 rfl rfl)
theorem dX3_fewest_28 : decode cX3_fewest 28 = .ok (.ireturn, 1) := dk_172 (dk_at dksX3_fewest_1 4 rfl rfl)
abbrev cX3_findBest : ByteArray := prog_5_method_22_code
def yX3_findBest : MethodName := ⟨RX3, "findBest", "(I)I"⟩
def dkwX3_findBest_4 : List UInt8 := [167, 255, 230, 132, 4, 1, 167, 255, 163, 28, 172]
abbrev dktX3_findBest_4 : List UInt8 := dkwX3_findBest_4 ++ []
def dkwX3_findBest_3 : List UInt8 := [180, 0, 56, 162, 0, 23, 42, 180, 0, 19, 21, 5, 42, 180, 0, 16, 21, 5, 46, 79, 132, 5, 1]
abbrev dktX3_findBest_3 : List UInt8 := dkwX3_findBest_3 ++ dktX3_findBest_4
def dkwX3_findBest_2 : List UInt8 := [42, 182, 0, 80, 29, 162, 0, 45, 42, 182, 0, 83, 61, 42, 182, 0, 80, 62, 3, 54, 5, 21, 5, 42]
abbrev dktX3_findBest_2 : List UInt8 := dkwX3_findBest_2 ++ dktX3_findBest_3
def dkwX3_findBest_1 : List UInt8 := [160, 0, 74, 28, 2, 159, 0, 27, 42, 182, 0, 83, 28, 161, 0, 19, 42, 182, 0, 83, 28, 160, 0, 53]
abbrev dktX3_findBest_1 : List UInt8 := dkwX3_findBest_1 ++ dktX3_findBest_2
def dkwX3_findBest_0 : List UInt8 := [2, 61, 3, 62, 3, 54, 4, 21, 4, 42, 182, 0, 66, 162, 0, 90, 42, 21, 4, 182, 0, 70, 27]
abbrev dktX3_findBest_0 : List UInt8 := dkwX3_findBest_0 ++ dktX3_findBest_1
theorem dksX3_findBest_0 : cX3_findBest.data.toList.drop 0 = dktX3_findBest_0 := by decide +kernel
theorem dksX3_findBest_1 : cX3_findBest.data.toList.drop 23 = dktX3_findBest_1 := dk_seg dksX3_findBest_0 23 rfl rfl
theorem dksX3_findBest_2 : cX3_findBest.data.toList.drop 47 = dktX3_findBest_2 := dk_seg dksX3_findBest_1 24 rfl rfl
theorem dksX3_findBest_3 : cX3_findBest.data.toList.drop 71 = dktX3_findBest_3 := dk_seg dksX3_findBest_2 24 rfl rfl
theorem dksX3_findBest_4 : cX3_findBest.data.toList.drop 94 = dktX3_findBest_4 := dk_seg dksX3_findBest_3 23 rfl rfl
theorem dX3_findBest_0 : decode cX3_findBest 0 = .ok (.iconst (-1), 1) := dk_2 (dk_at dksX3_findBest_0 0 rfl rfl)
theorem dX3_findBest_1 : decode cX3_findBest 1 = .ok (.istore_n 2, 1) := dk_61 (dk_at dksX3_findBest_0 1 rfl rfl)
theorem dX3_findBest_2 : decode cX3_findBest 2 = .ok (.iconst 0, 1) := dk_3 (dk_at dksX3_findBest_0 2 rfl rfl)
theorem dX3_findBest_3 : decode cX3_findBest 3 = .ok (.istore_n 3, 1) := dk_62 (dk_at dksX3_findBest_0 3 rfl rfl)
theorem dX3_findBest_4 : decode cX3_findBest 4 = .ok (.iconst 0, 1) := dk_3 (dk_at dksX3_findBest_0 4 rfl rfl)
theorem dX3_findBest_5 : decode cX3_findBest 5 = .ok (.istore 4, 2) := dk_54 4 (dk_at dksX3_findBest_0 5 rfl rfl)
theorem dX3_findBest_7 : decode cX3_findBest 7 = .ok (.iload 4, 2) := dk_21 4 (dk_at dksX3_findBest_0 7 rfl rfl)
theorem dX3_findBest_9 : decode cX3_findBest 9 = .ok (.aload_n 0, 1) := dk_42 (dk_at dksX3_findBest_0 9 rfl rfl)
theorem dX3_findBest_10 : decode cX3_findBest 10 = .ok (.invokevirtual 66, 3) := dk_182 0 66 (dk_at dksX3_findBest_0 10 rfl rfl)
theorem dX3_findBest_13 : decode cX3_findBest 13 = .ok (.if_icmp .ge 90, 3) := dk_162 0 90 (dk_at dksX3_findBest_0 13 rfl rfl)
theorem dX3_findBest_16 : decode cX3_findBest 16 = .ok (.aload_n 0, 1) := dk_42 (dk_at dksX3_findBest_0 16 rfl rfl)
theorem dX3_findBest_17 : decode cX3_findBest 17 = .ok (.iload 4, 2) := dk_21 4 (dk_at dksX3_findBest_0 17 rfl rfl)
theorem dX3_findBest_19 : decode cX3_findBest 19 = .ok (.invokevirtual 70, 3) := dk_182 0 70 (dk_at dksX3_findBest_0 19 rfl rfl)
theorem dX3_findBest_22 : decode cX3_findBest 22 = .ok (.iload_n 1, 1) := dk_27 (dk_at dksX3_findBest_0 22 rfl rfl)
theorem dX3_findBest_23 : decode cX3_findBest 23 = .ok (.if_icmp .ne 74, 3) := dk_160 0 74 (dk_at dksX3_findBest_1 0 rfl rfl)
theorem dX3_findBest_26 : decode cX3_findBest 26 = .ok (.iload_n 2, 1) := dk_28 (dk_at dksX3_findBest_1 3 rfl rfl)
theorem dX3_findBest_27 : decode cX3_findBest 27 = .ok (.iconst (-1), 1) := dk_2 (dk_at dksX3_findBest_1 4 rfl rfl)
theorem dX3_findBest_28 : decode cX3_findBest 28 = .ok (.if_icmp .eq 27, 3) := dk_159 0 27 (dk_at dksX3_findBest_1 5 rfl rfl)
theorem dX3_findBest_31 : decode cX3_findBest 31 = .ok (.aload_n 0, 1) := dk_42 (dk_at dksX3_findBest_1 8 rfl rfl)
theorem dX3_findBest_32 : decode cX3_findBest 32 = .ok (.invokevirtual 83, 3) := dk_182 0 83 (dk_at dksX3_findBest_1 9 rfl rfl)
theorem dX3_findBest_35 : decode cX3_findBest 35 = .ok (.iload_n 2, 1) := dk_28 (dk_at dksX3_findBest_1 12 rfl rfl)
theorem dX3_findBest_36 : decode cX3_findBest 36 = .ok (.if_icmp .lt 19, 3) := dk_161 0 19 (dk_at dksX3_findBest_1 13 rfl rfl)
theorem dX3_findBest_39 : decode cX3_findBest 39 = .ok (.aload_n 0, 1) := dk_42 (dk_at dksX3_findBest_1 16 rfl rfl)
theorem dX3_findBest_40 : decode cX3_findBest 40 = .ok (.invokevirtual 83, 3) := dk_182 0 83 (dk_at dksX3_findBest_1 17 rfl rfl)
theorem dX3_findBest_43 : decode cX3_findBest 43 = .ok (.iload_n 2, 1) := dk_28 (dk_at dksX3_findBest_1 20 rfl rfl)
theorem dX3_findBest_44 : decode cX3_findBest 44 = .ok (.if_icmp .ne 53, 3) := dk_160 0 53 (dk_at dksX3_findBest_1 21 rfl rfl)
theorem dX3_findBest_47 : decode cX3_findBest 47 = .ok (.aload_n 0, 1) := dk_42 (dk_at dksX3_findBest_2 0 rfl rfl)
theorem dX3_findBest_48 : decode cX3_findBest 48 = .ok (.invokevirtual 80, 3) := dk_182 0 80 (dk_at dksX3_findBest_2 1 rfl rfl)
theorem dX3_findBest_51 : decode cX3_findBest 51 = .ok (.iload_n 3, 1) := dk_29 (dk_at dksX3_findBest_2 4 rfl rfl)
theorem dX3_findBest_52 : decode cX3_findBest 52 = .ok (.if_icmp .ge 45, 3) := dk_162 0 45 (dk_at dksX3_findBest_2 5 rfl rfl)
theorem dX3_findBest_55 : decode cX3_findBest 55 = .ok (.aload_n 0, 1) := dk_42 (dk_at dksX3_findBest_2 8 rfl rfl)
theorem dX3_findBest_56 : decode cX3_findBest 56 = .ok (.invokevirtual 83, 3) := dk_182 0 83 (dk_at dksX3_findBest_2 9 rfl rfl)
theorem dX3_findBest_59 : decode cX3_findBest 59 = .ok (.istore_n 2, 1) := dk_61 (dk_at dksX3_findBest_2 12 rfl rfl)
theorem dX3_findBest_60 : decode cX3_findBest 60 = .ok (.aload_n 0, 1) := dk_42 (dk_at dksX3_findBest_2 13 rfl rfl)
theorem dX3_findBest_61 : decode cX3_findBest 61 = .ok (.invokevirtual 80, 3) := dk_182 0 80 (dk_at dksX3_findBest_2 14 rfl rfl)
theorem dX3_findBest_64 : decode cX3_findBest 64 = .ok (.istore_n 3, 1) := dk_62 (dk_at dksX3_findBest_2 17 rfl rfl)
theorem dX3_findBest_65 : decode cX3_findBest 65 = .ok (.iconst 0, 1) := dk_3 (dk_at dksX3_findBest_2 18 rfl rfl)
theorem dX3_findBest_66 : decode cX3_findBest 66 = .ok (.istore 5, 2) := dk_54 5 (dk_at dksX3_findBest_2 19 rfl rfl)
theorem dX3_findBest_68 : decode cX3_findBest 68 = .ok (.iload 5, 2) := dk_21 5 (dk_at dksX3_findBest_2 21 rfl rfl)
theorem dX3_findBest_70 : decode cX3_findBest 70 = .ok (.aload_n 0, 1) := dk_42 (dk_at dksX3_findBest_2 23 rfl rfl)
theorem dX3_findBest_71 : decode cX3_findBest 71 = .ok (.getfield 56, 3) := dk_180 0 56 (dk_at dksX3_findBest_3 0 rfl rfl)
theorem dX3_findBest_74 : decode cX3_findBest 74 = .ok (.if_icmp .ge 23, 3) := dk_162 0 23 (dk_at dksX3_findBest_3 3 rfl rfl)
theorem dX3_findBest_77 : decode cX3_findBest 77 = .ok (.aload_n 0, 1) := dk_42 (dk_at dksX3_findBest_3 6 rfl rfl)
theorem dX3_findBest_78 : decode cX3_findBest 78 = .ok (.getfield 19, 3) := dk_180 0 19 (dk_at dksX3_findBest_3 7 rfl rfl)
theorem dX3_findBest_81 : decode cX3_findBest 81 = .ok (.iload 5, 2) := dk_21 5 (dk_at dksX3_findBest_3 10 rfl rfl)
theorem dX3_findBest_83 : decode cX3_findBest 83 = .ok (.aload_n 0, 1) := dk_42 (dk_at dksX3_findBest_3 12 rfl rfl)
theorem dX3_findBest_84 : decode cX3_findBest 84 = .ok (.getfield 16, 3) := dk_180 0 16 (dk_at dksX3_findBest_3 13 rfl rfl)
theorem dX3_findBest_87 : decode cX3_findBest 87 = .ok (.iload 5, 2) := dk_21 5 (dk_at dksX3_findBest_3 16 rfl rfl)
theorem dX3_findBest_89 : decode cX3_findBest 89 = .ok (.iaload, 1) := dk_46 (dk_at dksX3_findBest_3 18 rfl rfl)
theorem dX3_findBest_90 : decode cX3_findBest 90 = .ok (.iastore, 1) := dk_79 (dk_at dksX3_findBest_3 19 rfl rfl)
theorem dX3_findBest_91 : decode cX3_findBest 91 = .ok (.iinc 5 1, 3) := dk_132 5 1 (dk_at dksX3_findBest_3 20 rfl rfl)
theorem dX3_findBest_94 : decode cX3_findBest 94 = .ok (.goto (-26), 3) := dk_167 255 230 (dk_at dksX3_findBest_4 0 rfl rfl)
theorem dX3_findBest_97 : decode cX3_findBest 97 = .ok (.iinc 4 1, 3) := dk_132 4 1 (dk_at dksX3_findBest_4 3 rfl rfl)
theorem dX3_findBest_100 : decode cX3_findBest 100 = .ok (.goto (-93), 3) := dk_167 255 163 (dk_at dksX3_findBest_4 6 rfl rfl)
theorem dX3_findBest_103 : decode cX3_findBest 103 = .ok (.iload_n 2, 1) := dk_28 (dk_at dksX3_findBest_4 9 rfl rfl)
theorem dX3_findBest_104 : decode cX3_findBest 104 = .ok (.ireturn, 1) := dk_172 (dk_at dksX3_findBest_4 10 rfl rfl)
abbrev cX3_sizeOf : ByteArray := prog_5_method_14_code
def yX3_sizeOf : MethodName := ⟨RX3, "sizeOf", "()I"⟩
def dkwX3_sizeOf_1 : List UInt8 := [167, 0, 4, 4, 96, 60, 132, 2, 1, 167, 255, 228, 27, 172]
abbrev dktX3_sizeOf_1 : List UInt8 := dkwX3_sizeOf_1 ++ []
def dkwX3_sizeOf_0 : List UInt8 := [3, 60, 3, 61, 28, 42, 180, 0, 56, 162, 0, 26, 27, 42, 180, 0, 16, 28, 46, 154, 0, 7, 3]
abbrev dktX3_sizeOf_0 : List UInt8 := dkwX3_sizeOf_0 ++ dktX3_sizeOf_1
theorem dksX3_sizeOf_0 : cX3_sizeOf.data.toList.drop 0 = dktX3_sizeOf_0 := by decide +kernel
theorem dksX3_sizeOf_1 : cX3_sizeOf.data.toList.drop 23 = dktX3_sizeOf_1 := dk_seg dksX3_sizeOf_0 23 rfl rfl
theorem dX3_sizeOf_0 : decode cX3_sizeOf 0 = .ok (.iconst 0, 1) := dk_3 (dk_at dksX3_sizeOf_0 0 rfl rfl)
theorem dX3_sizeOf_1 : decode cX3_sizeOf 1 = .ok (.istore_n 1, 1) := dk_60 (dk_at dksX3_sizeOf_0 1 rfl rfl)
theorem dX3_sizeOf_2 : decode cX3_sizeOf 2 = .ok (.iconst 0, 1) := dk_3 (dk_at dksX3_sizeOf_0 2 rfl rfl)
theorem dX3_sizeOf_3 : decode cX3_sizeOf 3 = .ok (.istore_n 2, 1) := dk_61 (dk_at dksX3_sizeOf_0 3 rfl rfl)
theorem dX3_sizeOf_4 : decode cX3_sizeOf 4 = .ok (.iload_n 2, 1) := dk_28 (dk_at dksX3_sizeOf_0 4 rfl rfl)
theorem dX3_sizeOf_5 : decode cX3_sizeOf 5 = .ok (.aload_n 0, 1) := dk_42 (dk_at dksX3_sizeOf_0 5 rfl rfl)
theorem dX3_sizeOf_6 : decode cX3_sizeOf 6 = .ok (.getfield 56, 3) := dk_180 0 56 (dk_at dksX3_sizeOf_0 6 rfl rfl)
theorem dX3_sizeOf_9 : decode cX3_sizeOf 9 = .ok (.if_icmp .ge 26, 3) := dk_162 0 26 (dk_at dksX3_sizeOf_0 9 rfl rfl)
theorem dX3_sizeOf_12 : decode cX3_sizeOf 12 = .ok (.iload_n 1, 1) := dk_27 (dk_at dksX3_sizeOf_0 12 rfl rfl)
theorem dX3_sizeOf_13 : decode cX3_sizeOf 13 = .ok (.aload_n 0, 1) := dk_42 (dk_at dksX3_sizeOf_0 13 rfl rfl)
theorem dX3_sizeOf_14 : decode cX3_sizeOf 14 = .ok (.getfield 16, 3) := dk_180 0 16 (dk_at dksX3_sizeOf_0 14 rfl rfl)
theorem dX3_sizeOf_17 : decode cX3_sizeOf 17 = .ok (.iload_n 2, 1) := dk_28 (dk_at dksX3_sizeOf_0 17 rfl rfl)
theorem dX3_sizeOf_18 : decode cX3_sizeOf 18 = .ok (.iaload, 1) := dk_46 (dk_at dksX3_sizeOf_0 18 rfl rfl)
theorem dX3_sizeOf_19 : decode cX3_sizeOf 19 = .ok (.ifCond .ne 7, 3) := dk_154 0 7 (dk_at dksX3_sizeOf_0 19 rfl rfl)
theorem dX3_sizeOf_22 : decode cX3_sizeOf 22 = .ok (.iconst 0, 1) := dk_3 (dk_at dksX3_sizeOf_0 22 rfl rfl)
theorem dX3_sizeOf_23 : decode cX3_sizeOf 23 = .ok (.goto 4, 3) := dk_167 0 4 (dk_at dksX3_sizeOf_1 0 rfl rfl)
theorem dX3_sizeOf_26 : decode cX3_sizeOf 26 = .ok (.iconst 1, 1) := dk_4 (dk_at dksX3_sizeOf_1 3 rfl rfl)
theorem dX3_sizeOf_27 : decode cX3_sizeOf 27 = .ok (.iadd, 1) := dk_96 (dk_at dksX3_sizeOf_1 4 rfl rfl)
theorem dX3_sizeOf_28 : decode cX3_sizeOf 28 = .ok (.istore_n 1, 1) := dk_60 (dk_at dksX3_sizeOf_1 5 rfl rfl)
theorem dX3_sizeOf_29 : decode cX3_sizeOf 29 = .ok (.iinc 2 1, 3) := dk_132 2 1 (dk_at dksX3_sizeOf_1 6 rfl rfl)
theorem dX3_sizeOf_32 : decode cX3_sizeOf 32 = .ok (.goto (-28), 3) := dk_167 255 228 (dk_at dksX3_sizeOf_1 9 rfl rfl)
theorem dX3_sizeOf_35 : decode cX3_sizeOf 35 = .ok (.iload_n 1, 1) := dk_27 (dk_at dksX3_sizeOf_1 12 rfl rfl)
theorem dX3_sizeOf_36 : decode cX3_sizeOf 36 = .ok (.ireturn, 1) := dk_172 (dk_at dksX3_sizeOf_1 13 rfl rfl)
abbrev cX3_placed : ByteArray := prog_5_method_24_code
def yX3_placed : MethodName := ⟨RX3, "placed", "(II)I"⟩
def dkwX3_placed_3 : List UInt8 := [46, 167, 0, 4, 3, 172]
abbrev dktX3_placed_3 : List UInt8 := dkwX3_placed_3 ++ []
def dkwX3_placed_2 : List UInt8 := [167, 0, 13, 29, 2, 160, 0, 7, 6, 167, 0, 4, 3, 182, 0, 59, 153, 0, 12, 42, 180, 0, 19, 28]
abbrev dktX3_placed_2 : List UInt8 := dkwX3_placed_2 ++ dktX3_placed_3
def dkwX3_placed_1 : List UInt8 := [62, 42, 27, 184, 0, 74, 154, 0, 7, 4, 167, 0, 25, 42, 28, 182, 0, 63, 154, 0, 7, 5]
abbrev dktX3_placed_1 : List UInt8 := dkwX3_placed_1 ++ dktX3_placed_2
def dkwX3_placed_0 : List UInt8 := [27, 184, 0, 74, 153, 0, 19, 42, 28, 182, 0, 63, 153, 0, 11, 42, 27, 182, 0, 86, 167, 0, 4, 2]
abbrev dktX3_placed_0 : List UInt8 := dkwX3_placed_0 ++ dktX3_placed_1
theorem dksX3_placed_0 : cX3_placed.data.toList.drop 0 = dktX3_placed_0 := by decide +kernel
theorem dksX3_placed_1 : cX3_placed.data.toList.drop 24 = dktX3_placed_1 := dk_seg dksX3_placed_0 24 rfl rfl
theorem dksX3_placed_2 : cX3_placed.data.toList.drop 46 = dktX3_placed_2 := dk_seg dksX3_placed_1 22 rfl rfl
theorem dksX3_placed_3 : cX3_placed.data.toList.drop 70 = dktX3_placed_3 := dk_seg dksX3_placed_2 24 rfl rfl
theorem dX3_placed_0 : decode cX3_placed 0 = .ok (.iload_n 1, 1) := dk_27 (dk_at dksX3_placed_0 0 rfl rfl)
theorem dX3_placed_1 : decode cX3_placed 1 = .ok (.invokestatic 74, 3) := dk_184 0 74 (dk_at dksX3_placed_0 1 rfl rfl)
theorem dX3_placed_4 : decode cX3_placed 4 = .ok (.ifCond .eq 19, 3) := dk_153 0 19 (dk_at dksX3_placed_0 4 rfl rfl)
theorem dX3_placed_7 : decode cX3_placed 7 = .ok (.aload_n 0, 1) := dk_42 (dk_at dksX3_placed_0 7 rfl rfl)
theorem dX3_placed_8 : decode cX3_placed 8 = .ok (.iload_n 2, 1) := dk_28 (dk_at dksX3_placed_0 8 rfl rfl)
theorem dX3_placed_9 : decode cX3_placed 9 = .ok (.invokevirtual 63, 3) := dk_182 0 63 (dk_at dksX3_placed_0 9 rfl rfl)
theorem dX3_placed_12 : decode cX3_placed 12 = .ok (.ifCond .eq 11, 3) := dk_153 0 11 (dk_at dksX3_placed_0 12 rfl rfl)
theorem dX3_placed_15 : decode cX3_placed 15 = .ok (.aload_n 0, 1) := dk_42 (dk_at dksX3_placed_0 15 rfl rfl)
theorem dX3_placed_16 : decode cX3_placed 16 = .ok (.iload_n 1, 1) := dk_27 (dk_at dksX3_placed_0 16 rfl rfl)
theorem dX3_placed_17 : decode cX3_placed 17 = .ok (.invokevirtual 86, 3) := dk_182 0 86 (dk_at dksX3_placed_0 17 rfl rfl)
theorem dX3_placed_20 : decode cX3_placed 20 = .ok (.goto 4, 3) := dk_167 0 4 (dk_at dksX3_placed_0 20 rfl rfl)
theorem dX3_placed_23 : decode cX3_placed 23 = .ok (.iconst (-1), 1) := dk_2 (dk_at dksX3_placed_0 23 rfl rfl)
theorem dX3_placed_24 : decode cX3_placed 24 = .ok (.istore_n 3, 1) := dk_62 (dk_at dksX3_placed_1 0 rfl rfl)
theorem dX3_placed_25 : decode cX3_placed 25 = .ok (.aload_n 0, 1) := dk_42 (dk_at dksX3_placed_1 1 rfl rfl)
theorem dX3_placed_26 : decode cX3_placed 26 = .ok (.iload_n 1, 1) := dk_27 (dk_at dksX3_placed_1 2 rfl rfl)
theorem dX3_placed_27 : decode cX3_placed 27 = .ok (.invokestatic 74, 3) := dk_184 0 74 (dk_at dksX3_placed_1 3 rfl rfl)
theorem dX3_placed_30 : decode cX3_placed 30 = .ok (.ifCond .ne 7, 3) := dk_154 0 7 (dk_at dksX3_placed_1 6 rfl rfl)
theorem dX3_placed_33 : decode cX3_placed 33 = .ok (.iconst 1, 1) := dk_4 (dk_at dksX3_placed_1 9 rfl rfl)
theorem dX3_placed_34 : decode cX3_placed 34 = .ok (.goto 25, 3) := dk_167 0 25 (dk_at dksX3_placed_1 10 rfl rfl)
theorem dX3_placed_37 : decode cX3_placed 37 = .ok (.aload_n 0, 1) := dk_42 (dk_at dksX3_placed_1 13 rfl rfl)
theorem dX3_placed_38 : decode cX3_placed 38 = .ok (.iload_n 2, 1) := dk_28 (dk_at dksX3_placed_1 14 rfl rfl)
theorem dX3_placed_39 : decode cX3_placed 39 = .ok (.invokevirtual 63, 3) := dk_182 0 63 (dk_at dksX3_placed_1 15 rfl rfl)
theorem dX3_placed_42 : decode cX3_placed 42 = .ok (.ifCond .ne 7, 3) := dk_154 0 7 (dk_at dksX3_placed_1 18 rfl rfl)
theorem dX3_placed_45 : decode cX3_placed 45 = .ok (.iconst 2, 1) := dk_5 (dk_at dksX3_placed_1 21 rfl rfl)
theorem dX3_placed_46 : decode cX3_placed 46 = .ok (.goto 13, 3) := dk_167 0 13 (dk_at dksX3_placed_2 0 rfl rfl)
theorem dX3_placed_49 : decode cX3_placed 49 = .ok (.iload_n 3, 1) := dk_29 (dk_at dksX3_placed_2 3 rfl rfl)
theorem dX3_placed_50 : decode cX3_placed 50 = .ok (.iconst (-1), 1) := dk_2 (dk_at dksX3_placed_2 4 rfl rfl)
theorem dX3_placed_51 : decode cX3_placed 51 = .ok (.if_icmp .ne 7, 3) := dk_160 0 7 (dk_at dksX3_placed_2 5 rfl rfl)
theorem dX3_placed_54 : decode cX3_placed 54 = .ok (.iconst 3, 1) := dk_6 (dk_at dksX3_placed_2 8 rfl rfl)
theorem dX3_placed_55 : decode cX3_placed 55 = .ok (.goto 4, 3) := dk_167 0 4 (dk_at dksX3_placed_2 9 rfl rfl)
theorem dX3_placed_58 : decode cX3_placed 58 = .ok (.iconst 0, 1) := dk_3 (dk_at dksX3_placed_2 12 rfl rfl)
theorem dX3_placed_59 : decode cX3_placed 59 = .ok (.invokevirtual 59, 3) := dk_182 0 59 (dk_at dksX3_placed_2 13 rfl rfl)
theorem dX3_placed_62 : decode cX3_placed 62 = .ok (.ifCond .eq 12, 3) := dk_153 0 12 (dk_at dksX3_placed_2 16 rfl rfl)
theorem dX3_placed_65 : decode cX3_placed 65 = .ok (.aload_n 0, 1) := dk_42 (dk_at dksX3_placed_2 19 rfl rfl)
theorem dX3_placed_66 : decode cX3_placed 66 = .ok (.getfield 19, 3) := dk_180 0 19 (dk_at dksX3_placed_2 20 rfl rfl)
theorem dX3_placed_69 : decode cX3_placed 69 = .ok (.iload_n 2, 1) := dk_28 (dk_at dksX3_placed_2 23 rfl rfl)
theorem dX3_placed_70 : decode cX3_placed 70 = .ok (.iaload, 1) := dk_46 (dk_at dksX3_placed_3 0 rfl rfl)
theorem dX3_placed_71 : decode cX3_placed 71 = .ok (.goto 4, 3) := dk_167 0 4 (dk_at dksX3_placed_3 1 rfl rfl)
theorem dX3_placed_74 : decode cX3_placed 74 = .ok (.iconst 0, 1) := dk_3 (dk_at dksX3_placed_3 4 rfl rfl)
theorem dX3_placed_75 : decode cX3_placed 75 = .ok (.ireturn, 1) := dk_172 (dk_at dksX3_placed_3 5 rfl rfl)
abbrev cX3_leastError : ByteArray := prog_5_method_25_code
def yX3_leastError : MethodName := ⟨RX3, "leastError", "(I)I"⟩
def dkwX3_leastError_2 : List UInt8 := [182, 0, 89, 28, 162, 0, 8, 42, 182, 0, 89, 61, 132, 3, 1, 167, 255, 218, 28, 172]
abbrev dktX3_leastError_2 : List UInt8 := dkwX3_leastError_2 ++ []
def dkwX3_leastError_1 : List UInt8 := [62, 29, 42, 182, 0, 66, 162, 0, 36, 42, 29, 182, 0, 70, 27, 160, 0, 21, 28, 2, 159, 0, 11, 42]
abbrev dktX3_leastError_1 : List UInt8 := dkwX3_leastError_1 ++ dktX3_leastError_2
def dkwX3_leastError_0 : List UInt8 := [42, 27, 184, 0, 74, 153, 0, 7, 3, 167, 0, 4, 4, 182, 0, 59, 154, 0, 5, 3, 172, 2, 61, 3]
abbrev dktX3_leastError_0 : List UInt8 := dkwX3_leastError_0 ++ dktX3_leastError_1
theorem dksX3_leastError_0 : cX3_leastError.data.toList.drop 0 = dktX3_leastError_0 := by decide +kernel
theorem dksX3_leastError_1 : cX3_leastError.data.toList.drop 24 = dktX3_leastError_1 := dk_seg dksX3_leastError_0 24 rfl rfl
theorem dksX3_leastError_2 : cX3_leastError.data.toList.drop 48 = dktX3_leastError_2 := dk_seg dksX3_leastError_1 24 rfl rfl
theorem dX3_leastError_0 : decode cX3_leastError 0 = .ok (.aload_n 0, 1) := dk_42 (dk_at dksX3_leastError_0 0 rfl rfl)
theorem dX3_leastError_1 : decode cX3_leastError 1 = .ok (.iload_n 1, 1) := dk_27 (dk_at dksX3_leastError_0 1 rfl rfl)
theorem dX3_leastError_2 : decode cX3_leastError 2 = .ok (.invokestatic 74, 3) := dk_184 0 74 (dk_at dksX3_leastError_0 2 rfl rfl)
theorem dX3_leastError_5 : decode cX3_leastError 5 = .ok (.ifCond .eq 7, 3) := dk_153 0 7 (dk_at dksX3_leastError_0 5 rfl rfl)
theorem dX3_leastError_8 : decode cX3_leastError 8 = .ok (.iconst 0, 1) := dk_3 (dk_at dksX3_leastError_0 8 rfl rfl)
theorem dX3_leastError_9 : decode cX3_leastError 9 = .ok (.goto 4, 3) := dk_167 0 4 (dk_at dksX3_leastError_0 9 rfl rfl)
theorem dX3_leastError_12 : decode cX3_leastError 12 = .ok (.iconst 1, 1) := dk_4 (dk_at dksX3_leastError_0 12 rfl rfl)
theorem dX3_leastError_13 : decode cX3_leastError 13 = .ok (.invokevirtual 59, 3) := dk_182 0 59 (dk_at dksX3_leastError_0 13 rfl rfl)
theorem dX3_leastError_16 : decode cX3_leastError 16 = .ok (.ifCond .ne 5, 3) := dk_154 0 5 (dk_at dksX3_leastError_0 16 rfl rfl)
theorem dX3_leastError_19 : decode cX3_leastError 19 = .ok (.iconst 0, 1) := dk_3 (dk_at dksX3_leastError_0 19 rfl rfl)
theorem dX3_leastError_20 : decode cX3_leastError 20 = .ok (.ireturn, 1) := dk_172 (dk_at dksX3_leastError_0 20 rfl rfl)
theorem dX3_leastError_21 : decode cX3_leastError 21 = .ok (.iconst (-1), 1) := dk_2 (dk_at dksX3_leastError_0 21 rfl rfl)
theorem dX3_leastError_22 : decode cX3_leastError 22 = .ok (.istore_n 2, 1) := dk_61 (dk_at dksX3_leastError_0 22 rfl rfl)
theorem dX3_leastError_23 : decode cX3_leastError 23 = .ok (.iconst 0, 1) := dk_3 (dk_at dksX3_leastError_0 23 rfl rfl)
theorem dX3_leastError_24 : decode cX3_leastError 24 = .ok (.istore_n 3, 1) := dk_62 (dk_at dksX3_leastError_1 0 rfl rfl)
theorem dX3_leastError_25 : decode cX3_leastError 25 = .ok (.iload_n 3, 1) := dk_29 (dk_at dksX3_leastError_1 1 rfl rfl)
theorem dX3_leastError_26 : decode cX3_leastError 26 = .ok (.aload_n 0, 1) := dk_42 (dk_at dksX3_leastError_1 2 rfl rfl)
theorem dX3_leastError_27 : decode cX3_leastError 27 = .ok (.invokevirtual 66, 3) := dk_182 0 66 (dk_at dksX3_leastError_1 3 rfl rfl)
theorem dX3_leastError_30 : decode cX3_leastError 30 = .ok (.if_icmp .ge 36, 3) := dk_162 0 36 (dk_at dksX3_leastError_1 6 rfl rfl)
theorem dX3_leastError_33 : decode cX3_leastError 33 = .ok (.aload_n 0, 1) := dk_42 (dk_at dksX3_leastError_1 9 rfl rfl)
theorem dX3_leastError_34 : decode cX3_leastError 34 = .ok (.iload_n 3, 1) := dk_29 (dk_at dksX3_leastError_1 10 rfl rfl)
theorem dX3_leastError_35 : decode cX3_leastError 35 = .ok (.invokevirtual 70, 3) := dk_182 0 70 (dk_at dksX3_leastError_1 11 rfl rfl)
theorem dX3_leastError_38 : decode cX3_leastError 38 = .ok (.iload_n 1, 1) := dk_27 (dk_at dksX3_leastError_1 14 rfl rfl)
theorem dX3_leastError_39 : decode cX3_leastError 39 = .ok (.if_icmp .ne 21, 3) := dk_160 0 21 (dk_at dksX3_leastError_1 15 rfl rfl)
theorem dX3_leastError_42 : decode cX3_leastError 42 = .ok (.iload_n 2, 1) := dk_28 (dk_at dksX3_leastError_1 18 rfl rfl)
theorem dX3_leastError_43 : decode cX3_leastError 43 = .ok (.iconst (-1), 1) := dk_2 (dk_at dksX3_leastError_1 19 rfl rfl)
theorem dX3_leastError_44 : decode cX3_leastError 44 = .ok (.if_icmp .eq 11, 3) := dk_159 0 11 (dk_at dksX3_leastError_1 20 rfl rfl)
theorem dX3_leastError_47 : decode cX3_leastError 47 = .ok (.aload_n 0, 1) := dk_42 (dk_at dksX3_leastError_1 23 rfl rfl)
theorem dX3_leastError_48 : decode cX3_leastError 48 = .ok (.invokevirtual 89, 3) := dk_182 0 89 (dk_at dksX3_leastError_2 0 rfl rfl)
theorem dX3_leastError_51 : decode cX3_leastError 51 = .ok (.iload_n 2, 1) := dk_28 (dk_at dksX3_leastError_2 3 rfl rfl)
theorem dX3_leastError_52 : decode cX3_leastError 52 = .ok (.if_icmp .ge 8, 3) := dk_162 0 8 (dk_at dksX3_leastError_2 4 rfl rfl)
theorem dX3_leastError_55 : decode cX3_leastError 55 = .ok (.aload_n 0, 1) := dk_42 (dk_at dksX3_leastError_2 7 rfl rfl)
theorem dX3_leastError_56 : decode cX3_leastError 56 = .ok (.invokevirtual 89, 3) := dk_182 0 89 (dk_at dksX3_leastError_2 8 rfl rfl)
theorem dX3_leastError_59 : decode cX3_leastError 59 = .ok (.istore_n 2, 1) := dk_61 (dk_at dksX3_leastError_2 11 rfl rfl)
theorem dX3_leastError_60 : decode cX3_leastError 60 = .ok (.iinc 3 1, 3) := dk_132 3 1 (dk_at dksX3_leastError_2 12 rfl rfl)
theorem dX3_leastError_63 : decode cX3_leastError 63 = .ok (.goto (-38), 3) := dk_167 255 218 (dk_at dksX3_leastError_2 15 rfl rfl)
theorem dX3_leastError_66 : decode cX3_leastError 66 = .ok (.iload_n 2, 1) := dk_28 (dk_at dksX3_leastError_2 18 rfl rfl)
theorem dX3_leastError_67 : decode cX3_leastError 67 = .ok (.ireturn, 1) := dk_172 (dk_at dksX3_leastError_2 19 rfl rfl)
abbrev cX3_errorOf : ByteArray := prog_5_method_16_code
def yX3_errorOf : MethodName := ⟨RX3, "errorOf", "()I"⟩
def dkwX3_errorOf_1 : List UInt8 := [167, 0, 9, 42, 180, 0, 13, 28, 46, 96, 60, 132, 2, 1, 167, 255, 223, 27, 172]
abbrev dktX3_errorOf_1 : List UInt8 := dkwX3_errorOf_1 ++ []
def dkwX3_errorOf_0 : List UInt8 := [3, 60, 3, 61, 28, 42, 180, 0, 56, 162, 0, 31, 27, 42, 180, 0, 16, 28, 46, 154, 0, 7, 3]
abbrev dktX3_errorOf_0 : List UInt8 := dkwX3_errorOf_0 ++ dktX3_errorOf_1
theorem dksX3_errorOf_0 : cX3_errorOf.data.toList.drop 0 = dktX3_errorOf_0 := by decide +kernel
theorem dksX3_errorOf_1 : cX3_errorOf.data.toList.drop 23 = dktX3_errorOf_1 := dk_seg dksX3_errorOf_0 23 rfl rfl
theorem dX3_errorOf_0 : decode cX3_errorOf 0 = .ok (.iconst 0, 1) := dk_3 (dk_at dksX3_errorOf_0 0 rfl rfl)
theorem dX3_errorOf_1 : decode cX3_errorOf 1 = .ok (.istore_n 1, 1) := dk_60 (dk_at dksX3_errorOf_0 1 rfl rfl)
theorem dX3_errorOf_2 : decode cX3_errorOf 2 = .ok (.iconst 0, 1) := dk_3 (dk_at dksX3_errorOf_0 2 rfl rfl)
theorem dX3_errorOf_3 : decode cX3_errorOf 3 = .ok (.istore_n 2, 1) := dk_61 (dk_at dksX3_errorOf_0 3 rfl rfl)
theorem dX3_errorOf_4 : decode cX3_errorOf 4 = .ok (.iload_n 2, 1) := dk_28 (dk_at dksX3_errorOf_0 4 rfl rfl)
theorem dX3_errorOf_5 : decode cX3_errorOf 5 = .ok (.aload_n 0, 1) := dk_42 (dk_at dksX3_errorOf_0 5 rfl rfl)
theorem dX3_errorOf_6 : decode cX3_errorOf 6 = .ok (.getfield 56, 3) := dk_180 0 56 (dk_at dksX3_errorOf_0 6 rfl rfl)
theorem dX3_errorOf_9 : decode cX3_errorOf 9 = .ok (.if_icmp .ge 31, 3) := dk_162 0 31 (dk_at dksX3_errorOf_0 9 rfl rfl)
theorem dX3_errorOf_12 : decode cX3_errorOf 12 = .ok (.iload_n 1, 1) := dk_27 (dk_at dksX3_errorOf_0 12 rfl rfl)
theorem dX3_errorOf_13 : decode cX3_errorOf 13 = .ok (.aload_n 0, 1) := dk_42 (dk_at dksX3_errorOf_0 13 rfl rfl)
theorem dX3_errorOf_14 : decode cX3_errorOf 14 = .ok (.getfield 16, 3) := dk_180 0 16 (dk_at dksX3_errorOf_0 14 rfl rfl)
theorem dX3_errorOf_17 : decode cX3_errorOf 17 = .ok (.iload_n 2, 1) := dk_28 (dk_at dksX3_errorOf_0 17 rfl rfl)
theorem dX3_errorOf_18 : decode cX3_errorOf 18 = .ok (.iaload, 1) := dk_46 (dk_at dksX3_errorOf_0 18 rfl rfl)
theorem dX3_errorOf_19 : decode cX3_errorOf 19 = .ok (.ifCond .ne 7, 3) := dk_154 0 7 (dk_at dksX3_errorOf_0 19 rfl rfl)
theorem dX3_errorOf_22 : decode cX3_errorOf 22 = .ok (.iconst 0, 1) := dk_3 (dk_at dksX3_errorOf_0 22 rfl rfl)
theorem dX3_errorOf_23 : decode cX3_errorOf 23 = .ok (.goto 9, 3) := dk_167 0 9 (dk_at dksX3_errorOf_1 0 rfl rfl)
theorem dX3_errorOf_26 : decode cX3_errorOf 26 = .ok (.aload_n 0, 1) := dk_42 (dk_at dksX3_errorOf_1 3 rfl rfl)
theorem dX3_errorOf_27 : decode cX3_errorOf 27 = .ok (.getfield 13, 3) := dk_180 0 13 (dk_at dksX3_errorOf_1 4 rfl rfl)
theorem dX3_errorOf_30 : decode cX3_errorOf 30 = .ok (.iload_n 2, 1) := dk_28 (dk_at dksX3_errorOf_1 7 rfl rfl)
theorem dX3_errorOf_31 : decode cX3_errorOf 31 = .ok (.iaload, 1) := dk_46 (dk_at dksX3_errorOf_1 8 rfl rfl)
theorem dX3_errorOf_32 : decode cX3_errorOf 32 = .ok (.iadd, 1) := dk_96 (dk_at dksX3_errorOf_1 9 rfl rfl)
theorem dX3_errorOf_33 : decode cX3_errorOf 33 = .ok (.istore_n 1, 1) := dk_60 (dk_at dksX3_errorOf_1 10 rfl rfl)
theorem dX3_errorOf_34 : decode cX3_errorOf 34 = .ok (.iinc 2 1, 3) := dk_132 2 1 (dk_at dksX3_errorOf_1 11 rfl rfl)
theorem dX3_errorOf_37 : decode cX3_errorOf 37 = .ok (.goto (-33), 3) := dk_167 255 223 (dk_at dksX3_errorOf_1 14 rfl rfl)
theorem dX3_errorOf_40 : decode cX3_errorOf 40 = .ok (.iload_n 1, 1) := dk_27 (dk_at dksX3_errorOf_1 17 rfl rfl)
theorem dX3_errorOf_41 : decode cX3_errorOf 41 = .ok (.ireturn, 1) := dk_172 (dk_at dksX3_errorOf_1 18 rfl rfl)
abbrev cX3_gap : ByteArray := prog_5_method_29_code
def yX3_gap : MethodName := ⟨RX3, "gap", "()I"⟩
def dkwX3_gap_0 : List UInt8 := [42, 3, 181, 0, 49, 42, 4, 42, 180, 0, 56, 120, 4, 100, 182, 0, 99, 42, 3, 182, 0, 102, 172]
abbrev dktX3_gap_0 : List UInt8 := dkwX3_gap_0 ++ []
theorem dksX3_gap_0 : cX3_gap.data.toList.drop 0 = dktX3_gap_0 := by decide +kernel
theorem dX3_gap_0 : decode cX3_gap 0 = .ok (.aload_n 0, 1) := dk_42 (dk_at dksX3_gap_0 0 rfl rfl)
theorem dX3_gap_1 : decode cX3_gap 1 = .ok (.iconst 0, 1) := dk_3 (dk_at dksX3_gap_0 1 rfl rfl)
theorem dX3_gap_2 : decode cX3_gap 2 = .ok (.putfield 49, 3) := dk_181 0 49 (dk_at dksX3_gap_0 2 rfl rfl)
theorem dX3_gap_5 : decode cX3_gap 5 = .ok (.aload_n 0, 1) := dk_42 (dk_at dksX3_gap_0 5 rfl rfl)
theorem dX3_gap_6 : decode cX3_gap 6 = .ok (.iconst 1, 1) := dk_4 (dk_at dksX3_gap_0 6 rfl rfl)
theorem dX3_gap_7 : decode cX3_gap 7 = .ok (.aload_n 0, 1) := dk_42 (dk_at dksX3_gap_0 7 rfl rfl)
theorem dX3_gap_8 : decode cX3_gap 8 = .ok (.getfield 56, 3) := dk_180 0 56 (dk_at dksX3_gap_0 8 rfl rfl)
theorem dX3_gap_11 : decode cX3_gap 11 = .ok (.ishl, 1) := dk_120 (dk_at dksX3_gap_0 11 rfl rfl)
theorem dX3_gap_12 : decode cX3_gap 12 = .ok (.iconst 1, 1) := dk_4 (dk_at dksX3_gap_0 12 rfl rfl)
theorem dX3_gap_13 : decode cX3_gap 13 = .ok (.isub, 1) := dk_100 (dk_at dksX3_gap_0 13 rfl rfl)
theorem dX3_gap_14 : decode cX3_gap 14 = .ok (.invokevirtual 99, 3) := dk_182 0 99 (dk_at dksX3_gap_0 14 rfl rfl)
theorem dX3_gap_17 : decode cX3_gap 17 = .ok (.aload_n 0, 1) := dk_42 (dk_at dksX3_gap_0 17 rfl rfl)
theorem dX3_gap_18 : decode cX3_gap 18 = .ok (.iconst 0, 1) := dk_3 (dk_at dksX3_gap_0 18 rfl rfl)
theorem dX3_gap_19 : decode cX3_gap 19 = .ok (.invokevirtual 102, 3) := dk_182 0 102 (dk_at dksX3_gap_0 19 rfl rfl)
theorem dX3_gap_22 : decode cX3_gap 22 = .ok (.ireturn, 1) := dk_172 (dk_at dksX3_gap_0 22 rfl rfl)
abbrev cX3_layWeighed : ByteArray := prog_5_method_26_code
def yX3_layWeighed : MethodName := ⟨RX3, "layWeighed", "(I)V"⟩
def dkwX3_layWeighed_5 : List UInt8 := [167, 0, 4, 3, 84, 132, 2, 1, 167, 255, 154, 177]
abbrev dktX3_layWeighed_5 : List UInt8 := dkwX3_layWeighed_5 ++ []
def dkwX3_layWeighed_4 : List UInt8 := [17, 15, 160, 29, 96, 42, 180, 0, 22, 17, 15, 160, 29, 96, 51, 154, 0, 8, 21, 4, 153, 0, 7, 4]
abbrev dktX3_layWeighed_4 : List UInt8 := dkwX3_layWeighed_4 ++ dktX3_layWeighed_5
def dkwX3_layWeighed_3 : List UInt8 := [184, 0, 92, 153, 0, 7, 4, 167, 0, 4, 3, 54, 4, 132, 5, 1, 167, 255, 213, 42, 180, 0, 22]
abbrev dktX3_layWeighed_3 : List UInt8 := dkwX3_layWeighed_3 ++ dktX3_layWeighed_4
def dkwX3_layWeighed_2 : List UInt8 := [180, 0, 56, 162, 0, 40, 21, 4, 153, 0, 26, 42, 180, 0, 16, 21, 5, 46, 153, 0, 12, 27, 21, 5]
abbrev dktX3_layWeighed_2 : List UInt8 := dkwX3_layWeighed_2 ++ dktX3_layWeighed_3
def dkwX3_layWeighed_1 : List UInt8 := [28, 42, 182, 0, 66, 162, 0, 100, 42, 28, 182, 0, 70, 62, 4, 54, 4, 3, 54, 5, 21, 5, 42]
abbrev dktX3_layWeighed_1 : List UInt8 := dkwX3_layWeighed_1 ++ dktX3_layWeighed_2
def dkwX3_layWeighed_0 : List UInt8 := [3, 61, 28, 17, 31, 64, 163, 0, 16, 42, 180, 0, 22, 28, 3, 84, 132, 2, 1, 167, 255, 239, 3, 61]
abbrev dktX3_layWeighed_0 : List UInt8 := dkwX3_layWeighed_0 ++ dktX3_layWeighed_1
theorem dksX3_layWeighed_0 : cX3_layWeighed.data.toList.drop 0 = dktX3_layWeighed_0 := by decide +kernel
theorem dksX3_layWeighed_1 : cX3_layWeighed.data.toList.drop 24 = dktX3_layWeighed_1 := dk_seg dksX3_layWeighed_0 24 rfl rfl
theorem dksX3_layWeighed_2 : cX3_layWeighed.data.toList.drop 47 = dktX3_layWeighed_2 := dk_seg dksX3_layWeighed_1 23 rfl rfl
theorem dksX3_layWeighed_3 : cX3_layWeighed.data.toList.drop 71 = dktX3_layWeighed_3 := dk_seg dksX3_layWeighed_2 24 rfl rfl
theorem dksX3_layWeighed_4 : cX3_layWeighed.data.toList.drop 94 = dktX3_layWeighed_4 := dk_seg dksX3_layWeighed_3 23 rfl rfl
theorem dksX3_layWeighed_5 : cX3_layWeighed.data.toList.drop 118 = dktX3_layWeighed_5 := dk_seg dksX3_layWeighed_4 24 rfl rfl
theorem dX3_layWeighed_0 : decode cX3_layWeighed 0 = .ok (.iconst 0, 1) := dk_3 (dk_at dksX3_layWeighed_0 0 rfl rfl)
theorem dX3_layWeighed_1 : decode cX3_layWeighed 1 = .ok (.istore_n 2, 1) := dk_61 (dk_at dksX3_layWeighed_0 1 rfl rfl)
theorem dX3_layWeighed_2 : decode cX3_layWeighed 2 = .ok (.iload_n 2, 1) := dk_28 (dk_at dksX3_layWeighed_0 2 rfl rfl)
theorem dX3_layWeighed_3 : decode cX3_layWeighed 3 = .ok (.sipush 8000, 3) := dk_17 31 64 (dk_at dksX3_layWeighed_0 3 rfl rfl)
theorem dX3_layWeighed_6 : decode cX3_layWeighed 6 = .ok (.if_icmp .gt 16, 3) := dk_163 0 16 (dk_at dksX3_layWeighed_0 6 rfl rfl)
theorem dX3_layWeighed_9 : decode cX3_layWeighed 9 = .ok (.aload_n 0, 1) := dk_42 (dk_at dksX3_layWeighed_0 9 rfl rfl)
theorem dX3_layWeighed_10 : decode cX3_layWeighed 10 = .ok (.getfield 22, 3) := dk_180 0 22 (dk_at dksX3_layWeighed_0 10 rfl rfl)
theorem dX3_layWeighed_13 : decode cX3_layWeighed 13 = .ok (.iload_n 2, 1) := dk_28 (dk_at dksX3_layWeighed_0 13 rfl rfl)
theorem dX3_layWeighed_14 : decode cX3_layWeighed 14 = .ok (.iconst 0, 1) := dk_3 (dk_at dksX3_layWeighed_0 14 rfl rfl)
theorem dX3_layWeighed_15 : decode cX3_layWeighed 15 = .ok (.bastore, 1) := dk_84 (dk_at dksX3_layWeighed_0 15 rfl rfl)
theorem dX3_layWeighed_16 : decode cX3_layWeighed 16 = .ok (.iinc 2 1, 3) := dk_132 2 1 (dk_at dksX3_layWeighed_0 16 rfl rfl)
theorem dX3_layWeighed_19 : decode cX3_layWeighed 19 = .ok (.goto (-17), 3) := dk_167 255 239 (dk_at dksX3_layWeighed_0 19 rfl rfl)
theorem dX3_layWeighed_22 : decode cX3_layWeighed 22 = .ok (.iconst 0, 1) := dk_3 (dk_at dksX3_layWeighed_0 22 rfl rfl)
theorem dX3_layWeighed_23 : decode cX3_layWeighed 23 = .ok (.istore_n 2, 1) := dk_61 (dk_at dksX3_layWeighed_0 23 rfl rfl)
theorem dX3_layWeighed_24 : decode cX3_layWeighed 24 = .ok (.iload_n 2, 1) := dk_28 (dk_at dksX3_layWeighed_1 0 rfl rfl)
theorem dX3_layWeighed_25 : decode cX3_layWeighed 25 = .ok (.aload_n 0, 1) := dk_42 (dk_at dksX3_layWeighed_1 1 rfl rfl)
theorem dX3_layWeighed_26 : decode cX3_layWeighed 26 = .ok (.invokevirtual 66, 3) := dk_182 0 66 (dk_at dksX3_layWeighed_1 2 rfl rfl)
theorem dX3_layWeighed_29 : decode cX3_layWeighed 29 = .ok (.if_icmp .ge 100, 3) := dk_162 0 100 (dk_at dksX3_layWeighed_1 5 rfl rfl)
theorem dX3_layWeighed_32 : decode cX3_layWeighed 32 = .ok (.aload_n 0, 1) := dk_42 (dk_at dksX3_layWeighed_1 8 rfl rfl)
theorem dX3_layWeighed_33 : decode cX3_layWeighed 33 = .ok (.iload_n 2, 1) := dk_28 (dk_at dksX3_layWeighed_1 9 rfl rfl)
theorem dX3_layWeighed_34 : decode cX3_layWeighed 34 = .ok (.invokevirtual 70, 3) := dk_182 0 70 (dk_at dksX3_layWeighed_1 10 rfl rfl)
theorem dX3_layWeighed_37 : decode cX3_layWeighed 37 = .ok (.istore_n 3, 1) := dk_62 (dk_at dksX3_layWeighed_1 13 rfl rfl)
theorem dX3_layWeighed_38 : decode cX3_layWeighed 38 = .ok (.iconst 1, 1) := dk_4 (dk_at dksX3_layWeighed_1 14 rfl rfl)
theorem dX3_layWeighed_39 : decode cX3_layWeighed 39 = .ok (.istore 4, 2) := dk_54 4 (dk_at dksX3_layWeighed_1 15 rfl rfl)
theorem dX3_layWeighed_41 : decode cX3_layWeighed 41 = .ok (.iconst 0, 1) := dk_3 (dk_at dksX3_layWeighed_1 17 rfl rfl)
theorem dX3_layWeighed_42 : decode cX3_layWeighed 42 = .ok (.istore 5, 2) := dk_54 5 (dk_at dksX3_layWeighed_1 18 rfl rfl)
theorem dX3_layWeighed_44 : decode cX3_layWeighed 44 = .ok (.iload 5, 2) := dk_21 5 (dk_at dksX3_layWeighed_1 20 rfl rfl)
theorem dX3_layWeighed_46 : decode cX3_layWeighed 46 = .ok (.aload_n 0, 1) := dk_42 (dk_at dksX3_layWeighed_1 22 rfl rfl)
theorem dX3_layWeighed_47 : decode cX3_layWeighed 47 = .ok (.getfield 56, 3) := dk_180 0 56 (dk_at dksX3_layWeighed_2 0 rfl rfl)
theorem dX3_layWeighed_50 : decode cX3_layWeighed 50 = .ok (.if_icmp .ge 40, 3) := dk_162 0 40 (dk_at dksX3_layWeighed_2 3 rfl rfl)
theorem dX3_layWeighed_53 : decode cX3_layWeighed 53 = .ok (.iload 4, 2) := dk_21 4 (dk_at dksX3_layWeighed_2 6 rfl rfl)
theorem dX3_layWeighed_55 : decode cX3_layWeighed 55 = .ok (.ifCond .eq 26, 3) := dk_153 0 26 (dk_at dksX3_layWeighed_2 8 rfl rfl)
theorem dX3_layWeighed_58 : decode cX3_layWeighed 58 = .ok (.aload_n 0, 1) := dk_42 (dk_at dksX3_layWeighed_2 11 rfl rfl)
theorem dX3_layWeighed_59 : decode cX3_layWeighed 59 = .ok (.getfield 16, 3) := dk_180 0 16 (dk_at dksX3_layWeighed_2 12 rfl rfl)
theorem dX3_layWeighed_62 : decode cX3_layWeighed 62 = .ok (.iload 5, 2) := dk_21 5 (dk_at dksX3_layWeighed_2 15 rfl rfl)
theorem dX3_layWeighed_64 : decode cX3_layWeighed 64 = .ok (.iaload, 1) := dk_46 (dk_at dksX3_layWeighed_2 17 rfl rfl)
theorem dX3_layWeighed_65 : decode cX3_layWeighed 65 = .ok (.ifCond .eq 12, 3) := dk_153 0 12 (dk_at dksX3_layWeighed_2 18 rfl rfl)
theorem dX3_layWeighed_68 : decode cX3_layWeighed 68 = .ok (.iload_n 1, 1) := dk_27 (dk_at dksX3_layWeighed_2 21 rfl rfl)
theorem dX3_layWeighed_69 : decode cX3_layWeighed 69 = .ok (.iload 5, 2) := dk_21 5 (dk_at dksX3_layWeighed_2 22 rfl rfl)
theorem dX3_layWeighed_71 : decode cX3_layWeighed 71 = .ok (.invokestatic 92, 3) := dk_184 0 92 (dk_at dksX3_layWeighed_3 0 rfl rfl)
theorem dX3_layWeighed_74 : decode cX3_layWeighed 74 = .ok (.ifCond .eq 7, 3) := dk_153 0 7 (dk_at dksX3_layWeighed_3 3 rfl rfl)
theorem dX3_layWeighed_77 : decode cX3_layWeighed 77 = .ok (.iconst 1, 1) := dk_4 (dk_at dksX3_layWeighed_3 6 rfl rfl)
theorem dX3_layWeighed_78 : decode cX3_layWeighed 78 = .ok (.goto 4, 3) := dk_167 0 4 (dk_at dksX3_layWeighed_3 7 rfl rfl)
theorem dX3_layWeighed_81 : decode cX3_layWeighed 81 = .ok (.iconst 0, 1) := dk_3 (dk_at dksX3_layWeighed_3 10 rfl rfl)
theorem dX3_layWeighed_82 : decode cX3_layWeighed 82 = .ok (.istore 4, 2) := dk_54 4 (dk_at dksX3_layWeighed_3 11 rfl rfl)
theorem dX3_layWeighed_84 : decode cX3_layWeighed 84 = .ok (.iinc 5 1, 3) := dk_132 5 1 (dk_at dksX3_layWeighed_3 13 rfl rfl)
theorem dX3_layWeighed_87 : decode cX3_layWeighed 87 = .ok (.goto (-43), 3) := dk_167 255 213 (dk_at dksX3_layWeighed_3 16 rfl rfl)
theorem dX3_layWeighed_90 : decode cX3_layWeighed 90 = .ok (.aload_n 0, 1) := dk_42 (dk_at dksX3_layWeighed_3 19 rfl rfl)
theorem dX3_layWeighed_91 : decode cX3_layWeighed 91 = .ok (.getfield 22, 3) := dk_180 0 22 (dk_at dksX3_layWeighed_3 20 rfl rfl)
theorem dX3_layWeighed_94 : decode cX3_layWeighed 94 = .ok (.sipush 4000, 3) := dk_17 15 160 (dk_at dksX3_layWeighed_4 0 rfl rfl)
theorem dX3_layWeighed_97 : decode cX3_layWeighed 97 = .ok (.iload_n 3, 1) := dk_29 (dk_at dksX3_layWeighed_4 3 rfl rfl)
theorem dX3_layWeighed_98 : decode cX3_layWeighed 98 = .ok (.iadd, 1) := dk_96 (dk_at dksX3_layWeighed_4 4 rfl rfl)
theorem dX3_layWeighed_99 : decode cX3_layWeighed 99 = .ok (.aload_n 0, 1) := dk_42 (dk_at dksX3_layWeighed_4 5 rfl rfl)
theorem dX3_layWeighed_100 : decode cX3_layWeighed 100 = .ok (.getfield 22, 3) := dk_180 0 22 (dk_at dksX3_layWeighed_4 6 rfl rfl)
theorem dX3_layWeighed_103 : decode cX3_layWeighed 103 = .ok (.sipush 4000, 3) := dk_17 15 160 (dk_at dksX3_layWeighed_4 9 rfl rfl)
theorem dX3_layWeighed_106 : decode cX3_layWeighed 106 = .ok (.iload_n 3, 1) := dk_29 (dk_at dksX3_layWeighed_4 12 rfl rfl)
theorem dX3_layWeighed_107 : decode cX3_layWeighed 107 = .ok (.iadd, 1) := dk_96 (dk_at dksX3_layWeighed_4 13 rfl rfl)
theorem dX3_layWeighed_108 : decode cX3_layWeighed 108 = .ok (.baload, 1) := dk_51 (dk_at dksX3_layWeighed_4 14 rfl rfl)
theorem dX3_layWeighed_109 : decode cX3_layWeighed 109 = .ok (.ifCond .ne 8, 3) := dk_154 0 8 (dk_at dksX3_layWeighed_4 15 rfl rfl)
theorem dX3_layWeighed_112 : decode cX3_layWeighed 112 = .ok (.iload 4, 2) := dk_21 4 (dk_at dksX3_layWeighed_4 18 rfl rfl)
theorem dX3_layWeighed_114 : decode cX3_layWeighed 114 = .ok (.ifCond .eq 7, 3) := dk_153 0 7 (dk_at dksX3_layWeighed_4 20 rfl rfl)
theorem dX3_layWeighed_117 : decode cX3_layWeighed 117 = .ok (.iconst 1, 1) := dk_4 (dk_at dksX3_layWeighed_4 23 rfl rfl)
theorem dX3_layWeighed_118 : decode cX3_layWeighed 118 = .ok (.goto 4, 3) := dk_167 0 4 (dk_at dksX3_layWeighed_5 0 rfl rfl)
theorem dX3_layWeighed_121 : decode cX3_layWeighed 121 = .ok (.iconst 0, 1) := dk_3 (dk_at dksX3_layWeighed_5 3 rfl rfl)
theorem dX3_layWeighed_122 : decode cX3_layWeighed 122 = .ok (.bastore, 1) := dk_84 (dk_at dksX3_layWeighed_5 4 rfl rfl)
theorem dX3_layWeighed_123 : decode cX3_layWeighed 123 = .ok (.iinc 2 1, 3) := dk_132 2 1 (dk_at dksX3_layWeighed_5 5 rfl rfl)
theorem dX3_layWeighed_126 : decode cX3_layWeighed 126 = .ok (.goto (-102), 3) := dk_167 255 154 (dk_at dksX3_layWeighed_5 8 rfl rfl)
theorem dX3_layWeighed_129 : decode cX3_layWeighed 129 = .ok (.return_, 1) := dk_177 (dk_at dksX3_layWeighed_5 11 rfl rfl)
abbrev cX3_has : ByteArray := prog_5_method_7_code
def yX3_has : MethodName := ⟨RX3, "has", "(II)Z"⟩
def dkwX3_has_0 : List UInt8 := [26, 27, 122, 4, 126, 4, 160, 0, 7, 4, 167, 0, 4, 3, 172]
abbrev dktX3_has_0 : List UInt8 := dkwX3_has_0 ++ []
theorem dksX3_has_0 : cX3_has.data.toList.drop 0 = dktX3_has_0 := by decide +kernel
theorem dX3_has_0 : decode cX3_has 0 = .ok (.iload_n 0, 1) := dk_26 (dk_at dksX3_has_0 0 rfl rfl)
theorem dX3_has_1 : decode cX3_has 1 = .ok (.iload_n 1, 1) := dk_27 (dk_at dksX3_has_0 1 rfl rfl)
theorem dX3_has_2 : decode cX3_has 2 = .ok (.ishr, 1) := dk_122 (dk_at dksX3_has_0 2 rfl rfl)
theorem dX3_has_3 : decode cX3_has 3 = .ok (.iconst 1, 1) := dk_4 (dk_at dksX3_has_0 3 rfl rfl)
theorem dX3_has_4 : decode cX3_has 4 = .ok (.iand, 1) := dk_126 (dk_at dksX3_has_0 4 rfl rfl)
theorem dX3_has_5 : decode cX3_has 5 = .ok (.iconst 1, 1) := dk_4 (dk_at dksX3_has_0 5 rfl rfl)
theorem dX3_has_6 : decode cX3_has 6 = .ok (.if_icmp .ne 7, 3) := dk_160 0 7 (dk_at dksX3_has_0 6 rfl rfl)
theorem dX3_has_9 : decode cX3_has 9 = .ok (.iconst 1, 1) := dk_4 (dk_at dksX3_has_0 9 rfl rfl)
theorem dX3_has_10 : decode cX3_has 10 = .ok (.goto 4, 3) := dk_167 0 4 (dk_at dksX3_has_0 10 rfl rfl)
theorem dX3_has_13 : decode cX3_has 13 = .ok (.iconst 0, 1) := dk_3 (dk_at dksX3_has_0 13 rfl rfl)
theorem dX3_has_14 : decode cX3_has 14 = .ok (.ireturn, 1) := dk_172 (dk_at dksX3_has_0 14 rfl rfl)
abbrev cX3_gapWith : ByteArray := prog_5_method_28_code
def yX3_gapWith : MethodName := ⟨RX3, "gapWith", "(I)I"⟩
def dkwX3_gapWith_1 : List UInt8 := [28, 172]
abbrev dktX3_gapWith_1 : List UInt8 := dkwX3_gapWith_1 ++ []
def dkwX3_gapWith_0 : List UInt8 := [4, 61, 28, 17, 15, 160, 163, 0, 18, 42, 28, 27, 182, 0, 96, 153, 0, 9, 132, 2, 1, 167, 255, 237]
abbrev dktX3_gapWith_0 : List UInt8 := dkwX3_gapWith_0 ++ dktX3_gapWith_1
theorem dksX3_gapWith_0 : cX3_gapWith.data.toList.drop 0 = dktX3_gapWith_0 := by decide +kernel
theorem dksX3_gapWith_1 : cX3_gapWith.data.toList.drop 24 = dktX3_gapWith_1 := dk_seg dksX3_gapWith_0 24 rfl rfl
theorem dX3_gapWith_0 : decode cX3_gapWith 0 = .ok (.iconst 1, 1) := dk_4 (dk_at dksX3_gapWith_0 0 rfl rfl)
theorem dX3_gapWith_1 : decode cX3_gapWith 1 = .ok (.istore_n 2, 1) := dk_61 (dk_at dksX3_gapWith_0 1 rfl rfl)
theorem dX3_gapWith_2 : decode cX3_gapWith 2 = .ok (.iload_n 2, 1) := dk_28 (dk_at dksX3_gapWith_0 2 rfl rfl)
theorem dX3_gapWith_3 : decode cX3_gapWith 3 = .ok (.sipush 4000, 3) := dk_17 15 160 (dk_at dksX3_gapWith_0 3 rfl rfl)
theorem dX3_gapWith_6 : decode cX3_gapWith 6 = .ok (.if_icmp .gt 18, 3) := dk_163 0 18 (dk_at dksX3_gapWith_0 6 rfl rfl)
theorem dX3_gapWith_9 : decode cX3_gapWith 9 = .ok (.aload_n 0, 1) := dk_42 (dk_at dksX3_gapWith_0 9 rfl rfl)
theorem dX3_gapWith_10 : decode cX3_gapWith 10 = .ok (.iload_n 2, 1) := dk_28 (dk_at dksX3_gapWith_0 10 rfl rfl)
theorem dX3_gapWith_11 : decode cX3_gapWith 11 = .ok (.iload_n 1, 1) := dk_27 (dk_at dksX3_gapWith_0 11 rfl rfl)
theorem dX3_gapWith_12 : decode cX3_gapWith 12 = .ok (.invokevirtual 96, 3) := dk_182 0 96 (dk_at dksX3_gapWith_0 12 rfl rfl)
theorem dX3_gapWith_15 : decode cX3_gapWith 15 = .ok (.ifCond .eq 9, 3) := dk_153 0 9 (dk_at dksX3_gapWith_0 15 rfl rfl)
theorem dX3_gapWith_18 : decode cX3_gapWith 18 = .ok (.iinc 2 1, 3) := dk_132 2 1 (dk_at dksX3_gapWith_0 18 rfl rfl)
theorem dX3_gapWith_21 : decode cX3_gapWith 21 = .ok (.goto (-19), 3) := dk_167 255 237 (dk_at dksX3_gapWith_0 21 rfl rfl)
theorem dX3_gapWith_24 : decode cX3_gapWith 24 = .ok (.iload_n 2, 1) := dk_28 (dk_at dksX3_gapWith_1 0 rfl rfl)
theorem dX3_gapWith_25 : decode cX3_gapWith 25 = .ok (.ireturn, 1) := dk_172 (dk_at dksX3_gapWith_1 1 rfl rfl)
abbrev cX3_canWith : ByteArray := prog_5_method_27_code
def yX3_canWith : MethodName := ⟨RX3, "canWith", "(II)Z"⟩
def dkwX3_canWith_2 : List UInt8 := [42, 180, 0, 22, 17, 15, 160, 27, 96, 28, 100, 51, 153, 0, 7, 4, 167, 0, 4, 3, 172]
abbrev dktX3_canWith_2 : List UInt8 := dkwX3_canWith_2 ++ []
def dkwX3_canWith_1 : List UInt8 := [17, 15, 160, 184, 0, 52, 153, 0, 18, 42, 180, 0, 22, 17, 15, 160, 27, 96, 28, 96, 51, 154, 0, 18]
abbrev dktX3_canWith_1 : List UInt8 := dkwX3_canWith_1 ++ dktX3_canWith_2
def dkwX3_canWith_0 : List UInt8 := [42, 180, 0, 22, 17, 15, 160, 27, 96, 51, 62, 29, 154, 0, 50, 28, 158, 0, 50, 27, 28, 96, 3]
abbrev dktX3_canWith_0 : List UInt8 := dkwX3_canWith_0 ++ dktX3_canWith_1
theorem dksX3_canWith_0 : cX3_canWith.data.toList.drop 0 = dktX3_canWith_0 := by decide +kernel
theorem dksX3_canWith_1 : cX3_canWith.data.toList.drop 23 = dktX3_canWith_1 := dk_seg dksX3_canWith_0 23 rfl rfl
theorem dksX3_canWith_2 : cX3_canWith.data.toList.drop 47 = dktX3_canWith_2 := dk_seg dksX3_canWith_1 24 rfl rfl
theorem dX3_canWith_0 : decode cX3_canWith 0 = .ok (.aload_n 0, 1) := dk_42 (dk_at dksX3_canWith_0 0 rfl rfl)
theorem dX3_canWith_1 : decode cX3_canWith 1 = .ok (.getfield 22, 3) := dk_180 0 22 (dk_at dksX3_canWith_0 1 rfl rfl)
theorem dX3_canWith_4 : decode cX3_canWith 4 = .ok (.sipush 4000, 3) := dk_17 15 160 (dk_at dksX3_canWith_0 4 rfl rfl)
theorem dX3_canWith_7 : decode cX3_canWith 7 = .ok (.iload_n 1, 1) := dk_27 (dk_at dksX3_canWith_0 7 rfl rfl)
theorem dX3_canWith_8 : decode cX3_canWith 8 = .ok (.iadd, 1) := dk_96 (dk_at dksX3_canWith_0 8 rfl rfl)
theorem dX3_canWith_9 : decode cX3_canWith 9 = .ok (.baload, 1) := dk_51 (dk_at dksX3_canWith_0 9 rfl rfl)
theorem dX3_canWith_10 : decode cX3_canWith 10 = .ok (.istore_n 3, 1) := dk_62 (dk_at dksX3_canWith_0 10 rfl rfl)
theorem dX3_canWith_11 : decode cX3_canWith 11 = .ok (.iload_n 3, 1) := dk_29 (dk_at dksX3_canWith_0 11 rfl rfl)
theorem dX3_canWith_12 : decode cX3_canWith 12 = .ok (.ifCond .ne 50, 3) := dk_154 0 50 (dk_at dksX3_canWith_0 12 rfl rfl)
theorem dX3_canWith_15 : decode cX3_canWith 15 = .ok (.iload_n 2, 1) := dk_28 (dk_at dksX3_canWith_0 15 rfl rfl)
theorem dX3_canWith_16 : decode cX3_canWith 16 = .ok (.ifCond .le 50, 3) := dk_158 0 50 (dk_at dksX3_canWith_0 16 rfl rfl)
theorem dX3_canWith_19 : decode cX3_canWith 19 = .ok (.iload_n 1, 1) := dk_27 (dk_at dksX3_canWith_0 19 rfl rfl)
theorem dX3_canWith_20 : decode cX3_canWith 20 = .ok (.iload_n 2, 1) := dk_28 (dk_at dksX3_canWith_0 20 rfl rfl)
theorem dX3_canWith_21 : decode cX3_canWith 21 = .ok (.iadd, 1) := dk_96 (dk_at dksX3_canWith_0 21 rfl rfl)
theorem dX3_canWith_22 : decode cX3_canWith 22 = .ok (.iconst 0, 1) := dk_3 (dk_at dksX3_canWith_0 22 rfl rfl)
theorem dX3_canWith_23 : decode cX3_canWith 23 = .ok (.sipush 4000, 3) := dk_17 15 160 (dk_at dksX3_canWith_1 0 rfl rfl)
theorem dX3_canWith_26 : decode cX3_canWith 26 = .ok (.invokestatic 52, 3) := dk_184 0 52 (dk_at dksX3_canWith_1 3 rfl rfl)
theorem dX3_canWith_29 : decode cX3_canWith 29 = .ok (.ifCond .eq 18, 3) := dk_153 0 18 (dk_at dksX3_canWith_1 6 rfl rfl)
theorem dX3_canWith_32 : decode cX3_canWith 32 = .ok (.aload_n 0, 1) := dk_42 (dk_at dksX3_canWith_1 9 rfl rfl)
theorem dX3_canWith_33 : decode cX3_canWith 33 = .ok (.getfield 22, 3) := dk_180 0 22 (dk_at dksX3_canWith_1 10 rfl rfl)
theorem dX3_canWith_36 : decode cX3_canWith 36 = .ok (.sipush 4000, 3) := dk_17 15 160 (dk_at dksX3_canWith_1 13 rfl rfl)
theorem dX3_canWith_39 : decode cX3_canWith 39 = .ok (.iload_n 1, 1) := dk_27 (dk_at dksX3_canWith_1 16 rfl rfl)
theorem dX3_canWith_40 : decode cX3_canWith 40 = .ok (.iadd, 1) := dk_96 (dk_at dksX3_canWith_1 17 rfl rfl)
theorem dX3_canWith_41 : decode cX3_canWith 41 = .ok (.iload_n 2, 1) := dk_28 (dk_at dksX3_canWith_1 18 rfl rfl)
theorem dX3_canWith_42 : decode cX3_canWith 42 = .ok (.iadd, 1) := dk_96 (dk_at dksX3_canWith_1 19 rfl rfl)
theorem dX3_canWith_43 : decode cX3_canWith 43 = .ok (.baload, 1) := dk_51 (dk_at dksX3_canWith_1 20 rfl rfl)
theorem dX3_canWith_44 : decode cX3_canWith 44 = .ok (.ifCond .ne 18, 3) := dk_154 0 18 (dk_at dksX3_canWith_1 21 rfl rfl)
theorem dX3_canWith_47 : decode cX3_canWith 47 = .ok (.aload_n 0, 1) := dk_42 (dk_at dksX3_canWith_2 0 rfl rfl)
theorem dX3_canWith_48 : decode cX3_canWith 48 = .ok (.getfield 22, 3) := dk_180 0 22 (dk_at dksX3_canWith_2 1 rfl rfl)
theorem dX3_canWith_51 : decode cX3_canWith 51 = .ok (.sipush 4000, 3) := dk_17 15 160 (dk_at dksX3_canWith_2 4 rfl rfl)
theorem dX3_canWith_54 : decode cX3_canWith 54 = .ok (.iload_n 1, 1) := dk_27 (dk_at dksX3_canWith_2 7 rfl rfl)
theorem dX3_canWith_55 : decode cX3_canWith 55 = .ok (.iadd, 1) := dk_96 (dk_at dksX3_canWith_2 8 rfl rfl)
theorem dX3_canWith_56 : decode cX3_canWith 56 = .ok (.iload_n 2, 1) := dk_28 (dk_at dksX3_canWith_2 9 rfl rfl)
theorem dX3_canWith_57 : decode cX3_canWith 57 = .ok (.isub, 1) := dk_100 (dk_at dksX3_canWith_2 10 rfl rfl)
theorem dX3_canWith_58 : decode cX3_canWith 58 = .ok (.baload, 1) := dk_51 (dk_at dksX3_canWith_2 11 rfl rfl)
theorem dX3_canWith_59 : decode cX3_canWith 59 = .ok (.ifCond .eq 7, 3) := dk_153 0 7 (dk_at dksX3_canWith_2 12 rfl rfl)
theorem dX3_canWith_62 : decode cX3_canWith 62 = .ok (.iconst 1, 1) := dk_4 (dk_at dksX3_canWith_2 15 rfl rfl)
theorem dX3_canWith_63 : decode cX3_canWith 63 = .ok (.goto 4, 3) := dk_167 0 4 (dk_at dksX3_canWith_2 16 rfl rfl)
theorem dX3_canWith_66 : decode cX3_canWith 66 = .ok (.iconst 0, 1) := dk_3 (dk_at dksX3_canWith_2 19 rfl rfl)
theorem dX3_canWith_67 : decode cX3_canWith 67 = .ok (.ireturn, 1) := dk_172 (dk_at dksX3_canWith_2 20 rfl rfl)
abbrev cX3_masses : ByteArray := prog_5_method_30_code
def yX3_masses : MethodName := ⟨RX3, "masses", "()I"⟩
def dkwX3_masses_2 : List UInt8 := [3, 96, 60, 132, 2, 1, 167, 255, 225, 27, 172]
abbrev dktX3_masses_2 : List UInt8 := dkwX3_masses_2 ++ []
def dkwX3_masses_1 : List UInt8 := [17, 15, 160, 163, 0, 30, 27, 42, 180, 0, 22, 17, 15, 160, 28, 96, 51, 153, 0, 7, 4, 167, 0, 4]
abbrev dktX3_masses_1 : List UInt8 := dkwX3_masses_1 ++ dktX3_masses_2
def dkwX3_masses_0 : List UInt8 := [42, 3, 181, 0, 49, 42, 4, 42, 180, 0, 56, 120, 4, 100, 182, 0, 99, 3, 60, 4, 61, 28]
abbrev dktX3_masses_0 : List UInt8 := dkwX3_masses_0 ++ dktX3_masses_1
theorem dksX3_masses_0 : cX3_masses.data.toList.drop 0 = dktX3_masses_0 := by decide +kernel
theorem dksX3_masses_1 : cX3_masses.data.toList.drop 22 = dktX3_masses_1 := dk_seg dksX3_masses_0 22 rfl rfl
theorem dksX3_masses_2 : cX3_masses.data.toList.drop 46 = dktX3_masses_2 := dk_seg dksX3_masses_1 24 rfl rfl
theorem dX3_masses_0 : decode cX3_masses 0 = .ok (.aload_n 0, 1) := dk_42 (dk_at dksX3_masses_0 0 rfl rfl)
theorem dX3_masses_1 : decode cX3_masses 1 = .ok (.iconst 0, 1) := dk_3 (dk_at dksX3_masses_0 1 rfl rfl)
theorem dX3_masses_2 : decode cX3_masses 2 = .ok (.putfield 49, 3) := dk_181 0 49 (dk_at dksX3_masses_0 2 rfl rfl)
theorem dX3_masses_5 : decode cX3_masses 5 = .ok (.aload_n 0, 1) := dk_42 (dk_at dksX3_masses_0 5 rfl rfl)
theorem dX3_masses_6 : decode cX3_masses 6 = .ok (.iconst 1, 1) := dk_4 (dk_at dksX3_masses_0 6 rfl rfl)
theorem dX3_masses_7 : decode cX3_masses 7 = .ok (.aload_n 0, 1) := dk_42 (dk_at dksX3_masses_0 7 rfl rfl)
theorem dX3_masses_8 : decode cX3_masses 8 = .ok (.getfield 56, 3) := dk_180 0 56 (dk_at dksX3_masses_0 8 rfl rfl)
theorem dX3_masses_11 : decode cX3_masses 11 = .ok (.ishl, 1) := dk_120 (dk_at dksX3_masses_0 11 rfl rfl)
theorem dX3_masses_12 : decode cX3_masses 12 = .ok (.iconst 1, 1) := dk_4 (dk_at dksX3_masses_0 12 rfl rfl)
theorem dX3_masses_13 : decode cX3_masses 13 = .ok (.isub, 1) := dk_100 (dk_at dksX3_masses_0 13 rfl rfl)
theorem dX3_masses_14 : decode cX3_masses 14 = .ok (.invokevirtual 99, 3) := dk_182 0 99 (dk_at dksX3_masses_0 14 rfl rfl)
theorem dX3_masses_17 : decode cX3_masses 17 = .ok (.iconst 0, 1) := dk_3 (dk_at dksX3_masses_0 17 rfl rfl)
theorem dX3_masses_18 : decode cX3_masses 18 = .ok (.istore_n 1, 1) := dk_60 (dk_at dksX3_masses_0 18 rfl rfl)
theorem dX3_masses_19 : decode cX3_masses 19 = .ok (.iconst 1, 1) := dk_4 (dk_at dksX3_masses_0 19 rfl rfl)
theorem dX3_masses_20 : decode cX3_masses 20 = .ok (.istore_n 2, 1) := dk_61 (dk_at dksX3_masses_0 20 rfl rfl)
theorem dX3_masses_21 : decode cX3_masses 21 = .ok (.iload_n 2, 1) := dk_28 (dk_at dksX3_masses_0 21 rfl rfl)
theorem dX3_masses_22 : decode cX3_masses 22 = .ok (.sipush 4000, 3) := dk_17 15 160 (dk_at dksX3_masses_1 0 rfl rfl)
theorem dX3_masses_25 : decode cX3_masses 25 = .ok (.if_icmp .gt 30, 3) := dk_163 0 30 (dk_at dksX3_masses_1 3 rfl rfl)
theorem dX3_masses_28 : decode cX3_masses 28 = .ok (.iload_n 1, 1) := dk_27 (dk_at dksX3_masses_1 6 rfl rfl)
theorem dX3_masses_29 : decode cX3_masses 29 = .ok (.aload_n 0, 1) := dk_42 (dk_at dksX3_masses_1 7 rfl rfl)
theorem dX3_masses_30 : decode cX3_masses 30 = .ok (.getfield 22, 3) := dk_180 0 22 (dk_at dksX3_masses_1 8 rfl rfl)
theorem dX3_masses_33 : decode cX3_masses 33 = .ok (.sipush 4000, 3) := dk_17 15 160 (dk_at dksX3_masses_1 11 rfl rfl)
theorem dX3_masses_36 : decode cX3_masses 36 = .ok (.iload_n 2, 1) := dk_28 (dk_at dksX3_masses_1 14 rfl rfl)
theorem dX3_masses_37 : decode cX3_masses 37 = .ok (.iadd, 1) := dk_96 (dk_at dksX3_masses_1 15 rfl rfl)
theorem dX3_masses_38 : decode cX3_masses 38 = .ok (.baload, 1) := dk_51 (dk_at dksX3_masses_1 16 rfl rfl)
theorem dX3_masses_39 : decode cX3_masses 39 = .ok (.ifCond .eq 7, 3) := dk_153 0 7 (dk_at dksX3_masses_1 17 rfl rfl)
theorem dX3_masses_42 : decode cX3_masses 42 = .ok (.iconst 1, 1) := dk_4 (dk_at dksX3_masses_1 20 rfl rfl)
theorem dX3_masses_43 : decode cX3_masses 43 = .ok (.goto 4, 3) := dk_167 0 4 (dk_at dksX3_masses_1 21 rfl rfl)
theorem dX3_masses_46 : decode cX3_masses 46 = .ok (.iconst 0, 1) := dk_3 (dk_at dksX3_masses_2 0 rfl rfl)
theorem dX3_masses_47 : decode cX3_masses 47 = .ok (.iadd, 1) := dk_96 (dk_at dksX3_masses_2 1 rfl rfl)
theorem dX3_masses_48 : decode cX3_masses 48 = .ok (.istore_n 1, 1) := dk_60 (dk_at dksX3_masses_2 2 rfl rfl)
theorem dX3_masses_49 : decode cX3_masses 49 = .ok (.iinc 2 1, 3) := dk_132 2 1 (dk_at dksX3_masses_2 3 rfl rfl)
theorem dX3_masses_52 : decode cX3_masses 52 = .ok (.goto (-31), 3) := dk_167 255 225 (dk_at dksX3_masses_2 6 rfl rfl)
theorem dX3_masses_55 : decode cX3_masses 55 = .ok (.iload_n 1, 1) := dk_27 (dk_at dksX3_masses_2 9 rfl rfl)
theorem dX3_masses_56 : decode cX3_masses 56 = .ok (.ireturn, 1) := dk_172 (dk_at dksX3_masses_2 10 rfl rfl)
abbrev cX3_needed : ByteArray := prog_5_method_32_code
def yX3_needed : MethodName := ⟨RX3, "needed", "(I)I"⟩
def dkwX3_needed_3 : List UInt8 := [182, 0, 102, 27, 164, 0, 7, 29, 167, 0, 4, 28, 61, 132, 3, 1, 167, 255, 195, 28, 172]
abbrev dktX3_needed_3 : List UInt8 := dkwX3_needed_3 ++ []
def dkwX3_needed_2 : List UInt8 := [162, 0, 7, 4, 167, 0, 4, 3, 54, 4, 21, 4, 153, 0, 23, 42, 29, 182, 0, 99, 42, 3]
abbrev dktX3_needed_2 : List UInt8 := dkwX3_needed_2 ++ dktX3_needed_3
def dkwX3_needed_1 : List UInt8 := [62, 29, 4, 42, 180, 0, 56, 120, 162, 0, 57, 28, 2, 159, 0, 14, 29, 184, 0, 105, 28, 184, 0, 105]
abbrev dktX3_needed_1 : List UInt8 := dkwX3_needed_1 ++ dktX3_needed_2
def dkwX3_needed_0 : List UInt8 := [42, 27, 184, 0, 74, 153, 0, 7, 3, 167, 0, 4, 4, 182, 0, 59, 154, 0, 5, 3, 172, 2, 61, 3]
abbrev dktX3_needed_0 : List UInt8 := dkwX3_needed_0 ++ dktX3_needed_1
theorem dksX3_needed_0 : cX3_needed.data.toList.drop 0 = dktX3_needed_0 := by decide +kernel
theorem dksX3_needed_1 : cX3_needed.data.toList.drop 24 = dktX3_needed_1 := dk_seg dksX3_needed_0 24 rfl rfl
theorem dksX3_needed_2 : cX3_needed.data.toList.drop 48 = dktX3_needed_2 := dk_seg dksX3_needed_1 24 rfl rfl
theorem dksX3_needed_3 : cX3_needed.data.toList.drop 70 = dktX3_needed_3 := dk_seg dksX3_needed_2 22 rfl rfl
theorem dX3_needed_0 : decode cX3_needed 0 = .ok (.aload_n 0, 1) := dk_42 (dk_at dksX3_needed_0 0 rfl rfl)
theorem dX3_needed_1 : decode cX3_needed 1 = .ok (.iload_n 1, 1) := dk_27 (dk_at dksX3_needed_0 1 rfl rfl)
theorem dX3_needed_2 : decode cX3_needed 2 = .ok (.invokestatic 74, 3) := dk_184 0 74 (dk_at dksX3_needed_0 2 rfl rfl)
theorem dX3_needed_5 : decode cX3_needed 5 = .ok (.ifCond .eq 7, 3) := dk_153 0 7 (dk_at dksX3_needed_0 5 rfl rfl)
theorem dX3_needed_8 : decode cX3_needed 8 = .ok (.iconst 0, 1) := dk_3 (dk_at dksX3_needed_0 8 rfl rfl)
theorem dX3_needed_9 : decode cX3_needed 9 = .ok (.goto 4, 3) := dk_167 0 4 (dk_at dksX3_needed_0 9 rfl rfl)
theorem dX3_needed_12 : decode cX3_needed 12 = .ok (.iconst 1, 1) := dk_4 (dk_at dksX3_needed_0 12 rfl rfl)
theorem dX3_needed_13 : decode cX3_needed 13 = .ok (.invokevirtual 59, 3) := dk_182 0 59 (dk_at dksX3_needed_0 13 rfl rfl)
theorem dX3_needed_16 : decode cX3_needed 16 = .ok (.ifCond .ne 5, 3) := dk_154 0 5 (dk_at dksX3_needed_0 16 rfl rfl)
theorem dX3_needed_19 : decode cX3_needed 19 = .ok (.iconst 0, 1) := dk_3 (dk_at dksX3_needed_0 19 rfl rfl)
theorem dX3_needed_20 : decode cX3_needed 20 = .ok (.ireturn, 1) := dk_172 (dk_at dksX3_needed_0 20 rfl rfl)
theorem dX3_needed_21 : decode cX3_needed 21 = .ok (.iconst (-1), 1) := dk_2 (dk_at dksX3_needed_0 21 rfl rfl)
theorem dX3_needed_22 : decode cX3_needed 22 = .ok (.istore_n 2, 1) := dk_61 (dk_at dksX3_needed_0 22 rfl rfl)
theorem dX3_needed_23 : decode cX3_needed 23 = .ok (.iconst 0, 1) := dk_3 (dk_at dksX3_needed_0 23 rfl rfl)
theorem dX3_needed_24 : decode cX3_needed 24 = .ok (.istore_n 3, 1) := dk_62 (dk_at dksX3_needed_1 0 rfl rfl)
theorem dX3_needed_25 : decode cX3_needed 25 = .ok (.iload_n 3, 1) := dk_29 (dk_at dksX3_needed_1 1 rfl rfl)
theorem dX3_needed_26 : decode cX3_needed 26 = .ok (.iconst 1, 1) := dk_4 (dk_at dksX3_needed_1 2 rfl rfl)
theorem dX3_needed_27 : decode cX3_needed 27 = .ok (.aload_n 0, 1) := dk_42 (dk_at dksX3_needed_1 3 rfl rfl)
theorem dX3_needed_28 : decode cX3_needed 28 = .ok (.getfield 56, 3) := dk_180 0 56 (dk_at dksX3_needed_1 4 rfl rfl)
theorem dX3_needed_31 : decode cX3_needed 31 = .ok (.ishl, 1) := dk_120 (dk_at dksX3_needed_1 7 rfl rfl)
theorem dX3_needed_32 : decode cX3_needed 32 = .ok (.if_icmp .ge 57, 3) := dk_162 0 57 (dk_at dksX3_needed_1 8 rfl rfl)
theorem dX3_needed_35 : decode cX3_needed 35 = .ok (.iload_n 2, 1) := dk_28 (dk_at dksX3_needed_1 11 rfl rfl)
theorem dX3_needed_36 : decode cX3_needed 36 = .ok (.iconst (-1), 1) := dk_2 (dk_at dksX3_needed_1 12 rfl rfl)
theorem dX3_needed_37 : decode cX3_needed 37 = .ok (.if_icmp .eq 14, 3) := dk_159 0 14 (dk_at dksX3_needed_1 13 rfl rfl)
theorem dX3_needed_40 : decode cX3_needed 40 = .ok (.iload_n 3, 1) := dk_29 (dk_at dksX3_needed_1 16 rfl rfl)
theorem dX3_needed_41 : decode cX3_needed 41 = .ok (.invokestatic 105, 3) := dk_184 0 105 (dk_at dksX3_needed_1 17 rfl rfl)
theorem dX3_needed_44 : decode cX3_needed 44 = .ok (.iload_n 2, 1) := dk_28 (dk_at dksX3_needed_1 20 rfl rfl)
theorem dX3_needed_45 : decode cX3_needed 45 = .ok (.invokestatic 105, 3) := dk_184 0 105 (dk_at dksX3_needed_1 21 rfl rfl)
theorem dX3_needed_48 : decode cX3_needed 48 = .ok (.if_icmp .ge 7, 3) := dk_162 0 7 (dk_at dksX3_needed_2 0 rfl rfl)
theorem dX3_needed_51 : decode cX3_needed 51 = .ok (.iconst 1, 1) := dk_4 (dk_at dksX3_needed_2 3 rfl rfl)
theorem dX3_needed_52 : decode cX3_needed 52 = .ok (.goto 4, 3) := dk_167 0 4 (dk_at dksX3_needed_2 4 rfl rfl)
theorem dX3_needed_55 : decode cX3_needed 55 = .ok (.iconst 0, 1) := dk_3 (dk_at dksX3_needed_2 7 rfl rfl)
theorem dX3_needed_56 : decode cX3_needed 56 = .ok (.istore 4, 2) := dk_54 4 (dk_at dksX3_needed_2 8 rfl rfl)
theorem dX3_needed_58 : decode cX3_needed 58 = .ok (.iload 4, 2) := dk_21 4 (dk_at dksX3_needed_2 10 rfl rfl)
theorem dX3_needed_60 : decode cX3_needed 60 = .ok (.ifCond .eq 23, 3) := dk_153 0 23 (dk_at dksX3_needed_2 12 rfl rfl)
theorem dX3_needed_63 : decode cX3_needed 63 = .ok (.aload_n 0, 1) := dk_42 (dk_at dksX3_needed_2 15 rfl rfl)
theorem dX3_needed_64 : decode cX3_needed 64 = .ok (.iload_n 3, 1) := dk_29 (dk_at dksX3_needed_2 16 rfl rfl)
theorem dX3_needed_65 : decode cX3_needed 65 = .ok (.invokevirtual 99, 3) := dk_182 0 99 (dk_at dksX3_needed_2 17 rfl rfl)
theorem dX3_needed_68 : decode cX3_needed 68 = .ok (.aload_n 0, 1) := dk_42 (dk_at dksX3_needed_2 20 rfl rfl)
theorem dX3_needed_69 : decode cX3_needed 69 = .ok (.iconst 0, 1) := dk_3 (dk_at dksX3_needed_2 21 rfl rfl)
theorem dX3_needed_70 : decode cX3_needed 70 = .ok (.invokevirtual 102, 3) := dk_182 0 102 (dk_at dksX3_needed_3 0 rfl rfl)
theorem dX3_needed_73 : decode cX3_needed 73 = .ok (.iload_n 1, 1) := dk_27 (dk_at dksX3_needed_3 3 rfl rfl)
theorem dX3_needed_74 : decode cX3_needed 74 = .ok (.if_icmp .le 7, 3) := dk_164 0 7 (dk_at dksX3_needed_3 4 rfl rfl)
theorem dX3_needed_77 : decode cX3_needed 77 = .ok (.iload_n 3, 1) := dk_29 (dk_at dksX3_needed_3 7 rfl rfl)
theorem dX3_needed_78 : decode cX3_needed 78 = .ok (.goto 4, 3) := dk_167 0 4 (dk_at dksX3_needed_3 8 rfl rfl)
theorem dX3_needed_81 : decode cX3_needed 81 = .ok (.iload_n 2, 1) := dk_28 (dk_at dksX3_needed_3 11 rfl rfl)
theorem dX3_needed_82 : decode cX3_needed 82 = .ok (.istore_n 2, 1) := dk_61 (dk_at dksX3_needed_3 12 rfl rfl)
theorem dX3_needed_83 : decode cX3_needed 83 = .ok (.iinc 3 1, 3) := dk_132 3 1 (dk_at dksX3_needed_3 13 rfl rfl)
theorem dX3_needed_86 : decode cX3_needed 86 = .ok (.goto (-61), 3) := dk_167 255 195 (dk_at dksX3_needed_3 16 rfl rfl)
theorem dX3_needed_89 : decode cX3_needed 89 = .ok (.iload_n 2, 1) := dk_28 (dk_at dksX3_needed_3 19 rfl rfl)
theorem dX3_needed_90 : decode cX3_needed 90 = .ok (.ireturn, 1) := dk_172 (dk_at dksX3_needed_3 20 rfl rfl)
abbrev cX3_bitsOf : ByteArray := prog_5_method_31_code
def yX3_bitsOf : MethodName := ⟨RX3, "bitsOf", "(I)I"⟩
def dkwX3_bitsOf_1 : List UInt8 := [27, 172]
abbrev dktX3_bitsOf_1 : List UInt8 := dkwX3_bitsOf_1 ++ []
def dkwX3_bitsOf_0 : List UInt8 := [3, 60, 3, 61, 28, 16, 9, 162, 0, 17, 27, 26, 28, 122, 4, 126, 96, 60, 132, 2, 1, 167, 255, 239]
abbrev dktX3_bitsOf_0 : List UInt8 := dkwX3_bitsOf_0 ++ dktX3_bitsOf_1
theorem dksX3_bitsOf_0 : cX3_bitsOf.data.toList.drop 0 = dktX3_bitsOf_0 := by decide +kernel
theorem dksX3_bitsOf_1 : cX3_bitsOf.data.toList.drop 24 = dktX3_bitsOf_1 := dk_seg dksX3_bitsOf_0 24 rfl rfl
theorem dX3_bitsOf_0 : decode cX3_bitsOf 0 = .ok (.iconst 0, 1) := dk_3 (dk_at dksX3_bitsOf_0 0 rfl rfl)
theorem dX3_bitsOf_1 : decode cX3_bitsOf 1 = .ok (.istore_n 1, 1) := dk_60 (dk_at dksX3_bitsOf_0 1 rfl rfl)
theorem dX3_bitsOf_2 : decode cX3_bitsOf 2 = .ok (.iconst 0, 1) := dk_3 (dk_at dksX3_bitsOf_0 2 rfl rfl)
theorem dX3_bitsOf_3 : decode cX3_bitsOf 3 = .ok (.istore_n 2, 1) := dk_61 (dk_at dksX3_bitsOf_0 3 rfl rfl)
theorem dX3_bitsOf_4 : decode cX3_bitsOf 4 = .ok (.iload_n 2, 1) := dk_28 (dk_at dksX3_bitsOf_0 4 rfl rfl)
theorem dX3_bitsOf_5 : decode cX3_bitsOf 5 = .ok (.bipush 9, 2) := dk_16 9 (dk_at dksX3_bitsOf_0 5 rfl rfl)
theorem dX3_bitsOf_7 : decode cX3_bitsOf 7 = .ok (.if_icmp .ge 17, 3) := dk_162 0 17 (dk_at dksX3_bitsOf_0 7 rfl rfl)
theorem dX3_bitsOf_10 : decode cX3_bitsOf 10 = .ok (.iload_n 1, 1) := dk_27 (dk_at dksX3_bitsOf_0 10 rfl rfl)
theorem dX3_bitsOf_11 : decode cX3_bitsOf 11 = .ok (.iload_n 0, 1) := dk_26 (dk_at dksX3_bitsOf_0 11 rfl rfl)
theorem dX3_bitsOf_12 : decode cX3_bitsOf 12 = .ok (.iload_n 2, 1) := dk_28 (dk_at dksX3_bitsOf_0 12 rfl rfl)
theorem dX3_bitsOf_13 : decode cX3_bitsOf 13 = .ok (.ishr, 1) := dk_122 (dk_at dksX3_bitsOf_0 13 rfl rfl)
theorem dX3_bitsOf_14 : decode cX3_bitsOf 14 = .ok (.iconst 1, 1) := dk_4 (dk_at dksX3_bitsOf_0 14 rfl rfl)
theorem dX3_bitsOf_15 : decode cX3_bitsOf 15 = .ok (.iand, 1) := dk_126 (dk_at dksX3_bitsOf_0 15 rfl rfl)
theorem dX3_bitsOf_16 : decode cX3_bitsOf 16 = .ok (.iadd, 1) := dk_96 (dk_at dksX3_bitsOf_0 16 rfl rfl)
theorem dX3_bitsOf_17 : decode cX3_bitsOf 17 = .ok (.istore_n 1, 1) := dk_60 (dk_at dksX3_bitsOf_0 17 rfl rfl)
theorem dX3_bitsOf_18 : decode cX3_bitsOf 18 = .ok (.iinc 2 1, 3) := dk_132 2 1 (dk_at dksX3_bitsOf_0 18 rfl rfl)
theorem dX3_bitsOf_21 : decode cX3_bitsOf 21 = .ok (.goto (-17), 3) := dk_167 255 239 (dk_at dksX3_bitsOf_0 21 rfl rfl)
theorem dX3_bitsOf_24 : decode cX3_bitsOf 24 = .ok (.iload_n 1, 1) := dk_27 (dk_at dksX3_bitsOf_1 0 rfl rfl)
theorem dX3_bitsOf_25 : decode cX3_bitsOf 25 = .ok (.ireturn, 1) := dk_172 (dk_at dksX3_bitsOf_1 1 rfl rfl)
abbrev cX3_bestMore : ByteArray := prog_5_method_33_code
def yX3_bestMore : MethodName := ⟨RX3, "bestMore", "()I"⟩
def dkwX3_bestMore_3 : List UInt8 := [164, 0, 8, 21, 4, 167, 0, 4, 27, 60, 132, 3, 1, 167, 255, 214, 28, 172]
abbrev dktX3_bestMore_3 : List UInt8 := dkwX3_bestMore_3 ++ []
def dkwX3_bestMore_2 : List UInt8 := [42, 29, 182, 0, 102, 54, 4, 21, 4, 27, 164, 0, 7, 29, 167, 0, 4, 28, 61, 21, 4, 27]
abbrev dktX3_bestMore_2 : List UInt8 := dkwX3_bestMore_2 ++ dktX3_bestMore_3
def dkwX3_bestMore_1 : List UInt8 := [4, 42, 180, 0, 56, 120, 4, 100, 182, 0, 99, 3, 60, 3, 61, 4, 62, 29, 17, 1, 244, 163, 0, 41]
abbrev dktX3_bestMore_1 : List UInt8 := dkwX3_bestMore_1 ++ dktX3_bestMore_2
def dkwX3_bestMore_0 : List UInt8 := [42, 42, 180, 0, 56, 16, 7, 160, 0, 7, 4, 167, 0, 4, 3, 182, 0, 59, 154, 0, 5, 3, 172, 42]
abbrev dktX3_bestMore_0 : List UInt8 := dkwX3_bestMore_0 ++ dktX3_bestMore_1
theorem dksX3_bestMore_0 : cX3_bestMore.data.toList.drop 0 = dktX3_bestMore_0 := by decide +kernel
theorem dksX3_bestMore_1 : cX3_bestMore.data.toList.drop 24 = dktX3_bestMore_1 := dk_seg dksX3_bestMore_0 24 rfl rfl
theorem dksX3_bestMore_2 : cX3_bestMore.data.toList.drop 48 = dktX3_bestMore_2 := dk_seg dksX3_bestMore_1 24 rfl rfl
theorem dksX3_bestMore_3 : cX3_bestMore.data.toList.drop 70 = dktX3_bestMore_3 := dk_seg dksX3_bestMore_2 22 rfl rfl
theorem dX3_bestMore_0 : decode cX3_bestMore 0 = .ok (.aload_n 0, 1) := dk_42 (dk_at dksX3_bestMore_0 0 rfl rfl)
theorem dX3_bestMore_1 : decode cX3_bestMore 1 = .ok (.aload_n 0, 1) := dk_42 (dk_at dksX3_bestMore_0 1 rfl rfl)
theorem dX3_bestMore_2 : decode cX3_bestMore 2 = .ok (.getfield 56, 3) := dk_180 0 56 (dk_at dksX3_bestMore_0 2 rfl rfl)
theorem dX3_bestMore_5 : decode cX3_bestMore 5 = .ok (.bipush 7, 2) := dk_16 7 (dk_at dksX3_bestMore_0 5 rfl rfl)
theorem dX3_bestMore_7 : decode cX3_bestMore 7 = .ok (.if_icmp .ne 7, 3) := dk_160 0 7 (dk_at dksX3_bestMore_0 7 rfl rfl)
theorem dX3_bestMore_10 : decode cX3_bestMore 10 = .ok (.iconst 1, 1) := dk_4 (dk_at dksX3_bestMore_0 10 rfl rfl)
theorem dX3_bestMore_11 : decode cX3_bestMore 11 = .ok (.goto 4, 3) := dk_167 0 4 (dk_at dksX3_bestMore_0 11 rfl rfl)
theorem dX3_bestMore_14 : decode cX3_bestMore 14 = .ok (.iconst 0, 1) := dk_3 (dk_at dksX3_bestMore_0 14 rfl rfl)
theorem dX3_bestMore_15 : decode cX3_bestMore 15 = .ok (.invokevirtual 59, 3) := dk_182 0 59 (dk_at dksX3_bestMore_0 15 rfl rfl)
theorem dX3_bestMore_18 : decode cX3_bestMore 18 = .ok (.ifCond .ne 5, 3) := dk_154 0 5 (dk_at dksX3_bestMore_0 18 rfl rfl)
theorem dX3_bestMore_21 : decode cX3_bestMore 21 = .ok (.iconst 0, 1) := dk_3 (dk_at dksX3_bestMore_0 21 rfl rfl)
theorem dX3_bestMore_22 : decode cX3_bestMore 22 = .ok (.ireturn, 1) := dk_172 (dk_at dksX3_bestMore_0 22 rfl rfl)
theorem dX3_bestMore_23 : decode cX3_bestMore 23 = .ok (.aload_n 0, 1) := dk_42 (dk_at dksX3_bestMore_0 23 rfl rfl)
theorem dX3_bestMore_24 : decode cX3_bestMore 24 = .ok (.iconst 1, 1) := dk_4 (dk_at dksX3_bestMore_1 0 rfl rfl)
theorem dX3_bestMore_25 : decode cX3_bestMore 25 = .ok (.aload_n 0, 1) := dk_42 (dk_at dksX3_bestMore_1 1 rfl rfl)
theorem dX3_bestMore_26 : decode cX3_bestMore 26 = .ok (.getfield 56, 3) := dk_180 0 56 (dk_at dksX3_bestMore_1 2 rfl rfl)
theorem dX3_bestMore_29 : decode cX3_bestMore 29 = .ok (.ishl, 1) := dk_120 (dk_at dksX3_bestMore_1 5 rfl rfl)
theorem dX3_bestMore_30 : decode cX3_bestMore 30 = .ok (.iconst 1, 1) := dk_4 (dk_at dksX3_bestMore_1 6 rfl rfl)
theorem dX3_bestMore_31 : decode cX3_bestMore 31 = .ok (.isub, 1) := dk_100 (dk_at dksX3_bestMore_1 7 rfl rfl)
theorem dX3_bestMore_32 : decode cX3_bestMore 32 = .ok (.invokevirtual 99, 3) := dk_182 0 99 (dk_at dksX3_bestMore_1 8 rfl rfl)
theorem dX3_bestMore_35 : decode cX3_bestMore 35 = .ok (.iconst 0, 1) := dk_3 (dk_at dksX3_bestMore_1 11 rfl rfl)
theorem dX3_bestMore_36 : decode cX3_bestMore 36 = .ok (.istore_n 1, 1) := dk_60 (dk_at dksX3_bestMore_1 12 rfl rfl)
theorem dX3_bestMore_37 : decode cX3_bestMore 37 = .ok (.iconst 0, 1) := dk_3 (dk_at dksX3_bestMore_1 13 rfl rfl)
theorem dX3_bestMore_38 : decode cX3_bestMore 38 = .ok (.istore_n 2, 1) := dk_61 (dk_at dksX3_bestMore_1 14 rfl rfl)
theorem dX3_bestMore_39 : decode cX3_bestMore 39 = .ok (.iconst 1, 1) := dk_4 (dk_at dksX3_bestMore_1 15 rfl rfl)
theorem dX3_bestMore_40 : decode cX3_bestMore 40 = .ok (.istore_n 3, 1) := dk_62 (dk_at dksX3_bestMore_1 16 rfl rfl)
theorem dX3_bestMore_41 : decode cX3_bestMore 41 = .ok (.iload_n 3, 1) := dk_29 (dk_at dksX3_bestMore_1 17 rfl rfl)
theorem dX3_bestMore_42 : decode cX3_bestMore 42 = .ok (.sipush 500, 3) := dk_17 1 244 (dk_at dksX3_bestMore_1 18 rfl rfl)
theorem dX3_bestMore_45 : decode cX3_bestMore 45 = .ok (.if_icmp .gt 41, 3) := dk_163 0 41 (dk_at dksX3_bestMore_1 21 rfl rfl)
theorem dX3_bestMore_48 : decode cX3_bestMore 48 = .ok (.aload_n 0, 1) := dk_42 (dk_at dksX3_bestMore_2 0 rfl rfl)
theorem dX3_bestMore_49 : decode cX3_bestMore 49 = .ok (.iload_n 3, 1) := dk_29 (dk_at dksX3_bestMore_2 1 rfl rfl)
theorem dX3_bestMore_50 : decode cX3_bestMore 50 = .ok (.invokevirtual 102, 3) := dk_182 0 102 (dk_at dksX3_bestMore_2 2 rfl rfl)
theorem dX3_bestMore_53 : decode cX3_bestMore 53 = .ok (.istore 4, 2) := dk_54 4 (dk_at dksX3_bestMore_2 5 rfl rfl)
theorem dX3_bestMore_55 : decode cX3_bestMore 55 = .ok (.iload 4, 2) := dk_21 4 (dk_at dksX3_bestMore_2 7 rfl rfl)
theorem dX3_bestMore_57 : decode cX3_bestMore 57 = .ok (.iload_n 1, 1) := dk_27 (dk_at dksX3_bestMore_2 9 rfl rfl)
theorem dX3_bestMore_58 : decode cX3_bestMore 58 = .ok (.if_icmp .le 7, 3) := dk_164 0 7 (dk_at dksX3_bestMore_2 10 rfl rfl)
theorem dX3_bestMore_61 : decode cX3_bestMore 61 = .ok (.iload_n 3, 1) := dk_29 (dk_at dksX3_bestMore_2 13 rfl rfl)
theorem dX3_bestMore_62 : decode cX3_bestMore 62 = .ok (.goto 4, 3) := dk_167 0 4 (dk_at dksX3_bestMore_2 14 rfl rfl)
theorem dX3_bestMore_65 : decode cX3_bestMore 65 = .ok (.iload_n 2, 1) := dk_28 (dk_at dksX3_bestMore_2 17 rfl rfl)
theorem dX3_bestMore_66 : decode cX3_bestMore 66 = .ok (.istore_n 2, 1) := dk_61 (dk_at dksX3_bestMore_2 18 rfl rfl)
theorem dX3_bestMore_67 : decode cX3_bestMore 67 = .ok (.iload 4, 2) := dk_21 4 (dk_at dksX3_bestMore_2 19 rfl rfl)
theorem dX3_bestMore_69 : decode cX3_bestMore 69 = .ok (.iload_n 1, 1) := dk_27 (dk_at dksX3_bestMore_2 21 rfl rfl)
theorem dX3_bestMore_70 : decode cX3_bestMore 70 = .ok (.if_icmp .le 8, 3) := dk_164 0 8 (dk_at dksX3_bestMore_3 0 rfl rfl)
theorem dX3_bestMore_73 : decode cX3_bestMore 73 = .ok (.iload 4, 2) := dk_21 4 (dk_at dksX3_bestMore_3 3 rfl rfl)
theorem dX3_bestMore_75 : decode cX3_bestMore 75 = .ok (.goto 4, 3) := dk_167 0 4 (dk_at dksX3_bestMore_3 5 rfl rfl)
theorem dX3_bestMore_78 : decode cX3_bestMore 78 = .ok (.iload_n 1, 1) := dk_27 (dk_at dksX3_bestMore_3 8 rfl rfl)
theorem dX3_bestMore_79 : decode cX3_bestMore 79 = .ok (.istore_n 1, 1) := dk_60 (dk_at dksX3_bestMore_3 9 rfl rfl)
theorem dX3_bestMore_80 : decode cX3_bestMore 80 = .ok (.iinc 3 1, 3) := dk_132 3 1 (dk_at dksX3_bestMore_3 10 rfl rfl)
theorem dX3_bestMore_83 : decode cX3_bestMore 83 = .ok (.goto (-42), 3) := dk_167 255 214 (dk_at dksX3_bestMore_3 13 rfl rfl)
theorem dX3_bestMore_86 : decode cX3_bestMore 86 = .ok (.iload_n 2, 1) := dk_28 (dk_at dksX3_bestMore_3 16 rfl rfl)
theorem dX3_bestMore_87 : decode cX3_bestMore 87 = .ok (.ireturn, 1) := dk_172 (dk_at dksX3_bestMore_3 17 rfl rfl)
abbrev cX3_lay : ByteArray := prog_5_method_48_code
def yX3_lay : MethodName := ⟨RX3, "lay", "(I)I"⟩
def dkwX3_lay_1 : List UInt8 := [42, 27, 182, 0, 45, 42, 182, 0, 144, 172]
abbrev dktX3_lay_1 : List UInt8 := dkwX3_lay_1 ++ []
def dkwX3_lay_0 : List UInt8 := [42, 27, 6, 16, 9, 184, 0, 52, 153, 0, 7, 3, 167, 0, 4, 4, 182, 0, 59, 154, 0, 5, 3, 172]
abbrev dktX3_lay_0 : List UInt8 := dkwX3_lay_0 ++ dktX3_lay_1
theorem dksX3_lay_0 : cX3_lay.data.toList.drop 0 = dktX3_lay_0 := by decide +kernel
theorem dksX3_lay_1 : cX3_lay.data.toList.drop 24 = dktX3_lay_1 := dk_seg dksX3_lay_0 24 rfl rfl
theorem dX3_lay_0 : decode cX3_lay 0 = .ok (.aload_n 0, 1) := dk_42 (dk_at dksX3_lay_0 0 rfl rfl)
theorem dX3_lay_1 : decode cX3_lay 1 = .ok (.iload_n 1, 1) := dk_27 (dk_at dksX3_lay_0 1 rfl rfl)
theorem dX3_lay_2 : decode cX3_lay 2 = .ok (.iconst 3, 1) := dk_6 (dk_at dksX3_lay_0 2 rfl rfl)
theorem dX3_lay_3 : decode cX3_lay 3 = .ok (.bipush 9, 2) := dk_16 9 (dk_at dksX3_lay_0 3 rfl rfl)
theorem dX3_lay_5 : decode cX3_lay 5 = .ok (.invokestatic 52, 3) := dk_184 0 52 (dk_at dksX3_lay_0 5 rfl rfl)
theorem dX3_lay_8 : decode cX3_lay 8 = .ok (.ifCond .eq 7, 3) := dk_153 0 7 (dk_at dksX3_lay_0 8 rfl rfl)
theorem dX3_lay_11 : decode cX3_lay 11 = .ok (.iconst 0, 1) := dk_3 (dk_at dksX3_lay_0 11 rfl rfl)
theorem dX3_lay_12 : decode cX3_lay 12 = .ok (.goto 4, 3) := dk_167 0 4 (dk_at dksX3_lay_0 12 rfl rfl)
theorem dX3_lay_15 : decode cX3_lay 15 = .ok (.iconst 1, 1) := dk_4 (dk_at dksX3_lay_0 15 rfl rfl)
theorem dX3_lay_16 : decode cX3_lay 16 = .ok (.invokevirtual 59, 3) := dk_182 0 59 (dk_at dksX3_lay_0 16 rfl rfl)
theorem dX3_lay_19 : decode cX3_lay 19 = .ok (.ifCond .ne 5, 3) := dk_154 0 5 (dk_at dksX3_lay_0 19 rfl rfl)
theorem dX3_lay_22 : decode cX3_lay 22 = .ok (.iconst 0, 1) := dk_3 (dk_at dksX3_lay_0 22 rfl rfl)
theorem dX3_lay_23 : decode cX3_lay 23 = .ok (.ireturn, 1) := dk_172 (dk_at dksX3_lay_0 23 rfl rfl)
theorem dX3_lay_24 : decode cX3_lay 24 = .ok (.aload_n 0, 1) := dk_42 (dk_at dksX3_lay_1 0 rfl rfl)
theorem dX3_lay_25 : decode cX3_lay 25 = .ok (.iload_n 1, 1) := dk_27 (dk_at dksX3_lay_1 1 rfl rfl)
theorem dX3_lay_26 : decode cX3_lay 26 = .ok (.invokevirtual 45, 3) := dk_182 0 45 (dk_at dksX3_lay_1 2 rfl rfl)
theorem dX3_lay_29 : decode cX3_lay 29 = .ok (.aload_n 0, 1) := dk_42 (dk_at dksX3_lay_1 5 rfl rfl)
theorem dX3_lay_30 : decode cX3_lay 30 = .ok (.invokevirtual 144, 3) := dk_182 0 144 (dk_at dksX3_lay_1 6 rfl rfl)
theorem dX3_lay_33 : decode cX3_lay 33 = .ok (.ireturn, 1) := dk_172 (dk_at dksX3_lay_1 9 rfl rfl)
abbrev cX3_need : ByteArray := prog_5_method_46_code
def yX3_need : MethodName := ⟨RX3, "need", "()I"⟩
def dkwX3_need_0 : List UInt8 := [42, 180, 0, 33, 42, 42, 182, 0, 138, 182, 0, 141, 46, 172]
abbrev dktX3_need_0 : List UInt8 := dkwX3_need_0 ++ []
theorem dksX3_need_0 : cX3_need.data.toList.drop 0 = dktX3_need_0 := by decide +kernel
theorem dX3_need_0 : decode cX3_need 0 = .ok (.aload_n 0, 1) := dk_42 (dk_at dksX3_need_0 0 rfl rfl)
theorem dX3_need_1 : decode cX3_need 1 = .ok (.getfield 33, 3) := dk_180 0 33 (dk_at dksX3_need_0 1 rfl rfl)
theorem dX3_need_4 : decode cX3_need 4 = .ok (.aload_n 0, 1) := dk_42 (dk_at dksX3_need_0 4 rfl rfl)
theorem dX3_need_5 : decode cX3_need 5 = .ok (.aload_n 0, 1) := dk_42 (dk_at dksX3_need_0 5 rfl rfl)
theorem dX3_need_6 : decode cX3_need 6 = .ok (.invokevirtual 138, 3) := dk_182 0 138 (dk_at dksX3_need_0 6 rfl rfl)
theorem dX3_need_9 : decode cX3_need 9 = .ok (.invokevirtual 141, 3) := dk_182 0 141 (dk_at dksX3_need_0 9 rfl rfl)
theorem dX3_need_12 : decode cX3_need 12 = .ok (.iaload, 1) := dk_46 (dk_at dksX3_need_0 12 rfl rfl)
theorem dX3_need_13 : decode cX3_need 13 = .ok (.ireturn, 1) := dk_172 (dk_at dksX3_need_0 13 rfl rfl)
abbrev cX3_all : ByteArray := prog_5_method_45_code
def yX3_all : MethodName := ⟨RX3, "all", "()I"⟩
def dkwX3_all_0 : List UInt8 := [4, 42, 180, 0, 26, 120, 4, 100, 172]
abbrev dktX3_all_0 : List UInt8 := dkwX3_all_0 ++ []
theorem dksX3_all_0 : cX3_all.data.toList.drop 0 = dktX3_all_0 := by decide +kernel
theorem dX3_all_0 : decode cX3_all 0 = .ok (.iconst 1, 1) := dk_4 (dk_at dksX3_all_0 0 rfl rfl)
theorem dX3_all_1 : decode cX3_all 1 = .ok (.aload_n 0, 1) := dk_42 (dk_at dksX3_all_0 1 rfl rfl)
theorem dX3_all_2 : decode cX3_all 2 = .ok (.getfield 26, 3) := dk_180 0 26 (dk_at dksX3_all_0 2 rfl rfl)
theorem dX3_all_5 : decode cX3_all 5 = .ok (.ishl, 1) := dk_120 (dk_at dksX3_all_0 5 rfl rfl)
theorem dX3_all_6 : decode cX3_all 6 = .ok (.iconst 1, 1) := dk_4 (dk_at dksX3_all_0 6 rfl rfl)
theorem dX3_all_7 : decode cX3_all 7 = .ok (.isub, 1) := dk_100 (dk_at dksX3_all_0 7 rfl rfl)
theorem dX3_all_8 : decode cX3_all 8 = .ok (.ireturn, 1) := dk_172 (dk_at dksX3_all_0 8 rfl rfl)
abbrev cX3_kindsOf : ByteArray := prog_5_method_44_code
def yX3_kindsOf : MethodName := ⟨RX3, "kindsOf", "(I)I"⟩
def dkwX3_kindsOf_3 : List UInt8 := [132, 3, 1, 167, 255, 189, 28, 172]
abbrev dktX3_kindsOf_3 : List UInt8 := dkwX3_kindsOf_3 ++ []
def dkwX3_kindsOf_2 : List UInt8 := [16, 10, 167, 0, 18, 42, 180, 0, 30, 29, 46, 5, 160, 0, 7, 4, 167, 0, 4, 3, 96, 61]
abbrev dktX3_kindsOf_2 : List UInt8 := dkwX3_kindsOf_2 ++ dktX3_kindsOf_3
def dkwX3_kindsOf_1 : List UInt8 := [180, 0, 30, 29, 46, 6, 160, 0, 8, 16, 100, 167, 0, 33, 42, 180, 0, 30, 29, 46, 4, 160, 0, 8]
abbrev dktX3_kindsOf_1 : List UInt8 := dkwX3_kindsOf_1 ++ dktX3_kindsOf_2
def dkwX3_kindsOf_0 : List UInt8 := [3, 61, 3, 62, 29, 42, 180, 0, 26, 162, 0, 65, 27, 29, 184, 0, 92, 153, 0, 51, 28, 42]
abbrev dktX3_kindsOf_0 : List UInt8 := dkwX3_kindsOf_0 ++ dktX3_kindsOf_1
theorem dksX3_kindsOf_0 : cX3_kindsOf.data.toList.drop 0 = dktX3_kindsOf_0 := by decide +kernel
theorem dksX3_kindsOf_1 : cX3_kindsOf.data.toList.drop 22 = dktX3_kindsOf_1 := dk_seg dksX3_kindsOf_0 22 rfl rfl
theorem dksX3_kindsOf_2 : cX3_kindsOf.data.toList.drop 46 = dktX3_kindsOf_2 := dk_seg dksX3_kindsOf_1 24 rfl rfl
theorem dksX3_kindsOf_3 : cX3_kindsOf.data.toList.drop 68 = dktX3_kindsOf_3 := dk_seg dksX3_kindsOf_2 22 rfl rfl
theorem dX3_kindsOf_0 : decode cX3_kindsOf 0 = .ok (.iconst 0, 1) := dk_3 (dk_at dksX3_kindsOf_0 0 rfl rfl)
theorem dX3_kindsOf_1 : decode cX3_kindsOf 1 = .ok (.istore_n 2, 1) := dk_61 (dk_at dksX3_kindsOf_0 1 rfl rfl)
theorem dX3_kindsOf_2 : decode cX3_kindsOf 2 = .ok (.iconst 0, 1) := dk_3 (dk_at dksX3_kindsOf_0 2 rfl rfl)
theorem dX3_kindsOf_3 : decode cX3_kindsOf 3 = .ok (.istore_n 3, 1) := dk_62 (dk_at dksX3_kindsOf_0 3 rfl rfl)
theorem dX3_kindsOf_4 : decode cX3_kindsOf 4 = .ok (.iload_n 3, 1) := dk_29 (dk_at dksX3_kindsOf_0 4 rfl rfl)
theorem dX3_kindsOf_5 : decode cX3_kindsOf 5 = .ok (.aload_n 0, 1) := dk_42 (dk_at dksX3_kindsOf_0 5 rfl rfl)
theorem dX3_kindsOf_6 : decode cX3_kindsOf 6 = .ok (.getfield 26, 3) := dk_180 0 26 (dk_at dksX3_kindsOf_0 6 rfl rfl)
theorem dX3_kindsOf_9 : decode cX3_kindsOf 9 = .ok (.if_icmp .ge 65, 3) := dk_162 0 65 (dk_at dksX3_kindsOf_0 9 rfl rfl)
theorem dX3_kindsOf_12 : decode cX3_kindsOf 12 = .ok (.iload_n 1, 1) := dk_27 (dk_at dksX3_kindsOf_0 12 rfl rfl)
theorem dX3_kindsOf_13 : decode cX3_kindsOf 13 = .ok (.iload_n 3, 1) := dk_29 (dk_at dksX3_kindsOf_0 13 rfl rfl)
theorem dX3_kindsOf_14 : decode cX3_kindsOf 14 = .ok (.invokestatic 92, 3) := dk_184 0 92 (dk_at dksX3_kindsOf_0 14 rfl rfl)
theorem dX3_kindsOf_17 : decode cX3_kindsOf 17 = .ok (.ifCond .eq 51, 3) := dk_153 0 51 (dk_at dksX3_kindsOf_0 17 rfl rfl)
theorem dX3_kindsOf_20 : decode cX3_kindsOf 20 = .ok (.iload_n 2, 1) := dk_28 (dk_at dksX3_kindsOf_0 20 rfl rfl)
theorem dX3_kindsOf_21 : decode cX3_kindsOf 21 = .ok (.aload_n 0, 1) := dk_42 (dk_at dksX3_kindsOf_0 21 rfl rfl)
theorem dX3_kindsOf_22 : decode cX3_kindsOf 22 = .ok (.getfield 30, 3) := dk_180 0 30 (dk_at dksX3_kindsOf_1 0 rfl rfl)
theorem dX3_kindsOf_25 : decode cX3_kindsOf 25 = .ok (.iload_n 3, 1) := dk_29 (dk_at dksX3_kindsOf_1 3 rfl rfl)
theorem dX3_kindsOf_26 : decode cX3_kindsOf 26 = .ok (.iaload, 1) := dk_46 (dk_at dksX3_kindsOf_1 4 rfl rfl)
theorem dX3_kindsOf_27 : decode cX3_kindsOf 27 = .ok (.iconst 3, 1) := dk_6 (dk_at dksX3_kindsOf_1 5 rfl rfl)
theorem dX3_kindsOf_28 : decode cX3_kindsOf 28 = .ok (.if_icmp .ne 8, 3) := dk_160 0 8 (dk_at dksX3_kindsOf_1 6 rfl rfl)
theorem dX3_kindsOf_31 : decode cX3_kindsOf 31 = .ok (.bipush 100, 2) := dk_16 100 (dk_at dksX3_kindsOf_1 9 rfl rfl)
theorem dX3_kindsOf_33 : decode cX3_kindsOf 33 = .ok (.goto 33, 3) := dk_167 0 33 (dk_at dksX3_kindsOf_1 11 rfl rfl)
theorem dX3_kindsOf_36 : decode cX3_kindsOf 36 = .ok (.aload_n 0, 1) := dk_42 (dk_at dksX3_kindsOf_1 14 rfl rfl)
theorem dX3_kindsOf_37 : decode cX3_kindsOf 37 = .ok (.getfield 30, 3) := dk_180 0 30 (dk_at dksX3_kindsOf_1 15 rfl rfl)
theorem dX3_kindsOf_40 : decode cX3_kindsOf 40 = .ok (.iload_n 3, 1) := dk_29 (dk_at dksX3_kindsOf_1 18 rfl rfl)
theorem dX3_kindsOf_41 : decode cX3_kindsOf 41 = .ok (.iaload, 1) := dk_46 (dk_at dksX3_kindsOf_1 19 rfl rfl)
theorem dX3_kindsOf_42 : decode cX3_kindsOf 42 = .ok (.iconst 1, 1) := dk_4 (dk_at dksX3_kindsOf_1 20 rfl rfl)
theorem dX3_kindsOf_43 : decode cX3_kindsOf 43 = .ok (.if_icmp .ne 8, 3) := dk_160 0 8 (dk_at dksX3_kindsOf_1 21 rfl rfl)
theorem dX3_kindsOf_46 : decode cX3_kindsOf 46 = .ok (.bipush 10, 2) := dk_16 10 (dk_at dksX3_kindsOf_2 0 rfl rfl)
theorem dX3_kindsOf_48 : decode cX3_kindsOf 48 = .ok (.goto 18, 3) := dk_167 0 18 (dk_at dksX3_kindsOf_2 2 rfl rfl)
theorem dX3_kindsOf_51 : decode cX3_kindsOf 51 = .ok (.aload_n 0, 1) := dk_42 (dk_at dksX3_kindsOf_2 5 rfl rfl)
theorem dX3_kindsOf_52 : decode cX3_kindsOf 52 = .ok (.getfield 30, 3) := dk_180 0 30 (dk_at dksX3_kindsOf_2 6 rfl rfl)
theorem dX3_kindsOf_55 : decode cX3_kindsOf 55 = .ok (.iload_n 3, 1) := dk_29 (dk_at dksX3_kindsOf_2 9 rfl rfl)
theorem dX3_kindsOf_56 : decode cX3_kindsOf 56 = .ok (.iaload, 1) := dk_46 (dk_at dksX3_kindsOf_2 10 rfl rfl)
theorem dX3_kindsOf_57 : decode cX3_kindsOf 57 = .ok (.iconst 2, 1) := dk_5 (dk_at dksX3_kindsOf_2 11 rfl rfl)
theorem dX3_kindsOf_58 : decode cX3_kindsOf 58 = .ok (.if_icmp .ne 7, 3) := dk_160 0 7 (dk_at dksX3_kindsOf_2 12 rfl rfl)
theorem dX3_kindsOf_61 : decode cX3_kindsOf 61 = .ok (.iconst 1, 1) := dk_4 (dk_at dksX3_kindsOf_2 15 rfl rfl)
theorem dX3_kindsOf_62 : decode cX3_kindsOf 62 = .ok (.goto 4, 3) := dk_167 0 4 (dk_at dksX3_kindsOf_2 16 rfl rfl)
theorem dX3_kindsOf_65 : decode cX3_kindsOf 65 = .ok (.iconst 0, 1) := dk_3 (dk_at dksX3_kindsOf_2 19 rfl rfl)
theorem dX3_kindsOf_66 : decode cX3_kindsOf 66 = .ok (.iadd, 1) := dk_96 (dk_at dksX3_kindsOf_2 20 rfl rfl)
theorem dX3_kindsOf_67 : decode cX3_kindsOf 67 = .ok (.istore_n 2, 1) := dk_61 (dk_at dksX3_kindsOf_2 21 rfl rfl)
theorem dX3_kindsOf_68 : decode cX3_kindsOf 68 = .ok (.iinc 3 1, 3) := dk_132 3 1 (dk_at dksX3_kindsOf_3 0 rfl rfl)
theorem dX3_kindsOf_71 : decode cX3_kindsOf 71 = .ok (.goto (-67), 3) := dk_167 255 189 (dk_at dksX3_kindsOf_3 3 rfl rfl)
theorem dX3_kindsOf_74 : decode cX3_kindsOf 74 = .ok (.iload_n 2, 1) := dk_28 (dk_at dksX3_kindsOf_3 6 rfl rfl)
theorem dX3_kindsOf_75 : decode cX3_kindsOf 75 = .ok (.ireturn, 1) := dk_172 (dk_at dksX3_kindsOf_3 7 rfl rfl)
abbrev cX3_weigh : ByteArray := prog_5_method_51_code
def yX3_weigh : MethodName := ⟨RX3, "weigh", "(III)I"⟩
def dkwX3_weigh_5 : List UInt8 := [182, 0, 150, 79, 132, 6, 1, 167, 255, 228, 42, 182, 0, 154, 172]
abbrev dktX3_weigh_5 : List UInt8 := dkwX3_weigh_5 ++ []
def dkwX3_weigh_4 : List UInt8 := [54, 6, 21, 6, 42, 180, 0, 26, 162, 0, 25, 42, 180, 0, 30, 21, 6, 42, 21, 6, 27, 28, 29]
abbrev dktX3_weigh_4 : List UInt8 := dkwX3_weigh_4 ++ dktX3_weigh_5
def dkwX3_weigh_3 : List UInt8 := [4, 167, 0, 13, 21, 5, 154, 0, 7, 5, 167, 0, 4, 3, 182, 0, 59, 154, 0, 5, 3, 172, 3]
abbrev dktX3_weigh_3 : List UInt8 := dkwX3_weigh_3 ++ dktX3_weigh_4
def dkwX3_weigh_2 : List UInt8 := [42, 21, 6, 27, 28, 29, 182, 0, 150, 96, 54, 5, 132, 6, 1, 167, 255, 225, 42, 21, 4, 154, 0, 7]
abbrev dktX3_weigh_2 : List UInt8 := dkwX3_weigh_2 ++ dktX3_weigh_3
def dkwX3_weigh_1 : List UInt8 := [54, 4, 3, 54, 5, 3, 54, 6, 21, 6, 42, 180, 0, 26, 162, 0, 28, 21, 4, 153, 0, 23, 21, 5]
abbrev dktX3_weigh_1 : List UInt8 := dkwX3_weigh_1 ++ dktX3_weigh_2
def dkwX3_weigh_0 : List UInt8 := [29, 2, 4, 184, 0, 52, 153, 0, 16, 42, 27, 28, 182, 0, 147, 153, 0, 7, 4, 167, 0, 4, 3]
abbrev dktX3_weigh_0 : List UInt8 := dkwX3_weigh_0 ++ dktX3_weigh_1
theorem dksX3_weigh_0 : cX3_weigh.data.toList.drop 0 = dktX3_weigh_0 := by decide +kernel
theorem dksX3_weigh_1 : cX3_weigh.data.toList.drop 23 = dktX3_weigh_1 := dk_seg dksX3_weigh_0 23 rfl rfl
theorem dksX3_weigh_2 : cX3_weigh.data.toList.drop 47 = dktX3_weigh_2 := dk_seg dksX3_weigh_1 24 rfl rfl
theorem dksX3_weigh_3 : cX3_weigh.data.toList.drop 71 = dktX3_weigh_3 := dk_seg dksX3_weigh_2 24 rfl rfl
theorem dksX3_weigh_4 : cX3_weigh.data.toList.drop 94 = dktX3_weigh_4 := dk_seg dksX3_weigh_3 23 rfl rfl
theorem dksX3_weigh_5 : cX3_weigh.data.toList.drop 117 = dktX3_weigh_5 := dk_seg dksX3_weigh_4 23 rfl rfl
theorem dX3_weigh_0 : decode cX3_weigh 0 = .ok (.iload_n 3, 1) := dk_29 (dk_at dksX3_weigh_0 0 rfl rfl)
theorem dX3_weigh_1 : decode cX3_weigh 1 = .ok (.iconst (-1), 1) := dk_2 (dk_at dksX3_weigh_0 1 rfl rfl)
theorem dX3_weigh_2 : decode cX3_weigh 2 = .ok (.iconst 1, 1) := dk_4 (dk_at dksX3_weigh_0 2 rfl rfl)
theorem dX3_weigh_3 : decode cX3_weigh 3 = .ok (.invokestatic 52, 3) := dk_184 0 52 (dk_at dksX3_weigh_0 3 rfl rfl)
theorem dX3_weigh_6 : decode cX3_weigh 6 = .ok (.ifCond .eq 16, 3) := dk_153 0 16 (dk_at dksX3_weigh_0 6 rfl rfl)
theorem dX3_weigh_9 : decode cX3_weigh 9 = .ok (.aload_n 0, 1) := dk_42 (dk_at dksX3_weigh_0 9 rfl rfl)
theorem dX3_weigh_10 : decode cX3_weigh 10 = .ok (.iload_n 1, 1) := dk_27 (dk_at dksX3_weigh_0 10 rfl rfl)
theorem dX3_weigh_11 : decode cX3_weigh 11 = .ok (.iload_n 2, 1) := dk_28 (dk_at dksX3_weigh_0 11 rfl rfl)
theorem dX3_weigh_12 : decode cX3_weigh 12 = .ok (.invokevirtual 147, 3) := dk_182 0 147 (dk_at dksX3_weigh_0 12 rfl rfl)
theorem dX3_weigh_15 : decode cX3_weigh 15 = .ok (.ifCond .eq 7, 3) := dk_153 0 7 (dk_at dksX3_weigh_0 15 rfl rfl)
theorem dX3_weigh_18 : decode cX3_weigh 18 = .ok (.iconst 1, 1) := dk_4 (dk_at dksX3_weigh_0 18 rfl rfl)
theorem dX3_weigh_19 : decode cX3_weigh 19 = .ok (.goto 4, 3) := dk_167 0 4 (dk_at dksX3_weigh_0 19 rfl rfl)
theorem dX3_weigh_22 : decode cX3_weigh 22 = .ok (.iconst 0, 1) := dk_3 (dk_at dksX3_weigh_0 22 rfl rfl)
theorem dX3_weigh_23 : decode cX3_weigh 23 = .ok (.istore 4, 2) := dk_54 4 (dk_at dksX3_weigh_1 0 rfl rfl)
theorem dX3_weigh_25 : decode cX3_weigh 25 = .ok (.iconst 0, 1) := dk_3 (dk_at dksX3_weigh_1 2 rfl rfl)
theorem dX3_weigh_26 : decode cX3_weigh 26 = .ok (.istore 5, 2) := dk_54 5 (dk_at dksX3_weigh_1 3 rfl rfl)
theorem dX3_weigh_28 : decode cX3_weigh 28 = .ok (.iconst 0, 1) := dk_3 (dk_at dksX3_weigh_1 5 rfl rfl)
theorem dX3_weigh_29 : decode cX3_weigh 29 = .ok (.istore 6, 2) := dk_54 6 (dk_at dksX3_weigh_1 6 rfl rfl)
theorem dX3_weigh_31 : decode cX3_weigh 31 = .ok (.iload 6, 2) := dk_21 6 (dk_at dksX3_weigh_1 8 rfl rfl)
theorem dX3_weigh_33 : decode cX3_weigh 33 = .ok (.aload_n 0, 1) := dk_42 (dk_at dksX3_weigh_1 10 rfl rfl)
theorem dX3_weigh_34 : decode cX3_weigh 34 = .ok (.getfield 26, 3) := dk_180 0 26 (dk_at dksX3_weigh_1 11 rfl rfl)
theorem dX3_weigh_37 : decode cX3_weigh 37 = .ok (.if_icmp .ge 28, 3) := dk_162 0 28 (dk_at dksX3_weigh_1 14 rfl rfl)
theorem dX3_weigh_40 : decode cX3_weigh 40 = .ok (.iload 4, 2) := dk_21 4 (dk_at dksX3_weigh_1 17 rfl rfl)
theorem dX3_weigh_42 : decode cX3_weigh 42 = .ok (.ifCond .eq 23, 3) := dk_153 0 23 (dk_at dksX3_weigh_1 19 rfl rfl)
theorem dX3_weigh_45 : decode cX3_weigh 45 = .ok (.iload 5, 2) := dk_21 5 (dk_at dksX3_weigh_1 22 rfl rfl)
theorem dX3_weigh_47 : decode cX3_weigh 47 = .ok (.aload_n 0, 1) := dk_42 (dk_at dksX3_weigh_2 0 rfl rfl)
theorem dX3_weigh_48 : decode cX3_weigh 48 = .ok (.iload 6, 2) := dk_21 6 (dk_at dksX3_weigh_2 1 rfl rfl)
theorem dX3_weigh_50 : decode cX3_weigh 50 = .ok (.iload_n 1, 1) := dk_27 (dk_at dksX3_weigh_2 3 rfl rfl)
theorem dX3_weigh_51 : decode cX3_weigh 51 = .ok (.iload_n 2, 1) := dk_28 (dk_at dksX3_weigh_2 4 rfl rfl)
theorem dX3_weigh_52 : decode cX3_weigh 52 = .ok (.iload_n 3, 1) := dk_29 (dk_at dksX3_weigh_2 5 rfl rfl)
theorem dX3_weigh_53 : decode cX3_weigh 53 = .ok (.invokevirtual 150, 3) := dk_182 0 150 (dk_at dksX3_weigh_2 6 rfl rfl)
theorem dX3_weigh_56 : decode cX3_weigh 56 = .ok (.iadd, 1) := dk_96 (dk_at dksX3_weigh_2 9 rfl rfl)
theorem dX3_weigh_57 : decode cX3_weigh 57 = .ok (.istore 5, 2) := dk_54 5 (dk_at dksX3_weigh_2 10 rfl rfl)
theorem dX3_weigh_59 : decode cX3_weigh 59 = .ok (.iinc 6 1, 3) := dk_132 6 1 (dk_at dksX3_weigh_2 12 rfl rfl)
theorem dX3_weigh_62 : decode cX3_weigh 62 = .ok (.goto (-31), 3) := dk_167 255 225 (dk_at dksX3_weigh_2 15 rfl rfl)
theorem dX3_weigh_65 : decode cX3_weigh 65 = .ok (.aload_n 0, 1) := dk_42 (dk_at dksX3_weigh_2 18 rfl rfl)
theorem dX3_weigh_66 : decode cX3_weigh 66 = .ok (.iload 4, 2) := dk_21 4 (dk_at dksX3_weigh_2 19 rfl rfl)
theorem dX3_weigh_68 : decode cX3_weigh 68 = .ok (.ifCond .ne 7, 3) := dk_154 0 7 (dk_at dksX3_weigh_2 21 rfl rfl)
theorem dX3_weigh_71 : decode cX3_weigh 71 = .ok (.iconst 1, 1) := dk_4 (dk_at dksX3_weigh_3 0 rfl rfl)
theorem dX3_weigh_72 : decode cX3_weigh 72 = .ok (.goto 13, 3) := dk_167 0 13 (dk_at dksX3_weigh_3 1 rfl rfl)
theorem dX3_weigh_75 : decode cX3_weigh 75 = .ok (.iload 5, 2) := dk_21 5 (dk_at dksX3_weigh_3 4 rfl rfl)
theorem dX3_weigh_77 : decode cX3_weigh 77 = .ok (.ifCond .ne 7, 3) := dk_154 0 7 (dk_at dksX3_weigh_3 6 rfl rfl)
theorem dX3_weigh_80 : decode cX3_weigh 80 = .ok (.iconst 2, 1) := dk_5 (dk_at dksX3_weigh_3 9 rfl rfl)
theorem dX3_weigh_81 : decode cX3_weigh 81 = .ok (.goto 4, 3) := dk_167 0 4 (dk_at dksX3_weigh_3 10 rfl rfl)
theorem dX3_weigh_84 : decode cX3_weigh 84 = .ok (.iconst 0, 1) := dk_3 (dk_at dksX3_weigh_3 13 rfl rfl)
theorem dX3_weigh_85 : decode cX3_weigh 85 = .ok (.invokevirtual 59, 3) := dk_182 0 59 (dk_at dksX3_weigh_3 14 rfl rfl)
theorem dX3_weigh_88 : decode cX3_weigh 88 = .ok (.ifCond .ne 5, 3) := dk_154 0 5 (dk_at dksX3_weigh_3 17 rfl rfl)
theorem dX3_weigh_91 : decode cX3_weigh 91 = .ok (.iconst 0, 1) := dk_3 (dk_at dksX3_weigh_3 20 rfl rfl)
theorem dX3_weigh_92 : decode cX3_weigh 92 = .ok (.ireturn, 1) := dk_172 (dk_at dksX3_weigh_3 21 rfl rfl)
theorem dX3_weigh_93 : decode cX3_weigh 93 = .ok (.iconst 0, 1) := dk_3 (dk_at dksX3_weigh_3 22 rfl rfl)
theorem dX3_weigh_94 : decode cX3_weigh 94 = .ok (.istore 6, 2) := dk_54 6 (dk_at dksX3_weigh_4 0 rfl rfl)
theorem dX3_weigh_96 : decode cX3_weigh 96 = .ok (.iload 6, 2) := dk_21 6 (dk_at dksX3_weigh_4 2 rfl rfl)
theorem dX3_weigh_98 : decode cX3_weigh 98 = .ok (.aload_n 0, 1) := dk_42 (dk_at dksX3_weigh_4 4 rfl rfl)
theorem dX3_weigh_99 : decode cX3_weigh 99 = .ok (.getfield 26, 3) := dk_180 0 26 (dk_at dksX3_weigh_4 5 rfl rfl)
theorem dX3_weigh_102 : decode cX3_weigh 102 = .ok (.if_icmp .ge 25, 3) := dk_162 0 25 (dk_at dksX3_weigh_4 8 rfl rfl)
theorem dX3_weigh_105 : decode cX3_weigh 105 = .ok (.aload_n 0, 1) := dk_42 (dk_at dksX3_weigh_4 11 rfl rfl)
theorem dX3_weigh_106 : decode cX3_weigh 106 = .ok (.getfield 30, 3) := dk_180 0 30 (dk_at dksX3_weigh_4 12 rfl rfl)
theorem dX3_weigh_109 : decode cX3_weigh 109 = .ok (.iload 6, 2) := dk_21 6 (dk_at dksX3_weigh_4 15 rfl rfl)
theorem dX3_weigh_111 : decode cX3_weigh 111 = .ok (.aload_n 0, 1) := dk_42 (dk_at dksX3_weigh_4 17 rfl rfl)
theorem dX3_weigh_112 : decode cX3_weigh 112 = .ok (.iload 6, 2) := dk_21 6 (dk_at dksX3_weigh_4 18 rfl rfl)
theorem dX3_weigh_114 : decode cX3_weigh 114 = .ok (.iload_n 1, 1) := dk_27 (dk_at dksX3_weigh_4 20 rfl rfl)
theorem dX3_weigh_115 : decode cX3_weigh 115 = .ok (.iload_n 2, 1) := dk_28 (dk_at dksX3_weigh_4 21 rfl rfl)
theorem dX3_weigh_116 : decode cX3_weigh 116 = .ok (.iload_n 3, 1) := dk_29 (dk_at dksX3_weigh_4 22 rfl rfl)
theorem dX3_weigh_117 : decode cX3_weigh 117 = .ok (.invokevirtual 150, 3) := dk_182 0 150 (dk_at dksX3_weigh_5 0 rfl rfl)
theorem dX3_weigh_120 : decode cX3_weigh 120 = .ok (.iastore, 1) := dk_79 (dk_at dksX3_weigh_5 3 rfl rfl)
theorem dX3_weigh_121 : decode cX3_weigh 121 = .ok (.iinc 6 1, 3) := dk_132 6 1 (dk_at dksX3_weigh_5 4 rfl rfl)
theorem dX3_weigh_124 : decode cX3_weigh 124 = .ok (.goto (-28), 3) := dk_167 255 228 (dk_at dksX3_weigh_5 7 rfl rfl)
theorem dX3_weigh_127 : decode cX3_weigh 127 = .ok (.aload_n 0, 1) := dk_42 (dk_at dksX3_weigh_5 10 rfl rfl)
theorem dX3_weigh_128 : decode cX3_weigh 128 = .ok (.invokevirtual 154, 3) := dk_182 0 154 (dk_at dksX3_weigh_5 11 rfl rfl)
theorem dX3_weigh_131 : decode cX3_weigh 131 = .ok (.ireturn, 1) := dk_172 (dk_at dksX3_weigh_5 14 rfl rfl)
abbrev cX3_isWeighing : ByteArray := prog_5_method_49_code
def yX3_isWeighing : MethodName := ⟨RX3, "isWeighing", "(II)Z"⟩
def dkwX3_isWeighing_2 : List UInt8 := [167, 0, 4, 3, 172]
abbrev dktX3_isWeighing_2 : List UInt8 := dkwX3_isWeighing_2 ++ []
def dkwX3_isWeighing_1 : List UInt8 := [29, 153, 0, 24, 27, 28, 126, 154, 0, 18, 27, 184, 0, 105, 28, 184, 0, 105, 160, 0, 7, 4]
abbrev dktX3_isWeighing_1 : List UInt8 := dkwX3_isWeighing_1 ++ dktX3_isWeighing_2
def dkwX3_isWeighing_0 : List UInt8 := [27, 158, 0, 21, 28, 158, 0, 17, 27, 28, 128, 42, 182, 0, 138, 163, 0, 7, 4, 167, 0, 4, 3, 62]
abbrev dktX3_isWeighing_0 : List UInt8 := dkwX3_isWeighing_0 ++ dktX3_isWeighing_1
theorem dksX3_isWeighing_0 : cX3_isWeighing.data.toList.drop 0 = dktX3_isWeighing_0 := by decide +kernel
theorem dksX3_isWeighing_1 : cX3_isWeighing.data.toList.drop 24 = dktX3_isWeighing_1 := dk_seg dksX3_isWeighing_0 24 rfl rfl
theorem dksX3_isWeighing_2 : cX3_isWeighing.data.toList.drop 46 = dktX3_isWeighing_2 := dk_seg dksX3_isWeighing_1 22 rfl rfl
theorem dX3_isWeighing_0 : decode cX3_isWeighing 0 = .ok (.iload_n 1, 1) := dk_27 (dk_at dksX3_isWeighing_0 0 rfl rfl)
theorem dX3_isWeighing_1 : decode cX3_isWeighing 1 = .ok (.ifCond .le 21, 3) := dk_158 0 21 (dk_at dksX3_isWeighing_0 1 rfl rfl)
theorem dX3_isWeighing_4 : decode cX3_isWeighing 4 = .ok (.iload_n 2, 1) := dk_28 (dk_at dksX3_isWeighing_0 4 rfl rfl)
theorem dX3_isWeighing_5 : decode cX3_isWeighing 5 = .ok (.ifCond .le 17, 3) := dk_158 0 17 (dk_at dksX3_isWeighing_0 5 rfl rfl)
theorem dX3_isWeighing_8 : decode cX3_isWeighing 8 = .ok (.iload_n 1, 1) := dk_27 (dk_at dksX3_isWeighing_0 8 rfl rfl)
theorem dX3_isWeighing_9 : decode cX3_isWeighing 9 = .ok (.iload_n 2, 1) := dk_28 (dk_at dksX3_isWeighing_0 9 rfl rfl)
theorem dX3_isWeighing_10 : decode cX3_isWeighing 10 = .ok (.ior, 1) := dk_128 (dk_at dksX3_isWeighing_0 10 rfl rfl)
theorem dX3_isWeighing_11 : decode cX3_isWeighing 11 = .ok (.aload_n 0, 1) := dk_42 (dk_at dksX3_isWeighing_0 11 rfl rfl)
theorem dX3_isWeighing_12 : decode cX3_isWeighing 12 = .ok (.invokevirtual 138, 3) := dk_182 0 138 (dk_at dksX3_isWeighing_0 12 rfl rfl)
theorem dX3_isWeighing_15 : decode cX3_isWeighing 15 = .ok (.if_icmp .gt 7, 3) := dk_163 0 7 (dk_at dksX3_isWeighing_0 15 rfl rfl)
theorem dX3_isWeighing_18 : decode cX3_isWeighing 18 = .ok (.iconst 1, 1) := dk_4 (dk_at dksX3_isWeighing_0 18 rfl rfl)
theorem dX3_isWeighing_19 : decode cX3_isWeighing 19 = .ok (.goto 4, 3) := dk_167 0 4 (dk_at dksX3_isWeighing_0 19 rfl rfl)
theorem dX3_isWeighing_22 : decode cX3_isWeighing 22 = .ok (.iconst 0, 1) := dk_3 (dk_at dksX3_isWeighing_0 22 rfl rfl)
theorem dX3_isWeighing_23 : decode cX3_isWeighing 23 = .ok (.istore_n 3, 1) := dk_62 (dk_at dksX3_isWeighing_0 23 rfl rfl)
theorem dX3_isWeighing_24 : decode cX3_isWeighing 24 = .ok (.iload_n 3, 1) := dk_29 (dk_at dksX3_isWeighing_1 0 rfl rfl)
theorem dX3_isWeighing_25 : decode cX3_isWeighing 25 = .ok (.ifCond .eq 24, 3) := dk_153 0 24 (dk_at dksX3_isWeighing_1 1 rfl rfl)
theorem dX3_isWeighing_28 : decode cX3_isWeighing 28 = .ok (.iload_n 1, 1) := dk_27 (dk_at dksX3_isWeighing_1 4 rfl rfl)
theorem dX3_isWeighing_29 : decode cX3_isWeighing 29 = .ok (.iload_n 2, 1) := dk_28 (dk_at dksX3_isWeighing_1 5 rfl rfl)
theorem dX3_isWeighing_30 : decode cX3_isWeighing 30 = .ok (.iand, 1) := dk_126 (dk_at dksX3_isWeighing_1 6 rfl rfl)
theorem dX3_isWeighing_31 : decode cX3_isWeighing 31 = .ok (.ifCond .ne 18, 3) := dk_154 0 18 (dk_at dksX3_isWeighing_1 7 rfl rfl)
theorem dX3_isWeighing_34 : decode cX3_isWeighing 34 = .ok (.iload_n 1, 1) := dk_27 (dk_at dksX3_isWeighing_1 10 rfl rfl)
theorem dX3_isWeighing_35 : decode cX3_isWeighing 35 = .ok (.invokestatic 105, 3) := dk_184 0 105 (dk_at dksX3_isWeighing_1 11 rfl rfl)
theorem dX3_isWeighing_38 : decode cX3_isWeighing 38 = .ok (.iload_n 2, 1) := dk_28 (dk_at dksX3_isWeighing_1 14 rfl rfl)
theorem dX3_isWeighing_39 : decode cX3_isWeighing 39 = .ok (.invokestatic 105, 3) := dk_184 0 105 (dk_at dksX3_isWeighing_1 15 rfl rfl)
theorem dX3_isWeighing_42 : decode cX3_isWeighing 42 = .ok (.if_icmp .ne 7, 3) := dk_160 0 7 (dk_at dksX3_isWeighing_1 18 rfl rfl)
theorem dX3_isWeighing_45 : decode cX3_isWeighing 45 = .ok (.iconst 1, 1) := dk_4 (dk_at dksX3_isWeighing_1 21 rfl rfl)
theorem dX3_isWeighing_46 : decode cX3_isWeighing 46 = .ok (.goto 4, 3) := dk_167 0 4 (dk_at dksX3_isWeighing_2 0 rfl rfl)
theorem dX3_isWeighing_49 : decode cX3_isWeighing 49 = .ok (.iconst 0, 1) := dk_3 (dk_at dksX3_isWeighing_2 3 rfl rfl)
theorem dX3_isWeighing_50 : decode cX3_isWeighing 50 = .ok (.ireturn, 1) := dk_172 (dk_at dksX3_isWeighing_2 4 rfl rfl)
abbrev cX3_behind : ByteArray := prog_5_method_50_code
def yX3_behind : MethodName := ⟨RX3, "behind", "(IIII)I"⟩
def dkwX3_behind_3 : List UInt8 := [46, 4, 126, 167, 0, 11, 42, 180, 0, 30, 27, 46, 5, 126, 172]
abbrev dktX3_behind_3 : List UInt8 := dkwX3_behind_3 ++ []
def dkwX3_behind_2 : List UInt8 := [167, 0, 38, 21, 5, 21, 4, 4, 160, 0, 7, 4, 167, 0, 4, 3, 160, 0, 14, 42, 180, 0, 30, 27]
abbrev dktX3_behind_2 : List UInt8 := dkwX3_behind_2 ++ dktX3_behind_3
def dkwX3_behind_1 : List UInt8 := [21, 4, 154, 0, 12, 42, 180, 0, 30, 27, 46, 167, 0, 4, 3, 172, 21, 4, 154, 0, 7, 3]
abbrev dktX3_behind_1 : List UInt8 := dkwX3_behind_1 ++ dktX3_behind_2
def dkwX3_behind_0 : List UInt8 := [28, 27, 184, 0, 92, 54, 5, 29, 27, 184, 0, 92, 54, 6, 21, 5, 154, 0, 24, 21, 6, 154, 0, 19]
abbrev dktX3_behind_0 : List UInt8 := dkwX3_behind_0 ++ dktX3_behind_1
theorem dksX3_behind_0 : cX3_behind.data.toList.drop 0 = dktX3_behind_0 := by decide +kernel
theorem dksX3_behind_1 : cX3_behind.data.toList.drop 24 = dktX3_behind_1 := dk_seg dksX3_behind_0 24 rfl rfl
theorem dksX3_behind_2 : cX3_behind.data.toList.drop 46 = dktX3_behind_2 := dk_seg dksX3_behind_1 22 rfl rfl
theorem dksX3_behind_3 : cX3_behind.data.toList.drop 70 = dktX3_behind_3 := dk_seg dksX3_behind_2 24 rfl rfl
theorem dX3_behind_0 : decode cX3_behind 0 = .ok (.iload_n 2, 1) := dk_28 (dk_at dksX3_behind_0 0 rfl rfl)
theorem dX3_behind_1 : decode cX3_behind 1 = .ok (.iload_n 1, 1) := dk_27 (dk_at dksX3_behind_0 1 rfl rfl)
theorem dX3_behind_2 : decode cX3_behind 2 = .ok (.invokestatic 92, 3) := dk_184 0 92 (dk_at dksX3_behind_0 2 rfl rfl)
theorem dX3_behind_5 : decode cX3_behind 5 = .ok (.istore 5, 2) := dk_54 5 (dk_at dksX3_behind_0 5 rfl rfl)
theorem dX3_behind_7 : decode cX3_behind 7 = .ok (.iload_n 3, 1) := dk_29 (dk_at dksX3_behind_0 7 rfl rfl)
theorem dX3_behind_8 : decode cX3_behind 8 = .ok (.iload_n 1, 1) := dk_27 (dk_at dksX3_behind_0 8 rfl rfl)
theorem dX3_behind_9 : decode cX3_behind 9 = .ok (.invokestatic 92, 3) := dk_184 0 92 (dk_at dksX3_behind_0 9 rfl rfl)
theorem dX3_behind_12 : decode cX3_behind 12 = .ok (.istore 6, 2) := dk_54 6 (dk_at dksX3_behind_0 12 rfl rfl)
theorem dX3_behind_14 : decode cX3_behind 14 = .ok (.iload 5, 2) := dk_21 5 (dk_at dksX3_behind_0 14 rfl rfl)
theorem dX3_behind_16 : decode cX3_behind 16 = .ok (.ifCond .ne 24, 3) := dk_154 0 24 (dk_at dksX3_behind_0 16 rfl rfl)
theorem dX3_behind_19 : decode cX3_behind 19 = .ok (.iload 6, 2) := dk_21 6 (dk_at dksX3_behind_0 19 rfl rfl)
theorem dX3_behind_21 : decode cX3_behind 21 = .ok (.ifCond .ne 19, 3) := dk_154 0 19 (dk_at dksX3_behind_0 21 rfl rfl)
theorem dX3_behind_24 : decode cX3_behind 24 = .ok (.iload 4, 2) := dk_21 4 (dk_at dksX3_behind_1 0 rfl rfl)
theorem dX3_behind_26 : decode cX3_behind 26 = .ok (.ifCond .ne 12, 3) := dk_154 0 12 (dk_at dksX3_behind_1 2 rfl rfl)
theorem dX3_behind_29 : decode cX3_behind 29 = .ok (.aload_n 0, 1) := dk_42 (dk_at dksX3_behind_1 5 rfl rfl)
theorem dX3_behind_30 : decode cX3_behind 30 = .ok (.getfield 30, 3) := dk_180 0 30 (dk_at dksX3_behind_1 6 rfl rfl)
theorem dX3_behind_33 : decode cX3_behind 33 = .ok (.iload_n 1, 1) := dk_27 (dk_at dksX3_behind_1 9 rfl rfl)
theorem dX3_behind_34 : decode cX3_behind 34 = .ok (.iaload, 1) := dk_46 (dk_at dksX3_behind_1 10 rfl rfl)
theorem dX3_behind_35 : decode cX3_behind 35 = .ok (.goto 4, 3) := dk_167 0 4 (dk_at dksX3_behind_1 11 rfl rfl)
theorem dX3_behind_38 : decode cX3_behind 38 = .ok (.iconst 0, 1) := dk_3 (dk_at dksX3_behind_1 14 rfl rfl)
theorem dX3_behind_39 : decode cX3_behind 39 = .ok (.ireturn, 1) := dk_172 (dk_at dksX3_behind_1 15 rfl rfl)
theorem dX3_behind_40 : decode cX3_behind 40 = .ok (.iload 4, 2) := dk_21 4 (dk_at dksX3_behind_1 16 rfl rfl)
theorem dX3_behind_42 : decode cX3_behind 42 = .ok (.ifCond .ne 7, 3) := dk_154 0 7 (dk_at dksX3_behind_1 18 rfl rfl)
theorem dX3_behind_45 : decode cX3_behind 45 = .ok (.iconst 0, 1) := dk_3 (dk_at dksX3_behind_1 21 rfl rfl)
theorem dX3_behind_46 : decode cX3_behind 46 = .ok (.goto 38, 3) := dk_167 0 38 (dk_at dksX3_behind_2 0 rfl rfl)
theorem dX3_behind_49 : decode cX3_behind 49 = .ok (.iload 5, 2) := dk_21 5 (dk_at dksX3_behind_2 3 rfl rfl)
theorem dX3_behind_51 : decode cX3_behind 51 = .ok (.iload 4, 2) := dk_21 4 (dk_at dksX3_behind_2 5 rfl rfl)
theorem dX3_behind_53 : decode cX3_behind 53 = .ok (.iconst 1, 1) := dk_4 (dk_at dksX3_behind_2 7 rfl rfl)
theorem dX3_behind_54 : decode cX3_behind 54 = .ok (.if_icmp .ne 7, 3) := dk_160 0 7 (dk_at dksX3_behind_2 8 rfl rfl)
theorem dX3_behind_57 : decode cX3_behind 57 = .ok (.iconst 1, 1) := dk_4 (dk_at dksX3_behind_2 11 rfl rfl)
theorem dX3_behind_58 : decode cX3_behind 58 = .ok (.goto 4, 3) := dk_167 0 4 (dk_at dksX3_behind_2 12 rfl rfl)
theorem dX3_behind_61 : decode cX3_behind 61 = .ok (.iconst 0, 1) := dk_3 (dk_at dksX3_behind_2 15 rfl rfl)
theorem dX3_behind_62 : decode cX3_behind 62 = .ok (.if_icmp .ne 14, 3) := dk_160 0 14 (dk_at dksX3_behind_2 16 rfl rfl)
theorem dX3_behind_65 : decode cX3_behind 65 = .ok (.aload_n 0, 1) := dk_42 (dk_at dksX3_behind_2 19 rfl rfl)
theorem dX3_behind_66 : decode cX3_behind 66 = .ok (.getfield 30, 3) := dk_180 0 30 (dk_at dksX3_behind_2 20 rfl rfl)
theorem dX3_behind_69 : decode cX3_behind 69 = .ok (.iload_n 1, 1) := dk_27 (dk_at dksX3_behind_2 23 rfl rfl)
theorem dX3_behind_70 : decode cX3_behind 70 = .ok (.iaload, 1) := dk_46 (dk_at dksX3_behind_3 0 rfl rfl)
theorem dX3_behind_71 : decode cX3_behind 71 = .ok (.iconst 1, 1) := dk_4 (dk_at dksX3_behind_3 1 rfl rfl)
theorem dX3_behind_72 : decode cX3_behind 72 = .ok (.iand, 1) := dk_126 (dk_at dksX3_behind_3 2 rfl rfl)
theorem dX3_behind_73 : decode cX3_behind 73 = .ok (.goto 11, 3) := dk_167 0 11 (dk_at dksX3_behind_3 3 rfl rfl)
theorem dX3_behind_76 : decode cX3_behind 76 = .ok (.aload_n 0, 1) := dk_42 (dk_at dksX3_behind_3 6 rfl rfl)
theorem dX3_behind_77 : decode cX3_behind 77 = .ok (.getfield 30, 3) := dk_180 0 30 (dk_at dksX3_behind_3 7 rfl rfl)
theorem dX3_behind_80 : decode cX3_behind 80 = .ok (.iload_n 1, 1) := dk_27 (dk_at dksX3_behind_3 10 rfl rfl)
theorem dX3_behind_81 : decode cX3_behind 81 = .ok (.iaload, 1) := dk_46 (dk_at dksX3_behind_3 11 rfl rfl)
theorem dX3_behind_82 : decode cX3_behind 82 = .ok (.iconst 2, 1) := dk_5 (dk_at dksX3_behind_3 12 rfl rfl)
theorem dX3_behind_83 : decode cX3_behind 83 = .ok (.iand, 1) := dk_126 (dk_at dksX3_behind_3 13 rfl rfl)
theorem dX3_behind_84 : decode cX3_behind 84 = .ok (.ireturn, 1) := dk_172 (dk_at dksX3_behind_3 14 rfl rfl)
abbrev cX3_possibleMany : ByteArray := prog_5_method_47_code
def yX3_possibleMany : MethodName := ⟨RX3, "possibleMany", "()I"⟩
def dkwX3_possibleMany_1 : List UInt8 := [180, 0, 30, 28, 46, 4, 122, 96, 96, 60, 132, 2, 1, 167, 255, 225, 27, 172]
abbrev dktX3_possibleMany_1 : List UInt8 := dkwX3_possibleMany_1 ++ []
def dkwX3_possibleMany_0 : List UInt8 := [3, 60, 3, 61, 28, 42, 180, 0, 26, 162, 0, 29, 27, 42, 180, 0, 30, 28, 46, 4, 126, 42]
abbrev dktX3_possibleMany_0 : List UInt8 := dkwX3_possibleMany_0 ++ dktX3_possibleMany_1
theorem dksX3_possibleMany_0 : cX3_possibleMany.data.toList.drop 0 = dktX3_possibleMany_0 := by decide +kernel
theorem dksX3_possibleMany_1 : cX3_possibleMany.data.toList.drop 22 = dktX3_possibleMany_1 := dk_seg dksX3_possibleMany_0 22 rfl rfl
theorem dX3_possibleMany_0 : decode cX3_possibleMany 0 = .ok (.iconst 0, 1) := dk_3 (dk_at dksX3_possibleMany_0 0 rfl rfl)
theorem dX3_possibleMany_1 : decode cX3_possibleMany 1 = .ok (.istore_n 1, 1) := dk_60 (dk_at dksX3_possibleMany_0 1 rfl rfl)
theorem dX3_possibleMany_2 : decode cX3_possibleMany 2 = .ok (.iconst 0, 1) := dk_3 (dk_at dksX3_possibleMany_0 2 rfl rfl)
theorem dX3_possibleMany_3 : decode cX3_possibleMany 3 = .ok (.istore_n 2, 1) := dk_61 (dk_at dksX3_possibleMany_0 3 rfl rfl)
theorem dX3_possibleMany_4 : decode cX3_possibleMany 4 = .ok (.iload_n 2, 1) := dk_28 (dk_at dksX3_possibleMany_0 4 rfl rfl)
theorem dX3_possibleMany_5 : decode cX3_possibleMany 5 = .ok (.aload_n 0, 1) := dk_42 (dk_at dksX3_possibleMany_0 5 rfl rfl)
theorem dX3_possibleMany_6 : decode cX3_possibleMany 6 = .ok (.getfield 26, 3) := dk_180 0 26 (dk_at dksX3_possibleMany_0 6 rfl rfl)
theorem dX3_possibleMany_9 : decode cX3_possibleMany 9 = .ok (.if_icmp .ge 29, 3) := dk_162 0 29 (dk_at dksX3_possibleMany_0 9 rfl rfl)
theorem dX3_possibleMany_12 : decode cX3_possibleMany 12 = .ok (.iload_n 1, 1) := dk_27 (dk_at dksX3_possibleMany_0 12 rfl rfl)
theorem dX3_possibleMany_13 : decode cX3_possibleMany 13 = .ok (.aload_n 0, 1) := dk_42 (dk_at dksX3_possibleMany_0 13 rfl rfl)
theorem dX3_possibleMany_14 : decode cX3_possibleMany 14 = .ok (.getfield 30, 3) := dk_180 0 30 (dk_at dksX3_possibleMany_0 14 rfl rfl)
theorem dX3_possibleMany_17 : decode cX3_possibleMany 17 = .ok (.iload_n 2, 1) := dk_28 (dk_at dksX3_possibleMany_0 17 rfl rfl)
theorem dX3_possibleMany_18 : decode cX3_possibleMany 18 = .ok (.iaload, 1) := dk_46 (dk_at dksX3_possibleMany_0 18 rfl rfl)
theorem dX3_possibleMany_19 : decode cX3_possibleMany 19 = .ok (.iconst 1, 1) := dk_4 (dk_at dksX3_possibleMany_0 19 rfl rfl)
theorem dX3_possibleMany_20 : decode cX3_possibleMany 20 = .ok (.iand, 1) := dk_126 (dk_at dksX3_possibleMany_0 20 rfl rfl)
theorem dX3_possibleMany_21 : decode cX3_possibleMany 21 = .ok (.aload_n 0, 1) := dk_42 (dk_at dksX3_possibleMany_0 21 rfl rfl)
theorem dX3_possibleMany_22 : decode cX3_possibleMany 22 = .ok (.getfield 30, 3) := dk_180 0 30 (dk_at dksX3_possibleMany_1 0 rfl rfl)
theorem dX3_possibleMany_25 : decode cX3_possibleMany 25 = .ok (.iload_n 2, 1) := dk_28 (dk_at dksX3_possibleMany_1 3 rfl rfl)
theorem dX3_possibleMany_26 : decode cX3_possibleMany 26 = .ok (.iaload, 1) := dk_46 (dk_at dksX3_possibleMany_1 4 rfl rfl)
theorem dX3_possibleMany_27 : decode cX3_possibleMany 27 = .ok (.iconst 1, 1) := dk_4 (dk_at dksX3_possibleMany_1 5 rfl rfl)
theorem dX3_possibleMany_28 : decode cX3_possibleMany 28 = .ok (.ishr, 1) := dk_122 (dk_at dksX3_possibleMany_1 6 rfl rfl)
theorem dX3_possibleMany_29 : decode cX3_possibleMany 29 = .ok (.iadd, 1) := dk_96 (dk_at dksX3_possibleMany_1 7 rfl rfl)
theorem dX3_possibleMany_30 : decode cX3_possibleMany 30 = .ok (.iadd, 1) := dk_96 (dk_at dksX3_possibleMany_1 8 rfl rfl)
theorem dX3_possibleMany_31 : decode cX3_possibleMany 31 = .ok (.istore_n 1, 1) := dk_60 (dk_at dksX3_possibleMany_1 9 rfl rfl)
theorem dX3_possibleMany_32 : decode cX3_possibleMany 32 = .ok (.iinc 2 1, 3) := dk_132 2 1 (dk_at dksX3_possibleMany_1 10 rfl rfl)
theorem dX3_possibleMany_35 : decode cX3_possibleMany 35 = .ok (.goto (-31), 3) := dk_167 255 225 (dk_at dksX3_possibleMany_1 13 rfl rfl)
theorem dX3_possibleMany_38 : decode cX3_possibleMany 38 = .ok (.iload_n 1, 1) := dk_27 (dk_at dksX3_possibleMany_1 16 rfl rfl)
theorem dX3_possibleMany_39 : decode cX3_possibleMany 39 = .ok (.ireturn, 1) := dk_172 (dk_at dksX3_possibleMany_1 17 rfl rfl)
abbrev cX3_coins : ByteArray := prog_5_method_52_code
def yX3_coins : MethodName := ⟨RX3, "coins", "()I"⟩
def dkwX3_coins_0 : List UInt8 := [42, 3, 181, 0, 49, 42, 180, 0, 26, 172]
abbrev dktX3_coins_0 : List UInt8 := dkwX3_coins_0 ++ []
theorem dksX3_coins_0 : cX3_coins.data.toList.drop 0 = dktX3_coins_0 := by decide +kernel
theorem dX3_coins_0 : decode cX3_coins 0 = .ok (.aload_n 0, 1) := dk_42 (dk_at dksX3_coins_0 0 rfl rfl)
theorem dX3_coins_1 : decode cX3_coins 1 = .ok (.iconst 0, 1) := dk_3 (dk_at dksX3_coins_0 1 rfl rfl)
theorem dX3_coins_2 : decode cX3_coins 2 = .ok (.putfield 49, 3) := dk_181 0 49 (dk_at dksX3_coins_0 2 rfl rfl)
theorem dX3_coins_5 : decode cX3_coins 5 = .ok (.aload_n 0, 1) := dk_42 (dk_at dksX3_coins_0 5 rfl rfl)
theorem dX3_coins_6 : decode cX3_coins 6 = .ok (.getfield 26, 3) := dk_180 0 26 (dk_at dksX3_coins_0 6 rfl rfl)
theorem dX3_coins_9 : decode cX3_coins 9 = .ok (.ireturn, 1) := dk_172 (dk_at dksX3_coins_0 9 rfl rfl)
abbrev cX3_possible : ByteArray := prog_5_method_53_code
def yX3_possible : MethodName := ⟨RX3, "possible", "()I"⟩
def dkwX3_possible_0 : List UInt8 := [42, 3, 181, 0, 49, 42, 182, 0, 154, 172]
abbrev dktX3_possible_0 : List UInt8 := dkwX3_possible_0 ++ []
theorem dksX3_possible_0 : cX3_possible.data.toList.drop 0 = dktX3_possible_0 := by decide +kernel
theorem dX3_possible_0 : decode cX3_possible 0 = .ok (.aload_n 0, 1) := dk_42 (dk_at dksX3_possible_0 0 rfl rfl)
theorem dX3_possible_1 : decode cX3_possible 1 = .ok (.iconst 0, 1) := dk_3 (dk_at dksX3_possible_0 1 rfl rfl)
theorem dX3_possible_2 : decode cX3_possible 2 = .ok (.putfield 49, 3) := dk_181 0 49 (dk_at dksX3_possible_0 2 rfl rfl)
theorem dX3_possible_5 : decode cX3_possible 5 = .ok (.aload_n 0, 1) := dk_42 (dk_at dksX3_possible_0 5 rfl rfl)
theorem dX3_possible_6 : decode cX3_possible 6 = .ok (.invokevirtual 154, 3) := dk_182 0 154 (dk_at dksX3_possible_0 6 rfl rfl)
theorem dX3_possible_9 : decode cX3_possible 9 = .ok (.ireturn, 1) := dk_172 (dk_at dksX3_possible_0 9 rfl rfl)
abbrev cX3_mayBe : ByteArray := prog_5_method_54_code
def yX3_mayBe : MethodName := ⟨RX3, "mayBe", "(IZ)Z"⟩
def dkwX3_mayBe_2 : List UInt8 := [167, 0, 4, 3, 172]
abbrev dktX3_mayBe_2 : List UInt8 := dkwX3_mayBe_2 ++ []
def dkwX3_mayBe_1 : List UInt8 := [153, 0, 26, 42, 180, 0, 30, 27, 46, 28, 153, 0, 7, 4, 167, 0, 4, 5, 126, 153, 0, 7, 4]
abbrev dktX3_mayBe_1 : List UInt8 := dkwX3_mayBe_1 ++ dktX3_mayBe_2
def dkwX3_mayBe_0 : List UInt8 := [42, 27, 3, 42, 180, 0, 26, 4, 100, 184, 0, 52, 153, 0, 7, 3, 167, 0, 4, 4, 182, 0, 59]
abbrev dktX3_mayBe_0 : List UInt8 := dkwX3_mayBe_0 ++ dktX3_mayBe_1
theorem dksX3_mayBe_0 : cX3_mayBe.data.toList.drop 0 = dktX3_mayBe_0 := by decide +kernel
theorem dksX3_mayBe_1 : cX3_mayBe.data.toList.drop 23 = dktX3_mayBe_1 := dk_seg dksX3_mayBe_0 23 rfl rfl
theorem dksX3_mayBe_2 : cX3_mayBe.data.toList.drop 46 = dktX3_mayBe_2 := dk_seg dksX3_mayBe_1 23 rfl rfl
theorem dX3_mayBe_0 : decode cX3_mayBe 0 = .ok (.aload_n 0, 1) := dk_42 (dk_at dksX3_mayBe_0 0 rfl rfl)
theorem dX3_mayBe_1 : decode cX3_mayBe 1 = .ok (.iload_n 1, 1) := dk_27 (dk_at dksX3_mayBe_0 1 rfl rfl)
theorem dX3_mayBe_2 : decode cX3_mayBe 2 = .ok (.iconst 0, 1) := dk_3 (dk_at dksX3_mayBe_0 2 rfl rfl)
theorem dX3_mayBe_3 : decode cX3_mayBe 3 = .ok (.aload_n 0, 1) := dk_42 (dk_at dksX3_mayBe_0 3 rfl rfl)
theorem dX3_mayBe_4 : decode cX3_mayBe 4 = .ok (.getfield 26, 3) := dk_180 0 26 (dk_at dksX3_mayBe_0 4 rfl rfl)
theorem dX3_mayBe_7 : decode cX3_mayBe 7 = .ok (.iconst 1, 1) := dk_4 (dk_at dksX3_mayBe_0 7 rfl rfl)
theorem dX3_mayBe_8 : decode cX3_mayBe 8 = .ok (.isub, 1) := dk_100 (dk_at dksX3_mayBe_0 8 rfl rfl)
theorem dX3_mayBe_9 : decode cX3_mayBe 9 = .ok (.invokestatic 52, 3) := dk_184 0 52 (dk_at dksX3_mayBe_0 9 rfl rfl)
theorem dX3_mayBe_12 : decode cX3_mayBe 12 = .ok (.ifCond .eq 7, 3) := dk_153 0 7 (dk_at dksX3_mayBe_0 12 rfl rfl)
theorem dX3_mayBe_15 : decode cX3_mayBe 15 = .ok (.iconst 0, 1) := dk_3 (dk_at dksX3_mayBe_0 15 rfl rfl)
theorem dX3_mayBe_16 : decode cX3_mayBe 16 = .ok (.goto 4, 3) := dk_167 0 4 (dk_at dksX3_mayBe_0 16 rfl rfl)
theorem dX3_mayBe_19 : decode cX3_mayBe 19 = .ok (.iconst 1, 1) := dk_4 (dk_at dksX3_mayBe_0 19 rfl rfl)
theorem dX3_mayBe_20 : decode cX3_mayBe 20 = .ok (.invokevirtual 59, 3) := dk_182 0 59 (dk_at dksX3_mayBe_0 20 rfl rfl)
theorem dX3_mayBe_23 : decode cX3_mayBe 23 = .ok (.ifCond .eq 26, 3) := dk_153 0 26 (dk_at dksX3_mayBe_1 0 rfl rfl)
theorem dX3_mayBe_26 : decode cX3_mayBe 26 = .ok (.aload_n 0, 1) := dk_42 (dk_at dksX3_mayBe_1 3 rfl rfl)
theorem dX3_mayBe_27 : decode cX3_mayBe 27 = .ok (.getfield 30, 3) := dk_180 0 30 (dk_at dksX3_mayBe_1 4 rfl rfl)
theorem dX3_mayBe_30 : decode cX3_mayBe 30 = .ok (.iload_n 1, 1) := dk_27 (dk_at dksX3_mayBe_1 7 rfl rfl)
theorem dX3_mayBe_31 : decode cX3_mayBe 31 = .ok (.iaload, 1) := dk_46 (dk_at dksX3_mayBe_1 8 rfl rfl)
theorem dX3_mayBe_32 : decode cX3_mayBe 32 = .ok (.iload_n 2, 1) := dk_28 (dk_at dksX3_mayBe_1 9 rfl rfl)
theorem dX3_mayBe_33 : decode cX3_mayBe 33 = .ok (.ifCond .eq 7, 3) := dk_153 0 7 (dk_at dksX3_mayBe_1 10 rfl rfl)
theorem dX3_mayBe_36 : decode cX3_mayBe 36 = .ok (.iconst 1, 1) := dk_4 (dk_at dksX3_mayBe_1 13 rfl rfl)
theorem dX3_mayBe_37 : decode cX3_mayBe 37 = .ok (.goto 4, 3) := dk_167 0 4 (dk_at dksX3_mayBe_1 14 rfl rfl)
theorem dX3_mayBe_40 : decode cX3_mayBe 40 = .ok (.iconst 2, 1) := dk_5 (dk_at dksX3_mayBe_1 17 rfl rfl)
theorem dX3_mayBe_41 : decode cX3_mayBe 41 = .ok (.iand, 1) := dk_126 (dk_at dksX3_mayBe_1 18 rfl rfl)
theorem dX3_mayBe_42 : decode cX3_mayBe 42 = .ok (.ifCond .eq 7, 3) := dk_153 0 7 (dk_at dksX3_mayBe_1 19 rfl rfl)
theorem dX3_mayBe_45 : decode cX3_mayBe 45 = .ok (.iconst 1, 1) := dk_4 (dk_at dksX3_mayBe_1 22 rfl rfl)
theorem dX3_mayBe_46 : decode cX3_mayBe 46 = .ok (.goto 4, 3) := dk_167 0 4 (dk_at dksX3_mayBe_2 0 rfl rfl)
theorem dX3_mayBe_49 : decode cX3_mayBe 49 = .ok (.iconst 0, 1) := dk_3 (dk_at dksX3_mayBe_2 3 rfl rfl)
theorem dX3_mayBe_50 : decode cX3_mayBe 50 = .ok (.ireturn, 1) := dk_172 (dk_at dksX3_mayBe_2 4 rfl rfl)
abbrev cX3_faulty : ByteArray := prog_5_method_55_code
def yX3_faulty : MethodName := ⟨RX3, "faulty", "()I"⟩
def dkwX3_faulty_1 : List UInt8 := [42, 180, 0, 30, 27, 46, 154, 0, 9, 132, 1, 1, 167, 255, 244, 27, 172]
abbrev dktX3_faulty_1 : List UInt8 := dkwX3_faulty_1 ++ []
def dkwX3_faulty_0 : List UInt8 := [42, 42, 182, 0, 154, 4, 160, 0, 7, 3, 167, 0, 4, 4, 182, 0, 59, 154, 0, 5, 3, 172, 3, 60]
abbrev dktX3_faulty_0 : List UInt8 := dkwX3_faulty_0 ++ dktX3_faulty_1
theorem dksX3_faulty_0 : cX3_faulty.data.toList.drop 0 = dktX3_faulty_0 := by decide +kernel
theorem dksX3_faulty_1 : cX3_faulty.data.toList.drop 24 = dktX3_faulty_1 := dk_seg dksX3_faulty_0 24 rfl rfl
theorem dX3_faulty_0 : decode cX3_faulty 0 = .ok (.aload_n 0, 1) := dk_42 (dk_at dksX3_faulty_0 0 rfl rfl)
theorem dX3_faulty_1 : decode cX3_faulty 1 = .ok (.aload_n 0, 1) := dk_42 (dk_at dksX3_faulty_0 1 rfl rfl)
theorem dX3_faulty_2 : decode cX3_faulty 2 = .ok (.invokevirtual 154, 3) := dk_182 0 154 (dk_at dksX3_faulty_0 2 rfl rfl)
theorem dX3_faulty_5 : decode cX3_faulty 5 = .ok (.iconst 1, 1) := dk_4 (dk_at dksX3_faulty_0 5 rfl rfl)
theorem dX3_faulty_6 : decode cX3_faulty 6 = .ok (.if_icmp .ne 7, 3) := dk_160 0 7 (dk_at dksX3_faulty_0 6 rfl rfl)
theorem dX3_faulty_9 : decode cX3_faulty 9 = .ok (.iconst 0, 1) := dk_3 (dk_at dksX3_faulty_0 9 rfl rfl)
theorem dX3_faulty_10 : decode cX3_faulty 10 = .ok (.goto 4, 3) := dk_167 0 4 (dk_at dksX3_faulty_0 10 rfl rfl)
theorem dX3_faulty_13 : decode cX3_faulty 13 = .ok (.iconst 1, 1) := dk_4 (dk_at dksX3_faulty_0 13 rfl rfl)
theorem dX3_faulty_14 : decode cX3_faulty 14 = .ok (.invokevirtual 59, 3) := dk_182 0 59 (dk_at dksX3_faulty_0 14 rfl rfl)
theorem dX3_faulty_17 : decode cX3_faulty 17 = .ok (.ifCond .ne 5, 3) := dk_154 0 5 (dk_at dksX3_faulty_0 17 rfl rfl)
theorem dX3_faulty_20 : decode cX3_faulty 20 = .ok (.iconst 0, 1) := dk_3 (dk_at dksX3_faulty_0 20 rfl rfl)
theorem dX3_faulty_21 : decode cX3_faulty 21 = .ok (.ireturn, 1) := dk_172 (dk_at dksX3_faulty_0 21 rfl rfl)
theorem dX3_faulty_22 : decode cX3_faulty 22 = .ok (.iconst 0, 1) := dk_3 (dk_at dksX3_faulty_0 22 rfl rfl)
theorem dX3_faulty_23 : decode cX3_faulty 23 = .ok (.istore_n 1, 1) := dk_60 (dk_at dksX3_faulty_0 23 rfl rfl)
theorem dX3_faulty_24 : decode cX3_faulty 24 = .ok (.aload_n 0, 1) := dk_42 (dk_at dksX3_faulty_1 0 rfl rfl)
theorem dX3_faulty_25 : decode cX3_faulty 25 = .ok (.getfield 30, 3) := dk_180 0 30 (dk_at dksX3_faulty_1 1 rfl rfl)
theorem dX3_faulty_28 : decode cX3_faulty 28 = .ok (.iload_n 1, 1) := dk_27 (dk_at dksX3_faulty_1 4 rfl rfl)
theorem dX3_faulty_29 : decode cX3_faulty 29 = .ok (.iaload, 1) := dk_46 (dk_at dksX3_faulty_1 5 rfl rfl)
theorem dX3_faulty_30 : decode cX3_faulty 30 = .ok (.ifCond .ne 9, 3) := dk_154 0 9 (dk_at dksX3_faulty_1 6 rfl rfl)
theorem dX3_faulty_33 : decode cX3_faulty 33 = .ok (.iinc 1 1, 3) := dk_132 1 1 (dk_at dksX3_faulty_1 9 rfl rfl)
theorem dX3_faulty_36 : decode cX3_faulty 36 = .ok (.goto (-12), 3) := dk_167 255 244 (dk_at dksX3_faulty_1 12 rfl rfl)
theorem dX3_faulty_39 : decode cX3_faulty 39 = .ok (.iload_n 1, 1) := dk_27 (dk_at dksX3_faulty_1 15 rfl rfl)
theorem dX3_faulty_40 : decode cX3_faulty 40 = .ok (.ireturn, 1) := dk_172 (dk_at dksX3_faulty_1 16 rfl rfl)
abbrev cX3_weighings : ByteArray := prog_5_method_56_code
def yX3_weighings : MethodName := ⟨RX3, "weighings", "()I"⟩
def dkwX3_weighings_0 : List UInt8 := [42, 3, 181, 0, 49, 42, 182, 0, 144, 172]
abbrev dktX3_weighings_0 : List UInt8 := dkwX3_weighings_0 ++ []
theorem dksX3_weighings_0 : cX3_weighings.data.toList.drop 0 = dktX3_weighings_0 := by decide +kernel
theorem dX3_weighings_0 : decode cX3_weighings 0 = .ok (.aload_n 0, 1) := dk_42 (dk_at dksX3_weighings_0 0 rfl rfl)
theorem dX3_weighings_1 : decode cX3_weighings 1 = .ok (.iconst 0, 1) := dk_3 (dk_at dksX3_weighings_0 1 rfl rfl)
theorem dX3_weighings_2 : decode cX3_weighings 2 = .ok (.putfield 49, 3) := dk_181 0 49 (dk_at dksX3_weighings_0 2 rfl rfl)
theorem dX3_weighings_5 : decode cX3_weighings 5 = .ok (.aload_n 0, 1) := dk_42 (dk_at dksX3_weighings_0 5 rfl rfl)
theorem dX3_weighings_6 : decode cX3_weighings 6 = .ok (.invokevirtual 144, 3) := dk_182 0 144 (dk_at dksX3_weighings_0 6 rfl rfl)
theorem dX3_weighings_9 : decode cX3_weighings 9 = .ok (.ireturn, 1) := dk_172 (dk_at dksX3_weighings_0 9 rfl rfl)
abbrev cX3_isGood : ByteArray := prog_5_method_58_code
def yX3_isGood : MethodName := ⟨RX3, "isGood", "(II)Z"⟩
def dkwX3_isGood_1 : List UInt8 := [182, 0, 157, 153, 0, 7, 4, 167, 0, 4, 3, 172]
abbrev dktX3_isGood_1 : List UInt8 := dkwX3_isGood_1 ++ []
def dkwX3_isGood_0 : List UInt8 := [42, 42, 27, 28, 182, 0, 147, 153, 0, 7, 3, 167, 0, 4, 4, 182, 0, 59, 153, 0, 16, 42, 27, 28]
abbrev dktX3_isGood_0 : List UInt8 := dkwX3_isGood_0 ++ dktX3_isGood_1
theorem dksX3_isGood_0 : cX3_isGood.data.toList.drop 0 = dktX3_isGood_0 := by decide +kernel
theorem dksX3_isGood_1 : cX3_isGood.data.toList.drop 24 = dktX3_isGood_1 := dk_seg dksX3_isGood_0 24 rfl rfl
theorem dX3_isGood_0 : decode cX3_isGood 0 = .ok (.aload_n 0, 1) := dk_42 (dk_at dksX3_isGood_0 0 rfl rfl)
theorem dX3_isGood_1 : decode cX3_isGood 1 = .ok (.aload_n 0, 1) := dk_42 (dk_at dksX3_isGood_0 1 rfl rfl)
theorem dX3_isGood_2 : decode cX3_isGood 2 = .ok (.iload_n 1, 1) := dk_27 (dk_at dksX3_isGood_0 2 rfl rfl)
theorem dX3_isGood_3 : decode cX3_isGood 3 = .ok (.iload_n 2, 1) := dk_28 (dk_at dksX3_isGood_0 3 rfl rfl)
theorem dX3_isGood_4 : decode cX3_isGood 4 = .ok (.invokevirtual 147, 3) := dk_182 0 147 (dk_at dksX3_isGood_0 4 rfl rfl)
theorem dX3_isGood_7 : decode cX3_isGood 7 = .ok (.ifCond .eq 7, 3) := dk_153 0 7 (dk_at dksX3_isGood_0 7 rfl rfl)
theorem dX3_isGood_10 : decode cX3_isGood 10 = .ok (.iconst 0, 1) := dk_3 (dk_at dksX3_isGood_0 10 rfl rfl)
theorem dX3_isGood_11 : decode cX3_isGood 11 = .ok (.goto 4, 3) := dk_167 0 4 (dk_at dksX3_isGood_0 11 rfl rfl)
theorem dX3_isGood_14 : decode cX3_isGood 14 = .ok (.iconst 1, 1) := dk_4 (dk_at dksX3_isGood_0 14 rfl rfl)
theorem dX3_isGood_15 : decode cX3_isGood 15 = .ok (.invokevirtual 59, 3) := dk_182 0 59 (dk_at dksX3_isGood_0 15 rfl rfl)
theorem dX3_isGood_18 : decode cX3_isGood 18 = .ok (.ifCond .eq 16, 3) := dk_153 0 16 (dk_at dksX3_isGood_0 18 rfl rfl)
theorem dX3_isGood_21 : decode cX3_isGood 21 = .ok (.aload_n 0, 1) := dk_42 (dk_at dksX3_isGood_0 21 rfl rfl)
theorem dX3_isGood_22 : decode cX3_isGood 22 = .ok (.iload_n 1, 1) := dk_27 (dk_at dksX3_isGood_0 22 rfl rfl)
theorem dX3_isGood_23 : decode cX3_isGood 23 = .ok (.iload_n 2, 1) := dk_28 (dk_at dksX3_isGood_0 23 rfl rfl)
theorem dX3_isGood_24 : decode cX3_isGood 24 = .ok (.invokevirtual 157, 3) := dk_182 0 157 (dk_at dksX3_isGood_1 0 rfl rfl)
theorem dX3_isGood_27 : decode cX3_isGood 27 = .ok (.ifCond .eq 7, 3) := dk_153 0 7 (dk_at dksX3_isGood_1 3 rfl rfl)
theorem dX3_isGood_30 : decode cX3_isGood 30 = .ok (.iconst 1, 1) := dk_4 (dk_at dksX3_isGood_1 6 rfl rfl)
theorem dX3_isGood_31 : decode cX3_isGood 31 = .ok (.goto 4, 3) := dk_167 0 4 (dk_at dksX3_isGood_1 7 rfl rfl)
theorem dX3_isGood_34 : decode cX3_isGood 34 = .ok (.iconst 0, 1) := dk_3 (dk_at dksX3_isGood_1 10 rfl rfl)
theorem dX3_isGood_35 : decode cX3_isGood 35 = .ok (.ireturn, 1) := dk_172 (dk_at dksX3_isGood_1 11 rfl rfl)
abbrev cX3_does : ByteArray := prog_5_method_57_code
def yX3_does : MethodName := ⟨RX3, "does", "(II)Z"⟩
def dkwX3_does_2 : List UInt8 := [182, 0, 129, 42, 182, 0, 144, 162, 0, 7, 4, 167, 0, 4, 3, 172]
abbrev dktX3_does_2 : List UInt8 := dkwX3_does_2 ++ []
def dkwX3_does_1 : List UInt8 := [112, 42, 27, 182, 0, 141, 42, 28, 182, 0, 141, 182, 0, 125, 42, 182, 0, 144, 158, 0, 18, 42]
abbrev dktX3_does_1 : List UInt8 := dkwX3_does_1 ++ dktX3_does_2
def dkwX3_does_0 : List UInt8 := [42, 42, 182, 0, 138, 182, 0, 141, 62, 42, 29, 16, 100, 108, 29, 16, 10, 108, 16, 10, 112, 29, 16, 10]
abbrev dktX3_does_0 : List UInt8 := dkwX3_does_0 ++ dktX3_does_1
theorem dksX3_does_0 : cX3_does.data.toList.drop 0 = dktX3_does_0 := by decide +kernel
theorem dksX3_does_1 : cX3_does.data.toList.drop 24 = dktX3_does_1 := dk_seg dksX3_does_0 24 rfl rfl
theorem dksX3_does_2 : cX3_does.data.toList.drop 46 = dktX3_does_2 := dk_seg dksX3_does_1 22 rfl rfl
theorem dX3_does_0 : decode cX3_does 0 = .ok (.aload_n 0, 1) := dk_42 (dk_at dksX3_does_0 0 rfl rfl)
theorem dX3_does_1 : decode cX3_does 1 = .ok (.aload_n 0, 1) := dk_42 (dk_at dksX3_does_0 1 rfl rfl)
theorem dX3_does_2 : decode cX3_does 2 = .ok (.invokevirtual 138, 3) := dk_182 0 138 (dk_at dksX3_does_0 2 rfl rfl)
theorem dX3_does_5 : decode cX3_does 5 = .ok (.invokevirtual 141, 3) := dk_182 0 141 (dk_at dksX3_does_0 5 rfl rfl)
theorem dX3_does_8 : decode cX3_does 8 = .ok (.istore_n 3, 1) := dk_62 (dk_at dksX3_does_0 8 rfl rfl)
theorem dX3_does_9 : decode cX3_does 9 = .ok (.aload_n 0, 1) := dk_42 (dk_at dksX3_does_0 9 rfl rfl)
theorem dX3_does_10 : decode cX3_does 10 = .ok (.iload_n 3, 1) := dk_29 (dk_at dksX3_does_0 10 rfl rfl)
theorem dX3_does_11 : decode cX3_does 11 = .ok (.bipush 100, 2) := dk_16 100 (dk_at dksX3_does_0 11 rfl rfl)
theorem dX3_does_13 : decode cX3_does 13 = .ok (.idiv, 1) := dk_108 (dk_at dksX3_does_0 13 rfl rfl)
theorem dX3_does_14 : decode cX3_does 14 = .ok (.iload_n 3, 1) := dk_29 (dk_at dksX3_does_0 14 rfl rfl)
theorem dX3_does_15 : decode cX3_does 15 = .ok (.bipush 10, 2) := dk_16 10 (dk_at dksX3_does_0 15 rfl rfl)
theorem dX3_does_17 : decode cX3_does 17 = .ok (.idiv, 1) := dk_108 (dk_at dksX3_does_0 17 rfl rfl)
theorem dX3_does_18 : decode cX3_does 18 = .ok (.bipush 10, 2) := dk_16 10 (dk_at dksX3_does_0 18 rfl rfl)
theorem dX3_does_20 : decode cX3_does 20 = .ok (.irem, 1) := dk_112 (dk_at dksX3_does_0 20 rfl rfl)
theorem dX3_does_21 : decode cX3_does 21 = .ok (.iload_n 3, 1) := dk_29 (dk_at dksX3_does_0 21 rfl rfl)
theorem dX3_does_22 : decode cX3_does 22 = .ok (.bipush 10, 2) := dk_16 10 (dk_at dksX3_does_0 22 rfl rfl)
theorem dX3_does_24 : decode cX3_does 24 = .ok (.irem, 1) := dk_112 (dk_at dksX3_does_1 0 rfl rfl)
theorem dX3_does_25 : decode cX3_does 25 = .ok (.aload_n 0, 1) := dk_42 (dk_at dksX3_does_1 1 rfl rfl)
theorem dX3_does_26 : decode cX3_does 26 = .ok (.iload_n 1, 1) := dk_27 (dk_at dksX3_does_1 2 rfl rfl)
theorem dX3_does_27 : decode cX3_does 27 = .ok (.invokevirtual 141, 3) := dk_182 0 141 (dk_at dksX3_does_1 3 rfl rfl)
theorem dX3_does_30 : decode cX3_does 30 = .ok (.aload_n 0, 1) := dk_42 (dk_at dksX3_does_1 6 rfl rfl)
theorem dX3_does_31 : decode cX3_does 31 = .ok (.iload_n 2, 1) := dk_28 (dk_at dksX3_does_1 7 rfl rfl)
theorem dX3_does_32 : decode cX3_does 32 = .ok (.invokevirtual 141, 3) := dk_182 0 141 (dk_at dksX3_does_1 8 rfl rfl)
theorem dX3_does_35 : decode cX3_does 35 = .ok (.invokevirtual 125, 3) := dk_182 0 125 (dk_at dksX3_does_1 11 rfl rfl)
theorem dX3_does_38 : decode cX3_does 38 = .ok (.aload_n 0, 1) := dk_42 (dk_at dksX3_does_1 14 rfl rfl)
theorem dX3_does_39 : decode cX3_does 39 = .ok (.invokevirtual 144, 3) := dk_182 0 144 (dk_at dksX3_does_1 15 rfl rfl)
theorem dX3_does_42 : decode cX3_does 42 = .ok (.ifCond .le 18, 3) := dk_158 0 18 (dk_at dksX3_does_1 18 rfl rfl)
theorem dX3_does_45 : decode cX3_does 45 = .ok (.aload_n 0, 1) := dk_42 (dk_at dksX3_does_1 21 rfl rfl)
theorem dX3_does_46 : decode cX3_does 46 = .ok (.invokevirtual 129, 3) := dk_182 0 129 (dk_at dksX3_does_2 0 rfl rfl)
theorem dX3_does_49 : decode cX3_does 49 = .ok (.aload_n 0, 1) := dk_42 (dk_at dksX3_does_2 3 rfl rfl)
theorem dX3_does_50 : decode cX3_does 50 = .ok (.invokevirtual 144, 3) := dk_182 0 144 (dk_at dksX3_does_2 4 rfl rfl)
theorem dX3_does_53 : decode cX3_does 53 = .ok (.if_icmp .ge 7, 3) := dk_162 0 7 (dk_at dksX3_does_2 7 rfl rfl)
theorem dX3_does_56 : decode cX3_does 56 = .ok (.iconst 1, 1) := dk_4 (dk_at dksX3_does_2 10 rfl rfl)
theorem dX3_does_57 : decode cX3_does 57 = .ok (.goto 4, 3) := dk_167 0 4 (dk_at dksX3_does_2 11 rfl rfl)
theorem dX3_does_60 : decode cX3_does 60 = .ok (.iconst 0, 1) := dk_3 (dk_at dksX3_does_2 14 rfl rfl)
theorem dX3_does_61 : decode cX3_does 61 = .ok (.ireturn, 1) := dk_172 (dk_at dksX3_does_2 15 rfl rfl)
abbrev cX3_goodLeft : ByteArray := prog_5_method_60_code
def yX3_goodLeft : MethodName := ⟨RX3, "goodLeft", "()I"⟩
def dkwX3_goodLeft_1 : List UInt8 := [17, 1, 255, 126, 167, 0, 4, 3, 172]
abbrev dktX3_goodLeft_1 : List UInt8 := dkwX3_goodLeft_1 ++ []
def dkwX3_goodLeft_0 : List UInt8 := [42, 42, 182, 0, 154, 4, 160, 0, 7, 4, 167, 0, 4, 3, 182, 0, 59, 153, 0, 14, 42, 182, 0, 160]
abbrev dktX3_goodLeft_0 : List UInt8 := dkwX3_goodLeft_0 ++ dktX3_goodLeft_1
theorem dksX3_goodLeft_0 : cX3_goodLeft.data.toList.drop 0 = dktX3_goodLeft_0 := by decide +kernel
theorem dksX3_goodLeft_1 : cX3_goodLeft.data.toList.drop 24 = dktX3_goodLeft_1 := dk_seg dksX3_goodLeft_0 24 rfl rfl
theorem dX3_goodLeft_0 : decode cX3_goodLeft 0 = .ok (.aload_n 0, 1) := dk_42 (dk_at dksX3_goodLeft_0 0 rfl rfl)
theorem dX3_goodLeft_1 : decode cX3_goodLeft 1 = .ok (.aload_n 0, 1) := dk_42 (dk_at dksX3_goodLeft_0 1 rfl rfl)
theorem dX3_goodLeft_2 : decode cX3_goodLeft 2 = .ok (.invokevirtual 154, 3) := dk_182 0 154 (dk_at dksX3_goodLeft_0 2 rfl rfl)
theorem dX3_goodLeft_5 : decode cX3_goodLeft 5 = .ok (.iconst 1, 1) := dk_4 (dk_at dksX3_goodLeft_0 5 rfl rfl)
theorem dX3_goodLeft_6 : decode cX3_goodLeft 6 = .ok (.if_icmp .ne 7, 3) := dk_160 0 7 (dk_at dksX3_goodLeft_0 6 rfl rfl)
theorem dX3_goodLeft_9 : decode cX3_goodLeft 9 = .ok (.iconst 1, 1) := dk_4 (dk_at dksX3_goodLeft_0 9 rfl rfl)
theorem dX3_goodLeft_10 : decode cX3_goodLeft 10 = .ok (.goto 4, 3) := dk_167 0 4 (dk_at dksX3_goodLeft_0 10 rfl rfl)
theorem dX3_goodLeft_13 : decode cX3_goodLeft 13 = .ok (.iconst 0, 1) := dk_3 (dk_at dksX3_goodLeft_0 13 rfl rfl)
theorem dX3_goodLeft_14 : decode cX3_goodLeft 14 = .ok (.invokevirtual 59, 3) := dk_182 0 59 (dk_at dksX3_goodLeft_0 14 rfl rfl)
theorem dX3_goodLeft_17 : decode cX3_goodLeft 17 = .ok (.ifCond .eq 14, 3) := dk_153 0 14 (dk_at dksX3_goodLeft_0 17 rfl rfl)
theorem dX3_goodLeft_20 : decode cX3_goodLeft 20 = .ok (.aload_n 0, 1) := dk_42 (dk_at dksX3_goodLeft_0 20 rfl rfl)
theorem dX3_goodLeft_21 : decode cX3_goodLeft 21 = .ok (.invokevirtual 160, 3) := dk_182 0 160 (dk_at dksX3_goodLeft_0 21 rfl rfl)
theorem dX3_goodLeft_24 : decode cX3_goodLeft 24 = .ok (.sipush 511, 3) := dk_17 1 255 (dk_at dksX3_goodLeft_1 0 rfl rfl)
theorem dX3_goodLeft_27 : decode cX3_goodLeft 27 = .ok (.iand, 1) := dk_126 (dk_at dksX3_goodLeft_1 3 rfl rfl)
theorem dX3_goodLeft_28 : decode cX3_goodLeft 28 = .ok (.goto 4, 3) := dk_167 0 4 (dk_at dksX3_goodLeft_1 4 rfl rfl)
theorem dX3_goodLeft_31 : decode cX3_goodLeft 31 = .ok (.iconst 0, 1) := dk_3 (dk_at dksX3_goodLeft_1 7 rfl rfl)
theorem dX3_goodLeft_32 : decode cX3_goodLeft 32 = .ok (.ireturn, 1) := dk_172 (dk_at dksX3_goodLeft_1 8 rfl rfl)
abbrev cX3_good : ByteArray := prog_5_method_59_code
def yX3_good : MethodName := ⟨RX3, "good", "()I"⟩
def dkwX3_good_3 : List UInt8 := [167, 255, 212, 132, 2, 1, 167, 255, 196, 132, 1, 1, 167, 255, 178, 3, 172]
abbrev dktX3_good_3 : List UInt8 := dkwX3_good_3 ++ []
def dkwX3_good_2 : List UInt8 := [153, 0, 19, 42, 28, 29, 182, 0, 157, 153, 0, 10, 29, 16, 9, 120, 28, 128, 172, 132, 3, 1]
abbrev dktX3_good_2 : List UInt8 := dkwX3_good_2 ++ dktX3_good_3
def dkwX3_good_1 : List UInt8 := [29, 42, 182, 0, 138, 163, 0, 42, 28, 184, 0, 105, 27, 160, 0, 34, 42, 28, 29, 182, 0, 147]
abbrev dktX3_good_1 : List UInt8 := dkwX3_good_1 ++ dktX3_good_2
def dkwX3_good_0 : List UInt8 := [4, 60, 5, 27, 104, 42, 180, 0, 26, 163, 0, 74, 4, 61, 28, 42, 182, 0, 138, 163, 0, 58, 4, 62]
abbrev dktX3_good_0 : List UInt8 := dkwX3_good_0 ++ dktX3_good_1
theorem dksX3_good_0 : cX3_good.data.toList.drop 0 = dktX3_good_0 := by decide +kernel
theorem dksX3_good_1 : cX3_good.data.toList.drop 24 = dktX3_good_1 := dk_seg dksX3_good_0 24 rfl rfl
theorem dksX3_good_2 : cX3_good.data.toList.drop 46 = dktX3_good_2 := dk_seg dksX3_good_1 22 rfl rfl
theorem dksX3_good_3 : cX3_good.data.toList.drop 68 = dktX3_good_3 := dk_seg dksX3_good_2 22 rfl rfl
theorem dX3_good_0 : decode cX3_good 0 = .ok (.iconst 1, 1) := dk_4 (dk_at dksX3_good_0 0 rfl rfl)
theorem dX3_good_1 : decode cX3_good 1 = .ok (.istore_n 1, 1) := dk_60 (dk_at dksX3_good_0 1 rfl rfl)
theorem dX3_good_2 : decode cX3_good 2 = .ok (.iconst 2, 1) := dk_5 (dk_at dksX3_good_0 2 rfl rfl)
theorem dX3_good_3 : decode cX3_good 3 = .ok (.iload_n 1, 1) := dk_27 (dk_at dksX3_good_0 3 rfl rfl)
theorem dX3_good_4 : decode cX3_good 4 = .ok (.imul, 1) := dk_104 (dk_at dksX3_good_0 4 rfl rfl)
theorem dX3_good_5 : decode cX3_good 5 = .ok (.aload_n 0, 1) := dk_42 (dk_at dksX3_good_0 5 rfl rfl)
theorem dX3_good_6 : decode cX3_good 6 = .ok (.getfield 26, 3) := dk_180 0 26 (dk_at dksX3_good_0 6 rfl rfl)
theorem dX3_good_9 : decode cX3_good 9 = .ok (.if_icmp .gt 74, 3) := dk_163 0 74 (dk_at dksX3_good_0 9 rfl rfl)
theorem dX3_good_12 : decode cX3_good 12 = .ok (.iconst 1, 1) := dk_4 (dk_at dksX3_good_0 12 rfl rfl)
theorem dX3_good_13 : decode cX3_good 13 = .ok (.istore_n 2, 1) := dk_61 (dk_at dksX3_good_0 13 rfl rfl)
theorem dX3_good_14 : decode cX3_good 14 = .ok (.iload_n 2, 1) := dk_28 (dk_at dksX3_good_0 14 rfl rfl)
theorem dX3_good_15 : decode cX3_good 15 = .ok (.aload_n 0, 1) := dk_42 (dk_at dksX3_good_0 15 rfl rfl)
theorem dX3_good_16 : decode cX3_good 16 = .ok (.invokevirtual 138, 3) := dk_182 0 138 (dk_at dksX3_good_0 16 rfl rfl)
theorem dX3_good_19 : decode cX3_good 19 = .ok (.if_icmp .gt 58, 3) := dk_163 0 58 (dk_at dksX3_good_0 19 rfl rfl)
theorem dX3_good_22 : decode cX3_good 22 = .ok (.iconst 1, 1) := dk_4 (dk_at dksX3_good_0 22 rfl rfl)
theorem dX3_good_23 : decode cX3_good 23 = .ok (.istore_n 3, 1) := dk_62 (dk_at dksX3_good_0 23 rfl rfl)
theorem dX3_good_24 : decode cX3_good 24 = .ok (.iload_n 3, 1) := dk_29 (dk_at dksX3_good_1 0 rfl rfl)
theorem dX3_good_25 : decode cX3_good 25 = .ok (.aload_n 0, 1) := dk_42 (dk_at dksX3_good_1 1 rfl rfl)
theorem dX3_good_26 : decode cX3_good 26 = .ok (.invokevirtual 138, 3) := dk_182 0 138 (dk_at dksX3_good_1 2 rfl rfl)
theorem dX3_good_29 : decode cX3_good 29 = .ok (.if_icmp .gt 42, 3) := dk_163 0 42 (dk_at dksX3_good_1 5 rfl rfl)
theorem dX3_good_32 : decode cX3_good 32 = .ok (.iload_n 2, 1) := dk_28 (dk_at dksX3_good_1 8 rfl rfl)
theorem dX3_good_33 : decode cX3_good 33 = .ok (.invokestatic 105, 3) := dk_184 0 105 (dk_at dksX3_good_1 9 rfl rfl)
theorem dX3_good_36 : decode cX3_good 36 = .ok (.iload_n 1, 1) := dk_27 (dk_at dksX3_good_1 12 rfl rfl)
theorem dX3_good_37 : decode cX3_good 37 = .ok (.if_icmp .ne 34, 3) := dk_160 0 34 (dk_at dksX3_good_1 13 rfl rfl)
theorem dX3_good_40 : decode cX3_good 40 = .ok (.aload_n 0, 1) := dk_42 (dk_at dksX3_good_1 16 rfl rfl)
theorem dX3_good_41 : decode cX3_good 41 = .ok (.iload_n 2, 1) := dk_28 (dk_at dksX3_good_1 17 rfl rfl)
theorem dX3_good_42 : decode cX3_good 42 = .ok (.iload_n 3, 1) := dk_29 (dk_at dksX3_good_1 18 rfl rfl)
theorem dX3_good_43 : decode cX3_good 43 = .ok (.invokevirtual 147, 3) := dk_182 0 147 (dk_at dksX3_good_1 19 rfl rfl)
theorem dX3_good_46 : decode cX3_good 46 = .ok (.ifCond .eq 19, 3) := dk_153 0 19 (dk_at dksX3_good_2 0 rfl rfl)
theorem dX3_good_49 : decode cX3_good 49 = .ok (.aload_n 0, 1) := dk_42 (dk_at dksX3_good_2 3 rfl rfl)
theorem dX3_good_50 : decode cX3_good 50 = .ok (.iload_n 2, 1) := dk_28 (dk_at dksX3_good_2 4 rfl rfl)
theorem dX3_good_51 : decode cX3_good 51 = .ok (.iload_n 3, 1) := dk_29 (dk_at dksX3_good_2 5 rfl rfl)
theorem dX3_good_52 : decode cX3_good 52 = .ok (.invokevirtual 157, 3) := dk_182 0 157 (dk_at dksX3_good_2 6 rfl rfl)
theorem dX3_good_55 : decode cX3_good 55 = .ok (.ifCond .eq 10, 3) := dk_153 0 10 (dk_at dksX3_good_2 9 rfl rfl)
theorem dX3_good_58 : decode cX3_good 58 = .ok (.iload_n 3, 1) := dk_29 (dk_at dksX3_good_2 12 rfl rfl)
theorem dX3_good_59 : decode cX3_good 59 = .ok (.bipush 9, 2) := dk_16 9 (dk_at dksX3_good_2 13 rfl rfl)
theorem dX3_good_61 : decode cX3_good 61 = .ok (.ishl, 1) := dk_120 (dk_at dksX3_good_2 15 rfl rfl)
theorem dX3_good_62 : decode cX3_good 62 = .ok (.iload_n 2, 1) := dk_28 (dk_at dksX3_good_2 16 rfl rfl)
theorem dX3_good_63 : decode cX3_good 63 = .ok (.ior, 1) := dk_128 (dk_at dksX3_good_2 17 rfl rfl)
theorem dX3_good_64 : decode cX3_good 64 = .ok (.ireturn, 1) := dk_172 (dk_at dksX3_good_2 18 rfl rfl)
theorem dX3_good_65 : decode cX3_good 65 = .ok (.iinc 3 1, 3) := dk_132 3 1 (dk_at dksX3_good_2 19 rfl rfl)
theorem dX3_good_68 : decode cX3_good 68 = .ok (.goto (-44), 3) := dk_167 255 212 (dk_at dksX3_good_3 0 rfl rfl)
theorem dX3_good_71 : decode cX3_good 71 = .ok (.iinc 2 1, 3) := dk_132 2 1 (dk_at dksX3_good_3 3 rfl rfl)
theorem dX3_good_74 : decode cX3_good 74 = .ok (.goto (-60), 3) := dk_167 255 196 (dk_at dksX3_good_3 6 rfl rfl)
theorem dX3_good_77 : decode cX3_good 77 = .ok (.iinc 1 1, 3) := dk_132 1 1 (dk_at dksX3_good_3 9 rfl rfl)
theorem dX3_good_80 : decode cX3_good 80 = .ok (.goto (-78), 3) := dk_167 255 178 (dk_at dksX3_good_3 12 rfl rfl)
theorem dX3_good_83 : decode cX3_good 83 = .ok (.iconst 0, 1) := dk_3 (dk_at dksX3_good_3 15 rfl rfl)
theorem dX3_good_84 : decode cX3_good 84 = .ok (.ireturn, 1) := dk_172 (dk_at dksX3_good_3 16 rfl rfl)
abbrev cX3_goodRight : ByteArray := prog_5_method_61_code
def yX3_goodRight : MethodName := ⟨RX3, "goodRight", "()I"⟩
def dkwX3_goodRight_1 : List UInt8 := [16, 9, 122, 167, 0, 4, 3, 172]
abbrev dktX3_goodRight_1 : List UInt8 := dkwX3_goodRight_1 ++ []
def dkwX3_goodRight_0 : List UInt8 := [42, 42, 182, 0, 154, 4, 160, 0, 7, 4, 167, 0, 4, 3, 182, 0, 59, 153, 0, 13, 42, 182, 0, 160]
abbrev dktX3_goodRight_0 : List UInt8 := dkwX3_goodRight_0 ++ dktX3_goodRight_1
theorem dksX3_goodRight_0 : cX3_goodRight.data.toList.drop 0 = dktX3_goodRight_0 := by decide +kernel
theorem dksX3_goodRight_1 : cX3_goodRight.data.toList.drop 24 = dktX3_goodRight_1 := dk_seg dksX3_goodRight_0 24 rfl rfl
theorem dX3_goodRight_0 : decode cX3_goodRight 0 = .ok (.aload_n 0, 1) := dk_42 (dk_at dksX3_goodRight_0 0 rfl rfl)
theorem dX3_goodRight_1 : decode cX3_goodRight 1 = .ok (.aload_n 0, 1) := dk_42 (dk_at dksX3_goodRight_0 1 rfl rfl)
theorem dX3_goodRight_2 : decode cX3_goodRight 2 = .ok (.invokevirtual 154, 3) := dk_182 0 154 (dk_at dksX3_goodRight_0 2 rfl rfl)
theorem dX3_goodRight_5 : decode cX3_goodRight 5 = .ok (.iconst 1, 1) := dk_4 (dk_at dksX3_goodRight_0 5 rfl rfl)
theorem dX3_goodRight_6 : decode cX3_goodRight 6 = .ok (.if_icmp .ne 7, 3) := dk_160 0 7 (dk_at dksX3_goodRight_0 6 rfl rfl)
theorem dX3_goodRight_9 : decode cX3_goodRight 9 = .ok (.iconst 1, 1) := dk_4 (dk_at dksX3_goodRight_0 9 rfl rfl)
theorem dX3_goodRight_10 : decode cX3_goodRight 10 = .ok (.goto 4, 3) := dk_167 0 4 (dk_at dksX3_goodRight_0 10 rfl rfl)
theorem dX3_goodRight_13 : decode cX3_goodRight 13 = .ok (.iconst 0, 1) := dk_3 (dk_at dksX3_goodRight_0 13 rfl rfl)
theorem dX3_goodRight_14 : decode cX3_goodRight 14 = .ok (.invokevirtual 59, 3) := dk_182 0 59 (dk_at dksX3_goodRight_0 14 rfl rfl)
theorem dX3_goodRight_17 : decode cX3_goodRight 17 = .ok (.ifCond .eq 13, 3) := dk_153 0 13 (dk_at dksX3_goodRight_0 17 rfl rfl)
theorem dX3_goodRight_20 : decode cX3_goodRight 20 = .ok (.aload_n 0, 1) := dk_42 (dk_at dksX3_goodRight_0 20 rfl rfl)
theorem dX3_goodRight_21 : decode cX3_goodRight 21 = .ok (.invokevirtual 160, 3) := dk_182 0 160 (dk_at dksX3_goodRight_0 21 rfl rfl)
theorem dX3_goodRight_24 : decode cX3_goodRight 24 = .ok (.bipush 9, 2) := dk_16 9 (dk_at dksX3_goodRight_1 0 rfl rfl)
theorem dX3_goodRight_26 : decode cX3_goodRight 26 = .ok (.ishr, 1) := dk_122 (dk_at dksX3_goodRight_1 2 rfl rfl)
theorem dX3_goodRight_27 : decode cX3_goodRight 27 = .ok (.goto 4, 3) := dk_167 0 4 (dk_at dksX3_goodRight_1 3 rfl rfl)
theorem dX3_goodRight_30 : decode cX3_goodRight 30 = .ok (.iconst 0, 1) := dk_3 (dk_at dksX3_goodRight_1 6 rfl rfl)
theorem dX3_goodRight_31 : decode cX3_goodRight 31 = .ok (.ireturn, 1) := dk_172 (dk_at dksX3_goodRight_1 7 rfl rfl)
theorem q56 : (Jvm.Cond.initialized "RecipeOfScalesModel") ∈ lw_all := lw_g (lw_at lw_m1 6 rfl) rfl
theorem q759 : (Jvm.Cond.selects "RecipeOfScalesModel" ({ cls := "java/lang/Object", name := "getClass", desc := "()Ljava/lang/Class;" } : Jvm.MethodName) ({ cls := "java/lang/Object", name := "getClass", desc := "()Ljava/lang/Class;" } : Jvm.MethodName)) ∈ lw_all := lw_g (lw_at lw_m3 229 rfl) rfl
theorem q1028 : (Jvm.Cond.instantiable "RecipeOfScalesModel" (13 : Nat)) ∈ lw_all := lw_g (lw_at lw_m5 18 rfl) rfl
theorem q1030 : (Jvm.Cond.instanceMethod ({ cls := "RecipeOfScalesModel", name := "<init>", desc := "()V" } : Jvm.MethodName)) ∈ lw_all := lw_g (lw_at lw_m5 20 rfl) rfl
theorem q1031 : (Jvm.Cond.code ({ cls := "RecipeOfScalesModel", name := "<init>", desc := "()V" } : Jvm.MethodName) prog_5_method_1_code (1 : Nat) (Option.none : Option Jvm.ClassFile.FieldType)) ∈ lw_all := lw_g (lw_at lw_m5 21 rfl) rfl
theorem q1032 : (Jvm.Cond.methodLink "RecipeOfScalesModel" (1 : Nat) ({ cls := "java/lang/Object", name := "<init>", desc := "()V" } : Jvm.MethodName)) ∈ lw_all := lw_g (lw_at lw_m5 22 rfl) rfl
theorem q1033 : (Jvm.Cond.methodLink "RecipeOfScalesModel" (45 : Nat) ({ cls := "RecipeOfScalesModel", name := "begin", desc := "(I)V" } : Jvm.MethodName)) ∈ lw_all := lw_g (lw_at lw_m5 23 rfl) rfl
theorem q1034 : (Jvm.Cond.privateMethod ({ cls := "RecipeOfScalesModel", name := "begin", desc := "(I)V" } : Jvm.MethodName)) ∈ lw_tbl := lw_at lw_m5 24 rfl
theorem q1035 : (Jvm.Cond.instanceMethod ({ cls := "RecipeOfScalesModel", name := "begin", desc := "(I)V" } : Jvm.MethodName)) ∈ lw_all := lw_g (lw_at lw_m5 25 rfl) rfl
theorem q1036 : (Jvm.Cond.code ({ cls := "RecipeOfScalesModel", name := "begin", desc := "(I)V" } : Jvm.MethodName) prog_5_method_43_code (3 : Nat) (Option.none : Option Jvm.ClassFile.FieldType)) ∈ lw_all := lw_g (lw_at lw_m5 26 rfl) rfl
theorem q1037 : (Jvm.Cond.methodLink "RecipeOfScalesModel" (135 : Nat) ({ cls := "RecipeOfScalesModel", name := "layNeeds", desc := "()V" } : Jvm.MethodName)) ∈ lw_all := lw_g (lw_at lw_m5 27 rfl) rfl
theorem q1038 : (Jvm.Cond.privateMethod ({ cls := "RecipeOfScalesModel", name := "layNeeds", desc := "()V" } : Jvm.MethodName)) ∈ lw_tbl := lw_at lw_m5 28 rfl
theorem q1039 : (Jvm.Cond.instanceMethod ({ cls := "RecipeOfScalesModel", name := "layNeeds", desc := "()V" } : Jvm.MethodName)) ∈ lw_all := lw_g (lw_at lw_m5 29 rfl) rfl
theorem q1040 : (Jvm.Cond.code ({ cls := "RecipeOfScalesModel", name := "layNeeds", desc := "()V" } : Jvm.MethodName) prog_5_method_42_code (6 : Nat) (Option.none : Option Jvm.ClassFile.FieldType)) ∈ lw_all := lw_g (lw_at lw_m5 30 rfl) rfl
theorem q1041 : (Jvm.Cond.methodLink "RecipeOfScalesModel" (111 : Nat) ({ cls := "RecipeOfScalesModel", name := "at", desc := "(III)I" } : Jvm.MethodName)) ∈ lw_all := lw_g (lw_at lw_m5 31 rfl) rfl
theorem q1042 : (Jvm.Cond.static ({ cls := "RecipeOfScalesModel", name := "at", desc := "(III)I" } : Jvm.MethodName)) ∈ lw_all := lw_g (lw_at lw_m5 32 rfl) rfl
theorem q1043 : (Jvm.Cond.code ({ cls := "RecipeOfScalesModel", name := "at", desc := "(III)I" } : Jvm.MethodName) prog_5_method_34_code (3 : Nat) (Option.some Jvm.ClassFile.FieldType.int)) ∈ lw_all := lw_g (lw_at lw_m5 33 rfl) rfl
theorem q1044 : (Jvm.Cond.methodLink "RecipeOfScalesModel" (132 : Nat) ({ cls := "RecipeOfScalesModel", name := "canDo", desc := "(IIII)Z" } : Jvm.MethodName)) ∈ lw_all := lw_g (lw_at lw_m5 34 rfl) rfl
theorem q1045 : (Jvm.Cond.privateMethod ({ cls := "RecipeOfScalesModel", name := "canDo", desc := "(IIII)Z" } : Jvm.MethodName)) ∈ lw_tbl := lw_at lw_m5 35 rfl
theorem q1046 : (Jvm.Cond.instanceMethod ({ cls := "RecipeOfScalesModel", name := "canDo", desc := "(IIII)Z" } : Jvm.MethodName)) ∈ lw_all := lw_g (lw_at lw_m5 36 rfl) rfl
theorem q1047 : (Jvm.Cond.code ({ cls := "RecipeOfScalesModel", name := "canDo", desc := "(IIII)Z" } : Jvm.MethodName) prog_5_method_41_code (13 : Nat) (Option.some Jvm.ClassFile.FieldType.boolean)) ∈ lw_all := lw_g (lw_at lw_m5 37 rfl) rfl
theorem q1048 : (Jvm.Cond.methodLink "RecipeOfScalesModel" (118 : Nat) ({ cls := "RecipeOfScalesModel", name := "fits", desc := "(IIII)Z" } : Jvm.MethodName)) ∈ lw_all := lw_g (lw_at lw_m5 38 rfl) rfl
theorem q1049 : (Jvm.Cond.static ({ cls := "RecipeOfScalesModel", name := "fits", desc := "(IIII)Z" } : Jvm.MethodName)) ∈ lw_all := lw_g (lw_at lw_m5 39 rfl) rfl
theorem q1050 : (Jvm.Cond.code ({ cls := "RecipeOfScalesModel", name := "fits", desc := "(IIII)Z" } : Jvm.MethodName) prog_5_method_40_code (4 : Nat) (Option.some Jvm.ClassFile.FieldType.boolean)) ∈ lw_all := lw_g (lw_at lw_m5 40 rfl) rfl
theorem q1051 : (Jvm.Cond.methodLink "RecipeOfScalesModel" (122 : Nat) ({ cls := "RecipeOfScalesModel", name := "sum", desc := "(I)I" } : Jvm.MethodName)) ∈ lw_all := lw_g (lw_at lw_m5 41 rfl) rfl
theorem q1052 : (Jvm.Cond.static ({ cls := "RecipeOfScalesModel", name := "sum", desc := "(I)I" } : Jvm.MethodName)) ∈ lw_all := lw_g (lw_at lw_m5 42 rfl) rfl
theorem q1053 : (Jvm.Cond.code ({ cls := "RecipeOfScalesModel", name := "sum", desc := "(I)I" } : Jvm.MethodName) prog_5_method_39_code (1 : Nat) (Option.some Jvm.ClassFile.FieldType.int)) ∈ lw_all := lw_g (lw_at lw_m5 43 rfl) rfl
theorem q1054 : (Jvm.Cond.methodLink "RecipeOfScalesModel" (125 : Nat) ({ cls := "RecipeOfScalesModel", name := "split", desc := "(IIIII)V" } : Jvm.MethodName)) ∈ lw_all := lw_g (lw_at lw_m5 44 rfl) rfl
theorem q1055 : (Jvm.Cond.privateMethod ({ cls := "RecipeOfScalesModel", name := "split", desc := "(IIIII)V" } : Jvm.MethodName)) ∈ lw_tbl := lw_at lw_m5 45 rfl
theorem q1056 : (Jvm.Cond.instanceMethod ({ cls := "RecipeOfScalesModel", name := "split", desc := "(IIIII)V" } : Jvm.MethodName)) ∈ lw_all := lw_g (lw_at lw_m5 46 rfl) rfl
theorem q1057 : (Jvm.Cond.code ({ cls := "RecipeOfScalesModel", name := "split", desc := "(IIIII)V" } : Jvm.MethodName) prog_5_method_38_code (12 : Nat) (Option.none : Option Jvm.ClassFile.FieldType)) ∈ lw_all := lw_g (lw_at lw_m5 47 rfl) rfl
theorem q1058 : (Jvm.Cond.methodLink "RecipeOfScalesModel" (129 : Nat) ({ cls := "RecipeOfScalesModel", name := "worst", desc := "()I" } : Jvm.MethodName)) ∈ lw_all := lw_g (lw_at lw_m5 48 rfl) rfl
theorem q1059 : (Jvm.Cond.privateMethod ({ cls := "RecipeOfScalesModel", name := "worst", desc := "()I" } : Jvm.MethodName)) ∈ lw_tbl := lw_at lw_m5 49 rfl
theorem q1060 : (Jvm.Cond.instanceMethod ({ cls := "RecipeOfScalesModel", name := "worst", desc := "()I" } : Jvm.MethodName)) ∈ lw_all := lw_g (lw_at lw_m5 50 rfl) rfl
theorem q1061 : (Jvm.Cond.code ({ cls := "RecipeOfScalesModel", name := "worst", desc := "()I" } : Jvm.MethodName) prog_5_method_37_code (2 : Nat) (Option.some Jvm.ClassFile.FieldType.int)) ∈ lw_all := lw_g (lw_at lw_m5 51 rfl) rfl
theorem q1062 : (Jvm.Cond.methodLink "RecipeOfScalesModel" (115 : Nat) ({ cls := "RecipeOfScalesModel", name := "needOf", desc := "(I)I" } : Jvm.MethodName)) ∈ lw_all := lw_g (lw_at lw_m5 52 rfl) rfl
theorem q1063 : (Jvm.Cond.privateMethod ({ cls := "RecipeOfScalesModel", name := "needOf", desc := "(I)I" } : Jvm.MethodName)) ∈ lw_tbl := lw_at lw_m5 53 rfl
theorem q1064 : (Jvm.Cond.instanceMethod ({ cls := "RecipeOfScalesModel", name := "needOf", desc := "(I)I" } : Jvm.MethodName)) ∈ lw_all := lw_g (lw_at lw_m5 54 rfl) rfl
theorem q1065 : (Jvm.Cond.code ({ cls := "RecipeOfScalesModel", name := "needOf", desc := "(I)I" } : Jvm.MethodName) prog_5_method_36_code (2 : Nat) (Option.some Jvm.ClassFile.FieldType.int)) ∈ lw_all := lw_g (lw_at lw_m5 55 rfl) rfl
theorem q1066 : (Jvm.Cond.methodLink "RecipeOfScalesModel" (108 : Nat) ({ cls := "RecipeOfScalesModel", name := "pairsOf", desc := "(I)I" } : Jvm.MethodName)) ∈ lw_all := lw_g (lw_at lw_m5 56 rfl) rfl
theorem q1067 : (Jvm.Cond.privateMethod ({ cls := "RecipeOfScalesModel", name := "pairsOf", desc := "(I)I" } : Jvm.MethodName)) ∈ lw_tbl := lw_at lw_m5 57 rfl
theorem q1068 : (Jvm.Cond.instanceMethod ({ cls := "RecipeOfScalesModel", name := "pairsOf", desc := "(I)I" } : Jvm.MethodName)) ∈ lw_all := lw_g (lw_at lw_m5 58 rfl) rfl
theorem q1069 : (Jvm.Cond.code ({ cls := "RecipeOfScalesModel", name := "pairsOf", desc := "(I)I" } : Jvm.MethodName) prog_5_method_35_code (2 : Nat) (Option.some Jvm.ClassFile.FieldType.int)) ∈ lw_all := lw_g (lw_at lw_m5 59 rfl) rfl
theorem q1070 : (Jvm.Cond.fieldLink "RecipeOfScalesModel" (49 : Nat) "RecipeOfScalesModel" "thrown" "I") ∈ lw_all := lw_g (lw_at lw_m5 60 rfl) rfl
theorem q1071 : (Jvm.Cond.fieldLink "RecipeOfScalesModel" (7 : Nat) "RecipeOfScalesModel" "masses" "[I") ∈ lw_all := lw_g (lw_at lw_m5 61 rfl) rfl
theorem q1072 : (Jvm.Cond.fieldLink "RecipeOfScalesModel" (13 : Nat) "RecipeOfScalesModel" "errors" "[I") ∈ lw_all := lw_g (lw_at lw_m5 62 rfl) rfl
theorem q1073 : (Jvm.Cond.fieldLink "RecipeOfScalesModel" (56 : Nat) "RecipeOfScalesModel" "many" "I") ∈ lw_all := lw_g (lw_at lw_m5 63 rfl) rfl
theorem q1074 : (Jvm.Cond.fieldLink "RecipeOfScalesModel" (16 : Nat) "RecipeOfScalesModel" "placing" "[I") ∈ lw_all := lw_g (lw_at lw_m5 64 rfl) rfl
theorem q1075 : (Jvm.Cond.fieldLink "RecipeOfScalesModel" (19 : Nat) "RecipeOfScalesModel" "best" "[I") ∈ lw_all := lw_g (lw_at lw_m5 65 rfl) rfl
theorem q1076 : (Jvm.Cond.fieldLink "RecipeOfScalesModel" (22 : Nat) "RecipeOfScalesModel" "isWeighed" "[Z") ∈ lw_all := lw_g (lw_at lw_m5 66 rfl) rfl
theorem q1077 : (Jvm.Cond.fieldLink "RecipeOfScalesModel" (26 : Nat) "RecipeOfScalesModel" "coins" "I") ∈ lw_all := lw_g (lw_at lw_m5 67 rfl) rfl
theorem q1078 : (Jvm.Cond.fieldLink "RecipeOfScalesModel" (30 : Nat) "RecipeOfScalesModel" "pairs" "[I") ∈ lw_all := lw_g (lw_at lw_m5 68 rfl) rfl
theorem q1079 : (Jvm.Cond.fieldLink "RecipeOfScalesModel" (33 : Nat) "RecipeOfScalesModel" "needs" "[I") ∈ lw_all := lw_g (lw_at lw_m5 69 rfl) rfl
theorem q1080 : (Jvm.Cond.fieldLink "RecipeOfScalesModel" (36 : Nat) "RecipeOfScalesModel" "both" "[I") ∈ lw_all := lw_g (lw_at lw_m5 70 rfl) rfl
theorem q1081 : (Jvm.Cond.fieldLink "RecipeOfScalesModel" (39 : Nat) "RecipeOfScalesModel" "heavy" "[I") ∈ lw_all := lw_g (lw_at lw_m5 71 rfl) rfl
theorem q1082 : (Jvm.Cond.fieldLink "RecipeOfScalesModel" (42 : Nat) "RecipeOfScalesModel" "light" "[I") ∈ lw_all := lw_g (lw_at lw_m5 72 rfl) rfl
theorem q1083 : (Jvm.Cond.lays "RecipeOfScalesModel" "RecipeOfScalesModel" "thrown" "I") ∈ lw_all := lw_g (lw_at lw_m5 73 rfl) rfl
theorem q1084 : (Jvm.Cond.soleField "RecipeOfScalesModel" "thrown") ∈ lw_all := lw_g (lw_at lw_m5 74 rfl) rfl
theorem q1085 : (Jvm.Cond.laysFinal "RecipeOfScalesModel" "RecipeOfScalesModel" "masses" "[I") ∈ lw_all := lw_g (lw_at lw_m5 75 rfl) rfl
theorem q1086 : (Jvm.Cond.soleField "RecipeOfScalesModel" "masses") ∈ lw_all := lw_g (lw_at lw_m5 76 rfl) rfl
theorem q1087 : (Jvm.Cond.laysFinal "RecipeOfScalesModel" "RecipeOfScalesModel" "errors" "[I") ∈ lw_all := lw_g (lw_at lw_m5 77 rfl) rfl
theorem q1088 : (Jvm.Cond.soleField "RecipeOfScalesModel" "errors") ∈ lw_all := lw_g (lw_at lw_m5 78 rfl) rfl
theorem q1089 : (Jvm.Cond.lays "RecipeOfScalesModel" "RecipeOfScalesModel" "many" "I") ∈ lw_all := lw_g (lw_at lw_m5 79 rfl) rfl
theorem q1090 : (Jvm.Cond.soleField "RecipeOfScalesModel" "many") ∈ lw_all := lw_g (lw_at lw_m5 80 rfl) rfl
theorem q1091 : (Jvm.Cond.laysFinal "RecipeOfScalesModel" "RecipeOfScalesModel" "placing" "[I") ∈ lw_all := lw_g (lw_at lw_m5 81 rfl) rfl
theorem q1092 : (Jvm.Cond.soleField "RecipeOfScalesModel" "placing") ∈ lw_all := lw_g (lw_at lw_m5 82 rfl) rfl
theorem q1093 : (Jvm.Cond.laysFinal "RecipeOfScalesModel" "RecipeOfScalesModel" "best" "[I") ∈ lw_all := lw_g (lw_at lw_m5 83 rfl) rfl
theorem q1094 : (Jvm.Cond.soleField "RecipeOfScalesModel" "best") ∈ lw_all := lw_g (lw_at lw_m5 84 rfl) rfl
theorem q1095 : (Jvm.Cond.laysFinal "RecipeOfScalesModel" "RecipeOfScalesModel" "isWeighed" "[Z") ∈ lw_all := lw_g (lw_at lw_m5 85 rfl) rfl
theorem q1096 : (Jvm.Cond.soleField "RecipeOfScalesModel" "isWeighed") ∈ lw_all := lw_g (lw_at lw_m5 86 rfl) rfl
theorem q1097 : (Jvm.Cond.lays "RecipeOfScalesModel" "RecipeOfScalesModel" "coins" "I") ∈ lw_all := lw_g (lw_at lw_m5 87 rfl) rfl
theorem q1098 : (Jvm.Cond.soleField "RecipeOfScalesModel" "coins") ∈ lw_all := lw_g (lw_at lw_m5 88 rfl) rfl
theorem q1099 : (Jvm.Cond.laysFinal "RecipeOfScalesModel" "RecipeOfScalesModel" "pairs" "[I") ∈ lw_all := lw_g (lw_at lw_m5 89 rfl) rfl
theorem q1100 : (Jvm.Cond.soleField "RecipeOfScalesModel" "pairs") ∈ lw_all := lw_g (lw_at lw_m5 90 rfl) rfl
theorem q1101 : (Jvm.Cond.laysFinal "RecipeOfScalesModel" "RecipeOfScalesModel" "needs" "[I") ∈ lw_all := lw_g (lw_at lw_m5 91 rfl) rfl
theorem q1102 : (Jvm.Cond.soleField "RecipeOfScalesModel" "needs") ∈ lw_all := lw_g (lw_at lw_m5 92 rfl) rfl
theorem q1103 : (Jvm.Cond.laysFinal "RecipeOfScalesModel" "RecipeOfScalesModel" "both" "[I") ∈ lw_all := lw_g (lw_at lw_m5 93 rfl) rfl
theorem q1104 : (Jvm.Cond.soleField "RecipeOfScalesModel" "both") ∈ lw_all := lw_g (lw_at lw_m5 94 rfl) rfl
theorem q1105 : (Jvm.Cond.laysFinal "RecipeOfScalesModel" "RecipeOfScalesModel" "heavy" "[I") ∈ lw_all := lw_g (lw_at lw_m5 95 rfl) rfl
theorem q1106 : (Jvm.Cond.soleField "RecipeOfScalesModel" "heavy") ∈ lw_all := lw_g (lw_at lw_m5 96 rfl) rfl
theorem q1107 : (Jvm.Cond.laysFinal "RecipeOfScalesModel" "RecipeOfScalesModel" "light" "[I") ∈ lw_all := lw_g (lw_at lw_m5 97 rfl) rfl
theorem q1108 : (Jvm.Cond.soleField "RecipeOfScalesModel" "light") ∈ lw_all := lw_g (lw_at lw_m5 98 rfl) rfl
theorem q1109 : (Jvm.Cond.superclass "RecipeOfScalesModel" "java/lang/Object") ∈ lw_all := lw_g (lw_at lw_m5 99 rfl) rfl
theorem q1112 : (Jvm.Cond.instanceMethod ({ cls := "RecipeOfScalesModel", name := "thrown", desc := "()I" } : Jvm.MethodName)) ∈ lw_all := lw_g (lw_at lw_m5 102 rfl) rfl
theorem q1113 : (Jvm.Cond.selects "RecipeOfScalesModel" ({ cls := "RecipeOfScalesModel", name := "thrown", desc := "()I" } : Jvm.MethodName) ({ cls := "RecipeOfScalesModel", name := "thrown", desc := "()I" } : Jvm.MethodName)) ∈ lw_all := lw_g (lw_at lw_m5 103 rfl) rfl
theorem q1114 : (Jvm.Cond.code ({ cls := "RecipeOfScalesModel", name := "thrown", desc := "()I" } : Jvm.MethodName) prog_5_method_2_code (1 : Nat) (Option.some Jvm.ClassFile.FieldType.int)) ∈ lw_all := lw_g (lw_at lw_m5 104 rfl) rfl
theorem q1116 : (Jvm.Cond.instanceMethod ({ cls := "RecipeOfScalesModel", name := "tell", desc := "(II)I" } : Jvm.MethodName)) ∈ lw_all := lw_g (lw_at lw_m5 106 rfl) rfl
theorem q1117 : (Jvm.Cond.selects "RecipeOfScalesModel" ({ cls := "RecipeOfScalesModel", name := "tell", desc := "(II)I" } : Jvm.MethodName) ({ cls := "RecipeOfScalesModel", name := "tell", desc := "(II)I" } : Jvm.MethodName)) ∈ lw_all := lw_g (lw_at lw_m5 107 rfl) rfl
theorem q1118 : (Jvm.Cond.code ({ cls := "RecipeOfScalesModel", name := "tell", desc := "(II)I" } : Jvm.MethodName) prog_5_method_8_code (3 : Nat) (Option.some Jvm.ClassFile.FieldType.int)) ∈ lw_all := lw_g (lw_at lw_m5 108 rfl) rfl
theorem q1119 : (Jvm.Cond.methodLink "RecipeOfScalesModel" (52 : Nat) ({ cls := "RecipeOfScalesModel", name := "in", desc := "(III)Z" } : Jvm.MethodName)) ∈ lw_all := lw_g (lw_at lw_m5 109 rfl) rfl
theorem q1120 : (Jvm.Cond.static ({ cls := "RecipeOfScalesModel", name := "in", desc := "(III)Z" } : Jvm.MethodName)) ∈ lw_all := lw_g (lw_at lw_m5 110 rfl) rfl
theorem q1121 : (Jvm.Cond.code ({ cls := "RecipeOfScalesModel", name := "in", desc := "(III)Z" } : Jvm.MethodName) prog_5_method_4_code (3 : Nat) (Option.some Jvm.ClassFile.FieldType.boolean)) ∈ lw_all := lw_g (lw_at lw_m5 111 rfl) rfl
theorem q1122 : (Jvm.Cond.methodLink "RecipeOfScalesModel" (59 : Nat) ({ cls := "RecipeOfScalesModel", name := "goesWell", desc := "(I)Z" } : Jvm.MethodName)) ∈ lw_all := lw_g (lw_at lw_m5 112 rfl) rfl
theorem q1123 : (Jvm.Cond.privateMethod ({ cls := "RecipeOfScalesModel", name := "goesWell", desc := "(I)Z" } : Jvm.MethodName)) ∈ lw_tbl := lw_at lw_m5 113 rfl
theorem q1124 : (Jvm.Cond.instanceMethod ({ cls := "RecipeOfScalesModel", name := "goesWell", desc := "(I)Z" } : Jvm.MethodName)) ∈ lw_all := lw_g (lw_at lw_m5 114 rfl) rfl
theorem q1125 : (Jvm.Cond.code ({ cls := "RecipeOfScalesModel", name := "goesWell", desc := "(I)Z" } : Jvm.MethodName) prog_5_method_3_code (2 : Nat) (Option.some Jvm.ClassFile.FieldType.boolean)) ∈ lw_all := lw_g (lw_at lw_m5 115 rfl) rfl
theorem q1127 : (Jvm.Cond.instanceMethod ({ cls := "RecipeOfScalesModel", name := "takeAway", desc := "(I)I" } : Jvm.MethodName)) ∈ lw_all := lw_g (lw_at lw_m5 117 rfl) rfl
theorem q1128 : (Jvm.Cond.selects "RecipeOfScalesModel" ({ cls := "RecipeOfScalesModel", name := "takeAway", desc := "(I)I" } : Jvm.MethodName) ({ cls := "RecipeOfScalesModel", name := "takeAway", desc := "(I)I" } : Jvm.MethodName)) ∈ lw_all := lw_g (lw_at lw_m5 118 rfl) rfl
theorem q1129 : (Jvm.Cond.code ({ cls := "RecipeOfScalesModel", name := "takeAway", desc := "(I)I" } : Jvm.MethodName) prog_5_method_9_code (3 : Nat) (Option.some Jvm.ClassFile.FieldType.int)) ∈ lw_all := lw_g (lw_at lw_m5 119 rfl) rfl
theorem q1130 : (Jvm.Cond.methodLink "RecipeOfScalesModel" (63 : Nat) ({ cls := "RecipeOfScalesModel", name := "isWeight", desc := "(I)Z" } : Jvm.MethodName)) ∈ lw_all := lw_g (lw_at lw_m5 120 rfl) rfl
theorem q1131 : (Jvm.Cond.privateMethod ({ cls := "RecipeOfScalesModel", name := "isWeight", desc := "(I)Z" } : Jvm.MethodName)) ∈ lw_tbl := lw_at lw_m5 121 rfl
theorem q1132 : (Jvm.Cond.instanceMethod ({ cls := "RecipeOfScalesModel", name := "isWeight", desc := "(I)Z" } : Jvm.MethodName)) ∈ lw_all := lw_g (lw_at lw_m5 122 rfl) rfl
theorem q1133 : (Jvm.Cond.code ({ cls := "RecipeOfScalesModel", name := "isWeight", desc := "(I)Z" } : Jvm.MethodName) prog_5_method_6_code (2 : Nat) (Option.some Jvm.ClassFile.FieldType.boolean)) ∈ lw_all := lw_g (lw_at lw_m5 123 rfl) rfl
theorem q1135 : (Jvm.Cond.instanceMethod ({ cls := "RecipeOfScalesModel", name := "weights", desc := "()I" } : Jvm.MethodName)) ∈ lw_all := lw_g (lw_at lw_m5 125 rfl) rfl
theorem q1136 : (Jvm.Cond.selects "RecipeOfScalesModel" ({ cls := "RecipeOfScalesModel", name := "weights", desc := "()I" } : Jvm.MethodName) ({ cls := "RecipeOfScalesModel", name := "weights", desc := "()I" } : Jvm.MethodName)) ∈ lw_all := lw_g (lw_at lw_m5 126 rfl) rfl
theorem q1137 : (Jvm.Cond.code ({ cls := "RecipeOfScalesModel", name := "weights", desc := "()I" } : Jvm.MethodName) prog_5_method_10_code (1 : Nat) (Option.some Jvm.ClassFile.FieldType.int)) ∈ lw_all := lw_g (lw_at lw_m5 127 rfl) rfl
theorem q1139 : (Jvm.Cond.instanceMethod ({ cls := "RecipeOfScalesModel", name := "massOf", desc := "(I)I" } : Jvm.MethodName)) ∈ lw_all := lw_g (lw_at lw_m5 129 rfl) rfl
theorem q1140 : (Jvm.Cond.selects "RecipeOfScalesModel" ({ cls := "RecipeOfScalesModel", name := "massOf", desc := "(I)I" } : Jvm.MethodName) ({ cls := "RecipeOfScalesModel", name := "massOf", desc := "(I)I" } : Jvm.MethodName)) ∈ lw_all := lw_g (lw_at lw_m5 130 rfl) rfl
theorem q1141 : (Jvm.Cond.code ({ cls := "RecipeOfScalesModel", name := "massOf", desc := "(I)I" } : Jvm.MethodName) prog_5_method_11_code (2 : Nat) (Option.some Jvm.ClassFile.FieldType.int)) ∈ lw_all := lw_g (lw_at lw_m5 131 rfl) rfl
theorem q1143 : (Jvm.Cond.instanceMethod ({ cls := "RecipeOfScalesModel", name := "canWeigh", desc := "(I)Z" } : Jvm.MethodName)) ∈ lw_all := lw_g (lw_at lw_m5 133 rfl) rfl
theorem q1144 : (Jvm.Cond.selects "RecipeOfScalesModel" ({ cls := "RecipeOfScalesModel", name := "canWeigh", desc := "(I)Z" } : Jvm.MethodName) ({ cls := "RecipeOfScalesModel", name := "canWeigh", desc := "(I)Z" } : Jvm.MethodName)) ∈ lw_all := lw_g (lw_at lw_m5 134 rfl) rfl
theorem q1145 : (Jvm.Cond.code ({ cls := "RecipeOfScalesModel", name := "canWeigh", desc := "(I)Z" } : Jvm.MethodName) prog_5_method_18_code (2 : Nat) (Option.some Jvm.ClassFile.FieldType.boolean)) ∈ lw_all := lw_g (lw_at lw_m5 135 rfl) rfl
theorem q1146 : (Jvm.Cond.methodLink "RecipeOfScalesModel" (74 : Nat) ({ cls := "RecipeOfScalesModel", name := "isMass", desc := "(I)Z" } : Jvm.MethodName)) ∈ lw_all := lw_g (lw_at lw_m5 136 rfl) rfl
theorem q1147 : (Jvm.Cond.static ({ cls := "RecipeOfScalesModel", name := "isMass", desc := "(I)Z" } : Jvm.MethodName)) ∈ lw_all := lw_g (lw_at lw_m5 137 rfl) rfl
theorem q1148 : (Jvm.Cond.code ({ cls := "RecipeOfScalesModel", name := "isMass", desc := "(I)Z" } : Jvm.MethodName) prog_5_method_5_code (1 : Nat) (Option.some Jvm.ClassFile.FieldType.boolean)) ∈ lw_all := lw_g (lw_at lw_m5 138 rfl) rfl
theorem q1149 : (Jvm.Cond.methodLink "RecipeOfScalesModel" (77 : Nat) ({ cls := "RecipeOfScalesModel", name := "count", desc := "(I)I" } : Jvm.MethodName)) ∈ lw_all := lw_g (lw_at lw_m5 139 rfl) rfl
theorem q1150 : (Jvm.Cond.privateMethod ({ cls := "RecipeOfScalesModel", name := "count", desc := "(I)I" } : Jvm.MethodName)) ∈ lw_tbl := lw_at lw_m5 140 rfl
theorem q1151 : (Jvm.Cond.instanceMethod ({ cls := "RecipeOfScalesModel", name := "count", desc := "(I)I" } : Jvm.MethodName)) ∈ lw_all := lw_g (lw_at lw_m5 141 rfl) rfl
theorem q1152 : (Jvm.Cond.code ({ cls := "RecipeOfScalesModel", name := "count", desc := "(I)I" } : Jvm.MethodName) prog_5_method_17_code (4 : Nat) (Option.some Jvm.ClassFile.FieldType.int)) ∈ lw_all := lw_g (lw_at lw_m5 142 rfl) rfl
theorem q1153 : (Jvm.Cond.methodLink "RecipeOfScalesModel" (66 : Nat) ({ cls := "RecipeOfScalesModel", name := "placings", desc := "()I" } : Jvm.MethodName)) ∈ lw_all := lw_g (lw_at lw_m5 143 rfl) rfl
theorem q1154 : (Jvm.Cond.privateMethod ({ cls := "RecipeOfScalesModel", name := "placings", desc := "()I" } : Jvm.MethodName)) ∈ lw_tbl := lw_at lw_m5 144 rfl
theorem q1155 : (Jvm.Cond.instanceMethod ({ cls := "RecipeOfScalesModel", name := "placings", desc := "()I" } : Jvm.MethodName)) ∈ lw_all := lw_g (lw_at lw_m5 145 rfl) rfl
theorem q1156 : (Jvm.Cond.code ({ cls := "RecipeOfScalesModel", name := "placings", desc := "()I" } : Jvm.MethodName) prog_5_method_12_code (3 : Nat) (Option.some Jvm.ClassFile.FieldType.int)) ∈ lw_all := lw_g (lw_at lw_m5 146 rfl) rfl
theorem q1157 : (Jvm.Cond.methodLink "RecipeOfScalesModel" (70 : Nat) ({ cls := "RecipeOfScalesModel", name := "place", desc := "(I)I" } : Jvm.MethodName)) ∈ lw_all := lw_g (lw_at lw_m5 147 rfl) rfl
theorem q1158 : (Jvm.Cond.privateMethod ({ cls := "RecipeOfScalesModel", name := "place", desc := "(I)I" } : Jvm.MethodName)) ∈ lw_tbl := lw_at lw_m5 148 rfl
theorem q1159 : (Jvm.Cond.instanceMethod ({ cls := "RecipeOfScalesModel", name := "place", desc := "(I)I" } : Jvm.MethodName)) ∈ lw_all := lw_g (lw_at lw_m5 149 rfl) rfl
theorem q1160 : (Jvm.Cond.code ({ cls := "RecipeOfScalesModel", name := "place", desc := "(I)I" } : Jvm.MethodName) prog_5_method_13_code (5 : Nat) (Option.some Jvm.ClassFile.FieldType.int)) ∈ lw_all := lw_g (lw_at lw_m5 150 rfl) rfl
theorem q1162 : (Jvm.Cond.instanceMethod ({ cls := "RecipeOfScalesModel", name := "canWeighOnOnePan", desc := "(I)Z" } : Jvm.MethodName)) ∈ lw_all := lw_g (lw_at lw_m5 152 rfl) rfl
theorem q1163 : (Jvm.Cond.selects "RecipeOfScalesModel" ({ cls := "RecipeOfScalesModel", name := "canWeighOnOnePan", desc := "(I)Z" } : Jvm.MethodName) ({ cls := "RecipeOfScalesModel", name := "canWeighOnOnePan", desc := "(I)Z" } : Jvm.MethodName)) ∈ lw_all := lw_g (lw_at lw_m5 153 rfl) rfl
theorem q1164 : (Jvm.Cond.code ({ cls := "RecipeOfScalesModel", name := "canWeighOnOnePan", desc := "(I)Z" } : Jvm.MethodName) prog_5_method_19_code (4 : Nat) (Option.some Jvm.ClassFile.FieldType.boolean)) ∈ lw_all := lw_g (lw_at lw_m5 154 rfl) rfl
theorem q1165 : (Jvm.Cond.methodLink "RecipeOfScalesModel" (80 : Nat) ({ cls := "RecipeOfScalesModel", name := "leftOf", desc := "()I" } : Jvm.MethodName)) ∈ lw_all := lw_g (lw_at lw_m5 155 rfl) rfl
theorem q1166 : (Jvm.Cond.privateMethod ({ cls := "RecipeOfScalesModel", name := "leftOf", desc := "()I" } : Jvm.MethodName)) ∈ lw_tbl := lw_at lw_m5 156 rfl
theorem q1167 : (Jvm.Cond.instanceMethod ({ cls := "RecipeOfScalesModel", name := "leftOf", desc := "()I" } : Jvm.MethodName)) ∈ lw_all := lw_g (lw_at lw_m5 157 rfl) rfl
theorem q1168 : (Jvm.Cond.code ({ cls := "RecipeOfScalesModel", name := "leftOf", desc := "()I" } : Jvm.MethodName) prog_5_method_15_code (3 : Nat) (Option.some Jvm.ClassFile.FieldType.int)) ∈ lw_all := lw_g (lw_at lw_m5 158 rfl) rfl
theorem q1170 : (Jvm.Cond.instanceMethod ({ cls := "RecipeOfScalesModel", name := "ways", desc := "(I)I" } : Jvm.MethodName)) ∈ lw_all := lw_g (lw_at lw_m5 160 rfl) rfl
theorem q1171 : (Jvm.Cond.selects "RecipeOfScalesModel" ({ cls := "RecipeOfScalesModel", name := "ways", desc := "(I)I" } : Jvm.MethodName) ({ cls := "RecipeOfScalesModel", name := "ways", desc := "(I)I" } : Jvm.MethodName)) ∈ lw_all := lw_g (lw_at lw_m5 161 rfl) rfl
theorem q1172 : (Jvm.Cond.code ({ cls := "RecipeOfScalesModel", name := "ways", desc := "(I)I" } : Jvm.MethodName) prog_5_method_20_code (2 : Nat) (Option.some Jvm.ClassFile.FieldType.int)) ∈ lw_all := lw_g (lw_at lw_m5 162 rfl) rfl
theorem q1174 : (Jvm.Cond.instanceMethod ({ cls := "RecipeOfScalesModel", name := "waysByPlacings", desc := "(I)I" } : Jvm.MethodName)) ∈ lw_all := lw_g (lw_at lw_m5 164 rfl) rfl
theorem q1175 : (Jvm.Cond.selects "RecipeOfScalesModel" ({ cls := "RecipeOfScalesModel", name := "waysByPlacings", desc := "(I)I" } : Jvm.MethodName) ({ cls := "RecipeOfScalesModel", name := "waysByPlacings", desc := "(I)I" } : Jvm.MethodName)) ∈ lw_all := lw_g (lw_at lw_m5 165 rfl) rfl
theorem q1176 : (Jvm.Cond.code ({ cls := "RecipeOfScalesModel", name := "waysByPlacings", desc := "(I)I" } : Jvm.MethodName) prog_5_method_21_code (2 : Nat) (Option.some Jvm.ClassFile.FieldType.int)) ∈ lw_all := lw_g (lw_at lw_m5 166 rfl) rfl
theorem q1178 : (Jvm.Cond.instanceMethod ({ cls := "RecipeOfScalesModel", name := "fewest", desc := "(I)I" } : Jvm.MethodName)) ∈ lw_all := lw_g (lw_at lw_m5 168 rfl) rfl
theorem q1179 : (Jvm.Cond.selects "RecipeOfScalesModel" ({ cls := "RecipeOfScalesModel", name := "fewest", desc := "(I)I" } : Jvm.MethodName) ({ cls := "RecipeOfScalesModel", name := "fewest", desc := "(I)I" } : Jvm.MethodName)) ∈ lw_all := lw_g (lw_at lw_m5 169 rfl) rfl
theorem q1180 : (Jvm.Cond.code ({ cls := "RecipeOfScalesModel", name := "fewest", desc := "(I)I" } : Jvm.MethodName) prog_5_method_23_code (2 : Nat) (Option.some Jvm.ClassFile.FieldType.int)) ∈ lw_all := lw_g (lw_at lw_m5 170 rfl) rfl
theorem q1181 : (Jvm.Cond.methodLink "RecipeOfScalesModel" (86 : Nat) ({ cls := "RecipeOfScalesModel", name := "findBest", desc := "(I)I" } : Jvm.MethodName)) ∈ lw_all := lw_g (lw_at lw_m5 171 rfl) rfl
theorem q1182 : (Jvm.Cond.privateMethod ({ cls := "RecipeOfScalesModel", name := "findBest", desc := "(I)I" } : Jvm.MethodName)) ∈ lw_tbl := lw_at lw_m5 172 rfl
theorem q1183 : (Jvm.Cond.instanceMethod ({ cls := "RecipeOfScalesModel", name := "findBest", desc := "(I)I" } : Jvm.MethodName)) ∈ lw_all := lw_g (lw_at lw_m5 173 rfl) rfl
theorem q1184 : (Jvm.Cond.code ({ cls := "RecipeOfScalesModel", name := "findBest", desc := "(I)I" } : Jvm.MethodName) prog_5_method_22_code (6 : Nat) (Option.some Jvm.ClassFile.FieldType.int)) ∈ lw_all := lw_g (lw_at lw_m5 174 rfl) rfl
theorem q1185 : (Jvm.Cond.methodLink "RecipeOfScalesModel" (83 : Nat) ({ cls := "RecipeOfScalesModel", name := "sizeOf", desc := "()I" } : Jvm.MethodName)) ∈ lw_all := lw_g (lw_at lw_m5 175 rfl) rfl
theorem q1186 : (Jvm.Cond.privateMethod ({ cls := "RecipeOfScalesModel", name := "sizeOf", desc := "()I" } : Jvm.MethodName)) ∈ lw_tbl := lw_at lw_m5 176 rfl
theorem q1187 : (Jvm.Cond.instanceMethod ({ cls := "RecipeOfScalesModel", name := "sizeOf", desc := "()I" } : Jvm.MethodName)) ∈ lw_all := lw_g (lw_at lw_m5 177 rfl) rfl
theorem q1188 : (Jvm.Cond.code ({ cls := "RecipeOfScalesModel", name := "sizeOf", desc := "()I" } : Jvm.MethodName) prog_5_method_14_code (3 : Nat) (Option.some Jvm.ClassFile.FieldType.int)) ∈ lw_all := lw_g (lw_at lw_m5 178 rfl) rfl
theorem q1190 : (Jvm.Cond.instanceMethod ({ cls := "RecipeOfScalesModel", name := "placed", desc := "(II)I" } : Jvm.MethodName)) ∈ lw_all := lw_g (lw_at lw_m5 180 rfl) rfl
theorem q1191 : (Jvm.Cond.selects "RecipeOfScalesModel" ({ cls := "RecipeOfScalesModel", name := "placed", desc := "(II)I" } : Jvm.MethodName) ({ cls := "RecipeOfScalesModel", name := "placed", desc := "(II)I" } : Jvm.MethodName)) ∈ lw_all := lw_g (lw_at lw_m5 181 rfl) rfl
theorem q1192 : (Jvm.Cond.code ({ cls := "RecipeOfScalesModel", name := "placed", desc := "(II)I" } : Jvm.MethodName) prog_5_method_24_code (4 : Nat) (Option.some Jvm.ClassFile.FieldType.int)) ∈ lw_all := lw_g (lw_at lw_m5 182 rfl) rfl
theorem q1194 : (Jvm.Cond.instanceMethod ({ cls := "RecipeOfScalesModel", name := "leastError", desc := "(I)I" } : Jvm.MethodName)) ∈ lw_all := lw_g (lw_at lw_m5 184 rfl) rfl
theorem q1195 : (Jvm.Cond.selects "RecipeOfScalesModel" ({ cls := "RecipeOfScalesModel", name := "leastError", desc := "(I)I" } : Jvm.MethodName) ({ cls := "RecipeOfScalesModel", name := "leastError", desc := "(I)I" } : Jvm.MethodName)) ∈ lw_all := lw_g (lw_at lw_m5 185 rfl) rfl
theorem q1196 : (Jvm.Cond.code ({ cls := "RecipeOfScalesModel", name := "leastError", desc := "(I)I" } : Jvm.MethodName) prog_5_method_25_code (4 : Nat) (Option.some Jvm.ClassFile.FieldType.int)) ∈ lw_all := lw_g (lw_at lw_m5 186 rfl) rfl
theorem q1197 : (Jvm.Cond.methodLink "RecipeOfScalesModel" (89 : Nat) ({ cls := "RecipeOfScalesModel", name := "errorOf", desc := "()I" } : Jvm.MethodName)) ∈ lw_all := lw_g (lw_at lw_m5 187 rfl) rfl
theorem q1198 : (Jvm.Cond.privateMethod ({ cls := "RecipeOfScalesModel", name := "errorOf", desc := "()I" } : Jvm.MethodName)) ∈ lw_tbl := lw_at lw_m5 188 rfl
theorem q1199 : (Jvm.Cond.instanceMethod ({ cls := "RecipeOfScalesModel", name := "errorOf", desc := "()I" } : Jvm.MethodName)) ∈ lw_all := lw_g (lw_at lw_m5 189 rfl) rfl
theorem q1200 : (Jvm.Cond.code ({ cls := "RecipeOfScalesModel", name := "errorOf", desc := "()I" } : Jvm.MethodName) prog_5_method_16_code (3 : Nat) (Option.some Jvm.ClassFile.FieldType.int)) ∈ lw_all := lw_g (lw_at lw_m5 190 rfl) rfl
theorem q1202 : (Jvm.Cond.instanceMethod ({ cls := "RecipeOfScalesModel", name := "gap", desc := "()I" } : Jvm.MethodName)) ∈ lw_all := lw_g (lw_at lw_m5 192 rfl) rfl
theorem q1203 : (Jvm.Cond.selects "RecipeOfScalesModel" ({ cls := "RecipeOfScalesModel", name := "gap", desc := "()I" } : Jvm.MethodName) ({ cls := "RecipeOfScalesModel", name := "gap", desc := "()I" } : Jvm.MethodName)) ∈ lw_all := lw_g (lw_at lw_m5 193 rfl) rfl
theorem q1204 : (Jvm.Cond.code ({ cls := "RecipeOfScalesModel", name := "gap", desc := "()I" } : Jvm.MethodName) prog_5_method_29_code (1 : Nat) (Option.some Jvm.ClassFile.FieldType.int)) ∈ lw_all := lw_g (lw_at lw_m5 194 rfl) rfl
theorem q1205 : (Jvm.Cond.methodLink "RecipeOfScalesModel" (99 : Nat) ({ cls := "RecipeOfScalesModel", name := "layWeighed", desc := "(I)V" } : Jvm.MethodName)) ∈ lw_all := lw_g (lw_at lw_m5 195 rfl) rfl
theorem q1206 : (Jvm.Cond.privateMethod ({ cls := "RecipeOfScalesModel", name := "layWeighed", desc := "(I)V" } : Jvm.MethodName)) ∈ lw_tbl := lw_at lw_m5 196 rfl
theorem q1207 : (Jvm.Cond.instanceMethod ({ cls := "RecipeOfScalesModel", name := "layWeighed", desc := "(I)V" } : Jvm.MethodName)) ∈ lw_all := lw_g (lw_at lw_m5 197 rfl) rfl
theorem q1208 : (Jvm.Cond.code ({ cls := "RecipeOfScalesModel", name := "layWeighed", desc := "(I)V" } : Jvm.MethodName) prog_5_method_26_code (6 : Nat) (Option.none : Option Jvm.ClassFile.FieldType)) ∈ lw_all := lw_g (lw_at lw_m5 198 rfl) rfl
theorem q1209 : (Jvm.Cond.methodLink "RecipeOfScalesModel" (92 : Nat) ({ cls := "RecipeOfScalesModel", name := "has", desc := "(II)Z" } : Jvm.MethodName)) ∈ lw_all := lw_g (lw_at lw_m5 199 rfl) rfl
theorem q1210 : (Jvm.Cond.static ({ cls := "RecipeOfScalesModel", name := "has", desc := "(II)Z" } : Jvm.MethodName)) ∈ lw_all := lw_g (lw_at lw_m5 200 rfl) rfl
theorem q1211 : (Jvm.Cond.code ({ cls := "RecipeOfScalesModel", name := "has", desc := "(II)Z" } : Jvm.MethodName) prog_5_method_7_code (2 : Nat) (Option.some Jvm.ClassFile.FieldType.boolean)) ∈ lw_all := lw_g (lw_at lw_m5 201 rfl) rfl
theorem q1212 : (Jvm.Cond.methodLink "RecipeOfScalesModel" (102 : Nat) ({ cls := "RecipeOfScalesModel", name := "gapWith", desc := "(I)I" } : Jvm.MethodName)) ∈ lw_all := lw_g (lw_at lw_m5 202 rfl) rfl
theorem q1213 : (Jvm.Cond.privateMethod ({ cls := "RecipeOfScalesModel", name := "gapWith", desc := "(I)I" } : Jvm.MethodName)) ∈ lw_tbl := lw_at lw_m5 203 rfl
theorem q1214 : (Jvm.Cond.instanceMethod ({ cls := "RecipeOfScalesModel", name := "gapWith", desc := "(I)I" } : Jvm.MethodName)) ∈ lw_all := lw_g (lw_at lw_m5 204 rfl) rfl
theorem q1215 : (Jvm.Cond.code ({ cls := "RecipeOfScalesModel", name := "gapWith", desc := "(I)I" } : Jvm.MethodName) prog_5_method_28_code (3 : Nat) (Option.some Jvm.ClassFile.FieldType.int)) ∈ lw_all := lw_g (lw_at lw_m5 205 rfl) rfl
theorem q1216 : (Jvm.Cond.methodLink "RecipeOfScalesModel" (96 : Nat) ({ cls := "RecipeOfScalesModel", name := "canWith", desc := "(II)Z" } : Jvm.MethodName)) ∈ lw_all := lw_g (lw_at lw_m5 206 rfl) rfl
theorem q1217 : (Jvm.Cond.privateMethod ({ cls := "RecipeOfScalesModel", name := "canWith", desc := "(II)Z" } : Jvm.MethodName)) ∈ lw_tbl := lw_at lw_m5 207 rfl
theorem q1218 : (Jvm.Cond.instanceMethod ({ cls := "RecipeOfScalesModel", name := "canWith", desc := "(II)Z" } : Jvm.MethodName)) ∈ lw_all := lw_g (lw_at lw_m5 208 rfl) rfl
theorem q1219 : (Jvm.Cond.code ({ cls := "RecipeOfScalesModel", name := "canWith", desc := "(II)Z" } : Jvm.MethodName) prog_5_method_27_code (4 : Nat) (Option.some Jvm.ClassFile.FieldType.boolean)) ∈ lw_all := lw_g (lw_at lw_m5 209 rfl) rfl
theorem q1221 : (Jvm.Cond.instanceMethod ({ cls := "RecipeOfScalesModel", name := "masses", desc := "()I" } : Jvm.MethodName)) ∈ lw_all := lw_g (lw_at lw_m5 211 rfl) rfl
theorem q1222 : (Jvm.Cond.selects "RecipeOfScalesModel" ({ cls := "RecipeOfScalesModel", name := "masses", desc := "()I" } : Jvm.MethodName) ({ cls := "RecipeOfScalesModel", name := "masses", desc := "()I" } : Jvm.MethodName)) ∈ lw_all := lw_g (lw_at lw_m5 212 rfl) rfl
theorem q1223 : (Jvm.Cond.code ({ cls := "RecipeOfScalesModel", name := "masses", desc := "()I" } : Jvm.MethodName) prog_5_method_30_code (3 : Nat) (Option.some Jvm.ClassFile.FieldType.int)) ∈ lw_all := lw_g (lw_at lw_m5 213 rfl) rfl
theorem q1225 : (Jvm.Cond.instanceMethod ({ cls := "RecipeOfScalesModel", name := "needed", desc := "(I)I" } : Jvm.MethodName)) ∈ lw_all := lw_g (lw_at lw_m5 215 rfl) rfl
theorem q1226 : (Jvm.Cond.selects "RecipeOfScalesModel" ({ cls := "RecipeOfScalesModel", name := "needed", desc := "(I)I" } : Jvm.MethodName) ({ cls := "RecipeOfScalesModel", name := "needed", desc := "(I)I" } : Jvm.MethodName)) ∈ lw_all := lw_g (lw_at lw_m5 216 rfl) rfl
theorem q1227 : (Jvm.Cond.code ({ cls := "RecipeOfScalesModel", name := "needed", desc := "(I)I" } : Jvm.MethodName) prog_5_method_32_code (5 : Nat) (Option.some Jvm.ClassFile.FieldType.int)) ∈ lw_all := lw_g (lw_at lw_m5 217 rfl) rfl
theorem q1228 : (Jvm.Cond.methodLink "RecipeOfScalesModel" (105 : Nat) ({ cls := "RecipeOfScalesModel", name := "bitsOf", desc := "(I)I" } : Jvm.MethodName)) ∈ lw_all := lw_g (lw_at lw_m5 218 rfl) rfl
theorem q1229 : (Jvm.Cond.static ({ cls := "RecipeOfScalesModel", name := "bitsOf", desc := "(I)I" } : Jvm.MethodName)) ∈ lw_all := lw_g (lw_at lw_m5 219 rfl) rfl
theorem q1230 : (Jvm.Cond.code ({ cls := "RecipeOfScalesModel", name := "bitsOf", desc := "(I)I" } : Jvm.MethodName) prog_5_method_31_code (3 : Nat) (Option.some Jvm.ClassFile.FieldType.int)) ∈ lw_all := lw_g (lw_at lw_m5 220 rfl) rfl
theorem q1232 : (Jvm.Cond.instanceMethod ({ cls := "RecipeOfScalesModel", name := "bestMore", desc := "()I" } : Jvm.MethodName)) ∈ lw_all := lw_g (lw_at lw_m5 222 rfl) rfl
theorem q1233 : (Jvm.Cond.selects "RecipeOfScalesModel" ({ cls := "RecipeOfScalesModel", name := "bestMore", desc := "()I" } : Jvm.MethodName) ({ cls := "RecipeOfScalesModel", name := "bestMore", desc := "()I" } : Jvm.MethodName)) ∈ lw_all := lw_g (lw_at lw_m5 223 rfl) rfl
theorem q1234 : (Jvm.Cond.code ({ cls := "RecipeOfScalesModel", name := "bestMore", desc := "()I" } : Jvm.MethodName) prog_5_method_33_code (5 : Nat) (Option.some Jvm.ClassFile.FieldType.int)) ∈ lw_all := lw_g (lw_at lw_m5 224 rfl) rfl
theorem q1236 : (Jvm.Cond.instanceMethod ({ cls := "RecipeOfScalesModel", name := "lay", desc := "(I)I" } : Jvm.MethodName)) ∈ lw_all := lw_g (lw_at lw_m5 226 rfl) rfl
theorem q1237 : (Jvm.Cond.selects "RecipeOfScalesModel" ({ cls := "RecipeOfScalesModel", name := "lay", desc := "(I)I" } : Jvm.MethodName) ({ cls := "RecipeOfScalesModel", name := "lay", desc := "(I)I" } : Jvm.MethodName)) ∈ lw_all := lw_g (lw_at lw_m5 227 rfl) rfl
theorem q1238 : (Jvm.Cond.code ({ cls := "RecipeOfScalesModel", name := "lay", desc := "(I)I" } : Jvm.MethodName) prog_5_method_48_code (2 : Nat) (Option.some Jvm.ClassFile.FieldType.int)) ∈ lw_all := lw_g (lw_at lw_m5 228 rfl) rfl
theorem q1239 : (Jvm.Cond.methodLink "RecipeOfScalesModel" (144 : Nat) ({ cls := "RecipeOfScalesModel", name := "need", desc := "()I" } : Jvm.MethodName)) ∈ lw_all := lw_g (lw_at lw_m5 229 rfl) rfl
theorem q1240 : (Jvm.Cond.privateMethod ({ cls := "RecipeOfScalesModel", name := "need", desc := "()I" } : Jvm.MethodName)) ∈ lw_tbl := lw_at lw_m5 230 rfl
theorem q1241 : (Jvm.Cond.instanceMethod ({ cls := "RecipeOfScalesModel", name := "need", desc := "()I" } : Jvm.MethodName)) ∈ lw_all := lw_g (lw_at lw_m5 231 rfl) rfl
theorem q1242 : (Jvm.Cond.code ({ cls := "RecipeOfScalesModel", name := "need", desc := "()I" } : Jvm.MethodName) prog_5_method_46_code (1 : Nat) (Option.some Jvm.ClassFile.FieldType.int)) ∈ lw_all := lw_g (lw_at lw_m5 232 rfl) rfl
theorem q1243 : (Jvm.Cond.methodLink "RecipeOfScalesModel" (138 : Nat) ({ cls := "RecipeOfScalesModel", name := "all", desc := "()I" } : Jvm.MethodName)) ∈ lw_all := lw_g (lw_at lw_m5 233 rfl) rfl
theorem q1244 : (Jvm.Cond.privateMethod ({ cls := "RecipeOfScalesModel", name := "all", desc := "()I" } : Jvm.MethodName)) ∈ lw_tbl := lw_at lw_m5 234 rfl
theorem q1245 : (Jvm.Cond.instanceMethod ({ cls := "RecipeOfScalesModel", name := "all", desc := "()I" } : Jvm.MethodName)) ∈ lw_all := lw_g (lw_at lw_m5 235 rfl) rfl
theorem q1246 : (Jvm.Cond.code ({ cls := "RecipeOfScalesModel", name := "all", desc := "()I" } : Jvm.MethodName) prog_5_method_45_code (1 : Nat) (Option.some Jvm.ClassFile.FieldType.int)) ∈ lw_all := lw_g (lw_at lw_m5 236 rfl) rfl
theorem q1247 : (Jvm.Cond.methodLink "RecipeOfScalesModel" (141 : Nat) ({ cls := "RecipeOfScalesModel", name := "kindsOf", desc := "(I)I" } : Jvm.MethodName)) ∈ lw_all := lw_g (lw_at lw_m5 237 rfl) rfl
theorem q1248 : (Jvm.Cond.privateMethod ({ cls := "RecipeOfScalesModel", name := "kindsOf", desc := "(I)I" } : Jvm.MethodName)) ∈ lw_tbl := lw_at lw_m5 238 rfl
theorem q1249 : (Jvm.Cond.instanceMethod ({ cls := "RecipeOfScalesModel", name := "kindsOf", desc := "(I)I" } : Jvm.MethodName)) ∈ lw_all := lw_g (lw_at lw_m5 239 rfl) rfl
theorem q1250 : (Jvm.Cond.code ({ cls := "RecipeOfScalesModel", name := "kindsOf", desc := "(I)I" } : Jvm.MethodName) prog_5_method_44_code (4 : Nat) (Option.some Jvm.ClassFile.FieldType.int)) ∈ lw_all := lw_g (lw_at lw_m6 0 rfl) rfl
theorem q1252 : (Jvm.Cond.instanceMethod ({ cls := "RecipeOfScalesModel", name := "weigh", desc := "(III)I" } : Jvm.MethodName)) ∈ lw_all := lw_g (lw_at lw_m6 2 rfl) rfl
theorem q1253 : (Jvm.Cond.selects "RecipeOfScalesModel" ({ cls := "RecipeOfScalesModel", name := "weigh", desc := "(III)I" } : Jvm.MethodName) ({ cls := "RecipeOfScalesModel", name := "weigh", desc := "(III)I" } : Jvm.MethodName)) ∈ lw_all := lw_g (lw_at lw_m6 3 rfl) rfl
theorem q1254 : (Jvm.Cond.code ({ cls := "RecipeOfScalesModel", name := "weigh", desc := "(III)I" } : Jvm.MethodName) prog_5_method_51_code (7 : Nat) (Option.some Jvm.ClassFile.FieldType.int)) ∈ lw_all := lw_g (lw_at lw_m6 4 rfl) rfl
theorem q1255 : (Jvm.Cond.methodLink "RecipeOfScalesModel" (147 : Nat) ({ cls := "RecipeOfScalesModel", name := "isWeighing", desc := "(II)Z" } : Jvm.MethodName)) ∈ lw_all := lw_g (lw_at lw_m6 5 rfl) rfl
theorem q1256 : (Jvm.Cond.privateMethod ({ cls := "RecipeOfScalesModel", name := "isWeighing", desc := "(II)Z" } : Jvm.MethodName)) ∈ lw_tbl := lw_at lw_m6 6 rfl
theorem q1257 : (Jvm.Cond.instanceMethod ({ cls := "RecipeOfScalesModel", name := "isWeighing", desc := "(II)Z" } : Jvm.MethodName)) ∈ lw_all := lw_g (lw_at lw_m6 7 rfl) rfl
theorem q1258 : (Jvm.Cond.code ({ cls := "RecipeOfScalesModel", name := "isWeighing", desc := "(II)Z" } : Jvm.MethodName) prog_5_method_49_code (4 : Nat) (Option.some Jvm.ClassFile.FieldType.boolean)) ∈ lw_all := lw_g (lw_at lw_m6 8 rfl) rfl
theorem q1259 : (Jvm.Cond.methodLink "RecipeOfScalesModel" (150 : Nat) ({ cls := "RecipeOfScalesModel", name := "behind", desc := "(IIII)I" } : Jvm.MethodName)) ∈ lw_all := lw_g (lw_at lw_m6 9 rfl) rfl
theorem q1260 : (Jvm.Cond.privateMethod ({ cls := "RecipeOfScalesModel", name := "behind", desc := "(IIII)I" } : Jvm.MethodName)) ∈ lw_tbl := lw_at lw_m6 10 rfl
theorem q1261 : (Jvm.Cond.instanceMethod ({ cls := "RecipeOfScalesModel", name := "behind", desc := "(IIII)I" } : Jvm.MethodName)) ∈ lw_all := lw_g (lw_at lw_m6 11 rfl) rfl
theorem q1262 : (Jvm.Cond.code ({ cls := "RecipeOfScalesModel", name := "behind", desc := "(IIII)I" } : Jvm.MethodName) prog_5_method_50_code (7 : Nat) (Option.some Jvm.ClassFile.FieldType.int)) ∈ lw_all := lw_g (lw_at lw_m6 12 rfl) rfl
theorem q1263 : (Jvm.Cond.methodLink "RecipeOfScalesModel" (154 : Nat) ({ cls := "RecipeOfScalesModel", name := "possibleMany", desc := "()I" } : Jvm.MethodName)) ∈ lw_all := lw_g (lw_at lw_m6 13 rfl) rfl
theorem q1264 : (Jvm.Cond.privateMethod ({ cls := "RecipeOfScalesModel", name := "possibleMany", desc := "()I" } : Jvm.MethodName)) ∈ lw_tbl := lw_at lw_m6 14 rfl
theorem q1265 : (Jvm.Cond.instanceMethod ({ cls := "RecipeOfScalesModel", name := "possibleMany", desc := "()I" } : Jvm.MethodName)) ∈ lw_all := lw_g (lw_at lw_m6 15 rfl) rfl
theorem q1266 : (Jvm.Cond.code ({ cls := "RecipeOfScalesModel", name := "possibleMany", desc := "()I" } : Jvm.MethodName) prog_5_method_47_code (3 : Nat) (Option.some Jvm.ClassFile.FieldType.int)) ∈ lw_all := lw_g (lw_at lw_m6 16 rfl) rfl
theorem q1268 : (Jvm.Cond.instanceMethod ({ cls := "RecipeOfScalesModel", name := "coins", desc := "()I" } : Jvm.MethodName)) ∈ lw_all := lw_g (lw_at lw_m6 18 rfl) rfl
theorem q1269 : (Jvm.Cond.selects "RecipeOfScalesModel" ({ cls := "RecipeOfScalesModel", name := "coins", desc := "()I" } : Jvm.MethodName) ({ cls := "RecipeOfScalesModel", name := "coins", desc := "()I" } : Jvm.MethodName)) ∈ lw_all := lw_g (lw_at lw_m6 19 rfl) rfl
theorem q1270 : (Jvm.Cond.code ({ cls := "RecipeOfScalesModel", name := "coins", desc := "()I" } : Jvm.MethodName) prog_5_method_52_code (1 : Nat) (Option.some Jvm.ClassFile.FieldType.int)) ∈ lw_all := lw_g (lw_at lw_m6 20 rfl) rfl
theorem q1272 : (Jvm.Cond.instanceMethod ({ cls := "RecipeOfScalesModel", name := "possible", desc := "()I" } : Jvm.MethodName)) ∈ lw_all := lw_g (lw_at lw_m6 22 rfl) rfl
theorem q1273 : (Jvm.Cond.selects "RecipeOfScalesModel" ({ cls := "RecipeOfScalesModel", name := "possible", desc := "()I" } : Jvm.MethodName) ({ cls := "RecipeOfScalesModel", name := "possible", desc := "()I" } : Jvm.MethodName)) ∈ lw_all := lw_g (lw_at lw_m6 23 rfl) rfl
theorem q1274 : (Jvm.Cond.code ({ cls := "RecipeOfScalesModel", name := "possible", desc := "()I" } : Jvm.MethodName) prog_5_method_53_code (1 : Nat) (Option.some Jvm.ClassFile.FieldType.int)) ∈ lw_all := lw_g (lw_at lw_m6 24 rfl) rfl
theorem q1276 : (Jvm.Cond.instanceMethod ({ cls := "RecipeOfScalesModel", name := "mayBe", desc := "(IZ)Z" } : Jvm.MethodName)) ∈ lw_all := lw_g (lw_at lw_m6 26 rfl) rfl
theorem q1277 : (Jvm.Cond.selects "RecipeOfScalesModel" ({ cls := "RecipeOfScalesModel", name := "mayBe", desc := "(IZ)Z" } : Jvm.MethodName) ({ cls := "RecipeOfScalesModel", name := "mayBe", desc := "(IZ)Z" } : Jvm.MethodName)) ∈ lw_all := lw_g (lw_at lw_m6 27 rfl) rfl
theorem q1278 : (Jvm.Cond.code ({ cls := "RecipeOfScalesModel", name := "mayBe", desc := "(IZ)Z" } : Jvm.MethodName) prog_5_method_54_code (3 : Nat) (Option.some Jvm.ClassFile.FieldType.boolean)) ∈ lw_all := lw_g (lw_at lw_m6 28 rfl) rfl
theorem q1280 : (Jvm.Cond.instanceMethod ({ cls := "RecipeOfScalesModel", name := "faulty", desc := "()I" } : Jvm.MethodName)) ∈ lw_all := lw_g (lw_at lw_m6 30 rfl) rfl
theorem q1281 : (Jvm.Cond.selects "RecipeOfScalesModel" ({ cls := "RecipeOfScalesModel", name := "faulty", desc := "()I" } : Jvm.MethodName) ({ cls := "RecipeOfScalesModel", name := "faulty", desc := "()I" } : Jvm.MethodName)) ∈ lw_all := lw_g (lw_at lw_m6 31 rfl) rfl
theorem q1282 : (Jvm.Cond.code ({ cls := "RecipeOfScalesModel", name := "faulty", desc := "()I" } : Jvm.MethodName) prog_5_method_55_code (2 : Nat) (Option.some Jvm.ClassFile.FieldType.int)) ∈ lw_all := lw_g (lw_at lw_m6 32 rfl) rfl
theorem q1284 : (Jvm.Cond.instanceMethod ({ cls := "RecipeOfScalesModel", name := "weighings", desc := "()I" } : Jvm.MethodName)) ∈ lw_all := lw_g (lw_at lw_m6 34 rfl) rfl
theorem q1285 : (Jvm.Cond.selects "RecipeOfScalesModel" ({ cls := "RecipeOfScalesModel", name := "weighings", desc := "()I" } : Jvm.MethodName) ({ cls := "RecipeOfScalesModel", name := "weighings", desc := "()I" } : Jvm.MethodName)) ∈ lw_all := lw_g (lw_at lw_m6 35 rfl) rfl
theorem q1286 : (Jvm.Cond.code ({ cls := "RecipeOfScalesModel", name := "weighings", desc := "()I" } : Jvm.MethodName) prog_5_method_56_code (1 : Nat) (Option.some Jvm.ClassFile.FieldType.int)) ∈ lw_all := lw_g (lw_at lw_m6 36 rfl) rfl
theorem q1288 : (Jvm.Cond.instanceMethod ({ cls := "RecipeOfScalesModel", name := "isGood", desc := "(II)Z" } : Jvm.MethodName)) ∈ lw_all := lw_g (lw_at lw_m6 38 rfl) rfl
theorem q1289 : (Jvm.Cond.selects "RecipeOfScalesModel" ({ cls := "RecipeOfScalesModel", name := "isGood", desc := "(II)Z" } : Jvm.MethodName) ({ cls := "RecipeOfScalesModel", name := "isGood", desc := "(II)Z" } : Jvm.MethodName)) ∈ lw_all := lw_g (lw_at lw_m6 39 rfl) rfl
theorem q1290 : (Jvm.Cond.code ({ cls := "RecipeOfScalesModel", name := "isGood", desc := "(II)Z" } : Jvm.MethodName) prog_5_method_58_code (3 : Nat) (Option.some Jvm.ClassFile.FieldType.boolean)) ∈ lw_all := lw_g (lw_at lw_m6 40 rfl) rfl
theorem q1291 : (Jvm.Cond.methodLink "RecipeOfScalesModel" (157 : Nat) ({ cls := "RecipeOfScalesModel", name := "does", desc := "(II)Z" } : Jvm.MethodName)) ∈ lw_all := lw_g (lw_at lw_m6 41 rfl) rfl
theorem q1292 : (Jvm.Cond.privateMethod ({ cls := "RecipeOfScalesModel", name := "does", desc := "(II)Z" } : Jvm.MethodName)) ∈ lw_tbl := lw_at lw_m6 42 rfl
theorem q1293 : (Jvm.Cond.instanceMethod ({ cls := "RecipeOfScalesModel", name := "does", desc := "(II)Z" } : Jvm.MethodName)) ∈ lw_all := lw_g (lw_at lw_m6 43 rfl) rfl
theorem q1294 : (Jvm.Cond.code ({ cls := "RecipeOfScalesModel", name := "does", desc := "(II)Z" } : Jvm.MethodName) prog_5_method_57_code (4 : Nat) (Option.some Jvm.ClassFile.FieldType.boolean)) ∈ lw_all := lw_g (lw_at lw_m6 44 rfl) rfl
theorem q1296 : (Jvm.Cond.instanceMethod ({ cls := "RecipeOfScalesModel", name := "goodLeft", desc := "()I" } : Jvm.MethodName)) ∈ lw_all := lw_g (lw_at lw_m6 46 rfl) rfl
theorem q1297 : (Jvm.Cond.selects "RecipeOfScalesModel" ({ cls := "RecipeOfScalesModel", name := "goodLeft", desc := "()I" } : Jvm.MethodName) ({ cls := "RecipeOfScalesModel", name := "goodLeft", desc := "()I" } : Jvm.MethodName)) ∈ lw_all := lw_g (lw_at lw_m6 47 rfl) rfl
theorem q1298 : (Jvm.Cond.code ({ cls := "RecipeOfScalesModel", name := "goodLeft", desc := "()I" } : Jvm.MethodName) prog_5_method_60_code (1 : Nat) (Option.some Jvm.ClassFile.FieldType.int)) ∈ lw_all := lw_g (lw_at lw_m6 48 rfl) rfl
theorem q1299 : (Jvm.Cond.methodLink "RecipeOfScalesModel" (160 : Nat) ({ cls := "RecipeOfScalesModel", name := "good", desc := "()I" } : Jvm.MethodName)) ∈ lw_all := lw_g (lw_at lw_m6 49 rfl) rfl
theorem q1300 : (Jvm.Cond.privateMethod ({ cls := "RecipeOfScalesModel", name := "good", desc := "()I" } : Jvm.MethodName)) ∈ lw_tbl := lw_at lw_m6 50 rfl
theorem q1301 : (Jvm.Cond.instanceMethod ({ cls := "RecipeOfScalesModel", name := "good", desc := "()I" } : Jvm.MethodName)) ∈ lw_all := lw_g (lw_at lw_m6 51 rfl) rfl
theorem q1302 : (Jvm.Cond.code ({ cls := "RecipeOfScalesModel", name := "good", desc := "()I" } : Jvm.MethodName) prog_5_method_59_code (4 : Nat) (Option.some Jvm.ClassFile.FieldType.int)) ∈ lw_all := lw_g (lw_at lw_m6 52 rfl) rfl
theorem q1304 : (Jvm.Cond.instanceMethod ({ cls := "RecipeOfScalesModel", name := "goodRight", desc := "()I" } : Jvm.MethodName)) ∈ lw_all := lw_g (lw_at lw_m6 54 rfl) rfl
theorem q1305 : (Jvm.Cond.selects "RecipeOfScalesModel" ({ cls := "RecipeOfScalesModel", name := "goodRight", desc := "()I" } : Jvm.MethodName) ({ cls := "RecipeOfScalesModel", name := "goodRight", desc := "()I" } : Jvm.MethodName)) ∈ lw_all := lw_g (lw_at lw_m6 55 rfl) rfl
theorem q1306 : (Jvm.Cond.code ({ cls := "RecipeOfScalesModel", name := "goodRight", desc := "()I" } : Jvm.MethodName) prog_5_method_61_code (1 : Nat) (Option.some Jvm.ClassFile.FieldType.int)) ∈ lw_all := lw_g (lw_at lw_m6 56 rfl) rfl
theorem q1322 : (Jvm.Cond.castable "RecipeOfScalesModel" "java/lang/Object") ∈ lw_tbl := lw_at lw_m6 72 rfl
theorem in_X3 : ∀ w ∈ wsX30, w ∈ lw_all := lw_in wsX30 [1083, 1085, 1087, 1089, 1091, 1093, 1095, 1097, 1099, 1101, 1103, 1105, 1107] (by decide +kernel) (by decide +kernel)
