/-! SwallowSurvey$Web -/
set_option maxRecDepth 100000
def RX3 : String := "SwallowSurvey$Web"
def TX3 : u_T := fun k => match k with
  | 0 => ("SwallowSurvey$Web", "owner", "[I", true)
  | 1 => ("SwallowSurvey$Web", "step", "[I", true)
  | 2 => ("SwallowSurvey$Web", "suit", "[I", true)
  | 3 => ("SwallowSurvey$Web", "endX", "[I", true)
  | 4 => ("SwallowSurvey$Web", "endY", "[I", true)
  | 5 => ("SwallowSurvey$Web", "endSteps", "[I", true)
  | 6 => ("SwallowSurvey$Web", "endHeading", "[I", true)
  | 7 => ("SwallowSurvey$Web", "name", "[I", true)
  | 8 => ("SwallowSurvey$Web", "suits", "I", false)
  | 9 => ("SwallowSurvey$Web", "todo", "[I", true)
  | _ => ("SwallowSurvey$Web", "this$0", "LSwallowSurvey;", true)
def tyX3 : Nat → FieldType := fun k => match k with
  | 0 => .array .int
  | 1 => .array .int
  | 2 => .array .int
  | 3 => .array .int
  | 4 => .array .int
  | 5 => .array .int
  | 6 => .array .int
  | 7 => .array .int
  | 8 => .int
  | 9 => .array .int
  | _ => .object "SwallowSurvey"
abbrev wsX30 : List Cond := u_ws RX3 TX3 11
theorem nmX3 : ∀ a, a < 11 → ∀ b, b < 11 → a ≠ b → (TX3 a).2.1 ≠ (TX3 b).2.1 := by decide +kernel
theorem tyX3_ok : ∀ k, k < 11 → parseFieldDescriptor (TX3 k).2.2.1 = some (tyX3 k) := by decide +kernel
abbrev cX3_init : ByteArray := prog_11_method_1_code
def yX3_init : MethodName := ⟨RX3, "<init>", "(LSwallowSurvey;)V"⟩
def dkwX3_init_3 : List UInt8 := [188, 10, 181, 0, 37, 42, 16, 100, 188, 10, 181, 0, 40, 42, 180, 0, 15, 2, 184, 0, 43, 177]
abbrev dktX3_init_3 : List UInt8 := dkwX3_init_3 ++ []
def dkwX3_init_2 : List UInt8 := [188, 10, 181, 0, 28, 42, 16, 8, 188, 10, 181, 0, 31, 42, 16, 8, 188, 10, 181, 0, 34, 42, 16, 100]
abbrev dktX3_init_2 : List UInt8 := dkwX3_init_2 ++ dktX3_init_3
def dkwX3_init_1 : List UInt8 := [181, 0, 19, 42, 17, 1, 239, 188, 10, 181, 0, 22, 42, 16, 8, 188, 10, 181, 0, 25, 42, 16, 8]
abbrev dktX3_init_1 : List UInt8 := dkwX3_init_1 ++ dktX3_init_2
def dkwX3_init_0 : List UInt8 := [42, 43, 181, 0, 3, 42, 183, 0, 9, 42, 17, 0, 242, 188, 10, 181, 0, 15, 42, 17, 0, 242, 188, 10]
abbrev dktX3_init_0 : List UInt8 := dkwX3_init_0 ++ dktX3_init_1
theorem dksX3_init_0 : cX3_init.data.toList.drop 0 = dktX3_init_0 := by decide +kernel
theorem dksX3_init_1 : cX3_init.data.toList.drop 24 = dktX3_init_1 := dk_seg dksX3_init_0 24 rfl rfl
theorem dksX3_init_2 : cX3_init.data.toList.drop 47 = dktX3_init_2 := dk_seg dksX3_init_1 23 rfl rfl
theorem dksX3_init_3 : cX3_init.data.toList.drop 71 = dktX3_init_3 := dk_seg dksX3_init_2 24 rfl rfl
theorem dX3_init_0 : decode cX3_init 0 = .ok (.aload_n 0, 1) := dk_42 (dk_at dksX3_init_0 0 rfl rfl)
theorem dX3_init_1 : decode cX3_init 1 = .ok (.aload_n 1, 1) := dk_43 (dk_at dksX3_init_0 1 rfl rfl)
theorem dX3_init_2 : decode cX3_init 2 = .ok (.putfield 3, 3) := dk_181 0 3 (dk_at dksX3_init_0 2 rfl rfl)
theorem dX3_init_5 : decode cX3_init 5 = .ok (.aload_n 0, 1) := dk_42 (dk_at dksX3_init_0 5 rfl rfl)
theorem dX3_init_6 : decode cX3_init 6 = .ok (.invokespecial 9, 3) := dk_183 0 9 (dk_at dksX3_init_0 6 rfl rfl)
theorem dX3_init_9 : decode cX3_init 9 = .ok (.aload_n 0, 1) := dk_42 (dk_at dksX3_init_0 9 rfl rfl)
theorem dX3_init_10 : decode cX3_init 10 = .ok (.sipush 242, 3) := dk_17 0 242 (dk_at dksX3_init_0 10 rfl rfl)
theorem dX3_init_13 : decode cX3_init 13 = .ok (.newarray .int, 2) := dk_188_10 (dk_at dksX3_init_0 13 rfl rfl)
theorem dX3_init_15 : decode cX3_init 15 = .ok (.putfield 15, 3) := dk_181 0 15 (dk_at dksX3_init_0 15 rfl rfl)
theorem dX3_init_18 : decode cX3_init 18 = .ok (.aload_n 0, 1) := dk_42 (dk_at dksX3_init_0 18 rfl rfl)
theorem dX3_init_19 : decode cX3_init 19 = .ok (.sipush 242, 3) := dk_17 0 242 (dk_at dksX3_init_0 19 rfl rfl)
theorem dX3_init_22 : decode cX3_init 22 = .ok (.newarray .int, 2) := dk_188_10 (dk_at dksX3_init_0 22 rfl rfl)
theorem dX3_init_24 : decode cX3_init 24 = .ok (.putfield 19, 3) := dk_181 0 19 (dk_at dksX3_init_1 0 rfl rfl)
theorem dX3_init_27 : decode cX3_init 27 = .ok (.aload_n 0, 1) := dk_42 (dk_at dksX3_init_1 3 rfl rfl)
theorem dX3_init_28 : decode cX3_init 28 = .ok (.sipush 495, 3) := dk_17 1 239 (dk_at dksX3_init_1 4 rfl rfl)
theorem dX3_init_31 : decode cX3_init 31 = .ok (.newarray .int, 2) := dk_188_10 (dk_at dksX3_init_1 7 rfl rfl)
theorem dX3_init_33 : decode cX3_init 33 = .ok (.putfield 22, 3) := dk_181 0 22 (dk_at dksX3_init_1 9 rfl rfl)
theorem dX3_init_36 : decode cX3_init 36 = .ok (.aload_n 0, 1) := dk_42 (dk_at dksX3_init_1 12 rfl rfl)
theorem dX3_init_37 : decode cX3_init 37 = .ok (.bipush 8, 2) := dk_16 8 (dk_at dksX3_init_1 13 rfl rfl)
theorem dX3_init_39 : decode cX3_init 39 = .ok (.newarray .int, 2) := dk_188_10 (dk_at dksX3_init_1 15 rfl rfl)
theorem dX3_init_41 : decode cX3_init 41 = .ok (.putfield 25, 3) := dk_181 0 25 (dk_at dksX3_init_1 17 rfl rfl)
theorem dX3_init_44 : decode cX3_init 44 = .ok (.aload_n 0, 1) := dk_42 (dk_at dksX3_init_1 20 rfl rfl)
theorem dX3_init_45 : decode cX3_init 45 = .ok (.bipush 8, 2) := dk_16 8 (dk_at dksX3_init_1 21 rfl rfl)
theorem dX3_init_47 : decode cX3_init 47 = .ok (.newarray .int, 2) := dk_188_10 (dk_at dksX3_init_2 0 rfl rfl)
theorem dX3_init_49 : decode cX3_init 49 = .ok (.putfield 28, 3) := dk_181 0 28 (dk_at dksX3_init_2 2 rfl rfl)
theorem dX3_init_52 : decode cX3_init 52 = .ok (.aload_n 0, 1) := dk_42 (dk_at dksX3_init_2 5 rfl rfl)
theorem dX3_init_53 : decode cX3_init 53 = .ok (.bipush 8, 2) := dk_16 8 (dk_at dksX3_init_2 6 rfl rfl)
theorem dX3_init_55 : decode cX3_init 55 = .ok (.newarray .int, 2) := dk_188_10 (dk_at dksX3_init_2 8 rfl rfl)
theorem dX3_init_57 : decode cX3_init 57 = .ok (.putfield 31, 3) := dk_181 0 31 (dk_at dksX3_init_2 10 rfl rfl)
theorem dX3_init_60 : decode cX3_init 60 = .ok (.aload_n 0, 1) := dk_42 (dk_at dksX3_init_2 13 rfl rfl)
theorem dX3_init_61 : decode cX3_init 61 = .ok (.bipush 8, 2) := dk_16 8 (dk_at dksX3_init_2 14 rfl rfl)
theorem dX3_init_63 : decode cX3_init 63 = .ok (.newarray .int, 2) := dk_188_10 (dk_at dksX3_init_2 16 rfl rfl)
theorem dX3_init_65 : decode cX3_init 65 = .ok (.putfield 34, 3) := dk_181 0 34 (dk_at dksX3_init_2 18 rfl rfl)
theorem dX3_init_68 : decode cX3_init 68 = .ok (.aload_n 0, 1) := dk_42 (dk_at dksX3_init_2 21 rfl rfl)
theorem dX3_init_69 : decode cX3_init 69 = .ok (.bipush 100, 2) := dk_16 100 (dk_at dksX3_init_2 22 rfl rfl)
theorem dX3_init_71 : decode cX3_init 71 = .ok (.newarray .int, 2) := dk_188_10 (dk_at dksX3_init_3 0 rfl rfl)
theorem dX3_init_73 : decode cX3_init 73 = .ok (.putfield 37, 3) := dk_181 0 37 (dk_at dksX3_init_3 2 rfl rfl)
theorem dX3_init_76 : decode cX3_init 76 = .ok (.aload_n 0, 1) := dk_42 (dk_at dksX3_init_3 5 rfl rfl)
theorem dX3_init_77 : decode cX3_init 77 = .ok (.bipush 100, 2) := dk_16 100 (dk_at dksX3_init_3 6 rfl rfl)
theorem dX3_init_79 : decode cX3_init 79 = .ok (.newarray .int, 2) := dk_188_10 (dk_at dksX3_init_3 8 rfl rfl)
theorem dX3_init_81 : decode cX3_init 81 = .ok (.putfield 40, 3) := dk_181 0 40 (dk_at dksX3_init_3 10 rfl rfl)
theorem dX3_init_84 : decode cX3_init 84 = .ok (.aload_n 0, 1) := dk_42 (dk_at dksX3_init_3 13 rfl rfl)
theorem dX3_init_85 : decode cX3_init 85 = .ok (.getfield 15, 3) := dk_180 0 15 (dk_at dksX3_init_3 14 rfl rfl)
theorem dX3_init_88 : decode cX3_init 88 = .ok (.iconst (-1), 1) := dk_2 (dk_at dksX3_init_3 17 rfl rfl)
theorem dX3_init_89 : decode cX3_init 89 = .ok (.invokestatic 43, 3) := dk_184 0 43 (dk_at dksX3_init_3 18 rfl rfl)
theorem dX3_init_92 : decode cX3_init 92 = .ok (.return_, 1) := dk_177 (dk_at dksX3_init_3 21 rfl rfl)
abbrev cX3_surveys : ByteArray := prog_11_method_11_code
def yX3_surveys : MethodName := ⟨RX3, "surveys", "(LSwallowSurvey$Land;)V"⟩
def dkwX3_surveys_1 : List UInt8 := [43, 28, 182, 0, 149, 132, 2, 1, 167, 255, 239, 42, 43, 182, 0, 153, 87, 177]
abbrev dktX3_surveys_1 : List UInt8 := dkwX3_surveys_1 ++ []
def dkwX3_surveys_0 : List UInt8 := [42, 180, 0, 15, 2, 184, 0, 43, 42, 3, 181, 0, 53, 3, 61, 28, 43, 180, 0, 146, 162, 0, 15, 42]
abbrev dktX3_surveys_0 : List UInt8 := dkwX3_surveys_0 ++ dktX3_surveys_1
theorem dksX3_surveys_0 : cX3_surveys.data.toList.drop 0 = dktX3_surveys_0 := by decide +kernel
theorem dksX3_surveys_1 : cX3_surveys.data.toList.drop 24 = dktX3_surveys_1 := dk_seg dksX3_surveys_0 24 rfl rfl
theorem dX3_surveys_0 : decode cX3_surveys 0 = .ok (.aload_n 0, 1) := dk_42 (dk_at dksX3_surveys_0 0 rfl rfl)
theorem dX3_surveys_1 : decode cX3_surveys 1 = .ok (.getfield 15, 3) := dk_180 0 15 (dk_at dksX3_surveys_0 1 rfl rfl)
theorem dX3_surveys_4 : decode cX3_surveys 4 = .ok (.iconst (-1), 1) := dk_2 (dk_at dksX3_surveys_0 4 rfl rfl)
theorem dX3_surveys_5 : decode cX3_surveys 5 = .ok (.invokestatic 43, 3) := dk_184 0 43 (dk_at dksX3_surveys_0 5 rfl rfl)
theorem dX3_surveys_8 : decode cX3_surveys 8 = .ok (.aload_n 0, 1) := dk_42 (dk_at dksX3_surveys_0 8 rfl rfl)
theorem dX3_surveys_9 : decode cX3_surveys 9 = .ok (.iconst 0, 1) := dk_3 (dk_at dksX3_surveys_0 9 rfl rfl)
theorem dX3_surveys_10 : decode cX3_surveys 10 = .ok (.putfield 53, 3) := dk_181 0 53 (dk_at dksX3_surveys_0 10 rfl rfl)
theorem dX3_surveys_13 : decode cX3_surveys 13 = .ok (.iconst 0, 1) := dk_3 (dk_at dksX3_surveys_0 13 rfl rfl)
theorem dX3_surveys_14 : decode cX3_surveys 14 = .ok (.istore_n 2, 1) := dk_61 (dk_at dksX3_surveys_0 14 rfl rfl)
theorem dX3_surveys_15 : decode cX3_surveys 15 = .ok (.iload_n 2, 1) := dk_28 (dk_at dksX3_surveys_0 15 rfl rfl)
theorem dX3_surveys_16 : decode cX3_surveys 16 = .ok (.aload_n 1, 1) := dk_43 (dk_at dksX3_surveys_0 16 rfl rfl)
theorem dX3_surveys_17 : decode cX3_surveys 17 = .ok (.getfield 146, 3) := dk_180 0 146 (dk_at dksX3_surveys_0 17 rfl rfl)
theorem dX3_surveys_20 : decode cX3_surveys 20 = .ok (.if_icmp .ge 15, 3) := dk_162 0 15 (dk_at dksX3_surveys_0 20 rfl rfl)
theorem dX3_surveys_23 : decode cX3_surveys 23 = .ok (.aload_n 0, 1) := dk_42 (dk_at dksX3_surveys_0 23 rfl rfl)
theorem dX3_surveys_24 : decode cX3_surveys 24 = .ok (.aload_n 1, 1) := dk_43 (dk_at dksX3_surveys_1 0 rfl rfl)
theorem dX3_surveys_25 : decode cX3_surveys 25 = .ok (.iload_n 2, 1) := dk_28 (dk_at dksX3_surveys_1 1 rfl rfl)
theorem dX3_surveys_26 : decode cX3_surveys 26 = .ok (.invokevirtual 149, 3) := dk_182 0 149 (dk_at dksX3_surveys_1 2 rfl rfl)
theorem dX3_surveys_29 : decode cX3_surveys 29 = .ok (.iinc 2 1, 3) := dk_132 2 1 (dk_at dksX3_surveys_1 5 rfl rfl)
theorem dX3_surveys_32 : decode cX3_surveys 32 = .ok (.goto (-17), 3) := dk_167 255 239 (dk_at dksX3_surveys_1 8 rfl rfl)
theorem dX3_surveys_35 : decode cX3_surveys 35 = .ok (.aload_n 0, 1) := dk_42 (dk_at dksX3_surveys_1 11 rfl rfl)
theorem dX3_surveys_36 : decode cX3_surveys 36 = .ok (.aload_n 1, 1) := dk_43 (dk_at dksX3_surveys_1 12 rfl rfl)
theorem dX3_surveys_37 : decode cX3_surveys 37 = .ok (.invokevirtual 153, 3) := dk_182 0 153 (dk_at dksX3_surveys_1 13 rfl rfl)
theorem dX3_surveys_40 : decode cX3_surveys 40 = .ok (.pop, 1) := dk_87 (dk_at dksX3_surveys_1 16 rfl rfl)
theorem dX3_surveys_41 : decode cX3_surveys 41 = .ok (.return_, 1) := dk_177 (dk_at dksX3_surveys_1 17 rfl rfl)
abbrev cX3_flies : ByteArray := prog_11_method_9_code
def yX3_flies : MethodName := ⟨RX3, "flies", "(LSwallowSurvey$Land;I)V"⟩
def dkwX3_flies_12 : List UInt8 := [21, 5, 79, 177]
abbrev dktX3_flies_12 : List UInt8 := dkwX3_flies_12 ++ []
def dkwX3_flies_11 : List UInt8 := [29, 79, 42, 180, 0, 28, 28, 21, 4, 79, 42, 180, 0, 31, 28, 21, 7, 79, 42, 180, 0, 34, 28]
abbrev dktX3_flies_11 : List UInt8 := dkwX3_flies_11 ++ dktX3_flies_12
def dkwX3_flies_10 : List UInt8 := [132, 6, 255, 43, 29, 21, 4, 182, 0, 143, 153, 0, 6, 167, 0, 6, 167, 255, 50, 42, 180, 0, 25, 28]
abbrev dktX3_flies_10 : List UInt8 := dkwX3_flies_10 ++ dktX3_flies_11
def dkwX3_flies_9 : List UInt8 := [54, 4, 42, 42, 43, 29, 21, 4, 28, 182, 0, 136, 28, 29, 21, 4, 21, 7, 182, 0, 139, 132, 7, 1]
abbrev dktX3_flies_9 : List UInt8 := dkwX3_flies_9 ++ dktX3_flies_10
def dkwX3_flies_8 : List UInt8 := [21, 10, 21, 7, 79, 29, 178, 0, 63, 21, 5, 46, 96, 62, 21, 4, 178, 0, 66, 21, 5, 46, 96]
abbrev dktX3_flies_8 : List UInt8 := dkwX3_flies_8 ++ dktX3_flies_9
def dkwX3_flies_7 : List UInt8 := [42, 180, 0, 15, 21, 10, 46, 2, 160, 0, 20, 42, 180, 0, 15, 21, 10, 28, 79, 42, 180, 0, 19]
abbrev dktX3_flies_7 : List UInt8 := dkwX3_flies_7 ++ dktX3_flies_8
def dkwX3_flies_6 : List UInt8 := [21, 5, 46, 96, 182, 0, 57, 154, 0, 6, 167, 0, 103, 42, 29, 21, 4, 21, 5, 182, 0, 69, 54, 10]
abbrev dktX3_flies_6 : List UInt8 := dkwX3_flies_6 ++ dktX3_flies_7
def dkwX3_flies_5 : List UInt8 := [167, 0, 5, 21, 8, 96, 7, 112, 54, 5, 43, 29, 178, 0, 63, 21, 5, 46, 96, 21, 4, 178, 0, 66]
abbrev dktX3_flies_5 : List UInt8 := dkwX3_flies_5 ++ dktX3_flies_6
def dkwX3_flies_4 : List UInt8 := [5, 112, 4, 160, 0, 7, 4, 167, 0, 4, 3, 54, 9, 21, 5, 21, 9, 153, 0, 10, 7, 21, 8, 100]
abbrev dktX3_flies_4 : List UInt8 := dkwX3_flies_4 ++ dktX3_flies_5
def dkwX3_flies_3 : List UInt8 := [7, 160, 0, 6, 167, 0, 181, 43, 180, 0, 132, 16, 11, 21, 4, 104, 29, 96, 51, 153, 0, 15, 21, 8]
abbrev dktX3_flies_3 : List UInt8 := dkwX3_flies_3 ++ dktX3_flies_4
def dkwX3_flies_2 : List UInt8 := [21, 6, 158, 0, 207, 42, 43, 28, 29, 21, 4, 21, 5, 21, 7, 21, 6, 182, 0, 128, 54, 8, 21, 8]
abbrev dktX3_flies_2 : List UInt8 := dkwX3_flies_2 ++ dktX3_flies_3
def dkwX3_flies_1 : List UInt8 := [180, 0, 98, 28, 50, 180, 0, 122, 54, 5, 43, 180, 0, 98, 28, 50, 180, 0, 125, 54, 6, 3, 54, 7]
abbrev dktX3_flies_1 : List UInt8 := dkwX3_flies_1 ++ dktX3_flies_2
def dkwX3_flies_0 : List UInt8 := [43, 180, 0, 98, 28, 50, 180, 0, 116, 62, 43, 180, 0, 98, 28, 50, 180, 0, 119, 54, 4, 43]
abbrev dktX3_flies_0 : List UInt8 := dkwX3_flies_0 ++ dktX3_flies_1
theorem dksX3_flies_0 : cX3_flies.data.toList.drop 0 = dktX3_flies_0 := by decide +kernel
theorem dksX3_flies_1 : cX3_flies.data.toList.drop 22 = dktX3_flies_1 := dk_seg dksX3_flies_0 22 rfl rfl
theorem dksX3_flies_2 : cX3_flies.data.toList.drop 46 = dktX3_flies_2 := dk_seg dksX3_flies_1 24 rfl rfl
theorem dksX3_flies_3 : cX3_flies.data.toList.drop 70 = dktX3_flies_3 := dk_seg dksX3_flies_2 24 rfl rfl
theorem dksX3_flies_4 : cX3_flies.data.toList.drop 94 = dktX3_flies_4 := dk_seg dksX3_flies_3 24 rfl rfl
theorem dksX3_flies_5 : cX3_flies.data.toList.drop 118 = dktX3_flies_5 := dk_seg dksX3_flies_4 24 rfl rfl
theorem dksX3_flies_6 : cX3_flies.data.toList.drop 142 = dktX3_flies_6 := dk_seg dksX3_flies_5 24 rfl rfl
theorem dksX3_flies_7 : cX3_flies.data.toList.drop 166 = dktX3_flies_7 := dk_seg dksX3_flies_6 24 rfl rfl
theorem dksX3_flies_8 : cX3_flies.data.toList.drop 189 = dktX3_flies_8 := dk_seg dksX3_flies_7 23 rfl rfl
theorem dksX3_flies_9 : cX3_flies.data.toList.drop 212 = dktX3_flies_9 := dk_seg dksX3_flies_8 23 rfl rfl
theorem dksX3_flies_10 : cX3_flies.data.toList.drop 236 = dktX3_flies_10 := dk_seg dksX3_flies_9 24 rfl rfl
theorem dksX3_flies_11 : cX3_flies.data.toList.drop 260 = dktX3_flies_11 := dk_seg dksX3_flies_10 24 rfl rfl
theorem dksX3_flies_12 : cX3_flies.data.toList.drop 283 = dktX3_flies_12 := dk_seg dksX3_flies_11 23 rfl rfl
theorem dX3_flies_0 : decode cX3_flies 0 = .ok (.aload_n 1, 1) := dk_43 (dk_at dksX3_flies_0 0 rfl rfl)
theorem dX3_flies_1 : decode cX3_flies 1 = .ok (.getfield 98, 3) := dk_180 0 98 (dk_at dksX3_flies_0 1 rfl rfl)
theorem dX3_flies_4 : decode cX3_flies 4 = .ok (.iload_n 2, 1) := dk_28 (dk_at dksX3_flies_0 4 rfl rfl)
theorem dX3_flies_5 : decode cX3_flies 5 = .ok (.aaload, 1) := dk_50 (dk_at dksX3_flies_0 5 rfl rfl)
theorem dX3_flies_6 : decode cX3_flies 6 = .ok (.getfield 116, 3) := dk_180 0 116 (dk_at dksX3_flies_0 6 rfl rfl)
theorem dX3_flies_9 : decode cX3_flies 9 = .ok (.istore_n 3, 1) := dk_62 (dk_at dksX3_flies_0 9 rfl rfl)
theorem dX3_flies_10 : decode cX3_flies 10 = .ok (.aload_n 1, 1) := dk_43 (dk_at dksX3_flies_0 10 rfl rfl)
theorem dX3_flies_11 : decode cX3_flies 11 = .ok (.getfield 98, 3) := dk_180 0 98 (dk_at dksX3_flies_0 11 rfl rfl)
theorem dX3_flies_14 : decode cX3_flies 14 = .ok (.iload_n 2, 1) := dk_28 (dk_at dksX3_flies_0 14 rfl rfl)
theorem dX3_flies_15 : decode cX3_flies 15 = .ok (.aaload, 1) := dk_50 (dk_at dksX3_flies_0 15 rfl rfl)
theorem dX3_flies_16 : decode cX3_flies 16 = .ok (.getfield 119, 3) := dk_180 0 119 (dk_at dksX3_flies_0 16 rfl rfl)
theorem dX3_flies_19 : decode cX3_flies 19 = .ok (.istore 4, 2) := dk_54 4 (dk_at dksX3_flies_0 19 rfl rfl)
theorem dX3_flies_21 : decode cX3_flies 21 = .ok (.aload_n 1, 1) := dk_43 (dk_at dksX3_flies_0 21 rfl rfl)
theorem dX3_flies_22 : decode cX3_flies 22 = .ok (.getfield 98, 3) := dk_180 0 98 (dk_at dksX3_flies_1 0 rfl rfl)
theorem dX3_flies_25 : decode cX3_flies 25 = .ok (.iload_n 2, 1) := dk_28 (dk_at dksX3_flies_1 3 rfl rfl)
theorem dX3_flies_26 : decode cX3_flies 26 = .ok (.aaload, 1) := dk_50 (dk_at dksX3_flies_1 4 rfl rfl)
theorem dX3_flies_27 : decode cX3_flies 27 = .ok (.getfield 122, 3) := dk_180 0 122 (dk_at dksX3_flies_1 5 rfl rfl)
theorem dX3_flies_30 : decode cX3_flies 30 = .ok (.istore 5, 2) := dk_54 5 (dk_at dksX3_flies_1 8 rfl rfl)
theorem dX3_flies_32 : decode cX3_flies 32 = .ok (.aload_n 1, 1) := dk_43 (dk_at dksX3_flies_1 10 rfl rfl)
theorem dX3_flies_33 : decode cX3_flies 33 = .ok (.getfield 98, 3) := dk_180 0 98 (dk_at dksX3_flies_1 11 rfl rfl)
theorem dX3_flies_36 : decode cX3_flies 36 = .ok (.iload_n 2, 1) := dk_28 (dk_at dksX3_flies_1 14 rfl rfl)
theorem dX3_flies_37 : decode cX3_flies 37 = .ok (.aaload, 1) := dk_50 (dk_at dksX3_flies_1 15 rfl rfl)
theorem dX3_flies_38 : decode cX3_flies 38 = .ok (.getfield 125, 3) := dk_180 0 125 (dk_at dksX3_flies_1 16 rfl rfl)
theorem dX3_flies_41 : decode cX3_flies 41 = .ok (.istore 6, 2) := dk_54 6 (dk_at dksX3_flies_1 19 rfl rfl)
theorem dX3_flies_43 : decode cX3_flies 43 = .ok (.iconst 0, 1) := dk_3 (dk_at dksX3_flies_1 21 rfl rfl)
theorem dX3_flies_44 : decode cX3_flies 44 = .ok (.istore 7, 2) := dk_54 7 (dk_at dksX3_flies_1 22 rfl rfl)
theorem dX3_flies_46 : decode cX3_flies 46 = .ok (.iload 6, 2) := dk_21 6 (dk_at dksX3_flies_2 0 rfl rfl)
theorem dX3_flies_48 : decode cX3_flies 48 = .ok (.ifCond .le 207, 3) := dk_158 0 207 (dk_at dksX3_flies_2 2 rfl rfl)
theorem dX3_flies_51 : decode cX3_flies 51 = .ok (.aload_n 0, 1) := dk_42 (dk_at dksX3_flies_2 5 rfl rfl)
theorem dX3_flies_52 : decode cX3_flies 52 = .ok (.aload_n 1, 1) := dk_43 (dk_at dksX3_flies_2 6 rfl rfl)
theorem dX3_flies_53 : decode cX3_flies 53 = .ok (.iload_n 2, 1) := dk_28 (dk_at dksX3_flies_2 7 rfl rfl)
theorem dX3_flies_54 : decode cX3_flies 54 = .ok (.iload_n 3, 1) := dk_29 (dk_at dksX3_flies_2 8 rfl rfl)
theorem dX3_flies_55 : decode cX3_flies 55 = .ok (.iload 4, 2) := dk_21 4 (dk_at dksX3_flies_2 9 rfl rfl)
theorem dX3_flies_57 : decode cX3_flies 57 = .ok (.iload 5, 2) := dk_21 5 (dk_at dksX3_flies_2 11 rfl rfl)
theorem dX3_flies_59 : decode cX3_flies 59 = .ok (.iload 7, 2) := dk_21 7 (dk_at dksX3_flies_2 13 rfl rfl)
theorem dX3_flies_61 : decode cX3_flies 61 = .ok (.iload 6, 2) := dk_21 6 (dk_at dksX3_flies_2 15 rfl rfl)
theorem dX3_flies_63 : decode cX3_flies 63 = .ok (.invokevirtual 128, 3) := dk_182 0 128 (dk_at dksX3_flies_2 17 rfl rfl)
theorem dX3_flies_66 : decode cX3_flies 66 = .ok (.istore 8, 2) := dk_54 8 (dk_at dksX3_flies_2 20 rfl rfl)
theorem dX3_flies_68 : decode cX3_flies 68 = .ok (.iload 8, 2) := dk_21 8 (dk_at dksX3_flies_2 22 rfl rfl)
theorem dX3_flies_70 : decode cX3_flies 70 = .ok (.iconst 4, 1) := dk_7 (dk_at dksX3_flies_3 0 rfl rfl)
theorem dX3_flies_71 : decode cX3_flies 71 = .ok (.if_icmp .ne 6, 3) := dk_160 0 6 (dk_at dksX3_flies_3 1 rfl rfl)
theorem dX3_flies_74 : decode cX3_flies 74 = .ok (.goto 181, 3) := dk_167 0 181 (dk_at dksX3_flies_3 4 rfl rfl)
theorem dX3_flies_77 : decode cX3_flies 77 = .ok (.aload_n 1, 1) := dk_43 (dk_at dksX3_flies_3 7 rfl rfl)
theorem dX3_flies_78 : decode cX3_flies 78 = .ok (.getfield 132, 3) := dk_180 0 132 (dk_at dksX3_flies_3 8 rfl rfl)
theorem dX3_flies_81 : decode cX3_flies 81 = .ok (.bipush 11, 2) := dk_16 11 (dk_at dksX3_flies_3 11 rfl rfl)
theorem dX3_flies_83 : decode cX3_flies 83 = .ok (.iload 4, 2) := dk_21 4 (dk_at dksX3_flies_3 13 rfl rfl)
theorem dX3_flies_85 : decode cX3_flies 85 = .ok (.imul, 1) := dk_104 (dk_at dksX3_flies_3 15 rfl rfl)
theorem dX3_flies_86 : decode cX3_flies 86 = .ok (.iload_n 3, 1) := dk_29 (dk_at dksX3_flies_3 16 rfl rfl)
theorem dX3_flies_87 : decode cX3_flies 87 = .ok (.iadd, 1) := dk_96 (dk_at dksX3_flies_3 17 rfl rfl)
theorem dX3_flies_88 : decode cX3_flies 88 = .ok (.baload, 1) := dk_51 (dk_at dksX3_flies_3 18 rfl rfl)
theorem dX3_flies_89 : decode cX3_flies 89 = .ok (.ifCond .eq 15, 3) := dk_153 0 15 (dk_at dksX3_flies_3 19 rfl rfl)
theorem dX3_flies_92 : decode cX3_flies 92 = .ok (.iload 8, 2) := dk_21 8 (dk_at dksX3_flies_3 22 rfl rfl)
theorem dX3_flies_94 : decode cX3_flies 94 = .ok (.iconst 2, 1) := dk_5 (dk_at dksX3_flies_4 0 rfl rfl)
theorem dX3_flies_95 : decode cX3_flies 95 = .ok (.irem, 1) := dk_112 (dk_at dksX3_flies_4 1 rfl rfl)
theorem dX3_flies_96 : decode cX3_flies 96 = .ok (.iconst 1, 1) := dk_4 (dk_at dksX3_flies_4 2 rfl rfl)
theorem dX3_flies_97 : decode cX3_flies 97 = .ok (.if_icmp .ne 7, 3) := dk_160 0 7 (dk_at dksX3_flies_4 3 rfl rfl)
theorem dX3_flies_100 : decode cX3_flies 100 = .ok (.iconst 1, 1) := dk_4 (dk_at dksX3_flies_4 6 rfl rfl)
theorem dX3_flies_101 : decode cX3_flies 101 = .ok (.goto 4, 3) := dk_167 0 4 (dk_at dksX3_flies_4 7 rfl rfl)
theorem dX3_flies_104 : decode cX3_flies 104 = .ok (.iconst 0, 1) := dk_3 (dk_at dksX3_flies_4 10 rfl rfl)
theorem dX3_flies_105 : decode cX3_flies 105 = .ok (.istore 9, 2) := dk_54 9 (dk_at dksX3_flies_4 11 rfl rfl)
theorem dX3_flies_107 : decode cX3_flies 107 = .ok (.iload 5, 2) := dk_21 5 (dk_at dksX3_flies_4 13 rfl rfl)
theorem dX3_flies_109 : decode cX3_flies 109 = .ok (.iload 9, 2) := dk_21 9 (dk_at dksX3_flies_4 15 rfl rfl)
theorem dX3_flies_111 : decode cX3_flies 111 = .ok (.ifCond .eq 10, 3) := dk_153 0 10 (dk_at dksX3_flies_4 17 rfl rfl)
theorem dX3_flies_114 : decode cX3_flies 114 = .ok (.iconst 4, 1) := dk_7 (dk_at dksX3_flies_4 20 rfl rfl)
theorem dX3_flies_115 : decode cX3_flies 115 = .ok (.iload 8, 2) := dk_21 8 (dk_at dksX3_flies_4 21 rfl rfl)
theorem dX3_flies_117 : decode cX3_flies 117 = .ok (.isub, 1) := dk_100 (dk_at dksX3_flies_4 23 rfl rfl)
theorem dX3_flies_118 : decode cX3_flies 118 = .ok (.goto 5, 3) := dk_167 0 5 (dk_at dksX3_flies_5 0 rfl rfl)
theorem dX3_flies_121 : decode cX3_flies 121 = .ok (.iload 8, 2) := dk_21 8 (dk_at dksX3_flies_5 3 rfl rfl)
theorem dX3_flies_123 : decode cX3_flies 123 = .ok (.iadd, 1) := dk_96 (dk_at dksX3_flies_5 5 rfl rfl)
theorem dX3_flies_124 : decode cX3_flies 124 = .ok (.iconst 4, 1) := dk_7 (dk_at dksX3_flies_5 6 rfl rfl)
theorem dX3_flies_125 : decode cX3_flies 125 = .ok (.irem, 1) := dk_112 (dk_at dksX3_flies_5 7 rfl rfl)
theorem dX3_flies_126 : decode cX3_flies 126 = .ok (.istore 5, 2) := dk_54 5 (dk_at dksX3_flies_5 8 rfl rfl)
theorem dX3_flies_128 : decode cX3_flies 128 = .ok (.aload_n 1, 1) := dk_43 (dk_at dksX3_flies_5 10 rfl rfl)
theorem dX3_flies_129 : decode cX3_flies 129 = .ok (.iload_n 3, 1) := dk_29 (dk_at dksX3_flies_5 11 rfl rfl)
theorem dX3_flies_130 : decode cX3_flies 130 = .ok (.getstatic 63, 3) := dk_178 0 63 (dk_at dksX3_flies_5 12 rfl rfl)
theorem dX3_flies_133 : decode cX3_flies 133 = .ok (.iload 5, 2) := dk_21 5 (dk_at dksX3_flies_5 15 rfl rfl)
theorem dX3_flies_135 : decode cX3_flies 135 = .ok (.iaload, 1) := dk_46 (dk_at dksX3_flies_5 17 rfl rfl)
theorem dX3_flies_136 : decode cX3_flies 136 = .ok (.iadd, 1) := dk_96 (dk_at dksX3_flies_5 18 rfl rfl)
theorem dX3_flies_137 : decode cX3_flies 137 = .ok (.iload 4, 2) := dk_21 4 (dk_at dksX3_flies_5 19 rfl rfl)
theorem dX3_flies_139 : decode cX3_flies 139 = .ok (.getstatic 66, 3) := dk_178 0 66 (dk_at dksX3_flies_5 21 rfl rfl)
theorem dX3_flies_142 : decode cX3_flies 142 = .ok (.iload 5, 2) := dk_21 5 (dk_at dksX3_flies_6 0 rfl rfl)
theorem dX3_flies_144 : decode cX3_flies 144 = .ok (.iaload, 1) := dk_46 (dk_at dksX3_flies_6 2 rfl rfl)
theorem dX3_flies_145 : decode cX3_flies 145 = .ok (.iadd, 1) := dk_96 (dk_at dksX3_flies_6 3 rfl rfl)
theorem dX3_flies_146 : decode cX3_flies 146 = .ok (.invokevirtual 57, 3) := dk_182 0 57 (dk_at dksX3_flies_6 4 rfl rfl)
theorem dX3_flies_149 : decode cX3_flies 149 = .ok (.ifCond .ne 6, 3) := dk_154 0 6 (dk_at dksX3_flies_6 7 rfl rfl)
theorem dX3_flies_152 : decode cX3_flies 152 = .ok (.goto 103, 3) := dk_167 0 103 (dk_at dksX3_flies_6 10 rfl rfl)
theorem dX3_flies_155 : decode cX3_flies 155 = .ok (.aload_n 0, 1) := dk_42 (dk_at dksX3_flies_6 13 rfl rfl)
theorem dX3_flies_156 : decode cX3_flies 156 = .ok (.iload_n 3, 1) := dk_29 (dk_at dksX3_flies_6 14 rfl rfl)
theorem dX3_flies_157 : decode cX3_flies 157 = .ok (.iload 4, 2) := dk_21 4 (dk_at dksX3_flies_6 15 rfl rfl)
theorem dX3_flies_159 : decode cX3_flies 159 = .ok (.iload 5, 2) := dk_21 5 (dk_at dksX3_flies_6 17 rfl rfl)
theorem dX3_flies_161 : decode cX3_flies 161 = .ok (.invokevirtual 69, 3) := dk_182 0 69 (dk_at dksX3_flies_6 19 rfl rfl)
theorem dX3_flies_164 : decode cX3_flies 164 = .ok (.istore 10, 2) := dk_54 10 (dk_at dksX3_flies_6 22 rfl rfl)
theorem dX3_flies_166 : decode cX3_flies 166 = .ok (.aload_n 0, 1) := dk_42 (dk_at dksX3_flies_7 0 rfl rfl)
theorem dX3_flies_167 : decode cX3_flies 167 = .ok (.getfield 15, 3) := dk_180 0 15 (dk_at dksX3_flies_7 1 rfl rfl)
theorem dX3_flies_170 : decode cX3_flies 170 = .ok (.iload 10, 2) := dk_21 10 (dk_at dksX3_flies_7 4 rfl rfl)
theorem dX3_flies_172 : decode cX3_flies 172 = .ok (.iaload, 1) := dk_46 (dk_at dksX3_flies_7 6 rfl rfl)
theorem dX3_flies_173 : decode cX3_flies 173 = .ok (.iconst (-1), 1) := dk_2 (dk_at dksX3_flies_7 7 rfl rfl)
theorem dX3_flies_174 : decode cX3_flies 174 = .ok (.if_icmp .ne 20, 3) := dk_160 0 20 (dk_at dksX3_flies_7 8 rfl rfl)
theorem dX3_flies_177 : decode cX3_flies 177 = .ok (.aload_n 0, 1) := dk_42 (dk_at dksX3_flies_7 11 rfl rfl)
theorem dX3_flies_178 : decode cX3_flies 178 = .ok (.getfield 15, 3) := dk_180 0 15 (dk_at dksX3_flies_7 12 rfl rfl)
theorem dX3_flies_181 : decode cX3_flies 181 = .ok (.iload 10, 2) := dk_21 10 (dk_at dksX3_flies_7 15 rfl rfl)
theorem dX3_flies_183 : decode cX3_flies 183 = .ok (.iload_n 2, 1) := dk_28 (dk_at dksX3_flies_7 17 rfl rfl)
theorem dX3_flies_184 : decode cX3_flies 184 = .ok (.iastore, 1) := dk_79 (dk_at dksX3_flies_7 18 rfl rfl)
theorem dX3_flies_185 : decode cX3_flies 185 = .ok (.aload_n 0, 1) := dk_42 (dk_at dksX3_flies_7 19 rfl rfl)
theorem dX3_flies_186 : decode cX3_flies 186 = .ok (.getfield 19, 3) := dk_180 0 19 (dk_at dksX3_flies_7 20 rfl rfl)
theorem dX3_flies_189 : decode cX3_flies 189 = .ok (.iload 10, 2) := dk_21 10 (dk_at dksX3_flies_8 0 rfl rfl)
theorem dX3_flies_191 : decode cX3_flies 191 = .ok (.iload 7, 2) := dk_21 7 (dk_at dksX3_flies_8 2 rfl rfl)
theorem dX3_flies_193 : decode cX3_flies 193 = .ok (.iastore, 1) := dk_79 (dk_at dksX3_flies_8 4 rfl rfl)
theorem dX3_flies_194 : decode cX3_flies 194 = .ok (.iload_n 3, 1) := dk_29 (dk_at dksX3_flies_8 5 rfl rfl)
theorem dX3_flies_195 : decode cX3_flies 195 = .ok (.getstatic 63, 3) := dk_178 0 63 (dk_at dksX3_flies_8 6 rfl rfl)
theorem dX3_flies_198 : decode cX3_flies 198 = .ok (.iload 5, 2) := dk_21 5 (dk_at dksX3_flies_8 9 rfl rfl)
theorem dX3_flies_200 : decode cX3_flies 200 = .ok (.iaload, 1) := dk_46 (dk_at dksX3_flies_8 11 rfl rfl)
theorem dX3_flies_201 : decode cX3_flies 201 = .ok (.iadd, 1) := dk_96 (dk_at dksX3_flies_8 12 rfl rfl)
theorem dX3_flies_202 : decode cX3_flies 202 = .ok (.istore_n 3, 1) := dk_62 (dk_at dksX3_flies_8 13 rfl rfl)
theorem dX3_flies_203 : decode cX3_flies 203 = .ok (.iload 4, 2) := dk_21 4 (dk_at dksX3_flies_8 14 rfl rfl)
theorem dX3_flies_205 : decode cX3_flies 205 = .ok (.getstatic 66, 3) := dk_178 0 66 (dk_at dksX3_flies_8 16 rfl rfl)
theorem dX3_flies_208 : decode cX3_flies 208 = .ok (.iload 5, 2) := dk_21 5 (dk_at dksX3_flies_8 19 rfl rfl)
theorem dX3_flies_210 : decode cX3_flies 210 = .ok (.iaload, 1) := dk_46 (dk_at dksX3_flies_8 21 rfl rfl)
theorem dX3_flies_211 : decode cX3_flies 211 = .ok (.iadd, 1) := dk_96 (dk_at dksX3_flies_8 22 rfl rfl)
theorem dX3_flies_212 : decode cX3_flies 212 = .ok (.istore 4, 2) := dk_54 4 (dk_at dksX3_flies_9 0 rfl rfl)
theorem dX3_flies_214 : decode cX3_flies 214 = .ok (.aload_n 0, 1) := dk_42 (dk_at dksX3_flies_9 2 rfl rfl)
theorem dX3_flies_215 : decode cX3_flies 215 = .ok (.aload_n 0, 1) := dk_42 (dk_at dksX3_flies_9 3 rfl rfl)
theorem dX3_flies_216 : decode cX3_flies 216 = .ok (.aload_n 1, 1) := dk_43 (dk_at dksX3_flies_9 4 rfl rfl)
theorem dX3_flies_217 : decode cX3_flies 217 = .ok (.iload_n 3, 1) := dk_29 (dk_at dksX3_flies_9 5 rfl rfl)
theorem dX3_flies_218 : decode cX3_flies 218 = .ok (.iload 4, 2) := dk_21 4 (dk_at dksX3_flies_9 6 rfl rfl)
theorem dX3_flies_220 : decode cX3_flies 220 = .ok (.iload_n 2, 1) := dk_28 (dk_at dksX3_flies_9 8 rfl rfl)
theorem dX3_flies_221 : decode cX3_flies 221 = .ok (.invokevirtual 136, 3) := dk_182 0 136 (dk_at dksX3_flies_9 9 rfl rfl)
theorem dX3_flies_224 : decode cX3_flies 224 = .ok (.iload_n 2, 1) := dk_28 (dk_at dksX3_flies_9 12 rfl rfl)
theorem dX3_flies_225 : decode cX3_flies 225 = .ok (.iload_n 3, 1) := dk_29 (dk_at dksX3_flies_9 13 rfl rfl)
theorem dX3_flies_226 : decode cX3_flies 226 = .ok (.iload 4, 2) := dk_21 4 (dk_at dksX3_flies_9 14 rfl rfl)
theorem dX3_flies_228 : decode cX3_flies 228 = .ok (.iload 7, 2) := dk_21 7 (dk_at dksX3_flies_9 16 rfl rfl)
theorem dX3_flies_230 : decode cX3_flies 230 = .ok (.invokevirtual 139, 3) := dk_182 0 139 (dk_at dksX3_flies_9 18 rfl rfl)
theorem dX3_flies_233 : decode cX3_flies 233 = .ok (.iinc 7 1, 3) := dk_132 7 1 (dk_at dksX3_flies_9 21 rfl rfl)
theorem dX3_flies_236 : decode cX3_flies 236 = .ok (.iinc 6 (-1), 3) := dk_132 6 255 (dk_at dksX3_flies_10 0 rfl rfl)
theorem dX3_flies_239 : decode cX3_flies 239 = .ok (.aload_n 1, 1) := dk_43 (dk_at dksX3_flies_10 3 rfl rfl)
theorem dX3_flies_240 : decode cX3_flies 240 = .ok (.iload_n 3, 1) := dk_29 (dk_at dksX3_flies_10 4 rfl rfl)
theorem dX3_flies_241 : decode cX3_flies 241 = .ok (.iload 4, 2) := dk_21 4 (dk_at dksX3_flies_10 5 rfl rfl)
theorem dX3_flies_243 : decode cX3_flies 243 = .ok (.invokevirtual 143, 3) := dk_182 0 143 (dk_at dksX3_flies_10 7 rfl rfl)
theorem dX3_flies_246 : decode cX3_flies 246 = .ok (.ifCond .eq 6, 3) := dk_153 0 6 (dk_at dksX3_flies_10 10 rfl rfl)
theorem dX3_flies_249 : decode cX3_flies 249 = .ok (.goto 6, 3) := dk_167 0 6 (dk_at dksX3_flies_10 13 rfl rfl)
theorem dX3_flies_252 : decode cX3_flies 252 = .ok (.goto (-206), 3) := dk_167 255 50 (dk_at dksX3_flies_10 16 rfl rfl)
theorem dX3_flies_255 : decode cX3_flies 255 = .ok (.aload_n 0, 1) := dk_42 (dk_at dksX3_flies_10 19 rfl rfl)
theorem dX3_flies_256 : decode cX3_flies 256 = .ok (.getfield 25, 3) := dk_180 0 25 (dk_at dksX3_flies_10 20 rfl rfl)
theorem dX3_flies_259 : decode cX3_flies 259 = .ok (.iload_n 2, 1) := dk_28 (dk_at dksX3_flies_10 23 rfl rfl)
theorem dX3_flies_260 : decode cX3_flies 260 = .ok (.iload_n 3, 1) := dk_29 (dk_at dksX3_flies_11 0 rfl rfl)
theorem dX3_flies_261 : decode cX3_flies 261 = .ok (.iastore, 1) := dk_79 (dk_at dksX3_flies_11 1 rfl rfl)
theorem dX3_flies_262 : decode cX3_flies 262 = .ok (.aload_n 0, 1) := dk_42 (dk_at dksX3_flies_11 2 rfl rfl)
theorem dX3_flies_263 : decode cX3_flies 263 = .ok (.getfield 28, 3) := dk_180 0 28 (dk_at dksX3_flies_11 3 rfl rfl)
theorem dX3_flies_266 : decode cX3_flies 266 = .ok (.iload_n 2, 1) := dk_28 (dk_at dksX3_flies_11 6 rfl rfl)
theorem dX3_flies_267 : decode cX3_flies 267 = .ok (.iload 4, 2) := dk_21 4 (dk_at dksX3_flies_11 7 rfl rfl)
theorem dX3_flies_269 : decode cX3_flies 269 = .ok (.iastore, 1) := dk_79 (dk_at dksX3_flies_11 9 rfl rfl)
theorem dX3_flies_270 : decode cX3_flies 270 = .ok (.aload_n 0, 1) := dk_42 (dk_at dksX3_flies_11 10 rfl rfl)
theorem dX3_flies_271 : decode cX3_flies 271 = .ok (.getfield 31, 3) := dk_180 0 31 (dk_at dksX3_flies_11 11 rfl rfl)
theorem dX3_flies_274 : decode cX3_flies 274 = .ok (.iload_n 2, 1) := dk_28 (dk_at dksX3_flies_11 14 rfl rfl)
theorem dX3_flies_275 : decode cX3_flies 275 = .ok (.iload 7, 2) := dk_21 7 (dk_at dksX3_flies_11 15 rfl rfl)
theorem dX3_flies_277 : decode cX3_flies 277 = .ok (.iastore, 1) := dk_79 (dk_at dksX3_flies_11 17 rfl rfl)
theorem dX3_flies_278 : decode cX3_flies 278 = .ok (.aload_n 0, 1) := dk_42 (dk_at dksX3_flies_11 18 rfl rfl)
theorem dX3_flies_279 : decode cX3_flies 279 = .ok (.getfield 34, 3) := dk_180 0 34 (dk_at dksX3_flies_11 19 rfl rfl)
theorem dX3_flies_282 : decode cX3_flies 282 = .ok (.iload_n 2, 1) := dk_28 (dk_at dksX3_flies_11 22 rfl rfl)
theorem dX3_flies_283 : decode cX3_flies 283 = .ok (.iload 5, 2) := dk_21 5 (dk_at dksX3_flies_12 0 rfl rfl)
theorem dX3_flies_285 : decode cX3_flies 285 = .ok (.iastore, 1) := dk_79 (dk_at dksX3_flies_12 2 rfl rfl)
theorem dX3_flies_286 : decode cX3_flies 286 = .ok (.return_, 1) := dk_177 (dk_at dksX3_flies_12 3 rfl rfl)
abbrev cX3_wordFor : ByteArray := prog_11_method_8_code
def yX3_wordFor : MethodName := ⟨RX3, "wordFor", "(LSwallowSurvey$Land;IIIIII)I"⟩
def dkwX3_wordFor_13 : List UInt8 := [167, 0, 11, 25, 13, 180, 0, 113, 21, 14, 46, 172]
abbrev dktX3_wordFor_13 : List UInt8 := dkwX3_wordFor_13 ++ []
def dkwX3_wordFor_12 : List UInt8 := [58, 13, 25, 13, 42, 180, 0, 3, 180, 0, 84, 182, 0, 107, 54, 14, 21, 14, 2, 160, 0, 7, 3]
abbrev dktX3_wordFor_12 : List UInt8 := dkwX3_wordFor_12 ++ dktX3_wordFor_13
def dkwX3_wordFor_11 : List UInt8 := [180, 0, 84, 16, 8, 28, 79, 42, 180, 0, 3, 180, 0, 94, 43, 180, 0, 98, 28, 50, 180, 0, 102, 50]
abbrev dktX3_wordFor_11 : List UInt8 := dkwX3_wordFor_11 ++ dktX3_wordFor_12
def dkwX3_wordFor_10 : List UInt8 := [180, 0, 84, 16, 6, 21, 6, 79, 42, 180, 0, 3, 180, 0, 84, 16, 7, 21, 7, 79, 42, 180, 0, 3]
abbrev dktX3_wordFor_10 : List UInt8 := dkwX3_wordFor_10 ++ dktX3_wordFor_11
def dkwX3_wordFor_9 : List UInt8 := [42, 180, 0, 3, 180, 0, 84, 8, 21, 8, 153, 0, 7, 4, 167, 0, 4, 3, 79, 42, 180, 0, 3]
abbrev dktX3_wordFor_9 : List UInt8 := dkwX3_wordFor_9 ++ dktX3_wordFor_10
def dkwX3_wordFor_8 : List UInt8 := [180, 0, 84, 7, 42, 43, 29, 21, 4, 21, 5, 182, 0, 73, 2, 160, 0, 7, 3, 167, 0, 4, 4, 79]
abbrev dktX3_wordFor_8 : List UInt8 := dkwX3_wordFor_8 ++ dktX3_wordFor_9
def dkwX3_wordFor_7 : List UInt8 := [154, 0, 18, 43, 21, 11, 21, 12, 182, 0, 91, 153, 0, 7, 4, 167, 0, 4, 3, 79, 42, 180, 0, 3]
abbrev dktX3_wordFor_7 : List UInt8 := dkwX3_wordFor_7 ++ dktX3_wordFor_8
def dkwX3_wordFor_6 : List UInt8 := [182, 0, 91, 153, 0, 7, 4, 167, 0, 4, 3, 79, 42, 180, 0, 3, 180, 0, 84, 6, 21, 8]
abbrev dktX3_wordFor_6 : List UInt8 := dkwX3_wordFor_6 ++ dktX3_wordFor_7
def dkwX3_wordFor_5 : List UInt8 := [21, 12, 182, 0, 87, 79, 42, 180, 0, 3, 180, 0, 84, 5, 21, 8, 154, 0, 18, 43, 21, 9, 21, 10]
abbrev dktX3_wordFor_5 : List UInt8 := dkwX3_wordFor_5 ++ dktX3_wordFor_6
def dkwX3_wordFor_4 : List UInt8 := [182, 0, 87, 79, 42, 180, 0, 3, 180, 0, 84, 4, 21, 8, 153, 0, 7, 3, 167, 0, 11, 43, 21, 11]
abbrev dktX3_wordFor_4 : List UInt8 := dkwX3_wordFor_4 ++ dktX3_wordFor_5
def dkwX3_wordFor_3 : List UInt8 := [54, 12, 42, 180, 0, 3, 180, 0, 84, 3, 21, 8, 153, 0, 7, 3, 167, 0, 11, 43, 21, 9, 21, 10]
abbrev dktX3_wordFor_3 : List UInt8 := dkwX3_wordFor_3 ++ dktX3_wordFor_4
def dkwX3_wordFor_2 : List UInt8 := [182, 0, 81, 54, 10, 42, 29, 21, 5, 3, 182, 0, 77, 54, 11, 42, 21, 4, 21, 5, 3, 182, 0, 81]
abbrev dktX3_wordFor_2 : List UInt8 := dkwX3_wordFor_2 ++ dktX3_wordFor_3
def dkwX3_wordFor_1 : List UInt8 := [4, 167, 0, 4, 3, 54, 8, 42, 29, 21, 5, 4, 182, 0, 77, 54, 9, 42, 21, 4, 21, 5, 4]
abbrev dktX3_wordFor_1 : List UInt8 := dkwX3_wordFor_1 ++ dktX3_wordFor_2
def dkwX3_wordFor_0 : List UInt8 := [43, 29, 178, 0, 63, 21, 5, 46, 96, 21, 4, 178, 0, 66, 21, 5, 46, 96, 182, 0, 57, 154, 0, 7]
abbrev dktX3_wordFor_0 : List UInt8 := dkwX3_wordFor_0 ++ dktX3_wordFor_1
theorem dksX3_wordFor_0 : cX3_wordFor.data.toList.drop 0 = dktX3_wordFor_0 := by decide +kernel
theorem dksX3_wordFor_1 : cX3_wordFor.data.toList.drop 24 = dktX3_wordFor_1 := dk_seg dksX3_wordFor_0 24 rfl rfl
theorem dksX3_wordFor_2 : cX3_wordFor.data.toList.drop 47 = dktX3_wordFor_2 := dk_seg dksX3_wordFor_1 23 rfl rfl
theorem dksX3_wordFor_3 : cX3_wordFor.data.toList.drop 71 = dktX3_wordFor_3 := dk_seg dksX3_wordFor_2 24 rfl rfl
theorem dksX3_wordFor_4 : cX3_wordFor.data.toList.drop 95 = dktX3_wordFor_4 := dk_seg dksX3_wordFor_3 24 rfl rfl
theorem dksX3_wordFor_5 : cX3_wordFor.data.toList.drop 119 = dktX3_wordFor_5 := dk_seg dksX3_wordFor_4 24 rfl rfl
theorem dksX3_wordFor_6 : cX3_wordFor.data.toList.drop 143 = dktX3_wordFor_6 := dk_seg dksX3_wordFor_5 24 rfl rfl
theorem dksX3_wordFor_7 : cX3_wordFor.data.toList.drop 165 = dktX3_wordFor_7 := dk_seg dksX3_wordFor_6 22 rfl rfl
theorem dksX3_wordFor_8 : cX3_wordFor.data.toList.drop 189 = dktX3_wordFor_8 := dk_seg dksX3_wordFor_7 24 rfl rfl
theorem dksX3_wordFor_9 : cX3_wordFor.data.toList.drop 213 = dktX3_wordFor_9 := dk_seg dksX3_wordFor_8 24 rfl rfl
theorem dksX3_wordFor_10 : cX3_wordFor.data.toList.drop 236 = dktX3_wordFor_10 := dk_seg dksX3_wordFor_9 23 rfl rfl
theorem dksX3_wordFor_11 : cX3_wordFor.data.toList.drop 260 = dktX3_wordFor_11 := dk_seg dksX3_wordFor_10 24 rfl rfl
theorem dksX3_wordFor_12 : cX3_wordFor.data.toList.drop 284 = dktX3_wordFor_12 := dk_seg dksX3_wordFor_11 24 rfl rfl
theorem dksX3_wordFor_13 : cX3_wordFor.data.toList.drop 307 = dktX3_wordFor_13 := dk_seg dksX3_wordFor_12 23 rfl rfl
theorem dX3_wordFor_0 : decode cX3_wordFor 0 = .ok (.aload_n 1, 1) := dk_43 (dk_at dksX3_wordFor_0 0 rfl rfl)
theorem dX3_wordFor_1 : decode cX3_wordFor 1 = .ok (.iload_n 3, 1) := dk_29 (dk_at dksX3_wordFor_0 1 rfl rfl)
theorem dX3_wordFor_2 : decode cX3_wordFor 2 = .ok (.getstatic 63, 3) := dk_178 0 63 (dk_at dksX3_wordFor_0 2 rfl rfl)
theorem dX3_wordFor_5 : decode cX3_wordFor 5 = .ok (.iload 5, 2) := dk_21 5 (dk_at dksX3_wordFor_0 5 rfl rfl)
theorem dX3_wordFor_7 : decode cX3_wordFor 7 = .ok (.iaload, 1) := dk_46 (dk_at dksX3_wordFor_0 7 rfl rfl)
theorem dX3_wordFor_8 : decode cX3_wordFor 8 = .ok (.iadd, 1) := dk_96 (dk_at dksX3_wordFor_0 8 rfl rfl)
theorem dX3_wordFor_9 : decode cX3_wordFor 9 = .ok (.iload 4, 2) := dk_21 4 (dk_at dksX3_wordFor_0 9 rfl rfl)
theorem dX3_wordFor_11 : decode cX3_wordFor 11 = .ok (.getstatic 66, 3) := dk_178 0 66 (dk_at dksX3_wordFor_0 11 rfl rfl)
theorem dX3_wordFor_14 : decode cX3_wordFor 14 = .ok (.iload 5, 2) := dk_21 5 (dk_at dksX3_wordFor_0 14 rfl rfl)
theorem dX3_wordFor_16 : decode cX3_wordFor 16 = .ok (.iaload, 1) := dk_46 (dk_at dksX3_wordFor_0 16 rfl rfl)
theorem dX3_wordFor_17 : decode cX3_wordFor 17 = .ok (.iadd, 1) := dk_96 (dk_at dksX3_wordFor_0 17 rfl rfl)
theorem dX3_wordFor_18 : decode cX3_wordFor 18 = .ok (.invokevirtual 57, 3) := dk_182 0 57 (dk_at dksX3_wordFor_0 18 rfl rfl)
theorem dX3_wordFor_21 : decode cX3_wordFor 21 = .ok (.ifCond .ne 7, 3) := dk_154 0 7 (dk_at dksX3_wordFor_0 21 rfl rfl)
theorem dX3_wordFor_24 : decode cX3_wordFor 24 = .ok (.iconst 1, 1) := dk_4 (dk_at dksX3_wordFor_1 0 rfl rfl)
theorem dX3_wordFor_25 : decode cX3_wordFor 25 = .ok (.goto 4, 3) := dk_167 0 4 (dk_at dksX3_wordFor_1 1 rfl rfl)
theorem dX3_wordFor_28 : decode cX3_wordFor 28 = .ok (.iconst 0, 1) := dk_3 (dk_at dksX3_wordFor_1 4 rfl rfl)
theorem dX3_wordFor_29 : decode cX3_wordFor 29 = .ok (.istore 8, 2) := dk_54 8 (dk_at dksX3_wordFor_1 5 rfl rfl)
theorem dX3_wordFor_31 : decode cX3_wordFor 31 = .ok (.aload_n 0, 1) := dk_42 (dk_at dksX3_wordFor_1 7 rfl rfl)
theorem dX3_wordFor_32 : decode cX3_wordFor 32 = .ok (.iload_n 3, 1) := dk_29 (dk_at dksX3_wordFor_1 8 rfl rfl)
theorem dX3_wordFor_33 : decode cX3_wordFor 33 = .ok (.iload 5, 2) := dk_21 5 (dk_at dksX3_wordFor_1 9 rfl rfl)
theorem dX3_wordFor_35 : decode cX3_wordFor 35 = .ok (.iconst 1, 1) := dk_4 (dk_at dksX3_wordFor_1 11 rfl rfl)
theorem dX3_wordFor_36 : decode cX3_wordFor 36 = .ok (.invokevirtual 77, 3) := dk_182 0 77 (dk_at dksX3_wordFor_1 12 rfl rfl)
theorem dX3_wordFor_39 : decode cX3_wordFor 39 = .ok (.istore 9, 2) := dk_54 9 (dk_at dksX3_wordFor_1 15 rfl rfl)
theorem dX3_wordFor_41 : decode cX3_wordFor 41 = .ok (.aload_n 0, 1) := dk_42 (dk_at dksX3_wordFor_1 17 rfl rfl)
theorem dX3_wordFor_42 : decode cX3_wordFor 42 = .ok (.iload 4, 2) := dk_21 4 (dk_at dksX3_wordFor_1 18 rfl rfl)
theorem dX3_wordFor_44 : decode cX3_wordFor 44 = .ok (.iload 5, 2) := dk_21 5 (dk_at dksX3_wordFor_1 20 rfl rfl)
theorem dX3_wordFor_46 : decode cX3_wordFor 46 = .ok (.iconst 1, 1) := dk_4 (dk_at dksX3_wordFor_1 22 rfl rfl)
theorem dX3_wordFor_47 : decode cX3_wordFor 47 = .ok (.invokevirtual 81, 3) := dk_182 0 81 (dk_at dksX3_wordFor_2 0 rfl rfl)
theorem dX3_wordFor_50 : decode cX3_wordFor 50 = .ok (.istore 10, 2) := dk_54 10 (dk_at dksX3_wordFor_2 3 rfl rfl)
theorem dX3_wordFor_52 : decode cX3_wordFor 52 = .ok (.aload_n 0, 1) := dk_42 (dk_at dksX3_wordFor_2 5 rfl rfl)
theorem dX3_wordFor_53 : decode cX3_wordFor 53 = .ok (.iload_n 3, 1) := dk_29 (dk_at dksX3_wordFor_2 6 rfl rfl)
theorem dX3_wordFor_54 : decode cX3_wordFor 54 = .ok (.iload 5, 2) := dk_21 5 (dk_at dksX3_wordFor_2 7 rfl rfl)
theorem dX3_wordFor_56 : decode cX3_wordFor 56 = .ok (.iconst 0, 1) := dk_3 (dk_at dksX3_wordFor_2 9 rfl rfl)
theorem dX3_wordFor_57 : decode cX3_wordFor 57 = .ok (.invokevirtual 77, 3) := dk_182 0 77 (dk_at dksX3_wordFor_2 10 rfl rfl)
theorem dX3_wordFor_60 : decode cX3_wordFor 60 = .ok (.istore 11, 2) := dk_54 11 (dk_at dksX3_wordFor_2 13 rfl rfl)
theorem dX3_wordFor_62 : decode cX3_wordFor 62 = .ok (.aload_n 0, 1) := dk_42 (dk_at dksX3_wordFor_2 15 rfl rfl)
theorem dX3_wordFor_63 : decode cX3_wordFor 63 = .ok (.iload 4, 2) := dk_21 4 (dk_at dksX3_wordFor_2 16 rfl rfl)
theorem dX3_wordFor_65 : decode cX3_wordFor 65 = .ok (.iload 5, 2) := dk_21 5 (dk_at dksX3_wordFor_2 18 rfl rfl)
theorem dX3_wordFor_67 : decode cX3_wordFor 67 = .ok (.iconst 0, 1) := dk_3 (dk_at dksX3_wordFor_2 20 rfl rfl)
theorem dX3_wordFor_68 : decode cX3_wordFor 68 = .ok (.invokevirtual 81, 3) := dk_182 0 81 (dk_at dksX3_wordFor_2 21 rfl rfl)
theorem dX3_wordFor_71 : decode cX3_wordFor 71 = .ok (.istore 12, 2) := dk_54 12 (dk_at dksX3_wordFor_3 0 rfl rfl)
theorem dX3_wordFor_73 : decode cX3_wordFor 73 = .ok (.aload_n 0, 1) := dk_42 (dk_at dksX3_wordFor_3 2 rfl rfl)
theorem dX3_wordFor_74 : decode cX3_wordFor 74 = .ok (.getfield 3, 3) := dk_180 0 3 (dk_at dksX3_wordFor_3 3 rfl rfl)
theorem dX3_wordFor_77 : decode cX3_wordFor 77 = .ok (.getfield 84, 3) := dk_180 0 84 (dk_at dksX3_wordFor_3 6 rfl rfl)
theorem dX3_wordFor_80 : decode cX3_wordFor 80 = .ok (.iconst 0, 1) := dk_3 (dk_at dksX3_wordFor_3 9 rfl rfl)
theorem dX3_wordFor_81 : decode cX3_wordFor 81 = .ok (.iload 8, 2) := dk_21 8 (dk_at dksX3_wordFor_3 10 rfl rfl)
theorem dX3_wordFor_83 : decode cX3_wordFor 83 = .ok (.ifCond .eq 7, 3) := dk_153 0 7 (dk_at dksX3_wordFor_3 12 rfl rfl)
theorem dX3_wordFor_86 : decode cX3_wordFor 86 = .ok (.iconst 0, 1) := dk_3 (dk_at dksX3_wordFor_3 15 rfl rfl)
theorem dX3_wordFor_87 : decode cX3_wordFor 87 = .ok (.goto 11, 3) := dk_167 0 11 (dk_at dksX3_wordFor_3 16 rfl rfl)
theorem dX3_wordFor_90 : decode cX3_wordFor 90 = .ok (.aload_n 1, 1) := dk_43 (dk_at dksX3_wordFor_3 19 rfl rfl)
theorem dX3_wordFor_91 : decode cX3_wordFor 91 = .ok (.iload 9, 2) := dk_21 9 (dk_at dksX3_wordFor_3 20 rfl rfl)
theorem dX3_wordFor_93 : decode cX3_wordFor 93 = .ok (.iload 10, 2) := dk_21 10 (dk_at dksX3_wordFor_3 22 rfl rfl)
theorem dX3_wordFor_95 : decode cX3_wordFor 95 = .ok (.invokevirtual 87, 3) := dk_182 0 87 (dk_at dksX3_wordFor_4 0 rfl rfl)
theorem dX3_wordFor_98 : decode cX3_wordFor 98 = .ok (.iastore, 1) := dk_79 (dk_at dksX3_wordFor_4 3 rfl rfl)
theorem dX3_wordFor_99 : decode cX3_wordFor 99 = .ok (.aload_n 0, 1) := dk_42 (dk_at dksX3_wordFor_4 4 rfl rfl)
theorem dX3_wordFor_100 : decode cX3_wordFor 100 = .ok (.getfield 3, 3) := dk_180 0 3 (dk_at dksX3_wordFor_4 5 rfl rfl)
theorem dX3_wordFor_103 : decode cX3_wordFor 103 = .ok (.getfield 84, 3) := dk_180 0 84 (dk_at dksX3_wordFor_4 8 rfl rfl)
theorem dX3_wordFor_106 : decode cX3_wordFor 106 = .ok (.iconst 1, 1) := dk_4 (dk_at dksX3_wordFor_4 11 rfl rfl)
theorem dX3_wordFor_107 : decode cX3_wordFor 107 = .ok (.iload 8, 2) := dk_21 8 (dk_at dksX3_wordFor_4 12 rfl rfl)
theorem dX3_wordFor_109 : decode cX3_wordFor 109 = .ok (.ifCond .eq 7, 3) := dk_153 0 7 (dk_at dksX3_wordFor_4 14 rfl rfl)
theorem dX3_wordFor_112 : decode cX3_wordFor 112 = .ok (.iconst 0, 1) := dk_3 (dk_at dksX3_wordFor_4 17 rfl rfl)
theorem dX3_wordFor_113 : decode cX3_wordFor 113 = .ok (.goto 11, 3) := dk_167 0 11 (dk_at dksX3_wordFor_4 18 rfl rfl)
theorem dX3_wordFor_116 : decode cX3_wordFor 116 = .ok (.aload_n 1, 1) := dk_43 (dk_at dksX3_wordFor_4 21 rfl rfl)
theorem dX3_wordFor_117 : decode cX3_wordFor 117 = .ok (.iload 11, 2) := dk_21 11 (dk_at dksX3_wordFor_4 22 rfl rfl)
theorem dX3_wordFor_119 : decode cX3_wordFor 119 = .ok (.iload 12, 2) := dk_21 12 (dk_at dksX3_wordFor_5 0 rfl rfl)
theorem dX3_wordFor_121 : decode cX3_wordFor 121 = .ok (.invokevirtual 87, 3) := dk_182 0 87 (dk_at dksX3_wordFor_5 2 rfl rfl)
theorem dX3_wordFor_124 : decode cX3_wordFor 124 = .ok (.iastore, 1) := dk_79 (dk_at dksX3_wordFor_5 5 rfl rfl)
theorem dX3_wordFor_125 : decode cX3_wordFor 125 = .ok (.aload_n 0, 1) := dk_42 (dk_at dksX3_wordFor_5 6 rfl rfl)
theorem dX3_wordFor_126 : decode cX3_wordFor 126 = .ok (.getfield 3, 3) := dk_180 0 3 (dk_at dksX3_wordFor_5 7 rfl rfl)
theorem dX3_wordFor_129 : decode cX3_wordFor 129 = .ok (.getfield 84, 3) := dk_180 0 84 (dk_at dksX3_wordFor_5 10 rfl rfl)
theorem dX3_wordFor_132 : decode cX3_wordFor 132 = .ok (.iconst 2, 1) := dk_5 (dk_at dksX3_wordFor_5 13 rfl rfl)
theorem dX3_wordFor_133 : decode cX3_wordFor 133 = .ok (.iload 8, 2) := dk_21 8 (dk_at dksX3_wordFor_5 14 rfl rfl)
theorem dX3_wordFor_135 : decode cX3_wordFor 135 = .ok (.ifCond .ne 18, 3) := dk_154 0 18 (dk_at dksX3_wordFor_5 16 rfl rfl)
theorem dX3_wordFor_138 : decode cX3_wordFor 138 = .ok (.aload_n 1, 1) := dk_43 (dk_at dksX3_wordFor_5 19 rfl rfl)
theorem dX3_wordFor_139 : decode cX3_wordFor 139 = .ok (.iload 9, 2) := dk_21 9 (dk_at dksX3_wordFor_5 20 rfl rfl)
theorem dX3_wordFor_141 : decode cX3_wordFor 141 = .ok (.iload 10, 2) := dk_21 10 (dk_at dksX3_wordFor_5 22 rfl rfl)
theorem dX3_wordFor_143 : decode cX3_wordFor 143 = .ok (.invokevirtual 91, 3) := dk_182 0 91 (dk_at dksX3_wordFor_6 0 rfl rfl)
theorem dX3_wordFor_146 : decode cX3_wordFor 146 = .ok (.ifCond .eq 7, 3) := dk_153 0 7 (dk_at dksX3_wordFor_6 3 rfl rfl)
theorem dX3_wordFor_149 : decode cX3_wordFor 149 = .ok (.iconst 1, 1) := dk_4 (dk_at dksX3_wordFor_6 6 rfl rfl)
theorem dX3_wordFor_150 : decode cX3_wordFor 150 = .ok (.goto 4, 3) := dk_167 0 4 (dk_at dksX3_wordFor_6 7 rfl rfl)
theorem dX3_wordFor_153 : decode cX3_wordFor 153 = .ok (.iconst 0, 1) := dk_3 (dk_at dksX3_wordFor_6 10 rfl rfl)
theorem dX3_wordFor_154 : decode cX3_wordFor 154 = .ok (.iastore, 1) := dk_79 (dk_at dksX3_wordFor_6 11 rfl rfl)
theorem dX3_wordFor_155 : decode cX3_wordFor 155 = .ok (.aload_n 0, 1) := dk_42 (dk_at dksX3_wordFor_6 12 rfl rfl)
theorem dX3_wordFor_156 : decode cX3_wordFor 156 = .ok (.getfield 3, 3) := dk_180 0 3 (dk_at dksX3_wordFor_6 13 rfl rfl)
theorem dX3_wordFor_159 : decode cX3_wordFor 159 = .ok (.getfield 84, 3) := dk_180 0 84 (dk_at dksX3_wordFor_6 16 rfl rfl)
theorem dX3_wordFor_162 : decode cX3_wordFor 162 = .ok (.iconst 3, 1) := dk_6 (dk_at dksX3_wordFor_6 19 rfl rfl)
theorem dX3_wordFor_163 : decode cX3_wordFor 163 = .ok (.iload 8, 2) := dk_21 8 (dk_at dksX3_wordFor_6 20 rfl rfl)
theorem dX3_wordFor_165 : decode cX3_wordFor 165 = .ok (.ifCond .ne 18, 3) := dk_154 0 18 (dk_at dksX3_wordFor_7 0 rfl rfl)
theorem dX3_wordFor_168 : decode cX3_wordFor 168 = .ok (.aload_n 1, 1) := dk_43 (dk_at dksX3_wordFor_7 3 rfl rfl)
theorem dX3_wordFor_169 : decode cX3_wordFor 169 = .ok (.iload 11, 2) := dk_21 11 (dk_at dksX3_wordFor_7 4 rfl rfl)
theorem dX3_wordFor_171 : decode cX3_wordFor 171 = .ok (.iload 12, 2) := dk_21 12 (dk_at dksX3_wordFor_7 6 rfl rfl)
theorem dX3_wordFor_173 : decode cX3_wordFor 173 = .ok (.invokevirtual 91, 3) := dk_182 0 91 (dk_at dksX3_wordFor_7 8 rfl rfl)
theorem dX3_wordFor_176 : decode cX3_wordFor 176 = .ok (.ifCond .eq 7, 3) := dk_153 0 7 (dk_at dksX3_wordFor_7 11 rfl rfl)
theorem dX3_wordFor_179 : decode cX3_wordFor 179 = .ok (.iconst 1, 1) := dk_4 (dk_at dksX3_wordFor_7 14 rfl rfl)
theorem dX3_wordFor_180 : decode cX3_wordFor 180 = .ok (.goto 4, 3) := dk_167 0 4 (dk_at dksX3_wordFor_7 15 rfl rfl)
theorem dX3_wordFor_183 : decode cX3_wordFor 183 = .ok (.iconst 0, 1) := dk_3 (dk_at dksX3_wordFor_7 18 rfl rfl)
theorem dX3_wordFor_184 : decode cX3_wordFor 184 = .ok (.iastore, 1) := dk_79 (dk_at dksX3_wordFor_7 19 rfl rfl)
theorem dX3_wordFor_185 : decode cX3_wordFor 185 = .ok (.aload_n 0, 1) := dk_42 (dk_at dksX3_wordFor_7 20 rfl rfl)
theorem dX3_wordFor_186 : decode cX3_wordFor 186 = .ok (.getfield 3, 3) := dk_180 0 3 (dk_at dksX3_wordFor_7 21 rfl rfl)
theorem dX3_wordFor_189 : decode cX3_wordFor 189 = .ok (.getfield 84, 3) := dk_180 0 84 (dk_at dksX3_wordFor_8 0 rfl rfl)
theorem dX3_wordFor_192 : decode cX3_wordFor 192 = .ok (.iconst 4, 1) := dk_7 (dk_at dksX3_wordFor_8 3 rfl rfl)
theorem dX3_wordFor_193 : decode cX3_wordFor 193 = .ok (.aload_n 0, 1) := dk_42 (dk_at dksX3_wordFor_8 4 rfl rfl)
theorem dX3_wordFor_194 : decode cX3_wordFor 194 = .ok (.aload_n 1, 1) := dk_43 (dk_at dksX3_wordFor_8 5 rfl rfl)
theorem dX3_wordFor_195 : decode cX3_wordFor 195 = .ok (.iload_n 3, 1) := dk_29 (dk_at dksX3_wordFor_8 6 rfl rfl)
theorem dX3_wordFor_196 : decode cX3_wordFor 196 = .ok (.iload 4, 2) := dk_21 4 (dk_at dksX3_wordFor_8 7 rfl rfl)
theorem dX3_wordFor_198 : decode cX3_wordFor 198 = .ok (.iload 5, 2) := dk_21 5 (dk_at dksX3_wordFor_8 9 rfl rfl)
theorem dX3_wordFor_200 : decode cX3_wordFor 200 = .ok (.invokevirtual 73, 3) := dk_182 0 73 (dk_at dksX3_wordFor_8 11 rfl rfl)
theorem dX3_wordFor_203 : decode cX3_wordFor 203 = .ok (.iconst (-1), 1) := dk_2 (dk_at dksX3_wordFor_8 14 rfl rfl)
theorem dX3_wordFor_204 : decode cX3_wordFor 204 = .ok (.if_icmp .ne 7, 3) := dk_160 0 7 (dk_at dksX3_wordFor_8 15 rfl rfl)
theorem dX3_wordFor_207 : decode cX3_wordFor 207 = .ok (.iconst 0, 1) := dk_3 (dk_at dksX3_wordFor_8 18 rfl rfl)
theorem dX3_wordFor_208 : decode cX3_wordFor 208 = .ok (.goto 4, 3) := dk_167 0 4 (dk_at dksX3_wordFor_8 19 rfl rfl)
theorem dX3_wordFor_211 : decode cX3_wordFor 211 = .ok (.iconst 1, 1) := dk_4 (dk_at dksX3_wordFor_8 22 rfl rfl)
theorem dX3_wordFor_212 : decode cX3_wordFor 212 = .ok (.iastore, 1) := dk_79 (dk_at dksX3_wordFor_8 23 rfl rfl)
theorem dX3_wordFor_213 : decode cX3_wordFor 213 = .ok (.aload_n 0, 1) := dk_42 (dk_at dksX3_wordFor_9 0 rfl rfl)
theorem dX3_wordFor_214 : decode cX3_wordFor 214 = .ok (.getfield 3, 3) := dk_180 0 3 (dk_at dksX3_wordFor_9 1 rfl rfl)
theorem dX3_wordFor_217 : decode cX3_wordFor 217 = .ok (.getfield 84, 3) := dk_180 0 84 (dk_at dksX3_wordFor_9 4 rfl rfl)
theorem dX3_wordFor_220 : decode cX3_wordFor 220 = .ok (.iconst 5, 1) := dk_8 (dk_at dksX3_wordFor_9 7 rfl rfl)
theorem dX3_wordFor_221 : decode cX3_wordFor 221 = .ok (.iload 8, 2) := dk_21 8 (dk_at dksX3_wordFor_9 8 rfl rfl)
theorem dX3_wordFor_223 : decode cX3_wordFor 223 = .ok (.ifCond .eq 7, 3) := dk_153 0 7 (dk_at dksX3_wordFor_9 10 rfl rfl)
theorem dX3_wordFor_226 : decode cX3_wordFor 226 = .ok (.iconst 1, 1) := dk_4 (dk_at dksX3_wordFor_9 13 rfl rfl)
theorem dX3_wordFor_227 : decode cX3_wordFor 227 = .ok (.goto 4, 3) := dk_167 0 4 (dk_at dksX3_wordFor_9 14 rfl rfl)
theorem dX3_wordFor_230 : decode cX3_wordFor 230 = .ok (.iconst 0, 1) := dk_3 (dk_at dksX3_wordFor_9 17 rfl rfl)
theorem dX3_wordFor_231 : decode cX3_wordFor 231 = .ok (.iastore, 1) := dk_79 (dk_at dksX3_wordFor_9 18 rfl rfl)
theorem dX3_wordFor_232 : decode cX3_wordFor 232 = .ok (.aload_n 0, 1) := dk_42 (dk_at dksX3_wordFor_9 19 rfl rfl)
theorem dX3_wordFor_233 : decode cX3_wordFor 233 = .ok (.getfield 3, 3) := dk_180 0 3 (dk_at dksX3_wordFor_9 20 rfl rfl)
theorem dX3_wordFor_236 : decode cX3_wordFor 236 = .ok (.getfield 84, 3) := dk_180 0 84 (dk_at dksX3_wordFor_10 0 rfl rfl)
theorem dX3_wordFor_239 : decode cX3_wordFor 239 = .ok (.bipush 6, 2) := dk_16 6 (dk_at dksX3_wordFor_10 3 rfl rfl)
theorem dX3_wordFor_241 : decode cX3_wordFor 241 = .ok (.iload 6, 2) := dk_21 6 (dk_at dksX3_wordFor_10 5 rfl rfl)
theorem dX3_wordFor_243 : decode cX3_wordFor 243 = .ok (.iastore, 1) := dk_79 (dk_at dksX3_wordFor_10 7 rfl rfl)
theorem dX3_wordFor_244 : decode cX3_wordFor 244 = .ok (.aload_n 0, 1) := dk_42 (dk_at dksX3_wordFor_10 8 rfl rfl)
theorem dX3_wordFor_245 : decode cX3_wordFor 245 = .ok (.getfield 3, 3) := dk_180 0 3 (dk_at dksX3_wordFor_10 9 rfl rfl)
theorem dX3_wordFor_248 : decode cX3_wordFor 248 = .ok (.getfield 84, 3) := dk_180 0 84 (dk_at dksX3_wordFor_10 12 rfl rfl)
theorem dX3_wordFor_251 : decode cX3_wordFor 251 = .ok (.bipush 7, 2) := dk_16 7 (dk_at dksX3_wordFor_10 15 rfl rfl)
theorem dX3_wordFor_253 : decode cX3_wordFor 253 = .ok (.iload 7, 2) := dk_21 7 (dk_at dksX3_wordFor_10 17 rfl rfl)
theorem dX3_wordFor_255 : decode cX3_wordFor 255 = .ok (.iastore, 1) := dk_79 (dk_at dksX3_wordFor_10 19 rfl rfl)
theorem dX3_wordFor_256 : decode cX3_wordFor 256 = .ok (.aload_n 0, 1) := dk_42 (dk_at dksX3_wordFor_10 20 rfl rfl)
theorem dX3_wordFor_257 : decode cX3_wordFor 257 = .ok (.getfield 3, 3) := dk_180 0 3 (dk_at dksX3_wordFor_10 21 rfl rfl)
theorem dX3_wordFor_260 : decode cX3_wordFor 260 = .ok (.getfield 84, 3) := dk_180 0 84 (dk_at dksX3_wordFor_11 0 rfl rfl)
theorem dX3_wordFor_263 : decode cX3_wordFor 263 = .ok (.bipush 8, 2) := dk_16 8 (dk_at dksX3_wordFor_11 3 rfl rfl)
theorem dX3_wordFor_265 : decode cX3_wordFor 265 = .ok (.iload_n 2, 1) := dk_28 (dk_at dksX3_wordFor_11 5 rfl rfl)
theorem dX3_wordFor_266 : decode cX3_wordFor 266 = .ok (.iastore, 1) := dk_79 (dk_at dksX3_wordFor_11 6 rfl rfl)
theorem dX3_wordFor_267 : decode cX3_wordFor 267 = .ok (.aload_n 0, 1) := dk_42 (dk_at dksX3_wordFor_11 7 rfl rfl)
theorem dX3_wordFor_268 : decode cX3_wordFor 268 = .ok (.getfield 3, 3) := dk_180 0 3 (dk_at dksX3_wordFor_11 8 rfl rfl)
theorem dX3_wordFor_271 : decode cX3_wordFor 271 = .ok (.getfield 94, 3) := dk_180 0 94 (dk_at dksX3_wordFor_11 11 rfl rfl)
theorem dX3_wordFor_274 : decode cX3_wordFor 274 = .ok (.aload_n 1, 1) := dk_43 (dk_at dksX3_wordFor_11 14 rfl rfl)
theorem dX3_wordFor_275 : decode cX3_wordFor 275 = .ok (.getfield 98, 3) := dk_180 0 98 (dk_at dksX3_wordFor_11 15 rfl rfl)
theorem dX3_wordFor_278 : decode cX3_wordFor 278 = .ok (.iload_n 2, 1) := dk_28 (dk_at dksX3_wordFor_11 18 rfl rfl)
theorem dX3_wordFor_279 : decode cX3_wordFor 279 = .ok (.aaload, 1) := dk_50 (dk_at dksX3_wordFor_11 19 rfl rfl)
theorem dX3_wordFor_280 : decode cX3_wordFor 280 = .ok (.getfield 102, 3) := dk_180 0 102 (dk_at dksX3_wordFor_11 20 rfl rfl)
theorem dX3_wordFor_283 : decode cX3_wordFor 283 = .ok (.aaload, 1) := dk_50 (dk_at dksX3_wordFor_11 23 rfl rfl)
theorem dX3_wordFor_284 : decode cX3_wordFor 284 = .ok (.astore 13, 2) := dk_58 13 (dk_at dksX3_wordFor_12 0 rfl rfl)
theorem dX3_wordFor_286 : decode cX3_wordFor 286 = .ok (.aload 13, 2) := dk_25 13 (dk_at dksX3_wordFor_12 2 rfl rfl)
theorem dX3_wordFor_288 : decode cX3_wordFor 288 = .ok (.aload_n 0, 1) := dk_42 (dk_at dksX3_wordFor_12 4 rfl rfl)
theorem dX3_wordFor_289 : decode cX3_wordFor 289 = .ok (.getfield 3, 3) := dk_180 0 3 (dk_at dksX3_wordFor_12 5 rfl rfl)
theorem dX3_wordFor_292 : decode cX3_wordFor 292 = .ok (.getfield 84, 3) := dk_180 0 84 (dk_at dksX3_wordFor_12 8 rfl rfl)
theorem dX3_wordFor_295 : decode cX3_wordFor 295 = .ok (.invokevirtual 107, 3) := dk_182 0 107 (dk_at dksX3_wordFor_12 11 rfl rfl)
theorem dX3_wordFor_298 : decode cX3_wordFor 298 = .ok (.istore 14, 2) := dk_54 14 (dk_at dksX3_wordFor_12 14 rfl rfl)
theorem dX3_wordFor_300 : decode cX3_wordFor 300 = .ok (.iload 14, 2) := dk_21 14 (dk_at dksX3_wordFor_12 16 rfl rfl)
theorem dX3_wordFor_302 : decode cX3_wordFor 302 = .ok (.iconst (-1), 1) := dk_2 (dk_at dksX3_wordFor_12 18 rfl rfl)
theorem dX3_wordFor_303 : decode cX3_wordFor 303 = .ok (.if_icmp .ne 7, 3) := dk_160 0 7 (dk_at dksX3_wordFor_12 19 rfl rfl)
theorem dX3_wordFor_306 : decode cX3_wordFor 306 = .ok (.iconst 0, 1) := dk_3 (dk_at dksX3_wordFor_12 22 rfl rfl)
theorem dX3_wordFor_307 : decode cX3_wordFor 307 = .ok (.goto 11, 3) := dk_167 0 11 (dk_at dksX3_wordFor_13 0 rfl rfl)
theorem dX3_wordFor_310 : decode cX3_wordFor 310 = .ok (.aload 13, 2) := dk_25 13 (dk_at dksX3_wordFor_13 3 rfl rfl)
theorem dX3_wordFor_312 : decode cX3_wordFor 312 = .ok (.getfield 113, 3) := dk_180 0 113 (dk_at dksX3_wordFor_13 5 rfl rfl)
theorem dX3_wordFor_315 : decode cX3_wordFor 315 = .ok (.iload 14, 2) := dk_21 14 (dk_at dksX3_wordFor_13 8 rfl rfl)
theorem dX3_wordFor_317 : decode cX3_wordFor 317 = .ok (.iaload, 1) := dk_46 (dk_at dksX3_wordFor_13 10 rfl rfl)
theorem dX3_wordFor_318 : decode cX3_wordFor 318 = .ok (.ireturn, 1) := dk_172 (dk_at dksX3_wordFor_13 11 rfl rfl)
abbrev cX3_besideX : ByteArray := prog_11_method_6_code
def yX3_besideX : MethodName := ⟨RX3, "besideX", "(IIZ)I"⟩
def dkwX3_besideX_1 : List UInt8 := [100, 167, 0, 19, 27, 167, 0, 15, 28, 6, 160, 0, 9, 27, 4, 100, 167, 0, 4, 27, 172]
abbrev dktX3_besideX_1 : List UInt8 := dkwX3_besideX_1 ++ []
def dkwX3_besideX_0 : List UInt8 := [28, 153, 0, 8, 28, 5, 160, 0, 26, 29, 28, 154, 0, 7, 4, 167, 0, 4, 3, 160, 0, 9, 27, 4]
abbrev dktX3_besideX_0 : List UInt8 := dkwX3_besideX_0 ++ dktX3_besideX_1
theorem dksX3_besideX_0 : cX3_besideX.data.toList.drop 0 = dktX3_besideX_0 := by decide +kernel
theorem dksX3_besideX_1 : cX3_besideX.data.toList.drop 24 = dktX3_besideX_1 := dk_seg dksX3_besideX_0 24 rfl rfl
theorem dX3_besideX_0 : decode cX3_besideX 0 = .ok (.iload_n 2, 1) := dk_28 (dk_at dksX3_besideX_0 0 rfl rfl)
theorem dX3_besideX_1 : decode cX3_besideX 1 = .ok (.ifCond .eq 8, 3) := dk_153 0 8 (dk_at dksX3_besideX_0 1 rfl rfl)
theorem dX3_besideX_4 : decode cX3_besideX 4 = .ok (.iload_n 2, 1) := dk_28 (dk_at dksX3_besideX_0 4 rfl rfl)
theorem dX3_besideX_5 : decode cX3_besideX 5 = .ok (.iconst 2, 1) := dk_5 (dk_at dksX3_besideX_0 5 rfl rfl)
theorem dX3_besideX_6 : decode cX3_besideX 6 = .ok (.if_icmp .ne 26, 3) := dk_160 0 26 (dk_at dksX3_besideX_0 6 rfl rfl)
theorem dX3_besideX_9 : decode cX3_besideX 9 = .ok (.iload_n 3, 1) := dk_29 (dk_at dksX3_besideX_0 9 rfl rfl)
theorem dX3_besideX_10 : decode cX3_besideX 10 = .ok (.iload_n 2, 1) := dk_28 (dk_at dksX3_besideX_0 10 rfl rfl)
theorem dX3_besideX_11 : decode cX3_besideX 11 = .ok (.ifCond .ne 7, 3) := dk_154 0 7 (dk_at dksX3_besideX_0 11 rfl rfl)
theorem dX3_besideX_14 : decode cX3_besideX 14 = .ok (.iconst 1, 1) := dk_4 (dk_at dksX3_besideX_0 14 rfl rfl)
theorem dX3_besideX_15 : decode cX3_besideX 15 = .ok (.goto 4, 3) := dk_167 0 4 (dk_at dksX3_besideX_0 15 rfl rfl)
theorem dX3_besideX_18 : decode cX3_besideX 18 = .ok (.iconst 0, 1) := dk_3 (dk_at dksX3_besideX_0 18 rfl rfl)
theorem dX3_besideX_19 : decode cX3_besideX 19 = .ok (.if_icmp .ne 9, 3) := dk_160 0 9 (dk_at dksX3_besideX_0 19 rfl rfl)
theorem dX3_besideX_22 : decode cX3_besideX 22 = .ok (.iload_n 1, 1) := dk_27 (dk_at dksX3_besideX_0 22 rfl rfl)
theorem dX3_besideX_23 : decode cX3_besideX 23 = .ok (.iconst 1, 1) := dk_4 (dk_at dksX3_besideX_0 23 rfl rfl)
theorem dX3_besideX_24 : decode cX3_besideX 24 = .ok (.isub, 1) := dk_100 (dk_at dksX3_besideX_1 0 rfl rfl)
theorem dX3_besideX_25 : decode cX3_besideX 25 = .ok (.goto 19, 3) := dk_167 0 19 (dk_at dksX3_besideX_1 1 rfl rfl)
theorem dX3_besideX_28 : decode cX3_besideX 28 = .ok (.iload_n 1, 1) := dk_27 (dk_at dksX3_besideX_1 4 rfl rfl)
theorem dX3_besideX_29 : decode cX3_besideX 29 = .ok (.goto 15, 3) := dk_167 0 15 (dk_at dksX3_besideX_1 5 rfl rfl)
theorem dX3_besideX_32 : decode cX3_besideX 32 = .ok (.iload_n 2, 1) := dk_28 (dk_at dksX3_besideX_1 8 rfl rfl)
theorem dX3_besideX_33 : decode cX3_besideX 33 = .ok (.iconst 3, 1) := dk_6 (dk_at dksX3_besideX_1 9 rfl rfl)
theorem dX3_besideX_34 : decode cX3_besideX 34 = .ok (.if_icmp .ne 9, 3) := dk_160 0 9 (dk_at dksX3_besideX_1 10 rfl rfl)
theorem dX3_besideX_37 : decode cX3_besideX 37 = .ok (.iload_n 1, 1) := dk_27 (dk_at dksX3_besideX_1 13 rfl rfl)
theorem dX3_besideX_38 : decode cX3_besideX 38 = .ok (.iconst 1, 1) := dk_4 (dk_at dksX3_besideX_1 14 rfl rfl)
theorem dX3_besideX_39 : decode cX3_besideX 39 = .ok (.isub, 1) := dk_100 (dk_at dksX3_besideX_1 15 rfl rfl)
theorem dX3_besideX_40 : decode cX3_besideX 40 = .ok (.goto 4, 3) := dk_167 0 4 (dk_at dksX3_besideX_1 16 rfl rfl)
theorem dX3_besideX_43 : decode cX3_besideX 43 = .ok (.iload_n 1, 1) := dk_27 (dk_at dksX3_besideX_1 19 rfl rfl)
theorem dX3_besideX_44 : decode cX3_besideX 44 = .ok (.ireturn, 1) := dk_172 (dk_at dksX3_besideX_1 20 rfl rfl)
abbrev cX3_besideY : ByteArray := prog_11_method_7_code
def yX3_besideY : MethodName := ⟨RX3, "besideY", "(IIZ)I"⟩
def dkwX3_besideY_1 : List UInt8 := [27, 4, 100, 167, 0, 18, 27, 167, 0, 14, 28, 154, 0, 9, 27, 4, 100, 167, 0, 4, 27, 172]
abbrev dktX3_besideY_1 : List UInt8 := dkwX3_besideY_1 ++ []
def dkwX3_besideY_0 : List UInt8 := [28, 6, 159, 0, 8, 28, 4, 160, 0, 27, 29, 28, 4, 160, 0, 7, 4, 167, 0, 4, 3, 160, 0, 9]
abbrev dktX3_besideY_0 : List UInt8 := dkwX3_besideY_0 ++ dktX3_besideY_1
theorem dksX3_besideY_0 : cX3_besideY.data.toList.drop 0 = dktX3_besideY_0 := by decide +kernel
theorem dksX3_besideY_1 : cX3_besideY.data.toList.drop 24 = dktX3_besideY_1 := dk_seg dksX3_besideY_0 24 rfl rfl
theorem dX3_besideY_0 : decode cX3_besideY 0 = .ok (.iload_n 2, 1) := dk_28 (dk_at dksX3_besideY_0 0 rfl rfl)
theorem dX3_besideY_1 : decode cX3_besideY 1 = .ok (.iconst 3, 1) := dk_6 (dk_at dksX3_besideY_0 1 rfl rfl)
theorem dX3_besideY_2 : decode cX3_besideY 2 = .ok (.if_icmp .eq 8, 3) := dk_159 0 8 (dk_at dksX3_besideY_0 2 rfl rfl)
theorem dX3_besideY_5 : decode cX3_besideY 5 = .ok (.iload_n 2, 1) := dk_28 (dk_at dksX3_besideY_0 5 rfl rfl)
theorem dX3_besideY_6 : decode cX3_besideY 6 = .ok (.iconst 1, 1) := dk_4 (dk_at dksX3_besideY_0 6 rfl rfl)
theorem dX3_besideY_7 : decode cX3_besideY 7 = .ok (.if_icmp .ne 27, 3) := dk_160 0 27 (dk_at dksX3_besideY_0 7 rfl rfl)
theorem dX3_besideY_10 : decode cX3_besideY 10 = .ok (.iload_n 3, 1) := dk_29 (dk_at dksX3_besideY_0 10 rfl rfl)
theorem dX3_besideY_11 : decode cX3_besideY 11 = .ok (.iload_n 2, 1) := dk_28 (dk_at dksX3_besideY_0 11 rfl rfl)
theorem dX3_besideY_12 : decode cX3_besideY 12 = .ok (.iconst 1, 1) := dk_4 (dk_at dksX3_besideY_0 12 rfl rfl)
theorem dX3_besideY_13 : decode cX3_besideY 13 = .ok (.if_icmp .ne 7, 3) := dk_160 0 7 (dk_at dksX3_besideY_0 13 rfl rfl)
theorem dX3_besideY_16 : decode cX3_besideY 16 = .ok (.iconst 1, 1) := dk_4 (dk_at dksX3_besideY_0 16 rfl rfl)
theorem dX3_besideY_17 : decode cX3_besideY 17 = .ok (.goto 4, 3) := dk_167 0 4 (dk_at dksX3_besideY_0 17 rfl rfl)
theorem dX3_besideY_20 : decode cX3_besideY 20 = .ok (.iconst 0, 1) := dk_3 (dk_at dksX3_besideY_0 20 rfl rfl)
theorem dX3_besideY_21 : decode cX3_besideY 21 = .ok (.if_icmp .ne 9, 3) := dk_160 0 9 (dk_at dksX3_besideY_0 21 rfl rfl)
theorem dX3_besideY_24 : decode cX3_besideY 24 = .ok (.iload_n 1, 1) := dk_27 (dk_at dksX3_besideY_1 0 rfl rfl)
theorem dX3_besideY_25 : decode cX3_besideY 25 = .ok (.iconst 1, 1) := dk_4 (dk_at dksX3_besideY_1 1 rfl rfl)
theorem dX3_besideY_26 : decode cX3_besideY 26 = .ok (.isub, 1) := dk_100 (dk_at dksX3_besideY_1 2 rfl rfl)
theorem dX3_besideY_27 : decode cX3_besideY 27 = .ok (.goto 18, 3) := dk_167 0 18 (dk_at dksX3_besideY_1 3 rfl rfl)
theorem dX3_besideY_30 : decode cX3_besideY 30 = .ok (.iload_n 1, 1) := dk_27 (dk_at dksX3_besideY_1 6 rfl rfl)
theorem dX3_besideY_31 : decode cX3_besideY 31 = .ok (.goto 14, 3) := dk_167 0 14 (dk_at dksX3_besideY_1 7 rfl rfl)
theorem dX3_besideY_34 : decode cX3_besideY 34 = .ok (.iload_n 2, 1) := dk_28 (dk_at dksX3_besideY_1 10 rfl rfl)
theorem dX3_besideY_35 : decode cX3_besideY 35 = .ok (.ifCond .ne 9, 3) := dk_154 0 9 (dk_at dksX3_besideY_1 11 rfl rfl)
theorem dX3_besideY_38 : decode cX3_besideY 38 = .ok (.iload_n 1, 1) := dk_27 (dk_at dksX3_besideY_1 14 rfl rfl)
theorem dX3_besideY_39 : decode cX3_besideY 39 = .ok (.iconst 1, 1) := dk_4 (dk_at dksX3_besideY_1 15 rfl rfl)
theorem dX3_besideY_40 : decode cX3_besideY 40 = .ok (.isub, 1) := dk_100 (dk_at dksX3_besideY_1 16 rfl rfl)
theorem dX3_besideY_41 : decode cX3_besideY 41 = .ok (.goto 4, 3) := dk_167 0 4 (dk_at dksX3_besideY_1 17 rfl rfl)
theorem dX3_besideY_44 : decode cX3_besideY 44 = .ok (.iload_n 1, 1) := dk_27 (dk_at dksX3_besideY_1 20 rfl rfl)
theorem dX3_besideY_45 : decode cX3_besideY 45 = .ok (.ireturn, 1) := dk_172 (dk_at dksX3_besideY_1 21 rfl rfl)
abbrev cX3_ownerAt : ByteArray := prog_11_method_4_code
def yX3_ownerAt : MethodName := ⟨RX3, "ownerAt", "(LSwallowSurvey$Land;III)I"⟩
def dkwX3_ownerAt_2 : List UInt8 := [2, 172]
abbrev dktX3_ownerAt_2 : List UInt8 := dkwX3_ownerAt_2 ++ []
def dkwX3_ownerAt_1 : List UInt8 := [46, 96, 182, 0, 57, 153, 0, 19, 42, 180, 0, 15, 42, 28, 29, 21, 4, 182, 0, 69, 46, 167, 0, 4]
abbrev dktX3_ownerAt_1 : List UInt8 := dkwX3_ownerAt_1 ++ dktX3_ownerAt_2
def dkwX3_ownerAt_0 : List UInt8 := [43, 28, 29, 182, 0, 57, 153, 0, 42, 43, 28, 178, 0, 63, 21, 4, 46, 96, 29, 178, 0, 66, 21, 4]
abbrev dktX3_ownerAt_0 : List UInt8 := dkwX3_ownerAt_0 ++ dktX3_ownerAt_1
theorem dksX3_ownerAt_0 : cX3_ownerAt.data.toList.drop 0 = dktX3_ownerAt_0 := by decide +kernel
theorem dksX3_ownerAt_1 : cX3_ownerAt.data.toList.drop 24 = dktX3_ownerAt_1 := dk_seg dksX3_ownerAt_0 24 rfl rfl
theorem dksX3_ownerAt_2 : cX3_ownerAt.data.toList.drop 48 = dktX3_ownerAt_2 := dk_seg dksX3_ownerAt_1 24 rfl rfl
theorem dX3_ownerAt_0 : decode cX3_ownerAt 0 = .ok (.aload_n 1, 1) := dk_43 (dk_at dksX3_ownerAt_0 0 rfl rfl)
theorem dX3_ownerAt_1 : decode cX3_ownerAt 1 = .ok (.iload_n 2, 1) := dk_28 (dk_at dksX3_ownerAt_0 1 rfl rfl)
theorem dX3_ownerAt_2 : decode cX3_ownerAt 2 = .ok (.iload_n 3, 1) := dk_29 (dk_at dksX3_ownerAt_0 2 rfl rfl)
theorem dX3_ownerAt_3 : decode cX3_ownerAt 3 = .ok (.invokevirtual 57, 3) := dk_182 0 57 (dk_at dksX3_ownerAt_0 3 rfl rfl)
theorem dX3_ownerAt_6 : decode cX3_ownerAt 6 = .ok (.ifCond .eq 42, 3) := dk_153 0 42 (dk_at dksX3_ownerAt_0 6 rfl rfl)
theorem dX3_ownerAt_9 : decode cX3_ownerAt 9 = .ok (.aload_n 1, 1) := dk_43 (dk_at dksX3_ownerAt_0 9 rfl rfl)
theorem dX3_ownerAt_10 : decode cX3_ownerAt 10 = .ok (.iload_n 2, 1) := dk_28 (dk_at dksX3_ownerAt_0 10 rfl rfl)
theorem dX3_ownerAt_11 : decode cX3_ownerAt 11 = .ok (.getstatic 63, 3) := dk_178 0 63 (dk_at dksX3_ownerAt_0 11 rfl rfl)
theorem dX3_ownerAt_14 : decode cX3_ownerAt 14 = .ok (.iload 4, 2) := dk_21 4 (dk_at dksX3_ownerAt_0 14 rfl rfl)
theorem dX3_ownerAt_16 : decode cX3_ownerAt 16 = .ok (.iaload, 1) := dk_46 (dk_at dksX3_ownerAt_0 16 rfl rfl)
theorem dX3_ownerAt_17 : decode cX3_ownerAt 17 = .ok (.iadd, 1) := dk_96 (dk_at dksX3_ownerAt_0 17 rfl rfl)
theorem dX3_ownerAt_18 : decode cX3_ownerAt 18 = .ok (.iload_n 3, 1) := dk_29 (dk_at dksX3_ownerAt_0 18 rfl rfl)
theorem dX3_ownerAt_19 : decode cX3_ownerAt 19 = .ok (.getstatic 66, 3) := dk_178 0 66 (dk_at dksX3_ownerAt_0 19 rfl rfl)
theorem dX3_ownerAt_22 : decode cX3_ownerAt 22 = .ok (.iload 4, 2) := dk_21 4 (dk_at dksX3_ownerAt_0 22 rfl rfl)
theorem dX3_ownerAt_24 : decode cX3_ownerAt 24 = .ok (.iaload, 1) := dk_46 (dk_at dksX3_ownerAt_1 0 rfl rfl)
theorem dX3_ownerAt_25 : decode cX3_ownerAt 25 = .ok (.iadd, 1) := dk_96 (dk_at dksX3_ownerAt_1 1 rfl rfl)
theorem dX3_ownerAt_26 : decode cX3_ownerAt 26 = .ok (.invokevirtual 57, 3) := dk_182 0 57 (dk_at dksX3_ownerAt_1 2 rfl rfl)
theorem dX3_ownerAt_29 : decode cX3_ownerAt 29 = .ok (.ifCond .eq 19, 3) := dk_153 0 19 (dk_at dksX3_ownerAt_1 5 rfl rfl)
theorem dX3_ownerAt_32 : decode cX3_ownerAt 32 = .ok (.aload_n 0, 1) := dk_42 (dk_at dksX3_ownerAt_1 8 rfl rfl)
theorem dX3_ownerAt_33 : decode cX3_ownerAt 33 = .ok (.getfield 15, 3) := dk_180 0 15 (dk_at dksX3_ownerAt_1 9 rfl rfl)
theorem dX3_ownerAt_36 : decode cX3_ownerAt 36 = .ok (.aload_n 0, 1) := dk_42 (dk_at dksX3_ownerAt_1 12 rfl rfl)
theorem dX3_ownerAt_37 : decode cX3_ownerAt 37 = .ok (.iload_n 2, 1) := dk_28 (dk_at dksX3_ownerAt_1 13 rfl rfl)
theorem dX3_ownerAt_38 : decode cX3_ownerAt 38 = .ok (.iload_n 3, 1) := dk_29 (dk_at dksX3_ownerAt_1 14 rfl rfl)
theorem dX3_ownerAt_39 : decode cX3_ownerAt 39 = .ok (.iload 4, 2) := dk_21 4 (dk_at dksX3_ownerAt_1 15 rfl rfl)
theorem dX3_ownerAt_41 : decode cX3_ownerAt 41 = .ok (.invokevirtual 69, 3) := dk_182 0 69 (dk_at dksX3_ownerAt_1 17 rfl rfl)
theorem dX3_ownerAt_44 : decode cX3_ownerAt 44 = .ok (.iaload, 1) := dk_46 (dk_at dksX3_ownerAt_1 20 rfl rfl)
theorem dX3_ownerAt_45 : decode cX3_ownerAt 45 = .ok (.goto 4, 3) := dk_167 0 4 (dk_at dksX3_ownerAt_1 21 rfl rfl)
theorem dX3_ownerAt_48 : decode cX3_ownerAt 48 = .ok (.iconst (-1), 1) := dk_2 (dk_at dksX3_ownerAt_2 0 rfl rfl)
theorem dX3_ownerAt_49 : decode cX3_ownerAt 49 = .ok (.ireturn, 1) := dk_172 (dk_at dksX3_ownerAt_2 1 rfl rfl)
abbrev cX3_yardOf : ByteArray := prog_11_method_3_code
def yX3_yardOf : MethodName := ⟨RX3, "yardOf", "(III)I"⟩
def dkwX3_yardOf_2 : List UInt8 := [167, 0, 4, 3, 96, 172]
abbrev dktX3_yardOf_2 : List UInt8 := dkwX3_yardOf_2 ++ []
def dkwX3_yardOf_1 : List UInt8 := [28, 54, 5, 5, 16, 11, 21, 5, 104, 21, 4, 96, 104, 29, 153, 0, 8, 29, 5, 160, 0, 7, 4]
abbrev dktX3_yardOf_1 : List UInt8 := dkwX3_yardOf_1 ++ dktX3_yardOf_2
def dkwX3_yardOf_0 : List UInt8 := [29, 6, 160, 0, 9, 27, 4, 100, 167, 0, 4, 27, 54, 4, 29, 154, 0, 9, 28, 4, 100, 167, 0, 4]
abbrev dktX3_yardOf_0 : List UInt8 := dkwX3_yardOf_0 ++ dktX3_yardOf_1
theorem dksX3_yardOf_0 : cX3_yardOf.data.toList.drop 0 = dktX3_yardOf_0 := by decide +kernel
theorem dksX3_yardOf_1 : cX3_yardOf.data.toList.drop 24 = dktX3_yardOf_1 := dk_seg dksX3_yardOf_0 24 rfl rfl
theorem dksX3_yardOf_2 : cX3_yardOf.data.toList.drop 47 = dktX3_yardOf_2 := dk_seg dksX3_yardOf_1 23 rfl rfl
theorem dX3_yardOf_0 : decode cX3_yardOf 0 = .ok (.iload_n 3, 1) := dk_29 (dk_at dksX3_yardOf_0 0 rfl rfl)
theorem dX3_yardOf_1 : decode cX3_yardOf 1 = .ok (.iconst 3, 1) := dk_6 (dk_at dksX3_yardOf_0 1 rfl rfl)
theorem dX3_yardOf_2 : decode cX3_yardOf 2 = .ok (.if_icmp .ne 9, 3) := dk_160 0 9 (dk_at dksX3_yardOf_0 2 rfl rfl)
theorem dX3_yardOf_5 : decode cX3_yardOf 5 = .ok (.iload_n 1, 1) := dk_27 (dk_at dksX3_yardOf_0 5 rfl rfl)
theorem dX3_yardOf_6 : decode cX3_yardOf 6 = .ok (.iconst 1, 1) := dk_4 (dk_at dksX3_yardOf_0 6 rfl rfl)
theorem dX3_yardOf_7 : decode cX3_yardOf 7 = .ok (.isub, 1) := dk_100 (dk_at dksX3_yardOf_0 7 rfl rfl)
theorem dX3_yardOf_8 : decode cX3_yardOf 8 = .ok (.goto 4, 3) := dk_167 0 4 (dk_at dksX3_yardOf_0 8 rfl rfl)
theorem dX3_yardOf_11 : decode cX3_yardOf 11 = .ok (.iload_n 1, 1) := dk_27 (dk_at dksX3_yardOf_0 11 rfl rfl)
theorem dX3_yardOf_12 : decode cX3_yardOf 12 = .ok (.istore 4, 2) := dk_54 4 (dk_at dksX3_yardOf_0 12 rfl rfl)
theorem dX3_yardOf_14 : decode cX3_yardOf 14 = .ok (.iload_n 3, 1) := dk_29 (dk_at dksX3_yardOf_0 14 rfl rfl)
theorem dX3_yardOf_15 : decode cX3_yardOf 15 = .ok (.ifCond .ne 9, 3) := dk_154 0 9 (dk_at dksX3_yardOf_0 15 rfl rfl)
theorem dX3_yardOf_18 : decode cX3_yardOf 18 = .ok (.iload_n 2, 1) := dk_28 (dk_at dksX3_yardOf_0 18 rfl rfl)
theorem dX3_yardOf_19 : decode cX3_yardOf 19 = .ok (.iconst 1, 1) := dk_4 (dk_at dksX3_yardOf_0 19 rfl rfl)
theorem dX3_yardOf_20 : decode cX3_yardOf 20 = .ok (.isub, 1) := dk_100 (dk_at dksX3_yardOf_0 20 rfl rfl)
theorem dX3_yardOf_21 : decode cX3_yardOf 21 = .ok (.goto 4, 3) := dk_167 0 4 (dk_at dksX3_yardOf_0 21 rfl rfl)
theorem dX3_yardOf_24 : decode cX3_yardOf 24 = .ok (.iload_n 2, 1) := dk_28 (dk_at dksX3_yardOf_1 0 rfl rfl)
theorem dX3_yardOf_25 : decode cX3_yardOf 25 = .ok (.istore 5, 2) := dk_54 5 (dk_at dksX3_yardOf_1 1 rfl rfl)
theorem dX3_yardOf_27 : decode cX3_yardOf 27 = .ok (.iconst 2, 1) := dk_5 (dk_at dksX3_yardOf_1 3 rfl rfl)
theorem dX3_yardOf_28 : decode cX3_yardOf 28 = .ok (.bipush 11, 2) := dk_16 11 (dk_at dksX3_yardOf_1 4 rfl rfl)
theorem dX3_yardOf_30 : decode cX3_yardOf 30 = .ok (.iload 5, 2) := dk_21 5 (dk_at dksX3_yardOf_1 6 rfl rfl)
theorem dX3_yardOf_32 : decode cX3_yardOf 32 = .ok (.imul, 1) := dk_104 (dk_at dksX3_yardOf_1 8 rfl rfl)
theorem dX3_yardOf_33 : decode cX3_yardOf 33 = .ok (.iload 4, 2) := dk_21 4 (dk_at dksX3_yardOf_1 9 rfl rfl)
theorem dX3_yardOf_35 : decode cX3_yardOf 35 = .ok (.iadd, 1) := dk_96 (dk_at dksX3_yardOf_1 11 rfl rfl)
theorem dX3_yardOf_36 : decode cX3_yardOf 36 = .ok (.imul, 1) := dk_104 (dk_at dksX3_yardOf_1 12 rfl rfl)
theorem dX3_yardOf_37 : decode cX3_yardOf 37 = .ok (.iload_n 3, 1) := dk_29 (dk_at dksX3_yardOf_1 13 rfl rfl)
theorem dX3_yardOf_38 : decode cX3_yardOf 38 = .ok (.ifCond .eq 8, 3) := dk_153 0 8 (dk_at dksX3_yardOf_1 14 rfl rfl)
theorem dX3_yardOf_41 : decode cX3_yardOf 41 = .ok (.iload_n 3, 1) := dk_29 (dk_at dksX3_yardOf_1 17 rfl rfl)
theorem dX3_yardOf_42 : decode cX3_yardOf 42 = .ok (.iconst 2, 1) := dk_5 (dk_at dksX3_yardOf_1 18 rfl rfl)
theorem dX3_yardOf_43 : decode cX3_yardOf 43 = .ok (.if_icmp .ne 7, 3) := dk_160 0 7 (dk_at dksX3_yardOf_1 19 rfl rfl)
theorem dX3_yardOf_46 : decode cX3_yardOf 46 = .ok (.iconst 1, 1) := dk_4 (dk_at dksX3_yardOf_1 22 rfl rfl)
theorem dX3_yardOf_47 : decode cX3_yardOf 47 = .ok (.goto 4, 3) := dk_167 0 4 (dk_at dksX3_yardOf_2 0 rfl rfl)
theorem dX3_yardOf_50 : decode cX3_yardOf 50 = .ok (.iconst 0, 1) := dk_3 (dk_at dksX3_yardOf_2 3 rfl rfl)
theorem dX3_yardOf_51 : decode cX3_yardOf 51 = .ok (.iadd, 1) := dk_96 (dk_at dksX3_yardOf_2 4 rfl rfl)
theorem dX3_yardOf_52 : decode cX3_yardOf 52 = .ok (.ireturn, 1) := dk_172 (dk_at dksX3_yardOf_2 5 rfl rfl)
abbrev cX3_otherAt : ByteArray := prog_11_method_5_code
def yX3_otherAt : MethodName := ⟨RX3, "otherAt", "(LSwallowSurvey$Land;III)I"⟩
def dkwX3_otherAt_2 : List UInt8 := [162, 0, 7, 21, 7, 54, 5, 132, 6, 1, 167, 255, 206, 21, 5, 172]
abbrev dktX3_otherAt_2 : List UInt8 := dkwX3_otherAt_2 ++ []
def dkwX3_otherAt_1 : List UInt8 := [21, 7, 2, 159, 0, 27, 21, 7, 21, 4, 159, 0, 20, 21, 5, 2, 159, 0, 10, 21, 7, 21, 5]
abbrev dktX3_otherAt_1 : List UInt8 := dkwX3_otherAt_1 ++ dktX3_otherAt_2
def dkwX3_otherAt_0 : List UInt8 := [2, 54, 5, 3, 54, 6, 21, 6, 7, 162, 0, 50, 42, 43, 28, 29, 21, 6, 182, 0, 73, 54, 7]
abbrev dktX3_otherAt_0 : List UInt8 := dkwX3_otherAt_0 ++ dktX3_otherAt_1
theorem dksX3_otherAt_0 : cX3_otherAt.data.toList.drop 0 = dktX3_otherAt_0 := by decide +kernel
theorem dksX3_otherAt_1 : cX3_otherAt.data.toList.drop 23 = dktX3_otherAt_1 := dk_seg dksX3_otherAt_0 23 rfl rfl
theorem dksX3_otherAt_2 : cX3_otherAt.data.toList.drop 46 = dktX3_otherAt_2 := dk_seg dksX3_otherAt_1 23 rfl rfl
theorem dX3_otherAt_0 : decode cX3_otherAt 0 = .ok (.iconst (-1), 1) := dk_2 (dk_at dksX3_otherAt_0 0 rfl rfl)
theorem dX3_otherAt_1 : decode cX3_otherAt 1 = .ok (.istore 5, 2) := dk_54 5 (dk_at dksX3_otherAt_0 1 rfl rfl)
theorem dX3_otherAt_3 : decode cX3_otherAt 3 = .ok (.iconst 0, 1) := dk_3 (dk_at dksX3_otherAt_0 3 rfl rfl)
theorem dX3_otherAt_4 : decode cX3_otherAt 4 = .ok (.istore 6, 2) := dk_54 6 (dk_at dksX3_otherAt_0 4 rfl rfl)
theorem dX3_otherAt_6 : decode cX3_otherAt 6 = .ok (.iload 6, 2) := dk_21 6 (dk_at dksX3_otherAt_0 6 rfl rfl)
theorem dX3_otherAt_8 : decode cX3_otherAt 8 = .ok (.iconst 4, 1) := dk_7 (dk_at dksX3_otherAt_0 8 rfl rfl)
theorem dX3_otherAt_9 : decode cX3_otherAt 9 = .ok (.if_icmp .ge 50, 3) := dk_162 0 50 (dk_at dksX3_otherAt_0 9 rfl rfl)
theorem dX3_otherAt_12 : decode cX3_otherAt 12 = .ok (.aload_n 0, 1) := dk_42 (dk_at dksX3_otherAt_0 12 rfl rfl)
theorem dX3_otherAt_13 : decode cX3_otherAt 13 = .ok (.aload_n 1, 1) := dk_43 (dk_at dksX3_otherAt_0 13 rfl rfl)
theorem dX3_otherAt_14 : decode cX3_otherAt 14 = .ok (.iload_n 2, 1) := dk_28 (dk_at dksX3_otherAt_0 14 rfl rfl)
theorem dX3_otherAt_15 : decode cX3_otherAt 15 = .ok (.iload_n 3, 1) := dk_29 (dk_at dksX3_otherAt_0 15 rfl rfl)
theorem dX3_otherAt_16 : decode cX3_otherAt 16 = .ok (.iload 6, 2) := dk_21 6 (dk_at dksX3_otherAt_0 16 rfl rfl)
theorem dX3_otherAt_18 : decode cX3_otherAt 18 = .ok (.invokevirtual 73, 3) := dk_182 0 73 (dk_at dksX3_otherAt_0 18 rfl rfl)
theorem dX3_otherAt_21 : decode cX3_otherAt 21 = .ok (.istore 7, 2) := dk_54 7 (dk_at dksX3_otherAt_0 21 rfl rfl)
theorem dX3_otherAt_23 : decode cX3_otherAt 23 = .ok (.iload 7, 2) := dk_21 7 (dk_at dksX3_otherAt_1 0 rfl rfl)
theorem dX3_otherAt_25 : decode cX3_otherAt 25 = .ok (.iconst (-1), 1) := dk_2 (dk_at dksX3_otherAt_1 2 rfl rfl)
theorem dX3_otherAt_26 : decode cX3_otherAt 26 = .ok (.if_icmp .eq 27, 3) := dk_159 0 27 (dk_at dksX3_otherAt_1 3 rfl rfl)
theorem dX3_otherAt_29 : decode cX3_otherAt 29 = .ok (.iload 7, 2) := dk_21 7 (dk_at dksX3_otherAt_1 6 rfl rfl)
theorem dX3_otherAt_31 : decode cX3_otherAt 31 = .ok (.iload 4, 2) := dk_21 4 (dk_at dksX3_otherAt_1 8 rfl rfl)
theorem dX3_otherAt_33 : decode cX3_otherAt 33 = .ok (.if_icmp .eq 20, 3) := dk_159 0 20 (dk_at dksX3_otherAt_1 10 rfl rfl)
theorem dX3_otherAt_36 : decode cX3_otherAt 36 = .ok (.iload 5, 2) := dk_21 5 (dk_at dksX3_otherAt_1 13 rfl rfl)
theorem dX3_otherAt_38 : decode cX3_otherAt 38 = .ok (.iconst (-1), 1) := dk_2 (dk_at dksX3_otherAt_1 15 rfl rfl)
theorem dX3_otherAt_39 : decode cX3_otherAt 39 = .ok (.if_icmp .eq 10, 3) := dk_159 0 10 (dk_at dksX3_otherAt_1 16 rfl rfl)
theorem dX3_otherAt_42 : decode cX3_otherAt 42 = .ok (.iload 7, 2) := dk_21 7 (dk_at dksX3_otherAt_1 19 rfl rfl)
theorem dX3_otherAt_44 : decode cX3_otherAt 44 = .ok (.iload 5, 2) := dk_21 5 (dk_at dksX3_otherAt_1 21 rfl rfl)
theorem dX3_otherAt_46 : decode cX3_otherAt 46 = .ok (.if_icmp .ge 7, 3) := dk_162 0 7 (dk_at dksX3_otherAt_2 0 rfl rfl)
theorem dX3_otherAt_49 : decode cX3_otherAt 49 = .ok (.iload 7, 2) := dk_21 7 (dk_at dksX3_otherAt_2 3 rfl rfl)
theorem dX3_otherAt_51 : decode cX3_otherAt 51 = .ok (.istore 5, 2) := dk_54 5 (dk_at dksX3_otherAt_2 5 rfl rfl)
theorem dX3_otherAt_53 : decode cX3_otherAt 53 = .ok (.iinc 6 1, 3) := dk_132 6 1 (dk_at dksX3_otherAt_2 7 rfl rfl)
theorem dX3_otherAt_56 : decode cX3_otherAt 56 = .ok (.goto (-50), 3) := dk_167 255 206 (dk_at dksX3_otherAt_2 10 rfl rfl)
theorem dX3_otherAt_59 : decode cX3_otherAt 59 = .ok (.iload 5, 2) := dk_21 5 (dk_at dksX3_otherAt_2 13 rfl rfl)
theorem dX3_otherAt_61 : decode cX3_otherAt 61 = .ok (.ireturn, 1) := dk_172 (dk_at dksX3_otherAt_2 15 rfl rfl)
abbrev cX3_sues : ByteArray := prog_11_method_10_code
def yX3_sues : MethodName := ⟨RX3, "sues", "(IIIII)V"⟩
def dkwX3_sues_3 : List UInt8 := [79, 42, 89, 180, 0, 53, 4, 96, 181, 0, 53, 177]
abbrev dktX3_sues_3 : List UInt8 := dkwX3_sues_3 ++ []
def dkwX3_sues_2 : List UInt8 := [96, 29, 79, 42, 180, 0, 22, 21, 6, 6, 96, 21, 4, 79, 42, 180, 0, 22, 21, 6, 7, 96, 21, 5]
abbrev dktX3_sues_2 : List UInt8 := dkwX3_sues_2 ++ dktX3_sues_3
def dkwX3_sues_1 : List UInt8 := [180, 0, 22, 21, 6, 28, 79, 42, 180, 0, 22, 21, 6, 4, 96, 27, 79, 42, 180, 0, 22, 21, 6, 5]
abbrev dktX3_sues_1 : List UInt8 := dkwX3_sues_1 ++ dktX3_sues_2
def dkwX3_sues_0 : List UInt8 := [27, 2, 159, 0, 12, 42, 180, 0, 53, 16, 99, 160, 0, 4, 177, 8, 42, 180, 0, 53, 104, 54, 6, 42]
abbrev dktX3_sues_0 : List UInt8 := dkwX3_sues_0 ++ dktX3_sues_1
theorem dksX3_sues_0 : cX3_sues.data.toList.drop 0 = dktX3_sues_0 := by decide +kernel
theorem dksX3_sues_1 : cX3_sues.data.toList.drop 24 = dktX3_sues_1 := dk_seg dksX3_sues_0 24 rfl rfl
theorem dksX3_sues_2 : cX3_sues.data.toList.drop 48 = dktX3_sues_2 := dk_seg dksX3_sues_1 24 rfl rfl
theorem dksX3_sues_3 : cX3_sues.data.toList.drop 72 = dktX3_sues_3 := dk_seg dksX3_sues_2 24 rfl rfl
theorem dX3_sues_0 : decode cX3_sues 0 = .ok (.iload_n 1, 1) := dk_27 (dk_at dksX3_sues_0 0 rfl rfl)
theorem dX3_sues_1 : decode cX3_sues 1 = .ok (.iconst (-1), 1) := dk_2 (dk_at dksX3_sues_0 1 rfl rfl)
theorem dX3_sues_2 : decode cX3_sues 2 = .ok (.if_icmp .eq 12, 3) := dk_159 0 12 (dk_at dksX3_sues_0 2 rfl rfl)
theorem dX3_sues_5 : decode cX3_sues 5 = .ok (.aload_n 0, 1) := dk_42 (dk_at dksX3_sues_0 5 rfl rfl)
theorem dX3_sues_6 : decode cX3_sues 6 = .ok (.getfield 53, 3) := dk_180 0 53 (dk_at dksX3_sues_0 6 rfl rfl)
theorem dX3_sues_9 : decode cX3_sues 9 = .ok (.bipush 99, 2) := dk_16 99 (dk_at dksX3_sues_0 9 rfl rfl)
theorem dX3_sues_11 : decode cX3_sues 11 = .ok (.if_icmp .ne 4, 3) := dk_160 0 4 (dk_at dksX3_sues_0 11 rfl rfl)
theorem dX3_sues_14 : decode cX3_sues 14 = .ok (.return_, 1) := dk_177 (dk_at dksX3_sues_0 14 rfl rfl)
theorem dX3_sues_15 : decode cX3_sues 15 = .ok (.iconst 5, 1) := dk_8 (dk_at dksX3_sues_0 15 rfl rfl)
theorem dX3_sues_16 : decode cX3_sues 16 = .ok (.aload_n 0, 1) := dk_42 (dk_at dksX3_sues_0 16 rfl rfl)
theorem dX3_sues_17 : decode cX3_sues 17 = .ok (.getfield 53, 3) := dk_180 0 53 (dk_at dksX3_sues_0 17 rfl rfl)
theorem dX3_sues_20 : decode cX3_sues 20 = .ok (.imul, 1) := dk_104 (dk_at dksX3_sues_0 20 rfl rfl)
theorem dX3_sues_21 : decode cX3_sues 21 = .ok (.istore 6, 2) := dk_54 6 (dk_at dksX3_sues_0 21 rfl rfl)
theorem dX3_sues_23 : decode cX3_sues 23 = .ok (.aload_n 0, 1) := dk_42 (dk_at dksX3_sues_0 23 rfl rfl)
theorem dX3_sues_24 : decode cX3_sues 24 = .ok (.getfield 22, 3) := dk_180 0 22 (dk_at dksX3_sues_1 0 rfl rfl)
theorem dX3_sues_27 : decode cX3_sues 27 = .ok (.iload 6, 2) := dk_21 6 (dk_at dksX3_sues_1 3 rfl rfl)
theorem dX3_sues_29 : decode cX3_sues 29 = .ok (.iload_n 2, 1) := dk_28 (dk_at dksX3_sues_1 5 rfl rfl)
theorem dX3_sues_30 : decode cX3_sues 30 = .ok (.iastore, 1) := dk_79 (dk_at dksX3_sues_1 6 rfl rfl)
theorem dX3_sues_31 : decode cX3_sues 31 = .ok (.aload_n 0, 1) := dk_42 (dk_at dksX3_sues_1 7 rfl rfl)
theorem dX3_sues_32 : decode cX3_sues 32 = .ok (.getfield 22, 3) := dk_180 0 22 (dk_at dksX3_sues_1 8 rfl rfl)
theorem dX3_sues_35 : decode cX3_sues 35 = .ok (.iload 6, 2) := dk_21 6 (dk_at dksX3_sues_1 11 rfl rfl)
theorem dX3_sues_37 : decode cX3_sues 37 = .ok (.iconst 1, 1) := dk_4 (dk_at dksX3_sues_1 13 rfl rfl)
theorem dX3_sues_38 : decode cX3_sues 38 = .ok (.iadd, 1) := dk_96 (dk_at dksX3_sues_1 14 rfl rfl)
theorem dX3_sues_39 : decode cX3_sues 39 = .ok (.iload_n 1, 1) := dk_27 (dk_at dksX3_sues_1 15 rfl rfl)
theorem dX3_sues_40 : decode cX3_sues 40 = .ok (.iastore, 1) := dk_79 (dk_at dksX3_sues_1 16 rfl rfl)
theorem dX3_sues_41 : decode cX3_sues 41 = .ok (.aload_n 0, 1) := dk_42 (dk_at dksX3_sues_1 17 rfl rfl)
theorem dX3_sues_42 : decode cX3_sues 42 = .ok (.getfield 22, 3) := dk_180 0 22 (dk_at dksX3_sues_1 18 rfl rfl)
theorem dX3_sues_45 : decode cX3_sues 45 = .ok (.iload 6, 2) := dk_21 6 (dk_at dksX3_sues_1 21 rfl rfl)
theorem dX3_sues_47 : decode cX3_sues 47 = .ok (.iconst 2, 1) := dk_5 (dk_at dksX3_sues_1 23 rfl rfl)
theorem dX3_sues_48 : decode cX3_sues 48 = .ok (.iadd, 1) := dk_96 (dk_at dksX3_sues_2 0 rfl rfl)
theorem dX3_sues_49 : decode cX3_sues 49 = .ok (.iload_n 3, 1) := dk_29 (dk_at dksX3_sues_2 1 rfl rfl)
theorem dX3_sues_50 : decode cX3_sues 50 = .ok (.iastore, 1) := dk_79 (dk_at dksX3_sues_2 2 rfl rfl)
theorem dX3_sues_51 : decode cX3_sues 51 = .ok (.aload_n 0, 1) := dk_42 (dk_at dksX3_sues_2 3 rfl rfl)
theorem dX3_sues_52 : decode cX3_sues 52 = .ok (.getfield 22, 3) := dk_180 0 22 (dk_at dksX3_sues_2 4 rfl rfl)
theorem dX3_sues_55 : decode cX3_sues 55 = .ok (.iload 6, 2) := dk_21 6 (dk_at dksX3_sues_2 7 rfl rfl)
theorem dX3_sues_57 : decode cX3_sues 57 = .ok (.iconst 3, 1) := dk_6 (dk_at dksX3_sues_2 9 rfl rfl)
theorem dX3_sues_58 : decode cX3_sues 58 = .ok (.iadd, 1) := dk_96 (dk_at dksX3_sues_2 10 rfl rfl)
theorem dX3_sues_59 : decode cX3_sues 59 = .ok (.iload 4, 2) := dk_21 4 (dk_at dksX3_sues_2 11 rfl rfl)
theorem dX3_sues_61 : decode cX3_sues 61 = .ok (.iastore, 1) := dk_79 (dk_at dksX3_sues_2 13 rfl rfl)
theorem dX3_sues_62 : decode cX3_sues 62 = .ok (.aload_n 0, 1) := dk_42 (dk_at dksX3_sues_2 14 rfl rfl)
theorem dX3_sues_63 : decode cX3_sues 63 = .ok (.getfield 22, 3) := dk_180 0 22 (dk_at dksX3_sues_2 15 rfl rfl)
theorem dX3_sues_66 : decode cX3_sues 66 = .ok (.iload 6, 2) := dk_21 6 (dk_at dksX3_sues_2 18 rfl rfl)
theorem dX3_sues_68 : decode cX3_sues 68 = .ok (.iconst 4, 1) := dk_7 (dk_at dksX3_sues_2 20 rfl rfl)
theorem dX3_sues_69 : decode cX3_sues 69 = .ok (.iadd, 1) := dk_96 (dk_at dksX3_sues_2 21 rfl rfl)
theorem dX3_sues_70 : decode cX3_sues 70 = .ok (.iload 5, 2) := dk_21 5 (dk_at dksX3_sues_2 22 rfl rfl)
theorem dX3_sues_72 : decode cX3_sues 72 = .ok (.iastore, 1) := dk_79 (dk_at dksX3_sues_3 0 rfl rfl)
theorem dX3_sues_73 : decode cX3_sues 73 = .ok (.aload_n 0, 1) := dk_42 (dk_at dksX3_sues_3 1 rfl rfl)
theorem dX3_sues_74 : decode cX3_sues 74 = .ok (.dup, 1) := dk_89 (dk_at dksX3_sues_3 2 rfl rfl)
theorem dX3_sues_75 : decode cX3_sues 75 = .ok (.getfield 53, 3) := dk_180 0 53 (dk_at dksX3_sues_3 3 rfl rfl)
theorem dX3_sues_78 : decode cX3_sues 78 = .ok (.iconst 1, 1) := dk_4 (dk_at dksX3_sues_3 6 rfl rfl)
theorem dX3_sues_79 : decode cX3_sues 79 = .ok (.iadd, 1) := dk_96 (dk_at dksX3_sues_3 7 rfl rfl)
theorem dX3_sues_80 : decode cX3_sues 80 = .ok (.putfield 53, 3) := dk_181 0 53 (dk_at dksX3_sues_3 8 rfl rfl)
theorem dX3_sues_83 : decode cX3_sues 83 = .ok (.return_, 1) := dk_177 (dk_at dksX3_sues_3 11 rfl rfl)
abbrev cX3_names : ByteArray := prog_11_method_13_code
def yX3_names : MethodName := ⟨RX3, "names", "(LSwallowSurvey$Land;)I"⟩
def dkwX3_names_3 : List UInt8 := [132, 3, 1, 167, 255, 194, 28, 172]
abbrev dktX3_names_3 : List UInt8 := dkwX3_names_3 ++ []
def dkwX3_names_2 : List UInt8 := [46, 2, 159, 0, 6, 167, 0, 13, 132, 2, 1, 42, 43, 21, 5, 182, 0, 166, 132, 4, 1, 167, 255, 211]
abbrev dktX3_names_2 : List UInt8 := dkwX3_names_2 ++ dktX3_names_3
def dkwX3_names_1 : List UInt8 := [21, 4, 43, 180, 0, 163, 162, 0, 42, 16, 10, 29, 104, 21, 4, 96, 54, 5, 42, 180, 0, 37, 21, 5]
abbrev dktX3_names_1 : List UInt8 := dkwX3_names_1 ++ dktX3_names_2
def dkwX3_names_0 : List UInt8 := [42, 180, 0, 37, 2, 184, 0, 43, 3, 61, 3, 62, 29, 43, 180, 0, 160, 162, 0, 60, 3, 54, 4]
abbrev dktX3_names_0 : List UInt8 := dkwX3_names_0 ++ dktX3_names_1
theorem dksX3_names_0 : cX3_names.data.toList.drop 0 = dktX3_names_0 := by decide +kernel
theorem dksX3_names_1 : cX3_names.data.toList.drop 23 = dktX3_names_1 := dk_seg dksX3_names_0 23 rfl rfl
theorem dksX3_names_2 : cX3_names.data.toList.drop 47 = dktX3_names_2 := dk_seg dksX3_names_1 24 rfl rfl
theorem dksX3_names_3 : cX3_names.data.toList.drop 71 = dktX3_names_3 := dk_seg dksX3_names_2 24 rfl rfl
theorem dX3_names_0 : decode cX3_names 0 = .ok (.aload_n 0, 1) := dk_42 (dk_at dksX3_names_0 0 rfl rfl)
theorem dX3_names_1 : decode cX3_names 1 = .ok (.getfield 37, 3) := dk_180 0 37 (dk_at dksX3_names_0 1 rfl rfl)
theorem dX3_names_4 : decode cX3_names 4 = .ok (.iconst (-1), 1) := dk_2 (dk_at dksX3_names_0 4 rfl rfl)
theorem dX3_names_5 : decode cX3_names 5 = .ok (.invokestatic 43, 3) := dk_184 0 43 (dk_at dksX3_names_0 5 rfl rfl)
theorem dX3_names_8 : decode cX3_names 8 = .ok (.iconst 0, 1) := dk_3 (dk_at dksX3_names_0 8 rfl rfl)
theorem dX3_names_9 : decode cX3_names 9 = .ok (.istore_n 2, 1) := dk_61 (dk_at dksX3_names_0 9 rfl rfl)
theorem dX3_names_10 : decode cX3_names 10 = .ok (.iconst 0, 1) := dk_3 (dk_at dksX3_names_0 10 rfl rfl)
theorem dX3_names_11 : decode cX3_names 11 = .ok (.istore_n 3, 1) := dk_62 (dk_at dksX3_names_0 11 rfl rfl)
theorem dX3_names_12 : decode cX3_names 12 = .ok (.iload_n 3, 1) := dk_29 (dk_at dksX3_names_0 12 rfl rfl)
theorem dX3_names_13 : decode cX3_names 13 = .ok (.aload_n 1, 1) := dk_43 (dk_at dksX3_names_0 13 rfl rfl)
theorem dX3_names_14 : decode cX3_names 14 = .ok (.getfield 160, 3) := dk_180 0 160 (dk_at dksX3_names_0 14 rfl rfl)
theorem dX3_names_17 : decode cX3_names 17 = .ok (.if_icmp .ge 60, 3) := dk_162 0 60 (dk_at dksX3_names_0 17 rfl rfl)
theorem dX3_names_20 : decode cX3_names 20 = .ok (.iconst 0, 1) := dk_3 (dk_at dksX3_names_0 20 rfl rfl)
theorem dX3_names_21 : decode cX3_names 21 = .ok (.istore 4, 2) := dk_54 4 (dk_at dksX3_names_0 21 rfl rfl)
theorem dX3_names_23 : decode cX3_names 23 = .ok (.iload 4, 2) := dk_21 4 (dk_at dksX3_names_1 0 rfl rfl)
theorem dX3_names_25 : decode cX3_names 25 = .ok (.aload_n 1, 1) := dk_43 (dk_at dksX3_names_1 2 rfl rfl)
theorem dX3_names_26 : decode cX3_names 26 = .ok (.getfield 163, 3) := dk_180 0 163 (dk_at dksX3_names_1 3 rfl rfl)
theorem dX3_names_29 : decode cX3_names 29 = .ok (.if_icmp .ge 42, 3) := dk_162 0 42 (dk_at dksX3_names_1 6 rfl rfl)
theorem dX3_names_32 : decode cX3_names 32 = .ok (.bipush 10, 2) := dk_16 10 (dk_at dksX3_names_1 9 rfl rfl)
theorem dX3_names_34 : decode cX3_names 34 = .ok (.iload_n 3, 1) := dk_29 (dk_at dksX3_names_1 11 rfl rfl)
theorem dX3_names_35 : decode cX3_names 35 = .ok (.imul, 1) := dk_104 (dk_at dksX3_names_1 12 rfl rfl)
theorem dX3_names_36 : decode cX3_names 36 = .ok (.iload 4, 2) := dk_21 4 (dk_at dksX3_names_1 13 rfl rfl)
theorem dX3_names_38 : decode cX3_names 38 = .ok (.iadd, 1) := dk_96 (dk_at dksX3_names_1 15 rfl rfl)
theorem dX3_names_39 : decode cX3_names 39 = .ok (.istore 5, 2) := dk_54 5 (dk_at dksX3_names_1 16 rfl rfl)
theorem dX3_names_41 : decode cX3_names 41 = .ok (.aload_n 0, 1) := dk_42 (dk_at dksX3_names_1 18 rfl rfl)
theorem dX3_names_42 : decode cX3_names 42 = .ok (.getfield 37, 3) := dk_180 0 37 (dk_at dksX3_names_1 19 rfl rfl)
theorem dX3_names_45 : decode cX3_names 45 = .ok (.iload 5, 2) := dk_21 5 (dk_at dksX3_names_1 22 rfl rfl)
theorem dX3_names_47 : decode cX3_names 47 = .ok (.iaload, 1) := dk_46 (dk_at dksX3_names_2 0 rfl rfl)
theorem dX3_names_48 : decode cX3_names 48 = .ok (.iconst (-1), 1) := dk_2 (dk_at dksX3_names_2 1 rfl rfl)
theorem dX3_names_49 : decode cX3_names 49 = .ok (.if_icmp .eq 6, 3) := dk_159 0 6 (dk_at dksX3_names_2 2 rfl rfl)
theorem dX3_names_52 : decode cX3_names 52 = .ok (.goto 13, 3) := dk_167 0 13 (dk_at dksX3_names_2 5 rfl rfl)
theorem dX3_names_55 : decode cX3_names 55 = .ok (.iinc 2 1, 3) := dk_132 2 1 (dk_at dksX3_names_2 8 rfl rfl)
theorem dX3_names_58 : decode cX3_names 58 = .ok (.aload_n 0, 1) := dk_42 (dk_at dksX3_names_2 11 rfl rfl)
theorem dX3_names_59 : decode cX3_names 59 = .ok (.aload_n 1, 1) := dk_43 (dk_at dksX3_names_2 12 rfl rfl)
theorem dX3_names_60 : decode cX3_names 60 = .ok (.iload 5, 2) := dk_21 5 (dk_at dksX3_names_2 13 rfl rfl)
theorem dX3_names_62 : decode cX3_names 62 = .ok (.invokevirtual 166, 3) := dk_182 0 166 (dk_at dksX3_names_2 15 rfl rfl)
theorem dX3_names_65 : decode cX3_names 65 = .ok (.iinc 4 1, 3) := dk_132 4 1 (dk_at dksX3_names_2 18 rfl rfl)
theorem dX3_names_68 : decode cX3_names 68 = .ok (.goto (-45), 3) := dk_167 255 211 (dk_at dksX3_names_2 21 rfl rfl)
theorem dX3_names_71 : decode cX3_names 71 = .ok (.iinc 3 1, 3) := dk_132 3 1 (dk_at dksX3_names_3 0 rfl rfl)
theorem dX3_names_74 : decode cX3_names 74 = .ok (.goto (-62), 3) := dk_167 255 194 (dk_at dksX3_names_3 3 rfl rfl)
theorem dX3_names_77 : decode cX3_names 77 = .ok (.iload_n 2, 1) := dk_28 (dk_at dksX3_names_3 6 rfl rfl)
theorem dX3_names_78 : decode cX3_names 78 = .ok (.ireturn, 1) := dk_172 (dk_at dksX3_names_3 7 rfl rfl)
abbrev cX3_spreads : ByteArray := prog_11_method_14_code
def yX3_spreads : MethodName := ⟨RX3, "spreads", "(LSwallowSurvey$Land;I)V"⟩
def dkwX3_spreads_6 : List UInt8 := [167, 255, 135, 177]
abbrev dktX3_spreads_6 : List UInt8 := dkwX3_spreads_6 ++ []
def dkwX3_spreads_5 : List UInt8 := [21, 8, 28, 79, 42, 180, 0, 40, 29, 21, 8, 79, 132, 3, 1, 132, 7, 1, 167, 255, 174, 132, 4, 1]
abbrev dktX3_spreads_5 : List UInt8 := dkwX3_spreads_5 ++ dktX3_spreads_6
def dkwX3_spreads_4 : List UInt8 := [182, 0, 169, 153, 0, 36, 42, 180, 0, 37, 21, 8, 46, 2, 159, 0, 6, 167, 0, 22, 42, 180, 0, 37]
abbrev dktX3_spreads_4 : List UInt8 := dkwX3_spreads_4 ++ dktX3_spreads_5
def dkwX3_spreads_3 : List UInt8 := [46, 96, 16, 10, 178, 0, 66, 21, 7, 46, 104, 96, 54, 8, 42, 43, 21, 5, 21, 6, 21, 7]
abbrev dktX3_spreads_3 : List UInt8 := dkwX3_spreads_3 ++ dktX3_spreads_4
def dkwX3_spreads_2 : List UInt8 := [108, 54, 6, 3, 54, 7, 21, 7, 7, 162, 0, 82, 42, 180, 0, 40, 21, 4, 46, 178, 0, 63, 21, 7]
abbrev dktX3_spreads_2 : List UInt8 := dkwX3_spreads_2 ++ dktX3_spreads_3
def dkwX3_spreads_1 : List UInt8 := [162, 0, 121, 42, 180, 0, 40, 21, 4, 46, 16, 10, 112, 54, 5, 42, 180, 0, 40, 21, 4, 46, 16, 10]
abbrev dktX3_spreads_1 : List UInt8 := dkwX3_spreads_1 ++ dktX3_spreads_2
def dkwX3_spreads_0 : List UInt8 := [4, 62, 42, 180, 0, 40, 3, 28, 79, 42, 180, 0, 37, 28, 28, 79, 3, 54, 4, 21, 4, 29]
abbrev dktX3_spreads_0 : List UInt8 := dkwX3_spreads_0 ++ dktX3_spreads_1
theorem dksX3_spreads_0 : cX3_spreads.data.toList.drop 0 = dktX3_spreads_0 := by decide +kernel
theorem dksX3_spreads_1 : cX3_spreads.data.toList.drop 22 = dktX3_spreads_1 := dk_seg dksX3_spreads_0 22 rfl rfl
theorem dksX3_spreads_2 : cX3_spreads.data.toList.drop 46 = dktX3_spreads_2 := dk_seg dksX3_spreads_1 24 rfl rfl
theorem dksX3_spreads_3 : cX3_spreads.data.toList.drop 70 = dktX3_spreads_3 := dk_seg dksX3_spreads_2 24 rfl rfl
theorem dksX3_spreads_4 : cX3_spreads.data.toList.drop 92 = dktX3_spreads_4 := dk_seg dksX3_spreads_3 22 rfl rfl
theorem dksX3_spreads_5 : cX3_spreads.data.toList.drop 116 = dktX3_spreads_5 := dk_seg dksX3_spreads_4 24 rfl rfl
theorem dksX3_spreads_6 : cX3_spreads.data.toList.drop 140 = dktX3_spreads_6 := dk_seg dksX3_spreads_5 24 rfl rfl
theorem dX3_spreads_0 : decode cX3_spreads 0 = .ok (.iconst 1, 1) := dk_4 (dk_at dksX3_spreads_0 0 rfl rfl)
theorem dX3_spreads_1 : decode cX3_spreads 1 = .ok (.istore_n 3, 1) := dk_62 (dk_at dksX3_spreads_0 1 rfl rfl)
theorem dX3_spreads_2 : decode cX3_spreads 2 = .ok (.aload_n 0, 1) := dk_42 (dk_at dksX3_spreads_0 2 rfl rfl)
theorem dX3_spreads_3 : decode cX3_spreads 3 = .ok (.getfield 40, 3) := dk_180 0 40 (dk_at dksX3_spreads_0 3 rfl rfl)
theorem dX3_spreads_6 : decode cX3_spreads 6 = .ok (.iconst 0, 1) := dk_3 (dk_at dksX3_spreads_0 6 rfl rfl)
theorem dX3_spreads_7 : decode cX3_spreads 7 = .ok (.iload_n 2, 1) := dk_28 (dk_at dksX3_spreads_0 7 rfl rfl)
theorem dX3_spreads_8 : decode cX3_spreads 8 = .ok (.iastore, 1) := dk_79 (dk_at dksX3_spreads_0 8 rfl rfl)
theorem dX3_spreads_9 : decode cX3_spreads 9 = .ok (.aload_n 0, 1) := dk_42 (dk_at dksX3_spreads_0 9 rfl rfl)
theorem dX3_spreads_10 : decode cX3_spreads 10 = .ok (.getfield 37, 3) := dk_180 0 37 (dk_at dksX3_spreads_0 10 rfl rfl)
theorem dX3_spreads_13 : decode cX3_spreads 13 = .ok (.iload_n 2, 1) := dk_28 (dk_at dksX3_spreads_0 13 rfl rfl)
theorem dX3_spreads_14 : decode cX3_spreads 14 = .ok (.iload_n 2, 1) := dk_28 (dk_at dksX3_spreads_0 14 rfl rfl)
theorem dX3_spreads_15 : decode cX3_spreads 15 = .ok (.iastore, 1) := dk_79 (dk_at dksX3_spreads_0 15 rfl rfl)
theorem dX3_spreads_16 : decode cX3_spreads 16 = .ok (.iconst 0, 1) := dk_3 (dk_at dksX3_spreads_0 16 rfl rfl)
theorem dX3_spreads_17 : decode cX3_spreads 17 = .ok (.istore 4, 2) := dk_54 4 (dk_at dksX3_spreads_0 17 rfl rfl)
theorem dX3_spreads_19 : decode cX3_spreads 19 = .ok (.iload 4, 2) := dk_21 4 (dk_at dksX3_spreads_0 19 rfl rfl)
theorem dX3_spreads_21 : decode cX3_spreads 21 = .ok (.iload_n 3, 1) := dk_29 (dk_at dksX3_spreads_0 21 rfl rfl)
theorem dX3_spreads_22 : decode cX3_spreads 22 = .ok (.if_icmp .ge 121, 3) := dk_162 0 121 (dk_at dksX3_spreads_1 0 rfl rfl)
theorem dX3_spreads_25 : decode cX3_spreads 25 = .ok (.aload_n 0, 1) := dk_42 (dk_at dksX3_spreads_1 3 rfl rfl)
theorem dX3_spreads_26 : decode cX3_spreads 26 = .ok (.getfield 40, 3) := dk_180 0 40 (dk_at dksX3_spreads_1 4 rfl rfl)
theorem dX3_spreads_29 : decode cX3_spreads 29 = .ok (.iload 4, 2) := dk_21 4 (dk_at dksX3_spreads_1 7 rfl rfl)
theorem dX3_spreads_31 : decode cX3_spreads 31 = .ok (.iaload, 1) := dk_46 (dk_at dksX3_spreads_1 9 rfl rfl)
theorem dX3_spreads_32 : decode cX3_spreads 32 = .ok (.bipush 10, 2) := dk_16 10 (dk_at dksX3_spreads_1 10 rfl rfl)
theorem dX3_spreads_34 : decode cX3_spreads 34 = .ok (.irem, 1) := dk_112 (dk_at dksX3_spreads_1 12 rfl rfl)
theorem dX3_spreads_35 : decode cX3_spreads 35 = .ok (.istore 5, 2) := dk_54 5 (dk_at dksX3_spreads_1 13 rfl rfl)
theorem dX3_spreads_37 : decode cX3_spreads 37 = .ok (.aload_n 0, 1) := dk_42 (dk_at dksX3_spreads_1 15 rfl rfl)
theorem dX3_spreads_38 : decode cX3_spreads 38 = .ok (.getfield 40, 3) := dk_180 0 40 (dk_at dksX3_spreads_1 16 rfl rfl)
theorem dX3_spreads_41 : decode cX3_spreads 41 = .ok (.iload 4, 2) := dk_21 4 (dk_at dksX3_spreads_1 19 rfl rfl)
theorem dX3_spreads_43 : decode cX3_spreads 43 = .ok (.iaload, 1) := dk_46 (dk_at dksX3_spreads_1 21 rfl rfl)
theorem dX3_spreads_44 : decode cX3_spreads 44 = .ok (.bipush 10, 2) := dk_16 10 (dk_at dksX3_spreads_1 22 rfl rfl)
theorem dX3_spreads_46 : decode cX3_spreads 46 = .ok (.idiv, 1) := dk_108 (dk_at dksX3_spreads_2 0 rfl rfl)
theorem dX3_spreads_47 : decode cX3_spreads 47 = .ok (.istore 6, 2) := dk_54 6 (dk_at dksX3_spreads_2 1 rfl rfl)
theorem dX3_spreads_49 : decode cX3_spreads 49 = .ok (.iconst 0, 1) := dk_3 (dk_at dksX3_spreads_2 3 rfl rfl)
theorem dX3_spreads_50 : decode cX3_spreads 50 = .ok (.istore 7, 2) := dk_54 7 (dk_at dksX3_spreads_2 4 rfl rfl)
theorem dX3_spreads_52 : decode cX3_spreads 52 = .ok (.iload 7, 2) := dk_21 7 (dk_at dksX3_spreads_2 6 rfl rfl)
theorem dX3_spreads_54 : decode cX3_spreads 54 = .ok (.iconst 4, 1) := dk_7 (dk_at dksX3_spreads_2 8 rfl rfl)
theorem dX3_spreads_55 : decode cX3_spreads 55 = .ok (.if_icmp .ge 82, 3) := dk_162 0 82 (dk_at dksX3_spreads_2 9 rfl rfl)
theorem dX3_spreads_58 : decode cX3_spreads 58 = .ok (.aload_n 0, 1) := dk_42 (dk_at dksX3_spreads_2 12 rfl rfl)
theorem dX3_spreads_59 : decode cX3_spreads 59 = .ok (.getfield 40, 3) := dk_180 0 40 (dk_at dksX3_spreads_2 13 rfl rfl)
theorem dX3_spreads_62 : decode cX3_spreads 62 = .ok (.iload 4, 2) := dk_21 4 (dk_at dksX3_spreads_2 16 rfl rfl)
theorem dX3_spreads_64 : decode cX3_spreads 64 = .ok (.iaload, 1) := dk_46 (dk_at dksX3_spreads_2 18 rfl rfl)
theorem dX3_spreads_65 : decode cX3_spreads 65 = .ok (.getstatic 63, 3) := dk_178 0 63 (dk_at dksX3_spreads_2 19 rfl rfl)
theorem dX3_spreads_68 : decode cX3_spreads 68 = .ok (.iload 7, 2) := dk_21 7 (dk_at dksX3_spreads_2 22 rfl rfl)
theorem dX3_spreads_70 : decode cX3_spreads 70 = .ok (.iaload, 1) := dk_46 (dk_at dksX3_spreads_3 0 rfl rfl)
theorem dX3_spreads_71 : decode cX3_spreads 71 = .ok (.iadd, 1) := dk_96 (dk_at dksX3_spreads_3 1 rfl rfl)
theorem dX3_spreads_72 : decode cX3_spreads 72 = .ok (.bipush 10, 2) := dk_16 10 (dk_at dksX3_spreads_3 2 rfl rfl)
theorem dX3_spreads_74 : decode cX3_spreads 74 = .ok (.getstatic 66, 3) := dk_178 0 66 (dk_at dksX3_spreads_3 4 rfl rfl)
theorem dX3_spreads_77 : decode cX3_spreads 77 = .ok (.iload 7, 2) := dk_21 7 (dk_at dksX3_spreads_3 7 rfl rfl)
theorem dX3_spreads_79 : decode cX3_spreads 79 = .ok (.iaload, 1) := dk_46 (dk_at dksX3_spreads_3 9 rfl rfl)
theorem dX3_spreads_80 : decode cX3_spreads 80 = .ok (.imul, 1) := dk_104 (dk_at dksX3_spreads_3 10 rfl rfl)
theorem dX3_spreads_81 : decode cX3_spreads 81 = .ok (.iadd, 1) := dk_96 (dk_at dksX3_spreads_3 11 rfl rfl)
theorem dX3_spreads_82 : decode cX3_spreads 82 = .ok (.istore 8, 2) := dk_54 8 (dk_at dksX3_spreads_3 12 rfl rfl)
theorem dX3_spreads_84 : decode cX3_spreads 84 = .ok (.aload_n 0, 1) := dk_42 (dk_at dksX3_spreads_3 14 rfl rfl)
theorem dX3_spreads_85 : decode cX3_spreads 85 = .ok (.aload_n 1, 1) := dk_43 (dk_at dksX3_spreads_3 15 rfl rfl)
theorem dX3_spreads_86 : decode cX3_spreads 86 = .ok (.iload 5, 2) := dk_21 5 (dk_at dksX3_spreads_3 16 rfl rfl)
theorem dX3_spreads_88 : decode cX3_spreads 88 = .ok (.iload 6, 2) := dk_21 6 (dk_at dksX3_spreads_3 18 rfl rfl)
theorem dX3_spreads_90 : decode cX3_spreads 90 = .ok (.iload 7, 2) := dk_21 7 (dk_at dksX3_spreads_3 20 rfl rfl)
theorem dX3_spreads_92 : decode cX3_spreads 92 = .ok (.invokevirtual 169, 3) := dk_182 0 169 (dk_at dksX3_spreads_4 0 rfl rfl)
theorem dX3_spreads_95 : decode cX3_spreads 95 = .ok (.ifCond .eq 36, 3) := dk_153 0 36 (dk_at dksX3_spreads_4 3 rfl rfl)
theorem dX3_spreads_98 : decode cX3_spreads 98 = .ok (.aload_n 0, 1) := dk_42 (dk_at dksX3_spreads_4 6 rfl rfl)
theorem dX3_spreads_99 : decode cX3_spreads 99 = .ok (.getfield 37, 3) := dk_180 0 37 (dk_at dksX3_spreads_4 7 rfl rfl)
theorem dX3_spreads_102 : decode cX3_spreads 102 = .ok (.iload 8, 2) := dk_21 8 (dk_at dksX3_spreads_4 10 rfl rfl)
theorem dX3_spreads_104 : decode cX3_spreads 104 = .ok (.iaload, 1) := dk_46 (dk_at dksX3_spreads_4 12 rfl rfl)
theorem dX3_spreads_105 : decode cX3_spreads 105 = .ok (.iconst (-1), 1) := dk_2 (dk_at dksX3_spreads_4 13 rfl rfl)
theorem dX3_spreads_106 : decode cX3_spreads 106 = .ok (.if_icmp .eq 6, 3) := dk_159 0 6 (dk_at dksX3_spreads_4 14 rfl rfl)
theorem dX3_spreads_109 : decode cX3_spreads 109 = .ok (.goto 22, 3) := dk_167 0 22 (dk_at dksX3_spreads_4 17 rfl rfl)
theorem dX3_spreads_112 : decode cX3_spreads 112 = .ok (.aload_n 0, 1) := dk_42 (dk_at dksX3_spreads_4 20 rfl rfl)
theorem dX3_spreads_113 : decode cX3_spreads 113 = .ok (.getfield 37, 3) := dk_180 0 37 (dk_at dksX3_spreads_4 21 rfl rfl)
theorem dX3_spreads_116 : decode cX3_spreads 116 = .ok (.iload 8, 2) := dk_21 8 (dk_at dksX3_spreads_5 0 rfl rfl)
theorem dX3_spreads_118 : decode cX3_spreads 118 = .ok (.iload_n 2, 1) := dk_28 (dk_at dksX3_spreads_5 2 rfl rfl)
theorem dX3_spreads_119 : decode cX3_spreads 119 = .ok (.iastore, 1) := dk_79 (dk_at dksX3_spreads_5 3 rfl rfl)
theorem dX3_spreads_120 : decode cX3_spreads 120 = .ok (.aload_n 0, 1) := dk_42 (dk_at dksX3_spreads_5 4 rfl rfl)
theorem dX3_spreads_121 : decode cX3_spreads 121 = .ok (.getfield 40, 3) := dk_180 0 40 (dk_at dksX3_spreads_5 5 rfl rfl)
theorem dX3_spreads_124 : decode cX3_spreads 124 = .ok (.iload_n 3, 1) := dk_29 (dk_at dksX3_spreads_5 8 rfl rfl)
theorem dX3_spreads_125 : decode cX3_spreads 125 = .ok (.iload 8, 2) := dk_21 8 (dk_at dksX3_spreads_5 9 rfl rfl)
theorem dX3_spreads_127 : decode cX3_spreads 127 = .ok (.iastore, 1) := dk_79 (dk_at dksX3_spreads_5 11 rfl rfl)
theorem dX3_spreads_128 : decode cX3_spreads 128 = .ok (.iinc 3 1, 3) := dk_132 3 1 (dk_at dksX3_spreads_5 12 rfl rfl)
theorem dX3_spreads_131 : decode cX3_spreads 131 = .ok (.iinc 7 1, 3) := dk_132 7 1 (dk_at dksX3_spreads_5 15 rfl rfl)
theorem dX3_spreads_134 : decode cX3_spreads 134 = .ok (.goto (-82), 3) := dk_167 255 174 (dk_at dksX3_spreads_5 18 rfl rfl)
theorem dX3_spreads_137 : decode cX3_spreads 137 = .ok (.iinc 4 1, 3) := dk_132 4 1 (dk_at dksX3_spreads_5 21 rfl rfl)
theorem dX3_spreads_140 : decode cX3_spreads 140 = .ok (.goto (-121), 3) := dk_167 255 135 (dk_at dksX3_spreads_6 0 rfl rfl)
theorem dX3_spreads_143 : decode cX3_spreads 143 = .ok (.return_, 1) := dk_177 (dk_at dksX3_spreads_6 3 rfl rfl)
abbrev cX3_isOpen : ByteArray := prog_11_method_12_code
def yX3_isOpen : MethodName := ⟨RX3, "isOpen", "(LSwallowSurvey$Land;III)Z"⟩
def dkwX3_isOpen_3 : List UInt8 := [4, 160, 0, 7, 5, 167, 0, 4, 4, 182, 0, 69, 46, 2, 160, 0, 7, 4, 167, 0, 4, 3, 172]
abbrev dktX3_isOpen_3 : List UInt8 := dkwX3_isOpen_3 ++ []
def dkwX3_isOpen_2 : List UInt8 := [96, 167, 0, 4, 29, 54, 6, 42, 180, 0, 15, 42, 21, 5, 21, 6, 21, 4, 6, 159, 0, 9, 21, 4]
abbrev dktX3_isOpen_2 : List UInt8 := dkwX3_isOpen_2 ++ dktX3_isOpen_3
def dkwX3_isOpen_1 : List UInt8 := [172, 21, 4, 4, 160, 0, 9, 28, 4, 96, 167, 0, 4, 28, 54, 5, 21, 4, 5, 160, 0, 9, 29, 4]
abbrev dktX3_isOpen_1 : List UInt8 := dkwX3_isOpen_1 ++ dktX3_isOpen_2
def dkwX3_isOpen_0 : List UInt8 := [43, 28, 178, 0, 63, 21, 4, 46, 96, 29, 178, 0, 66, 21, 4, 46, 96, 182, 0, 157, 154, 0, 5, 3]
abbrev dktX3_isOpen_0 : List UInt8 := dkwX3_isOpen_0 ++ dktX3_isOpen_1
theorem dksX3_isOpen_0 : cX3_isOpen.data.toList.drop 0 = dktX3_isOpen_0 := by decide +kernel
theorem dksX3_isOpen_1 : cX3_isOpen.data.toList.drop 24 = dktX3_isOpen_1 := dk_seg dksX3_isOpen_0 24 rfl rfl
theorem dksX3_isOpen_2 : cX3_isOpen.data.toList.drop 48 = dktX3_isOpen_2 := dk_seg dksX3_isOpen_1 24 rfl rfl
theorem dksX3_isOpen_3 : cX3_isOpen.data.toList.drop 72 = dktX3_isOpen_3 := dk_seg dksX3_isOpen_2 24 rfl rfl
theorem dX3_isOpen_0 : decode cX3_isOpen 0 = .ok (.aload_n 1, 1) := dk_43 (dk_at dksX3_isOpen_0 0 rfl rfl)
theorem dX3_isOpen_1 : decode cX3_isOpen 1 = .ok (.iload_n 2, 1) := dk_28 (dk_at dksX3_isOpen_0 1 rfl rfl)
theorem dX3_isOpen_2 : decode cX3_isOpen 2 = .ok (.getstatic 63, 3) := dk_178 0 63 (dk_at dksX3_isOpen_0 2 rfl rfl)
theorem dX3_isOpen_5 : decode cX3_isOpen 5 = .ok (.iload 4, 2) := dk_21 4 (dk_at dksX3_isOpen_0 5 rfl rfl)
theorem dX3_isOpen_7 : decode cX3_isOpen 7 = .ok (.iaload, 1) := dk_46 (dk_at dksX3_isOpen_0 7 rfl rfl)
theorem dX3_isOpen_8 : decode cX3_isOpen 8 = .ok (.iadd, 1) := dk_96 (dk_at dksX3_isOpen_0 8 rfl rfl)
theorem dX3_isOpen_9 : decode cX3_isOpen 9 = .ok (.iload_n 3, 1) := dk_29 (dk_at dksX3_isOpen_0 9 rfl rfl)
theorem dX3_isOpen_10 : decode cX3_isOpen 10 = .ok (.getstatic 66, 3) := dk_178 0 66 (dk_at dksX3_isOpen_0 10 rfl rfl)
theorem dX3_isOpen_13 : decode cX3_isOpen 13 = .ok (.iload 4, 2) := dk_21 4 (dk_at dksX3_isOpen_0 13 rfl rfl)
theorem dX3_isOpen_15 : decode cX3_isOpen 15 = .ok (.iaload, 1) := dk_46 (dk_at dksX3_isOpen_0 15 rfl rfl)
theorem dX3_isOpen_16 : decode cX3_isOpen 16 = .ok (.iadd, 1) := dk_96 (dk_at dksX3_isOpen_0 16 rfl rfl)
theorem dX3_isOpen_17 : decode cX3_isOpen 17 = .ok (.invokevirtual 157, 3) := dk_182 0 157 (dk_at dksX3_isOpen_0 17 rfl rfl)
theorem dX3_isOpen_20 : decode cX3_isOpen 20 = .ok (.ifCond .ne 5, 3) := dk_154 0 5 (dk_at dksX3_isOpen_0 20 rfl rfl)
theorem dX3_isOpen_23 : decode cX3_isOpen 23 = .ok (.iconst 0, 1) := dk_3 (dk_at dksX3_isOpen_0 23 rfl rfl)
theorem dX3_isOpen_24 : decode cX3_isOpen 24 = .ok (.ireturn, 1) := dk_172 (dk_at dksX3_isOpen_1 0 rfl rfl)
theorem dX3_isOpen_25 : decode cX3_isOpen 25 = .ok (.iload 4, 2) := dk_21 4 (dk_at dksX3_isOpen_1 1 rfl rfl)
theorem dX3_isOpen_27 : decode cX3_isOpen 27 = .ok (.iconst 1, 1) := dk_4 (dk_at dksX3_isOpen_1 3 rfl rfl)
theorem dX3_isOpen_28 : decode cX3_isOpen 28 = .ok (.if_icmp .ne 9, 3) := dk_160 0 9 (dk_at dksX3_isOpen_1 4 rfl rfl)
theorem dX3_isOpen_31 : decode cX3_isOpen 31 = .ok (.iload_n 2, 1) := dk_28 (dk_at dksX3_isOpen_1 7 rfl rfl)
theorem dX3_isOpen_32 : decode cX3_isOpen 32 = .ok (.iconst 1, 1) := dk_4 (dk_at dksX3_isOpen_1 8 rfl rfl)
theorem dX3_isOpen_33 : decode cX3_isOpen 33 = .ok (.iadd, 1) := dk_96 (dk_at dksX3_isOpen_1 9 rfl rfl)
theorem dX3_isOpen_34 : decode cX3_isOpen 34 = .ok (.goto 4, 3) := dk_167 0 4 (dk_at dksX3_isOpen_1 10 rfl rfl)
theorem dX3_isOpen_37 : decode cX3_isOpen 37 = .ok (.iload_n 2, 1) := dk_28 (dk_at dksX3_isOpen_1 13 rfl rfl)
theorem dX3_isOpen_38 : decode cX3_isOpen 38 = .ok (.istore 5, 2) := dk_54 5 (dk_at dksX3_isOpen_1 14 rfl rfl)
theorem dX3_isOpen_40 : decode cX3_isOpen 40 = .ok (.iload 4, 2) := dk_21 4 (dk_at dksX3_isOpen_1 16 rfl rfl)
theorem dX3_isOpen_42 : decode cX3_isOpen 42 = .ok (.iconst 2, 1) := dk_5 (dk_at dksX3_isOpen_1 18 rfl rfl)
theorem dX3_isOpen_43 : decode cX3_isOpen 43 = .ok (.if_icmp .ne 9, 3) := dk_160 0 9 (dk_at dksX3_isOpen_1 19 rfl rfl)
theorem dX3_isOpen_46 : decode cX3_isOpen 46 = .ok (.iload_n 3, 1) := dk_29 (dk_at dksX3_isOpen_1 22 rfl rfl)
theorem dX3_isOpen_47 : decode cX3_isOpen 47 = .ok (.iconst 1, 1) := dk_4 (dk_at dksX3_isOpen_1 23 rfl rfl)
theorem dX3_isOpen_48 : decode cX3_isOpen 48 = .ok (.iadd, 1) := dk_96 (dk_at dksX3_isOpen_2 0 rfl rfl)
theorem dX3_isOpen_49 : decode cX3_isOpen 49 = .ok (.goto 4, 3) := dk_167 0 4 (dk_at dksX3_isOpen_2 1 rfl rfl)
theorem dX3_isOpen_52 : decode cX3_isOpen 52 = .ok (.iload_n 3, 1) := dk_29 (dk_at dksX3_isOpen_2 4 rfl rfl)
theorem dX3_isOpen_53 : decode cX3_isOpen 53 = .ok (.istore 6, 2) := dk_54 6 (dk_at dksX3_isOpen_2 5 rfl rfl)
theorem dX3_isOpen_55 : decode cX3_isOpen 55 = .ok (.aload_n 0, 1) := dk_42 (dk_at dksX3_isOpen_2 7 rfl rfl)
theorem dX3_isOpen_56 : decode cX3_isOpen 56 = .ok (.getfield 15, 3) := dk_180 0 15 (dk_at dksX3_isOpen_2 8 rfl rfl)
theorem dX3_isOpen_59 : decode cX3_isOpen 59 = .ok (.aload_n 0, 1) := dk_42 (dk_at dksX3_isOpen_2 11 rfl rfl)
theorem dX3_isOpen_60 : decode cX3_isOpen 60 = .ok (.iload 5, 2) := dk_21 5 (dk_at dksX3_isOpen_2 12 rfl rfl)
theorem dX3_isOpen_62 : decode cX3_isOpen 62 = .ok (.iload 6, 2) := dk_21 6 (dk_at dksX3_isOpen_2 14 rfl rfl)
theorem dX3_isOpen_64 : decode cX3_isOpen 64 = .ok (.iload 4, 2) := dk_21 4 (dk_at dksX3_isOpen_2 16 rfl rfl)
theorem dX3_isOpen_66 : decode cX3_isOpen 66 = .ok (.iconst 3, 1) := dk_6 (dk_at dksX3_isOpen_2 18 rfl rfl)
theorem dX3_isOpen_67 : decode cX3_isOpen 67 = .ok (.if_icmp .eq 9, 3) := dk_159 0 9 (dk_at dksX3_isOpen_2 19 rfl rfl)
theorem dX3_isOpen_70 : decode cX3_isOpen 70 = .ok (.iload 4, 2) := dk_21 4 (dk_at dksX3_isOpen_2 22 rfl rfl)
theorem dX3_isOpen_72 : decode cX3_isOpen 72 = .ok (.iconst 1, 1) := dk_4 (dk_at dksX3_isOpen_3 0 rfl rfl)
theorem dX3_isOpen_73 : decode cX3_isOpen 73 = .ok (.if_icmp .ne 7, 3) := dk_160 0 7 (dk_at dksX3_isOpen_3 1 rfl rfl)
theorem dX3_isOpen_76 : decode cX3_isOpen 76 = .ok (.iconst 2, 1) := dk_5 (dk_at dksX3_isOpen_3 4 rfl rfl)
theorem dX3_isOpen_77 : decode cX3_isOpen 77 = .ok (.goto 4, 3) := dk_167 0 4 (dk_at dksX3_isOpen_3 5 rfl rfl)
theorem dX3_isOpen_80 : decode cX3_isOpen 80 = .ok (.iconst 1, 1) := dk_4 (dk_at dksX3_isOpen_3 8 rfl rfl)
theorem dX3_isOpen_81 : decode cX3_isOpen 81 = .ok (.invokevirtual 69, 3) := dk_182 0 69 (dk_at dksX3_isOpen_3 9 rfl rfl)
theorem dX3_isOpen_84 : decode cX3_isOpen 84 = .ok (.iaload, 1) := dk_46 (dk_at dksX3_isOpen_3 12 rfl rfl)
theorem dX3_isOpen_85 : decode cX3_isOpen 85 = .ok (.iconst (-1), 1) := dk_2 (dk_at dksX3_isOpen_3 13 rfl rfl)
theorem dX3_isOpen_86 : decode cX3_isOpen 86 = .ok (.if_icmp .ne 7, 3) := dk_160 0 7 (dk_at dksX3_isOpen_3 14 rfl rfl)
theorem dX3_isOpen_89 : decode cX3_isOpen 89 = .ok (.iconst 1, 1) := dk_4 (dk_at dksX3_isOpen_3 17 rfl rfl)
theorem dX3_isOpen_90 : decode cX3_isOpen 90 = .ok (.goto 4, 3) := dk_167 0 4 (dk_at dksX3_isOpen_3 18 rfl rfl)
theorem dX3_isOpen_93 : decode cX3_isOpen 93 = .ok (.iconst 0, 1) := dk_3 (dk_at dksX3_isOpen_3 21 rfl rfl)
theorem dX3_isOpen_94 : decode cX3_isOpen 94 = .ok (.ireturn, 1) := dk_172 (dk_at dksX3_isOpen_3 22 rfl rfl)
abbrev cX3_areOne : ByteArray := prog_11_method_15_code
def yX3_areOne : MethodName := ⟨RX3, "areOne", "(II)Z"⟩
def dkwX3_areOne_0 : List UInt8 := [42, 180, 0, 37, 27, 46, 42, 180, 0, 37, 28, 46, 160, 0, 7, 4, 167, 0, 4, 3, 172]
abbrev dktX3_areOne_0 : List UInt8 := dkwX3_areOne_0 ++ []
theorem dksX3_areOne_0 : cX3_areOne.data.toList.drop 0 = dktX3_areOne_0 := by decide +kernel
theorem dX3_areOne_0 : decode cX3_areOne 0 = .ok (.aload_n 0, 1) := dk_42 (dk_at dksX3_areOne_0 0 rfl rfl)
theorem dX3_areOne_1 : decode cX3_areOne 1 = .ok (.getfield 37, 3) := dk_180 0 37 (dk_at dksX3_areOne_0 1 rfl rfl)
theorem dX3_areOne_4 : decode cX3_areOne 4 = .ok (.iload_n 1, 1) := dk_27 (dk_at dksX3_areOne_0 4 rfl rfl)
theorem dX3_areOne_5 : decode cX3_areOne 5 = .ok (.iaload, 1) := dk_46 (dk_at dksX3_areOne_0 5 rfl rfl)
theorem dX3_areOne_6 : decode cX3_areOne 6 = .ok (.aload_n 0, 1) := dk_42 (dk_at dksX3_areOne_0 6 rfl rfl)
theorem dX3_areOne_7 : decode cX3_areOne 7 = .ok (.getfield 37, 3) := dk_180 0 37 (dk_at dksX3_areOne_0 7 rfl rfl)
theorem dX3_areOne_10 : decode cX3_areOne 10 = .ok (.iload_n 2, 1) := dk_28 (dk_at dksX3_areOne_0 10 rfl rfl)
theorem dX3_areOne_11 : decode cX3_areOne 11 = .ok (.iaload, 1) := dk_46 (dk_at dksX3_areOne_0 11 rfl rfl)
theorem dX3_areOne_12 : decode cX3_areOne 12 = .ok (.if_icmp .ne 7, 3) := dk_160 0 7 (dk_at dksX3_areOne_0 12 rfl rfl)
theorem dX3_areOne_15 : decode cX3_areOne 15 = .ok (.iconst 1, 1) := dk_4 (dk_at dksX3_areOne_0 15 rfl rfl)
theorem dX3_areOne_16 : decode cX3_areOne 16 = .ok (.goto 4, 3) := dk_167 0 4 (dk_at dksX3_areOne_0 16 rfl rfl)
theorem dX3_areOne_19 : decode cX3_areOne 19 = .ok (.iconst 0, 1) := dk_3 (dk_at dksX3_areOne_0 19 rfl rfl)
theorem dX3_areOne_20 : decode cX3_areOne 20 = .ok (.ireturn, 1) := dk_172 (dk_at dksX3_areOne_0 20 rfl rfl)
abbrev cX3_become : ByteArray := prog_11_method_2_code
def yX3_become : MethodName := ⟨RX3, "become", "(LSwallowSurvey$Web;)V"⟩
def dkwX3_become_1 : List UInt8 := [180, 0, 22, 42, 180, 0, 22, 184, 0, 49, 42, 43, 180, 0, 53, 181, 0, 53, 177]
abbrev dktX3_become_1 : List UInt8 := dkwX3_become_1 ++ []
def dkwX3_become_0 : List UInt8 := [43, 180, 0, 15, 42, 180, 0, 15, 184, 0, 49, 43, 180, 0, 19, 42, 180, 0, 19, 184, 0, 49, 43]
abbrev dktX3_become_0 : List UInt8 := dkwX3_become_0 ++ dktX3_become_1
theorem dksX3_become_0 : cX3_become.data.toList.drop 0 = dktX3_become_0 := by decide +kernel
theorem dksX3_become_1 : cX3_become.data.toList.drop 23 = dktX3_become_1 := dk_seg dksX3_become_0 23 rfl rfl
theorem dX3_become_0 : decode cX3_become 0 = .ok (.aload_n 1, 1) := dk_43 (dk_at dksX3_become_0 0 rfl rfl)
theorem dX3_become_1 : decode cX3_become 1 = .ok (.getfield 15, 3) := dk_180 0 15 (dk_at dksX3_become_0 1 rfl rfl)
theorem dX3_become_4 : decode cX3_become 4 = .ok (.aload_n 0, 1) := dk_42 (dk_at dksX3_become_0 4 rfl rfl)
theorem dX3_become_5 : decode cX3_become 5 = .ok (.getfield 15, 3) := dk_180 0 15 (dk_at dksX3_become_0 5 rfl rfl)
theorem dX3_become_8 : decode cX3_become 8 = .ok (.invokestatic 49, 3) := dk_184 0 49 (dk_at dksX3_become_0 8 rfl rfl)
theorem dX3_become_11 : decode cX3_become 11 = .ok (.aload_n 1, 1) := dk_43 (dk_at dksX3_become_0 11 rfl rfl)
theorem dX3_become_12 : decode cX3_become 12 = .ok (.getfield 19, 3) := dk_180 0 19 (dk_at dksX3_become_0 12 rfl rfl)
theorem dX3_become_15 : decode cX3_become 15 = .ok (.aload_n 0, 1) := dk_42 (dk_at dksX3_become_0 15 rfl rfl)
theorem dX3_become_16 : decode cX3_become 16 = .ok (.getfield 19, 3) := dk_180 0 19 (dk_at dksX3_become_0 16 rfl rfl)
theorem dX3_become_19 : decode cX3_become 19 = .ok (.invokestatic 49, 3) := dk_184 0 49 (dk_at dksX3_become_0 19 rfl rfl)
theorem dX3_become_22 : decode cX3_become 22 = .ok (.aload_n 1, 1) := dk_43 (dk_at dksX3_become_0 22 rfl rfl)
theorem dX3_become_23 : decode cX3_become 23 = .ok (.getfield 22, 3) := dk_180 0 22 (dk_at dksX3_become_1 0 rfl rfl)
theorem dX3_become_26 : decode cX3_become 26 = .ok (.aload_n 0, 1) := dk_42 (dk_at dksX3_become_1 3 rfl rfl)
theorem dX3_become_27 : decode cX3_become 27 = .ok (.getfield 22, 3) := dk_180 0 22 (dk_at dksX3_become_1 4 rfl rfl)
theorem dX3_become_30 : decode cX3_become 30 = .ok (.invokestatic 49, 3) := dk_184 0 49 (dk_at dksX3_become_1 7 rfl rfl)
theorem dX3_become_33 : decode cX3_become 33 = .ok (.aload_n 0, 1) := dk_42 (dk_at dksX3_become_1 10 rfl rfl)
theorem dX3_become_34 : decode cX3_become 34 = .ok (.aload_n 1, 1) := dk_43 (dk_at dksX3_become_1 11 rfl rfl)
theorem dX3_become_35 : decode cX3_become 35 = .ok (.getfield 53, 3) := dk_180 0 53 (dk_at dksX3_become_1 12 rfl rfl)
theorem dX3_become_38 : decode cX3_become 38 = .ok (.putfield 53, 3) := dk_181 0 53 (dk_at dksX3_become_1 15 rfl rfl)
theorem dX3_become_41 : decode cX3_become 41 = .ok (.return_, 1) := dk_177 (dk_at dksX3_become_1 18 rfl rfl)
theorem q86 : (Jvm.Cond.initialized "SwallowSurvey$Web") ∈ lw_all := lw_g (lw_at lw_m1 5 rfl) rfl
theorem q144 : (Jvm.Cond.fieldLink "SwallowSurvey$Web" (113 : Nat) "SwallowSurvey$Text" "word" "[I") ∈ lw_all := lw_g (lw_at lw_m1 63 rfl) rfl
theorem q171 : (Jvm.Cond.fieldLink "SwallowSurvey$Web" (163 : Nat) "SwallowSurvey$Land" "w" "I") ∈ lw_all := lw_g (lw_at lw_m1 90 rfl) rfl
theorem q174 : (Jvm.Cond.fieldLink "SwallowSurvey$Web" (160 : Nat) "SwallowSurvey$Land" "h" "I") ∈ lw_all := lw_g (lw_at lw_m1 93 rfl) rfl
theorem q183 : (Jvm.Cond.fieldLink "SwallowSurvey$Web" (146 : Nat) "SwallowSurvey$Land" "swallows" "I") ∈ lw_all := lw_g (lw_at lw_m1 102 rfl) rfl
theorem q218 : (Jvm.Cond.fieldLink "SwallowSurvey$Web" (132 : Nat) "SwallowSurvey$Land" "mirror" "[Z") ∈ lw_all := lw_g (lw_at lw_m1 137 rfl) rfl
theorem q223 : (Jvm.Cond.fieldLink "SwallowSurvey$Web" (98 : Nat) "SwallowSurvey$Land" "swallow" "[LSwallowSurvey$Swallow;") ∈ lw_all := lw_g (lw_at lw_m1 142 rfl) rfl
theorem q278 : (Jvm.Cond.instantiable "SwallowSurvey$Web" (11 : Nat)) ∈ lw_all := lw_g (lw_at lw_m1 197 rfl) rfl
theorem q280 : (Jvm.Cond.instanceMethod ({ cls := "SwallowSurvey$Web", name := "<init>", desc := "(LSwallowSurvey;)V" } : Jvm.MethodName)) ∈ lw_all := lw_g (lw_at lw_m1 199 rfl) rfl
theorem q281 : (Jvm.Cond.code ({ cls := "SwallowSurvey$Web", name := "<init>", desc := "(LSwallowSurvey;)V" } : Jvm.MethodName) prog_11_method_1_code (2 : Nat) (Option.none : Option Jvm.ClassFile.FieldType)) ∈ lw_all := lw_g (lw_at lw_m1 200 rfl) rfl
theorem q282 : (Jvm.Cond.methodLink "SwallowSurvey$Web" (9 : Nat) ({ cls := "java/lang/Object", name := "<init>", desc := "()V" } : Jvm.MethodName)) ∈ lw_all := lw_g (lw_at lw_m1 201 rfl) rfl
theorem q283 : (Jvm.Cond.methodLink "SwallowSurvey$Web" (43 : Nat) ({ cls := "java/util/Arrays", name := "fill", desc := "([II)V" } : Jvm.MethodName)) ∈ lw_all := lw_g (lw_at lw_m1 202 rfl) rfl
theorem q284 : (Jvm.Cond.fieldLink "SwallowSurvey$Web" (15 : Nat) "SwallowSurvey$Web" "owner" "[I") ∈ lw_all := lw_g (lw_at lw_m1 203 rfl) rfl
theorem q286 : (Jvm.Cond.fieldLink "SwallowSurvey$Web" (19 : Nat) "SwallowSurvey$Web" "step" "[I") ∈ lw_all := lw_g (lw_at lw_m1 205 rfl) rfl
theorem q288 : (Jvm.Cond.fieldLink "SwallowSurvey$Web" (22 : Nat) "SwallowSurvey$Web" "suit" "[I") ∈ lw_all := lw_g (lw_at lw_m1 207 rfl) rfl
theorem q290 : (Jvm.Cond.fieldLink "SwallowSurvey$Web" (25 : Nat) "SwallowSurvey$Web" "endX" "[I") ∈ lw_all := lw_g (lw_at lw_m1 209 rfl) rfl
theorem q292 : (Jvm.Cond.fieldLink "SwallowSurvey$Web" (28 : Nat) "SwallowSurvey$Web" "endY" "[I") ∈ lw_all := lw_g (lw_at lw_m1 211 rfl) rfl
theorem q294 : (Jvm.Cond.fieldLink "SwallowSurvey$Web" (31 : Nat) "SwallowSurvey$Web" "endSteps" "[I") ∈ lw_all := lw_g (lw_at lw_m1 213 rfl) rfl
theorem q296 : (Jvm.Cond.fieldLink "SwallowSurvey$Web" (34 : Nat) "SwallowSurvey$Web" "endHeading" "[I") ∈ lw_all := lw_g (lw_at lw_m1 215 rfl) rfl
theorem q298 : (Jvm.Cond.fieldLink "SwallowSurvey$Web" (37 : Nat) "SwallowSurvey$Web" "name" "[I") ∈ lw_all := lw_g (lw_at lw_m1 217 rfl) rfl
theorem q300 : (Jvm.Cond.fieldLink "SwallowSurvey$Web" (53 : Nat) "SwallowSurvey$Web" "suits" "I") ∈ lw_all := lw_g (lw_at lw_m1 219 rfl) rfl
theorem q302 : (Jvm.Cond.fieldLink "SwallowSurvey$Web" (40 : Nat) "SwallowSurvey$Web" "todo" "[I") ∈ lw_all := lw_g (lw_at lw_m1 221 rfl) rfl
theorem q303 : (Jvm.Cond.fieldLink "SwallowSurvey$Web" (3 : Nat) "SwallowSurvey$Web" "this$0" "LSwallowSurvey;") ∈ lw_all := lw_g (lw_at lw_m1 222 rfl) rfl
theorem q304 : (Jvm.Cond.laysFinal "SwallowSurvey$Web" "SwallowSurvey$Web" "owner" "[I") ∈ lw_all := lw_g (lw_at lw_m1 223 rfl) rfl
theorem q305 : (Jvm.Cond.soleField "SwallowSurvey$Web" "owner") ∈ lw_all := lw_g (lw_at lw_m1 224 rfl) rfl
theorem q306 : (Jvm.Cond.laysFinal "SwallowSurvey$Web" "SwallowSurvey$Web" "step" "[I") ∈ lw_all := lw_g (lw_at lw_m1 225 rfl) rfl
theorem q307 : (Jvm.Cond.soleField "SwallowSurvey$Web" "step") ∈ lw_all := lw_g (lw_at lw_m1 226 rfl) rfl
theorem q308 : (Jvm.Cond.laysFinal "SwallowSurvey$Web" "SwallowSurvey$Web" "suit" "[I") ∈ lw_all := lw_g (lw_at lw_m1 227 rfl) rfl
theorem q309 : (Jvm.Cond.soleField "SwallowSurvey$Web" "suit") ∈ lw_all := lw_g (lw_at lw_m1 228 rfl) rfl
theorem q310 : (Jvm.Cond.laysFinal "SwallowSurvey$Web" "SwallowSurvey$Web" "endX" "[I") ∈ lw_all := lw_g (lw_at lw_m1 229 rfl) rfl
theorem q311 : (Jvm.Cond.soleField "SwallowSurvey$Web" "endX") ∈ lw_all := lw_g (lw_at lw_m1 230 rfl) rfl
theorem q312 : (Jvm.Cond.laysFinal "SwallowSurvey$Web" "SwallowSurvey$Web" "endY" "[I") ∈ lw_all := lw_g (lw_at lw_m1 231 rfl) rfl
theorem q313 : (Jvm.Cond.soleField "SwallowSurvey$Web" "endY") ∈ lw_all := lw_g (lw_at lw_m1 232 rfl) rfl
theorem q314 : (Jvm.Cond.laysFinal "SwallowSurvey$Web" "SwallowSurvey$Web" "endSteps" "[I") ∈ lw_all := lw_g (lw_at lw_m1 233 rfl) rfl
theorem q315 : (Jvm.Cond.soleField "SwallowSurvey$Web" "endSteps") ∈ lw_all := lw_g (lw_at lw_m1 234 rfl) rfl
theorem q316 : (Jvm.Cond.laysFinal "SwallowSurvey$Web" "SwallowSurvey$Web" "endHeading" "[I") ∈ lw_all := lw_g (lw_at lw_m1 235 rfl) rfl
theorem q317 : (Jvm.Cond.soleField "SwallowSurvey$Web" "endHeading") ∈ lw_all := lw_g (lw_at lw_m1 236 rfl) rfl
theorem q318 : (Jvm.Cond.laysFinal "SwallowSurvey$Web" "SwallowSurvey$Web" "name" "[I") ∈ lw_all := lw_g (lw_at lw_m1 237 rfl) rfl
theorem q319 : (Jvm.Cond.soleField "SwallowSurvey$Web" "name") ∈ lw_all := lw_g (lw_at lw_m1 238 rfl) rfl
theorem q320 : (Jvm.Cond.lays "SwallowSurvey$Web" "SwallowSurvey$Web" "suits" "I") ∈ lw_all := lw_g (lw_at lw_m1 239 rfl) rfl
theorem q321 : (Jvm.Cond.soleField "SwallowSurvey$Web" "suits") ∈ lw_all := lw_g (lw_at lw_m2 0 rfl) rfl
theorem q322 : (Jvm.Cond.laysFinal "SwallowSurvey$Web" "SwallowSurvey$Web" "todo" "[I") ∈ lw_all := lw_g (lw_at lw_m2 1 rfl) rfl
theorem q323 : (Jvm.Cond.soleField "SwallowSurvey$Web" "todo") ∈ lw_all := lw_g (lw_at lw_m2 2 rfl) rfl
theorem q324 : (Jvm.Cond.laysFinal "SwallowSurvey$Web" "SwallowSurvey$Web" "this$0" "LSwallowSurvey;") ∈ lw_all := lw_g (lw_at lw_m2 3 rfl) rfl
theorem q325 : (Jvm.Cond.soleField "SwallowSurvey$Web" "this$0") ∈ lw_all := lw_g (lw_at lw_m2 4 rfl) rfl
theorem q326 : (Jvm.Cond.superclass "SwallowSurvey$Web" "java/lang/Object") ∈ lw_all := lw_g (lw_at lw_m2 5 rfl) rfl
theorem q342 : (Jvm.Cond.fieldLinkNest "SwallowSurvey$Web" (94 : Nat) "SwallowSurvey" "habits" "[LSwallowSurvey$Text;" "SwallowSurvey") ∈ lw_tbl := lw_at lw_m2 21 rfl
theorem q347 : (Jvm.Cond.fieldLinkNest "SwallowSurvey$Web" (84 : Nat) "SwallowSurvey" "has" "[I" "SwallowSurvey") ∈ lw_tbl := lw_at lw_m2 26 rfl
theorem q821 : (Jvm.Cond.fieldLink "SwallowSurvey$Web" (116 : Nat) "SwallowSurvey$Swallow" "x" "I") ∈ lw_all := lw_g (lw_at lw_m4 20 rfl) rfl
theorem q823 : (Jvm.Cond.fieldLink "SwallowSurvey$Web" (119 : Nat) "SwallowSurvey$Swallow" "y" "I") ∈ lw_all := lw_g (lw_at lw_m4 22 rfl) rfl
theorem q825 : (Jvm.Cond.fieldLink "SwallowSurvey$Web" (122 : Nat) "SwallowSurvey$Swallow" "heading" "I") ∈ lw_all := lw_g (lw_at lw_m4 24 rfl) rfl
theorem q827 : (Jvm.Cond.fieldLink "SwallowSurvey$Web" (125 : Nat) "SwallowSurvey$Swallow" "length" "I") ∈ lw_all := lw_g (lw_at lw_m4 26 rfl) rfl
theorem q829 : (Jvm.Cond.fieldLink "SwallowSurvey$Web" (102 : Nat) "SwallowSurvey$Swallow" "habit" "I") ∈ lw_all := lw_g (lw_at lw_m4 28 rfl) rfl
theorem q846 : (Jvm.Cond.instanceMethod ({ cls := "SwallowSurvey$Web", name := "surveys", desc := "(LSwallowSurvey$Land;)V" } : Jvm.MethodName)) ∈ lw_all := lw_g (lw_at lw_m4 45 rfl) rfl
theorem q847 : (Jvm.Cond.selects "SwallowSurvey$Web" ({ cls := "SwallowSurvey$Web", name := "surveys", desc := "(LSwallowSurvey$Land;)V" } : Jvm.MethodName) ({ cls := "SwallowSurvey$Web", name := "surveys", desc := "(LSwallowSurvey$Land;)V" } : Jvm.MethodName)) ∈ lw_all := lw_g (lw_at lw_m4 46 rfl) rfl
theorem q848 : (Jvm.Cond.code ({ cls := "SwallowSurvey$Web", name := "surveys", desc := "(LSwallowSurvey$Land;)V" } : Jvm.MethodName) prog_11_method_11_code (3 : Nat) (Option.none : Option Jvm.ClassFile.FieldType)) ∈ lw_all := lw_g (lw_at lw_m4 47 rfl) rfl
theorem q849 : (Jvm.Cond.methodLink "SwallowSurvey$Web" (149 : Nat) ({ cls := "SwallowSurvey$Web", name := "flies", desc := "(LSwallowSurvey$Land;I)V" } : Jvm.MethodName)) ∈ lw_all := lw_g (lw_at lw_m4 48 rfl) rfl
theorem q850 : (Jvm.Cond.privateMethod ({ cls := "SwallowSurvey$Web", name := "flies", desc := "(LSwallowSurvey$Land;I)V" } : Jvm.MethodName)) ∈ lw_tbl := lw_at lw_m4 49 rfl
theorem q851 : (Jvm.Cond.instanceMethod ({ cls := "SwallowSurvey$Web", name := "flies", desc := "(LSwallowSurvey$Land;I)V" } : Jvm.MethodName)) ∈ lw_all := lw_g (lw_at lw_m4 50 rfl) rfl
theorem q852 : (Jvm.Cond.code ({ cls := "SwallowSurvey$Web", name := "flies", desc := "(LSwallowSurvey$Land;I)V" } : Jvm.MethodName) prog_11_method_9_code (11 : Nat) (Option.none : Option Jvm.ClassFile.FieldType)) ∈ lw_all := lw_g (lw_at lw_m4 51 rfl) rfl
theorem q853 : (Jvm.Cond.methodLink "SwallowSurvey$Web" (128 : Nat) ({ cls := "SwallowSurvey$Web", name := "wordFor", desc := "(LSwallowSurvey$Land;IIIIII)I" } : Jvm.MethodName)) ∈ lw_all := lw_g (lw_at lw_m4 52 rfl) rfl
theorem q854 : (Jvm.Cond.privateMethod ({ cls := "SwallowSurvey$Web", name := "wordFor", desc := "(LSwallowSurvey$Land;IIIIII)I" } : Jvm.MethodName)) ∈ lw_tbl := lw_at lw_m4 53 rfl
theorem q855 : (Jvm.Cond.instanceMethod ({ cls := "SwallowSurvey$Web", name := "wordFor", desc := "(LSwallowSurvey$Land;IIIIII)I" } : Jvm.MethodName)) ∈ lw_all := lw_g (lw_at lw_m4 54 rfl) rfl
theorem q856 : (Jvm.Cond.code ({ cls := "SwallowSurvey$Web", name := "wordFor", desc := "(LSwallowSurvey$Land;IIIIII)I" } : Jvm.MethodName) prog_11_method_8_code (15 : Nat) (Option.some Jvm.ClassFile.FieldType.int)) ∈ lw_all := lw_g (lw_at lw_m4 55 rfl) rfl
theorem q857 : (Jvm.Cond.fieldLinkNest "SwallowSurvey$Web" (63 : Nat) "SwallowSurvey" "EAST" "[I" "SwallowSurvey") ∈ lw_tbl := lw_at lw_m4 56 rfl
theorem q859 : (Jvm.Cond.fieldLinkNest "SwallowSurvey$Web" (66 : Nat) "SwallowSurvey" "SOUTH" "[I" "SwallowSurvey") ∈ lw_tbl := lw_at lw_m4 58 rfl
theorem q861 : (Jvm.Cond.methodLink "SwallowSurvey$Web" (57 : Nat) ({ cls := "SwallowSurvey$Land", name := "isPoint", desc := "(II)Z" } : Jvm.MethodName)) ∈ lw_all := lw_g (lw_at lw_m4 60 rfl) rfl
theorem q862 : (Jvm.Cond.methodLink "SwallowSurvey$Web" (77 : Nat) ({ cls := "SwallowSurvey$Web", name := "besideX", desc := "(IIZ)I" } : Jvm.MethodName)) ∈ lw_all := lw_g (lw_at lw_m4 61 rfl) rfl
theorem q863 : (Jvm.Cond.privateMethod ({ cls := "SwallowSurvey$Web", name := "besideX", desc := "(IIZ)I" } : Jvm.MethodName)) ∈ lw_tbl := lw_at lw_m4 62 rfl
theorem q864 : (Jvm.Cond.instanceMethod ({ cls := "SwallowSurvey$Web", name := "besideX", desc := "(IIZ)I" } : Jvm.MethodName)) ∈ lw_all := lw_g (lw_at lw_m4 63 rfl) rfl
theorem q865 : (Jvm.Cond.code ({ cls := "SwallowSurvey$Web", name := "besideX", desc := "(IIZ)I" } : Jvm.MethodName) prog_11_method_6_code (4 : Nat) (Option.some Jvm.ClassFile.FieldType.int)) ∈ lw_all := lw_g (lw_at lw_m4 64 rfl) rfl
theorem q866 : (Jvm.Cond.methodLink "SwallowSurvey$Web" (81 : Nat) ({ cls := "SwallowSurvey$Web", name := "besideY", desc := "(IIZ)I" } : Jvm.MethodName)) ∈ lw_all := lw_g (lw_at lw_m4 65 rfl) rfl
theorem q867 : (Jvm.Cond.privateMethod ({ cls := "SwallowSurvey$Web", name := "besideY", desc := "(IIZ)I" } : Jvm.MethodName)) ∈ lw_tbl := lw_at lw_m4 66 rfl
theorem q868 : (Jvm.Cond.instanceMethod ({ cls := "SwallowSurvey$Web", name := "besideY", desc := "(IIZ)I" } : Jvm.MethodName)) ∈ lw_all := lw_g (lw_at lw_m4 67 rfl) rfl
theorem q869 : (Jvm.Cond.code ({ cls := "SwallowSurvey$Web", name := "besideY", desc := "(IIZ)I" } : Jvm.MethodName) prog_11_method_7_code (4 : Nat) (Option.some Jvm.ClassFile.FieldType.int)) ∈ lw_all := lw_g (lw_at lw_m4 68 rfl) rfl
theorem q870 : (Jvm.Cond.methodLink "SwallowSurvey$Web" (87 : Nat) ({ cls := "SwallowSurvey$Land", name := "seenFlies", desc := "(II)I" } : Jvm.MethodName)) ∈ lw_all := lw_g (lw_at lw_m4 69 rfl) rfl
theorem q881 : (Jvm.Cond.methodLink "SwallowSurvey$Web" (91 : Nat) ({ cls := "SwallowSurvey$Land", name := "hasPond", desc := "(II)Z" } : Jvm.MethodName)) ∈ lw_all := lw_g (lw_at lw_m4 80 rfl) rfl
theorem q882 : (Jvm.Cond.methodLink "SwallowSurvey$Web" (73 : Nat) ({ cls := "SwallowSurvey$Web", name := "ownerAt", desc := "(LSwallowSurvey$Land;III)I" } : Jvm.MethodName)) ∈ lw_all := lw_g (lw_at lw_m4 81 rfl) rfl
theorem q883 : (Jvm.Cond.instanceMethod ({ cls := "SwallowSurvey$Web", name := "ownerAt", desc := "(LSwallowSurvey$Land;III)I" } : Jvm.MethodName)) ∈ lw_all := lw_g (lw_at lw_m4 82 rfl) rfl
theorem q884 : (Jvm.Cond.selects "SwallowSurvey$Web" ({ cls := "SwallowSurvey$Web", name := "ownerAt", desc := "(LSwallowSurvey$Land;III)I" } : Jvm.MethodName) ({ cls := "SwallowSurvey$Web", name := "ownerAt", desc := "(LSwallowSurvey$Land;III)I" } : Jvm.MethodName)) ∈ lw_all := lw_g (lw_at lw_m4 83 rfl) rfl
theorem q885 : (Jvm.Cond.code ({ cls := "SwallowSurvey$Web", name := "ownerAt", desc := "(LSwallowSurvey$Land;III)I" } : Jvm.MethodName) prog_11_method_4_code (5 : Nat) (Option.some Jvm.ClassFile.FieldType.int)) ∈ lw_all := lw_g (lw_at lw_m4 84 rfl) rfl
theorem q886 : (Jvm.Cond.methodLink "SwallowSurvey$Web" (69 : Nat) ({ cls := "SwallowSurvey$Web", name := "yardOf", desc := "(III)I" } : Jvm.MethodName)) ∈ lw_all := lw_g (lw_at lw_m4 85 rfl) rfl
theorem q887 : (Jvm.Cond.instanceMethod ({ cls := "SwallowSurvey$Web", name := "yardOf", desc := "(III)I" } : Jvm.MethodName)) ∈ lw_all := lw_g (lw_at lw_m4 86 rfl) rfl
theorem q888 : (Jvm.Cond.selects "SwallowSurvey$Web" ({ cls := "SwallowSurvey$Web", name := "yardOf", desc := "(III)I" } : Jvm.MethodName) ({ cls := "SwallowSurvey$Web", name := "yardOf", desc := "(III)I" } : Jvm.MethodName)) ∈ lw_all := lw_g (lw_at lw_m4 87 rfl) rfl
theorem q889 : (Jvm.Cond.code ({ cls := "SwallowSurvey$Web", name := "yardOf", desc := "(III)I" } : Jvm.MethodName) prog_11_method_3_code (6 : Nat) (Option.some Jvm.ClassFile.FieldType.int)) ∈ lw_all := lw_g (lw_at lw_m4 88 rfl) rfl
theorem q890 : (Jvm.Cond.methodLink "SwallowSurvey$Web" (107 : Nat) ({ cls := "SwallowSurvey$Text", name := "first", desc := "([I)I" } : Jvm.MethodName)) ∈ lw_all := lw_g (lw_at lw_m4 89 rfl) rfl
theorem q911 : (Jvm.Cond.methodLink "SwallowSurvey$Web" (136 : Nat) ({ cls := "SwallowSurvey$Web", name := "otherAt", desc := "(LSwallowSurvey$Land;III)I" } : Jvm.MethodName)) ∈ lw_all := lw_g (lw_at lw_m4 110 rfl) rfl
theorem q912 : (Jvm.Cond.privateMethod ({ cls := "SwallowSurvey$Web", name := "otherAt", desc := "(LSwallowSurvey$Land;III)I" } : Jvm.MethodName)) ∈ lw_tbl := lw_at lw_m4 111 rfl
theorem q913 : (Jvm.Cond.instanceMethod ({ cls := "SwallowSurvey$Web", name := "otherAt", desc := "(LSwallowSurvey$Land;III)I" } : Jvm.MethodName)) ∈ lw_all := lw_g (lw_at lw_m4 112 rfl) rfl
theorem q914 : (Jvm.Cond.code ({ cls := "SwallowSurvey$Web", name := "otherAt", desc := "(LSwallowSurvey$Land;III)I" } : Jvm.MethodName) prog_11_method_5_code (8 : Nat) (Option.some Jvm.ClassFile.FieldType.int)) ∈ lw_all := lw_g (lw_at lw_m4 113 rfl) rfl
theorem q915 : (Jvm.Cond.methodLink "SwallowSurvey$Web" (139 : Nat) ({ cls := "SwallowSurvey$Web", name := "sues", desc := "(IIIII)V" } : Jvm.MethodName)) ∈ lw_all := lw_g (lw_at lw_m4 114 rfl) rfl
theorem q916 : (Jvm.Cond.privateMethod ({ cls := "SwallowSurvey$Web", name := "sues", desc := "(IIIII)V" } : Jvm.MethodName)) ∈ lw_tbl := lw_at lw_m4 115 rfl
theorem q917 : (Jvm.Cond.instanceMethod ({ cls := "SwallowSurvey$Web", name := "sues", desc := "(IIIII)V" } : Jvm.MethodName)) ∈ lw_all := lw_g (lw_at lw_m4 116 rfl) rfl
theorem q918 : (Jvm.Cond.code ({ cls := "SwallowSurvey$Web", name := "sues", desc := "(IIIII)V" } : Jvm.MethodName) prog_11_method_10_code (7 : Nat) (Option.none : Option Jvm.ClassFile.FieldType)) ∈ lw_all := lw_g (lw_at lw_m4 117 rfl) rfl
theorem q919 : (Jvm.Cond.methodLink "SwallowSurvey$Web" (143 : Nat) ({ cls := "SwallowSurvey$Land", name := "hasCat", desc := "(II)Z" } : Jvm.MethodName)) ∈ lw_all := lw_g (lw_at lw_m4 118 rfl) rfl
theorem q923 : (Jvm.Cond.methodLink "SwallowSurvey$Web" (153 : Nat) ({ cls := "SwallowSurvey$Web", name := "names", desc := "(LSwallowSurvey$Land;)I" } : Jvm.MethodName)) ∈ lw_all := lw_g (lw_at lw_m4 122 rfl) rfl
theorem q924 : (Jvm.Cond.instanceMethod ({ cls := "SwallowSurvey$Web", name := "names", desc := "(LSwallowSurvey$Land;)I" } : Jvm.MethodName)) ∈ lw_all := lw_g (lw_at lw_m4 123 rfl) rfl
theorem q925 : (Jvm.Cond.selects "SwallowSurvey$Web" ({ cls := "SwallowSurvey$Web", name := "names", desc := "(LSwallowSurvey$Land;)I" } : Jvm.MethodName) ({ cls := "SwallowSurvey$Web", name := "names", desc := "(LSwallowSurvey$Land;)I" } : Jvm.MethodName)) ∈ lw_all := lw_g (lw_at lw_m4 124 rfl) rfl
theorem q926 : (Jvm.Cond.code ({ cls := "SwallowSurvey$Web", name := "names", desc := "(LSwallowSurvey$Land;)I" } : Jvm.MethodName) prog_11_method_13_code (6 : Nat) (Option.some Jvm.ClassFile.FieldType.int)) ∈ lw_all := lw_g (lw_at lw_m4 125 rfl) rfl
theorem q927 : (Jvm.Cond.methodLink "SwallowSurvey$Web" (166 : Nat) ({ cls := "SwallowSurvey$Web", name := "spreads", desc := "(LSwallowSurvey$Land;I)V" } : Jvm.MethodName)) ∈ lw_all := lw_g (lw_at lw_m4 126 rfl) rfl
theorem q928 : (Jvm.Cond.privateMethod ({ cls := "SwallowSurvey$Web", name := "spreads", desc := "(LSwallowSurvey$Land;I)V" } : Jvm.MethodName)) ∈ lw_tbl := lw_at lw_m4 127 rfl
theorem q929 : (Jvm.Cond.instanceMethod ({ cls := "SwallowSurvey$Web", name := "spreads", desc := "(LSwallowSurvey$Land;I)V" } : Jvm.MethodName)) ∈ lw_all := lw_g (lw_at lw_m4 128 rfl) rfl
theorem q930 : (Jvm.Cond.code ({ cls := "SwallowSurvey$Web", name := "spreads", desc := "(LSwallowSurvey$Land;I)V" } : Jvm.MethodName) prog_11_method_14_code (9 : Nat) (Option.none : Option Jvm.ClassFile.FieldType)) ∈ lw_all := lw_g (lw_at lw_m4 129 rfl) rfl
theorem q931 : (Jvm.Cond.methodLink "SwallowSurvey$Web" (169 : Nat) ({ cls := "SwallowSurvey$Web", name := "isOpen", desc := "(LSwallowSurvey$Land;III)Z" } : Jvm.MethodName)) ∈ lw_all := lw_g (lw_at lw_m4 130 rfl) rfl
theorem q932 : (Jvm.Cond.instanceMethod ({ cls := "SwallowSurvey$Web", name := "isOpen", desc := "(LSwallowSurvey$Land;III)Z" } : Jvm.MethodName)) ∈ lw_all := lw_g (lw_at lw_m4 131 rfl) rfl
theorem q933 : (Jvm.Cond.selects "SwallowSurvey$Web" ({ cls := "SwallowSurvey$Web", name := "isOpen", desc := "(LSwallowSurvey$Land;III)Z" } : Jvm.MethodName) ({ cls := "SwallowSurvey$Web", name := "isOpen", desc := "(LSwallowSurvey$Land;III)Z" } : Jvm.MethodName)) ∈ lw_all := lw_g (lw_at lw_m4 132 rfl) rfl
theorem q934 : (Jvm.Cond.code ({ cls := "SwallowSurvey$Web", name := "isOpen", desc := "(LSwallowSurvey$Land;III)Z" } : Jvm.MethodName) prog_11_method_12_code (7 : Nat) (Option.some Jvm.ClassFile.FieldType.boolean)) ∈ lw_all := lw_g (lw_at lw_m4 133 rfl) rfl
theorem q935 : (Jvm.Cond.methodLink "SwallowSurvey$Web" (157 : Nat) ({ cls := "SwallowSurvey$Land", name := "isCell", desc := "(II)Z" } : Jvm.MethodName)) ∈ lw_all := lw_g (lw_at lw_m4 134 rfl) rfl
theorem q992 : (Jvm.Cond.instanceMethod ({ cls := "SwallowSurvey$Web", name := "areOne", desc := "(II)Z" } : Jvm.MethodName)) ∈ lw_all := lw_g (lw_at lw_m4 191 rfl) rfl
theorem q993 : (Jvm.Cond.selects "SwallowSurvey$Web" ({ cls := "SwallowSurvey$Web", name := "areOne", desc := "(II)Z" } : Jvm.MethodName) ({ cls := "SwallowSurvey$Web", name := "areOne", desc := "(II)Z" } : Jvm.MethodName)) ∈ lw_all := lw_g (lw_at lw_m4 192 rfl) rfl
theorem q994 : (Jvm.Cond.code ({ cls := "SwallowSurvey$Web", name := "areOne", desc := "(II)Z" } : Jvm.MethodName) prog_11_method_15_code (3 : Nat) (Option.some Jvm.ClassFile.FieldType.boolean)) ∈ lw_all := lw_g (lw_at lw_m4 193 rfl) rfl
theorem q1061 : (Jvm.Cond.instanceMethod ({ cls := "SwallowSurvey$Web", name := "become", desc := "(LSwallowSurvey$Web;)V" } : Jvm.MethodName)) ∈ lw_all := lw_g (lw_at lw_m5 20 rfl) rfl
theorem q1062 : (Jvm.Cond.selects "SwallowSurvey$Web" ({ cls := "SwallowSurvey$Web", name := "become", desc := "(LSwallowSurvey$Web;)V" } : Jvm.MethodName) ({ cls := "SwallowSurvey$Web", name := "become", desc := "(LSwallowSurvey$Web;)V" } : Jvm.MethodName)) ∈ lw_all := lw_g (lw_at lw_m5 21 rfl) rfl
theorem q1063 : (Jvm.Cond.code ({ cls := "SwallowSurvey$Web", name := "become", desc := "(LSwallowSurvey$Web;)V" } : Jvm.MethodName) prog_11_method_2_code (2 : Nat) (Option.none : Option Jvm.ClassFile.FieldType)) ∈ lw_all := lw_g (lw_at lw_m5 22 rfl) rfl
theorem q1064 : (Jvm.Cond.methodLinkNest "SwallowSurvey$Web" (49 : Nat) ({ cls := "SwallowSurvey", name := "copies", desc := "([I[I)V" } : Jvm.MethodName) "SwallowSurvey") ∈ lw_tbl := lw_at lw_m5 23 rfl
theorem in_X3 : ∀ w ∈ wsX30, w ∈ lw_all := lw_in wsX30 [304, 306, 308, 310, 312, 314, 316, 318, 320, 322, 324] (by decide +kernel) (by decide +kernel)
