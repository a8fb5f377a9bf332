/-! SwallowSurveyModel -/
set_option maxRecDepth 100000
def RX4 : String := "SwallowSurveyModel"
def TX4 : u_T := fun k => match k with
  | 0 => ("SwallowSurveyModel", "w", "[I", true)
  | 1 => ("SwallowSurveyModel", "kept", "[I", true)
  | 2 => ("SwallowSurveyModel", "before", "[I", true)
  | 3 => ("SwallowSurveyModel", "back", "[I", true)
  | 4 => ("SwallowSurveyModel", "backMany", "I", false)
  | 5 => ("SwallowSurveyModel", "hasImage", "Z", false)
  | 6 => ("SwallowSurveyModel", "isThought", "Z", false)
  | 7 => ("SwallowSurveyModel", "freshLine", "[I", true)
  | 8 => ("SwallowSurveyModel", "freshStep", "[I", true)
  | 9 => ("SwallowSurveyModel", "tape", "[I", true)
  | 10 => ("SwallowSurveyModel", "pile", "[I", true)
  | 11 => ("SwallowSurveyModel", "facts", "[I", true)
  | 12 => ("SwallowSurveyModel", "lines", "I", false)
  | 13 => ("SwallowSurveyModel", "steps", "I", false)
  | 14 => ("SwallowSurveyModel", "taped", "I", false)
  | 15 => ("SwallowSurveyModel", "at", "I", false)
  | 16 => ("SwallowSurveyModel", "token", "I", false)
  | 17 => ("SwallowSurveyModel", "tokenAt", "I", false)
  | 18 => ("SwallowSurveyModel", "value", "I", false)
  | 19 => ("SwallowSurveyModel", "wrong", "I", false)
  | 20 => ("SwallowSurveyModel", "wrongAt", "I", false)
  | 21 => ("SwallowSurveyModel", "faultKind", "I", false)
  | 22 => ("SwallowSurveyModel", "depth", "I", false)
  | 23 => ("SwallowSurveyModel", "faultPlace", "I", false)
  | 24 => ("SwallowSurveyModel", "endX", "[I", true)
  | 25 => ("SwallowSurveyModel", "endY", "[I", true)
  | 26 => ("SwallowSurveyModel", "endSteps", "[I", true)
  | 27 => ("SwallowSurveyModel", "endHeading", "[I", true)
  | 28 => ("SwallowSurveyModel", "name", "[I", true)
  | 29 => ("SwallowSurveyModel", "queue", "[I", true)
  | 30 => ("SwallowSurveyModel", "counties", "I", false)
  | 31 => ("SwallowSurveyModel", "bestPrice", "I", false)
  | 32 => ("SwallowSurveyModel", "bestMany", "I", false)
  | 33 => ("SwallowSurveyModel", "bestOne", "I", false)
  | 34 => ("SwallowSurveyModel", "bestOther", "I", false)
  | 35 => ("SwallowSurveyModel", "flow", "[I", true)
  | _ => ("SwallowSurveyModel", "cameBy", "[I", true)
def tyX4 : Nat → FieldType := fun k => match k with
  | 0 => .array .int
  | 1 => .array .int
  | 2 => .array .int
  | 3 => .array .int
  | 4 => .int
  | 5 => .boolean
  | 6 => .boolean
  | 7 => .array .int
  | 8 => .array .int
  | 9 => .array .int
  | 10 => .array .int
  | 11 => .array .int
  | 12 => .int
  | 13 => .int
  | 14 => .int
  | 15 => .int
  | 16 => .int
  | 17 => .int
  | 18 => .int
  | 19 => .int
  | 20 => .int
  | 21 => .int
  | 22 => .int
  | 23 => .int
  | 24 => .array .int
  | 25 => .array .int
  | 26 => .array .int
  | 27 => .array .int
  | 28 => .array .int
  | 29 => .array .int
  | 30 => .int
  | 31 => .int
  | 32 => .int
  | 33 => .int
  | 34 => .int
  | 35 => .array .int
  | _ => .array .int
abbrev wsX40 : List Cond := u_ws RX4 TX4 37
set_option maxRecDepth 100000 in
theorem nmX4 : ∀ a, a < 37 → ∀ b, b < 37 → a ≠ b → (TX4 a).2.1 ≠ (TX4 b).2.1 := by decide +kernel
set_option maxRecDepth 100000 in
theorem tyX4_ok : ∀ k, k < 37 → parseFieldDescriptor (TX4 k).2.2.1 = some (tyX4 k) := by decide +kernel
abbrev cX4_init : ByteArray := prog_14_method_1_code
def yX4_init : MethodName := ⟨RX4, "<init>", "()V"⟩
def dkwX4_init_6 : List UInt8 := [181, 0, 59, 42, 16, 100, 188, 10, 181, 0, 62, 42, 16, 6, 16, 6, 182, 0, 65, 177]
abbrev dktX4_init_6 : List UInt8 := dkwX4_init_6 ++ []
def dkwX4_init_5 : List UInt8 := [42, 16, 100, 188, 10, 181, 0, 53, 42, 16, 100, 188, 10, 181, 0, 56, 42, 17, 1, 144, 188, 10]
abbrev dktX4_init_5 : List UInt8 := dkwX4_init_5 ++ dktX4_init_6
def dkwX4_init_4 : List UInt8 := [42, 16, 8, 188, 10, 181, 0, 44, 42, 16, 8, 188, 10, 181, 0, 47, 42, 16, 8, 188, 10, 181, 0, 50]
abbrev dktX4_init_4 : List UInt8 := dkwX4_init_4 ++ dktX4_init_5
def dkwX4_init_3 : List UInt8 := [181, 0, 31, 42, 16, 10, 188, 10, 181, 0, 34, 42, 2, 181, 0, 37, 42, 16, 8, 188, 10, 181, 0, 41]
abbrev dktX4_init_3 : List UInt8 := dkwX4_init_3 ++ dktX4_init_4
def dkwX4_init_2 : List UInt8 := [42, 17, 3, 52, 188, 10, 181, 0, 25, 42, 17, 1, 144, 188, 10, 181, 0, 28, 42, 17, 1, 164, 188, 10]
abbrev dktX4_init_2 : List UInt8 := dkwX4_init_2 ++ dktX4_init_3
def dkwX4_init_1 : List UInt8 := [17, 5, 60, 188, 10, 181, 0, 16, 42, 16, 20, 188, 10, 181, 0, 19, 42, 16, 48, 188, 10, 181, 0, 22]
abbrev dktX4_init_1 : List UInt8 := dkwX4_init_1 ++ dktX4_init_2
def dkwX4_init_0 : List UInt8 := [42, 183, 0, 1, 42, 17, 21, 104, 188, 10, 181, 0, 7, 42, 17, 21, 104, 188, 10, 181, 0, 13, 42]
abbrev dktX4_init_0 : List UInt8 := dkwX4_init_0 ++ dktX4_init_1
theorem dksX4_init_0 : cX4_init.data.toList.drop 0 = dktX4_init_0 := by decide +kernel
theorem dksX4_init_1 : cX4_init.data.toList.drop 23 = dktX4_init_1 := dk_seg dksX4_init_0 23 rfl rfl
theorem dksX4_init_2 : cX4_init.data.toList.drop 47 = dktX4_init_2 := dk_seg dksX4_init_1 24 rfl rfl
theorem dksX4_init_3 : cX4_init.data.toList.drop 71 = dktX4_init_3 := dk_seg dksX4_init_2 24 rfl rfl
theorem dksX4_init_4 : cX4_init.data.toList.drop 95 = dktX4_init_4 := dk_seg dksX4_init_3 24 rfl rfl
theorem dksX4_init_5 : cX4_init.data.toList.drop 119 = dktX4_init_5 := dk_seg dksX4_init_4 24 rfl rfl
theorem dksX4_init_6 : cX4_init.data.toList.drop 141 = dktX4_init_6 := dk_seg dksX4_init_5 22 rfl rfl
theorem dX4_init_0 : decode cX4_init 0 = .ok (.aload_n 0, 1) := dk_42 (dk_at dksX4_init_0 0 rfl rfl)
theorem dX4_init_1 : decode cX4_init 1 = .ok (.invokespecial 1, 3) := dk_183 0 1 (dk_at dksX4_init_0 1 rfl rfl)
theorem dX4_init_4 : decode cX4_init 4 = .ok (.aload_n 0, 1) := dk_42 (dk_at dksX4_init_0 4 rfl rfl)
theorem dX4_init_5 : decode cX4_init 5 = .ok (.sipush 5480, 3) := dk_17 21 104 (dk_at dksX4_init_0 5 rfl rfl)
theorem dX4_init_8 : decode cX4_init 8 = .ok (.newarray .int, 2) := dk_188_10 (dk_at dksX4_init_0 8 rfl rfl)
theorem dX4_init_10 : decode cX4_init 10 = .ok (.putfield 7, 3) := dk_181 0 7 (dk_at dksX4_init_0 10 rfl rfl)
theorem dX4_init_13 : decode cX4_init 13 = .ok (.aload_n 0, 1) := dk_42 (dk_at dksX4_init_0 13 rfl rfl)
theorem dX4_init_14 : decode cX4_init 14 = .ok (.sipush 5480, 3) := dk_17 21 104 (dk_at dksX4_init_0 14 rfl rfl)
theorem dX4_init_17 : decode cX4_init 17 = .ok (.newarray .int, 2) := dk_188_10 (dk_at dksX4_init_0 17 rfl rfl)
theorem dX4_init_19 : decode cX4_init 19 = .ok (.putfield 13, 3) := dk_181 0 13 (dk_at dksX4_init_0 19 rfl rfl)
theorem dX4_init_22 : decode cX4_init 22 = .ok (.aload_n 0, 1) := dk_42 (dk_at dksX4_init_0 22 rfl rfl)
theorem dX4_init_23 : decode cX4_init 23 = .ok (.sipush 1340, 3) := dk_17 5 60 (dk_at dksX4_init_1 0 rfl rfl)
theorem dX4_init_26 : decode cX4_init 26 = .ok (.newarray .int, 2) := dk_188_10 (dk_at dksX4_init_1 3 rfl rfl)
theorem dX4_init_28 : decode cX4_init 28 = .ok (.putfield 16, 3) := dk_181 0 16 (dk_at dksX4_init_1 5 rfl rfl)
theorem dX4_init_31 : decode cX4_init 31 = .ok (.aload_n 0, 1) := dk_42 (dk_at dksX4_init_1 8 rfl rfl)
theorem dX4_init_32 : decode cX4_init 32 = .ok (.bipush 20, 2) := dk_16 20 (dk_at dksX4_init_1 9 rfl rfl)
theorem dX4_init_34 : decode cX4_init 34 = .ok (.newarray .int, 2) := dk_188_10 (dk_at dksX4_init_1 11 rfl rfl)
theorem dX4_init_36 : decode cX4_init 36 = .ok (.putfield 19, 3) := dk_181 0 19 (dk_at dksX4_init_1 13 rfl rfl)
theorem dX4_init_39 : decode cX4_init 39 = .ok (.aload_n 0, 1) := dk_42 (dk_at dksX4_init_1 16 rfl rfl)
theorem dX4_init_40 : decode cX4_init 40 = .ok (.bipush 48, 2) := dk_16 48 (dk_at dksX4_init_1 17 rfl rfl)
theorem dX4_init_42 : decode cX4_init 42 = .ok (.newarray .int, 2) := dk_188_10 (dk_at dksX4_init_1 19 rfl rfl)
theorem dX4_init_44 : decode cX4_init 44 = .ok (.putfield 22, 3) := dk_181 0 22 (dk_at dksX4_init_1 21 rfl rfl)
theorem dX4_init_47 : decode cX4_init 47 = .ok (.aload_n 0, 1) := dk_42 (dk_at dksX4_init_2 0 rfl rfl)
theorem dX4_init_48 : decode cX4_init 48 = .ok (.sipush 820, 3) := dk_17 3 52 (dk_at dksX4_init_2 1 rfl rfl)
theorem dX4_init_51 : decode cX4_init 51 = .ok (.newarray .int, 2) := dk_188_10 (dk_at dksX4_init_2 4 rfl rfl)
theorem dX4_init_53 : decode cX4_init 53 = .ok (.putfield 25, 3) := dk_181 0 25 (dk_at dksX4_init_2 6 rfl rfl)
theorem dX4_init_56 : decode cX4_init 56 = .ok (.aload_n 0, 1) := dk_42 (dk_at dksX4_init_2 9 rfl rfl)
theorem dX4_init_57 : decode cX4_init 57 = .ok (.sipush 400, 3) := dk_17 1 144 (dk_at dksX4_init_2 10 rfl rfl)
theorem dX4_init_60 : decode cX4_init 60 = .ok (.newarray .int, 2) := dk_188_10 (dk_at dksX4_init_2 13 rfl rfl)
theorem dX4_init_62 : decode cX4_init 62 = .ok (.putfield 28, 3) := dk_181 0 28 (dk_at dksX4_init_2 15 rfl rfl)
theorem dX4_init_65 : decode cX4_init 65 = .ok (.aload_n 0, 1) := dk_42 (dk_at dksX4_init_2 18 rfl rfl)
theorem dX4_init_66 : decode cX4_init 66 = .ok (.sipush 420, 3) := dk_17 1 164 (dk_at dksX4_init_2 19 rfl rfl)
theorem dX4_init_69 : decode cX4_init 69 = .ok (.newarray .int, 2) := dk_188_10 (dk_at dksX4_init_2 22 rfl rfl)
theorem dX4_init_71 : decode cX4_init 71 = .ok (.putfield 31, 3) := dk_181 0 31 (dk_at dksX4_init_3 0 rfl rfl)
theorem dX4_init_74 : decode cX4_init 74 = .ok (.aload_n 0, 1) := dk_42 (dk_at dksX4_init_3 3 rfl rfl)
theorem dX4_init_75 : decode cX4_init 75 = .ok (.bipush 10, 2) := dk_16 10 (dk_at dksX4_init_3 4 rfl rfl)
theorem dX4_init_77 : decode cX4_init 77 = .ok (.newarray .int, 2) := dk_188_10 (dk_at dksX4_init_3 6 rfl rfl)
theorem dX4_init_79 : decode cX4_init 79 = .ok (.putfield 34, 3) := dk_181 0 34 (dk_at dksX4_init_3 8 rfl rfl)
theorem dX4_init_82 : decode cX4_init 82 = .ok (.aload_n 0, 1) := dk_42 (dk_at dksX4_init_3 11 rfl rfl)
theorem dX4_init_83 : decode cX4_init 83 = .ok (.iconst (-1), 1) := dk_2 (dk_at dksX4_init_3 12 rfl rfl)
theorem dX4_init_84 : decode cX4_init 84 = .ok (.putfield 37, 3) := dk_181 0 37 (dk_at dksX4_init_3 13 rfl rfl)
theorem dX4_init_87 : decode cX4_init 87 = .ok (.aload_n 0, 1) := dk_42 (dk_at dksX4_init_3 16 rfl rfl)
theorem dX4_init_88 : decode cX4_init 88 = .ok (.bipush 8, 2) := dk_16 8 (dk_at dksX4_init_3 17 rfl rfl)
theorem dX4_init_90 : decode cX4_init 90 = .ok (.newarray .int, 2) := dk_188_10 (dk_at dksX4_init_3 19 rfl rfl)
theorem dX4_init_92 : decode cX4_init 92 = .ok (.putfield 41, 3) := dk_181 0 41 (dk_at dksX4_init_3 21 rfl rfl)
theorem dX4_init_95 : decode cX4_init 95 = .ok (.aload_n 0, 1) := dk_42 (dk_at dksX4_init_4 0 rfl rfl)
theorem dX4_init_96 : decode cX4_init 96 = .ok (.bipush 8, 2) := dk_16 8 (dk_at dksX4_init_4 1 rfl rfl)
theorem dX4_init_98 : decode cX4_init 98 = .ok (.newarray .int, 2) := dk_188_10 (dk_at dksX4_init_4 3 rfl rfl)
theorem dX4_init_100 : decode cX4_init 100 = .ok (.putfield 44, 3) := dk_181 0 44 (dk_at dksX4_init_4 5 rfl rfl)
theorem dX4_init_103 : decode cX4_init 103 = .ok (.aload_n 0, 1) := dk_42 (dk_at dksX4_init_4 8 rfl rfl)
theorem dX4_init_104 : decode cX4_init 104 = .ok (.bipush 8, 2) := dk_16 8 (dk_at dksX4_init_4 9 rfl rfl)
theorem dX4_init_106 : decode cX4_init 106 = .ok (.newarray .int, 2) := dk_188_10 (dk_at dksX4_init_4 11 rfl rfl)
theorem dX4_init_108 : decode cX4_init 108 = .ok (.putfield 47, 3) := dk_181 0 47 (dk_at dksX4_init_4 13 rfl rfl)
theorem dX4_init_111 : decode cX4_init 111 = .ok (.aload_n 0, 1) := dk_42 (dk_at dksX4_init_4 16 rfl rfl)
theorem dX4_init_112 : decode cX4_init 112 = .ok (.bipush 8, 2) := dk_16 8 (dk_at dksX4_init_4 17 rfl rfl)
theorem dX4_init_114 : decode cX4_init 114 = .ok (.newarray .int, 2) := dk_188_10 (dk_at dksX4_init_4 19 rfl rfl)
theorem dX4_init_116 : decode cX4_init 116 = .ok (.putfield 50, 3) := dk_181 0 50 (dk_at dksX4_init_4 21 rfl rfl)
theorem dX4_init_119 : decode cX4_init 119 = .ok (.aload_n 0, 1) := dk_42 (dk_at dksX4_init_5 0 rfl rfl)
theorem dX4_init_120 : decode cX4_init 120 = .ok (.bipush 100, 2) := dk_16 100 (dk_at dksX4_init_5 1 rfl rfl)
theorem dX4_init_122 : decode cX4_init 122 = .ok (.newarray .int, 2) := dk_188_10 (dk_at dksX4_init_5 3 rfl rfl)
theorem dX4_init_124 : decode cX4_init 124 = .ok (.putfield 53, 3) := dk_181 0 53 (dk_at dksX4_init_5 5 rfl rfl)
theorem dX4_init_127 : decode cX4_init 127 = .ok (.aload_n 0, 1) := dk_42 (dk_at dksX4_init_5 8 rfl rfl)
theorem dX4_init_128 : decode cX4_init 128 = .ok (.bipush 100, 2) := dk_16 100 (dk_at dksX4_init_5 9 rfl rfl)
theorem dX4_init_130 : decode cX4_init 130 = .ok (.newarray .int, 2) := dk_188_10 (dk_at dksX4_init_5 11 rfl rfl)
theorem dX4_init_132 : decode cX4_init 132 = .ok (.putfield 56, 3) := dk_181 0 56 (dk_at dksX4_init_5 13 rfl rfl)
theorem dX4_init_135 : decode cX4_init 135 = .ok (.aload_n 0, 1) := dk_42 (dk_at dksX4_init_5 16 rfl rfl)
theorem dX4_init_136 : decode cX4_init 136 = .ok (.sipush 400, 3) := dk_17 1 144 (dk_at dksX4_init_5 17 rfl rfl)
theorem dX4_init_139 : decode cX4_init 139 = .ok (.newarray .int, 2) := dk_188_10 (dk_at dksX4_init_5 20 rfl rfl)
theorem dX4_init_141 : decode cX4_init 141 = .ok (.putfield 59, 3) := dk_181 0 59 (dk_at dksX4_init_6 0 rfl rfl)
theorem dX4_init_144 : decode cX4_init 144 = .ok (.aload_n 0, 1) := dk_42 (dk_at dksX4_init_6 3 rfl rfl)
theorem dX4_init_145 : decode cX4_init 145 = .ok (.bipush 100, 2) := dk_16 100 (dk_at dksX4_init_6 4 rfl rfl)
theorem dX4_init_147 : decode cX4_init 147 = .ok (.newarray .int, 2) := dk_188_10 (dk_at dksX4_init_6 6 rfl rfl)
theorem dX4_init_149 : decode cX4_init 149 = .ok (.putfield 62, 3) := dk_181 0 62 (dk_at dksX4_init_6 8 rfl rfl)
theorem dX4_init_152 : decode cX4_init 152 = .ok (.aload_n 0, 1) := dk_42 (dk_at dksX4_init_6 11 rfl rfl)
theorem dX4_init_153 : decode cX4_init 153 = .ok (.bipush 6, 2) := dk_16 6 (dk_at dksX4_init_6 12 rfl rfl)
theorem dX4_init_155 : decode cX4_init 155 = .ok (.bipush 6, 2) := dk_16 6 (dk_at dksX4_init_6 14 rfl rfl)
theorem dX4_init_157 : decode cX4_init 157 = .ok (.invokevirtual 65, 3) := dk_182 0 65 (dk_at dksX4_init_6 16 rfl rfl)
theorem dX4_init_160 : decode cX4_init 160 = .ok (.return_, 1) := dk_177 (dk_at dksX4_init_6 19 rfl rfl)
abbrev cX4_begins : ByteArray := prog_14_method_2_code
def yX4_begins : MethodName := ⟨RX4, "begins", "(II)V"⟩
def dkwX4_begins_3 : List UInt8 := [21, 4, 96, 4, 79, 132, 4, 1, 167, 255, 234, 42, 182, 0, 69, 42, 3, 181, 0, 72, 177]
abbrev dktX4_begins_3 : List UInt8 := dkwX4_begins_3 ++ []
def dkwX4_begins_2 : List UInt8 := [180, 0, 7, 4, 28, 79, 3, 54, 4, 21, 4, 16, 100, 162, 0, 21, 42, 180, 0, 7, 17, 1, 164]
abbrev dktX4_begins_2 : List UInt8 := dkwX4_begins_2 ++ dktX4_begins_3
def dkwX4_begins_1 : List UInt8 := [3, 79, 132, 4, 1, 167, 255, 237, 42, 180, 0, 7, 5, 29, 79, 42, 180, 0, 7, 3, 27, 79, 42]
abbrev dktX4_begins_1 : List UInt8 := dkwX4_begins_1 ++ dktX4_begins_2
def dkwX4_begins_0 : List UInt8 := [42, 180, 0, 7, 5, 46, 62, 3, 54, 4, 21, 4, 17, 21, 104, 162, 0, 17, 42, 180, 0, 7, 21, 4]
abbrev dktX4_begins_0 : List UInt8 := dkwX4_begins_0 ++ dktX4_begins_1
theorem dksX4_begins_0 : cX4_begins.data.toList.drop 0 = dktX4_begins_0 := by decide +kernel
theorem dksX4_begins_1 : cX4_begins.data.toList.drop 24 = dktX4_begins_1 := dk_seg dksX4_begins_0 24 rfl rfl
theorem dksX4_begins_2 : cX4_begins.data.toList.drop 47 = dktX4_begins_2 := dk_seg dksX4_begins_1 23 rfl rfl
theorem dksX4_begins_3 : cX4_begins.data.toList.drop 70 = dktX4_begins_3 := dk_seg dksX4_begins_2 23 rfl rfl
theorem dX4_begins_0 : decode cX4_begins 0 = .ok (.aload_n 0, 1) := dk_42 (dk_at dksX4_begins_0 0 rfl rfl)
theorem dX4_begins_1 : decode cX4_begins 1 = .ok (.getfield 7, 3) := dk_180 0 7 (dk_at dksX4_begins_0 1 rfl rfl)
theorem dX4_begins_4 : decode cX4_begins 4 = .ok (.iconst 2, 1) := dk_5 (dk_at dksX4_begins_0 4 rfl rfl)
theorem dX4_begins_5 : decode cX4_begins 5 = .ok (.iaload, 1) := dk_46 (dk_at dksX4_begins_0 5 rfl rfl)
theorem dX4_begins_6 : decode cX4_begins 6 = .ok (.istore_n 3, 1) := dk_62 (dk_at dksX4_begins_0 6 rfl rfl)
theorem dX4_begins_7 : decode cX4_begins 7 = .ok (.iconst 0, 1) := dk_3 (dk_at dksX4_begins_0 7 rfl rfl)
theorem dX4_begins_8 : decode cX4_begins 8 = .ok (.istore 4, 2) := dk_54 4 (dk_at dksX4_begins_0 8 rfl rfl)
theorem dX4_begins_10 : decode cX4_begins 10 = .ok (.iload 4, 2) := dk_21 4 (dk_at dksX4_begins_0 10 rfl rfl)
theorem dX4_begins_12 : decode cX4_begins 12 = .ok (.sipush 5480, 3) := dk_17 21 104 (dk_at dksX4_begins_0 12 rfl rfl)
theorem dX4_begins_15 : decode cX4_begins 15 = .ok (.if_icmp .ge 17, 3) := dk_162 0 17 (dk_at dksX4_begins_0 15 rfl rfl)
theorem dX4_begins_18 : decode cX4_begins 18 = .ok (.aload_n 0, 1) := dk_42 (dk_at dksX4_begins_0 18 rfl rfl)
theorem dX4_begins_19 : decode cX4_begins 19 = .ok (.getfield 7, 3) := dk_180 0 7 (dk_at dksX4_begins_0 19 rfl rfl)
theorem dX4_begins_22 : decode cX4_begins 22 = .ok (.iload 4, 2) := dk_21 4 (dk_at dksX4_begins_0 22 rfl rfl)
theorem dX4_begins_24 : decode cX4_begins 24 = .ok (.iconst 0, 1) := dk_3 (dk_at dksX4_begins_1 0 rfl rfl)
theorem dX4_begins_25 : decode cX4_begins 25 = .ok (.iastore, 1) := dk_79 (dk_at dksX4_begins_1 1 rfl rfl)
theorem dX4_begins_26 : decode cX4_begins 26 = .ok (.iinc 4 1, 3) := dk_132 4 1 (dk_at dksX4_begins_1 2 rfl rfl)
theorem dX4_begins_29 : decode cX4_begins 29 = .ok (.goto (-19), 3) := dk_167 255 237 (dk_at dksX4_begins_1 5 rfl rfl)
theorem dX4_begins_32 : decode cX4_begins 32 = .ok (.aload_n 0, 1) := dk_42 (dk_at dksX4_begins_1 8 rfl rfl)
theorem dX4_begins_33 : decode cX4_begins 33 = .ok (.getfield 7, 3) := dk_180 0 7 (dk_at dksX4_begins_1 9 rfl rfl)
theorem dX4_begins_36 : decode cX4_begins 36 = .ok (.iconst 2, 1) := dk_5 (dk_at dksX4_begins_1 12 rfl rfl)
theorem dX4_begins_37 : decode cX4_begins 37 = .ok (.iload_n 3, 1) := dk_29 (dk_at dksX4_begins_1 13 rfl rfl)
theorem dX4_begins_38 : decode cX4_begins 38 = .ok (.iastore, 1) := dk_79 (dk_at dksX4_begins_1 14 rfl rfl)
theorem dX4_begins_39 : decode cX4_begins 39 = .ok (.aload_n 0, 1) := dk_42 (dk_at dksX4_begins_1 15 rfl rfl)
theorem dX4_begins_40 : decode cX4_begins 40 = .ok (.getfield 7, 3) := dk_180 0 7 (dk_at dksX4_begins_1 16 rfl rfl)
theorem dX4_begins_43 : decode cX4_begins 43 = .ok (.iconst 0, 1) := dk_3 (dk_at dksX4_begins_1 19 rfl rfl)
theorem dX4_begins_44 : decode cX4_begins 44 = .ok (.iload_n 1, 1) := dk_27 (dk_at dksX4_begins_1 20 rfl rfl)
theorem dX4_begins_45 : decode cX4_begins 45 = .ok (.iastore, 1) := dk_79 (dk_at dksX4_begins_1 21 rfl rfl)
theorem dX4_begins_46 : decode cX4_begins 46 = .ok (.aload_n 0, 1) := dk_42 (dk_at dksX4_begins_1 22 rfl rfl)
theorem dX4_begins_47 : decode cX4_begins 47 = .ok (.getfield 7, 3) := dk_180 0 7 (dk_at dksX4_begins_2 0 rfl rfl)
theorem dX4_begins_50 : decode cX4_begins 50 = .ok (.iconst 1, 1) := dk_4 (dk_at dksX4_begins_2 3 rfl rfl)
theorem dX4_begins_51 : decode cX4_begins 51 = .ok (.iload_n 2, 1) := dk_28 (dk_at dksX4_begins_2 4 rfl rfl)
theorem dX4_begins_52 : decode cX4_begins 52 = .ok (.iastore, 1) := dk_79 (dk_at dksX4_begins_2 5 rfl rfl)
theorem dX4_begins_53 : decode cX4_begins 53 = .ok (.iconst 0, 1) := dk_3 (dk_at dksX4_begins_2 6 rfl rfl)
theorem dX4_begins_54 : decode cX4_begins 54 = .ok (.istore 4, 2) := dk_54 4 (dk_at dksX4_begins_2 7 rfl rfl)
theorem dX4_begins_56 : decode cX4_begins 56 = .ok (.iload 4, 2) := dk_21 4 (dk_at dksX4_begins_2 9 rfl rfl)
theorem dX4_begins_58 : decode cX4_begins 58 = .ok (.bipush 100, 2) := dk_16 100 (dk_at dksX4_begins_2 11 rfl rfl)
theorem dX4_begins_60 : decode cX4_begins 60 = .ok (.if_icmp .ge 21, 3) := dk_162 0 21 (dk_at dksX4_begins_2 13 rfl rfl)
theorem dX4_begins_63 : decode cX4_begins 63 = .ok (.aload_n 0, 1) := dk_42 (dk_at dksX4_begins_2 16 rfl rfl)
theorem dX4_begins_64 : decode cX4_begins 64 = .ok (.getfield 7, 3) := dk_180 0 7 (dk_at dksX4_begins_2 17 rfl rfl)
theorem dX4_begins_67 : decode cX4_begins 67 = .ok (.sipush 420, 3) := dk_17 1 164 (dk_at dksX4_begins_2 20 rfl rfl)
theorem dX4_begins_70 : decode cX4_begins 70 = .ok (.iload 4, 2) := dk_21 4 (dk_at dksX4_begins_3 0 rfl rfl)
theorem dX4_begins_72 : decode cX4_begins 72 = .ok (.iadd, 1) := dk_96 (dk_at dksX4_begins_3 2 rfl rfl)
theorem dX4_begins_73 : decode cX4_begins 73 = .ok (.iconst 1, 1) := dk_4 (dk_at dksX4_begins_3 3 rfl rfl)
theorem dX4_begins_74 : decode cX4_begins 74 = .ok (.iastore, 1) := dk_79 (dk_at dksX4_begins_3 4 rfl rfl)
theorem dX4_begins_75 : decode cX4_begins 75 = .ok (.iinc 4 1, 3) := dk_132 4 1 (dk_at dksX4_begins_3 5 rfl rfl)
theorem dX4_begins_78 : decode cX4_begins 78 = .ok (.goto (-22), 3) := dk_167 255 234 (dk_at dksX4_begins_3 8 rfl rfl)
theorem dX4_begins_81 : decode cX4_begins 81 = .ok (.aload_n 0, 1) := dk_42 (dk_at dksX4_begins_3 11 rfl rfl)
theorem dX4_begins_82 : decode cX4_begins 82 = .ok (.invokevirtual 69, 3) := dk_182 0 69 (dk_at dksX4_begins_3 12 rfl rfl)
theorem dX4_begins_85 : decode cX4_begins 85 = .ok (.aload_n 0, 1) := dk_42 (dk_at dksX4_begins_3 15 rfl rfl)
theorem dX4_begins_86 : decode cX4_begins 86 = .ok (.iconst 0, 1) := dk_3 (dk_at dksX4_begins_3 16 rfl rfl)
theorem dX4_begins_87 : decode cX4_begins 87 = .ok (.putfield 72, 3) := dk_181 0 72 (dk_at dksX4_begins_3 17 rfl rfl)
theorem dX4_begins_90 : decode cX4_begins 90 = .ok (.return_, 1) := dk_177 (dk_at dksX4_begins_3 20 rfl rfl)
abbrev cX4_clears : ByteArray := prog_14_method_3_code
def yX4_clears : MethodName := ⟨RX4, "clears", "()V"⟩
def dkwX4_clears_1 : List UInt8 := [17, 4, 68, 27, 96, 2, 79, 132, 1, 1, 167, 255, 224, 42, 180, 0, 7, 16, 6, 3, 79, 177]
abbrev dktX4_clears_1 : List UInt8 := dkwX4_clears_1 ++ []
def dkwX4_clears_0 : List UInt8 := [3, 60, 27, 17, 0, 242, 162, 0, 31, 42, 180, 0, 7, 17, 3, 82, 27, 96, 2, 79, 42, 180, 0, 7]
abbrev dktX4_clears_0 : List UInt8 := dkwX4_clears_0 ++ dktX4_clears_1
theorem dksX4_clears_0 : cX4_clears.data.toList.drop 0 = dktX4_clears_0 := by decide +kernel
theorem dksX4_clears_1 : cX4_clears.data.toList.drop 24 = dktX4_clears_1 := dk_seg dksX4_clears_0 24 rfl rfl
theorem dX4_clears_0 : decode cX4_clears 0 = .ok (.iconst 0, 1) := dk_3 (dk_at dksX4_clears_0 0 rfl rfl)
theorem dX4_clears_1 : decode cX4_clears 1 = .ok (.istore_n 1, 1) := dk_60 (dk_at dksX4_clears_0 1 rfl rfl)
theorem dX4_clears_2 : decode cX4_clears 2 = .ok (.iload_n 1, 1) := dk_27 (dk_at dksX4_clears_0 2 rfl rfl)
theorem dX4_clears_3 : decode cX4_clears 3 = .ok (.sipush 242, 3) := dk_17 0 242 (dk_at dksX4_clears_0 3 rfl rfl)
theorem dX4_clears_6 : decode cX4_clears 6 = .ok (.if_icmp .ge 31, 3) := dk_162 0 31 (dk_at dksX4_clears_0 6 rfl rfl)
theorem dX4_clears_9 : decode cX4_clears 9 = .ok (.aload_n 0, 1) := dk_42 (dk_at dksX4_clears_0 9 rfl rfl)
theorem dX4_clears_10 : decode cX4_clears 10 = .ok (.getfield 7, 3) := dk_180 0 7 (dk_at dksX4_clears_0 10 rfl rfl)
theorem dX4_clears_13 : decode cX4_clears 13 = .ok (.sipush 850, 3) := dk_17 3 82 (dk_at dksX4_clears_0 13 rfl rfl)
theorem dX4_clears_16 : decode cX4_clears 16 = .ok (.iload_n 1, 1) := dk_27 (dk_at dksX4_clears_0 16 rfl rfl)
theorem dX4_clears_17 : decode cX4_clears 17 = .ok (.iadd, 1) := dk_96 (dk_at dksX4_clears_0 17 rfl rfl)
theorem dX4_clears_18 : decode cX4_clears 18 = .ok (.iconst (-1), 1) := dk_2 (dk_at dksX4_clears_0 18 rfl rfl)
theorem dX4_clears_19 : decode cX4_clears 19 = .ok (.iastore, 1) := dk_79 (dk_at dksX4_clears_0 19 rfl rfl)
theorem dX4_clears_20 : decode cX4_clears 20 = .ok (.aload_n 0, 1) := dk_42 (dk_at dksX4_clears_0 20 rfl rfl)
theorem dX4_clears_21 : decode cX4_clears 21 = .ok (.getfield 7, 3) := dk_180 0 7 (dk_at dksX4_clears_0 21 rfl rfl)
theorem dX4_clears_24 : decode cX4_clears 24 = .ok (.sipush 1092, 3) := dk_17 4 68 (dk_at dksX4_clears_1 0 rfl rfl)
theorem dX4_clears_27 : decode cX4_clears 27 = .ok (.iload_n 1, 1) := dk_27 (dk_at dksX4_clears_1 3 rfl rfl)
theorem dX4_clears_28 : decode cX4_clears 28 = .ok (.iadd, 1) := dk_96 (dk_at dksX4_clears_1 4 rfl rfl)
theorem dX4_clears_29 : decode cX4_clears 29 = .ok (.iconst (-1), 1) := dk_2 (dk_at dksX4_clears_1 5 rfl rfl)
theorem dX4_clears_30 : decode cX4_clears 30 = .ok (.iastore, 1) := dk_79 (dk_at dksX4_clears_1 6 rfl rfl)
theorem dX4_clears_31 : decode cX4_clears 31 = .ok (.iinc 1 1, 3) := dk_132 1 1 (dk_at dksX4_clears_1 7 rfl rfl)
theorem dX4_clears_34 : decode cX4_clears 34 = .ok (.goto (-32), 3) := dk_167 255 224 (dk_at dksX4_clears_1 10 rfl rfl)
theorem dX4_clears_37 : decode cX4_clears 37 = .ok (.aload_n 0, 1) := dk_42 (dk_at dksX4_clears_1 13 rfl rfl)
theorem dX4_clears_38 : decode cX4_clears 38 = .ok (.getfield 7, 3) := dk_180 0 7 (dk_at dksX4_clears_1 14 rfl rfl)
theorem dX4_clears_41 : decode cX4_clears 41 = .ok (.bipush 6, 2) := dk_16 6 (dk_at dksX4_clears_1 17 rfl rfl)
theorem dX4_clears_43 : decode cX4_clears 43 = .ok (.iconst 0, 1) := dk_3 (dk_at dksX4_clears_1 19 rfl rfl)
theorem dX4_clears_44 : decode cX4_clears 44 = .ok (.iastore, 1) := dk_79 (dk_at dksX4_clears_1 20 rfl rfl)
theorem dX4_clears_45 : decode cX4_clears 45 = .ok (.return_, 1) := dk_177 (dk_at dksX4_clears_1 21 rfl rfl)
abbrev cX4_state : ByteArray := prog_14_method_8_code
def yX4_state : MethodName := ⟨RX4, "state", "(I)I"⟩
def dkwX4_state_0 : List UInt8 := [42, 180, 0, 7, 5, 46, 61, 42, 180, 0, 7, 5, 27, 79, 28, 172]
abbrev dktX4_state_0 : List UInt8 := dkwX4_state_0 ++ []
theorem dksX4_state_0 : cX4_state.data.toList.drop 0 = dktX4_state_0 := by decide +kernel
theorem dX4_state_0 : decode cX4_state 0 = .ok (.aload_n 0, 1) := dk_42 (dk_at dksX4_state_0 0 rfl rfl)
theorem dX4_state_1 : decode cX4_state 1 = .ok (.getfield 7, 3) := dk_180 0 7 (dk_at dksX4_state_0 1 rfl rfl)
theorem dX4_state_4 : decode cX4_state 4 = .ok (.iconst 2, 1) := dk_5 (dk_at dksX4_state_0 4 rfl rfl)
theorem dX4_state_5 : decode cX4_state 5 = .ok (.iaload, 1) := dk_46 (dk_at dksX4_state_0 5 rfl rfl)
theorem dX4_state_6 : decode cX4_state 6 = .ok (.istore_n 2, 1) := dk_61 (dk_at dksX4_state_0 6 rfl rfl)
theorem dX4_state_7 : decode cX4_state 7 = .ok (.aload_n 0, 1) := dk_42 (dk_at dksX4_state_0 7 rfl rfl)
theorem dX4_state_8 : decode cX4_state 8 = .ok (.getfield 7, 3) := dk_180 0 7 (dk_at dksX4_state_0 8 rfl rfl)
theorem dX4_state_11 : decode cX4_state 11 = .ok (.iconst 2, 1) := dk_5 (dk_at dksX4_state_0 11 rfl rfl)
theorem dX4_state_12 : decode cX4_state 12 = .ok (.iload_n 1, 1) := dk_27 (dk_at dksX4_state_0 12 rfl rfl)
theorem dX4_state_13 : decode cX4_state 13 = .ok (.iastore, 1) := dk_79 (dk_at dksX4_state_0 13 rfl rfl)
theorem dX4_state_14 : decode cX4_state 14 = .ok (.iload_n 2, 1) := dk_28 (dk_at dksX4_state_0 14 rfl rfl)
theorem dX4_state_15 : decode cX4_state 15 = .ok (.ireturn, 1) := dk_172 (dk_at dksX4_state_0 15 rfl rfl)
abbrev cX4_land : ByteArray := prog_14_method_10_code
def yX4_land : MethodName := ⟨RX4, "land", "(II)Z"⟩
def dkwX4_land_1 : List UInt8 := [28, 182, 0, 65, 4, 172]
abbrev dktX4_land_1 : List UInt8 := dkwX4_land_1 ++ []
def dkwX4_land_0 : List UInt8 := [27, 5, 16, 10, 184, 0, 75, 153, 0, 13, 28, 5, 16, 10, 184, 0, 75, 154, 0, 5, 3, 172, 42, 27]
abbrev dktX4_land_0 : List UInt8 := dkwX4_land_0 ++ dktX4_land_1
theorem dksX4_land_0 : cX4_land.data.toList.drop 0 = dktX4_land_0 := by decide +kernel
theorem dksX4_land_1 : cX4_land.data.toList.drop 24 = dktX4_land_1 := dk_seg dksX4_land_0 24 rfl rfl
theorem dX4_land_0 : decode cX4_land 0 = .ok (.iload_n 1, 1) := dk_27 (dk_at dksX4_land_0 0 rfl rfl)
theorem dX4_land_1 : decode cX4_land 1 = .ok (.iconst 2, 1) := dk_5 (dk_at dksX4_land_0 1 rfl rfl)
theorem dX4_land_2 : decode cX4_land 2 = .ok (.bipush 10, 2) := dk_16 10 (dk_at dksX4_land_0 2 rfl rfl)
theorem dX4_land_4 : decode cX4_land 4 = .ok (.invokestatic 75, 3) := dk_184 0 75 (dk_at dksX4_land_0 4 rfl rfl)
theorem dX4_land_7 : decode cX4_land 7 = .ok (.ifCond .eq 13, 3) := dk_153 0 13 (dk_at dksX4_land_0 7 rfl rfl)
theorem dX4_land_10 : decode cX4_land 10 = .ok (.iload_n 2, 1) := dk_28 (dk_at dksX4_land_0 10 rfl rfl)
theorem dX4_land_11 : decode cX4_land 11 = .ok (.iconst 2, 1) := dk_5 (dk_at dksX4_land_0 11 rfl rfl)
theorem dX4_land_12 : decode cX4_land 12 = .ok (.bipush 10, 2) := dk_16 10 (dk_at dksX4_land_0 12 rfl rfl)
theorem dX4_land_14 : decode cX4_land 14 = .ok (.invokestatic 75, 3) := dk_184 0 75 (dk_at dksX4_land_0 14 rfl rfl)
theorem dX4_land_17 : decode cX4_land 17 = .ok (.ifCond .ne 5, 3) := dk_154 0 5 (dk_at dksX4_land_0 17 rfl rfl)
theorem dX4_land_20 : decode cX4_land 20 = .ok (.iconst 0, 1) := dk_3 (dk_at dksX4_land_0 20 rfl rfl)
theorem dX4_land_21 : decode cX4_land 21 = .ok (.ireturn, 1) := dk_172 (dk_at dksX4_land_0 21 rfl rfl)
theorem dX4_land_22 : decode cX4_land 22 = .ok (.aload_n 0, 1) := dk_42 (dk_at dksX4_land_0 22 rfl rfl)
theorem dX4_land_23 : decode cX4_land 23 = .ok (.iload_n 1, 1) := dk_27 (dk_at dksX4_land_0 23 rfl rfl)
theorem dX4_land_24 : decode cX4_land 24 = .ok (.iload_n 2, 1) := dk_28 (dk_at dksX4_land_1 0 rfl rfl)
theorem dX4_land_25 : decode cX4_land 25 = .ok (.invokevirtual 65, 3) := dk_182 0 65 (dk_at dksX4_land_1 1 rfl rfl)
theorem dX4_land_28 : decode cX4_land 28 = .ok (.iconst 1, 1) := dk_4 (dk_at dksX4_land_1 4 rfl rfl)
theorem dX4_land_29 : decode cX4_land 29 = .ok (.ireturn, 1) := dk_172 (dk_at dksX4_land_1 5 rfl rfl)
abbrev cX4_isIn : ByteArray := prog_14_method_4_code
def yX4_isIn : MethodName := ⟨RX4, "isIn", "(III)Z"⟩
def dkwX4_isIn_0 : List UInt8 := [26, 27, 161, 0, 12, 26, 28, 163, 0, 7, 4, 167, 0, 4, 3, 172]
abbrev dktX4_isIn_0 : List UInt8 := dkwX4_isIn_0 ++ []
theorem dksX4_isIn_0 : cX4_isIn.data.toList.drop 0 = dktX4_isIn_0 := by decide +kernel
theorem dX4_isIn_0 : decode cX4_isIn 0 = .ok (.iload_n 0, 1) := dk_26 (dk_at dksX4_isIn_0 0 rfl rfl)
theorem dX4_isIn_1 : decode cX4_isIn 1 = .ok (.iload_n 1, 1) := dk_27 (dk_at dksX4_isIn_0 1 rfl rfl)
theorem dX4_isIn_2 : decode cX4_isIn 2 = .ok (.if_icmp .lt 12, 3) := dk_161 0 12 (dk_at dksX4_isIn_0 2 rfl rfl)
theorem dX4_isIn_5 : decode cX4_isIn 5 = .ok (.iload_n 0, 1) := dk_26 (dk_at dksX4_isIn_0 5 rfl rfl)
theorem dX4_isIn_6 : decode cX4_isIn 6 = .ok (.iload_n 2, 1) := dk_28 (dk_at dksX4_isIn_0 6 rfl rfl)
theorem dX4_isIn_7 : decode cX4_isIn 7 = .ok (.if_icmp .gt 7, 3) := dk_163 0 7 (dk_at dksX4_isIn_0 7 rfl rfl)
theorem dX4_isIn_10 : decode cX4_isIn 10 = .ok (.iconst 1, 1) := dk_4 (dk_at dksX4_isIn_0 10 rfl rfl)
theorem dX4_isIn_11 : decode cX4_isIn 11 = .ok (.goto 4, 3) := dk_167 0 4 (dk_at dksX4_isIn_0 11 rfl rfl)
theorem dX4_isIn_14 : decode cX4_isIn 14 = .ok (.iconst 0, 1) := dk_3 (dk_at dksX4_isIn_0 14 rfl rfl)
theorem dX4_isIn_15 : decode cX4_isIn 15 = .ok (.ireturn, 1) := dk_172 (dk_at dksX4_isIn_0 15 rfl rfl)
abbrev cX4_tell : ByteArray := prog_14_method_11_code
def yX4_tell : MethodName := ⟨RX4, "tell", "(III)Z"⟩
def dkwX4_tell_2 : List UInt8 := [167, 0, 17, 28, 4, 160, 0, 9, 17, 1, 164, 167, 0, 6, 17, 1, 64, 27, 96, 29, 79, 4, 172]
abbrev dktX4_tell_2 : List UInt8 := dkwX4_tell_2 ++ []
def dkwX4_tell_1 : List UInt8 := [4, 167, 0, 5, 16, 99, 184, 0, 75, 154, 0, 5, 3, 172, 42, 180, 0, 7, 28, 154, 0, 8, 16, 20]
abbrev dktX4_tell_1 : List UInt8 := dkwX4_tell_1 ++ dktX4_tell_2
def dkwX4_tell_0 : List UInt8 := [42, 27, 182, 0, 85, 153, 0, 31, 28, 3, 5, 184, 0, 75, 153, 0, 22, 29, 3, 28, 5, 160, 0, 7]
abbrev dktX4_tell_0 : List UInt8 := dkwX4_tell_0 ++ dktX4_tell_1
theorem dksX4_tell_0 : cX4_tell.data.toList.drop 0 = dktX4_tell_0 := by decide +kernel
theorem dksX4_tell_1 : cX4_tell.data.toList.drop 24 = dktX4_tell_1 := dk_seg dksX4_tell_0 24 rfl rfl
theorem dksX4_tell_2 : cX4_tell.data.toList.drop 48 = dktX4_tell_2 := dk_seg dksX4_tell_1 24 rfl rfl
theorem dX4_tell_0 : decode cX4_tell 0 = .ok (.aload_n 0, 1) := dk_42 (dk_at dksX4_tell_0 0 rfl rfl)
theorem dX4_tell_1 : decode cX4_tell 1 = .ok (.iload_n 1, 1) := dk_27 (dk_at dksX4_tell_0 1 rfl rfl)
theorem dX4_tell_2 : decode cX4_tell 2 = .ok (.invokevirtual 85, 3) := dk_182 0 85 (dk_at dksX4_tell_0 2 rfl rfl)
theorem dX4_tell_5 : decode cX4_tell 5 = .ok (.ifCond .eq 31, 3) := dk_153 0 31 (dk_at dksX4_tell_0 5 rfl rfl)
theorem dX4_tell_8 : decode cX4_tell 8 = .ok (.iload_n 2, 1) := dk_28 (dk_at dksX4_tell_0 8 rfl rfl)
theorem dX4_tell_9 : decode cX4_tell 9 = .ok (.iconst 0, 1) := dk_3 (dk_at dksX4_tell_0 9 rfl rfl)
theorem dX4_tell_10 : decode cX4_tell 10 = .ok (.iconst 2, 1) := dk_5 (dk_at dksX4_tell_0 10 rfl rfl)
theorem dX4_tell_11 : decode cX4_tell 11 = .ok (.invokestatic 75, 3) := dk_184 0 75 (dk_at dksX4_tell_0 11 rfl rfl)
theorem dX4_tell_14 : decode cX4_tell 14 = .ok (.ifCond .eq 22, 3) := dk_153 0 22 (dk_at dksX4_tell_0 14 rfl rfl)
theorem dX4_tell_17 : decode cX4_tell 17 = .ok (.iload_n 3, 1) := dk_29 (dk_at dksX4_tell_0 17 rfl rfl)
theorem dX4_tell_18 : decode cX4_tell 18 = .ok (.iconst 0, 1) := dk_3 (dk_at dksX4_tell_0 18 rfl rfl)
theorem dX4_tell_19 : decode cX4_tell 19 = .ok (.iload_n 2, 1) := dk_28 (dk_at dksX4_tell_0 19 rfl rfl)
theorem dX4_tell_20 : decode cX4_tell 20 = .ok (.iconst 2, 1) := dk_5 (dk_at dksX4_tell_0 20 rfl rfl)
theorem dX4_tell_21 : decode cX4_tell 21 = .ok (.if_icmp .ne 7, 3) := dk_160 0 7 (dk_at dksX4_tell_0 21 rfl rfl)
theorem dX4_tell_24 : decode cX4_tell 24 = .ok (.iconst 1, 1) := dk_4 (dk_at dksX4_tell_1 0 rfl rfl)
theorem dX4_tell_25 : decode cX4_tell 25 = .ok (.goto 5, 3) := dk_167 0 5 (dk_at dksX4_tell_1 1 rfl rfl)
theorem dX4_tell_28 : decode cX4_tell 28 = .ok (.bipush 99, 2) := dk_16 99 (dk_at dksX4_tell_1 4 rfl rfl)
theorem dX4_tell_30 : decode cX4_tell 30 = .ok (.invokestatic 75, 3) := dk_184 0 75 (dk_at dksX4_tell_1 6 rfl rfl)
theorem dX4_tell_33 : decode cX4_tell 33 = .ok (.ifCond .ne 5, 3) := dk_154 0 5 (dk_at dksX4_tell_1 9 rfl rfl)
theorem dX4_tell_36 : decode cX4_tell 36 = .ok (.iconst 0, 1) := dk_3 (dk_at dksX4_tell_1 12 rfl rfl)
theorem dX4_tell_37 : decode cX4_tell 37 = .ok (.ireturn, 1) := dk_172 (dk_at dksX4_tell_1 13 rfl rfl)
theorem dX4_tell_38 : decode cX4_tell 38 = .ok (.aload_n 0, 1) := dk_42 (dk_at dksX4_tell_1 14 rfl rfl)
theorem dX4_tell_39 : decode cX4_tell 39 = .ok (.getfield 7, 3) := dk_180 0 7 (dk_at dksX4_tell_1 15 rfl rfl)
theorem dX4_tell_42 : decode cX4_tell 42 = .ok (.iload_n 2, 1) := dk_28 (dk_at dksX4_tell_1 18 rfl rfl)
theorem dX4_tell_43 : decode cX4_tell 43 = .ok (.ifCond .ne 8, 3) := dk_154 0 8 (dk_at dksX4_tell_1 19 rfl rfl)
theorem dX4_tell_46 : decode cX4_tell 46 = .ok (.bipush 20, 2) := dk_16 20 (dk_at dksX4_tell_1 22 rfl rfl)
theorem dX4_tell_48 : decode cX4_tell 48 = .ok (.goto 17, 3) := dk_167 0 17 (dk_at dksX4_tell_2 0 rfl rfl)
theorem dX4_tell_51 : decode cX4_tell 51 = .ok (.iload_n 2, 1) := dk_28 (dk_at dksX4_tell_2 3 rfl rfl)
theorem dX4_tell_52 : decode cX4_tell 52 = .ok (.iconst 1, 1) := dk_4 (dk_at dksX4_tell_2 4 rfl rfl)
theorem dX4_tell_53 : decode cX4_tell 53 = .ok (.if_icmp .ne 9, 3) := dk_160 0 9 (dk_at dksX4_tell_2 5 rfl rfl)
theorem dX4_tell_56 : decode cX4_tell 56 = .ok (.sipush 420, 3) := dk_17 1 164 (dk_at dksX4_tell_2 8 rfl rfl)
theorem dX4_tell_59 : decode cX4_tell 59 = .ok (.goto 6, 3) := dk_167 0 6 (dk_at dksX4_tell_2 11 rfl rfl)
theorem dX4_tell_62 : decode cX4_tell 62 = .ok (.sipush 320, 3) := dk_17 1 64 (dk_at dksX4_tell_2 14 rfl rfl)
theorem dX4_tell_65 : decode cX4_tell 65 = .ok (.iload_n 1, 1) := dk_27 (dk_at dksX4_tell_2 17 rfl rfl)
theorem dX4_tell_66 : decode cX4_tell 66 = .ok (.iadd, 1) := dk_96 (dk_at dksX4_tell_2 18 rfl rfl)
theorem dX4_tell_67 : decode cX4_tell 67 = .ok (.iload_n 3, 1) := dk_29 (dk_at dksX4_tell_2 19 rfl rfl)
theorem dX4_tell_68 : decode cX4_tell 68 = .ok (.iastore, 1) := dk_79 (dk_at dksX4_tell_2 20 rfl rfl)
theorem dX4_tell_69 : decode cX4_tell 69 = .ok (.iconst 1, 1) := dk_4 (dk_at dksX4_tell_2 21 rfl rfl)
theorem dX4_tell_70 : decode cX4_tell 70 = .ok (.ireturn, 1) := dk_172 (dk_at dksX4_tell_2 22 rfl rfl)
abbrev cX4_isCell : ByteArray := prog_14_method_6_code
def yX4_isCell : MethodName := ⟨RX4, "isCell", "(I)Z"⟩
def dkwX4_isCell_1 : List UInt8 := [172]
abbrev dktX4_isCell_1 : List UInt8 := dkwX4_isCell_1 ++ []
def dkwX4_isCell_0 : List UInt8 := [27, 155, 0, 22, 42, 27, 16, 10, 112, 27, 16, 10, 108, 182, 0, 79, 153, 0, 7, 4, 167, 0, 4, 3]
abbrev dktX4_isCell_0 : List UInt8 := dkwX4_isCell_0 ++ dktX4_isCell_1
theorem dksX4_isCell_0 : cX4_isCell.data.toList.drop 0 = dktX4_isCell_0 := by decide +kernel
theorem dksX4_isCell_1 : cX4_isCell.data.toList.drop 24 = dktX4_isCell_1 := dk_seg dksX4_isCell_0 24 rfl rfl
theorem dX4_isCell_0 : decode cX4_isCell 0 = .ok (.iload_n 1, 1) := dk_27 (dk_at dksX4_isCell_0 0 rfl rfl)
theorem dX4_isCell_1 : decode cX4_isCell 1 = .ok (.ifCond .lt 22, 3) := dk_155 0 22 (dk_at dksX4_isCell_0 1 rfl rfl)
theorem dX4_isCell_4 : decode cX4_isCell 4 = .ok (.aload_n 0, 1) := dk_42 (dk_at dksX4_isCell_0 4 rfl rfl)
theorem dX4_isCell_5 : decode cX4_isCell 5 = .ok (.iload_n 1, 1) := dk_27 (dk_at dksX4_isCell_0 5 rfl rfl)
theorem dX4_isCell_6 : decode cX4_isCell 6 = .ok (.bipush 10, 2) := dk_16 10 (dk_at dksX4_isCell_0 6 rfl rfl)
theorem dX4_isCell_8 : decode cX4_isCell 8 = .ok (.irem, 1) := dk_112 (dk_at dksX4_isCell_0 8 rfl rfl)
theorem dX4_isCell_9 : decode cX4_isCell 9 = .ok (.iload_n 1, 1) := dk_27 (dk_at dksX4_isCell_0 9 rfl rfl)
theorem dX4_isCell_10 : decode cX4_isCell 10 = .ok (.bipush 10, 2) := dk_16 10 (dk_at dksX4_isCell_0 10 rfl rfl)
theorem dX4_isCell_12 : decode cX4_isCell 12 = .ok (.idiv, 1) := dk_108 (dk_at dksX4_isCell_0 12 rfl rfl)
theorem dX4_isCell_13 : decode cX4_isCell 13 = .ok (.invokevirtual 79, 3) := dk_182 0 79 (dk_at dksX4_isCell_0 13 rfl rfl)
theorem dX4_isCell_16 : decode cX4_isCell 16 = .ok (.ifCond .eq 7, 3) := dk_153 0 7 (dk_at dksX4_isCell_0 16 rfl rfl)
theorem dX4_isCell_19 : decode cX4_isCell 19 = .ok (.iconst 1, 1) := dk_4 (dk_at dksX4_isCell_0 19 rfl rfl)
theorem dX4_isCell_20 : decode cX4_isCell 20 = .ok (.goto 4, 3) := dk_167 0 4 (dk_at dksX4_isCell_0 20 rfl rfl)
theorem dX4_isCell_23 : decode cX4_isCell 23 = .ok (.iconst 0, 1) := dk_3 (dk_at dksX4_isCell_0 23 rfl rfl)
theorem dX4_isCell_24 : decode cX4_isCell 24 = .ok (.ireturn, 1) := dk_172 (dk_at dksX4_isCell_1 0 rfl rfl)
abbrev cX4_isPlace : ByteArray := prog_14_method_5_code
def yX4_isPlace : MethodName := ⟨RX4, "isPlace", "(II)Z"⟩
def dkwX4_isPlace_1 : List UInt8 := [4, 100, 184, 0, 75, 153, 0, 7, 4, 167, 0, 4, 3, 172]
abbrev dktX4_isPlace_1 : List UInt8 := dkwX4_isPlace_1 ++ []
def dkwX4_isPlace_0 : List UInt8 := [27, 3, 42, 180, 0, 7, 3, 46, 4, 100, 184, 0, 75, 153, 0, 23, 28, 3, 42, 180, 0, 7, 4, 46]
abbrev dktX4_isPlace_0 : List UInt8 := dkwX4_isPlace_0 ++ dktX4_isPlace_1
theorem dksX4_isPlace_0 : cX4_isPlace.data.toList.drop 0 = dktX4_isPlace_0 := by decide +kernel
theorem dksX4_isPlace_1 : cX4_isPlace.data.toList.drop 24 = dktX4_isPlace_1 := dk_seg dksX4_isPlace_0 24 rfl rfl
theorem dX4_isPlace_0 : decode cX4_isPlace 0 = .ok (.iload_n 1, 1) := dk_27 (dk_at dksX4_isPlace_0 0 rfl rfl)
theorem dX4_isPlace_1 : decode cX4_isPlace 1 = .ok (.iconst 0, 1) := dk_3 (dk_at dksX4_isPlace_0 1 rfl rfl)
theorem dX4_isPlace_2 : decode cX4_isPlace 2 = .ok (.aload_n 0, 1) := dk_42 (dk_at dksX4_isPlace_0 2 rfl rfl)
theorem dX4_isPlace_3 : decode cX4_isPlace 3 = .ok (.getfield 7, 3) := dk_180 0 7 (dk_at dksX4_isPlace_0 3 rfl rfl)
theorem dX4_isPlace_6 : decode cX4_isPlace 6 = .ok (.iconst 0, 1) := dk_3 (dk_at dksX4_isPlace_0 6 rfl rfl)
theorem dX4_isPlace_7 : decode cX4_isPlace 7 = .ok (.iaload, 1) := dk_46 (dk_at dksX4_isPlace_0 7 rfl rfl)
theorem dX4_isPlace_8 : decode cX4_isPlace 8 = .ok (.iconst 1, 1) := dk_4 (dk_at dksX4_isPlace_0 8 rfl rfl)
theorem dX4_isPlace_9 : decode cX4_isPlace 9 = .ok (.isub, 1) := dk_100 (dk_at dksX4_isPlace_0 9 rfl rfl)
theorem dX4_isPlace_10 : decode cX4_isPlace 10 = .ok (.invokestatic 75, 3) := dk_184 0 75 (dk_at dksX4_isPlace_0 10 rfl rfl)
theorem dX4_isPlace_13 : decode cX4_isPlace 13 = .ok (.ifCond .eq 23, 3) := dk_153 0 23 (dk_at dksX4_isPlace_0 13 rfl rfl)
theorem dX4_isPlace_16 : decode cX4_isPlace 16 = .ok (.iload_n 2, 1) := dk_28 (dk_at dksX4_isPlace_0 16 rfl rfl)
theorem dX4_isPlace_17 : decode cX4_isPlace 17 = .ok (.iconst 0, 1) := dk_3 (dk_at dksX4_isPlace_0 17 rfl rfl)
theorem dX4_isPlace_18 : decode cX4_isPlace 18 = .ok (.aload_n 0, 1) := dk_42 (dk_at dksX4_isPlace_0 18 rfl rfl)
theorem dX4_isPlace_19 : decode cX4_isPlace 19 = .ok (.getfield 7, 3) := dk_180 0 7 (dk_at dksX4_isPlace_0 19 rfl rfl)
theorem dX4_isPlace_22 : decode cX4_isPlace 22 = .ok (.iconst 1, 1) := dk_4 (dk_at dksX4_isPlace_0 22 rfl rfl)
theorem dX4_isPlace_23 : decode cX4_isPlace 23 = .ok (.iaload, 1) := dk_46 (dk_at dksX4_isPlace_0 23 rfl rfl)
theorem dX4_isPlace_24 : decode cX4_isPlace 24 = .ok (.iconst 1, 1) := dk_4 (dk_at dksX4_isPlace_1 0 rfl rfl)
theorem dX4_isPlace_25 : decode cX4_isPlace 25 = .ok (.isub, 1) := dk_100 (dk_at dksX4_isPlace_1 1 rfl rfl)
theorem dX4_isPlace_26 : decode cX4_isPlace 26 = .ok (.invokestatic 75, 3) := dk_184 0 75 (dk_at dksX4_isPlace_1 2 rfl rfl)
theorem dX4_isPlace_29 : decode cX4_isPlace 29 = .ok (.ifCond .eq 7, 3) := dk_153 0 7 (dk_at dksX4_isPlace_1 5 rfl rfl)
theorem dX4_isPlace_32 : decode cX4_isPlace 32 = .ok (.iconst 1, 1) := dk_4 (dk_at dksX4_isPlace_1 8 rfl rfl)
theorem dX4_isPlace_33 : decode cX4_isPlace 33 = .ok (.goto 4, 3) := dk_167 0 4 (dk_at dksX4_isPlace_1 9 rfl rfl)
theorem dX4_isPlace_36 : decode cX4_isPlace 36 = .ok (.iconst 0, 1) := dk_3 (dk_at dksX4_isPlace_1 12 rfl rfl)
theorem dX4_isPlace_37 : decode cX4_isPlace 37 = .ok (.ireturn, 1) := dk_172 (dk_at dksX4_isPlace_1 13 rfl rfl)
abbrev cX4_dig : ByteArray := prog_14_method_13_code
def yX4_dig : MethodName := ⟨RX4, "dig", "(I)Z"⟩
def dkwX4_dig_1 : List UInt8 := [180, 0, 7, 16, 120, 27, 96, 4, 79, 42, 27, 182, 0, 89, 4, 172]
abbrev dktX4_dig_1 : List UInt8 := dkwX4_dig_1 ++ []
def dkwX4_dig_0 : List UInt8 := [42, 27, 182, 0, 85, 153, 0, 16, 42, 180, 0, 7, 16, 120, 27, 96, 46, 4, 160, 0, 5, 3, 172, 42]
abbrev dktX4_dig_0 : List UInt8 := dkwX4_dig_0 ++ dktX4_dig_1
theorem dksX4_dig_0 : cX4_dig.data.toList.drop 0 = dktX4_dig_0 := by decide +kernel
theorem dksX4_dig_1 : cX4_dig.data.toList.drop 24 = dktX4_dig_1 := dk_seg dksX4_dig_0 24 rfl rfl
theorem dX4_dig_0 : decode cX4_dig 0 = .ok (.aload_n 0, 1) := dk_42 (dk_at dksX4_dig_0 0 rfl rfl)
theorem dX4_dig_1 : decode cX4_dig 1 = .ok (.iload_n 1, 1) := dk_27 (dk_at dksX4_dig_0 1 rfl rfl)
theorem dX4_dig_2 : decode cX4_dig 2 = .ok (.invokevirtual 85, 3) := dk_182 0 85 (dk_at dksX4_dig_0 2 rfl rfl)
theorem dX4_dig_5 : decode cX4_dig 5 = .ok (.ifCond .eq 16, 3) := dk_153 0 16 (dk_at dksX4_dig_0 5 rfl rfl)
theorem dX4_dig_8 : decode cX4_dig 8 = .ok (.aload_n 0, 1) := dk_42 (dk_at dksX4_dig_0 8 rfl rfl)
theorem dX4_dig_9 : decode cX4_dig 9 = .ok (.getfield 7, 3) := dk_180 0 7 (dk_at dksX4_dig_0 9 rfl rfl)
theorem dX4_dig_12 : decode cX4_dig 12 = .ok (.bipush 120, 2) := dk_16 120 (dk_at dksX4_dig_0 12 rfl rfl)
theorem dX4_dig_14 : decode cX4_dig 14 = .ok (.iload_n 1, 1) := dk_27 (dk_at dksX4_dig_0 14 rfl rfl)
theorem dX4_dig_15 : decode cX4_dig 15 = .ok (.iadd, 1) := dk_96 (dk_at dksX4_dig_0 15 rfl rfl)
theorem dX4_dig_16 : decode cX4_dig 16 = .ok (.iaload, 1) := dk_46 (dk_at dksX4_dig_0 16 rfl rfl)
theorem dX4_dig_17 : decode cX4_dig 17 = .ok (.iconst 1, 1) := dk_4 (dk_at dksX4_dig_0 17 rfl rfl)
theorem dX4_dig_18 : decode cX4_dig 18 = .ok (.if_icmp .ne 5, 3) := dk_160 0 5 (dk_at dksX4_dig_0 18 rfl rfl)
theorem dX4_dig_21 : decode cX4_dig 21 = .ok (.iconst 0, 1) := dk_3 (dk_at dksX4_dig_0 21 rfl rfl)
theorem dX4_dig_22 : decode cX4_dig 22 = .ok (.ireturn, 1) := dk_172 (dk_at dksX4_dig_0 22 rfl rfl)
theorem dX4_dig_23 : decode cX4_dig 23 = .ok (.aload_n 0, 1) := dk_42 (dk_at dksX4_dig_0 23 rfl rfl)
theorem dX4_dig_24 : decode cX4_dig 24 = .ok (.getfield 7, 3) := dk_180 0 7 (dk_at dksX4_dig_1 0 rfl rfl)
theorem dX4_dig_27 : decode cX4_dig 27 = .ok (.bipush 120, 2) := dk_16 120 (dk_at dksX4_dig_1 3 rfl rfl)
theorem dX4_dig_29 : decode cX4_dig 29 = .ok (.iload_n 1, 1) := dk_27 (dk_at dksX4_dig_1 5 rfl rfl)
theorem dX4_dig_30 : decode cX4_dig 30 = .ok (.iadd, 1) := dk_96 (dk_at dksX4_dig_1 6 rfl rfl)
theorem dX4_dig_31 : decode cX4_dig 31 = .ok (.iconst 1, 1) := dk_4 (dk_at dksX4_dig_1 7 rfl rfl)
theorem dX4_dig_32 : decode cX4_dig 32 = .ok (.iastore, 1) := dk_79 (dk_at dksX4_dig_1 8 rfl rfl)
theorem dX4_dig_33 : decode cX4_dig 33 = .ok (.aload_n 0, 1) := dk_42 (dk_at dksX4_dig_1 9 rfl rfl)
theorem dX4_dig_34 : decode cX4_dig 34 = .ok (.iload_n 1, 1) := dk_27 (dk_at dksX4_dig_1 10 rfl rfl)
theorem dX4_dig_35 : decode cX4_dig 35 = .ok (.invokevirtual 89, 3) := dk_182 0 89 (dk_at dksX4_dig_1 11 rfl rfl)
theorem dX4_dig_38 : decode cX4_dig 38 = .ok (.iconst 1, 1) := dk_4 (dk_at dksX4_dig_1 14 rfl rfl)
theorem dX4_dig_39 : decode cX4_dig 39 = .ok (.ireturn, 1) := dk_172 (dk_at dksX4_dig_1 15 rfl rfl)
abbrev cX4_keeps : ByteArray := prog_14_method_12_code
def yX4_keeps : MethodName := ⟨RX4, "keeps", "(I)V"⟩
def dkwX4_keeps_2 : List UInt8 := [180, 0, 19, 42, 180, 0, 72, 27, 79, 42, 89, 180, 0, 72, 4, 96, 181, 0, 72, 177]
abbrev dktX4_keeps_2 : List UInt8 := dkwX4_keeps_2 ++ []
def dkwX4_keeps_1 : List UInt8 := [42, 180, 0, 19, 28, 46, 79, 132, 2, 1, 167, 255, 233, 42, 89, 180, 0, 72, 4, 100, 181, 0, 72, 42]
abbrev dktX4_keeps_1 : List UInt8 := dkwX4_keeps_1 ++ dktX4_keeps_2
def dkwX4_keeps_0 : List UInt8 := [42, 180, 0, 72, 16, 10, 160, 0, 41, 4, 61, 28, 16, 10, 162, 0, 23, 42, 180, 0, 19, 28, 4, 100]
abbrev dktX4_keeps_0 : List UInt8 := dkwX4_keeps_0 ++ dktX4_keeps_1
theorem dksX4_keeps_0 : cX4_keeps.data.toList.drop 0 = dktX4_keeps_0 := by decide +kernel
theorem dksX4_keeps_1 : cX4_keeps.data.toList.drop 24 = dktX4_keeps_1 := dk_seg dksX4_keeps_0 24 rfl rfl
theorem dksX4_keeps_2 : cX4_keeps.data.toList.drop 48 = dktX4_keeps_2 := dk_seg dksX4_keeps_1 24 rfl rfl
theorem dX4_keeps_0 : decode cX4_keeps 0 = .ok (.aload_n 0, 1) := dk_42 (dk_at dksX4_keeps_0 0 rfl rfl)
theorem dX4_keeps_1 : decode cX4_keeps 1 = .ok (.getfield 72, 3) := dk_180 0 72 (dk_at dksX4_keeps_0 1 rfl rfl)
theorem dX4_keeps_4 : decode cX4_keeps 4 = .ok (.bipush 10, 2) := dk_16 10 (dk_at dksX4_keeps_0 4 rfl rfl)
theorem dX4_keeps_6 : decode cX4_keeps 6 = .ok (.if_icmp .ne 41, 3) := dk_160 0 41 (dk_at dksX4_keeps_0 6 rfl rfl)
theorem dX4_keeps_9 : decode cX4_keeps 9 = .ok (.iconst 1, 1) := dk_4 (dk_at dksX4_keeps_0 9 rfl rfl)
theorem dX4_keeps_10 : decode cX4_keeps 10 = .ok (.istore_n 2, 1) := dk_61 (dk_at dksX4_keeps_0 10 rfl rfl)
theorem dX4_keeps_11 : decode cX4_keeps 11 = .ok (.iload_n 2, 1) := dk_28 (dk_at dksX4_keeps_0 11 rfl rfl)
theorem dX4_keeps_12 : decode cX4_keeps 12 = .ok (.bipush 10, 2) := dk_16 10 (dk_at dksX4_keeps_0 12 rfl rfl)
theorem dX4_keeps_14 : decode cX4_keeps 14 = .ok (.if_icmp .ge 23, 3) := dk_162 0 23 (dk_at dksX4_keeps_0 14 rfl rfl)
theorem dX4_keeps_17 : decode cX4_keeps 17 = .ok (.aload_n 0, 1) := dk_42 (dk_at dksX4_keeps_0 17 rfl rfl)
theorem dX4_keeps_18 : decode cX4_keeps 18 = .ok (.getfield 19, 3) := dk_180 0 19 (dk_at dksX4_keeps_0 18 rfl rfl)
theorem dX4_keeps_21 : decode cX4_keeps 21 = .ok (.iload_n 2, 1) := dk_28 (dk_at dksX4_keeps_0 21 rfl rfl)
theorem dX4_keeps_22 : decode cX4_keeps 22 = .ok (.iconst 1, 1) := dk_4 (dk_at dksX4_keeps_0 22 rfl rfl)
theorem dX4_keeps_23 : decode cX4_keeps 23 = .ok (.isub, 1) := dk_100 (dk_at dksX4_keeps_0 23 rfl rfl)
theorem dX4_keeps_24 : decode cX4_keeps 24 = .ok (.aload_n 0, 1) := dk_42 (dk_at dksX4_keeps_1 0 rfl rfl)
theorem dX4_keeps_25 : decode cX4_keeps 25 = .ok (.getfield 19, 3) := dk_180 0 19 (dk_at dksX4_keeps_1 1 rfl rfl)
theorem dX4_keeps_28 : decode cX4_keeps 28 = .ok (.iload_n 2, 1) := dk_28 (dk_at dksX4_keeps_1 4 rfl rfl)
theorem dX4_keeps_29 : decode cX4_keeps 29 = .ok (.iaload, 1) := dk_46 (dk_at dksX4_keeps_1 5 rfl rfl)
theorem dX4_keeps_30 : decode cX4_keeps 30 = .ok (.iastore, 1) := dk_79 (dk_at dksX4_keeps_1 6 rfl rfl)
theorem dX4_keeps_31 : decode cX4_keeps 31 = .ok (.iinc 2 1, 3) := dk_132 2 1 (dk_at dksX4_keeps_1 7 rfl rfl)
theorem dX4_keeps_34 : decode cX4_keeps 34 = .ok (.goto (-23), 3) := dk_167 255 233 (dk_at dksX4_keeps_1 10 rfl rfl)
theorem dX4_keeps_37 : decode cX4_keeps 37 = .ok (.aload_n 0, 1) := dk_42 (dk_at dksX4_keeps_1 13 rfl rfl)
theorem dX4_keeps_38 : decode cX4_keeps 38 = .ok (.dup, 1) := dk_89 (dk_at dksX4_keeps_1 14 rfl rfl)
theorem dX4_keeps_39 : decode cX4_keeps 39 = .ok (.getfield 72, 3) := dk_180 0 72 (dk_at dksX4_keeps_1 15 rfl rfl)
theorem dX4_keeps_42 : decode cX4_keeps 42 = .ok (.iconst 1, 1) := dk_4 (dk_at dksX4_keeps_1 18 rfl rfl)
theorem dX4_keeps_43 : decode cX4_keeps 43 = .ok (.isub, 1) := dk_100 (dk_at dksX4_keeps_1 19 rfl rfl)
theorem dX4_keeps_44 : decode cX4_keeps 44 = .ok (.putfield 72, 3) := dk_181 0 72 (dk_at dksX4_keeps_1 20 rfl rfl)
theorem dX4_keeps_47 : decode cX4_keeps 47 = .ok (.aload_n 0, 1) := dk_42 (dk_at dksX4_keeps_1 23 rfl rfl)
theorem dX4_keeps_48 : decode cX4_keeps 48 = .ok (.getfield 19, 3) := dk_180 0 19 (dk_at dksX4_keeps_2 0 rfl rfl)
theorem dX4_keeps_51 : decode cX4_keeps 51 = .ok (.aload_n 0, 1) := dk_42 (dk_at dksX4_keeps_2 3 rfl rfl)
theorem dX4_keeps_52 : decode cX4_keeps 52 = .ok (.getfield 72, 3) := dk_180 0 72 (dk_at dksX4_keeps_2 4 rfl rfl)
theorem dX4_keeps_55 : decode cX4_keeps 55 = .ok (.iload_n 1, 1) := dk_27 (dk_at dksX4_keeps_2 7 rfl rfl)
theorem dX4_keeps_56 : decode cX4_keeps 56 = .ok (.iastore, 1) := dk_79 (dk_at dksX4_keeps_2 8 rfl rfl)
theorem dX4_keeps_57 : decode cX4_keeps 57 = .ok (.aload_n 0, 1) := dk_42 (dk_at dksX4_keeps_2 9 rfl rfl)
theorem dX4_keeps_58 : decode cX4_keeps 58 = .ok (.dup, 1) := dk_89 (dk_at dksX4_keeps_2 10 rfl rfl)
theorem dX4_keeps_59 : decode cX4_keeps 59 = .ok (.getfield 72, 3) := dk_180 0 72 (dk_at dksX4_keeps_2 11 rfl rfl)
theorem dX4_keeps_62 : decode cX4_keeps 62 = .ok (.iconst 1, 1) := dk_4 (dk_at dksX4_keeps_2 14 rfl rfl)
theorem dX4_keeps_63 : decode cX4_keeps 63 = .ok (.iadd, 1) := dk_96 (dk_at dksX4_keeps_2 15 rfl rfl)
theorem dX4_keeps_64 : decode cX4_keeps 64 = .ok (.putfield 72, 3) := dk_181 0 72 (dk_at dksX4_keeps_2 16 rfl rfl)
theorem dX4_keeps_67 : decode cX4_keeps 67 = .ok (.return_, 1) := dk_177 (dk_at dksX4_keeps_2 19 rfl rfl)
abbrev cX4_fill : ByteArray := prog_14_method_14_code
def yX4_fill : MethodName := ⟨RX4, "fill", "(I)Z"⟩
def dkwX4_fill_1 : List UInt8 := [180, 0, 7, 16, 120, 27, 96, 3, 79, 42, 27, 182, 0, 89, 4, 172]
abbrev dktX4_fill_1 : List UInt8 := dkwX4_fill_1 ++ []
def dkwX4_fill_0 : List UInt8 := [42, 27, 182, 0, 85, 153, 0, 15, 42, 180, 0, 7, 16, 120, 27, 96, 46, 154, 0, 5, 3, 172, 42]
abbrev dktX4_fill_0 : List UInt8 := dkwX4_fill_0 ++ dktX4_fill_1
theorem dksX4_fill_0 : cX4_fill.data.toList.drop 0 = dktX4_fill_0 := by decide +kernel
theorem dksX4_fill_1 : cX4_fill.data.toList.drop 23 = dktX4_fill_1 := dk_seg dksX4_fill_0 23 rfl rfl
theorem dX4_fill_0 : decode cX4_fill 0 = .ok (.aload_n 0, 1) := dk_42 (dk_at dksX4_fill_0 0 rfl rfl)
theorem dX4_fill_1 : decode cX4_fill 1 = .ok (.iload_n 1, 1) := dk_27 (dk_at dksX4_fill_0 1 rfl rfl)
theorem dX4_fill_2 : decode cX4_fill 2 = .ok (.invokevirtual 85, 3) := dk_182 0 85 (dk_at dksX4_fill_0 2 rfl rfl)
theorem dX4_fill_5 : decode cX4_fill 5 = .ok (.ifCond .eq 15, 3) := dk_153 0 15 (dk_at dksX4_fill_0 5 rfl rfl)
theorem dX4_fill_8 : decode cX4_fill 8 = .ok (.aload_n 0, 1) := dk_42 (dk_at dksX4_fill_0 8 rfl rfl)
theorem dX4_fill_9 : decode cX4_fill 9 = .ok (.getfield 7, 3) := dk_180 0 7 (dk_at dksX4_fill_0 9 rfl rfl)
theorem dX4_fill_12 : decode cX4_fill 12 = .ok (.bipush 120, 2) := dk_16 120 (dk_at dksX4_fill_0 12 rfl rfl)
theorem dX4_fill_14 : decode cX4_fill 14 = .ok (.iload_n 1, 1) := dk_27 (dk_at dksX4_fill_0 14 rfl rfl)
theorem dX4_fill_15 : decode cX4_fill 15 = .ok (.iadd, 1) := dk_96 (dk_at dksX4_fill_0 15 rfl rfl)
theorem dX4_fill_16 : decode cX4_fill 16 = .ok (.iaload, 1) := dk_46 (dk_at dksX4_fill_0 16 rfl rfl)
theorem dX4_fill_17 : decode cX4_fill 17 = .ok (.ifCond .ne 5, 3) := dk_154 0 5 (dk_at dksX4_fill_0 17 rfl rfl)
theorem dX4_fill_20 : decode cX4_fill 20 = .ok (.iconst 0, 1) := dk_3 (dk_at dksX4_fill_0 20 rfl rfl)
theorem dX4_fill_21 : decode cX4_fill 21 = .ok (.ireturn, 1) := dk_172 (dk_at dksX4_fill_0 21 rfl rfl)
theorem dX4_fill_22 : decode cX4_fill 22 = .ok (.aload_n 0, 1) := dk_42 (dk_at dksX4_fill_0 22 rfl rfl)
theorem dX4_fill_23 : decode cX4_fill 23 = .ok (.getfield 7, 3) := dk_180 0 7 (dk_at dksX4_fill_1 0 rfl rfl)
theorem dX4_fill_26 : decode cX4_fill 26 = .ok (.bipush 120, 2) := dk_16 120 (dk_at dksX4_fill_1 3 rfl rfl)
theorem dX4_fill_28 : decode cX4_fill 28 = .ok (.iload_n 1, 1) := dk_27 (dk_at dksX4_fill_1 5 rfl rfl)
theorem dX4_fill_29 : decode cX4_fill 29 = .ok (.iadd, 1) := dk_96 (dk_at dksX4_fill_1 6 rfl rfl)
theorem dX4_fill_30 : decode cX4_fill 30 = .ok (.iconst 0, 1) := dk_3 (dk_at dksX4_fill_1 7 rfl rfl)
theorem dX4_fill_31 : decode cX4_fill 31 = .ok (.iastore, 1) := dk_79 (dk_at dksX4_fill_1 8 rfl rfl)
theorem dX4_fill_32 : decode cX4_fill 32 = .ok (.aload_n 0, 1) := dk_42 (dk_at dksX4_fill_1 9 rfl rfl)
theorem dX4_fill_33 : decode cX4_fill 33 = .ok (.iload_n 1, 1) := dk_27 (dk_at dksX4_fill_1 10 rfl rfl)
theorem dX4_fill_34 : decode cX4_fill 34 = .ok (.invokevirtual 89, 3) := dk_182 0 89 (dk_at dksX4_fill_1 11 rfl rfl)
theorem dX4_fill_37 : decode cX4_fill 37 = .ok (.iconst 1, 1) := dk_4 (dk_at dksX4_fill_1 14 rfl rfl)
theorem dX4_fill_38 : decode cX4_fill 38 = .ok (.ireturn, 1) := dk_172 (dk_at dksX4_fill_1 15 rfl rfl)
abbrev cX4_undo : ByteArray := prog_14_method_15_code
def yX4_undo : MethodName := ⟨RX4, "undo", "()Z"⟩
def dkwX4_undo_2 : List UInt8 := [79, 4, 172]
abbrev dktX4_undo_2 : List UInt8 := dkwX4_undo_2 ++ []
def dkwX4_undo_1 : List UInt8 := [180, 0, 72, 46, 60, 42, 180, 0, 7, 16, 120, 27, 96, 4, 42, 180, 0, 7, 16, 120, 27, 96, 46, 100]
abbrev dktX4_undo_1 : List UInt8 := dkwX4_undo_1 ++ dktX4_undo_2
def dkwX4_undo_0 : List UInt8 := [42, 180, 0, 72, 154, 0, 5, 3, 172, 42, 89, 180, 0, 72, 4, 100, 181, 0, 72, 42, 180, 0, 19, 42]
abbrev dktX4_undo_0 : List UInt8 := dkwX4_undo_0 ++ dktX4_undo_1
theorem dksX4_undo_0 : cX4_undo.data.toList.drop 0 = dktX4_undo_0 := by decide +kernel
theorem dksX4_undo_1 : cX4_undo.data.toList.drop 24 = dktX4_undo_1 := dk_seg dksX4_undo_0 24 rfl rfl
theorem dksX4_undo_2 : cX4_undo.data.toList.drop 48 = dktX4_undo_2 := dk_seg dksX4_undo_1 24 rfl rfl
theorem dX4_undo_0 : decode cX4_undo 0 = .ok (.aload_n 0, 1) := dk_42 (dk_at dksX4_undo_0 0 rfl rfl)
theorem dX4_undo_1 : decode cX4_undo 1 = .ok (.getfield 72, 3) := dk_180 0 72 (dk_at dksX4_undo_0 1 rfl rfl)
theorem dX4_undo_4 : decode cX4_undo 4 = .ok (.ifCond .ne 5, 3) := dk_154 0 5 (dk_at dksX4_undo_0 4 rfl rfl)
theorem dX4_undo_7 : decode cX4_undo 7 = .ok (.iconst 0, 1) := dk_3 (dk_at dksX4_undo_0 7 rfl rfl)
theorem dX4_undo_8 : decode cX4_undo 8 = .ok (.ireturn, 1) := dk_172 (dk_at dksX4_undo_0 8 rfl rfl)
theorem dX4_undo_9 : decode cX4_undo 9 = .ok (.aload_n 0, 1) := dk_42 (dk_at dksX4_undo_0 9 rfl rfl)
theorem dX4_undo_10 : decode cX4_undo 10 = .ok (.dup, 1) := dk_89 (dk_at dksX4_undo_0 10 rfl rfl)
theorem dX4_undo_11 : decode cX4_undo 11 = .ok (.getfield 72, 3) := dk_180 0 72 (dk_at dksX4_undo_0 11 rfl rfl)
theorem dX4_undo_14 : decode cX4_undo 14 = .ok (.iconst 1, 1) := dk_4 (dk_at dksX4_undo_0 14 rfl rfl)
theorem dX4_undo_15 : decode cX4_undo 15 = .ok (.isub, 1) := dk_100 (dk_at dksX4_undo_0 15 rfl rfl)
theorem dX4_undo_16 : decode cX4_undo 16 = .ok (.putfield 72, 3) := dk_181 0 72 (dk_at dksX4_undo_0 16 rfl rfl)
theorem dX4_undo_19 : decode cX4_undo 19 = .ok (.aload_n 0, 1) := dk_42 (dk_at dksX4_undo_0 19 rfl rfl)
theorem dX4_undo_20 : decode cX4_undo 20 = .ok (.getfield 19, 3) := dk_180 0 19 (dk_at dksX4_undo_0 20 rfl rfl)
theorem dX4_undo_23 : decode cX4_undo 23 = .ok (.aload_n 0, 1) := dk_42 (dk_at dksX4_undo_0 23 rfl rfl)
theorem dX4_undo_24 : decode cX4_undo 24 = .ok (.getfield 72, 3) := dk_180 0 72 (dk_at dksX4_undo_1 0 rfl rfl)
theorem dX4_undo_27 : decode cX4_undo 27 = .ok (.iaload, 1) := dk_46 (dk_at dksX4_undo_1 3 rfl rfl)
theorem dX4_undo_28 : decode cX4_undo 28 = .ok (.istore_n 1, 1) := dk_60 (dk_at dksX4_undo_1 4 rfl rfl)
theorem dX4_undo_29 : decode cX4_undo 29 = .ok (.aload_n 0, 1) := dk_42 (dk_at dksX4_undo_1 5 rfl rfl)
theorem dX4_undo_30 : decode cX4_undo 30 = .ok (.getfield 7, 3) := dk_180 0 7 (dk_at dksX4_undo_1 6 rfl rfl)
theorem dX4_undo_33 : decode cX4_undo 33 = .ok (.bipush 120, 2) := dk_16 120 (dk_at dksX4_undo_1 9 rfl rfl)
theorem dX4_undo_35 : decode cX4_undo 35 = .ok (.iload_n 1, 1) := dk_27 (dk_at dksX4_undo_1 11 rfl rfl)
theorem dX4_undo_36 : decode cX4_undo 36 = .ok (.iadd, 1) := dk_96 (dk_at dksX4_undo_1 12 rfl rfl)
theorem dX4_undo_37 : decode cX4_undo 37 = .ok (.iconst 1, 1) := dk_4 (dk_at dksX4_undo_1 13 rfl rfl)
theorem dX4_undo_38 : decode cX4_undo 38 = .ok (.aload_n 0, 1) := dk_42 (dk_at dksX4_undo_1 14 rfl rfl)
theorem dX4_undo_39 : decode cX4_undo 39 = .ok (.getfield 7, 3) := dk_180 0 7 (dk_at dksX4_undo_1 15 rfl rfl)
theorem dX4_undo_42 : decode cX4_undo 42 = .ok (.bipush 120, 2) := dk_16 120 (dk_at dksX4_undo_1 18 rfl rfl)
theorem dX4_undo_44 : decode cX4_undo 44 = .ok (.iload_n 1, 1) := dk_27 (dk_at dksX4_undo_1 20 rfl rfl)
theorem dX4_undo_45 : decode cX4_undo 45 = .ok (.iadd, 1) := dk_96 (dk_at dksX4_undo_1 21 rfl rfl)
theorem dX4_undo_46 : decode cX4_undo 46 = .ok (.iaload, 1) := dk_46 (dk_at dksX4_undo_1 22 rfl rfl)
theorem dX4_undo_47 : decode cX4_undo 47 = .ok (.isub, 1) := dk_100 (dk_at dksX4_undo_1 23 rfl rfl)
theorem dX4_undo_48 : decode cX4_undo 48 = .ok (.iastore, 1) := dk_79 (dk_at dksX4_undo_2 0 rfl rfl)
theorem dX4_undo_49 : decode cX4_undo 49 = .ok (.iconst 1, 1) := dk_4 (dk_at dksX4_undo_2 1 rfl rfl)
theorem dX4_undo_50 : decode cX4_undo 50 = .ok (.ireturn, 1) := dk_172 (dk_at dksX4_undo_2 2 rfl rfl)
abbrev cX4_barn : ByteArray := prog_14_method_16_code
def yX4_barn : MethodName := ⟨RX4, "barn", "(I)Z"⟩
def dkwX4_barn_2 : List UInt8 := [180, 0, 7, 17, 2, 108, 27, 96, 3, 79, 4, 172]
abbrev dktX4_barn_2 : List UInt8 := dkwX4_barn_2 ++ []
def dkwX4_barn_1 : List UInt8 := [42, 180, 0, 7, 17, 0, 220, 27, 96, 4, 79, 42, 180, 0, 7, 17, 2, 8, 27, 96, 2, 79, 42]
abbrev dktX4_barn_1 : List UInt8 := dkwX4_barn_1 ++ dktX4_barn_2
def dkwX4_barn_0 : List UInt8 := [42, 27, 182, 0, 85, 153, 0, 17, 42, 180, 0, 7, 17, 0, 220, 27, 96, 46, 4, 160, 0, 5, 3, 172]
abbrev dktX4_barn_0 : List UInt8 := dkwX4_barn_0 ++ dktX4_barn_1
theorem dksX4_barn_0 : cX4_barn.data.toList.drop 0 = dktX4_barn_0 := by decide +kernel
theorem dksX4_barn_1 : cX4_barn.data.toList.drop 24 = dktX4_barn_1 := dk_seg dksX4_barn_0 24 rfl rfl
theorem dksX4_barn_2 : cX4_barn.data.toList.drop 47 = dktX4_barn_2 := dk_seg dksX4_barn_1 23 rfl rfl
theorem dX4_barn_0 : decode cX4_barn 0 = .ok (.aload_n 0, 1) := dk_42 (dk_at dksX4_barn_0 0 rfl rfl)
theorem dX4_barn_1 : decode cX4_barn 1 = .ok (.iload_n 1, 1) := dk_27 (dk_at dksX4_barn_0 1 rfl rfl)
theorem dX4_barn_2 : decode cX4_barn 2 = .ok (.invokevirtual 85, 3) := dk_182 0 85 (dk_at dksX4_barn_0 2 rfl rfl)
theorem dX4_barn_5 : decode cX4_barn 5 = .ok (.ifCond .eq 17, 3) := dk_153 0 17 (dk_at dksX4_barn_0 5 rfl rfl)
theorem dX4_barn_8 : decode cX4_barn 8 = .ok (.aload_n 0, 1) := dk_42 (dk_at dksX4_barn_0 8 rfl rfl)
theorem dX4_barn_9 : decode cX4_barn 9 = .ok (.getfield 7, 3) := dk_180 0 7 (dk_at dksX4_barn_0 9 rfl rfl)
theorem dX4_barn_12 : decode cX4_barn 12 = .ok (.sipush 220, 3) := dk_17 0 220 (dk_at dksX4_barn_0 12 rfl rfl)
theorem dX4_barn_15 : decode cX4_barn 15 = .ok (.iload_n 1, 1) := dk_27 (dk_at dksX4_barn_0 15 rfl rfl)
theorem dX4_barn_16 : decode cX4_barn 16 = .ok (.iadd, 1) := dk_96 (dk_at dksX4_barn_0 16 rfl rfl)
theorem dX4_barn_17 : decode cX4_barn 17 = .ok (.iaload, 1) := dk_46 (dk_at dksX4_barn_0 17 rfl rfl)
theorem dX4_barn_18 : decode cX4_barn 18 = .ok (.iconst 1, 1) := dk_4 (dk_at dksX4_barn_0 18 rfl rfl)
theorem dX4_barn_19 : decode cX4_barn 19 = .ok (.if_icmp .ne 5, 3) := dk_160 0 5 (dk_at dksX4_barn_0 19 rfl rfl)
theorem dX4_barn_22 : decode cX4_barn 22 = .ok (.iconst 0, 1) := dk_3 (dk_at dksX4_barn_0 22 rfl rfl)
theorem dX4_barn_23 : decode cX4_barn 23 = .ok (.ireturn, 1) := dk_172 (dk_at dksX4_barn_0 23 rfl rfl)
theorem dX4_barn_24 : decode cX4_barn 24 = .ok (.aload_n 0, 1) := dk_42 (dk_at dksX4_barn_1 0 rfl rfl)
theorem dX4_barn_25 : decode cX4_barn 25 = .ok (.getfield 7, 3) := dk_180 0 7 (dk_at dksX4_barn_1 1 rfl rfl)
theorem dX4_barn_28 : decode cX4_barn 28 = .ok (.sipush 220, 3) := dk_17 0 220 (dk_at dksX4_barn_1 4 rfl rfl)
theorem dX4_barn_31 : decode cX4_barn 31 = .ok (.iload_n 1, 1) := dk_27 (dk_at dksX4_barn_1 7 rfl rfl)
theorem dX4_barn_32 : decode cX4_barn 32 = .ok (.iadd, 1) := dk_96 (dk_at dksX4_barn_1 8 rfl rfl)
theorem dX4_barn_33 : decode cX4_barn 33 = .ok (.iconst 1, 1) := dk_4 (dk_at dksX4_barn_1 9 rfl rfl)
theorem dX4_barn_34 : decode cX4_barn 34 = .ok (.iastore, 1) := dk_79 (dk_at dksX4_barn_1 10 rfl rfl)
theorem dX4_barn_35 : decode cX4_barn 35 = .ok (.aload_n 0, 1) := dk_42 (dk_at dksX4_barn_1 11 rfl rfl)
theorem dX4_barn_36 : decode cX4_barn 36 = .ok (.getfield 7, 3) := dk_180 0 7 (dk_at dksX4_barn_1 12 rfl rfl)
theorem dX4_barn_39 : decode cX4_barn 39 = .ok (.sipush 520, 3) := dk_17 2 8 (dk_at dksX4_barn_1 15 rfl rfl)
theorem dX4_barn_42 : decode cX4_barn 42 = .ok (.iload_n 1, 1) := dk_27 (dk_at dksX4_barn_1 18 rfl rfl)
theorem dX4_barn_43 : decode cX4_barn 43 = .ok (.iadd, 1) := dk_96 (dk_at dksX4_barn_1 19 rfl rfl)
theorem dX4_barn_44 : decode cX4_barn 44 = .ok (.iconst (-1), 1) := dk_2 (dk_at dksX4_barn_1 20 rfl rfl)
theorem dX4_barn_45 : decode cX4_barn 45 = .ok (.iastore, 1) := dk_79 (dk_at dksX4_barn_1 21 rfl rfl)
theorem dX4_barn_46 : decode cX4_barn 46 = .ok (.aload_n 0, 1) := dk_42 (dk_at dksX4_barn_1 22 rfl rfl)
theorem dX4_barn_47 : decode cX4_barn 47 = .ok (.getfield 7, 3) := dk_180 0 7 (dk_at dksX4_barn_2 0 rfl rfl)
theorem dX4_barn_50 : decode cX4_barn 50 = .ok (.sipush 620, 3) := dk_17 2 108 (dk_at dksX4_barn_2 3 rfl rfl)
theorem dX4_barn_53 : decode cX4_barn 53 = .ok (.iload_n 1, 1) := dk_27 (dk_at dksX4_barn_2 6 rfl rfl)
theorem dX4_barn_54 : decode cX4_barn 54 = .ok (.iadd, 1) := dk_96 (dk_at dksX4_barn_2 7 rfl rfl)
theorem dX4_barn_55 : decode cX4_barn 55 = .ok (.iconst 0, 1) := dk_3 (dk_at dksX4_barn_2 8 rfl rfl)
theorem dX4_barn_56 : decode cX4_barn 56 = .ok (.iastore, 1) := dk_79 (dk_at dksX4_barn_2 9 rfl rfl)
theorem dX4_barn_57 : decode cX4_barn 57 = .ok (.iconst 1, 1) := dk_4 (dk_at dksX4_barn_2 10 rfl rfl)
theorem dX4_barn_58 : decode cX4_barn 58 = .ok (.ireturn, 1) := dk_172 (dk_at dksX4_barn_2 11 rfl rfl)
abbrev cX4_mirror : ByteArray := prog_14_method_17_code
def yX4_mirror : MethodName := ⟨RX4, "mirror", "(IIZ)Z"⟩
def dkwX4_mirror_1 : List UInt8 := [96, 29, 153, 0, 7, 4, 167, 0, 4, 3, 79, 4, 172]
abbrev dktX4_mirror_1 : List UInt8 := dkwX4_mirror_1 ++ []
def dkwX4_mirror_0 : List UInt8 := [42, 27, 28, 182, 0, 93, 154, 0, 5, 3, 172, 42, 180, 0, 7, 17, 2, 208, 16, 11, 28, 104, 96, 27]
abbrev dktX4_mirror_0 : List UInt8 := dkwX4_mirror_0 ++ dktX4_mirror_1
theorem dksX4_mirror_0 : cX4_mirror.data.toList.drop 0 = dktX4_mirror_0 := by decide +kernel
theorem dksX4_mirror_1 : cX4_mirror.data.toList.drop 24 = dktX4_mirror_1 := dk_seg dksX4_mirror_0 24 rfl rfl
theorem dX4_mirror_0 : decode cX4_mirror 0 = .ok (.aload_n 0, 1) := dk_42 (dk_at dksX4_mirror_0 0 rfl rfl)
theorem dX4_mirror_1 : decode cX4_mirror 1 = .ok (.iload_n 1, 1) := dk_27 (dk_at dksX4_mirror_0 1 rfl rfl)
theorem dX4_mirror_2 : decode cX4_mirror 2 = .ok (.iload_n 2, 1) := dk_28 (dk_at dksX4_mirror_0 2 rfl rfl)
theorem dX4_mirror_3 : decode cX4_mirror 3 = .ok (.invokevirtual 93, 3) := dk_182 0 93 (dk_at dksX4_mirror_0 3 rfl rfl)
theorem dX4_mirror_6 : decode cX4_mirror 6 = .ok (.ifCond .ne 5, 3) := dk_154 0 5 (dk_at dksX4_mirror_0 6 rfl rfl)
theorem dX4_mirror_9 : decode cX4_mirror 9 = .ok (.iconst 0, 1) := dk_3 (dk_at dksX4_mirror_0 9 rfl rfl)
theorem dX4_mirror_10 : decode cX4_mirror 10 = .ok (.ireturn, 1) := dk_172 (dk_at dksX4_mirror_0 10 rfl rfl)
theorem dX4_mirror_11 : decode cX4_mirror 11 = .ok (.aload_n 0, 1) := dk_42 (dk_at dksX4_mirror_0 11 rfl rfl)
theorem dX4_mirror_12 : decode cX4_mirror 12 = .ok (.getfield 7, 3) := dk_180 0 7 (dk_at dksX4_mirror_0 12 rfl rfl)
theorem dX4_mirror_15 : decode cX4_mirror 15 = .ok (.sipush 720, 3) := dk_17 2 208 (dk_at dksX4_mirror_0 15 rfl rfl)
theorem dX4_mirror_18 : decode cX4_mirror 18 = .ok (.bipush 11, 2) := dk_16 11 (dk_at dksX4_mirror_0 18 rfl rfl)
theorem dX4_mirror_20 : decode cX4_mirror 20 = .ok (.iload_n 2, 1) := dk_28 (dk_at dksX4_mirror_0 20 rfl rfl)
theorem dX4_mirror_21 : decode cX4_mirror 21 = .ok (.imul, 1) := dk_104 (dk_at dksX4_mirror_0 21 rfl rfl)
theorem dX4_mirror_22 : decode cX4_mirror 22 = .ok (.iadd, 1) := dk_96 (dk_at dksX4_mirror_0 22 rfl rfl)
theorem dX4_mirror_23 : decode cX4_mirror 23 = .ok (.iload_n 1, 1) := dk_27 (dk_at dksX4_mirror_0 23 rfl rfl)
theorem dX4_mirror_24 : decode cX4_mirror 24 = .ok (.iadd, 1) := dk_96 (dk_at dksX4_mirror_1 0 rfl rfl)
theorem dX4_mirror_25 : decode cX4_mirror 25 = .ok (.iload_n 3, 1) := dk_29 (dk_at dksX4_mirror_1 1 rfl rfl)
theorem dX4_mirror_26 : decode cX4_mirror 26 = .ok (.ifCond .eq 7, 3) := dk_153 0 7 (dk_at dksX4_mirror_1 2 rfl rfl)
theorem dX4_mirror_29 : decode cX4_mirror 29 = .ok (.iconst 1, 1) := dk_4 (dk_at dksX4_mirror_1 5 rfl rfl)
theorem dX4_mirror_30 : decode cX4_mirror 30 = .ok (.goto 4, 3) := dk_167 0 4 (dk_at dksX4_mirror_1 6 rfl rfl)
theorem dX4_mirror_33 : decode cX4_mirror 33 = .ok (.iconst 0, 1) := dk_3 (dk_at dksX4_mirror_1 9 rfl rfl)
theorem dX4_mirror_34 : decode cX4_mirror 34 = .ok (.iastore, 1) := dk_79 (dk_at dksX4_mirror_1 10 rfl rfl)
theorem dX4_mirror_35 : decode cX4_mirror 35 = .ok (.iconst 1, 1) := dk_4 (dk_at dksX4_mirror_1 11 rfl rfl)
theorem dX4_mirror_36 : decode cX4_mirror 36 = .ok (.ireturn, 1) := dk_172 (dk_at dksX4_mirror_1 12 rfl rfl)
abbrev cX4_isPoint : ByteArray := prog_14_method_7_code
def yX4_isPoint : MethodName := ⟨RX4, "isPoint", "(II)Z"⟩
def dkwX4_isPoint_1 : List UInt8 := [184, 0, 75, 153, 0, 7, 4, 167, 0, 4, 3, 172]
abbrev dktX4_isPoint_1 : List UInt8 := dkwX4_isPoint_1 ++ []
def dkwX4_isPoint_0 : List UInt8 := [27, 3, 42, 180, 0, 7, 3, 46, 184, 0, 75, 153, 0, 21, 28, 3, 42, 180, 0, 7, 4, 46]
abbrev dktX4_isPoint_0 : List UInt8 := dkwX4_isPoint_0 ++ dktX4_isPoint_1
theorem dksX4_isPoint_0 : cX4_isPoint.data.toList.drop 0 = dktX4_isPoint_0 := by decide +kernel
theorem dksX4_isPoint_1 : cX4_isPoint.data.toList.drop 22 = dktX4_isPoint_1 := dk_seg dksX4_isPoint_0 22 rfl rfl
theorem dX4_isPoint_0 : decode cX4_isPoint 0 = .ok (.iload_n 1, 1) := dk_27 (dk_at dksX4_isPoint_0 0 rfl rfl)
theorem dX4_isPoint_1 : decode cX4_isPoint 1 = .ok (.iconst 0, 1) := dk_3 (dk_at dksX4_isPoint_0 1 rfl rfl)
theorem dX4_isPoint_2 : decode cX4_isPoint 2 = .ok (.aload_n 0, 1) := dk_42 (dk_at dksX4_isPoint_0 2 rfl rfl)
theorem dX4_isPoint_3 : decode cX4_isPoint 3 = .ok (.getfield 7, 3) := dk_180 0 7 (dk_at dksX4_isPoint_0 3 rfl rfl)
theorem dX4_isPoint_6 : decode cX4_isPoint 6 = .ok (.iconst 0, 1) := dk_3 (dk_at dksX4_isPoint_0 6 rfl rfl)
theorem dX4_isPoint_7 : decode cX4_isPoint 7 = .ok (.iaload, 1) := dk_46 (dk_at dksX4_isPoint_0 7 rfl rfl)
theorem dX4_isPoint_8 : decode cX4_isPoint 8 = .ok (.invokestatic 75, 3) := dk_184 0 75 (dk_at dksX4_isPoint_0 8 rfl rfl)
theorem dX4_isPoint_11 : decode cX4_isPoint 11 = .ok (.ifCond .eq 21, 3) := dk_153 0 21 (dk_at dksX4_isPoint_0 11 rfl rfl)
theorem dX4_isPoint_14 : decode cX4_isPoint 14 = .ok (.iload_n 2, 1) := dk_28 (dk_at dksX4_isPoint_0 14 rfl rfl)
theorem dX4_isPoint_15 : decode cX4_isPoint 15 = .ok (.iconst 0, 1) := dk_3 (dk_at dksX4_isPoint_0 15 rfl rfl)
theorem dX4_isPoint_16 : decode cX4_isPoint 16 = .ok (.aload_n 0, 1) := dk_42 (dk_at dksX4_isPoint_0 16 rfl rfl)
theorem dX4_isPoint_17 : decode cX4_isPoint 17 = .ok (.getfield 7, 3) := dk_180 0 7 (dk_at dksX4_isPoint_0 17 rfl rfl)
theorem dX4_isPoint_20 : decode cX4_isPoint 20 = .ok (.iconst 1, 1) := dk_4 (dk_at dksX4_isPoint_0 20 rfl rfl)
theorem dX4_isPoint_21 : decode cX4_isPoint 21 = .ok (.iaload, 1) := dk_46 (dk_at dksX4_isPoint_0 21 rfl rfl)
theorem dX4_isPoint_22 : decode cX4_isPoint 22 = .ok (.invokestatic 75, 3) := dk_184 0 75 (dk_at dksX4_isPoint_1 0 rfl rfl)
theorem dX4_isPoint_25 : decode cX4_isPoint 25 = .ok (.ifCond .eq 7, 3) := dk_153 0 7 (dk_at dksX4_isPoint_1 3 rfl rfl)
theorem dX4_isPoint_28 : decode cX4_isPoint 28 = .ok (.iconst 1, 1) := dk_4 (dk_at dksX4_isPoint_1 6 rfl rfl)
theorem dX4_isPoint_29 : decode cX4_isPoint 29 = .ok (.goto 4, 3) := dk_167 0 4 (dk_at dksX4_isPoint_1 7 rfl rfl)
theorem dX4_isPoint_32 : decode cX4_isPoint 32 = .ok (.iconst 0, 1) := dk_3 (dk_at dksX4_isPoint_1 10 rfl rfl)
theorem dX4_isPoint_33 : decode cX4_isPoint 33 = .ok (.ireturn, 1) := dk_172 (dk_at dksX4_isPoint_1 11 rfl rfl)
abbrev cX4_nest : ByteArray := prog_14_method_18_code
def yX4_nest : MethodName := ⟨RX4, "nest", "(II)I"⟩
def dkwX4_nest_3 : List UInt8 := [180, 0, 7, 8, 46, 4, 100, 172]
abbrev dktX4_nest_3 : List UInt8 := dkwX4_nest_3 ++ []
def dkwX4_nest_2 : List UInt8 := [5, 42, 180, 0, 7, 8, 46, 104, 96, 4, 96, 28, 79, 42, 180, 0, 7, 8, 92, 46, 4, 96, 79, 42]
abbrev dktX4_nest_2 : List UInt8 := dkwX4_nest_2 ++ dktX4_nest_3
def dkwX4_nest_1 : List UInt8 := [180, 0, 7, 17, 7, 48, 5, 42, 180, 0, 7, 8, 46, 104, 96, 27, 79, 42, 180, 0, 7, 17, 7, 48]
abbrev dktX4_nest_1 : List UInt8 := dkwX4_nest_1 ++ dktX4_nest_2
def dkwX4_nest_0 : List UInt8 := [42, 27, 28, 182, 0, 93, 153, 0, 14, 42, 180, 0, 7, 8, 46, 16, 6, 160, 0, 5, 2, 172, 42]
abbrev dktX4_nest_0 : List UInt8 := dkwX4_nest_0 ++ dktX4_nest_1
theorem dksX4_nest_0 : cX4_nest.data.toList.drop 0 = dktX4_nest_0 := by decide +kernel
theorem dksX4_nest_1 : cX4_nest.data.toList.drop 23 = dktX4_nest_1 := dk_seg dksX4_nest_0 23 rfl rfl
theorem dksX4_nest_2 : cX4_nest.data.toList.drop 47 = dktX4_nest_2 := dk_seg dksX4_nest_1 24 rfl rfl
theorem dksX4_nest_3 : cX4_nest.data.toList.drop 71 = dktX4_nest_3 := dk_seg dksX4_nest_2 24 rfl rfl
theorem dX4_nest_0 : decode cX4_nest 0 = .ok (.aload_n 0, 1) := dk_42 (dk_at dksX4_nest_0 0 rfl rfl)
theorem dX4_nest_1 : decode cX4_nest 1 = .ok (.iload_n 1, 1) := dk_27 (dk_at dksX4_nest_0 1 rfl rfl)
theorem dX4_nest_2 : decode cX4_nest 2 = .ok (.iload_n 2, 1) := dk_28 (dk_at dksX4_nest_0 2 rfl rfl)
theorem dX4_nest_3 : decode cX4_nest 3 = .ok (.invokevirtual 93, 3) := dk_182 0 93 (dk_at dksX4_nest_0 3 rfl rfl)
theorem dX4_nest_6 : decode cX4_nest 6 = .ok (.ifCond .eq 14, 3) := dk_153 0 14 (dk_at dksX4_nest_0 6 rfl rfl)
theorem dX4_nest_9 : decode cX4_nest 9 = .ok (.aload_n 0, 1) := dk_42 (dk_at dksX4_nest_0 9 rfl rfl)
theorem dX4_nest_10 : decode cX4_nest 10 = .ok (.getfield 7, 3) := dk_180 0 7 (dk_at dksX4_nest_0 10 rfl rfl)
theorem dX4_nest_13 : decode cX4_nest 13 = .ok (.iconst 5, 1) := dk_8 (dk_at dksX4_nest_0 13 rfl rfl)
theorem dX4_nest_14 : decode cX4_nest 14 = .ok (.iaload, 1) := dk_46 (dk_at dksX4_nest_0 14 rfl rfl)
theorem dX4_nest_15 : decode cX4_nest 15 = .ok (.bipush 6, 2) := dk_16 6 (dk_at dksX4_nest_0 15 rfl rfl)
theorem dX4_nest_17 : decode cX4_nest 17 = .ok (.if_icmp .ne 5, 3) := dk_160 0 5 (dk_at dksX4_nest_0 17 rfl rfl)
theorem dX4_nest_20 : decode cX4_nest 20 = .ok (.iconst (-1), 1) := dk_2 (dk_at dksX4_nest_0 20 rfl rfl)
theorem dX4_nest_21 : decode cX4_nest 21 = .ok (.ireturn, 1) := dk_172 (dk_at dksX4_nest_0 21 rfl rfl)
theorem dX4_nest_22 : decode cX4_nest 22 = .ok (.aload_n 0, 1) := dk_42 (dk_at dksX4_nest_0 22 rfl rfl)
theorem dX4_nest_23 : decode cX4_nest 23 = .ok (.getfield 7, 3) := dk_180 0 7 (dk_at dksX4_nest_1 0 rfl rfl)
theorem dX4_nest_26 : decode cX4_nest 26 = .ok (.sipush 1840, 3) := dk_17 7 48 (dk_at dksX4_nest_1 3 rfl rfl)
theorem dX4_nest_29 : decode cX4_nest 29 = .ok (.iconst 2, 1) := dk_5 (dk_at dksX4_nest_1 6 rfl rfl)
theorem dX4_nest_30 : decode cX4_nest 30 = .ok (.aload_n 0, 1) := dk_42 (dk_at dksX4_nest_1 7 rfl rfl)
theorem dX4_nest_31 : decode cX4_nest 31 = .ok (.getfield 7, 3) := dk_180 0 7 (dk_at dksX4_nest_1 8 rfl rfl)
theorem dX4_nest_34 : decode cX4_nest 34 = .ok (.iconst 5, 1) := dk_8 (dk_at dksX4_nest_1 11 rfl rfl)
theorem dX4_nest_35 : decode cX4_nest 35 = .ok (.iaload, 1) := dk_46 (dk_at dksX4_nest_1 12 rfl rfl)
theorem dX4_nest_36 : decode cX4_nest 36 = .ok (.imul, 1) := dk_104 (dk_at dksX4_nest_1 13 rfl rfl)
theorem dX4_nest_37 : decode cX4_nest 37 = .ok (.iadd, 1) := dk_96 (dk_at dksX4_nest_1 14 rfl rfl)
theorem dX4_nest_38 : decode cX4_nest 38 = .ok (.iload_n 1, 1) := dk_27 (dk_at dksX4_nest_1 15 rfl rfl)
theorem dX4_nest_39 : decode cX4_nest 39 = .ok (.iastore, 1) := dk_79 (dk_at dksX4_nest_1 16 rfl rfl)
theorem dX4_nest_40 : decode cX4_nest 40 = .ok (.aload_n 0, 1) := dk_42 (dk_at dksX4_nest_1 17 rfl rfl)
theorem dX4_nest_41 : decode cX4_nest 41 = .ok (.getfield 7, 3) := dk_180 0 7 (dk_at dksX4_nest_1 18 rfl rfl)
theorem dX4_nest_44 : decode cX4_nest 44 = .ok (.sipush 1840, 3) := dk_17 7 48 (dk_at dksX4_nest_1 21 rfl rfl)
theorem dX4_nest_47 : decode cX4_nest 47 = .ok (.iconst 2, 1) := dk_5 (dk_at dksX4_nest_2 0 rfl rfl)
theorem dX4_nest_48 : decode cX4_nest 48 = .ok (.aload_n 0, 1) := dk_42 (dk_at dksX4_nest_2 1 rfl rfl)
theorem dX4_nest_49 : decode cX4_nest 49 = .ok (.getfield 7, 3) := dk_180 0 7 (dk_at dksX4_nest_2 2 rfl rfl)
theorem dX4_nest_52 : decode cX4_nest 52 = .ok (.iconst 5, 1) := dk_8 (dk_at dksX4_nest_2 5 rfl rfl)
theorem dX4_nest_53 : decode cX4_nest 53 = .ok (.iaload, 1) := dk_46 (dk_at dksX4_nest_2 6 rfl rfl)
theorem dX4_nest_54 : decode cX4_nest 54 = .ok (.imul, 1) := dk_104 (dk_at dksX4_nest_2 7 rfl rfl)
theorem dX4_nest_55 : decode cX4_nest 55 = .ok (.iadd, 1) := dk_96 (dk_at dksX4_nest_2 8 rfl rfl)
theorem dX4_nest_56 : decode cX4_nest 56 = .ok (.iconst 1, 1) := dk_4 (dk_at dksX4_nest_2 9 rfl rfl)
theorem dX4_nest_57 : decode cX4_nest 57 = .ok (.iadd, 1) := dk_96 (dk_at dksX4_nest_2 10 rfl rfl)
theorem dX4_nest_58 : decode cX4_nest 58 = .ok (.iload_n 2, 1) := dk_28 (dk_at dksX4_nest_2 11 rfl rfl)
theorem dX4_nest_59 : decode cX4_nest 59 = .ok (.iastore, 1) := dk_79 (dk_at dksX4_nest_2 12 rfl rfl)
theorem dX4_nest_60 : decode cX4_nest 60 = .ok (.aload_n 0, 1) := dk_42 (dk_at dksX4_nest_2 13 rfl rfl)
theorem dX4_nest_61 : decode cX4_nest 61 = .ok (.getfield 7, 3) := dk_180 0 7 (dk_at dksX4_nest_2 14 rfl rfl)
theorem dX4_nest_64 : decode cX4_nest 64 = .ok (.iconst 5, 1) := dk_8 (dk_at dksX4_nest_2 17 rfl rfl)
theorem dX4_nest_65 : decode cX4_nest 65 = .ok (.dup2, 1) := dk_92 (dk_at dksX4_nest_2 18 rfl rfl)
theorem dX4_nest_66 : decode cX4_nest 66 = .ok (.iaload, 1) := dk_46 (dk_at dksX4_nest_2 19 rfl rfl)
theorem dX4_nest_67 : decode cX4_nest 67 = .ok (.iconst 1, 1) := dk_4 (dk_at dksX4_nest_2 20 rfl rfl)
theorem dX4_nest_68 : decode cX4_nest 68 = .ok (.iadd, 1) := dk_96 (dk_at dksX4_nest_2 21 rfl rfl)
theorem dX4_nest_69 : decode cX4_nest 69 = .ok (.iastore, 1) := dk_79 (dk_at dksX4_nest_2 22 rfl rfl)
theorem dX4_nest_70 : decode cX4_nest 70 = .ok (.aload_n 0, 1) := dk_42 (dk_at dksX4_nest_2 23 rfl rfl)
theorem dX4_nest_71 : decode cX4_nest 71 = .ok (.getfield 7, 3) := dk_180 0 7 (dk_at dksX4_nest_3 0 rfl rfl)
theorem dX4_nest_74 : decode cX4_nest 74 = .ok (.iconst 5, 1) := dk_8 (dk_at dksX4_nest_3 3 rfl rfl)
theorem dX4_nest_75 : decode cX4_nest 75 = .ok (.iaload, 1) := dk_46 (dk_at dksX4_nest_3 4 rfl rfl)
theorem dX4_nest_76 : decode cX4_nest 76 = .ok (.iconst 1, 1) := dk_4 (dk_at dksX4_nest_3 5 rfl rfl)
theorem dX4_nest_77 : decode cX4_nest 77 = .ok (.isub, 1) := dk_100 (dk_at dksX4_nest_3 6 rfl rfl)
theorem dX4_nest_78 : decode cX4_nest 78 = .ok (.ireturn, 1) := dk_172 (dk_at dksX4_nest_3 7 rfl rfl)
abbrev cX4_swallow : ByteArray := prog_14_method_19_code
def yX4_swallow : MethodName := ⟨RX4, "swallow", "(IIIII)I"⟩
def dkwX4_swallow_5 : List UInt8 := [180, 0, 7, 7, 92, 46, 4, 96, 79, 42, 180, 0, 7, 7, 46, 4, 100, 172]
abbrev dktX4_swallow_5 : List UInt8 := dkwX4_swallow_5 ++ []
def dkwX4_swallow_4 : List UInt8 := [42, 180, 0, 7, 21, 6, 6, 96, 21, 4, 79, 42, 180, 0, 7, 21, 6, 7, 96, 21, 5, 79, 42]
abbrev dktX4_swallow_4 : List UInt8 := dkwX4_swallow_4 ++ dktX4_swallow_5
def dkwX4_swallow_3 : List UInt8 := [21, 6, 27, 79, 42, 180, 0, 7, 21, 6, 4, 96, 28, 79, 42, 180, 0, 7, 21, 6, 5, 96, 29, 79]
abbrev dktX4_swallow_3 : List UInt8 := dkwX4_swallow_3 ++ dktX4_swallow_4
def dkwX4_swallow_2 : List UInt8 := [160, 0, 5, 2, 172, 17, 7, 63, 8, 42, 180, 0, 7, 7, 46, 104, 96, 54, 6, 42, 180, 0, 7]
abbrev dktX4_swallow_2 : List UInt8 := dkwX4_swallow_2 ++ dktX4_swallow_3
def dkwX4_swallow_1 : List UInt8 := [184, 0, 75, 153, 0, 24, 21, 5, 3, 6, 184, 0, 75, 153, 0, 14, 42, 180, 0, 7, 7, 46, 16, 8]
abbrev dktX4_swallow_1 : List UInt8 := dkwX4_swallow_1 ++ dktX4_swallow_2
def dkwX4_swallow_0 : List UInt8 := [42, 27, 28, 182, 0, 93, 153, 0, 44, 29, 3, 6, 184, 0, 75, 153, 0, 35, 21, 4, 3, 16, 60]
abbrev dktX4_swallow_0 : List UInt8 := dkwX4_swallow_0 ++ dktX4_swallow_1
theorem dksX4_swallow_0 : cX4_swallow.data.toList.drop 0 = dktX4_swallow_0 := by decide +kernel
theorem dksX4_swallow_1 : cX4_swallow.data.toList.drop 23 = dktX4_swallow_1 := dk_seg dksX4_swallow_0 23 rfl rfl
theorem dksX4_swallow_2 : cX4_swallow.data.toList.drop 47 = dktX4_swallow_2 := dk_seg dksX4_swallow_1 24 rfl rfl
theorem dksX4_swallow_3 : cX4_swallow.data.toList.drop 70 = dktX4_swallow_3 := dk_seg dksX4_swallow_2 23 rfl rfl
theorem dksX4_swallow_4 : cX4_swallow.data.toList.drop 94 = dktX4_swallow_4 := dk_seg dksX4_swallow_3 24 rfl rfl
theorem dksX4_swallow_5 : cX4_swallow.data.toList.drop 117 = dktX4_swallow_5 := dk_seg dksX4_swallow_4 23 rfl rfl
theorem dX4_swallow_0 : decode cX4_swallow 0 = .ok (.aload_n 0, 1) := dk_42 (dk_at dksX4_swallow_0 0 rfl rfl)
theorem dX4_swallow_1 : decode cX4_swallow 1 = .ok (.iload_n 1, 1) := dk_27 (dk_at dksX4_swallow_0 1 rfl rfl)
theorem dX4_swallow_2 : decode cX4_swallow 2 = .ok (.iload_n 2, 1) := dk_28 (dk_at dksX4_swallow_0 2 rfl rfl)
theorem dX4_swallow_3 : decode cX4_swallow 3 = .ok (.invokevirtual 93, 3) := dk_182 0 93 (dk_at dksX4_swallow_0 3 rfl rfl)
theorem dX4_swallow_6 : decode cX4_swallow 6 = .ok (.ifCond .eq 44, 3) := dk_153 0 44 (dk_at dksX4_swallow_0 6 rfl rfl)
theorem dX4_swallow_9 : decode cX4_swallow 9 = .ok (.iload_n 3, 1) := dk_29 (dk_at dksX4_swallow_0 9 rfl rfl)
theorem dX4_swallow_10 : decode cX4_swallow 10 = .ok (.iconst 0, 1) := dk_3 (dk_at dksX4_swallow_0 10 rfl rfl)
theorem dX4_swallow_11 : decode cX4_swallow 11 = .ok (.iconst 3, 1) := dk_6 (dk_at dksX4_swallow_0 11 rfl rfl)
theorem dX4_swallow_12 : decode cX4_swallow 12 = .ok (.invokestatic 75, 3) := dk_184 0 75 (dk_at dksX4_swallow_0 12 rfl rfl)
theorem dX4_swallow_15 : decode cX4_swallow 15 = .ok (.ifCond .eq 35, 3) := dk_153 0 35 (dk_at dksX4_swallow_0 15 rfl rfl)
theorem dX4_swallow_18 : decode cX4_swallow 18 = .ok (.iload 4, 2) := dk_21 4 (dk_at dksX4_swallow_0 18 rfl rfl)
theorem dX4_swallow_20 : decode cX4_swallow 20 = .ok (.iconst 0, 1) := dk_3 (dk_at dksX4_swallow_0 20 rfl rfl)
theorem dX4_swallow_21 : decode cX4_swallow 21 = .ok (.bipush 60, 2) := dk_16 60 (dk_at dksX4_swallow_0 21 rfl rfl)
theorem dX4_swallow_23 : decode cX4_swallow 23 = .ok (.invokestatic 75, 3) := dk_184 0 75 (dk_at dksX4_swallow_1 0 rfl rfl)
theorem dX4_swallow_26 : decode cX4_swallow 26 = .ok (.ifCond .eq 24, 3) := dk_153 0 24 (dk_at dksX4_swallow_1 3 rfl rfl)
theorem dX4_swallow_29 : decode cX4_swallow 29 = .ok (.iload 5, 2) := dk_21 5 (dk_at dksX4_swallow_1 6 rfl rfl)
theorem dX4_swallow_31 : decode cX4_swallow 31 = .ok (.iconst 0, 1) := dk_3 (dk_at dksX4_swallow_1 8 rfl rfl)
theorem dX4_swallow_32 : decode cX4_swallow 32 = .ok (.iconst 3, 1) := dk_6 (dk_at dksX4_swallow_1 9 rfl rfl)
theorem dX4_swallow_33 : decode cX4_swallow 33 = .ok (.invokestatic 75, 3) := dk_184 0 75 (dk_at dksX4_swallow_1 10 rfl rfl)
theorem dX4_swallow_36 : decode cX4_swallow 36 = .ok (.ifCond .eq 14, 3) := dk_153 0 14 (dk_at dksX4_swallow_1 13 rfl rfl)
theorem dX4_swallow_39 : decode cX4_swallow 39 = .ok (.aload_n 0, 1) := dk_42 (dk_at dksX4_swallow_1 16 rfl rfl)
theorem dX4_swallow_40 : decode cX4_swallow 40 = .ok (.getfield 7, 3) := dk_180 0 7 (dk_at dksX4_swallow_1 17 rfl rfl)
theorem dX4_swallow_43 : decode cX4_swallow 43 = .ok (.iconst 4, 1) := dk_7 (dk_at dksX4_swallow_1 20 rfl rfl)
theorem dX4_swallow_44 : decode cX4_swallow 44 = .ok (.iaload, 1) := dk_46 (dk_at dksX4_swallow_1 21 rfl rfl)
theorem dX4_swallow_45 : decode cX4_swallow 45 = .ok (.bipush 8, 2) := dk_16 8 (dk_at dksX4_swallow_1 22 rfl rfl)
theorem dX4_swallow_47 : decode cX4_swallow 47 = .ok (.if_icmp .ne 5, 3) := dk_160 0 5 (dk_at dksX4_swallow_2 0 rfl rfl)
theorem dX4_swallow_50 : decode cX4_swallow 50 = .ok (.iconst (-1), 1) := dk_2 (dk_at dksX4_swallow_2 3 rfl rfl)
theorem dX4_swallow_51 : decode cX4_swallow 51 = .ok (.ireturn, 1) := dk_172 (dk_at dksX4_swallow_2 4 rfl rfl)
theorem dX4_swallow_52 : decode cX4_swallow 52 = .ok (.sipush 1855, 3) := dk_17 7 63 (dk_at dksX4_swallow_2 5 rfl rfl)
theorem dX4_swallow_55 : decode cX4_swallow 55 = .ok (.iconst 5, 1) := dk_8 (dk_at dksX4_swallow_2 8 rfl rfl)
theorem dX4_swallow_56 : decode cX4_swallow 56 = .ok (.aload_n 0, 1) := dk_42 (dk_at dksX4_swallow_2 9 rfl rfl)
theorem dX4_swallow_57 : decode cX4_swallow 57 = .ok (.getfield 7, 3) := dk_180 0 7 (dk_at dksX4_swallow_2 10 rfl rfl)
theorem dX4_swallow_60 : decode cX4_swallow 60 = .ok (.iconst 4, 1) := dk_7 (dk_at dksX4_swallow_2 13 rfl rfl)
theorem dX4_swallow_61 : decode cX4_swallow 61 = .ok (.iaload, 1) := dk_46 (dk_at dksX4_swallow_2 14 rfl rfl)
theorem dX4_swallow_62 : decode cX4_swallow 62 = .ok (.imul, 1) := dk_104 (dk_at dksX4_swallow_2 15 rfl rfl)
theorem dX4_swallow_63 : decode cX4_swallow 63 = .ok (.iadd, 1) := dk_96 (dk_at dksX4_swallow_2 16 rfl rfl)
theorem dX4_swallow_64 : decode cX4_swallow 64 = .ok (.istore 6, 2) := dk_54 6 (dk_at dksX4_swallow_2 17 rfl rfl)
theorem dX4_swallow_66 : decode cX4_swallow 66 = .ok (.aload_n 0, 1) := dk_42 (dk_at dksX4_swallow_2 19 rfl rfl)
theorem dX4_swallow_67 : decode cX4_swallow 67 = .ok (.getfield 7, 3) := dk_180 0 7 (dk_at dksX4_swallow_2 20 rfl rfl)
theorem dX4_swallow_70 : decode cX4_swallow 70 = .ok (.iload 6, 2) := dk_21 6 (dk_at dksX4_swallow_3 0 rfl rfl)
theorem dX4_swallow_72 : decode cX4_swallow 72 = .ok (.iload_n 1, 1) := dk_27 (dk_at dksX4_swallow_3 2 rfl rfl)
theorem dX4_swallow_73 : decode cX4_swallow 73 = .ok (.iastore, 1) := dk_79 (dk_at dksX4_swallow_3 3 rfl rfl)
theorem dX4_swallow_74 : decode cX4_swallow 74 = .ok (.aload_n 0, 1) := dk_42 (dk_at dksX4_swallow_3 4 rfl rfl)
theorem dX4_swallow_75 : decode cX4_swallow 75 = .ok (.getfield 7, 3) := dk_180 0 7 (dk_at dksX4_swallow_3 5 rfl rfl)
theorem dX4_swallow_78 : decode cX4_swallow 78 = .ok (.iload 6, 2) := dk_21 6 (dk_at dksX4_swallow_3 8 rfl rfl)
theorem dX4_swallow_80 : decode cX4_swallow 80 = .ok (.iconst 1, 1) := dk_4 (dk_at dksX4_swallow_3 10 rfl rfl)
theorem dX4_swallow_81 : decode cX4_swallow 81 = .ok (.iadd, 1) := dk_96 (dk_at dksX4_swallow_3 11 rfl rfl)
theorem dX4_swallow_82 : decode cX4_swallow 82 = .ok (.iload_n 2, 1) := dk_28 (dk_at dksX4_swallow_3 12 rfl rfl)
theorem dX4_swallow_83 : decode cX4_swallow 83 = .ok (.iastore, 1) := dk_79 (dk_at dksX4_swallow_3 13 rfl rfl)
theorem dX4_swallow_84 : decode cX4_swallow 84 = .ok (.aload_n 0, 1) := dk_42 (dk_at dksX4_swallow_3 14 rfl rfl)
theorem dX4_swallow_85 : decode cX4_swallow 85 = .ok (.getfield 7, 3) := dk_180 0 7 (dk_at dksX4_swallow_3 15 rfl rfl)
theorem dX4_swallow_88 : decode cX4_swallow 88 = .ok (.iload 6, 2) := dk_21 6 (dk_at dksX4_swallow_3 18 rfl rfl)
theorem dX4_swallow_90 : decode cX4_swallow 90 = .ok (.iconst 2, 1) := dk_5 (dk_at dksX4_swallow_3 20 rfl rfl)
theorem dX4_swallow_91 : decode cX4_swallow 91 = .ok (.iadd, 1) := dk_96 (dk_at dksX4_swallow_3 21 rfl rfl)
theorem dX4_swallow_92 : decode cX4_swallow 92 = .ok (.iload_n 3, 1) := dk_29 (dk_at dksX4_swallow_3 22 rfl rfl)
theorem dX4_swallow_93 : decode cX4_swallow 93 = .ok (.iastore, 1) := dk_79 (dk_at dksX4_swallow_3 23 rfl rfl)
theorem dX4_swallow_94 : decode cX4_swallow 94 = .ok (.aload_n 0, 1) := dk_42 (dk_at dksX4_swallow_4 0 rfl rfl)
theorem dX4_swallow_95 : decode cX4_swallow 95 = .ok (.getfield 7, 3) := dk_180 0 7 (dk_at dksX4_swallow_4 1 rfl rfl)
theorem dX4_swallow_98 : decode cX4_swallow 98 = .ok (.iload 6, 2) := dk_21 6 (dk_at dksX4_swallow_4 4 rfl rfl)
theorem dX4_swallow_100 : decode cX4_swallow 100 = .ok (.iconst 3, 1) := dk_6 (dk_at dksX4_swallow_4 6 rfl rfl)
theorem dX4_swallow_101 : decode cX4_swallow 101 = .ok (.iadd, 1) := dk_96 (dk_at dksX4_swallow_4 7 rfl rfl)
theorem dX4_swallow_102 : decode cX4_swallow 102 = .ok (.iload 4, 2) := dk_21 4 (dk_at dksX4_swallow_4 8 rfl rfl)
theorem dX4_swallow_104 : decode cX4_swallow 104 = .ok (.iastore, 1) := dk_79 (dk_at dksX4_swallow_4 10 rfl rfl)
theorem dX4_swallow_105 : decode cX4_swallow 105 = .ok (.aload_n 0, 1) := dk_42 (dk_at dksX4_swallow_4 11 rfl rfl)
theorem dX4_swallow_106 : decode cX4_swallow 106 = .ok (.getfield 7, 3) := dk_180 0 7 (dk_at dksX4_swallow_4 12 rfl rfl)
theorem dX4_swallow_109 : decode cX4_swallow 109 = .ok (.iload 6, 2) := dk_21 6 (dk_at dksX4_swallow_4 15 rfl rfl)
theorem dX4_swallow_111 : decode cX4_swallow 111 = .ok (.iconst 4, 1) := dk_7 (dk_at dksX4_swallow_4 17 rfl rfl)
theorem dX4_swallow_112 : decode cX4_swallow 112 = .ok (.iadd, 1) := dk_96 (dk_at dksX4_swallow_4 18 rfl rfl)
theorem dX4_swallow_113 : decode cX4_swallow 113 = .ok (.iload 5, 2) := dk_21 5 (dk_at dksX4_swallow_4 19 rfl rfl)
theorem dX4_swallow_115 : decode cX4_swallow 115 = .ok (.iastore, 1) := dk_79 (dk_at dksX4_swallow_4 21 rfl rfl)
theorem dX4_swallow_116 : decode cX4_swallow 116 = .ok (.aload_n 0, 1) := dk_42 (dk_at dksX4_swallow_4 22 rfl rfl)
theorem dX4_swallow_117 : decode cX4_swallow 117 = .ok (.getfield 7, 3) := dk_180 0 7 (dk_at dksX4_swallow_5 0 rfl rfl)
theorem dX4_swallow_120 : decode cX4_swallow 120 = .ok (.iconst 4, 1) := dk_7 (dk_at dksX4_swallow_5 3 rfl rfl)
theorem dX4_swallow_121 : decode cX4_swallow 121 = .ok (.dup2, 1) := dk_92 (dk_at dksX4_swallow_5 4 rfl rfl)
theorem dX4_swallow_122 : decode cX4_swallow 122 = .ok (.iaload, 1) := dk_46 (dk_at dksX4_swallow_5 5 rfl rfl)
theorem dX4_swallow_123 : decode cX4_swallow 123 = .ok (.iconst 1, 1) := dk_4 (dk_at dksX4_swallow_5 6 rfl rfl)
theorem dX4_swallow_124 : decode cX4_swallow 124 = .ok (.iadd, 1) := dk_96 (dk_at dksX4_swallow_5 7 rfl rfl)
theorem dX4_swallow_125 : decode cX4_swallow 125 = .ok (.iastore, 1) := dk_79 (dk_at dksX4_swallow_5 8 rfl rfl)
theorem dX4_swallow_126 : decode cX4_swallow 126 = .ok (.aload_n 0, 1) := dk_42 (dk_at dksX4_swallow_5 9 rfl rfl)
theorem dX4_swallow_127 : decode cX4_swallow 127 = .ok (.getfield 7, 3) := dk_180 0 7 (dk_at dksX4_swallow_5 10 rfl rfl)
theorem dX4_swallow_130 : decode cX4_swallow 130 = .ok (.iconst 4, 1) := dk_7 (dk_at dksX4_swallow_5 13 rfl rfl)
theorem dX4_swallow_131 : decode cX4_swallow 131 = .ok (.iaload, 1) := dk_46 (dk_at dksX4_swallow_5 14 rfl rfl)
theorem dX4_swallow_132 : decode cX4_swallow 132 = .ok (.iconst 1, 1) := dk_4 (dk_at dksX4_swallow_5 15 rfl rfl)
theorem dX4_swallow_133 : decode cX4_swallow 133 = .ok (.isub, 1) := dk_100 (dk_at dksX4_swallow_5 16 rfl rfl)
theorem dX4_swallow_134 : decode cX4_swallow 134 = .ok (.ireturn, 1) := dk_172 (dk_at dksX4_swallow_5 17 rfl rfl)
abbrev cX4_feed : ByteArray := prog_14_method_20_code
def yX4_feed : MethodName := ⟨RX4, "feed", "(IIIII)I"⟩
def dkwX4_feed_5 : List UInt8 := [180, 0, 96, 172]
abbrev dktX4_feed_5 : List UInt8 := dkwX4_feed_5 ++ []
def dkwX4_feed_4 : List UInt8 := [122, 17, 0, 255, 126, 79, 42, 89, 180, 0, 96, 4, 96, 181, 0, 96, 132, 6, 1, 167, 255, 162, 42]
abbrev dktX4_feed_4 : List UInt8 := dkwX4_feed_4 ++ dktX4_feed_5
def dkwX4_feed_3 : List UInt8 := [21, 5, 54, 7, 42, 180, 0, 28, 42, 180, 0, 96, 21, 7, 16, 24, 16, 8, 21, 6, 7, 112, 104, 100]
abbrev dktX4_feed_3 : List UInt8 := dkwX4_feed_3 ++ dktX4_feed_4
def dkwX4_feed_2 : List UInt8 := [21, 6, 16, 12, 162, 0, 7, 29, 167, 0, 17, 21, 6, 16, 16, 162, 0, 8, 21, 4, 167, 0, 5]
abbrev dktX4_feed_2 : List UInt8 := dkwX4_feed_2 ++ dktX4_feed_3
def dkwX4_feed_1 : List UInt8 := [162, 0, 93, 21, 6, 7, 162, 0, 7, 27, 167, 0, 39, 21, 6, 16, 8, 162, 0, 7, 28, 167, 0, 28]
abbrev dktX4_feed_1 : List UInt8 := dkwX4_feed_1 ++ dktX4_feed_2
def dkwX4_feed_0 : List UInt8 := [42, 180, 0, 96, 16, 20, 96, 17, 1, 144, 164, 0, 5, 2, 172, 3, 54, 6, 21, 6, 16, 20]
abbrev dktX4_feed_0 : List UInt8 := dkwX4_feed_0 ++ dktX4_feed_1
theorem dksX4_feed_0 : cX4_feed.data.toList.drop 0 = dktX4_feed_0 := by decide +kernel
theorem dksX4_feed_1 : cX4_feed.data.toList.drop 22 = dktX4_feed_1 := dk_seg dksX4_feed_0 22 rfl rfl
theorem dksX4_feed_2 : cX4_feed.data.toList.drop 46 = dktX4_feed_2 := dk_seg dksX4_feed_1 24 rfl rfl
theorem dksX4_feed_3 : cX4_feed.data.toList.drop 69 = dktX4_feed_3 := dk_seg dksX4_feed_2 23 rfl rfl
theorem dksX4_feed_4 : cX4_feed.data.toList.drop 93 = dktX4_feed_4 := dk_seg dksX4_feed_3 24 rfl rfl
theorem dksX4_feed_5 : cX4_feed.data.toList.drop 116 = dktX4_feed_5 := dk_seg dksX4_feed_4 23 rfl rfl
theorem dX4_feed_0 : decode cX4_feed 0 = .ok (.aload_n 0, 1) := dk_42 (dk_at dksX4_feed_0 0 rfl rfl)
theorem dX4_feed_1 : decode cX4_feed 1 = .ok (.getfield 96, 3) := dk_180 0 96 (dk_at dksX4_feed_0 1 rfl rfl)
theorem dX4_feed_4 : decode cX4_feed 4 = .ok (.bipush 20, 2) := dk_16 20 (dk_at dksX4_feed_0 4 rfl rfl)
theorem dX4_feed_6 : decode cX4_feed 6 = .ok (.iadd, 1) := dk_96 (dk_at dksX4_feed_0 6 rfl rfl)
theorem dX4_feed_7 : decode cX4_feed 7 = .ok (.sipush 400, 3) := dk_17 1 144 (dk_at dksX4_feed_0 7 rfl rfl)
theorem dX4_feed_10 : decode cX4_feed 10 = .ok (.if_icmp .le 5, 3) := dk_164 0 5 (dk_at dksX4_feed_0 10 rfl rfl)
theorem dX4_feed_13 : decode cX4_feed 13 = .ok (.iconst (-1), 1) := dk_2 (dk_at dksX4_feed_0 13 rfl rfl)
theorem dX4_feed_14 : decode cX4_feed 14 = .ok (.ireturn, 1) := dk_172 (dk_at dksX4_feed_0 14 rfl rfl)
theorem dX4_feed_15 : decode cX4_feed 15 = .ok (.iconst 0, 1) := dk_3 (dk_at dksX4_feed_0 15 rfl rfl)
theorem dX4_feed_16 : decode cX4_feed 16 = .ok (.istore 6, 2) := dk_54 6 (dk_at dksX4_feed_0 16 rfl rfl)
theorem dX4_feed_18 : decode cX4_feed 18 = .ok (.iload 6, 2) := dk_21 6 (dk_at dksX4_feed_0 18 rfl rfl)
theorem dX4_feed_20 : decode cX4_feed 20 = .ok (.bipush 20, 2) := dk_16 20 (dk_at dksX4_feed_0 20 rfl rfl)
theorem dX4_feed_22 : decode cX4_feed 22 = .ok (.if_icmp .ge 93, 3) := dk_162 0 93 (dk_at dksX4_feed_1 0 rfl rfl)
theorem dX4_feed_25 : decode cX4_feed 25 = .ok (.iload 6, 2) := dk_21 6 (dk_at dksX4_feed_1 3 rfl rfl)
theorem dX4_feed_27 : decode cX4_feed 27 = .ok (.iconst 4, 1) := dk_7 (dk_at dksX4_feed_1 5 rfl rfl)
theorem dX4_feed_28 : decode cX4_feed 28 = .ok (.if_icmp .ge 7, 3) := dk_162 0 7 (dk_at dksX4_feed_1 6 rfl rfl)
theorem dX4_feed_31 : decode cX4_feed 31 = .ok (.iload_n 1, 1) := dk_27 (dk_at dksX4_feed_1 9 rfl rfl)
theorem dX4_feed_32 : decode cX4_feed 32 = .ok (.goto 39, 3) := dk_167 0 39 (dk_at dksX4_feed_1 10 rfl rfl)
theorem dX4_feed_35 : decode cX4_feed 35 = .ok (.iload 6, 2) := dk_21 6 (dk_at dksX4_feed_1 13 rfl rfl)
theorem dX4_feed_37 : decode cX4_feed 37 = .ok (.bipush 8, 2) := dk_16 8 (dk_at dksX4_feed_1 15 rfl rfl)
theorem dX4_feed_39 : decode cX4_feed 39 = .ok (.if_icmp .ge 7, 3) := dk_162 0 7 (dk_at dksX4_feed_1 17 rfl rfl)
theorem dX4_feed_42 : decode cX4_feed 42 = .ok (.iload_n 2, 1) := dk_28 (dk_at dksX4_feed_1 20 rfl rfl)
theorem dX4_feed_43 : decode cX4_feed 43 = .ok (.goto 28, 3) := dk_167 0 28 (dk_at dksX4_feed_1 21 rfl rfl)
theorem dX4_feed_46 : decode cX4_feed 46 = .ok (.iload 6, 2) := dk_21 6 (dk_at dksX4_feed_2 0 rfl rfl)
theorem dX4_feed_48 : decode cX4_feed 48 = .ok (.bipush 12, 2) := dk_16 12 (dk_at dksX4_feed_2 2 rfl rfl)
theorem dX4_feed_50 : decode cX4_feed 50 = .ok (.if_icmp .ge 7, 3) := dk_162 0 7 (dk_at dksX4_feed_2 4 rfl rfl)
theorem dX4_feed_53 : decode cX4_feed 53 = .ok (.iload_n 3, 1) := dk_29 (dk_at dksX4_feed_2 7 rfl rfl)
theorem dX4_feed_54 : decode cX4_feed 54 = .ok (.goto 17, 3) := dk_167 0 17 (dk_at dksX4_feed_2 8 rfl rfl)
theorem dX4_feed_57 : decode cX4_feed 57 = .ok (.iload 6, 2) := dk_21 6 (dk_at dksX4_feed_2 11 rfl rfl)
theorem dX4_feed_59 : decode cX4_feed 59 = .ok (.bipush 16, 2) := dk_16 16 (dk_at dksX4_feed_2 13 rfl rfl)
theorem dX4_feed_61 : decode cX4_feed 61 = .ok (.if_icmp .ge 8, 3) := dk_162 0 8 (dk_at dksX4_feed_2 15 rfl rfl)
theorem dX4_feed_64 : decode cX4_feed 64 = .ok (.iload 4, 2) := dk_21 4 (dk_at dksX4_feed_2 18 rfl rfl)
theorem dX4_feed_66 : decode cX4_feed 66 = .ok (.goto 5, 3) := dk_167 0 5 (dk_at dksX4_feed_2 20 rfl rfl)
theorem dX4_feed_69 : decode cX4_feed 69 = .ok (.iload 5, 2) := dk_21 5 (dk_at dksX4_feed_3 0 rfl rfl)
theorem dX4_feed_71 : decode cX4_feed 71 = .ok (.istore 7, 2) := dk_54 7 (dk_at dksX4_feed_3 2 rfl rfl)
theorem dX4_feed_73 : decode cX4_feed 73 = .ok (.aload_n 0, 1) := dk_42 (dk_at dksX4_feed_3 4 rfl rfl)
theorem dX4_feed_74 : decode cX4_feed 74 = .ok (.getfield 28, 3) := dk_180 0 28 (dk_at dksX4_feed_3 5 rfl rfl)
theorem dX4_feed_77 : decode cX4_feed 77 = .ok (.aload_n 0, 1) := dk_42 (dk_at dksX4_feed_3 8 rfl rfl)
theorem dX4_feed_78 : decode cX4_feed 78 = .ok (.getfield 96, 3) := dk_180 0 96 (dk_at dksX4_feed_3 9 rfl rfl)
theorem dX4_feed_81 : decode cX4_feed 81 = .ok (.iload 7, 2) := dk_21 7 (dk_at dksX4_feed_3 12 rfl rfl)
theorem dX4_feed_83 : decode cX4_feed 83 = .ok (.bipush 24, 2) := dk_16 24 (dk_at dksX4_feed_3 14 rfl rfl)
theorem dX4_feed_85 : decode cX4_feed 85 = .ok (.bipush 8, 2) := dk_16 8 (dk_at dksX4_feed_3 16 rfl rfl)
theorem dX4_feed_87 : decode cX4_feed 87 = .ok (.iload 6, 2) := dk_21 6 (dk_at dksX4_feed_3 18 rfl rfl)
theorem dX4_feed_89 : decode cX4_feed 89 = .ok (.iconst 4, 1) := dk_7 (dk_at dksX4_feed_3 20 rfl rfl)
theorem dX4_feed_90 : decode cX4_feed 90 = .ok (.irem, 1) := dk_112 (dk_at dksX4_feed_3 21 rfl rfl)
theorem dX4_feed_91 : decode cX4_feed 91 = .ok (.imul, 1) := dk_104 (dk_at dksX4_feed_3 22 rfl rfl)
theorem dX4_feed_92 : decode cX4_feed 92 = .ok (.isub, 1) := dk_100 (dk_at dksX4_feed_3 23 rfl rfl)
theorem dX4_feed_93 : decode cX4_feed 93 = .ok (.ishr, 1) := dk_122 (dk_at dksX4_feed_4 0 rfl rfl)
theorem dX4_feed_94 : decode cX4_feed 94 = .ok (.sipush 255, 3) := dk_17 0 255 (dk_at dksX4_feed_4 1 rfl rfl)
theorem dX4_feed_97 : decode cX4_feed 97 = .ok (.iand, 1) := dk_126 (dk_at dksX4_feed_4 4 rfl rfl)
theorem dX4_feed_98 : decode cX4_feed 98 = .ok (.iastore, 1) := dk_79 (dk_at dksX4_feed_4 5 rfl rfl)
theorem dX4_feed_99 : decode cX4_feed 99 = .ok (.aload_n 0, 1) := dk_42 (dk_at dksX4_feed_4 6 rfl rfl)
theorem dX4_feed_100 : decode cX4_feed 100 = .ok (.dup, 1) := dk_89 (dk_at dksX4_feed_4 7 rfl rfl)
theorem dX4_feed_101 : decode cX4_feed 101 = .ok (.getfield 96, 3) := dk_180 0 96 (dk_at dksX4_feed_4 8 rfl rfl)
theorem dX4_feed_104 : decode cX4_feed 104 = .ok (.iconst 1, 1) := dk_4 (dk_at dksX4_feed_4 11 rfl rfl)
theorem dX4_feed_105 : decode cX4_feed 105 = .ok (.iadd, 1) := dk_96 (dk_at dksX4_feed_4 12 rfl rfl)
theorem dX4_feed_106 : decode cX4_feed 106 = .ok (.putfield 96, 3) := dk_181 0 96 (dk_at dksX4_feed_4 13 rfl rfl)
theorem dX4_feed_109 : decode cX4_feed 109 = .ok (.iinc 6 1, 3) := dk_132 6 1 (dk_at dksX4_feed_4 16 rfl rfl)
theorem dX4_feed_112 : decode cX4_feed 112 = .ok (.goto (-94), 3) := dk_167 255 162 (dk_at dksX4_feed_4 19 rfl rfl)
theorem dX4_feed_115 : decode cX4_feed 115 = .ok (.aload_n 0, 1) := dk_42 (dk_at dksX4_feed_4 22 rfl rfl)
theorem dX4_feed_116 : decode cX4_feed 116 = .ok (.getfield 96, 3) := dk_180 0 96 (dk_at dksX4_feed_5 0 rfl rfl)
theorem dX4_feed_119 : decode cX4_feed 119 = .ok (.ireturn, 1) := dk_172 (dk_at dksX4_feed_5 3 rfl rfl)
abbrev cX4_end : ByteArray := prog_14_method_21_code
def yX4_end : MethodName := ⟨RX4, "end", "(I)Z"⟩
def dkwX4_end_0 : List UInt8 := [27, 3, 42, 180, 0, 96, 184, 0, 75, 154, 0, 5, 3, 172, 42, 27, 181, 0, 96, 4, 172]
abbrev dktX4_end_0 : List UInt8 := dkwX4_end_0 ++ []
theorem dksX4_end_0 : cX4_end.data.toList.drop 0 = dktX4_end_0 := by decide +kernel
theorem dX4_end_0 : decode cX4_end 0 = .ok (.iload_n 1, 1) := dk_27 (dk_at dksX4_end_0 0 rfl rfl)
theorem dX4_end_1 : decode cX4_end 1 = .ok (.iconst 0, 1) := dk_3 (dk_at dksX4_end_0 1 rfl rfl)
theorem dX4_end_2 : decode cX4_end 2 = .ok (.aload_n 0, 1) := dk_42 (dk_at dksX4_end_0 2 rfl rfl)
theorem dX4_end_3 : decode cX4_end 3 = .ok (.getfield 96, 3) := dk_180 0 96 (dk_at dksX4_end_0 3 rfl rfl)
theorem dX4_end_6 : decode cX4_end 6 = .ok (.invokestatic 75, 3) := dk_184 0 75 (dk_at dksX4_end_0 6 rfl rfl)
theorem dX4_end_9 : decode cX4_end 9 = .ok (.ifCond .ne 5, 3) := dk_154 0 5 (dk_at dksX4_end_0 9 rfl rfl)
theorem dX4_end_12 : decode cX4_end 12 = .ok (.iconst 0, 1) := dk_3 (dk_at dksX4_end_0 12 rfl rfl)
theorem dX4_end_13 : decode cX4_end 13 = .ok (.ireturn, 1) := dk_172 (dk_at dksX4_end_0 13 rfl rfl)
theorem dX4_end_14 : decode cX4_end 14 = .ok (.aload_n 0, 1) := dk_42 (dk_at dksX4_end_0 14 rfl rfl)
theorem dX4_end_15 : decode cX4_end 15 = .ok (.iload_n 1, 1) := dk_27 (dk_at dksX4_end_0 15 rfl rfl)
theorem dX4_end_16 : decode cX4_end 16 = .ok (.putfield 96, 3) := dk_181 0 96 (dk_at dksX4_end_0 16 rfl rfl)
theorem dX4_end_19 : decode cX4_end 19 = .ok (.iconst 1, 1) := dk_4 (dk_at dksX4_end_0 19 rfl rfl)
theorem dX4_end_20 : decode cX4_end 20 = .ok (.ireturn, 1) := dk_172 (dk_at dksX4_end_0 20 rfl rfl)
abbrev cX4_text : ByteArray := prog_14_method_40_code
def yX4_text : MethodName := ⟨RX4, "text", "(I)I"⟩
def dkwX4_text_11 : List UInt8 := [79, 132, 3, 1, 167, 255, 221, 42, 180, 0, 222, 172]
abbrev dktX4_text_11 : List UInt8 := dkwX4_text_11 ++ []
def dkwX4_text_10 : List UInt8 := [162, 0, 31, 42, 180, 0, 7, 17, 8, 152, 17, 3, 52, 27, 104, 96, 29, 96, 42, 180, 0, 25, 29, 46]
abbrev dktX4_text_10 : List UInt8 := dkwX4_text_10 ++ dktX4_text_11
def dkwX4_text_9 : List UInt8 := [6, 29, 104, 5, 96, 46, 79, 132, 3, 1, 167, 255, 172, 3, 62, 29, 5, 42, 180, 0, 188, 104]
abbrev dktX4_text_9 : List UInt8 := dkwX4_text_9 ++ dktX4_text_10
def dkwX4_text_8 : List UInt8 := [29, 104, 4, 96, 46, 79, 42, 180, 0, 7, 17, 8, 82, 16, 16, 27, 104, 96, 29, 96, 42, 180, 0, 22]
abbrev dktX4_text_8 : List UInt8 := dkwX4_text_8 ++ dktX4_text_9
def dkwX4_text_7 : List UInt8 := [6, 29, 104, 46, 79, 42, 180, 0, 7, 17, 8, 12, 16, 16, 27, 104, 96, 29, 96, 42, 180, 0, 22, 6]
abbrev dktX4_text_7 : List UInt8 := dkwX4_text_7 ++ dktX4_text_8
def dkwX4_text_6 : List UInt8 := [180, 0, 222, 162, 0, 82, 42, 180, 0, 7, 17, 7, 198, 16, 16, 27, 104, 96, 29, 96, 42, 180, 0, 22]
abbrev dktX4_text_6 : List UInt8 := dkwX4_text_6 ++ dktX4_text_7
def dkwX4_text_5 : List UInt8 := [28, 154, 0, 5, 2, 172, 42, 180, 0, 7, 17, 7, 193, 27, 96, 42, 180, 0, 222, 79, 3, 62, 29, 42]
abbrev dktX4_text_5 : List UInt8 := dkwX4_text_5 ++ dktX4_text_6
def dkwX4_text_4 : List UInt8 := [42, 42, 180, 0, 176, 181, 0, 225, 42, 28, 153, 0, 7, 2, 167, 0, 7, 42, 180, 0, 179, 181, 0, 37]
abbrev dktX4_text_4 : List UInt8 := dkwX4_text_4 ++ dktX4_text_5
def dkwX4_text_3 : List UInt8 := [180, 0, 222, 28, 153, 0, 7, 4, 167, 0, 4, 3, 96, 181, 0, 222, 167, 255, 222, 42, 3, 181, 0, 96]
abbrev dktX4_text_3 : List UInt8 := dkwX4_text_3 ++ dktX4_text_4
def dkwX4_text_2 : List UInt8 := [182, 0, 185, 4, 61, 28, 153, 0, 36, 42, 180, 0, 161, 153, 0, 29, 42, 182, 0, 228, 61, 42, 89]
abbrev dktX4_text_2 : List UInt8 := dkwX4_text_2 ++ dktX4_text_3
def dkwX4_text_1 : List UInt8 := [42, 2, 181, 0, 37, 2, 172, 42, 3, 181, 0, 99, 42, 3, 181, 0, 222, 42, 3, 181, 0, 188, 42]
abbrev dktX4_text_1 : List UInt8 := dkwX4_text_1 ++ dktX4_text_2
def dkwX4_text_0 : List UInt8 := [42, 3, 181, 0, 176, 27, 3, 6, 184, 0, 75, 154, 0, 20, 42, 3, 181, 0, 96, 42, 3, 181, 0, 225]
abbrev dktX4_text_0 : List UInt8 := dkwX4_text_0 ++ dktX4_text_1
theorem dksX4_text_0 : cX4_text.data.toList.drop 0 = dktX4_text_0 := by decide +kernel
theorem dksX4_text_1 : cX4_text.data.toList.drop 24 = dktX4_text_1 := dk_seg dksX4_text_0 24 rfl rfl
theorem dksX4_text_2 : cX4_text.data.toList.drop 47 = dktX4_text_2 := dk_seg dksX4_text_1 23 rfl rfl
theorem dksX4_text_3 : cX4_text.data.toList.drop 70 = dktX4_text_3 := dk_seg dksX4_text_2 23 rfl rfl
theorem dksX4_text_4 : cX4_text.data.toList.drop 94 = dktX4_text_4 := dk_seg dksX4_text_3 24 rfl rfl
theorem dksX4_text_5 : cX4_text.data.toList.drop 118 = dktX4_text_5 := dk_seg dksX4_text_4 24 rfl rfl
theorem dksX4_text_6 : cX4_text.data.toList.drop 142 = dktX4_text_6 := dk_seg dksX4_text_5 24 rfl rfl
theorem dksX4_text_7 : cX4_text.data.toList.drop 166 = dktX4_text_7 := dk_seg dksX4_text_6 24 rfl rfl
theorem dksX4_text_8 : cX4_text.data.toList.drop 190 = dktX4_text_8 := dk_seg dksX4_text_7 24 rfl rfl
theorem dksX4_text_9 : cX4_text.data.toList.drop 214 = dktX4_text_9 := dk_seg dksX4_text_8 24 rfl rfl
theorem dksX4_text_10 : cX4_text.data.toList.drop 236 = dktX4_text_10 := dk_seg dksX4_text_9 22 rfl rfl
theorem dksX4_text_11 : cX4_text.data.toList.drop 260 = dktX4_text_11 := dk_seg dksX4_text_10 24 rfl rfl
theorem dX4_text_0 : decode cX4_text 0 = .ok (.aload_n 0, 1) := dk_42 (dk_at dksX4_text_0 0 rfl rfl)
theorem dX4_text_1 : decode cX4_text 1 = .ok (.iconst 0, 1) := dk_3 (dk_at dksX4_text_0 1 rfl rfl)
theorem dX4_text_2 : decode cX4_text 2 = .ok (.putfield 176, 3) := dk_181 0 176 (dk_at dksX4_text_0 2 rfl rfl)
theorem dX4_text_5 : decode cX4_text 5 = .ok (.iload_n 1, 1) := dk_27 (dk_at dksX4_text_0 5 rfl rfl)
theorem dX4_text_6 : decode cX4_text 6 = .ok (.iconst 0, 1) := dk_3 (dk_at dksX4_text_0 6 rfl rfl)
theorem dX4_text_7 : decode cX4_text 7 = .ok (.iconst 3, 1) := dk_6 (dk_at dksX4_text_0 7 rfl rfl)
theorem dX4_text_8 : decode cX4_text 8 = .ok (.invokestatic 75, 3) := dk_184 0 75 (dk_at dksX4_text_0 8 rfl rfl)
theorem dX4_text_11 : decode cX4_text 11 = .ok (.ifCond .ne 20, 3) := dk_154 0 20 (dk_at dksX4_text_0 11 rfl rfl)
theorem dX4_text_14 : decode cX4_text 14 = .ok (.aload_n 0, 1) := dk_42 (dk_at dksX4_text_0 14 rfl rfl)
theorem dX4_text_15 : decode cX4_text 15 = .ok (.iconst 0, 1) := dk_3 (dk_at dksX4_text_0 15 rfl rfl)
theorem dX4_text_16 : decode cX4_text 16 = .ok (.putfield 96, 3) := dk_181 0 96 (dk_at dksX4_text_0 16 rfl rfl)
theorem dX4_text_19 : decode cX4_text 19 = .ok (.aload_n 0, 1) := dk_42 (dk_at dksX4_text_0 19 rfl rfl)
theorem dX4_text_20 : decode cX4_text 20 = .ok (.iconst 0, 1) := dk_3 (dk_at dksX4_text_0 20 rfl rfl)
theorem dX4_text_21 : decode cX4_text 21 = .ok (.putfield 225, 3) := dk_181 0 225 (dk_at dksX4_text_0 21 rfl rfl)
theorem dX4_text_24 : decode cX4_text 24 = .ok (.aload_n 0, 1) := dk_42 (dk_at dksX4_text_1 0 rfl rfl)
theorem dX4_text_25 : decode cX4_text 25 = .ok (.iconst (-1), 1) := dk_2 (dk_at dksX4_text_1 1 rfl rfl)
theorem dX4_text_26 : decode cX4_text 26 = .ok (.putfield 37, 3) := dk_181 0 37 (dk_at dksX4_text_1 2 rfl rfl)
theorem dX4_text_29 : decode cX4_text 29 = .ok (.iconst (-1), 1) := dk_2 (dk_at dksX4_text_1 5 rfl rfl)
theorem dX4_text_30 : decode cX4_text 30 = .ok (.ireturn, 1) := dk_172 (dk_at dksX4_text_1 6 rfl rfl)
theorem dX4_text_31 : decode cX4_text 31 = .ok (.aload_n 0, 1) := dk_42 (dk_at dksX4_text_1 7 rfl rfl)
theorem dX4_text_32 : decode cX4_text 32 = .ok (.iconst 0, 1) := dk_3 (dk_at dksX4_text_1 8 rfl rfl)
theorem dX4_text_33 : decode cX4_text 33 = .ok (.putfield 99, 3) := dk_181 0 99 (dk_at dksX4_text_1 9 rfl rfl)
theorem dX4_text_36 : decode cX4_text 36 = .ok (.aload_n 0, 1) := dk_42 (dk_at dksX4_text_1 12 rfl rfl)
theorem dX4_text_37 : decode cX4_text 37 = .ok (.iconst 0, 1) := dk_3 (dk_at dksX4_text_1 13 rfl rfl)
theorem dX4_text_38 : decode cX4_text 38 = .ok (.putfield 222, 3) := dk_181 0 222 (dk_at dksX4_text_1 14 rfl rfl)
theorem dX4_text_41 : decode cX4_text 41 = .ok (.aload_n 0, 1) := dk_42 (dk_at dksX4_text_1 17 rfl rfl)
theorem dX4_text_42 : decode cX4_text 42 = .ok (.iconst 0, 1) := dk_3 (dk_at dksX4_text_1 18 rfl rfl)
theorem dX4_text_43 : decode cX4_text 43 = .ok (.putfield 188, 3) := dk_181 0 188 (dk_at dksX4_text_1 19 rfl rfl)
theorem dX4_text_46 : decode cX4_text 46 = .ok (.aload_n 0, 1) := dk_42 (dk_at dksX4_text_1 22 rfl rfl)
theorem dX4_text_47 : decode cX4_text 47 = .ok (.invokevirtual 185, 3) := dk_182 0 185 (dk_at dksX4_text_2 0 rfl rfl)
theorem dX4_text_50 : decode cX4_text 50 = .ok (.iconst 1, 1) := dk_4 (dk_at dksX4_text_2 3 rfl rfl)
theorem dX4_text_51 : decode cX4_text 51 = .ok (.istore_n 2, 1) := dk_61 (dk_at dksX4_text_2 4 rfl rfl)
theorem dX4_text_52 : decode cX4_text 52 = .ok (.iload_n 2, 1) := dk_28 (dk_at dksX4_text_2 5 rfl rfl)
theorem dX4_text_53 : decode cX4_text 53 = .ok (.ifCond .eq 36, 3) := dk_153 0 36 (dk_at dksX4_text_2 6 rfl rfl)
theorem dX4_text_56 : decode cX4_text 56 = .ok (.aload_n 0, 1) := dk_42 (dk_at dksX4_text_2 9 rfl rfl)
theorem dX4_text_57 : decode cX4_text 57 = .ok (.getfield 161, 3) := dk_180 0 161 (dk_at dksX4_text_2 10 rfl rfl)
theorem dX4_text_60 : decode cX4_text 60 = .ok (.ifCond .eq 29, 3) := dk_153 0 29 (dk_at dksX4_text_2 13 rfl rfl)
theorem dX4_text_63 : decode cX4_text 63 = .ok (.aload_n 0, 1) := dk_42 (dk_at dksX4_text_2 16 rfl rfl)
theorem dX4_text_64 : decode cX4_text 64 = .ok (.invokevirtual 228, 3) := dk_182 0 228 (dk_at dksX4_text_2 17 rfl rfl)
theorem dX4_text_67 : decode cX4_text 67 = .ok (.istore_n 2, 1) := dk_61 (dk_at dksX4_text_2 20 rfl rfl)
theorem dX4_text_68 : decode cX4_text 68 = .ok (.aload_n 0, 1) := dk_42 (dk_at dksX4_text_2 21 rfl rfl)
theorem dX4_text_69 : decode cX4_text 69 = .ok (.dup, 1) := dk_89 (dk_at dksX4_text_2 22 rfl rfl)
theorem dX4_text_70 : decode cX4_text 70 = .ok (.getfield 222, 3) := dk_180 0 222 (dk_at dksX4_text_3 0 rfl rfl)
theorem dX4_text_73 : decode cX4_text 73 = .ok (.iload_n 2, 1) := dk_28 (dk_at dksX4_text_3 3 rfl rfl)
theorem dX4_text_74 : decode cX4_text 74 = .ok (.ifCond .eq 7, 3) := dk_153 0 7 (dk_at dksX4_text_3 4 rfl rfl)
theorem dX4_text_77 : decode cX4_text 77 = .ok (.iconst 1, 1) := dk_4 (dk_at dksX4_text_3 7 rfl rfl)
theorem dX4_text_78 : decode cX4_text 78 = .ok (.goto 4, 3) := dk_167 0 4 (dk_at dksX4_text_3 8 rfl rfl)
theorem dX4_text_81 : decode cX4_text 81 = .ok (.iconst 0, 1) := dk_3 (dk_at dksX4_text_3 11 rfl rfl)
theorem dX4_text_82 : decode cX4_text 82 = .ok (.iadd, 1) := dk_96 (dk_at dksX4_text_3 12 rfl rfl)
theorem dX4_text_83 : decode cX4_text 83 = .ok (.putfield 222, 3) := dk_181 0 222 (dk_at dksX4_text_3 13 rfl rfl)
theorem dX4_text_86 : decode cX4_text 86 = .ok (.goto (-34), 3) := dk_167 255 222 (dk_at dksX4_text_3 16 rfl rfl)
theorem dX4_text_89 : decode cX4_text 89 = .ok (.aload_n 0, 1) := dk_42 (dk_at dksX4_text_3 19 rfl rfl)
theorem dX4_text_90 : decode cX4_text 90 = .ok (.iconst 0, 1) := dk_3 (dk_at dksX4_text_3 20 rfl rfl)
theorem dX4_text_91 : decode cX4_text 91 = .ok (.putfield 96, 3) := dk_181 0 96 (dk_at dksX4_text_3 21 rfl rfl)
theorem dX4_text_94 : decode cX4_text 94 = .ok (.aload_n 0, 1) := dk_42 (dk_at dksX4_text_4 0 rfl rfl)
theorem dX4_text_95 : decode cX4_text 95 = .ok (.aload_n 0, 1) := dk_42 (dk_at dksX4_text_4 1 rfl rfl)
theorem dX4_text_96 : decode cX4_text 96 = .ok (.getfield 176, 3) := dk_180 0 176 (dk_at dksX4_text_4 2 rfl rfl)
theorem dX4_text_99 : decode cX4_text 99 = .ok (.putfield 225, 3) := dk_181 0 225 (dk_at dksX4_text_4 5 rfl rfl)
theorem dX4_text_102 : decode cX4_text 102 = .ok (.aload_n 0, 1) := dk_42 (dk_at dksX4_text_4 8 rfl rfl)
theorem dX4_text_103 : decode cX4_text 103 = .ok (.iload_n 2, 1) := dk_28 (dk_at dksX4_text_4 9 rfl rfl)
theorem dX4_text_104 : decode cX4_text 104 = .ok (.ifCond .eq 7, 3) := dk_153 0 7 (dk_at dksX4_text_4 10 rfl rfl)
theorem dX4_text_107 : decode cX4_text 107 = .ok (.iconst (-1), 1) := dk_2 (dk_at dksX4_text_4 13 rfl rfl)
theorem dX4_text_108 : decode cX4_text 108 = .ok (.goto 7, 3) := dk_167 0 7 (dk_at dksX4_text_4 14 rfl rfl)
theorem dX4_text_111 : decode cX4_text 111 = .ok (.aload_n 0, 1) := dk_42 (dk_at dksX4_text_4 17 rfl rfl)
theorem dX4_text_112 : decode cX4_text 112 = .ok (.getfield 179, 3) := dk_180 0 179 (dk_at dksX4_text_4 18 rfl rfl)
theorem dX4_text_115 : decode cX4_text 115 = .ok (.putfield 37, 3) := dk_181 0 37 (dk_at dksX4_text_4 21 rfl rfl)
theorem dX4_text_118 : decode cX4_text 118 = .ok (.iload_n 2, 1) := dk_28 (dk_at dksX4_text_5 0 rfl rfl)
theorem dX4_text_119 : decode cX4_text 119 = .ok (.ifCond .ne 5, 3) := dk_154 0 5 (dk_at dksX4_text_5 1 rfl rfl)
theorem dX4_text_122 : decode cX4_text 122 = .ok (.iconst (-1), 1) := dk_2 (dk_at dksX4_text_5 4 rfl rfl)
theorem dX4_text_123 : decode cX4_text 123 = .ok (.ireturn, 1) := dk_172 (dk_at dksX4_text_5 5 rfl rfl)
theorem dX4_text_124 : decode cX4_text 124 = .ok (.aload_n 0, 1) := dk_42 (dk_at dksX4_text_5 6 rfl rfl)
theorem dX4_text_125 : decode cX4_text 125 = .ok (.getfield 7, 3) := dk_180 0 7 (dk_at dksX4_text_5 7 rfl rfl)
theorem dX4_text_128 : decode cX4_text 128 = .ok (.sipush 1985, 3) := dk_17 7 193 (dk_at dksX4_text_5 10 rfl rfl)
theorem dX4_text_131 : decode cX4_text 131 = .ok (.iload_n 1, 1) := dk_27 (dk_at dksX4_text_5 13 rfl rfl)
theorem dX4_text_132 : decode cX4_text 132 = .ok (.iadd, 1) := dk_96 (dk_at dksX4_text_5 14 rfl rfl)
theorem dX4_text_133 : decode cX4_text 133 = .ok (.aload_n 0, 1) := dk_42 (dk_at dksX4_text_5 15 rfl rfl)
theorem dX4_text_134 : decode cX4_text 134 = .ok (.getfield 222, 3) := dk_180 0 222 (dk_at dksX4_text_5 16 rfl rfl)
theorem dX4_text_137 : decode cX4_text 137 = .ok (.iastore, 1) := dk_79 (dk_at dksX4_text_5 19 rfl rfl)
theorem dX4_text_138 : decode cX4_text 138 = .ok (.iconst 0, 1) := dk_3 (dk_at dksX4_text_5 20 rfl rfl)
theorem dX4_text_139 : decode cX4_text 139 = .ok (.istore_n 3, 1) := dk_62 (dk_at dksX4_text_5 21 rfl rfl)
theorem dX4_text_140 : decode cX4_text 140 = .ok (.iload_n 3, 1) := dk_29 (dk_at dksX4_text_5 22 rfl rfl)
theorem dX4_text_141 : decode cX4_text 141 = .ok (.aload_n 0, 1) := dk_42 (dk_at dksX4_text_5 23 rfl rfl)
theorem dX4_text_142 : decode cX4_text 142 = .ok (.getfield 222, 3) := dk_180 0 222 (dk_at dksX4_text_6 0 rfl rfl)
theorem dX4_text_145 : decode cX4_text 145 = .ok (.if_icmp .ge 82, 3) := dk_162 0 82 (dk_at dksX4_text_6 3 rfl rfl)
theorem dX4_text_148 : decode cX4_text 148 = .ok (.aload_n 0, 1) := dk_42 (dk_at dksX4_text_6 6 rfl rfl)
theorem dX4_text_149 : decode cX4_text 149 = .ok (.getfield 7, 3) := dk_180 0 7 (dk_at dksX4_text_6 7 rfl rfl)
theorem dX4_text_152 : decode cX4_text 152 = .ok (.sipush 1990, 3) := dk_17 7 198 (dk_at dksX4_text_6 10 rfl rfl)
theorem dX4_text_155 : decode cX4_text 155 = .ok (.bipush 16, 2) := dk_16 16 (dk_at dksX4_text_6 13 rfl rfl)
theorem dX4_text_157 : decode cX4_text 157 = .ok (.iload_n 1, 1) := dk_27 (dk_at dksX4_text_6 15 rfl rfl)
theorem dX4_text_158 : decode cX4_text 158 = .ok (.imul, 1) := dk_104 (dk_at dksX4_text_6 16 rfl rfl)
theorem dX4_text_159 : decode cX4_text 159 = .ok (.iadd, 1) := dk_96 (dk_at dksX4_text_6 17 rfl rfl)
theorem dX4_text_160 : decode cX4_text 160 = .ok (.iload_n 3, 1) := dk_29 (dk_at dksX4_text_6 18 rfl rfl)
theorem dX4_text_161 : decode cX4_text 161 = .ok (.iadd, 1) := dk_96 (dk_at dksX4_text_6 19 rfl rfl)
theorem dX4_text_162 : decode cX4_text 162 = .ok (.aload_n 0, 1) := dk_42 (dk_at dksX4_text_6 20 rfl rfl)
theorem dX4_text_163 : decode cX4_text 163 = .ok (.getfield 22, 3) := dk_180 0 22 (dk_at dksX4_text_6 21 rfl rfl)
theorem dX4_text_166 : decode cX4_text 166 = .ok (.iconst 3, 1) := dk_6 (dk_at dksX4_text_7 0 rfl rfl)
theorem dX4_text_167 : decode cX4_text 167 = .ok (.iload_n 3, 1) := dk_29 (dk_at dksX4_text_7 1 rfl rfl)
theorem dX4_text_168 : decode cX4_text 168 = .ok (.imul, 1) := dk_104 (dk_at dksX4_text_7 2 rfl rfl)
theorem dX4_text_169 : decode cX4_text 169 = .ok (.iaload, 1) := dk_46 (dk_at dksX4_text_7 3 rfl rfl)
theorem dX4_text_170 : decode cX4_text 170 = .ok (.iastore, 1) := dk_79 (dk_at dksX4_text_7 4 rfl rfl)
theorem dX4_text_171 : decode cX4_text 171 = .ok (.aload_n 0, 1) := dk_42 (dk_at dksX4_text_7 5 rfl rfl)
theorem dX4_text_172 : decode cX4_text 172 = .ok (.getfield 7, 3) := dk_180 0 7 (dk_at dksX4_text_7 6 rfl rfl)
theorem dX4_text_175 : decode cX4_text 175 = .ok (.sipush 2060, 3) := dk_17 8 12 (dk_at dksX4_text_7 9 rfl rfl)
theorem dX4_text_178 : decode cX4_text 178 = .ok (.bipush 16, 2) := dk_16 16 (dk_at dksX4_text_7 12 rfl rfl)
theorem dX4_text_180 : decode cX4_text 180 = .ok (.iload_n 1, 1) := dk_27 (dk_at dksX4_text_7 14 rfl rfl)
theorem dX4_text_181 : decode cX4_text 181 = .ok (.imul, 1) := dk_104 (dk_at dksX4_text_7 15 rfl rfl)
theorem dX4_text_182 : decode cX4_text 182 = .ok (.iadd, 1) := dk_96 (dk_at dksX4_text_7 16 rfl rfl)
theorem dX4_text_183 : decode cX4_text 183 = .ok (.iload_n 3, 1) := dk_29 (dk_at dksX4_text_7 17 rfl rfl)
theorem dX4_text_184 : decode cX4_text 184 = .ok (.iadd, 1) := dk_96 (dk_at dksX4_text_7 18 rfl rfl)
theorem dX4_text_185 : decode cX4_text 185 = .ok (.aload_n 0, 1) := dk_42 (dk_at dksX4_text_7 19 rfl rfl)
theorem dX4_text_186 : decode cX4_text 186 = .ok (.getfield 22, 3) := dk_180 0 22 (dk_at dksX4_text_7 20 rfl rfl)
theorem dX4_text_189 : decode cX4_text 189 = .ok (.iconst 3, 1) := dk_6 (dk_at dksX4_text_7 23 rfl rfl)
theorem dX4_text_190 : decode cX4_text 190 = .ok (.iload_n 3, 1) := dk_29 (dk_at dksX4_text_8 0 rfl rfl)
theorem dX4_text_191 : decode cX4_text 191 = .ok (.imul, 1) := dk_104 (dk_at dksX4_text_8 1 rfl rfl)
theorem dX4_text_192 : decode cX4_text 192 = .ok (.iconst 1, 1) := dk_4 (dk_at dksX4_text_8 2 rfl rfl)
theorem dX4_text_193 : decode cX4_text 193 = .ok (.iadd, 1) := dk_96 (dk_at dksX4_text_8 3 rfl rfl)
theorem dX4_text_194 : decode cX4_text 194 = .ok (.iaload, 1) := dk_46 (dk_at dksX4_text_8 4 rfl rfl)
theorem dX4_text_195 : decode cX4_text 195 = .ok (.iastore, 1) := dk_79 (dk_at dksX4_text_8 5 rfl rfl)
theorem dX4_text_196 : decode cX4_text 196 = .ok (.aload_n 0, 1) := dk_42 (dk_at dksX4_text_8 6 rfl rfl)
theorem dX4_text_197 : decode cX4_text 197 = .ok (.getfield 7, 3) := dk_180 0 7 (dk_at dksX4_text_8 7 rfl rfl)
theorem dX4_text_200 : decode cX4_text 200 = .ok (.sipush 2130, 3) := dk_17 8 82 (dk_at dksX4_text_8 10 rfl rfl)
theorem dX4_text_203 : decode cX4_text 203 = .ok (.bipush 16, 2) := dk_16 16 (dk_at dksX4_text_8 13 rfl rfl)
theorem dX4_text_205 : decode cX4_text 205 = .ok (.iload_n 1, 1) := dk_27 (dk_at dksX4_text_8 15 rfl rfl)
theorem dX4_text_206 : decode cX4_text 206 = .ok (.imul, 1) := dk_104 (dk_at dksX4_text_8 16 rfl rfl)
theorem dX4_text_207 : decode cX4_text 207 = .ok (.iadd, 1) := dk_96 (dk_at dksX4_text_8 17 rfl rfl)
theorem dX4_text_208 : decode cX4_text 208 = .ok (.iload_n 3, 1) := dk_29 (dk_at dksX4_text_8 18 rfl rfl)
theorem dX4_text_209 : decode cX4_text 209 = .ok (.iadd, 1) := dk_96 (dk_at dksX4_text_8 19 rfl rfl)
theorem dX4_text_210 : decode cX4_text 210 = .ok (.aload_n 0, 1) := dk_42 (dk_at dksX4_text_8 20 rfl rfl)
theorem dX4_text_211 : decode cX4_text 211 = .ok (.getfield 22, 3) := dk_180 0 22 (dk_at dksX4_text_8 21 rfl rfl)
theorem dX4_text_214 : decode cX4_text 214 = .ok (.iconst 3, 1) := dk_6 (dk_at dksX4_text_9 0 rfl rfl)
theorem dX4_text_215 : decode cX4_text 215 = .ok (.iload_n 3, 1) := dk_29 (dk_at dksX4_text_9 1 rfl rfl)
theorem dX4_text_216 : decode cX4_text 216 = .ok (.imul, 1) := dk_104 (dk_at dksX4_text_9 2 rfl rfl)
theorem dX4_text_217 : decode cX4_text 217 = .ok (.iconst 2, 1) := dk_5 (dk_at dksX4_text_9 3 rfl rfl)
theorem dX4_text_218 : decode cX4_text 218 = .ok (.iadd, 1) := dk_96 (dk_at dksX4_text_9 4 rfl rfl)
theorem dX4_text_219 : decode cX4_text 219 = .ok (.iaload, 1) := dk_46 (dk_at dksX4_text_9 5 rfl rfl)
theorem dX4_text_220 : decode cX4_text 220 = .ok (.iastore, 1) := dk_79 (dk_at dksX4_text_9 6 rfl rfl)
theorem dX4_text_221 : decode cX4_text 221 = .ok (.iinc 3 1, 3) := dk_132 3 1 (dk_at dksX4_text_9 7 rfl rfl)
theorem dX4_text_224 : decode cX4_text 224 = .ok (.goto (-84), 3) := dk_167 255 172 (dk_at dksX4_text_9 10 rfl rfl)
theorem dX4_text_227 : decode cX4_text 227 = .ok (.iconst 0, 1) := dk_3 (dk_at dksX4_text_9 13 rfl rfl)
theorem dX4_text_228 : decode cX4_text 228 = .ok (.istore_n 3, 1) := dk_62 (dk_at dksX4_text_9 14 rfl rfl)
theorem dX4_text_229 : decode cX4_text 229 = .ok (.iload_n 3, 1) := dk_29 (dk_at dksX4_text_9 15 rfl rfl)
theorem dX4_text_230 : decode cX4_text 230 = .ok (.iconst 2, 1) := dk_5 (dk_at dksX4_text_9 16 rfl rfl)
theorem dX4_text_231 : decode cX4_text 231 = .ok (.aload_n 0, 1) := dk_42 (dk_at dksX4_text_9 17 rfl rfl)
theorem dX4_text_232 : decode cX4_text 232 = .ok (.getfield 188, 3) := dk_180 0 188 (dk_at dksX4_text_9 18 rfl rfl)
theorem dX4_text_235 : decode cX4_text 235 = .ok (.imul, 1) := dk_104 (dk_at dksX4_text_9 21 rfl rfl)
theorem dX4_text_236 : decode cX4_text 236 = .ok (.if_icmp .ge 31, 3) := dk_162 0 31 (dk_at dksX4_text_10 0 rfl rfl)
theorem dX4_text_239 : decode cX4_text 239 = .ok (.aload_n 0, 1) := dk_42 (dk_at dksX4_text_10 3 rfl rfl)
theorem dX4_text_240 : decode cX4_text 240 = .ok (.getfield 7, 3) := dk_180 0 7 (dk_at dksX4_text_10 4 rfl rfl)
theorem dX4_text_243 : decode cX4_text 243 = .ok (.sipush 2200, 3) := dk_17 8 152 (dk_at dksX4_text_10 7 rfl rfl)
theorem dX4_text_246 : decode cX4_text 246 = .ok (.sipush 820, 3) := dk_17 3 52 (dk_at dksX4_text_10 10 rfl rfl)
theorem dX4_text_249 : decode cX4_text 249 = .ok (.iload_n 1, 1) := dk_27 (dk_at dksX4_text_10 13 rfl rfl)
theorem dX4_text_250 : decode cX4_text 250 = .ok (.imul, 1) := dk_104 (dk_at dksX4_text_10 14 rfl rfl)
theorem dX4_text_251 : decode cX4_text 251 = .ok (.iadd, 1) := dk_96 (dk_at dksX4_text_10 15 rfl rfl)
theorem dX4_text_252 : decode cX4_text 252 = .ok (.iload_n 3, 1) := dk_29 (dk_at dksX4_text_10 16 rfl rfl)
theorem dX4_text_253 : decode cX4_text 253 = .ok (.iadd, 1) := dk_96 (dk_at dksX4_text_10 17 rfl rfl)
theorem dX4_text_254 : decode cX4_text 254 = .ok (.aload_n 0, 1) := dk_42 (dk_at dksX4_text_10 18 rfl rfl)
theorem dX4_text_255 : decode cX4_text 255 = .ok (.getfield 25, 3) := dk_180 0 25 (dk_at dksX4_text_10 19 rfl rfl)
theorem dX4_text_258 : decode cX4_text 258 = .ok (.iload_n 3, 1) := dk_29 (dk_at dksX4_text_10 22 rfl rfl)
theorem dX4_text_259 : decode cX4_text 259 = .ok (.iaload, 1) := dk_46 (dk_at dksX4_text_10 23 rfl rfl)
theorem dX4_text_260 : decode cX4_text 260 = .ok (.iastore, 1) := dk_79 (dk_at dksX4_text_11 0 rfl rfl)
theorem dX4_text_261 : decode cX4_text 261 = .ok (.iinc 3 1, 3) := dk_132 3 1 (dk_at dksX4_text_11 1 rfl rfl)
theorem dX4_text_264 : decode cX4_text 264 = .ok (.goto (-35), 3) := dk_167 255 221 (dk_at dksX4_text_11 4 rfl rfl)
theorem dX4_text_267 : decode cX4_text 267 = .ok (.aload_n 0, 1) := dk_42 (dk_at dksX4_text_11 7 rfl rfl)
theorem dX4_text_268 : decode cX4_text 268 = .ok (.getfield 222, 3) := dk_180 0 222 (dk_at dksX4_text_11 8 rfl rfl)
theorem dX4_text_271 : decode cX4_text 271 = .ok (.ireturn, 1) := dk_172 (dk_at dksX4_text_11 11 rfl rfl)
abbrev cX4_next0 : ByteArray := prog_14_method_28_code
def yX4_next0 : MethodName := ⟨RX4, "next0", "()V"⟩
def dkwX4_next0_13 : List UInt8 := [181, 0, 161, 177]
abbrev dktX4_next0_13 : List UInt8 := dkwX4_next0_13 ++ []
def dkwX4_next0_12 : List UInt8 := [16, 62, 160, 0, 7, 4, 167, 0, 4, 3, 61, 42, 28, 153, 0, 10, 16, 100, 27, 96, 167, 0, 4, 4]
abbrev dktX4_next0_12 : List UInt8 := dkwX4_next0_12 ++ dktX4_next0_13
def dkwX4_next0_11 : List UInt8 := [16, 40, 159, 0, 27, 27, 16, 41, 159, 0, 21, 27, 16, 60, 159, 0, 15, 27, 16, 61, 159, 0, 9, 27]
abbrev dktX4_next0_11 : List UInt8 := dkwX4_next0_11 ++ dktX4_next0_12
def dkwX4_next0_10 : List UInt8 := [16, 43, 159, 0, 51, 27, 16, 45, 159, 0, 45, 27, 16, 42, 159, 0, 39, 27, 16, 47, 159, 0, 33, 27]
abbrev dktX4_next0_10 : List UInt8 := dkwX4_next0_10 ++ dktX4_next0_11
def dkwX4_next0_9 : List UInt8 := [4, 181, 0, 161, 167, 0, 95, 42, 89, 180, 0, 99, 4, 96, 181, 0, 99, 27, 16, 59, 159, 0, 57, 27]
abbrev dktX4_next0_9 : List UInt8 := dkwX4_next0_9 ++ dktX4_next0_10
def dkwX4_next0_8 : List UInt8 := [181, 0, 99, 167, 255, 196, 42, 42, 180, 0, 99, 42, 180, 0, 102, 100, 8, 162, 0, 7, 5, 167, 0, 4]
abbrev dktX4_next0_8 : List UInt8 := dkwX4_next0_8 ++ dktX4_next0_9
def dkwX4_next0_7 : List UInt8 := [42, 42, 180, 0, 99, 182, 0, 157, 96, 16, 48, 100, 181, 0, 173, 42, 89, 180, 0, 99, 4, 96]
abbrev dktX4_next0_7 : List UInt8 := dkwX4_next0_7 ++ dktX4_next0_8
def dkwX4_next0_6 : List UInt8 := [153, 0, 52, 42, 180, 0, 99, 42, 180, 0, 102, 7, 96, 162, 0, 26, 42, 16, 10, 42, 180, 0, 173, 104]
abbrev dktX4_next0_6 : List UInt8 := dkwX4_next0_6 ++ dktX4_next0_7
def dkwX4_next0_5 : List UInt8 := [184, 0, 170, 153, 0, 96, 42, 3, 181, 0, 173, 42, 42, 180, 0, 99, 182, 0, 157, 184, 0, 170]
abbrev dktX4_next0_5 : List UInt8 := dkwX4_next0_5 ++ dktX4_next0_6
def dkwX4_next0_4 : List UInt8 := [180, 0, 99, 4, 96, 181, 0, 99, 167, 255, 232, 42, 42, 182, 0, 167, 181, 0, 161, 167, 0, 195, 27]
abbrev dktX4_next0_4 : List UInt8 := dkwX4_next0_4 ++ dktX4_next0_5
def dkwX4_next0_3 : List UInt8 := [184, 0, 164, 153, 0, 41, 42, 42, 180, 0, 99, 182, 0, 157, 184, 0, 164, 153, 0, 16, 42, 89]
abbrev dktX4_next0_3 : List UInt8 := dkwX4_next0_3 ++ dktX4_next0_4
def dkwX4_next0_2 : List UInt8 := [42, 42, 180, 0, 99, 182, 0, 157, 60, 27, 2, 160, 0, 11, 42, 3, 181, 0, 161, 167, 0, 240, 27]
abbrev dktX4_next0_2 : List UInt8 := dkwX4_next0_2 ++ dktX4_next0_3
def dkwX4_next0_1 : List UInt8 := [160, 0, 16, 42, 89, 180, 0, 99, 4, 96, 181, 0, 99, 167, 255, 220, 42, 42, 180, 0, 99, 181, 0, 102]
abbrev dktX4_next0_1 : List UInt8 := dkwX4_next0_1 ++ dktX4_next0_2
def dkwX4_next0_0 : List UInt8 := [42, 42, 180, 0, 99, 182, 0, 157, 16, 32, 159, 0, 16, 42, 42, 180, 0, 99, 182, 0, 157, 16, 10]
abbrev dktX4_next0_0 : List UInt8 := dkwX4_next0_0 ++ dktX4_next0_1
theorem dksX4_next0_0 : cX4_next0.data.toList.drop 0 = dktX4_next0_0 := by decide +kernel
theorem dksX4_next0_1 : cX4_next0.data.toList.drop 23 = dktX4_next0_1 := dk_seg dksX4_next0_0 23 rfl rfl
theorem dksX4_next0_2 : cX4_next0.data.toList.drop 47 = dktX4_next0_2 := dk_seg dksX4_next0_1 24 rfl rfl
theorem dksX4_next0_3 : cX4_next0.data.toList.drop 70 = dktX4_next0_3 := dk_seg dksX4_next0_2 23 rfl rfl
theorem dksX4_next0_4 : cX4_next0.data.toList.drop 92 = dktX4_next0_4 := dk_seg dksX4_next0_3 22 rfl rfl
theorem dksX4_next0_5 : cX4_next0.data.toList.drop 115 = dktX4_next0_5 := dk_seg dksX4_next0_4 23 rfl rfl
theorem dksX4_next0_6 : cX4_next0.data.toList.drop 137 = dktX4_next0_6 := dk_seg dksX4_next0_5 22 rfl rfl
theorem dksX4_next0_7 : cX4_next0.data.toList.drop 161 = dktX4_next0_7 := dk_seg dksX4_next0_6 24 rfl rfl
theorem dksX4_next0_8 : cX4_next0.data.toList.drop 183 = dktX4_next0_8 := dk_seg dksX4_next0_7 22 rfl rfl
theorem dksX4_next0_9 : cX4_next0.data.toList.drop 207 = dktX4_next0_9 := dk_seg dksX4_next0_8 24 rfl rfl
theorem dksX4_next0_10 : cX4_next0.data.toList.drop 231 = dktX4_next0_10 := dk_seg dksX4_next0_9 24 rfl rfl
theorem dksX4_next0_11 : cX4_next0.data.toList.drop 255 = dktX4_next0_11 := dk_seg dksX4_next0_10 24 rfl rfl
theorem dksX4_next0_12 : cX4_next0.data.toList.drop 279 = dktX4_next0_12 := dk_seg dksX4_next0_11 24 rfl rfl
theorem dksX4_next0_13 : cX4_next0.data.toList.drop 303 = dktX4_next0_13 := dk_seg dksX4_next0_12 24 rfl rfl
theorem dX4_next0_0 : decode cX4_next0 0 = .ok (.aload_n 0, 1) := dk_42 (dk_at dksX4_next0_0 0 rfl rfl)
theorem dX4_next0_1 : decode cX4_next0 1 = .ok (.aload_n 0, 1) := dk_42 (dk_at dksX4_next0_0 1 rfl rfl)
theorem dX4_next0_2 : decode cX4_next0 2 = .ok (.getfield 99, 3) := dk_180 0 99 (dk_at dksX4_next0_0 2 rfl rfl)
theorem dX4_next0_5 : decode cX4_next0 5 = .ok (.invokevirtual 157, 3) := dk_182 0 157 (dk_at dksX4_next0_0 5 rfl rfl)
theorem dX4_next0_8 : decode cX4_next0 8 = .ok (.bipush 32, 2) := dk_16 32 (dk_at dksX4_next0_0 8 rfl rfl)
theorem dX4_next0_10 : decode cX4_next0 10 = .ok (.if_icmp .eq 16, 3) := dk_159 0 16 (dk_at dksX4_next0_0 10 rfl rfl)
theorem dX4_next0_13 : decode cX4_next0 13 = .ok (.aload_n 0, 1) := dk_42 (dk_at dksX4_next0_0 13 rfl rfl)
theorem dX4_next0_14 : decode cX4_next0 14 = .ok (.aload_n 0, 1) := dk_42 (dk_at dksX4_next0_0 14 rfl rfl)
theorem dX4_next0_15 : decode cX4_next0 15 = .ok (.getfield 99, 3) := dk_180 0 99 (dk_at dksX4_next0_0 15 rfl rfl)
theorem dX4_next0_18 : decode cX4_next0 18 = .ok (.invokevirtual 157, 3) := dk_182 0 157 (dk_at dksX4_next0_0 18 rfl rfl)
theorem dX4_next0_21 : decode cX4_next0 21 = .ok (.bipush 10, 2) := dk_16 10 (dk_at dksX4_next0_0 21 rfl rfl)
theorem dX4_next0_23 : decode cX4_next0 23 = .ok (.if_icmp .ne 16, 3) := dk_160 0 16 (dk_at dksX4_next0_1 0 rfl rfl)
theorem dX4_next0_26 : decode cX4_next0 26 = .ok (.aload_n 0, 1) := dk_42 (dk_at dksX4_next0_1 3 rfl rfl)
theorem dX4_next0_27 : decode cX4_next0 27 = .ok (.dup, 1) := dk_89 (dk_at dksX4_next0_1 4 rfl rfl)
theorem dX4_next0_28 : decode cX4_next0 28 = .ok (.getfield 99, 3) := dk_180 0 99 (dk_at dksX4_next0_1 5 rfl rfl)
theorem dX4_next0_31 : decode cX4_next0 31 = .ok (.iconst 1, 1) := dk_4 (dk_at dksX4_next0_1 8 rfl rfl)
theorem dX4_next0_32 : decode cX4_next0 32 = .ok (.iadd, 1) := dk_96 (dk_at dksX4_next0_1 9 rfl rfl)
theorem dX4_next0_33 : decode cX4_next0 33 = .ok (.putfield 99, 3) := dk_181 0 99 (dk_at dksX4_next0_1 10 rfl rfl)
theorem dX4_next0_36 : decode cX4_next0 36 = .ok (.goto (-36), 3) := dk_167 255 220 (dk_at dksX4_next0_1 13 rfl rfl)
theorem dX4_next0_39 : decode cX4_next0 39 = .ok (.aload_n 0, 1) := dk_42 (dk_at dksX4_next0_1 16 rfl rfl)
theorem dX4_next0_40 : decode cX4_next0 40 = .ok (.aload_n 0, 1) := dk_42 (dk_at dksX4_next0_1 17 rfl rfl)
theorem dX4_next0_41 : decode cX4_next0 41 = .ok (.getfield 99, 3) := dk_180 0 99 (dk_at dksX4_next0_1 18 rfl rfl)
theorem dX4_next0_44 : decode cX4_next0 44 = .ok (.putfield 102, 3) := dk_181 0 102 (dk_at dksX4_next0_1 21 rfl rfl)
theorem dX4_next0_47 : decode cX4_next0 47 = .ok (.aload_n 0, 1) := dk_42 (dk_at dksX4_next0_2 0 rfl rfl)
theorem dX4_next0_48 : decode cX4_next0 48 = .ok (.aload_n 0, 1) := dk_42 (dk_at dksX4_next0_2 1 rfl rfl)
theorem dX4_next0_49 : decode cX4_next0 49 = .ok (.getfield 99, 3) := dk_180 0 99 (dk_at dksX4_next0_2 2 rfl rfl)
theorem dX4_next0_52 : decode cX4_next0 52 = .ok (.invokevirtual 157, 3) := dk_182 0 157 (dk_at dksX4_next0_2 5 rfl rfl)
theorem dX4_next0_55 : decode cX4_next0 55 = .ok (.istore_n 1, 1) := dk_60 (dk_at dksX4_next0_2 8 rfl rfl)
theorem dX4_next0_56 : decode cX4_next0 56 = .ok (.iload_n 1, 1) := dk_27 (dk_at dksX4_next0_2 9 rfl rfl)
theorem dX4_next0_57 : decode cX4_next0 57 = .ok (.iconst (-1), 1) := dk_2 (dk_at dksX4_next0_2 10 rfl rfl)
theorem dX4_next0_58 : decode cX4_next0 58 = .ok (.if_icmp .ne 11, 3) := dk_160 0 11 (dk_at dksX4_next0_2 11 rfl rfl)
theorem dX4_next0_61 : decode cX4_next0 61 = .ok (.aload_n 0, 1) := dk_42 (dk_at dksX4_next0_2 14 rfl rfl)
theorem dX4_next0_62 : decode cX4_next0 62 = .ok (.iconst 0, 1) := dk_3 (dk_at dksX4_next0_2 15 rfl rfl)
theorem dX4_next0_63 : decode cX4_next0 63 = .ok (.putfield 161, 3) := dk_181 0 161 (dk_at dksX4_next0_2 16 rfl rfl)
theorem dX4_next0_66 : decode cX4_next0 66 = .ok (.goto 240, 3) := dk_167 0 240 (dk_at dksX4_next0_2 19 rfl rfl)
theorem dX4_next0_69 : decode cX4_next0 69 = .ok (.iload_n 1, 1) := dk_27 (dk_at dksX4_next0_2 22 rfl rfl)
theorem dX4_next0_70 : decode cX4_next0 70 = .ok (.invokestatic 164, 3) := dk_184 0 164 (dk_at dksX4_next0_3 0 rfl rfl)
theorem dX4_next0_73 : decode cX4_next0 73 = .ok (.ifCond .eq 41, 3) := dk_153 0 41 (dk_at dksX4_next0_3 3 rfl rfl)
theorem dX4_next0_76 : decode cX4_next0 76 = .ok (.aload_n 0, 1) := dk_42 (dk_at dksX4_next0_3 6 rfl rfl)
theorem dX4_next0_77 : decode cX4_next0 77 = .ok (.aload_n 0, 1) := dk_42 (dk_at dksX4_next0_3 7 rfl rfl)
theorem dX4_next0_78 : decode cX4_next0 78 = .ok (.getfield 99, 3) := dk_180 0 99 (dk_at dksX4_next0_3 8 rfl rfl)
theorem dX4_next0_81 : decode cX4_next0 81 = .ok (.invokevirtual 157, 3) := dk_182 0 157 (dk_at dksX4_next0_3 11 rfl rfl)
theorem dX4_next0_84 : decode cX4_next0 84 = .ok (.invokestatic 164, 3) := dk_184 0 164 (dk_at dksX4_next0_3 14 rfl rfl)
theorem dX4_next0_87 : decode cX4_next0 87 = .ok (.ifCond .eq 16, 3) := dk_153 0 16 (dk_at dksX4_next0_3 17 rfl rfl)
theorem dX4_next0_90 : decode cX4_next0 90 = .ok (.aload_n 0, 1) := dk_42 (dk_at dksX4_next0_3 20 rfl rfl)
theorem dX4_next0_91 : decode cX4_next0 91 = .ok (.dup, 1) := dk_89 (dk_at dksX4_next0_3 21 rfl rfl)
theorem dX4_next0_92 : decode cX4_next0 92 = .ok (.getfield 99, 3) := dk_180 0 99 (dk_at dksX4_next0_4 0 rfl rfl)
theorem dX4_next0_95 : decode cX4_next0 95 = .ok (.iconst 1, 1) := dk_4 (dk_at dksX4_next0_4 3 rfl rfl)
theorem dX4_next0_96 : decode cX4_next0 96 = .ok (.iadd, 1) := dk_96 (dk_at dksX4_next0_4 4 rfl rfl)
theorem dX4_next0_97 : decode cX4_next0 97 = .ok (.putfield 99, 3) := dk_181 0 99 (dk_at dksX4_next0_4 5 rfl rfl)
theorem dX4_next0_100 : decode cX4_next0 100 = .ok (.goto (-24), 3) := dk_167 255 232 (dk_at dksX4_next0_4 8 rfl rfl)
theorem dX4_next0_103 : decode cX4_next0 103 = .ok (.aload_n 0, 1) := dk_42 (dk_at dksX4_next0_4 11 rfl rfl)
theorem dX4_next0_104 : decode cX4_next0 104 = .ok (.aload_n 0, 1) := dk_42 (dk_at dksX4_next0_4 12 rfl rfl)
theorem dX4_next0_105 : decode cX4_next0 105 = .ok (.invokevirtual 167, 3) := dk_182 0 167 (dk_at dksX4_next0_4 13 rfl rfl)
theorem dX4_next0_108 : decode cX4_next0 108 = .ok (.putfield 161, 3) := dk_181 0 161 (dk_at dksX4_next0_4 16 rfl rfl)
theorem dX4_next0_111 : decode cX4_next0 111 = .ok (.goto 195, 3) := dk_167 0 195 (dk_at dksX4_next0_4 19 rfl rfl)
theorem dX4_next0_114 : decode cX4_next0 114 = .ok (.iload_n 1, 1) := dk_27 (dk_at dksX4_next0_4 22 rfl rfl)
theorem dX4_next0_115 : decode cX4_next0 115 = .ok (.invokestatic 170, 3) := dk_184 0 170 (dk_at dksX4_next0_5 0 rfl rfl)
theorem dX4_next0_118 : decode cX4_next0 118 = .ok (.ifCond .eq 96, 3) := dk_153 0 96 (dk_at dksX4_next0_5 3 rfl rfl)
theorem dX4_next0_121 : decode cX4_next0 121 = .ok (.aload_n 0, 1) := dk_42 (dk_at dksX4_next0_5 6 rfl rfl)
theorem dX4_next0_122 : decode cX4_next0 122 = .ok (.iconst 0, 1) := dk_3 (dk_at dksX4_next0_5 7 rfl rfl)
theorem dX4_next0_123 : decode cX4_next0 123 = .ok (.putfield 173, 3) := dk_181 0 173 (dk_at dksX4_next0_5 8 rfl rfl)
theorem dX4_next0_126 : decode cX4_next0 126 = .ok (.aload_n 0, 1) := dk_42 (dk_at dksX4_next0_5 11 rfl rfl)
theorem dX4_next0_127 : decode cX4_next0 127 = .ok (.aload_n 0, 1) := dk_42 (dk_at dksX4_next0_5 12 rfl rfl)
theorem dX4_next0_128 : decode cX4_next0 128 = .ok (.getfield 99, 3) := dk_180 0 99 (dk_at dksX4_next0_5 13 rfl rfl)
theorem dX4_next0_131 : decode cX4_next0 131 = .ok (.invokevirtual 157, 3) := dk_182 0 157 (dk_at dksX4_next0_5 16 rfl rfl)
theorem dX4_next0_134 : decode cX4_next0 134 = .ok (.invokestatic 170, 3) := dk_184 0 170 (dk_at dksX4_next0_5 19 rfl rfl)
theorem dX4_next0_137 : decode cX4_next0 137 = .ok (.ifCond .eq 52, 3) := dk_153 0 52 (dk_at dksX4_next0_6 0 rfl rfl)
theorem dX4_next0_140 : decode cX4_next0 140 = .ok (.aload_n 0, 1) := dk_42 (dk_at dksX4_next0_6 3 rfl rfl)
theorem dX4_next0_141 : decode cX4_next0 141 = .ok (.getfield 99, 3) := dk_180 0 99 (dk_at dksX4_next0_6 4 rfl rfl)
theorem dX4_next0_144 : decode cX4_next0 144 = .ok (.aload_n 0, 1) := dk_42 (dk_at dksX4_next0_6 7 rfl rfl)
theorem dX4_next0_145 : decode cX4_next0 145 = .ok (.getfield 102, 3) := dk_180 0 102 (dk_at dksX4_next0_6 8 rfl rfl)
theorem dX4_next0_148 : decode cX4_next0 148 = .ok (.iconst 4, 1) := dk_7 (dk_at dksX4_next0_6 11 rfl rfl)
theorem dX4_next0_149 : decode cX4_next0 149 = .ok (.iadd, 1) := dk_96 (dk_at dksX4_next0_6 12 rfl rfl)
theorem dX4_next0_150 : decode cX4_next0 150 = .ok (.if_icmp .ge 26, 3) := dk_162 0 26 (dk_at dksX4_next0_6 13 rfl rfl)
theorem dX4_next0_153 : decode cX4_next0 153 = .ok (.aload_n 0, 1) := dk_42 (dk_at dksX4_next0_6 16 rfl rfl)
theorem dX4_next0_154 : decode cX4_next0 154 = .ok (.bipush 10, 2) := dk_16 10 (dk_at dksX4_next0_6 17 rfl rfl)
theorem dX4_next0_156 : decode cX4_next0 156 = .ok (.aload_n 0, 1) := dk_42 (dk_at dksX4_next0_6 19 rfl rfl)
theorem dX4_next0_157 : decode cX4_next0 157 = .ok (.getfield 173, 3) := dk_180 0 173 (dk_at dksX4_next0_6 20 rfl rfl)
theorem dX4_next0_160 : decode cX4_next0 160 = .ok (.imul, 1) := dk_104 (dk_at dksX4_next0_6 23 rfl rfl)
theorem dX4_next0_161 : decode cX4_next0 161 = .ok (.aload_n 0, 1) := dk_42 (dk_at dksX4_next0_7 0 rfl rfl)
theorem dX4_next0_162 : decode cX4_next0 162 = .ok (.aload_n 0, 1) := dk_42 (dk_at dksX4_next0_7 1 rfl rfl)
theorem dX4_next0_163 : decode cX4_next0 163 = .ok (.getfield 99, 3) := dk_180 0 99 (dk_at dksX4_next0_7 2 rfl rfl)
theorem dX4_next0_166 : decode cX4_next0 166 = .ok (.invokevirtual 157, 3) := dk_182 0 157 (dk_at dksX4_next0_7 5 rfl rfl)
theorem dX4_next0_169 : decode cX4_next0 169 = .ok (.iadd, 1) := dk_96 (dk_at dksX4_next0_7 8 rfl rfl)
theorem dX4_next0_170 : decode cX4_next0 170 = .ok (.bipush 48, 2) := dk_16 48 (dk_at dksX4_next0_7 9 rfl rfl)
theorem dX4_next0_172 : decode cX4_next0 172 = .ok (.isub, 1) := dk_100 (dk_at dksX4_next0_7 11 rfl rfl)
theorem dX4_next0_173 : decode cX4_next0 173 = .ok (.putfield 173, 3) := dk_181 0 173 (dk_at dksX4_next0_7 12 rfl rfl)
theorem dX4_next0_176 : decode cX4_next0 176 = .ok (.aload_n 0, 1) := dk_42 (dk_at dksX4_next0_7 15 rfl rfl)
theorem dX4_next0_177 : decode cX4_next0 177 = .ok (.dup, 1) := dk_89 (dk_at dksX4_next0_7 16 rfl rfl)
theorem dX4_next0_178 : decode cX4_next0 178 = .ok (.getfield 99, 3) := dk_180 0 99 (dk_at dksX4_next0_7 17 rfl rfl)
theorem dX4_next0_181 : decode cX4_next0 181 = .ok (.iconst 1, 1) := dk_4 (dk_at dksX4_next0_7 20 rfl rfl)
theorem dX4_next0_182 : decode cX4_next0 182 = .ok (.iadd, 1) := dk_96 (dk_at dksX4_next0_7 21 rfl rfl)
theorem dX4_next0_183 : decode cX4_next0 183 = .ok (.putfield 99, 3) := dk_181 0 99 (dk_at dksX4_next0_8 0 rfl rfl)
theorem dX4_next0_186 : decode cX4_next0 186 = .ok (.goto (-60), 3) := dk_167 255 196 (dk_at dksX4_next0_8 3 rfl rfl)
theorem dX4_next0_189 : decode cX4_next0 189 = .ok (.aload_n 0, 1) := dk_42 (dk_at dksX4_next0_8 6 rfl rfl)
theorem dX4_next0_190 : decode cX4_next0 190 = .ok (.aload_n 0, 1) := dk_42 (dk_at dksX4_next0_8 7 rfl rfl)
theorem dX4_next0_191 : decode cX4_next0 191 = .ok (.getfield 99, 3) := dk_180 0 99 (dk_at dksX4_next0_8 8 rfl rfl)
theorem dX4_next0_194 : decode cX4_next0 194 = .ok (.aload_n 0, 1) := dk_42 (dk_at dksX4_next0_8 11 rfl rfl)
theorem dX4_next0_195 : decode cX4_next0 195 = .ok (.getfield 102, 3) := dk_180 0 102 (dk_at dksX4_next0_8 12 rfl rfl)
theorem dX4_next0_198 : decode cX4_next0 198 = .ok (.isub, 1) := dk_100 (dk_at dksX4_next0_8 15 rfl rfl)
theorem dX4_next0_199 : decode cX4_next0 199 = .ok (.iconst 5, 1) := dk_8 (dk_at dksX4_next0_8 16 rfl rfl)
theorem dX4_next0_200 : decode cX4_next0 200 = .ok (.if_icmp .ge 7, 3) := dk_162 0 7 (dk_at dksX4_next0_8 17 rfl rfl)
theorem dX4_next0_203 : decode cX4_next0 203 = .ok (.iconst 2, 1) := dk_5 (dk_at dksX4_next0_8 20 rfl rfl)
theorem dX4_next0_204 : decode cX4_next0 204 = .ok (.goto 4, 3) := dk_167 0 4 (dk_at dksX4_next0_8 21 rfl rfl)
theorem dX4_next0_207 : decode cX4_next0 207 = .ok (.iconst 1, 1) := dk_4 (dk_at dksX4_next0_9 0 rfl rfl)
theorem dX4_next0_208 : decode cX4_next0 208 = .ok (.putfield 161, 3) := dk_181 0 161 (dk_at dksX4_next0_9 1 rfl rfl)
theorem dX4_next0_211 : decode cX4_next0 211 = .ok (.goto 95, 3) := dk_167 0 95 (dk_at dksX4_next0_9 4 rfl rfl)
theorem dX4_next0_214 : decode cX4_next0 214 = .ok (.aload_n 0, 1) := dk_42 (dk_at dksX4_next0_9 7 rfl rfl)
theorem dX4_next0_215 : decode cX4_next0 215 = .ok (.dup, 1) := dk_89 (dk_at dksX4_next0_9 8 rfl rfl)
theorem dX4_next0_216 : decode cX4_next0 216 = .ok (.getfield 99, 3) := dk_180 0 99 (dk_at dksX4_next0_9 9 rfl rfl)
theorem dX4_next0_219 : decode cX4_next0 219 = .ok (.iconst 1, 1) := dk_4 (dk_at dksX4_next0_9 12 rfl rfl)
theorem dX4_next0_220 : decode cX4_next0 220 = .ok (.iadd, 1) := dk_96 (dk_at dksX4_next0_9 13 rfl rfl)
theorem dX4_next0_221 : decode cX4_next0 221 = .ok (.putfield 99, 3) := dk_181 0 99 (dk_at dksX4_next0_9 14 rfl rfl)
theorem dX4_next0_224 : decode cX4_next0 224 = .ok (.iload_n 1, 1) := dk_27 (dk_at dksX4_next0_9 17 rfl rfl)
theorem dX4_next0_225 : decode cX4_next0 225 = .ok (.bipush 59, 2) := dk_16 59 (dk_at dksX4_next0_9 18 rfl rfl)
theorem dX4_next0_227 : decode cX4_next0 227 = .ok (.if_icmp .eq 57, 3) := dk_159 0 57 (dk_at dksX4_next0_9 20 rfl rfl)
theorem dX4_next0_230 : decode cX4_next0 230 = .ok (.iload_n 1, 1) := dk_27 (dk_at dksX4_next0_9 23 rfl rfl)
theorem dX4_next0_231 : decode cX4_next0 231 = .ok (.bipush 43, 2) := dk_16 43 (dk_at dksX4_next0_10 0 rfl rfl)
theorem dX4_next0_233 : decode cX4_next0 233 = .ok (.if_icmp .eq 51, 3) := dk_159 0 51 (dk_at dksX4_next0_10 2 rfl rfl)
theorem dX4_next0_236 : decode cX4_next0 236 = .ok (.iload_n 1, 1) := dk_27 (dk_at dksX4_next0_10 5 rfl rfl)
theorem dX4_next0_237 : decode cX4_next0 237 = .ok (.bipush 45, 2) := dk_16 45 (dk_at dksX4_next0_10 6 rfl rfl)
theorem dX4_next0_239 : decode cX4_next0 239 = .ok (.if_icmp .eq 45, 3) := dk_159 0 45 (dk_at dksX4_next0_10 8 rfl rfl)
theorem dX4_next0_242 : decode cX4_next0 242 = .ok (.iload_n 1, 1) := dk_27 (dk_at dksX4_next0_10 11 rfl rfl)
theorem dX4_next0_243 : decode cX4_next0 243 = .ok (.bipush 42, 2) := dk_16 42 (dk_at dksX4_next0_10 12 rfl rfl)
theorem dX4_next0_245 : decode cX4_next0 245 = .ok (.if_icmp .eq 39, 3) := dk_159 0 39 (dk_at dksX4_next0_10 14 rfl rfl)
theorem dX4_next0_248 : decode cX4_next0 248 = .ok (.iload_n 1, 1) := dk_27 (dk_at dksX4_next0_10 17 rfl rfl)
theorem dX4_next0_249 : decode cX4_next0 249 = .ok (.bipush 47, 2) := dk_16 47 (dk_at dksX4_next0_10 18 rfl rfl)
theorem dX4_next0_251 : decode cX4_next0 251 = .ok (.if_icmp .eq 33, 3) := dk_159 0 33 (dk_at dksX4_next0_10 20 rfl rfl)
theorem dX4_next0_254 : decode cX4_next0 254 = .ok (.iload_n 1, 1) := dk_27 (dk_at dksX4_next0_10 23 rfl rfl)
theorem dX4_next0_255 : decode cX4_next0 255 = .ok (.bipush 40, 2) := dk_16 40 (dk_at dksX4_next0_11 0 rfl rfl)
theorem dX4_next0_257 : decode cX4_next0 257 = .ok (.if_icmp .eq 27, 3) := dk_159 0 27 (dk_at dksX4_next0_11 2 rfl rfl)
theorem dX4_next0_260 : decode cX4_next0 260 = .ok (.iload_n 1, 1) := dk_27 (dk_at dksX4_next0_11 5 rfl rfl)
theorem dX4_next0_261 : decode cX4_next0 261 = .ok (.bipush 41, 2) := dk_16 41 (dk_at dksX4_next0_11 6 rfl rfl)
theorem dX4_next0_263 : decode cX4_next0 263 = .ok (.if_icmp .eq 21, 3) := dk_159 0 21 (dk_at dksX4_next0_11 8 rfl rfl)
theorem dX4_next0_266 : decode cX4_next0 266 = .ok (.iload_n 1, 1) := dk_27 (dk_at dksX4_next0_11 11 rfl rfl)
theorem dX4_next0_267 : decode cX4_next0 267 = .ok (.bipush 60, 2) := dk_16 60 (dk_at dksX4_next0_11 12 rfl rfl)
theorem dX4_next0_269 : decode cX4_next0 269 = .ok (.if_icmp .eq 15, 3) := dk_159 0 15 (dk_at dksX4_next0_11 14 rfl rfl)
theorem dX4_next0_272 : decode cX4_next0 272 = .ok (.iload_n 1, 1) := dk_27 (dk_at dksX4_next0_11 17 rfl rfl)
theorem dX4_next0_273 : decode cX4_next0 273 = .ok (.bipush 61, 2) := dk_16 61 (dk_at dksX4_next0_11 18 rfl rfl)
theorem dX4_next0_275 : decode cX4_next0 275 = .ok (.if_icmp .eq 9, 3) := dk_159 0 9 (dk_at dksX4_next0_11 20 rfl rfl)
theorem dX4_next0_278 : decode cX4_next0 278 = .ok (.iload_n 1, 1) := dk_27 (dk_at dksX4_next0_11 23 rfl rfl)
theorem dX4_next0_279 : decode cX4_next0 279 = .ok (.bipush 62, 2) := dk_16 62 (dk_at dksX4_next0_12 0 rfl rfl)
theorem dX4_next0_281 : decode cX4_next0 281 = .ok (.if_icmp .ne 7, 3) := dk_160 0 7 (dk_at dksX4_next0_12 2 rfl rfl)
theorem dX4_next0_284 : decode cX4_next0 284 = .ok (.iconst 1, 1) := dk_4 (dk_at dksX4_next0_12 5 rfl rfl)
theorem dX4_next0_285 : decode cX4_next0 285 = .ok (.goto 4, 3) := dk_167 0 4 (dk_at dksX4_next0_12 6 rfl rfl)
theorem dX4_next0_288 : decode cX4_next0 288 = .ok (.iconst 0, 1) := dk_3 (dk_at dksX4_next0_12 9 rfl rfl)
theorem dX4_next0_289 : decode cX4_next0 289 = .ok (.istore_n 2, 1) := dk_61 (dk_at dksX4_next0_12 10 rfl rfl)
theorem dX4_next0_290 : decode cX4_next0 290 = .ok (.aload_n 0, 1) := dk_42 (dk_at dksX4_next0_12 11 rfl rfl)
theorem dX4_next0_291 : decode cX4_next0 291 = .ok (.iload_n 2, 1) := dk_28 (dk_at dksX4_next0_12 12 rfl rfl)
theorem dX4_next0_292 : decode cX4_next0 292 = .ok (.ifCond .eq 10, 3) := dk_153 0 10 (dk_at dksX4_next0_12 13 rfl rfl)
theorem dX4_next0_295 : decode cX4_next0 295 = .ok (.bipush 100, 2) := dk_16 100 (dk_at dksX4_next0_12 16 rfl rfl)
theorem dX4_next0_297 : decode cX4_next0 297 = .ok (.iload_n 1, 1) := dk_27 (dk_at dksX4_next0_12 18 rfl rfl)
theorem dX4_next0_298 : decode cX4_next0 298 = .ok (.iadd, 1) := dk_96 (dk_at dksX4_next0_12 19 rfl rfl)
theorem dX4_next0_299 : decode cX4_next0 299 = .ok (.goto 4, 3) := dk_167 0 4 (dk_at dksX4_next0_12 20 rfl rfl)
theorem dX4_next0_302 : decode cX4_next0 302 = .ok (.iconst 1, 1) := dk_4 (dk_at dksX4_next0_12 23 rfl rfl)
theorem dX4_next0_303 : decode cX4_next0 303 = .ok (.putfield 161, 3) := dk_181 0 161 (dk_at dksX4_next0_13 0 rfl rfl)
theorem dX4_next0_306 : decode cX4_next0 306 = .ok (.return_, 1) := dk_177 (dk_at dksX4_next0_13 3 rfl rfl)
abbrev cX4_see : ByteArray := prog_14_method_22_code
def yX4_see : MethodName := ⟨RX4, "see", "(I)I"⟩
def dkwX4_see_0 : List UInt8 := [27, 42, 180, 0, 96, 162, 0, 12, 42, 180, 0, 28, 27, 46, 167, 0, 4, 2, 172]
abbrev dktX4_see_0 : List UInt8 := dkwX4_see_0 ++ []
theorem dksX4_see_0 : cX4_see.data.toList.drop 0 = dktX4_see_0 := by decide +kernel
theorem dX4_see_0 : decode cX4_see 0 = .ok (.iload_n 1, 1) := dk_27 (dk_at dksX4_see_0 0 rfl rfl)
theorem dX4_see_1 : decode cX4_see 1 = .ok (.aload_n 0, 1) := dk_42 (dk_at dksX4_see_0 1 rfl rfl)
theorem dX4_see_2 : decode cX4_see 2 = .ok (.getfield 96, 3) := dk_180 0 96 (dk_at dksX4_see_0 2 rfl rfl)
theorem dX4_see_5 : decode cX4_see 5 = .ok (.if_icmp .ge 12, 3) := dk_162 0 12 (dk_at dksX4_see_0 5 rfl rfl)
theorem dX4_see_8 : decode cX4_see 8 = .ok (.aload_n 0, 1) := dk_42 (dk_at dksX4_see_0 8 rfl rfl)
theorem dX4_see_9 : decode cX4_see 9 = .ok (.getfield 28, 3) := dk_180 0 28 (dk_at dksX4_see_0 9 rfl rfl)
theorem dX4_see_12 : decode cX4_see 12 = .ok (.iload_n 1, 1) := dk_27 (dk_at dksX4_see_0 12 rfl rfl)
theorem dX4_see_13 : decode cX4_see 13 = .ok (.iaload, 1) := dk_46 (dk_at dksX4_see_0 13 rfl rfl)
theorem dX4_see_14 : decode cX4_see 14 = .ok (.goto 4, 3) := dk_167 0 4 (dk_at dksX4_see_0 14 rfl rfl)
theorem dX4_see_17 : decode cX4_see 17 = .ok (.iconst (-1), 1) := dk_2 (dk_at dksX4_see_0 17 rfl rfl)
theorem dX4_see_18 : decode cX4_see 18 = .ok (.ireturn, 1) := dk_172 (dk_at dksX4_see_0 18 rfl rfl)
abbrev cX4_isLetter : ByteArray := prog_14_method_23_code
def yX4_isLetter : MethodName := ⟨RX4, "isLetter", "(I)Z"⟩
def dkwX4_isLetter_1 : List UInt8 := [167, 0, 4, 3, 172]
abbrev dktX4_isLetter_1 : List UInt8 := dkwX4_isLetter_1 ++ []
def dkwX4_isLetter_0 : List UInt8 := [26, 16, 97, 16, 122, 184, 0, 75, 154, 0, 14, 26, 16, 65, 16, 90, 184, 0, 75, 153, 0, 7, 4]
abbrev dktX4_isLetter_0 : List UInt8 := dkwX4_isLetter_0 ++ dktX4_isLetter_1
theorem dksX4_isLetter_0 : cX4_isLetter.data.toList.drop 0 = dktX4_isLetter_0 := by decide +kernel
theorem dksX4_isLetter_1 : cX4_isLetter.data.toList.drop 23 = dktX4_isLetter_1 := dk_seg dksX4_isLetter_0 23 rfl rfl
theorem dX4_isLetter_0 : decode cX4_isLetter 0 = .ok (.iload_n 0, 1) := dk_26 (dk_at dksX4_isLetter_0 0 rfl rfl)
theorem dX4_isLetter_1 : decode cX4_isLetter 1 = .ok (.bipush 97, 2) := dk_16 97 (dk_at dksX4_isLetter_0 1 rfl rfl)
theorem dX4_isLetter_3 : decode cX4_isLetter 3 = .ok (.bipush 122, 2) := dk_16 122 (dk_at dksX4_isLetter_0 3 rfl rfl)
theorem dX4_isLetter_5 : decode cX4_isLetter 5 = .ok (.invokestatic 75, 3) := dk_184 0 75 (dk_at dksX4_isLetter_0 5 rfl rfl)
theorem dX4_isLetter_8 : decode cX4_isLetter 8 = .ok (.ifCond .ne 14, 3) := dk_154 0 14 (dk_at dksX4_isLetter_0 8 rfl rfl)
theorem dX4_isLetter_11 : decode cX4_isLetter 11 = .ok (.iload_n 0, 1) := dk_26 (dk_at dksX4_isLetter_0 11 rfl rfl)
theorem dX4_isLetter_12 : decode cX4_isLetter 12 = .ok (.bipush 65, 2) := dk_16 65 (dk_at dksX4_isLetter_0 12 rfl rfl)
theorem dX4_isLetter_14 : decode cX4_isLetter 14 = .ok (.bipush 90, 2) := dk_16 90 (dk_at dksX4_isLetter_0 14 rfl rfl)
theorem dX4_isLetter_16 : decode cX4_isLetter 16 = .ok (.invokestatic 75, 3) := dk_184 0 75 (dk_at dksX4_isLetter_0 16 rfl rfl)
theorem dX4_isLetter_19 : decode cX4_isLetter 19 = .ok (.ifCond .eq 7, 3) := dk_153 0 7 (dk_at dksX4_isLetter_0 19 rfl rfl)
theorem dX4_isLetter_22 : decode cX4_isLetter 22 = .ok (.iconst 1, 1) := dk_4 (dk_at dksX4_isLetter_0 22 rfl rfl)
theorem dX4_isLetter_23 : decode cX4_isLetter 23 = .ok (.goto 4, 3) := dk_167 0 4 (dk_at dksX4_isLetter_1 0 rfl rfl)
theorem dX4_isLetter_26 : decode cX4_isLetter 26 = .ok (.iconst 0, 1) := dk_3 (dk_at dksX4_isLetter_1 3 rfl rfl)
theorem dX4_isLetter_27 : decode cX4_isLetter 27 = .ok (.ireturn, 1) := dk_172 (dk_at dksX4_isLetter_1 4 rfl rfl)
abbrev cX4_word : ByteArray := prog_14_method_27_code
def yX4_word : MethodName := ⟨RX4, "word", "()I"⟩
def dkwX4_word_4 : List UInt8 := [18, 152, 182, 0, 117, 153, 0, 8, 16, 24, 167, 0, 7, 42, 182, 0, 154, 172]
abbrev dktX4_word_4 : List UInt8 := dkwX4_word_4 ++ []
def dkwX4_word_3 : List UInt8 := [18, 149, 182, 0, 117, 153, 0, 6, 16, 21, 172, 42, 18, 151, 182, 0, 117, 153, 0, 6, 16, 22, 172, 42]
abbrev dktX4_word_3 : List UInt8 := dkwX4_word_3 ++ dktX4_word_4
def dkwX4_word_2 : List UInt8 := [18, 145, 182, 0, 117, 153, 0, 6, 16, 20, 172, 42, 18, 147, 182, 0, 117, 153, 0, 6, 16, 23, 172, 42]
abbrev dktX4_word_2 : List UInt8 := dkwX4_word_2 ++ dktX4_word_3
def dkwX4_word_1 : List UInt8 := [18, 141, 182, 0, 117, 153, 0, 5, 8, 172, 42, 18, 143, 182, 0, 117, 153, 0, 6, 16, 6, 172, 42]
abbrev dktX4_word_1 : List UInt8 := dkwX4_word_1 ++ dktX4_word_2
def dkwX4_word_0 : List UInt8 := [42, 18, 137, 182, 0, 117, 153, 0, 5, 6, 172, 42, 18, 139, 182, 0, 117, 153, 0, 5, 7, 172, 42]
abbrev dktX4_word_0 : List UInt8 := dkwX4_word_0 ++ dktX4_word_1
theorem dksX4_word_0 : cX4_word.data.toList.drop 0 = dktX4_word_0 := by decide +kernel
theorem dksX4_word_1 : cX4_word.data.toList.drop 23 = dktX4_word_1 := dk_seg dksX4_word_0 23 rfl rfl
theorem dksX4_word_2 : cX4_word.data.toList.drop 46 = dktX4_word_2 := dk_seg dksX4_word_1 23 rfl rfl
theorem dksX4_word_3 : cX4_word.data.toList.drop 70 = dktX4_word_3 := dk_seg dksX4_word_2 24 rfl rfl
theorem dksX4_word_4 : cX4_word.data.toList.drop 94 = dktX4_word_4 := dk_seg dksX4_word_3 24 rfl rfl
theorem dX4_word_0 : decode cX4_word 0 = .ok (.aload_n 0, 1) := dk_42 (dk_at dksX4_word_0 0 rfl rfl)
theorem dX4_word_1 : decode cX4_word 1 = .ok (.ldc 137, 2) := dk_18 137 (dk_at dksX4_word_0 1 rfl rfl)
theorem dX4_word_3 : decode cX4_word 3 = .ok (.invokevirtual 117, 3) := dk_182 0 117 (dk_at dksX4_word_0 3 rfl rfl)
theorem dX4_word_6 : decode cX4_word 6 = .ok (.ifCond .eq 5, 3) := dk_153 0 5 (dk_at dksX4_word_0 6 rfl rfl)
theorem dX4_word_9 : decode cX4_word 9 = .ok (.iconst 3, 1) := dk_6 (dk_at dksX4_word_0 9 rfl rfl)
theorem dX4_word_10 : decode cX4_word 10 = .ok (.ireturn, 1) := dk_172 (dk_at dksX4_word_0 10 rfl rfl)
theorem dX4_word_11 : decode cX4_word 11 = .ok (.aload_n 0, 1) := dk_42 (dk_at dksX4_word_0 11 rfl rfl)
theorem dX4_word_12 : decode cX4_word 12 = .ok (.ldc 139, 2) := dk_18 139 (dk_at dksX4_word_0 12 rfl rfl)
theorem dX4_word_14 : decode cX4_word 14 = .ok (.invokevirtual 117, 3) := dk_182 0 117 (dk_at dksX4_word_0 14 rfl rfl)
theorem dX4_word_17 : decode cX4_word 17 = .ok (.ifCond .eq 5, 3) := dk_153 0 5 (dk_at dksX4_word_0 17 rfl rfl)
theorem dX4_word_20 : decode cX4_word 20 = .ok (.iconst 4, 1) := dk_7 (dk_at dksX4_word_0 20 rfl rfl)
theorem dX4_word_21 : decode cX4_word 21 = .ok (.ireturn, 1) := dk_172 (dk_at dksX4_word_0 21 rfl rfl)
theorem dX4_word_22 : decode cX4_word 22 = .ok (.aload_n 0, 1) := dk_42 (dk_at dksX4_word_0 22 rfl rfl)
theorem dX4_word_23 : decode cX4_word 23 = .ok (.ldc 141, 2) := dk_18 141 (dk_at dksX4_word_1 0 rfl rfl)
theorem dX4_word_25 : decode cX4_word 25 = .ok (.invokevirtual 117, 3) := dk_182 0 117 (dk_at dksX4_word_1 2 rfl rfl)
theorem dX4_word_28 : decode cX4_word 28 = .ok (.ifCond .eq 5, 3) := dk_153 0 5 (dk_at dksX4_word_1 5 rfl rfl)
theorem dX4_word_31 : decode cX4_word 31 = .ok (.iconst 5, 1) := dk_8 (dk_at dksX4_word_1 8 rfl rfl)
theorem dX4_word_32 : decode cX4_word 32 = .ok (.ireturn, 1) := dk_172 (dk_at dksX4_word_1 9 rfl rfl)
theorem dX4_word_33 : decode cX4_word 33 = .ok (.aload_n 0, 1) := dk_42 (dk_at dksX4_word_1 10 rfl rfl)
theorem dX4_word_34 : decode cX4_word 34 = .ok (.ldc 143, 2) := dk_18 143 (dk_at dksX4_word_1 11 rfl rfl)
theorem dX4_word_36 : decode cX4_word 36 = .ok (.invokevirtual 117, 3) := dk_182 0 117 (dk_at dksX4_word_1 13 rfl rfl)
theorem dX4_word_39 : decode cX4_word 39 = .ok (.ifCond .eq 6, 3) := dk_153 0 6 (dk_at dksX4_word_1 16 rfl rfl)
theorem dX4_word_42 : decode cX4_word 42 = .ok (.bipush 6, 2) := dk_16 6 (dk_at dksX4_word_1 19 rfl rfl)
theorem dX4_word_44 : decode cX4_word 44 = .ok (.ireturn, 1) := dk_172 (dk_at dksX4_word_1 21 rfl rfl)
theorem dX4_word_45 : decode cX4_word 45 = .ok (.aload_n 0, 1) := dk_42 (dk_at dksX4_word_1 22 rfl rfl)
theorem dX4_word_46 : decode cX4_word 46 = .ok (.ldc 145, 2) := dk_18 145 (dk_at dksX4_word_2 0 rfl rfl)
theorem dX4_word_48 : decode cX4_word 48 = .ok (.invokevirtual 117, 3) := dk_182 0 117 (dk_at dksX4_word_2 2 rfl rfl)
theorem dX4_word_51 : decode cX4_word 51 = .ok (.ifCond .eq 6, 3) := dk_153 0 6 (dk_at dksX4_word_2 5 rfl rfl)
theorem dX4_word_54 : decode cX4_word 54 = .ok (.bipush 20, 2) := dk_16 20 (dk_at dksX4_word_2 8 rfl rfl)
theorem dX4_word_56 : decode cX4_word 56 = .ok (.ireturn, 1) := dk_172 (dk_at dksX4_word_2 10 rfl rfl)
theorem dX4_word_57 : decode cX4_word 57 = .ok (.aload_n 0, 1) := dk_42 (dk_at dksX4_word_2 11 rfl rfl)
theorem dX4_word_58 : decode cX4_word 58 = .ok (.ldc 147, 2) := dk_18 147 (dk_at dksX4_word_2 12 rfl rfl)
theorem dX4_word_60 : decode cX4_word 60 = .ok (.invokevirtual 117, 3) := dk_182 0 117 (dk_at dksX4_word_2 14 rfl rfl)
theorem dX4_word_63 : decode cX4_word 63 = .ok (.ifCond .eq 6, 3) := dk_153 0 6 (dk_at dksX4_word_2 17 rfl rfl)
theorem dX4_word_66 : decode cX4_word 66 = .ok (.bipush 23, 2) := dk_16 23 (dk_at dksX4_word_2 20 rfl rfl)
theorem dX4_word_68 : decode cX4_word 68 = .ok (.ireturn, 1) := dk_172 (dk_at dksX4_word_2 22 rfl rfl)
theorem dX4_word_69 : decode cX4_word 69 = .ok (.aload_n 0, 1) := dk_42 (dk_at dksX4_word_2 23 rfl rfl)
theorem dX4_word_70 : decode cX4_word 70 = .ok (.ldc 149, 2) := dk_18 149 (dk_at dksX4_word_3 0 rfl rfl)
theorem dX4_word_72 : decode cX4_word 72 = .ok (.invokevirtual 117, 3) := dk_182 0 117 (dk_at dksX4_word_3 2 rfl rfl)
theorem dX4_word_75 : decode cX4_word 75 = .ok (.ifCond .eq 6, 3) := dk_153 0 6 (dk_at dksX4_word_3 5 rfl rfl)
theorem dX4_word_78 : decode cX4_word 78 = .ok (.bipush 21, 2) := dk_16 21 (dk_at dksX4_word_3 8 rfl rfl)
theorem dX4_word_80 : decode cX4_word 80 = .ok (.ireturn, 1) := dk_172 (dk_at dksX4_word_3 10 rfl rfl)
theorem dX4_word_81 : decode cX4_word 81 = .ok (.aload_n 0, 1) := dk_42 (dk_at dksX4_word_3 11 rfl rfl)
theorem dX4_word_82 : decode cX4_word 82 = .ok (.ldc 151, 2) := dk_18 151 (dk_at dksX4_word_3 12 rfl rfl)
theorem dX4_word_84 : decode cX4_word 84 = .ok (.invokevirtual 117, 3) := dk_182 0 117 (dk_at dksX4_word_3 14 rfl rfl)
theorem dX4_word_87 : decode cX4_word 87 = .ok (.ifCond .eq 6, 3) := dk_153 0 6 (dk_at dksX4_word_3 17 rfl rfl)
theorem dX4_word_90 : decode cX4_word 90 = .ok (.bipush 22, 2) := dk_16 22 (dk_at dksX4_word_3 20 rfl rfl)
theorem dX4_word_92 : decode cX4_word 92 = .ok (.ireturn, 1) := dk_172 (dk_at dksX4_word_3 22 rfl rfl)
theorem dX4_word_93 : decode cX4_word 93 = .ok (.aload_n 0, 1) := dk_42 (dk_at dksX4_word_3 23 rfl rfl)
theorem dX4_word_94 : decode cX4_word 94 = .ok (.ldc 152, 2) := dk_18 152 (dk_at dksX4_word_4 0 rfl rfl)
theorem dX4_word_96 : decode cX4_word 96 = .ok (.invokevirtual 117, 3) := dk_182 0 117 (dk_at dksX4_word_4 2 rfl rfl)
theorem dX4_word_99 : decode cX4_word 99 = .ok (.ifCond .eq 8, 3) := dk_153 0 8 (dk_at dksX4_word_4 5 rfl rfl)
theorem dX4_word_102 : decode cX4_word 102 = .ok (.bipush 24, 2) := dk_16 24 (dk_at dksX4_word_4 8 rfl rfl)
theorem dX4_word_104 : decode cX4_word 104 = .ok (.goto 7, 3) := dk_167 0 7 (dk_at dksX4_word_4 10 rfl rfl)
theorem dX4_word_107 : decode cX4_word 107 = .ok (.aload_n 0, 1) := dk_42 (dk_at dksX4_word_4 13 rfl rfl)
theorem dX4_word_108 : decode cX4_word 108 = .ok (.invokevirtual 154, 3) := dk_182 0 154 (dk_at dksX4_word_4 14 rfl rfl)
theorem dX4_word_111 : decode cX4_word 111 = .ok (.ireturn, 1) := dk_172 (dk_at dksX4_word_4 17 rfl rfl)
abbrev cX4_is : ByteArray := prog_14_method_25_code
def yX4_is : MethodName := ⟨RX4, "is", "(Ljava/lang/String;)Z"⟩
def dkwX4_is_2 : List UInt8 := [29, 182, 0, 111, 160, 0, 7, 4, 167, 0, 4, 3, 61, 132, 3, 1, 167, 255, 216, 28, 172]
abbrev dktX4_is_2 : List UInt8 := dkwX4_is_2 ++ []
def dkwX4_is_1 : List UInt8 := [29, 43, 182, 0, 105, 162, 0, 38, 28, 153, 0, 34, 42, 180, 0, 28, 42, 180, 0, 102, 29, 96, 46, 43]
abbrev dktX4_is_1 : List UInt8 := dkwX4_is_1 ++ dktX4_is_2
def dkwX4_is_0 : List UInt8 := [42, 180, 0, 99, 42, 180, 0, 102, 100, 43, 182, 0, 105, 160, 0, 7, 4, 167, 0, 4, 3, 61, 3, 62]
abbrev dktX4_is_0 : List UInt8 := dkwX4_is_0 ++ dktX4_is_1
theorem dksX4_is_0 : cX4_is.data.toList.drop 0 = dktX4_is_0 := by decide +kernel
theorem dksX4_is_1 : cX4_is.data.toList.drop 24 = dktX4_is_1 := dk_seg dksX4_is_0 24 rfl rfl
theorem dksX4_is_2 : cX4_is.data.toList.drop 48 = dktX4_is_2 := dk_seg dksX4_is_1 24 rfl rfl
theorem dX4_is_0 : decode cX4_is 0 = .ok (.aload_n 0, 1) := dk_42 (dk_at dksX4_is_0 0 rfl rfl)
theorem dX4_is_1 : decode cX4_is 1 = .ok (.getfield 99, 3) := dk_180 0 99 (dk_at dksX4_is_0 1 rfl rfl)
theorem dX4_is_4 : decode cX4_is 4 = .ok (.aload_n 0, 1) := dk_42 (dk_at dksX4_is_0 4 rfl rfl)
theorem dX4_is_5 : decode cX4_is 5 = .ok (.getfield 102, 3) := dk_180 0 102 (dk_at dksX4_is_0 5 rfl rfl)
theorem dX4_is_8 : decode cX4_is 8 = .ok (.isub, 1) := dk_100 (dk_at dksX4_is_0 8 rfl rfl)
theorem dX4_is_9 : decode cX4_is 9 = .ok (.aload_n 1, 1) := dk_43 (dk_at dksX4_is_0 9 rfl rfl)
theorem dX4_is_10 : decode cX4_is 10 = .ok (.invokevirtual 105, 3) := dk_182 0 105 (dk_at dksX4_is_0 10 rfl rfl)
theorem dX4_is_13 : decode cX4_is 13 = .ok (.if_icmp .ne 7, 3) := dk_160 0 7 (dk_at dksX4_is_0 13 rfl rfl)
theorem dX4_is_16 : decode cX4_is 16 = .ok (.iconst 1, 1) := dk_4 (dk_at dksX4_is_0 16 rfl rfl)
theorem dX4_is_17 : decode cX4_is 17 = .ok (.goto 4, 3) := dk_167 0 4 (dk_at dksX4_is_0 17 rfl rfl)
theorem dX4_is_20 : decode cX4_is 20 = .ok (.iconst 0, 1) := dk_3 (dk_at dksX4_is_0 20 rfl rfl)
theorem dX4_is_21 : decode cX4_is 21 = .ok (.istore_n 2, 1) := dk_61 (dk_at dksX4_is_0 21 rfl rfl)
theorem dX4_is_22 : decode cX4_is 22 = .ok (.iconst 0, 1) := dk_3 (dk_at dksX4_is_0 22 rfl rfl)
theorem dX4_is_23 : decode cX4_is 23 = .ok (.istore_n 3, 1) := dk_62 (dk_at dksX4_is_0 23 rfl rfl)
theorem dX4_is_24 : decode cX4_is 24 = .ok (.iload_n 3, 1) := dk_29 (dk_at dksX4_is_1 0 rfl rfl)
theorem dX4_is_25 : decode cX4_is 25 = .ok (.aload_n 1, 1) := dk_43 (dk_at dksX4_is_1 1 rfl rfl)
theorem dX4_is_26 : decode cX4_is 26 = .ok (.invokevirtual 105, 3) := dk_182 0 105 (dk_at dksX4_is_1 2 rfl rfl)
theorem dX4_is_29 : decode cX4_is 29 = .ok (.if_icmp .ge 38, 3) := dk_162 0 38 (dk_at dksX4_is_1 5 rfl rfl)
theorem dX4_is_32 : decode cX4_is 32 = .ok (.iload_n 2, 1) := dk_28 (dk_at dksX4_is_1 8 rfl rfl)
theorem dX4_is_33 : decode cX4_is 33 = .ok (.ifCond .eq 34, 3) := dk_153 0 34 (dk_at dksX4_is_1 9 rfl rfl)
theorem dX4_is_36 : decode cX4_is 36 = .ok (.aload_n 0, 1) := dk_42 (dk_at dksX4_is_1 12 rfl rfl)
theorem dX4_is_37 : decode cX4_is 37 = .ok (.getfield 28, 3) := dk_180 0 28 (dk_at dksX4_is_1 13 rfl rfl)
theorem dX4_is_40 : decode cX4_is 40 = .ok (.aload_n 0, 1) := dk_42 (dk_at dksX4_is_1 16 rfl rfl)
theorem dX4_is_41 : decode cX4_is 41 = .ok (.getfield 102, 3) := dk_180 0 102 (dk_at dksX4_is_1 17 rfl rfl)
theorem dX4_is_44 : decode cX4_is 44 = .ok (.iload_n 3, 1) := dk_29 (dk_at dksX4_is_1 20 rfl rfl)
theorem dX4_is_45 : decode cX4_is 45 = .ok (.iadd, 1) := dk_96 (dk_at dksX4_is_1 21 rfl rfl)
theorem dX4_is_46 : decode cX4_is 46 = .ok (.iaload, 1) := dk_46 (dk_at dksX4_is_1 22 rfl rfl)
theorem dX4_is_47 : decode cX4_is 47 = .ok (.aload_n 1, 1) := dk_43 (dk_at dksX4_is_1 23 rfl rfl)
theorem dX4_is_48 : decode cX4_is 48 = .ok (.iload_n 3, 1) := dk_29 (dk_at dksX4_is_2 0 rfl rfl)
theorem dX4_is_49 : decode cX4_is 49 = .ok (.invokevirtual 111, 3) := dk_182 0 111 (dk_at dksX4_is_2 1 rfl rfl)
theorem dX4_is_52 : decode cX4_is 52 = .ok (.if_icmp .ne 7, 3) := dk_160 0 7 (dk_at dksX4_is_2 4 rfl rfl)
theorem dX4_is_55 : decode cX4_is 55 = .ok (.iconst 1, 1) := dk_4 (dk_at dksX4_is_2 7 rfl rfl)
theorem dX4_is_56 : decode cX4_is 56 = .ok (.goto 4, 3) := dk_167 0 4 (dk_at dksX4_is_2 8 rfl rfl)
theorem dX4_is_59 : decode cX4_is 59 = .ok (.iconst 0, 1) := dk_3 (dk_at dksX4_is_2 11 rfl rfl)
theorem dX4_is_60 : decode cX4_is 60 = .ok (.istore_n 2, 1) := dk_61 (dk_at dksX4_is_2 12 rfl rfl)
theorem dX4_is_61 : decode cX4_is 61 = .ok (.iinc 3 1, 3) := dk_132 3 1 (dk_at dksX4_is_2 13 rfl rfl)
theorem dX4_is_64 : decode cX4_is 64 = .ok (.goto (-40), 3) := dk_167 255 216 (dk_at dksX4_is_2 16 rfl rfl)
theorem dX4_is_67 : decode cX4_is 67 = .ok (.iload_n 2, 1) := dk_28 (dk_at dksX4_is_2 19 rfl rfl)
theorem dX4_is_68 : decode cX4_is 68 = .ok (.ireturn, 1) := dk_172 (dk_at dksX4_is_2 20 rfl rfl)
abbrev cX4_nameWord : ByteArray := prog_14_method_26_code
def yX4_nameWord : MethodName := ⟨RX4, "nameWord", "()I"⟩
def dkwX4_nameWord_4 : List UInt8 := [42, 18, 135, 182, 0, 117, 153, 0, 8, 16, 49, 167, 0, 4, 4, 172]
abbrev dktX4_nameWord_4 : List UInt8 := dkwX4_nameWord_4 ++ []
def dkwX4_nameWord_3 : List UInt8 := [42, 18, 131, 182, 0, 117, 153, 0, 6, 16, 47, 172, 42, 18, 133, 182, 0, 117, 153, 0, 6, 16, 48, 172]
abbrev dktX4_nameWord_3 : List UInt8 := dkwX4_nameWord_3 ++ dktX4_nameWord_4
def dkwX4_nameWord_2 : List UInt8 := [42, 18, 127, 182, 0, 117, 153, 0, 6, 16, 45, 172, 42, 18, 129, 182, 0, 117, 153, 0, 6, 16, 46, 172]
abbrev dktX4_nameWord_2 : List UInt8 := dkwX4_nameWord_2 ++ dktX4_nameWord_3
def dkwX4_nameWord_1 : List UInt8 := [42, 18, 123, 182, 0, 117, 153, 0, 6, 16, 43, 172, 42, 18, 125, 182, 0, 117, 153, 0, 6, 16, 44, 172]
abbrev dktX4_nameWord_1 : List UInt8 := dkwX4_nameWord_1 ++ dktX4_nameWord_2
def dkwX4_nameWord_0 : List UInt8 := [42, 18, 115, 182, 0, 117, 153, 0, 6, 16, 41, 172, 42, 18, 121, 182, 0, 117, 153, 0, 6, 16, 42, 172]
abbrev dktX4_nameWord_0 : List UInt8 := dkwX4_nameWord_0 ++ dktX4_nameWord_1
theorem dksX4_nameWord_0 : cX4_nameWord.data.toList.drop 0 = dktX4_nameWord_0 := by decide +kernel
theorem dksX4_nameWord_1 : cX4_nameWord.data.toList.drop 24 = dktX4_nameWord_1 := dk_seg dksX4_nameWord_0 24 rfl rfl
theorem dksX4_nameWord_2 : cX4_nameWord.data.toList.drop 48 = dktX4_nameWord_2 := dk_seg dksX4_nameWord_1 24 rfl rfl
theorem dksX4_nameWord_3 : cX4_nameWord.data.toList.drop 72 = dktX4_nameWord_3 := dk_seg dksX4_nameWord_2 24 rfl rfl
theorem dksX4_nameWord_4 : cX4_nameWord.data.toList.drop 96 = dktX4_nameWord_4 := dk_seg dksX4_nameWord_3 24 rfl rfl
theorem dX4_nameWord_0 : decode cX4_nameWord 0 = .ok (.aload_n 0, 1) := dk_42 (dk_at dksX4_nameWord_0 0 rfl rfl)
theorem dX4_nameWord_1 : decode cX4_nameWord 1 = .ok (.ldc 115, 2) := dk_18 115 (dk_at dksX4_nameWord_0 1 rfl rfl)
theorem dX4_nameWord_3 : decode cX4_nameWord 3 = .ok (.invokevirtual 117, 3) := dk_182 0 117 (dk_at dksX4_nameWord_0 3 rfl rfl)
theorem dX4_nameWord_6 : decode cX4_nameWord 6 = .ok (.ifCond .eq 6, 3) := dk_153 0 6 (dk_at dksX4_nameWord_0 6 rfl rfl)
theorem dX4_nameWord_9 : decode cX4_nameWord 9 = .ok (.bipush 41, 2) := dk_16 41 (dk_at dksX4_nameWord_0 9 rfl rfl)
theorem dX4_nameWord_11 : decode cX4_nameWord 11 = .ok (.ireturn, 1) := dk_172 (dk_at dksX4_nameWord_0 11 rfl rfl)
theorem dX4_nameWord_12 : decode cX4_nameWord 12 = .ok (.aload_n 0, 1) := dk_42 (dk_at dksX4_nameWord_0 12 rfl rfl)
theorem dX4_nameWord_13 : decode cX4_nameWord 13 = .ok (.ldc 121, 2) := dk_18 121 (dk_at dksX4_nameWord_0 13 rfl rfl)
theorem dX4_nameWord_15 : decode cX4_nameWord 15 = .ok (.invokevirtual 117, 3) := dk_182 0 117 (dk_at dksX4_nameWord_0 15 rfl rfl)
theorem dX4_nameWord_18 : decode cX4_nameWord 18 = .ok (.ifCond .eq 6, 3) := dk_153 0 6 (dk_at dksX4_nameWord_0 18 rfl rfl)
theorem dX4_nameWord_21 : decode cX4_nameWord 21 = .ok (.bipush 42, 2) := dk_16 42 (dk_at dksX4_nameWord_0 21 rfl rfl)
theorem dX4_nameWord_23 : decode cX4_nameWord 23 = .ok (.ireturn, 1) := dk_172 (dk_at dksX4_nameWord_0 23 rfl rfl)
theorem dX4_nameWord_24 : decode cX4_nameWord 24 = .ok (.aload_n 0, 1) := dk_42 (dk_at dksX4_nameWord_1 0 rfl rfl)
theorem dX4_nameWord_25 : decode cX4_nameWord 25 = .ok (.ldc 123, 2) := dk_18 123 (dk_at dksX4_nameWord_1 1 rfl rfl)
theorem dX4_nameWord_27 : decode cX4_nameWord 27 = .ok (.invokevirtual 117, 3) := dk_182 0 117 (dk_at dksX4_nameWord_1 3 rfl rfl)
theorem dX4_nameWord_30 : decode cX4_nameWord 30 = .ok (.ifCond .eq 6, 3) := dk_153 0 6 (dk_at dksX4_nameWord_1 6 rfl rfl)
theorem dX4_nameWord_33 : decode cX4_nameWord 33 = .ok (.bipush 43, 2) := dk_16 43 (dk_at dksX4_nameWord_1 9 rfl rfl)
theorem dX4_nameWord_35 : decode cX4_nameWord 35 = .ok (.ireturn, 1) := dk_172 (dk_at dksX4_nameWord_1 11 rfl rfl)
theorem dX4_nameWord_36 : decode cX4_nameWord 36 = .ok (.aload_n 0, 1) := dk_42 (dk_at dksX4_nameWord_1 12 rfl rfl)
theorem dX4_nameWord_37 : decode cX4_nameWord 37 = .ok (.ldc 125, 2) := dk_18 125 (dk_at dksX4_nameWord_1 13 rfl rfl)
theorem dX4_nameWord_39 : decode cX4_nameWord 39 = .ok (.invokevirtual 117, 3) := dk_182 0 117 (dk_at dksX4_nameWord_1 15 rfl rfl)
theorem dX4_nameWord_42 : decode cX4_nameWord 42 = .ok (.ifCond .eq 6, 3) := dk_153 0 6 (dk_at dksX4_nameWord_1 18 rfl rfl)
theorem dX4_nameWord_45 : decode cX4_nameWord 45 = .ok (.bipush 44, 2) := dk_16 44 (dk_at dksX4_nameWord_1 21 rfl rfl)
theorem dX4_nameWord_47 : decode cX4_nameWord 47 = .ok (.ireturn, 1) := dk_172 (dk_at dksX4_nameWord_1 23 rfl rfl)
theorem dX4_nameWord_48 : decode cX4_nameWord 48 = .ok (.aload_n 0, 1) := dk_42 (dk_at dksX4_nameWord_2 0 rfl rfl)
theorem dX4_nameWord_49 : decode cX4_nameWord 49 = .ok (.ldc 127, 2) := dk_18 127 (dk_at dksX4_nameWord_2 1 rfl rfl)
theorem dX4_nameWord_51 : decode cX4_nameWord 51 = .ok (.invokevirtual 117, 3) := dk_182 0 117 (dk_at dksX4_nameWord_2 3 rfl rfl)
theorem dX4_nameWord_54 : decode cX4_nameWord 54 = .ok (.ifCond .eq 6, 3) := dk_153 0 6 (dk_at dksX4_nameWord_2 6 rfl rfl)
theorem dX4_nameWord_57 : decode cX4_nameWord 57 = .ok (.bipush 45, 2) := dk_16 45 (dk_at dksX4_nameWord_2 9 rfl rfl)
theorem dX4_nameWord_59 : decode cX4_nameWord 59 = .ok (.ireturn, 1) := dk_172 (dk_at dksX4_nameWord_2 11 rfl rfl)
theorem dX4_nameWord_60 : decode cX4_nameWord 60 = .ok (.aload_n 0, 1) := dk_42 (dk_at dksX4_nameWord_2 12 rfl rfl)
theorem dX4_nameWord_61 : decode cX4_nameWord 61 = .ok (.ldc 129, 2) := dk_18 129 (dk_at dksX4_nameWord_2 13 rfl rfl)
theorem dX4_nameWord_63 : decode cX4_nameWord 63 = .ok (.invokevirtual 117, 3) := dk_182 0 117 (dk_at dksX4_nameWord_2 15 rfl rfl)
theorem dX4_nameWord_66 : decode cX4_nameWord 66 = .ok (.ifCond .eq 6, 3) := dk_153 0 6 (dk_at dksX4_nameWord_2 18 rfl rfl)
theorem dX4_nameWord_69 : decode cX4_nameWord 69 = .ok (.bipush 46, 2) := dk_16 46 (dk_at dksX4_nameWord_2 21 rfl rfl)
theorem dX4_nameWord_71 : decode cX4_nameWord 71 = .ok (.ireturn, 1) := dk_172 (dk_at dksX4_nameWord_2 23 rfl rfl)
theorem dX4_nameWord_72 : decode cX4_nameWord 72 = .ok (.aload_n 0, 1) := dk_42 (dk_at dksX4_nameWord_3 0 rfl rfl)
theorem dX4_nameWord_73 : decode cX4_nameWord 73 = .ok (.ldc 131, 2) := dk_18 131 (dk_at dksX4_nameWord_3 1 rfl rfl)
theorem dX4_nameWord_75 : decode cX4_nameWord 75 = .ok (.invokevirtual 117, 3) := dk_182 0 117 (dk_at dksX4_nameWord_3 3 rfl rfl)
theorem dX4_nameWord_78 : decode cX4_nameWord 78 = .ok (.ifCond .eq 6, 3) := dk_153 0 6 (dk_at dksX4_nameWord_3 6 rfl rfl)
theorem dX4_nameWord_81 : decode cX4_nameWord 81 = .ok (.bipush 47, 2) := dk_16 47 (dk_at dksX4_nameWord_3 9 rfl rfl)
theorem dX4_nameWord_83 : decode cX4_nameWord 83 = .ok (.ireturn, 1) := dk_172 (dk_at dksX4_nameWord_3 11 rfl rfl)
theorem dX4_nameWord_84 : decode cX4_nameWord 84 = .ok (.aload_n 0, 1) := dk_42 (dk_at dksX4_nameWord_3 12 rfl rfl)
theorem dX4_nameWord_85 : decode cX4_nameWord 85 = .ok (.ldc 133, 2) := dk_18 133 (dk_at dksX4_nameWord_3 13 rfl rfl)
theorem dX4_nameWord_87 : decode cX4_nameWord 87 = .ok (.invokevirtual 117, 3) := dk_182 0 117 (dk_at dksX4_nameWord_3 15 rfl rfl)
theorem dX4_nameWord_90 : decode cX4_nameWord 90 = .ok (.ifCond .eq 6, 3) := dk_153 0 6 (dk_at dksX4_nameWord_3 18 rfl rfl)
theorem dX4_nameWord_93 : decode cX4_nameWord 93 = .ok (.bipush 48, 2) := dk_16 48 (dk_at dksX4_nameWord_3 21 rfl rfl)
theorem dX4_nameWord_95 : decode cX4_nameWord 95 = .ok (.ireturn, 1) := dk_172 (dk_at dksX4_nameWord_3 23 rfl rfl)
theorem dX4_nameWord_96 : decode cX4_nameWord 96 = .ok (.aload_n 0, 1) := dk_42 (dk_at dksX4_nameWord_4 0 rfl rfl)
theorem dX4_nameWord_97 : decode cX4_nameWord 97 = .ok (.ldc 135, 2) := dk_18 135 (dk_at dksX4_nameWord_4 1 rfl rfl)
theorem dX4_nameWord_99 : decode cX4_nameWord 99 = .ok (.invokevirtual 117, 3) := dk_182 0 117 (dk_at dksX4_nameWord_4 3 rfl rfl)
theorem dX4_nameWord_102 : decode cX4_nameWord 102 = .ok (.ifCond .eq 8, 3) := dk_153 0 8 (dk_at dksX4_nameWord_4 6 rfl rfl)
theorem dX4_nameWord_105 : decode cX4_nameWord 105 = .ok (.bipush 49, 2) := dk_16 49 (dk_at dksX4_nameWord_4 9 rfl rfl)
theorem dX4_nameWord_107 : decode cX4_nameWord 107 = .ok (.goto 4, 3) := dk_167 0 4 (dk_at dksX4_nameWord_4 11 rfl rfl)
theorem dX4_nameWord_110 : decode cX4_nameWord 110 = .ok (.iconst 1, 1) := dk_4 (dk_at dksX4_nameWord_4 14 rfl rfl)
theorem dX4_nameWord_111 : decode cX4_nameWord 111 = .ok (.ireturn, 1) := dk_172 (dk_at dksX4_nameWord_4 15 rfl rfl)
abbrev cX4_isDigit : ByteArray := prog_14_method_24_code
def yX4_isDigit : MethodName := ⟨RX4, "isDigit", "(I)Z"⟩
def dkwX4_isDigit_0 : List UInt8 := [26, 16, 48, 16, 57, 184, 0, 75, 172]
abbrev dktX4_isDigit_0 : List UInt8 := dkwX4_isDigit_0 ++ []
theorem dksX4_isDigit_0 : cX4_isDigit.data.toList.drop 0 = dktX4_isDigit_0 := by decide +kernel
theorem dX4_isDigit_0 : decode cX4_isDigit 0 = .ok (.iload_n 0, 1) := dk_26 (dk_at dksX4_isDigit_0 0 rfl rfl)
theorem dX4_isDigit_1 : decode cX4_isDigit 1 = .ok (.bipush 48, 2) := dk_16 48 (dk_at dksX4_isDigit_0 1 rfl rfl)
theorem dX4_isDigit_3 : decode cX4_isDigit 3 = .ok (.bipush 57, 2) := dk_16 57 (dk_at dksX4_isDigit_0 3 rfl rfl)
theorem dX4_isDigit_5 : decode cX4_isDigit 5 = .ok (.invokestatic 75, 3) := dk_184 0 75 (dk_at dksX4_isDigit_0 5 rfl rfl)
theorem dX4_isDigit_8 : decode cX4_isDigit 8 = .ok (.ireturn, 1) := dk_172 (dk_at dksX4_isDigit_0 8 rfl rfl)
abbrev cX4_aLine : ByteArray := prog_14_method_39_code
def yX4_aLine : MethodName := ⟨RX4, "aLine", "()Z"⟩
def dkwX4_aLine_5 : List UInt8 := [79, 42, 17, 0, 159, 182, 0, 216, 172]
abbrev dktX4_aLine_5 : List UInt8 := dkwX4_aLine_5 ++ []
def dkwX4_aLine_4 : List UInt8 := [182, 0, 213, 154, 0, 5, 3, 172, 42, 180, 0, 22, 6, 42, 180, 0, 222, 104, 5, 96, 42, 180, 0, 188]
abbrev dktX4_aLine_4 : List UInt8 := dkwX4_aLine_4 ++ dktX4_aLine_5
def dkwX4_aLine_3 : List UInt8 := [180, 0, 222, 104, 4, 96, 42, 180, 0, 188, 79, 42, 180, 0, 161, 6, 160, 0, 16, 42, 182, 0, 185, 42]
abbrev dktX4_aLine_3 : List UInt8 := dkwX4_aLine_3 ++ dktX4_aLine_4
def dkwX4_aLine_2 : List UInt8 := [180, 0, 161, 16, 20, 100, 79, 42, 3, 181, 0, 191, 42, 182, 0, 185, 42, 180, 0, 22, 6, 42]
abbrev dktX4_aLine_2 : List UInt8 := dkwX4_aLine_2 ++ dktX4_aLine_3
def dkwX4_aLine_1 : List UInt8 := [16, 16, 160, 0, 9, 42, 6, 182, 0, 182, 172, 42, 180, 0, 22, 6, 42, 180, 0, 222, 104, 42]
abbrev dktX4_aLine_1 : List UInt8 := dkwX4_aLine_1 ++ dktX4_aLine_2
def dkwX4_aLine_0 : List UInt8 := [42, 180, 0, 161, 16, 20, 16, 24, 184, 0, 75, 154, 0, 9, 42, 4, 182, 0, 182, 172, 42, 180, 0, 222]
abbrev dktX4_aLine_0 : List UInt8 := dkwX4_aLine_0 ++ dktX4_aLine_1
theorem dksX4_aLine_0 : cX4_aLine.data.toList.drop 0 = dktX4_aLine_0 := by decide +kernel
theorem dksX4_aLine_1 : cX4_aLine.data.toList.drop 24 = dktX4_aLine_1 := dk_seg dksX4_aLine_0 24 rfl rfl
theorem dksX4_aLine_2 : cX4_aLine.data.toList.drop 46 = dktX4_aLine_2 := dk_seg dksX4_aLine_1 22 rfl rfl
theorem dksX4_aLine_3 : cX4_aLine.data.toList.drop 68 = dktX4_aLine_3 := dk_seg dksX4_aLine_2 22 rfl rfl
theorem dksX4_aLine_4 : cX4_aLine.data.toList.drop 92 = dktX4_aLine_4 := dk_seg dksX4_aLine_3 24 rfl rfl
theorem dksX4_aLine_5 : cX4_aLine.data.toList.drop 116 = dktX4_aLine_5 := dk_seg dksX4_aLine_4 24 rfl rfl
theorem dX4_aLine_0 : decode cX4_aLine 0 = .ok (.aload_n 0, 1) := dk_42 (dk_at dksX4_aLine_0 0 rfl rfl)
theorem dX4_aLine_1 : decode cX4_aLine 1 = .ok (.getfield 161, 3) := dk_180 0 161 (dk_at dksX4_aLine_0 1 rfl rfl)
theorem dX4_aLine_4 : decode cX4_aLine 4 = .ok (.bipush 20, 2) := dk_16 20 (dk_at dksX4_aLine_0 4 rfl rfl)
theorem dX4_aLine_6 : decode cX4_aLine 6 = .ok (.bipush 24, 2) := dk_16 24 (dk_at dksX4_aLine_0 6 rfl rfl)
theorem dX4_aLine_8 : decode cX4_aLine 8 = .ok (.invokestatic 75, 3) := dk_184 0 75 (dk_at dksX4_aLine_0 8 rfl rfl)
theorem dX4_aLine_11 : decode cX4_aLine 11 = .ok (.ifCond .ne 9, 3) := dk_154 0 9 (dk_at dksX4_aLine_0 11 rfl rfl)
theorem dX4_aLine_14 : decode cX4_aLine 14 = .ok (.aload_n 0, 1) := dk_42 (dk_at dksX4_aLine_0 14 rfl rfl)
theorem dX4_aLine_15 : decode cX4_aLine 15 = .ok (.iconst 1, 1) := dk_4 (dk_at dksX4_aLine_0 15 rfl rfl)
theorem dX4_aLine_16 : decode cX4_aLine 16 = .ok (.invokevirtual 182, 3) := dk_182 0 182 (dk_at dksX4_aLine_0 16 rfl rfl)
theorem dX4_aLine_19 : decode cX4_aLine 19 = .ok (.ireturn, 1) := dk_172 (dk_at dksX4_aLine_0 19 rfl rfl)
theorem dX4_aLine_20 : decode cX4_aLine 20 = .ok (.aload_n 0, 1) := dk_42 (dk_at dksX4_aLine_0 20 rfl rfl)
theorem dX4_aLine_21 : decode cX4_aLine 21 = .ok (.getfield 222, 3) := dk_180 0 222 (dk_at dksX4_aLine_0 21 rfl rfl)
theorem dX4_aLine_24 : decode cX4_aLine 24 = .ok (.bipush 16, 2) := dk_16 16 (dk_at dksX4_aLine_1 0 rfl rfl)
theorem dX4_aLine_26 : decode cX4_aLine 26 = .ok (.if_icmp .ne 9, 3) := dk_160 0 9 (dk_at dksX4_aLine_1 2 rfl rfl)
theorem dX4_aLine_29 : decode cX4_aLine 29 = .ok (.aload_n 0, 1) := dk_42 (dk_at dksX4_aLine_1 5 rfl rfl)
theorem dX4_aLine_30 : decode cX4_aLine 30 = .ok (.iconst 3, 1) := dk_6 (dk_at dksX4_aLine_1 6 rfl rfl)
theorem dX4_aLine_31 : decode cX4_aLine 31 = .ok (.invokevirtual 182, 3) := dk_182 0 182 (dk_at dksX4_aLine_1 7 rfl rfl)
theorem dX4_aLine_34 : decode cX4_aLine 34 = .ok (.ireturn, 1) := dk_172 (dk_at dksX4_aLine_1 10 rfl rfl)
theorem dX4_aLine_35 : decode cX4_aLine 35 = .ok (.aload_n 0, 1) := dk_42 (dk_at dksX4_aLine_1 11 rfl rfl)
theorem dX4_aLine_36 : decode cX4_aLine 36 = .ok (.getfield 22, 3) := dk_180 0 22 (dk_at dksX4_aLine_1 12 rfl rfl)
theorem dX4_aLine_39 : decode cX4_aLine 39 = .ok (.iconst 3, 1) := dk_6 (dk_at dksX4_aLine_1 15 rfl rfl)
theorem dX4_aLine_40 : decode cX4_aLine 40 = .ok (.aload_n 0, 1) := dk_42 (dk_at dksX4_aLine_1 16 rfl rfl)
theorem dX4_aLine_41 : decode cX4_aLine 41 = .ok (.getfield 222, 3) := dk_180 0 222 (dk_at dksX4_aLine_1 17 rfl rfl)
theorem dX4_aLine_44 : decode cX4_aLine 44 = .ok (.imul, 1) := dk_104 (dk_at dksX4_aLine_1 20 rfl rfl)
theorem dX4_aLine_45 : decode cX4_aLine 45 = .ok (.aload_n 0, 1) := dk_42 (dk_at dksX4_aLine_1 21 rfl rfl)
theorem dX4_aLine_46 : decode cX4_aLine 46 = .ok (.getfield 161, 3) := dk_180 0 161 (dk_at dksX4_aLine_2 0 rfl rfl)
theorem dX4_aLine_49 : decode cX4_aLine 49 = .ok (.bipush 20, 2) := dk_16 20 (dk_at dksX4_aLine_2 3 rfl rfl)
theorem dX4_aLine_51 : decode cX4_aLine 51 = .ok (.isub, 1) := dk_100 (dk_at dksX4_aLine_2 5 rfl rfl)
theorem dX4_aLine_52 : decode cX4_aLine 52 = .ok (.iastore, 1) := dk_79 (dk_at dksX4_aLine_2 6 rfl rfl)
theorem dX4_aLine_53 : decode cX4_aLine 53 = .ok (.aload_n 0, 1) := dk_42 (dk_at dksX4_aLine_2 7 rfl rfl)
theorem dX4_aLine_54 : decode cX4_aLine 54 = .ok (.iconst 0, 1) := dk_3 (dk_at dksX4_aLine_2 8 rfl rfl)
theorem dX4_aLine_55 : decode cX4_aLine 55 = .ok (.putfield 191, 3) := dk_181 0 191 (dk_at dksX4_aLine_2 9 rfl rfl)
theorem dX4_aLine_58 : decode cX4_aLine 58 = .ok (.aload_n 0, 1) := dk_42 (dk_at dksX4_aLine_2 12 rfl rfl)
theorem dX4_aLine_59 : decode cX4_aLine 59 = .ok (.invokevirtual 185, 3) := dk_182 0 185 (dk_at dksX4_aLine_2 13 rfl rfl)
theorem dX4_aLine_62 : decode cX4_aLine 62 = .ok (.aload_n 0, 1) := dk_42 (dk_at dksX4_aLine_2 16 rfl rfl)
theorem dX4_aLine_63 : decode cX4_aLine 63 = .ok (.getfield 22, 3) := dk_180 0 22 (dk_at dksX4_aLine_2 17 rfl rfl)
theorem dX4_aLine_66 : decode cX4_aLine 66 = .ok (.iconst 3, 1) := dk_6 (dk_at dksX4_aLine_2 20 rfl rfl)
theorem dX4_aLine_67 : decode cX4_aLine 67 = .ok (.aload_n 0, 1) := dk_42 (dk_at dksX4_aLine_2 21 rfl rfl)
theorem dX4_aLine_68 : decode cX4_aLine 68 = .ok (.getfield 222, 3) := dk_180 0 222 (dk_at dksX4_aLine_3 0 rfl rfl)
theorem dX4_aLine_71 : decode cX4_aLine 71 = .ok (.imul, 1) := dk_104 (dk_at dksX4_aLine_3 3 rfl rfl)
theorem dX4_aLine_72 : decode cX4_aLine 72 = .ok (.iconst 1, 1) := dk_4 (dk_at dksX4_aLine_3 4 rfl rfl)
theorem dX4_aLine_73 : decode cX4_aLine 73 = .ok (.iadd, 1) := dk_96 (dk_at dksX4_aLine_3 5 rfl rfl)
theorem dX4_aLine_74 : decode cX4_aLine 74 = .ok (.aload_n 0, 1) := dk_42 (dk_at dksX4_aLine_3 6 rfl rfl)
theorem dX4_aLine_75 : decode cX4_aLine 75 = .ok (.getfield 188, 3) := dk_180 0 188 (dk_at dksX4_aLine_3 7 rfl rfl)
theorem dX4_aLine_78 : decode cX4_aLine 78 = .ok (.iastore, 1) := dk_79 (dk_at dksX4_aLine_3 10 rfl rfl)
theorem dX4_aLine_79 : decode cX4_aLine 79 = .ok (.aload_n 0, 1) := dk_42 (dk_at dksX4_aLine_3 11 rfl rfl)
theorem dX4_aLine_80 : decode cX4_aLine 80 = .ok (.getfield 161, 3) := dk_180 0 161 (dk_at dksX4_aLine_3 12 rfl rfl)
theorem dX4_aLine_83 : decode cX4_aLine 83 = .ok (.iconst 3, 1) := dk_6 (dk_at dksX4_aLine_3 15 rfl rfl)
theorem dX4_aLine_84 : decode cX4_aLine 84 = .ok (.if_icmp .ne 16, 3) := dk_160 0 16 (dk_at dksX4_aLine_3 16 rfl rfl)
theorem dX4_aLine_87 : decode cX4_aLine 87 = .ok (.aload_n 0, 1) := dk_42 (dk_at dksX4_aLine_3 19 rfl rfl)
theorem dX4_aLine_88 : decode cX4_aLine 88 = .ok (.invokevirtual 185, 3) := dk_182 0 185 (dk_at dksX4_aLine_3 20 rfl rfl)
theorem dX4_aLine_91 : decode cX4_aLine 91 = .ok (.aload_n 0, 1) := dk_42 (dk_at dksX4_aLine_3 23 rfl rfl)
theorem dX4_aLine_92 : decode cX4_aLine 92 = .ok (.invokevirtual 213, 3) := dk_182 0 213 (dk_at dksX4_aLine_4 0 rfl rfl)
theorem dX4_aLine_95 : decode cX4_aLine 95 = .ok (.ifCond .ne 5, 3) := dk_154 0 5 (dk_at dksX4_aLine_4 3 rfl rfl)
theorem dX4_aLine_98 : decode cX4_aLine 98 = .ok (.iconst 0, 1) := dk_3 (dk_at dksX4_aLine_4 6 rfl rfl)
theorem dX4_aLine_99 : decode cX4_aLine 99 = .ok (.ireturn, 1) := dk_172 (dk_at dksX4_aLine_4 7 rfl rfl)
theorem dX4_aLine_100 : decode cX4_aLine 100 = .ok (.aload_n 0, 1) := dk_42 (dk_at dksX4_aLine_4 8 rfl rfl)
theorem dX4_aLine_101 : decode cX4_aLine 101 = .ok (.getfield 22, 3) := dk_180 0 22 (dk_at dksX4_aLine_4 9 rfl rfl)
theorem dX4_aLine_104 : decode cX4_aLine 104 = .ok (.iconst 3, 1) := dk_6 (dk_at dksX4_aLine_4 12 rfl rfl)
theorem dX4_aLine_105 : decode cX4_aLine 105 = .ok (.aload_n 0, 1) := dk_42 (dk_at dksX4_aLine_4 13 rfl rfl)
theorem dX4_aLine_106 : decode cX4_aLine 106 = .ok (.getfield 222, 3) := dk_180 0 222 (dk_at dksX4_aLine_4 14 rfl rfl)
theorem dX4_aLine_109 : decode cX4_aLine 109 = .ok (.imul, 1) := dk_104 (dk_at dksX4_aLine_4 17 rfl rfl)
theorem dX4_aLine_110 : decode cX4_aLine 110 = .ok (.iconst 2, 1) := dk_5 (dk_at dksX4_aLine_4 18 rfl rfl)
theorem dX4_aLine_111 : decode cX4_aLine 111 = .ok (.iadd, 1) := dk_96 (dk_at dksX4_aLine_4 19 rfl rfl)
theorem dX4_aLine_112 : decode cX4_aLine 112 = .ok (.aload_n 0, 1) := dk_42 (dk_at dksX4_aLine_4 20 rfl rfl)
theorem dX4_aLine_113 : decode cX4_aLine 113 = .ok (.getfield 188, 3) := dk_180 0 188 (dk_at dksX4_aLine_4 21 rfl rfl)
theorem dX4_aLine_116 : decode cX4_aLine 116 = .ok (.iastore, 1) := dk_79 (dk_at dksX4_aLine_5 0 rfl rfl)
theorem dX4_aLine_117 : decode cX4_aLine 117 = .ok (.aload_n 0, 1) := dk_42 (dk_at dksX4_aLine_5 1 rfl rfl)
theorem dX4_aLine_118 : decode cX4_aLine 118 = .ok (.sipush 159, 3) := dk_17 0 159 (dk_at dksX4_aLine_5 2 rfl rfl)
theorem dX4_aLine_121 : decode cX4_aLine 121 = .ok (.invokevirtual 216, 3) := dk_182 0 216 (dk_at dksX4_aLine_5 5 rfl rfl)
theorem dX4_aLine_124 : decode cX4_aLine 124 = .ok (.ireturn, 1) := dk_172 (dk_at dksX4_aLine_5 8 rfl rfl)
abbrev cX4_bad : ByteArray := prog_14_method_29_code
def yX4_bad : MethodName := ⟨RX4, "bad", "(I)Z"⟩
def dkwX4_bad_0 : List UInt8 := [42, 27, 181, 0, 176, 42, 42, 180, 0, 102, 181, 0, 179, 3, 172]
abbrev dktX4_bad_0 : List UInt8 := dkwX4_bad_0 ++ []
theorem dksX4_bad_0 : cX4_bad.data.toList.drop 0 = dktX4_bad_0 := by decide +kernel
theorem dX4_bad_0 : decode cX4_bad 0 = .ok (.aload_n 0, 1) := dk_42 (dk_at dksX4_bad_0 0 rfl rfl)
theorem dX4_bad_1 : decode cX4_bad 1 = .ok (.iload_n 1, 1) := dk_27 (dk_at dksX4_bad_0 1 rfl rfl)
theorem dX4_bad_2 : decode cX4_bad 2 = .ok (.putfield 176, 3) := dk_181 0 176 (dk_at dksX4_bad_0 2 rfl rfl)
theorem dX4_bad_5 : decode cX4_bad 5 = .ok (.aload_n 0, 1) := dk_42 (dk_at dksX4_bad_0 5 rfl rfl)
theorem dX4_bad_6 : decode cX4_bad 6 = .ok (.aload_n 0, 1) := dk_42 (dk_at dksX4_bad_0 6 rfl rfl)
theorem dX4_bad_7 : decode cX4_bad 7 = .ok (.getfield 102, 3) := dk_180 0 102 (dk_at dksX4_bad_0 7 rfl rfl)
theorem dX4_bad_10 : decode cX4_bad 10 = .ok (.putfield 179, 3) := dk_181 0 179 (dk_at dksX4_bad_0 10 rfl rfl)
theorem dX4_bad_13 : decode cX4_bad 13 = .ok (.iconst 0, 1) := dk_3 (dk_at dksX4_bad_0 13 rfl rfl)
theorem dX4_bad_14 : decode cX4_bad 14 = .ok (.ireturn, 1) := dk_172 (dk_at dksX4_bad_0 14 rfl rfl)
abbrev cX4_any : ByteArray := prog_14_method_36_code
def yX4_any : MethodName := ⟨RX4, "any", "()Z"⟩
def dkwX4_any_1 : List UInt8 := [182, 0, 204, 154, 0, 5, 3, 172, 42, 16, 22, 3, 182, 0, 198, 167, 255, 228, 4, 172]
abbrev dktX4_any_1 : List UInt8 := dkwX4_any_1 ++ []
def dkwX4_any_0 : List UInt8 := [42, 182, 0, 204, 154, 0, 5, 3, 172, 42, 180, 0, 161, 7, 160, 0, 26, 42, 182, 0, 185, 42]
abbrev dktX4_any_0 : List UInt8 := dkwX4_any_0 ++ dktX4_any_1
theorem dksX4_any_0 : cX4_any.data.toList.drop 0 = dktX4_any_0 := by decide +kernel
theorem dksX4_any_1 : cX4_any.data.toList.drop 22 = dktX4_any_1 := dk_seg dksX4_any_0 22 rfl rfl
theorem dX4_any_0 : decode cX4_any 0 = .ok (.aload_n 0, 1) := dk_42 (dk_at dksX4_any_0 0 rfl rfl)
theorem dX4_any_1 : decode cX4_any 1 = .ok (.invokevirtual 204, 3) := dk_182 0 204 (dk_at dksX4_any_0 1 rfl rfl)
theorem dX4_any_4 : decode cX4_any 4 = .ok (.ifCond .ne 5, 3) := dk_154 0 5 (dk_at dksX4_any_0 4 rfl rfl)
theorem dX4_any_7 : decode cX4_any 7 = .ok (.iconst 0, 1) := dk_3 (dk_at dksX4_any_0 7 rfl rfl)
theorem dX4_any_8 : decode cX4_any 8 = .ok (.ireturn, 1) := dk_172 (dk_at dksX4_any_0 8 rfl rfl)
theorem dX4_any_9 : decode cX4_any 9 = .ok (.aload_n 0, 1) := dk_42 (dk_at dksX4_any_0 9 rfl rfl)
theorem dX4_any_10 : decode cX4_any 10 = .ok (.getfield 161, 3) := dk_180 0 161 (dk_at dksX4_any_0 10 rfl rfl)
theorem dX4_any_13 : decode cX4_any 13 = .ok (.iconst 4, 1) := dk_7 (dk_at dksX4_any_0 13 rfl rfl)
theorem dX4_any_14 : decode cX4_any 14 = .ok (.if_icmp .ne 26, 3) := dk_160 0 26 (dk_at dksX4_any_0 14 rfl rfl)
theorem dX4_any_17 : decode cX4_any 17 = .ok (.aload_n 0, 1) := dk_42 (dk_at dksX4_any_0 17 rfl rfl)
theorem dX4_any_18 : decode cX4_any 18 = .ok (.invokevirtual 185, 3) := dk_182 0 185 (dk_at dksX4_any_0 18 rfl rfl)
theorem dX4_any_21 : decode cX4_any 21 = .ok (.aload_n 0, 1) := dk_42 (dk_at dksX4_any_0 21 rfl rfl)
theorem dX4_any_22 : decode cX4_any 22 = .ok (.invokevirtual 204, 3) := dk_182 0 204 (dk_at dksX4_any_1 0 rfl rfl)
theorem dX4_any_25 : decode cX4_any 25 = .ok (.ifCond .ne 5, 3) := dk_154 0 5 (dk_at dksX4_any_1 3 rfl rfl)
theorem dX4_any_28 : decode cX4_any 28 = .ok (.iconst 0, 1) := dk_3 (dk_at dksX4_any_1 6 rfl rfl)
theorem dX4_any_29 : decode cX4_any 29 = .ok (.ireturn, 1) := dk_172 (dk_at dksX4_any_1 7 rfl rfl)
theorem dX4_any_30 : decode cX4_any 30 = .ok (.aload_n 0, 1) := dk_42 (dk_at dksX4_any_1 8 rfl rfl)
theorem dX4_any_31 : decode cX4_any 31 = .ok (.bipush 22, 2) := dk_16 22 (dk_at dksX4_any_1 9 rfl rfl)
theorem dX4_any_33 : decode cX4_any 33 = .ok (.iconst 0, 1) := dk_3 (dk_at dksX4_any_1 11 rfl rfl)
theorem dX4_any_34 : decode cX4_any 34 = .ok (.invokevirtual 198, 3) := dk_182 0 198 (dk_at dksX4_any_1 12 rfl rfl)
theorem dX4_any_37 : decode cX4_any 37 = .ok (.goto (-28), 3) := dk_167 255 228 (dk_at dksX4_any_1 15 rfl rfl)
theorem dX4_any_40 : decode cX4_any 40 = .ok (.iconst 1, 1) := dk_4 (dk_at dksX4_any_1 18 rfl rfl)
theorem dX4_any_41 : decode cX4_any 41 = .ok (.ireturn, 1) := dk_172 (dk_at dksX4_any_1 19 rfl rfl)
abbrev cX4_every : ByteArray := prog_14_method_37_code
def yX4_every : MethodName := ⟨RX4, "every", "()Z"⟩
def dkwX4_every_1 : List UInt8 := [182, 0, 207, 154, 0, 5, 3, 172, 42, 16, 21, 3, 182, 0, 198, 167, 255, 228, 4, 172]
abbrev dktX4_every_1 : List UInt8 := dkwX4_every_1 ++ []
def dkwX4_every_0 : List UInt8 := [42, 182, 0, 207, 154, 0, 5, 3, 172, 42, 180, 0, 161, 8, 160, 0, 26, 42, 182, 0, 185, 42]
abbrev dktX4_every_0 : List UInt8 := dkwX4_every_0 ++ dktX4_every_1
theorem dksX4_every_0 : cX4_every.data.toList.drop 0 = dktX4_every_0 := by decide +kernel
theorem dksX4_every_1 : cX4_every.data.toList.drop 22 = dktX4_every_1 := dk_seg dksX4_every_0 22 rfl rfl
theorem dX4_every_0 : decode cX4_every 0 = .ok (.aload_n 0, 1) := dk_42 (dk_at dksX4_every_0 0 rfl rfl)
theorem dX4_every_1 : decode cX4_every 1 = .ok (.invokevirtual 207, 3) := dk_182 0 207 (dk_at dksX4_every_0 1 rfl rfl)
theorem dX4_every_4 : decode cX4_every 4 = .ok (.ifCond .ne 5, 3) := dk_154 0 5 (dk_at dksX4_every_0 4 rfl rfl)
theorem dX4_every_7 : decode cX4_every 7 = .ok (.iconst 0, 1) := dk_3 (dk_at dksX4_every_0 7 rfl rfl)
theorem dX4_every_8 : decode cX4_every 8 = .ok (.ireturn, 1) := dk_172 (dk_at dksX4_every_0 8 rfl rfl)
theorem dX4_every_9 : decode cX4_every 9 = .ok (.aload_n 0, 1) := dk_42 (dk_at dksX4_every_0 9 rfl rfl)
theorem dX4_every_10 : decode cX4_every 10 = .ok (.getfield 161, 3) := dk_180 0 161 (dk_at dksX4_every_0 10 rfl rfl)
theorem dX4_every_13 : decode cX4_every 13 = .ok (.iconst 5, 1) := dk_8 (dk_at dksX4_every_0 13 rfl rfl)
theorem dX4_every_14 : decode cX4_every 14 = .ok (.if_icmp .ne 26, 3) := dk_160 0 26 (dk_at dksX4_every_0 14 rfl rfl)
theorem dX4_every_17 : decode cX4_every 17 = .ok (.aload_n 0, 1) := dk_42 (dk_at dksX4_every_0 17 rfl rfl)
theorem dX4_every_18 : decode cX4_every 18 = .ok (.invokevirtual 185, 3) := dk_182 0 185 (dk_at dksX4_every_0 18 rfl rfl)
theorem dX4_every_21 : decode cX4_every 21 = .ok (.aload_n 0, 1) := dk_42 (dk_at dksX4_every_0 21 rfl rfl)
theorem dX4_every_22 : decode cX4_every 22 = .ok (.invokevirtual 207, 3) := dk_182 0 207 (dk_at dksX4_every_1 0 rfl rfl)
theorem dX4_every_25 : decode cX4_every 25 = .ok (.ifCond .ne 5, 3) := dk_154 0 5 (dk_at dksX4_every_1 3 rfl rfl)
theorem dX4_every_28 : decode cX4_every 28 = .ok (.iconst 0, 1) := dk_3 (dk_at dksX4_every_1 6 rfl rfl)
theorem dX4_every_29 : decode cX4_every 29 = .ok (.ireturn, 1) := dk_172 (dk_at dksX4_every_1 7 rfl rfl)
theorem dX4_every_30 : decode cX4_every 30 = .ok (.aload_n 0, 1) := dk_42 (dk_at dksX4_every_1 8 rfl rfl)
theorem dX4_every_31 : decode cX4_every 31 = .ok (.bipush 21, 2) := dk_16 21 (dk_at dksX4_every_1 9 rfl rfl)
theorem dX4_every_33 : decode cX4_every 33 = .ok (.iconst 0, 1) := dk_3 (dk_at dksX4_every_1 11 rfl rfl)
theorem dX4_every_34 : decode cX4_every 34 = .ok (.invokevirtual 198, 3) := dk_182 0 198 (dk_at dksX4_every_1 12 rfl rfl)
theorem dX4_every_37 : decode cX4_every 37 = .ok (.goto (-28), 3) := dk_167 255 228 (dk_at dksX4_every_1 15 rfl rfl)
theorem dX4_every_40 : decode cX4_every 40 = .ok (.iconst 1, 1) := dk_4 (dk_at dksX4_every_1 18 rfl rfl)
theorem dX4_every_41 : decode cX4_every 41 = .ok (.ireturn, 1) := dk_172 (dk_at dksX4_every_1 19 rfl rfl)
abbrev cX4_oneTest : ByteArray := prog_14_method_38_code
def yX4_oneTest : MethodName := ⟨RX4, "oneTest", "()Z"⟩
def dkwX4_oneTest_7 : List UInt8 := [154, 0, 5, 3, 172, 42, 27, 3, 182, 0, 198, 4, 172]
abbrev dktX4_oneTest_7 : List UInt8 := dkwX4_oneTest_7 ++ []
def dkwX4_oneTest_6 : List UInt8 := [167, 0, 4, 2, 60, 27, 2, 160, 0, 9, 42, 4, 182, 0, 182, 172, 42, 182, 0, 185, 42, 182, 0, 219]
abbrev dktX4_oneTest_6 : List UInt8 := dkwX4_oneTest_6 ++ dktX4_oneTest_7
def dkwX4_oneTest_5 : List UInt8 := [17, 0, 161, 160, 0, 8, 16, 18, 167, 0, 19, 42, 180, 0, 161, 17, 0, 162, 160, 0, 8, 16, 19]
abbrev dktX4_oneTest_5 : List UInt8 := dkwX4_oneTest_5 ++ dktX4_oneTest_6
def dkwX4_oneTest_4 : List UInt8 := [154, 0, 5, 3, 172, 42, 180, 0, 161, 17, 0, 160, 160, 0, 8, 16, 17, 167, 0, 34, 42, 180, 0, 161]
abbrev dktX4_oneTest_4 : List UInt8 := dkwX4_oneTest_4 ++ dktX4_oneTest_5
def dkwX4_oneTest_3 : List UInt8 := [182, 0, 216, 154, 0, 5, 3, 172, 42, 89, 180, 0, 191, 4, 100, 181, 0, 191, 4, 172, 42, 182, 0, 219]
abbrev dktX4_oneTest_3 : List UInt8 := dkwX4_oneTest_3 ++ dktX4_oneTest_4
def dkwX4_oneTest_2 : List UInt8 := [17, 0, 140, 160, 0, 41, 42, 182, 0, 210, 153, 0, 20, 42, 182, 0, 213, 153, 0, 13, 42, 17, 0, 141]
abbrev dktX4_oneTest_2 : List UInt8 := dkwX4_oneTest_2 ++ dktX4_oneTest_3
def dkwX4_oneTest_1 : List UInt8 := [172, 42, 89, 180, 0, 191, 4, 100, 181, 0, 191, 42, 16, 20, 3, 182, 0, 198, 4, 172, 42, 180, 0, 161]
abbrev dktX4_oneTest_1 : List UInt8 := dkwX4_oneTest_1 ++ dktX4_oneTest_2
def dkwX4_oneTest_0 : List UInt8 := [42, 180, 0, 161, 16, 6, 160, 0, 38, 42, 182, 0, 210, 153, 0, 10, 42, 182, 0, 207, 154, 0, 5, 3]
abbrev dktX4_oneTest_0 : List UInt8 := dkwX4_oneTest_0 ++ dktX4_oneTest_1
theorem dksX4_oneTest_0 : cX4_oneTest.data.toList.drop 0 = dktX4_oneTest_0 := by decide +kernel
theorem dksX4_oneTest_1 : cX4_oneTest.data.toList.drop 24 = dktX4_oneTest_1 := dk_seg dksX4_oneTest_0 24 rfl rfl
theorem dksX4_oneTest_2 : cX4_oneTest.data.toList.drop 48 = dktX4_oneTest_2 := dk_seg dksX4_oneTest_1 24 rfl rfl
theorem dksX4_oneTest_3 : cX4_oneTest.data.toList.drop 72 = dktX4_oneTest_3 := dk_seg dksX4_oneTest_2 24 rfl rfl
theorem dksX4_oneTest_4 : cX4_oneTest.data.toList.drop 96 = dktX4_oneTest_4 := dk_seg dksX4_oneTest_3 24 rfl rfl
theorem dksX4_oneTest_5 : cX4_oneTest.data.toList.drop 120 = dktX4_oneTest_5 := dk_seg dksX4_oneTest_4 24 rfl rfl
theorem dksX4_oneTest_6 : cX4_oneTest.data.toList.drop 143 = dktX4_oneTest_6 := dk_seg dksX4_oneTest_5 23 rfl rfl
theorem dksX4_oneTest_7 : cX4_oneTest.data.toList.drop 167 = dktX4_oneTest_7 := dk_seg dksX4_oneTest_6 24 rfl rfl
theorem dX4_oneTest_0 : decode cX4_oneTest 0 = .ok (.aload_n 0, 1) := dk_42 (dk_at dksX4_oneTest_0 0 rfl rfl)
theorem dX4_oneTest_1 : decode cX4_oneTest 1 = .ok (.getfield 161, 3) := dk_180 0 161 (dk_at dksX4_oneTest_0 1 rfl rfl)
theorem dX4_oneTest_4 : decode cX4_oneTest 4 = .ok (.bipush 6, 2) := dk_16 6 (dk_at dksX4_oneTest_0 4 rfl rfl)
theorem dX4_oneTest_6 : decode cX4_oneTest 6 = .ok (.if_icmp .ne 38, 3) := dk_160 0 38 (dk_at dksX4_oneTest_0 6 rfl rfl)
theorem dX4_oneTest_9 : decode cX4_oneTest 9 = .ok (.aload_n 0, 1) := dk_42 (dk_at dksX4_oneTest_0 9 rfl rfl)
theorem dX4_oneTest_10 : decode cX4_oneTest 10 = .ok (.invokevirtual 210, 3) := dk_182 0 210 (dk_at dksX4_oneTest_0 10 rfl rfl)
theorem dX4_oneTest_13 : decode cX4_oneTest 13 = .ok (.ifCond .eq 10, 3) := dk_153 0 10 (dk_at dksX4_oneTest_0 13 rfl rfl)
theorem dX4_oneTest_16 : decode cX4_oneTest 16 = .ok (.aload_n 0, 1) := dk_42 (dk_at dksX4_oneTest_0 16 rfl rfl)
theorem dX4_oneTest_17 : decode cX4_oneTest 17 = .ok (.invokevirtual 207, 3) := dk_182 0 207 (dk_at dksX4_oneTest_0 17 rfl rfl)
theorem dX4_oneTest_20 : decode cX4_oneTest 20 = .ok (.ifCond .ne 5, 3) := dk_154 0 5 (dk_at dksX4_oneTest_0 20 rfl rfl)
theorem dX4_oneTest_23 : decode cX4_oneTest 23 = .ok (.iconst 0, 1) := dk_3 (dk_at dksX4_oneTest_0 23 rfl rfl)
theorem dX4_oneTest_24 : decode cX4_oneTest 24 = .ok (.ireturn, 1) := dk_172 (dk_at dksX4_oneTest_1 0 rfl rfl)
theorem dX4_oneTest_25 : decode cX4_oneTest 25 = .ok (.aload_n 0, 1) := dk_42 (dk_at dksX4_oneTest_1 1 rfl rfl)
theorem dX4_oneTest_26 : decode cX4_oneTest 26 = .ok (.dup, 1) := dk_89 (dk_at dksX4_oneTest_1 2 rfl rfl)
theorem dX4_oneTest_27 : decode cX4_oneTest 27 = .ok (.getfield 191, 3) := dk_180 0 191 (dk_at dksX4_oneTest_1 3 rfl rfl)
theorem dX4_oneTest_30 : decode cX4_oneTest 30 = .ok (.iconst 1, 1) := dk_4 (dk_at dksX4_oneTest_1 6 rfl rfl)
theorem dX4_oneTest_31 : decode cX4_oneTest 31 = .ok (.isub, 1) := dk_100 (dk_at dksX4_oneTest_1 7 rfl rfl)
theorem dX4_oneTest_32 : decode cX4_oneTest 32 = .ok (.putfield 191, 3) := dk_181 0 191 (dk_at dksX4_oneTest_1 8 rfl rfl)
theorem dX4_oneTest_35 : decode cX4_oneTest 35 = .ok (.aload_n 0, 1) := dk_42 (dk_at dksX4_oneTest_1 11 rfl rfl)
theorem dX4_oneTest_36 : decode cX4_oneTest 36 = .ok (.bipush 20, 2) := dk_16 20 (dk_at dksX4_oneTest_1 12 rfl rfl)
theorem dX4_oneTest_38 : decode cX4_oneTest 38 = .ok (.iconst 0, 1) := dk_3 (dk_at dksX4_oneTest_1 14 rfl rfl)
theorem dX4_oneTest_39 : decode cX4_oneTest 39 = .ok (.invokevirtual 198, 3) := dk_182 0 198 (dk_at dksX4_oneTest_1 15 rfl rfl)
theorem dX4_oneTest_42 : decode cX4_oneTest 42 = .ok (.iconst 1, 1) := dk_4 (dk_at dksX4_oneTest_1 18 rfl rfl)
theorem dX4_oneTest_43 : decode cX4_oneTest 43 = .ok (.ireturn, 1) := dk_172 (dk_at dksX4_oneTest_1 19 rfl rfl)
theorem dX4_oneTest_44 : decode cX4_oneTest 44 = .ok (.aload_n 0, 1) := dk_42 (dk_at dksX4_oneTest_1 20 rfl rfl)
theorem dX4_oneTest_45 : decode cX4_oneTest 45 = .ok (.getfield 161, 3) := dk_180 0 161 (dk_at dksX4_oneTest_1 21 rfl rfl)
theorem dX4_oneTest_48 : decode cX4_oneTest 48 = .ok (.sipush 140, 3) := dk_17 0 140 (dk_at dksX4_oneTest_2 0 rfl rfl)
theorem dX4_oneTest_51 : decode cX4_oneTest 51 = .ok (.if_icmp .ne 41, 3) := dk_160 0 41 (dk_at dksX4_oneTest_2 3 rfl rfl)
theorem dX4_oneTest_54 : decode cX4_oneTest 54 = .ok (.aload_n 0, 1) := dk_42 (dk_at dksX4_oneTest_2 6 rfl rfl)
theorem dX4_oneTest_55 : decode cX4_oneTest 55 = .ok (.invokevirtual 210, 3) := dk_182 0 210 (dk_at dksX4_oneTest_2 7 rfl rfl)
theorem dX4_oneTest_58 : decode cX4_oneTest 58 = .ok (.ifCond .eq 20, 3) := dk_153 0 20 (dk_at dksX4_oneTest_2 10 rfl rfl)
theorem dX4_oneTest_61 : decode cX4_oneTest 61 = .ok (.aload_n 0, 1) := dk_42 (dk_at dksX4_oneTest_2 13 rfl rfl)
theorem dX4_oneTest_62 : decode cX4_oneTest 62 = .ok (.invokevirtual 213, 3) := dk_182 0 213 (dk_at dksX4_oneTest_2 14 rfl rfl)
theorem dX4_oneTest_65 : decode cX4_oneTest 65 = .ok (.ifCond .eq 13, 3) := dk_153 0 13 (dk_at dksX4_oneTest_2 17 rfl rfl)
theorem dX4_oneTest_68 : decode cX4_oneTest 68 = .ok (.aload_n 0, 1) := dk_42 (dk_at dksX4_oneTest_2 20 rfl rfl)
theorem dX4_oneTest_69 : decode cX4_oneTest 69 = .ok (.sipush 141, 3) := dk_17 0 141 (dk_at dksX4_oneTest_2 21 rfl rfl)
theorem dX4_oneTest_72 : decode cX4_oneTest 72 = .ok (.invokevirtual 216, 3) := dk_182 0 216 (dk_at dksX4_oneTest_3 0 rfl rfl)
theorem dX4_oneTest_75 : decode cX4_oneTest 75 = .ok (.ifCond .ne 5, 3) := dk_154 0 5 (dk_at dksX4_oneTest_3 3 rfl rfl)
theorem dX4_oneTest_78 : decode cX4_oneTest 78 = .ok (.iconst 0, 1) := dk_3 (dk_at dksX4_oneTest_3 6 rfl rfl)
theorem dX4_oneTest_79 : decode cX4_oneTest 79 = .ok (.ireturn, 1) := dk_172 (dk_at dksX4_oneTest_3 7 rfl rfl)
theorem dX4_oneTest_80 : decode cX4_oneTest 80 = .ok (.aload_n 0, 1) := dk_42 (dk_at dksX4_oneTest_3 8 rfl rfl)
theorem dX4_oneTest_81 : decode cX4_oneTest 81 = .ok (.dup, 1) := dk_89 (dk_at dksX4_oneTest_3 9 rfl rfl)
theorem dX4_oneTest_82 : decode cX4_oneTest 82 = .ok (.getfield 191, 3) := dk_180 0 191 (dk_at dksX4_oneTest_3 10 rfl rfl)
theorem dX4_oneTest_85 : decode cX4_oneTest 85 = .ok (.iconst 1, 1) := dk_4 (dk_at dksX4_oneTest_3 13 rfl rfl)
theorem dX4_oneTest_86 : decode cX4_oneTest 86 = .ok (.isub, 1) := dk_100 (dk_at dksX4_oneTest_3 14 rfl rfl)
theorem dX4_oneTest_87 : decode cX4_oneTest 87 = .ok (.putfield 191, 3) := dk_181 0 191 (dk_at dksX4_oneTest_3 15 rfl rfl)
theorem dX4_oneTest_90 : decode cX4_oneTest 90 = .ok (.iconst 1, 1) := dk_4 (dk_at dksX4_oneTest_3 18 rfl rfl)
theorem dX4_oneTest_91 : decode cX4_oneTest 91 = .ok (.ireturn, 1) := dk_172 (dk_at dksX4_oneTest_3 19 rfl rfl)
theorem dX4_oneTest_92 : decode cX4_oneTest 92 = .ok (.aload_n 0, 1) := dk_42 (dk_at dksX4_oneTest_3 20 rfl rfl)
theorem dX4_oneTest_93 : decode cX4_oneTest 93 = .ok (.invokevirtual 219, 3) := dk_182 0 219 (dk_at dksX4_oneTest_3 21 rfl rfl)
theorem dX4_oneTest_96 : decode cX4_oneTest 96 = .ok (.ifCond .ne 5, 3) := dk_154 0 5 (dk_at dksX4_oneTest_4 0 rfl rfl)
theorem dX4_oneTest_99 : decode cX4_oneTest 99 = .ok (.iconst 0, 1) := dk_3 (dk_at dksX4_oneTest_4 3 rfl rfl)
theorem dX4_oneTest_100 : decode cX4_oneTest 100 = .ok (.ireturn, 1) := dk_172 (dk_at dksX4_oneTest_4 4 rfl rfl)
theorem dX4_oneTest_101 : decode cX4_oneTest 101 = .ok (.aload_n 0, 1) := dk_42 (dk_at dksX4_oneTest_4 5 rfl rfl)
theorem dX4_oneTest_102 : decode cX4_oneTest 102 = .ok (.getfield 161, 3) := dk_180 0 161 (dk_at dksX4_oneTest_4 6 rfl rfl)
theorem dX4_oneTest_105 : decode cX4_oneTest 105 = .ok (.sipush 160, 3) := dk_17 0 160 (dk_at dksX4_oneTest_4 9 rfl rfl)
theorem dX4_oneTest_108 : decode cX4_oneTest 108 = .ok (.if_icmp .ne 8, 3) := dk_160 0 8 (dk_at dksX4_oneTest_4 12 rfl rfl)
theorem dX4_oneTest_111 : decode cX4_oneTest 111 = .ok (.bipush 17, 2) := dk_16 17 (dk_at dksX4_oneTest_4 15 rfl rfl)
theorem dX4_oneTest_113 : decode cX4_oneTest 113 = .ok (.goto 34, 3) := dk_167 0 34 (dk_at dksX4_oneTest_4 17 rfl rfl)
theorem dX4_oneTest_116 : decode cX4_oneTest 116 = .ok (.aload_n 0, 1) := dk_42 (dk_at dksX4_oneTest_4 20 rfl rfl)
theorem dX4_oneTest_117 : decode cX4_oneTest 117 = .ok (.getfield 161, 3) := dk_180 0 161 (dk_at dksX4_oneTest_4 21 rfl rfl)
theorem dX4_oneTest_120 : decode cX4_oneTest 120 = .ok (.sipush 161, 3) := dk_17 0 161 (dk_at dksX4_oneTest_5 0 rfl rfl)
theorem dX4_oneTest_123 : decode cX4_oneTest 123 = .ok (.if_icmp .ne 8, 3) := dk_160 0 8 (dk_at dksX4_oneTest_5 3 rfl rfl)
theorem dX4_oneTest_126 : decode cX4_oneTest 126 = .ok (.bipush 18, 2) := dk_16 18 (dk_at dksX4_oneTest_5 6 rfl rfl)
theorem dX4_oneTest_128 : decode cX4_oneTest 128 = .ok (.goto 19, 3) := dk_167 0 19 (dk_at dksX4_oneTest_5 8 rfl rfl)
theorem dX4_oneTest_131 : decode cX4_oneTest 131 = .ok (.aload_n 0, 1) := dk_42 (dk_at dksX4_oneTest_5 11 rfl rfl)
theorem dX4_oneTest_132 : decode cX4_oneTest 132 = .ok (.getfield 161, 3) := dk_180 0 161 (dk_at dksX4_oneTest_5 12 rfl rfl)
theorem dX4_oneTest_135 : decode cX4_oneTest 135 = .ok (.sipush 162, 3) := dk_17 0 162 (dk_at dksX4_oneTest_5 15 rfl rfl)
theorem dX4_oneTest_138 : decode cX4_oneTest 138 = .ok (.if_icmp .ne 8, 3) := dk_160 0 8 (dk_at dksX4_oneTest_5 18 rfl rfl)
theorem dX4_oneTest_141 : decode cX4_oneTest 141 = .ok (.bipush 19, 2) := dk_16 19 (dk_at dksX4_oneTest_5 21 rfl rfl)
theorem dX4_oneTest_143 : decode cX4_oneTest 143 = .ok (.goto 4, 3) := dk_167 0 4 (dk_at dksX4_oneTest_6 0 rfl rfl)
theorem dX4_oneTest_146 : decode cX4_oneTest 146 = .ok (.iconst (-1), 1) := dk_2 (dk_at dksX4_oneTest_6 3 rfl rfl)
theorem dX4_oneTest_147 : decode cX4_oneTest 147 = .ok (.istore_n 1, 1) := dk_60 (dk_at dksX4_oneTest_6 4 rfl rfl)
theorem dX4_oneTest_148 : decode cX4_oneTest 148 = .ok (.iload_n 1, 1) := dk_27 (dk_at dksX4_oneTest_6 5 rfl rfl)
theorem dX4_oneTest_149 : decode cX4_oneTest 149 = .ok (.iconst (-1), 1) := dk_2 (dk_at dksX4_oneTest_6 6 rfl rfl)
theorem dX4_oneTest_150 : decode cX4_oneTest 150 = .ok (.if_icmp .ne 9, 3) := dk_160 0 9 (dk_at dksX4_oneTest_6 7 rfl rfl)
theorem dX4_oneTest_153 : decode cX4_oneTest 153 = .ok (.aload_n 0, 1) := dk_42 (dk_at dksX4_oneTest_6 10 rfl rfl)
theorem dX4_oneTest_154 : decode cX4_oneTest 154 = .ok (.iconst 1, 1) := dk_4 (dk_at dksX4_oneTest_6 11 rfl rfl)
theorem dX4_oneTest_155 : decode cX4_oneTest 155 = .ok (.invokevirtual 182, 3) := dk_182 0 182 (dk_at dksX4_oneTest_6 12 rfl rfl)
theorem dX4_oneTest_158 : decode cX4_oneTest 158 = .ok (.ireturn, 1) := dk_172 (dk_at dksX4_oneTest_6 15 rfl rfl)
theorem dX4_oneTest_159 : decode cX4_oneTest 159 = .ok (.aload_n 0, 1) := dk_42 (dk_at dksX4_oneTest_6 16 rfl rfl)
theorem dX4_oneTest_160 : decode cX4_oneTest 160 = .ok (.invokevirtual 185, 3) := dk_182 0 185 (dk_at dksX4_oneTest_6 17 rfl rfl)
theorem dX4_oneTest_163 : decode cX4_oneTest 163 = .ok (.aload_n 0, 1) := dk_42 (dk_at dksX4_oneTest_6 20 rfl rfl)
theorem dX4_oneTest_164 : decode cX4_oneTest 164 = .ok (.invokevirtual 219, 3) := dk_182 0 219 (dk_at dksX4_oneTest_6 21 rfl rfl)
theorem dX4_oneTest_167 : decode cX4_oneTest 167 = .ok (.ifCond .ne 5, 3) := dk_154 0 5 (dk_at dksX4_oneTest_7 0 rfl rfl)
theorem dX4_oneTest_170 : decode cX4_oneTest 170 = .ok (.iconst 0, 1) := dk_3 (dk_at dksX4_oneTest_7 3 rfl rfl)
theorem dX4_oneTest_171 : decode cX4_oneTest 171 = .ok (.ireturn, 1) := dk_172 (dk_at dksX4_oneTest_7 4 rfl rfl)
theorem dX4_oneTest_172 : decode cX4_oneTest 172 = .ok (.aload_n 0, 1) := dk_42 (dk_at dksX4_oneTest_7 5 rfl rfl)
theorem dX4_oneTest_173 : decode cX4_oneTest 173 = .ok (.iload_n 1, 1) := dk_27 (dk_at dksX4_oneTest_7 6 rfl rfl)
theorem dX4_oneTest_174 : decode cX4_oneTest 174 = .ok (.iconst 0, 1) := dk_3 (dk_at dksX4_oneTest_7 7 rfl rfl)
theorem dX4_oneTest_175 : decode cX4_oneTest 175 = .ok (.invokevirtual 198, 3) := dk_182 0 198 (dk_at dksX4_oneTest_7 8 rfl rfl)
theorem dX4_oneTest_178 : decode cX4_oneTest 178 = .ok (.iconst 1, 1) := dk_4 (dk_at dksX4_oneTest_7 11 rfl rfl)
theorem dX4_oneTest_179 : decode cX4_oneTest 179 = .ok (.ireturn, 1) := dk_172 (dk_at dksX4_oneTest_7 12 rfl rfl)
abbrev cX4_opens : ByteArray := prog_14_method_32_code
def yX4_opens : MethodName := ⟨RX4, "opens", "()Z"⟩
def dkwX4_opens_1 : List UInt8 := [181, 0, 191, 42, 182, 0, 185, 4, 172]
abbrev dktX4_opens_1 : List UInt8 := dkwX4_opens_1 ++ []
def dkwX4_opens_0 : List UInt8 := [42, 180, 0, 191, 16, 8, 160, 0, 9, 42, 6, 182, 0, 182, 172, 42, 89, 180, 0, 191, 4, 96]
abbrev dktX4_opens_0 : List UInt8 := dkwX4_opens_0 ++ dktX4_opens_1
theorem dksX4_opens_0 : cX4_opens.data.toList.drop 0 = dktX4_opens_0 := by decide +kernel
theorem dksX4_opens_1 : cX4_opens.data.toList.drop 22 = dktX4_opens_1 := dk_seg dksX4_opens_0 22 rfl rfl
theorem dX4_opens_0 : decode cX4_opens 0 = .ok (.aload_n 0, 1) := dk_42 (dk_at dksX4_opens_0 0 rfl rfl)
theorem dX4_opens_1 : decode cX4_opens 1 = .ok (.getfield 191, 3) := dk_180 0 191 (dk_at dksX4_opens_0 1 rfl rfl)
theorem dX4_opens_4 : decode cX4_opens 4 = .ok (.bipush 8, 2) := dk_16 8 (dk_at dksX4_opens_0 4 rfl rfl)
theorem dX4_opens_6 : decode cX4_opens 6 = .ok (.if_icmp .ne 9, 3) := dk_160 0 9 (dk_at dksX4_opens_0 6 rfl rfl)
theorem dX4_opens_9 : decode cX4_opens 9 = .ok (.aload_n 0, 1) := dk_42 (dk_at dksX4_opens_0 9 rfl rfl)
theorem dX4_opens_10 : decode cX4_opens 10 = .ok (.iconst 3, 1) := dk_6 (dk_at dksX4_opens_0 10 rfl rfl)
theorem dX4_opens_11 : decode cX4_opens 11 = .ok (.invokevirtual 182, 3) := dk_182 0 182 (dk_at dksX4_opens_0 11 rfl rfl)
theorem dX4_opens_14 : decode cX4_opens 14 = .ok (.ireturn, 1) := dk_172 (dk_at dksX4_opens_0 14 rfl rfl)
theorem dX4_opens_15 : decode cX4_opens 15 = .ok (.aload_n 0, 1) := dk_42 (dk_at dksX4_opens_0 15 rfl rfl)
theorem dX4_opens_16 : decode cX4_opens 16 = .ok (.dup, 1) := dk_89 (dk_at dksX4_opens_0 16 rfl rfl)
theorem dX4_opens_17 : decode cX4_opens 17 = .ok (.getfield 191, 3) := dk_180 0 191 (dk_at dksX4_opens_0 17 rfl rfl)
theorem dX4_opens_20 : decode cX4_opens 20 = .ok (.iconst 1, 1) := dk_4 (dk_at dksX4_opens_0 20 rfl rfl)
theorem dX4_opens_21 : decode cX4_opens 21 = .ok (.iadd, 1) := dk_96 (dk_at dksX4_opens_0 21 rfl rfl)
theorem dX4_opens_22 : decode cX4_opens 22 = .ok (.putfield 191, 3) := dk_181 0 191 (dk_at dksX4_opens_1 0 rfl rfl)
theorem dX4_opens_25 : decode cX4_opens 25 = .ok (.aload_n 0, 1) := dk_42 (dk_at dksX4_opens_1 3 rfl rfl)
theorem dX4_opens_26 : decode cX4_opens 26 = .ok (.invokevirtual 185, 3) := dk_182 0 185 (dk_at dksX4_opens_1 4 rfl rfl)
theorem dX4_opens_29 : decode cX4_opens 29 = .ok (.iconst 1, 1) := dk_4 (dk_at dksX4_opens_1 7 rfl rfl)
theorem dX4_opens_30 : decode cX4_opens 30 = .ok (.ireturn, 1) := dk_172 (dk_at dksX4_opens_1 8 rfl rfl)
abbrev cX4_lay : ByteArray := prog_14_method_31_code
def yX4_lay : MethodName := ⟨RX4, "lay", "(II)V"⟩
def dkwX4_lay_1 : List UInt8 := [28, 79, 42, 89, 180, 0, 188, 4, 96, 181, 0, 188, 177]
abbrev dktX4_lay_1 : List UInt8 := dkwX4_lay_1 ++ []
def dkwX4_lay_0 : List UInt8 := [42, 180, 0, 25, 5, 42, 180, 0, 188, 104, 27, 79, 42, 180, 0, 25, 5, 42, 180, 0, 188, 104, 4, 96]
abbrev dktX4_lay_0 : List UInt8 := dkwX4_lay_0 ++ dktX4_lay_1
theorem dksX4_lay_0 : cX4_lay.data.toList.drop 0 = dktX4_lay_0 := by decide +kernel
theorem dksX4_lay_1 : cX4_lay.data.toList.drop 24 = dktX4_lay_1 := dk_seg dksX4_lay_0 24 rfl rfl
theorem dX4_lay_0 : decode cX4_lay 0 = .ok (.aload_n 0, 1) := dk_42 (dk_at dksX4_lay_0 0 rfl rfl)
theorem dX4_lay_1 : decode cX4_lay 1 = .ok (.getfield 25, 3) := dk_180 0 25 (dk_at dksX4_lay_0 1 rfl rfl)
theorem dX4_lay_4 : decode cX4_lay 4 = .ok (.iconst 2, 1) := dk_5 (dk_at dksX4_lay_0 4 rfl rfl)
theorem dX4_lay_5 : decode cX4_lay 5 = .ok (.aload_n 0, 1) := dk_42 (dk_at dksX4_lay_0 5 rfl rfl)
theorem dX4_lay_6 : decode cX4_lay 6 = .ok (.getfield 188, 3) := dk_180 0 188 (dk_at dksX4_lay_0 6 rfl rfl)
theorem dX4_lay_9 : decode cX4_lay 9 = .ok (.imul, 1) := dk_104 (dk_at dksX4_lay_0 9 rfl rfl)
theorem dX4_lay_10 : decode cX4_lay 10 = .ok (.iload_n 1, 1) := dk_27 (dk_at dksX4_lay_0 10 rfl rfl)
theorem dX4_lay_11 : decode cX4_lay 11 = .ok (.iastore, 1) := dk_79 (dk_at dksX4_lay_0 11 rfl rfl)
theorem dX4_lay_12 : decode cX4_lay 12 = .ok (.aload_n 0, 1) := dk_42 (dk_at dksX4_lay_0 12 rfl rfl)
theorem dX4_lay_13 : decode cX4_lay 13 = .ok (.getfield 25, 3) := dk_180 0 25 (dk_at dksX4_lay_0 13 rfl rfl)
theorem dX4_lay_16 : decode cX4_lay 16 = .ok (.iconst 2, 1) := dk_5 (dk_at dksX4_lay_0 16 rfl rfl)
theorem dX4_lay_17 : decode cX4_lay 17 = .ok (.aload_n 0, 1) := dk_42 (dk_at dksX4_lay_0 17 rfl rfl)
theorem dX4_lay_18 : decode cX4_lay 18 = .ok (.getfield 188, 3) := dk_180 0 188 (dk_at dksX4_lay_0 18 rfl rfl)
theorem dX4_lay_21 : decode cX4_lay 21 = .ok (.imul, 1) := dk_104 (dk_at dksX4_lay_0 21 rfl rfl)
theorem dX4_lay_22 : decode cX4_lay 22 = .ok (.iconst 1, 1) := dk_4 (dk_at dksX4_lay_0 22 rfl rfl)
theorem dX4_lay_23 : decode cX4_lay 23 = .ok (.iadd, 1) := dk_96 (dk_at dksX4_lay_0 23 rfl rfl)
theorem dX4_lay_24 : decode cX4_lay 24 = .ok (.iload_n 2, 1) := dk_28 (dk_at dksX4_lay_1 0 rfl rfl)
theorem dX4_lay_25 : decode cX4_lay 25 = .ok (.iastore, 1) := dk_79 (dk_at dksX4_lay_1 1 rfl rfl)
theorem dX4_lay_26 : decode cX4_lay 26 = .ok (.aload_n 0, 1) := dk_42 (dk_at dksX4_lay_1 2 rfl rfl)
theorem dX4_lay_27 : decode cX4_lay 27 = .ok (.dup, 1) := dk_89 (dk_at dksX4_lay_1 3 rfl rfl)
theorem dX4_lay_28 : decode cX4_lay 28 = .ok (.getfield 188, 3) := dk_180 0 188 (dk_at dksX4_lay_1 4 rfl rfl)
theorem dX4_lay_31 : decode cX4_lay 31 = .ok (.iconst 1, 1) := dk_4 (dk_at dksX4_lay_1 7 rfl rfl)
theorem dX4_lay_32 : decode cX4_lay 32 = .ok (.iadd, 1) := dk_96 (dk_at dksX4_lay_1 8 rfl rfl)
theorem dX4_lay_33 : decode cX4_lay 33 = .ok (.putfield 188, 3) := dk_181 0 188 (dk_at dksX4_lay_1 9 rfl rfl)
theorem dX4_lay_36 : decode cX4_lay 36 = .ok (.return_, 1) := dk_177 (dk_at dksX4_lay_1 12 rfl rfl)
abbrev cX4_need : ByteArray := prog_14_method_30_code
def yX4_need : MethodName := ⟨RX4, "need", "(I)Z"⟩
def dkwX4_need_0 : List UInt8 := [42, 180, 0, 161, 27, 159, 0, 9, 42, 4, 182, 0, 182, 172, 42, 182, 0, 185, 4, 172]
abbrev dktX4_need_0 : List UInt8 := dkwX4_need_0 ++ []
theorem dksX4_need_0 : cX4_need.data.toList.drop 0 = dktX4_need_0 := by decide +kernel
theorem dX4_need_0 : decode cX4_need 0 = .ok (.aload_n 0, 1) := dk_42 (dk_at dksX4_need_0 0 rfl rfl)
theorem dX4_need_1 : decode cX4_need 1 = .ok (.getfield 161, 3) := dk_180 0 161 (dk_at dksX4_need_0 1 rfl rfl)
theorem dX4_need_4 : decode cX4_need 4 = .ok (.iload_n 1, 1) := dk_27 (dk_at dksX4_need_0 4 rfl rfl)
theorem dX4_need_5 : decode cX4_need 5 = .ok (.if_icmp .eq 9, 3) := dk_159 0 9 (dk_at dksX4_need_0 5 rfl rfl)
theorem dX4_need_8 : decode cX4_need 8 = .ok (.aload_n 0, 1) := dk_42 (dk_at dksX4_need_0 8 rfl rfl)
theorem dX4_need_9 : decode cX4_need 9 = .ok (.iconst 1, 1) := dk_4 (dk_at dksX4_need_0 9 rfl rfl)
theorem dX4_need_10 : decode cX4_need 10 = .ok (.invokevirtual 182, 3) := dk_182 0 182 (dk_at dksX4_need_0 10 rfl rfl)
theorem dX4_need_13 : decode cX4_need 13 = .ok (.ireturn, 1) := dk_172 (dk_at dksX4_need_0 13 rfl rfl)
theorem dX4_need_14 : decode cX4_need 14 = .ok (.aload_n 0, 1) := dk_42 (dk_at dksX4_need_0 14 rfl rfl)
theorem dX4_need_15 : decode cX4_need 15 = .ok (.invokevirtual 185, 3) := dk_182 0 185 (dk_at dksX4_need_0 15 rfl rfl)
theorem dX4_need_18 : decode cX4_need 18 = .ok (.iconst 1, 1) := dk_4 (dk_at dksX4_need_0 18 rfl rfl)
theorem dX4_need_19 : decode cX4_need 19 = .ok (.ireturn, 1) := dk_172 (dk_at dksX4_need_0 19 rfl rfl)
abbrev cX4_sumUp : ByteArray := prog_14_method_33_code
def yX4_sumUp : MethodName := ⟨RX4, "sumUp", "()Z"⟩
def dkwX4_sumUp_2 : List UInt8 := [42, 182, 0, 185, 42, 182, 0, 194, 154, 0, 5, 3, 172, 42, 27, 3, 182, 0, 198, 167, 255, 199, 4, 172]
abbrev dktX4_sumUp_2 : List UInt8 := dkwX4_sumUp_2 ++ []
def dkwX4_sumUp_1 : List UInt8 := [17, 0, 145, 160, 0, 43, 42, 180, 0, 161, 17, 0, 143, 160, 0, 8, 16, 13, 167, 0, 5, 16, 14, 60]
abbrev dktX4_sumUp_1 : List UInt8 := dkwX4_sumUp_1 ++ dktX4_sumUp_2
def dkwX4_sumUp_0 : List UInt8 := [42, 182, 0, 194, 154, 0, 5, 3, 172, 42, 180, 0, 161, 17, 0, 143, 159, 0, 13, 42, 180, 0, 161]
abbrev dktX4_sumUp_0 : List UInt8 := dkwX4_sumUp_0 ++ dktX4_sumUp_1
theorem dksX4_sumUp_0 : cX4_sumUp.data.toList.drop 0 = dktX4_sumUp_0 := by decide +kernel
theorem dksX4_sumUp_1 : cX4_sumUp.data.toList.drop 23 = dktX4_sumUp_1 := dk_seg dksX4_sumUp_0 23 rfl rfl
theorem dksX4_sumUp_2 : cX4_sumUp.data.toList.drop 47 = dktX4_sumUp_2 := dk_seg dksX4_sumUp_1 24 rfl rfl
theorem dX4_sumUp_0 : decode cX4_sumUp 0 = .ok (.aload_n 0, 1) := dk_42 (dk_at dksX4_sumUp_0 0 rfl rfl)
theorem dX4_sumUp_1 : decode cX4_sumUp 1 = .ok (.invokevirtual 194, 3) := dk_182 0 194 (dk_at dksX4_sumUp_0 1 rfl rfl)
theorem dX4_sumUp_4 : decode cX4_sumUp 4 = .ok (.ifCond .ne 5, 3) := dk_154 0 5 (dk_at dksX4_sumUp_0 4 rfl rfl)
theorem dX4_sumUp_7 : decode cX4_sumUp 7 = .ok (.iconst 0, 1) := dk_3 (dk_at dksX4_sumUp_0 7 rfl rfl)
theorem dX4_sumUp_8 : decode cX4_sumUp 8 = .ok (.ireturn, 1) := dk_172 (dk_at dksX4_sumUp_0 8 rfl rfl)
theorem dX4_sumUp_9 : decode cX4_sumUp 9 = .ok (.aload_n 0, 1) := dk_42 (dk_at dksX4_sumUp_0 9 rfl rfl)
theorem dX4_sumUp_10 : decode cX4_sumUp 10 = .ok (.getfield 161, 3) := dk_180 0 161 (dk_at dksX4_sumUp_0 10 rfl rfl)
theorem dX4_sumUp_13 : decode cX4_sumUp 13 = .ok (.sipush 143, 3) := dk_17 0 143 (dk_at dksX4_sumUp_0 13 rfl rfl)
theorem dX4_sumUp_16 : decode cX4_sumUp 16 = .ok (.if_icmp .eq 13, 3) := dk_159 0 13 (dk_at dksX4_sumUp_0 16 rfl rfl)
theorem dX4_sumUp_19 : decode cX4_sumUp 19 = .ok (.aload_n 0, 1) := dk_42 (dk_at dksX4_sumUp_0 19 rfl rfl)
theorem dX4_sumUp_20 : decode cX4_sumUp 20 = .ok (.getfield 161, 3) := dk_180 0 161 (dk_at dksX4_sumUp_0 20 rfl rfl)
theorem dX4_sumUp_23 : decode cX4_sumUp 23 = .ok (.sipush 145, 3) := dk_17 0 145 (dk_at dksX4_sumUp_1 0 rfl rfl)
theorem dX4_sumUp_26 : decode cX4_sumUp 26 = .ok (.if_icmp .ne 43, 3) := dk_160 0 43 (dk_at dksX4_sumUp_1 3 rfl rfl)
theorem dX4_sumUp_29 : decode cX4_sumUp 29 = .ok (.aload_n 0, 1) := dk_42 (dk_at dksX4_sumUp_1 6 rfl rfl)
theorem dX4_sumUp_30 : decode cX4_sumUp 30 = .ok (.getfield 161, 3) := dk_180 0 161 (dk_at dksX4_sumUp_1 7 rfl rfl)
theorem dX4_sumUp_33 : decode cX4_sumUp 33 = .ok (.sipush 143, 3) := dk_17 0 143 (dk_at dksX4_sumUp_1 10 rfl rfl)
theorem dX4_sumUp_36 : decode cX4_sumUp 36 = .ok (.if_icmp .ne 8, 3) := dk_160 0 8 (dk_at dksX4_sumUp_1 13 rfl rfl)
theorem dX4_sumUp_39 : decode cX4_sumUp 39 = .ok (.bipush 13, 2) := dk_16 13 (dk_at dksX4_sumUp_1 16 rfl rfl)
theorem dX4_sumUp_41 : decode cX4_sumUp 41 = .ok (.goto 5, 3) := dk_167 0 5 (dk_at dksX4_sumUp_1 18 rfl rfl)
theorem dX4_sumUp_44 : decode cX4_sumUp 44 = .ok (.bipush 14, 2) := dk_16 14 (dk_at dksX4_sumUp_1 21 rfl rfl)
theorem dX4_sumUp_46 : decode cX4_sumUp 46 = .ok (.istore_n 1, 1) := dk_60 (dk_at dksX4_sumUp_1 23 rfl rfl)
theorem dX4_sumUp_47 : decode cX4_sumUp 47 = .ok (.aload_n 0, 1) := dk_42 (dk_at dksX4_sumUp_2 0 rfl rfl)
theorem dX4_sumUp_48 : decode cX4_sumUp 48 = .ok (.invokevirtual 185, 3) := dk_182 0 185 (dk_at dksX4_sumUp_2 1 rfl rfl)
theorem dX4_sumUp_51 : decode cX4_sumUp 51 = .ok (.aload_n 0, 1) := dk_42 (dk_at dksX4_sumUp_2 4 rfl rfl)
theorem dX4_sumUp_52 : decode cX4_sumUp 52 = .ok (.invokevirtual 194, 3) := dk_182 0 194 (dk_at dksX4_sumUp_2 5 rfl rfl)
theorem dX4_sumUp_55 : decode cX4_sumUp 55 = .ok (.ifCond .ne 5, 3) := dk_154 0 5 (dk_at dksX4_sumUp_2 8 rfl rfl)
theorem dX4_sumUp_58 : decode cX4_sumUp 58 = .ok (.iconst 0, 1) := dk_3 (dk_at dksX4_sumUp_2 11 rfl rfl)
theorem dX4_sumUp_59 : decode cX4_sumUp 59 = .ok (.ireturn, 1) := dk_172 (dk_at dksX4_sumUp_2 12 rfl rfl)
theorem dX4_sumUp_60 : decode cX4_sumUp 60 = .ok (.aload_n 0, 1) := dk_42 (dk_at dksX4_sumUp_2 13 rfl rfl)
theorem dX4_sumUp_61 : decode cX4_sumUp 61 = .ok (.iload_n 1, 1) := dk_27 (dk_at dksX4_sumUp_2 14 rfl rfl)
theorem dX4_sumUp_62 : decode cX4_sumUp 62 = .ok (.iconst 0, 1) := dk_3 (dk_at dksX4_sumUp_2 15 rfl rfl)
theorem dX4_sumUp_63 : decode cX4_sumUp 63 = .ok (.invokevirtual 198, 3) := dk_182 0 198 (dk_at dksX4_sumUp_2 16 rfl rfl)
theorem dX4_sumUp_66 : decode cX4_sumUp 66 = .ok (.goto (-57), 3) := dk_167 255 199 (dk_at dksX4_sumUp_2 19 rfl rfl)
theorem dX4_sumUp_69 : decode cX4_sumUp 69 = .ok (.iconst 1, 1) := dk_4 (dk_at dksX4_sumUp_2 22 rfl rfl)
theorem dX4_sumUp_70 : decode cX4_sumUp 70 = .ok (.ireturn, 1) := dk_172 (dk_at dksX4_sumUp_2 23 rfl rfl)
abbrev cX4_product : ByteArray := prog_14_method_34_code
def yX4_product : MethodName := ⟨RX4, "product", "()Z"⟩
def dkwX4_product_5 : List UInt8 := [167, 255, 153, 4, 172]
abbrev dktX4_product_5 : List UInt8 := dkwX4_product_5 ++ []
def dkwX4_product_4 : List UInt8 := [182, 0, 198, 167, 0, 19, 42, 182, 0, 201, 154, 0, 5, 3, 172, 42, 16, 15, 3, 182, 0, 198]
abbrev dktX4_product_4 : List UInt8 := dkwX4_product_4 ++ dktX4_product_5
def dkwX4_product_3 : List UInt8 := [182, 0, 182, 172, 28, 154, 0, 9, 42, 5, 182, 0, 182, 172, 42, 182, 0, 185, 42, 16, 16, 28]
abbrev dktX4_product_3 : List UInt8 := dkwX4_product_3 ++ dktX4_product_4
def dkwX4_product_2 : List UInt8 := [182, 0, 185, 27, 153, 0, 46, 42, 180, 0, 173, 61, 42, 180, 0, 161, 5, 159, 0, 9, 42, 4]
abbrev dktX4_product_2 : List UInt8 := dkwX4_product_2 ++ dktX4_product_3
def dkwX4_product_1 : List UInt8 := [17, 0, 147, 160, 0, 89, 42, 180, 0, 161, 17, 0, 147, 160, 0, 7, 4, 167, 0, 4, 3, 60, 42]
abbrev dktX4_product_1 : List UInt8 := dkwX4_product_1 ++ dktX4_product_2
def dkwX4_product_0 : List UInt8 := [42, 182, 0, 201, 154, 0, 5, 3, 172, 42, 180, 0, 161, 17, 0, 142, 159, 0, 13, 42, 180, 0, 161]
abbrev dktX4_product_0 : List UInt8 := dkwX4_product_0 ++ dktX4_product_1
theorem dksX4_product_0 : cX4_product.data.toList.drop 0 = dktX4_product_0 := by decide +kernel
theorem dksX4_product_1 : cX4_product.data.toList.drop 23 = dktX4_product_1 := dk_seg dksX4_product_0 23 rfl rfl
theorem dksX4_product_2 : cX4_product.data.toList.drop 46 = dktX4_product_2 := dk_seg dksX4_product_1 23 rfl rfl
theorem dksX4_product_3 : cX4_product.data.toList.drop 68 = dktX4_product_3 := dk_seg dksX4_product_2 22 rfl rfl
theorem dksX4_product_4 : cX4_product.data.toList.drop 90 = dktX4_product_4 := dk_seg dksX4_product_3 22 rfl rfl
theorem dksX4_product_5 : cX4_product.data.toList.drop 112 = dktX4_product_5 := dk_seg dksX4_product_4 22 rfl rfl
theorem dX4_product_0 : decode cX4_product 0 = .ok (.aload_n 0, 1) := dk_42 (dk_at dksX4_product_0 0 rfl rfl)
theorem dX4_product_1 : decode cX4_product 1 = .ok (.invokevirtual 201, 3) := dk_182 0 201 (dk_at dksX4_product_0 1 rfl rfl)
theorem dX4_product_4 : decode cX4_product 4 = .ok (.ifCond .ne 5, 3) := dk_154 0 5 (dk_at dksX4_product_0 4 rfl rfl)
theorem dX4_product_7 : decode cX4_product 7 = .ok (.iconst 0, 1) := dk_3 (dk_at dksX4_product_0 7 rfl rfl)
theorem dX4_product_8 : decode cX4_product 8 = .ok (.ireturn, 1) := dk_172 (dk_at dksX4_product_0 8 rfl rfl)
theorem dX4_product_9 : decode cX4_product 9 = .ok (.aload_n 0, 1) := dk_42 (dk_at dksX4_product_0 9 rfl rfl)
theorem dX4_product_10 : decode cX4_product 10 = .ok (.getfield 161, 3) := dk_180 0 161 (dk_at dksX4_product_0 10 rfl rfl)
theorem dX4_product_13 : decode cX4_product 13 = .ok (.sipush 142, 3) := dk_17 0 142 (dk_at dksX4_product_0 13 rfl rfl)
theorem dX4_product_16 : decode cX4_product 16 = .ok (.if_icmp .eq 13, 3) := dk_159 0 13 (dk_at dksX4_product_0 16 rfl rfl)
theorem dX4_product_19 : decode cX4_product 19 = .ok (.aload_n 0, 1) := dk_42 (dk_at dksX4_product_0 19 rfl rfl)
theorem dX4_product_20 : decode cX4_product 20 = .ok (.getfield 161, 3) := dk_180 0 161 (dk_at dksX4_product_0 20 rfl rfl)
theorem dX4_product_23 : decode cX4_product 23 = .ok (.sipush 147, 3) := dk_17 0 147 (dk_at dksX4_product_1 0 rfl rfl)
theorem dX4_product_26 : decode cX4_product 26 = .ok (.if_icmp .ne 89, 3) := dk_160 0 89 (dk_at dksX4_product_1 3 rfl rfl)
theorem dX4_product_29 : decode cX4_product 29 = .ok (.aload_n 0, 1) := dk_42 (dk_at dksX4_product_1 6 rfl rfl)
theorem dX4_product_30 : decode cX4_product 30 = .ok (.getfield 161, 3) := dk_180 0 161 (dk_at dksX4_product_1 7 rfl rfl)
theorem dX4_product_33 : decode cX4_product 33 = .ok (.sipush 147, 3) := dk_17 0 147 (dk_at dksX4_product_1 10 rfl rfl)
theorem dX4_product_36 : decode cX4_product 36 = .ok (.if_icmp .ne 7, 3) := dk_160 0 7 (dk_at dksX4_product_1 13 rfl rfl)
theorem dX4_product_39 : decode cX4_product 39 = .ok (.iconst 1, 1) := dk_4 (dk_at dksX4_product_1 16 rfl rfl)
theorem dX4_product_40 : decode cX4_product 40 = .ok (.goto 4, 3) := dk_167 0 4 (dk_at dksX4_product_1 17 rfl rfl)
theorem dX4_product_43 : decode cX4_product 43 = .ok (.iconst 0, 1) := dk_3 (dk_at dksX4_product_1 20 rfl rfl)
theorem dX4_product_44 : decode cX4_product 44 = .ok (.istore_n 1, 1) := dk_60 (dk_at dksX4_product_1 21 rfl rfl)
theorem dX4_product_45 : decode cX4_product 45 = .ok (.aload_n 0, 1) := dk_42 (dk_at dksX4_product_1 22 rfl rfl)
theorem dX4_product_46 : decode cX4_product 46 = .ok (.invokevirtual 185, 3) := dk_182 0 185 (dk_at dksX4_product_2 0 rfl rfl)
theorem dX4_product_49 : decode cX4_product 49 = .ok (.iload_n 1, 1) := dk_27 (dk_at dksX4_product_2 3 rfl rfl)
theorem dX4_product_50 : decode cX4_product 50 = .ok (.ifCond .eq 46, 3) := dk_153 0 46 (dk_at dksX4_product_2 4 rfl rfl)
theorem dX4_product_53 : decode cX4_product 53 = .ok (.aload_n 0, 1) := dk_42 (dk_at dksX4_product_2 7 rfl rfl)
theorem dX4_product_54 : decode cX4_product 54 = .ok (.getfield 173, 3) := dk_180 0 173 (dk_at dksX4_product_2 8 rfl rfl)
theorem dX4_product_57 : decode cX4_product 57 = .ok (.istore_n 2, 1) := dk_61 (dk_at dksX4_product_2 11 rfl rfl)
theorem dX4_product_58 : decode cX4_product 58 = .ok (.aload_n 0, 1) := dk_42 (dk_at dksX4_product_2 12 rfl rfl)
theorem dX4_product_59 : decode cX4_product 59 = .ok (.getfield 161, 3) := dk_180 0 161 (dk_at dksX4_product_2 13 rfl rfl)
theorem dX4_product_62 : decode cX4_product 62 = .ok (.iconst 2, 1) := dk_5 (dk_at dksX4_product_2 16 rfl rfl)
theorem dX4_product_63 : decode cX4_product 63 = .ok (.if_icmp .eq 9, 3) := dk_159 0 9 (dk_at dksX4_product_2 17 rfl rfl)
theorem dX4_product_66 : decode cX4_product 66 = .ok (.aload_n 0, 1) := dk_42 (dk_at dksX4_product_2 20 rfl rfl)
theorem dX4_product_67 : decode cX4_product 67 = .ok (.iconst 1, 1) := dk_4 (dk_at dksX4_product_2 21 rfl rfl)
theorem dX4_product_68 : decode cX4_product 68 = .ok (.invokevirtual 182, 3) := dk_182 0 182 (dk_at dksX4_product_3 0 rfl rfl)
theorem dX4_product_71 : decode cX4_product 71 = .ok (.ireturn, 1) := dk_172 (dk_at dksX4_product_3 3 rfl rfl)
theorem dX4_product_72 : decode cX4_product 72 = .ok (.iload_n 2, 1) := dk_28 (dk_at dksX4_product_3 4 rfl rfl)
theorem dX4_product_73 : decode cX4_product 73 = .ok (.ifCond .ne 9, 3) := dk_154 0 9 (dk_at dksX4_product_3 5 rfl rfl)
theorem dX4_product_76 : decode cX4_product 76 = .ok (.aload_n 0, 1) := dk_42 (dk_at dksX4_product_3 8 rfl rfl)
theorem dX4_product_77 : decode cX4_product 77 = .ok (.iconst 2, 1) := dk_5 (dk_at dksX4_product_3 9 rfl rfl)
theorem dX4_product_78 : decode cX4_product 78 = .ok (.invokevirtual 182, 3) := dk_182 0 182 (dk_at dksX4_product_3 10 rfl rfl)
theorem dX4_product_81 : decode cX4_product 81 = .ok (.ireturn, 1) := dk_172 (dk_at dksX4_product_3 13 rfl rfl)
theorem dX4_product_82 : decode cX4_product 82 = .ok (.aload_n 0, 1) := dk_42 (dk_at dksX4_product_3 14 rfl rfl)
theorem dX4_product_83 : decode cX4_product 83 = .ok (.invokevirtual 185, 3) := dk_182 0 185 (dk_at dksX4_product_3 15 rfl rfl)
theorem dX4_product_86 : decode cX4_product 86 = .ok (.aload_n 0, 1) := dk_42 (dk_at dksX4_product_3 18 rfl rfl)
theorem dX4_product_87 : decode cX4_product 87 = .ok (.bipush 16, 2) := dk_16 16 (dk_at dksX4_product_3 19 rfl rfl)
theorem dX4_product_89 : decode cX4_product 89 = .ok (.iload_n 2, 1) := dk_28 (dk_at dksX4_product_3 21 rfl rfl)
theorem dX4_product_90 : decode cX4_product 90 = .ok (.invokevirtual 198, 3) := dk_182 0 198 (dk_at dksX4_product_4 0 rfl rfl)
theorem dX4_product_93 : decode cX4_product 93 = .ok (.goto 19, 3) := dk_167 0 19 (dk_at dksX4_product_4 3 rfl rfl)
theorem dX4_product_96 : decode cX4_product 96 = .ok (.aload_n 0, 1) := dk_42 (dk_at dksX4_product_4 6 rfl rfl)
theorem dX4_product_97 : decode cX4_product 97 = .ok (.invokevirtual 201, 3) := dk_182 0 201 (dk_at dksX4_product_4 7 rfl rfl)
theorem dX4_product_100 : decode cX4_product 100 = .ok (.ifCond .ne 5, 3) := dk_154 0 5 (dk_at dksX4_product_4 10 rfl rfl)
theorem dX4_product_103 : decode cX4_product 103 = .ok (.iconst 0, 1) := dk_3 (dk_at dksX4_product_4 13 rfl rfl)
theorem dX4_product_104 : decode cX4_product 104 = .ok (.ireturn, 1) := dk_172 (dk_at dksX4_product_4 14 rfl rfl)
theorem dX4_product_105 : decode cX4_product 105 = .ok (.aload_n 0, 1) := dk_42 (dk_at dksX4_product_4 15 rfl rfl)
theorem dX4_product_106 : decode cX4_product 106 = .ok (.bipush 15, 2) := dk_16 15 (dk_at dksX4_product_4 16 rfl rfl)
theorem dX4_product_108 : decode cX4_product 108 = .ok (.iconst 0, 1) := dk_3 (dk_at dksX4_product_4 18 rfl rfl)
theorem dX4_product_109 : decode cX4_product 109 = .ok (.invokevirtual 198, 3) := dk_182 0 198 (dk_at dksX4_product_4 19 rfl rfl)
theorem dX4_product_112 : decode cX4_product 112 = .ok (.goto (-103), 3) := dk_167 255 153 (dk_at dksX4_product_5 0 rfl rfl)
theorem dX4_product_115 : decode cX4_product 115 = .ok (.iconst 1, 1) := dk_4 (dk_at dksX4_product_5 3 rfl rfl)
theorem dX4_product_116 : decode cX4_product 116 = .ok (.ireturn, 1) := dk_172 (dk_at dksX4_product_5 4 rfl rfl)
abbrev cX4_unit : ByteArray := prog_14_method_35_code
def yX4_unit : MethodName := ⟨RX4, "unit", "()Z"⟩
def dkwX4_unit_2 : List UInt8 := [180, 0, 173, 182, 0, 198, 42, 182, 0, 185, 4, 172]
abbrev dktX4_unit_2 : List UInt8 := dkwX4_unit_2 ++ []
def dkwX4_unit_1 : List UInt8 := [42, 4, 182, 0, 182, 172, 42, 27, 153, 0, 13, 42, 180, 0, 161, 16, 40, 100, 167, 0, 4, 3, 42]
abbrev dktX4_unit_1 : List UInt8 := dkwX4_unit_1 ++ dktX4_unit_2
def dkwX4_unit_0 : List UInt8 := [42, 180, 0, 161, 16, 41, 16, 49, 184, 0, 75, 60, 42, 180, 0, 161, 5, 159, 0, 13, 27, 154, 0, 9]
abbrev dktX4_unit_0 : List UInt8 := dkwX4_unit_0 ++ dktX4_unit_1
theorem dksX4_unit_0 : cX4_unit.data.toList.drop 0 = dktX4_unit_0 := by decide +kernel
theorem dksX4_unit_1 : cX4_unit.data.toList.drop 24 = dktX4_unit_1 := dk_seg dksX4_unit_0 24 rfl rfl
theorem dksX4_unit_2 : cX4_unit.data.toList.drop 47 = dktX4_unit_2 := dk_seg dksX4_unit_1 23 rfl rfl
theorem dX4_unit_0 : decode cX4_unit 0 = .ok (.aload_n 0, 1) := dk_42 (dk_at dksX4_unit_0 0 rfl rfl)
theorem dX4_unit_1 : decode cX4_unit 1 = .ok (.getfield 161, 3) := dk_180 0 161 (dk_at dksX4_unit_0 1 rfl rfl)
theorem dX4_unit_4 : decode cX4_unit 4 = .ok (.bipush 41, 2) := dk_16 41 (dk_at dksX4_unit_0 4 rfl rfl)
theorem dX4_unit_6 : decode cX4_unit 6 = .ok (.bipush 49, 2) := dk_16 49 (dk_at dksX4_unit_0 6 rfl rfl)
theorem dX4_unit_8 : decode cX4_unit 8 = .ok (.invokestatic 75, 3) := dk_184 0 75 (dk_at dksX4_unit_0 8 rfl rfl)
theorem dX4_unit_11 : decode cX4_unit 11 = .ok (.istore_n 1, 1) := dk_60 (dk_at dksX4_unit_0 11 rfl rfl)
theorem dX4_unit_12 : decode cX4_unit 12 = .ok (.aload_n 0, 1) := dk_42 (dk_at dksX4_unit_0 12 rfl rfl)
theorem dX4_unit_13 : decode cX4_unit 13 = .ok (.getfield 161, 3) := dk_180 0 161 (dk_at dksX4_unit_0 13 rfl rfl)
theorem dX4_unit_16 : decode cX4_unit 16 = .ok (.iconst 2, 1) := dk_5 (dk_at dksX4_unit_0 16 rfl rfl)
theorem dX4_unit_17 : decode cX4_unit 17 = .ok (.if_icmp .eq 13, 3) := dk_159 0 13 (dk_at dksX4_unit_0 17 rfl rfl)
theorem dX4_unit_20 : decode cX4_unit 20 = .ok (.iload_n 1, 1) := dk_27 (dk_at dksX4_unit_0 20 rfl rfl)
theorem dX4_unit_21 : decode cX4_unit 21 = .ok (.ifCond .ne 9, 3) := dk_154 0 9 (dk_at dksX4_unit_0 21 rfl rfl)
theorem dX4_unit_24 : decode cX4_unit 24 = .ok (.aload_n 0, 1) := dk_42 (dk_at dksX4_unit_1 0 rfl rfl)
theorem dX4_unit_25 : decode cX4_unit 25 = .ok (.iconst 1, 1) := dk_4 (dk_at dksX4_unit_1 1 rfl rfl)
theorem dX4_unit_26 : decode cX4_unit 26 = .ok (.invokevirtual 182, 3) := dk_182 0 182 (dk_at dksX4_unit_1 2 rfl rfl)
theorem dX4_unit_29 : decode cX4_unit 29 = .ok (.ireturn, 1) := dk_172 (dk_at dksX4_unit_1 5 rfl rfl)
theorem dX4_unit_30 : decode cX4_unit 30 = .ok (.aload_n 0, 1) := dk_42 (dk_at dksX4_unit_1 6 rfl rfl)
theorem dX4_unit_31 : decode cX4_unit 31 = .ok (.iload_n 1, 1) := dk_27 (dk_at dksX4_unit_1 7 rfl rfl)
theorem dX4_unit_32 : decode cX4_unit 32 = .ok (.ifCond .eq 13, 3) := dk_153 0 13 (dk_at dksX4_unit_1 8 rfl rfl)
theorem dX4_unit_35 : decode cX4_unit 35 = .ok (.aload_n 0, 1) := dk_42 (dk_at dksX4_unit_1 11 rfl rfl)
theorem dX4_unit_36 : decode cX4_unit 36 = .ok (.getfield 161, 3) := dk_180 0 161 (dk_at dksX4_unit_1 12 rfl rfl)
theorem dX4_unit_39 : decode cX4_unit 39 = .ok (.bipush 40, 2) := dk_16 40 (dk_at dksX4_unit_1 15 rfl rfl)
theorem dX4_unit_41 : decode cX4_unit 41 = .ok (.isub, 1) := dk_100 (dk_at dksX4_unit_1 17 rfl rfl)
theorem dX4_unit_42 : decode cX4_unit 42 = .ok (.goto 4, 3) := dk_167 0 4 (dk_at dksX4_unit_1 18 rfl rfl)
theorem dX4_unit_45 : decode cX4_unit 45 = .ok (.iconst 0, 1) := dk_3 (dk_at dksX4_unit_1 21 rfl rfl)
theorem dX4_unit_46 : decode cX4_unit 46 = .ok (.aload_n 0, 1) := dk_42 (dk_at dksX4_unit_1 22 rfl rfl)
theorem dX4_unit_47 : decode cX4_unit 47 = .ok (.getfield 173, 3) := dk_180 0 173 (dk_at dksX4_unit_2 0 rfl rfl)
theorem dX4_unit_50 : decode cX4_unit 50 = .ok (.invokevirtual 198, 3) := dk_182 0 198 (dk_at dksX4_unit_2 3 rfl rfl)
theorem dX4_unit_53 : decode cX4_unit 53 = .ok (.aload_n 0, 1) := dk_42 (dk_at dksX4_unit_2 6 rfl rfl)
theorem dX4_unit_54 : decode cX4_unit 54 = .ok (.invokevirtual 185, 3) := dk_182 0 185 (dk_at dksX4_unit_2 7 rfl rfl)
theorem dX4_unit_57 : decode cX4_unit 57 = .ok (.iconst 1, 1) := dk_4 (dk_at dksX4_unit_2 10 rfl rfl)
theorem dX4_unit_58 : decode cX4_unit 58 = .ok (.ireturn, 1) := dk_172 (dk_at dksX4_unit_2 11 rfl rfl)
abbrev cX4_fault : ByteArray := prog_14_method_41_code
def yX4_fault : MethodName := ⟨RX4, "fault", "(I)I"⟩
def dkwX4_fault_1 : List UInt8 := [172]
abbrev dktX4_fault_1 : List UInt8 := dkwX4_fault_1 ++ []
def dkwX4_fault_0 : List UInt8 := [27, 154, 0, 10, 42, 180, 0, 225, 167, 0, 16, 27, 4, 160, 0, 10, 42, 180, 0, 37, 167, 0, 4, 2]
abbrev dktX4_fault_0 : List UInt8 := dkwX4_fault_0 ++ dktX4_fault_1
theorem dksX4_fault_0 : cX4_fault.data.toList.drop 0 = dktX4_fault_0 := by decide +kernel
theorem dksX4_fault_1 : cX4_fault.data.toList.drop 24 = dktX4_fault_1 := dk_seg dksX4_fault_0 24 rfl rfl
theorem dX4_fault_0 : decode cX4_fault 0 = .ok (.iload_n 1, 1) := dk_27 (dk_at dksX4_fault_0 0 rfl rfl)
theorem dX4_fault_1 : decode cX4_fault 1 = .ok (.ifCond .ne 10, 3) := dk_154 0 10 (dk_at dksX4_fault_0 1 rfl rfl)
theorem dX4_fault_4 : decode cX4_fault 4 = .ok (.aload_n 0, 1) := dk_42 (dk_at dksX4_fault_0 4 rfl rfl)
theorem dX4_fault_5 : decode cX4_fault 5 = .ok (.getfield 225, 3) := dk_180 0 225 (dk_at dksX4_fault_0 5 rfl rfl)
theorem dX4_fault_8 : decode cX4_fault 8 = .ok (.goto 16, 3) := dk_167 0 16 (dk_at dksX4_fault_0 8 rfl rfl)
theorem dX4_fault_11 : decode cX4_fault 11 = .ok (.iload_n 1, 1) := dk_27 (dk_at dksX4_fault_0 11 rfl rfl)
theorem dX4_fault_12 : decode cX4_fault 12 = .ok (.iconst 1, 1) := dk_4 (dk_at dksX4_fault_0 12 rfl rfl)
theorem dX4_fault_13 : decode cX4_fault 13 = .ok (.if_icmp .ne 10, 3) := dk_160 0 10 (dk_at dksX4_fault_0 13 rfl rfl)
theorem dX4_fault_16 : decode cX4_fault 16 = .ok (.aload_n 0, 1) := dk_42 (dk_at dksX4_fault_0 16 rfl rfl)
theorem dX4_fault_17 : decode cX4_fault 17 = .ok (.getfield 37, 3) := dk_180 0 37 (dk_at dksX4_fault_0 17 rfl rfl)
theorem dX4_fault_20 : decode cX4_fault 20 = .ok (.goto 4, 3) := dk_167 0 4 (dk_at dksX4_fault_0 20 rfl rfl)
theorem dX4_fault_23 : decode cX4_fault 23 = .ok (.iconst (-1), 1) := dk_2 (dk_at dksX4_fault_0 23 rfl rfl)
theorem dX4_fault_24 : decode cX4_fault 24 = .ok (.ireturn, 1) := dk_172 (dk_at dksX4_fault_1 0 rfl rfl)
abbrev cX4_survey : ByteArray := prog_14_method_59_code
def yX4_survey : MethodName := ⟨RX4, "survey", "()I"⟩
def dkwX4_survey_4 : List UInt8 := [180, 0, 53, 27, 46, 79, 132, 1, 1, 167, 255, 164, 42, 3, 181, 0, 72, 42, 180, 1, 25, 172]
abbrev dktX4_survey_4 : List UInt8 := dkwX4_survey_4 ++ []
def dkwX4_survey_3 : List UInt8 := [27, 46, 159, 0, 7, 4, 167, 0, 4, 3, 96, 79, 42, 180, 0, 7, 17, 2, 8, 27, 96, 42]
abbrev dktX4_survey_3 : List UInt8 := dkwX4_survey_3 ++ dktX4_survey_4
def dkwX4_survey_2 : List UInt8 := [17, 2, 8, 27, 96, 46, 2, 159, 0, 26, 42, 180, 0, 7, 17, 2, 8, 27, 96, 46, 42, 180, 0, 53]
abbrev dktX4_survey_2 : List UInt8 := dkwX4_survey_2 ++ dktX4_survey_3
def dkwX4_survey_1 : List UInt8 := [96, 46, 154, 0, 6, 167, 0, 70, 42, 180, 0, 7, 17, 2, 108, 27, 96, 92, 46, 42, 180, 0, 7]
abbrev dktX4_survey_1 : List UInt8 := dkwX4_survey_1 ++ dktX4_survey_2
def dkwX4_survey_0 : List UInt8 := [42, 182, 1, 31, 42, 182, 1, 34, 3, 60, 27, 16, 100, 162, 0, 92, 42, 180, 0, 7, 17, 0, 220, 27]
abbrev dktX4_survey_0 : List UInt8 := dkwX4_survey_0 ++ dktX4_survey_1
theorem dksX4_survey_0 : cX4_survey.data.toList.drop 0 = dktX4_survey_0 := by decide +kernel
theorem dksX4_survey_1 : cX4_survey.data.toList.drop 24 = dktX4_survey_1 := dk_seg dksX4_survey_0 24 rfl rfl
theorem dksX4_survey_2 : cX4_survey.data.toList.drop 47 = dktX4_survey_2 := dk_seg dksX4_survey_1 23 rfl rfl
theorem dksX4_survey_3 : cX4_survey.data.toList.drop 71 = dktX4_survey_3 := dk_seg dksX4_survey_2 24 rfl rfl
theorem dksX4_survey_4 : cX4_survey.data.toList.drop 93 = dktX4_survey_4 := dk_seg dksX4_survey_3 22 rfl rfl
theorem dX4_survey_0 : decode cX4_survey 0 = .ok (.aload_n 0, 1) := dk_42 (dk_at dksX4_survey_0 0 rfl rfl)
theorem dX4_survey_1 : decode cX4_survey 1 = .ok (.invokevirtual 287, 3) := dk_182 1 31 (dk_at dksX4_survey_0 1 rfl rfl)
theorem dX4_survey_4 : decode cX4_survey 4 = .ok (.aload_n 0, 1) := dk_42 (dk_at dksX4_survey_0 4 rfl rfl)
theorem dX4_survey_5 : decode cX4_survey 5 = .ok (.invokevirtual 290, 3) := dk_182 1 34 (dk_at dksX4_survey_0 5 rfl rfl)
theorem dX4_survey_8 : decode cX4_survey 8 = .ok (.iconst 0, 1) := dk_3 (dk_at dksX4_survey_0 8 rfl rfl)
theorem dX4_survey_9 : decode cX4_survey 9 = .ok (.istore_n 1, 1) := dk_60 (dk_at dksX4_survey_0 9 rfl rfl)
theorem dX4_survey_10 : decode cX4_survey 10 = .ok (.iload_n 1, 1) := dk_27 (dk_at dksX4_survey_0 10 rfl rfl)
theorem dX4_survey_11 : decode cX4_survey 11 = .ok (.bipush 100, 2) := dk_16 100 (dk_at dksX4_survey_0 11 rfl rfl)
theorem dX4_survey_13 : decode cX4_survey 13 = .ok (.if_icmp .ge 92, 3) := dk_162 0 92 (dk_at dksX4_survey_0 13 rfl rfl)
theorem dX4_survey_16 : decode cX4_survey 16 = .ok (.aload_n 0, 1) := dk_42 (dk_at dksX4_survey_0 16 rfl rfl)
theorem dX4_survey_17 : decode cX4_survey 17 = .ok (.getfield 7, 3) := dk_180 0 7 (dk_at dksX4_survey_0 17 rfl rfl)
theorem dX4_survey_20 : decode cX4_survey 20 = .ok (.sipush 220, 3) := dk_17 0 220 (dk_at dksX4_survey_0 20 rfl rfl)
theorem dX4_survey_23 : decode cX4_survey 23 = .ok (.iload_n 1, 1) := dk_27 (dk_at dksX4_survey_0 23 rfl rfl)
theorem dX4_survey_24 : decode cX4_survey 24 = .ok (.iadd, 1) := dk_96 (dk_at dksX4_survey_1 0 rfl rfl)
theorem dX4_survey_25 : decode cX4_survey 25 = .ok (.iaload, 1) := dk_46 (dk_at dksX4_survey_1 1 rfl rfl)
theorem dX4_survey_26 : decode cX4_survey 26 = .ok (.ifCond .ne 6, 3) := dk_154 0 6 (dk_at dksX4_survey_1 2 rfl rfl)
theorem dX4_survey_29 : decode cX4_survey 29 = .ok (.goto 70, 3) := dk_167 0 70 (dk_at dksX4_survey_1 5 rfl rfl)
theorem dX4_survey_32 : decode cX4_survey 32 = .ok (.aload_n 0, 1) := dk_42 (dk_at dksX4_survey_1 8 rfl rfl)
theorem dX4_survey_33 : decode cX4_survey 33 = .ok (.getfield 7, 3) := dk_180 0 7 (dk_at dksX4_survey_1 9 rfl rfl)
theorem dX4_survey_36 : decode cX4_survey 36 = .ok (.sipush 620, 3) := dk_17 2 108 (dk_at dksX4_survey_1 12 rfl rfl)
theorem dX4_survey_39 : decode cX4_survey 39 = .ok (.iload_n 1, 1) := dk_27 (dk_at dksX4_survey_1 15 rfl rfl)
theorem dX4_survey_40 : decode cX4_survey 40 = .ok (.iadd, 1) := dk_96 (dk_at dksX4_survey_1 16 rfl rfl)
theorem dX4_survey_41 : decode cX4_survey 41 = .ok (.dup2, 1) := dk_92 (dk_at dksX4_survey_1 17 rfl rfl)
theorem dX4_survey_42 : decode cX4_survey 42 = .ok (.iaload, 1) := dk_46 (dk_at dksX4_survey_1 18 rfl rfl)
theorem dX4_survey_43 : decode cX4_survey 43 = .ok (.aload_n 0, 1) := dk_42 (dk_at dksX4_survey_1 19 rfl rfl)
theorem dX4_survey_44 : decode cX4_survey 44 = .ok (.getfield 7, 3) := dk_180 0 7 (dk_at dksX4_survey_1 20 rfl rfl)
theorem dX4_survey_47 : decode cX4_survey 47 = .ok (.sipush 520, 3) := dk_17 2 8 (dk_at dksX4_survey_2 0 rfl rfl)
theorem dX4_survey_50 : decode cX4_survey 50 = .ok (.iload_n 1, 1) := dk_27 (dk_at dksX4_survey_2 3 rfl rfl)
theorem dX4_survey_51 : decode cX4_survey 51 = .ok (.iadd, 1) := dk_96 (dk_at dksX4_survey_2 4 rfl rfl)
theorem dX4_survey_52 : decode cX4_survey 52 = .ok (.iaload, 1) := dk_46 (dk_at dksX4_survey_2 5 rfl rfl)
theorem dX4_survey_53 : decode cX4_survey 53 = .ok (.iconst (-1), 1) := dk_2 (dk_at dksX4_survey_2 6 rfl rfl)
theorem dX4_survey_54 : decode cX4_survey 54 = .ok (.if_icmp .eq 26, 3) := dk_159 0 26 (dk_at dksX4_survey_2 7 rfl rfl)
theorem dX4_survey_57 : decode cX4_survey 57 = .ok (.aload_n 0, 1) := dk_42 (dk_at dksX4_survey_2 10 rfl rfl)
theorem dX4_survey_58 : decode cX4_survey 58 = .ok (.getfield 7, 3) := dk_180 0 7 (dk_at dksX4_survey_2 11 rfl rfl)
theorem dX4_survey_61 : decode cX4_survey 61 = .ok (.sipush 520, 3) := dk_17 2 8 (dk_at dksX4_survey_2 14 rfl rfl)
theorem dX4_survey_64 : decode cX4_survey 64 = .ok (.iload_n 1, 1) := dk_27 (dk_at dksX4_survey_2 17 rfl rfl)
theorem dX4_survey_65 : decode cX4_survey 65 = .ok (.iadd, 1) := dk_96 (dk_at dksX4_survey_2 18 rfl rfl)
theorem dX4_survey_66 : decode cX4_survey 66 = .ok (.iaload, 1) := dk_46 (dk_at dksX4_survey_2 19 rfl rfl)
theorem dX4_survey_67 : decode cX4_survey 67 = .ok (.aload_n 0, 1) := dk_42 (dk_at dksX4_survey_2 20 rfl rfl)
theorem dX4_survey_68 : decode cX4_survey 68 = .ok (.getfield 53, 3) := dk_180 0 53 (dk_at dksX4_survey_2 21 rfl rfl)
theorem dX4_survey_71 : decode cX4_survey 71 = .ok (.iload_n 1, 1) := dk_27 (dk_at dksX4_survey_3 0 rfl rfl)
theorem dX4_survey_72 : decode cX4_survey 72 = .ok (.iaload, 1) := dk_46 (dk_at dksX4_survey_3 1 rfl rfl)
theorem dX4_survey_73 : decode cX4_survey 73 = .ok (.if_icmp .eq 7, 3) := dk_159 0 7 (dk_at dksX4_survey_3 2 rfl rfl)
theorem dX4_survey_76 : decode cX4_survey 76 = .ok (.iconst 1, 1) := dk_4 (dk_at dksX4_survey_3 5 rfl rfl)
theorem dX4_survey_77 : decode cX4_survey 77 = .ok (.goto 4, 3) := dk_167 0 4 (dk_at dksX4_survey_3 6 rfl rfl)
theorem dX4_survey_80 : decode cX4_survey 80 = .ok (.iconst 0, 1) := dk_3 (dk_at dksX4_survey_3 9 rfl rfl)
theorem dX4_survey_81 : decode cX4_survey 81 = .ok (.iadd, 1) := dk_96 (dk_at dksX4_survey_3 10 rfl rfl)
theorem dX4_survey_82 : decode cX4_survey 82 = .ok (.iastore, 1) := dk_79 (dk_at dksX4_survey_3 11 rfl rfl)
theorem dX4_survey_83 : decode cX4_survey 83 = .ok (.aload_n 0, 1) := dk_42 (dk_at dksX4_survey_3 12 rfl rfl)
theorem dX4_survey_84 : decode cX4_survey 84 = .ok (.getfield 7, 3) := dk_180 0 7 (dk_at dksX4_survey_3 13 rfl rfl)
theorem dX4_survey_87 : decode cX4_survey 87 = .ok (.sipush 520, 3) := dk_17 2 8 (dk_at dksX4_survey_3 16 rfl rfl)
theorem dX4_survey_90 : decode cX4_survey 90 = .ok (.iload_n 1, 1) := dk_27 (dk_at dksX4_survey_3 19 rfl rfl)
theorem dX4_survey_91 : decode cX4_survey 91 = .ok (.iadd, 1) := dk_96 (dk_at dksX4_survey_3 20 rfl rfl)
theorem dX4_survey_92 : decode cX4_survey 92 = .ok (.aload_n 0, 1) := dk_42 (dk_at dksX4_survey_3 21 rfl rfl)
theorem dX4_survey_93 : decode cX4_survey 93 = .ok (.getfield 53, 3) := dk_180 0 53 (dk_at dksX4_survey_4 0 rfl rfl)
theorem dX4_survey_96 : decode cX4_survey 96 = .ok (.iload_n 1, 1) := dk_27 (dk_at dksX4_survey_4 3 rfl rfl)
theorem dX4_survey_97 : decode cX4_survey 97 = .ok (.iaload, 1) := dk_46 (dk_at dksX4_survey_4 4 rfl rfl)
theorem dX4_survey_98 : decode cX4_survey 98 = .ok (.iastore, 1) := dk_79 (dk_at dksX4_survey_4 5 rfl rfl)
theorem dX4_survey_99 : decode cX4_survey 99 = .ok (.iinc 1 1, 3) := dk_132 1 1 (dk_at dksX4_survey_4 6 rfl rfl)
theorem dX4_survey_102 : decode cX4_survey 102 = .ok (.goto (-92), 3) := dk_167 255 164 (dk_at dksX4_survey_4 9 rfl rfl)
theorem dX4_survey_105 : decode cX4_survey 105 = .ok (.aload_n 0, 1) := dk_42 (dk_at dksX4_survey_4 12 rfl rfl)
theorem dX4_survey_106 : decode cX4_survey 106 = .ok (.iconst 0, 1) := dk_3 (dk_at dksX4_survey_4 13 rfl rfl)
theorem dX4_survey_107 : decode cX4_survey 107 = .ok (.putfield 72, 3) := dk_181 0 72 (dk_at dksX4_survey_4 14 rfl rfl)
theorem dX4_survey_110 : decode cX4_survey 110 = .ok (.aload_n 0, 1) := dk_42 (dk_at dksX4_survey_4 17 rfl rfl)
theorem dX4_survey_111 : decode cX4_survey 111 = .ok (.getfield 281, 3) := dk_180 1 25 (dk_at dksX4_survey_4 18 rfl rfl)
theorem dX4_survey_114 : decode cX4_survey 114 = .ok (.ireturn, 1) := dk_172 (dk_at dksX4_survey_4 21 rfl rfl)
abbrev cX4_allFly : ByteArray := prog_14_method_55_code
def yX4_allFly : MethodName := ⟨RX4, "allFly", "()V"⟩
def dkwX4_allFly_1 : List UInt8 := [167, 255, 238, 177]
abbrev dktX4_allFly_1 : List UInt8 := dkwX4_allFly_1 ++ []
def dkwX4_allFly_0 : List UInt8 := [42, 182, 0, 69, 3, 60, 27, 42, 180, 0, 7, 7, 46, 162, 0, 14, 42, 27, 182, 1, 19, 132, 1, 1]
abbrev dktX4_allFly_0 : List UInt8 := dkwX4_allFly_0 ++ dktX4_allFly_1
theorem dksX4_allFly_0 : cX4_allFly.data.toList.drop 0 = dktX4_allFly_0 := by decide +kernel
theorem dksX4_allFly_1 : cX4_allFly.data.toList.drop 24 = dktX4_allFly_1 := dk_seg dksX4_allFly_0 24 rfl rfl
theorem dX4_allFly_0 : decode cX4_allFly 0 = .ok (.aload_n 0, 1) := dk_42 (dk_at dksX4_allFly_0 0 rfl rfl)
theorem dX4_allFly_1 : decode cX4_allFly 1 = .ok (.invokevirtual 69, 3) := dk_182 0 69 (dk_at dksX4_allFly_0 1 rfl rfl)
theorem dX4_allFly_4 : decode cX4_allFly 4 = .ok (.iconst 0, 1) := dk_3 (dk_at dksX4_allFly_0 4 rfl rfl)
theorem dX4_allFly_5 : decode cX4_allFly 5 = .ok (.istore_n 1, 1) := dk_60 (dk_at dksX4_allFly_0 5 rfl rfl)
theorem dX4_allFly_6 : decode cX4_allFly 6 = .ok (.iload_n 1, 1) := dk_27 (dk_at dksX4_allFly_0 6 rfl rfl)
theorem dX4_allFly_7 : decode cX4_allFly 7 = .ok (.aload_n 0, 1) := dk_42 (dk_at dksX4_allFly_0 7 rfl rfl)
theorem dX4_allFly_8 : decode cX4_allFly 8 = .ok (.getfield 7, 3) := dk_180 0 7 (dk_at dksX4_allFly_0 8 rfl rfl)
theorem dX4_allFly_11 : decode cX4_allFly 11 = .ok (.iconst 4, 1) := dk_7 (dk_at dksX4_allFly_0 11 rfl rfl)
theorem dX4_allFly_12 : decode cX4_allFly 12 = .ok (.iaload, 1) := dk_46 (dk_at dksX4_allFly_0 12 rfl rfl)
theorem dX4_allFly_13 : decode cX4_allFly 13 = .ok (.if_icmp .ge 14, 3) := dk_162 0 14 (dk_at dksX4_allFly_0 13 rfl rfl)
theorem dX4_allFly_16 : decode cX4_allFly 16 = .ok (.aload_n 0, 1) := dk_42 (dk_at dksX4_allFly_0 16 rfl rfl)
theorem dX4_allFly_17 : decode cX4_allFly 17 = .ok (.iload_n 1, 1) := dk_27 (dk_at dksX4_allFly_0 17 rfl rfl)
theorem dX4_allFly_18 : decode cX4_allFly 18 = .ok (.invokevirtual 275, 3) := dk_182 1 19 (dk_at dksX4_allFly_0 18 rfl rfl)
theorem dX4_allFly_21 : decode cX4_allFly 21 = .ok (.iinc 1 1, 3) := dk_132 1 1 (dk_at dksX4_allFly_0 21 rfl rfl)
theorem dX4_allFly_24 : decode cX4_allFly 24 = .ok (.goto (-18), 3) := dk_167 255 238 (dk_at dksX4_allFly_1 0 rfl rfl)
theorem dX4_allFly_27 : decode cX4_allFly 27 = .ok (.return_, 1) := dk_177 (dk_at dksX4_allFly_1 3 rfl rfl)
abbrev cX4_flies : ByteArray := prog_14_method_54_code
def yX4_flies : MethodName := ⟨RX4, "flies", "(I)V"⟩
def dkwX4_flies_14 : List UInt8 := [180, 0, 47, 27, 21, 6, 79, 42, 180, 0, 50, 27, 21, 5, 79, 177]
abbrev dktX4_flies_14 : List UInt8 := dkwX4_flies_14 ++ []
def dkwX4_flies_13 : List UInt8 := [3, 54, 7, 167, 254, 243, 42, 180, 0, 41, 27, 29, 79, 42, 180, 0, 44, 27, 21, 4, 79, 42]
abbrev dktX4_flies_13 : List UInt8 := dkwX4_flies_13 ++ dktX4_flies_14
def dkwX4_flies_12 : List UInt8 := [21, 4, 21, 6, 182, 1, 12, 132, 6, 1, 42, 29, 21, 4, 182, 1, 16, 154, 0, 7, 4, 167, 0, 4]
abbrev dktX4_flies_12 : List UInt8 := dkwX4_flies_12 ++ dktX4_flies_13
def dkwX4_flies_11 : List UInt8 := [96, 54, 4, 42, 27, 29, 21, 4, 182, 1, 9, 54, 10, 21, 10, 2, 159, 0, 15, 42, 27, 21, 10, 29]
abbrev dktX4_flies_11 : List UInt8 := dkwX4_flies_11 ++ dktX4_flies_12
def dkwX4_flies_10 : List UInt8 := [17, 4, 68, 21, 9, 96, 21, 6, 79, 29, 21, 5, 184, 0, 239, 96, 62, 21, 4, 21, 5, 184, 0, 242]
abbrev dktX4_flies_10 : List UInt8 := dkwX4_flies_10 ++ dktX4_flies_11
def dkwX4_flies_9 : List UInt8 := [21, 9, 96, 46, 2, 160, 0, 28, 42, 180, 0, 7, 17, 3, 82, 21, 9, 96, 27, 79, 42, 180, 0, 7]
abbrev dktX4_flies_9 : List UInt8 := dkwX4_flies_9 ++ dktX4_flies_10
def dkwX4_flies_8 : List UInt8 := [154, 0, 6, 167, 0, 122, 29, 21, 4, 21, 5, 184, 0, 248, 54, 9, 42, 180, 0, 7, 17, 3, 82]
abbrev dktX4_flies_8 : List UInt8 := dkwX4_flies_8 ++ dktX4_flies_9
def dkwX4_flies_7 : List UInt8 := [7, 112, 54, 5, 42, 29, 21, 5, 184, 0, 239, 96, 21, 4, 21, 5, 184, 0, 242, 96, 182, 0, 93]
abbrev dktX4_flies_7 : List UInt8 := dkwX4_flies_7 ++ dktX4_flies_8
def dkwX4_flies_6 : List UInt8 := [46, 4, 160, 0, 17, 21, 8, 5, 112, 4, 160, 0, 9, 7, 21, 8, 100, 54, 8, 21, 5, 21, 8, 96]
abbrev dktX4_flies_6 : List UInt8 := dkwX4_flies_6 ++ dktX4_flies_7
def dkwX4_flies_5 : List UInt8 := [21, 8, 7, 160, 0, 6, 167, 0, 190, 42, 180, 0, 7, 17, 2, 208, 16, 11, 21, 4, 104, 96, 29, 96]
abbrev dktX4_flies_5 : List UInt8 := dkwX4_flies_5 ++ dktX4_flies_6
def dkwX4_flies_4 : List UInt8 := [100, 79, 42, 180, 0, 34, 16, 9, 27, 79, 42, 42, 180, 0, 7, 28, 7, 96, 46, 182, 1, 6, 54, 8]
abbrev dktX4_flies_4 : List UInt8 := dkwX4_flies_4 ++ dktX4_flies_5
def dkwX4_flies_3 : List UInt8 := [180, 0, 34, 16, 7, 21, 6, 79, 42, 180, 0, 34, 16, 8, 42, 180, 0, 7, 28, 6, 96, 46, 21, 6]
abbrev dktX4_flies_3 : List UInt8 := dkwX4_flies_3 ++ dktX4_flies_4
def dkwX4_flies_2 : List UInt8 := [21, 6, 42, 180, 0, 7, 28, 6, 96, 46, 162, 1, 1, 42, 29, 21, 4, 21, 5, 182, 1, 2, 42]
abbrev dktX4_flies_2 : List UInt8 := dkwX4_flies_2 ++ dktX4_flies_3
def dkwX4_flies_1 : List UInt8 := [54, 4, 42, 180, 0, 7, 28, 5, 96, 46, 54, 5, 3, 54, 6, 4, 54, 7, 21, 7, 153, 1, 14]
abbrev dktX4_flies_1 : List UInt8 := dkwX4_flies_1 ++ dktX4_flies_2
def dkwX4_flies_0 : List UInt8 := [17, 7, 63, 8, 27, 104, 96, 61, 42, 180, 0, 7, 28, 46, 62, 42, 180, 0, 7, 28, 4, 96, 46]
abbrev dktX4_flies_0 : List UInt8 := dkwX4_flies_0 ++ dktX4_flies_1
theorem dksX4_flies_0 : cX4_flies.data.toList.drop 0 = dktX4_flies_0 := by decide +kernel
theorem dksX4_flies_1 : cX4_flies.data.toList.drop 23 = dktX4_flies_1 := dk_seg dksX4_flies_0 23 rfl rfl
theorem dksX4_flies_2 : cX4_flies.data.toList.drop 46 = dktX4_flies_2 := dk_seg dksX4_flies_1 23 rfl rfl
theorem dksX4_flies_3 : cX4_flies.data.toList.drop 69 = dktX4_flies_3 := dk_seg dksX4_flies_2 23 rfl rfl
theorem dksX4_flies_4 : cX4_flies.data.toList.drop 93 = dktX4_flies_4 := dk_seg dksX4_flies_3 24 rfl rfl
theorem dksX4_flies_5 : cX4_flies.data.toList.drop 117 = dktX4_flies_5 := dk_seg dksX4_flies_4 24 rfl rfl
theorem dksX4_flies_6 : cX4_flies.data.toList.drop 141 = dktX4_flies_6 := dk_seg dksX4_flies_5 24 rfl rfl
theorem dksX4_flies_7 : cX4_flies.data.toList.drop 165 = dktX4_flies_7 := dk_seg dksX4_flies_6 24 rfl rfl
theorem dksX4_flies_8 : cX4_flies.data.toList.drop 188 = dktX4_flies_8 := dk_seg dksX4_flies_7 23 rfl rfl
theorem dksX4_flies_9 : cX4_flies.data.toList.drop 211 = dktX4_flies_9 := dk_seg dksX4_flies_8 23 rfl rfl
theorem dksX4_flies_10 : cX4_flies.data.toList.drop 235 = dktX4_flies_10 := dk_seg dksX4_flies_9 24 rfl rfl
theorem dksX4_flies_11 : cX4_flies.data.toList.drop 259 = dktX4_flies_11 := dk_seg dksX4_flies_10 24 rfl rfl
theorem dksX4_flies_12 : cX4_flies.data.toList.drop 283 = dktX4_flies_12 := dk_seg dksX4_flies_11 24 rfl rfl
theorem dksX4_flies_13 : cX4_flies.data.toList.drop 307 = dktX4_flies_13 := dk_seg dksX4_flies_12 24 rfl rfl
theorem dksX4_flies_14 : cX4_flies.data.toList.drop 329 = dktX4_flies_14 := dk_seg dksX4_flies_13 22 rfl rfl
theorem dX4_flies_0 : decode cX4_flies 0 = .ok (.sipush 1855, 3) := dk_17 7 63 (dk_at dksX4_flies_0 0 rfl rfl)
theorem dX4_flies_3 : decode cX4_flies 3 = .ok (.iconst 5, 1) := dk_8 (dk_at dksX4_flies_0 3 rfl rfl)
theorem dX4_flies_4 : decode cX4_flies 4 = .ok (.iload_n 1, 1) := dk_27 (dk_at dksX4_flies_0 4 rfl rfl)
theorem dX4_flies_5 : decode cX4_flies 5 = .ok (.imul, 1) := dk_104 (dk_at dksX4_flies_0 5 rfl rfl)
theorem dX4_flies_6 : decode cX4_flies 6 = .ok (.iadd, 1) := dk_96 (dk_at dksX4_flies_0 6 rfl rfl)
theorem dX4_flies_7 : decode cX4_flies 7 = .ok (.istore_n 2, 1) := dk_61 (dk_at dksX4_flies_0 7 rfl rfl)
theorem dX4_flies_8 : decode cX4_flies 8 = .ok (.aload_n 0, 1) := dk_42 (dk_at dksX4_flies_0 8 rfl rfl)
theorem dX4_flies_9 : decode cX4_flies 9 = .ok (.getfield 7, 3) := dk_180 0 7 (dk_at dksX4_flies_0 9 rfl rfl)
theorem dX4_flies_12 : decode cX4_flies 12 = .ok (.iload_n 2, 1) := dk_28 (dk_at dksX4_flies_0 12 rfl rfl)
theorem dX4_flies_13 : decode cX4_flies 13 = .ok (.iaload, 1) := dk_46 (dk_at dksX4_flies_0 13 rfl rfl)
theorem dX4_flies_14 : decode cX4_flies 14 = .ok (.istore_n 3, 1) := dk_62 (dk_at dksX4_flies_0 14 rfl rfl)
theorem dX4_flies_15 : decode cX4_flies 15 = .ok (.aload_n 0, 1) := dk_42 (dk_at dksX4_flies_0 15 rfl rfl)
theorem dX4_flies_16 : decode cX4_flies 16 = .ok (.getfield 7, 3) := dk_180 0 7 (dk_at dksX4_flies_0 16 rfl rfl)
theorem dX4_flies_19 : decode cX4_flies 19 = .ok (.iload_n 2, 1) := dk_28 (dk_at dksX4_flies_0 19 rfl rfl)
theorem dX4_flies_20 : decode cX4_flies 20 = .ok (.iconst 1, 1) := dk_4 (dk_at dksX4_flies_0 20 rfl rfl)
theorem dX4_flies_21 : decode cX4_flies 21 = .ok (.iadd, 1) := dk_96 (dk_at dksX4_flies_0 21 rfl rfl)
theorem dX4_flies_22 : decode cX4_flies 22 = .ok (.iaload, 1) := dk_46 (dk_at dksX4_flies_0 22 rfl rfl)
theorem dX4_flies_23 : decode cX4_flies 23 = .ok (.istore 4, 2) := dk_54 4 (dk_at dksX4_flies_1 0 rfl rfl)
theorem dX4_flies_25 : decode cX4_flies 25 = .ok (.aload_n 0, 1) := dk_42 (dk_at dksX4_flies_1 2 rfl rfl)
theorem dX4_flies_26 : decode cX4_flies 26 = .ok (.getfield 7, 3) := dk_180 0 7 (dk_at dksX4_flies_1 3 rfl rfl)
theorem dX4_flies_29 : decode cX4_flies 29 = .ok (.iload_n 2, 1) := dk_28 (dk_at dksX4_flies_1 6 rfl rfl)
theorem dX4_flies_30 : decode cX4_flies 30 = .ok (.iconst 2, 1) := dk_5 (dk_at dksX4_flies_1 7 rfl rfl)
theorem dX4_flies_31 : decode cX4_flies 31 = .ok (.iadd, 1) := dk_96 (dk_at dksX4_flies_1 8 rfl rfl)
theorem dX4_flies_32 : decode cX4_flies 32 = .ok (.iaload, 1) := dk_46 (dk_at dksX4_flies_1 9 rfl rfl)
theorem dX4_flies_33 : decode cX4_flies 33 = .ok (.istore 5, 2) := dk_54 5 (dk_at dksX4_flies_1 10 rfl rfl)
theorem dX4_flies_35 : decode cX4_flies 35 = .ok (.iconst 0, 1) := dk_3 (dk_at dksX4_flies_1 12 rfl rfl)
theorem dX4_flies_36 : decode cX4_flies 36 = .ok (.istore 6, 2) := dk_54 6 (dk_at dksX4_flies_1 13 rfl rfl)
theorem dX4_flies_38 : decode cX4_flies 38 = .ok (.iconst 1, 1) := dk_4 (dk_at dksX4_flies_1 15 rfl rfl)
theorem dX4_flies_39 : decode cX4_flies 39 = .ok (.istore 7, 2) := dk_54 7 (dk_at dksX4_flies_1 16 rfl rfl)
theorem dX4_flies_41 : decode cX4_flies 41 = .ok (.iload 7, 2) := dk_21 7 (dk_at dksX4_flies_1 18 rfl rfl)
theorem dX4_flies_43 : decode cX4_flies 43 = .ok (.ifCond .eq 270, 3) := dk_153 1 14 (dk_at dksX4_flies_1 20 rfl rfl)
theorem dX4_flies_46 : decode cX4_flies 46 = .ok (.iload 6, 2) := dk_21 6 (dk_at dksX4_flies_2 0 rfl rfl)
theorem dX4_flies_48 : decode cX4_flies 48 = .ok (.aload_n 0, 1) := dk_42 (dk_at dksX4_flies_2 2 rfl rfl)
theorem dX4_flies_49 : decode cX4_flies 49 = .ok (.getfield 7, 3) := dk_180 0 7 (dk_at dksX4_flies_2 3 rfl rfl)
theorem dX4_flies_52 : decode cX4_flies 52 = .ok (.iload_n 2, 1) := dk_28 (dk_at dksX4_flies_2 6 rfl rfl)
theorem dX4_flies_53 : decode cX4_flies 53 = .ok (.iconst 3, 1) := dk_6 (dk_at dksX4_flies_2 7 rfl rfl)
theorem dX4_flies_54 : decode cX4_flies 54 = .ok (.iadd, 1) := dk_96 (dk_at dksX4_flies_2 8 rfl rfl)
theorem dX4_flies_55 : decode cX4_flies 55 = .ok (.iaload, 1) := dk_46 (dk_at dksX4_flies_2 9 rfl rfl)
theorem dX4_flies_56 : decode cX4_flies 56 = .ok (.if_icmp .ge 257, 3) := dk_162 1 1 (dk_at dksX4_flies_2 10 rfl rfl)
theorem dX4_flies_59 : decode cX4_flies 59 = .ok (.aload_n 0, 1) := dk_42 (dk_at dksX4_flies_2 13 rfl rfl)
theorem dX4_flies_60 : decode cX4_flies 60 = .ok (.iload_n 3, 1) := dk_29 (dk_at dksX4_flies_2 14 rfl rfl)
theorem dX4_flies_61 : decode cX4_flies 61 = .ok (.iload 4, 2) := dk_21 4 (dk_at dksX4_flies_2 15 rfl rfl)
theorem dX4_flies_63 : decode cX4_flies 63 = .ok (.iload 5, 2) := dk_21 5 (dk_at dksX4_flies_2 17 rfl rfl)
theorem dX4_flies_65 : decode cX4_flies 65 = .ok (.invokevirtual 258, 3) := dk_182 1 2 (dk_at dksX4_flies_2 19 rfl rfl)
theorem dX4_flies_68 : decode cX4_flies 68 = .ok (.aload_n 0, 1) := dk_42 (dk_at dksX4_flies_2 22 rfl rfl)
theorem dX4_flies_69 : decode cX4_flies 69 = .ok (.getfield 34, 3) := dk_180 0 34 (dk_at dksX4_flies_3 0 rfl rfl)
theorem dX4_flies_72 : decode cX4_flies 72 = .ok (.bipush 7, 2) := dk_16 7 (dk_at dksX4_flies_3 3 rfl rfl)
theorem dX4_flies_74 : decode cX4_flies 74 = .ok (.iload 6, 2) := dk_21 6 (dk_at dksX4_flies_3 5 rfl rfl)
theorem dX4_flies_76 : decode cX4_flies 76 = .ok (.iastore, 1) := dk_79 (dk_at dksX4_flies_3 7 rfl rfl)
theorem dX4_flies_77 : decode cX4_flies 77 = .ok (.aload_n 0, 1) := dk_42 (dk_at dksX4_flies_3 8 rfl rfl)
theorem dX4_flies_78 : decode cX4_flies 78 = .ok (.getfield 34, 3) := dk_180 0 34 (dk_at dksX4_flies_3 9 rfl rfl)
theorem dX4_flies_81 : decode cX4_flies 81 = .ok (.bipush 8, 2) := dk_16 8 (dk_at dksX4_flies_3 12 rfl rfl)
theorem dX4_flies_83 : decode cX4_flies 83 = .ok (.aload_n 0, 1) := dk_42 (dk_at dksX4_flies_3 14 rfl rfl)
theorem dX4_flies_84 : decode cX4_flies 84 = .ok (.getfield 7, 3) := dk_180 0 7 (dk_at dksX4_flies_3 15 rfl rfl)
theorem dX4_flies_87 : decode cX4_flies 87 = .ok (.iload_n 2, 1) := dk_28 (dk_at dksX4_flies_3 18 rfl rfl)
theorem dX4_flies_88 : decode cX4_flies 88 = .ok (.iconst 3, 1) := dk_6 (dk_at dksX4_flies_3 19 rfl rfl)
theorem dX4_flies_89 : decode cX4_flies 89 = .ok (.iadd, 1) := dk_96 (dk_at dksX4_flies_3 20 rfl rfl)
theorem dX4_flies_90 : decode cX4_flies 90 = .ok (.iaload, 1) := dk_46 (dk_at dksX4_flies_3 21 rfl rfl)
theorem dX4_flies_91 : decode cX4_flies 91 = .ok (.iload 6, 2) := dk_21 6 (dk_at dksX4_flies_3 22 rfl rfl)
theorem dX4_flies_93 : decode cX4_flies 93 = .ok (.isub, 1) := dk_100 (dk_at dksX4_flies_4 0 rfl rfl)
theorem dX4_flies_94 : decode cX4_flies 94 = .ok (.iastore, 1) := dk_79 (dk_at dksX4_flies_4 1 rfl rfl)
theorem dX4_flies_95 : decode cX4_flies 95 = .ok (.aload_n 0, 1) := dk_42 (dk_at dksX4_flies_4 2 rfl rfl)
theorem dX4_flies_96 : decode cX4_flies 96 = .ok (.getfield 34, 3) := dk_180 0 34 (dk_at dksX4_flies_4 3 rfl rfl)
theorem dX4_flies_99 : decode cX4_flies 99 = .ok (.bipush 9, 2) := dk_16 9 (dk_at dksX4_flies_4 6 rfl rfl)
theorem dX4_flies_101 : decode cX4_flies 101 = .ok (.iload_n 1, 1) := dk_27 (dk_at dksX4_flies_4 8 rfl rfl)
theorem dX4_flies_102 : decode cX4_flies 102 = .ok (.iastore, 1) := dk_79 (dk_at dksX4_flies_4 9 rfl rfl)
theorem dX4_flies_103 : decode cX4_flies 103 = .ok (.aload_n 0, 1) := dk_42 (dk_at dksX4_flies_4 10 rfl rfl)
theorem dX4_flies_104 : decode cX4_flies 104 = .ok (.aload_n 0, 1) := dk_42 (dk_at dksX4_flies_4 11 rfl rfl)
theorem dX4_flies_105 : decode cX4_flies 105 = .ok (.getfield 7, 3) := dk_180 0 7 (dk_at dksX4_flies_4 12 rfl rfl)
theorem dX4_flies_108 : decode cX4_flies 108 = .ok (.iload_n 2, 1) := dk_28 (dk_at dksX4_flies_4 15 rfl rfl)
theorem dX4_flies_109 : decode cX4_flies 109 = .ok (.iconst 4, 1) := dk_7 (dk_at dksX4_flies_4 16 rfl rfl)
theorem dX4_flies_110 : decode cX4_flies 110 = .ok (.iadd, 1) := dk_96 (dk_at dksX4_flies_4 17 rfl rfl)
theorem dX4_flies_111 : decode cX4_flies 111 = .ok (.iaload, 1) := dk_46 (dk_at dksX4_flies_4 18 rfl rfl)
theorem dX4_flies_112 : decode cX4_flies 112 = .ok (.invokevirtual 262, 3) := dk_182 1 6 (dk_at dksX4_flies_4 19 rfl rfl)
theorem dX4_flies_115 : decode cX4_flies 115 = .ok (.istore 8, 2) := dk_54 8 (dk_at dksX4_flies_4 22 rfl rfl)
theorem dX4_flies_117 : decode cX4_flies 117 = .ok (.iload 8, 2) := dk_21 8 (dk_at dksX4_flies_5 0 rfl rfl)
theorem dX4_flies_119 : decode cX4_flies 119 = .ok (.iconst 4, 1) := dk_7 (dk_at dksX4_flies_5 2 rfl rfl)
theorem dX4_flies_120 : decode cX4_flies 120 = .ok (.if_icmp .ne 6, 3) := dk_160 0 6 (dk_at dksX4_flies_5 3 rfl rfl)
theorem dX4_flies_123 : decode cX4_flies 123 = .ok (.goto 190, 3) := dk_167 0 190 (dk_at dksX4_flies_5 6 rfl rfl)
theorem dX4_flies_126 : decode cX4_flies 126 = .ok (.aload_n 0, 1) := dk_42 (dk_at dksX4_flies_5 9 rfl rfl)
theorem dX4_flies_127 : decode cX4_flies 127 = .ok (.getfield 7, 3) := dk_180 0 7 (dk_at dksX4_flies_5 10 rfl rfl)
theorem dX4_flies_130 : decode cX4_flies 130 = .ok (.sipush 720, 3) := dk_17 2 208 (dk_at dksX4_flies_5 13 rfl rfl)
theorem dX4_flies_133 : decode cX4_flies 133 = .ok (.bipush 11, 2) := dk_16 11 (dk_at dksX4_flies_5 16 rfl rfl)
theorem dX4_flies_135 : decode cX4_flies 135 = .ok (.iload 4, 2) := dk_21 4 (dk_at dksX4_flies_5 18 rfl rfl)
theorem dX4_flies_137 : decode cX4_flies 137 = .ok (.imul, 1) := dk_104 (dk_at dksX4_flies_5 20 rfl rfl)
theorem dX4_flies_138 : decode cX4_flies 138 = .ok (.iadd, 1) := dk_96 (dk_at dksX4_flies_5 21 rfl rfl)
theorem dX4_flies_139 : decode cX4_flies 139 = .ok (.iload_n 3, 1) := dk_29 (dk_at dksX4_flies_5 22 rfl rfl)
theorem dX4_flies_140 : decode cX4_flies 140 = .ok (.iadd, 1) := dk_96 (dk_at dksX4_flies_5 23 rfl rfl)
theorem dX4_flies_141 : decode cX4_flies 141 = .ok (.iaload, 1) := dk_46 (dk_at dksX4_flies_6 0 rfl rfl)
theorem dX4_flies_142 : decode cX4_flies 142 = .ok (.iconst 1, 1) := dk_4 (dk_at dksX4_flies_6 1 rfl rfl)
theorem dX4_flies_143 : decode cX4_flies 143 = .ok (.if_icmp .ne 17, 3) := dk_160 0 17 (dk_at dksX4_flies_6 2 rfl rfl)
theorem dX4_flies_146 : decode cX4_flies 146 = .ok (.iload 8, 2) := dk_21 8 (dk_at dksX4_flies_6 5 rfl rfl)
theorem dX4_flies_148 : decode cX4_flies 148 = .ok (.iconst 2, 1) := dk_5 (dk_at dksX4_flies_6 7 rfl rfl)
theorem dX4_flies_149 : decode cX4_flies 149 = .ok (.irem, 1) := dk_112 (dk_at dksX4_flies_6 8 rfl rfl)
theorem dX4_flies_150 : decode cX4_flies 150 = .ok (.iconst 1, 1) := dk_4 (dk_at dksX4_flies_6 9 rfl rfl)
theorem dX4_flies_151 : decode cX4_flies 151 = .ok (.if_icmp .ne 9, 3) := dk_160 0 9 (dk_at dksX4_flies_6 10 rfl rfl)
theorem dX4_flies_154 : decode cX4_flies 154 = .ok (.iconst 4, 1) := dk_7 (dk_at dksX4_flies_6 13 rfl rfl)
theorem dX4_flies_155 : decode cX4_flies 155 = .ok (.iload 8, 2) := dk_21 8 (dk_at dksX4_flies_6 14 rfl rfl)
theorem dX4_flies_157 : decode cX4_flies 157 = .ok (.isub, 1) := dk_100 (dk_at dksX4_flies_6 16 rfl rfl)
theorem dX4_flies_158 : decode cX4_flies 158 = .ok (.istore 8, 2) := dk_54 8 (dk_at dksX4_flies_6 17 rfl rfl)
theorem dX4_flies_160 : decode cX4_flies 160 = .ok (.iload 5, 2) := dk_21 5 (dk_at dksX4_flies_6 19 rfl rfl)
theorem dX4_flies_162 : decode cX4_flies 162 = .ok (.iload 8, 2) := dk_21 8 (dk_at dksX4_flies_6 21 rfl rfl)
theorem dX4_flies_164 : decode cX4_flies 164 = .ok (.iadd, 1) := dk_96 (dk_at dksX4_flies_6 23 rfl rfl)
theorem dX4_flies_165 : decode cX4_flies 165 = .ok (.iconst 4, 1) := dk_7 (dk_at dksX4_flies_7 0 rfl rfl)
theorem dX4_flies_166 : decode cX4_flies 166 = .ok (.irem, 1) := dk_112 (dk_at dksX4_flies_7 1 rfl rfl)
theorem dX4_flies_167 : decode cX4_flies 167 = .ok (.istore 5, 2) := dk_54 5 (dk_at dksX4_flies_7 2 rfl rfl)
theorem dX4_flies_169 : decode cX4_flies 169 = .ok (.aload_n 0, 1) := dk_42 (dk_at dksX4_flies_7 4 rfl rfl)
theorem dX4_flies_170 : decode cX4_flies 170 = .ok (.iload_n 3, 1) := dk_29 (dk_at dksX4_flies_7 5 rfl rfl)
theorem dX4_flies_171 : decode cX4_flies 171 = .ok (.iload 5, 2) := dk_21 5 (dk_at dksX4_flies_7 6 rfl rfl)
theorem dX4_flies_173 : decode cX4_flies 173 = .ok (.invokestatic 239, 3) := dk_184 0 239 (dk_at dksX4_flies_7 8 rfl rfl)
theorem dX4_flies_176 : decode cX4_flies 176 = .ok (.iadd, 1) := dk_96 (dk_at dksX4_flies_7 11 rfl rfl)
theorem dX4_flies_177 : decode cX4_flies 177 = .ok (.iload 4, 2) := dk_21 4 (dk_at dksX4_flies_7 12 rfl rfl)
theorem dX4_flies_179 : decode cX4_flies 179 = .ok (.iload 5, 2) := dk_21 5 (dk_at dksX4_flies_7 14 rfl rfl)
theorem dX4_flies_181 : decode cX4_flies 181 = .ok (.invokestatic 242, 3) := dk_184 0 242 (dk_at dksX4_flies_7 16 rfl rfl)
theorem dX4_flies_184 : decode cX4_flies 184 = .ok (.iadd, 1) := dk_96 (dk_at dksX4_flies_7 19 rfl rfl)
theorem dX4_flies_185 : decode cX4_flies 185 = .ok (.invokevirtual 93, 3) := dk_182 0 93 (dk_at dksX4_flies_7 20 rfl rfl)
theorem dX4_flies_188 : decode cX4_flies 188 = .ok (.ifCond .ne 6, 3) := dk_154 0 6 (dk_at dksX4_flies_8 0 rfl rfl)
theorem dX4_flies_191 : decode cX4_flies 191 = .ok (.goto 122, 3) := dk_167 0 122 (dk_at dksX4_flies_8 3 rfl rfl)
theorem dX4_flies_194 : decode cX4_flies 194 = .ok (.iload_n 3, 1) := dk_29 (dk_at dksX4_flies_8 6 rfl rfl)
theorem dX4_flies_195 : decode cX4_flies 195 = .ok (.iload 4, 2) := dk_21 4 (dk_at dksX4_flies_8 7 rfl rfl)
theorem dX4_flies_197 : decode cX4_flies 197 = .ok (.iload 5, 2) := dk_21 5 (dk_at dksX4_flies_8 9 rfl rfl)
theorem dX4_flies_199 : decode cX4_flies 199 = .ok (.invokestatic 248, 3) := dk_184 0 248 (dk_at dksX4_flies_8 11 rfl rfl)
theorem dX4_flies_202 : decode cX4_flies 202 = .ok (.istore 9, 2) := dk_54 9 (dk_at dksX4_flies_8 14 rfl rfl)
theorem dX4_flies_204 : decode cX4_flies 204 = .ok (.aload_n 0, 1) := dk_42 (dk_at dksX4_flies_8 16 rfl rfl)
theorem dX4_flies_205 : decode cX4_flies 205 = .ok (.getfield 7, 3) := dk_180 0 7 (dk_at dksX4_flies_8 17 rfl rfl)
theorem dX4_flies_208 : decode cX4_flies 208 = .ok (.sipush 850, 3) := dk_17 3 82 (dk_at dksX4_flies_8 20 rfl rfl)
theorem dX4_flies_211 : decode cX4_flies 211 = .ok (.iload 9, 2) := dk_21 9 (dk_at dksX4_flies_9 0 rfl rfl)
theorem dX4_flies_213 : decode cX4_flies 213 = .ok (.iadd, 1) := dk_96 (dk_at dksX4_flies_9 2 rfl rfl)
theorem dX4_flies_214 : decode cX4_flies 214 = .ok (.iaload, 1) := dk_46 (dk_at dksX4_flies_9 3 rfl rfl)
theorem dX4_flies_215 : decode cX4_flies 215 = .ok (.iconst (-1), 1) := dk_2 (dk_at dksX4_flies_9 4 rfl rfl)
theorem dX4_flies_216 : decode cX4_flies 216 = .ok (.if_icmp .ne 28, 3) := dk_160 0 28 (dk_at dksX4_flies_9 5 rfl rfl)
theorem dX4_flies_219 : decode cX4_flies 219 = .ok (.aload_n 0, 1) := dk_42 (dk_at dksX4_flies_9 8 rfl rfl)
theorem dX4_flies_220 : decode cX4_flies 220 = .ok (.getfield 7, 3) := dk_180 0 7 (dk_at dksX4_flies_9 9 rfl rfl)
theorem dX4_flies_223 : decode cX4_flies 223 = .ok (.sipush 850, 3) := dk_17 3 82 (dk_at dksX4_flies_9 12 rfl rfl)
theorem dX4_flies_226 : decode cX4_flies 226 = .ok (.iload 9, 2) := dk_21 9 (dk_at dksX4_flies_9 15 rfl rfl)
theorem dX4_flies_228 : decode cX4_flies 228 = .ok (.iadd, 1) := dk_96 (dk_at dksX4_flies_9 17 rfl rfl)
theorem dX4_flies_229 : decode cX4_flies 229 = .ok (.iload_n 1, 1) := dk_27 (dk_at dksX4_flies_9 18 rfl rfl)
theorem dX4_flies_230 : decode cX4_flies 230 = .ok (.iastore, 1) := dk_79 (dk_at dksX4_flies_9 19 rfl rfl)
theorem dX4_flies_231 : decode cX4_flies 231 = .ok (.aload_n 0, 1) := dk_42 (dk_at dksX4_flies_9 20 rfl rfl)
theorem dX4_flies_232 : decode cX4_flies 232 = .ok (.getfield 7, 3) := dk_180 0 7 (dk_at dksX4_flies_9 21 rfl rfl)
theorem dX4_flies_235 : decode cX4_flies 235 = .ok (.sipush 1092, 3) := dk_17 4 68 (dk_at dksX4_flies_10 0 rfl rfl)
theorem dX4_flies_238 : decode cX4_flies 238 = .ok (.iload 9, 2) := dk_21 9 (dk_at dksX4_flies_10 3 rfl rfl)
theorem dX4_flies_240 : decode cX4_flies 240 = .ok (.iadd, 1) := dk_96 (dk_at dksX4_flies_10 5 rfl rfl)
theorem dX4_flies_241 : decode cX4_flies 241 = .ok (.iload 6, 2) := dk_21 6 (dk_at dksX4_flies_10 6 rfl rfl)
theorem dX4_flies_243 : decode cX4_flies 243 = .ok (.iastore, 1) := dk_79 (dk_at dksX4_flies_10 8 rfl rfl)
theorem dX4_flies_244 : decode cX4_flies 244 = .ok (.iload_n 3, 1) := dk_29 (dk_at dksX4_flies_10 9 rfl rfl)
theorem dX4_flies_245 : decode cX4_flies 245 = .ok (.iload 5, 2) := dk_21 5 (dk_at dksX4_flies_10 10 rfl rfl)
theorem dX4_flies_247 : decode cX4_flies 247 = .ok (.invokestatic 239, 3) := dk_184 0 239 (dk_at dksX4_flies_10 12 rfl rfl)
theorem dX4_flies_250 : decode cX4_flies 250 = .ok (.iadd, 1) := dk_96 (dk_at dksX4_flies_10 15 rfl rfl)
theorem dX4_flies_251 : decode cX4_flies 251 = .ok (.istore_n 3, 1) := dk_62 (dk_at dksX4_flies_10 16 rfl rfl)
theorem dX4_flies_252 : decode cX4_flies 252 = .ok (.iload 4, 2) := dk_21 4 (dk_at dksX4_flies_10 17 rfl rfl)
theorem dX4_flies_254 : decode cX4_flies 254 = .ok (.iload 5, 2) := dk_21 5 (dk_at dksX4_flies_10 19 rfl rfl)
theorem dX4_flies_256 : decode cX4_flies 256 = .ok (.invokestatic 242, 3) := dk_184 0 242 (dk_at dksX4_flies_10 21 rfl rfl)
theorem dX4_flies_259 : decode cX4_flies 259 = .ok (.iadd, 1) := dk_96 (dk_at dksX4_flies_11 0 rfl rfl)
theorem dX4_flies_260 : decode cX4_flies 260 = .ok (.istore 4, 2) := dk_54 4 (dk_at dksX4_flies_11 1 rfl rfl)
theorem dX4_flies_262 : decode cX4_flies 262 = .ok (.aload_n 0, 1) := dk_42 (dk_at dksX4_flies_11 3 rfl rfl)
theorem dX4_flies_263 : decode cX4_flies 263 = .ok (.iload_n 1, 1) := dk_27 (dk_at dksX4_flies_11 4 rfl rfl)
theorem dX4_flies_264 : decode cX4_flies 264 = .ok (.iload_n 3, 1) := dk_29 (dk_at dksX4_flies_11 5 rfl rfl)
theorem dX4_flies_265 : decode cX4_flies 265 = .ok (.iload 4, 2) := dk_21 4 (dk_at dksX4_flies_11 6 rfl rfl)
theorem dX4_flies_267 : decode cX4_flies 267 = .ok (.invokevirtual 265, 3) := dk_182 1 9 (dk_at dksX4_flies_11 8 rfl rfl)
theorem dX4_flies_270 : decode cX4_flies 270 = .ok (.istore 10, 2) := dk_54 10 (dk_at dksX4_flies_11 11 rfl rfl)
theorem dX4_flies_272 : decode cX4_flies 272 = .ok (.iload 10, 2) := dk_21 10 (dk_at dksX4_flies_11 13 rfl rfl)
theorem dX4_flies_274 : decode cX4_flies 274 = .ok (.iconst (-1), 1) := dk_2 (dk_at dksX4_flies_11 15 rfl rfl)
theorem dX4_flies_275 : decode cX4_flies 275 = .ok (.if_icmp .eq 15, 3) := dk_159 0 15 (dk_at dksX4_flies_11 16 rfl rfl)
theorem dX4_flies_278 : decode cX4_flies 278 = .ok (.aload_n 0, 1) := dk_42 (dk_at dksX4_flies_11 19 rfl rfl)
theorem dX4_flies_279 : decode cX4_flies 279 = .ok (.iload_n 1, 1) := dk_27 (dk_at dksX4_flies_11 20 rfl rfl)
theorem dX4_flies_280 : decode cX4_flies 280 = .ok (.iload 10, 2) := dk_21 10 (dk_at dksX4_flies_11 21 rfl rfl)
theorem dX4_flies_282 : decode cX4_flies 282 = .ok (.iload_n 3, 1) := dk_29 (dk_at dksX4_flies_11 23 rfl rfl)
theorem dX4_flies_283 : decode cX4_flies 283 = .ok (.iload 4, 2) := dk_21 4 (dk_at dksX4_flies_12 0 rfl rfl)
theorem dX4_flies_285 : decode cX4_flies 285 = .ok (.iload 6, 2) := dk_21 6 (dk_at dksX4_flies_12 2 rfl rfl)
theorem dX4_flies_287 : decode cX4_flies 287 = .ok (.invokevirtual 268, 3) := dk_182 1 12 (dk_at dksX4_flies_12 4 rfl rfl)
theorem dX4_flies_290 : decode cX4_flies 290 = .ok (.iinc 6 1, 3) := dk_132 6 1 (dk_at dksX4_flies_12 7 rfl rfl)
theorem dX4_flies_293 : decode cX4_flies 293 = .ok (.aload_n 0, 1) := dk_42 (dk_at dksX4_flies_12 10 rfl rfl)
theorem dX4_flies_294 : decode cX4_flies 294 = .ok (.iload_n 3, 1) := dk_29 (dk_at dksX4_flies_12 11 rfl rfl)
theorem dX4_flies_295 : decode cX4_flies 295 = .ok (.iload 4, 2) := dk_21 4 (dk_at dksX4_flies_12 12 rfl rfl)
theorem dX4_flies_297 : decode cX4_flies 297 = .ok (.invokevirtual 272, 3) := dk_182 1 16 (dk_at dksX4_flies_12 14 rfl rfl)
theorem dX4_flies_300 : decode cX4_flies 300 = .ok (.ifCond .ne 7, 3) := dk_154 0 7 (dk_at dksX4_flies_12 17 rfl rfl)
theorem dX4_flies_303 : decode cX4_flies 303 = .ok (.iconst 1, 1) := dk_4 (dk_at dksX4_flies_12 20 rfl rfl)
theorem dX4_flies_304 : decode cX4_flies 304 = .ok (.goto 4, 3) := dk_167 0 4 (dk_at dksX4_flies_12 21 rfl rfl)
theorem dX4_flies_307 : decode cX4_flies 307 = .ok (.iconst 0, 1) := dk_3 (dk_at dksX4_flies_13 0 rfl rfl)
theorem dX4_flies_308 : decode cX4_flies 308 = .ok (.istore 7, 2) := dk_54 7 (dk_at dksX4_flies_13 1 rfl rfl)
theorem dX4_flies_310 : decode cX4_flies 310 = .ok (.goto (-269), 3) := dk_167 254 243 (dk_at dksX4_flies_13 3 rfl rfl)
theorem dX4_flies_313 : decode cX4_flies 313 = .ok (.aload_n 0, 1) := dk_42 (dk_at dksX4_flies_13 6 rfl rfl)
theorem dX4_flies_314 : decode cX4_flies 314 = .ok (.getfield 41, 3) := dk_180 0 41 (dk_at dksX4_flies_13 7 rfl rfl)
theorem dX4_flies_317 : decode cX4_flies 317 = .ok (.iload_n 1, 1) := dk_27 (dk_at dksX4_flies_13 10 rfl rfl)
theorem dX4_flies_318 : decode cX4_flies 318 = .ok (.iload_n 3, 1) := dk_29 (dk_at dksX4_flies_13 11 rfl rfl)
theorem dX4_flies_319 : decode cX4_flies 319 = .ok (.iastore, 1) := dk_79 (dk_at dksX4_flies_13 12 rfl rfl)
theorem dX4_flies_320 : decode cX4_flies 320 = .ok (.aload_n 0, 1) := dk_42 (dk_at dksX4_flies_13 13 rfl rfl)
theorem dX4_flies_321 : decode cX4_flies 321 = .ok (.getfield 44, 3) := dk_180 0 44 (dk_at dksX4_flies_13 14 rfl rfl)
theorem dX4_flies_324 : decode cX4_flies 324 = .ok (.iload_n 1, 1) := dk_27 (dk_at dksX4_flies_13 17 rfl rfl)
theorem dX4_flies_325 : decode cX4_flies 325 = .ok (.iload 4, 2) := dk_21 4 (dk_at dksX4_flies_13 18 rfl rfl)
theorem dX4_flies_327 : decode cX4_flies 327 = .ok (.iastore, 1) := dk_79 (dk_at dksX4_flies_13 20 rfl rfl)
theorem dX4_flies_328 : decode cX4_flies 328 = .ok (.aload_n 0, 1) := dk_42 (dk_at dksX4_flies_13 21 rfl rfl)
theorem dX4_flies_329 : decode cX4_flies 329 = .ok (.getfield 47, 3) := dk_180 0 47 (dk_at dksX4_flies_14 0 rfl rfl)
theorem dX4_flies_332 : decode cX4_flies 332 = .ok (.iload_n 1, 1) := dk_27 (dk_at dksX4_flies_14 3 rfl rfl)
theorem dX4_flies_333 : decode cX4_flies 333 = .ok (.iload 6, 2) := dk_21 6 (dk_at dksX4_flies_14 4 rfl rfl)
theorem dX4_flies_335 : decode cX4_flies 335 = .ok (.iastore, 1) := dk_79 (dk_at dksX4_flies_14 6 rfl rfl)
theorem dX4_flies_336 : decode cX4_flies 336 = .ok (.aload_n 0, 1) := dk_42 (dk_at dksX4_flies_14 7 rfl rfl)
theorem dX4_flies_337 : decode cX4_flies 337 = .ok (.getfield 50, 3) := dk_180 0 50 (dk_at dksX4_flies_14 8 rfl rfl)
theorem dX4_flies_340 : decode cX4_flies 340 = .ok (.iload_n 1, 1) := dk_27 (dk_at dksX4_flies_14 11 rfl rfl)
theorem dX4_flies_341 : decode cX4_flies 341 = .ok (.iload 5, 2) := dk_21 5 (dk_at dksX4_flies_14 12 rfl rfl)
theorem dX4_flies_343 : decode cX4_flies 343 = .ok (.iastore, 1) := dk_79 (dk_at dksX4_flies_14 14 rfl rfl)
theorem dX4_flies_344 : decode cX4_flies 344 = .ok (.return_, 1) := dk_177 (dk_at dksX4_flies_14 15 rfl rfl)
abbrev cX4_laysFacts : ByteArray := prog_14_method_49_code
def yX4_laysFacts : MethodName := ⟨RX4, "laysFacts", "(III)V"⟩
def dkwX4_laysFacts_10 : List UInt8 := [153, 0, 7, 4, 167, 0, 4, 3, 79, 177]
abbrev dktX4_laysFacts_10 : List UInt8 := dkwX4_laysFacts_10 ++ []
def dkwX4_laysFacts_9 : List UInt8 := [184, 0, 248, 96, 46, 2, 160, 0, 7, 3, 167, 0, 4, 4, 79, 42, 180, 0, 34, 16, 6, 21, 4]
abbrev dktX4_laysFacts_9 : List UInt8 := dkwX4_laysFacts_9 ++ dktX4_laysFacts_10
def dkwX4_laysFacts_8 : List UInt8 := [182, 0, 235, 79, 42, 180, 0, 34, 8, 21, 4, 154, 0, 22, 42, 180, 0, 7, 17, 3, 82, 27, 28, 29]
abbrev dktX4_laysFacts_8 : List UInt8 := dkwX4_laysFacts_8 ++ dktX4_laysFacts_9
def dkwX4_laysFacts_7 : List UInt8 := [182, 0, 235, 79, 42, 180, 0, 34, 7, 21, 4, 153, 0, 7, 3, 167, 0, 11, 42, 21, 7, 21, 8]
abbrev dktX4_laysFacts_7 : List UInt8 := dkwX4_laysFacts_7 ++ dktX4_laysFacts_8
def dkwX4_laysFacts_6 : List UInt8 := [182, 0, 245, 79, 42, 180, 0, 34, 6, 21, 4, 153, 0, 7, 3, 167, 0, 11, 42, 21, 5, 21, 6]
abbrev dktX4_laysFacts_6 : List UInt8 := dkwX4_laysFacts_6 ++ dktX4_laysFacts_7
def dkwX4_laysFacts_5 : List UInt8 := [182, 0, 245, 79, 42, 180, 0, 34, 5, 21, 4, 153, 0, 7, 3, 167, 0, 11, 42, 21, 7, 21, 8]
abbrev dktX4_laysFacts_5 : List UInt8 := dkwX4_laysFacts_5 ++ dktX4_laysFacts_6
def dkwX4_laysFacts_4 : List UInt8 := [28, 54, 8, 42, 180, 0, 34, 4, 21, 4, 153, 0, 7, 3, 167, 0, 11, 42, 21, 5, 21, 6]
abbrev dktX4_laysFacts_4 : List UInt8 := dkwX4_laysFacts_4 ++ dktX4_laysFacts_5
def dkwX4_laysFacts_3 : List UInt8 := [27, 4, 100, 167, 0, 4, 27, 54, 7, 29, 153, 0, 8, 29, 6, 160, 0, 9, 28, 4, 100, 167, 0, 4]
abbrev dktX4_laysFacts_3 : List UInt8 := dkwX4_laysFacts_3 ++ dktX4_laysFacts_4
def dkwX4_laysFacts_2 : List UInt8 := [29, 4, 160, 0, 9, 28, 4, 100, 167, 0, 4, 28, 54, 6, 29, 5, 159, 0, 8, 29, 6, 160, 0, 9]
abbrev dktX4_laysFacts_2 : List UInt8 := dkwX4_laysFacts_2 ++ dktX4_laysFacts_3
def dkwX4_laysFacts_1 : List UInt8 := [54, 4, 29, 153, 0, 8, 29, 6, 160, 0, 9, 27, 4, 100, 167, 0, 4, 27, 54, 5, 29, 153, 0, 8]
abbrev dktX4_laysFacts_1 : List UInt8 := dkwX4_laysFacts_1 ++ dktX4_laysFacts_2
def dkwX4_laysFacts_0 : List UInt8 := [42, 27, 29, 184, 0, 239, 96, 28, 29, 184, 0, 242, 96, 182, 0, 93, 154, 0, 7, 4, 167, 0, 4, 3]
abbrev dktX4_laysFacts_0 : List UInt8 := dkwX4_laysFacts_0 ++ dktX4_laysFacts_1
theorem dksX4_laysFacts_0 : cX4_laysFacts.data.toList.drop 0 = dktX4_laysFacts_0 := by decide +kernel
theorem dksX4_laysFacts_1 : cX4_laysFacts.data.toList.drop 24 = dktX4_laysFacts_1 := dk_seg dksX4_laysFacts_0 24 rfl rfl
theorem dksX4_laysFacts_2 : cX4_laysFacts.data.toList.drop 48 = dktX4_laysFacts_2 := dk_seg dksX4_laysFacts_1 24 rfl rfl
theorem dksX4_laysFacts_3 : cX4_laysFacts.data.toList.drop 72 = dktX4_laysFacts_3 := dk_seg dksX4_laysFacts_2 24 rfl rfl
theorem dksX4_laysFacts_4 : cX4_laysFacts.data.toList.drop 96 = dktX4_laysFacts_4 := dk_seg dksX4_laysFacts_3 24 rfl rfl
theorem dksX4_laysFacts_5 : cX4_laysFacts.data.toList.drop 118 = dktX4_laysFacts_5 := dk_seg dksX4_laysFacts_4 22 rfl rfl
theorem dksX4_laysFacts_6 : cX4_laysFacts.data.toList.drop 141 = dktX4_laysFacts_6 := dk_seg dksX4_laysFacts_5 23 rfl rfl
theorem dksX4_laysFacts_7 : cX4_laysFacts.data.toList.drop 164 = dktX4_laysFacts_7 := dk_seg dksX4_laysFacts_6 23 rfl rfl
theorem dksX4_laysFacts_8 : cX4_laysFacts.data.toList.drop 187 = dktX4_laysFacts_8 := dk_seg dksX4_laysFacts_7 23 rfl rfl
theorem dksX4_laysFacts_9 : cX4_laysFacts.data.toList.drop 211 = dktX4_laysFacts_9 := dk_seg dksX4_laysFacts_8 24 rfl rfl
theorem dksX4_laysFacts_10 : cX4_laysFacts.data.toList.drop 234 = dktX4_laysFacts_10 := dk_seg dksX4_laysFacts_9 23 rfl rfl
theorem dX4_laysFacts_0 : decode cX4_laysFacts 0 = .ok (.aload_n 0, 1) := dk_42 (dk_at dksX4_laysFacts_0 0 rfl rfl)
theorem dX4_laysFacts_1 : decode cX4_laysFacts 1 = .ok (.iload_n 1, 1) := dk_27 (dk_at dksX4_laysFacts_0 1 rfl rfl)
theorem dX4_laysFacts_2 : decode cX4_laysFacts 2 = .ok (.iload_n 3, 1) := dk_29 (dk_at dksX4_laysFacts_0 2 rfl rfl)
theorem dX4_laysFacts_3 : decode cX4_laysFacts 3 = .ok (.invokestatic 239, 3) := dk_184 0 239 (dk_at dksX4_laysFacts_0 3 rfl rfl)
theorem dX4_laysFacts_6 : decode cX4_laysFacts 6 = .ok (.iadd, 1) := dk_96 (dk_at dksX4_laysFacts_0 6 rfl rfl)
theorem dX4_laysFacts_7 : decode cX4_laysFacts 7 = .ok (.iload_n 2, 1) := dk_28 (dk_at dksX4_laysFacts_0 7 rfl rfl)
theorem dX4_laysFacts_8 : decode cX4_laysFacts 8 = .ok (.iload_n 3, 1) := dk_29 (dk_at dksX4_laysFacts_0 8 rfl rfl)
theorem dX4_laysFacts_9 : decode cX4_laysFacts 9 = .ok (.invokestatic 242, 3) := dk_184 0 242 (dk_at dksX4_laysFacts_0 9 rfl rfl)
theorem dX4_laysFacts_12 : decode cX4_laysFacts 12 = .ok (.iadd, 1) := dk_96 (dk_at dksX4_laysFacts_0 12 rfl rfl)
theorem dX4_laysFacts_13 : decode cX4_laysFacts 13 = .ok (.invokevirtual 93, 3) := dk_182 0 93 (dk_at dksX4_laysFacts_0 13 rfl rfl)
theorem dX4_laysFacts_16 : decode cX4_laysFacts 16 = .ok (.ifCond .ne 7, 3) := dk_154 0 7 (dk_at dksX4_laysFacts_0 16 rfl rfl)
theorem dX4_laysFacts_19 : decode cX4_laysFacts 19 = .ok (.iconst 1, 1) := dk_4 (dk_at dksX4_laysFacts_0 19 rfl rfl)
theorem dX4_laysFacts_20 : decode cX4_laysFacts 20 = .ok (.goto 4, 3) := dk_167 0 4 (dk_at dksX4_laysFacts_0 20 rfl rfl)
theorem dX4_laysFacts_23 : decode cX4_laysFacts 23 = .ok (.iconst 0, 1) := dk_3 (dk_at dksX4_laysFacts_0 23 rfl rfl)
theorem dX4_laysFacts_24 : decode cX4_laysFacts 24 = .ok (.istore 4, 2) := dk_54 4 (dk_at dksX4_laysFacts_1 0 rfl rfl)
theorem dX4_laysFacts_26 : decode cX4_laysFacts 26 = .ok (.iload_n 3, 1) := dk_29 (dk_at dksX4_laysFacts_1 2 rfl rfl)
theorem dX4_laysFacts_27 : decode cX4_laysFacts 27 = .ok (.ifCond .eq 8, 3) := dk_153 0 8 (dk_at dksX4_laysFacts_1 3 rfl rfl)
theorem dX4_laysFacts_30 : decode cX4_laysFacts 30 = .ok (.iload_n 3, 1) := dk_29 (dk_at dksX4_laysFacts_1 6 rfl rfl)
theorem dX4_laysFacts_31 : decode cX4_laysFacts 31 = .ok (.iconst 3, 1) := dk_6 (dk_at dksX4_laysFacts_1 7 rfl rfl)
theorem dX4_laysFacts_32 : decode cX4_laysFacts 32 = .ok (.if_icmp .ne 9, 3) := dk_160 0 9 (dk_at dksX4_laysFacts_1 8 rfl rfl)
theorem dX4_laysFacts_35 : decode cX4_laysFacts 35 = .ok (.iload_n 1, 1) := dk_27 (dk_at dksX4_laysFacts_1 11 rfl rfl)
theorem dX4_laysFacts_36 : decode cX4_laysFacts 36 = .ok (.iconst 1, 1) := dk_4 (dk_at dksX4_laysFacts_1 12 rfl rfl)
theorem dX4_laysFacts_37 : decode cX4_laysFacts 37 = .ok (.isub, 1) := dk_100 (dk_at dksX4_laysFacts_1 13 rfl rfl)
theorem dX4_laysFacts_38 : decode cX4_laysFacts 38 = .ok (.goto 4, 3) := dk_167 0 4 (dk_at dksX4_laysFacts_1 14 rfl rfl)
theorem dX4_laysFacts_41 : decode cX4_laysFacts 41 = .ok (.iload_n 1, 1) := dk_27 (dk_at dksX4_laysFacts_1 17 rfl rfl)
theorem dX4_laysFacts_42 : decode cX4_laysFacts 42 = .ok (.istore 5, 2) := dk_54 5 (dk_at dksX4_laysFacts_1 18 rfl rfl)
theorem dX4_laysFacts_44 : decode cX4_laysFacts 44 = .ok (.iload_n 3, 1) := dk_29 (dk_at dksX4_laysFacts_1 20 rfl rfl)
theorem dX4_laysFacts_45 : decode cX4_laysFacts 45 = .ok (.ifCond .eq 8, 3) := dk_153 0 8 (dk_at dksX4_laysFacts_1 21 rfl rfl)
theorem dX4_laysFacts_48 : decode cX4_laysFacts 48 = .ok (.iload_n 3, 1) := dk_29 (dk_at dksX4_laysFacts_2 0 rfl rfl)
theorem dX4_laysFacts_49 : decode cX4_laysFacts 49 = .ok (.iconst 1, 1) := dk_4 (dk_at dksX4_laysFacts_2 1 rfl rfl)
theorem dX4_laysFacts_50 : decode cX4_laysFacts 50 = .ok (.if_icmp .ne 9, 3) := dk_160 0 9 (dk_at dksX4_laysFacts_2 2 rfl rfl)
theorem dX4_laysFacts_53 : decode cX4_laysFacts 53 = .ok (.iload_n 2, 1) := dk_28 (dk_at dksX4_laysFacts_2 5 rfl rfl)
theorem dX4_laysFacts_54 : decode cX4_laysFacts 54 = .ok (.iconst 1, 1) := dk_4 (dk_at dksX4_laysFacts_2 6 rfl rfl)
theorem dX4_laysFacts_55 : decode cX4_laysFacts 55 = .ok (.isub, 1) := dk_100 (dk_at dksX4_laysFacts_2 7 rfl rfl)
theorem dX4_laysFacts_56 : decode cX4_laysFacts 56 = .ok (.goto 4, 3) := dk_167 0 4 (dk_at dksX4_laysFacts_2 8 rfl rfl)
theorem dX4_laysFacts_59 : decode cX4_laysFacts 59 = .ok (.iload_n 2, 1) := dk_28 (dk_at dksX4_laysFacts_2 11 rfl rfl)
theorem dX4_laysFacts_60 : decode cX4_laysFacts 60 = .ok (.istore 6, 2) := dk_54 6 (dk_at dksX4_laysFacts_2 12 rfl rfl)
theorem dX4_laysFacts_62 : decode cX4_laysFacts 62 = .ok (.iload_n 3, 1) := dk_29 (dk_at dksX4_laysFacts_2 14 rfl rfl)
theorem dX4_laysFacts_63 : decode cX4_laysFacts 63 = .ok (.iconst 2, 1) := dk_5 (dk_at dksX4_laysFacts_2 15 rfl rfl)
theorem dX4_laysFacts_64 : decode cX4_laysFacts 64 = .ok (.if_icmp .eq 8, 3) := dk_159 0 8 (dk_at dksX4_laysFacts_2 16 rfl rfl)
theorem dX4_laysFacts_67 : decode cX4_laysFacts 67 = .ok (.iload_n 3, 1) := dk_29 (dk_at dksX4_laysFacts_2 19 rfl rfl)
theorem dX4_laysFacts_68 : decode cX4_laysFacts 68 = .ok (.iconst 3, 1) := dk_6 (dk_at dksX4_laysFacts_2 20 rfl rfl)
theorem dX4_laysFacts_69 : decode cX4_laysFacts 69 = .ok (.if_icmp .ne 9, 3) := dk_160 0 9 (dk_at dksX4_laysFacts_2 21 rfl rfl)
theorem dX4_laysFacts_72 : decode cX4_laysFacts 72 = .ok (.iload_n 1, 1) := dk_27 (dk_at dksX4_laysFacts_3 0 rfl rfl)
theorem dX4_laysFacts_73 : decode cX4_laysFacts 73 = .ok (.iconst 1, 1) := dk_4 (dk_at dksX4_laysFacts_3 1 rfl rfl)
theorem dX4_laysFacts_74 : decode cX4_laysFacts 74 = .ok (.isub, 1) := dk_100 (dk_at dksX4_laysFacts_3 2 rfl rfl)
theorem dX4_laysFacts_75 : decode cX4_laysFacts 75 = .ok (.goto 4, 3) := dk_167 0 4 (dk_at dksX4_laysFacts_3 3 rfl rfl)
theorem dX4_laysFacts_78 : decode cX4_laysFacts 78 = .ok (.iload_n 1, 1) := dk_27 (dk_at dksX4_laysFacts_3 6 rfl rfl)
theorem dX4_laysFacts_79 : decode cX4_laysFacts 79 = .ok (.istore 7, 2) := dk_54 7 (dk_at dksX4_laysFacts_3 7 rfl rfl)
theorem dX4_laysFacts_81 : decode cX4_laysFacts 81 = .ok (.iload_n 3, 1) := dk_29 (dk_at dksX4_laysFacts_3 9 rfl rfl)
theorem dX4_laysFacts_82 : decode cX4_laysFacts 82 = .ok (.ifCond .eq 8, 3) := dk_153 0 8 (dk_at dksX4_laysFacts_3 10 rfl rfl)
theorem dX4_laysFacts_85 : decode cX4_laysFacts 85 = .ok (.iload_n 3, 1) := dk_29 (dk_at dksX4_laysFacts_3 13 rfl rfl)
theorem dX4_laysFacts_86 : decode cX4_laysFacts 86 = .ok (.iconst 3, 1) := dk_6 (dk_at dksX4_laysFacts_3 14 rfl rfl)
theorem dX4_laysFacts_87 : decode cX4_laysFacts 87 = .ok (.if_icmp .ne 9, 3) := dk_160 0 9 (dk_at dksX4_laysFacts_3 15 rfl rfl)
theorem dX4_laysFacts_90 : decode cX4_laysFacts 90 = .ok (.iload_n 2, 1) := dk_28 (dk_at dksX4_laysFacts_3 18 rfl rfl)
theorem dX4_laysFacts_91 : decode cX4_laysFacts 91 = .ok (.iconst 1, 1) := dk_4 (dk_at dksX4_laysFacts_3 19 rfl rfl)
theorem dX4_laysFacts_92 : decode cX4_laysFacts 92 = .ok (.isub, 1) := dk_100 (dk_at dksX4_laysFacts_3 20 rfl rfl)
theorem dX4_laysFacts_93 : decode cX4_laysFacts 93 = .ok (.goto 4, 3) := dk_167 0 4 (dk_at dksX4_laysFacts_3 21 rfl rfl)
theorem dX4_laysFacts_96 : decode cX4_laysFacts 96 = .ok (.iload_n 2, 1) := dk_28 (dk_at dksX4_laysFacts_4 0 rfl rfl)
theorem dX4_laysFacts_97 : decode cX4_laysFacts 97 = .ok (.istore 8, 2) := dk_54 8 (dk_at dksX4_laysFacts_4 1 rfl rfl)
theorem dX4_laysFacts_99 : decode cX4_laysFacts 99 = .ok (.aload_n 0, 1) := dk_42 (dk_at dksX4_laysFacts_4 3 rfl rfl)
theorem dX4_laysFacts_100 : decode cX4_laysFacts 100 = .ok (.getfield 34, 3) := dk_180 0 34 (dk_at dksX4_laysFacts_4 4 rfl rfl)
theorem dX4_laysFacts_103 : decode cX4_laysFacts 103 = .ok (.iconst 1, 1) := dk_4 (dk_at dksX4_laysFacts_4 7 rfl rfl)
theorem dX4_laysFacts_104 : decode cX4_laysFacts 104 = .ok (.iload 4, 2) := dk_21 4 (dk_at dksX4_laysFacts_4 8 rfl rfl)
theorem dX4_laysFacts_106 : decode cX4_laysFacts 106 = .ok (.ifCond .eq 7, 3) := dk_153 0 7 (dk_at dksX4_laysFacts_4 10 rfl rfl)
theorem dX4_laysFacts_109 : decode cX4_laysFacts 109 = .ok (.iconst 0, 1) := dk_3 (dk_at dksX4_laysFacts_4 13 rfl rfl)
theorem dX4_laysFacts_110 : decode cX4_laysFacts 110 = .ok (.goto 11, 3) := dk_167 0 11 (dk_at dksX4_laysFacts_4 14 rfl rfl)
theorem dX4_laysFacts_113 : decode cX4_laysFacts 113 = .ok (.aload_n 0, 1) := dk_42 (dk_at dksX4_laysFacts_4 17 rfl rfl)
theorem dX4_laysFacts_114 : decode cX4_laysFacts 114 = .ok (.iload 5, 2) := dk_21 5 (dk_at dksX4_laysFacts_4 18 rfl rfl)
theorem dX4_laysFacts_116 : decode cX4_laysFacts 116 = .ok (.iload 6, 2) := dk_21 6 (dk_at dksX4_laysFacts_4 20 rfl rfl)
theorem dX4_laysFacts_118 : decode cX4_laysFacts 118 = .ok (.invokevirtual 245, 3) := dk_182 0 245 (dk_at dksX4_laysFacts_5 0 rfl rfl)
theorem dX4_laysFacts_121 : decode cX4_laysFacts 121 = .ok (.iastore, 1) := dk_79 (dk_at dksX4_laysFacts_5 3 rfl rfl)
theorem dX4_laysFacts_122 : decode cX4_laysFacts 122 = .ok (.aload_n 0, 1) := dk_42 (dk_at dksX4_laysFacts_5 4 rfl rfl)
theorem dX4_laysFacts_123 : decode cX4_laysFacts 123 = .ok (.getfield 34, 3) := dk_180 0 34 (dk_at dksX4_laysFacts_5 5 rfl rfl)
theorem dX4_laysFacts_126 : decode cX4_laysFacts 126 = .ok (.iconst 2, 1) := dk_5 (dk_at dksX4_laysFacts_5 8 rfl rfl)
theorem dX4_laysFacts_127 : decode cX4_laysFacts 127 = .ok (.iload 4, 2) := dk_21 4 (dk_at dksX4_laysFacts_5 9 rfl rfl)
theorem dX4_laysFacts_129 : decode cX4_laysFacts 129 = .ok (.ifCond .eq 7, 3) := dk_153 0 7 (dk_at dksX4_laysFacts_5 11 rfl rfl)
theorem dX4_laysFacts_132 : decode cX4_laysFacts 132 = .ok (.iconst 0, 1) := dk_3 (dk_at dksX4_laysFacts_5 14 rfl rfl)
theorem dX4_laysFacts_133 : decode cX4_laysFacts 133 = .ok (.goto 11, 3) := dk_167 0 11 (dk_at dksX4_laysFacts_5 15 rfl rfl)
theorem dX4_laysFacts_136 : decode cX4_laysFacts 136 = .ok (.aload_n 0, 1) := dk_42 (dk_at dksX4_laysFacts_5 18 rfl rfl)
theorem dX4_laysFacts_137 : decode cX4_laysFacts 137 = .ok (.iload 7, 2) := dk_21 7 (dk_at dksX4_laysFacts_5 19 rfl rfl)
theorem dX4_laysFacts_139 : decode cX4_laysFacts 139 = .ok (.iload 8, 2) := dk_21 8 (dk_at dksX4_laysFacts_5 21 rfl rfl)
theorem dX4_laysFacts_141 : decode cX4_laysFacts 141 = .ok (.invokevirtual 245, 3) := dk_182 0 245 (dk_at dksX4_laysFacts_6 0 rfl rfl)
theorem dX4_laysFacts_144 : decode cX4_laysFacts 144 = .ok (.iastore, 1) := dk_79 (dk_at dksX4_laysFacts_6 3 rfl rfl)
theorem dX4_laysFacts_145 : decode cX4_laysFacts 145 = .ok (.aload_n 0, 1) := dk_42 (dk_at dksX4_laysFacts_6 4 rfl rfl)
theorem dX4_laysFacts_146 : decode cX4_laysFacts 146 = .ok (.getfield 34, 3) := dk_180 0 34 (dk_at dksX4_laysFacts_6 5 rfl rfl)
theorem dX4_laysFacts_149 : decode cX4_laysFacts 149 = .ok (.iconst 3, 1) := dk_6 (dk_at dksX4_laysFacts_6 8 rfl rfl)
theorem dX4_laysFacts_150 : decode cX4_laysFacts 150 = .ok (.iload 4, 2) := dk_21 4 (dk_at dksX4_laysFacts_6 9 rfl rfl)
theorem dX4_laysFacts_152 : decode cX4_laysFacts 152 = .ok (.ifCond .eq 7, 3) := dk_153 0 7 (dk_at dksX4_laysFacts_6 11 rfl rfl)
theorem dX4_laysFacts_155 : decode cX4_laysFacts 155 = .ok (.iconst 0, 1) := dk_3 (dk_at dksX4_laysFacts_6 14 rfl rfl)
theorem dX4_laysFacts_156 : decode cX4_laysFacts 156 = .ok (.goto 11, 3) := dk_167 0 11 (dk_at dksX4_laysFacts_6 15 rfl rfl)
theorem dX4_laysFacts_159 : decode cX4_laysFacts 159 = .ok (.aload_n 0, 1) := dk_42 (dk_at dksX4_laysFacts_6 18 rfl rfl)
theorem dX4_laysFacts_160 : decode cX4_laysFacts 160 = .ok (.iload 5, 2) := dk_21 5 (dk_at dksX4_laysFacts_6 19 rfl rfl)
theorem dX4_laysFacts_162 : decode cX4_laysFacts 162 = .ok (.iload 6, 2) := dk_21 6 (dk_at dksX4_laysFacts_6 21 rfl rfl)
theorem dX4_laysFacts_164 : decode cX4_laysFacts 164 = .ok (.invokevirtual 235, 3) := dk_182 0 235 (dk_at dksX4_laysFacts_7 0 rfl rfl)
theorem dX4_laysFacts_167 : decode cX4_laysFacts 167 = .ok (.iastore, 1) := dk_79 (dk_at dksX4_laysFacts_7 3 rfl rfl)
theorem dX4_laysFacts_168 : decode cX4_laysFacts 168 = .ok (.aload_n 0, 1) := dk_42 (dk_at dksX4_laysFacts_7 4 rfl rfl)
theorem dX4_laysFacts_169 : decode cX4_laysFacts 169 = .ok (.getfield 34, 3) := dk_180 0 34 (dk_at dksX4_laysFacts_7 5 rfl rfl)
theorem dX4_laysFacts_172 : decode cX4_laysFacts 172 = .ok (.iconst 4, 1) := dk_7 (dk_at dksX4_laysFacts_7 8 rfl rfl)
theorem dX4_laysFacts_173 : decode cX4_laysFacts 173 = .ok (.iload 4, 2) := dk_21 4 (dk_at dksX4_laysFacts_7 9 rfl rfl)
theorem dX4_laysFacts_175 : decode cX4_laysFacts 175 = .ok (.ifCond .eq 7, 3) := dk_153 0 7 (dk_at dksX4_laysFacts_7 11 rfl rfl)
theorem dX4_laysFacts_178 : decode cX4_laysFacts 178 = .ok (.iconst 0, 1) := dk_3 (dk_at dksX4_laysFacts_7 14 rfl rfl)
theorem dX4_laysFacts_179 : decode cX4_laysFacts 179 = .ok (.goto 11, 3) := dk_167 0 11 (dk_at dksX4_laysFacts_7 15 rfl rfl)
theorem dX4_laysFacts_182 : decode cX4_laysFacts 182 = .ok (.aload_n 0, 1) := dk_42 (dk_at dksX4_laysFacts_7 18 rfl rfl)
theorem dX4_laysFacts_183 : decode cX4_laysFacts 183 = .ok (.iload 7, 2) := dk_21 7 (dk_at dksX4_laysFacts_7 19 rfl rfl)
theorem dX4_laysFacts_185 : decode cX4_laysFacts 185 = .ok (.iload 8, 2) := dk_21 8 (dk_at dksX4_laysFacts_7 21 rfl rfl)
theorem dX4_laysFacts_187 : decode cX4_laysFacts 187 = .ok (.invokevirtual 235, 3) := dk_182 0 235 (dk_at dksX4_laysFacts_8 0 rfl rfl)
theorem dX4_laysFacts_190 : decode cX4_laysFacts 190 = .ok (.iastore, 1) := dk_79 (dk_at dksX4_laysFacts_8 3 rfl rfl)
theorem dX4_laysFacts_191 : decode cX4_laysFacts 191 = .ok (.aload_n 0, 1) := dk_42 (dk_at dksX4_laysFacts_8 4 rfl rfl)
theorem dX4_laysFacts_192 : decode cX4_laysFacts 192 = .ok (.getfield 34, 3) := dk_180 0 34 (dk_at dksX4_laysFacts_8 5 rfl rfl)
theorem dX4_laysFacts_195 : decode cX4_laysFacts 195 = .ok (.iconst 5, 1) := dk_8 (dk_at dksX4_laysFacts_8 8 rfl rfl)
theorem dX4_laysFacts_196 : decode cX4_laysFacts 196 = .ok (.iload 4, 2) := dk_21 4 (dk_at dksX4_laysFacts_8 9 rfl rfl)
theorem dX4_laysFacts_198 : decode cX4_laysFacts 198 = .ok (.ifCond .ne 22, 3) := dk_154 0 22 (dk_at dksX4_laysFacts_8 11 rfl rfl)
theorem dX4_laysFacts_201 : decode cX4_laysFacts 201 = .ok (.aload_n 0, 1) := dk_42 (dk_at dksX4_laysFacts_8 14 rfl rfl)
theorem dX4_laysFacts_202 : decode cX4_laysFacts 202 = .ok (.getfield 7, 3) := dk_180 0 7 (dk_at dksX4_laysFacts_8 15 rfl rfl)
theorem dX4_laysFacts_205 : decode cX4_laysFacts 205 = .ok (.sipush 850, 3) := dk_17 3 82 (dk_at dksX4_laysFacts_8 18 rfl rfl)
theorem dX4_laysFacts_208 : decode cX4_laysFacts 208 = .ok (.iload_n 1, 1) := dk_27 (dk_at dksX4_laysFacts_8 21 rfl rfl)
theorem dX4_laysFacts_209 : decode cX4_laysFacts 209 = .ok (.iload_n 2, 1) := dk_28 (dk_at dksX4_laysFacts_8 22 rfl rfl)
theorem dX4_laysFacts_210 : decode cX4_laysFacts 210 = .ok (.iload_n 3, 1) := dk_29 (dk_at dksX4_laysFacts_8 23 rfl rfl)
theorem dX4_laysFacts_211 : decode cX4_laysFacts 211 = .ok (.invokestatic 248, 3) := dk_184 0 248 (dk_at dksX4_laysFacts_9 0 rfl rfl)
theorem dX4_laysFacts_214 : decode cX4_laysFacts 214 = .ok (.iadd, 1) := dk_96 (dk_at dksX4_laysFacts_9 3 rfl rfl)
theorem dX4_laysFacts_215 : decode cX4_laysFacts 215 = .ok (.iaload, 1) := dk_46 (dk_at dksX4_laysFacts_9 4 rfl rfl)
theorem dX4_laysFacts_216 : decode cX4_laysFacts 216 = .ok (.iconst (-1), 1) := dk_2 (dk_at dksX4_laysFacts_9 5 rfl rfl)
theorem dX4_laysFacts_217 : decode cX4_laysFacts 217 = .ok (.if_icmp .ne 7, 3) := dk_160 0 7 (dk_at dksX4_laysFacts_9 6 rfl rfl)
theorem dX4_laysFacts_220 : decode cX4_laysFacts 220 = .ok (.iconst 0, 1) := dk_3 (dk_at dksX4_laysFacts_9 9 rfl rfl)
theorem dX4_laysFacts_221 : decode cX4_laysFacts 221 = .ok (.goto 4, 3) := dk_167 0 4 (dk_at dksX4_laysFacts_9 10 rfl rfl)
theorem dX4_laysFacts_224 : decode cX4_laysFacts 224 = .ok (.iconst 1, 1) := dk_4 (dk_at dksX4_laysFacts_9 13 rfl rfl)
theorem dX4_laysFacts_225 : decode cX4_laysFacts 225 = .ok (.iastore, 1) := dk_79 (dk_at dksX4_laysFacts_9 14 rfl rfl)
theorem dX4_laysFacts_226 : decode cX4_laysFacts 226 = .ok (.aload_n 0, 1) := dk_42 (dk_at dksX4_laysFacts_9 15 rfl rfl)
theorem dX4_laysFacts_227 : decode cX4_laysFacts 227 = .ok (.getfield 34, 3) := dk_180 0 34 (dk_at dksX4_laysFacts_9 16 rfl rfl)
theorem dX4_laysFacts_230 : decode cX4_laysFacts 230 = .ok (.bipush 6, 2) := dk_16 6 (dk_at dksX4_laysFacts_9 19 rfl rfl)
theorem dX4_laysFacts_232 : decode cX4_laysFacts 232 = .ok (.iload 4, 2) := dk_21 4 (dk_at dksX4_laysFacts_9 21 rfl rfl)
theorem dX4_laysFacts_234 : decode cX4_laysFacts 234 = .ok (.ifCond .eq 7, 3) := dk_153 0 7 (dk_at dksX4_laysFacts_10 0 rfl rfl)
theorem dX4_laysFacts_237 : decode cX4_laysFacts 237 = .ok (.iconst 1, 1) := dk_4 (dk_at dksX4_laysFacts_10 3 rfl rfl)
theorem dX4_laysFacts_238 : decode cX4_laysFacts 238 = .ok (.goto 4, 3) := dk_167 0 4 (dk_at dksX4_laysFacts_10 4 rfl rfl)
theorem dX4_laysFacts_241 : decode cX4_laysFacts 241 = .ok (.iconst 0, 1) := dk_3 (dk_at dksX4_laysFacts_10 7 rfl rfl)
theorem dX4_laysFacts_242 : decode cX4_laysFacts 242 = .ok (.iastore, 1) := dk_79 (dk_at dksX4_laysFacts_10 8 rfl rfl)
theorem dX4_laysFacts_243 : decode cX4_laysFacts 243 = .ok (.return_, 1) := dk_177 (dk_at dksX4_laysFacts_10 9 rfl rfl)
abbrev cX4_aheadX : ByteArray := prog_14_method_44_code
def yX4_aheadX : MethodName := ⟨RX4, "aheadX", "(I)I"⟩
def dkwX4_aheadX_0 : List UInt8 := [26, 4, 160, 0, 7, 4, 167, 0, 13, 26, 6, 160, 0, 7, 2, 167, 0, 4, 3, 172]
abbrev dktX4_aheadX_0 : List UInt8 := dkwX4_aheadX_0 ++ []
theorem dksX4_aheadX_0 : cX4_aheadX.data.toList.drop 0 = dktX4_aheadX_0 := by decide +kernel
theorem dX4_aheadX_0 : decode cX4_aheadX 0 = .ok (.iload_n 0, 1) := dk_26 (dk_at dksX4_aheadX_0 0 rfl rfl)
theorem dX4_aheadX_1 : decode cX4_aheadX 1 = .ok (.iconst 1, 1) := dk_4 (dk_at dksX4_aheadX_0 1 rfl rfl)
theorem dX4_aheadX_2 : decode cX4_aheadX 2 = .ok (.if_icmp .ne 7, 3) := dk_160 0 7 (dk_at dksX4_aheadX_0 2 rfl rfl)
theorem dX4_aheadX_5 : decode cX4_aheadX 5 = .ok (.iconst 1, 1) := dk_4 (dk_at dksX4_aheadX_0 5 rfl rfl)
theorem dX4_aheadX_6 : decode cX4_aheadX 6 = .ok (.goto 13, 3) := dk_167 0 13 (dk_at dksX4_aheadX_0 6 rfl rfl)
theorem dX4_aheadX_9 : decode cX4_aheadX 9 = .ok (.iload_n 0, 1) := dk_26 (dk_at dksX4_aheadX_0 9 rfl rfl)
theorem dX4_aheadX_10 : decode cX4_aheadX 10 = .ok (.iconst 3, 1) := dk_6 (dk_at dksX4_aheadX_0 10 rfl rfl)
theorem dX4_aheadX_11 : decode cX4_aheadX 11 = .ok (.if_icmp .ne 7, 3) := dk_160 0 7 (dk_at dksX4_aheadX_0 11 rfl rfl)
theorem dX4_aheadX_14 : decode cX4_aheadX 14 = .ok (.iconst (-1), 1) := dk_2 (dk_at dksX4_aheadX_0 14 rfl rfl)
theorem dX4_aheadX_15 : decode cX4_aheadX 15 = .ok (.goto 4, 3) := dk_167 0 4 (dk_at dksX4_aheadX_0 15 rfl rfl)
theorem dX4_aheadX_18 : decode cX4_aheadX 18 = .ok (.iconst 0, 1) := dk_3 (dk_at dksX4_aheadX_0 18 rfl rfl)
theorem dX4_aheadX_19 : decode cX4_aheadX 19 = .ok (.ireturn, 1) := dk_172 (dk_at dksX4_aheadX_0 19 rfl rfl)
abbrev cX4_aheadY : ByteArray := prog_14_method_45_code
def yX4_aheadY : MethodName := ⟨RX4, "aheadY", "(I)I"⟩
def dkwX4_aheadY_0 : List UInt8 := [26, 154, 0, 7, 2, 167, 0, 13, 26, 5, 160, 0, 7, 4, 167, 0, 4, 3, 172]
abbrev dktX4_aheadY_0 : List UInt8 := dkwX4_aheadY_0 ++ []
theorem dksX4_aheadY_0 : cX4_aheadY.data.toList.drop 0 = dktX4_aheadY_0 := by decide +kernel
theorem dX4_aheadY_0 : decode cX4_aheadY 0 = .ok (.iload_n 0, 1) := dk_26 (dk_at dksX4_aheadY_0 0 rfl rfl)
theorem dX4_aheadY_1 : decode cX4_aheadY 1 = .ok (.ifCond .ne 7, 3) := dk_154 0 7 (dk_at dksX4_aheadY_0 1 rfl rfl)
theorem dX4_aheadY_4 : decode cX4_aheadY 4 = .ok (.iconst (-1), 1) := dk_2 (dk_at dksX4_aheadY_0 4 rfl rfl)
theorem dX4_aheadY_5 : decode cX4_aheadY 5 = .ok (.goto 13, 3) := dk_167 0 13 (dk_at dksX4_aheadY_0 5 rfl rfl)
theorem dX4_aheadY_8 : decode cX4_aheadY 8 = .ok (.iload_n 0, 1) := dk_26 (dk_at dksX4_aheadY_0 8 rfl rfl)
theorem dX4_aheadY_9 : decode cX4_aheadY 9 = .ok (.iconst 2, 1) := dk_5 (dk_at dksX4_aheadY_0 9 rfl rfl)
theorem dX4_aheadY_10 : decode cX4_aheadY 10 = .ok (.if_icmp .ne 7, 3) := dk_160 0 7 (dk_at dksX4_aheadY_0 10 rfl rfl)
theorem dX4_aheadY_13 : decode cX4_aheadY 13 = .ok (.iconst 1, 1) := dk_4 (dk_at dksX4_aheadY_0 13 rfl rfl)
theorem dX4_aheadY_14 : decode cX4_aheadY 14 = .ok (.goto 4, 3) := dk_167 0 4 (dk_at dksX4_aheadY_0 14 rfl rfl)
theorem dX4_aheadY_17 : decode cX4_aheadY 17 = .ok (.iconst 0, 1) := dk_3 (dk_at dksX4_aheadY_0 17 rfl rfl)
theorem dX4_aheadY_18 : decode cX4_aheadY 18 = .ok (.ireturn, 1) := dk_172 (dk_at dksX4_aheadY_0 18 rfl rfl)
abbrev cX4_seenFlies : ByteArray := prog_14_method_48_code
def yX4_seenFlies : MethodName := ⟨RX4, "seenFlies", "(II)I"⟩
def dkwX4_seenFlies_3 : List UInt8 := [96, 172]
abbrev dktX4_seenFlies_3 : List UInt8 := dkwX4_seenFlies_3 ++ []
def dkwX4_seenFlies_2 : List UInt8 := [28, 182, 0, 235, 96, 42, 27, 28, 4, 96, 182, 0, 235, 96, 42, 27, 4, 100, 28, 182, 0, 235, 96, 104]
abbrev dktX4_seenFlies_2 : List UInt8 := dkwX4_seenFlies_2 ++ dktX4_seenFlies_3
def dkwX4_seenFlies_1 : List UInt8 := [46, 16, 20, 42, 27, 28, 182, 0, 235, 104, 96, 8, 42, 27, 28, 4, 100, 182, 0, 235, 42, 27, 4, 96]
abbrev dktX4_seenFlies_1 : List UInt8 := dkwX4_seenFlies_1 ++ dktX4_seenFlies_2
def dkwX4_seenFlies_0 : List UInt8 := [42, 27, 28, 182, 0, 79, 154, 0, 5, 3, 172, 42, 180, 0, 7, 16, 20, 16, 10, 28, 104, 96, 27, 96]
abbrev dktX4_seenFlies_0 : List UInt8 := dkwX4_seenFlies_0 ++ dktX4_seenFlies_1
theorem dksX4_seenFlies_0 : cX4_seenFlies.data.toList.drop 0 = dktX4_seenFlies_0 := by decide +kernel
theorem dksX4_seenFlies_1 : cX4_seenFlies.data.toList.drop 24 = dktX4_seenFlies_1 := dk_seg dksX4_seenFlies_0 24 rfl rfl
theorem dksX4_seenFlies_2 : cX4_seenFlies.data.toList.drop 48 = dktX4_seenFlies_2 := dk_seg dksX4_seenFlies_1 24 rfl rfl
theorem dksX4_seenFlies_3 : cX4_seenFlies.data.toList.drop 72 = dktX4_seenFlies_3 := dk_seg dksX4_seenFlies_2 24 rfl rfl
theorem dX4_seenFlies_0 : decode cX4_seenFlies 0 = .ok (.aload_n 0, 1) := dk_42 (dk_at dksX4_seenFlies_0 0 rfl rfl)
theorem dX4_seenFlies_1 : decode cX4_seenFlies 1 = .ok (.iload_n 1, 1) := dk_27 (dk_at dksX4_seenFlies_0 1 rfl rfl)
theorem dX4_seenFlies_2 : decode cX4_seenFlies 2 = .ok (.iload_n 2, 1) := dk_28 (dk_at dksX4_seenFlies_0 2 rfl rfl)
theorem dX4_seenFlies_3 : decode cX4_seenFlies 3 = .ok (.invokevirtual 79, 3) := dk_182 0 79 (dk_at dksX4_seenFlies_0 3 rfl rfl)
theorem dX4_seenFlies_6 : decode cX4_seenFlies 6 = .ok (.ifCond .ne 5, 3) := dk_154 0 5 (dk_at dksX4_seenFlies_0 6 rfl rfl)
theorem dX4_seenFlies_9 : decode cX4_seenFlies 9 = .ok (.iconst 0, 1) := dk_3 (dk_at dksX4_seenFlies_0 9 rfl rfl)
theorem dX4_seenFlies_10 : decode cX4_seenFlies 10 = .ok (.ireturn, 1) := dk_172 (dk_at dksX4_seenFlies_0 10 rfl rfl)
theorem dX4_seenFlies_11 : decode cX4_seenFlies 11 = .ok (.aload_n 0, 1) := dk_42 (dk_at dksX4_seenFlies_0 11 rfl rfl)
theorem dX4_seenFlies_12 : decode cX4_seenFlies 12 = .ok (.getfield 7, 3) := dk_180 0 7 (dk_at dksX4_seenFlies_0 12 rfl rfl)
theorem dX4_seenFlies_15 : decode cX4_seenFlies 15 = .ok (.bipush 20, 2) := dk_16 20 (dk_at dksX4_seenFlies_0 15 rfl rfl)
theorem dX4_seenFlies_17 : decode cX4_seenFlies 17 = .ok (.bipush 10, 2) := dk_16 10 (dk_at dksX4_seenFlies_0 17 rfl rfl)
theorem dX4_seenFlies_19 : decode cX4_seenFlies 19 = .ok (.iload_n 2, 1) := dk_28 (dk_at dksX4_seenFlies_0 19 rfl rfl)
theorem dX4_seenFlies_20 : decode cX4_seenFlies 20 = .ok (.imul, 1) := dk_104 (dk_at dksX4_seenFlies_0 20 rfl rfl)
theorem dX4_seenFlies_21 : decode cX4_seenFlies 21 = .ok (.iadd, 1) := dk_96 (dk_at dksX4_seenFlies_0 21 rfl rfl)
theorem dX4_seenFlies_22 : decode cX4_seenFlies 22 = .ok (.iload_n 1, 1) := dk_27 (dk_at dksX4_seenFlies_0 22 rfl rfl)
theorem dX4_seenFlies_23 : decode cX4_seenFlies 23 = .ok (.iadd, 1) := dk_96 (dk_at dksX4_seenFlies_0 23 rfl rfl)
theorem dX4_seenFlies_24 : decode cX4_seenFlies 24 = .ok (.iaload, 1) := dk_46 (dk_at dksX4_seenFlies_1 0 rfl rfl)
theorem dX4_seenFlies_25 : decode cX4_seenFlies 25 = .ok (.bipush 20, 2) := dk_16 20 (dk_at dksX4_seenFlies_1 1 rfl rfl)
theorem dX4_seenFlies_27 : decode cX4_seenFlies 27 = .ok (.aload_n 0, 1) := dk_42 (dk_at dksX4_seenFlies_1 3 rfl rfl)
theorem dX4_seenFlies_28 : decode cX4_seenFlies 28 = .ok (.iload_n 1, 1) := dk_27 (dk_at dksX4_seenFlies_1 4 rfl rfl)
theorem dX4_seenFlies_29 : decode cX4_seenFlies 29 = .ok (.iload_n 2, 1) := dk_28 (dk_at dksX4_seenFlies_1 5 rfl rfl)
theorem dX4_seenFlies_30 : decode cX4_seenFlies 30 = .ok (.invokevirtual 235, 3) := dk_182 0 235 (dk_at dksX4_seenFlies_1 6 rfl rfl)
theorem dX4_seenFlies_33 : decode cX4_seenFlies 33 = .ok (.imul, 1) := dk_104 (dk_at dksX4_seenFlies_1 9 rfl rfl)
theorem dX4_seenFlies_34 : decode cX4_seenFlies 34 = .ok (.iadd, 1) := dk_96 (dk_at dksX4_seenFlies_1 10 rfl rfl)
theorem dX4_seenFlies_35 : decode cX4_seenFlies 35 = .ok (.iconst 5, 1) := dk_8 (dk_at dksX4_seenFlies_1 11 rfl rfl)
theorem dX4_seenFlies_36 : decode cX4_seenFlies 36 = .ok (.aload_n 0, 1) := dk_42 (dk_at dksX4_seenFlies_1 12 rfl rfl)
theorem dX4_seenFlies_37 : decode cX4_seenFlies 37 = .ok (.iload_n 1, 1) := dk_27 (dk_at dksX4_seenFlies_1 13 rfl rfl)
theorem dX4_seenFlies_38 : decode cX4_seenFlies 38 = .ok (.iload_n 2, 1) := dk_28 (dk_at dksX4_seenFlies_1 14 rfl rfl)
theorem dX4_seenFlies_39 : decode cX4_seenFlies 39 = .ok (.iconst 1, 1) := dk_4 (dk_at dksX4_seenFlies_1 15 rfl rfl)
theorem dX4_seenFlies_40 : decode cX4_seenFlies 40 = .ok (.isub, 1) := dk_100 (dk_at dksX4_seenFlies_1 16 rfl rfl)
theorem dX4_seenFlies_41 : decode cX4_seenFlies 41 = .ok (.invokevirtual 235, 3) := dk_182 0 235 (dk_at dksX4_seenFlies_1 17 rfl rfl)
theorem dX4_seenFlies_44 : decode cX4_seenFlies 44 = .ok (.aload_n 0, 1) := dk_42 (dk_at dksX4_seenFlies_1 20 rfl rfl)
theorem dX4_seenFlies_45 : decode cX4_seenFlies 45 = .ok (.iload_n 1, 1) := dk_27 (dk_at dksX4_seenFlies_1 21 rfl rfl)
theorem dX4_seenFlies_46 : decode cX4_seenFlies 46 = .ok (.iconst 1, 1) := dk_4 (dk_at dksX4_seenFlies_1 22 rfl rfl)
theorem dX4_seenFlies_47 : decode cX4_seenFlies 47 = .ok (.iadd, 1) := dk_96 (dk_at dksX4_seenFlies_1 23 rfl rfl)
theorem dX4_seenFlies_48 : decode cX4_seenFlies 48 = .ok (.iload_n 2, 1) := dk_28 (dk_at dksX4_seenFlies_2 0 rfl rfl)
theorem dX4_seenFlies_49 : decode cX4_seenFlies 49 = .ok (.invokevirtual 235, 3) := dk_182 0 235 (dk_at dksX4_seenFlies_2 1 rfl rfl)
theorem dX4_seenFlies_52 : decode cX4_seenFlies 52 = .ok (.iadd, 1) := dk_96 (dk_at dksX4_seenFlies_2 4 rfl rfl)
theorem dX4_seenFlies_53 : decode cX4_seenFlies 53 = .ok (.aload_n 0, 1) := dk_42 (dk_at dksX4_seenFlies_2 5 rfl rfl)
theorem dX4_seenFlies_54 : decode cX4_seenFlies 54 = .ok (.iload_n 1, 1) := dk_27 (dk_at dksX4_seenFlies_2 6 rfl rfl)
theorem dX4_seenFlies_55 : decode cX4_seenFlies 55 = .ok (.iload_n 2, 1) := dk_28 (dk_at dksX4_seenFlies_2 7 rfl rfl)
theorem dX4_seenFlies_56 : decode cX4_seenFlies 56 = .ok (.iconst 1, 1) := dk_4 (dk_at dksX4_seenFlies_2 8 rfl rfl)
theorem dX4_seenFlies_57 : decode cX4_seenFlies 57 = .ok (.iadd, 1) := dk_96 (dk_at dksX4_seenFlies_2 9 rfl rfl)
theorem dX4_seenFlies_58 : decode cX4_seenFlies 58 = .ok (.invokevirtual 235, 3) := dk_182 0 235 (dk_at dksX4_seenFlies_2 10 rfl rfl)
theorem dX4_seenFlies_61 : decode cX4_seenFlies 61 = .ok (.iadd, 1) := dk_96 (dk_at dksX4_seenFlies_2 13 rfl rfl)
theorem dX4_seenFlies_62 : decode cX4_seenFlies 62 = .ok (.aload_n 0, 1) := dk_42 (dk_at dksX4_seenFlies_2 14 rfl rfl)
theorem dX4_seenFlies_63 : decode cX4_seenFlies 63 = .ok (.iload_n 1, 1) := dk_27 (dk_at dksX4_seenFlies_2 15 rfl rfl)
theorem dX4_seenFlies_64 : decode cX4_seenFlies 64 = .ok (.iconst 1, 1) := dk_4 (dk_at dksX4_seenFlies_2 16 rfl rfl)
theorem dX4_seenFlies_65 : decode cX4_seenFlies 65 = .ok (.isub, 1) := dk_100 (dk_at dksX4_seenFlies_2 17 rfl rfl)
theorem dX4_seenFlies_66 : decode cX4_seenFlies 66 = .ok (.iload_n 2, 1) := dk_28 (dk_at dksX4_seenFlies_2 18 rfl rfl)
theorem dX4_seenFlies_67 : decode cX4_seenFlies 67 = .ok (.invokevirtual 235, 3) := dk_182 0 235 (dk_at dksX4_seenFlies_2 19 rfl rfl)
theorem dX4_seenFlies_70 : decode cX4_seenFlies 70 = .ok (.iadd, 1) := dk_96 (dk_at dksX4_seenFlies_2 22 rfl rfl)
theorem dX4_seenFlies_71 : decode cX4_seenFlies 71 = .ok (.imul, 1) := dk_104 (dk_at dksX4_seenFlies_2 23 rfl rfl)
theorem dX4_seenFlies_72 : decode cX4_seenFlies 72 = .ok (.iadd, 1) := dk_96 (dk_at dksX4_seenFlies_3 0 rfl rfl)
theorem dX4_seenFlies_73 : decode cX4_seenFlies 73 = .ok (.ireturn, 1) := dk_172 (dk_at dksX4_seenFlies_3 1 rfl rfl)
abbrev cX4_pondAt : ByteArray := prog_14_method_47_code
def yX4_pondAt : MethodName := ⟨RX4, "pondAt", "(II)I"⟩
def dkwX4_pondAt_1 : List UInt8 := [167, 0, 4, 3, 172]
abbrev dktX4_pondAt_1 : List UInt8 := dkwX4_pondAt_1 ++ []
def dkwX4_pondAt_0 : List UInt8 := [42, 27, 28, 182, 0, 79, 153, 0, 20, 42, 180, 0, 7, 16, 120, 16, 10, 28, 104, 96, 27, 96, 46]
abbrev dktX4_pondAt_0 : List UInt8 := dkwX4_pondAt_0 ++ dktX4_pondAt_1
theorem dksX4_pondAt_0 : cX4_pondAt.data.toList.drop 0 = dktX4_pondAt_0 := by decide +kernel
theorem dksX4_pondAt_1 : cX4_pondAt.data.toList.drop 23 = dktX4_pondAt_1 := dk_seg dksX4_pondAt_0 23 rfl rfl
theorem dX4_pondAt_0 : decode cX4_pondAt 0 = .ok (.aload_n 0, 1) := dk_42 (dk_at dksX4_pondAt_0 0 rfl rfl)
theorem dX4_pondAt_1 : decode cX4_pondAt 1 = .ok (.iload_n 1, 1) := dk_27 (dk_at dksX4_pondAt_0 1 rfl rfl)
theorem dX4_pondAt_2 : decode cX4_pondAt 2 = .ok (.iload_n 2, 1) := dk_28 (dk_at dksX4_pondAt_0 2 rfl rfl)
theorem dX4_pondAt_3 : decode cX4_pondAt 3 = .ok (.invokevirtual 79, 3) := dk_182 0 79 (dk_at dksX4_pondAt_0 3 rfl rfl)
theorem dX4_pondAt_6 : decode cX4_pondAt 6 = .ok (.ifCond .eq 20, 3) := dk_153 0 20 (dk_at dksX4_pondAt_0 6 rfl rfl)
theorem dX4_pondAt_9 : decode cX4_pondAt 9 = .ok (.aload_n 0, 1) := dk_42 (dk_at dksX4_pondAt_0 9 rfl rfl)
theorem dX4_pondAt_10 : decode cX4_pondAt 10 = .ok (.getfield 7, 3) := dk_180 0 7 (dk_at dksX4_pondAt_0 10 rfl rfl)
theorem dX4_pondAt_13 : decode cX4_pondAt 13 = .ok (.bipush 120, 2) := dk_16 120 (dk_at dksX4_pondAt_0 13 rfl rfl)
theorem dX4_pondAt_15 : decode cX4_pondAt 15 = .ok (.bipush 10, 2) := dk_16 10 (dk_at dksX4_pondAt_0 15 rfl rfl)
theorem dX4_pondAt_17 : decode cX4_pondAt 17 = .ok (.iload_n 2, 1) := dk_28 (dk_at dksX4_pondAt_0 17 rfl rfl)
theorem dX4_pondAt_18 : decode cX4_pondAt 18 = .ok (.imul, 1) := dk_104 (dk_at dksX4_pondAt_0 18 rfl rfl)
theorem dX4_pondAt_19 : decode cX4_pondAt 19 = .ok (.iadd, 1) := dk_96 (dk_at dksX4_pondAt_0 19 rfl rfl)
theorem dX4_pondAt_20 : decode cX4_pondAt 20 = .ok (.iload_n 1, 1) := dk_27 (dk_at dksX4_pondAt_0 20 rfl rfl)
theorem dX4_pondAt_21 : decode cX4_pondAt 21 = .ok (.iadd, 1) := dk_96 (dk_at dksX4_pondAt_0 21 rfl rfl)
theorem dX4_pondAt_22 : decode cX4_pondAt 22 = .ok (.iaload, 1) := dk_46 (dk_at dksX4_pondAt_0 22 rfl rfl)
theorem dX4_pondAt_23 : decode cX4_pondAt 23 = .ok (.goto 4, 3) := dk_167 0 4 (dk_at dksX4_pondAt_1 0 rfl rfl)
theorem dX4_pondAt_26 : decode cX4_pondAt 26 = .ok (.iconst 0, 1) := dk_3 (dk_at dksX4_pondAt_1 3 rfl rfl)
theorem dX4_pondAt_27 : decode cX4_pondAt 27 = .ok (.ireturn, 1) := dk_172 (dk_at dksX4_pondAt_1 4 rfl rfl)
abbrev cX4_yardBy : ByteArray := prog_14_method_46_code
def yX4_yardBy : MethodName := ⟨RX4, "yardBy", "(III)I"⟩
def dkwX4_yardBy_2 : List UInt8 := [172]
abbrev dktX4_yardBy_2 : List UInt8 := dkwX4_yardBy_2 ++ []
def dkwX4_yardBy_1 : List UInt8 := [54, 4, 5, 16, 11, 21, 4, 104, 29, 96, 104, 28, 5, 112, 4, 160, 0, 7, 3, 167, 0, 4, 4, 96]
abbrev dktX4_yardBy_1 : List UInt8 := dkwX4_yardBy_1 ++ dktX4_yardBy_2
def dkwX4_yardBy_0 : List UInt8 := [28, 6, 160, 0, 9, 26, 4, 100, 167, 0, 4, 26, 62, 28, 154, 0, 9, 27, 4, 100, 167, 0, 4, 27]
abbrev dktX4_yardBy_0 : List UInt8 := dkwX4_yardBy_0 ++ dktX4_yardBy_1
theorem dksX4_yardBy_0 : cX4_yardBy.data.toList.drop 0 = dktX4_yardBy_0 := by decide +kernel
theorem dksX4_yardBy_1 : cX4_yardBy.data.toList.drop 24 = dktX4_yardBy_1 := dk_seg dksX4_yardBy_0 24 rfl rfl
theorem dksX4_yardBy_2 : cX4_yardBy.data.toList.drop 48 = dktX4_yardBy_2 := dk_seg dksX4_yardBy_1 24 rfl rfl
theorem dX4_yardBy_0 : decode cX4_yardBy 0 = .ok (.iload_n 2, 1) := dk_28 (dk_at dksX4_yardBy_0 0 rfl rfl)
theorem dX4_yardBy_1 : decode cX4_yardBy 1 = .ok (.iconst 3, 1) := dk_6 (dk_at dksX4_yardBy_0 1 rfl rfl)
theorem dX4_yardBy_2 : decode cX4_yardBy 2 = .ok (.if_icmp .ne 9, 3) := dk_160 0 9 (dk_at dksX4_yardBy_0 2 rfl rfl)
theorem dX4_yardBy_5 : decode cX4_yardBy 5 = .ok (.iload_n 0, 1) := dk_26 (dk_at dksX4_yardBy_0 5 rfl rfl)
theorem dX4_yardBy_6 : decode cX4_yardBy 6 = .ok (.iconst 1, 1) := dk_4 (dk_at dksX4_yardBy_0 6 rfl rfl)
theorem dX4_yardBy_7 : decode cX4_yardBy 7 = .ok (.isub, 1) := dk_100 (dk_at dksX4_yardBy_0 7 rfl rfl)
theorem dX4_yardBy_8 : decode cX4_yardBy 8 = .ok (.goto 4, 3) := dk_167 0 4 (dk_at dksX4_yardBy_0 8 rfl rfl)
theorem dX4_yardBy_11 : decode cX4_yardBy 11 = .ok (.iload_n 0, 1) := dk_26 (dk_at dksX4_yardBy_0 11 rfl rfl)
theorem dX4_yardBy_12 : decode cX4_yardBy 12 = .ok (.istore_n 3, 1) := dk_62 (dk_at dksX4_yardBy_0 12 rfl rfl)
theorem dX4_yardBy_13 : decode cX4_yardBy 13 = .ok (.iload_n 2, 1) := dk_28 (dk_at dksX4_yardBy_0 13 rfl rfl)
theorem dX4_yardBy_14 : decode cX4_yardBy 14 = .ok (.ifCond .ne 9, 3) := dk_154 0 9 (dk_at dksX4_yardBy_0 14 rfl rfl)
theorem dX4_yardBy_17 : decode cX4_yardBy 17 = .ok (.iload_n 1, 1) := dk_27 (dk_at dksX4_yardBy_0 17 rfl rfl)
theorem dX4_yardBy_18 : decode cX4_yardBy 18 = .ok (.iconst 1, 1) := dk_4 (dk_at dksX4_yardBy_0 18 rfl rfl)
theorem dX4_yardBy_19 : decode cX4_yardBy 19 = .ok (.isub, 1) := dk_100 (dk_at dksX4_yardBy_0 19 rfl rfl)
theorem dX4_yardBy_20 : decode cX4_yardBy 20 = .ok (.goto 4, 3) := dk_167 0 4 (dk_at dksX4_yardBy_0 20 rfl rfl)
theorem dX4_yardBy_23 : decode cX4_yardBy 23 = .ok (.iload_n 1, 1) := dk_27 (dk_at dksX4_yardBy_0 23 rfl rfl)
theorem dX4_yardBy_24 : decode cX4_yardBy 24 = .ok (.istore 4, 2) := dk_54 4 (dk_at dksX4_yardBy_1 0 rfl rfl)
theorem dX4_yardBy_26 : decode cX4_yardBy 26 = .ok (.iconst 2, 1) := dk_5 (dk_at dksX4_yardBy_1 2 rfl rfl)
theorem dX4_yardBy_27 : decode cX4_yardBy 27 = .ok (.bipush 11, 2) := dk_16 11 (dk_at dksX4_yardBy_1 3 rfl rfl)
theorem dX4_yardBy_29 : decode cX4_yardBy 29 = .ok (.iload 4, 2) := dk_21 4 (dk_at dksX4_yardBy_1 5 rfl rfl)
theorem dX4_yardBy_31 : decode cX4_yardBy 31 = .ok (.imul, 1) := dk_104 (dk_at dksX4_yardBy_1 7 rfl rfl)
theorem dX4_yardBy_32 : decode cX4_yardBy 32 = .ok (.iload_n 3, 1) := dk_29 (dk_at dksX4_yardBy_1 8 rfl rfl)
theorem dX4_yardBy_33 : decode cX4_yardBy 33 = .ok (.iadd, 1) := dk_96 (dk_at dksX4_yardBy_1 9 rfl rfl)
theorem dX4_yardBy_34 : decode cX4_yardBy 34 = .ok (.imul, 1) := dk_104 (dk_at dksX4_yardBy_1 10 rfl rfl)
theorem dX4_yardBy_35 : decode cX4_yardBy 35 = .ok (.iload_n 2, 1) := dk_28 (dk_at dksX4_yardBy_1 11 rfl rfl)
theorem dX4_yardBy_36 : decode cX4_yardBy 36 = .ok (.iconst 2, 1) := dk_5 (dk_at dksX4_yardBy_1 12 rfl rfl)
theorem dX4_yardBy_37 : decode cX4_yardBy 37 = .ok (.irem, 1) := dk_112 (dk_at dksX4_yardBy_1 13 rfl rfl)
theorem dX4_yardBy_38 : decode cX4_yardBy 38 = .ok (.iconst 1, 1) := dk_4 (dk_at dksX4_yardBy_1 14 rfl rfl)
theorem dX4_yardBy_39 : decode cX4_yardBy 39 = .ok (.if_icmp .ne 7, 3) := dk_160 0 7 (dk_at dksX4_yardBy_1 15 rfl rfl)
theorem dX4_yardBy_42 : decode cX4_yardBy 42 = .ok (.iconst 0, 1) := dk_3 (dk_at dksX4_yardBy_1 18 rfl rfl)
theorem dX4_yardBy_43 : decode cX4_yardBy 43 = .ok (.goto 4, 3) := dk_167 0 4 (dk_at dksX4_yardBy_1 19 rfl rfl)
theorem dX4_yardBy_46 : decode cX4_yardBy 46 = .ok (.iconst 1, 1) := dk_4 (dk_at dksX4_yardBy_1 22 rfl rfl)
theorem dX4_yardBy_47 : decode cX4_yardBy 47 = .ok (.iadd, 1) := dk_96 (dk_at dksX4_yardBy_1 23 rfl rfl)
theorem dX4_yardBy_48 : decode cX4_yardBy 48 = .ok (.ireturn, 1) := dk_172 (dk_at dksX4_yardBy_2 0 rfl rfl)
abbrev cX4_told : ByteArray := prog_14_method_50_code
def yX4_told : MethodName := ⟨RX4, "told", "(I)I"⟩
def dkwX4_told_3 : List UInt8 := [160, 0, 14, 42, 180, 0, 7, 17, 7, 198, 29, 96, 46, 172, 132, 2, 1, 167, 255, 169, 3, 172]
abbrev dktX4_told_3 : List UInt8 := dkwX4_told_3 ++ []
def dkwX4_told_2 : List UInt8 := [42, 180, 0, 7, 17, 8, 12, 29, 96, 46, 42, 180, 0, 7, 17, 8, 82, 29, 96, 46, 182, 0, 251, 4]
abbrev dktX4_told_2 : List UInt8 := dkwX4_told_2 ++ dktX4_told_3
def dkwX4_told_1 : List UInt8 := [180, 0, 7, 17, 8, 82, 29, 96, 46, 42, 180, 0, 7, 17, 8, 12, 29, 96, 46, 159, 0, 32, 42, 27]
abbrev dktX4_told_1 : List UInt8 := dkwX4_told_1 ++ dktX4_told_2
def dkwX4_told_0 : List UInt8 := [3, 61, 28, 42, 180, 0, 7, 17, 7, 193, 27, 96, 46, 162, 0, 79, 16, 16, 27, 104, 28, 96, 62, 42]
abbrev dktX4_told_0 : List UInt8 := dkwX4_told_0 ++ dktX4_told_1
theorem dksX4_told_0 : cX4_told.data.toList.drop 0 = dktX4_told_0 := by decide +kernel
theorem dksX4_told_1 : cX4_told.data.toList.drop 24 = dktX4_told_1 := dk_seg dksX4_told_0 24 rfl rfl
theorem dksX4_told_2 : cX4_told.data.toList.drop 48 = dktX4_told_2 := dk_seg dksX4_told_1 24 rfl rfl
theorem dksX4_told_3 : cX4_told.data.toList.drop 72 = dktX4_told_3 := dk_seg dksX4_told_2 24 rfl rfl
theorem dX4_told_0 : decode cX4_told 0 = .ok (.iconst 0, 1) := dk_3 (dk_at dksX4_told_0 0 rfl rfl)
theorem dX4_told_1 : decode cX4_told 1 = .ok (.istore_n 2, 1) := dk_61 (dk_at dksX4_told_0 1 rfl rfl)
theorem dX4_told_2 : decode cX4_told 2 = .ok (.iload_n 2, 1) := dk_28 (dk_at dksX4_told_0 2 rfl rfl)
theorem dX4_told_3 : decode cX4_told 3 = .ok (.aload_n 0, 1) := dk_42 (dk_at dksX4_told_0 3 rfl rfl)
theorem dX4_told_4 : decode cX4_told 4 = .ok (.getfield 7, 3) := dk_180 0 7 (dk_at dksX4_told_0 4 rfl rfl)
theorem dX4_told_7 : decode cX4_told 7 = .ok (.sipush 1985, 3) := dk_17 7 193 (dk_at dksX4_told_0 7 rfl rfl)
theorem dX4_told_10 : decode cX4_told 10 = .ok (.iload_n 1, 1) := dk_27 (dk_at dksX4_told_0 10 rfl rfl)
theorem dX4_told_11 : decode cX4_told 11 = .ok (.iadd, 1) := dk_96 (dk_at dksX4_told_0 11 rfl rfl)
theorem dX4_told_12 : decode cX4_told 12 = .ok (.iaload, 1) := dk_46 (dk_at dksX4_told_0 12 rfl rfl)
theorem dX4_told_13 : decode cX4_told 13 = .ok (.if_icmp .ge 79, 3) := dk_162 0 79 (dk_at dksX4_told_0 13 rfl rfl)
theorem dX4_told_16 : decode cX4_told 16 = .ok (.bipush 16, 2) := dk_16 16 (dk_at dksX4_told_0 16 rfl rfl)
theorem dX4_told_18 : decode cX4_told 18 = .ok (.iload_n 1, 1) := dk_27 (dk_at dksX4_told_0 18 rfl rfl)
theorem dX4_told_19 : decode cX4_told 19 = .ok (.imul, 1) := dk_104 (dk_at dksX4_told_0 19 rfl rfl)
theorem dX4_told_20 : decode cX4_told 20 = .ok (.iload_n 2, 1) := dk_28 (dk_at dksX4_told_0 20 rfl rfl)
theorem dX4_told_21 : decode cX4_told 21 = .ok (.iadd, 1) := dk_96 (dk_at dksX4_told_0 21 rfl rfl)
theorem dX4_told_22 : decode cX4_told 22 = .ok (.istore_n 3, 1) := dk_62 (dk_at dksX4_told_0 22 rfl rfl)
theorem dX4_told_23 : decode cX4_told 23 = .ok (.aload_n 0, 1) := dk_42 (dk_at dksX4_told_0 23 rfl rfl)
theorem dX4_told_24 : decode cX4_told 24 = .ok (.getfield 7, 3) := dk_180 0 7 (dk_at dksX4_told_1 0 rfl rfl)
theorem dX4_told_27 : decode cX4_told 27 = .ok (.sipush 2130, 3) := dk_17 8 82 (dk_at dksX4_told_1 3 rfl rfl)
theorem dX4_told_30 : decode cX4_told 30 = .ok (.iload_n 3, 1) := dk_29 (dk_at dksX4_told_1 6 rfl rfl)
theorem dX4_told_31 : decode cX4_told 31 = .ok (.iadd, 1) := dk_96 (dk_at dksX4_told_1 7 rfl rfl)
theorem dX4_told_32 : decode cX4_told 32 = .ok (.iaload, 1) := dk_46 (dk_at dksX4_told_1 8 rfl rfl)
theorem dX4_told_33 : decode cX4_told 33 = .ok (.aload_n 0, 1) := dk_42 (dk_at dksX4_told_1 9 rfl rfl)
theorem dX4_told_34 : decode cX4_told 34 = .ok (.getfield 7, 3) := dk_180 0 7 (dk_at dksX4_told_1 10 rfl rfl)
theorem dX4_told_37 : decode cX4_told 37 = .ok (.sipush 2060, 3) := dk_17 8 12 (dk_at dksX4_told_1 13 rfl rfl)
theorem dX4_told_40 : decode cX4_told 40 = .ok (.iload_n 3, 1) := dk_29 (dk_at dksX4_told_1 16 rfl rfl)
theorem dX4_told_41 : decode cX4_told 41 = .ok (.iadd, 1) := dk_96 (dk_at dksX4_told_1 17 rfl rfl)
theorem dX4_told_42 : decode cX4_told 42 = .ok (.iaload, 1) := dk_46 (dk_at dksX4_told_1 18 rfl rfl)
theorem dX4_told_43 : decode cX4_told 43 = .ok (.if_icmp .eq 32, 3) := dk_159 0 32 (dk_at dksX4_told_1 19 rfl rfl)
theorem dX4_told_46 : decode cX4_told 46 = .ok (.aload_n 0, 1) := dk_42 (dk_at dksX4_told_1 22 rfl rfl)
theorem dX4_told_47 : decode cX4_told 47 = .ok (.iload_n 1, 1) := dk_27 (dk_at dksX4_told_1 23 rfl rfl)
theorem dX4_told_48 : decode cX4_told 48 = .ok (.aload_n 0, 1) := dk_42 (dk_at dksX4_told_2 0 rfl rfl)
theorem dX4_told_49 : decode cX4_told 49 = .ok (.getfield 7, 3) := dk_180 0 7 (dk_at dksX4_told_2 1 rfl rfl)
theorem dX4_told_52 : decode cX4_told 52 = .ok (.sipush 2060, 3) := dk_17 8 12 (dk_at dksX4_told_2 4 rfl rfl)
theorem dX4_told_55 : decode cX4_told 55 = .ok (.iload_n 3, 1) := dk_29 (dk_at dksX4_told_2 7 rfl rfl)
theorem dX4_told_56 : decode cX4_told 56 = .ok (.iadd, 1) := dk_96 (dk_at dksX4_told_2 8 rfl rfl)
theorem dX4_told_57 : decode cX4_told 57 = .ok (.iaload, 1) := dk_46 (dk_at dksX4_told_2 9 rfl rfl)
theorem dX4_told_58 : decode cX4_told 58 = .ok (.aload_n 0, 1) := dk_42 (dk_at dksX4_told_2 10 rfl rfl)
theorem dX4_told_59 : decode cX4_told 59 = .ok (.getfield 7, 3) := dk_180 0 7 (dk_at dksX4_told_2 11 rfl rfl)
theorem dX4_told_62 : decode cX4_told 62 = .ok (.sipush 2130, 3) := dk_17 8 82 (dk_at dksX4_told_2 14 rfl rfl)
theorem dX4_told_65 : decode cX4_told 65 = .ok (.iload_n 3, 1) := dk_29 (dk_at dksX4_told_2 17 rfl rfl)
theorem dX4_told_66 : decode cX4_told 66 = .ok (.iadd, 1) := dk_96 (dk_at dksX4_told_2 18 rfl rfl)
theorem dX4_told_67 : decode cX4_told 67 = .ok (.iaload, 1) := dk_46 (dk_at dksX4_told_2 19 rfl rfl)
theorem dX4_told_68 : decode cX4_told 68 = .ok (.invokevirtual 251, 3) := dk_182 0 251 (dk_at dksX4_told_2 20 rfl rfl)
theorem dX4_told_71 : decode cX4_told 71 = .ok (.iconst 1, 1) := dk_4 (dk_at dksX4_told_2 23 rfl rfl)
theorem dX4_told_72 : decode cX4_told 72 = .ok (.if_icmp .ne 14, 3) := dk_160 0 14 (dk_at dksX4_told_3 0 rfl rfl)
theorem dX4_told_75 : decode cX4_told 75 = .ok (.aload_n 0, 1) := dk_42 (dk_at dksX4_told_3 3 rfl rfl)
theorem dX4_told_76 : decode cX4_told 76 = .ok (.getfield 7, 3) := dk_180 0 7 (dk_at dksX4_told_3 4 rfl rfl)
theorem dX4_told_79 : decode cX4_told 79 = .ok (.sipush 1990, 3) := dk_17 7 198 (dk_at dksX4_told_3 7 rfl rfl)
theorem dX4_told_82 : decode cX4_told 82 = .ok (.iload_n 3, 1) := dk_29 (dk_at dksX4_told_3 10 rfl rfl)
theorem dX4_told_83 : decode cX4_told 83 = .ok (.iadd, 1) := dk_96 (dk_at dksX4_told_3 11 rfl rfl)
theorem dX4_told_84 : decode cX4_told 84 = .ok (.iaload, 1) := dk_46 (dk_at dksX4_told_3 12 rfl rfl)
theorem dX4_told_85 : decode cX4_told 85 = .ok (.ireturn, 1) := dk_172 (dk_at dksX4_told_3 13 rfl rfl)
theorem dX4_told_86 : decode cX4_told 86 = .ok (.iinc 2 1, 3) := dk_132 2 1 (dk_at dksX4_told_3 14 rfl rfl)
theorem dX4_told_89 : decode cX4_told 89 = .ok (.goto (-87), 3) := dk_167 255 169 (dk_at dksX4_told_3 17 rfl rfl)
theorem dX4_told_92 : decode cX4_told 92 = .ok (.iconst 0, 1) := dk_3 (dk_at dksX4_told_3 20 rfl rfl)
theorem dX4_told_93 : decode cX4_told 93 = .ok (.ireturn, 1) := dk_172 (dk_at dksX4_told_3 21 rfl rfl)
abbrev cX4_comesTo : ByteArray := prog_14_method_43_code
def yX4_comesTo : MethodName := ⟨RX4, "comesTo", "(III)I"⟩
def dkwX4_comesTo_8 : List UInt8 := [46, 172]
abbrev dktX4_comesTo_8 : List UInt8 := dkwX4_comesTo_8 ++ []
def dkwX4_comesTo_7 : List UInt8 := [100, 46, 42, 180, 0, 31, 21, 4, 46, 184, 0, 231, 79, 132, 5, 1, 167, 255, 79, 42, 180, 0, 31, 3]
abbrev dktX4_comesTo_7 : List UInt8 := dkwX4_comesTo_7 ++ dktX4_comesTo_8
def dkwX4_comesTo_6 : List UInt8 := [79, 167, 0, 36, 132, 4, 255, 42, 180, 0, 31, 21, 4, 4, 100, 21, 6, 42, 180, 0, 31, 21, 4, 4]
abbrev dktX4_comesTo_6 : List UInt8 := dkwX4_comesTo_6 ++ dktX4_comesTo_7
def dkwX4_comesTo_5 : List UInt8 := [16, 20, 160, 0, 26, 42, 180, 0, 31, 21, 4, 4, 100, 4, 42, 180, 0, 31, 21, 4, 4, 100, 46, 100]
abbrev dktX4_comesTo_5 : List UInt8 := dkwX4_comesTo_5 ++ dktX4_comesTo_6
def dkwX4_comesTo_4 : List UInt8 := [16, 16, 160, 0, 20, 42, 180, 0, 31, 21, 4, 4, 100, 92, 46, 21, 7, 108, 79, 167, 0, 66, 21, 6]
abbrev dktX4_comesTo_4 : List UInt8 := dkwX4_comesTo_4 ++ dktX4_comesTo_5
def dkwX4_comesTo_3 : List UInt8 := [154, 0, 8, 21, 7, 167, 0, 10, 42, 180, 0, 34, 21, 6, 46, 79, 132, 4, 1, 167, 0, 90, 21, 6]
abbrev dktX4_comesTo_3 : List UInt8 := dkwX4_comesTo_3 ++ dktX4_comesTo_4
def dkwX4_comesTo_2 : List UInt8 := [21, 5, 104, 96, 4, 96, 46, 54, 7, 21, 6, 16, 13, 162, 0, 33, 42, 180, 0, 31, 21, 4, 21, 6]
abbrev dktX4_comesTo_2 : List UInt8 := dkwX4_comesTo_2 ++ dktX4_comesTo_3
def dkwX4_comesTo_1 : List UInt8 := [96, 5, 21, 5, 104, 96, 46, 54, 6, 42, 180, 0, 7, 17, 8, 152, 17, 3, 52, 27, 104, 96, 5]
abbrev dktX4_comesTo_1 : List UInt8 := dkwX4_comesTo_1 ++ dktX4_comesTo_2
def dkwX4_comesTo_0 : List UInt8 := [3, 54, 4, 28, 54, 5, 21, 5, 29, 162, 0, 177, 42, 180, 0, 7, 17, 8, 152, 17, 3, 52, 27, 104]
abbrev dktX4_comesTo_0 : List UInt8 := dkwX4_comesTo_0 ++ dktX4_comesTo_1
theorem dksX4_comesTo_0 : cX4_comesTo.data.toList.drop 0 = dktX4_comesTo_0 := by decide +kernel
theorem dksX4_comesTo_1 : cX4_comesTo.data.toList.drop 24 = dktX4_comesTo_1 := dk_seg dksX4_comesTo_0 24 rfl rfl
theorem dksX4_comesTo_2 : cX4_comesTo.data.toList.drop 47 = dktX4_comesTo_2 := dk_seg dksX4_comesTo_1 23 rfl rfl
theorem dksX4_comesTo_3 : cX4_comesTo.data.toList.drop 71 = dktX4_comesTo_3 := dk_seg dksX4_comesTo_2 24 rfl rfl
theorem dksX4_comesTo_4 : cX4_comesTo.data.toList.drop 95 = dktX4_comesTo_4 := dk_seg dksX4_comesTo_3 24 rfl rfl
theorem dksX4_comesTo_5 : cX4_comesTo.data.toList.drop 119 = dktX4_comesTo_5 := dk_seg dksX4_comesTo_4 24 rfl rfl
theorem dksX4_comesTo_6 : cX4_comesTo.data.toList.drop 143 = dktX4_comesTo_6 := dk_seg dksX4_comesTo_5 24 rfl rfl
theorem dksX4_comesTo_7 : cX4_comesTo.data.toList.drop 167 = dktX4_comesTo_7 := dk_seg dksX4_comesTo_6 24 rfl rfl
theorem dksX4_comesTo_8 : cX4_comesTo.data.toList.drop 191 = dktX4_comesTo_8 := dk_seg dksX4_comesTo_7 24 rfl rfl
theorem dX4_comesTo_0 : decode cX4_comesTo 0 = .ok (.iconst 0, 1) := dk_3 (dk_at dksX4_comesTo_0 0 rfl rfl)
theorem dX4_comesTo_1 : decode cX4_comesTo 1 = .ok (.istore 4, 2) := dk_54 4 (dk_at dksX4_comesTo_0 1 rfl rfl)
theorem dX4_comesTo_3 : decode cX4_comesTo 3 = .ok (.iload_n 2, 1) := dk_28 (dk_at dksX4_comesTo_0 3 rfl rfl)
theorem dX4_comesTo_4 : decode cX4_comesTo 4 = .ok (.istore 5, 2) := dk_54 5 (dk_at dksX4_comesTo_0 4 rfl rfl)
theorem dX4_comesTo_6 : decode cX4_comesTo 6 = .ok (.iload 5, 2) := dk_21 5 (dk_at dksX4_comesTo_0 6 rfl rfl)
theorem dX4_comesTo_8 : decode cX4_comesTo 8 = .ok (.iload_n 3, 1) := dk_29 (dk_at dksX4_comesTo_0 8 rfl rfl)
theorem dX4_comesTo_9 : decode cX4_comesTo 9 = .ok (.if_icmp .ge 177, 3) := dk_162 0 177 (dk_at dksX4_comesTo_0 9 rfl rfl)
theorem dX4_comesTo_12 : decode cX4_comesTo 12 = .ok (.aload_n 0, 1) := dk_42 (dk_at dksX4_comesTo_0 12 rfl rfl)
theorem dX4_comesTo_13 : decode cX4_comesTo 13 = .ok (.getfield 7, 3) := dk_180 0 7 (dk_at dksX4_comesTo_0 13 rfl rfl)
theorem dX4_comesTo_16 : decode cX4_comesTo 16 = .ok (.sipush 2200, 3) := dk_17 8 152 (dk_at dksX4_comesTo_0 16 rfl rfl)
theorem dX4_comesTo_19 : decode cX4_comesTo 19 = .ok (.sipush 820, 3) := dk_17 3 52 (dk_at dksX4_comesTo_0 19 rfl rfl)
theorem dX4_comesTo_22 : decode cX4_comesTo 22 = .ok (.iload_n 1, 1) := dk_27 (dk_at dksX4_comesTo_0 22 rfl rfl)
theorem dX4_comesTo_23 : decode cX4_comesTo 23 = .ok (.imul, 1) := dk_104 (dk_at dksX4_comesTo_0 23 rfl rfl)
theorem dX4_comesTo_24 : decode cX4_comesTo 24 = .ok (.iadd, 1) := dk_96 (dk_at dksX4_comesTo_1 0 rfl rfl)
theorem dX4_comesTo_25 : decode cX4_comesTo 25 = .ok (.iconst 2, 1) := dk_5 (dk_at dksX4_comesTo_1 1 rfl rfl)
theorem dX4_comesTo_26 : decode cX4_comesTo 26 = .ok (.iload 5, 2) := dk_21 5 (dk_at dksX4_comesTo_1 2 rfl rfl)
theorem dX4_comesTo_28 : decode cX4_comesTo 28 = .ok (.imul, 1) := dk_104 (dk_at dksX4_comesTo_1 4 rfl rfl)
theorem dX4_comesTo_29 : decode cX4_comesTo 29 = .ok (.iadd, 1) := dk_96 (dk_at dksX4_comesTo_1 5 rfl rfl)
theorem dX4_comesTo_30 : decode cX4_comesTo 30 = .ok (.iaload, 1) := dk_46 (dk_at dksX4_comesTo_1 6 rfl rfl)
theorem dX4_comesTo_31 : decode cX4_comesTo 31 = .ok (.istore 6, 2) := dk_54 6 (dk_at dksX4_comesTo_1 7 rfl rfl)
theorem dX4_comesTo_33 : decode cX4_comesTo 33 = .ok (.aload_n 0, 1) := dk_42 (dk_at dksX4_comesTo_1 9 rfl rfl)
theorem dX4_comesTo_34 : decode cX4_comesTo 34 = .ok (.getfield 7, 3) := dk_180 0 7 (dk_at dksX4_comesTo_1 10 rfl rfl)
theorem dX4_comesTo_37 : decode cX4_comesTo 37 = .ok (.sipush 2200, 3) := dk_17 8 152 (dk_at dksX4_comesTo_1 13 rfl rfl)
theorem dX4_comesTo_40 : decode cX4_comesTo 40 = .ok (.sipush 820, 3) := dk_17 3 52 (dk_at dksX4_comesTo_1 16 rfl rfl)
theorem dX4_comesTo_43 : decode cX4_comesTo 43 = .ok (.iload_n 1, 1) := dk_27 (dk_at dksX4_comesTo_1 19 rfl rfl)
theorem dX4_comesTo_44 : decode cX4_comesTo 44 = .ok (.imul, 1) := dk_104 (dk_at dksX4_comesTo_1 20 rfl rfl)
theorem dX4_comesTo_45 : decode cX4_comesTo 45 = .ok (.iadd, 1) := dk_96 (dk_at dksX4_comesTo_1 21 rfl rfl)
theorem dX4_comesTo_46 : decode cX4_comesTo 46 = .ok (.iconst 2, 1) := dk_5 (dk_at dksX4_comesTo_1 22 rfl rfl)
theorem dX4_comesTo_47 : decode cX4_comesTo 47 = .ok (.iload 5, 2) := dk_21 5 (dk_at dksX4_comesTo_2 0 rfl rfl)
theorem dX4_comesTo_49 : decode cX4_comesTo 49 = .ok (.imul, 1) := dk_104 (dk_at dksX4_comesTo_2 2 rfl rfl)
theorem dX4_comesTo_50 : decode cX4_comesTo 50 = .ok (.iadd, 1) := dk_96 (dk_at dksX4_comesTo_2 3 rfl rfl)
theorem dX4_comesTo_51 : decode cX4_comesTo 51 = .ok (.iconst 1, 1) := dk_4 (dk_at dksX4_comesTo_2 4 rfl rfl)
theorem dX4_comesTo_52 : decode cX4_comesTo 52 = .ok (.iadd, 1) := dk_96 (dk_at dksX4_comesTo_2 5 rfl rfl)
theorem dX4_comesTo_53 : decode cX4_comesTo 53 = .ok (.iaload, 1) := dk_46 (dk_at dksX4_comesTo_2 6 rfl rfl)
theorem dX4_comesTo_54 : decode cX4_comesTo 54 = .ok (.istore 7, 2) := dk_54 7 (dk_at dksX4_comesTo_2 7 rfl rfl)
theorem dX4_comesTo_56 : decode cX4_comesTo 56 = .ok (.iload 6, 2) := dk_21 6 (dk_at dksX4_comesTo_2 9 rfl rfl)
theorem dX4_comesTo_58 : decode cX4_comesTo 58 = .ok (.bipush 13, 2) := dk_16 13 (dk_at dksX4_comesTo_2 11 rfl rfl)
theorem dX4_comesTo_60 : decode cX4_comesTo 60 = .ok (.if_icmp .ge 33, 3) := dk_162 0 33 (dk_at dksX4_comesTo_2 13 rfl rfl)
theorem dX4_comesTo_63 : decode cX4_comesTo 63 = .ok (.aload_n 0, 1) := dk_42 (dk_at dksX4_comesTo_2 16 rfl rfl)
theorem dX4_comesTo_64 : decode cX4_comesTo 64 = .ok (.getfield 31, 3) := dk_180 0 31 (dk_at dksX4_comesTo_2 17 rfl rfl)
theorem dX4_comesTo_67 : decode cX4_comesTo 67 = .ok (.iload 4, 2) := dk_21 4 (dk_at dksX4_comesTo_2 20 rfl rfl)
theorem dX4_comesTo_69 : decode cX4_comesTo 69 = .ok (.iload 6, 2) := dk_21 6 (dk_at dksX4_comesTo_2 22 rfl rfl)
theorem dX4_comesTo_71 : decode cX4_comesTo 71 = .ok (.ifCond .ne 8, 3) := dk_154 0 8 (dk_at dksX4_comesTo_3 0 rfl rfl)
theorem dX4_comesTo_74 : decode cX4_comesTo 74 = .ok (.iload 7, 2) := dk_21 7 (dk_at dksX4_comesTo_3 3 rfl rfl)
theorem dX4_comesTo_76 : decode cX4_comesTo 76 = .ok (.goto 10, 3) := dk_167 0 10 (dk_at dksX4_comesTo_3 5 rfl rfl)
theorem dX4_comesTo_79 : decode cX4_comesTo 79 = .ok (.aload_n 0, 1) := dk_42 (dk_at dksX4_comesTo_3 8 rfl rfl)
theorem dX4_comesTo_80 : decode cX4_comesTo 80 = .ok (.getfield 34, 3) := dk_180 0 34 (dk_at dksX4_comesTo_3 9 rfl rfl)
theorem dX4_comesTo_83 : decode cX4_comesTo 83 = .ok (.iload 6, 2) := dk_21 6 (dk_at dksX4_comesTo_3 12 rfl rfl)
theorem dX4_comesTo_85 : decode cX4_comesTo 85 = .ok (.iaload, 1) := dk_46 (dk_at dksX4_comesTo_3 14 rfl rfl)
theorem dX4_comesTo_86 : decode cX4_comesTo 86 = .ok (.iastore, 1) := dk_79 (dk_at dksX4_comesTo_3 15 rfl rfl)
theorem dX4_comesTo_87 : decode cX4_comesTo 87 = .ok (.iinc 4 1, 3) := dk_132 4 1 (dk_at dksX4_comesTo_3 16 rfl rfl)
theorem dX4_comesTo_90 : decode cX4_comesTo 90 = .ok (.goto 90, 3) := dk_167 0 90 (dk_at dksX4_comesTo_3 19 rfl rfl)
theorem dX4_comesTo_93 : decode cX4_comesTo 93 = .ok (.iload 6, 2) := dk_21 6 (dk_at dksX4_comesTo_3 22 rfl rfl)
theorem dX4_comesTo_95 : decode cX4_comesTo 95 = .ok (.bipush 16, 2) := dk_16 16 (dk_at dksX4_comesTo_4 0 rfl rfl)
theorem dX4_comesTo_97 : decode cX4_comesTo 97 = .ok (.if_icmp .ne 20, 3) := dk_160 0 20 (dk_at dksX4_comesTo_4 2 rfl rfl)
theorem dX4_comesTo_100 : decode cX4_comesTo 100 = .ok (.aload_n 0, 1) := dk_42 (dk_at dksX4_comesTo_4 5 rfl rfl)
theorem dX4_comesTo_101 : decode cX4_comesTo 101 = .ok (.getfield 31, 3) := dk_180 0 31 (dk_at dksX4_comesTo_4 6 rfl rfl)
theorem dX4_comesTo_104 : decode cX4_comesTo 104 = .ok (.iload 4, 2) := dk_21 4 (dk_at dksX4_comesTo_4 9 rfl rfl)
theorem dX4_comesTo_106 : decode cX4_comesTo 106 = .ok (.iconst 1, 1) := dk_4 (dk_at dksX4_comesTo_4 11 rfl rfl)
theorem dX4_comesTo_107 : decode cX4_comesTo 107 = .ok (.isub, 1) := dk_100 (dk_at dksX4_comesTo_4 12 rfl rfl)
theorem dX4_comesTo_108 : decode cX4_comesTo 108 = .ok (.dup2, 1) := dk_92 (dk_at dksX4_comesTo_4 13 rfl rfl)
theorem dX4_comesTo_109 : decode cX4_comesTo 109 = .ok (.iaload, 1) := dk_46 (dk_at dksX4_comesTo_4 14 rfl rfl)
theorem dX4_comesTo_110 : decode cX4_comesTo 110 = .ok (.iload 7, 2) := dk_21 7 (dk_at dksX4_comesTo_4 15 rfl rfl)
theorem dX4_comesTo_112 : decode cX4_comesTo 112 = .ok (.idiv, 1) := dk_108 (dk_at dksX4_comesTo_4 17 rfl rfl)
theorem dX4_comesTo_113 : decode cX4_comesTo 113 = .ok (.iastore, 1) := dk_79 (dk_at dksX4_comesTo_4 18 rfl rfl)
theorem dX4_comesTo_114 : decode cX4_comesTo 114 = .ok (.goto 66, 3) := dk_167 0 66 (dk_at dksX4_comesTo_4 19 rfl rfl)
theorem dX4_comesTo_117 : decode cX4_comesTo 117 = .ok (.iload 6, 2) := dk_21 6 (dk_at dksX4_comesTo_4 22 rfl rfl)
theorem dX4_comesTo_119 : decode cX4_comesTo 119 = .ok (.bipush 20, 2) := dk_16 20 (dk_at dksX4_comesTo_5 0 rfl rfl)
theorem dX4_comesTo_121 : decode cX4_comesTo 121 = .ok (.if_icmp .ne 26, 3) := dk_160 0 26 (dk_at dksX4_comesTo_5 2 rfl rfl)
theorem dX4_comesTo_124 : decode cX4_comesTo 124 = .ok (.aload_n 0, 1) := dk_42 (dk_at dksX4_comesTo_5 5 rfl rfl)
theorem dX4_comesTo_125 : decode cX4_comesTo 125 = .ok (.getfield 31, 3) := dk_180 0 31 (dk_at dksX4_comesTo_5 6 rfl rfl)
theorem dX4_comesTo_128 : decode cX4_comesTo 128 = .ok (.iload 4, 2) := dk_21 4 (dk_at dksX4_comesTo_5 9 rfl rfl)
theorem dX4_comesTo_130 : decode cX4_comesTo 130 = .ok (.iconst 1, 1) := dk_4 (dk_at dksX4_comesTo_5 11 rfl rfl)
theorem dX4_comesTo_131 : decode cX4_comesTo 131 = .ok (.isub, 1) := dk_100 (dk_at dksX4_comesTo_5 12 rfl rfl)
theorem dX4_comesTo_132 : decode cX4_comesTo 132 = .ok (.iconst 1, 1) := dk_4 (dk_at dksX4_comesTo_5 13 rfl rfl)
theorem dX4_comesTo_133 : decode cX4_comesTo 133 = .ok (.aload_n 0, 1) := dk_42 (dk_at dksX4_comesTo_5 14 rfl rfl)
theorem dX4_comesTo_134 : decode cX4_comesTo 134 = .ok (.getfield 31, 3) := dk_180 0 31 (dk_at dksX4_comesTo_5 15 rfl rfl)
theorem dX4_comesTo_137 : decode cX4_comesTo 137 = .ok (.iload 4, 2) := dk_21 4 (dk_at dksX4_comesTo_5 18 rfl rfl)
theorem dX4_comesTo_139 : decode cX4_comesTo 139 = .ok (.iconst 1, 1) := dk_4 (dk_at dksX4_comesTo_5 20 rfl rfl)
theorem dX4_comesTo_140 : decode cX4_comesTo 140 = .ok (.isub, 1) := dk_100 (dk_at dksX4_comesTo_5 21 rfl rfl)
theorem dX4_comesTo_141 : decode cX4_comesTo 141 = .ok (.iaload, 1) := dk_46 (dk_at dksX4_comesTo_5 22 rfl rfl)
theorem dX4_comesTo_142 : decode cX4_comesTo 142 = .ok (.isub, 1) := dk_100 (dk_at dksX4_comesTo_5 23 rfl rfl)
theorem dX4_comesTo_143 : decode cX4_comesTo 143 = .ok (.iastore, 1) := dk_79 (dk_at dksX4_comesTo_6 0 rfl rfl)
theorem dX4_comesTo_144 : decode cX4_comesTo 144 = .ok (.goto 36, 3) := dk_167 0 36 (dk_at dksX4_comesTo_6 1 rfl rfl)
theorem dX4_comesTo_147 : decode cX4_comesTo 147 = .ok (.iinc 4 (-1), 3) := dk_132 4 255 (dk_at dksX4_comesTo_6 4 rfl rfl)
theorem dX4_comesTo_150 : decode cX4_comesTo 150 = .ok (.aload_n 0, 1) := dk_42 (dk_at dksX4_comesTo_6 7 rfl rfl)
theorem dX4_comesTo_151 : decode cX4_comesTo 151 = .ok (.getfield 31, 3) := dk_180 0 31 (dk_at dksX4_comesTo_6 8 rfl rfl)
theorem dX4_comesTo_154 : decode cX4_comesTo 154 = .ok (.iload 4, 2) := dk_21 4 (dk_at dksX4_comesTo_6 11 rfl rfl)
theorem dX4_comesTo_156 : decode cX4_comesTo 156 = .ok (.iconst 1, 1) := dk_4 (dk_at dksX4_comesTo_6 13 rfl rfl)
theorem dX4_comesTo_157 : decode cX4_comesTo 157 = .ok (.isub, 1) := dk_100 (dk_at dksX4_comesTo_6 14 rfl rfl)
theorem dX4_comesTo_158 : decode cX4_comesTo 158 = .ok (.iload 6, 2) := dk_21 6 (dk_at dksX4_comesTo_6 15 rfl rfl)
theorem dX4_comesTo_160 : decode cX4_comesTo 160 = .ok (.aload_n 0, 1) := dk_42 (dk_at dksX4_comesTo_6 17 rfl rfl)
theorem dX4_comesTo_161 : decode cX4_comesTo 161 = .ok (.getfield 31, 3) := dk_180 0 31 (dk_at dksX4_comesTo_6 18 rfl rfl)
theorem dX4_comesTo_164 : decode cX4_comesTo 164 = .ok (.iload 4, 2) := dk_21 4 (dk_at dksX4_comesTo_6 21 rfl rfl)
theorem dX4_comesTo_166 : decode cX4_comesTo 166 = .ok (.iconst 1, 1) := dk_4 (dk_at dksX4_comesTo_6 23 rfl rfl)
theorem dX4_comesTo_167 : decode cX4_comesTo 167 = .ok (.isub, 1) := dk_100 (dk_at dksX4_comesTo_7 0 rfl rfl)
theorem dX4_comesTo_168 : decode cX4_comesTo 168 = .ok (.iaload, 1) := dk_46 (dk_at dksX4_comesTo_7 1 rfl rfl)
theorem dX4_comesTo_169 : decode cX4_comesTo 169 = .ok (.aload_n 0, 1) := dk_42 (dk_at dksX4_comesTo_7 2 rfl rfl)
theorem dX4_comesTo_170 : decode cX4_comesTo 170 = .ok (.getfield 31, 3) := dk_180 0 31 (dk_at dksX4_comesTo_7 3 rfl rfl)
theorem dX4_comesTo_173 : decode cX4_comesTo 173 = .ok (.iload 4, 2) := dk_21 4 (dk_at dksX4_comesTo_7 6 rfl rfl)
theorem dX4_comesTo_175 : decode cX4_comesTo 175 = .ok (.iaload, 1) := dk_46 (dk_at dksX4_comesTo_7 8 rfl rfl)
theorem dX4_comesTo_176 : decode cX4_comesTo 176 = .ok (.invokestatic 231, 3) := dk_184 0 231 (dk_at dksX4_comesTo_7 9 rfl rfl)
theorem dX4_comesTo_179 : decode cX4_comesTo 179 = .ok (.iastore, 1) := dk_79 (dk_at dksX4_comesTo_7 12 rfl rfl)
theorem dX4_comesTo_180 : decode cX4_comesTo 180 = .ok (.iinc 5 1, 3) := dk_132 5 1 (dk_at dksX4_comesTo_7 13 rfl rfl)
theorem dX4_comesTo_183 : decode cX4_comesTo 183 = .ok (.goto (-177), 3) := dk_167 255 79 (dk_at dksX4_comesTo_7 16 rfl rfl)
theorem dX4_comesTo_186 : decode cX4_comesTo 186 = .ok (.aload_n 0, 1) := dk_42 (dk_at dksX4_comesTo_7 19 rfl rfl)
theorem dX4_comesTo_187 : decode cX4_comesTo 187 = .ok (.getfield 31, 3) := dk_180 0 31 (dk_at dksX4_comesTo_7 20 rfl rfl)
theorem dX4_comesTo_190 : decode cX4_comesTo 190 = .ok (.iconst 0, 1) := dk_3 (dk_at dksX4_comesTo_7 23 rfl rfl)
theorem dX4_comesTo_191 : decode cX4_comesTo 191 = .ok (.iaload, 1) := dk_46 (dk_at dksX4_comesTo_8 0 rfl rfl)
theorem dX4_comesTo_192 : decode cX4_comesTo 192 = .ok (.ireturn, 1) := dk_172 (dk_at dksX4_comesTo_8 1 rfl rfl)
abbrev cX4_both : ByteArray := prog_14_method_42_code
def yX4_both : MethodName := ⟨RX4, "both", "(III)I"⟩
def dkwX4_both_4 : List UInt8 := [172, 27, 28, 128, 172]
abbrev dktX4_both_4 : List UInt8 := dkwX4_both_4 ++ []
def dkwX4_both_3 : List UInt8 := [28, 160, 0, 7, 4, 167, 0, 4, 3, 172, 27, 28, 164, 0, 7, 4, 167, 0, 4, 3, 172, 27, 28, 126]
abbrev dktX4_both_3 : List UInt8 := dkwX4_both_3 ++ dktX4_both_4
def dkwX4_both_2 : List UInt8 := [27, 28, 96, 172, 27, 28, 100, 172, 27, 28, 104, 172, 27, 28, 162, 0, 7, 4, 167, 0, 4, 3, 172, 27]
abbrev dktX4_both_2 : List UInt8 := dkwX4_both_2 ++ dktX4_both_3
def dkwX4_both_1 : List UInt8 := [170, 0, 0, 0, 0, 0, 100, 0, 0, 0, 13, 0, 0, 0, 21, 0, 0, 0, 51, 0, 0, 0, 55, 0, 0, 0, 59, 0, 0, 0, 100, 0, 0, 0, 63, 0, 0, 0, 74, 0, 0, 0, 85, 0, 0, 0, 100, 0, 0, 0, 96]
abbrev dktX4_both_1 : List UInt8 := dkwX4_both_1 ++ dktX4_both_2
def dkwX4_both_0 : List UInt8 := [26]
abbrev dktX4_both_0 : List UInt8 := dkwX4_both_0 ++ dktX4_both_1
theorem dksX4_both_0 : cX4_both.data.toList.drop 0 = dktX4_both_0 := by decide +kernel
theorem dksX4_both_1 : cX4_both.data.toList.drop 1 = dktX4_both_1 := dk_seg dksX4_both_0 1 rfl rfl
theorem dksX4_both_2 : cX4_both.data.toList.drop 52 = dktX4_both_2 := dk_seg dksX4_both_1 51 rfl rfl
theorem dksX4_both_3 : cX4_both.data.toList.drop 76 = dktX4_both_3 := dk_seg dksX4_both_2 24 rfl rfl
theorem dksX4_both_4 : cX4_both.data.toList.drop 100 = dktX4_both_4 := dk_seg dksX4_both_3 24 rfl rfl
theorem dX4_both_0 : decode cX4_both 0 = .ok (.iload_n 0, 1) := dk_26 (dk_at dksX4_both_0 0 rfl rfl)
theorem dX4_both_1 : decode cX4_both 1 = .ok (.tableswitch 100 13 21 #[51, 55, 59, 100, 63, 74, 85, 100, 96], 51) := by decide +kernel
theorem dX4_both_52 : decode cX4_both 52 = .ok (.iload_n 1, 1) := dk_27 (dk_at dksX4_both_2 0 rfl rfl)
theorem dX4_both_53 : decode cX4_both 53 = .ok (.iload_n 2, 1) := dk_28 (dk_at dksX4_both_2 1 rfl rfl)
theorem dX4_both_54 : decode cX4_both 54 = .ok (.iadd, 1) := dk_96 (dk_at dksX4_both_2 2 rfl rfl)
theorem dX4_both_55 : decode cX4_both 55 = .ok (.ireturn, 1) := dk_172 (dk_at dksX4_both_2 3 rfl rfl)
theorem dX4_both_56 : decode cX4_both 56 = .ok (.iload_n 1, 1) := dk_27 (dk_at dksX4_both_2 4 rfl rfl)
theorem dX4_both_57 : decode cX4_both 57 = .ok (.iload_n 2, 1) := dk_28 (dk_at dksX4_both_2 5 rfl rfl)
theorem dX4_both_58 : decode cX4_both 58 = .ok (.isub, 1) := dk_100 (dk_at dksX4_both_2 6 rfl rfl)
theorem dX4_both_59 : decode cX4_both 59 = .ok (.ireturn, 1) := dk_172 (dk_at dksX4_both_2 7 rfl rfl)
theorem dX4_both_60 : decode cX4_both 60 = .ok (.iload_n 1, 1) := dk_27 (dk_at dksX4_both_2 8 rfl rfl)
theorem dX4_both_61 : decode cX4_both 61 = .ok (.iload_n 2, 1) := dk_28 (dk_at dksX4_both_2 9 rfl rfl)
theorem dX4_both_62 : decode cX4_both 62 = .ok (.imul, 1) := dk_104 (dk_at dksX4_both_2 10 rfl rfl)
theorem dX4_both_63 : decode cX4_both 63 = .ok (.ireturn, 1) := dk_172 (dk_at dksX4_both_2 11 rfl rfl)
theorem dX4_both_64 : decode cX4_both 64 = .ok (.iload_n 1, 1) := dk_27 (dk_at dksX4_both_2 12 rfl rfl)
theorem dX4_both_65 : decode cX4_both 65 = .ok (.iload_n 2, 1) := dk_28 (dk_at dksX4_both_2 13 rfl rfl)
theorem dX4_both_66 : decode cX4_both 66 = .ok (.if_icmp .ge 7, 3) := dk_162 0 7 (dk_at dksX4_both_2 14 rfl rfl)
theorem dX4_both_69 : decode cX4_both 69 = .ok (.iconst 1, 1) := dk_4 (dk_at dksX4_both_2 17 rfl rfl)
theorem dX4_both_70 : decode cX4_both 70 = .ok (.goto 4, 3) := dk_167 0 4 (dk_at dksX4_both_2 18 rfl rfl)
theorem dX4_both_73 : decode cX4_both 73 = .ok (.iconst 0, 1) := dk_3 (dk_at dksX4_both_2 21 rfl rfl)
theorem dX4_both_74 : decode cX4_both 74 = .ok (.ireturn, 1) := dk_172 (dk_at dksX4_both_2 22 rfl rfl)
theorem dX4_both_75 : decode cX4_both 75 = .ok (.iload_n 1, 1) := dk_27 (dk_at dksX4_both_2 23 rfl rfl)
theorem dX4_both_76 : decode cX4_both 76 = .ok (.iload_n 2, 1) := dk_28 (dk_at dksX4_both_3 0 rfl rfl)
theorem dX4_both_77 : decode cX4_both 77 = .ok (.if_icmp .ne 7, 3) := dk_160 0 7 (dk_at dksX4_both_3 1 rfl rfl)
theorem dX4_both_80 : decode cX4_both 80 = .ok (.iconst 1, 1) := dk_4 (dk_at dksX4_both_3 4 rfl rfl)
theorem dX4_both_81 : decode cX4_both 81 = .ok (.goto 4, 3) := dk_167 0 4 (dk_at dksX4_both_3 5 rfl rfl)
theorem dX4_both_84 : decode cX4_both 84 = .ok (.iconst 0, 1) := dk_3 (dk_at dksX4_both_3 8 rfl rfl)
theorem dX4_both_85 : decode cX4_both 85 = .ok (.ireturn, 1) := dk_172 (dk_at dksX4_both_3 9 rfl rfl)
theorem dX4_both_86 : decode cX4_both 86 = .ok (.iload_n 1, 1) := dk_27 (dk_at dksX4_both_3 10 rfl rfl)
theorem dX4_both_87 : decode cX4_both 87 = .ok (.iload_n 2, 1) := dk_28 (dk_at dksX4_both_3 11 rfl rfl)
theorem dX4_both_88 : decode cX4_both 88 = .ok (.if_icmp .le 7, 3) := dk_164 0 7 (dk_at dksX4_both_3 12 rfl rfl)
theorem dX4_both_91 : decode cX4_both 91 = .ok (.iconst 1, 1) := dk_4 (dk_at dksX4_both_3 15 rfl rfl)
theorem dX4_both_92 : decode cX4_both 92 = .ok (.goto 4, 3) := dk_167 0 4 (dk_at dksX4_both_3 16 rfl rfl)
theorem dX4_both_95 : decode cX4_both 95 = .ok (.iconst 0, 1) := dk_3 (dk_at dksX4_both_3 19 rfl rfl)
theorem dX4_both_96 : decode cX4_both 96 = .ok (.ireturn, 1) := dk_172 (dk_at dksX4_both_3 20 rfl rfl)
theorem dX4_both_97 : decode cX4_both 97 = .ok (.iload_n 1, 1) := dk_27 (dk_at dksX4_both_3 21 rfl rfl)
theorem dX4_both_98 : decode cX4_both 98 = .ok (.iload_n 2, 1) := dk_28 (dk_at dksX4_both_3 22 rfl rfl)
theorem dX4_both_99 : decode cX4_both 99 = .ok (.iand, 1) := dk_126 (dk_at dksX4_both_3 23 rfl rfl)
theorem dX4_both_100 : decode cX4_both 100 = .ok (.ireturn, 1) := dk_172 (dk_at dksX4_both_4 0 rfl rfl)
theorem dX4_both_101 : decode cX4_both 101 = .ok (.iload_n 1, 1) := dk_27 (dk_at dksX4_both_4 1 rfl rfl)
theorem dX4_both_102 : decode cX4_both 102 = .ok (.iload_n 2, 1) := dk_28 (dk_at dksX4_both_4 2 rfl rfl)
theorem dX4_both_103 : decode cX4_both 103 = .ok (.ior, 1) := dk_128 (dk_at dksX4_both_4 3 rfl rfl)
theorem dX4_both_104 : decode cX4_both 104 = .ok (.ireturn, 1) := dk_172 (dk_at dksX4_both_4 4 rfl rfl)
abbrev cX4_otherAt : ByteArray := prog_14_method_51_code
def yX4_otherAt : MethodName := ⟨RX4, "otherAt", "(III)I"⟩
def dkwX4_otherAt_3 : List UInt8 := [159, 0, 10, 21, 6, 21, 4, 162, 0, 7, 21, 6, 54, 4, 132, 5, 1, 167, 255, 176, 21, 4, 172]
abbrev dktX4_otherAt_3 : List UInt8 := dkwX4_otherAt_3 ++ []
def dkwX4_otherAt_2 : List UInt8 := [184, 0, 248, 96, 46, 54, 6, 21, 6, 2, 159, 0, 26, 21, 6, 27, 159, 0, 20, 21, 4, 2]
abbrev dktX4_otherAt_2 : List UInt8 := dkwX4_otherAt_2 ++ dktX4_otherAt_3
def dkwX4_otherAt_1 : List UInt8 := [184, 0, 242, 96, 182, 0, 93, 154, 0, 6, 167, 0, 50, 42, 180, 0, 7, 17, 3, 82, 28, 29, 21, 5]
abbrev dktX4_otherAt_1 : List UInt8 := dkwX4_otherAt_1 ++ dktX4_otherAt_2
def dkwX4_otherAt_0 : List UInt8 := [2, 54, 4, 3, 54, 5, 21, 5, 7, 162, 0, 80, 42, 28, 21, 5, 184, 0, 239, 96, 29, 21, 5]
abbrev dktX4_otherAt_0 : List UInt8 := dkwX4_otherAt_0 ++ dktX4_otherAt_1
theorem dksX4_otherAt_0 : cX4_otherAt.data.toList.drop 0 = dktX4_otherAt_0 := by decide +kernel
theorem dksX4_otherAt_1 : cX4_otherAt.data.toList.drop 23 = dktX4_otherAt_1 := dk_seg dksX4_otherAt_0 23 rfl rfl
theorem dksX4_otherAt_2 : cX4_otherAt.data.toList.drop 47 = dktX4_otherAt_2 := dk_seg dksX4_otherAt_1 24 rfl rfl
theorem dksX4_otherAt_3 : cX4_otherAt.data.toList.drop 69 = dktX4_otherAt_3 := dk_seg dksX4_otherAt_2 22 rfl rfl
theorem dX4_otherAt_0 : decode cX4_otherAt 0 = .ok (.iconst (-1), 1) := dk_2 (dk_at dksX4_otherAt_0 0 rfl rfl)
theorem dX4_otherAt_1 : decode cX4_otherAt 1 = .ok (.istore 4, 2) := dk_54 4 (dk_at dksX4_otherAt_0 1 rfl rfl)
theorem dX4_otherAt_3 : decode cX4_otherAt 3 = .ok (.iconst 0, 1) := dk_3 (dk_at dksX4_otherAt_0 3 rfl rfl)
theorem dX4_otherAt_4 : decode cX4_otherAt 4 = .ok (.istore 5, 2) := dk_54 5 (dk_at dksX4_otherAt_0 4 rfl rfl)
theorem dX4_otherAt_6 : decode cX4_otherAt 6 = .ok (.iload 5, 2) := dk_21 5 (dk_at dksX4_otherAt_0 6 rfl rfl)
theorem dX4_otherAt_8 : decode cX4_otherAt 8 = .ok (.iconst 4, 1) := dk_7 (dk_at dksX4_otherAt_0 8 rfl rfl)
theorem dX4_otherAt_9 : decode cX4_otherAt 9 = .ok (.if_icmp .ge 80, 3) := dk_162 0 80 (dk_at dksX4_otherAt_0 9 rfl rfl)
theorem dX4_otherAt_12 : decode cX4_otherAt 12 = .ok (.aload_n 0, 1) := dk_42 (dk_at dksX4_otherAt_0 12 rfl rfl)
theorem dX4_otherAt_13 : decode cX4_otherAt 13 = .ok (.iload_n 2, 1) := dk_28 (dk_at dksX4_otherAt_0 13 rfl rfl)
theorem dX4_otherAt_14 : decode cX4_otherAt 14 = .ok (.iload 5, 2) := dk_21 5 (dk_at dksX4_otherAt_0 14 rfl rfl)
theorem dX4_otherAt_16 : decode cX4_otherAt 16 = .ok (.invokestatic 239, 3) := dk_184 0 239 (dk_at dksX4_otherAt_0 16 rfl rfl)
theorem dX4_otherAt_19 : decode cX4_otherAt 19 = .ok (.iadd, 1) := dk_96 (dk_at dksX4_otherAt_0 19 rfl rfl)
theorem dX4_otherAt_20 : decode cX4_otherAt 20 = .ok (.iload_n 3, 1) := dk_29 (dk_at dksX4_otherAt_0 20 rfl rfl)
theorem dX4_otherAt_21 : decode cX4_otherAt 21 = .ok (.iload 5, 2) := dk_21 5 (dk_at dksX4_otherAt_0 21 rfl rfl)
theorem dX4_otherAt_23 : decode cX4_otherAt 23 = .ok (.invokestatic 242, 3) := dk_184 0 242 (dk_at dksX4_otherAt_1 0 rfl rfl)
theorem dX4_otherAt_26 : decode cX4_otherAt 26 = .ok (.iadd, 1) := dk_96 (dk_at dksX4_otherAt_1 3 rfl rfl)
theorem dX4_otherAt_27 : decode cX4_otherAt 27 = .ok (.invokevirtual 93, 3) := dk_182 0 93 (dk_at dksX4_otherAt_1 4 rfl rfl)
theorem dX4_otherAt_30 : decode cX4_otherAt 30 = .ok (.ifCond .ne 6, 3) := dk_154 0 6 (dk_at dksX4_otherAt_1 7 rfl rfl)
theorem dX4_otherAt_33 : decode cX4_otherAt 33 = .ok (.goto 50, 3) := dk_167 0 50 (dk_at dksX4_otherAt_1 10 rfl rfl)
theorem dX4_otherAt_36 : decode cX4_otherAt 36 = .ok (.aload_n 0, 1) := dk_42 (dk_at dksX4_otherAt_1 13 rfl rfl)
theorem dX4_otherAt_37 : decode cX4_otherAt 37 = .ok (.getfield 7, 3) := dk_180 0 7 (dk_at dksX4_otherAt_1 14 rfl rfl)
theorem dX4_otherAt_40 : decode cX4_otherAt 40 = .ok (.sipush 850, 3) := dk_17 3 82 (dk_at dksX4_otherAt_1 17 rfl rfl)
theorem dX4_otherAt_43 : decode cX4_otherAt 43 = .ok (.iload_n 2, 1) := dk_28 (dk_at dksX4_otherAt_1 20 rfl rfl)
theorem dX4_otherAt_44 : decode cX4_otherAt 44 = .ok (.iload_n 3, 1) := dk_29 (dk_at dksX4_otherAt_1 21 rfl rfl)
theorem dX4_otherAt_45 : decode cX4_otherAt 45 = .ok (.iload 5, 2) := dk_21 5 (dk_at dksX4_otherAt_1 22 rfl rfl)
theorem dX4_otherAt_47 : decode cX4_otherAt 47 = .ok (.invokestatic 248, 3) := dk_184 0 248 (dk_at dksX4_otherAt_2 0 rfl rfl)
theorem dX4_otherAt_50 : decode cX4_otherAt 50 = .ok (.iadd, 1) := dk_96 (dk_at dksX4_otherAt_2 3 rfl rfl)
theorem dX4_otherAt_51 : decode cX4_otherAt 51 = .ok (.iaload, 1) := dk_46 (dk_at dksX4_otherAt_2 4 rfl rfl)
theorem dX4_otherAt_52 : decode cX4_otherAt 52 = .ok (.istore 6, 2) := dk_54 6 (dk_at dksX4_otherAt_2 5 rfl rfl)
theorem dX4_otherAt_54 : decode cX4_otherAt 54 = .ok (.iload 6, 2) := dk_21 6 (dk_at dksX4_otherAt_2 7 rfl rfl)
theorem dX4_otherAt_56 : decode cX4_otherAt 56 = .ok (.iconst (-1), 1) := dk_2 (dk_at dksX4_otherAt_2 9 rfl rfl)
theorem dX4_otherAt_57 : decode cX4_otherAt 57 = .ok (.if_icmp .eq 26, 3) := dk_159 0 26 (dk_at dksX4_otherAt_2 10 rfl rfl)
theorem dX4_otherAt_60 : decode cX4_otherAt 60 = .ok (.iload 6, 2) := dk_21 6 (dk_at dksX4_otherAt_2 13 rfl rfl)
theorem dX4_otherAt_62 : decode cX4_otherAt 62 = .ok (.iload_n 1, 1) := dk_27 (dk_at dksX4_otherAt_2 15 rfl rfl)
theorem dX4_otherAt_63 : decode cX4_otherAt 63 = .ok (.if_icmp .eq 20, 3) := dk_159 0 20 (dk_at dksX4_otherAt_2 16 rfl rfl)
theorem dX4_otherAt_66 : decode cX4_otherAt 66 = .ok (.iload 4, 2) := dk_21 4 (dk_at dksX4_otherAt_2 19 rfl rfl)
theorem dX4_otherAt_68 : decode cX4_otherAt 68 = .ok (.iconst (-1), 1) := dk_2 (dk_at dksX4_otherAt_2 21 rfl rfl)
theorem dX4_otherAt_69 : decode cX4_otherAt 69 = .ok (.if_icmp .eq 10, 3) := dk_159 0 10 (dk_at dksX4_otherAt_3 0 rfl rfl)
theorem dX4_otherAt_72 : decode cX4_otherAt 72 = .ok (.iload 6, 2) := dk_21 6 (dk_at dksX4_otherAt_3 3 rfl rfl)
theorem dX4_otherAt_74 : decode cX4_otherAt 74 = .ok (.iload 4, 2) := dk_21 4 (dk_at dksX4_otherAt_3 5 rfl rfl)
theorem dX4_otherAt_76 : decode cX4_otherAt 76 = .ok (.if_icmp .ge 7, 3) := dk_162 0 7 (dk_at dksX4_otherAt_3 7 rfl rfl)
theorem dX4_otherAt_79 : decode cX4_otherAt 79 = .ok (.iload 6, 2) := dk_21 6 (dk_at dksX4_otherAt_3 10 rfl rfl)
theorem dX4_otherAt_81 : decode cX4_otherAt 81 = .ok (.istore 4, 2) := dk_54 4 (dk_at dksX4_otherAt_3 12 rfl rfl)
theorem dX4_otherAt_83 : decode cX4_otherAt 83 = .ok (.iinc 5 1, 3) := dk_132 5 1 (dk_at dksX4_otherAt_3 14 rfl rfl)
theorem dX4_otherAt_86 : decode cX4_otherAt 86 = .ok (.goto (-80), 3) := dk_167 255 176 (dk_at dksX4_otherAt_3 17 rfl rfl)
theorem dX4_otherAt_89 : decode cX4_otherAt 89 = .ok (.iload 4, 2) := dk_21 4 (dk_at dksX4_otherAt_3 20 rfl rfl)
theorem dX4_otherAt_91 : decode cX4_otherAt 91 = .ok (.ireturn, 1) := dk_172 (dk_at dksX4_otherAt_3 22 rfl rfl)
abbrev cX4_sues : ByteArray := prog_14_method_53_code
def yX4_sues : MethodName := ⟨RX4, "sues", "(IIIII)V"⟩
def dkwX4_sues_4 : List UInt8 := [79, 177]
abbrev dktX4_sues_4 : List UInt8 := dkwX4_sues_4 ++ []
def dkwX4_sues_3 : List UInt8 := [21, 4, 79, 42, 180, 0, 7, 21, 6, 7, 96, 21, 5, 79, 42, 180, 0, 7, 16, 6, 92, 46, 4, 96]
abbrev dktX4_sues_3 : List UInt8 := dkwX4_sues_3 ++ dktX4_sues_4
def dkwX4_sues_2 : List UInt8 := [21, 6, 4, 96, 28, 79, 42, 180, 0, 7, 21, 6, 5, 96, 29, 79, 42, 180, 0, 7, 21, 6, 6, 96]
abbrev dktX4_sues_2 : List UInt8 := dkwX4_sues_2 ++ dktX4_sues_3
def dkwX4_sues_1 : List UInt8 := [104, 96, 54, 6, 42, 180, 0, 254, 154, 0, 53, 42, 180, 0, 7, 21, 6, 27, 79, 42, 180, 0, 7]
abbrev dktX4_sues_1 : List UInt8 := dkwX4_sues_1 ++ dktX4_sues_2
def dkwX4_sues_0 : List UInt8 := [42, 180, 0, 7, 16, 6, 46, 16, 99, 160, 0, 4, 177, 17, 5, 60, 8, 42, 180, 0, 7, 16, 6, 46]
abbrev dktX4_sues_0 : List UInt8 := dkwX4_sues_0 ++ dktX4_sues_1
theorem dksX4_sues_0 : cX4_sues.data.toList.drop 0 = dktX4_sues_0 := by decide +kernel
theorem dksX4_sues_1 : cX4_sues.data.toList.drop 24 = dktX4_sues_1 := dk_seg dksX4_sues_0 24 rfl rfl
theorem dksX4_sues_2 : cX4_sues.data.toList.drop 47 = dktX4_sues_2 := dk_seg dksX4_sues_1 23 rfl rfl
theorem dksX4_sues_3 : cX4_sues.data.toList.drop 71 = dktX4_sues_3 := dk_seg dksX4_sues_2 24 rfl rfl
theorem dksX4_sues_4 : cX4_sues.data.toList.drop 95 = dktX4_sues_4 := dk_seg dksX4_sues_3 24 rfl rfl
theorem dX4_sues_0 : decode cX4_sues 0 = .ok (.aload_n 0, 1) := dk_42 (dk_at dksX4_sues_0 0 rfl rfl)
theorem dX4_sues_1 : decode cX4_sues 1 = .ok (.getfield 7, 3) := dk_180 0 7 (dk_at dksX4_sues_0 1 rfl rfl)
theorem dX4_sues_4 : decode cX4_sues 4 = .ok (.bipush 6, 2) := dk_16 6 (dk_at dksX4_sues_0 4 rfl rfl)
theorem dX4_sues_6 : decode cX4_sues 6 = .ok (.iaload, 1) := dk_46 (dk_at dksX4_sues_0 6 rfl rfl)
theorem dX4_sues_7 : decode cX4_sues 7 = .ok (.bipush 99, 2) := dk_16 99 (dk_at dksX4_sues_0 7 rfl rfl)
theorem dX4_sues_9 : decode cX4_sues 9 = .ok (.if_icmp .ne 4, 3) := dk_160 0 4 (dk_at dksX4_sues_0 9 rfl rfl)
theorem dX4_sues_12 : decode cX4_sues 12 = .ok (.return_, 1) := dk_177 (dk_at dksX4_sues_0 12 rfl rfl)
theorem dX4_sues_13 : decode cX4_sues 13 = .ok (.sipush 1340, 3) := dk_17 5 60 (dk_at dksX4_sues_0 13 rfl rfl)
theorem dX4_sues_16 : decode cX4_sues 16 = .ok (.iconst 5, 1) := dk_8 (dk_at dksX4_sues_0 16 rfl rfl)
theorem dX4_sues_17 : decode cX4_sues 17 = .ok (.aload_n 0, 1) := dk_42 (dk_at dksX4_sues_0 17 rfl rfl)
theorem dX4_sues_18 : decode cX4_sues 18 = .ok (.getfield 7, 3) := dk_180 0 7 (dk_at dksX4_sues_0 18 rfl rfl)
theorem dX4_sues_21 : decode cX4_sues 21 = .ok (.bipush 6, 2) := dk_16 6 (dk_at dksX4_sues_0 21 rfl rfl)
theorem dX4_sues_23 : decode cX4_sues 23 = .ok (.iaload, 1) := dk_46 (dk_at dksX4_sues_0 23 rfl rfl)
theorem dX4_sues_24 : decode cX4_sues 24 = .ok (.imul, 1) := dk_104 (dk_at dksX4_sues_1 0 rfl rfl)
theorem dX4_sues_25 : decode cX4_sues 25 = .ok (.iadd, 1) := dk_96 (dk_at dksX4_sues_1 1 rfl rfl)
theorem dX4_sues_26 : decode cX4_sues 26 = .ok (.istore 6, 2) := dk_54 6 (dk_at dksX4_sues_1 2 rfl rfl)
theorem dX4_sues_28 : decode cX4_sues 28 = .ok (.aload_n 0, 1) := dk_42 (dk_at dksX4_sues_1 4 rfl rfl)
theorem dX4_sues_29 : decode cX4_sues 29 = .ok (.getfield 254, 3) := dk_180 0 254 (dk_at dksX4_sues_1 5 rfl rfl)
theorem dX4_sues_32 : decode cX4_sues 32 = .ok (.ifCond .ne 53, 3) := dk_154 0 53 (dk_at dksX4_sues_1 8 rfl rfl)
theorem dX4_sues_35 : decode cX4_sues 35 = .ok (.aload_n 0, 1) := dk_42 (dk_at dksX4_sues_1 11 rfl rfl)
theorem dX4_sues_36 : decode cX4_sues 36 = .ok (.getfield 7, 3) := dk_180 0 7 (dk_at dksX4_sues_1 12 rfl rfl)
theorem dX4_sues_39 : decode cX4_sues 39 = .ok (.iload 6, 2) := dk_21 6 (dk_at dksX4_sues_1 15 rfl rfl)
theorem dX4_sues_41 : decode cX4_sues 41 = .ok (.iload_n 1, 1) := dk_27 (dk_at dksX4_sues_1 17 rfl rfl)
theorem dX4_sues_42 : decode cX4_sues 42 = .ok (.iastore, 1) := dk_79 (dk_at dksX4_sues_1 18 rfl rfl)
theorem dX4_sues_43 : decode cX4_sues 43 = .ok (.aload_n 0, 1) := dk_42 (dk_at dksX4_sues_1 19 rfl rfl)
theorem dX4_sues_44 : decode cX4_sues 44 = .ok (.getfield 7, 3) := dk_180 0 7 (dk_at dksX4_sues_1 20 rfl rfl)
theorem dX4_sues_47 : decode cX4_sues 47 = .ok (.iload 6, 2) := dk_21 6 (dk_at dksX4_sues_2 0 rfl rfl)
theorem dX4_sues_49 : decode cX4_sues 49 = .ok (.iconst 1, 1) := dk_4 (dk_at dksX4_sues_2 2 rfl rfl)
theorem dX4_sues_50 : decode cX4_sues 50 = .ok (.iadd, 1) := dk_96 (dk_at dksX4_sues_2 3 rfl rfl)
theorem dX4_sues_51 : decode cX4_sues 51 = .ok (.iload_n 2, 1) := dk_28 (dk_at dksX4_sues_2 4 rfl rfl)
theorem dX4_sues_52 : decode cX4_sues 52 = .ok (.iastore, 1) := dk_79 (dk_at dksX4_sues_2 5 rfl rfl)
theorem dX4_sues_53 : decode cX4_sues 53 = .ok (.aload_n 0, 1) := dk_42 (dk_at dksX4_sues_2 6 rfl rfl)
theorem dX4_sues_54 : decode cX4_sues 54 = .ok (.getfield 7, 3) := dk_180 0 7 (dk_at dksX4_sues_2 7 rfl rfl)
theorem dX4_sues_57 : decode cX4_sues 57 = .ok (.iload 6, 2) := dk_21 6 (dk_at dksX4_sues_2 10 rfl rfl)
theorem dX4_sues_59 : decode cX4_sues 59 = .ok (.iconst 2, 1) := dk_5 (dk_at dksX4_sues_2 12 rfl rfl)
theorem dX4_sues_60 : decode cX4_sues 60 = .ok (.iadd, 1) := dk_96 (dk_at dksX4_sues_2 13 rfl rfl)
theorem dX4_sues_61 : decode cX4_sues 61 = .ok (.iload_n 3, 1) := dk_29 (dk_at dksX4_sues_2 14 rfl rfl)
theorem dX4_sues_62 : decode cX4_sues 62 = .ok (.iastore, 1) := dk_79 (dk_at dksX4_sues_2 15 rfl rfl)
theorem dX4_sues_63 : decode cX4_sues 63 = .ok (.aload_n 0, 1) := dk_42 (dk_at dksX4_sues_2 16 rfl rfl)
theorem dX4_sues_64 : decode cX4_sues 64 = .ok (.getfield 7, 3) := dk_180 0 7 (dk_at dksX4_sues_2 17 rfl rfl)
theorem dX4_sues_67 : decode cX4_sues 67 = .ok (.iload 6, 2) := dk_21 6 (dk_at dksX4_sues_2 20 rfl rfl)
theorem dX4_sues_69 : decode cX4_sues 69 = .ok (.iconst 3, 1) := dk_6 (dk_at dksX4_sues_2 22 rfl rfl)
theorem dX4_sues_70 : decode cX4_sues 70 = .ok (.iadd, 1) := dk_96 (dk_at dksX4_sues_2 23 rfl rfl)
theorem dX4_sues_71 : decode cX4_sues 71 = .ok (.iload 4, 2) := dk_21 4 (dk_at dksX4_sues_3 0 rfl rfl)
theorem dX4_sues_73 : decode cX4_sues 73 = .ok (.iastore, 1) := dk_79 (dk_at dksX4_sues_3 2 rfl rfl)
theorem dX4_sues_74 : decode cX4_sues 74 = .ok (.aload_n 0, 1) := dk_42 (dk_at dksX4_sues_3 3 rfl rfl)
theorem dX4_sues_75 : decode cX4_sues 75 = .ok (.getfield 7, 3) := dk_180 0 7 (dk_at dksX4_sues_3 4 rfl rfl)
theorem dX4_sues_78 : decode cX4_sues 78 = .ok (.iload 6, 2) := dk_21 6 (dk_at dksX4_sues_3 7 rfl rfl)
theorem dX4_sues_80 : decode cX4_sues 80 = .ok (.iconst 4, 1) := dk_7 (dk_at dksX4_sues_3 9 rfl rfl)
theorem dX4_sues_81 : decode cX4_sues 81 = .ok (.iadd, 1) := dk_96 (dk_at dksX4_sues_3 10 rfl rfl)
theorem dX4_sues_82 : decode cX4_sues 82 = .ok (.iload 5, 2) := dk_21 5 (dk_at dksX4_sues_3 11 rfl rfl)
theorem dX4_sues_84 : decode cX4_sues 84 = .ok (.iastore, 1) := dk_79 (dk_at dksX4_sues_3 13 rfl rfl)
theorem dX4_sues_85 : decode cX4_sues 85 = .ok (.aload_n 0, 1) := dk_42 (dk_at dksX4_sues_3 14 rfl rfl)
theorem dX4_sues_86 : decode cX4_sues 86 = .ok (.getfield 7, 3) := dk_180 0 7 (dk_at dksX4_sues_3 15 rfl rfl)
theorem dX4_sues_89 : decode cX4_sues 89 = .ok (.bipush 6, 2) := dk_16 6 (dk_at dksX4_sues_3 18 rfl rfl)
theorem dX4_sues_91 : decode cX4_sues 91 = .ok (.dup2, 1) := dk_92 (dk_at dksX4_sues_3 20 rfl rfl)
theorem dX4_sues_92 : decode cX4_sues 92 = .ok (.iaload, 1) := dk_46 (dk_at dksX4_sues_3 21 rfl rfl)
theorem dX4_sues_93 : decode cX4_sues 93 = .ok (.iconst 1, 1) := dk_4 (dk_at dksX4_sues_3 22 rfl rfl)
theorem dX4_sues_94 : decode cX4_sues 94 = .ok (.iadd, 1) := dk_96 (dk_at dksX4_sues_3 23 rfl rfl)
theorem dX4_sues_95 : decode cX4_sues 95 = .ok (.iastore, 1) := dk_79 (dk_at dksX4_sues_4 0 rfl rfl)
theorem dX4_sues_96 : decode cX4_sues 96 = .ok (.return_, 1) := dk_177 (dk_at dksX4_sues_4 1 rfl rfl)
abbrev cX4_hasCat : ByteArray := prog_14_method_52_code
def yX4_hasCat : MethodName := ⟨RX4, "hasCat", "(II)Z"⟩
def dkwX4_hasCat_2 : List UInt8 := [160, 0, 5, 4, 172, 132, 4, 1, 167, 255, 215, 132, 3, 1, 167, 255, 199, 3, 172]
abbrev dktX4_hasCat_2 : List UInt8 := dkwX4_hasCat_2 ++ []
def dkwX4_hasCat_1 : List UInt8 := [182, 0, 79, 153, 0, 25, 42, 180, 0, 7, 17, 1, 64, 16, 10, 21, 4, 104, 96, 29, 96, 46, 4]
abbrev dktX4_hasCat_1 : List UInt8 := dkwX4_hasCat_1 ++ dktX4_hasCat_2
def dkwX4_hasCat_0 : List UInt8 := [27, 4, 100, 62, 29, 27, 163, 0, 58, 28, 4, 100, 54, 4, 21, 4, 28, 163, 0, 41, 42, 29, 21, 4]
abbrev dktX4_hasCat_0 : List UInt8 := dkwX4_hasCat_0 ++ dktX4_hasCat_1
theorem dksX4_hasCat_0 : cX4_hasCat.data.toList.drop 0 = dktX4_hasCat_0 := by decide +kernel
theorem dksX4_hasCat_1 : cX4_hasCat.data.toList.drop 24 = dktX4_hasCat_1 := dk_seg dksX4_hasCat_0 24 rfl rfl
theorem dksX4_hasCat_2 : cX4_hasCat.data.toList.drop 47 = dktX4_hasCat_2 := dk_seg dksX4_hasCat_1 23 rfl rfl
theorem dX4_hasCat_0 : decode cX4_hasCat 0 = .ok (.iload_n 1, 1) := dk_27 (dk_at dksX4_hasCat_0 0 rfl rfl)
theorem dX4_hasCat_1 : decode cX4_hasCat 1 = .ok (.iconst 1, 1) := dk_4 (dk_at dksX4_hasCat_0 1 rfl rfl)
theorem dX4_hasCat_2 : decode cX4_hasCat 2 = .ok (.isub, 1) := dk_100 (dk_at dksX4_hasCat_0 2 rfl rfl)
theorem dX4_hasCat_3 : decode cX4_hasCat 3 = .ok (.istore_n 3, 1) := dk_62 (dk_at dksX4_hasCat_0 3 rfl rfl)
theorem dX4_hasCat_4 : decode cX4_hasCat 4 = .ok (.iload_n 3, 1) := dk_29 (dk_at dksX4_hasCat_0 4 rfl rfl)
theorem dX4_hasCat_5 : decode cX4_hasCat 5 = .ok (.iload_n 1, 1) := dk_27 (dk_at dksX4_hasCat_0 5 rfl rfl)
theorem dX4_hasCat_6 : decode cX4_hasCat 6 = .ok (.if_icmp .gt 58, 3) := dk_163 0 58 (dk_at dksX4_hasCat_0 6 rfl rfl)
theorem dX4_hasCat_9 : decode cX4_hasCat 9 = .ok (.iload_n 2, 1) := dk_28 (dk_at dksX4_hasCat_0 9 rfl rfl)
theorem dX4_hasCat_10 : decode cX4_hasCat 10 = .ok (.iconst 1, 1) := dk_4 (dk_at dksX4_hasCat_0 10 rfl rfl)
theorem dX4_hasCat_11 : decode cX4_hasCat 11 = .ok (.isub, 1) := dk_100 (dk_at dksX4_hasCat_0 11 rfl rfl)
theorem dX4_hasCat_12 : decode cX4_hasCat 12 = .ok (.istore 4, 2) := dk_54 4 (dk_at dksX4_hasCat_0 12 rfl rfl)
theorem dX4_hasCat_14 : decode cX4_hasCat 14 = .ok (.iload 4, 2) := dk_21 4 (dk_at dksX4_hasCat_0 14 rfl rfl)
theorem dX4_hasCat_16 : decode cX4_hasCat 16 = .ok (.iload_n 2, 1) := dk_28 (dk_at dksX4_hasCat_0 16 rfl rfl)
theorem dX4_hasCat_17 : decode cX4_hasCat 17 = .ok (.if_icmp .gt 41, 3) := dk_163 0 41 (dk_at dksX4_hasCat_0 17 rfl rfl)
theorem dX4_hasCat_20 : decode cX4_hasCat 20 = .ok (.aload_n 0, 1) := dk_42 (dk_at dksX4_hasCat_0 20 rfl rfl)
theorem dX4_hasCat_21 : decode cX4_hasCat 21 = .ok (.iload_n 3, 1) := dk_29 (dk_at dksX4_hasCat_0 21 rfl rfl)
theorem dX4_hasCat_22 : decode cX4_hasCat 22 = .ok (.iload 4, 2) := dk_21 4 (dk_at dksX4_hasCat_0 22 rfl rfl)
theorem dX4_hasCat_24 : decode cX4_hasCat 24 = .ok (.invokevirtual 79, 3) := dk_182 0 79 (dk_at dksX4_hasCat_1 0 rfl rfl)
theorem dX4_hasCat_27 : decode cX4_hasCat 27 = .ok (.ifCond .eq 25, 3) := dk_153 0 25 (dk_at dksX4_hasCat_1 3 rfl rfl)
theorem dX4_hasCat_30 : decode cX4_hasCat 30 = .ok (.aload_n 0, 1) := dk_42 (dk_at dksX4_hasCat_1 6 rfl rfl)
theorem dX4_hasCat_31 : decode cX4_hasCat 31 = .ok (.getfield 7, 3) := dk_180 0 7 (dk_at dksX4_hasCat_1 7 rfl rfl)
theorem dX4_hasCat_34 : decode cX4_hasCat 34 = .ok (.sipush 320, 3) := dk_17 1 64 (dk_at dksX4_hasCat_1 10 rfl rfl)
theorem dX4_hasCat_37 : decode cX4_hasCat 37 = .ok (.bipush 10, 2) := dk_16 10 (dk_at dksX4_hasCat_1 13 rfl rfl)
theorem dX4_hasCat_39 : decode cX4_hasCat 39 = .ok (.iload 4, 2) := dk_21 4 (dk_at dksX4_hasCat_1 15 rfl rfl)
theorem dX4_hasCat_41 : decode cX4_hasCat 41 = .ok (.imul, 1) := dk_104 (dk_at dksX4_hasCat_1 17 rfl rfl)
theorem dX4_hasCat_42 : decode cX4_hasCat 42 = .ok (.iadd, 1) := dk_96 (dk_at dksX4_hasCat_1 18 rfl rfl)
theorem dX4_hasCat_43 : decode cX4_hasCat 43 = .ok (.iload_n 3, 1) := dk_29 (dk_at dksX4_hasCat_1 19 rfl rfl)
theorem dX4_hasCat_44 : decode cX4_hasCat 44 = .ok (.iadd, 1) := dk_96 (dk_at dksX4_hasCat_1 20 rfl rfl)
theorem dX4_hasCat_45 : decode cX4_hasCat 45 = .ok (.iaload, 1) := dk_46 (dk_at dksX4_hasCat_1 21 rfl rfl)
theorem dX4_hasCat_46 : decode cX4_hasCat 46 = .ok (.iconst 1, 1) := dk_4 (dk_at dksX4_hasCat_1 22 rfl rfl)
theorem dX4_hasCat_47 : decode cX4_hasCat 47 = .ok (.if_icmp .ne 5, 3) := dk_160 0 5 (dk_at dksX4_hasCat_2 0 rfl rfl)
theorem dX4_hasCat_50 : decode cX4_hasCat 50 = .ok (.iconst 1, 1) := dk_4 (dk_at dksX4_hasCat_2 3 rfl rfl)
theorem dX4_hasCat_51 : decode cX4_hasCat 51 = .ok (.ireturn, 1) := dk_172 (dk_at dksX4_hasCat_2 4 rfl rfl)
theorem dX4_hasCat_52 : decode cX4_hasCat 52 = .ok (.iinc 4 1, 3) := dk_132 4 1 (dk_at dksX4_hasCat_2 5 rfl rfl)
theorem dX4_hasCat_55 : decode cX4_hasCat 55 = .ok (.goto (-41), 3) := dk_167 255 215 (dk_at dksX4_hasCat_2 8 rfl rfl)
theorem dX4_hasCat_58 : decode cX4_hasCat 58 = .ok (.iinc 3 1, 3) := dk_132 3 1 (dk_at dksX4_hasCat_2 11 rfl rfl)
theorem dX4_hasCat_61 : decode cX4_hasCat 61 = .ok (.goto (-57), 3) := dk_167 255 199 (dk_at dksX4_hasCat_2 14 rfl rfl)
theorem dX4_hasCat_64 : decode cX4_hasCat 64 = .ok (.iconst 0, 1) := dk_3 (dk_at dksX4_hasCat_2 17 rfl rfl)
theorem dX4_hasCat_65 : decode cX4_hasCat 65 = .ok (.ireturn, 1) := dk_172 (dk_at dksX4_hasCat_2 18 rfl rfl)
abbrev cX4_laysCounties : ByteArray := prog_14_method_58_code
def yX4_laysCounties : MethodName := ⟨RX4, "laysCounties", "()V"⟩
def dkwX4_laysCounties_3 : List UInt8 := [132, 1, 1, 167, 255, 211, 177]
abbrev dktX4_laysCounties_3 : List UInt8 := dkwX4_laysCounties_3 ++ []
def dkwX4_laysCounties_2 : List UInt8 := [46, 2, 159, 0, 6, 167, 0, 18, 42, 27, 182, 1, 28, 42, 89, 180, 1, 25, 4, 96, 181, 1, 25]
abbrev dktX4_laysCounties_2 : List UInt8 := dkwX4_laysCounties_2 ++ dktX4_laysCounties_3
def dkwX4_laysCounties_1 : List UInt8 := [167, 255, 240, 3, 60, 27, 16, 100, 162, 0, 45, 42, 27, 182, 0, 85, 153, 0, 31, 42, 180, 0, 53, 27]
abbrev dktX4_laysCounties_1 : List UInt8 := dkwX4_laysCounties_1 ++ dktX4_laysCounties_2
def dkwX4_laysCounties_0 : List UInt8 := [42, 3, 181, 1, 25, 3, 60, 27, 16, 100, 162, 0, 16, 42, 180, 0, 53, 27, 2, 79, 132, 1, 1]
abbrev dktX4_laysCounties_0 : List UInt8 := dkwX4_laysCounties_0 ++ dktX4_laysCounties_1
theorem dksX4_laysCounties_0 : cX4_laysCounties.data.toList.drop 0 = dktX4_laysCounties_0 := by decide +kernel
theorem dksX4_laysCounties_1 : cX4_laysCounties.data.toList.drop 23 = dktX4_laysCounties_1 := dk_seg dksX4_laysCounties_0 23 rfl rfl
theorem dksX4_laysCounties_2 : cX4_laysCounties.data.toList.drop 47 = dktX4_laysCounties_2 := dk_seg dksX4_laysCounties_1 24 rfl rfl
theorem dksX4_laysCounties_3 : cX4_laysCounties.data.toList.drop 70 = dktX4_laysCounties_3 := dk_seg dksX4_laysCounties_2 23 rfl rfl
theorem dX4_laysCounties_0 : decode cX4_laysCounties 0 = .ok (.aload_n 0, 1) := dk_42 (dk_at dksX4_laysCounties_0 0 rfl rfl)
theorem dX4_laysCounties_1 : decode cX4_laysCounties 1 = .ok (.iconst 0, 1) := dk_3 (dk_at dksX4_laysCounties_0 1 rfl rfl)
theorem dX4_laysCounties_2 : decode cX4_laysCounties 2 = .ok (.putfield 281, 3) := dk_181 1 25 (dk_at dksX4_laysCounties_0 2 rfl rfl)
theorem dX4_laysCounties_5 : decode cX4_laysCounties 5 = .ok (.iconst 0, 1) := dk_3 (dk_at dksX4_laysCounties_0 5 rfl rfl)
theorem dX4_laysCounties_6 : decode cX4_laysCounties 6 = .ok (.istore_n 1, 1) := dk_60 (dk_at dksX4_laysCounties_0 6 rfl rfl)
theorem dX4_laysCounties_7 : decode cX4_laysCounties 7 = .ok (.iload_n 1, 1) := dk_27 (dk_at dksX4_laysCounties_0 7 rfl rfl)
theorem dX4_laysCounties_8 : decode cX4_laysCounties 8 = .ok (.bipush 100, 2) := dk_16 100 (dk_at dksX4_laysCounties_0 8 rfl rfl)
theorem dX4_laysCounties_10 : decode cX4_laysCounties 10 = .ok (.if_icmp .ge 16, 3) := dk_162 0 16 (dk_at dksX4_laysCounties_0 10 rfl rfl)
theorem dX4_laysCounties_13 : decode cX4_laysCounties 13 = .ok (.aload_n 0, 1) := dk_42 (dk_at dksX4_laysCounties_0 13 rfl rfl)
theorem dX4_laysCounties_14 : decode cX4_laysCounties 14 = .ok (.getfield 53, 3) := dk_180 0 53 (dk_at dksX4_laysCounties_0 14 rfl rfl)
theorem dX4_laysCounties_17 : decode cX4_laysCounties 17 = .ok (.iload_n 1, 1) := dk_27 (dk_at dksX4_laysCounties_0 17 rfl rfl)
theorem dX4_laysCounties_18 : decode cX4_laysCounties 18 = .ok (.iconst (-1), 1) := dk_2 (dk_at dksX4_laysCounties_0 18 rfl rfl)
theorem dX4_laysCounties_19 : decode cX4_laysCounties 19 = .ok (.iastore, 1) := dk_79 (dk_at dksX4_laysCounties_0 19 rfl rfl)
theorem dX4_laysCounties_20 : decode cX4_laysCounties 20 = .ok (.iinc 1 1, 3) := dk_132 1 1 (dk_at dksX4_laysCounties_0 20 rfl rfl)
theorem dX4_laysCounties_23 : decode cX4_laysCounties 23 = .ok (.goto (-16), 3) := dk_167 255 240 (dk_at dksX4_laysCounties_1 0 rfl rfl)
theorem dX4_laysCounties_26 : decode cX4_laysCounties 26 = .ok (.iconst 0, 1) := dk_3 (dk_at dksX4_laysCounties_1 3 rfl rfl)
theorem dX4_laysCounties_27 : decode cX4_laysCounties 27 = .ok (.istore_n 1, 1) := dk_60 (dk_at dksX4_laysCounties_1 4 rfl rfl)
theorem dX4_laysCounties_28 : decode cX4_laysCounties 28 = .ok (.iload_n 1, 1) := dk_27 (dk_at dksX4_laysCounties_1 5 rfl rfl)
theorem dX4_laysCounties_29 : decode cX4_laysCounties 29 = .ok (.bipush 100, 2) := dk_16 100 (dk_at dksX4_laysCounties_1 6 rfl rfl)
theorem dX4_laysCounties_31 : decode cX4_laysCounties 31 = .ok (.if_icmp .ge 45, 3) := dk_162 0 45 (dk_at dksX4_laysCounties_1 8 rfl rfl)
theorem dX4_laysCounties_34 : decode cX4_laysCounties 34 = .ok (.aload_n 0, 1) := dk_42 (dk_at dksX4_laysCounties_1 11 rfl rfl)
theorem dX4_laysCounties_35 : decode cX4_laysCounties 35 = .ok (.iload_n 1, 1) := dk_27 (dk_at dksX4_laysCounties_1 12 rfl rfl)
theorem dX4_laysCounties_36 : decode cX4_laysCounties 36 = .ok (.invokevirtual 85, 3) := dk_182 0 85 (dk_at dksX4_laysCounties_1 13 rfl rfl)
theorem dX4_laysCounties_39 : decode cX4_laysCounties 39 = .ok (.ifCond .eq 31, 3) := dk_153 0 31 (dk_at dksX4_laysCounties_1 16 rfl rfl)
theorem dX4_laysCounties_42 : decode cX4_laysCounties 42 = .ok (.aload_n 0, 1) := dk_42 (dk_at dksX4_laysCounties_1 19 rfl rfl)
theorem dX4_laysCounties_43 : decode cX4_laysCounties 43 = .ok (.getfield 53, 3) := dk_180 0 53 (dk_at dksX4_laysCounties_1 20 rfl rfl)
theorem dX4_laysCounties_46 : decode cX4_laysCounties 46 = .ok (.iload_n 1, 1) := dk_27 (dk_at dksX4_laysCounties_1 23 rfl rfl)
theorem dX4_laysCounties_47 : decode cX4_laysCounties 47 = .ok (.iaload, 1) := dk_46 (dk_at dksX4_laysCounties_2 0 rfl rfl)
theorem dX4_laysCounties_48 : decode cX4_laysCounties 48 = .ok (.iconst (-1), 1) := dk_2 (dk_at dksX4_laysCounties_2 1 rfl rfl)
theorem dX4_laysCounties_49 : decode cX4_laysCounties 49 = .ok (.if_icmp .eq 6, 3) := dk_159 0 6 (dk_at dksX4_laysCounties_2 2 rfl rfl)
theorem dX4_laysCounties_52 : decode cX4_laysCounties 52 = .ok (.goto 18, 3) := dk_167 0 18 (dk_at dksX4_laysCounties_2 5 rfl rfl)
theorem dX4_laysCounties_55 : decode cX4_laysCounties 55 = .ok (.aload_n 0, 1) := dk_42 (dk_at dksX4_laysCounties_2 8 rfl rfl)
theorem dX4_laysCounties_56 : decode cX4_laysCounties 56 = .ok (.iload_n 1, 1) := dk_27 (dk_at dksX4_laysCounties_2 9 rfl rfl)
theorem dX4_laysCounties_57 : decode cX4_laysCounties 57 = .ok (.invokevirtual 284, 3) := dk_182 1 28 (dk_at dksX4_laysCounties_2 10 rfl rfl)
theorem dX4_laysCounties_60 : decode cX4_laysCounties 60 = .ok (.aload_n 0, 1) := dk_42 (dk_at dksX4_laysCounties_2 13 rfl rfl)
theorem dX4_laysCounties_61 : decode cX4_laysCounties 61 = .ok (.dup, 1) := dk_89 (dk_at dksX4_laysCounties_2 14 rfl rfl)
theorem dX4_laysCounties_62 : decode cX4_laysCounties 62 = .ok (.getfield 281, 3) := dk_180 1 25 (dk_at dksX4_laysCounties_2 15 rfl rfl)
theorem dX4_laysCounties_65 : decode cX4_laysCounties 65 = .ok (.iconst 1, 1) := dk_4 (dk_at dksX4_laysCounties_2 18 rfl rfl)
theorem dX4_laysCounties_66 : decode cX4_laysCounties 66 = .ok (.iadd, 1) := dk_96 (dk_at dksX4_laysCounties_2 19 rfl rfl)
theorem dX4_laysCounties_67 : decode cX4_laysCounties 67 = .ok (.putfield 281, 3) := dk_181 1 25 (dk_at dksX4_laysCounties_2 20 rfl rfl)
theorem dX4_laysCounties_70 : decode cX4_laysCounties 70 = .ok (.iinc 1 1, 3) := dk_132 1 1 (dk_at dksX4_laysCounties_3 0 rfl rfl)
theorem dX4_laysCounties_73 : decode cX4_laysCounties 73 = .ok (.goto (-45), 3) := dk_167 255 211 (dk_at dksX4_laysCounties_3 3 rfl rfl)
theorem dX4_laysCounties_76 : decode cX4_laysCounties 76 = .ok (.return_, 1) := dk_177 (dk_at dksX4_laysCounties_3 6 rfl rfl)
abbrev cX4_spreads : ByteArray := prog_14_method_57_code
def yX4_spreads : MethodName := ⟨RX4, "spreads", "(I)V"⟩
def dkwX4_spreads_5 : List UInt8 := [42, 180, 0, 56, 28, 21, 7, 79, 132, 2, 1, 132, 6, 1, 167, 255, 176, 132, 3, 1, 167, 255, 140, 177]
abbrev dktX4_spreads_5 : List UInt8 := dkwX4_spreads_5 ++ []
def dkwX4_spreads_4 : List UInt8 := [54, 7, 42, 180, 0, 53, 21, 7, 46, 2, 159, 0, 6, 167, 0, 22, 42, 180, 0, 53, 21, 7, 27, 79]
abbrev dktX4_spreads_4 : List UInt8 := dkwX4_spreads_4 ++ dktX4_spreads_5
def dkwX4_spreads_3 : List UInt8 := [167, 0, 58, 16, 10, 21, 5, 21, 6, 184, 0, 242, 96, 104, 21, 4, 96, 21, 6, 184, 0, 239, 96]
abbrev dktX4_spreads_3 : List UInt8 := dkwX4_spreads_3 ++ dktX4_spreads_4
def dkwX4_spreads_2 : List UInt8 := [54, 5, 3, 54, 6, 21, 6, 7, 162, 0, 80, 42, 21, 4, 21, 5, 21, 6, 182, 1, 22, 154, 0, 6]
abbrev dktX4_spreads_2 : List UInt8 := dkwX4_spreads_2 ++ dktX4_spreads_3
def dkwX4_spreads_1 : List UInt8 := [162, 0, 117, 42, 180, 0, 56, 29, 46, 16, 10, 112, 54, 4, 42, 180, 0, 56, 29, 46, 16, 10, 108]
abbrev dktX4_spreads_1 : List UInt8 := dkwX4_spreads_1 ++ dktX4_spreads_2
def dkwX4_spreads_0 : List UInt8 := [3, 61, 42, 180, 0, 56, 28, 27, 79, 132, 2, 1, 42, 180, 0, 53, 27, 27, 79, 3, 62, 29, 28]
abbrev dktX4_spreads_0 : List UInt8 := dkwX4_spreads_0 ++ dktX4_spreads_1
theorem dksX4_spreads_0 : cX4_spreads.data.toList.drop 0 = dktX4_spreads_0 := by decide +kernel
theorem dksX4_spreads_1 : cX4_spreads.data.toList.drop 23 = dktX4_spreads_1 := dk_seg dksX4_spreads_0 23 rfl rfl
theorem dksX4_spreads_2 : cX4_spreads.data.toList.drop 46 = dktX4_spreads_2 := dk_seg dksX4_spreads_1 23 rfl rfl
theorem dksX4_spreads_3 : cX4_spreads.data.toList.drop 70 = dktX4_spreads_3 := dk_seg dksX4_spreads_2 24 rfl rfl
theorem dksX4_spreads_4 : cX4_spreads.data.toList.drop 93 = dktX4_spreads_4 := dk_seg dksX4_spreads_3 23 rfl rfl
theorem dksX4_spreads_5 : cX4_spreads.data.toList.drop 117 = dktX4_spreads_5 := dk_seg dksX4_spreads_4 24 rfl rfl
theorem dX4_spreads_0 : decode cX4_spreads 0 = .ok (.iconst 0, 1) := dk_3 (dk_at dksX4_spreads_0 0 rfl rfl)
theorem dX4_spreads_1 : decode cX4_spreads 1 = .ok (.istore_n 2, 1) := dk_61 (dk_at dksX4_spreads_0 1 rfl rfl)
theorem dX4_spreads_2 : decode cX4_spreads 2 = .ok (.aload_n 0, 1) := dk_42 (dk_at dksX4_spreads_0 2 rfl rfl)
theorem dX4_spreads_3 : decode cX4_spreads 3 = .ok (.getfield 56, 3) := dk_180 0 56 (dk_at dksX4_spreads_0 3 rfl rfl)
theorem dX4_spreads_6 : decode cX4_spreads 6 = .ok (.iload_n 2, 1) := dk_28 (dk_at dksX4_spreads_0 6 rfl rfl)
theorem dX4_spreads_7 : decode cX4_spreads 7 = .ok (.iload_n 1, 1) := dk_27 (dk_at dksX4_spreads_0 7 rfl rfl)
theorem dX4_spreads_8 : decode cX4_spreads 8 = .ok (.iastore, 1) := dk_79 (dk_at dksX4_spreads_0 8 rfl rfl)
theorem dX4_spreads_9 : decode cX4_spreads 9 = .ok (.iinc 2 1, 3) := dk_132 2 1 (dk_at dksX4_spreads_0 9 rfl rfl)
theorem dX4_spreads_12 : decode cX4_spreads 12 = .ok (.aload_n 0, 1) := dk_42 (dk_at dksX4_spreads_0 12 rfl rfl)
theorem dX4_spreads_13 : decode cX4_spreads 13 = .ok (.getfield 53, 3) := dk_180 0 53 (dk_at dksX4_spreads_0 13 rfl rfl)
theorem dX4_spreads_16 : decode cX4_spreads 16 = .ok (.iload_n 1, 1) := dk_27 (dk_at dksX4_spreads_0 16 rfl rfl)
theorem dX4_spreads_17 : decode cX4_spreads 17 = .ok (.iload_n 1, 1) := dk_27 (dk_at dksX4_spreads_0 17 rfl rfl)
theorem dX4_spreads_18 : decode cX4_spreads 18 = .ok (.iastore, 1) := dk_79 (dk_at dksX4_spreads_0 18 rfl rfl)
theorem dX4_spreads_19 : decode cX4_spreads 19 = .ok (.iconst 0, 1) := dk_3 (dk_at dksX4_spreads_0 19 rfl rfl)
theorem dX4_spreads_20 : decode cX4_spreads 20 = .ok (.istore_n 3, 1) := dk_62 (dk_at dksX4_spreads_0 20 rfl rfl)
theorem dX4_spreads_21 : decode cX4_spreads 21 = .ok (.iload_n 3, 1) := dk_29 (dk_at dksX4_spreads_0 21 rfl rfl)
theorem dX4_spreads_22 : decode cX4_spreads 22 = .ok (.iload_n 2, 1) := dk_28 (dk_at dksX4_spreads_0 22 rfl rfl)
theorem dX4_spreads_23 : decode cX4_spreads 23 = .ok (.if_icmp .ge 117, 3) := dk_162 0 117 (dk_at dksX4_spreads_1 0 rfl rfl)
theorem dX4_spreads_26 : decode cX4_spreads 26 = .ok (.aload_n 0, 1) := dk_42 (dk_at dksX4_spreads_1 3 rfl rfl)
theorem dX4_spreads_27 : decode cX4_spreads 27 = .ok (.getfield 56, 3) := dk_180 0 56 (dk_at dksX4_spreads_1 4 rfl rfl)
theorem dX4_spreads_30 : decode cX4_spreads 30 = .ok (.iload_n 3, 1) := dk_29 (dk_at dksX4_spreads_1 7 rfl rfl)
theorem dX4_spreads_31 : decode cX4_spreads 31 = .ok (.iaload, 1) := dk_46 (dk_at dksX4_spreads_1 8 rfl rfl)
theorem dX4_spreads_32 : decode cX4_spreads 32 = .ok (.bipush 10, 2) := dk_16 10 (dk_at dksX4_spreads_1 9 rfl rfl)
theorem dX4_spreads_34 : decode cX4_spreads 34 = .ok (.irem, 1) := dk_112 (dk_at dksX4_spreads_1 11 rfl rfl)
theorem dX4_spreads_35 : decode cX4_spreads 35 = .ok (.istore 4, 2) := dk_54 4 (dk_at dksX4_spreads_1 12 rfl rfl)
theorem dX4_spreads_37 : decode cX4_spreads 37 = .ok (.aload_n 0, 1) := dk_42 (dk_at dksX4_spreads_1 14 rfl rfl)
theorem dX4_spreads_38 : decode cX4_spreads 38 = .ok (.getfield 56, 3) := dk_180 0 56 (dk_at dksX4_spreads_1 15 rfl rfl)
theorem dX4_spreads_41 : decode cX4_spreads 41 = .ok (.iload_n 3, 1) := dk_29 (dk_at dksX4_spreads_1 18 rfl rfl)
theorem dX4_spreads_42 : decode cX4_spreads 42 = .ok (.iaload, 1) := dk_46 (dk_at dksX4_spreads_1 19 rfl rfl)
theorem dX4_spreads_43 : decode cX4_spreads 43 = .ok (.bipush 10, 2) := dk_16 10 (dk_at dksX4_spreads_1 20 rfl rfl)
theorem dX4_spreads_45 : decode cX4_spreads 45 = .ok (.idiv, 1) := dk_108 (dk_at dksX4_spreads_1 22 rfl rfl)
theorem dX4_spreads_46 : decode cX4_spreads 46 = .ok (.istore 5, 2) := dk_54 5 (dk_at dksX4_spreads_2 0 rfl rfl)
theorem dX4_spreads_48 : decode cX4_spreads 48 = .ok (.iconst 0, 1) := dk_3 (dk_at dksX4_spreads_2 2 rfl rfl)
theorem dX4_spreads_49 : decode cX4_spreads 49 = .ok (.istore 6, 2) := dk_54 6 (dk_at dksX4_spreads_2 3 rfl rfl)
theorem dX4_spreads_51 : decode cX4_spreads 51 = .ok (.iload 6, 2) := dk_21 6 (dk_at dksX4_spreads_2 5 rfl rfl)
theorem dX4_spreads_53 : decode cX4_spreads 53 = .ok (.iconst 4, 1) := dk_7 (dk_at dksX4_spreads_2 7 rfl rfl)
theorem dX4_spreads_54 : decode cX4_spreads 54 = .ok (.if_icmp .ge 80, 3) := dk_162 0 80 (dk_at dksX4_spreads_2 8 rfl rfl)
theorem dX4_spreads_57 : decode cX4_spreads 57 = .ok (.aload_n 0, 1) := dk_42 (dk_at dksX4_spreads_2 11 rfl rfl)
theorem dX4_spreads_58 : decode cX4_spreads 58 = .ok (.iload 4, 2) := dk_21 4 (dk_at dksX4_spreads_2 12 rfl rfl)
theorem dX4_spreads_60 : decode cX4_spreads 60 = .ok (.iload 5, 2) := dk_21 5 (dk_at dksX4_spreads_2 14 rfl rfl)
theorem dX4_spreads_62 : decode cX4_spreads 62 = .ok (.iload 6, 2) := dk_21 6 (dk_at dksX4_spreads_2 16 rfl rfl)
theorem dX4_spreads_64 : decode cX4_spreads 64 = .ok (.invokevirtual 278, 3) := dk_182 1 22 (dk_at dksX4_spreads_2 18 rfl rfl)
theorem dX4_spreads_67 : decode cX4_spreads 67 = .ok (.ifCond .ne 6, 3) := dk_154 0 6 (dk_at dksX4_spreads_2 21 rfl rfl)
theorem dX4_spreads_70 : decode cX4_spreads 70 = .ok (.goto 58, 3) := dk_167 0 58 (dk_at dksX4_spreads_3 0 rfl rfl)
theorem dX4_spreads_73 : decode cX4_spreads 73 = .ok (.bipush 10, 2) := dk_16 10 (dk_at dksX4_spreads_3 3 rfl rfl)
theorem dX4_spreads_75 : decode cX4_spreads 75 = .ok (.iload 5, 2) := dk_21 5 (dk_at dksX4_spreads_3 5 rfl rfl)
theorem dX4_spreads_77 : decode cX4_spreads 77 = .ok (.iload 6, 2) := dk_21 6 (dk_at dksX4_spreads_3 7 rfl rfl)
theorem dX4_spreads_79 : decode cX4_spreads 79 = .ok (.invokestatic 242, 3) := dk_184 0 242 (dk_at dksX4_spreads_3 9 rfl rfl)
theorem dX4_spreads_82 : decode cX4_spreads 82 = .ok (.iadd, 1) := dk_96 (dk_at dksX4_spreads_3 12 rfl rfl)
theorem dX4_spreads_83 : decode cX4_spreads 83 = .ok (.imul, 1) := dk_104 (dk_at dksX4_spreads_3 13 rfl rfl)
theorem dX4_spreads_84 : decode cX4_spreads 84 = .ok (.iload 4, 2) := dk_21 4 (dk_at dksX4_spreads_3 14 rfl rfl)
theorem dX4_spreads_86 : decode cX4_spreads 86 = .ok (.iadd, 1) := dk_96 (dk_at dksX4_spreads_3 16 rfl rfl)
theorem dX4_spreads_87 : decode cX4_spreads 87 = .ok (.iload 6, 2) := dk_21 6 (dk_at dksX4_spreads_3 17 rfl rfl)
theorem dX4_spreads_89 : decode cX4_spreads 89 = .ok (.invokestatic 239, 3) := dk_184 0 239 (dk_at dksX4_spreads_3 19 rfl rfl)
theorem dX4_spreads_92 : decode cX4_spreads 92 = .ok (.iadd, 1) := dk_96 (dk_at dksX4_spreads_3 22 rfl rfl)
theorem dX4_spreads_93 : decode cX4_spreads 93 = .ok (.istore 7, 2) := dk_54 7 (dk_at dksX4_spreads_4 0 rfl rfl)
theorem dX4_spreads_95 : decode cX4_spreads 95 = .ok (.aload_n 0, 1) := dk_42 (dk_at dksX4_spreads_4 2 rfl rfl)
theorem dX4_spreads_96 : decode cX4_spreads 96 = .ok (.getfield 53, 3) := dk_180 0 53 (dk_at dksX4_spreads_4 3 rfl rfl)
theorem dX4_spreads_99 : decode cX4_spreads 99 = .ok (.iload 7, 2) := dk_21 7 (dk_at dksX4_spreads_4 6 rfl rfl)
theorem dX4_spreads_101 : decode cX4_spreads 101 = .ok (.iaload, 1) := dk_46 (dk_at dksX4_spreads_4 8 rfl rfl)
theorem dX4_spreads_102 : decode cX4_spreads 102 = .ok (.iconst (-1), 1) := dk_2 (dk_at dksX4_spreads_4 9 rfl rfl)
theorem dX4_spreads_103 : decode cX4_spreads 103 = .ok (.if_icmp .eq 6, 3) := dk_159 0 6 (dk_at dksX4_spreads_4 10 rfl rfl)
theorem dX4_spreads_106 : decode cX4_spreads 106 = .ok (.goto 22, 3) := dk_167 0 22 (dk_at dksX4_spreads_4 13 rfl rfl)
theorem dX4_spreads_109 : decode cX4_spreads 109 = .ok (.aload_n 0, 1) := dk_42 (dk_at dksX4_spreads_4 16 rfl rfl)
theorem dX4_spreads_110 : decode cX4_spreads 110 = .ok (.getfield 53, 3) := dk_180 0 53 (dk_at dksX4_spreads_4 17 rfl rfl)
theorem dX4_spreads_113 : decode cX4_spreads 113 = .ok (.iload 7, 2) := dk_21 7 (dk_at dksX4_spreads_4 20 rfl rfl)
theorem dX4_spreads_115 : decode cX4_spreads 115 = .ok (.iload_n 1, 1) := dk_27 (dk_at dksX4_spreads_4 22 rfl rfl)
theorem dX4_spreads_116 : decode cX4_spreads 116 = .ok (.iastore, 1) := dk_79 (dk_at dksX4_spreads_4 23 rfl rfl)
theorem dX4_spreads_117 : decode cX4_spreads 117 = .ok (.aload_n 0, 1) := dk_42 (dk_at dksX4_spreads_5 0 rfl rfl)
theorem dX4_spreads_118 : decode cX4_spreads 118 = .ok (.getfield 56, 3) := dk_180 0 56 (dk_at dksX4_spreads_5 1 rfl rfl)
theorem dX4_spreads_121 : decode cX4_spreads 121 = .ok (.iload_n 2, 1) := dk_28 (dk_at dksX4_spreads_5 4 rfl rfl)
theorem dX4_spreads_122 : decode cX4_spreads 122 = .ok (.iload 7, 2) := dk_21 7 (dk_at dksX4_spreads_5 5 rfl rfl)
theorem dX4_spreads_124 : decode cX4_spreads 124 = .ok (.iastore, 1) := dk_79 (dk_at dksX4_spreads_5 7 rfl rfl)
theorem dX4_spreads_125 : decode cX4_spreads 125 = .ok (.iinc 2 1, 3) := dk_132 2 1 (dk_at dksX4_spreads_5 8 rfl rfl)
theorem dX4_spreads_128 : decode cX4_spreads 128 = .ok (.iinc 6 1, 3) := dk_132 6 1 (dk_at dksX4_spreads_5 11 rfl rfl)
theorem dX4_spreads_131 : decode cX4_spreads 131 = .ok (.goto (-80), 3) := dk_167 255 176 (dk_at dksX4_spreads_5 14 rfl rfl)
theorem dX4_spreads_134 : decode cX4_spreads 134 = .ok (.iinc 3 1, 3) := dk_132 3 1 (dk_at dksX4_spreads_5 17 rfl rfl)
theorem dX4_spreads_137 : decode cX4_spreads 137 = .ok (.goto (-116), 3) := dk_167 255 140 (dk_at dksX4_spreads_5 20 rfl rfl)
theorem dX4_spreads_140 : decode cX4_spreads 140 = .ok (.return_, 1) := dk_177 (dk_at dksX4_spreads_5 23 rfl rfl)
abbrev cX4_isOpen : ByteArray := prog_14_method_56_code
def yX4_isOpen : MethodName := ⟨RX4, "isOpen", "(III)Z"⟩
def dkwX4_isOpen_4 : List UInt8 := [167, 0, 4, 3, 172]
abbrev dktX4_isOpen_4 : List UInt8 := dkwX4_isOpen_4 ++ []
def dkwX4_isOpen_3 : List UInt8 := [5, 184, 0, 248, 54, 4, 42, 180, 0, 7, 17, 3, 82, 21, 4, 96, 46, 2, 160, 0, 7, 4]
abbrev dktX4_isOpen_3 : List UInt8 := dkwX4_isOpen_3 ++ dktX4_isOpen_4
def dkwX4_isOpen_2 : List UInt8 := [184, 0, 248, 167, 0, 25, 29, 5, 160, 0, 14, 27, 28, 4, 96, 4, 184, 0, 248, 167, 0, 9, 27, 28]
abbrev dktX4_isOpen_2 : List UInt8 := dkwX4_isOpen_2 ++ dktX4_isOpen_3
def dkwX4_isOpen_1 : List UInt8 := [154, 0, 12, 27, 28, 4, 184, 0, 248, 167, 0, 41, 29, 4, 160, 0, 14, 27, 4, 96, 28, 5]
abbrev dktX4_isOpen_1 : List UInt8 := dkwX4_isOpen_1 ++ dktX4_isOpen_2
def dkwX4_isOpen_0 : List UInt8 := [42, 27, 29, 184, 0, 239, 96, 28, 29, 184, 0, 242, 96, 182, 0, 79, 154, 0, 5, 3, 172, 29]
abbrev dktX4_isOpen_0 : List UInt8 := dkwX4_isOpen_0 ++ dktX4_isOpen_1
theorem dksX4_isOpen_0 : cX4_isOpen.data.toList.drop 0 = dktX4_isOpen_0 := by decide +kernel
theorem dksX4_isOpen_1 : cX4_isOpen.data.toList.drop 22 = dktX4_isOpen_1 := dk_seg dksX4_isOpen_0 22 rfl rfl
theorem dksX4_isOpen_2 : cX4_isOpen.data.toList.drop 44 = dktX4_isOpen_2 := dk_seg dksX4_isOpen_1 22 rfl rfl
theorem dksX4_isOpen_3 : cX4_isOpen.data.toList.drop 68 = dktX4_isOpen_3 := dk_seg dksX4_isOpen_2 24 rfl rfl
theorem dksX4_isOpen_4 : cX4_isOpen.data.toList.drop 90 = dktX4_isOpen_4 := dk_seg dksX4_isOpen_3 22 rfl rfl
theorem dX4_isOpen_0 : decode cX4_isOpen 0 = .ok (.aload_n 0, 1) := dk_42 (dk_at dksX4_isOpen_0 0 rfl rfl)
theorem dX4_isOpen_1 : decode cX4_isOpen 1 = .ok (.iload_n 1, 1) := dk_27 (dk_at dksX4_isOpen_0 1 rfl rfl)
theorem dX4_isOpen_2 : decode cX4_isOpen 2 = .ok (.iload_n 3, 1) := dk_29 (dk_at dksX4_isOpen_0 2 rfl rfl)
theorem dX4_isOpen_3 : decode cX4_isOpen 3 = .ok (.invokestatic 239, 3) := dk_184 0 239 (dk_at dksX4_isOpen_0 3 rfl rfl)
theorem dX4_isOpen_6 : decode cX4_isOpen 6 = .ok (.iadd, 1) := dk_96 (dk_at dksX4_isOpen_0 6 rfl rfl)
theorem dX4_isOpen_7 : decode cX4_isOpen 7 = .ok (.iload_n 2, 1) := dk_28 (dk_at dksX4_isOpen_0 7 rfl rfl)
theorem dX4_isOpen_8 : decode cX4_isOpen 8 = .ok (.iload_n 3, 1) := dk_29 (dk_at dksX4_isOpen_0 8 rfl rfl)
theorem dX4_isOpen_9 : decode cX4_isOpen 9 = .ok (.invokestatic 242, 3) := dk_184 0 242 (dk_at dksX4_isOpen_0 9 rfl rfl)
theorem dX4_isOpen_12 : decode cX4_isOpen 12 = .ok (.iadd, 1) := dk_96 (dk_at dksX4_isOpen_0 12 rfl rfl)
theorem dX4_isOpen_13 : decode cX4_isOpen 13 = .ok (.invokevirtual 79, 3) := dk_182 0 79 (dk_at dksX4_isOpen_0 13 rfl rfl)
theorem dX4_isOpen_16 : decode cX4_isOpen 16 = .ok (.ifCond .ne 5, 3) := dk_154 0 5 (dk_at dksX4_isOpen_0 16 rfl rfl)
theorem dX4_isOpen_19 : decode cX4_isOpen 19 = .ok (.iconst 0, 1) := dk_3 (dk_at dksX4_isOpen_0 19 rfl rfl)
theorem dX4_isOpen_20 : decode cX4_isOpen 20 = .ok (.ireturn, 1) := dk_172 (dk_at dksX4_isOpen_0 20 rfl rfl)
theorem dX4_isOpen_21 : decode cX4_isOpen 21 = .ok (.iload_n 3, 1) := dk_29 (dk_at dksX4_isOpen_0 21 rfl rfl)
theorem dX4_isOpen_22 : decode cX4_isOpen 22 = .ok (.ifCond .ne 12, 3) := dk_154 0 12 (dk_at dksX4_isOpen_1 0 rfl rfl)
theorem dX4_isOpen_25 : decode cX4_isOpen 25 = .ok (.iload_n 1, 1) := dk_27 (dk_at dksX4_isOpen_1 3 rfl rfl)
theorem dX4_isOpen_26 : decode cX4_isOpen 26 = .ok (.iload_n 2, 1) := dk_28 (dk_at dksX4_isOpen_1 4 rfl rfl)
theorem dX4_isOpen_27 : decode cX4_isOpen 27 = .ok (.iconst 1, 1) := dk_4 (dk_at dksX4_isOpen_1 5 rfl rfl)
theorem dX4_isOpen_28 : decode cX4_isOpen 28 = .ok (.invokestatic 248, 3) := dk_184 0 248 (dk_at dksX4_isOpen_1 6 rfl rfl)
theorem dX4_isOpen_31 : decode cX4_isOpen 31 = .ok (.goto 41, 3) := dk_167 0 41 (dk_at dksX4_isOpen_1 9 rfl rfl)
theorem dX4_isOpen_34 : decode cX4_isOpen 34 = .ok (.iload_n 3, 1) := dk_29 (dk_at dksX4_isOpen_1 12 rfl rfl)
theorem dX4_isOpen_35 : decode cX4_isOpen 35 = .ok (.iconst 1, 1) := dk_4 (dk_at dksX4_isOpen_1 13 rfl rfl)
theorem dX4_isOpen_36 : decode cX4_isOpen 36 = .ok (.if_icmp .ne 14, 3) := dk_160 0 14 (dk_at dksX4_isOpen_1 14 rfl rfl)
theorem dX4_isOpen_39 : decode cX4_isOpen 39 = .ok (.iload_n 1, 1) := dk_27 (dk_at dksX4_isOpen_1 17 rfl rfl)
theorem dX4_isOpen_40 : decode cX4_isOpen 40 = .ok (.iconst 1, 1) := dk_4 (dk_at dksX4_isOpen_1 18 rfl rfl)
theorem dX4_isOpen_41 : decode cX4_isOpen 41 = .ok (.iadd, 1) := dk_96 (dk_at dksX4_isOpen_1 19 rfl rfl)
theorem dX4_isOpen_42 : decode cX4_isOpen 42 = .ok (.iload_n 2, 1) := dk_28 (dk_at dksX4_isOpen_1 20 rfl rfl)
theorem dX4_isOpen_43 : decode cX4_isOpen 43 = .ok (.iconst 2, 1) := dk_5 (dk_at dksX4_isOpen_1 21 rfl rfl)
theorem dX4_isOpen_44 : decode cX4_isOpen 44 = .ok (.invokestatic 248, 3) := dk_184 0 248 (dk_at dksX4_isOpen_2 0 rfl rfl)
theorem dX4_isOpen_47 : decode cX4_isOpen 47 = .ok (.goto 25, 3) := dk_167 0 25 (dk_at dksX4_isOpen_2 3 rfl rfl)
theorem dX4_isOpen_50 : decode cX4_isOpen 50 = .ok (.iload_n 3, 1) := dk_29 (dk_at dksX4_isOpen_2 6 rfl rfl)
theorem dX4_isOpen_51 : decode cX4_isOpen 51 = .ok (.iconst 2, 1) := dk_5 (dk_at dksX4_isOpen_2 7 rfl rfl)
theorem dX4_isOpen_52 : decode cX4_isOpen 52 = .ok (.if_icmp .ne 14, 3) := dk_160 0 14 (dk_at dksX4_isOpen_2 8 rfl rfl)
theorem dX4_isOpen_55 : decode cX4_isOpen 55 = .ok (.iload_n 1, 1) := dk_27 (dk_at dksX4_isOpen_2 11 rfl rfl)
theorem dX4_isOpen_56 : decode cX4_isOpen 56 = .ok (.iload_n 2, 1) := dk_28 (dk_at dksX4_isOpen_2 12 rfl rfl)
theorem dX4_isOpen_57 : decode cX4_isOpen 57 = .ok (.iconst 1, 1) := dk_4 (dk_at dksX4_isOpen_2 13 rfl rfl)
theorem dX4_isOpen_58 : decode cX4_isOpen 58 = .ok (.iadd, 1) := dk_96 (dk_at dksX4_isOpen_2 14 rfl rfl)
theorem dX4_isOpen_59 : decode cX4_isOpen 59 = .ok (.iconst 1, 1) := dk_4 (dk_at dksX4_isOpen_2 15 rfl rfl)
theorem dX4_isOpen_60 : decode cX4_isOpen 60 = .ok (.invokestatic 248, 3) := dk_184 0 248 (dk_at dksX4_isOpen_2 16 rfl rfl)
theorem dX4_isOpen_63 : decode cX4_isOpen 63 = .ok (.goto 9, 3) := dk_167 0 9 (dk_at dksX4_isOpen_2 19 rfl rfl)
theorem dX4_isOpen_66 : decode cX4_isOpen 66 = .ok (.iload_n 1, 1) := dk_27 (dk_at dksX4_isOpen_2 22 rfl rfl)
theorem dX4_isOpen_67 : decode cX4_isOpen 67 = .ok (.iload_n 2, 1) := dk_28 (dk_at dksX4_isOpen_2 23 rfl rfl)
theorem dX4_isOpen_68 : decode cX4_isOpen 68 = .ok (.iconst 2, 1) := dk_5 (dk_at dksX4_isOpen_3 0 rfl rfl)
theorem dX4_isOpen_69 : decode cX4_isOpen 69 = .ok (.invokestatic 248, 3) := dk_184 0 248 (dk_at dksX4_isOpen_3 1 rfl rfl)
theorem dX4_isOpen_72 : decode cX4_isOpen 72 = .ok (.istore 4, 2) := dk_54 4 (dk_at dksX4_isOpen_3 4 rfl rfl)
theorem dX4_isOpen_74 : decode cX4_isOpen 74 = .ok (.aload_n 0, 1) := dk_42 (dk_at dksX4_isOpen_3 6 rfl rfl)
theorem dX4_isOpen_75 : decode cX4_isOpen 75 = .ok (.getfield 7, 3) := dk_180 0 7 (dk_at dksX4_isOpen_3 7 rfl rfl)
theorem dX4_isOpen_78 : decode cX4_isOpen 78 = .ok (.sipush 850, 3) := dk_17 3 82 (dk_at dksX4_isOpen_3 10 rfl rfl)
theorem dX4_isOpen_81 : decode cX4_isOpen 81 = .ok (.iload 4, 2) := dk_21 4 (dk_at dksX4_isOpen_3 13 rfl rfl)
theorem dX4_isOpen_83 : decode cX4_isOpen 83 = .ok (.iadd, 1) := dk_96 (dk_at dksX4_isOpen_3 15 rfl rfl)
theorem dX4_isOpen_84 : decode cX4_isOpen 84 = .ok (.iaload, 1) := dk_46 (dk_at dksX4_isOpen_3 16 rfl rfl)
theorem dX4_isOpen_85 : decode cX4_isOpen 85 = .ok (.iconst (-1), 1) := dk_2 (dk_at dksX4_isOpen_3 17 rfl rfl)
theorem dX4_isOpen_86 : decode cX4_isOpen 86 = .ok (.if_icmp .ne 7, 3) := dk_160 0 7 (dk_at dksX4_isOpen_3 18 rfl rfl)
theorem dX4_isOpen_89 : decode cX4_isOpen 89 = .ok (.iconst 1, 1) := dk_4 (dk_at dksX4_isOpen_3 21 rfl rfl)
theorem dX4_isOpen_90 : decode cX4_isOpen 90 = .ok (.goto 4, 3) := dk_167 0 4 (dk_at dksX4_isOpen_4 0 rfl rfl)
theorem dX4_isOpen_93 : decode cX4_isOpen 93 = .ok (.iconst 0, 1) := dk_3 (dk_at dksX4_isOpen_4 3 rfl rfl)
theorem dX4_isOpen_94 : decode cX4_isOpen 94 = .ok (.ireturn, 1) := dk_172 (dk_at dksX4_isOpen_4 4 rfl rfl)
abbrev cX4_spring : ByteArray := prog_14_method_60_code
def yX4_spring : MethodName := ⟨RX4, "spring", "()I"⟩
def dkwX4_spring_3 : List UInt8 := [182, 1, 40, 60, 42, 180, 0, 7, 6, 92, 46, 4, 96, 79, 27, 172]
abbrev dktX4_spring_3 : List UInt8 := dkwX4_spring_3 ++ []
def dkwX4_spring_2 : List UInt8 := [4, 160, 0, 8, 16, 40, 167, 0, 5, 16, 10, 182, 1, 37, 79, 132, 1, 1, 167, 255, 206, 42]
abbrev dktX4_spring_2 : List UInt8 := dkwX4_spring_2 ++ dktX4_spring_3
def dkwX4_spring_1 : List UInt8 := [182, 0, 85, 153, 0, 36, 42, 180, 0, 7, 16, 20, 27, 96, 42, 42, 180, 0, 7, 16, 120, 27, 96, 46]
abbrev dktX4_spring_1 : List UInt8 := dkwX4_spring_1 ++ dktX4_spring_2
def dkwX4_spring_0 : List UInt8 := [42, 180, 0, 7, 6, 46, 17, 39, 15, 160, 0, 5, 2, 172, 3, 60, 27, 16, 100, 162, 0, 50, 42, 27]
abbrev dktX4_spring_0 : List UInt8 := dkwX4_spring_0 ++ dktX4_spring_1
theorem dksX4_spring_0 : cX4_spring.data.toList.drop 0 = dktX4_spring_0 := by decide +kernel
theorem dksX4_spring_1 : cX4_spring.data.toList.drop 24 = dktX4_spring_1 := dk_seg dksX4_spring_0 24 rfl rfl
theorem dksX4_spring_2 : cX4_spring.data.toList.drop 48 = dktX4_spring_2 := dk_seg dksX4_spring_1 24 rfl rfl
theorem dksX4_spring_3 : cX4_spring.data.toList.drop 70 = dktX4_spring_3 := dk_seg dksX4_spring_2 22 rfl rfl
theorem dX4_spring_0 : decode cX4_spring 0 = .ok (.aload_n 0, 1) := dk_42 (dk_at dksX4_spring_0 0 rfl rfl)
theorem dX4_spring_1 : decode cX4_spring 1 = .ok (.getfield 7, 3) := dk_180 0 7 (dk_at dksX4_spring_0 1 rfl rfl)
theorem dX4_spring_4 : decode cX4_spring 4 = .ok (.iconst 3, 1) := dk_6 (dk_at dksX4_spring_0 4 rfl rfl)
theorem dX4_spring_5 : decode cX4_spring 5 = .ok (.iaload, 1) := dk_46 (dk_at dksX4_spring_0 5 rfl rfl)
theorem dX4_spring_6 : decode cX4_spring 6 = .ok (.sipush 9999, 3) := dk_17 39 15 (dk_at dksX4_spring_0 6 rfl rfl)
theorem dX4_spring_9 : decode cX4_spring 9 = .ok (.if_icmp .ne 5, 3) := dk_160 0 5 (dk_at dksX4_spring_0 9 rfl rfl)
theorem dX4_spring_12 : decode cX4_spring 12 = .ok (.iconst (-1), 1) := dk_2 (dk_at dksX4_spring_0 12 rfl rfl)
theorem dX4_spring_13 : decode cX4_spring 13 = .ok (.ireturn, 1) := dk_172 (dk_at dksX4_spring_0 13 rfl rfl)
theorem dX4_spring_14 : decode cX4_spring 14 = .ok (.iconst 0, 1) := dk_3 (dk_at dksX4_spring_0 14 rfl rfl)
theorem dX4_spring_15 : decode cX4_spring 15 = .ok (.istore_n 1, 1) := dk_60 (dk_at dksX4_spring_0 15 rfl rfl)
theorem dX4_spring_16 : decode cX4_spring 16 = .ok (.iload_n 1, 1) := dk_27 (dk_at dksX4_spring_0 16 rfl rfl)
theorem dX4_spring_17 : decode cX4_spring 17 = .ok (.bipush 100, 2) := dk_16 100 (dk_at dksX4_spring_0 17 rfl rfl)
theorem dX4_spring_19 : decode cX4_spring 19 = .ok (.if_icmp .ge 50, 3) := dk_162 0 50 (dk_at dksX4_spring_0 19 rfl rfl)
theorem dX4_spring_22 : decode cX4_spring 22 = .ok (.aload_n 0, 1) := dk_42 (dk_at dksX4_spring_0 22 rfl rfl)
theorem dX4_spring_23 : decode cX4_spring 23 = .ok (.iload_n 1, 1) := dk_27 (dk_at dksX4_spring_0 23 rfl rfl)
theorem dX4_spring_24 : decode cX4_spring 24 = .ok (.invokevirtual 85, 3) := dk_182 0 85 (dk_at dksX4_spring_1 0 rfl rfl)
theorem dX4_spring_27 : decode cX4_spring 27 = .ok (.ifCond .eq 36, 3) := dk_153 0 36 (dk_at dksX4_spring_1 3 rfl rfl)
theorem dX4_spring_30 : decode cX4_spring 30 = .ok (.aload_n 0, 1) := dk_42 (dk_at dksX4_spring_1 6 rfl rfl)
theorem dX4_spring_31 : decode cX4_spring 31 = .ok (.getfield 7, 3) := dk_180 0 7 (dk_at dksX4_spring_1 7 rfl rfl)
theorem dX4_spring_34 : decode cX4_spring 34 = .ok (.bipush 20, 2) := dk_16 20 (dk_at dksX4_spring_1 10 rfl rfl)
theorem dX4_spring_36 : decode cX4_spring 36 = .ok (.iload_n 1, 1) := dk_27 (dk_at dksX4_spring_1 12 rfl rfl)
theorem dX4_spring_37 : decode cX4_spring 37 = .ok (.iadd, 1) := dk_96 (dk_at dksX4_spring_1 13 rfl rfl)
theorem dX4_spring_38 : decode cX4_spring 38 = .ok (.aload_n 0, 1) := dk_42 (dk_at dksX4_spring_1 14 rfl rfl)
theorem dX4_spring_39 : decode cX4_spring 39 = .ok (.aload_n 0, 1) := dk_42 (dk_at dksX4_spring_1 15 rfl rfl)
theorem dX4_spring_40 : decode cX4_spring 40 = .ok (.getfield 7, 3) := dk_180 0 7 (dk_at dksX4_spring_1 16 rfl rfl)
theorem dX4_spring_43 : decode cX4_spring 43 = .ok (.bipush 120, 2) := dk_16 120 (dk_at dksX4_spring_1 19 rfl rfl)
theorem dX4_spring_45 : decode cX4_spring 45 = .ok (.iload_n 1, 1) := dk_27 (dk_at dksX4_spring_1 21 rfl rfl)
theorem dX4_spring_46 : decode cX4_spring 46 = .ok (.iadd, 1) := dk_96 (dk_at dksX4_spring_1 22 rfl rfl)
theorem dX4_spring_47 : decode cX4_spring 47 = .ok (.iaload, 1) := dk_46 (dk_at dksX4_spring_1 23 rfl rfl)
theorem dX4_spring_48 : decode cX4_spring 48 = .ok (.iconst 1, 1) := dk_4 (dk_at dksX4_spring_2 0 rfl rfl)
theorem dX4_spring_49 : decode cX4_spring 49 = .ok (.if_icmp .ne 8, 3) := dk_160 0 8 (dk_at dksX4_spring_2 1 rfl rfl)
theorem dX4_spring_52 : decode cX4_spring 52 = .ok (.bipush 40, 2) := dk_16 40 (dk_at dksX4_spring_2 4 rfl rfl)
theorem dX4_spring_54 : decode cX4_spring 54 = .ok (.goto 5, 3) := dk_167 0 5 (dk_at dksX4_spring_2 6 rfl rfl)
theorem dX4_spring_57 : decode cX4_spring 57 = .ok (.bipush 10, 2) := dk_16 10 (dk_at dksX4_spring_2 9 rfl rfl)
theorem dX4_spring_59 : decode cX4_spring 59 = .ok (.invokevirtual 293, 3) := dk_182 1 37 (dk_at dksX4_spring_2 11 rfl rfl)
theorem dX4_spring_62 : decode cX4_spring 62 = .ok (.iastore, 1) := dk_79 (dk_at dksX4_spring_2 14 rfl rfl)
theorem dX4_spring_63 : decode cX4_spring 63 = .ok (.iinc 1 1, 3) := dk_132 1 1 (dk_at dksX4_spring_2 15 rfl rfl)
theorem dX4_spring_66 : decode cX4_spring 66 = .ok (.goto (-50), 3) := dk_167 255 206 (dk_at dksX4_spring_2 18 rfl rfl)
theorem dX4_spring_69 : decode cX4_spring 69 = .ok (.aload_n 0, 1) := dk_42 (dk_at dksX4_spring_2 21 rfl rfl)
theorem dX4_spring_70 : decode cX4_spring 70 = .ok (.invokevirtual 296, 3) := dk_182 1 40 (dk_at dksX4_spring_3 0 rfl rfl)
theorem dX4_spring_73 : decode cX4_spring 73 = .ok (.istore_n 1, 1) := dk_60 (dk_at dksX4_spring_3 3 rfl rfl)
theorem dX4_spring_74 : decode cX4_spring 74 = .ok (.aload_n 0, 1) := dk_42 (dk_at dksX4_spring_3 4 rfl rfl)
theorem dX4_spring_75 : decode cX4_spring 75 = .ok (.getfield 7, 3) := dk_180 0 7 (dk_at dksX4_spring_3 5 rfl rfl)
theorem dX4_spring_78 : decode cX4_spring 78 = .ok (.iconst 3, 1) := dk_6 (dk_at dksX4_spring_3 8 rfl rfl)
theorem dX4_spring_79 : decode cX4_spring 79 = .ok (.dup2, 1) := dk_92 (dk_at dksX4_spring_3 9 rfl rfl)
theorem dX4_spring_80 : decode cX4_spring 80 = .ok (.iaload, 1) := dk_46 (dk_at dksX4_spring_3 10 rfl rfl)
theorem dX4_spring_81 : decode cX4_spring 81 = .ok (.iconst 1, 1) := dk_4 (dk_at dksX4_spring_3 11 rfl rfl)
theorem dX4_spring_82 : decode cX4_spring 82 = .ok (.iadd, 1) := dk_96 (dk_at dksX4_spring_3 12 rfl rfl)
theorem dX4_spring_83 : decode cX4_spring 83 = .ok (.iastore, 1) := dk_79 (dk_at dksX4_spring_3 13 rfl rfl)
theorem dX4_spring_84 : decode cX4_spring 84 = .ok (.iload_n 1, 1) := dk_27 (dk_at dksX4_spring_3 14 rfl rfl)
theorem dX4_spring_85 : decode cX4_spring 85 = .ok (.ireturn, 1) := dk_172 (dk_at dksX4_spring_3 15 rfl rfl)
abbrev cX4_draw : ByteArray := prog_14_method_9_code
def yX4_draw : MethodName := ⟨RX4, "draw", "(I)I"⟩
def dkwX4_draw_1 : List UInt8 := [16, 8, 124, 27, 112, 172]
abbrev dktX4_draw_1 : List UInt8 := dkwX4_draw_1 ++ []
def dkwX4_draw_0 : List UInt8 := [42, 180, 0, 7, 5, 18, 83, 42, 180, 0, 7, 5, 46, 104, 18, 84, 96, 79, 42, 180, 0, 7, 5, 46]
abbrev dktX4_draw_0 : List UInt8 := dkwX4_draw_0 ++ dktX4_draw_1
theorem dksX4_draw_0 : cX4_draw.data.toList.drop 0 = dktX4_draw_0 := by decide +kernel
theorem dksX4_draw_1 : cX4_draw.data.toList.drop 24 = dktX4_draw_1 := dk_seg dksX4_draw_0 24 rfl rfl
theorem dX4_draw_0 : decode cX4_draw 0 = .ok (.aload_n 0, 1) := dk_42 (dk_at dksX4_draw_0 0 rfl rfl)
theorem dX4_draw_1 : decode cX4_draw 1 = .ok (.getfield 7, 3) := dk_180 0 7 (dk_at dksX4_draw_0 1 rfl rfl)
theorem dX4_draw_4 : decode cX4_draw 4 = .ok (.iconst 2, 1) := dk_5 (dk_at dksX4_draw_0 4 rfl rfl)
theorem dX4_draw_5 : decode cX4_draw 5 = .ok (.ldc 83, 2) := dk_18 83 (dk_at dksX4_draw_0 5 rfl rfl)
theorem dX4_draw_7 : decode cX4_draw 7 = .ok (.aload_n 0, 1) := dk_42 (dk_at dksX4_draw_0 7 rfl rfl)
theorem dX4_draw_8 : decode cX4_draw 8 = .ok (.getfield 7, 3) := dk_180 0 7 (dk_at dksX4_draw_0 8 rfl rfl)
theorem dX4_draw_11 : decode cX4_draw 11 = .ok (.iconst 2, 1) := dk_5 (dk_at dksX4_draw_0 11 rfl rfl)
theorem dX4_draw_12 : decode cX4_draw 12 = .ok (.iaload, 1) := dk_46 (dk_at dksX4_draw_0 12 rfl rfl)
theorem dX4_draw_13 : decode cX4_draw 13 = .ok (.imul, 1) := dk_104 (dk_at dksX4_draw_0 13 rfl rfl)
theorem dX4_draw_14 : decode cX4_draw 14 = .ok (.ldc 84, 2) := dk_18 84 (dk_at dksX4_draw_0 14 rfl rfl)
theorem dX4_draw_16 : decode cX4_draw 16 = .ok (.iadd, 1) := dk_96 (dk_at dksX4_draw_0 16 rfl rfl)
theorem dX4_draw_17 : decode cX4_draw 17 = .ok (.iastore, 1) := dk_79 (dk_at dksX4_draw_0 17 rfl rfl)
theorem dX4_draw_18 : decode cX4_draw 18 = .ok (.aload_n 0, 1) := dk_42 (dk_at dksX4_draw_0 18 rfl rfl)
theorem dX4_draw_19 : decode cX4_draw 19 = .ok (.getfield 7, 3) := dk_180 0 7 (dk_at dksX4_draw_0 19 rfl rfl)
theorem dX4_draw_22 : decode cX4_draw 22 = .ok (.iconst 2, 1) := dk_5 (dk_at dksX4_draw_0 22 rfl rfl)
theorem dX4_draw_23 : decode cX4_draw 23 = .ok (.iaload, 1) := dk_46 (dk_at dksX4_draw_0 23 rfl rfl)
theorem dX4_draw_24 : decode cX4_draw 24 = .ok (.bipush 8, 2) := dk_16 8 (dk_at dksX4_draw_1 0 rfl rfl)
theorem dX4_draw_26 : decode cX4_draw 26 = .ok (.iushr, 1) := dk_124 (dk_at dksX4_draw_1 2 rfl rfl)
theorem dX4_draw_27 : decode cX4_draw 27 = .ok (.iload_n 1, 1) := dk_27 (dk_at dksX4_draw_1 3 rfl rfl)
theorem dX4_draw_28 : decode cX4_draw 28 = .ok (.irem, 1) := dk_112 (dk_at dksX4_draw_1 4 rfl rfl)
theorem dX4_draw_29 : decode cX4_draw 29 = .ok (.ireturn, 1) := dk_172 (dk_at dksX4_draw_1 5 rfl rfl)
abbrev cX4_of : ByteArray := prog_14_method_61_code
def yX4_of : MethodName := ⟨RX4, "of", "(II)I"⟩
def dkwX4_of_8 : List UInt8 := [167, 0, 4, 3, 96, 62, 132, 4, 1, 167, 255, 222, 29, 172]
abbrev dktX4_of_8 : List UInt8 := dkwX4_of_8 ++ []
def dkwX4_of_7 : List UInt8 := [16, 100, 162, 0, 33, 29, 42, 180, 0, 53, 21, 4, 46, 42, 180, 0, 53, 27, 46, 160, 0, 7, 4]
abbrev dktX4_of_7 : List UInt8 := dkwX4_of_7 ++ dktX4_of_8
def dkwX4_of_6 : List UInt8 := [172, 42, 182, 1, 34, 28, 8, 160, 0, 10, 42, 180, 0, 53, 27, 46, 172, 3, 62, 3, 54, 4, 21, 4]
abbrev dktX4_of_6 : List UInt8 := dkwX4_of_6 ++ dktX4_of_7
def dkwX4_of_5 : List UInt8 := [180, 0, 7, 17, 2, 108, 27, 96, 46, 167, 0, 4, 3, 172, 42, 180, 0, 7, 17, 1, 164, 27, 96, 46]
abbrev dktX4_of_5 : List UInt8 := dkwX4_of_5 ++ dktX4_of_6
def dkwX4_of_4 : List UInt8 := [17, 1, 64, 27, 96, 46, 172, 42, 180, 0, 7, 17, 0, 220, 27, 96, 46, 4, 160, 0, 16, 42]
abbrev dktX4_of_4 : List UInt8 := dkwX4_of_4 ++ dktX4_of_5
def dkwX4_of_3 : List UInt8 := [180, 0, 7, 16, 120, 27, 96, 46, 172, 42, 180, 0, 7, 17, 0, 220, 27, 96, 46, 172, 42, 180, 0, 7]
abbrev dktX4_of_3 : List UInt8 := dkwX4_of_3 ++ dktX4_of_4
def dkwX4_of_2 : List UInt8 := [42, 180, 0, 7, 16, 20, 27, 96, 46, 172, 42, 27, 16, 10, 112, 27, 16, 10, 108, 182, 0, 245, 172, 42]
abbrev dktX4_of_2 : List UInt8 := dkwX4_of_2 ++ dktX4_of_3
def dkwX4_of_1 : List UInt8 := [170, 0, 0, 0, 0, 0, 146, 0, 0, 0, 0, 0, 0, 0, 8, 0, 0, 0, 51, 0, 0, 0, 61, 0, 0, 0, 74, 0, 0, 0, 84, 0, 0, 0, 95, 0, 0, 0, 146, 0, 0, 0, 146, 0, 0, 0, 106, 0, 0, 0, 135]
abbrev dktX4_of_1 : List UInt8 := dkwX4_of_1 ++ dktX4_of_2
def dkwX4_of_0 : List UInt8 := [42, 27, 182, 0, 85, 153, 0, 13, 28, 3, 16, 8, 184, 0, 75, 154, 0, 5, 2, 172, 28]
abbrev dktX4_of_0 : List UInt8 := dkwX4_of_0 ++ dktX4_of_1
theorem dksX4_of_0 : cX4_of.data.toList.drop 0 = dktX4_of_0 := by decide +kernel
theorem dksX4_of_1 : cX4_of.data.toList.drop 21 = dktX4_of_1 := dk_seg dksX4_of_0 21 rfl rfl
theorem dksX4_of_2 : cX4_of.data.toList.drop 72 = dktX4_of_2 := dk_seg dksX4_of_1 51 rfl rfl
theorem dksX4_of_3 : cX4_of.data.toList.drop 96 = dktX4_of_3 := dk_seg dksX4_of_2 24 rfl rfl
theorem dksX4_of_4 : cX4_of.data.toList.drop 120 = dktX4_of_4 := dk_seg dksX4_of_3 24 rfl rfl
theorem dksX4_of_5 : cX4_of.data.toList.drop 142 = dktX4_of_5 := dk_seg dksX4_of_4 22 rfl rfl
theorem dksX4_of_6 : cX4_of.data.toList.drop 166 = dktX4_of_6 := dk_seg dksX4_of_5 24 rfl rfl
theorem dksX4_of_7 : cX4_of.data.toList.drop 190 = dktX4_of_7 := dk_seg dksX4_of_6 24 rfl rfl
theorem dksX4_of_8 : cX4_of.data.toList.drop 213 = dktX4_of_8 := dk_seg dksX4_of_7 23 rfl rfl
theorem dX4_of_0 : decode cX4_of 0 = .ok (.aload_n 0, 1) := dk_42 (dk_at dksX4_of_0 0 rfl rfl)
theorem dX4_of_1 : decode cX4_of 1 = .ok (.iload_n 1, 1) := dk_27 (dk_at dksX4_of_0 1 rfl rfl)
theorem dX4_of_2 : decode cX4_of 2 = .ok (.invokevirtual 85, 3) := dk_182 0 85 (dk_at dksX4_of_0 2 rfl rfl)
theorem dX4_of_5 : decode cX4_of 5 = .ok (.ifCond .eq 13, 3) := dk_153 0 13 (dk_at dksX4_of_0 5 rfl rfl)
theorem dX4_of_8 : decode cX4_of 8 = .ok (.iload_n 2, 1) := dk_28 (dk_at dksX4_of_0 8 rfl rfl)
theorem dX4_of_9 : decode cX4_of 9 = .ok (.iconst 0, 1) := dk_3 (dk_at dksX4_of_0 9 rfl rfl)
theorem dX4_of_10 : decode cX4_of 10 = .ok (.bipush 8, 2) := dk_16 8 (dk_at dksX4_of_0 10 rfl rfl)
theorem dX4_of_12 : decode cX4_of 12 = .ok (.invokestatic 75, 3) := dk_184 0 75 (dk_at dksX4_of_0 12 rfl rfl)
theorem dX4_of_15 : decode cX4_of 15 = .ok (.ifCond .ne 5, 3) := dk_154 0 5 (dk_at dksX4_of_0 15 rfl rfl)
theorem dX4_of_18 : decode cX4_of 18 = .ok (.iconst (-1), 1) := dk_2 (dk_at dksX4_of_0 18 rfl rfl)
theorem dX4_of_19 : decode cX4_of 19 = .ok (.ireturn, 1) := dk_172 (dk_at dksX4_of_0 19 rfl rfl)
theorem dX4_of_20 : decode cX4_of 20 = .ok (.iload_n 2, 1) := dk_28 (dk_at dksX4_of_0 20 rfl rfl)
theorem dX4_of_21 : decode cX4_of 21 = .ok (.tableswitch 146 0 8 #[51, 61, 74, 84, 95, 146, 146, 106, 135], 51) := by decide +kernel
theorem dX4_of_72 : decode cX4_of 72 = .ok (.aload_n 0, 1) := dk_42 (dk_at dksX4_of_2 0 rfl rfl)
theorem dX4_of_73 : decode cX4_of 73 = .ok (.getfield 7, 3) := dk_180 0 7 (dk_at dksX4_of_2 1 rfl rfl)
theorem dX4_of_76 : decode cX4_of 76 = .ok (.bipush 20, 2) := dk_16 20 (dk_at dksX4_of_2 4 rfl rfl)
theorem dX4_of_78 : decode cX4_of 78 = .ok (.iload_n 1, 1) := dk_27 (dk_at dksX4_of_2 6 rfl rfl)
theorem dX4_of_79 : decode cX4_of 79 = .ok (.iadd, 1) := dk_96 (dk_at dksX4_of_2 7 rfl rfl)
theorem dX4_of_80 : decode cX4_of 80 = .ok (.iaload, 1) := dk_46 (dk_at dksX4_of_2 8 rfl rfl)
theorem dX4_of_81 : decode cX4_of 81 = .ok (.ireturn, 1) := dk_172 (dk_at dksX4_of_2 9 rfl rfl)
theorem dX4_of_82 : decode cX4_of 82 = .ok (.aload_n 0, 1) := dk_42 (dk_at dksX4_of_2 10 rfl rfl)
theorem dX4_of_83 : decode cX4_of 83 = .ok (.iload_n 1, 1) := dk_27 (dk_at dksX4_of_2 11 rfl rfl)
theorem dX4_of_84 : decode cX4_of 84 = .ok (.bipush 10, 2) := dk_16 10 (dk_at dksX4_of_2 12 rfl rfl)
theorem dX4_of_86 : decode cX4_of 86 = .ok (.irem, 1) := dk_112 (dk_at dksX4_of_2 14 rfl rfl)
theorem dX4_of_87 : decode cX4_of 87 = .ok (.iload_n 1, 1) := dk_27 (dk_at dksX4_of_2 15 rfl rfl)
theorem dX4_of_88 : decode cX4_of 88 = .ok (.bipush 10, 2) := dk_16 10 (dk_at dksX4_of_2 16 rfl rfl)
theorem dX4_of_90 : decode cX4_of 90 = .ok (.idiv, 1) := dk_108 (dk_at dksX4_of_2 18 rfl rfl)
theorem dX4_of_91 : decode cX4_of 91 = .ok (.invokevirtual 245, 3) := dk_182 0 245 (dk_at dksX4_of_2 19 rfl rfl)
theorem dX4_of_94 : decode cX4_of 94 = .ok (.ireturn, 1) := dk_172 (dk_at dksX4_of_2 22 rfl rfl)
theorem dX4_of_95 : decode cX4_of 95 = .ok (.aload_n 0, 1) := dk_42 (dk_at dksX4_of_2 23 rfl rfl)
theorem dX4_of_96 : decode cX4_of 96 = .ok (.getfield 7, 3) := dk_180 0 7 (dk_at dksX4_of_3 0 rfl rfl)
theorem dX4_of_99 : decode cX4_of 99 = .ok (.bipush 120, 2) := dk_16 120 (dk_at dksX4_of_3 3 rfl rfl)
theorem dX4_of_101 : decode cX4_of 101 = .ok (.iload_n 1, 1) := dk_27 (dk_at dksX4_of_3 5 rfl rfl)
theorem dX4_of_102 : decode cX4_of 102 = .ok (.iadd, 1) := dk_96 (dk_at dksX4_of_3 6 rfl rfl)
theorem dX4_of_103 : decode cX4_of 103 = .ok (.iaload, 1) := dk_46 (dk_at dksX4_of_3 7 rfl rfl)
theorem dX4_of_104 : decode cX4_of 104 = .ok (.ireturn, 1) := dk_172 (dk_at dksX4_of_3 8 rfl rfl)
theorem dX4_of_105 : decode cX4_of 105 = .ok (.aload_n 0, 1) := dk_42 (dk_at dksX4_of_3 9 rfl rfl)
theorem dX4_of_106 : decode cX4_of 106 = .ok (.getfield 7, 3) := dk_180 0 7 (dk_at dksX4_of_3 10 rfl rfl)
theorem dX4_of_109 : decode cX4_of 109 = .ok (.sipush 220, 3) := dk_17 0 220 (dk_at dksX4_of_3 13 rfl rfl)
theorem dX4_of_112 : decode cX4_of 112 = .ok (.iload_n 1, 1) := dk_27 (dk_at dksX4_of_3 16 rfl rfl)
theorem dX4_of_113 : decode cX4_of 113 = .ok (.iadd, 1) := dk_96 (dk_at dksX4_of_3 17 rfl rfl)
theorem dX4_of_114 : decode cX4_of 114 = .ok (.iaload, 1) := dk_46 (dk_at dksX4_of_3 18 rfl rfl)
theorem dX4_of_115 : decode cX4_of 115 = .ok (.ireturn, 1) := dk_172 (dk_at dksX4_of_3 19 rfl rfl)
theorem dX4_of_116 : decode cX4_of 116 = .ok (.aload_n 0, 1) := dk_42 (dk_at dksX4_of_3 20 rfl rfl)
theorem dX4_of_117 : decode cX4_of 117 = .ok (.getfield 7, 3) := dk_180 0 7 (dk_at dksX4_of_3 21 rfl rfl)
theorem dX4_of_120 : decode cX4_of 120 = .ok (.sipush 320, 3) := dk_17 1 64 (dk_at dksX4_of_4 0 rfl rfl)
theorem dX4_of_123 : decode cX4_of 123 = .ok (.iload_n 1, 1) := dk_27 (dk_at dksX4_of_4 3 rfl rfl)
theorem dX4_of_124 : decode cX4_of 124 = .ok (.iadd, 1) := dk_96 (dk_at dksX4_of_4 4 rfl rfl)
theorem dX4_of_125 : decode cX4_of 125 = .ok (.iaload, 1) := dk_46 (dk_at dksX4_of_4 5 rfl rfl)
theorem dX4_of_126 : decode cX4_of 126 = .ok (.ireturn, 1) := dk_172 (dk_at dksX4_of_4 6 rfl rfl)
theorem dX4_of_127 : decode cX4_of 127 = .ok (.aload_n 0, 1) := dk_42 (dk_at dksX4_of_4 7 rfl rfl)
theorem dX4_of_128 : decode cX4_of 128 = .ok (.getfield 7, 3) := dk_180 0 7 (dk_at dksX4_of_4 8 rfl rfl)
theorem dX4_of_131 : decode cX4_of 131 = .ok (.sipush 220, 3) := dk_17 0 220 (dk_at dksX4_of_4 11 rfl rfl)
theorem dX4_of_134 : decode cX4_of 134 = .ok (.iload_n 1, 1) := dk_27 (dk_at dksX4_of_4 14 rfl rfl)
theorem dX4_of_135 : decode cX4_of 135 = .ok (.iadd, 1) := dk_96 (dk_at dksX4_of_4 15 rfl rfl)
theorem dX4_of_136 : decode cX4_of 136 = .ok (.iaload, 1) := dk_46 (dk_at dksX4_of_4 16 rfl rfl)
theorem dX4_of_137 : decode cX4_of 137 = .ok (.iconst 1, 1) := dk_4 (dk_at dksX4_of_4 17 rfl rfl)
theorem dX4_of_138 : decode cX4_of 138 = .ok (.if_icmp .ne 16, 3) := dk_160 0 16 (dk_at dksX4_of_4 18 rfl rfl)
theorem dX4_of_141 : decode cX4_of 141 = .ok (.aload_n 0, 1) := dk_42 (dk_at dksX4_of_4 21 rfl rfl)
theorem dX4_of_142 : decode cX4_of 142 = .ok (.getfield 7, 3) := dk_180 0 7 (dk_at dksX4_of_5 0 rfl rfl)
theorem dX4_of_145 : decode cX4_of 145 = .ok (.sipush 620, 3) := dk_17 2 108 (dk_at dksX4_of_5 3 rfl rfl)
theorem dX4_of_148 : decode cX4_of 148 = .ok (.iload_n 1, 1) := dk_27 (dk_at dksX4_of_5 6 rfl rfl)
theorem dX4_of_149 : decode cX4_of 149 = .ok (.iadd, 1) := dk_96 (dk_at dksX4_of_5 7 rfl rfl)
theorem dX4_of_150 : decode cX4_of 150 = .ok (.iaload, 1) := dk_46 (dk_at dksX4_of_5 8 rfl rfl)
theorem dX4_of_151 : decode cX4_of 151 = .ok (.goto 4, 3) := dk_167 0 4 (dk_at dksX4_of_5 9 rfl rfl)
theorem dX4_of_154 : decode cX4_of 154 = .ok (.iconst 0, 1) := dk_3 (dk_at dksX4_of_5 12 rfl rfl)
theorem dX4_of_155 : decode cX4_of 155 = .ok (.ireturn, 1) := dk_172 (dk_at dksX4_of_5 13 rfl rfl)
theorem dX4_of_156 : decode cX4_of 156 = .ok (.aload_n 0, 1) := dk_42 (dk_at dksX4_of_5 14 rfl rfl)
theorem dX4_of_157 : decode cX4_of 157 = .ok (.getfield 7, 3) := dk_180 0 7 (dk_at dksX4_of_5 15 rfl rfl)
theorem dX4_of_160 : decode cX4_of 160 = .ok (.sipush 420, 3) := dk_17 1 164 (dk_at dksX4_of_5 18 rfl rfl)
theorem dX4_of_163 : decode cX4_of 163 = .ok (.iload_n 1, 1) := dk_27 (dk_at dksX4_of_5 21 rfl rfl)
theorem dX4_of_164 : decode cX4_of 164 = .ok (.iadd, 1) := dk_96 (dk_at dksX4_of_5 22 rfl rfl)
theorem dX4_of_165 : decode cX4_of 165 = .ok (.iaload, 1) := dk_46 (dk_at dksX4_of_5 23 rfl rfl)
theorem dX4_of_166 : decode cX4_of 166 = .ok (.ireturn, 1) := dk_172 (dk_at dksX4_of_6 0 rfl rfl)
theorem dX4_of_167 : decode cX4_of 167 = .ok (.aload_n 0, 1) := dk_42 (dk_at dksX4_of_6 1 rfl rfl)
theorem dX4_of_168 : decode cX4_of 168 = .ok (.invokevirtual 290, 3) := dk_182 1 34 (dk_at dksX4_of_6 2 rfl rfl)
theorem dX4_of_171 : decode cX4_of 171 = .ok (.iload_n 2, 1) := dk_28 (dk_at dksX4_of_6 5 rfl rfl)
theorem dX4_of_172 : decode cX4_of 172 = .ok (.iconst 5, 1) := dk_8 (dk_at dksX4_of_6 6 rfl rfl)
theorem dX4_of_173 : decode cX4_of 173 = .ok (.if_icmp .ne 10, 3) := dk_160 0 10 (dk_at dksX4_of_6 7 rfl rfl)
theorem dX4_of_176 : decode cX4_of 176 = .ok (.aload_n 0, 1) := dk_42 (dk_at dksX4_of_6 10 rfl rfl)
theorem dX4_of_177 : decode cX4_of 177 = .ok (.getfield 53, 3) := dk_180 0 53 (dk_at dksX4_of_6 11 rfl rfl)
theorem dX4_of_180 : decode cX4_of 180 = .ok (.iload_n 1, 1) := dk_27 (dk_at dksX4_of_6 14 rfl rfl)
theorem dX4_of_181 : decode cX4_of 181 = .ok (.iaload, 1) := dk_46 (dk_at dksX4_of_6 15 rfl rfl)
theorem dX4_of_182 : decode cX4_of 182 = .ok (.ireturn, 1) := dk_172 (dk_at dksX4_of_6 16 rfl rfl)
theorem dX4_of_183 : decode cX4_of 183 = .ok (.iconst 0, 1) := dk_3 (dk_at dksX4_of_6 17 rfl rfl)
theorem dX4_of_184 : decode cX4_of 184 = .ok (.istore_n 3, 1) := dk_62 (dk_at dksX4_of_6 18 rfl rfl)
theorem dX4_of_185 : decode cX4_of 185 = .ok (.iconst 0, 1) := dk_3 (dk_at dksX4_of_6 19 rfl rfl)
theorem dX4_of_186 : decode cX4_of 186 = .ok (.istore 4, 2) := dk_54 4 (dk_at dksX4_of_6 20 rfl rfl)
theorem dX4_of_188 : decode cX4_of 188 = .ok (.iload 4, 2) := dk_21 4 (dk_at dksX4_of_6 22 rfl rfl)
theorem dX4_of_190 : decode cX4_of 190 = .ok (.bipush 100, 2) := dk_16 100 (dk_at dksX4_of_7 0 rfl rfl)
theorem dX4_of_192 : decode cX4_of 192 = .ok (.if_icmp .ge 33, 3) := dk_162 0 33 (dk_at dksX4_of_7 2 rfl rfl)
theorem dX4_of_195 : decode cX4_of 195 = .ok (.iload_n 3, 1) := dk_29 (dk_at dksX4_of_7 5 rfl rfl)
theorem dX4_of_196 : decode cX4_of 196 = .ok (.aload_n 0, 1) := dk_42 (dk_at dksX4_of_7 6 rfl rfl)
theorem dX4_of_197 : decode cX4_of 197 = .ok (.getfield 53, 3) := dk_180 0 53 (dk_at dksX4_of_7 7 rfl rfl)
theorem dX4_of_200 : decode cX4_of 200 = .ok (.iload 4, 2) := dk_21 4 (dk_at dksX4_of_7 10 rfl rfl)
theorem dX4_of_202 : decode cX4_of 202 = .ok (.iaload, 1) := dk_46 (dk_at dksX4_of_7 12 rfl rfl)
theorem dX4_of_203 : decode cX4_of 203 = .ok (.aload_n 0, 1) := dk_42 (dk_at dksX4_of_7 13 rfl rfl)
theorem dX4_of_204 : decode cX4_of 204 = .ok (.getfield 53, 3) := dk_180 0 53 (dk_at dksX4_of_7 14 rfl rfl)
theorem dX4_of_207 : decode cX4_of 207 = .ok (.iload_n 1, 1) := dk_27 (dk_at dksX4_of_7 17 rfl rfl)
theorem dX4_of_208 : decode cX4_of 208 = .ok (.iaload, 1) := dk_46 (dk_at dksX4_of_7 18 rfl rfl)
theorem dX4_of_209 : decode cX4_of 209 = .ok (.if_icmp .ne 7, 3) := dk_160 0 7 (dk_at dksX4_of_7 19 rfl rfl)
theorem dX4_of_212 : decode cX4_of 212 = .ok (.iconst 1, 1) := dk_4 (dk_at dksX4_of_7 22 rfl rfl)
theorem dX4_of_213 : decode cX4_of 213 = .ok (.goto 4, 3) := dk_167 0 4 (dk_at dksX4_of_8 0 rfl rfl)
theorem dX4_of_216 : decode cX4_of 216 = .ok (.iconst 0, 1) := dk_3 (dk_at dksX4_of_8 3 rfl rfl)
theorem dX4_of_217 : decode cX4_of 217 = .ok (.iadd, 1) := dk_96 (dk_at dksX4_of_8 4 rfl rfl)
theorem dX4_of_218 : decode cX4_of 218 = .ok (.istore_n 3, 1) := dk_62 (dk_at dksX4_of_8 5 rfl rfl)
theorem dX4_of_219 : decode cX4_of 219 = .ok (.iinc 4 1, 3) := dk_132 4 1 (dk_at dksX4_of_8 6 rfl rfl)
theorem dX4_of_222 : decode cX4_of 222 = .ok (.goto (-34), 3) := dk_167 255 222 (dk_at dksX4_of_8 9 rfl rfl)
theorem dX4_of_225 : decode cX4_of 225 = .ok (.iload_n 3, 1) := dk_29 (dk_at dksX4_of_8 12 rfl rfl)
theorem dX4_of_226 : decode cX4_of 226 = .ok (.ireturn, 1) := dk_172 (dk_at dksX4_of_8 13 rfl rfl)
abbrev cX4_yard : ByteArray := prog_14_method_62_code
def yX4_yard : MethodName := ⟨RX4, "yard", "(IIII)I"⟩
def dkwX4_yard_3 : List UInt8 := [184, 0, 248, 96, 46, 172]
abbrev dktX4_yard_3 : List UInt8 := dkwX4_yard_3 ++ []
def dkwX4_yard_2 : List UInt8 := [16, 254, 172, 42, 180, 0, 7, 21, 4, 154, 0, 9, 17, 3, 82, 167, 0, 6, 17, 4, 68, 27, 28, 29]
abbrev dktX4_yard_2 : List UInt8 := dkwX4_yard_2 ++ dktX4_yard_3
def dkwX4_yard_1 : List UInt8 := [96, 28, 29, 184, 0, 242, 96, 182, 0, 93, 153, 0, 13, 21, 4, 3, 4, 184, 0, 75, 154, 0, 6]
abbrev dktX4_yard_1 : List UInt8 := dkwX4_yard_1 ++ dktX4_yard_2
def dkwX4_yard_0 : List UInt8 := [42, 27, 28, 182, 0, 93, 153, 0, 41, 29, 3, 6, 184, 0, 75, 153, 0, 32, 42, 27, 29, 184, 0, 239]
abbrev dktX4_yard_0 : List UInt8 := dkwX4_yard_0 ++ dktX4_yard_1
theorem dksX4_yard_0 : cX4_yard.data.toList.drop 0 = dktX4_yard_0 := by decide +kernel
theorem dksX4_yard_1 : cX4_yard.data.toList.drop 24 = dktX4_yard_1 := dk_seg dksX4_yard_0 24 rfl rfl
theorem dksX4_yard_2 : cX4_yard.data.toList.drop 47 = dktX4_yard_2 := dk_seg dksX4_yard_1 23 rfl rfl
theorem dksX4_yard_3 : cX4_yard.data.toList.drop 71 = dktX4_yard_3 := dk_seg dksX4_yard_2 24 rfl rfl
theorem dX4_yard_0 : decode cX4_yard 0 = .ok (.aload_n 0, 1) := dk_42 (dk_at dksX4_yard_0 0 rfl rfl)
theorem dX4_yard_1 : decode cX4_yard 1 = .ok (.iload_n 1, 1) := dk_27 (dk_at dksX4_yard_0 1 rfl rfl)
theorem dX4_yard_2 : decode cX4_yard 2 = .ok (.iload_n 2, 1) := dk_28 (dk_at dksX4_yard_0 2 rfl rfl)
theorem dX4_yard_3 : decode cX4_yard 3 = .ok (.invokevirtual 93, 3) := dk_182 0 93 (dk_at dksX4_yard_0 3 rfl rfl)
theorem dX4_yard_6 : decode cX4_yard 6 = .ok (.ifCond .eq 41, 3) := dk_153 0 41 (dk_at dksX4_yard_0 6 rfl rfl)
theorem dX4_yard_9 : decode cX4_yard 9 = .ok (.iload_n 3, 1) := dk_29 (dk_at dksX4_yard_0 9 rfl rfl)
theorem dX4_yard_10 : decode cX4_yard 10 = .ok (.iconst 0, 1) := dk_3 (dk_at dksX4_yard_0 10 rfl rfl)
theorem dX4_yard_11 : decode cX4_yard 11 = .ok (.iconst 3, 1) := dk_6 (dk_at dksX4_yard_0 11 rfl rfl)
theorem dX4_yard_12 : decode cX4_yard 12 = .ok (.invokestatic 75, 3) := dk_184 0 75 (dk_at dksX4_yard_0 12 rfl rfl)
theorem dX4_yard_15 : decode cX4_yard 15 = .ok (.ifCond .eq 32, 3) := dk_153 0 32 (dk_at dksX4_yard_0 15 rfl rfl)
theorem dX4_yard_18 : decode cX4_yard 18 = .ok (.aload_n 0, 1) := dk_42 (dk_at dksX4_yard_0 18 rfl rfl)
theorem dX4_yard_19 : decode cX4_yard 19 = .ok (.iload_n 1, 1) := dk_27 (dk_at dksX4_yard_0 19 rfl rfl)
theorem dX4_yard_20 : decode cX4_yard 20 = .ok (.iload_n 3, 1) := dk_29 (dk_at dksX4_yard_0 20 rfl rfl)
theorem dX4_yard_21 : decode cX4_yard 21 = .ok (.invokestatic 239, 3) := dk_184 0 239 (dk_at dksX4_yard_0 21 rfl rfl)
theorem dX4_yard_24 : decode cX4_yard 24 = .ok (.iadd, 1) := dk_96 (dk_at dksX4_yard_1 0 rfl rfl)
theorem dX4_yard_25 : decode cX4_yard 25 = .ok (.iload_n 2, 1) := dk_28 (dk_at dksX4_yard_1 1 rfl rfl)
theorem dX4_yard_26 : decode cX4_yard 26 = .ok (.iload_n 3, 1) := dk_29 (dk_at dksX4_yard_1 2 rfl rfl)
theorem dX4_yard_27 : decode cX4_yard 27 = .ok (.invokestatic 242, 3) := dk_184 0 242 (dk_at dksX4_yard_1 3 rfl rfl)
theorem dX4_yard_30 : decode cX4_yard 30 = .ok (.iadd, 1) := dk_96 (dk_at dksX4_yard_1 6 rfl rfl)
theorem dX4_yard_31 : decode cX4_yard 31 = .ok (.invokevirtual 93, 3) := dk_182 0 93 (dk_at dksX4_yard_1 7 rfl rfl)
theorem dX4_yard_34 : decode cX4_yard 34 = .ok (.ifCond .eq 13, 3) := dk_153 0 13 (dk_at dksX4_yard_1 10 rfl rfl)
theorem dX4_yard_37 : decode cX4_yard 37 = .ok (.iload 4, 2) := dk_21 4 (dk_at dksX4_yard_1 13 rfl rfl)
theorem dX4_yard_39 : decode cX4_yard 39 = .ok (.iconst 0, 1) := dk_3 (dk_at dksX4_yard_1 15 rfl rfl)
theorem dX4_yard_40 : decode cX4_yard 40 = .ok (.iconst 1, 1) := dk_4 (dk_at dksX4_yard_1 16 rfl rfl)
theorem dX4_yard_41 : decode cX4_yard 41 = .ok (.invokestatic 75, 3) := dk_184 0 75 (dk_at dksX4_yard_1 17 rfl rfl)
theorem dX4_yard_44 : decode cX4_yard 44 = .ok (.ifCond .ne 6, 3) := dk_154 0 6 (dk_at dksX4_yard_1 20 rfl rfl)
theorem dX4_yard_47 : decode cX4_yard 47 = .ok (.bipush (-2), 2) := dk_16 254 (dk_at dksX4_yard_2 0 rfl rfl)
theorem dX4_yard_49 : decode cX4_yard 49 = .ok (.ireturn, 1) := dk_172 (dk_at dksX4_yard_2 2 rfl rfl)
theorem dX4_yard_50 : decode cX4_yard 50 = .ok (.aload_n 0, 1) := dk_42 (dk_at dksX4_yard_2 3 rfl rfl)
theorem dX4_yard_51 : decode cX4_yard 51 = .ok (.getfield 7, 3) := dk_180 0 7 (dk_at dksX4_yard_2 4 rfl rfl)
theorem dX4_yard_54 : decode cX4_yard 54 = .ok (.iload 4, 2) := dk_21 4 (dk_at dksX4_yard_2 7 rfl rfl)
theorem dX4_yard_56 : decode cX4_yard 56 = .ok (.ifCond .ne 9, 3) := dk_154 0 9 (dk_at dksX4_yard_2 9 rfl rfl)
theorem dX4_yard_59 : decode cX4_yard 59 = .ok (.sipush 850, 3) := dk_17 3 82 (dk_at dksX4_yard_2 12 rfl rfl)
theorem dX4_yard_62 : decode cX4_yard 62 = .ok (.goto 6, 3) := dk_167 0 6 (dk_at dksX4_yard_2 15 rfl rfl)
theorem dX4_yard_65 : decode cX4_yard 65 = .ok (.sipush 1092, 3) := dk_17 4 68 (dk_at dksX4_yard_2 18 rfl rfl)
theorem dX4_yard_68 : decode cX4_yard 68 = .ok (.iload_n 1, 1) := dk_27 (dk_at dksX4_yard_2 21 rfl rfl)
theorem dX4_yard_69 : decode cX4_yard 69 = .ok (.iload_n 2, 1) := dk_28 (dk_at dksX4_yard_2 22 rfl rfl)
theorem dX4_yard_70 : decode cX4_yard 70 = .ok (.iload_n 3, 1) := dk_29 (dk_at dksX4_yard_2 23 rfl rfl)
theorem dX4_yard_71 : decode cX4_yard 71 = .ok (.invokestatic 248, 3) := dk_184 0 248 (dk_at dksX4_yard_3 0 rfl rfl)
theorem dX4_yard_74 : decode cX4_yard 74 = .ok (.iadd, 1) := dk_96 (dk_at dksX4_yard_3 3 rfl rfl)
theorem dX4_yard_75 : decode cX4_yard 75 = .ok (.iaload, 1) := dk_46 (dk_at dksX4_yard_3 4 rfl rfl)
theorem dX4_yard_76 : decode cX4_yard 76 = .ok (.ireturn, 1) := dk_172 (dk_at dksX4_yard_3 5 rfl rfl)
abbrev cX4_suit : ByteArray := prog_14_method_64_code
def yX4_suit : MethodName := ⟨RX4, "suit", "(II)I"⟩
def dkwX4_suit_6 : List UInt8 := [54, 4, 21, 7, 54, 5, 132, 6, 1, 167, 255, 165, 21, 4, 172]
abbrev dktX4_suit_6 : List UInt8 := dkwX4_suit_6 ++ []
def dkwX4_suit_5 : List UInt8 := [184, 1, 43, 96, 54, 7, 21, 4, 2, 159, 0, 13, 21, 7, 21, 5, 161, 0, 6, 167, 0, 11, 21, 6]
abbrev dktX4_suit_5 : List UInt8 := dkwX4_suit_5 ++ dktX4_suit_6
def dkwX4_suit_4 : List UInt8 := [180, 0, 7, 17, 7, 48, 5, 21, 6, 104, 96, 4, 96, 46, 42, 180, 0, 7, 29, 6, 96, 46]
abbrev dktX4_suit_4 : List UInt8 := dkwX4_suit_4 ++ dktX4_suit_5
def dkwX4_suit_3 : List UInt8 := [180, 0, 7, 17, 7, 48, 5, 21, 6, 104, 96, 46, 42, 180, 0, 7, 29, 5, 96, 46, 184, 1, 43, 42]
abbrev dktX4_suit_3 : List UInt8 := dkwX4_suit_3 ++ dktX4_suit_4
def dkwX4_suit_2 : List UInt8 := [96, 46, 172, 2, 54, 4, 3, 54, 5, 3, 54, 6, 21, 6, 42, 180, 0, 7, 8, 46, 162, 0, 86, 42]
abbrev dktX4_suit_2 : List UInt8 := dkwX4_suit_2 ++ dktX4_suit_3
def dkwX4_suit_1 : List UInt8 := [154, 0, 5, 2, 172, 17, 5, 60, 8, 27, 104, 96, 62, 28, 8, 162, 0, 12, 42, 180, 0, 7, 29, 28]
abbrev dktX4_suit_1 : List UInt8 := dkwX4_suit_1 ++ dktX4_suit_2
def dkwX4_suit_0 : List UInt8 := [27, 3, 42, 180, 0, 7, 16, 6, 46, 4, 100, 184, 0, 75, 153, 0, 12, 28, 3, 8, 184, 0, 75]
abbrev dktX4_suit_0 : List UInt8 := dkwX4_suit_0 ++ dktX4_suit_1
theorem dksX4_suit_0 : cX4_suit.data.toList.drop 0 = dktX4_suit_0 := by decide +kernel
theorem dksX4_suit_1 : cX4_suit.data.toList.drop 23 = dktX4_suit_1 := dk_seg dksX4_suit_0 23 rfl rfl
theorem dksX4_suit_2 : cX4_suit.data.toList.drop 47 = dktX4_suit_2 := dk_seg dksX4_suit_1 24 rfl rfl
theorem dksX4_suit_3 : cX4_suit.data.toList.drop 71 = dktX4_suit_3 := dk_seg dksX4_suit_2 24 rfl rfl
theorem dksX4_suit_4 : cX4_suit.data.toList.drop 95 = dktX4_suit_4 := dk_seg dksX4_suit_3 24 rfl rfl
theorem dksX4_suit_5 : cX4_suit.data.toList.drop 117 = dktX4_suit_5 := dk_seg dksX4_suit_4 22 rfl rfl
theorem dksX4_suit_6 : cX4_suit.data.toList.drop 141 = dktX4_suit_6 := dk_seg dksX4_suit_5 24 rfl rfl
theorem dX4_suit_0 : decode cX4_suit 0 = .ok (.iload_n 1, 1) := dk_27 (dk_at dksX4_suit_0 0 rfl rfl)
theorem dX4_suit_1 : decode cX4_suit 1 = .ok (.iconst 0, 1) := dk_3 (dk_at dksX4_suit_0 1 rfl rfl)
theorem dX4_suit_2 : decode cX4_suit 2 = .ok (.aload_n 0, 1) := dk_42 (dk_at dksX4_suit_0 2 rfl rfl)
theorem dX4_suit_3 : decode cX4_suit 3 = .ok (.getfield 7, 3) := dk_180 0 7 (dk_at dksX4_suit_0 3 rfl rfl)
theorem dX4_suit_6 : decode cX4_suit 6 = .ok (.bipush 6, 2) := dk_16 6 (dk_at dksX4_suit_0 6 rfl rfl)
theorem dX4_suit_8 : decode cX4_suit 8 = .ok (.iaload, 1) := dk_46 (dk_at dksX4_suit_0 8 rfl rfl)
theorem dX4_suit_9 : decode cX4_suit 9 = .ok (.iconst 1, 1) := dk_4 (dk_at dksX4_suit_0 9 rfl rfl)
theorem dX4_suit_10 : decode cX4_suit 10 = .ok (.isub, 1) := dk_100 (dk_at dksX4_suit_0 10 rfl rfl)
theorem dX4_suit_11 : decode cX4_suit 11 = .ok (.invokestatic 75, 3) := dk_184 0 75 (dk_at dksX4_suit_0 11 rfl rfl)
theorem dX4_suit_14 : decode cX4_suit 14 = .ok (.ifCond .eq 12, 3) := dk_153 0 12 (dk_at dksX4_suit_0 14 rfl rfl)
theorem dX4_suit_17 : decode cX4_suit 17 = .ok (.iload_n 2, 1) := dk_28 (dk_at dksX4_suit_0 17 rfl rfl)
theorem dX4_suit_18 : decode cX4_suit 18 = .ok (.iconst 0, 1) := dk_3 (dk_at dksX4_suit_0 18 rfl rfl)
theorem dX4_suit_19 : decode cX4_suit 19 = .ok (.iconst 5, 1) := dk_8 (dk_at dksX4_suit_0 19 rfl rfl)
theorem dX4_suit_20 : decode cX4_suit 20 = .ok (.invokestatic 75, 3) := dk_184 0 75 (dk_at dksX4_suit_0 20 rfl rfl)
theorem dX4_suit_23 : decode cX4_suit 23 = .ok (.ifCond .ne 5, 3) := dk_154 0 5 (dk_at dksX4_suit_1 0 rfl rfl)
theorem dX4_suit_26 : decode cX4_suit 26 = .ok (.iconst (-1), 1) := dk_2 (dk_at dksX4_suit_1 3 rfl rfl)
theorem dX4_suit_27 : decode cX4_suit 27 = .ok (.ireturn, 1) := dk_172 (dk_at dksX4_suit_1 4 rfl rfl)
theorem dX4_suit_28 : decode cX4_suit 28 = .ok (.sipush 1340, 3) := dk_17 5 60 (dk_at dksX4_suit_1 5 rfl rfl)
theorem dX4_suit_31 : decode cX4_suit 31 = .ok (.iconst 5, 1) := dk_8 (dk_at dksX4_suit_1 8 rfl rfl)
theorem dX4_suit_32 : decode cX4_suit 32 = .ok (.iload_n 1, 1) := dk_27 (dk_at dksX4_suit_1 9 rfl rfl)
theorem dX4_suit_33 : decode cX4_suit 33 = .ok (.imul, 1) := dk_104 (dk_at dksX4_suit_1 10 rfl rfl)
theorem dX4_suit_34 : decode cX4_suit 34 = .ok (.iadd, 1) := dk_96 (dk_at dksX4_suit_1 11 rfl rfl)
theorem dX4_suit_35 : decode cX4_suit 35 = .ok (.istore_n 3, 1) := dk_62 (dk_at dksX4_suit_1 12 rfl rfl)
theorem dX4_suit_36 : decode cX4_suit 36 = .ok (.iload_n 2, 1) := dk_28 (dk_at dksX4_suit_1 13 rfl rfl)
theorem dX4_suit_37 : decode cX4_suit 37 = .ok (.iconst 5, 1) := dk_8 (dk_at dksX4_suit_1 14 rfl rfl)
theorem dX4_suit_38 : decode cX4_suit 38 = .ok (.if_icmp .ge 12, 3) := dk_162 0 12 (dk_at dksX4_suit_1 15 rfl rfl)
theorem dX4_suit_41 : decode cX4_suit 41 = .ok (.aload_n 0, 1) := dk_42 (dk_at dksX4_suit_1 18 rfl rfl)
theorem dX4_suit_42 : decode cX4_suit 42 = .ok (.getfield 7, 3) := dk_180 0 7 (dk_at dksX4_suit_1 19 rfl rfl)
theorem dX4_suit_45 : decode cX4_suit 45 = .ok (.iload_n 3, 1) := dk_29 (dk_at dksX4_suit_1 22 rfl rfl)
theorem dX4_suit_46 : decode cX4_suit 46 = .ok (.iload_n 2, 1) := dk_28 (dk_at dksX4_suit_1 23 rfl rfl)
theorem dX4_suit_47 : decode cX4_suit 47 = .ok (.iadd, 1) := dk_96 (dk_at dksX4_suit_2 0 rfl rfl)
theorem dX4_suit_48 : decode cX4_suit 48 = .ok (.iaload, 1) := dk_46 (dk_at dksX4_suit_2 1 rfl rfl)
theorem dX4_suit_49 : decode cX4_suit 49 = .ok (.ireturn, 1) := dk_172 (dk_at dksX4_suit_2 2 rfl rfl)
theorem dX4_suit_50 : decode cX4_suit 50 = .ok (.iconst (-1), 1) := dk_2 (dk_at dksX4_suit_2 3 rfl rfl)
theorem dX4_suit_51 : decode cX4_suit 51 = .ok (.istore 4, 2) := dk_54 4 (dk_at dksX4_suit_2 4 rfl rfl)
theorem dX4_suit_53 : decode cX4_suit 53 = .ok (.iconst 0, 1) := dk_3 (dk_at dksX4_suit_2 6 rfl rfl)
theorem dX4_suit_54 : decode cX4_suit 54 = .ok (.istore 5, 2) := dk_54 5 (dk_at dksX4_suit_2 7 rfl rfl)
theorem dX4_suit_56 : decode cX4_suit 56 = .ok (.iconst 0, 1) := dk_3 (dk_at dksX4_suit_2 9 rfl rfl)
theorem dX4_suit_57 : decode cX4_suit 57 = .ok (.istore 6, 2) := dk_54 6 (dk_at dksX4_suit_2 10 rfl rfl)
theorem dX4_suit_59 : decode cX4_suit 59 = .ok (.iload 6, 2) := dk_21 6 (dk_at dksX4_suit_2 12 rfl rfl)
theorem dX4_suit_61 : decode cX4_suit 61 = .ok (.aload_n 0, 1) := dk_42 (dk_at dksX4_suit_2 14 rfl rfl)
theorem dX4_suit_62 : decode cX4_suit 62 = .ok (.getfield 7, 3) := dk_180 0 7 (dk_at dksX4_suit_2 15 rfl rfl)
theorem dX4_suit_65 : decode cX4_suit 65 = .ok (.iconst 5, 1) := dk_8 (dk_at dksX4_suit_2 18 rfl rfl)
theorem dX4_suit_66 : decode cX4_suit 66 = .ok (.iaload, 1) := dk_46 (dk_at dksX4_suit_2 19 rfl rfl)
theorem dX4_suit_67 : decode cX4_suit 67 = .ok (.if_icmp .ge 86, 3) := dk_162 0 86 (dk_at dksX4_suit_2 20 rfl rfl)
theorem dX4_suit_70 : decode cX4_suit 70 = .ok (.aload_n 0, 1) := dk_42 (dk_at dksX4_suit_2 23 rfl rfl)
theorem dX4_suit_71 : decode cX4_suit 71 = .ok (.getfield 7, 3) := dk_180 0 7 (dk_at dksX4_suit_3 0 rfl rfl)
theorem dX4_suit_74 : decode cX4_suit 74 = .ok (.sipush 1840, 3) := dk_17 7 48 (dk_at dksX4_suit_3 3 rfl rfl)
theorem dX4_suit_77 : decode cX4_suit 77 = .ok (.iconst 2, 1) := dk_5 (dk_at dksX4_suit_3 6 rfl rfl)
theorem dX4_suit_78 : decode cX4_suit 78 = .ok (.iload 6, 2) := dk_21 6 (dk_at dksX4_suit_3 7 rfl rfl)
theorem dX4_suit_80 : decode cX4_suit 80 = .ok (.imul, 1) := dk_104 (dk_at dksX4_suit_3 9 rfl rfl)
theorem dX4_suit_81 : decode cX4_suit 81 = .ok (.iadd, 1) := dk_96 (dk_at dksX4_suit_3 10 rfl rfl)
theorem dX4_suit_82 : decode cX4_suit 82 = .ok (.iaload, 1) := dk_46 (dk_at dksX4_suit_3 11 rfl rfl)
theorem dX4_suit_83 : decode cX4_suit 83 = .ok (.aload_n 0, 1) := dk_42 (dk_at dksX4_suit_3 12 rfl rfl)
theorem dX4_suit_84 : decode cX4_suit 84 = .ok (.getfield 7, 3) := dk_180 0 7 (dk_at dksX4_suit_3 13 rfl rfl)
theorem dX4_suit_87 : decode cX4_suit 87 = .ok (.iload_n 3, 1) := dk_29 (dk_at dksX4_suit_3 16 rfl rfl)
theorem dX4_suit_88 : decode cX4_suit 88 = .ok (.iconst 2, 1) := dk_5 (dk_at dksX4_suit_3 17 rfl rfl)
theorem dX4_suit_89 : decode cX4_suit 89 = .ok (.iadd, 1) := dk_96 (dk_at dksX4_suit_3 18 rfl rfl)
theorem dX4_suit_90 : decode cX4_suit 90 = .ok (.iaload, 1) := dk_46 (dk_at dksX4_suit_3 19 rfl rfl)
theorem dX4_suit_91 : decode cX4_suit 91 = .ok (.invokestatic 299, 3) := dk_184 1 43 (dk_at dksX4_suit_3 20 rfl rfl)
theorem dX4_suit_94 : decode cX4_suit 94 = .ok (.aload_n 0, 1) := dk_42 (dk_at dksX4_suit_3 23 rfl rfl)
theorem dX4_suit_95 : decode cX4_suit 95 = .ok (.getfield 7, 3) := dk_180 0 7 (dk_at dksX4_suit_4 0 rfl rfl)
theorem dX4_suit_98 : decode cX4_suit 98 = .ok (.sipush 1840, 3) := dk_17 7 48 (dk_at dksX4_suit_4 3 rfl rfl)
theorem dX4_suit_101 : decode cX4_suit 101 = .ok (.iconst 2, 1) := dk_5 (dk_at dksX4_suit_4 6 rfl rfl)
theorem dX4_suit_102 : decode cX4_suit 102 = .ok (.iload 6, 2) := dk_21 6 (dk_at dksX4_suit_4 7 rfl rfl)
theorem dX4_suit_104 : decode cX4_suit 104 = .ok (.imul, 1) := dk_104 (dk_at dksX4_suit_4 9 rfl rfl)
theorem dX4_suit_105 : decode cX4_suit 105 = .ok (.iadd, 1) := dk_96 (dk_at dksX4_suit_4 10 rfl rfl)
theorem dX4_suit_106 : decode cX4_suit 106 = .ok (.iconst 1, 1) := dk_4 (dk_at dksX4_suit_4 11 rfl rfl)
theorem dX4_suit_107 : decode cX4_suit 107 = .ok (.iadd, 1) := dk_96 (dk_at dksX4_suit_4 12 rfl rfl)
theorem dX4_suit_108 : decode cX4_suit 108 = .ok (.iaload, 1) := dk_46 (dk_at dksX4_suit_4 13 rfl rfl)
theorem dX4_suit_109 : decode cX4_suit 109 = .ok (.aload_n 0, 1) := dk_42 (dk_at dksX4_suit_4 14 rfl rfl)
theorem dX4_suit_110 : decode cX4_suit 110 = .ok (.getfield 7, 3) := dk_180 0 7 (dk_at dksX4_suit_4 15 rfl rfl)
theorem dX4_suit_113 : decode cX4_suit 113 = .ok (.iload_n 3, 1) := dk_29 (dk_at dksX4_suit_4 18 rfl rfl)
theorem dX4_suit_114 : decode cX4_suit 114 = .ok (.iconst 3, 1) := dk_6 (dk_at dksX4_suit_4 19 rfl rfl)
theorem dX4_suit_115 : decode cX4_suit 115 = .ok (.iadd, 1) := dk_96 (dk_at dksX4_suit_4 20 rfl rfl)
theorem dX4_suit_116 : decode cX4_suit 116 = .ok (.iaload, 1) := dk_46 (dk_at dksX4_suit_4 21 rfl rfl)
theorem dX4_suit_117 : decode cX4_suit 117 = .ok (.invokestatic 299, 3) := dk_184 1 43 (dk_at dksX4_suit_5 0 rfl rfl)
theorem dX4_suit_120 : decode cX4_suit 120 = .ok (.iadd, 1) := dk_96 (dk_at dksX4_suit_5 3 rfl rfl)
theorem dX4_suit_121 : decode cX4_suit 121 = .ok (.istore 7, 2) := dk_54 7 (dk_at dksX4_suit_5 4 rfl rfl)
theorem dX4_suit_123 : decode cX4_suit 123 = .ok (.iload 4, 2) := dk_21 4 (dk_at dksX4_suit_5 6 rfl rfl)
theorem dX4_suit_125 : decode cX4_suit 125 = .ok (.iconst (-1), 1) := dk_2 (dk_at dksX4_suit_5 8 rfl rfl)
theorem dX4_suit_126 : decode cX4_suit 126 = .ok (.if_icmp .eq 13, 3) := dk_159 0 13 (dk_at dksX4_suit_5 9 rfl rfl)
theorem dX4_suit_129 : decode cX4_suit 129 = .ok (.iload 7, 2) := dk_21 7 (dk_at dksX4_suit_5 12 rfl rfl)
theorem dX4_suit_131 : decode cX4_suit 131 = .ok (.iload 5, 2) := dk_21 5 (dk_at dksX4_suit_5 14 rfl rfl)
theorem dX4_suit_133 : decode cX4_suit 133 = .ok (.if_icmp .lt 6, 3) := dk_161 0 6 (dk_at dksX4_suit_5 16 rfl rfl)
theorem dX4_suit_136 : decode cX4_suit 136 = .ok (.goto 11, 3) := dk_167 0 11 (dk_at dksX4_suit_5 19 rfl rfl)
theorem dX4_suit_139 : decode cX4_suit 139 = .ok (.iload 6, 2) := dk_21 6 (dk_at dksX4_suit_5 22 rfl rfl)
theorem dX4_suit_141 : decode cX4_suit 141 = .ok (.istore 4, 2) := dk_54 4 (dk_at dksX4_suit_6 0 rfl rfl)
theorem dX4_suit_143 : decode cX4_suit 143 = .ok (.iload 7, 2) := dk_21 7 (dk_at dksX4_suit_6 2 rfl rfl)
theorem dX4_suit_145 : decode cX4_suit 145 = .ok (.istore 5, 2) := dk_54 5 (dk_at dksX4_suit_6 4 rfl rfl)
theorem dX4_suit_147 : decode cX4_suit 147 = .ok (.iinc 6 1, 3) := dk_132 6 1 (dk_at dksX4_suit_6 6 rfl rfl)
theorem dX4_suit_150 : decode cX4_suit 150 = .ok (.goto (-91), 3) := dk_167 255 165 (dk_at dksX4_suit_6 9 rfl rfl)
theorem dX4_suit_153 : decode cX4_suit 153 = .ok (.iload 4, 2) := dk_21 4 (dk_at dksX4_suit_6 12 rfl rfl)
theorem dX4_suit_155 : decode cX4_suit 155 = .ok (.ireturn, 1) := dk_172 (dk_at dksX4_suit_6 14 rfl rfl)
abbrev cX4_far : ByteArray := prog_14_method_63_code
def yX4_far : MethodName := ⟨RX4, "far", "(II)I"⟩
def dkwX4_far_0 : List UInt8 := [26, 27, 162, 0, 9, 27, 26, 100, 167, 0, 6, 26, 27, 100, 172]
abbrev dktX4_far_0 : List UInt8 := dkwX4_far_0 ++ []
theorem dksX4_far_0 : cX4_far.data.toList.drop 0 = dktX4_far_0 := by decide +kernel
theorem dX4_far_0 : decode cX4_far 0 = .ok (.iload_n 0, 1) := dk_26 (dk_at dksX4_far_0 0 rfl rfl)
theorem dX4_far_1 : decode cX4_far 1 = .ok (.iload_n 1, 1) := dk_27 (dk_at dksX4_far_0 1 rfl rfl)
theorem dX4_far_2 : decode cX4_far 2 = .ok (.if_icmp .ge 9, 3) := dk_162 0 9 (dk_at dksX4_far_0 2 rfl rfl)
theorem dX4_far_5 : decode cX4_far 5 = .ok (.iload_n 1, 1) := dk_27 (dk_at dksX4_far_0 5 rfl rfl)
theorem dX4_far_6 : decode cX4_far 6 = .ok (.iload_n 0, 1) := dk_26 (dk_at dksX4_far_0 6 rfl rfl)
theorem dX4_far_7 : decode cX4_far 7 = .ok (.isub, 1) := dk_100 (dk_at dksX4_far_0 7 rfl rfl)
theorem dX4_far_8 : decode cX4_far 8 = .ok (.goto 6, 3) := dk_167 0 6 (dk_at dksX4_far_0 8 rfl rfl)
theorem dX4_far_11 : decode cX4_far 11 = .ok (.iload_n 0, 1) := dk_26 (dk_at dksX4_far_0 11 rfl rfl)
theorem dX4_far_12 : decode cX4_far 12 = .ok (.iload_n 1, 1) := dk_27 (dk_at dksX4_far_0 12 rfl rfl)
theorem dX4_far_13 : decode cX4_far 13 = .ok (.isub, 1) := dk_100 (dk_at dksX4_far_0 13 rfl rfl)
theorem dX4_far_14 : decode cX4_far 14 = .ok (.ireturn, 1) := dk_172 (dk_at dksX4_far_0 14 rfl rfl)
abbrev cX4_steal : ByteArray := prog_14_method_65_code
def yX4_steal : MethodName := ⟨RX4, "steal", "(III)I"⟩
def dkwX4_steal_4 : List UInt8 := [180, 0, 7, 17, 4, 68, 21, 5, 96, 2, 79, 132, 4, 1, 132, 5, 1, 167, 255, 181, 21, 4, 172]
abbrev dktX4_steal_4 : List UInt8 := dkwX4_steal_4 ++ []
def dkwX4_steal_3 : List UInt8 := [184, 0, 75, 154, 0, 6, 167, 0, 30, 42, 180, 0, 7, 17, 3, 82, 21, 5, 96, 2, 79, 42]
abbrev dktX4_steal_3 : List UInt8 := dkwX4_steal_3 ++ dktX4_steal_4
def dkwX4_steal_2 : List UInt8 := [17, 3, 82, 21, 5, 96, 46, 27, 160, 0, 52, 42, 180, 0, 7, 17, 4, 68, 21, 5, 96, 46, 28, 29]
abbrev dktX4_steal_2 : List UInt8 := dkwX4_steal_2 ++ dktX4_steal_3
def dkwX4_steal_1 : List UInt8 := [154, 0, 5, 2, 172, 3, 54, 4, 3, 54, 5, 21, 5, 17, 0, 242, 162, 0, 73, 42, 180, 0, 7]
abbrev dktX4_steal_1 : List UInt8 := dkwX4_steal_1 ++ dktX4_steal_2
def dkwX4_steal_0 : List UInt8 := [27, 3, 42, 180, 0, 7, 7, 46, 4, 100, 184, 0, 75, 153, 0, 12, 28, 3, 29, 184, 0, 75]
abbrev dktX4_steal_0 : List UInt8 := dkwX4_steal_0 ++ dktX4_steal_1
theorem dksX4_steal_0 : cX4_steal.data.toList.drop 0 = dktX4_steal_0 := by decide +kernel
theorem dksX4_steal_1 : cX4_steal.data.toList.drop 22 = dktX4_steal_1 := dk_seg dksX4_steal_0 22 rfl rfl
theorem dksX4_steal_2 : cX4_steal.data.toList.drop 45 = dktX4_steal_2 := dk_seg dksX4_steal_1 23 rfl rfl
theorem dksX4_steal_3 : cX4_steal.data.toList.drop 69 = dktX4_steal_3 := dk_seg dksX4_steal_2 24 rfl rfl
theorem dksX4_steal_4 : cX4_steal.data.toList.drop 91 = dktX4_steal_4 := dk_seg dksX4_steal_3 22 rfl rfl
theorem dX4_steal_0 : decode cX4_steal 0 = .ok (.iload_n 1, 1) := dk_27 (dk_at dksX4_steal_0 0 rfl rfl)
theorem dX4_steal_1 : decode cX4_steal 1 = .ok (.iconst 0, 1) := dk_3 (dk_at dksX4_steal_0 1 rfl rfl)
theorem dX4_steal_2 : decode cX4_steal 2 = .ok (.aload_n 0, 1) := dk_42 (dk_at dksX4_steal_0 2 rfl rfl)
theorem dX4_steal_3 : decode cX4_steal 3 = .ok (.getfield 7, 3) := dk_180 0 7 (dk_at dksX4_steal_0 3 rfl rfl)
theorem dX4_steal_6 : decode cX4_steal 6 = .ok (.iconst 4, 1) := dk_7 (dk_at dksX4_steal_0 6 rfl rfl)
theorem dX4_steal_7 : decode cX4_steal 7 = .ok (.iaload, 1) := dk_46 (dk_at dksX4_steal_0 7 rfl rfl)
theorem dX4_steal_8 : decode cX4_steal 8 = .ok (.iconst 1, 1) := dk_4 (dk_at dksX4_steal_0 8 rfl rfl)
theorem dX4_steal_9 : decode cX4_steal 9 = .ok (.isub, 1) := dk_100 (dk_at dksX4_steal_0 9 rfl rfl)
theorem dX4_steal_10 : decode cX4_steal 10 = .ok (.invokestatic 75, 3) := dk_184 0 75 (dk_at dksX4_steal_0 10 rfl rfl)
theorem dX4_steal_13 : decode cX4_steal 13 = .ok (.ifCond .eq 12, 3) := dk_153 0 12 (dk_at dksX4_steal_0 13 rfl rfl)
theorem dX4_steal_16 : decode cX4_steal 16 = .ok (.iload_n 2, 1) := dk_28 (dk_at dksX4_steal_0 16 rfl rfl)
theorem dX4_steal_17 : decode cX4_steal 17 = .ok (.iconst 0, 1) := dk_3 (dk_at dksX4_steal_0 17 rfl rfl)
theorem dX4_steal_18 : decode cX4_steal 18 = .ok (.iload_n 3, 1) := dk_29 (dk_at dksX4_steal_0 18 rfl rfl)
theorem dX4_steal_19 : decode cX4_steal 19 = .ok (.invokestatic 75, 3) := dk_184 0 75 (dk_at dksX4_steal_0 19 rfl rfl)
theorem dX4_steal_22 : decode cX4_steal 22 = .ok (.ifCond .ne 5, 3) := dk_154 0 5 (dk_at dksX4_steal_1 0 rfl rfl)
theorem dX4_steal_25 : decode cX4_steal 25 = .ok (.iconst (-1), 1) := dk_2 (dk_at dksX4_steal_1 3 rfl rfl)
theorem dX4_steal_26 : decode cX4_steal 26 = .ok (.ireturn, 1) := dk_172 (dk_at dksX4_steal_1 4 rfl rfl)
theorem dX4_steal_27 : decode cX4_steal 27 = .ok (.iconst 0, 1) := dk_3 (dk_at dksX4_steal_1 5 rfl rfl)
theorem dX4_steal_28 : decode cX4_steal 28 = .ok (.istore 4, 2) := dk_54 4 (dk_at dksX4_steal_1 6 rfl rfl)
theorem dX4_steal_30 : decode cX4_steal 30 = .ok (.iconst 0, 1) := dk_3 (dk_at dksX4_steal_1 8 rfl rfl)
theorem dX4_steal_31 : decode cX4_steal 31 = .ok (.istore 5, 2) := dk_54 5 (dk_at dksX4_steal_1 9 rfl rfl)
theorem dX4_steal_33 : decode cX4_steal 33 = .ok (.iload 5, 2) := dk_21 5 (dk_at dksX4_steal_1 11 rfl rfl)
theorem dX4_steal_35 : decode cX4_steal 35 = .ok (.sipush 242, 3) := dk_17 0 242 (dk_at dksX4_steal_1 13 rfl rfl)
theorem dX4_steal_38 : decode cX4_steal 38 = .ok (.if_icmp .ge 73, 3) := dk_162 0 73 (dk_at dksX4_steal_1 16 rfl rfl)
theorem dX4_steal_41 : decode cX4_steal 41 = .ok (.aload_n 0, 1) := dk_42 (dk_at dksX4_steal_1 19 rfl rfl)
theorem dX4_steal_42 : decode cX4_steal 42 = .ok (.getfield 7, 3) := dk_180 0 7 (dk_at dksX4_steal_1 20 rfl rfl)
theorem dX4_steal_45 : decode cX4_steal 45 = .ok (.sipush 850, 3) := dk_17 3 82 (dk_at dksX4_steal_2 0 rfl rfl)
theorem dX4_steal_48 : decode cX4_steal 48 = .ok (.iload 5, 2) := dk_21 5 (dk_at dksX4_steal_2 3 rfl rfl)
theorem dX4_steal_50 : decode cX4_steal 50 = .ok (.iadd, 1) := dk_96 (dk_at dksX4_steal_2 5 rfl rfl)
theorem dX4_steal_51 : decode cX4_steal 51 = .ok (.iaload, 1) := dk_46 (dk_at dksX4_steal_2 6 rfl rfl)
theorem dX4_steal_52 : decode cX4_steal 52 = .ok (.iload_n 1, 1) := dk_27 (dk_at dksX4_steal_2 7 rfl rfl)
theorem dX4_steal_53 : decode cX4_steal 53 = .ok (.if_icmp .ne 52, 3) := dk_160 0 52 (dk_at dksX4_steal_2 8 rfl rfl)
theorem dX4_steal_56 : decode cX4_steal 56 = .ok (.aload_n 0, 1) := dk_42 (dk_at dksX4_steal_2 11 rfl rfl)
theorem dX4_steal_57 : decode cX4_steal 57 = .ok (.getfield 7, 3) := dk_180 0 7 (dk_at dksX4_steal_2 12 rfl rfl)
theorem dX4_steal_60 : decode cX4_steal 60 = .ok (.sipush 1092, 3) := dk_17 4 68 (dk_at dksX4_steal_2 15 rfl rfl)
theorem dX4_steal_63 : decode cX4_steal 63 = .ok (.iload 5, 2) := dk_21 5 (dk_at dksX4_steal_2 18 rfl rfl)
theorem dX4_steal_65 : decode cX4_steal 65 = .ok (.iadd, 1) := dk_96 (dk_at dksX4_steal_2 20 rfl rfl)
theorem dX4_steal_66 : decode cX4_steal 66 = .ok (.iaload, 1) := dk_46 (dk_at dksX4_steal_2 21 rfl rfl)
theorem dX4_steal_67 : decode cX4_steal 67 = .ok (.iload_n 2, 1) := dk_28 (dk_at dksX4_steal_2 22 rfl rfl)
theorem dX4_steal_68 : decode cX4_steal 68 = .ok (.iload_n 3, 1) := dk_29 (dk_at dksX4_steal_2 23 rfl rfl)
theorem dX4_steal_69 : decode cX4_steal 69 = .ok (.invokestatic 75, 3) := dk_184 0 75 (dk_at dksX4_steal_3 0 rfl rfl)
theorem dX4_steal_72 : decode cX4_steal 72 = .ok (.ifCond .ne 6, 3) := dk_154 0 6 (dk_at dksX4_steal_3 3 rfl rfl)
theorem dX4_steal_75 : decode cX4_steal 75 = .ok (.goto 30, 3) := dk_167 0 30 (dk_at dksX4_steal_3 6 rfl rfl)
theorem dX4_steal_78 : decode cX4_steal 78 = .ok (.aload_n 0, 1) := dk_42 (dk_at dksX4_steal_3 9 rfl rfl)
theorem dX4_steal_79 : decode cX4_steal 79 = .ok (.getfield 7, 3) := dk_180 0 7 (dk_at dksX4_steal_3 10 rfl rfl)
theorem dX4_steal_82 : decode cX4_steal 82 = .ok (.sipush 850, 3) := dk_17 3 82 (dk_at dksX4_steal_3 13 rfl rfl)
theorem dX4_steal_85 : decode cX4_steal 85 = .ok (.iload 5, 2) := dk_21 5 (dk_at dksX4_steal_3 16 rfl rfl)
theorem dX4_steal_87 : decode cX4_steal 87 = .ok (.iadd, 1) := dk_96 (dk_at dksX4_steal_3 18 rfl rfl)
theorem dX4_steal_88 : decode cX4_steal 88 = .ok (.iconst (-1), 1) := dk_2 (dk_at dksX4_steal_3 19 rfl rfl)
theorem dX4_steal_89 : decode cX4_steal 89 = .ok (.iastore, 1) := dk_79 (dk_at dksX4_steal_3 20 rfl rfl)
theorem dX4_steal_90 : decode cX4_steal 90 = .ok (.aload_n 0, 1) := dk_42 (dk_at dksX4_steal_3 21 rfl rfl)
theorem dX4_steal_91 : decode cX4_steal 91 = .ok (.getfield 7, 3) := dk_180 0 7 (dk_at dksX4_steal_4 0 rfl rfl)
theorem dX4_steal_94 : decode cX4_steal 94 = .ok (.sipush 1092, 3) := dk_17 4 68 (dk_at dksX4_steal_4 3 rfl rfl)
theorem dX4_steal_97 : decode cX4_steal 97 = .ok (.iload 5, 2) := dk_21 5 (dk_at dksX4_steal_4 6 rfl rfl)
theorem dX4_steal_99 : decode cX4_steal 99 = .ok (.iadd, 1) := dk_96 (dk_at dksX4_steal_4 8 rfl rfl)
theorem dX4_steal_100 : decode cX4_steal 100 = .ok (.iconst (-1), 1) := dk_2 (dk_at dksX4_steal_4 9 rfl rfl)
theorem dX4_steal_101 : decode cX4_steal 101 = .ok (.iastore, 1) := dk_79 (dk_at dksX4_steal_4 10 rfl rfl)
theorem dX4_steal_102 : decode cX4_steal 102 = .ok (.iinc 4 1, 3) := dk_132 4 1 (dk_at dksX4_steal_4 11 rfl rfl)
theorem dX4_steal_105 : decode cX4_steal 105 = .ok (.iinc 5 1, 3) := dk_132 5 1 (dk_at dksX4_steal_4 14 rfl rfl)
theorem dX4_steal_108 : decode cX4_steal 108 = .ok (.goto (-75), 3) := dk_167 255 181 (dk_at dksX4_steal_4 17 rfl rfl)
theorem dX4_steal_111 : decode cX4_steal 111 = .ok (.iload 4, 2) := dk_21 4 (dk_at dksX4_steal_4 20 rfl rfl)
theorem dX4_steal_113 : decode cX4_steal 113 = .ok (.ireturn, 1) := dk_172 (dk_at dksX4_steal_4 22 rfl rfl)
abbrev cX4_ends : ByteArray := prog_14_method_68_code
def yX4_ends : MethodName := ⟨RX4, "ends", "(II)I"⟩
def dkwX4_ends_3 : List UInt8 := [160, 0, 12, 42, 180, 0, 47, 27, 46, 167, 0, 9, 42, 180, 0, 50, 27, 46, 172]
abbrev dktX4_ends_3 : List UInt8 := dkwX4_ends_3 ++ []
def dkwX4_ends_2 : List UInt8 := [180, 0, 41, 27, 46, 167, 0, 37, 28, 4, 160, 0, 12, 42, 180, 0, 44, 27, 46, 167, 0, 23, 28, 5]
abbrev dktX4_ends_2 : List UInt8 := dkwX4_ends_2 ++ dktX4_ends_3
def dkwX4_ends_1 : List UInt8 := [154, 0, 5, 2, 172, 42, 182, 1, 46, 42, 182, 1, 31, 42, 182, 1, 49, 28, 154, 0, 12, 42]
abbrev dktX4_ends_1 : List UInt8 := dkwX4_ends_1 ++ dktX4_ends_2
def dkwX4_ends_0 : List UInt8 := [27, 3, 42, 180, 0, 7, 7, 46, 4, 100, 184, 0, 75, 153, 0, 12, 28, 3, 6, 184, 0, 75]
abbrev dktX4_ends_0 : List UInt8 := dkwX4_ends_0 ++ dktX4_ends_1
theorem dksX4_ends_0 : cX4_ends.data.toList.drop 0 = dktX4_ends_0 := by decide +kernel
theorem dksX4_ends_1 : cX4_ends.data.toList.drop 22 = dktX4_ends_1 := dk_seg dksX4_ends_0 22 rfl rfl
theorem dksX4_ends_2 : cX4_ends.data.toList.drop 44 = dktX4_ends_2 := dk_seg dksX4_ends_1 22 rfl rfl
theorem dksX4_ends_3 : cX4_ends.data.toList.drop 68 = dktX4_ends_3 := dk_seg dksX4_ends_2 24 rfl rfl
theorem dX4_ends_0 : decode cX4_ends 0 = .ok (.iload_n 1, 1) := dk_27 (dk_at dksX4_ends_0 0 rfl rfl)
theorem dX4_ends_1 : decode cX4_ends 1 = .ok (.iconst 0, 1) := dk_3 (dk_at dksX4_ends_0 1 rfl rfl)
theorem dX4_ends_2 : decode cX4_ends 2 = .ok (.aload_n 0, 1) := dk_42 (dk_at dksX4_ends_0 2 rfl rfl)
theorem dX4_ends_3 : decode cX4_ends 3 = .ok (.getfield 7, 3) := dk_180 0 7 (dk_at dksX4_ends_0 3 rfl rfl)
theorem dX4_ends_6 : decode cX4_ends 6 = .ok (.iconst 4, 1) := dk_7 (dk_at dksX4_ends_0 6 rfl rfl)
theorem dX4_ends_7 : decode cX4_ends 7 = .ok (.iaload, 1) := dk_46 (dk_at dksX4_ends_0 7 rfl rfl)
theorem dX4_ends_8 : decode cX4_ends 8 = .ok (.iconst 1, 1) := dk_4 (dk_at dksX4_ends_0 8 rfl rfl)
theorem dX4_ends_9 : decode cX4_ends 9 = .ok (.isub, 1) := dk_100 (dk_at dksX4_ends_0 9 rfl rfl)
theorem dX4_ends_10 : decode cX4_ends 10 = .ok (.invokestatic 75, 3) := dk_184 0 75 (dk_at dksX4_ends_0 10 rfl rfl)
theorem dX4_ends_13 : decode cX4_ends 13 = .ok (.ifCond .eq 12, 3) := dk_153 0 12 (dk_at dksX4_ends_0 13 rfl rfl)
theorem dX4_ends_16 : decode cX4_ends 16 = .ok (.iload_n 2, 1) := dk_28 (dk_at dksX4_ends_0 16 rfl rfl)
theorem dX4_ends_17 : decode cX4_ends 17 = .ok (.iconst 0, 1) := dk_3 (dk_at dksX4_ends_0 17 rfl rfl)
theorem dX4_ends_18 : decode cX4_ends 18 = .ok (.iconst 3, 1) := dk_6 (dk_at dksX4_ends_0 18 rfl rfl)
theorem dX4_ends_19 : decode cX4_ends 19 = .ok (.invokestatic 75, 3) := dk_184 0 75 (dk_at dksX4_ends_0 19 rfl rfl)
theorem dX4_ends_22 : decode cX4_ends 22 = .ok (.ifCond .ne 5, 3) := dk_154 0 5 (dk_at dksX4_ends_1 0 rfl rfl)
theorem dX4_ends_25 : decode cX4_ends 25 = .ok (.iconst (-1), 1) := dk_2 (dk_at dksX4_ends_1 3 rfl rfl)
theorem dX4_ends_26 : decode cX4_ends 26 = .ok (.ireturn, 1) := dk_172 (dk_at dksX4_ends_1 4 rfl rfl)
theorem dX4_ends_27 : decode cX4_ends 27 = .ok (.aload_n 0, 1) := dk_42 (dk_at dksX4_ends_1 5 rfl rfl)
theorem dX4_ends_28 : decode cX4_ends 28 = .ok (.invokevirtual 302, 3) := dk_182 1 46 (dk_at dksX4_ends_1 6 rfl rfl)
theorem dX4_ends_31 : decode cX4_ends 31 = .ok (.aload_n 0, 1) := dk_42 (dk_at dksX4_ends_1 9 rfl rfl)
theorem dX4_ends_32 : decode cX4_ends 32 = .ok (.invokevirtual 287, 3) := dk_182 1 31 (dk_at dksX4_ends_1 10 rfl rfl)
theorem dX4_ends_35 : decode cX4_ends 35 = .ok (.aload_n 0, 1) := dk_42 (dk_at dksX4_ends_1 13 rfl rfl)
theorem dX4_ends_36 : decode cX4_ends 36 = .ok (.invokevirtual 305, 3) := dk_182 1 49 (dk_at dksX4_ends_1 14 rfl rfl)
theorem dX4_ends_39 : decode cX4_ends 39 = .ok (.iload_n 2, 1) := dk_28 (dk_at dksX4_ends_1 17 rfl rfl)
theorem dX4_ends_40 : decode cX4_ends 40 = .ok (.ifCond .ne 12, 3) := dk_154 0 12 (dk_at dksX4_ends_1 18 rfl rfl)
theorem dX4_ends_43 : decode cX4_ends 43 = .ok (.aload_n 0, 1) := dk_42 (dk_at dksX4_ends_1 21 rfl rfl)
theorem dX4_ends_44 : decode cX4_ends 44 = .ok (.getfield 41, 3) := dk_180 0 41 (dk_at dksX4_ends_2 0 rfl rfl)
theorem dX4_ends_47 : decode cX4_ends 47 = .ok (.iload_n 1, 1) := dk_27 (dk_at dksX4_ends_2 3 rfl rfl)
theorem dX4_ends_48 : decode cX4_ends 48 = .ok (.iaload, 1) := dk_46 (dk_at dksX4_ends_2 4 rfl rfl)
theorem dX4_ends_49 : decode cX4_ends 49 = .ok (.goto 37, 3) := dk_167 0 37 (dk_at dksX4_ends_2 5 rfl rfl)
theorem dX4_ends_52 : decode cX4_ends 52 = .ok (.iload_n 2, 1) := dk_28 (dk_at dksX4_ends_2 8 rfl rfl)
theorem dX4_ends_53 : decode cX4_ends 53 = .ok (.iconst 1, 1) := dk_4 (dk_at dksX4_ends_2 9 rfl rfl)
theorem dX4_ends_54 : decode cX4_ends 54 = .ok (.if_icmp .ne 12, 3) := dk_160 0 12 (dk_at dksX4_ends_2 10 rfl rfl)
theorem dX4_ends_57 : decode cX4_ends 57 = .ok (.aload_n 0, 1) := dk_42 (dk_at dksX4_ends_2 13 rfl rfl)
theorem dX4_ends_58 : decode cX4_ends 58 = .ok (.getfield 44, 3) := dk_180 0 44 (dk_at dksX4_ends_2 14 rfl rfl)
theorem dX4_ends_61 : decode cX4_ends 61 = .ok (.iload_n 1, 1) := dk_27 (dk_at dksX4_ends_2 17 rfl rfl)
theorem dX4_ends_62 : decode cX4_ends 62 = .ok (.iaload, 1) := dk_46 (dk_at dksX4_ends_2 18 rfl rfl)
theorem dX4_ends_63 : decode cX4_ends 63 = .ok (.goto 23, 3) := dk_167 0 23 (dk_at dksX4_ends_2 19 rfl rfl)
theorem dX4_ends_66 : decode cX4_ends 66 = .ok (.iload_n 2, 1) := dk_28 (dk_at dksX4_ends_2 22 rfl rfl)
theorem dX4_ends_67 : decode cX4_ends 67 = .ok (.iconst 2, 1) := dk_5 (dk_at dksX4_ends_2 23 rfl rfl)
theorem dX4_ends_68 : decode cX4_ends 68 = .ok (.if_icmp .ne 12, 3) := dk_160 0 12 (dk_at dksX4_ends_3 0 rfl rfl)
theorem dX4_ends_71 : decode cX4_ends 71 = .ok (.aload_n 0, 1) := dk_42 (dk_at dksX4_ends_3 3 rfl rfl)
theorem dX4_ends_72 : decode cX4_ends 72 = .ok (.getfield 47, 3) := dk_180 0 47 (dk_at dksX4_ends_3 4 rfl rfl)
theorem dX4_ends_75 : decode cX4_ends 75 = .ok (.iload_n 1, 1) := dk_27 (dk_at dksX4_ends_3 7 rfl rfl)
theorem dX4_ends_76 : decode cX4_ends 76 = .ok (.iaload, 1) := dk_46 (dk_at dksX4_ends_3 8 rfl rfl)
theorem dX4_ends_77 : decode cX4_ends 77 = .ok (.goto 9, 3) := dk_167 0 9 (dk_at dksX4_ends_3 9 rfl rfl)
theorem dX4_ends_80 : decode cX4_ends 80 = .ok (.aload_n 0, 1) := dk_42 (dk_at dksX4_ends_3 12 rfl rfl)
theorem dX4_ends_81 : decode cX4_ends 81 = .ok (.getfield 50, 3) := dk_180 0 50 (dk_at dksX4_ends_3 13 rfl rfl)
theorem dX4_ends_84 : decode cX4_ends 84 = .ok (.iload_n 1, 1) := dk_27 (dk_at dksX4_ends_3 16 rfl rfl)
theorem dX4_ends_85 : decode cX4_ends 85 = .ok (.iaload, 1) := dk_46 (dk_at dksX4_ends_3 17 rfl rfl)
theorem dX4_ends_86 : decode cX4_ends 86 = .ok (.ireturn, 1) := dk_172 (dk_at dksX4_ends_3 18 rfl rfl)
abbrev cX4_setsOut : ByteArray := prog_14_method_66_code
def yX4_setsOut : MethodName := ⟨RX4, "setsOut", "()V"⟩
def dkwX4_setsOut_1 : List UInt8 := [167, 255, 234, 42, 4, 181, 0, 254, 177]
abbrev dktX4_setsOut_1 : List UInt8 := dkwX4_setsOut_1 ++ []
def dkwX4_setsOut_0 : List UInt8 := [3, 60, 27, 17, 5, 60, 162, 0, 21, 42, 180, 0, 16, 27, 42, 180, 0, 7, 27, 46, 79, 132, 1, 1]
abbrev dktX4_setsOut_0 : List UInt8 := dkwX4_setsOut_0 ++ dktX4_setsOut_1
theorem dksX4_setsOut_0 : cX4_setsOut.data.toList.drop 0 = dktX4_setsOut_0 := by decide +kernel
theorem dksX4_setsOut_1 : cX4_setsOut.data.toList.drop 24 = dktX4_setsOut_1 := dk_seg dksX4_setsOut_0 24 rfl rfl
theorem dX4_setsOut_0 : decode cX4_setsOut 0 = .ok (.iconst 0, 1) := dk_3 (dk_at dksX4_setsOut_0 0 rfl rfl)
theorem dX4_setsOut_1 : decode cX4_setsOut 1 = .ok (.istore_n 1, 1) := dk_60 (dk_at dksX4_setsOut_0 1 rfl rfl)
theorem dX4_setsOut_2 : decode cX4_setsOut 2 = .ok (.iload_n 1, 1) := dk_27 (dk_at dksX4_setsOut_0 2 rfl rfl)
theorem dX4_setsOut_3 : decode cX4_setsOut 3 = .ok (.sipush 1340, 3) := dk_17 5 60 (dk_at dksX4_setsOut_0 3 rfl rfl)
theorem dX4_setsOut_6 : decode cX4_setsOut 6 = .ok (.if_icmp .ge 21, 3) := dk_162 0 21 (dk_at dksX4_setsOut_0 6 rfl rfl)
theorem dX4_setsOut_9 : decode cX4_setsOut 9 = .ok (.aload_n 0, 1) := dk_42 (dk_at dksX4_setsOut_0 9 rfl rfl)
theorem dX4_setsOut_10 : decode cX4_setsOut 10 = .ok (.getfield 16, 3) := dk_180 0 16 (dk_at dksX4_setsOut_0 10 rfl rfl)
theorem dX4_setsOut_13 : decode cX4_setsOut 13 = .ok (.iload_n 1, 1) := dk_27 (dk_at dksX4_setsOut_0 13 rfl rfl)
theorem dX4_setsOut_14 : decode cX4_setsOut 14 = .ok (.aload_n 0, 1) := dk_42 (dk_at dksX4_setsOut_0 14 rfl rfl)
theorem dX4_setsOut_15 : decode cX4_setsOut 15 = .ok (.getfield 7, 3) := dk_180 0 7 (dk_at dksX4_setsOut_0 15 rfl rfl)
theorem dX4_setsOut_18 : decode cX4_setsOut 18 = .ok (.iload_n 1, 1) := dk_27 (dk_at dksX4_setsOut_0 18 rfl rfl)
theorem dX4_setsOut_19 : decode cX4_setsOut 19 = .ok (.iaload, 1) := dk_46 (dk_at dksX4_setsOut_0 19 rfl rfl)
theorem dX4_setsOut_20 : decode cX4_setsOut 20 = .ok (.iastore, 1) := dk_79 (dk_at dksX4_setsOut_0 20 rfl rfl)
theorem dX4_setsOut_21 : decode cX4_setsOut 21 = .ok (.iinc 1 1, 3) := dk_132 1 1 (dk_at dksX4_setsOut_0 21 rfl rfl)
theorem dX4_setsOut_24 : decode cX4_setsOut 24 = .ok (.goto (-22), 3) := dk_167 255 234 (dk_at dksX4_setsOut_1 0 rfl rfl)
theorem dX4_setsOut_27 : decode cX4_setsOut 27 = .ok (.aload_n 0, 1) := dk_42 (dk_at dksX4_setsOut_1 3 rfl rfl)
theorem dX4_setsOut_28 : decode cX4_setsOut 28 = .ok (.iconst 1, 1) := dk_4 (dk_at dksX4_setsOut_1 4 rfl rfl)
theorem dX4_setsOut_29 : decode cX4_setsOut 29 = .ok (.putfield 254, 3) := dk_181 0 254 (dk_at dksX4_setsOut_1 5 rfl rfl)
theorem dX4_setsOut_32 : decode cX4_setsOut 32 = .ok (.return_, 1) := dk_177 (dk_at dksX4_setsOut_1 8 rfl rfl)
abbrev cX4_comesBack : ByteArray := prog_14_method_67_code
def yX4_comesBack : MethodName := ⟨RX4, "comesBack", "()V"⟩
def dkwX4_comesBack_1 : List UInt8 := [167, 255, 234, 42, 3, 181, 0, 254, 177]
abbrev dktX4_comesBack_1 : List UInt8 := dkwX4_comesBack_1 ++ []
def dkwX4_comesBack_0 : List UInt8 := [3, 60, 27, 17, 5, 60, 162, 0, 21, 42, 180, 0, 7, 27, 42, 180, 0, 16, 27, 46, 79, 132, 1, 1]
abbrev dktX4_comesBack_0 : List UInt8 := dkwX4_comesBack_0 ++ dktX4_comesBack_1
theorem dksX4_comesBack_0 : cX4_comesBack.data.toList.drop 0 = dktX4_comesBack_0 := by decide +kernel
theorem dksX4_comesBack_1 : cX4_comesBack.data.toList.drop 24 = dktX4_comesBack_1 := dk_seg dksX4_comesBack_0 24 rfl rfl
theorem dX4_comesBack_0 : decode cX4_comesBack 0 = .ok (.iconst 0, 1) := dk_3 (dk_at dksX4_comesBack_0 0 rfl rfl)
theorem dX4_comesBack_1 : decode cX4_comesBack 1 = .ok (.istore_n 1, 1) := dk_60 (dk_at dksX4_comesBack_0 1 rfl rfl)
theorem dX4_comesBack_2 : decode cX4_comesBack 2 = .ok (.iload_n 1, 1) := dk_27 (dk_at dksX4_comesBack_0 2 rfl rfl)
theorem dX4_comesBack_3 : decode cX4_comesBack 3 = .ok (.sipush 1340, 3) := dk_17 5 60 (dk_at dksX4_comesBack_0 3 rfl rfl)
theorem dX4_comesBack_6 : decode cX4_comesBack 6 = .ok (.if_icmp .ge 21, 3) := dk_162 0 21 (dk_at dksX4_comesBack_0 6 rfl rfl)
theorem dX4_comesBack_9 : decode cX4_comesBack 9 = .ok (.aload_n 0, 1) := dk_42 (dk_at dksX4_comesBack_0 9 rfl rfl)
theorem dX4_comesBack_10 : decode cX4_comesBack 10 = .ok (.getfield 7, 3) := dk_180 0 7 (dk_at dksX4_comesBack_0 10 rfl rfl)
theorem dX4_comesBack_13 : decode cX4_comesBack 13 = .ok (.iload_n 1, 1) := dk_27 (dk_at dksX4_comesBack_0 13 rfl rfl)
theorem dX4_comesBack_14 : decode cX4_comesBack 14 = .ok (.aload_n 0, 1) := dk_42 (dk_at dksX4_comesBack_0 14 rfl rfl)
theorem dX4_comesBack_15 : decode cX4_comesBack 15 = .ok (.getfield 16, 3) := dk_180 0 16 (dk_at dksX4_comesBack_0 15 rfl rfl)
theorem dX4_comesBack_18 : decode cX4_comesBack 18 = .ok (.iload_n 1, 1) := dk_27 (dk_at dksX4_comesBack_0 18 rfl rfl)
theorem dX4_comesBack_19 : decode cX4_comesBack 19 = .ok (.iaload, 1) := dk_46 (dk_at dksX4_comesBack_0 19 rfl rfl)
theorem dX4_comesBack_20 : decode cX4_comesBack 20 = .ok (.iastore, 1) := dk_79 (dk_at dksX4_comesBack_0 20 rfl rfl)
theorem dX4_comesBack_21 : decode cX4_comesBack 21 = .ok (.iinc 1 1, 3) := dk_132 1 1 (dk_at dksX4_comesBack_0 21 rfl rfl)
theorem dX4_comesBack_24 : decode cX4_comesBack 24 = .ok (.goto (-22), 3) := dk_167 255 234 (dk_at dksX4_comesBack_1 0 rfl rfl)
theorem dX4_comesBack_27 : decode cX4_comesBack 27 = .ok (.aload_n 0, 1) := dk_42 (dk_at dksX4_comesBack_1 3 rfl rfl)
theorem dX4_comesBack_28 : decode cX4_comesBack 28 = .ok (.iconst 0, 1) := dk_3 (dk_at dksX4_comesBack_1 4 rfl rfl)
theorem dX4_comesBack_29 : decode cX4_comesBack 29 = .ok (.putfield 254, 3) := dk_181 0 254 (dk_at dksX4_comesBack_1 5 rfl rfl)
theorem dX4_comesBack_32 : decode cX4_comesBack 32 = .ok (.return_, 1) := dk_177 (dk_at dksX4_comesBack_1 8 rfl rfl)
abbrev cX4_plan : ByteArray := prog_14_method_71_code
def yX4_plan : MethodName := ⟨RX4, "plan", "(III)I"⟩
def dkwX4_plan_9 : List UInt8 := [167, 0, 7, 42, 180, 1, 61, 172]
abbrev dktX4_plan_9 : List UInt8 := dkwX4_plan_9 ++ []
def dkwX4_plan_8 : List UInt8 := [167, 0, 31, 29, 4, 160, 0, 10, 42, 180, 1, 55, 167, 0, 19, 29, 5, 160, 0, 10, 42, 180, 1, 58]
abbrev dktX4_plan_8 : List UInt8 := dkwX4_plan_8 ++ dktX4_plan_9
def dkwX4_plan_7 : List UInt8 := [132, 4, 1, 167, 255, 199, 42, 180, 1, 52, 2, 160, 0, 5, 2, 172, 29, 154, 0, 10, 42, 180, 1, 52]
abbrev dktX4_plan_7 : List UInt8 := dkwX4_plan_7 ++ dktX4_plan_8
def dkwX4_plan_6 : List UInt8 := [21, 5, 182, 1, 68, 153, 0, 13, 42, 27, 28, 21, 4, 21, 5, 182, 1, 64, 132, 5, 1, 167, 255, 218]
abbrev dktX4_plan_6 : List UInt8 := dkwX4_plan_6 ++ dktX4_plan_7
def dkwX4_plan_5 : List UInt8 := [21, 4, 4, 96, 54, 5, 21, 5, 16, 100, 162, 0, 37, 42, 21, 4, 182, 1, 68, 153, 0, 22, 42]
abbrev dktX4_plan_5 : List UInt8 := dkwX4_plan_5 ++ dktX4_plan_6
def dkwX4_plan_4 : List UInt8 := [28, 21, 4, 2, 182, 1, 64, 132, 4, 1, 167, 255, 228, 3, 54, 4, 21, 4, 16, 100, 162, 0, 56]
abbrev dktX4_plan_4 : List UInt8 := dkwX4_plan_4 ++ dktX4_plan_5
def dkwX4_plan_3 : List UInt8 := [160, 0, 100, 3, 54, 4, 21, 4, 16, 100, 162, 0, 27, 42, 21, 4, 182, 1, 68, 153, 0, 12, 42, 27]
abbrev dktX4_plan_3 : List UInt8 := dkwX4_plan_3 ++ dktX4_plan_4
def dkwX4_plan_2 : List UInt8 := [154, 0, 5, 2, 172, 42, 2, 181, 1, 52, 42, 27, 28, 2, 2, 182, 1, 64, 42, 180, 1, 52, 2]
abbrev dktX4_plan_2 : List UInt8 := dkwX4_plan_2 ++ dktX4_plan_3
def dkwX4_plan_1 : List UInt8 := [180, 0, 7, 3, 46, 42, 180, 0, 7, 4, 46, 104, 16, 36, 163, 0, 12, 29, 3, 6, 184, 0, 75]
abbrev dktX4_plan_1 : List UInt8 := dkwX4_plan_1 ++ dktX4_plan_2
def dkwX4_plan_0 : List UInt8 := [42, 27, 182, 0, 85, 153, 0, 43, 42, 28, 182, 0, 85, 153, 0, 35, 27, 28, 159, 0, 30, 42]
abbrev dktX4_plan_0 : List UInt8 := dkwX4_plan_0 ++ dktX4_plan_1
theorem dksX4_plan_0 : cX4_plan.data.toList.drop 0 = dktX4_plan_0 := by decide +kernel
theorem dksX4_plan_1 : cX4_plan.data.toList.drop 22 = dktX4_plan_1 := dk_seg dksX4_plan_0 22 rfl rfl
theorem dksX4_plan_2 : cX4_plan.data.toList.drop 45 = dktX4_plan_2 := dk_seg dksX4_plan_1 23 rfl rfl
theorem dksX4_plan_3 : cX4_plan.data.toList.drop 68 = dktX4_plan_3 := dk_seg dksX4_plan_2 23 rfl rfl
theorem dksX4_plan_4 : cX4_plan.data.toList.drop 92 = dktX4_plan_4 := dk_seg dksX4_plan_3 24 rfl rfl
theorem dksX4_plan_5 : cX4_plan.data.toList.drop 115 = dktX4_plan_5 := dk_seg dksX4_plan_4 23 rfl rfl
theorem dksX4_plan_6 : cX4_plan.data.toList.drop 138 = dktX4_plan_6 := dk_seg dksX4_plan_5 23 rfl rfl
theorem dksX4_plan_7 : cX4_plan.data.toList.drop 162 = dktX4_plan_7 := dk_seg dksX4_plan_6 24 rfl rfl
theorem dksX4_plan_8 : cX4_plan.data.toList.drop 186 = dktX4_plan_8 := dk_seg dksX4_plan_7 24 rfl rfl
theorem dksX4_plan_9 : cX4_plan.data.toList.drop 210 = dktX4_plan_9 := dk_seg dksX4_plan_8 24 rfl rfl
theorem dX4_plan_0 : decode cX4_plan 0 = .ok (.aload_n 0, 1) := dk_42 (dk_at dksX4_plan_0 0 rfl rfl)
theorem dX4_plan_1 : decode cX4_plan 1 = .ok (.iload_n 1, 1) := dk_27 (dk_at dksX4_plan_0 1 rfl rfl)
theorem dX4_plan_2 : decode cX4_plan 2 = .ok (.invokevirtual 85, 3) := dk_182 0 85 (dk_at dksX4_plan_0 2 rfl rfl)
theorem dX4_plan_5 : decode cX4_plan 5 = .ok (.ifCond .eq 43, 3) := dk_153 0 43 (dk_at dksX4_plan_0 5 rfl rfl)
theorem dX4_plan_8 : decode cX4_plan 8 = .ok (.aload_n 0, 1) := dk_42 (dk_at dksX4_plan_0 8 rfl rfl)
theorem dX4_plan_9 : decode cX4_plan 9 = .ok (.iload_n 2, 1) := dk_28 (dk_at dksX4_plan_0 9 rfl rfl)
theorem dX4_plan_10 : decode cX4_plan 10 = .ok (.invokevirtual 85, 3) := dk_182 0 85 (dk_at dksX4_plan_0 10 rfl rfl)
theorem dX4_plan_13 : decode cX4_plan 13 = .ok (.ifCond .eq 35, 3) := dk_153 0 35 (dk_at dksX4_plan_0 13 rfl rfl)
theorem dX4_plan_16 : decode cX4_plan 16 = .ok (.iload_n 1, 1) := dk_27 (dk_at dksX4_plan_0 16 rfl rfl)
theorem dX4_plan_17 : decode cX4_plan 17 = .ok (.iload_n 2, 1) := dk_28 (dk_at dksX4_plan_0 17 rfl rfl)
theorem dX4_plan_18 : decode cX4_plan 18 = .ok (.if_icmp .eq 30, 3) := dk_159 0 30 (dk_at dksX4_plan_0 18 rfl rfl)
theorem dX4_plan_21 : decode cX4_plan 21 = .ok (.aload_n 0, 1) := dk_42 (dk_at dksX4_plan_0 21 rfl rfl)
theorem dX4_plan_22 : decode cX4_plan 22 = .ok (.getfield 7, 3) := dk_180 0 7 (dk_at dksX4_plan_1 0 rfl rfl)
theorem dX4_plan_25 : decode cX4_plan 25 = .ok (.iconst 0, 1) := dk_3 (dk_at dksX4_plan_1 3 rfl rfl)
theorem dX4_plan_26 : decode cX4_plan 26 = .ok (.iaload, 1) := dk_46 (dk_at dksX4_plan_1 4 rfl rfl)
theorem dX4_plan_27 : decode cX4_plan 27 = .ok (.aload_n 0, 1) := dk_42 (dk_at dksX4_plan_1 5 rfl rfl)
theorem dX4_plan_28 : decode cX4_plan 28 = .ok (.getfield 7, 3) := dk_180 0 7 (dk_at dksX4_plan_1 6 rfl rfl)
theorem dX4_plan_31 : decode cX4_plan 31 = .ok (.iconst 1, 1) := dk_4 (dk_at dksX4_plan_1 9 rfl rfl)
theorem dX4_plan_32 : decode cX4_plan 32 = .ok (.iaload, 1) := dk_46 (dk_at dksX4_plan_1 10 rfl rfl)
theorem dX4_plan_33 : decode cX4_plan 33 = .ok (.imul, 1) := dk_104 (dk_at dksX4_plan_1 11 rfl rfl)
theorem dX4_plan_34 : decode cX4_plan 34 = .ok (.bipush 36, 2) := dk_16 36 (dk_at dksX4_plan_1 12 rfl rfl)
theorem dX4_plan_36 : decode cX4_plan 36 = .ok (.if_icmp .gt 12, 3) := dk_163 0 12 (dk_at dksX4_plan_1 14 rfl rfl)
theorem dX4_plan_39 : decode cX4_plan 39 = .ok (.iload_n 3, 1) := dk_29 (dk_at dksX4_plan_1 17 rfl rfl)
theorem dX4_plan_40 : decode cX4_plan 40 = .ok (.iconst 0, 1) := dk_3 (dk_at dksX4_plan_1 18 rfl rfl)
theorem dX4_plan_41 : decode cX4_plan 41 = .ok (.iconst 3, 1) := dk_6 (dk_at dksX4_plan_1 19 rfl rfl)
theorem dX4_plan_42 : decode cX4_plan 42 = .ok (.invokestatic 75, 3) := dk_184 0 75 (dk_at dksX4_plan_1 20 rfl rfl)
theorem dX4_plan_45 : decode cX4_plan 45 = .ok (.ifCond .ne 5, 3) := dk_154 0 5 (dk_at dksX4_plan_2 0 rfl rfl)
theorem dX4_plan_48 : decode cX4_plan 48 = .ok (.iconst (-1), 1) := dk_2 (dk_at dksX4_plan_2 3 rfl rfl)
theorem dX4_plan_49 : decode cX4_plan 49 = .ok (.ireturn, 1) := dk_172 (dk_at dksX4_plan_2 4 rfl rfl)
theorem dX4_plan_50 : decode cX4_plan 50 = .ok (.aload_n 0, 1) := dk_42 (dk_at dksX4_plan_2 5 rfl rfl)
theorem dX4_plan_51 : decode cX4_plan 51 = .ok (.iconst (-1), 1) := dk_2 (dk_at dksX4_plan_2 6 rfl rfl)
theorem dX4_plan_52 : decode cX4_plan 52 = .ok (.putfield 308, 3) := dk_181 1 52 (dk_at dksX4_plan_2 7 rfl rfl)
theorem dX4_plan_55 : decode cX4_plan 55 = .ok (.aload_n 0, 1) := dk_42 (dk_at dksX4_plan_2 10 rfl rfl)
theorem dX4_plan_56 : decode cX4_plan 56 = .ok (.iload_n 1, 1) := dk_27 (dk_at dksX4_plan_2 11 rfl rfl)
theorem dX4_plan_57 : decode cX4_plan 57 = .ok (.iload_n 2, 1) := dk_28 (dk_at dksX4_plan_2 12 rfl rfl)
theorem dX4_plan_58 : decode cX4_plan 58 = .ok (.iconst (-1), 1) := dk_2 (dk_at dksX4_plan_2 13 rfl rfl)
theorem dX4_plan_59 : decode cX4_plan 59 = .ok (.iconst (-1), 1) := dk_2 (dk_at dksX4_plan_2 14 rfl rfl)
theorem dX4_plan_60 : decode cX4_plan 60 = .ok (.invokevirtual 320, 3) := dk_182 1 64 (dk_at dksX4_plan_2 15 rfl rfl)
theorem dX4_plan_63 : decode cX4_plan 63 = .ok (.aload_n 0, 1) := dk_42 (dk_at dksX4_plan_2 18 rfl rfl)
theorem dX4_plan_64 : decode cX4_plan 64 = .ok (.getfield 308, 3) := dk_180 1 52 (dk_at dksX4_plan_2 19 rfl rfl)
theorem dX4_plan_67 : decode cX4_plan 67 = .ok (.iconst (-1), 1) := dk_2 (dk_at dksX4_plan_2 22 rfl rfl)
theorem dX4_plan_68 : decode cX4_plan 68 = .ok (.if_icmp .ne 100, 3) := dk_160 0 100 (dk_at dksX4_plan_3 0 rfl rfl)
theorem dX4_plan_71 : decode cX4_plan 71 = .ok (.iconst 0, 1) := dk_3 (dk_at dksX4_plan_3 3 rfl rfl)
theorem dX4_plan_72 : decode cX4_plan 72 = .ok (.istore 4, 2) := dk_54 4 (dk_at dksX4_plan_3 4 rfl rfl)
theorem dX4_plan_74 : decode cX4_plan 74 = .ok (.iload 4, 2) := dk_21 4 (dk_at dksX4_plan_3 6 rfl rfl)
theorem dX4_plan_76 : decode cX4_plan 76 = .ok (.bipush 100, 2) := dk_16 100 (dk_at dksX4_plan_3 8 rfl rfl)
theorem dX4_plan_78 : decode cX4_plan 78 = .ok (.if_icmp .ge 27, 3) := dk_162 0 27 (dk_at dksX4_plan_3 10 rfl rfl)
theorem dX4_plan_81 : decode cX4_plan 81 = .ok (.aload_n 0, 1) := dk_42 (dk_at dksX4_plan_3 13 rfl rfl)
theorem dX4_plan_82 : decode cX4_plan 82 = .ok (.iload 4, 2) := dk_21 4 (dk_at dksX4_plan_3 14 rfl rfl)
theorem dX4_plan_84 : decode cX4_plan 84 = .ok (.invokevirtual 324, 3) := dk_182 1 68 (dk_at dksX4_plan_3 16 rfl rfl)
theorem dX4_plan_87 : decode cX4_plan 87 = .ok (.ifCond .eq 12, 3) := dk_153 0 12 (dk_at dksX4_plan_3 19 rfl rfl)
theorem dX4_plan_90 : decode cX4_plan 90 = .ok (.aload_n 0, 1) := dk_42 (dk_at dksX4_plan_3 22 rfl rfl)
theorem dX4_plan_91 : decode cX4_plan 91 = .ok (.iload_n 1, 1) := dk_27 (dk_at dksX4_plan_3 23 rfl rfl)
theorem dX4_plan_92 : decode cX4_plan 92 = .ok (.iload_n 2, 1) := dk_28 (dk_at dksX4_plan_4 0 rfl rfl)
theorem dX4_plan_93 : decode cX4_plan 93 = .ok (.iload 4, 2) := dk_21 4 (dk_at dksX4_plan_4 1 rfl rfl)
theorem dX4_plan_95 : decode cX4_plan 95 = .ok (.iconst (-1), 1) := dk_2 (dk_at dksX4_plan_4 3 rfl rfl)
theorem dX4_plan_96 : decode cX4_plan 96 = .ok (.invokevirtual 320, 3) := dk_182 1 64 (dk_at dksX4_plan_4 4 rfl rfl)
theorem dX4_plan_99 : decode cX4_plan 99 = .ok (.iinc 4 1, 3) := dk_132 4 1 (dk_at dksX4_plan_4 7 rfl rfl)
theorem dX4_plan_102 : decode cX4_plan 102 = .ok (.goto (-28), 3) := dk_167 255 228 (dk_at dksX4_plan_4 10 rfl rfl)
theorem dX4_plan_105 : decode cX4_plan 105 = .ok (.iconst 0, 1) := dk_3 (dk_at dksX4_plan_4 13 rfl rfl)
theorem dX4_plan_106 : decode cX4_plan 106 = .ok (.istore 4, 2) := dk_54 4 (dk_at dksX4_plan_4 14 rfl rfl)
theorem dX4_plan_108 : decode cX4_plan 108 = .ok (.iload 4, 2) := dk_21 4 (dk_at dksX4_plan_4 16 rfl rfl)
theorem dX4_plan_110 : decode cX4_plan 110 = .ok (.bipush 100, 2) := dk_16 100 (dk_at dksX4_plan_4 18 rfl rfl)
theorem dX4_plan_112 : decode cX4_plan 112 = .ok (.if_icmp .ge 56, 3) := dk_162 0 56 (dk_at dksX4_plan_4 20 rfl rfl)
theorem dX4_plan_115 : decode cX4_plan 115 = .ok (.iload 4, 2) := dk_21 4 (dk_at dksX4_plan_5 0 rfl rfl)
theorem dX4_plan_117 : decode cX4_plan 117 = .ok (.iconst 1, 1) := dk_4 (dk_at dksX4_plan_5 2 rfl rfl)
theorem dX4_plan_118 : decode cX4_plan 118 = .ok (.iadd, 1) := dk_96 (dk_at dksX4_plan_5 3 rfl rfl)
theorem dX4_plan_119 : decode cX4_plan 119 = .ok (.istore 5, 2) := dk_54 5 (dk_at dksX4_plan_5 4 rfl rfl)
theorem dX4_plan_121 : decode cX4_plan 121 = .ok (.iload 5, 2) := dk_21 5 (dk_at dksX4_plan_5 6 rfl rfl)
theorem dX4_plan_123 : decode cX4_plan 123 = .ok (.bipush 100, 2) := dk_16 100 (dk_at dksX4_plan_5 8 rfl rfl)
theorem dX4_plan_125 : decode cX4_plan 125 = .ok (.if_icmp .ge 37, 3) := dk_162 0 37 (dk_at dksX4_plan_5 10 rfl rfl)
theorem dX4_plan_128 : decode cX4_plan 128 = .ok (.aload_n 0, 1) := dk_42 (dk_at dksX4_plan_5 13 rfl rfl)
theorem dX4_plan_129 : decode cX4_plan 129 = .ok (.iload 4, 2) := dk_21 4 (dk_at dksX4_plan_5 14 rfl rfl)
theorem dX4_plan_131 : decode cX4_plan 131 = .ok (.invokevirtual 324, 3) := dk_182 1 68 (dk_at dksX4_plan_5 16 rfl rfl)
theorem dX4_plan_134 : decode cX4_plan 134 = .ok (.ifCond .eq 22, 3) := dk_153 0 22 (dk_at dksX4_plan_5 19 rfl rfl)
theorem dX4_plan_137 : decode cX4_plan 137 = .ok (.aload_n 0, 1) := dk_42 (dk_at dksX4_plan_5 22 rfl rfl)
theorem dX4_plan_138 : decode cX4_plan 138 = .ok (.iload 5, 2) := dk_21 5 (dk_at dksX4_plan_6 0 rfl rfl)
theorem dX4_plan_140 : decode cX4_plan 140 = .ok (.invokevirtual 324, 3) := dk_182 1 68 (dk_at dksX4_plan_6 2 rfl rfl)
theorem dX4_plan_143 : decode cX4_plan 143 = .ok (.ifCond .eq 13, 3) := dk_153 0 13 (dk_at dksX4_plan_6 5 rfl rfl)
theorem dX4_plan_146 : decode cX4_plan 146 = .ok (.aload_n 0, 1) := dk_42 (dk_at dksX4_plan_6 8 rfl rfl)
theorem dX4_plan_147 : decode cX4_plan 147 = .ok (.iload_n 1, 1) := dk_27 (dk_at dksX4_plan_6 9 rfl rfl)
theorem dX4_plan_148 : decode cX4_plan 148 = .ok (.iload_n 2, 1) := dk_28 (dk_at dksX4_plan_6 10 rfl rfl)
theorem dX4_plan_149 : decode cX4_plan 149 = .ok (.iload 4, 2) := dk_21 4 (dk_at dksX4_plan_6 11 rfl rfl)
theorem dX4_plan_151 : decode cX4_plan 151 = .ok (.iload 5, 2) := dk_21 5 (dk_at dksX4_plan_6 13 rfl rfl)
theorem dX4_plan_153 : decode cX4_plan 153 = .ok (.invokevirtual 320, 3) := dk_182 1 64 (dk_at dksX4_plan_6 15 rfl rfl)
theorem dX4_plan_156 : decode cX4_plan 156 = .ok (.iinc 5 1, 3) := dk_132 5 1 (dk_at dksX4_plan_6 18 rfl rfl)
theorem dX4_plan_159 : decode cX4_plan 159 = .ok (.goto (-38), 3) := dk_167 255 218 (dk_at dksX4_plan_6 21 rfl rfl)
theorem dX4_plan_162 : decode cX4_plan 162 = .ok (.iinc 4 1, 3) := dk_132 4 1 (dk_at dksX4_plan_7 0 rfl rfl)
theorem dX4_plan_165 : decode cX4_plan 165 = .ok (.goto (-57), 3) := dk_167 255 199 (dk_at dksX4_plan_7 3 rfl rfl)
theorem dX4_plan_168 : decode cX4_plan 168 = .ok (.aload_n 0, 1) := dk_42 (dk_at dksX4_plan_7 6 rfl rfl)
theorem dX4_plan_169 : decode cX4_plan 169 = .ok (.getfield 308, 3) := dk_180 1 52 (dk_at dksX4_plan_7 7 rfl rfl)
theorem dX4_plan_172 : decode cX4_plan 172 = .ok (.iconst (-1), 1) := dk_2 (dk_at dksX4_plan_7 10 rfl rfl)
theorem dX4_plan_173 : decode cX4_plan 173 = .ok (.if_icmp .ne 5, 3) := dk_160 0 5 (dk_at dksX4_plan_7 11 rfl rfl)
theorem dX4_plan_176 : decode cX4_plan 176 = .ok (.iconst (-1), 1) := dk_2 (dk_at dksX4_plan_7 14 rfl rfl)
theorem dX4_plan_177 : decode cX4_plan 177 = .ok (.ireturn, 1) := dk_172 (dk_at dksX4_plan_7 15 rfl rfl)
theorem dX4_plan_178 : decode cX4_plan 178 = .ok (.iload_n 3, 1) := dk_29 (dk_at dksX4_plan_7 16 rfl rfl)
theorem dX4_plan_179 : decode cX4_plan 179 = .ok (.ifCond .ne 10, 3) := dk_154 0 10 (dk_at dksX4_plan_7 17 rfl rfl)
theorem dX4_plan_182 : decode cX4_plan 182 = .ok (.aload_n 0, 1) := dk_42 (dk_at dksX4_plan_7 20 rfl rfl)
theorem dX4_plan_183 : decode cX4_plan 183 = .ok (.getfield 308, 3) := dk_180 1 52 (dk_at dksX4_plan_7 21 rfl rfl)
theorem dX4_plan_186 : decode cX4_plan 186 = .ok (.goto 31, 3) := dk_167 0 31 (dk_at dksX4_plan_8 0 rfl rfl)
theorem dX4_plan_189 : decode cX4_plan 189 = .ok (.iload_n 3, 1) := dk_29 (dk_at dksX4_plan_8 3 rfl rfl)
theorem dX4_plan_190 : decode cX4_plan 190 = .ok (.iconst 1, 1) := dk_4 (dk_at dksX4_plan_8 4 rfl rfl)
theorem dX4_plan_191 : decode cX4_plan 191 = .ok (.if_icmp .ne 10, 3) := dk_160 0 10 (dk_at dksX4_plan_8 5 rfl rfl)
theorem dX4_plan_194 : decode cX4_plan 194 = .ok (.aload_n 0, 1) := dk_42 (dk_at dksX4_plan_8 8 rfl rfl)
theorem dX4_plan_195 : decode cX4_plan 195 = .ok (.getfield 311, 3) := dk_180 1 55 (dk_at dksX4_plan_8 9 rfl rfl)
theorem dX4_plan_198 : decode cX4_plan 198 = .ok (.goto 19, 3) := dk_167 0 19 (dk_at dksX4_plan_8 12 rfl rfl)
theorem dX4_plan_201 : decode cX4_plan 201 = .ok (.iload_n 3, 1) := dk_29 (dk_at dksX4_plan_8 15 rfl rfl)
theorem dX4_plan_202 : decode cX4_plan 202 = .ok (.iconst 2, 1) := dk_5 (dk_at dksX4_plan_8 16 rfl rfl)
theorem dX4_plan_203 : decode cX4_plan 203 = .ok (.if_icmp .ne 10, 3) := dk_160 0 10 (dk_at dksX4_plan_8 17 rfl rfl)
theorem dX4_plan_206 : decode cX4_plan 206 = .ok (.aload_n 0, 1) := dk_42 (dk_at dksX4_plan_8 20 rfl rfl)
theorem dX4_plan_207 : decode cX4_plan 207 = .ok (.getfield 314, 3) := dk_180 1 58 (dk_at dksX4_plan_8 21 rfl rfl)
theorem dX4_plan_210 : decode cX4_plan 210 = .ok (.goto 7, 3) := dk_167 0 7 (dk_at dksX4_plan_9 0 rfl rfl)
theorem dX4_plan_213 : decode cX4_plan 213 = .ok (.aload_n 0, 1) := dk_42 (dk_at dksX4_plan_9 3 rfl rfl)
theorem dX4_plan_214 : decode cX4_plan 214 = .ok (.getfield 317, 3) := dk_180 1 61 (dk_at dksX4_plan_9 4 rfl rfl)
theorem dX4_plan_217 : decode cX4_plan 217 = .ok (.ireturn, 1) := dk_172 (dk_at dksX4_plan_9 7 rfl rfl)
abbrev cX4_triesPonds : ByteArray := prog_14_method_69_code
def yX4_triesPonds : MethodName := ⟨RX4, "triesPonds", "(IIII)V"⟩
def dkwX4_triesPonds_8 : List UInt8 := [181, 1, 52, 42, 21, 5, 181, 1, 55, 42, 29, 181, 1, 58, 42, 21, 4, 181, 1, 61, 177]
abbrev dktX4_triesPonds_8 : List UInt8 := dkwX4_triesPonds_8 ++ []
def dkwX4_triesPonds_7 : List UInt8 := [160, 0, 7, 4, 167, 0, 4, 3, 54, 7, 42, 182, 1, 49, 21, 7, 154, 0, 4, 177, 42, 21, 6]
abbrev dktX4_triesPonds_7 : List UInt8 := dkwX4_triesPonds_7 ++ dktX4_triesPonds_8
def dkwX4_triesPonds_6 : List UInt8 := [4, 79, 42, 182, 1, 31, 42, 182, 1, 34, 42, 180, 0, 53, 27, 46, 42, 180, 0, 53, 28, 46]
abbrev dktX4_triesPonds_6 : List UInt8 := dkwX4_triesPonds_6 ++ dktX4_triesPonds_7
def dkwX4_triesPonds_5 : List UInt8 := [180, 0, 7, 16, 120, 29, 96, 4, 79, 21, 4, 2, 159, 0, 14, 42, 180, 0, 7, 16, 120, 21, 4, 96]
abbrev dktX4_triesPonds_5 : List UInt8 := dkwX4_triesPonds_5 ++ dktX4_triesPonds_6
def dkwX4_triesPonds_4 : List UInt8 := [160, 0, 13, 21, 5, 42, 180, 1, 55, 161, 0, 4, 177, 42, 182, 1, 46, 29, 2, 159, 0, 13, 42]
abbrev dktX4_triesPonds_4 : List UInt8 := dkwX4_triesPonds_4 ++ dktX4_triesPonds_5
def dkwX4_triesPonds_3 : List UInt8 := [180, 1, 52, 2, 159, 0, 31, 21, 6, 42, 180, 1, 52, 163, 0, 21, 21, 6, 42, 180, 1, 52]
abbrev dktX4_triesPonds_3 : List UInt8 := dkwX4_triesPonds_3 ++ dktX4_triesPonds_4
def dkwX4_triesPonds_2 : List UInt8 := [160, 0, 7, 3, 167, 0, 14, 42, 180, 0, 7, 17, 1, 164, 21, 4, 96, 46, 96, 54, 6, 42]
abbrev dktX4_triesPonds_2 : List UInt8 := dkwX4_triesPonds_2 ++ dktX4_triesPonds_3
def dkwX4_triesPonds_1 : List UInt8 := [29, 2, 160, 0, 7, 3, 167, 0, 13, 42, 180, 0, 7, 17, 1, 164, 29, 96, 46, 21, 4, 2]
abbrev dktX4_triesPonds_1 : List UInt8 := dkwX4_triesPonds_1 ++ dktX4_triesPonds_2
def dkwX4_triesPonds_0 : List UInt8 := [29, 2, 160, 0, 7, 3, 167, 0, 4, 4, 21, 4, 2, 160, 0, 7, 3, 167, 0, 4, 4, 96, 54, 5]
abbrev dktX4_triesPonds_0 : List UInt8 := dkwX4_triesPonds_0 ++ dktX4_triesPonds_1
theorem dksX4_triesPonds_0 : cX4_triesPonds.data.toList.drop 0 = dktX4_triesPonds_0 := by decide +kernel
theorem dksX4_triesPonds_1 : cX4_triesPonds.data.toList.drop 24 = dktX4_triesPonds_1 := dk_seg dksX4_triesPonds_0 24 rfl rfl
theorem dksX4_triesPonds_2 : cX4_triesPonds.data.toList.drop 46 = dktX4_triesPonds_2 := dk_seg dksX4_triesPonds_1 22 rfl rfl
theorem dksX4_triesPonds_3 : cX4_triesPonds.data.toList.drop 68 = dktX4_triesPonds_3 := dk_seg dksX4_triesPonds_2 22 rfl rfl
theorem dksX4_triesPonds_4 : cX4_triesPonds.data.toList.drop 90 = dktX4_triesPonds_4 := dk_seg dksX4_triesPonds_3 22 rfl rfl
theorem dksX4_triesPonds_5 : cX4_triesPonds.data.toList.drop 113 = dktX4_triesPonds_5 := dk_seg dksX4_triesPonds_4 23 rfl rfl
theorem dksX4_triesPonds_6 : cX4_triesPonds.data.toList.drop 137 = dktX4_triesPonds_6 := dk_seg dksX4_triesPonds_5 24 rfl rfl
theorem dksX4_triesPonds_7 : cX4_triesPonds.data.toList.drop 159 = dktX4_triesPonds_7 := dk_seg dksX4_triesPonds_6 22 rfl rfl
theorem dksX4_triesPonds_8 : cX4_triesPonds.data.toList.drop 182 = dktX4_triesPonds_8 := dk_seg dksX4_triesPonds_7 23 rfl rfl
theorem dX4_triesPonds_0 : decode cX4_triesPonds 0 = .ok (.iload_n 3, 1) := dk_29 (dk_at dksX4_triesPonds_0 0 rfl rfl)
theorem dX4_triesPonds_1 : decode cX4_triesPonds 1 = .ok (.iconst (-1), 1) := dk_2 (dk_at dksX4_triesPonds_0 1 rfl rfl)
theorem dX4_triesPonds_2 : decode cX4_triesPonds 2 = .ok (.if_icmp .ne 7, 3) := dk_160 0 7 (dk_at dksX4_triesPonds_0 2 rfl rfl)
theorem dX4_triesPonds_5 : decode cX4_triesPonds 5 = .ok (.iconst 0, 1) := dk_3 (dk_at dksX4_triesPonds_0 5 rfl rfl)
theorem dX4_triesPonds_6 : decode cX4_triesPonds 6 = .ok (.goto 4, 3) := dk_167 0 4 (dk_at dksX4_triesPonds_0 6 rfl rfl)
theorem dX4_triesPonds_9 : decode cX4_triesPonds 9 = .ok (.iconst 1, 1) := dk_4 (dk_at dksX4_triesPonds_0 9 rfl rfl)
theorem dX4_triesPonds_10 : decode cX4_triesPonds 10 = .ok (.iload 4, 2) := dk_21 4 (dk_at dksX4_triesPonds_0 10 rfl rfl)
theorem dX4_triesPonds_12 : decode cX4_triesPonds 12 = .ok (.iconst (-1), 1) := dk_2 (dk_at dksX4_triesPonds_0 12 rfl rfl)
theorem dX4_triesPonds_13 : decode cX4_triesPonds 13 = .ok (.if_icmp .ne 7, 3) := dk_160 0 7 (dk_at dksX4_triesPonds_0 13 rfl rfl)
theorem dX4_triesPonds_16 : decode cX4_triesPonds 16 = .ok (.iconst 0, 1) := dk_3 (dk_at dksX4_triesPonds_0 16 rfl rfl)
theorem dX4_triesPonds_17 : decode cX4_triesPonds 17 = .ok (.goto 4, 3) := dk_167 0 4 (dk_at dksX4_triesPonds_0 17 rfl rfl)
theorem dX4_triesPonds_20 : decode cX4_triesPonds 20 = .ok (.iconst 1, 1) := dk_4 (dk_at dksX4_triesPonds_0 20 rfl rfl)
theorem dX4_triesPonds_21 : decode cX4_triesPonds 21 = .ok (.iadd, 1) := dk_96 (dk_at dksX4_triesPonds_0 21 rfl rfl)
theorem dX4_triesPonds_22 : decode cX4_triesPonds 22 = .ok (.istore 5, 2) := dk_54 5 (dk_at dksX4_triesPonds_0 22 rfl rfl)
theorem dX4_triesPonds_24 : decode cX4_triesPonds 24 = .ok (.iload_n 3, 1) := dk_29 (dk_at dksX4_triesPonds_1 0 rfl rfl)
theorem dX4_triesPonds_25 : decode cX4_triesPonds 25 = .ok (.iconst (-1), 1) := dk_2 (dk_at dksX4_triesPonds_1 1 rfl rfl)
theorem dX4_triesPonds_26 : decode cX4_triesPonds 26 = .ok (.if_icmp .ne 7, 3) := dk_160 0 7 (dk_at dksX4_triesPonds_1 2 rfl rfl)
theorem dX4_triesPonds_29 : decode cX4_triesPonds 29 = .ok (.iconst 0, 1) := dk_3 (dk_at dksX4_triesPonds_1 5 rfl rfl)
theorem dX4_triesPonds_30 : decode cX4_triesPonds 30 = .ok (.goto 13, 3) := dk_167 0 13 (dk_at dksX4_triesPonds_1 6 rfl rfl)
theorem dX4_triesPonds_33 : decode cX4_triesPonds 33 = .ok (.aload_n 0, 1) := dk_42 (dk_at dksX4_triesPonds_1 9 rfl rfl)
theorem dX4_triesPonds_34 : decode cX4_triesPonds 34 = .ok (.getfield 7, 3) := dk_180 0 7 (dk_at dksX4_triesPonds_1 10 rfl rfl)
theorem dX4_triesPonds_37 : decode cX4_triesPonds 37 = .ok (.sipush 420, 3) := dk_17 1 164 (dk_at dksX4_triesPonds_1 13 rfl rfl)
theorem dX4_triesPonds_40 : decode cX4_triesPonds 40 = .ok (.iload_n 3, 1) := dk_29 (dk_at dksX4_triesPonds_1 16 rfl rfl)
theorem dX4_triesPonds_41 : decode cX4_triesPonds 41 = .ok (.iadd, 1) := dk_96 (dk_at dksX4_triesPonds_1 17 rfl rfl)
theorem dX4_triesPonds_42 : decode cX4_triesPonds 42 = .ok (.iaload, 1) := dk_46 (dk_at dksX4_triesPonds_1 18 rfl rfl)
theorem dX4_triesPonds_43 : decode cX4_triesPonds 43 = .ok (.iload 4, 2) := dk_21 4 (dk_at dksX4_triesPonds_1 19 rfl rfl)
theorem dX4_triesPonds_45 : decode cX4_triesPonds 45 = .ok (.iconst (-1), 1) := dk_2 (dk_at dksX4_triesPonds_1 21 rfl rfl)
theorem dX4_triesPonds_46 : decode cX4_triesPonds 46 = .ok (.if_icmp .ne 7, 3) := dk_160 0 7 (dk_at dksX4_triesPonds_2 0 rfl rfl)
theorem dX4_triesPonds_49 : decode cX4_triesPonds 49 = .ok (.iconst 0, 1) := dk_3 (dk_at dksX4_triesPonds_2 3 rfl rfl)
theorem dX4_triesPonds_50 : decode cX4_triesPonds 50 = .ok (.goto 14, 3) := dk_167 0 14 (dk_at dksX4_triesPonds_2 4 rfl rfl)
theorem dX4_triesPonds_53 : decode cX4_triesPonds 53 = .ok (.aload_n 0, 1) := dk_42 (dk_at dksX4_triesPonds_2 7 rfl rfl)
theorem dX4_triesPonds_54 : decode cX4_triesPonds 54 = .ok (.getfield 7, 3) := dk_180 0 7 (dk_at dksX4_triesPonds_2 8 rfl rfl)
theorem dX4_triesPonds_57 : decode cX4_triesPonds 57 = .ok (.sipush 420, 3) := dk_17 1 164 (dk_at dksX4_triesPonds_2 11 rfl rfl)
theorem dX4_triesPonds_60 : decode cX4_triesPonds 60 = .ok (.iload 4, 2) := dk_21 4 (dk_at dksX4_triesPonds_2 14 rfl rfl)
theorem dX4_triesPonds_62 : decode cX4_triesPonds 62 = .ok (.iadd, 1) := dk_96 (dk_at dksX4_triesPonds_2 16 rfl rfl)
theorem dX4_triesPonds_63 : decode cX4_triesPonds 63 = .ok (.iaload, 1) := dk_46 (dk_at dksX4_triesPonds_2 17 rfl rfl)
theorem dX4_triesPonds_64 : decode cX4_triesPonds 64 = .ok (.iadd, 1) := dk_96 (dk_at dksX4_triesPonds_2 18 rfl rfl)
theorem dX4_triesPonds_65 : decode cX4_triesPonds 65 = .ok (.istore 6, 2) := dk_54 6 (dk_at dksX4_triesPonds_2 19 rfl rfl)
theorem dX4_triesPonds_67 : decode cX4_triesPonds 67 = .ok (.aload_n 0, 1) := dk_42 (dk_at dksX4_triesPonds_2 21 rfl rfl)
theorem dX4_triesPonds_68 : decode cX4_triesPonds 68 = .ok (.getfield 308, 3) := dk_180 1 52 (dk_at dksX4_triesPonds_3 0 rfl rfl)
theorem dX4_triesPonds_71 : decode cX4_triesPonds 71 = .ok (.iconst (-1), 1) := dk_2 (dk_at dksX4_triesPonds_3 3 rfl rfl)
theorem dX4_triesPonds_72 : decode cX4_triesPonds 72 = .ok (.if_icmp .eq 31, 3) := dk_159 0 31 (dk_at dksX4_triesPonds_3 4 rfl rfl)
theorem dX4_triesPonds_75 : decode cX4_triesPonds 75 = .ok (.iload 6, 2) := dk_21 6 (dk_at dksX4_triesPonds_3 7 rfl rfl)
theorem dX4_triesPonds_77 : decode cX4_triesPonds 77 = .ok (.aload_n 0, 1) := dk_42 (dk_at dksX4_triesPonds_3 9 rfl rfl)
theorem dX4_triesPonds_78 : decode cX4_triesPonds 78 = .ok (.getfield 308, 3) := dk_180 1 52 (dk_at dksX4_triesPonds_3 10 rfl rfl)
theorem dX4_triesPonds_81 : decode cX4_triesPonds 81 = .ok (.if_icmp .gt 21, 3) := dk_163 0 21 (dk_at dksX4_triesPonds_3 13 rfl rfl)
theorem dX4_triesPonds_84 : decode cX4_triesPonds 84 = .ok (.iload 6, 2) := dk_21 6 (dk_at dksX4_triesPonds_3 16 rfl rfl)
theorem dX4_triesPonds_86 : decode cX4_triesPonds 86 = .ok (.aload_n 0, 1) := dk_42 (dk_at dksX4_triesPonds_3 18 rfl rfl)
theorem dX4_triesPonds_87 : decode cX4_triesPonds 87 = .ok (.getfield 308, 3) := dk_180 1 52 (dk_at dksX4_triesPonds_3 19 rfl rfl)
theorem dX4_triesPonds_90 : decode cX4_triesPonds 90 = .ok (.if_icmp .ne 13, 3) := dk_160 0 13 (dk_at dksX4_triesPonds_4 0 rfl rfl)
theorem dX4_triesPonds_93 : decode cX4_triesPonds 93 = .ok (.iload 5, 2) := dk_21 5 (dk_at dksX4_triesPonds_4 3 rfl rfl)
theorem dX4_triesPonds_95 : decode cX4_triesPonds 95 = .ok (.aload_n 0, 1) := dk_42 (dk_at dksX4_triesPonds_4 5 rfl rfl)
theorem dX4_triesPonds_96 : decode cX4_triesPonds 96 = .ok (.getfield 311, 3) := dk_180 1 55 (dk_at dksX4_triesPonds_4 6 rfl rfl)
theorem dX4_triesPonds_99 : decode cX4_triesPonds 99 = .ok (.if_icmp .lt 4, 3) := dk_161 0 4 (dk_at dksX4_triesPonds_4 9 rfl rfl)
theorem dX4_triesPonds_102 : decode cX4_triesPonds 102 = .ok (.return_, 1) := dk_177 (dk_at dksX4_triesPonds_4 12 rfl rfl)
theorem dX4_triesPonds_103 : decode cX4_triesPonds 103 = .ok (.aload_n 0, 1) := dk_42 (dk_at dksX4_triesPonds_4 13 rfl rfl)
theorem dX4_triesPonds_104 : decode cX4_triesPonds 104 = .ok (.invokevirtual 302, 3) := dk_182 1 46 (dk_at dksX4_triesPonds_4 14 rfl rfl)
theorem dX4_triesPonds_107 : decode cX4_triesPonds 107 = .ok (.iload_n 3, 1) := dk_29 (dk_at dksX4_triesPonds_4 17 rfl rfl)
theorem dX4_triesPonds_108 : decode cX4_triesPonds 108 = .ok (.iconst (-1), 1) := dk_2 (dk_at dksX4_triesPonds_4 18 rfl rfl)
theorem dX4_triesPonds_109 : decode cX4_triesPonds 109 = .ok (.if_icmp .eq 13, 3) := dk_159 0 13 (dk_at dksX4_triesPonds_4 19 rfl rfl)
theorem dX4_triesPonds_112 : decode cX4_triesPonds 112 = .ok (.aload_n 0, 1) := dk_42 (dk_at dksX4_triesPonds_4 22 rfl rfl)
theorem dX4_triesPonds_113 : decode cX4_triesPonds 113 = .ok (.getfield 7, 3) := dk_180 0 7 (dk_at dksX4_triesPonds_5 0 rfl rfl)
theorem dX4_triesPonds_116 : decode cX4_triesPonds 116 = .ok (.bipush 120, 2) := dk_16 120 (dk_at dksX4_triesPonds_5 3 rfl rfl)
theorem dX4_triesPonds_118 : decode cX4_triesPonds 118 = .ok (.iload_n 3, 1) := dk_29 (dk_at dksX4_triesPonds_5 5 rfl rfl)
theorem dX4_triesPonds_119 : decode cX4_triesPonds 119 = .ok (.iadd, 1) := dk_96 (dk_at dksX4_triesPonds_5 6 rfl rfl)
theorem dX4_triesPonds_120 : decode cX4_triesPonds 120 = .ok (.iconst 1, 1) := dk_4 (dk_at dksX4_triesPonds_5 7 rfl rfl)
theorem dX4_triesPonds_121 : decode cX4_triesPonds 121 = .ok (.iastore, 1) := dk_79 (dk_at dksX4_triesPonds_5 8 rfl rfl)
theorem dX4_triesPonds_122 : decode cX4_triesPonds 122 = .ok (.iload 4, 2) := dk_21 4 (dk_at dksX4_triesPonds_5 9 rfl rfl)
theorem dX4_triesPonds_124 : decode cX4_triesPonds 124 = .ok (.iconst (-1), 1) := dk_2 (dk_at dksX4_triesPonds_5 11 rfl rfl)
theorem dX4_triesPonds_125 : decode cX4_triesPonds 125 = .ok (.if_icmp .eq 14, 3) := dk_159 0 14 (dk_at dksX4_triesPonds_5 12 rfl rfl)
theorem dX4_triesPonds_128 : decode cX4_triesPonds 128 = .ok (.aload_n 0, 1) := dk_42 (dk_at dksX4_triesPonds_5 15 rfl rfl)
theorem dX4_triesPonds_129 : decode cX4_triesPonds 129 = .ok (.getfield 7, 3) := dk_180 0 7 (dk_at dksX4_triesPonds_5 16 rfl rfl)
theorem dX4_triesPonds_132 : decode cX4_triesPonds 132 = .ok (.bipush 120, 2) := dk_16 120 (dk_at dksX4_triesPonds_5 19 rfl rfl)
theorem dX4_triesPonds_134 : decode cX4_triesPonds 134 = .ok (.iload 4, 2) := dk_21 4 (dk_at dksX4_triesPonds_5 21 rfl rfl)
theorem dX4_triesPonds_136 : decode cX4_triesPonds 136 = .ok (.iadd, 1) := dk_96 (dk_at dksX4_triesPonds_5 23 rfl rfl)
theorem dX4_triesPonds_137 : decode cX4_triesPonds 137 = .ok (.iconst 1, 1) := dk_4 (dk_at dksX4_triesPonds_6 0 rfl rfl)
theorem dX4_triesPonds_138 : decode cX4_triesPonds 138 = .ok (.iastore, 1) := dk_79 (dk_at dksX4_triesPonds_6 1 rfl rfl)
theorem dX4_triesPonds_139 : decode cX4_triesPonds 139 = .ok (.aload_n 0, 1) := dk_42 (dk_at dksX4_triesPonds_6 2 rfl rfl)
theorem dX4_triesPonds_140 : decode cX4_triesPonds 140 = .ok (.invokevirtual 287, 3) := dk_182 1 31 (dk_at dksX4_triesPonds_6 3 rfl rfl)
theorem dX4_triesPonds_143 : decode cX4_triesPonds 143 = .ok (.aload_n 0, 1) := dk_42 (dk_at dksX4_triesPonds_6 6 rfl rfl)
theorem dX4_triesPonds_144 : decode cX4_triesPonds 144 = .ok (.invokevirtual 290, 3) := dk_182 1 34 (dk_at dksX4_triesPonds_6 7 rfl rfl)
theorem dX4_triesPonds_147 : decode cX4_triesPonds 147 = .ok (.aload_n 0, 1) := dk_42 (dk_at dksX4_triesPonds_6 10 rfl rfl)
theorem dX4_triesPonds_148 : decode cX4_triesPonds 148 = .ok (.getfield 53, 3) := dk_180 0 53 (dk_at dksX4_triesPonds_6 11 rfl rfl)
theorem dX4_triesPonds_151 : decode cX4_triesPonds 151 = .ok (.iload_n 1, 1) := dk_27 (dk_at dksX4_triesPonds_6 14 rfl rfl)
theorem dX4_triesPonds_152 : decode cX4_triesPonds 152 = .ok (.iaload, 1) := dk_46 (dk_at dksX4_triesPonds_6 15 rfl rfl)
theorem dX4_triesPonds_153 : decode cX4_triesPonds 153 = .ok (.aload_n 0, 1) := dk_42 (dk_at dksX4_triesPonds_6 16 rfl rfl)
theorem dX4_triesPonds_154 : decode cX4_triesPonds 154 = .ok (.getfield 53, 3) := dk_180 0 53 (dk_at dksX4_triesPonds_6 17 rfl rfl)
theorem dX4_triesPonds_157 : decode cX4_triesPonds 157 = .ok (.iload_n 2, 1) := dk_28 (dk_at dksX4_triesPonds_6 20 rfl rfl)
theorem dX4_triesPonds_158 : decode cX4_triesPonds 158 = .ok (.iaload, 1) := dk_46 (dk_at dksX4_triesPonds_6 21 rfl rfl)
theorem dX4_triesPonds_159 : decode cX4_triesPonds 159 = .ok (.if_icmp .ne 7, 3) := dk_160 0 7 (dk_at dksX4_triesPonds_7 0 rfl rfl)
theorem dX4_triesPonds_162 : decode cX4_triesPonds 162 = .ok (.iconst 1, 1) := dk_4 (dk_at dksX4_triesPonds_7 3 rfl rfl)
theorem dX4_triesPonds_163 : decode cX4_triesPonds 163 = .ok (.goto 4, 3) := dk_167 0 4 (dk_at dksX4_triesPonds_7 4 rfl rfl)
theorem dX4_triesPonds_166 : decode cX4_triesPonds 166 = .ok (.iconst 0, 1) := dk_3 (dk_at dksX4_triesPonds_7 7 rfl rfl)
theorem dX4_triesPonds_167 : decode cX4_triesPonds 167 = .ok (.istore 7, 2) := dk_54 7 (dk_at dksX4_triesPonds_7 8 rfl rfl)
theorem dX4_triesPonds_169 : decode cX4_triesPonds 169 = .ok (.aload_n 0, 1) := dk_42 (dk_at dksX4_triesPonds_7 10 rfl rfl)
theorem dX4_triesPonds_170 : decode cX4_triesPonds 170 = .ok (.invokevirtual 305, 3) := dk_182 1 49 (dk_at dksX4_triesPonds_7 11 rfl rfl)
theorem dX4_triesPonds_173 : decode cX4_triesPonds 173 = .ok (.iload 7, 2) := dk_21 7 (dk_at dksX4_triesPonds_7 14 rfl rfl)
theorem dX4_triesPonds_175 : decode cX4_triesPonds 175 = .ok (.ifCond .ne 4, 3) := dk_154 0 4 (dk_at dksX4_triesPonds_7 16 rfl rfl)
theorem dX4_triesPonds_178 : decode cX4_triesPonds 178 = .ok (.return_, 1) := dk_177 (dk_at dksX4_triesPonds_7 19 rfl rfl)
theorem dX4_triesPonds_179 : decode cX4_triesPonds 179 = .ok (.aload_n 0, 1) := dk_42 (dk_at dksX4_triesPonds_7 20 rfl rfl)
theorem dX4_triesPonds_180 : decode cX4_triesPonds 180 = .ok (.iload 6, 2) := dk_21 6 (dk_at dksX4_triesPonds_7 21 rfl rfl)
theorem dX4_triesPonds_182 : decode cX4_triesPonds 182 = .ok (.putfield 308, 3) := dk_181 1 52 (dk_at dksX4_triesPonds_8 0 rfl rfl)
theorem dX4_triesPonds_185 : decode cX4_triesPonds 185 = .ok (.aload_n 0, 1) := dk_42 (dk_at dksX4_triesPonds_8 3 rfl rfl)
theorem dX4_triesPonds_186 : decode cX4_triesPonds 186 = .ok (.iload 5, 2) := dk_21 5 (dk_at dksX4_triesPonds_8 4 rfl rfl)
theorem dX4_triesPonds_188 : decode cX4_triesPonds 188 = .ok (.putfield 311, 3) := dk_181 1 55 (dk_at dksX4_triesPonds_8 6 rfl rfl)
theorem dX4_triesPonds_191 : decode cX4_triesPonds 191 = .ok (.aload_n 0, 1) := dk_42 (dk_at dksX4_triesPonds_8 9 rfl rfl)
theorem dX4_triesPonds_192 : decode cX4_triesPonds 192 = .ok (.iload_n 3, 1) := dk_29 (dk_at dksX4_triesPonds_8 10 rfl rfl)
theorem dX4_triesPonds_193 : decode cX4_triesPonds 193 = .ok (.putfield 314, 3) := dk_181 1 58 (dk_at dksX4_triesPonds_8 11 rfl rfl)
theorem dX4_triesPonds_196 : decode cX4_triesPonds 196 = .ok (.aload_n 0, 1) := dk_42 (dk_at dksX4_triesPonds_8 14 rfl rfl)
theorem dX4_triesPonds_197 : decode cX4_triesPonds 197 = .ok (.iload 4, 2) := dk_21 4 (dk_at dksX4_triesPonds_8 15 rfl rfl)
theorem dX4_triesPonds_199 : decode cX4_triesPonds 199 = .ok (.putfield 317, 3) := dk_181 1 61 (dk_at dksX4_triesPonds_8 17 rfl rfl)
theorem dX4_triesPonds_202 : decode cX4_triesPonds 202 = .ok (.return_, 1) := dk_177 (dk_at dksX4_triesPonds_8 20 rfl rfl)
abbrev cX4_isFree : ByteArray := prog_14_method_70_code
def yX4_isFree : MethodName := ⟨RX4, "isFree", "(I)Z"⟩
def dkwX4_isFree_1 : List UInt8 := [3, 172]
abbrev dktX4_isFree_1 : List UInt8 := dkwX4_isFree_1 ++ []
def dkwX4_isFree_0 : List UInt8 := [42, 27, 182, 0, 85, 153, 0, 19, 42, 180, 0, 7, 16, 120, 27, 96, 46, 154, 0, 7, 4, 167, 0, 4]
abbrev dktX4_isFree_0 : List UInt8 := dkwX4_isFree_0 ++ dktX4_isFree_1
theorem dksX4_isFree_0 : cX4_isFree.data.toList.drop 0 = dktX4_isFree_0 := by decide +kernel
theorem dksX4_isFree_1 : cX4_isFree.data.toList.drop 24 = dktX4_isFree_1 := dk_seg dksX4_isFree_0 24 rfl rfl
theorem dX4_isFree_0 : decode cX4_isFree 0 = .ok (.aload_n 0, 1) := dk_42 (dk_at dksX4_isFree_0 0 rfl rfl)
theorem dX4_isFree_1 : decode cX4_isFree 1 = .ok (.iload_n 1, 1) := dk_27 (dk_at dksX4_isFree_0 1 rfl rfl)
theorem dX4_isFree_2 : decode cX4_isFree 2 = .ok (.invokevirtual 85, 3) := dk_182 0 85 (dk_at dksX4_isFree_0 2 rfl rfl)
theorem dX4_isFree_5 : decode cX4_isFree 5 = .ok (.ifCond .eq 19, 3) := dk_153 0 19 (dk_at dksX4_isFree_0 5 rfl rfl)
theorem dX4_isFree_8 : decode cX4_isFree 8 = .ok (.aload_n 0, 1) := dk_42 (dk_at dksX4_isFree_0 8 rfl rfl)
theorem dX4_isFree_9 : decode cX4_isFree 9 = .ok (.getfield 7, 3) := dk_180 0 7 (dk_at dksX4_isFree_0 9 rfl rfl)
theorem dX4_isFree_12 : decode cX4_isFree 12 = .ok (.bipush 120, 2) := dk_16 120 (dk_at dksX4_isFree_0 12 rfl rfl)
theorem dX4_isFree_14 : decode cX4_isFree 14 = .ok (.iload_n 1, 1) := dk_27 (dk_at dksX4_isFree_0 14 rfl rfl)
theorem dX4_isFree_15 : decode cX4_isFree 15 = .ok (.iadd, 1) := dk_96 (dk_at dksX4_isFree_0 15 rfl rfl)
theorem dX4_isFree_16 : decode cX4_isFree 16 = .ok (.iaload, 1) := dk_46 (dk_at dksX4_isFree_0 16 rfl rfl)
theorem dX4_isFree_17 : decode cX4_isFree 17 = .ok (.ifCond .ne 7, 3) := dk_154 0 7 (dk_at dksX4_isFree_0 17 rfl rfl)
theorem dX4_isFree_20 : decode cX4_isFree 20 = .ok (.iconst 1, 1) := dk_4 (dk_at dksX4_isFree_0 20 rfl rfl)
theorem dX4_isFree_21 : decode cX4_isFree 21 = .ok (.goto 4, 3) := dk_167 0 4 (dk_at dksX4_isFree_0 21 rfl rfl)
theorem dX4_isFree_24 : decode cX4_isFree 24 = .ok (.iconst 0, 1) := dk_3 (dk_at dksX4_isFree_1 0 rfl rfl)
theorem dX4_isFree_25 : decode cX4_isFree 25 = .ok (.ireturn, 1) := dk_172 (dk_at dksX4_isFree_1 1 rfl rfl)
abbrev cX4_hatch : ByteArray := prog_14_method_72_code
def yX4_hatch : MethodName := ⟨RX4, "hatch", "(III)I"⟩
def dkwX4_hatch_6 : List UInt8 := [16, 7, 46, 4, 100, 172]
abbrev dktX4_hatch_6 : List UInt8 := dkwX4_hatch_6 ++ []
def dkwX4_hatch_5 : List UInt8 := [180, 0, 7, 21, 4, 5, 96, 29, 79, 42, 180, 0, 7, 16, 7, 92, 46, 4, 96, 79, 42, 180, 0, 7]
abbrev dktX4_hatch_5 : List UInt8 := dkwX4_hatch_5 ++ dktX4_hatch_6
def dkwX4_hatch_4 : List UInt8 := [104, 96, 54, 4, 42, 180, 0, 7, 21, 4, 27, 79, 42, 180, 0, 7, 21, 4, 4, 96, 28, 79, 42]
abbrev dktX4_hatch_4 : List UInt8 := dkwX4_hatch_4 ++ dktX4_hatch_5
def dkwX4_hatch_3 : List UInt8 := [46, 27, 160, 0, 5, 2, 172, 132, 4, 1, 167, 255, 222, 17, 7, 108, 6, 42, 180, 0, 7, 16, 7, 46]
abbrev dktX4_hatch_3 : List UInt8 := dkwX4_hatch_3 ++ dktX4_hatch_4
def dkwX4_hatch_2 : List UInt8 := [21, 4, 42, 180, 0, 7, 16, 7, 46, 162, 0, 28, 42, 180, 0, 7, 17, 7, 108, 6, 21, 4, 104, 96]
abbrev dktX4_hatch_2 : List UInt8 := dkwX4_hatch_2 ++ dktX4_hatch_3
def dkwX4_hatch_1 : List UInt8 := [184, 0, 75, 153, 0, 15, 42, 180, 0, 7, 16, 7, 46, 16, 6, 160, 0, 5, 2, 172, 3, 54, 4]
abbrev dktX4_hatch_1 : List UInt8 := dkwX4_hatch_1 ++ dktX4_hatch_2
def dkwX4_hatch_0 : List UInt8 := [42, 27, 182, 0, 85, 153, 0, 35, 28, 3, 16, 99, 184, 0, 75, 153, 0, 25, 29, 3, 16, 10]
abbrev dktX4_hatch_0 : List UInt8 := dkwX4_hatch_0 ++ dktX4_hatch_1
theorem dksX4_hatch_0 : cX4_hatch.data.toList.drop 0 = dktX4_hatch_0 := by decide +kernel
theorem dksX4_hatch_1 : cX4_hatch.data.toList.drop 22 = dktX4_hatch_1 := dk_seg dksX4_hatch_0 22 rfl rfl
theorem dksX4_hatch_2 : cX4_hatch.data.toList.drop 45 = dktX4_hatch_2 := dk_seg dksX4_hatch_1 23 rfl rfl
theorem dksX4_hatch_3 : cX4_hatch.data.toList.drop 69 = dktX4_hatch_3 := dk_seg dksX4_hatch_2 24 rfl rfl
theorem dksX4_hatch_4 : cX4_hatch.data.toList.drop 93 = dktX4_hatch_4 := dk_seg dksX4_hatch_3 24 rfl rfl
theorem dksX4_hatch_5 : cX4_hatch.data.toList.drop 116 = dktX4_hatch_5 := dk_seg dksX4_hatch_4 23 rfl rfl
theorem dksX4_hatch_6 : cX4_hatch.data.toList.drop 140 = dktX4_hatch_6 := dk_seg dksX4_hatch_5 24 rfl rfl
theorem dX4_hatch_0 : decode cX4_hatch 0 = .ok (.aload_n 0, 1) := dk_42 (dk_at dksX4_hatch_0 0 rfl rfl)
theorem dX4_hatch_1 : decode cX4_hatch 1 = .ok (.iload_n 1, 1) := dk_27 (dk_at dksX4_hatch_0 1 rfl rfl)
theorem dX4_hatch_2 : decode cX4_hatch 2 = .ok (.invokevirtual 85, 3) := dk_182 0 85 (dk_at dksX4_hatch_0 2 rfl rfl)
theorem dX4_hatch_5 : decode cX4_hatch 5 = .ok (.ifCond .eq 35, 3) := dk_153 0 35 (dk_at dksX4_hatch_0 5 rfl rfl)
theorem dX4_hatch_8 : decode cX4_hatch 8 = .ok (.iload_n 2, 1) := dk_28 (dk_at dksX4_hatch_0 8 rfl rfl)
theorem dX4_hatch_9 : decode cX4_hatch 9 = .ok (.iconst 0, 1) := dk_3 (dk_at dksX4_hatch_0 9 rfl rfl)
theorem dX4_hatch_10 : decode cX4_hatch 10 = .ok (.bipush 99, 2) := dk_16 99 (dk_at dksX4_hatch_0 10 rfl rfl)
theorem dX4_hatch_12 : decode cX4_hatch 12 = .ok (.invokestatic 75, 3) := dk_184 0 75 (dk_at dksX4_hatch_0 12 rfl rfl)
theorem dX4_hatch_15 : decode cX4_hatch 15 = .ok (.ifCond .eq 25, 3) := dk_153 0 25 (dk_at dksX4_hatch_0 15 rfl rfl)
theorem dX4_hatch_18 : decode cX4_hatch 18 = .ok (.iload_n 3, 1) := dk_29 (dk_at dksX4_hatch_0 18 rfl rfl)
theorem dX4_hatch_19 : decode cX4_hatch 19 = .ok (.iconst 0, 1) := dk_3 (dk_at dksX4_hatch_0 19 rfl rfl)
theorem dX4_hatch_20 : decode cX4_hatch 20 = .ok (.bipush 10, 2) := dk_16 10 (dk_at dksX4_hatch_0 20 rfl rfl)
theorem dX4_hatch_22 : decode cX4_hatch 22 = .ok (.invokestatic 75, 3) := dk_184 0 75 (dk_at dksX4_hatch_1 0 rfl rfl)
theorem dX4_hatch_25 : decode cX4_hatch 25 = .ok (.ifCond .eq 15, 3) := dk_153 0 15 (dk_at dksX4_hatch_1 3 rfl rfl)
theorem dX4_hatch_28 : decode cX4_hatch 28 = .ok (.aload_n 0, 1) := dk_42 (dk_at dksX4_hatch_1 6 rfl rfl)
theorem dX4_hatch_29 : decode cX4_hatch 29 = .ok (.getfield 7, 3) := dk_180 0 7 (dk_at dksX4_hatch_1 7 rfl rfl)
theorem dX4_hatch_32 : decode cX4_hatch 32 = .ok (.bipush 7, 2) := dk_16 7 (dk_at dksX4_hatch_1 10 rfl rfl)
theorem dX4_hatch_34 : decode cX4_hatch 34 = .ok (.iaload, 1) := dk_46 (dk_at dksX4_hatch_1 12 rfl rfl)
theorem dX4_hatch_35 : decode cX4_hatch 35 = .ok (.bipush 6, 2) := dk_16 6 (dk_at dksX4_hatch_1 13 rfl rfl)
theorem dX4_hatch_37 : decode cX4_hatch 37 = .ok (.if_icmp .ne 5, 3) := dk_160 0 5 (dk_at dksX4_hatch_1 15 rfl rfl)
theorem dX4_hatch_40 : decode cX4_hatch 40 = .ok (.iconst (-1), 1) := dk_2 (dk_at dksX4_hatch_1 18 rfl rfl)
theorem dX4_hatch_41 : decode cX4_hatch 41 = .ok (.ireturn, 1) := dk_172 (dk_at dksX4_hatch_1 19 rfl rfl)
theorem dX4_hatch_42 : decode cX4_hatch 42 = .ok (.iconst 0, 1) := dk_3 (dk_at dksX4_hatch_1 20 rfl rfl)
theorem dX4_hatch_43 : decode cX4_hatch 43 = .ok (.istore 4, 2) := dk_54 4 (dk_at dksX4_hatch_1 21 rfl rfl)
theorem dX4_hatch_45 : decode cX4_hatch 45 = .ok (.iload 4, 2) := dk_21 4 (dk_at dksX4_hatch_2 0 rfl rfl)
theorem dX4_hatch_47 : decode cX4_hatch 47 = .ok (.aload_n 0, 1) := dk_42 (dk_at dksX4_hatch_2 2 rfl rfl)
theorem dX4_hatch_48 : decode cX4_hatch 48 = .ok (.getfield 7, 3) := dk_180 0 7 (dk_at dksX4_hatch_2 3 rfl rfl)
theorem dX4_hatch_51 : decode cX4_hatch 51 = .ok (.bipush 7, 2) := dk_16 7 (dk_at dksX4_hatch_2 6 rfl rfl)
theorem dX4_hatch_53 : decode cX4_hatch 53 = .ok (.iaload, 1) := dk_46 (dk_at dksX4_hatch_2 8 rfl rfl)
theorem dX4_hatch_54 : decode cX4_hatch 54 = .ok (.if_icmp .ge 28, 3) := dk_162 0 28 (dk_at dksX4_hatch_2 9 rfl rfl)
theorem dX4_hatch_57 : decode cX4_hatch 57 = .ok (.aload_n 0, 1) := dk_42 (dk_at dksX4_hatch_2 12 rfl rfl)
theorem dX4_hatch_58 : decode cX4_hatch 58 = .ok (.getfield 7, 3) := dk_180 0 7 (dk_at dksX4_hatch_2 13 rfl rfl)
theorem dX4_hatch_61 : decode cX4_hatch 61 = .ok (.sipush 1900, 3) := dk_17 7 108 (dk_at dksX4_hatch_2 16 rfl rfl)
theorem dX4_hatch_64 : decode cX4_hatch 64 = .ok (.iconst 3, 1) := dk_6 (dk_at dksX4_hatch_2 19 rfl rfl)
theorem dX4_hatch_65 : decode cX4_hatch 65 = .ok (.iload 4, 2) := dk_21 4 (dk_at dksX4_hatch_2 20 rfl rfl)
theorem dX4_hatch_67 : decode cX4_hatch 67 = .ok (.imul, 1) := dk_104 (dk_at dksX4_hatch_2 22 rfl rfl)
theorem dX4_hatch_68 : decode cX4_hatch 68 = .ok (.iadd, 1) := dk_96 (dk_at dksX4_hatch_2 23 rfl rfl)
theorem dX4_hatch_69 : decode cX4_hatch 69 = .ok (.iaload, 1) := dk_46 (dk_at dksX4_hatch_3 0 rfl rfl)
theorem dX4_hatch_70 : decode cX4_hatch 70 = .ok (.iload_n 1, 1) := dk_27 (dk_at dksX4_hatch_3 1 rfl rfl)
theorem dX4_hatch_71 : decode cX4_hatch 71 = .ok (.if_icmp .ne 5, 3) := dk_160 0 5 (dk_at dksX4_hatch_3 2 rfl rfl)
theorem dX4_hatch_74 : decode cX4_hatch 74 = .ok (.iconst (-1), 1) := dk_2 (dk_at dksX4_hatch_3 5 rfl rfl)
theorem dX4_hatch_75 : decode cX4_hatch 75 = .ok (.ireturn, 1) := dk_172 (dk_at dksX4_hatch_3 6 rfl rfl)
theorem dX4_hatch_76 : decode cX4_hatch 76 = .ok (.iinc 4 1, 3) := dk_132 4 1 (dk_at dksX4_hatch_3 7 rfl rfl)
theorem dX4_hatch_79 : decode cX4_hatch 79 = .ok (.goto (-34), 3) := dk_167 255 222 (dk_at dksX4_hatch_3 10 rfl rfl)
theorem dX4_hatch_82 : decode cX4_hatch 82 = .ok (.sipush 1900, 3) := dk_17 7 108 (dk_at dksX4_hatch_3 13 rfl rfl)
theorem dX4_hatch_85 : decode cX4_hatch 85 = .ok (.iconst 3, 1) := dk_6 (dk_at dksX4_hatch_3 16 rfl rfl)
theorem dX4_hatch_86 : decode cX4_hatch 86 = .ok (.aload_n 0, 1) := dk_42 (dk_at dksX4_hatch_3 17 rfl rfl)
theorem dX4_hatch_87 : decode cX4_hatch 87 = .ok (.getfield 7, 3) := dk_180 0 7 (dk_at dksX4_hatch_3 18 rfl rfl)
theorem dX4_hatch_90 : decode cX4_hatch 90 = .ok (.bipush 7, 2) := dk_16 7 (dk_at dksX4_hatch_3 21 rfl rfl)
theorem dX4_hatch_92 : decode cX4_hatch 92 = .ok (.iaload, 1) := dk_46 (dk_at dksX4_hatch_3 23 rfl rfl)
theorem dX4_hatch_93 : decode cX4_hatch 93 = .ok (.imul, 1) := dk_104 (dk_at dksX4_hatch_4 0 rfl rfl)
theorem dX4_hatch_94 : decode cX4_hatch 94 = .ok (.iadd, 1) := dk_96 (dk_at dksX4_hatch_4 1 rfl rfl)
theorem dX4_hatch_95 : decode cX4_hatch 95 = .ok (.istore 4, 2) := dk_54 4 (dk_at dksX4_hatch_4 2 rfl rfl)
theorem dX4_hatch_97 : decode cX4_hatch 97 = .ok (.aload_n 0, 1) := dk_42 (dk_at dksX4_hatch_4 4 rfl rfl)
theorem dX4_hatch_98 : decode cX4_hatch 98 = .ok (.getfield 7, 3) := dk_180 0 7 (dk_at dksX4_hatch_4 5 rfl rfl)
theorem dX4_hatch_101 : decode cX4_hatch 101 = .ok (.iload 4, 2) := dk_21 4 (dk_at dksX4_hatch_4 8 rfl rfl)
theorem dX4_hatch_103 : decode cX4_hatch 103 = .ok (.iload_n 1, 1) := dk_27 (dk_at dksX4_hatch_4 10 rfl rfl)
theorem dX4_hatch_104 : decode cX4_hatch 104 = .ok (.iastore, 1) := dk_79 (dk_at dksX4_hatch_4 11 rfl rfl)
theorem dX4_hatch_105 : decode cX4_hatch 105 = .ok (.aload_n 0, 1) := dk_42 (dk_at dksX4_hatch_4 12 rfl rfl)
theorem dX4_hatch_106 : decode cX4_hatch 106 = .ok (.getfield 7, 3) := dk_180 0 7 (dk_at dksX4_hatch_4 13 rfl rfl)
theorem dX4_hatch_109 : decode cX4_hatch 109 = .ok (.iload 4, 2) := dk_21 4 (dk_at dksX4_hatch_4 16 rfl rfl)
theorem dX4_hatch_111 : decode cX4_hatch 111 = .ok (.iconst 1, 1) := dk_4 (dk_at dksX4_hatch_4 18 rfl rfl)
theorem dX4_hatch_112 : decode cX4_hatch 112 = .ok (.iadd, 1) := dk_96 (dk_at dksX4_hatch_4 19 rfl rfl)
theorem dX4_hatch_113 : decode cX4_hatch 113 = .ok (.iload_n 2, 1) := dk_28 (dk_at dksX4_hatch_4 20 rfl rfl)
theorem dX4_hatch_114 : decode cX4_hatch 114 = .ok (.iastore, 1) := dk_79 (dk_at dksX4_hatch_4 21 rfl rfl)
theorem dX4_hatch_115 : decode cX4_hatch 115 = .ok (.aload_n 0, 1) := dk_42 (dk_at dksX4_hatch_4 22 rfl rfl)
theorem dX4_hatch_116 : decode cX4_hatch 116 = .ok (.getfield 7, 3) := dk_180 0 7 (dk_at dksX4_hatch_5 0 rfl rfl)
theorem dX4_hatch_119 : decode cX4_hatch 119 = .ok (.iload 4, 2) := dk_21 4 (dk_at dksX4_hatch_5 3 rfl rfl)
theorem dX4_hatch_121 : decode cX4_hatch 121 = .ok (.iconst 2, 1) := dk_5 (dk_at dksX4_hatch_5 5 rfl rfl)
theorem dX4_hatch_122 : decode cX4_hatch 122 = .ok (.iadd, 1) := dk_96 (dk_at dksX4_hatch_5 6 rfl rfl)
theorem dX4_hatch_123 : decode cX4_hatch 123 = .ok (.iload_n 3, 1) := dk_29 (dk_at dksX4_hatch_5 7 rfl rfl)
theorem dX4_hatch_124 : decode cX4_hatch 124 = .ok (.iastore, 1) := dk_79 (dk_at dksX4_hatch_5 8 rfl rfl)
theorem dX4_hatch_125 : decode cX4_hatch 125 = .ok (.aload_n 0, 1) := dk_42 (dk_at dksX4_hatch_5 9 rfl rfl)
theorem dX4_hatch_126 : decode cX4_hatch 126 = .ok (.getfield 7, 3) := dk_180 0 7 (dk_at dksX4_hatch_5 10 rfl rfl)
theorem dX4_hatch_129 : decode cX4_hatch 129 = .ok (.bipush 7, 2) := dk_16 7 (dk_at dksX4_hatch_5 13 rfl rfl)
theorem dX4_hatch_131 : decode cX4_hatch 131 = .ok (.dup2, 1) := dk_92 (dk_at dksX4_hatch_5 15 rfl rfl)
theorem dX4_hatch_132 : decode cX4_hatch 132 = .ok (.iaload, 1) := dk_46 (dk_at dksX4_hatch_5 16 rfl rfl)
theorem dX4_hatch_133 : decode cX4_hatch 133 = .ok (.iconst 1, 1) := dk_4 (dk_at dksX4_hatch_5 17 rfl rfl)
theorem dX4_hatch_134 : decode cX4_hatch 134 = .ok (.iadd, 1) := dk_96 (dk_at dksX4_hatch_5 18 rfl rfl)
theorem dX4_hatch_135 : decode cX4_hatch 135 = .ok (.iastore, 1) := dk_79 (dk_at dksX4_hatch_5 19 rfl rfl)
theorem dX4_hatch_136 : decode cX4_hatch 136 = .ok (.aload_n 0, 1) := dk_42 (dk_at dksX4_hatch_5 20 rfl rfl)
theorem dX4_hatch_137 : decode cX4_hatch 137 = .ok (.getfield 7, 3) := dk_180 0 7 (dk_at dksX4_hatch_5 21 rfl rfl)
theorem dX4_hatch_140 : decode cX4_hatch 140 = .ok (.bipush 7, 2) := dk_16 7 (dk_at dksX4_hatch_6 0 rfl rfl)
theorem dX4_hatch_142 : decode cX4_hatch 142 = .ok (.iaload, 1) := dk_46 (dk_at dksX4_hatch_6 2 rfl rfl)
theorem dX4_hatch_143 : decode cX4_hatch 143 = .ok (.iconst 1, 1) := dk_4 (dk_at dksX4_hatch_6 3 rfl rfl)
theorem dX4_hatch_144 : decode cX4_hatch 144 = .ok (.isub, 1) := dk_100 (dk_at dksX4_hatch_6 4 rfl rfl)
theorem dX4_hatch_145 : decode cX4_hatch 145 = .ok (.ireturn, 1) := dk_172 (dk_at dksX4_hatch_6 5 rfl rfl)
abbrev cX4_odds : ByteArray := prog_14_method_74_code
def yX4_odds : MethodName := ⟨RX4, "odds", "(II)I"⟩
def dkwX4_odds_6 : List UInt8 := [46, 160, 0, 8, 21, 5, 167, 0, 4, 3, 96, 62, 132, 4, 1, 167, 255, 125, 29, 172]
abbrev dktX4_odds_6 : List UInt8 := dkwX4_odds_6 ++ []
def dkwX4_odds_5 : List UInt8 := [154, 0, 6, 167, 0, 33, 42, 21, 4, 182, 1, 71, 29, 42, 180, 0, 53, 27, 46, 42, 180, 0, 53, 28]
abbrev dktX4_odds_5 : List UInt8 := dkwX4_odds_5 ++ dktX4_odds_6
def dkwX4_odds_4 : List UInt8 := [17, 7, 108, 6, 21, 6, 104, 96, 5, 96, 46, 100, 104, 54, 5, 132, 6, 1, 167, 255, 189, 21, 5]
abbrev dktX4_odds_4 : List UInt8 := dkwX4_odds_4 ++ dktX4_odds_5
def dkwX4_odds_3 : List UInt8 := [180, 0, 7, 17, 7, 108, 6, 21, 6, 104, 96, 5, 96, 46, 167, 0, 21, 16, 10, 42, 180, 0, 7]
abbrev dktX4_odds_3 : List UInt8 := dkwX4_odds_3 ++ dktX4_odds_4
def dkwX4_odds_2 : List UInt8 := [180, 0, 7, 16, 7, 46, 162, 0, 61, 21, 5, 21, 4, 21, 6, 122, 4, 126, 4, 160, 0, 21, 42]
abbrev dktX4_odds_2 : List UInt8 := dkwX4_odds_2 ++ dktX4_odds_3
def dkwX4_odds_1 : List UInt8 := [21, 4, 4, 42, 180, 0, 7, 16, 7, 46, 120, 162, 0, 123, 4, 54, 5, 3, 54, 6, 21, 6, 42]
abbrev dktX4_odds_1 : List UInt8 := dkwX4_odds_1 ++ dktX4_odds_2
def dkwX4_odds_0 : List UInt8 := [42, 27, 182, 0, 85, 153, 0, 11, 42, 28, 182, 0, 85, 154, 0, 5, 2, 172, 3, 62, 3, 54, 4]
abbrev dktX4_odds_0 : List UInt8 := dkwX4_odds_0 ++ dktX4_odds_1
theorem dksX4_odds_0 : cX4_odds.data.toList.drop 0 = dktX4_odds_0 := by decide +kernel
theorem dksX4_odds_1 : cX4_odds.data.toList.drop 23 = dktX4_odds_1 := dk_seg dksX4_odds_0 23 rfl rfl
theorem dksX4_odds_2 : cX4_odds.data.toList.drop 46 = dktX4_odds_2 := dk_seg dksX4_odds_1 23 rfl rfl
theorem dksX4_odds_3 : cX4_odds.data.toList.drop 69 = dktX4_odds_3 := dk_seg dksX4_odds_2 23 rfl rfl
theorem dksX4_odds_4 : cX4_odds.data.toList.drop 92 = dktX4_odds_4 := dk_seg dksX4_odds_3 23 rfl rfl
theorem dksX4_odds_5 : cX4_odds.data.toList.drop 115 = dktX4_odds_5 := dk_seg dksX4_odds_4 23 rfl rfl
theorem dksX4_odds_6 : cX4_odds.data.toList.drop 139 = dktX4_odds_6 := dk_seg dksX4_odds_5 24 rfl rfl
theorem dX4_odds_0 : decode cX4_odds 0 = .ok (.aload_n 0, 1) := dk_42 (dk_at dksX4_odds_0 0 rfl rfl)
theorem dX4_odds_1 : decode cX4_odds 1 = .ok (.iload_n 1, 1) := dk_27 (dk_at dksX4_odds_0 1 rfl rfl)
theorem dX4_odds_2 : decode cX4_odds 2 = .ok (.invokevirtual 85, 3) := dk_182 0 85 (dk_at dksX4_odds_0 2 rfl rfl)
theorem dX4_odds_5 : decode cX4_odds 5 = .ok (.ifCond .eq 11, 3) := dk_153 0 11 (dk_at dksX4_odds_0 5 rfl rfl)
theorem dX4_odds_8 : decode cX4_odds 8 = .ok (.aload_n 0, 1) := dk_42 (dk_at dksX4_odds_0 8 rfl rfl)
theorem dX4_odds_9 : decode cX4_odds 9 = .ok (.iload_n 2, 1) := dk_28 (dk_at dksX4_odds_0 9 rfl rfl)
theorem dX4_odds_10 : decode cX4_odds 10 = .ok (.invokevirtual 85, 3) := dk_182 0 85 (dk_at dksX4_odds_0 10 rfl rfl)
theorem dX4_odds_13 : decode cX4_odds 13 = .ok (.ifCond .ne 5, 3) := dk_154 0 5 (dk_at dksX4_odds_0 13 rfl rfl)
theorem dX4_odds_16 : decode cX4_odds 16 = .ok (.iconst (-1), 1) := dk_2 (dk_at dksX4_odds_0 16 rfl rfl)
theorem dX4_odds_17 : decode cX4_odds 17 = .ok (.ireturn, 1) := dk_172 (dk_at dksX4_odds_0 17 rfl rfl)
theorem dX4_odds_18 : decode cX4_odds 18 = .ok (.iconst 0, 1) := dk_3 (dk_at dksX4_odds_0 18 rfl rfl)
theorem dX4_odds_19 : decode cX4_odds 19 = .ok (.istore_n 3, 1) := dk_62 (dk_at dksX4_odds_0 19 rfl rfl)
theorem dX4_odds_20 : decode cX4_odds 20 = .ok (.iconst 0, 1) := dk_3 (dk_at dksX4_odds_0 20 rfl rfl)
theorem dX4_odds_21 : decode cX4_odds 21 = .ok (.istore 4, 2) := dk_54 4 (dk_at dksX4_odds_0 21 rfl rfl)
theorem dX4_odds_23 : decode cX4_odds 23 = .ok (.iload 4, 2) := dk_21 4 (dk_at dksX4_odds_1 0 rfl rfl)
theorem dX4_odds_25 : decode cX4_odds 25 = .ok (.iconst 1, 1) := dk_4 (dk_at dksX4_odds_1 2 rfl rfl)
theorem dX4_odds_26 : decode cX4_odds 26 = .ok (.aload_n 0, 1) := dk_42 (dk_at dksX4_odds_1 3 rfl rfl)
theorem dX4_odds_27 : decode cX4_odds 27 = .ok (.getfield 7, 3) := dk_180 0 7 (dk_at dksX4_odds_1 4 rfl rfl)
theorem dX4_odds_30 : decode cX4_odds 30 = .ok (.bipush 7, 2) := dk_16 7 (dk_at dksX4_odds_1 7 rfl rfl)
theorem dX4_odds_32 : decode cX4_odds 32 = .ok (.iaload, 1) := dk_46 (dk_at dksX4_odds_1 9 rfl rfl)
theorem dX4_odds_33 : decode cX4_odds 33 = .ok (.ishl, 1) := dk_120 (dk_at dksX4_odds_1 10 rfl rfl)
theorem dX4_odds_34 : decode cX4_odds 34 = .ok (.if_icmp .ge 123, 3) := dk_162 0 123 (dk_at dksX4_odds_1 11 rfl rfl)
theorem dX4_odds_37 : decode cX4_odds 37 = .ok (.iconst 1, 1) := dk_4 (dk_at dksX4_odds_1 14 rfl rfl)
theorem dX4_odds_38 : decode cX4_odds 38 = .ok (.istore 5, 2) := dk_54 5 (dk_at dksX4_odds_1 15 rfl rfl)
theorem dX4_odds_40 : decode cX4_odds 40 = .ok (.iconst 0, 1) := dk_3 (dk_at dksX4_odds_1 17 rfl rfl)
theorem dX4_odds_41 : decode cX4_odds 41 = .ok (.istore 6, 2) := dk_54 6 (dk_at dksX4_odds_1 18 rfl rfl)
theorem dX4_odds_43 : decode cX4_odds 43 = .ok (.iload 6, 2) := dk_21 6 (dk_at dksX4_odds_1 20 rfl rfl)
theorem dX4_odds_45 : decode cX4_odds 45 = .ok (.aload_n 0, 1) := dk_42 (dk_at dksX4_odds_1 22 rfl rfl)
theorem dX4_odds_46 : decode cX4_odds 46 = .ok (.getfield 7, 3) := dk_180 0 7 (dk_at dksX4_odds_2 0 rfl rfl)
theorem dX4_odds_49 : decode cX4_odds 49 = .ok (.bipush 7, 2) := dk_16 7 (dk_at dksX4_odds_2 3 rfl rfl)
theorem dX4_odds_51 : decode cX4_odds 51 = .ok (.iaload, 1) := dk_46 (dk_at dksX4_odds_2 5 rfl rfl)
theorem dX4_odds_52 : decode cX4_odds 52 = .ok (.if_icmp .ge 61, 3) := dk_162 0 61 (dk_at dksX4_odds_2 6 rfl rfl)
theorem dX4_odds_55 : decode cX4_odds 55 = .ok (.iload 5, 2) := dk_21 5 (dk_at dksX4_odds_2 9 rfl rfl)
theorem dX4_odds_57 : decode cX4_odds 57 = .ok (.iload 4, 2) := dk_21 4 (dk_at dksX4_odds_2 11 rfl rfl)
theorem dX4_odds_59 : decode cX4_odds 59 = .ok (.iload 6, 2) := dk_21 6 (dk_at dksX4_odds_2 13 rfl rfl)
theorem dX4_odds_61 : decode cX4_odds 61 = .ok (.ishr, 1) := dk_122 (dk_at dksX4_odds_2 15 rfl rfl)
theorem dX4_odds_62 : decode cX4_odds 62 = .ok (.iconst 1, 1) := dk_4 (dk_at dksX4_odds_2 16 rfl rfl)
theorem dX4_odds_63 : decode cX4_odds 63 = .ok (.iand, 1) := dk_126 (dk_at dksX4_odds_2 17 rfl rfl)
theorem dX4_odds_64 : decode cX4_odds 64 = .ok (.iconst 1, 1) := dk_4 (dk_at dksX4_odds_2 18 rfl rfl)
theorem dX4_odds_65 : decode cX4_odds 65 = .ok (.if_icmp .ne 21, 3) := dk_160 0 21 (dk_at dksX4_odds_2 19 rfl rfl)
theorem dX4_odds_68 : decode cX4_odds 68 = .ok (.aload_n 0, 1) := dk_42 (dk_at dksX4_odds_2 22 rfl rfl)
theorem dX4_odds_69 : decode cX4_odds 69 = .ok (.getfield 7, 3) := dk_180 0 7 (dk_at dksX4_odds_3 0 rfl rfl)
theorem dX4_odds_72 : decode cX4_odds 72 = .ok (.sipush 1900, 3) := dk_17 7 108 (dk_at dksX4_odds_3 3 rfl rfl)
theorem dX4_odds_75 : decode cX4_odds 75 = .ok (.iconst 3, 1) := dk_6 (dk_at dksX4_odds_3 6 rfl rfl)
theorem dX4_odds_76 : decode cX4_odds 76 = .ok (.iload 6, 2) := dk_21 6 (dk_at dksX4_odds_3 7 rfl rfl)
theorem dX4_odds_78 : decode cX4_odds 78 = .ok (.imul, 1) := dk_104 (dk_at dksX4_odds_3 9 rfl rfl)
theorem dX4_odds_79 : decode cX4_odds 79 = .ok (.iadd, 1) := dk_96 (dk_at dksX4_odds_3 10 rfl rfl)
theorem dX4_odds_80 : decode cX4_odds 80 = .ok (.iconst 2, 1) := dk_5 (dk_at dksX4_odds_3 11 rfl rfl)
theorem dX4_odds_81 : decode cX4_odds 81 = .ok (.iadd, 1) := dk_96 (dk_at dksX4_odds_3 12 rfl rfl)
theorem dX4_odds_82 : decode cX4_odds 82 = .ok (.iaload, 1) := dk_46 (dk_at dksX4_odds_3 13 rfl rfl)
theorem dX4_odds_83 : decode cX4_odds 83 = .ok (.goto 21, 3) := dk_167 0 21 (dk_at dksX4_odds_3 14 rfl rfl)
theorem dX4_odds_86 : decode cX4_odds 86 = .ok (.bipush 10, 2) := dk_16 10 (dk_at dksX4_odds_3 17 rfl rfl)
theorem dX4_odds_88 : decode cX4_odds 88 = .ok (.aload_n 0, 1) := dk_42 (dk_at dksX4_odds_3 19 rfl rfl)
theorem dX4_odds_89 : decode cX4_odds 89 = .ok (.getfield 7, 3) := dk_180 0 7 (dk_at dksX4_odds_3 20 rfl rfl)
theorem dX4_odds_92 : decode cX4_odds 92 = .ok (.sipush 1900, 3) := dk_17 7 108 (dk_at dksX4_odds_4 0 rfl rfl)
theorem dX4_odds_95 : decode cX4_odds 95 = .ok (.iconst 3, 1) := dk_6 (dk_at dksX4_odds_4 3 rfl rfl)
theorem dX4_odds_96 : decode cX4_odds 96 = .ok (.iload 6, 2) := dk_21 6 (dk_at dksX4_odds_4 4 rfl rfl)
theorem dX4_odds_98 : decode cX4_odds 98 = .ok (.imul, 1) := dk_104 (dk_at dksX4_odds_4 6 rfl rfl)
theorem dX4_odds_99 : decode cX4_odds 99 = .ok (.iadd, 1) := dk_96 (dk_at dksX4_odds_4 7 rfl rfl)
theorem dX4_odds_100 : decode cX4_odds 100 = .ok (.iconst 2, 1) := dk_5 (dk_at dksX4_odds_4 8 rfl rfl)
theorem dX4_odds_101 : decode cX4_odds 101 = .ok (.iadd, 1) := dk_96 (dk_at dksX4_odds_4 9 rfl rfl)
theorem dX4_odds_102 : decode cX4_odds 102 = .ok (.iaload, 1) := dk_46 (dk_at dksX4_odds_4 10 rfl rfl)
theorem dX4_odds_103 : decode cX4_odds 103 = .ok (.isub, 1) := dk_100 (dk_at dksX4_odds_4 11 rfl rfl)
theorem dX4_odds_104 : decode cX4_odds 104 = .ok (.imul, 1) := dk_104 (dk_at dksX4_odds_4 12 rfl rfl)
theorem dX4_odds_105 : decode cX4_odds 105 = .ok (.istore 5, 2) := dk_54 5 (dk_at dksX4_odds_4 13 rfl rfl)
theorem dX4_odds_107 : decode cX4_odds 107 = .ok (.iinc 6 1, 3) := dk_132 6 1 (dk_at dksX4_odds_4 15 rfl rfl)
theorem dX4_odds_110 : decode cX4_odds 110 = .ok (.goto (-67), 3) := dk_167 255 189 (dk_at dksX4_odds_4 18 rfl rfl)
theorem dX4_odds_113 : decode cX4_odds 113 = .ok (.iload 5, 2) := dk_21 5 (dk_at dksX4_odds_4 21 rfl rfl)
theorem dX4_odds_115 : decode cX4_odds 115 = .ok (.ifCond .ne 6, 3) := dk_154 0 6 (dk_at dksX4_odds_5 0 rfl rfl)
theorem dX4_odds_118 : decode cX4_odds 118 = .ok (.goto 33, 3) := dk_167 0 33 (dk_at dksX4_odds_5 3 rfl rfl)
theorem dX4_odds_121 : decode cX4_odds 121 = .ok (.aload_n 0, 1) := dk_42 (dk_at dksX4_odds_5 6 rfl rfl)
theorem dX4_odds_122 : decode cX4_odds 122 = .ok (.iload 4, 2) := dk_21 4 (dk_at dksX4_odds_5 7 rfl rfl)
theorem dX4_odds_124 : decode cX4_odds 124 = .ok (.invokevirtual 327, 3) := dk_182 1 71 (dk_at dksX4_odds_5 9 rfl rfl)
theorem dX4_odds_127 : decode cX4_odds 127 = .ok (.iload_n 3, 1) := dk_29 (dk_at dksX4_odds_5 12 rfl rfl)
theorem dX4_odds_128 : decode cX4_odds 128 = .ok (.aload_n 0, 1) := dk_42 (dk_at dksX4_odds_5 13 rfl rfl)
theorem dX4_odds_129 : decode cX4_odds 129 = .ok (.getfield 53, 3) := dk_180 0 53 (dk_at dksX4_odds_5 14 rfl rfl)
theorem dX4_odds_132 : decode cX4_odds 132 = .ok (.iload_n 1, 1) := dk_27 (dk_at dksX4_odds_5 17 rfl rfl)
theorem dX4_odds_133 : decode cX4_odds 133 = .ok (.iaload, 1) := dk_46 (dk_at dksX4_odds_5 18 rfl rfl)
theorem dX4_odds_134 : decode cX4_odds 134 = .ok (.aload_n 0, 1) := dk_42 (dk_at dksX4_odds_5 19 rfl rfl)
theorem dX4_odds_135 : decode cX4_odds 135 = .ok (.getfield 53, 3) := dk_180 0 53 (dk_at dksX4_odds_5 20 rfl rfl)
theorem dX4_odds_138 : decode cX4_odds 138 = .ok (.iload_n 2, 1) := dk_28 (dk_at dksX4_odds_5 23 rfl rfl)
theorem dX4_odds_139 : decode cX4_odds 139 = .ok (.iaload, 1) := dk_46 (dk_at dksX4_odds_6 0 rfl rfl)
theorem dX4_odds_140 : decode cX4_odds 140 = .ok (.if_icmp .ne 8, 3) := dk_160 0 8 (dk_at dksX4_odds_6 1 rfl rfl)
theorem dX4_odds_143 : decode cX4_odds 143 = .ok (.iload 5, 2) := dk_21 5 (dk_at dksX4_odds_6 4 rfl rfl)
theorem dX4_odds_145 : decode cX4_odds 145 = .ok (.goto 4, 3) := dk_167 0 4 (dk_at dksX4_odds_6 6 rfl rfl)
theorem dX4_odds_148 : decode cX4_odds 148 = .ok (.iconst 0, 1) := dk_3 (dk_at dksX4_odds_6 9 rfl rfl)
theorem dX4_odds_149 : decode cX4_odds 149 = .ok (.iadd, 1) := dk_96 (dk_at dksX4_odds_6 10 rfl rfl)
theorem dX4_odds_150 : decode cX4_odds 150 = .ok (.istore_n 3, 1) := dk_62 (dk_at dksX4_odds_6 11 rfl rfl)
theorem dX4_odds_151 : decode cX4_odds 151 = .ok (.iinc 4 1, 3) := dk_132 4 1 (dk_at dksX4_odds_6 12 rfl rfl)
theorem dX4_odds_154 : decode cX4_odds 154 = .ok (.goto (-131), 3) := dk_167 255 125 (dk_at dksX4_odds_6 15 rfl rfl)
theorem dX4_odds_157 : decode cX4_odds 157 = .ok (.iload_n 3, 1) := dk_29 (dk_at dksX4_odds_6 18 rfl rfl)
theorem dX4_odds_158 : decode cX4_odds 158 = .ok (.ireturn, 1) := dk_172 (dk_at dksX4_odds_6 19 rfl rfl)
abbrev cX4_hatches : ByteArray := prog_14_method_73_code
def yX4_hatches : MethodName := ⟨RX4, "hatches", "(I)V"⟩
def dkwX4_hatches_3 : List UInt8 := [182, 1, 34, 42, 182, 1, 49, 177]
abbrev dktX4_hatches_3 : List UInt8 := dkwX4_hatches_3 ++ []
def dkwX4_hatches_2 : List UInt8 := [17, 7, 108, 6, 28, 104, 96, 4, 96, 46, 104, 96, 79, 132, 2, 1, 167, 255, 199, 42, 182, 1, 31, 42]
abbrev dktX4_hatches_2 : List UInt8 := dkwX4_hatches_2 ++ dktX4_hatches_3
def dkwX4_hatches_1 : List UInt8 := [180, 0, 7, 17, 7, 108, 6, 28, 104, 96, 46, 96, 92, 46, 27, 28, 122, 4, 126, 42, 180, 0, 7]
abbrev dktX4_hatches_1 : List UInt8 := dkwX4_hatches_1 ++ dktX4_hatches_2
def dkwX4_hatches_0 : List UInt8 := [42, 182, 1, 46, 3, 61, 28, 42, 180, 0, 7, 16, 7, 46, 162, 0, 52, 42, 180, 0, 7, 16, 20, 42]
abbrev dktX4_hatches_0 : List UInt8 := dkwX4_hatches_0 ++ dktX4_hatches_1
theorem dksX4_hatches_0 : cX4_hatches.data.toList.drop 0 = dktX4_hatches_0 := by decide +kernel
theorem dksX4_hatches_1 : cX4_hatches.data.toList.drop 24 = dktX4_hatches_1 := dk_seg dksX4_hatches_0 24 rfl rfl
theorem dksX4_hatches_2 : cX4_hatches.data.toList.drop 47 = dktX4_hatches_2 := dk_seg dksX4_hatches_1 23 rfl rfl
theorem dksX4_hatches_3 : cX4_hatches.data.toList.drop 71 = dktX4_hatches_3 := dk_seg dksX4_hatches_2 24 rfl rfl
theorem dX4_hatches_0 : decode cX4_hatches 0 = .ok (.aload_n 0, 1) := dk_42 (dk_at dksX4_hatches_0 0 rfl rfl)
theorem dX4_hatches_1 : decode cX4_hatches 1 = .ok (.invokevirtual 302, 3) := dk_182 1 46 (dk_at dksX4_hatches_0 1 rfl rfl)
theorem dX4_hatches_4 : decode cX4_hatches 4 = .ok (.iconst 0, 1) := dk_3 (dk_at dksX4_hatches_0 4 rfl rfl)
theorem dX4_hatches_5 : decode cX4_hatches 5 = .ok (.istore_n 2, 1) := dk_61 (dk_at dksX4_hatches_0 5 rfl rfl)
theorem dX4_hatches_6 : decode cX4_hatches 6 = .ok (.iload_n 2, 1) := dk_28 (dk_at dksX4_hatches_0 6 rfl rfl)
theorem dX4_hatches_7 : decode cX4_hatches 7 = .ok (.aload_n 0, 1) := dk_42 (dk_at dksX4_hatches_0 7 rfl rfl)
theorem dX4_hatches_8 : decode cX4_hatches 8 = .ok (.getfield 7, 3) := dk_180 0 7 (dk_at dksX4_hatches_0 8 rfl rfl)
theorem dX4_hatches_11 : decode cX4_hatches 11 = .ok (.bipush 7, 2) := dk_16 7 (dk_at dksX4_hatches_0 11 rfl rfl)
theorem dX4_hatches_13 : decode cX4_hatches 13 = .ok (.iaload, 1) := dk_46 (dk_at dksX4_hatches_0 13 rfl rfl)
theorem dX4_hatches_14 : decode cX4_hatches 14 = .ok (.if_icmp .ge 52, 3) := dk_162 0 52 (dk_at dksX4_hatches_0 14 rfl rfl)
theorem dX4_hatches_17 : decode cX4_hatches 17 = .ok (.aload_n 0, 1) := dk_42 (dk_at dksX4_hatches_0 17 rfl rfl)
theorem dX4_hatches_18 : decode cX4_hatches 18 = .ok (.getfield 7, 3) := dk_180 0 7 (dk_at dksX4_hatches_0 18 rfl rfl)
theorem dX4_hatches_21 : decode cX4_hatches 21 = .ok (.bipush 20, 2) := dk_16 20 (dk_at dksX4_hatches_0 21 rfl rfl)
theorem dX4_hatches_23 : decode cX4_hatches 23 = .ok (.aload_n 0, 1) := dk_42 (dk_at dksX4_hatches_0 23 rfl rfl)
theorem dX4_hatches_24 : decode cX4_hatches 24 = .ok (.getfield 7, 3) := dk_180 0 7 (dk_at dksX4_hatches_1 0 rfl rfl)
theorem dX4_hatches_27 : decode cX4_hatches 27 = .ok (.sipush 1900, 3) := dk_17 7 108 (dk_at dksX4_hatches_1 3 rfl rfl)
theorem dX4_hatches_30 : decode cX4_hatches 30 = .ok (.iconst 3, 1) := dk_6 (dk_at dksX4_hatches_1 6 rfl rfl)
theorem dX4_hatches_31 : decode cX4_hatches 31 = .ok (.iload_n 2, 1) := dk_28 (dk_at dksX4_hatches_1 7 rfl rfl)
theorem dX4_hatches_32 : decode cX4_hatches 32 = .ok (.imul, 1) := dk_104 (dk_at dksX4_hatches_1 8 rfl rfl)
theorem dX4_hatches_33 : decode cX4_hatches 33 = .ok (.iadd, 1) := dk_96 (dk_at dksX4_hatches_1 9 rfl rfl)
theorem dX4_hatches_34 : decode cX4_hatches 34 = .ok (.iaload, 1) := dk_46 (dk_at dksX4_hatches_1 10 rfl rfl)
theorem dX4_hatches_35 : decode cX4_hatches 35 = .ok (.iadd, 1) := dk_96 (dk_at dksX4_hatches_1 11 rfl rfl)
theorem dX4_hatches_36 : decode cX4_hatches 36 = .ok (.dup2, 1) := dk_92 (dk_at dksX4_hatches_1 12 rfl rfl)
theorem dX4_hatches_37 : decode cX4_hatches 37 = .ok (.iaload, 1) := dk_46 (dk_at dksX4_hatches_1 13 rfl rfl)
theorem dX4_hatches_38 : decode cX4_hatches 38 = .ok (.iload_n 1, 1) := dk_27 (dk_at dksX4_hatches_1 14 rfl rfl)
theorem dX4_hatches_39 : decode cX4_hatches 39 = .ok (.iload_n 2, 1) := dk_28 (dk_at dksX4_hatches_1 15 rfl rfl)
theorem dX4_hatches_40 : decode cX4_hatches 40 = .ok (.ishr, 1) := dk_122 (dk_at dksX4_hatches_1 16 rfl rfl)
theorem dX4_hatches_41 : decode cX4_hatches 41 = .ok (.iconst 1, 1) := dk_4 (dk_at dksX4_hatches_1 17 rfl rfl)
theorem dX4_hatches_42 : decode cX4_hatches 42 = .ok (.iand, 1) := dk_126 (dk_at dksX4_hatches_1 18 rfl rfl)
theorem dX4_hatches_43 : decode cX4_hatches 43 = .ok (.aload_n 0, 1) := dk_42 (dk_at dksX4_hatches_1 19 rfl rfl)
theorem dX4_hatches_44 : decode cX4_hatches 44 = .ok (.getfield 7, 3) := dk_180 0 7 (dk_at dksX4_hatches_1 20 rfl rfl)
theorem dX4_hatches_47 : decode cX4_hatches 47 = .ok (.sipush 1900, 3) := dk_17 7 108 (dk_at dksX4_hatches_2 0 rfl rfl)
theorem dX4_hatches_50 : decode cX4_hatches 50 = .ok (.iconst 3, 1) := dk_6 (dk_at dksX4_hatches_2 3 rfl rfl)
theorem dX4_hatches_51 : decode cX4_hatches 51 = .ok (.iload_n 2, 1) := dk_28 (dk_at dksX4_hatches_2 4 rfl rfl)
theorem dX4_hatches_52 : decode cX4_hatches 52 = .ok (.imul, 1) := dk_104 (dk_at dksX4_hatches_2 5 rfl rfl)
theorem dX4_hatches_53 : decode cX4_hatches 53 = .ok (.iadd, 1) := dk_96 (dk_at dksX4_hatches_2 6 rfl rfl)
theorem dX4_hatches_54 : decode cX4_hatches 54 = .ok (.iconst 1, 1) := dk_4 (dk_at dksX4_hatches_2 7 rfl rfl)
theorem dX4_hatches_55 : decode cX4_hatches 55 = .ok (.iadd, 1) := dk_96 (dk_at dksX4_hatches_2 8 rfl rfl)
theorem dX4_hatches_56 : decode cX4_hatches 56 = .ok (.iaload, 1) := dk_46 (dk_at dksX4_hatches_2 9 rfl rfl)
theorem dX4_hatches_57 : decode cX4_hatches 57 = .ok (.imul, 1) := dk_104 (dk_at dksX4_hatches_2 10 rfl rfl)
theorem dX4_hatches_58 : decode cX4_hatches 58 = .ok (.iadd, 1) := dk_96 (dk_at dksX4_hatches_2 11 rfl rfl)
theorem dX4_hatches_59 : decode cX4_hatches 59 = .ok (.iastore, 1) := dk_79 (dk_at dksX4_hatches_2 12 rfl rfl)
theorem dX4_hatches_60 : decode cX4_hatches 60 = .ok (.iinc 2 1, 3) := dk_132 2 1 (dk_at dksX4_hatches_2 13 rfl rfl)
theorem dX4_hatches_63 : decode cX4_hatches 63 = .ok (.goto (-57), 3) := dk_167 255 199 (dk_at dksX4_hatches_2 16 rfl rfl)
theorem dX4_hatches_66 : decode cX4_hatches 66 = .ok (.aload_n 0, 1) := dk_42 (dk_at dksX4_hatches_2 19 rfl rfl)
theorem dX4_hatches_67 : decode cX4_hatches 67 = .ok (.invokevirtual 287, 3) := dk_182 1 31 (dk_at dksX4_hatches_2 20 rfl rfl)
theorem dX4_hatches_70 : decode cX4_hatches 70 = .ok (.aload_n 0, 1) := dk_42 (dk_at dksX4_hatches_2 23 rfl rfl)
theorem dX4_hatches_71 : decode cX4_hatches 71 = .ok (.invokevirtual 290, 3) := dk_182 1 34 (dk_at dksX4_hatches_3 0 rfl rfl)
theorem dX4_hatches_74 : decode cX4_hatches 74 = .ok (.aload_n 0, 1) := dk_42 (dk_at dksX4_hatches_3 3 rfl rfl)
theorem dX4_hatches_75 : decode cX4_hatches 75 = .ok (.invokevirtual 305, 3) := dk_182 1 49 (dk_at dksX4_hatches_3 4 rfl rfl)
theorem dX4_hatches_78 : decode cX4_hatches 78 = .ok (.return_, 1) := dk_177 (dk_at dksX4_hatches_3 7 rfl rfl)
abbrev cX4_claim : ByteArray := prog_14_method_75_code
def yX4_claim : MethodName := ⟨RX4, "claim", "(IIZ)Z"⟩
def dkwX4_claim_4 : List UInt8 := [46, 4, 96, 79, 4, 172]
abbrev dktX4_claim_4 : List UInt8 := dkwX4_claim_4 ++ []
def dkwX4_claim_3 : List UInt8 := [180, 0, 7, 21, 4, 5, 96, 29, 153, 0, 7, 4, 167, 0, 4, 3, 79, 42, 180, 0, 7, 16, 8, 92]
abbrev dktX4_claim_3 : List UInt8 := dkwX4_claim_3 ++ dktX4_claim_4
def dkwX4_claim_2 : List UInt8 := [104, 96, 54, 4, 42, 180, 0, 7, 21, 4, 27, 79, 42, 180, 0, 7, 21, 4, 4, 96, 28, 79, 42]
abbrev dktX4_claim_2 : List UInt8 := dkwX4_claim_2 ++ dktX4_claim_3
def dkwX4_claim_1 : List UInt8 := [180, 0, 7, 16, 8, 46, 16, 20, 160, 0, 5, 3, 172, 17, 7, 128, 6, 42, 180, 0, 7, 16, 8, 46]
abbrev dktX4_claim_1 : List UInt8 := dkwX4_claim_1 ++ dktX4_claim_2
def dkwX4_claim_0 : List UInt8 := [42, 27, 182, 0, 85, 153, 0, 28, 42, 28, 182, 0, 85, 153, 0, 20, 27, 28, 159, 0, 15, 42]
abbrev dktX4_claim_0 : List UInt8 := dkwX4_claim_0 ++ dktX4_claim_1
theorem dksX4_claim_0 : cX4_claim.data.toList.drop 0 = dktX4_claim_0 := by decide +kernel
theorem dksX4_claim_1 : cX4_claim.data.toList.drop 22 = dktX4_claim_1 := dk_seg dksX4_claim_0 22 rfl rfl
theorem dksX4_claim_2 : cX4_claim.data.toList.drop 46 = dktX4_claim_2 := dk_seg dksX4_claim_1 24 rfl rfl
theorem dksX4_claim_3 : cX4_claim.data.toList.drop 69 = dktX4_claim_3 := dk_seg dksX4_claim_2 23 rfl rfl
theorem dksX4_claim_4 : cX4_claim.data.toList.drop 93 = dktX4_claim_4 := dk_seg dksX4_claim_3 24 rfl rfl
theorem dX4_claim_0 : decode cX4_claim 0 = .ok (.aload_n 0, 1) := dk_42 (dk_at dksX4_claim_0 0 rfl rfl)
theorem dX4_claim_1 : decode cX4_claim 1 = .ok (.iload_n 1, 1) := dk_27 (dk_at dksX4_claim_0 1 rfl rfl)
theorem dX4_claim_2 : decode cX4_claim 2 = .ok (.invokevirtual 85, 3) := dk_182 0 85 (dk_at dksX4_claim_0 2 rfl rfl)
theorem dX4_claim_5 : decode cX4_claim 5 = .ok (.ifCond .eq 28, 3) := dk_153 0 28 (dk_at dksX4_claim_0 5 rfl rfl)
theorem dX4_claim_8 : decode cX4_claim 8 = .ok (.aload_n 0, 1) := dk_42 (dk_at dksX4_claim_0 8 rfl rfl)
theorem dX4_claim_9 : decode cX4_claim 9 = .ok (.iload_n 2, 1) := dk_28 (dk_at dksX4_claim_0 9 rfl rfl)
theorem dX4_claim_10 : decode cX4_claim 10 = .ok (.invokevirtual 85, 3) := dk_182 0 85 (dk_at dksX4_claim_0 10 rfl rfl)
theorem dX4_claim_13 : decode cX4_claim 13 = .ok (.ifCond .eq 20, 3) := dk_153 0 20 (dk_at dksX4_claim_0 13 rfl rfl)
theorem dX4_claim_16 : decode cX4_claim 16 = .ok (.iload_n 1, 1) := dk_27 (dk_at dksX4_claim_0 16 rfl rfl)
theorem dX4_claim_17 : decode cX4_claim 17 = .ok (.iload_n 2, 1) := dk_28 (dk_at dksX4_claim_0 17 rfl rfl)
theorem dX4_claim_18 : decode cX4_claim 18 = .ok (.if_icmp .eq 15, 3) := dk_159 0 15 (dk_at dksX4_claim_0 18 rfl rfl)
theorem dX4_claim_21 : decode cX4_claim 21 = .ok (.aload_n 0, 1) := dk_42 (dk_at dksX4_claim_0 21 rfl rfl)
theorem dX4_claim_22 : decode cX4_claim 22 = .ok (.getfield 7, 3) := dk_180 0 7 (dk_at dksX4_claim_1 0 rfl rfl)
theorem dX4_claim_25 : decode cX4_claim 25 = .ok (.bipush 8, 2) := dk_16 8 (dk_at dksX4_claim_1 3 rfl rfl)
theorem dX4_claim_27 : decode cX4_claim 27 = .ok (.iaload, 1) := dk_46 (dk_at dksX4_claim_1 5 rfl rfl)
theorem dX4_claim_28 : decode cX4_claim 28 = .ok (.bipush 20, 2) := dk_16 20 (dk_at dksX4_claim_1 6 rfl rfl)
theorem dX4_claim_30 : decode cX4_claim 30 = .ok (.if_icmp .ne 5, 3) := dk_160 0 5 (dk_at dksX4_claim_1 8 rfl rfl)
theorem dX4_claim_33 : decode cX4_claim 33 = .ok (.iconst 0, 1) := dk_3 (dk_at dksX4_claim_1 11 rfl rfl)
theorem dX4_claim_34 : decode cX4_claim 34 = .ok (.ireturn, 1) := dk_172 (dk_at dksX4_claim_1 12 rfl rfl)
theorem dX4_claim_35 : decode cX4_claim 35 = .ok (.sipush 1920, 3) := dk_17 7 128 (dk_at dksX4_claim_1 13 rfl rfl)
theorem dX4_claim_38 : decode cX4_claim 38 = .ok (.iconst 3, 1) := dk_6 (dk_at dksX4_claim_1 16 rfl rfl)
theorem dX4_claim_39 : decode cX4_claim 39 = .ok (.aload_n 0, 1) := dk_42 (dk_at dksX4_claim_1 17 rfl rfl)
theorem dX4_claim_40 : decode cX4_claim 40 = .ok (.getfield 7, 3) := dk_180 0 7 (dk_at dksX4_claim_1 18 rfl rfl)
theorem dX4_claim_43 : decode cX4_claim 43 = .ok (.bipush 8, 2) := dk_16 8 (dk_at dksX4_claim_1 21 rfl rfl)
theorem dX4_claim_45 : decode cX4_claim 45 = .ok (.iaload, 1) := dk_46 (dk_at dksX4_claim_1 23 rfl rfl)
theorem dX4_claim_46 : decode cX4_claim 46 = .ok (.imul, 1) := dk_104 (dk_at dksX4_claim_2 0 rfl rfl)
theorem dX4_claim_47 : decode cX4_claim 47 = .ok (.iadd, 1) := dk_96 (dk_at dksX4_claim_2 1 rfl rfl)
theorem dX4_claim_48 : decode cX4_claim 48 = .ok (.istore 4, 2) := dk_54 4 (dk_at dksX4_claim_2 2 rfl rfl)
theorem dX4_claim_50 : decode cX4_claim 50 = .ok (.aload_n 0, 1) := dk_42 (dk_at dksX4_claim_2 4 rfl rfl)
theorem dX4_claim_51 : decode cX4_claim 51 = .ok (.getfield 7, 3) := dk_180 0 7 (dk_at dksX4_claim_2 5 rfl rfl)
theorem dX4_claim_54 : decode cX4_claim 54 = .ok (.iload 4, 2) := dk_21 4 (dk_at dksX4_claim_2 8 rfl rfl)
theorem dX4_claim_56 : decode cX4_claim 56 = .ok (.iload_n 1, 1) := dk_27 (dk_at dksX4_claim_2 10 rfl rfl)
theorem dX4_claim_57 : decode cX4_claim 57 = .ok (.iastore, 1) := dk_79 (dk_at dksX4_claim_2 11 rfl rfl)
theorem dX4_claim_58 : decode cX4_claim 58 = .ok (.aload_n 0, 1) := dk_42 (dk_at dksX4_claim_2 12 rfl rfl)
theorem dX4_claim_59 : decode cX4_claim 59 = .ok (.getfield 7, 3) := dk_180 0 7 (dk_at dksX4_claim_2 13 rfl rfl)
theorem dX4_claim_62 : decode cX4_claim 62 = .ok (.iload 4, 2) := dk_21 4 (dk_at dksX4_claim_2 16 rfl rfl)
theorem dX4_claim_64 : decode cX4_claim 64 = .ok (.iconst 1, 1) := dk_4 (dk_at dksX4_claim_2 18 rfl rfl)
theorem dX4_claim_65 : decode cX4_claim 65 = .ok (.iadd, 1) := dk_96 (dk_at dksX4_claim_2 19 rfl rfl)
theorem dX4_claim_66 : decode cX4_claim 66 = .ok (.iload_n 2, 1) := dk_28 (dk_at dksX4_claim_2 20 rfl rfl)
theorem dX4_claim_67 : decode cX4_claim 67 = .ok (.iastore, 1) := dk_79 (dk_at dksX4_claim_2 21 rfl rfl)
theorem dX4_claim_68 : decode cX4_claim 68 = .ok (.aload_n 0, 1) := dk_42 (dk_at dksX4_claim_2 22 rfl rfl)
theorem dX4_claim_69 : decode cX4_claim 69 = .ok (.getfield 7, 3) := dk_180 0 7 (dk_at dksX4_claim_3 0 rfl rfl)
theorem dX4_claim_72 : decode cX4_claim 72 = .ok (.iload 4, 2) := dk_21 4 (dk_at dksX4_claim_3 3 rfl rfl)
theorem dX4_claim_74 : decode cX4_claim 74 = .ok (.iconst 2, 1) := dk_5 (dk_at dksX4_claim_3 5 rfl rfl)
theorem dX4_claim_75 : decode cX4_claim 75 = .ok (.iadd, 1) := dk_96 (dk_at dksX4_claim_3 6 rfl rfl)
theorem dX4_claim_76 : decode cX4_claim 76 = .ok (.iload_n 3, 1) := dk_29 (dk_at dksX4_claim_3 7 rfl rfl)
theorem dX4_claim_77 : decode cX4_claim 77 = .ok (.ifCond .eq 7, 3) := dk_153 0 7 (dk_at dksX4_claim_3 8 rfl rfl)
theorem dX4_claim_80 : decode cX4_claim 80 = .ok (.iconst 1, 1) := dk_4 (dk_at dksX4_claim_3 11 rfl rfl)
theorem dX4_claim_81 : decode cX4_claim 81 = .ok (.goto 4, 3) := dk_167 0 4 (dk_at dksX4_claim_3 12 rfl rfl)
theorem dX4_claim_84 : decode cX4_claim 84 = .ok (.iconst 0, 1) := dk_3 (dk_at dksX4_claim_3 15 rfl rfl)
theorem dX4_claim_85 : decode cX4_claim 85 = .ok (.iastore, 1) := dk_79 (dk_at dksX4_claim_3 16 rfl rfl)
theorem dX4_claim_86 : decode cX4_claim 86 = .ok (.aload_n 0, 1) := dk_42 (dk_at dksX4_claim_3 17 rfl rfl)
theorem dX4_claim_87 : decode cX4_claim 87 = .ok (.getfield 7, 3) := dk_180 0 7 (dk_at dksX4_claim_3 18 rfl rfl)
theorem dX4_claim_90 : decode cX4_claim 90 = .ok (.bipush 8, 2) := dk_16 8 (dk_at dksX4_claim_3 21 rfl rfl)
theorem dX4_claim_92 : decode cX4_claim 92 = .ok (.dup2, 1) := dk_92 (dk_at dksX4_claim_3 23 rfl rfl)
theorem dX4_claim_93 : decode cX4_claim 93 = .ok (.iaload, 1) := dk_46 (dk_at dksX4_claim_4 0 rfl rfl)
theorem dX4_claim_94 : decode cX4_claim 94 = .ok (.iconst 1, 1) := dk_4 (dk_at dksX4_claim_4 1 rfl rfl)
theorem dX4_claim_95 : decode cX4_claim 95 = .ok (.iadd, 1) := dk_96 (dk_at dksX4_claim_4 2 rfl rfl)
theorem dX4_claim_96 : decode cX4_claim 96 = .ok (.iastore, 1) := dk_79 (dk_at dksX4_claim_4 3 rfl rfl)
theorem dX4_claim_97 : decode cX4_claim 97 = .ok (.iconst 1, 1) := dk_4 (dk_at dksX4_claim_4 4 rfl rfl)
theorem dX4_claim_98 : decode cX4_claim 98 = .ok (.ireturn, 1) := dk_172 (dk_at dksX4_claim_4 5 rfl rfl)
abbrev cX4_back : ByteArray := prog_14_method_76_code
def yX4_back : MethodName := ⟨RX4, "back", "(I)I"⟩
def dkwX4_back_8 : List UInt8 := [154, 0, 7, 28, 167, 0, 14, 27, 4, 160, 0, 7, 29, 167, 0, 5, 21, 4, 172]
abbrev dktX4_back_8 : List UInt8 := dkwX4_back_8 ++ []
def dkwX4_back_7 : List UInt8 := [154, 0, 8, 21, 5, 167, 0, 5, 21, 4, 54, 4, 132, 2, 1, 132, 5, 1, 167, 255, 94, 27]
abbrev dktX4_back_7 : List UInt8 := dkwX4_back_7 ++ dktX4_back_8
def dkwX4_back_6 : List UInt8 := [21, 6, 154, 0, 6, 167, 0, 33, 28, 154, 0, 8, 21, 5, 167, 0, 7, 29, 21, 5, 126, 62, 28]
abbrev dktX4_back_6 : List UInt8 := dkwX4_back_6 ++ dktX4_back_7
def dkwX4_back_5 : List UInt8 := [160, 0, 7, 4, 167, 0, 4, 3, 160, 0, 7, 4, 167, 0, 4, 3, 54, 6, 132, 7, 1, 167, 255, 164]
abbrev dktX4_back_5 : List UInt8 := dkwX4_back_5 ++ dktX4_back_6
def dkwX4_back_4 : List UInt8 := [21, 8, 4, 96, 46, 46, 160, 0, 7, 4, 167, 0, 4, 3, 42, 180, 0, 7, 21, 8, 5, 96, 46, 4]
abbrev dktX4_back_4 : List UInt8 := dkwX4_back_4 ++ dktX4_back_5
def dkwX4_back_3 : List UInt8 := [153, 0, 62, 42, 180, 0, 53, 42, 180, 0, 7, 21, 8, 46, 46, 42, 180, 0, 53, 42, 180, 0, 7]
abbrev dktX4_back_3 : List UInt8 := dkwX4_back_3 ++ dktX4_back_4
def dkwX4_back_2 : List UInt8 := [21, 7, 42, 180, 0, 7, 16, 8, 46, 162, 0, 86, 17, 7, 128, 6, 21, 7, 104, 96, 54, 8, 21, 6]
abbrev dktX4_back_2 : List UInt8 := dkwX4_back_2 ++ dktX4_back_3
def dkwX4_back_1 : List UInt8 := [42, 180, 0, 7, 16, 7, 46, 120, 162, 0, 154, 42, 21, 5, 182, 1, 71, 4, 54, 6, 3, 54, 7]
abbrev dktX4_back_1 : List UInt8 := dkwX4_back_1 ++ dktX4_back_2
def dkwX4_back_0 : List UInt8 := [27, 3, 5, 184, 0, 75, 154, 0, 5, 2, 172, 3, 61, 3, 62, 2, 54, 4, 3, 54, 5, 21, 5, 4]
abbrev dktX4_back_0 : List UInt8 := dkwX4_back_0 ++ dktX4_back_1
theorem dksX4_back_0 : cX4_back.data.toList.drop 0 = dktX4_back_0 := by decide +kernel
theorem dksX4_back_1 : cX4_back.data.toList.drop 24 = dktX4_back_1 := dk_seg dksX4_back_0 24 rfl rfl
theorem dksX4_back_2 : cX4_back.data.toList.drop 47 = dktX4_back_2 := dk_seg dksX4_back_1 23 rfl rfl
theorem dksX4_back_3 : cX4_back.data.toList.drop 71 = dktX4_back_3 := dk_seg dksX4_back_2 24 rfl rfl
theorem dksX4_back_4 : cX4_back.data.toList.drop 94 = dktX4_back_4 := dk_seg dksX4_back_3 23 rfl rfl
theorem dksX4_back_5 : cX4_back.data.toList.drop 118 = dktX4_back_5 := dk_seg dksX4_back_4 24 rfl rfl
theorem dksX4_back_6 : cX4_back.data.toList.drop 142 = dktX4_back_6 := dk_seg dksX4_back_5 24 rfl rfl
theorem dksX4_back_7 : cX4_back.data.toList.drop 165 = dktX4_back_7 := dk_seg dksX4_back_6 23 rfl rfl
theorem dksX4_back_8 : cX4_back.data.toList.drop 187 = dktX4_back_8 := dk_seg dksX4_back_7 22 rfl rfl
theorem dX4_back_0 : decode cX4_back 0 = .ok (.iload_n 1, 1) := dk_27 (dk_at dksX4_back_0 0 rfl rfl)
theorem dX4_back_1 : decode cX4_back 1 = .ok (.iconst 0, 1) := dk_3 (dk_at dksX4_back_0 1 rfl rfl)
theorem dX4_back_2 : decode cX4_back 2 = .ok (.iconst 2, 1) := dk_5 (dk_at dksX4_back_0 2 rfl rfl)
theorem dX4_back_3 : decode cX4_back 3 = .ok (.invokestatic 75, 3) := dk_184 0 75 (dk_at dksX4_back_0 3 rfl rfl)
theorem dX4_back_6 : decode cX4_back 6 = .ok (.ifCond .ne 5, 3) := dk_154 0 5 (dk_at dksX4_back_0 6 rfl rfl)
theorem dX4_back_9 : decode cX4_back 9 = .ok (.iconst (-1), 1) := dk_2 (dk_at dksX4_back_0 9 rfl rfl)
theorem dX4_back_10 : decode cX4_back 10 = .ok (.ireturn, 1) := dk_172 (dk_at dksX4_back_0 10 rfl rfl)
theorem dX4_back_11 : decode cX4_back 11 = .ok (.iconst 0, 1) := dk_3 (dk_at dksX4_back_0 11 rfl rfl)
theorem dX4_back_12 : decode cX4_back 12 = .ok (.istore_n 2, 1) := dk_61 (dk_at dksX4_back_0 12 rfl rfl)
theorem dX4_back_13 : decode cX4_back 13 = .ok (.iconst 0, 1) := dk_3 (dk_at dksX4_back_0 13 rfl rfl)
theorem dX4_back_14 : decode cX4_back 14 = .ok (.istore_n 3, 1) := dk_62 (dk_at dksX4_back_0 14 rfl rfl)
theorem dX4_back_15 : decode cX4_back 15 = .ok (.iconst (-1), 1) := dk_2 (dk_at dksX4_back_0 15 rfl rfl)
theorem dX4_back_16 : decode cX4_back 16 = .ok (.istore 4, 2) := dk_54 4 (dk_at dksX4_back_0 16 rfl rfl)
theorem dX4_back_18 : decode cX4_back 18 = .ok (.iconst 0, 1) := dk_3 (dk_at dksX4_back_0 18 rfl rfl)
theorem dX4_back_19 : decode cX4_back 19 = .ok (.istore 5, 2) := dk_54 5 (dk_at dksX4_back_0 19 rfl rfl)
theorem dX4_back_21 : decode cX4_back 21 = .ok (.iload 5, 2) := dk_21 5 (dk_at dksX4_back_0 21 rfl rfl)
theorem dX4_back_23 : decode cX4_back 23 = .ok (.iconst 1, 1) := dk_4 (dk_at dksX4_back_0 23 rfl rfl)
theorem dX4_back_24 : decode cX4_back 24 = .ok (.aload_n 0, 1) := dk_42 (dk_at dksX4_back_1 0 rfl rfl)
theorem dX4_back_25 : decode cX4_back 25 = .ok (.getfield 7, 3) := dk_180 0 7 (dk_at dksX4_back_1 1 rfl rfl)
theorem dX4_back_28 : decode cX4_back 28 = .ok (.bipush 7, 2) := dk_16 7 (dk_at dksX4_back_1 4 rfl rfl)
theorem dX4_back_30 : decode cX4_back 30 = .ok (.iaload, 1) := dk_46 (dk_at dksX4_back_1 6 rfl rfl)
theorem dX4_back_31 : decode cX4_back 31 = .ok (.ishl, 1) := dk_120 (dk_at dksX4_back_1 7 rfl rfl)
theorem dX4_back_32 : decode cX4_back 32 = .ok (.if_icmp .ge 154, 3) := dk_162 0 154 (dk_at dksX4_back_1 8 rfl rfl)
theorem dX4_back_35 : decode cX4_back 35 = .ok (.aload_n 0, 1) := dk_42 (dk_at dksX4_back_1 11 rfl rfl)
theorem dX4_back_36 : decode cX4_back 36 = .ok (.iload 5, 2) := dk_21 5 (dk_at dksX4_back_1 12 rfl rfl)
theorem dX4_back_38 : decode cX4_back 38 = .ok (.invokevirtual 327, 3) := dk_182 1 71 (dk_at dksX4_back_1 14 rfl rfl)
theorem dX4_back_41 : decode cX4_back 41 = .ok (.iconst 1, 1) := dk_4 (dk_at dksX4_back_1 17 rfl rfl)
theorem dX4_back_42 : decode cX4_back 42 = .ok (.istore 6, 2) := dk_54 6 (dk_at dksX4_back_1 18 rfl rfl)
theorem dX4_back_44 : decode cX4_back 44 = .ok (.iconst 0, 1) := dk_3 (dk_at dksX4_back_1 20 rfl rfl)
theorem dX4_back_45 : decode cX4_back 45 = .ok (.istore 7, 2) := dk_54 7 (dk_at dksX4_back_1 21 rfl rfl)
theorem dX4_back_47 : decode cX4_back 47 = .ok (.iload 7, 2) := dk_21 7 (dk_at dksX4_back_2 0 rfl rfl)
theorem dX4_back_49 : decode cX4_back 49 = .ok (.aload_n 0, 1) := dk_42 (dk_at dksX4_back_2 2 rfl rfl)
theorem dX4_back_50 : decode cX4_back 50 = .ok (.getfield 7, 3) := dk_180 0 7 (dk_at dksX4_back_2 3 rfl rfl)
theorem dX4_back_53 : decode cX4_back 53 = .ok (.bipush 8, 2) := dk_16 8 (dk_at dksX4_back_2 6 rfl rfl)
theorem dX4_back_55 : decode cX4_back 55 = .ok (.iaload, 1) := dk_46 (dk_at dksX4_back_2 8 rfl rfl)
theorem dX4_back_56 : decode cX4_back 56 = .ok (.if_icmp .ge 86, 3) := dk_162 0 86 (dk_at dksX4_back_2 9 rfl rfl)
theorem dX4_back_59 : decode cX4_back 59 = .ok (.sipush 1920, 3) := dk_17 7 128 (dk_at dksX4_back_2 12 rfl rfl)
theorem dX4_back_62 : decode cX4_back 62 = .ok (.iconst 3, 1) := dk_6 (dk_at dksX4_back_2 15 rfl rfl)
theorem dX4_back_63 : decode cX4_back 63 = .ok (.iload 7, 2) := dk_21 7 (dk_at dksX4_back_2 16 rfl rfl)
theorem dX4_back_65 : decode cX4_back 65 = .ok (.imul, 1) := dk_104 (dk_at dksX4_back_2 18 rfl rfl)
theorem dX4_back_66 : decode cX4_back 66 = .ok (.iadd, 1) := dk_96 (dk_at dksX4_back_2 19 rfl rfl)
theorem dX4_back_67 : decode cX4_back 67 = .ok (.istore 8, 2) := dk_54 8 (dk_at dksX4_back_2 20 rfl rfl)
theorem dX4_back_69 : decode cX4_back 69 = .ok (.iload 6, 2) := dk_21 6 (dk_at dksX4_back_2 22 rfl rfl)
theorem dX4_back_71 : decode cX4_back 71 = .ok (.ifCond .eq 62, 3) := dk_153 0 62 (dk_at dksX4_back_3 0 rfl rfl)
theorem dX4_back_74 : decode cX4_back 74 = .ok (.aload_n 0, 1) := dk_42 (dk_at dksX4_back_3 3 rfl rfl)
theorem dX4_back_75 : decode cX4_back 75 = .ok (.getfield 53, 3) := dk_180 0 53 (dk_at dksX4_back_3 4 rfl rfl)
theorem dX4_back_78 : decode cX4_back 78 = .ok (.aload_n 0, 1) := dk_42 (dk_at dksX4_back_3 7 rfl rfl)
theorem dX4_back_79 : decode cX4_back 79 = .ok (.getfield 7, 3) := dk_180 0 7 (dk_at dksX4_back_3 8 rfl rfl)
theorem dX4_back_82 : decode cX4_back 82 = .ok (.iload 8, 2) := dk_21 8 (dk_at dksX4_back_3 11 rfl rfl)
theorem dX4_back_84 : decode cX4_back 84 = .ok (.iaload, 1) := dk_46 (dk_at dksX4_back_3 13 rfl rfl)
theorem dX4_back_85 : decode cX4_back 85 = .ok (.iaload, 1) := dk_46 (dk_at dksX4_back_3 14 rfl rfl)
theorem dX4_back_86 : decode cX4_back 86 = .ok (.aload_n 0, 1) := dk_42 (dk_at dksX4_back_3 15 rfl rfl)
theorem dX4_back_87 : decode cX4_back 87 = .ok (.getfield 53, 3) := dk_180 0 53 (dk_at dksX4_back_3 16 rfl rfl)
theorem dX4_back_90 : decode cX4_back 90 = .ok (.aload_n 0, 1) := dk_42 (dk_at dksX4_back_3 19 rfl rfl)
theorem dX4_back_91 : decode cX4_back 91 = .ok (.getfield 7, 3) := dk_180 0 7 (dk_at dksX4_back_3 20 rfl rfl)
theorem dX4_back_94 : decode cX4_back 94 = .ok (.iload 8, 2) := dk_21 8 (dk_at dksX4_back_4 0 rfl rfl)
theorem dX4_back_96 : decode cX4_back 96 = .ok (.iconst 1, 1) := dk_4 (dk_at dksX4_back_4 2 rfl rfl)
theorem dX4_back_97 : decode cX4_back 97 = .ok (.iadd, 1) := dk_96 (dk_at dksX4_back_4 3 rfl rfl)
theorem dX4_back_98 : decode cX4_back 98 = .ok (.iaload, 1) := dk_46 (dk_at dksX4_back_4 4 rfl rfl)
theorem dX4_back_99 : decode cX4_back 99 = .ok (.iaload, 1) := dk_46 (dk_at dksX4_back_4 5 rfl rfl)
theorem dX4_back_100 : decode cX4_back 100 = .ok (.if_icmp .ne 7, 3) := dk_160 0 7 (dk_at dksX4_back_4 6 rfl rfl)
theorem dX4_back_103 : decode cX4_back 103 = .ok (.iconst 1, 1) := dk_4 (dk_at dksX4_back_4 9 rfl rfl)
theorem dX4_back_104 : decode cX4_back 104 = .ok (.goto 4, 3) := dk_167 0 4 (dk_at dksX4_back_4 10 rfl rfl)
theorem dX4_back_107 : decode cX4_back 107 = .ok (.iconst 0, 1) := dk_3 (dk_at dksX4_back_4 13 rfl rfl)
theorem dX4_back_108 : decode cX4_back 108 = .ok (.aload_n 0, 1) := dk_42 (dk_at dksX4_back_4 14 rfl rfl)
theorem dX4_back_109 : decode cX4_back 109 = .ok (.getfield 7, 3) := dk_180 0 7 (dk_at dksX4_back_4 15 rfl rfl)
theorem dX4_back_112 : decode cX4_back 112 = .ok (.iload 8, 2) := dk_21 8 (dk_at dksX4_back_4 18 rfl rfl)
theorem dX4_back_114 : decode cX4_back 114 = .ok (.iconst 2, 1) := dk_5 (dk_at dksX4_back_4 20 rfl rfl)
theorem dX4_back_115 : decode cX4_back 115 = .ok (.iadd, 1) := dk_96 (dk_at dksX4_back_4 21 rfl rfl)
theorem dX4_back_116 : decode cX4_back 116 = .ok (.iaload, 1) := dk_46 (dk_at dksX4_back_4 22 rfl rfl)
theorem dX4_back_117 : decode cX4_back 117 = .ok (.iconst 1, 1) := dk_4 (dk_at dksX4_back_4 23 rfl rfl)
theorem dX4_back_118 : decode cX4_back 118 = .ok (.if_icmp .ne 7, 3) := dk_160 0 7 (dk_at dksX4_back_5 0 rfl rfl)
theorem dX4_back_121 : decode cX4_back 121 = .ok (.iconst 1, 1) := dk_4 (dk_at dksX4_back_5 3 rfl rfl)
theorem dX4_back_122 : decode cX4_back 122 = .ok (.goto 4, 3) := dk_167 0 4 (dk_at dksX4_back_5 4 rfl rfl)
theorem dX4_back_125 : decode cX4_back 125 = .ok (.iconst 0, 1) := dk_3 (dk_at dksX4_back_5 7 rfl rfl)
theorem dX4_back_126 : decode cX4_back 126 = .ok (.if_icmp .ne 7, 3) := dk_160 0 7 (dk_at dksX4_back_5 8 rfl rfl)
theorem dX4_back_129 : decode cX4_back 129 = .ok (.iconst 1, 1) := dk_4 (dk_at dksX4_back_5 11 rfl rfl)
theorem dX4_back_130 : decode cX4_back 130 = .ok (.goto 4, 3) := dk_167 0 4 (dk_at dksX4_back_5 12 rfl rfl)
theorem dX4_back_133 : decode cX4_back 133 = .ok (.iconst 0, 1) := dk_3 (dk_at dksX4_back_5 15 rfl rfl)
theorem dX4_back_134 : decode cX4_back 134 = .ok (.istore 6, 2) := dk_54 6 (dk_at dksX4_back_5 16 rfl rfl)
theorem dX4_back_136 : decode cX4_back 136 = .ok (.iinc 7 1, 3) := dk_132 7 1 (dk_at dksX4_back_5 18 rfl rfl)
theorem dX4_back_139 : decode cX4_back 139 = .ok (.goto (-92), 3) := dk_167 255 164 (dk_at dksX4_back_5 21 rfl rfl)
theorem dX4_back_142 : decode cX4_back 142 = .ok (.iload 6, 2) := dk_21 6 (dk_at dksX4_back_6 0 rfl rfl)
theorem dX4_back_144 : decode cX4_back 144 = .ok (.ifCond .ne 6, 3) := dk_154 0 6 (dk_at dksX4_back_6 2 rfl rfl)
theorem dX4_back_147 : decode cX4_back 147 = .ok (.goto 33, 3) := dk_167 0 33 (dk_at dksX4_back_6 5 rfl rfl)
theorem dX4_back_150 : decode cX4_back 150 = .ok (.iload_n 2, 1) := dk_28 (dk_at dksX4_back_6 8 rfl rfl)
theorem dX4_back_151 : decode cX4_back 151 = .ok (.ifCond .ne 8, 3) := dk_154 0 8 (dk_at dksX4_back_6 9 rfl rfl)
theorem dX4_back_154 : decode cX4_back 154 = .ok (.iload 5, 2) := dk_21 5 (dk_at dksX4_back_6 12 rfl rfl)
theorem dX4_back_156 : decode cX4_back 156 = .ok (.goto 7, 3) := dk_167 0 7 (dk_at dksX4_back_6 14 rfl rfl)
theorem dX4_back_159 : decode cX4_back 159 = .ok (.iload_n 3, 1) := dk_29 (dk_at dksX4_back_6 17 rfl rfl)
theorem dX4_back_160 : decode cX4_back 160 = .ok (.iload 5, 2) := dk_21 5 (dk_at dksX4_back_6 18 rfl rfl)
theorem dX4_back_162 : decode cX4_back 162 = .ok (.iand, 1) := dk_126 (dk_at dksX4_back_6 20 rfl rfl)
theorem dX4_back_163 : decode cX4_back 163 = .ok (.istore_n 3, 1) := dk_62 (dk_at dksX4_back_6 21 rfl rfl)
theorem dX4_back_164 : decode cX4_back 164 = .ok (.iload_n 2, 1) := dk_28 (dk_at dksX4_back_6 22 rfl rfl)
theorem dX4_back_165 : decode cX4_back 165 = .ok (.ifCond .ne 8, 3) := dk_154 0 8 (dk_at dksX4_back_7 0 rfl rfl)
theorem dX4_back_168 : decode cX4_back 168 = .ok (.iload 5, 2) := dk_21 5 (dk_at dksX4_back_7 3 rfl rfl)
theorem dX4_back_170 : decode cX4_back 170 = .ok (.goto 5, 3) := dk_167 0 5 (dk_at dksX4_back_7 5 rfl rfl)
theorem dX4_back_173 : decode cX4_back 173 = .ok (.iload 4, 2) := dk_21 4 (dk_at dksX4_back_7 8 rfl rfl)
theorem dX4_back_175 : decode cX4_back 175 = .ok (.istore 4, 2) := dk_54 4 (dk_at dksX4_back_7 10 rfl rfl)
theorem dX4_back_177 : decode cX4_back 177 = .ok (.iinc 2 1, 3) := dk_132 2 1 (dk_at dksX4_back_7 12 rfl rfl)
theorem dX4_back_180 : decode cX4_back 180 = .ok (.iinc 5 1, 3) := dk_132 5 1 (dk_at dksX4_back_7 15 rfl rfl)
theorem dX4_back_183 : decode cX4_back 183 = .ok (.goto (-162), 3) := dk_167 255 94 (dk_at dksX4_back_7 18 rfl rfl)
theorem dX4_back_186 : decode cX4_back 186 = .ok (.iload_n 1, 1) := dk_27 (dk_at dksX4_back_7 21 rfl rfl)
theorem dX4_back_187 : decode cX4_back 187 = .ok (.ifCond .ne 7, 3) := dk_154 0 7 (dk_at dksX4_back_8 0 rfl rfl)
theorem dX4_back_190 : decode cX4_back 190 = .ok (.iload_n 2, 1) := dk_28 (dk_at dksX4_back_8 3 rfl rfl)
theorem dX4_back_191 : decode cX4_back 191 = .ok (.goto 14, 3) := dk_167 0 14 (dk_at dksX4_back_8 4 rfl rfl)
theorem dX4_back_194 : decode cX4_back 194 = .ok (.iload_n 1, 1) := dk_27 (dk_at dksX4_back_8 7 rfl rfl)
theorem dX4_back_195 : decode cX4_back 195 = .ok (.iconst 1, 1) := dk_4 (dk_at dksX4_back_8 8 rfl rfl)
theorem dX4_back_196 : decode cX4_back 196 = .ok (.if_icmp .ne 7, 3) := dk_160 0 7 (dk_at dksX4_back_8 9 rfl rfl)
theorem dX4_back_199 : decode cX4_back 199 = .ok (.iload_n 3, 1) := dk_29 (dk_at dksX4_back_8 12 rfl rfl)
theorem dX4_back_200 : decode cX4_back 200 = .ok (.goto 5, 3) := dk_167 0 5 (dk_at dksX4_back_8 13 rfl rfl)
theorem dX4_back_203 : decode cX4_back 203 = .ok (.iload 4, 2) := dk_21 4 (dk_at dksX4_back_8 16 rfl rfl)
theorem dX4_back_205 : decode cX4_back 205 = .ok (.ireturn, 1) := dk_172 (dk_at dksX4_back_8 18 rfl rfl)
abbrev cX4_part : ByteArray := prog_14_method_78_code
def yX4_part : MethodName := ⟨RX4, "part", "(II)I"⟩
def dkwX4_part_2 : List UInt8 := [27, 28, 182, 1, 74, 153, 0, 9, 132, 3, 1, 167, 255, 244, 29, 172]
abbrev dktX4_part_2 : List UInt8 := dkwX4_part_2 ++ []
def dkwX4_part_1 : List UInt8 := [62, 29, 17, 1, 144, 162, 0, 16, 42, 180, 0, 59, 29, 3, 79, 132, 3, 1, 167, 255, 239, 3, 62, 42]
abbrev dktX4_part_1 : List UInt8 := dkwX4_part_1 ++ dktX4_part_2
def dkwX4_part_0 : List UInt8 := [42, 27, 182, 0, 85, 153, 0, 16, 42, 28, 182, 0, 85, 153, 0, 8, 27, 28, 160, 0, 5, 2, 172, 3]
abbrev dktX4_part_0 : List UInt8 := dkwX4_part_0 ++ dktX4_part_1
theorem dksX4_part_0 : cX4_part.data.toList.drop 0 = dktX4_part_0 := by decide +kernel
theorem dksX4_part_1 : cX4_part.data.toList.drop 24 = dktX4_part_1 := dk_seg dksX4_part_0 24 rfl rfl
theorem dksX4_part_2 : cX4_part.data.toList.drop 48 = dktX4_part_2 := dk_seg dksX4_part_1 24 rfl rfl
theorem dX4_part_0 : decode cX4_part 0 = .ok (.aload_n 0, 1) := dk_42 (dk_at dksX4_part_0 0 rfl rfl)
theorem dX4_part_1 : decode cX4_part 1 = .ok (.iload_n 1, 1) := dk_27 (dk_at dksX4_part_0 1 rfl rfl)
theorem dX4_part_2 : decode cX4_part 2 = .ok (.invokevirtual 85, 3) := dk_182 0 85 (dk_at dksX4_part_0 2 rfl rfl)
theorem dX4_part_5 : decode cX4_part 5 = .ok (.ifCond .eq 16, 3) := dk_153 0 16 (dk_at dksX4_part_0 5 rfl rfl)
theorem dX4_part_8 : decode cX4_part 8 = .ok (.aload_n 0, 1) := dk_42 (dk_at dksX4_part_0 8 rfl rfl)
theorem dX4_part_9 : decode cX4_part 9 = .ok (.iload_n 2, 1) := dk_28 (dk_at dksX4_part_0 9 rfl rfl)
theorem dX4_part_10 : decode cX4_part 10 = .ok (.invokevirtual 85, 3) := dk_182 0 85 (dk_at dksX4_part_0 10 rfl rfl)
theorem dX4_part_13 : decode cX4_part 13 = .ok (.ifCond .eq 8, 3) := dk_153 0 8 (dk_at dksX4_part_0 13 rfl rfl)
theorem dX4_part_16 : decode cX4_part 16 = .ok (.iload_n 1, 1) := dk_27 (dk_at dksX4_part_0 16 rfl rfl)
theorem dX4_part_17 : decode cX4_part 17 = .ok (.iload_n 2, 1) := dk_28 (dk_at dksX4_part_0 17 rfl rfl)
theorem dX4_part_18 : decode cX4_part 18 = .ok (.if_icmp .ne 5, 3) := dk_160 0 5 (dk_at dksX4_part_0 18 rfl rfl)
theorem dX4_part_21 : decode cX4_part 21 = .ok (.iconst (-1), 1) := dk_2 (dk_at dksX4_part_0 21 rfl rfl)
theorem dX4_part_22 : decode cX4_part 22 = .ok (.ireturn, 1) := dk_172 (dk_at dksX4_part_0 22 rfl rfl)
theorem dX4_part_23 : decode cX4_part 23 = .ok (.iconst 0, 1) := dk_3 (dk_at dksX4_part_0 23 rfl rfl)
theorem dX4_part_24 : decode cX4_part 24 = .ok (.istore_n 3, 1) := dk_62 (dk_at dksX4_part_1 0 rfl rfl)
theorem dX4_part_25 : decode cX4_part 25 = .ok (.iload_n 3, 1) := dk_29 (dk_at dksX4_part_1 1 rfl rfl)
theorem dX4_part_26 : decode cX4_part 26 = .ok (.sipush 400, 3) := dk_17 1 144 (dk_at dksX4_part_1 2 rfl rfl)
theorem dX4_part_29 : decode cX4_part 29 = .ok (.if_icmp .ge 16, 3) := dk_162 0 16 (dk_at dksX4_part_1 5 rfl rfl)
theorem dX4_part_32 : decode cX4_part 32 = .ok (.aload_n 0, 1) := dk_42 (dk_at dksX4_part_1 8 rfl rfl)
theorem dX4_part_33 : decode cX4_part 33 = .ok (.getfield 59, 3) := dk_180 0 59 (dk_at dksX4_part_1 9 rfl rfl)
theorem dX4_part_36 : decode cX4_part 36 = .ok (.iload_n 3, 1) := dk_29 (dk_at dksX4_part_1 12 rfl rfl)
theorem dX4_part_37 : decode cX4_part 37 = .ok (.iconst 0, 1) := dk_3 (dk_at dksX4_part_1 13 rfl rfl)
theorem dX4_part_38 : decode cX4_part 38 = .ok (.iastore, 1) := dk_79 (dk_at dksX4_part_1 14 rfl rfl)
theorem dX4_part_39 : decode cX4_part 39 = .ok (.iinc 3 1, 3) := dk_132 3 1 (dk_at dksX4_part_1 15 rfl rfl)
theorem dX4_part_42 : decode cX4_part 42 = .ok (.goto (-17), 3) := dk_167 255 239 (dk_at dksX4_part_1 18 rfl rfl)
theorem dX4_part_45 : decode cX4_part 45 = .ok (.iconst 0, 1) := dk_3 (dk_at dksX4_part_1 21 rfl rfl)
theorem dX4_part_46 : decode cX4_part 46 = .ok (.istore_n 3, 1) := dk_62 (dk_at dksX4_part_1 22 rfl rfl)
theorem dX4_part_47 : decode cX4_part 47 = .ok (.aload_n 0, 1) := dk_42 (dk_at dksX4_part_1 23 rfl rfl)
theorem dX4_part_48 : decode cX4_part 48 = .ok (.iload_n 1, 1) := dk_27 (dk_at dksX4_part_2 0 rfl rfl)
theorem dX4_part_49 : decode cX4_part 49 = .ok (.iload_n 2, 1) := dk_28 (dk_at dksX4_part_2 1 rfl rfl)
theorem dX4_part_50 : decode cX4_part 50 = .ok (.invokevirtual 330, 3) := dk_182 1 74 (dk_at dksX4_part_2 2 rfl rfl)
theorem dX4_part_53 : decode cX4_part 53 = .ok (.ifCond .eq 9, 3) := dk_153 0 9 (dk_at dksX4_part_2 5 rfl rfl)
theorem dX4_part_56 : decode cX4_part 56 = .ok (.iinc 3 1, 3) := dk_132 3 1 (dk_at dksX4_part_2 8 rfl rfl)
theorem dX4_part_59 : decode cX4_part 59 = .ok (.goto (-12), 3) := dk_167 255 244 (dk_at dksX4_part_2 11 rfl rfl)
theorem dX4_part_62 : decode cX4_part 62 = .ok (.iload_n 3, 1) := dk_29 (dk_at dksX4_part_2 14 rfl rfl)
theorem dX4_part_63 : decode cX4_part 63 = .ok (.ireturn, 1) := dk_172 (dk_at dksX4_part_2 15 rfl rfl)
abbrev cX4_oneMore : ByteArray := prog_14_method_77_code
def yX4_oneMore : MethodName := ⟨RX4, "oneMore", "(II)Z"⟩
def dkwX4_oneMore_11 : List UInt8 := [112, 96, 92, 46, 4, 100, 79, 21, 6, 54, 4, 167, 255, 182, 4, 172]
abbrev dktX4_oneMore_11 : List UInt8 := dkwX4_oneMore_11 ++ []
def dkwX4_oneMore_10 : List UInt8 := [21, 6, 104, 21, 5, 96, 92, 46, 4, 96, 79, 42, 180, 0, 59, 7, 21, 4, 104, 21, 5, 5, 96, 7]
abbrev dktX4_oneMore_10 : List UInt8 := dkwX4_oneMore_10 ++ dktX4_oneMore_11
def dkwX4_oneMore_9 : List UInt8 := [21, 4, 16, 10, 21, 5, 184, 0, 242, 104, 100, 21, 5, 184, 0, 239, 100, 54, 6, 42, 180, 0, 59, 7]
abbrev dktX4_oneMore_9 : List UInt8 := dkwX4_oneMore_9 ++ dktX4_oneMore_10
def dkwX4_oneMore_8 : List UInt8 := [160, 0, 5, 3, 172, 28, 54, 4, 21, 4, 27, 159, 0, 74, 42, 180, 0, 62, 21, 4, 46, 54, 5]
abbrev dktX4_oneMore_8 : List UInt8 := dkwX4_oneMore_8 ++ dktX4_oneMore_9
def dkwX4_oneMore_7 : List UInt8 := [132, 3, 1, 132, 6, 1, 167, 255, 156, 132, 4, 1, 167, 255, 122, 42, 180, 0, 62, 28, 46, 2]
abbrev dktX4_oneMore_7 : List UInt8 := dkwX4_oneMore_7 ++ dktX4_oneMore_8
def dkwX4_oneMore_6 : List UInt8 := [2, 159, 0, 6, 167, 0, 23, 42, 180, 0, 62, 21, 7, 21, 6, 79, 42, 180, 0, 56, 29, 21, 7, 79]
abbrev dktX4_oneMore_6 : List UInt8 := dkwX4_oneMore_6 ++ dktX4_oneMore_7
def dkwX4_oneMore_5 : List UInt8 := [16, 10, 21, 6, 184, 0, 242, 104, 96, 21, 6, 184, 0, 239, 96, 54, 7, 42, 180, 0, 62, 21, 7, 46]
abbrev dktX4_oneMore_5 : List UInt8 := dkwX4_oneMore_5 ++ dktX4_oneMore_6
def dkwX4_oneMore_4 : List UInt8 := [153, 0, 75, 42, 180, 0, 59, 7, 21, 5, 104, 21, 6, 96, 46, 4, 160, 0, 6, 167, 0, 56, 21, 5]
abbrev dktX4_oneMore_4 : List UInt8 := dkwX4_oneMore_4 ++ dktX4_oneMore_5
def dkwX4_oneMore_3 : List UInt8 := [54, 6, 21, 6, 7, 162, 0, 100, 42, 21, 5, 16, 10, 112, 21, 5, 16, 10, 108, 21, 6, 182, 1, 22]
abbrev dktX4_oneMore_3 : List UInt8 := dkwX4_oneMore_3 ++ dktX4_oneMore_4
def dkwX4_oneMore_2 : List UInt8 := [162, 0, 134, 42, 180, 0, 62, 28, 46, 2, 160, 0, 124, 42, 180, 0, 56, 21, 4, 46, 54, 5, 3]
abbrev dktX4_oneMore_2 : List UInt8 := dkwX4_oneMore_2 ++ dktX4_oneMore_3
def dkwX4_oneMore_1 : List UInt8 := [180, 0, 56, 29, 27, 79, 132, 3, 1, 42, 180, 0, 62, 27, 7, 79, 3, 54, 4, 21, 4, 29]
abbrev dktX4_oneMore_1 : List UInt8 := dkwX4_oneMore_1 ++ dktX4_oneMore_2
def dkwX4_oneMore_0 : List UInt8 := [3, 62, 29, 16, 100, 162, 0, 16, 42, 180, 0, 62, 29, 2, 79, 132, 3, 1, 167, 255, 240, 3, 62, 42]
abbrev dktX4_oneMore_0 : List UInt8 := dkwX4_oneMore_0 ++ dktX4_oneMore_1
theorem dksX4_oneMore_0 : cX4_oneMore.data.toList.drop 0 = dktX4_oneMore_0 := by decide +kernel
theorem dksX4_oneMore_1 : cX4_oneMore.data.toList.drop 24 = dktX4_oneMore_1 := dk_seg dksX4_oneMore_0 24 rfl rfl
theorem dksX4_oneMore_2 : cX4_oneMore.data.toList.drop 46 = dktX4_oneMore_2 := dk_seg dksX4_oneMore_1 22 rfl rfl
theorem dksX4_oneMore_3 : cX4_oneMore.data.toList.drop 69 = dktX4_oneMore_3 := dk_seg dksX4_oneMore_2 23 rfl rfl
theorem dksX4_oneMore_4 : cX4_oneMore.data.toList.drop 93 = dktX4_oneMore_4 := dk_seg dksX4_oneMore_3 24 rfl rfl
theorem dksX4_oneMore_5 : cX4_oneMore.data.toList.drop 117 = dktX4_oneMore_5 := dk_seg dksX4_oneMore_4 24 rfl rfl
theorem dksX4_oneMore_6 : cX4_oneMore.data.toList.drop 141 = dktX4_oneMore_6 := dk_seg dksX4_oneMore_5 24 rfl rfl
theorem dksX4_oneMore_7 : cX4_oneMore.data.toList.drop 165 = dktX4_oneMore_7 := dk_seg dksX4_oneMore_6 24 rfl rfl
theorem dksX4_oneMore_8 : cX4_oneMore.data.toList.drop 187 = dktX4_oneMore_8 := dk_seg dksX4_oneMore_7 22 rfl rfl
theorem dksX4_oneMore_9 : cX4_oneMore.data.toList.drop 210 = dktX4_oneMore_9 := dk_seg dksX4_oneMore_8 23 rfl rfl
theorem dksX4_oneMore_10 : cX4_oneMore.data.toList.drop 234 = dktX4_oneMore_10 := dk_seg dksX4_oneMore_9 24 rfl rfl
theorem dksX4_oneMore_11 : cX4_oneMore.data.toList.drop 258 = dktX4_oneMore_11 := dk_seg dksX4_oneMore_10 24 rfl rfl
theorem dX4_oneMore_0 : decode cX4_oneMore 0 = .ok (.iconst 0, 1) := dk_3 (dk_at dksX4_oneMore_0 0 rfl rfl)
theorem dX4_oneMore_1 : decode cX4_oneMore 1 = .ok (.istore_n 3, 1) := dk_62 (dk_at dksX4_oneMore_0 1 rfl rfl)
theorem dX4_oneMore_2 : decode cX4_oneMore 2 = .ok (.iload_n 3, 1) := dk_29 (dk_at dksX4_oneMore_0 2 rfl rfl)
theorem dX4_oneMore_3 : decode cX4_oneMore 3 = .ok (.bipush 100, 2) := dk_16 100 (dk_at dksX4_oneMore_0 3 rfl rfl)
theorem dX4_oneMore_5 : decode cX4_oneMore 5 = .ok (.if_icmp .ge 16, 3) := dk_162 0 16 (dk_at dksX4_oneMore_0 5 rfl rfl)
theorem dX4_oneMore_8 : decode cX4_oneMore 8 = .ok (.aload_n 0, 1) := dk_42 (dk_at dksX4_oneMore_0 8 rfl rfl)
theorem dX4_oneMore_9 : decode cX4_oneMore 9 = .ok (.getfield 62, 3) := dk_180 0 62 (dk_at dksX4_oneMore_0 9 rfl rfl)
theorem dX4_oneMore_12 : decode cX4_oneMore 12 = .ok (.iload_n 3, 1) := dk_29 (dk_at dksX4_oneMore_0 12 rfl rfl)
theorem dX4_oneMore_13 : decode cX4_oneMore 13 = .ok (.iconst (-1), 1) := dk_2 (dk_at dksX4_oneMore_0 13 rfl rfl)
theorem dX4_oneMore_14 : decode cX4_oneMore 14 = .ok (.iastore, 1) := dk_79 (dk_at dksX4_oneMore_0 14 rfl rfl)
theorem dX4_oneMore_15 : decode cX4_oneMore 15 = .ok (.iinc 3 1, 3) := dk_132 3 1 (dk_at dksX4_oneMore_0 15 rfl rfl)
theorem dX4_oneMore_18 : decode cX4_oneMore 18 = .ok (.goto (-16), 3) := dk_167 255 240 (dk_at dksX4_oneMore_0 18 rfl rfl)
theorem dX4_oneMore_21 : decode cX4_oneMore 21 = .ok (.iconst 0, 1) := dk_3 (dk_at dksX4_oneMore_0 21 rfl rfl)
theorem dX4_oneMore_22 : decode cX4_oneMore 22 = .ok (.istore_n 3, 1) := dk_62 (dk_at dksX4_oneMore_0 22 rfl rfl)
theorem dX4_oneMore_23 : decode cX4_oneMore 23 = .ok (.aload_n 0, 1) := dk_42 (dk_at dksX4_oneMore_0 23 rfl rfl)
theorem dX4_oneMore_24 : decode cX4_oneMore 24 = .ok (.getfield 56, 3) := dk_180 0 56 (dk_at dksX4_oneMore_1 0 rfl rfl)
theorem dX4_oneMore_27 : decode cX4_oneMore 27 = .ok (.iload_n 3, 1) := dk_29 (dk_at dksX4_oneMore_1 3 rfl rfl)
theorem dX4_oneMore_28 : decode cX4_oneMore 28 = .ok (.iload_n 1, 1) := dk_27 (dk_at dksX4_oneMore_1 4 rfl rfl)
theorem dX4_oneMore_29 : decode cX4_oneMore 29 = .ok (.iastore, 1) := dk_79 (dk_at dksX4_oneMore_1 5 rfl rfl)
theorem dX4_oneMore_30 : decode cX4_oneMore 30 = .ok (.iinc 3 1, 3) := dk_132 3 1 (dk_at dksX4_oneMore_1 6 rfl rfl)
theorem dX4_oneMore_33 : decode cX4_oneMore 33 = .ok (.aload_n 0, 1) := dk_42 (dk_at dksX4_oneMore_1 9 rfl rfl)
theorem dX4_oneMore_34 : decode cX4_oneMore 34 = .ok (.getfield 62, 3) := dk_180 0 62 (dk_at dksX4_oneMore_1 10 rfl rfl)
theorem dX4_oneMore_37 : decode cX4_oneMore 37 = .ok (.iload_n 1, 1) := dk_27 (dk_at dksX4_oneMore_1 13 rfl rfl)
theorem dX4_oneMore_38 : decode cX4_oneMore 38 = .ok (.iconst 4, 1) := dk_7 (dk_at dksX4_oneMore_1 14 rfl rfl)
theorem dX4_oneMore_39 : decode cX4_oneMore 39 = .ok (.iastore, 1) := dk_79 (dk_at dksX4_oneMore_1 15 rfl rfl)
theorem dX4_oneMore_40 : decode cX4_oneMore 40 = .ok (.iconst 0, 1) := dk_3 (dk_at dksX4_oneMore_1 16 rfl rfl)
theorem dX4_oneMore_41 : decode cX4_oneMore 41 = .ok (.istore 4, 2) := dk_54 4 (dk_at dksX4_oneMore_1 17 rfl rfl)
theorem dX4_oneMore_43 : decode cX4_oneMore 43 = .ok (.iload 4, 2) := dk_21 4 (dk_at dksX4_oneMore_1 19 rfl rfl)
theorem dX4_oneMore_45 : decode cX4_oneMore 45 = .ok (.iload_n 3, 1) := dk_29 (dk_at dksX4_oneMore_1 21 rfl rfl)
theorem dX4_oneMore_46 : decode cX4_oneMore 46 = .ok (.if_icmp .ge 134, 3) := dk_162 0 134 (dk_at dksX4_oneMore_2 0 rfl rfl)
theorem dX4_oneMore_49 : decode cX4_oneMore 49 = .ok (.aload_n 0, 1) := dk_42 (dk_at dksX4_oneMore_2 3 rfl rfl)
theorem dX4_oneMore_50 : decode cX4_oneMore 50 = .ok (.getfield 62, 3) := dk_180 0 62 (dk_at dksX4_oneMore_2 4 rfl rfl)
theorem dX4_oneMore_53 : decode cX4_oneMore 53 = .ok (.iload_n 2, 1) := dk_28 (dk_at dksX4_oneMore_2 7 rfl rfl)
theorem dX4_oneMore_54 : decode cX4_oneMore 54 = .ok (.iaload, 1) := dk_46 (dk_at dksX4_oneMore_2 8 rfl rfl)
theorem dX4_oneMore_55 : decode cX4_oneMore 55 = .ok (.iconst (-1), 1) := dk_2 (dk_at dksX4_oneMore_2 9 rfl rfl)
theorem dX4_oneMore_56 : decode cX4_oneMore 56 = .ok (.if_icmp .ne 124, 3) := dk_160 0 124 (dk_at dksX4_oneMore_2 10 rfl rfl)
theorem dX4_oneMore_59 : decode cX4_oneMore 59 = .ok (.aload_n 0, 1) := dk_42 (dk_at dksX4_oneMore_2 13 rfl rfl)
theorem dX4_oneMore_60 : decode cX4_oneMore 60 = .ok (.getfield 56, 3) := dk_180 0 56 (dk_at dksX4_oneMore_2 14 rfl rfl)
theorem dX4_oneMore_63 : decode cX4_oneMore 63 = .ok (.iload 4, 2) := dk_21 4 (dk_at dksX4_oneMore_2 17 rfl rfl)
theorem dX4_oneMore_65 : decode cX4_oneMore 65 = .ok (.iaload, 1) := dk_46 (dk_at dksX4_oneMore_2 19 rfl rfl)
theorem dX4_oneMore_66 : decode cX4_oneMore 66 = .ok (.istore 5, 2) := dk_54 5 (dk_at dksX4_oneMore_2 20 rfl rfl)
theorem dX4_oneMore_68 : decode cX4_oneMore 68 = .ok (.iconst 0, 1) := dk_3 (dk_at dksX4_oneMore_2 22 rfl rfl)
theorem dX4_oneMore_69 : decode cX4_oneMore 69 = .ok (.istore 6, 2) := dk_54 6 (dk_at dksX4_oneMore_3 0 rfl rfl)
theorem dX4_oneMore_71 : decode cX4_oneMore 71 = .ok (.iload 6, 2) := dk_21 6 (dk_at dksX4_oneMore_3 2 rfl rfl)
theorem dX4_oneMore_73 : decode cX4_oneMore 73 = .ok (.iconst 4, 1) := dk_7 (dk_at dksX4_oneMore_3 4 rfl rfl)
theorem dX4_oneMore_74 : decode cX4_oneMore 74 = .ok (.if_icmp .ge 100, 3) := dk_162 0 100 (dk_at dksX4_oneMore_3 5 rfl rfl)
theorem dX4_oneMore_77 : decode cX4_oneMore 77 = .ok (.aload_n 0, 1) := dk_42 (dk_at dksX4_oneMore_3 8 rfl rfl)
theorem dX4_oneMore_78 : decode cX4_oneMore 78 = .ok (.iload 5, 2) := dk_21 5 (dk_at dksX4_oneMore_3 9 rfl rfl)
theorem dX4_oneMore_80 : decode cX4_oneMore 80 = .ok (.bipush 10, 2) := dk_16 10 (dk_at dksX4_oneMore_3 11 rfl rfl)
theorem dX4_oneMore_82 : decode cX4_oneMore 82 = .ok (.irem, 1) := dk_112 (dk_at dksX4_oneMore_3 13 rfl rfl)
theorem dX4_oneMore_83 : decode cX4_oneMore 83 = .ok (.iload 5, 2) := dk_21 5 (dk_at dksX4_oneMore_3 14 rfl rfl)
theorem dX4_oneMore_85 : decode cX4_oneMore 85 = .ok (.bipush 10, 2) := dk_16 10 (dk_at dksX4_oneMore_3 16 rfl rfl)
theorem dX4_oneMore_87 : decode cX4_oneMore 87 = .ok (.idiv, 1) := dk_108 (dk_at dksX4_oneMore_3 18 rfl rfl)
theorem dX4_oneMore_88 : decode cX4_oneMore 88 = .ok (.iload 6, 2) := dk_21 6 (dk_at dksX4_oneMore_3 19 rfl rfl)
theorem dX4_oneMore_90 : decode cX4_oneMore 90 = .ok (.invokevirtual 278, 3) := dk_182 1 22 (dk_at dksX4_oneMore_3 21 rfl rfl)
theorem dX4_oneMore_93 : decode cX4_oneMore 93 = .ok (.ifCond .eq 75, 3) := dk_153 0 75 (dk_at dksX4_oneMore_4 0 rfl rfl)
theorem dX4_oneMore_96 : decode cX4_oneMore 96 = .ok (.aload_n 0, 1) := dk_42 (dk_at dksX4_oneMore_4 3 rfl rfl)
theorem dX4_oneMore_97 : decode cX4_oneMore 97 = .ok (.getfield 59, 3) := dk_180 0 59 (dk_at dksX4_oneMore_4 4 rfl rfl)
theorem dX4_oneMore_100 : decode cX4_oneMore 100 = .ok (.iconst 4, 1) := dk_7 (dk_at dksX4_oneMore_4 7 rfl rfl)
theorem dX4_oneMore_101 : decode cX4_oneMore 101 = .ok (.iload 5, 2) := dk_21 5 (dk_at dksX4_oneMore_4 8 rfl rfl)
theorem dX4_oneMore_103 : decode cX4_oneMore 103 = .ok (.imul, 1) := dk_104 (dk_at dksX4_oneMore_4 10 rfl rfl)
theorem dX4_oneMore_104 : decode cX4_oneMore 104 = .ok (.iload 6, 2) := dk_21 6 (dk_at dksX4_oneMore_4 11 rfl rfl)
theorem dX4_oneMore_106 : decode cX4_oneMore 106 = .ok (.iadd, 1) := dk_96 (dk_at dksX4_oneMore_4 13 rfl rfl)
theorem dX4_oneMore_107 : decode cX4_oneMore 107 = .ok (.iaload, 1) := dk_46 (dk_at dksX4_oneMore_4 14 rfl rfl)
theorem dX4_oneMore_108 : decode cX4_oneMore 108 = .ok (.iconst 1, 1) := dk_4 (dk_at dksX4_oneMore_4 15 rfl rfl)
theorem dX4_oneMore_109 : decode cX4_oneMore 109 = .ok (.if_icmp .ne 6, 3) := dk_160 0 6 (dk_at dksX4_oneMore_4 16 rfl rfl)
theorem dX4_oneMore_112 : decode cX4_oneMore 112 = .ok (.goto 56, 3) := dk_167 0 56 (dk_at dksX4_oneMore_4 19 rfl rfl)
theorem dX4_oneMore_115 : decode cX4_oneMore 115 = .ok (.iload 5, 2) := dk_21 5 (dk_at dksX4_oneMore_4 22 rfl rfl)
theorem dX4_oneMore_117 : decode cX4_oneMore 117 = .ok (.bipush 10, 2) := dk_16 10 (dk_at dksX4_oneMore_5 0 rfl rfl)
theorem dX4_oneMore_119 : decode cX4_oneMore 119 = .ok (.iload 6, 2) := dk_21 6 (dk_at dksX4_oneMore_5 2 rfl rfl)
theorem dX4_oneMore_121 : decode cX4_oneMore 121 = .ok (.invokestatic 242, 3) := dk_184 0 242 (dk_at dksX4_oneMore_5 4 rfl rfl)
theorem dX4_oneMore_124 : decode cX4_oneMore 124 = .ok (.imul, 1) := dk_104 (dk_at dksX4_oneMore_5 7 rfl rfl)
theorem dX4_oneMore_125 : decode cX4_oneMore 125 = .ok (.iadd, 1) := dk_96 (dk_at dksX4_oneMore_5 8 rfl rfl)
theorem dX4_oneMore_126 : decode cX4_oneMore 126 = .ok (.iload 6, 2) := dk_21 6 (dk_at dksX4_oneMore_5 9 rfl rfl)
theorem dX4_oneMore_128 : decode cX4_oneMore 128 = .ok (.invokestatic 239, 3) := dk_184 0 239 (dk_at dksX4_oneMore_5 11 rfl rfl)
theorem dX4_oneMore_131 : decode cX4_oneMore 131 = .ok (.iadd, 1) := dk_96 (dk_at dksX4_oneMore_5 14 rfl rfl)
theorem dX4_oneMore_132 : decode cX4_oneMore 132 = .ok (.istore 7, 2) := dk_54 7 (dk_at dksX4_oneMore_5 15 rfl rfl)
theorem dX4_oneMore_134 : decode cX4_oneMore 134 = .ok (.aload_n 0, 1) := dk_42 (dk_at dksX4_oneMore_5 17 rfl rfl)
theorem dX4_oneMore_135 : decode cX4_oneMore 135 = .ok (.getfield 62, 3) := dk_180 0 62 (dk_at dksX4_oneMore_5 18 rfl rfl)
theorem dX4_oneMore_138 : decode cX4_oneMore 138 = .ok (.iload 7, 2) := dk_21 7 (dk_at dksX4_oneMore_5 21 rfl rfl)
theorem dX4_oneMore_140 : decode cX4_oneMore 140 = .ok (.iaload, 1) := dk_46 (dk_at dksX4_oneMore_5 23 rfl rfl)
theorem dX4_oneMore_141 : decode cX4_oneMore 141 = .ok (.iconst (-1), 1) := dk_2 (dk_at dksX4_oneMore_6 0 rfl rfl)
theorem dX4_oneMore_142 : decode cX4_oneMore 142 = .ok (.if_icmp .eq 6, 3) := dk_159 0 6 (dk_at dksX4_oneMore_6 1 rfl rfl)
theorem dX4_oneMore_145 : decode cX4_oneMore 145 = .ok (.goto 23, 3) := dk_167 0 23 (dk_at dksX4_oneMore_6 4 rfl rfl)
theorem dX4_oneMore_148 : decode cX4_oneMore 148 = .ok (.aload_n 0, 1) := dk_42 (dk_at dksX4_oneMore_6 7 rfl rfl)
theorem dX4_oneMore_149 : decode cX4_oneMore 149 = .ok (.getfield 62, 3) := dk_180 0 62 (dk_at dksX4_oneMore_6 8 rfl rfl)
theorem dX4_oneMore_152 : decode cX4_oneMore 152 = .ok (.iload 7, 2) := dk_21 7 (dk_at dksX4_oneMore_6 11 rfl rfl)
theorem dX4_oneMore_154 : decode cX4_oneMore 154 = .ok (.iload 6, 2) := dk_21 6 (dk_at dksX4_oneMore_6 13 rfl rfl)
theorem dX4_oneMore_156 : decode cX4_oneMore 156 = .ok (.iastore, 1) := dk_79 (dk_at dksX4_oneMore_6 15 rfl rfl)
theorem dX4_oneMore_157 : decode cX4_oneMore 157 = .ok (.aload_n 0, 1) := dk_42 (dk_at dksX4_oneMore_6 16 rfl rfl)
theorem dX4_oneMore_158 : decode cX4_oneMore 158 = .ok (.getfield 56, 3) := dk_180 0 56 (dk_at dksX4_oneMore_6 17 rfl rfl)
theorem dX4_oneMore_161 : decode cX4_oneMore 161 = .ok (.iload_n 3, 1) := dk_29 (dk_at dksX4_oneMore_6 20 rfl rfl)
theorem dX4_oneMore_162 : decode cX4_oneMore 162 = .ok (.iload 7, 2) := dk_21 7 (dk_at dksX4_oneMore_6 21 rfl rfl)
theorem dX4_oneMore_164 : decode cX4_oneMore 164 = .ok (.iastore, 1) := dk_79 (dk_at dksX4_oneMore_6 23 rfl rfl)
theorem dX4_oneMore_165 : decode cX4_oneMore 165 = .ok (.iinc 3 1, 3) := dk_132 3 1 (dk_at dksX4_oneMore_7 0 rfl rfl)
theorem dX4_oneMore_168 : decode cX4_oneMore 168 = .ok (.iinc 6 1, 3) := dk_132 6 1 (dk_at dksX4_oneMore_7 3 rfl rfl)
theorem dX4_oneMore_171 : decode cX4_oneMore 171 = .ok (.goto (-100), 3) := dk_167 255 156 (dk_at dksX4_oneMore_7 6 rfl rfl)
theorem dX4_oneMore_174 : decode cX4_oneMore 174 = .ok (.iinc 4 1, 3) := dk_132 4 1 (dk_at dksX4_oneMore_7 9 rfl rfl)
theorem dX4_oneMore_177 : decode cX4_oneMore 177 = .ok (.goto (-134), 3) := dk_167 255 122 (dk_at dksX4_oneMore_7 12 rfl rfl)
theorem dX4_oneMore_180 : decode cX4_oneMore 180 = .ok (.aload_n 0, 1) := dk_42 (dk_at dksX4_oneMore_7 15 rfl rfl)
theorem dX4_oneMore_181 : decode cX4_oneMore 181 = .ok (.getfield 62, 3) := dk_180 0 62 (dk_at dksX4_oneMore_7 16 rfl rfl)
theorem dX4_oneMore_184 : decode cX4_oneMore 184 = .ok (.iload_n 2, 1) := dk_28 (dk_at dksX4_oneMore_7 19 rfl rfl)
theorem dX4_oneMore_185 : decode cX4_oneMore 185 = .ok (.iaload, 1) := dk_46 (dk_at dksX4_oneMore_7 20 rfl rfl)
theorem dX4_oneMore_186 : decode cX4_oneMore 186 = .ok (.iconst (-1), 1) := dk_2 (dk_at dksX4_oneMore_7 21 rfl rfl)
theorem dX4_oneMore_187 : decode cX4_oneMore 187 = .ok (.if_icmp .ne 5, 3) := dk_160 0 5 (dk_at dksX4_oneMore_8 0 rfl rfl)
theorem dX4_oneMore_190 : decode cX4_oneMore 190 = .ok (.iconst 0, 1) := dk_3 (dk_at dksX4_oneMore_8 3 rfl rfl)
theorem dX4_oneMore_191 : decode cX4_oneMore 191 = .ok (.ireturn, 1) := dk_172 (dk_at dksX4_oneMore_8 4 rfl rfl)
theorem dX4_oneMore_192 : decode cX4_oneMore 192 = .ok (.iload_n 2, 1) := dk_28 (dk_at dksX4_oneMore_8 5 rfl rfl)
theorem dX4_oneMore_193 : decode cX4_oneMore 193 = .ok (.istore 4, 2) := dk_54 4 (dk_at dksX4_oneMore_8 6 rfl rfl)
theorem dX4_oneMore_195 : decode cX4_oneMore 195 = .ok (.iload 4, 2) := dk_21 4 (dk_at dksX4_oneMore_8 8 rfl rfl)
theorem dX4_oneMore_197 : decode cX4_oneMore 197 = .ok (.iload_n 1, 1) := dk_27 (dk_at dksX4_oneMore_8 10 rfl rfl)
theorem dX4_oneMore_198 : decode cX4_oneMore 198 = .ok (.if_icmp .eq 74, 3) := dk_159 0 74 (dk_at dksX4_oneMore_8 11 rfl rfl)
theorem dX4_oneMore_201 : decode cX4_oneMore 201 = .ok (.aload_n 0, 1) := dk_42 (dk_at dksX4_oneMore_8 14 rfl rfl)
theorem dX4_oneMore_202 : decode cX4_oneMore 202 = .ok (.getfield 62, 3) := dk_180 0 62 (dk_at dksX4_oneMore_8 15 rfl rfl)
theorem dX4_oneMore_205 : decode cX4_oneMore 205 = .ok (.iload 4, 2) := dk_21 4 (dk_at dksX4_oneMore_8 18 rfl rfl)
theorem dX4_oneMore_207 : decode cX4_oneMore 207 = .ok (.iaload, 1) := dk_46 (dk_at dksX4_oneMore_8 20 rfl rfl)
theorem dX4_oneMore_208 : decode cX4_oneMore 208 = .ok (.istore 5, 2) := dk_54 5 (dk_at dksX4_oneMore_8 21 rfl rfl)
theorem dX4_oneMore_210 : decode cX4_oneMore 210 = .ok (.iload 4, 2) := dk_21 4 (dk_at dksX4_oneMore_9 0 rfl rfl)
theorem dX4_oneMore_212 : decode cX4_oneMore 212 = .ok (.bipush 10, 2) := dk_16 10 (dk_at dksX4_oneMore_9 2 rfl rfl)
theorem dX4_oneMore_214 : decode cX4_oneMore 214 = .ok (.iload 5, 2) := dk_21 5 (dk_at dksX4_oneMore_9 4 rfl rfl)
theorem dX4_oneMore_216 : decode cX4_oneMore 216 = .ok (.invokestatic 242, 3) := dk_184 0 242 (dk_at dksX4_oneMore_9 6 rfl rfl)
theorem dX4_oneMore_219 : decode cX4_oneMore 219 = .ok (.imul, 1) := dk_104 (dk_at dksX4_oneMore_9 9 rfl rfl)
theorem dX4_oneMore_220 : decode cX4_oneMore 220 = .ok (.isub, 1) := dk_100 (dk_at dksX4_oneMore_9 10 rfl rfl)
theorem dX4_oneMore_221 : decode cX4_oneMore 221 = .ok (.iload 5, 2) := dk_21 5 (dk_at dksX4_oneMore_9 11 rfl rfl)
theorem dX4_oneMore_223 : decode cX4_oneMore 223 = .ok (.invokestatic 239, 3) := dk_184 0 239 (dk_at dksX4_oneMore_9 13 rfl rfl)
theorem dX4_oneMore_226 : decode cX4_oneMore 226 = .ok (.isub, 1) := dk_100 (dk_at dksX4_oneMore_9 16 rfl rfl)
theorem dX4_oneMore_227 : decode cX4_oneMore 227 = .ok (.istore 6, 2) := dk_54 6 (dk_at dksX4_oneMore_9 17 rfl rfl)
theorem dX4_oneMore_229 : decode cX4_oneMore 229 = .ok (.aload_n 0, 1) := dk_42 (dk_at dksX4_oneMore_9 19 rfl rfl)
theorem dX4_oneMore_230 : decode cX4_oneMore 230 = .ok (.getfield 59, 3) := dk_180 0 59 (dk_at dksX4_oneMore_9 20 rfl rfl)
theorem dX4_oneMore_233 : decode cX4_oneMore 233 = .ok (.iconst 4, 1) := dk_7 (dk_at dksX4_oneMore_9 23 rfl rfl)
theorem dX4_oneMore_234 : decode cX4_oneMore 234 = .ok (.iload 6, 2) := dk_21 6 (dk_at dksX4_oneMore_10 0 rfl rfl)
theorem dX4_oneMore_236 : decode cX4_oneMore 236 = .ok (.imul, 1) := dk_104 (dk_at dksX4_oneMore_10 2 rfl rfl)
theorem dX4_oneMore_237 : decode cX4_oneMore 237 = .ok (.iload 5, 2) := dk_21 5 (dk_at dksX4_oneMore_10 3 rfl rfl)
theorem dX4_oneMore_239 : decode cX4_oneMore 239 = .ok (.iadd, 1) := dk_96 (dk_at dksX4_oneMore_10 5 rfl rfl)
theorem dX4_oneMore_240 : decode cX4_oneMore 240 = .ok (.dup2, 1) := dk_92 (dk_at dksX4_oneMore_10 6 rfl rfl)
theorem dX4_oneMore_241 : decode cX4_oneMore 241 = .ok (.iaload, 1) := dk_46 (dk_at dksX4_oneMore_10 7 rfl rfl)
theorem dX4_oneMore_242 : decode cX4_oneMore 242 = .ok (.iconst 1, 1) := dk_4 (dk_at dksX4_oneMore_10 8 rfl rfl)
theorem dX4_oneMore_243 : decode cX4_oneMore 243 = .ok (.iadd, 1) := dk_96 (dk_at dksX4_oneMore_10 9 rfl rfl)
theorem dX4_oneMore_244 : decode cX4_oneMore 244 = .ok (.iastore, 1) := dk_79 (dk_at dksX4_oneMore_10 10 rfl rfl)
theorem dX4_oneMore_245 : decode cX4_oneMore 245 = .ok (.aload_n 0, 1) := dk_42 (dk_at dksX4_oneMore_10 11 rfl rfl)
theorem dX4_oneMore_246 : decode cX4_oneMore 246 = .ok (.getfield 59, 3) := dk_180 0 59 (dk_at dksX4_oneMore_10 12 rfl rfl)
theorem dX4_oneMore_249 : decode cX4_oneMore 249 = .ok (.iconst 4, 1) := dk_7 (dk_at dksX4_oneMore_10 15 rfl rfl)
theorem dX4_oneMore_250 : decode cX4_oneMore 250 = .ok (.iload 4, 2) := dk_21 4 (dk_at dksX4_oneMore_10 16 rfl rfl)
theorem dX4_oneMore_252 : decode cX4_oneMore 252 = .ok (.imul, 1) := dk_104 (dk_at dksX4_oneMore_10 18 rfl rfl)
theorem dX4_oneMore_253 : decode cX4_oneMore 253 = .ok (.iload 5, 2) := dk_21 5 (dk_at dksX4_oneMore_10 19 rfl rfl)
theorem dX4_oneMore_255 : decode cX4_oneMore 255 = .ok (.iconst 2, 1) := dk_5 (dk_at dksX4_oneMore_10 21 rfl rfl)
theorem dX4_oneMore_256 : decode cX4_oneMore 256 = .ok (.iadd, 1) := dk_96 (dk_at dksX4_oneMore_10 22 rfl rfl)
theorem dX4_oneMore_257 : decode cX4_oneMore 257 = .ok (.iconst 4, 1) := dk_7 (dk_at dksX4_oneMore_10 23 rfl rfl)
theorem dX4_oneMore_258 : decode cX4_oneMore 258 = .ok (.irem, 1) := dk_112 (dk_at dksX4_oneMore_11 0 rfl rfl)
theorem dX4_oneMore_259 : decode cX4_oneMore 259 = .ok (.iadd, 1) := dk_96 (dk_at dksX4_oneMore_11 1 rfl rfl)
theorem dX4_oneMore_260 : decode cX4_oneMore 260 = .ok (.dup2, 1) := dk_92 (dk_at dksX4_oneMore_11 2 rfl rfl)
theorem dX4_oneMore_261 : decode cX4_oneMore 261 = .ok (.iaload, 1) := dk_46 (dk_at dksX4_oneMore_11 3 rfl rfl)
theorem dX4_oneMore_262 : decode cX4_oneMore 262 = .ok (.iconst 1, 1) := dk_4 (dk_at dksX4_oneMore_11 4 rfl rfl)
theorem dX4_oneMore_263 : decode cX4_oneMore 263 = .ok (.isub, 1) := dk_100 (dk_at dksX4_oneMore_11 5 rfl rfl)
theorem dX4_oneMore_264 : decode cX4_oneMore 264 = .ok (.iastore, 1) := dk_79 (dk_at dksX4_oneMore_11 6 rfl rfl)
theorem dX4_oneMore_265 : decode cX4_oneMore 265 = .ok (.iload 6, 2) := dk_21 6 (dk_at dksX4_oneMore_11 7 rfl rfl)
theorem dX4_oneMore_267 : decode cX4_oneMore 267 = .ok (.istore 4, 2) := dk_54 4 (dk_at dksX4_oneMore_11 9 rfl rfl)
theorem dX4_oneMore_269 : decode cX4_oneMore 269 = .ok (.goto (-74), 3) := dk_167 255 182 (dk_at dksX4_oneMore_11 11 rfl rfl)
theorem dX4_oneMore_272 : decode cX4_oneMore 272 = .ok (.iconst 1, 1) := dk_4 (dk_at dksX4_oneMore_11 14 rfl rfl)
theorem dX4_oneMore_273 : decode cX4_oneMore 273 = .ok (.ireturn, 1) := dk_172 (dk_at dksX4_oneMore_11 15 rfl rfl)
abbrev cX4_image : ByteArray := prog_14_method_79_code
def yX4_image : MethodName := ⟨RX4, "image", "(Z)Z"⟩
def dkwX4_image_3 : List UInt8 := [181, 1, 77, 4, 172]
abbrev dktX4_image_3 : List UInt8 := dkwX4_image_3 ++ []
def dkwX4_image_2 : List UInt8 := [180, 0, 13, 28, 46, 79, 132, 2, 1, 167, 255, 215, 27, 154, 0, 8, 42, 3, 181, 0, 72, 42, 4]
abbrev dktX4_image_2 : List UInt8 := dkwX4_image_2 ++ dktX4_image_3
def dkwX4_image_1 : List UInt8 := [153, 0, 18, 42, 180, 0, 13, 28, 42, 180, 0, 7, 28, 46, 79, 167, 0, 15, 42, 180, 0, 7, 28, 42]
abbrev dktX4_image_1 : List UInt8 := dkwX4_image_1 ++ dktX4_image_2
def dkwX4_image_0 : List UInt8 := [27, 154, 0, 12, 42, 180, 1, 77, 154, 0, 5, 3, 172, 3, 61, 28, 17, 21, 104, 162, 0, 40, 27]
abbrev dktX4_image_0 : List UInt8 := dkwX4_image_0 ++ dktX4_image_1
theorem dksX4_image_0 : cX4_image.data.toList.drop 0 = dktX4_image_0 := by decide +kernel
theorem dksX4_image_1 : cX4_image.data.toList.drop 23 = dktX4_image_1 := dk_seg dksX4_image_0 23 rfl rfl
theorem dksX4_image_2 : cX4_image.data.toList.drop 47 = dktX4_image_2 := dk_seg dksX4_image_1 24 rfl rfl
theorem dksX4_image_3 : cX4_image.data.toList.drop 70 = dktX4_image_3 := dk_seg dksX4_image_2 23 rfl rfl
theorem dX4_image_0 : decode cX4_image 0 = .ok (.iload_n 1, 1) := dk_27 (dk_at dksX4_image_0 0 rfl rfl)
theorem dX4_image_1 : decode cX4_image 1 = .ok (.ifCond .ne 12, 3) := dk_154 0 12 (dk_at dksX4_image_0 1 rfl rfl)
theorem dX4_image_4 : decode cX4_image 4 = .ok (.aload_n 0, 1) := dk_42 (dk_at dksX4_image_0 4 rfl rfl)
theorem dX4_image_5 : decode cX4_image 5 = .ok (.getfield 333, 3) := dk_180 1 77 (dk_at dksX4_image_0 5 rfl rfl)
theorem dX4_image_8 : decode cX4_image 8 = .ok (.ifCond .ne 5, 3) := dk_154 0 5 (dk_at dksX4_image_0 8 rfl rfl)
theorem dX4_image_11 : decode cX4_image 11 = .ok (.iconst 0, 1) := dk_3 (dk_at dksX4_image_0 11 rfl rfl)
theorem dX4_image_12 : decode cX4_image 12 = .ok (.ireturn, 1) := dk_172 (dk_at dksX4_image_0 12 rfl rfl)
theorem dX4_image_13 : decode cX4_image 13 = .ok (.iconst 0, 1) := dk_3 (dk_at dksX4_image_0 13 rfl rfl)
theorem dX4_image_14 : decode cX4_image 14 = .ok (.istore_n 2, 1) := dk_61 (dk_at dksX4_image_0 14 rfl rfl)
theorem dX4_image_15 : decode cX4_image 15 = .ok (.iload_n 2, 1) := dk_28 (dk_at dksX4_image_0 15 rfl rfl)
theorem dX4_image_16 : decode cX4_image 16 = .ok (.sipush 5480, 3) := dk_17 21 104 (dk_at dksX4_image_0 16 rfl rfl)
theorem dX4_image_19 : decode cX4_image 19 = .ok (.if_icmp .ge 40, 3) := dk_162 0 40 (dk_at dksX4_image_0 19 rfl rfl)
theorem dX4_image_22 : decode cX4_image 22 = .ok (.iload_n 1, 1) := dk_27 (dk_at dksX4_image_0 22 rfl rfl)
theorem dX4_image_23 : decode cX4_image 23 = .ok (.ifCond .eq 18, 3) := dk_153 0 18 (dk_at dksX4_image_1 0 rfl rfl)
theorem dX4_image_26 : decode cX4_image 26 = .ok (.aload_n 0, 1) := dk_42 (dk_at dksX4_image_1 3 rfl rfl)
theorem dX4_image_27 : decode cX4_image 27 = .ok (.getfield 13, 3) := dk_180 0 13 (dk_at dksX4_image_1 4 rfl rfl)
theorem dX4_image_30 : decode cX4_image 30 = .ok (.iload_n 2, 1) := dk_28 (dk_at dksX4_image_1 7 rfl rfl)
theorem dX4_image_31 : decode cX4_image 31 = .ok (.aload_n 0, 1) := dk_42 (dk_at dksX4_image_1 8 rfl rfl)
theorem dX4_image_32 : decode cX4_image 32 = .ok (.getfield 7, 3) := dk_180 0 7 (dk_at dksX4_image_1 9 rfl rfl)
theorem dX4_image_35 : decode cX4_image 35 = .ok (.iload_n 2, 1) := dk_28 (dk_at dksX4_image_1 12 rfl rfl)
theorem dX4_image_36 : decode cX4_image 36 = .ok (.iaload, 1) := dk_46 (dk_at dksX4_image_1 13 rfl rfl)
theorem dX4_image_37 : decode cX4_image 37 = .ok (.iastore, 1) := dk_79 (dk_at dksX4_image_1 14 rfl rfl)
theorem dX4_image_38 : decode cX4_image 38 = .ok (.goto 15, 3) := dk_167 0 15 (dk_at dksX4_image_1 15 rfl rfl)
theorem dX4_image_41 : decode cX4_image 41 = .ok (.aload_n 0, 1) := dk_42 (dk_at dksX4_image_1 18 rfl rfl)
theorem dX4_image_42 : decode cX4_image 42 = .ok (.getfield 7, 3) := dk_180 0 7 (dk_at dksX4_image_1 19 rfl rfl)
theorem dX4_image_45 : decode cX4_image 45 = .ok (.iload_n 2, 1) := dk_28 (dk_at dksX4_image_1 22 rfl rfl)
theorem dX4_image_46 : decode cX4_image 46 = .ok (.aload_n 0, 1) := dk_42 (dk_at dksX4_image_1 23 rfl rfl)
theorem dX4_image_47 : decode cX4_image 47 = .ok (.getfield 13, 3) := dk_180 0 13 (dk_at dksX4_image_2 0 rfl rfl)
theorem dX4_image_50 : decode cX4_image 50 = .ok (.iload_n 2, 1) := dk_28 (dk_at dksX4_image_2 3 rfl rfl)
theorem dX4_image_51 : decode cX4_image 51 = .ok (.iaload, 1) := dk_46 (dk_at dksX4_image_2 4 rfl rfl)
theorem dX4_image_52 : decode cX4_image 52 = .ok (.iastore, 1) := dk_79 (dk_at dksX4_image_2 5 rfl rfl)
theorem dX4_image_53 : decode cX4_image 53 = .ok (.iinc 2 1, 3) := dk_132 2 1 (dk_at dksX4_image_2 6 rfl rfl)
theorem dX4_image_56 : decode cX4_image 56 = .ok (.goto (-41), 3) := dk_167 255 215 (dk_at dksX4_image_2 9 rfl rfl)
theorem dX4_image_59 : decode cX4_image 59 = .ok (.iload_n 1, 1) := dk_27 (dk_at dksX4_image_2 12 rfl rfl)
theorem dX4_image_60 : decode cX4_image 60 = .ok (.ifCond .ne 8, 3) := dk_154 0 8 (dk_at dksX4_image_2 13 rfl rfl)
theorem dX4_image_63 : decode cX4_image 63 = .ok (.aload_n 0, 1) := dk_42 (dk_at dksX4_image_2 16 rfl rfl)
theorem dX4_image_64 : decode cX4_image 64 = .ok (.iconst 0, 1) := dk_3 (dk_at dksX4_image_2 17 rfl rfl)
theorem dX4_image_65 : decode cX4_image 65 = .ok (.putfield 72, 3) := dk_181 0 72 (dk_at dksX4_image_2 18 rfl rfl)
theorem dX4_image_68 : decode cX4_image 68 = .ok (.aload_n 0, 1) := dk_42 (dk_at dksX4_image_2 21 rfl rfl)
theorem dX4_image_69 : decode cX4_image 69 = .ok (.iconst 1, 1) := dk_4 (dk_at dksX4_image_2 22 rfl rfl)
theorem dX4_image_70 : decode cX4_image 70 = .ok (.putfield 333, 3) := dk_181 1 77 (dk_at dksX4_image_3 0 rfl rfl)
theorem dX4_image_73 : decode cX4_image 73 = .ok (.iconst 1, 1) := dk_4 (dk_at dksX4_image_3 3 rfl rfl)
theorem dX4_image_74 : decode cX4_image 74 = .ok (.ireturn, 1) := dk_172 (dk_at dksX4_image_3 4 rfl rfl)
abbrev cX4_look : ByteArray := prog_14_method_80_code
def yX4_look : MethodName := ⟨RX4, "look", "(I)I"⟩
def dkwX4_look_6 : List UInt8 := [153, 0, 19, 42, 180, 0, 7, 17, 7, 193, 27, 96, 16, 10, 100, 46, 167, 0, 4, 2, 172]
abbrev dktX4_look_6 : List UInt8 := dkwX4_look_6 ++ []
def dkwX4_look_5 : List UInt8 := [180, 0, 7, 16, 7, 46, 172, 42, 180, 0, 7, 16, 8, 46, 172, 27, 16, 10, 16, 13, 184, 0, 75]
abbrev dktX4_look_5 : List UInt8 := dkwX4_look_5 ++ dktX4_look_6
def dkwX4_look_4 : List UInt8 := [42, 180, 1, 25, 172, 42, 180, 0, 7, 16, 6, 46, 172, 42, 182, 1, 80, 172, 42, 180, 0, 72, 172, 42]
abbrev dktX4_look_4 : List UInt8 := dkwX4_look_4 ++ dktX4_look_5
def dkwX4_look_3 : List UInt8 := [180, 0, 7, 6, 46, 172, 42, 180, 0, 7, 7, 46, 172, 42, 180, 0, 7, 8, 46, 172, 42, 182, 1, 34]
abbrev dktX4_look_3 : List UInt8 := dkwX4_look_3 ++ dktX4_look_4
def dkwX4_look_2 : List UInt8 := [42, 180, 0, 7, 3, 46, 172, 42, 180, 0, 7, 4, 46, 172, 42, 180, 0, 7, 5, 46, 172, 42]
abbrev dktX4_look_2 : List UInt8 := dkwX4_look_2 ++ dktX4_look_3
def dkwX4_look_1 : List UInt8 := [170, 0, 0, 0, 0, 0, 188, 0, 0, 0, 0, 0, 0, 0, 21, 0, 0, 0, 103, 0, 0, 0, 110, 0, 0, 0, 117, 0, 0, 0, 124, 0, 0, 0, 131, 0, 0, 0, 138, 0, 0, 0, 145, 0, 0, 0, 154, 0, 0, 0, 162, 0, 0, 0, 167, 0, 0, 0, 188, 0, 0, 0, 188, 0, 0, 0, 188, 0, 0, 0, 188, 0, 0, 0, 188, 0, 0, 0, 188, 0, 0, 0, 188, 0, 0, 0, 188, 0, 0, 0, 188, 0, 0, 0, 188, 0, 0, 0, 172, 0, 0, 0, 180]
abbrev dktX4_look_1 : List UInt8 := dkwX4_look_1 ++ dktX4_look_2
def dkwX4_look_0 : List UInt8 := [27]
abbrev dktX4_look_0 : List UInt8 := dkwX4_look_0 ++ dktX4_look_1
theorem dksX4_look_0 : cX4_look.data.toList.drop 0 = dktX4_look_0 := by decide +kernel
theorem dksX4_look_1 : cX4_look.data.toList.drop 1 = dktX4_look_1 := dk_seg dksX4_look_0 1 rfl rfl
theorem dksX4_look_2 : cX4_look.data.toList.drop 104 = dktX4_look_2 := dk_seg dksX4_look_1 103 rfl rfl
theorem dksX4_look_3 : cX4_look.data.toList.drop 126 = dktX4_look_3 := dk_seg dksX4_look_2 22 rfl rfl
theorem dksX4_look_4 : cX4_look.data.toList.drop 150 = dktX4_look_4 := dk_seg dksX4_look_3 24 rfl rfl
theorem dksX4_look_5 : cX4_look.data.toList.drop 174 = dktX4_look_5 := dk_seg dksX4_look_4 24 rfl rfl
theorem dksX4_look_6 : cX4_look.data.toList.drop 197 = dktX4_look_6 := dk_seg dksX4_look_5 23 rfl rfl
theorem dX4_look_0 : decode cX4_look 0 = .ok (.iload_n 1, 1) := dk_27 (dk_at dksX4_look_0 0 rfl rfl)
theorem dX4_look_1 : decode cX4_look 1 = .ok (.tableswitch 188 0 21 #[103, 110, 117, 124, 131, 138, 145, 154, 162, 167, 188, 188, 188, 188, 188, 188, 188, 188, 188, 188, 172, 180], 103) := by decide +kernel
theorem dX4_look_104 : decode cX4_look 104 = .ok (.aload_n 0, 1) := dk_42 (dk_at dksX4_look_2 0 rfl rfl)
theorem dX4_look_105 : decode cX4_look 105 = .ok (.getfield 7, 3) := dk_180 0 7 (dk_at dksX4_look_2 1 rfl rfl)
theorem dX4_look_108 : decode cX4_look 108 = .ok (.iconst 0, 1) := dk_3 (dk_at dksX4_look_2 4 rfl rfl)
theorem dX4_look_109 : decode cX4_look 109 = .ok (.iaload, 1) := dk_46 (dk_at dksX4_look_2 5 rfl rfl)
theorem dX4_look_110 : decode cX4_look 110 = .ok (.ireturn, 1) := dk_172 (dk_at dksX4_look_2 6 rfl rfl)
theorem dX4_look_111 : decode cX4_look 111 = .ok (.aload_n 0, 1) := dk_42 (dk_at dksX4_look_2 7 rfl rfl)
theorem dX4_look_112 : decode cX4_look 112 = .ok (.getfield 7, 3) := dk_180 0 7 (dk_at dksX4_look_2 8 rfl rfl)
theorem dX4_look_115 : decode cX4_look 115 = .ok (.iconst 1, 1) := dk_4 (dk_at dksX4_look_2 11 rfl rfl)
theorem dX4_look_116 : decode cX4_look 116 = .ok (.iaload, 1) := dk_46 (dk_at dksX4_look_2 12 rfl rfl)
theorem dX4_look_117 : decode cX4_look 117 = .ok (.ireturn, 1) := dk_172 (dk_at dksX4_look_2 13 rfl rfl)
theorem dX4_look_118 : decode cX4_look 118 = .ok (.aload_n 0, 1) := dk_42 (dk_at dksX4_look_2 14 rfl rfl)
theorem dX4_look_119 : decode cX4_look 119 = .ok (.getfield 7, 3) := dk_180 0 7 (dk_at dksX4_look_2 15 rfl rfl)
theorem dX4_look_122 : decode cX4_look 122 = .ok (.iconst 2, 1) := dk_5 (dk_at dksX4_look_2 18 rfl rfl)
theorem dX4_look_123 : decode cX4_look 123 = .ok (.iaload, 1) := dk_46 (dk_at dksX4_look_2 19 rfl rfl)
theorem dX4_look_124 : decode cX4_look 124 = .ok (.ireturn, 1) := dk_172 (dk_at dksX4_look_2 20 rfl rfl)
theorem dX4_look_125 : decode cX4_look 125 = .ok (.aload_n 0, 1) := dk_42 (dk_at dksX4_look_2 21 rfl rfl)
theorem dX4_look_126 : decode cX4_look 126 = .ok (.getfield 7, 3) := dk_180 0 7 (dk_at dksX4_look_3 0 rfl rfl)
theorem dX4_look_129 : decode cX4_look 129 = .ok (.iconst 3, 1) := dk_6 (dk_at dksX4_look_3 3 rfl rfl)
theorem dX4_look_130 : decode cX4_look 130 = .ok (.iaload, 1) := dk_46 (dk_at dksX4_look_3 4 rfl rfl)
theorem dX4_look_131 : decode cX4_look 131 = .ok (.ireturn, 1) := dk_172 (dk_at dksX4_look_3 5 rfl rfl)
theorem dX4_look_132 : decode cX4_look 132 = .ok (.aload_n 0, 1) := dk_42 (dk_at dksX4_look_3 6 rfl rfl)
theorem dX4_look_133 : decode cX4_look 133 = .ok (.getfield 7, 3) := dk_180 0 7 (dk_at dksX4_look_3 7 rfl rfl)
theorem dX4_look_136 : decode cX4_look 136 = .ok (.iconst 4, 1) := dk_7 (dk_at dksX4_look_3 10 rfl rfl)
theorem dX4_look_137 : decode cX4_look 137 = .ok (.iaload, 1) := dk_46 (dk_at dksX4_look_3 11 rfl rfl)
theorem dX4_look_138 : decode cX4_look 138 = .ok (.ireturn, 1) := dk_172 (dk_at dksX4_look_3 12 rfl rfl)
theorem dX4_look_139 : decode cX4_look 139 = .ok (.aload_n 0, 1) := dk_42 (dk_at dksX4_look_3 13 rfl rfl)
theorem dX4_look_140 : decode cX4_look 140 = .ok (.getfield 7, 3) := dk_180 0 7 (dk_at dksX4_look_3 14 rfl rfl)
theorem dX4_look_143 : decode cX4_look 143 = .ok (.iconst 5, 1) := dk_8 (dk_at dksX4_look_3 17 rfl rfl)
theorem dX4_look_144 : decode cX4_look 144 = .ok (.iaload, 1) := dk_46 (dk_at dksX4_look_3 18 rfl rfl)
theorem dX4_look_145 : decode cX4_look 145 = .ok (.ireturn, 1) := dk_172 (dk_at dksX4_look_3 19 rfl rfl)
theorem dX4_look_146 : decode cX4_look 146 = .ok (.aload_n 0, 1) := dk_42 (dk_at dksX4_look_3 20 rfl rfl)
theorem dX4_look_147 : decode cX4_look 147 = .ok (.invokevirtual 290, 3) := dk_182 1 34 (dk_at dksX4_look_3 21 rfl rfl)
theorem dX4_look_150 : decode cX4_look 150 = .ok (.aload_n 0, 1) := dk_42 (dk_at dksX4_look_4 0 rfl rfl)
theorem dX4_look_151 : decode cX4_look 151 = .ok (.getfield 281, 3) := dk_180 1 25 (dk_at dksX4_look_4 1 rfl rfl)
theorem dX4_look_154 : decode cX4_look 154 = .ok (.ireturn, 1) := dk_172 (dk_at dksX4_look_4 4 rfl rfl)
theorem dX4_look_155 : decode cX4_look 155 = .ok (.aload_n 0, 1) := dk_42 (dk_at dksX4_look_4 5 rfl rfl)
theorem dX4_look_156 : decode cX4_look 156 = .ok (.getfield 7, 3) := dk_180 0 7 (dk_at dksX4_look_4 6 rfl rfl)
theorem dX4_look_159 : decode cX4_look 159 = .ok (.bipush 6, 2) := dk_16 6 (dk_at dksX4_look_4 9 rfl rfl)
theorem dX4_look_161 : decode cX4_look 161 = .ok (.iaload, 1) := dk_46 (dk_at dksX4_look_4 11 rfl rfl)
theorem dX4_look_162 : decode cX4_look 162 = .ok (.ireturn, 1) := dk_172 (dk_at dksX4_look_4 12 rfl rfl)
theorem dX4_look_163 : decode cX4_look 163 = .ok (.aload_n 0, 1) := dk_42 (dk_at dksX4_look_4 13 rfl rfl)
theorem dX4_look_164 : decode cX4_look 164 = .ok (.invokevirtual 336, 3) := dk_182 1 80 (dk_at dksX4_look_4 14 rfl rfl)
theorem dX4_look_167 : decode cX4_look 167 = .ok (.ireturn, 1) := dk_172 (dk_at dksX4_look_4 17 rfl rfl)
theorem dX4_look_168 : decode cX4_look 168 = .ok (.aload_n 0, 1) := dk_42 (dk_at dksX4_look_4 18 rfl rfl)
theorem dX4_look_169 : decode cX4_look 169 = .ok (.getfield 72, 3) := dk_180 0 72 (dk_at dksX4_look_4 19 rfl rfl)
theorem dX4_look_172 : decode cX4_look 172 = .ok (.ireturn, 1) := dk_172 (dk_at dksX4_look_4 22 rfl rfl)
theorem dX4_look_173 : decode cX4_look 173 = .ok (.aload_n 0, 1) := dk_42 (dk_at dksX4_look_4 23 rfl rfl)
theorem dX4_look_174 : decode cX4_look 174 = .ok (.getfield 7, 3) := dk_180 0 7 (dk_at dksX4_look_5 0 rfl rfl)
theorem dX4_look_177 : decode cX4_look 177 = .ok (.bipush 7, 2) := dk_16 7 (dk_at dksX4_look_5 3 rfl rfl)
theorem dX4_look_179 : decode cX4_look 179 = .ok (.iaload, 1) := dk_46 (dk_at dksX4_look_5 5 rfl rfl)
theorem dX4_look_180 : decode cX4_look 180 = .ok (.ireturn, 1) := dk_172 (dk_at dksX4_look_5 6 rfl rfl)
theorem dX4_look_181 : decode cX4_look 181 = .ok (.aload_n 0, 1) := dk_42 (dk_at dksX4_look_5 7 rfl rfl)
theorem dX4_look_182 : decode cX4_look 182 = .ok (.getfield 7, 3) := dk_180 0 7 (dk_at dksX4_look_5 8 rfl rfl)
theorem dX4_look_185 : decode cX4_look 185 = .ok (.bipush 8, 2) := dk_16 8 (dk_at dksX4_look_5 11 rfl rfl)
theorem dX4_look_187 : decode cX4_look 187 = .ok (.iaload, 1) := dk_46 (dk_at dksX4_look_5 13 rfl rfl)
theorem dX4_look_188 : decode cX4_look 188 = .ok (.ireturn, 1) := dk_172 (dk_at dksX4_look_5 14 rfl rfl)
theorem dX4_look_189 : decode cX4_look 189 = .ok (.iload_n 1, 1) := dk_27 (dk_at dksX4_look_5 15 rfl rfl)
theorem dX4_look_190 : decode cX4_look 190 = .ok (.bipush 10, 2) := dk_16 10 (dk_at dksX4_look_5 16 rfl rfl)
theorem dX4_look_192 : decode cX4_look 192 = .ok (.bipush 13, 2) := dk_16 13 (dk_at dksX4_look_5 18 rfl rfl)
theorem dX4_look_194 : decode cX4_look 194 = .ok (.invokestatic 75, 3) := dk_184 0 75 (dk_at dksX4_look_5 20 rfl rfl)
theorem dX4_look_197 : decode cX4_look 197 = .ok (.ifCond .eq 19, 3) := dk_153 0 19 (dk_at dksX4_look_6 0 rfl rfl)
theorem dX4_look_200 : decode cX4_look 200 = .ok (.aload_n 0, 1) := dk_42 (dk_at dksX4_look_6 3 rfl rfl)
theorem dX4_look_201 : decode cX4_look 201 = .ok (.getfield 7, 3) := dk_180 0 7 (dk_at dksX4_look_6 4 rfl rfl)
theorem dX4_look_204 : decode cX4_look 204 = .ok (.sipush 1985, 3) := dk_17 7 193 (dk_at dksX4_look_6 7 rfl rfl)
theorem dX4_look_207 : decode cX4_look 207 = .ok (.iload_n 1, 1) := dk_27 (dk_at dksX4_look_6 10 rfl rfl)
theorem dX4_look_208 : decode cX4_look 208 = .ok (.iadd, 1) := dk_96 (dk_at dksX4_look_6 11 rfl rfl)
theorem dX4_look_209 : decode cX4_look 209 = .ok (.bipush 10, 2) := dk_16 10 (dk_at dksX4_look_6 12 rfl rfl)
theorem dX4_look_211 : decode cX4_look 211 = .ok (.isub, 1) := dk_100 (dk_at dksX4_look_6 14 rfl rfl)
theorem dX4_look_212 : decode cX4_look 212 = .ok (.iaload, 1) := dk_46 (dk_at dksX4_look_6 15 rfl rfl)
theorem dX4_look_213 : decode cX4_look 213 = .ok (.goto 4, 3) := dk_167 0 4 (dk_at dksX4_look_6 16 rfl rfl)
theorem dX4_look_216 : decode cX4_look 216 = .ok (.iconst (-1), 1) := dk_2 (dk_at dksX4_look_6 19 rfl rfl)
theorem dX4_look_217 : decode cX4_look 217 = .ok (.ireturn, 1) := dk_172 (dk_at dksX4_look_6 20 rfl rfl)
abbrev cX4_threads : ByteArray := prog_14_method_81_code
def yX4_threads : MethodName := ⟨RX4, "threads", "()I"⟩
def dkwX4_threads_1 : List UInt8 := [159, 0, 7, 4, 167, 0, 4, 3, 96, 60, 132, 2, 1, 167, 255, 224, 27, 172]
abbrev dktX4_threads_1 : List UInt8 := dkwX4_threads_1 ++ []
def dkwX4_threads_0 : List UInt8 := [3, 60, 3, 61, 28, 17, 0, 242, 162, 0, 31, 27, 42, 180, 0, 7, 17, 3, 82, 28, 96, 46, 2]
abbrev dktX4_threads_0 : List UInt8 := dkwX4_threads_0 ++ dktX4_threads_1
theorem dksX4_threads_0 : cX4_threads.data.toList.drop 0 = dktX4_threads_0 := by decide +kernel
theorem dksX4_threads_1 : cX4_threads.data.toList.drop 23 = dktX4_threads_1 := dk_seg dksX4_threads_0 23 rfl rfl
theorem dX4_threads_0 : decode cX4_threads 0 = .ok (.iconst 0, 1) := dk_3 (dk_at dksX4_threads_0 0 rfl rfl)
theorem dX4_threads_1 : decode cX4_threads 1 = .ok (.istore_n 1, 1) := dk_60 (dk_at dksX4_threads_0 1 rfl rfl)
theorem dX4_threads_2 : decode cX4_threads 2 = .ok (.iconst 0, 1) := dk_3 (dk_at dksX4_threads_0 2 rfl rfl)
theorem dX4_threads_3 : decode cX4_threads 3 = .ok (.istore_n 2, 1) := dk_61 (dk_at dksX4_threads_0 3 rfl rfl)
theorem dX4_threads_4 : decode cX4_threads 4 = .ok (.iload_n 2, 1) := dk_28 (dk_at dksX4_threads_0 4 rfl rfl)
theorem dX4_threads_5 : decode cX4_threads 5 = .ok (.sipush 242, 3) := dk_17 0 242 (dk_at dksX4_threads_0 5 rfl rfl)
theorem dX4_threads_8 : decode cX4_threads 8 = .ok (.if_icmp .ge 31, 3) := dk_162 0 31 (dk_at dksX4_threads_0 8 rfl rfl)
theorem dX4_threads_11 : decode cX4_threads 11 = .ok (.iload_n 1, 1) := dk_27 (dk_at dksX4_threads_0 11 rfl rfl)
theorem dX4_threads_12 : decode cX4_threads 12 = .ok (.aload_n 0, 1) := dk_42 (dk_at dksX4_threads_0 12 rfl rfl)
theorem dX4_threads_13 : decode cX4_threads 13 = .ok (.getfield 7, 3) := dk_180 0 7 (dk_at dksX4_threads_0 13 rfl rfl)
theorem dX4_threads_16 : decode cX4_threads 16 = .ok (.sipush 850, 3) := dk_17 3 82 (dk_at dksX4_threads_0 16 rfl rfl)
theorem dX4_threads_19 : decode cX4_threads 19 = .ok (.iload_n 2, 1) := dk_28 (dk_at dksX4_threads_0 19 rfl rfl)
theorem dX4_threads_20 : decode cX4_threads 20 = .ok (.iadd, 1) := dk_96 (dk_at dksX4_threads_0 20 rfl rfl)
theorem dX4_threads_21 : decode cX4_threads 21 = .ok (.iaload, 1) := dk_46 (dk_at dksX4_threads_0 21 rfl rfl)
theorem dX4_threads_22 : decode cX4_threads 22 = .ok (.iconst (-1), 1) := dk_2 (dk_at dksX4_threads_0 22 rfl rfl)
theorem dX4_threads_23 : decode cX4_threads 23 = .ok (.if_icmp .eq 7, 3) := dk_159 0 7 (dk_at dksX4_threads_1 0 rfl rfl)
theorem dX4_threads_26 : decode cX4_threads 26 = .ok (.iconst 1, 1) := dk_4 (dk_at dksX4_threads_1 3 rfl rfl)
theorem dX4_threads_27 : decode cX4_threads 27 = .ok (.goto 4, 3) := dk_167 0 4 (dk_at dksX4_threads_1 4 rfl rfl)
theorem dX4_threads_30 : decode cX4_threads 30 = .ok (.iconst 0, 1) := dk_3 (dk_at dksX4_threads_1 7 rfl rfl)
theorem dX4_threads_31 : decode cX4_threads 31 = .ok (.iadd, 1) := dk_96 (dk_at dksX4_threads_1 8 rfl rfl)
theorem dX4_threads_32 : decode cX4_threads 32 = .ok (.istore_n 1, 1) := dk_60 (dk_at dksX4_threads_1 9 rfl rfl)
theorem dX4_threads_33 : decode cX4_threads 33 = .ok (.iinc 2 1, 3) := dk_132 2 1 (dk_at dksX4_threads_1 10 rfl rfl)
theorem dX4_threads_36 : decode cX4_threads 36 = .ok (.goto (-32), 3) := dk_167 255 224 (dk_at dksX4_threads_1 13 rfl rfl)
theorem dX4_threads_39 : decode cX4_threads 39 = .ok (.iload_n 1, 1) := dk_27 (dk_at dksX4_threads_1 16 rfl rfl)
theorem dX4_threads_40 : decode cX4_threads 40 = .ok (.ireturn, 1) := dk_172 (dk_at dksX4_threads_1 17 rfl rfl)
theorem q87 : (Jvm.Cond.initialized "SwallowSurveyModel") ∈ lw_all := lw_g (lw_at lw_m1 6 rfl) rfl
theorem q1074 : (Jvm.Cond.instantiable "SwallowSurveyModel" (37 : Nat)) ∈ lw_all := lw_g (lw_at lw_m5 33 rfl) rfl
theorem q1076 : (Jvm.Cond.instanceMethod ({ cls := "SwallowSurveyModel", name := "<init>", desc := "()V" } : Jvm.MethodName)) ∈ lw_all := lw_g (lw_at lw_m5 35 rfl) rfl
theorem q1077 : (Jvm.Cond.code ({ cls := "SwallowSurveyModel", name := "<init>", desc := "()V" } : Jvm.MethodName) prog_14_method_1_code (1 : Nat) (Option.none : Option Jvm.ClassFile.FieldType)) ∈ lw_all := lw_g (lw_at lw_m5 36 rfl) rfl
theorem q1078 : (Jvm.Cond.methodLink "SwallowSurveyModel" (1 : Nat) ({ cls := "java/lang/Object", name := "<init>", desc := "()V" } : Jvm.MethodName)) ∈ lw_all := lw_g (lw_at lw_m5 37 rfl) rfl
theorem q1079 : (Jvm.Cond.methodLink "SwallowSurveyModel" (65 : Nat) ({ cls := "SwallowSurveyModel", name := "begins", desc := "(II)V" } : Jvm.MethodName)) ∈ lw_all := lw_g (lw_at lw_m5 38 rfl) rfl
theorem q1080 : (Jvm.Cond.privateMethod ({ cls := "SwallowSurveyModel", name := "begins", desc := "(II)V" } : Jvm.MethodName)) ∈ lw_tbl := lw_at lw_m5 39 rfl
theorem q1081 : (Jvm.Cond.instanceMethod ({ cls := "SwallowSurveyModel", name := "begins", desc := "(II)V" } : Jvm.MethodName)) ∈ lw_all := lw_g (lw_at lw_m5 40 rfl) rfl
theorem q1082 : (Jvm.Cond.code ({ cls := "SwallowSurveyModel", name := "begins", desc := "(II)V" } : Jvm.MethodName) prog_14_method_2_code (5 : Nat) (Option.none : Option Jvm.ClassFile.FieldType)) ∈ lw_all := lw_g (lw_at lw_m5 41 rfl) rfl
theorem q1083 : (Jvm.Cond.methodLink "SwallowSurveyModel" (69 : Nat) ({ cls := "SwallowSurveyModel", name := "clears", desc := "()V" } : Jvm.MethodName)) ∈ lw_all := lw_g (lw_at lw_m5 42 rfl) rfl
theorem q1084 : (Jvm.Cond.privateMethod ({ cls := "SwallowSurveyModel", name := "clears", desc := "()V" } : Jvm.MethodName)) ∈ lw_tbl := lw_at lw_m5 43 rfl
theorem q1085 : (Jvm.Cond.instanceMethod ({ cls := "SwallowSurveyModel", name := "clears", desc := "()V" } : Jvm.MethodName)) ∈ lw_all := lw_g (lw_at lw_m5 44 rfl) rfl
theorem q1086 : (Jvm.Cond.code ({ cls := "SwallowSurveyModel", name := "clears", desc := "()V" } : Jvm.MethodName) prog_14_method_3_code (2 : Nat) (Option.none : Option Jvm.ClassFile.FieldType)) ∈ lw_all := lw_g (lw_at lw_m5 45 rfl) rfl
theorem q1087 : (Jvm.Cond.fieldLink "SwallowSurveyModel" (7 : Nat) "SwallowSurveyModel" "w" "[I") ∈ lw_all := lw_g (lw_at lw_m5 46 rfl) rfl
theorem q1088 : (Jvm.Cond.fieldLink "SwallowSurveyModel" (13 : Nat) "SwallowSurveyModel" "kept" "[I") ∈ lw_all := lw_g (lw_at lw_m5 47 rfl) rfl
theorem q1089 : (Jvm.Cond.fieldLink "SwallowSurveyModel" (16 : Nat) "SwallowSurveyModel" "before" "[I") ∈ lw_all := lw_g (lw_at lw_m5 48 rfl) rfl
theorem q1090 : (Jvm.Cond.fieldLink "SwallowSurveyModel" (19 : Nat) "SwallowSurveyModel" "back" "[I") ∈ lw_all := lw_g (lw_at lw_m5 49 rfl) rfl
theorem q1091 : (Jvm.Cond.fieldLink "SwallowSurveyModel" (72 : Nat) "SwallowSurveyModel" "backMany" "I") ∈ lw_all := lw_g (lw_at lw_m5 50 rfl) rfl
theorem q1092 : (Jvm.Cond.fieldLink "SwallowSurveyModel" (333 : Nat) "SwallowSurveyModel" "hasImage" "Z") ∈ lw_all := lw_g (lw_at lw_m5 51 rfl) rfl
theorem q1093 : (Jvm.Cond.fieldLink "SwallowSurveyModel" (254 : Nat) "SwallowSurveyModel" "isThought" "Z") ∈ lw_all := lw_g (lw_at lw_m5 52 rfl) rfl
theorem q1094 : (Jvm.Cond.fieldLink "SwallowSurveyModel" (22 : Nat) "SwallowSurveyModel" "freshLine" "[I") ∈ lw_all := lw_g (lw_at lw_m5 53 rfl) rfl
theorem q1095 : (Jvm.Cond.fieldLink "SwallowSurveyModel" (25 : Nat) "SwallowSurveyModel" "freshStep" "[I") ∈ lw_all := lw_g (lw_at lw_m5 54 rfl) rfl
theorem q1096 : (Jvm.Cond.fieldLink "SwallowSurveyModel" (28 : Nat) "SwallowSurveyModel" "tape" "[I") ∈ lw_all := lw_g (lw_at lw_m5 55 rfl) rfl
theorem q1097 : (Jvm.Cond.fieldLink "SwallowSurveyModel" (31 : Nat) "SwallowSurveyModel" "pile" "[I") ∈ lw_all := lw_g (lw_at lw_m5 56 rfl) rfl
theorem q1098 : (Jvm.Cond.fieldLink "SwallowSurveyModel" (34 : Nat) "SwallowSurveyModel" "facts" "[I") ∈ lw_all := lw_g (lw_at lw_m5 57 rfl) rfl
theorem q1099 : (Jvm.Cond.fieldLink "SwallowSurveyModel" (222 : Nat) "SwallowSurveyModel" "lines" "I") ∈ lw_all := lw_g (lw_at lw_m5 58 rfl) rfl
theorem q1100 : (Jvm.Cond.fieldLink "SwallowSurveyModel" (188 : Nat) "SwallowSurveyModel" "steps" "I") ∈ lw_all := lw_g (lw_at lw_m5 59 rfl) rfl
theorem q1101 : (Jvm.Cond.fieldLink "SwallowSurveyModel" (96 : Nat) "SwallowSurveyModel" "taped" "I") ∈ lw_all := lw_g (lw_at lw_m5 60 rfl) rfl
theorem q1102 : (Jvm.Cond.fieldLink "SwallowSurveyModel" (99 : Nat) "SwallowSurveyModel" "at" "I") ∈ lw_all := lw_g (lw_at lw_m5 61 rfl) rfl
theorem q1103 : (Jvm.Cond.fieldLink "SwallowSurveyModel" (161 : Nat) "SwallowSurveyModel" "token" "I") ∈ lw_all := lw_g (lw_at lw_m5 62 rfl) rfl
theorem q1104 : (Jvm.Cond.fieldLink "SwallowSurveyModel" (102 : Nat) "SwallowSurveyModel" "tokenAt" "I") ∈ lw_all := lw_g (lw_at lw_m5 63 rfl) rfl
theorem q1105 : (Jvm.Cond.fieldLink "SwallowSurveyModel" (173 : Nat) "SwallowSurveyModel" "value" "I") ∈ lw_all := lw_g (lw_at lw_m5 64 rfl) rfl
theorem q1106 : (Jvm.Cond.fieldLink "SwallowSurveyModel" (176 : Nat) "SwallowSurveyModel" "wrong" "I") ∈ lw_all := lw_g (lw_at lw_m5 65 rfl) rfl
theorem q1107 : (Jvm.Cond.fieldLink "SwallowSurveyModel" (179 : Nat) "SwallowSurveyModel" "wrongAt" "I") ∈ lw_all := lw_g (lw_at lw_m5 66 rfl) rfl
theorem q1108 : (Jvm.Cond.fieldLink "SwallowSurveyModel" (225 : Nat) "SwallowSurveyModel" "faultKind" "I") ∈ lw_all := lw_g (lw_at lw_m5 67 rfl) rfl
theorem q1109 : (Jvm.Cond.fieldLink "SwallowSurveyModel" (191 : Nat) "SwallowSurveyModel" "depth" "I") ∈ lw_all := lw_g (lw_at lw_m5 68 rfl) rfl
theorem q1110 : (Jvm.Cond.fieldLink "SwallowSurveyModel" (37 : Nat) "SwallowSurveyModel" "faultPlace" "I") ∈ lw_all := lw_g (lw_at lw_m5 69 rfl) rfl
theorem q1111 : (Jvm.Cond.fieldLink "SwallowSurveyModel" (41 : Nat) "SwallowSurveyModel" "endX" "[I") ∈ lw_all := lw_g (lw_at lw_m5 70 rfl) rfl
theorem q1112 : (Jvm.Cond.fieldLink "SwallowSurveyModel" (44 : Nat) "SwallowSurveyModel" "endY" "[I") ∈ lw_all := lw_g (lw_at lw_m5 71 rfl) rfl
theorem q1113 : (Jvm.Cond.fieldLink "SwallowSurveyModel" (47 : Nat) "SwallowSurveyModel" "endSteps" "[I") ∈ lw_all := lw_g (lw_at lw_m5 72 rfl) rfl
theorem q1114 : (Jvm.Cond.fieldLink "SwallowSurveyModel" (50 : Nat) "SwallowSurveyModel" "endHeading" "[I") ∈ lw_all := lw_g (lw_at lw_m5 73 rfl) rfl
theorem q1115 : (Jvm.Cond.fieldLink "SwallowSurveyModel" (53 : Nat) "SwallowSurveyModel" "name" "[I") ∈ lw_all := lw_g (lw_at lw_m5 74 rfl) rfl
theorem q1116 : (Jvm.Cond.fieldLink "SwallowSurveyModel" (56 : Nat) "SwallowSurveyModel" "queue" "[I") ∈ lw_all := lw_g (lw_at lw_m5 75 rfl) rfl
theorem q1117 : (Jvm.Cond.fieldLink "SwallowSurveyModel" (281 : Nat) "SwallowSurveyModel" "counties" "I") ∈ lw_all := lw_g (lw_at lw_m5 76 rfl) rfl
theorem q1118 : (Jvm.Cond.fieldLink "SwallowSurveyModel" (308 : Nat) "SwallowSurveyModel" "bestPrice" "I") ∈ lw_all := lw_g (lw_at lw_m5 77 rfl) rfl
theorem q1119 : (Jvm.Cond.fieldLink "SwallowSurveyModel" (311 : Nat) "SwallowSurveyModel" "bestMany" "I") ∈ lw_all := lw_g (lw_at lw_m5 78 rfl) rfl
theorem q1120 : (Jvm.Cond.fieldLink "SwallowSurveyModel" (314 : Nat) "SwallowSurveyModel" "bestOne" "I") ∈ lw_all := lw_g (lw_at lw_m5 79 rfl) rfl
theorem q1121 : (Jvm.Cond.fieldLink "SwallowSurveyModel" (317 : Nat) "SwallowSurveyModel" "bestOther" "I") ∈ lw_all := lw_g (lw_at lw_m5 80 rfl) rfl
theorem q1122 : (Jvm.Cond.fieldLink "SwallowSurveyModel" (59 : Nat) "SwallowSurveyModel" "flow" "[I") ∈ lw_all := lw_g (lw_at lw_m5 81 rfl) rfl
theorem q1123 : (Jvm.Cond.fieldLink "SwallowSurveyModel" (62 : Nat) "SwallowSurveyModel" "cameBy" "[I") ∈ lw_all := lw_g (lw_at lw_m5 82 rfl) rfl
theorem q1124 : (Jvm.Cond.laysFinal "SwallowSurveyModel" "SwallowSurveyModel" "w" "[I") ∈ lw_all := lw_g (lw_at lw_m5 83 rfl) rfl
theorem q1125 : (Jvm.Cond.soleField "SwallowSurveyModel" "w") ∈ lw_all := lw_g (lw_at lw_m5 84 rfl) rfl
theorem q1126 : (Jvm.Cond.laysFinal "SwallowSurveyModel" "SwallowSurveyModel" "kept" "[I") ∈ lw_all := lw_g (lw_at lw_m5 85 rfl) rfl
theorem q1127 : (Jvm.Cond.soleField "SwallowSurveyModel" "kept") ∈ lw_all := lw_g (lw_at lw_m5 86 rfl) rfl
theorem q1128 : (Jvm.Cond.laysFinal "SwallowSurveyModel" "SwallowSurveyModel" "before" "[I") ∈ lw_all := lw_g (lw_at lw_m5 87 rfl) rfl
theorem q1129 : (Jvm.Cond.soleField "SwallowSurveyModel" "before") ∈ lw_all := lw_g (lw_at lw_m5 88 rfl) rfl
theorem q1130 : (Jvm.Cond.laysFinal "SwallowSurveyModel" "SwallowSurveyModel" "back" "[I") ∈ lw_all := lw_g (lw_at lw_m5 89 rfl) rfl
theorem q1131 : (Jvm.Cond.soleField "SwallowSurveyModel" "back") ∈ lw_all := lw_g (lw_at lw_m5 90 rfl) rfl
theorem q1132 : (Jvm.Cond.lays "SwallowSurveyModel" "SwallowSurveyModel" "backMany" "I") ∈ lw_all := lw_g (lw_at lw_m5 91 rfl) rfl
theorem q1133 : (Jvm.Cond.soleField "SwallowSurveyModel" "backMany") ∈ lw_all := lw_g (lw_at lw_m5 92 rfl) rfl
theorem q1134 : (Jvm.Cond.lays "SwallowSurveyModel" "SwallowSurveyModel" "hasImage" "Z") ∈ lw_all := lw_g (lw_at lw_m5 93 rfl) rfl
theorem q1135 : (Jvm.Cond.soleField "SwallowSurveyModel" "hasImage") ∈ lw_all := lw_g (lw_at lw_m5 94 rfl) rfl
theorem q1136 : (Jvm.Cond.lays "SwallowSurveyModel" "SwallowSurveyModel" "isThought" "Z") ∈ lw_all := lw_g (lw_at lw_m5 95 rfl) rfl
theorem q1137 : (Jvm.Cond.soleField "SwallowSurveyModel" "isThought") ∈ lw_all := lw_g (lw_at lw_m5 96 rfl) rfl
theorem q1138 : (Jvm.Cond.laysFinal "SwallowSurveyModel" "SwallowSurveyModel" "freshLine" "[I") ∈ lw_all := lw_g (lw_at lw_m5 97 rfl) rfl
theorem q1139 : (Jvm.Cond.soleField "SwallowSurveyModel" "freshLine") ∈ lw_all := lw_g (lw_at lw_m5 98 rfl) rfl
theorem q1140 : (Jvm.Cond.laysFinal "SwallowSurveyModel" "SwallowSurveyModel" "freshStep" "[I") ∈ lw_all := lw_g (lw_at lw_m5 99 rfl) rfl
theorem q1141 : (Jvm.Cond.soleField "SwallowSurveyModel" "freshStep") ∈ lw_all := lw_g (lw_at lw_m5 100 rfl) rfl
theorem q1142 : (Jvm.Cond.laysFinal "SwallowSurveyModel" "SwallowSurveyModel" "tape" "[I") ∈ lw_all := lw_g (lw_at lw_m5 101 rfl) rfl
theorem q1143 : (Jvm.Cond.soleField "SwallowSurveyModel" "tape") ∈ lw_all := lw_g (lw_at lw_m5 102 rfl) rfl
theorem q1144 : (Jvm.Cond.laysFinal "SwallowSurveyModel" "SwallowSurveyModel" "pile" "[I") ∈ lw_all := lw_g (lw_at lw_m5 103 rfl) rfl
theorem q1145 : (Jvm.Cond.soleField "SwallowSurveyModel" "pile") ∈ lw_all := lw_g (lw_at lw_m5 104 rfl) rfl
theorem q1146 : (Jvm.Cond.laysFinal "SwallowSurveyModel" "SwallowSurveyModel" "facts" "[I") ∈ lw_all := lw_g (lw_at lw_m5 105 rfl) rfl
theorem q1147 : (Jvm.Cond.soleField "SwallowSurveyModel" "facts") ∈ lw_all := lw_g (lw_at lw_m5 106 rfl) rfl
theorem q1148 : (Jvm.Cond.lays "SwallowSurveyModel" "SwallowSurveyModel" "lines" "I") ∈ lw_all := lw_g (lw_at lw_m5 107 rfl) rfl
theorem q1149 : (Jvm.Cond.soleField "SwallowSurveyModel" "lines") ∈ lw_all := lw_g (lw_at lw_m5 108 rfl) rfl
theorem q1150 : (Jvm.Cond.lays "SwallowSurveyModel" "SwallowSurveyModel" "steps" "I") ∈ lw_all := lw_g (lw_at lw_m5 109 rfl) rfl
theorem q1151 : (Jvm.Cond.soleField "SwallowSurveyModel" "steps") ∈ lw_all := lw_g (lw_at lw_m5 110 rfl) rfl
theorem q1152 : (Jvm.Cond.lays "SwallowSurveyModel" "SwallowSurveyModel" "taped" "I") ∈ lw_all := lw_g (lw_at lw_m5 111 rfl) rfl
theorem q1153 : (Jvm.Cond.soleField "SwallowSurveyModel" "taped") ∈ lw_all := lw_g (lw_at lw_m5 112 rfl) rfl
theorem q1154 : (Jvm.Cond.lays "SwallowSurveyModel" "SwallowSurveyModel" "at" "I") ∈ lw_all := lw_g (lw_at lw_m5 113 rfl) rfl
theorem q1155 : (Jvm.Cond.soleField "SwallowSurveyModel" "at") ∈ lw_all := lw_g (lw_at lw_m5 114 rfl) rfl
theorem q1156 : (Jvm.Cond.lays "SwallowSurveyModel" "SwallowSurveyModel" "token" "I") ∈ lw_all := lw_g (lw_at lw_m5 115 rfl) rfl
theorem q1157 : (Jvm.Cond.soleField "SwallowSurveyModel" "token") ∈ lw_all := lw_g (lw_at lw_m5 116 rfl) rfl
theorem q1158 : (Jvm.Cond.lays "SwallowSurveyModel" "SwallowSurveyModel" "tokenAt" "I") ∈ lw_all := lw_g (lw_at lw_m5 117 rfl) rfl
theorem q1159 : (Jvm.Cond.soleField "SwallowSurveyModel" "tokenAt") ∈ lw_all := lw_g (lw_at lw_m5 118 rfl) rfl
theorem q1160 : (Jvm.Cond.lays "SwallowSurveyModel" "SwallowSurveyModel" "value" "I") ∈ lw_all := lw_g (lw_at lw_m5 119 rfl) rfl
theorem q1161 : (Jvm.Cond.soleField "SwallowSurveyModel" "value") ∈ lw_all := lw_g (lw_at lw_m5 120 rfl) rfl
theorem q1162 : (Jvm.Cond.lays "SwallowSurveyModel" "SwallowSurveyModel" "wrong" "I") ∈ lw_all := lw_g (lw_at lw_m5 121 rfl) rfl
theorem q1163 : (Jvm.Cond.soleField "SwallowSurveyModel" "wrong") ∈ lw_all := lw_g (lw_at lw_m5 122 rfl) rfl
theorem q1164 : (Jvm.Cond.lays "SwallowSurveyModel" "SwallowSurveyModel" "wrongAt" "I") ∈ lw_all := lw_g (lw_at lw_m5 123 rfl) rfl
theorem q1165 : (Jvm.Cond.soleField "SwallowSurveyModel" "wrongAt") ∈ lw_all := lw_g (lw_at lw_m5 124 rfl) rfl
theorem q1166 : (Jvm.Cond.lays "SwallowSurveyModel" "SwallowSurveyModel" "faultKind" "I") ∈ lw_all := lw_g (lw_at lw_m5 125 rfl) rfl
theorem q1167 : (Jvm.Cond.soleField "SwallowSurveyModel" "faultKind") ∈ lw_all := lw_g (lw_at lw_m5 126 rfl) rfl
theorem q1168 : (Jvm.Cond.lays "SwallowSurveyModel" "SwallowSurveyModel" "depth" "I") ∈ lw_all := lw_g (lw_at lw_m5 127 rfl) rfl
theorem q1169 : (Jvm.Cond.soleField "SwallowSurveyModel" "depth") ∈ lw_all := lw_g (lw_at lw_m5 128 rfl) rfl
theorem q1170 : (Jvm.Cond.lays "SwallowSurveyModel" "SwallowSurveyModel" "faultPlace" "I") ∈ lw_all := lw_g (lw_at lw_m5 129 rfl) rfl
theorem q1171 : (Jvm.Cond.soleField "SwallowSurveyModel" "faultPlace") ∈ lw_all := lw_g (lw_at lw_m5 130 rfl) rfl
theorem q1172 : (Jvm.Cond.laysFinal "SwallowSurveyModel" "SwallowSurveyModel" "endX" "[I") ∈ lw_all := lw_g (lw_at lw_m5 131 rfl) rfl
theorem q1173 : (Jvm.Cond.soleField "SwallowSurveyModel" "endX") ∈ lw_all := lw_g (lw_at lw_m5 132 rfl) rfl
theorem q1174 : (Jvm.Cond.laysFinal "SwallowSurveyModel" "SwallowSurveyModel" "endY" "[I") ∈ lw_all := lw_g (lw_at lw_m5 133 rfl) rfl
theorem q1175 : (Jvm.Cond.soleField "SwallowSurveyModel" "endY") ∈ lw_all := lw_g (lw_at lw_m5 134 rfl) rfl
theorem q1176 : (Jvm.Cond.laysFinal "SwallowSurveyModel" "SwallowSurveyModel" "endSteps" "[I") ∈ lw_all := lw_g (lw_at lw_m5 135 rfl) rfl
theorem q1177 : (Jvm.Cond.soleField "SwallowSurveyModel" "endSteps") ∈ lw_all := lw_g (lw_at lw_m5 136 rfl) rfl
theorem q1178 : (Jvm.Cond.laysFinal "SwallowSurveyModel" "SwallowSurveyModel" "endHeading" "[I") ∈ lw_all := lw_g (lw_at lw_m5 137 rfl) rfl
theorem q1179 : (Jvm.Cond.soleField "SwallowSurveyModel" "endHeading") ∈ lw_all := lw_g (lw_at lw_m5 138 rfl) rfl
theorem q1180 : (Jvm.Cond.laysFinal "SwallowSurveyModel" "SwallowSurveyModel" "name" "[I") ∈ lw_all := lw_g (lw_at lw_m5 139 rfl) rfl
theorem q1181 : (Jvm.Cond.soleField "SwallowSurveyModel" "name") ∈ lw_all := lw_g (lw_at lw_m5 140 rfl) rfl
theorem q1182 : (Jvm.Cond.laysFinal "SwallowSurveyModel" "SwallowSurveyModel" "queue" "[I") ∈ lw_all := lw_g (lw_at lw_m5 141 rfl) rfl
theorem q1183 : (Jvm.Cond.soleField "SwallowSurveyModel" "queue") ∈ lw_all := lw_g (lw_at lw_m5 142 rfl) rfl
theorem q1184 : (Jvm.Cond.lays "SwallowSurveyModel" "SwallowSurveyModel" "counties" "I") ∈ lw_all := lw_g (lw_at lw_m5 143 rfl) rfl
theorem q1185 : (Jvm.Cond.soleField "SwallowSurveyModel" "counties") ∈ lw_all := lw_g (lw_at lw_m5 144 rfl) rfl
theorem q1186 : (Jvm.Cond.lays "SwallowSurveyModel" "SwallowSurveyModel" "bestPrice" "I") ∈ lw_all := lw_g (lw_at lw_m5 145 rfl) rfl
theorem q1187 : (Jvm.Cond.soleField "SwallowSurveyModel" "bestPrice") ∈ lw_all := lw_g (lw_at lw_m5 146 rfl) rfl
theorem q1188 : (Jvm.Cond.lays "SwallowSurveyModel" "SwallowSurveyModel" "bestMany" "I") ∈ lw_all := lw_g (lw_at lw_m5 147 rfl) rfl
theorem q1189 : (Jvm.Cond.soleField "SwallowSurveyModel" "bestMany") ∈ lw_all := lw_g (lw_at lw_m5 148 rfl) rfl
theorem q1190 : (Jvm.Cond.lays "SwallowSurveyModel" "SwallowSurveyModel" "bestOne" "I") ∈ lw_all := lw_g (lw_at lw_m5 149 rfl) rfl
theorem q1191 : (Jvm.Cond.soleField "SwallowSurveyModel" "bestOne") ∈ lw_all := lw_g (lw_at lw_m5 150 rfl) rfl
theorem q1192 : (Jvm.Cond.lays "SwallowSurveyModel" "SwallowSurveyModel" "bestOther" "I") ∈ lw_all := lw_g (lw_at lw_m5 151 rfl) rfl
theorem q1193 : (Jvm.Cond.soleField "SwallowSurveyModel" "bestOther") ∈ lw_all := lw_g (lw_at lw_m5 152 rfl) rfl
theorem q1194 : (Jvm.Cond.laysFinal "SwallowSurveyModel" "SwallowSurveyModel" "flow" "[I") ∈ lw_all := lw_g (lw_at lw_m5 153 rfl) rfl
theorem q1195 : (Jvm.Cond.soleField "SwallowSurveyModel" "flow") ∈ lw_all := lw_g (lw_at lw_m5 154 rfl) rfl
theorem q1196 : (Jvm.Cond.laysFinal "SwallowSurveyModel" "SwallowSurveyModel" "cameBy" "[I") ∈ lw_all := lw_g (lw_at lw_m5 155 rfl) rfl
theorem q1197 : (Jvm.Cond.soleField "SwallowSurveyModel" "cameBy") ∈ lw_all := lw_g (lw_at lw_m5 156 rfl) rfl
theorem q1198 : (Jvm.Cond.superclass "SwallowSurveyModel" "java/lang/Object") ∈ lw_all := lw_g (lw_at lw_m5 157 rfl) rfl
theorem q1200 : (Jvm.Cond.instanceMethod ({ cls := "SwallowSurveyModel", name := "state", desc := "(I)I" } : Jvm.MethodName)) ∈ lw_all := lw_g (lw_at lw_m5 159 rfl) rfl
theorem q1201 : (Jvm.Cond.selects "SwallowSurveyModel" ({ cls := "SwallowSurveyModel", name := "state", desc := "(I)I" } : Jvm.MethodName) ({ cls := "SwallowSurveyModel", name := "state", desc := "(I)I" } : Jvm.MethodName)) ∈ lw_all := lw_g (lw_at lw_m5 160 rfl) rfl
theorem q1202 : (Jvm.Cond.code ({ cls := "SwallowSurveyModel", name := "state", desc := "(I)I" } : Jvm.MethodName) prog_14_method_8_code (3 : Nat) (Option.some Jvm.ClassFile.FieldType.int)) ∈ lw_all := lw_g (lw_at lw_m5 161 rfl) rfl
theorem q1204 : (Jvm.Cond.instanceMethod ({ cls := "SwallowSurveyModel", name := "land", desc := "(II)Z" } : Jvm.MethodName)) ∈ lw_all := lw_g (lw_at lw_m5 163 rfl) rfl
theorem q1205 : (Jvm.Cond.selects "SwallowSurveyModel" ({ cls := "SwallowSurveyModel", name := "land", desc := "(II)Z" } : Jvm.MethodName) ({ cls := "SwallowSurveyModel", name := "land", desc := "(II)Z" } : Jvm.MethodName)) ∈ lw_all := lw_g (lw_at lw_m5 164 rfl) rfl
theorem q1206 : (Jvm.Cond.code ({ cls := "SwallowSurveyModel", name := "land", desc := "(II)Z" } : Jvm.MethodName) prog_14_method_10_code (3 : Nat) (Option.some Jvm.ClassFile.FieldType.boolean)) ∈ lw_all := lw_g (lw_at lw_m5 165 rfl) rfl
theorem q1207 : (Jvm.Cond.methodLink "SwallowSurveyModel" (75 : Nat) ({ cls := "SwallowSurveyModel", name := "isIn", desc := "(III)Z" } : Jvm.MethodName)) ∈ lw_all := lw_g (lw_at lw_m5 166 rfl) rfl
theorem q1208 : (Jvm.Cond.static ({ cls := "SwallowSurveyModel", name := "isIn", desc := "(III)Z" } : Jvm.MethodName)) ∈ lw_all := lw_g (lw_at lw_m5 167 rfl) rfl
theorem q1209 : (Jvm.Cond.code ({ cls := "SwallowSurveyModel", name := "isIn", desc := "(III)Z" } : Jvm.MethodName) prog_14_method_4_code (3 : Nat) (Option.some Jvm.ClassFile.FieldType.boolean)) ∈ lw_all := lw_g (lw_at lw_m5 168 rfl) rfl
theorem q1211 : (Jvm.Cond.instanceMethod ({ cls := "SwallowSurveyModel", name := "tell", desc := "(III)Z" } : Jvm.MethodName)) ∈ lw_all := lw_g (lw_at lw_m5 170 rfl) rfl
theorem q1212 : (Jvm.Cond.selects "SwallowSurveyModel" ({ cls := "SwallowSurveyModel", name := "tell", desc := "(III)Z" } : Jvm.MethodName) ({ cls := "SwallowSurveyModel", name := "tell", desc := "(III)Z" } : Jvm.MethodName)) ∈ lw_all := lw_g (lw_at lw_m5 171 rfl) rfl
theorem q1213 : (Jvm.Cond.code ({ cls := "SwallowSurveyModel", name := "tell", desc := "(III)Z" } : Jvm.MethodName) prog_14_method_11_code (4 : Nat) (Option.some Jvm.ClassFile.FieldType.boolean)) ∈ lw_all := lw_g (lw_at lw_m5 172 rfl) rfl
theorem q1214 : (Jvm.Cond.methodLink "SwallowSurveyModel" (85 : Nat) ({ cls := "SwallowSurveyModel", name := "isCell", desc := "(I)Z" } : Jvm.MethodName)) ∈ lw_all := lw_g (lw_at lw_m5 173 rfl) rfl
theorem q1215 : (Jvm.Cond.privateMethod ({ cls := "SwallowSurveyModel", name := "isCell", desc := "(I)Z" } : Jvm.MethodName)) ∈ lw_tbl := lw_at lw_m5 174 rfl
theorem q1216 : (Jvm.Cond.instanceMethod ({ cls := "SwallowSurveyModel", name := "isCell", desc := "(I)Z" } : Jvm.MethodName)) ∈ lw_all := lw_g (lw_at lw_m5 175 rfl) rfl
theorem q1217 : (Jvm.Cond.code ({ cls := "SwallowSurveyModel", name := "isCell", desc := "(I)Z" } : Jvm.MethodName) prog_14_method_6_code (2 : Nat) (Option.some Jvm.ClassFile.FieldType.boolean)) ∈ lw_all := lw_g (lw_at lw_m5 176 rfl) rfl
theorem q1218 : (Jvm.Cond.methodLink "SwallowSurveyModel" (79 : Nat) ({ cls := "SwallowSurveyModel", name := "isPlace", desc := "(II)Z" } : Jvm.MethodName)) ∈ lw_all := lw_g (lw_at lw_m5 177 rfl) rfl
theorem q1219 : (Jvm.Cond.privateMethod ({ cls := "SwallowSurveyModel", name := "isPlace", desc := "(II)Z" } : Jvm.MethodName)) ∈ lw_tbl := lw_at lw_m5 178 rfl
theorem q1220 : (Jvm.Cond.instanceMethod ({ cls := "SwallowSurveyModel", name := "isPlace", desc := "(II)Z" } : Jvm.MethodName)) ∈ lw_all := lw_g (lw_at lw_m5 179 rfl) rfl
theorem q1221 : (Jvm.Cond.code ({ cls := "SwallowSurveyModel", name := "isPlace", desc := "(II)Z" } : Jvm.MethodName) prog_14_method_5_code (3 : Nat) (Option.some Jvm.ClassFile.FieldType.boolean)) ∈ lw_all := lw_g (lw_at lw_m5 180 rfl) rfl
theorem q1223 : (Jvm.Cond.instanceMethod ({ cls := "SwallowSurveyModel", name := "dig", desc := "(I)Z" } : Jvm.MethodName)) ∈ lw_all := lw_g (lw_at lw_m5 182 rfl) rfl
theorem q1224 : (Jvm.Cond.selects "SwallowSurveyModel" ({ cls := "SwallowSurveyModel", name := "dig", desc := "(I)Z" } : Jvm.MethodName) ({ cls := "SwallowSurveyModel", name := "dig", desc := "(I)Z" } : Jvm.MethodName)) ∈ lw_all := lw_g (lw_at lw_m5 183 rfl) rfl
theorem q1225 : (Jvm.Cond.code ({ cls := "SwallowSurveyModel", name := "dig", desc := "(I)Z" } : Jvm.MethodName) prog_14_method_13_code (2 : Nat) (Option.some Jvm.ClassFile.FieldType.boolean)) ∈ lw_all := lw_g (lw_at lw_m5 184 rfl) rfl
theorem q1226 : (Jvm.Cond.methodLink "SwallowSurveyModel" (89 : Nat) ({ cls := "SwallowSurveyModel", name := "keeps", desc := "(I)V" } : Jvm.MethodName)) ∈ lw_all := lw_g (lw_at lw_m5 185 rfl) rfl
theorem q1227 : (Jvm.Cond.privateMethod ({ cls := "SwallowSurveyModel", name := "keeps", desc := "(I)V" } : Jvm.MethodName)) ∈ lw_tbl := lw_at lw_m5 186 rfl
theorem q1228 : (Jvm.Cond.instanceMethod ({ cls := "SwallowSurveyModel", name := "keeps", desc := "(I)V" } : Jvm.MethodName)) ∈ lw_all := lw_g (lw_at lw_m5 187 rfl) rfl
theorem q1229 : (Jvm.Cond.code ({ cls := "SwallowSurveyModel", name := "keeps", desc := "(I)V" } : Jvm.MethodName) prog_14_method_12_code (3 : Nat) (Option.none : Option Jvm.ClassFile.FieldType)) ∈ lw_all := lw_g (lw_at lw_m5 188 rfl) rfl
theorem q1231 : (Jvm.Cond.instanceMethod ({ cls := "SwallowSurveyModel", name := "fill", desc := "(I)Z" } : Jvm.MethodName)) ∈ lw_all := lw_g (lw_at lw_m5 190 rfl) rfl
theorem q1232 : (Jvm.Cond.selects "SwallowSurveyModel" ({ cls := "SwallowSurveyModel", name := "fill", desc := "(I)Z" } : Jvm.MethodName) ({ cls := "SwallowSurveyModel", name := "fill", desc := "(I)Z" } : Jvm.MethodName)) ∈ lw_all := lw_g (lw_at lw_m5 191 rfl) rfl
theorem q1233 : (Jvm.Cond.code ({ cls := "SwallowSurveyModel", name := "fill", desc := "(I)Z" } : Jvm.MethodName) prog_14_method_14_code (2 : Nat) (Option.some Jvm.ClassFile.FieldType.boolean)) ∈ lw_all := lw_g (lw_at lw_m5 192 rfl) rfl
theorem q1235 : (Jvm.Cond.instanceMethod ({ cls := "SwallowSurveyModel", name := "undo", desc := "()Z" } : Jvm.MethodName)) ∈ lw_all := lw_g (lw_at lw_m5 194 rfl) rfl
theorem q1236 : (Jvm.Cond.selects "SwallowSurveyModel" ({ cls := "SwallowSurveyModel", name := "undo", desc := "()Z" } : Jvm.MethodName) ({ cls := "SwallowSurveyModel", name := "undo", desc := "()Z" } : Jvm.MethodName)) ∈ lw_all := lw_g (lw_at lw_m5 195 rfl) rfl
theorem q1237 : (Jvm.Cond.code ({ cls := "SwallowSurveyModel", name := "undo", desc := "()Z" } : Jvm.MethodName) prog_14_method_15_code (2 : Nat) (Option.some Jvm.ClassFile.FieldType.boolean)) ∈ lw_all := lw_g (lw_at lw_m5 196 rfl) rfl
theorem q1239 : (Jvm.Cond.instanceMethod ({ cls := "SwallowSurveyModel", name := "barn", desc := "(I)Z" } : Jvm.MethodName)) ∈ lw_all := lw_g (lw_at lw_m5 198 rfl) rfl
theorem q1240 : (Jvm.Cond.selects "SwallowSurveyModel" ({ cls := "SwallowSurveyModel", name := "barn", desc := "(I)Z" } : Jvm.MethodName) ({ cls := "SwallowSurveyModel", name := "barn", desc := "(I)Z" } : Jvm.MethodName)) ∈ lw_all := lw_g (lw_at lw_m5 199 rfl) rfl
theorem q1241 : (Jvm.Cond.code ({ cls := "SwallowSurveyModel", name := "barn", desc := "(I)Z" } : Jvm.MethodName) prog_14_method_16_code (2 : Nat) (Option.some Jvm.ClassFile.FieldType.boolean)) ∈ lw_all := lw_g (lw_at lw_m5 200 rfl) rfl
theorem q1243 : (Jvm.Cond.instanceMethod ({ cls := "SwallowSurveyModel", name := "mirror", desc := "(IIZ)Z" } : Jvm.MethodName)) ∈ lw_all := lw_g (lw_at lw_m5 202 rfl) rfl
theorem q1244 : (Jvm.Cond.selects "SwallowSurveyModel" ({ cls := "SwallowSurveyModel", name := "mirror", desc := "(IIZ)Z" } : Jvm.MethodName) ({ cls := "SwallowSurveyModel", name := "mirror", desc := "(IIZ)Z" } : Jvm.MethodName)) ∈ lw_all := lw_g (lw_at lw_m5 203 rfl) rfl
theorem q1245 : (Jvm.Cond.code ({ cls := "SwallowSurveyModel", name := "mirror", desc := "(IIZ)Z" } : Jvm.MethodName) prog_14_method_17_code (4 : Nat) (Option.some Jvm.ClassFile.FieldType.boolean)) ∈ lw_all := lw_g (lw_at lw_m5 204 rfl) rfl
theorem q1246 : (Jvm.Cond.methodLink "SwallowSurveyModel" (93 : Nat) ({ cls := "SwallowSurveyModel", name := "isPoint", desc := "(II)Z" } : Jvm.MethodName)) ∈ lw_all := lw_g (lw_at lw_m5 205 rfl) rfl
theorem q1247 : (Jvm.Cond.privateMethod ({ cls := "SwallowSurveyModel", name := "isPoint", desc := "(II)Z" } : Jvm.MethodName)) ∈ lw_tbl := lw_at lw_m5 206 rfl
theorem q1248 : (Jvm.Cond.instanceMethod ({ cls := "SwallowSurveyModel", name := "isPoint", desc := "(II)Z" } : Jvm.MethodName)) ∈ lw_all := lw_g (lw_at lw_m5 207 rfl) rfl
theorem q1249 : (Jvm.Cond.code ({ cls := "SwallowSurveyModel", name := "isPoint", desc := "(II)Z" } : Jvm.MethodName) prog_14_method_7_code (3 : Nat) (Option.some Jvm.ClassFile.FieldType.boolean)) ∈ lw_all := lw_g (lw_at lw_m5 208 rfl) rfl
theorem q1251 : (Jvm.Cond.instanceMethod ({ cls := "SwallowSurveyModel", name := "nest", desc := "(II)I" } : Jvm.MethodName)) ∈ lw_all := lw_g (lw_at lw_m5 210 rfl) rfl
theorem q1252 : (Jvm.Cond.selects "SwallowSurveyModel" ({ cls := "SwallowSurveyModel", name := "nest", desc := "(II)I" } : Jvm.MethodName) ({ cls := "SwallowSurveyModel", name := "nest", desc := "(II)I" } : Jvm.MethodName)) ∈ lw_all := lw_g (lw_at lw_m5 211 rfl) rfl
theorem q1253 : (Jvm.Cond.code ({ cls := "SwallowSurveyModel", name := "nest", desc := "(II)I" } : Jvm.MethodName) prog_14_method_18_code (3 : Nat) (Option.some Jvm.ClassFile.FieldType.int)) ∈ lw_all := lw_g (lw_at lw_m5 212 rfl) rfl
theorem q1255 : (Jvm.Cond.instanceMethod ({ cls := "SwallowSurveyModel", name := "swallow", desc := "(IIIII)I" } : Jvm.MethodName)) ∈ lw_all := lw_g (lw_at lw_m5 214 rfl) rfl
theorem q1256 : (Jvm.Cond.selects "SwallowSurveyModel" ({ cls := "SwallowSurveyModel", name := "swallow", desc := "(IIIII)I" } : Jvm.MethodName) ({ cls := "SwallowSurveyModel", name := "swallow", desc := "(IIIII)I" } : Jvm.MethodName)) ∈ lw_all := lw_g (lw_at lw_m5 215 rfl) rfl
theorem q1257 : (Jvm.Cond.code ({ cls := "SwallowSurveyModel", name := "swallow", desc := "(IIIII)I" } : Jvm.MethodName) prog_14_method_19_code (7 : Nat) (Option.some Jvm.ClassFile.FieldType.int)) ∈ lw_all := lw_g (lw_at lw_m5 216 rfl) rfl
theorem q1259 : (Jvm.Cond.instanceMethod ({ cls := "SwallowSurveyModel", name := "feed", desc := "(IIIII)I" } : Jvm.MethodName)) ∈ lw_all := lw_g (lw_at lw_m5 218 rfl) rfl
theorem q1260 : (Jvm.Cond.selects "SwallowSurveyModel" ({ cls := "SwallowSurveyModel", name := "feed", desc := "(IIIII)I" } : Jvm.MethodName) ({ cls := "SwallowSurveyModel", name := "feed", desc := "(IIIII)I" } : Jvm.MethodName)) ∈ lw_all := lw_g (lw_at lw_m5 219 rfl) rfl
theorem q1261 : (Jvm.Cond.code ({ cls := "SwallowSurveyModel", name := "feed", desc := "(IIIII)I" } : Jvm.MethodName) prog_14_method_20_code (8 : Nat) (Option.some Jvm.ClassFile.FieldType.int)) ∈ lw_all := lw_g (lw_at lw_m5 220 rfl) rfl
theorem q1263 : (Jvm.Cond.instanceMethod ({ cls := "SwallowSurveyModel", name := "end", desc := "(I)Z" } : Jvm.MethodName)) ∈ lw_all := lw_g (lw_at lw_m5 222 rfl) rfl
theorem q1264 : (Jvm.Cond.selects "SwallowSurveyModel" ({ cls := "SwallowSurveyModel", name := "end", desc := "(I)Z" } : Jvm.MethodName) ({ cls := "SwallowSurveyModel", name := "end", desc := "(I)Z" } : Jvm.MethodName)) ∈ lw_all := lw_g (lw_at lw_m5 223 rfl) rfl
theorem q1265 : (Jvm.Cond.code ({ cls := "SwallowSurveyModel", name := "end", desc := "(I)Z" } : Jvm.MethodName) prog_14_method_21_code (2 : Nat) (Option.some Jvm.ClassFile.FieldType.boolean)) ∈ lw_all := lw_g (lw_at lw_m5 224 rfl) rfl
theorem q1267 : (Jvm.Cond.instanceMethod ({ cls := "SwallowSurveyModel", name := "text", desc := "(I)I" } : Jvm.MethodName)) ∈ lw_all := lw_g (lw_at lw_m5 226 rfl) rfl
theorem q1268 : (Jvm.Cond.selects "SwallowSurveyModel" ({ cls := "SwallowSurveyModel", name := "text", desc := "(I)I" } : Jvm.MethodName) ({ cls := "SwallowSurveyModel", name := "text", desc := "(I)I" } : Jvm.MethodName)) ∈ lw_all := lw_g (lw_at lw_m5 227 rfl) rfl
theorem q1269 : (Jvm.Cond.code ({ cls := "SwallowSurveyModel", name := "text", desc := "(I)I" } : Jvm.MethodName) prog_14_method_40_code (4 : Nat) (Option.some Jvm.ClassFile.FieldType.int)) ∈ lw_all := lw_g (lw_at lw_m5 228 rfl) rfl
theorem q1270 : (Jvm.Cond.methodLink "SwallowSurveyModel" (185 : Nat) ({ cls := "SwallowSurveyModel", name := "next0", desc := "()V" } : Jvm.MethodName)) ∈ lw_all := lw_g (lw_at lw_m5 229 rfl) rfl
theorem q1271 : (Jvm.Cond.privateMethod ({ cls := "SwallowSurveyModel", name := "next0", desc := "()V" } : Jvm.MethodName)) ∈ lw_tbl := lw_at lw_m5 230 rfl
theorem q1272 : (Jvm.Cond.instanceMethod ({ cls := "SwallowSurveyModel", name := "next0", desc := "()V" } : Jvm.MethodName)) ∈ lw_all := lw_g (lw_at lw_m5 231 rfl) rfl
theorem q1273 : (Jvm.Cond.code ({ cls := "SwallowSurveyModel", name := "next0", desc := "()V" } : Jvm.MethodName) prog_14_method_28_code (3 : Nat) (Option.none : Option Jvm.ClassFile.FieldType)) ∈ lw_all := lw_g (lw_at lw_m5 232 rfl) rfl
theorem q1274 : (Jvm.Cond.methodLink "SwallowSurveyModel" (157 : Nat) ({ cls := "SwallowSurveyModel", name := "see", desc := "(I)I" } : Jvm.MethodName)) ∈ lw_all := lw_g (lw_at lw_m5 233 rfl) rfl
theorem q1275 : (Jvm.Cond.privateMethod ({ cls := "SwallowSurveyModel", name := "see", desc := "(I)I" } : Jvm.MethodName)) ∈ lw_tbl := lw_at lw_m5 234 rfl
theorem q1276 : (Jvm.Cond.instanceMethod ({ cls := "SwallowSurveyModel", name := "see", desc := "(I)I" } : Jvm.MethodName)) ∈ lw_all := lw_g (lw_at lw_m5 235 rfl) rfl
theorem q1277 : (Jvm.Cond.code ({ cls := "SwallowSurveyModel", name := "see", desc := "(I)I" } : Jvm.MethodName) prog_14_method_22_code (2 : Nat) (Option.some Jvm.ClassFile.FieldType.int)) ∈ lw_all := lw_g (lw_at lw_m5 236 rfl) rfl
theorem q1278 : (Jvm.Cond.methodLink "SwallowSurveyModel" (164 : Nat) ({ cls := "SwallowSurveyModel", name := "isLetter", desc := "(I)Z" } : Jvm.MethodName)) ∈ lw_all := lw_g (lw_at lw_m5 237 rfl) rfl
theorem q1279 : (Jvm.Cond.static ({ cls := "SwallowSurveyModel", name := "isLetter", desc := "(I)Z" } : Jvm.MethodName)) ∈ lw_all := lw_g (lw_at lw_m5 238 rfl) rfl
theorem q1280 : (Jvm.Cond.code ({ cls := "SwallowSurveyModel", name := "isLetter", desc := "(I)Z" } : Jvm.MethodName) prog_14_method_23_code (1 : Nat) (Option.some Jvm.ClassFile.FieldType.boolean)) ∈ lw_all := lw_g (lw_at lw_m5 239 rfl) rfl
theorem q1281 : (Jvm.Cond.methodLink "SwallowSurveyModel" (167 : Nat) ({ cls := "SwallowSurveyModel", name := "word", desc := "()I" } : Jvm.MethodName)) ∈ lw_all := lw_g (lw_at lw_m6 0 rfl) rfl
theorem q1282 : (Jvm.Cond.privateMethod ({ cls := "SwallowSurveyModel", name := "word", desc := "()I" } : Jvm.MethodName)) ∈ lw_tbl := lw_at lw_m6 1 rfl
theorem q1283 : (Jvm.Cond.instanceMethod ({ cls := "SwallowSurveyModel", name := "word", desc := "()I" } : Jvm.MethodName)) ∈ lw_all := lw_g (lw_at lw_m6 2 rfl) rfl
theorem q1284 : (Jvm.Cond.code ({ cls := "SwallowSurveyModel", name := "word", desc := "()I" } : Jvm.MethodName) prog_14_method_27_code (1 : Nat) (Option.some Jvm.ClassFile.FieldType.int)) ∈ lw_all := lw_g (lw_at lw_m6 3 rfl) rfl
theorem q1285 : (Jvm.Cond.stringRef "SwallowSurveyModel" (137 : Nat) "when") ∈ lw_tbl := lw_at lw_m6 4 rfl
theorem q1286 : (Jvm.Cond.methodLink "SwallowSurveyModel" (117 : Nat) ({ cls := "SwallowSurveyModel", name := "is", desc := "(Ljava/lang/String;)Z" } : Jvm.MethodName)) ∈ lw_all := lw_g (lw_at lw_m6 5 rfl) rfl
theorem q1287 : (Jvm.Cond.privateMethod ({ cls := "SwallowSurveyModel", name := "is", desc := "(Ljava/lang/String;)Z" } : Jvm.MethodName)) ∈ lw_tbl := lw_at lw_m6 6 rfl
theorem q1288 : (Jvm.Cond.instanceMethod ({ cls := "SwallowSurveyModel", name := "is", desc := "(Ljava/lang/String;)Z" } : Jvm.MethodName)) ∈ lw_all := lw_g (lw_at lw_m6 7 rfl) rfl
theorem q1289 : (Jvm.Cond.code ({ cls := "SwallowSurveyModel", name := "is", desc := "(Ljava/lang/String;)Z" } : Jvm.MethodName) prog_14_method_25_code (4 : Nat) (Option.some Jvm.ClassFile.FieldType.boolean)) ∈ lw_all := lw_g (lw_at lw_m6 8 rfl) rfl
theorem q1290 : (Jvm.Cond.methodLink "SwallowSurveyModel" (105 : Nat) ({ cls := "java/lang/String", name := "length", desc := "()I" } : Jvm.MethodName)) ∈ lw_all := lw_g (lw_at lw_m6 9 rfl) rfl
theorem q1291 : (Jvm.Cond.methodLink "SwallowSurveyModel" (111 : Nat) ({ cls := "java/lang/String", name := "charAt", desc := "(I)C" } : Jvm.MethodName)) ∈ lw_all := lw_g (lw_at lw_m6 10 rfl) rfl
theorem q1292 : (Jvm.Cond.stringRef "SwallowSurveyModel" (139 : Nat) "or") ∈ lw_tbl := lw_at lw_m6 11 rfl
theorem q1293 : (Jvm.Cond.stringRef "SwallowSurveyModel" (141 : Nat) "and") ∈ lw_tbl := lw_at lw_m6 12 rfl
theorem q1294 : (Jvm.Cond.stringRef "SwallowSurveyModel" (143 : Nat) "not") ∈ lw_tbl := lw_at lw_m6 13 rfl
theorem q1295 : (Jvm.Cond.stringRef "SwallowSurveyModel" (145 : Nat) "ahead") ∈ lw_tbl := lw_at lw_m6 14 rfl
theorem q1296 : (Jvm.Cond.stringRef "SwallowSurveyModel" (147 : Nat) "left") ∈ lw_tbl := lw_at lw_m6 15 rfl
theorem q1297 : (Jvm.Cond.stringRef "SwallowSurveyModel" (149 : Nat) "right") ∈ lw_tbl := lw_at lw_m6 16 rfl
theorem q1298 : (Jvm.Cond.stringRef "SwallowSurveyModel" (151 : Nat) "back") ∈ lw_tbl := lw_at lw_m6 17 rfl
theorem q1299 : (Jvm.Cond.stringRef "SwallowSurveyModel" (152 : Nat) "stop") ∈ lw_tbl := lw_at lw_m6 18 rfl
theorem q1300 : (Jvm.Cond.methodLink "SwallowSurveyModel" (154 : Nat) ({ cls := "SwallowSurveyModel", name := "nameWord", desc := "()I" } : Jvm.MethodName)) ∈ lw_all := lw_g (lw_at lw_m6 19 rfl) rfl
theorem q1301 : (Jvm.Cond.privateMethod ({ cls := "SwallowSurveyModel", name := "nameWord", desc := "()I" } : Jvm.MethodName)) ∈ lw_tbl := lw_at lw_m6 20 rfl
theorem q1302 : (Jvm.Cond.instanceMethod ({ cls := "SwallowSurveyModel", name := "nameWord", desc := "()I" } : Jvm.MethodName)) ∈ lw_all := lw_g (lw_at lw_m6 21 rfl) rfl
theorem q1303 : (Jvm.Cond.code ({ cls := "SwallowSurveyModel", name := "nameWord", desc := "()I" } : Jvm.MethodName) prog_14_method_26_code (1 : Nat) (Option.some Jvm.ClassFile.FieldType.int)) ∈ lw_all := lw_g (lw_at lw_m6 22 rfl) rfl
theorem q1304 : (Jvm.Cond.stringRef "SwallowSurveyModel" (115 : Nat) "fl") ∈ lw_tbl := lw_at lw_m6 23 rfl
theorem q1305 : (Jvm.Cond.stringRef "SwallowSurveyModel" (121 : Nat) "fr") ∈ lw_tbl := lw_at lw_m6 24 rfl
theorem q1306 : (Jvm.Cond.stringRef "SwallowSurveyModel" (123 : Nat) "pl") ∈ lw_tbl := lw_at lw_m6 25 rfl
theorem q1307 : (Jvm.Cond.stringRef "SwallowSurveyModel" (125 : Nat) "pr") ∈ lw_tbl := lw_at lw_m6 26 rfl
theorem q1308 : (Jvm.Cond.stringRef "SwallowSurveyModel" (127 : Nat) "thread") ∈ lw_tbl := lw_at lw_m6 27 rfl
theorem q1309 : (Jvm.Cond.stringRef "SwallowSurveyModel" (129 : Nat) "rim") ∈ lw_tbl := lw_at lw_m6 28 rfl
theorem q1310 : (Jvm.Cond.stringRef "SwallowSurveyModel" (131 : Nat) "step") ∈ lw_tbl := lw_at lw_m6 29 rfl
theorem q1311 : (Jvm.Cond.stringRef "SwallowSurveyModel" (133 : Nat) "rest") ∈ lw_tbl := lw_at lw_m6 30 rfl
theorem q1312 : (Jvm.Cond.stringRef "SwallowSurveyModel" (135 : Nat) "swallow") ∈ lw_tbl := lw_at lw_m6 31 rfl
theorem q1313 : (Jvm.Cond.methodLink "SwallowSurveyModel" (170 : Nat) ({ cls := "SwallowSurveyModel", name := "isDigit", desc := "(I)Z" } : Jvm.MethodName)) ∈ lw_all := lw_g (lw_at lw_m6 32 rfl) rfl
theorem q1314 : (Jvm.Cond.static ({ cls := "SwallowSurveyModel", name := "isDigit", desc := "(I)Z" } : Jvm.MethodName)) ∈ lw_all := lw_g (lw_at lw_m6 33 rfl) rfl
theorem q1315 : (Jvm.Cond.code ({ cls := "SwallowSurveyModel", name := "isDigit", desc := "(I)Z" } : Jvm.MethodName) prog_14_method_24_code (1 : Nat) (Option.some Jvm.ClassFile.FieldType.boolean)) ∈ lw_all := lw_g (lw_at lw_m6 34 rfl) rfl
theorem q1316 : (Jvm.Cond.methodLink "SwallowSurveyModel" (228 : Nat) ({ cls := "SwallowSurveyModel", name := "aLine", desc := "()Z" } : Jvm.MethodName)) ∈ lw_all := lw_g (lw_at lw_m6 35 rfl) rfl
theorem q1317 : (Jvm.Cond.privateMethod ({ cls := "SwallowSurveyModel", name := "aLine", desc := "()Z" } : Jvm.MethodName)) ∈ lw_tbl := lw_at lw_m6 36 rfl
theorem q1318 : (Jvm.Cond.instanceMethod ({ cls := "SwallowSurveyModel", name := "aLine", desc := "()Z" } : Jvm.MethodName)) ∈ lw_all := lw_g (lw_at lw_m6 37 rfl) rfl
theorem q1319 : (Jvm.Cond.code ({ cls := "SwallowSurveyModel", name := "aLine", desc := "()Z" } : Jvm.MethodName) prog_14_method_39_code (1 : Nat) (Option.some Jvm.ClassFile.FieldType.boolean)) ∈ lw_all := lw_g (lw_at lw_m6 38 rfl) rfl
theorem q1320 : (Jvm.Cond.methodLink "SwallowSurveyModel" (182 : Nat) ({ cls := "SwallowSurveyModel", name := "bad", desc := "(I)Z" } : Jvm.MethodName)) ∈ lw_all := lw_g (lw_at lw_m6 39 rfl) rfl
theorem q1321 : (Jvm.Cond.privateMethod ({ cls := "SwallowSurveyModel", name := "bad", desc := "(I)Z" } : Jvm.MethodName)) ∈ lw_tbl := lw_at lw_m6 40 rfl
theorem q1322 : (Jvm.Cond.instanceMethod ({ cls := "SwallowSurveyModel", name := "bad", desc := "(I)Z" } : Jvm.MethodName)) ∈ lw_all := lw_g (lw_at lw_m6 41 rfl) rfl
theorem q1323 : (Jvm.Cond.code ({ cls := "SwallowSurveyModel", name := "bad", desc := "(I)Z" } : Jvm.MethodName) prog_14_method_29_code (2 : Nat) (Option.some Jvm.ClassFile.FieldType.boolean)) ∈ lw_all := lw_g (lw_at lw_m6 42 rfl) rfl
theorem q1324 : (Jvm.Cond.methodLink "SwallowSurveyModel" (213 : Nat) ({ cls := "SwallowSurveyModel", name := "any", desc := "()Z" } : Jvm.MethodName)) ∈ lw_all := lw_g (lw_at lw_m6 43 rfl) rfl
theorem q1325 : (Jvm.Cond.privateMethod ({ cls := "SwallowSurveyModel", name := "any", desc := "()Z" } : Jvm.MethodName)) ∈ lw_tbl := lw_at lw_m6 44 rfl
theorem q1326 : (Jvm.Cond.instanceMethod ({ cls := "SwallowSurveyModel", name := "any", desc := "()Z" } : Jvm.MethodName)) ∈ lw_all := lw_g (lw_at lw_m6 45 rfl) rfl
theorem q1327 : (Jvm.Cond.code ({ cls := "SwallowSurveyModel", name := "any", desc := "()Z" } : Jvm.MethodName) prog_14_method_36_code (1 : Nat) (Option.some Jvm.ClassFile.FieldType.boolean)) ∈ lw_all := lw_g (lw_at lw_m6 46 rfl) rfl
theorem q1328 : (Jvm.Cond.methodLink "SwallowSurveyModel" (204 : Nat) ({ cls := "SwallowSurveyModel", name := "every", desc := "()Z" } : Jvm.MethodName)) ∈ lw_all := lw_g (lw_at lw_m6 47 rfl) rfl
theorem q1329 : (Jvm.Cond.privateMethod ({ cls := "SwallowSurveyModel", name := "every", desc := "()Z" } : Jvm.MethodName)) ∈ lw_tbl := lw_at lw_m6 48 rfl
theorem q1330 : (Jvm.Cond.instanceMethod ({ cls := "SwallowSurveyModel", name := "every", desc := "()Z" } : Jvm.MethodName)) ∈ lw_all := lw_g (lw_at lw_m6 49 rfl) rfl
theorem q1331 : (Jvm.Cond.code ({ cls := "SwallowSurveyModel", name := "every", desc := "()Z" } : Jvm.MethodName) prog_14_method_37_code (1 : Nat) (Option.some Jvm.ClassFile.FieldType.boolean)) ∈ lw_all := lw_g (lw_at lw_m6 50 rfl) rfl
theorem q1332 : (Jvm.Cond.methodLink "SwallowSurveyModel" (207 : Nat) ({ cls := "SwallowSurveyModel", name := "oneTest", desc := "()Z" } : Jvm.MethodName)) ∈ lw_all := lw_g (lw_at lw_m6 51 rfl) rfl
theorem q1333 : (Jvm.Cond.privateMethod ({ cls := "SwallowSurveyModel", name := "oneTest", desc := "()Z" } : Jvm.MethodName)) ∈ lw_tbl := lw_at lw_m6 52 rfl
theorem q1334 : (Jvm.Cond.instanceMethod ({ cls := "SwallowSurveyModel", name := "oneTest", desc := "()Z" } : Jvm.MethodName)) ∈ lw_all := lw_g (lw_at lw_m6 53 rfl) rfl
theorem q1335 : (Jvm.Cond.code ({ cls := "SwallowSurveyModel", name := "oneTest", desc := "()Z" } : Jvm.MethodName) prog_14_method_38_code (2 : Nat) (Option.some Jvm.ClassFile.FieldType.boolean)) ∈ lw_all := lw_g (lw_at lw_m6 54 rfl) rfl
theorem q1336 : (Jvm.Cond.methodLink "SwallowSurveyModel" (210 : Nat) ({ cls := "SwallowSurveyModel", name := "opens", desc := "()Z" } : Jvm.MethodName)) ∈ lw_all := lw_g (lw_at lw_m6 55 rfl) rfl
theorem q1337 : (Jvm.Cond.privateMethod ({ cls := "SwallowSurveyModel", name := "opens", desc := "()Z" } : Jvm.MethodName)) ∈ lw_tbl := lw_at lw_m6 56 rfl
theorem q1338 : (Jvm.Cond.instanceMethod ({ cls := "SwallowSurveyModel", name := "opens", desc := "()Z" } : Jvm.MethodName)) ∈ lw_all := lw_g (lw_at lw_m6 57 rfl) rfl
theorem q1339 : (Jvm.Cond.code ({ cls := "SwallowSurveyModel", name := "opens", desc := "()Z" } : Jvm.MethodName) prog_14_method_32_code (1 : Nat) (Option.some Jvm.ClassFile.FieldType.boolean)) ∈ lw_all := lw_g (lw_at lw_m6 58 rfl) rfl
theorem q1340 : (Jvm.Cond.methodLink "SwallowSurveyModel" (198 : Nat) ({ cls := "SwallowSurveyModel", name := "lay", desc := "(II)V" } : Jvm.MethodName)) ∈ lw_all := lw_g (lw_at lw_m6 59 rfl) rfl
theorem q1341 : (Jvm.Cond.privateMethod ({ cls := "SwallowSurveyModel", name := "lay", desc := "(II)V" } : Jvm.MethodName)) ∈ lw_tbl := lw_at lw_m6 60 rfl
theorem q1342 : (Jvm.Cond.instanceMethod ({ cls := "SwallowSurveyModel", name := "lay", desc := "(II)V" } : Jvm.MethodName)) ∈ lw_all := lw_g (lw_at lw_m6 61 rfl) rfl
theorem q1343 : (Jvm.Cond.code ({ cls := "SwallowSurveyModel", name := "lay", desc := "(II)V" } : Jvm.MethodName) prog_14_method_31_code (3 : Nat) (Option.none : Option Jvm.ClassFile.FieldType)) ∈ lw_all := lw_g (lw_at lw_m6 62 rfl) rfl
theorem q1344 : (Jvm.Cond.methodLink "SwallowSurveyModel" (216 : Nat) ({ cls := "SwallowSurveyModel", name := "need", desc := "(I)Z" } : Jvm.MethodName)) ∈ lw_all := lw_g (lw_at lw_m6 63 rfl) rfl
theorem q1345 : (Jvm.Cond.privateMethod ({ cls := "SwallowSurveyModel", name := "need", desc := "(I)Z" } : Jvm.MethodName)) ∈ lw_tbl := lw_at lw_m6 64 rfl
theorem q1346 : (Jvm.Cond.instanceMethod ({ cls := "SwallowSurveyModel", name := "need", desc := "(I)Z" } : Jvm.MethodName)) ∈ lw_all := lw_g (lw_at lw_m6 65 rfl) rfl
theorem q1347 : (Jvm.Cond.code ({ cls := "SwallowSurveyModel", name := "need", desc := "(I)Z" } : Jvm.MethodName) prog_14_method_30_code (2 : Nat) (Option.some Jvm.ClassFile.FieldType.boolean)) ∈ lw_all := lw_g (lw_at lw_m6 66 rfl) rfl
theorem q1348 : (Jvm.Cond.methodLink "SwallowSurveyModel" (219 : Nat) ({ cls := "SwallowSurveyModel", name := "sumUp", desc := "()Z" } : Jvm.MethodName)) ∈ lw_all := lw_g (lw_at lw_m6 67 rfl) rfl
theorem q1349 : (Jvm.Cond.privateMethod ({ cls := "SwallowSurveyModel", name := "sumUp", desc := "()Z" } : Jvm.MethodName)) ∈ lw_tbl := lw_at lw_m6 68 rfl
theorem q1350 : (Jvm.Cond.instanceMethod ({ cls := "SwallowSurveyModel", name := "sumUp", desc := "()Z" } : Jvm.MethodName)) ∈ lw_all := lw_g (lw_at lw_m6 69 rfl) rfl
theorem q1351 : (Jvm.Cond.code ({ cls := "SwallowSurveyModel", name := "sumUp", desc := "()Z" } : Jvm.MethodName) prog_14_method_33_code (2 : Nat) (Option.some Jvm.ClassFile.FieldType.boolean)) ∈ lw_all := lw_g (lw_at lw_m6 70 rfl) rfl
theorem q1352 : (Jvm.Cond.methodLink "SwallowSurveyModel" (194 : Nat) ({ cls := "SwallowSurveyModel", name := "product", desc := "()Z" } : Jvm.MethodName)) ∈ lw_all := lw_g (lw_at lw_m6 71 rfl) rfl
theorem q1353 : (Jvm.Cond.privateMethod ({ cls := "SwallowSurveyModel", name := "product", desc := "()Z" } : Jvm.MethodName)) ∈ lw_tbl := lw_at lw_m6 72 rfl
theorem q1354 : (Jvm.Cond.instanceMethod ({ cls := "SwallowSurveyModel", name := "product", desc := "()Z" } : Jvm.MethodName)) ∈ lw_all := lw_g (lw_at lw_m6 73 rfl) rfl
theorem q1355 : (Jvm.Cond.code ({ cls := "SwallowSurveyModel", name := "product", desc := "()Z" } : Jvm.MethodName) prog_14_method_34_code (3 : Nat) (Option.some Jvm.ClassFile.FieldType.boolean)) ∈ lw_all := lw_g (lw_at lw_m6 74 rfl) rfl
theorem q1356 : (Jvm.Cond.methodLink "SwallowSurveyModel" (201 : Nat) ({ cls := "SwallowSurveyModel", name := "unit", desc := "()Z" } : Jvm.MethodName)) ∈ lw_all := lw_g (lw_at lw_m6 75 rfl) rfl
theorem q1357 : (Jvm.Cond.privateMethod ({ cls := "SwallowSurveyModel", name := "unit", desc := "()Z" } : Jvm.MethodName)) ∈ lw_tbl := lw_at lw_m6 76 rfl
theorem q1358 : (Jvm.Cond.instanceMethod ({ cls := "SwallowSurveyModel", name := "unit", desc := "()Z" } : Jvm.MethodName)) ∈ lw_all := lw_g (lw_at lw_m6 77 rfl) rfl
theorem q1359 : (Jvm.Cond.code ({ cls := "SwallowSurveyModel", name := "unit", desc := "()Z" } : Jvm.MethodName) prog_14_method_35_code (2 : Nat) (Option.some Jvm.ClassFile.FieldType.boolean)) ∈ lw_all := lw_g (lw_at lw_m6 78 rfl) rfl
theorem q1361 : (Jvm.Cond.instanceMethod ({ cls := "SwallowSurveyModel", name := "fault", desc := "(I)I" } : Jvm.MethodName)) ∈ lw_all := lw_g (lw_at lw_m6 80 rfl) rfl
theorem q1362 : (Jvm.Cond.selects "SwallowSurveyModel" ({ cls := "SwallowSurveyModel", name := "fault", desc := "(I)I" } : Jvm.MethodName) ({ cls := "SwallowSurveyModel", name := "fault", desc := "(I)I" } : Jvm.MethodName)) ∈ lw_all := lw_g (lw_at lw_m6 81 rfl) rfl
theorem q1363 : (Jvm.Cond.code ({ cls := "SwallowSurveyModel", name := "fault", desc := "(I)I" } : Jvm.MethodName) prog_14_method_41_code (2 : Nat) (Option.some Jvm.ClassFile.FieldType.int)) ∈ lw_all := lw_g (lw_at lw_m6 82 rfl) rfl
theorem q1365 : (Jvm.Cond.instanceMethod ({ cls := "SwallowSurveyModel", name := "survey", desc := "()I" } : Jvm.MethodName)) ∈ lw_all := lw_g (lw_at lw_m6 84 rfl) rfl
theorem q1366 : (Jvm.Cond.selects "SwallowSurveyModel" ({ cls := "SwallowSurveyModel", name := "survey", desc := "()I" } : Jvm.MethodName) ({ cls := "SwallowSurveyModel", name := "survey", desc := "()I" } : Jvm.MethodName)) ∈ lw_all := lw_g (lw_at lw_m6 85 rfl) rfl
theorem q1367 : (Jvm.Cond.code ({ cls := "SwallowSurveyModel", name := "survey", desc := "()I" } : Jvm.MethodName) prog_14_method_59_code (2 : Nat) (Option.some Jvm.ClassFile.FieldType.int)) ∈ lw_all := lw_g (lw_at lw_m6 86 rfl) rfl
theorem q1368 : (Jvm.Cond.methodLink "SwallowSurveyModel" (287 : Nat) ({ cls := "SwallowSurveyModel", name := "allFly", desc := "()V" } : Jvm.MethodName)) ∈ lw_all := lw_g (lw_at lw_m6 87 rfl) rfl
theorem q1369 : (Jvm.Cond.privateMethod ({ cls := "SwallowSurveyModel", name := "allFly", desc := "()V" } : Jvm.MethodName)) ∈ lw_tbl := lw_at lw_m6 88 rfl
theorem q1370 : (Jvm.Cond.instanceMethod ({ cls := "SwallowSurveyModel", name := "allFly", desc := "()V" } : Jvm.MethodName)) ∈ lw_all := lw_g (lw_at lw_m6 89 rfl) rfl
theorem q1371 : (Jvm.Cond.code ({ cls := "SwallowSurveyModel", name := "allFly", desc := "()V" } : Jvm.MethodName) prog_14_method_55_code (2 : Nat) (Option.none : Option Jvm.ClassFile.FieldType)) ∈ lw_all := lw_g (lw_at lw_m6 90 rfl) rfl
theorem q1372 : (Jvm.Cond.methodLink "SwallowSurveyModel" (275 : Nat) ({ cls := "SwallowSurveyModel", name := "flies", desc := "(I)V" } : Jvm.MethodName)) ∈ lw_all := lw_g (lw_at lw_m6 91 rfl) rfl
theorem q1373 : (Jvm.Cond.privateMethod ({ cls := "SwallowSurveyModel", name := "flies", desc := "(I)V" } : Jvm.MethodName)) ∈ lw_tbl := lw_at lw_m6 92 rfl
theorem q1374 : (Jvm.Cond.instanceMethod ({ cls := "SwallowSurveyModel", name := "flies", desc := "(I)V" } : Jvm.MethodName)) ∈ lw_all := lw_g (lw_at lw_m6 93 rfl) rfl
theorem q1375 : (Jvm.Cond.code ({ cls := "SwallowSurveyModel", name := "flies", desc := "(I)V" } : Jvm.MethodName) prog_14_method_54_code (11 : Nat) (Option.none : Option Jvm.ClassFile.FieldType)) ∈ lw_all := lw_g (lw_at lw_m6 94 rfl) rfl
theorem q1376 : (Jvm.Cond.methodLink "SwallowSurveyModel" (258 : Nat) ({ cls := "SwallowSurveyModel", name := "laysFacts", desc := "(III)V" } : Jvm.MethodName)) ∈ lw_all := lw_g (lw_at lw_m6 95 rfl) rfl
theorem q1377 : (Jvm.Cond.privateMethod ({ cls := "SwallowSurveyModel", name := "laysFacts", desc := "(III)V" } : Jvm.MethodName)) ∈ lw_tbl := lw_at lw_m6 96 rfl
theorem q1378 : (Jvm.Cond.instanceMethod ({ cls := "SwallowSurveyModel", name := "laysFacts", desc := "(III)V" } : Jvm.MethodName)) ∈ lw_all := lw_g (lw_at lw_m6 97 rfl) rfl
theorem q1379 : (Jvm.Cond.code ({ cls := "SwallowSurveyModel", name := "laysFacts", desc := "(III)V" } : Jvm.MethodName) prog_14_method_49_code (9 : Nat) (Option.none : Option Jvm.ClassFile.FieldType)) ∈ lw_all := lw_g (lw_at lw_m6 98 rfl) rfl
theorem q1380 : (Jvm.Cond.methodLink "SwallowSurveyModel" (239 : Nat) ({ cls := "SwallowSurveyModel", name := "aheadX", desc := "(I)I" } : Jvm.MethodName)) ∈ lw_all := lw_g (lw_at lw_m6 99 rfl) rfl
theorem q1381 : (Jvm.Cond.static ({ cls := "SwallowSurveyModel", name := "aheadX", desc := "(I)I" } : Jvm.MethodName)) ∈ lw_all := lw_g (lw_at lw_m6 100 rfl) rfl
theorem q1382 : (Jvm.Cond.code ({ cls := "SwallowSurveyModel", name := "aheadX", desc := "(I)I" } : Jvm.MethodName) prog_14_method_44_code (1 : Nat) (Option.some Jvm.ClassFile.FieldType.int)) ∈ lw_all := lw_g (lw_at lw_m6 101 rfl) rfl
theorem q1383 : (Jvm.Cond.methodLink "SwallowSurveyModel" (242 : Nat) ({ cls := "SwallowSurveyModel", name := "aheadY", desc := "(I)I" } : Jvm.MethodName)) ∈ lw_all := lw_g (lw_at lw_m6 102 rfl) rfl
theorem q1384 : (Jvm.Cond.static ({ cls := "SwallowSurveyModel", name := "aheadY", desc := "(I)I" } : Jvm.MethodName)) ∈ lw_all := lw_g (lw_at lw_m6 103 rfl) rfl
theorem q1385 : (Jvm.Cond.code ({ cls := "SwallowSurveyModel", name := "aheadY", desc := "(I)I" } : Jvm.MethodName) prog_14_method_45_code (1 : Nat) (Option.some Jvm.ClassFile.FieldType.int)) ∈ lw_all := lw_g (lw_at lw_m6 104 rfl) rfl
theorem q1386 : (Jvm.Cond.methodLink "SwallowSurveyModel" (245 : Nat) ({ cls := "SwallowSurveyModel", name := "seenFlies", desc := "(II)I" } : Jvm.MethodName)) ∈ lw_all := lw_g (lw_at lw_m6 105 rfl) rfl
theorem q1387 : (Jvm.Cond.privateMethod ({ cls := "SwallowSurveyModel", name := "seenFlies", desc := "(II)I" } : Jvm.MethodName)) ∈ lw_tbl := lw_at lw_m6 106 rfl
theorem q1388 : (Jvm.Cond.instanceMethod ({ cls := "SwallowSurveyModel", name := "seenFlies", desc := "(II)I" } : Jvm.MethodName)) ∈ lw_all := lw_g (lw_at lw_m6 107 rfl) rfl
theorem q1389 : (Jvm.Cond.code ({ cls := "SwallowSurveyModel", name := "seenFlies", desc := "(II)I" } : Jvm.MethodName) prog_14_method_48_code (3 : Nat) (Option.some Jvm.ClassFile.FieldType.int)) ∈ lw_all := lw_g (lw_at lw_m6 108 rfl) rfl
theorem q1390 : (Jvm.Cond.methodLink "SwallowSurveyModel" (235 : Nat) ({ cls := "SwallowSurveyModel", name := "pondAt", desc := "(II)I" } : Jvm.MethodName)) ∈ lw_all := lw_g (lw_at lw_m6 109 rfl) rfl
theorem q1391 : (Jvm.Cond.privateMethod ({ cls := "SwallowSurveyModel", name := "pondAt", desc := "(II)I" } : Jvm.MethodName)) ∈ lw_tbl := lw_at lw_m6 110 rfl
theorem q1392 : (Jvm.Cond.instanceMethod ({ cls := "SwallowSurveyModel", name := "pondAt", desc := "(II)I" } : Jvm.MethodName)) ∈ lw_all := lw_g (lw_at lw_m6 111 rfl) rfl
theorem q1393 : (Jvm.Cond.code ({ cls := "SwallowSurveyModel", name := "pondAt", desc := "(II)I" } : Jvm.MethodName) prog_14_method_47_code (3 : Nat) (Option.some Jvm.ClassFile.FieldType.int)) ∈ lw_all := lw_g (lw_at lw_m6 112 rfl) rfl
theorem q1394 : (Jvm.Cond.methodLink "SwallowSurveyModel" (248 : Nat) ({ cls := "SwallowSurveyModel", name := "yardBy", desc := "(III)I" } : Jvm.MethodName)) ∈ lw_all := lw_g (lw_at lw_m6 113 rfl) rfl
theorem q1395 : (Jvm.Cond.static ({ cls := "SwallowSurveyModel", name := "yardBy", desc := "(III)I" } : Jvm.MethodName)) ∈ lw_all := lw_g (lw_at lw_m6 114 rfl) rfl
theorem q1396 : (Jvm.Cond.code ({ cls := "SwallowSurveyModel", name := "yardBy", desc := "(III)I" } : Jvm.MethodName) prog_14_method_46_code (5 : Nat) (Option.some Jvm.ClassFile.FieldType.int)) ∈ lw_all := lw_g (lw_at lw_m6 115 rfl) rfl
theorem q1397 : (Jvm.Cond.methodLink "SwallowSurveyModel" (262 : Nat) ({ cls := "SwallowSurveyModel", name := "told", desc := "(I)I" } : Jvm.MethodName)) ∈ lw_all := lw_g (lw_at lw_m6 116 rfl) rfl
theorem q1398 : (Jvm.Cond.privateMethod ({ cls := "SwallowSurveyModel", name := "told", desc := "(I)I" } : Jvm.MethodName)) ∈ lw_tbl := lw_at lw_m6 117 rfl
theorem q1399 : (Jvm.Cond.instanceMethod ({ cls := "SwallowSurveyModel", name := "told", desc := "(I)I" } : Jvm.MethodName)) ∈ lw_all := lw_g (lw_at lw_m6 118 rfl) rfl
theorem q1400 : (Jvm.Cond.code ({ cls := "SwallowSurveyModel", name := "told", desc := "(I)I" } : Jvm.MethodName) prog_14_method_50_code (4 : Nat) (Option.some Jvm.ClassFile.FieldType.int)) ∈ lw_all := lw_g (lw_at lw_m6 119 rfl) rfl
theorem q1401 : (Jvm.Cond.methodLink "SwallowSurveyModel" (251 : Nat) ({ cls := "SwallowSurveyModel", name := "comesTo", desc := "(III)I" } : Jvm.MethodName)) ∈ lw_all := lw_g (lw_at lw_m6 120 rfl) rfl
theorem q1402 : (Jvm.Cond.privateMethod ({ cls := "SwallowSurveyModel", name := "comesTo", desc := "(III)I" } : Jvm.MethodName)) ∈ lw_tbl := lw_at lw_m6 121 rfl
theorem q1403 : (Jvm.Cond.instanceMethod ({ cls := "SwallowSurveyModel", name := "comesTo", desc := "(III)I" } : Jvm.MethodName)) ∈ lw_all := lw_g (lw_at lw_m6 122 rfl) rfl
theorem q1404 : (Jvm.Cond.code ({ cls := "SwallowSurveyModel", name := "comesTo", desc := "(III)I" } : Jvm.MethodName) prog_14_method_43_code (8 : Nat) (Option.some Jvm.ClassFile.FieldType.int)) ∈ lw_all := lw_g (lw_at lw_m6 123 rfl) rfl
theorem q1405 : (Jvm.Cond.methodLink "SwallowSurveyModel" (231 : Nat) ({ cls := "SwallowSurveyModel", name := "both", desc := "(III)I" } : Jvm.MethodName)) ∈ lw_all := lw_g (lw_at lw_m6 124 rfl) rfl
theorem q1406 : (Jvm.Cond.static ({ cls := "SwallowSurveyModel", name := "both", desc := "(III)I" } : Jvm.MethodName)) ∈ lw_all := lw_g (lw_at lw_m6 125 rfl) rfl
theorem q1407 : (Jvm.Cond.code ({ cls := "SwallowSurveyModel", name := "both", desc := "(III)I" } : Jvm.MethodName) prog_14_method_42_code (3 : Nat) (Option.some Jvm.ClassFile.FieldType.int)) ∈ lw_all := lw_g (lw_at lw_m6 126 rfl) rfl
theorem q1408 : (Jvm.Cond.methodLink "SwallowSurveyModel" (265 : Nat) ({ cls := "SwallowSurveyModel", name := "otherAt", desc := "(III)I" } : Jvm.MethodName)) ∈ lw_all := lw_g (lw_at lw_m6 127 rfl) rfl
theorem q1409 : (Jvm.Cond.privateMethod ({ cls := "SwallowSurveyModel", name := "otherAt", desc := "(III)I" } : Jvm.MethodName)) ∈ lw_tbl := lw_at lw_m6 128 rfl
theorem q1410 : (Jvm.Cond.instanceMethod ({ cls := "SwallowSurveyModel", name := "otherAt", desc := "(III)I" } : Jvm.MethodName)) ∈ lw_all := lw_g (lw_at lw_m6 129 rfl) rfl
theorem q1411 : (Jvm.Cond.code ({ cls := "SwallowSurveyModel", name := "otherAt", desc := "(III)I" } : Jvm.MethodName) prog_14_method_51_code (7 : Nat) (Option.some Jvm.ClassFile.FieldType.int)) ∈ lw_all := lw_g (lw_at lw_m6 130 rfl) rfl
theorem q1412 : (Jvm.Cond.methodLink "SwallowSurveyModel" (268 : Nat) ({ cls := "SwallowSurveyModel", name := "sues", desc := "(IIIII)V" } : Jvm.MethodName)) ∈ lw_all := lw_g (lw_at lw_m6 131 rfl) rfl
theorem q1413 : (Jvm.Cond.privateMethod ({ cls := "SwallowSurveyModel", name := "sues", desc := "(IIIII)V" } : Jvm.MethodName)) ∈ lw_tbl := lw_at lw_m6 132 rfl
theorem q1414 : (Jvm.Cond.instanceMethod ({ cls := "SwallowSurveyModel", name := "sues", desc := "(IIIII)V" } : Jvm.MethodName)) ∈ lw_all := lw_g (lw_at lw_m6 133 rfl) rfl
theorem q1415 : (Jvm.Cond.code ({ cls := "SwallowSurveyModel", name := "sues", desc := "(IIIII)V" } : Jvm.MethodName) prog_14_method_53_code (7 : Nat) (Option.none : Option Jvm.ClassFile.FieldType)) ∈ lw_all := lw_g (lw_at lw_m6 134 rfl) rfl
theorem q1416 : (Jvm.Cond.methodLink "SwallowSurveyModel" (272 : Nat) ({ cls := "SwallowSurveyModel", name := "hasCat", desc := "(II)Z" } : Jvm.MethodName)) ∈ lw_all := lw_g (lw_at lw_m6 135 rfl) rfl
theorem q1417 : (Jvm.Cond.privateMethod ({ cls := "SwallowSurveyModel", name := "hasCat", desc := "(II)Z" } : Jvm.MethodName)) ∈ lw_tbl := lw_at lw_m6 136 rfl
theorem q1418 : (Jvm.Cond.instanceMethod ({ cls := "SwallowSurveyModel", name := "hasCat", desc := "(II)Z" } : Jvm.MethodName)) ∈ lw_all := lw_g (lw_at lw_m6 137 rfl) rfl
theorem q1419 : (Jvm.Cond.code ({ cls := "SwallowSurveyModel", name := "hasCat", desc := "(II)Z" } : Jvm.MethodName) prog_14_method_52_code (5 : Nat) (Option.some Jvm.ClassFile.FieldType.boolean)) ∈ lw_all := lw_g (lw_at lw_m6 138 rfl) rfl
theorem q1420 : (Jvm.Cond.methodLink "SwallowSurveyModel" (290 : Nat) ({ cls := "SwallowSurveyModel", name := "laysCounties", desc := "()V" } : Jvm.MethodName)) ∈ lw_all := lw_g (lw_at lw_m6 139 rfl) rfl
theorem q1421 : (Jvm.Cond.privateMethod ({ cls := "SwallowSurveyModel", name := "laysCounties", desc := "()V" } : Jvm.MethodName)) ∈ lw_tbl := lw_at lw_m6 140 rfl
theorem q1422 : (Jvm.Cond.instanceMethod ({ cls := "SwallowSurveyModel", name := "laysCounties", desc := "()V" } : Jvm.MethodName)) ∈ lw_all := lw_g (lw_at lw_m6 141 rfl) rfl
theorem q1423 : (Jvm.Cond.code ({ cls := "SwallowSurveyModel", name := "laysCounties", desc := "()V" } : Jvm.MethodName) prog_14_method_58_code (2 : Nat) (Option.none : Option Jvm.ClassFile.FieldType)) ∈ lw_all := lw_g (lw_at lw_m6 142 rfl) rfl
theorem q1424 : (Jvm.Cond.methodLink "SwallowSurveyModel" (284 : Nat) ({ cls := "SwallowSurveyModel", name := "spreads", desc := "(I)V" } : Jvm.MethodName)) ∈ lw_all := lw_g (lw_at lw_m6 143 rfl) rfl
theorem q1425 : (Jvm.Cond.privateMethod ({ cls := "SwallowSurveyModel", name := "spreads", desc := "(I)V" } : Jvm.MethodName)) ∈ lw_tbl := lw_at lw_m6 144 rfl
theorem q1426 : (Jvm.Cond.instanceMethod ({ cls := "SwallowSurveyModel", name := "spreads", desc := "(I)V" } : Jvm.MethodName)) ∈ lw_all := lw_g (lw_at lw_m6 145 rfl) rfl
theorem q1427 : (Jvm.Cond.code ({ cls := "SwallowSurveyModel", name := "spreads", desc := "(I)V" } : Jvm.MethodName) prog_14_method_57_code (8 : Nat) (Option.none : Option Jvm.ClassFile.FieldType)) ∈ lw_all := lw_g (lw_at lw_m6 146 rfl) rfl
theorem q1428 : (Jvm.Cond.methodLink "SwallowSurveyModel" (278 : Nat) ({ cls := "SwallowSurveyModel", name := "isOpen", desc := "(III)Z" } : Jvm.MethodName)) ∈ lw_all := lw_g (lw_at lw_m6 147 rfl) rfl
theorem q1429 : (Jvm.Cond.privateMethod ({ cls := "SwallowSurveyModel", name := "isOpen", desc := "(III)Z" } : Jvm.MethodName)) ∈ lw_tbl := lw_at lw_m6 148 rfl
theorem q1430 : (Jvm.Cond.instanceMethod ({ cls := "SwallowSurveyModel", name := "isOpen", desc := "(III)Z" } : Jvm.MethodName)) ∈ lw_all := lw_g (lw_at lw_m6 149 rfl) rfl
theorem q1431 : (Jvm.Cond.code ({ cls := "SwallowSurveyModel", name := "isOpen", desc := "(III)Z" } : Jvm.MethodName) prog_14_method_56_code (5 : Nat) (Option.some Jvm.ClassFile.FieldType.boolean)) ∈ lw_all := lw_g (lw_at lw_m6 150 rfl) rfl
theorem q1433 : (Jvm.Cond.instanceMethod ({ cls := "SwallowSurveyModel", name := "spring", desc := "()I" } : Jvm.MethodName)) ∈ lw_all := lw_g (lw_at lw_m6 152 rfl) rfl
theorem q1434 : (Jvm.Cond.selects "SwallowSurveyModel" ({ cls := "SwallowSurveyModel", name := "spring", desc := "()I" } : Jvm.MethodName) ({ cls := "SwallowSurveyModel", name := "spring", desc := "()I" } : Jvm.MethodName)) ∈ lw_all := lw_g (lw_at lw_m6 153 rfl) rfl
theorem q1435 : (Jvm.Cond.code ({ cls := "SwallowSurveyModel", name := "spring", desc := "()I" } : Jvm.MethodName) prog_14_method_60_code (2 : Nat) (Option.some Jvm.ClassFile.FieldType.int)) ∈ lw_all := lw_g (lw_at lw_m6 154 rfl) rfl
theorem q1436 : (Jvm.Cond.methodLink "SwallowSurveyModel" (293 : Nat) ({ cls := "SwallowSurveyModel", name := "draw", desc := "(I)I" } : Jvm.MethodName)) ∈ lw_all := lw_g (lw_at lw_m6 155 rfl) rfl
theorem q1437 : (Jvm.Cond.privateMethod ({ cls := "SwallowSurveyModel", name := "draw", desc := "(I)I" } : Jvm.MethodName)) ∈ lw_tbl := lw_at lw_m6 156 rfl
theorem q1438 : (Jvm.Cond.instanceMethod ({ cls := "SwallowSurveyModel", name := "draw", desc := "(I)I" } : Jvm.MethodName)) ∈ lw_all := lw_g (lw_at lw_m6 157 rfl) rfl
theorem q1439 : (Jvm.Cond.code ({ cls := "SwallowSurveyModel", name := "draw", desc := "(I)I" } : Jvm.MethodName) prog_14_method_9_code (2 : Nat) (Option.some Jvm.ClassFile.FieldType.int)) ∈ lw_all := lw_g (lw_at lw_m6 158 rfl) rfl
theorem q1440 : (Jvm.Cond.constant "SwallowSurveyModel" (83 : Nat) (1664525 : Int32)) ∈ lw_all := lw_g (lw_at lw_m6 159 rfl) rfl
theorem q1441 : (Jvm.Cond.constant "SwallowSurveyModel" (84 : Nat) (1013904223 : Int32)) ∈ lw_all := lw_g (lw_at lw_m6 160 rfl) rfl
theorem q1442 : (Jvm.Cond.methodLink "SwallowSurveyModel" (296 : Nat) ({ cls := "SwallowSurveyModel", name := "survey", desc := "()I" } : Jvm.MethodName)) ∈ lw_all := lw_g (lw_at lw_m6 161 rfl) rfl
theorem q1444 : (Jvm.Cond.instanceMethod ({ cls := "SwallowSurveyModel", name := "of", desc := "(II)I" } : Jvm.MethodName)) ∈ lw_all := lw_g (lw_at lw_m6 163 rfl) rfl
theorem q1445 : (Jvm.Cond.selects "SwallowSurveyModel" ({ cls := "SwallowSurveyModel", name := "of", desc := "(II)I" } : Jvm.MethodName) ({ cls := "SwallowSurveyModel", name := "of", desc := "(II)I" } : Jvm.MethodName)) ∈ lw_all := lw_g (lw_at lw_m6 164 rfl) rfl
theorem q1446 : (Jvm.Cond.code ({ cls := "SwallowSurveyModel", name := "of", desc := "(II)I" } : Jvm.MethodName) prog_14_method_61_code (5 : Nat) (Option.some Jvm.ClassFile.FieldType.int)) ∈ lw_all := lw_g (lw_at lw_m6 165 rfl) rfl
theorem q1448 : (Jvm.Cond.instanceMethod ({ cls := "SwallowSurveyModel", name := "yard", desc := "(IIII)I" } : Jvm.MethodName)) ∈ lw_all := lw_g (lw_at lw_m6 167 rfl) rfl
theorem q1449 : (Jvm.Cond.selects "SwallowSurveyModel" ({ cls := "SwallowSurveyModel", name := "yard", desc := "(IIII)I" } : Jvm.MethodName) ({ cls := "SwallowSurveyModel", name := "yard", desc := "(IIII)I" } : Jvm.MethodName)) ∈ lw_all := lw_g (lw_at lw_m6 168 rfl) rfl
theorem q1450 : (Jvm.Cond.code ({ cls := "SwallowSurveyModel", name := "yard", desc := "(IIII)I" } : Jvm.MethodName) prog_14_method_62_code (5 : Nat) (Option.some Jvm.ClassFile.FieldType.int)) ∈ lw_all := lw_g (lw_at lw_m6 169 rfl) rfl
theorem q1452 : (Jvm.Cond.instanceMethod ({ cls := "SwallowSurveyModel", name := "suit", desc := "(II)I" } : Jvm.MethodName)) ∈ lw_all := lw_g (lw_at lw_m6 171 rfl) rfl
theorem q1453 : (Jvm.Cond.selects "SwallowSurveyModel" ({ cls := "SwallowSurveyModel", name := "suit", desc := "(II)I" } : Jvm.MethodName) ({ cls := "SwallowSurveyModel", name := "suit", desc := "(II)I" } : Jvm.MethodName)) ∈ lw_all := lw_g (lw_at lw_m6 172 rfl) rfl
theorem q1454 : (Jvm.Cond.code ({ cls := "SwallowSurveyModel", name := "suit", desc := "(II)I" } : Jvm.MethodName) prog_14_method_64_code (8 : Nat) (Option.some Jvm.ClassFile.FieldType.int)) ∈ lw_all := lw_g (lw_at lw_m6 173 rfl) rfl
theorem q1455 : (Jvm.Cond.methodLink "SwallowSurveyModel" (299 : Nat) ({ cls := "SwallowSurveyModel", name := "far", desc := "(II)I" } : Jvm.MethodName)) ∈ lw_all := lw_g (lw_at lw_m6 174 rfl) rfl
theorem q1456 : (Jvm.Cond.static ({ cls := "SwallowSurveyModel", name := "far", desc := "(II)I" } : Jvm.MethodName)) ∈ lw_all := lw_g (lw_at lw_m6 175 rfl) rfl
theorem q1457 : (Jvm.Cond.code ({ cls := "SwallowSurveyModel", name := "far", desc := "(II)I" } : Jvm.MethodName) prog_14_method_63_code (2 : Nat) (Option.some Jvm.ClassFile.FieldType.int)) ∈ lw_all := lw_g (lw_at lw_m6 176 rfl) rfl
theorem q1459 : (Jvm.Cond.instanceMethod ({ cls := "SwallowSurveyModel", name := "steal", desc := "(III)I" } : Jvm.MethodName)) ∈ lw_all := lw_g (lw_at lw_m6 178 rfl) rfl
theorem q1460 : (Jvm.Cond.selects "SwallowSurveyModel" ({ cls := "SwallowSurveyModel", name := "steal", desc := "(III)I" } : Jvm.MethodName) ({ cls := "SwallowSurveyModel", name := "steal", desc := "(III)I" } : Jvm.MethodName)) ∈ lw_all := lw_g (lw_at lw_m6 179 rfl) rfl
theorem q1461 : (Jvm.Cond.code ({ cls := "SwallowSurveyModel", name := "steal", desc := "(III)I" } : Jvm.MethodName) prog_14_method_65_code (6 : Nat) (Option.some Jvm.ClassFile.FieldType.int)) ∈ lw_all := lw_g (lw_at lw_m6 180 rfl) rfl
theorem q1463 : (Jvm.Cond.instanceMethod ({ cls := "SwallowSurveyModel", name := "ends", desc := "(II)I" } : Jvm.MethodName)) ∈ lw_all := lw_g (lw_at lw_m6 182 rfl) rfl
theorem q1464 : (Jvm.Cond.selects "SwallowSurveyModel" ({ cls := "SwallowSurveyModel", name := "ends", desc := "(II)I" } : Jvm.MethodName) ({ cls := "SwallowSurveyModel", name := "ends", desc := "(II)I" } : Jvm.MethodName)) ∈ lw_all := lw_g (lw_at lw_m6 183 rfl) rfl
theorem q1465 : (Jvm.Cond.code ({ cls := "SwallowSurveyModel", name := "ends", desc := "(II)I" } : Jvm.MethodName) prog_14_method_68_code (3 : Nat) (Option.some Jvm.ClassFile.FieldType.int)) ∈ lw_all := lw_g (lw_at lw_m6 184 rfl) rfl
theorem q1466 : (Jvm.Cond.methodLink "SwallowSurveyModel" (302 : Nat) ({ cls := "SwallowSurveyModel", name := "setsOut", desc := "()V" } : Jvm.MethodName)) ∈ lw_all := lw_g (lw_at lw_m6 185 rfl) rfl
theorem q1467 : (Jvm.Cond.privateMethod ({ cls := "SwallowSurveyModel", name := "setsOut", desc := "()V" } : Jvm.MethodName)) ∈ lw_tbl := lw_at lw_m6 186 rfl
theorem q1468 : (Jvm.Cond.instanceMethod ({ cls := "SwallowSurveyModel", name := "setsOut", desc := "()V" } : Jvm.MethodName)) ∈ lw_all := lw_g (lw_at lw_m6 187 rfl) rfl
theorem q1469 : (Jvm.Cond.code ({ cls := "SwallowSurveyModel", name := "setsOut", desc := "()V" } : Jvm.MethodName) prog_14_method_66_code (2 : Nat) (Option.none : Option Jvm.ClassFile.FieldType)) ∈ lw_all := lw_g (lw_at lw_m6 188 rfl) rfl
theorem q1470 : (Jvm.Cond.methodLink "SwallowSurveyModel" (305 : Nat) ({ cls := "SwallowSurveyModel", name := "comesBack", desc := "()V" } : Jvm.MethodName)) ∈ lw_all := lw_g (lw_at lw_m6 189 rfl) rfl
theorem q1471 : (Jvm.Cond.privateMethod ({ cls := "SwallowSurveyModel", name := "comesBack", desc := "()V" } : Jvm.MethodName)) ∈ lw_tbl := lw_at lw_m6 190 rfl
theorem q1472 : (Jvm.Cond.instanceMethod ({ cls := "SwallowSurveyModel", name := "comesBack", desc := "()V" } : Jvm.MethodName)) ∈ lw_all := lw_g (lw_at lw_m6 191 rfl) rfl
theorem q1473 : (Jvm.Cond.code ({ cls := "SwallowSurveyModel", name := "comesBack", desc := "()V" } : Jvm.MethodName) prog_14_method_67_code (2 : Nat) (Option.none : Option Jvm.ClassFile.FieldType)) ∈ lw_all := lw_g (lw_at lw_m6 192 rfl) rfl
theorem q1475 : (Jvm.Cond.instanceMethod ({ cls := "SwallowSurveyModel", name := "plan", desc := "(III)I" } : Jvm.MethodName)) ∈ lw_all := lw_g (lw_at lw_m6 194 rfl) rfl
theorem q1476 : (Jvm.Cond.selects "SwallowSurveyModel" ({ cls := "SwallowSurveyModel", name := "plan", desc := "(III)I" } : Jvm.MethodName) ({ cls := "SwallowSurveyModel", name := "plan", desc := "(III)I" } : Jvm.MethodName)) ∈ lw_all := lw_g (lw_at lw_m6 195 rfl) rfl
theorem q1477 : (Jvm.Cond.code ({ cls := "SwallowSurveyModel", name := "plan", desc := "(III)I" } : Jvm.MethodName) prog_14_method_71_code (6 : Nat) (Option.some Jvm.ClassFile.FieldType.int)) ∈ lw_all := lw_g (lw_at lw_m6 196 rfl) rfl
theorem q1478 : (Jvm.Cond.methodLink "SwallowSurveyModel" (320 : Nat) ({ cls := "SwallowSurveyModel", name := "triesPonds", desc := "(IIII)V" } : Jvm.MethodName)) ∈ lw_all := lw_g (lw_at lw_m6 197 rfl) rfl
theorem q1479 : (Jvm.Cond.privateMethod ({ cls := "SwallowSurveyModel", name := "triesPonds", desc := "(IIII)V" } : Jvm.MethodName)) ∈ lw_tbl := lw_at lw_m6 198 rfl
theorem q1480 : (Jvm.Cond.instanceMethod ({ cls := "SwallowSurveyModel", name := "triesPonds", desc := "(IIII)V" } : Jvm.MethodName)) ∈ lw_all := lw_g (lw_at lw_m6 199 rfl) rfl
theorem q1481 : (Jvm.Cond.code ({ cls := "SwallowSurveyModel", name := "triesPonds", desc := "(IIII)V" } : Jvm.MethodName) prog_14_method_69_code (8 : Nat) (Option.none : Option Jvm.ClassFile.FieldType)) ∈ lw_all := lw_g (lw_at lw_m6 200 rfl) rfl
theorem q1482 : (Jvm.Cond.methodLink "SwallowSurveyModel" (324 : Nat) ({ cls := "SwallowSurveyModel", name := "isFree", desc := "(I)Z" } : Jvm.MethodName)) ∈ lw_all := lw_g (lw_at lw_m6 201 rfl) rfl
theorem q1483 : (Jvm.Cond.privateMethod ({ cls := "SwallowSurveyModel", name := "isFree", desc := "(I)Z" } : Jvm.MethodName)) ∈ lw_tbl := lw_at lw_m6 202 rfl
theorem q1484 : (Jvm.Cond.instanceMethod ({ cls := "SwallowSurveyModel", name := "isFree", desc := "(I)Z" } : Jvm.MethodName)) ∈ lw_all := lw_g (lw_at lw_m6 203 rfl) rfl
theorem q1485 : (Jvm.Cond.code ({ cls := "SwallowSurveyModel", name := "isFree", desc := "(I)Z" } : Jvm.MethodName) prog_14_method_70_code (2 : Nat) (Option.some Jvm.ClassFile.FieldType.boolean)) ∈ lw_all := lw_g (lw_at lw_m6 204 rfl) rfl
theorem q1487 : (Jvm.Cond.instanceMethod ({ cls := "SwallowSurveyModel", name := "hatch", desc := "(III)I" } : Jvm.MethodName)) ∈ lw_all := lw_g (lw_at lw_m6 206 rfl) rfl
theorem q1488 : (Jvm.Cond.selects "SwallowSurveyModel" ({ cls := "SwallowSurveyModel", name := "hatch", desc := "(III)I" } : Jvm.MethodName) ({ cls := "SwallowSurveyModel", name := "hatch", desc := "(III)I" } : Jvm.MethodName)) ∈ lw_all := lw_g (lw_at lw_m6 207 rfl) rfl
theorem q1489 : (Jvm.Cond.code ({ cls := "SwallowSurveyModel", name := "hatch", desc := "(III)I" } : Jvm.MethodName) prog_14_method_72_code (5 : Nat) (Option.some Jvm.ClassFile.FieldType.int)) ∈ lw_all := lw_g (lw_at lw_m6 208 rfl) rfl
theorem q1491 : (Jvm.Cond.instanceMethod ({ cls := "SwallowSurveyModel", name := "odds", desc := "(II)I" } : Jvm.MethodName)) ∈ lw_all := lw_g (lw_at lw_m6 210 rfl) rfl
theorem q1492 : (Jvm.Cond.selects "SwallowSurveyModel" ({ cls := "SwallowSurveyModel", name := "odds", desc := "(II)I" } : Jvm.MethodName) ({ cls := "SwallowSurveyModel", name := "odds", desc := "(II)I" } : Jvm.MethodName)) ∈ lw_all := lw_g (lw_at lw_m6 211 rfl) rfl
theorem q1493 : (Jvm.Cond.code ({ cls := "SwallowSurveyModel", name := "odds", desc := "(II)I" } : Jvm.MethodName) prog_14_method_74_code (7 : Nat) (Option.some Jvm.ClassFile.FieldType.int)) ∈ lw_all := lw_g (lw_at lw_m6 212 rfl) rfl
theorem q1494 : (Jvm.Cond.methodLink "SwallowSurveyModel" (327 : Nat) ({ cls := "SwallowSurveyModel", name := "hatches", desc := "(I)V" } : Jvm.MethodName)) ∈ lw_all := lw_g (lw_at lw_m6 213 rfl) rfl
theorem q1495 : (Jvm.Cond.privateMethod ({ cls := "SwallowSurveyModel", name := "hatches", desc := "(I)V" } : Jvm.MethodName)) ∈ lw_tbl := lw_at lw_m6 214 rfl
theorem q1496 : (Jvm.Cond.instanceMethod ({ cls := "SwallowSurveyModel", name := "hatches", desc := "(I)V" } : Jvm.MethodName)) ∈ lw_all := lw_g (lw_at lw_m6 215 rfl) rfl
theorem q1497 : (Jvm.Cond.code ({ cls := "SwallowSurveyModel", name := "hatches", desc := "(I)V" } : Jvm.MethodName) prog_14_method_73_code (3 : Nat) (Option.none : Option Jvm.ClassFile.FieldType)) ∈ lw_all := lw_g (lw_at lw_m6 216 rfl) rfl
theorem q1499 : (Jvm.Cond.instanceMethod ({ cls := "SwallowSurveyModel", name := "claim", desc := "(IIZ)Z" } : Jvm.MethodName)) ∈ lw_all := lw_g (lw_at lw_m6 218 rfl) rfl
theorem q1500 : (Jvm.Cond.selects "SwallowSurveyModel" ({ cls := "SwallowSurveyModel", name := "claim", desc := "(IIZ)Z" } : Jvm.MethodName) ({ cls := "SwallowSurveyModel", name := "claim", desc := "(IIZ)Z" } : Jvm.MethodName)) ∈ lw_all := lw_g (lw_at lw_m6 219 rfl) rfl
theorem q1501 : (Jvm.Cond.code ({ cls := "SwallowSurveyModel", name := "claim", desc := "(IIZ)Z" } : Jvm.MethodName) prog_14_method_75_code (5 : Nat) (Option.some Jvm.ClassFile.FieldType.boolean)) ∈ lw_all := lw_g (lw_at lw_m6 220 rfl) rfl
theorem q1503 : (Jvm.Cond.instanceMethod ({ cls := "SwallowSurveyModel", name := "back", desc := "(I)I" } : Jvm.MethodName)) ∈ lw_all := lw_g (lw_at lw_m6 222 rfl) rfl
theorem q1504 : (Jvm.Cond.selects "SwallowSurveyModel" ({ cls := "SwallowSurveyModel", name := "back", desc := "(I)I" } : Jvm.MethodName) ({ cls := "SwallowSurveyModel", name := "back", desc := "(I)I" } : Jvm.MethodName)) ∈ lw_all := lw_g (lw_at lw_m6 223 rfl) rfl
theorem q1505 : (Jvm.Cond.code ({ cls := "SwallowSurveyModel", name := "back", desc := "(I)I" } : Jvm.MethodName) prog_14_method_76_code (9 : Nat) (Option.some Jvm.ClassFile.FieldType.int)) ∈ lw_all := lw_g (lw_at lw_m6 224 rfl) rfl
theorem q1507 : (Jvm.Cond.instanceMethod ({ cls := "SwallowSurveyModel", name := "part", desc := "(II)I" } : Jvm.MethodName)) ∈ lw_all := lw_g (lw_at lw_m6 226 rfl) rfl
theorem q1508 : (Jvm.Cond.selects "SwallowSurveyModel" ({ cls := "SwallowSurveyModel", name := "part", desc := "(II)I" } : Jvm.MethodName) ({ cls := "SwallowSurveyModel", name := "part", desc := "(II)I" } : Jvm.MethodName)) ∈ lw_all := lw_g (lw_at lw_m6 227 rfl) rfl
theorem q1509 : (Jvm.Cond.code ({ cls := "SwallowSurveyModel", name := "part", desc := "(II)I" } : Jvm.MethodName) prog_14_method_78_code (4 : Nat) (Option.some Jvm.ClassFile.FieldType.int)) ∈ lw_all := lw_g (lw_at lw_m6 228 rfl) rfl
theorem q1510 : (Jvm.Cond.methodLink "SwallowSurveyModel" (330 : Nat) ({ cls := "SwallowSurveyModel", name := "oneMore", desc := "(II)Z" } : Jvm.MethodName)) ∈ lw_all := lw_g (lw_at lw_m6 229 rfl) rfl
theorem q1511 : (Jvm.Cond.privateMethod ({ cls := "SwallowSurveyModel", name := "oneMore", desc := "(II)Z" } : Jvm.MethodName)) ∈ lw_tbl := lw_at lw_m6 230 rfl
theorem q1512 : (Jvm.Cond.instanceMethod ({ cls := "SwallowSurveyModel", name := "oneMore", desc := "(II)Z" } : Jvm.MethodName)) ∈ lw_all := lw_g (lw_at lw_m6 231 rfl) rfl
theorem q1513 : (Jvm.Cond.code ({ cls := "SwallowSurveyModel", name := "oneMore", desc := "(II)Z" } : Jvm.MethodName) prog_14_method_77_code (8 : Nat) (Option.some Jvm.ClassFile.FieldType.boolean)) ∈ lw_all := lw_g (lw_at lw_m6 232 rfl) rfl
theorem q1515 : (Jvm.Cond.instanceMethod ({ cls := "SwallowSurveyModel", name := "image", desc := "(Z)Z" } : Jvm.MethodName)) ∈ lw_all := lw_g (lw_at lw_m6 234 rfl) rfl
theorem q1516 : (Jvm.Cond.selects "SwallowSurveyModel" ({ cls := "SwallowSurveyModel", name := "image", desc := "(Z)Z" } : Jvm.MethodName) ({ cls := "SwallowSurveyModel", name := "image", desc := "(Z)Z" } : Jvm.MethodName)) ∈ lw_all := lw_g (lw_at lw_m6 235 rfl) rfl
theorem q1517 : (Jvm.Cond.code ({ cls := "SwallowSurveyModel", name := "image", desc := "(Z)Z" } : Jvm.MethodName) prog_14_method_79_code (3 : Nat) (Option.some Jvm.ClassFile.FieldType.boolean)) ∈ lw_all := lw_g (lw_at lw_m6 236 rfl) rfl
theorem q1519 : (Jvm.Cond.instanceMethod ({ cls := "SwallowSurveyModel", name := "look", desc := "(I)I" } : Jvm.MethodName)) ∈ lw_all := lw_g (lw_at lw_m6 238 rfl) rfl
theorem q1520 : (Jvm.Cond.selects "SwallowSurveyModel" ({ cls := "SwallowSurveyModel", name := "look", desc := "(I)I" } : Jvm.MethodName) ({ cls := "SwallowSurveyModel", name := "look", desc := "(I)I" } : Jvm.MethodName)) ∈ lw_all := lw_g (lw_at lw_m6 239 rfl) rfl
theorem q1521 : (Jvm.Cond.code ({ cls := "SwallowSurveyModel", name := "look", desc := "(I)I" } : Jvm.MethodName) prog_14_method_80_code (2 : Nat) (Option.some Jvm.ClassFile.FieldType.int)) ∈ lw_all := lw_g (lw_at lw_m7 0 rfl) rfl
theorem q1522 : (Jvm.Cond.methodLink "SwallowSurveyModel" (336 : Nat) ({ cls := "SwallowSurveyModel", name := "threads", desc := "()I" } : Jvm.MethodName)) ∈ lw_all := lw_g (lw_at lw_m7 1 rfl) rfl
theorem q1523 : (Jvm.Cond.privateMethod ({ cls := "SwallowSurveyModel", name := "threads", desc := "()I" } : Jvm.MethodName)) ∈ lw_tbl := lw_at lw_m7 2 rfl
theorem q1524 : (Jvm.Cond.instanceMethod ({ cls := "SwallowSurveyModel", name := "threads", desc := "()I" } : Jvm.MethodName)) ∈ lw_all := lw_g (lw_at lw_m7 3 rfl) rfl
theorem q1525 : (Jvm.Cond.code ({ cls := "SwallowSurveyModel", name := "threads", desc := "()I" } : Jvm.MethodName) prog_14_method_81_code (3 : Nat) (Option.some Jvm.ClassFile.FieldType.int)) ∈ lw_all := lw_g (lw_at lw_m7 4 rfl) rfl
theorem in_X4 : ∀ w ∈ wsX40, w ∈ lw_all := lw_in wsX40 [1124, 1126, 1128, 1130, 1132, 1134, 1136, 1138, 1140, 1142, 1144, 1146, 1148, 1150, 1152, 1154, 1156, 1158, 1160, 1162, 1164, 1166, 1168, 1170, 1172, 1174, 1176, 1178, 1180, 1182, 1184, 1186, 1188, 1190, 1192, 1194, 1196] (by decide +kernel) (by decide +kernel)
