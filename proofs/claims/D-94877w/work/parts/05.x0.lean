/-! SwallowSurvey -/
set_option maxRecDepth 100000
def RX0 : String := "SwallowSurvey"
def TX0 : u_T := fun k => match k with
  | 0 => ("SwallowSurvey", "tape", "[B", true)
  | 1 => ("SwallowSurvey", "taped", "I", false)
  | 2 => ("SwallowSurvey", "turnWords", "[Ljava/lang/String;", true)
  | 3 => ("SwallowSurvey", "asked", "[Ljava/lang/String;", true)
  | 4 => ("SwallowSurvey", "others", "[Ljava/lang/String;", true)
  | 5 => ("SwallowSurvey", "token", "LSwallowSurvey$Token;", false)
  | 6 => ("SwallowSurvey", "spot", "I", false)
  | 7 => ("SwallowSurvey", "from", "I", false)
  | 8 => ("SwallowSurvey", "value", "I", false)
  | 9 => ("SwallowSurvey", "open", "I", false)
  | 10 => ("SwallowSurvey", "faultKind", "I", false)
  | 11 => ("SwallowSurvey", "faultPlace", "I", false)
  | 12 => ("SwallowSurvey", "habits", "[LSwallowSurvey$Text;", true)
  | 13 => ("SwallowSurvey", "land", "LSwallowSurvey$Land;", false)
  | 14 => ("SwallowSurvey", "other", "LSwallowSurvey$Land;", true)
  | 15 => ("SwallowSurvey", "keptLand", "LSwallowSurvey$Land;", true)
  | 16 => ("SwallowSurvey", "has", "[I", true)
  | 17 => ("SwallowSurvey", "web", "LSwallowSurvey$Web;", false)
  | 18 => ("SwallowSurvey", "thought", "LSwallowSurvey$Web;", true)
  | 19 => ("SwallowSurvey", "keptWeb", "LSwallowSurvey$Web;", true)
  | 20 => ("SwallowSurvey", "undug", "[I", true)
  | 21 => ("SwallowSurvey", "undoable", "I", false)
  | 22 => ("SwallowSurvey", "planned", "I", false)
  | 23 => ("SwallowSurvey", "first", "I", false)
  | 24 => ("SwallowSurvey", "second", "I", false)
  | 25 => ("SwallowSurvey", "least", "I", false)
  | 26 => ("SwallowSurvey", "flow", "[[I", true)
  | 27 => ("SwallowSurvey", "cameBy", "[I", true)
  | 28 => ("SwallowSurvey", "todo", "[I", true)
  | 29 => ("SwallowSurvey", "keptHabits", "[LSwallowSurvey$Text;", true)
  | _ => ("SwallowSurvey", "hasImage", "Z", false)
def tyX0 : Nat → FieldType := fun k => match k with
  | 0 => .array .byte
  | 1 => .int
  | 2 => .array (.object "java/lang/String")
  | 3 => .array (.object "java/lang/String")
  | 4 => .array (.object "java/lang/String")
  | 5 => .object "SwallowSurvey$Token"
  | 6 => .int
  | 7 => .int
  | 8 => .int
  | 9 => .int
  | 10 => .int
  | 11 => .int
  | 12 => .array (.object "SwallowSurvey$Text")
  | 13 => .object "SwallowSurvey$Land"
  | 14 => .object "SwallowSurvey$Land"
  | 15 => .object "SwallowSurvey$Land"
  | 16 => .array .int
  | 17 => .object "SwallowSurvey$Web"
  | 18 => .object "SwallowSurvey$Web"
  | 19 => .object "SwallowSurvey$Web"
  | 20 => .array .int
  | 21 => .int
  | 22 => .int
  | 23 => .int
  | 24 => .int
  | 25 => .int
  | 26 => .array (.array .int)
  | 27 => .array .int
  | 28 => .array .int
  | 29 => .array (.object "SwallowSurvey$Text")
  | _ => .boolean
abbrev wsX00 : List Cond := u_ws RX0 TX0 31
set_option maxRecDepth 100000 in
theorem nmX0 : ∀ a, a < 31 → ∀ b, b < 31 → a ≠ b → (TX0 a).2.1 ≠ (TX0 b).2.1 := by decide +kernel
set_option maxRecDepth 100000 in
theorem tyX0_ok : ∀ k, k < 31 → parseFieldDescriptor (TX0 k).2.2.1 = some (tyX0 k) := by decide +kernel
abbrev cX0_init : ByteArray := prog_1_method_2_code
def yX0_init : MethodName := ⟨RX0, "<init>", "()V"⟩
def dkwX0_init_12 : List UInt8 := [16, 100, 188, 10, 181, 0, 112, 42, 16, 100, 188, 10, 181, 0, 115, 42, 7, 189, 0, 65, 181, 0, 118, 177]
abbrev dktX0_init_12 : List UInt8 := dkwX0_init_12 ++ []
def dkwX0_init_11 : List UInt8 := [181, 0, 101, 42, 16, 10, 188, 10, 181, 0, 104, 42, 16, 100, 7, 197, 0, 107, 2, 181, 0, 109, 42]
abbrev dktX0_init_11 : List UInt8 := dkwX0_init_11 ++ dktX0_init_12
def dkwX0_init_10 : List UInt8 := [181, 0, 94, 42, 187, 0, 89, 89, 42, 183, 0, 91, 181, 0, 98, 42, 187, 0, 89, 89, 42, 183, 0, 91]
abbrev dktX0_init_10 : List UInt8 := dkwX0_init_10 ++ dktX0_init_11
def dkwX0_init_9 : List UInt8 := [183, 0, 74, 181, 0, 82, 42, 16, 9, 188, 10, 181, 0, 85, 42, 187, 0, 89, 89, 42, 183, 0, 91]
abbrev dktX0_init_9 : List UInt8 := dkwX0_init_9 ++ dktX0_init_10
def dkwX0_init_8 : List UInt8 := [183, 0, 74, 181, 0, 75, 42, 187, 0, 72, 89, 183, 0, 74, 181, 0, 79, 42, 187, 0, 72, 89]
abbrev dktX0_init_8 : List UInt8 := dkwX0_init_8 ++ dktX0_init_9
def dkwX0_init_7 : List UInt8 := [183, 0, 67, 83, 89, 6, 187, 0, 65, 89, 183, 0, 67, 83, 181, 0, 68, 42, 187, 0, 72, 89]
abbrev dktX0_init_7 : List UInt8 := dkwX0_init_7 ++ dktX0_init_8
def dkwX0_init_6 : List UInt8 := [187, 0, 65, 89, 183, 0, 67, 83, 89, 4, 187, 0, 65, 89, 183, 0, 67, 83, 89, 5, 187, 0, 65, 89]
abbrev dktX0_init_6 : List UInt8 := dkwX0_init_6 ++ dktX0_init_7
def dkwX0_init_5 : List UInt8 := [5, 18, 54, 83, 89, 6, 18, 56, 83, 181, 0, 58, 42, 2, 181, 0, 61, 42, 7, 189, 0, 65, 89, 3]
abbrev dktX0_init_5 : List UInt8 := dkwX0_init_5 ++ dktX0_init_6
def dkwX0_init_4 : List UInt8 := [16, 8, 18, 45, 83, 181, 0, 47, 42, 7, 189, 0, 13, 89, 3, 18, 50, 83, 89, 4, 18, 52, 83, 89]
abbrev dktX0_init_4 : List UInt8 := dkwX0_init_4 ++ dktX0_init_5
def dkwX0_init_3 : List UInt8 := [83, 89, 7, 18, 37, 83, 89, 8, 18, 39, 83, 89, 16, 6, 18, 41, 83, 89, 16, 7, 18, 43, 83, 89]
abbrev dktX0_init_3 : List UInt8 := dkwX0_init_3 ++ dktX0_init_4
def dkwX0_init_2 : List UInt8 := [16, 9, 189, 0, 13, 89, 3, 18, 29, 83, 89, 4, 18, 31, 83, 89, 5, 18, 33, 83, 89, 6, 18, 35]
abbrev dktX0_init_2 : List UInt8 := dkwX0_init_2 ++ dktX0_init_3
def dkwX0_init_1 : List UInt8 := [4, 18, 17, 83, 89, 5, 18, 19, 83, 89, 6, 18, 21, 83, 89, 7, 18, 23, 83, 181, 0, 25, 42]
abbrev dktX0_init_1 : List UInt8 := dkwX0_init_1 ++ dktX0_init_2
def dkwX0_init_0 : List UInt8 := [42, 183, 0, 1, 42, 17, 1, 144, 188, 8, 181, 0, 9, 42, 8, 189, 0, 13, 89, 3, 18, 15, 83, 89]
abbrev dktX0_init_0 : List UInt8 := dkwX0_init_0 ++ dktX0_init_1
theorem dksX0_init_0 : cX0_init.data.toList.drop 0 = dktX0_init_0 := by decide +kernel
theorem dksX0_init_1 : cX0_init.data.toList.drop 24 = dktX0_init_1 := dk_seg dksX0_init_0 24 rfl rfl
theorem dksX0_init_2 : cX0_init.data.toList.drop 47 = dktX0_init_2 := dk_seg dksX0_init_1 23 rfl rfl
theorem dksX0_init_3 : cX0_init.data.toList.drop 71 = dktX0_init_3 := dk_seg dksX0_init_2 24 rfl rfl
theorem dksX0_init_4 : cX0_init.data.toList.drop 95 = dktX0_init_4 := dk_seg dksX0_init_3 24 rfl rfl
theorem dksX0_init_5 : cX0_init.data.toList.drop 119 = dktX0_init_5 := dk_seg dksX0_init_4 24 rfl rfl
theorem dksX0_init_6 : cX0_init.data.toList.drop 143 = dktX0_init_6 := dk_seg dksX0_init_5 24 rfl rfl
theorem dksX0_init_7 : cX0_init.data.toList.drop 167 = dktX0_init_7 := dk_seg dksX0_init_6 24 rfl rfl
theorem dksX0_init_8 : cX0_init.data.toList.drop 189 = dktX0_init_8 := dk_seg dksX0_init_7 22 rfl rfl
theorem dksX0_init_9 : cX0_init.data.toList.drop 211 = dktX0_init_9 := dk_seg dksX0_init_8 22 rfl rfl
theorem dksX0_init_10 : cX0_init.data.toList.drop 234 = dktX0_init_10 := dk_seg dksX0_init_9 23 rfl rfl
theorem dksX0_init_11 : cX0_init.data.toList.drop 258 = dktX0_init_11 := dk_seg dksX0_init_10 24 rfl rfl
theorem dksX0_init_12 : cX0_init.data.toList.drop 281 = dktX0_init_12 := dk_seg dksX0_init_11 23 rfl rfl
theorem dX0_init_0 : decode cX0_init 0 = .ok (.aload_n 0, 1) := dk_42 (dk_at dksX0_init_0 0 rfl rfl)
theorem dX0_init_1 : decode cX0_init 1 = .ok (.invokespecial 1, 3) := dk_183 0 1 (dk_at dksX0_init_0 1 rfl rfl)
theorem dX0_init_4 : decode cX0_init 4 = .ok (.aload_n 0, 1) := dk_42 (dk_at dksX0_init_0 4 rfl rfl)
theorem dX0_init_5 : decode cX0_init 5 = .ok (.sipush 400, 3) := dk_17 1 144 (dk_at dksX0_init_0 5 rfl rfl)
theorem dX0_init_8 : decode cX0_init 8 = .ok (.newarray .byte, 2) := dk_188_8 (dk_at dksX0_init_0 8 rfl rfl)
theorem dX0_init_10 : decode cX0_init 10 = .ok (.putfield 9, 3) := dk_181 0 9 (dk_at dksX0_init_0 10 rfl rfl)
theorem dX0_init_13 : decode cX0_init 13 = .ok (.aload_n 0, 1) := dk_42 (dk_at dksX0_init_0 13 rfl rfl)
theorem dX0_init_14 : decode cX0_init 14 = .ok (.iconst 5, 1) := dk_8 (dk_at dksX0_init_0 14 rfl rfl)
theorem dX0_init_15 : decode cX0_init 15 = .ok (.anewarray 13, 3) := dk_189 0 13 (dk_at dksX0_init_0 15 rfl rfl)
theorem dX0_init_18 : decode cX0_init 18 = .ok (.dup, 1) := dk_89 (dk_at dksX0_init_0 18 rfl rfl)
theorem dX0_init_19 : decode cX0_init 19 = .ok (.iconst 0, 1) := dk_3 (dk_at dksX0_init_0 19 rfl rfl)
theorem dX0_init_20 : decode cX0_init 20 = .ok (.ldc 15, 2) := dk_18 15 (dk_at dksX0_init_0 20 rfl rfl)
theorem dX0_init_22 : decode cX0_init 22 = .ok (.aastore, 1) := dk_83 (dk_at dksX0_init_0 22 rfl rfl)
theorem dX0_init_23 : decode cX0_init 23 = .ok (.dup, 1) := dk_89 (dk_at dksX0_init_0 23 rfl rfl)
theorem dX0_init_24 : decode cX0_init 24 = .ok (.iconst 1, 1) := dk_4 (dk_at dksX0_init_1 0 rfl rfl)
theorem dX0_init_25 : decode cX0_init 25 = .ok (.ldc 17, 2) := dk_18 17 (dk_at dksX0_init_1 1 rfl rfl)
theorem dX0_init_27 : decode cX0_init 27 = .ok (.aastore, 1) := dk_83 (dk_at dksX0_init_1 3 rfl rfl)
theorem dX0_init_28 : decode cX0_init 28 = .ok (.dup, 1) := dk_89 (dk_at dksX0_init_1 4 rfl rfl)
theorem dX0_init_29 : decode cX0_init 29 = .ok (.iconst 2, 1) := dk_5 (dk_at dksX0_init_1 5 rfl rfl)
theorem dX0_init_30 : decode cX0_init 30 = .ok (.ldc 19, 2) := dk_18 19 (dk_at dksX0_init_1 6 rfl rfl)
theorem dX0_init_32 : decode cX0_init 32 = .ok (.aastore, 1) := dk_83 (dk_at dksX0_init_1 8 rfl rfl)
theorem dX0_init_33 : decode cX0_init 33 = .ok (.dup, 1) := dk_89 (dk_at dksX0_init_1 9 rfl rfl)
theorem dX0_init_34 : decode cX0_init 34 = .ok (.iconst 3, 1) := dk_6 (dk_at dksX0_init_1 10 rfl rfl)
theorem dX0_init_35 : decode cX0_init 35 = .ok (.ldc 21, 2) := dk_18 21 (dk_at dksX0_init_1 11 rfl rfl)
theorem dX0_init_37 : decode cX0_init 37 = .ok (.aastore, 1) := dk_83 (dk_at dksX0_init_1 13 rfl rfl)
theorem dX0_init_38 : decode cX0_init 38 = .ok (.dup, 1) := dk_89 (dk_at dksX0_init_1 14 rfl rfl)
theorem dX0_init_39 : decode cX0_init 39 = .ok (.iconst 4, 1) := dk_7 (dk_at dksX0_init_1 15 rfl rfl)
theorem dX0_init_40 : decode cX0_init 40 = .ok (.ldc 23, 2) := dk_18 23 (dk_at dksX0_init_1 16 rfl rfl)
theorem dX0_init_42 : decode cX0_init 42 = .ok (.aastore, 1) := dk_83 (dk_at dksX0_init_1 18 rfl rfl)
theorem dX0_init_43 : decode cX0_init 43 = .ok (.putfield 25, 3) := dk_181 0 25 (dk_at dksX0_init_1 19 rfl rfl)
theorem dX0_init_46 : decode cX0_init 46 = .ok (.aload_n 0, 1) := dk_42 (dk_at dksX0_init_1 22 rfl rfl)
theorem dX0_init_47 : decode cX0_init 47 = .ok (.bipush 9, 2) := dk_16 9 (dk_at dksX0_init_2 0 rfl rfl)
theorem dX0_init_49 : decode cX0_init 49 = .ok (.anewarray 13, 3) := dk_189 0 13 (dk_at dksX0_init_2 2 rfl rfl)
theorem dX0_init_52 : decode cX0_init 52 = .ok (.dup, 1) := dk_89 (dk_at dksX0_init_2 5 rfl rfl)
theorem dX0_init_53 : decode cX0_init 53 = .ok (.iconst 0, 1) := dk_3 (dk_at dksX0_init_2 6 rfl rfl)
theorem dX0_init_54 : decode cX0_init 54 = .ok (.ldc 29, 2) := dk_18 29 (dk_at dksX0_init_2 7 rfl rfl)
theorem dX0_init_56 : decode cX0_init 56 = .ok (.aastore, 1) := dk_83 (dk_at dksX0_init_2 9 rfl rfl)
theorem dX0_init_57 : decode cX0_init 57 = .ok (.dup, 1) := dk_89 (dk_at dksX0_init_2 10 rfl rfl)
theorem dX0_init_58 : decode cX0_init 58 = .ok (.iconst 1, 1) := dk_4 (dk_at dksX0_init_2 11 rfl rfl)
theorem dX0_init_59 : decode cX0_init 59 = .ok (.ldc 31, 2) := dk_18 31 (dk_at dksX0_init_2 12 rfl rfl)
theorem dX0_init_61 : decode cX0_init 61 = .ok (.aastore, 1) := dk_83 (dk_at dksX0_init_2 14 rfl rfl)
theorem dX0_init_62 : decode cX0_init 62 = .ok (.dup, 1) := dk_89 (dk_at dksX0_init_2 15 rfl rfl)
theorem dX0_init_63 : decode cX0_init 63 = .ok (.iconst 2, 1) := dk_5 (dk_at dksX0_init_2 16 rfl rfl)
theorem dX0_init_64 : decode cX0_init 64 = .ok (.ldc 33, 2) := dk_18 33 (dk_at dksX0_init_2 17 rfl rfl)
theorem dX0_init_66 : decode cX0_init 66 = .ok (.aastore, 1) := dk_83 (dk_at dksX0_init_2 19 rfl rfl)
theorem dX0_init_67 : decode cX0_init 67 = .ok (.dup, 1) := dk_89 (dk_at dksX0_init_2 20 rfl rfl)
theorem dX0_init_68 : decode cX0_init 68 = .ok (.iconst 3, 1) := dk_6 (dk_at dksX0_init_2 21 rfl rfl)
theorem dX0_init_69 : decode cX0_init 69 = .ok (.ldc 35, 2) := dk_18 35 (dk_at dksX0_init_2 22 rfl rfl)
theorem dX0_init_71 : decode cX0_init 71 = .ok (.aastore, 1) := dk_83 (dk_at dksX0_init_3 0 rfl rfl)
theorem dX0_init_72 : decode cX0_init 72 = .ok (.dup, 1) := dk_89 (dk_at dksX0_init_3 1 rfl rfl)
theorem dX0_init_73 : decode cX0_init 73 = .ok (.iconst 4, 1) := dk_7 (dk_at dksX0_init_3 2 rfl rfl)
theorem dX0_init_74 : decode cX0_init 74 = .ok (.ldc 37, 2) := dk_18 37 (dk_at dksX0_init_3 3 rfl rfl)
theorem dX0_init_76 : decode cX0_init 76 = .ok (.aastore, 1) := dk_83 (dk_at dksX0_init_3 5 rfl rfl)
theorem dX0_init_77 : decode cX0_init 77 = .ok (.dup, 1) := dk_89 (dk_at dksX0_init_3 6 rfl rfl)
theorem dX0_init_78 : decode cX0_init 78 = .ok (.iconst 5, 1) := dk_8 (dk_at dksX0_init_3 7 rfl rfl)
theorem dX0_init_79 : decode cX0_init 79 = .ok (.ldc 39, 2) := dk_18 39 (dk_at dksX0_init_3 8 rfl rfl)
theorem dX0_init_81 : decode cX0_init 81 = .ok (.aastore, 1) := dk_83 (dk_at dksX0_init_3 10 rfl rfl)
theorem dX0_init_82 : decode cX0_init 82 = .ok (.dup, 1) := dk_89 (dk_at dksX0_init_3 11 rfl rfl)
theorem dX0_init_83 : decode cX0_init 83 = .ok (.bipush 6, 2) := dk_16 6 (dk_at dksX0_init_3 12 rfl rfl)
theorem dX0_init_85 : decode cX0_init 85 = .ok (.ldc 41, 2) := dk_18 41 (dk_at dksX0_init_3 14 rfl rfl)
theorem dX0_init_87 : decode cX0_init 87 = .ok (.aastore, 1) := dk_83 (dk_at dksX0_init_3 16 rfl rfl)
theorem dX0_init_88 : decode cX0_init 88 = .ok (.dup, 1) := dk_89 (dk_at dksX0_init_3 17 rfl rfl)
theorem dX0_init_89 : decode cX0_init 89 = .ok (.bipush 7, 2) := dk_16 7 (dk_at dksX0_init_3 18 rfl rfl)
theorem dX0_init_91 : decode cX0_init 91 = .ok (.ldc 43, 2) := dk_18 43 (dk_at dksX0_init_3 20 rfl rfl)
theorem dX0_init_93 : decode cX0_init 93 = .ok (.aastore, 1) := dk_83 (dk_at dksX0_init_3 22 rfl rfl)
theorem dX0_init_94 : decode cX0_init 94 = .ok (.dup, 1) := dk_89 (dk_at dksX0_init_3 23 rfl rfl)
theorem dX0_init_95 : decode cX0_init 95 = .ok (.bipush 8, 2) := dk_16 8 (dk_at dksX0_init_4 0 rfl rfl)
theorem dX0_init_97 : decode cX0_init 97 = .ok (.ldc 45, 2) := dk_18 45 (dk_at dksX0_init_4 2 rfl rfl)
theorem dX0_init_99 : decode cX0_init 99 = .ok (.aastore, 1) := dk_83 (dk_at dksX0_init_4 4 rfl rfl)
theorem dX0_init_100 : decode cX0_init 100 = .ok (.putfield 47, 3) := dk_181 0 47 (dk_at dksX0_init_4 5 rfl rfl)
theorem dX0_init_103 : decode cX0_init 103 = .ok (.aload_n 0, 1) := dk_42 (dk_at dksX0_init_4 8 rfl rfl)
theorem dX0_init_104 : decode cX0_init 104 = .ok (.iconst 4, 1) := dk_7 (dk_at dksX0_init_4 9 rfl rfl)
theorem dX0_init_105 : decode cX0_init 105 = .ok (.anewarray 13, 3) := dk_189 0 13 (dk_at dksX0_init_4 10 rfl rfl)
theorem dX0_init_108 : decode cX0_init 108 = .ok (.dup, 1) := dk_89 (dk_at dksX0_init_4 13 rfl rfl)
theorem dX0_init_109 : decode cX0_init 109 = .ok (.iconst 0, 1) := dk_3 (dk_at dksX0_init_4 14 rfl rfl)
theorem dX0_init_110 : decode cX0_init 110 = .ok (.ldc 50, 2) := dk_18 50 (dk_at dksX0_init_4 15 rfl rfl)
theorem dX0_init_112 : decode cX0_init 112 = .ok (.aastore, 1) := dk_83 (dk_at dksX0_init_4 17 rfl rfl)
theorem dX0_init_113 : decode cX0_init 113 = .ok (.dup, 1) := dk_89 (dk_at dksX0_init_4 18 rfl rfl)
theorem dX0_init_114 : decode cX0_init 114 = .ok (.iconst 1, 1) := dk_4 (dk_at dksX0_init_4 19 rfl rfl)
theorem dX0_init_115 : decode cX0_init 115 = .ok (.ldc 52, 2) := dk_18 52 (dk_at dksX0_init_4 20 rfl rfl)
theorem dX0_init_117 : decode cX0_init 117 = .ok (.aastore, 1) := dk_83 (dk_at dksX0_init_4 22 rfl rfl)
theorem dX0_init_118 : decode cX0_init 118 = .ok (.dup, 1) := dk_89 (dk_at dksX0_init_4 23 rfl rfl)
theorem dX0_init_119 : decode cX0_init 119 = .ok (.iconst 2, 1) := dk_5 (dk_at dksX0_init_5 0 rfl rfl)
theorem dX0_init_120 : decode cX0_init 120 = .ok (.ldc 54, 2) := dk_18 54 (dk_at dksX0_init_5 1 rfl rfl)
theorem dX0_init_122 : decode cX0_init 122 = .ok (.aastore, 1) := dk_83 (dk_at dksX0_init_5 3 rfl rfl)
theorem dX0_init_123 : decode cX0_init 123 = .ok (.dup, 1) := dk_89 (dk_at dksX0_init_5 4 rfl rfl)
theorem dX0_init_124 : decode cX0_init 124 = .ok (.iconst 3, 1) := dk_6 (dk_at dksX0_init_5 5 rfl rfl)
theorem dX0_init_125 : decode cX0_init 125 = .ok (.ldc 56, 2) := dk_18 56 (dk_at dksX0_init_5 6 rfl rfl)
theorem dX0_init_127 : decode cX0_init 127 = .ok (.aastore, 1) := dk_83 (dk_at dksX0_init_5 8 rfl rfl)
theorem dX0_init_128 : decode cX0_init 128 = .ok (.putfield 58, 3) := dk_181 0 58 (dk_at dksX0_init_5 9 rfl rfl)
theorem dX0_init_131 : decode cX0_init 131 = .ok (.aload_n 0, 1) := dk_42 (dk_at dksX0_init_5 12 rfl rfl)
theorem dX0_init_132 : decode cX0_init 132 = .ok (.iconst (-1), 1) := dk_2 (dk_at dksX0_init_5 13 rfl rfl)
theorem dX0_init_133 : decode cX0_init 133 = .ok (.putfield 61, 3) := dk_181 0 61 (dk_at dksX0_init_5 14 rfl rfl)
theorem dX0_init_136 : decode cX0_init 136 = .ok (.aload_n 0, 1) := dk_42 (dk_at dksX0_init_5 17 rfl rfl)
theorem dX0_init_137 : decode cX0_init 137 = .ok (.iconst 4, 1) := dk_7 (dk_at dksX0_init_5 18 rfl rfl)
theorem dX0_init_138 : decode cX0_init 138 = .ok (.anewarray 65, 3) := dk_189 0 65 (dk_at dksX0_init_5 19 rfl rfl)
theorem dX0_init_141 : decode cX0_init 141 = .ok (.dup, 1) := dk_89 (dk_at dksX0_init_5 22 rfl rfl)
theorem dX0_init_142 : decode cX0_init 142 = .ok (.iconst 0, 1) := dk_3 (dk_at dksX0_init_5 23 rfl rfl)
theorem dX0_init_143 : decode cX0_init 143 = .ok (.new 65, 3) := dk_187 0 65 (dk_at dksX0_init_6 0 rfl rfl)
theorem dX0_init_146 : decode cX0_init 146 = .ok (.dup, 1) := dk_89 (dk_at dksX0_init_6 3 rfl rfl)
theorem dX0_init_147 : decode cX0_init 147 = .ok (.invokespecial 67, 3) := dk_183 0 67 (dk_at dksX0_init_6 4 rfl rfl)
theorem dX0_init_150 : decode cX0_init 150 = .ok (.aastore, 1) := dk_83 (dk_at dksX0_init_6 7 rfl rfl)
theorem dX0_init_151 : decode cX0_init 151 = .ok (.dup, 1) := dk_89 (dk_at dksX0_init_6 8 rfl rfl)
theorem dX0_init_152 : decode cX0_init 152 = .ok (.iconst 1, 1) := dk_4 (dk_at dksX0_init_6 9 rfl rfl)
theorem dX0_init_153 : decode cX0_init 153 = .ok (.new 65, 3) := dk_187 0 65 (dk_at dksX0_init_6 10 rfl rfl)
theorem dX0_init_156 : decode cX0_init 156 = .ok (.dup, 1) := dk_89 (dk_at dksX0_init_6 13 rfl rfl)
theorem dX0_init_157 : decode cX0_init 157 = .ok (.invokespecial 67, 3) := dk_183 0 67 (dk_at dksX0_init_6 14 rfl rfl)
theorem dX0_init_160 : decode cX0_init 160 = .ok (.aastore, 1) := dk_83 (dk_at dksX0_init_6 17 rfl rfl)
theorem dX0_init_161 : decode cX0_init 161 = .ok (.dup, 1) := dk_89 (dk_at dksX0_init_6 18 rfl rfl)
theorem dX0_init_162 : decode cX0_init 162 = .ok (.iconst 2, 1) := dk_5 (dk_at dksX0_init_6 19 rfl rfl)
theorem dX0_init_163 : decode cX0_init 163 = .ok (.new 65, 3) := dk_187 0 65 (dk_at dksX0_init_6 20 rfl rfl)
theorem dX0_init_166 : decode cX0_init 166 = .ok (.dup, 1) := dk_89 (dk_at dksX0_init_6 23 rfl rfl)
theorem dX0_init_167 : decode cX0_init 167 = .ok (.invokespecial 67, 3) := dk_183 0 67 (dk_at dksX0_init_7 0 rfl rfl)
theorem dX0_init_170 : decode cX0_init 170 = .ok (.aastore, 1) := dk_83 (dk_at dksX0_init_7 3 rfl rfl)
theorem dX0_init_171 : decode cX0_init 171 = .ok (.dup, 1) := dk_89 (dk_at dksX0_init_7 4 rfl rfl)
theorem dX0_init_172 : decode cX0_init 172 = .ok (.iconst 3, 1) := dk_6 (dk_at dksX0_init_7 5 rfl rfl)
theorem dX0_init_173 : decode cX0_init 173 = .ok (.new 65, 3) := dk_187 0 65 (dk_at dksX0_init_7 6 rfl rfl)
theorem dX0_init_176 : decode cX0_init 176 = .ok (.dup, 1) := dk_89 (dk_at dksX0_init_7 9 rfl rfl)
theorem dX0_init_177 : decode cX0_init 177 = .ok (.invokespecial 67, 3) := dk_183 0 67 (dk_at dksX0_init_7 10 rfl rfl)
theorem dX0_init_180 : decode cX0_init 180 = .ok (.aastore, 1) := dk_83 (dk_at dksX0_init_7 13 rfl rfl)
theorem dX0_init_181 : decode cX0_init 181 = .ok (.putfield 68, 3) := dk_181 0 68 (dk_at dksX0_init_7 14 rfl rfl)
theorem dX0_init_184 : decode cX0_init 184 = .ok (.aload_n 0, 1) := dk_42 (dk_at dksX0_init_7 17 rfl rfl)
theorem dX0_init_185 : decode cX0_init 185 = .ok (.new 72, 3) := dk_187 0 72 (dk_at dksX0_init_7 18 rfl rfl)
theorem dX0_init_188 : decode cX0_init 188 = .ok (.dup, 1) := dk_89 (dk_at dksX0_init_7 21 rfl rfl)
theorem dX0_init_189 : decode cX0_init 189 = .ok (.invokespecial 74, 3) := dk_183 0 74 (dk_at dksX0_init_8 0 rfl rfl)
theorem dX0_init_192 : decode cX0_init 192 = .ok (.putfield 75, 3) := dk_181 0 75 (dk_at dksX0_init_8 3 rfl rfl)
theorem dX0_init_195 : decode cX0_init 195 = .ok (.aload_n 0, 1) := dk_42 (dk_at dksX0_init_8 6 rfl rfl)
theorem dX0_init_196 : decode cX0_init 196 = .ok (.new 72, 3) := dk_187 0 72 (dk_at dksX0_init_8 7 rfl rfl)
theorem dX0_init_199 : decode cX0_init 199 = .ok (.dup, 1) := dk_89 (dk_at dksX0_init_8 10 rfl rfl)
theorem dX0_init_200 : decode cX0_init 200 = .ok (.invokespecial 74, 3) := dk_183 0 74 (dk_at dksX0_init_8 11 rfl rfl)
theorem dX0_init_203 : decode cX0_init 203 = .ok (.putfield 79, 3) := dk_181 0 79 (dk_at dksX0_init_8 14 rfl rfl)
theorem dX0_init_206 : decode cX0_init 206 = .ok (.aload_n 0, 1) := dk_42 (dk_at dksX0_init_8 17 rfl rfl)
theorem dX0_init_207 : decode cX0_init 207 = .ok (.new 72, 3) := dk_187 0 72 (dk_at dksX0_init_8 18 rfl rfl)
theorem dX0_init_210 : decode cX0_init 210 = .ok (.dup, 1) := dk_89 (dk_at dksX0_init_8 21 rfl rfl)
theorem dX0_init_211 : decode cX0_init 211 = .ok (.invokespecial 74, 3) := dk_183 0 74 (dk_at dksX0_init_9 0 rfl rfl)
theorem dX0_init_214 : decode cX0_init 214 = .ok (.putfield 82, 3) := dk_181 0 82 (dk_at dksX0_init_9 3 rfl rfl)
theorem dX0_init_217 : decode cX0_init 217 = .ok (.aload_n 0, 1) := dk_42 (dk_at dksX0_init_9 6 rfl rfl)
theorem dX0_init_218 : decode cX0_init 218 = .ok (.bipush 9, 2) := dk_16 9 (dk_at dksX0_init_9 7 rfl rfl)
theorem dX0_init_220 : decode cX0_init 220 = .ok (.newarray .int, 2) := dk_188_10 (dk_at dksX0_init_9 9 rfl rfl)
theorem dX0_init_222 : decode cX0_init 222 = .ok (.putfield 85, 3) := dk_181 0 85 (dk_at dksX0_init_9 11 rfl rfl)
theorem dX0_init_225 : decode cX0_init 225 = .ok (.aload_n 0, 1) := dk_42 (dk_at dksX0_init_9 14 rfl rfl)
theorem dX0_init_226 : decode cX0_init 226 = .ok (.new 89, 3) := dk_187 0 89 (dk_at dksX0_init_9 15 rfl rfl)
theorem dX0_init_229 : decode cX0_init 229 = .ok (.dup, 1) := dk_89 (dk_at dksX0_init_9 18 rfl rfl)
theorem dX0_init_230 : decode cX0_init 230 = .ok (.aload_n 0, 1) := dk_42 (dk_at dksX0_init_9 19 rfl rfl)
theorem dX0_init_231 : decode cX0_init 231 = .ok (.invokespecial 91, 3) := dk_183 0 91 (dk_at dksX0_init_9 20 rfl rfl)
theorem dX0_init_234 : decode cX0_init 234 = .ok (.putfield 94, 3) := dk_181 0 94 (dk_at dksX0_init_10 0 rfl rfl)
theorem dX0_init_237 : decode cX0_init 237 = .ok (.aload_n 0, 1) := dk_42 (dk_at dksX0_init_10 3 rfl rfl)
theorem dX0_init_238 : decode cX0_init 238 = .ok (.new 89, 3) := dk_187 0 89 (dk_at dksX0_init_10 4 rfl rfl)
theorem dX0_init_241 : decode cX0_init 241 = .ok (.dup, 1) := dk_89 (dk_at dksX0_init_10 7 rfl rfl)
theorem dX0_init_242 : decode cX0_init 242 = .ok (.aload_n 0, 1) := dk_42 (dk_at dksX0_init_10 8 rfl rfl)
theorem dX0_init_243 : decode cX0_init 243 = .ok (.invokespecial 91, 3) := dk_183 0 91 (dk_at dksX0_init_10 9 rfl rfl)
theorem dX0_init_246 : decode cX0_init 246 = .ok (.putfield 98, 3) := dk_181 0 98 (dk_at dksX0_init_10 12 rfl rfl)
theorem dX0_init_249 : decode cX0_init 249 = .ok (.aload_n 0, 1) := dk_42 (dk_at dksX0_init_10 15 rfl rfl)
theorem dX0_init_250 : decode cX0_init 250 = .ok (.new 89, 3) := dk_187 0 89 (dk_at dksX0_init_10 16 rfl rfl)
theorem dX0_init_253 : decode cX0_init 253 = .ok (.dup, 1) := dk_89 (dk_at dksX0_init_10 19 rfl rfl)
theorem dX0_init_254 : decode cX0_init 254 = .ok (.aload_n 0, 1) := dk_42 (dk_at dksX0_init_10 20 rfl rfl)
theorem dX0_init_255 : decode cX0_init 255 = .ok (.invokespecial 91, 3) := dk_183 0 91 (dk_at dksX0_init_10 21 rfl rfl)
theorem dX0_init_258 : decode cX0_init 258 = .ok (.putfield 101, 3) := dk_181 0 101 (dk_at dksX0_init_11 0 rfl rfl)
theorem dX0_init_261 : decode cX0_init 261 = .ok (.aload_n 0, 1) := dk_42 (dk_at dksX0_init_11 3 rfl rfl)
theorem dX0_init_262 : decode cX0_init 262 = .ok (.bipush 10, 2) := dk_16 10 (dk_at dksX0_init_11 4 rfl rfl)
theorem dX0_init_264 : decode cX0_init 264 = .ok (.newarray .int, 2) := dk_188_10 (dk_at dksX0_init_11 6 rfl rfl)
theorem dX0_init_266 : decode cX0_init 266 = .ok (.putfield 104, 3) := dk_181 0 104 (dk_at dksX0_init_11 8 rfl rfl)
theorem dX0_init_269 : decode cX0_init 269 = .ok (.aload_n 0, 1) := dk_42 (dk_at dksX0_init_11 11 rfl rfl)
theorem dX0_init_270 : decode cX0_init 270 = .ok (.bipush 100, 2) := dk_16 100 (dk_at dksX0_init_11 12 rfl rfl)
theorem dX0_init_272 : decode cX0_init 272 = .ok (.iconst 4, 1) := dk_7 (dk_at dksX0_init_11 14 rfl rfl)
theorem dX0_init_273 : decode cX0_init 273 = .ok (.multianewarray 107 2, 4) := by decide +kernel
theorem dX0_init_277 : decode cX0_init 277 = .ok (.putfield 109, 3) := dk_181 0 109 (dk_at dksX0_init_11 19 rfl rfl)
theorem dX0_init_280 : decode cX0_init 280 = .ok (.aload_n 0, 1) := dk_42 (dk_at dksX0_init_11 22 rfl rfl)
theorem dX0_init_281 : decode cX0_init 281 = .ok (.bipush 100, 2) := dk_16 100 (dk_at dksX0_init_12 0 rfl rfl)
theorem dX0_init_283 : decode cX0_init 283 = .ok (.newarray .int, 2) := dk_188_10 (dk_at dksX0_init_12 2 rfl rfl)
theorem dX0_init_285 : decode cX0_init 285 = .ok (.putfield 112, 3) := dk_181 0 112 (dk_at dksX0_init_12 4 rfl rfl)
theorem dX0_init_288 : decode cX0_init 288 = .ok (.aload_n 0, 1) := dk_42 (dk_at dksX0_init_12 7 rfl rfl)
theorem dX0_init_289 : decode cX0_init 289 = .ok (.bipush 100, 2) := dk_16 100 (dk_at dksX0_init_12 8 rfl rfl)
theorem dX0_init_291 : decode cX0_init 291 = .ok (.newarray .int, 2) := dk_188_10 (dk_at dksX0_init_12 10 rfl rfl)
theorem dX0_init_293 : decode cX0_init 293 = .ok (.putfield 115, 3) := dk_181 0 115 (dk_at dksX0_init_12 12 rfl rfl)
theorem dX0_init_296 : decode cX0_init 296 = .ok (.aload_n 0, 1) := dk_42 (dk_at dksX0_init_12 15 rfl rfl)
theorem dX0_init_297 : decode cX0_init 297 = .ok (.iconst 4, 1) := dk_7 (dk_at dksX0_init_12 16 rfl rfl)
theorem dX0_init_298 : decode cX0_init 298 = .ok (.anewarray 65, 3) := dk_189 0 65 (dk_at dksX0_init_12 17 rfl rfl)
theorem dX0_init_301 : decode cX0_init 301 = .ok (.putfield 118, 3) := dk_181 0 118 (dk_at dksX0_init_12 20 rfl rfl)
theorem dX0_init_304 : decode cX0_init 304 = .ok (.return_, 1) := dk_177 (dk_at dksX0_init_12 23 rfl rfl)
abbrev cX0_feed : ByteArray := prog_1_method_4_code
def yX0_feed : MethodName := ⟨RX0, "feed", "(IIIII)I"⟩
def dkwX0_feed_2 : List UInt8 := [172]
abbrev dktX0_feed_2 : List UInt8 := dkwX0_feed_2 ++ []
def dkwX0_feed_1 : List UInt8 := [182, 0, 124, 42, 29, 182, 0, 124, 42, 21, 4, 182, 0, 124, 42, 21, 5, 182, 0, 124, 42, 180, 0, 121]
abbrev dktX0_feed_1 : List UInt8 := dkwX0_feed_1 ++ dktX0_feed_2
def dkwX0_feed_0 : List UInt8 := [42, 180, 0, 121, 16, 20, 96, 17, 1, 144, 164, 0, 5, 2, 172, 42, 27, 182, 0, 124, 42, 28]
abbrev dktX0_feed_0 : List UInt8 := dkwX0_feed_0 ++ dktX0_feed_1
theorem dksX0_feed_0 : cX0_feed.data.toList.drop 0 = dktX0_feed_0 := by decide +kernel
theorem dksX0_feed_1 : cX0_feed.data.toList.drop 22 = dktX0_feed_1 := dk_seg dksX0_feed_0 22 rfl rfl
theorem dksX0_feed_2 : cX0_feed.data.toList.drop 46 = dktX0_feed_2 := dk_seg dksX0_feed_1 24 rfl rfl
theorem dX0_feed_0 : decode cX0_feed 0 = .ok (.aload_n 0, 1) := dk_42 (dk_at dksX0_feed_0 0 rfl rfl)
theorem dX0_feed_1 : decode cX0_feed 1 = .ok (.getfield 121, 3) := dk_180 0 121 (dk_at dksX0_feed_0 1 rfl rfl)
theorem dX0_feed_4 : decode cX0_feed 4 = .ok (.bipush 20, 2) := dk_16 20 (dk_at dksX0_feed_0 4 rfl rfl)
theorem dX0_feed_6 : decode cX0_feed 6 = .ok (.iadd, 1) := dk_96 (dk_at dksX0_feed_0 6 rfl rfl)
theorem dX0_feed_7 : decode cX0_feed 7 = .ok (.sipush 400, 3) := dk_17 1 144 (dk_at dksX0_feed_0 7 rfl rfl)
theorem dX0_feed_10 : decode cX0_feed 10 = .ok (.if_icmp .le 5, 3) := dk_164 0 5 (dk_at dksX0_feed_0 10 rfl rfl)
theorem dX0_feed_13 : decode cX0_feed 13 = .ok (.iconst (-1), 1) := dk_2 (dk_at dksX0_feed_0 13 rfl rfl)
theorem dX0_feed_14 : decode cX0_feed 14 = .ok (.ireturn, 1) := dk_172 (dk_at dksX0_feed_0 14 rfl rfl)
theorem dX0_feed_15 : decode cX0_feed 15 = .ok (.aload_n 0, 1) := dk_42 (dk_at dksX0_feed_0 15 rfl rfl)
theorem dX0_feed_16 : decode cX0_feed 16 = .ok (.iload_n 1, 1) := dk_27 (dk_at dksX0_feed_0 16 rfl rfl)
theorem dX0_feed_17 : decode cX0_feed 17 = .ok (.invokevirtual 124, 3) := dk_182 0 124 (dk_at dksX0_feed_0 17 rfl rfl)
theorem dX0_feed_20 : decode cX0_feed 20 = .ok (.aload_n 0, 1) := dk_42 (dk_at dksX0_feed_0 20 rfl rfl)
theorem dX0_feed_21 : decode cX0_feed 21 = .ok (.iload_n 2, 1) := dk_28 (dk_at dksX0_feed_0 21 rfl rfl)
theorem dX0_feed_22 : decode cX0_feed 22 = .ok (.invokevirtual 124, 3) := dk_182 0 124 (dk_at dksX0_feed_1 0 rfl rfl)
theorem dX0_feed_25 : decode cX0_feed 25 = .ok (.aload_n 0, 1) := dk_42 (dk_at dksX0_feed_1 3 rfl rfl)
theorem dX0_feed_26 : decode cX0_feed 26 = .ok (.iload_n 3, 1) := dk_29 (dk_at dksX0_feed_1 4 rfl rfl)
theorem dX0_feed_27 : decode cX0_feed 27 = .ok (.invokevirtual 124, 3) := dk_182 0 124 (dk_at dksX0_feed_1 5 rfl rfl)
theorem dX0_feed_30 : decode cX0_feed 30 = .ok (.aload_n 0, 1) := dk_42 (dk_at dksX0_feed_1 8 rfl rfl)
theorem dX0_feed_31 : decode cX0_feed 31 = .ok (.iload 4, 2) := dk_21 4 (dk_at dksX0_feed_1 9 rfl rfl)
theorem dX0_feed_33 : decode cX0_feed 33 = .ok (.invokevirtual 124, 3) := dk_182 0 124 (dk_at dksX0_feed_1 11 rfl rfl)
theorem dX0_feed_36 : decode cX0_feed 36 = .ok (.aload_n 0, 1) := dk_42 (dk_at dksX0_feed_1 14 rfl rfl)
theorem dX0_feed_37 : decode cX0_feed 37 = .ok (.iload 5, 2) := dk_21 5 (dk_at dksX0_feed_1 15 rfl rfl)
theorem dX0_feed_39 : decode cX0_feed 39 = .ok (.invokevirtual 124, 3) := dk_182 0 124 (dk_at dksX0_feed_1 17 rfl rfl)
theorem dX0_feed_42 : decode cX0_feed 42 = .ok (.aload_n 0, 1) := dk_42 (dk_at dksX0_feed_1 20 rfl rfl)
theorem dX0_feed_43 : decode cX0_feed 43 = .ok (.getfield 121, 3) := dk_180 0 121 (dk_at dksX0_feed_1 21 rfl rfl)
theorem dX0_feed_46 : decode cX0_feed 46 = .ok (.ireturn, 1) := dk_172 (dk_at dksX0_feed_2 0 rfl rfl)
abbrev cX0_puts : ByteArray := prog_1_method_3_code
def yX0_puts : MethodName := ⟨RX0, "puts", "(I)V"⟩
def dkwX0_puts_1 : List UInt8 := [180, 0, 121, 4, 96, 181, 0, 121, 132, 2, 248, 167, 255, 226, 177]
abbrev dktX0_puts_1 : List UInt8 := dkwX0_puts_1 ++ []
def dkwX0_puts_0 : List UInt8 := [16, 24, 61, 28, 155, 0, 32, 42, 180, 0, 9, 42, 180, 0, 121, 27, 28, 122, 145, 84, 42, 89]
abbrev dktX0_puts_0 : List UInt8 := dkwX0_puts_0 ++ dktX0_puts_1
theorem dksX0_puts_0 : cX0_puts.data.toList.drop 0 = dktX0_puts_0 := by decide +kernel
theorem dksX0_puts_1 : cX0_puts.data.toList.drop 22 = dktX0_puts_1 := dk_seg dksX0_puts_0 22 rfl rfl
theorem dX0_puts_0 : decode cX0_puts 0 = .ok (.bipush 24, 2) := dk_16 24 (dk_at dksX0_puts_0 0 rfl rfl)
theorem dX0_puts_2 : decode cX0_puts 2 = .ok (.istore_n 2, 1) := dk_61 (dk_at dksX0_puts_0 2 rfl rfl)
theorem dX0_puts_3 : decode cX0_puts 3 = .ok (.iload_n 2, 1) := dk_28 (dk_at dksX0_puts_0 3 rfl rfl)
theorem dX0_puts_4 : decode cX0_puts 4 = .ok (.ifCond .lt 32, 3) := dk_155 0 32 (dk_at dksX0_puts_0 4 rfl rfl)
theorem dX0_puts_7 : decode cX0_puts 7 = .ok (.aload_n 0, 1) := dk_42 (dk_at dksX0_puts_0 7 rfl rfl)
theorem dX0_puts_8 : decode cX0_puts 8 = .ok (.getfield 9, 3) := dk_180 0 9 (dk_at dksX0_puts_0 8 rfl rfl)
theorem dX0_puts_11 : decode cX0_puts 11 = .ok (.aload_n 0, 1) := dk_42 (dk_at dksX0_puts_0 11 rfl rfl)
theorem dX0_puts_12 : decode cX0_puts 12 = .ok (.getfield 121, 3) := dk_180 0 121 (dk_at dksX0_puts_0 12 rfl rfl)
theorem dX0_puts_15 : decode cX0_puts 15 = .ok (.iload_n 1, 1) := dk_27 (dk_at dksX0_puts_0 15 rfl rfl)
theorem dX0_puts_16 : decode cX0_puts 16 = .ok (.iload_n 2, 1) := dk_28 (dk_at dksX0_puts_0 16 rfl rfl)
theorem dX0_puts_17 : decode cX0_puts 17 = .ok (.ishr, 1) := dk_122 (dk_at dksX0_puts_0 17 rfl rfl)
theorem dX0_puts_18 : decode cX0_puts 18 = .ok (.i2b, 1) := dk_145 (dk_at dksX0_puts_0 18 rfl rfl)
theorem dX0_puts_19 : decode cX0_puts 19 = .ok (.bastore, 1) := dk_84 (dk_at dksX0_puts_0 19 rfl rfl)
theorem dX0_puts_20 : decode cX0_puts 20 = .ok (.aload_n 0, 1) := dk_42 (dk_at dksX0_puts_0 20 rfl rfl)
theorem dX0_puts_21 : decode cX0_puts 21 = .ok (.dup, 1) := dk_89 (dk_at dksX0_puts_0 21 rfl rfl)
theorem dX0_puts_22 : decode cX0_puts 22 = .ok (.getfield 121, 3) := dk_180 0 121 (dk_at dksX0_puts_1 0 rfl rfl)
theorem dX0_puts_25 : decode cX0_puts 25 = .ok (.iconst 1, 1) := dk_4 (dk_at dksX0_puts_1 3 rfl rfl)
theorem dX0_puts_26 : decode cX0_puts 26 = .ok (.iadd, 1) := dk_96 (dk_at dksX0_puts_1 4 rfl rfl)
theorem dX0_puts_27 : decode cX0_puts 27 = .ok (.putfield 121, 3) := dk_181 0 121 (dk_at dksX0_puts_1 5 rfl rfl)
theorem dX0_puts_30 : decode cX0_puts 30 = .ok (.iinc 2 (-8), 3) := dk_132 2 248 (dk_at dksX0_puts_1 8 rfl rfl)
theorem dX0_puts_33 : decode cX0_puts 33 = .ok (.goto (-30), 3) := dk_167 255 226 (dk_at dksX0_puts_1 11 rfl rfl)
theorem dX0_puts_36 : decode cX0_puts 36 = .ok (.return_, 1) := dk_177 (dk_at dksX0_puts_1 14 rfl rfl)
abbrev cX0_end : ByteArray := prog_1_method_5_code
def yX0_end : MethodName := ⟨RX0, "end", "(I)Z"⟩
def dkwX0_end_0 : List UInt8 := [27, 3, 42, 180, 0, 121, 184, 0, 128, 154, 0, 5, 3, 172, 42, 27, 181, 0, 121, 4, 172]
abbrev dktX0_end_0 : List UInt8 := dkwX0_end_0 ++ []
theorem dksX0_end_0 : cX0_end.data.toList.drop 0 = dktX0_end_0 := by decide +kernel
theorem dX0_end_0 : decode cX0_end 0 = .ok (.iload_n 1, 1) := dk_27 (dk_at dksX0_end_0 0 rfl rfl)
theorem dX0_end_1 : decode cX0_end 1 = .ok (.iconst 0, 1) := dk_3 (dk_at dksX0_end_0 1 rfl rfl)
theorem dX0_end_2 : decode cX0_end 2 = .ok (.aload_n 0, 1) := dk_42 (dk_at dksX0_end_0 2 rfl rfl)
theorem dX0_end_3 : decode cX0_end 3 = .ok (.getfield 121, 3) := dk_180 0 121 (dk_at dksX0_end_0 3 rfl rfl)
theorem dX0_end_6 : decode cX0_end 6 = .ok (.invokestatic 128, 3) := dk_184 0 128 (dk_at dksX0_end_0 6 rfl rfl)
theorem dX0_end_9 : decode cX0_end 9 = .ok (.ifCond .ne 5, 3) := dk_154 0 5 (dk_at dksX0_end_0 9 rfl rfl)
theorem dX0_end_12 : decode cX0_end 12 = .ok (.iconst 0, 1) := dk_3 (dk_at dksX0_end_0 12 rfl rfl)
theorem dX0_end_13 : decode cX0_end 13 = .ok (.ireturn, 1) := dk_172 (dk_at dksX0_end_0 13 rfl rfl)
theorem dX0_end_14 : decode cX0_end 14 = .ok (.aload_n 0, 1) := dk_42 (dk_at dksX0_end_0 14 rfl rfl)
theorem dX0_end_15 : decode cX0_end 15 = .ok (.iload_n 1, 1) := dk_27 (dk_at dksX0_end_0 15 rfl rfl)
theorem dX0_end_16 : decode cX0_end 16 = .ok (.putfield 121, 3) := dk_181 0 121 (dk_at dksX0_end_0 16 rfl rfl)
theorem dX0_end_19 : decode cX0_end 19 = .ok (.iconst 1, 1) := dk_4 (dk_at dksX0_end_0 19 rfl rfl)
theorem dX0_end_20 : decode cX0_end 20 = .ok (.ireturn, 1) := dk_172 (dk_at dksX0_end_0 20 rfl rfl)
abbrev cX0_isIn : ByteArray := prog_1_method_1_code
def yX0_isIn : MethodName := ⟨RX0, "isIn", "(III)Z"⟩
def dkwX0_isIn_0 : List UInt8 := [26, 27, 161, 0, 12, 26, 28, 163, 0, 7, 4, 167, 0, 4, 3, 172]
abbrev dktX0_isIn_0 : List UInt8 := dkwX0_isIn_0 ++ []
theorem dksX0_isIn_0 : cX0_isIn.data.toList.drop 0 = dktX0_isIn_0 := by decide +kernel
theorem dX0_isIn_0 : decode cX0_isIn 0 = .ok (.iload_n 0, 1) := dk_26 (dk_at dksX0_isIn_0 0 rfl rfl)
theorem dX0_isIn_1 : decode cX0_isIn 1 = .ok (.iload_n 1, 1) := dk_27 (dk_at dksX0_isIn_0 1 rfl rfl)
theorem dX0_isIn_2 : decode cX0_isIn 2 = .ok (.if_icmp .lt 12, 3) := dk_161 0 12 (dk_at dksX0_isIn_0 2 rfl rfl)
theorem dX0_isIn_5 : decode cX0_isIn 5 = .ok (.iload_n 0, 1) := dk_26 (dk_at dksX0_isIn_0 5 rfl rfl)
theorem dX0_isIn_6 : decode cX0_isIn 6 = .ok (.iload_n 2, 1) := dk_28 (dk_at dksX0_isIn_0 6 rfl rfl)
theorem dX0_isIn_7 : decode cX0_isIn 7 = .ok (.if_icmp .gt 7, 3) := dk_163 0 7 (dk_at dksX0_isIn_0 7 rfl rfl)
theorem dX0_isIn_10 : decode cX0_isIn 10 = .ok (.iconst 1, 1) := dk_4 (dk_at dksX0_isIn_0 10 rfl rfl)
theorem dX0_isIn_11 : decode cX0_isIn 11 = .ok (.goto 4, 3) := dk_167 0 4 (dk_at dksX0_isIn_0 11 rfl rfl)
theorem dX0_isIn_14 : decode cX0_isIn 14 = .ok (.iconst 0, 1) := dk_3 (dk_at dksX0_isIn_0 14 rfl rfl)
theorem dX0_isIn_15 : decode cX0_isIn 15 = .ok (.ireturn, 1) := dk_172 (dk_at dksX0_isIn_0 15 rfl rfl)
abbrev cX0_text : ByteArray := prog_1_method_24_code
def yX0_text : MethodName := ⟨RX0, "text", "(I)I"⟩
def dkwX0_text_3 : List UInt8 := [181, 0, 61, 2, 62, 42, 3, 181, 0, 121, 29, 172, 58, 4, 42, 3, 181, 0, 121, 25, 4, 191]
abbrev dktX0_text_3 : List UInt8 := dkwX0_text_3 ++ []
def dkwX0_text_2 : List UInt8 := [61, 42, 3, 181, 0, 121, 28, 172, 77, 42, 44, 180, 1, 26, 181, 1, 19, 42, 44, 180, 1, 29]
abbrev dktX0_text_2 : List UInt8 := dkwX0_text_2 ++ dktX0_text_3
def dkwX0_text_1 : List UInt8 := [181, 0, 121, 28, 172, 42, 180, 0, 68, 27, 42, 182, 1, 22, 83, 42, 180, 0, 68, 27, 50, 180, 1, 10]
abbrev dktX0_text_1 : List UInt8 := dkwX0_text_1 ++ dktX0_text_2
def dkwX0_text_0 : List UInt8 := [42, 3, 181, 1, 19, 42, 2, 181, 0, 61, 27, 3, 6, 184, 0, 128, 154, 0, 12, 2, 61, 42, 3]
abbrev dktX0_text_0 : List UInt8 := dkwX0_text_0 ++ dktX0_text_1
theorem dksX0_text_0 : cX0_text.data.toList.drop 0 = dktX0_text_0 := by decide +kernel
theorem dksX0_text_1 : cX0_text.data.toList.drop 23 = dktX0_text_1 := dk_seg dksX0_text_0 23 rfl rfl
theorem dksX0_text_2 : cX0_text.data.toList.drop 47 = dktX0_text_2 := dk_seg dksX0_text_1 24 rfl rfl
theorem dksX0_text_3 : cX0_text.data.toList.drop 69 = dktX0_text_3 := dk_seg dksX0_text_2 22 rfl rfl
theorem dX0_text_0 : decode cX0_text 0 = .ok (.aload_n 0, 1) := dk_42 (dk_at dksX0_text_0 0 rfl rfl)
theorem dX0_text_1 : decode cX0_text 1 = .ok (.iconst 0, 1) := dk_3 (dk_at dksX0_text_0 1 rfl rfl)
theorem dX0_text_2 : decode cX0_text 2 = .ok (.putfield 275, 3) := dk_181 1 19 (dk_at dksX0_text_0 2 rfl rfl)
theorem dX0_text_5 : decode cX0_text 5 = .ok (.aload_n 0, 1) := dk_42 (dk_at dksX0_text_0 5 rfl rfl)
theorem dX0_text_6 : decode cX0_text 6 = .ok (.iconst (-1), 1) := dk_2 (dk_at dksX0_text_0 6 rfl rfl)
theorem dX0_text_7 : decode cX0_text 7 = .ok (.putfield 61, 3) := dk_181 0 61 (dk_at dksX0_text_0 7 rfl rfl)
theorem dX0_text_10 : decode cX0_text 10 = .ok (.iload_n 1, 1) := dk_27 (dk_at dksX0_text_0 10 rfl rfl)
theorem dX0_text_11 : decode cX0_text 11 = .ok (.iconst 0, 1) := dk_3 (dk_at dksX0_text_0 11 rfl rfl)
theorem dX0_text_12 : decode cX0_text 12 = .ok (.iconst 3, 1) := dk_6 (dk_at dksX0_text_0 12 rfl rfl)
theorem dX0_text_13 : decode cX0_text 13 = .ok (.invokestatic 128, 3) := dk_184 0 128 (dk_at dksX0_text_0 13 rfl rfl)
theorem dX0_text_16 : decode cX0_text 16 = .ok (.ifCond .ne 12, 3) := dk_154 0 12 (dk_at dksX0_text_0 16 rfl rfl)
theorem dX0_text_19 : decode cX0_text 19 = .ok (.iconst (-1), 1) := dk_2 (dk_at dksX0_text_0 19 rfl rfl)
theorem dX0_text_20 : decode cX0_text 20 = .ok (.istore_n 2, 1) := dk_61 (dk_at dksX0_text_0 20 rfl rfl)
theorem dX0_text_21 : decode cX0_text 21 = .ok (.aload_n 0, 1) := dk_42 (dk_at dksX0_text_0 21 rfl rfl)
theorem dX0_text_22 : decode cX0_text 22 = .ok (.iconst 0, 1) := dk_3 (dk_at dksX0_text_0 22 rfl rfl)
theorem dX0_text_23 : decode cX0_text 23 = .ok (.putfield 121, 3) := dk_181 0 121 (dk_at dksX0_text_1 0 rfl rfl)
theorem dX0_text_26 : decode cX0_text 26 = .ok (.iload_n 2, 1) := dk_28 (dk_at dksX0_text_1 3 rfl rfl)
theorem dX0_text_27 : decode cX0_text 27 = .ok (.ireturn, 1) := dk_172 (dk_at dksX0_text_1 4 rfl rfl)
theorem dX0_text_28 : decode cX0_text 28 = .ok (.aload_n 0, 1) := dk_42 (dk_at dksX0_text_1 5 rfl rfl)
theorem dX0_text_29 : decode cX0_text 29 = .ok (.getfield 68, 3) := dk_180 0 68 (dk_at dksX0_text_1 6 rfl rfl)
theorem dX0_text_32 : decode cX0_text 32 = .ok (.iload_n 1, 1) := dk_27 (dk_at dksX0_text_1 9 rfl rfl)
theorem dX0_text_33 : decode cX0_text 33 = .ok (.aload_n 0, 1) := dk_42 (dk_at dksX0_text_1 10 rfl rfl)
theorem dX0_text_34 : decode cX0_text 34 = .ok (.invokevirtual 278, 3) := dk_182 1 22 (dk_at dksX0_text_1 11 rfl rfl)
theorem dX0_text_37 : decode cX0_text 37 = .ok (.aastore, 1) := dk_83 (dk_at dksX0_text_1 14 rfl rfl)
theorem dX0_text_38 : decode cX0_text 38 = .ok (.aload_n 0, 1) := dk_42 (dk_at dksX0_text_1 15 rfl rfl)
theorem dX0_text_39 : decode cX0_text 39 = .ok (.getfield 68, 3) := dk_180 0 68 (dk_at dksX0_text_1 16 rfl rfl)
theorem dX0_text_42 : decode cX0_text 42 = .ok (.iload_n 1, 1) := dk_27 (dk_at dksX0_text_1 19 rfl rfl)
theorem dX0_text_43 : decode cX0_text 43 = .ok (.aaload, 1) := dk_50 (dk_at dksX0_text_1 20 rfl rfl)
theorem dX0_text_44 : decode cX0_text 44 = .ok (.getfield 266, 3) := dk_180 1 10 (dk_at dksX0_text_1 21 rfl rfl)
theorem dX0_text_47 : decode cX0_text 47 = .ok (.istore_n 2, 1) := dk_61 (dk_at dksX0_text_2 0 rfl rfl)
theorem dX0_text_48 : decode cX0_text 48 = .ok (.aload_n 0, 1) := dk_42 (dk_at dksX0_text_2 1 rfl rfl)
theorem dX0_text_49 : decode cX0_text 49 = .ok (.iconst 0, 1) := dk_3 (dk_at dksX0_text_2 2 rfl rfl)
theorem dX0_text_50 : decode cX0_text 50 = .ok (.putfield 121, 3) := dk_181 0 121 (dk_at dksX0_text_2 3 rfl rfl)
theorem dX0_text_53 : decode cX0_text 53 = .ok (.iload_n 2, 1) := dk_28 (dk_at dksX0_text_2 6 rfl rfl)
theorem dX0_text_54 : decode cX0_text 54 = .ok (.ireturn, 1) := dk_172 (dk_at dksX0_text_2 7 rfl rfl)
theorem dX0_text_55 : decode cX0_text 55 = .ok (.astore_n 2, 1) := dk_77 (dk_at dksX0_text_2 8 rfl rfl)
theorem dX0_text_56 : decode cX0_text 56 = .ok (.aload_n 0, 1) := dk_42 (dk_at dksX0_text_2 9 rfl rfl)
theorem dX0_text_57 : decode cX0_text 57 = .ok (.aload_n 2, 1) := dk_44 (dk_at dksX0_text_2 10 rfl rfl)
theorem dX0_text_58 : decode cX0_text 58 = .ok (.getfield 282, 3) := dk_180 1 26 (dk_at dksX0_text_2 11 rfl rfl)
theorem dX0_text_61 : decode cX0_text 61 = .ok (.putfield 275, 3) := dk_181 1 19 (dk_at dksX0_text_2 14 rfl rfl)
theorem dX0_text_64 : decode cX0_text 64 = .ok (.aload_n 0, 1) := dk_42 (dk_at dksX0_text_2 17 rfl rfl)
theorem dX0_text_65 : decode cX0_text 65 = .ok (.aload_n 2, 1) := dk_44 (dk_at dksX0_text_2 18 rfl rfl)
theorem dX0_text_66 : decode cX0_text 66 = .ok (.getfield 285, 3) := dk_180 1 29 (dk_at dksX0_text_2 19 rfl rfl)
theorem dX0_text_69 : decode cX0_text 69 = .ok (.putfield 61, 3) := dk_181 0 61 (dk_at dksX0_text_3 0 rfl rfl)
theorem dX0_text_72 : decode cX0_text 72 = .ok (.iconst (-1), 1) := dk_2 (dk_at dksX0_text_3 3 rfl rfl)
theorem dX0_text_73 : decode cX0_text 73 = .ok (.istore_n 3, 1) := dk_62 (dk_at dksX0_text_3 4 rfl rfl)
theorem dX0_text_74 : decode cX0_text 74 = .ok (.aload_n 0, 1) := dk_42 (dk_at dksX0_text_3 5 rfl rfl)
theorem dX0_text_75 : decode cX0_text 75 = .ok (.iconst 0, 1) := dk_3 (dk_at dksX0_text_3 6 rfl rfl)
theorem dX0_text_76 : decode cX0_text 76 = .ok (.putfield 121, 3) := dk_181 0 121 (dk_at dksX0_text_3 7 rfl rfl)
theorem dX0_text_79 : decode cX0_text 79 = .ok (.iload_n 3, 1) := dk_29 (dk_at dksX0_text_3 10 rfl rfl)
theorem dX0_text_80 : decode cX0_text 80 = .ok (.ireturn, 1) := dk_172 (dk_at dksX0_text_3 11 rfl rfl)
theorem dX0_text_81 : decode cX0_text 81 = .ok (.astore 4, 2) := dk_58 4 (dk_at dksX0_text_3 12 rfl rfl)
theorem dX0_text_83 : decode cX0_text 83 = .ok (.aload_n 0, 1) := dk_42 (dk_at dksX0_text_3 14 rfl rfl)
theorem dX0_text_84 : decode cX0_text 84 = .ok (.iconst 0, 1) := dk_3 (dk_at dksX0_text_3 15 rfl rfl)
theorem dX0_text_85 : decode cX0_text 85 = .ok (.putfield 121, 3) := dk_181 0 121 (dk_at dksX0_text_3 16 rfl rfl)
theorem dX0_text_88 : decode cX0_text 88 = .ok (.aload 4, 2) := dk_25 4 (dk_at dksX0_text_3 19 rfl rfl)
theorem dX0_text_90 : decode cX0_text 90 = .ok (.athrow, 1) := dk_191 (dk_at dksX0_text_3 21 rfl rfl)
abbrev cX0_readsHabit : ByteArray := prog_1_method_23_code
def yX0_readsHabit : MethodName := ⟨RX0, "readsHabit", "()LSwallowSurvey$Text;"⟩
def dkwX0_readsHabit_5 : List UInt8 := [16, 59, 182, 1, 0, 43, 89, 180, 1, 10, 4, 96, 181, 1, 10, 167, 255, 145, 43, 176]
abbrev dktX0_readsHabit_5 : List UInt8 := dkwX0_readsHabit_5 ++ []
def dkwX0_readsHabit_4 : List UInt8 := [182, 0, 239, 153, 0, 20, 42, 182, 0, 214, 43, 180, 1, 16, 43, 180, 1, 10, 42, 182, 0, 253, 83, 42]
abbrev dktX0_readsHabit_4 : List UInt8 := dkwX0_readsHabit_4 ++ dktX0_readsHabit_5
def dkwX0_readsHabit_3 : List UInt8 := [180, 0, 139, 183, 0, 203, 191, 42, 182, 0, 214, 43, 180, 1, 13, 43, 180, 1, 10, 28, 79, 42, 18, 50]
abbrev dktX0_readsHabit_3 : List UInt8 := dkwX0_readsHabit_3 ++ dktX0_readsHabit_4
def dkwX0_readsHabit_2 : List UInt8 := [4, 167, 0, 4, 3, 182, 0, 210, 43, 180, 1, 10, 16, 16, 160, 0, 16, 187, 0, 201, 89, 6, 42]
abbrev dktX0_readsHabit_2 : List UInt8 := dkwX0_readsHabit_2 ++ dktX0_readsHabit_3
def dkwX0_readsHabit_1 : List UInt8 := [180, 0, 150, 178, 0, 169, 165, 0, 107, 42, 42, 180, 0, 25, 182, 0, 179, 61, 42, 28, 2, 159, 0, 7]
abbrev dktX0_readsHabit_1 : List UInt8 := dkwX0_readsHabit_1 ++ dktX0_readsHabit_2
def dkwX0_readsHabit_0 : List UInt8 := [187, 0, 65, 89, 183, 0, 67, 76, 42, 3, 181, 0, 136, 42, 3, 181, 0, 236, 42, 182, 0, 214, 42]
abbrev dktX0_readsHabit_0 : List UInt8 := dkwX0_readsHabit_0 ++ dktX0_readsHabit_1
theorem dksX0_readsHabit_0 : cX0_readsHabit.data.toList.drop 0 = dktX0_readsHabit_0 := by decide +kernel
theorem dksX0_readsHabit_1 : cX0_readsHabit.data.toList.drop 23 = dktX0_readsHabit_1 := dk_seg dksX0_readsHabit_0 23 rfl rfl
theorem dksX0_readsHabit_2 : cX0_readsHabit.data.toList.drop 47 = dktX0_readsHabit_2 := dk_seg dksX0_readsHabit_1 24 rfl rfl
theorem dksX0_readsHabit_3 : cX0_readsHabit.data.toList.drop 70 = dktX0_readsHabit_3 := dk_seg dksX0_readsHabit_2 23 rfl rfl
theorem dksX0_readsHabit_4 : cX0_readsHabit.data.toList.drop 94 = dktX0_readsHabit_4 := dk_seg dksX0_readsHabit_3 24 rfl rfl
theorem dksX0_readsHabit_5 : cX0_readsHabit.data.toList.drop 118 = dktX0_readsHabit_5 := dk_seg dksX0_readsHabit_4 24 rfl rfl
theorem dX0_readsHabit_0 : decode cX0_readsHabit 0 = .ok (.new 65, 3) := dk_187 0 65 (dk_at dksX0_readsHabit_0 0 rfl rfl)
theorem dX0_readsHabit_3 : decode cX0_readsHabit 3 = .ok (.dup, 1) := dk_89 (dk_at dksX0_readsHabit_0 3 rfl rfl)
theorem dX0_readsHabit_4 : decode cX0_readsHabit 4 = .ok (.invokespecial 67, 3) := dk_183 0 67 (dk_at dksX0_readsHabit_0 4 rfl rfl)
theorem dX0_readsHabit_7 : decode cX0_readsHabit 7 = .ok (.astore_n 1, 1) := dk_76 (dk_at dksX0_readsHabit_0 7 rfl rfl)
theorem dX0_readsHabit_8 : decode cX0_readsHabit 8 = .ok (.aload_n 0, 1) := dk_42 (dk_at dksX0_readsHabit_0 8 rfl rfl)
theorem dX0_readsHabit_9 : decode cX0_readsHabit 9 = .ok (.iconst 0, 1) := dk_3 (dk_at dksX0_readsHabit_0 9 rfl rfl)
theorem dX0_readsHabit_10 : decode cX0_readsHabit 10 = .ok (.putfield 136, 3) := dk_181 0 136 (dk_at dksX0_readsHabit_0 10 rfl rfl)
theorem dX0_readsHabit_13 : decode cX0_readsHabit 13 = .ok (.aload_n 0, 1) := dk_42 (dk_at dksX0_readsHabit_0 13 rfl rfl)
theorem dX0_readsHabit_14 : decode cX0_readsHabit 14 = .ok (.iconst 0, 1) := dk_3 (dk_at dksX0_readsHabit_0 14 rfl rfl)
theorem dX0_readsHabit_15 : decode cX0_readsHabit 15 = .ok (.putfield 236, 3) := dk_181 0 236 (dk_at dksX0_readsHabit_0 15 rfl rfl)
theorem dX0_readsHabit_18 : decode cX0_readsHabit 18 = .ok (.aload_n 0, 1) := dk_42 (dk_at dksX0_readsHabit_0 18 rfl rfl)
theorem dX0_readsHabit_19 : decode cX0_readsHabit 19 = .ok (.invokevirtual 214, 3) := dk_182 0 214 (dk_at dksX0_readsHabit_0 19 rfl rfl)
theorem dX0_readsHabit_22 : decode cX0_readsHabit 22 = .ok (.aload_n 0, 1) := dk_42 (dk_at dksX0_readsHabit_0 22 rfl rfl)
theorem dX0_readsHabit_23 : decode cX0_readsHabit 23 = .ok (.getfield 150, 3) := dk_180 0 150 (dk_at dksX0_readsHabit_1 0 rfl rfl)
theorem dX0_readsHabit_26 : decode cX0_readsHabit 26 = .ok (.getstatic 169, 3) := dk_178 0 169 (dk_at dksX0_readsHabit_1 3 rfl rfl)
theorem dX0_readsHabit_29 : decode cX0_readsHabit 29 = .ok (.if_acmp .eq 107, 3) := dk_165 0 107 (dk_at dksX0_readsHabit_1 6 rfl rfl)
theorem dX0_readsHabit_32 : decode cX0_readsHabit 32 = .ok (.aload_n 0, 1) := dk_42 (dk_at dksX0_readsHabit_1 9 rfl rfl)
theorem dX0_readsHabit_33 : decode cX0_readsHabit 33 = .ok (.aload_n 0, 1) := dk_42 (dk_at dksX0_readsHabit_1 10 rfl rfl)
theorem dX0_readsHabit_34 : decode cX0_readsHabit 34 = .ok (.getfield 25, 3) := dk_180 0 25 (dk_at dksX0_readsHabit_1 11 rfl rfl)
theorem dX0_readsHabit_37 : decode cX0_readsHabit 37 = .ok (.invokevirtual 179, 3) := dk_182 0 179 (dk_at dksX0_readsHabit_1 14 rfl rfl)
theorem dX0_readsHabit_40 : decode cX0_readsHabit 40 = .ok (.istore_n 2, 1) := dk_61 (dk_at dksX0_readsHabit_1 17 rfl rfl)
theorem dX0_readsHabit_41 : decode cX0_readsHabit 41 = .ok (.aload_n 0, 1) := dk_42 (dk_at dksX0_readsHabit_1 18 rfl rfl)
theorem dX0_readsHabit_42 : decode cX0_readsHabit 42 = .ok (.iload_n 2, 1) := dk_28 (dk_at dksX0_readsHabit_1 19 rfl rfl)
theorem dX0_readsHabit_43 : decode cX0_readsHabit 43 = .ok (.iconst (-1), 1) := dk_2 (dk_at dksX0_readsHabit_1 20 rfl rfl)
theorem dX0_readsHabit_44 : decode cX0_readsHabit 44 = .ok (.if_icmp .eq 7, 3) := dk_159 0 7 (dk_at dksX0_readsHabit_1 21 rfl rfl)
theorem dX0_readsHabit_47 : decode cX0_readsHabit 47 = .ok (.iconst 1, 1) := dk_4 (dk_at dksX0_readsHabit_2 0 rfl rfl)
theorem dX0_readsHabit_48 : decode cX0_readsHabit 48 = .ok (.goto 4, 3) := dk_167 0 4 (dk_at dksX0_readsHabit_2 1 rfl rfl)
theorem dX0_readsHabit_51 : decode cX0_readsHabit 51 = .ok (.iconst 0, 1) := dk_3 (dk_at dksX0_readsHabit_2 4 rfl rfl)
theorem dX0_readsHabit_52 : decode cX0_readsHabit 52 = .ok (.invokevirtual 210, 3) := dk_182 0 210 (dk_at dksX0_readsHabit_2 5 rfl rfl)
theorem dX0_readsHabit_55 : decode cX0_readsHabit 55 = .ok (.aload_n 1, 1) := dk_43 (dk_at dksX0_readsHabit_2 8 rfl rfl)
theorem dX0_readsHabit_56 : decode cX0_readsHabit 56 = .ok (.getfield 266, 3) := dk_180 1 10 (dk_at dksX0_readsHabit_2 9 rfl rfl)
theorem dX0_readsHabit_59 : decode cX0_readsHabit 59 = .ok (.bipush 16, 2) := dk_16 16 (dk_at dksX0_readsHabit_2 12 rfl rfl)
theorem dX0_readsHabit_61 : decode cX0_readsHabit 61 = .ok (.if_icmp .ne 16, 3) := dk_160 0 16 (dk_at dksX0_readsHabit_2 14 rfl rfl)
theorem dX0_readsHabit_64 : decode cX0_readsHabit 64 = .ok (.new 201, 3) := dk_187 0 201 (dk_at dksX0_readsHabit_2 17 rfl rfl)
theorem dX0_readsHabit_67 : decode cX0_readsHabit 67 = .ok (.dup, 1) := dk_89 (dk_at dksX0_readsHabit_2 20 rfl rfl)
theorem dX0_readsHabit_68 : decode cX0_readsHabit 68 = .ok (.iconst 3, 1) := dk_6 (dk_at dksX0_readsHabit_2 21 rfl rfl)
theorem dX0_readsHabit_69 : decode cX0_readsHabit 69 = .ok (.aload_n 0, 1) := dk_42 (dk_at dksX0_readsHabit_2 22 rfl rfl)
theorem dX0_readsHabit_70 : decode cX0_readsHabit 70 = .ok (.getfield 139, 3) := dk_180 0 139 (dk_at dksX0_readsHabit_3 0 rfl rfl)
theorem dX0_readsHabit_73 : decode cX0_readsHabit 73 = .ok (.invokespecial 203, 3) := dk_183 0 203 (dk_at dksX0_readsHabit_3 3 rfl rfl)
theorem dX0_readsHabit_76 : decode cX0_readsHabit 76 = .ok (.athrow, 1) := dk_191 (dk_at dksX0_readsHabit_3 6 rfl rfl)
theorem dX0_readsHabit_77 : decode cX0_readsHabit 77 = .ok (.aload_n 0, 1) := dk_42 (dk_at dksX0_readsHabit_3 7 rfl rfl)
theorem dX0_readsHabit_78 : decode cX0_readsHabit 78 = .ok (.invokevirtual 214, 3) := dk_182 0 214 (dk_at dksX0_readsHabit_3 8 rfl rfl)
theorem dX0_readsHabit_81 : decode cX0_readsHabit 81 = .ok (.aload_n 1, 1) := dk_43 (dk_at dksX0_readsHabit_3 11 rfl rfl)
theorem dX0_readsHabit_82 : decode cX0_readsHabit 82 = .ok (.getfield 269, 3) := dk_180 1 13 (dk_at dksX0_readsHabit_3 12 rfl rfl)
theorem dX0_readsHabit_85 : decode cX0_readsHabit 85 = .ok (.aload_n 1, 1) := dk_43 (dk_at dksX0_readsHabit_3 15 rfl rfl)
theorem dX0_readsHabit_86 : decode cX0_readsHabit 86 = .ok (.getfield 266, 3) := dk_180 1 10 (dk_at dksX0_readsHabit_3 16 rfl rfl)
theorem dX0_readsHabit_89 : decode cX0_readsHabit 89 = .ok (.iload_n 2, 1) := dk_28 (dk_at dksX0_readsHabit_3 19 rfl rfl)
theorem dX0_readsHabit_90 : decode cX0_readsHabit 90 = .ok (.iastore, 1) := dk_79 (dk_at dksX0_readsHabit_3 20 rfl rfl)
theorem dX0_readsHabit_91 : decode cX0_readsHabit 91 = .ok (.aload_n 0, 1) := dk_42 (dk_at dksX0_readsHabit_3 21 rfl rfl)
theorem dX0_readsHabit_92 : decode cX0_readsHabit 92 = .ok (.ldc 50, 2) := dk_18 50 (dk_at dksX0_readsHabit_3 22 rfl rfl)
theorem dX0_readsHabit_94 : decode cX0_readsHabit 94 = .ok (.invokevirtual 239, 3) := dk_182 0 239 (dk_at dksX0_readsHabit_4 0 rfl rfl)
theorem dX0_readsHabit_97 : decode cX0_readsHabit 97 = .ok (.ifCond .eq 20, 3) := dk_153 0 20 (dk_at dksX0_readsHabit_4 3 rfl rfl)
theorem dX0_readsHabit_100 : decode cX0_readsHabit 100 = .ok (.aload_n 0, 1) := dk_42 (dk_at dksX0_readsHabit_4 6 rfl rfl)
theorem dX0_readsHabit_101 : decode cX0_readsHabit 101 = .ok (.invokevirtual 214, 3) := dk_182 0 214 (dk_at dksX0_readsHabit_4 7 rfl rfl)
theorem dX0_readsHabit_104 : decode cX0_readsHabit 104 = .ok (.aload_n 1, 1) := dk_43 (dk_at dksX0_readsHabit_4 10 rfl rfl)
theorem dX0_readsHabit_105 : decode cX0_readsHabit 105 = .ok (.getfield 272, 3) := dk_180 1 16 (dk_at dksX0_readsHabit_4 11 rfl rfl)
theorem dX0_readsHabit_108 : decode cX0_readsHabit 108 = .ok (.aload_n 1, 1) := dk_43 (dk_at dksX0_readsHabit_4 14 rfl rfl)
theorem dX0_readsHabit_109 : decode cX0_readsHabit 109 = .ok (.getfield 266, 3) := dk_180 1 10 (dk_at dksX0_readsHabit_4 15 rfl rfl)
theorem dX0_readsHabit_112 : decode cX0_readsHabit 112 = .ok (.aload_n 0, 1) := dk_42 (dk_at dksX0_readsHabit_4 18 rfl rfl)
theorem dX0_readsHabit_113 : decode cX0_readsHabit 113 = .ok (.invokevirtual 253, 3) := dk_182 0 253 (dk_at dksX0_readsHabit_4 19 rfl rfl)
theorem dX0_readsHabit_116 : decode cX0_readsHabit 116 = .ok (.aastore, 1) := dk_83 (dk_at dksX0_readsHabit_4 22 rfl rfl)
theorem dX0_readsHabit_117 : decode cX0_readsHabit 117 = .ok (.aload_n 0, 1) := dk_42 (dk_at dksX0_readsHabit_4 23 rfl rfl)
theorem dX0_readsHabit_118 : decode cX0_readsHabit 118 = .ok (.bipush 59, 2) := dk_16 59 (dk_at dksX0_readsHabit_5 0 rfl rfl)
theorem dX0_readsHabit_120 : decode cX0_readsHabit 120 = .ok (.invokevirtual 256, 3) := dk_182 1 0 (dk_at dksX0_readsHabit_5 2 rfl rfl)
theorem dX0_readsHabit_123 : decode cX0_readsHabit 123 = .ok (.aload_n 1, 1) := dk_43 (dk_at dksX0_readsHabit_5 5 rfl rfl)
theorem dX0_readsHabit_124 : decode cX0_readsHabit 124 = .ok (.dup, 1) := dk_89 (dk_at dksX0_readsHabit_5 6 rfl rfl)
theorem dX0_readsHabit_125 : decode cX0_readsHabit 125 = .ok (.getfield 266, 3) := dk_180 1 10 (dk_at dksX0_readsHabit_5 7 rfl rfl)
theorem dX0_readsHabit_128 : decode cX0_readsHabit 128 = .ok (.iconst 1, 1) := dk_4 (dk_at dksX0_readsHabit_5 10 rfl rfl)
theorem dX0_readsHabit_129 : decode cX0_readsHabit 129 = .ok (.iadd, 1) := dk_96 (dk_at dksX0_readsHabit_5 11 rfl rfl)
theorem dX0_readsHabit_130 : decode cX0_readsHabit 130 = .ok (.putfield 266, 3) := dk_181 1 10 (dk_at dksX0_readsHabit_5 12 rfl rfl)
theorem dX0_readsHabit_133 : decode cX0_readsHabit 133 = .ok (.goto (-111), 3) := dk_167 255 145 (dk_at dksX0_readsHabit_5 15 rfl rfl)
theorem dX0_readsHabit_136 : decode cX0_readsHabit 136 = .ok (.aload_n 1, 1) := dk_43 (dk_at dksX0_readsHabit_5 18 rfl rfl)
theorem dX0_readsHabit_137 : decode cX0_readsHabit 137 = .ok (.areturn, 1) := dk_176 (dk_at dksX0_readsHabit_5 19 rfl rfl)
abbrev cX0_readNext : ByteArray := prog_1_method_13_code
def yX0_readNext : MethodName := ⟨RX0, "readNext", "()V"⟩
def dkwX0_readNext_12 : List UInt8 := [181, 0, 150, 42, 27, 181, 0, 166, 177]
abbrev dktX0_readNext_12 : List UInt8 := dkwX0_readNext_12 ++ []
def dkwX0_readNext_11 : List UInt8 := [42, 178, 0, 193, 181, 0, 150, 167, 0, 24, 18, 196, 27, 182, 0, 198, 155, 0, 15, 42, 178, 0, 163]
abbrev dktX0_readNext_11 : List UInt8 := dkwX0_readNext_11 ++ dktX0_readNext_12
def dkwX0_readNext_10 : List UInt8 := [180, 0, 136, 4, 96, 181, 0, 136, 167, 255, 204, 42, 180, 0, 136, 42, 180, 0, 139, 100, 7, 163, 0, 34]
abbrev dktX0_readNext_10 : List UInt8 := dkwX0_readNext_10 ++ dktX0_readNext_11
def dkwX0_readNext_9 : List UInt8 := [180, 0, 166, 104, 42, 42, 180, 0, 136, 182, 0, 142, 96, 16, 48, 100, 184, 0, 187, 181, 0, 166, 42, 89]
abbrev dktX0_readNext_9 : List UInt8 := dkwX0_readNext_9 ++ dktX0_readNext_10
def dkwX0_readNext_8 : List UInt8 := [100, 181, 0, 166, 42, 42, 180, 0, 136, 182, 0, 142, 184, 0, 183, 153, 0, 44, 42, 18, 186, 16, 10, 42]
abbrev dktX0_readNext_8 : List UInt8 := dkwX0_readNext_8 ++ dktX0_readNext_9
def dkwX0_readNext_7 : List UInt8 := [160, 0, 127, 42, 178, 0, 172, 181, 0, 150, 167, 0, 117, 27, 184, 0, 183, 153, 0, 89, 42, 27, 16, 48]
abbrev dktX0_readNext_7 : List UInt8 := dkwX0_readNext_7 ++ dktX0_readNext_8
def dkwX0_readNext_6 : List UInt8 := [160, 0, 151, 42, 42, 180, 0, 47, 182, 0, 179, 2, 160, 0, 139, 42, 42, 180, 0, 58, 182, 0, 179, 2]
abbrev dktX0_readNext_6 : List UInt8 := dkwX0_readNext_6 ++ dktX0_readNext_7
def dkwX0_readNext_5 : List UInt8 := [181, 0, 136, 167, 255, 232, 42, 178, 0, 154, 181, 0, 150, 42, 42, 180, 0, 25, 182, 0, 179, 2]
abbrev dktX0_readNext_5 : List UInt8 := dkwX0_readNext_5 ++ dktX0_readNext_6
def dkwX0_readNext_4 : List UInt8 := [153, 0, 83, 42, 42, 180, 0, 136, 182, 0, 142, 184, 0, 175, 153, 0, 16, 42, 89, 180, 0, 136, 4, 96]
abbrev dktX0_readNext_4 : List UInt8 := dkwX0_readNext_4 ++ dktX0_readNext_5
def dkwX0_readNext_3 : List UInt8 := [181, 0, 150, 27, 2, 160, 0, 4, 177, 42, 89, 180, 0, 136, 4, 96, 181, 0, 136, 27, 184, 0, 175]
abbrev dktX0_readNext_3 : List UInt8 := dkwX0_readNext_3 ++ dktX0_readNext_4
def dkwX0_readNext_2 : List UInt8 := [42, 42, 180, 0, 136, 182, 0, 142, 60, 42, 27, 2, 160, 0, 9, 178, 0, 169, 167, 0, 6, 178, 0, 172]
abbrev dktX0_readNext_2 : List UInt8 := dkwX0_readNext_2 ++ dktX0_readNext_3
def dkwX0_readNext_1 : List UInt8 := [160, 0, 16, 42, 89, 180, 0, 136, 4, 96, 181, 0, 136, 167, 255, 220, 42, 42, 180, 0, 136, 181, 0, 139]
abbrev dktX0_readNext_1 : List UInt8 := dkwX0_readNext_1 ++ dktX0_readNext_2
def dkwX0_readNext_0 : List UInt8 := [42, 42, 180, 0, 136, 182, 0, 142, 16, 32, 159, 0, 16, 42, 42, 180, 0, 136, 182, 0, 142, 16, 10]
abbrev dktX0_readNext_0 : List UInt8 := dkwX0_readNext_0 ++ dktX0_readNext_1
theorem dksX0_readNext_0 : cX0_readNext.data.toList.drop 0 = dktX0_readNext_0 := by decide +kernel
theorem dksX0_readNext_1 : cX0_readNext.data.toList.drop 23 = dktX0_readNext_1 := dk_seg dksX0_readNext_0 23 rfl rfl
theorem dksX0_readNext_2 : cX0_readNext.data.toList.drop 47 = dktX0_readNext_2 := dk_seg dksX0_readNext_1 24 rfl rfl
theorem dksX0_readNext_3 : cX0_readNext.data.toList.drop 71 = dktX0_readNext_3 := dk_seg dksX0_readNext_2 24 rfl rfl
theorem dksX0_readNext_4 : cX0_readNext.data.toList.drop 94 = dktX0_readNext_4 := dk_seg dksX0_readNext_3 23 rfl rfl
theorem dksX0_readNext_5 : cX0_readNext.data.toList.drop 118 = dktX0_readNext_5 := dk_seg dksX0_readNext_4 24 rfl rfl
theorem dksX0_readNext_6 : cX0_readNext.data.toList.drop 140 = dktX0_readNext_6 := dk_seg dksX0_readNext_5 22 rfl rfl
theorem dksX0_readNext_7 : cX0_readNext.data.toList.drop 164 = dktX0_readNext_7 := dk_seg dksX0_readNext_6 24 rfl rfl
theorem dksX0_readNext_8 : cX0_readNext.data.toList.drop 188 = dktX0_readNext_8 := dk_seg dksX0_readNext_7 24 rfl rfl
theorem dksX0_readNext_9 : cX0_readNext.data.toList.drop 212 = dktX0_readNext_9 := dk_seg dksX0_readNext_8 24 rfl rfl
theorem dksX0_readNext_10 : cX0_readNext.data.toList.drop 236 = dktX0_readNext_10 := dk_seg dksX0_readNext_9 24 rfl rfl
theorem dksX0_readNext_11 : cX0_readNext.data.toList.drop 260 = dktX0_readNext_11 := dk_seg dksX0_readNext_10 24 rfl rfl
theorem dksX0_readNext_12 : cX0_readNext.data.toList.drop 283 = dktX0_readNext_12 := dk_seg dksX0_readNext_11 23 rfl rfl
theorem dX0_readNext_0 : decode cX0_readNext 0 = .ok (.aload_n 0, 1) := dk_42 (dk_at dksX0_readNext_0 0 rfl rfl)
theorem dX0_readNext_1 : decode cX0_readNext 1 = .ok (.aload_n 0, 1) := dk_42 (dk_at dksX0_readNext_0 1 rfl rfl)
theorem dX0_readNext_2 : decode cX0_readNext 2 = .ok (.getfield 136, 3) := dk_180 0 136 (dk_at dksX0_readNext_0 2 rfl rfl)
theorem dX0_readNext_5 : decode cX0_readNext 5 = .ok (.invokevirtual 142, 3) := dk_182 0 142 (dk_at dksX0_readNext_0 5 rfl rfl)
theorem dX0_readNext_8 : decode cX0_readNext 8 = .ok (.bipush 32, 2) := dk_16 32 (dk_at dksX0_readNext_0 8 rfl rfl)
theorem dX0_readNext_10 : decode cX0_readNext 10 = .ok (.if_icmp .eq 16, 3) := dk_159 0 16 (dk_at dksX0_readNext_0 10 rfl rfl)
theorem dX0_readNext_13 : decode cX0_readNext 13 = .ok (.aload_n 0, 1) := dk_42 (dk_at dksX0_readNext_0 13 rfl rfl)
theorem dX0_readNext_14 : decode cX0_readNext 14 = .ok (.aload_n 0, 1) := dk_42 (dk_at dksX0_readNext_0 14 rfl rfl)
theorem dX0_readNext_15 : decode cX0_readNext 15 = .ok (.getfield 136, 3) := dk_180 0 136 (dk_at dksX0_readNext_0 15 rfl rfl)
theorem dX0_readNext_18 : decode cX0_readNext 18 = .ok (.invokevirtual 142, 3) := dk_182 0 142 (dk_at dksX0_readNext_0 18 rfl rfl)
theorem dX0_readNext_21 : decode cX0_readNext 21 = .ok (.bipush 10, 2) := dk_16 10 (dk_at dksX0_readNext_0 21 rfl rfl)
theorem dX0_readNext_23 : decode cX0_readNext 23 = .ok (.if_icmp .ne 16, 3) := dk_160 0 16 (dk_at dksX0_readNext_1 0 rfl rfl)
theorem dX0_readNext_26 : decode cX0_readNext 26 = .ok (.aload_n 0, 1) := dk_42 (dk_at dksX0_readNext_1 3 rfl rfl)
theorem dX0_readNext_27 : decode cX0_readNext 27 = .ok (.dup, 1) := dk_89 (dk_at dksX0_readNext_1 4 rfl rfl)
theorem dX0_readNext_28 : decode cX0_readNext 28 = .ok (.getfield 136, 3) := dk_180 0 136 (dk_at dksX0_readNext_1 5 rfl rfl)
theorem dX0_readNext_31 : decode cX0_readNext 31 = .ok (.iconst 1, 1) := dk_4 (dk_at dksX0_readNext_1 8 rfl rfl)
theorem dX0_readNext_32 : decode cX0_readNext 32 = .ok (.iadd, 1) := dk_96 (dk_at dksX0_readNext_1 9 rfl rfl)
theorem dX0_readNext_33 : decode cX0_readNext 33 = .ok (.putfield 136, 3) := dk_181 0 136 (dk_at dksX0_readNext_1 10 rfl rfl)
theorem dX0_readNext_36 : decode cX0_readNext 36 = .ok (.goto (-36), 3) := dk_167 255 220 (dk_at dksX0_readNext_1 13 rfl rfl)
theorem dX0_readNext_39 : decode cX0_readNext 39 = .ok (.aload_n 0, 1) := dk_42 (dk_at dksX0_readNext_1 16 rfl rfl)
theorem dX0_readNext_40 : decode cX0_readNext 40 = .ok (.aload_n 0, 1) := dk_42 (dk_at dksX0_readNext_1 17 rfl rfl)
theorem dX0_readNext_41 : decode cX0_readNext 41 = .ok (.getfield 136, 3) := dk_180 0 136 (dk_at dksX0_readNext_1 18 rfl rfl)
theorem dX0_readNext_44 : decode cX0_readNext 44 = .ok (.putfield 139, 3) := dk_181 0 139 (dk_at dksX0_readNext_1 21 rfl rfl)
theorem dX0_readNext_47 : decode cX0_readNext 47 = .ok (.aload_n 0, 1) := dk_42 (dk_at dksX0_readNext_2 0 rfl rfl)
theorem dX0_readNext_48 : decode cX0_readNext 48 = .ok (.aload_n 0, 1) := dk_42 (dk_at dksX0_readNext_2 1 rfl rfl)
theorem dX0_readNext_49 : decode cX0_readNext 49 = .ok (.getfield 136, 3) := dk_180 0 136 (dk_at dksX0_readNext_2 2 rfl rfl)
theorem dX0_readNext_52 : decode cX0_readNext 52 = .ok (.invokevirtual 142, 3) := dk_182 0 142 (dk_at dksX0_readNext_2 5 rfl rfl)
theorem dX0_readNext_55 : decode cX0_readNext 55 = .ok (.istore_n 1, 1) := dk_60 (dk_at dksX0_readNext_2 8 rfl rfl)
theorem dX0_readNext_56 : decode cX0_readNext 56 = .ok (.aload_n 0, 1) := dk_42 (dk_at dksX0_readNext_2 9 rfl rfl)
theorem dX0_readNext_57 : decode cX0_readNext 57 = .ok (.iload_n 1, 1) := dk_27 (dk_at dksX0_readNext_2 10 rfl rfl)
theorem dX0_readNext_58 : decode cX0_readNext 58 = .ok (.iconst (-1), 1) := dk_2 (dk_at dksX0_readNext_2 11 rfl rfl)
theorem dX0_readNext_59 : decode cX0_readNext 59 = .ok (.if_icmp .ne 9, 3) := dk_160 0 9 (dk_at dksX0_readNext_2 12 rfl rfl)
theorem dX0_readNext_62 : decode cX0_readNext 62 = .ok (.getstatic 169, 3) := dk_178 0 169 (dk_at dksX0_readNext_2 15 rfl rfl)
theorem dX0_readNext_65 : decode cX0_readNext 65 = .ok (.goto 6, 3) := dk_167 0 6 (dk_at dksX0_readNext_2 18 rfl rfl)
theorem dX0_readNext_68 : decode cX0_readNext 68 = .ok (.getstatic 172, 3) := dk_178 0 172 (dk_at dksX0_readNext_2 21 rfl rfl)
theorem dX0_readNext_71 : decode cX0_readNext 71 = .ok (.putfield 150, 3) := dk_181 0 150 (dk_at dksX0_readNext_3 0 rfl rfl)
theorem dX0_readNext_74 : decode cX0_readNext 74 = .ok (.iload_n 1, 1) := dk_27 (dk_at dksX0_readNext_3 3 rfl rfl)
theorem dX0_readNext_75 : decode cX0_readNext 75 = .ok (.iconst (-1), 1) := dk_2 (dk_at dksX0_readNext_3 4 rfl rfl)
theorem dX0_readNext_76 : decode cX0_readNext 76 = .ok (.if_icmp .ne 4, 3) := dk_160 0 4 (dk_at dksX0_readNext_3 5 rfl rfl)
theorem dX0_readNext_79 : decode cX0_readNext 79 = .ok (.return_, 1) := dk_177 (dk_at dksX0_readNext_3 8 rfl rfl)
theorem dX0_readNext_80 : decode cX0_readNext 80 = .ok (.aload_n 0, 1) := dk_42 (dk_at dksX0_readNext_3 9 rfl rfl)
theorem dX0_readNext_81 : decode cX0_readNext 81 = .ok (.dup, 1) := dk_89 (dk_at dksX0_readNext_3 10 rfl rfl)
theorem dX0_readNext_82 : decode cX0_readNext 82 = .ok (.getfield 136, 3) := dk_180 0 136 (dk_at dksX0_readNext_3 11 rfl rfl)
theorem dX0_readNext_85 : decode cX0_readNext 85 = .ok (.iconst 1, 1) := dk_4 (dk_at dksX0_readNext_3 14 rfl rfl)
theorem dX0_readNext_86 : decode cX0_readNext 86 = .ok (.iadd, 1) := dk_96 (dk_at dksX0_readNext_3 15 rfl rfl)
theorem dX0_readNext_87 : decode cX0_readNext 87 = .ok (.putfield 136, 3) := dk_181 0 136 (dk_at dksX0_readNext_3 16 rfl rfl)
theorem dX0_readNext_90 : decode cX0_readNext 90 = .ok (.iload_n 1, 1) := dk_27 (dk_at dksX0_readNext_3 19 rfl rfl)
theorem dX0_readNext_91 : decode cX0_readNext 91 = .ok (.invokestatic 175, 3) := dk_184 0 175 (dk_at dksX0_readNext_3 20 rfl rfl)
theorem dX0_readNext_94 : decode cX0_readNext 94 = .ok (.ifCond .eq 83, 3) := dk_153 0 83 (dk_at dksX0_readNext_4 0 rfl rfl)
theorem dX0_readNext_97 : decode cX0_readNext 97 = .ok (.aload_n 0, 1) := dk_42 (dk_at dksX0_readNext_4 3 rfl rfl)
theorem dX0_readNext_98 : decode cX0_readNext 98 = .ok (.aload_n 0, 1) := dk_42 (dk_at dksX0_readNext_4 4 rfl rfl)
theorem dX0_readNext_99 : decode cX0_readNext 99 = .ok (.getfield 136, 3) := dk_180 0 136 (dk_at dksX0_readNext_4 5 rfl rfl)
theorem dX0_readNext_102 : decode cX0_readNext 102 = .ok (.invokevirtual 142, 3) := dk_182 0 142 (dk_at dksX0_readNext_4 8 rfl rfl)
theorem dX0_readNext_105 : decode cX0_readNext 105 = .ok (.invokestatic 175, 3) := dk_184 0 175 (dk_at dksX0_readNext_4 11 rfl rfl)
theorem dX0_readNext_108 : decode cX0_readNext 108 = .ok (.ifCond .eq 16, 3) := dk_153 0 16 (dk_at dksX0_readNext_4 14 rfl rfl)
theorem dX0_readNext_111 : decode cX0_readNext 111 = .ok (.aload_n 0, 1) := dk_42 (dk_at dksX0_readNext_4 17 rfl rfl)
theorem dX0_readNext_112 : decode cX0_readNext 112 = .ok (.dup, 1) := dk_89 (dk_at dksX0_readNext_4 18 rfl rfl)
theorem dX0_readNext_113 : decode cX0_readNext 113 = .ok (.getfield 136, 3) := dk_180 0 136 (dk_at dksX0_readNext_4 19 rfl rfl)
theorem dX0_readNext_116 : decode cX0_readNext 116 = .ok (.iconst 1, 1) := dk_4 (dk_at dksX0_readNext_4 22 rfl rfl)
theorem dX0_readNext_117 : decode cX0_readNext 117 = .ok (.iadd, 1) := dk_96 (dk_at dksX0_readNext_4 23 rfl rfl)
theorem dX0_readNext_118 : decode cX0_readNext 118 = .ok (.putfield 136, 3) := dk_181 0 136 (dk_at dksX0_readNext_5 0 rfl rfl)
theorem dX0_readNext_121 : decode cX0_readNext 121 = .ok (.goto (-24), 3) := dk_167 255 232 (dk_at dksX0_readNext_5 3 rfl rfl)
theorem dX0_readNext_124 : decode cX0_readNext 124 = .ok (.aload_n 0, 1) := dk_42 (dk_at dksX0_readNext_5 6 rfl rfl)
theorem dX0_readNext_125 : decode cX0_readNext 125 = .ok (.getstatic 154, 3) := dk_178 0 154 (dk_at dksX0_readNext_5 7 rfl rfl)
theorem dX0_readNext_128 : decode cX0_readNext 128 = .ok (.putfield 150, 3) := dk_181 0 150 (dk_at dksX0_readNext_5 10 rfl rfl)
theorem dX0_readNext_131 : decode cX0_readNext 131 = .ok (.aload_n 0, 1) := dk_42 (dk_at dksX0_readNext_5 13 rfl rfl)
theorem dX0_readNext_132 : decode cX0_readNext 132 = .ok (.aload_n 0, 1) := dk_42 (dk_at dksX0_readNext_5 14 rfl rfl)
theorem dX0_readNext_133 : decode cX0_readNext 133 = .ok (.getfield 25, 3) := dk_180 0 25 (dk_at dksX0_readNext_5 15 rfl rfl)
theorem dX0_readNext_136 : decode cX0_readNext 136 = .ok (.invokevirtual 179, 3) := dk_182 0 179 (dk_at dksX0_readNext_5 18 rfl rfl)
theorem dX0_readNext_139 : decode cX0_readNext 139 = .ok (.iconst (-1), 1) := dk_2 (dk_at dksX0_readNext_5 21 rfl rfl)
theorem dX0_readNext_140 : decode cX0_readNext 140 = .ok (.if_icmp .ne 151, 3) := dk_160 0 151 (dk_at dksX0_readNext_6 0 rfl rfl)
theorem dX0_readNext_143 : decode cX0_readNext 143 = .ok (.aload_n 0, 1) := dk_42 (dk_at dksX0_readNext_6 3 rfl rfl)
theorem dX0_readNext_144 : decode cX0_readNext 144 = .ok (.aload_n 0, 1) := dk_42 (dk_at dksX0_readNext_6 4 rfl rfl)
theorem dX0_readNext_145 : decode cX0_readNext 145 = .ok (.getfield 47, 3) := dk_180 0 47 (dk_at dksX0_readNext_6 5 rfl rfl)
theorem dX0_readNext_148 : decode cX0_readNext 148 = .ok (.invokevirtual 179, 3) := dk_182 0 179 (dk_at dksX0_readNext_6 8 rfl rfl)
theorem dX0_readNext_151 : decode cX0_readNext 151 = .ok (.iconst (-1), 1) := dk_2 (dk_at dksX0_readNext_6 11 rfl rfl)
theorem dX0_readNext_152 : decode cX0_readNext 152 = .ok (.if_icmp .ne 139, 3) := dk_160 0 139 (dk_at dksX0_readNext_6 12 rfl rfl)
theorem dX0_readNext_155 : decode cX0_readNext 155 = .ok (.aload_n 0, 1) := dk_42 (dk_at dksX0_readNext_6 15 rfl rfl)
theorem dX0_readNext_156 : decode cX0_readNext 156 = .ok (.aload_n 0, 1) := dk_42 (dk_at dksX0_readNext_6 16 rfl rfl)
theorem dX0_readNext_157 : decode cX0_readNext 157 = .ok (.getfield 58, 3) := dk_180 0 58 (dk_at dksX0_readNext_6 17 rfl rfl)
theorem dX0_readNext_160 : decode cX0_readNext 160 = .ok (.invokevirtual 179, 3) := dk_182 0 179 (dk_at dksX0_readNext_6 20 rfl rfl)
theorem dX0_readNext_163 : decode cX0_readNext 163 = .ok (.iconst (-1), 1) := dk_2 (dk_at dksX0_readNext_6 23 rfl rfl)
theorem dX0_readNext_164 : decode cX0_readNext 164 = .ok (.if_icmp .ne 127, 3) := dk_160 0 127 (dk_at dksX0_readNext_7 0 rfl rfl)
theorem dX0_readNext_167 : decode cX0_readNext 167 = .ok (.aload_n 0, 1) := dk_42 (dk_at dksX0_readNext_7 3 rfl rfl)
theorem dX0_readNext_168 : decode cX0_readNext 168 = .ok (.getstatic 172, 3) := dk_178 0 172 (dk_at dksX0_readNext_7 4 rfl rfl)
theorem dX0_readNext_171 : decode cX0_readNext 171 = .ok (.putfield 150, 3) := dk_181 0 150 (dk_at dksX0_readNext_7 7 rfl rfl)
theorem dX0_readNext_174 : decode cX0_readNext 174 = .ok (.goto 117, 3) := dk_167 0 117 (dk_at dksX0_readNext_7 10 rfl rfl)
theorem dX0_readNext_177 : decode cX0_readNext 177 = .ok (.iload_n 1, 1) := dk_27 (dk_at dksX0_readNext_7 13 rfl rfl)
theorem dX0_readNext_178 : decode cX0_readNext 178 = .ok (.invokestatic 183, 3) := dk_184 0 183 (dk_at dksX0_readNext_7 14 rfl rfl)
theorem dX0_readNext_181 : decode cX0_readNext 181 = .ok (.ifCond .eq 89, 3) := dk_153 0 89 (dk_at dksX0_readNext_7 17 rfl rfl)
theorem dX0_readNext_184 : decode cX0_readNext 184 = .ok (.aload_n 0, 1) := dk_42 (dk_at dksX0_readNext_7 20 rfl rfl)
theorem dX0_readNext_185 : decode cX0_readNext 185 = .ok (.iload_n 1, 1) := dk_27 (dk_at dksX0_readNext_7 21 rfl rfl)
theorem dX0_readNext_186 : decode cX0_readNext 186 = .ok (.bipush 48, 2) := dk_16 48 (dk_at dksX0_readNext_7 22 rfl rfl)
theorem dX0_readNext_188 : decode cX0_readNext 188 = .ok (.isub, 1) := dk_100 (dk_at dksX0_readNext_8 0 rfl rfl)
theorem dX0_readNext_189 : decode cX0_readNext 189 = .ok (.putfield 166, 3) := dk_181 0 166 (dk_at dksX0_readNext_8 1 rfl rfl)
theorem dX0_readNext_192 : decode cX0_readNext 192 = .ok (.aload_n 0, 1) := dk_42 (dk_at dksX0_readNext_8 4 rfl rfl)
theorem dX0_readNext_193 : decode cX0_readNext 193 = .ok (.aload_n 0, 1) := dk_42 (dk_at dksX0_readNext_8 5 rfl rfl)
theorem dX0_readNext_194 : decode cX0_readNext 194 = .ok (.getfield 136, 3) := dk_180 0 136 (dk_at dksX0_readNext_8 6 rfl rfl)
theorem dX0_readNext_197 : decode cX0_readNext 197 = .ok (.invokevirtual 142, 3) := dk_182 0 142 (dk_at dksX0_readNext_8 9 rfl rfl)
theorem dX0_readNext_200 : decode cX0_readNext 200 = .ok (.invokestatic 183, 3) := dk_184 0 183 (dk_at dksX0_readNext_8 12 rfl rfl)
theorem dX0_readNext_203 : decode cX0_readNext 203 = .ok (.ifCond .eq 44, 3) := dk_153 0 44 (dk_at dksX0_readNext_8 15 rfl rfl)
theorem dX0_readNext_206 : decode cX0_readNext 206 = .ok (.aload_n 0, 1) := dk_42 (dk_at dksX0_readNext_8 18 rfl rfl)
theorem dX0_readNext_207 : decode cX0_readNext 207 = .ok (.ldc 186, 2) := dk_18 186 (dk_at dksX0_readNext_8 19 rfl rfl)
theorem dX0_readNext_209 : decode cX0_readNext 209 = .ok (.bipush 10, 2) := dk_16 10 (dk_at dksX0_readNext_8 21 rfl rfl)
theorem dX0_readNext_211 : decode cX0_readNext 211 = .ok (.aload_n 0, 1) := dk_42 (dk_at dksX0_readNext_8 23 rfl rfl)
theorem dX0_readNext_212 : decode cX0_readNext 212 = .ok (.getfield 166, 3) := dk_180 0 166 (dk_at dksX0_readNext_9 0 rfl rfl)
theorem dX0_readNext_215 : decode cX0_readNext 215 = .ok (.imul, 1) := dk_104 (dk_at dksX0_readNext_9 3 rfl rfl)
theorem dX0_readNext_216 : decode cX0_readNext 216 = .ok (.aload_n 0, 1) := dk_42 (dk_at dksX0_readNext_9 4 rfl rfl)
theorem dX0_readNext_217 : decode cX0_readNext 217 = .ok (.aload_n 0, 1) := dk_42 (dk_at dksX0_readNext_9 5 rfl rfl)
theorem dX0_readNext_218 : decode cX0_readNext 218 = .ok (.getfield 136, 3) := dk_180 0 136 (dk_at dksX0_readNext_9 6 rfl rfl)
theorem dX0_readNext_221 : decode cX0_readNext 221 = .ok (.invokevirtual 142, 3) := dk_182 0 142 (dk_at dksX0_readNext_9 9 rfl rfl)
theorem dX0_readNext_224 : decode cX0_readNext 224 = .ok (.iadd, 1) := dk_96 (dk_at dksX0_readNext_9 12 rfl rfl)
theorem dX0_readNext_225 : decode cX0_readNext 225 = .ok (.bipush 48, 2) := dk_16 48 (dk_at dksX0_readNext_9 13 rfl rfl)
theorem dX0_readNext_227 : decode cX0_readNext 227 = .ok (.isub, 1) := dk_100 (dk_at dksX0_readNext_9 15 rfl rfl)
theorem dX0_readNext_228 : decode cX0_readNext 228 = .ok (.invokestatic 187, 3) := dk_184 0 187 (dk_at dksX0_readNext_9 16 rfl rfl)
theorem dX0_readNext_231 : decode cX0_readNext 231 = .ok (.putfield 166, 3) := dk_181 0 166 (dk_at dksX0_readNext_9 19 rfl rfl)
theorem dX0_readNext_234 : decode cX0_readNext 234 = .ok (.aload_n 0, 1) := dk_42 (dk_at dksX0_readNext_9 22 rfl rfl)
theorem dX0_readNext_235 : decode cX0_readNext 235 = .ok (.dup, 1) := dk_89 (dk_at dksX0_readNext_9 23 rfl rfl)
theorem dX0_readNext_236 : decode cX0_readNext 236 = .ok (.getfield 136, 3) := dk_180 0 136 (dk_at dksX0_readNext_10 0 rfl rfl)
theorem dX0_readNext_239 : decode cX0_readNext 239 = .ok (.iconst 1, 1) := dk_4 (dk_at dksX0_readNext_10 3 rfl rfl)
theorem dX0_readNext_240 : decode cX0_readNext 240 = .ok (.iadd, 1) := dk_96 (dk_at dksX0_readNext_10 4 rfl rfl)
theorem dX0_readNext_241 : decode cX0_readNext 241 = .ok (.putfield 136, 3) := dk_181 0 136 (dk_at dksX0_readNext_10 5 rfl rfl)
theorem dX0_readNext_244 : decode cX0_readNext 244 = .ok (.goto (-52), 3) := dk_167 255 204 (dk_at dksX0_readNext_10 8 rfl rfl)
theorem dX0_readNext_247 : decode cX0_readNext 247 = .ok (.aload_n 0, 1) := dk_42 (dk_at dksX0_readNext_10 11 rfl rfl)
theorem dX0_readNext_248 : decode cX0_readNext 248 = .ok (.getfield 136, 3) := dk_180 0 136 (dk_at dksX0_readNext_10 12 rfl rfl)
theorem dX0_readNext_251 : decode cX0_readNext 251 = .ok (.aload_n 0, 1) := dk_42 (dk_at dksX0_readNext_10 15 rfl rfl)
theorem dX0_readNext_252 : decode cX0_readNext 252 = .ok (.getfield 139, 3) := dk_180 0 139 (dk_at dksX0_readNext_10 16 rfl rfl)
theorem dX0_readNext_255 : decode cX0_readNext 255 = .ok (.isub, 1) := dk_100 (dk_at dksX0_readNext_10 19 rfl rfl)
theorem dX0_readNext_256 : decode cX0_readNext 256 = .ok (.iconst 4, 1) := dk_7 (dk_at dksX0_readNext_10 20 rfl rfl)
theorem dX0_readNext_257 : decode cX0_readNext 257 = .ok (.if_icmp .gt 34, 3) := dk_163 0 34 (dk_at dksX0_readNext_10 21 rfl rfl)
theorem dX0_readNext_260 : decode cX0_readNext 260 = .ok (.aload_n 0, 1) := dk_42 (dk_at dksX0_readNext_11 0 rfl rfl)
theorem dX0_readNext_261 : decode cX0_readNext 261 = .ok (.getstatic 193, 3) := dk_178 0 193 (dk_at dksX0_readNext_11 1 rfl rfl)
theorem dX0_readNext_264 : decode cX0_readNext 264 = .ok (.putfield 150, 3) := dk_181 0 150 (dk_at dksX0_readNext_11 4 rfl rfl)
theorem dX0_readNext_267 : decode cX0_readNext 267 = .ok (.goto 24, 3) := dk_167 0 24 (dk_at dksX0_readNext_11 7 rfl rfl)
theorem dX0_readNext_270 : decode cX0_readNext 270 = .ok (.ldc 196, 2) := dk_18 196 (dk_at dksX0_readNext_11 10 rfl rfl)
theorem dX0_readNext_272 : decode cX0_readNext 272 = .ok (.iload_n 1, 1) := dk_27 (dk_at dksX0_readNext_11 12 rfl rfl)
theorem dX0_readNext_273 : decode cX0_readNext 273 = .ok (.invokevirtual 198, 3) := dk_182 0 198 (dk_at dksX0_readNext_11 13 rfl rfl)
theorem dX0_readNext_276 : decode cX0_readNext 276 = .ok (.ifCond .lt 15, 3) := dk_155 0 15 (dk_at dksX0_readNext_11 16 rfl rfl)
theorem dX0_readNext_279 : decode cX0_readNext 279 = .ok (.aload_n 0, 1) := dk_42 (dk_at dksX0_readNext_11 19 rfl rfl)
theorem dX0_readNext_280 : decode cX0_readNext 280 = .ok (.getstatic 163, 3) := dk_178 0 163 (dk_at dksX0_readNext_11 20 rfl rfl)
theorem dX0_readNext_283 : decode cX0_readNext 283 = .ok (.putfield 150, 3) := dk_181 0 150 (dk_at dksX0_readNext_12 0 rfl rfl)
theorem dX0_readNext_286 : decode cX0_readNext 286 = .ok (.aload_n 0, 1) := dk_42 (dk_at dksX0_readNext_12 3 rfl rfl)
theorem dX0_readNext_287 : decode cX0_readNext 287 = .ok (.iload_n 1, 1) := dk_27 (dk_at dksX0_readNext_12 4 rfl rfl)
theorem dX0_readNext_288 : decode cX0_readNext 288 = .ok (.putfield 166, 3) := dk_181 0 166 (dk_at dksX0_readNext_12 5 rfl rfl)
theorem dX0_readNext_291 : decode cX0_readNext 291 = .ok (.return_, 1) := dk_177 (dk_at dksX0_readNext_12 8 rfl rfl)
abbrev cX0_raw : ByteArray := prog_1_method_6_code
def yX0_raw : MethodName := ⟨RX0, "raw", "(I)I"⟩
def dkwX0_raw_0 : List UInt8 := [27, 42, 180, 0, 121, 162, 0, 16, 42, 180, 0, 9, 27, 51, 17, 0, 255, 126, 167, 0, 4, 2, 172]
abbrev dktX0_raw_0 : List UInt8 := dkwX0_raw_0 ++ []
theorem dksX0_raw_0 : cX0_raw.data.toList.drop 0 = dktX0_raw_0 := by decide +kernel
theorem dX0_raw_0 : decode cX0_raw 0 = .ok (.iload_n 1, 1) := dk_27 (dk_at dksX0_raw_0 0 rfl rfl)
theorem dX0_raw_1 : decode cX0_raw 1 = .ok (.aload_n 0, 1) := dk_42 (dk_at dksX0_raw_0 1 rfl rfl)
theorem dX0_raw_2 : decode cX0_raw 2 = .ok (.getfield 121, 3) := dk_180 0 121 (dk_at dksX0_raw_0 2 rfl rfl)
theorem dX0_raw_5 : decode cX0_raw 5 = .ok (.if_icmp .ge 16, 3) := dk_162 0 16 (dk_at dksX0_raw_0 5 rfl rfl)
theorem dX0_raw_8 : decode cX0_raw 8 = .ok (.aload_n 0, 1) := dk_42 (dk_at dksX0_raw_0 8 rfl rfl)
theorem dX0_raw_9 : decode cX0_raw 9 = .ok (.getfield 9, 3) := dk_180 0 9 (dk_at dksX0_raw_0 9 rfl rfl)
theorem dX0_raw_12 : decode cX0_raw 12 = .ok (.iload_n 1, 1) := dk_27 (dk_at dksX0_raw_0 12 rfl rfl)
theorem dX0_raw_13 : decode cX0_raw 13 = .ok (.baload, 1) := dk_51 (dk_at dksX0_raw_0 13 rfl rfl)
theorem dX0_raw_14 : decode cX0_raw 14 = .ok (.sipush 255, 3) := dk_17 0 255 (dk_at dksX0_raw_0 14 rfl rfl)
theorem dX0_raw_17 : decode cX0_raw 17 = .ok (.iand, 1) := dk_126 (dk_at dksX0_raw_0 17 rfl rfl)
theorem dX0_raw_18 : decode cX0_raw 18 = .ok (.goto 4, 3) := dk_167 0 4 (dk_at dksX0_raw_0 18 rfl rfl)
theorem dX0_raw_21 : decode cX0_raw 21 = .ok (.iconst (-1), 1) := dk_2 (dk_at dksX0_raw_0 21 rfl rfl)
theorem dX0_raw_22 : decode cX0_raw 22 = .ok (.ireturn, 1) := dk_172 (dk_at dksX0_raw_0 22 rfl rfl)
abbrev cX0_isLetter : ByteArray := prog_1_method_7_code
def yX0_isLetter : MethodName := ⟨RX0, "isLetter", "(I)Z"⟩
def dkwX0_isLetter_1 : List UInt8 := [167, 0, 4, 3, 172]
abbrev dktX0_isLetter_1 : List UInt8 := dkwX0_isLetter_1 ++ []
def dkwX0_isLetter_0 : List UInt8 := [26, 16, 97, 16, 122, 184, 0, 128, 154, 0, 14, 26, 16, 65, 16, 90, 184, 0, 128, 153, 0, 7, 4]
abbrev dktX0_isLetter_0 : List UInt8 := dkwX0_isLetter_0 ++ dktX0_isLetter_1
theorem dksX0_isLetter_0 : cX0_isLetter.data.toList.drop 0 = dktX0_isLetter_0 := by decide +kernel
theorem dksX0_isLetter_1 : cX0_isLetter.data.toList.drop 23 = dktX0_isLetter_1 := dk_seg dksX0_isLetter_0 23 rfl rfl
theorem dX0_isLetter_0 : decode cX0_isLetter 0 = .ok (.iload_n 0, 1) := dk_26 (dk_at dksX0_isLetter_0 0 rfl rfl)
theorem dX0_isLetter_1 : decode cX0_isLetter 1 = .ok (.bipush 97, 2) := dk_16 97 (dk_at dksX0_isLetter_0 1 rfl rfl)
theorem dX0_isLetter_3 : decode cX0_isLetter 3 = .ok (.bipush 122, 2) := dk_16 122 (dk_at dksX0_isLetter_0 3 rfl rfl)
theorem dX0_isLetter_5 : decode cX0_isLetter 5 = .ok (.invokestatic 128, 3) := dk_184 0 128 (dk_at dksX0_isLetter_0 5 rfl rfl)
theorem dX0_isLetter_8 : decode cX0_isLetter 8 = .ok (.ifCond .ne 14, 3) := dk_154 0 14 (dk_at dksX0_isLetter_0 8 rfl rfl)
theorem dX0_isLetter_11 : decode cX0_isLetter 11 = .ok (.iload_n 0, 1) := dk_26 (dk_at dksX0_isLetter_0 11 rfl rfl)
theorem dX0_isLetter_12 : decode cX0_isLetter 12 = .ok (.bipush 65, 2) := dk_16 65 (dk_at dksX0_isLetter_0 12 rfl rfl)
theorem dX0_isLetter_14 : decode cX0_isLetter 14 = .ok (.bipush 90, 2) := dk_16 90 (dk_at dksX0_isLetter_0 14 rfl rfl)
theorem dX0_isLetter_16 : decode cX0_isLetter 16 = .ok (.invokestatic 128, 3) := dk_184 0 128 (dk_at dksX0_isLetter_0 16 rfl rfl)
theorem dX0_isLetter_19 : decode cX0_isLetter 19 = .ok (.ifCond .eq 7, 3) := dk_153 0 7 (dk_at dksX0_isLetter_0 19 rfl rfl)
theorem dX0_isLetter_22 : decode cX0_isLetter 22 = .ok (.iconst 1, 1) := dk_4 (dk_at dksX0_isLetter_0 22 rfl rfl)
theorem dX0_isLetter_23 : decode cX0_isLetter 23 = .ok (.goto 4, 3) := dk_167 0 4 (dk_at dksX0_isLetter_1 0 rfl rfl)
theorem dX0_isLetter_26 : decode cX0_isLetter 26 = .ok (.iconst 0, 1) := dk_3 (dk_at dksX0_isLetter_1 3 rfl rfl)
theorem dX0_isLetter_27 : decode cX0_isLetter 27 = .ok (.ireturn, 1) := dk_172 (dk_at dksX0_isLetter_1 4 rfl rfl)
abbrev cX0_wordOf : ByteArray := prog_1_method_10_code
def yX0_wordOf : MethodName := ⟨RX0, "wordOf", "([Ljava/lang/String;)I"⟩
def dkwX0_wordOf_1 : List UInt8 := [182, 0, 159, 153, 0, 5, 28, 172, 132, 2, 1, 167, 255, 225, 2, 172]
abbrev dktX0_wordOf_1 : List UInt8 := dkwX0_wordOf_1 ++ []
def dkwX0_wordOf_0 : List UInt8 := [3, 61, 28, 43, 190, 162, 0, 31, 42, 180, 0, 150, 178, 0, 154, 166, 0, 21, 42, 43, 28, 50]
abbrev dktX0_wordOf_0 : List UInt8 := dkwX0_wordOf_0 ++ dktX0_wordOf_1
theorem dksX0_wordOf_0 : cX0_wordOf.data.toList.drop 0 = dktX0_wordOf_0 := by decide +kernel
theorem dksX0_wordOf_1 : cX0_wordOf.data.toList.drop 22 = dktX0_wordOf_1 := dk_seg dksX0_wordOf_0 22 rfl rfl
theorem dX0_wordOf_0 : decode cX0_wordOf 0 = .ok (.iconst 0, 1) := dk_3 (dk_at dksX0_wordOf_0 0 rfl rfl)
theorem dX0_wordOf_1 : decode cX0_wordOf 1 = .ok (.istore_n 2, 1) := dk_61 (dk_at dksX0_wordOf_0 1 rfl rfl)
theorem dX0_wordOf_2 : decode cX0_wordOf 2 = .ok (.iload_n 2, 1) := dk_28 (dk_at dksX0_wordOf_0 2 rfl rfl)
theorem dX0_wordOf_3 : decode cX0_wordOf 3 = .ok (.aload_n 1, 1) := dk_43 (dk_at dksX0_wordOf_0 3 rfl rfl)
theorem dX0_wordOf_4 : decode cX0_wordOf 4 = .ok (.arraylength, 1) := dk_190 (dk_at dksX0_wordOf_0 4 rfl rfl)
theorem dX0_wordOf_5 : decode cX0_wordOf 5 = .ok (.if_icmp .ge 31, 3) := dk_162 0 31 (dk_at dksX0_wordOf_0 5 rfl rfl)
theorem dX0_wordOf_8 : decode cX0_wordOf 8 = .ok (.aload_n 0, 1) := dk_42 (dk_at dksX0_wordOf_0 8 rfl rfl)
theorem dX0_wordOf_9 : decode cX0_wordOf 9 = .ok (.getfield 150, 3) := dk_180 0 150 (dk_at dksX0_wordOf_0 9 rfl rfl)
theorem dX0_wordOf_12 : decode cX0_wordOf 12 = .ok (.getstatic 154, 3) := dk_178 0 154 (dk_at dksX0_wordOf_0 12 rfl rfl)
theorem dX0_wordOf_15 : decode cX0_wordOf 15 = .ok (.if_acmp .ne 21, 3) := dk_166 0 21 (dk_at dksX0_wordOf_0 15 rfl rfl)
theorem dX0_wordOf_18 : decode cX0_wordOf 18 = .ok (.aload_n 0, 1) := dk_42 (dk_at dksX0_wordOf_0 18 rfl rfl)
theorem dX0_wordOf_19 : decode cX0_wordOf 19 = .ok (.aload_n 1, 1) := dk_43 (dk_at dksX0_wordOf_0 19 rfl rfl)
theorem dX0_wordOf_20 : decode cX0_wordOf 20 = .ok (.iload_n 2, 1) := dk_28 (dk_at dksX0_wordOf_0 20 rfl rfl)
theorem dX0_wordOf_21 : decode cX0_wordOf 21 = .ok (.aaload, 1) := dk_50 (dk_at dksX0_wordOf_0 21 rfl rfl)
theorem dX0_wordOf_22 : decode cX0_wordOf 22 = .ok (.invokevirtual 159, 3) := dk_182 0 159 (dk_at dksX0_wordOf_1 0 rfl rfl)
theorem dX0_wordOf_25 : decode cX0_wordOf 25 = .ok (.ifCond .eq 5, 3) := dk_153 0 5 (dk_at dksX0_wordOf_1 3 rfl rfl)
theorem dX0_wordOf_28 : decode cX0_wordOf 28 = .ok (.iload_n 2, 1) := dk_28 (dk_at dksX0_wordOf_1 6 rfl rfl)
theorem dX0_wordOf_29 : decode cX0_wordOf 29 = .ok (.ireturn, 1) := dk_172 (dk_at dksX0_wordOf_1 7 rfl rfl)
theorem dX0_wordOf_30 : decode cX0_wordOf 30 = .ok (.iinc 2 1, 3) := dk_132 2 1 (dk_at dksX0_wordOf_1 8 rfl rfl)
theorem dX0_wordOf_33 : decode cX0_wordOf 33 = .ok (.goto (-31), 3) := dk_167 255 225 (dk_at dksX0_wordOf_1 11 rfl rfl)
theorem dX0_wordOf_36 : decode cX0_wordOf 36 = .ok (.iconst (-1), 1) := dk_2 (dk_at dksX0_wordOf_1 14 rfl rfl)
theorem dX0_wordOf_37 : decode cX0_wordOf 37 = .ok (.ireturn, 1) := dk_172 (dk_at dksX0_wordOf_1 15 rfl rfl)
abbrev cX0_spells : ByteArray := prog_1_method_9_code
def yX0_spells : MethodName := ⟨RX0, "spells", "(Ljava/lang/String;)Z"⟩
def dkwX0_spells_2 : List UInt8 := [3, 172, 132, 2, 1, 167, 255, 225, 4, 172]
abbrev dktX0_spells_2 : List UInt8 := dkwX0_spells_2 ++ []
def dkwX0_spells_1 : List UInt8 := [182, 0, 132, 162, 0, 29, 42, 42, 180, 0, 139, 28, 96, 182, 0, 142, 43, 28, 182, 0, 146, 159, 0, 5]
abbrev dktX0_spells_1 : List UInt8 := dkwX0_spells_1 ++ dktX0_spells_2
def dkwX0_spells_0 : List UInt8 := [43, 182, 0, 132, 42, 180, 0, 136, 42, 180, 0, 139, 100, 159, 0, 5, 3, 172, 3, 61, 28, 43]
abbrev dktX0_spells_0 : List UInt8 := dkwX0_spells_0 ++ dktX0_spells_1
theorem dksX0_spells_0 : cX0_spells.data.toList.drop 0 = dktX0_spells_0 := by decide +kernel
theorem dksX0_spells_1 : cX0_spells.data.toList.drop 22 = dktX0_spells_1 := dk_seg dksX0_spells_0 22 rfl rfl
theorem dksX0_spells_2 : cX0_spells.data.toList.drop 46 = dktX0_spells_2 := dk_seg dksX0_spells_1 24 rfl rfl
theorem dX0_spells_0 : decode cX0_spells 0 = .ok (.aload_n 1, 1) := dk_43 (dk_at dksX0_spells_0 0 rfl rfl)
theorem dX0_spells_1 : decode cX0_spells 1 = .ok (.invokevirtual 132, 3) := dk_182 0 132 (dk_at dksX0_spells_0 1 rfl rfl)
theorem dX0_spells_4 : decode cX0_spells 4 = .ok (.aload_n 0, 1) := dk_42 (dk_at dksX0_spells_0 4 rfl rfl)
theorem dX0_spells_5 : decode cX0_spells 5 = .ok (.getfield 136, 3) := dk_180 0 136 (dk_at dksX0_spells_0 5 rfl rfl)
theorem dX0_spells_8 : decode cX0_spells 8 = .ok (.aload_n 0, 1) := dk_42 (dk_at dksX0_spells_0 8 rfl rfl)
theorem dX0_spells_9 : decode cX0_spells 9 = .ok (.getfield 139, 3) := dk_180 0 139 (dk_at dksX0_spells_0 9 rfl rfl)
theorem dX0_spells_12 : decode cX0_spells 12 = .ok (.isub, 1) := dk_100 (dk_at dksX0_spells_0 12 rfl rfl)
theorem dX0_spells_13 : decode cX0_spells 13 = .ok (.if_icmp .eq 5, 3) := dk_159 0 5 (dk_at dksX0_spells_0 13 rfl rfl)
theorem dX0_spells_16 : decode cX0_spells 16 = .ok (.iconst 0, 1) := dk_3 (dk_at dksX0_spells_0 16 rfl rfl)
theorem dX0_spells_17 : decode cX0_spells 17 = .ok (.ireturn, 1) := dk_172 (dk_at dksX0_spells_0 17 rfl rfl)
theorem dX0_spells_18 : decode cX0_spells 18 = .ok (.iconst 0, 1) := dk_3 (dk_at dksX0_spells_0 18 rfl rfl)
theorem dX0_spells_19 : decode cX0_spells 19 = .ok (.istore_n 2, 1) := dk_61 (dk_at dksX0_spells_0 19 rfl rfl)
theorem dX0_spells_20 : decode cX0_spells 20 = .ok (.iload_n 2, 1) := dk_28 (dk_at dksX0_spells_0 20 rfl rfl)
theorem dX0_spells_21 : decode cX0_spells 21 = .ok (.aload_n 1, 1) := dk_43 (dk_at dksX0_spells_0 21 rfl rfl)
theorem dX0_spells_22 : decode cX0_spells 22 = .ok (.invokevirtual 132, 3) := dk_182 0 132 (dk_at dksX0_spells_1 0 rfl rfl)
theorem dX0_spells_25 : decode cX0_spells 25 = .ok (.if_icmp .ge 29, 3) := dk_162 0 29 (dk_at dksX0_spells_1 3 rfl rfl)
theorem dX0_spells_28 : decode cX0_spells 28 = .ok (.aload_n 0, 1) := dk_42 (dk_at dksX0_spells_1 6 rfl rfl)
theorem dX0_spells_29 : decode cX0_spells 29 = .ok (.aload_n 0, 1) := dk_42 (dk_at dksX0_spells_1 7 rfl rfl)
theorem dX0_spells_30 : decode cX0_spells 30 = .ok (.getfield 139, 3) := dk_180 0 139 (dk_at dksX0_spells_1 8 rfl rfl)
theorem dX0_spells_33 : decode cX0_spells 33 = .ok (.iload_n 2, 1) := dk_28 (dk_at dksX0_spells_1 11 rfl rfl)
theorem dX0_spells_34 : decode cX0_spells 34 = .ok (.iadd, 1) := dk_96 (dk_at dksX0_spells_1 12 rfl rfl)
theorem dX0_spells_35 : decode cX0_spells 35 = .ok (.invokevirtual 142, 3) := dk_182 0 142 (dk_at dksX0_spells_1 13 rfl rfl)
theorem dX0_spells_38 : decode cX0_spells 38 = .ok (.aload_n 1, 1) := dk_43 (dk_at dksX0_spells_1 16 rfl rfl)
theorem dX0_spells_39 : decode cX0_spells 39 = .ok (.iload_n 2, 1) := dk_28 (dk_at dksX0_spells_1 17 rfl rfl)
theorem dX0_spells_40 : decode cX0_spells 40 = .ok (.invokevirtual 146, 3) := dk_182 0 146 (dk_at dksX0_spells_1 18 rfl rfl)
theorem dX0_spells_43 : decode cX0_spells 43 = .ok (.if_icmp .eq 5, 3) := dk_159 0 5 (dk_at dksX0_spells_1 21 rfl rfl)
theorem dX0_spells_46 : decode cX0_spells 46 = .ok (.iconst 0, 1) := dk_3 (dk_at dksX0_spells_2 0 rfl rfl)
theorem dX0_spells_47 : decode cX0_spells 47 = .ok (.ireturn, 1) := dk_172 (dk_at dksX0_spells_2 1 rfl rfl)
theorem dX0_spells_48 : decode cX0_spells 48 = .ok (.iinc 2 1, 3) := dk_132 2 1 (dk_at dksX0_spells_2 2 rfl rfl)
theorem dX0_spells_51 : decode cX0_spells 51 = .ok (.goto (-31), 3) := dk_167 255 225 (dk_at dksX0_spells_2 5 rfl rfl)
theorem dX0_spells_54 : decode cX0_spells 54 = .ok (.iconst 1, 1) := dk_4 (dk_at dksX0_spells_2 8 rfl rfl)
theorem dX0_spells_55 : decode cX0_spells 55 = .ok (.ireturn, 1) := dk_172 (dk_at dksX0_spells_2 9 rfl rfl)
abbrev cX0_isDigit : ByteArray := prog_1_method_8_code
def yX0_isDigit : MethodName := ⟨RX0, "isDigit", "(I)Z"⟩
def dkwX0_isDigit_0 : List UInt8 := [26, 16, 48, 16, 57, 184, 0, 128, 172]
abbrev dktX0_isDigit_0 : List UInt8 := dkwX0_isDigit_0 ++ []
theorem dksX0_isDigit_0 : cX0_isDigit.data.toList.drop 0 = dktX0_isDigit_0 := by decide +kernel
theorem dX0_isDigit_0 : decode cX0_isDigit 0 = .ok (.iload_n 0, 1) := dk_26 (dk_at dksX0_isDigit_0 0 rfl rfl)
theorem dX0_isDigit_1 : decode cX0_isDigit 1 = .ok (.bipush 48, 2) := dk_16 48 (dk_at dksX0_isDigit_0 1 rfl rfl)
theorem dX0_isDigit_3 : decode cX0_isDigit 3 = .ok (.bipush 57, 2) := dk_16 57 (dk_at dksX0_isDigit_0 3 rfl rfl)
theorem dX0_isDigit_5 : decode cX0_isDigit 5 = .ok (.invokestatic 128, 3) := dk_184 0 128 (dk_at dksX0_isDigit_0 5 rfl rfl)
theorem dX0_isDigit_8 : decode cX0_isDigit 8 = .ok (.ireturn, 1) := dk_172 (dk_at dksX0_isDigit_0 8 rfl rfl)
abbrev cX0_must : ByteArray := prog_1_method_14_code
def yX0_must : MethodName := ⟨RX0, "must", "(Z)V"⟩
def dkwX0_must_0 : List UInt8 := [27, 154, 0, 16, 187, 0, 201, 89, 4, 42, 180, 0, 139, 183, 0, 203, 191, 177]
abbrev dktX0_must_0 : List UInt8 := dkwX0_must_0 ++ []
theorem dksX0_must_0 : cX0_must.data.toList.drop 0 = dktX0_must_0 := by decide +kernel
theorem dX0_must_0 : decode cX0_must 0 = .ok (.iload_n 1, 1) := dk_27 (dk_at dksX0_must_0 0 rfl rfl)
theorem dX0_must_1 : decode cX0_must 1 = .ok (.ifCond .ne 16, 3) := dk_154 0 16 (dk_at dksX0_must_0 1 rfl rfl)
theorem dX0_must_4 : decode cX0_must 4 = .ok (.new 201, 3) := dk_187 0 201 (dk_at dksX0_must_0 4 rfl rfl)
theorem dX0_must_7 : decode cX0_must 7 = .ok (.dup, 1) := dk_89 (dk_at dksX0_must_0 7 rfl rfl)
theorem dX0_must_8 : decode cX0_must 8 = .ok (.iconst 1, 1) := dk_4 (dk_at dksX0_must_0 8 rfl rfl)
theorem dX0_must_9 : decode cX0_must 9 = .ok (.aload_n 0, 1) := dk_42 (dk_at dksX0_must_0 9 rfl rfl)
theorem dX0_must_10 : decode cX0_must 10 = .ok (.getfield 139, 3) := dk_180 0 139 (dk_at dksX0_must_0 10 rfl rfl)
theorem dX0_must_13 : decode cX0_must 13 = .ok (.invokespecial 203, 3) := dk_183 0 203 (dk_at dksX0_must_0 13 rfl rfl)
theorem dX0_must_16 : decode cX0_must 16 = .ok (.athrow, 1) := dk_191 (dk_at dksX0_must_0 16 rfl rfl)
theorem dX0_must_17 : decode cX0_must 17 = .ok (.return_, 1) := dk_177 (dk_at dksX0_must_0 17 rfl rfl)
abbrev cX0_isWord : ByteArray := prog_1_method_11_code
def yX0_isWord : MethodName := ⟨RX0, "isWord", "(Ljava/lang/String;)Z"⟩
def dkwX0_isWord_0 : List UInt8 := [42, 180, 0, 150, 178, 0, 154, 166, 0, 15, 42, 43, 182, 0, 159, 153, 0, 7, 4, 167, 0, 4, 3, 172]
abbrev dktX0_isWord_0 : List UInt8 := dkwX0_isWord_0 ++ []
theorem dksX0_isWord_0 : cX0_isWord.data.toList.drop 0 = dktX0_isWord_0 := by decide +kernel
theorem dX0_isWord_0 : decode cX0_isWord 0 = .ok (.aload_n 0, 1) := dk_42 (dk_at dksX0_isWord_0 0 rfl rfl)
theorem dX0_isWord_1 : decode cX0_isWord 1 = .ok (.getfield 150, 3) := dk_180 0 150 (dk_at dksX0_isWord_0 1 rfl rfl)
theorem dX0_isWord_4 : decode cX0_isWord 4 = .ok (.getstatic 154, 3) := dk_178 0 154 (dk_at dksX0_isWord_0 4 rfl rfl)
theorem dX0_isWord_7 : decode cX0_isWord 7 = .ok (.if_acmp .ne 15, 3) := dk_166 0 15 (dk_at dksX0_isWord_0 7 rfl rfl)
theorem dX0_isWord_10 : decode cX0_isWord 10 = .ok (.aload_n 0, 1) := dk_42 (dk_at dksX0_isWord_0 10 rfl rfl)
theorem dX0_isWord_11 : decode cX0_isWord 11 = .ok (.aload_n 1, 1) := dk_43 (dk_at dksX0_isWord_0 11 rfl rfl)
theorem dX0_isWord_12 : decode cX0_isWord 12 = .ok (.invokevirtual 159, 3) := dk_182 0 159 (dk_at dksX0_isWord_0 12 rfl rfl)
theorem dX0_isWord_15 : decode cX0_isWord 15 = .ok (.ifCond .eq 7, 3) := dk_153 0 7 (dk_at dksX0_isWord_0 15 rfl rfl)
theorem dX0_isWord_18 : decode cX0_isWord 18 = .ok (.iconst 1, 1) := dk_4 (dk_at dksX0_isWord_0 18 rfl rfl)
theorem dX0_isWord_19 : decode cX0_isWord 19 = .ok (.goto 4, 3) := dk_167 0 4 (dk_at dksX0_isWord_0 19 rfl rfl)
theorem dX0_isWord_22 : decode cX0_isWord 22 = .ok (.iconst 0, 1) := dk_3 (dk_at dksX0_isWord_0 22 rfl rfl)
theorem dX0_isWord_23 : decode cX0_isWord 23 = .ok (.ireturn, 1) := dk_172 (dk_at dksX0_isWord_0 23 rfl rfl)
abbrev cX0_any : ByteArray := prog_1_method_22_code
def yX0_any : MethodName := ⟨RX0, "any", "()LSwallowSurvey$Term;"⟩
def dkwX0_any_1 : List UInt8 := [43, 42, 182, 1, 7, 183, 0, 230, 76, 167, 255, 228, 43, 176]
abbrev dktX0_any_1 : List UInt8 := dkwX0_any_1 ++ []
def dkwX0_any_0 : List UInt8 := [42, 182, 1, 7, 76, 42, 18, 52, 182, 0, 239, 153, 0, 25, 42, 182, 0, 214, 187, 0, 228, 89, 16, 124]
abbrev dktX0_any_0 : List UInt8 := dkwX0_any_0 ++ dktX0_any_1
theorem dksX0_any_0 : cX0_any.data.toList.drop 0 = dktX0_any_0 := by decide +kernel
theorem dksX0_any_1 : cX0_any.data.toList.drop 24 = dktX0_any_1 := dk_seg dksX0_any_0 24 rfl rfl
theorem dX0_any_0 : decode cX0_any 0 = .ok (.aload_n 0, 1) := dk_42 (dk_at dksX0_any_0 0 rfl rfl)
theorem dX0_any_1 : decode cX0_any 1 = .ok (.invokevirtual 263, 3) := dk_182 1 7 (dk_at dksX0_any_0 1 rfl rfl)
theorem dX0_any_4 : decode cX0_any 4 = .ok (.astore_n 1, 1) := dk_76 (dk_at dksX0_any_0 4 rfl rfl)
theorem dX0_any_5 : decode cX0_any 5 = .ok (.aload_n 0, 1) := dk_42 (dk_at dksX0_any_0 5 rfl rfl)
theorem dX0_any_6 : decode cX0_any 6 = .ok (.ldc 52, 2) := dk_18 52 (dk_at dksX0_any_0 6 rfl rfl)
theorem dX0_any_8 : decode cX0_any 8 = .ok (.invokevirtual 239, 3) := dk_182 0 239 (dk_at dksX0_any_0 8 rfl rfl)
theorem dX0_any_11 : decode cX0_any 11 = .ok (.ifCond .eq 25, 3) := dk_153 0 25 (dk_at dksX0_any_0 11 rfl rfl)
theorem dX0_any_14 : decode cX0_any 14 = .ok (.aload_n 0, 1) := dk_42 (dk_at dksX0_any_0 14 rfl rfl)
theorem dX0_any_15 : decode cX0_any 15 = .ok (.invokevirtual 214, 3) := dk_182 0 214 (dk_at dksX0_any_0 15 rfl rfl)
theorem dX0_any_18 : decode cX0_any 18 = .ok (.new 228, 3) := dk_187 0 228 (dk_at dksX0_any_0 18 rfl rfl)
theorem dX0_any_21 : decode cX0_any 21 = .ok (.dup, 1) := dk_89 (dk_at dksX0_any_0 21 rfl rfl)
theorem dX0_any_22 : decode cX0_any 22 = .ok (.bipush 124, 2) := dk_16 124 (dk_at dksX0_any_0 22 rfl rfl)
theorem dX0_any_24 : decode cX0_any 24 = .ok (.aload_n 1, 1) := dk_43 (dk_at dksX0_any_1 0 rfl rfl)
theorem dX0_any_25 : decode cX0_any 25 = .ok (.aload_n 0, 1) := dk_42 (dk_at dksX0_any_1 1 rfl rfl)
theorem dX0_any_26 : decode cX0_any 26 = .ok (.invokevirtual 263, 3) := dk_182 1 7 (dk_at dksX0_any_1 2 rfl rfl)
theorem dX0_any_29 : decode cX0_any 29 = .ok (.invokespecial 230, 3) := dk_183 0 230 (dk_at dksX0_any_1 5 rfl rfl)
theorem dX0_any_32 : decode cX0_any 32 = .ok (.astore_n 1, 1) := dk_76 (dk_at dksX0_any_1 8 rfl rfl)
theorem dX0_any_33 : decode cX0_any 33 = .ok (.goto (-28), 3) := dk_167 255 228 (dk_at dksX0_any_1 9 rfl rfl)
theorem dX0_any_36 : decode cX0_any 36 = .ok (.aload_n 1, 1) := dk_43 (dk_at dksX0_any_1 12 rfl rfl)
theorem dX0_any_37 : decode cX0_any 37 = .ok (.areturn, 1) := dk_176 (dk_at dksX0_any_1 13 rfl rfl)
abbrev cX0_both : ByteArray := prog_1_method_21_code
def yX0_both : MethodName := ⟨RX0, "both", "()LSwallowSurvey$Term;"⟩
def dkwX0_both_1 : List UInt8 := [43, 42, 182, 0, 245, 183, 0, 230, 76, 167, 255, 228, 43, 176]
abbrev dktX0_both_1 : List UInt8 := dkwX0_both_1 ++ []
def dkwX0_both_0 : List UInt8 := [42, 182, 0, 245, 76, 42, 18, 54, 182, 0, 239, 153, 0, 25, 42, 182, 0, 214, 187, 0, 228, 89, 16, 38]
abbrev dktX0_both_0 : List UInt8 := dkwX0_both_0 ++ dktX0_both_1
theorem dksX0_both_0 : cX0_both.data.toList.drop 0 = dktX0_both_0 := by decide +kernel
theorem dksX0_both_1 : cX0_both.data.toList.drop 24 = dktX0_both_1 := dk_seg dksX0_both_0 24 rfl rfl
theorem dX0_both_0 : decode cX0_both 0 = .ok (.aload_n 0, 1) := dk_42 (dk_at dksX0_both_0 0 rfl rfl)
theorem dX0_both_1 : decode cX0_both 1 = .ok (.invokevirtual 245, 3) := dk_182 0 245 (dk_at dksX0_both_0 1 rfl rfl)
theorem dX0_both_4 : decode cX0_both 4 = .ok (.astore_n 1, 1) := dk_76 (dk_at dksX0_both_0 4 rfl rfl)
theorem dX0_both_5 : decode cX0_both 5 = .ok (.aload_n 0, 1) := dk_42 (dk_at dksX0_both_0 5 rfl rfl)
theorem dX0_both_6 : decode cX0_both 6 = .ok (.ldc 54, 2) := dk_18 54 (dk_at dksX0_both_0 6 rfl rfl)
theorem dX0_both_8 : decode cX0_both 8 = .ok (.invokevirtual 239, 3) := dk_182 0 239 (dk_at dksX0_both_0 8 rfl rfl)
theorem dX0_both_11 : decode cX0_both 11 = .ok (.ifCond .eq 25, 3) := dk_153 0 25 (dk_at dksX0_both_0 11 rfl rfl)
theorem dX0_both_14 : decode cX0_both 14 = .ok (.aload_n 0, 1) := dk_42 (dk_at dksX0_both_0 14 rfl rfl)
theorem dX0_both_15 : decode cX0_both 15 = .ok (.invokevirtual 214, 3) := dk_182 0 214 (dk_at dksX0_both_0 15 rfl rfl)
theorem dX0_both_18 : decode cX0_both 18 = .ok (.new 228, 3) := dk_187 0 228 (dk_at dksX0_both_0 18 rfl rfl)
theorem dX0_both_21 : decode cX0_both 21 = .ok (.dup, 1) := dk_89 (dk_at dksX0_both_0 21 rfl rfl)
theorem dX0_both_22 : decode cX0_both 22 = .ok (.bipush 38, 2) := dk_16 38 (dk_at dksX0_both_0 22 rfl rfl)
theorem dX0_both_24 : decode cX0_both 24 = .ok (.aload_n 1, 1) := dk_43 (dk_at dksX0_both_1 0 rfl rfl)
theorem dX0_both_25 : decode cX0_both 25 = .ok (.aload_n 0, 1) := dk_42 (dk_at dksX0_both_1 1 rfl rfl)
theorem dX0_both_26 : decode cX0_both 26 = .ok (.invokevirtual 245, 3) := dk_182 0 245 (dk_at dksX0_both_1 2 rfl rfl)
theorem dX0_both_29 : decode cX0_both 29 = .ok (.invokespecial 230, 3) := dk_183 0 230 (dk_at dksX0_both_1 5 rfl rfl)
theorem dX0_both_32 : decode cX0_both 32 = .ok (.astore_n 1, 1) := dk_76 (dk_at dksX0_both_1 8 rfl rfl)
theorem dX0_both_33 : decode cX0_both 33 = .ok (.goto (-28), 3) := dk_167 255 228 (dk_at dksX0_both_1 9 rfl rfl)
theorem dX0_both_36 : decode cX0_both 36 = .ok (.aload_n 1, 1) := dk_43 (dk_at dksX0_both_1 12 rfl rfl)
theorem dX0_both_37 : decode cX0_both 37 = .ok (.areturn, 1) := dk_176 (dk_at dksX0_both_1 13 rfl rfl)
abbrev cX0_oneOf : ByteArray := prog_1_method_20_code
def yX0_oneOf : MethodName := ⟨RX0, "oneOf", "()LSwallowSurvey$Term;"⟩
def dkwX0_oneOf_5 : List UInt8 := [146, 61, 42, 182, 0, 214, 187, 0, 228, 89, 28, 43, 42, 182, 1, 4, 183, 0, 230, 176]
abbrev dktX0_oneOf_5 : List UInt8 := dkwX0_oneOf_5 ++ []
def dkwX0_oneOf_4 : List UInt8 := [154, 0, 12, 42, 16, 62, 182, 0, 206, 153, 0, 7, 4, 167, 0, 4, 3, 182, 0, 210, 42, 180, 0, 166]
abbrev dktX0_oneOf_4 : List UInt8 := dkwX0_oneOf_4 ++ dktX0_oneOf_5
def dkwX0_oneOf_3 : List UInt8 := [43, 176, 42, 182, 1, 4, 76, 42, 42, 16, 60, 182, 0, 206, 154, 0, 21, 42, 16, 61, 182, 0, 206]
abbrev dktX0_oneOf_3 : List UInt8 := dkwX0_oneOf_3 ++ dktX0_oneOf_4
def dkwX0_oneOf_2 : List UInt8 := [182, 0, 242, 42, 182, 0, 253, 76, 42, 16, 41, 182, 1, 0, 42, 89, 180, 0, 236, 4, 100, 181, 0, 236]
abbrev dktX0_oneOf_2 : List UInt8 := dkwX0_oneOf_2 ++ dktX0_oneOf_3
def dkwX0_oneOf_1 : List UInt8 := [100, 181, 0, 236, 187, 0, 248, 89, 43, 183, 0, 250, 176, 42, 16, 40, 182, 0, 206, 153, 0, 30, 42]
abbrev dktX0_oneOf_1 : List UInt8 := dkwX0_oneOf_1 ++ dktX0_oneOf_2
def dkwX0_oneOf_0 : List UInt8 := [42, 18, 56, 182, 0, 239, 153, 0, 31, 42, 182, 0, 242, 42, 182, 0, 245, 76, 42, 89, 180, 0, 236, 4]
abbrev dktX0_oneOf_0 : List UInt8 := dkwX0_oneOf_0 ++ dktX0_oneOf_1
theorem dksX0_oneOf_0 : cX0_oneOf.data.toList.drop 0 = dktX0_oneOf_0 := by decide +kernel
theorem dksX0_oneOf_1 : cX0_oneOf.data.toList.drop 24 = dktX0_oneOf_1 := dk_seg dksX0_oneOf_0 24 rfl rfl
theorem dksX0_oneOf_2 : cX0_oneOf.data.toList.drop 47 = dktX0_oneOf_2 := dk_seg dksX0_oneOf_1 23 rfl rfl
theorem dksX0_oneOf_3 : cX0_oneOf.data.toList.drop 71 = dktX0_oneOf_3 := dk_seg dksX0_oneOf_2 24 rfl rfl
theorem dksX0_oneOf_4 : cX0_oneOf.data.toList.drop 94 = dktX0_oneOf_4 := dk_seg dksX0_oneOf_3 23 rfl rfl
theorem dksX0_oneOf_5 : cX0_oneOf.data.toList.drop 118 = dktX0_oneOf_5 := dk_seg dksX0_oneOf_4 24 rfl rfl
theorem dX0_oneOf_0 : decode cX0_oneOf 0 = .ok (.aload_n 0, 1) := dk_42 (dk_at dksX0_oneOf_0 0 rfl rfl)
theorem dX0_oneOf_1 : decode cX0_oneOf 1 = .ok (.ldc 56, 2) := dk_18 56 (dk_at dksX0_oneOf_0 1 rfl rfl)
theorem dX0_oneOf_3 : decode cX0_oneOf 3 = .ok (.invokevirtual 239, 3) := dk_182 0 239 (dk_at dksX0_oneOf_0 3 rfl rfl)
theorem dX0_oneOf_6 : decode cX0_oneOf 6 = .ok (.ifCond .eq 31, 3) := dk_153 0 31 (dk_at dksX0_oneOf_0 6 rfl rfl)
theorem dX0_oneOf_9 : decode cX0_oneOf 9 = .ok (.aload_n 0, 1) := dk_42 (dk_at dksX0_oneOf_0 9 rfl rfl)
theorem dX0_oneOf_10 : decode cX0_oneOf 10 = .ok (.invokevirtual 242, 3) := dk_182 0 242 (dk_at dksX0_oneOf_0 10 rfl rfl)
theorem dX0_oneOf_13 : decode cX0_oneOf 13 = .ok (.aload_n 0, 1) := dk_42 (dk_at dksX0_oneOf_0 13 rfl rfl)
theorem dX0_oneOf_14 : decode cX0_oneOf 14 = .ok (.invokevirtual 245, 3) := dk_182 0 245 (dk_at dksX0_oneOf_0 14 rfl rfl)
theorem dX0_oneOf_17 : decode cX0_oneOf 17 = .ok (.astore_n 1, 1) := dk_76 (dk_at dksX0_oneOf_0 17 rfl rfl)
theorem dX0_oneOf_18 : decode cX0_oneOf 18 = .ok (.aload_n 0, 1) := dk_42 (dk_at dksX0_oneOf_0 18 rfl rfl)
theorem dX0_oneOf_19 : decode cX0_oneOf 19 = .ok (.dup, 1) := dk_89 (dk_at dksX0_oneOf_0 19 rfl rfl)
theorem dX0_oneOf_20 : decode cX0_oneOf 20 = .ok (.getfield 236, 3) := dk_180 0 236 (dk_at dksX0_oneOf_0 20 rfl rfl)
theorem dX0_oneOf_23 : decode cX0_oneOf 23 = .ok (.iconst 1, 1) := dk_4 (dk_at dksX0_oneOf_0 23 rfl rfl)
theorem dX0_oneOf_24 : decode cX0_oneOf 24 = .ok (.isub, 1) := dk_100 (dk_at dksX0_oneOf_1 0 rfl rfl)
theorem dX0_oneOf_25 : decode cX0_oneOf 25 = .ok (.putfield 236, 3) := dk_181 0 236 (dk_at dksX0_oneOf_1 1 rfl rfl)
theorem dX0_oneOf_28 : decode cX0_oneOf 28 = .ok (.new 248, 3) := dk_187 0 248 (dk_at dksX0_oneOf_1 4 rfl rfl)
theorem dX0_oneOf_31 : decode cX0_oneOf 31 = .ok (.dup, 1) := dk_89 (dk_at dksX0_oneOf_1 7 rfl rfl)
theorem dX0_oneOf_32 : decode cX0_oneOf 32 = .ok (.aload_n 1, 1) := dk_43 (dk_at dksX0_oneOf_1 8 rfl rfl)
theorem dX0_oneOf_33 : decode cX0_oneOf 33 = .ok (.invokespecial 250, 3) := dk_183 0 250 (dk_at dksX0_oneOf_1 9 rfl rfl)
theorem dX0_oneOf_36 : decode cX0_oneOf 36 = .ok (.areturn, 1) := dk_176 (dk_at dksX0_oneOf_1 12 rfl rfl)
theorem dX0_oneOf_37 : decode cX0_oneOf 37 = .ok (.aload_n 0, 1) := dk_42 (dk_at dksX0_oneOf_1 13 rfl rfl)
theorem dX0_oneOf_38 : decode cX0_oneOf 38 = .ok (.bipush 40, 2) := dk_16 40 (dk_at dksX0_oneOf_1 14 rfl rfl)
theorem dX0_oneOf_40 : decode cX0_oneOf 40 = .ok (.invokevirtual 206, 3) := dk_182 0 206 (dk_at dksX0_oneOf_1 16 rfl rfl)
theorem dX0_oneOf_43 : decode cX0_oneOf 43 = .ok (.ifCond .eq 30, 3) := dk_153 0 30 (dk_at dksX0_oneOf_1 19 rfl rfl)
theorem dX0_oneOf_46 : decode cX0_oneOf 46 = .ok (.aload_n 0, 1) := dk_42 (dk_at dksX0_oneOf_1 22 rfl rfl)
theorem dX0_oneOf_47 : decode cX0_oneOf 47 = .ok (.invokevirtual 242, 3) := dk_182 0 242 (dk_at dksX0_oneOf_2 0 rfl rfl)
theorem dX0_oneOf_50 : decode cX0_oneOf 50 = .ok (.aload_n 0, 1) := dk_42 (dk_at dksX0_oneOf_2 3 rfl rfl)
theorem dX0_oneOf_51 : decode cX0_oneOf 51 = .ok (.invokevirtual 253, 3) := dk_182 0 253 (dk_at dksX0_oneOf_2 4 rfl rfl)
theorem dX0_oneOf_54 : decode cX0_oneOf 54 = .ok (.astore_n 1, 1) := dk_76 (dk_at dksX0_oneOf_2 7 rfl rfl)
theorem dX0_oneOf_55 : decode cX0_oneOf 55 = .ok (.aload_n 0, 1) := dk_42 (dk_at dksX0_oneOf_2 8 rfl rfl)
theorem dX0_oneOf_56 : decode cX0_oneOf 56 = .ok (.bipush 41, 2) := dk_16 41 (dk_at dksX0_oneOf_2 9 rfl rfl)
theorem dX0_oneOf_58 : decode cX0_oneOf 58 = .ok (.invokevirtual 256, 3) := dk_182 1 0 (dk_at dksX0_oneOf_2 11 rfl rfl)
theorem dX0_oneOf_61 : decode cX0_oneOf 61 = .ok (.aload_n 0, 1) := dk_42 (dk_at dksX0_oneOf_2 14 rfl rfl)
theorem dX0_oneOf_62 : decode cX0_oneOf 62 = .ok (.dup, 1) := dk_89 (dk_at dksX0_oneOf_2 15 rfl rfl)
theorem dX0_oneOf_63 : decode cX0_oneOf 63 = .ok (.getfield 236, 3) := dk_180 0 236 (dk_at dksX0_oneOf_2 16 rfl rfl)
theorem dX0_oneOf_66 : decode cX0_oneOf 66 = .ok (.iconst 1, 1) := dk_4 (dk_at dksX0_oneOf_2 19 rfl rfl)
theorem dX0_oneOf_67 : decode cX0_oneOf 67 = .ok (.isub, 1) := dk_100 (dk_at dksX0_oneOf_2 20 rfl rfl)
theorem dX0_oneOf_68 : decode cX0_oneOf 68 = .ok (.putfield 236, 3) := dk_181 0 236 (dk_at dksX0_oneOf_2 21 rfl rfl)
theorem dX0_oneOf_71 : decode cX0_oneOf 71 = .ok (.aload_n 1, 1) := dk_43 (dk_at dksX0_oneOf_3 0 rfl rfl)
theorem dX0_oneOf_72 : decode cX0_oneOf 72 = .ok (.areturn, 1) := dk_176 (dk_at dksX0_oneOf_3 1 rfl rfl)
theorem dX0_oneOf_73 : decode cX0_oneOf 73 = .ok (.aload_n 0, 1) := dk_42 (dk_at dksX0_oneOf_3 2 rfl rfl)
theorem dX0_oneOf_74 : decode cX0_oneOf 74 = .ok (.invokevirtual 260, 3) := dk_182 1 4 (dk_at dksX0_oneOf_3 3 rfl rfl)
theorem dX0_oneOf_77 : decode cX0_oneOf 77 = .ok (.astore_n 1, 1) := dk_76 (dk_at dksX0_oneOf_3 6 rfl rfl)
theorem dX0_oneOf_78 : decode cX0_oneOf 78 = .ok (.aload_n 0, 1) := dk_42 (dk_at dksX0_oneOf_3 7 rfl rfl)
theorem dX0_oneOf_79 : decode cX0_oneOf 79 = .ok (.aload_n 0, 1) := dk_42 (dk_at dksX0_oneOf_3 8 rfl rfl)
theorem dX0_oneOf_80 : decode cX0_oneOf 80 = .ok (.bipush 60, 2) := dk_16 60 (dk_at dksX0_oneOf_3 9 rfl rfl)
theorem dX0_oneOf_82 : decode cX0_oneOf 82 = .ok (.invokevirtual 206, 3) := dk_182 0 206 (dk_at dksX0_oneOf_3 11 rfl rfl)
theorem dX0_oneOf_85 : decode cX0_oneOf 85 = .ok (.ifCond .ne 21, 3) := dk_154 0 21 (dk_at dksX0_oneOf_3 14 rfl rfl)
theorem dX0_oneOf_88 : decode cX0_oneOf 88 = .ok (.aload_n 0, 1) := dk_42 (dk_at dksX0_oneOf_3 17 rfl rfl)
theorem dX0_oneOf_89 : decode cX0_oneOf 89 = .ok (.bipush 61, 2) := dk_16 61 (dk_at dksX0_oneOf_3 18 rfl rfl)
theorem dX0_oneOf_91 : decode cX0_oneOf 91 = .ok (.invokevirtual 206, 3) := dk_182 0 206 (dk_at dksX0_oneOf_3 20 rfl rfl)
theorem dX0_oneOf_94 : decode cX0_oneOf 94 = .ok (.ifCond .ne 12, 3) := dk_154 0 12 (dk_at dksX0_oneOf_4 0 rfl rfl)
theorem dX0_oneOf_97 : decode cX0_oneOf 97 = .ok (.aload_n 0, 1) := dk_42 (dk_at dksX0_oneOf_4 3 rfl rfl)
theorem dX0_oneOf_98 : decode cX0_oneOf 98 = .ok (.bipush 62, 2) := dk_16 62 (dk_at dksX0_oneOf_4 4 rfl rfl)
theorem dX0_oneOf_100 : decode cX0_oneOf 100 = .ok (.invokevirtual 206, 3) := dk_182 0 206 (dk_at dksX0_oneOf_4 6 rfl rfl)
theorem dX0_oneOf_103 : decode cX0_oneOf 103 = .ok (.ifCond .eq 7, 3) := dk_153 0 7 (dk_at dksX0_oneOf_4 9 rfl rfl)
theorem dX0_oneOf_106 : decode cX0_oneOf 106 = .ok (.iconst 1, 1) := dk_4 (dk_at dksX0_oneOf_4 12 rfl rfl)
theorem dX0_oneOf_107 : decode cX0_oneOf 107 = .ok (.goto 4, 3) := dk_167 0 4 (dk_at dksX0_oneOf_4 13 rfl rfl)
theorem dX0_oneOf_110 : decode cX0_oneOf 110 = .ok (.iconst 0, 1) := dk_3 (dk_at dksX0_oneOf_4 16 rfl rfl)
theorem dX0_oneOf_111 : decode cX0_oneOf 111 = .ok (.invokevirtual 210, 3) := dk_182 0 210 (dk_at dksX0_oneOf_4 17 rfl rfl)
theorem dX0_oneOf_114 : decode cX0_oneOf 114 = .ok (.aload_n 0, 1) := dk_42 (dk_at dksX0_oneOf_4 20 rfl rfl)
theorem dX0_oneOf_115 : decode cX0_oneOf 115 = .ok (.getfield 166, 3) := dk_180 0 166 (dk_at dksX0_oneOf_4 21 rfl rfl)
theorem dX0_oneOf_118 : decode cX0_oneOf 118 = .ok (.i2c, 1) := dk_146 (dk_at dksX0_oneOf_5 0 rfl rfl)
theorem dX0_oneOf_119 : decode cX0_oneOf 119 = .ok (.istore_n 2, 1) := dk_61 (dk_at dksX0_oneOf_5 1 rfl rfl)
theorem dX0_oneOf_120 : decode cX0_oneOf 120 = .ok (.aload_n 0, 1) := dk_42 (dk_at dksX0_oneOf_5 2 rfl rfl)
theorem dX0_oneOf_121 : decode cX0_oneOf 121 = .ok (.invokevirtual 214, 3) := dk_182 0 214 (dk_at dksX0_oneOf_5 3 rfl rfl)
theorem dX0_oneOf_124 : decode cX0_oneOf 124 = .ok (.new 228, 3) := dk_187 0 228 (dk_at dksX0_oneOf_5 6 rfl rfl)
theorem dX0_oneOf_127 : decode cX0_oneOf 127 = .ok (.dup, 1) := dk_89 (dk_at dksX0_oneOf_5 9 rfl rfl)
theorem dX0_oneOf_128 : decode cX0_oneOf 128 = .ok (.iload_n 2, 1) := dk_28 (dk_at dksX0_oneOf_5 10 rfl rfl)
theorem dX0_oneOf_129 : decode cX0_oneOf 129 = .ok (.aload_n 1, 1) := dk_43 (dk_at dksX0_oneOf_5 11 rfl rfl)
theorem dX0_oneOf_130 : decode cX0_oneOf 130 = .ok (.aload_n 0, 1) := dk_42 (dk_at dksX0_oneOf_5 12 rfl rfl)
theorem dX0_oneOf_131 : decode cX0_oneOf 131 = .ok (.invokevirtual 260, 3) := dk_182 1 4 (dk_at dksX0_oneOf_5 13 rfl rfl)
theorem dX0_oneOf_134 : decode cX0_oneOf 134 = .ok (.invokespecial 230, 3) := dk_183 0 230 (dk_at dksX0_oneOf_5 16 rfl rfl)
theorem dX0_oneOf_137 : decode cX0_oneOf 137 = .ok (.areturn, 1) := dk_176 (dk_at dksX0_oneOf_5 19 rfl rfl)
abbrev cX0_opens : ByteArray := prog_1_method_19_code
def yX0_opens : MethodName := ⟨RX0, "opens", "()V"⟩
def dkwX0_opens_1 : List UInt8 := [180, 0, 236, 4, 96, 181, 0, 236, 42, 182, 0, 214, 177]
abbrev dktX0_opens_1 : List UInt8 := dkwX0_opens_1 ++ []
def dkwX0_opens_0 : List UInt8 := [42, 180, 0, 236, 16, 8, 160, 0, 16, 187, 0, 201, 89, 6, 42, 180, 0, 139, 183, 0, 203, 191, 42, 89]
abbrev dktX0_opens_0 : List UInt8 := dkwX0_opens_0 ++ dktX0_opens_1
theorem dksX0_opens_0 : cX0_opens.data.toList.drop 0 = dktX0_opens_0 := by decide +kernel
theorem dksX0_opens_1 : cX0_opens.data.toList.drop 24 = dktX0_opens_1 := dk_seg dksX0_opens_0 24 rfl rfl
theorem dX0_opens_0 : decode cX0_opens 0 = .ok (.aload_n 0, 1) := dk_42 (dk_at dksX0_opens_0 0 rfl rfl)
theorem dX0_opens_1 : decode cX0_opens 1 = .ok (.getfield 236, 3) := dk_180 0 236 (dk_at dksX0_opens_0 1 rfl rfl)
theorem dX0_opens_4 : decode cX0_opens 4 = .ok (.bipush 8, 2) := dk_16 8 (dk_at dksX0_opens_0 4 rfl rfl)
theorem dX0_opens_6 : decode cX0_opens 6 = .ok (.if_icmp .ne 16, 3) := dk_160 0 16 (dk_at dksX0_opens_0 6 rfl rfl)
theorem dX0_opens_9 : decode cX0_opens 9 = .ok (.new 201, 3) := dk_187 0 201 (dk_at dksX0_opens_0 9 rfl rfl)
theorem dX0_opens_12 : decode cX0_opens 12 = .ok (.dup, 1) := dk_89 (dk_at dksX0_opens_0 12 rfl rfl)
theorem dX0_opens_13 : decode cX0_opens 13 = .ok (.iconst 3, 1) := dk_6 (dk_at dksX0_opens_0 13 rfl rfl)
theorem dX0_opens_14 : decode cX0_opens 14 = .ok (.aload_n 0, 1) := dk_42 (dk_at dksX0_opens_0 14 rfl rfl)
theorem dX0_opens_15 : decode cX0_opens 15 = .ok (.getfield 139, 3) := dk_180 0 139 (dk_at dksX0_opens_0 15 rfl rfl)
theorem dX0_opens_18 : decode cX0_opens 18 = .ok (.invokespecial 203, 3) := dk_183 0 203 (dk_at dksX0_opens_0 18 rfl rfl)
theorem dX0_opens_21 : decode cX0_opens 21 = .ok (.athrow, 1) := dk_191 (dk_at dksX0_opens_0 21 rfl rfl)
theorem dX0_opens_22 : decode cX0_opens 22 = .ok (.aload_n 0, 1) := dk_42 (dk_at dksX0_opens_0 22 rfl rfl)
theorem dX0_opens_23 : decode cX0_opens 23 = .ok (.dup, 1) := dk_89 (dk_at dksX0_opens_0 23 rfl rfl)
theorem dX0_opens_24 : decode cX0_opens 24 = .ok (.getfield 236, 3) := dk_180 0 236 (dk_at dksX0_opens_1 0 rfl rfl)
theorem dX0_opens_27 : decode cX0_opens 27 = .ok (.iconst 1, 1) := dk_4 (dk_at dksX0_opens_1 3 rfl rfl)
theorem dX0_opens_28 : decode cX0_opens 28 = .ok (.iadd, 1) := dk_96 (dk_at dksX0_opens_1 4 rfl rfl)
theorem dX0_opens_29 : decode cX0_opens 29 = .ok (.putfield 236, 3) := dk_181 0 236 (dk_at dksX0_opens_1 5 rfl rfl)
theorem dX0_opens_32 : decode cX0_opens 32 = .ok (.aload_n 0, 1) := dk_42 (dk_at dksX0_opens_1 8 rfl rfl)
theorem dX0_opens_33 : decode cX0_opens 33 = .ok (.invokevirtual 214, 3) := dk_182 0 214 (dk_at dksX0_opens_1 9 rfl rfl)
theorem dX0_opens_36 : decode cX0_opens 36 = .ok (.return_, 1) := dk_177 (dk_at dksX0_opens_1 12 rfl rfl)
abbrev cX0_isSign : ByteArray := prog_1_method_12_code
def yX0_isSign : MethodName := ⟨RX0, "isSign", "(C)Z"⟩
def dkwX0_isSign_0 : List UInt8 := [42, 180, 0, 150, 178, 0, 163, 166, 0, 15, 42, 180, 0, 166, 27, 160, 0, 7, 4, 167, 0, 4, 3, 172]
abbrev dktX0_isSign_0 : List UInt8 := dkwX0_isSign_0 ++ []
theorem dksX0_isSign_0 : cX0_isSign.data.toList.drop 0 = dktX0_isSign_0 := by decide +kernel
theorem dX0_isSign_0 : decode cX0_isSign 0 = .ok (.aload_n 0, 1) := dk_42 (dk_at dksX0_isSign_0 0 rfl rfl)
theorem dX0_isSign_1 : decode cX0_isSign 1 = .ok (.getfield 150, 3) := dk_180 0 150 (dk_at dksX0_isSign_0 1 rfl rfl)
theorem dX0_isSign_4 : decode cX0_isSign 4 = .ok (.getstatic 163, 3) := dk_178 0 163 (dk_at dksX0_isSign_0 4 rfl rfl)
theorem dX0_isSign_7 : decode cX0_isSign 7 = .ok (.if_acmp .ne 15, 3) := dk_166 0 15 (dk_at dksX0_isSign_0 7 rfl rfl)
theorem dX0_isSign_10 : decode cX0_isSign 10 = .ok (.aload_n 0, 1) := dk_42 (dk_at dksX0_isSign_0 10 rfl rfl)
theorem dX0_isSign_11 : decode cX0_isSign 11 = .ok (.getfield 166, 3) := dk_180 0 166 (dk_at dksX0_isSign_0 11 rfl rfl)
theorem dX0_isSign_14 : decode cX0_isSign 14 = .ok (.iload_n 1, 1) := dk_27 (dk_at dksX0_isSign_0 14 rfl rfl)
theorem dX0_isSign_15 : decode cX0_isSign 15 = .ok (.if_icmp .ne 7, 3) := dk_160 0 7 (dk_at dksX0_isSign_0 15 rfl rfl)
theorem dX0_isSign_18 : decode cX0_isSign 18 = .ok (.iconst 1, 1) := dk_4 (dk_at dksX0_isSign_0 18 rfl rfl)
theorem dX0_isSign_19 : decode cX0_isSign 19 = .ok (.goto 4, 3) := dk_167 0 4 (dk_at dksX0_isSign_0 19 rfl rfl)
theorem dX0_isSign_22 : decode cX0_isSign 22 = .ok (.iconst 0, 1) := dk_3 (dk_at dksX0_isSign_0 22 rfl rfl)
theorem dX0_isSign_23 : decode cX0_isSign 23 = .ok (.ireturn, 1) := dk_172 (dk_at dksX0_isSign_0 23 rfl rfl)
abbrev cX0_takesSign : ByteArray := prog_1_method_15_code
def yX0_takesSign : MethodName := ⟨RX0, "takesSign", "(C)V"⟩
def dkwX0_takesSign_0 : List UInt8 := [42, 42, 27, 182, 0, 206, 182, 0, 210, 42, 182, 0, 214, 177]
abbrev dktX0_takesSign_0 : List UInt8 := dkwX0_takesSign_0 ++ []
theorem dksX0_takesSign_0 : cX0_takesSign.data.toList.drop 0 = dktX0_takesSign_0 := by decide +kernel
theorem dX0_takesSign_0 : decode cX0_takesSign 0 = .ok (.aload_n 0, 1) := dk_42 (dk_at dksX0_takesSign_0 0 rfl rfl)
theorem dX0_takesSign_1 : decode cX0_takesSign 1 = .ok (.aload_n 0, 1) := dk_42 (dk_at dksX0_takesSign_0 1 rfl rfl)
theorem dX0_takesSign_2 : decode cX0_takesSign 2 = .ok (.iload_n 1, 1) := dk_27 (dk_at dksX0_takesSign_0 2 rfl rfl)
theorem dX0_takesSign_3 : decode cX0_takesSign 3 = .ok (.invokevirtual 206, 3) := dk_182 0 206 (dk_at dksX0_takesSign_0 3 rfl rfl)
theorem dX0_takesSign_6 : decode cX0_takesSign 6 = .ok (.invokevirtual 210, 3) := dk_182 0 210 (dk_at dksX0_takesSign_0 6 rfl rfl)
theorem dX0_takesSign_9 : decode cX0_takesSign 9 = .ok (.aload_n 0, 1) := dk_42 (dk_at dksX0_takesSign_0 9 rfl rfl)
theorem dX0_takesSign_10 : decode cX0_takesSign 10 = .ok (.invokevirtual 214, 3) := dk_182 0 214 (dk_at dksX0_takesSign_0 10 rfl rfl)
theorem dX0_takesSign_13 : decode cX0_takesSign 13 = .ok (.return_, 1) := dk_177 (dk_at dksX0_takesSign_0 13 rfl rfl)
abbrev cX0_sum : ByteArray := prog_1_method_18_code
def yX0_sum : MethodName := ⟨RX0, "sum", "()LSwallowSurvey$Term;"⟩
def dkwX0_sum_2 : List UInt8 := [167, 255, 214, 43, 176]
abbrev dktX0_sum_2 : List UInt8 := dkwX0_sum_2 ++ []
def dkwX0_sum_1 : List UInt8 := [180, 0, 166, 146, 61, 42, 182, 0, 214, 187, 0, 228, 89, 28, 43, 42, 182, 0, 233, 183, 0, 230, 76]
abbrev dktX0_sum_1 : List UInt8 := dkwX0_sum_1 ++ dktX0_sum_2
def dkwX0_sum_0 : List UInt8 := [42, 182, 0, 233, 76, 42, 16, 43, 182, 0, 206, 154, 0, 12, 42, 16, 45, 182, 0, 206, 153, 0, 30, 42]
abbrev dktX0_sum_0 : List UInt8 := dkwX0_sum_0 ++ dktX0_sum_1
theorem dksX0_sum_0 : cX0_sum.data.toList.drop 0 = dktX0_sum_0 := by decide +kernel
theorem dksX0_sum_1 : cX0_sum.data.toList.drop 24 = dktX0_sum_1 := dk_seg dksX0_sum_0 24 rfl rfl
theorem dksX0_sum_2 : cX0_sum.data.toList.drop 47 = dktX0_sum_2 := dk_seg dksX0_sum_1 23 rfl rfl
theorem dX0_sum_0 : decode cX0_sum 0 = .ok (.aload_n 0, 1) := dk_42 (dk_at dksX0_sum_0 0 rfl rfl)
theorem dX0_sum_1 : decode cX0_sum 1 = .ok (.invokevirtual 233, 3) := dk_182 0 233 (dk_at dksX0_sum_0 1 rfl rfl)
theorem dX0_sum_4 : decode cX0_sum 4 = .ok (.astore_n 1, 1) := dk_76 (dk_at dksX0_sum_0 4 rfl rfl)
theorem dX0_sum_5 : decode cX0_sum 5 = .ok (.aload_n 0, 1) := dk_42 (dk_at dksX0_sum_0 5 rfl rfl)
theorem dX0_sum_6 : decode cX0_sum 6 = .ok (.bipush 43, 2) := dk_16 43 (dk_at dksX0_sum_0 6 rfl rfl)
theorem dX0_sum_8 : decode cX0_sum 8 = .ok (.invokevirtual 206, 3) := dk_182 0 206 (dk_at dksX0_sum_0 8 rfl rfl)
theorem dX0_sum_11 : decode cX0_sum 11 = .ok (.ifCond .ne 12, 3) := dk_154 0 12 (dk_at dksX0_sum_0 11 rfl rfl)
theorem dX0_sum_14 : decode cX0_sum 14 = .ok (.aload_n 0, 1) := dk_42 (dk_at dksX0_sum_0 14 rfl rfl)
theorem dX0_sum_15 : decode cX0_sum 15 = .ok (.bipush 45, 2) := dk_16 45 (dk_at dksX0_sum_0 15 rfl rfl)
theorem dX0_sum_17 : decode cX0_sum 17 = .ok (.invokevirtual 206, 3) := dk_182 0 206 (dk_at dksX0_sum_0 17 rfl rfl)
theorem dX0_sum_20 : decode cX0_sum 20 = .ok (.ifCond .eq 30, 3) := dk_153 0 30 (dk_at dksX0_sum_0 20 rfl rfl)
theorem dX0_sum_23 : decode cX0_sum 23 = .ok (.aload_n 0, 1) := dk_42 (dk_at dksX0_sum_0 23 rfl rfl)
theorem dX0_sum_24 : decode cX0_sum 24 = .ok (.getfield 166, 3) := dk_180 0 166 (dk_at dksX0_sum_1 0 rfl rfl)
theorem dX0_sum_27 : decode cX0_sum 27 = .ok (.i2c, 1) := dk_146 (dk_at dksX0_sum_1 3 rfl rfl)
theorem dX0_sum_28 : decode cX0_sum 28 = .ok (.istore_n 2, 1) := dk_61 (dk_at dksX0_sum_1 4 rfl rfl)
theorem dX0_sum_29 : decode cX0_sum 29 = .ok (.aload_n 0, 1) := dk_42 (dk_at dksX0_sum_1 5 rfl rfl)
theorem dX0_sum_30 : decode cX0_sum 30 = .ok (.invokevirtual 214, 3) := dk_182 0 214 (dk_at dksX0_sum_1 6 rfl rfl)
theorem dX0_sum_33 : decode cX0_sum 33 = .ok (.new 228, 3) := dk_187 0 228 (dk_at dksX0_sum_1 9 rfl rfl)
theorem dX0_sum_36 : decode cX0_sum 36 = .ok (.dup, 1) := dk_89 (dk_at dksX0_sum_1 12 rfl rfl)
theorem dX0_sum_37 : decode cX0_sum 37 = .ok (.iload_n 2, 1) := dk_28 (dk_at dksX0_sum_1 13 rfl rfl)
theorem dX0_sum_38 : decode cX0_sum 38 = .ok (.aload_n 1, 1) := dk_43 (dk_at dksX0_sum_1 14 rfl rfl)
theorem dX0_sum_39 : decode cX0_sum 39 = .ok (.aload_n 0, 1) := dk_42 (dk_at dksX0_sum_1 15 rfl rfl)
theorem dX0_sum_40 : decode cX0_sum 40 = .ok (.invokevirtual 233, 3) := dk_182 0 233 (dk_at dksX0_sum_1 16 rfl rfl)
theorem dX0_sum_43 : decode cX0_sum 43 = .ok (.invokespecial 230, 3) := dk_183 0 230 (dk_at dksX0_sum_1 19 rfl rfl)
theorem dX0_sum_46 : decode cX0_sum 46 = .ok (.astore_n 1, 1) := dk_76 (dk_at dksX0_sum_1 22 rfl rfl)
theorem dX0_sum_47 : decode cX0_sum 47 = .ok (.goto (-42), 3) := dk_167 255 214 (dk_at dksX0_sum_2 0 rfl rfl)
theorem dX0_sum_50 : decode cX0_sum 50 = .ok (.aload_n 1, 1) := dk_43 (dk_at dksX0_sum_2 3 rfl rfl)
theorem dX0_sum_51 : decode cX0_sum 51 = .ok (.areturn, 1) := dk_176 (dk_at dksX0_sum_2 4 rfl rfl)
abbrev cX0_product : ByteArray := prog_1_method_17_code
def yX0_product : MethodName := ⟨RX0, "product", "()LSwallowSurvey$Term;"⟩
def dkwX0_product_4 : List UInt8 := [43, 176]
abbrev dktX0_product_4 : List UInt8 := dkwX0_product_4 ++ []
def dkwX0_product_3 : List UInt8 := [180, 0, 139, 183, 0, 203, 191, 187, 0, 228, 89, 28, 43, 42, 182, 0, 224, 183, 0, 230, 76, 167, 255, 169]
abbrev dktX0_product_3 : List UInt8 := dkwX0_product_3 ++ dktX0_product_4
def dkwX0_product_2 : List UInt8 := [166, 0, 7, 4, 167, 0, 4, 3, 182, 0, 210, 42, 180, 0, 166, 154, 0, 16, 187, 0, 201, 89, 5, 42]
abbrev dktX0_product_2 : List UInt8 := dkwX0_product_2 ++ dktX0_product_3
def dkwX0_product_1 : List UInt8 := [180, 0, 166, 146, 61, 42, 182, 0, 214, 28, 16, 47, 160, 0, 42, 42, 42, 180, 0, 150, 178, 0, 193]
abbrev dktX0_product_1 : List UInt8 := dkwX0_product_1 ++ dktX0_product_2
def dkwX0_product_0 : List UInt8 := [42, 182, 0, 224, 76, 42, 16, 42, 182, 0, 206, 154, 0, 12, 42, 16, 47, 182, 0, 206, 153, 0, 75, 42]
abbrev dktX0_product_0 : List UInt8 := dkwX0_product_0 ++ dktX0_product_1
theorem dksX0_product_0 : cX0_product.data.toList.drop 0 = dktX0_product_0 := by decide +kernel
theorem dksX0_product_1 : cX0_product.data.toList.drop 24 = dktX0_product_1 := dk_seg dksX0_product_0 24 rfl rfl
theorem dksX0_product_2 : cX0_product.data.toList.drop 47 = dktX0_product_2 := dk_seg dksX0_product_1 23 rfl rfl
theorem dksX0_product_3 : cX0_product.data.toList.drop 71 = dktX0_product_3 := dk_seg dksX0_product_2 24 rfl rfl
theorem dksX0_product_4 : cX0_product.data.toList.drop 95 = dktX0_product_4 := dk_seg dksX0_product_3 24 rfl rfl
theorem dX0_product_0 : decode cX0_product 0 = .ok (.aload_n 0, 1) := dk_42 (dk_at dksX0_product_0 0 rfl rfl)
theorem dX0_product_1 : decode cX0_product 1 = .ok (.invokevirtual 224, 3) := dk_182 0 224 (dk_at dksX0_product_0 1 rfl rfl)
theorem dX0_product_4 : decode cX0_product 4 = .ok (.astore_n 1, 1) := dk_76 (dk_at dksX0_product_0 4 rfl rfl)
theorem dX0_product_5 : decode cX0_product 5 = .ok (.aload_n 0, 1) := dk_42 (dk_at dksX0_product_0 5 rfl rfl)
theorem dX0_product_6 : decode cX0_product 6 = .ok (.bipush 42, 2) := dk_16 42 (dk_at dksX0_product_0 6 rfl rfl)
theorem dX0_product_8 : decode cX0_product 8 = .ok (.invokevirtual 206, 3) := dk_182 0 206 (dk_at dksX0_product_0 8 rfl rfl)
theorem dX0_product_11 : decode cX0_product 11 = .ok (.ifCond .ne 12, 3) := dk_154 0 12 (dk_at dksX0_product_0 11 rfl rfl)
theorem dX0_product_14 : decode cX0_product 14 = .ok (.aload_n 0, 1) := dk_42 (dk_at dksX0_product_0 14 rfl rfl)
theorem dX0_product_15 : decode cX0_product 15 = .ok (.bipush 47, 2) := dk_16 47 (dk_at dksX0_product_0 15 rfl rfl)
theorem dX0_product_17 : decode cX0_product 17 = .ok (.invokevirtual 206, 3) := dk_182 0 206 (dk_at dksX0_product_0 17 rfl rfl)
theorem dX0_product_20 : decode cX0_product 20 = .ok (.ifCond .eq 75, 3) := dk_153 0 75 (dk_at dksX0_product_0 20 rfl rfl)
theorem dX0_product_23 : decode cX0_product 23 = .ok (.aload_n 0, 1) := dk_42 (dk_at dksX0_product_0 23 rfl rfl)
theorem dX0_product_24 : decode cX0_product 24 = .ok (.getfield 166, 3) := dk_180 0 166 (dk_at dksX0_product_1 0 rfl rfl)
theorem dX0_product_27 : decode cX0_product 27 = .ok (.i2c, 1) := dk_146 (dk_at dksX0_product_1 3 rfl rfl)
theorem dX0_product_28 : decode cX0_product 28 = .ok (.istore_n 2, 1) := dk_61 (dk_at dksX0_product_1 4 rfl rfl)
theorem dX0_product_29 : decode cX0_product 29 = .ok (.aload_n 0, 1) := dk_42 (dk_at dksX0_product_1 5 rfl rfl)
theorem dX0_product_30 : decode cX0_product 30 = .ok (.invokevirtual 214, 3) := dk_182 0 214 (dk_at dksX0_product_1 6 rfl rfl)
theorem dX0_product_33 : decode cX0_product 33 = .ok (.iload_n 2, 1) := dk_28 (dk_at dksX0_product_1 9 rfl rfl)
theorem dX0_product_34 : decode cX0_product 34 = .ok (.bipush 47, 2) := dk_16 47 (dk_at dksX0_product_1 10 rfl rfl)
theorem dX0_product_36 : decode cX0_product 36 = .ok (.if_icmp .ne 42, 3) := dk_160 0 42 (dk_at dksX0_product_1 12 rfl rfl)
theorem dX0_product_39 : decode cX0_product 39 = .ok (.aload_n 0, 1) := dk_42 (dk_at dksX0_product_1 15 rfl rfl)
theorem dX0_product_40 : decode cX0_product 40 = .ok (.aload_n 0, 1) := dk_42 (dk_at dksX0_product_1 16 rfl rfl)
theorem dX0_product_41 : decode cX0_product 41 = .ok (.getfield 150, 3) := dk_180 0 150 (dk_at dksX0_product_1 17 rfl rfl)
theorem dX0_product_44 : decode cX0_product 44 = .ok (.getstatic 193, 3) := dk_178 0 193 (dk_at dksX0_product_1 20 rfl rfl)
theorem dX0_product_47 : decode cX0_product 47 = .ok (.if_acmp .ne 7, 3) := dk_166 0 7 (dk_at dksX0_product_2 0 rfl rfl)
theorem dX0_product_50 : decode cX0_product 50 = .ok (.iconst 1, 1) := dk_4 (dk_at dksX0_product_2 3 rfl rfl)
theorem dX0_product_51 : decode cX0_product 51 = .ok (.goto 4, 3) := dk_167 0 4 (dk_at dksX0_product_2 4 rfl rfl)
theorem dX0_product_54 : decode cX0_product 54 = .ok (.iconst 0, 1) := dk_3 (dk_at dksX0_product_2 7 rfl rfl)
theorem dX0_product_55 : decode cX0_product 55 = .ok (.invokevirtual 210, 3) := dk_182 0 210 (dk_at dksX0_product_2 8 rfl rfl)
theorem dX0_product_58 : decode cX0_product 58 = .ok (.aload_n 0, 1) := dk_42 (dk_at dksX0_product_2 11 rfl rfl)
theorem dX0_product_59 : decode cX0_product 59 = .ok (.getfield 166, 3) := dk_180 0 166 (dk_at dksX0_product_2 12 rfl rfl)
theorem dX0_product_62 : decode cX0_product 62 = .ok (.ifCond .ne 16, 3) := dk_154 0 16 (dk_at dksX0_product_2 15 rfl rfl)
theorem dX0_product_65 : decode cX0_product 65 = .ok (.new 201, 3) := dk_187 0 201 (dk_at dksX0_product_2 18 rfl rfl)
theorem dX0_product_68 : decode cX0_product 68 = .ok (.dup, 1) := dk_89 (dk_at dksX0_product_2 21 rfl rfl)
theorem dX0_product_69 : decode cX0_product 69 = .ok (.iconst 2, 1) := dk_5 (dk_at dksX0_product_2 22 rfl rfl)
theorem dX0_product_70 : decode cX0_product 70 = .ok (.aload_n 0, 1) := dk_42 (dk_at dksX0_product_2 23 rfl rfl)
theorem dX0_product_71 : decode cX0_product 71 = .ok (.getfield 139, 3) := dk_180 0 139 (dk_at dksX0_product_3 0 rfl rfl)
theorem dX0_product_74 : decode cX0_product 74 = .ok (.invokespecial 203, 3) := dk_183 0 203 (dk_at dksX0_product_3 3 rfl rfl)
theorem dX0_product_77 : decode cX0_product 77 = .ok (.athrow, 1) := dk_191 (dk_at dksX0_product_3 6 rfl rfl)
theorem dX0_product_78 : decode cX0_product 78 = .ok (.new 228, 3) := dk_187 0 228 (dk_at dksX0_product_3 7 rfl rfl)
theorem dX0_product_81 : decode cX0_product 81 = .ok (.dup, 1) := dk_89 (dk_at dksX0_product_3 10 rfl rfl)
theorem dX0_product_82 : decode cX0_product 82 = .ok (.iload_n 2, 1) := dk_28 (dk_at dksX0_product_3 11 rfl rfl)
theorem dX0_product_83 : decode cX0_product 83 = .ok (.aload_n 1, 1) := dk_43 (dk_at dksX0_product_3 12 rfl rfl)
theorem dX0_product_84 : decode cX0_product 84 = .ok (.aload_n 0, 1) := dk_42 (dk_at dksX0_product_3 13 rfl rfl)
theorem dX0_product_85 : decode cX0_product 85 = .ok (.invokevirtual 224, 3) := dk_182 0 224 (dk_at dksX0_product_3 14 rfl rfl)
theorem dX0_product_88 : decode cX0_product 88 = .ok (.invokespecial 230, 3) := dk_183 0 230 (dk_at dksX0_product_3 17 rfl rfl)
theorem dX0_product_91 : decode cX0_product 91 = .ok (.astore_n 1, 1) := dk_76 (dk_at dksX0_product_3 20 rfl rfl)
theorem dX0_product_92 : decode cX0_product 92 = .ok (.goto (-87), 3) := dk_167 255 169 (dk_at dksX0_product_3 21 rfl rfl)
theorem dX0_product_95 : decode cX0_product 95 = .ok (.aload_n 1, 1) := dk_43 (dk_at dksX0_product_4 0 rfl rfl)
theorem dX0_product_96 : decode cX0_product 96 = .ok (.areturn, 1) := dk_176 (dk_at dksX0_product_4 1 rfl rfl)
abbrev cX0_unit : ByteArray := prog_1_method_16_code
def yX0_unit : MethodName := ⟨RX0, "unit", "()LSwallowSurvey$Term;"⟩
def dkwX0_unit_2 : List UInt8 := [182, 0, 210, 42, 182, 0, 214, 187, 0, 221, 89, 27, 183, 0, 223, 176]
abbrev dktX0_unit_2 : List UInt8 := dkwX0_unit_2 ++ []
def dkwX0_unit_1 : List UInt8 := [183, 0, 219, 176, 42, 42, 180, 0, 47, 182, 0, 179, 60, 42, 27, 2, 159, 0, 7, 4, 167, 0, 4, 3]
abbrev dktX0_unit_1 : List UInt8 := dkwX0_unit_1 ++ dktX0_unit_2
def dkwX0_unit_0 : List UInt8 := [42, 180, 0, 150, 178, 0, 193, 166, 0, 21, 42, 180, 0, 166, 60, 42, 182, 0, 214, 187, 0, 217, 89, 27]
abbrev dktX0_unit_0 : List UInt8 := dkwX0_unit_0 ++ dktX0_unit_1
theorem dksX0_unit_0 : cX0_unit.data.toList.drop 0 = dktX0_unit_0 := by decide +kernel
theorem dksX0_unit_1 : cX0_unit.data.toList.drop 24 = dktX0_unit_1 := dk_seg dksX0_unit_0 24 rfl rfl
theorem dksX0_unit_2 : cX0_unit.data.toList.drop 48 = dktX0_unit_2 := dk_seg dksX0_unit_1 24 rfl rfl
theorem dX0_unit_0 : decode cX0_unit 0 = .ok (.aload_n 0, 1) := dk_42 (dk_at dksX0_unit_0 0 rfl rfl)
theorem dX0_unit_1 : decode cX0_unit 1 = .ok (.getfield 150, 3) := dk_180 0 150 (dk_at dksX0_unit_0 1 rfl rfl)
theorem dX0_unit_4 : decode cX0_unit 4 = .ok (.getstatic 193, 3) := dk_178 0 193 (dk_at dksX0_unit_0 4 rfl rfl)
theorem dX0_unit_7 : decode cX0_unit 7 = .ok (.if_acmp .ne 21, 3) := dk_166 0 21 (dk_at dksX0_unit_0 7 rfl rfl)
theorem dX0_unit_10 : decode cX0_unit 10 = .ok (.aload_n 0, 1) := dk_42 (dk_at dksX0_unit_0 10 rfl rfl)
theorem dX0_unit_11 : decode cX0_unit 11 = .ok (.getfield 166, 3) := dk_180 0 166 (dk_at dksX0_unit_0 11 rfl rfl)
theorem dX0_unit_14 : decode cX0_unit 14 = .ok (.istore_n 1, 1) := dk_60 (dk_at dksX0_unit_0 14 rfl rfl)
theorem dX0_unit_15 : decode cX0_unit 15 = .ok (.aload_n 0, 1) := dk_42 (dk_at dksX0_unit_0 15 rfl rfl)
theorem dX0_unit_16 : decode cX0_unit 16 = .ok (.invokevirtual 214, 3) := dk_182 0 214 (dk_at dksX0_unit_0 16 rfl rfl)
theorem dX0_unit_19 : decode cX0_unit 19 = .ok (.new 217, 3) := dk_187 0 217 (dk_at dksX0_unit_0 19 rfl rfl)
theorem dX0_unit_22 : decode cX0_unit 22 = .ok (.dup, 1) := dk_89 (dk_at dksX0_unit_0 22 rfl rfl)
theorem dX0_unit_23 : decode cX0_unit 23 = .ok (.iload_n 1, 1) := dk_27 (dk_at dksX0_unit_0 23 rfl rfl)
theorem dX0_unit_24 : decode cX0_unit 24 = .ok (.invokespecial 219, 3) := dk_183 0 219 (dk_at dksX0_unit_1 0 rfl rfl)
theorem dX0_unit_27 : decode cX0_unit 27 = .ok (.areturn, 1) := dk_176 (dk_at dksX0_unit_1 3 rfl rfl)
theorem dX0_unit_28 : decode cX0_unit 28 = .ok (.aload_n 0, 1) := dk_42 (dk_at dksX0_unit_1 4 rfl rfl)
theorem dX0_unit_29 : decode cX0_unit 29 = .ok (.aload_n 0, 1) := dk_42 (dk_at dksX0_unit_1 5 rfl rfl)
theorem dX0_unit_30 : decode cX0_unit 30 = .ok (.getfield 47, 3) := dk_180 0 47 (dk_at dksX0_unit_1 6 rfl rfl)
theorem dX0_unit_33 : decode cX0_unit 33 = .ok (.invokevirtual 179, 3) := dk_182 0 179 (dk_at dksX0_unit_1 9 rfl rfl)
theorem dX0_unit_36 : decode cX0_unit 36 = .ok (.istore_n 1, 1) := dk_60 (dk_at dksX0_unit_1 12 rfl rfl)
theorem dX0_unit_37 : decode cX0_unit 37 = .ok (.aload_n 0, 1) := dk_42 (dk_at dksX0_unit_1 13 rfl rfl)
theorem dX0_unit_38 : decode cX0_unit 38 = .ok (.iload_n 1, 1) := dk_27 (dk_at dksX0_unit_1 14 rfl rfl)
theorem dX0_unit_39 : decode cX0_unit 39 = .ok (.iconst (-1), 1) := dk_2 (dk_at dksX0_unit_1 15 rfl rfl)
theorem dX0_unit_40 : decode cX0_unit 40 = .ok (.if_icmp .eq 7, 3) := dk_159 0 7 (dk_at dksX0_unit_1 16 rfl rfl)
theorem dX0_unit_43 : decode cX0_unit 43 = .ok (.iconst 1, 1) := dk_4 (dk_at dksX0_unit_1 19 rfl rfl)
theorem dX0_unit_44 : decode cX0_unit 44 = .ok (.goto 4, 3) := dk_167 0 4 (dk_at dksX0_unit_1 20 rfl rfl)
theorem dX0_unit_47 : decode cX0_unit 47 = .ok (.iconst 0, 1) := dk_3 (dk_at dksX0_unit_1 23 rfl rfl)
theorem dX0_unit_48 : decode cX0_unit 48 = .ok (.invokevirtual 210, 3) := dk_182 0 210 (dk_at dksX0_unit_2 0 rfl rfl)
theorem dX0_unit_51 : decode cX0_unit 51 = .ok (.aload_n 0, 1) := dk_42 (dk_at dksX0_unit_2 3 rfl rfl)
theorem dX0_unit_52 : decode cX0_unit 52 = .ok (.invokevirtual 214, 3) := dk_182 0 214 (dk_at dksX0_unit_2 4 rfl rfl)
theorem dX0_unit_55 : decode cX0_unit 55 = .ok (.new 221, 3) := dk_187 0 221 (dk_at dksX0_unit_2 7 rfl rfl)
theorem dX0_unit_58 : decode cX0_unit 58 = .ok (.dup, 1) := dk_89 (dk_at dksX0_unit_2 10 rfl rfl)
theorem dX0_unit_59 : decode cX0_unit 59 = .ok (.iload_n 1, 1) := dk_27 (dk_at dksX0_unit_2 11 rfl rfl)
theorem dX0_unit_60 : decode cX0_unit 60 = .ok (.invokespecial 223, 3) := dk_183 0 223 (dk_at dksX0_unit_2 12 rfl rfl)
theorem dX0_unit_63 : decode cX0_unit 63 = .ok (.areturn, 1) := dk_176 (dk_at dksX0_unit_2 15 rfl rfl)
abbrev cX0_fault : ByteArray := prog_1_method_25_code
def yX0_fault : MethodName := ⟨RX0, "fault", "(I)I"⟩
def dkwX0_fault_1 : List UInt8 := [172]
abbrev dktX0_fault_1 : List UInt8 := dkwX0_fault_1 ++ []
def dkwX0_fault_0 : List UInt8 := [27, 154, 0, 10, 42, 180, 1, 19, 167, 0, 16, 27, 4, 160, 0, 10, 42, 180, 0, 61, 167, 0, 4, 2]
abbrev dktX0_fault_0 : List UInt8 := dkwX0_fault_0 ++ dktX0_fault_1
theorem dksX0_fault_0 : cX0_fault.data.toList.drop 0 = dktX0_fault_0 := by decide +kernel
theorem dksX0_fault_1 : cX0_fault.data.toList.drop 24 = dktX0_fault_1 := dk_seg dksX0_fault_0 24 rfl rfl
theorem dX0_fault_0 : decode cX0_fault 0 = .ok (.iload_n 1, 1) := dk_27 (dk_at dksX0_fault_0 0 rfl rfl)
theorem dX0_fault_1 : decode cX0_fault 1 = .ok (.ifCond .ne 10, 3) := dk_154 0 10 (dk_at dksX0_fault_0 1 rfl rfl)
theorem dX0_fault_4 : decode cX0_fault 4 = .ok (.aload_n 0, 1) := dk_42 (dk_at dksX0_fault_0 4 rfl rfl)
theorem dX0_fault_5 : decode cX0_fault 5 = .ok (.getfield 275, 3) := dk_180 1 19 (dk_at dksX0_fault_0 5 rfl rfl)
theorem dX0_fault_8 : decode cX0_fault 8 = .ok (.goto 16, 3) := dk_167 0 16 (dk_at dksX0_fault_0 8 rfl rfl)
theorem dX0_fault_11 : decode cX0_fault 11 = .ok (.iload_n 1, 1) := dk_27 (dk_at dksX0_fault_0 11 rfl rfl)
theorem dX0_fault_12 : decode cX0_fault 12 = .ok (.iconst 1, 1) := dk_4 (dk_at dksX0_fault_0 12 rfl rfl)
theorem dX0_fault_13 : decode cX0_fault 13 = .ok (.if_icmp .ne 10, 3) := dk_160 0 10 (dk_at dksX0_fault_0 13 rfl rfl)
theorem dX0_fault_16 : decode cX0_fault 16 = .ok (.aload_n 0, 1) := dk_42 (dk_at dksX0_fault_0 16 rfl rfl)
theorem dX0_fault_17 : decode cX0_fault 17 = .ok (.getfield 61, 3) := dk_180 0 61 (dk_at dksX0_fault_0 17 rfl rfl)
theorem dX0_fault_20 : decode cX0_fault 20 = .ok (.goto 4, 3) := dk_167 0 4 (dk_at dksX0_fault_0 20 rfl rfl)
theorem dX0_fault_23 : decode cX0_fault 23 = .ok (.iconst (-1), 1) := dk_2 (dk_at dksX0_fault_0 23 rfl rfl)
theorem dX0_fault_24 : decode cX0_fault 24 = .ok (.ireturn, 1) := dk_172 (dk_at dksX0_fault_1 0 rfl rfl)
abbrev cX0_state : ByteArray := prog_1_method_29_code
def yX0_state : MethodName := ⟨RX0, "state", "(I)I"⟩
def dkwX0_state_0 : List UInt8 := [42, 180, 0, 75, 180, 1, 42, 61, 42, 180, 0, 75, 27, 181, 1, 42, 28, 172]
abbrev dktX0_state_0 : List UInt8 := dkwX0_state_0 ++ []
theorem dksX0_state_0 : cX0_state.data.toList.drop 0 = dktX0_state_0 := by decide +kernel
theorem dX0_state_0 : decode cX0_state 0 = .ok (.aload_n 0, 1) := dk_42 (dk_at dksX0_state_0 0 rfl rfl)
theorem dX0_state_1 : decode cX0_state 1 = .ok (.getfield 75, 3) := dk_180 0 75 (dk_at dksX0_state_0 1 rfl rfl)
theorem dX0_state_4 : decode cX0_state 4 = .ok (.getfield 298, 3) := dk_180 1 42 (dk_at dksX0_state_0 4 rfl rfl)
theorem dX0_state_7 : decode cX0_state 7 = .ok (.istore_n 2, 1) := dk_61 (dk_at dksX0_state_0 7 rfl rfl)
theorem dX0_state_8 : decode cX0_state 8 = .ok (.aload_n 0, 1) := dk_42 (dk_at dksX0_state_0 8 rfl rfl)
theorem dX0_state_9 : decode cX0_state 9 = .ok (.getfield 75, 3) := dk_180 0 75 (dk_at dksX0_state_0 9 rfl rfl)
theorem dX0_state_12 : decode cX0_state 12 = .ok (.iload_n 1, 1) := dk_27 (dk_at dksX0_state_0 12 rfl rfl)
theorem dX0_state_13 : decode cX0_state 13 = .ok (.putfield 298, 3) := dk_181 1 42 (dk_at dksX0_state_0 13 rfl rfl)
theorem dX0_state_16 : decode cX0_state 16 = .ok (.iload_n 2, 1) := dk_28 (dk_at dksX0_state_0 16 rfl rfl)
theorem dX0_state_17 : decode cX0_state 17 = .ok (.ireturn, 1) := dk_172 (dk_at dksX0_state_0 17 rfl rfl)
abbrev cX0_land : ByteArray := prog_1_method_30_code
def yX0_land : MethodName := ⟨RX0, "land", "(II)Z"⟩
def dkwX0_land_4 : List UInt8 := [187, 0, 65, 89, 183, 0, 67, 83, 132, 4, 1, 167, 255, 233, 42, 3, 181, 1, 51, 4, 172]
abbrev dktX0_land_4 : List UInt8 := dkwX0_land_4 ++ []
def dkwX0_land_3 : List UInt8 := [42, 183, 0, 91, 181, 0, 94, 3, 54, 4, 21, 4, 7, 162, 0, 23, 42, 180, 0, 68, 21, 4]
abbrev dktX0_land_3 : List UInt8 := dkwX0_land_3 ++ dktX0_land_4
def dkwX0_land_2 : List UInt8 := [181, 1, 45, 42, 180, 0, 75, 28, 181, 1, 48, 42, 180, 0, 75, 29, 181, 1, 42, 42, 187, 0, 89, 89]
abbrev dktX0_land_2 : List UInt8 := dkwX0_land_2 ++ dktX0_land_3
def dkwX0_land_1 : List UInt8 := [180, 0, 75, 180, 1, 42, 62, 42, 187, 0, 72, 89, 183, 0, 74, 181, 0, 75, 42, 180, 0, 75, 27]
abbrev dktX0_land_1 : List UInt8 := dkwX0_land_1 ++ dktX0_land_2
def dkwX0_land_0 : List UInt8 := [27, 5, 16, 10, 184, 0, 128, 153, 0, 13, 28, 5, 16, 10, 184, 0, 128, 154, 0, 5, 3, 172, 42]
abbrev dktX0_land_0 : List UInt8 := dkwX0_land_0 ++ dktX0_land_1
theorem dksX0_land_0 : cX0_land.data.toList.drop 0 = dktX0_land_0 := by decide +kernel
theorem dksX0_land_1 : cX0_land.data.toList.drop 23 = dktX0_land_1 := dk_seg dksX0_land_0 23 rfl rfl
theorem dksX0_land_2 : cX0_land.data.toList.drop 46 = dktX0_land_2 := dk_seg dksX0_land_1 23 rfl rfl
theorem dksX0_land_3 : cX0_land.data.toList.drop 70 = dktX0_land_3 := dk_seg dksX0_land_2 24 rfl rfl
theorem dksX0_land_4 : cX0_land.data.toList.drop 92 = dktX0_land_4 := dk_seg dksX0_land_3 22 rfl rfl
theorem dX0_land_0 : decode cX0_land 0 = .ok (.iload_n 1, 1) := dk_27 (dk_at dksX0_land_0 0 rfl rfl)
theorem dX0_land_1 : decode cX0_land 1 = .ok (.iconst 2, 1) := dk_5 (dk_at dksX0_land_0 1 rfl rfl)
theorem dX0_land_2 : decode cX0_land 2 = .ok (.bipush 10, 2) := dk_16 10 (dk_at dksX0_land_0 2 rfl rfl)
theorem dX0_land_4 : decode cX0_land 4 = .ok (.invokestatic 128, 3) := dk_184 0 128 (dk_at dksX0_land_0 4 rfl rfl)
theorem dX0_land_7 : decode cX0_land 7 = .ok (.ifCond .eq 13, 3) := dk_153 0 13 (dk_at dksX0_land_0 7 rfl rfl)
theorem dX0_land_10 : decode cX0_land 10 = .ok (.iload_n 2, 1) := dk_28 (dk_at dksX0_land_0 10 rfl rfl)
theorem dX0_land_11 : decode cX0_land 11 = .ok (.iconst 2, 1) := dk_5 (dk_at dksX0_land_0 11 rfl rfl)
theorem dX0_land_12 : decode cX0_land 12 = .ok (.bipush 10, 2) := dk_16 10 (dk_at dksX0_land_0 12 rfl rfl)
theorem dX0_land_14 : decode cX0_land 14 = .ok (.invokestatic 128, 3) := dk_184 0 128 (dk_at dksX0_land_0 14 rfl rfl)
theorem dX0_land_17 : decode cX0_land 17 = .ok (.ifCond .ne 5, 3) := dk_154 0 5 (dk_at dksX0_land_0 17 rfl rfl)
theorem dX0_land_20 : decode cX0_land 20 = .ok (.iconst 0, 1) := dk_3 (dk_at dksX0_land_0 20 rfl rfl)
theorem dX0_land_21 : decode cX0_land 21 = .ok (.ireturn, 1) := dk_172 (dk_at dksX0_land_0 21 rfl rfl)
theorem dX0_land_22 : decode cX0_land 22 = .ok (.aload_n 0, 1) := dk_42 (dk_at dksX0_land_0 22 rfl rfl)
theorem dX0_land_23 : decode cX0_land 23 = .ok (.getfield 75, 3) := dk_180 0 75 (dk_at dksX0_land_1 0 rfl rfl)
theorem dX0_land_26 : decode cX0_land 26 = .ok (.getfield 298, 3) := dk_180 1 42 (dk_at dksX0_land_1 3 rfl rfl)
theorem dX0_land_29 : decode cX0_land 29 = .ok (.istore_n 3, 1) := dk_62 (dk_at dksX0_land_1 6 rfl rfl)
theorem dX0_land_30 : decode cX0_land 30 = .ok (.aload_n 0, 1) := dk_42 (dk_at dksX0_land_1 7 rfl rfl)
theorem dX0_land_31 : decode cX0_land 31 = .ok (.new 72, 3) := dk_187 0 72 (dk_at dksX0_land_1 8 rfl rfl)
theorem dX0_land_34 : decode cX0_land 34 = .ok (.dup, 1) := dk_89 (dk_at dksX0_land_1 11 rfl rfl)
theorem dX0_land_35 : decode cX0_land 35 = .ok (.invokespecial 74, 3) := dk_183 0 74 (dk_at dksX0_land_1 12 rfl rfl)
theorem dX0_land_38 : decode cX0_land 38 = .ok (.putfield 75, 3) := dk_181 0 75 (dk_at dksX0_land_1 15 rfl rfl)
theorem dX0_land_41 : decode cX0_land 41 = .ok (.aload_n 0, 1) := dk_42 (dk_at dksX0_land_1 18 rfl rfl)
theorem dX0_land_42 : decode cX0_land 42 = .ok (.getfield 75, 3) := dk_180 0 75 (dk_at dksX0_land_1 19 rfl rfl)
theorem dX0_land_45 : decode cX0_land 45 = .ok (.iload_n 1, 1) := dk_27 (dk_at dksX0_land_1 22 rfl rfl)
theorem dX0_land_46 : decode cX0_land 46 = .ok (.putfield 301, 3) := dk_181 1 45 (dk_at dksX0_land_2 0 rfl rfl)
theorem dX0_land_49 : decode cX0_land 49 = .ok (.aload_n 0, 1) := dk_42 (dk_at dksX0_land_2 3 rfl rfl)
theorem dX0_land_50 : decode cX0_land 50 = .ok (.getfield 75, 3) := dk_180 0 75 (dk_at dksX0_land_2 4 rfl rfl)
theorem dX0_land_53 : decode cX0_land 53 = .ok (.iload_n 2, 1) := dk_28 (dk_at dksX0_land_2 7 rfl rfl)
theorem dX0_land_54 : decode cX0_land 54 = .ok (.putfield 304, 3) := dk_181 1 48 (dk_at dksX0_land_2 8 rfl rfl)
theorem dX0_land_57 : decode cX0_land 57 = .ok (.aload_n 0, 1) := dk_42 (dk_at dksX0_land_2 11 rfl rfl)
theorem dX0_land_58 : decode cX0_land 58 = .ok (.getfield 75, 3) := dk_180 0 75 (dk_at dksX0_land_2 12 rfl rfl)
theorem dX0_land_61 : decode cX0_land 61 = .ok (.iload_n 3, 1) := dk_29 (dk_at dksX0_land_2 15 rfl rfl)
theorem dX0_land_62 : decode cX0_land 62 = .ok (.putfield 298, 3) := dk_181 1 42 (dk_at dksX0_land_2 16 rfl rfl)
theorem dX0_land_65 : decode cX0_land 65 = .ok (.aload_n 0, 1) := dk_42 (dk_at dksX0_land_2 19 rfl rfl)
theorem dX0_land_66 : decode cX0_land 66 = .ok (.new 89, 3) := dk_187 0 89 (dk_at dksX0_land_2 20 rfl rfl)
theorem dX0_land_69 : decode cX0_land 69 = .ok (.dup, 1) := dk_89 (dk_at dksX0_land_2 23 rfl rfl)
theorem dX0_land_70 : decode cX0_land 70 = .ok (.aload_n 0, 1) := dk_42 (dk_at dksX0_land_3 0 rfl rfl)
theorem dX0_land_71 : decode cX0_land 71 = .ok (.invokespecial 91, 3) := dk_183 0 91 (dk_at dksX0_land_3 1 rfl rfl)
theorem dX0_land_74 : decode cX0_land 74 = .ok (.putfield 94, 3) := dk_181 0 94 (dk_at dksX0_land_3 4 rfl rfl)
theorem dX0_land_77 : decode cX0_land 77 = .ok (.iconst 0, 1) := dk_3 (dk_at dksX0_land_3 7 rfl rfl)
theorem dX0_land_78 : decode cX0_land 78 = .ok (.istore 4, 2) := dk_54 4 (dk_at dksX0_land_3 8 rfl rfl)
theorem dX0_land_80 : decode cX0_land 80 = .ok (.iload 4, 2) := dk_21 4 (dk_at dksX0_land_3 10 rfl rfl)
theorem dX0_land_82 : decode cX0_land 82 = .ok (.iconst 4, 1) := dk_7 (dk_at dksX0_land_3 12 rfl rfl)
theorem dX0_land_83 : decode cX0_land 83 = .ok (.if_icmp .ge 23, 3) := dk_162 0 23 (dk_at dksX0_land_3 13 rfl rfl)
theorem dX0_land_86 : decode cX0_land 86 = .ok (.aload_n 0, 1) := dk_42 (dk_at dksX0_land_3 16 rfl rfl)
theorem dX0_land_87 : decode cX0_land 87 = .ok (.getfield 68, 3) := dk_180 0 68 (dk_at dksX0_land_3 17 rfl rfl)
theorem dX0_land_90 : decode cX0_land 90 = .ok (.iload 4, 2) := dk_21 4 (dk_at dksX0_land_3 20 rfl rfl)
theorem dX0_land_92 : decode cX0_land 92 = .ok (.new 65, 3) := dk_187 0 65 (dk_at dksX0_land_4 0 rfl rfl)
theorem dX0_land_95 : decode cX0_land 95 = .ok (.dup, 1) := dk_89 (dk_at dksX0_land_4 3 rfl rfl)
theorem dX0_land_96 : decode cX0_land 96 = .ok (.invokespecial 67, 3) := dk_183 0 67 (dk_at dksX0_land_4 4 rfl rfl)
theorem dX0_land_99 : decode cX0_land 99 = .ok (.aastore, 1) := dk_83 (dk_at dksX0_land_4 7 rfl rfl)
theorem dX0_land_100 : decode cX0_land 100 = .ok (.iinc 4 1, 3) := dk_132 4 1 (dk_at dksX0_land_4 8 rfl rfl)
theorem dX0_land_103 : decode cX0_land 103 = .ok (.goto (-23), 3) := dk_167 255 233 (dk_at dksX0_land_4 11 rfl rfl)
theorem dX0_land_106 : decode cX0_land 106 = .ok (.aload_n 0, 1) := dk_42 (dk_at dksX0_land_4 14 rfl rfl)
theorem dX0_land_107 : decode cX0_land 107 = .ok (.iconst 0, 1) := dk_3 (dk_at dksX0_land_4 15 rfl rfl)
theorem dX0_land_108 : decode cX0_land 108 = .ok (.putfield 307, 3) := dk_181 1 51 (dk_at dksX0_land_4 16 rfl rfl)
theorem dX0_land_111 : decode cX0_land 111 = .ok (.iconst 1, 1) := dk_4 (dk_at dksX0_land_4 19 rfl rfl)
theorem dX0_land_112 : decode cX0_land 112 = .ok (.ireturn, 1) := dk_172 (dk_at dksX0_land_4 20 rfl rfl)
abbrev cX0_tell : ByteArray := prog_1_method_31_code
def yX0_tell : MethodName := ⟨RX0, "tell", "(III)Z"⟩
def dkwX0_tell_3 : List UInt8 := [160, 0, 22, 42, 180, 0, 75, 180, 1, 62, 27, 29, 4, 160, 0, 7, 4, 167, 0, 4, 3, 84, 4, 172]
abbrev dktX0_tell_3 : List UInt8 := dkwX0_tell_3 ++ []
def dkwX0_tell_2 : List UInt8 := [180, 1, 56, 27, 29, 79, 28, 4, 160, 0, 13, 42, 180, 0, 75, 180, 1, 59, 27, 29, 79, 28, 5]
abbrev dktX0_tell_2 : List UInt8 := dkwX0_tell_2 ++ dktX0_tell_3
def dkwX0_tell_1 : List UInt8 := [4, 167, 0, 5, 16, 99, 184, 0, 128, 154, 0, 5, 3, 172, 28, 154, 0, 13, 42, 180, 0, 75]
abbrev dktX0_tell_1 : List UInt8 := dkwX0_tell_1 ++ dktX0_tell_2
def dkwX0_tell_0 : List UInt8 := [42, 27, 182, 1, 54, 153, 0, 31, 28, 3, 5, 184, 0, 128, 153, 0, 22, 29, 3, 28, 5, 160, 0, 7]
abbrev dktX0_tell_0 : List UInt8 := dkwX0_tell_0 ++ dktX0_tell_1
theorem dksX0_tell_0 : cX0_tell.data.toList.drop 0 = dktX0_tell_0 := by decide +kernel
theorem dksX0_tell_1 : cX0_tell.data.toList.drop 24 = dktX0_tell_1 := dk_seg dksX0_tell_0 24 rfl rfl
theorem dksX0_tell_2 : cX0_tell.data.toList.drop 46 = dktX0_tell_2 := dk_seg dksX0_tell_1 22 rfl rfl
theorem dksX0_tell_3 : cX0_tell.data.toList.drop 69 = dktX0_tell_3 := dk_seg dksX0_tell_2 23 rfl rfl
theorem dX0_tell_0 : decode cX0_tell 0 = .ok (.aload_n 0, 1) := dk_42 (dk_at dksX0_tell_0 0 rfl rfl)
theorem dX0_tell_1 : decode cX0_tell 1 = .ok (.iload_n 1, 1) := dk_27 (dk_at dksX0_tell_0 1 rfl rfl)
theorem dX0_tell_2 : decode cX0_tell 2 = .ok (.invokevirtual 310, 3) := dk_182 1 54 (dk_at dksX0_tell_0 2 rfl rfl)
theorem dX0_tell_5 : decode cX0_tell 5 = .ok (.ifCond .eq 31, 3) := dk_153 0 31 (dk_at dksX0_tell_0 5 rfl rfl)
theorem dX0_tell_8 : decode cX0_tell 8 = .ok (.iload_n 2, 1) := dk_28 (dk_at dksX0_tell_0 8 rfl rfl)
theorem dX0_tell_9 : decode cX0_tell 9 = .ok (.iconst 0, 1) := dk_3 (dk_at dksX0_tell_0 9 rfl rfl)
theorem dX0_tell_10 : decode cX0_tell 10 = .ok (.iconst 2, 1) := dk_5 (dk_at dksX0_tell_0 10 rfl rfl)
theorem dX0_tell_11 : decode cX0_tell 11 = .ok (.invokestatic 128, 3) := dk_184 0 128 (dk_at dksX0_tell_0 11 rfl rfl)
theorem dX0_tell_14 : decode cX0_tell 14 = .ok (.ifCond .eq 22, 3) := dk_153 0 22 (dk_at dksX0_tell_0 14 rfl rfl)
theorem dX0_tell_17 : decode cX0_tell 17 = .ok (.iload_n 3, 1) := dk_29 (dk_at dksX0_tell_0 17 rfl rfl)
theorem dX0_tell_18 : decode cX0_tell 18 = .ok (.iconst 0, 1) := dk_3 (dk_at dksX0_tell_0 18 rfl rfl)
theorem dX0_tell_19 : decode cX0_tell 19 = .ok (.iload_n 2, 1) := dk_28 (dk_at dksX0_tell_0 19 rfl rfl)
theorem dX0_tell_20 : decode cX0_tell 20 = .ok (.iconst 2, 1) := dk_5 (dk_at dksX0_tell_0 20 rfl rfl)
theorem dX0_tell_21 : decode cX0_tell 21 = .ok (.if_icmp .ne 7, 3) := dk_160 0 7 (dk_at dksX0_tell_0 21 rfl rfl)
theorem dX0_tell_24 : decode cX0_tell 24 = .ok (.iconst 1, 1) := dk_4 (dk_at dksX0_tell_1 0 rfl rfl)
theorem dX0_tell_25 : decode cX0_tell 25 = .ok (.goto 5, 3) := dk_167 0 5 (dk_at dksX0_tell_1 1 rfl rfl)
theorem dX0_tell_28 : decode cX0_tell 28 = .ok (.bipush 99, 2) := dk_16 99 (dk_at dksX0_tell_1 4 rfl rfl)
theorem dX0_tell_30 : decode cX0_tell 30 = .ok (.invokestatic 128, 3) := dk_184 0 128 (dk_at dksX0_tell_1 6 rfl rfl)
theorem dX0_tell_33 : decode cX0_tell 33 = .ok (.ifCond .ne 5, 3) := dk_154 0 5 (dk_at dksX0_tell_1 9 rfl rfl)
theorem dX0_tell_36 : decode cX0_tell 36 = .ok (.iconst 0, 1) := dk_3 (dk_at dksX0_tell_1 12 rfl rfl)
theorem dX0_tell_37 : decode cX0_tell 37 = .ok (.ireturn, 1) := dk_172 (dk_at dksX0_tell_1 13 rfl rfl)
theorem dX0_tell_38 : decode cX0_tell 38 = .ok (.iload_n 2, 1) := dk_28 (dk_at dksX0_tell_1 14 rfl rfl)
theorem dX0_tell_39 : decode cX0_tell 39 = .ok (.ifCond .ne 13, 3) := dk_154 0 13 (dk_at dksX0_tell_1 15 rfl rfl)
theorem dX0_tell_42 : decode cX0_tell 42 = .ok (.aload_n 0, 1) := dk_42 (dk_at dksX0_tell_1 18 rfl rfl)
theorem dX0_tell_43 : decode cX0_tell 43 = .ok (.getfield 75, 3) := dk_180 0 75 (dk_at dksX0_tell_1 19 rfl rfl)
theorem dX0_tell_46 : decode cX0_tell 46 = .ok (.getfield 312, 3) := dk_180 1 56 (dk_at dksX0_tell_2 0 rfl rfl)
theorem dX0_tell_49 : decode cX0_tell 49 = .ok (.iload_n 1, 1) := dk_27 (dk_at dksX0_tell_2 3 rfl rfl)
theorem dX0_tell_50 : decode cX0_tell 50 = .ok (.iload_n 3, 1) := dk_29 (dk_at dksX0_tell_2 4 rfl rfl)
theorem dX0_tell_51 : decode cX0_tell 51 = .ok (.iastore, 1) := dk_79 (dk_at dksX0_tell_2 5 rfl rfl)
theorem dX0_tell_52 : decode cX0_tell 52 = .ok (.iload_n 2, 1) := dk_28 (dk_at dksX0_tell_2 6 rfl rfl)
theorem dX0_tell_53 : decode cX0_tell 53 = .ok (.iconst 1, 1) := dk_4 (dk_at dksX0_tell_2 7 rfl rfl)
theorem dX0_tell_54 : decode cX0_tell 54 = .ok (.if_icmp .ne 13, 3) := dk_160 0 13 (dk_at dksX0_tell_2 8 rfl rfl)
theorem dX0_tell_57 : decode cX0_tell 57 = .ok (.aload_n 0, 1) := dk_42 (dk_at dksX0_tell_2 11 rfl rfl)
theorem dX0_tell_58 : decode cX0_tell 58 = .ok (.getfield 75, 3) := dk_180 0 75 (dk_at dksX0_tell_2 12 rfl rfl)
theorem dX0_tell_61 : decode cX0_tell 61 = .ok (.getfield 315, 3) := dk_180 1 59 (dk_at dksX0_tell_2 15 rfl rfl)
theorem dX0_tell_64 : decode cX0_tell 64 = .ok (.iload_n 1, 1) := dk_27 (dk_at dksX0_tell_2 18 rfl rfl)
theorem dX0_tell_65 : decode cX0_tell 65 = .ok (.iload_n 3, 1) := dk_29 (dk_at dksX0_tell_2 19 rfl rfl)
theorem dX0_tell_66 : decode cX0_tell 66 = .ok (.iastore, 1) := dk_79 (dk_at dksX0_tell_2 20 rfl rfl)
theorem dX0_tell_67 : decode cX0_tell 67 = .ok (.iload_n 2, 1) := dk_28 (dk_at dksX0_tell_2 21 rfl rfl)
theorem dX0_tell_68 : decode cX0_tell 68 = .ok (.iconst 2, 1) := dk_5 (dk_at dksX0_tell_2 22 rfl rfl)
theorem dX0_tell_69 : decode cX0_tell 69 = .ok (.if_icmp .ne 22, 3) := dk_160 0 22 (dk_at dksX0_tell_3 0 rfl rfl)
theorem dX0_tell_72 : decode cX0_tell 72 = .ok (.aload_n 0, 1) := dk_42 (dk_at dksX0_tell_3 3 rfl rfl)
theorem dX0_tell_73 : decode cX0_tell 73 = .ok (.getfield 75, 3) := dk_180 0 75 (dk_at dksX0_tell_3 4 rfl rfl)
theorem dX0_tell_76 : decode cX0_tell 76 = .ok (.getfield 318, 3) := dk_180 1 62 (dk_at dksX0_tell_3 7 rfl rfl)
theorem dX0_tell_79 : decode cX0_tell 79 = .ok (.iload_n 1, 1) := dk_27 (dk_at dksX0_tell_3 10 rfl rfl)
theorem dX0_tell_80 : decode cX0_tell 80 = .ok (.iload_n 3, 1) := dk_29 (dk_at dksX0_tell_3 11 rfl rfl)
theorem dX0_tell_81 : decode cX0_tell 81 = .ok (.iconst 1, 1) := dk_4 (dk_at dksX0_tell_3 12 rfl rfl)
theorem dX0_tell_82 : decode cX0_tell 82 = .ok (.if_icmp .ne 7, 3) := dk_160 0 7 (dk_at dksX0_tell_3 13 rfl rfl)
theorem dX0_tell_85 : decode cX0_tell 85 = .ok (.iconst 1, 1) := dk_4 (dk_at dksX0_tell_3 16 rfl rfl)
theorem dX0_tell_86 : decode cX0_tell 86 = .ok (.goto 4, 3) := dk_167 0 4 (dk_at dksX0_tell_3 17 rfl rfl)
theorem dX0_tell_89 : decode cX0_tell 89 = .ok (.iconst 0, 1) := dk_3 (dk_at dksX0_tell_3 20 rfl rfl)
theorem dX0_tell_90 : decode cX0_tell 90 = .ok (.bastore, 1) := dk_84 (dk_at dksX0_tell_3 21 rfl rfl)
theorem dX0_tell_91 : decode cX0_tell 91 = .ok (.iconst 1, 1) := dk_4 (dk_at dksX0_tell_3 22 rfl rfl)
theorem dX0_tell_92 : decode cX0_tell 92 = .ok (.ireturn, 1) := dk_172 (dk_at dksX0_tell_3 23 rfl rfl)
abbrev cX0_isCell : ByteArray := prog_1_method_28_code
def yX0_isCell : MethodName := ⟨RX0, "isCell", "(I)Z"⟩
def dkwX0_isCell_1 : List UInt8 := [167, 0, 4, 3, 172]
abbrev dktX0_isCell_1 : List UInt8 := dkwX0_isCell_1 ++ []
def dkwX0_isCell_0 : List UInt8 := [27, 155, 0, 25, 42, 180, 0, 75, 27, 16, 10, 112, 27, 16, 10, 108, 182, 1, 38, 153, 0, 7, 4]
abbrev dktX0_isCell_0 : List UInt8 := dkwX0_isCell_0 ++ dktX0_isCell_1
theorem dksX0_isCell_0 : cX0_isCell.data.toList.drop 0 = dktX0_isCell_0 := by decide +kernel
theorem dksX0_isCell_1 : cX0_isCell.data.toList.drop 23 = dktX0_isCell_1 := dk_seg dksX0_isCell_0 23 rfl rfl
theorem dX0_isCell_0 : decode cX0_isCell 0 = .ok (.iload_n 1, 1) := dk_27 (dk_at dksX0_isCell_0 0 rfl rfl)
theorem dX0_isCell_1 : decode cX0_isCell 1 = .ok (.ifCond .lt 25, 3) := dk_155 0 25 (dk_at dksX0_isCell_0 1 rfl rfl)
theorem dX0_isCell_4 : decode cX0_isCell 4 = .ok (.aload_n 0, 1) := dk_42 (dk_at dksX0_isCell_0 4 rfl rfl)
theorem dX0_isCell_5 : decode cX0_isCell 5 = .ok (.getfield 75, 3) := dk_180 0 75 (dk_at dksX0_isCell_0 5 rfl rfl)
theorem dX0_isCell_8 : decode cX0_isCell 8 = .ok (.iload_n 1, 1) := dk_27 (dk_at dksX0_isCell_0 8 rfl rfl)
theorem dX0_isCell_9 : decode cX0_isCell 9 = .ok (.bipush 10, 2) := dk_16 10 (dk_at dksX0_isCell_0 9 rfl rfl)
theorem dX0_isCell_11 : decode cX0_isCell 11 = .ok (.irem, 1) := dk_112 (dk_at dksX0_isCell_0 11 rfl rfl)
theorem dX0_isCell_12 : decode cX0_isCell 12 = .ok (.iload_n 1, 1) := dk_27 (dk_at dksX0_isCell_0 12 rfl rfl)
theorem dX0_isCell_13 : decode cX0_isCell 13 = .ok (.bipush 10, 2) := dk_16 10 (dk_at dksX0_isCell_0 13 rfl rfl)
theorem dX0_isCell_15 : decode cX0_isCell 15 = .ok (.idiv, 1) := dk_108 (dk_at dksX0_isCell_0 15 rfl rfl)
theorem dX0_isCell_16 : decode cX0_isCell 16 = .ok (.invokevirtual 294, 3) := dk_182 1 38 (dk_at dksX0_isCell_0 16 rfl rfl)
theorem dX0_isCell_19 : decode cX0_isCell 19 = .ok (.ifCond .eq 7, 3) := dk_153 0 7 (dk_at dksX0_isCell_0 19 rfl rfl)
theorem dX0_isCell_22 : decode cX0_isCell 22 = .ok (.iconst 1, 1) := dk_4 (dk_at dksX0_isCell_0 22 rfl rfl)
theorem dX0_isCell_23 : decode cX0_isCell 23 = .ok (.goto 4, 3) := dk_167 0 4 (dk_at dksX0_isCell_1 0 rfl rfl)
theorem dX0_isCell_26 : decode cX0_isCell 26 = .ok (.iconst 0, 1) := dk_3 (dk_at dksX0_isCell_1 3 rfl rfl)
theorem dX0_isCell_27 : decode cX0_isCell 27 = .ok (.ireturn, 1) := dk_172 (dk_at dksX0_isCell_1 4 rfl rfl)
abbrev cX0_dig : ByteArray := prog_1_method_33_code
def yX0_dig : MethodName := ⟨RX0, "dig", "(I)Z"⟩
def dkwX0_dig_0 : List UInt8 := [42, 27, 4, 182, 1, 69, 172]
abbrev dktX0_dig_0 : List UInt8 := dkwX0_dig_0 ++ []
theorem dksX0_dig_0 : cX0_dig.data.toList.drop 0 = dktX0_dig_0 := by decide +kernel
theorem dX0_dig_0 : decode cX0_dig 0 = .ok (.aload_n 0, 1) := dk_42 (dk_at dksX0_dig_0 0 rfl rfl)
theorem dX0_dig_1 : decode cX0_dig 1 = .ok (.iload_n 1, 1) := dk_27 (dk_at dksX0_dig_0 1 rfl rfl)
theorem dX0_dig_2 : decode cX0_dig 2 = .ok (.iconst 1, 1) := dk_4 (dk_at dksX0_dig_0 2 rfl rfl)
theorem dX0_dig_3 : decode cX0_dig 3 = .ok (.invokevirtual 325, 3) := dk_182 1 69 (dk_at dksX0_dig_0 3 rfl rfl)
theorem dX0_dig_6 : decode cX0_dig 6 = .ok (.ireturn, 1) := dk_172 (dk_at dksX0_dig_0 6 rfl rfl)
abbrev cX0_ponds : ByteArray := prog_1_method_32_code
def yX0_ponds : MethodName := ⟨RX0, "ponds", "(IZ)Z"⟩
def dkwX0_ponds_3 : List UInt8 := [180, 1, 51, 27, 79, 42, 89, 180, 1, 51, 4, 96, 181, 1, 51, 4, 172]
abbrev dktX0_ponds_3 : List UInt8 := dkwX0_ponds_3 ++ []
def dkwX0_ponds_2 : List UInt8 := [180, 0, 104, 3, 16, 9, 184, 1, 32, 42, 89, 180, 1, 51, 4, 100, 181, 1, 51, 42, 180, 0, 104, 42]
abbrev dktX0_ponds_2 : List UInt8 := dkwX0_ponds_2 ++ dktX0_ponds_3
def dkwX0_ponds_1 : List UInt8 := [180, 0, 75, 180, 1, 66, 27, 28, 84, 42, 180, 1, 51, 16, 10, 160, 0, 28, 42, 180, 0, 104, 4, 42]
abbrev dktX0_ponds_1 : List UInt8 := dkwX0_ponds_1 ++ dktX0_ponds_2
def dkwX0_ponds_0 : List UInt8 := [42, 27, 182, 1, 54, 153, 0, 16, 42, 180, 0, 75, 180, 1, 66, 27, 51, 28, 160, 0, 5, 3, 172, 42]
abbrev dktX0_ponds_0 : List UInt8 := dkwX0_ponds_0 ++ dktX0_ponds_1
theorem dksX0_ponds_0 : cX0_ponds.data.toList.drop 0 = dktX0_ponds_0 := by decide +kernel
theorem dksX0_ponds_1 : cX0_ponds.data.toList.drop 24 = dktX0_ponds_1 := dk_seg dksX0_ponds_0 24 rfl rfl
theorem dksX0_ponds_2 : cX0_ponds.data.toList.drop 48 = dktX0_ponds_2 := dk_seg dksX0_ponds_1 24 rfl rfl
theorem dksX0_ponds_3 : cX0_ponds.data.toList.drop 72 = dktX0_ponds_3 := dk_seg dksX0_ponds_2 24 rfl rfl
theorem dX0_ponds_0 : decode cX0_ponds 0 = .ok (.aload_n 0, 1) := dk_42 (dk_at dksX0_ponds_0 0 rfl rfl)
theorem dX0_ponds_1 : decode cX0_ponds 1 = .ok (.iload_n 1, 1) := dk_27 (dk_at dksX0_ponds_0 1 rfl rfl)
theorem dX0_ponds_2 : decode cX0_ponds 2 = .ok (.invokevirtual 310, 3) := dk_182 1 54 (dk_at dksX0_ponds_0 2 rfl rfl)
theorem dX0_ponds_5 : decode cX0_ponds 5 = .ok (.ifCond .eq 16, 3) := dk_153 0 16 (dk_at dksX0_ponds_0 5 rfl rfl)
theorem dX0_ponds_8 : decode cX0_ponds 8 = .ok (.aload_n 0, 1) := dk_42 (dk_at dksX0_ponds_0 8 rfl rfl)
theorem dX0_ponds_9 : decode cX0_ponds 9 = .ok (.getfield 75, 3) := dk_180 0 75 (dk_at dksX0_ponds_0 9 rfl rfl)
theorem dX0_ponds_12 : decode cX0_ponds 12 = .ok (.getfield 322, 3) := dk_180 1 66 (dk_at dksX0_ponds_0 12 rfl rfl)
theorem dX0_ponds_15 : decode cX0_ponds 15 = .ok (.iload_n 1, 1) := dk_27 (dk_at dksX0_ponds_0 15 rfl rfl)
theorem dX0_ponds_16 : decode cX0_ponds 16 = .ok (.baload, 1) := dk_51 (dk_at dksX0_ponds_0 16 rfl rfl)
theorem dX0_ponds_17 : decode cX0_ponds 17 = .ok (.iload_n 2, 1) := dk_28 (dk_at dksX0_ponds_0 17 rfl rfl)
theorem dX0_ponds_18 : decode cX0_ponds 18 = .ok (.if_icmp .ne 5, 3) := dk_160 0 5 (dk_at dksX0_ponds_0 18 rfl rfl)
theorem dX0_ponds_21 : decode cX0_ponds 21 = .ok (.iconst 0, 1) := dk_3 (dk_at dksX0_ponds_0 21 rfl rfl)
theorem dX0_ponds_22 : decode cX0_ponds 22 = .ok (.ireturn, 1) := dk_172 (dk_at dksX0_ponds_0 22 rfl rfl)
theorem dX0_ponds_23 : decode cX0_ponds 23 = .ok (.aload_n 0, 1) := dk_42 (dk_at dksX0_ponds_0 23 rfl rfl)
theorem dX0_ponds_24 : decode cX0_ponds 24 = .ok (.getfield 75, 3) := dk_180 0 75 (dk_at dksX0_ponds_1 0 rfl rfl)
theorem dX0_ponds_27 : decode cX0_ponds 27 = .ok (.getfield 322, 3) := dk_180 1 66 (dk_at dksX0_ponds_1 3 rfl rfl)
theorem dX0_ponds_30 : decode cX0_ponds 30 = .ok (.iload_n 1, 1) := dk_27 (dk_at dksX0_ponds_1 6 rfl rfl)
theorem dX0_ponds_31 : decode cX0_ponds 31 = .ok (.iload_n 2, 1) := dk_28 (dk_at dksX0_ponds_1 7 rfl rfl)
theorem dX0_ponds_32 : decode cX0_ponds 32 = .ok (.bastore, 1) := dk_84 (dk_at dksX0_ponds_1 8 rfl rfl)
theorem dX0_ponds_33 : decode cX0_ponds 33 = .ok (.aload_n 0, 1) := dk_42 (dk_at dksX0_ponds_1 9 rfl rfl)
theorem dX0_ponds_34 : decode cX0_ponds 34 = .ok (.getfield 307, 3) := dk_180 1 51 (dk_at dksX0_ponds_1 10 rfl rfl)
theorem dX0_ponds_37 : decode cX0_ponds 37 = .ok (.bipush 10, 2) := dk_16 10 (dk_at dksX0_ponds_1 13 rfl rfl)
theorem dX0_ponds_39 : decode cX0_ponds 39 = .ok (.if_icmp .ne 28, 3) := dk_160 0 28 (dk_at dksX0_ponds_1 15 rfl rfl)
theorem dX0_ponds_42 : decode cX0_ponds 42 = .ok (.aload_n 0, 1) := dk_42 (dk_at dksX0_ponds_1 18 rfl rfl)
theorem dX0_ponds_43 : decode cX0_ponds 43 = .ok (.getfield 104, 3) := dk_180 0 104 (dk_at dksX0_ponds_1 19 rfl rfl)
theorem dX0_ponds_46 : decode cX0_ponds 46 = .ok (.iconst 1, 1) := dk_4 (dk_at dksX0_ponds_1 22 rfl rfl)
theorem dX0_ponds_47 : decode cX0_ponds 47 = .ok (.aload_n 0, 1) := dk_42 (dk_at dksX0_ponds_1 23 rfl rfl)
theorem dX0_ponds_48 : decode cX0_ponds 48 = .ok (.getfield 104, 3) := dk_180 0 104 (dk_at dksX0_ponds_2 0 rfl rfl)
theorem dX0_ponds_51 : decode cX0_ponds 51 = .ok (.iconst 0, 1) := dk_3 (dk_at dksX0_ponds_2 3 rfl rfl)
theorem dX0_ponds_52 : decode cX0_ponds 52 = .ok (.bipush 9, 2) := dk_16 9 (dk_at dksX0_ponds_2 4 rfl rfl)
theorem dX0_ponds_54 : decode cX0_ponds 54 = .ok (.invokestatic 288, 3) := dk_184 1 32 (dk_at dksX0_ponds_2 6 rfl rfl)
theorem dX0_ponds_57 : decode cX0_ponds 57 = .ok (.aload_n 0, 1) := dk_42 (dk_at dksX0_ponds_2 9 rfl rfl)
theorem dX0_ponds_58 : decode cX0_ponds 58 = .ok (.dup, 1) := dk_89 (dk_at dksX0_ponds_2 10 rfl rfl)
theorem dX0_ponds_59 : decode cX0_ponds 59 = .ok (.getfield 307, 3) := dk_180 1 51 (dk_at dksX0_ponds_2 11 rfl rfl)
theorem dX0_ponds_62 : decode cX0_ponds 62 = .ok (.iconst 1, 1) := dk_4 (dk_at dksX0_ponds_2 14 rfl rfl)
theorem dX0_ponds_63 : decode cX0_ponds 63 = .ok (.isub, 1) := dk_100 (dk_at dksX0_ponds_2 15 rfl rfl)
theorem dX0_ponds_64 : decode cX0_ponds 64 = .ok (.putfield 307, 3) := dk_181 1 51 (dk_at dksX0_ponds_2 16 rfl rfl)
theorem dX0_ponds_67 : decode cX0_ponds 67 = .ok (.aload_n 0, 1) := dk_42 (dk_at dksX0_ponds_2 19 rfl rfl)
theorem dX0_ponds_68 : decode cX0_ponds 68 = .ok (.getfield 104, 3) := dk_180 0 104 (dk_at dksX0_ponds_2 20 rfl rfl)
theorem dX0_ponds_71 : decode cX0_ponds 71 = .ok (.aload_n 0, 1) := dk_42 (dk_at dksX0_ponds_2 23 rfl rfl)
theorem dX0_ponds_72 : decode cX0_ponds 72 = .ok (.getfield 307, 3) := dk_180 1 51 (dk_at dksX0_ponds_3 0 rfl rfl)
theorem dX0_ponds_75 : decode cX0_ponds 75 = .ok (.iload_n 1, 1) := dk_27 (dk_at dksX0_ponds_3 3 rfl rfl)
theorem dX0_ponds_76 : decode cX0_ponds 76 = .ok (.iastore, 1) := dk_79 (dk_at dksX0_ponds_3 4 rfl rfl)
theorem dX0_ponds_77 : decode cX0_ponds 77 = .ok (.aload_n 0, 1) := dk_42 (dk_at dksX0_ponds_3 5 rfl rfl)
theorem dX0_ponds_78 : decode cX0_ponds 78 = .ok (.dup, 1) := dk_89 (dk_at dksX0_ponds_3 6 rfl rfl)
theorem dX0_ponds_79 : decode cX0_ponds 79 = .ok (.getfield 307, 3) := dk_180 1 51 (dk_at dksX0_ponds_3 7 rfl rfl)
theorem dX0_ponds_82 : decode cX0_ponds 82 = .ok (.iconst 1, 1) := dk_4 (dk_at dksX0_ponds_3 10 rfl rfl)
theorem dX0_ponds_83 : decode cX0_ponds 83 = .ok (.iadd, 1) := dk_96 (dk_at dksX0_ponds_3 11 rfl rfl)
theorem dX0_ponds_84 : decode cX0_ponds 84 = .ok (.putfield 307, 3) := dk_181 1 51 (dk_at dksX0_ponds_3 12 rfl rfl)
theorem dX0_ponds_87 : decode cX0_ponds 87 = .ok (.iconst 1, 1) := dk_4 (dk_at dksX0_ponds_3 15 rfl rfl)
theorem dX0_ponds_88 : decode cX0_ponds 88 = .ok (.ireturn, 1) := dk_172 (dk_at dksX0_ponds_3 16 rfl rfl)
abbrev cX0_fill : ByteArray := prog_1_method_34_code
def yX0_fill : MethodName := ⟨RX0, "fill", "(I)Z"⟩
def dkwX0_fill_0 : List UInt8 := [42, 27, 3, 182, 1, 69, 172]
abbrev dktX0_fill_0 : List UInt8 := dkwX0_fill_0 ++ []
theorem dksX0_fill_0 : cX0_fill.data.toList.drop 0 = dktX0_fill_0 := by decide +kernel
theorem dX0_fill_0 : decode cX0_fill 0 = .ok (.aload_n 0, 1) := dk_42 (dk_at dksX0_fill_0 0 rfl rfl)
theorem dX0_fill_1 : decode cX0_fill 1 = .ok (.iload_n 1, 1) := dk_27 (dk_at dksX0_fill_0 1 rfl rfl)
theorem dX0_fill_2 : decode cX0_fill 2 = .ok (.iconst 0, 1) := dk_3 (dk_at dksX0_fill_0 2 rfl rfl)
theorem dX0_fill_3 : decode cX0_fill 3 = .ok (.invokevirtual 325, 3) := dk_182 1 69 (dk_at dksX0_fill_0 3 rfl rfl)
theorem dX0_fill_6 : decode cX0_fill 6 = .ok (.ireturn, 1) := dk_172 (dk_at dksX0_fill_0 6 rfl rfl)
abbrev cX0_undo : ByteArray := prog_1_method_35_code
def yX0_undo : MethodName := ⟨RX0, "undo", "()Z"⟩
def dkwX0_undo_1 : List UInt8 := [180, 1, 66, 42, 180, 0, 104, 42, 180, 1, 51, 46, 92, 51, 4, 130, 84, 4, 172]
abbrev dktX0_undo_1 : List UInt8 := dkwX0_undo_1 ++ []
def dkwX0_undo_0 : List UInt8 := [42, 180, 1, 51, 154, 0, 5, 3, 172, 42, 89, 180, 1, 51, 4, 100, 181, 1, 51, 42, 180, 0, 75]
abbrev dktX0_undo_0 : List UInt8 := dkwX0_undo_0 ++ dktX0_undo_1
theorem dksX0_undo_0 : cX0_undo.data.toList.drop 0 = dktX0_undo_0 := by decide +kernel
theorem dksX0_undo_1 : cX0_undo.data.toList.drop 23 = dktX0_undo_1 := dk_seg dksX0_undo_0 23 rfl rfl
theorem dX0_undo_0 : decode cX0_undo 0 = .ok (.aload_n 0, 1) := dk_42 (dk_at dksX0_undo_0 0 rfl rfl)
theorem dX0_undo_1 : decode cX0_undo 1 = .ok (.getfield 307, 3) := dk_180 1 51 (dk_at dksX0_undo_0 1 rfl rfl)
theorem dX0_undo_4 : decode cX0_undo 4 = .ok (.ifCond .ne 5, 3) := dk_154 0 5 (dk_at dksX0_undo_0 4 rfl rfl)
theorem dX0_undo_7 : decode cX0_undo 7 = .ok (.iconst 0, 1) := dk_3 (dk_at dksX0_undo_0 7 rfl rfl)
theorem dX0_undo_8 : decode cX0_undo 8 = .ok (.ireturn, 1) := dk_172 (dk_at dksX0_undo_0 8 rfl rfl)
theorem dX0_undo_9 : decode cX0_undo 9 = .ok (.aload_n 0, 1) := dk_42 (dk_at dksX0_undo_0 9 rfl rfl)
theorem dX0_undo_10 : decode cX0_undo 10 = .ok (.dup, 1) := dk_89 (dk_at dksX0_undo_0 10 rfl rfl)
theorem dX0_undo_11 : decode cX0_undo 11 = .ok (.getfield 307, 3) := dk_180 1 51 (dk_at dksX0_undo_0 11 rfl rfl)
theorem dX0_undo_14 : decode cX0_undo 14 = .ok (.iconst 1, 1) := dk_4 (dk_at dksX0_undo_0 14 rfl rfl)
theorem dX0_undo_15 : decode cX0_undo 15 = .ok (.isub, 1) := dk_100 (dk_at dksX0_undo_0 15 rfl rfl)
theorem dX0_undo_16 : decode cX0_undo 16 = .ok (.putfield 307, 3) := dk_181 1 51 (dk_at dksX0_undo_0 16 rfl rfl)
theorem dX0_undo_19 : decode cX0_undo 19 = .ok (.aload_n 0, 1) := dk_42 (dk_at dksX0_undo_0 19 rfl rfl)
theorem dX0_undo_20 : decode cX0_undo 20 = .ok (.getfield 75, 3) := dk_180 0 75 (dk_at dksX0_undo_0 20 rfl rfl)
theorem dX0_undo_23 : decode cX0_undo 23 = .ok (.getfield 322, 3) := dk_180 1 66 (dk_at dksX0_undo_1 0 rfl rfl)
theorem dX0_undo_26 : decode cX0_undo 26 = .ok (.aload_n 0, 1) := dk_42 (dk_at dksX0_undo_1 3 rfl rfl)
theorem dX0_undo_27 : decode cX0_undo 27 = .ok (.getfield 104, 3) := dk_180 0 104 (dk_at dksX0_undo_1 4 rfl rfl)
theorem dX0_undo_30 : decode cX0_undo 30 = .ok (.aload_n 0, 1) := dk_42 (dk_at dksX0_undo_1 7 rfl rfl)
theorem dX0_undo_31 : decode cX0_undo 31 = .ok (.getfield 307, 3) := dk_180 1 51 (dk_at dksX0_undo_1 8 rfl rfl)
theorem dX0_undo_34 : decode cX0_undo 34 = .ok (.iaload, 1) := dk_46 (dk_at dksX0_undo_1 11 rfl rfl)
theorem dX0_undo_35 : decode cX0_undo 35 = .ok (.dup2, 1) := dk_92 (dk_at dksX0_undo_1 12 rfl rfl)
theorem dX0_undo_36 : decode cX0_undo 36 = .ok (.baload, 1) := dk_51 (dk_at dksX0_undo_1 13 rfl rfl)
theorem dX0_undo_37 : decode cX0_undo 37 = .ok (.iconst 1, 1) := dk_4 (dk_at dksX0_undo_1 14 rfl rfl)
theorem dX0_undo_38 : decode cX0_undo 38 = .ok (.ixor, 1) := dk_130 (dk_at dksX0_undo_1 15 rfl rfl)
theorem dX0_undo_39 : decode cX0_undo 39 = .ok (.bastore, 1) := dk_84 (dk_at dksX0_undo_1 16 rfl rfl)
theorem dX0_undo_40 : decode cX0_undo 40 = .ok (.iconst 1, 1) := dk_4 (dk_at dksX0_undo_1 17 rfl rfl)
theorem dX0_undo_41 : decode cX0_undo 41 = .ok (.ireturn, 1) := dk_172 (dk_at dksX0_undo_1 18 rfl rfl)
abbrev cX0_barn : ByteArray := prog_1_method_36_code
def yX0_barn : MethodName := ⟨RX0, "barn", "(I)Z"⟩
def dkwX0_barn_1 : List UInt8 := [180, 0, 75, 180, 1, 73, 27, 4, 84, 42, 180, 0, 75, 180, 1, 76, 27, 2, 79, 4, 172]
abbrev dktX0_barn_1 : List UInt8 := dkwX0_barn_1 ++ []
def dkwX0_barn_0 : List UInt8 := [42, 27, 182, 1, 54, 153, 0, 15, 42, 180, 0, 75, 180, 1, 73, 27, 51, 153, 0, 5, 3, 172, 42]
abbrev dktX0_barn_0 : List UInt8 := dkwX0_barn_0 ++ dktX0_barn_1
theorem dksX0_barn_0 : cX0_barn.data.toList.drop 0 = dktX0_barn_0 := by decide +kernel
theorem dksX0_barn_1 : cX0_barn.data.toList.drop 23 = dktX0_barn_1 := dk_seg dksX0_barn_0 23 rfl rfl
theorem dX0_barn_0 : decode cX0_barn 0 = .ok (.aload_n 0, 1) := dk_42 (dk_at dksX0_barn_0 0 rfl rfl)
theorem dX0_barn_1 : decode cX0_barn 1 = .ok (.iload_n 1, 1) := dk_27 (dk_at dksX0_barn_0 1 rfl rfl)
theorem dX0_barn_2 : decode cX0_barn 2 = .ok (.invokevirtual 310, 3) := dk_182 1 54 (dk_at dksX0_barn_0 2 rfl rfl)
theorem dX0_barn_5 : decode cX0_barn 5 = .ok (.ifCond .eq 15, 3) := dk_153 0 15 (dk_at dksX0_barn_0 5 rfl rfl)
theorem dX0_barn_8 : decode cX0_barn 8 = .ok (.aload_n 0, 1) := dk_42 (dk_at dksX0_barn_0 8 rfl rfl)
theorem dX0_barn_9 : decode cX0_barn 9 = .ok (.getfield 75, 3) := dk_180 0 75 (dk_at dksX0_barn_0 9 rfl rfl)
theorem dX0_barn_12 : decode cX0_barn 12 = .ok (.getfield 329, 3) := dk_180 1 73 (dk_at dksX0_barn_0 12 rfl rfl)
theorem dX0_barn_15 : decode cX0_barn 15 = .ok (.iload_n 1, 1) := dk_27 (dk_at dksX0_barn_0 15 rfl rfl)
theorem dX0_barn_16 : decode cX0_barn 16 = .ok (.baload, 1) := dk_51 (dk_at dksX0_barn_0 16 rfl rfl)
theorem dX0_barn_17 : decode cX0_barn 17 = .ok (.ifCond .eq 5, 3) := dk_153 0 5 (dk_at dksX0_barn_0 17 rfl rfl)
theorem dX0_barn_20 : decode cX0_barn 20 = .ok (.iconst 0, 1) := dk_3 (dk_at dksX0_barn_0 20 rfl rfl)
theorem dX0_barn_21 : decode cX0_barn 21 = .ok (.ireturn, 1) := dk_172 (dk_at dksX0_barn_0 21 rfl rfl)
theorem dX0_barn_22 : decode cX0_barn 22 = .ok (.aload_n 0, 1) := dk_42 (dk_at dksX0_barn_0 22 rfl rfl)
theorem dX0_barn_23 : decode cX0_barn 23 = .ok (.getfield 75, 3) := dk_180 0 75 (dk_at dksX0_barn_1 0 rfl rfl)
theorem dX0_barn_26 : decode cX0_barn 26 = .ok (.getfield 329, 3) := dk_180 1 73 (dk_at dksX0_barn_1 3 rfl rfl)
theorem dX0_barn_29 : decode cX0_barn 29 = .ok (.iload_n 1, 1) := dk_27 (dk_at dksX0_barn_1 6 rfl rfl)
theorem dX0_barn_30 : decode cX0_barn 30 = .ok (.iconst 1, 1) := dk_4 (dk_at dksX0_barn_1 7 rfl rfl)
theorem dX0_barn_31 : decode cX0_barn 31 = .ok (.bastore, 1) := dk_84 (dk_at dksX0_barn_1 8 rfl rfl)
theorem dX0_barn_32 : decode cX0_barn 32 = .ok (.aload_n 0, 1) := dk_42 (dk_at dksX0_barn_1 9 rfl rfl)
theorem dX0_barn_33 : decode cX0_barn 33 = .ok (.getfield 75, 3) := dk_180 0 75 (dk_at dksX0_barn_1 10 rfl rfl)
theorem dX0_barn_36 : decode cX0_barn 36 = .ok (.getfield 332, 3) := dk_180 1 76 (dk_at dksX0_barn_1 13 rfl rfl)
theorem dX0_barn_39 : decode cX0_barn 39 = .ok (.iload_n 1, 1) := dk_27 (dk_at dksX0_barn_1 16 rfl rfl)
theorem dX0_barn_40 : decode cX0_barn 40 = .ok (.iconst (-1), 1) := dk_2 (dk_at dksX0_barn_1 17 rfl rfl)
theorem dX0_barn_41 : decode cX0_barn 41 = .ok (.iastore, 1) := dk_79 (dk_at dksX0_barn_1 18 rfl rfl)
theorem dX0_barn_42 : decode cX0_barn 42 = .ok (.iconst 1, 1) := dk_4 (dk_at dksX0_barn_1 19 rfl rfl)
theorem dX0_barn_43 : decode cX0_barn 43 = .ok (.ireturn, 1) := dk_172 (dk_at dksX0_barn_1 20 rfl rfl)
abbrev cX0_mirror : ByteArray := prog_1_method_37_code
def yX0_mirror : MethodName := ⟨RX0, "mirror", "(IIZ)Z"⟩
def dkwX0_mirror_1 : List UInt8 := [104, 27, 96, 29, 84, 4, 172]
abbrev dktX0_mirror_1 : List UInt8 := dkwX0_mirror_1 ++ []
def dkwX0_mirror_0 : List UInt8 := [42, 180, 0, 75, 27, 28, 182, 1, 79, 154, 0, 5, 3, 172, 42, 180, 0, 75, 180, 1, 82, 16, 11, 28]
abbrev dktX0_mirror_0 : List UInt8 := dkwX0_mirror_0 ++ dktX0_mirror_1
theorem dksX0_mirror_0 : cX0_mirror.data.toList.drop 0 = dktX0_mirror_0 := by decide +kernel
theorem dksX0_mirror_1 : cX0_mirror.data.toList.drop 24 = dktX0_mirror_1 := dk_seg dksX0_mirror_0 24 rfl rfl
theorem dX0_mirror_0 : decode cX0_mirror 0 = .ok (.aload_n 0, 1) := dk_42 (dk_at dksX0_mirror_0 0 rfl rfl)
theorem dX0_mirror_1 : decode cX0_mirror 1 = .ok (.getfield 75, 3) := dk_180 0 75 (dk_at dksX0_mirror_0 1 rfl rfl)
theorem dX0_mirror_4 : decode cX0_mirror 4 = .ok (.iload_n 1, 1) := dk_27 (dk_at dksX0_mirror_0 4 rfl rfl)
theorem dX0_mirror_5 : decode cX0_mirror 5 = .ok (.iload_n 2, 1) := dk_28 (dk_at dksX0_mirror_0 5 rfl rfl)
theorem dX0_mirror_6 : decode cX0_mirror 6 = .ok (.invokevirtual 335, 3) := dk_182 1 79 (dk_at dksX0_mirror_0 6 rfl rfl)
theorem dX0_mirror_9 : decode cX0_mirror 9 = .ok (.ifCond .ne 5, 3) := dk_154 0 5 (dk_at dksX0_mirror_0 9 rfl rfl)
theorem dX0_mirror_12 : decode cX0_mirror 12 = .ok (.iconst 0, 1) := dk_3 (dk_at dksX0_mirror_0 12 rfl rfl)
theorem dX0_mirror_13 : decode cX0_mirror 13 = .ok (.ireturn, 1) := dk_172 (dk_at dksX0_mirror_0 13 rfl rfl)
theorem dX0_mirror_14 : decode cX0_mirror 14 = .ok (.aload_n 0, 1) := dk_42 (dk_at dksX0_mirror_0 14 rfl rfl)
theorem dX0_mirror_15 : decode cX0_mirror 15 = .ok (.getfield 75, 3) := dk_180 0 75 (dk_at dksX0_mirror_0 15 rfl rfl)
theorem dX0_mirror_18 : decode cX0_mirror 18 = .ok (.getfield 338, 3) := dk_180 1 82 (dk_at dksX0_mirror_0 18 rfl rfl)
theorem dX0_mirror_21 : decode cX0_mirror 21 = .ok (.bipush 11, 2) := dk_16 11 (dk_at dksX0_mirror_0 21 rfl rfl)
theorem dX0_mirror_23 : decode cX0_mirror 23 = .ok (.iload_n 2, 1) := dk_28 (dk_at dksX0_mirror_0 23 rfl rfl)
theorem dX0_mirror_24 : decode cX0_mirror 24 = .ok (.imul, 1) := dk_104 (dk_at dksX0_mirror_1 0 rfl rfl)
theorem dX0_mirror_25 : decode cX0_mirror 25 = .ok (.iload_n 1, 1) := dk_27 (dk_at dksX0_mirror_1 1 rfl rfl)
theorem dX0_mirror_26 : decode cX0_mirror 26 = .ok (.iadd, 1) := dk_96 (dk_at dksX0_mirror_1 2 rfl rfl)
theorem dX0_mirror_27 : decode cX0_mirror 27 = .ok (.iload_n 3, 1) := dk_29 (dk_at dksX0_mirror_1 3 rfl rfl)
theorem dX0_mirror_28 : decode cX0_mirror 28 = .ok (.bastore, 1) := dk_84 (dk_at dksX0_mirror_1 4 rfl rfl)
theorem dX0_mirror_29 : decode cX0_mirror 29 = .ok (.iconst 1, 1) := dk_4 (dk_at dksX0_mirror_1 5 rfl rfl)
theorem dX0_mirror_30 : decode cX0_mirror 30 = .ok (.ireturn, 1) := dk_172 (dk_at dksX0_mirror_1 6 rfl rfl)
abbrev cX0_nest : ByteArray := prog_1_method_38_code
def yX0_nest : MethodName := ⟨RX0, "nest", "(II)I"⟩
def dkwX0_nest_3 : List UInt8 := [181, 1, 85, 42, 180, 0, 75, 180, 1, 85, 4, 100, 172]
abbrev dktX0_nest_3 : List UInt8 := dkwX0_nest_3 ++ []
def dkwX0_nest_2 : List UInt8 := [180, 1, 91, 42, 180, 0, 75, 180, 1, 85, 28, 79, 42, 180, 0, 75, 89, 180, 1, 85, 4, 96]
abbrev dktX0_nest_2 : List UInt8 := dkwX0_nest_2 ++ dktX0_nest_3
def dkwX0_nest_1 : List UInt8 := [2, 172, 42, 180, 0, 75, 180, 1, 88, 42, 180, 0, 75, 180, 1, 85, 27, 79, 42, 180, 0, 75]
abbrev dktX0_nest_1 : List UInt8 := dkwX0_nest_1 ++ dktX0_nest_2
def dkwX0_nest_0 : List UInt8 := [42, 180, 0, 75, 27, 28, 182, 1, 79, 153, 0, 15, 42, 180, 0, 75, 180, 1, 85, 16, 6, 160, 0, 5]
abbrev dktX0_nest_0 : List UInt8 := dkwX0_nest_0 ++ dktX0_nest_1
theorem dksX0_nest_0 : cX0_nest.data.toList.drop 0 = dktX0_nest_0 := by decide +kernel
theorem dksX0_nest_1 : cX0_nest.data.toList.drop 24 = dktX0_nest_1 := dk_seg dksX0_nest_0 24 rfl rfl
theorem dksX0_nest_2 : cX0_nest.data.toList.drop 46 = dktX0_nest_2 := dk_seg dksX0_nest_1 22 rfl rfl
theorem dksX0_nest_3 : cX0_nest.data.toList.drop 68 = dktX0_nest_3 := dk_seg dksX0_nest_2 22 rfl rfl
theorem dX0_nest_0 : decode cX0_nest 0 = .ok (.aload_n 0, 1) := dk_42 (dk_at dksX0_nest_0 0 rfl rfl)
theorem dX0_nest_1 : decode cX0_nest 1 = .ok (.getfield 75, 3) := dk_180 0 75 (dk_at dksX0_nest_0 1 rfl rfl)
theorem dX0_nest_4 : decode cX0_nest 4 = .ok (.iload_n 1, 1) := dk_27 (dk_at dksX0_nest_0 4 rfl rfl)
theorem dX0_nest_5 : decode cX0_nest 5 = .ok (.iload_n 2, 1) := dk_28 (dk_at dksX0_nest_0 5 rfl rfl)
theorem dX0_nest_6 : decode cX0_nest 6 = .ok (.invokevirtual 335, 3) := dk_182 1 79 (dk_at dksX0_nest_0 6 rfl rfl)
theorem dX0_nest_9 : decode cX0_nest 9 = .ok (.ifCond .eq 15, 3) := dk_153 0 15 (dk_at dksX0_nest_0 9 rfl rfl)
theorem dX0_nest_12 : decode cX0_nest 12 = .ok (.aload_n 0, 1) := dk_42 (dk_at dksX0_nest_0 12 rfl rfl)
theorem dX0_nest_13 : decode cX0_nest 13 = .ok (.getfield 75, 3) := dk_180 0 75 (dk_at dksX0_nest_0 13 rfl rfl)
theorem dX0_nest_16 : decode cX0_nest 16 = .ok (.getfield 341, 3) := dk_180 1 85 (dk_at dksX0_nest_0 16 rfl rfl)
theorem dX0_nest_19 : decode cX0_nest 19 = .ok (.bipush 6, 2) := dk_16 6 (dk_at dksX0_nest_0 19 rfl rfl)
theorem dX0_nest_21 : decode cX0_nest 21 = .ok (.if_icmp .ne 5, 3) := dk_160 0 5 (dk_at dksX0_nest_0 21 rfl rfl)
theorem dX0_nest_24 : decode cX0_nest 24 = .ok (.iconst (-1), 1) := dk_2 (dk_at dksX0_nest_1 0 rfl rfl)
theorem dX0_nest_25 : decode cX0_nest 25 = .ok (.ireturn, 1) := dk_172 (dk_at dksX0_nest_1 1 rfl rfl)
theorem dX0_nest_26 : decode cX0_nest 26 = .ok (.aload_n 0, 1) := dk_42 (dk_at dksX0_nest_1 2 rfl rfl)
theorem dX0_nest_27 : decode cX0_nest 27 = .ok (.getfield 75, 3) := dk_180 0 75 (dk_at dksX0_nest_1 3 rfl rfl)
theorem dX0_nest_30 : decode cX0_nest 30 = .ok (.getfield 344, 3) := dk_180 1 88 (dk_at dksX0_nest_1 6 rfl rfl)
theorem dX0_nest_33 : decode cX0_nest 33 = .ok (.aload_n 0, 1) := dk_42 (dk_at dksX0_nest_1 9 rfl rfl)
theorem dX0_nest_34 : decode cX0_nest 34 = .ok (.getfield 75, 3) := dk_180 0 75 (dk_at dksX0_nest_1 10 rfl rfl)
theorem dX0_nest_37 : decode cX0_nest 37 = .ok (.getfield 341, 3) := dk_180 1 85 (dk_at dksX0_nest_1 13 rfl rfl)
theorem dX0_nest_40 : decode cX0_nest 40 = .ok (.iload_n 1, 1) := dk_27 (dk_at dksX0_nest_1 16 rfl rfl)
theorem dX0_nest_41 : decode cX0_nest 41 = .ok (.iastore, 1) := dk_79 (dk_at dksX0_nest_1 17 rfl rfl)
theorem dX0_nest_42 : decode cX0_nest 42 = .ok (.aload_n 0, 1) := dk_42 (dk_at dksX0_nest_1 18 rfl rfl)
theorem dX0_nest_43 : decode cX0_nest 43 = .ok (.getfield 75, 3) := dk_180 0 75 (dk_at dksX0_nest_1 19 rfl rfl)
theorem dX0_nest_46 : decode cX0_nest 46 = .ok (.getfield 347, 3) := dk_180 1 91 (dk_at dksX0_nest_2 0 rfl rfl)
theorem dX0_nest_49 : decode cX0_nest 49 = .ok (.aload_n 0, 1) := dk_42 (dk_at dksX0_nest_2 3 rfl rfl)
theorem dX0_nest_50 : decode cX0_nest 50 = .ok (.getfield 75, 3) := dk_180 0 75 (dk_at dksX0_nest_2 4 rfl rfl)
theorem dX0_nest_53 : decode cX0_nest 53 = .ok (.getfield 341, 3) := dk_180 1 85 (dk_at dksX0_nest_2 7 rfl rfl)
theorem dX0_nest_56 : decode cX0_nest 56 = .ok (.iload_n 2, 1) := dk_28 (dk_at dksX0_nest_2 10 rfl rfl)
theorem dX0_nest_57 : decode cX0_nest 57 = .ok (.iastore, 1) := dk_79 (dk_at dksX0_nest_2 11 rfl rfl)
theorem dX0_nest_58 : decode cX0_nest 58 = .ok (.aload_n 0, 1) := dk_42 (dk_at dksX0_nest_2 12 rfl rfl)
theorem dX0_nest_59 : decode cX0_nest 59 = .ok (.getfield 75, 3) := dk_180 0 75 (dk_at dksX0_nest_2 13 rfl rfl)
theorem dX0_nest_62 : decode cX0_nest 62 = .ok (.dup, 1) := dk_89 (dk_at dksX0_nest_2 16 rfl rfl)
theorem dX0_nest_63 : decode cX0_nest 63 = .ok (.getfield 341, 3) := dk_180 1 85 (dk_at dksX0_nest_2 17 rfl rfl)
theorem dX0_nest_66 : decode cX0_nest 66 = .ok (.iconst 1, 1) := dk_4 (dk_at dksX0_nest_2 20 rfl rfl)
theorem dX0_nest_67 : decode cX0_nest 67 = .ok (.iadd, 1) := dk_96 (dk_at dksX0_nest_2 21 rfl rfl)
theorem dX0_nest_68 : decode cX0_nest 68 = .ok (.putfield 341, 3) := dk_181 1 85 (dk_at dksX0_nest_3 0 rfl rfl)
theorem dX0_nest_71 : decode cX0_nest 71 = .ok (.aload_n 0, 1) := dk_42 (dk_at dksX0_nest_3 3 rfl rfl)
theorem dX0_nest_72 : decode cX0_nest 72 = .ok (.getfield 75, 3) := dk_180 0 75 (dk_at dksX0_nest_3 4 rfl rfl)
theorem dX0_nest_75 : decode cX0_nest 75 = .ok (.getfield 341, 3) := dk_180 1 85 (dk_at dksX0_nest_3 7 rfl rfl)
theorem dX0_nest_78 : decode cX0_nest 78 = .ok (.iconst 1, 1) := dk_4 (dk_at dksX0_nest_3 10 rfl rfl)
theorem dX0_nest_79 : decode cX0_nest 79 = .ok (.isub, 1) := dk_100 (dk_at dksX0_nest_3 11 rfl rfl)
theorem dX0_nest_80 : decode cX0_nest 80 = .ok (.ireturn, 1) := dk_172 (dk_at dksX0_nest_3 12 rfl rfl)
abbrev cX0_swallow : ByteArray := prog_1_method_39_code
def yX0_swallow : MethodName := ⟨RX0, "swallow", "(IIIII)I"⟩
def dkwX0_swallow_4 : List UInt8 := [96, 181, 1, 94, 42, 180, 0, 75, 180, 1, 94, 4, 100, 172]
abbrev dktX0_swallow_4 : List UInt8 := dkwX0_swallow_4 ++ []
def dkwX0_swallow_3 : List UInt8 := [187, 1, 100, 89, 27, 28, 29, 21, 4, 21, 5, 183, 1, 102, 83, 42, 180, 0, 75, 89, 180, 1, 94, 4]
abbrev dktX0_swallow_3 : List UInt8 := dkwX0_swallow_3 ++ dktX0_swallow_4
def dkwX0_swallow_2 : List UInt8 := [180, 1, 94, 16, 8, 160, 0, 5, 2, 172, 42, 180, 0, 75, 180, 1, 97, 42, 180, 0, 75, 180, 1, 94]
abbrev dktX0_swallow_2 : List UInt8 := dkwX0_swallow_2 ++ dktX0_swallow_3
def dkwX0_swallow_1 : List UInt8 := [16, 60, 184, 0, 128, 153, 0, 25, 21, 5, 3, 6, 184, 0, 128, 153, 0, 15, 42, 180, 0, 75]
abbrev dktX0_swallow_1 : List UInt8 := dkwX0_swallow_1 ++ dktX0_swallow_2
def dkwX0_swallow_0 : List UInt8 := [42, 180, 0, 75, 27, 28, 182, 1, 79, 153, 0, 45, 29, 3, 6, 184, 0, 128, 153, 0, 36, 21, 4, 3]
abbrev dktX0_swallow_0 : List UInt8 := dkwX0_swallow_0 ++ dktX0_swallow_1
theorem dksX0_swallow_0 : cX0_swallow.data.toList.drop 0 = dktX0_swallow_0 := by decide +kernel
theorem dksX0_swallow_1 : cX0_swallow.data.toList.drop 24 = dktX0_swallow_1 := dk_seg dksX0_swallow_0 24 rfl rfl
theorem dksX0_swallow_2 : cX0_swallow.data.toList.drop 46 = dktX0_swallow_2 := dk_seg dksX0_swallow_1 22 rfl rfl
theorem dksX0_swallow_3 : cX0_swallow.data.toList.drop 70 = dktX0_swallow_3 := dk_seg dksX0_swallow_2 24 rfl rfl
theorem dksX0_swallow_4 : cX0_swallow.data.toList.drop 94 = dktX0_swallow_4 := dk_seg dksX0_swallow_3 24 rfl rfl
theorem dX0_swallow_0 : decode cX0_swallow 0 = .ok (.aload_n 0, 1) := dk_42 (dk_at dksX0_swallow_0 0 rfl rfl)
theorem dX0_swallow_1 : decode cX0_swallow 1 = .ok (.getfield 75, 3) := dk_180 0 75 (dk_at dksX0_swallow_0 1 rfl rfl)
theorem dX0_swallow_4 : decode cX0_swallow 4 = .ok (.iload_n 1, 1) := dk_27 (dk_at dksX0_swallow_0 4 rfl rfl)
theorem dX0_swallow_5 : decode cX0_swallow 5 = .ok (.iload_n 2, 1) := dk_28 (dk_at dksX0_swallow_0 5 rfl rfl)
theorem dX0_swallow_6 : decode cX0_swallow 6 = .ok (.invokevirtual 335, 3) := dk_182 1 79 (dk_at dksX0_swallow_0 6 rfl rfl)
theorem dX0_swallow_9 : decode cX0_swallow 9 = .ok (.ifCond .eq 45, 3) := dk_153 0 45 (dk_at dksX0_swallow_0 9 rfl rfl)
theorem dX0_swallow_12 : decode cX0_swallow 12 = .ok (.iload_n 3, 1) := dk_29 (dk_at dksX0_swallow_0 12 rfl rfl)
theorem dX0_swallow_13 : decode cX0_swallow 13 = .ok (.iconst 0, 1) := dk_3 (dk_at dksX0_swallow_0 13 rfl rfl)
theorem dX0_swallow_14 : decode cX0_swallow 14 = .ok (.iconst 3, 1) := dk_6 (dk_at dksX0_swallow_0 14 rfl rfl)
theorem dX0_swallow_15 : decode cX0_swallow 15 = .ok (.invokestatic 128, 3) := dk_184 0 128 (dk_at dksX0_swallow_0 15 rfl rfl)
theorem dX0_swallow_18 : decode cX0_swallow 18 = .ok (.ifCond .eq 36, 3) := dk_153 0 36 (dk_at dksX0_swallow_0 18 rfl rfl)
theorem dX0_swallow_21 : decode cX0_swallow 21 = .ok (.iload 4, 2) := dk_21 4 (dk_at dksX0_swallow_0 21 rfl rfl)
theorem dX0_swallow_23 : decode cX0_swallow 23 = .ok (.iconst 0, 1) := dk_3 (dk_at dksX0_swallow_0 23 rfl rfl)
theorem dX0_swallow_24 : decode cX0_swallow 24 = .ok (.bipush 60, 2) := dk_16 60 (dk_at dksX0_swallow_1 0 rfl rfl)
theorem dX0_swallow_26 : decode cX0_swallow 26 = .ok (.invokestatic 128, 3) := dk_184 0 128 (dk_at dksX0_swallow_1 2 rfl rfl)
theorem dX0_swallow_29 : decode cX0_swallow 29 = .ok (.ifCond .eq 25, 3) := dk_153 0 25 (dk_at dksX0_swallow_1 5 rfl rfl)
theorem dX0_swallow_32 : decode cX0_swallow 32 = .ok (.iload 5, 2) := dk_21 5 (dk_at dksX0_swallow_1 8 rfl rfl)
theorem dX0_swallow_34 : decode cX0_swallow 34 = .ok (.iconst 0, 1) := dk_3 (dk_at dksX0_swallow_1 10 rfl rfl)
theorem dX0_swallow_35 : decode cX0_swallow 35 = .ok (.iconst 3, 1) := dk_6 (dk_at dksX0_swallow_1 11 rfl rfl)
theorem dX0_swallow_36 : decode cX0_swallow 36 = .ok (.invokestatic 128, 3) := dk_184 0 128 (dk_at dksX0_swallow_1 12 rfl rfl)
theorem dX0_swallow_39 : decode cX0_swallow 39 = .ok (.ifCond .eq 15, 3) := dk_153 0 15 (dk_at dksX0_swallow_1 15 rfl rfl)
theorem dX0_swallow_42 : decode cX0_swallow 42 = .ok (.aload_n 0, 1) := dk_42 (dk_at dksX0_swallow_1 18 rfl rfl)
theorem dX0_swallow_43 : decode cX0_swallow 43 = .ok (.getfield 75, 3) := dk_180 0 75 (dk_at dksX0_swallow_1 19 rfl rfl)
theorem dX0_swallow_46 : decode cX0_swallow 46 = .ok (.getfield 350, 3) := dk_180 1 94 (dk_at dksX0_swallow_2 0 rfl rfl)
theorem dX0_swallow_49 : decode cX0_swallow 49 = .ok (.bipush 8, 2) := dk_16 8 (dk_at dksX0_swallow_2 3 rfl rfl)
theorem dX0_swallow_51 : decode cX0_swallow 51 = .ok (.if_icmp .ne 5, 3) := dk_160 0 5 (dk_at dksX0_swallow_2 5 rfl rfl)
theorem dX0_swallow_54 : decode cX0_swallow 54 = .ok (.iconst (-1), 1) := dk_2 (dk_at dksX0_swallow_2 8 rfl rfl)
theorem dX0_swallow_55 : decode cX0_swallow 55 = .ok (.ireturn, 1) := dk_172 (dk_at dksX0_swallow_2 9 rfl rfl)
theorem dX0_swallow_56 : decode cX0_swallow 56 = .ok (.aload_n 0, 1) := dk_42 (dk_at dksX0_swallow_2 10 rfl rfl)
theorem dX0_swallow_57 : decode cX0_swallow 57 = .ok (.getfield 75, 3) := dk_180 0 75 (dk_at dksX0_swallow_2 11 rfl rfl)
theorem dX0_swallow_60 : decode cX0_swallow 60 = .ok (.getfield 353, 3) := dk_180 1 97 (dk_at dksX0_swallow_2 14 rfl rfl)
theorem dX0_swallow_63 : decode cX0_swallow 63 = .ok (.aload_n 0, 1) := dk_42 (dk_at dksX0_swallow_2 17 rfl rfl)
theorem dX0_swallow_64 : decode cX0_swallow 64 = .ok (.getfield 75, 3) := dk_180 0 75 (dk_at dksX0_swallow_2 18 rfl rfl)
theorem dX0_swallow_67 : decode cX0_swallow 67 = .ok (.getfield 350, 3) := dk_180 1 94 (dk_at dksX0_swallow_2 21 rfl rfl)
theorem dX0_swallow_70 : decode cX0_swallow 70 = .ok (.new 356, 3) := dk_187 1 100 (dk_at dksX0_swallow_3 0 rfl rfl)
theorem dX0_swallow_73 : decode cX0_swallow 73 = .ok (.dup, 1) := dk_89 (dk_at dksX0_swallow_3 3 rfl rfl)
theorem dX0_swallow_74 : decode cX0_swallow 74 = .ok (.iload_n 1, 1) := dk_27 (dk_at dksX0_swallow_3 4 rfl rfl)
theorem dX0_swallow_75 : decode cX0_swallow 75 = .ok (.iload_n 2, 1) := dk_28 (dk_at dksX0_swallow_3 5 rfl rfl)
theorem dX0_swallow_76 : decode cX0_swallow 76 = .ok (.iload_n 3, 1) := dk_29 (dk_at dksX0_swallow_3 6 rfl rfl)
theorem dX0_swallow_77 : decode cX0_swallow 77 = .ok (.iload 4, 2) := dk_21 4 (dk_at dksX0_swallow_3 7 rfl rfl)
theorem dX0_swallow_79 : decode cX0_swallow 79 = .ok (.iload 5, 2) := dk_21 5 (dk_at dksX0_swallow_3 9 rfl rfl)
theorem dX0_swallow_81 : decode cX0_swallow 81 = .ok (.invokespecial 358, 3) := dk_183 1 102 (dk_at dksX0_swallow_3 11 rfl rfl)
theorem dX0_swallow_84 : decode cX0_swallow 84 = .ok (.aastore, 1) := dk_83 (dk_at dksX0_swallow_3 14 rfl rfl)
theorem dX0_swallow_85 : decode cX0_swallow 85 = .ok (.aload_n 0, 1) := dk_42 (dk_at dksX0_swallow_3 15 rfl rfl)
theorem dX0_swallow_86 : decode cX0_swallow 86 = .ok (.getfield 75, 3) := dk_180 0 75 (dk_at dksX0_swallow_3 16 rfl rfl)
theorem dX0_swallow_89 : decode cX0_swallow 89 = .ok (.dup, 1) := dk_89 (dk_at dksX0_swallow_3 19 rfl rfl)
theorem dX0_swallow_90 : decode cX0_swallow 90 = .ok (.getfield 350, 3) := dk_180 1 94 (dk_at dksX0_swallow_3 20 rfl rfl)
theorem dX0_swallow_93 : decode cX0_swallow 93 = .ok (.iconst 1, 1) := dk_4 (dk_at dksX0_swallow_3 23 rfl rfl)
theorem dX0_swallow_94 : decode cX0_swallow 94 = .ok (.iadd, 1) := dk_96 (dk_at dksX0_swallow_4 0 rfl rfl)
theorem dX0_swallow_95 : decode cX0_swallow 95 = .ok (.putfield 350, 3) := dk_181 1 94 (dk_at dksX0_swallow_4 1 rfl rfl)
theorem dX0_swallow_98 : decode cX0_swallow 98 = .ok (.aload_n 0, 1) := dk_42 (dk_at dksX0_swallow_4 4 rfl rfl)
theorem dX0_swallow_99 : decode cX0_swallow 99 = .ok (.getfield 75, 3) := dk_180 0 75 (dk_at dksX0_swallow_4 5 rfl rfl)
theorem dX0_swallow_102 : decode cX0_swallow 102 = .ok (.getfield 350, 3) := dk_180 1 94 (dk_at dksX0_swallow_4 8 rfl rfl)
theorem dX0_swallow_105 : decode cX0_swallow 105 = .ok (.iconst 1, 1) := dk_4 (dk_at dksX0_swallow_4 11 rfl rfl)
theorem dX0_swallow_106 : decode cX0_swallow 106 = .ok (.isub, 1) := dk_100 (dk_at dksX0_swallow_4 12 rfl rfl)
theorem dX0_swallow_107 : decode cX0_swallow 107 = .ok (.ireturn, 1) := dk_172 (dk_at dksX0_swallow_4 13 rfl rfl)
abbrev cX0_survey : ByteArray := prog_1_method_40_code
def yX0_survey : MethodName := ⟨RX0, "survey", "()I"⟩
def dkwX0_survey_5 : List UInt8 := [167, 255, 167, 27, 172]
abbrev dktX0_survey_5 : List UInt8 := dkwX0_survey_5 ++ []
def dkwX0_survey_4 : List UInt8 := [96, 79, 42, 180, 0, 75, 180, 1, 76, 28, 42, 180, 0, 94, 180, 1, 113, 28, 46, 79, 132, 2, 1]
abbrev dktX0_survey_4 : List UInt8 := dkwX0_survey_4 ++ dktX0_survey_5
def dkwX0_survey_3 : List UInt8 := [46, 42, 180, 0, 94, 180, 1, 113, 28, 46, 159, 0, 16, 42, 180, 0, 75, 180, 1, 116, 28, 92, 46, 4]
abbrev dktX0_survey_3 : List UInt8 := dkwX0_survey_3 ++ dktX0_survey_4
def dkwX0_survey_2 : List UInt8 := [167, 0, 68, 42, 180, 0, 75, 180, 1, 76, 28, 46, 2, 159, 0, 37, 42, 180, 0, 75, 180, 1, 76, 28]
abbrev dktX0_survey_2 : List UInt8 := dkwX0_survey_2 ++ dktX0_survey_3
def dkwX0_survey_1 : List UInt8 := [182, 1, 109, 60, 3, 61, 28, 16, 100, 162, 0, 89, 42, 180, 0, 75, 180, 1, 73, 28, 51, 154, 0, 6]
abbrev dktX0_survey_1 : List UInt8 := dkwX0_survey_1 ++ dktX0_survey_2
def dkwX0_survey_0 : List UInt8 := [42, 3, 181, 1, 51, 42, 180, 0, 94, 42, 180, 0, 75, 182, 1, 105, 42, 180, 0, 94, 42, 180, 0, 75]
abbrev dktX0_survey_0 : List UInt8 := dkwX0_survey_0 ++ dktX0_survey_1
theorem dksX0_survey_0 : cX0_survey.data.toList.drop 0 = dktX0_survey_0 := by decide +kernel
theorem dksX0_survey_1 : cX0_survey.data.toList.drop 24 = dktX0_survey_1 := dk_seg dksX0_survey_0 24 rfl rfl
theorem dksX0_survey_2 : cX0_survey.data.toList.drop 48 = dktX0_survey_2 := dk_seg dksX0_survey_1 24 rfl rfl
theorem dksX0_survey_3 : cX0_survey.data.toList.drop 72 = dktX0_survey_3 := dk_seg dksX0_survey_2 24 rfl rfl
theorem dksX0_survey_4 : cX0_survey.data.toList.drop 96 = dktX0_survey_4 := dk_seg dksX0_survey_3 24 rfl rfl
theorem dksX0_survey_5 : cX0_survey.data.toList.drop 119 = dktX0_survey_5 := dk_seg dksX0_survey_4 23 rfl rfl
theorem dX0_survey_0 : decode cX0_survey 0 = .ok (.aload_n 0, 1) := dk_42 (dk_at dksX0_survey_0 0 rfl rfl)
theorem dX0_survey_1 : decode cX0_survey 1 = .ok (.iconst 0, 1) := dk_3 (dk_at dksX0_survey_0 1 rfl rfl)
theorem dX0_survey_2 : decode cX0_survey 2 = .ok (.putfield 307, 3) := dk_181 1 51 (dk_at dksX0_survey_0 2 rfl rfl)
theorem dX0_survey_5 : decode cX0_survey 5 = .ok (.aload_n 0, 1) := dk_42 (dk_at dksX0_survey_0 5 rfl rfl)
theorem dX0_survey_6 : decode cX0_survey 6 = .ok (.getfield 94, 3) := dk_180 0 94 (dk_at dksX0_survey_0 6 rfl rfl)
theorem dX0_survey_9 : decode cX0_survey 9 = .ok (.aload_n 0, 1) := dk_42 (dk_at dksX0_survey_0 9 rfl rfl)
theorem dX0_survey_10 : decode cX0_survey 10 = .ok (.getfield 75, 3) := dk_180 0 75 (dk_at dksX0_survey_0 10 rfl rfl)
theorem dX0_survey_13 : decode cX0_survey 13 = .ok (.invokevirtual 361, 3) := dk_182 1 105 (dk_at dksX0_survey_0 13 rfl rfl)
theorem dX0_survey_16 : decode cX0_survey 16 = .ok (.aload_n 0, 1) := dk_42 (dk_at dksX0_survey_0 16 rfl rfl)
theorem dX0_survey_17 : decode cX0_survey 17 = .ok (.getfield 94, 3) := dk_180 0 94 (dk_at dksX0_survey_0 17 rfl rfl)
theorem dX0_survey_20 : decode cX0_survey 20 = .ok (.aload_n 0, 1) := dk_42 (dk_at dksX0_survey_0 20 rfl rfl)
theorem dX0_survey_21 : decode cX0_survey 21 = .ok (.getfield 75, 3) := dk_180 0 75 (dk_at dksX0_survey_0 21 rfl rfl)
theorem dX0_survey_24 : decode cX0_survey 24 = .ok (.invokevirtual 365, 3) := dk_182 1 109 (dk_at dksX0_survey_1 0 rfl rfl)
theorem dX0_survey_27 : decode cX0_survey 27 = .ok (.istore_n 1, 1) := dk_60 (dk_at dksX0_survey_1 3 rfl rfl)
theorem dX0_survey_28 : decode cX0_survey 28 = .ok (.iconst 0, 1) := dk_3 (dk_at dksX0_survey_1 4 rfl rfl)
theorem dX0_survey_29 : decode cX0_survey 29 = .ok (.istore_n 2, 1) := dk_61 (dk_at dksX0_survey_1 5 rfl rfl)
theorem dX0_survey_30 : decode cX0_survey 30 = .ok (.iload_n 2, 1) := dk_28 (dk_at dksX0_survey_1 6 rfl rfl)
theorem dX0_survey_31 : decode cX0_survey 31 = .ok (.bipush 100, 2) := dk_16 100 (dk_at dksX0_survey_1 7 rfl rfl)
theorem dX0_survey_33 : decode cX0_survey 33 = .ok (.if_icmp .ge 89, 3) := dk_162 0 89 (dk_at dksX0_survey_1 9 rfl rfl)
theorem dX0_survey_36 : decode cX0_survey 36 = .ok (.aload_n 0, 1) := dk_42 (dk_at dksX0_survey_1 12 rfl rfl)
theorem dX0_survey_37 : decode cX0_survey 37 = .ok (.getfield 75, 3) := dk_180 0 75 (dk_at dksX0_survey_1 13 rfl rfl)
theorem dX0_survey_40 : decode cX0_survey 40 = .ok (.getfield 329, 3) := dk_180 1 73 (dk_at dksX0_survey_1 16 rfl rfl)
theorem dX0_survey_43 : decode cX0_survey 43 = .ok (.iload_n 2, 1) := dk_28 (dk_at dksX0_survey_1 19 rfl rfl)
theorem dX0_survey_44 : decode cX0_survey 44 = .ok (.baload, 1) := dk_51 (dk_at dksX0_survey_1 20 rfl rfl)
theorem dX0_survey_45 : decode cX0_survey 45 = .ok (.ifCond .ne 6, 3) := dk_154 0 6 (dk_at dksX0_survey_1 21 rfl rfl)
theorem dX0_survey_48 : decode cX0_survey 48 = .ok (.goto 68, 3) := dk_167 0 68 (dk_at dksX0_survey_2 0 rfl rfl)
theorem dX0_survey_51 : decode cX0_survey 51 = .ok (.aload_n 0, 1) := dk_42 (dk_at dksX0_survey_2 3 rfl rfl)
theorem dX0_survey_52 : decode cX0_survey 52 = .ok (.getfield 75, 3) := dk_180 0 75 (dk_at dksX0_survey_2 4 rfl rfl)
theorem dX0_survey_55 : decode cX0_survey 55 = .ok (.getfield 332, 3) := dk_180 1 76 (dk_at dksX0_survey_2 7 rfl rfl)
theorem dX0_survey_58 : decode cX0_survey 58 = .ok (.iload_n 2, 1) := dk_28 (dk_at dksX0_survey_2 10 rfl rfl)
theorem dX0_survey_59 : decode cX0_survey 59 = .ok (.iaload, 1) := dk_46 (dk_at dksX0_survey_2 11 rfl rfl)
theorem dX0_survey_60 : decode cX0_survey 60 = .ok (.iconst (-1), 1) := dk_2 (dk_at dksX0_survey_2 12 rfl rfl)
theorem dX0_survey_61 : decode cX0_survey 61 = .ok (.if_icmp .eq 37, 3) := dk_159 0 37 (dk_at dksX0_survey_2 13 rfl rfl)
theorem dX0_survey_64 : decode cX0_survey 64 = .ok (.aload_n 0, 1) := dk_42 (dk_at dksX0_survey_2 16 rfl rfl)
theorem dX0_survey_65 : decode cX0_survey 65 = .ok (.getfield 75, 3) := dk_180 0 75 (dk_at dksX0_survey_2 17 rfl rfl)
theorem dX0_survey_68 : decode cX0_survey 68 = .ok (.getfield 332, 3) := dk_180 1 76 (dk_at dksX0_survey_2 20 rfl rfl)
theorem dX0_survey_71 : decode cX0_survey 71 = .ok (.iload_n 2, 1) := dk_28 (dk_at dksX0_survey_2 23 rfl rfl)
theorem dX0_survey_72 : decode cX0_survey 72 = .ok (.iaload, 1) := dk_46 (dk_at dksX0_survey_3 0 rfl rfl)
theorem dX0_survey_73 : decode cX0_survey 73 = .ok (.aload_n 0, 1) := dk_42 (dk_at dksX0_survey_3 1 rfl rfl)
theorem dX0_survey_74 : decode cX0_survey 74 = .ok (.getfield 94, 3) := dk_180 0 94 (dk_at dksX0_survey_3 2 rfl rfl)
theorem dX0_survey_77 : decode cX0_survey 77 = .ok (.getfield 369, 3) := dk_180 1 113 (dk_at dksX0_survey_3 5 rfl rfl)
theorem dX0_survey_80 : decode cX0_survey 80 = .ok (.iload_n 2, 1) := dk_28 (dk_at dksX0_survey_3 8 rfl rfl)
theorem dX0_survey_81 : decode cX0_survey 81 = .ok (.iaload, 1) := dk_46 (dk_at dksX0_survey_3 9 rfl rfl)
theorem dX0_survey_82 : decode cX0_survey 82 = .ok (.if_icmp .eq 16, 3) := dk_159 0 16 (dk_at dksX0_survey_3 10 rfl rfl)
theorem dX0_survey_85 : decode cX0_survey 85 = .ok (.aload_n 0, 1) := dk_42 (dk_at dksX0_survey_3 13 rfl rfl)
theorem dX0_survey_86 : decode cX0_survey 86 = .ok (.getfield 75, 3) := dk_180 0 75 (dk_at dksX0_survey_3 14 rfl rfl)
theorem dX0_survey_89 : decode cX0_survey 89 = .ok (.getfield 372, 3) := dk_180 1 116 (dk_at dksX0_survey_3 17 rfl rfl)
theorem dX0_survey_92 : decode cX0_survey 92 = .ok (.iload_n 2, 1) := dk_28 (dk_at dksX0_survey_3 20 rfl rfl)
theorem dX0_survey_93 : decode cX0_survey 93 = .ok (.dup2, 1) := dk_92 (dk_at dksX0_survey_3 21 rfl rfl)
theorem dX0_survey_94 : decode cX0_survey 94 = .ok (.iaload, 1) := dk_46 (dk_at dksX0_survey_3 22 rfl rfl)
theorem dX0_survey_95 : decode cX0_survey 95 = .ok (.iconst 1, 1) := dk_4 (dk_at dksX0_survey_3 23 rfl rfl)
theorem dX0_survey_96 : decode cX0_survey 96 = .ok (.iadd, 1) := dk_96 (dk_at dksX0_survey_4 0 rfl rfl)
theorem dX0_survey_97 : decode cX0_survey 97 = .ok (.iastore, 1) := dk_79 (dk_at dksX0_survey_4 1 rfl rfl)
theorem dX0_survey_98 : decode cX0_survey 98 = .ok (.aload_n 0, 1) := dk_42 (dk_at dksX0_survey_4 2 rfl rfl)
theorem dX0_survey_99 : decode cX0_survey 99 = .ok (.getfield 75, 3) := dk_180 0 75 (dk_at dksX0_survey_4 3 rfl rfl)
theorem dX0_survey_102 : decode cX0_survey 102 = .ok (.getfield 332, 3) := dk_180 1 76 (dk_at dksX0_survey_4 6 rfl rfl)
theorem dX0_survey_105 : decode cX0_survey 105 = .ok (.iload_n 2, 1) := dk_28 (dk_at dksX0_survey_4 9 rfl rfl)
theorem dX0_survey_106 : decode cX0_survey 106 = .ok (.aload_n 0, 1) := dk_42 (dk_at dksX0_survey_4 10 rfl rfl)
theorem dX0_survey_107 : decode cX0_survey 107 = .ok (.getfield 94, 3) := dk_180 0 94 (dk_at dksX0_survey_4 11 rfl rfl)
theorem dX0_survey_110 : decode cX0_survey 110 = .ok (.getfield 369, 3) := dk_180 1 113 (dk_at dksX0_survey_4 14 rfl rfl)
theorem dX0_survey_113 : decode cX0_survey 113 = .ok (.iload_n 2, 1) := dk_28 (dk_at dksX0_survey_4 17 rfl rfl)
theorem dX0_survey_114 : decode cX0_survey 114 = .ok (.iaload, 1) := dk_46 (dk_at dksX0_survey_4 18 rfl rfl)
theorem dX0_survey_115 : decode cX0_survey 115 = .ok (.iastore, 1) := dk_79 (dk_at dksX0_survey_4 19 rfl rfl)
theorem dX0_survey_116 : decode cX0_survey 116 = .ok (.iinc 2 1, 3) := dk_132 2 1 (dk_at dksX0_survey_4 20 rfl rfl)
theorem dX0_survey_119 : decode cX0_survey 119 = .ok (.goto (-89), 3) := dk_167 255 167 (dk_at dksX0_survey_5 0 rfl rfl)
theorem dX0_survey_122 : decode cX0_survey 122 = .ok (.iload_n 1, 1) := dk_27 (dk_at dksX0_survey_5 3 rfl rfl)
theorem dX0_survey_123 : decode cX0_survey 123 = .ok (.ireturn, 1) := dk_172 (dk_at dksX0_survey_5 4 rfl rfl)
abbrev cX0_spring : ByteArray := prog_1_method_41_code
def yX0_spring : MethodName := ⟨RX0, "spring", "()I"⟩
def dkwX0_spring_4 : List UInt8 := [167, 255, 181, 42, 180, 0, 75, 89, 180, 1, 119, 4, 96, 181, 1, 119, 42, 182, 1, 125, 172]
abbrev dktX0_spring_4 : List UInt8 := dkwX0_spring_4 ++ []
def dkwX0_spring_3 : List UInt8 := [153, 0, 8, 16, 40, 167, 0, 5, 16, 10, 182, 1, 122, 79, 132, 2, 1, 167, 255, 200, 132, 1, 1]
abbrev dktX0_spring_3 : List UInt8 := dkwX0_spring_3 ++ dktX0_spring_4
def dkwX0_spring_2 : List UInt8 := [96, 62, 42, 180, 0, 75, 180, 1, 56, 29, 42, 180, 0, 75, 42, 180, 0, 75, 180, 1, 66, 29, 51]
abbrev dktX0_spring_2 : List UInt8 := dkwX0_spring_2 ++ dktX0_spring_3
def dkwX0_spring_1 : List UInt8 := [180, 1, 48, 162, 0, 70, 3, 61, 28, 42, 180, 0, 75, 180, 1, 45, 162, 0, 51, 16, 10, 27, 104, 28]
abbrev dktX0_spring_1 : List UInt8 := dkwX0_spring_1 ++ dktX0_spring_2
def dkwX0_spring_0 : List UInt8 := [42, 180, 0, 75, 180, 1, 119, 17, 39, 15, 160, 0, 5, 2, 172, 3, 60, 27, 42, 180, 0, 75]
abbrev dktX0_spring_0 : List UInt8 := dkwX0_spring_0 ++ dktX0_spring_1
theorem dksX0_spring_0 : cX0_spring.data.toList.drop 0 = dktX0_spring_0 := by decide +kernel
theorem dksX0_spring_1 : cX0_spring.data.toList.drop 22 = dktX0_spring_1 := dk_seg dksX0_spring_0 22 rfl rfl
theorem dksX0_spring_2 : cX0_spring.data.toList.drop 46 = dktX0_spring_2 := dk_seg dksX0_spring_1 24 rfl rfl
theorem dksX0_spring_3 : cX0_spring.data.toList.drop 69 = dktX0_spring_3 := dk_seg dksX0_spring_2 23 rfl rfl
theorem dksX0_spring_4 : cX0_spring.data.toList.drop 92 = dktX0_spring_4 := dk_seg dksX0_spring_3 23 rfl rfl
theorem dX0_spring_0 : decode cX0_spring 0 = .ok (.aload_n 0, 1) := dk_42 (dk_at dksX0_spring_0 0 rfl rfl)
theorem dX0_spring_1 : decode cX0_spring 1 = .ok (.getfield 75, 3) := dk_180 0 75 (dk_at dksX0_spring_0 1 rfl rfl)
theorem dX0_spring_4 : decode cX0_spring 4 = .ok (.getfield 375, 3) := dk_180 1 119 (dk_at dksX0_spring_0 4 rfl rfl)
theorem dX0_spring_7 : decode cX0_spring 7 = .ok (.sipush 9999, 3) := dk_17 39 15 (dk_at dksX0_spring_0 7 rfl rfl)
theorem dX0_spring_10 : decode cX0_spring 10 = .ok (.if_icmp .ne 5, 3) := dk_160 0 5 (dk_at dksX0_spring_0 10 rfl rfl)
theorem dX0_spring_13 : decode cX0_spring 13 = .ok (.iconst (-1), 1) := dk_2 (dk_at dksX0_spring_0 13 rfl rfl)
theorem dX0_spring_14 : decode cX0_spring 14 = .ok (.ireturn, 1) := dk_172 (dk_at dksX0_spring_0 14 rfl rfl)
theorem dX0_spring_15 : decode cX0_spring 15 = .ok (.iconst 0, 1) := dk_3 (dk_at dksX0_spring_0 15 rfl rfl)
theorem dX0_spring_16 : decode cX0_spring 16 = .ok (.istore_n 1, 1) := dk_60 (dk_at dksX0_spring_0 16 rfl rfl)
theorem dX0_spring_17 : decode cX0_spring 17 = .ok (.iload_n 1, 1) := dk_27 (dk_at dksX0_spring_0 17 rfl rfl)
theorem dX0_spring_18 : decode cX0_spring 18 = .ok (.aload_n 0, 1) := dk_42 (dk_at dksX0_spring_0 18 rfl rfl)
theorem dX0_spring_19 : decode cX0_spring 19 = .ok (.getfield 75, 3) := dk_180 0 75 (dk_at dksX0_spring_0 19 rfl rfl)
theorem dX0_spring_22 : decode cX0_spring 22 = .ok (.getfield 304, 3) := dk_180 1 48 (dk_at dksX0_spring_1 0 rfl rfl)
theorem dX0_spring_25 : decode cX0_spring 25 = .ok (.if_icmp .ge 70, 3) := dk_162 0 70 (dk_at dksX0_spring_1 3 rfl rfl)
theorem dX0_spring_28 : decode cX0_spring 28 = .ok (.iconst 0, 1) := dk_3 (dk_at dksX0_spring_1 6 rfl rfl)
theorem dX0_spring_29 : decode cX0_spring 29 = .ok (.istore_n 2, 1) := dk_61 (dk_at dksX0_spring_1 7 rfl rfl)
theorem dX0_spring_30 : decode cX0_spring 30 = .ok (.iload_n 2, 1) := dk_28 (dk_at dksX0_spring_1 8 rfl rfl)
theorem dX0_spring_31 : decode cX0_spring 31 = .ok (.aload_n 0, 1) := dk_42 (dk_at dksX0_spring_1 9 rfl rfl)
theorem dX0_spring_32 : decode cX0_spring 32 = .ok (.getfield 75, 3) := dk_180 0 75 (dk_at dksX0_spring_1 10 rfl rfl)
theorem dX0_spring_35 : decode cX0_spring 35 = .ok (.getfield 301, 3) := dk_180 1 45 (dk_at dksX0_spring_1 13 rfl rfl)
theorem dX0_spring_38 : decode cX0_spring 38 = .ok (.if_icmp .ge 51, 3) := dk_162 0 51 (dk_at dksX0_spring_1 16 rfl rfl)
theorem dX0_spring_41 : decode cX0_spring 41 = .ok (.bipush 10, 2) := dk_16 10 (dk_at dksX0_spring_1 19 rfl rfl)
theorem dX0_spring_43 : decode cX0_spring 43 = .ok (.iload_n 1, 1) := dk_27 (dk_at dksX0_spring_1 21 rfl rfl)
theorem dX0_spring_44 : decode cX0_spring 44 = .ok (.imul, 1) := dk_104 (dk_at dksX0_spring_1 22 rfl rfl)
theorem dX0_spring_45 : decode cX0_spring 45 = .ok (.iload_n 2, 1) := dk_28 (dk_at dksX0_spring_1 23 rfl rfl)
theorem dX0_spring_46 : decode cX0_spring 46 = .ok (.iadd, 1) := dk_96 (dk_at dksX0_spring_2 0 rfl rfl)
theorem dX0_spring_47 : decode cX0_spring 47 = .ok (.istore_n 3, 1) := dk_62 (dk_at dksX0_spring_2 1 rfl rfl)
theorem dX0_spring_48 : decode cX0_spring 48 = .ok (.aload_n 0, 1) := dk_42 (dk_at dksX0_spring_2 2 rfl rfl)
theorem dX0_spring_49 : decode cX0_spring 49 = .ok (.getfield 75, 3) := dk_180 0 75 (dk_at dksX0_spring_2 3 rfl rfl)
theorem dX0_spring_52 : decode cX0_spring 52 = .ok (.getfield 312, 3) := dk_180 1 56 (dk_at dksX0_spring_2 6 rfl rfl)
theorem dX0_spring_55 : decode cX0_spring 55 = .ok (.iload_n 3, 1) := dk_29 (dk_at dksX0_spring_2 9 rfl rfl)
theorem dX0_spring_56 : decode cX0_spring 56 = .ok (.aload_n 0, 1) := dk_42 (dk_at dksX0_spring_2 10 rfl rfl)
theorem dX0_spring_57 : decode cX0_spring 57 = .ok (.getfield 75, 3) := dk_180 0 75 (dk_at dksX0_spring_2 11 rfl rfl)
theorem dX0_spring_60 : decode cX0_spring 60 = .ok (.aload_n 0, 1) := dk_42 (dk_at dksX0_spring_2 14 rfl rfl)
theorem dX0_spring_61 : decode cX0_spring 61 = .ok (.getfield 75, 3) := dk_180 0 75 (dk_at dksX0_spring_2 15 rfl rfl)
theorem dX0_spring_64 : decode cX0_spring 64 = .ok (.getfield 322, 3) := dk_180 1 66 (dk_at dksX0_spring_2 18 rfl rfl)
theorem dX0_spring_67 : decode cX0_spring 67 = .ok (.iload_n 3, 1) := dk_29 (dk_at dksX0_spring_2 21 rfl rfl)
theorem dX0_spring_68 : decode cX0_spring 68 = .ok (.baload, 1) := dk_51 (dk_at dksX0_spring_2 22 rfl rfl)
theorem dX0_spring_69 : decode cX0_spring 69 = .ok (.ifCond .eq 8, 3) := dk_153 0 8 (dk_at dksX0_spring_3 0 rfl rfl)
theorem dX0_spring_72 : decode cX0_spring 72 = .ok (.bipush 40, 2) := dk_16 40 (dk_at dksX0_spring_3 3 rfl rfl)
theorem dX0_spring_74 : decode cX0_spring 74 = .ok (.goto 5, 3) := dk_167 0 5 (dk_at dksX0_spring_3 5 rfl rfl)
theorem dX0_spring_77 : decode cX0_spring 77 = .ok (.bipush 10, 2) := dk_16 10 (dk_at dksX0_spring_3 8 rfl rfl)
theorem dX0_spring_79 : decode cX0_spring 79 = .ok (.invokevirtual 378, 3) := dk_182 1 122 (dk_at dksX0_spring_3 10 rfl rfl)
theorem dX0_spring_82 : decode cX0_spring 82 = .ok (.iastore, 1) := dk_79 (dk_at dksX0_spring_3 13 rfl rfl)
theorem dX0_spring_83 : decode cX0_spring 83 = .ok (.iinc 2 1, 3) := dk_132 2 1 (dk_at dksX0_spring_3 14 rfl rfl)
theorem dX0_spring_86 : decode cX0_spring 86 = .ok (.goto (-56), 3) := dk_167 255 200 (dk_at dksX0_spring_3 17 rfl rfl)
theorem dX0_spring_89 : decode cX0_spring 89 = .ok (.iinc 1 1, 3) := dk_132 1 1 (dk_at dksX0_spring_3 20 rfl rfl)
theorem dX0_spring_92 : decode cX0_spring 92 = .ok (.goto (-75), 3) := dk_167 255 181 (dk_at dksX0_spring_4 0 rfl rfl)
theorem dX0_spring_95 : decode cX0_spring 95 = .ok (.aload_n 0, 1) := dk_42 (dk_at dksX0_spring_4 3 rfl rfl)
theorem dX0_spring_96 : decode cX0_spring 96 = .ok (.getfield 75, 3) := dk_180 0 75 (dk_at dksX0_spring_4 4 rfl rfl)
theorem dX0_spring_99 : decode cX0_spring 99 = .ok (.dup, 1) := dk_89 (dk_at dksX0_spring_4 7 rfl rfl)
theorem dX0_spring_100 : decode cX0_spring 100 = .ok (.getfield 375, 3) := dk_180 1 119 (dk_at dksX0_spring_4 8 rfl rfl)
theorem dX0_spring_103 : decode cX0_spring 103 = .ok (.iconst 1, 1) := dk_4 (dk_at dksX0_spring_4 11 rfl rfl)
theorem dX0_spring_104 : decode cX0_spring 104 = .ok (.iadd, 1) := dk_96 (dk_at dksX0_spring_4 12 rfl rfl)
theorem dX0_spring_105 : decode cX0_spring 105 = .ok (.putfield 375, 3) := dk_181 1 119 (dk_at dksX0_spring_4 13 rfl rfl)
theorem dX0_spring_108 : decode cX0_spring 108 = .ok (.aload_n 0, 1) := dk_42 (dk_at dksX0_spring_4 16 rfl rfl)
theorem dX0_spring_109 : decode cX0_spring 109 = .ok (.invokevirtual 381, 3) := dk_182 1 125 (dk_at dksX0_spring_4 17 rfl rfl)
theorem dX0_spring_112 : decode cX0_spring 112 = .ok (.ireturn, 1) := dk_172 (dk_at dksX0_spring_4 20 rfl rfl)
abbrev cX0_of : ByteArray := prog_1_method_43_code
def yX0_of : MethodName := ⟨RX0, "of", "(II)I"⟩
def dkwX0_of_8 : List UInt8 := [2, 172]
abbrev dktX0_of_8 : List UInt8 := dkwX0_of_8 ++ []
def dkwX0_of_7 : List UInt8 := [182, 1, 131, 172, 42, 180, 0, 75, 180, 1, 116, 27, 46, 172, 42, 180, 0, 75, 180, 1, 59, 27, 46, 172]
abbrev dktX0_of_7 : List UInt8 := dkwX0_of_7 ++ dktX0_of_8
def dkwX0_of_6 : List UInt8 := [27, 51, 153, 0, 7, 4, 167, 0, 4, 3, 172, 42, 180, 0, 94, 180, 1, 113, 27, 46, 172, 42, 27]
abbrev dktX0_of_6 : List UInt8 := dkwX0_of_6 ++ dktX0_of_7
def dkwX0_of_5 : List UInt8 := [180, 0, 75, 180, 1, 73, 27, 51, 153, 0, 7, 4, 167, 0, 4, 3, 172, 42, 180, 0, 75, 180, 1, 62]
abbrev dktX0_of_5 : List UInt8 := dkwX0_of_5 ++ dktX0_of_6
def dkwX0_of_4 : List UInt8 := [182, 1, 128, 172, 42, 180, 0, 75, 180, 1, 66, 27, 51, 153, 0, 7, 4, 167, 0, 4, 3, 172, 42]
abbrev dktX0_of_4 : List UInt8 := dkwX0_of_4 ++ dktX0_of_5
def dkwX0_of_3 : List UInt8 := [42, 180, 0, 75, 180, 1, 56, 27, 46, 172, 42, 180, 0, 75, 27, 16, 10, 112, 27, 16, 10, 108]
abbrev dktX0_of_3 : List UInt8 := dkwX0_of_3 ++ dktX0_of_4
def dkwX0_of_2 : List UInt8 := [170, 0, 0, 0, 0, 166, 0, 0, 0, 0, 0, 0, 0, 8, 0, 0, 0, 50, 0, 0, 0, 60, 0, 0, 0, 76, 0, 0, 0, 94, 0, 0, 0, 112, 0, 0, 0, 130, 0, 0, 0, 140, 0, 0, 0, 146, 0, 0, 0, 156]
abbrev dktX0_of_2 : List UInt8 := dkwX0_of_2 ++ dktX0_of_3
def dkwX0_of_1 : List UInt8 := [180, 0, 94, 42, 180, 0, 75, 182, 1, 109, 87, 28]
abbrev dktX0_of_1 : List UInt8 := dkwX0_of_1 ++ dktX0_of_2
def dkwX0_of_0 : List UInt8 := [42, 27, 182, 1, 54, 154, 0, 5, 2, 172, 28, 8, 159, 0, 9, 28, 16, 6, 160, 0, 15, 42]
abbrev dktX0_of_0 : List UInt8 := dkwX0_of_0 ++ dktX0_of_1
theorem dksX0_of_0 : cX0_of.data.toList.drop 0 = dktX0_of_0 := by decide +kernel
theorem dksX0_of_1 : cX0_of.data.toList.drop 22 = dktX0_of_1 := dk_seg dksX0_of_0 22 rfl rfl
theorem dksX0_of_2 : cX0_of.data.toList.drop 34 = dktX0_of_2 := dk_seg dksX0_of_1 12 rfl rfl
theorem dksX0_of_3 : cX0_of.data.toList.drop 84 = dktX0_of_3 := dk_seg dksX0_of_2 50 rfl rfl
theorem dksX0_of_4 : cX0_of.data.toList.drop 106 = dktX0_of_4 := dk_seg dksX0_of_3 22 rfl rfl
theorem dksX0_of_5 : cX0_of.data.toList.drop 129 = dktX0_of_5 := dk_seg dksX0_of_4 23 rfl rfl
theorem dksX0_of_6 : cX0_of.data.toList.drop 153 = dktX0_of_6 := dk_seg dksX0_of_5 24 rfl rfl
theorem dksX0_of_7 : cX0_of.data.toList.drop 176 = dktX0_of_7 := dk_seg dksX0_of_6 23 rfl rfl
theorem dksX0_of_8 : cX0_of.data.toList.drop 200 = dktX0_of_8 := dk_seg dksX0_of_7 24 rfl rfl
theorem dX0_of_0 : decode cX0_of 0 = .ok (.aload_n 0, 1) := dk_42 (dk_at dksX0_of_0 0 rfl rfl)
theorem dX0_of_1 : decode cX0_of 1 = .ok (.iload_n 1, 1) := dk_27 (dk_at dksX0_of_0 1 rfl rfl)
theorem dX0_of_2 : decode cX0_of 2 = .ok (.invokevirtual 310, 3) := dk_182 1 54 (dk_at dksX0_of_0 2 rfl rfl)
theorem dX0_of_5 : decode cX0_of 5 = .ok (.ifCond .ne 5, 3) := dk_154 0 5 (dk_at dksX0_of_0 5 rfl rfl)
theorem dX0_of_8 : decode cX0_of 8 = .ok (.iconst (-1), 1) := dk_2 (dk_at dksX0_of_0 8 rfl rfl)
theorem dX0_of_9 : decode cX0_of 9 = .ok (.ireturn, 1) := dk_172 (dk_at dksX0_of_0 9 rfl rfl)
theorem dX0_of_10 : decode cX0_of 10 = .ok (.iload_n 2, 1) := dk_28 (dk_at dksX0_of_0 10 rfl rfl)
theorem dX0_of_11 : decode cX0_of 11 = .ok (.iconst 5, 1) := dk_8 (dk_at dksX0_of_0 11 rfl rfl)
theorem dX0_of_12 : decode cX0_of 12 = .ok (.if_icmp .eq 9, 3) := dk_159 0 9 (dk_at dksX0_of_0 12 rfl rfl)
theorem dX0_of_15 : decode cX0_of 15 = .ok (.iload_n 2, 1) := dk_28 (dk_at dksX0_of_0 15 rfl rfl)
theorem dX0_of_16 : decode cX0_of 16 = .ok (.bipush 6, 2) := dk_16 6 (dk_at dksX0_of_0 16 rfl rfl)
theorem dX0_of_18 : decode cX0_of 18 = .ok (.if_icmp .ne 15, 3) := dk_160 0 15 (dk_at dksX0_of_0 18 rfl rfl)
theorem dX0_of_21 : decode cX0_of 21 = .ok (.aload_n 0, 1) := dk_42 (dk_at dksX0_of_0 21 rfl rfl)
theorem dX0_of_22 : decode cX0_of 22 = .ok (.getfield 94, 3) := dk_180 0 94 (dk_at dksX0_of_1 0 rfl rfl)
theorem dX0_of_25 : decode cX0_of 25 = .ok (.aload_n 0, 1) := dk_42 (dk_at dksX0_of_1 3 rfl rfl)
theorem dX0_of_26 : decode cX0_of 26 = .ok (.getfield 75, 3) := dk_180 0 75 (dk_at dksX0_of_1 4 rfl rfl)
theorem dX0_of_29 : decode cX0_of 29 = .ok (.invokevirtual 365, 3) := dk_182 1 109 (dk_at dksX0_of_1 7 rfl rfl)
theorem dX0_of_32 : decode cX0_of 32 = .ok (.pop, 1) := dk_87 (dk_at dksX0_of_1 10 rfl rfl)
theorem dX0_of_33 : decode cX0_of 33 = .ok (.iload_n 2, 1) := dk_28 (dk_at dksX0_of_1 11 rfl rfl)
theorem dX0_of_34 : decode cX0_of 34 = .ok (.tableswitch 166 0 8 #[50, 60, 76, 94, 112, 130, 140, 146, 156], 50) := by decide +kernel
theorem dX0_of_84 : decode cX0_of 84 = .ok (.aload_n 0, 1) := dk_42 (dk_at dksX0_of_3 0 rfl rfl)
theorem dX0_of_85 : decode cX0_of 85 = .ok (.getfield 75, 3) := dk_180 0 75 (dk_at dksX0_of_3 1 rfl rfl)
theorem dX0_of_88 : decode cX0_of 88 = .ok (.getfield 312, 3) := dk_180 1 56 (dk_at dksX0_of_3 4 rfl rfl)
theorem dX0_of_91 : decode cX0_of 91 = .ok (.iload_n 1, 1) := dk_27 (dk_at dksX0_of_3 7 rfl rfl)
theorem dX0_of_92 : decode cX0_of 92 = .ok (.iaload, 1) := dk_46 (dk_at dksX0_of_3 8 rfl rfl)
theorem dX0_of_93 : decode cX0_of 93 = .ok (.ireturn, 1) := dk_172 (dk_at dksX0_of_3 9 rfl rfl)
theorem dX0_of_94 : decode cX0_of 94 = .ok (.aload_n 0, 1) := dk_42 (dk_at dksX0_of_3 10 rfl rfl)
theorem dX0_of_95 : decode cX0_of 95 = .ok (.getfield 75, 3) := dk_180 0 75 (dk_at dksX0_of_3 11 rfl rfl)
theorem dX0_of_98 : decode cX0_of 98 = .ok (.iload_n 1, 1) := dk_27 (dk_at dksX0_of_3 14 rfl rfl)
theorem dX0_of_99 : decode cX0_of 99 = .ok (.bipush 10, 2) := dk_16 10 (dk_at dksX0_of_3 15 rfl rfl)
theorem dX0_of_101 : decode cX0_of 101 = .ok (.irem, 1) := dk_112 (dk_at dksX0_of_3 17 rfl rfl)
theorem dX0_of_102 : decode cX0_of 102 = .ok (.iload_n 1, 1) := dk_27 (dk_at dksX0_of_3 18 rfl rfl)
theorem dX0_of_103 : decode cX0_of 103 = .ok (.bipush 10, 2) := dk_16 10 (dk_at dksX0_of_3 19 rfl rfl)
theorem dX0_of_105 : decode cX0_of 105 = .ok (.idiv, 1) := dk_108 (dk_at dksX0_of_3 21 rfl rfl)
theorem dX0_of_106 : decode cX0_of 106 = .ok (.invokevirtual 384, 3) := dk_182 1 128 (dk_at dksX0_of_4 0 rfl rfl)
theorem dX0_of_109 : decode cX0_of 109 = .ok (.ireturn, 1) := dk_172 (dk_at dksX0_of_4 3 rfl rfl)
theorem dX0_of_110 : decode cX0_of 110 = .ok (.aload_n 0, 1) := dk_42 (dk_at dksX0_of_4 4 rfl rfl)
theorem dX0_of_111 : decode cX0_of 111 = .ok (.getfield 75, 3) := dk_180 0 75 (dk_at dksX0_of_4 5 rfl rfl)
theorem dX0_of_114 : decode cX0_of 114 = .ok (.getfield 322, 3) := dk_180 1 66 (dk_at dksX0_of_4 8 rfl rfl)
theorem dX0_of_117 : decode cX0_of 117 = .ok (.iload_n 1, 1) := dk_27 (dk_at dksX0_of_4 11 rfl rfl)
theorem dX0_of_118 : decode cX0_of 118 = .ok (.baload, 1) := dk_51 (dk_at dksX0_of_4 12 rfl rfl)
theorem dX0_of_119 : decode cX0_of 119 = .ok (.ifCond .eq 7, 3) := dk_153 0 7 (dk_at dksX0_of_4 13 rfl rfl)
theorem dX0_of_122 : decode cX0_of 122 = .ok (.iconst 1, 1) := dk_4 (dk_at dksX0_of_4 16 rfl rfl)
theorem dX0_of_123 : decode cX0_of 123 = .ok (.goto 4, 3) := dk_167 0 4 (dk_at dksX0_of_4 17 rfl rfl)
theorem dX0_of_126 : decode cX0_of 126 = .ok (.iconst 0, 1) := dk_3 (dk_at dksX0_of_4 20 rfl rfl)
theorem dX0_of_127 : decode cX0_of 127 = .ok (.ireturn, 1) := dk_172 (dk_at dksX0_of_4 21 rfl rfl)
theorem dX0_of_128 : decode cX0_of 128 = .ok (.aload_n 0, 1) := dk_42 (dk_at dksX0_of_4 22 rfl rfl)
theorem dX0_of_129 : decode cX0_of 129 = .ok (.getfield 75, 3) := dk_180 0 75 (dk_at dksX0_of_5 0 rfl rfl)
theorem dX0_of_132 : decode cX0_of 132 = .ok (.getfield 329, 3) := dk_180 1 73 (dk_at dksX0_of_5 3 rfl rfl)
theorem dX0_of_135 : decode cX0_of 135 = .ok (.iload_n 1, 1) := dk_27 (dk_at dksX0_of_5 6 rfl rfl)
theorem dX0_of_136 : decode cX0_of 136 = .ok (.baload, 1) := dk_51 (dk_at dksX0_of_5 7 rfl rfl)
theorem dX0_of_137 : decode cX0_of 137 = .ok (.ifCond .eq 7, 3) := dk_153 0 7 (dk_at dksX0_of_5 8 rfl rfl)
theorem dX0_of_140 : decode cX0_of 140 = .ok (.iconst 1, 1) := dk_4 (dk_at dksX0_of_5 11 rfl rfl)
theorem dX0_of_141 : decode cX0_of 141 = .ok (.goto 4, 3) := dk_167 0 4 (dk_at dksX0_of_5 12 rfl rfl)
theorem dX0_of_144 : decode cX0_of 144 = .ok (.iconst 0, 1) := dk_3 (dk_at dksX0_of_5 15 rfl rfl)
theorem dX0_of_145 : decode cX0_of 145 = .ok (.ireturn, 1) := dk_172 (dk_at dksX0_of_5 16 rfl rfl)
theorem dX0_of_146 : decode cX0_of 146 = .ok (.aload_n 0, 1) := dk_42 (dk_at dksX0_of_5 17 rfl rfl)
theorem dX0_of_147 : decode cX0_of 147 = .ok (.getfield 75, 3) := dk_180 0 75 (dk_at dksX0_of_5 18 rfl rfl)
theorem dX0_of_150 : decode cX0_of 150 = .ok (.getfield 318, 3) := dk_180 1 62 (dk_at dksX0_of_5 21 rfl rfl)
theorem dX0_of_153 : decode cX0_of 153 = .ok (.iload_n 1, 1) := dk_27 (dk_at dksX0_of_6 0 rfl rfl)
theorem dX0_of_154 : decode cX0_of 154 = .ok (.baload, 1) := dk_51 (dk_at dksX0_of_6 1 rfl rfl)
theorem dX0_of_155 : decode cX0_of 155 = .ok (.ifCond .eq 7, 3) := dk_153 0 7 (dk_at dksX0_of_6 2 rfl rfl)
theorem dX0_of_158 : decode cX0_of 158 = .ok (.iconst 1, 1) := dk_4 (dk_at dksX0_of_6 5 rfl rfl)
theorem dX0_of_159 : decode cX0_of 159 = .ok (.goto 4, 3) := dk_167 0 4 (dk_at dksX0_of_6 6 rfl rfl)
theorem dX0_of_162 : decode cX0_of 162 = .ok (.iconst 0, 1) := dk_3 (dk_at dksX0_of_6 9 rfl rfl)
theorem dX0_of_163 : decode cX0_of 163 = .ok (.ireturn, 1) := dk_172 (dk_at dksX0_of_6 10 rfl rfl)
theorem dX0_of_164 : decode cX0_of 164 = .ok (.aload_n 0, 1) := dk_42 (dk_at dksX0_of_6 11 rfl rfl)
theorem dX0_of_165 : decode cX0_of 165 = .ok (.getfield 94, 3) := dk_180 0 94 (dk_at dksX0_of_6 12 rfl rfl)
theorem dX0_of_168 : decode cX0_of 168 = .ok (.getfield 369, 3) := dk_180 1 113 (dk_at dksX0_of_6 15 rfl rfl)
theorem dX0_of_171 : decode cX0_of 171 = .ok (.iload_n 1, 1) := dk_27 (dk_at dksX0_of_6 18 rfl rfl)
theorem dX0_of_172 : decode cX0_of 172 = .ok (.iaload, 1) := dk_46 (dk_at dksX0_of_6 19 rfl rfl)
theorem dX0_of_173 : decode cX0_of 173 = .ok (.ireturn, 1) := dk_172 (dk_at dksX0_of_6 20 rfl rfl)
theorem dX0_of_174 : decode cX0_of 174 = .ok (.aload_n 0, 1) := dk_42 (dk_at dksX0_of_6 21 rfl rfl)
theorem dX0_of_175 : decode cX0_of 175 = .ok (.iload_n 1, 1) := dk_27 (dk_at dksX0_of_6 22 rfl rfl)
theorem dX0_of_176 : decode cX0_of 176 = .ok (.invokevirtual 387, 3) := dk_182 1 131 (dk_at dksX0_of_7 0 rfl rfl)
theorem dX0_of_179 : decode cX0_of 179 = .ok (.ireturn, 1) := dk_172 (dk_at dksX0_of_7 3 rfl rfl)
theorem dX0_of_180 : decode cX0_of 180 = .ok (.aload_n 0, 1) := dk_42 (dk_at dksX0_of_7 4 rfl rfl)
theorem dX0_of_181 : decode cX0_of 181 = .ok (.getfield 75, 3) := dk_180 0 75 (dk_at dksX0_of_7 5 rfl rfl)
theorem dX0_of_184 : decode cX0_of 184 = .ok (.getfield 372, 3) := dk_180 1 116 (dk_at dksX0_of_7 8 rfl rfl)
theorem dX0_of_187 : decode cX0_of 187 = .ok (.iload_n 1, 1) := dk_27 (dk_at dksX0_of_7 11 rfl rfl)
theorem dX0_of_188 : decode cX0_of 188 = .ok (.iaload, 1) := dk_46 (dk_at dksX0_of_7 12 rfl rfl)
theorem dX0_of_189 : decode cX0_of 189 = .ok (.ireturn, 1) := dk_172 (dk_at dksX0_of_7 13 rfl rfl)
theorem dX0_of_190 : decode cX0_of 190 = .ok (.aload_n 0, 1) := dk_42 (dk_at dksX0_of_7 14 rfl rfl)
theorem dX0_of_191 : decode cX0_of 191 = .ok (.getfield 75, 3) := dk_180 0 75 (dk_at dksX0_of_7 15 rfl rfl)
theorem dX0_of_194 : decode cX0_of 194 = .ok (.getfield 315, 3) := dk_180 1 59 (dk_at dksX0_of_7 18 rfl rfl)
theorem dX0_of_197 : decode cX0_of 197 = .ok (.iload_n 1, 1) := dk_27 (dk_at dksX0_of_7 21 rfl rfl)
theorem dX0_of_198 : decode cX0_of 198 = .ok (.iaload, 1) := dk_46 (dk_at dksX0_of_7 22 rfl rfl)
theorem dX0_of_199 : decode cX0_of 199 = .ok (.ireturn, 1) := dk_172 (dk_at dksX0_of_7 23 rfl rfl)
theorem dX0_of_200 : decode cX0_of 200 = .ok (.iconst (-1), 1) := dk_2 (dk_at dksX0_of_8 0 rfl rfl)
theorem dX0_of_201 : decode cX0_of 201 = .ok (.ireturn, 1) := dk_172 (dk_at dksX0_of_8 1 rfl rfl)
abbrev cX0_sizeOf : ByteArray := prog_1_method_42_code
def yX0_sizeOf : MethodName := ⟨RX0, "sizeOf", "(I)I"⟩
def dkwX0_sizeOf_1 : List UInt8 := [180, 1, 113, 27, 46, 160, 0, 7, 4, 167, 0, 4, 3, 96, 61, 132, 3, 1, 167, 255, 218, 28, 172]
abbrev dktX0_sizeOf_1 : List UInt8 := dkwX0_sizeOf_1 ++ []
def dkwX0_sizeOf_0 : List UInt8 := [3, 61, 3, 62, 29, 16, 100, 162, 0, 38, 28, 42, 180, 0, 94, 180, 1, 113, 29, 46, 42, 180, 0, 94]
abbrev dktX0_sizeOf_0 : List UInt8 := dkwX0_sizeOf_0 ++ dktX0_sizeOf_1
theorem dksX0_sizeOf_0 : cX0_sizeOf.data.toList.drop 0 = dktX0_sizeOf_0 := by decide +kernel
theorem dksX0_sizeOf_1 : cX0_sizeOf.data.toList.drop 24 = dktX0_sizeOf_1 := dk_seg dksX0_sizeOf_0 24 rfl rfl
theorem dX0_sizeOf_0 : decode cX0_sizeOf 0 = .ok (.iconst 0, 1) := dk_3 (dk_at dksX0_sizeOf_0 0 rfl rfl)
theorem dX0_sizeOf_1 : decode cX0_sizeOf 1 = .ok (.istore_n 2, 1) := dk_61 (dk_at dksX0_sizeOf_0 1 rfl rfl)
theorem dX0_sizeOf_2 : decode cX0_sizeOf 2 = .ok (.iconst 0, 1) := dk_3 (dk_at dksX0_sizeOf_0 2 rfl rfl)
theorem dX0_sizeOf_3 : decode cX0_sizeOf 3 = .ok (.istore_n 3, 1) := dk_62 (dk_at dksX0_sizeOf_0 3 rfl rfl)
theorem dX0_sizeOf_4 : decode cX0_sizeOf 4 = .ok (.iload_n 3, 1) := dk_29 (dk_at dksX0_sizeOf_0 4 rfl rfl)
theorem dX0_sizeOf_5 : decode cX0_sizeOf 5 = .ok (.bipush 100, 2) := dk_16 100 (dk_at dksX0_sizeOf_0 5 rfl rfl)
theorem dX0_sizeOf_7 : decode cX0_sizeOf 7 = .ok (.if_icmp .ge 38, 3) := dk_162 0 38 (dk_at dksX0_sizeOf_0 7 rfl rfl)
theorem dX0_sizeOf_10 : decode cX0_sizeOf 10 = .ok (.iload_n 2, 1) := dk_28 (dk_at dksX0_sizeOf_0 10 rfl rfl)
theorem dX0_sizeOf_11 : decode cX0_sizeOf 11 = .ok (.aload_n 0, 1) := dk_42 (dk_at dksX0_sizeOf_0 11 rfl rfl)
theorem dX0_sizeOf_12 : decode cX0_sizeOf 12 = .ok (.getfield 94, 3) := dk_180 0 94 (dk_at dksX0_sizeOf_0 12 rfl rfl)
theorem dX0_sizeOf_15 : decode cX0_sizeOf 15 = .ok (.getfield 369, 3) := dk_180 1 113 (dk_at dksX0_sizeOf_0 15 rfl rfl)
theorem dX0_sizeOf_18 : decode cX0_sizeOf 18 = .ok (.iload_n 3, 1) := dk_29 (dk_at dksX0_sizeOf_0 18 rfl rfl)
theorem dX0_sizeOf_19 : decode cX0_sizeOf 19 = .ok (.iaload, 1) := dk_46 (dk_at dksX0_sizeOf_0 19 rfl rfl)
theorem dX0_sizeOf_20 : decode cX0_sizeOf 20 = .ok (.aload_n 0, 1) := dk_42 (dk_at dksX0_sizeOf_0 20 rfl rfl)
theorem dX0_sizeOf_21 : decode cX0_sizeOf 21 = .ok (.getfield 94, 3) := dk_180 0 94 (dk_at dksX0_sizeOf_0 21 rfl rfl)
theorem dX0_sizeOf_24 : decode cX0_sizeOf 24 = .ok (.getfield 369, 3) := dk_180 1 113 (dk_at dksX0_sizeOf_1 0 rfl rfl)
theorem dX0_sizeOf_27 : decode cX0_sizeOf 27 = .ok (.iload_n 1, 1) := dk_27 (dk_at dksX0_sizeOf_1 3 rfl rfl)
theorem dX0_sizeOf_28 : decode cX0_sizeOf 28 = .ok (.iaload, 1) := dk_46 (dk_at dksX0_sizeOf_1 4 rfl rfl)
theorem dX0_sizeOf_29 : decode cX0_sizeOf 29 = .ok (.if_icmp .ne 7, 3) := dk_160 0 7 (dk_at dksX0_sizeOf_1 5 rfl rfl)
theorem dX0_sizeOf_32 : decode cX0_sizeOf 32 = .ok (.iconst 1, 1) := dk_4 (dk_at dksX0_sizeOf_1 8 rfl rfl)
theorem dX0_sizeOf_33 : decode cX0_sizeOf 33 = .ok (.goto 4, 3) := dk_167 0 4 (dk_at dksX0_sizeOf_1 9 rfl rfl)
theorem dX0_sizeOf_36 : decode cX0_sizeOf 36 = .ok (.iconst 0, 1) := dk_3 (dk_at dksX0_sizeOf_1 12 rfl rfl)
theorem dX0_sizeOf_37 : decode cX0_sizeOf 37 = .ok (.iadd, 1) := dk_96 (dk_at dksX0_sizeOf_1 13 rfl rfl)
theorem dX0_sizeOf_38 : decode cX0_sizeOf 38 = .ok (.istore_n 2, 1) := dk_61 (dk_at dksX0_sizeOf_1 14 rfl rfl)
theorem dX0_sizeOf_39 : decode cX0_sizeOf 39 = .ok (.iinc 3 1, 3) := dk_132 3 1 (dk_at dksX0_sizeOf_1 15 rfl rfl)
theorem dX0_sizeOf_42 : decode cX0_sizeOf 42 = .ok (.goto (-38), 3) := dk_167 255 218 (dk_at dksX0_sizeOf_1 18 rfl rfl)
theorem dX0_sizeOf_45 : decode cX0_sizeOf 45 = .ok (.iload_n 2, 1) := dk_28 (dk_at dksX0_sizeOf_1 21 rfl rfl)
theorem dX0_sizeOf_46 : decode cX0_sizeOf 46 = .ok (.ireturn, 1) := dk_172 (dk_at dksX0_sizeOf_1 22 rfl rfl)
abbrev cX0_yard : ByteArray := prog_1_method_44_code
def yX0_yard : MethodName := ⟨RX0, "yard", "(IIII)I"⟩
def dkwX0_yard_4 : List UInt8 := [180, 0, 94, 180, 1, 144, 21, 5, 46, 167, 0, 13, 42, 180, 0, 94, 180, 1, 147, 21, 5, 46, 172]
abbrev dktX0_yard_4 : List UInt8 := dkwX0_yard_4 ++ []
def dkwX0_yard_3 : List UInt8 := [54, 5, 21, 4, 153, 0, 17, 42, 180, 0, 94, 180, 1, 144, 21, 5, 46, 2, 160, 0, 16, 42]
abbrev dktX0_yard_3 : List UInt8 := dkwX0_yard_3 ++ dktX0_yard_4
def dkwX0_yard_2 : List UInt8 := [21, 4, 3, 4, 184, 0, 128, 154, 0, 6, 16, 254, 172, 42, 180, 0, 94, 27, 28, 29, 182, 1, 140]
abbrev dktX0_yard_2 : List UInt8 := dkwX0_yard_2 ++ dktX0_yard_3
def dkwX0_yard_1 : List UInt8 := [180, 0, 75, 27, 178, 1, 134, 29, 46, 96, 28, 178, 1, 137, 29, 46, 96, 182, 1, 79, 153, 0, 13]
abbrev dktX0_yard_1 : List UInt8 := dkwX0_yard_1 ++ dktX0_yard_2
def dkwX0_yard_0 : List UInt8 := [42, 180, 0, 75, 27, 28, 182, 1, 79, 153, 0, 46, 29, 3, 6, 184, 0, 128, 153, 0, 37, 42]
abbrev dktX0_yard_0 : List UInt8 := dkwX0_yard_0 ++ dktX0_yard_1
theorem dksX0_yard_0 : cX0_yard.data.toList.drop 0 = dktX0_yard_0 := by decide +kernel
theorem dksX0_yard_1 : cX0_yard.data.toList.drop 22 = dktX0_yard_1 := dk_seg dksX0_yard_0 22 rfl rfl
theorem dksX0_yard_2 : cX0_yard.data.toList.drop 45 = dktX0_yard_2 := dk_seg dksX0_yard_1 23 rfl rfl
theorem dksX0_yard_3 : cX0_yard.data.toList.drop 68 = dktX0_yard_3 := dk_seg dksX0_yard_2 23 rfl rfl
theorem dksX0_yard_4 : cX0_yard.data.toList.drop 90 = dktX0_yard_4 := dk_seg dksX0_yard_3 22 rfl rfl
theorem dX0_yard_0 : decode cX0_yard 0 = .ok (.aload_n 0, 1) := dk_42 (dk_at dksX0_yard_0 0 rfl rfl)
theorem dX0_yard_1 : decode cX0_yard 1 = .ok (.getfield 75, 3) := dk_180 0 75 (dk_at dksX0_yard_0 1 rfl rfl)
theorem dX0_yard_4 : decode cX0_yard 4 = .ok (.iload_n 1, 1) := dk_27 (dk_at dksX0_yard_0 4 rfl rfl)
theorem dX0_yard_5 : decode cX0_yard 5 = .ok (.iload_n 2, 1) := dk_28 (dk_at dksX0_yard_0 5 rfl rfl)
theorem dX0_yard_6 : decode cX0_yard 6 = .ok (.invokevirtual 335, 3) := dk_182 1 79 (dk_at dksX0_yard_0 6 rfl rfl)
theorem dX0_yard_9 : decode cX0_yard 9 = .ok (.ifCond .eq 46, 3) := dk_153 0 46 (dk_at dksX0_yard_0 9 rfl rfl)
theorem dX0_yard_12 : decode cX0_yard 12 = .ok (.iload_n 3, 1) := dk_29 (dk_at dksX0_yard_0 12 rfl rfl)
theorem dX0_yard_13 : decode cX0_yard 13 = .ok (.iconst 0, 1) := dk_3 (dk_at dksX0_yard_0 13 rfl rfl)
theorem dX0_yard_14 : decode cX0_yard 14 = .ok (.iconst 3, 1) := dk_6 (dk_at dksX0_yard_0 14 rfl rfl)
theorem dX0_yard_15 : decode cX0_yard 15 = .ok (.invokestatic 128, 3) := dk_184 0 128 (dk_at dksX0_yard_0 15 rfl rfl)
theorem dX0_yard_18 : decode cX0_yard 18 = .ok (.ifCond .eq 37, 3) := dk_153 0 37 (dk_at dksX0_yard_0 18 rfl rfl)
theorem dX0_yard_21 : decode cX0_yard 21 = .ok (.aload_n 0, 1) := dk_42 (dk_at dksX0_yard_0 21 rfl rfl)
theorem dX0_yard_22 : decode cX0_yard 22 = .ok (.getfield 75, 3) := dk_180 0 75 (dk_at dksX0_yard_1 0 rfl rfl)
theorem dX0_yard_25 : decode cX0_yard 25 = .ok (.iload_n 1, 1) := dk_27 (dk_at dksX0_yard_1 3 rfl rfl)
theorem dX0_yard_26 : decode cX0_yard 26 = .ok (.getstatic 390, 3) := dk_178 1 134 (dk_at dksX0_yard_1 4 rfl rfl)
theorem dX0_yard_29 : decode cX0_yard 29 = .ok (.iload_n 3, 1) := dk_29 (dk_at dksX0_yard_1 7 rfl rfl)
theorem dX0_yard_30 : decode cX0_yard 30 = .ok (.iaload, 1) := dk_46 (dk_at dksX0_yard_1 8 rfl rfl)
theorem dX0_yard_31 : decode cX0_yard 31 = .ok (.iadd, 1) := dk_96 (dk_at dksX0_yard_1 9 rfl rfl)
theorem dX0_yard_32 : decode cX0_yard 32 = .ok (.iload_n 2, 1) := dk_28 (dk_at dksX0_yard_1 10 rfl rfl)
theorem dX0_yard_33 : decode cX0_yard 33 = .ok (.getstatic 393, 3) := dk_178 1 137 (dk_at dksX0_yard_1 11 rfl rfl)
theorem dX0_yard_36 : decode cX0_yard 36 = .ok (.iload_n 3, 1) := dk_29 (dk_at dksX0_yard_1 14 rfl rfl)
theorem dX0_yard_37 : decode cX0_yard 37 = .ok (.iaload, 1) := dk_46 (dk_at dksX0_yard_1 15 rfl rfl)
theorem dX0_yard_38 : decode cX0_yard 38 = .ok (.iadd, 1) := dk_96 (dk_at dksX0_yard_1 16 rfl rfl)
theorem dX0_yard_39 : decode cX0_yard 39 = .ok (.invokevirtual 335, 3) := dk_182 1 79 (dk_at dksX0_yard_1 17 rfl rfl)
theorem dX0_yard_42 : decode cX0_yard 42 = .ok (.ifCond .eq 13, 3) := dk_153 0 13 (dk_at dksX0_yard_1 20 rfl rfl)
theorem dX0_yard_45 : decode cX0_yard 45 = .ok (.iload 4, 2) := dk_21 4 (dk_at dksX0_yard_2 0 rfl rfl)
theorem dX0_yard_47 : decode cX0_yard 47 = .ok (.iconst 0, 1) := dk_3 (dk_at dksX0_yard_2 2 rfl rfl)
theorem dX0_yard_48 : decode cX0_yard 48 = .ok (.iconst 1, 1) := dk_4 (dk_at dksX0_yard_2 3 rfl rfl)
theorem dX0_yard_49 : decode cX0_yard 49 = .ok (.invokestatic 128, 3) := dk_184 0 128 (dk_at dksX0_yard_2 4 rfl rfl)
theorem dX0_yard_52 : decode cX0_yard 52 = .ok (.ifCond .ne 6, 3) := dk_154 0 6 (dk_at dksX0_yard_2 7 rfl rfl)
theorem dX0_yard_55 : decode cX0_yard 55 = .ok (.bipush (-2), 2) := dk_16 254 (dk_at dksX0_yard_2 10 rfl rfl)
theorem dX0_yard_57 : decode cX0_yard 57 = .ok (.ireturn, 1) := dk_172 (dk_at dksX0_yard_2 12 rfl rfl)
theorem dX0_yard_58 : decode cX0_yard 58 = .ok (.aload_n 0, 1) := dk_42 (dk_at dksX0_yard_2 13 rfl rfl)
theorem dX0_yard_59 : decode cX0_yard 59 = .ok (.getfield 94, 3) := dk_180 0 94 (dk_at dksX0_yard_2 14 rfl rfl)
theorem dX0_yard_62 : decode cX0_yard 62 = .ok (.iload_n 1, 1) := dk_27 (dk_at dksX0_yard_2 17 rfl rfl)
theorem dX0_yard_63 : decode cX0_yard 63 = .ok (.iload_n 2, 1) := dk_28 (dk_at dksX0_yard_2 18 rfl rfl)
theorem dX0_yard_64 : decode cX0_yard 64 = .ok (.iload_n 3, 1) := dk_29 (dk_at dksX0_yard_2 19 rfl rfl)
theorem dX0_yard_65 : decode cX0_yard 65 = .ok (.invokevirtual 396, 3) := dk_182 1 140 (dk_at dksX0_yard_2 20 rfl rfl)
theorem dX0_yard_68 : decode cX0_yard 68 = .ok (.istore 5, 2) := dk_54 5 (dk_at dksX0_yard_3 0 rfl rfl)
theorem dX0_yard_70 : decode cX0_yard 70 = .ok (.iload 4, 2) := dk_21 4 (dk_at dksX0_yard_3 2 rfl rfl)
theorem dX0_yard_72 : decode cX0_yard 72 = .ok (.ifCond .eq 17, 3) := dk_153 0 17 (dk_at dksX0_yard_3 4 rfl rfl)
theorem dX0_yard_75 : decode cX0_yard 75 = .ok (.aload_n 0, 1) := dk_42 (dk_at dksX0_yard_3 7 rfl rfl)
theorem dX0_yard_76 : decode cX0_yard 76 = .ok (.getfield 94, 3) := dk_180 0 94 (dk_at dksX0_yard_3 8 rfl rfl)
theorem dX0_yard_79 : decode cX0_yard 79 = .ok (.getfield 400, 3) := dk_180 1 144 (dk_at dksX0_yard_3 11 rfl rfl)
theorem dX0_yard_82 : decode cX0_yard 82 = .ok (.iload 5, 2) := dk_21 5 (dk_at dksX0_yard_3 14 rfl rfl)
theorem dX0_yard_84 : decode cX0_yard 84 = .ok (.iaload, 1) := dk_46 (dk_at dksX0_yard_3 16 rfl rfl)
theorem dX0_yard_85 : decode cX0_yard 85 = .ok (.iconst (-1), 1) := dk_2 (dk_at dksX0_yard_3 17 rfl rfl)
theorem dX0_yard_86 : decode cX0_yard 86 = .ok (.if_icmp .ne 16, 3) := dk_160 0 16 (dk_at dksX0_yard_3 18 rfl rfl)
theorem dX0_yard_89 : decode cX0_yard 89 = .ok (.aload_n 0, 1) := dk_42 (dk_at dksX0_yard_3 21 rfl rfl)
theorem dX0_yard_90 : decode cX0_yard 90 = .ok (.getfield 94, 3) := dk_180 0 94 (dk_at dksX0_yard_4 0 rfl rfl)
theorem dX0_yard_93 : decode cX0_yard 93 = .ok (.getfield 400, 3) := dk_180 1 144 (dk_at dksX0_yard_4 3 rfl rfl)
theorem dX0_yard_96 : decode cX0_yard 96 = .ok (.iload 5, 2) := dk_21 5 (dk_at dksX0_yard_4 6 rfl rfl)
theorem dX0_yard_98 : decode cX0_yard 98 = .ok (.iaload, 1) := dk_46 (dk_at dksX0_yard_4 8 rfl rfl)
theorem dX0_yard_99 : decode cX0_yard 99 = .ok (.goto 13, 3) := dk_167 0 13 (dk_at dksX0_yard_4 9 rfl rfl)
theorem dX0_yard_102 : decode cX0_yard 102 = .ok (.aload_n 0, 1) := dk_42 (dk_at dksX0_yard_4 12 rfl rfl)
theorem dX0_yard_103 : decode cX0_yard 103 = .ok (.getfield 94, 3) := dk_180 0 94 (dk_at dksX0_yard_4 13 rfl rfl)
theorem dX0_yard_106 : decode cX0_yard 106 = .ok (.getfield 403, 3) := dk_180 1 147 (dk_at dksX0_yard_4 16 rfl rfl)
theorem dX0_yard_109 : decode cX0_yard 109 = .ok (.iload 5, 2) := dk_21 5 (dk_at dksX0_yard_4 19 rfl rfl)
theorem dX0_yard_111 : decode cX0_yard 111 = .ok (.iaload, 1) := dk_46 (dk_at dksX0_yard_4 21 rfl rfl)
theorem dX0_yard_112 : decode cX0_yard 112 = .ok (.ireturn, 1) := dk_172 (dk_at dksX0_yard_4 22 rfl rfl)
abbrev cX0_suit : ByteArray := prog_1_method_46_code
def yX0_suit : MethodName := ⟨RX0, "suit", "(II)I"⟩
def dkwX0_suit_3 : List UInt8 := [8, 27, 104, 6, 96, 46, 182, 1, 158, 172]
abbrev dktX0_suit_3 : List UInt8 := dkwX0_suit_3 ++ []
def dkwX0_suit_2 : List UInt8 := [167, 0, 33, 42, 42, 180, 0, 94, 180, 1, 155, 8, 27, 104, 5, 96, 46, 42, 180, 0, 94, 180, 1, 155]
abbrev dktX0_suit_2 : List UInt8 := dkwX0_suit_2 ++ dktX0_suit_3
def dkwX0_suit_1 : List UInt8 := [154, 0, 5, 2, 172, 28, 8, 162, 0, 19, 42, 180, 0, 94, 180, 1, 155, 8, 27, 104, 28, 96, 46]
abbrev dktX0_suit_1 : List UInt8 := dkwX0_suit_1 ++ dktX0_suit_2
def dkwX0_suit_0 : List UInt8 := [27, 3, 42, 180, 0, 94, 180, 1, 152, 4, 100, 184, 0, 128, 153, 0, 12, 28, 3, 8, 184, 0, 128]
abbrev dktX0_suit_0 : List UInt8 := dkwX0_suit_0 ++ dktX0_suit_1
theorem dksX0_suit_0 : cX0_suit.data.toList.drop 0 = dktX0_suit_0 := by decide +kernel
theorem dksX0_suit_1 : cX0_suit.data.toList.drop 23 = dktX0_suit_1 := dk_seg dksX0_suit_0 23 rfl rfl
theorem dksX0_suit_2 : cX0_suit.data.toList.drop 46 = dktX0_suit_2 := dk_seg dksX0_suit_1 23 rfl rfl
theorem dksX0_suit_3 : cX0_suit.data.toList.drop 70 = dktX0_suit_3 := dk_seg dksX0_suit_2 24 rfl rfl
theorem dX0_suit_0 : decode cX0_suit 0 = .ok (.iload_n 1, 1) := dk_27 (dk_at dksX0_suit_0 0 rfl rfl)
theorem dX0_suit_1 : decode cX0_suit 1 = .ok (.iconst 0, 1) := dk_3 (dk_at dksX0_suit_0 1 rfl rfl)
theorem dX0_suit_2 : decode cX0_suit 2 = .ok (.aload_n 0, 1) := dk_42 (dk_at dksX0_suit_0 2 rfl rfl)
theorem dX0_suit_3 : decode cX0_suit 3 = .ok (.getfield 94, 3) := dk_180 0 94 (dk_at dksX0_suit_0 3 rfl rfl)
theorem dX0_suit_6 : decode cX0_suit 6 = .ok (.getfield 408, 3) := dk_180 1 152 (dk_at dksX0_suit_0 6 rfl rfl)
theorem dX0_suit_9 : decode cX0_suit 9 = .ok (.iconst 1, 1) := dk_4 (dk_at dksX0_suit_0 9 rfl rfl)
theorem dX0_suit_10 : decode cX0_suit 10 = .ok (.isub, 1) := dk_100 (dk_at dksX0_suit_0 10 rfl rfl)
theorem dX0_suit_11 : decode cX0_suit 11 = .ok (.invokestatic 128, 3) := dk_184 0 128 (dk_at dksX0_suit_0 11 rfl rfl)
theorem dX0_suit_14 : decode cX0_suit 14 = .ok (.ifCond .eq 12, 3) := dk_153 0 12 (dk_at dksX0_suit_0 14 rfl rfl)
theorem dX0_suit_17 : decode cX0_suit 17 = .ok (.iload_n 2, 1) := dk_28 (dk_at dksX0_suit_0 17 rfl rfl)
theorem dX0_suit_18 : decode cX0_suit 18 = .ok (.iconst 0, 1) := dk_3 (dk_at dksX0_suit_0 18 rfl rfl)
theorem dX0_suit_19 : decode cX0_suit 19 = .ok (.iconst 5, 1) := dk_8 (dk_at dksX0_suit_0 19 rfl rfl)
theorem dX0_suit_20 : decode cX0_suit 20 = .ok (.invokestatic 128, 3) := dk_184 0 128 (dk_at dksX0_suit_0 20 rfl rfl)
theorem dX0_suit_23 : decode cX0_suit 23 = .ok (.ifCond .ne 5, 3) := dk_154 0 5 (dk_at dksX0_suit_1 0 rfl rfl)
theorem dX0_suit_26 : decode cX0_suit 26 = .ok (.iconst (-1), 1) := dk_2 (dk_at dksX0_suit_1 3 rfl rfl)
theorem dX0_suit_27 : decode cX0_suit 27 = .ok (.ireturn, 1) := dk_172 (dk_at dksX0_suit_1 4 rfl rfl)
theorem dX0_suit_28 : decode cX0_suit 28 = .ok (.iload_n 2, 1) := dk_28 (dk_at dksX0_suit_1 5 rfl rfl)
theorem dX0_suit_29 : decode cX0_suit 29 = .ok (.iconst 5, 1) := dk_8 (dk_at dksX0_suit_1 6 rfl rfl)
theorem dX0_suit_30 : decode cX0_suit 30 = .ok (.if_icmp .ge 19, 3) := dk_162 0 19 (dk_at dksX0_suit_1 7 rfl rfl)
theorem dX0_suit_33 : decode cX0_suit 33 = .ok (.aload_n 0, 1) := dk_42 (dk_at dksX0_suit_1 10 rfl rfl)
theorem dX0_suit_34 : decode cX0_suit 34 = .ok (.getfield 94, 3) := dk_180 0 94 (dk_at dksX0_suit_1 11 rfl rfl)
theorem dX0_suit_37 : decode cX0_suit 37 = .ok (.getfield 411, 3) := dk_180 1 155 (dk_at dksX0_suit_1 14 rfl rfl)
theorem dX0_suit_40 : decode cX0_suit 40 = .ok (.iconst 5, 1) := dk_8 (dk_at dksX0_suit_1 17 rfl rfl)
theorem dX0_suit_41 : decode cX0_suit 41 = .ok (.iload_n 1, 1) := dk_27 (dk_at dksX0_suit_1 18 rfl rfl)
theorem dX0_suit_42 : decode cX0_suit 42 = .ok (.imul, 1) := dk_104 (dk_at dksX0_suit_1 19 rfl rfl)
theorem dX0_suit_43 : decode cX0_suit 43 = .ok (.iload_n 2, 1) := dk_28 (dk_at dksX0_suit_1 20 rfl rfl)
theorem dX0_suit_44 : decode cX0_suit 44 = .ok (.iadd, 1) := dk_96 (dk_at dksX0_suit_1 21 rfl rfl)
theorem dX0_suit_45 : decode cX0_suit 45 = .ok (.iaload, 1) := dk_46 (dk_at dksX0_suit_1 22 rfl rfl)
theorem dX0_suit_46 : decode cX0_suit 46 = .ok (.goto 33, 3) := dk_167 0 33 (dk_at dksX0_suit_2 0 rfl rfl)
theorem dX0_suit_49 : decode cX0_suit 49 = .ok (.aload_n 0, 1) := dk_42 (dk_at dksX0_suit_2 3 rfl rfl)
theorem dX0_suit_50 : decode cX0_suit 50 = .ok (.aload_n 0, 1) := dk_42 (dk_at dksX0_suit_2 4 rfl rfl)
theorem dX0_suit_51 : decode cX0_suit 51 = .ok (.getfield 94, 3) := dk_180 0 94 (dk_at dksX0_suit_2 5 rfl rfl)
theorem dX0_suit_54 : decode cX0_suit 54 = .ok (.getfield 411, 3) := dk_180 1 155 (dk_at dksX0_suit_2 8 rfl rfl)
theorem dX0_suit_57 : decode cX0_suit 57 = .ok (.iconst 5, 1) := dk_8 (dk_at dksX0_suit_2 11 rfl rfl)
theorem dX0_suit_58 : decode cX0_suit 58 = .ok (.iload_n 1, 1) := dk_27 (dk_at dksX0_suit_2 12 rfl rfl)
theorem dX0_suit_59 : decode cX0_suit 59 = .ok (.imul, 1) := dk_104 (dk_at dksX0_suit_2 13 rfl rfl)
theorem dX0_suit_60 : decode cX0_suit 60 = .ok (.iconst 2, 1) := dk_5 (dk_at dksX0_suit_2 14 rfl rfl)
theorem dX0_suit_61 : decode cX0_suit 61 = .ok (.iadd, 1) := dk_96 (dk_at dksX0_suit_2 15 rfl rfl)
theorem dX0_suit_62 : decode cX0_suit 62 = .ok (.iaload, 1) := dk_46 (dk_at dksX0_suit_2 16 rfl rfl)
theorem dX0_suit_63 : decode cX0_suit 63 = .ok (.aload_n 0, 1) := dk_42 (dk_at dksX0_suit_2 17 rfl rfl)
theorem dX0_suit_64 : decode cX0_suit 64 = .ok (.getfield 94, 3) := dk_180 0 94 (dk_at dksX0_suit_2 18 rfl rfl)
theorem dX0_suit_67 : decode cX0_suit 67 = .ok (.getfield 411, 3) := dk_180 1 155 (dk_at dksX0_suit_2 21 rfl rfl)
theorem dX0_suit_70 : decode cX0_suit 70 = .ok (.iconst 5, 1) := dk_8 (dk_at dksX0_suit_3 0 rfl rfl)
theorem dX0_suit_71 : decode cX0_suit 71 = .ok (.iload_n 1, 1) := dk_27 (dk_at dksX0_suit_3 1 rfl rfl)
theorem dX0_suit_72 : decode cX0_suit 72 = .ok (.imul, 1) := dk_104 (dk_at dksX0_suit_3 2 rfl rfl)
theorem dX0_suit_73 : decode cX0_suit 73 = .ok (.iconst 3, 1) := dk_6 (dk_at dksX0_suit_3 3 rfl rfl)
theorem dX0_suit_74 : decode cX0_suit 74 = .ok (.iadd, 1) := dk_96 (dk_at dksX0_suit_3 4 rfl rfl)
theorem dX0_suit_75 : decode cX0_suit 75 = .ok (.iaload, 1) := dk_46 (dk_at dksX0_suit_3 5 rfl rfl)
theorem dX0_suit_76 : decode cX0_suit 76 = .ok (.invokevirtual 414, 3) := dk_182 1 158 (dk_at dksX0_suit_3 6 rfl rfl)
theorem dX0_suit_79 : decode cX0_suit 79 = .ok (.ireturn, 1) := dk_172 (dk_at dksX0_suit_3 9 rfl rfl)
abbrev cX0_judgeAt : ByteArray := prog_1_method_45_code
def yX0_judgeAt : MethodName := ⟨RX0, "judgeAt", "(II)I"⟩
def dkwX0_judgeAt_3 : List UInt8 := [21, 6, 54, 4, 132, 5, 1, 167, 255, 186, 29, 172]
abbrev dktX0_judgeAt_3 : List UInt8 := dkwX0_judgeAt_3 ++ []
def dkwX0_judgeAt_2 : List UInt8 := [184, 1, 149, 96, 54, 6, 29, 2, 159, 0, 13, 21, 6, 21, 4, 161, 0, 6, 167, 0, 10, 21, 5, 62]
abbrev dktX0_judgeAt_2 : List UInt8 := dkwX0_judgeAt_2 ++ dktX0_judgeAt_3
def dkwX0_judgeAt_1 : List UInt8 := [180, 1, 88, 21, 5, 46, 27, 100, 184, 1, 149, 42, 180, 0, 75, 180, 1, 91, 21, 5, 46, 28, 100]
abbrev dktX0_judgeAt_1 : List UInt8 := dkwX0_judgeAt_1 ++ dktX0_judgeAt_2
def dkwX0_judgeAt_0 : List UInt8 := [2, 62, 3, 54, 4, 3, 54, 5, 21, 5, 42, 180, 0, 75, 180, 1, 85, 162, 0, 64, 42, 180, 0, 75]
abbrev dktX0_judgeAt_0 : List UInt8 := dkwX0_judgeAt_0 ++ dktX0_judgeAt_1
theorem dksX0_judgeAt_0 : cX0_judgeAt.data.toList.drop 0 = dktX0_judgeAt_0 := by decide +kernel
theorem dksX0_judgeAt_1 : cX0_judgeAt.data.toList.drop 24 = dktX0_judgeAt_1 := dk_seg dksX0_judgeAt_0 24 rfl rfl
theorem dksX0_judgeAt_2 : cX0_judgeAt.data.toList.drop 47 = dktX0_judgeAt_2 := dk_seg dksX0_judgeAt_1 23 rfl rfl
theorem dksX0_judgeAt_3 : cX0_judgeAt.data.toList.drop 71 = dktX0_judgeAt_3 := dk_seg dksX0_judgeAt_2 24 rfl rfl
theorem dX0_judgeAt_0 : decode cX0_judgeAt 0 = .ok (.iconst (-1), 1) := dk_2 (dk_at dksX0_judgeAt_0 0 rfl rfl)
theorem dX0_judgeAt_1 : decode cX0_judgeAt 1 = .ok (.istore_n 3, 1) := dk_62 (dk_at dksX0_judgeAt_0 1 rfl rfl)
theorem dX0_judgeAt_2 : decode cX0_judgeAt 2 = .ok (.iconst 0, 1) := dk_3 (dk_at dksX0_judgeAt_0 2 rfl rfl)
theorem dX0_judgeAt_3 : decode cX0_judgeAt 3 = .ok (.istore 4, 2) := dk_54 4 (dk_at dksX0_judgeAt_0 3 rfl rfl)
theorem dX0_judgeAt_5 : decode cX0_judgeAt 5 = .ok (.iconst 0, 1) := dk_3 (dk_at dksX0_judgeAt_0 5 rfl rfl)
theorem dX0_judgeAt_6 : decode cX0_judgeAt 6 = .ok (.istore 5, 2) := dk_54 5 (dk_at dksX0_judgeAt_0 6 rfl rfl)
theorem dX0_judgeAt_8 : decode cX0_judgeAt 8 = .ok (.iload 5, 2) := dk_21 5 (dk_at dksX0_judgeAt_0 8 rfl rfl)
theorem dX0_judgeAt_10 : decode cX0_judgeAt 10 = .ok (.aload_n 0, 1) := dk_42 (dk_at dksX0_judgeAt_0 10 rfl rfl)
theorem dX0_judgeAt_11 : decode cX0_judgeAt 11 = .ok (.getfield 75, 3) := dk_180 0 75 (dk_at dksX0_judgeAt_0 11 rfl rfl)
theorem dX0_judgeAt_14 : decode cX0_judgeAt 14 = .ok (.getfield 341, 3) := dk_180 1 85 (dk_at dksX0_judgeAt_0 14 rfl rfl)
theorem dX0_judgeAt_17 : decode cX0_judgeAt 17 = .ok (.if_icmp .ge 64, 3) := dk_162 0 64 (dk_at dksX0_judgeAt_0 17 rfl rfl)
theorem dX0_judgeAt_20 : decode cX0_judgeAt 20 = .ok (.aload_n 0, 1) := dk_42 (dk_at dksX0_judgeAt_0 20 rfl rfl)
theorem dX0_judgeAt_21 : decode cX0_judgeAt 21 = .ok (.getfield 75, 3) := dk_180 0 75 (dk_at dksX0_judgeAt_0 21 rfl rfl)
theorem dX0_judgeAt_24 : decode cX0_judgeAt 24 = .ok (.getfield 344, 3) := dk_180 1 88 (dk_at dksX0_judgeAt_1 0 rfl rfl)
theorem dX0_judgeAt_27 : decode cX0_judgeAt 27 = .ok (.iload 5, 2) := dk_21 5 (dk_at dksX0_judgeAt_1 3 rfl rfl)
theorem dX0_judgeAt_29 : decode cX0_judgeAt 29 = .ok (.iaload, 1) := dk_46 (dk_at dksX0_judgeAt_1 5 rfl rfl)
theorem dX0_judgeAt_30 : decode cX0_judgeAt 30 = .ok (.iload_n 1, 1) := dk_27 (dk_at dksX0_judgeAt_1 6 rfl rfl)
theorem dX0_judgeAt_31 : decode cX0_judgeAt 31 = .ok (.isub, 1) := dk_100 (dk_at dksX0_judgeAt_1 7 rfl rfl)
theorem dX0_judgeAt_32 : decode cX0_judgeAt 32 = .ok (.invokestatic 405, 3) := dk_184 1 149 (dk_at dksX0_judgeAt_1 8 rfl rfl)
theorem dX0_judgeAt_35 : decode cX0_judgeAt 35 = .ok (.aload_n 0, 1) := dk_42 (dk_at dksX0_judgeAt_1 11 rfl rfl)
theorem dX0_judgeAt_36 : decode cX0_judgeAt 36 = .ok (.getfield 75, 3) := dk_180 0 75 (dk_at dksX0_judgeAt_1 12 rfl rfl)
theorem dX0_judgeAt_39 : decode cX0_judgeAt 39 = .ok (.getfield 347, 3) := dk_180 1 91 (dk_at dksX0_judgeAt_1 15 rfl rfl)
theorem dX0_judgeAt_42 : decode cX0_judgeAt 42 = .ok (.iload 5, 2) := dk_21 5 (dk_at dksX0_judgeAt_1 18 rfl rfl)
theorem dX0_judgeAt_44 : decode cX0_judgeAt 44 = .ok (.iaload, 1) := dk_46 (dk_at dksX0_judgeAt_1 20 rfl rfl)
theorem dX0_judgeAt_45 : decode cX0_judgeAt 45 = .ok (.iload_n 2, 1) := dk_28 (dk_at dksX0_judgeAt_1 21 rfl rfl)
theorem dX0_judgeAt_46 : decode cX0_judgeAt 46 = .ok (.isub, 1) := dk_100 (dk_at dksX0_judgeAt_1 22 rfl rfl)
theorem dX0_judgeAt_47 : decode cX0_judgeAt 47 = .ok (.invokestatic 405, 3) := dk_184 1 149 (dk_at dksX0_judgeAt_2 0 rfl rfl)
theorem dX0_judgeAt_50 : decode cX0_judgeAt 50 = .ok (.iadd, 1) := dk_96 (dk_at dksX0_judgeAt_2 3 rfl rfl)
theorem dX0_judgeAt_51 : decode cX0_judgeAt 51 = .ok (.istore 6, 2) := dk_54 6 (dk_at dksX0_judgeAt_2 4 rfl rfl)
theorem dX0_judgeAt_53 : decode cX0_judgeAt 53 = .ok (.iload_n 3, 1) := dk_29 (dk_at dksX0_judgeAt_2 6 rfl rfl)
theorem dX0_judgeAt_54 : decode cX0_judgeAt 54 = .ok (.iconst (-1), 1) := dk_2 (dk_at dksX0_judgeAt_2 7 rfl rfl)
theorem dX0_judgeAt_55 : decode cX0_judgeAt 55 = .ok (.if_icmp .eq 13, 3) := dk_159 0 13 (dk_at dksX0_judgeAt_2 8 rfl rfl)
theorem dX0_judgeAt_58 : decode cX0_judgeAt 58 = .ok (.iload 6, 2) := dk_21 6 (dk_at dksX0_judgeAt_2 11 rfl rfl)
theorem dX0_judgeAt_60 : decode cX0_judgeAt 60 = .ok (.iload 4, 2) := dk_21 4 (dk_at dksX0_judgeAt_2 13 rfl rfl)
theorem dX0_judgeAt_62 : decode cX0_judgeAt 62 = .ok (.if_icmp .lt 6, 3) := dk_161 0 6 (dk_at dksX0_judgeAt_2 15 rfl rfl)
theorem dX0_judgeAt_65 : decode cX0_judgeAt 65 = .ok (.goto 10, 3) := dk_167 0 10 (dk_at dksX0_judgeAt_2 18 rfl rfl)
theorem dX0_judgeAt_68 : decode cX0_judgeAt 68 = .ok (.iload 5, 2) := dk_21 5 (dk_at dksX0_judgeAt_2 21 rfl rfl)
theorem dX0_judgeAt_70 : decode cX0_judgeAt 70 = .ok (.istore_n 3, 1) := dk_62 (dk_at dksX0_judgeAt_2 23 rfl rfl)
theorem dX0_judgeAt_71 : decode cX0_judgeAt 71 = .ok (.iload 6, 2) := dk_21 6 (dk_at dksX0_judgeAt_3 0 rfl rfl)
theorem dX0_judgeAt_73 : decode cX0_judgeAt 73 = .ok (.istore 4, 2) := dk_54 4 (dk_at dksX0_judgeAt_3 2 rfl rfl)
theorem dX0_judgeAt_75 : decode cX0_judgeAt 75 = .ok (.iinc 5 1, 3) := dk_132 5 1 (dk_at dksX0_judgeAt_3 4 rfl rfl)
theorem dX0_judgeAt_78 : decode cX0_judgeAt 78 = .ok (.goto (-70), 3) := dk_167 255 186 (dk_at dksX0_judgeAt_3 7 rfl rfl)
theorem dX0_judgeAt_81 : decode cX0_judgeAt 81 = .ok (.iload_n 3, 1) := dk_29 (dk_at dksX0_judgeAt_3 10 rfl rfl)
theorem dX0_judgeAt_82 : decode cX0_judgeAt 82 = .ok (.ireturn, 1) := dk_172 (dk_at dksX0_judgeAt_3 11 rfl rfl)
abbrev cX0_steal : ByteArray := prog_1_method_47_code
def yX0_steal : MethodName := ⟨RX0, "steal", "(III)I"⟩
def dkwX0_steal_4 : List UInt8 := [132, 5, 1, 167, 255, 196, 21, 4, 172]
abbrev dktX0_steal_4 : List UInt8 := dkwX0_steal_4 ++ []
def dkwX0_steal_3 : List UInt8 := [184, 0, 128, 154, 0, 6, 167, 0, 17, 42, 180, 0, 94, 180, 1, 144, 21, 5, 2, 79, 132, 4, 1]
abbrev dktX0_steal_3 : List UInt8 := dkwX0_steal_3 ++ dktX0_steal_4
def dkwX0_steal_2 : List UInt8 := [180, 1, 144, 21, 5, 46, 27, 160, 0, 38, 42, 180, 0, 94, 180, 1, 147, 21, 5, 46, 28, 29]
abbrev dktX0_steal_2 : List UInt8 := dkwX0_steal_2 ++ dktX0_steal_3
def dkwX0_steal_1 : List UInt8 := [162, 0, 5, 2, 172, 3, 54, 4, 3, 54, 5, 21, 5, 17, 0, 242, 162, 0, 58, 42, 180, 0, 94]
abbrev dktX0_steal_1 : List UInt8 := dkwX0_steal_1 ++ dktX0_steal_2
def dkwX0_steal_0 : List UInt8 := [27, 3, 42, 180, 0, 75, 180, 1, 94, 4, 100, 184, 0, 128, 153, 0, 12, 28, 155, 0, 8, 29, 28]
abbrev dktX0_steal_0 : List UInt8 := dkwX0_steal_0 ++ dktX0_steal_1
theorem dksX0_steal_0 : cX0_steal.data.toList.drop 0 = dktX0_steal_0 := by decide +kernel
theorem dksX0_steal_1 : cX0_steal.data.toList.drop 23 = dktX0_steal_1 := dk_seg dksX0_steal_0 23 rfl rfl
theorem dksX0_steal_2 : cX0_steal.data.toList.drop 46 = dktX0_steal_2 := dk_seg dksX0_steal_1 23 rfl rfl
theorem dksX0_steal_3 : cX0_steal.data.toList.drop 68 = dktX0_steal_3 := dk_seg dksX0_steal_2 22 rfl rfl
theorem dksX0_steal_4 : cX0_steal.data.toList.drop 91 = dktX0_steal_4 := dk_seg dksX0_steal_3 23 rfl rfl
theorem dX0_steal_0 : decode cX0_steal 0 = .ok (.iload_n 1, 1) := dk_27 (dk_at dksX0_steal_0 0 rfl rfl)
theorem dX0_steal_1 : decode cX0_steal 1 = .ok (.iconst 0, 1) := dk_3 (dk_at dksX0_steal_0 1 rfl rfl)
theorem dX0_steal_2 : decode cX0_steal 2 = .ok (.aload_n 0, 1) := dk_42 (dk_at dksX0_steal_0 2 rfl rfl)
theorem dX0_steal_3 : decode cX0_steal 3 = .ok (.getfield 75, 3) := dk_180 0 75 (dk_at dksX0_steal_0 3 rfl rfl)
theorem dX0_steal_6 : decode cX0_steal 6 = .ok (.getfield 350, 3) := dk_180 1 94 (dk_at dksX0_steal_0 6 rfl rfl)
theorem dX0_steal_9 : decode cX0_steal 9 = .ok (.iconst 1, 1) := dk_4 (dk_at dksX0_steal_0 9 rfl rfl)
theorem dX0_steal_10 : decode cX0_steal 10 = .ok (.isub, 1) := dk_100 (dk_at dksX0_steal_0 10 rfl rfl)
theorem dX0_steal_11 : decode cX0_steal 11 = .ok (.invokestatic 128, 3) := dk_184 0 128 (dk_at dksX0_steal_0 11 rfl rfl)
theorem dX0_steal_14 : decode cX0_steal 14 = .ok (.ifCond .eq 12, 3) := dk_153 0 12 (dk_at dksX0_steal_0 14 rfl rfl)
theorem dX0_steal_17 : decode cX0_steal 17 = .ok (.iload_n 2, 1) := dk_28 (dk_at dksX0_steal_0 17 rfl rfl)
theorem dX0_steal_18 : decode cX0_steal 18 = .ok (.ifCond .lt 8, 3) := dk_155 0 8 (dk_at dksX0_steal_0 18 rfl rfl)
theorem dX0_steal_21 : decode cX0_steal 21 = .ok (.iload_n 3, 1) := dk_29 (dk_at dksX0_steal_0 21 rfl rfl)
theorem dX0_steal_22 : decode cX0_steal 22 = .ok (.iload_n 2, 1) := dk_28 (dk_at dksX0_steal_0 22 rfl rfl)
theorem dX0_steal_23 : decode cX0_steal 23 = .ok (.if_icmp .ge 5, 3) := dk_162 0 5 (dk_at dksX0_steal_1 0 rfl rfl)
theorem dX0_steal_26 : decode cX0_steal 26 = .ok (.iconst (-1), 1) := dk_2 (dk_at dksX0_steal_1 3 rfl rfl)
theorem dX0_steal_27 : decode cX0_steal 27 = .ok (.ireturn, 1) := dk_172 (dk_at dksX0_steal_1 4 rfl rfl)
theorem dX0_steal_28 : decode cX0_steal 28 = .ok (.iconst 0, 1) := dk_3 (dk_at dksX0_steal_1 5 rfl rfl)
theorem dX0_steal_29 : decode cX0_steal 29 = .ok (.istore 4, 2) := dk_54 4 (dk_at dksX0_steal_1 6 rfl rfl)
theorem dX0_steal_31 : decode cX0_steal 31 = .ok (.iconst 0, 1) := dk_3 (dk_at dksX0_steal_1 8 rfl rfl)
theorem dX0_steal_32 : decode cX0_steal 32 = .ok (.istore 5, 2) := dk_54 5 (dk_at dksX0_steal_1 9 rfl rfl)
theorem dX0_steal_34 : decode cX0_steal 34 = .ok (.iload 5, 2) := dk_21 5 (dk_at dksX0_steal_1 11 rfl rfl)
theorem dX0_steal_36 : decode cX0_steal 36 = .ok (.sipush 242, 3) := dk_17 0 242 (dk_at dksX0_steal_1 13 rfl rfl)
theorem dX0_steal_39 : decode cX0_steal 39 = .ok (.if_icmp .ge 58, 3) := dk_162 0 58 (dk_at dksX0_steal_1 16 rfl rfl)
theorem dX0_steal_42 : decode cX0_steal 42 = .ok (.aload_n 0, 1) := dk_42 (dk_at dksX0_steal_1 19 rfl rfl)
theorem dX0_steal_43 : decode cX0_steal 43 = .ok (.getfield 94, 3) := dk_180 0 94 (dk_at dksX0_steal_1 20 rfl rfl)
theorem dX0_steal_46 : decode cX0_steal 46 = .ok (.getfield 400, 3) := dk_180 1 144 (dk_at dksX0_steal_2 0 rfl rfl)
theorem dX0_steal_49 : decode cX0_steal 49 = .ok (.iload 5, 2) := dk_21 5 (dk_at dksX0_steal_2 3 rfl rfl)
theorem dX0_steal_51 : decode cX0_steal 51 = .ok (.iaload, 1) := dk_46 (dk_at dksX0_steal_2 5 rfl rfl)
theorem dX0_steal_52 : decode cX0_steal 52 = .ok (.iload_n 1, 1) := dk_27 (dk_at dksX0_steal_2 6 rfl rfl)
theorem dX0_steal_53 : decode cX0_steal 53 = .ok (.if_icmp .ne 38, 3) := dk_160 0 38 (dk_at dksX0_steal_2 7 rfl rfl)
theorem dX0_steal_56 : decode cX0_steal 56 = .ok (.aload_n 0, 1) := dk_42 (dk_at dksX0_steal_2 10 rfl rfl)
theorem dX0_steal_57 : decode cX0_steal 57 = .ok (.getfield 94, 3) := dk_180 0 94 (dk_at dksX0_steal_2 11 rfl rfl)
theorem dX0_steal_60 : decode cX0_steal 60 = .ok (.getfield 403, 3) := dk_180 1 147 (dk_at dksX0_steal_2 14 rfl rfl)
theorem dX0_steal_63 : decode cX0_steal 63 = .ok (.iload 5, 2) := dk_21 5 (dk_at dksX0_steal_2 17 rfl rfl)
theorem dX0_steal_65 : decode cX0_steal 65 = .ok (.iaload, 1) := dk_46 (dk_at dksX0_steal_2 19 rfl rfl)
theorem dX0_steal_66 : decode cX0_steal 66 = .ok (.iload_n 2, 1) := dk_28 (dk_at dksX0_steal_2 20 rfl rfl)
theorem dX0_steal_67 : decode cX0_steal 67 = .ok (.iload_n 3, 1) := dk_29 (dk_at dksX0_steal_2 21 rfl rfl)
theorem dX0_steal_68 : decode cX0_steal 68 = .ok (.invokestatic 128, 3) := dk_184 0 128 (dk_at dksX0_steal_3 0 rfl rfl)
theorem dX0_steal_71 : decode cX0_steal 71 = .ok (.ifCond .ne 6, 3) := dk_154 0 6 (dk_at dksX0_steal_3 3 rfl rfl)
theorem dX0_steal_74 : decode cX0_steal 74 = .ok (.goto 17, 3) := dk_167 0 17 (dk_at dksX0_steal_3 6 rfl rfl)
theorem dX0_steal_77 : decode cX0_steal 77 = .ok (.aload_n 0, 1) := dk_42 (dk_at dksX0_steal_3 9 rfl rfl)
theorem dX0_steal_78 : decode cX0_steal 78 = .ok (.getfield 94, 3) := dk_180 0 94 (dk_at dksX0_steal_3 10 rfl rfl)
theorem dX0_steal_81 : decode cX0_steal 81 = .ok (.getfield 400, 3) := dk_180 1 144 (dk_at dksX0_steal_3 13 rfl rfl)
theorem dX0_steal_84 : decode cX0_steal 84 = .ok (.iload 5, 2) := dk_21 5 (dk_at dksX0_steal_3 16 rfl rfl)
theorem dX0_steal_86 : decode cX0_steal 86 = .ok (.iconst (-1), 1) := dk_2 (dk_at dksX0_steal_3 18 rfl rfl)
theorem dX0_steal_87 : decode cX0_steal 87 = .ok (.iastore, 1) := dk_79 (dk_at dksX0_steal_3 19 rfl rfl)
theorem dX0_steal_88 : decode cX0_steal 88 = .ok (.iinc 4 1, 3) := dk_132 4 1 (dk_at dksX0_steal_3 20 rfl rfl)
theorem dX0_steal_91 : decode cX0_steal 91 = .ok (.iinc 5 1, 3) := dk_132 5 1 (dk_at dksX0_steal_4 0 rfl rfl)
theorem dX0_steal_94 : decode cX0_steal 94 = .ok (.goto (-60), 3) := dk_167 255 196 (dk_at dksX0_steal_4 3 rfl rfl)
theorem dX0_steal_97 : decode cX0_steal 97 = .ok (.iload 4, 2) := dk_21 4 (dk_at dksX0_steal_4 6 rfl rfl)
theorem dX0_steal_99 : decode cX0_steal 99 = .ok (.ireturn, 1) := dk_172 (dk_at dksX0_steal_4 8 rfl rfl)
abbrev cX0_ends : ByteArray := prog_1_method_48_code
def yX0_ends : MethodName := ⟨RX0, "ends", "(II)I"⟩
def dkwX0_ends_4 : List UInt8 := [180, 1, 170, 27, 46, 172]
abbrev dktX0_ends_4 : List UInt8 := dkwX0_ends_4 ++ []
def dkwX0_ends_3 : List UInt8 := [167, 0, 29, 28, 5, 160, 0, 15, 42, 180, 0, 98, 180, 1, 167, 27, 46, 167, 0, 12, 42, 180, 0, 98]
abbrev dktX0_ends_3 : List UInt8 := dkwX0_ends_3 ++ dktX0_ends_4
def dkwX0_ends_2 : List UInt8 := [180, 1, 161, 27, 46, 167, 0, 46, 28, 4, 160, 0, 15, 42, 180, 0, 98, 180, 1, 164, 27, 46]
abbrev dktX0_ends_2 : List UInt8 := dkwX0_ends_2 ++ dktX0_ends_3
def dkwX0_ends_1 : List UInt8 := [154, 0, 5, 2, 172, 42, 180, 0, 98, 42, 180, 0, 75, 182, 1, 105, 28, 154, 0, 15, 42, 180, 0, 98]
abbrev dktX0_ends_1 : List UInt8 := dkwX0_ends_1 ++ dktX0_ends_2
def dkwX0_ends_0 : List UInt8 := [27, 3, 42, 180, 0, 75, 180, 1, 94, 4, 100, 184, 0, 128, 153, 0, 12, 28, 3, 6, 184, 0, 128]
abbrev dktX0_ends_0 : List UInt8 := dkwX0_ends_0 ++ dktX0_ends_1
theorem dksX0_ends_0 : cX0_ends.data.toList.drop 0 = dktX0_ends_0 := by decide +kernel
theorem dksX0_ends_1 : cX0_ends.data.toList.drop 23 = dktX0_ends_1 := dk_seg dksX0_ends_0 23 rfl rfl
theorem dksX0_ends_2 : cX0_ends.data.toList.drop 47 = dktX0_ends_2 := dk_seg dksX0_ends_1 24 rfl rfl
theorem dksX0_ends_3 : cX0_ends.data.toList.drop 69 = dktX0_ends_3 := dk_seg dksX0_ends_2 22 rfl rfl
theorem dksX0_ends_4 : cX0_ends.data.toList.drop 93 = dktX0_ends_4 := dk_seg dksX0_ends_3 24 rfl rfl
theorem dX0_ends_0 : decode cX0_ends 0 = .ok (.iload_n 1, 1) := dk_27 (dk_at dksX0_ends_0 0 rfl rfl)
theorem dX0_ends_1 : decode cX0_ends 1 = .ok (.iconst 0, 1) := dk_3 (dk_at dksX0_ends_0 1 rfl rfl)
theorem dX0_ends_2 : decode cX0_ends 2 = .ok (.aload_n 0, 1) := dk_42 (dk_at dksX0_ends_0 2 rfl rfl)
theorem dX0_ends_3 : decode cX0_ends 3 = .ok (.getfield 75, 3) := dk_180 0 75 (dk_at dksX0_ends_0 3 rfl rfl)
theorem dX0_ends_6 : decode cX0_ends 6 = .ok (.getfield 350, 3) := dk_180 1 94 (dk_at dksX0_ends_0 6 rfl rfl)
theorem dX0_ends_9 : decode cX0_ends 9 = .ok (.iconst 1, 1) := dk_4 (dk_at dksX0_ends_0 9 rfl rfl)
theorem dX0_ends_10 : decode cX0_ends 10 = .ok (.isub, 1) := dk_100 (dk_at dksX0_ends_0 10 rfl rfl)
theorem dX0_ends_11 : decode cX0_ends 11 = .ok (.invokestatic 128, 3) := dk_184 0 128 (dk_at dksX0_ends_0 11 rfl rfl)
theorem dX0_ends_14 : decode cX0_ends 14 = .ok (.ifCond .eq 12, 3) := dk_153 0 12 (dk_at dksX0_ends_0 14 rfl rfl)
theorem dX0_ends_17 : decode cX0_ends 17 = .ok (.iload_n 2, 1) := dk_28 (dk_at dksX0_ends_0 17 rfl rfl)
theorem dX0_ends_18 : decode cX0_ends 18 = .ok (.iconst 0, 1) := dk_3 (dk_at dksX0_ends_0 18 rfl rfl)
theorem dX0_ends_19 : decode cX0_ends 19 = .ok (.iconst 3, 1) := dk_6 (dk_at dksX0_ends_0 19 rfl rfl)
theorem dX0_ends_20 : decode cX0_ends 20 = .ok (.invokestatic 128, 3) := dk_184 0 128 (dk_at dksX0_ends_0 20 rfl rfl)
theorem dX0_ends_23 : decode cX0_ends 23 = .ok (.ifCond .ne 5, 3) := dk_154 0 5 (dk_at dksX0_ends_1 0 rfl rfl)
theorem dX0_ends_26 : decode cX0_ends 26 = .ok (.iconst (-1), 1) := dk_2 (dk_at dksX0_ends_1 3 rfl rfl)
theorem dX0_ends_27 : decode cX0_ends 27 = .ok (.ireturn, 1) := dk_172 (dk_at dksX0_ends_1 4 rfl rfl)
theorem dX0_ends_28 : decode cX0_ends 28 = .ok (.aload_n 0, 1) := dk_42 (dk_at dksX0_ends_1 5 rfl rfl)
theorem dX0_ends_29 : decode cX0_ends 29 = .ok (.getfield 98, 3) := dk_180 0 98 (dk_at dksX0_ends_1 6 rfl rfl)
theorem dX0_ends_32 : decode cX0_ends 32 = .ok (.aload_n 0, 1) := dk_42 (dk_at dksX0_ends_1 9 rfl rfl)
theorem dX0_ends_33 : decode cX0_ends 33 = .ok (.getfield 75, 3) := dk_180 0 75 (dk_at dksX0_ends_1 10 rfl rfl)
theorem dX0_ends_36 : decode cX0_ends 36 = .ok (.invokevirtual 361, 3) := dk_182 1 105 (dk_at dksX0_ends_1 13 rfl rfl)
theorem dX0_ends_39 : decode cX0_ends 39 = .ok (.iload_n 2, 1) := dk_28 (dk_at dksX0_ends_1 16 rfl rfl)
theorem dX0_ends_40 : decode cX0_ends 40 = .ok (.ifCond .ne 15, 3) := dk_154 0 15 (dk_at dksX0_ends_1 17 rfl rfl)
theorem dX0_ends_43 : decode cX0_ends 43 = .ok (.aload_n 0, 1) := dk_42 (dk_at dksX0_ends_1 20 rfl rfl)
theorem dX0_ends_44 : decode cX0_ends 44 = .ok (.getfield 98, 3) := dk_180 0 98 (dk_at dksX0_ends_1 21 rfl rfl)
theorem dX0_ends_47 : decode cX0_ends 47 = .ok (.getfield 417, 3) := dk_180 1 161 (dk_at dksX0_ends_2 0 rfl rfl)
theorem dX0_ends_50 : decode cX0_ends 50 = .ok (.iload_n 1, 1) := dk_27 (dk_at dksX0_ends_2 3 rfl rfl)
theorem dX0_ends_51 : decode cX0_ends 51 = .ok (.iaload, 1) := dk_46 (dk_at dksX0_ends_2 4 rfl rfl)
theorem dX0_ends_52 : decode cX0_ends 52 = .ok (.goto 46, 3) := dk_167 0 46 (dk_at dksX0_ends_2 5 rfl rfl)
theorem dX0_ends_55 : decode cX0_ends 55 = .ok (.iload_n 2, 1) := dk_28 (dk_at dksX0_ends_2 8 rfl rfl)
theorem dX0_ends_56 : decode cX0_ends 56 = .ok (.iconst 1, 1) := dk_4 (dk_at dksX0_ends_2 9 rfl rfl)
theorem dX0_ends_57 : decode cX0_ends 57 = .ok (.if_icmp .ne 15, 3) := dk_160 0 15 (dk_at dksX0_ends_2 10 rfl rfl)
theorem dX0_ends_60 : decode cX0_ends 60 = .ok (.aload_n 0, 1) := dk_42 (dk_at dksX0_ends_2 13 rfl rfl)
theorem dX0_ends_61 : decode cX0_ends 61 = .ok (.getfield 98, 3) := dk_180 0 98 (dk_at dksX0_ends_2 14 rfl rfl)
theorem dX0_ends_64 : decode cX0_ends 64 = .ok (.getfield 420, 3) := dk_180 1 164 (dk_at dksX0_ends_2 17 rfl rfl)
theorem dX0_ends_67 : decode cX0_ends 67 = .ok (.iload_n 1, 1) := dk_27 (dk_at dksX0_ends_2 20 rfl rfl)
theorem dX0_ends_68 : decode cX0_ends 68 = .ok (.iaload, 1) := dk_46 (dk_at dksX0_ends_2 21 rfl rfl)
theorem dX0_ends_69 : decode cX0_ends 69 = .ok (.goto 29, 3) := dk_167 0 29 (dk_at dksX0_ends_3 0 rfl rfl)
theorem dX0_ends_72 : decode cX0_ends 72 = .ok (.iload_n 2, 1) := dk_28 (dk_at dksX0_ends_3 3 rfl rfl)
theorem dX0_ends_73 : decode cX0_ends 73 = .ok (.iconst 2, 1) := dk_5 (dk_at dksX0_ends_3 4 rfl rfl)
theorem dX0_ends_74 : decode cX0_ends 74 = .ok (.if_icmp .ne 15, 3) := dk_160 0 15 (dk_at dksX0_ends_3 5 rfl rfl)
theorem dX0_ends_77 : decode cX0_ends 77 = .ok (.aload_n 0, 1) := dk_42 (dk_at dksX0_ends_3 8 rfl rfl)
theorem dX0_ends_78 : decode cX0_ends 78 = .ok (.getfield 98, 3) := dk_180 0 98 (dk_at dksX0_ends_3 9 rfl rfl)
theorem dX0_ends_81 : decode cX0_ends 81 = .ok (.getfield 423, 3) := dk_180 1 167 (dk_at dksX0_ends_3 12 rfl rfl)
theorem dX0_ends_84 : decode cX0_ends 84 = .ok (.iload_n 1, 1) := dk_27 (dk_at dksX0_ends_3 15 rfl rfl)
theorem dX0_ends_85 : decode cX0_ends 85 = .ok (.iaload, 1) := dk_46 (dk_at dksX0_ends_3 16 rfl rfl)
theorem dX0_ends_86 : decode cX0_ends 86 = .ok (.goto 12, 3) := dk_167 0 12 (dk_at dksX0_ends_3 17 rfl rfl)
theorem dX0_ends_89 : decode cX0_ends 89 = .ok (.aload_n 0, 1) := dk_42 (dk_at dksX0_ends_3 20 rfl rfl)
theorem dX0_ends_90 : decode cX0_ends 90 = .ok (.getfield 98, 3) := dk_180 0 98 (dk_at dksX0_ends_3 21 rfl rfl)
theorem dX0_ends_93 : decode cX0_ends 93 = .ok (.getfield 426, 3) := dk_180 1 170 (dk_at dksX0_ends_4 0 rfl rfl)
theorem dX0_ends_96 : decode cX0_ends 96 = .ok (.iload_n 1, 1) := dk_27 (dk_at dksX0_ends_4 3 rfl rfl)
theorem dX0_ends_97 : decode cX0_ends 97 = .ok (.iaload, 1) := dk_46 (dk_at dksX0_ends_4 4 rfl rfl)
theorem dX0_ends_98 : decode cX0_ends 98 = .ok (.ireturn, 1) := dk_172 (dk_at dksX0_ends_4 5 rfl rfl)
abbrev cX0_plan : ByteArray := prog_1_method_54_code
def yX0_plan : MethodName := ⟨RX0, "plan", "(III)I"⟩
def dkwX0_plan_6 : List UInt8 := [29, 5, 160, 0, 10, 42, 180, 1, 193, 167, 0, 7, 42, 180, 1, 196, 172]
abbrev dktX0_plan_6 : List UInt8 := dkwX0_plan_6 ++ []
def dkwX0_plan_5 : List UInt8 := [172, 29, 154, 0, 10, 42, 180, 1, 179, 167, 0, 31, 29, 4, 160, 0, 10, 42, 180, 1, 190, 167, 0, 19]
abbrev dktX0_plan_5 : List UInt8 := dkwX0_plan_5 ++ dktX0_plan_6
def dkwX0_plan_4 : List UInt8 := [182, 1, 199, 42, 27, 28, 182, 1, 202, 42, 27, 28, 182, 1, 205, 42, 180, 1, 179, 2, 160, 0, 5, 2]
abbrev dktX0_plan_4 : List UInt8 := dkwX0_plan_4 ++ dktX0_plan_5
def dkwX0_plan_3 : List UInt8 := [153, 0, 14, 42, 3, 2, 2, 3, 182, 1, 186, 167, 0, 26, 42, 180, 0, 79, 42, 180, 0, 75]
abbrev dktX0_plan_3 : List UInt8 := dkwX0_plan_3 ++ dktX0_plan_4
def dkwX0_plan_2 : List UInt8 := [184, 0, 128, 154, 0, 5, 2, 172, 42, 2, 181, 1, 179, 42, 42, 180, 0, 75, 27, 28, 182, 1, 182]
abbrev dktX0_plan_2 : List UInt8 := dkwX0_plan_2 ++ dktX0_plan_3
def dkwX0_plan_1 : List UInt8 := [180, 0, 75, 180, 1, 45, 42, 180, 0, 75, 180, 1, 48, 104, 16, 36, 163, 0, 12, 29, 3, 6]
abbrev dktX0_plan_1 : List UInt8 := dkwX0_plan_1 ++ dktX0_plan_2
def dkwX0_plan_0 : List UInt8 := [42, 27, 182, 1, 54, 153, 0, 45, 42, 28, 182, 1, 54, 153, 0, 37, 27, 28, 159, 0, 32, 42]
abbrev dktX0_plan_0 : List UInt8 := dkwX0_plan_0 ++ dktX0_plan_1
theorem dksX0_plan_0 : cX0_plan.data.toList.drop 0 = dktX0_plan_0 := by decide +kernel
theorem dksX0_plan_1 : cX0_plan.data.toList.drop 22 = dktX0_plan_1 := dk_seg dksX0_plan_0 22 rfl rfl
theorem dksX0_plan_2 : cX0_plan.data.toList.drop 44 = dktX0_plan_2 := dk_seg dksX0_plan_1 22 rfl rfl
theorem dksX0_plan_3 : cX0_plan.data.toList.drop 67 = dktX0_plan_3 := dk_seg dksX0_plan_2 23 rfl rfl
theorem dksX0_plan_4 : cX0_plan.data.toList.drop 89 = dktX0_plan_4 := dk_seg dksX0_plan_3 22 rfl rfl
theorem dksX0_plan_5 : cX0_plan.data.toList.drop 113 = dktX0_plan_5 := dk_seg dksX0_plan_4 24 rfl rfl
theorem dksX0_plan_6 : cX0_plan.data.toList.drop 137 = dktX0_plan_6 := dk_seg dksX0_plan_5 24 rfl rfl
theorem dX0_plan_0 : decode cX0_plan 0 = .ok (.aload_n 0, 1) := dk_42 (dk_at dksX0_plan_0 0 rfl rfl)
theorem dX0_plan_1 : decode cX0_plan 1 = .ok (.iload_n 1, 1) := dk_27 (dk_at dksX0_plan_0 1 rfl rfl)
theorem dX0_plan_2 : decode cX0_plan 2 = .ok (.invokevirtual 310, 3) := dk_182 1 54 (dk_at dksX0_plan_0 2 rfl rfl)
theorem dX0_plan_5 : decode cX0_plan 5 = .ok (.ifCond .eq 45, 3) := dk_153 0 45 (dk_at dksX0_plan_0 5 rfl rfl)
theorem dX0_plan_8 : decode cX0_plan 8 = .ok (.aload_n 0, 1) := dk_42 (dk_at dksX0_plan_0 8 rfl rfl)
theorem dX0_plan_9 : decode cX0_plan 9 = .ok (.iload_n 2, 1) := dk_28 (dk_at dksX0_plan_0 9 rfl rfl)
theorem dX0_plan_10 : decode cX0_plan 10 = .ok (.invokevirtual 310, 3) := dk_182 1 54 (dk_at dksX0_plan_0 10 rfl rfl)
theorem dX0_plan_13 : decode cX0_plan 13 = .ok (.ifCond .eq 37, 3) := dk_153 0 37 (dk_at dksX0_plan_0 13 rfl rfl)
theorem dX0_plan_16 : decode cX0_plan 16 = .ok (.iload_n 1, 1) := dk_27 (dk_at dksX0_plan_0 16 rfl rfl)
theorem dX0_plan_17 : decode cX0_plan 17 = .ok (.iload_n 2, 1) := dk_28 (dk_at dksX0_plan_0 17 rfl rfl)
theorem dX0_plan_18 : decode cX0_plan 18 = .ok (.if_icmp .eq 32, 3) := dk_159 0 32 (dk_at dksX0_plan_0 18 rfl rfl)
theorem dX0_plan_21 : decode cX0_plan 21 = .ok (.aload_n 0, 1) := dk_42 (dk_at dksX0_plan_0 21 rfl rfl)
theorem dX0_plan_22 : decode cX0_plan 22 = .ok (.getfield 75, 3) := dk_180 0 75 (dk_at dksX0_plan_1 0 rfl rfl)
theorem dX0_plan_25 : decode cX0_plan 25 = .ok (.getfield 301, 3) := dk_180 1 45 (dk_at dksX0_plan_1 3 rfl rfl)
theorem dX0_plan_28 : decode cX0_plan 28 = .ok (.aload_n 0, 1) := dk_42 (dk_at dksX0_plan_1 6 rfl rfl)
theorem dX0_plan_29 : decode cX0_plan 29 = .ok (.getfield 75, 3) := dk_180 0 75 (dk_at dksX0_plan_1 7 rfl rfl)
theorem dX0_plan_32 : decode cX0_plan 32 = .ok (.getfield 304, 3) := dk_180 1 48 (dk_at dksX0_plan_1 10 rfl rfl)
theorem dX0_plan_35 : decode cX0_plan 35 = .ok (.imul, 1) := dk_104 (dk_at dksX0_plan_1 13 rfl rfl)
theorem dX0_plan_36 : decode cX0_plan 36 = .ok (.bipush 36, 2) := dk_16 36 (dk_at dksX0_plan_1 14 rfl rfl)
theorem dX0_plan_38 : decode cX0_plan 38 = .ok (.if_icmp .gt 12, 3) := dk_163 0 12 (dk_at dksX0_plan_1 16 rfl rfl)
theorem dX0_plan_41 : decode cX0_plan 41 = .ok (.iload_n 3, 1) := dk_29 (dk_at dksX0_plan_1 19 rfl rfl)
theorem dX0_plan_42 : decode cX0_plan 42 = .ok (.iconst 0, 1) := dk_3 (dk_at dksX0_plan_1 20 rfl rfl)
theorem dX0_plan_43 : decode cX0_plan 43 = .ok (.iconst 3, 1) := dk_6 (dk_at dksX0_plan_1 21 rfl rfl)
theorem dX0_plan_44 : decode cX0_plan 44 = .ok (.invokestatic 128, 3) := dk_184 0 128 (dk_at dksX0_plan_2 0 rfl rfl)
theorem dX0_plan_47 : decode cX0_plan 47 = .ok (.ifCond .ne 5, 3) := dk_154 0 5 (dk_at dksX0_plan_2 3 rfl rfl)
theorem dX0_plan_50 : decode cX0_plan 50 = .ok (.iconst (-1), 1) := dk_2 (dk_at dksX0_plan_2 6 rfl rfl)
theorem dX0_plan_51 : decode cX0_plan 51 = .ok (.ireturn, 1) := dk_172 (dk_at dksX0_plan_2 7 rfl rfl)
theorem dX0_plan_52 : decode cX0_plan 52 = .ok (.aload_n 0, 1) := dk_42 (dk_at dksX0_plan_2 8 rfl rfl)
theorem dX0_plan_53 : decode cX0_plan 53 = .ok (.iconst (-1), 1) := dk_2 (dk_at dksX0_plan_2 9 rfl rfl)
theorem dX0_plan_54 : decode cX0_plan 54 = .ok (.putfield 435, 3) := dk_181 1 179 (dk_at dksX0_plan_2 10 rfl rfl)
theorem dX0_plan_57 : decode cX0_plan 57 = .ok (.aload_n 0, 1) := dk_42 (dk_at dksX0_plan_2 13 rfl rfl)
theorem dX0_plan_58 : decode cX0_plan 58 = .ok (.aload_n 0, 1) := dk_42 (dk_at dksX0_plan_2 14 rfl rfl)
theorem dX0_plan_59 : decode cX0_plan 59 = .ok (.getfield 75, 3) := dk_180 0 75 (dk_at dksX0_plan_2 15 rfl rfl)
theorem dX0_plan_62 : decode cX0_plan 62 = .ok (.iload_n 1, 1) := dk_27 (dk_at dksX0_plan_2 18 rfl rfl)
theorem dX0_plan_63 : decode cX0_plan 63 = .ok (.iload_n 2, 1) := dk_28 (dk_at dksX0_plan_2 19 rfl rfl)
theorem dX0_plan_64 : decode cX0_plan 64 = .ok (.invokevirtual 438, 3) := dk_182 1 182 (dk_at dksX0_plan_2 20 rfl rfl)
theorem dX0_plan_67 : decode cX0_plan 67 = .ok (.ifCond .eq 14, 3) := dk_153 0 14 (dk_at dksX0_plan_3 0 rfl rfl)
theorem dX0_plan_70 : decode cX0_plan 70 = .ok (.aload_n 0, 1) := dk_42 (dk_at dksX0_plan_3 3 rfl rfl)
theorem dX0_plan_71 : decode cX0_plan 71 = .ok (.iconst 0, 1) := dk_3 (dk_at dksX0_plan_3 4 rfl rfl)
theorem dX0_plan_72 : decode cX0_plan 72 = .ok (.iconst (-1), 1) := dk_2 (dk_at dksX0_plan_3 5 rfl rfl)
theorem dX0_plan_73 : decode cX0_plan 73 = .ok (.iconst (-1), 1) := dk_2 (dk_at dksX0_plan_3 6 rfl rfl)
theorem dX0_plan_74 : decode cX0_plan 74 = .ok (.iconst 0, 1) := dk_3 (dk_at dksX0_plan_3 7 rfl rfl)
theorem dX0_plan_75 : decode cX0_plan 75 = .ok (.invokevirtual 442, 3) := dk_182 1 186 (dk_at dksX0_plan_3 8 rfl rfl)
theorem dX0_plan_78 : decode cX0_plan 78 = .ok (.goto 26, 3) := dk_167 0 26 (dk_at dksX0_plan_3 11 rfl rfl)
theorem dX0_plan_81 : decode cX0_plan 81 = .ok (.aload_n 0, 1) := dk_42 (dk_at dksX0_plan_3 14 rfl rfl)
theorem dX0_plan_82 : decode cX0_plan 82 = .ok (.getfield 79, 3) := dk_180 0 79 (dk_at dksX0_plan_3 15 rfl rfl)
theorem dX0_plan_85 : decode cX0_plan 85 = .ok (.aload_n 0, 1) := dk_42 (dk_at dksX0_plan_3 18 rfl rfl)
theorem dX0_plan_86 : decode cX0_plan 86 = .ok (.getfield 75, 3) := dk_180 0 75 (dk_at dksX0_plan_3 19 rfl rfl)
theorem dX0_plan_89 : decode cX0_plan 89 = .ok (.invokevirtual 455, 3) := dk_182 1 199 (dk_at dksX0_plan_4 0 rfl rfl)
theorem dX0_plan_92 : decode cX0_plan 92 = .ok (.aload_n 0, 1) := dk_42 (dk_at dksX0_plan_4 3 rfl rfl)
theorem dX0_plan_93 : decode cX0_plan 93 = .ok (.iload_n 1, 1) := dk_27 (dk_at dksX0_plan_4 4 rfl rfl)
theorem dX0_plan_94 : decode cX0_plan 94 = .ok (.iload_n 2, 1) := dk_28 (dk_at dksX0_plan_4 5 rfl rfl)
theorem dX0_plan_95 : decode cX0_plan 95 = .ok (.invokevirtual 458, 3) := dk_182 1 202 (dk_at dksX0_plan_4 6 rfl rfl)
theorem dX0_plan_98 : decode cX0_plan 98 = .ok (.aload_n 0, 1) := dk_42 (dk_at dksX0_plan_4 9 rfl rfl)
theorem dX0_plan_99 : decode cX0_plan 99 = .ok (.iload_n 1, 1) := dk_27 (dk_at dksX0_plan_4 10 rfl rfl)
theorem dX0_plan_100 : decode cX0_plan 100 = .ok (.iload_n 2, 1) := dk_28 (dk_at dksX0_plan_4 11 rfl rfl)
theorem dX0_plan_101 : decode cX0_plan 101 = .ok (.invokevirtual 461, 3) := dk_182 1 205 (dk_at dksX0_plan_4 12 rfl rfl)
theorem dX0_plan_104 : decode cX0_plan 104 = .ok (.aload_n 0, 1) := dk_42 (dk_at dksX0_plan_4 15 rfl rfl)
theorem dX0_plan_105 : decode cX0_plan 105 = .ok (.getfield 435, 3) := dk_180 1 179 (dk_at dksX0_plan_4 16 rfl rfl)
theorem dX0_plan_108 : decode cX0_plan 108 = .ok (.iconst (-1), 1) := dk_2 (dk_at dksX0_plan_4 19 rfl rfl)
theorem dX0_plan_109 : decode cX0_plan 109 = .ok (.if_icmp .ne 5, 3) := dk_160 0 5 (dk_at dksX0_plan_4 20 rfl rfl)
theorem dX0_plan_112 : decode cX0_plan 112 = .ok (.iconst (-1), 1) := dk_2 (dk_at dksX0_plan_4 23 rfl rfl)
theorem dX0_plan_113 : decode cX0_plan 113 = .ok (.ireturn, 1) := dk_172 (dk_at dksX0_plan_5 0 rfl rfl)
theorem dX0_plan_114 : decode cX0_plan 114 = .ok (.iload_n 3, 1) := dk_29 (dk_at dksX0_plan_5 1 rfl rfl)
theorem dX0_plan_115 : decode cX0_plan 115 = .ok (.ifCond .ne 10, 3) := dk_154 0 10 (dk_at dksX0_plan_5 2 rfl rfl)
theorem dX0_plan_118 : decode cX0_plan 118 = .ok (.aload_n 0, 1) := dk_42 (dk_at dksX0_plan_5 5 rfl rfl)
theorem dX0_plan_119 : decode cX0_plan 119 = .ok (.getfield 435, 3) := dk_180 1 179 (dk_at dksX0_plan_5 6 rfl rfl)
theorem dX0_plan_122 : decode cX0_plan 122 = .ok (.goto 31, 3) := dk_167 0 31 (dk_at dksX0_plan_5 9 rfl rfl)
theorem dX0_plan_125 : decode cX0_plan 125 = .ok (.iload_n 3, 1) := dk_29 (dk_at dksX0_plan_5 12 rfl rfl)
theorem dX0_plan_126 : decode cX0_plan 126 = .ok (.iconst 1, 1) := dk_4 (dk_at dksX0_plan_5 13 rfl rfl)
theorem dX0_plan_127 : decode cX0_plan 127 = .ok (.if_icmp .ne 10, 3) := dk_160 0 10 (dk_at dksX0_plan_5 14 rfl rfl)
theorem dX0_plan_130 : decode cX0_plan 130 = .ok (.aload_n 0, 1) := dk_42 (dk_at dksX0_plan_5 17 rfl rfl)
theorem dX0_plan_131 : decode cX0_plan 131 = .ok (.getfield 446, 3) := dk_180 1 190 (dk_at dksX0_plan_5 18 rfl rfl)
theorem dX0_plan_134 : decode cX0_plan 134 = .ok (.goto 19, 3) := dk_167 0 19 (dk_at dksX0_plan_5 21 rfl rfl)
theorem dX0_plan_137 : decode cX0_plan 137 = .ok (.iload_n 3, 1) := dk_29 (dk_at dksX0_plan_6 0 rfl rfl)
theorem dX0_plan_138 : decode cX0_plan 138 = .ok (.iconst 2, 1) := dk_5 (dk_at dksX0_plan_6 1 rfl rfl)
theorem dX0_plan_139 : decode cX0_plan 139 = .ok (.if_icmp .ne 10, 3) := dk_160 0 10 (dk_at dksX0_plan_6 2 rfl rfl)
theorem dX0_plan_142 : decode cX0_plan 142 = .ok (.aload_n 0, 1) := dk_42 (dk_at dksX0_plan_6 5 rfl rfl)
theorem dX0_plan_143 : decode cX0_plan 143 = .ok (.getfield 449, 3) := dk_180 1 193 (dk_at dksX0_plan_6 6 rfl rfl)
theorem dX0_plan_146 : decode cX0_plan 146 = .ok (.goto 7, 3) := dk_167 0 7 (dk_at dksX0_plan_6 9 rfl rfl)
theorem dX0_plan_149 : decode cX0_plan 149 = .ok (.aload_n 0, 1) := dk_42 (dk_at dksX0_plan_6 12 rfl rfl)
theorem dX0_plan_150 : decode cX0_plan 150 = .ok (.getfield 452, 3) := dk_180 1 196 (dk_at dksX0_plan_6 13 rfl rfl)
theorem dX0_plan_153 : decode cX0_plan 153 = .ok (.ireturn, 1) := dk_172 (dk_at dksX0_plan_6 16 rfl rfl)
abbrev cX0_wouldBeOne : ByteArray := prog_1_method_49_code
def yX0_wouldBeOne : MethodName := ⟨RX0, "wouldBeOne", "(LSwallowSurvey$Land;II)Z"⟩
def dkwX0_wouldBeOne_0 : List UInt8 := [42, 180, 0, 98, 43, 182, 1, 105, 42, 180, 0, 98, 28, 29, 182, 1, 173, 172]
abbrev dktX0_wouldBeOne_0 : List UInt8 := dkwX0_wouldBeOne_0 ++ []
theorem dksX0_wouldBeOne_0 : cX0_wouldBeOne.data.toList.drop 0 = dktX0_wouldBeOne_0 := by decide +kernel
theorem dX0_wouldBeOne_0 : decode cX0_wouldBeOne 0 = .ok (.aload_n 0, 1) := dk_42 (dk_at dksX0_wouldBeOne_0 0 rfl rfl)
theorem dX0_wouldBeOne_1 : decode cX0_wouldBeOne 1 = .ok (.getfield 98, 3) := dk_180 0 98 (dk_at dksX0_wouldBeOne_0 1 rfl rfl)
theorem dX0_wouldBeOne_4 : decode cX0_wouldBeOne 4 = .ok (.aload_n 1, 1) := dk_43 (dk_at dksX0_wouldBeOne_0 4 rfl rfl)
theorem dX0_wouldBeOne_5 : decode cX0_wouldBeOne 5 = .ok (.invokevirtual 361, 3) := dk_182 1 105 (dk_at dksX0_wouldBeOne_0 5 rfl rfl)
theorem dX0_wouldBeOne_8 : decode cX0_wouldBeOne 8 = .ok (.aload_n 0, 1) := dk_42 (dk_at dksX0_wouldBeOne_0 8 rfl rfl)
theorem dX0_wouldBeOne_9 : decode cX0_wouldBeOne 9 = .ok (.getfield 98, 3) := dk_180 0 98 (dk_at dksX0_wouldBeOne_0 9 rfl rfl)
theorem dX0_wouldBeOne_12 : decode cX0_wouldBeOne 12 = .ok (.iload_n 2, 1) := dk_28 (dk_at dksX0_wouldBeOne_0 12 rfl rfl)
theorem dX0_wouldBeOne_13 : decode cX0_wouldBeOne 13 = .ok (.iload_n 3, 1) := dk_29 (dk_at dksX0_wouldBeOne_0 13 rfl rfl)
theorem dX0_wouldBeOne_14 : decode cX0_wouldBeOne 14 = .ok (.invokevirtual 429, 3) := dk_182 1 173 (dk_at dksX0_wouldBeOne_0 14 rfl rfl)
theorem dX0_wouldBeOne_17 : decode cX0_wouldBeOne 17 = .ok (.ireturn, 1) := dk_172 (dk_at dksX0_wouldBeOne_0 17 rfl rfl)
abbrev cX0_plans : ByteArray := prog_1_method_53_code
def yX0_plans : MethodName := ⟨RX0, "plans", "(IIII)V"⟩
def dkwX0_plans_0 : List UInt8 := [42, 27, 181, 1, 190, 42, 28, 181, 1, 193, 42, 29, 181, 1, 196, 42, 21, 4, 181, 1, 179, 177]
abbrev dktX0_plans_0 : List UInt8 := dkwX0_plans_0 ++ []
theorem dksX0_plans_0 : cX0_plans.data.toList.drop 0 = dktX0_plans_0 := by decide +kernel
theorem dX0_plans_0 : decode cX0_plans 0 = .ok (.aload_n 0, 1) := dk_42 (dk_at dksX0_plans_0 0 rfl rfl)
theorem dX0_plans_1 : decode cX0_plans 1 = .ok (.iload_n 1, 1) := dk_27 (dk_at dksX0_plans_0 1 rfl rfl)
theorem dX0_plans_2 : decode cX0_plans 2 = .ok (.putfield 446, 3) := dk_181 1 190 (dk_at dksX0_plans_0 2 rfl rfl)
theorem dX0_plans_5 : decode cX0_plans 5 = .ok (.aload_n 0, 1) := dk_42 (dk_at dksX0_plans_0 5 rfl rfl)
theorem dX0_plans_6 : decode cX0_plans 6 = .ok (.iload_n 2, 1) := dk_28 (dk_at dksX0_plans_0 6 rfl rfl)
theorem dX0_plans_7 : decode cX0_plans 7 = .ok (.putfield 449, 3) := dk_181 1 193 (dk_at dksX0_plans_0 7 rfl rfl)
theorem dX0_plans_10 : decode cX0_plans 10 = .ok (.aload_n 0, 1) := dk_42 (dk_at dksX0_plans_0 10 rfl rfl)
theorem dX0_plans_11 : decode cX0_plans 11 = .ok (.iload_n 3, 1) := dk_29 (dk_at dksX0_plans_0 11 rfl rfl)
theorem dX0_plans_12 : decode cX0_plans 12 = .ok (.putfield 452, 3) := dk_181 1 196 (dk_at dksX0_plans_0 12 rfl rfl)
theorem dX0_plans_15 : decode cX0_plans 15 = .ok (.aload_n 0, 1) := dk_42 (dk_at dksX0_plans_0 15 rfl rfl)
theorem dX0_plans_16 : decode cX0_plans 16 = .ok (.iload 4, 2) := dk_21 4 (dk_at dksX0_plans_0 16 rfl rfl)
theorem dX0_plans_18 : decode cX0_plans 18 = .ok (.putfield 435, 3) := dk_181 1 179 (dk_at dksX0_plans_0 18 rfl rfl)
theorem dX0_plans_21 : decode cX0_plans 21 = .ok (.return_, 1) := dk_177 (dk_at dksX0_plans_0 21 rfl rfl)
abbrev cX0_copies : ByteArray := prog_1_method_26_code
def yX0_copies : MethodName := ⟨RX0, "copies", "([I[I)V"⟩
def dkwX0_copies_0 : List UInt8 := [42, 3, 43, 3, 42, 190, 184, 1, 32, 177]
abbrev dktX0_copies_0 : List UInt8 := dkwX0_copies_0 ++ []
theorem dksX0_copies_0 : cX0_copies.data.toList.drop 0 = dktX0_copies_0 := by decide +kernel
theorem dX0_copies_0 : decode cX0_copies 0 = .ok (.aload_n 0, 1) := dk_42 (dk_at dksX0_copies_0 0 rfl rfl)
theorem dX0_copies_1 : decode cX0_copies 1 = .ok (.iconst 0, 1) := dk_3 (dk_at dksX0_copies_0 1 rfl rfl)
theorem dX0_copies_2 : decode cX0_copies 2 = .ok (.aload_n 1, 1) := dk_43 (dk_at dksX0_copies_0 2 rfl rfl)
theorem dX0_copies_3 : decode cX0_copies 3 = .ok (.iconst 0, 1) := dk_3 (dk_at dksX0_copies_0 3 rfl rfl)
theorem dX0_copies_4 : decode cX0_copies 4 = .ok (.aload_n 0, 1) := dk_42 (dk_at dksX0_copies_0 4 rfl rfl)
theorem dX0_copies_5 : decode cX0_copies 5 = .ok (.arraylength, 1) := dk_190 (dk_at dksX0_copies_0 5 rfl rfl)
theorem dX0_copies_6 : decode cX0_copies 6 = .ok (.invokestatic 288, 3) := dk_184 1 32 (dk_at dksX0_copies_0 6 rfl rfl)
theorem dX0_copies_9 : decode cX0_copies 9 = .ok (.return_, 1) := dk_177 (dk_at dksX0_copies_0 9 rfl rfl)
abbrev cX0_copiesFlags : ByteArray := prog_1_method_27_code
def yX0_copiesFlags : MethodName := ⟨RX0, "copiesFlags", "([Z[Z)V"⟩
def dkwX0_copiesFlags_0 : List UInt8 := [42, 3, 43, 3, 42, 190, 184, 1, 32, 177]
abbrev dktX0_copiesFlags_0 : List UInt8 := dkwX0_copiesFlags_0 ++ []
theorem dksX0_copiesFlags_0 : cX0_copiesFlags.data.toList.drop 0 = dktX0_copiesFlags_0 := by decide +kernel
theorem dX0_copiesFlags_0 : decode cX0_copiesFlags 0 = .ok (.aload_n 0, 1) := dk_42 (dk_at dksX0_copiesFlags_0 0 rfl rfl)
theorem dX0_copiesFlags_1 : decode cX0_copiesFlags 1 = .ok (.iconst 0, 1) := dk_3 (dk_at dksX0_copiesFlags_0 1 rfl rfl)
theorem dX0_copiesFlags_2 : decode cX0_copiesFlags 2 = .ok (.aload_n 1, 1) := dk_43 (dk_at dksX0_copiesFlags_0 2 rfl rfl)
theorem dX0_copiesFlags_3 : decode cX0_copiesFlags 3 = .ok (.iconst 0, 1) := dk_3 (dk_at dksX0_copiesFlags_0 3 rfl rfl)
theorem dX0_copiesFlags_4 : decode cX0_copiesFlags 4 = .ok (.aload_n 0, 1) := dk_42 (dk_at dksX0_copiesFlags_0 4 rfl rfl)
theorem dX0_copiesFlags_5 : decode cX0_copiesFlags 5 = .ok (.arraylength, 1) := dk_190 (dk_at dksX0_copiesFlags_0 5 rfl rfl)
theorem dX0_copiesFlags_6 : decode cX0_copiesFlags 6 = .ok (.invokestatic 288, 3) := dk_184 1 32 (dk_at dksX0_copiesFlags_0 6 rfl rfl)
theorem dX0_copiesFlags_9 : decode cX0_copiesFlags 9 = .ok (.return_, 1) := dk_177 (dk_at dksX0_copiesFlags_0 9 rfl rfl)
abbrev cX0_findsOne : ByteArray := prog_1_method_51_code
def yX0_findsOne : MethodName := ⟨RX0, "findsOne", "(II)V"⟩
def dkwX0_findsOne_4 : List UInt8 := [167, 255, 163, 177]
abbrev dktX0_findsOne_4 : List UInt8 := dkwX0_findsOne_4 ++ []
def dkwX0_findsOne_3 : List UInt8 := [180, 0, 75, 180, 1, 59, 29, 46, 182, 1, 186, 42, 180, 0, 79, 180, 1, 66, 29, 3, 84, 132, 3, 1]
abbrev dktX0_findsOne_3 : List UInt8 := dkwX0_findsOne_3 ++ dktX0_findsOne_4
def dkwX0_findsOne_2 : List UInt8 := [180, 1, 66, 29, 4, 84, 42, 42, 180, 0, 79, 27, 28, 182, 1, 182, 153, 0, 19, 42, 4, 29, 2, 42]
abbrev dktX0_findsOne_2 : List UInt8 := dkwX0_findsOne_2 ++ dktX0_findsOne_3
def dkwX0_findsOne_1 : List UInt8 := [42, 180, 0, 75, 180, 1, 59, 29, 46, 42, 180, 1, 179, 161, 0, 6, 167, 0, 52, 42, 180, 0, 79]
abbrev dktX0_findsOne_1 : List UInt8 := dkwX0_findsOne_1 ++ dktX0_findsOne_2
def dkwX0_findsOne_0 : List UInt8 := [3, 62, 29, 16, 100, 162, 0, 93, 42, 29, 182, 1, 176, 153, 0, 79, 42, 180, 1, 179, 2, 159, 0, 22]
abbrev dktX0_findsOne_0 : List UInt8 := dkwX0_findsOne_0 ++ dktX0_findsOne_1
theorem dksX0_findsOne_0 : cX0_findsOne.data.toList.drop 0 = dktX0_findsOne_0 := by decide +kernel
theorem dksX0_findsOne_1 : cX0_findsOne.data.toList.drop 24 = dktX0_findsOne_1 := dk_seg dksX0_findsOne_0 24 rfl rfl
theorem dksX0_findsOne_2 : cX0_findsOne.data.toList.drop 47 = dktX0_findsOne_2 := dk_seg dksX0_findsOne_1 23 rfl rfl
theorem dksX0_findsOne_3 : cX0_findsOne.data.toList.drop 71 = dktX0_findsOne_3 := dk_seg dksX0_findsOne_2 24 rfl rfl
theorem dksX0_findsOne_4 : cX0_findsOne.data.toList.drop 95 = dktX0_findsOne_4 := dk_seg dksX0_findsOne_3 24 rfl rfl
theorem dX0_findsOne_0 : decode cX0_findsOne 0 = .ok (.iconst 0, 1) := dk_3 (dk_at dksX0_findsOne_0 0 rfl rfl)
theorem dX0_findsOne_1 : decode cX0_findsOne 1 = .ok (.istore_n 3, 1) := dk_62 (dk_at dksX0_findsOne_0 1 rfl rfl)
theorem dX0_findsOne_2 : decode cX0_findsOne 2 = .ok (.iload_n 3, 1) := dk_29 (dk_at dksX0_findsOne_0 2 rfl rfl)
theorem dX0_findsOne_3 : decode cX0_findsOne 3 = .ok (.bipush 100, 2) := dk_16 100 (dk_at dksX0_findsOne_0 3 rfl rfl)
theorem dX0_findsOne_5 : decode cX0_findsOne 5 = .ok (.if_icmp .ge 93, 3) := dk_162 0 93 (dk_at dksX0_findsOne_0 5 rfl rfl)
theorem dX0_findsOne_8 : decode cX0_findsOne 8 = .ok (.aload_n 0, 1) := dk_42 (dk_at dksX0_findsOne_0 8 rfl rfl)
theorem dX0_findsOne_9 : decode cX0_findsOne 9 = .ok (.iload_n 3, 1) := dk_29 (dk_at dksX0_findsOne_0 9 rfl rfl)
theorem dX0_findsOne_10 : decode cX0_findsOne 10 = .ok (.invokevirtual 432, 3) := dk_182 1 176 (dk_at dksX0_findsOne_0 10 rfl rfl)
theorem dX0_findsOne_13 : decode cX0_findsOne 13 = .ok (.ifCond .eq 79, 3) := dk_153 0 79 (dk_at dksX0_findsOne_0 13 rfl rfl)
theorem dX0_findsOne_16 : decode cX0_findsOne 16 = .ok (.aload_n 0, 1) := dk_42 (dk_at dksX0_findsOne_0 16 rfl rfl)
theorem dX0_findsOne_17 : decode cX0_findsOne 17 = .ok (.getfield 435, 3) := dk_180 1 179 (dk_at dksX0_findsOne_0 17 rfl rfl)
theorem dX0_findsOne_20 : decode cX0_findsOne 20 = .ok (.iconst (-1), 1) := dk_2 (dk_at dksX0_findsOne_0 20 rfl rfl)
theorem dX0_findsOne_21 : decode cX0_findsOne 21 = .ok (.if_icmp .eq 22, 3) := dk_159 0 22 (dk_at dksX0_findsOne_0 21 rfl rfl)
theorem dX0_findsOne_24 : decode cX0_findsOne 24 = .ok (.aload_n 0, 1) := dk_42 (dk_at dksX0_findsOne_1 0 rfl rfl)
theorem dX0_findsOne_25 : decode cX0_findsOne 25 = .ok (.getfield 75, 3) := dk_180 0 75 (dk_at dksX0_findsOne_1 1 rfl rfl)
theorem dX0_findsOne_28 : decode cX0_findsOne 28 = .ok (.getfield 315, 3) := dk_180 1 59 (dk_at dksX0_findsOne_1 4 rfl rfl)
theorem dX0_findsOne_31 : decode cX0_findsOne 31 = .ok (.iload_n 3, 1) := dk_29 (dk_at dksX0_findsOne_1 7 rfl rfl)
theorem dX0_findsOne_32 : decode cX0_findsOne 32 = .ok (.iaload, 1) := dk_46 (dk_at dksX0_findsOne_1 8 rfl rfl)
theorem dX0_findsOne_33 : decode cX0_findsOne 33 = .ok (.aload_n 0, 1) := dk_42 (dk_at dksX0_findsOne_1 9 rfl rfl)
theorem dX0_findsOne_34 : decode cX0_findsOne 34 = .ok (.getfield 435, 3) := dk_180 1 179 (dk_at dksX0_findsOne_1 10 rfl rfl)
theorem dX0_findsOne_37 : decode cX0_findsOne 37 = .ok (.if_icmp .lt 6, 3) := dk_161 0 6 (dk_at dksX0_findsOne_1 13 rfl rfl)
theorem dX0_findsOne_40 : decode cX0_findsOne 40 = .ok (.goto 52, 3) := dk_167 0 52 (dk_at dksX0_findsOne_1 16 rfl rfl)
theorem dX0_findsOne_43 : decode cX0_findsOne 43 = .ok (.aload_n 0, 1) := dk_42 (dk_at dksX0_findsOne_1 19 rfl rfl)
theorem dX0_findsOne_44 : decode cX0_findsOne 44 = .ok (.getfield 79, 3) := dk_180 0 79 (dk_at dksX0_findsOne_1 20 rfl rfl)
theorem dX0_findsOne_47 : decode cX0_findsOne 47 = .ok (.getfield 322, 3) := dk_180 1 66 (dk_at dksX0_findsOne_2 0 rfl rfl)
theorem dX0_findsOne_50 : decode cX0_findsOne 50 = .ok (.iload_n 3, 1) := dk_29 (dk_at dksX0_findsOne_2 3 rfl rfl)
theorem dX0_findsOne_51 : decode cX0_findsOne 51 = .ok (.iconst 1, 1) := dk_4 (dk_at dksX0_findsOne_2 4 rfl rfl)
theorem dX0_findsOne_52 : decode cX0_findsOne 52 = .ok (.bastore, 1) := dk_84 (dk_at dksX0_findsOne_2 5 rfl rfl)
theorem dX0_findsOne_53 : decode cX0_findsOne 53 = .ok (.aload_n 0, 1) := dk_42 (dk_at dksX0_findsOne_2 6 rfl rfl)
theorem dX0_findsOne_54 : decode cX0_findsOne 54 = .ok (.aload_n 0, 1) := dk_42 (dk_at dksX0_findsOne_2 7 rfl rfl)
theorem dX0_findsOne_55 : decode cX0_findsOne 55 = .ok (.getfield 79, 3) := dk_180 0 79 (dk_at dksX0_findsOne_2 8 rfl rfl)
theorem dX0_findsOne_58 : decode cX0_findsOne 58 = .ok (.iload_n 1, 1) := dk_27 (dk_at dksX0_findsOne_2 11 rfl rfl)
theorem dX0_findsOne_59 : decode cX0_findsOne 59 = .ok (.iload_n 2, 1) := dk_28 (dk_at dksX0_findsOne_2 12 rfl rfl)
theorem dX0_findsOne_60 : decode cX0_findsOne 60 = .ok (.invokevirtual 438, 3) := dk_182 1 182 (dk_at dksX0_findsOne_2 13 rfl rfl)
theorem dX0_findsOne_63 : decode cX0_findsOne 63 = .ok (.ifCond .eq 19, 3) := dk_153 0 19 (dk_at dksX0_findsOne_2 16 rfl rfl)
theorem dX0_findsOne_66 : decode cX0_findsOne 66 = .ok (.aload_n 0, 1) := dk_42 (dk_at dksX0_findsOne_2 19 rfl rfl)
theorem dX0_findsOne_67 : decode cX0_findsOne 67 = .ok (.iconst 1, 1) := dk_4 (dk_at dksX0_findsOne_2 20 rfl rfl)
theorem dX0_findsOne_68 : decode cX0_findsOne 68 = .ok (.iload_n 3, 1) := dk_29 (dk_at dksX0_findsOne_2 21 rfl rfl)
theorem dX0_findsOne_69 : decode cX0_findsOne 69 = .ok (.iconst (-1), 1) := dk_2 (dk_at dksX0_findsOne_2 22 rfl rfl)
theorem dX0_findsOne_70 : decode cX0_findsOne 70 = .ok (.aload_n 0, 1) := dk_42 (dk_at dksX0_findsOne_2 23 rfl rfl)
theorem dX0_findsOne_71 : decode cX0_findsOne 71 = .ok (.getfield 75, 3) := dk_180 0 75 (dk_at dksX0_findsOne_3 0 rfl rfl)
theorem dX0_findsOne_74 : decode cX0_findsOne 74 = .ok (.getfield 315, 3) := dk_180 1 59 (dk_at dksX0_findsOne_3 3 rfl rfl)
theorem dX0_findsOne_77 : decode cX0_findsOne 77 = .ok (.iload_n 3, 1) := dk_29 (dk_at dksX0_findsOne_3 6 rfl rfl)
theorem dX0_findsOne_78 : decode cX0_findsOne 78 = .ok (.iaload, 1) := dk_46 (dk_at dksX0_findsOne_3 7 rfl rfl)
theorem dX0_findsOne_79 : decode cX0_findsOne 79 = .ok (.invokevirtual 442, 3) := dk_182 1 186 (dk_at dksX0_findsOne_3 8 rfl rfl)
theorem dX0_findsOne_82 : decode cX0_findsOne 82 = .ok (.aload_n 0, 1) := dk_42 (dk_at dksX0_findsOne_3 11 rfl rfl)
theorem dX0_findsOne_83 : decode cX0_findsOne 83 = .ok (.getfield 79, 3) := dk_180 0 79 (dk_at dksX0_findsOne_3 12 rfl rfl)
theorem dX0_findsOne_86 : decode cX0_findsOne 86 = .ok (.getfield 322, 3) := dk_180 1 66 (dk_at dksX0_findsOne_3 15 rfl rfl)
theorem dX0_findsOne_89 : decode cX0_findsOne 89 = .ok (.iload_n 3, 1) := dk_29 (dk_at dksX0_findsOne_3 18 rfl rfl)
theorem dX0_findsOne_90 : decode cX0_findsOne 90 = .ok (.iconst 0, 1) := dk_3 (dk_at dksX0_findsOne_3 19 rfl rfl)
theorem dX0_findsOne_91 : decode cX0_findsOne 91 = .ok (.bastore, 1) := dk_84 (dk_at dksX0_findsOne_3 20 rfl rfl)
theorem dX0_findsOne_92 : decode cX0_findsOne 92 = .ok (.iinc 3 1, 3) := dk_132 3 1 (dk_at dksX0_findsOne_3 21 rfl rfl)
theorem dX0_findsOne_95 : decode cX0_findsOne 95 = .ok (.goto (-93), 3) := dk_167 255 163 (dk_at dksX0_findsOne_4 0 rfl rfl)
theorem dX0_findsOne_98 : decode cX0_findsOne 98 = .ok (.return_, 1) := dk_177 (dk_at dksX0_findsOne_4 3 rfl rfl)
abbrev cX0_canDig : ByteArray := prog_1_method_50_code
def yX0_canDig : MethodName := ⟨RX0, "canDig", "(I)Z"⟩
def dkwX0_canDig_1 : List UInt8 := [3, 172]
abbrev dktX0_canDig_1 : List UInt8 := dkwX0_canDig_1 ++ []
def dkwX0_canDig_0 : List UInt8 := [42, 27, 182, 1, 54, 153, 0, 19, 42, 180, 0, 75, 180, 1, 66, 27, 51, 154, 0, 7, 4, 167, 0, 4]
abbrev dktX0_canDig_0 : List UInt8 := dkwX0_canDig_0 ++ dktX0_canDig_1
theorem dksX0_canDig_0 : cX0_canDig.data.toList.drop 0 = dktX0_canDig_0 := by decide +kernel
theorem dksX0_canDig_1 : cX0_canDig.data.toList.drop 24 = dktX0_canDig_1 := dk_seg dksX0_canDig_0 24 rfl rfl
theorem dX0_canDig_0 : decode cX0_canDig 0 = .ok (.aload_n 0, 1) := dk_42 (dk_at dksX0_canDig_0 0 rfl rfl)
theorem dX0_canDig_1 : decode cX0_canDig 1 = .ok (.iload_n 1, 1) := dk_27 (dk_at dksX0_canDig_0 1 rfl rfl)
theorem dX0_canDig_2 : decode cX0_canDig 2 = .ok (.invokevirtual 310, 3) := dk_182 1 54 (dk_at dksX0_canDig_0 2 rfl rfl)
theorem dX0_canDig_5 : decode cX0_canDig 5 = .ok (.ifCond .eq 19, 3) := dk_153 0 19 (dk_at dksX0_canDig_0 5 rfl rfl)
theorem dX0_canDig_8 : decode cX0_canDig 8 = .ok (.aload_n 0, 1) := dk_42 (dk_at dksX0_canDig_0 8 rfl rfl)
theorem dX0_canDig_9 : decode cX0_canDig 9 = .ok (.getfield 75, 3) := dk_180 0 75 (dk_at dksX0_canDig_0 9 rfl rfl)
theorem dX0_canDig_12 : decode cX0_canDig 12 = .ok (.getfield 322, 3) := dk_180 1 66 (dk_at dksX0_canDig_0 12 rfl rfl)
theorem dX0_canDig_15 : decode cX0_canDig 15 = .ok (.iload_n 1, 1) := dk_27 (dk_at dksX0_canDig_0 15 rfl rfl)
theorem dX0_canDig_16 : decode cX0_canDig 16 = .ok (.baload, 1) := dk_51 (dk_at dksX0_canDig_0 16 rfl rfl)
theorem dX0_canDig_17 : decode cX0_canDig 17 = .ok (.ifCond .ne 7, 3) := dk_154 0 7 (dk_at dksX0_canDig_0 17 rfl rfl)
theorem dX0_canDig_20 : decode cX0_canDig 20 = .ok (.iconst 1, 1) := dk_4 (dk_at dksX0_canDig_0 20 rfl rfl)
theorem dX0_canDig_21 : decode cX0_canDig 21 = .ok (.goto 4, 3) := dk_167 0 4 (dk_at dksX0_canDig_0 21 rfl rfl)
theorem dX0_canDig_24 : decode cX0_canDig 24 = .ok (.iconst 0, 1) := dk_3 (dk_at dksX0_canDig_1 0 rfl rfl)
theorem dX0_canDig_25 : decode cX0_canDig 25 = .ok (.ireturn, 1) := dk_172 (dk_at dksX0_canDig_1 1 rfl rfl)
abbrev cX0_findsTwo : ByteArray := prog_1_method_52_code
def yX0_findsTwo : MethodName := ⟨RX0, "findsTwo", "(II)V"⟩
def dkwX0_findsTwo_6 : List UInt8 := [180, 0, 79, 180, 1, 66, 21, 4, 3, 84, 132, 4, 1, 167, 255, 119, 132, 3, 1, 167, 255, 102, 177]
abbrev dktX0_findsTwo_6 : List UInt8 := dkwX0_findsTwo_6 ++ []
def dkwX0_findsTwo_5 : List UInt8 := [153, 0, 13, 42, 5, 29, 21, 4, 21, 5, 182, 1, 186, 42, 180, 0, 79, 180, 1, 66, 29, 3, 84, 42]
abbrev dktX0_findsTwo_5 : List UInt8 := dkwX0_findsTwo_5 ++ dktX0_findsTwo_6
def dkwX0_findsTwo_4 : List UInt8 := [84, 42, 180, 0, 79, 180, 1, 66, 21, 4, 4, 84, 42, 42, 180, 0, 79, 27, 28, 182, 1, 182]
abbrev dktX0_findsTwo_4 : List UInt8 := dkwX0_findsTwo_4 ++ dktX0_findsTwo_5
def dkwX0_findsTwo_3 : List UInt8 := [159, 0, 15, 21, 5, 42, 180, 1, 179, 161, 0, 6, 167, 0, 68, 42, 180, 0, 79, 180, 1, 66, 29, 4]
abbrev dktX0_findsTwo_3 : List UInt8 := dkwX0_findsTwo_3 ++ dktX0_findsTwo_4
def dkwX0_findsTwo_2 : List UInt8 := [180, 1, 59, 29, 46, 42, 180, 0, 75, 180, 1, 59, 21, 4, 46, 96, 54, 5, 42, 180, 1, 179, 2]
abbrev dktX0_findsTwo_2 : List UInt8 := dkwX0_findsTwo_2 ++ dktX0_findsTwo_3
def dkwX0_findsTwo_1 : List UInt8 := [182, 1, 176, 153, 0, 122, 42, 21, 4, 182, 1, 176, 154, 0, 6, 167, 0, 110, 42, 180, 0, 75]
abbrev dktX0_findsTwo_1 : List UInt8 := dkwX0_findsTwo_1 ++ dktX0_findsTwo_2
def dkwX0_findsTwo_0 : List UInt8 := [3, 62, 29, 16, 100, 162, 0, 154, 29, 4, 96, 54, 4, 21, 4, 16, 100, 162, 0, 136, 42, 29]
abbrev dktX0_findsTwo_0 : List UInt8 := dkwX0_findsTwo_0 ++ dktX0_findsTwo_1
theorem dksX0_findsTwo_0 : cX0_findsTwo.data.toList.drop 0 = dktX0_findsTwo_0 := by decide +kernel
theorem dksX0_findsTwo_1 : cX0_findsTwo.data.toList.drop 22 = dktX0_findsTwo_1 := dk_seg dksX0_findsTwo_0 22 rfl rfl
theorem dksX0_findsTwo_2 : cX0_findsTwo.data.toList.drop 44 = dktX0_findsTwo_2 := dk_seg dksX0_findsTwo_1 22 rfl rfl
theorem dksX0_findsTwo_3 : cX0_findsTwo.data.toList.drop 67 = dktX0_findsTwo_3 := dk_seg dksX0_findsTwo_2 23 rfl rfl
theorem dksX0_findsTwo_4 : cX0_findsTwo.data.toList.drop 91 = dktX0_findsTwo_4 := dk_seg dksX0_findsTwo_3 24 rfl rfl
theorem dksX0_findsTwo_5 : cX0_findsTwo.data.toList.drop 113 = dktX0_findsTwo_5 := dk_seg dksX0_findsTwo_4 22 rfl rfl
theorem dksX0_findsTwo_6 : cX0_findsTwo.data.toList.drop 137 = dktX0_findsTwo_6 := dk_seg dksX0_findsTwo_5 24 rfl rfl
theorem dX0_findsTwo_0 : decode cX0_findsTwo 0 = .ok (.iconst 0, 1) := dk_3 (dk_at dksX0_findsTwo_0 0 rfl rfl)
theorem dX0_findsTwo_1 : decode cX0_findsTwo 1 = .ok (.istore_n 3, 1) := dk_62 (dk_at dksX0_findsTwo_0 1 rfl rfl)
theorem dX0_findsTwo_2 : decode cX0_findsTwo 2 = .ok (.iload_n 3, 1) := dk_29 (dk_at dksX0_findsTwo_0 2 rfl rfl)
theorem dX0_findsTwo_3 : decode cX0_findsTwo 3 = .ok (.bipush 100, 2) := dk_16 100 (dk_at dksX0_findsTwo_0 3 rfl rfl)
theorem dX0_findsTwo_5 : decode cX0_findsTwo 5 = .ok (.if_icmp .ge 154, 3) := dk_162 0 154 (dk_at dksX0_findsTwo_0 5 rfl rfl)
theorem dX0_findsTwo_8 : decode cX0_findsTwo 8 = .ok (.iload_n 3, 1) := dk_29 (dk_at dksX0_findsTwo_0 8 rfl rfl)
theorem dX0_findsTwo_9 : decode cX0_findsTwo 9 = .ok (.iconst 1, 1) := dk_4 (dk_at dksX0_findsTwo_0 9 rfl rfl)
theorem dX0_findsTwo_10 : decode cX0_findsTwo 10 = .ok (.iadd, 1) := dk_96 (dk_at dksX0_findsTwo_0 10 rfl rfl)
theorem dX0_findsTwo_11 : decode cX0_findsTwo 11 = .ok (.istore 4, 2) := dk_54 4 (dk_at dksX0_findsTwo_0 11 rfl rfl)
theorem dX0_findsTwo_13 : decode cX0_findsTwo 13 = .ok (.iload 4, 2) := dk_21 4 (dk_at dksX0_findsTwo_0 13 rfl rfl)
theorem dX0_findsTwo_15 : decode cX0_findsTwo 15 = .ok (.bipush 100, 2) := dk_16 100 (dk_at dksX0_findsTwo_0 15 rfl rfl)
theorem dX0_findsTwo_17 : decode cX0_findsTwo 17 = .ok (.if_icmp .ge 136, 3) := dk_162 0 136 (dk_at dksX0_findsTwo_0 17 rfl rfl)
theorem dX0_findsTwo_20 : decode cX0_findsTwo 20 = .ok (.aload_n 0, 1) := dk_42 (dk_at dksX0_findsTwo_0 20 rfl rfl)
theorem dX0_findsTwo_21 : decode cX0_findsTwo 21 = .ok (.iload_n 3, 1) := dk_29 (dk_at dksX0_findsTwo_0 21 rfl rfl)
theorem dX0_findsTwo_22 : decode cX0_findsTwo 22 = .ok (.invokevirtual 432, 3) := dk_182 1 176 (dk_at dksX0_findsTwo_1 0 rfl rfl)
theorem dX0_findsTwo_25 : decode cX0_findsTwo 25 = .ok (.ifCond .eq 122, 3) := dk_153 0 122 (dk_at dksX0_findsTwo_1 3 rfl rfl)
theorem dX0_findsTwo_28 : decode cX0_findsTwo 28 = .ok (.aload_n 0, 1) := dk_42 (dk_at dksX0_findsTwo_1 6 rfl rfl)
theorem dX0_findsTwo_29 : decode cX0_findsTwo 29 = .ok (.iload 4, 2) := dk_21 4 (dk_at dksX0_findsTwo_1 7 rfl rfl)
theorem dX0_findsTwo_31 : decode cX0_findsTwo 31 = .ok (.invokevirtual 432, 3) := dk_182 1 176 (dk_at dksX0_findsTwo_1 9 rfl rfl)
theorem dX0_findsTwo_34 : decode cX0_findsTwo 34 = .ok (.ifCond .ne 6, 3) := dk_154 0 6 (dk_at dksX0_findsTwo_1 12 rfl rfl)
theorem dX0_findsTwo_37 : decode cX0_findsTwo 37 = .ok (.goto 110, 3) := dk_167 0 110 (dk_at dksX0_findsTwo_1 15 rfl rfl)
theorem dX0_findsTwo_40 : decode cX0_findsTwo 40 = .ok (.aload_n 0, 1) := dk_42 (dk_at dksX0_findsTwo_1 18 rfl rfl)
theorem dX0_findsTwo_41 : decode cX0_findsTwo 41 = .ok (.getfield 75, 3) := dk_180 0 75 (dk_at dksX0_findsTwo_1 19 rfl rfl)
theorem dX0_findsTwo_44 : decode cX0_findsTwo 44 = .ok (.getfield 315, 3) := dk_180 1 59 (dk_at dksX0_findsTwo_2 0 rfl rfl)
theorem dX0_findsTwo_47 : decode cX0_findsTwo 47 = .ok (.iload_n 3, 1) := dk_29 (dk_at dksX0_findsTwo_2 3 rfl rfl)
theorem dX0_findsTwo_48 : decode cX0_findsTwo 48 = .ok (.iaload, 1) := dk_46 (dk_at dksX0_findsTwo_2 4 rfl rfl)
theorem dX0_findsTwo_49 : decode cX0_findsTwo 49 = .ok (.aload_n 0, 1) := dk_42 (dk_at dksX0_findsTwo_2 5 rfl rfl)
theorem dX0_findsTwo_50 : decode cX0_findsTwo 50 = .ok (.getfield 75, 3) := dk_180 0 75 (dk_at dksX0_findsTwo_2 6 rfl rfl)
theorem dX0_findsTwo_53 : decode cX0_findsTwo 53 = .ok (.getfield 315, 3) := dk_180 1 59 (dk_at dksX0_findsTwo_2 9 rfl rfl)
theorem dX0_findsTwo_56 : decode cX0_findsTwo 56 = .ok (.iload 4, 2) := dk_21 4 (dk_at dksX0_findsTwo_2 12 rfl rfl)
theorem dX0_findsTwo_58 : decode cX0_findsTwo 58 = .ok (.iaload, 1) := dk_46 (dk_at dksX0_findsTwo_2 14 rfl rfl)
theorem dX0_findsTwo_59 : decode cX0_findsTwo 59 = .ok (.iadd, 1) := dk_96 (dk_at dksX0_findsTwo_2 15 rfl rfl)
theorem dX0_findsTwo_60 : decode cX0_findsTwo 60 = .ok (.istore 5, 2) := dk_54 5 (dk_at dksX0_findsTwo_2 16 rfl rfl)
theorem dX0_findsTwo_62 : decode cX0_findsTwo 62 = .ok (.aload_n 0, 1) := dk_42 (dk_at dksX0_findsTwo_2 18 rfl rfl)
theorem dX0_findsTwo_63 : decode cX0_findsTwo 63 = .ok (.getfield 435, 3) := dk_180 1 179 (dk_at dksX0_findsTwo_2 19 rfl rfl)
theorem dX0_findsTwo_66 : decode cX0_findsTwo 66 = .ok (.iconst (-1), 1) := dk_2 (dk_at dksX0_findsTwo_2 22 rfl rfl)
theorem dX0_findsTwo_67 : decode cX0_findsTwo 67 = .ok (.if_icmp .eq 15, 3) := dk_159 0 15 (dk_at dksX0_findsTwo_3 0 rfl rfl)
theorem dX0_findsTwo_70 : decode cX0_findsTwo 70 = .ok (.iload 5, 2) := dk_21 5 (dk_at dksX0_findsTwo_3 3 rfl rfl)
theorem dX0_findsTwo_72 : decode cX0_findsTwo 72 = .ok (.aload_n 0, 1) := dk_42 (dk_at dksX0_findsTwo_3 5 rfl rfl)
theorem dX0_findsTwo_73 : decode cX0_findsTwo 73 = .ok (.getfield 435, 3) := dk_180 1 179 (dk_at dksX0_findsTwo_3 6 rfl rfl)
theorem dX0_findsTwo_76 : decode cX0_findsTwo 76 = .ok (.if_icmp .lt 6, 3) := dk_161 0 6 (dk_at dksX0_findsTwo_3 9 rfl rfl)
theorem dX0_findsTwo_79 : decode cX0_findsTwo 79 = .ok (.goto 68, 3) := dk_167 0 68 (dk_at dksX0_findsTwo_3 12 rfl rfl)
theorem dX0_findsTwo_82 : decode cX0_findsTwo 82 = .ok (.aload_n 0, 1) := dk_42 (dk_at dksX0_findsTwo_3 15 rfl rfl)
theorem dX0_findsTwo_83 : decode cX0_findsTwo 83 = .ok (.getfield 79, 3) := dk_180 0 79 (dk_at dksX0_findsTwo_3 16 rfl rfl)
theorem dX0_findsTwo_86 : decode cX0_findsTwo 86 = .ok (.getfield 322, 3) := dk_180 1 66 (dk_at dksX0_findsTwo_3 19 rfl rfl)
theorem dX0_findsTwo_89 : decode cX0_findsTwo 89 = .ok (.iload_n 3, 1) := dk_29 (dk_at dksX0_findsTwo_3 22 rfl rfl)
theorem dX0_findsTwo_90 : decode cX0_findsTwo 90 = .ok (.iconst 1, 1) := dk_4 (dk_at dksX0_findsTwo_3 23 rfl rfl)
theorem dX0_findsTwo_91 : decode cX0_findsTwo 91 = .ok (.bastore, 1) := dk_84 (dk_at dksX0_findsTwo_4 0 rfl rfl)
theorem dX0_findsTwo_92 : decode cX0_findsTwo 92 = .ok (.aload_n 0, 1) := dk_42 (dk_at dksX0_findsTwo_4 1 rfl rfl)
theorem dX0_findsTwo_93 : decode cX0_findsTwo 93 = .ok (.getfield 79, 3) := dk_180 0 79 (dk_at dksX0_findsTwo_4 2 rfl rfl)
theorem dX0_findsTwo_96 : decode cX0_findsTwo 96 = .ok (.getfield 322, 3) := dk_180 1 66 (dk_at dksX0_findsTwo_4 5 rfl rfl)
theorem dX0_findsTwo_99 : decode cX0_findsTwo 99 = .ok (.iload 4, 2) := dk_21 4 (dk_at dksX0_findsTwo_4 8 rfl rfl)
theorem dX0_findsTwo_101 : decode cX0_findsTwo 101 = .ok (.iconst 1, 1) := dk_4 (dk_at dksX0_findsTwo_4 10 rfl rfl)
theorem dX0_findsTwo_102 : decode cX0_findsTwo 102 = .ok (.bastore, 1) := dk_84 (dk_at dksX0_findsTwo_4 11 rfl rfl)
theorem dX0_findsTwo_103 : decode cX0_findsTwo 103 = .ok (.aload_n 0, 1) := dk_42 (dk_at dksX0_findsTwo_4 12 rfl rfl)
theorem dX0_findsTwo_104 : decode cX0_findsTwo 104 = .ok (.aload_n 0, 1) := dk_42 (dk_at dksX0_findsTwo_4 13 rfl rfl)
theorem dX0_findsTwo_105 : decode cX0_findsTwo 105 = .ok (.getfield 79, 3) := dk_180 0 79 (dk_at dksX0_findsTwo_4 14 rfl rfl)
theorem dX0_findsTwo_108 : decode cX0_findsTwo 108 = .ok (.iload_n 1, 1) := dk_27 (dk_at dksX0_findsTwo_4 17 rfl rfl)
theorem dX0_findsTwo_109 : decode cX0_findsTwo 109 = .ok (.iload_n 2, 1) := dk_28 (dk_at dksX0_findsTwo_4 18 rfl rfl)
theorem dX0_findsTwo_110 : decode cX0_findsTwo 110 = .ok (.invokevirtual 438, 3) := dk_182 1 182 (dk_at dksX0_findsTwo_4 19 rfl rfl)
theorem dX0_findsTwo_113 : decode cX0_findsTwo 113 = .ok (.ifCond .eq 13, 3) := dk_153 0 13 (dk_at dksX0_findsTwo_5 0 rfl rfl)
theorem dX0_findsTwo_116 : decode cX0_findsTwo 116 = .ok (.aload_n 0, 1) := dk_42 (dk_at dksX0_findsTwo_5 3 rfl rfl)
theorem dX0_findsTwo_117 : decode cX0_findsTwo 117 = .ok (.iconst 2, 1) := dk_5 (dk_at dksX0_findsTwo_5 4 rfl rfl)
theorem dX0_findsTwo_118 : decode cX0_findsTwo 118 = .ok (.iload_n 3, 1) := dk_29 (dk_at dksX0_findsTwo_5 5 rfl rfl)
theorem dX0_findsTwo_119 : decode cX0_findsTwo 119 = .ok (.iload 4, 2) := dk_21 4 (dk_at dksX0_findsTwo_5 6 rfl rfl)
theorem dX0_findsTwo_121 : decode cX0_findsTwo 121 = .ok (.iload 5, 2) := dk_21 5 (dk_at dksX0_findsTwo_5 8 rfl rfl)
theorem dX0_findsTwo_123 : decode cX0_findsTwo 123 = .ok (.invokevirtual 442, 3) := dk_182 1 186 (dk_at dksX0_findsTwo_5 10 rfl rfl)
theorem dX0_findsTwo_126 : decode cX0_findsTwo 126 = .ok (.aload_n 0, 1) := dk_42 (dk_at dksX0_findsTwo_5 13 rfl rfl)
theorem dX0_findsTwo_127 : decode cX0_findsTwo 127 = .ok (.getfield 79, 3) := dk_180 0 79 (dk_at dksX0_findsTwo_5 14 rfl rfl)
theorem dX0_findsTwo_130 : decode cX0_findsTwo 130 = .ok (.getfield 322, 3) := dk_180 1 66 (dk_at dksX0_findsTwo_5 17 rfl rfl)
theorem dX0_findsTwo_133 : decode cX0_findsTwo 133 = .ok (.iload_n 3, 1) := dk_29 (dk_at dksX0_findsTwo_5 20 rfl rfl)
theorem dX0_findsTwo_134 : decode cX0_findsTwo 134 = .ok (.iconst 0, 1) := dk_3 (dk_at dksX0_findsTwo_5 21 rfl rfl)
theorem dX0_findsTwo_135 : decode cX0_findsTwo 135 = .ok (.bastore, 1) := dk_84 (dk_at dksX0_findsTwo_5 22 rfl rfl)
theorem dX0_findsTwo_136 : decode cX0_findsTwo 136 = .ok (.aload_n 0, 1) := dk_42 (dk_at dksX0_findsTwo_5 23 rfl rfl)
theorem dX0_findsTwo_137 : decode cX0_findsTwo 137 = .ok (.getfield 79, 3) := dk_180 0 79 (dk_at dksX0_findsTwo_6 0 rfl rfl)
theorem dX0_findsTwo_140 : decode cX0_findsTwo 140 = .ok (.getfield 322, 3) := dk_180 1 66 (dk_at dksX0_findsTwo_6 3 rfl rfl)
theorem dX0_findsTwo_143 : decode cX0_findsTwo 143 = .ok (.iload 4, 2) := dk_21 4 (dk_at dksX0_findsTwo_6 6 rfl rfl)
theorem dX0_findsTwo_145 : decode cX0_findsTwo 145 = .ok (.iconst 0, 1) := dk_3 (dk_at dksX0_findsTwo_6 8 rfl rfl)
theorem dX0_findsTwo_146 : decode cX0_findsTwo 146 = .ok (.bastore, 1) := dk_84 (dk_at dksX0_findsTwo_6 9 rfl rfl)
theorem dX0_findsTwo_147 : decode cX0_findsTwo 147 = .ok (.iinc 4 1, 3) := dk_132 4 1 (dk_at dksX0_findsTwo_6 10 rfl rfl)
theorem dX0_findsTwo_150 : decode cX0_findsTwo 150 = .ok (.goto (-137), 3) := dk_167 255 119 (dk_at dksX0_findsTwo_6 13 rfl rfl)
theorem dX0_findsTwo_153 : decode cX0_findsTwo 153 = .ok (.iinc 3 1, 3) := dk_132 3 1 (dk_at dksX0_findsTwo_6 16 rfl rfl)
theorem dX0_findsTwo_156 : decode cX0_findsTwo 156 = .ok (.goto (-154), 3) := dk_167 255 102 (dk_at dksX0_findsTwo_6 19 rfl rfl)
theorem dX0_findsTwo_159 : decode cX0_findsTwo 159 = .ok (.return_, 1) := dk_177 (dk_at dksX0_findsTwo_6 22 rfl rfl)
abbrev cX0_hatch : ByteArray := prog_1_method_55_code
def yX0_hatch : MethodName := ⟨RX0, "hatch", "(III)I"⟩
def dkwX0_hatch_5 : List UInt8 := [180, 1, 217, 21, 4, 29, 79, 42, 180, 0, 75, 89, 180, 1, 208, 4, 96, 181, 1, 208, 21, 4, 172]
abbrev dktX0_hatch_5 : List UInt8 := dkwX0_hatch_5 ++ []
def dkwX0_hatch_4 : List UInt8 := [180, 1, 211, 21, 4, 27, 79, 42, 180, 0, 75, 180, 1, 214, 21, 4, 28, 79, 42, 180, 0, 75]
abbrev dktX0_hatch_4 : List UInt8 := dkwX0_hatch_4 ++ dktX0_hatch_5
def dkwX0_hatch_3 : List UInt8 := [160, 0, 5, 2, 172, 132, 4, 1, 167, 255, 225, 42, 180, 0, 75, 180, 1, 208, 54, 4, 42, 180, 0, 75]
abbrev dktX0_hatch_3 : List UInt8 := dkwX0_hatch_3 ++ dktX0_hatch_4
def dkwX0_hatch_2 : List UInt8 := [21, 4, 42, 180, 0, 75, 180, 1, 208, 162, 0, 25, 42, 180, 0, 75, 180, 1, 211, 21, 4, 46, 27]
abbrev dktX0_hatch_2 : List UInt8 := dkwX0_hatch_2 ++ dktX0_hatch_3
def dkwX0_hatch_1 : List UInt8 := [184, 0, 128, 153, 0, 15, 42, 180, 0, 75, 180, 1, 208, 16, 6, 160, 0, 5, 2, 172, 3, 54, 4]
abbrev dktX0_hatch_1 : List UInt8 := dkwX0_hatch_1 ++ dktX0_hatch_2
def dkwX0_hatch_0 : List UInt8 := [42, 27, 182, 1, 54, 153, 0, 35, 28, 3, 16, 99, 184, 0, 128, 153, 0, 25, 29, 3, 16, 10]
abbrev dktX0_hatch_0 : List UInt8 := dkwX0_hatch_0 ++ dktX0_hatch_1
theorem dksX0_hatch_0 : cX0_hatch.data.toList.drop 0 = dktX0_hatch_0 := by decide +kernel
theorem dksX0_hatch_1 : cX0_hatch.data.toList.drop 22 = dktX0_hatch_1 := dk_seg dksX0_hatch_0 22 rfl rfl
theorem dksX0_hatch_2 : cX0_hatch.data.toList.drop 45 = dktX0_hatch_2 := dk_seg dksX0_hatch_1 23 rfl rfl
theorem dksX0_hatch_3 : cX0_hatch.data.toList.drop 68 = dktX0_hatch_3 := dk_seg dksX0_hatch_2 23 rfl rfl
theorem dksX0_hatch_4 : cX0_hatch.data.toList.drop 92 = dktX0_hatch_4 := dk_seg dksX0_hatch_3 24 rfl rfl
theorem dksX0_hatch_5 : cX0_hatch.data.toList.drop 114 = dktX0_hatch_5 := dk_seg dksX0_hatch_4 22 rfl rfl
theorem dX0_hatch_0 : decode cX0_hatch 0 = .ok (.aload_n 0, 1) := dk_42 (dk_at dksX0_hatch_0 0 rfl rfl)
theorem dX0_hatch_1 : decode cX0_hatch 1 = .ok (.iload_n 1, 1) := dk_27 (dk_at dksX0_hatch_0 1 rfl rfl)
theorem dX0_hatch_2 : decode cX0_hatch 2 = .ok (.invokevirtual 310, 3) := dk_182 1 54 (dk_at dksX0_hatch_0 2 rfl rfl)
theorem dX0_hatch_5 : decode cX0_hatch 5 = .ok (.ifCond .eq 35, 3) := dk_153 0 35 (dk_at dksX0_hatch_0 5 rfl rfl)
theorem dX0_hatch_8 : decode cX0_hatch 8 = .ok (.iload_n 2, 1) := dk_28 (dk_at dksX0_hatch_0 8 rfl rfl)
theorem dX0_hatch_9 : decode cX0_hatch 9 = .ok (.iconst 0, 1) := dk_3 (dk_at dksX0_hatch_0 9 rfl rfl)
theorem dX0_hatch_10 : decode cX0_hatch 10 = .ok (.bipush 99, 2) := dk_16 99 (dk_at dksX0_hatch_0 10 rfl rfl)
theorem dX0_hatch_12 : decode cX0_hatch 12 = .ok (.invokestatic 128, 3) := dk_184 0 128 (dk_at dksX0_hatch_0 12 rfl rfl)
theorem dX0_hatch_15 : decode cX0_hatch 15 = .ok (.ifCond .eq 25, 3) := dk_153 0 25 (dk_at dksX0_hatch_0 15 rfl rfl)
theorem dX0_hatch_18 : decode cX0_hatch 18 = .ok (.iload_n 3, 1) := dk_29 (dk_at dksX0_hatch_0 18 rfl rfl)
theorem dX0_hatch_19 : decode cX0_hatch 19 = .ok (.iconst 0, 1) := dk_3 (dk_at dksX0_hatch_0 19 rfl rfl)
theorem dX0_hatch_20 : decode cX0_hatch 20 = .ok (.bipush 10, 2) := dk_16 10 (dk_at dksX0_hatch_0 20 rfl rfl)
theorem dX0_hatch_22 : decode cX0_hatch 22 = .ok (.invokestatic 128, 3) := dk_184 0 128 (dk_at dksX0_hatch_1 0 rfl rfl)
theorem dX0_hatch_25 : decode cX0_hatch 25 = .ok (.ifCond .eq 15, 3) := dk_153 0 15 (dk_at dksX0_hatch_1 3 rfl rfl)
theorem dX0_hatch_28 : decode cX0_hatch 28 = .ok (.aload_n 0, 1) := dk_42 (dk_at dksX0_hatch_1 6 rfl rfl)
theorem dX0_hatch_29 : decode cX0_hatch 29 = .ok (.getfield 75, 3) := dk_180 0 75 (dk_at dksX0_hatch_1 7 rfl rfl)
theorem dX0_hatch_32 : decode cX0_hatch 32 = .ok (.getfield 464, 3) := dk_180 1 208 (dk_at dksX0_hatch_1 10 rfl rfl)
theorem dX0_hatch_35 : decode cX0_hatch 35 = .ok (.bipush 6, 2) := dk_16 6 (dk_at dksX0_hatch_1 13 rfl rfl)
theorem dX0_hatch_37 : decode cX0_hatch 37 = .ok (.if_icmp .ne 5, 3) := dk_160 0 5 (dk_at dksX0_hatch_1 15 rfl rfl)
theorem dX0_hatch_40 : decode cX0_hatch 40 = .ok (.iconst (-1), 1) := dk_2 (dk_at dksX0_hatch_1 18 rfl rfl)
theorem dX0_hatch_41 : decode cX0_hatch 41 = .ok (.ireturn, 1) := dk_172 (dk_at dksX0_hatch_1 19 rfl rfl)
theorem dX0_hatch_42 : decode cX0_hatch 42 = .ok (.iconst 0, 1) := dk_3 (dk_at dksX0_hatch_1 20 rfl rfl)
theorem dX0_hatch_43 : decode cX0_hatch 43 = .ok (.istore 4, 2) := dk_54 4 (dk_at dksX0_hatch_1 21 rfl rfl)
theorem dX0_hatch_45 : decode cX0_hatch 45 = .ok (.iload 4, 2) := dk_21 4 (dk_at dksX0_hatch_2 0 rfl rfl)
theorem dX0_hatch_47 : decode cX0_hatch 47 = .ok (.aload_n 0, 1) := dk_42 (dk_at dksX0_hatch_2 2 rfl rfl)
theorem dX0_hatch_48 : decode cX0_hatch 48 = .ok (.getfield 75, 3) := dk_180 0 75 (dk_at dksX0_hatch_2 3 rfl rfl)
theorem dX0_hatch_51 : decode cX0_hatch 51 = .ok (.getfield 464, 3) := dk_180 1 208 (dk_at dksX0_hatch_2 6 rfl rfl)
theorem dX0_hatch_54 : decode cX0_hatch 54 = .ok (.if_icmp .ge 25, 3) := dk_162 0 25 (dk_at dksX0_hatch_2 9 rfl rfl)
theorem dX0_hatch_57 : decode cX0_hatch 57 = .ok (.aload_n 0, 1) := dk_42 (dk_at dksX0_hatch_2 12 rfl rfl)
theorem dX0_hatch_58 : decode cX0_hatch 58 = .ok (.getfield 75, 3) := dk_180 0 75 (dk_at dksX0_hatch_2 13 rfl rfl)
theorem dX0_hatch_61 : decode cX0_hatch 61 = .ok (.getfield 467, 3) := dk_180 1 211 (dk_at dksX0_hatch_2 16 rfl rfl)
theorem dX0_hatch_64 : decode cX0_hatch 64 = .ok (.iload 4, 2) := dk_21 4 (dk_at dksX0_hatch_2 19 rfl rfl)
theorem dX0_hatch_66 : decode cX0_hatch 66 = .ok (.iaload, 1) := dk_46 (dk_at dksX0_hatch_2 21 rfl rfl)
theorem dX0_hatch_67 : decode cX0_hatch 67 = .ok (.iload_n 1, 1) := dk_27 (dk_at dksX0_hatch_2 22 rfl rfl)
theorem dX0_hatch_68 : decode cX0_hatch 68 = .ok (.if_icmp .ne 5, 3) := dk_160 0 5 (dk_at dksX0_hatch_3 0 rfl rfl)
theorem dX0_hatch_71 : decode cX0_hatch 71 = .ok (.iconst (-1), 1) := dk_2 (dk_at dksX0_hatch_3 3 rfl rfl)
theorem dX0_hatch_72 : decode cX0_hatch 72 = .ok (.ireturn, 1) := dk_172 (dk_at dksX0_hatch_3 4 rfl rfl)
theorem dX0_hatch_73 : decode cX0_hatch 73 = .ok (.iinc 4 1, 3) := dk_132 4 1 (dk_at dksX0_hatch_3 5 rfl rfl)
theorem dX0_hatch_76 : decode cX0_hatch 76 = .ok (.goto (-31), 3) := dk_167 255 225 (dk_at dksX0_hatch_3 8 rfl rfl)
theorem dX0_hatch_79 : decode cX0_hatch 79 = .ok (.aload_n 0, 1) := dk_42 (dk_at dksX0_hatch_3 11 rfl rfl)
theorem dX0_hatch_80 : decode cX0_hatch 80 = .ok (.getfield 75, 3) := dk_180 0 75 (dk_at dksX0_hatch_3 12 rfl rfl)
theorem dX0_hatch_83 : decode cX0_hatch 83 = .ok (.getfield 464, 3) := dk_180 1 208 (dk_at dksX0_hatch_3 15 rfl rfl)
theorem dX0_hatch_86 : decode cX0_hatch 86 = .ok (.istore 4, 2) := dk_54 4 (dk_at dksX0_hatch_3 18 rfl rfl)
theorem dX0_hatch_88 : decode cX0_hatch 88 = .ok (.aload_n 0, 1) := dk_42 (dk_at dksX0_hatch_3 20 rfl rfl)
theorem dX0_hatch_89 : decode cX0_hatch 89 = .ok (.getfield 75, 3) := dk_180 0 75 (dk_at dksX0_hatch_3 21 rfl rfl)
theorem dX0_hatch_92 : decode cX0_hatch 92 = .ok (.getfield 467, 3) := dk_180 1 211 (dk_at dksX0_hatch_4 0 rfl rfl)
theorem dX0_hatch_95 : decode cX0_hatch 95 = .ok (.iload 4, 2) := dk_21 4 (dk_at dksX0_hatch_4 3 rfl rfl)
theorem dX0_hatch_97 : decode cX0_hatch 97 = .ok (.iload_n 1, 1) := dk_27 (dk_at dksX0_hatch_4 5 rfl rfl)
theorem dX0_hatch_98 : decode cX0_hatch 98 = .ok (.iastore, 1) := dk_79 (dk_at dksX0_hatch_4 6 rfl rfl)
theorem dX0_hatch_99 : decode cX0_hatch 99 = .ok (.aload_n 0, 1) := dk_42 (dk_at dksX0_hatch_4 7 rfl rfl)
theorem dX0_hatch_100 : decode cX0_hatch 100 = .ok (.getfield 75, 3) := dk_180 0 75 (dk_at dksX0_hatch_4 8 rfl rfl)
theorem dX0_hatch_103 : decode cX0_hatch 103 = .ok (.getfield 470, 3) := dk_180 1 214 (dk_at dksX0_hatch_4 11 rfl rfl)
theorem dX0_hatch_106 : decode cX0_hatch 106 = .ok (.iload 4, 2) := dk_21 4 (dk_at dksX0_hatch_4 14 rfl rfl)
theorem dX0_hatch_108 : decode cX0_hatch 108 = .ok (.iload_n 2, 1) := dk_28 (dk_at dksX0_hatch_4 16 rfl rfl)
theorem dX0_hatch_109 : decode cX0_hatch 109 = .ok (.iastore, 1) := dk_79 (dk_at dksX0_hatch_4 17 rfl rfl)
theorem dX0_hatch_110 : decode cX0_hatch 110 = .ok (.aload_n 0, 1) := dk_42 (dk_at dksX0_hatch_4 18 rfl rfl)
theorem dX0_hatch_111 : decode cX0_hatch 111 = .ok (.getfield 75, 3) := dk_180 0 75 (dk_at dksX0_hatch_4 19 rfl rfl)
theorem dX0_hatch_114 : decode cX0_hatch 114 = .ok (.getfield 473, 3) := dk_180 1 217 (dk_at dksX0_hatch_5 0 rfl rfl)
theorem dX0_hatch_117 : decode cX0_hatch 117 = .ok (.iload 4, 2) := dk_21 4 (dk_at dksX0_hatch_5 3 rfl rfl)
theorem dX0_hatch_119 : decode cX0_hatch 119 = .ok (.iload_n 3, 1) := dk_29 (dk_at dksX0_hatch_5 5 rfl rfl)
theorem dX0_hatch_120 : decode cX0_hatch 120 = .ok (.iastore, 1) := dk_79 (dk_at dksX0_hatch_5 6 rfl rfl)
theorem dX0_hatch_121 : decode cX0_hatch 121 = .ok (.aload_n 0, 1) := dk_42 (dk_at dksX0_hatch_5 7 rfl rfl)
theorem dX0_hatch_122 : decode cX0_hatch 122 = .ok (.getfield 75, 3) := dk_180 0 75 (dk_at dksX0_hatch_5 8 rfl rfl)
theorem dX0_hatch_125 : decode cX0_hatch 125 = .ok (.dup, 1) := dk_89 (dk_at dksX0_hatch_5 11 rfl rfl)
theorem dX0_hatch_126 : decode cX0_hatch 126 = .ok (.getfield 464, 3) := dk_180 1 208 (dk_at dksX0_hatch_5 12 rfl rfl)
theorem dX0_hatch_129 : decode cX0_hatch 129 = .ok (.iconst 1, 1) := dk_4 (dk_at dksX0_hatch_5 15 rfl rfl)
theorem dX0_hatch_130 : decode cX0_hatch 130 = .ok (.iadd, 1) := dk_96 (dk_at dksX0_hatch_5 16 rfl rfl)
theorem dX0_hatch_131 : decode cX0_hatch 131 = .ok (.putfield 464, 3) := dk_181 1 208 (dk_at dksX0_hatch_5 17 rfl rfl)
theorem dX0_hatch_134 : decode cX0_hatch 134 = .ok (.iload 4, 2) := dk_21 4 (dk_at dksX0_hatch_5 20 rfl rfl)
theorem dX0_hatch_136 : decode cX0_hatch 136 = .ok (.ireturn, 1) := dk_172 (dk_at dksX0_hatch_5 22 rfl rfl)
abbrev cX0_odds : ByteArray := prog_1_method_57_code
def yX0_odds : MethodName := ⟨RX0, "odds", "(II)I"⟩
def dkwX0_odds_6 : List UInt8 := [167, 255, 138, 29, 172]
abbrev dktX0_odds_6 : List UInt8 := dkwX0_odds_6 ++ []
def dkwX0_odds_5 : List UInt8 := [29, 42, 180, 0, 98, 27, 28, 182, 1, 173, 153, 0, 8, 21, 5, 167, 0, 4, 3, 96, 62, 132, 4, 1]
abbrev dktX0_odds_5 : List UInt8 := dkwX0_odds_5 ++ dktX0_odds_6
def dkwX0_odds_4 : List UInt8 := [100, 104, 54, 5, 132, 6, 1, 167, 255, 199, 21, 5, 154, 0, 6, 167, 0, 30, 42, 21, 4, 182, 1, 220]
abbrev dktX0_odds_4 : List UInt8 := dkwX0_odds_4 ++ dktX0_odds_5
def dkwX0_odds_3 : List UInt8 := [180, 0, 75, 180, 1, 217, 21, 6, 46, 167, 0, 16, 16, 10, 42, 180, 0, 75, 180, 1, 217, 21, 6, 46]
abbrev dktX0_odds_3 : List UInt8 := dkwX0_odds_3 ++ dktX0_odds_4
def dkwX0_odds_2 : List UInt8 := [180, 0, 75, 180, 1, 208, 162, 0, 51, 21, 5, 21, 4, 21, 6, 122, 4, 126, 4, 160, 0, 16, 42]
abbrev dktX0_odds_2 : List UInt8 := dkwX0_odds_2 ++ dktX0_odds_3
def dkwX0_odds_1 : List UInt8 := [21, 4, 4, 42, 180, 0, 75, 180, 1, 208, 120, 162, 0, 110, 4, 54, 5, 3, 54, 6, 21, 6, 42]
abbrev dktX0_odds_1 : List UInt8 := dkwX0_odds_1 ++ dktX0_odds_2
def dkwX0_odds_0 : List UInt8 := [42, 27, 182, 1, 54, 153, 0, 11, 42, 28, 182, 1, 54, 154, 0, 5, 2, 172, 3, 62, 3, 54, 4]
abbrev dktX0_odds_0 : List UInt8 := dkwX0_odds_0 ++ dktX0_odds_1
theorem dksX0_odds_0 : cX0_odds.data.toList.drop 0 = dktX0_odds_0 := by decide +kernel
theorem dksX0_odds_1 : cX0_odds.data.toList.drop 23 = dktX0_odds_1 := dk_seg dksX0_odds_0 23 rfl rfl
theorem dksX0_odds_2 : cX0_odds.data.toList.drop 46 = dktX0_odds_2 := dk_seg dksX0_odds_1 23 rfl rfl
theorem dksX0_odds_3 : cX0_odds.data.toList.drop 69 = dktX0_odds_3 := dk_seg dksX0_odds_2 23 rfl rfl
theorem dksX0_odds_4 : cX0_odds.data.toList.drop 93 = dktX0_odds_4 := dk_seg dksX0_odds_3 24 rfl rfl
theorem dksX0_odds_5 : cX0_odds.data.toList.drop 117 = dktX0_odds_5 := dk_seg dksX0_odds_4 24 rfl rfl
theorem dksX0_odds_6 : cX0_odds.data.toList.drop 141 = dktX0_odds_6 := dk_seg dksX0_odds_5 24 rfl rfl
theorem dX0_odds_0 : decode cX0_odds 0 = .ok (.aload_n 0, 1) := dk_42 (dk_at dksX0_odds_0 0 rfl rfl)
theorem dX0_odds_1 : decode cX0_odds 1 = .ok (.iload_n 1, 1) := dk_27 (dk_at dksX0_odds_0 1 rfl rfl)
theorem dX0_odds_2 : decode cX0_odds 2 = .ok (.invokevirtual 310, 3) := dk_182 1 54 (dk_at dksX0_odds_0 2 rfl rfl)
theorem dX0_odds_5 : decode cX0_odds 5 = .ok (.ifCond .eq 11, 3) := dk_153 0 11 (dk_at dksX0_odds_0 5 rfl rfl)
theorem dX0_odds_8 : decode cX0_odds 8 = .ok (.aload_n 0, 1) := dk_42 (dk_at dksX0_odds_0 8 rfl rfl)
theorem dX0_odds_9 : decode cX0_odds 9 = .ok (.iload_n 2, 1) := dk_28 (dk_at dksX0_odds_0 9 rfl rfl)
theorem dX0_odds_10 : decode cX0_odds 10 = .ok (.invokevirtual 310, 3) := dk_182 1 54 (dk_at dksX0_odds_0 10 rfl rfl)
theorem dX0_odds_13 : decode cX0_odds 13 = .ok (.ifCond .ne 5, 3) := dk_154 0 5 (dk_at dksX0_odds_0 13 rfl rfl)
theorem dX0_odds_16 : decode cX0_odds 16 = .ok (.iconst (-1), 1) := dk_2 (dk_at dksX0_odds_0 16 rfl rfl)
theorem dX0_odds_17 : decode cX0_odds 17 = .ok (.ireturn, 1) := dk_172 (dk_at dksX0_odds_0 17 rfl rfl)
theorem dX0_odds_18 : decode cX0_odds 18 = .ok (.iconst 0, 1) := dk_3 (dk_at dksX0_odds_0 18 rfl rfl)
theorem dX0_odds_19 : decode cX0_odds 19 = .ok (.istore_n 3, 1) := dk_62 (dk_at dksX0_odds_0 19 rfl rfl)
theorem dX0_odds_20 : decode cX0_odds 20 = .ok (.iconst 0, 1) := dk_3 (dk_at dksX0_odds_0 20 rfl rfl)
theorem dX0_odds_21 : decode cX0_odds 21 = .ok (.istore 4, 2) := dk_54 4 (dk_at dksX0_odds_0 21 rfl rfl)
theorem dX0_odds_23 : decode cX0_odds 23 = .ok (.iload 4, 2) := dk_21 4 (dk_at dksX0_odds_1 0 rfl rfl)
theorem dX0_odds_25 : decode cX0_odds 25 = .ok (.iconst 1, 1) := dk_4 (dk_at dksX0_odds_1 2 rfl rfl)
theorem dX0_odds_26 : decode cX0_odds 26 = .ok (.aload_n 0, 1) := dk_42 (dk_at dksX0_odds_1 3 rfl rfl)
theorem dX0_odds_27 : decode cX0_odds 27 = .ok (.getfield 75, 3) := dk_180 0 75 (dk_at dksX0_odds_1 4 rfl rfl)
theorem dX0_odds_30 : decode cX0_odds 30 = .ok (.getfield 464, 3) := dk_180 1 208 (dk_at dksX0_odds_1 7 rfl rfl)
theorem dX0_odds_33 : decode cX0_odds 33 = .ok (.ishl, 1) := dk_120 (dk_at dksX0_odds_1 10 rfl rfl)
theorem dX0_odds_34 : decode cX0_odds 34 = .ok (.if_icmp .ge 110, 3) := dk_162 0 110 (dk_at dksX0_odds_1 11 rfl rfl)
theorem dX0_odds_37 : decode cX0_odds 37 = .ok (.iconst 1, 1) := dk_4 (dk_at dksX0_odds_1 14 rfl rfl)
theorem dX0_odds_38 : decode cX0_odds 38 = .ok (.istore 5, 2) := dk_54 5 (dk_at dksX0_odds_1 15 rfl rfl)
theorem dX0_odds_40 : decode cX0_odds 40 = .ok (.iconst 0, 1) := dk_3 (dk_at dksX0_odds_1 17 rfl rfl)
theorem dX0_odds_41 : decode cX0_odds 41 = .ok (.istore 6, 2) := dk_54 6 (dk_at dksX0_odds_1 18 rfl rfl)
theorem dX0_odds_43 : decode cX0_odds 43 = .ok (.iload 6, 2) := dk_21 6 (dk_at dksX0_odds_1 20 rfl rfl)
theorem dX0_odds_45 : decode cX0_odds 45 = .ok (.aload_n 0, 1) := dk_42 (dk_at dksX0_odds_1 22 rfl rfl)
theorem dX0_odds_46 : decode cX0_odds 46 = .ok (.getfield 75, 3) := dk_180 0 75 (dk_at dksX0_odds_2 0 rfl rfl)
theorem dX0_odds_49 : decode cX0_odds 49 = .ok (.getfield 464, 3) := dk_180 1 208 (dk_at dksX0_odds_2 3 rfl rfl)
theorem dX0_odds_52 : decode cX0_odds 52 = .ok (.if_icmp .ge 51, 3) := dk_162 0 51 (dk_at dksX0_odds_2 6 rfl rfl)
theorem dX0_odds_55 : decode cX0_odds 55 = .ok (.iload 5, 2) := dk_21 5 (dk_at dksX0_odds_2 9 rfl rfl)
theorem dX0_odds_57 : decode cX0_odds 57 = .ok (.iload 4, 2) := dk_21 4 (dk_at dksX0_odds_2 11 rfl rfl)
theorem dX0_odds_59 : decode cX0_odds 59 = .ok (.iload 6, 2) := dk_21 6 (dk_at dksX0_odds_2 13 rfl rfl)
theorem dX0_odds_61 : decode cX0_odds 61 = .ok (.ishr, 1) := dk_122 (dk_at dksX0_odds_2 15 rfl rfl)
theorem dX0_odds_62 : decode cX0_odds 62 = .ok (.iconst 1, 1) := dk_4 (dk_at dksX0_odds_2 16 rfl rfl)
theorem dX0_odds_63 : decode cX0_odds 63 = .ok (.iand, 1) := dk_126 (dk_at dksX0_odds_2 17 rfl rfl)
theorem dX0_odds_64 : decode cX0_odds 64 = .ok (.iconst 1, 1) := dk_4 (dk_at dksX0_odds_2 18 rfl rfl)
theorem dX0_odds_65 : decode cX0_odds 65 = .ok (.if_icmp .ne 16, 3) := dk_160 0 16 (dk_at dksX0_odds_2 19 rfl rfl)
theorem dX0_odds_68 : decode cX0_odds 68 = .ok (.aload_n 0, 1) := dk_42 (dk_at dksX0_odds_2 22 rfl rfl)
theorem dX0_odds_69 : decode cX0_odds 69 = .ok (.getfield 75, 3) := dk_180 0 75 (dk_at dksX0_odds_3 0 rfl rfl)
theorem dX0_odds_72 : decode cX0_odds 72 = .ok (.getfield 473, 3) := dk_180 1 217 (dk_at dksX0_odds_3 3 rfl rfl)
theorem dX0_odds_75 : decode cX0_odds 75 = .ok (.iload 6, 2) := dk_21 6 (dk_at dksX0_odds_3 6 rfl rfl)
theorem dX0_odds_77 : decode cX0_odds 77 = .ok (.iaload, 1) := dk_46 (dk_at dksX0_odds_3 8 rfl rfl)
theorem dX0_odds_78 : decode cX0_odds 78 = .ok (.goto 16, 3) := dk_167 0 16 (dk_at dksX0_odds_3 9 rfl rfl)
theorem dX0_odds_81 : decode cX0_odds 81 = .ok (.bipush 10, 2) := dk_16 10 (dk_at dksX0_odds_3 12 rfl rfl)
theorem dX0_odds_83 : decode cX0_odds 83 = .ok (.aload_n 0, 1) := dk_42 (dk_at dksX0_odds_3 14 rfl rfl)
theorem dX0_odds_84 : decode cX0_odds 84 = .ok (.getfield 75, 3) := dk_180 0 75 (dk_at dksX0_odds_3 15 rfl rfl)
theorem dX0_odds_87 : decode cX0_odds 87 = .ok (.getfield 473, 3) := dk_180 1 217 (dk_at dksX0_odds_3 18 rfl rfl)
theorem dX0_odds_90 : decode cX0_odds 90 = .ok (.iload 6, 2) := dk_21 6 (dk_at dksX0_odds_3 21 rfl rfl)
theorem dX0_odds_92 : decode cX0_odds 92 = .ok (.iaload, 1) := dk_46 (dk_at dksX0_odds_3 23 rfl rfl)
theorem dX0_odds_93 : decode cX0_odds 93 = .ok (.isub, 1) := dk_100 (dk_at dksX0_odds_4 0 rfl rfl)
theorem dX0_odds_94 : decode cX0_odds 94 = .ok (.imul, 1) := dk_104 (dk_at dksX0_odds_4 1 rfl rfl)
theorem dX0_odds_95 : decode cX0_odds 95 = .ok (.istore 5, 2) := dk_54 5 (dk_at dksX0_odds_4 2 rfl rfl)
theorem dX0_odds_97 : decode cX0_odds 97 = .ok (.iinc 6 1, 3) := dk_132 6 1 (dk_at dksX0_odds_4 4 rfl rfl)
theorem dX0_odds_100 : decode cX0_odds 100 = .ok (.goto (-57), 3) := dk_167 255 199 (dk_at dksX0_odds_4 7 rfl rfl)
theorem dX0_odds_103 : decode cX0_odds 103 = .ok (.iload 5, 2) := dk_21 5 (dk_at dksX0_odds_4 10 rfl rfl)
theorem dX0_odds_105 : decode cX0_odds 105 = .ok (.ifCond .ne 6, 3) := dk_154 0 6 (dk_at dksX0_odds_4 12 rfl rfl)
theorem dX0_odds_108 : decode cX0_odds 108 = .ok (.goto 30, 3) := dk_167 0 30 (dk_at dksX0_odds_4 15 rfl rfl)
theorem dX0_odds_111 : decode cX0_odds 111 = .ok (.aload_n 0, 1) := dk_42 (dk_at dksX0_odds_4 18 rfl rfl)
theorem dX0_odds_112 : decode cX0_odds 112 = .ok (.iload 4, 2) := dk_21 4 (dk_at dksX0_odds_4 19 rfl rfl)
theorem dX0_odds_114 : decode cX0_odds 114 = .ok (.invokevirtual 476, 3) := dk_182 1 220 (dk_at dksX0_odds_4 21 rfl rfl)
theorem dX0_odds_117 : decode cX0_odds 117 = .ok (.iload_n 3, 1) := dk_29 (dk_at dksX0_odds_5 0 rfl rfl)
theorem dX0_odds_118 : decode cX0_odds 118 = .ok (.aload_n 0, 1) := dk_42 (dk_at dksX0_odds_5 1 rfl rfl)
theorem dX0_odds_119 : decode cX0_odds 119 = .ok (.getfield 98, 3) := dk_180 0 98 (dk_at dksX0_odds_5 2 rfl rfl)
theorem dX0_odds_122 : decode cX0_odds 122 = .ok (.iload_n 1, 1) := dk_27 (dk_at dksX0_odds_5 5 rfl rfl)
theorem dX0_odds_123 : decode cX0_odds 123 = .ok (.iload_n 2, 1) := dk_28 (dk_at dksX0_odds_5 6 rfl rfl)
theorem dX0_odds_124 : decode cX0_odds 124 = .ok (.invokevirtual 429, 3) := dk_182 1 173 (dk_at dksX0_odds_5 7 rfl rfl)
theorem dX0_odds_127 : decode cX0_odds 127 = .ok (.ifCond .eq 8, 3) := dk_153 0 8 (dk_at dksX0_odds_5 10 rfl rfl)
theorem dX0_odds_130 : decode cX0_odds 130 = .ok (.iload 5, 2) := dk_21 5 (dk_at dksX0_odds_5 13 rfl rfl)
theorem dX0_odds_132 : decode cX0_odds 132 = .ok (.goto 4, 3) := dk_167 0 4 (dk_at dksX0_odds_5 15 rfl rfl)
theorem dX0_odds_135 : decode cX0_odds 135 = .ok (.iconst 0, 1) := dk_3 (dk_at dksX0_odds_5 18 rfl rfl)
theorem dX0_odds_136 : decode cX0_odds 136 = .ok (.iadd, 1) := dk_96 (dk_at dksX0_odds_5 19 rfl rfl)
theorem dX0_odds_137 : decode cX0_odds 137 = .ok (.istore_n 3, 1) := dk_62 (dk_at dksX0_odds_5 20 rfl rfl)
theorem dX0_odds_138 : decode cX0_odds 138 = .ok (.iinc 4 1, 3) := dk_132 4 1 (dk_at dksX0_odds_5 21 rfl rfl)
theorem dX0_odds_141 : decode cX0_odds 141 = .ok (.goto (-118), 3) := dk_167 255 138 (dk_at dksX0_odds_6 0 rfl rfl)
theorem dX0_odds_144 : decode cX0_odds 144 = .ok (.iload_n 3, 1) := dk_29 (dk_at dksX0_odds_6 3 rfl rfl)
theorem dX0_odds_145 : decode cX0_odds 145 = .ok (.ireturn, 1) := dk_172 (dk_at dksX0_odds_6 4 rfl rfl)
abbrev cX0_hatches : ByteArray := prog_1_method_56_code
def yX0_hatches : MethodName := ⟨RX0, "hatches", "(I)V"⟩
def dkwX0_hatches_3 : List UInt8 := [42, 180, 0, 79, 182, 1, 105, 177]
abbrev dktX0_hatches_3 : List UInt8 := dkwX0_hatches_3 ++ []
def dkwX0_hatches_2 : List UInt8 := [46, 92, 46, 42, 180, 0, 75, 180, 1, 214, 28, 46, 96, 79, 132, 2, 1, 167, 255, 204, 42, 180, 0, 98]
abbrev dktX0_hatches_2 : List UInt8 := dkwX0_hatches_2 ++ dktX0_hatches_3
def dkwX0_hatches_1 : List UInt8 := [27, 28, 122, 4, 126, 4, 160, 0, 32, 42, 180, 0, 79, 180, 1, 56, 42, 180, 0, 75, 180, 1, 211, 28]
abbrev dktX0_hatches_1 : List UInt8 := dkwX0_hatches_1 ++ dktX0_hatches_2
def dkwX0_hatches_0 : List UInt8 := [42, 180, 0, 79, 42, 180, 0, 75, 182, 1, 199, 3, 61, 28, 42, 180, 0, 75, 180, 1, 208, 162, 0, 47]
abbrev dktX0_hatches_0 : List UInt8 := dkwX0_hatches_0 ++ dktX0_hatches_1
theorem dksX0_hatches_0 : cX0_hatches.data.toList.drop 0 = dktX0_hatches_0 := by decide +kernel
theorem dksX0_hatches_1 : cX0_hatches.data.toList.drop 24 = dktX0_hatches_1 := dk_seg dksX0_hatches_0 24 rfl rfl
theorem dksX0_hatches_2 : cX0_hatches.data.toList.drop 48 = dktX0_hatches_2 := dk_seg dksX0_hatches_1 24 rfl rfl
theorem dksX0_hatches_3 : cX0_hatches.data.toList.drop 72 = dktX0_hatches_3 := dk_seg dksX0_hatches_2 24 rfl rfl
theorem dX0_hatches_0 : decode cX0_hatches 0 = .ok (.aload_n 0, 1) := dk_42 (dk_at dksX0_hatches_0 0 rfl rfl)
theorem dX0_hatches_1 : decode cX0_hatches 1 = .ok (.getfield 79, 3) := dk_180 0 79 (dk_at dksX0_hatches_0 1 rfl rfl)
theorem dX0_hatches_4 : decode cX0_hatches 4 = .ok (.aload_n 0, 1) := dk_42 (dk_at dksX0_hatches_0 4 rfl rfl)
theorem dX0_hatches_5 : decode cX0_hatches 5 = .ok (.getfield 75, 3) := dk_180 0 75 (dk_at dksX0_hatches_0 5 rfl rfl)
theorem dX0_hatches_8 : decode cX0_hatches 8 = .ok (.invokevirtual 455, 3) := dk_182 1 199 (dk_at dksX0_hatches_0 8 rfl rfl)
theorem dX0_hatches_11 : decode cX0_hatches 11 = .ok (.iconst 0, 1) := dk_3 (dk_at dksX0_hatches_0 11 rfl rfl)
theorem dX0_hatches_12 : decode cX0_hatches 12 = .ok (.istore_n 2, 1) := dk_61 (dk_at dksX0_hatches_0 12 rfl rfl)
theorem dX0_hatches_13 : decode cX0_hatches 13 = .ok (.iload_n 2, 1) := dk_28 (dk_at dksX0_hatches_0 13 rfl rfl)
theorem dX0_hatches_14 : decode cX0_hatches 14 = .ok (.aload_n 0, 1) := dk_42 (dk_at dksX0_hatches_0 14 rfl rfl)
theorem dX0_hatches_15 : decode cX0_hatches 15 = .ok (.getfield 75, 3) := dk_180 0 75 (dk_at dksX0_hatches_0 15 rfl rfl)
theorem dX0_hatches_18 : decode cX0_hatches 18 = .ok (.getfield 464, 3) := dk_180 1 208 (dk_at dksX0_hatches_0 18 rfl rfl)
theorem dX0_hatches_21 : decode cX0_hatches 21 = .ok (.if_icmp .ge 47, 3) := dk_162 0 47 (dk_at dksX0_hatches_0 21 rfl rfl)
theorem dX0_hatches_24 : decode cX0_hatches 24 = .ok (.iload_n 1, 1) := dk_27 (dk_at dksX0_hatches_1 0 rfl rfl)
theorem dX0_hatches_25 : decode cX0_hatches 25 = .ok (.iload_n 2, 1) := dk_28 (dk_at dksX0_hatches_1 1 rfl rfl)
theorem dX0_hatches_26 : decode cX0_hatches 26 = .ok (.ishr, 1) := dk_122 (dk_at dksX0_hatches_1 2 rfl rfl)
theorem dX0_hatches_27 : decode cX0_hatches 27 = .ok (.iconst 1, 1) := dk_4 (dk_at dksX0_hatches_1 3 rfl rfl)
theorem dX0_hatches_28 : decode cX0_hatches 28 = .ok (.iand, 1) := dk_126 (dk_at dksX0_hatches_1 4 rfl rfl)
theorem dX0_hatches_29 : decode cX0_hatches 29 = .ok (.iconst 1, 1) := dk_4 (dk_at dksX0_hatches_1 5 rfl rfl)
theorem dX0_hatches_30 : decode cX0_hatches 30 = .ok (.if_icmp .ne 32, 3) := dk_160 0 32 (dk_at dksX0_hatches_1 6 rfl rfl)
theorem dX0_hatches_33 : decode cX0_hatches 33 = .ok (.aload_n 0, 1) := dk_42 (dk_at dksX0_hatches_1 9 rfl rfl)
theorem dX0_hatches_34 : decode cX0_hatches 34 = .ok (.getfield 79, 3) := dk_180 0 79 (dk_at dksX0_hatches_1 10 rfl rfl)
theorem dX0_hatches_37 : decode cX0_hatches 37 = .ok (.getfield 312, 3) := dk_180 1 56 (dk_at dksX0_hatches_1 13 rfl rfl)
theorem dX0_hatches_40 : decode cX0_hatches 40 = .ok (.aload_n 0, 1) := dk_42 (dk_at dksX0_hatches_1 16 rfl rfl)
theorem dX0_hatches_41 : decode cX0_hatches 41 = .ok (.getfield 75, 3) := dk_180 0 75 (dk_at dksX0_hatches_1 17 rfl rfl)
theorem dX0_hatches_44 : decode cX0_hatches 44 = .ok (.getfield 467, 3) := dk_180 1 211 (dk_at dksX0_hatches_1 20 rfl rfl)
theorem dX0_hatches_47 : decode cX0_hatches 47 = .ok (.iload_n 2, 1) := dk_28 (dk_at dksX0_hatches_1 23 rfl rfl)
theorem dX0_hatches_48 : decode cX0_hatches 48 = .ok (.iaload, 1) := dk_46 (dk_at dksX0_hatches_2 0 rfl rfl)
theorem dX0_hatches_49 : decode cX0_hatches 49 = .ok (.dup2, 1) := dk_92 (dk_at dksX0_hatches_2 1 rfl rfl)
theorem dX0_hatches_50 : decode cX0_hatches 50 = .ok (.iaload, 1) := dk_46 (dk_at dksX0_hatches_2 2 rfl rfl)
theorem dX0_hatches_51 : decode cX0_hatches 51 = .ok (.aload_n 0, 1) := dk_42 (dk_at dksX0_hatches_2 3 rfl rfl)
theorem dX0_hatches_52 : decode cX0_hatches 52 = .ok (.getfield 75, 3) := dk_180 0 75 (dk_at dksX0_hatches_2 4 rfl rfl)
theorem dX0_hatches_55 : decode cX0_hatches 55 = .ok (.getfield 470, 3) := dk_180 1 214 (dk_at dksX0_hatches_2 7 rfl rfl)
theorem dX0_hatches_58 : decode cX0_hatches 58 = .ok (.iload_n 2, 1) := dk_28 (dk_at dksX0_hatches_2 10 rfl rfl)
theorem dX0_hatches_59 : decode cX0_hatches 59 = .ok (.iaload, 1) := dk_46 (dk_at dksX0_hatches_2 11 rfl rfl)
theorem dX0_hatches_60 : decode cX0_hatches 60 = .ok (.iadd, 1) := dk_96 (dk_at dksX0_hatches_2 12 rfl rfl)
theorem dX0_hatches_61 : decode cX0_hatches 61 = .ok (.iastore, 1) := dk_79 (dk_at dksX0_hatches_2 13 rfl rfl)
theorem dX0_hatches_62 : decode cX0_hatches 62 = .ok (.iinc 2 1, 3) := dk_132 2 1 (dk_at dksX0_hatches_2 14 rfl rfl)
theorem dX0_hatches_65 : decode cX0_hatches 65 = .ok (.goto (-52), 3) := dk_167 255 204 (dk_at dksX0_hatches_2 17 rfl rfl)
theorem dX0_hatches_68 : decode cX0_hatches 68 = .ok (.aload_n 0, 1) := dk_42 (dk_at dksX0_hatches_2 20 rfl rfl)
theorem dX0_hatches_69 : decode cX0_hatches 69 = .ok (.getfield 98, 3) := dk_180 0 98 (dk_at dksX0_hatches_2 21 rfl rfl)
theorem dX0_hatches_72 : decode cX0_hatches 72 = .ok (.aload_n 0, 1) := dk_42 (dk_at dksX0_hatches_3 0 rfl rfl)
theorem dX0_hatches_73 : decode cX0_hatches 73 = .ok (.getfield 79, 3) := dk_180 0 79 (dk_at dksX0_hatches_3 1 rfl rfl)
theorem dX0_hatches_76 : decode cX0_hatches 76 = .ok (.invokevirtual 361, 3) := dk_182 1 105 (dk_at dksX0_hatches_3 4 rfl rfl)
theorem dX0_hatches_79 : decode cX0_hatches 79 = .ok (.return_, 1) := dk_177 (dk_at dksX0_hatches_3 7 rfl rfl)
abbrev cX0_claim : ByteArray := prog_1_method_58_code
def yX0_claim : MethodName := ⟨RX0, "claim", "(IIZ)Z"⟩
def dkwX0_claim_4 : List UInt8 := [96, 181, 1, 223, 4, 172]
abbrev dktX0_claim_4 : List UInt8 := dkwX0_claim_4 ++ []
def dkwX0_claim_3 : List UInt8 := [180, 0, 75, 180, 1, 232, 42, 180, 0, 75, 180, 1, 223, 29, 84, 42, 180, 0, 75, 89, 180, 1, 223, 4]
abbrev dktX0_claim_3 : List UInt8 := dkwX0_claim_3 ++ dktX0_claim_4
def dkwX0_claim_2 : List UInt8 := [180, 1, 223, 27, 79, 42, 180, 0, 75, 180, 1, 229, 42, 180, 0, 75, 180, 1, 223, 28, 79, 42]
abbrev dktX0_claim_2 : List UInt8 := dkwX0_claim_2 ++ dktX0_claim_3
def dkwX0_claim_1 : List UInt8 := [180, 0, 75, 180, 1, 223, 16, 20, 160, 0, 5, 3, 172, 42, 180, 0, 75, 180, 1, 226, 42, 180, 0, 75]
abbrev dktX0_claim_1 : List UInt8 := dkwX0_claim_1 ++ dktX0_claim_2
def dkwX0_claim_0 : List UInt8 := [42, 27, 182, 1, 54, 153, 0, 28, 42, 28, 182, 1, 54, 153, 0, 20, 27, 28, 159, 0, 15, 42]
abbrev dktX0_claim_0 : List UInt8 := dkwX0_claim_0 ++ dktX0_claim_1
theorem dksX0_claim_0 : cX0_claim.data.toList.drop 0 = dktX0_claim_0 := by decide +kernel
theorem dksX0_claim_1 : cX0_claim.data.toList.drop 22 = dktX0_claim_1 := dk_seg dksX0_claim_0 22 rfl rfl
theorem dksX0_claim_2 : cX0_claim.data.toList.drop 46 = dktX0_claim_2 := dk_seg dksX0_claim_1 24 rfl rfl
theorem dksX0_claim_3 : cX0_claim.data.toList.drop 68 = dktX0_claim_3 := dk_seg dksX0_claim_2 22 rfl rfl
theorem dksX0_claim_4 : cX0_claim.data.toList.drop 92 = dktX0_claim_4 := dk_seg dksX0_claim_3 24 rfl rfl
theorem dX0_claim_0 : decode cX0_claim 0 = .ok (.aload_n 0, 1) := dk_42 (dk_at dksX0_claim_0 0 rfl rfl)
theorem dX0_claim_1 : decode cX0_claim 1 = .ok (.iload_n 1, 1) := dk_27 (dk_at dksX0_claim_0 1 rfl rfl)
theorem dX0_claim_2 : decode cX0_claim 2 = .ok (.invokevirtual 310, 3) := dk_182 1 54 (dk_at dksX0_claim_0 2 rfl rfl)
theorem dX0_claim_5 : decode cX0_claim 5 = .ok (.ifCond .eq 28, 3) := dk_153 0 28 (dk_at dksX0_claim_0 5 rfl rfl)
theorem dX0_claim_8 : decode cX0_claim 8 = .ok (.aload_n 0, 1) := dk_42 (dk_at dksX0_claim_0 8 rfl rfl)
theorem dX0_claim_9 : decode cX0_claim 9 = .ok (.iload_n 2, 1) := dk_28 (dk_at dksX0_claim_0 9 rfl rfl)
theorem dX0_claim_10 : decode cX0_claim 10 = .ok (.invokevirtual 310, 3) := dk_182 1 54 (dk_at dksX0_claim_0 10 rfl rfl)
theorem dX0_claim_13 : decode cX0_claim 13 = .ok (.ifCond .eq 20, 3) := dk_153 0 20 (dk_at dksX0_claim_0 13 rfl rfl)
theorem dX0_claim_16 : decode cX0_claim 16 = .ok (.iload_n 1, 1) := dk_27 (dk_at dksX0_claim_0 16 rfl rfl)
theorem dX0_claim_17 : decode cX0_claim 17 = .ok (.iload_n 2, 1) := dk_28 (dk_at dksX0_claim_0 17 rfl rfl)
theorem dX0_claim_18 : decode cX0_claim 18 = .ok (.if_icmp .eq 15, 3) := dk_159 0 15 (dk_at dksX0_claim_0 18 rfl rfl)
theorem dX0_claim_21 : decode cX0_claim 21 = .ok (.aload_n 0, 1) := dk_42 (dk_at dksX0_claim_0 21 rfl rfl)
theorem dX0_claim_22 : decode cX0_claim 22 = .ok (.getfield 75, 3) := dk_180 0 75 (dk_at dksX0_claim_1 0 rfl rfl)
theorem dX0_claim_25 : decode cX0_claim 25 = .ok (.getfield 479, 3) := dk_180 1 223 (dk_at dksX0_claim_1 3 rfl rfl)
theorem dX0_claim_28 : decode cX0_claim 28 = .ok (.bipush 20, 2) := dk_16 20 (dk_at dksX0_claim_1 6 rfl rfl)
theorem dX0_claim_30 : decode cX0_claim 30 = .ok (.if_icmp .ne 5, 3) := dk_160 0 5 (dk_at dksX0_claim_1 8 rfl rfl)
theorem dX0_claim_33 : decode cX0_claim 33 = .ok (.iconst 0, 1) := dk_3 (dk_at dksX0_claim_1 11 rfl rfl)
theorem dX0_claim_34 : decode cX0_claim 34 = .ok (.ireturn, 1) := dk_172 (dk_at dksX0_claim_1 12 rfl rfl)
theorem dX0_claim_35 : decode cX0_claim 35 = .ok (.aload_n 0, 1) := dk_42 (dk_at dksX0_claim_1 13 rfl rfl)
theorem dX0_claim_36 : decode cX0_claim 36 = .ok (.getfield 75, 3) := dk_180 0 75 (dk_at dksX0_claim_1 14 rfl rfl)
theorem dX0_claim_39 : decode cX0_claim 39 = .ok (.getfield 482, 3) := dk_180 1 226 (dk_at dksX0_claim_1 17 rfl rfl)
theorem dX0_claim_42 : decode cX0_claim 42 = .ok (.aload_n 0, 1) := dk_42 (dk_at dksX0_claim_1 20 rfl rfl)
theorem dX0_claim_43 : decode cX0_claim 43 = .ok (.getfield 75, 3) := dk_180 0 75 (dk_at dksX0_claim_1 21 rfl rfl)
theorem dX0_claim_46 : decode cX0_claim 46 = .ok (.getfield 479, 3) := dk_180 1 223 (dk_at dksX0_claim_2 0 rfl rfl)
theorem dX0_claim_49 : decode cX0_claim 49 = .ok (.iload_n 1, 1) := dk_27 (dk_at dksX0_claim_2 3 rfl rfl)
theorem dX0_claim_50 : decode cX0_claim 50 = .ok (.iastore, 1) := dk_79 (dk_at dksX0_claim_2 4 rfl rfl)
theorem dX0_claim_51 : decode cX0_claim 51 = .ok (.aload_n 0, 1) := dk_42 (dk_at dksX0_claim_2 5 rfl rfl)
theorem dX0_claim_52 : decode cX0_claim 52 = .ok (.getfield 75, 3) := dk_180 0 75 (dk_at dksX0_claim_2 6 rfl rfl)
theorem dX0_claim_55 : decode cX0_claim 55 = .ok (.getfield 485, 3) := dk_180 1 229 (dk_at dksX0_claim_2 9 rfl rfl)
theorem dX0_claim_58 : decode cX0_claim 58 = .ok (.aload_n 0, 1) := dk_42 (dk_at dksX0_claim_2 12 rfl rfl)
theorem dX0_claim_59 : decode cX0_claim 59 = .ok (.getfield 75, 3) := dk_180 0 75 (dk_at dksX0_claim_2 13 rfl rfl)
theorem dX0_claim_62 : decode cX0_claim 62 = .ok (.getfield 479, 3) := dk_180 1 223 (dk_at dksX0_claim_2 16 rfl rfl)
theorem dX0_claim_65 : decode cX0_claim 65 = .ok (.iload_n 2, 1) := dk_28 (dk_at dksX0_claim_2 19 rfl rfl)
theorem dX0_claim_66 : decode cX0_claim 66 = .ok (.iastore, 1) := dk_79 (dk_at dksX0_claim_2 20 rfl rfl)
theorem dX0_claim_67 : decode cX0_claim 67 = .ok (.aload_n 0, 1) := dk_42 (dk_at dksX0_claim_2 21 rfl rfl)
theorem dX0_claim_68 : decode cX0_claim 68 = .ok (.getfield 75, 3) := dk_180 0 75 (dk_at dksX0_claim_3 0 rfl rfl)
theorem dX0_claim_71 : decode cX0_claim 71 = .ok (.getfield 488, 3) := dk_180 1 232 (dk_at dksX0_claim_3 3 rfl rfl)
theorem dX0_claim_74 : decode cX0_claim 74 = .ok (.aload_n 0, 1) := dk_42 (dk_at dksX0_claim_3 6 rfl rfl)
theorem dX0_claim_75 : decode cX0_claim 75 = .ok (.getfield 75, 3) := dk_180 0 75 (dk_at dksX0_claim_3 7 rfl rfl)
theorem dX0_claim_78 : decode cX0_claim 78 = .ok (.getfield 479, 3) := dk_180 1 223 (dk_at dksX0_claim_3 10 rfl rfl)
theorem dX0_claim_81 : decode cX0_claim 81 = .ok (.iload_n 3, 1) := dk_29 (dk_at dksX0_claim_3 13 rfl rfl)
theorem dX0_claim_82 : decode cX0_claim 82 = .ok (.bastore, 1) := dk_84 (dk_at dksX0_claim_3 14 rfl rfl)
theorem dX0_claim_83 : decode cX0_claim 83 = .ok (.aload_n 0, 1) := dk_42 (dk_at dksX0_claim_3 15 rfl rfl)
theorem dX0_claim_84 : decode cX0_claim 84 = .ok (.getfield 75, 3) := dk_180 0 75 (dk_at dksX0_claim_3 16 rfl rfl)
theorem dX0_claim_87 : decode cX0_claim 87 = .ok (.dup, 1) := dk_89 (dk_at dksX0_claim_3 19 rfl rfl)
theorem dX0_claim_88 : decode cX0_claim 88 = .ok (.getfield 479, 3) := dk_180 1 223 (dk_at dksX0_claim_3 20 rfl rfl)
theorem dX0_claim_91 : decode cX0_claim 91 = .ok (.iconst 1, 1) := dk_4 (dk_at dksX0_claim_3 23 rfl rfl)
theorem dX0_claim_92 : decode cX0_claim 92 = .ok (.iadd, 1) := dk_96 (dk_at dksX0_claim_4 0 rfl rfl)
theorem dX0_claim_93 : decode cX0_claim 93 = .ok (.putfield 479, 3) := dk_181 1 223 (dk_at dksX0_claim_4 1 rfl rfl)
theorem dX0_claim_96 : decode cX0_claim 96 = .ok (.iconst 1, 1) := dk_4 (dk_at dksX0_claim_4 4 rfl rfl)
theorem dX0_claim_97 : decode cX0_claim 97 = .ok (.ireturn, 1) := dk_172 (dk_at dksX0_claim_4 5 rfl rfl)
abbrev cX0_back : ByteArray := prog_1_method_60_code
def yX0_back : MethodName := ⟨RX0, "back", "(I)I"⟩
def dkwX0_back_4 : List UInt8 := [27, 5, 160, 0, 8, 21, 4, 167, 0, 12, 28, 154, 0, 7, 3, 167, 0, 4, 29, 172]
abbrev dktX0_back_4 : List UInt8 := dkwX0_back_4 ++ []
def dkwX0_back_3 : List UInt8 := [54, 4, 29, 21, 5, 126, 62, 132, 2, 1, 132, 5, 1, 167, 255, 202, 27, 154, 0, 7, 28, 167, 0, 22]
abbrev dktX0_back_3 : List UInt8 := dkwX0_back_3 ++ dktX0_back_4
def dkwX0_back_2 : List UInt8 := [182, 1, 220, 42, 182, 1, 235, 154, 0, 6, 167, 0, 24, 28, 154, 0, 8, 21, 5, 167, 0, 5, 21, 4]
abbrev dktX0_back_2 : List UInt8 := dkwX0_back_2 ++ dktX0_back_3
def dkwX0_back_1 : List UInt8 := [62, 2, 54, 4, 3, 54, 5, 21, 5, 4, 42, 180, 0, 75, 180, 1, 208, 120, 162, 0, 46, 42, 21, 5]
abbrev dktX0_back_1 : List UInt8 := dkwX0_back_1 ++ dktX0_back_2
def dkwX0_back_0 : List UInt8 := [27, 3, 5, 184, 0, 128, 154, 0, 5, 2, 172, 3, 61, 4, 42, 180, 0, 75, 180, 1, 208, 120, 4, 100]
abbrev dktX0_back_0 : List UInt8 := dkwX0_back_0 ++ dktX0_back_1
theorem dksX0_back_0 : cX0_back.data.toList.drop 0 = dktX0_back_0 := by decide +kernel
theorem dksX0_back_1 : cX0_back.data.toList.drop 24 = dktX0_back_1 := dk_seg dksX0_back_0 24 rfl rfl
theorem dksX0_back_2 : cX0_back.data.toList.drop 48 = dktX0_back_2 := dk_seg dksX0_back_1 24 rfl rfl
theorem dksX0_back_3 : cX0_back.data.toList.drop 72 = dktX0_back_3 := dk_seg dksX0_back_2 24 rfl rfl
theorem dksX0_back_4 : cX0_back.data.toList.drop 96 = dktX0_back_4 := dk_seg dksX0_back_3 24 rfl rfl
theorem dX0_back_0 : decode cX0_back 0 = .ok (.iload_n 1, 1) := dk_27 (dk_at dksX0_back_0 0 rfl rfl)
theorem dX0_back_1 : decode cX0_back 1 = .ok (.iconst 0, 1) := dk_3 (dk_at dksX0_back_0 1 rfl rfl)
theorem dX0_back_2 : decode cX0_back 2 = .ok (.iconst 2, 1) := dk_5 (dk_at dksX0_back_0 2 rfl rfl)
theorem dX0_back_3 : decode cX0_back 3 = .ok (.invokestatic 128, 3) := dk_184 0 128 (dk_at dksX0_back_0 3 rfl rfl)
theorem dX0_back_6 : decode cX0_back 6 = .ok (.ifCond .ne 5, 3) := dk_154 0 5 (dk_at dksX0_back_0 6 rfl rfl)
theorem dX0_back_9 : decode cX0_back 9 = .ok (.iconst (-1), 1) := dk_2 (dk_at dksX0_back_0 9 rfl rfl)
theorem dX0_back_10 : decode cX0_back 10 = .ok (.ireturn, 1) := dk_172 (dk_at dksX0_back_0 10 rfl rfl)
theorem dX0_back_11 : decode cX0_back 11 = .ok (.iconst 0, 1) := dk_3 (dk_at dksX0_back_0 11 rfl rfl)
theorem dX0_back_12 : decode cX0_back 12 = .ok (.istore_n 2, 1) := dk_61 (dk_at dksX0_back_0 12 rfl rfl)
theorem dX0_back_13 : decode cX0_back 13 = .ok (.iconst 1, 1) := dk_4 (dk_at dksX0_back_0 13 rfl rfl)
theorem dX0_back_14 : decode cX0_back 14 = .ok (.aload_n 0, 1) := dk_42 (dk_at dksX0_back_0 14 rfl rfl)
theorem dX0_back_15 : decode cX0_back 15 = .ok (.getfield 75, 3) := dk_180 0 75 (dk_at dksX0_back_0 15 rfl rfl)
theorem dX0_back_18 : decode cX0_back 18 = .ok (.getfield 464, 3) := dk_180 1 208 (dk_at dksX0_back_0 18 rfl rfl)
theorem dX0_back_21 : decode cX0_back 21 = .ok (.ishl, 1) := dk_120 (dk_at dksX0_back_0 21 rfl rfl)
theorem dX0_back_22 : decode cX0_back 22 = .ok (.iconst 1, 1) := dk_4 (dk_at dksX0_back_0 22 rfl rfl)
theorem dX0_back_23 : decode cX0_back 23 = .ok (.isub, 1) := dk_100 (dk_at dksX0_back_0 23 rfl rfl)
theorem dX0_back_24 : decode cX0_back 24 = .ok (.istore_n 3, 1) := dk_62 (dk_at dksX0_back_1 0 rfl rfl)
theorem dX0_back_25 : decode cX0_back 25 = .ok (.iconst (-1), 1) := dk_2 (dk_at dksX0_back_1 1 rfl rfl)
theorem dX0_back_26 : decode cX0_back 26 = .ok (.istore 4, 2) := dk_54 4 (dk_at dksX0_back_1 2 rfl rfl)
theorem dX0_back_28 : decode cX0_back 28 = .ok (.iconst 0, 1) := dk_3 (dk_at dksX0_back_1 4 rfl rfl)
theorem dX0_back_29 : decode cX0_back 29 = .ok (.istore 5, 2) := dk_54 5 (dk_at dksX0_back_1 5 rfl rfl)
theorem dX0_back_31 : decode cX0_back 31 = .ok (.iload 5, 2) := dk_21 5 (dk_at dksX0_back_1 7 rfl rfl)
theorem dX0_back_33 : decode cX0_back 33 = .ok (.iconst 1, 1) := dk_4 (dk_at dksX0_back_1 9 rfl rfl)
theorem dX0_back_34 : decode cX0_back 34 = .ok (.aload_n 0, 1) := dk_42 (dk_at dksX0_back_1 10 rfl rfl)
theorem dX0_back_35 : decode cX0_back 35 = .ok (.getfield 75, 3) := dk_180 0 75 (dk_at dksX0_back_1 11 rfl rfl)
theorem dX0_back_38 : decode cX0_back 38 = .ok (.getfield 464, 3) := dk_180 1 208 (dk_at dksX0_back_1 14 rfl rfl)
theorem dX0_back_41 : decode cX0_back 41 = .ok (.ishl, 1) := dk_120 (dk_at dksX0_back_1 17 rfl rfl)
theorem dX0_back_42 : decode cX0_back 42 = .ok (.if_icmp .ge 46, 3) := dk_162 0 46 (dk_at dksX0_back_1 18 rfl rfl)
theorem dX0_back_45 : decode cX0_back 45 = .ok (.aload_n 0, 1) := dk_42 (dk_at dksX0_back_1 21 rfl rfl)
theorem dX0_back_46 : decode cX0_back 46 = .ok (.iload 5, 2) := dk_21 5 (dk_at dksX0_back_1 22 rfl rfl)
theorem dX0_back_48 : decode cX0_back 48 = .ok (.invokevirtual 476, 3) := dk_182 1 220 (dk_at dksX0_back_2 0 rfl rfl)
theorem dX0_back_51 : decode cX0_back 51 = .ok (.aload_n 0, 1) := dk_42 (dk_at dksX0_back_2 3 rfl rfl)
theorem dX0_back_52 : decode cX0_back 52 = .ok (.invokevirtual 491, 3) := dk_182 1 235 (dk_at dksX0_back_2 4 rfl rfl)
theorem dX0_back_55 : decode cX0_back 55 = .ok (.ifCond .ne 6, 3) := dk_154 0 6 (dk_at dksX0_back_2 7 rfl rfl)
theorem dX0_back_58 : decode cX0_back 58 = .ok (.goto 24, 3) := dk_167 0 24 (dk_at dksX0_back_2 10 rfl rfl)
theorem dX0_back_61 : decode cX0_back 61 = .ok (.iload_n 2, 1) := dk_28 (dk_at dksX0_back_2 13 rfl rfl)
theorem dX0_back_62 : decode cX0_back 62 = .ok (.ifCond .ne 8, 3) := dk_154 0 8 (dk_at dksX0_back_2 14 rfl rfl)
theorem dX0_back_65 : decode cX0_back 65 = .ok (.iload 5, 2) := dk_21 5 (dk_at dksX0_back_2 17 rfl rfl)
theorem dX0_back_67 : decode cX0_back 67 = .ok (.goto 5, 3) := dk_167 0 5 (dk_at dksX0_back_2 19 rfl rfl)
theorem dX0_back_70 : decode cX0_back 70 = .ok (.iload 4, 2) := dk_21 4 (dk_at dksX0_back_2 22 rfl rfl)
theorem dX0_back_72 : decode cX0_back 72 = .ok (.istore 4, 2) := dk_54 4 (dk_at dksX0_back_3 0 rfl rfl)
theorem dX0_back_74 : decode cX0_back 74 = .ok (.iload_n 3, 1) := dk_29 (dk_at dksX0_back_3 2 rfl rfl)
theorem dX0_back_75 : decode cX0_back 75 = .ok (.iload 5, 2) := dk_21 5 (dk_at dksX0_back_3 3 rfl rfl)
theorem dX0_back_77 : decode cX0_back 77 = .ok (.iand, 1) := dk_126 (dk_at dksX0_back_3 5 rfl rfl)
theorem dX0_back_78 : decode cX0_back 78 = .ok (.istore_n 3, 1) := dk_62 (dk_at dksX0_back_3 6 rfl rfl)
theorem dX0_back_79 : decode cX0_back 79 = .ok (.iinc 2 1, 3) := dk_132 2 1 (dk_at dksX0_back_3 7 rfl rfl)
theorem dX0_back_82 : decode cX0_back 82 = .ok (.iinc 5 1, 3) := dk_132 5 1 (dk_at dksX0_back_3 10 rfl rfl)
theorem dX0_back_85 : decode cX0_back 85 = .ok (.goto (-54), 3) := dk_167 255 202 (dk_at dksX0_back_3 13 rfl rfl)
theorem dX0_back_88 : decode cX0_back 88 = .ok (.iload_n 1, 1) := dk_27 (dk_at dksX0_back_3 16 rfl rfl)
theorem dX0_back_89 : decode cX0_back 89 = .ok (.ifCond .ne 7, 3) := dk_154 0 7 (dk_at dksX0_back_3 17 rfl rfl)
theorem dX0_back_92 : decode cX0_back 92 = .ok (.iload_n 2, 1) := dk_28 (dk_at dksX0_back_3 20 rfl rfl)
theorem dX0_back_93 : decode cX0_back 93 = .ok (.goto 22, 3) := dk_167 0 22 (dk_at dksX0_back_3 21 rfl rfl)
theorem dX0_back_96 : decode cX0_back 96 = .ok (.iload_n 1, 1) := dk_27 (dk_at dksX0_back_4 0 rfl rfl)
theorem dX0_back_97 : decode cX0_back 97 = .ok (.iconst 2, 1) := dk_5 (dk_at dksX0_back_4 1 rfl rfl)
theorem dX0_back_98 : decode cX0_back 98 = .ok (.if_icmp .ne 8, 3) := dk_160 0 8 (dk_at dksX0_back_4 2 rfl rfl)
theorem dX0_back_101 : decode cX0_back 101 = .ok (.iload 4, 2) := dk_21 4 (dk_at dksX0_back_4 5 rfl rfl)
theorem dX0_back_103 : decode cX0_back 103 = .ok (.goto 12, 3) := dk_167 0 12 (dk_at dksX0_back_4 7 rfl rfl)
theorem dX0_back_106 : decode cX0_back 106 = .ok (.iload_n 2, 1) := dk_28 (dk_at dksX0_back_4 10 rfl rfl)
theorem dX0_back_107 : decode cX0_back 107 = .ok (.ifCond .ne 7, 3) := dk_154 0 7 (dk_at dksX0_back_4 11 rfl rfl)
theorem dX0_back_110 : decode cX0_back 110 = .ok (.iconst 0, 1) := dk_3 (dk_at dksX0_back_4 14 rfl rfl)
theorem dX0_back_111 : decode cX0_back 111 = .ok (.goto 4, 3) := dk_167 0 4 (dk_at dksX0_back_4 15 rfl rfl)
theorem dX0_back_114 : decode cX0_back 114 = .ok (.iload_n 3, 1) := dk_29 (dk_at dksX0_back_4 18 rfl rfl)
theorem dX0_back_115 : decode cX0_back 115 = .ok (.ireturn, 1) := dk_172 (dk_at dksX0_back_4 19 rfl rfl)
abbrev cX0_goesWithAll : ByteArray := prog_1_method_59_code
def yX0_goesWithAll : MethodName := ⟨RX0, "goesWithAll", "()Z"⟩
def dkwX0_goesWithAll_2 : List UInt8 := [159, 0, 5, 3, 172, 132, 1, 1, 167, 255, 203, 4, 172]
abbrev dktX0_goesWithAll_2 : List UInt8 := dkwX0_goesWithAll_2 ++ []
def dkwX0_goesWithAll_1 : List UInt8 := [27, 46, 42, 180, 0, 75, 180, 1, 229, 27, 46, 182, 1, 173, 42, 180, 0, 75, 180, 1, 232, 27, 51]
abbrev dktX0_goesWithAll_1 : List UInt8 := dkwX0_goesWithAll_1 ++ dktX0_goesWithAll_2
def dkwX0_goesWithAll_0 : List UInt8 := [3, 60, 27, 42, 180, 0, 75, 180, 1, 223, 162, 0, 48, 42, 180, 0, 98, 42, 180, 0, 75, 180, 1, 226]
abbrev dktX0_goesWithAll_0 : List UInt8 := dkwX0_goesWithAll_0 ++ dktX0_goesWithAll_1
theorem dksX0_goesWithAll_0 : cX0_goesWithAll.data.toList.drop 0 = dktX0_goesWithAll_0 := by decide +kernel
theorem dksX0_goesWithAll_1 : cX0_goesWithAll.data.toList.drop 24 = dktX0_goesWithAll_1 := dk_seg dksX0_goesWithAll_0 24 rfl rfl
theorem dksX0_goesWithAll_2 : cX0_goesWithAll.data.toList.drop 47 = dktX0_goesWithAll_2 := dk_seg dksX0_goesWithAll_1 23 rfl rfl
theorem dX0_goesWithAll_0 : decode cX0_goesWithAll 0 = .ok (.iconst 0, 1) := dk_3 (dk_at dksX0_goesWithAll_0 0 rfl rfl)
theorem dX0_goesWithAll_1 : decode cX0_goesWithAll 1 = .ok (.istore_n 1, 1) := dk_60 (dk_at dksX0_goesWithAll_0 1 rfl rfl)
theorem dX0_goesWithAll_2 : decode cX0_goesWithAll 2 = .ok (.iload_n 1, 1) := dk_27 (dk_at dksX0_goesWithAll_0 2 rfl rfl)
theorem dX0_goesWithAll_3 : decode cX0_goesWithAll 3 = .ok (.aload_n 0, 1) := dk_42 (dk_at dksX0_goesWithAll_0 3 rfl rfl)
theorem dX0_goesWithAll_4 : decode cX0_goesWithAll 4 = .ok (.getfield 75, 3) := dk_180 0 75 (dk_at dksX0_goesWithAll_0 4 rfl rfl)
theorem dX0_goesWithAll_7 : decode cX0_goesWithAll 7 = .ok (.getfield 479, 3) := dk_180 1 223 (dk_at dksX0_goesWithAll_0 7 rfl rfl)
theorem dX0_goesWithAll_10 : decode cX0_goesWithAll 10 = .ok (.if_icmp .ge 48, 3) := dk_162 0 48 (dk_at dksX0_goesWithAll_0 10 rfl rfl)
theorem dX0_goesWithAll_13 : decode cX0_goesWithAll 13 = .ok (.aload_n 0, 1) := dk_42 (dk_at dksX0_goesWithAll_0 13 rfl rfl)
theorem dX0_goesWithAll_14 : decode cX0_goesWithAll 14 = .ok (.getfield 98, 3) := dk_180 0 98 (dk_at dksX0_goesWithAll_0 14 rfl rfl)
theorem dX0_goesWithAll_17 : decode cX0_goesWithAll 17 = .ok (.aload_n 0, 1) := dk_42 (dk_at dksX0_goesWithAll_0 17 rfl rfl)
theorem dX0_goesWithAll_18 : decode cX0_goesWithAll 18 = .ok (.getfield 75, 3) := dk_180 0 75 (dk_at dksX0_goesWithAll_0 18 rfl rfl)
theorem dX0_goesWithAll_21 : decode cX0_goesWithAll 21 = .ok (.getfield 482, 3) := dk_180 1 226 (dk_at dksX0_goesWithAll_0 21 rfl rfl)
theorem dX0_goesWithAll_24 : decode cX0_goesWithAll 24 = .ok (.iload_n 1, 1) := dk_27 (dk_at dksX0_goesWithAll_1 0 rfl rfl)
theorem dX0_goesWithAll_25 : decode cX0_goesWithAll 25 = .ok (.iaload, 1) := dk_46 (dk_at dksX0_goesWithAll_1 1 rfl rfl)
theorem dX0_goesWithAll_26 : decode cX0_goesWithAll 26 = .ok (.aload_n 0, 1) := dk_42 (dk_at dksX0_goesWithAll_1 2 rfl rfl)
theorem dX0_goesWithAll_27 : decode cX0_goesWithAll 27 = .ok (.getfield 75, 3) := dk_180 0 75 (dk_at dksX0_goesWithAll_1 3 rfl rfl)
theorem dX0_goesWithAll_30 : decode cX0_goesWithAll 30 = .ok (.getfield 485, 3) := dk_180 1 229 (dk_at dksX0_goesWithAll_1 6 rfl rfl)
theorem dX0_goesWithAll_33 : decode cX0_goesWithAll 33 = .ok (.iload_n 1, 1) := dk_27 (dk_at dksX0_goesWithAll_1 9 rfl rfl)
theorem dX0_goesWithAll_34 : decode cX0_goesWithAll 34 = .ok (.iaload, 1) := dk_46 (dk_at dksX0_goesWithAll_1 10 rfl rfl)
theorem dX0_goesWithAll_35 : decode cX0_goesWithAll 35 = .ok (.invokevirtual 429, 3) := dk_182 1 173 (dk_at dksX0_goesWithAll_1 11 rfl rfl)
theorem dX0_goesWithAll_38 : decode cX0_goesWithAll 38 = .ok (.aload_n 0, 1) := dk_42 (dk_at dksX0_goesWithAll_1 14 rfl rfl)
theorem dX0_goesWithAll_39 : decode cX0_goesWithAll 39 = .ok (.getfield 75, 3) := dk_180 0 75 (dk_at dksX0_goesWithAll_1 15 rfl rfl)
theorem dX0_goesWithAll_42 : decode cX0_goesWithAll 42 = .ok (.getfield 488, 3) := dk_180 1 232 (dk_at dksX0_goesWithAll_1 18 rfl rfl)
theorem dX0_goesWithAll_45 : decode cX0_goesWithAll 45 = .ok (.iload_n 1, 1) := dk_27 (dk_at dksX0_goesWithAll_1 21 rfl rfl)
theorem dX0_goesWithAll_46 : decode cX0_goesWithAll 46 = .ok (.baload, 1) := dk_51 (dk_at dksX0_goesWithAll_1 22 rfl rfl)
theorem dX0_goesWithAll_47 : decode cX0_goesWithAll 47 = .ok (.if_icmp .eq 5, 3) := dk_159 0 5 (dk_at dksX0_goesWithAll_2 0 rfl rfl)
theorem dX0_goesWithAll_50 : decode cX0_goesWithAll 50 = .ok (.iconst 0, 1) := dk_3 (dk_at dksX0_goesWithAll_2 3 rfl rfl)
theorem dX0_goesWithAll_51 : decode cX0_goesWithAll 51 = .ok (.ireturn, 1) := dk_172 (dk_at dksX0_goesWithAll_2 4 rfl rfl)
theorem dX0_goesWithAll_52 : decode cX0_goesWithAll 52 = .ok (.iinc 1 1, 3) := dk_132 1 1 (dk_at dksX0_goesWithAll_2 5 rfl rfl)
theorem dX0_goesWithAll_55 : decode cX0_goesWithAll 55 = .ok (.goto (-53), 3) := dk_167 255 203 (dk_at dksX0_goesWithAll_2 8 rfl rfl)
theorem dX0_goesWithAll_58 : decode cX0_goesWithAll 58 = .ok (.iconst 1, 1) := dk_4 (dk_at dksX0_goesWithAll_2 11 rfl rfl)
theorem dX0_goesWithAll_59 : decode cX0_goesWithAll 59 = .ok (.ireturn, 1) := dk_172 (dk_at dksX0_goesWithAll_2 12 rfl rfl)
abbrev cX0_part : ByteArray := prog_1_method_62_code
def yX0_part : MethodName := ⟨RX0, "part", "(II)I"⟩
def dkwX0_part_3 : List UInt8 := [132, 3, 1, 167, 255, 244, 29, 172]
abbrev dktX0_part_3 : List UInt8 := dkwX0_part_3 ++ []
def dkwX0_part_2 : List UInt8 := [25, 6, 3, 184, 1, 239, 132, 5, 1, 167, 255, 234, 3, 62, 42, 27, 28, 182, 1, 249, 153, 0, 9]
abbrev dktX0_part_2 : List UInt8 := dkwX0_part_2 ++ dktX0_part_3
def dkwX0_part_1 : List UInt8 := [180, 0, 109, 78, 45, 190, 54, 4, 3, 54, 5, 21, 5, 21, 4, 162, 0, 21, 45, 21, 5, 50, 58, 6]
abbrev dktX0_part_1 : List UInt8 := dkwX0_part_1 ++ dktX0_part_2
def dkwX0_part_0 : List UInt8 := [42, 27, 182, 1, 54, 153, 0, 16, 42, 28, 182, 1, 54, 153, 0, 8, 27, 28, 160, 0, 5, 2, 172, 42]
abbrev dktX0_part_0 : List UInt8 := dkwX0_part_0 ++ dktX0_part_1
theorem dksX0_part_0 : cX0_part.data.toList.drop 0 = dktX0_part_0 := by decide +kernel
theorem dksX0_part_1 : cX0_part.data.toList.drop 24 = dktX0_part_1 := dk_seg dksX0_part_0 24 rfl rfl
theorem dksX0_part_2 : cX0_part.data.toList.drop 48 = dktX0_part_2 := dk_seg dksX0_part_1 24 rfl rfl
theorem dksX0_part_3 : cX0_part.data.toList.drop 71 = dktX0_part_3 := dk_seg dksX0_part_2 23 rfl rfl
theorem dX0_part_0 : decode cX0_part 0 = .ok (.aload_n 0, 1) := dk_42 (dk_at dksX0_part_0 0 rfl rfl)
theorem dX0_part_1 : decode cX0_part 1 = .ok (.iload_n 1, 1) := dk_27 (dk_at dksX0_part_0 1 rfl rfl)
theorem dX0_part_2 : decode cX0_part 2 = .ok (.invokevirtual 310, 3) := dk_182 1 54 (dk_at dksX0_part_0 2 rfl rfl)
theorem dX0_part_5 : decode cX0_part 5 = .ok (.ifCond .eq 16, 3) := dk_153 0 16 (dk_at dksX0_part_0 5 rfl rfl)
theorem dX0_part_8 : decode cX0_part 8 = .ok (.aload_n 0, 1) := dk_42 (dk_at dksX0_part_0 8 rfl rfl)
theorem dX0_part_9 : decode cX0_part 9 = .ok (.iload_n 2, 1) := dk_28 (dk_at dksX0_part_0 9 rfl rfl)
theorem dX0_part_10 : decode cX0_part 10 = .ok (.invokevirtual 310, 3) := dk_182 1 54 (dk_at dksX0_part_0 10 rfl rfl)
theorem dX0_part_13 : decode cX0_part 13 = .ok (.ifCond .eq 8, 3) := dk_153 0 8 (dk_at dksX0_part_0 13 rfl rfl)
theorem dX0_part_16 : decode cX0_part 16 = .ok (.iload_n 1, 1) := dk_27 (dk_at dksX0_part_0 16 rfl rfl)
theorem dX0_part_17 : decode cX0_part 17 = .ok (.iload_n 2, 1) := dk_28 (dk_at dksX0_part_0 17 rfl rfl)
theorem dX0_part_18 : decode cX0_part 18 = .ok (.if_icmp .ne 5, 3) := dk_160 0 5 (dk_at dksX0_part_0 18 rfl rfl)
theorem dX0_part_21 : decode cX0_part 21 = .ok (.iconst (-1), 1) := dk_2 (dk_at dksX0_part_0 21 rfl rfl)
theorem dX0_part_22 : decode cX0_part 22 = .ok (.ireturn, 1) := dk_172 (dk_at dksX0_part_0 22 rfl rfl)
theorem dX0_part_23 : decode cX0_part 23 = .ok (.aload_n 0, 1) := dk_42 (dk_at dksX0_part_0 23 rfl rfl)
theorem dX0_part_24 : decode cX0_part 24 = .ok (.getfield 109, 3) := dk_180 0 109 (dk_at dksX0_part_1 0 rfl rfl)
theorem dX0_part_27 : decode cX0_part 27 = .ok (.astore_n 3, 1) := dk_78 (dk_at dksX0_part_1 3 rfl rfl)
theorem dX0_part_28 : decode cX0_part 28 = .ok (.aload_n 3, 1) := dk_45 (dk_at dksX0_part_1 4 rfl rfl)
theorem dX0_part_29 : decode cX0_part 29 = .ok (.arraylength, 1) := dk_190 (dk_at dksX0_part_1 5 rfl rfl)
theorem dX0_part_30 : decode cX0_part 30 = .ok (.istore 4, 2) := dk_54 4 (dk_at dksX0_part_1 6 rfl rfl)
theorem dX0_part_32 : decode cX0_part 32 = .ok (.iconst 0, 1) := dk_3 (dk_at dksX0_part_1 8 rfl rfl)
theorem dX0_part_33 : decode cX0_part 33 = .ok (.istore 5, 2) := dk_54 5 (dk_at dksX0_part_1 9 rfl rfl)
theorem dX0_part_35 : decode cX0_part 35 = .ok (.iload 5, 2) := dk_21 5 (dk_at dksX0_part_1 11 rfl rfl)
theorem dX0_part_37 : decode cX0_part 37 = .ok (.iload 4, 2) := dk_21 4 (dk_at dksX0_part_1 13 rfl rfl)
theorem dX0_part_39 : decode cX0_part 39 = .ok (.if_icmp .ge 21, 3) := dk_162 0 21 (dk_at dksX0_part_1 15 rfl rfl)
theorem dX0_part_42 : decode cX0_part 42 = .ok (.aload_n 3, 1) := dk_45 (dk_at dksX0_part_1 18 rfl rfl)
theorem dX0_part_43 : decode cX0_part 43 = .ok (.iload 5, 2) := dk_21 5 (dk_at dksX0_part_1 19 rfl rfl)
theorem dX0_part_45 : decode cX0_part 45 = .ok (.aaload, 1) := dk_50 (dk_at dksX0_part_1 21 rfl rfl)
theorem dX0_part_46 : decode cX0_part 46 = .ok (.astore 6, 2) := dk_58 6 (dk_at dksX0_part_1 22 rfl rfl)
theorem dX0_part_48 : decode cX0_part 48 = .ok (.aload 6, 2) := dk_25 6 (dk_at dksX0_part_2 0 rfl rfl)
theorem dX0_part_50 : decode cX0_part 50 = .ok (.iconst 0, 1) := dk_3 (dk_at dksX0_part_2 2 rfl rfl)
theorem dX0_part_51 : decode cX0_part 51 = .ok (.invokestatic 495, 3) := dk_184 1 239 (dk_at dksX0_part_2 3 rfl rfl)
theorem dX0_part_54 : decode cX0_part 54 = .ok (.iinc 5 1, 3) := dk_132 5 1 (dk_at dksX0_part_2 6 rfl rfl)
theorem dX0_part_57 : decode cX0_part 57 = .ok (.goto (-22), 3) := dk_167 255 234 (dk_at dksX0_part_2 9 rfl rfl)
theorem dX0_part_60 : decode cX0_part 60 = .ok (.iconst 0, 1) := dk_3 (dk_at dksX0_part_2 12 rfl rfl)
theorem dX0_part_61 : decode cX0_part 61 = .ok (.istore_n 3, 1) := dk_62 (dk_at dksX0_part_2 13 rfl rfl)
theorem dX0_part_62 : decode cX0_part 62 = .ok (.aload_n 0, 1) := dk_42 (dk_at dksX0_part_2 14 rfl rfl)
theorem dX0_part_63 : decode cX0_part 63 = .ok (.iload_n 1, 1) := dk_27 (dk_at dksX0_part_2 15 rfl rfl)
theorem dX0_part_64 : decode cX0_part 64 = .ok (.iload_n 2, 1) := dk_28 (dk_at dksX0_part_2 16 rfl rfl)
theorem dX0_part_65 : decode cX0_part 65 = .ok (.invokevirtual 505, 3) := dk_182 1 249 (dk_at dksX0_part_2 17 rfl rfl)
theorem dX0_part_68 : decode cX0_part 68 = .ok (.ifCond .eq 9, 3) := dk_153 0 9 (dk_at dksX0_part_2 20 rfl rfl)
theorem dX0_part_71 : decode cX0_part 71 = .ok (.iinc 3 1, 3) := dk_132 3 1 (dk_at dksX0_part_3 0 rfl rfl)
theorem dX0_part_74 : decode cX0_part 74 = .ok (.goto (-12), 3) := dk_167 255 244 (dk_at dksX0_part_3 3 rfl rfl)
theorem dX0_part_77 : decode cX0_part 77 = .ok (.iload_n 3, 1) := dk_29 (dk_at dksX0_part_3 6 rfl rfl)
theorem dX0_part_78 : decode cX0_part 78 = .ok (.ireturn, 1) := dk_172 (dk_at dksX0_part_3 7 rfl rfl)
abbrev cX0_findsWay : ByteArray := prog_1_method_61_code
def yX0_findsWay : MethodName := ⟨RX0, "findsWay", "(II)Z"⟩
def dkwX0_findsWay_12 : List UInt8 := [167, 255, 180, 4, 172]
abbrev dktX0_findsWay_12 : List UInt8 := dkwX0_findsWay_12 ++ []
def dkwX0_findsWay_11 : List UInt8 := [46, 4, 96, 79, 42, 180, 0, 109, 21, 4, 50, 21, 6, 92, 46, 4, 100, 79, 21, 7, 54, 4]
abbrev dktX0_findsWay_11 : List UInt8 := dkwX0_findsWay_11 ++ dktX0_findsWay_12
def dkwX0_findsWay_10 : List UInt8 := [46, 96, 16, 10, 178, 1, 137, 21, 6, 46, 104, 96, 54, 7, 42, 180, 0, 109, 21, 7, 50, 21, 5, 92]
abbrev dktX0_findsWay_10 : List UInt8 := dkwX0_findsWay_10 ++ dktX0_findsWay_11
def dkwX0_findsWay_9 : List UInt8 := [42, 180, 0, 112, 21, 4, 46, 54, 5, 21, 5, 5, 96, 7, 112, 54, 6, 21, 4, 178, 1, 134, 21, 6]
abbrev dktX0_findsWay_9 : List UInt8 := dkwX0_findsWay_9 ++ dktX0_findsWay_10
def dkwX0_findsWay_8 : List UInt8 := [167, 255, 99, 42, 180, 0, 112, 28, 46, 2, 160, 0, 5, 3, 172, 28, 54, 4, 21, 4, 27, 159, 0, 76]
abbrev dktX0_findsWay_8 : List UInt8 := dkwX0_findsWay_8 ++ dktX0_findsWay_9
def dkwX0_findsWay_7 : List UInt8 := [21, 7, 79, 42, 180, 0, 115, 29, 21, 8, 79, 132, 3, 1, 132, 7, 1, 167, 255, 148, 132, 4, 1]
abbrev dktX0_findsWay_7 : List UInt8 := dkwX0_findsWay_7 ++ dktX0_findsWay_8
def dkwX0_findsWay_6 : List UInt8 := [159, 0, 37, 42, 180, 0, 112, 21, 8, 46, 2, 159, 0, 6, 167, 0, 23, 42, 180, 0, 112, 21, 8]
abbrev dktX0_findsWay_6 : List UInt8 := dkwX0_findsWay_6 ++ dktX0_findsWay_7
def dkwX0_findsWay_5 : List UInt8 := [182, 1, 245, 153, 0, 56, 42, 180, 0, 109, 42, 180, 0, 115, 21, 4, 46, 50, 21, 7, 46, 4]
abbrev dktX0_findsWay_5 : List UInt8 := dkwX0_findsWay_5 ++ dktX0_findsWay_6
def dkwX0_findsWay_4 : List UInt8 := [178, 1, 137, 21, 7, 46, 104, 96, 54, 8, 42, 180, 0, 94, 42, 180, 0, 75, 21, 5, 21, 6, 21, 7]
abbrev dktX0_findsWay_4 : List UInt8 := dkwX0_findsWay_4 ++ dktX0_findsWay_5
def dkwX0_findsWay_3 : List UInt8 := [21, 7, 7, 162, 0, 108, 42, 180, 0, 115, 21, 4, 46, 178, 1, 134, 21, 7, 46, 96, 16, 10]
abbrev dktX0_findsWay_3 : List UInt8 := dkwX0_findsWay_3 ++ dktX0_findsWay_4
def dkwX0_findsWay_2 : List UInt8 := [21, 4, 46, 16, 10, 112, 54, 5, 42, 180, 0, 115, 21, 4, 46, 16, 10, 108, 54, 6, 3, 54, 7]
abbrev dktX0_findsWay_2 : List UInt8 := dkwX0_findsWay_2 ++ dktX0_findsWay_3
def dkwX0_findsWay_1 : List UInt8 := [3, 54, 4, 21, 4, 29, 162, 0, 157, 42, 180, 0, 112, 28, 46, 2, 160, 0, 147, 42, 180, 0, 115]
abbrev dktX0_findsWay_1 : List UInt8 := dkwX0_findsWay_1 ++ dktX0_findsWay_2
def dkwX0_findsWay_0 : List UInt8 := [42, 180, 0, 112, 2, 184, 1, 239, 42, 180, 0, 112, 27, 7, 79, 42, 180, 0, 115, 3, 27, 79, 4, 62]
abbrev dktX0_findsWay_0 : List UInt8 := dkwX0_findsWay_0 ++ dktX0_findsWay_1
theorem dksX0_findsWay_0 : cX0_findsWay.data.toList.drop 0 = dktX0_findsWay_0 := by decide +kernel
theorem dksX0_findsWay_1 : cX0_findsWay.data.toList.drop 24 = dktX0_findsWay_1 := dk_seg dksX0_findsWay_0 24 rfl rfl
theorem dksX0_findsWay_2 : cX0_findsWay.data.toList.drop 47 = dktX0_findsWay_2 := dk_seg dksX0_findsWay_1 23 rfl rfl
theorem dksX0_findsWay_3 : cX0_findsWay.data.toList.drop 70 = dktX0_findsWay_3 := dk_seg dksX0_findsWay_2 23 rfl rfl
theorem dksX0_findsWay_4 : cX0_findsWay.data.toList.drop 92 = dktX0_findsWay_4 := dk_seg dksX0_findsWay_3 22 rfl rfl
theorem dksX0_findsWay_5 : cX0_findsWay.data.toList.drop 116 = dktX0_findsWay_5 := dk_seg dksX0_findsWay_4 24 rfl rfl
theorem dksX0_findsWay_6 : cX0_findsWay.data.toList.drop 138 = dktX0_findsWay_6 := dk_seg dksX0_findsWay_5 22 rfl rfl
theorem dksX0_findsWay_7 : cX0_findsWay.data.toList.drop 161 = dktX0_findsWay_7 := dk_seg dksX0_findsWay_6 23 rfl rfl
theorem dksX0_findsWay_8 : cX0_findsWay.data.toList.drop 184 = dktX0_findsWay_8 := dk_seg dksX0_findsWay_7 23 rfl rfl
theorem dksX0_findsWay_9 : cX0_findsWay.data.toList.drop 208 = dktX0_findsWay_9 := dk_seg dksX0_findsWay_8 24 rfl rfl
theorem dksX0_findsWay_10 : cX0_findsWay.data.toList.drop 232 = dktX0_findsWay_10 := dk_seg dksX0_findsWay_9 24 rfl rfl
theorem dksX0_findsWay_11 : cX0_findsWay.data.toList.drop 256 = dktX0_findsWay_11 := dk_seg dksX0_findsWay_10 24 rfl rfl
theorem dksX0_findsWay_12 : cX0_findsWay.data.toList.drop 278 = dktX0_findsWay_12 := dk_seg dksX0_findsWay_11 22 rfl rfl
theorem dX0_findsWay_0 : decode cX0_findsWay 0 = .ok (.aload_n 0, 1) := dk_42 (dk_at dksX0_findsWay_0 0 rfl rfl)
theorem dX0_findsWay_1 : decode cX0_findsWay 1 = .ok (.getfield 112, 3) := dk_180 0 112 (dk_at dksX0_findsWay_0 1 rfl rfl)
theorem dX0_findsWay_4 : decode cX0_findsWay 4 = .ok (.iconst (-1), 1) := dk_2 (dk_at dksX0_findsWay_0 4 rfl rfl)
theorem dX0_findsWay_5 : decode cX0_findsWay 5 = .ok (.invokestatic 495, 3) := dk_184 1 239 (dk_at dksX0_findsWay_0 5 rfl rfl)
theorem dX0_findsWay_8 : decode cX0_findsWay 8 = .ok (.aload_n 0, 1) := dk_42 (dk_at dksX0_findsWay_0 8 rfl rfl)
theorem dX0_findsWay_9 : decode cX0_findsWay 9 = .ok (.getfield 112, 3) := dk_180 0 112 (dk_at dksX0_findsWay_0 9 rfl rfl)
theorem dX0_findsWay_12 : decode cX0_findsWay 12 = .ok (.iload_n 1, 1) := dk_27 (dk_at dksX0_findsWay_0 12 rfl rfl)
theorem dX0_findsWay_13 : decode cX0_findsWay 13 = .ok (.iconst 4, 1) := dk_7 (dk_at dksX0_findsWay_0 13 rfl rfl)
theorem dX0_findsWay_14 : decode cX0_findsWay 14 = .ok (.iastore, 1) := dk_79 (dk_at dksX0_findsWay_0 14 rfl rfl)
theorem dX0_findsWay_15 : decode cX0_findsWay 15 = .ok (.aload_n 0, 1) := dk_42 (dk_at dksX0_findsWay_0 15 rfl rfl)
theorem dX0_findsWay_16 : decode cX0_findsWay 16 = .ok (.getfield 115, 3) := dk_180 0 115 (dk_at dksX0_findsWay_0 16 rfl rfl)
theorem dX0_findsWay_19 : decode cX0_findsWay 19 = .ok (.iconst 0, 1) := dk_3 (dk_at dksX0_findsWay_0 19 rfl rfl)
theorem dX0_findsWay_20 : decode cX0_findsWay 20 = .ok (.iload_n 1, 1) := dk_27 (dk_at dksX0_findsWay_0 20 rfl rfl)
theorem dX0_findsWay_21 : decode cX0_findsWay 21 = .ok (.iastore, 1) := dk_79 (dk_at dksX0_findsWay_0 21 rfl rfl)
theorem dX0_findsWay_22 : decode cX0_findsWay 22 = .ok (.iconst 1, 1) := dk_4 (dk_at dksX0_findsWay_0 22 rfl rfl)
theorem dX0_findsWay_23 : decode cX0_findsWay 23 = .ok (.istore_n 3, 1) := dk_62 (dk_at dksX0_findsWay_0 23 rfl rfl)
theorem dX0_findsWay_24 : decode cX0_findsWay 24 = .ok (.iconst 0, 1) := dk_3 (dk_at dksX0_findsWay_1 0 rfl rfl)
theorem dX0_findsWay_25 : decode cX0_findsWay 25 = .ok (.istore 4, 2) := dk_54 4 (dk_at dksX0_findsWay_1 1 rfl rfl)
theorem dX0_findsWay_27 : decode cX0_findsWay 27 = .ok (.iload 4, 2) := dk_21 4 (dk_at dksX0_findsWay_1 3 rfl rfl)
theorem dX0_findsWay_29 : decode cX0_findsWay 29 = .ok (.iload_n 3, 1) := dk_29 (dk_at dksX0_findsWay_1 5 rfl rfl)
theorem dX0_findsWay_30 : decode cX0_findsWay 30 = .ok (.if_icmp .ge 157, 3) := dk_162 0 157 (dk_at dksX0_findsWay_1 6 rfl rfl)
theorem dX0_findsWay_33 : decode cX0_findsWay 33 = .ok (.aload_n 0, 1) := dk_42 (dk_at dksX0_findsWay_1 9 rfl rfl)
theorem dX0_findsWay_34 : decode cX0_findsWay 34 = .ok (.getfield 112, 3) := dk_180 0 112 (dk_at dksX0_findsWay_1 10 rfl rfl)
theorem dX0_findsWay_37 : decode cX0_findsWay 37 = .ok (.iload_n 2, 1) := dk_28 (dk_at dksX0_findsWay_1 13 rfl rfl)
theorem dX0_findsWay_38 : decode cX0_findsWay 38 = .ok (.iaload, 1) := dk_46 (dk_at dksX0_findsWay_1 14 rfl rfl)
theorem dX0_findsWay_39 : decode cX0_findsWay 39 = .ok (.iconst (-1), 1) := dk_2 (dk_at dksX0_findsWay_1 15 rfl rfl)
theorem dX0_findsWay_40 : decode cX0_findsWay 40 = .ok (.if_icmp .ne 147, 3) := dk_160 0 147 (dk_at dksX0_findsWay_1 16 rfl rfl)
theorem dX0_findsWay_43 : decode cX0_findsWay 43 = .ok (.aload_n 0, 1) := dk_42 (dk_at dksX0_findsWay_1 19 rfl rfl)
theorem dX0_findsWay_44 : decode cX0_findsWay 44 = .ok (.getfield 115, 3) := dk_180 0 115 (dk_at dksX0_findsWay_1 20 rfl rfl)
theorem dX0_findsWay_47 : decode cX0_findsWay 47 = .ok (.iload 4, 2) := dk_21 4 (dk_at dksX0_findsWay_2 0 rfl rfl)
theorem dX0_findsWay_49 : decode cX0_findsWay 49 = .ok (.iaload, 1) := dk_46 (dk_at dksX0_findsWay_2 2 rfl rfl)
theorem dX0_findsWay_50 : decode cX0_findsWay 50 = .ok (.bipush 10, 2) := dk_16 10 (dk_at dksX0_findsWay_2 3 rfl rfl)
theorem dX0_findsWay_52 : decode cX0_findsWay 52 = .ok (.irem, 1) := dk_112 (dk_at dksX0_findsWay_2 5 rfl rfl)
theorem dX0_findsWay_53 : decode cX0_findsWay 53 = .ok (.istore 5, 2) := dk_54 5 (dk_at dksX0_findsWay_2 6 rfl rfl)
theorem dX0_findsWay_55 : decode cX0_findsWay 55 = .ok (.aload_n 0, 1) := dk_42 (dk_at dksX0_findsWay_2 8 rfl rfl)
theorem dX0_findsWay_56 : decode cX0_findsWay 56 = .ok (.getfield 115, 3) := dk_180 0 115 (dk_at dksX0_findsWay_2 9 rfl rfl)
theorem dX0_findsWay_59 : decode cX0_findsWay 59 = .ok (.iload 4, 2) := dk_21 4 (dk_at dksX0_findsWay_2 12 rfl rfl)
theorem dX0_findsWay_61 : decode cX0_findsWay 61 = .ok (.iaload, 1) := dk_46 (dk_at dksX0_findsWay_2 14 rfl rfl)
theorem dX0_findsWay_62 : decode cX0_findsWay 62 = .ok (.bipush 10, 2) := dk_16 10 (dk_at dksX0_findsWay_2 15 rfl rfl)
theorem dX0_findsWay_64 : decode cX0_findsWay 64 = .ok (.idiv, 1) := dk_108 (dk_at dksX0_findsWay_2 17 rfl rfl)
theorem dX0_findsWay_65 : decode cX0_findsWay 65 = .ok (.istore 6, 2) := dk_54 6 (dk_at dksX0_findsWay_2 18 rfl rfl)
theorem dX0_findsWay_67 : decode cX0_findsWay 67 = .ok (.iconst 0, 1) := dk_3 (dk_at dksX0_findsWay_2 20 rfl rfl)
theorem dX0_findsWay_68 : decode cX0_findsWay 68 = .ok (.istore 7, 2) := dk_54 7 (dk_at dksX0_findsWay_2 21 rfl rfl)
theorem dX0_findsWay_70 : decode cX0_findsWay 70 = .ok (.iload 7, 2) := dk_21 7 (dk_at dksX0_findsWay_3 0 rfl rfl)
theorem dX0_findsWay_72 : decode cX0_findsWay 72 = .ok (.iconst 4, 1) := dk_7 (dk_at dksX0_findsWay_3 2 rfl rfl)
theorem dX0_findsWay_73 : decode cX0_findsWay 73 = .ok (.if_icmp .ge 108, 3) := dk_162 0 108 (dk_at dksX0_findsWay_3 3 rfl rfl)
theorem dX0_findsWay_76 : decode cX0_findsWay 76 = .ok (.aload_n 0, 1) := dk_42 (dk_at dksX0_findsWay_3 6 rfl rfl)
theorem dX0_findsWay_77 : decode cX0_findsWay 77 = .ok (.getfield 115, 3) := dk_180 0 115 (dk_at dksX0_findsWay_3 7 rfl rfl)
theorem dX0_findsWay_80 : decode cX0_findsWay 80 = .ok (.iload 4, 2) := dk_21 4 (dk_at dksX0_findsWay_3 10 rfl rfl)
theorem dX0_findsWay_82 : decode cX0_findsWay 82 = .ok (.iaload, 1) := dk_46 (dk_at dksX0_findsWay_3 12 rfl rfl)
theorem dX0_findsWay_83 : decode cX0_findsWay 83 = .ok (.getstatic 390, 3) := dk_178 1 134 (dk_at dksX0_findsWay_3 13 rfl rfl)
theorem dX0_findsWay_86 : decode cX0_findsWay 86 = .ok (.iload 7, 2) := dk_21 7 (dk_at dksX0_findsWay_3 16 rfl rfl)
theorem dX0_findsWay_88 : decode cX0_findsWay 88 = .ok (.iaload, 1) := dk_46 (dk_at dksX0_findsWay_3 18 rfl rfl)
theorem dX0_findsWay_89 : decode cX0_findsWay 89 = .ok (.iadd, 1) := dk_96 (dk_at dksX0_findsWay_3 19 rfl rfl)
theorem dX0_findsWay_90 : decode cX0_findsWay 90 = .ok (.bipush 10, 2) := dk_16 10 (dk_at dksX0_findsWay_3 20 rfl rfl)
theorem dX0_findsWay_92 : decode cX0_findsWay 92 = .ok (.getstatic 393, 3) := dk_178 1 137 (dk_at dksX0_findsWay_4 0 rfl rfl)
theorem dX0_findsWay_95 : decode cX0_findsWay 95 = .ok (.iload 7, 2) := dk_21 7 (dk_at dksX0_findsWay_4 3 rfl rfl)
theorem dX0_findsWay_97 : decode cX0_findsWay 97 = .ok (.iaload, 1) := dk_46 (dk_at dksX0_findsWay_4 5 rfl rfl)
theorem dX0_findsWay_98 : decode cX0_findsWay 98 = .ok (.imul, 1) := dk_104 (dk_at dksX0_findsWay_4 6 rfl rfl)
theorem dX0_findsWay_99 : decode cX0_findsWay 99 = .ok (.iadd, 1) := dk_96 (dk_at dksX0_findsWay_4 7 rfl rfl)
theorem dX0_findsWay_100 : decode cX0_findsWay 100 = .ok (.istore 8, 2) := dk_54 8 (dk_at dksX0_findsWay_4 8 rfl rfl)
theorem dX0_findsWay_102 : decode cX0_findsWay 102 = .ok (.aload_n 0, 1) := dk_42 (dk_at dksX0_findsWay_4 10 rfl rfl)
theorem dX0_findsWay_103 : decode cX0_findsWay 103 = .ok (.getfield 94, 3) := dk_180 0 94 (dk_at dksX0_findsWay_4 11 rfl rfl)
theorem dX0_findsWay_106 : decode cX0_findsWay 106 = .ok (.aload_n 0, 1) := dk_42 (dk_at dksX0_findsWay_4 14 rfl rfl)
theorem dX0_findsWay_107 : decode cX0_findsWay 107 = .ok (.getfield 75, 3) := dk_180 0 75 (dk_at dksX0_findsWay_4 15 rfl rfl)
theorem dX0_findsWay_110 : decode cX0_findsWay 110 = .ok (.iload 5, 2) := dk_21 5 (dk_at dksX0_findsWay_4 18 rfl rfl)
theorem dX0_findsWay_112 : decode cX0_findsWay 112 = .ok (.iload 6, 2) := dk_21 6 (dk_at dksX0_findsWay_4 20 rfl rfl)
theorem dX0_findsWay_114 : decode cX0_findsWay 114 = .ok (.iload 7, 2) := dk_21 7 (dk_at dksX0_findsWay_4 22 rfl rfl)
theorem dX0_findsWay_116 : decode cX0_findsWay 116 = .ok (.invokevirtual 501, 3) := dk_182 1 245 (dk_at dksX0_findsWay_5 0 rfl rfl)
theorem dX0_findsWay_119 : decode cX0_findsWay 119 = .ok (.ifCond .eq 56, 3) := dk_153 0 56 (dk_at dksX0_findsWay_5 3 rfl rfl)
theorem dX0_findsWay_122 : decode cX0_findsWay 122 = .ok (.aload_n 0, 1) := dk_42 (dk_at dksX0_findsWay_5 6 rfl rfl)
theorem dX0_findsWay_123 : decode cX0_findsWay 123 = .ok (.getfield 109, 3) := dk_180 0 109 (dk_at dksX0_findsWay_5 7 rfl rfl)
theorem dX0_findsWay_126 : decode cX0_findsWay 126 = .ok (.aload_n 0, 1) := dk_42 (dk_at dksX0_findsWay_5 10 rfl rfl)
theorem dX0_findsWay_127 : decode cX0_findsWay 127 = .ok (.getfield 115, 3) := dk_180 0 115 (dk_at dksX0_findsWay_5 11 rfl rfl)
theorem dX0_findsWay_130 : decode cX0_findsWay 130 = .ok (.iload 4, 2) := dk_21 4 (dk_at dksX0_findsWay_5 14 rfl rfl)
theorem dX0_findsWay_132 : decode cX0_findsWay 132 = .ok (.iaload, 1) := dk_46 (dk_at dksX0_findsWay_5 16 rfl rfl)
theorem dX0_findsWay_133 : decode cX0_findsWay 133 = .ok (.aaload, 1) := dk_50 (dk_at dksX0_findsWay_5 17 rfl rfl)
theorem dX0_findsWay_134 : decode cX0_findsWay 134 = .ok (.iload 7, 2) := dk_21 7 (dk_at dksX0_findsWay_5 18 rfl rfl)
theorem dX0_findsWay_136 : decode cX0_findsWay 136 = .ok (.iaload, 1) := dk_46 (dk_at dksX0_findsWay_5 20 rfl rfl)
theorem dX0_findsWay_137 : decode cX0_findsWay 137 = .ok (.iconst 1, 1) := dk_4 (dk_at dksX0_findsWay_5 21 rfl rfl)
theorem dX0_findsWay_138 : decode cX0_findsWay 138 = .ok (.if_icmp .eq 37, 3) := dk_159 0 37 (dk_at dksX0_findsWay_6 0 rfl rfl)
theorem dX0_findsWay_141 : decode cX0_findsWay 141 = .ok (.aload_n 0, 1) := dk_42 (dk_at dksX0_findsWay_6 3 rfl rfl)
theorem dX0_findsWay_142 : decode cX0_findsWay 142 = .ok (.getfield 112, 3) := dk_180 0 112 (dk_at dksX0_findsWay_6 4 rfl rfl)
theorem dX0_findsWay_145 : decode cX0_findsWay 145 = .ok (.iload 8, 2) := dk_21 8 (dk_at dksX0_findsWay_6 7 rfl rfl)
theorem dX0_findsWay_147 : decode cX0_findsWay 147 = .ok (.iaload, 1) := dk_46 (dk_at dksX0_findsWay_6 9 rfl rfl)
theorem dX0_findsWay_148 : decode cX0_findsWay 148 = .ok (.iconst (-1), 1) := dk_2 (dk_at dksX0_findsWay_6 10 rfl rfl)
theorem dX0_findsWay_149 : decode cX0_findsWay 149 = .ok (.if_icmp .eq 6, 3) := dk_159 0 6 (dk_at dksX0_findsWay_6 11 rfl rfl)
theorem dX0_findsWay_152 : decode cX0_findsWay 152 = .ok (.goto 23, 3) := dk_167 0 23 (dk_at dksX0_findsWay_6 14 rfl rfl)
theorem dX0_findsWay_155 : decode cX0_findsWay 155 = .ok (.aload_n 0, 1) := dk_42 (dk_at dksX0_findsWay_6 17 rfl rfl)
theorem dX0_findsWay_156 : decode cX0_findsWay 156 = .ok (.getfield 112, 3) := dk_180 0 112 (dk_at dksX0_findsWay_6 18 rfl rfl)
theorem dX0_findsWay_159 : decode cX0_findsWay 159 = .ok (.iload 8, 2) := dk_21 8 (dk_at dksX0_findsWay_6 21 rfl rfl)
theorem dX0_findsWay_161 : decode cX0_findsWay 161 = .ok (.iload 7, 2) := dk_21 7 (dk_at dksX0_findsWay_7 0 rfl rfl)
theorem dX0_findsWay_163 : decode cX0_findsWay 163 = .ok (.iastore, 1) := dk_79 (dk_at dksX0_findsWay_7 2 rfl rfl)
theorem dX0_findsWay_164 : decode cX0_findsWay 164 = .ok (.aload_n 0, 1) := dk_42 (dk_at dksX0_findsWay_7 3 rfl rfl)
theorem dX0_findsWay_165 : decode cX0_findsWay 165 = .ok (.getfield 115, 3) := dk_180 0 115 (dk_at dksX0_findsWay_7 4 rfl rfl)
theorem dX0_findsWay_168 : decode cX0_findsWay 168 = .ok (.iload_n 3, 1) := dk_29 (dk_at dksX0_findsWay_7 7 rfl rfl)
theorem dX0_findsWay_169 : decode cX0_findsWay 169 = .ok (.iload 8, 2) := dk_21 8 (dk_at dksX0_findsWay_7 8 rfl rfl)
theorem dX0_findsWay_171 : decode cX0_findsWay 171 = .ok (.iastore, 1) := dk_79 (dk_at dksX0_findsWay_7 10 rfl rfl)
theorem dX0_findsWay_172 : decode cX0_findsWay 172 = .ok (.iinc 3 1, 3) := dk_132 3 1 (dk_at dksX0_findsWay_7 11 rfl rfl)
theorem dX0_findsWay_175 : decode cX0_findsWay 175 = .ok (.iinc 7 1, 3) := dk_132 7 1 (dk_at dksX0_findsWay_7 14 rfl rfl)
theorem dX0_findsWay_178 : decode cX0_findsWay 178 = .ok (.goto (-108), 3) := dk_167 255 148 (dk_at dksX0_findsWay_7 17 rfl rfl)
theorem dX0_findsWay_181 : decode cX0_findsWay 181 = .ok (.iinc 4 1, 3) := dk_132 4 1 (dk_at dksX0_findsWay_7 20 rfl rfl)
theorem dX0_findsWay_184 : decode cX0_findsWay 184 = .ok (.goto (-157), 3) := dk_167 255 99 (dk_at dksX0_findsWay_8 0 rfl rfl)
theorem dX0_findsWay_187 : decode cX0_findsWay 187 = .ok (.aload_n 0, 1) := dk_42 (dk_at dksX0_findsWay_8 3 rfl rfl)
theorem dX0_findsWay_188 : decode cX0_findsWay 188 = .ok (.getfield 112, 3) := dk_180 0 112 (dk_at dksX0_findsWay_8 4 rfl rfl)
theorem dX0_findsWay_191 : decode cX0_findsWay 191 = .ok (.iload_n 2, 1) := dk_28 (dk_at dksX0_findsWay_8 7 rfl rfl)
theorem dX0_findsWay_192 : decode cX0_findsWay 192 = .ok (.iaload, 1) := dk_46 (dk_at dksX0_findsWay_8 8 rfl rfl)
theorem dX0_findsWay_193 : decode cX0_findsWay 193 = .ok (.iconst (-1), 1) := dk_2 (dk_at dksX0_findsWay_8 9 rfl rfl)
theorem dX0_findsWay_194 : decode cX0_findsWay 194 = .ok (.if_icmp .ne 5, 3) := dk_160 0 5 (dk_at dksX0_findsWay_8 10 rfl rfl)
theorem dX0_findsWay_197 : decode cX0_findsWay 197 = .ok (.iconst 0, 1) := dk_3 (dk_at dksX0_findsWay_8 13 rfl rfl)
theorem dX0_findsWay_198 : decode cX0_findsWay 198 = .ok (.ireturn, 1) := dk_172 (dk_at dksX0_findsWay_8 14 rfl rfl)
theorem dX0_findsWay_199 : decode cX0_findsWay 199 = .ok (.iload_n 2, 1) := dk_28 (dk_at dksX0_findsWay_8 15 rfl rfl)
theorem dX0_findsWay_200 : decode cX0_findsWay 200 = .ok (.istore 4, 2) := dk_54 4 (dk_at dksX0_findsWay_8 16 rfl rfl)
theorem dX0_findsWay_202 : decode cX0_findsWay 202 = .ok (.iload 4, 2) := dk_21 4 (dk_at dksX0_findsWay_8 18 rfl rfl)
theorem dX0_findsWay_204 : decode cX0_findsWay 204 = .ok (.iload_n 1, 1) := dk_27 (dk_at dksX0_findsWay_8 20 rfl rfl)
theorem dX0_findsWay_205 : decode cX0_findsWay 205 = .ok (.if_icmp .eq 76, 3) := dk_159 0 76 (dk_at dksX0_findsWay_8 21 rfl rfl)
theorem dX0_findsWay_208 : decode cX0_findsWay 208 = .ok (.aload_n 0, 1) := dk_42 (dk_at dksX0_findsWay_9 0 rfl rfl)
theorem dX0_findsWay_209 : decode cX0_findsWay 209 = .ok (.getfield 112, 3) := dk_180 0 112 (dk_at dksX0_findsWay_9 1 rfl rfl)
theorem dX0_findsWay_212 : decode cX0_findsWay 212 = .ok (.iload 4, 2) := dk_21 4 (dk_at dksX0_findsWay_9 4 rfl rfl)
theorem dX0_findsWay_214 : decode cX0_findsWay 214 = .ok (.iaload, 1) := dk_46 (dk_at dksX0_findsWay_9 6 rfl rfl)
theorem dX0_findsWay_215 : decode cX0_findsWay 215 = .ok (.istore 5, 2) := dk_54 5 (dk_at dksX0_findsWay_9 7 rfl rfl)
theorem dX0_findsWay_217 : decode cX0_findsWay 217 = .ok (.iload 5, 2) := dk_21 5 (dk_at dksX0_findsWay_9 9 rfl rfl)
theorem dX0_findsWay_219 : decode cX0_findsWay 219 = .ok (.iconst 2, 1) := dk_5 (dk_at dksX0_findsWay_9 11 rfl rfl)
theorem dX0_findsWay_220 : decode cX0_findsWay 220 = .ok (.iadd, 1) := dk_96 (dk_at dksX0_findsWay_9 12 rfl rfl)
theorem dX0_findsWay_221 : decode cX0_findsWay 221 = .ok (.iconst 4, 1) := dk_7 (dk_at dksX0_findsWay_9 13 rfl rfl)
theorem dX0_findsWay_222 : decode cX0_findsWay 222 = .ok (.irem, 1) := dk_112 (dk_at dksX0_findsWay_9 14 rfl rfl)
theorem dX0_findsWay_223 : decode cX0_findsWay 223 = .ok (.istore 6, 2) := dk_54 6 (dk_at dksX0_findsWay_9 15 rfl rfl)
theorem dX0_findsWay_225 : decode cX0_findsWay 225 = .ok (.iload 4, 2) := dk_21 4 (dk_at dksX0_findsWay_9 17 rfl rfl)
theorem dX0_findsWay_227 : decode cX0_findsWay 227 = .ok (.getstatic 390, 3) := dk_178 1 134 (dk_at dksX0_findsWay_9 19 rfl rfl)
theorem dX0_findsWay_230 : decode cX0_findsWay 230 = .ok (.iload 6, 2) := dk_21 6 (dk_at dksX0_findsWay_9 22 rfl rfl)
theorem dX0_findsWay_232 : decode cX0_findsWay 232 = .ok (.iaload, 1) := dk_46 (dk_at dksX0_findsWay_10 0 rfl rfl)
theorem dX0_findsWay_233 : decode cX0_findsWay 233 = .ok (.iadd, 1) := dk_96 (dk_at dksX0_findsWay_10 1 rfl rfl)
theorem dX0_findsWay_234 : decode cX0_findsWay 234 = .ok (.bipush 10, 2) := dk_16 10 (dk_at dksX0_findsWay_10 2 rfl rfl)
theorem dX0_findsWay_236 : decode cX0_findsWay 236 = .ok (.getstatic 393, 3) := dk_178 1 137 (dk_at dksX0_findsWay_10 4 rfl rfl)
theorem dX0_findsWay_239 : decode cX0_findsWay 239 = .ok (.iload 6, 2) := dk_21 6 (dk_at dksX0_findsWay_10 7 rfl rfl)
theorem dX0_findsWay_241 : decode cX0_findsWay 241 = .ok (.iaload, 1) := dk_46 (dk_at dksX0_findsWay_10 9 rfl rfl)
theorem dX0_findsWay_242 : decode cX0_findsWay 242 = .ok (.imul, 1) := dk_104 (dk_at dksX0_findsWay_10 10 rfl rfl)
theorem dX0_findsWay_243 : decode cX0_findsWay 243 = .ok (.iadd, 1) := dk_96 (dk_at dksX0_findsWay_10 11 rfl rfl)
theorem dX0_findsWay_244 : decode cX0_findsWay 244 = .ok (.istore 7, 2) := dk_54 7 (dk_at dksX0_findsWay_10 12 rfl rfl)
theorem dX0_findsWay_246 : decode cX0_findsWay 246 = .ok (.aload_n 0, 1) := dk_42 (dk_at dksX0_findsWay_10 14 rfl rfl)
theorem dX0_findsWay_247 : decode cX0_findsWay 247 = .ok (.getfield 109, 3) := dk_180 0 109 (dk_at dksX0_findsWay_10 15 rfl rfl)
theorem dX0_findsWay_250 : decode cX0_findsWay 250 = .ok (.iload 7, 2) := dk_21 7 (dk_at dksX0_findsWay_10 18 rfl rfl)
theorem dX0_findsWay_252 : decode cX0_findsWay 252 = .ok (.aaload, 1) := dk_50 (dk_at dksX0_findsWay_10 20 rfl rfl)
theorem dX0_findsWay_253 : decode cX0_findsWay 253 = .ok (.iload 5, 2) := dk_21 5 (dk_at dksX0_findsWay_10 21 rfl rfl)
theorem dX0_findsWay_255 : decode cX0_findsWay 255 = .ok (.dup2, 1) := dk_92 (dk_at dksX0_findsWay_10 23 rfl rfl)
theorem dX0_findsWay_256 : decode cX0_findsWay 256 = .ok (.iaload, 1) := dk_46 (dk_at dksX0_findsWay_11 0 rfl rfl)
theorem dX0_findsWay_257 : decode cX0_findsWay 257 = .ok (.iconst 1, 1) := dk_4 (dk_at dksX0_findsWay_11 1 rfl rfl)
theorem dX0_findsWay_258 : decode cX0_findsWay 258 = .ok (.iadd, 1) := dk_96 (dk_at dksX0_findsWay_11 2 rfl rfl)
theorem dX0_findsWay_259 : decode cX0_findsWay 259 = .ok (.iastore, 1) := dk_79 (dk_at dksX0_findsWay_11 3 rfl rfl)
theorem dX0_findsWay_260 : decode cX0_findsWay 260 = .ok (.aload_n 0, 1) := dk_42 (dk_at dksX0_findsWay_11 4 rfl rfl)
theorem dX0_findsWay_261 : decode cX0_findsWay 261 = .ok (.getfield 109, 3) := dk_180 0 109 (dk_at dksX0_findsWay_11 5 rfl rfl)
theorem dX0_findsWay_264 : decode cX0_findsWay 264 = .ok (.iload 4, 2) := dk_21 4 (dk_at dksX0_findsWay_11 8 rfl rfl)
theorem dX0_findsWay_266 : decode cX0_findsWay 266 = .ok (.aaload, 1) := dk_50 (dk_at dksX0_findsWay_11 10 rfl rfl)
theorem dX0_findsWay_267 : decode cX0_findsWay 267 = .ok (.iload 6, 2) := dk_21 6 (dk_at dksX0_findsWay_11 11 rfl rfl)
theorem dX0_findsWay_269 : decode cX0_findsWay 269 = .ok (.dup2, 1) := dk_92 (dk_at dksX0_findsWay_11 13 rfl rfl)
theorem dX0_findsWay_270 : decode cX0_findsWay 270 = .ok (.iaload, 1) := dk_46 (dk_at dksX0_findsWay_11 14 rfl rfl)
theorem dX0_findsWay_271 : decode cX0_findsWay 271 = .ok (.iconst 1, 1) := dk_4 (dk_at dksX0_findsWay_11 15 rfl rfl)
theorem dX0_findsWay_272 : decode cX0_findsWay 272 = .ok (.isub, 1) := dk_100 (dk_at dksX0_findsWay_11 16 rfl rfl)
theorem dX0_findsWay_273 : decode cX0_findsWay 273 = .ok (.iastore, 1) := dk_79 (dk_at dksX0_findsWay_11 17 rfl rfl)
theorem dX0_findsWay_274 : decode cX0_findsWay 274 = .ok (.iload 7, 2) := dk_21 7 (dk_at dksX0_findsWay_11 18 rfl rfl)
theorem dX0_findsWay_276 : decode cX0_findsWay 276 = .ok (.istore 4, 2) := dk_54 4 (dk_at dksX0_findsWay_11 20 rfl rfl)
theorem dX0_findsWay_278 : decode cX0_findsWay 278 = .ok (.goto (-76), 3) := dk_167 255 180 (dk_at dksX0_findsWay_12 0 rfl rfl)
theorem dX0_findsWay_281 : decode cX0_findsWay 281 = .ok (.iconst 1, 1) := dk_4 (dk_at dksX0_findsWay_12 3 rfl rfl)
theorem dX0_findsWay_282 : decode cX0_findsWay 282 = .ok (.ireturn, 1) := dk_172 (dk_at dksX0_findsWay_12 4 rfl rfl)
abbrev cX0_image : ByteArray := prog_1_method_63_code
def yX0_image : MethodName := ⟨RX0, "image", "(Z)Z"⟩
def dkwX0_image_4 : List UInt8 := [7, 184, 1, 32, 42, 3, 181, 1, 51, 4, 172]
abbrev dktX0_image_4 : List UInt8 := dkwX0_image_4 ++ []
def dkwX0_image_3 : List UInt8 := [182, 1, 199, 42, 180, 0, 94, 42, 180, 0, 101, 182, 2, 0, 42, 180, 0, 118, 3, 42, 180, 0, 68, 3]
abbrev dktX0_image_3 : List UInt8 := dkwX0_image_3 ++ dktX0_image_4
def dkwX0_image_2 : List UInt8 := [180, 0, 68, 3, 42, 180, 0, 118, 3, 7, 184, 1, 32, 167, 0, 44, 42, 180, 0, 75, 42, 180, 0, 82]
abbrev dktX0_image_2 : List UInt8 := dkwX0_image_2 ++ dktX0_image_3
def dkwX0_image_1 : List UInt8 := [180, 0, 82, 42, 180, 0, 75, 182, 1, 199, 42, 180, 0, 101, 42, 180, 0, 94, 182, 2, 0, 42]
abbrev dktX0_image_1 : List UInt8 := dkwX0_image_1 ++ dktX0_image_2
def dkwX0_image_0 : List UInt8 := [27, 154, 0, 12, 42, 180, 1, 252, 154, 0, 5, 3, 172, 42, 4, 181, 1, 252, 27, 153, 0, 42, 42]
abbrev dktX0_image_0 : List UInt8 := dkwX0_image_0 ++ dktX0_image_1
theorem dksX0_image_0 : cX0_image.data.toList.drop 0 = dktX0_image_0 := by decide +kernel
theorem dksX0_image_1 : cX0_image.data.toList.drop 23 = dktX0_image_1 := dk_seg dksX0_image_0 23 rfl rfl
theorem dksX0_image_2 : cX0_image.data.toList.drop 45 = dktX0_image_2 := dk_seg dksX0_image_1 22 rfl rfl
theorem dksX0_image_3 : cX0_image.data.toList.drop 69 = dktX0_image_3 := dk_seg dksX0_image_2 24 rfl rfl
theorem dksX0_image_4 : cX0_image.data.toList.drop 93 = dktX0_image_4 := dk_seg dksX0_image_3 24 rfl rfl
theorem dX0_image_0 : decode cX0_image 0 = .ok (.iload_n 1, 1) := dk_27 (dk_at dksX0_image_0 0 rfl rfl)
theorem dX0_image_1 : decode cX0_image 1 = .ok (.ifCond .ne 12, 3) := dk_154 0 12 (dk_at dksX0_image_0 1 rfl rfl)
theorem dX0_image_4 : decode cX0_image 4 = .ok (.aload_n 0, 1) := dk_42 (dk_at dksX0_image_0 4 rfl rfl)
theorem dX0_image_5 : decode cX0_image 5 = .ok (.getfield 508, 3) := dk_180 1 252 (dk_at dksX0_image_0 5 rfl rfl)
theorem dX0_image_8 : decode cX0_image 8 = .ok (.ifCond .ne 5, 3) := dk_154 0 5 (dk_at dksX0_image_0 8 rfl rfl)
theorem dX0_image_11 : decode cX0_image 11 = .ok (.iconst 0, 1) := dk_3 (dk_at dksX0_image_0 11 rfl rfl)
theorem dX0_image_12 : decode cX0_image 12 = .ok (.ireturn, 1) := dk_172 (dk_at dksX0_image_0 12 rfl rfl)
theorem dX0_image_13 : decode cX0_image 13 = .ok (.aload_n 0, 1) := dk_42 (dk_at dksX0_image_0 13 rfl rfl)
theorem dX0_image_14 : decode cX0_image 14 = .ok (.iconst 1, 1) := dk_4 (dk_at dksX0_image_0 14 rfl rfl)
theorem dX0_image_15 : decode cX0_image 15 = .ok (.putfield 508, 3) := dk_181 1 252 (dk_at dksX0_image_0 15 rfl rfl)
theorem dX0_image_18 : decode cX0_image 18 = .ok (.iload_n 1, 1) := dk_27 (dk_at dksX0_image_0 18 rfl rfl)
theorem dX0_image_19 : decode cX0_image 19 = .ok (.ifCond .eq 42, 3) := dk_153 0 42 (dk_at dksX0_image_0 19 rfl rfl)
theorem dX0_image_22 : decode cX0_image 22 = .ok (.aload_n 0, 1) := dk_42 (dk_at dksX0_image_0 22 rfl rfl)
theorem dX0_image_23 : decode cX0_image 23 = .ok (.getfield 82, 3) := dk_180 0 82 (dk_at dksX0_image_1 0 rfl rfl)
theorem dX0_image_26 : decode cX0_image 26 = .ok (.aload_n 0, 1) := dk_42 (dk_at dksX0_image_1 3 rfl rfl)
theorem dX0_image_27 : decode cX0_image 27 = .ok (.getfield 75, 3) := dk_180 0 75 (dk_at dksX0_image_1 4 rfl rfl)
theorem dX0_image_30 : decode cX0_image 30 = .ok (.invokevirtual 455, 3) := dk_182 1 199 (dk_at dksX0_image_1 7 rfl rfl)
theorem dX0_image_33 : decode cX0_image 33 = .ok (.aload_n 0, 1) := dk_42 (dk_at dksX0_image_1 10 rfl rfl)
theorem dX0_image_34 : decode cX0_image 34 = .ok (.getfield 101, 3) := dk_180 0 101 (dk_at dksX0_image_1 11 rfl rfl)
theorem dX0_image_37 : decode cX0_image 37 = .ok (.aload_n 0, 1) := dk_42 (dk_at dksX0_image_1 14 rfl rfl)
theorem dX0_image_38 : decode cX0_image 38 = .ok (.getfield 94, 3) := dk_180 0 94 (dk_at dksX0_image_1 15 rfl rfl)
theorem dX0_image_41 : decode cX0_image 41 = .ok (.invokevirtual 512, 3) := dk_182 2 0 (dk_at dksX0_image_1 18 rfl rfl)
theorem dX0_image_44 : decode cX0_image 44 = .ok (.aload_n 0, 1) := dk_42 (dk_at dksX0_image_1 21 rfl rfl)
theorem dX0_image_45 : decode cX0_image 45 = .ok (.getfield 68, 3) := dk_180 0 68 (dk_at dksX0_image_2 0 rfl rfl)
theorem dX0_image_48 : decode cX0_image 48 = .ok (.iconst 0, 1) := dk_3 (dk_at dksX0_image_2 3 rfl rfl)
theorem dX0_image_49 : decode cX0_image 49 = .ok (.aload_n 0, 1) := dk_42 (dk_at dksX0_image_2 4 rfl rfl)
theorem dX0_image_50 : decode cX0_image 50 = .ok (.getfield 118, 3) := dk_180 0 118 (dk_at dksX0_image_2 5 rfl rfl)
theorem dX0_image_53 : decode cX0_image 53 = .ok (.iconst 0, 1) := dk_3 (dk_at dksX0_image_2 8 rfl rfl)
theorem dX0_image_54 : decode cX0_image 54 = .ok (.iconst 4, 1) := dk_7 (dk_at dksX0_image_2 9 rfl rfl)
theorem dX0_image_55 : decode cX0_image 55 = .ok (.invokestatic 288, 3) := dk_184 1 32 (dk_at dksX0_image_2 10 rfl rfl)
theorem dX0_image_58 : decode cX0_image 58 = .ok (.goto 44, 3) := dk_167 0 44 (dk_at dksX0_image_2 13 rfl rfl)
theorem dX0_image_61 : decode cX0_image 61 = .ok (.aload_n 0, 1) := dk_42 (dk_at dksX0_image_2 16 rfl rfl)
theorem dX0_image_62 : decode cX0_image 62 = .ok (.getfield 75, 3) := dk_180 0 75 (dk_at dksX0_image_2 17 rfl rfl)
theorem dX0_image_65 : decode cX0_image 65 = .ok (.aload_n 0, 1) := dk_42 (dk_at dksX0_image_2 20 rfl rfl)
theorem dX0_image_66 : decode cX0_image 66 = .ok (.getfield 82, 3) := dk_180 0 82 (dk_at dksX0_image_2 21 rfl rfl)
theorem dX0_image_69 : decode cX0_image 69 = .ok (.invokevirtual 455, 3) := dk_182 1 199 (dk_at dksX0_image_3 0 rfl rfl)
theorem dX0_image_72 : decode cX0_image 72 = .ok (.aload_n 0, 1) := dk_42 (dk_at dksX0_image_3 3 rfl rfl)
theorem dX0_image_73 : decode cX0_image 73 = .ok (.getfield 94, 3) := dk_180 0 94 (dk_at dksX0_image_3 4 rfl rfl)
theorem dX0_image_76 : decode cX0_image 76 = .ok (.aload_n 0, 1) := dk_42 (dk_at dksX0_image_3 7 rfl rfl)
theorem dX0_image_77 : decode cX0_image 77 = .ok (.getfield 101, 3) := dk_180 0 101 (dk_at dksX0_image_3 8 rfl rfl)
theorem dX0_image_80 : decode cX0_image 80 = .ok (.invokevirtual 512, 3) := dk_182 2 0 (dk_at dksX0_image_3 11 rfl rfl)
theorem dX0_image_83 : decode cX0_image 83 = .ok (.aload_n 0, 1) := dk_42 (dk_at dksX0_image_3 14 rfl rfl)
theorem dX0_image_84 : decode cX0_image 84 = .ok (.getfield 118, 3) := dk_180 0 118 (dk_at dksX0_image_3 15 rfl rfl)
theorem dX0_image_87 : decode cX0_image 87 = .ok (.iconst 0, 1) := dk_3 (dk_at dksX0_image_3 18 rfl rfl)
theorem dX0_image_88 : decode cX0_image 88 = .ok (.aload_n 0, 1) := dk_42 (dk_at dksX0_image_3 19 rfl rfl)
theorem dX0_image_89 : decode cX0_image 89 = .ok (.getfield 68, 3) := dk_180 0 68 (dk_at dksX0_image_3 20 rfl rfl)
theorem dX0_image_92 : decode cX0_image 92 = .ok (.iconst 0, 1) := dk_3 (dk_at dksX0_image_3 23 rfl rfl)
theorem dX0_image_93 : decode cX0_image 93 = .ok (.iconst 4, 1) := dk_7 (dk_at dksX0_image_4 0 rfl rfl)
theorem dX0_image_94 : decode cX0_image 94 = .ok (.invokestatic 288, 3) := dk_184 1 32 (dk_at dksX0_image_4 1 rfl rfl)
theorem dX0_image_97 : decode cX0_image 97 = .ok (.aload_n 0, 1) := dk_42 (dk_at dksX0_image_4 4 rfl rfl)
theorem dX0_image_98 : decode cX0_image 98 = .ok (.iconst 0, 1) := dk_3 (dk_at dksX0_image_4 5 rfl rfl)
theorem dX0_image_99 : decode cX0_image 99 = .ok (.putfield 307, 3) := dk_181 1 51 (dk_at dksX0_image_4 6 rfl rfl)
theorem dX0_image_102 : decode cX0_image 102 = .ok (.iconst 1, 1) := dk_4 (dk_at dksX0_image_4 9 rfl rfl)
theorem dX0_image_103 : decode cX0_image 103 = .ok (.ireturn, 1) := dk_172 (dk_at dksX0_image_4 10 rfl rfl)
abbrev cX0_look : ByteArray := prog_1_method_65_code
def yX0_look : MethodName := ⟨RX0, "look", "(I)I"⟩
def dkwX0_look_6 : List UInt8 := [172, 42, 180, 1, 51, 172, 42, 180, 0, 75, 180, 1, 208, 172, 42, 180, 0, 75, 180, 1, 223, 172, 2, 172]
abbrev dktX0_look_6 : List UInt8 := dkwX0_look_6 ++ []
def dkwX0_look_5 : List UInt8 := [42, 180, 0, 94, 42, 180, 0, 75, 182, 1, 109, 172, 42, 180, 0, 94, 180, 1, 152, 172, 42, 182, 2, 3]
abbrev dktX0_look_5 : List UInt8 := dkwX0_look_5 ++ dktX0_look_6
def dkwX0_look_4 : List UInt8 := [42, 180, 0, 75, 180, 1, 119, 172, 42, 180, 0, 75, 180, 1, 94, 172, 42, 180, 0, 75, 180, 1, 85, 172]
abbrev dktX0_look_4 : List UInt8 := dkwX0_look_4 ++ dktX0_look_5
def dkwX0_look_3 : List UInt8 := [42, 180, 0, 75, 180, 1, 45, 172, 42, 180, 0, 75, 180, 1, 48, 172, 42, 180, 0, 75, 180, 1, 42, 172]
abbrev dktX0_look_3 : List UInt8 := dkwX0_look_3 ++ dktX0_look_4
def dkwX0_look_2 : List UInt8 := [170, 0, 0, 0, 0, 0, 197, 0, 0, 0, 0, 0, 0, 0, 21, 0, 0, 0, 103, 0, 0, 0, 111, 0, 0, 0, 119, 0, 0, 0, 127, 0, 0, 0, 135, 0, 0, 0, 143, 0, 0, 0, 151, 0, 0, 0, 163, 0, 0, 0, 171, 0, 0, 0, 176, 0, 0, 0, 197, 0, 0, 0, 197, 0, 0, 0, 197, 0, 0, 0, 197, 0, 0, 0, 197, 0, 0, 0, 197, 0, 0, 0, 197, 0, 0, 0, 197, 0, 0, 0, 197, 0, 0, 0, 197, 0, 0, 0, 181, 0, 0, 0, 189]
abbrev dktX0_look_2 : List UInt8 := dkwX0_look_2 ++ dktX0_look_3
def dkwX0_look_1 : List UInt8 := [27]
abbrev dktX0_look_1 : List UInt8 := dkwX0_look_1 ++ dktX0_look_2
def dkwX0_look_0 : List UInt8 := [27, 16, 10, 16, 13, 184, 0, 128, 153, 0, 16, 42, 180, 0, 68, 27, 16, 10, 100, 50, 180, 1, 10, 172]
abbrev dktX0_look_0 : List UInt8 := dkwX0_look_0 ++ dktX0_look_1
theorem dksX0_look_0 : cX0_look.data.toList.drop 0 = dktX0_look_0 := by decide +kernel
theorem dksX0_look_1 : cX0_look.data.toList.drop 24 = dktX0_look_1 := dk_seg dksX0_look_0 24 rfl rfl
theorem dksX0_look_2 : cX0_look.data.toList.drop 25 = dktX0_look_2 := dk_seg dksX0_look_1 1 rfl rfl
theorem dksX0_look_3 : cX0_look.data.toList.drop 128 = dktX0_look_3 := dk_seg dksX0_look_2 103 rfl rfl
theorem dksX0_look_4 : cX0_look.data.toList.drop 152 = dktX0_look_4 := dk_seg dksX0_look_3 24 rfl rfl
theorem dksX0_look_5 : cX0_look.data.toList.drop 176 = dktX0_look_5 := dk_seg dksX0_look_4 24 rfl rfl
theorem dksX0_look_6 : cX0_look.data.toList.drop 200 = dktX0_look_6 := dk_seg dksX0_look_5 24 rfl rfl
theorem dX0_look_0 : decode cX0_look 0 = .ok (.iload_n 1, 1) := dk_27 (dk_at dksX0_look_0 0 rfl rfl)
theorem dX0_look_1 : decode cX0_look 1 = .ok (.bipush 10, 2) := dk_16 10 (dk_at dksX0_look_0 1 rfl rfl)
theorem dX0_look_3 : decode cX0_look 3 = .ok (.bipush 13, 2) := dk_16 13 (dk_at dksX0_look_0 3 rfl rfl)
theorem dX0_look_5 : decode cX0_look 5 = .ok (.invokestatic 128, 3) := dk_184 0 128 (dk_at dksX0_look_0 5 rfl rfl)
theorem dX0_look_8 : decode cX0_look 8 = .ok (.ifCond .eq 16, 3) := dk_153 0 16 (dk_at dksX0_look_0 8 rfl rfl)
theorem dX0_look_11 : decode cX0_look 11 = .ok (.aload_n 0, 1) := dk_42 (dk_at dksX0_look_0 11 rfl rfl)
theorem dX0_look_12 : decode cX0_look 12 = .ok (.getfield 68, 3) := dk_180 0 68 (dk_at dksX0_look_0 12 rfl rfl)
theorem dX0_look_15 : decode cX0_look 15 = .ok (.iload_n 1, 1) := dk_27 (dk_at dksX0_look_0 15 rfl rfl)
theorem dX0_look_16 : decode cX0_look 16 = .ok (.bipush 10, 2) := dk_16 10 (dk_at dksX0_look_0 16 rfl rfl)
theorem dX0_look_18 : decode cX0_look 18 = .ok (.isub, 1) := dk_100 (dk_at dksX0_look_0 18 rfl rfl)
theorem dX0_look_19 : decode cX0_look 19 = .ok (.aaload, 1) := dk_50 (dk_at dksX0_look_0 19 rfl rfl)
theorem dX0_look_20 : decode cX0_look 20 = .ok (.getfield 266, 3) := dk_180 1 10 (dk_at dksX0_look_0 20 rfl rfl)
theorem dX0_look_23 : decode cX0_look 23 = .ok (.ireturn, 1) := dk_172 (dk_at dksX0_look_0 23 rfl rfl)
theorem dX0_look_24 : decode cX0_look 24 = .ok (.iload_n 1, 1) := dk_27 (dk_at dksX0_look_1 0 rfl rfl)
theorem dX0_look_25 : decode cX0_look 25 = .ok (.tableswitch 197 0 21 #[103, 111, 119, 127, 135, 143, 151, 163, 171, 176, 197, 197, 197, 197, 197, 197, 197, 197, 197, 197, 181, 189], 103) := by decide +kernel
theorem dX0_look_128 : decode cX0_look 128 = .ok (.aload_n 0, 1) := dk_42 (dk_at dksX0_look_3 0 rfl rfl)
theorem dX0_look_129 : decode cX0_look 129 = .ok (.getfield 75, 3) := dk_180 0 75 (dk_at dksX0_look_3 1 rfl rfl)
theorem dX0_look_132 : decode cX0_look 132 = .ok (.getfield 301, 3) := dk_180 1 45 (dk_at dksX0_look_3 4 rfl rfl)
theorem dX0_look_135 : decode cX0_look 135 = .ok (.ireturn, 1) := dk_172 (dk_at dksX0_look_3 7 rfl rfl)
theorem dX0_look_136 : decode cX0_look 136 = .ok (.aload_n 0, 1) := dk_42 (dk_at dksX0_look_3 8 rfl rfl)
theorem dX0_look_137 : decode cX0_look 137 = .ok (.getfield 75, 3) := dk_180 0 75 (dk_at dksX0_look_3 9 rfl rfl)
theorem dX0_look_140 : decode cX0_look 140 = .ok (.getfield 304, 3) := dk_180 1 48 (dk_at dksX0_look_3 12 rfl rfl)
theorem dX0_look_143 : decode cX0_look 143 = .ok (.ireturn, 1) := dk_172 (dk_at dksX0_look_3 15 rfl rfl)
theorem dX0_look_144 : decode cX0_look 144 = .ok (.aload_n 0, 1) := dk_42 (dk_at dksX0_look_3 16 rfl rfl)
theorem dX0_look_145 : decode cX0_look 145 = .ok (.getfield 75, 3) := dk_180 0 75 (dk_at dksX0_look_3 17 rfl rfl)
theorem dX0_look_148 : decode cX0_look 148 = .ok (.getfield 298, 3) := dk_180 1 42 (dk_at dksX0_look_3 20 rfl rfl)
theorem dX0_look_151 : decode cX0_look 151 = .ok (.ireturn, 1) := dk_172 (dk_at dksX0_look_3 23 rfl rfl)
theorem dX0_look_152 : decode cX0_look 152 = .ok (.aload_n 0, 1) := dk_42 (dk_at dksX0_look_4 0 rfl rfl)
theorem dX0_look_153 : decode cX0_look 153 = .ok (.getfield 75, 3) := dk_180 0 75 (dk_at dksX0_look_4 1 rfl rfl)
theorem dX0_look_156 : decode cX0_look 156 = .ok (.getfield 375, 3) := dk_180 1 119 (dk_at dksX0_look_4 4 rfl rfl)
theorem dX0_look_159 : decode cX0_look 159 = .ok (.ireturn, 1) := dk_172 (dk_at dksX0_look_4 7 rfl rfl)
theorem dX0_look_160 : decode cX0_look 160 = .ok (.aload_n 0, 1) := dk_42 (dk_at dksX0_look_4 8 rfl rfl)
theorem dX0_look_161 : decode cX0_look 161 = .ok (.getfield 75, 3) := dk_180 0 75 (dk_at dksX0_look_4 9 rfl rfl)
theorem dX0_look_164 : decode cX0_look 164 = .ok (.getfield 350, 3) := dk_180 1 94 (dk_at dksX0_look_4 12 rfl rfl)
theorem dX0_look_167 : decode cX0_look 167 = .ok (.ireturn, 1) := dk_172 (dk_at dksX0_look_4 15 rfl rfl)
theorem dX0_look_168 : decode cX0_look 168 = .ok (.aload_n 0, 1) := dk_42 (dk_at dksX0_look_4 16 rfl rfl)
theorem dX0_look_169 : decode cX0_look 169 = .ok (.getfield 75, 3) := dk_180 0 75 (dk_at dksX0_look_4 17 rfl rfl)
theorem dX0_look_172 : decode cX0_look 172 = .ok (.getfield 341, 3) := dk_180 1 85 (dk_at dksX0_look_4 20 rfl rfl)
theorem dX0_look_175 : decode cX0_look 175 = .ok (.ireturn, 1) := dk_172 (dk_at dksX0_look_4 23 rfl rfl)
theorem dX0_look_176 : decode cX0_look 176 = .ok (.aload_n 0, 1) := dk_42 (dk_at dksX0_look_5 0 rfl rfl)
theorem dX0_look_177 : decode cX0_look 177 = .ok (.getfield 94, 3) := dk_180 0 94 (dk_at dksX0_look_5 1 rfl rfl)
theorem dX0_look_180 : decode cX0_look 180 = .ok (.aload_n 0, 1) := dk_42 (dk_at dksX0_look_5 4 rfl rfl)
theorem dX0_look_181 : decode cX0_look 181 = .ok (.getfield 75, 3) := dk_180 0 75 (dk_at dksX0_look_5 5 rfl rfl)
theorem dX0_look_184 : decode cX0_look 184 = .ok (.invokevirtual 365, 3) := dk_182 1 109 (dk_at dksX0_look_5 8 rfl rfl)
theorem dX0_look_187 : decode cX0_look 187 = .ok (.ireturn, 1) := dk_172 (dk_at dksX0_look_5 11 rfl rfl)
theorem dX0_look_188 : decode cX0_look 188 = .ok (.aload_n 0, 1) := dk_42 (dk_at dksX0_look_5 12 rfl rfl)
theorem dX0_look_189 : decode cX0_look 189 = .ok (.getfield 94, 3) := dk_180 0 94 (dk_at dksX0_look_5 13 rfl rfl)
theorem dX0_look_192 : decode cX0_look 192 = .ok (.getfield 408, 3) := dk_180 1 152 (dk_at dksX0_look_5 16 rfl rfl)
theorem dX0_look_195 : decode cX0_look 195 = .ok (.ireturn, 1) := dk_172 (dk_at dksX0_look_5 19 rfl rfl)
theorem dX0_look_196 : decode cX0_look 196 = .ok (.aload_n 0, 1) := dk_42 (dk_at dksX0_look_5 20 rfl rfl)
theorem dX0_look_197 : decode cX0_look 197 = .ok (.invokevirtual 515, 3) := dk_182 2 3 (dk_at dksX0_look_5 21 rfl rfl)
theorem dX0_look_200 : decode cX0_look 200 = .ok (.ireturn, 1) := dk_172 (dk_at dksX0_look_6 0 rfl rfl)
theorem dX0_look_201 : decode cX0_look 201 = .ok (.aload_n 0, 1) := dk_42 (dk_at dksX0_look_6 1 rfl rfl)
theorem dX0_look_202 : decode cX0_look 202 = .ok (.getfield 307, 3) := dk_180 1 51 (dk_at dksX0_look_6 2 rfl rfl)
theorem dX0_look_205 : decode cX0_look 205 = .ok (.ireturn, 1) := dk_172 (dk_at dksX0_look_6 5 rfl rfl)
theorem dX0_look_206 : decode cX0_look 206 = .ok (.aload_n 0, 1) := dk_42 (dk_at dksX0_look_6 6 rfl rfl)
theorem dX0_look_207 : decode cX0_look 207 = .ok (.getfield 75, 3) := dk_180 0 75 (dk_at dksX0_look_6 7 rfl rfl)
theorem dX0_look_210 : decode cX0_look 210 = .ok (.getfield 464, 3) := dk_180 1 208 (dk_at dksX0_look_6 10 rfl rfl)
theorem dX0_look_213 : decode cX0_look 213 = .ok (.ireturn, 1) := dk_172 (dk_at dksX0_look_6 13 rfl rfl)
theorem dX0_look_214 : decode cX0_look 214 = .ok (.aload_n 0, 1) := dk_42 (dk_at dksX0_look_6 14 rfl rfl)
theorem dX0_look_215 : decode cX0_look 215 = .ok (.getfield 75, 3) := dk_180 0 75 (dk_at dksX0_look_6 15 rfl rfl)
theorem dX0_look_218 : decode cX0_look 218 = .ok (.getfield 479, 3) := dk_180 1 223 (dk_at dksX0_look_6 18 rfl rfl)
theorem dX0_look_221 : decode cX0_look 221 = .ok (.ireturn, 1) := dk_172 (dk_at dksX0_look_6 21 rfl rfl)
theorem dX0_look_222 : decode cX0_look 222 = .ok (.iconst (-1), 1) := dk_2 (dk_at dksX0_look_6 22 rfl rfl)
theorem dX0_look_223 : decode cX0_look 223 = .ok (.ireturn, 1) := dk_172 (dk_at dksX0_look_6 23 rfl rfl)
abbrev cX0_threads : ByteArray := prog_1_method_64_code
def yX0_threads : MethodName := ⟨RX0, "threads", "()I"⟩
def dkwX0_threads_1 : List UInt8 := [160, 0, 7, 3, 167, 0, 4, 4, 96, 60, 132, 2, 1, 167, 255, 225, 27, 172]
abbrev dktX0_threads_1 : List UInt8 := dkwX0_threads_1 ++ []
def dkwX0_threads_0 : List UInt8 := [3, 60, 3, 61, 28, 17, 0, 242, 162, 0, 30, 27, 42, 180, 0, 94, 180, 1, 144, 28, 46, 2]
abbrev dktX0_threads_0 : List UInt8 := dkwX0_threads_0 ++ dktX0_threads_1
theorem dksX0_threads_0 : cX0_threads.data.toList.drop 0 = dktX0_threads_0 := by decide +kernel
theorem dksX0_threads_1 : cX0_threads.data.toList.drop 22 = dktX0_threads_1 := dk_seg dksX0_threads_0 22 rfl rfl
theorem dX0_threads_0 : decode cX0_threads 0 = .ok (.iconst 0, 1) := dk_3 (dk_at dksX0_threads_0 0 rfl rfl)
theorem dX0_threads_1 : decode cX0_threads 1 = .ok (.istore_n 1, 1) := dk_60 (dk_at dksX0_threads_0 1 rfl rfl)
theorem dX0_threads_2 : decode cX0_threads 2 = .ok (.iconst 0, 1) := dk_3 (dk_at dksX0_threads_0 2 rfl rfl)
theorem dX0_threads_3 : decode cX0_threads 3 = .ok (.istore_n 2, 1) := dk_61 (dk_at dksX0_threads_0 3 rfl rfl)
theorem dX0_threads_4 : decode cX0_threads 4 = .ok (.iload_n 2, 1) := dk_28 (dk_at dksX0_threads_0 4 rfl rfl)
theorem dX0_threads_5 : decode cX0_threads 5 = .ok (.sipush 242, 3) := dk_17 0 242 (dk_at dksX0_threads_0 5 rfl rfl)
theorem dX0_threads_8 : decode cX0_threads 8 = .ok (.if_icmp .ge 30, 3) := dk_162 0 30 (dk_at dksX0_threads_0 8 rfl rfl)
theorem dX0_threads_11 : decode cX0_threads 11 = .ok (.iload_n 1, 1) := dk_27 (dk_at dksX0_threads_0 11 rfl rfl)
theorem dX0_threads_12 : decode cX0_threads 12 = .ok (.aload_n 0, 1) := dk_42 (dk_at dksX0_threads_0 12 rfl rfl)
theorem dX0_threads_13 : decode cX0_threads 13 = .ok (.getfield 94, 3) := dk_180 0 94 (dk_at dksX0_threads_0 13 rfl rfl)
theorem dX0_threads_16 : decode cX0_threads 16 = .ok (.getfield 400, 3) := dk_180 1 144 (dk_at dksX0_threads_0 16 rfl rfl)
theorem dX0_threads_19 : decode cX0_threads 19 = .ok (.iload_n 2, 1) := dk_28 (dk_at dksX0_threads_0 19 rfl rfl)
theorem dX0_threads_20 : decode cX0_threads 20 = .ok (.iaload, 1) := dk_46 (dk_at dksX0_threads_0 20 rfl rfl)
theorem dX0_threads_21 : decode cX0_threads 21 = .ok (.iconst (-1), 1) := dk_2 (dk_at dksX0_threads_0 21 rfl rfl)
theorem dX0_threads_22 : decode cX0_threads 22 = .ok (.if_icmp .ne 7, 3) := dk_160 0 7 (dk_at dksX0_threads_1 0 rfl rfl)
theorem dX0_threads_25 : decode cX0_threads 25 = .ok (.iconst 0, 1) := dk_3 (dk_at dksX0_threads_1 3 rfl rfl)
theorem dX0_threads_26 : decode cX0_threads 26 = .ok (.goto 4, 3) := dk_167 0 4 (dk_at dksX0_threads_1 4 rfl rfl)
theorem dX0_threads_29 : decode cX0_threads 29 = .ok (.iconst 1, 1) := dk_4 (dk_at dksX0_threads_1 7 rfl rfl)
theorem dX0_threads_30 : decode cX0_threads 30 = .ok (.iadd, 1) := dk_96 (dk_at dksX0_threads_1 8 rfl rfl)
theorem dX0_threads_31 : decode cX0_threads 31 = .ok (.istore_n 1, 1) := dk_60 (dk_at dksX0_threads_1 9 rfl rfl)
theorem dX0_threads_32 : decode cX0_threads 32 = .ok (.iinc 2 1, 3) := dk_132 2 1 (dk_at dksX0_threads_1 10 rfl rfl)
theorem dX0_threads_35 : decode cX0_threads 35 = .ok (.goto (-31), 3) := dk_167 255 225 (dk_at dksX0_threads_1 13 rfl rfl)
theorem dX0_threads_38 : decode cX0_threads 38 = .ok (.iload_n 1, 1) := dk_27 (dk_at dksX0_threads_1 16 rfl rfl)
theorem dX0_threads_39 : decode cX0_threads 39 = .ok (.ireturn, 1) := dk_172 (dk_at dksX0_threads_1 17 rfl rfl)
theorem q82 : (Jvm.Cond.initialized "SwallowSurvey") ∈ lw_all := lw_g (lw_at lw_m1 1 rfl) rfl
theorem q107 : (Jvm.Cond.instantiable "SwallowSurvey" (31 : Nat)) ∈ lw_all := lw_g (lw_at lw_m1 26 rfl) rfl
theorem q109 : (Jvm.Cond.instanceMethod ({ cls := "SwallowSurvey", name := "<init>", desc := "()V" } : Jvm.MethodName)) ∈ lw_all := lw_g (lw_at lw_m1 28 rfl) rfl
theorem q110 : (Jvm.Cond.code ({ cls := "SwallowSurvey", name := "<init>", desc := "()V" } : Jvm.MethodName) prog_1_method_2_code (1 : Nat) (Option.none : Option Jvm.ClassFile.FieldType)) ∈ lw_all := lw_g (lw_at lw_m1 29 rfl) rfl
theorem q111 : (Jvm.Cond.methodLink "SwallowSurvey" (1 : Nat) ({ cls := "java/lang/Object", name := "<init>", desc := "()V" } : Jvm.MethodName)) ∈ lw_all := lw_g (lw_at lw_m1 30 rfl) rfl
theorem q114 : (Jvm.Cond.classLink "SwallowSurvey" (13 : Nat) "java/lang/String") ∈ lw_all := lw_g (lw_at lw_m1 33 rfl) rfl
theorem q116 : (Jvm.Cond.stringRef "SwallowSurvey" (15 : Nat) "ahead") ∈ lw_tbl := lw_at lw_m1 35 rfl
theorem q117 : (Jvm.Cond.stringRef "SwallowSurvey" (17 : Nat) "right") ∈ lw_tbl := lw_at lw_m1 36 rfl
theorem q118 : (Jvm.Cond.stringRef "SwallowSurvey" (19 : Nat) "back") ∈ lw_tbl := lw_at lw_m1 37 rfl
theorem q119 : (Jvm.Cond.stringRef "SwallowSurvey" (21 : Nat) "left") ∈ lw_tbl := lw_at lw_m1 38 rfl
theorem q120 : (Jvm.Cond.stringRef "SwallowSurvey" (23 : Nat) "stop") ∈ lw_tbl := lw_at lw_m1 39 rfl
theorem q121 : (Jvm.Cond.stringRef "SwallowSurvey" (29 : Nat) "fl") ∈ lw_tbl := lw_at lw_m1 40 rfl
theorem q122 : (Jvm.Cond.stringRef "SwallowSurvey" (31 : Nat) "fr") ∈ lw_tbl := lw_at lw_m1 41 rfl
theorem q123 : (Jvm.Cond.stringRef "SwallowSurvey" (33 : Nat) "pl") ∈ lw_tbl := lw_at lw_m1 42 rfl
theorem q124 : (Jvm.Cond.stringRef "SwallowSurvey" (35 : Nat) "pr") ∈ lw_tbl := lw_at lw_m1 43 rfl
theorem q125 : (Jvm.Cond.stringRef "SwallowSurvey" (37 : Nat) "thread") ∈ lw_tbl := lw_at lw_m1 44 rfl
theorem q126 : (Jvm.Cond.stringRef "SwallowSurvey" (39 : Nat) "rim") ∈ lw_tbl := lw_at lw_m1 45 rfl
theorem q127 : (Jvm.Cond.stringRef "SwallowSurvey" (41 : Nat) "step") ∈ lw_tbl := lw_at lw_m1 46 rfl
theorem q128 : (Jvm.Cond.stringRef "SwallowSurvey" (43 : Nat) "rest") ∈ lw_tbl := lw_at lw_m1 47 rfl
theorem q129 : (Jvm.Cond.stringRef "SwallowSurvey" (45 : Nat) "swallow") ∈ lw_tbl := lw_at lw_m1 48 rfl
theorem q130 : (Jvm.Cond.stringRef "SwallowSurvey" (50 : Nat) "when") ∈ lw_tbl := lw_at lw_m1 49 rfl
theorem q131 : (Jvm.Cond.stringRef "SwallowSurvey" (52 : Nat) "or") ∈ lw_tbl := lw_at lw_m1 50 rfl
theorem q132 : (Jvm.Cond.stringRef "SwallowSurvey" (54 : Nat) "and") ∈ lw_tbl := lw_at lw_m1 51 rfl
theorem q133 : (Jvm.Cond.stringRef "SwallowSurvey" (56 : Nat) "not") ∈ lw_tbl := lw_at lw_m1 52 rfl
theorem q134 : (Jvm.Cond.classLink "SwallowSurvey" (65 : Nat) "SwallowSurvey$Text") ∈ lw_all := lw_g (lw_at lw_m1 53 rfl) rfl
theorem q137 : (Jvm.Cond.methodLinkNest "SwallowSurvey" (67 : Nat) ({ cls := "SwallowSurvey$Text", name := "<init>", desc := "()V" } : Jvm.MethodName) "SwallowSurvey") ∈ lw_tbl := lw_at lw_m1 56 rfl
theorem q145 : (Jvm.Cond.fieldLink "SwallowSurvey" (269 : Nat) "SwallowSurvey$Text" "word" "[I") ∈ lw_all := lw_g (lw_at lw_m1 64 rfl) rfl
theorem q147 : (Jvm.Cond.fieldLink "SwallowSurvey" (272 : Nat) "SwallowSurvey$Text" "when" "[LSwallowSurvey$Term;") ∈ lw_all := lw_g (lw_at lw_m1 66 rfl) rfl
theorem q149 : (Jvm.Cond.fieldLink "SwallowSurvey" (266 : Nat) "SwallowSurvey$Text" "many" "I") ∈ lw_all := lw_g (lw_at lw_m1 68 rfl) rfl
theorem q159 : (Jvm.Cond.classLink "SwallowSurvey" (72 : Nat) "SwallowSurvey$Land") ∈ lw_all := lw_g (lw_at lw_m1 78 rfl) rfl
theorem q161 : (Jvm.Cond.methodLink "SwallowSurvey" (74 : Nat) ({ cls := "SwallowSurvey$Land", name := "<init>", desc := "()V" } : Jvm.MethodName)) ∈ lw_all := lw_g (lw_at lw_m1 80 rfl) rfl
theorem q172 : (Jvm.Cond.fieldLink "SwallowSurvey" (301 : Nat) "SwallowSurvey$Land" "w" "I") ∈ lw_all := lw_g (lw_at lw_m1 91 rfl) rfl
theorem q175 : (Jvm.Cond.fieldLink "SwallowSurvey" (304 : Nat) "SwallowSurvey$Land" "h" "I") ∈ lw_all := lw_g (lw_at lw_m1 94 rfl) rfl
theorem q177 : (Jvm.Cond.fieldLink "SwallowSurvey" (298 : Nat) "SwallowSurvey$Land" "state" "I") ∈ lw_all := lw_g (lw_at lw_m1 96 rfl) rfl
theorem q179 : (Jvm.Cond.fieldLink "SwallowSurvey" (375 : Nat) "SwallowSurvey$Land" "year" "I") ∈ lw_all := lw_g (lw_at lw_m1 98 rfl) rfl
theorem q181 : (Jvm.Cond.fieldLink "SwallowSurvey" (341 : Nat) "SwallowSurvey$Land" "nests" "I") ∈ lw_all := lw_g (lw_at lw_m1 100 rfl) rfl
theorem q184 : (Jvm.Cond.fieldLink "SwallowSurvey" (350 : Nat) "SwallowSurvey$Land" "swallows" "I") ∈ lw_all := lw_g (lw_at lw_m1 103 rfl) rfl
theorem q186 : (Jvm.Cond.fieldLink "SwallowSurvey" (464 : Nat) "SwallowSurvey$Land" "hatchings" "I") ∈ lw_all := lw_g (lw_at lw_m1 105 rfl) rfl
theorem q188 : (Jvm.Cond.fieldLink "SwallowSurvey" (479 : Nat) "SwallowSurvey$Land" "claims" "I") ∈ lw_all := lw_g (lw_at lw_m1 107 rfl) rfl
theorem q190 : (Jvm.Cond.fieldLink "SwallowSurvey" (312 : Nat) "SwallowSurvey$Land" "flies" "[I") ∈ lw_all := lw_g (lw_at lw_m1 109 rfl) rfl
theorem q192 : (Jvm.Cond.fieldLink "SwallowSurvey" (315 : Nat) "SwallowSurvey$Land" "price" "[I") ∈ lw_all := lw_g (lw_at lw_m1 111 rfl) rfl
theorem q194 : (Jvm.Cond.fieldLink "SwallowSurvey" (372 : Nat) "SwallowSurvey$Land" "moves" "[I") ∈ lw_all := lw_g (lw_at lw_m1 113 rfl) rfl
theorem q196 : (Jvm.Cond.fieldLink "SwallowSurvey" (332 : Nat) "SwallowSurvey$Land" "lastName" "[I") ∈ lw_all := lw_g (lw_at lw_m1 115 rfl) rfl
theorem q198 : (Jvm.Cond.fieldLink "SwallowSurvey" (344 : Nat) "SwallowSurvey$Land" "nestX" "[I") ∈ lw_all := lw_g (lw_at lw_m1 117 rfl) rfl
theorem q200 : (Jvm.Cond.fieldLink "SwallowSurvey" (347 : Nat) "SwallowSurvey$Land" "nestY" "[I") ∈ lw_all := lw_g (lw_at lw_m1 119 rfl) rfl
theorem q202 : (Jvm.Cond.fieldLink "SwallowSurvey" (467 : Nat) "SwallowSurvey$Land" "hatchCell" "[I") ∈ lw_all := lw_g (lw_at lw_m1 121 rfl) rfl
theorem q204 : (Jvm.Cond.fieldLink "SwallowSurvey" (470 : Nat) "SwallowSurvey$Land" "hatchFlies" "[I") ∈ lw_all := lw_g (lw_at lw_m1 123 rfl) rfl
theorem q206 : (Jvm.Cond.fieldLink "SwallowSurvey" (473 : Nat) "SwallowSurvey$Land" "hatchChance" "[I") ∈ lw_all := lw_g (lw_at lw_m1 125 rfl) rfl
theorem q208 : (Jvm.Cond.fieldLink "SwallowSurvey" (482 : Nat) "SwallowSurvey$Land" "claimA" "[I") ∈ lw_all := lw_g (lw_at lw_m1 127 rfl) rfl
theorem q210 : (Jvm.Cond.fieldLink "SwallowSurvey" (485 : Nat) "SwallowSurvey$Land" "claimB" "[I") ∈ lw_all := lw_g (lw_at lw_m1 129 rfl) rfl
theorem q212 : (Jvm.Cond.fieldLink "SwallowSurvey" (322 : Nat) "SwallowSurvey$Land" "pond" "[Z") ∈ lw_all := lw_g (lw_at lw_m1 131 rfl) rfl
theorem q214 : (Jvm.Cond.fieldLink "SwallowSurvey" (329 : Nat) "SwallowSurvey$Land" "barn" "[Z") ∈ lw_all := lw_g (lw_at lw_m1 133 rfl) rfl
theorem q216 : (Jvm.Cond.fieldLink "SwallowSurvey" (318 : Nat) "SwallowSurvey$Land" "cat" "[Z") ∈ lw_all := lw_g (lw_at lw_m1 135 rfl) rfl
theorem q219 : (Jvm.Cond.fieldLink "SwallowSurvey" (338 : Nat) "SwallowSurvey$Land" "mirror" "[Z") ∈ lw_all := lw_g (lw_at lw_m1 138 rfl) rfl
theorem q221 : (Jvm.Cond.fieldLink "SwallowSurvey" (488 : Nat) "SwallowSurvey$Land" "isOne" "[Z") ∈ lw_all := lw_g (lw_at lw_m1 140 rfl) rfl
theorem q224 : (Jvm.Cond.fieldLink "SwallowSurvey" (353 : Nat) "SwallowSurvey$Land" "swallow" "[LSwallowSurvey$Swallow;") ∈ lw_all := lw_g (lw_at lw_m1 143 rfl) rfl
theorem q277 : (Jvm.Cond.classLink "SwallowSurvey" (89 : Nat) "SwallowSurvey$Web") ∈ lw_all := lw_g (lw_at lw_m1 196 rfl) rfl
theorem q279 : (Jvm.Cond.methodLink "SwallowSurvey" (91 : Nat) ({ cls := "SwallowSurvey$Web", name := "<init>", desc := "(LSwallowSurvey;)V" } : Jvm.MethodName)) ∈ lw_all := lw_g (lw_at lw_m1 198 rfl) rfl
theorem q285 : (Jvm.Cond.fieldLink "SwallowSurvey" (400 : Nat) "SwallowSurvey$Web" "owner" "[I") ∈ lw_all := lw_g (lw_at lw_m1 204 rfl) rfl
theorem q287 : (Jvm.Cond.fieldLink "SwallowSurvey" (403 : Nat) "SwallowSurvey$Web" "step" "[I") ∈ lw_all := lw_g (lw_at lw_m1 206 rfl) rfl
theorem q289 : (Jvm.Cond.fieldLink "SwallowSurvey" (411 : Nat) "SwallowSurvey$Web" "suit" "[I") ∈ lw_all := lw_g (lw_at lw_m1 208 rfl) rfl
theorem q291 : (Jvm.Cond.fieldLink "SwallowSurvey" (417 : Nat) "SwallowSurvey$Web" "endX" "[I") ∈ lw_all := lw_g (lw_at lw_m1 210 rfl) rfl
theorem q293 : (Jvm.Cond.fieldLink "SwallowSurvey" (420 : Nat) "SwallowSurvey$Web" "endY" "[I") ∈ lw_all := lw_g (lw_at lw_m1 212 rfl) rfl
theorem q295 : (Jvm.Cond.fieldLink "SwallowSurvey" (423 : Nat) "SwallowSurvey$Web" "endSteps" "[I") ∈ lw_all := lw_g (lw_at lw_m1 214 rfl) rfl
theorem q297 : (Jvm.Cond.fieldLink "SwallowSurvey" (426 : Nat) "SwallowSurvey$Web" "endHeading" "[I") ∈ lw_all := lw_g (lw_at lw_m1 216 rfl) rfl
theorem q299 : (Jvm.Cond.fieldLink "SwallowSurvey" (369 : Nat) "SwallowSurvey$Web" "name" "[I") ∈ lw_all := lw_g (lw_at lw_m1 218 rfl) rfl
theorem q301 : (Jvm.Cond.fieldLink "SwallowSurvey" (408 : Nat) "SwallowSurvey$Web" "suits" "I") ∈ lw_all := lw_g (lw_at lw_m1 220 rfl) rfl
theorem q327 : (Jvm.Cond.classLink "SwallowSurvey" (107 : Nat) "[[I") ∈ lw_all := lw_g (lw_at lw_m2 6 rfl) rfl
theorem q329 : (Jvm.Cond.fieldLink "SwallowSurvey" (9 : Nat) "SwallowSurvey" "tape" "[B") ∈ lw_all := lw_g (lw_at lw_m2 8 rfl) rfl
theorem q330 : (Jvm.Cond.fieldLink "SwallowSurvey" (121 : Nat) "SwallowSurvey" "taped" "I") ∈ lw_all := lw_g (lw_at lw_m2 9 rfl) rfl
theorem q331 : (Jvm.Cond.fieldLink "SwallowSurvey" (25 : Nat) "SwallowSurvey" "turnWords" "[Ljava/lang/String;") ∈ lw_all := lw_g (lw_at lw_m2 10 rfl) rfl
theorem q332 : (Jvm.Cond.fieldLink "SwallowSurvey" (47 : Nat) "SwallowSurvey" "asked" "[Ljava/lang/String;") ∈ lw_all := lw_g (lw_at lw_m2 11 rfl) rfl
theorem q333 : (Jvm.Cond.fieldLink "SwallowSurvey" (58 : Nat) "SwallowSurvey" "others" "[Ljava/lang/String;") ∈ lw_all := lw_g (lw_at lw_m2 12 rfl) rfl
theorem q334 : (Jvm.Cond.fieldLink "SwallowSurvey" (150 : Nat) "SwallowSurvey" "token" "LSwallowSurvey$Token;") ∈ lw_all := lw_g (lw_at lw_m2 13 rfl) rfl
theorem q335 : (Jvm.Cond.fieldLink "SwallowSurvey" (136 : Nat) "SwallowSurvey" "spot" "I") ∈ lw_all := lw_g (lw_at lw_m2 14 rfl) rfl
theorem q336 : (Jvm.Cond.fieldLink "SwallowSurvey" (139 : Nat) "SwallowSurvey" "from" "I") ∈ lw_all := lw_g (lw_at lw_m2 15 rfl) rfl
theorem q337 : (Jvm.Cond.fieldLink "SwallowSurvey" (166 : Nat) "SwallowSurvey" "value" "I") ∈ lw_all := lw_g (lw_at lw_m2 16 rfl) rfl
theorem q338 : (Jvm.Cond.fieldLink "SwallowSurvey" (236 : Nat) "SwallowSurvey" "open" "I") ∈ lw_all := lw_g (lw_at lw_m2 17 rfl) rfl
theorem q339 : (Jvm.Cond.fieldLink "SwallowSurvey" (275 : Nat) "SwallowSurvey" "faultKind" "I") ∈ lw_all := lw_g (lw_at lw_m2 18 rfl) rfl
theorem q340 : (Jvm.Cond.fieldLink "SwallowSurvey" (61 : Nat) "SwallowSurvey" "faultPlace" "I") ∈ lw_all := lw_g (lw_at lw_m2 19 rfl) rfl
theorem q341 : (Jvm.Cond.fieldLink "SwallowSurvey" (68 : Nat) "SwallowSurvey" "habits" "[LSwallowSurvey$Text;") ∈ lw_all := lw_g (lw_at lw_m2 20 rfl) rfl
theorem q343 : (Jvm.Cond.fieldLink "SwallowSurvey" (75 : Nat) "SwallowSurvey" "land" "LSwallowSurvey$Land;") ∈ lw_all := lw_g (lw_at lw_m2 22 rfl) rfl
theorem q344 : (Jvm.Cond.fieldLink "SwallowSurvey" (79 : Nat) "SwallowSurvey" "other" "LSwallowSurvey$Land;") ∈ lw_all := lw_g (lw_at lw_m2 23 rfl) rfl
theorem q345 : (Jvm.Cond.fieldLink "SwallowSurvey" (82 : Nat) "SwallowSurvey" "keptLand" "LSwallowSurvey$Land;") ∈ lw_all := lw_g (lw_at lw_m2 24 rfl) rfl
theorem q346 : (Jvm.Cond.fieldLink "SwallowSurvey" (85 : Nat) "SwallowSurvey" "has" "[I") ∈ lw_all := lw_g (lw_at lw_m2 25 rfl) rfl
theorem q348 : (Jvm.Cond.fieldLink "SwallowSurvey" (94 : Nat) "SwallowSurvey" "web" "LSwallowSurvey$Web;") ∈ lw_all := lw_g (lw_at lw_m2 27 rfl) rfl
theorem q349 : (Jvm.Cond.fieldLink "SwallowSurvey" (98 : Nat) "SwallowSurvey" "thought" "LSwallowSurvey$Web;") ∈ lw_all := lw_g (lw_at lw_m2 28 rfl) rfl
theorem q350 : (Jvm.Cond.fieldLink "SwallowSurvey" (101 : Nat) "SwallowSurvey" "keptWeb" "LSwallowSurvey$Web;") ∈ lw_all := lw_g (lw_at lw_m2 29 rfl) rfl
theorem q351 : (Jvm.Cond.fieldLink "SwallowSurvey" (104 : Nat) "SwallowSurvey" "undug" "[I") ∈ lw_all := lw_g (lw_at lw_m2 30 rfl) rfl
theorem q352 : (Jvm.Cond.fieldLink "SwallowSurvey" (307 : Nat) "SwallowSurvey" "undoable" "I") ∈ lw_all := lw_g (lw_at lw_m2 31 rfl) rfl
theorem q353 : (Jvm.Cond.fieldLink "SwallowSurvey" (446 : Nat) "SwallowSurvey" "planned" "I") ∈ lw_all := lw_g (lw_at lw_m2 32 rfl) rfl
theorem q354 : (Jvm.Cond.fieldLink "SwallowSurvey" (449 : Nat) "SwallowSurvey" "first" "I") ∈ lw_all := lw_g (lw_at lw_m2 33 rfl) rfl
theorem q355 : (Jvm.Cond.fieldLink "SwallowSurvey" (452 : Nat) "SwallowSurvey" "second" "I") ∈ lw_all := lw_g (lw_at lw_m2 34 rfl) rfl
theorem q356 : (Jvm.Cond.fieldLink "SwallowSurvey" (435 : Nat) "SwallowSurvey" "least" "I") ∈ lw_all := lw_g (lw_at lw_m2 35 rfl) rfl
theorem q357 : (Jvm.Cond.fieldLink "SwallowSurvey" (109 : Nat) "SwallowSurvey" "flow" "[[I") ∈ lw_all := lw_g (lw_at lw_m2 36 rfl) rfl
theorem q358 : (Jvm.Cond.fieldLink "SwallowSurvey" (112 : Nat) "SwallowSurvey" "cameBy" "[I") ∈ lw_all := lw_g (lw_at lw_m2 37 rfl) rfl
theorem q359 : (Jvm.Cond.fieldLink "SwallowSurvey" (115 : Nat) "SwallowSurvey" "todo" "[I") ∈ lw_all := lw_g (lw_at lw_m2 38 rfl) rfl
theorem q360 : (Jvm.Cond.fieldLink "SwallowSurvey" (118 : Nat) "SwallowSurvey" "keptHabits" "[LSwallowSurvey$Text;") ∈ lw_all := lw_g (lw_at lw_m2 39 rfl) rfl
theorem q361 : (Jvm.Cond.fieldLink "SwallowSurvey" (508 : Nat) "SwallowSurvey" "hasImage" "Z") ∈ lw_all := lw_g (lw_at lw_m2 40 rfl) rfl
theorem q362 : (Jvm.Cond.laysFinal "SwallowSurvey" "SwallowSurvey" "tape" "[B") ∈ lw_all := lw_g (lw_at lw_m2 41 rfl) rfl
theorem q363 : (Jvm.Cond.soleField "SwallowSurvey" "tape") ∈ lw_all := lw_g (lw_at lw_m2 42 rfl) rfl
theorem q364 : (Jvm.Cond.lays "SwallowSurvey" "SwallowSurvey" "taped" "I") ∈ lw_all := lw_g (lw_at lw_m2 43 rfl) rfl
theorem q365 : (Jvm.Cond.soleField "SwallowSurvey" "taped") ∈ lw_all := lw_g (lw_at lw_m2 44 rfl) rfl
theorem q366 : (Jvm.Cond.laysFinal "SwallowSurvey" "SwallowSurvey" "turnWords" "[Ljava/lang/String;") ∈ lw_all := lw_g (lw_at lw_m2 45 rfl) rfl
theorem q367 : (Jvm.Cond.soleField "SwallowSurvey" "turnWords") ∈ lw_all := lw_g (lw_at lw_m2 46 rfl) rfl
theorem q368 : (Jvm.Cond.laysFinal "SwallowSurvey" "SwallowSurvey" "asked" "[Ljava/lang/String;") ∈ lw_all := lw_g (lw_at lw_m2 47 rfl) rfl
theorem q369 : (Jvm.Cond.soleField "SwallowSurvey" "asked") ∈ lw_all := lw_g (lw_at lw_m2 48 rfl) rfl
theorem q370 : (Jvm.Cond.laysFinal "SwallowSurvey" "SwallowSurvey" "others" "[Ljava/lang/String;") ∈ lw_all := lw_g (lw_at lw_m2 49 rfl) rfl
theorem q371 : (Jvm.Cond.soleField "SwallowSurvey" "others") ∈ lw_all := lw_g (lw_at lw_m2 50 rfl) rfl
theorem q372 : (Jvm.Cond.lays "SwallowSurvey" "SwallowSurvey" "token" "LSwallowSurvey$Token;") ∈ lw_all := lw_g (lw_at lw_m2 51 rfl) rfl
theorem q373 : (Jvm.Cond.soleField "SwallowSurvey" "token") ∈ lw_all := lw_g (lw_at lw_m2 52 rfl) rfl
theorem q374 : (Jvm.Cond.lays "SwallowSurvey" "SwallowSurvey" "spot" "I") ∈ lw_all := lw_g (lw_at lw_m2 53 rfl) rfl
theorem q375 : (Jvm.Cond.soleField "SwallowSurvey" "spot") ∈ lw_all := lw_g (lw_at lw_m2 54 rfl) rfl
theorem q376 : (Jvm.Cond.lays "SwallowSurvey" "SwallowSurvey" "from" "I") ∈ lw_all := lw_g (lw_at lw_m2 55 rfl) rfl
theorem q377 : (Jvm.Cond.soleField "SwallowSurvey" "from") ∈ lw_all := lw_g (lw_at lw_m2 56 rfl) rfl
theorem q378 : (Jvm.Cond.lays "SwallowSurvey" "SwallowSurvey" "value" "I") ∈ lw_all := lw_g (lw_at lw_m2 57 rfl) rfl
theorem q379 : (Jvm.Cond.soleField "SwallowSurvey" "value") ∈ lw_all := lw_g (lw_at lw_m2 58 rfl) rfl
theorem q380 : (Jvm.Cond.lays "SwallowSurvey" "SwallowSurvey" "open" "I") ∈ lw_all := lw_g (lw_at lw_m2 59 rfl) rfl
theorem q381 : (Jvm.Cond.soleField "SwallowSurvey" "open") ∈ lw_all := lw_g (lw_at lw_m2 60 rfl) rfl
theorem q382 : (Jvm.Cond.lays "SwallowSurvey" "SwallowSurvey" "faultKind" "I") ∈ lw_all := lw_g (lw_at lw_m2 61 rfl) rfl
theorem q383 : (Jvm.Cond.soleField "SwallowSurvey" "faultKind") ∈ lw_all := lw_g (lw_at lw_m2 62 rfl) rfl
theorem q384 : (Jvm.Cond.lays "SwallowSurvey" "SwallowSurvey" "faultPlace" "I") ∈ lw_all := lw_g (lw_at lw_m2 63 rfl) rfl
theorem q385 : (Jvm.Cond.soleField "SwallowSurvey" "faultPlace") ∈ lw_all := lw_g (lw_at lw_m2 64 rfl) rfl
theorem q386 : (Jvm.Cond.laysFinal "SwallowSurvey" "SwallowSurvey" "habits" "[LSwallowSurvey$Text;") ∈ lw_all := lw_g (lw_at lw_m2 65 rfl) rfl
theorem q387 : (Jvm.Cond.soleField "SwallowSurvey" "habits") ∈ lw_all := lw_g (lw_at lw_m2 66 rfl) rfl
theorem q388 : (Jvm.Cond.lays "SwallowSurvey" "SwallowSurvey" "land" "LSwallowSurvey$Land;") ∈ lw_all := lw_g (lw_at lw_m2 67 rfl) rfl
theorem q389 : (Jvm.Cond.soleField "SwallowSurvey" "land") ∈ lw_all := lw_g (lw_at lw_m2 68 rfl) rfl
theorem q390 : (Jvm.Cond.laysFinal "SwallowSurvey" "SwallowSurvey" "other" "LSwallowSurvey$Land;") ∈ lw_all := lw_g (lw_at lw_m2 69 rfl) rfl
theorem q391 : (Jvm.Cond.soleField "SwallowSurvey" "other") ∈ lw_all := lw_g (lw_at lw_m2 70 rfl) rfl
theorem q392 : (Jvm.Cond.laysFinal "SwallowSurvey" "SwallowSurvey" "keptLand" "LSwallowSurvey$Land;") ∈ lw_all := lw_g (lw_at lw_m2 71 rfl) rfl
theorem q393 : (Jvm.Cond.soleField "SwallowSurvey" "keptLand") ∈ lw_all := lw_g (lw_at lw_m2 72 rfl) rfl
theorem q394 : (Jvm.Cond.laysFinal "SwallowSurvey" "SwallowSurvey" "has" "[I") ∈ lw_all := lw_g (lw_at lw_m2 73 rfl) rfl
theorem q395 : (Jvm.Cond.soleField "SwallowSurvey" "has") ∈ lw_all := lw_g (lw_at lw_m2 74 rfl) rfl
theorem q396 : (Jvm.Cond.lays "SwallowSurvey" "SwallowSurvey" "web" "LSwallowSurvey$Web;") ∈ lw_all := lw_g (lw_at lw_m2 75 rfl) rfl
theorem q397 : (Jvm.Cond.soleField "SwallowSurvey" "web") ∈ lw_all := lw_g (lw_at lw_m2 76 rfl) rfl
theorem q398 : (Jvm.Cond.laysFinal "SwallowSurvey" "SwallowSurvey" "thought" "LSwallowSurvey$Web;") ∈ lw_all := lw_g (lw_at lw_m2 77 rfl) rfl
theorem q399 : (Jvm.Cond.soleField "SwallowSurvey" "thought") ∈ lw_all := lw_g (lw_at lw_m2 78 rfl) rfl
theorem q400 : (Jvm.Cond.laysFinal "SwallowSurvey" "SwallowSurvey" "keptWeb" "LSwallowSurvey$Web;") ∈ lw_all := lw_g (lw_at lw_m2 79 rfl) rfl
theorem q401 : (Jvm.Cond.soleField "SwallowSurvey" "keptWeb") ∈ lw_all := lw_g (lw_at lw_m2 80 rfl) rfl
theorem q402 : (Jvm.Cond.laysFinal "SwallowSurvey" "SwallowSurvey" "undug" "[I") ∈ lw_all := lw_g (lw_at lw_m2 81 rfl) rfl
theorem q403 : (Jvm.Cond.soleField "SwallowSurvey" "undug") ∈ lw_all := lw_g (lw_at lw_m2 82 rfl) rfl
theorem q404 : (Jvm.Cond.lays "SwallowSurvey" "SwallowSurvey" "undoable" "I") ∈ lw_all := lw_g (lw_at lw_m2 83 rfl) rfl
theorem q405 : (Jvm.Cond.soleField "SwallowSurvey" "undoable") ∈ lw_all := lw_g (lw_at lw_m2 84 rfl) rfl
theorem q406 : (Jvm.Cond.lays "SwallowSurvey" "SwallowSurvey" "planned" "I") ∈ lw_all := lw_g (lw_at lw_m2 85 rfl) rfl
theorem q407 : (Jvm.Cond.soleField "SwallowSurvey" "planned") ∈ lw_all := lw_g (lw_at lw_m2 86 rfl) rfl
theorem q408 : (Jvm.Cond.lays "SwallowSurvey" "SwallowSurvey" "first" "I") ∈ lw_all := lw_g (lw_at lw_m2 87 rfl) rfl
theorem q409 : (Jvm.Cond.soleField "SwallowSurvey" "first") ∈ lw_all := lw_g (lw_at lw_m2 88 rfl) rfl
theorem q410 : (Jvm.Cond.lays "SwallowSurvey" "SwallowSurvey" "second" "I") ∈ lw_all := lw_g (lw_at lw_m2 89 rfl) rfl
theorem q411 : (Jvm.Cond.soleField "SwallowSurvey" "second") ∈ lw_all := lw_g (lw_at lw_m2 90 rfl) rfl
theorem q412 : (Jvm.Cond.lays "SwallowSurvey" "SwallowSurvey" "least" "I") ∈ lw_all := lw_g (lw_at lw_m2 91 rfl) rfl
theorem q413 : (Jvm.Cond.soleField "SwallowSurvey" "least") ∈ lw_all := lw_g (lw_at lw_m2 92 rfl) rfl
theorem q414 : (Jvm.Cond.laysFinal "SwallowSurvey" "SwallowSurvey" "flow" "[[I") ∈ lw_all := lw_g (lw_at lw_m2 93 rfl) rfl
theorem q415 : (Jvm.Cond.soleField "SwallowSurvey" "flow") ∈ lw_all := lw_g (lw_at lw_m2 94 rfl) rfl
theorem q416 : (Jvm.Cond.laysFinal "SwallowSurvey" "SwallowSurvey" "cameBy" "[I") ∈ lw_all := lw_g (lw_at lw_m2 95 rfl) rfl
theorem q417 : (Jvm.Cond.soleField "SwallowSurvey" "cameBy") ∈ lw_all := lw_g (lw_at lw_m2 96 rfl) rfl
theorem q418 : (Jvm.Cond.laysFinal "SwallowSurvey" "SwallowSurvey" "todo" "[I") ∈ lw_all := lw_g (lw_at lw_m2 97 rfl) rfl
theorem q419 : (Jvm.Cond.soleField "SwallowSurvey" "todo") ∈ lw_all := lw_g (lw_at lw_m2 98 rfl) rfl
theorem q420 : (Jvm.Cond.laysFinal "SwallowSurvey" "SwallowSurvey" "keptHabits" "[LSwallowSurvey$Text;") ∈ lw_all := lw_g (lw_at lw_m2 99 rfl) rfl
theorem q421 : (Jvm.Cond.soleField "SwallowSurvey" "keptHabits") ∈ lw_all := lw_g (lw_at lw_m2 100 rfl) rfl
theorem q422 : (Jvm.Cond.lays "SwallowSurvey" "SwallowSurvey" "hasImage" "Z") ∈ lw_all := lw_g (lw_at lw_m2 101 rfl) rfl
theorem q423 : (Jvm.Cond.soleField "SwallowSurvey" "hasImage") ∈ lw_all := lw_g (lw_at lw_m2 102 rfl) rfl
theorem q424 : (Jvm.Cond.superclass "SwallowSurvey" "java/lang/Object") ∈ lw_all := lw_g (lw_at lw_m2 103 rfl) rfl
theorem q426 : (Jvm.Cond.instanceMethod ({ cls := "SwallowSurvey", name := "feed", desc := "(IIIII)I" } : Jvm.MethodName)) ∈ lw_all := lw_g (lw_at lw_m2 105 rfl) rfl
theorem q427 : (Jvm.Cond.selects "SwallowSurvey" ({ cls := "SwallowSurvey", name := "feed", desc := "(IIIII)I" } : Jvm.MethodName) ({ cls := "SwallowSurvey", name := "feed", desc := "(IIIII)I" } : Jvm.MethodName)) ∈ lw_all := lw_g (lw_at lw_m2 106 rfl) rfl
theorem q428 : (Jvm.Cond.code ({ cls := "SwallowSurvey", name := "feed", desc := "(IIIII)I" } : Jvm.MethodName) prog_1_method_4_code (6 : Nat) (Option.some Jvm.ClassFile.FieldType.int)) ∈ lw_all := lw_g (lw_at lw_m2 107 rfl) rfl
theorem q429 : (Jvm.Cond.methodLink "SwallowSurvey" (124 : Nat) ({ cls := "SwallowSurvey", name := "puts", desc := "(I)V" } : Jvm.MethodName)) ∈ lw_all := lw_g (lw_at lw_m2 108 rfl) rfl
theorem q430 : (Jvm.Cond.privateMethod ({ cls := "SwallowSurvey", name := "puts", desc := "(I)V" } : Jvm.MethodName)) ∈ lw_tbl := lw_at lw_m2 109 rfl
theorem q431 : (Jvm.Cond.instanceMethod ({ cls := "SwallowSurvey", name := "puts", desc := "(I)V" } : Jvm.MethodName)) ∈ lw_all := lw_g (lw_at lw_m2 110 rfl) rfl
theorem q432 : (Jvm.Cond.code ({ cls := "SwallowSurvey", name := "puts", desc := "(I)V" } : Jvm.MethodName) prog_1_method_3_code (3 : Nat) (Option.none : Option Jvm.ClassFile.FieldType)) ∈ lw_all := lw_g (lw_at lw_m2 111 rfl) rfl
theorem q434 : (Jvm.Cond.instanceMethod ({ cls := "SwallowSurvey", name := "end", desc := "(I)Z" } : Jvm.MethodName)) ∈ lw_all := lw_g (lw_at lw_m2 113 rfl) rfl
theorem q435 : (Jvm.Cond.selects "SwallowSurvey" ({ cls := "SwallowSurvey", name := "end", desc := "(I)Z" } : Jvm.MethodName) ({ cls := "SwallowSurvey", name := "end", desc := "(I)Z" } : Jvm.MethodName)) ∈ lw_all := lw_g (lw_at lw_m2 114 rfl) rfl
theorem q436 : (Jvm.Cond.code ({ cls := "SwallowSurvey", name := "end", desc := "(I)Z" } : Jvm.MethodName) prog_1_method_5_code (2 : Nat) (Option.some Jvm.ClassFile.FieldType.boolean)) ∈ lw_all := lw_g (lw_at lw_m2 115 rfl) rfl
theorem q437 : (Jvm.Cond.methodLink "SwallowSurvey" (128 : Nat) ({ cls := "SwallowSurvey", name := "isIn", desc := "(III)Z" } : Jvm.MethodName)) ∈ lw_all := lw_g (lw_at lw_m2 116 rfl) rfl
theorem q438 : (Jvm.Cond.static ({ cls := "SwallowSurvey", name := "isIn", desc := "(III)Z" } : Jvm.MethodName)) ∈ lw_all := lw_g (lw_at lw_m2 117 rfl) rfl
theorem q439 : (Jvm.Cond.code ({ cls := "SwallowSurvey", name := "isIn", desc := "(III)Z" } : Jvm.MethodName) prog_1_method_1_code (3 : Nat) (Option.some Jvm.ClassFile.FieldType.boolean)) ∈ lw_all := lw_g (lw_at lw_m2 118 rfl) rfl
theorem q441 : (Jvm.Cond.instanceMethod ({ cls := "SwallowSurvey", name := "text", desc := "(I)I" } : Jvm.MethodName)) ∈ lw_all := lw_g (lw_at lw_m2 120 rfl) rfl
theorem q442 : (Jvm.Cond.selects "SwallowSurvey" ({ cls := "SwallowSurvey", name := "text", desc := "(I)I" } : Jvm.MethodName) ({ cls := "SwallowSurvey", name := "text", desc := "(I)I" } : Jvm.MethodName)) ∈ lw_all := lw_g (lw_at lw_m2 121 rfl) rfl
theorem q443 : (Jvm.Cond.codeWith ({ cls := "SwallowSurvey", name := "text", desc := "(I)I" } : Jvm.MethodName) prog_1_method_24_code (5 : Nat) (Option.some Jvm.ClassFile.FieldType.int) [((10 : Nat), (21 : Nat), (55 : Nat), (201 : Nat)), ((28 : Nat), (48 : Nat), (55 : Nat), (201 : Nat)), ((10 : Nat), (21 : Nat), (81 : Nat), (0 : Nat)), ((28 : Nat), (48 : Nat), (81 : Nat), (0 : Nat)), ((55 : Nat), (74 : Nat), (81 : Nat), (0 : Nat)), ((81 : Nat), (83 : Nat), (81 : Nat), (0 : Nat))]) ∈ lw_all := lw_g (lw_at lw_m2 122 rfl) rfl
theorem q444 : (Jvm.Cond.classLink "SwallowSurvey" (201 : Nat) "SwallowSurvey$Fault") ∈ lw_all := lw_g (lw_at lw_m2 123 rfl) rfl
theorem q445 : (Jvm.Cond.methodLink "SwallowSurvey" (278 : Nat) ({ cls := "SwallowSurvey", name := "readsHabit", desc := "()LSwallowSurvey$Text;" } : Jvm.MethodName)) ∈ lw_all := lw_g (lw_at lw_m2 124 rfl) rfl
theorem q446 : (Jvm.Cond.privateMethod ({ cls := "SwallowSurvey", name := "readsHabit", desc := "()LSwallowSurvey$Text;" } : Jvm.MethodName)) ∈ lw_tbl := lw_at lw_m2 125 rfl
theorem q447 : (Jvm.Cond.instanceMethod ({ cls := "SwallowSurvey", name := "readsHabit", desc := "()LSwallowSurvey$Text;" } : Jvm.MethodName)) ∈ lw_all := lw_g (lw_at lw_m2 126 rfl) rfl
theorem q448 : (Jvm.Cond.code ({ cls := "SwallowSurvey", name := "readsHabit", desc := "()LSwallowSurvey$Text;" } : Jvm.MethodName) prog_1_method_23_code (3 : Nat) (Option.some (Jvm.ClassFile.FieldType.object "SwallowSurvey$Text"))) ∈ lw_all := lw_g (lw_at lw_m2 127 rfl) rfl
theorem q449 : (Jvm.Cond.methodLink "SwallowSurvey" (214 : Nat) ({ cls := "SwallowSurvey", name := "readNext", desc := "()V" } : Jvm.MethodName)) ∈ lw_all := lw_g (lw_at lw_m2 128 rfl) rfl
theorem q450 : (Jvm.Cond.privateMethod ({ cls := "SwallowSurvey", name := "readNext", desc := "()V" } : Jvm.MethodName)) ∈ lw_tbl := lw_at lw_m2 129 rfl
theorem q451 : (Jvm.Cond.instanceMethod ({ cls := "SwallowSurvey", name := "readNext", desc := "()V" } : Jvm.MethodName)) ∈ lw_all := lw_g (lw_at lw_m2 130 rfl) rfl
theorem q452 : (Jvm.Cond.code ({ cls := "SwallowSurvey", name := "readNext", desc := "()V" } : Jvm.MethodName) prog_1_method_13_code (2 : Nat) (Option.none : Option Jvm.ClassFile.FieldType)) ∈ lw_all := lw_g (lw_at lw_m2 131 rfl) rfl
theorem q453 : (Jvm.Cond.methodLink "SwallowSurvey" (142 : Nat) ({ cls := "SwallowSurvey", name := "raw", desc := "(I)I" } : Jvm.MethodName)) ∈ lw_all := lw_g (lw_at lw_m2 132 rfl) rfl
theorem q454 : (Jvm.Cond.privateMethod ({ cls := "SwallowSurvey", name := "raw", desc := "(I)I" } : Jvm.MethodName)) ∈ lw_tbl := lw_at lw_m2 133 rfl
theorem q455 : (Jvm.Cond.instanceMethod ({ cls := "SwallowSurvey", name := "raw", desc := "(I)I" } : Jvm.MethodName)) ∈ lw_all := lw_g (lw_at lw_m2 134 rfl) rfl
theorem q456 : (Jvm.Cond.code ({ cls := "SwallowSurvey", name := "raw", desc := "(I)I" } : Jvm.MethodName) prog_1_method_6_code (2 : Nat) (Option.some Jvm.ClassFile.FieldType.int)) ∈ lw_all := lw_g (lw_at lw_m2 135 rfl) rfl
theorem q457 : (Jvm.Cond.fieldLink "SwallowSurvey" (169 : Nat) "SwallowSurvey$Token" "END" "LSwallowSurvey$Token;") ∈ lw_all := lw_g (lw_at lw_m2 136 rfl) rfl
theorem q459 : (Jvm.Cond.fieldLink "SwallowSurvey" (172 : Nat) "SwallowSurvey$Token" "NONE" "LSwallowSurvey$Token;") ∈ lw_all := lw_g (lw_at lw_m2 138 rfl) rfl
theorem q461 : (Jvm.Cond.methodLink "SwallowSurvey" (175 : Nat) ({ cls := "SwallowSurvey", name := "isLetter", desc := "(I)Z" } : Jvm.MethodName)) ∈ lw_all := lw_g (lw_at lw_m2 140 rfl) rfl
theorem q462 : (Jvm.Cond.static ({ cls := "SwallowSurvey", name := "isLetter", desc := "(I)Z" } : Jvm.MethodName)) ∈ lw_all := lw_g (lw_at lw_m2 141 rfl) rfl
theorem q463 : (Jvm.Cond.code ({ cls := "SwallowSurvey", name := "isLetter", desc := "(I)Z" } : Jvm.MethodName) prog_1_method_7_code (1 : Nat) (Option.some Jvm.ClassFile.FieldType.boolean)) ∈ lw_all := lw_g (lw_at lw_m2 142 rfl) rfl
theorem q464 : (Jvm.Cond.fieldLink "SwallowSurvey" (154 : Nat) "SwallowSurvey$Token" "WORD" "LSwallowSurvey$Token;") ∈ lw_all := lw_g (lw_at lw_m2 143 rfl) rfl
theorem q466 : (Jvm.Cond.methodLink "SwallowSurvey" (179 : Nat) ({ cls := "SwallowSurvey", name := "wordOf", desc := "([Ljava/lang/String;)I" } : Jvm.MethodName)) ∈ lw_all := lw_g (lw_at lw_m2 145 rfl) rfl
theorem q467 : (Jvm.Cond.privateMethod ({ cls := "SwallowSurvey", name := "wordOf", desc := "([Ljava/lang/String;)I" } : Jvm.MethodName)) ∈ lw_tbl := lw_at lw_m2 146 rfl
theorem q468 : (Jvm.Cond.instanceMethod ({ cls := "SwallowSurvey", name := "wordOf", desc := "([Ljava/lang/String;)I" } : Jvm.MethodName)) ∈ lw_all := lw_g (lw_at lw_m2 147 rfl) rfl
theorem q469 : (Jvm.Cond.code ({ cls := "SwallowSurvey", name := "wordOf", desc := "([Ljava/lang/String;)I" } : Jvm.MethodName) prog_1_method_10_code (3 : Nat) (Option.some Jvm.ClassFile.FieldType.int)) ∈ lw_all := lw_g (lw_at lw_m2 148 rfl) rfl
theorem q470 : (Jvm.Cond.methodLink "SwallowSurvey" (159 : Nat) ({ cls := "SwallowSurvey", name := "spells", desc := "(Ljava/lang/String;)Z" } : Jvm.MethodName)) ∈ lw_all := lw_g (lw_at lw_m2 149 rfl) rfl
theorem q471 : (Jvm.Cond.privateMethod ({ cls := "SwallowSurvey", name := "spells", desc := "(Ljava/lang/String;)Z" } : Jvm.MethodName)) ∈ lw_tbl := lw_at lw_m2 150 rfl
theorem q472 : (Jvm.Cond.instanceMethod ({ cls := "SwallowSurvey", name := "spells", desc := "(Ljava/lang/String;)Z" } : Jvm.MethodName)) ∈ lw_all := lw_g (lw_at lw_m2 151 rfl) rfl
theorem q473 : (Jvm.Cond.code ({ cls := "SwallowSurvey", name := "spells", desc := "(Ljava/lang/String;)Z" } : Jvm.MethodName) prog_1_method_9_code (3 : Nat) (Option.some Jvm.ClassFile.FieldType.boolean)) ∈ lw_all := lw_g (lw_at lw_m2 152 rfl) rfl
theorem q474 : (Jvm.Cond.methodLink "SwallowSurvey" (132 : Nat) ({ cls := "java/lang/String", name := "length", desc := "()I" } : Jvm.MethodName)) ∈ lw_all := lw_g (lw_at lw_m2 153 rfl) rfl
theorem q484 : (Jvm.Cond.methodLink "SwallowSurvey" (146 : Nat) ({ cls := "java/lang/String", name := "charAt", desc := "(I)C" } : Jvm.MethodName)) ∈ lw_all := lw_g (lw_at lw_m2 163 rfl) rfl
theorem q522 : (Jvm.Cond.methodLink "SwallowSurvey" (183 : Nat) ({ cls := "SwallowSurvey", name := "isDigit", desc := "(I)Z" } : Jvm.MethodName)) ∈ lw_all := lw_g (lw_at lw_m2 201 rfl) rfl
theorem q523 : (Jvm.Cond.static ({ cls := "SwallowSurvey", name := "isDigit", desc := "(I)Z" } : Jvm.MethodName)) ∈ lw_all := lw_g (lw_at lw_m2 202 rfl) rfl
theorem q524 : (Jvm.Cond.code ({ cls := "SwallowSurvey", name := "isDigit", desc := "(I)Z" } : Jvm.MethodName) prog_1_method_8_code (1 : Nat) (Option.some Jvm.ClassFile.FieldType.boolean)) ∈ lw_all := lw_g (lw_at lw_m2 203 rfl) rfl
theorem q525 : (Jvm.Cond.constant "SwallowSurvey" (186 : Nat) (99999 : Int32)) ∈ lw_all := lw_g (lw_at lw_m2 204 rfl) rfl
theorem q526 : (Jvm.Cond.methodLink "SwallowSurvey" (187 : Nat) ({ cls := "java/lang/Math", name := "min", desc := "(II)I" } : Jvm.MethodName)) ∈ lw_all := lw_g (lw_at lw_m2 205 rfl) rfl
theorem q529 : (Jvm.Cond.fieldLink "SwallowSurvey" (193 : Nat) "SwallowSurvey$Token" "NUMBER" "LSwallowSurvey$Token;") ∈ lw_all := lw_g (lw_at lw_m2 208 rfl) rfl
theorem q531 : (Jvm.Cond.stringRef "SwallowSurvey" (196 : Nat) ";+-*/()<=>") ∈ lw_tbl := lw_at lw_m2 210 rfl
theorem q532 : (Jvm.Cond.methodLink "SwallowSurvey" (198 : Nat) ({ cls := "java/lang/String", name := "indexOf", desc := "(I)I" } : Jvm.MethodName)) ∈ lw_all := lw_g (lw_at lw_m2 211 rfl) rfl
theorem q589 : (Jvm.Cond.fieldLink "SwallowSurvey" (163 : Nat) "SwallowSurvey$Token" "SIGN" "LSwallowSurvey$Token;") ∈ lw_all := lw_g (lw_at lw_m3 28 rfl) rfl
theorem q591 : (Jvm.Cond.methodLink "SwallowSurvey" (210 : Nat) ({ cls := "SwallowSurvey", name := "must", desc := "(Z)V" } : Jvm.MethodName)) ∈ lw_all := lw_g (lw_at lw_m3 30 rfl) rfl
theorem q592 : (Jvm.Cond.privateMethod ({ cls := "SwallowSurvey", name := "must", desc := "(Z)V" } : Jvm.MethodName)) ∈ lw_tbl := lw_at lw_m3 31 rfl
theorem q593 : (Jvm.Cond.instanceMethod ({ cls := "SwallowSurvey", name := "must", desc := "(Z)V" } : Jvm.MethodName)) ∈ lw_all := lw_g (lw_at lw_m3 32 rfl) rfl
theorem q594 : (Jvm.Cond.code ({ cls := "SwallowSurvey", name := "must", desc := "(Z)V" } : Jvm.MethodName) prog_1_method_14_code (2 : Nat) (Option.none : Option Jvm.ClassFile.FieldType)) ∈ lw_all := lw_g (lw_at lw_m3 33 rfl) rfl
theorem q631 : (Jvm.Cond.methodLink "SwallowSurvey" (203 : Nat) ({ cls := "SwallowSurvey$Fault", name := "<init>", desc := "(II)V" } : Jvm.MethodName)) ∈ lw_all := lw_g (lw_at lw_m3 70 rfl) rfl
theorem q641 : (Jvm.Cond.fieldLink "SwallowSurvey" (282 : Nat) "SwallowSurvey$Fault" "kind" "I") ∈ lw_all := lw_g (lw_at lw_m3 80 rfl) rfl
theorem q643 : (Jvm.Cond.fieldLink "SwallowSurvey" (285 : Nat) "SwallowSurvey$Fault" "place" "I") ∈ lw_all := lw_g (lw_at lw_m3 82 rfl) rfl
theorem q661 : (Jvm.Cond.methodLink "SwallowSurvey" (239 : Nat) ({ cls := "SwallowSurvey", name := "isWord", desc := "(Ljava/lang/String;)Z" } : Jvm.MethodName)) ∈ lw_all := lw_g (lw_at lw_m3 100 rfl) rfl
theorem q662 : (Jvm.Cond.privateMethod ({ cls := "SwallowSurvey", name := "isWord", desc := "(Ljava/lang/String;)Z" } : Jvm.MethodName)) ∈ lw_tbl := lw_at lw_m3 101 rfl
theorem q663 : (Jvm.Cond.instanceMethod ({ cls := "SwallowSurvey", name := "isWord", desc := "(Ljava/lang/String;)Z" } : Jvm.MethodName)) ∈ lw_all := lw_g (lw_at lw_m3 102 rfl) rfl
theorem q664 : (Jvm.Cond.code ({ cls := "SwallowSurvey", name := "isWord", desc := "(Ljava/lang/String;)Z" } : Jvm.MethodName) prog_1_method_11_code (2 : Nat) (Option.some Jvm.ClassFile.FieldType.boolean)) ∈ lw_all := lw_g (lw_at lw_m3 103 rfl) rfl
theorem q665 : (Jvm.Cond.methodLink "SwallowSurvey" (253 : Nat) ({ cls := "SwallowSurvey", name := "any", desc := "()LSwallowSurvey$Term;" } : Jvm.MethodName)) ∈ lw_all := lw_g (lw_at lw_m3 104 rfl) rfl
theorem q666 : (Jvm.Cond.privateMethod ({ cls := "SwallowSurvey", name := "any", desc := "()LSwallowSurvey$Term;" } : Jvm.MethodName)) ∈ lw_tbl := lw_at lw_m3 105 rfl
theorem q667 : (Jvm.Cond.instanceMethod ({ cls := "SwallowSurvey", name := "any", desc := "()LSwallowSurvey$Term;" } : Jvm.MethodName)) ∈ lw_all := lw_g (lw_at lw_m3 106 rfl) rfl
theorem q668 : (Jvm.Cond.code ({ cls := "SwallowSurvey", name := "any", desc := "()LSwallowSurvey$Term;" } : Jvm.MethodName) prog_1_method_22_code (2 : Nat) (Option.some (Jvm.ClassFile.FieldType.object "SwallowSurvey$Term"))) ∈ lw_all := lw_g (lw_at lw_m3 107 rfl) rfl
theorem q669 : (Jvm.Cond.methodLink "SwallowSurvey" (263 : Nat) ({ cls := "SwallowSurvey", name := "both", desc := "()LSwallowSurvey$Term;" } : Jvm.MethodName)) ∈ lw_all := lw_g (lw_at lw_m3 108 rfl) rfl
theorem q670 : (Jvm.Cond.privateMethod ({ cls := "SwallowSurvey", name := "both", desc := "()LSwallowSurvey$Term;" } : Jvm.MethodName)) ∈ lw_tbl := lw_at lw_m3 109 rfl
theorem q671 : (Jvm.Cond.instanceMethod ({ cls := "SwallowSurvey", name := "both", desc := "()LSwallowSurvey$Term;" } : Jvm.MethodName)) ∈ lw_all := lw_g (lw_at lw_m3 110 rfl) rfl
theorem q672 : (Jvm.Cond.code ({ cls := "SwallowSurvey", name := "both", desc := "()LSwallowSurvey$Term;" } : Jvm.MethodName) prog_1_method_21_code (2 : Nat) (Option.some (Jvm.ClassFile.FieldType.object "SwallowSurvey$Term"))) ∈ lw_all := lw_g (lw_at lw_m3 111 rfl) rfl
theorem q673 : (Jvm.Cond.methodLink "SwallowSurvey" (245 : Nat) ({ cls := "SwallowSurvey", name := "oneOf", desc := "()LSwallowSurvey$Term;" } : Jvm.MethodName)) ∈ lw_all := lw_g (lw_at lw_m3 112 rfl) rfl
theorem q674 : (Jvm.Cond.privateMethod ({ cls := "SwallowSurvey", name := "oneOf", desc := "()LSwallowSurvey$Term;" } : Jvm.MethodName)) ∈ lw_tbl := lw_at lw_m3 113 rfl
theorem q675 : (Jvm.Cond.instanceMethod ({ cls := "SwallowSurvey", name := "oneOf", desc := "()LSwallowSurvey$Term;" } : Jvm.MethodName)) ∈ lw_all := lw_g (lw_at lw_m3 114 rfl) rfl
theorem q676 : (Jvm.Cond.code ({ cls := "SwallowSurvey", name := "oneOf", desc := "()LSwallowSurvey$Term;" } : Jvm.MethodName) prog_1_method_20_code (3 : Nat) (Option.some (Jvm.ClassFile.FieldType.object "SwallowSurvey$Term"))) ∈ lw_all := lw_g (lw_at lw_m3 115 rfl) rfl
theorem q677 : (Jvm.Cond.methodLink "SwallowSurvey" (242 : Nat) ({ cls := "SwallowSurvey", name := "opens", desc := "()V" } : Jvm.MethodName)) ∈ lw_all := lw_g (lw_at lw_m3 116 rfl) rfl
theorem q678 : (Jvm.Cond.privateMethod ({ cls := "SwallowSurvey", name := "opens", desc := "()V" } : Jvm.MethodName)) ∈ lw_tbl := lw_at lw_m3 117 rfl
theorem q679 : (Jvm.Cond.instanceMethod ({ cls := "SwallowSurvey", name := "opens", desc := "()V" } : Jvm.MethodName)) ∈ lw_all := lw_g (lw_at lw_m3 118 rfl) rfl
theorem q680 : (Jvm.Cond.code ({ cls := "SwallowSurvey", name := "opens", desc := "()V" } : Jvm.MethodName) prog_1_method_19_code (1 : Nat) (Option.none : Option Jvm.ClassFile.FieldType)) ∈ lw_all := lw_g (lw_at lw_m3 119 rfl) rfl
theorem q681 : (Jvm.Cond.classLink "SwallowSurvey" (248 : Nat) "SwallowSurvey$Not") ∈ lw_all := lw_g (lw_at lw_m3 120 rfl) rfl
theorem q683 : (Jvm.Cond.methodLink "SwallowSurvey" (250 : Nat) ({ cls := "SwallowSurvey$Not", name := "<init>", desc := "(LSwallowSurvey$Term;)V" } : Jvm.MethodName)) ∈ lw_all := lw_g (lw_at lw_m3 122 rfl) rfl
theorem q694 : (Jvm.Cond.methodLink "SwallowSurvey" (206 : Nat) ({ cls := "SwallowSurvey", name := "isSign", desc := "(C)Z" } : Jvm.MethodName)) ∈ lw_all := lw_g (lw_at lw_m3 133 rfl) rfl
theorem q695 : (Jvm.Cond.privateMethod ({ cls := "SwallowSurvey", name := "isSign", desc := "(C)Z" } : Jvm.MethodName)) ∈ lw_tbl := lw_at lw_m3 134 rfl
theorem q696 : (Jvm.Cond.instanceMethod ({ cls := "SwallowSurvey", name := "isSign", desc := "(C)Z" } : Jvm.MethodName)) ∈ lw_all := lw_g (lw_at lw_m3 135 rfl) rfl
theorem q697 : (Jvm.Cond.code ({ cls := "SwallowSurvey", name := "isSign", desc := "(C)Z" } : Jvm.MethodName) prog_1_method_12_code (2 : Nat) (Option.some Jvm.ClassFile.FieldType.boolean)) ∈ lw_all := lw_g (lw_at lw_m3 136 rfl) rfl
theorem q698 : (Jvm.Cond.methodLink "SwallowSurvey" (256 : Nat) ({ cls := "SwallowSurvey", name := "takesSign", desc := "(C)V" } : Jvm.MethodName)) ∈ lw_all := lw_g (lw_at lw_m3 137 rfl) rfl
theorem q699 : (Jvm.Cond.privateMethod ({ cls := "SwallowSurvey", name := "takesSign", desc := "(C)V" } : Jvm.MethodName)) ∈ lw_tbl := lw_at lw_m3 138 rfl
theorem q700 : (Jvm.Cond.instanceMethod ({ cls := "SwallowSurvey", name := "takesSign", desc := "(C)V" } : Jvm.MethodName)) ∈ lw_all := lw_g (lw_at lw_m3 139 rfl) rfl
theorem q701 : (Jvm.Cond.code ({ cls := "SwallowSurvey", name := "takesSign", desc := "(C)V" } : Jvm.MethodName) prog_1_method_15_code (2 : Nat) (Option.none : Option Jvm.ClassFile.FieldType)) ∈ lw_all := lw_g (lw_at lw_m3 140 rfl) rfl
theorem q702 : (Jvm.Cond.methodLink "SwallowSurvey" (260 : Nat) ({ cls := "SwallowSurvey", name := "sum", desc := "()LSwallowSurvey$Term;" } : Jvm.MethodName)) ∈ lw_all := lw_g (lw_at lw_m3 141 rfl) rfl
theorem q703 : (Jvm.Cond.privateMethod ({ cls := "SwallowSurvey", name := "sum", desc := "()LSwallowSurvey$Term;" } : Jvm.MethodName)) ∈ lw_tbl := lw_at lw_m3 142 rfl
theorem q704 : (Jvm.Cond.instanceMethod ({ cls := "SwallowSurvey", name := "sum", desc := "()LSwallowSurvey$Term;" } : Jvm.MethodName)) ∈ lw_all := lw_g (lw_at lw_m3 143 rfl) rfl
theorem q705 : (Jvm.Cond.code ({ cls := "SwallowSurvey", name := "sum", desc := "()LSwallowSurvey$Term;" } : Jvm.MethodName) prog_1_method_18_code (3 : Nat) (Option.some (Jvm.ClassFile.FieldType.object "SwallowSurvey$Term"))) ∈ lw_all := lw_g (lw_at lw_m3 144 rfl) rfl
theorem q706 : (Jvm.Cond.methodLink "SwallowSurvey" (233 : Nat) ({ cls := "SwallowSurvey", name := "product", desc := "()LSwallowSurvey$Term;" } : Jvm.MethodName)) ∈ lw_all := lw_g (lw_at lw_m3 145 rfl) rfl
theorem q707 : (Jvm.Cond.privateMethod ({ cls := "SwallowSurvey", name := "product", desc := "()LSwallowSurvey$Term;" } : Jvm.MethodName)) ∈ lw_tbl := lw_at lw_m3 146 rfl
theorem q708 : (Jvm.Cond.instanceMethod ({ cls := "SwallowSurvey", name := "product", desc := "()LSwallowSurvey$Term;" } : Jvm.MethodName)) ∈ lw_all := lw_g (lw_at lw_m3 147 rfl) rfl
theorem q709 : (Jvm.Cond.code ({ cls := "SwallowSurvey", name := "product", desc := "()LSwallowSurvey$Term;" } : Jvm.MethodName) prog_1_method_17_code (3 : Nat) (Option.some (Jvm.ClassFile.FieldType.object "SwallowSurvey$Term"))) ∈ lw_all := lw_g (lw_at lw_m3 148 rfl) rfl
theorem q710 : (Jvm.Cond.methodLink "SwallowSurvey" (224 : Nat) ({ cls := "SwallowSurvey", name := "unit", desc := "()LSwallowSurvey$Term;" } : Jvm.MethodName)) ∈ lw_all := lw_g (lw_at lw_m3 149 rfl) rfl
theorem q711 : (Jvm.Cond.privateMethod ({ cls := "SwallowSurvey", name := "unit", desc := "()LSwallowSurvey$Term;" } : Jvm.MethodName)) ∈ lw_tbl := lw_at lw_m3 150 rfl
theorem q712 : (Jvm.Cond.instanceMethod ({ cls := "SwallowSurvey", name := "unit", desc := "()LSwallowSurvey$Term;" } : Jvm.MethodName)) ∈ lw_all := lw_g (lw_at lw_m3 151 rfl) rfl
theorem q713 : (Jvm.Cond.code ({ cls := "SwallowSurvey", name := "unit", desc := "()LSwallowSurvey$Term;" } : Jvm.MethodName) prog_1_method_16_code (2 : Nat) (Option.some (Jvm.ClassFile.FieldType.object "SwallowSurvey$Term"))) ∈ lw_all := lw_g (lw_at lw_m3 152 rfl) rfl
theorem q714 : (Jvm.Cond.classLink "SwallowSurvey" (217 : Nat) "SwallowSurvey$Number") ∈ lw_all := lw_g (lw_at lw_m3 153 rfl) rfl
theorem q716 : (Jvm.Cond.methodLink "SwallowSurvey" (219 : Nat) ({ cls := "SwallowSurvey$Number", name := "<init>", desc := "(I)V" } : Jvm.MethodName)) ∈ lw_all := lw_g (lw_at lw_m3 155 rfl) rfl
theorem q724 : (Jvm.Cond.classLink "SwallowSurvey" (221 : Nat) "SwallowSurvey$Word") ∈ lw_all := lw_g (lw_at lw_m3 163 rfl) rfl
theorem q726 : (Jvm.Cond.methodLink "SwallowSurvey" (223 : Nat) ({ cls := "SwallowSurvey$Word", name := "<init>", desc := "(I)V" } : Jvm.MethodName)) ∈ lw_all := lw_g (lw_at lw_m3 165 rfl) rfl
theorem q734 : (Jvm.Cond.classLink "SwallowSurvey" (228 : Nat) "SwallowSurvey$Two") ∈ lw_all := lw_g (lw_at lw_m3 173 rfl) rfl
theorem q736 : (Jvm.Cond.methodLink "SwallowSurvey" (230 : Nat) ({ cls := "SwallowSurvey$Two", name := "<init>", desc := "(CLSwallowSurvey$Term;LSwallowSurvey$Term;)V" } : Jvm.MethodName)) ∈ lw_all := lw_g (lw_at lw_m3 175 rfl) rfl
theorem q751 : (Jvm.Cond.instanceMethod ({ cls := "SwallowSurvey", name := "fault", desc := "(I)I" } : Jvm.MethodName)) ∈ lw_all := lw_g (lw_at lw_m3 190 rfl) rfl
theorem q752 : (Jvm.Cond.selects "SwallowSurvey" ({ cls := "SwallowSurvey", name := "fault", desc := "(I)I" } : Jvm.MethodName) ({ cls := "SwallowSurvey", name := "fault", desc := "(I)I" } : Jvm.MethodName)) ∈ lw_all := lw_g (lw_at lw_m3 191 rfl) rfl
theorem q753 : (Jvm.Cond.code ({ cls := "SwallowSurvey", name := "fault", desc := "(I)I" } : Jvm.MethodName) prog_1_method_25_code (2 : Nat) (Option.some Jvm.ClassFile.FieldType.int)) ∈ lw_all := lw_g (lw_at lw_m3 192 rfl) rfl
theorem q755 : (Jvm.Cond.instanceMethod ({ cls := "SwallowSurvey", name := "state", desc := "(I)I" } : Jvm.MethodName)) ∈ lw_all := lw_g (lw_at lw_m3 194 rfl) rfl
theorem q756 : (Jvm.Cond.selects "SwallowSurvey" ({ cls := "SwallowSurvey", name := "state", desc := "(I)I" } : Jvm.MethodName) ({ cls := "SwallowSurvey", name := "state", desc := "(I)I" } : Jvm.MethodName)) ∈ lw_all := lw_g (lw_at lw_m3 195 rfl) rfl
theorem q757 : (Jvm.Cond.code ({ cls := "SwallowSurvey", name := "state", desc := "(I)I" } : Jvm.MethodName) prog_1_method_29_code (3 : Nat) (Option.some Jvm.ClassFile.FieldType.int)) ∈ lw_all := lw_g (lw_at lw_m3 196 rfl) rfl
theorem q759 : (Jvm.Cond.instanceMethod ({ cls := "SwallowSurvey", name := "land", desc := "(II)Z" } : Jvm.MethodName)) ∈ lw_all := lw_g (lw_at lw_m3 198 rfl) rfl
theorem q760 : (Jvm.Cond.selects "SwallowSurvey" ({ cls := "SwallowSurvey", name := "land", desc := "(II)Z" } : Jvm.MethodName) ({ cls := "SwallowSurvey", name := "land", desc := "(II)Z" } : Jvm.MethodName)) ∈ lw_all := lw_g (lw_at lw_m3 199 rfl) rfl
theorem q761 : (Jvm.Cond.code ({ cls := "SwallowSurvey", name := "land", desc := "(II)Z" } : Jvm.MethodName) prog_1_method_30_code (5 : Nat) (Option.some Jvm.ClassFile.FieldType.boolean)) ∈ lw_all := lw_g (lw_at lw_m3 200 rfl) rfl
theorem q763 : (Jvm.Cond.instanceMethod ({ cls := "SwallowSurvey", name := "tell", desc := "(III)Z" } : Jvm.MethodName)) ∈ lw_all := lw_g (lw_at lw_m3 202 rfl) rfl
theorem q764 : (Jvm.Cond.selects "SwallowSurvey" ({ cls := "SwallowSurvey", name := "tell", desc := "(III)Z" } : Jvm.MethodName) ({ cls := "SwallowSurvey", name := "tell", desc := "(III)Z" } : Jvm.MethodName)) ∈ lw_all := lw_g (lw_at lw_m3 203 rfl) rfl
theorem q765 : (Jvm.Cond.code ({ cls := "SwallowSurvey", name := "tell", desc := "(III)Z" } : Jvm.MethodName) prog_1_method_31_code (4 : Nat) (Option.some Jvm.ClassFile.FieldType.boolean)) ∈ lw_all := lw_g (lw_at lw_m3 204 rfl) rfl
theorem q766 : (Jvm.Cond.methodLink "SwallowSurvey" (310 : Nat) ({ cls := "SwallowSurvey", name := "isCell", desc := "(I)Z" } : Jvm.MethodName)) ∈ lw_all := lw_g (lw_at lw_m3 205 rfl) rfl
theorem q767 : (Jvm.Cond.privateMethod ({ cls := "SwallowSurvey", name := "isCell", desc := "(I)Z" } : Jvm.MethodName)) ∈ lw_tbl := lw_at lw_m3 206 rfl
theorem q768 : (Jvm.Cond.instanceMethod ({ cls := "SwallowSurvey", name := "isCell", desc := "(I)Z" } : Jvm.MethodName)) ∈ lw_all := lw_g (lw_at lw_m3 207 rfl) rfl
theorem q769 : (Jvm.Cond.code ({ cls := "SwallowSurvey", name := "isCell", desc := "(I)Z" } : Jvm.MethodName) prog_1_method_28_code (2 : Nat) (Option.some Jvm.ClassFile.FieldType.boolean)) ∈ lw_all := lw_g (lw_at lw_m3 208 rfl) rfl
theorem q770 : (Jvm.Cond.methodLink "SwallowSurvey" (294 : Nat) ({ cls := "SwallowSurvey$Land", name := "isCell", desc := "(II)Z" } : Jvm.MethodName)) ∈ lw_all := lw_g (lw_at lw_m3 209 rfl) rfl
theorem q776 : (Jvm.Cond.instanceMethod ({ cls := "SwallowSurvey", name := "dig", desc := "(I)Z" } : Jvm.MethodName)) ∈ lw_all := lw_g (lw_at lw_m3 215 rfl) rfl
theorem q777 : (Jvm.Cond.selects "SwallowSurvey" ({ cls := "SwallowSurvey", name := "dig", desc := "(I)Z" } : Jvm.MethodName) ({ cls := "SwallowSurvey", name := "dig", desc := "(I)Z" } : Jvm.MethodName)) ∈ lw_all := lw_g (lw_at lw_m3 216 rfl) rfl
theorem q778 : (Jvm.Cond.code ({ cls := "SwallowSurvey", name := "dig", desc := "(I)Z" } : Jvm.MethodName) prog_1_method_33_code (2 : Nat) (Option.some Jvm.ClassFile.FieldType.boolean)) ∈ lw_all := lw_g (lw_at lw_m3 217 rfl) rfl
theorem q779 : (Jvm.Cond.methodLink "SwallowSurvey" (325 : Nat) ({ cls := "SwallowSurvey", name := "ponds", desc := "(IZ)Z" } : Jvm.MethodName)) ∈ lw_all := lw_g (lw_at lw_m3 218 rfl) rfl
theorem q780 : (Jvm.Cond.privateMethod ({ cls := "SwallowSurvey", name := "ponds", desc := "(IZ)Z" } : Jvm.MethodName)) ∈ lw_tbl := lw_at lw_m3 219 rfl
theorem q781 : (Jvm.Cond.instanceMethod ({ cls := "SwallowSurvey", name := "ponds", desc := "(IZ)Z" } : Jvm.MethodName)) ∈ lw_all := lw_g (lw_at lw_m3 220 rfl) rfl
theorem q782 : (Jvm.Cond.code ({ cls := "SwallowSurvey", name := "ponds", desc := "(IZ)Z" } : Jvm.MethodName) prog_1_method_32_code (3 : Nat) (Option.some Jvm.ClassFile.FieldType.boolean)) ∈ lw_all := lw_g (lw_at lw_m3 221 rfl) rfl
theorem q783 : (Jvm.Cond.methodLink "SwallowSurvey" (288 : Nat) ({ cls := "java/lang/System", name := "arraycopy", desc := "(Ljava/lang/Object;ILjava/lang/Object;II)V" } : Jvm.MethodName)) ∈ lw_all := lw_g (lw_at lw_m3 222 rfl) rfl
theorem q787 : (Jvm.Cond.instanceMethod ({ cls := "SwallowSurvey", name := "fill", desc := "(I)Z" } : Jvm.MethodName)) ∈ lw_all := lw_g (lw_at lw_m3 226 rfl) rfl
theorem q788 : (Jvm.Cond.selects "SwallowSurvey" ({ cls := "SwallowSurvey", name := "fill", desc := "(I)Z" } : Jvm.MethodName) ({ cls := "SwallowSurvey", name := "fill", desc := "(I)Z" } : Jvm.MethodName)) ∈ lw_all := lw_g (lw_at lw_m3 227 rfl) rfl
theorem q789 : (Jvm.Cond.code ({ cls := "SwallowSurvey", name := "fill", desc := "(I)Z" } : Jvm.MethodName) prog_1_method_34_code (2 : Nat) (Option.some Jvm.ClassFile.FieldType.boolean)) ∈ lw_all := lw_g (lw_at lw_m3 228 rfl) rfl
theorem q791 : (Jvm.Cond.instanceMethod ({ cls := "SwallowSurvey", name := "undo", desc := "()Z" } : Jvm.MethodName)) ∈ lw_all := lw_g (lw_at lw_m3 230 rfl) rfl
theorem q792 : (Jvm.Cond.selects "SwallowSurvey" ({ cls := "SwallowSurvey", name := "undo", desc := "()Z" } : Jvm.MethodName) ({ cls := "SwallowSurvey", name := "undo", desc := "()Z" } : Jvm.MethodName)) ∈ lw_all := lw_g (lw_at lw_m3 231 rfl) rfl
theorem q793 : (Jvm.Cond.code ({ cls := "SwallowSurvey", name := "undo", desc := "()Z" } : Jvm.MethodName) prog_1_method_35_code (1 : Nat) (Option.some Jvm.ClassFile.FieldType.boolean)) ∈ lw_all := lw_g (lw_at lw_m3 232 rfl) rfl
theorem q795 : (Jvm.Cond.instanceMethod ({ cls := "SwallowSurvey", name := "barn", desc := "(I)Z" } : Jvm.MethodName)) ∈ lw_all := lw_g (lw_at lw_m3 234 rfl) rfl
theorem q796 : (Jvm.Cond.selects "SwallowSurvey" ({ cls := "SwallowSurvey", name := "barn", desc := "(I)Z" } : Jvm.MethodName) ({ cls := "SwallowSurvey", name := "barn", desc := "(I)Z" } : Jvm.MethodName)) ∈ lw_all := lw_g (lw_at lw_m3 235 rfl) rfl
theorem q797 : (Jvm.Cond.code ({ cls := "SwallowSurvey", name := "barn", desc := "(I)Z" } : Jvm.MethodName) prog_1_method_36_code (2 : Nat) (Option.some Jvm.ClassFile.FieldType.boolean)) ∈ lw_all := lw_g (lw_at lw_m3 236 rfl) rfl
theorem q799 : (Jvm.Cond.instanceMethod ({ cls := "SwallowSurvey", name := "mirror", desc := "(IIZ)Z" } : Jvm.MethodName)) ∈ lw_all := lw_g (lw_at lw_m3 238 rfl) rfl
theorem q800 : (Jvm.Cond.selects "SwallowSurvey" ({ cls := "SwallowSurvey", name := "mirror", desc := "(IIZ)Z" } : Jvm.MethodName) ({ cls := "SwallowSurvey", name := "mirror", desc := "(IIZ)Z" } : Jvm.MethodName)) ∈ lw_all := lw_g (lw_at lw_m3 239 rfl) rfl
theorem q801 : (Jvm.Cond.code ({ cls := "SwallowSurvey", name := "mirror", desc := "(IIZ)Z" } : Jvm.MethodName) prog_1_method_37_code (4 : Nat) (Option.some Jvm.ClassFile.FieldType.boolean)) ∈ lw_all := lw_g (lw_at lw_m4 0 rfl) rfl
theorem q802 : (Jvm.Cond.methodLink "SwallowSurvey" (335 : Nat) ({ cls := "SwallowSurvey$Land", name := "isPoint", desc := "(II)Z" } : Jvm.MethodName)) ∈ lw_all := lw_g (lw_at lw_m4 1 rfl) rfl
theorem q807 : (Jvm.Cond.instanceMethod ({ cls := "SwallowSurvey", name := "nest", desc := "(II)I" } : Jvm.MethodName)) ∈ lw_all := lw_g (lw_at lw_m4 6 rfl) rfl
theorem q808 : (Jvm.Cond.selects "SwallowSurvey" ({ cls := "SwallowSurvey", name := "nest", desc := "(II)I" } : Jvm.MethodName) ({ cls := "SwallowSurvey", name := "nest", desc := "(II)I" } : Jvm.MethodName)) ∈ lw_all := lw_g (lw_at lw_m4 7 rfl) rfl
theorem q809 : (Jvm.Cond.code ({ cls := "SwallowSurvey", name := "nest", desc := "(II)I" } : Jvm.MethodName) prog_1_method_38_code (3 : Nat) (Option.some Jvm.ClassFile.FieldType.int)) ∈ lw_all := lw_g (lw_at lw_m4 8 rfl) rfl
theorem q811 : (Jvm.Cond.instanceMethod ({ cls := "SwallowSurvey", name := "swallow", desc := "(IIIII)I" } : Jvm.MethodName)) ∈ lw_all := lw_g (lw_at lw_m4 10 rfl) rfl
theorem q812 : (Jvm.Cond.selects "SwallowSurvey" ({ cls := "SwallowSurvey", name := "swallow", desc := "(IIIII)I" } : Jvm.MethodName) ({ cls := "SwallowSurvey", name := "swallow", desc := "(IIIII)I" } : Jvm.MethodName)) ∈ lw_all := lw_g (lw_at lw_m4 11 rfl) rfl
theorem q813 : (Jvm.Cond.code ({ cls := "SwallowSurvey", name := "swallow", desc := "(IIIII)I" } : Jvm.MethodName) prog_1_method_39_code (6 : Nat) (Option.some Jvm.ClassFile.FieldType.int)) ∈ lw_all := lw_g (lw_at lw_m4 12 rfl) rfl
theorem q814 : (Jvm.Cond.classLink "SwallowSurvey" (356 : Nat) "SwallowSurvey$Swallow") ∈ lw_all := lw_g (lw_at lw_m4 13 rfl) rfl
theorem q816 : (Jvm.Cond.methodLink "SwallowSurvey" (358 : Nat) ({ cls := "SwallowSurvey$Swallow", name := "<init>", desc := "(IIIII)V" } : Jvm.MethodName)) ∈ lw_all := lw_g (lw_at lw_m4 15 rfl) rfl
theorem q842 : (Jvm.Cond.instanceMethod ({ cls := "SwallowSurvey", name := "survey", desc := "()I" } : Jvm.MethodName)) ∈ lw_all := lw_g (lw_at lw_m4 41 rfl) rfl
theorem q843 : (Jvm.Cond.selects "SwallowSurvey" ({ cls := "SwallowSurvey", name := "survey", desc := "()I" } : Jvm.MethodName) ({ cls := "SwallowSurvey", name := "survey", desc := "()I" } : Jvm.MethodName)) ∈ lw_all := lw_g (lw_at lw_m4 42 rfl) rfl
theorem q844 : (Jvm.Cond.code ({ cls := "SwallowSurvey", name := "survey", desc := "()I" } : Jvm.MethodName) prog_1_method_40_code (3 : Nat) (Option.some Jvm.ClassFile.FieldType.int)) ∈ lw_all := lw_g (lw_at lw_m4 43 rfl) rfl
theorem q845 : (Jvm.Cond.methodLink "SwallowSurvey" (361 : Nat) ({ cls := "SwallowSurvey$Web", name := "surveys", desc := "(LSwallowSurvey$Land;)V" } : Jvm.MethodName)) ∈ lw_all := lw_g (lw_at lw_m4 44 rfl) rfl
theorem q858 : (Jvm.Cond.laysStatic "SwallowSurvey" "EAST" "[I") ∈ lw_tbl := lw_at lw_m4 57 rfl
theorem q860 : (Jvm.Cond.laysStatic "SwallowSurvey" "SOUTH" "[I") ∈ lw_tbl := lw_at lw_m4 59 rfl
theorem q936 : (Jvm.Cond.methodLink "SwallowSurvey" (365 : Nat) ({ cls := "SwallowSurvey$Web", name := "names", desc := "(LSwallowSurvey$Land;)I" } : Jvm.MethodName)) ∈ lw_all := lw_g (lw_at lw_m4 135 rfl) rfl
theorem q938 : (Jvm.Cond.instanceMethod ({ cls := "SwallowSurvey", name := "spring", desc := "()I" } : Jvm.MethodName)) ∈ lw_all := lw_g (lw_at lw_m4 137 rfl) rfl
theorem q939 : (Jvm.Cond.selects "SwallowSurvey" ({ cls := "SwallowSurvey", name := "spring", desc := "()I" } : Jvm.MethodName) ({ cls := "SwallowSurvey", name := "spring", desc := "()I" } : Jvm.MethodName)) ∈ lw_all := lw_g (lw_at lw_m4 138 rfl) rfl
theorem q940 : (Jvm.Cond.code ({ cls := "SwallowSurvey", name := "spring", desc := "()I" } : Jvm.MethodName) prog_1_method_41_code (4 : Nat) (Option.some Jvm.ClassFile.FieldType.int)) ∈ lw_all := lw_g (lw_at lw_m4 139 rfl) rfl
theorem q941 : (Jvm.Cond.methodLink "SwallowSurvey" (378 : Nat) ({ cls := "SwallowSurvey$Land", name := "draw", desc := "(I)I" } : Jvm.MethodName)) ∈ lw_all := lw_g (lw_at lw_m4 140 rfl) rfl
theorem q947 : (Jvm.Cond.methodLink "SwallowSurvey" (381 : Nat) ({ cls := "SwallowSurvey", name := "survey", desc := "()I" } : Jvm.MethodName)) ∈ lw_all := lw_g (lw_at lw_m4 146 rfl) rfl
theorem q949 : (Jvm.Cond.instanceMethod ({ cls := "SwallowSurvey", name := "of", desc := "(II)I" } : Jvm.MethodName)) ∈ lw_all := lw_g (lw_at lw_m4 148 rfl) rfl
theorem q950 : (Jvm.Cond.selects "SwallowSurvey" ({ cls := "SwallowSurvey", name := "of", desc := "(II)I" } : Jvm.MethodName) ({ cls := "SwallowSurvey", name := "of", desc := "(II)I" } : Jvm.MethodName)) ∈ lw_all := lw_g (lw_at lw_m4 149 rfl) rfl
theorem q951 : (Jvm.Cond.code ({ cls := "SwallowSurvey", name := "of", desc := "(II)I" } : Jvm.MethodName) prog_1_method_43_code (3 : Nat) (Option.some Jvm.ClassFile.FieldType.int)) ∈ lw_all := lw_g (lw_at lw_m4 150 rfl) rfl
theorem q952 : (Jvm.Cond.methodLink "SwallowSurvey" (384 : Nat) ({ cls := "SwallowSurvey$Land", name := "seenFlies", desc := "(II)I" } : Jvm.MethodName)) ∈ lw_all := lw_g (lw_at lw_m4 151 rfl) rfl
theorem q953 : (Jvm.Cond.methodLink "SwallowSurvey" (387 : Nat) ({ cls := "SwallowSurvey", name := "sizeOf", desc := "(I)I" } : Jvm.MethodName)) ∈ lw_all := lw_g (lw_at lw_m4 152 rfl) rfl
theorem q954 : (Jvm.Cond.privateMethod ({ cls := "SwallowSurvey", name := "sizeOf", desc := "(I)I" } : Jvm.MethodName)) ∈ lw_tbl := lw_at lw_m4 153 rfl
theorem q955 : (Jvm.Cond.instanceMethod ({ cls := "SwallowSurvey", name := "sizeOf", desc := "(I)I" } : Jvm.MethodName)) ∈ lw_all := lw_g (lw_at lw_m4 154 rfl) rfl
theorem q956 : (Jvm.Cond.code ({ cls := "SwallowSurvey", name := "sizeOf", desc := "(I)I" } : Jvm.MethodName) prog_1_method_42_code (4 : Nat) (Option.some Jvm.ClassFile.FieldType.int)) ∈ lw_all := lw_g (lw_at lw_m4 155 rfl) rfl
theorem q958 : (Jvm.Cond.instanceMethod ({ cls := "SwallowSurvey", name := "yard", desc := "(IIII)I" } : Jvm.MethodName)) ∈ lw_all := lw_g (lw_at lw_m4 157 rfl) rfl
theorem q959 : (Jvm.Cond.selects "SwallowSurvey" ({ cls := "SwallowSurvey", name := "yard", desc := "(IIII)I" } : Jvm.MethodName) ({ cls := "SwallowSurvey", name := "yard", desc := "(IIII)I" } : Jvm.MethodName)) ∈ lw_all := lw_g (lw_at lw_m4 158 rfl) rfl
theorem q960 : (Jvm.Cond.code ({ cls := "SwallowSurvey", name := "yard", desc := "(IIII)I" } : Jvm.MethodName) prog_1_method_44_code (6 : Nat) (Option.some Jvm.ClassFile.FieldType.int)) ∈ lw_all := lw_g (lw_at lw_m4 159 rfl) rfl
theorem q961 : (Jvm.Cond.fieldLink "SwallowSurvey" (390 : Nat) "SwallowSurvey" "EAST" "[I") ∈ lw_all := lw_g (lw_at lw_m4 160 rfl) rfl
theorem q962 : (Jvm.Cond.fieldLink "SwallowSurvey" (393 : Nat) "SwallowSurvey" "SOUTH" "[I") ∈ lw_all := lw_g (lw_at lw_m4 161 rfl) rfl
theorem q963 : (Jvm.Cond.methodLink "SwallowSurvey" (396 : Nat) ({ cls := "SwallowSurvey$Web", name := "yardOf", desc := "(III)I" } : Jvm.MethodName)) ∈ lw_all := lw_g (lw_at lw_m4 162 rfl) rfl
theorem q965 : (Jvm.Cond.instanceMethod ({ cls := "SwallowSurvey", name := "suit", desc := "(II)I" } : Jvm.MethodName)) ∈ lw_all := lw_g (lw_at lw_m4 164 rfl) rfl
theorem q966 : (Jvm.Cond.selects "SwallowSurvey" ({ cls := "SwallowSurvey", name := "suit", desc := "(II)I" } : Jvm.MethodName) ({ cls := "SwallowSurvey", name := "suit", desc := "(II)I" } : Jvm.MethodName)) ∈ lw_all := lw_g (lw_at lw_m4 165 rfl) rfl
theorem q967 : (Jvm.Cond.code ({ cls := "SwallowSurvey", name := "suit", desc := "(II)I" } : Jvm.MethodName) prog_1_method_46_code (3 : Nat) (Option.some Jvm.ClassFile.FieldType.int)) ∈ lw_all := lw_g (lw_at lw_m4 166 rfl) rfl
theorem q968 : (Jvm.Cond.methodLink "SwallowSurvey" (414 : Nat) ({ cls := "SwallowSurvey", name := "judgeAt", desc := "(II)I" } : Jvm.MethodName)) ∈ lw_all := lw_g (lw_at lw_m4 167 rfl) rfl
theorem q969 : (Jvm.Cond.privateMethod ({ cls := "SwallowSurvey", name := "judgeAt", desc := "(II)I" } : Jvm.MethodName)) ∈ lw_tbl := lw_at lw_m4 168 rfl
theorem q970 : (Jvm.Cond.instanceMethod ({ cls := "SwallowSurvey", name := "judgeAt", desc := "(II)I" } : Jvm.MethodName)) ∈ lw_all := lw_g (lw_at lw_m4 169 rfl) rfl
theorem q971 : (Jvm.Cond.code ({ cls := "SwallowSurvey", name := "judgeAt", desc := "(II)I" } : Jvm.MethodName) prog_1_method_45_code (7 : Nat) (Option.some Jvm.ClassFile.FieldType.int)) ∈ lw_all := lw_g (lw_at lw_m4 170 rfl) rfl
theorem q972 : (Jvm.Cond.methodLink "SwallowSurvey" (405 : Nat) ({ cls := "java/lang/Math", name := "abs", desc := "(I)I" } : Jvm.MethodName)) ∈ lw_all := lw_g (lw_at lw_m4 171 rfl) rfl
theorem q976 : (Jvm.Cond.instanceMethod ({ cls := "SwallowSurvey", name := "steal", desc := "(III)I" } : Jvm.MethodName)) ∈ lw_all := lw_g (lw_at lw_m4 175 rfl) rfl
theorem q977 : (Jvm.Cond.selects "SwallowSurvey" ({ cls := "SwallowSurvey", name := "steal", desc := "(III)I" } : Jvm.MethodName) ({ cls := "SwallowSurvey", name := "steal", desc := "(III)I" } : Jvm.MethodName)) ∈ lw_all := lw_g (lw_at lw_m4 176 rfl) rfl
theorem q978 : (Jvm.Cond.code ({ cls := "SwallowSurvey", name := "steal", desc := "(III)I" } : Jvm.MethodName) prog_1_method_47_code (6 : Nat) (Option.some Jvm.ClassFile.FieldType.int)) ∈ lw_all := lw_g (lw_at lw_m4 177 rfl) rfl
theorem q980 : (Jvm.Cond.instanceMethod ({ cls := "SwallowSurvey", name := "ends", desc := "(II)I" } : Jvm.MethodName)) ∈ lw_all := lw_g (lw_at lw_m4 179 rfl) rfl
theorem q981 : (Jvm.Cond.selects "SwallowSurvey" ({ cls := "SwallowSurvey", name := "ends", desc := "(II)I" } : Jvm.MethodName) ({ cls := "SwallowSurvey", name := "ends", desc := "(II)I" } : Jvm.MethodName)) ∈ lw_all := lw_g (lw_at lw_m4 180 rfl) rfl
theorem q982 : (Jvm.Cond.code ({ cls := "SwallowSurvey", name := "ends", desc := "(II)I" } : Jvm.MethodName) prog_1_method_48_code (3 : Nat) (Option.some Jvm.ClassFile.FieldType.int)) ∈ lw_all := lw_g (lw_at lw_m4 181 rfl) rfl
theorem q984 : (Jvm.Cond.instanceMethod ({ cls := "SwallowSurvey", name := "plan", desc := "(III)I" } : Jvm.MethodName)) ∈ lw_all := lw_g (lw_at lw_m4 183 rfl) rfl
theorem q985 : (Jvm.Cond.selects "SwallowSurvey" ({ cls := "SwallowSurvey", name := "plan", desc := "(III)I" } : Jvm.MethodName) ({ cls := "SwallowSurvey", name := "plan", desc := "(III)I" } : Jvm.MethodName)) ∈ lw_all := lw_g (lw_at lw_m4 184 rfl) rfl
theorem q986 : (Jvm.Cond.code ({ cls := "SwallowSurvey", name := "plan", desc := "(III)I" } : Jvm.MethodName) prog_1_method_54_code (4 : Nat) (Option.some Jvm.ClassFile.FieldType.int)) ∈ lw_all := lw_g (lw_at lw_m4 185 rfl) rfl
theorem q987 : (Jvm.Cond.methodLink "SwallowSurvey" (438 : Nat) ({ cls := "SwallowSurvey", name := "wouldBeOne", desc := "(LSwallowSurvey$Land;II)Z" } : Jvm.MethodName)) ∈ lw_all := lw_g (lw_at lw_m4 186 rfl) rfl
theorem q988 : (Jvm.Cond.privateMethod ({ cls := "SwallowSurvey", name := "wouldBeOne", desc := "(LSwallowSurvey$Land;II)Z" } : Jvm.MethodName)) ∈ lw_tbl := lw_at lw_m4 187 rfl
theorem q989 : (Jvm.Cond.instanceMethod ({ cls := "SwallowSurvey", name := "wouldBeOne", desc := "(LSwallowSurvey$Land;II)Z" } : Jvm.MethodName)) ∈ lw_all := lw_g (lw_at lw_m4 188 rfl) rfl
theorem q990 : (Jvm.Cond.code ({ cls := "SwallowSurvey", name := "wouldBeOne", desc := "(LSwallowSurvey$Land;II)Z" } : Jvm.MethodName) prog_1_method_49_code (4 : Nat) (Option.some Jvm.ClassFile.FieldType.boolean)) ∈ lw_all := lw_g (lw_at lw_m4 189 rfl) rfl
theorem q991 : (Jvm.Cond.methodLink "SwallowSurvey" (429 : Nat) ({ cls := "SwallowSurvey$Web", name := "areOne", desc := "(II)Z" } : Jvm.MethodName)) ∈ lw_all := lw_g (lw_at lw_m4 190 rfl) rfl
theorem q995 : (Jvm.Cond.methodLink "SwallowSurvey" (442 : Nat) ({ cls := "SwallowSurvey", name := "plans", desc := "(IIII)V" } : Jvm.MethodName)) ∈ lw_all := lw_g (lw_at lw_m4 194 rfl) rfl
theorem q996 : (Jvm.Cond.privateMethod ({ cls := "SwallowSurvey", name := "plans", desc := "(IIII)V" } : Jvm.MethodName)) ∈ lw_tbl := lw_at lw_m4 195 rfl
theorem q997 : (Jvm.Cond.instanceMethod ({ cls := "SwallowSurvey", name := "plans", desc := "(IIII)V" } : Jvm.MethodName)) ∈ lw_all := lw_g (lw_at lw_m4 196 rfl) rfl
theorem q998 : (Jvm.Cond.code ({ cls := "SwallowSurvey", name := "plans", desc := "(IIII)V" } : Jvm.MethodName) prog_1_method_53_code (5 : Nat) (Option.none : Option Jvm.ClassFile.FieldType)) ∈ lw_all := lw_g (lw_at lw_m4 197 rfl) rfl
theorem q999 : (Jvm.Cond.methodLink "SwallowSurvey" (455 : Nat) ({ cls := "SwallowSurvey$Land", name := "become", desc := "(LSwallowSurvey$Land;)V" } : Jvm.MethodName)) ∈ lw_all := lw_g (lw_at lw_m4 198 rfl) rfl
theorem q1004 : (Jvm.Cond.static ({ cls := "SwallowSurvey", name := "copies", desc := "([I[I)V" } : Jvm.MethodName)) ∈ lw_all := lw_g (lw_at lw_m4 203 rfl) rfl
theorem q1005 : (Jvm.Cond.code ({ cls := "SwallowSurvey", name := "copies", desc := "([I[I)V" } : Jvm.MethodName) prog_1_method_26_code (2 : Nat) (Option.none : Option Jvm.ClassFile.FieldType)) ∈ lw_all := lw_g (lw_at lw_m4 204 rfl) rfl
theorem q1007 : (Jvm.Cond.static ({ cls := "SwallowSurvey", name := "copiesFlags", desc := "([Z[Z)V" } : Jvm.MethodName)) ∈ lw_all := lw_g (lw_at lw_m4 206 rfl) rfl
theorem q1008 : (Jvm.Cond.code ({ cls := "SwallowSurvey", name := "copiesFlags", desc := "([Z[Z)V" } : Jvm.MethodName) prog_1_method_27_code (2 : Nat) (Option.none : Option Jvm.ClassFile.FieldType)) ∈ lw_all := lw_g (lw_at lw_m4 207 rfl) rfl
theorem q1010 : (Jvm.Cond.methodLink "SwallowSurvey" (458 : Nat) ({ cls := "SwallowSurvey", name := "findsOne", desc := "(II)V" } : Jvm.MethodName)) ∈ lw_all := lw_g (lw_at lw_m4 209 rfl) rfl
theorem q1011 : (Jvm.Cond.privateMethod ({ cls := "SwallowSurvey", name := "findsOne", desc := "(II)V" } : Jvm.MethodName)) ∈ lw_tbl := lw_at lw_m4 210 rfl
theorem q1012 : (Jvm.Cond.instanceMethod ({ cls := "SwallowSurvey", name := "findsOne", desc := "(II)V" } : Jvm.MethodName)) ∈ lw_all := lw_g (lw_at lw_m4 211 rfl) rfl
theorem q1013 : (Jvm.Cond.code ({ cls := "SwallowSurvey", name := "findsOne", desc := "(II)V" } : Jvm.MethodName) prog_1_method_51_code (4 : Nat) (Option.none : Option Jvm.ClassFile.FieldType)) ∈ lw_all := lw_g (lw_at lw_m4 212 rfl) rfl
theorem q1014 : (Jvm.Cond.methodLink "SwallowSurvey" (432 : Nat) ({ cls := "SwallowSurvey", name := "canDig", desc := "(I)Z" } : Jvm.MethodName)) ∈ lw_all := lw_g (lw_at lw_m4 213 rfl) rfl
theorem q1015 : (Jvm.Cond.privateMethod ({ cls := "SwallowSurvey", name := "canDig", desc := "(I)Z" } : Jvm.MethodName)) ∈ lw_tbl := lw_at lw_m4 214 rfl
theorem q1016 : (Jvm.Cond.instanceMethod ({ cls := "SwallowSurvey", name := "canDig", desc := "(I)Z" } : Jvm.MethodName)) ∈ lw_all := lw_g (lw_at lw_m4 215 rfl) rfl
theorem q1017 : (Jvm.Cond.code ({ cls := "SwallowSurvey", name := "canDig", desc := "(I)Z" } : Jvm.MethodName) prog_1_method_50_code (2 : Nat) (Option.some Jvm.ClassFile.FieldType.boolean)) ∈ lw_all := lw_g (lw_at lw_m4 216 rfl) rfl
theorem q1018 : (Jvm.Cond.methodLink "SwallowSurvey" (461 : Nat) ({ cls := "SwallowSurvey", name := "findsTwo", desc := "(II)V" } : Jvm.MethodName)) ∈ lw_all := lw_g (lw_at lw_m4 217 rfl) rfl
theorem q1019 : (Jvm.Cond.privateMethod ({ cls := "SwallowSurvey", name := "findsTwo", desc := "(II)V" } : Jvm.MethodName)) ∈ lw_tbl := lw_at lw_m4 218 rfl
theorem q1020 : (Jvm.Cond.instanceMethod ({ cls := "SwallowSurvey", name := "findsTwo", desc := "(II)V" } : Jvm.MethodName)) ∈ lw_all := lw_g (lw_at lw_m4 219 rfl) rfl
theorem q1021 : (Jvm.Cond.code ({ cls := "SwallowSurvey", name := "findsTwo", desc := "(II)V" } : Jvm.MethodName) prog_1_method_52_code (6 : Nat) (Option.none : Option Jvm.ClassFile.FieldType)) ∈ lw_all := lw_g (lw_at lw_m4 220 rfl) rfl
theorem q1023 : (Jvm.Cond.instanceMethod ({ cls := "SwallowSurvey", name := "hatch", desc := "(III)I" } : Jvm.MethodName)) ∈ lw_all := lw_g (lw_at lw_m4 222 rfl) rfl
theorem q1024 : (Jvm.Cond.selects "SwallowSurvey" ({ cls := "SwallowSurvey", name := "hatch", desc := "(III)I" } : Jvm.MethodName) ({ cls := "SwallowSurvey", name := "hatch", desc := "(III)I" } : Jvm.MethodName)) ∈ lw_all := lw_g (lw_at lw_m4 223 rfl) rfl
theorem q1025 : (Jvm.Cond.code ({ cls := "SwallowSurvey", name := "hatch", desc := "(III)I" } : Jvm.MethodName) prog_1_method_55_code (5 : Nat) (Option.some Jvm.ClassFile.FieldType.int)) ∈ lw_all := lw_g (lw_at lw_m4 224 rfl) rfl
theorem q1027 : (Jvm.Cond.instanceMethod ({ cls := "SwallowSurvey", name := "odds", desc := "(II)I" } : Jvm.MethodName)) ∈ lw_all := lw_g (lw_at lw_m4 226 rfl) rfl
theorem q1028 : (Jvm.Cond.selects "SwallowSurvey" ({ cls := "SwallowSurvey", name := "odds", desc := "(II)I" } : Jvm.MethodName) ({ cls := "SwallowSurvey", name := "odds", desc := "(II)I" } : Jvm.MethodName)) ∈ lw_all := lw_g (lw_at lw_m4 227 rfl) rfl
theorem q1029 : (Jvm.Cond.code ({ cls := "SwallowSurvey", name := "odds", desc := "(II)I" } : Jvm.MethodName) prog_1_method_57_code (7 : Nat) (Option.some Jvm.ClassFile.FieldType.int)) ∈ lw_all := lw_g (lw_at lw_m4 228 rfl) rfl
theorem q1030 : (Jvm.Cond.methodLink "SwallowSurvey" (476 : Nat) ({ cls := "SwallowSurvey", name := "hatches", desc := "(I)V" } : Jvm.MethodName)) ∈ lw_all := lw_g (lw_at lw_m4 229 rfl) rfl
theorem q1031 : (Jvm.Cond.privateMethod ({ cls := "SwallowSurvey", name := "hatches", desc := "(I)V" } : Jvm.MethodName)) ∈ lw_tbl := lw_at lw_m4 230 rfl
theorem q1032 : (Jvm.Cond.instanceMethod ({ cls := "SwallowSurvey", name := "hatches", desc := "(I)V" } : Jvm.MethodName)) ∈ lw_all := lw_g (lw_at lw_m4 231 rfl) rfl
theorem q1033 : (Jvm.Cond.code ({ cls := "SwallowSurvey", name := "hatches", desc := "(I)V" } : Jvm.MethodName) prog_1_method_56_code (3 : Nat) (Option.none : Option Jvm.ClassFile.FieldType)) ∈ lw_all := lw_g (lw_at lw_m4 232 rfl) rfl
theorem q1035 : (Jvm.Cond.instanceMethod ({ cls := "SwallowSurvey", name := "claim", desc := "(IIZ)Z" } : Jvm.MethodName)) ∈ lw_all := lw_g (lw_at lw_m4 234 rfl) rfl
theorem q1036 : (Jvm.Cond.selects "SwallowSurvey" ({ cls := "SwallowSurvey", name := "claim", desc := "(IIZ)Z" } : Jvm.MethodName) ({ cls := "SwallowSurvey", name := "claim", desc := "(IIZ)Z" } : Jvm.MethodName)) ∈ lw_all := lw_g (lw_at lw_m4 235 rfl) rfl
theorem q1037 : (Jvm.Cond.code ({ cls := "SwallowSurvey", name := "claim", desc := "(IIZ)Z" } : Jvm.MethodName) prog_1_method_58_code (4 : Nat) (Option.some Jvm.ClassFile.FieldType.boolean)) ∈ lw_all := lw_g (lw_at lw_m4 236 rfl) rfl
theorem q1039 : (Jvm.Cond.instanceMethod ({ cls := "SwallowSurvey", name := "back", desc := "(I)I" } : Jvm.MethodName)) ∈ lw_all := lw_g (lw_at lw_m4 238 rfl) rfl
theorem q1040 : (Jvm.Cond.selects "SwallowSurvey" ({ cls := "SwallowSurvey", name := "back", desc := "(I)I" } : Jvm.MethodName) ({ cls := "SwallowSurvey", name := "back", desc := "(I)I" } : Jvm.MethodName)) ∈ lw_all := lw_g (lw_at lw_m4 239 rfl) rfl
theorem q1041 : (Jvm.Cond.code ({ cls := "SwallowSurvey", name := "back", desc := "(I)I" } : Jvm.MethodName) prog_1_method_60_code (6 : Nat) (Option.some Jvm.ClassFile.FieldType.int)) ∈ lw_all := lw_g (lw_at lw_m5 0 rfl) rfl
theorem q1042 : (Jvm.Cond.methodLink "SwallowSurvey" (491 : Nat) ({ cls := "SwallowSurvey", name := "goesWithAll", desc := "()Z" } : Jvm.MethodName)) ∈ lw_all := lw_g (lw_at lw_m5 1 rfl) rfl
theorem q1043 : (Jvm.Cond.privateMethod ({ cls := "SwallowSurvey", name := "goesWithAll", desc := "()Z" } : Jvm.MethodName)) ∈ lw_tbl := lw_at lw_m5 2 rfl
theorem q1044 : (Jvm.Cond.instanceMethod ({ cls := "SwallowSurvey", name := "goesWithAll", desc := "()Z" } : Jvm.MethodName)) ∈ lw_all := lw_g (lw_at lw_m5 3 rfl) rfl
theorem q1045 : (Jvm.Cond.code ({ cls := "SwallowSurvey", name := "goesWithAll", desc := "()Z" } : Jvm.MethodName) prog_1_method_59_code (2 : Nat) (Option.some Jvm.ClassFile.FieldType.boolean)) ∈ lw_all := lw_g (lw_at lw_m5 4 rfl) rfl
theorem q1047 : (Jvm.Cond.instanceMethod ({ cls := "SwallowSurvey", name := "part", desc := "(II)I" } : Jvm.MethodName)) ∈ lw_all := lw_g (lw_at lw_m5 6 rfl) rfl
theorem q1048 : (Jvm.Cond.selects "SwallowSurvey" ({ cls := "SwallowSurvey", name := "part", desc := "(II)I" } : Jvm.MethodName) ({ cls := "SwallowSurvey", name := "part", desc := "(II)I" } : Jvm.MethodName)) ∈ lw_all := lw_g (lw_at lw_m5 7 rfl) rfl
theorem q1049 : (Jvm.Cond.code ({ cls := "SwallowSurvey", name := "part", desc := "(II)I" } : Jvm.MethodName) prog_1_method_62_code (7 : Nat) (Option.some Jvm.ClassFile.FieldType.int)) ∈ lw_all := lw_g (lw_at lw_m5 8 rfl) rfl
theorem q1050 : (Jvm.Cond.methodLink "SwallowSurvey" (495 : Nat) ({ cls := "java/util/Arrays", name := "fill", desc := "([II)V" } : Jvm.MethodName)) ∈ lw_all := lw_g (lw_at lw_m5 9 rfl) rfl
theorem q1051 : (Jvm.Cond.methodLink "SwallowSurvey" (505 : Nat) ({ cls := "SwallowSurvey", name := "findsWay", desc := "(II)Z" } : Jvm.MethodName)) ∈ lw_all := lw_g (lw_at lw_m5 10 rfl) rfl
theorem q1052 : (Jvm.Cond.privateMethod ({ cls := "SwallowSurvey", name := "findsWay", desc := "(II)Z" } : Jvm.MethodName)) ∈ lw_tbl := lw_at lw_m5 11 rfl
theorem q1053 : (Jvm.Cond.instanceMethod ({ cls := "SwallowSurvey", name := "findsWay", desc := "(II)Z" } : Jvm.MethodName)) ∈ lw_all := lw_g (lw_at lw_m5 12 rfl) rfl
theorem q1054 : (Jvm.Cond.code ({ cls := "SwallowSurvey", name := "findsWay", desc := "(II)Z" } : Jvm.MethodName) prog_1_method_61_code (9 : Nat) (Option.some Jvm.ClassFile.FieldType.boolean)) ∈ lw_all := lw_g (lw_at lw_m5 13 rfl) rfl
theorem q1055 : (Jvm.Cond.methodLink "SwallowSurvey" (501 : Nat) ({ cls := "SwallowSurvey$Web", name := "isOpen", desc := "(LSwallowSurvey$Land;III)Z" } : Jvm.MethodName)) ∈ lw_all := lw_g (lw_at lw_m5 14 rfl) rfl
theorem q1057 : (Jvm.Cond.instanceMethod ({ cls := "SwallowSurvey", name := "image", desc := "(Z)Z" } : Jvm.MethodName)) ∈ lw_all := lw_g (lw_at lw_m5 16 rfl) rfl
theorem q1058 : (Jvm.Cond.selects "SwallowSurvey" ({ cls := "SwallowSurvey", name := "image", desc := "(Z)Z" } : Jvm.MethodName) ({ cls := "SwallowSurvey", name := "image", desc := "(Z)Z" } : Jvm.MethodName)) ∈ lw_all := lw_g (lw_at lw_m5 17 rfl) rfl
theorem q1059 : (Jvm.Cond.code ({ cls := "SwallowSurvey", name := "image", desc := "(Z)Z" } : Jvm.MethodName) prog_1_method_63_code (2 : Nat) (Option.some Jvm.ClassFile.FieldType.boolean)) ∈ lw_all := lw_g (lw_at lw_m5 18 rfl) rfl
theorem q1060 : (Jvm.Cond.methodLink "SwallowSurvey" (512 : Nat) ({ cls := "SwallowSurvey$Web", name := "become", desc := "(LSwallowSurvey$Web;)V" } : Jvm.MethodName)) ∈ lw_all := lw_g (lw_at lw_m5 19 rfl) rfl
theorem q1066 : (Jvm.Cond.instanceMethod ({ cls := "SwallowSurvey", name := "look", desc := "(I)I" } : Jvm.MethodName)) ∈ lw_all := lw_g (lw_at lw_m5 25 rfl) rfl
theorem q1067 : (Jvm.Cond.selects "SwallowSurvey" ({ cls := "SwallowSurvey", name := "look", desc := "(I)I" } : Jvm.MethodName) ({ cls := "SwallowSurvey", name := "look", desc := "(I)I" } : Jvm.MethodName)) ∈ lw_all := lw_g (lw_at lw_m5 26 rfl) rfl
theorem q1068 : (Jvm.Cond.code ({ cls := "SwallowSurvey", name := "look", desc := "(I)I" } : Jvm.MethodName) prog_1_method_65_code (2 : Nat) (Option.some Jvm.ClassFile.FieldType.int)) ∈ lw_all := lw_g (lw_at lw_m5 27 rfl) rfl
theorem q1069 : (Jvm.Cond.methodLink "SwallowSurvey" (515 : Nat) ({ cls := "SwallowSurvey", name := "threads", desc := "()I" } : Jvm.MethodName)) ∈ lw_all := lw_g (lw_at lw_m5 28 rfl) rfl
theorem q1070 : (Jvm.Cond.privateMethod ({ cls := "SwallowSurvey", name := "threads", desc := "()I" } : Jvm.MethodName)) ∈ lw_tbl := lw_at lw_m5 29 rfl
theorem q1071 : (Jvm.Cond.instanceMethod ({ cls := "SwallowSurvey", name := "threads", desc := "()I" } : Jvm.MethodName)) ∈ lw_all := lw_g (lw_at lw_m5 30 rfl) rfl
theorem q1072 : (Jvm.Cond.code ({ cls := "SwallowSurvey", name := "threads", desc := "()I" } : Jvm.MethodName) prog_1_method_64_code (3 : Nat) (Option.some Jvm.ClassFile.FieldType.int)) ∈ lw_all := lw_g (lw_at lw_m5 31 rfl) rfl
theorem in_X0 : ∀ w ∈ wsX00, w ∈ lw_all := lw_in wsX00 [362, 364, 366, 368, 370, 372, 374, 376, 378, 380, 382, 384, 386, 388, 390, 392, 394, 396, 398, 400, 402, 404, 406, 408, 410, 412, 414, 416, 418, 420, 422] (by decide +kernel) (by decide +kernel)
