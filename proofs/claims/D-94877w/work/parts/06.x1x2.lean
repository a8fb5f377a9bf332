/-! SwallowSurvey$Text -/
set_option maxRecDepth 100000
def RX1 : String := "SwallowSurvey$Text"
def TX1 : u_T := fun k => match k with
  | 0 => ("SwallowSurvey$Text", "word", "[I", true)
  | 1 => ("SwallowSurvey$Text", "when", "[LSwallowSurvey$Term;", true)
  | _ => ("SwallowSurvey$Text", "many", "I", false)
def tyX1 : Nat → FieldType := fun k => match k with
  | 0 => .array .int
  | 1 => .array (.object "SwallowSurvey$Term")
  | _ => .int
abbrev wsX10 : List Cond := u_ws RX1 TX1 3
theorem nmX1 : ∀ a, a < 3 → ∀ b, b < 3 → a ≠ b → (TX1 a).2.1 ≠ (TX1 b).2.1 := by decide +kernel
theorem tyX1_ok : ∀ k, k < 3 → parseFieldDescriptor (TX1 k).2.2.1 = some (tyX1 k) := by decide +kernel
abbrev cX1_init : ByteArray := prog_8_method_1_code
def yX1_init : MethodName := ⟨RX1, "<init>", "()V"⟩
def dkwX1_init_0 : List UInt8 := [42, 183, 0, 3, 42, 16, 16, 188, 10, 181, 0, 9, 42, 16, 16, 189, 0, 15, 181, 0, 17, 177]
abbrev dktX1_init_0 : List UInt8 := dkwX1_init_0 ++ []
theorem dksX1_init_0 : cX1_init.data.toList.drop 0 = dktX1_init_0 := by decide +kernel
theorem dX1_init_0 : decode cX1_init 0 = .ok (.aload_n 0, 1) := dk_42 (dk_at dksX1_init_0 0 rfl rfl)
theorem dX1_init_1 : decode cX1_init 1 = .ok (.invokespecial 3, 3) := dk_183 0 3 (dk_at dksX1_init_0 1 rfl rfl)
theorem dX1_init_4 : decode cX1_init 4 = .ok (.aload_n 0, 1) := dk_42 (dk_at dksX1_init_0 4 rfl rfl)
theorem dX1_init_5 : decode cX1_init 5 = .ok (.bipush 16, 2) := dk_16 16 (dk_at dksX1_init_0 5 rfl rfl)
theorem dX1_init_7 : decode cX1_init 7 = .ok (.newarray .int, 2) := dk_188_10 (dk_at dksX1_init_0 7 rfl rfl)
theorem dX1_init_9 : decode cX1_init 9 = .ok (.putfield 9, 3) := dk_181 0 9 (dk_at dksX1_init_0 9 rfl rfl)
theorem dX1_init_12 : decode cX1_init 12 = .ok (.aload_n 0, 1) := dk_42 (dk_at dksX1_init_0 12 rfl rfl)
theorem dX1_init_13 : decode cX1_init 13 = .ok (.bipush 16, 2) := dk_16 16 (dk_at dksX1_init_0 13 rfl rfl)
theorem dX1_init_15 : decode cX1_init 15 = .ok (.anewarray 15, 3) := dk_189 0 15 (dk_at dksX1_init_0 15 rfl rfl)
theorem dX1_init_18 : decode cX1_init 18 = .ok (.putfield 17, 3) := dk_181 0 17 (dk_at dksX1_init_0 18 rfl rfl)
theorem dX1_init_21 : decode cX1_init 21 = .ok (.return_, 1) := dk_177 (dk_at dksX1_init_0 21 rfl rfl)
abbrev cX1_first : ByteArray := prog_8_method_2_code
def yX1_first : MethodName := ⟨RX1, "first", "([I)I"⟩
def dkwX1_first_1 : List UInt8 := [50, 43, 182, 0, 25, 153, 0, 5, 28, 172, 132, 2, 1, 167, 255, 221, 2, 172]
abbrev dktX1_first_1 : List UInt8 := dkwX1_first_1 ++ []
def dkwX1_first_0 : List UInt8 := [3, 61, 28, 42, 180, 0, 21, 162, 0, 33, 42, 180, 0, 17, 28, 50, 198, 0, 16, 42, 180, 0, 17, 28]
abbrev dktX1_first_0 : List UInt8 := dkwX1_first_0 ++ dktX1_first_1
theorem dksX1_first_0 : cX1_first.data.toList.drop 0 = dktX1_first_0 := by decide +kernel
theorem dksX1_first_1 : cX1_first.data.toList.drop 24 = dktX1_first_1 := dk_seg dksX1_first_0 24 rfl rfl
theorem dX1_first_0 : decode cX1_first 0 = .ok (.iconst 0, 1) := dk_3 (dk_at dksX1_first_0 0 rfl rfl)
theorem dX1_first_1 : decode cX1_first 1 = .ok (.istore_n 2, 1) := dk_61 (dk_at dksX1_first_0 1 rfl rfl)
theorem dX1_first_2 : decode cX1_first 2 = .ok (.iload_n 2, 1) := dk_28 (dk_at dksX1_first_0 2 rfl rfl)
theorem dX1_first_3 : decode cX1_first 3 = .ok (.aload_n 0, 1) := dk_42 (dk_at dksX1_first_0 3 rfl rfl)
theorem dX1_first_4 : decode cX1_first 4 = .ok (.getfield 21, 3) := dk_180 0 21 (dk_at dksX1_first_0 4 rfl rfl)
theorem dX1_first_7 : decode cX1_first 7 = .ok (.if_icmp .ge 33, 3) := dk_162 0 33 (dk_at dksX1_first_0 7 rfl rfl)
theorem dX1_first_10 : decode cX1_first 10 = .ok (.aload_n 0, 1) := dk_42 (dk_at dksX1_first_0 10 rfl rfl)
theorem dX1_first_11 : decode cX1_first 11 = .ok (.getfield 17, 3) := dk_180 0 17 (dk_at dksX1_first_0 11 rfl rfl)
theorem dX1_first_14 : decode cX1_first 14 = .ok (.iload_n 2, 1) := dk_28 (dk_at dksX1_first_0 14 rfl rfl)
theorem dX1_first_15 : decode cX1_first 15 = .ok (.aaload, 1) := dk_50 (dk_at dksX1_first_0 15 rfl rfl)
theorem dX1_first_16 : decode cX1_first 16 = .ok (.ifnull 16, 3) := dk_198 0 16 (dk_at dksX1_first_0 16 rfl rfl)
theorem dX1_first_19 : decode cX1_first 19 = .ok (.aload_n 0, 1) := dk_42 (dk_at dksX1_first_0 19 rfl rfl)
theorem dX1_first_20 : decode cX1_first 20 = .ok (.getfield 17, 3) := dk_180 0 17 (dk_at dksX1_first_0 20 rfl rfl)
theorem dX1_first_23 : decode cX1_first 23 = .ok (.iload_n 2, 1) := dk_28 (dk_at dksX1_first_0 23 rfl rfl)
theorem dX1_first_24 : decode cX1_first 24 = .ok (.aaload, 1) := dk_50 (dk_at dksX1_first_1 0 rfl rfl)
theorem dX1_first_25 : decode cX1_first 25 = .ok (.aload_n 1, 1) := dk_43 (dk_at dksX1_first_1 1 rfl rfl)
theorem dX1_first_26 : decode cX1_first 26 = .ok (.invokevirtual 25, 3) := dk_182 0 25 (dk_at dksX1_first_1 2 rfl rfl)
theorem dX1_first_29 : decode cX1_first 29 = .ok (.ifCond .eq 5, 3) := dk_153 0 5 (dk_at dksX1_first_1 5 rfl rfl)
theorem dX1_first_32 : decode cX1_first 32 = .ok (.iload_n 2, 1) := dk_28 (dk_at dksX1_first_1 8 rfl rfl)
theorem dX1_first_33 : decode cX1_first 33 = .ok (.ireturn, 1) := dk_172 (dk_at dksX1_first_1 9 rfl rfl)
theorem dX1_first_34 : decode cX1_first 34 = .ok (.iinc 2 1, 3) := dk_132 2 1 (dk_at dksX1_first_1 10 rfl rfl)
theorem dX1_first_37 : decode cX1_first 37 = .ok (.goto (-35), 3) := dk_167 255 221 (dk_at dksX1_first_1 13 rfl rfl)
theorem dX1_first_40 : decode cX1_first 40 = .ok (.iconst (-1), 1) := dk_2 (dk_at dksX1_first_1 16 rfl rfl)
theorem dX1_first_41 : decode cX1_first 41 = .ok (.ireturn, 1) := dk_172 (dk_at dksX1_first_1 17 rfl rfl)
theorem q83 : (Jvm.Cond.initialized "SwallowSurvey$Text") ∈ lw_all := lw_g (lw_at lw_m1 2 rfl) rfl
theorem q136 : (Jvm.Cond.instantiable "SwallowSurvey$Text" (3 : Nat)) ∈ lw_all := lw_g (lw_at lw_m1 55 rfl) rfl
theorem q138 : (Jvm.Cond.instanceMethod ({ cls := "SwallowSurvey$Text", name := "<init>", desc := "()V" } : Jvm.MethodName)) ∈ lw_all := lw_g (lw_at lw_m1 57 rfl) rfl
theorem q139 : (Jvm.Cond.code ({ cls := "SwallowSurvey$Text", name := "<init>", desc := "()V" } : Jvm.MethodName) prog_8_method_1_code (1 : Nat) (Option.none : Option Jvm.ClassFile.FieldType)) ∈ lw_all := lw_g (lw_at lw_m1 58 rfl) rfl
theorem q140 : (Jvm.Cond.methodLink "SwallowSurvey$Text" (3 : Nat) ({ cls := "java/lang/Object", name := "<init>", desc := "()V" } : Jvm.MethodName)) ∈ lw_all := lw_g (lw_at lw_m1 59 rfl) rfl
theorem q141 : (Jvm.Cond.classLink "SwallowSurvey$Text" (15 : Nat) "SwallowSurvey$Term") ∈ lw_all := lw_g (lw_at lw_m1 60 rfl) rfl
theorem q143 : (Jvm.Cond.fieldLink "SwallowSurvey$Text" (9 : Nat) "SwallowSurvey$Text" "word" "[I") ∈ lw_all := lw_g (lw_at lw_m1 62 rfl) rfl
theorem q146 : (Jvm.Cond.fieldLink "SwallowSurvey$Text" (17 : Nat) "SwallowSurvey$Text" "when" "[LSwallowSurvey$Term;") ∈ lw_all := lw_g (lw_at lw_m1 65 rfl) rfl
theorem q148 : (Jvm.Cond.fieldLink "SwallowSurvey$Text" (21 : Nat) "SwallowSurvey$Text" "many" "I") ∈ lw_all := lw_g (lw_at lw_m1 67 rfl) rfl
theorem q150 : (Jvm.Cond.laysFinal "SwallowSurvey$Text" "SwallowSurvey$Text" "word" "[I") ∈ lw_all := lw_g (lw_at lw_m1 69 rfl) rfl
theorem q151 : (Jvm.Cond.soleField "SwallowSurvey$Text" "word") ∈ lw_all := lw_g (lw_at lw_m1 70 rfl) rfl
theorem q152 : (Jvm.Cond.laysFinal "SwallowSurvey$Text" "SwallowSurvey$Text" "when" "[LSwallowSurvey$Term;") ∈ lw_all := lw_g (lw_at lw_m1 71 rfl) rfl
theorem q153 : (Jvm.Cond.soleField "SwallowSurvey$Text" "when") ∈ lw_all := lw_g (lw_at lw_m1 72 rfl) rfl
theorem q154 : (Jvm.Cond.lays "SwallowSurvey$Text" "SwallowSurvey$Text" "many" "I") ∈ lw_all := lw_g (lw_at lw_m1 73 rfl) rfl
theorem q155 : (Jvm.Cond.soleField "SwallowSurvey$Text" "many") ∈ lw_all := lw_g (lw_at lw_m1 74 rfl) rfl
theorem q156 : (Jvm.Cond.superclass "SwallowSurvey$Text" "java/lang/Object") ∈ lw_all := lw_g (lw_at lw_m1 75 rfl) rfl
theorem q891 : (Jvm.Cond.instanceMethod ({ cls := "SwallowSurvey$Text", name := "first", desc := "([I)I" } : Jvm.MethodName)) ∈ lw_all := lw_g (lw_at lw_m4 90 rfl) rfl
theorem q892 : (Jvm.Cond.selects "SwallowSurvey$Text" ({ cls := "SwallowSurvey$Text", name := "first", desc := "([I)I" } : Jvm.MethodName) ({ cls := "SwallowSurvey$Text", name := "first", desc := "([I)I" } : Jvm.MethodName)) ∈ lw_all := lw_g (lw_at lw_m4 91 rfl) rfl
theorem q893 : (Jvm.Cond.code ({ cls := "SwallowSurvey$Text", name := "first", desc := "([I)I" } : Jvm.MethodName) prog_8_method_2_code (3 : Nat) (Option.some Jvm.ClassFile.FieldType.int)) ∈ lw_all := lw_g (lw_at lw_m4 92 rfl) rfl
theorem q894 : (Jvm.Cond.methodLink "SwallowSurvey$Text" (25 : Nat) ({ cls := "SwallowSurvey$Term", name := "of", desc := "([I)I" } : Jvm.MethodName)) ∈ lw_all := lw_g (lw_at lw_m4 93 rfl) rfl
theorem in_X1 : ∀ w ∈ wsX10, w ∈ lw_all := lw_in wsX10 [150, 152, 154] (by decide +kernel) (by decide +kernel)
/-! SwallowSurvey$Land -/
set_option maxRecDepth 100000
def RX2 : String := "SwallowSurvey$Land"
def TX2 : u_T := fun k => match k with
  | 0 => ("SwallowSurvey$Land", "w", "I", false)
  | 1 => ("SwallowSurvey$Land", "h", "I", false)
  | 2 => ("SwallowSurvey$Land", "state", "I", false)
  | 3 => ("SwallowSurvey$Land", "year", "I", false)
  | 4 => ("SwallowSurvey$Land", "nests", "I", false)
  | 5 => ("SwallowSurvey$Land", "swallows", "I", false)
  | 6 => ("SwallowSurvey$Land", "hatchings", "I", false)
  | 7 => ("SwallowSurvey$Land", "claims", "I", false)
  | 8 => ("SwallowSurvey$Land", "flies", "[I", true)
  | 9 => ("SwallowSurvey$Land", "price", "[I", true)
  | 10 => ("SwallowSurvey$Land", "moves", "[I", true)
  | 11 => ("SwallowSurvey$Land", "lastName", "[I", true)
  | 12 => ("SwallowSurvey$Land", "nestX", "[I", true)
  | 13 => ("SwallowSurvey$Land", "nestY", "[I", true)
  | 14 => ("SwallowSurvey$Land", "hatchCell", "[I", true)
  | 15 => ("SwallowSurvey$Land", "hatchFlies", "[I", true)
  | 16 => ("SwallowSurvey$Land", "hatchChance", "[I", true)
  | 17 => ("SwallowSurvey$Land", "claimA", "[I", true)
  | 18 => ("SwallowSurvey$Land", "claimB", "[I", true)
  | 19 => ("SwallowSurvey$Land", "pond", "[Z", true)
  | 20 => ("SwallowSurvey$Land", "barn", "[Z", true)
  | 21 => ("SwallowSurvey$Land", "cat", "[Z", true)
  | 22 => ("SwallowSurvey$Land", "mirror", "[Z", true)
  | 23 => ("SwallowSurvey$Land", "isOne", "[Z", true)
  | _ => ("SwallowSurvey$Land", "swallow", "[LSwallowSurvey$Swallow;", true)
def tyX2 : Nat → FieldType := fun k => match k with
  | 0 => .int
  | 1 => .int
  | 2 => .int
  | 3 => .int
  | 4 => .int
  | 5 => .int
  | 6 => .int
  | 7 => .int
  | 8 => .array .int
  | 9 => .array .int
  | 10 => .array .int
  | 11 => .array .int
  | 12 => .array .int
  | 13 => .array .int
  | 14 => .array .int
  | 15 => .array .int
  | 16 => .array .int
  | 17 => .array .int
  | 18 => .array .int
  | 19 => .array .boolean
  | 20 => .array .boolean
  | 21 => .array .boolean
  | 22 => .array .boolean
  | 23 => .array .boolean
  | _ => .array (.object "SwallowSurvey$Swallow")
abbrev wsX20 : List Cond := u_ws RX2 TX2 25
set_option maxRecDepth 100000 in
theorem nmX2 : ∀ a, a < 25 → ∀ b, b < 25 → a ≠ b → (TX2 a).2.1 ≠ (TX2 b).2.1 := by decide +kernel
set_option maxRecDepth 100000 in
theorem tyX2_ok : ∀ k, k < 25 → parseFieldDescriptor (TX2 k).2.2.1 = some (tyX2 k) := by decide +kernel
abbrev cX2_init : ByteArray := prog_3_method_1_code
def yX2_init : MethodName := ⟨RX2, "<init>", "()V"⟩
def dkwX2_init_6 : List UInt8 := [42, 16, 8, 189, 0, 68, 181, 0, 70, 42, 180, 0, 22, 4, 184, 0, 74, 177]
abbrev dktX2_init_6 : List UInt8 := dkwX2_init_6 ++ []
def dkwX2_init_5 : List UInt8 := [42, 16, 100, 188, 4, 181, 0, 59, 42, 16, 121, 188, 4, 181, 0, 62, 42, 16, 20, 188, 4, 181, 0, 65]
abbrev dktX2_init_5 : List UInt8 := dkwX2_init_5 ++ dktX2_init_6
def dkwX2_init_4 : List UInt8 := [42, 16, 20, 188, 10, 181, 0, 49, 42, 16, 100, 188, 4, 181, 0, 52, 42, 16, 100, 188, 4, 181, 0, 56]
abbrev dktX2_init_4 : List UInt8 := dkwX2_init_4 ++ dktX2_init_5
def dkwX2_init_3 : List UInt8 := [42, 16, 6, 188, 10, 181, 0, 40, 42, 16, 6, 188, 10, 181, 0, 43, 42, 16, 20, 188, 10, 181, 0, 46]
abbrev dktX2_init_3 : List UInt8 := dkwX2_init_3 ++ dktX2_init_4
def dkwX2_init_2 : List UInt8 := [42, 16, 6, 188, 10, 181, 0, 31, 42, 16, 6, 188, 10, 181, 0, 34, 42, 16, 6, 188, 10, 181, 0, 37]
abbrev dktX2_init_2 : List UInt8 := dkwX2_init_2 ++ dktX2_init_3
def dkwX2_init_1 : List UInt8 := [42, 16, 100, 188, 10, 181, 0, 22, 42, 16, 100, 188, 10, 181, 0, 25, 42, 16, 100, 188, 10, 181, 0, 28]
abbrev dktX2_init_1 : List UInt8 := dkwX2_init_1 ++ dktX2_init_2
def dkwX2_init_0 : List UInt8 := [42, 183, 0, 3, 42, 16, 6, 181, 0, 9, 42, 16, 6, 181, 0, 15, 42, 16, 100, 188, 10, 181, 0, 18]
abbrev dktX2_init_0 : List UInt8 := dkwX2_init_0 ++ dktX2_init_1
theorem dksX2_init_0 : cX2_init.data.toList.drop 0 = dktX2_init_0 := by decide +kernel
theorem dksX2_init_1 : cX2_init.data.toList.drop 24 = dktX2_init_1 := dk_seg dksX2_init_0 24 rfl rfl
theorem dksX2_init_2 : cX2_init.data.toList.drop 48 = dktX2_init_2 := dk_seg dksX2_init_1 24 rfl rfl
theorem dksX2_init_3 : cX2_init.data.toList.drop 72 = dktX2_init_3 := dk_seg dksX2_init_2 24 rfl rfl
theorem dksX2_init_4 : cX2_init.data.toList.drop 96 = dktX2_init_4 := dk_seg dksX2_init_3 24 rfl rfl
theorem dksX2_init_5 : cX2_init.data.toList.drop 120 = dktX2_init_5 := dk_seg dksX2_init_4 24 rfl rfl
theorem dksX2_init_6 : cX2_init.data.toList.drop 144 = dktX2_init_6 := dk_seg dksX2_init_5 24 rfl rfl
theorem dX2_init_0 : decode cX2_init 0 = .ok (.aload_n 0, 1) := dk_42 (dk_at dksX2_init_0 0 rfl rfl)
theorem dX2_init_1 : decode cX2_init 1 = .ok (.invokespecial 3, 3) := dk_183 0 3 (dk_at dksX2_init_0 1 rfl rfl)
theorem dX2_init_4 : decode cX2_init 4 = .ok (.aload_n 0, 1) := dk_42 (dk_at dksX2_init_0 4 rfl rfl)
theorem dX2_init_5 : decode cX2_init 5 = .ok (.bipush 6, 2) := dk_16 6 (dk_at dksX2_init_0 5 rfl rfl)
theorem dX2_init_7 : decode cX2_init 7 = .ok (.putfield 9, 3) := dk_181 0 9 (dk_at dksX2_init_0 7 rfl rfl)
theorem dX2_init_10 : decode cX2_init 10 = .ok (.aload_n 0, 1) := dk_42 (dk_at dksX2_init_0 10 rfl rfl)
theorem dX2_init_11 : decode cX2_init 11 = .ok (.bipush 6, 2) := dk_16 6 (dk_at dksX2_init_0 11 rfl rfl)
theorem dX2_init_13 : decode cX2_init 13 = .ok (.putfield 15, 3) := dk_181 0 15 (dk_at dksX2_init_0 13 rfl rfl)
theorem dX2_init_16 : decode cX2_init 16 = .ok (.aload_n 0, 1) := dk_42 (dk_at dksX2_init_0 16 rfl rfl)
theorem dX2_init_17 : decode cX2_init 17 = .ok (.bipush 100, 2) := dk_16 100 (dk_at dksX2_init_0 17 rfl rfl)
theorem dX2_init_19 : decode cX2_init 19 = .ok (.newarray .int, 2) := dk_188_10 (dk_at dksX2_init_0 19 rfl rfl)
theorem dX2_init_21 : decode cX2_init 21 = .ok (.putfield 18, 3) := dk_181 0 18 (dk_at dksX2_init_0 21 rfl rfl)
theorem dX2_init_24 : decode cX2_init 24 = .ok (.aload_n 0, 1) := dk_42 (dk_at dksX2_init_1 0 rfl rfl)
theorem dX2_init_25 : decode cX2_init 25 = .ok (.bipush 100, 2) := dk_16 100 (dk_at dksX2_init_1 1 rfl rfl)
theorem dX2_init_27 : decode cX2_init 27 = .ok (.newarray .int, 2) := dk_188_10 (dk_at dksX2_init_1 3 rfl rfl)
theorem dX2_init_29 : decode cX2_init 29 = .ok (.putfield 22, 3) := dk_181 0 22 (dk_at dksX2_init_1 5 rfl rfl)
theorem dX2_init_32 : decode cX2_init 32 = .ok (.aload_n 0, 1) := dk_42 (dk_at dksX2_init_1 8 rfl rfl)
theorem dX2_init_33 : decode cX2_init 33 = .ok (.bipush 100, 2) := dk_16 100 (dk_at dksX2_init_1 9 rfl rfl)
theorem dX2_init_35 : decode cX2_init 35 = .ok (.newarray .int, 2) := dk_188_10 (dk_at dksX2_init_1 11 rfl rfl)
theorem dX2_init_37 : decode cX2_init 37 = .ok (.putfield 25, 3) := dk_181 0 25 (dk_at dksX2_init_1 13 rfl rfl)
theorem dX2_init_40 : decode cX2_init 40 = .ok (.aload_n 0, 1) := dk_42 (dk_at dksX2_init_1 16 rfl rfl)
theorem dX2_init_41 : decode cX2_init 41 = .ok (.bipush 100, 2) := dk_16 100 (dk_at dksX2_init_1 17 rfl rfl)
theorem dX2_init_43 : decode cX2_init 43 = .ok (.newarray .int, 2) := dk_188_10 (dk_at dksX2_init_1 19 rfl rfl)
theorem dX2_init_45 : decode cX2_init 45 = .ok (.putfield 28, 3) := dk_181 0 28 (dk_at dksX2_init_1 21 rfl rfl)
theorem dX2_init_48 : decode cX2_init 48 = .ok (.aload_n 0, 1) := dk_42 (dk_at dksX2_init_2 0 rfl rfl)
theorem dX2_init_49 : decode cX2_init 49 = .ok (.bipush 6, 2) := dk_16 6 (dk_at dksX2_init_2 1 rfl rfl)
theorem dX2_init_51 : decode cX2_init 51 = .ok (.newarray .int, 2) := dk_188_10 (dk_at dksX2_init_2 3 rfl rfl)
theorem dX2_init_53 : decode cX2_init 53 = .ok (.putfield 31, 3) := dk_181 0 31 (dk_at dksX2_init_2 5 rfl rfl)
theorem dX2_init_56 : decode cX2_init 56 = .ok (.aload_n 0, 1) := dk_42 (dk_at dksX2_init_2 8 rfl rfl)
theorem dX2_init_57 : decode cX2_init 57 = .ok (.bipush 6, 2) := dk_16 6 (dk_at dksX2_init_2 9 rfl rfl)
theorem dX2_init_59 : decode cX2_init 59 = .ok (.newarray .int, 2) := dk_188_10 (dk_at dksX2_init_2 11 rfl rfl)
theorem dX2_init_61 : decode cX2_init 61 = .ok (.putfield 34, 3) := dk_181 0 34 (dk_at dksX2_init_2 13 rfl rfl)
theorem dX2_init_64 : decode cX2_init 64 = .ok (.aload_n 0, 1) := dk_42 (dk_at dksX2_init_2 16 rfl rfl)
theorem dX2_init_65 : decode cX2_init 65 = .ok (.bipush 6, 2) := dk_16 6 (dk_at dksX2_init_2 17 rfl rfl)
theorem dX2_init_67 : decode cX2_init 67 = .ok (.newarray .int, 2) := dk_188_10 (dk_at dksX2_init_2 19 rfl rfl)
theorem dX2_init_69 : decode cX2_init 69 = .ok (.putfield 37, 3) := dk_181 0 37 (dk_at dksX2_init_2 21 rfl rfl)
theorem dX2_init_72 : decode cX2_init 72 = .ok (.aload_n 0, 1) := dk_42 (dk_at dksX2_init_3 0 rfl rfl)
theorem dX2_init_73 : decode cX2_init 73 = .ok (.bipush 6, 2) := dk_16 6 (dk_at dksX2_init_3 1 rfl rfl)
theorem dX2_init_75 : decode cX2_init 75 = .ok (.newarray .int, 2) := dk_188_10 (dk_at dksX2_init_3 3 rfl rfl)
theorem dX2_init_77 : decode cX2_init 77 = .ok (.putfield 40, 3) := dk_181 0 40 (dk_at dksX2_init_3 5 rfl rfl)
theorem dX2_init_80 : decode cX2_init 80 = .ok (.aload_n 0, 1) := dk_42 (dk_at dksX2_init_3 8 rfl rfl)
theorem dX2_init_81 : decode cX2_init 81 = .ok (.bipush 6, 2) := dk_16 6 (dk_at dksX2_init_3 9 rfl rfl)
theorem dX2_init_83 : decode cX2_init 83 = .ok (.newarray .int, 2) := dk_188_10 (dk_at dksX2_init_3 11 rfl rfl)
theorem dX2_init_85 : decode cX2_init 85 = .ok (.putfield 43, 3) := dk_181 0 43 (dk_at dksX2_init_3 13 rfl rfl)
theorem dX2_init_88 : decode cX2_init 88 = .ok (.aload_n 0, 1) := dk_42 (dk_at dksX2_init_3 16 rfl rfl)
theorem dX2_init_89 : decode cX2_init 89 = .ok (.bipush 20, 2) := dk_16 20 (dk_at dksX2_init_3 17 rfl rfl)
theorem dX2_init_91 : decode cX2_init 91 = .ok (.newarray .int, 2) := dk_188_10 (dk_at dksX2_init_3 19 rfl rfl)
theorem dX2_init_93 : decode cX2_init 93 = .ok (.putfield 46, 3) := dk_181 0 46 (dk_at dksX2_init_3 21 rfl rfl)
theorem dX2_init_96 : decode cX2_init 96 = .ok (.aload_n 0, 1) := dk_42 (dk_at dksX2_init_4 0 rfl rfl)
theorem dX2_init_97 : decode cX2_init 97 = .ok (.bipush 20, 2) := dk_16 20 (dk_at dksX2_init_4 1 rfl rfl)
theorem dX2_init_99 : decode cX2_init 99 = .ok (.newarray .int, 2) := dk_188_10 (dk_at dksX2_init_4 3 rfl rfl)
theorem dX2_init_101 : decode cX2_init 101 = .ok (.putfield 49, 3) := dk_181 0 49 (dk_at dksX2_init_4 5 rfl rfl)
theorem dX2_init_104 : decode cX2_init 104 = .ok (.aload_n 0, 1) := dk_42 (dk_at dksX2_init_4 8 rfl rfl)
theorem dX2_init_105 : decode cX2_init 105 = .ok (.bipush 100, 2) := dk_16 100 (dk_at dksX2_init_4 9 rfl rfl)
theorem dX2_init_107 : decode cX2_init 107 = .ok (.newarray .boolean, 2) := dk_188_4 (dk_at dksX2_init_4 11 rfl rfl)
theorem dX2_init_109 : decode cX2_init 109 = .ok (.putfield 52, 3) := dk_181 0 52 (dk_at dksX2_init_4 13 rfl rfl)
theorem dX2_init_112 : decode cX2_init 112 = .ok (.aload_n 0, 1) := dk_42 (dk_at dksX2_init_4 16 rfl rfl)
theorem dX2_init_113 : decode cX2_init 113 = .ok (.bipush 100, 2) := dk_16 100 (dk_at dksX2_init_4 17 rfl rfl)
theorem dX2_init_115 : decode cX2_init 115 = .ok (.newarray .boolean, 2) := dk_188_4 (dk_at dksX2_init_4 19 rfl rfl)
theorem dX2_init_117 : decode cX2_init 117 = .ok (.putfield 56, 3) := dk_181 0 56 (dk_at dksX2_init_4 21 rfl rfl)
theorem dX2_init_120 : decode cX2_init 120 = .ok (.aload_n 0, 1) := dk_42 (dk_at dksX2_init_5 0 rfl rfl)
theorem dX2_init_121 : decode cX2_init 121 = .ok (.bipush 100, 2) := dk_16 100 (dk_at dksX2_init_5 1 rfl rfl)
theorem dX2_init_123 : decode cX2_init 123 = .ok (.newarray .boolean, 2) := dk_188_4 (dk_at dksX2_init_5 3 rfl rfl)
theorem dX2_init_125 : decode cX2_init 125 = .ok (.putfield 59, 3) := dk_181 0 59 (dk_at dksX2_init_5 5 rfl rfl)
theorem dX2_init_128 : decode cX2_init 128 = .ok (.aload_n 0, 1) := dk_42 (dk_at dksX2_init_5 8 rfl rfl)
theorem dX2_init_129 : decode cX2_init 129 = .ok (.bipush 121, 2) := dk_16 121 (dk_at dksX2_init_5 9 rfl rfl)
theorem dX2_init_131 : decode cX2_init 131 = .ok (.newarray .boolean, 2) := dk_188_4 (dk_at dksX2_init_5 11 rfl rfl)
theorem dX2_init_133 : decode cX2_init 133 = .ok (.putfield 62, 3) := dk_181 0 62 (dk_at dksX2_init_5 13 rfl rfl)
theorem dX2_init_136 : decode cX2_init 136 = .ok (.aload_n 0, 1) := dk_42 (dk_at dksX2_init_5 16 rfl rfl)
theorem dX2_init_137 : decode cX2_init 137 = .ok (.bipush 20, 2) := dk_16 20 (dk_at dksX2_init_5 17 rfl rfl)
theorem dX2_init_139 : decode cX2_init 139 = .ok (.newarray .boolean, 2) := dk_188_4 (dk_at dksX2_init_5 19 rfl rfl)
theorem dX2_init_141 : decode cX2_init 141 = .ok (.putfield 65, 3) := dk_181 0 65 (dk_at dksX2_init_5 21 rfl rfl)
theorem dX2_init_144 : decode cX2_init 144 = .ok (.aload_n 0, 1) := dk_42 (dk_at dksX2_init_6 0 rfl rfl)
theorem dX2_init_145 : decode cX2_init 145 = .ok (.bipush 8, 2) := dk_16 8 (dk_at dksX2_init_6 1 rfl rfl)
theorem dX2_init_147 : decode cX2_init 147 = .ok (.anewarray 68, 3) := dk_189 0 68 (dk_at dksX2_init_6 3 rfl rfl)
theorem dX2_init_150 : decode cX2_init 150 = .ok (.putfield 70, 3) := dk_181 0 70 (dk_at dksX2_init_6 6 rfl rfl)
theorem dX2_init_153 : decode cX2_init 153 = .ok (.aload_n 0, 1) := dk_42 (dk_at dksX2_init_6 9 rfl rfl)
theorem dX2_init_154 : decode cX2_init 154 = .ok (.getfield 22, 3) := dk_180 0 22 (dk_at dksX2_init_6 10 rfl rfl)
theorem dX2_init_157 : decode cX2_init 157 = .ok (.iconst 1, 1) := dk_4 (dk_at dksX2_init_6 13 rfl rfl)
theorem dX2_init_158 : decode cX2_init 158 = .ok (.invokestatic 74, 3) := dk_184 0 74 (dk_at dksX2_init_6 14 rfl rfl)
theorem dX2_init_161 : decode cX2_init 161 = .ok (.return_, 1) := dk_177 (dk_at dksX2_init_6 17 rfl rfl)
abbrev cX2_isCell : ByteArray := prog_3_method_3_code
def yX2_isCell : MethodName := ⟨RX2, "isCell", "(II)Z"⟩
def dkwX2_isCell_1 : List UInt8 := [184, 0, 112, 153, 0, 7, 4, 167, 0, 4, 3, 172]
abbrev dktX2_isCell_1 : List UInt8 := dkwX2_isCell_1 ++ []
def dkwX2_isCell_0 : List UInt8 := [27, 3, 42, 180, 0, 9, 4, 100, 184, 0, 112, 153, 0, 21, 28, 3, 42, 180, 0, 15, 4, 100]
abbrev dktX2_isCell_0 : List UInt8 := dkwX2_isCell_0 ++ dktX2_isCell_1
theorem dksX2_isCell_0 : cX2_isCell.data.toList.drop 0 = dktX2_isCell_0 := by decide +kernel
theorem dksX2_isCell_1 : cX2_isCell.data.toList.drop 22 = dktX2_isCell_1 := dk_seg dksX2_isCell_0 22 rfl rfl
theorem dX2_isCell_0 : decode cX2_isCell 0 = .ok (.iload_n 1, 1) := dk_27 (dk_at dksX2_isCell_0 0 rfl rfl)
theorem dX2_isCell_1 : decode cX2_isCell 1 = .ok (.iconst 0, 1) := dk_3 (dk_at dksX2_isCell_0 1 rfl rfl)
theorem dX2_isCell_2 : decode cX2_isCell 2 = .ok (.aload_n 0, 1) := dk_42 (dk_at dksX2_isCell_0 2 rfl rfl)
theorem dX2_isCell_3 : decode cX2_isCell 3 = .ok (.getfield 9, 3) := dk_180 0 9 (dk_at dksX2_isCell_0 3 rfl rfl)
theorem dX2_isCell_6 : decode cX2_isCell 6 = .ok (.iconst 1, 1) := dk_4 (dk_at dksX2_isCell_0 6 rfl rfl)
theorem dX2_isCell_7 : decode cX2_isCell 7 = .ok (.isub, 1) := dk_100 (dk_at dksX2_isCell_0 7 rfl rfl)
theorem dX2_isCell_8 : decode cX2_isCell 8 = .ok (.invokestatic 112, 3) := dk_184 0 112 (dk_at dksX2_isCell_0 8 rfl rfl)
theorem dX2_isCell_11 : decode cX2_isCell 11 = .ok (.ifCond .eq 21, 3) := dk_153 0 21 (dk_at dksX2_isCell_0 11 rfl rfl)
theorem dX2_isCell_14 : decode cX2_isCell 14 = .ok (.iload_n 2, 1) := dk_28 (dk_at dksX2_isCell_0 14 rfl rfl)
theorem dX2_isCell_15 : decode cX2_isCell 15 = .ok (.iconst 0, 1) := dk_3 (dk_at dksX2_isCell_0 15 rfl rfl)
theorem dX2_isCell_16 : decode cX2_isCell 16 = .ok (.aload_n 0, 1) := dk_42 (dk_at dksX2_isCell_0 16 rfl rfl)
theorem dX2_isCell_17 : decode cX2_isCell 17 = .ok (.getfield 15, 3) := dk_180 0 15 (dk_at dksX2_isCell_0 17 rfl rfl)
theorem dX2_isCell_20 : decode cX2_isCell 20 = .ok (.iconst 1, 1) := dk_4 (dk_at dksX2_isCell_0 20 rfl rfl)
theorem dX2_isCell_21 : decode cX2_isCell 21 = .ok (.isub, 1) := dk_100 (dk_at dksX2_isCell_0 21 rfl rfl)
theorem dX2_isCell_22 : decode cX2_isCell 22 = .ok (.invokestatic 112, 3) := dk_184 0 112 (dk_at dksX2_isCell_1 0 rfl rfl)
theorem dX2_isCell_25 : decode cX2_isCell 25 = .ok (.ifCond .eq 7, 3) := dk_153 0 7 (dk_at dksX2_isCell_1 3 rfl rfl)
theorem dX2_isCell_28 : decode cX2_isCell 28 = .ok (.iconst 1, 1) := dk_4 (dk_at dksX2_isCell_1 6 rfl rfl)
theorem dX2_isCell_29 : decode cX2_isCell 29 = .ok (.goto 4, 3) := dk_167 0 4 (dk_at dksX2_isCell_1 7 rfl rfl)
theorem dX2_isCell_32 : decode cX2_isCell 32 = .ok (.iconst 0, 1) := dk_3 (dk_at dksX2_isCell_1 10 rfl rfl)
theorem dX2_isCell_33 : decode cX2_isCell 33 = .ok (.ireturn, 1) := dk_172 (dk_at dksX2_isCell_1 11 rfl rfl)
abbrev cX2_isPoint : ByteArray := prog_3_method_4_code
def yX2_isPoint : MethodName := ⟨RX2, "isPoint", "(II)Z"⟩
def dkwX2_isPoint_1 : List UInt8 := [4, 167, 0, 4, 3, 172]
abbrev dktX2_isPoint_1 : List UInt8 := dkwX2_isPoint_1 ++ []
def dkwX2_isPoint_0 : List UInt8 := [27, 3, 42, 180, 0, 9, 184, 0, 112, 153, 0, 19, 28, 3, 42, 180, 0, 15, 184, 0, 112, 153, 0, 7]
abbrev dktX2_isPoint_0 : List UInt8 := dkwX2_isPoint_0 ++ dktX2_isPoint_1
theorem dksX2_isPoint_0 : cX2_isPoint.data.toList.drop 0 = dktX2_isPoint_0 := by decide +kernel
theorem dksX2_isPoint_1 : cX2_isPoint.data.toList.drop 24 = dktX2_isPoint_1 := dk_seg dksX2_isPoint_0 24 rfl rfl
theorem dX2_isPoint_0 : decode cX2_isPoint 0 = .ok (.iload_n 1, 1) := dk_27 (dk_at dksX2_isPoint_0 0 rfl rfl)
theorem dX2_isPoint_1 : decode cX2_isPoint 1 = .ok (.iconst 0, 1) := dk_3 (dk_at dksX2_isPoint_0 1 rfl rfl)
theorem dX2_isPoint_2 : decode cX2_isPoint 2 = .ok (.aload_n 0, 1) := dk_42 (dk_at dksX2_isPoint_0 2 rfl rfl)
theorem dX2_isPoint_3 : decode cX2_isPoint 3 = .ok (.getfield 9, 3) := dk_180 0 9 (dk_at dksX2_isPoint_0 3 rfl rfl)
theorem dX2_isPoint_6 : decode cX2_isPoint 6 = .ok (.invokestatic 112, 3) := dk_184 0 112 (dk_at dksX2_isPoint_0 6 rfl rfl)
theorem dX2_isPoint_9 : decode cX2_isPoint 9 = .ok (.ifCond .eq 19, 3) := dk_153 0 19 (dk_at dksX2_isPoint_0 9 rfl rfl)
theorem dX2_isPoint_12 : decode cX2_isPoint 12 = .ok (.iload_n 2, 1) := dk_28 (dk_at dksX2_isPoint_0 12 rfl rfl)
theorem dX2_isPoint_13 : decode cX2_isPoint 13 = .ok (.iconst 0, 1) := dk_3 (dk_at dksX2_isPoint_0 13 rfl rfl)
theorem dX2_isPoint_14 : decode cX2_isPoint 14 = .ok (.aload_n 0, 1) := dk_42 (dk_at dksX2_isPoint_0 14 rfl rfl)
theorem dX2_isPoint_15 : decode cX2_isPoint 15 = .ok (.getfield 15, 3) := dk_180 0 15 (dk_at dksX2_isPoint_0 15 rfl rfl)
theorem dX2_isPoint_18 : decode cX2_isPoint 18 = .ok (.invokestatic 112, 3) := dk_184 0 112 (dk_at dksX2_isPoint_0 18 rfl rfl)
theorem dX2_isPoint_21 : decode cX2_isPoint 21 = .ok (.ifCond .eq 7, 3) := dk_153 0 7 (dk_at dksX2_isPoint_0 21 rfl rfl)
theorem dX2_isPoint_24 : decode cX2_isPoint 24 = .ok (.iconst 1, 1) := dk_4 (dk_at dksX2_isPoint_1 0 rfl rfl)
theorem dX2_isPoint_25 : decode cX2_isPoint 25 = .ok (.goto 4, 3) := dk_167 0 4 (dk_at dksX2_isPoint_1 1 rfl rfl)
theorem dX2_isPoint_28 : decode cX2_isPoint 28 = .ok (.iconst 0, 1) := dk_3 (dk_at dksX2_isPoint_1 4 rfl rfl)
theorem dX2_isPoint_29 : decode cX2_isPoint 29 = .ok (.ireturn, 1) := dk_172 (dk_at dksX2_isPoint_1 5 rfl rfl)
abbrev cX2_seenFlies : ByteArray := prog_3_method_6_code
def yX2_seenFlies : MethodName := ⟨RX2, "seenFlies", "(II)I"⟩
def dkwX2_seenFlies_3 : List UInt8 := [8, 167, 0, 4, 3, 96, 62, 132, 4, 1, 167, 255, 216, 29, 172]
abbrev dktX2_seenFlies_3 : List UInt8 := dkwX2_seenFlies_3 ++ []
def dkwX2_seenFlies_2 : List UInt8 := [29, 42, 27, 178, 0, 123, 21, 4, 46, 96, 28, 178, 0, 126, 21, 4, 46, 96, 182, 0, 120, 153, 0, 7]
abbrev dktX2_seenFlies_2 : List UInt8 := dkwX2_seenFlies_2 ++ dktX2_seenFlies_3
def dkwX2_seenFlies_1 : List UInt8 := [28, 182, 0, 120, 153, 0, 8, 16, 20, 167, 0, 4, 3, 96, 62, 3, 54, 4, 21, 4, 7, 162, 0, 40]
abbrev dktX2_seenFlies_1 : List UInt8 := dkwX2_seenFlies_1 ++ dktX2_seenFlies_2
def dkwX2_seenFlies_0 : List UInt8 := [42, 27, 28, 182, 0, 116, 154, 0, 5, 3, 172, 42, 180, 0, 18, 16, 10, 28, 104, 27, 96, 46, 42, 27]
abbrev dktX2_seenFlies_0 : List UInt8 := dkwX2_seenFlies_0 ++ dktX2_seenFlies_1
theorem dksX2_seenFlies_0 : cX2_seenFlies.data.toList.drop 0 = dktX2_seenFlies_0 := by decide +kernel
theorem dksX2_seenFlies_1 : cX2_seenFlies.data.toList.drop 24 = dktX2_seenFlies_1 := dk_seg dksX2_seenFlies_0 24 rfl rfl
theorem dksX2_seenFlies_2 : cX2_seenFlies.data.toList.drop 48 = dktX2_seenFlies_2 := dk_seg dksX2_seenFlies_1 24 rfl rfl
theorem dksX2_seenFlies_3 : cX2_seenFlies.data.toList.drop 72 = dktX2_seenFlies_3 := dk_seg dksX2_seenFlies_2 24 rfl rfl
theorem dX2_seenFlies_0 : decode cX2_seenFlies 0 = .ok (.aload_n 0, 1) := dk_42 (dk_at dksX2_seenFlies_0 0 rfl rfl)
theorem dX2_seenFlies_1 : decode cX2_seenFlies 1 = .ok (.iload_n 1, 1) := dk_27 (dk_at dksX2_seenFlies_0 1 rfl rfl)
theorem dX2_seenFlies_2 : decode cX2_seenFlies 2 = .ok (.iload_n 2, 1) := dk_28 (dk_at dksX2_seenFlies_0 2 rfl rfl)
theorem dX2_seenFlies_3 : decode cX2_seenFlies 3 = .ok (.invokevirtual 116, 3) := dk_182 0 116 (dk_at dksX2_seenFlies_0 3 rfl rfl)
theorem dX2_seenFlies_6 : decode cX2_seenFlies 6 = .ok (.ifCond .ne 5, 3) := dk_154 0 5 (dk_at dksX2_seenFlies_0 6 rfl rfl)
theorem dX2_seenFlies_9 : decode cX2_seenFlies 9 = .ok (.iconst 0, 1) := dk_3 (dk_at dksX2_seenFlies_0 9 rfl rfl)
theorem dX2_seenFlies_10 : decode cX2_seenFlies 10 = .ok (.ireturn, 1) := dk_172 (dk_at dksX2_seenFlies_0 10 rfl rfl)
theorem dX2_seenFlies_11 : decode cX2_seenFlies 11 = .ok (.aload_n 0, 1) := dk_42 (dk_at dksX2_seenFlies_0 11 rfl rfl)
theorem dX2_seenFlies_12 : decode cX2_seenFlies 12 = .ok (.getfield 18, 3) := dk_180 0 18 (dk_at dksX2_seenFlies_0 12 rfl rfl)
theorem dX2_seenFlies_15 : decode cX2_seenFlies 15 = .ok (.bipush 10, 2) := dk_16 10 (dk_at dksX2_seenFlies_0 15 rfl rfl)
theorem dX2_seenFlies_17 : decode cX2_seenFlies 17 = .ok (.iload_n 2, 1) := dk_28 (dk_at dksX2_seenFlies_0 17 rfl rfl)
theorem dX2_seenFlies_18 : decode cX2_seenFlies 18 = .ok (.imul, 1) := dk_104 (dk_at dksX2_seenFlies_0 18 rfl rfl)
theorem dX2_seenFlies_19 : decode cX2_seenFlies 19 = .ok (.iload_n 1, 1) := dk_27 (dk_at dksX2_seenFlies_0 19 rfl rfl)
theorem dX2_seenFlies_20 : decode cX2_seenFlies 20 = .ok (.iadd, 1) := dk_96 (dk_at dksX2_seenFlies_0 20 rfl rfl)
theorem dX2_seenFlies_21 : decode cX2_seenFlies 21 = .ok (.iaload, 1) := dk_46 (dk_at dksX2_seenFlies_0 21 rfl rfl)
theorem dX2_seenFlies_22 : decode cX2_seenFlies 22 = .ok (.aload_n 0, 1) := dk_42 (dk_at dksX2_seenFlies_0 22 rfl rfl)
theorem dX2_seenFlies_23 : decode cX2_seenFlies 23 = .ok (.iload_n 1, 1) := dk_27 (dk_at dksX2_seenFlies_0 23 rfl rfl)
theorem dX2_seenFlies_24 : decode cX2_seenFlies 24 = .ok (.iload_n 2, 1) := dk_28 (dk_at dksX2_seenFlies_1 0 rfl rfl)
theorem dX2_seenFlies_25 : decode cX2_seenFlies 25 = .ok (.invokevirtual 120, 3) := dk_182 0 120 (dk_at dksX2_seenFlies_1 1 rfl rfl)
theorem dX2_seenFlies_28 : decode cX2_seenFlies 28 = .ok (.ifCond .eq 8, 3) := dk_153 0 8 (dk_at dksX2_seenFlies_1 4 rfl rfl)
theorem dX2_seenFlies_31 : decode cX2_seenFlies 31 = .ok (.bipush 20, 2) := dk_16 20 (dk_at dksX2_seenFlies_1 7 rfl rfl)
theorem dX2_seenFlies_33 : decode cX2_seenFlies 33 = .ok (.goto 4, 3) := dk_167 0 4 (dk_at dksX2_seenFlies_1 9 rfl rfl)
theorem dX2_seenFlies_36 : decode cX2_seenFlies 36 = .ok (.iconst 0, 1) := dk_3 (dk_at dksX2_seenFlies_1 12 rfl rfl)
theorem dX2_seenFlies_37 : decode cX2_seenFlies 37 = .ok (.iadd, 1) := dk_96 (dk_at dksX2_seenFlies_1 13 rfl rfl)
theorem dX2_seenFlies_38 : decode cX2_seenFlies 38 = .ok (.istore_n 3, 1) := dk_62 (dk_at dksX2_seenFlies_1 14 rfl rfl)
theorem dX2_seenFlies_39 : decode cX2_seenFlies 39 = .ok (.iconst 0, 1) := dk_3 (dk_at dksX2_seenFlies_1 15 rfl rfl)
theorem dX2_seenFlies_40 : decode cX2_seenFlies 40 = .ok (.istore 4, 2) := dk_54 4 (dk_at dksX2_seenFlies_1 16 rfl rfl)
theorem dX2_seenFlies_42 : decode cX2_seenFlies 42 = .ok (.iload 4, 2) := dk_21 4 (dk_at dksX2_seenFlies_1 18 rfl rfl)
theorem dX2_seenFlies_44 : decode cX2_seenFlies 44 = .ok (.iconst 4, 1) := dk_7 (dk_at dksX2_seenFlies_1 20 rfl rfl)
theorem dX2_seenFlies_45 : decode cX2_seenFlies 45 = .ok (.if_icmp .ge 40, 3) := dk_162 0 40 (dk_at dksX2_seenFlies_1 21 rfl rfl)
theorem dX2_seenFlies_48 : decode cX2_seenFlies 48 = .ok (.iload_n 3, 1) := dk_29 (dk_at dksX2_seenFlies_2 0 rfl rfl)
theorem dX2_seenFlies_49 : decode cX2_seenFlies 49 = .ok (.aload_n 0, 1) := dk_42 (dk_at dksX2_seenFlies_2 1 rfl rfl)
theorem dX2_seenFlies_50 : decode cX2_seenFlies 50 = .ok (.iload_n 1, 1) := dk_27 (dk_at dksX2_seenFlies_2 2 rfl rfl)
theorem dX2_seenFlies_51 : decode cX2_seenFlies 51 = .ok (.getstatic 123, 3) := dk_178 0 123 (dk_at dksX2_seenFlies_2 3 rfl rfl)
theorem dX2_seenFlies_54 : decode cX2_seenFlies 54 = .ok (.iload 4, 2) := dk_21 4 (dk_at dksX2_seenFlies_2 6 rfl rfl)
theorem dX2_seenFlies_56 : decode cX2_seenFlies 56 = .ok (.iaload, 1) := dk_46 (dk_at dksX2_seenFlies_2 8 rfl rfl)
theorem dX2_seenFlies_57 : decode cX2_seenFlies 57 = .ok (.iadd, 1) := dk_96 (dk_at dksX2_seenFlies_2 9 rfl rfl)
theorem dX2_seenFlies_58 : decode cX2_seenFlies 58 = .ok (.iload_n 2, 1) := dk_28 (dk_at dksX2_seenFlies_2 10 rfl rfl)
theorem dX2_seenFlies_59 : decode cX2_seenFlies 59 = .ok (.getstatic 126, 3) := dk_178 0 126 (dk_at dksX2_seenFlies_2 11 rfl rfl)
theorem dX2_seenFlies_62 : decode cX2_seenFlies 62 = .ok (.iload 4, 2) := dk_21 4 (dk_at dksX2_seenFlies_2 14 rfl rfl)
theorem dX2_seenFlies_64 : decode cX2_seenFlies 64 = .ok (.iaload, 1) := dk_46 (dk_at dksX2_seenFlies_2 16 rfl rfl)
theorem dX2_seenFlies_65 : decode cX2_seenFlies 65 = .ok (.iadd, 1) := dk_96 (dk_at dksX2_seenFlies_2 17 rfl rfl)
theorem dX2_seenFlies_66 : decode cX2_seenFlies 66 = .ok (.invokevirtual 120, 3) := dk_182 0 120 (dk_at dksX2_seenFlies_2 18 rfl rfl)
theorem dX2_seenFlies_69 : decode cX2_seenFlies 69 = .ok (.ifCond .eq 7, 3) := dk_153 0 7 (dk_at dksX2_seenFlies_2 21 rfl rfl)
theorem dX2_seenFlies_72 : decode cX2_seenFlies 72 = .ok (.iconst 5, 1) := dk_8 (dk_at dksX2_seenFlies_3 0 rfl rfl)
theorem dX2_seenFlies_73 : decode cX2_seenFlies 73 = .ok (.goto 4, 3) := dk_167 0 4 (dk_at dksX2_seenFlies_3 1 rfl rfl)
theorem dX2_seenFlies_76 : decode cX2_seenFlies 76 = .ok (.iconst 0, 1) := dk_3 (dk_at dksX2_seenFlies_3 4 rfl rfl)
theorem dX2_seenFlies_77 : decode cX2_seenFlies 77 = .ok (.iadd, 1) := dk_96 (dk_at dksX2_seenFlies_3 5 rfl rfl)
theorem dX2_seenFlies_78 : decode cX2_seenFlies 78 = .ok (.istore_n 3, 1) := dk_62 (dk_at dksX2_seenFlies_3 6 rfl rfl)
theorem dX2_seenFlies_79 : decode cX2_seenFlies 79 = .ok (.iinc 4 1, 3) := dk_132 4 1 (dk_at dksX2_seenFlies_3 7 rfl rfl)
theorem dX2_seenFlies_82 : decode cX2_seenFlies 82 = .ok (.goto (-40), 3) := dk_167 255 216 (dk_at dksX2_seenFlies_3 10 rfl rfl)
theorem dX2_seenFlies_85 : decode cX2_seenFlies 85 = .ok (.iload_n 3, 1) := dk_29 (dk_at dksX2_seenFlies_3 13 rfl rfl)
theorem dX2_seenFlies_86 : decode cX2_seenFlies 86 = .ok (.ireturn, 1) := dk_172 (dk_at dksX2_seenFlies_3 14 rfl rfl)
abbrev cX2_hasPond : ByteArray := prog_3_method_5_code
def yX2_hasPond : MethodName := ⟨RX2, "hasPond", "(II)Z"⟩
def dkwX2_hasPond_1 : List UInt8 := [167, 0, 4, 3, 172]
abbrev dktX2_hasPond_1 : List UInt8 := dkwX2_hasPond_1 ++ []
def dkwX2_hasPond_0 : List UInt8 := [42, 27, 28, 182, 0, 116, 153, 0, 21, 42, 180, 0, 52, 16, 10, 28, 104, 27, 96, 51, 153, 0, 7, 4]
abbrev dktX2_hasPond_0 : List UInt8 := dkwX2_hasPond_0 ++ dktX2_hasPond_1
theorem dksX2_hasPond_0 : cX2_hasPond.data.toList.drop 0 = dktX2_hasPond_0 := by decide +kernel
theorem dksX2_hasPond_1 : cX2_hasPond.data.toList.drop 24 = dktX2_hasPond_1 := dk_seg dksX2_hasPond_0 24 rfl rfl
theorem dX2_hasPond_0 : decode cX2_hasPond 0 = .ok (.aload_n 0, 1) := dk_42 (dk_at dksX2_hasPond_0 0 rfl rfl)
theorem dX2_hasPond_1 : decode cX2_hasPond 1 = .ok (.iload_n 1, 1) := dk_27 (dk_at dksX2_hasPond_0 1 rfl rfl)
theorem dX2_hasPond_2 : decode cX2_hasPond 2 = .ok (.iload_n 2, 1) := dk_28 (dk_at dksX2_hasPond_0 2 rfl rfl)
theorem dX2_hasPond_3 : decode cX2_hasPond 3 = .ok (.invokevirtual 116, 3) := dk_182 0 116 (dk_at dksX2_hasPond_0 3 rfl rfl)
theorem dX2_hasPond_6 : decode cX2_hasPond 6 = .ok (.ifCond .eq 21, 3) := dk_153 0 21 (dk_at dksX2_hasPond_0 6 rfl rfl)
theorem dX2_hasPond_9 : decode cX2_hasPond 9 = .ok (.aload_n 0, 1) := dk_42 (dk_at dksX2_hasPond_0 9 rfl rfl)
theorem dX2_hasPond_10 : decode cX2_hasPond 10 = .ok (.getfield 52, 3) := dk_180 0 52 (dk_at dksX2_hasPond_0 10 rfl rfl)
theorem dX2_hasPond_13 : decode cX2_hasPond 13 = .ok (.bipush 10, 2) := dk_16 10 (dk_at dksX2_hasPond_0 13 rfl rfl)
theorem dX2_hasPond_15 : decode cX2_hasPond 15 = .ok (.iload_n 2, 1) := dk_28 (dk_at dksX2_hasPond_0 15 rfl rfl)
theorem dX2_hasPond_16 : decode cX2_hasPond 16 = .ok (.imul, 1) := dk_104 (dk_at dksX2_hasPond_0 16 rfl rfl)
theorem dX2_hasPond_17 : decode cX2_hasPond 17 = .ok (.iload_n 1, 1) := dk_27 (dk_at dksX2_hasPond_0 17 rfl rfl)
theorem dX2_hasPond_18 : decode cX2_hasPond 18 = .ok (.iadd, 1) := dk_96 (dk_at dksX2_hasPond_0 18 rfl rfl)
theorem dX2_hasPond_19 : decode cX2_hasPond 19 = .ok (.baload, 1) := dk_51 (dk_at dksX2_hasPond_0 19 rfl rfl)
theorem dX2_hasPond_20 : decode cX2_hasPond 20 = .ok (.ifCond .eq 7, 3) := dk_153 0 7 (dk_at dksX2_hasPond_0 20 rfl rfl)
theorem dX2_hasPond_23 : decode cX2_hasPond 23 = .ok (.iconst 1, 1) := dk_4 (dk_at dksX2_hasPond_0 23 rfl rfl)
theorem dX2_hasPond_24 : decode cX2_hasPond 24 = .ok (.goto 4, 3) := dk_167 0 4 (dk_at dksX2_hasPond_1 0 rfl rfl)
theorem dX2_hasPond_27 : decode cX2_hasPond 27 = .ok (.iconst 0, 1) := dk_3 (dk_at dksX2_hasPond_1 3 rfl rfl)
theorem dX2_hasPond_28 : decode cX2_hasPond 28 = .ok (.ireturn, 1) := dk_172 (dk_at dksX2_hasPond_1 4 rfl rfl)
abbrev cX2_hasCat : ByteArray := prog_3_method_7_code
def yX2_hasCat : MethodName := ⟨RX2, "hasCat", "(II)Z"⟩
def dkwX2_hasCat_2 : List UInt8 := [4, 172, 132, 3, 1, 167, 255, 205, 3, 172]
abbrev dktX2_hasCat_2 : List UInt8 := dkwX2_hasCat_2 ++ []
def dkwX2_hasCat_1 : List UInt8 := [21, 5, 182, 0, 116, 153, 0, 21, 42, 180, 0, 59, 16, 10, 21, 5, 104, 21, 4, 96, 51, 153, 0, 5]
abbrev dktX2_hasCat_1 : List UInt8 := dkwX2_hasCat_1 ++ dktX2_hasCat_2
def dkwX2_hasCat_0 : List UInt8 := [3, 62, 29, 7, 162, 0, 52, 27, 29, 5, 112, 100, 54, 4, 28, 29, 5, 108, 100, 54, 5, 42, 21, 4]
abbrev dktX2_hasCat_0 : List UInt8 := dkwX2_hasCat_0 ++ dktX2_hasCat_1
theorem dksX2_hasCat_0 : cX2_hasCat.data.toList.drop 0 = dktX2_hasCat_0 := by decide +kernel
theorem dksX2_hasCat_1 : cX2_hasCat.data.toList.drop 24 = dktX2_hasCat_1 := dk_seg dksX2_hasCat_0 24 rfl rfl
theorem dksX2_hasCat_2 : cX2_hasCat.data.toList.drop 48 = dktX2_hasCat_2 := dk_seg dksX2_hasCat_1 24 rfl rfl
theorem dX2_hasCat_0 : decode cX2_hasCat 0 = .ok (.iconst 0, 1) := dk_3 (dk_at dksX2_hasCat_0 0 rfl rfl)
theorem dX2_hasCat_1 : decode cX2_hasCat 1 = .ok (.istore_n 3, 1) := dk_62 (dk_at dksX2_hasCat_0 1 rfl rfl)
theorem dX2_hasCat_2 : decode cX2_hasCat 2 = .ok (.iload_n 3, 1) := dk_29 (dk_at dksX2_hasCat_0 2 rfl rfl)
theorem dX2_hasCat_3 : decode cX2_hasCat 3 = .ok (.iconst 4, 1) := dk_7 (dk_at dksX2_hasCat_0 3 rfl rfl)
theorem dX2_hasCat_4 : decode cX2_hasCat 4 = .ok (.if_icmp .ge 52, 3) := dk_162 0 52 (dk_at dksX2_hasCat_0 4 rfl rfl)
theorem dX2_hasCat_7 : decode cX2_hasCat 7 = .ok (.iload_n 1, 1) := dk_27 (dk_at dksX2_hasCat_0 7 rfl rfl)
theorem dX2_hasCat_8 : decode cX2_hasCat 8 = .ok (.iload_n 3, 1) := dk_29 (dk_at dksX2_hasCat_0 8 rfl rfl)
theorem dX2_hasCat_9 : decode cX2_hasCat 9 = .ok (.iconst 2, 1) := dk_5 (dk_at dksX2_hasCat_0 9 rfl rfl)
theorem dX2_hasCat_10 : decode cX2_hasCat 10 = .ok (.irem, 1) := dk_112 (dk_at dksX2_hasCat_0 10 rfl rfl)
theorem dX2_hasCat_11 : decode cX2_hasCat 11 = .ok (.isub, 1) := dk_100 (dk_at dksX2_hasCat_0 11 rfl rfl)
theorem dX2_hasCat_12 : decode cX2_hasCat 12 = .ok (.istore 4, 2) := dk_54 4 (dk_at dksX2_hasCat_0 12 rfl rfl)
theorem dX2_hasCat_14 : decode cX2_hasCat 14 = .ok (.iload_n 2, 1) := dk_28 (dk_at dksX2_hasCat_0 14 rfl rfl)
theorem dX2_hasCat_15 : decode cX2_hasCat 15 = .ok (.iload_n 3, 1) := dk_29 (dk_at dksX2_hasCat_0 15 rfl rfl)
theorem dX2_hasCat_16 : decode cX2_hasCat 16 = .ok (.iconst 2, 1) := dk_5 (dk_at dksX2_hasCat_0 16 rfl rfl)
theorem dX2_hasCat_17 : decode cX2_hasCat 17 = .ok (.idiv, 1) := dk_108 (dk_at dksX2_hasCat_0 17 rfl rfl)
theorem dX2_hasCat_18 : decode cX2_hasCat 18 = .ok (.isub, 1) := dk_100 (dk_at dksX2_hasCat_0 18 rfl rfl)
theorem dX2_hasCat_19 : decode cX2_hasCat 19 = .ok (.istore 5, 2) := dk_54 5 (dk_at dksX2_hasCat_0 19 rfl rfl)
theorem dX2_hasCat_21 : decode cX2_hasCat 21 = .ok (.aload_n 0, 1) := dk_42 (dk_at dksX2_hasCat_0 21 rfl rfl)
theorem dX2_hasCat_22 : decode cX2_hasCat 22 = .ok (.iload 4, 2) := dk_21 4 (dk_at dksX2_hasCat_0 22 rfl rfl)
theorem dX2_hasCat_24 : decode cX2_hasCat 24 = .ok (.iload 5, 2) := dk_21 5 (dk_at dksX2_hasCat_1 0 rfl rfl)
theorem dX2_hasCat_26 : decode cX2_hasCat 26 = .ok (.invokevirtual 116, 3) := dk_182 0 116 (dk_at dksX2_hasCat_1 2 rfl rfl)
theorem dX2_hasCat_29 : decode cX2_hasCat 29 = .ok (.ifCond .eq 21, 3) := dk_153 0 21 (dk_at dksX2_hasCat_1 5 rfl rfl)
theorem dX2_hasCat_32 : decode cX2_hasCat 32 = .ok (.aload_n 0, 1) := dk_42 (dk_at dksX2_hasCat_1 8 rfl rfl)
theorem dX2_hasCat_33 : decode cX2_hasCat 33 = .ok (.getfield 59, 3) := dk_180 0 59 (dk_at dksX2_hasCat_1 9 rfl rfl)
theorem dX2_hasCat_36 : decode cX2_hasCat 36 = .ok (.bipush 10, 2) := dk_16 10 (dk_at dksX2_hasCat_1 12 rfl rfl)
theorem dX2_hasCat_38 : decode cX2_hasCat 38 = .ok (.iload 5, 2) := dk_21 5 (dk_at dksX2_hasCat_1 14 rfl rfl)
theorem dX2_hasCat_40 : decode cX2_hasCat 40 = .ok (.imul, 1) := dk_104 (dk_at dksX2_hasCat_1 16 rfl rfl)
theorem dX2_hasCat_41 : decode cX2_hasCat 41 = .ok (.iload 4, 2) := dk_21 4 (dk_at dksX2_hasCat_1 17 rfl rfl)
theorem dX2_hasCat_43 : decode cX2_hasCat 43 = .ok (.iadd, 1) := dk_96 (dk_at dksX2_hasCat_1 19 rfl rfl)
theorem dX2_hasCat_44 : decode cX2_hasCat 44 = .ok (.baload, 1) := dk_51 (dk_at dksX2_hasCat_1 20 rfl rfl)
theorem dX2_hasCat_45 : decode cX2_hasCat 45 = .ok (.ifCond .eq 5, 3) := dk_153 0 5 (dk_at dksX2_hasCat_1 21 rfl rfl)
theorem dX2_hasCat_48 : decode cX2_hasCat 48 = .ok (.iconst 1, 1) := dk_4 (dk_at dksX2_hasCat_2 0 rfl rfl)
theorem dX2_hasCat_49 : decode cX2_hasCat 49 = .ok (.ireturn, 1) := dk_172 (dk_at dksX2_hasCat_2 1 rfl rfl)
theorem dX2_hasCat_50 : decode cX2_hasCat 50 = .ok (.iinc 3 1, 3) := dk_132 3 1 (dk_at dksX2_hasCat_2 2 rfl rfl)
theorem dX2_hasCat_53 : decode cX2_hasCat 53 = .ok (.goto (-51), 3) := dk_167 255 205 (dk_at dksX2_hasCat_2 5 rfl rfl)
theorem dX2_hasCat_56 : decode cX2_hasCat 56 = .ok (.iconst 0, 1) := dk_3 (dk_at dksX2_hasCat_2 8 rfl rfl)
theorem dX2_hasCat_57 : decode cX2_hasCat 57 = .ok (.ireturn, 1) := dk_172 (dk_at dksX2_hasCat_2 9 rfl rfl)
abbrev cX2_draw : ByteArray := prog_3_method_8_code
def yX2_draw : MethodName := ⟨RX2, "draw", "(I)I"⟩
def dkwX2_draw_0 : List UInt8 := [42, 18, 129, 42, 180, 0, 80, 104, 18, 130, 96, 181, 0, 80, 42, 180, 0, 80, 16, 8, 124, 27, 112, 172]
abbrev dktX2_draw_0 : List UInt8 := dkwX2_draw_0 ++ []
theorem dksX2_draw_0 : cX2_draw.data.toList.drop 0 = dktX2_draw_0 := by decide +kernel
theorem dX2_draw_0 : decode cX2_draw 0 = .ok (.aload_n 0, 1) := dk_42 (dk_at dksX2_draw_0 0 rfl rfl)
theorem dX2_draw_1 : decode cX2_draw 1 = .ok (.ldc 129, 2) := dk_18 129 (dk_at dksX2_draw_0 1 rfl rfl)
theorem dX2_draw_3 : decode cX2_draw 3 = .ok (.aload_n 0, 1) := dk_42 (dk_at dksX2_draw_0 3 rfl rfl)
theorem dX2_draw_4 : decode cX2_draw 4 = .ok (.getfield 80, 3) := dk_180 0 80 (dk_at dksX2_draw_0 4 rfl rfl)
theorem dX2_draw_7 : decode cX2_draw 7 = .ok (.imul, 1) := dk_104 (dk_at dksX2_draw_0 7 rfl rfl)
theorem dX2_draw_8 : decode cX2_draw 8 = .ok (.ldc 130, 2) := dk_18 130 (dk_at dksX2_draw_0 8 rfl rfl)
theorem dX2_draw_10 : decode cX2_draw 10 = .ok (.iadd, 1) := dk_96 (dk_at dksX2_draw_0 10 rfl rfl)
theorem dX2_draw_11 : decode cX2_draw 11 = .ok (.putfield 80, 3) := dk_181 0 80 (dk_at dksX2_draw_0 11 rfl rfl)
theorem dX2_draw_14 : decode cX2_draw 14 = .ok (.aload_n 0, 1) := dk_42 (dk_at dksX2_draw_0 14 rfl rfl)
theorem dX2_draw_15 : decode cX2_draw 15 = .ok (.getfield 80, 3) := dk_180 0 80 (dk_at dksX2_draw_0 15 rfl rfl)
theorem dX2_draw_18 : decode cX2_draw 18 = .ok (.bipush 8, 2) := dk_16 8 (dk_at dksX2_draw_0 18 rfl rfl)
theorem dX2_draw_20 : decode cX2_draw 20 = .ok (.iushr, 1) := dk_124 (dk_at dksX2_draw_0 20 rfl rfl)
theorem dX2_draw_21 : decode cX2_draw 21 = .ok (.iload_n 1, 1) := dk_27 (dk_at dksX2_draw_0 21 rfl rfl)
theorem dX2_draw_22 : decode cX2_draw 22 = .ok (.irem, 1) := dk_112 (dk_at dksX2_draw_0 22 rfl rfl)
theorem dX2_draw_23 : decode cX2_draw 23 = .ok (.ireturn, 1) := dk_172 (dk_at dksX2_draw_0 23 rfl rfl)
abbrev cX2_become : ByteArray := prog_3_method_2_code
def yX2_become : MethodName := ⟨RX2, "become", "(LSwallowSurvey$Land;)V"⟩
def dkwX2_become_11 : List UInt8 := [16, 8, 184, 0, 106, 177]
abbrev dktX2_become_11 : List UInt8 := dkwX2_become_11 ++ []
def dkwX2_become_10 : List UInt8 := [184, 0, 102, 43, 180, 0, 65, 42, 180, 0, 65, 184, 0, 102, 43, 180, 0, 70, 3, 42, 180, 0, 70, 3]
abbrev dktX2_become_10 : List UInt8 := dkwX2_become_10 ++ dktX2_become_11
def dkwX2_become_9 : List UInt8 := [184, 0, 102, 43, 180, 0, 59, 42, 180, 0, 59, 184, 0, 102, 43, 180, 0, 62, 42, 180, 0, 62]
abbrev dktX2_become_9 : List UInt8 := dkwX2_become_9 ++ dktX2_become_10
def dkwX2_become_8 : List UInt8 := [184, 0, 98, 43, 180, 0, 52, 42, 180, 0, 52, 184, 0, 102, 43, 180, 0, 56, 42, 180, 0, 56]
abbrev dktX2_become_8 : List UInt8 := dkwX2_become_8 ++ dktX2_become_9
def dkwX2_become_7 : List UInt8 := [184, 0, 98, 43, 180, 0, 46, 42, 180, 0, 46, 184, 0, 98, 43, 180, 0, 49, 42, 180, 0, 49]
abbrev dktX2_become_7 : List UInt8 := dkwX2_become_7 ++ dktX2_become_8
def dkwX2_become_6 : List UInt8 := [184, 0, 98, 43, 180, 0, 40, 42, 180, 0, 40, 184, 0, 98, 43, 180, 0, 43, 42, 180, 0, 43]
abbrev dktX2_become_6 : List UInt8 := dkwX2_become_6 ++ dktX2_become_7
def dkwX2_become_5 : List UInt8 := [184, 0, 98, 43, 180, 0, 34, 42, 180, 0, 34, 184, 0, 98, 43, 180, 0, 37, 42, 180, 0, 37]
abbrev dktX2_become_5 : List UInt8 := dkwX2_become_5 ++ dktX2_become_6
def dkwX2_become_4 : List UInt8 := [184, 0, 98, 43, 180, 0, 28, 42, 180, 0, 28, 184, 0, 98, 43, 180, 0, 31, 42, 180, 0, 31]
abbrev dktX2_become_4 : List UInt8 := dkwX2_become_4 ++ dktX2_become_5
def dkwX2_become_3 : List UInt8 := [184, 0, 98, 43, 180, 0, 22, 42, 180, 0, 22, 184, 0, 98, 43, 180, 0, 25, 42, 180, 0, 25]
abbrev dktX2_become_3 : List UInt8 := dkwX2_become_3 ++ dktX2_become_4
def dkwX2_become_2 : List UInt8 := [42, 43, 180, 0, 92, 181, 0, 92, 42, 43, 180, 0, 95, 181, 0, 95, 43, 180, 0, 18, 42, 180, 0, 18]
abbrev dktX2_become_2 : List UInt8 := dkwX2_become_2 ++ dktX2_become_3
def dkwX2_become_1 : List UInt8 := [42, 43, 180, 0, 83, 181, 0, 83, 42, 43, 180, 0, 86, 181, 0, 86, 42, 43, 180, 0, 89, 181, 0, 89]
abbrev dktX2_become_1 : List UInt8 := dkwX2_become_1 ++ dktX2_become_2
def dkwX2_become_0 : List UInt8 := [42, 43, 180, 0, 9, 181, 0, 9, 42, 43, 180, 0, 15, 181, 0, 15, 42, 43, 180, 0, 80, 181, 0, 80]
abbrev dktX2_become_0 : List UInt8 := dkwX2_become_0 ++ dktX2_become_1
theorem dksX2_become_0 : cX2_become.data.toList.drop 0 = dktX2_become_0 := by decide +kernel
theorem dksX2_become_1 : cX2_become.data.toList.drop 24 = dktX2_become_1 := dk_seg dksX2_become_0 24 rfl rfl
theorem dksX2_become_2 : cX2_become.data.toList.drop 48 = dktX2_become_2 := dk_seg dksX2_become_1 24 rfl rfl
theorem dksX2_become_3 : cX2_become.data.toList.drop 72 = dktX2_become_3 := dk_seg dksX2_become_2 24 rfl rfl
theorem dksX2_become_4 : cX2_become.data.toList.drop 94 = dktX2_become_4 := dk_seg dksX2_become_3 22 rfl rfl
theorem dksX2_become_5 : cX2_become.data.toList.drop 116 = dktX2_become_5 := dk_seg dksX2_become_4 22 rfl rfl
theorem dksX2_become_6 : cX2_become.data.toList.drop 138 = dktX2_become_6 := dk_seg dksX2_become_5 22 rfl rfl
theorem dksX2_become_7 : cX2_become.data.toList.drop 160 = dktX2_become_7 := dk_seg dksX2_become_6 22 rfl rfl
theorem dksX2_become_8 : cX2_become.data.toList.drop 182 = dktX2_become_8 := dk_seg dksX2_become_7 22 rfl rfl
theorem dksX2_become_9 : cX2_become.data.toList.drop 204 = dktX2_become_9 := dk_seg dksX2_become_8 22 rfl rfl
theorem dksX2_become_10 : cX2_become.data.toList.drop 226 = dktX2_become_10 := dk_seg dksX2_become_9 22 rfl rfl
theorem dksX2_become_11 : cX2_become.data.toList.drop 250 = dktX2_become_11 := dk_seg dksX2_become_10 24 rfl rfl
theorem dX2_become_0 : decode cX2_become 0 = .ok (.aload_n 0, 1) := dk_42 (dk_at dksX2_become_0 0 rfl rfl)
theorem dX2_become_1 : decode cX2_become 1 = .ok (.aload_n 1, 1) := dk_43 (dk_at dksX2_become_0 1 rfl rfl)
theorem dX2_become_2 : decode cX2_become 2 = .ok (.getfield 9, 3) := dk_180 0 9 (dk_at dksX2_become_0 2 rfl rfl)
theorem dX2_become_5 : decode cX2_become 5 = .ok (.putfield 9, 3) := dk_181 0 9 (dk_at dksX2_become_0 5 rfl rfl)
theorem dX2_become_8 : decode cX2_become 8 = .ok (.aload_n 0, 1) := dk_42 (dk_at dksX2_become_0 8 rfl rfl)
theorem dX2_become_9 : decode cX2_become 9 = .ok (.aload_n 1, 1) := dk_43 (dk_at dksX2_become_0 9 rfl rfl)
theorem dX2_become_10 : decode cX2_become 10 = .ok (.getfield 15, 3) := dk_180 0 15 (dk_at dksX2_become_0 10 rfl rfl)
theorem dX2_become_13 : decode cX2_become 13 = .ok (.putfield 15, 3) := dk_181 0 15 (dk_at dksX2_become_0 13 rfl rfl)
theorem dX2_become_16 : decode cX2_become 16 = .ok (.aload_n 0, 1) := dk_42 (dk_at dksX2_become_0 16 rfl rfl)
theorem dX2_become_17 : decode cX2_become 17 = .ok (.aload_n 1, 1) := dk_43 (dk_at dksX2_become_0 17 rfl rfl)
theorem dX2_become_18 : decode cX2_become 18 = .ok (.getfield 80, 3) := dk_180 0 80 (dk_at dksX2_become_0 18 rfl rfl)
theorem dX2_become_21 : decode cX2_become 21 = .ok (.putfield 80, 3) := dk_181 0 80 (dk_at dksX2_become_0 21 rfl rfl)
theorem dX2_become_24 : decode cX2_become 24 = .ok (.aload_n 0, 1) := dk_42 (dk_at dksX2_become_1 0 rfl rfl)
theorem dX2_become_25 : decode cX2_become 25 = .ok (.aload_n 1, 1) := dk_43 (dk_at dksX2_become_1 1 rfl rfl)
theorem dX2_become_26 : decode cX2_become 26 = .ok (.getfield 83, 3) := dk_180 0 83 (dk_at dksX2_become_1 2 rfl rfl)
theorem dX2_become_29 : decode cX2_become 29 = .ok (.putfield 83, 3) := dk_181 0 83 (dk_at dksX2_become_1 5 rfl rfl)
theorem dX2_become_32 : decode cX2_become 32 = .ok (.aload_n 0, 1) := dk_42 (dk_at dksX2_become_1 8 rfl rfl)
theorem dX2_become_33 : decode cX2_become 33 = .ok (.aload_n 1, 1) := dk_43 (dk_at dksX2_become_1 9 rfl rfl)
theorem dX2_become_34 : decode cX2_become 34 = .ok (.getfield 86, 3) := dk_180 0 86 (dk_at dksX2_become_1 10 rfl rfl)
theorem dX2_become_37 : decode cX2_become 37 = .ok (.putfield 86, 3) := dk_181 0 86 (dk_at dksX2_become_1 13 rfl rfl)
theorem dX2_become_40 : decode cX2_become 40 = .ok (.aload_n 0, 1) := dk_42 (dk_at dksX2_become_1 16 rfl rfl)
theorem dX2_become_41 : decode cX2_become 41 = .ok (.aload_n 1, 1) := dk_43 (dk_at dksX2_become_1 17 rfl rfl)
theorem dX2_become_42 : decode cX2_become 42 = .ok (.getfield 89, 3) := dk_180 0 89 (dk_at dksX2_become_1 18 rfl rfl)
theorem dX2_become_45 : decode cX2_become 45 = .ok (.putfield 89, 3) := dk_181 0 89 (dk_at dksX2_become_1 21 rfl rfl)
theorem dX2_become_48 : decode cX2_become 48 = .ok (.aload_n 0, 1) := dk_42 (dk_at dksX2_become_2 0 rfl rfl)
theorem dX2_become_49 : decode cX2_become 49 = .ok (.aload_n 1, 1) := dk_43 (dk_at dksX2_become_2 1 rfl rfl)
theorem dX2_become_50 : decode cX2_become 50 = .ok (.getfield 92, 3) := dk_180 0 92 (dk_at dksX2_become_2 2 rfl rfl)
theorem dX2_become_53 : decode cX2_become 53 = .ok (.putfield 92, 3) := dk_181 0 92 (dk_at dksX2_become_2 5 rfl rfl)
theorem dX2_become_56 : decode cX2_become 56 = .ok (.aload_n 0, 1) := dk_42 (dk_at dksX2_become_2 8 rfl rfl)
theorem dX2_become_57 : decode cX2_become 57 = .ok (.aload_n 1, 1) := dk_43 (dk_at dksX2_become_2 9 rfl rfl)
theorem dX2_become_58 : decode cX2_become 58 = .ok (.getfield 95, 3) := dk_180 0 95 (dk_at dksX2_become_2 10 rfl rfl)
theorem dX2_become_61 : decode cX2_become 61 = .ok (.putfield 95, 3) := dk_181 0 95 (dk_at dksX2_become_2 13 rfl rfl)
theorem dX2_become_64 : decode cX2_become 64 = .ok (.aload_n 1, 1) := dk_43 (dk_at dksX2_become_2 16 rfl rfl)
theorem dX2_become_65 : decode cX2_become 65 = .ok (.getfield 18, 3) := dk_180 0 18 (dk_at dksX2_become_2 17 rfl rfl)
theorem dX2_become_68 : decode cX2_become 68 = .ok (.aload_n 0, 1) := dk_42 (dk_at dksX2_become_2 20 rfl rfl)
theorem dX2_become_69 : decode cX2_become 69 = .ok (.getfield 18, 3) := dk_180 0 18 (dk_at dksX2_become_2 21 rfl rfl)
theorem dX2_become_72 : decode cX2_become 72 = .ok (.invokestatic 98, 3) := dk_184 0 98 (dk_at dksX2_become_3 0 rfl rfl)
theorem dX2_become_75 : decode cX2_become 75 = .ok (.aload_n 1, 1) := dk_43 (dk_at dksX2_become_3 3 rfl rfl)
theorem dX2_become_76 : decode cX2_become 76 = .ok (.getfield 22, 3) := dk_180 0 22 (dk_at dksX2_become_3 4 rfl rfl)
theorem dX2_become_79 : decode cX2_become 79 = .ok (.aload_n 0, 1) := dk_42 (dk_at dksX2_become_3 7 rfl rfl)
theorem dX2_become_80 : decode cX2_become 80 = .ok (.getfield 22, 3) := dk_180 0 22 (dk_at dksX2_become_3 8 rfl rfl)
theorem dX2_become_83 : decode cX2_become 83 = .ok (.invokestatic 98, 3) := dk_184 0 98 (dk_at dksX2_become_3 11 rfl rfl)
theorem dX2_become_86 : decode cX2_become 86 = .ok (.aload_n 1, 1) := dk_43 (dk_at dksX2_become_3 14 rfl rfl)
theorem dX2_become_87 : decode cX2_become 87 = .ok (.getfield 25, 3) := dk_180 0 25 (dk_at dksX2_become_3 15 rfl rfl)
theorem dX2_become_90 : decode cX2_become 90 = .ok (.aload_n 0, 1) := dk_42 (dk_at dksX2_become_3 18 rfl rfl)
theorem dX2_become_91 : decode cX2_become 91 = .ok (.getfield 25, 3) := dk_180 0 25 (dk_at dksX2_become_3 19 rfl rfl)
theorem dX2_become_94 : decode cX2_become 94 = .ok (.invokestatic 98, 3) := dk_184 0 98 (dk_at dksX2_become_4 0 rfl rfl)
theorem dX2_become_97 : decode cX2_become 97 = .ok (.aload_n 1, 1) := dk_43 (dk_at dksX2_become_4 3 rfl rfl)
theorem dX2_become_98 : decode cX2_become 98 = .ok (.getfield 28, 3) := dk_180 0 28 (dk_at dksX2_become_4 4 rfl rfl)
theorem dX2_become_101 : decode cX2_become 101 = .ok (.aload_n 0, 1) := dk_42 (dk_at dksX2_become_4 7 rfl rfl)
theorem dX2_become_102 : decode cX2_become 102 = .ok (.getfield 28, 3) := dk_180 0 28 (dk_at dksX2_become_4 8 rfl rfl)
theorem dX2_become_105 : decode cX2_become 105 = .ok (.invokestatic 98, 3) := dk_184 0 98 (dk_at dksX2_become_4 11 rfl rfl)
theorem dX2_become_108 : decode cX2_become 108 = .ok (.aload_n 1, 1) := dk_43 (dk_at dksX2_become_4 14 rfl rfl)
theorem dX2_become_109 : decode cX2_become 109 = .ok (.getfield 31, 3) := dk_180 0 31 (dk_at dksX2_become_4 15 rfl rfl)
theorem dX2_become_112 : decode cX2_become 112 = .ok (.aload_n 0, 1) := dk_42 (dk_at dksX2_become_4 18 rfl rfl)
theorem dX2_become_113 : decode cX2_become 113 = .ok (.getfield 31, 3) := dk_180 0 31 (dk_at dksX2_become_4 19 rfl rfl)
theorem dX2_become_116 : decode cX2_become 116 = .ok (.invokestatic 98, 3) := dk_184 0 98 (dk_at dksX2_become_5 0 rfl rfl)
theorem dX2_become_119 : decode cX2_become 119 = .ok (.aload_n 1, 1) := dk_43 (dk_at dksX2_become_5 3 rfl rfl)
theorem dX2_become_120 : decode cX2_become 120 = .ok (.getfield 34, 3) := dk_180 0 34 (dk_at dksX2_become_5 4 rfl rfl)
theorem dX2_become_123 : decode cX2_become 123 = .ok (.aload_n 0, 1) := dk_42 (dk_at dksX2_become_5 7 rfl rfl)
theorem dX2_become_124 : decode cX2_become 124 = .ok (.getfield 34, 3) := dk_180 0 34 (dk_at dksX2_become_5 8 rfl rfl)
theorem dX2_become_127 : decode cX2_become 127 = .ok (.invokestatic 98, 3) := dk_184 0 98 (dk_at dksX2_become_5 11 rfl rfl)
theorem dX2_become_130 : decode cX2_become 130 = .ok (.aload_n 1, 1) := dk_43 (dk_at dksX2_become_5 14 rfl rfl)
theorem dX2_become_131 : decode cX2_become 131 = .ok (.getfield 37, 3) := dk_180 0 37 (dk_at dksX2_become_5 15 rfl rfl)
theorem dX2_become_134 : decode cX2_become 134 = .ok (.aload_n 0, 1) := dk_42 (dk_at dksX2_become_5 18 rfl rfl)
theorem dX2_become_135 : decode cX2_become 135 = .ok (.getfield 37, 3) := dk_180 0 37 (dk_at dksX2_become_5 19 rfl rfl)
theorem dX2_become_138 : decode cX2_become 138 = .ok (.invokestatic 98, 3) := dk_184 0 98 (dk_at dksX2_become_6 0 rfl rfl)
theorem dX2_become_141 : decode cX2_become 141 = .ok (.aload_n 1, 1) := dk_43 (dk_at dksX2_become_6 3 rfl rfl)
theorem dX2_become_142 : decode cX2_become 142 = .ok (.getfield 40, 3) := dk_180 0 40 (dk_at dksX2_become_6 4 rfl rfl)
theorem dX2_become_145 : decode cX2_become 145 = .ok (.aload_n 0, 1) := dk_42 (dk_at dksX2_become_6 7 rfl rfl)
theorem dX2_become_146 : decode cX2_become 146 = .ok (.getfield 40, 3) := dk_180 0 40 (dk_at dksX2_become_6 8 rfl rfl)
theorem dX2_become_149 : decode cX2_become 149 = .ok (.invokestatic 98, 3) := dk_184 0 98 (dk_at dksX2_become_6 11 rfl rfl)
theorem dX2_become_152 : decode cX2_become 152 = .ok (.aload_n 1, 1) := dk_43 (dk_at dksX2_become_6 14 rfl rfl)
theorem dX2_become_153 : decode cX2_become 153 = .ok (.getfield 43, 3) := dk_180 0 43 (dk_at dksX2_become_6 15 rfl rfl)
theorem dX2_become_156 : decode cX2_become 156 = .ok (.aload_n 0, 1) := dk_42 (dk_at dksX2_become_6 18 rfl rfl)
theorem dX2_become_157 : decode cX2_become 157 = .ok (.getfield 43, 3) := dk_180 0 43 (dk_at dksX2_become_6 19 rfl rfl)
theorem dX2_become_160 : decode cX2_become 160 = .ok (.invokestatic 98, 3) := dk_184 0 98 (dk_at dksX2_become_7 0 rfl rfl)
theorem dX2_become_163 : decode cX2_become 163 = .ok (.aload_n 1, 1) := dk_43 (dk_at dksX2_become_7 3 rfl rfl)
theorem dX2_become_164 : decode cX2_become 164 = .ok (.getfield 46, 3) := dk_180 0 46 (dk_at dksX2_become_7 4 rfl rfl)
theorem dX2_become_167 : decode cX2_become 167 = .ok (.aload_n 0, 1) := dk_42 (dk_at dksX2_become_7 7 rfl rfl)
theorem dX2_become_168 : decode cX2_become 168 = .ok (.getfield 46, 3) := dk_180 0 46 (dk_at dksX2_become_7 8 rfl rfl)
theorem dX2_become_171 : decode cX2_become 171 = .ok (.invokestatic 98, 3) := dk_184 0 98 (dk_at dksX2_become_7 11 rfl rfl)
theorem dX2_become_174 : decode cX2_become 174 = .ok (.aload_n 1, 1) := dk_43 (dk_at dksX2_become_7 14 rfl rfl)
theorem dX2_become_175 : decode cX2_become 175 = .ok (.getfield 49, 3) := dk_180 0 49 (dk_at dksX2_become_7 15 rfl rfl)
theorem dX2_become_178 : decode cX2_become 178 = .ok (.aload_n 0, 1) := dk_42 (dk_at dksX2_become_7 18 rfl rfl)
theorem dX2_become_179 : decode cX2_become 179 = .ok (.getfield 49, 3) := dk_180 0 49 (dk_at dksX2_become_7 19 rfl rfl)
theorem dX2_become_182 : decode cX2_become 182 = .ok (.invokestatic 98, 3) := dk_184 0 98 (dk_at dksX2_become_8 0 rfl rfl)
theorem dX2_become_185 : decode cX2_become 185 = .ok (.aload_n 1, 1) := dk_43 (dk_at dksX2_become_8 3 rfl rfl)
theorem dX2_become_186 : decode cX2_become 186 = .ok (.getfield 52, 3) := dk_180 0 52 (dk_at dksX2_become_8 4 rfl rfl)
theorem dX2_become_189 : decode cX2_become 189 = .ok (.aload_n 0, 1) := dk_42 (dk_at dksX2_become_8 7 rfl rfl)
theorem dX2_become_190 : decode cX2_become 190 = .ok (.getfield 52, 3) := dk_180 0 52 (dk_at dksX2_become_8 8 rfl rfl)
theorem dX2_become_193 : decode cX2_become 193 = .ok (.invokestatic 102, 3) := dk_184 0 102 (dk_at dksX2_become_8 11 rfl rfl)
theorem dX2_become_196 : decode cX2_become 196 = .ok (.aload_n 1, 1) := dk_43 (dk_at dksX2_become_8 14 rfl rfl)
theorem dX2_become_197 : decode cX2_become 197 = .ok (.getfield 56, 3) := dk_180 0 56 (dk_at dksX2_become_8 15 rfl rfl)
theorem dX2_become_200 : decode cX2_become 200 = .ok (.aload_n 0, 1) := dk_42 (dk_at dksX2_become_8 18 rfl rfl)
theorem dX2_become_201 : decode cX2_become 201 = .ok (.getfield 56, 3) := dk_180 0 56 (dk_at dksX2_become_8 19 rfl rfl)
theorem dX2_become_204 : decode cX2_become 204 = .ok (.invokestatic 102, 3) := dk_184 0 102 (dk_at dksX2_become_9 0 rfl rfl)
theorem dX2_become_207 : decode cX2_become 207 = .ok (.aload_n 1, 1) := dk_43 (dk_at dksX2_become_9 3 rfl rfl)
theorem dX2_become_208 : decode cX2_become 208 = .ok (.getfield 59, 3) := dk_180 0 59 (dk_at dksX2_become_9 4 rfl rfl)
theorem dX2_become_211 : decode cX2_become 211 = .ok (.aload_n 0, 1) := dk_42 (dk_at dksX2_become_9 7 rfl rfl)
theorem dX2_become_212 : decode cX2_become 212 = .ok (.getfield 59, 3) := dk_180 0 59 (dk_at dksX2_become_9 8 rfl rfl)
theorem dX2_become_215 : decode cX2_become 215 = .ok (.invokestatic 102, 3) := dk_184 0 102 (dk_at dksX2_become_9 11 rfl rfl)
theorem dX2_become_218 : decode cX2_become 218 = .ok (.aload_n 1, 1) := dk_43 (dk_at dksX2_become_9 14 rfl rfl)
theorem dX2_become_219 : decode cX2_become 219 = .ok (.getfield 62, 3) := dk_180 0 62 (dk_at dksX2_become_9 15 rfl rfl)
theorem dX2_become_222 : decode cX2_become 222 = .ok (.aload_n 0, 1) := dk_42 (dk_at dksX2_become_9 18 rfl rfl)
theorem dX2_become_223 : decode cX2_become 223 = .ok (.getfield 62, 3) := dk_180 0 62 (dk_at dksX2_become_9 19 rfl rfl)
theorem dX2_become_226 : decode cX2_become 226 = .ok (.invokestatic 102, 3) := dk_184 0 102 (dk_at dksX2_become_10 0 rfl rfl)
theorem dX2_become_229 : decode cX2_become 229 = .ok (.aload_n 1, 1) := dk_43 (dk_at dksX2_become_10 3 rfl rfl)
theorem dX2_become_230 : decode cX2_become 230 = .ok (.getfield 65, 3) := dk_180 0 65 (dk_at dksX2_become_10 4 rfl rfl)
theorem dX2_become_233 : decode cX2_become 233 = .ok (.aload_n 0, 1) := dk_42 (dk_at dksX2_become_10 7 rfl rfl)
theorem dX2_become_234 : decode cX2_become 234 = .ok (.getfield 65, 3) := dk_180 0 65 (dk_at dksX2_become_10 8 rfl rfl)
theorem dX2_become_237 : decode cX2_become 237 = .ok (.invokestatic 102, 3) := dk_184 0 102 (dk_at dksX2_become_10 11 rfl rfl)
theorem dX2_become_240 : decode cX2_become 240 = .ok (.aload_n 1, 1) := dk_43 (dk_at dksX2_become_10 14 rfl rfl)
theorem dX2_become_241 : decode cX2_become 241 = .ok (.getfield 70, 3) := dk_180 0 70 (dk_at dksX2_become_10 15 rfl rfl)
theorem dX2_become_244 : decode cX2_become 244 = .ok (.iconst 0, 1) := dk_3 (dk_at dksX2_become_10 18 rfl rfl)
theorem dX2_become_245 : decode cX2_become 245 = .ok (.aload_n 0, 1) := dk_42 (dk_at dksX2_become_10 19 rfl rfl)
theorem dX2_become_246 : decode cX2_become 246 = .ok (.getfield 70, 3) := dk_180 0 70 (dk_at dksX2_become_10 20 rfl rfl)
theorem dX2_become_249 : decode cX2_become 249 = .ok (.iconst 0, 1) := dk_3 (dk_at dksX2_become_10 23 rfl rfl)
theorem dX2_become_250 : decode cX2_become 250 = .ok (.bipush 8, 2) := dk_16 8 (dk_at dksX2_become_11 0 rfl rfl)
theorem dX2_become_252 : decode cX2_become 252 = .ok (.invokestatic 106, 3) := dk_184 0 106 (dk_at dksX2_become_11 2 rfl rfl)
theorem dX2_become_255 : decode cX2_become 255 = .ok (.return_, 1) := dk_177 (dk_at dksX2_become_11 5 rfl rfl)
theorem q84 : (Jvm.Cond.initialized "SwallowSurvey$Land") ∈ lw_all := lw_g (lw_at lw_m1 3 rfl) rfl
theorem q160 : (Jvm.Cond.instantiable "SwallowSurvey$Land" (25 : Nat)) ∈ lw_all := lw_g (lw_at lw_m1 79 rfl) rfl
theorem q162 : (Jvm.Cond.instanceMethod ({ cls := "SwallowSurvey$Land", name := "<init>", desc := "()V" } : Jvm.MethodName)) ∈ lw_all := lw_g (lw_at lw_m1 81 rfl) rfl
theorem q163 : (Jvm.Cond.code ({ cls := "SwallowSurvey$Land", name := "<init>", desc := "()V" } : Jvm.MethodName) prog_3_method_1_code (1 : Nat) (Option.none : Option Jvm.ClassFile.FieldType)) ∈ lw_all := lw_g (lw_at lw_m1 82 rfl) rfl
theorem q164 : (Jvm.Cond.methodLink "SwallowSurvey$Land" (3 : Nat) ({ cls := "java/lang/Object", name := "<init>", desc := "()V" } : Jvm.MethodName)) ∈ lw_all := lw_g (lw_at lw_m1 83 rfl) rfl
theorem q165 : (Jvm.Cond.classLink "SwallowSurvey$Land" (68 : Nat) "SwallowSurvey$Swallow") ∈ lw_all := lw_g (lw_at lw_m1 84 rfl) rfl
theorem q167 : (Jvm.Cond.methodLink "SwallowSurvey$Land" (74 : Nat) ({ cls := "java/util/Arrays", name := "fill", desc := "([II)V" } : Jvm.MethodName)) ∈ lw_all := lw_g (lw_at lw_m1 86 rfl) rfl
theorem q170 : (Jvm.Cond.fieldLink "SwallowSurvey$Land" (9 : Nat) "SwallowSurvey$Land" "w" "I") ∈ lw_all := lw_g (lw_at lw_m1 89 rfl) rfl
theorem q173 : (Jvm.Cond.fieldLink "SwallowSurvey$Land" (15 : Nat) "SwallowSurvey$Land" "h" "I") ∈ lw_all := lw_g (lw_at lw_m1 92 rfl) rfl
theorem q176 : (Jvm.Cond.fieldLink "SwallowSurvey$Land" (80 : Nat) "SwallowSurvey$Land" "state" "I") ∈ lw_all := lw_g (lw_at lw_m1 95 rfl) rfl
theorem q178 : (Jvm.Cond.fieldLink "SwallowSurvey$Land" (83 : Nat) "SwallowSurvey$Land" "year" "I") ∈ lw_all := lw_g (lw_at lw_m1 97 rfl) rfl
theorem q180 : (Jvm.Cond.fieldLink "SwallowSurvey$Land" (86 : Nat) "SwallowSurvey$Land" "nests" "I") ∈ lw_all := lw_g (lw_at lw_m1 99 rfl) rfl
theorem q182 : (Jvm.Cond.fieldLink "SwallowSurvey$Land" (89 : Nat) "SwallowSurvey$Land" "swallows" "I") ∈ lw_all := lw_g (lw_at lw_m1 101 rfl) rfl
theorem q185 : (Jvm.Cond.fieldLink "SwallowSurvey$Land" (92 : Nat) "SwallowSurvey$Land" "hatchings" "I") ∈ lw_all := lw_g (lw_at lw_m1 104 rfl) rfl
theorem q187 : (Jvm.Cond.fieldLink "SwallowSurvey$Land" (95 : Nat) "SwallowSurvey$Land" "claims" "I") ∈ lw_all := lw_g (lw_at lw_m1 106 rfl) rfl
theorem q189 : (Jvm.Cond.fieldLink "SwallowSurvey$Land" (18 : Nat) "SwallowSurvey$Land" "flies" "[I") ∈ lw_all := lw_g (lw_at lw_m1 108 rfl) rfl
theorem q191 : (Jvm.Cond.fieldLink "SwallowSurvey$Land" (22 : Nat) "SwallowSurvey$Land" "price" "[I") ∈ lw_all := lw_g (lw_at lw_m1 110 rfl) rfl
theorem q193 : (Jvm.Cond.fieldLink "SwallowSurvey$Land" (25 : Nat) "SwallowSurvey$Land" "moves" "[I") ∈ lw_all := lw_g (lw_at lw_m1 112 rfl) rfl
theorem q195 : (Jvm.Cond.fieldLink "SwallowSurvey$Land" (28 : Nat) "SwallowSurvey$Land" "lastName" "[I") ∈ lw_all := lw_g (lw_at lw_m1 114 rfl) rfl
theorem q197 : (Jvm.Cond.fieldLink "SwallowSurvey$Land" (31 : Nat) "SwallowSurvey$Land" "nestX" "[I") ∈ lw_all := lw_g (lw_at lw_m1 116 rfl) rfl
theorem q199 : (Jvm.Cond.fieldLink "SwallowSurvey$Land" (34 : Nat) "SwallowSurvey$Land" "nestY" "[I") ∈ lw_all := lw_g (lw_at lw_m1 118 rfl) rfl
theorem q201 : (Jvm.Cond.fieldLink "SwallowSurvey$Land" (37 : Nat) "SwallowSurvey$Land" "hatchCell" "[I") ∈ lw_all := lw_g (lw_at lw_m1 120 rfl) rfl
theorem q203 : (Jvm.Cond.fieldLink "SwallowSurvey$Land" (40 : Nat) "SwallowSurvey$Land" "hatchFlies" "[I") ∈ lw_all := lw_g (lw_at lw_m1 122 rfl) rfl
theorem q205 : (Jvm.Cond.fieldLink "SwallowSurvey$Land" (43 : Nat) "SwallowSurvey$Land" "hatchChance" "[I") ∈ lw_all := lw_g (lw_at lw_m1 124 rfl) rfl
theorem q207 : (Jvm.Cond.fieldLink "SwallowSurvey$Land" (46 : Nat) "SwallowSurvey$Land" "claimA" "[I") ∈ lw_all := lw_g (lw_at lw_m1 126 rfl) rfl
theorem q209 : (Jvm.Cond.fieldLink "SwallowSurvey$Land" (49 : Nat) "SwallowSurvey$Land" "claimB" "[I") ∈ lw_all := lw_g (lw_at lw_m1 128 rfl) rfl
theorem q211 : (Jvm.Cond.fieldLink "SwallowSurvey$Land" (52 : Nat) "SwallowSurvey$Land" "pond" "[Z") ∈ lw_all := lw_g (lw_at lw_m1 130 rfl) rfl
theorem q213 : (Jvm.Cond.fieldLink "SwallowSurvey$Land" (56 : Nat) "SwallowSurvey$Land" "barn" "[Z") ∈ lw_all := lw_g (lw_at lw_m1 132 rfl) rfl
theorem q215 : (Jvm.Cond.fieldLink "SwallowSurvey$Land" (59 : Nat) "SwallowSurvey$Land" "cat" "[Z") ∈ lw_all := lw_g (lw_at lw_m1 134 rfl) rfl
theorem q217 : (Jvm.Cond.fieldLink "SwallowSurvey$Land" (62 : Nat) "SwallowSurvey$Land" "mirror" "[Z") ∈ lw_all := lw_g (lw_at lw_m1 136 rfl) rfl
theorem q220 : (Jvm.Cond.fieldLink "SwallowSurvey$Land" (65 : Nat) "SwallowSurvey$Land" "isOne" "[Z") ∈ lw_all := lw_g (lw_at lw_m1 139 rfl) rfl
theorem q222 : (Jvm.Cond.fieldLink "SwallowSurvey$Land" (70 : Nat) "SwallowSurvey$Land" "swallow" "[LSwallowSurvey$Swallow;") ∈ lw_all := lw_g (lw_at lw_m1 141 rfl) rfl
theorem q225 : (Jvm.Cond.lays "SwallowSurvey$Land" "SwallowSurvey$Land" "w" "I") ∈ lw_all := lw_g (lw_at lw_m1 144 rfl) rfl
theorem q226 : (Jvm.Cond.soleField "SwallowSurvey$Land" "w") ∈ lw_all := lw_g (lw_at lw_m1 145 rfl) rfl
theorem q227 : (Jvm.Cond.lays "SwallowSurvey$Land" "SwallowSurvey$Land" "h" "I") ∈ lw_all := lw_g (lw_at lw_m1 146 rfl) rfl
theorem q228 : (Jvm.Cond.soleField "SwallowSurvey$Land" "h") ∈ lw_all := lw_g (lw_at lw_m1 147 rfl) rfl
theorem q229 : (Jvm.Cond.lays "SwallowSurvey$Land" "SwallowSurvey$Land" "state" "I") ∈ lw_all := lw_g (lw_at lw_m1 148 rfl) rfl
theorem q230 : (Jvm.Cond.soleField "SwallowSurvey$Land" "state") ∈ lw_all := lw_g (lw_at lw_m1 149 rfl) rfl
theorem q231 : (Jvm.Cond.lays "SwallowSurvey$Land" "SwallowSurvey$Land" "year" "I") ∈ lw_all := lw_g (lw_at lw_m1 150 rfl) rfl
theorem q232 : (Jvm.Cond.soleField "SwallowSurvey$Land" "year") ∈ lw_all := lw_g (lw_at lw_m1 151 rfl) rfl
theorem q233 : (Jvm.Cond.lays "SwallowSurvey$Land" "SwallowSurvey$Land" "nests" "I") ∈ lw_all := lw_g (lw_at lw_m1 152 rfl) rfl
theorem q234 : (Jvm.Cond.soleField "SwallowSurvey$Land" "nests") ∈ lw_all := lw_g (lw_at lw_m1 153 rfl) rfl
theorem q235 : (Jvm.Cond.lays "SwallowSurvey$Land" "SwallowSurvey$Land" "swallows" "I") ∈ lw_all := lw_g (lw_at lw_m1 154 rfl) rfl
theorem q236 : (Jvm.Cond.soleField "SwallowSurvey$Land" "swallows") ∈ lw_all := lw_g (lw_at lw_m1 155 rfl) rfl
theorem q237 : (Jvm.Cond.lays "SwallowSurvey$Land" "SwallowSurvey$Land" "hatchings" "I") ∈ lw_all := lw_g (lw_at lw_m1 156 rfl) rfl
theorem q238 : (Jvm.Cond.soleField "SwallowSurvey$Land" "hatchings") ∈ lw_all := lw_g (lw_at lw_m1 157 rfl) rfl
theorem q239 : (Jvm.Cond.lays "SwallowSurvey$Land" "SwallowSurvey$Land" "claims" "I") ∈ lw_all := lw_g (lw_at lw_m1 158 rfl) rfl
theorem q240 : (Jvm.Cond.soleField "SwallowSurvey$Land" "claims") ∈ lw_all := lw_g (lw_at lw_m1 159 rfl) rfl
theorem q241 : (Jvm.Cond.laysFinal "SwallowSurvey$Land" "SwallowSurvey$Land" "flies" "[I") ∈ lw_all := lw_g (lw_at lw_m1 160 rfl) rfl
theorem q242 : (Jvm.Cond.soleField "SwallowSurvey$Land" "flies") ∈ lw_all := lw_g (lw_at lw_m1 161 rfl) rfl
theorem q243 : (Jvm.Cond.laysFinal "SwallowSurvey$Land" "SwallowSurvey$Land" "price" "[I") ∈ lw_all := lw_g (lw_at lw_m1 162 rfl) rfl
theorem q244 : (Jvm.Cond.soleField "SwallowSurvey$Land" "price") ∈ lw_all := lw_g (lw_at lw_m1 163 rfl) rfl
theorem q245 : (Jvm.Cond.laysFinal "SwallowSurvey$Land" "SwallowSurvey$Land" "moves" "[I") ∈ lw_all := lw_g (lw_at lw_m1 164 rfl) rfl
theorem q246 : (Jvm.Cond.soleField "SwallowSurvey$Land" "moves") ∈ lw_all := lw_g (lw_at lw_m1 165 rfl) rfl
theorem q247 : (Jvm.Cond.laysFinal "SwallowSurvey$Land" "SwallowSurvey$Land" "lastName" "[I") ∈ lw_all := lw_g (lw_at lw_m1 166 rfl) rfl
theorem q248 : (Jvm.Cond.soleField "SwallowSurvey$Land" "lastName") ∈ lw_all := lw_g (lw_at lw_m1 167 rfl) rfl
theorem q249 : (Jvm.Cond.laysFinal "SwallowSurvey$Land" "SwallowSurvey$Land" "nestX" "[I") ∈ lw_all := lw_g (lw_at lw_m1 168 rfl) rfl
theorem q250 : (Jvm.Cond.soleField "SwallowSurvey$Land" "nestX") ∈ lw_all := lw_g (lw_at lw_m1 169 rfl) rfl
theorem q251 : (Jvm.Cond.laysFinal "SwallowSurvey$Land" "SwallowSurvey$Land" "nestY" "[I") ∈ lw_all := lw_g (lw_at lw_m1 170 rfl) rfl
theorem q252 : (Jvm.Cond.soleField "SwallowSurvey$Land" "nestY") ∈ lw_all := lw_g (lw_at lw_m1 171 rfl) rfl
theorem q253 : (Jvm.Cond.laysFinal "SwallowSurvey$Land" "SwallowSurvey$Land" "hatchCell" "[I") ∈ lw_all := lw_g (lw_at lw_m1 172 rfl) rfl
theorem q254 : (Jvm.Cond.soleField "SwallowSurvey$Land" "hatchCell") ∈ lw_all := lw_g (lw_at lw_m1 173 rfl) rfl
theorem q255 : (Jvm.Cond.laysFinal "SwallowSurvey$Land" "SwallowSurvey$Land" "hatchFlies" "[I") ∈ lw_all := lw_g (lw_at lw_m1 174 rfl) rfl
theorem q256 : (Jvm.Cond.soleField "SwallowSurvey$Land" "hatchFlies") ∈ lw_all := lw_g (lw_at lw_m1 175 rfl) rfl
theorem q257 : (Jvm.Cond.laysFinal "SwallowSurvey$Land" "SwallowSurvey$Land" "hatchChance" "[I") ∈ lw_all := lw_g (lw_at lw_m1 176 rfl) rfl
theorem q258 : (Jvm.Cond.soleField "SwallowSurvey$Land" "hatchChance") ∈ lw_all := lw_g (lw_at lw_m1 177 rfl) rfl
theorem q259 : (Jvm.Cond.laysFinal "SwallowSurvey$Land" "SwallowSurvey$Land" "claimA" "[I") ∈ lw_all := lw_g (lw_at lw_m1 178 rfl) rfl
theorem q260 : (Jvm.Cond.soleField "SwallowSurvey$Land" "claimA") ∈ lw_all := lw_g (lw_at lw_m1 179 rfl) rfl
theorem q261 : (Jvm.Cond.laysFinal "SwallowSurvey$Land" "SwallowSurvey$Land" "claimB" "[I") ∈ lw_all := lw_g (lw_at lw_m1 180 rfl) rfl
theorem q262 : (Jvm.Cond.soleField "SwallowSurvey$Land" "claimB") ∈ lw_all := lw_g (lw_at lw_m1 181 rfl) rfl
theorem q263 : (Jvm.Cond.laysFinal "SwallowSurvey$Land" "SwallowSurvey$Land" "pond" "[Z") ∈ lw_all := lw_g (lw_at lw_m1 182 rfl) rfl
theorem q264 : (Jvm.Cond.soleField "SwallowSurvey$Land" "pond") ∈ lw_all := lw_g (lw_at lw_m1 183 rfl) rfl
theorem q265 : (Jvm.Cond.laysFinal "SwallowSurvey$Land" "SwallowSurvey$Land" "barn" "[Z") ∈ lw_all := lw_g (lw_at lw_m1 184 rfl) rfl
theorem q266 : (Jvm.Cond.soleField "SwallowSurvey$Land" "barn") ∈ lw_all := lw_g (lw_at lw_m1 185 rfl) rfl
theorem q267 : (Jvm.Cond.laysFinal "SwallowSurvey$Land" "SwallowSurvey$Land" "cat" "[Z") ∈ lw_all := lw_g (lw_at lw_m1 186 rfl) rfl
theorem q268 : (Jvm.Cond.soleField "SwallowSurvey$Land" "cat") ∈ lw_all := lw_g (lw_at lw_m1 187 rfl) rfl
theorem q269 : (Jvm.Cond.laysFinal "SwallowSurvey$Land" "SwallowSurvey$Land" "mirror" "[Z") ∈ lw_all := lw_g (lw_at lw_m1 188 rfl) rfl
theorem q270 : (Jvm.Cond.soleField "SwallowSurvey$Land" "mirror") ∈ lw_all := lw_g (lw_at lw_m1 189 rfl) rfl
theorem q271 : (Jvm.Cond.laysFinal "SwallowSurvey$Land" "SwallowSurvey$Land" "isOne" "[Z") ∈ lw_all := lw_g (lw_at lw_m1 190 rfl) rfl
theorem q272 : (Jvm.Cond.soleField "SwallowSurvey$Land" "isOne") ∈ lw_all := lw_g (lw_at lw_m1 191 rfl) rfl
theorem q273 : (Jvm.Cond.laysFinal "SwallowSurvey$Land" "SwallowSurvey$Land" "swallow" "[LSwallowSurvey$Swallow;") ∈ lw_all := lw_g (lw_at lw_m1 192 rfl) rfl
theorem q274 : (Jvm.Cond.soleField "SwallowSurvey$Land" "swallow") ∈ lw_all := lw_g (lw_at lw_m1 193 rfl) rfl
theorem q275 : (Jvm.Cond.superclass "SwallowSurvey$Land" "java/lang/Object") ∈ lw_all := lw_g (lw_at lw_m1 194 rfl) rfl
theorem q771 : (Jvm.Cond.instanceMethod ({ cls := "SwallowSurvey$Land", name := "isCell", desc := "(II)Z" } : Jvm.MethodName)) ∈ lw_all := lw_g (lw_at lw_m3 210 rfl) rfl
theorem q772 : (Jvm.Cond.selects "SwallowSurvey$Land" ({ cls := "SwallowSurvey$Land", name := "isCell", desc := "(II)Z" } : Jvm.MethodName) ({ cls := "SwallowSurvey$Land", name := "isCell", desc := "(II)Z" } : Jvm.MethodName)) ∈ lw_all := lw_g (lw_at lw_m3 211 rfl) rfl
theorem q773 : (Jvm.Cond.code ({ cls := "SwallowSurvey$Land", name := "isCell", desc := "(II)Z" } : Jvm.MethodName) prog_3_method_3_code (3 : Nat) (Option.some Jvm.ClassFile.FieldType.boolean)) ∈ lw_all := lw_g (lw_at lw_m3 212 rfl) rfl
theorem q774 : (Jvm.Cond.methodLinkNest "SwallowSurvey$Land" (112 : Nat) ({ cls := "SwallowSurvey", name := "isIn", desc := "(III)Z" } : Jvm.MethodName) "SwallowSurvey") ∈ lw_tbl := lw_at lw_m3 213 rfl
theorem q803 : (Jvm.Cond.instanceMethod ({ cls := "SwallowSurvey$Land", name := "isPoint", desc := "(II)Z" } : Jvm.MethodName)) ∈ lw_all := lw_g (lw_at lw_m4 2 rfl) rfl
theorem q804 : (Jvm.Cond.selects "SwallowSurvey$Land" ({ cls := "SwallowSurvey$Land", name := "isPoint", desc := "(II)Z" } : Jvm.MethodName) ({ cls := "SwallowSurvey$Land", name := "isPoint", desc := "(II)Z" } : Jvm.MethodName)) ∈ lw_all := lw_g (lw_at lw_m4 3 rfl) rfl
theorem q805 : (Jvm.Cond.code ({ cls := "SwallowSurvey$Land", name := "isPoint", desc := "(II)Z" } : Jvm.MethodName) prog_3_method_4_code (3 : Nat) (Option.some Jvm.ClassFile.FieldType.boolean)) ∈ lw_all := lw_g (lw_at lw_m4 4 rfl) rfl
theorem q871 : (Jvm.Cond.instanceMethod ({ cls := "SwallowSurvey$Land", name := "seenFlies", desc := "(II)I" } : Jvm.MethodName)) ∈ lw_all := lw_g (lw_at lw_m4 70 rfl) rfl
theorem q872 : (Jvm.Cond.selects "SwallowSurvey$Land" ({ cls := "SwallowSurvey$Land", name := "seenFlies", desc := "(II)I" } : Jvm.MethodName) ({ cls := "SwallowSurvey$Land", name := "seenFlies", desc := "(II)I" } : Jvm.MethodName)) ∈ lw_all := lw_g (lw_at lw_m4 71 rfl) rfl
theorem q873 : (Jvm.Cond.code ({ cls := "SwallowSurvey$Land", name := "seenFlies", desc := "(II)I" } : Jvm.MethodName) prog_3_method_6_code (5 : Nat) (Option.some Jvm.ClassFile.FieldType.int)) ∈ lw_all := lw_g (lw_at lw_m4 72 rfl) rfl
theorem q874 : (Jvm.Cond.methodLink "SwallowSurvey$Land" (116 : Nat) ({ cls := "SwallowSurvey$Land", name := "isCell", desc := "(II)Z" } : Jvm.MethodName)) ∈ lw_all := lw_g (lw_at lw_m4 73 rfl) rfl
theorem q875 : (Jvm.Cond.methodLink "SwallowSurvey$Land" (120 : Nat) ({ cls := "SwallowSurvey$Land", name := "hasPond", desc := "(II)Z" } : Jvm.MethodName)) ∈ lw_all := lw_g (lw_at lw_m4 74 rfl) rfl
theorem q876 : (Jvm.Cond.instanceMethod ({ cls := "SwallowSurvey$Land", name := "hasPond", desc := "(II)Z" } : Jvm.MethodName)) ∈ lw_all := lw_g (lw_at lw_m4 75 rfl) rfl
theorem q877 : (Jvm.Cond.selects "SwallowSurvey$Land" ({ cls := "SwallowSurvey$Land", name := "hasPond", desc := "(II)Z" } : Jvm.MethodName) ({ cls := "SwallowSurvey$Land", name := "hasPond", desc := "(II)Z" } : Jvm.MethodName)) ∈ lw_all := lw_g (lw_at lw_m4 76 rfl) rfl
theorem q878 : (Jvm.Cond.code ({ cls := "SwallowSurvey$Land", name := "hasPond", desc := "(II)Z" } : Jvm.MethodName) prog_3_method_5_code (3 : Nat) (Option.some Jvm.ClassFile.FieldType.boolean)) ∈ lw_all := lw_g (lw_at lw_m4 77 rfl) rfl
theorem q879 : (Jvm.Cond.fieldLinkNest "SwallowSurvey$Land" (123 : Nat) "SwallowSurvey" "EAST" "[I" "SwallowSurvey") ∈ lw_tbl := lw_at lw_m4 78 rfl
theorem q880 : (Jvm.Cond.fieldLinkNest "SwallowSurvey$Land" (126 : Nat) "SwallowSurvey" "SOUTH" "[I" "SwallowSurvey") ∈ lw_tbl := lw_at lw_m4 79 rfl
theorem q920 : (Jvm.Cond.instanceMethod ({ cls := "SwallowSurvey$Land", name := "hasCat", desc := "(II)Z" } : Jvm.MethodName)) ∈ lw_all := lw_g (lw_at lw_m4 119 rfl) rfl
theorem q921 : (Jvm.Cond.selects "SwallowSurvey$Land" ({ cls := "SwallowSurvey$Land", name := "hasCat", desc := "(II)Z" } : Jvm.MethodName) ({ cls := "SwallowSurvey$Land", name := "hasCat", desc := "(II)Z" } : Jvm.MethodName)) ∈ lw_all := lw_g (lw_at lw_m4 120 rfl) rfl
theorem q922 : (Jvm.Cond.code ({ cls := "SwallowSurvey$Land", name := "hasCat", desc := "(II)Z" } : Jvm.MethodName) prog_3_method_7_code (6 : Nat) (Option.some Jvm.ClassFile.FieldType.boolean)) ∈ lw_all := lw_g (lw_at lw_m4 121 rfl) rfl
theorem q942 : (Jvm.Cond.instanceMethod ({ cls := "SwallowSurvey$Land", name := "draw", desc := "(I)I" } : Jvm.MethodName)) ∈ lw_all := lw_g (lw_at lw_m4 141 rfl) rfl
theorem q943 : (Jvm.Cond.selects "SwallowSurvey$Land" ({ cls := "SwallowSurvey$Land", name := "draw", desc := "(I)I" } : Jvm.MethodName) ({ cls := "SwallowSurvey$Land", name := "draw", desc := "(I)I" } : Jvm.MethodName)) ∈ lw_all := lw_g (lw_at lw_m4 142 rfl) rfl
theorem q944 : (Jvm.Cond.code ({ cls := "SwallowSurvey$Land", name := "draw", desc := "(I)I" } : Jvm.MethodName) prog_3_method_8_code (2 : Nat) (Option.some Jvm.ClassFile.FieldType.int)) ∈ lw_all := lw_g (lw_at lw_m4 143 rfl) rfl
theorem q945 : (Jvm.Cond.constant "SwallowSurvey$Land" (129 : Nat) (1664525 : Int32)) ∈ lw_all := lw_g (lw_at lw_m4 144 rfl) rfl
theorem q946 : (Jvm.Cond.constant "SwallowSurvey$Land" (130 : Nat) (1013904223 : Int32)) ∈ lw_all := lw_g (lw_at lw_m4 145 rfl) rfl
theorem q1000 : (Jvm.Cond.instanceMethod ({ cls := "SwallowSurvey$Land", name := "become", desc := "(LSwallowSurvey$Land;)V" } : Jvm.MethodName)) ∈ lw_all := lw_g (lw_at lw_m4 199 rfl) rfl
theorem q1001 : (Jvm.Cond.selects "SwallowSurvey$Land" ({ cls := "SwallowSurvey$Land", name := "become", desc := "(LSwallowSurvey$Land;)V" } : Jvm.MethodName) ({ cls := "SwallowSurvey$Land", name := "become", desc := "(LSwallowSurvey$Land;)V" } : Jvm.MethodName)) ∈ lw_all := lw_g (lw_at lw_m4 200 rfl) rfl
theorem q1002 : (Jvm.Cond.code ({ cls := "SwallowSurvey$Land", name := "become", desc := "(LSwallowSurvey$Land;)V" } : Jvm.MethodName) prog_3_method_2_code (2 : Nat) (Option.none : Option Jvm.ClassFile.FieldType)) ∈ lw_all := lw_g (lw_at lw_m4 201 rfl) rfl
theorem q1003 : (Jvm.Cond.methodLinkNest "SwallowSurvey$Land" (98 : Nat) ({ cls := "SwallowSurvey", name := "copies", desc := "([I[I)V" } : Jvm.MethodName) "SwallowSurvey") ∈ lw_tbl := lw_at lw_m4 202 rfl
theorem q1006 : (Jvm.Cond.methodLinkNest "SwallowSurvey$Land" (102 : Nat) ({ cls := "SwallowSurvey", name := "copiesFlags", desc := "([Z[Z)V" } : Jvm.MethodName) "SwallowSurvey") ∈ lw_tbl := lw_at lw_m4 205 rfl
theorem q1009 : (Jvm.Cond.methodLink "SwallowSurvey$Land" (106 : Nat) ({ cls := "java/lang/System", name := "arraycopy", desc := "(Ljava/lang/Object;ILjava/lang/Object;II)V" } : Jvm.MethodName)) ∈ lw_all := lw_g (lw_at lw_m4 208 rfl) rfl
theorem in_X2 : ∀ w ∈ wsX20, w ∈ lw_all := lw_in wsX20 [225, 227, 229, 231, 233, 235, 237, 239, 241, 243, 245, 247, 249, 251, 253, 255, 257, 259, 261, 263, 265, 267, 269, 271, 273] (by decide +kernel) (by decide +kernel)
