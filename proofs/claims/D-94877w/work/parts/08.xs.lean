/-! SwallowSurvey$Swallow -/
set_option maxRecDepth 100000
def RX5 : String := "SwallowSurvey$Swallow"
def TX5 : u_T := fun k => match k with
  | 0 => ("SwallowSurvey$Swallow", "x", "I", true)
  | 1 => ("SwallowSurvey$Swallow", "y", "I", true)
  | 2 => ("SwallowSurvey$Swallow", "heading", "I", true)
  | 3 => ("SwallowSurvey$Swallow", "length", "I", true)
  | _ => ("SwallowSurvey$Swallow", "habit", "I", true)
def tyX5 : Nat → FieldType := fun k => match k with
  | 0 => .int
  | 1 => .int
  | 2 => .int
  | 3 => .int
  | _ => .int
abbrev wsX50 : List Cond := u_ws RX5 TX5 5
theorem nmX5 : ∀ a, a < 5 → ∀ b, b < 5 → a ≠ b → (TX5 a).2.1 ≠ (TX5 b).2.1 := by decide +kernel
theorem tyX5_ok : ∀ k, k < 5 → parseFieldDescriptor (TX5 k).2.2.1 = some (tyX5 k) := by decide +kernel
abbrev cX5_init : ByteArray := prog_6_method_1_code
def yX5_init : MethodName := ⟨RX5, "<init>", "(IIIII)V"⟩
def dkwX5_init_1 : List UInt8 := [181, 0, 19, 42, 21, 5, 181, 0, 22, 177]
abbrev dktX5_init_1 : List UInt8 := dkwX5_init_1 ++ []
def dkwX5_init_0 : List UInt8 := [42, 183, 0, 1, 42, 27, 181, 0, 7, 42, 28, 181, 0, 13, 42, 29, 181, 0, 16, 42, 21, 4]
abbrev dktX5_init_0 : List UInt8 := dkwX5_init_0 ++ dktX5_init_1
theorem dksX5_init_0 : cX5_init.data.toList.drop 0 = dktX5_init_0 := by decide +kernel
theorem dksX5_init_1 : cX5_init.data.toList.drop 22 = dktX5_init_1 := dk_seg dksX5_init_0 22 rfl rfl
theorem dX5_init_0 : decode cX5_init 0 = .ok (.aload_n 0, 1) := dk_42 (dk_at dksX5_init_0 0 rfl rfl)
theorem dX5_init_1 : decode cX5_init 1 = .ok (.invokespecial 1, 3) := dk_183 0 1 (dk_at dksX5_init_0 1 rfl rfl)
theorem dX5_init_4 : decode cX5_init 4 = .ok (.aload_n 0, 1) := dk_42 (dk_at dksX5_init_0 4 rfl rfl)
theorem dX5_init_5 : decode cX5_init 5 = .ok (.iload_n 1, 1) := dk_27 (dk_at dksX5_init_0 5 rfl rfl)
theorem dX5_init_6 : decode cX5_init 6 = .ok (.putfield 7, 3) := dk_181 0 7 (dk_at dksX5_init_0 6 rfl rfl)
theorem dX5_init_9 : decode cX5_init 9 = .ok (.aload_n 0, 1) := dk_42 (dk_at dksX5_init_0 9 rfl rfl)
theorem dX5_init_10 : decode cX5_init 10 = .ok (.iload_n 2, 1) := dk_28 (dk_at dksX5_init_0 10 rfl rfl)
theorem dX5_init_11 : decode cX5_init 11 = .ok (.putfield 13, 3) := dk_181 0 13 (dk_at dksX5_init_0 11 rfl rfl)
theorem dX5_init_14 : decode cX5_init 14 = .ok (.aload_n 0, 1) := dk_42 (dk_at dksX5_init_0 14 rfl rfl)
theorem dX5_init_15 : decode cX5_init 15 = .ok (.iload_n 3, 1) := dk_29 (dk_at dksX5_init_0 15 rfl rfl)
theorem dX5_init_16 : decode cX5_init 16 = .ok (.putfield 16, 3) := dk_181 0 16 (dk_at dksX5_init_0 16 rfl rfl)
theorem dX5_init_19 : decode cX5_init 19 = .ok (.aload_n 0, 1) := dk_42 (dk_at dksX5_init_0 19 rfl rfl)
theorem dX5_init_20 : decode cX5_init 20 = .ok (.iload 4, 2) := dk_21 4 (dk_at dksX5_init_0 20 rfl rfl)
theorem dX5_init_22 : decode cX5_init 22 = .ok (.putfield 19, 3) := dk_181 0 19 (dk_at dksX5_init_1 0 rfl rfl)
theorem dX5_init_25 : decode cX5_init 25 = .ok (.aload_n 0, 1) := dk_42 (dk_at dksX5_init_1 3 rfl rfl)
theorem dX5_init_26 : decode cX5_init 26 = .ok (.iload 5, 2) := dk_21 5 (dk_at dksX5_init_1 4 rfl rfl)
theorem dX5_init_28 : decode cX5_init 28 = .ok (.putfield 22, 3) := dk_181 0 22 (dk_at dksX5_init_1 6 rfl rfl)
theorem dX5_init_31 : decode cX5_init 31 = .ok (.return_, 1) := dk_177 (dk_at dksX5_init_1 9 rfl rfl)
theorem q89 : (Jvm.Cond.initialized "SwallowSurvey$Swallow") ∈ lw_all := lw_g (lw_at lw_m1 8 rfl) rfl
theorem q815 : (Jvm.Cond.instantiable "SwallowSurvey$Swallow" (5 : Nat)) ∈ lw_all := lw_g (lw_at lw_m4 14 rfl) rfl
theorem q817 : (Jvm.Cond.instanceMethod ({ cls := "SwallowSurvey$Swallow", name := "<init>", desc := "(IIIII)V" } : Jvm.MethodName)) ∈ lw_all := lw_g (lw_at lw_m4 16 rfl) rfl
theorem q818 : (Jvm.Cond.code ({ cls := "SwallowSurvey$Swallow", name := "<init>", desc := "(IIIII)V" } : Jvm.MethodName) prog_6_method_1_code (6 : Nat) (Option.none : Option Jvm.ClassFile.FieldType)) ∈ lw_all := lw_g (lw_at lw_m4 17 rfl) rfl
theorem q819 : (Jvm.Cond.methodLink "SwallowSurvey$Swallow" (1 : Nat) ({ cls := "java/lang/Object", name := "<init>", desc := "()V" } : Jvm.MethodName)) ∈ lw_all := lw_g (lw_at lw_m4 18 rfl) rfl
theorem q820 : (Jvm.Cond.fieldLink "SwallowSurvey$Swallow" (7 : Nat) "SwallowSurvey$Swallow" "x" "I") ∈ lw_all := lw_g (lw_at lw_m4 19 rfl) rfl
theorem q822 : (Jvm.Cond.fieldLink "SwallowSurvey$Swallow" (13 : Nat) "SwallowSurvey$Swallow" "y" "I") ∈ lw_all := lw_g (lw_at lw_m4 21 rfl) rfl
theorem q824 : (Jvm.Cond.fieldLink "SwallowSurvey$Swallow" (16 : Nat) "SwallowSurvey$Swallow" "heading" "I") ∈ lw_all := lw_g (lw_at lw_m4 23 rfl) rfl
theorem q826 : (Jvm.Cond.fieldLink "SwallowSurvey$Swallow" (19 : Nat) "SwallowSurvey$Swallow" "length" "I") ∈ lw_all := lw_g (lw_at lw_m4 25 rfl) rfl
theorem q828 : (Jvm.Cond.fieldLink "SwallowSurvey$Swallow" (22 : Nat) "SwallowSurvey$Swallow" "habit" "I") ∈ lw_all := lw_g (lw_at lw_m4 27 rfl) rfl
theorem q830 : (Jvm.Cond.laysFinal "SwallowSurvey$Swallow" "SwallowSurvey$Swallow" "x" "I") ∈ lw_all := lw_g (lw_at lw_m4 29 rfl) rfl
theorem q831 : (Jvm.Cond.soleField "SwallowSurvey$Swallow" "x") ∈ lw_all := lw_g (lw_at lw_m4 30 rfl) rfl
theorem q832 : (Jvm.Cond.laysFinal "SwallowSurvey$Swallow" "SwallowSurvey$Swallow" "y" "I") ∈ lw_all := lw_g (lw_at lw_m4 31 rfl) rfl
theorem q833 : (Jvm.Cond.soleField "SwallowSurvey$Swallow" "y") ∈ lw_all := lw_g (lw_at lw_m4 32 rfl) rfl
theorem q834 : (Jvm.Cond.laysFinal "SwallowSurvey$Swallow" "SwallowSurvey$Swallow" "heading" "I") ∈ lw_all := lw_g (lw_at lw_m4 33 rfl) rfl
theorem q835 : (Jvm.Cond.soleField "SwallowSurvey$Swallow" "heading") ∈ lw_all := lw_g (lw_at lw_m4 34 rfl) rfl
theorem q836 : (Jvm.Cond.laysFinal "SwallowSurvey$Swallow" "SwallowSurvey$Swallow" "length" "I") ∈ lw_all := lw_g (lw_at lw_m4 35 rfl) rfl
theorem q837 : (Jvm.Cond.soleField "SwallowSurvey$Swallow" "length") ∈ lw_all := lw_g (lw_at lw_m4 36 rfl) rfl
theorem q838 : (Jvm.Cond.laysFinal "SwallowSurvey$Swallow" "SwallowSurvey$Swallow" "habit" "I") ∈ lw_all := lw_g (lw_at lw_m4 37 rfl) rfl
theorem q839 : (Jvm.Cond.soleField "SwallowSurvey$Swallow" "habit") ∈ lw_all := lw_g (lw_at lw_m4 38 rfl) rfl
theorem q840 : (Jvm.Cond.superclass "SwallowSurvey$Swallow" "java/lang/Object") ∈ lw_all := lw_g (lw_at lw_m4 39 rfl) rfl
theorem in_X5 : ∀ w ∈ wsX50, w ∈ lw_all := lw_in wsX50 [830, 832, 834, 836, 838] (by decide +kernel) (by decide +kernel)
/-! SwallowSurvey$Fault -/
set_option maxRecDepth 100000
def RX6 : String := "SwallowSurvey$Fault"
def TX6 : u_T := fun k => match k with
  | 0 => ("java/lang/Throwable", "cause", "Ljava/lang/Throwable;", false)
  | 1 => ("java/lang/Throwable", "stackTrace", "[Ljava/lang/StackTraceElement;", false)
  | 2 => ("java/lang/Throwable", "suppressedExceptions", "Ljava/util/List;", false)
  | 3 => ("java/lang/Throwable", "detailMessage", "Ljava/lang/String;", false)
  | 4 => ("java/lang/Throwable", "backtrace", "Ljava/lang/Object;", false)
  | 5 => ("java/lang/Throwable", "depth", "I", false)
  | 6 => ("SwallowSurvey$Fault", "kind", "I", true)
  | _ => ("SwallowSurvey$Fault", "place", "I", true)
def tyX6 : Nat → FieldType := fun k => match k with
  | 0 => .object "java/lang/Throwable"
  | 1 => .array (.object "java/lang/StackTraceElement")
  | 2 => .object "java/util/List"
  | 3 => .object "java/lang/String"
  | 4 => .object "java/lang/Object"
  | 5 => .int
  | 6 => .int
  | _ => .int
abbrev wsX60 : List Cond := u_ws RX6 TX6 8
theorem nmX6 : ∀ a, a < 8 → ∀ b, b < 8 → a ≠ b → (TX6 a).2.1 ≠ (TX6 b).2.1 := by decide +kernel
theorem tyX6_ok : ∀ k, k < 8 → parseFieldDescriptor (TX6 k).2.2.1 = some (tyX6 k) := by decide +kernel
abbrev cX6_init : ByteArray := prog_2_method_1_code
def yX6_init : MethodName := ⟨RX6, "<init>", "(II)V"⟩
def dkwX6_init_0 : List UInt8 := [42, 1, 1, 3, 3, 183, 0, 1, 42, 27, 181, 0, 7, 42, 28, 181, 0, 13, 177]
abbrev dktX6_init_0 : List UInt8 := dkwX6_init_0 ++ []
theorem dksX6_init_0 : cX6_init.data.toList.drop 0 = dktX6_init_0 := by decide +kernel
theorem dX6_init_0 : decode cX6_init 0 = .ok (.aload_n 0, 1) := dk_42 (dk_at dksX6_init_0 0 rfl rfl)
theorem dX6_init_1 : decode cX6_init 1 = .ok (.aconst_null, 1) := dk_1 (dk_at dksX6_init_0 1 rfl rfl)
theorem dX6_init_2 : decode cX6_init 2 = .ok (.aconst_null, 1) := dk_1 (dk_at dksX6_init_0 2 rfl rfl)
theorem dX6_init_3 : decode cX6_init 3 = .ok (.iconst 0, 1) := dk_3 (dk_at dksX6_init_0 3 rfl rfl)
theorem dX6_init_4 : decode cX6_init 4 = .ok (.iconst 0, 1) := dk_3 (dk_at dksX6_init_0 4 rfl rfl)
theorem dX6_init_5 : decode cX6_init 5 = .ok (.invokespecial 1, 3) := dk_183 0 1 (dk_at dksX6_init_0 5 rfl rfl)
theorem dX6_init_8 : decode cX6_init 8 = .ok (.aload_n 0, 1) := dk_42 (dk_at dksX6_init_0 8 rfl rfl)
theorem dX6_init_9 : decode cX6_init 9 = .ok (.iload_n 1, 1) := dk_27 (dk_at dksX6_init_0 9 rfl rfl)
theorem dX6_init_10 : decode cX6_init 10 = .ok (.putfield 7, 3) := dk_181 0 7 (dk_at dksX6_init_0 10 rfl rfl)
theorem dX6_init_13 : decode cX6_init 13 = .ok (.aload_n 0, 1) := dk_42 (dk_at dksX6_init_0 13 rfl rfl)
theorem dX6_init_14 : decode cX6_init 14 = .ok (.iload_n 2, 1) := dk_28 (dk_at dksX6_init_0 14 rfl rfl)
theorem dX6_init_15 : decode cX6_init 15 = .ok (.putfield 13, 3) := dk_181 0 13 (dk_at dksX6_init_0 15 rfl rfl)
theorem dX6_init_18 : decode cX6_init 18 = .ok (.return_, 1) := dk_177 (dk_at dksX6_init_0 18 rfl rfl)
theorem q100 : (Jvm.Cond.initialized "SwallowSurvey$Fault") ∈ lw_all := lw_g (lw_at lw_m1 19 rfl) rfl
theorem q595 : (Jvm.Cond.instantiable "SwallowSurvey$Fault" (8 : Nat)) ∈ lw_all := lw_g (lw_at lw_m3 34 rfl) rfl
theorem q596 : (Jvm.Cond.castable "SwallowSurvey$Fault" "SwallowSurvey$Fault") ∈ lw_tbl := lw_at lw_m3 35 rfl
theorem q601 : (Jvm.Cond.selects "SwallowSurvey$Fault" ({ cls := "java/lang/Throwable", name := "fillInStackTrace", desc := "(I)Ljava/lang/Throwable;" } : Jvm.MethodName) ({ cls := "java/lang/Throwable", name := "fillInStackTrace", desc := "(I)Ljava/lang/Throwable;" } : Jvm.MethodName)) ∈ lw_all := lw_g (lw_at lw_m3 40 rfl) rfl
theorem q602 : (Jvm.Cond.selects "SwallowSurvey$Fault" ({ cls := "java/lang/Throwable", name := "fillInStackTrace", desc := "()Ljava/lang/Throwable;" } : Jvm.MethodName) ({ cls := "java/lang/Throwable", name := "fillInStackTrace", desc := "()Ljava/lang/Throwable;" } : Jvm.MethodName)) ∈ lw_all := lw_g (lw_at lw_m3 41 rfl) rfl
theorem q603 : (Jvm.Cond.lays "SwallowSurvey$Fault" "java/lang/Throwable" "cause" "Ljava/lang/Throwable;") ∈ lw_all := lw_g (lw_at lw_m3 42 rfl) rfl
theorem q605 : (Jvm.Cond.lays "SwallowSurvey$Fault" "java/lang/Throwable" "stackTrace" "[Ljava/lang/StackTraceElement;") ∈ lw_all := lw_g (lw_at lw_m3 44 rfl) rfl
theorem q607 : (Jvm.Cond.lays "SwallowSurvey$Fault" "java/lang/Throwable" "suppressedExceptions" "Ljava/util/List;") ∈ lw_all := lw_g (lw_at lw_m3 46 rfl) rfl
theorem q609 : (Jvm.Cond.lays "SwallowSurvey$Fault" "java/lang/Throwable" "detailMessage" "Ljava/lang/String;") ∈ lw_all := lw_g (lw_at lw_m3 48 rfl) rfl
theorem q611 : (Jvm.Cond.lays "SwallowSurvey$Fault" "java/lang/Throwable" "backtrace" "Ljava/lang/Object;") ∈ lw_all := lw_g (lw_at lw_m3 50 rfl) rfl
theorem q632 : (Jvm.Cond.instanceMethod ({ cls := "SwallowSurvey$Fault", name := "<init>", desc := "(II)V" } : Jvm.MethodName)) ∈ lw_all := lw_g (lw_at lw_m3 71 rfl) rfl
theorem q633 : (Jvm.Cond.code ({ cls := "SwallowSurvey$Fault", name := "<init>", desc := "(II)V" } : Jvm.MethodName) prog_2_method_1_code (3 : Nat) (Option.none : Option Jvm.ClassFile.FieldType)) ∈ lw_all := lw_g (lw_at lw_m3 72 rfl) rfl
theorem q634 : (Jvm.Cond.methodLink "SwallowSurvey$Fault" (1 : Nat) ({ cls := "java/lang/Exception", name := "<init>", desc := "(Ljava/lang/String;Ljava/lang/Throwable;ZZ)V" } : Jvm.MethodName)) ∈ lw_all := lw_g (lw_at lw_m3 73 rfl) rfl
theorem q640 : (Jvm.Cond.fieldLink "SwallowSurvey$Fault" (7 : Nat) "SwallowSurvey$Fault" "kind" "I") ∈ lw_all := lw_g (lw_at lw_m3 79 rfl) rfl
theorem q642 : (Jvm.Cond.fieldLink "SwallowSurvey$Fault" (13 : Nat) "SwallowSurvey$Fault" "place" "I") ∈ lw_all := lw_g (lw_at lw_m3 81 rfl) rfl
theorem q649 : (Jvm.Cond.laysFinal "SwallowSurvey$Fault" "SwallowSurvey$Fault" "kind" "I") ∈ lw_all := lw_g (lw_at lw_m3 88 rfl) rfl
theorem q650 : (Jvm.Cond.soleField "SwallowSurvey$Fault" "kind") ∈ lw_all := lw_g (lw_at lw_m3 89 rfl) rfl
theorem q651 : (Jvm.Cond.laysFinal "SwallowSurvey$Fault" "SwallowSurvey$Fault" "place" "I") ∈ lw_all := lw_g (lw_at lw_m3 90 rfl) rfl
theorem q652 : (Jvm.Cond.soleField "SwallowSurvey$Fault" "place") ∈ lw_all := lw_g (lw_at lw_m3 91 rfl) rfl
theorem q657 : (Jvm.Cond.lays "SwallowSurvey$Fault" "java/lang/Throwable" "depth" "I") ∈ lw_all := lw_g (lw_at lw_m3 96 rfl) rfl
theorem q660 : (Jvm.Cond.superclass "SwallowSurvey$Fault" "java/lang/Exception") ∈ lw_all := lw_g (lw_at lw_m3 99 rfl) rfl
theorem in_X6 : ∀ w ∈ wsX60, w ∈ lw_all := lw_in wsX60 [603, 605, 607, 609, 611, 657, 649, 651] (by decide +kernel) (by decide +kernel)
/-! SwallowSurvey$Term -/
set_option maxRecDepth 100000
def RX7 : String := "SwallowSurvey$Term"
abbrev cX7_init : ByteArray := prog_7_method_1_code
def yX7_init : MethodName := ⟨RX7, "<init>", "()V"⟩
theorem dX7_init_0 : decode cX7_init 0 = .ok (.aload_n 0, 1) := by decide +kernel
theorem dX7_init_1 : decode cX7_init 1 = .ok (.invokespecial 1, 3) := by decide +kernel
theorem dX7_init_4 : decode cX7_init 4 = .ok (.return_, 1) := by decide +kernel
theorem q101 : (Jvm.Cond.initialized "SwallowSurvey$Term") ∈ lw_all := lw_g (lw_at lw_m1 20 rfl) rfl
theorem q687 : (Jvm.Cond.instanceMethod ({ cls := "SwallowSurvey$Term", name := "<init>", desc := "()V" } : Jvm.MethodName)) ∈ lw_all := lw_g (lw_at lw_m3 126 rfl) rfl
theorem q688 : (Jvm.Cond.code ({ cls := "SwallowSurvey$Term", name := "<init>", desc := "()V" } : Jvm.MethodName) prog_7_method_1_code (1 : Nat) (Option.none : Option Jvm.ClassFile.FieldType)) ∈ lw_all := lw_g (lw_at lw_m3 127 rfl) rfl
theorem q689 : (Jvm.Cond.methodLink "SwallowSurvey$Term" (1 : Nat) ({ cls := "java/lang/Object", name := "<init>", desc := "()V" } : Jvm.MethodName)) ∈ lw_all := lw_g (lw_at lw_m3 128 rfl) rfl
theorem q895 : (Jvm.Cond.declares ({ cls := "SwallowSurvey$Term", name := "of", desc := "([I)I" } : Jvm.MethodName)) ∈ lw_tbl := lw_at lw_m4 94 rfl
theorem q896 : (Jvm.Cond.sameMethod "SwallowSurvey$Term" "SwallowSurvey$Term" "of" "([I)I") ∈ lw_all := lw_g (lw_at lw_m4 95 rfl) rfl
/-! SwallowSurvey$Not -/
set_option maxRecDepth 100000
def RX8 : String := "SwallowSurvey$Not"
def TX8 : u_T := fun k => match k with
  | _ => ("SwallowSurvey$Not", "in", "LSwallowSurvey$Term;", true)
def tyX8 : Nat → FieldType := fun k => match k with
  | _ => .object "SwallowSurvey$Term"
abbrev wsX80 : List Cond := u_ws RX8 TX8 1
theorem nmX8 : ∀ a, a < 1 → ∀ b, b < 1 → a ≠ b → (TX8 a).2.1 ≠ (TX8 b).2.1 := by decide +kernel
theorem tyX8_ok : ∀ k, k < 1 → parseFieldDescriptor (TX8 k).2.2.1 = some (tyX8 k) := by decide +kernel
abbrev cX8_init : ByteArray := prog_4_method_1_code
def yX8_init : MethodName := ⟨RX8, "<init>", "(LSwallowSurvey$Term;)V"⟩
def dkwX8_init_0 : List UInt8 := [42, 183, 0, 1, 42, 43, 181, 0, 7, 177]
abbrev dktX8_init_0 : List UInt8 := dkwX8_init_0 ++ []
theorem dksX8_init_0 : cX8_init.data.toList.drop 0 = dktX8_init_0 := by decide +kernel
theorem dX8_init_0 : decode cX8_init 0 = .ok (.aload_n 0, 1) := dk_42 (dk_at dksX8_init_0 0 rfl rfl)
theorem dX8_init_1 : decode cX8_init 1 = .ok (.invokespecial 1, 3) := dk_183 0 1 (dk_at dksX8_init_0 1 rfl rfl)
theorem dX8_init_4 : decode cX8_init 4 = .ok (.aload_n 0, 1) := dk_42 (dk_at dksX8_init_0 4 rfl rfl)
theorem dX8_init_5 : decode cX8_init 5 = .ok (.aload_n 1, 1) := dk_43 (dk_at dksX8_init_0 5 rfl rfl)
theorem dX8_init_6 : decode cX8_init 6 = .ok (.putfield 7, 3) := dk_181 0 7 (dk_at dksX8_init_0 6 rfl rfl)
theorem dX8_init_9 : decode cX8_init 9 = .ok (.return_, 1) := dk_177 (dk_at dksX8_init_0 9 rfl rfl)
abbrev cX8_of : ByteArray := prog_4_method_2_code
def yX8_of : MethodName := ⟨RX8, "of", "([I)I"⟩
def dkwX8_of_0 : List UInt8 := [4, 42, 180, 0, 7, 43, 182, 0, 13, 100, 172]
abbrev dktX8_of_0 : List UInt8 := dkwX8_of_0 ++ []
theorem dksX8_of_0 : cX8_of.data.toList.drop 0 = dktX8_of_0 := by decide +kernel
theorem dX8_of_0 : decode cX8_of 0 = .ok (.iconst 1, 1) := dk_4 (dk_at dksX8_of_0 0 rfl rfl)
theorem dX8_of_1 : decode cX8_of 1 = .ok (.aload_n 0, 1) := dk_42 (dk_at dksX8_of_0 1 rfl rfl)
theorem dX8_of_2 : decode cX8_of 2 = .ok (.getfield 7, 3) := dk_180 0 7 (dk_at dksX8_of_0 2 rfl rfl)
theorem dX8_of_5 : decode cX8_of 5 = .ok (.aload_n 1, 1) := dk_43 (dk_at dksX8_of_0 5 rfl rfl)
theorem dX8_of_6 : decode cX8_of 6 = .ok (.invokevirtual 13, 3) := dk_182 0 13 (dk_at dksX8_of_0 6 rfl rfl)
theorem dX8_of_9 : decode cX8_of 9 = .ok (.isub, 1) := dk_100 (dk_at dksX8_of_0 9 rfl rfl)
theorem dX8_of_10 : decode cX8_of 10 = .ok (.ireturn, 1) := dk_172 (dk_at dksX8_of_0 10 rfl rfl)
theorem q102 : (Jvm.Cond.initialized "SwallowSurvey$Not") ∈ lw_all := lw_g (lw_at lw_m1 21 rfl) rfl
theorem q682 : (Jvm.Cond.instantiable "SwallowSurvey$Not" (1 : Nat)) ∈ lw_all := lw_g (lw_at lw_m3 121 rfl) rfl
theorem q684 : (Jvm.Cond.instanceMethod ({ cls := "SwallowSurvey$Not", name := "<init>", desc := "(LSwallowSurvey$Term;)V" } : Jvm.MethodName)) ∈ lw_all := lw_g (lw_at lw_m3 123 rfl) rfl
theorem q685 : (Jvm.Cond.code ({ cls := "SwallowSurvey$Not", name := "<init>", desc := "(LSwallowSurvey$Term;)V" } : Jvm.MethodName) prog_4_method_1_code (2 : Nat) (Option.none : Option Jvm.ClassFile.FieldType)) ∈ lw_all := lw_g (lw_at lw_m3 124 rfl) rfl
theorem q686 : (Jvm.Cond.methodLinkNest "SwallowSurvey$Not" (1 : Nat) ({ cls := "SwallowSurvey$Term", name := "<init>", desc := "()V" } : Jvm.MethodName) "SwallowSurvey") ∈ lw_tbl := lw_at lw_m3 125 rfl
theorem q690 : (Jvm.Cond.fieldLink "SwallowSurvey$Not" (7 : Nat) "SwallowSurvey$Not" "in" "LSwallowSurvey$Term;") ∈ lw_all := lw_g (lw_at lw_m3 129 rfl) rfl
theorem q691 : (Jvm.Cond.laysFinal "SwallowSurvey$Not" "SwallowSurvey$Not" "in" "LSwallowSurvey$Term;") ∈ lw_all := lw_g (lw_at lw_m3 130 rfl) rfl
theorem q692 : (Jvm.Cond.soleField "SwallowSurvey$Not" "in") ∈ lw_all := lw_g (lw_at lw_m3 131 rfl) rfl
theorem q693 : (Jvm.Cond.superclass "SwallowSurvey$Not" "SwallowSurvey$Term") ∈ lw_all := lw_g (lw_at lw_m3 132 rfl) rfl
theorem q897 : (Jvm.Cond.selects "SwallowSurvey$Not" ({ cls := "SwallowSurvey$Term", name := "of", desc := "([I)I" } : Jvm.MethodName) ({ cls := "SwallowSurvey$Not", name := "of", desc := "([I)I" } : Jvm.MethodName)) ∈ lw_all := lw_g (lw_at lw_m4 96 rfl) rfl
theorem q898 : (Jvm.Cond.instanceMethod ({ cls := "SwallowSurvey$Not", name := "of", desc := "([I)I" } : Jvm.MethodName)) ∈ lw_all := lw_g (lw_at lw_m4 97 rfl) rfl
theorem q899 : (Jvm.Cond.code ({ cls := "SwallowSurvey$Not", name := "of", desc := "([I)I" } : Jvm.MethodName) prog_4_method_2_code (2 : Nat) (Option.some Jvm.ClassFile.FieldType.int)) ∈ lw_all := lw_g (lw_at lw_m4 98 rfl) rfl
theorem q900 : (Jvm.Cond.methodLink "SwallowSurvey$Not" (13 : Nat) ({ cls := "SwallowSurvey$Term", name := "of", desc := "([I)I" } : Jvm.MethodName)) ∈ lw_all := lw_g (lw_at lw_m4 99 rfl) rfl
theorem q1527 : (Jvm.Cond.castable "SwallowSurvey$Not" "SwallowSurvey$Term") ∈ lw_tbl := lw_at lw_m7 6 rfl
theorem in_X8 : ∀ w ∈ wsX80, w ∈ lw_all := lw_in wsX80 [691] (by decide +kernel) (by decide +kernel)
/-! SwallowSurvey$Number -/
set_option maxRecDepth 100000
def RX9 : String := "SwallowSurvey$Number"
def TX9 : u_T := fun k => match k with
  | _ => ("SwallowSurvey$Number", "v", "I", true)
def tyX9 : Nat → FieldType := fun k => match k with
  | _ => .int
abbrev wsX90 : List Cond := u_ws RX9 TX9 1
theorem nmX9 : ∀ a, a < 1 → ∀ b, b < 1 → a ≠ b → (TX9 a).2.1 ≠ (TX9 b).2.1 := by decide +kernel
theorem tyX9_ok : ∀ k, k < 1 → parseFieldDescriptor (TX9 k).2.2.1 = some (tyX9 k) := by decide +kernel
abbrev cX9_init : ByteArray := prog_5_method_1_code
def yX9_init : MethodName := ⟨RX9, "<init>", "(I)V"⟩
def dkwX9_init_0 : List UInt8 := [42, 183, 0, 1, 42, 27, 181, 0, 7, 177]
abbrev dktX9_init_0 : List UInt8 := dkwX9_init_0 ++ []
theorem dksX9_init_0 : cX9_init.data.toList.drop 0 = dktX9_init_0 := by decide +kernel
theorem dX9_init_0 : decode cX9_init 0 = .ok (.aload_n 0, 1) := dk_42 (dk_at dksX9_init_0 0 rfl rfl)
theorem dX9_init_1 : decode cX9_init 1 = .ok (.invokespecial 1, 3) := dk_183 0 1 (dk_at dksX9_init_0 1 rfl rfl)
theorem dX9_init_4 : decode cX9_init 4 = .ok (.aload_n 0, 1) := dk_42 (dk_at dksX9_init_0 4 rfl rfl)
theorem dX9_init_5 : decode cX9_init 5 = .ok (.iload_n 1, 1) := dk_27 (dk_at dksX9_init_0 5 rfl rfl)
theorem dX9_init_6 : decode cX9_init 6 = .ok (.putfield 7, 3) := dk_181 0 7 (dk_at dksX9_init_0 6 rfl rfl)
theorem dX9_init_9 : decode cX9_init 9 = .ok (.return_, 1) := dk_177 (dk_at dksX9_init_0 9 rfl rfl)
abbrev cX9_of : ByteArray := prog_5_method_2_code
def yX9_of : MethodName := ⟨RX9, "of", "([I)I"⟩
theorem dX9_of_0 : decode cX9_of 0 = .ok (.aload_n 0, 1) := by decide +kernel
theorem dX9_of_1 : decode cX9_of 1 = .ok (.getfield 7, 3) := by decide +kernel
theorem dX9_of_4 : decode cX9_of 4 = .ok (.ireturn, 1) := by decide +kernel
theorem q103 : (Jvm.Cond.initialized "SwallowSurvey$Number") ∈ lw_all := lw_g (lw_at lw_m1 22 rfl) rfl
theorem q715 : (Jvm.Cond.instantiable "SwallowSurvey$Number" (1 : Nat)) ∈ lw_all := lw_g (lw_at lw_m3 154 rfl) rfl
theorem q717 : (Jvm.Cond.instanceMethod ({ cls := "SwallowSurvey$Number", name := "<init>", desc := "(I)V" } : Jvm.MethodName)) ∈ lw_all := lw_g (lw_at lw_m3 156 rfl) rfl
theorem q718 : (Jvm.Cond.code ({ cls := "SwallowSurvey$Number", name := "<init>", desc := "(I)V" } : Jvm.MethodName) prog_5_method_1_code (2 : Nat) (Option.none : Option Jvm.ClassFile.FieldType)) ∈ lw_all := lw_g (lw_at lw_m3 157 rfl) rfl
theorem q719 : (Jvm.Cond.methodLinkNest "SwallowSurvey$Number" (1 : Nat) ({ cls := "SwallowSurvey$Term", name := "<init>", desc := "()V" } : Jvm.MethodName) "SwallowSurvey") ∈ lw_tbl := lw_at lw_m3 158 rfl
theorem q720 : (Jvm.Cond.fieldLink "SwallowSurvey$Number" (7 : Nat) "SwallowSurvey$Number" "v" "I") ∈ lw_all := lw_g (lw_at lw_m3 159 rfl) rfl
theorem q721 : (Jvm.Cond.laysFinal "SwallowSurvey$Number" "SwallowSurvey$Number" "v" "I") ∈ lw_all := lw_g (lw_at lw_m3 160 rfl) rfl
theorem q722 : (Jvm.Cond.soleField "SwallowSurvey$Number" "v") ∈ lw_all := lw_g (lw_at lw_m3 161 rfl) rfl
theorem q723 : (Jvm.Cond.superclass "SwallowSurvey$Number" "SwallowSurvey$Term") ∈ lw_all := lw_g (lw_at lw_m3 162 rfl) rfl
theorem q901 : (Jvm.Cond.instanceMethod ({ cls := "SwallowSurvey$Number", name := "of", desc := "([I)I" } : Jvm.MethodName)) ∈ lw_all := lw_g (lw_at lw_m4 100 rfl) rfl
theorem q902 : (Jvm.Cond.code ({ cls := "SwallowSurvey$Number", name := "of", desc := "([I)I" } : Jvm.MethodName) prog_5_method_2_code (2 : Nat) (Option.some Jvm.ClassFile.FieldType.int)) ∈ lw_all := lw_g (lw_at lw_m4 101 rfl) rfl
theorem q908 : (Jvm.Cond.selects "SwallowSurvey$Number" ({ cls := "SwallowSurvey$Term", name := "of", desc := "([I)I" } : Jvm.MethodName) ({ cls := "SwallowSurvey$Number", name := "of", desc := "([I)I" } : Jvm.MethodName)) ∈ lw_all := lw_g (lw_at lw_m4 107 rfl) rfl
theorem q1528 : (Jvm.Cond.castable "SwallowSurvey$Number" "SwallowSurvey$Term") ∈ lw_tbl := lw_at lw_m7 7 rfl
theorem in_X9 : ∀ w ∈ wsX90, w ∈ lw_all := lw_in wsX90 [721] (by decide +kernel) (by decide +kernel)
/-! SwallowSurvey$Word -/
set_option maxRecDepth 100000
def RX10 : String := "SwallowSurvey$Word"
def TX10 : u_T := fun k => match k with
  | _ => ("SwallowSurvey$Word", "k", "I", true)
def tyX10 : Nat → FieldType := fun k => match k with
  | _ => .int
abbrev wsX100 : List Cond := u_ws RX10 TX10 1
theorem nmX10 : ∀ a, a < 1 → ∀ b, b < 1 → a ≠ b → (TX10 a).2.1 ≠ (TX10 b).2.1 := by decide +kernel
theorem tyX10_ok : ∀ k, k < 1 → parseFieldDescriptor (TX10 k).2.2.1 = some (tyX10 k) := by decide +kernel
abbrev cX10_init : ByteArray := prog_12_method_1_code
def yX10_init : MethodName := ⟨RX10, "<init>", "(I)V"⟩
def dkwX10_init_0 : List UInt8 := [42, 183, 0, 1, 42, 27, 181, 0, 7, 177]
abbrev dktX10_init_0 : List UInt8 := dkwX10_init_0 ++ []
theorem dksX10_init_0 : cX10_init.data.toList.drop 0 = dktX10_init_0 := by decide +kernel
theorem dX10_init_0 : decode cX10_init 0 = .ok (.aload_n 0, 1) := dk_42 (dk_at dksX10_init_0 0 rfl rfl)
theorem dX10_init_1 : decode cX10_init 1 = .ok (.invokespecial 1, 3) := dk_183 0 1 (dk_at dksX10_init_0 1 rfl rfl)
theorem dX10_init_4 : decode cX10_init 4 = .ok (.aload_n 0, 1) := dk_42 (dk_at dksX10_init_0 4 rfl rfl)
theorem dX10_init_5 : decode cX10_init 5 = .ok (.iload_n 1, 1) := dk_27 (dk_at dksX10_init_0 5 rfl rfl)
theorem dX10_init_6 : decode cX10_init 6 = .ok (.putfield 7, 3) := dk_181 0 7 (dk_at dksX10_init_0 6 rfl rfl)
theorem dX10_init_9 : decode cX10_init 9 = .ok (.return_, 1) := dk_177 (dk_at dksX10_init_0 9 rfl rfl)
abbrev cX10_of : ByteArray := prog_12_method_2_code
def yX10_of : MethodName := ⟨RX10, "of", "([I)I"⟩
def dkwX10_of_0 : List UInt8 := [43, 42, 180, 0, 7, 46, 172]
abbrev dktX10_of_0 : List UInt8 := dkwX10_of_0 ++ []
theorem dksX10_of_0 : cX10_of.data.toList.drop 0 = dktX10_of_0 := by decide +kernel
theorem dX10_of_0 : decode cX10_of 0 = .ok (.aload_n 1, 1) := dk_43 (dk_at dksX10_of_0 0 rfl rfl)
theorem dX10_of_1 : decode cX10_of 1 = .ok (.aload_n 0, 1) := dk_42 (dk_at dksX10_of_0 1 rfl rfl)
theorem dX10_of_2 : decode cX10_of 2 = .ok (.getfield 7, 3) := dk_180 0 7 (dk_at dksX10_of_0 2 rfl rfl)
theorem dX10_of_5 : decode cX10_of 5 = .ok (.iaload, 1) := dk_46 (dk_at dksX10_of_0 5 rfl rfl)
theorem dX10_of_6 : decode cX10_of 6 = .ok (.ireturn, 1) := dk_172 (dk_at dksX10_of_0 6 rfl rfl)
theorem q104 : (Jvm.Cond.initialized "SwallowSurvey$Word") ∈ lw_all := lw_g (lw_at lw_m1 23 rfl) rfl
theorem q725 : (Jvm.Cond.instantiable "SwallowSurvey$Word" (1 : Nat)) ∈ lw_all := lw_g (lw_at lw_m3 164 rfl) rfl
theorem q727 : (Jvm.Cond.instanceMethod ({ cls := "SwallowSurvey$Word", name := "<init>", desc := "(I)V" } : Jvm.MethodName)) ∈ lw_all := lw_g (lw_at lw_m3 166 rfl) rfl
theorem q728 : (Jvm.Cond.code ({ cls := "SwallowSurvey$Word", name := "<init>", desc := "(I)V" } : Jvm.MethodName) prog_12_method_1_code (2 : Nat) (Option.none : Option Jvm.ClassFile.FieldType)) ∈ lw_all := lw_g (lw_at lw_m3 167 rfl) rfl
theorem q729 : (Jvm.Cond.methodLinkNest "SwallowSurvey$Word" (1 : Nat) ({ cls := "SwallowSurvey$Term", name := "<init>", desc := "()V" } : Jvm.MethodName) "SwallowSurvey") ∈ lw_tbl := lw_at lw_m3 168 rfl
theorem q730 : (Jvm.Cond.fieldLink "SwallowSurvey$Word" (7 : Nat) "SwallowSurvey$Word" "k" "I") ∈ lw_all := lw_g (lw_at lw_m3 169 rfl) rfl
theorem q731 : (Jvm.Cond.laysFinal "SwallowSurvey$Word" "SwallowSurvey$Word" "k" "I") ∈ lw_all := lw_g (lw_at lw_m3 170 rfl) rfl
theorem q732 : (Jvm.Cond.soleField "SwallowSurvey$Word" "k") ∈ lw_all := lw_g (lw_at lw_m3 171 rfl) rfl
theorem q733 : (Jvm.Cond.superclass "SwallowSurvey$Word" "SwallowSurvey$Term") ∈ lw_all := lw_g (lw_at lw_m3 172 rfl) rfl
theorem q906 : (Jvm.Cond.instanceMethod ({ cls := "SwallowSurvey$Word", name := "of", desc := "([I)I" } : Jvm.MethodName)) ∈ lw_all := lw_g (lw_at lw_m4 105 rfl) rfl
theorem q907 : (Jvm.Cond.code ({ cls := "SwallowSurvey$Word", name := "of", desc := "([I)I" } : Jvm.MethodName) prog_12_method_2_code (2 : Nat) (Option.some Jvm.ClassFile.FieldType.int)) ∈ lw_all := lw_g (lw_at lw_m4 106 rfl) rfl
theorem q910 : (Jvm.Cond.selects "SwallowSurvey$Word" ({ cls := "SwallowSurvey$Term", name := "of", desc := "([I)I" } : Jvm.MethodName) ({ cls := "SwallowSurvey$Word", name := "of", desc := "([I)I" } : Jvm.MethodName)) ∈ lw_all := lw_g (lw_at lw_m4 109 rfl) rfl
theorem q1529 : (Jvm.Cond.castable "SwallowSurvey$Word" "SwallowSurvey$Term") ∈ lw_tbl := lw_at lw_m7 8 rfl
theorem in_X10 : ∀ w ∈ wsX100, w ∈ lw_all := lw_in wsX100 [731] (by decide +kernel) (by decide +kernel)
/-! SwallowSurvey$Two -/
set_option maxRecDepth 100000
def RX11 : String := "SwallowSurvey$Two"
def TX11 : u_T := fun k => match k with
  | 0 => ("SwallowSurvey$Two", "sign", "C", true)
  | 1 => ("SwallowSurvey$Two", "a", "LSwallowSurvey$Term;", true)
  | _ => ("SwallowSurvey$Two", "b", "LSwallowSurvey$Term;", true)
def tyX11 : Nat → FieldType := fun k => match k with
  | 0 => .char
  | 1 => .object "SwallowSurvey$Term"
  | _ => .object "SwallowSurvey$Term"
abbrev wsX110 : List Cond := u_ws RX11 TX11 3
theorem nmX11 : ∀ a, a < 3 → ∀ b, b < 3 → a ≠ b → (TX11 a).2.1 ≠ (TX11 b).2.1 := by decide +kernel
theorem tyX11_ok : ∀ k, k < 3 → parseFieldDescriptor (TX11 k).2.2.1 = some (tyX11 k) := by decide +kernel
abbrev cX11_init : ByteArray := prog_10_method_1_code
def yX11_init : MethodName := ⟨RX11, "<init>", "(CLSwallowSurvey$Term;LSwallowSurvey$Term;)V"⟩
def dkwX11_init_0 : List UInt8 := [42, 183, 0, 1, 42, 27, 181, 0, 7, 42, 44, 181, 0, 13, 42, 45, 181, 0, 17, 177]
abbrev dktX11_init_0 : List UInt8 := dkwX11_init_0 ++ []
theorem dksX11_init_0 : cX11_init.data.toList.drop 0 = dktX11_init_0 := by decide +kernel
theorem dX11_init_0 : decode cX11_init 0 = .ok (.aload_n 0, 1) := dk_42 (dk_at dksX11_init_0 0 rfl rfl)
theorem dX11_init_1 : decode cX11_init 1 = .ok (.invokespecial 1, 3) := dk_183 0 1 (dk_at dksX11_init_0 1 rfl rfl)
theorem dX11_init_4 : decode cX11_init 4 = .ok (.aload_n 0, 1) := dk_42 (dk_at dksX11_init_0 4 rfl rfl)
theorem dX11_init_5 : decode cX11_init 5 = .ok (.iload_n 1, 1) := dk_27 (dk_at dksX11_init_0 5 rfl rfl)
theorem dX11_init_6 : decode cX11_init 6 = .ok (.putfield 7, 3) := dk_181 0 7 (dk_at dksX11_init_0 6 rfl rfl)
theorem dX11_init_9 : decode cX11_init 9 = .ok (.aload_n 0, 1) := dk_42 (dk_at dksX11_init_0 9 rfl rfl)
theorem dX11_init_10 : decode cX11_init 10 = .ok (.aload_n 2, 1) := dk_44 (dk_at dksX11_init_0 10 rfl rfl)
theorem dX11_init_11 : decode cX11_init 11 = .ok (.putfield 13, 3) := dk_181 0 13 (dk_at dksX11_init_0 11 rfl rfl)
theorem dX11_init_14 : decode cX11_init 14 = .ok (.aload_n 0, 1) := dk_42 (dk_at dksX11_init_0 14 rfl rfl)
theorem dX11_init_15 : decode cX11_init 15 = .ok (.aload_n 3, 1) := dk_45 (dk_at dksX11_init_0 15 rfl rfl)
theorem dX11_init_16 : decode cX11_init 16 = .ok (.putfield 17, 3) := dk_181 0 17 (dk_at dksX11_init_0 16 rfl rfl)
theorem dX11_init_19 : decode cX11_init 19 = .ok (.return_, 1) := dk_177 (dk_at dksX11_init_0 19 rfl rfl)
abbrev cX11_of : ByteArray := prog_10_method_2_code
def yX11_of : MethodName := ⟨RX11, "of", "([I)I"⟩
def dkwX11_of_4 : List UInt8 := [167, 0, 4, 3, 172, 28, 29, 126, 172, 28, 29, 128, 172]
abbrev dktX11_of_4 : List UInt8 := dkwX11_of_4 ++ []
def dkwX11_of_3 : List UInt8 := [167, 0, 4, 3, 172, 28, 29, 160, 0, 7, 4, 167, 0, 4, 3, 172, 28, 29, 164, 0, 7, 4]
abbrev dktX11_of_3 : List UInt8 := dkwX11_of_3 ++ dktX11_of_4
def dkwX11_of_2 : List UInt8 := [28, 29, 96, 172, 28, 29, 100, 172, 28, 29, 104, 172, 28, 29, 108, 172, 28, 29, 162, 0, 7, 4]
abbrev dktX11_of_2 : List UInt8 := dkwX11_of_2 ++ dktX11_of_3
def dkwX11_of_1 : List UInt8 := [170, 0, 0, 0, 0, 167, 0, 0, 0, 38, 0, 0, 0, 62, 0, 0, 0, 163, 0, 0, 0, 167, 0, 0, 0, 167, 0, 0, 0, 167, 0, 0, 0, 122, 0, 0, 0, 114, 0, 0, 0, 167, 0, 0, 0, 118, 0, 0, 0, 167, 0, 0, 0, 126, 0, 0, 0, 167, 0, 0, 0, 167, 0, 0, 0, 167, 0, 0, 0, 167, 0, 0, 0, 167, 0, 0, 0, 167, 0, 0, 0, 167, 0, 0, 0, 167, 0, 0, 0, 167, 0, 0, 0, 167, 0, 0, 0, 167, 0, 0, 0, 167, 0, 0, 0, 130, 0, 0, 0, 141, 0, 0, 0, 152]
abbrev dktX11_of_1 : List UInt8 := dkwX11_of_1 ++ dktX11_of_2
def dkwX11_of_0 : List UInt8 := [42, 180, 0, 13, 43, 182, 0, 20, 61, 42, 180, 0, 17, 43, 182, 0, 20, 62, 42, 180, 0, 7]
abbrev dktX11_of_0 : List UInt8 := dkwX11_of_0 ++ dktX11_of_1
theorem dksX11_of_0 : cX11_of.data.toList.drop 0 = dktX11_of_0 := by decide +kernel
theorem dksX11_of_1 : cX11_of.data.toList.drop 22 = dktX11_of_1 := dk_seg dksX11_of_0 22 rfl rfl
theorem dksX11_of_2 : cX11_of.data.toList.drop 136 = dktX11_of_2 := dk_seg dksX11_of_1 114 rfl rfl
theorem dksX11_of_3 : cX11_of.data.toList.drop 158 = dktX11_of_3 := dk_seg dksX11_of_2 22 rfl rfl
theorem dksX11_of_4 : cX11_of.data.toList.drop 180 = dktX11_of_4 := dk_seg dksX11_of_3 22 rfl rfl
theorem dX11_of_0 : decode cX11_of 0 = .ok (.aload_n 0, 1) := dk_42 (dk_at dksX11_of_0 0 rfl rfl)
theorem dX11_of_1 : decode cX11_of 1 = .ok (.getfield 13, 3) := dk_180 0 13 (dk_at dksX11_of_0 1 rfl rfl)
theorem dX11_of_4 : decode cX11_of 4 = .ok (.aload_n 1, 1) := dk_43 (dk_at dksX11_of_0 4 rfl rfl)
theorem dX11_of_5 : decode cX11_of 5 = .ok (.invokevirtual 20, 3) := dk_182 0 20 (dk_at dksX11_of_0 5 rfl rfl)
theorem dX11_of_8 : decode cX11_of 8 = .ok (.istore_n 2, 1) := dk_61 (dk_at dksX11_of_0 8 rfl rfl)
theorem dX11_of_9 : decode cX11_of 9 = .ok (.aload_n 0, 1) := dk_42 (dk_at dksX11_of_0 9 rfl rfl)
theorem dX11_of_10 : decode cX11_of 10 = .ok (.getfield 17, 3) := dk_180 0 17 (dk_at dksX11_of_0 10 rfl rfl)
theorem dX11_of_13 : decode cX11_of 13 = .ok (.aload_n 1, 1) := dk_43 (dk_at dksX11_of_0 13 rfl rfl)
theorem dX11_of_14 : decode cX11_of 14 = .ok (.invokevirtual 20, 3) := dk_182 0 20 (dk_at dksX11_of_0 14 rfl rfl)
theorem dX11_of_17 : decode cX11_of 17 = .ok (.istore_n 3, 1) := dk_62 (dk_at dksX11_of_0 17 rfl rfl)
theorem dX11_of_18 : decode cX11_of 18 = .ok (.aload_n 0, 1) := dk_42 (dk_at dksX11_of_0 18 rfl rfl)
theorem dX11_of_19 : decode cX11_of 19 = .ok (.getfield 7, 3) := dk_180 0 7 (dk_at dksX11_of_0 19 rfl rfl)
theorem dX11_of_22 : decode cX11_of 22 = .ok (.tableswitch 167 38 62 #[163, 167, 167, 167, 122, 114, 167, 118, 167, 126, 167, 167, 167, 167, 167, 167, 167, 167, 167, 167, 167, 167, 130, 141, 152], 114) := by decide +kernel
theorem dX11_of_136 : decode cX11_of 136 = .ok (.iload_n 2, 1) := dk_28 (dk_at dksX11_of_2 0 rfl rfl)
theorem dX11_of_137 : decode cX11_of 137 = .ok (.iload_n 3, 1) := dk_29 (dk_at dksX11_of_2 1 rfl rfl)
theorem dX11_of_138 : decode cX11_of 138 = .ok (.iadd, 1) := dk_96 (dk_at dksX11_of_2 2 rfl rfl)
theorem dX11_of_139 : decode cX11_of 139 = .ok (.ireturn, 1) := dk_172 (dk_at dksX11_of_2 3 rfl rfl)
theorem dX11_of_140 : decode cX11_of 140 = .ok (.iload_n 2, 1) := dk_28 (dk_at dksX11_of_2 4 rfl rfl)
theorem dX11_of_141 : decode cX11_of 141 = .ok (.iload_n 3, 1) := dk_29 (dk_at dksX11_of_2 5 rfl rfl)
theorem dX11_of_142 : decode cX11_of 142 = .ok (.isub, 1) := dk_100 (dk_at dksX11_of_2 6 rfl rfl)
theorem dX11_of_143 : decode cX11_of 143 = .ok (.ireturn, 1) := dk_172 (dk_at dksX11_of_2 7 rfl rfl)
theorem dX11_of_144 : decode cX11_of 144 = .ok (.iload_n 2, 1) := dk_28 (dk_at dksX11_of_2 8 rfl rfl)
theorem dX11_of_145 : decode cX11_of 145 = .ok (.iload_n 3, 1) := dk_29 (dk_at dksX11_of_2 9 rfl rfl)
theorem dX11_of_146 : decode cX11_of 146 = .ok (.imul, 1) := dk_104 (dk_at dksX11_of_2 10 rfl rfl)
theorem dX11_of_147 : decode cX11_of 147 = .ok (.ireturn, 1) := dk_172 (dk_at dksX11_of_2 11 rfl rfl)
theorem dX11_of_148 : decode cX11_of 148 = .ok (.iload_n 2, 1) := dk_28 (dk_at dksX11_of_2 12 rfl rfl)
theorem dX11_of_149 : decode cX11_of 149 = .ok (.iload_n 3, 1) := dk_29 (dk_at dksX11_of_2 13 rfl rfl)
theorem dX11_of_150 : decode cX11_of 150 = .ok (.idiv, 1) := dk_108 (dk_at dksX11_of_2 14 rfl rfl)
theorem dX11_of_151 : decode cX11_of 151 = .ok (.ireturn, 1) := dk_172 (dk_at dksX11_of_2 15 rfl rfl)
theorem dX11_of_152 : decode cX11_of 152 = .ok (.iload_n 2, 1) := dk_28 (dk_at dksX11_of_2 16 rfl rfl)
theorem dX11_of_153 : decode cX11_of 153 = .ok (.iload_n 3, 1) := dk_29 (dk_at dksX11_of_2 17 rfl rfl)
theorem dX11_of_154 : decode cX11_of 154 = .ok (.if_icmp .ge 7, 3) := dk_162 0 7 (dk_at dksX11_of_2 18 rfl rfl)
theorem dX11_of_157 : decode cX11_of 157 = .ok (.iconst 1, 1) := dk_4 (dk_at dksX11_of_2 21 rfl rfl)
theorem dX11_of_158 : decode cX11_of 158 = .ok (.goto 4, 3) := dk_167 0 4 (dk_at dksX11_of_3 0 rfl rfl)
theorem dX11_of_161 : decode cX11_of 161 = .ok (.iconst 0, 1) := dk_3 (dk_at dksX11_of_3 3 rfl rfl)
theorem dX11_of_162 : decode cX11_of 162 = .ok (.ireturn, 1) := dk_172 (dk_at dksX11_of_3 4 rfl rfl)
theorem dX11_of_163 : decode cX11_of 163 = .ok (.iload_n 2, 1) := dk_28 (dk_at dksX11_of_3 5 rfl rfl)
theorem dX11_of_164 : decode cX11_of 164 = .ok (.iload_n 3, 1) := dk_29 (dk_at dksX11_of_3 6 rfl rfl)
theorem dX11_of_165 : decode cX11_of 165 = .ok (.if_icmp .ne 7, 3) := dk_160 0 7 (dk_at dksX11_of_3 7 rfl rfl)
theorem dX11_of_168 : decode cX11_of 168 = .ok (.iconst 1, 1) := dk_4 (dk_at dksX11_of_3 10 rfl rfl)
theorem dX11_of_169 : decode cX11_of 169 = .ok (.goto 4, 3) := dk_167 0 4 (dk_at dksX11_of_3 11 rfl rfl)
theorem dX11_of_172 : decode cX11_of 172 = .ok (.iconst 0, 1) := dk_3 (dk_at dksX11_of_3 14 rfl rfl)
theorem dX11_of_173 : decode cX11_of 173 = .ok (.ireturn, 1) := dk_172 (dk_at dksX11_of_3 15 rfl rfl)
theorem dX11_of_174 : decode cX11_of 174 = .ok (.iload_n 2, 1) := dk_28 (dk_at dksX11_of_3 16 rfl rfl)
theorem dX11_of_175 : decode cX11_of 175 = .ok (.iload_n 3, 1) := dk_29 (dk_at dksX11_of_3 17 rfl rfl)
theorem dX11_of_176 : decode cX11_of 176 = .ok (.if_icmp .le 7, 3) := dk_164 0 7 (dk_at dksX11_of_3 18 rfl rfl)
theorem dX11_of_179 : decode cX11_of 179 = .ok (.iconst 1, 1) := dk_4 (dk_at dksX11_of_3 21 rfl rfl)
theorem dX11_of_180 : decode cX11_of 180 = .ok (.goto 4, 3) := dk_167 0 4 (dk_at dksX11_of_4 0 rfl rfl)
theorem dX11_of_183 : decode cX11_of 183 = .ok (.iconst 0, 1) := dk_3 (dk_at dksX11_of_4 3 rfl rfl)
theorem dX11_of_184 : decode cX11_of 184 = .ok (.ireturn, 1) := dk_172 (dk_at dksX11_of_4 4 rfl rfl)
theorem dX11_of_185 : decode cX11_of 185 = .ok (.iload_n 2, 1) := dk_28 (dk_at dksX11_of_4 5 rfl rfl)
theorem dX11_of_186 : decode cX11_of 186 = .ok (.iload_n 3, 1) := dk_29 (dk_at dksX11_of_4 6 rfl rfl)
theorem dX11_of_187 : decode cX11_of 187 = .ok (.iand, 1) := dk_126 (dk_at dksX11_of_4 7 rfl rfl)
theorem dX11_of_188 : decode cX11_of 188 = .ok (.ireturn, 1) := dk_172 (dk_at dksX11_of_4 8 rfl rfl)
theorem dX11_of_189 : decode cX11_of 189 = .ok (.iload_n 2, 1) := dk_28 (dk_at dksX11_of_4 9 rfl rfl)
theorem dX11_of_190 : decode cX11_of 190 = .ok (.iload_n 3, 1) := dk_29 (dk_at dksX11_of_4 10 rfl rfl)
theorem dX11_of_191 : decode cX11_of 191 = .ok (.ior, 1) := dk_128 (dk_at dksX11_of_4 11 rfl rfl)
theorem dX11_of_192 : decode cX11_of 192 = .ok (.ireturn, 1) := dk_172 (dk_at dksX11_of_4 12 rfl rfl)
theorem q105 : (Jvm.Cond.initialized "SwallowSurvey$Two") ∈ lw_all := lw_g (lw_at lw_m1 24 rfl) rfl
theorem q735 : (Jvm.Cond.instantiable "SwallowSurvey$Two" (3 : Nat)) ∈ lw_all := lw_g (lw_at lw_m3 174 rfl) rfl
theorem q737 : (Jvm.Cond.instanceMethod ({ cls := "SwallowSurvey$Two", name := "<init>", desc := "(CLSwallowSurvey$Term;LSwallowSurvey$Term;)V" } : Jvm.MethodName)) ∈ lw_all := lw_g (lw_at lw_m3 176 rfl) rfl
theorem q738 : (Jvm.Cond.code ({ cls := "SwallowSurvey$Two", name := "<init>", desc := "(CLSwallowSurvey$Term;LSwallowSurvey$Term;)V" } : Jvm.MethodName) prog_10_method_1_code (4 : Nat) (Option.none : Option Jvm.ClassFile.FieldType)) ∈ lw_all := lw_g (lw_at lw_m3 177 rfl) rfl
theorem q739 : (Jvm.Cond.methodLinkNest "SwallowSurvey$Two" (1 : Nat) ({ cls := "SwallowSurvey$Term", name := "<init>", desc := "()V" } : Jvm.MethodName) "SwallowSurvey") ∈ lw_tbl := lw_at lw_m3 178 rfl
theorem q740 : (Jvm.Cond.fieldLink "SwallowSurvey$Two" (7 : Nat) "SwallowSurvey$Two" "sign" "C") ∈ lw_all := lw_g (lw_at lw_m3 179 rfl) rfl
theorem q741 : (Jvm.Cond.fieldLink "SwallowSurvey$Two" (13 : Nat) "SwallowSurvey$Two" "a" "LSwallowSurvey$Term;") ∈ lw_all := lw_g (lw_at lw_m3 180 rfl) rfl
theorem q742 : (Jvm.Cond.fieldLink "SwallowSurvey$Two" (17 : Nat) "SwallowSurvey$Two" "b" "LSwallowSurvey$Term;") ∈ lw_all := lw_g (lw_at lw_m3 181 rfl) rfl
theorem q743 : (Jvm.Cond.laysFinal "SwallowSurvey$Two" "SwallowSurvey$Two" "sign" "C") ∈ lw_all := lw_g (lw_at lw_m3 182 rfl) rfl
theorem q744 : (Jvm.Cond.soleField "SwallowSurvey$Two" "sign") ∈ lw_all := lw_g (lw_at lw_m3 183 rfl) rfl
theorem q745 : (Jvm.Cond.laysFinal "SwallowSurvey$Two" "SwallowSurvey$Two" "a" "LSwallowSurvey$Term;") ∈ lw_all := lw_g (lw_at lw_m3 184 rfl) rfl
theorem q746 : (Jvm.Cond.soleField "SwallowSurvey$Two" "a") ∈ lw_all := lw_g (lw_at lw_m3 185 rfl) rfl
theorem q747 : (Jvm.Cond.laysFinal "SwallowSurvey$Two" "SwallowSurvey$Two" "b" "LSwallowSurvey$Term;") ∈ lw_all := lw_g (lw_at lw_m3 186 rfl) rfl
theorem q748 : (Jvm.Cond.soleField "SwallowSurvey$Two" "b") ∈ lw_all := lw_g (lw_at lw_m3 187 rfl) rfl
theorem q749 : (Jvm.Cond.superclass "SwallowSurvey$Two" "SwallowSurvey$Term") ∈ lw_all := lw_g (lw_at lw_m3 188 rfl) rfl
theorem q903 : (Jvm.Cond.instanceMethod ({ cls := "SwallowSurvey$Two", name := "of", desc := "([I)I" } : Jvm.MethodName)) ∈ lw_all := lw_g (lw_at lw_m4 102 rfl) rfl
theorem q904 : (Jvm.Cond.code ({ cls := "SwallowSurvey$Two", name := "of", desc := "([I)I" } : Jvm.MethodName) prog_10_method_2_code (4 : Nat) (Option.some Jvm.ClassFile.FieldType.int)) ∈ lw_all := lw_g (lw_at lw_m4 103 rfl) rfl
theorem q905 : (Jvm.Cond.methodLink "SwallowSurvey$Two" (20 : Nat) ({ cls := "SwallowSurvey$Term", name := "of", desc := "([I)I" } : Jvm.MethodName)) ∈ lw_all := lw_g (lw_at lw_m4 104 rfl) rfl
theorem q909 : (Jvm.Cond.selects "SwallowSurvey$Two" ({ cls := "SwallowSurvey$Term", name := "of", desc := "([I)I" } : Jvm.MethodName) ({ cls := "SwallowSurvey$Two", name := "of", desc := "([I)I" } : Jvm.MethodName)) ∈ lw_all := lw_g (lw_at lw_m4 108 rfl) rfl
theorem q1530 : (Jvm.Cond.castable "SwallowSurvey$Two" "SwallowSurvey$Term") ∈ lw_tbl := lw_at lw_m7 9 rfl
theorem in_X11 : ∀ w ∈ wsX110, w ∈ lw_all := lw_in wsX110 [743, 745, 747] (by decide +kernel) (by decide +kernel)
