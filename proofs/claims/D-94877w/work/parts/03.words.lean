theorem q81 : (Jvm.Cond.initialized "SwallowSurveyLaw") ∈ lw_all := lw_g (lw_at lw_m1 0 rfl) rfl
set_option maxRecDepth 100000
theorem q106 : (Jvm.Cond.classLink "SwallowSurveyLaw" (7 : Nat) "SwallowSurvey") ∈ lw_all := lw_g (lw_at lw_m1 25 rfl) rfl
theorem q108 : (Jvm.Cond.methodLink "SwallowSurveyLaw" (9 : Nat) ({ cls := "SwallowSurvey", name := "<init>", desc := "()V" } : Jvm.MethodName)) ∈ lw_all := lw_g (lw_at lw_m1 27 rfl) rfl
theorem q425 : (Jvm.Cond.methodLink "SwallowSurveyLaw" (61 : Nat) ({ cls := "SwallowSurvey", name := "feed", desc := "(IIIII)I" } : Jvm.MethodName)) ∈ lw_all := lw_g (lw_at lw_m2 104 rfl) rfl
theorem q433 : (Jvm.Cond.methodLink "SwallowSurveyLaw" (65 : Nat) ({ cls := "SwallowSurvey", name := "end", desc := "(I)Z" } : Jvm.MethodName)) ∈ lw_all := lw_g (lw_at lw_m2 112 rfl) rfl
theorem q440 : (Jvm.Cond.methodLink "SwallowSurveyLaw" (69 : Nat) ({ cls := "SwallowSurvey", name := "text", desc := "(I)I" } : Jvm.MethodName)) ∈ lw_all := lw_g (lw_at lw_m2 119 rfl) rfl
theorem q750 : (Jvm.Cond.methodLink "SwallowSurveyLaw" (73 : Nat) ({ cls := "SwallowSurvey", name := "fault", desc := "(I)I" } : Jvm.MethodName)) ∈ lw_all := lw_g (lw_at lw_m3 189 rfl) rfl
theorem q754 : (Jvm.Cond.methodLink "SwallowSurveyLaw" (13 : Nat) ({ cls := "SwallowSurvey", name := "state", desc := "(I)I" } : Jvm.MethodName)) ∈ lw_all := lw_g (lw_at lw_m3 193 rfl) rfl
theorem q758 : (Jvm.Cond.methodLink "SwallowSurveyLaw" (18 : Nat) ({ cls := "SwallowSurvey", name := "land", desc := "(II)Z" } : Jvm.MethodName)) ∈ lw_all := lw_g (lw_at lw_m3 197 rfl) rfl
theorem q762 : (Jvm.Cond.methodLink "SwallowSurveyLaw" (23 : Nat) ({ cls := "SwallowSurvey", name := "tell", desc := "(III)Z" } : Jvm.MethodName)) ∈ lw_all := lw_g (lw_at lw_m3 201 rfl) rfl
theorem q775 : (Jvm.Cond.methodLink "SwallowSurveyLaw" (28 : Nat) ({ cls := "SwallowSurvey", name := "dig", desc := "(I)Z" } : Jvm.MethodName)) ∈ lw_all := lw_g (lw_at lw_m3 214 rfl) rfl
theorem q786 : (Jvm.Cond.methodLink "SwallowSurveyLaw" (33 : Nat) ({ cls := "SwallowSurvey", name := "fill", desc := "(I)Z" } : Jvm.MethodName)) ∈ lw_all := lw_g (lw_at lw_m3 225 rfl) rfl
theorem q790 : (Jvm.Cond.methodLink "SwallowSurveyLaw" (37 : Nat) ({ cls := "SwallowSurvey", name := "undo", desc := "()Z" } : Jvm.MethodName)) ∈ lw_all := lw_g (lw_at lw_m3 229 rfl) rfl
theorem q794 : (Jvm.Cond.methodLink "SwallowSurveyLaw" (42 : Nat) ({ cls := "SwallowSurvey", name := "barn", desc := "(I)Z" } : Jvm.MethodName)) ∈ lw_all := lw_g (lw_at lw_m3 233 rfl) rfl
theorem q798 : (Jvm.Cond.methodLink "SwallowSurveyLaw" (46 : Nat) ({ cls := "SwallowSurvey", name := "mirror", desc := "(IIZ)Z" } : Jvm.MethodName)) ∈ lw_all := lw_g (lw_at lw_m3 237 rfl) rfl
theorem q806 : (Jvm.Cond.methodLink "SwallowSurveyLaw" (51 : Nat) ({ cls := "SwallowSurvey", name := "nest", desc := "(II)I" } : Jvm.MethodName)) ∈ lw_all := lw_g (lw_at lw_m4 5 rfl) rfl
theorem q810 : (Jvm.Cond.methodLink "SwallowSurveyLaw" (56 : Nat) ({ cls := "SwallowSurvey", name := "swallow", desc := "(IIIII)I" } : Jvm.MethodName)) ∈ lw_all := lw_g (lw_at lw_m4 9 rfl) rfl
theorem q841 : (Jvm.Cond.methodLink "SwallowSurveyLaw" (77 : Nat) ({ cls := "SwallowSurvey", name := "survey", desc := "()I" } : Jvm.MethodName)) ∈ lw_all := lw_g (lw_at lw_m4 40 rfl) rfl
theorem q937 : (Jvm.Cond.methodLink "SwallowSurveyLaw" (82 : Nat) ({ cls := "SwallowSurvey", name := "spring", desc := "()I" } : Jvm.MethodName)) ∈ lw_all := lw_g (lw_at lw_m4 136 rfl) rfl
theorem q948 : (Jvm.Cond.methodLink "SwallowSurveyLaw" (86 : Nat) ({ cls := "SwallowSurvey", name := "of", desc := "(II)I" } : Jvm.MethodName)) ∈ lw_all := lw_g (lw_at lw_m4 147 rfl) rfl
theorem q957 : (Jvm.Cond.methodLink "SwallowSurveyLaw" (90 : Nat) ({ cls := "SwallowSurvey", name := "yard", desc := "(IIII)I" } : Jvm.MethodName)) ∈ lw_all := lw_g (lw_at lw_m4 156 rfl) rfl
theorem q964 : (Jvm.Cond.methodLink "SwallowSurveyLaw" (95 : Nat) ({ cls := "SwallowSurvey", name := "suit", desc := "(II)I" } : Jvm.MethodName)) ∈ lw_all := lw_g (lw_at lw_m4 163 rfl) rfl
theorem q975 : (Jvm.Cond.methodLink "SwallowSurveyLaw" (99 : Nat) ({ cls := "SwallowSurvey", name := "steal", desc := "(III)I" } : Jvm.MethodName)) ∈ lw_all := lw_g (lw_at lw_m4 174 rfl) rfl
theorem q979 : (Jvm.Cond.methodLink "SwallowSurveyLaw" (104 : Nat) ({ cls := "SwallowSurvey", name := "ends", desc := "(II)I" } : Jvm.MethodName)) ∈ lw_all := lw_g (lw_at lw_m4 178 rfl) rfl
theorem q983 : (Jvm.Cond.methodLink "SwallowSurveyLaw" (108 : Nat) ({ cls := "SwallowSurvey", name := "plan", desc := "(III)I" } : Jvm.MethodName)) ∈ lw_all := lw_g (lw_at lw_m4 182 rfl) rfl
theorem q1022 : (Jvm.Cond.methodLink "SwallowSurveyLaw" (112 : Nat) ({ cls := "SwallowSurvey", name := "hatch", desc := "(III)I" } : Jvm.MethodName)) ∈ lw_all := lw_g (lw_at lw_m4 221 rfl) rfl
theorem q1026 : (Jvm.Cond.methodLink "SwallowSurveyLaw" (116 : Nat) ({ cls := "SwallowSurvey", name := "odds", desc := "(II)I" } : Jvm.MethodName)) ∈ lw_all := lw_g (lw_at lw_m4 225 rfl) rfl
theorem q1034 : (Jvm.Cond.methodLink "SwallowSurveyLaw" (120 : Nat) ({ cls := "SwallowSurvey", name := "claim", desc := "(IIZ)Z" } : Jvm.MethodName)) ∈ lw_all := lw_g (lw_at lw_m4 233 rfl) rfl
theorem q1038 : (Jvm.Cond.methodLink "SwallowSurveyLaw" (124 : Nat) ({ cls := "SwallowSurvey", name := "back", desc := "(I)I" } : Jvm.MethodName)) ∈ lw_all := lw_g (lw_at lw_m4 237 rfl) rfl
theorem q1046 : (Jvm.Cond.methodLink "SwallowSurveyLaw" (128 : Nat) ({ cls := "SwallowSurvey", name := "part", desc := "(II)I" } : Jvm.MethodName)) ∈ lw_all := lw_g (lw_at lw_m5 5 rfl) rfl
theorem q1056 : (Jvm.Cond.methodLink "SwallowSurveyLaw" (132 : Nat) ({ cls := "SwallowSurvey", name := "image", desc := "(Z)Z" } : Jvm.MethodName)) ∈ lw_all := lw_g (lw_at lw_m5 15 rfl) rfl
theorem q1065 : (Jvm.Cond.methodLink "SwallowSurveyLaw" (137 : Nat) ({ cls := "SwallowSurvey", name := "look", desc := "(I)I" } : Jvm.MethodName)) ∈ lw_all := lw_g (lw_at lw_m5 24 rfl) rfl
theorem q1073 : (Jvm.Cond.classLink "SwallowSurveyLaw" (10 : Nat) "SwallowSurveyModel") ∈ lw_all := lw_g (lw_at lw_m5 32 rfl) rfl
theorem q1075 : (Jvm.Cond.methodLink "SwallowSurveyLaw" (12 : Nat) ({ cls := "SwallowSurveyModel", name := "<init>", desc := "()V" } : Jvm.MethodName)) ∈ lw_all := lw_g (lw_at lw_m5 34 rfl) rfl
theorem q1199 : (Jvm.Cond.methodLink "SwallowSurveyLaw" (17 : Nat) ({ cls := "SwallowSurveyModel", name := "state", desc := "(I)I" } : Jvm.MethodName)) ∈ lw_all := lw_g (lw_at lw_m5 158 rfl) rfl
theorem q1203 : (Jvm.Cond.methodLink "SwallowSurveyLaw" (22 : Nat) ({ cls := "SwallowSurveyModel", name := "land", desc := "(II)Z" } : Jvm.MethodName)) ∈ lw_all := lw_g (lw_at lw_m5 162 rfl) rfl
theorem q1210 : (Jvm.Cond.methodLink "SwallowSurveyLaw" (27 : Nat) ({ cls := "SwallowSurveyModel", name := "tell", desc := "(III)Z" } : Jvm.MethodName)) ∈ lw_all := lw_g (lw_at lw_m5 169 rfl) rfl
theorem q1222 : (Jvm.Cond.methodLink "SwallowSurveyLaw" (32 : Nat) ({ cls := "SwallowSurveyModel", name := "dig", desc := "(I)Z" } : Jvm.MethodName)) ∈ lw_all := lw_g (lw_at lw_m5 181 rfl) rfl
theorem q1230 : (Jvm.Cond.methodLink "SwallowSurveyLaw" (36 : Nat) ({ cls := "SwallowSurveyModel", name := "fill", desc := "(I)Z" } : Jvm.MethodName)) ∈ lw_all := lw_g (lw_at lw_m5 189 rfl) rfl
theorem q1234 : (Jvm.Cond.methodLink "SwallowSurveyLaw" (41 : Nat) ({ cls := "SwallowSurveyModel", name := "undo", desc := "()Z" } : Jvm.MethodName)) ∈ lw_all := lw_g (lw_at lw_m5 193 rfl) rfl
theorem q1238 : (Jvm.Cond.methodLink "SwallowSurveyLaw" (45 : Nat) ({ cls := "SwallowSurveyModel", name := "barn", desc := "(I)Z" } : Jvm.MethodName)) ∈ lw_all := lw_g (lw_at lw_m5 197 rfl) rfl
theorem q1242 : (Jvm.Cond.methodLink "SwallowSurveyLaw" (50 : Nat) ({ cls := "SwallowSurveyModel", name := "mirror", desc := "(IIZ)Z" } : Jvm.MethodName)) ∈ lw_all := lw_g (lw_at lw_m5 201 rfl) rfl
theorem q1250 : (Jvm.Cond.methodLink "SwallowSurveyLaw" (55 : Nat) ({ cls := "SwallowSurveyModel", name := "nest", desc := "(II)I" } : Jvm.MethodName)) ∈ lw_all := lw_g (lw_at lw_m5 209 rfl) rfl
theorem q1254 : (Jvm.Cond.methodLink "SwallowSurveyLaw" (60 : Nat) ({ cls := "SwallowSurveyModel", name := "swallow", desc := "(IIIII)I" } : Jvm.MethodName)) ∈ lw_all := lw_g (lw_at lw_m5 213 rfl) rfl
theorem q1258 : (Jvm.Cond.methodLink "SwallowSurveyLaw" (64 : Nat) ({ cls := "SwallowSurveyModel", name := "feed", desc := "(IIIII)I" } : Jvm.MethodName)) ∈ lw_all := lw_g (lw_at lw_m5 217 rfl) rfl
theorem q1262 : (Jvm.Cond.methodLink "SwallowSurveyLaw" (68 : Nat) ({ cls := "SwallowSurveyModel", name := "end", desc := "(I)Z" } : Jvm.MethodName)) ∈ lw_all := lw_g (lw_at lw_m5 221 rfl) rfl
theorem q1266 : (Jvm.Cond.methodLink "SwallowSurveyLaw" (72 : Nat) ({ cls := "SwallowSurveyModel", name := "text", desc := "(I)I" } : Jvm.MethodName)) ∈ lw_all := lw_g (lw_at lw_m5 225 rfl) rfl
theorem q1360 : (Jvm.Cond.methodLink "SwallowSurveyLaw" (76 : Nat) ({ cls := "SwallowSurveyModel", name := "fault", desc := "(I)I" } : Jvm.MethodName)) ∈ lw_all := lw_g (lw_at lw_m6 79 rfl) rfl
theorem q1364 : (Jvm.Cond.methodLink "SwallowSurveyLaw" (81 : Nat) ({ cls := "SwallowSurveyModel", name := "survey", desc := "()I" } : Jvm.MethodName)) ∈ lw_all := lw_g (lw_at lw_m6 83 rfl) rfl
theorem q1432 : (Jvm.Cond.methodLink "SwallowSurveyLaw" (85 : Nat) ({ cls := "SwallowSurveyModel", name := "spring", desc := "()I" } : Jvm.MethodName)) ∈ lw_all := lw_g (lw_at lw_m6 151 rfl) rfl
theorem q1443 : (Jvm.Cond.methodLink "SwallowSurveyLaw" (89 : Nat) ({ cls := "SwallowSurveyModel", name := "of", desc := "(II)I" } : Jvm.MethodName)) ∈ lw_all := lw_g (lw_at lw_m6 162 rfl) rfl
theorem q1447 : (Jvm.Cond.methodLink "SwallowSurveyLaw" (94 : Nat) ({ cls := "SwallowSurveyModel", name := "yard", desc := "(IIII)I" } : Jvm.MethodName)) ∈ lw_all := lw_g (lw_at lw_m6 166 rfl) rfl
theorem q1451 : (Jvm.Cond.methodLink "SwallowSurveyLaw" (98 : Nat) ({ cls := "SwallowSurveyModel", name := "suit", desc := "(II)I" } : Jvm.MethodName)) ∈ lw_all := lw_g (lw_at lw_m6 170 rfl) rfl
theorem q1458 : (Jvm.Cond.methodLink "SwallowSurveyLaw" (103 : Nat) ({ cls := "SwallowSurveyModel", name := "steal", desc := "(III)I" } : Jvm.MethodName)) ∈ lw_all := lw_g (lw_at lw_m6 177 rfl) rfl
theorem q1462 : (Jvm.Cond.methodLink "SwallowSurveyLaw" (107 : Nat) ({ cls := "SwallowSurveyModel", name := "ends", desc := "(II)I" } : Jvm.MethodName)) ∈ lw_all := lw_g (lw_at lw_m6 181 rfl) rfl
theorem q1474 : (Jvm.Cond.methodLink "SwallowSurveyLaw" (111 : Nat) ({ cls := "SwallowSurveyModel", name := "plan", desc := "(III)I" } : Jvm.MethodName)) ∈ lw_all := lw_g (lw_at lw_m6 193 rfl) rfl
theorem q1486 : (Jvm.Cond.methodLink "SwallowSurveyLaw" (115 : Nat) ({ cls := "SwallowSurveyModel", name := "hatch", desc := "(III)I" } : Jvm.MethodName)) ∈ lw_all := lw_g (lw_at lw_m6 205 rfl) rfl
theorem q1490 : (Jvm.Cond.methodLink "SwallowSurveyLaw" (119 : Nat) ({ cls := "SwallowSurveyModel", name := "odds", desc := "(II)I" } : Jvm.MethodName)) ∈ lw_all := lw_g (lw_at lw_m6 209 rfl) rfl
theorem q1498 : (Jvm.Cond.methodLink "SwallowSurveyLaw" (123 : Nat) ({ cls := "SwallowSurveyModel", name := "claim", desc := "(IIZ)Z" } : Jvm.MethodName)) ∈ lw_all := lw_g (lw_at lw_m6 217 rfl) rfl
theorem q1502 : (Jvm.Cond.methodLink "SwallowSurveyLaw" (127 : Nat) ({ cls := "SwallowSurveyModel", name := "back", desc := "(I)I" } : Jvm.MethodName)) ∈ lw_all := lw_g (lw_at lw_m6 221 rfl) rfl
theorem q1506 : (Jvm.Cond.methodLink "SwallowSurveyLaw" (131 : Nat) ({ cls := "SwallowSurveyModel", name := "part", desc := "(II)I" } : Jvm.MethodName)) ∈ lw_all := lw_g (lw_at lw_m6 225 rfl) rfl
theorem q1514 : (Jvm.Cond.methodLink "SwallowSurveyLaw" (136 : Nat) ({ cls := "SwallowSurveyModel", name := "image", desc := "(Z)Z" } : Jvm.MethodName)) ∈ lw_all := lw_g (lw_at lw_m6 233 rfl) rfl
theorem q1518 : (Jvm.Cond.methodLink "SwallowSurveyLaw" (140 : Nat) ({ cls := "SwallowSurveyModel", name := "look", desc := "(I)I" } : Jvm.MethodName)) ∈ lw_all := lw_g (lw_at lw_m6 237 rfl) rfl
theorem q91 : (Jvm.Cond.initialized "SwallowSurvey$Token") ∈ lw_all := lw_g (lw_at lw_m1 10 rfl) rfl
set_option maxRecDepth 100000
theorem q458 : (Jvm.Cond.laysStatic "SwallowSurvey$Token" "END" "LSwallowSurvey$Token;") ∈ lw_tbl := lw_at lw_m2 137 rfl
theorem q460 : (Jvm.Cond.laysStatic "SwallowSurvey$Token" "NONE" "LSwallowSurvey$Token;") ∈ lw_tbl := lw_at lw_m2 139 rfl
theorem q465 : (Jvm.Cond.laysStatic "SwallowSurvey$Token" "WORD" "LSwallowSurvey$Token;") ∈ lw_tbl := lw_at lw_m2 144 rfl
theorem q530 : (Jvm.Cond.laysStatic "SwallowSurvey$Token" "NUMBER" "LSwallowSurvey$Token;") ∈ lw_tbl := lw_at lw_m2 209 rfl
theorem q590 : (Jvm.Cond.laysStatic "SwallowSurvey$Token" "SIGN" "LSwallowSurvey$Token;") ∈ lw_tbl := lw_at lw_m3 29 rfl
theorem q90 : (Jvm.Cond.initialized "java/lang/Enum") ∈ lw_all := lw_g (lw_at lw_m1 9 rfl) rfl
set_option maxRecDepth 100000
theorem q88 : (Jvm.Cond.initialized "java/lang/System") ∈ lw_all := lw_g (lw_at lw_m1 7 rfl) rfl
set_option maxRecDepth 100000
theorem q784 : (Jvm.Cond.static ({ cls := "java/lang/System", name := "arraycopy", desc := "(Ljava/lang/Object;ILjava/lang/Object;II)V" } : Jvm.MethodName)) ∈ lw_all := lw_g (lw_at lw_m3 223 rfl) rfl
theorem q785 : (Jvm.Cond.native ({ cls := "java/lang/System", name := "arraycopy", desc := "(Ljava/lang/Object;ILjava/lang/Object;II)V" } : Jvm.MethodName)) ∈ lw_all := lw_g (lw_at lw_m3 224 rfl) rfl
theorem q115 : (Jvm.Cond.arrayOver (Jvm.ClassFile.FieldType.object "java/lang/String")) ∈ lw_tbl := lw_at lw_m1 34 rfl
set_option maxRecDepth 100000
theorem q135 : (Jvm.Cond.arrayOver (Jvm.ClassFile.FieldType.object "SwallowSurvey$Text")) ∈ lw_tbl := lw_at lw_m1 54 rfl
theorem q142 : (Jvm.Cond.arrayOver (Jvm.ClassFile.FieldType.object "SwallowSurvey$Term")) ∈ lw_tbl := lw_at lw_m1 61 rfl
theorem q157 : (Jvm.Cond.arrayClass Jvm.ClassFile.FieldType.byte) ∈ lw_all := lw_g (lw_at lw_m1 76 rfl) rfl
theorem q158 : (Jvm.Cond.arrayClass Jvm.ClassFile.FieldType.int) ∈ lw_all := lw_g (lw_at lw_m1 77 rfl) rfl
theorem q166 : (Jvm.Cond.arrayOver (Jvm.ClassFile.FieldType.object "SwallowSurvey$Swallow")) ∈ lw_tbl := lw_at lw_m1 85 rfl
theorem q276 : (Jvm.Cond.arrayClass Jvm.ClassFile.FieldType.boolean) ∈ lw_all := lw_g (lw_at lw_m1 195 rfl) rfl
theorem q328 : (Jvm.Cond.arrayOver (Jvm.ClassFile.FieldType.array Jvm.ClassFile.FieldType.int)) ∈ lw_tbl := lw_at lw_m2 7 rfl
