-- ===== PART A: goes FIRST, ahead of the names: the tables' words, and 'selects' of the private methods out of them =====
/-- a private method of a class that the tables say can be made, by its rows of tables_1 -/
def lw_okq (q : MethodName × Nat) : Prop := (q.1.cls ≠ "java/lang/invoke/MethodHandle" ∧ q.1.cls ≠ "java/lang/invoke/VarHandle") ∧ Cond.instantiable q.1.cls q.2 ∈ tables_1 ∧ Cond.privateMethod q.1 ∈ tables_1 ∧ Cond.instanceMethod q.1 ∈ tables_1
set_option maxRecDepth 100000
theorem lw_t1 {w : Cond} (h : w ∈ tables_1_1) : w ∈ tables_1 := List.mem_append_left _ h
theorem lw_t2 {w : Cond} (h : w ∈ tables_1_2) : w ∈ tables_1 := List.mem_append_right _ (List.mem_append_left _ h)
theorem lw_t3 {w : Cond} (h : w ∈ tables_1_3) : w ∈ tables_1 := List.mem_append_right _ (List.mem_append_right _ (List.mem_append_left _ h))
theorem lw_t4 {w : Cond} (h : w ∈ tables_1_4) : w ∈ tables_1 := List.mem_append_right _ (List.mem_append_right _ (List.mem_append_right _ (List.mem_append_left _ h)))
theorem lw_t5 {w : Cond} (h : w ∈ tables_1_5) : w ∈ tables_1 := List.mem_append_right _ (List.mem_append_right _ (List.mem_append_right _ (List.mem_append_right _ (List.mem_append_left _ h))))
theorem lw_t6 {w : Cond} (h : w ∈ tables_1_6) : w ∈ tables_1 := List.mem_append_right _ (List.mem_append_right _ (List.mem_append_right _ (List.mem_append_right _ (List.mem_append_right _ (List.mem_append_left _ h)))))
theorem lw_t7 {w : Cond} (h : w ∈ tables_1_7) : w ∈ tables_1 := List.mem_append_right _ (List.mem_append_right _ (List.mem_append_right _ (List.mem_append_right _ (List.mem_append_right _ (List.mem_append_right _ h)))))
theorem lw_p0 : lw_okq (⟨"SwallowSurvey", "puts", "(I)V"⟩, 31) := ⟨⟨by decide +kernel, by decide +kernel⟩, lw_t1 (List.mem_of_getElem? (i := 26) rfl), lw_t2 (List.mem_of_getElem? (i := 109) rfl), lw_t2 (List.mem_of_getElem? (i := 110) rfl)⟩
theorem lw_p1 : lw_okq (⟨"SwallowSurvey", "readsHabit", "()LSwallowSurvey$Text;"⟩, 31) := ⟨⟨by decide +kernel, by decide +kernel⟩, lw_t1 (List.mem_of_getElem? (i := 26) rfl), lw_t2 (List.mem_of_getElem? (i := 125) rfl), lw_t2 (List.mem_of_getElem? (i := 126) rfl)⟩
theorem lw_p2 : lw_okq (⟨"SwallowSurvey", "readNext", "()V"⟩, 31) := ⟨⟨by decide +kernel, by decide +kernel⟩, lw_t1 (List.mem_of_getElem? (i := 26) rfl), lw_t2 (List.mem_of_getElem? (i := 129) rfl), lw_t2 (List.mem_of_getElem? (i := 130) rfl)⟩
theorem lw_p3 : lw_okq (⟨"SwallowSurvey", "raw", "(I)I"⟩, 31) := ⟨⟨by decide +kernel, by decide +kernel⟩, lw_t1 (List.mem_of_getElem? (i := 26) rfl), lw_t2 (List.mem_of_getElem? (i := 133) rfl), lw_t2 (List.mem_of_getElem? (i := 134) rfl)⟩
theorem lw_p4 : lw_okq (⟨"SwallowSurvey", "wordOf", "([Ljava/lang/String;)I"⟩, 31) := ⟨⟨by decide +kernel, by decide +kernel⟩, lw_t1 (List.mem_of_getElem? (i := 26) rfl), lw_t2 (List.mem_of_getElem? (i := 146) rfl), lw_t2 (List.mem_of_getElem? (i := 147) rfl)⟩
theorem lw_p5 : lw_okq (⟨"SwallowSurvey", "spells", "(Ljava/lang/String;)Z"⟩, 31) := ⟨⟨by decide +kernel, by decide +kernel⟩, lw_t1 (List.mem_of_getElem? (i := 26) rfl), lw_t2 (List.mem_of_getElem? (i := 150) rfl), lw_t2 (List.mem_of_getElem? (i := 151) rfl)⟩
theorem lw_p6 : lw_okq (⟨"SwallowSurvey", "must", "(Z)V"⟩, 31) := ⟨⟨by decide +kernel, by decide +kernel⟩, lw_t1 (List.mem_of_getElem? (i := 26) rfl), lw_t3 (List.mem_of_getElem? (i := 31) rfl), lw_t3 (List.mem_of_getElem? (i := 32) rfl)⟩
theorem lw_p7 : lw_okq (⟨"java/lang/Throwable", "fillInStackTrace", "(I)Ljava/lang/Throwable;"⟩, 6) := ⟨⟨by decide +kernel, by decide +kernel⟩, lw_t3 (List.mem_of_getElem? (i := 68) rfl), lw_t3 (List.mem_of_getElem? (i := 66) rfl), lw_t3 (List.mem_of_getElem? (i := 67) rfl)⟩
theorem lw_p8 : lw_okq (⟨"SwallowSurvey", "isWord", "(Ljava/lang/String;)Z"⟩, 31) := ⟨⟨by decide +kernel, by decide +kernel⟩, lw_t1 (List.mem_of_getElem? (i := 26) rfl), lw_t3 (List.mem_of_getElem? (i := 101) rfl), lw_t3 (List.mem_of_getElem? (i := 102) rfl)⟩
theorem lw_p9 : lw_okq (⟨"SwallowSurvey", "any", "()LSwallowSurvey$Term;"⟩, 31) := ⟨⟨by decide +kernel, by decide +kernel⟩, lw_t1 (List.mem_of_getElem? (i := 26) rfl), lw_t3 (List.mem_of_getElem? (i := 105) rfl), lw_t3 (List.mem_of_getElem? (i := 106) rfl)⟩
theorem lw_p10 : lw_okq (⟨"SwallowSurvey", "both", "()LSwallowSurvey$Term;"⟩, 31) := ⟨⟨by decide +kernel, by decide +kernel⟩, lw_t1 (List.mem_of_getElem? (i := 26) rfl), lw_t3 (List.mem_of_getElem? (i := 109) rfl), lw_t3 (List.mem_of_getElem? (i := 110) rfl)⟩
theorem lw_p11 : lw_okq (⟨"SwallowSurvey", "oneOf", "()LSwallowSurvey$Term;"⟩, 31) := ⟨⟨by decide +kernel, by decide +kernel⟩, lw_t1 (List.mem_of_getElem? (i := 26) rfl), lw_t3 (List.mem_of_getElem? (i := 113) rfl), lw_t3 (List.mem_of_getElem? (i := 114) rfl)⟩
theorem lw_p12 : lw_okq (⟨"SwallowSurvey", "opens", "()V"⟩, 31) := ⟨⟨by decide +kernel, by decide +kernel⟩, lw_t1 (List.mem_of_getElem? (i := 26) rfl), lw_t3 (List.mem_of_getElem? (i := 117) rfl), lw_t3 (List.mem_of_getElem? (i := 118) rfl)⟩
theorem lw_p13 : lw_okq (⟨"SwallowSurvey", "isSign", "(C)Z"⟩, 31) := ⟨⟨by decide +kernel, by decide +kernel⟩, lw_t1 (List.mem_of_getElem? (i := 26) rfl), lw_t3 (List.mem_of_getElem? (i := 134) rfl), lw_t3 (List.mem_of_getElem? (i := 135) rfl)⟩
theorem lw_p14 : lw_okq (⟨"SwallowSurvey", "takesSign", "(C)V"⟩, 31) := ⟨⟨by decide +kernel, by decide +kernel⟩, lw_t1 (List.mem_of_getElem? (i := 26) rfl), lw_t3 (List.mem_of_getElem? (i := 138) rfl), lw_t3 (List.mem_of_getElem? (i := 139) rfl)⟩
theorem lw_p15 : lw_okq (⟨"SwallowSurvey", "sum", "()LSwallowSurvey$Term;"⟩, 31) := ⟨⟨by decide +kernel, by decide +kernel⟩, lw_t1 (List.mem_of_getElem? (i := 26) rfl), lw_t3 (List.mem_of_getElem? (i := 142) rfl), lw_t3 (List.mem_of_getElem? (i := 143) rfl)⟩
def lw_privs_1 : List (MethodName × Nat) := [(⟨"SwallowSurvey", "puts", "(I)V"⟩, 31), (⟨"SwallowSurvey", "readsHabit", "()LSwallowSurvey$Text;"⟩, 31), (⟨"SwallowSurvey", "readNext", "()V"⟩, 31), (⟨"SwallowSurvey", "raw", "(I)I"⟩, 31), (⟨"SwallowSurvey", "wordOf", "([Ljava/lang/String;)I"⟩, 31), (⟨"SwallowSurvey", "spells", "(Ljava/lang/String;)Z"⟩, 31), (⟨"SwallowSurvey", "must", "(Z)V"⟩, 31), (⟨"java/lang/Throwable", "fillInStackTrace", "(I)Ljava/lang/Throwable;"⟩, 6), (⟨"SwallowSurvey", "isWord", "(Ljava/lang/String;)Z"⟩, 31), (⟨"SwallowSurvey", "any", "()LSwallowSurvey$Term;"⟩, 31), (⟨"SwallowSurvey", "both", "()LSwallowSurvey$Term;"⟩, 31), (⟨"SwallowSurvey", "oneOf", "()LSwallowSurvey$Term;"⟩, 31), (⟨"SwallowSurvey", "opens", "()V"⟩, 31), (⟨"SwallowSurvey", "isSign", "(C)Z"⟩, 31), (⟨"SwallowSurvey", "takesSign", "(C)V"⟩, 31), (⟨"SwallowSurvey", "sum", "()LSwallowSurvey$Term;"⟩, 31)]
theorem lw_r1 : ∀ q ∈ lw_privs_1, lw_okq q := List.forall_mem_cons.mpr ⟨lw_p0, List.forall_mem_cons.mpr ⟨lw_p1, List.forall_mem_cons.mpr ⟨lw_p2, List.forall_mem_cons.mpr ⟨lw_p3, List.forall_mem_cons.mpr ⟨lw_p4, List.forall_mem_cons.mpr ⟨lw_p5, List.forall_mem_cons.mpr ⟨lw_p6, List.forall_mem_cons.mpr ⟨lw_p7, List.forall_mem_cons.mpr ⟨lw_p8, List.forall_mem_cons.mpr ⟨lw_p9, List.forall_mem_cons.mpr ⟨lw_p10, List.forall_mem_cons.mpr ⟨lw_p11, List.forall_mem_cons.mpr ⟨lw_p12, List.forall_mem_cons.mpr ⟨lw_p13, List.forall_mem_cons.mpr ⟨lw_p14, List.forall_mem_cons.mpr ⟨lw_p15, fun _ h => absurd h List.not_mem_nil⟩⟩⟩⟩⟩⟩⟩⟩⟩⟩⟩⟩⟩⟩⟩⟩
theorem lw_p16 : lw_okq (⟨"SwallowSurvey", "product", "()LSwallowSurvey$Term;"⟩, 31) := ⟨⟨by decide +kernel, by decide +kernel⟩, lw_t1 (List.mem_of_getElem? (i := 26) rfl), lw_t3 (List.mem_of_getElem? (i := 146) rfl), lw_t3 (List.mem_of_getElem? (i := 147) rfl)⟩
theorem lw_p17 : lw_okq (⟨"SwallowSurvey", "unit", "()LSwallowSurvey$Term;"⟩, 31) := ⟨⟨by decide +kernel, by decide +kernel⟩, lw_t1 (List.mem_of_getElem? (i := 26) rfl), lw_t3 (List.mem_of_getElem? (i := 150) rfl), lw_t3 (List.mem_of_getElem? (i := 151) rfl)⟩
theorem lw_p18 : lw_okq (⟨"SwallowSurvey", "isCell", "(I)Z"⟩, 31) := ⟨⟨by decide +kernel, by decide +kernel⟩, lw_t1 (List.mem_of_getElem? (i := 26) rfl), lw_t3 (List.mem_of_getElem? (i := 206) rfl), lw_t3 (List.mem_of_getElem? (i := 207) rfl)⟩
theorem lw_p19 : lw_okq (⟨"SwallowSurvey", "ponds", "(IZ)Z"⟩, 31) := ⟨⟨by decide +kernel, by decide +kernel⟩, lw_t1 (List.mem_of_getElem? (i := 26) rfl), lw_t3 (List.mem_of_getElem? (i := 219) rfl), lw_t3 (List.mem_of_getElem? (i := 220) rfl)⟩
theorem lw_p20 : lw_okq (⟨"SwallowSurvey$Web", "flies", "(LSwallowSurvey$Land;I)V"⟩, 11) := ⟨⟨by decide +kernel, by decide +kernel⟩, lw_t1 (List.mem_of_getElem? (i := 197) rfl), lw_t4 (List.mem_of_getElem? (i := 49) rfl), lw_t4 (List.mem_of_getElem? (i := 50) rfl)⟩
theorem lw_p21 : lw_okq (⟨"SwallowSurvey$Web", "wordFor", "(LSwallowSurvey$Land;IIIIII)I"⟩, 11) := ⟨⟨by decide +kernel, by decide +kernel⟩, lw_t1 (List.mem_of_getElem? (i := 197) rfl), lw_t4 (List.mem_of_getElem? (i := 53) rfl), lw_t4 (List.mem_of_getElem? (i := 54) rfl)⟩
theorem lw_p22 : lw_okq (⟨"SwallowSurvey$Web", "besideX", "(IIZ)I"⟩, 11) := ⟨⟨by decide +kernel, by decide +kernel⟩, lw_t1 (List.mem_of_getElem? (i := 197) rfl), lw_t4 (List.mem_of_getElem? (i := 62) rfl), lw_t4 (List.mem_of_getElem? (i := 63) rfl)⟩
theorem lw_p23 : lw_okq (⟨"SwallowSurvey$Web", "besideY", "(IIZ)I"⟩, 11) := ⟨⟨by decide +kernel, by decide +kernel⟩, lw_t1 (List.mem_of_getElem? (i := 197) rfl), lw_t4 (List.mem_of_getElem? (i := 66) rfl), lw_t4 (List.mem_of_getElem? (i := 67) rfl)⟩
theorem lw_p24 : lw_okq (⟨"SwallowSurvey$Web", "otherAt", "(LSwallowSurvey$Land;III)I"⟩, 11) := ⟨⟨by decide +kernel, by decide +kernel⟩, lw_t1 (List.mem_of_getElem? (i := 197) rfl), lw_t4 (List.mem_of_getElem? (i := 111) rfl), lw_t4 (List.mem_of_getElem? (i := 112) rfl)⟩
theorem lw_p25 : lw_okq (⟨"SwallowSurvey$Web", "sues", "(IIIII)V"⟩, 11) := ⟨⟨by decide +kernel, by decide +kernel⟩, lw_t1 (List.mem_of_getElem? (i := 197) rfl), lw_t4 (List.mem_of_getElem? (i := 115) rfl), lw_t4 (List.mem_of_getElem? (i := 116) rfl)⟩
theorem lw_p26 : lw_okq (⟨"SwallowSurvey$Web", "spreads", "(LSwallowSurvey$Land;I)V"⟩, 11) := ⟨⟨by decide +kernel, by decide +kernel⟩, lw_t1 (List.mem_of_getElem? (i := 197) rfl), lw_t4 (List.mem_of_getElem? (i := 127) rfl), lw_t4 (List.mem_of_getElem? (i := 128) rfl)⟩
theorem lw_p27 : lw_okq (⟨"SwallowSurvey", "sizeOf", "(I)I"⟩, 31) := ⟨⟨by decide +kernel, by decide +kernel⟩, lw_t1 (List.mem_of_getElem? (i := 26) rfl), lw_t4 (List.mem_of_getElem? (i := 153) rfl), lw_t4 (List.mem_of_getElem? (i := 154) rfl)⟩
theorem lw_p28 : lw_okq (⟨"SwallowSurvey", "judgeAt", "(II)I"⟩, 31) := ⟨⟨by decide +kernel, by decide +kernel⟩, lw_t1 (List.mem_of_getElem? (i := 26) rfl), lw_t4 (List.mem_of_getElem? (i := 168) rfl), lw_t4 (List.mem_of_getElem? (i := 169) rfl)⟩
theorem lw_p29 : lw_okq (⟨"SwallowSurvey", "wouldBeOne", "(LSwallowSurvey$Land;II)Z"⟩, 31) := ⟨⟨by decide +kernel, by decide +kernel⟩, lw_t1 (List.mem_of_getElem? (i := 26) rfl), lw_t4 (List.mem_of_getElem? (i := 187) rfl), lw_t4 (List.mem_of_getElem? (i := 188) rfl)⟩
theorem lw_p30 : lw_okq (⟨"SwallowSurvey", "plans", "(IIII)V"⟩, 31) := ⟨⟨by decide +kernel, by decide +kernel⟩, lw_t1 (List.mem_of_getElem? (i := 26) rfl), lw_t4 (List.mem_of_getElem? (i := 195) rfl), lw_t4 (List.mem_of_getElem? (i := 196) rfl)⟩
theorem lw_p31 : lw_okq (⟨"SwallowSurvey", "findsOne", "(II)V"⟩, 31) := ⟨⟨by decide +kernel, by decide +kernel⟩, lw_t1 (List.mem_of_getElem? (i := 26) rfl), lw_t4 (List.mem_of_getElem? (i := 210) rfl), lw_t4 (List.mem_of_getElem? (i := 211) rfl)⟩
def lw_privs_2 : List (MethodName × Nat) := [(⟨"SwallowSurvey", "product", "()LSwallowSurvey$Term;"⟩, 31), (⟨"SwallowSurvey", "unit", "()LSwallowSurvey$Term;"⟩, 31), (⟨"SwallowSurvey", "isCell", "(I)Z"⟩, 31), (⟨"SwallowSurvey", "ponds", "(IZ)Z"⟩, 31), (⟨"SwallowSurvey$Web", "flies", "(LSwallowSurvey$Land;I)V"⟩, 11), (⟨"SwallowSurvey$Web", "wordFor", "(LSwallowSurvey$Land;IIIIII)I"⟩, 11), (⟨"SwallowSurvey$Web", "besideX", "(IIZ)I"⟩, 11), (⟨"SwallowSurvey$Web", "besideY", "(IIZ)I"⟩, 11), (⟨"SwallowSurvey$Web", "otherAt", "(LSwallowSurvey$Land;III)I"⟩, 11), (⟨"SwallowSurvey$Web", "sues", "(IIIII)V"⟩, 11), (⟨"SwallowSurvey$Web", "spreads", "(LSwallowSurvey$Land;I)V"⟩, 11), (⟨"SwallowSurvey", "sizeOf", "(I)I"⟩, 31), (⟨"SwallowSurvey", "judgeAt", "(II)I"⟩, 31), (⟨"SwallowSurvey", "wouldBeOne", "(LSwallowSurvey$Land;II)Z"⟩, 31), (⟨"SwallowSurvey", "plans", "(IIII)V"⟩, 31), (⟨"SwallowSurvey", "findsOne", "(II)V"⟩, 31)]
theorem lw_r2 : ∀ q ∈ lw_privs_2, lw_okq q := List.forall_mem_cons.mpr ⟨lw_p16, List.forall_mem_cons.mpr ⟨lw_p17, List.forall_mem_cons.mpr ⟨lw_p18, List.forall_mem_cons.mpr ⟨lw_p19, List.forall_mem_cons.mpr ⟨lw_p20, List.forall_mem_cons.mpr ⟨lw_p21, List.forall_mem_cons.mpr ⟨lw_p22, List.forall_mem_cons.mpr ⟨lw_p23, List.forall_mem_cons.mpr ⟨lw_p24, List.forall_mem_cons.mpr ⟨lw_p25, List.forall_mem_cons.mpr ⟨lw_p26, List.forall_mem_cons.mpr ⟨lw_p27, List.forall_mem_cons.mpr ⟨lw_p28, List.forall_mem_cons.mpr ⟨lw_p29, List.forall_mem_cons.mpr ⟨lw_p30, List.forall_mem_cons.mpr ⟨lw_p31, fun _ h => absurd h List.not_mem_nil⟩⟩⟩⟩⟩⟩⟩⟩⟩⟩⟩⟩⟩⟩⟩⟩
theorem lw_p32 : lw_okq (⟨"SwallowSurvey", "canDig", "(I)Z"⟩, 31) := ⟨⟨by decide +kernel, by decide +kernel⟩, lw_t1 (List.mem_of_getElem? (i := 26) rfl), lw_t4 (List.mem_of_getElem? (i := 214) rfl), lw_t4 (List.mem_of_getElem? (i := 215) rfl)⟩
theorem lw_p33 : lw_okq (⟨"SwallowSurvey", "findsTwo", "(II)V"⟩, 31) := ⟨⟨by decide +kernel, by decide +kernel⟩, lw_t1 (List.mem_of_getElem? (i := 26) rfl), lw_t4 (List.mem_of_getElem? (i := 218) rfl), lw_t4 (List.mem_of_getElem? (i := 219) rfl)⟩
theorem lw_p34 : lw_okq (⟨"SwallowSurvey", "hatches", "(I)V"⟩, 31) := ⟨⟨by decide +kernel, by decide +kernel⟩, lw_t1 (List.mem_of_getElem? (i := 26) rfl), lw_t4 (List.mem_of_getElem? (i := 230) rfl), lw_t4 (List.mem_of_getElem? (i := 231) rfl)⟩
theorem lw_p35 : lw_okq (⟨"SwallowSurvey", "goesWithAll", "()Z"⟩, 31) := ⟨⟨by decide +kernel, by decide +kernel⟩, lw_t1 (List.mem_of_getElem? (i := 26) rfl), lw_t5 (List.mem_of_getElem? (i := 2) rfl), lw_t5 (List.mem_of_getElem? (i := 3) rfl)⟩
theorem lw_p36 : lw_okq (⟨"SwallowSurvey", "findsWay", "(II)Z"⟩, 31) := ⟨⟨by decide +kernel, by decide +kernel⟩, lw_t1 (List.mem_of_getElem? (i := 26) rfl), lw_t5 (List.mem_of_getElem? (i := 11) rfl), lw_t5 (List.mem_of_getElem? (i := 12) rfl)⟩
theorem lw_p37 : lw_okq (⟨"SwallowSurvey", "threads", "()I"⟩, 31) := ⟨⟨by decide +kernel, by decide +kernel⟩, lw_t1 (List.mem_of_getElem? (i := 26) rfl), lw_t5 (List.mem_of_getElem? (i := 29) rfl), lw_t5 (List.mem_of_getElem? (i := 30) rfl)⟩
theorem lw_p38 : lw_okq (⟨"SwallowSurveyModel", "begins", "(II)V"⟩, 37) := ⟨⟨by decide +kernel, by decide +kernel⟩, lw_t5 (List.mem_of_getElem? (i := 33) rfl), lw_t5 (List.mem_of_getElem? (i := 39) rfl), lw_t5 (List.mem_of_getElem? (i := 40) rfl)⟩
theorem lw_p39 : lw_okq (⟨"SwallowSurveyModel", "clears", "()V"⟩, 37) := ⟨⟨by decide +kernel, by decide +kernel⟩, lw_t5 (List.mem_of_getElem? (i := 33) rfl), lw_t5 (List.mem_of_getElem? (i := 43) rfl), lw_t5 (List.mem_of_getElem? (i := 44) rfl)⟩
theorem lw_p40 : lw_okq (⟨"SwallowSurveyModel", "isCell", "(I)Z"⟩, 37) := ⟨⟨by decide +kernel, by decide +kernel⟩, lw_t5 (List.mem_of_getElem? (i := 33) rfl), lw_t5 (List.mem_of_getElem? (i := 174) rfl), lw_t5 (List.mem_of_getElem? (i := 175) rfl)⟩
theorem lw_p41 : lw_okq (⟨"SwallowSurveyModel", "isPlace", "(II)Z"⟩, 37) := ⟨⟨by decide +kernel, by decide +kernel⟩, lw_t5 (List.mem_of_getElem? (i := 33) rfl), lw_t5 (List.mem_of_getElem? (i := 178) rfl), lw_t5 (List.mem_of_getElem? (i := 179) rfl)⟩
theorem lw_p42 : lw_okq (⟨"SwallowSurveyModel", "keeps", "(I)V"⟩, 37) := ⟨⟨by decide +kernel, by decide +kernel⟩, lw_t5 (List.mem_of_getElem? (i := 33) rfl), lw_t5 (List.mem_of_getElem? (i := 186) rfl), lw_t5 (List.mem_of_getElem? (i := 187) rfl)⟩
theorem lw_p43 : lw_okq (⟨"SwallowSurveyModel", "isPoint", "(II)Z"⟩, 37) := ⟨⟨by decide +kernel, by decide +kernel⟩, lw_t5 (List.mem_of_getElem? (i := 33) rfl), lw_t5 (List.mem_of_getElem? (i := 206) rfl), lw_t5 (List.mem_of_getElem? (i := 207) rfl)⟩
theorem lw_p44 : lw_okq (⟨"SwallowSurveyModel", "next0", "()V"⟩, 37) := ⟨⟨by decide +kernel, by decide +kernel⟩, lw_t5 (List.mem_of_getElem? (i := 33) rfl), lw_t5 (List.mem_of_getElem? (i := 230) rfl), lw_t5 (List.mem_of_getElem? (i := 231) rfl)⟩
theorem lw_p45 : lw_okq (⟨"SwallowSurveyModel", "see", "(I)I"⟩, 37) := ⟨⟨by decide +kernel, by decide +kernel⟩, lw_t5 (List.mem_of_getElem? (i := 33) rfl), lw_t5 (List.mem_of_getElem? (i := 234) rfl), lw_t5 (List.mem_of_getElem? (i := 235) rfl)⟩
theorem lw_p46 : lw_okq (⟨"SwallowSurveyModel", "word", "()I"⟩, 37) := ⟨⟨by decide +kernel, by decide +kernel⟩, lw_t5 (List.mem_of_getElem? (i := 33) rfl), lw_t6 (List.mem_of_getElem? (i := 1) rfl), lw_t6 (List.mem_of_getElem? (i := 2) rfl)⟩
theorem lw_p47 : lw_okq (⟨"SwallowSurveyModel", "is", "(Ljava/lang/String;)Z"⟩, 37) := ⟨⟨by decide +kernel, by decide +kernel⟩, lw_t5 (List.mem_of_getElem? (i := 33) rfl), lw_t6 (List.mem_of_getElem? (i := 6) rfl), lw_t6 (List.mem_of_getElem? (i := 7) rfl)⟩
def lw_privs_3 : List (MethodName × Nat) := [(⟨"SwallowSurvey", "canDig", "(I)Z"⟩, 31), (⟨"SwallowSurvey", "findsTwo", "(II)V"⟩, 31), (⟨"SwallowSurvey", "hatches", "(I)V"⟩, 31), (⟨"SwallowSurvey", "goesWithAll", "()Z"⟩, 31), (⟨"SwallowSurvey", "findsWay", "(II)Z"⟩, 31), (⟨"SwallowSurvey", "threads", "()I"⟩, 31), (⟨"SwallowSurveyModel", "begins", "(II)V"⟩, 37), (⟨"SwallowSurveyModel", "clears", "()V"⟩, 37), (⟨"SwallowSurveyModel", "isCell", "(I)Z"⟩, 37), (⟨"SwallowSurveyModel", "isPlace", "(II)Z"⟩, 37), (⟨"SwallowSurveyModel", "keeps", "(I)V"⟩, 37), (⟨"SwallowSurveyModel", "isPoint", "(II)Z"⟩, 37), (⟨"SwallowSurveyModel", "next0", "()V"⟩, 37), (⟨"SwallowSurveyModel", "see", "(I)I"⟩, 37), (⟨"SwallowSurveyModel", "word", "()I"⟩, 37), (⟨"SwallowSurveyModel", "is", "(Ljava/lang/String;)Z"⟩, 37)]
theorem lw_r3 : ∀ q ∈ lw_privs_3, lw_okq q := List.forall_mem_cons.mpr ⟨lw_p32, List.forall_mem_cons.mpr ⟨lw_p33, List.forall_mem_cons.mpr ⟨lw_p34, List.forall_mem_cons.mpr ⟨lw_p35, List.forall_mem_cons.mpr ⟨lw_p36, List.forall_mem_cons.mpr ⟨lw_p37, List.forall_mem_cons.mpr ⟨lw_p38, List.forall_mem_cons.mpr ⟨lw_p39, List.forall_mem_cons.mpr ⟨lw_p40, List.forall_mem_cons.mpr ⟨lw_p41, List.forall_mem_cons.mpr ⟨lw_p42, List.forall_mem_cons.mpr ⟨lw_p43, List.forall_mem_cons.mpr ⟨lw_p44, List.forall_mem_cons.mpr ⟨lw_p45, List.forall_mem_cons.mpr ⟨lw_p46, List.forall_mem_cons.mpr ⟨lw_p47, fun _ h => absurd h List.not_mem_nil⟩⟩⟩⟩⟩⟩⟩⟩⟩⟩⟩⟩⟩⟩⟩⟩
theorem lw_p48 : lw_okq (⟨"SwallowSurveyModel", "nameWord", "()I"⟩, 37) := ⟨⟨by decide +kernel, by decide +kernel⟩, lw_t5 (List.mem_of_getElem? (i := 33) rfl), lw_t6 (List.mem_of_getElem? (i := 20) rfl), lw_t6 (List.mem_of_getElem? (i := 21) rfl)⟩
theorem lw_p49 : lw_okq (⟨"SwallowSurveyModel", "aLine", "()Z"⟩, 37) := ⟨⟨by decide +kernel, by decide +kernel⟩, lw_t5 (List.mem_of_getElem? (i := 33) rfl), lw_t6 (List.mem_of_getElem? (i := 36) rfl), lw_t6 (List.mem_of_getElem? (i := 37) rfl)⟩
theorem lw_p50 : lw_okq (⟨"SwallowSurveyModel", "bad", "(I)Z"⟩, 37) := ⟨⟨by decide +kernel, by decide +kernel⟩, lw_t5 (List.mem_of_getElem? (i := 33) rfl), lw_t6 (List.mem_of_getElem? (i := 40) rfl), lw_t6 (List.mem_of_getElem? (i := 41) rfl)⟩
theorem lw_p51 : lw_okq (⟨"SwallowSurveyModel", "any", "()Z"⟩, 37) := ⟨⟨by decide +kernel, by decide +kernel⟩, lw_t5 (List.mem_of_getElem? (i := 33) rfl), lw_t6 (List.mem_of_getElem? (i := 44) rfl), lw_t6 (List.mem_of_getElem? (i := 45) rfl)⟩
theorem lw_p52 : lw_okq (⟨"SwallowSurveyModel", "every", "()Z"⟩, 37) := ⟨⟨by decide +kernel, by decide +kernel⟩, lw_t5 (List.mem_of_getElem? (i := 33) rfl), lw_t6 (List.mem_of_getElem? (i := 48) rfl), lw_t6 (List.mem_of_getElem? (i := 49) rfl)⟩
theorem lw_p53 : lw_okq (⟨"SwallowSurveyModel", "oneTest", "()Z"⟩, 37) := ⟨⟨by decide +kernel, by decide +kernel⟩, lw_t5 (List.mem_of_getElem? (i := 33) rfl), lw_t6 (List.mem_of_getElem? (i := 52) rfl), lw_t6 (List.mem_of_getElem? (i := 53) rfl)⟩
theorem lw_p54 : lw_okq (⟨"SwallowSurveyModel", "opens", "()Z"⟩, 37) := ⟨⟨by decide +kernel, by decide +kernel⟩, lw_t5 (List.mem_of_getElem? (i := 33) rfl), lw_t6 (List.mem_of_getElem? (i := 56) rfl), lw_t6 (List.mem_of_getElem? (i := 57) rfl)⟩
theorem lw_p55 : lw_okq (⟨"SwallowSurveyModel", "lay", "(II)V"⟩, 37) := ⟨⟨by decide +kernel, by decide +kernel⟩, lw_t5 (List.mem_of_getElem? (i := 33) rfl), lw_t6 (List.mem_of_getElem? (i := 60) rfl), lw_t6 (List.mem_of_getElem? (i := 61) rfl)⟩
theorem lw_p56 : lw_okq (⟨"SwallowSurveyModel", "need", "(I)Z"⟩, 37) := ⟨⟨by decide +kernel, by decide +kernel⟩, lw_t5 (List.mem_of_getElem? (i := 33) rfl), lw_t6 (List.mem_of_getElem? (i := 64) rfl), lw_t6 (List.mem_of_getElem? (i := 65) rfl)⟩
theorem lw_p57 : lw_okq (⟨"SwallowSurveyModel", "sumUp", "()Z"⟩, 37) := ⟨⟨by decide +kernel, by decide +kernel⟩, lw_t5 (List.mem_of_getElem? (i := 33) rfl), lw_t6 (List.mem_of_getElem? (i := 68) rfl), lw_t6 (List.mem_of_getElem? (i := 69) rfl)⟩
theorem lw_p58 : lw_okq (⟨"SwallowSurveyModel", "product", "()Z"⟩, 37) := ⟨⟨by decide +kernel, by decide +kernel⟩, lw_t5 (List.mem_of_getElem? (i := 33) rfl), lw_t6 (List.mem_of_getElem? (i := 72) rfl), lw_t6 (List.mem_of_getElem? (i := 73) rfl)⟩
theorem lw_p59 : lw_okq (⟨"SwallowSurveyModel", "unit", "()Z"⟩, 37) := ⟨⟨by decide +kernel, by decide +kernel⟩, lw_t5 (List.mem_of_getElem? (i := 33) rfl), lw_t6 (List.mem_of_getElem? (i := 76) rfl), lw_t6 (List.mem_of_getElem? (i := 77) rfl)⟩
theorem lw_p60 : lw_okq (⟨"SwallowSurveyModel", "allFly", "()V"⟩, 37) := ⟨⟨by decide +kernel, by decide +kernel⟩, lw_t5 (List.mem_of_getElem? (i := 33) rfl), lw_t6 (List.mem_of_getElem? (i := 88) rfl), lw_t6 (List.mem_of_getElem? (i := 89) rfl)⟩
theorem lw_p61 : lw_okq (⟨"SwallowSurveyModel", "flies", "(I)V"⟩, 37) := ⟨⟨by decide +kernel, by decide +kernel⟩, lw_t5 (List.mem_of_getElem? (i := 33) rfl), lw_t6 (List.mem_of_getElem? (i := 92) rfl), lw_t6 (List.mem_of_getElem? (i := 93) rfl)⟩
theorem lw_p62 : lw_okq (⟨"SwallowSurveyModel", "laysFacts", "(III)V"⟩, 37) := ⟨⟨by decide +kernel, by decide +kernel⟩, lw_t5 (List.mem_of_getElem? (i := 33) rfl), lw_t6 (List.mem_of_getElem? (i := 96) rfl), lw_t6 (List.mem_of_getElem? (i := 97) rfl)⟩
theorem lw_p63 : lw_okq (⟨"SwallowSurveyModel", "seenFlies", "(II)I"⟩, 37) := ⟨⟨by decide +kernel, by decide +kernel⟩, lw_t5 (List.mem_of_getElem? (i := 33) rfl), lw_t6 (List.mem_of_getElem? (i := 106) rfl), lw_t6 (List.mem_of_getElem? (i := 107) rfl)⟩
def lw_privs_4 : List (MethodName × Nat) := [(⟨"SwallowSurveyModel", "nameWord", "()I"⟩, 37), (⟨"SwallowSurveyModel", "aLine", "()Z"⟩, 37), (⟨"SwallowSurveyModel", "bad", "(I)Z"⟩, 37), (⟨"SwallowSurveyModel", "any", "()Z"⟩, 37), (⟨"SwallowSurveyModel", "every", "()Z"⟩, 37), (⟨"SwallowSurveyModel", "oneTest", "()Z"⟩, 37), (⟨"SwallowSurveyModel", "opens", "()Z"⟩, 37), (⟨"SwallowSurveyModel", "lay", "(II)V"⟩, 37), (⟨"SwallowSurveyModel", "need", "(I)Z"⟩, 37), (⟨"SwallowSurveyModel", "sumUp", "()Z"⟩, 37), (⟨"SwallowSurveyModel", "product", "()Z"⟩, 37), (⟨"SwallowSurveyModel", "unit", "()Z"⟩, 37), (⟨"SwallowSurveyModel", "allFly", "()V"⟩, 37), (⟨"SwallowSurveyModel", "flies", "(I)V"⟩, 37), (⟨"SwallowSurveyModel", "laysFacts", "(III)V"⟩, 37), (⟨"SwallowSurveyModel", "seenFlies", "(II)I"⟩, 37)]
theorem lw_r4 : ∀ q ∈ lw_privs_4, lw_okq q := List.forall_mem_cons.mpr ⟨lw_p48, List.forall_mem_cons.mpr ⟨lw_p49, List.forall_mem_cons.mpr ⟨lw_p50, List.forall_mem_cons.mpr ⟨lw_p51, List.forall_mem_cons.mpr ⟨lw_p52, List.forall_mem_cons.mpr ⟨lw_p53, List.forall_mem_cons.mpr ⟨lw_p54, List.forall_mem_cons.mpr ⟨lw_p55, List.forall_mem_cons.mpr ⟨lw_p56, List.forall_mem_cons.mpr ⟨lw_p57, List.forall_mem_cons.mpr ⟨lw_p58, List.forall_mem_cons.mpr ⟨lw_p59, List.forall_mem_cons.mpr ⟨lw_p60, List.forall_mem_cons.mpr ⟨lw_p61, List.forall_mem_cons.mpr ⟨lw_p62, List.forall_mem_cons.mpr ⟨lw_p63, fun _ h => absurd h List.not_mem_nil⟩⟩⟩⟩⟩⟩⟩⟩⟩⟩⟩⟩⟩⟩⟩⟩
theorem lw_p64 : lw_okq (⟨"SwallowSurveyModel", "pondAt", "(II)I"⟩, 37) := ⟨⟨by decide +kernel, by decide +kernel⟩, lw_t5 (List.mem_of_getElem? (i := 33) rfl), lw_t6 (List.mem_of_getElem? (i := 110) rfl), lw_t6 (List.mem_of_getElem? (i := 111) rfl)⟩
theorem lw_p65 : lw_okq (⟨"SwallowSurveyModel", "told", "(I)I"⟩, 37) := ⟨⟨by decide +kernel, by decide +kernel⟩, lw_t5 (List.mem_of_getElem? (i := 33) rfl), lw_t6 (List.mem_of_getElem? (i := 117) rfl), lw_t6 (List.mem_of_getElem? (i := 118) rfl)⟩
theorem lw_p66 : lw_okq (⟨"SwallowSurveyModel", "comesTo", "(III)I"⟩, 37) := ⟨⟨by decide +kernel, by decide +kernel⟩, lw_t5 (List.mem_of_getElem? (i := 33) rfl), lw_t6 (List.mem_of_getElem? (i := 121) rfl), lw_t6 (List.mem_of_getElem? (i := 122) rfl)⟩
theorem lw_p67 : lw_okq (⟨"SwallowSurveyModel", "otherAt", "(III)I"⟩, 37) := ⟨⟨by decide +kernel, by decide +kernel⟩, lw_t5 (List.mem_of_getElem? (i := 33) rfl), lw_t6 (List.mem_of_getElem? (i := 128) rfl), lw_t6 (List.mem_of_getElem? (i := 129) rfl)⟩
theorem lw_p68 : lw_okq (⟨"SwallowSurveyModel", "sues", "(IIIII)V"⟩, 37) := ⟨⟨by decide +kernel, by decide +kernel⟩, lw_t5 (List.mem_of_getElem? (i := 33) rfl), lw_t6 (List.mem_of_getElem? (i := 132) rfl), lw_t6 (List.mem_of_getElem? (i := 133) rfl)⟩
theorem lw_p69 : lw_okq (⟨"SwallowSurveyModel", "hasCat", "(II)Z"⟩, 37) := ⟨⟨by decide +kernel, by decide +kernel⟩, lw_t5 (List.mem_of_getElem? (i := 33) rfl), lw_t6 (List.mem_of_getElem? (i := 136) rfl), lw_t6 (List.mem_of_getElem? (i := 137) rfl)⟩
theorem lw_p70 : lw_okq (⟨"SwallowSurveyModel", "laysCounties", "()V"⟩, 37) := ⟨⟨by decide +kernel, by decide +kernel⟩, lw_t5 (List.mem_of_getElem? (i := 33) rfl), lw_t6 (List.mem_of_getElem? (i := 140) rfl), lw_t6 (List.mem_of_getElem? (i := 141) rfl)⟩
theorem lw_p71 : lw_okq (⟨"SwallowSurveyModel", "spreads", "(I)V"⟩, 37) := ⟨⟨by decide +kernel, by decide +kernel⟩, lw_t5 (List.mem_of_getElem? (i := 33) rfl), lw_t6 (List.mem_of_getElem? (i := 144) rfl), lw_t6 (List.mem_of_getElem? (i := 145) rfl)⟩
theorem lw_p72 : lw_okq (⟨"SwallowSurveyModel", "isOpen", "(III)Z"⟩, 37) := ⟨⟨by decide +kernel, by decide +kernel⟩, lw_t5 (List.mem_of_getElem? (i := 33) rfl), lw_t6 (List.mem_of_getElem? (i := 148) rfl), lw_t6 (List.mem_of_getElem? (i := 149) rfl)⟩
theorem lw_p73 : lw_okq (⟨"SwallowSurveyModel", "draw", "(I)I"⟩, 37) := ⟨⟨by decide +kernel, by decide +kernel⟩, lw_t5 (List.mem_of_getElem? (i := 33) rfl), lw_t6 (List.mem_of_getElem? (i := 156) rfl), lw_t6 (List.mem_of_getElem? (i := 157) rfl)⟩
theorem lw_p74 : lw_okq (⟨"SwallowSurveyModel", "setsOut", "()V"⟩, 37) := ⟨⟨by decide +kernel, by decide +kernel⟩, lw_t5 (List.mem_of_getElem? (i := 33) rfl), lw_t6 (List.mem_of_getElem? (i := 186) rfl), lw_t6 (List.mem_of_getElem? (i := 187) rfl)⟩
theorem lw_p75 : lw_okq (⟨"SwallowSurveyModel", "comesBack", "()V"⟩, 37) := ⟨⟨by decide +kernel, by decide +kernel⟩, lw_t5 (List.mem_of_getElem? (i := 33) rfl), lw_t6 (List.mem_of_getElem? (i := 190) rfl), lw_t6 (List.mem_of_getElem? (i := 191) rfl)⟩
theorem lw_p76 : lw_okq (⟨"SwallowSurveyModel", "triesPonds", "(IIII)V"⟩, 37) := ⟨⟨by decide +kernel, by decide +kernel⟩, lw_t5 (List.mem_of_getElem? (i := 33) rfl), lw_t6 (List.mem_of_getElem? (i := 198) rfl), lw_t6 (List.mem_of_getElem? (i := 199) rfl)⟩
theorem lw_p77 : lw_okq (⟨"SwallowSurveyModel", "isFree", "(I)Z"⟩, 37) := ⟨⟨by decide +kernel, by decide +kernel⟩, lw_t5 (List.mem_of_getElem? (i := 33) rfl), lw_t6 (List.mem_of_getElem? (i := 202) rfl), lw_t6 (List.mem_of_getElem? (i := 203) rfl)⟩
theorem lw_p78 : lw_okq (⟨"SwallowSurveyModel", "hatches", "(I)V"⟩, 37) := ⟨⟨by decide +kernel, by decide +kernel⟩, lw_t5 (List.mem_of_getElem? (i := 33) rfl), lw_t6 (List.mem_of_getElem? (i := 214) rfl), lw_t6 (List.mem_of_getElem? (i := 215) rfl)⟩
theorem lw_p79 : lw_okq (⟨"SwallowSurveyModel", "oneMore", "(II)Z"⟩, 37) := ⟨⟨by decide +kernel, by decide +kernel⟩, lw_t5 (List.mem_of_getElem? (i := 33) rfl), lw_t6 (List.mem_of_getElem? (i := 230) rfl), lw_t6 (List.mem_of_getElem? (i := 231) rfl)⟩
def lw_privs_5 : List (MethodName × Nat) := [(⟨"SwallowSurveyModel", "pondAt", "(II)I"⟩, 37), (⟨"SwallowSurveyModel", "told", "(I)I"⟩, 37), (⟨"SwallowSurveyModel", "comesTo", "(III)I"⟩, 37), (⟨"SwallowSurveyModel", "otherAt", "(III)I"⟩, 37), (⟨"SwallowSurveyModel", "sues", "(IIIII)V"⟩, 37), (⟨"SwallowSurveyModel", "hasCat", "(II)Z"⟩, 37), (⟨"SwallowSurveyModel", "laysCounties", "()V"⟩, 37), (⟨"SwallowSurveyModel", "spreads", "(I)V"⟩, 37), (⟨"SwallowSurveyModel", "isOpen", "(III)Z"⟩, 37), (⟨"SwallowSurveyModel", "draw", "(I)I"⟩, 37), (⟨"SwallowSurveyModel", "setsOut", "()V"⟩, 37), (⟨"SwallowSurveyModel", "comesBack", "()V"⟩, 37), (⟨"SwallowSurveyModel", "triesPonds", "(IIII)V"⟩, 37), (⟨"SwallowSurveyModel", "isFree", "(I)Z"⟩, 37), (⟨"SwallowSurveyModel", "hatches", "(I)V"⟩, 37), (⟨"SwallowSurveyModel", "oneMore", "(II)Z"⟩, 37)]
theorem lw_r5 : ∀ q ∈ lw_privs_5, lw_okq q := List.forall_mem_cons.mpr ⟨lw_p64, List.forall_mem_cons.mpr ⟨lw_p65, List.forall_mem_cons.mpr ⟨lw_p66, List.forall_mem_cons.mpr ⟨lw_p67, List.forall_mem_cons.mpr ⟨lw_p68, List.forall_mem_cons.mpr ⟨lw_p69, List.forall_mem_cons.mpr ⟨lw_p70, List.forall_mem_cons.mpr ⟨lw_p71, List.forall_mem_cons.mpr ⟨lw_p72, List.forall_mem_cons.mpr ⟨lw_p73, List.forall_mem_cons.mpr ⟨lw_p74, List.forall_mem_cons.mpr ⟨lw_p75, List.forall_mem_cons.mpr ⟨lw_p76, List.forall_mem_cons.mpr ⟨lw_p77, List.forall_mem_cons.mpr ⟨lw_p78, List.forall_mem_cons.mpr ⟨lw_p79, fun _ h => absurd h List.not_mem_nil⟩⟩⟩⟩⟩⟩⟩⟩⟩⟩⟩⟩⟩⟩⟩⟩
theorem lw_p80 : lw_okq (⟨"SwallowSurveyModel", "threads", "()I"⟩, 37) := ⟨⟨by decide +kernel, by decide +kernel⟩, lw_t5 (List.mem_of_getElem? (i := 33) rfl), lw_t7 (List.mem_of_getElem? (i := 2) rfl), lw_t7 (List.mem_of_getElem? (i := 3) rfl)⟩
def lw_privs_6 : List (MethodName × Nat) := [(⟨"SwallowSurveyModel", "threads", "()I"⟩, 37)]
theorem lw_r6 : ∀ q ∈ lw_privs_6, lw_okq q := List.forall_mem_cons.mpr ⟨lw_p80, fun _ h => absurd h List.not_mem_nil⟩
def lw_privs : List (MethodName × Nat) := lw_privs_1 ++ (lw_privs_2 ++ (lw_privs_3 ++ (lw_privs_4 ++ (lw_privs_5 ++ (lw_privs_6)))))
def lw_tbl : List Cond := k2_sels lw_privs ++ tables_1
theorem lw_privs_ok : ∀ q ∈ lw_privs, lw_okq q := by
  show ∀ q ∈ lw_privs_1 ++ (lw_privs_2 ++ (lw_privs_3 ++ (lw_privs_4 ++ (lw_privs_5 ++ (lw_privs_6))))), lw_okq q
  exact List.forall_mem_append.mpr ⟨lw_r1, List.forall_mem_append.mpr ⟨lw_r2, List.forall_mem_append.mpr ⟨lw_r3, List.forall_mem_append.mpr ⟨lw_r4, List.forall_mem_append.mpr ⟨lw_r5, lw_r6⟩⟩⟩⟩⟩
-- ===== ONE list of words for every method: the tables' words that hold all through a run =====
def lw_all : List Cond := lw_tbl.filter goodWord
/-- a word of the tables by its place: claim/WORDS.tsv -/
theorem lw_w {w : Cond} (i : Nat) (h : lw_tbl[i]? = some w) (g : goodWord w = true) : w ∈ lw_all := List.mem_filter.mpr ⟨List.mem_of_getElem? h, g⟩
theorem lw_all_tbl {w : Cond} (h : w ∈ lw_all) : w ∈ lw_tbl := (List.mem_filter.mp h).1
theorem lw_self : GoodIn lw_all lw_all := fun w h => ⟨h, good_of_word (List.mem_filter.mp h).2⟩
/-- a class's field words, by their places -/
theorem lw_in (ws : List Cond) (ps : List Nat) (hp : ws = ps.filterMap (fun i => lw_tbl[i]?)) (hg : ws.all goodWord = true) : ∀ w ∈ ws, w ∈ lw_all := by
  intro w h
  have h1 := List.all_eq_true.mp hg w h
  rw [hp] at h
  obtain ⟨i, -, hi⟩ := List.mem_filterMap.mp h
  exact lw_w i hi h1
/-- the words of a contract for the method y with code b, L locals, answer r -/
abbrev ws_ (y : MethodName) (b : ByteArray) (L : Nat) (r : Option FieldType) : List Cond := Cond.code y b L r :: lw_all
theorem lw_meth {y : MethodName} {b : ByteArray} {L : Nat} {r : Option FieldType} (h : Cond.code y b L r ∈ lw_all) : GoodIn lw_all (ws_ y b L r) := by
  intro w hw
  rcases List.mem_cons.mp hw with e | e
  · rw [e]
    exact lw_self _ h
  · exact lw_self _ e
theorem lw_app {a c : List Cond} (ha : ∀ w ∈ a, w ∈ lw_all) (hc : GoodIn lw_all c) : GoodIn lw_all (a ++ c) := by
  intro w hw
  rcases List.mem_append.mp hw with e | e
  · exact lw_self w (ha w e)
  · exact hc w e
/-- what a call through an object asks: cwV n hts (lw_V ..) -/
theorem lw_V {own : String} {idx : Nat} {C : String} {y : MethodName} {b : ByteArray} {L : Nat} {r : Option FieldType} (h1 : Cond.methodLink own idx y ∈ lw_all) (h2 : Cond.instanceMethod y ∈ lw_all) (h3 : Cond.selects C y y ∈ lw_all) (h4 : Cond.initialized C ∈ lw_all) (h5 : Cond.code y b L r ∈ lw_all) : GoodIn lw_all (wsV own idx C y (ws_ y b L r)) := by
  refine lw_app ?_ (lw_meth h5)
  intro w hw
  simp only [List.mem_cons, List.not_mem_nil, or_false] at hw
  rcases hw with e | e | e | e
  · rw [e]; exact h1
  · rw [e]; exact h2
  · rw [e]; exact h3
  · rw [e]; exact h4
/-- what a static call asks: va_cwS n hts (lw_S ..) -/
theorem lw_S {own : String} {idx : Nat} {y : MethodName} {b : ByteArray} {L : Nat} {r : Option FieldType} (h1 : Cond.methodLink own idx y ∈ lw_all) (h2 : Cond.static y ∈ lw_all) (h3 : Cond.initialized y.cls ∈ lw_all) (h4 : Cond.code y b L r ∈ lw_all) : GoodIn lw_all (va_wsS own idx y (ws_ y b L r)) := by
  refine lw_app ?_ (lw_meth h4)
  intro w hw
  simp only [List.mem_cons, List.not_mem_nil, or_false] at hw
  rcases hw with e | e | e
  · rw [e]; exact h1
  · rw [e]; exact h2
  · rw [e]; exact h3
/-- the words of a contract for a method WITH HANDLERS (hh: its table) -/
abbrev wsW_ (y : MethodName) (b : ByteArray) (L : Nat) (r : Option FieldType) (hh : List (Nat × Nat × Nat × Nat)) : List Cond := Cond.codeWith y b L r hh :: lw_all
theorem lw_methW {y : MethodName} {b : ByteArray} {L : Nat} {r : Option FieldType} {hh : List (Nat × Nat × Nat × Nat)} (h : Cond.codeWith y b L r hh ∈ lw_all) : GoodIn lw_all (wsW_ y b L r hh) := by
  intro w hw
  rcases List.mem_cons.mp hw with e | e
  · rw [e]
    exact lw_self _ h
  · exact lw_self _ e
/-- any list of words by their places (lw_in), good -/
theorem lw_good {ws : List Cond} (h : ∀ w ∈ ws, w ∈ lw_all) : GoodIn lw_all ws := fun w hw => lw_self w (h w hw)
/-- what a call of a method with handlers asks: vx_cwVW n hts (lw_VW ..), vx_cwSW n hts (lw_SW ..) -/
theorem lw_VW {own : String} {idx : Nat} {C : String} {y : MethodName} {b : ByteArray} {L : Nat} {r : Option FieldType} {hh : List (Nat × Nat × Nat × Nat)} (h1 : Cond.methodLink own idx y ∈ lw_all) (h2 : Cond.instanceMethod y ∈ lw_all) (h3 : Cond.selects C y y ∈ lw_all) (h4 : Cond.initialized C ∈ lw_all) (h5 : Cond.codeWith y b L r hh ∈ lw_all) : GoodIn lw_all (wsV own idx C y (wsW_ y b L r hh)) := by
  refine lw_app ?_ (lw_methW h5)
  intro w hw
  simp only [List.mem_cons, List.not_mem_nil, or_false] at hw
  rcases hw with e | e | e | e
  · rw [e]; exact h1
  · rw [e]; exact h2
  · rw [e]; exact h3
  · rw [e]; exact h4
theorem lw_SW {own : String} {idx : Nat} {y : MethodName} {b : ByteArray} {L : Nat} {r : Option FieldType} {hh : List (Nat × Nat × Nat × Nat)} (h1 : Cond.methodLink own idx y ∈ lw_all) (h2 : Cond.static y ∈ lw_all) (h3 : Cond.initialized y.cls ∈ lw_all) (h4 : Cond.codeWith y b L r hh ∈ lw_all) : GoodIn lw_all (va_wsS own idx y (wsW_ y b L r hh)) := by
  refine lw_app ?_ (lw_methW h4)
  intro w hw
  simp only [List.mem_cons, List.not_mem_nil, or_false] at hw
  rcases hw with e | e | e
  · rw [e]; exact h1
  · rw [e]; exact h2
  · rw [e]; exact h3
/-- a word by its place in its run of the tables -/
theorem lw_at {r : List Cond} (hr : ∀ w ∈ r, w ∈ lw_tbl) {w : Cond} (i : Nat) (h : r[i]? = some w) : w ∈ lw_tbl := hr w (List.mem_of_getElem? h)
theorem lw_g {w : Cond} (h : w ∈ lw_tbl) (g : goodWord w = true) : w ∈ lw_all := List.mem_filter.mpr ⟨h, g⟩
theorem lw_ms : ∀ w ∈ k2_sels lw_privs, w ∈ lw_tbl := fun w h => show w ∈ k2_sels lw_privs ++ tables_1 from List.mem_append_left _ h
theorem lw_m1 : ∀ w ∈ tables_1_1, w ∈ lw_tbl := fun w h => show w ∈ k2_sels lw_privs ++ tables_1 from List.mem_append_right (k2_sels lw_privs) (show w ∈ tables_1 from List.mem_append_left _ h)
theorem lw_m2 : ∀ w ∈ tables_1_2, w ∈ lw_tbl := fun w h => show w ∈ k2_sels lw_privs ++ tables_1 from List.mem_append_right (k2_sels lw_privs) (show w ∈ tables_1 from List.mem_append_right _ (List.mem_append_left _ h))
theorem lw_m3 : ∀ w ∈ tables_1_3, w ∈ lw_tbl := fun w h => show w ∈ k2_sels lw_privs ++ tables_1 from List.mem_append_right (k2_sels lw_privs) (show w ∈ tables_1 from List.mem_append_right _ (List.mem_append_right _ (List.mem_append_left _ h)))
theorem lw_m4 : ∀ w ∈ tables_1_4, w ∈ lw_tbl := fun w h => show w ∈ k2_sels lw_privs ++ tables_1 from List.mem_append_right (k2_sels lw_privs) (show w ∈ tables_1 from List.mem_append_right _ (List.mem_append_right _ (List.mem_append_right _ (List.mem_append_left _ h))))
theorem lw_m5 : ∀ w ∈ tables_1_5, w ∈ lw_tbl := fun w h => show w ∈ k2_sels lw_privs ++ tables_1 from List.mem_append_right (k2_sels lw_privs) (show w ∈ tables_1 from List.mem_append_right _ (List.mem_append_right _ (List.mem_append_right _ (List.mem_append_right _ (List.mem_append_left _ h)))))
theorem lw_m6 : ∀ w ∈ tables_1_6, w ∈ lw_tbl := fun w h => show w ∈ k2_sels lw_privs ++ tables_1 from List.mem_append_right (k2_sels lw_privs) (show w ∈ tables_1 from List.mem_append_right _ (List.mem_append_right _ (List.mem_append_right _ (List.mem_append_right _ (List.mem_append_right _ (List.mem_append_left _ h))))))
theorem lw_m7 : ∀ w ∈ tables_1_7, w ∈ lw_tbl := fun w h => show w ∈ k2_sels lw_privs ++ tables_1 from List.mem_append_right (k2_sels lw_privs) (show w ∈ tables_1 from List.mem_append_right _ (List.mem_append_right _ (List.mem_append_right _ (List.mem_append_right _ (List.mem_append_right _ (List.mem_append_right _ h))))))
theorem qs0 : (Cond.selects "SwallowSurvey" ⟨"SwallowSurvey", "puts", "(I)V"⟩ ⟨"SwallowSurvey", "puts", "(I)V"⟩) ∈ lw_all := lw_g (lw_at lw_ms 0 rfl) rfl
theorem qs1 : (Cond.selects "SwallowSurvey" ⟨"SwallowSurvey", "readsHabit", "()LSwallowSurvey$Text;"⟩ ⟨"SwallowSurvey", "readsHabit", "()LSwallowSurvey$Text;"⟩) ∈ lw_all := lw_g (lw_at lw_ms 1 rfl) rfl
theorem qs2 : (Cond.selects "SwallowSurvey" ⟨"SwallowSurvey", "readNext", "()V"⟩ ⟨"SwallowSurvey", "readNext", "()V"⟩) ∈ lw_all := lw_g (lw_at lw_ms 2 rfl) rfl
theorem qs3 : (Cond.selects "SwallowSurvey" ⟨"SwallowSurvey", "raw", "(I)I"⟩ ⟨"SwallowSurvey", "raw", "(I)I"⟩) ∈ lw_all := lw_g (lw_at lw_ms 3 rfl) rfl
theorem qs4 : (Cond.selects "SwallowSurvey" ⟨"SwallowSurvey", "wordOf", "([Ljava/lang/String;)I"⟩ ⟨"SwallowSurvey", "wordOf", "([Ljava/lang/String;)I"⟩) ∈ lw_all := lw_g (lw_at lw_ms 4 rfl) rfl
theorem qs5 : (Cond.selects "SwallowSurvey" ⟨"SwallowSurvey", "spells", "(Ljava/lang/String;)Z"⟩ ⟨"SwallowSurvey", "spells", "(Ljava/lang/String;)Z"⟩) ∈ lw_all := lw_g (lw_at lw_ms 5 rfl) rfl
theorem qs6 : (Cond.selects "SwallowSurvey" ⟨"SwallowSurvey", "must", "(Z)V"⟩ ⟨"SwallowSurvey", "must", "(Z)V"⟩) ∈ lw_all := lw_g (lw_at lw_ms 6 rfl) rfl
theorem qs7 : (Cond.selects "java/lang/Throwable" ⟨"java/lang/Throwable", "fillInStackTrace", "(I)Ljava/lang/Throwable;"⟩ ⟨"java/lang/Throwable", "fillInStackTrace", "(I)Ljava/lang/Throwable;"⟩) ∈ lw_all := lw_g (lw_at lw_ms 7 rfl) rfl
theorem qs8 : (Cond.selects "SwallowSurvey" ⟨"SwallowSurvey", "isWord", "(Ljava/lang/String;)Z"⟩ ⟨"SwallowSurvey", "isWord", "(Ljava/lang/String;)Z"⟩) ∈ lw_all := lw_g (lw_at lw_ms 8 rfl) rfl
theorem qs9 : (Cond.selects "SwallowSurvey" ⟨"SwallowSurvey", "any", "()LSwallowSurvey$Term;"⟩ ⟨"SwallowSurvey", "any", "()LSwallowSurvey$Term;"⟩) ∈ lw_all := lw_g (lw_at lw_ms 9 rfl) rfl
theorem qs10 : (Cond.selects "SwallowSurvey" ⟨"SwallowSurvey", "both", "()LSwallowSurvey$Term;"⟩ ⟨"SwallowSurvey", "both", "()LSwallowSurvey$Term;"⟩) ∈ lw_all := lw_g (lw_at lw_ms 10 rfl) rfl
theorem qs11 : (Cond.selects "SwallowSurvey" ⟨"SwallowSurvey", "oneOf", "()LSwallowSurvey$Term;"⟩ ⟨"SwallowSurvey", "oneOf", "()LSwallowSurvey$Term;"⟩) ∈ lw_all := lw_g (lw_at lw_ms 11 rfl) rfl
theorem qs12 : (Cond.selects "SwallowSurvey" ⟨"SwallowSurvey", "opens", "()V"⟩ ⟨"SwallowSurvey", "opens", "()V"⟩) ∈ lw_all := lw_g (lw_at lw_ms 12 rfl) rfl
theorem qs13 : (Cond.selects "SwallowSurvey" ⟨"SwallowSurvey", "isSign", "(C)Z"⟩ ⟨"SwallowSurvey", "isSign", "(C)Z"⟩) ∈ lw_all := lw_g (lw_at lw_ms 13 rfl) rfl
theorem qs14 : (Cond.selects "SwallowSurvey" ⟨"SwallowSurvey", "takesSign", "(C)V"⟩ ⟨"SwallowSurvey", "takesSign", "(C)V"⟩) ∈ lw_all := lw_g (lw_at lw_ms 14 rfl) rfl
theorem qs15 : (Cond.selects "SwallowSurvey" ⟨"SwallowSurvey", "sum", "()LSwallowSurvey$Term;"⟩ ⟨"SwallowSurvey", "sum", "()LSwallowSurvey$Term;"⟩) ∈ lw_all := lw_g (lw_at lw_ms 15 rfl) rfl
theorem qs16 : (Cond.selects "SwallowSurvey" ⟨"SwallowSurvey", "product", "()LSwallowSurvey$Term;"⟩ ⟨"SwallowSurvey", "product", "()LSwallowSurvey$Term;"⟩) ∈ lw_all := lw_g (lw_at lw_ms 16 rfl) rfl
theorem qs17 : (Cond.selects "SwallowSurvey" ⟨"SwallowSurvey", "unit", "()LSwallowSurvey$Term;"⟩ ⟨"SwallowSurvey", "unit", "()LSwallowSurvey$Term;"⟩) ∈ lw_all := lw_g (lw_at lw_ms 17 rfl) rfl
theorem qs18 : (Cond.selects "SwallowSurvey" ⟨"SwallowSurvey", "isCell", "(I)Z"⟩ ⟨"SwallowSurvey", "isCell", "(I)Z"⟩) ∈ lw_all := lw_g (lw_at lw_ms 18 rfl) rfl
theorem qs19 : (Cond.selects "SwallowSurvey" ⟨"SwallowSurvey", "ponds", "(IZ)Z"⟩ ⟨"SwallowSurvey", "ponds", "(IZ)Z"⟩) ∈ lw_all := lw_g (lw_at lw_ms 19 rfl) rfl
theorem qs20 : (Cond.selects "SwallowSurvey$Web" ⟨"SwallowSurvey$Web", "flies", "(LSwallowSurvey$Land;I)V"⟩ ⟨"SwallowSurvey$Web", "flies", "(LSwallowSurvey$Land;I)V"⟩) ∈ lw_all := lw_g (lw_at lw_ms 20 rfl) rfl
theorem qs21 : (Cond.selects "SwallowSurvey$Web" ⟨"SwallowSurvey$Web", "wordFor", "(LSwallowSurvey$Land;IIIIII)I"⟩ ⟨"SwallowSurvey$Web", "wordFor", "(LSwallowSurvey$Land;IIIIII)I"⟩) ∈ lw_all := lw_g (lw_at lw_ms 21 rfl) rfl
theorem qs22 : (Cond.selects "SwallowSurvey$Web" ⟨"SwallowSurvey$Web", "besideX", "(IIZ)I"⟩ ⟨"SwallowSurvey$Web", "besideX", "(IIZ)I"⟩) ∈ lw_all := lw_g (lw_at lw_ms 22 rfl) rfl
theorem qs23 : (Cond.selects "SwallowSurvey$Web" ⟨"SwallowSurvey$Web", "besideY", "(IIZ)I"⟩ ⟨"SwallowSurvey$Web", "besideY", "(IIZ)I"⟩) ∈ lw_all := lw_g (lw_at lw_ms 23 rfl) rfl
theorem qs24 : (Cond.selects "SwallowSurvey$Web" ⟨"SwallowSurvey$Web", "otherAt", "(LSwallowSurvey$Land;III)I"⟩ ⟨"SwallowSurvey$Web", "otherAt", "(LSwallowSurvey$Land;III)I"⟩) ∈ lw_all := lw_g (lw_at lw_ms 24 rfl) rfl
theorem qs25 : (Cond.selects "SwallowSurvey$Web" ⟨"SwallowSurvey$Web", "sues", "(IIIII)V"⟩ ⟨"SwallowSurvey$Web", "sues", "(IIIII)V"⟩) ∈ lw_all := lw_g (lw_at lw_ms 25 rfl) rfl
theorem qs26 : (Cond.selects "SwallowSurvey$Web" ⟨"SwallowSurvey$Web", "spreads", "(LSwallowSurvey$Land;I)V"⟩ ⟨"SwallowSurvey$Web", "spreads", "(LSwallowSurvey$Land;I)V"⟩) ∈ lw_all := lw_g (lw_at lw_ms 26 rfl) rfl
theorem qs27 : (Cond.selects "SwallowSurvey" ⟨"SwallowSurvey", "sizeOf", "(I)I"⟩ ⟨"SwallowSurvey", "sizeOf", "(I)I"⟩) ∈ lw_all := lw_g (lw_at lw_ms 27 rfl) rfl
theorem qs28 : (Cond.selects "SwallowSurvey" ⟨"SwallowSurvey", "judgeAt", "(II)I"⟩ ⟨"SwallowSurvey", "judgeAt", "(II)I"⟩) ∈ lw_all := lw_g (lw_at lw_ms 28 rfl) rfl
theorem qs29 : (Cond.selects "SwallowSurvey" ⟨"SwallowSurvey", "wouldBeOne", "(LSwallowSurvey$Land;II)Z"⟩ ⟨"SwallowSurvey", "wouldBeOne", "(LSwallowSurvey$Land;II)Z"⟩) ∈ lw_all := lw_g (lw_at lw_ms 29 rfl) rfl
theorem qs30 : (Cond.selects "SwallowSurvey" ⟨"SwallowSurvey", "plans", "(IIII)V"⟩ ⟨"SwallowSurvey", "plans", "(IIII)V"⟩) ∈ lw_all := lw_g (lw_at lw_ms 30 rfl) rfl
theorem qs31 : (Cond.selects "SwallowSurvey" ⟨"SwallowSurvey", "findsOne", "(II)V"⟩ ⟨"SwallowSurvey", "findsOne", "(II)V"⟩) ∈ lw_all := lw_g (lw_at lw_ms 31 rfl) rfl
theorem qs32 : (Cond.selects "SwallowSurvey" ⟨"SwallowSurvey", "canDig", "(I)Z"⟩ ⟨"SwallowSurvey", "canDig", "(I)Z"⟩) ∈ lw_all := lw_g (lw_at lw_ms 32 rfl) rfl
theorem qs33 : (Cond.selects "SwallowSurvey" ⟨"SwallowSurvey", "findsTwo", "(II)V"⟩ ⟨"SwallowSurvey", "findsTwo", "(II)V"⟩) ∈ lw_all := lw_g (lw_at lw_ms 33 rfl) rfl
theorem qs34 : (Cond.selects "SwallowSurvey" ⟨"SwallowSurvey", "hatches", "(I)V"⟩ ⟨"SwallowSurvey", "hatches", "(I)V"⟩) ∈ lw_all := lw_g (lw_at lw_ms 34 rfl) rfl
theorem qs35 : (Cond.selects "SwallowSurvey" ⟨"SwallowSurvey", "goesWithAll", "()Z"⟩ ⟨"SwallowSurvey", "goesWithAll", "()Z"⟩) ∈ lw_all := lw_g (lw_at lw_ms 35 rfl) rfl
theorem qs36 : (Cond.selects "SwallowSurvey" ⟨"SwallowSurvey", "findsWay", "(II)Z"⟩ ⟨"SwallowSurvey", "findsWay", "(II)Z"⟩) ∈ lw_all := lw_g (lw_at lw_ms 36 rfl) rfl
theorem qs37 : (Cond.selects "SwallowSurvey" ⟨"SwallowSurvey", "threads", "()I"⟩ ⟨"SwallowSurvey", "threads", "()I"⟩) ∈ lw_all := lw_g (lw_at lw_ms 37 rfl) rfl
theorem qs38 : (Cond.selects "SwallowSurveyModel" ⟨"SwallowSurveyModel", "begins", "(II)V"⟩ ⟨"SwallowSurveyModel", "begins", "(II)V"⟩) ∈ lw_all := lw_g (lw_at lw_ms 38 rfl) rfl
theorem qs39 : (Cond.selects "SwallowSurveyModel" ⟨"SwallowSurveyModel", "clears", "()V"⟩ ⟨"SwallowSurveyModel", "clears", "()V"⟩) ∈ lw_all := lw_g (lw_at lw_ms 39 rfl) rfl
theorem qs40 : (Cond.selects "SwallowSurveyModel" ⟨"SwallowSurveyModel", "isCell", "(I)Z"⟩ ⟨"SwallowSurveyModel", "isCell", "(I)Z"⟩) ∈ lw_all := lw_g (lw_at lw_ms 40 rfl) rfl
theorem qs41 : (Cond.selects "SwallowSurveyModel" ⟨"SwallowSurveyModel", "isPlace", "(II)Z"⟩ ⟨"SwallowSurveyModel", "isPlace", "(II)Z"⟩) ∈ lw_all := lw_g (lw_at lw_ms 41 rfl) rfl
theorem qs42 : (Cond.selects "SwallowSurveyModel" ⟨"SwallowSurveyModel", "keeps", "(I)V"⟩ ⟨"SwallowSurveyModel", "keeps", "(I)V"⟩) ∈ lw_all := lw_g (lw_at lw_ms 42 rfl) rfl
theorem qs43 : (Cond.selects "SwallowSurveyModel" ⟨"SwallowSurveyModel", "isPoint", "(II)Z"⟩ ⟨"SwallowSurveyModel", "isPoint", "(II)Z"⟩) ∈ lw_all := lw_g (lw_at lw_ms 43 rfl) rfl
theorem qs44 : (Cond.selects "SwallowSurveyModel" ⟨"SwallowSurveyModel", "next0", "()V"⟩ ⟨"SwallowSurveyModel", "next0", "()V"⟩) ∈ lw_all := lw_g (lw_at lw_ms 44 rfl) rfl
theorem qs45 : (Cond.selects "SwallowSurveyModel" ⟨"SwallowSurveyModel", "see", "(I)I"⟩ ⟨"SwallowSurveyModel", "see", "(I)I"⟩) ∈ lw_all := lw_g (lw_at lw_ms 45 rfl) rfl
theorem qs46 : (Cond.selects "SwallowSurveyModel" ⟨"SwallowSurveyModel", "word", "()I"⟩ ⟨"SwallowSurveyModel", "word", "()I"⟩) ∈ lw_all := lw_g (lw_at lw_ms 46 rfl) rfl
theorem qs47 : (Cond.selects "SwallowSurveyModel" ⟨"SwallowSurveyModel", "is", "(Ljava/lang/String;)Z"⟩ ⟨"SwallowSurveyModel", "is", "(Ljava/lang/String;)Z"⟩) ∈ lw_all := lw_g (lw_at lw_ms 47 rfl) rfl
theorem qs48 : (Cond.selects "SwallowSurveyModel" ⟨"SwallowSurveyModel", "nameWord", "()I"⟩ ⟨"SwallowSurveyModel", "nameWord", "()I"⟩) ∈ lw_all := lw_g (lw_at lw_ms 48 rfl) rfl
theorem qs49 : (Cond.selects "SwallowSurveyModel" ⟨"SwallowSurveyModel", "aLine", "()Z"⟩ ⟨"SwallowSurveyModel", "aLine", "()Z"⟩) ∈ lw_all := lw_g (lw_at lw_ms 49 rfl) rfl
theorem qs50 : (Cond.selects "SwallowSurveyModel" ⟨"SwallowSurveyModel", "bad", "(I)Z"⟩ ⟨"SwallowSurveyModel", "bad", "(I)Z"⟩) ∈ lw_all := lw_g (lw_at lw_ms 50 rfl) rfl
theorem qs51 : (Cond.selects "SwallowSurveyModel" ⟨"SwallowSurveyModel", "any", "()Z"⟩ ⟨"SwallowSurveyModel", "any", "()Z"⟩) ∈ lw_all := lw_g (lw_at lw_ms 51 rfl) rfl
theorem qs52 : (Cond.selects "SwallowSurveyModel" ⟨"SwallowSurveyModel", "every", "()Z"⟩ ⟨"SwallowSurveyModel", "every", "()Z"⟩) ∈ lw_all := lw_g (lw_at lw_ms 52 rfl) rfl
theorem qs53 : (Cond.selects "SwallowSurveyModel" ⟨"SwallowSurveyModel", "oneTest", "()Z"⟩ ⟨"SwallowSurveyModel", "oneTest", "()Z"⟩) ∈ lw_all := lw_g (lw_at lw_ms 53 rfl) rfl
theorem qs54 : (Cond.selects "SwallowSurveyModel" ⟨"SwallowSurveyModel", "opens", "()Z"⟩ ⟨"SwallowSurveyModel", "opens", "()Z"⟩) ∈ lw_all := lw_g (lw_at lw_ms 54 rfl) rfl
theorem qs55 : (Cond.selects "SwallowSurveyModel" ⟨"SwallowSurveyModel", "lay", "(II)V"⟩ ⟨"SwallowSurveyModel", "lay", "(II)V"⟩) ∈ lw_all := lw_g (lw_at lw_ms 55 rfl) rfl
theorem qs56 : (Cond.selects "SwallowSurveyModel" ⟨"SwallowSurveyModel", "need", "(I)Z"⟩ ⟨"SwallowSurveyModel", "need", "(I)Z"⟩) ∈ lw_all := lw_g (lw_at lw_ms 56 rfl) rfl
theorem qs57 : (Cond.selects "SwallowSurveyModel" ⟨"SwallowSurveyModel", "sumUp", "()Z"⟩ ⟨"SwallowSurveyModel", "sumUp", "()Z"⟩) ∈ lw_all := lw_g (lw_at lw_ms 57 rfl) rfl
theorem qs58 : (Cond.selects "SwallowSurveyModel" ⟨"SwallowSurveyModel", "product", "()Z"⟩ ⟨"SwallowSurveyModel", "product", "()Z"⟩) ∈ lw_all := lw_g (lw_at lw_ms 58 rfl) rfl
theorem qs59 : (Cond.selects "SwallowSurveyModel" ⟨"SwallowSurveyModel", "unit", "()Z"⟩ ⟨"SwallowSurveyModel", "unit", "()Z"⟩) ∈ lw_all := lw_g (lw_at lw_ms 59 rfl) rfl
theorem qs60 : (Cond.selects "SwallowSurveyModel" ⟨"SwallowSurveyModel", "allFly", "()V"⟩ ⟨"SwallowSurveyModel", "allFly", "()V"⟩) ∈ lw_all := lw_g (lw_at lw_ms 60 rfl) rfl
theorem qs61 : (Cond.selects "SwallowSurveyModel" ⟨"SwallowSurveyModel", "flies", "(I)V"⟩ ⟨"SwallowSurveyModel", "flies", "(I)V"⟩) ∈ lw_all := lw_g (lw_at lw_ms 61 rfl) rfl
theorem qs62 : (Cond.selects "SwallowSurveyModel" ⟨"SwallowSurveyModel", "laysFacts", "(III)V"⟩ ⟨"SwallowSurveyModel", "laysFacts", "(III)V"⟩) ∈ lw_all := lw_g (lw_at lw_ms 62 rfl) rfl
theorem qs63 : (Cond.selects "SwallowSurveyModel" ⟨"SwallowSurveyModel", "seenFlies", "(II)I"⟩ ⟨"SwallowSurveyModel", "seenFlies", "(II)I"⟩) ∈ lw_all := lw_g (lw_at lw_ms 63 rfl) rfl
theorem qs64 : (Cond.selects "SwallowSurveyModel" ⟨"SwallowSurveyModel", "pondAt", "(II)I"⟩ ⟨"SwallowSurveyModel", "pondAt", "(II)I"⟩) ∈ lw_all := lw_g (lw_at lw_ms 64 rfl) rfl
theorem qs65 : (Cond.selects "SwallowSurveyModel" ⟨"SwallowSurveyModel", "told", "(I)I"⟩ ⟨"SwallowSurveyModel", "told", "(I)I"⟩) ∈ lw_all := lw_g (lw_at lw_ms 65 rfl) rfl
theorem qs66 : (Cond.selects "SwallowSurveyModel" ⟨"SwallowSurveyModel", "comesTo", "(III)I"⟩ ⟨"SwallowSurveyModel", "comesTo", "(III)I"⟩) ∈ lw_all := lw_g (lw_at lw_ms 66 rfl) rfl
theorem qs67 : (Cond.selects "SwallowSurveyModel" ⟨"SwallowSurveyModel", "otherAt", "(III)I"⟩ ⟨"SwallowSurveyModel", "otherAt", "(III)I"⟩) ∈ lw_all := lw_g (lw_at lw_ms 67 rfl) rfl
theorem qs68 : (Cond.selects "SwallowSurveyModel" ⟨"SwallowSurveyModel", "sues", "(IIIII)V"⟩ ⟨"SwallowSurveyModel", "sues", "(IIIII)V"⟩) ∈ lw_all := lw_g (lw_at lw_ms 68 rfl) rfl
theorem qs69 : (Cond.selects "SwallowSurveyModel" ⟨"SwallowSurveyModel", "hasCat", "(II)Z"⟩ ⟨"SwallowSurveyModel", "hasCat", "(II)Z"⟩) ∈ lw_all := lw_g (lw_at lw_ms 69 rfl) rfl
theorem qs70 : (Cond.selects "SwallowSurveyModel" ⟨"SwallowSurveyModel", "laysCounties", "()V"⟩ ⟨"SwallowSurveyModel", "laysCounties", "()V"⟩) ∈ lw_all := lw_g (lw_at lw_ms 70 rfl) rfl
theorem qs71 : (Cond.selects "SwallowSurveyModel" ⟨"SwallowSurveyModel", "spreads", "(I)V"⟩ ⟨"SwallowSurveyModel", "spreads", "(I)V"⟩) ∈ lw_all := lw_g (lw_at lw_ms 71 rfl) rfl
theorem qs72 : (Cond.selects "SwallowSurveyModel" ⟨"SwallowSurveyModel", "isOpen", "(III)Z"⟩ ⟨"SwallowSurveyModel", "isOpen", "(III)Z"⟩) ∈ lw_all := lw_g (lw_at lw_ms 72 rfl) rfl
theorem qs73 : (Cond.selects "SwallowSurveyModel" ⟨"SwallowSurveyModel", "draw", "(I)I"⟩ ⟨"SwallowSurveyModel", "draw", "(I)I"⟩) ∈ lw_all := lw_g (lw_at lw_ms 73 rfl) rfl
theorem qs74 : (Cond.selects "SwallowSurveyModel" ⟨"SwallowSurveyModel", "setsOut", "()V"⟩ ⟨"SwallowSurveyModel", "setsOut", "()V"⟩) ∈ lw_all := lw_g (lw_at lw_ms 74 rfl) rfl
theorem qs75 : (Cond.selects "SwallowSurveyModel" ⟨"SwallowSurveyModel", "comesBack", "()V"⟩ ⟨"SwallowSurveyModel", "comesBack", "()V"⟩) ∈ lw_all := lw_g (lw_at lw_ms 75 rfl) rfl
theorem qs76 : (Cond.selects "SwallowSurveyModel" ⟨"SwallowSurveyModel", "triesPonds", "(IIII)V"⟩ ⟨"SwallowSurveyModel", "triesPonds", "(IIII)V"⟩) ∈ lw_all := lw_g (lw_at lw_ms 76 rfl) rfl
theorem qs77 : (Cond.selects "SwallowSurveyModel" ⟨"SwallowSurveyModel", "isFree", "(I)Z"⟩ ⟨"SwallowSurveyModel", "isFree", "(I)Z"⟩) ∈ lw_all := lw_g (lw_at lw_ms 77 rfl) rfl
theorem qs78 : (Cond.selects "SwallowSurveyModel" ⟨"SwallowSurveyModel", "hatches", "(I)V"⟩ ⟨"SwallowSurveyModel", "hatches", "(I)V"⟩) ∈ lw_all := lw_g (lw_at lw_ms 78 rfl) rfl
theorem qs79 : (Cond.selects "SwallowSurveyModel" ⟨"SwallowSurveyModel", "oneMore", "(II)Z"⟩ ⟨"SwallowSurveyModel", "oneMore", "(II)Z"⟩) ∈ lw_all := lw_g (lw_at lw_ms 79 rfl) rfl
theorem qs80 : (Cond.selects "SwallowSurveyModel" ⟨"SwallowSurveyModel", "threads", "()I"⟩ ⟨"SwallowSurveyModel", "threads", "()I"⟩) ∈ lw_all := lw_g (lw_at lw_ms 80 rfl) rfl
