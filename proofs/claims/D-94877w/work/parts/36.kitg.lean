/-! ===== the string constants, the statics (printed by tools/genconst.py) ===== -/
theorem sOm.out {Ω : OmT} : ∀ a : Nat, a < (oS Ω).heap.size → ¬ sFr Ω a := fun a ha hq => Nat.not_lt.mpr hq ha
theorem nw_at {Ω : OmT} (h : sOm Ω) {c : Cond} (i : Nat) (e : (nwL narrow_1)[i]? = some c) : c.before #[.ref (oB Ω)] (oS Ω) = true := by
  refine nwL_all narrow_1 ?_ c (List.mem_of_getElem? e)
  have := h.2.2.1
  rw [Cond.before_and, Bool.and_eq_true] at this
  exact this.2
theorem st_X0_15 {Ω : OmT} (h : sOm Ω) : ∃ a v, vk_R "SwallowSurvey" 15 "ahead" a (oS Ω) ∧ sSt Ω a v [97, 104, 101, 97, 100] := sStr_of h [97, 104, 101, 97, 100] q116 92 (by decide +kernel) (by decide +kernel)
theorem st_X0_17 {Ω : OmT} (h : sOm Ω) : ∃ a v, vk_R "SwallowSurvey" 17 "right" a (oS Ω) ∧ sSt Ω a v [114, 105, 103, 104, 116] := sStr_of h [114, 105, 103, 104, 116] q117 101 (by decide +kernel) (by decide +kernel)
theorem st_X0_19 {Ω : OmT} (h : sOm Ω) : ∃ a v, vk_R "SwallowSurvey" 19 "back" a (oS Ω) ∧ sSt Ω a v [98, 97, 99, 107] := sStr_of h [98, 97, 99, 107] q118 110 (by decide +kernel) (by decide +kernel)
theorem st_X0_21 {Ω : OmT} (h : sOm Ω) : ∃ a v, vk_R "SwallowSurvey" 21 "left" a (oS Ω) ∧ sSt Ω a v [108, 101, 102, 116] := sStr_of h [108, 101, 102, 116] q119 118 (by decide +kernel) (by decide +kernel)
theorem st_X0_23 {Ω : OmT} (h : sOm Ω) : ∃ a v, vk_R "SwallowSurvey" 23 "stop" a (oS Ω) ∧ sSt Ω a v [115, 116, 111, 112] := sStr_of h [115, 116, 111, 112] q120 126 (by decide +kernel) (by decide +kernel)
theorem st_X0_29 {Ω : OmT} (h : sOm Ω) : ∃ a v, vk_R "SwallowSurvey" 29 "fl" a (oS Ω) ∧ sSt Ω a v [102, 108] := sStr_of h [102, 108] q121 134 (by decide +kernel) (by decide +kernel)
theorem st_X0_31 {Ω : OmT} (h : sOm Ω) : ∃ a v, vk_R "SwallowSurvey" 31 "fr" a (oS Ω) ∧ sSt Ω a v [102, 114] := sStr_of h [102, 114] q122 140 (by decide +kernel) (by decide +kernel)
theorem st_X0_33 {Ω : OmT} (h : sOm Ω) : ∃ a v, vk_R "SwallowSurvey" 33 "pl" a (oS Ω) ∧ sSt Ω a v [112, 108] := sStr_of h [112, 108] q123 146 (by decide +kernel) (by decide +kernel)
theorem st_X0_35 {Ω : OmT} (h : sOm Ω) : ∃ a v, vk_R "SwallowSurvey" 35 "pr" a (oS Ω) ∧ sSt Ω a v [112, 114] := sStr_of h [112, 114] q124 152 (by decide +kernel) (by decide +kernel)
theorem st_X0_37 {Ω : OmT} (h : sOm Ω) : ∃ a v, vk_R "SwallowSurvey" 37 "thread" a (oS Ω) ∧ sSt Ω a v [116, 104, 114, 101, 97, 100] := sStr_of h [116, 104, 114, 101, 97, 100] q125 158 (by decide +kernel) (by decide +kernel)
theorem st_X0_39 {Ω : OmT} (h : sOm Ω) : ∃ a v, vk_R "SwallowSurvey" 39 "rim" a (oS Ω) ∧ sSt Ω a v [114, 105, 109] := sStr_of h [114, 105, 109] q126 168 (by decide +kernel) (by decide +kernel)
theorem st_X0_41 {Ω : OmT} (h : sOm Ω) : ∃ a v, vk_R "SwallowSurvey" 41 "step" a (oS Ω) ∧ sSt Ω a v [115, 116, 101, 112] := sStr_of h [115, 116, 101, 112] q127 175 (by decide +kernel) (by decide +kernel)
theorem st_X0_43 {Ω : OmT} (h : sOm Ω) : ∃ a v, vk_R "SwallowSurvey" 43 "rest" a (oS Ω) ∧ sSt Ω a v [114, 101, 115, 116] := sStr_of h [114, 101, 115, 116] q128 183 (by decide +kernel) (by decide +kernel)
theorem st_X0_45 {Ω : OmT} (h : sOm Ω) : ∃ a v, vk_R "SwallowSurvey" 45 "swallow" a (oS Ω) ∧ sSt Ω a v [115, 119, 97, 108, 108, 111, 119] := sStr_of h [115, 119, 97, 108, 108, 111, 119] q129 191 (by decide +kernel) (by decide +kernel)
theorem st_X0_50 {Ω : OmT} (h : sOm Ω) : ∃ a v, vk_R "SwallowSurvey" 50 "when" a (oS Ω) ∧ sSt Ω a v [119, 104, 101, 110] := sStr_of h [119, 104, 101, 110] q130 202 (by decide +kernel) (by decide +kernel)
theorem st_X0_52 {Ω : OmT} (h : sOm Ω) : ∃ a v, vk_R "SwallowSurvey" 52 "or" a (oS Ω) ∧ sSt Ω a v [111, 114] := sStr_of h [111, 114] q131 210 (by decide +kernel) (by decide +kernel)
theorem st_X0_54 {Ω : OmT} (h : sOm Ω) : ∃ a v, vk_R "SwallowSurvey" 54 "and" a (oS Ω) ∧ sSt Ω a v [97, 110, 100] := sStr_of h [97, 110, 100] q132 216 (by decide +kernel) (by decide +kernel)
theorem st_X0_56 {Ω : OmT} (h : sOm Ω) : ∃ a v, vk_R "SwallowSurvey" 56 "not" a (oS Ω) ∧ sSt Ω a v [110, 111, 116] := sStr_of h [110, 111, 116] q133 223 (by decide +kernel) (by decide +kernel)
theorem st_X0_196 {Ω : OmT} (h : sOm Ω) : ∃ a v, vk_R "SwallowSurvey" 196 ";+-*/()<=>" a (oS Ω) ∧ sSt Ω a v [59, 43, 45, 42, 47, 40, 41, 60, 61, 62] := sStr_of h [59, 43, 45, 42, 47, 40, 41, 60, 61, 62] q531 230 (by decide +kernel) (by decide +kernel)
theorem st_X4_137 {Ω : OmT} (h : sOm Ω) : ∃ a v, vk_R "SwallowSurveyModel" 137 "when" a (oS Ω) ∧ sSt Ω a v [119, 104, 101, 110] := sStr_of h [119, 104, 101, 110] q1285 244 (by decide +kernel) (by decide +kernel)
theorem st_X4_139 {Ω : OmT} (h : sOm Ω) : ∃ a v, vk_R "SwallowSurveyModel" 139 "or" a (oS Ω) ∧ sSt Ω a v [111, 114] := sStr_of h [111, 114] q1292 253 (by decide +kernel) (by decide +kernel)
theorem st_X4_141 {Ω : OmT} (h : sOm Ω) : ∃ a v, vk_R "SwallowSurveyModel" 141 "and" a (oS Ω) ∧ sSt Ω a v [97, 110, 100] := sStr_of h [97, 110, 100] q1293 260 (by decide +kernel) (by decide +kernel)
theorem st_X4_143 {Ω : OmT} (h : sOm Ω) : ∃ a v, vk_R "SwallowSurveyModel" 143 "not" a (oS Ω) ∧ sSt Ω a v [110, 111, 116] := sStr_of h [110, 111, 116] q1294 268 (by decide +kernel) (by decide +kernel)
theorem st_X4_145 {Ω : OmT} (h : sOm Ω) : ∃ a v, vk_R "SwallowSurveyModel" 145 "ahead" a (oS Ω) ∧ sSt Ω a v [97, 104, 101, 97, 100] := sStr_of h [97, 104, 101, 97, 100] q1295 276 (by decide +kernel) (by decide +kernel)
theorem st_X4_147 {Ω : OmT} (h : sOm Ω) : ∃ a v, vk_R "SwallowSurveyModel" 147 "left" a (oS Ω) ∧ sSt Ω a v [108, 101, 102, 116] := sStr_of h [108, 101, 102, 116] q1296 286 (by decide +kernel) (by decide +kernel)
theorem st_X4_149 {Ω : OmT} (h : sOm Ω) : ∃ a v, vk_R "SwallowSurveyModel" 149 "right" a (oS Ω) ∧ sSt Ω a v [114, 105, 103, 104, 116] := sStr_of h [114, 105, 103, 104, 116] q1297 295 (by decide +kernel) (by decide +kernel)
theorem st_X4_151 {Ω : OmT} (h : sOm Ω) : ∃ a v, vk_R "SwallowSurveyModel" 151 "back" a (oS Ω) ∧ sSt Ω a v [98, 97, 99, 107] := sStr_of h [98, 97, 99, 107] q1298 305 (by decide +kernel) (by decide +kernel)
theorem st_X4_152 {Ω : OmT} (h : sOm Ω) : ∃ a v, vk_R "SwallowSurveyModel" 152 "stop" a (oS Ω) ∧ sSt Ω a v [115, 116, 111, 112] := sStr_of h [115, 116, 111, 112] q1299 314 (by decide +kernel) (by decide +kernel)
theorem st_X4_115 {Ω : OmT} (h : sOm Ω) : ∃ a v, vk_R "SwallowSurveyModel" 115 "fl" a (oS Ω) ∧ sSt Ω a v [102, 108] := sStr_of h [102, 108] q1304 323 (by decide +kernel) (by decide +kernel)
theorem st_X4_121 {Ω : OmT} (h : sOm Ω) : ∃ a v, vk_R "SwallowSurveyModel" 121 "fr" a (oS Ω) ∧ sSt Ω a v [102, 114] := sStr_of h [102, 114] q1305 330 (by decide +kernel) (by decide +kernel)
theorem st_X4_123 {Ω : OmT} (h : sOm Ω) : ∃ a v, vk_R "SwallowSurveyModel" 123 "pl" a (oS Ω) ∧ sSt Ω a v [112, 108] := sStr_of h [112, 108] q1306 337 (by decide +kernel) (by decide +kernel)
theorem st_X4_125 {Ω : OmT} (h : sOm Ω) : ∃ a v, vk_R "SwallowSurveyModel" 125 "pr" a (oS Ω) ∧ sSt Ω a v [112, 114] := sStr_of h [112, 114] q1307 344 (by decide +kernel) (by decide +kernel)
theorem st_X4_127 {Ω : OmT} (h : sOm Ω) : ∃ a v, vk_R "SwallowSurveyModel" 127 "thread" a (oS Ω) ∧ sSt Ω a v [116, 104, 114, 101, 97, 100] := sStr_of h [116, 104, 114, 101, 97, 100] q1308 351 (by decide +kernel) (by decide +kernel)
theorem st_X4_129 {Ω : OmT} (h : sOm Ω) : ∃ a v, vk_R "SwallowSurveyModel" 129 "rim" a (oS Ω) ∧ sSt Ω a v [114, 105, 109] := sStr_of h [114, 105, 109] q1309 362 (by decide +kernel) (by decide +kernel)
theorem st_X4_131 {Ω : OmT} (h : sOm Ω) : ∃ a v, vk_R "SwallowSurveyModel" 131 "step" a (oS Ω) ∧ sSt Ω a v [115, 116, 101, 112] := sStr_of h [115, 116, 101, 112] q1310 370 (by decide +kernel) (by decide +kernel)
theorem st_X4_133 {Ω : OmT} (h : sOm Ω) : ∃ a v, vk_R "SwallowSurveyModel" 133 "rest" a (oS Ω) ∧ sSt Ω a v [114, 101, 115, 116] := sStr_of h [114, 101, 115, 116] q1311 379 (by decide +kernel) (by decide +kernel)
theorem st_X4_135 {Ω : OmT} (h : sOm Ω) : ∃ a v, vk_R "SwallowSurveyModel" 135 "swallow" a (oS Ω) ∧ sSt Ω a v [115, 119, 97, 108, 108, 111, 119] := sStr_of h [115, 119, 97, 108, 108, 111, 119] q1312 388 (by decide +kernel) (by decide +kernel)
theorem kz_compact {Ω : OmT} (h : sOm Ω) : va_Z "java/lang/String" "COMPACT_STRINGS" "Z" (vI 1) (sFr Ω) (oS Ω) (oS Ω).heap := va_Zof (args := #[.ref (oB Ω)]) (h.2.1 _ q483) (h.2.1 _ (lw_all_tbl q92)) (va_eqt (nw_at h 11 rfl)) sOm.out
theorem kz_q {Ω : OmT} {C n d : String} (h : va_Zq C n d (sFr Ω) (oS Ω) (oS Ω).heap) : ∃ o : Option Nat, va_Z C n d (va_rf o) (sFr Ω) (oS Ω) (oS Ω).heap := by
  rcases h with h | ⟨t, h⟩
  · exact ⟨none, h⟩
  · exact ⟨some t, h⟩
theorem kz_sioobe {Ω : OmT} (h : sOm Ω) : ∃ o : Option Nat, va_Z "jdk/internal/util/Preconditions" "SIOOBE_FORMATTER" "Ljava/util/function/BiFunction;" (va_rf o) (sFr Ω) (oS Ω) (oS Ω).heap := kz_q (va_Zqof (args := #[.ref (oB Ω)]) (h.2.1 _ q499) (h.2.1 _ (lw_all_tbl q94)) (nw_at h 12 rfl) sOm.out)
theorem kz_unas {Ω : OmT} (h : sOm Ω) : ∃ o : Option Nat, va_Z "java/lang/Throwable" "UNASSIGNED_STACK" "[Ljava/lang/StackTraceElement;" (va_rf o) (sFr Ω) (oS Ω) (oS Ω).heap := kz_q (va_Zqof (args := #[.ref (oB Ω)]) (h.2.1 _ q619) (h.2.1 _ (lw_all_tbl q98)) (nw_at h 27 rfl) sOm.out)
theorem kz_supp {Ω : OmT} (h : sOm Ω) : ∃ o : Option Nat, va_Z "java/lang/Throwable" "SUPPRESSED_SENTINEL" "Ljava/util/List;" (va_rf o) (sFr Ω) (oS Ω) (oS Ω).heap := kz_q (va_Zqof (args := #[.ref (oB Ω)]) (h.2.1 _ q621) (h.2.1 _ (lw_all_tbl q98)) (nw_at h 28 rfl) sOm.out)
theorem kz_EAST {Ω : OmT} (h : sOm Ω) : ∃ a : Nat, va_Z "SwallowSurvey" "EAST" "[I" (.ref a) (sFr Ω) (oS Ω) (oS Ω).heap ∧ va_T .int a 4 (fun j => vI (([0, 1, 0, -1] : List Int).getD j 0)) (sFr Ω) (oS Ω) (oS Ω).heap := by
  obtain ⟨t, ht, hT⟩ := va_Tof (args := #[.ref (oB Ω)]) (s := oS Ω) (tm := .static "SwallowSurvey" "EAST" "[I") (ty := .int) (N := 4) (f := fun j => vI (([0, 1, 0, -1] : List Int).getD j 0)) (A := sFr Ω) (by decide) (nw_at h 30 rfl) (va_eqt (nw_at h 31 rfl)) (fun j hj => by
    have : j = 0 ∨ j = 1 ∨ j = 2 ∨ j = 3 := by omega
    rcases this with rfl | rfl | rfl | rfl
    · exact va_eqt (nw_at h 32 rfl)
    · exact va_eqt (nw_at h 33 rfl)
    · exact va_eqt (nw_at h 34 rfl)
    · exact va_eqt (nw_at h 35 rfl)) sOm.out
  exact ⟨t, va_Zof (args := #[.ref (oB Ω)]) (h.2.1 _ q858) (h.2.1 _ (lw_all_tbl q82)) ht sOm.out, hT⟩
theorem kz_SOUTH {Ω : OmT} (h : sOm Ω) : ∃ a : Nat, va_Z "SwallowSurvey" "SOUTH" "[I" (.ref a) (sFr Ω) (oS Ω) (oS Ω).heap ∧ va_T .int a 4 (fun j => vI (([-1, 0, 1, 0] : List Int).getD j 0)) (sFr Ω) (oS Ω) (oS Ω).heap := by
  obtain ⟨t, ht, hT⟩ := va_Tof (args := #[.ref (oB Ω)]) (s := oS Ω) (tm := .static "SwallowSurvey" "SOUTH" "[I") (ty := .int) (N := 4) (f := fun j => vI (([-1, 0, 1, 0] : List Int).getD j 0)) (A := sFr Ω) (by decide) (nw_at h 37 rfl) (va_eqt (nw_at h 38 rfl)) (fun j hj => by
    have : j = 0 ∨ j = 1 ∨ j = 2 ∨ j = 3 := by omega
    rcases this with rfl | rfl | rfl | rfl
    · exact va_eqt (nw_at h 39 rfl)
    · exact va_eqt (nw_at h 40 rfl)
    · exact va_eqt (nw_at h 41 rfl)
    · exact va_eqt (nw_at h 42 rfl)) sOm.out
  exact ⟨t, va_Zof (args := #[.ref (oB Ω)]) (h.2.1 _ q860) (h.2.1 _ (lw_all_tbl q82)) ht sOm.out, hT⟩
/-- the five tokens' objects, apart -/
def tkOK (Ω : OmT) (tk : Nat → Nat) : Prop := va_Z "SwallowSurvey$Token" "END" "LSwallowSurvey$Token;" (.ref (tk 0)) (sFr Ω) (oS Ω) (oS Ω).heap ∧ va_Z "SwallowSurvey$Token" "NONE" "LSwallowSurvey$Token;" (.ref (tk 1)) (sFr Ω) (oS Ω) (oS Ω).heap ∧ va_Z "SwallowSurvey$Token" "WORD" "LSwallowSurvey$Token;" (.ref (tk 2)) (sFr Ω) (oS Ω) (oS Ω).heap ∧ va_Z "SwallowSurvey$Token" "NUMBER" "LSwallowSurvey$Token;" (.ref (tk 3)) (sFr Ω) (oS Ω) (oS Ω).heap ∧ va_Z "SwallowSurvey$Token" "SIGN" "LSwallowSurvey$Token;" (.ref (tk 4)) (sFr Ω) (oS Ω) (oS Ω).heap ∧ ∀ i j, i < 5 → j < 5 → tk i = tk j → i = j
theorem kz_tok {Ω : OmT} (h : sOm Ω) : ∃ tk, tkOK Ω tk := by
  obtain ⟨t0, _, _, _, e0, -⟩ := Cond.exactly_spec (args := #[.ref (oB Ω)]) (first := oS Ω) (o := none) (s := oS Ω) (idx := []) (nw_at h 2 rfl)
  obtain ⟨t1, _, _, _, e1, -⟩ := Cond.exactly_spec (args := #[.ref (oB Ω)]) (first := oS Ω) (o := none) (s := oS Ω) (idx := []) (nw_at h 4 rfl)
  obtain ⟨t2, _, _, _, e2, -⟩ := Cond.exactly_spec (args := #[.ref (oB Ω)]) (first := oS Ω) (o := none) (s := oS Ω) (idx := []) (nw_at h 7 rfl)
  obtain ⟨t3, _, _, _, e3, -⟩ := Cond.exactly_spec (args := #[.ref (oB Ω)]) (first := oS Ω) (o := none) (s := oS Ω) (idx := []) (nw_at h 16 rfl)
  obtain ⟨t4, _, _, _, e4, -⟩ := Cond.exactly_spec (args := #[.ref (oB Ω)]) (first := oS Ω) (o := none) (s := oS Ω) (idx := []) (nw_at h 21 rfl)
  refine ⟨fun i => if i = 0 then t0 else if i = 1 then t1 else if i = 2 then t2 else if i = 3 then t3 else t4, va_Zof (args := #[.ref (oB Ω)]) (h.2.1 _ q458) (h.2.1 _ (lw_all_tbl q91)) e0 sOm.out, va_Zof (args := #[.ref (oB Ω)]) (h.2.1 _ q460) (h.2.1 _ (lw_all_tbl q91)) e1 sOm.out, va_Zof (args := #[.ref (oB Ω)]) (h.2.1 _ q465) (h.2.1 _ (lw_all_tbl q91)) e2 sOm.out, va_Zof (args := #[.ref (oB Ω)]) (h.2.1 _ q530) (h.2.1 _ (lw_all_tbl q91)) e3 sOm.out, va_Zof (args := #[.ref (oB Ω)]) (h.2.1 _ q590) (h.2.1 _ (lw_all_tbl q91)) e4 sOm.out, ?_⟩
  have n01 : t0 ≠ t1 := va_neR (nw_at h 6 rfl) e0 e1
  have n02 : t0 ≠ t2 := va_neR (nw_at h 9 rfl) e0 e2
  have n12 : t1 ≠ t2 := va_neR (nw_at h 10 rfl) e1 e2
  have n03 : t0 ≠ t3 := va_neR (nw_at h 18 rfl) e0 e3
  have n13 : t1 ≠ t3 := va_neR (nw_at h 19 rfl) e1 e3
  have n23 : t2 ≠ t3 := va_neR (nw_at h 20 rfl) e2 e3
  have n04 : t0 ≠ t4 := va_neR (nw_at h 23 rfl) e0 e4
  have n14 : t1 ≠ t4 := va_neR (nw_at h 24 rfl) e1 e4
  have n24 : t2 ≠ t4 := va_neR (nw_at h 25 rfl) e2 e4
  have n34 : t3 ≠ t4 := va_neR (nw_at h 26 rfl) e3 e4
  intro i j hi hj e
  have ci : i = 0 ∨ i = 1 ∨ i = 2 ∨ i = 3 ∨ i = 4 := by omega
  have cj : j = 0 ∨ j = 1 ∨ j = 2 ∨ j = 3 ∨ j = 4 := by omega
  rcases ci with rfl | rfl | rfl | rfl | rfl <;> rcases cj with rfl | rfl | rfl | rfl | rfl <;> first | rfl | (exfalso; first | exact n01 e | exact n02 e | exact n03 e | exact n04 e | exact n12 e | exact n13 e | exact n14 e | exact n23 e | exact n24 e | exact n34 e | exact n01 e.symm | exact n02 e.symm | exact n03 e.symm | exact n04 e.symm | exact n12 e.symm | exact n13 e.symm | exact n14 e.symm | exact n23 e.symm | exact n24 e.symm | exact n34 e.symm)
