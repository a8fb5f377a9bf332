/-! ===== the twin's object: its arrays stand behind it (printed by tools/genmok.py) ===== -/
def mArr : List (Int × Nat × Nat) := [(0, 1, 5480), (1, 2, 5480), (2, 3, 1340), (3, 4, 20), (7, 5, 48), (8, 6, 820), (9, 7, 400), (10, 8, 420), (11, 9, 10), (24, 10, 8), (25, 11, 8), (26, 12, 8), (27, 13, 8), (28, 14, 100), (29, 15, 100), (35, 16, 400), (36, 17, 100)]
def MOk (Ω : OmT) (n : Nat) (K : KT) (R : RT) (m : Nat) : Prop := sBs Ω ≤ m ∧ m + 18 ≤ n ∧ (K m).1 = 14 ∧ ∀ q ∈ mArr, R m q.1 = some (m + q.2.1) ∧ K (m + q.2.1) = (0, q.2.2)
section MOKS
variable {Ω : OmT} {n : Nat} {K : KT} {R : RT} {m : Nat}
theorem MOk.ob (h : MOk Ω n K R m) : sOb Ω n K m 4 := ⟨h.1, by have := h.2.1; omega, h.2.2.1⟩
theorem MOk.r_w (h : MOk Ω n K R m) : R m 0 = some (m + 1) := (h.2.2.2 (0, 1, 5480) (List.mem_of_getElem? (i := 0) rfl)).1
theorem MOk.k_w (h : MOk Ω n K R m) : sAr Ω n K (m + 1) 0 5480 := ⟨by have := h.1; omega, by have := h.2.1; omega, (h.2.2.2 (0, 1, 5480) (List.mem_of_getElem? (i := 0) rfl)).2⟩
theorem MOk.r_kept (h : MOk Ω n K R m) : R m 1 = some (m + 2) := (h.2.2.2 (1, 2, 5480) (List.mem_of_getElem? (i := 1) rfl)).1
theorem MOk.k_kept (h : MOk Ω n K R m) : sAr Ω n K (m + 2) 0 5480 := ⟨by have := h.1; omega, by have := h.2.1; omega, (h.2.2.2 (1, 2, 5480) (List.mem_of_getElem? (i := 1) rfl)).2⟩
theorem MOk.r_before (h : MOk Ω n K R m) : R m 2 = some (m + 3) := (h.2.2.2 (2, 3, 1340) (List.mem_of_getElem? (i := 2) rfl)).1
theorem MOk.k_before (h : MOk Ω n K R m) : sAr Ω n K (m + 3) 0 1340 := ⟨by have := h.1; omega, by have := h.2.1; omega, (h.2.2.2 (2, 3, 1340) (List.mem_of_getElem? (i := 2) rfl)).2⟩
theorem MOk.r_back (h : MOk Ω n K R m) : R m 3 = some (m + 4) := (h.2.2.2 (3, 4, 20) (List.mem_of_getElem? (i := 3) rfl)).1
theorem MOk.k_back (h : MOk Ω n K R m) : sAr Ω n K (m + 4) 0 20 := ⟨by have := h.1; omega, by have := h.2.1; omega, (h.2.2.2 (3, 4, 20) (List.mem_of_getElem? (i := 3) rfl)).2⟩
theorem MOk.r_freshLine (h : MOk Ω n K R m) : R m 7 = some (m + 5) := (h.2.2.2 (7, 5, 48) (List.mem_of_getElem? (i := 4) rfl)).1
theorem MOk.k_freshLine (h : MOk Ω n K R m) : sAr Ω n K (m + 5) 0 48 := ⟨by have := h.1; omega, by have := h.2.1; omega, (h.2.2.2 (7, 5, 48) (List.mem_of_getElem? (i := 4) rfl)).2⟩
theorem MOk.r_freshStep (h : MOk Ω n K R m) : R m 8 = some (m + 6) := (h.2.2.2 (8, 6, 820) (List.mem_of_getElem? (i := 5) rfl)).1
theorem MOk.k_freshStep (h : MOk Ω n K R m) : sAr Ω n K (m + 6) 0 820 := ⟨by have := h.1; omega, by have := h.2.1; omega, (h.2.2.2 (8, 6, 820) (List.mem_of_getElem? (i := 5) rfl)).2⟩
theorem MOk.r_tape (h : MOk Ω n K R m) : R m 9 = some (m + 7) := (h.2.2.2 (9, 7, 400) (List.mem_of_getElem? (i := 6) rfl)).1
theorem MOk.k_tape (h : MOk Ω n K R m) : sAr Ω n K (m + 7) 0 400 := ⟨by have := h.1; omega, by have := h.2.1; omega, (h.2.2.2 (9, 7, 400) (List.mem_of_getElem? (i := 6) rfl)).2⟩
theorem MOk.r_pile (h : MOk Ω n K R m) : R m 10 = some (m + 8) := (h.2.2.2 (10, 8, 420) (List.mem_of_getElem? (i := 7) rfl)).1
theorem MOk.k_pile (h : MOk Ω n K R m) : sAr Ω n K (m + 8) 0 420 := ⟨by have := h.1; omega, by have := h.2.1; omega, (h.2.2.2 (10, 8, 420) (List.mem_of_getElem? (i := 7) rfl)).2⟩
theorem MOk.r_facts (h : MOk Ω n K R m) : R m 11 = some (m + 9) := (h.2.2.2 (11, 9, 10) (List.mem_of_getElem? (i := 8) rfl)).1
theorem MOk.k_facts (h : MOk Ω n K R m) : sAr Ω n K (m + 9) 0 10 := ⟨by have := h.1; omega, by have := h.2.1; omega, (h.2.2.2 (11, 9, 10) (List.mem_of_getElem? (i := 8) rfl)).2⟩
theorem MOk.r_endX (h : MOk Ω n K R m) : R m 24 = some (m + 10) := (h.2.2.2 (24, 10, 8) (List.mem_of_getElem? (i := 9) rfl)).1
theorem MOk.k_endX (h : MOk Ω n K R m) : sAr Ω n K (m + 10) 0 8 := ⟨by have := h.1; omega, by have := h.2.1; omega, (h.2.2.2 (24, 10, 8) (List.mem_of_getElem? (i := 9) rfl)).2⟩
theorem MOk.r_endY (h : MOk Ω n K R m) : R m 25 = some (m + 11) := (h.2.2.2 (25, 11, 8) (List.mem_of_getElem? (i := 10) rfl)).1
theorem MOk.k_endY (h : MOk Ω n K R m) : sAr Ω n K (m + 11) 0 8 := ⟨by have := h.1; omega, by have := h.2.1; omega, (h.2.2.2 (25, 11, 8) (List.mem_of_getElem? (i := 10) rfl)).2⟩
theorem MOk.r_endSteps (h : MOk Ω n K R m) : R m 26 = some (m + 12) := (h.2.2.2 (26, 12, 8) (List.mem_of_getElem? (i := 11) rfl)).1
theorem MOk.k_endSteps (h : MOk Ω n K R m) : sAr Ω n K (m + 12) 0 8 := ⟨by have := h.1; omega, by have := h.2.1; omega, (h.2.2.2 (26, 12, 8) (List.mem_of_getElem? (i := 11) rfl)).2⟩
theorem MOk.r_endHeading (h : MOk Ω n K R m) : R m 27 = some (m + 13) := (h.2.2.2 (27, 13, 8) (List.mem_of_getElem? (i := 12) rfl)).1
theorem MOk.k_endHeading (h : MOk Ω n K R m) : sAr Ω n K (m + 13) 0 8 := ⟨by have := h.1; omega, by have := h.2.1; omega, (h.2.2.2 (27, 13, 8) (List.mem_of_getElem? (i := 12) rfl)).2⟩
theorem MOk.r_name (h : MOk Ω n K R m) : R m 28 = some (m + 14) := (h.2.2.2 (28, 14, 100) (List.mem_of_getElem? (i := 13) rfl)).1
theorem MOk.k_name (h : MOk Ω n K R m) : sAr Ω n K (m + 14) 0 100 := ⟨by have := h.1; omega, by have := h.2.1; omega, (h.2.2.2 (28, 14, 100) (List.mem_of_getElem? (i := 13) rfl)).2⟩
theorem MOk.r_queue (h : MOk Ω n K R m) : R m 29 = some (m + 15) := (h.2.2.2 (29, 15, 100) (List.mem_of_getElem? (i := 14) rfl)).1
theorem MOk.k_queue (h : MOk Ω n K R m) : sAr Ω n K (m + 15) 0 100 := ⟨by have := h.1; omega, by have := h.2.1; omega, (h.2.2.2 (29, 15, 100) (List.mem_of_getElem? (i := 14) rfl)).2⟩
theorem MOk.r_flow (h : MOk Ω n K R m) : R m 35 = some (m + 16) := (h.2.2.2 (35, 16, 400) (List.mem_of_getElem? (i := 15) rfl)).1
theorem MOk.k_flow (h : MOk Ω n K R m) : sAr Ω n K (m + 16) 0 400 := ⟨by have := h.1; omega, by have := h.2.1; omega, (h.2.2.2 (35, 16, 400) (List.mem_of_getElem? (i := 15) rfl)).2⟩
theorem MOk.r_cameBy (h : MOk Ω n K R m) : R m 36 = some (m + 17) := (h.2.2.2 (36, 17, 100) (List.mem_of_getElem? (i := 16) rfl)).1
theorem MOk.k_cameBy (h : MOk Ω n K R m) : sAr Ω n K (m + 17) 0 100 := ⟨by have := h.1; omega, by have := h.2.1; omega, (h.2.2.2 (36, 17, 100) (List.mem_of_getElem? (i := 16) rfl)).2⟩
end MOKS
theorem md_J0_fill : sMd yJ0_fill 2 := ⟨by decide, by decide, by decide +kernel⟩
theorem md_J1_length : sMd yJ1_length 0 := ⟨by decide, by decide, by decide +kernel⟩
theorem md_J1_coder : sMd yJ1_coder 0 := ⟨by decide, by decide, by decide +kernel⟩
theorem md_J1_charAt : sMd yJ1_charAt 1 := ⟨by decide, by decide, by decide +kernel⟩
theorem md_J1_isLatin1 : sMd yJ1_isLatin1 0 := ⟨by decide, by decide, by decide +kernel⟩
theorem md_J1_checkIndex : sMd yJ1_checkIndex 2 := ⟨by decide, by decide, by decide +kernel⟩
theorem md_J1_indexOf : sMd yJ1_indexOf 1 := ⟨by decide, by decide, by decide +kernel⟩
theorem md_J1_indexOf_2 : sMd yJ1_indexOf_2 2 := ⟨by decide, by decide, by decide +kernel⟩
theorem md_J1_checkBoundsBeginEnd : sMd yJ1_checkBoundsBeginEnd 3 := ⟨by decide, by decide, by decide +kernel⟩
theorem md_J2_charAt : sMd yJ2_charAt 2 := ⟨by decide, by decide, by decide +kernel⟩
theorem md_J2_indexOf : sMd yJ2_indexOf 4 := ⟨by decide, by decide, by decide +kernel⟩
theorem md_J2_canEncode : sMd yJ2_canEncode 1 := ⟨by decide, by decide, by decide +kernel⟩
theorem md_J2_indexOfChar : sMd yJ2_indexOfChar 4 := ⟨by decide, by decide, by decide +kernel⟩
theorem md_J3_checkIndex : sMd yJ3_checkIndex 3 := ⟨by decide, by decide, by decide +kernel⟩
theorem md_J3_checkFromToIndex : sMd yJ3_checkFromToIndex 4 := ⟨by decide, by decide, by decide +kernel⟩
theorem md_J4_charAt : sMd yJ4_charAt 2 := ⟨by decide, by decide, by decide +kernel⟩
theorem md_J4_checkIndex : sMd yJ4_checkIndex 2 := ⟨by decide, by decide, by decide +kernel⟩
theorem md_J4_length : sMd yJ4_length 1 := ⟨by decide, by decide, by decide +kernel⟩
theorem md_J4_getChar : sMd yJ4_getChar 2 := ⟨by decide, by decide, by decide +kernel⟩
theorem md_J4_indexOf : sMd yJ4_indexOf 4 := ⟨by decide, by decide, by decide +kernel⟩
theorem md_J4_indexOfChar : sMd yJ4_indexOfChar 4 := ⟨by decide, by decide, by decide +kernel⟩
theorem md_J4_checkBoundsBeginEnd : sMd yJ4_checkBoundsBeginEnd 3 := ⟨by decide, by decide, by decide +kernel⟩
theorem md_J4_indexOfCharUnsafe : sMd yJ4_indexOfCharUnsafe 4 := ⟨by decide, by decide, by decide +kernel⟩
theorem md_J4_indexOfSupplementary : sMd yJ4_indexOfSupplementary 4 := ⟨by decide, by decide, by decide +kernel⟩
theorem md_J5_min : sMd yJ5_min 2 := ⟨by decide, by decide, by decide +kernel⟩
theorem md_J5_max : sMd yJ5_max 2 := ⟨by decide, by decide, by decide +kernel⟩
theorem md_J5_abs : sMd yJ5_abs 1 := ⟨by decide, by decide, by decide +kernel⟩
theorem md_J6_isValidCodePoint : sMd yJ6_isValidCodePoint 1 := ⟨by decide, by decide, by decide +kernel⟩
theorem md_J6_highSurrogate : sMd yJ6_highSurrogate 1 := ⟨by decide, by decide, by decide +kernel⟩
theorem md_J6_lowSurrogate : sMd yJ6_lowSurrogate 1 := ⟨by decide, by decide, by decide +kernel⟩
theorem md_J7_init : sMd yJ7_init 0 := ⟨by decide, by decide, by decide +kernel⟩
theorem md_J7_init_2 : sMd yJ7_init_2 4 := ⟨by decide, by decide, by decide +kernel⟩
theorem md_J8_init : sMd yJ8_init 4 := ⟨by decide, by decide, by decide +kernel⟩
theorem md_J9_init : sMd yJ9_init 0 := ⟨by decide, by decide, by decide +kernel⟩
theorem md_X0_init : sMd yX0_init 0 := ⟨by decide, by decide, by decide +kernel⟩
theorem md_X0_feed : sMd yX0_feed 5 := ⟨by decide, by decide, by decide +kernel⟩
theorem md_X0_puts : sMd yX0_puts 1 := ⟨by decide, by decide, by decide +kernel⟩
theorem md_X0_end : sMd yX0_end 1 := ⟨by decide, by decide, by decide +kernel⟩
theorem md_X0_isIn : sMd yX0_isIn 3 := ⟨by decide, by decide, by decide +kernel⟩
theorem md_X0_text : sMd yX0_text 1 := ⟨by decide, by decide, by decide +kernel⟩
theorem md_X0_readsHabit : sMd yX0_readsHabit 0 := ⟨by decide, by decide, by decide +kernel⟩
theorem md_X0_readNext : sMd yX0_readNext 0 := ⟨by decide, by decide, by decide +kernel⟩
theorem md_X0_raw : sMd yX0_raw 1 := ⟨by decide, by decide, by decide +kernel⟩
theorem md_X0_isLetter : sMd yX0_isLetter 1 := ⟨by decide, by decide, by decide +kernel⟩
theorem md_X0_wordOf : sMd yX0_wordOf 1 := ⟨by decide, by decide, by decide +kernel⟩
theorem md_X0_spells : sMd yX0_spells 1 := ⟨by decide, by decide, by decide +kernel⟩
theorem md_X0_isDigit : sMd yX0_isDigit 1 := ⟨by decide, by decide, by decide +kernel⟩
theorem md_X0_must : sMd yX0_must 1 := ⟨by decide, by decide, by decide +kernel⟩
theorem md_X0_isWord : sMd yX0_isWord 1 := ⟨by decide, by decide, by decide +kernel⟩
theorem md_X0_any : sMd yX0_any 0 := ⟨by decide, by decide, by decide +kernel⟩
theorem md_X0_both : sMd yX0_both 0 := ⟨by decide, by decide, by decide +kernel⟩
theorem md_X0_oneOf : sMd yX0_oneOf 0 := ⟨by decide, by decide, by decide +kernel⟩
theorem md_X0_opens : sMd yX0_opens 0 := ⟨by decide, by decide, by decide +kernel⟩
theorem md_X0_isSign : sMd yX0_isSign 1 := ⟨by decide, by decide, by decide +kernel⟩
theorem md_X0_takesSign : sMd yX0_takesSign 1 := ⟨by decide, by decide, by decide +kernel⟩
theorem md_X0_sum : sMd yX0_sum 0 := ⟨by decide, by decide, by decide +kernel⟩
theorem md_X0_product : sMd yX0_product 0 := ⟨by decide, by decide, by decide +kernel⟩
theorem md_X0_unit : sMd yX0_unit 0 := ⟨by decide, by decide, by decide +kernel⟩
theorem md_X0_fault : sMd yX0_fault 1 := ⟨by decide, by decide, by decide +kernel⟩
theorem md_X0_state : sMd yX0_state 1 := ⟨by decide, by decide, by decide +kernel⟩
theorem md_X0_land : sMd yX0_land 2 := ⟨by decide, by decide, by decide +kernel⟩
theorem md_X0_tell : sMd yX0_tell 3 := ⟨by decide, by decide, by decide +kernel⟩
theorem md_X0_isCell : sMd yX0_isCell 1 := ⟨by decide, by decide, by decide +kernel⟩
theorem md_X0_dig : sMd yX0_dig 1 := ⟨by decide, by decide, by decide +kernel⟩
theorem md_X0_ponds : sMd yX0_ponds 2 := ⟨by decide, by decide, by decide +kernel⟩
theorem md_X0_fill : sMd yX0_fill 1 := ⟨by decide, by decide, by decide +kernel⟩
theorem md_X0_undo : sMd yX0_undo 0 := ⟨by decide, by decide, by decide +kernel⟩
theorem md_X0_barn : sMd yX0_barn 1 := ⟨by decide, by decide, by decide +kernel⟩
theorem md_X0_mirror : sMd yX0_mirror 3 := ⟨by decide, by decide, by decide +kernel⟩
theorem md_X0_nest : sMd yX0_nest 2 := ⟨by decide, by decide, by decide +kernel⟩
theorem md_X0_swallow : sMd yX0_swallow 5 := ⟨by decide, by decide, by decide +kernel⟩
theorem md_X0_survey : sMd yX0_survey 0 := ⟨by decide, by decide, by decide +kernel⟩
theorem md_X0_spring : sMd yX0_spring 0 := ⟨by decide, by decide, by decide +kernel⟩
theorem md_X0_of : sMd yX0_of 2 := ⟨by decide, by decide, by decide +kernel⟩
theorem md_X0_sizeOf : sMd yX0_sizeOf 1 := ⟨by decide, by decide, by decide +kernel⟩
theorem md_X0_yard : sMd yX0_yard 4 := ⟨by decide, by decide, by decide +kernel⟩
theorem md_X0_suit : sMd yX0_suit 2 := ⟨by decide, by decide, by decide +kernel⟩
theorem md_X0_judgeAt : sMd yX0_judgeAt 2 := ⟨by decide, by decide, by decide +kernel⟩
theorem md_X0_steal : sMd yX0_steal 3 := ⟨by decide, by decide, by decide +kernel⟩
theorem md_X0_ends : sMd yX0_ends 2 := ⟨by decide, by decide, by decide +kernel⟩
theorem md_X0_plan : sMd yX0_plan 3 := ⟨by decide, by decide, by decide +kernel⟩
theorem md_X0_wouldBeOne : sMd yX0_wouldBeOne 3 := ⟨by decide, by decide, by decide +kernel⟩
theorem md_X0_plans : sMd yX0_plans 4 := ⟨by decide, by decide, by decide +kernel⟩
theorem md_X0_copies : sMd yX0_copies 2 := ⟨by decide, by decide, by decide +kernel⟩
theorem md_X0_copiesFlags : sMd yX0_copiesFlags 2 := ⟨by decide, by decide, by decide +kernel⟩
theorem md_X0_findsOne : sMd yX0_findsOne 2 := ⟨by decide, by decide, by decide +kernel⟩
theorem md_X0_canDig : sMd yX0_canDig 1 := ⟨by decide, by decide, by decide +kernel⟩
theorem md_X0_findsTwo : sMd yX0_findsTwo 2 := ⟨by decide, by decide, by decide +kernel⟩
theorem md_X0_hatch : sMd yX0_hatch 3 := ⟨by decide, by decide, by decide +kernel⟩
theorem md_X0_odds : sMd yX0_odds 2 := ⟨by decide, by decide, by decide +kernel⟩
theorem md_X0_hatches : sMd yX0_hatches 1 := ⟨by decide, by decide, by decide +kernel⟩
theorem md_X0_claim : sMd yX0_claim 3 := ⟨by decide, by decide, by decide +kernel⟩
theorem md_X0_back : sMd yX0_back 1 := ⟨by decide, by decide, by decide +kernel⟩
theorem md_X0_goesWithAll : sMd yX0_goesWithAll 0 := ⟨by decide, by decide, by decide +kernel⟩
theorem md_X0_part : sMd yX0_part 2 := ⟨by decide, by decide, by decide +kernel⟩
theorem md_X0_findsWay : sMd yX0_findsWay 2 := ⟨by decide, by decide, by decide +kernel⟩
theorem md_X0_image : sMd yX0_image 1 := ⟨by decide, by decide, by decide +kernel⟩
theorem md_X0_look : sMd yX0_look 1 := ⟨by decide, by decide, by decide +kernel⟩
theorem md_X0_threads : sMd yX0_threads 0 := ⟨by decide, by decide, by decide +kernel⟩
theorem md_X1_init : sMd yX1_init 0 := ⟨by decide, by decide, by decide +kernel⟩
theorem md_X1_first : sMd yX1_first 1 := ⟨by decide, by decide, by decide +kernel⟩
theorem md_X10_init : sMd yX10_init 1 := ⟨by decide, by decide, by decide +kernel⟩
theorem md_X10_of : sMd yX10_of 1 := ⟨by decide, by decide, by decide +kernel⟩
theorem md_X11_init : sMd yX11_init 3 := ⟨by decide, by decide, by decide +kernel⟩
theorem md_X11_of : sMd yX11_of 1 := ⟨by decide, by decide, by decide +kernel⟩
theorem md_X2_init : sMd yX2_init 0 := ⟨by decide, by decide, by decide +kernel⟩
theorem md_X2_isCell : sMd yX2_isCell 2 := ⟨by decide, by decide, by decide +kernel⟩
theorem md_X2_isPoint : sMd yX2_isPoint 2 := ⟨by decide, by decide, by decide +kernel⟩
theorem md_X2_seenFlies : sMd yX2_seenFlies 2 := ⟨by decide, by decide, by decide +kernel⟩
theorem md_X2_hasPond : sMd yX2_hasPond 2 := ⟨by decide, by decide, by decide +kernel⟩
theorem md_X2_hasCat : sMd yX2_hasCat 2 := ⟨by decide, by decide, by decide +kernel⟩
theorem md_X2_draw : sMd yX2_draw 1 := ⟨by decide, by decide, by decide +kernel⟩
theorem md_X2_become : sMd yX2_become 1 := ⟨by decide, by decide, by decide +kernel⟩
theorem md_X3_init : sMd yX3_init 1 := ⟨by decide, by decide, by decide +kernel⟩
theorem md_X3_surveys : sMd yX3_surveys 1 := ⟨by decide, by decide, by decide +kernel⟩
theorem md_X3_flies : sMd yX3_flies 2 := ⟨by decide, by decide, by decide +kernel⟩
theorem md_X3_wordFor : sMd yX3_wordFor 7 := ⟨by decide, by decide, by decide +kernel⟩
theorem md_X3_besideX : sMd yX3_besideX 3 := ⟨by decide, by decide, by decide +kernel⟩
theorem md_X3_besideY : sMd yX3_besideY 3 := ⟨by decide, by decide, by decide +kernel⟩
theorem md_X3_ownerAt : sMd yX3_ownerAt 4 := ⟨by decide, by decide, by decide +kernel⟩
theorem md_X3_yardOf : sMd yX3_yardOf 3 := ⟨by decide, by decide, by decide +kernel⟩
theorem md_X3_otherAt : sMd yX3_otherAt 4 := ⟨by decide, by decide, by decide +kernel⟩
theorem md_X3_sues : sMd yX3_sues 5 := ⟨by decide, by decide, by decide +kernel⟩
theorem md_X3_names : sMd yX3_names 1 := ⟨by decide, by decide, by decide +kernel⟩
theorem md_X3_spreads : sMd yX3_spreads 2 := ⟨by decide, by decide, by decide +kernel⟩
theorem md_X3_isOpen : sMd yX3_isOpen 4 := ⟨by decide, by decide, by decide +kernel⟩
theorem md_X3_areOne : sMd yX3_areOne 2 := ⟨by decide, by decide, by decide +kernel⟩
theorem md_X3_become : sMd yX3_become 1 := ⟨by decide, by decide, by decide +kernel⟩
theorem md_X4_init : sMd yX4_init 0 := ⟨by decide, by decide, by decide +kernel⟩
theorem md_X4_begins : sMd yX4_begins 2 := ⟨by decide, by decide, by decide +kernel⟩
theorem md_X4_clears : sMd yX4_clears 0 := ⟨by decide, by decide, by decide +kernel⟩
theorem md_X4_state : sMd yX4_state 1 := ⟨by decide, by decide, by decide +kernel⟩
theorem md_X4_land : sMd yX4_land 2 := ⟨by decide, by decide, by decide +kernel⟩
theorem md_X4_isIn : sMd yX4_isIn 3 := ⟨by decide, by decide, by decide +kernel⟩
theorem md_X4_tell : sMd yX4_tell 3 := ⟨by decide, by decide, by decide +kernel⟩
theorem md_X4_isCell : sMd yX4_isCell 1 := ⟨by decide, by decide, by decide +kernel⟩
theorem md_X4_isPlace : sMd yX4_isPlace 2 := ⟨by decide, by decide, by decide +kernel⟩
theorem md_X4_dig : sMd yX4_dig 1 := ⟨by decide, by decide, by decide +kernel⟩
theorem md_X4_keeps : sMd yX4_keeps 1 := ⟨by decide, by decide, by decide +kernel⟩
theorem md_X4_fill : sMd yX4_fill 1 := ⟨by decide, by decide, by decide +kernel⟩
theorem md_X4_undo : sMd yX4_undo 0 := ⟨by decide, by decide, by decide +kernel⟩
theorem md_X4_barn : sMd yX4_barn 1 := ⟨by decide, by decide, by decide +kernel⟩
theorem md_X4_mirror : sMd yX4_mirror 3 := ⟨by decide, by decide, by decide +kernel⟩
theorem md_X4_isPoint : sMd yX4_isPoint 2 := ⟨by decide, by decide, by decide +kernel⟩
theorem md_X4_nest : sMd yX4_nest 2 := ⟨by decide, by decide, by decide +kernel⟩
theorem md_X4_swallow : sMd yX4_swallow 5 := ⟨by decide, by decide, by decide +kernel⟩
theorem md_X4_feed : sMd yX4_feed 5 := ⟨by decide, by decide, by decide +kernel⟩
theorem md_X4_end : sMd yX4_end 1 := ⟨by decide, by decide, by decide +kernel⟩
theorem md_X4_text : sMd yX4_text 1 := ⟨by decide, by decide, by decide +kernel⟩
theorem md_X4_next0 : sMd yX4_next0 0 := ⟨by decide, by decide, by decide +kernel⟩
theorem md_X4_see : sMd yX4_see 1 := ⟨by decide, by decide, by decide +kernel⟩
theorem md_X4_isLetter : sMd yX4_isLetter 1 := ⟨by decide, by decide, by decide +kernel⟩
theorem md_X4_word : sMd yX4_word 0 := ⟨by decide, by decide, by decide +kernel⟩
theorem md_X4_is : sMd yX4_is 1 := ⟨by decide, by decide, by decide +kernel⟩
theorem md_X4_nameWord : sMd yX4_nameWord 0 := ⟨by decide, by decide, by decide +kernel⟩
theorem md_X4_isDigit : sMd yX4_isDigit 1 := ⟨by decide, by decide, by decide +kernel⟩
theorem md_X4_aLine : sMd yX4_aLine 0 := ⟨by decide, by decide, by decide +kernel⟩
theorem md_X4_bad : sMd yX4_bad 1 := ⟨by decide, by decide, by decide +kernel⟩
theorem md_X4_any : sMd yX4_any 0 := ⟨by decide, by decide, by decide +kernel⟩
theorem md_X4_every : sMd yX4_every 0 := ⟨by decide, by decide, by decide +kernel⟩
theorem md_X4_oneTest : sMd yX4_oneTest 0 := ⟨by decide, by decide, by decide +kernel⟩
theorem md_X4_opens : sMd yX4_opens 0 := ⟨by decide, by decide, by decide +kernel⟩
theorem md_X4_lay : sMd yX4_lay 2 := ⟨by decide, by decide, by decide +kernel⟩
theorem md_X4_need : sMd yX4_need 1 := ⟨by decide, by decide, by decide +kernel⟩
theorem md_X4_sumUp : sMd yX4_sumUp 0 := ⟨by decide, by decide, by decide +kernel⟩
theorem md_X4_product : sMd yX4_product 0 := ⟨by decide, by decide, by decide +kernel⟩
theorem md_X4_unit : sMd yX4_unit 0 := ⟨by decide, by decide, by decide +kernel⟩
theorem md_X4_fault : sMd yX4_fault 1 := ⟨by decide, by decide, by decide +kernel⟩
theorem md_X4_survey : sMd yX4_survey 0 := ⟨by decide, by decide, by decide +kernel⟩
theorem md_X4_allFly : sMd yX4_allFly 0 := ⟨by decide, by decide, by decide +kernel⟩
theorem md_X4_flies : sMd yX4_flies 1 := ⟨by decide, by decide, by decide +kernel⟩
theorem md_X4_laysFacts : sMd yX4_laysFacts 3 := ⟨by decide, by decide, by decide +kernel⟩
theorem md_X4_aheadX : sMd yX4_aheadX 1 := ⟨by decide, by decide, by decide +kernel⟩
theorem md_X4_aheadY : sMd yX4_aheadY 1 := ⟨by decide, by decide, by decide +kernel⟩
theorem md_X4_seenFlies : sMd yX4_seenFlies 2 := ⟨by decide, by decide, by decide +kernel⟩
theorem md_X4_pondAt : sMd yX4_pondAt 2 := ⟨by decide, by decide, by decide +kernel⟩
theorem md_X4_yardBy : sMd yX4_yardBy 3 := ⟨by decide, by decide, by decide +kernel⟩
theorem md_X4_told : sMd yX4_told 1 := ⟨by decide, by decide, by decide +kernel⟩
theorem md_X4_comesTo : sMd yX4_comesTo 3 := ⟨by decide, by decide, by decide +kernel⟩
theorem md_X4_both : sMd yX4_both 3 := ⟨by decide, by decide, by decide +kernel⟩
theorem md_X4_otherAt : sMd yX4_otherAt 3 := ⟨by decide, by decide, by decide +kernel⟩
theorem md_X4_sues : sMd yX4_sues 5 := ⟨by decide, by decide, by decide +kernel⟩
theorem md_X4_hasCat : sMd yX4_hasCat 2 := ⟨by decide, by decide, by decide +kernel⟩
theorem md_X4_laysCounties : sMd yX4_laysCounties 0 := ⟨by decide, by decide, by decide +kernel⟩
theorem md_X4_spreads : sMd yX4_spreads 1 := ⟨by decide, by decide, by decide +kernel⟩
theorem md_X4_isOpen : sMd yX4_isOpen 3 := ⟨by decide, by decide, by decide +kernel⟩
theorem md_X4_spring : sMd yX4_spring 0 := ⟨by decide, by decide, by decide +kernel⟩
theorem md_X4_draw : sMd yX4_draw 1 := ⟨by decide, by decide, by decide +kernel⟩
theorem md_X4_of : sMd yX4_of 2 := ⟨by decide, by decide, by decide +kernel⟩
theorem md_X4_yard : sMd yX4_yard 4 := ⟨by decide, by decide, by decide +kernel⟩
theorem md_X4_suit : sMd yX4_suit 2 := ⟨by decide, by decide, by decide +kernel⟩
theorem md_X4_far : sMd yX4_far 2 := ⟨by decide, by decide, by decide +kernel⟩
theorem md_X4_steal : sMd yX4_steal 3 := ⟨by decide, by decide, by decide +kernel⟩
theorem md_X4_ends : sMd yX4_ends 2 := ⟨by decide, by decide, by decide +kernel⟩
theorem md_X4_setsOut : sMd yX4_setsOut 0 := ⟨by decide, by decide, by decide +kernel⟩
theorem md_X4_comesBack : sMd yX4_comesBack 0 := ⟨by decide, by decide, by decide +kernel⟩
theorem md_X4_plan : sMd yX4_plan 3 := ⟨by decide, by decide, by decide +kernel⟩
theorem md_X4_triesPonds : sMd yX4_triesPonds 4 := ⟨by decide, by decide, by decide +kernel⟩
theorem md_X4_isFree : sMd yX4_isFree 1 := ⟨by decide, by decide, by decide +kernel⟩
theorem md_X4_hatch : sMd yX4_hatch 3 := ⟨by decide, by decide, by decide +kernel⟩
theorem md_X4_odds : sMd yX4_odds 2 := ⟨by decide, by decide, by decide +kernel⟩
theorem md_X4_hatches : sMd yX4_hatches 1 := ⟨by decide, by decide, by decide +kernel⟩
theorem md_X4_claim : sMd yX4_claim 3 := ⟨by decide, by decide, by decide +kernel⟩
theorem md_X4_back : sMd yX4_back 1 := ⟨by decide, by decide, by decide +kernel⟩
theorem md_X4_part : sMd yX4_part 2 := ⟨by decide, by decide, by decide +kernel⟩
theorem md_X4_oneMore : sMd yX4_oneMore 2 := ⟨by decide, by decide, by decide +kernel⟩
theorem md_X4_image : sMd yX4_image 1 := ⟨by decide, by decide, by decide +kernel⟩
theorem md_X4_look : sMd yX4_look 1 := ⟨by decide, by decide, by decide +kernel⟩
theorem md_X4_threads : sMd yX4_threads 0 := ⟨by decide, by decide, by decide +kernel⟩
theorem md_X5_init : sMd yX5_init 5 := ⟨by decide, by decide, by decide +kernel⟩
theorem md_X6_init : sMd yX6_init 2 := ⟨by decide, by decide, by decide +kernel⟩
theorem md_X7_init : sMd yX7_init 0 := ⟨by decide, by decide, by decide +kernel⟩
theorem md_X8_init : sMd yX8_init 1 := ⟨by decide, by decide, by decide +kernel⟩
theorem md_X8_of : sMd yX8_of 1 := ⟨by decide, by decide, by decide +kernel⟩
theorem md_X9_init : sMd yX9_init 1 := ⟨by decide, by decide, by decide +kernel⟩
theorem md_X9_of : sMd yX9_of 1 := ⟨by decide, by decide, by decide +kernel⟩

