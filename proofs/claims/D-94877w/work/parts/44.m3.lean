/-! ===== the twin: flights ===== -/
section M3
variable {Ω : OmT} {n : Nat} {K : KT} {X : XT} {R : RT} {m : Nat} {d : Nat}
theorem m_aheadX {u : Int} (h1 : sRg u) : sCt Ω yX4_aheadX cX4_aheadX 1 (some .int) d 0 0 [vI u] n K X R (pV n K X R (some (vI (adX u)))) := by
  refine sCt_of (by decide) (by simp [Value.category, vI, va_rf]) (Nat.le_of_ble_eq_true rfl) fun Γ P9 hP9 h => ?_
  show sG (_, _, _, _, _) Γ 0 0 _ _ _ _ 0 [some _] []
  refine ss_iload_n (i := 0) h dX4_aheadX_0 1 rfl rfl rfl ?_
  refine ss_iconst h dX4_aheadX_1 2 rfl ?_
  refine ss_icmp_ne h dX4_aheadX_2 5 9 rfl (by decide) (by first | omega | exact sRg_b _) (by first | omega | exact sRg_b _) (fun c2 => ?_) (fun c2 => ?_)
  · skip
    refine ss_iload_n (i := 0) h dX4_aheadX_9 10 rfl rfl rfl ?_
    refine ss_iconst h dX4_aheadX_10 11 rfl ?_
    refine ss_icmp_ne h dX4_aheadX_11 14 18 rfl (by decide) (by first | omega | exact sRg_b _) (by first | omega | exact sRg_b _) (fun c11 => ?_) (fun c11 => ?_)
    · skip
      refine ss_iconst h dX4_aheadX_18 19 rfl ?_
      refine ss_iret h dX4_aheadX_19 (by omega) (by omega) ?_
      rw [hP9]
      exact ⟨vI_c (by unfold adX; (repeat' split) <;> omega), rfl, rfl, rfl, rfl⟩
    · skip
      refine ss_iconst h dX4_aheadX_14 15 rfl ?_
      refine ss_goto h dX4_aheadX_15 19 (by decide) ?_
      refine ss_iret h dX4_aheadX_19 (by omega) (by omega) ?_
      rw [hP9]
      exact ⟨vI_c (by unfold adX; (repeat' split) <;> omega), rfl, rfl, rfl, rfl⟩
  · skip
    refine ss_iconst h dX4_aheadX_5 6 rfl ?_
    refine ss_goto h dX4_aheadX_6 19 (by decide) ?_
    refine ss_iret h dX4_aheadX_19 (by omega) (by omega) ?_
    rw [hP9]
    exact ⟨vI_c (by unfold adX; (repeat' split) <;> omega), rfl, rfl, rfl, rfl⟩
theorem m_aheadY {u : Int} (h1 : sRg u) : sCt Ω yX4_aheadY cX4_aheadY 1 (some .int) d 0 0 [vI u] n K X R (pV n K X R (some (vI (adY u)))) := by
  refine sCt_of (by decide) (by simp [Value.category, vI, va_rf]) (Nat.le_of_ble_eq_true rfl) fun Γ P9 hP9 h => ?_
  show sG (_, _, _, _, _) Γ 0 0 _ _ _ _ 0 [some _] []
  refine ss_iload_n (i := 0) h dX4_aheadY_0 1 rfl rfl rfl ?_
  refine ss_if_ne h dX4_aheadY_1 4 8 rfl (by decide) (by first | omega | exact sRg_b _) (fun c1 => ?_) (fun c1 => ?_)
  · skip
    refine ss_iload_n (i := 0) h dX4_aheadY_8 9 rfl rfl rfl ?_
    refine ss_iconst h dX4_aheadY_9 10 rfl ?_
    refine ss_icmp_ne h dX4_aheadY_10 13 17 rfl (by decide) (by first | omega | exact sRg_b _) (by first | omega | exact sRg_b _) (fun c10 => ?_) (fun c10 => ?_)
    · skip
      refine ss_iconst h dX4_aheadY_17 18 rfl ?_
      refine ss_iret h dX4_aheadY_18 (by omega) (by omega) ?_
      rw [hP9]
      exact ⟨vI_c (by unfold adY; (repeat' split) <;> omega), rfl, rfl, rfl, rfl⟩
    · skip
      refine ss_iconst h dX4_aheadY_13 14 rfl ?_
      refine ss_goto h dX4_aheadY_14 18 (by decide) ?_
      refine ss_iret h dX4_aheadY_18 (by omega) (by omega) ?_
      rw [hP9]
      exact ⟨vI_c (by unfold adY; (repeat' split) <;> omega), rfl, rfl, rfl, rfl⟩
  · skip
    refine ss_iconst h dX4_aheadY_4 5 rfl ?_
    refine ss_goto h dX4_aheadY_5 18 (by decide) ?_
    refine ss_iret h dX4_aheadY_18 (by omega) (by omega) ?_
    rw [hP9]
    exact ⟨vI_c (by unfold adY; (repeat' split) <;> omega), rfl, rfl, rfl, rfl⟩
theorem m_yardBy {x y u : Int} (h1 : 0 ≤ u ∧ u ≤ 3) : sCt Ω yX4_yardBy cX4_yardBy 5 (some .int) d 0 0 [vI x, vI y, vI u] n K X R (pV n K X R (some (vI (yardS x y u)))) := by
  have hu : u.tmod 2 = u % 2 := Int.tmod_eq_emod_of_nonneg h1.1
  refine sCt_of (by decide) (by simp [Value.category, vI, va_rf]) (Nat.le_of_ble_eq_true rfl) fun Γ P9 hP9 h => ?_
  show sG (_, _, _, _, _) Γ 0 0 _ _ _ _ 0 [some _, some _, some _, none, none] []
  refine ss_iload_n (i := 2) h dX4_yardBy_0 1 rfl rfl rfl ?_
  refine ss_iconst h dX4_yardBy_1 2 rfl ?_
  refine ss_icmp_ne h dX4_yardBy_2 5 11 rfl (by decide) (by first | omega | exact sRg_b _) (by first | omega | exact sRg_b _) (fun c2 => ?_) (fun c2 => ?_)
  · skip
    refine ss_iload_n (i := 0) h dX4_yardBy_11 12 rfl rfl rfl ?_
    refine ss_ist_3 h dX4_yardBy_12 13 rfl ?_
    refine ss_iload_n (i := 2) h dX4_yardBy_13 14 rfl rfl rfl ?_
    refine ss_if_ne h dX4_yardBy_14 17 23 rfl (by decide) (by first | omega | exact sRg_b _) (fun c14 => ?_) (fun c14 => ?_)
    · skip
      refine ss_iload_n (i := 1) h dX4_yardBy_23 24 rfl rfl rfl ?_
      refine ss_ist_4 h dX4_yardBy_24 26 rfl ?_
      refine ss_iconst h dX4_yardBy_26 27 rfl ?_
      refine ss_bipush h dX4_yardBy_27 29 rfl (by decide +kernel) ?_
      refine ss_iload h dX4_yardBy_29 31 rfl rfl ?_
      refine ss_imul h dX4_yardBy_31 32 rfl ?_
      refine ss_iload_n (i := 3) h dX4_yardBy_32 33 rfl rfl rfl ?_
      refine ss_iadd h dX4_yardBy_33 34 rfl ?_
      refine ss_imul h dX4_yardBy_34 35 rfl ?_
      refine ss_iload_n (i := 2) h dX4_yardBy_35 36 rfl rfl rfl ?_
      refine ss_iconst h dX4_yardBy_36 37 rfl ?_
      refine ss_irem h dX4_yardBy_37 38 rfl (by omega) (by omega) (by omega) ?_
      refine ss_iconst h dX4_yardBy_38 39 rfl ?_
      rw [hu]
      refine ss_icmp_ne h dX4_yardBy_39 42 46 rfl (by decide) (by first | omega | exact sRg_b _) (by first | omega | exact sRg_b _) (fun c39 => ?_) (fun c39 => ?_)
      · skip
        refine ss_iconst h dX4_yardBy_46 47 rfl ?_
        refine ss_iadd h dX4_yardBy_47 48 rfl ?_
        refine ss_iret h dX4_yardBy_48 (by omega) (by omega) ?_
        rw [hP9]
        exact ⟨vI_c (by unfold yardS; (repeat' split) <;> omega), rfl, rfl, rfl, rfl⟩
      · skip
        refine ss_iconst h dX4_yardBy_42 43 rfl ?_
        refine ss_goto h dX4_yardBy_43 47 (by decide) ?_
        refine ss_iadd h dX4_yardBy_47 48 rfl ?_
        refine ss_iret h dX4_yardBy_48 (by omega) (by omega) ?_
        rw [hP9]
        exact ⟨vI_c (by unfold yardS; (repeat' split) <;> omega), rfl, rfl, rfl, rfl⟩
    · skip
      refine ss_iload_n (i := 1) h dX4_yardBy_17 18 rfl rfl rfl ?_
      refine ss_iconst h dX4_yardBy_18 19 rfl ?_
      refine ss_isub h dX4_yardBy_19 20 rfl ?_
      refine ss_goto h dX4_yardBy_20 24 (by decide) ?_
      refine ss_ist_4 h dX4_yardBy_24 26 rfl ?_
      refine ss_iconst h dX4_yardBy_26 27 rfl ?_
      refine ss_bipush h dX4_yardBy_27 29 rfl (by decide +kernel) ?_
      refine ss_iload h dX4_yardBy_29 31 rfl rfl ?_
      refine ss_imul h dX4_yardBy_31 32 rfl ?_
      refine ss_iload_n (i := 3) h dX4_yardBy_32 33 rfl rfl rfl ?_
      refine ss_iadd h dX4_yardBy_33 34 rfl ?_
      refine ss_imul h dX4_yardBy_34 35 rfl ?_
      refine ss_iload_n (i := 2) h dX4_yardBy_35 36 rfl rfl rfl ?_
      refine ss_iconst h dX4_yardBy_36 37 rfl ?_
      refine ss_irem h dX4_yardBy_37 38 rfl (by omega) (by omega) (by omega) ?_
      refine ss_iconst h dX4_yardBy_38 39 rfl ?_
      rw [hu]
      refine ss_icmp_ne h dX4_yardBy_39 42 46 rfl (by decide) (by first | omega | exact sRg_b _) (by first | omega | exact sRg_b _) (fun c39 => ?_) (fun c39 => ?_)
      · skip
        refine ss_iconst h dX4_yardBy_46 47 rfl ?_
        refine ss_iadd h dX4_yardBy_47 48 rfl ?_
        refine ss_iret h dX4_yardBy_48 (by omega) (by omega) ?_
        rw [hP9]
        exact ⟨vI_c (by unfold yardS; (repeat' split) <;> omega), rfl, rfl, rfl, rfl⟩
      · skip
        refine ss_iconst h dX4_yardBy_42 43 rfl ?_
        refine ss_goto h dX4_yardBy_43 47 (by decide) ?_
        refine ss_iadd h dX4_yardBy_47 48 rfl ?_
        refine ss_iret h dX4_yardBy_48 (by omega) (by omega) ?_
        rw [hP9]
        exact ⟨vI_c (by unfold yardS; (repeat' split) <;> omega), rfl, rfl, rfl, rfl⟩
  · skip
    refine ss_iload_n (i := 0) h dX4_yardBy_5 6 rfl rfl rfl ?_
    refine ss_iconst h dX4_yardBy_6 7 rfl ?_
    refine ss_isub h dX4_yardBy_7 8 rfl ?_
    refine ss_goto h dX4_yardBy_8 12 (by decide) ?_
    refine ss_ist_3 h dX4_yardBy_12 13 rfl ?_
    refine ss_iload_n (i := 2) h dX4_yardBy_13 14 rfl rfl rfl ?_
    refine ss_if_ne h dX4_yardBy_14 17 23 rfl (by decide) (by first | omega | exact sRg_b _) (fun c14 => ?_) (fun c14 => ?_)
    · skip
      refine ss_iload_n (i := 1) h dX4_yardBy_23 24 rfl rfl rfl ?_
      refine ss_ist_4 h dX4_yardBy_24 26 rfl ?_
      refine ss_iconst h dX4_yardBy_26 27 rfl ?_
      refine ss_bipush h dX4_yardBy_27 29 rfl (by decide +kernel) ?_
      refine ss_iload h dX4_yardBy_29 31 rfl rfl ?_
      refine ss_imul h dX4_yardBy_31 32 rfl ?_
      refine ss_iload_n (i := 3) h dX4_yardBy_32 33 rfl rfl rfl ?_
      refine ss_iadd h dX4_yardBy_33 34 rfl ?_
      refine ss_imul h dX4_yardBy_34 35 rfl ?_
      refine ss_iload_n (i := 2) h dX4_yardBy_35 36 rfl rfl rfl ?_
      refine ss_iconst h dX4_yardBy_36 37 rfl ?_
      refine ss_irem h dX4_yardBy_37 38 rfl (by omega) (by omega) (by omega) ?_
      refine ss_iconst h dX4_yardBy_38 39 rfl ?_
      rw [hu]
      refine ss_icmp_ne h dX4_yardBy_39 42 46 rfl (by decide) (by first | omega | exact sRg_b _) (by first | omega | exact sRg_b _) (fun c39 => ?_) (fun c39 => ?_)
      · skip
        refine ss_iconst h dX4_yardBy_46 47 rfl ?_
        refine ss_iadd h dX4_yardBy_47 48 rfl ?_
        refine ss_iret h dX4_yardBy_48 (by omega) (by omega) ?_
        rw [hP9]
        exact ⟨vI_c (by unfold yardS; (repeat' split) <;> omega), rfl, rfl, rfl, rfl⟩
      · skip
        refine ss_iconst h dX4_yardBy_42 43 rfl ?_
        refine ss_goto h dX4_yardBy_43 47 (by decide) ?_
        refine ss_iadd h dX4_yardBy_47 48 rfl ?_
        refine ss_iret h dX4_yardBy_48 (by omega) (by omega) ?_
        rw [hP9]
        exact ⟨vI_c (by unfold yardS; (repeat' split) <;> omega), rfl, rfl, rfl, rfl⟩
    · skip
      refine ss_iload_n (i := 1) h dX4_yardBy_17 18 rfl rfl rfl ?_
      refine ss_iconst h dX4_yardBy_18 19 rfl ?_
      refine ss_isub h dX4_yardBy_19 20 rfl ?_
      refine ss_goto h dX4_yardBy_20 24 (by decide) ?_
      refine ss_ist_4 h dX4_yardBy_24 26 rfl ?_
      refine ss_iconst h dX4_yardBy_26 27 rfl ?_
      refine ss_bipush h dX4_yardBy_27 29 rfl (by decide +kernel) ?_
      refine ss_iload h dX4_yardBy_29 31 rfl rfl ?_
      refine ss_imul h dX4_yardBy_31 32 rfl ?_
      refine ss_iload_n (i := 3) h dX4_yardBy_32 33 rfl rfl rfl ?_
      refine ss_iadd h dX4_yardBy_33 34 rfl ?_
      refine ss_imul h dX4_yardBy_34 35 rfl ?_
      refine ss_iload_n (i := 2) h dX4_yardBy_35 36 rfl rfl rfl ?_
      refine ss_iconst h dX4_yardBy_36 37 rfl ?_
      refine ss_irem h dX4_yardBy_37 38 rfl (by omega) (by omega) (by omega) ?_
      refine ss_iconst h dX4_yardBy_38 39 rfl ?_
      rw [hu]
      refine ss_icmp_ne h dX4_yardBy_39 42 46 rfl (by decide) (by first | omega | exact sRg_b _) (by first | omega | exact sRg_b _) (fun c39 => ?_) (fun c39 => ?_)
      · skip
        refine ss_iconst h dX4_yardBy_46 47 rfl ?_
        refine ss_iadd h dX4_yardBy_47 48 rfl ?_
        refine ss_iret h dX4_yardBy_48 (by omega) (by omega) ?_
        rw [hP9]
        exact ⟨vI_c (by unfold yardS; (repeat' split) <;> omega), rfl, rfl, rfl, rfl⟩
      · skip
        refine ss_iconst h dX4_yardBy_42 43 rfl ?_
        refine ss_goto h dX4_yardBy_43 47 (by decide) ?_
        refine ss_iadd h dX4_yardBy_47 48 rfl ?_
        refine ss_iret h dX4_yardBy_48 (by omega) (by omega) ?_
        rw [hP9]
        exact ⟨vI_c (by unfold yardS; (repeat' split) <;> omega), rfl, rfl, rfl, rfl⟩
theorem m_pondAt (hM : MOk Ω n K R m) {x y : Int} (hd : Dim (X (m + 1))) (h1 : sRg x) (h2 : sRg y) (hl : 2 ≤ d) : sCt Ω yX4_pondAt cX4_pondAt 3 (some .int) d 0 0 [.ref m, vI x, vI y] n K X R (pV n K X R (some (vI (pondS (X (m + 1)) x y)))) := by
  have hd' := hd
  unfold Dim at hd'
  refine sCt_of (by decide) (by simp [Value.category, vI, va_rf]) (Nat.le_of_ble_eq_true rfl) fun Γ P9 hP9 h => ?_
  show sG (_, _, _, _, _) Γ 0 0 _ _ _ _ 0 [some _, some _, some _] []
  refine ss_aload_n (i := 0) h dX4_pondAt_0 1 rfl rfl rfl ?_
  refine ss_iload_n (i := 1) h dX4_pondAt_1 2 rfl rfl rfl ?_
  refine ss_iload_n (i := 2) h dX4_pondAt_2 3 rfl rfl rfl ?_
  refine ss_cVv h (m_isPlace hM (d := d - 1) hd h1 h2 (by omega)) (lw_V q1218 q1220 qs41 q87 q1221) kl4 hM.ob 2 rfl md_X4_isPlace rfl (by omega) (by decide) rfl dX4_pondAt_3 6 rfl rfl (Nat.le_of_ble_eq_true rfl) (by omega) (by omega) ?_
  refine ss_if_eq h dX4_pondAt_6 9 26 rfl (by decide) (by first | omega | exact sRg_b _) (fun c6 => ?_) (fun c6 => ?_)
  · skip
    replace c6 := bI_0.mp c6
    refine ss_iconst h dX4_pondAt_26 27 rfl ?_
    refine ss_iret h dX4_pondAt_27 (by omega) (by omega) ?_
    rw [hP9]
    exact ⟨by simp [pondS, *], rfl, rfl, rfl, rfl⟩
  · skip
    replace c6 := bI_n.mp c6
    have hc := placeB_t.mp c6
    refine ss_aload_n (i := 0) h dX4_pondAt_9 10 rfl rfl rfl ?_
    refine ss_getS h kl4 0 0 rfl (by decide) rfl hM.ob q1087 dX4_pondAt_10 13 rfl hM.r_w ?_
    refine ss_bipush h dX4_pondAt_13 15 rfl (by decide +kernel) ?_
    refine ss_bipush h dX4_pondAt_15 17 rfl (by decide +kernel) ?_
    refine ss_iload_n (i := 2) h dX4_pondAt_17 18 rfl rfl rfl ?_
    refine ss_imul h dX4_pondAt_18 19 rfl ?_
    refine ss_iadd h dX4_pondAt_19 20 rfl ?_
    refine ss_iload_n (i := 1) h dX4_pondAt_20 21 rfl rfl rfl ?_
    refine ss_iadd h dX4_pondAt_21 22 rfl ?_
    refine ss_iald h hM.k_w (by decide) (by omega) dX4_pondAt_22 23 rfl ?_
    refine ss_goto h dX4_pondAt_23 27 (by decide) ?_
    refine ss_iret h dX4_pondAt_27 (by omega) (by omega) ?_
    rw [hP9]
    exact ⟨by simp [pondS, *], rfl, rfl, rfl, rfl⟩
theorem m_seenFlies (hM : MOk Ω n K R m) {x y : Int} (hd : Dim (X (m + 1))) (h1 : sRg x) (h2 : sRg y) (hl : 3 ≤ d) : sCt Ω yX4_seenFlies cX4_seenFlies 3 (some .int) d 0 0 [.ref m, vI x, vI y] n K X R (pV n K X R (some (vI (seenS (X (m + 1)) x y)))) := by
  have hd' := hd
  unfold Dim at hd'
  refine sCt_of (by decide) (by simp [Value.category, vI, va_rf]) (Nat.le_of_ble_eq_true rfl) fun Γ P9 hP9 h => ?_
  show sG (_, _, _, _, _) Γ 0 0 _ _ _ _ 0 [some _, some _, some _] []
  refine ss_aload_n (i := 0) h dX4_seenFlies_0 1 rfl rfl rfl ?_
  refine ss_iload_n (i := 1) h dX4_seenFlies_1 2 rfl rfl rfl ?_
  refine ss_iload_n (i := 2) h dX4_seenFlies_2 3 rfl rfl rfl ?_
  refine ss_cVv h (m_isPlace hM (d := d - 1) hd h1 h2 (by omega)) (lw_V q1218 q1220 qs41 q87 q1221) kl4 hM.ob 2 rfl md_X4_isPlace rfl (by omega) (by decide) rfl dX4_seenFlies_3 6 rfl rfl (Nat.le_of_ble_eq_true rfl) (by omega) (by omega) ?_
  refine ss_if_ne h dX4_seenFlies_6 9 11 rfl (by decide) (by first | omega | exact sRg_b _) (fun c6 => ?_) (fun c6 => ?_)
  · skip
    replace c6 := bI_1.mp c6
    have hc := placeB_t.mp c6
    refine ss_aload_n (i := 0) h dX4_seenFlies_11 12 rfl rfl rfl ?_
    refine ss_getS h kl4 0 0 rfl (by decide) rfl hM.ob q1087 dX4_seenFlies_12 15 rfl hM.r_w ?_
    refine ss_bipush h dX4_seenFlies_15 17 rfl (by decide +kernel) ?_
    refine ss_bipush h dX4_seenFlies_17 19 rfl (by decide +kernel) ?_
    refine ss_iload_n (i := 2) h dX4_seenFlies_19 20 rfl rfl rfl ?_
    refine ss_imul h dX4_seenFlies_20 21 rfl ?_
    refine ss_iadd h dX4_seenFlies_21 22 rfl ?_
    refine ss_iload_n (i := 1) h dX4_seenFlies_22 23 rfl rfl rfl ?_
    refine ss_iadd h dX4_seenFlies_23 24 rfl ?_
    refine ss_iald h hM.k_w (by decide) (by omega) dX4_seenFlies_24 25 rfl ?_
    refine ss_bipush h dX4_seenFlies_25 27 rfl (by decide +kernel) ?_
    refine ss_aload_n (i := 0) h dX4_seenFlies_27 28 rfl rfl rfl ?_
    refine ss_iload_n (i := 1) h dX4_seenFlies_28 29 rfl rfl rfl ?_
    refine ss_iload_n (i := 2) h dX4_seenFlies_29 30 rfl rfl rfl ?_
    refine ss_cVv h (m_pondAt hM (d := d - 1) hd (by omega) (by omega) (by omega)) (lw_V q1390 q1392 qs64 q87 q1393) kl4 hM.ob 2 rfl md_X4_pondAt rfl (by omega) (by decide) rfl dX4_seenFlies_30 33 rfl rfl (Nat.le_of_ble_eq_true rfl) (by omega) (by omega) ?_
    refine ss_imul h dX4_seenFlies_33 34 rfl ?_
    refine ss_iadd h dX4_seenFlies_34 35 rfl ?_
    refine ss_iconst h dX4_seenFlies_35 36 rfl ?_
    refine ss_aload_n (i := 0) h dX4_seenFlies_36 37 rfl rfl rfl ?_
    refine ss_iload_n (i := 1) h dX4_seenFlies_37 38 rfl rfl rfl ?_
    refine ss_iload_n (i := 2) h dX4_seenFlies_38 39 rfl rfl rfl ?_
    refine ss_iconst h dX4_seenFlies_39 40 rfl ?_
    refine ss_isub h dX4_seenFlies_40 41 rfl ?_
    refine ss_cVv h (m_pondAt hM (d := d - 1) hd (by omega) (by omega) (by omega)) (lw_V q1390 q1392 qs64 q87 q1393) kl4 hM.ob 2 rfl md_X4_pondAt rfl (by omega) (by decide) rfl dX4_seenFlies_41 44 rfl rfl (Nat.le_of_ble_eq_true rfl) (by omega) (by omega) ?_
    refine ss_aload_n (i := 0) h dX4_seenFlies_44 45 rfl rfl rfl ?_
    refine ss_iload_n (i := 1) h dX4_seenFlies_45 46 rfl rfl rfl ?_
    refine ss_iconst h dX4_seenFlies_46 47 rfl ?_
    refine ss_iadd h dX4_seenFlies_47 48 rfl ?_
    refine ss_iload_n (i := 2) h dX4_seenFlies_48 49 rfl rfl rfl ?_
    refine ss_cVv h (m_pondAt hM (d := d - 1) hd (by omega) (by omega) (by omega)) (lw_V q1390 q1392 qs64 q87 q1393) kl4 hM.ob 2 rfl md_X4_pondAt rfl (by omega) (by decide) rfl dX4_seenFlies_49 52 rfl rfl (Nat.le_of_ble_eq_true rfl) (by omega) (by omega) ?_
    refine ss_iadd h dX4_seenFlies_52 53 rfl ?_
    refine ss_aload_n (i := 0) h dX4_seenFlies_53 54 rfl rfl rfl ?_
    refine ss_iload_n (i := 1) h dX4_seenFlies_54 55 rfl rfl rfl ?_
    refine ss_iload_n (i := 2) h dX4_seenFlies_55 56 rfl rfl rfl ?_
    refine ss_iconst h dX4_seenFlies_56 57 rfl ?_
    refine ss_iadd h dX4_seenFlies_57 58 rfl ?_
    refine ss_cVv h (m_pondAt hM (d := d - 1) hd (by omega) (by omega) (by omega)) (lw_V q1390 q1392 qs64 q87 q1393) kl4 hM.ob 2 rfl md_X4_pondAt rfl (by omega) (by decide) rfl dX4_seenFlies_58 61 rfl rfl (Nat.le_of_ble_eq_true rfl) (by omega) (by omega) ?_
    refine ss_iadd h dX4_seenFlies_61 62 rfl ?_
    refine ss_aload_n (i := 0) h dX4_seenFlies_62 63 rfl rfl rfl ?_
    refine ss_iload_n (i := 1) h dX4_seenFlies_63 64 rfl rfl rfl ?_
    refine ss_iconst h dX4_seenFlies_64 65 rfl ?_
    refine ss_isub h dX4_seenFlies_65 66 rfl ?_
    refine ss_iload_n (i := 2) h dX4_seenFlies_66 67 rfl rfl rfl ?_
    refine ss_cVv h (m_pondAt hM (d := d - 1) hd (by omega) (by omega) (by omega)) (lw_V q1390 q1392 qs64 q87 q1393) kl4 hM.ob 2 rfl md_X4_pondAt rfl (by omega) (by decide) rfl dX4_seenFlies_67 70 rfl rfl (Nat.le_of_ble_eq_true rfl) (by omega) (by omega) ?_
    refine ss_iadd h dX4_seenFlies_70 71 rfl ?_
    refine ss_imul h dX4_seenFlies_71 72 rfl ?_
    refine ss_iadd h dX4_seenFlies_72 73 rfl ?_
    refine ss_iret h dX4_seenFlies_73 (by omega) (by omega) ?_
    rw [hP9]
    exact ⟨by simp [seenS, *], rfl, rfl, rfl, rfl⟩
  · skip
    replace c6 := bI_0.mp c6
    refine ss_iconst h dX4_seenFlies_9 10 rfl ?_
    refine ss_iret h dX4_seenFlies_10 (by omega) (by omega) ?_
    rw [hP9]
    exact ⟨by simp [seenS, *], rfl, rfl, rfl, rfl⟩
theorem m_both {u a b : Int} (h1 : 13 ≤ u ∧ u ≤ 22) (h2 : u ≠ 16 ∧ u ≠ 20) (h3 : sRg a) (h4 : sRg b) : sCt Ω yX4_both cX4_both 3 (some .int) d 0 0 [vI u, vI a, vI b] n K X R (pV n K X R (some (vI (bothS u a b)))) := by
  refine sCt_of (by decide) (by simp [Value.category, vI, va_rf]) (Nat.le_of_ble_eq_true rfl) fun Γ P9 hP9 h => ?_
  show sG (_, _, _, _, _) Γ 0 0 _ _ _ _ 0 [some _, some _, some _] []
  refine ss_iload_n (i := 0) h dX4_both_0 1 rfl rfl rfl ?_
  have hu : u = 13 ∨ u = 14 ∨ u = 15 ∨ u = 17 ∨ u = 18 ∨ u = 19 ∨ u = 21 ∨ u = 22 := by omega
  rcases hu with rfl | rfl | rfl | rfl | rfl | rfl | rfl | rfl
  · refine ss_sw (off := 51) h dX4_both_1 52 (by omega) (by omega) (by omega) rfl (by decide) ?_
    refine ss_iload_n (i := 1) h dX4_both_52 53 rfl rfl rfl ?_
    refine ss_iload_n (i := 2) h dX4_both_53 54 rfl rfl rfl ?_
    refine ss_iadd h dX4_both_54 55 rfl ?_
    refine ss_iret h dX4_both_55 (by omega) (by omega) ?_
    rw [hP9]
    exact ⟨by rw [show bothS 13 a b = sWr (a + b) from rfl, vI_wr], rfl, rfl, rfl, rfl⟩
  · refine ss_sw (off := 55) h dX4_both_1 56 (by omega) (by omega) (by omega) rfl (by decide) ?_
    refine ss_iload_n (i := 1) h dX4_both_56 57 rfl rfl rfl ?_
    refine ss_iload_n (i := 2) h dX4_both_57 58 rfl rfl rfl ?_
    refine ss_isub h dX4_both_58 59 rfl ?_
    refine ss_iret h dX4_both_59 (by omega) (by omega) ?_
    rw [hP9]
    exact ⟨by rw [show bothS 14 a b = sWr (a - b) from rfl, vI_wr], rfl, rfl, rfl, rfl⟩
  · refine ss_sw (off := 59) h dX4_both_1 60 (by omega) (by omega) (by omega) rfl (by decide) ?_
    refine ss_iload_n (i := 1) h dX4_both_60 61 rfl rfl rfl ?_
    refine ss_iload_n (i := 2) h dX4_both_61 62 rfl rfl rfl ?_
    refine ss_imul h dX4_both_62 63 rfl ?_
    refine ss_iret h dX4_both_63 (by omega) (by omega) ?_
    rw [hP9]
    exact ⟨by rw [show bothS 15 a b = sWr (a * b) from rfl, vI_wr], rfl, rfl, rfl, rfl⟩
  · refine ss_sw (off := 63) h dX4_both_1 64 (by omega) (by omega) (by omega) rfl (by decide) ?_
    refine ss_iload_n (i := 1) h dX4_both_64 65 rfl rfl rfl ?_
    refine ss_iload_n (i := 2) h dX4_both_65 66 rfl rfl rfl ?_
    refine ss_icmp_ge h dX4_both_66 69 73 rfl (by decide) (by first | omega | exact sRg_b _) (by first | omega | exact sRg_b _) (fun c66 => ?_) (fun c66 => ?_)
    · skip
      refine ss_iconst h dX4_both_73 74 rfl ?_
      refine ss_iret h dX4_both_74 (by omega) (by omega) ?_
      rw [hP9]
      exact ⟨vI_c (by unfold bothS; simp; omega), rfl, rfl, rfl, rfl⟩
    · skip
      refine ss_iconst h dX4_both_69 70 rfl ?_
      refine ss_goto h dX4_both_70 74 (by decide) ?_
      refine ss_iret h dX4_both_74 (by omega) (by omega) ?_
      rw [hP9]
      exact ⟨vI_c (by unfold bothS; simp; omega), rfl, rfl, rfl, rfl⟩
  · refine ss_sw (off := 74) h dX4_both_1 75 (by omega) (by omega) (by omega) rfl (by decide) ?_
    refine ss_iload_n (i := 1) h dX4_both_75 76 rfl rfl rfl ?_
    refine ss_iload_n (i := 2) h dX4_both_76 77 rfl rfl rfl ?_
    refine ss_icmp_ne h dX4_both_77 80 84 rfl (by decide) (by first | omega | exact sRg_b _) (by first | omega | exact sRg_b _) (fun c77 => ?_) (fun c77 => ?_)
    · skip
      refine ss_iconst h dX4_both_84 85 rfl ?_
      refine ss_iret h dX4_both_85 (by omega) (by omega) ?_
      rw [hP9]
      exact ⟨vI_c (by unfold bothS; simp; omega), rfl, rfl, rfl, rfl⟩
    · skip
      refine ss_iconst h dX4_both_80 81 rfl ?_
      refine ss_goto h dX4_both_81 85 (by decide) ?_
      refine ss_iret h dX4_both_85 (by omega) (by omega) ?_
      rw [hP9]
      exact ⟨vI_c (by unfold bothS; simp; omega), rfl, rfl, rfl, rfl⟩
  · refine ss_sw (off := 85) h dX4_both_1 86 (by omega) (by omega) (by omega) rfl (by decide) ?_
    refine ss_iload_n (i := 1) h dX4_both_86 87 rfl rfl rfl ?_
    refine ss_iload_n (i := 2) h dX4_both_87 88 rfl rfl rfl ?_
    refine ss_icmp_le h dX4_both_88 91 95 rfl (by decide) (by first | omega | exact sRg_b _) (by first | omega | exact sRg_b _) (fun c88 => ?_) (fun c88 => ?_)
    · skip
      refine ss_iconst h dX4_both_95 96 rfl ?_
      refine ss_iret h dX4_both_96 (by omega) (by omega) ?_
      rw [hP9]
      exact ⟨vI_c (by unfold bothS; simp; omega), rfl, rfl, rfl, rfl⟩
    · skip
      refine ss_iconst h dX4_both_91 92 rfl ?_
      refine ss_goto h dX4_both_92 96 (by decide) ?_
      refine ss_iret h dX4_both_96 (by omega) (by omega) ?_
      rw [hP9]
      exact ⟨vI_c (by unfold bothS; simp; omega), rfl, rfl, rfl, rfl⟩
  · refine ss_sw (off := 96) h dX4_both_1 97 (by omega) (by omega) (by omega) rfl (by decide) ?_
    refine ss_iload_n (i := 1) h dX4_both_97 98 rfl rfl rfl ?_
    refine ss_iload_n (i := 2) h dX4_both_98 99 rfl rfl rfl ?_
    refine ss_iand h dX4_both_99 100 rfl (sI_of _).symm ?_
    refine ss_iret h dX4_both_100 (by omega) (by omega) ?_
    rw [hP9]
    exact ⟨rfl, rfl, rfl, rfl, rfl⟩
  · refine ss_swd h dX4_both_1 101 (by omega) (by omega) (by decide) ?_
    refine ss_iload_n (i := 1) h dX4_both_101 102 rfl rfl rfl ?_
    refine ss_iload_n (i := 2) h dX4_both_102 103 rfl rfl rfl ?_
    refine ss_ior h dX4_both_103 104 rfl (sI_of _).symm ?_
    refine ss_iret h dX4_both_104 (by omega) (by omega) ?_
    rw [hP9]
    exact ⟨rfl, rfl, rfl, rfl, rfl⟩
theorem m_comesTo (hM : MOk Ω n K R m) {k b e : Int} (h1 : 0 ≤ k ∧ k ≤ 3) (h2 : 0 ≤ b ∧ b ≤ e ∧ e ≤ 410) (hok : okC (codeL (X (m + 1)) k b e) 0 1) (hl : 1 ≤ d) : sCt Ω yX4_comesTo cX4_comesTo 8 (some .int) d 0 0 [.ref m, vI k, vI b, vI e] n K X R (pA n K R (vI (evL (X (m + 1)) k b e (X (m + 9)))) (fun X' => ∃ g, X' = sArr X (m + 8) g)) := by
  refine sCt_of (by decide) (by simp [Value.category, vI, va_rf]) (Nat.le_of_ble_eq_true rfl) fun Γ P9 hP9 h => ?_
  show sG (_, _, _, _, _) Γ 0 0 _ _ _ _ 0 [some _, some _, some _, some _, none, none, none, none] []
  refine ss_rg fun hrg => ?_
  refine ss_iconst h dX4_comesTo_0 1 rfl ?_
  refine ss_ist_4 h dX4_comesTo_1 3 rfl ?_
  refine ss_iload_n (i := 2) h dX4_comesTo_3 4 rfl rfl rfl ?_
  refine ss_ist_5 h dX4_comesTo_4 6 rfl ?_
  refine ss_X (X' := sArr X (m + 8) (X (m + 8))) sArr_id.symm ?_
  refine ss_kl_6 (ss_kl_7 ?_)
  refine ss_loop (σ := Int × Nat × WT) (Pp := fun s => sG _ Γ 0 0 n K (sArr X (m + 8) s.2.2) R 6 [some (.ref m), some (vI k), some (vI b), some (vI e), some (vI s.2.1), some (vI s.1), none, none] []) (I := fun s => (b ≤ s.1 ∧ s.1 ≤ e) ∧ (s.2.1 : Int) ≤ s.1 - b ∧ okC (codeL (X (m + 1)) k s.1 e) s.2.1 1 ∧ runC (codeL (X (m + 1)) k s.1 e) (X (m + 9)) (stk s.2.2 s.2.1) = runC (codeL (X (m + 1)) k b e) (X (m + 9)) []) (fun s => (e - s.1).toNat) (fun s hs ih => ?_) (b, 0, X (m + 8)) ⟨by dsimp only; omega, by dsimp only; omega, hok, rfl⟩
  obtain ⟨i, t, g⟩ := s
  dsimp only at hs ih ⊢
  obtain ⟨hi, ht, ho, hrun⟩ := hs
  have e1 : sArr X (m + 8) g (m + 1) = X (m + 1) := sArr_n (by omega)
  have e8 : sArr X (m + 8) g (m + 8) = g := sArr_s
  have e9 : sArr X (m + 8) g (m + 9) = X (m + 9) := sArr_n (by omega)
  refine ss_rg fun hrg' => ?_
  have hg := hrg' (m + 8)
  rw [e8] at hg
  refine ss_iload h dX4_comesTo_6 8 rfl rfl ?_
  refine ss_iload_n (i := 3) h dX4_comesTo_8 9 rfl rfl rfl ?_
  refine ss_icmp_ge h dX4_comesTo_9 12 186 rfl (by decide) (by first | omega | exact sRg_b _) (by first | omega | exact sRg_b _) (fun c9 => ?_) (fun c9 => ?_)
  · skip
    rw [codeL_nil (by omega)] at ho hrun
    have ht1 : t = 1 := ho
    subst ht1
    refine ss_aload_n (i := 0) h dX4_comesTo_186 187 rfl rfl rfl ?_
    refine ss_getS h kl4 10 10 rfl (by decide) rfl hM.ob q1097 dX4_comesTo_187 190 rfl hM.r_pile ?_
    refine ss_iconst h dX4_comesTo_190 191 rfl ?_
    refine ss_iald h hM.k_pile (by decide) (by omega) dX4_comesTo_191 192 rfl ?_
    refine ss_iret h dX4_comesTo_192 (by omega) (by omega) ?_
    rw [hP9]
    exact ⟨by rw [e8]; unfold evL; rw [← hrun]; rfl, rfl, rfl, rfl, g, rfl⟩
  · skip
    have hb : i < e := by omega
    rw [codeL_cons hb] at ho hrun
    refine ss_aload_n (i := 0) h dX4_comesTo_12 13 rfl rfl rfl ?_
    refine ss_getS h kl4 0 0 rfl (by decide) rfl hM.ob q1087 dX4_comesTo_13 16 rfl hM.r_w ?_
    refine ss_sipush h dX4_comesTo_16 19 rfl (by decide +kernel) ?_
    refine ss_sipush h dX4_comesTo_19 22 rfl (by decide +kernel) ?_
    refine ss_iload_n (i := 1) h dX4_comesTo_22 23 rfl rfl rfl ?_
    refine ss_imul h dX4_comesTo_23 24 rfl ?_
    refine ss_iadd h dX4_comesTo_24 25 rfl ?_
    refine ss_iconst h dX4_comesTo_25 26 rfl ?_
    refine ss_iload h dX4_comesTo_26 28 rfl rfl ?_
    refine ss_imul h dX4_comesTo_28 29 rfl ?_
    refine ss_iadd h dX4_comesTo_29 30 rfl ?_
    refine ss_iald h hM.k_w (by decide) (by omega) dX4_comesTo_30 31 rfl ?_
    rw [e1]
    obtain ⟨u, hu⟩ : ∃ u, u = X (m + 1) (2200 + 820 * k + 2 * i) := ⟨_, rfl⟩
    rw [← hu] at ho hrun ⊢
    have hur : sRg u := by rw [hu]; exact hrg _ _
    refine ss_ist_6 h dX4_comesTo_31 33 rfl ?_
    refine ss_aload_n (i := 0) h dX4_comesTo_33 34 rfl rfl rfl ?_
    refine ss_getS h kl4 0 0 rfl (by decide) rfl hM.ob q1087 dX4_comesTo_34 37 rfl hM.r_w ?_
    refine ss_sipush h dX4_comesTo_37 40 rfl (by decide +kernel) ?_
    refine ss_sipush h dX4_comesTo_40 43 rfl (by decide +kernel) ?_
    refine ss_iload_n (i := 1) h dX4_comesTo_43 44 rfl rfl rfl ?_
    refine ss_imul h dX4_comesTo_44 45 rfl ?_
    refine ss_iadd h dX4_comesTo_45 46 rfl ?_
    refine ss_iconst h dX4_comesTo_46 47 rfl ?_
    refine ss_iload h dX4_comesTo_47 49 rfl rfl ?_
    refine ss_imul h dX4_comesTo_49 50 rfl ?_
    refine ss_iadd h dX4_comesTo_50 51 rfl ?_
    refine ss_iconst h dX4_comesTo_51 52 rfl ?_
    refine ss_iadd h dX4_comesTo_52 53 rfl ?_
    refine ss_iald h hM.k_w (by decide) (by omega) dX4_comesTo_53 54 rfl ?_
    rw [e1]
    obtain ⟨v, hv⟩ : ∃ v, v = X (m + 1) (2200 + 820 * k + 2 * i + 1) := ⟨_, rfl⟩
    rw [← hv] at ho hrun ⊢
    have hvr : sRg v := by rw [hv]; exact hrg _ _
    unfold okC at ho
    rw [show runC ((u, v) :: codeL (X (m + 1)) k (i + 1) e) (X (m + 9)) (stk g t) = runC (codeL (X (m + 1)) k (i + 1) e) (X (m + 9)) (stepC u v (X (m + 9)) (stk g t)) from rfl] at hrun
    unfold stepC at hrun
    refine ss_ist_7 h dX4_comesTo_54 56 rfl ?_
    refine ss_iload h dX4_comesTo_56 58 rfl rfl ?_
    refine ss_bipush h dX4_comesTo_58 60 rfl (by decide +kernel) ?_
    refine ss_icmp_ge h dX4_comesTo_60 63 93 rfl (by decide) (by first | omega | exact sRg_b _) (by first | omega | exact sRg_b _) (fun c60 => ?_) (fun c60 => ?_)
    · skip
      rw [if_neg (show ¬ u < 13 by omega)] at ho hrun
      refine ss_iload h dX4_comesTo_93 95 rfl rfl ?_
      refine ss_bipush h dX4_comesTo_95 97 rfl (by decide +kernel) ?_
      refine ss_icmp_ne h dX4_comesTo_97 100 117 rfl (by decide) (by first | omega | exact sRg_b _) (by first | omega | exact sRg_b _) (fun c97 => ?_) (fun c97 => ?_)
      · skip
        rw [if_neg c97] at ho hrun
        refine ss_iload h dX4_comesTo_117 119 rfl rfl ?_
        refine ss_bipush h dX4_comesTo_119 121 rfl (by decide +kernel) ?_
        refine ss_icmp_ne h dX4_comesTo_121 124 147 rfl (by decide) (by first | omega | exact sRg_b _) (by first | omega | exact sRg_b _) (fun c121 => ?_) (fun c121 => ?_)
        · skip
          rw [if_neg c121] at ho hrun
          obtain ⟨t', rfl⟩ : ∃ t', t = t' + 2 := ⟨t - 2, by omega⟩
          have et : ((t' + 1 : Nat) : Int) - 1 = (t' : Int) := by omega
          refine ss_inc_4 h dX4_comesTo_147 150 rfl ?_
          rw [show ((t' + 2 : Nat) : Int) + -1 = ((t' + 1 : Nat) : Int) by omega]
          refine ss_aload_n (i := 0) h dX4_comesTo_150 151 rfl rfl rfl ?_
          refine ss_getS h kl4 10 10 rfl (by decide) rfl hM.ob q1097 dX4_comesTo_151 154 rfl hM.r_pile ?_
          refine ss_iload h dX4_comesTo_154 156 rfl rfl ?_
          refine ss_iconst h dX4_comesTo_156 157 rfl ?_
          refine ss_isub h dX4_comesTo_157 158 rfl ?_
          rw [et]
          refine ss_iload h dX4_comesTo_158 160 rfl rfl ?_
          refine ss_aload_n (i := 0) h dX4_comesTo_160 161 rfl rfl rfl ?_
          refine ss_getS h kl4 10 10 rfl (by decide) rfl hM.ob q1097 dX4_comesTo_161 164 rfl hM.r_pile ?_
          refine ss_iload h dX4_comesTo_164 166 rfl rfl ?_
          refine ss_iconst h dX4_comesTo_166 167 rfl ?_
          refine ss_isub h dX4_comesTo_167 168 rfl ?_
          rw [et]
          refine ss_iald h hM.k_pile (by decide) (by omega) dX4_comesTo_168 169 rfl ?_
          rw [e8]
          refine ss_aload_n (i := 0) h dX4_comesTo_169 170 rfl rfl rfl ?_
          refine ss_getS h kl4 10 10 rfl (by decide) rfl hM.ob q1097 dX4_comesTo_170 173 rfl hM.r_pile ?_
          refine ss_iload h dX4_comesTo_173 175 rfl rfl ?_
          refine ss_iald h hM.k_pile (by decide) (by omega) dX4_comesTo_175 176 rfl ?_
          rw [e8]
          refine ss_cSv h (m_both (d := d - 1) (by omega) (by omega) (hg _) (hg _)) (lw_S q1405 q1406 q87 q1407) 3 rfl md_X4_both (by omega) (by decide) rfl dX4_comesTo_176 179 rfl rfl (Nat.le_of_ble_eq_true rfl) (by omega) (by omega) ?_
          refine ss_iast h hM.k_pile (by decide) (by omega) (bothS_rg _ _ _) dX4_comesTo_179 180 rfl ?_
          try have fin := ih (i + 1, t' + 1, upW g t' (bothS u (g t') (g ((t' + 1 : Nat) : Int)))) ⟨by dsimp only; omega, by dsimp only; omega, ho.2, by dsimp only; rw [stk_push]; exact hrun⟩ (by dsimp only; omega)
          refine ss_inc_5 h dX4_comesTo_180 183 rfl ?_
          refine ss_goto h dX4_comesTo_183 6 (by decide) ?_
          refine ss_kl_6 (ss_kl_7 ?_)
          refine ss_X ?_ fin
          rw [sArr_sUp]
        · skip
          rw [if_pos c121] at ho hrun
          obtain ⟨t', rfl⟩ : ∃ t', t = t' + 1 := ⟨t - 1, by omega⟩
          have et : ((t' + 1 : Nat) : Int) - 1 = (t' : Int) := by omega
          refine ss_aload_n (i := 0) h dX4_comesTo_124 125 rfl rfl rfl ?_
          refine ss_getS h kl4 10 10 rfl (by decide) rfl hM.ob q1097 dX4_comesTo_125 128 rfl hM.r_pile ?_
          refine ss_iload h dX4_comesTo_128 130 rfl rfl ?_
          refine ss_iconst h dX4_comesTo_130 131 rfl ?_
          refine ss_isub h dX4_comesTo_131 132 rfl ?_
          rw [et]
          refine ss_iconst h dX4_comesTo_132 133 rfl ?_
          refine ss_aload_n (i := 0) h dX4_comesTo_133 134 rfl rfl rfl ?_
          refine ss_getS h kl4 10 10 rfl (by decide) rfl hM.ob q1097 dX4_comesTo_134 137 rfl hM.r_pile ?_
          refine ss_iload h dX4_comesTo_137 139 rfl rfl ?_
          refine ss_iconst h dX4_comesTo_139 140 rfl ?_
          refine ss_isub h dX4_comesTo_140 141 rfl ?_
          rw [et]
          refine ss_iald h hM.k_pile (by decide) (by omega) dX4_comesTo_141 142 rfl ?_
          rw [e8]
          refine ss_isub h dX4_comesTo_142 143 rfl ?_
          refine ss_wr ?_
          refine ss_iast h hM.k_pile (by decide) (by omega) (sWr_rg _) dX4_comesTo_143 144 rfl ?_
          have fin := ih (i + 1, t' + 1, upW g t' (sWr (1 - g t'))) ⟨by dsimp only; omega, by dsimp only; omega, ho.2, by dsimp only; rw [stk_push]; exact hrun⟩ (by dsimp only; omega)
          refine ss_goto h dX4_comesTo_144 180 (by decide) ?_
          try have fin := ih (i + 1, t' + 1, upW g t' (bothS u (g t') (g ((t' + 1 : Nat) : Int)))) ⟨by dsimp only; omega, by dsimp only; omega, ho.2, by dsimp only; rw [stk_push]; exact hrun⟩ (by dsimp only; omega)
          refine ss_inc_5 h dX4_comesTo_180 183 rfl ?_
          refine ss_goto h dX4_comesTo_183 6 (by decide) ?_
          refine ss_kl_6 (ss_kl_7 ?_)
          refine ss_X ?_ fin
          rw [sArr_sUp]
      · skip
        rw [if_pos c97] at ho hrun
        obtain ⟨t', rfl⟩ : ∃ t', t = t' + 1 := ⟨t - 1, by omega⟩
        have et : ((t' + 1 : Nat) : Int) - 1 = (t' : Int) := by omega
        refine ss_aload_n (i := 0) h dX4_comesTo_100 101 rfl rfl rfl ?_
        refine ss_getS h kl4 10 10 rfl (by decide) rfl hM.ob q1097 dX4_comesTo_101 104 rfl hM.r_pile ?_
        refine ss_iload h dX4_comesTo_104 106 rfl rfl ?_
        refine ss_iconst h dX4_comesTo_106 107 rfl ?_
        refine ss_isub h dX4_comesTo_107 108 rfl ?_
        rw [et]
        refine ss_dup2 h dX4_comesTo_108 109 rfl rfl rfl ?_
        refine ss_iald h hM.k_pile (by decide) (by omega) dX4_comesTo_109 110 rfl ?_
        rw [e8]
        refine ss_iload h dX4_comesTo_110 112 rfl rfl ?_
        refine ss_idiv h dX4_comesTo_112 113 rfl (hg _) hvr ho.1.2 ?_
        refine ss_wr ?_
        refine ss_iast h hM.k_pile (by decide) (by omega) (sWr_rg _) dX4_comesTo_113 114 rfl ?_
        have fin := ih (i + 1, t' + 1, upW g t' (sWr ((g t').tdiv v))) ⟨by dsimp only; omega, by dsimp only; omega, ho.2, by dsimp only; rw [stk_push]; exact hrun⟩ (by dsimp only; omega)
        refine ss_goto h dX4_comesTo_114 180 (by decide) ?_
        try have fin := ih (i + 1, t' + 1, upW g t' (bothS u (g t') (g ((t' + 1 : Nat) : Int)))) ⟨by dsimp only; omega, by dsimp only; omega, ho.2, by dsimp only; rw [stk_push]; exact hrun⟩ (by dsimp only; omega)
        refine ss_inc_5 h dX4_comesTo_180 183 rfl ?_
        refine ss_goto h dX4_comesTo_183 6 (by decide) ?_
        refine ss_kl_6 (ss_kl_7 ?_)
        refine ss_X ?_ fin
        rw [sArr_sUp]
    · skip
      rw [if_pos (show u < 13 by omega)] at ho hrun
      refine ss_aload_n (i := 0) h dX4_comesTo_63 64 rfl rfl rfl ?_
      refine ss_getS h kl4 10 10 rfl (by decide) rfl hM.ob q1097 dX4_comesTo_64 67 rfl hM.r_pile ?_
      refine ss_iload h dX4_comesTo_67 69 rfl rfl ?_
      refine ss_iload h dX4_comesTo_69 71 rfl rfl ?_
      refine ss_if_ne h dX4_comesTo_71 74 79 rfl (by decide) (by first | omega | exact sRg_b _) (fun c71 => ?_) (fun c71 => ?_)
      · skip
        refine ss_aload_n (i := 0) h dX4_comesTo_79 80 rfl rfl rfl ?_
        refine ss_getS h kl4 11 11 rfl (by decide) rfl hM.ob q1098 dX4_comesTo_80 83 rfl hM.r_facts ?_
        refine ss_iload h dX4_comesTo_83 85 rfl rfl ?_
        refine ss_iald h hM.k_facts (by decide) (by omega) dX4_comesTo_85 86 rfl ?_
        refine ss_st (st' := vI (if u = 0 then v else X (m + 9) u) :: vI (t : Int) :: .ref (m + 8) :: []) (by first | rw [if_pos c71] | rw [if_neg c71, e9]) ?_
        refine ss_iast h hM.k_pile (by decide) (by omega) (sRg_ite hvr (hrg _ _)) dX4_comesTo_86 87 rfl ?_
        refine ss_inc_4 h dX4_comesTo_87 90 rfl ?_
        have fin := ih (i + 1, t + 1, upW g t (if u = 0 then v else X (m + 9) u)) ⟨by dsimp only; omega, by dsimp only; omega, ho.2, by dsimp only; rw [stk_push]; exact hrun⟩ (by dsimp only; omega)
        refine ss_goto h dX4_comesTo_90 180 (by decide) ?_
        try have fin := ih (i + 1, t' + 1, upW g t' (bothS u (g t') (g ((t' + 1 : Nat) : Int)))) ⟨by dsimp only; omega, by dsimp only; omega, ho.2, by dsimp only; rw [stk_push]; exact hrun⟩ (by dsimp only; omega)
        refine ss_inc_5 h dX4_comesTo_180 183 rfl ?_
        refine ss_goto h dX4_comesTo_183 6 (by decide) ?_
        refine ss_kl_6 (ss_kl_7 ?_)
        refine ss_X ?_ fin
        rw [sArr_sUp]
      · skip
        refine ss_iload h dX4_comesTo_74 76 rfl rfl ?_
        refine ss_goto h dX4_comesTo_76 86 (by decide) ?_
        refine ss_st (st' := vI (if u = 0 then v else X (m + 9) u) :: vI (t : Int) :: .ref (m + 8) :: []) (by first | rw [if_pos c71] | rw [if_neg c71, e9]) ?_
        refine ss_iast h hM.k_pile (by decide) (by omega) (sRg_ite hvr (hrg _ _)) dX4_comesTo_86 87 rfl ?_
        refine ss_inc_4 h dX4_comesTo_87 90 rfl ?_
        have fin := ih (i + 1, t + 1, upW g t (if u = 0 then v else X (m + 9) u)) ⟨by dsimp only; omega, by dsimp only; omega, ho.2, by dsimp only; rw [stk_push]; exact hrun⟩ (by dsimp only; omega)
        refine ss_goto h dX4_comesTo_90 180 (by decide) ?_
        try have fin := ih (i + 1, t' + 1, upW g t' (bothS u (g t') (g ((t' + 1 : Nat) : Int)))) ⟨by dsimp only; omega, by dsimp only; omega, ho.2, by dsimp only; rw [stk_push]; exact hrun⟩ (by dsimp only; omega)
        refine ss_inc_5 h dX4_comesTo_180 183 rfl ?_
        refine ss_goto h dX4_comesTo_183 6 (by decide) ?_
        refine ss_kl_6 (ss_kl_7 ?_)
        refine ss_X ?_ fin
        rw [sArr_sUp]
end M3

