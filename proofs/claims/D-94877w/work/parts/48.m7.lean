/-! ===== the twin: counties ===== -/
section M7
variable {Ω : OmT} {n : Nat} {K : KT} {X : XT} {R : RT} {m : Nat} {d : Nat}
theorem m_isOpen (hM : MOk Ω n K R m) {x y u : Int} (hd : Dim (X (m + 1))) (h1 : placeB (X (m + 1)) x y = true) (h2 : 0 ≤ u ∧ u ≤ 3) (hl : 2 ≤ d) : sCt Ω yX4_isOpen cX4_isOpen 5 (some .boolean) d 0 0 [.ref m, vI x, vI y, vI u] n K X R (pV n K X R (some (vI (bI (openB (X (m + 1)) x y u))))) := by
  have hd' := hd
  unfold Dim at hd'
  have h1' := placeB_t.mp h1
  have hs := side_in hd h2 h1
  have ax := adX_in u
  have ay := adY_in u
  refine sCt_of (by decide) (by simp [Value.category, vI, va_rf]) (Nat.le_of_ble_eq_true rfl) fun Γ P9 hP9 h => ?_
  show sG (_, _, _, _, _) Γ 0 0 _ _ _ _ 0 [some _, some _, some _, some _, none] []
  refine ss_rg fun hrg => ?_
  refine ss_aload_n (i := 0) h dX4_isOpen_0 1 rfl rfl rfl ?_
  refine ss_iload_n (i := 1) h dX4_isOpen_1 2 rfl rfl rfl ?_
  refine ss_iload_n (i := 3) h dX4_isOpen_2 3 rfl rfl rfl ?_
  refine ss_cSv h (m_aheadX (d := d - 1) (by omega)) (lw_S q1380 q1381 q87 q1382) 1 rfl md_X4_aheadX (by omega) (by decide) rfl dX4_isOpen_3 6 rfl rfl (Nat.le_of_ble_eq_true rfl) (by omega) (by omega) ?_
  refine ss_iadd h dX4_isOpen_6 7 rfl ?_
  refine ss_iload_n (i := 2) h dX4_isOpen_7 8 rfl rfl rfl ?_
  refine ss_iload_n (i := 3) h dX4_isOpen_8 9 rfl rfl rfl ?_
  refine ss_cSv h (m_aheadY (d := d - 1) (by omega)) (lw_S q1383 q1384 q87 q1385) 1 rfl md_X4_aheadY (by omega) (by decide) rfl dX4_isOpen_9 12 rfl rfl (Nat.le_of_ble_eq_true rfl) (by omega) (by omega) ?_
  refine ss_iadd h dX4_isOpen_12 13 rfl ?_
  refine ss_cVv h (m_isPlace hM (d := d - 1) hd (by omega) (by omega) (by omega)) (lw_V q1218 q1220 qs41 q87 q1221) kl4 hM.ob 2 rfl md_X4_isPlace rfl (by omega) (by decide) rfl dX4_isOpen_13 16 rfl rfl (Nat.le_of_ble_eq_true rfl) (by omega) (by omega) ?_
  refine ss_if_ne h dX4_isOpen_16 19 21 rfl (by decide) (by first | omega | exact sRg_b _) (fun c16 => ?_) (fun c16 => ?_)
  · skip
    replace c16 := bI_1.mp c16
    refine ss_cut (σ := Int) (fun s => s = sideS x y u) 72 (fun s => X) (fun s => [some (.ref m), some (vI x), some (vI y), some (vI u), none]) (fun s => [vI s]) (fun s h72 => ?_) (fun J72 => ?_)
    · skip
      subst h72
      refine ss_ist_4 h dX4_isOpen_72 74 rfl ?_
      refine ss_aload_n (i := 0) h dX4_isOpen_74 75 rfl rfl rfl ?_
      refine ss_getS h kl4 0 0 rfl (by decide) rfl hM.ob q1087 dX4_isOpen_75 78 rfl hM.r_w ?_
      refine ss_sipush h dX4_isOpen_78 81 rfl (by decide +kernel) ?_
      refine ss_iload h dX4_isOpen_81 83 rfl rfl ?_
      refine ss_iadd h dX4_isOpen_83 84 rfl ?_
      refine ss_iald h hM.k_w (by decide) (by omega) dX4_isOpen_84 85 rfl ?_
      refine ss_iconst h dX4_isOpen_85 86 rfl ?_
      refine ss_icmp_ne h dX4_isOpen_86 89 93 rfl (by decide) (hrg _ _) (by omega) (fun c86 => ?_) (fun c86 => ?_)
      · skip
        refine ss_iconst h dX4_isOpen_93 94 rfl ?_
        refine ss_zret h (by first | omega | exact bI_z _) dX4_isOpen_94 (by omega) (by omega) ?_
        rw [hP9]
        exact ⟨vI_c (by unfold openB; rw [c16]; first | (rw [decide_eq_true c86]; rfl) | (rw [decide_eq_false c86]; rfl)), rfl, rfl, rfl, rfl⟩
      · skip
        refine ss_iconst h dX4_isOpen_89 90 rfl ?_
        refine ss_goto h dX4_isOpen_90 94 (by decide) ?_
        refine ss_zret h (by first | omega | exact bI_z _) dX4_isOpen_94 (by omega) (by omega) ?_
        rw [hP9]
        exact ⟨vI_c (by unfold openB; rw [c16]; first | (rw [decide_eq_true c86]; rfl) | (rw [decide_eq_false c86]; rfl)), rfl, rfl, rfl, rfl⟩
    refine ss_iload_n (i := 3) h dX4_isOpen_21 22 rfl rfl rfl ?_
    refine ss_if_ne h dX4_isOpen_22 25 34 rfl (by decide) (by first | omega | exact sRg_b _) (fun c22 => ?_) (fun c22 => ?_)
    · skip
      refine ss_iload_n (i := 3) h dX4_isOpen_34 35 rfl rfl rfl ?_
      refine ss_iconst h dX4_isOpen_35 36 rfl ?_
      refine ss_icmp_ne h dX4_isOpen_36 39 50 rfl (by decide) (by first | omega | exact sRg_b _) (by first | omega | exact sRg_b _) (fun c36 => ?_) (fun c36 => ?_)
      · skip
        refine ss_iload_n (i := 3) h dX4_isOpen_50 51 rfl rfl rfl ?_
        refine ss_iconst h dX4_isOpen_51 52 rfl ?_
        refine ss_icmp_ne h dX4_isOpen_52 55 66 rfl (by decide) (by first | omega | exact sRg_b _) (by first | omega | exact sRg_b _) (fun c52 => ?_) (fun c52 => ?_)
        · skip
          refine ss_iload_n (i := 1) h dX4_isOpen_66 67 rfl rfl rfl ?_
          refine ss_iload_n (i := 2) h dX4_isOpen_67 68 rfl rfl rfl ?_
          refine ss_iconst h dX4_isOpen_68 69 rfl ?_
          refine ss_cSv h (m_yardBy (d := d - 1) (by omega)) (lw_S q1394 q1395 q87 q1396) 3 rfl md_X4_yardBy (by omega) (by decide) rfl dX4_isOpen_69 72 rfl rfl (Nat.le_of_ble_eq_true rfl) (by omega) (by omega) ?_
          exact J72 _ (by unfold sideS; simp [*])
        · skip
          refine ss_iload_n (i := 1) h dX4_isOpen_55 56 rfl rfl rfl ?_
          refine ss_iload_n (i := 2) h dX4_isOpen_56 57 rfl rfl rfl ?_
          refine ss_iconst h dX4_isOpen_57 58 rfl ?_
          refine ss_iadd h dX4_isOpen_58 59 rfl ?_
          refine ss_iconst h dX4_isOpen_59 60 rfl ?_
          refine ss_cSv h (m_yardBy (d := d - 1) (by omega)) (lw_S q1394 q1395 q87 q1396) 3 rfl md_X4_yardBy (by omega) (by decide) rfl dX4_isOpen_60 63 rfl rfl (Nat.le_of_ble_eq_true rfl) (by omega) (by omega) ?_
          refine ss_goto h dX4_isOpen_63 72 (by decide) ?_
          exact J72 _ (by unfold sideS; simp [*])
      · skip
        refine ss_iload_n (i := 1) h dX4_isOpen_39 40 rfl rfl rfl ?_
        refine ss_iconst h dX4_isOpen_40 41 rfl ?_
        refine ss_iadd h dX4_isOpen_41 42 rfl ?_
        refine ss_iload_n (i := 2) h dX4_isOpen_42 43 rfl rfl rfl ?_
        refine ss_iconst h dX4_isOpen_43 44 rfl ?_
        refine ss_cSv h (m_yardBy (d := d - 1) (by omega)) (lw_S q1394 q1395 q87 q1396) 3 rfl md_X4_yardBy (by omega) (by decide) rfl dX4_isOpen_44 47 rfl rfl (Nat.le_of_ble_eq_true rfl) (by omega) (by omega) ?_
        refine ss_goto h dX4_isOpen_47 72 (by decide) ?_
        exact J72 _ (by unfold sideS; simp [*])
    · skip
      refine ss_iload_n (i := 1) h dX4_isOpen_25 26 rfl rfl rfl ?_
      refine ss_iload_n (i := 2) h dX4_isOpen_26 27 rfl rfl rfl ?_
      refine ss_iconst h dX4_isOpen_27 28 rfl ?_
      refine ss_cSv h (m_yardBy (d := d - 1) (by omega)) (lw_S q1394 q1395 q87 q1396) 3 rfl md_X4_yardBy (by omega) (by decide) rfl dX4_isOpen_28 31 rfl rfl (Nat.le_of_ble_eq_true rfl) (by omega) (by omega) ?_
      refine ss_goto h dX4_isOpen_31 72 (by decide) ?_
      exact J72 _ (by unfold sideS; simp [*])
  · skip
    replace c16 := bI_0.mp c16
    refine ss_iconst h dX4_isOpen_19 20 rfl ?_
    refine ss_zret h (by first | omega | exact bI_z _) dX4_isOpen_20 (by omega) (by omega) ?_
    rw [hP9]
    exact ⟨vI_c (by unfold openB; rw [c16]; rfl), rfl, rfl, rfl, rfl⟩
set_option maxHeartbeats 2000000 in
theorem m_spreads (hM : MOk Ω n K R m) {cell : Int} (hd : Dim (X (m + 1))) (h1 : cellB (X (m + 1)) cell = true) (h2 : X (m + 14) cell = -1) (hl : 3 ≤ d) : sCt Ω yX4_spreads cX4_spreads 8 none d 0 0 [.ref m, vI cell] n K X R (pN n K R (fun X' => X' (m + 15) = (sprS (X (m + 1)) cell (X (m + 15)) (X (m + 14))).1 ∧ X' (m + 14) = (sprS (X (m + 1)) cell (X (m + 15)) (X (m + 14))).2.1 ∧ sOff [14, 15] m X X')) := by
  obtain ⟨w, hw⟩ : ∃ w, w = X (m + 1) := ⟨_, rfl⟩
  rw [← hw] at hd h1 ⊢
  obtain ⟨c1, c2, -⟩ := cellB_t hd h1
  obtain ⟨FIN, hFIN⟩ : ∃ F, F = sprS w cell (X (m + 15)) (X (m + 14)) := ⟨_, rfl⟩
  rw [← hFIN]
  unfold sprS at hFIN
  refine sCt_of (by decide) (by simp [Value.category, vI, va_rf]) (Nat.le_of_ble_eq_true rfl) fun Γ P9 hP9 h => ?_
  show sG (_, _, _, _, _) Γ 0 0 _ _ _ _ 0 [some _, some _, none, none, none, none, none, none] []
  refine ss_iconst h dX4_spreads_0 1 rfl ?_
  refine ss_ist_2 h dX4_spreads_1 2 rfl ?_
  refine ss_aload_n (i := 0) h dX4_spreads_2 3 rfl rfl rfl ?_
  refine ss_getS h kl4 29 29 rfl (by decide) rfl hM.ob q1116 dX4_spreads_3 6 rfl hM.r_queue ?_
  refine ss_iload_n (i := 2) h dX4_spreads_6 7 rfl rfl rfl ?_
  refine ss_iload_n (i := 1) h dX4_spreads_7 8 rfl rfl rfl ?_
  refine ss_iast h hM.k_queue (by decide) (by omega) (by omega) dX4_spreads_8 9 rfl ?_
  refine ss_inc_2 h dX4_spreads_9 12 rfl ?_
  refine ss_aload_n (i := 0) h dX4_spreads_12 13 rfl rfl rfl ?_
  refine ss_getS h kl4 28 28 rfl (by decide) rfl hM.ob q1115 dX4_spreads_13 16 rfl hM.r_name ?_
  refine ss_iload_n (i := 1) h dX4_spreads_16 17 rfl rfl rfl ?_
  refine ss_iload_n (i := 1) h dX4_spreads_17 18 rfl rfl rfl ?_
  refine ss_iast h hM.k_name (by decide) (by omega) (by omega) dX4_spreads_18 19 rfl ?_
  refine ss_iconst h dX4_spreads_19 20 rfl ?_
  refine ss_ist_3 h dX4_spreads_20 21 rfl ?_
  refine ss_loop (σ := XT × Int × Int) (Pp := fun z => sG _ Γ 0 0 n K z.1 R 21 [some (.ref m), some (vI cell), some (vI z.2.2), some (vI z.2.1), none, none, none, none] []) (I := fun z => sOff [14, 15] m X z.1 ∧ (0 ≤ z.2.1 ∧ z.2.1 ≤ z.2.2) ∧ sprI w (z.1 (m + 15), z.1 (m + 14), z.2.2) ∧ sprF w cell (100 - z.2.1).toNat z.2.1 (z.1 (m + 15), z.1 (m + 14), z.2.2) = FIN) (fun z => (100 - z.2.1).toNat) (fun z hz ih => ?_) (sUp (sUp X (m + 15) 0 cell) (m + 14) cell cell, 0, 1) ⟨sOff_tr (sOff_up (by decide)) (sOff_up (by decide)), by dsimp only; omega, ?_, ?_⟩
  rotate_left
  · dsimp only
    rw [sUp_s, sUp_ne (show m + 15 ≠ m + 14 by omega), sUp_ne (show m + 14 ≠ m + 15 by omega), sUp_s]
    have := cntN_up (v := cell) c1 h2 (by omega) 100 (by omega)
    have := cntN_le (X (m + 14)) 100
    refine ⟨by dsimp only; omega, by dsimp only; omega, fun i i1 i2 => ?_⟩
    dsimp only at i2 ⊢
    rw [show i = 0 by omega, upW_s]
    exact h1
  · dsimp only
    rw [sUp_s, sUp_ne (show m + 15 ≠ m + 14 by omega), sUp_ne (show m + 14 ≠ m + 15 by omega), sUp_s]
    exact hFIN.symm
  obtain ⟨Y, i, e⟩ := z
  dsimp only at hz ih ⊢
  obtain ⟨ho, hi, hI, hF⟩ := hz
  have w1 : Y (m + 1) = w := by rw [sOff_at ho 1 (by decide), hw]
  have he : e ≤ 100 := by have := hI.2.1; dsimp only at this; omega
  refine ss_iload_n (i := 3) h dX4_spreads_21 22 rfl rfl rfl ?_
  refine ss_iload_n (i := 2) h dX4_spreads_22 23 rfl rfl rfl ?_
  refine ss_icmp_ge h dX4_spreads_23 26 140 rfl (by decide) (by first | omega | exact sRg_b _) (by first | omega | exact sRg_b _) (fun c23 => ?_) (fun c23 => ?_)
  · skip
    refine ss_vret h dX4_spreads_140 (by omega) (by omega) ?_
    rw [hP9]
    rw [sprF_end (show (Y (m + 15), Y (m + 14), e).2.2 ≤ i by dsimp only; omega)] at hF
    subst hF
    exact ⟨rfl, rfl, rfl, rfl, rfl, rfl, ho⟩
  · skip
    obtain ⟨f, hfe⟩ : ∃ f, (100 - i).toNat = f + 1 := ⟨(100 - i).toNat - 1, by omega⟩
    have hfe2 : f = (100 - (i + 1)).toNat := by omega
    rw [hfe] at hF
    unfold sprF at hF
    rw [if_pos (by dsimp only; omega)] at hF
    dsimp only at hF
    obtain ⟨c, hc⟩ : ∃ c, c = Y (m + 15) i := ⟨_, rfl⟩
    rw [← hc] at hF
    have hcc : cellB w c = true := by rw [hc]; exact hI.2.2 i (by omega) (by dsimp only; omega)
    obtain ⟨k1, k2, k3, k4⟩ := cellB_t hd hcc
    obtain ⟨-, hpl⟩ := cell_place hcc
    refine ss_aload_n (i := 0) h dX4_spreads_26 27 rfl rfl rfl ?_
    refine ss_getS h kl4 29 29 rfl (by decide) rfl hM.ob q1116 dX4_spreads_27 30 rfl hM.r_queue ?_
    refine ss_iload_n (i := 3) h dX4_spreads_30 31 rfl rfl rfl ?_
    refine ss_iald h hM.k_queue (by decide) (by omega) dX4_spreads_31 32 rfl ?_
    rw [← hc]
    refine ss_bipush h dX4_spreads_32 34 rfl (by decide +kernel) ?_
    refine ss_irem h dX4_spreads_34 35 rfl (by omega) (by omega) (by omega) ?_
    rw [tmod10 c k1]
    refine ss_ist_4 h dX4_spreads_35 37 rfl ?_
    refine ss_aload_n (i := 0) h dX4_spreads_37 38 rfl rfl rfl ?_
    refine ss_getS h kl4 29 29 rfl (by decide) rfl hM.ob q1116 dX4_spreads_38 41 rfl hM.r_queue ?_
    refine ss_iload_n (i := 3) h dX4_spreads_41 42 rfl rfl rfl ?_
    refine ss_iald h hM.k_queue (by decide) (by omega) dX4_spreads_42 43 rfl ?_
    rw [← hc]
    refine ss_bipush h dX4_spreads_43 45 rfl (by decide +kernel) ?_
    refine ss_idiv h dX4_spreads_45 46 rfl (by omega) (by omega) (by omega) ?_
    rw [tdiv10 c k1]
    refine ss_ist_5 h dX4_spreads_46 48 rfl ?_
    refine ss_iconst h dX4_spreads_48 49 rfl ?_
    refine ss_ist_6 h dX4_spreads_49 51 rfl ?_
    refine ss_loop (σ := XT × Nat × Int) (Pp := fun z => sG _ Γ 0 0 n K z.1 R 51 [some (.ref m), some (vI cell), some (vI z.2.2), some (vI i), some (vI (c % 10)), some (vI (c / 10)), some (vI z.2.1), none] []) (I := fun z => sOff [14, 15] m X z.1 ∧ z.2.1 ≤ 4 ∧ (z.1 (m + 15), z.1 (m + 14), z.2.2) = spr4 w cell c z.2.1 (Y (m + 15), Y (m + 14), e)) (fun z => 4 - z.2.1) (fun z hz il => ?_) (Y, 0, e) ⟨ho, by dsimp only; omega, rfl⟩
    obtain ⟨Z, u, e2⟩ := z
    dsimp only at hz il ⊢
    obtain ⟨zo, hu, hz⟩ := hz
    have zI : sprI w (Z (m + 15), Z (m + 14), e2) := by rw [hz]; exact spr4_I hd c1 hcc hI u hu
    have wz : Z (m + 1) = w := by rw [sOff_at zo 1 (by decide), hw]
    have he2 : 1 ≤ e2 ∧ e2 ≤ 100 := by have := zI.2.1; have := zI.1; dsimp only at *; omega
    refine ss_iload h dX4_spreads_51 53 rfl rfl ?_
    refine ss_iconst h dX4_spreads_53 54 rfl ?_
    refine ss_icmp_ge h dX4_spreads_54 57 134 rfl (by decide) (by first | omega | exact sRg_b _) (by first | omega | exact sRg_b _) (fun c54 => ?_) (fun c54 => ?_)
    · skip
      have hu4 : u = 4 := by omega
      subst hu4
      have fin2 := ih (Z, i + 1, e2) ⟨zo, by dsimp only; have := zI.2.1; have h5 := spr4_e w cell c (Y (m + 15), Y (m + 14), e) 4; rw [← hz] at h5; dsimp only at h5; omega, by dsimp only; exact zI, by dsimp only; rw [← hfe2, hz]; exact hF⟩ (by dsimp only; omega)
      refine ss_inc_3 h dX4_spreads_134 137 rfl ?_
      refine ss_goto h dX4_spreads_137 21 (by decide) ?_
      refine ss_kl_4 (ss_kl_5 (ss_kl_6 (ss_kl_7 ?_)))
      exact fin2
    · skip
      have hu3 : (0 : Int) ≤ u ∧ (u : Int) ≤ 3 := by omega
      have s1 : spr4 w cell c (u + 1) (Y (m + 15), Y (m + 14), e) = spr1 w cell c u (Z (m + 15), Z (m + 14), e2) := by rw [hz]; rfl
      unfold spr1 at s1
      dsimp only at s1
      have ax := adX_in u
      have ay := adY_in u
      refine ss_rg fun hrZ => ?_
      refine ss_aload_n (i := 0) h dX4_spreads_57 58 rfl rfl rfl ?_
      refine ss_iload h dX4_spreads_58 60 rfl rfl ?_
      refine ss_iload h dX4_spreads_60 62 rfl rfl ?_
      refine ss_iload h dX4_spreads_62 64 rfl rfl ?_
      refine ss_cVv h (m_isOpen hM (d := d - 1) (by rw [wz]; exact hd) (by rw [wz]; exact hpl) hu3 (by omega)) (lw_V q1428 q1430 qs72 q87 q1431) kl4 hM.ob 3 rfl md_X4_isOpen rfl (by omega) (by decide) rfl dX4_spreads_64 67 rfl rfl (Nat.le_of_ble_eq_true rfl) (by omega) (by omega) ?_
      rw [wz]
      refine ss_if_ne h dX4_spreads_67 70 73 rfl (by decide) (by first | omega | exact sRg_b _) (fun c67 => ?_) (fun c67 => ?_)
      · skip
        replace c67 := bI_1.mp c67
        have ho2 := c67
        unfold openB at ho2
        rw [Bool.and_eq_true] at ho2
        obtain ⟨n1, n2, n3, n4⟩ := open_next hd hcc hu3 ho2.1
        refine ss_bipush h dX4_spreads_73 75 rfl (by decide +kernel) ?_
        refine ss_iload h dX4_spreads_75 77 rfl rfl ?_
        refine ss_iload h dX4_spreads_77 79 rfl rfl ?_
        refine ss_cSv h (m_aheadY (d := d - 1) (by omega)) (lw_S q1383 q1384 q87 q1385) 1 rfl md_X4_aheadY (by omega) (by decide) rfl dX4_spreads_79 82 rfl rfl (Nat.le_of_ble_eq_true rfl) (by omega) (by omega) ?_
        refine ss_iadd h dX4_spreads_82 83 rfl ?_
        refine ss_imul h dX4_spreads_83 84 rfl ?_
        refine ss_iload h dX4_spreads_84 86 rfl rfl ?_
        refine ss_iadd h dX4_spreads_86 87 rfl ?_
        refine ss_iload h dX4_spreads_87 89 rfl rfl ?_
        refine ss_cSv h (m_aheadX (d := d - 1) (by omega)) (lw_S q1380 q1381 q87 q1382) 1 rfl md_X4_aheadX (by omega) (by decide) rfl dX4_spreads_89 92 rfl rfl (Nat.le_of_ble_eq_true rfl) (by omega) (by omega) ?_
        refine ss_iadd h dX4_spreads_92 93 rfl ?_
        rw [show 10 * (c / 10 + adY u) + c % 10 + adX u = nextS c u by rw [n4]; omega]
        refine ss_ist_7 h dX4_spreads_93 95 rfl ?_
        refine ss_aload_n (i := 0) h dX4_spreads_95 96 rfl rfl rfl ?_
        refine ss_getS h kl4 28 28 rfl (by decide) rfl hM.ob q1115 dX4_spreads_96 99 rfl hM.r_name ?_
        refine ss_iload h dX4_spreads_99 101 rfl rfl ?_
        refine ss_iald h hM.k_name (by decide) (by omega) dX4_spreads_101 102 rfl ?_
        refine ss_iconst h dX4_spreads_102 103 rfl ?_
        refine ss_icmp_eq h dX4_spreads_103 106 109 rfl (by decide) (hrZ _ _) (by omega) (fun c103 => ?_) (fun c103 => ?_)
        · skip
          rw [if_pos ⟨c67, c103⟩] at s1
          have hcn := cntN_up (v := cell) n2 c103 (by omega) 100 (by omega)
          have hzI := zI.2.1
          dsimp only at hzI
          have fin := il (sUp (sUp Z (m + 14) (nextS c u) cell) (m + 15) e2 (nextS c u), u + 1, e2 + 1) ⟨sOff_tr zo (sOff_tr (sOff_up (by decide)) (sOff_up (by decide))), by dsimp only; omega, by dsimp only; rw [s1, sUp_s, sUp_ne (show m + 15 ≠ m + 14 by omega), sUp_ne (show m + 14 ≠ m + 15 by omega), sUp_s]⟩ (by dsimp only; omega)
          refine ss_aload_n (i := 0) h dX4_spreads_109 110 rfl rfl rfl ?_
          refine ss_getS h kl4 28 28 rfl (by decide) rfl hM.ob q1115 dX4_spreads_110 113 rfl hM.r_name ?_
          refine ss_iload h dX4_spreads_113 115 rfl rfl ?_
          refine ss_iload_n (i := 1) h dX4_spreads_115 116 rfl rfl rfl ?_
          refine ss_iast h hM.k_name (by decide) (by omega) (by omega) dX4_spreads_116 117 rfl ?_
          refine ss_aload_n (i := 0) h dX4_spreads_117 118 rfl rfl rfl ?_
          refine ss_getS h kl4 29 29 rfl (by decide) rfl hM.ob q1116 dX4_spreads_118 121 rfl hM.r_queue ?_
          refine ss_iload_n (i := 2) h dX4_spreads_121 122 rfl rfl rfl ?_
          refine ss_iload h dX4_spreads_122 124 rfl rfl ?_
          refine ss_iast h hM.k_queue (by decide) (by omega) (by omega) dX4_spreads_124 125 rfl ?_
          refine ss_inc_2 h dX4_spreads_125 128 rfl ?_
          refine ss_inc_6 h dX4_spreads_128 131 rfl ?_
          refine ss_goto h dX4_spreads_131 51 (by decide) ?_
          refine ss_kl_7 ?_
          exact fin
        · skip
          rw [if_neg (fun z => c103 z.2)] at s1
          have fin := il (Z, u + 1, e2) ⟨zo, by dsimp only; omega, s1.symm⟩ (by dsimp only; omega)
          refine ss_goto h dX4_spreads_106 128 (by decide) ?_
          refine ss_inc_6 h dX4_spreads_128 131 rfl ?_
          refine ss_goto h dX4_spreads_131 51 (by decide) ?_
          refine ss_kl_7 ?_
          exact fin
      · skip
        replace c67 := bI_0.mp c67
        rw [if_neg (fun z => by rw [c67] at z; exact absurd z.1 (by decide))] at s1
        have fin := il (Z, u + 1, e2) ⟨zo, by dsimp only; omega, s1.symm⟩ (by dsimp only; omega)
        refine ss_goto h dX4_spreads_70 128 (by decide) ?_
        refine ss_inc_6 h dX4_spreads_128 131 rfl ?_
        refine ss_goto h dX4_spreads_131 51 (by decide) ?_
        refine ss_kl_7 ?_
        exact fin
theorem cty1_e (w : WT) (c : Int) (s : BT) : s.2.2 ≤ (cty1 w c s).2.2 ∧ (cty1 w c s).2.2 ≤ s.2.2 + 1 := by
  unfold cty1
  split
  · dsimp only
    omega
  · omega
theorem ctyN_e (w : WT) (s : BT) : ∀ c : Nat, s.2.2 ≤ (ctyN w c s).2.2 ∧ (ctyN w c s).2.2 ≤ s.2.2 + c
  | 0 => by
    unfold ctyN
    omega
  | c + 1 => by
    have h1 := ctyN_e w s c
    have h2 := cty1_e w c (ctyN w c s)
    unfold ctyN
    omega
theorem m_laysCounties (hM : MOk Ω n K R m) (hd : Dim (X (m + 1))) (hl : 4 ≤ d) : sCt Ω yX4_laysCounties cX4_laysCounties 2 none d 0 0 [.ref m] n K X R (pN n K R (fun X' => (X' (m + 15), X' (m + 14), X' m 30) = ctyS (X (m + 1)) (X (m + 15)) (X (m + 14)) ∧ (∀ f, f ≠ 30 → X' m f = X m f) ∧ sOff [0, 14, 15] m X X')) := by
  obtain ⟨w, hw⟩ : ∃ w, w = X (m + 1) := ⟨_, rfl⟩
  rw [← hw] at hd ⊢
  refine sCt_of (by decide) (by simp [Value.category, vI, va_rf]) (Nat.le_of_ble_eq_true rfl) fun Γ P9 hP9 h => ?_
  show sG (_, _, _, _, _) Γ 0 0 _ _ _ _ 0 [some _, none] []
  refine ss_aload_n (i := 0) h dX4_laysCounties_0 1 rfl rfl rfl ?_
  refine ss_iconst h dX4_laysCounties_1 2 rfl ?_
  refine ss_putI h kl4 30 30 rfl (by decide) rfl hM.ob q1117 (Or.inl rfl) (by omega) dX4_laysCounties_2 5 rfl ?_
  refine ss_iconst h dX4_laysCounties_5 6 rfl ?_
  refine ss_ist_1 h dX4_laysCounties_6 7 rfl ?_
  refine ss_X (X' := sArr (sUp X m 30 0) (m + 14) (fun i => if 0 ≤ i ∧ i < 0 then -1 else X (m + 14) i)) ?_ ?_
  · rw [← sArr_id (X := sUp X m 30 0) (a := m + 14)]
    rw [sArr_sArr]
    refine sArr_c ?_
    funext i
    rw [if_neg (by omega), sUp_o (by omega)]
  refine ss_loop (σ := Int) (Pp := fun k => sG _ Γ 0 0 n K (sArr (sUp X m 30 0) (m + 14) (fun i => if 0 ≤ i ∧ i < k then -1 else X (m + 14) i)) R 7 [some (.ref m), some (vI k)] []) (I := fun k => 0 ≤ k ∧ k ≤ 100) (fun k => (100 - k).toNat) (fun k hk ih => ?_) 0 (by omega)
  refine ss_iload_n (i := 1) h dX4_laysCounties_7 8 rfl rfl rfl ?_
  refine ss_bipush h dX4_laysCounties_8 10 rfl (by decide +kernel) ?_
  refine ss_icmp_ge h dX4_laysCounties_10 13 26 rfl (by decide) (by first | omega | exact sRg_b _) (by first | omega | exact sRg_b _) (fun c10 => ?_) (fun c10 => ?_)
  · skip
    refine ss_iconst h dX4_laysCounties_26 27 rfl ?_
    refine ss_ist_1 h dX4_laysCounties_27 28 rfl ?_
    have hk1 : k = 100 := by omega
    subst hk1
    clear ih hk
    refine ss_loop (σ := Nat × XT) (Pp := fun z => sG _ Γ 0 0 n K z.2 R 28 [some (.ref m), some (vI z.1)] []) (I := fun z => z.1 ≤ 100 ∧ (z.2 (m + 15), z.2 (m + 14), z.2 m 30) = ctyN w z.1 (X (m + 15), nonA (X (m + 14)), 0) ∧ (∀ f, f ≠ 30 → z.2 m f = X m f) ∧ sOff [0, 14, 15] m X z.2) (fun z => 100 - z.1) (fun z hz ih => ?_) (0, sArr (sUp X m 30 0) (m + 14) (fun i => if 0 ≤ i ∧ i < 100 then -1 else X (m + 14) i)) ⟨by dsimp only; omega, ?_, ?_, ?_⟩
    rotate_left
    · dsimp only
      rw [sArr_n (by omega), sUp_ne (by omega), sArr_s, sArr_n (by omega), sUp_ss]
      rfl
    · intro f hf
      dsimp only
      rw [sArr_n (by omega), sUp_sn hf]
    · refine sOff_tr (X' := sUp X m 30 0) ?_ (sOff_arr (by decide))
      exact sOff_up (o := 0) (by decide)
    obtain ⟨c, Y⟩ := z
    dsimp only at hz ih ⊢
    obtain ⟨hc, hs, hf, ho⟩ := hz
    have w1 : Y (m + 1) = w := by rw [sOff_at ho 1 (by decide), hw]
    have hce := ctyN_e w (X (m + 15), nonA (X (m + 14)), 0) c
    rw [← hs] at hce
    dsimp only at hce
    refine ss_iload_n (i := 1) h dX4_laysCounties_28 29 rfl rfl rfl ?_
    refine ss_bipush h dX4_laysCounties_29 31 rfl (by decide +kernel) ?_
    refine ss_icmp_ge h dX4_laysCounties_31 34 76 rfl (by decide) (by first | omega | exact sRg_b _) (by first | omega | exact sRg_b _) (fun c31 => ?_) (fun c31 => ?_)
    · skip
      refine ss_vret h dX4_laysCounties_76 (by omega) (by omega) ?_
      rw [hP9]
      rw [show c = 100 by omega] at hs
      exact ⟨rfl, rfl, rfl, rfl, hs, hf, ho⟩
    · skip
      refine ss_aload_n (i := 0) h dX4_laysCounties_34 35 rfl rfl rfl ?_
      refine ss_iload_n (i := 1) h dX4_laysCounties_35 36 rfl rfl rfl ?_
      refine ss_cVv h (m_isCell hM (d := d - 1) (by rw [w1]; exact hd) (by omega) (by omega)) (lw_V q1214 q1216 qs40 q87 q1217) kl4 hM.ob 1 rfl md_X4_isCell rfl (by omega) (by decide) rfl dX4_laysCounties_36 39 rfl rfl (Nat.le_of_ble_eq_true rfl) (by omega) (by omega) ?_
      rw [w1]
      have s1 : ctyN w (c + 1) (X (m + 15), nonA (X (m + 14)), 0) = cty1 w c (Y (m + 15), Y (m + 14), Y m 30) := by rw [hs]; rfl
      unfold cty1 at s1
      dsimp only at s1
      refine ss_rg fun hrY => ?_
      refine ss_if_eq h dX4_laysCounties_39 42 70 rfl (by decide) (by first | omega | exact sRg_b _) (fun c39 => ?_) (fun c39 => ?_)
      · skip
        replace c39 := bI_0.mp c39
        rw [if_neg (fun z => by rw [c39] at z; exact absurd z.1 (by decide))] at s1
        have fin := ih (c + 1, Y) ⟨by dsimp only; omega, by dsimp only; rw [s1], hf, ho⟩ (by dsimp only; omega)
        refine ss_inc_1 h dX4_laysCounties_70 73 rfl ?_
        refine ss_goto h dX4_laysCounties_73 28 (by decide) ?_
        exact fin
      · skip
        replace c39 := bI_n.mp c39
        have cc := cellB_t hd c39
        refine ss_aload_n (i := 0) h dX4_laysCounties_42 43 rfl rfl rfl ?_
        refine ss_getS h kl4 28 28 rfl (by decide) rfl hM.ob q1115 dX4_laysCounties_43 46 rfl hM.r_name ?_
        refine ss_iload_n (i := 1) h dX4_laysCounties_46 47 rfl rfl rfl ?_
        refine ss_iald h hM.k_name (by decide) (by omega) dX4_laysCounties_47 48 rfl ?_
        refine ss_iconst h dX4_laysCounties_48 49 rfl ?_
        refine ss_icmp_eq h dX4_laysCounties_49 52 55 rfl (by decide) (hrY _ _) (by omega) (fun c49 => ?_) (fun c49 => ?_)
        · skip
          refine ss_aload_n (i := 0) h dX4_laysCounties_55 56 rfl rfl rfl ?_
          refine ss_iload_n (i := 1) h dX4_laysCounties_56 57 rfl rfl rfl ?_
          refine ss_cVn h (m_spreads hM (d := d - 1) (by rw [w1]; exact hd) (by rw [w1]; exact c39) c49 (by omega)) (lw_V q1424 q1426 qs71 q87 q1427) kl4 hM.ob 1 rfl md_X4_spreads rfl (by omega) (by decide) rfl dX4_laysCounties_57 60 rfl rfl (Nat.le_of_ble_eq_true rfl) (by omega) (by omega) (fun X57 x57 => ?_)
          obtain ⟨g1, g2, g3⟩ := x57
          rw [if_pos ⟨c39, c49⟩] at s1
          have gm : X57 m = Y m := sOff_m g3 (by decide)
          have fin := ih (c + 1, sUp X57 m 30 (X57 m 30 + 1)) ⟨by dsimp only; omega, by dsimp only; rw [s1, sUp_ne (by omega), sUp_ne (by omega), sUp_ss, g1, g2, gm, w1], fun f h => by dsimp only; rw [sUp_sn h, gm]; exact hf f h, sOff_tr ho (sOff_tr (sOff_mono g3 (by decide)) (sOff_up (o := 0) (by decide)))⟩ (by dsimp only; omega)
          have ge : 0 ≤ X57 m 30 ∧ X57 m 30 ≤ 100 := by rw [gm]; omega
          refine ss_aload_n (i := 0) h dX4_laysCounties_60 61 rfl rfl rfl ?_
          refine ss_dup h dX4_laysCounties_61 62 rfl rfl ?_
          refine ss_getI h kl4 30 30 rfl (by decide) rfl hM.ob q1117 dX4_laysCounties_62 65 rfl ?_
          refine ss_iconst h dX4_laysCounties_65 66 rfl ?_
          refine ss_iadd h dX4_laysCounties_66 67 rfl ?_
          refine ss_putI h kl4 30 30 rfl (by decide) rfl hM.ob q1117 (Or.inl rfl) (by omega) dX4_laysCounties_67 70 rfl ?_
          refine ss_inc_1 h dX4_laysCounties_70 73 rfl ?_
          refine ss_goto h dX4_laysCounties_73 28 (by decide) ?_
          exact fin
        · skip
          rw [if_neg (fun z => c49 z.2)] at s1
          have fin := ih (c + 1, Y) ⟨by dsimp only; omega, by dsimp only; rw [s1], hf, ho⟩ (by dsimp only; omega)
          refine ss_goto h dX4_laysCounties_52 70 (by decide) ?_
          refine ss_inc_1 h dX4_laysCounties_70 73 rfl ?_
          refine ss_goto h dX4_laysCounties_73 28 (by decide) ?_
          exact fin
  · skip
    refine ss_aload_n (i := 0) h dX4_laysCounties_13 14 rfl rfl rfl ?_
    refine ss_getS h kl4 28 28 rfl (by decide) rfl hM.ob q1115 dX4_laysCounties_14 17 rfl hM.r_name ?_
    refine ss_iload_n (i := 1) h dX4_laysCounties_17 18 rfl rfl rfl ?_
    refine ss_iconst h dX4_laysCounties_18 19 rfl ?_
    refine ss_iast h hM.k_name (by decide) (by omega) (by omega) dX4_laysCounties_19 20 rfl ?_
    refine ss_inc_1 h dX4_laysCounties_20 23 rfl ?_
    refine ss_goto h dX4_laysCounties_23 7 (by decide) ?_
    refine ss_X ?_ (ih _ (by omega) (by omega))
    rw [sArr_sUp]
    refine sArr_c ?_
    funext i
    dsimp only [upW]
    (repeat' split) <;> omega
end M7

