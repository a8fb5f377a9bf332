/-! ===== the twin: surveys, springs, what is told of cells, yards, suits ===== -/
section M8
variable {Ω : OmT} {n : Nat} {K : KT} {X : XT} {R : RT} {m : Nat} {d : Nat}
theorem allF_same (th : Bool) {w : WT} (hf : flyOK w) : sameL w (allF th w) ∧ flyOK (allF th w) := by
  obtain ⟨h1, h2⟩ := flyN_same th (clr_ok hf) (w 4).toNat (by rw [show clrW w 4 = w 4 from rfl]; have := hf.2.1; omega)
  exact ⟨sameL_tr (clr_same w) h1, h2⟩
theorem m_survey (hM : MOk Ω n K R m) (hf : flyOK (X (m + 1))) (hth : X m 6 = 0) (hl : 7 ≤ d) : sCt Ω yX4_survey cX4_survey 2 (some .int) d 0 0 [.ref m] n K X R (pA n K R (vI (surN (X (m + 1)))) (fun X' => X' (m + 1) = surW (X (m + 1)) ∧ X' m 4 = 0 ∧ (∀ f, f ≠ 4 → f ≠ 30 → X' m f = X m f) ∧ sOff [0, 1, 8, 9, 10, 11, 12, 13, 14, 15] m X X')) := by
  refine sCt_of (by decide) (by simp [Value.category, vI, va_rf]) (Nat.le_of_ble_eq_true rfl) fun Γ P9 hP9 h => ?_
  show sG (_, _, _, _, _) Γ 0 0 _ _ _ _ 0 [some _, none] []



  refine ss_aload_n (i := 0) h dX4_survey_0 1 rfl rfl rfl ?_
  refine ss_cVn h (m_allFly (th := false) hM (d := d - 1) hf (by rw [hth]; rfl) (by omega)) (lw_V q1368 q1370 qs60 q87 q1371) kl4 hM.ob 0 rfl md_X4_allFly rfl (by omega) (by decide) rfl dX4_survey_1 4 rfl rfl (Nat.le_of_ble_eq_true rfl) (by omega) (by omega) (fun X1 x1 => ?_)
  obtain ⟨g1, -, g3⟩ := x1
  obtain ⟨a1, a2⟩ := allF_same false hf
  refine ss_aload_n (i := 0) h dX4_survey_4 5 rfl rfl rfl ?_
  refine ss_cVn h (m_laysCounties hM (d := d - 1) (by rw [g1]; exact a2.1) (by omega)) (lw_V q1420 q1422 qs70 q87 q1423) kl4 hM.ob 0 rfl md_X4_laysCounties rfl (by omega) (by decide) rfl dX4_survey_5 8 rfl rfl (Nat.le_of_ble_eq_true rfl) (by omega) (by omega) (fun X5 x5 => ?_)
  obtain ⟨k1, k2, k3⟩ := x5
  obtain ⟨n1, n2⟩ := ctyS_z (w := X1 (m + 1)) (by rw [g1]; exact a2.1) (X1 (m + 15)) (X1 (m + 14))
  rw [← k1] at n1 n2
  dsimp only at n1 n2
  rw [g1] at n1 n2
  have w5 : X5 (m + 1) = allF false (X (m + 1)) := by rw [sOff_at k3 1 (by decide), g1]
  obtain ⟨W, hW⟩ : ∃ W, W = allF false (X (m + 1)) := ⟨_, rfl⟩
  rw [← hW] at n1 n2 w5 a1 a2
  refine ss_rg fun hr5 => ?_
  obtain ⟨N, hN⟩ : ∃ N, N = X5 (m + 14) := ⟨_, rfl⟩
  have n2' : ∀ c, 0 ≤ c → c < 100 → N c = nmS W c := by rw [hN]; exact n2
  have o5 : sOff [0, 1, 8, 9, 10, 11, 12, 13, 14, 15] m X X5 := sOff_tr (sOff_mono g3 (by decide)) (sOff_mono k3 (by decide))
  have f5 : ∀ f, f ≠ 4 → f ≠ 30 → X5 m f = X m f := fun f z1 z2 => by rw [k2 f z2, sOff_m g3 (by decide)]
  refine ss_iconst h dX4_survey_8 9 rfl ?_
  refine ss_ist_1 h dX4_survey_9 10 rfl ?_
  refine ss_loop (σ := XT × Int) (Pp := fun z => sG _ Γ 0 0 n K z.1 R 10 [some (.ref m), some (vI z.2)] []) (I := fun z => (0 ≤ z.2 ∧ z.2 ≤ 100) ∧ z.1 (m + 1) = surP W N z.2 ∧ sOff [1] m X5 z.1) (fun z => (100 - z.2).toNat) (fun z hz ih => ?_) (X5, 0) ⟨by dsimp only; omega, by dsimp only; rw [surP_0, w5], sOff_rf _ _ _⟩
  obtain ⟨Y, k⟩ := z
  dsimp only at hz ih ⊢
  obtain ⟨hk, hw, ho⟩ := hz
  have yN : Y (m + 14) = N := by rw [sOff_at ho 14 (by decide), hN]
  refine ss_rg fun hrY => ?_
  refine ss_iload_n (i := 1) h dX4_survey_10 11 rfl rfl rfl ?_
  refine ss_bipush h dX4_survey_11 13 rfl (by decide +kernel) ?_
  refine ss_icmp_ge h dX4_survey_13 16 105 rfl (by decide) (by first | omega | exact sRg_b _) (by first | omega | exact sRg_b _) (fun c13 => ?_) (fun c13 => ?_)
  · skip
    rw [show k = 100 by omega] at hw
    have e30 : Y m 30 = surN (X (m + 1)) := by rw [sOff_m ho (by decide), n1]; unfold surN; rw [hW]
    refine ss_aload_n (i := 0) h dX4_survey_105 106 rfl rfl rfl ?_
    refine ss_iconst h dX4_survey_106 107 rfl ?_
    refine ss_putI h kl4 4 4 rfl (by decide) rfl hM.ob q1091 (Or.inl rfl) (by omega) dX4_survey_107 110 rfl ?_
    refine ss_aload_n (i := 0) h dX4_survey_110 111 rfl rfl rfl ?_
    refine ss_getI h kl4 30 30 rfl (by decide) rfl hM.ob q1117 dX4_survey_111 114 rfl ?_
    refine ss_iret h dX4_survey_114 (by omega) (by omega) ?_
    rw [hP9]
    exact ⟨by rw [sUp_sn (by omega), e30], rfl, rfl, rfl, by rw [sUp_ne (by omega), hw]; unfold surW; rw [← hW]; exact surP_congr n2', sUp_ss, fun f z1 z2 => by rw [sUp_sn z1, sOff_m ho (by decide)]; exact f5 f z1 z2, sOff_tr o5 (sOff_tr (sOff_mono ho (by decide)) (sOff_up (o := 0) (by decide)))⟩
  · skip
    refine ss_aload_n (i := 0) h dX4_survey_16 17 rfl rfl rfl ?_
    refine ss_getS h kl4 0 0 rfl (by decide) rfl hM.ob q1087 dX4_survey_17 20 rfl hM.r_w ?_
    refine ss_sipush h dX4_survey_20 23 rfl (by decide +kernel) ?_
    refine ss_iload_n (i := 1) h dX4_survey_23 24 rfl rfl rfl ?_
    refine ss_iadd h dX4_survey_24 25 rfl ?_
    refine ss_iald h hM.k_w (by decide) (by omega) dX4_survey_25 26 rfl ?_
    rw [hw, show surP W N k (220 + k) = W (220 + k) by unfold surP; rw [if_neg (by omega), if_neg (by omega)]]
    refine ss_if_ne h dX4_survey_26 29 32 rfl (by decide) (by rw [← w5]; exact hr5 _ _) (fun c26 => ?_) (fun c26 => ?_)
    · skip
      refine ss_aload_n (i := 0) h dX4_survey_32 33 rfl rfl rfl ?_
      refine ss_getS h kl4 0 0 rfl (by decide) rfl hM.ob q1087 dX4_survey_33 36 rfl hM.r_w ?_
      refine ss_sipush h dX4_survey_36 39 rfl (by decide +kernel) ?_
      refine ss_iload_n (i := 1) h dX4_survey_39 40 rfl rfl rfl ?_
      refine ss_iadd h dX4_survey_40 41 rfl ?_
      refine ss_dup2 h dX4_survey_41 42 rfl rfl rfl ?_
      refine ss_iald h hM.k_w (by decide) (by omega) dX4_survey_42 43 rfl ?_
      rw [hw, show surP W N k (620 + k) = W (620 + k) by unfold surP; rw [if_neg (by omega), if_neg (by omega)]]
      refine ss_aload_n (i := 0) h dX4_survey_43 44 rfl rfl rfl ?_
      refine ss_getS h kl4 0 0 rfl (by decide) rfl hM.ob q1087 dX4_survey_44 47 rfl hM.r_w ?_
      refine ss_sipush h dX4_survey_47 50 rfl (by decide +kernel) ?_
      refine ss_iload_n (i := 1) h dX4_survey_50 51 rfl rfl rfl ?_
      refine ss_iadd h dX4_survey_51 52 rfl ?_
      refine ss_iald h hM.k_w (by decide) (by omega) dX4_survey_52 53 rfl ?_
      rw [hw, show surP W N k (520 + k) = W (520 + k) by unfold surP; rw [if_neg (by omega), if_neg (by omega)]]
      refine ss_cut (σ := Int) (fun s => s = if W (520 + k) ≠ -1 ∧ W (520 + k) ≠ N k then 1 else 0) 81 (fun s => Y) (fun s => [some (.ref m), some (vI k)]) (fun s => [vI s, vI (W (620 + k)), vI (620 + k), .ref (m + 1)]) (fun s h81 => ?_) (fun J81 => ?_)
      · skip
        refine ss_iadd h dX4_survey_81 82 rfl ?_
        refine ss_wr ?_
        refine ss_iast h hM.k_w (by decide) (by omega) (sWr_rg _) dX4_survey_82 83 rfl ?_
        refine ss_aload_n (i := 0) h dX4_survey_83 84 rfl rfl rfl ?_
        refine ss_getS h kl4 0 0 rfl (by decide) rfl hM.ob q1087 dX4_survey_84 87 rfl hM.r_w ?_
        refine ss_sipush h dX4_survey_87 90 rfl (by decide +kernel) ?_
        refine ss_iload_n (i := 1) h dX4_survey_90 91 rfl rfl rfl ?_
        refine ss_iadd h dX4_survey_91 92 rfl ?_
        refine ss_aload_n (i := 0) h dX4_survey_92 93 rfl rfl rfl ?_
        refine ss_getS h kl4 28 28 rfl (by decide) rfl hM.ob q1115 dX4_survey_93 96 rfl hM.r_name ?_
        refine ss_iload_n (i := 1) h dX4_survey_96 97 rfl rfl rfl ?_
        refine ss_iald h hM.k_name (by decide) (by omega) dX4_survey_97 98 rfl ?_
        rw [sUp_ne (show m + 14 ≠ m + 1 by omega), yN]
        have fin := ih (sUp (sUp Y (m + 1) (620 + k) (sWr (W (620 + k) + s))) (m + 1) (520 + k) (N k), k + 1) ⟨by dsimp only; omega, by dsimp only; rw [sUp_s, sUp_s, hw, h81, surP_step (by omega) c26], sOff_tr ho (sOff_tr (sOff_up (by decide)) (sOff_up (by decide)))⟩ (by dsimp only; omega)
        refine ss_iast h hM.k_w (by decide) (by omega) (by rw [hN]; exact hr5 _ _) dX4_survey_98 99 rfl ?_
        refine ss_inc_1 h dX4_survey_99 102 rfl ?_
        refine ss_goto h dX4_survey_102 10 (by decide) ?_
        exact fin
      refine ss_iconst h dX4_survey_53 54 rfl ?_
      refine ss_icmp_eq h dX4_survey_54 57 80 rfl (by decide) (by rw [← w5]; exact hr5 _ _) (by omega) (fun c54 => ?_) (fun c54 => ?_)
      · skip
        have e81 : (0 : Int) = if W (520 + k) ≠ -1 ∧ W (520 + k) ≠ N k then 1 else 0 := by rw [if_neg (fun z => z.1 c54)]
        refine ss_iconst h dX4_survey_80 81 rfl ?_
        exact J81 _ e81
      · skip
        refine ss_aload_n (i := 0) h dX4_survey_57 58 rfl rfl rfl ?_
        refine ss_getS h kl4 0 0 rfl (by decide) rfl hM.ob q1087 dX4_survey_58 61 rfl hM.r_w ?_
        refine ss_sipush h dX4_survey_61 64 rfl (by decide +kernel) ?_
        refine ss_iload_n (i := 1) h dX4_survey_64 65 rfl rfl rfl ?_
        refine ss_iadd h dX4_survey_65 66 rfl ?_
        refine ss_iald h hM.k_w (by decide) (by omega) dX4_survey_66 67 rfl ?_
        rw [hw, show surP W N k (520 + k) = W (520 + k) by unfold surP; rw [if_neg (by omega), if_neg (by omega)]]
        refine ss_aload_n (i := 0) h dX4_survey_67 68 rfl rfl rfl ?_
        refine ss_getS h kl4 28 28 rfl (by decide) rfl hM.ob q1115 dX4_survey_68 71 rfl hM.r_name ?_
        refine ss_iload_n (i := 1) h dX4_survey_71 72 rfl rfl rfl ?_
        refine ss_iald h hM.k_name (by decide) (by omega) dX4_survey_72 73 rfl ?_
        rw [yN]
        refine ss_icmp_eq h dX4_survey_73 76 80 rfl (by decide) (by rw [← w5]; exact hr5 _ _) (by rw [hN]; exact hr5 _ _) (fun c73 => ?_) (fun c73 => ?_)
        · skip
          have e81 : (0 : Int) = if W (520 + k) ≠ -1 ∧ W (520 + k) ≠ N k then 1 else 0 := by rw [if_neg (fun z => z.2 c73)]
          refine ss_iconst h dX4_survey_80 81 rfl ?_
          exact J81 _ e81
        · skip
          have e81 : (1 : Int) = if W (520 + k) ≠ -1 ∧ W (520 + k) ≠ N k then 1 else 0 := by rw [if_pos ⟨c54, c73⟩]
          refine ss_iconst h dX4_survey_76 77 rfl ?_
          refine ss_goto h dX4_survey_77 81 (by decide) ?_
          exact J81 _ e81
    · skip
      have fin := ih (Y, k + 1) ⟨by dsimp only; omega, by dsimp only; rw [hw, surP_skip (by omega) c26], ho⟩ (by dsimp only; omega)
      refine ss_goto h dX4_survey_29 99 (by decide) ?_
      refine ss_inc_1 h dX4_survey_99 102 rfl ?_
      refine ss_goto h dX4_survey_102 10 (by decide) ?_
      exact fin
theorem sprN_same (w : WT) : ∀ k : Nat, k ≤ 100 → ∀ i, (i < 2 ∨ 2 < i) → (i < 20 ∨ 120 ≤ i) → sprN w k i = w i
  | 0, _, _, _, _ => rfl
  | k + 1, hk, i, h1, h2 => by
    unfold sprN
    split
    · unfold drwW
      rw [upW_n (by omega), upW_n (by omega)]
      exact sprN_same w k (by omega) i h1 h2
    · exact sprN_same w k (by omega) i h1 h2
theorem m_spring (hM : MOk Ω n K R m) (hd : Dim (X (m + 1))) (hf : X (m + 1) 3 ≠ 9999 → flyOK (sprN (X (m + 1)) 100)) (hy : 0 ≤ X (m + 1) 3 ∧ X (m + 1) 3 ≤ 9999) (hth : X m 6 = 0) (hl : 8 ≤ d) : sCt Ω yX4_spring cX4_spring 2 (some .int) d 0 0 [.ref m] n K X R (pA n K R (vI (if X (m + 1) 3 = 9999 then -1 else surN (sprN (X (m + 1)) 100))) (fun X' => (X (m + 1) 3 = 9999 → X' = X) ∧ (X (m + 1) 3 ≠ 9999 → X' (m + 1) = sprW (X (m + 1)) ∧ X' m 4 = 0 ∧ (∀ f, f ≠ 4 → f ≠ 30 → X' m f = X m f) ∧ sOff [0, 1, 8, 9, 10, 11, 12, 13, 14, 15] m X X'))) := by
  refine sCt_of (by decide) (by simp [Value.category, vI, va_rf]) (Nat.le_of_ble_eq_true rfl) fun Γ P9 hP9 h => ?_
  show sG (_, _, _, _, _) Γ 0 0 _ _ _ _ 0 [some _, none] []
  refine ss_aload_n (i := 0) h dX4_spring_0 1 rfl rfl rfl ?_
  refine ss_getS h kl4 0 0 rfl (by decide) rfl hM.ob q1087 dX4_spring_1 4 rfl hM.r_w ?_
  refine ss_iconst h dX4_spring_4 5 rfl ?_
  refine ss_iald h hM.k_w (by decide) (by omega) dX4_spring_5 6 rfl ?_
  refine ss_sipush h dX4_spring_6 9 rfl (by decide +kernel) ?_
  refine ss_icmp_ne h dX4_spring_9 12 14 rfl (by decide) (by first | omega | exact sRg_b _) (by first | omega | exact sRg_b _) (fun c9 => ?_) (fun c9 => ?_)
  · skip
    obtain ⟨w, hw⟩ : ∃ w, w = X (m + 1) := ⟨_, rfl⟩
    have hf := hf c9
    rw [← hw] at hd hf hy c9
    refine ss_iconst h dX4_spring_14 15 rfl ?_
    refine ss_ist_1 h dX4_spring_15 16 rfl ?_
    refine ss_X (X' := sArr X (m + 1) (sprN w 0)) (by show X = sArr X (m + 1) w; rw [hw]; exact sArr_id.symm) ?_
    refine ss_loop (σ := Nat) (Pp := fun k => sG _ Γ 0 0 n K (sArr X (m + 1) (sprN w k)) R 16 [some (.ref m), some (vI k)] []) (I := fun k => k ≤ 100) (fun k => 100 - k) (fun k hk ih => ?_) 0 (by omega)
    have e1 : sArr X (m + 1) (sprN w k) (m + 1) = sprN w k := sArr_s
    have ks := sprN_same w k hk
    have dk : Dim (sprN w k) := by unfold Dim at hd ⊢; rw [ks 0 (by omega) (by omega), ks 1 (by omega) (by omega)]; exact hd
    have ck : cellB (sprN w k) k = cellB w k := by unfold cellB placeB; rw [ks 0 (by omega) (by omega), ks 1 (by omega) (by omega)]
    have s1 : sprN w (k + 1) = if cellB w k = true then drwW (sprN w k) k else sprN w k := rfl
    refine ss_iload_n (i := 1) h dX4_spring_16 17 rfl rfl rfl ?_
    refine ss_bipush h dX4_spring_17 19 rfl (by decide +kernel) ?_
    refine ss_icmp_ge h dX4_spring_19 22 69 rfl (by decide) (by first | omega | exact sRg_b _) (by first | omega | exact sRg_b _) (fun c19 => ?_) (fun c19 => ?_)
    · skip
      rw [show k = 100 by omega] at ks dk e1 ⊢
      refine ss_aload_n (i := 0) h dX4_spring_69 70 rfl rfl rfl ?_
      refine ss_cVa h (m_survey hM (d := d - 1) (by rw [e1]; exact hf) (by rw [sArr_n (by omega)]; exact hth) (by omega)) (lw_V q1442 q1365 q1366 q87 q1367) kl4 hM.ob 0 rfl md_X4_survey rfl (by omega) (by decide) rfl dX4_spring_70 73 rfl rfl (Nat.le_of_ble_eq_true rfl) (by omega) (by omega) (fun X70 x70 => ?_)
      rw [e1] at x70 ⊢
      obtain ⟨g1, g2, g3, g4⟩ := x70
      have g13 : X70 (m + 1) 3 = w 3 := by rw [g1]; unfold surW surP; rw [if_neg (by omega), if_neg (by omega), (allF_same false hf).1 3 (by unfold lndP; omega), ks 3 (by omega) (by omega)]
      refine ss_ist_1 h dX4_spring_73 74 rfl ?_
      refine ss_aload_n (i := 0) h dX4_spring_74 75 rfl rfl rfl ?_
      refine ss_getS h kl4 0 0 rfl (by decide) rfl hM.ob q1087 dX4_spring_75 78 rfl hM.r_w ?_
      refine ss_iconst h dX4_spring_78 79 rfl ?_
      refine ss_dup2 h dX4_spring_79 80 rfl rfl rfl ?_
      refine ss_iald h hM.k_w (by decide) (by omega) dX4_spring_80 81 rfl ?_
      rw [g13]
      refine ss_iconst h dX4_spring_81 82 rfl ?_
      refine ss_iadd h dX4_spring_82 83 rfl ?_
      refine ss_iast h hM.k_w (by decide) (by omega) (by omega) dX4_spring_83 84 rfl ?_
      refine ss_iload_n (i := 1) h dX4_spring_84 85 rfl rfl rfl ?_
      refine ss_iret h dX4_spring_85 (by omega) (by omega) ?_
      rw [hP9]
      exact ⟨by rw [← hw, if_neg c9], rfl, rfl, rfl, fun z => by rw [← hw] at z; exact absurd z c9, fun _ => ⟨by rw [← hw, sUp_s, g1]; rfl, by rw [sUp_ne (by omega)]; exact g2, fun f z1 z2 => by rw [sUp_ne (by omega), g3 f z1 z2, sArr_n (by omega)], sOff_tr (sOff_arr (by decide)) (sOff_tr g4 (sOff_up (by decide)))⟩⟩
    · skip
      refine ss_aload_n (i := 0) h dX4_spring_22 23 rfl rfl rfl ?_
      refine ss_iload_n (i := 1) h dX4_spring_23 24 rfl rfl rfl ?_
      refine ss_cVv h (m_isCell hM (d := d - 1) (by rw [e1]; exact dk) (by omega) (by omega)) (lw_V q1214 q1216 qs40 q87 q1217) kl4 hM.ob 1 rfl md_X4_isCell rfl (by omega) (by decide) rfl dX4_spring_24 27 rfl rfl (Nat.le_of_ble_eq_true rfl) (by omega) (by omega) ?_
      rw [e1, ck]
      refine ss_if_eq h dX4_spring_27 30 63 rfl (by decide) (by first | omega | exact sRg_b _) (fun c27 => ?_) (fun c27 => ?_)
      · skip
        replace c27 := bI_0.mp c27
        rw [if_neg (by rw [c27]; decide)] at s1
        have s2 : sArr X (m + 1) (sprN w k) = sArr X (m + 1) (sprN w (k + 1)) := by rw [s1]
        refine ss_inc_1 h dX4_spring_63 66 rfl ?_
        refine ss_goto h dX4_spring_66 16 (by decide) ?_
        exact ss_X s2 (ih (k + 1) (by omega) (by omega))
      · skip
        replace c27 := bI_n.mp c27
        have cc := cellB_t hd c27
        rw [if_pos c27] at s1
        refine ss_rg fun hrk => ?_
        refine ss_aload_n (i := 0) h dX4_spring_30 31 rfl rfl rfl ?_
        refine ss_getS h kl4 0 0 rfl (by decide) rfl hM.ob q1087 dX4_spring_31 34 rfl hM.r_w ?_
        refine ss_bipush h dX4_spring_34 36 rfl (by decide +kernel) ?_
        refine ss_iload_n (i := 1) h dX4_spring_36 37 rfl rfl rfl ?_
        refine ss_cut (σ := Int) (fun s => s = if sprN w k (120 + k) = 1 then 40 else 10) 59 (fun s => (sArr X (m + 1) (sprN w k))) (fun s => [some (.ref m), some (vI k)]) (fun s => [vI s, .ref m, vI (20 + (k : Int)), .ref (m + 1)]) (fun s h59 => ?_) (fun J59 => ?_)
        · skip
          have hs : 1 ≤ s ∧ s ≤ 100 := by rw [h59]; split <;> omega
          refine ss_cVa h (m_draw hM (d := d - 1) hs) (lw_V q1436 q1438 qs73 q87 q1439) kl4 hM.ob 1 rfl md_X4_draw rfl (by omega) (by decide) rfl dX4_spring_59 62 rfl rfl (Nat.le_of_ble_eq_true rfl) (by omega) (by omega) (fun X59 x59 => ?_)
          rw [e1]
          have q := ush8_rg (nxtS (sprN w k 2))
          have q1 := Int.emod_nonneg (ushS (nxtS (sprN w k 2)) 8) (b := s) (by omega)
          have q2 := Int.emod_lt_of_pos (ushS (nxtS (sprN w k 2)) 8) (b := s) (by omega)
          have s2 : sUp X59 (m + 1) (20 + k) ((ushS (nxtS (sprN w k 2)) 8).tmod s) = sArr X (m + 1) (sprN w (k + 1)) := by
            rw [s1, x59, sArr_sUp, e1, sArr_sArr, h59]
            rfl
          refine ss_iast h hM.k_w (by decide) (by omega) (by rw [Int.tmod_eq_emod_of_nonneg q.1]; omega) dX4_spring_62 63 rfl ?_
          refine ss_inc_1 h dX4_spring_63 66 rfl ?_
          refine ss_goto h dX4_spring_66 16 (by decide) ?_
          exact ss_X s2 (ih (k + 1) (by omega) (by omega))
        refine ss_iadd h dX4_spring_37 38 rfl ?_
        refine ss_aload_n (i := 0) h dX4_spring_38 39 rfl rfl rfl ?_
        refine ss_aload_n (i := 0) h dX4_spring_39 40 rfl rfl rfl ?_
        refine ss_getS h kl4 0 0 rfl (by decide) rfl hM.ob q1087 dX4_spring_40 43 rfl hM.r_w ?_
        refine ss_bipush h dX4_spring_43 45 rfl (by decide +kernel) ?_
        refine ss_iload_n (i := 1) h dX4_spring_45 46 rfl rfl rfl ?_
        refine ss_iadd h dX4_spring_46 47 rfl ?_
        refine ss_iald h hM.k_w (by decide) (by omega) dX4_spring_47 48 rfl ?_
        rw [e1]
        refine ss_iconst h dX4_spring_48 49 rfl ?_
        refine ss_icmp_ne h dX4_spring_49 52 57 rfl (by decide) (by rw [← e1]; exact hrk _ _) (by omega) (fun c49 => ?_) (fun c49 => ?_)
        · skip
          refine ss_bipush h dX4_spring_57 59 rfl (by decide +kernel) ?_
          exact J59 _ (by first | rw [if_pos c49] | rw [if_neg c49])
        · skip
          refine ss_bipush h dX4_spring_52 54 rfl (by decide +kernel) ?_
          refine ss_goto h dX4_spring_54 59 (by decide) ?_
          exact J59 _ (by first | rw [if_pos c49] | rw [if_neg c49])
  · skip
    refine ss_iconst h dX4_spring_12 13 rfl ?_
    refine ss_iret h dX4_spring_13 (by omega) (by omega) ?_
    rw [hP9]
    exact ⟨by rw [if_pos c9], rfl, rfl, rfl, fun _ => rfl, fun z => absurd c9 z⟩
end M8

