/-! ===== the twin: whole flights ===== -/
section M6
variable {Ω : OmT} {n : Nat} {K : KT} {X : XT} {R : RT} {m : Nat} {d : Nat}
set_option maxHeartbeats 4000000 in
theorem m_flies (hM : MOk Ω n K R m) {s : Int} {th : Bool} (hf : flyOK (X (m + 1))) (hs : 0 ≤ s ∧ s < X (m + 1) 4) (hth : X m 6 = bI th) (hl : 5 ≤ d) : sCt Ω yX4_flies cX4_flies 11 none d 0 0 [.ref m, vI s] n K X R (pN n K R (fun X' => X' (m + 1) = (flyO th (X (m + 1)) s).1 ∧ X' (m + 10) = upW (X (m + 10)) s (flyO th (X (m + 1)) s).2.1 ∧ X' (m + 11) = upW (X (m + 11)) s (flyO th (X (m + 1)) s).2.2.1 ∧ X' (m + 13) = upW (X (m + 13)) s (flyO th (X (m + 1)) s).2.2.2.1 ∧ X' (m + 12) = upW (X (m + 12)) s (flyO th (X (m + 1)) s).2.2.2.2 ∧ sOff [1, 8, 9, 10, 11, 12, 13] m X X')) := by
  obtain ⟨FIN, hFIN⟩ : ∃ F, F = flyO th (X (m + 1)) s := ⟨_, rfl⟩
  rw [← hFIN]
  unfold flyO at hFIN
  have h4 := hf.2.1
  obtain ⟨s1, s2, s3, s4⟩ := hf.2.2.2.2.1 s hs.1 hs.2
  obtain ⟨len, hlen⟩ : ∃ a, a = X (m + 1) (1855 + 5 * s + 3) := ⟨_, rfl⟩
  obtain ⟨hb, hhb⟩ : ∃ a, a = X (m + 1) (1855 + 5 * s + 4) := ⟨_, rfl⟩
  rw [← hlen] at s3 hFIN
  rw [← hhb] at s4 hFIN
  refine sCt_of (by decide) (by simp [Value.category, vI, va_rf]) (Nat.le_of_ble_eq_true rfl) fun Γ P9 hP9 h => ?_
  show sG (_, _, _, _, _) Γ 0 0 _ _ _ _ 0 [some _, some _, none, none, none, none, none, none, none, none, none] []
  refine ss_rg fun hrg => ?_
  refine ss_sipush h dX4_flies_0 3 rfl (by decide +kernel) ?_
  refine ss_iconst h dX4_flies_3 4 rfl ?_
  refine ss_iload_n (i := 1) h dX4_flies_4 5 rfl rfl rfl ?_
  refine ss_imul h dX4_flies_5 6 rfl ?_
  refine ss_iadd h dX4_flies_6 7 rfl ?_
  refine ss_ist_2 h dX4_flies_7 8 rfl ?_
  refine ss_cut (σ := XT × Int × Int × Int × Int) (fun s9 => (s9.1 (m + 1), s9.2) = FIN ∧ sOff [1, 8, 9] m X s9.1 ∧ (sRg s9.2.1 ∧ sRg s9.2.2.1 ∧ sRg s9.2.2.2.1 ∧ sRg s9.2.2.2.2)) 313 (fun s9 => s9.1) (fun s9 => [some (.ref m), some (vI s), some (vI (1855 + 5 * s)), some (vI s9.2.1), some (vI s9.2.2.1), some (vI s9.2.2.2.1), some (vI s9.2.2.2.2), none, none, none, none]) (fun s9 => []) (fun s9 h313 => ?_) (fun J313 => ?_)
  · skip
    obtain ⟨Y, x, y, u, st⟩ := s9
    dsimp only at h313 ⊢
    obtain ⟨hF, hoff, hr1, hr2, hr3, hr4⟩ := h313
    refine ss_aload_n (i := 0) h dX4_flies_313 314 rfl rfl rfl ?_
    refine ss_getS h kl4 24 24 rfl (by decide) rfl hM.ob q1111 dX4_flies_314 317 rfl hM.r_endX ?_
    refine ss_iload_n (i := 1) h dX4_flies_317 318 rfl rfl rfl ?_
    refine ss_iload_n (i := 3) h dX4_flies_318 319 rfl rfl rfl ?_
    refine ss_iast h hM.k_endX (by decide) (by omega) (by omega) dX4_flies_319 320 rfl ?_
    refine ss_aload_n (i := 0) h dX4_flies_320 321 rfl rfl rfl ?_
    refine ss_getS h kl4 25 25 rfl (by decide) rfl hM.ob q1112 dX4_flies_321 324 rfl hM.r_endY ?_
    refine ss_iload_n (i := 1) h dX4_flies_324 325 rfl rfl rfl ?_
    refine ss_iload h dX4_flies_325 327 rfl rfl ?_
    refine ss_iast h hM.k_endY (by decide) (by omega) (by omega) dX4_flies_327 328 rfl ?_
    refine ss_aload_n (i := 0) h dX4_flies_328 329 rfl rfl rfl ?_
    refine ss_getS h kl4 26 26 rfl (by decide) rfl hM.ob q1113 dX4_flies_329 332 rfl hM.r_endSteps ?_
    refine ss_iload_n (i := 1) h dX4_flies_332 333 rfl rfl rfl ?_
    refine ss_iload h dX4_flies_333 335 rfl rfl ?_
    refine ss_iast h hM.k_endSteps (by decide) (by omega) (by omega) dX4_flies_335 336 rfl ?_
    refine ss_aload_n (i := 0) h dX4_flies_336 337 rfl rfl rfl ?_
    refine ss_getS h kl4 27 27 rfl (by decide) rfl hM.ob q1114 dX4_flies_337 340 rfl hM.r_endHeading ?_
    refine ss_iload_n (i := 1) h dX4_flies_340 341 rfl rfl rfl ?_
    refine ss_iload h dX4_flies_341 343 rfl rfl ?_
    refine ss_iast h hM.k_endHeading (by decide) (by omega) (by omega) dX4_flies_343 344 rfl ?_
    refine ss_vret h dX4_flies_344 (by omega) (by omega) ?_
    rw [hP9]
    subst hF
    refine ⟨rfl, rfl, rfl, rfl, ?_, ?_, ?_, ?_, ?_, ?_⟩
    · simp only [sUp_ne (show m + 1 ≠ m + 10 by omega), sUp_ne (show m + 1 ≠ m + 11 by omega), sUp_ne (show m + 1 ≠ m + 12 by omega), sUp_ne (show m + 1 ≠ m + 13 by omega)]
    · simp only [sUp_ne (show m + 10 ≠ m + 11 by omega), sUp_ne (show m + 10 ≠ m + 12 by omega), sUp_ne (show m + 10 ≠ m + 13 by omega), sUp_s, sOff_at hoff 10 (by decide)]
    · simp only [sUp_ne (show m + 11 ≠ m + 10 by omega), sUp_ne (show m + 11 ≠ m + 12 by omega), sUp_ne (show m + 11 ≠ m + 13 by omega), sUp_s, sOff_at hoff 11 (by decide)]
    · simp only [sUp_ne (show m + 13 ≠ m + 10 by omega), sUp_ne (show m + 13 ≠ m + 11 by omega), sUp_ne (show m + 13 ≠ m + 12 by omega), sUp_s, sOff_at hoff 13 (by decide)]
    · simp only [sUp_ne (show m + 12 ≠ m + 10 by omega), sUp_ne (show m + 12 ≠ m + 11 by omega), sUp_ne (show m + 12 ≠ m + 13 by omega), sUp_s, sOff_at hoff 12 (by decide)]
    · exact sOff_tr (sOff_mono hoff (by decide)) (sOff_tr (sOff_tr (sOff_tr (sOff_up (by decide)) (sOff_up (by decide))) (sOff_up (by decide))) (sOff_up (by decide)))
  refine ss_aload_n (i := 0) h dX4_flies_8 9 rfl rfl rfl ?_
  refine ss_getS h kl4 0 0 rfl (by decide) rfl hM.ob q1087 dX4_flies_9 12 rfl hM.r_w ?_
  refine ss_iload_n (i := 2) h dX4_flies_12 13 rfl rfl rfl ?_
  refine ss_iald h hM.k_w (by decide) (by omega) dX4_flies_13 14 rfl ?_
  refine ss_ist_3 h dX4_flies_14 15 rfl ?_
  refine ss_aload_n (i := 0) h dX4_flies_15 16 rfl rfl rfl ?_
  refine ss_getS h kl4 0 0 rfl (by decide) rfl hM.ob q1087 dX4_flies_16 19 rfl hM.r_w ?_
  refine ss_iload_n (i := 2) h dX4_flies_19 20 rfl rfl rfl ?_
  refine ss_iconst h dX4_flies_20 21 rfl ?_
  refine ss_iadd h dX4_flies_21 22 rfl ?_
  refine ss_iald h hM.k_w (by decide) (by omega) dX4_flies_22 23 rfl ?_
  refine ss_ist_4 h dX4_flies_23 25 rfl ?_
  refine ss_aload_n (i := 0) h dX4_flies_25 26 rfl rfl rfl ?_
  refine ss_getS h kl4 0 0 rfl (by decide) rfl hM.ob q1087 dX4_flies_26 29 rfl hM.r_w ?_
  refine ss_iload_n (i := 2) h dX4_flies_29 30 rfl rfl rfl ?_
  refine ss_iconst h dX4_flies_30 31 rfl ?_
  refine ss_iadd h dX4_flies_31 32 rfl ?_
  refine ss_iald h hM.k_w (by decide) (by omega) dX4_flies_32 33 rfl ?_
  refine ss_ist_5 h dX4_flies_33 35 rfl ?_
  refine ss_iconst h dX4_flies_35 36 rfl ?_
  refine ss_ist_6 h dX4_flies_36 38 rfl ?_
  refine ss_iconst h dX4_flies_38 39 rfl ?_
  refine ss_ist_7 h dX4_flies_39 41 rfl ?_
  refine ss_loop (σ := XT × Int × Int × Int × Int × Int) (Pp := fun z => sG _ Γ 0 0 n K z.1 R 41 [some (.ref m), some (vI s), some (vI (1855 + 5 * s)), some (vI z.2.1), some (vI z.2.2.1), some (vI z.2.2.2.1), some (vI z.2.2.2.2.1), some (vI z.2.2.2.2.2), none, none, none] []) (I := fun z => flyOK (z.1 (m + 1)) ∧ sameL (X (m + 1)) (z.1 (m + 1)) ∧ sOff [1, 8, 9] m X z.1 ∧ pointB (z.1 (m + 1)) z.2.1 z.2.2.1 = true ∧ (0 ≤ z.2.2.2.1 ∧ z.2.2.2.1 ≤ 3) ∧ (0 ≤ z.2.2.2.2.1 ∧ z.2.2.2.2.1 ≤ len) ∧ ((z.2.2.2.2.2 = 1 ∧ flyS th s len hb (len - z.2.2.2.2.1).toNat (z.1 (m + 1)) z.2.1 z.2.2.1 z.2.2.2.1 z.2.2.2.2.1 = FIN) ∨ (z.2.2.2.2.2 = 0 ∧ (z.1 (m + 1), z.2.1, z.2.2.1, z.2.2.2.1, z.2.2.2.2.1) = FIN))) (fun z => (len - z.2.2.2.2.1).toNat + (if z.2.2.2.2.2 = 0 then 0 else 1)) (fun z hz ih => ?_) (X, X (m + 1) (1855 + 5 * s), X (m + 1) (1855 + 5 * s + 1), X (m + 1) (1855 + 5 * s + 2), 0, 1) ⟨hf, sameL_rf _, sOff_rf _ _ _, s1, s2, by dsimp only; omega, Or.inl ⟨rfl, by dsimp only; rw [Int.sub_zero]; exact hFIN.symm⟩⟩
  clear hFIN s1 s2
  obtain ⟨Y, x, y, u, st, g⟩ := z
  dsimp only at hz ih ⊢
  obtain ⟨fY, sY, oY, pY, hu, hst, hfl⟩ := hz
  refine ss_rg fun hrY => ?_
  have pY' := pointB_t.mp pY
  have dY : Dim (Y (m + 1)) := fY.1
  have dY' := dY
  unfold Dim at dY'
  have lenY : Y (m + 1) (1855 + 5 * s + 3) = len := by rw [hlen]; exact sY _ (by unfold lndP; omega)
  have hbY : Y (m + 1) (1855 + 5 * s + 4) = hb := by rw [hhb]; exact sY _ (by unfold lndP; omega)
  have gg : g = 0 ∨ g = 1 := by rcases hfl with q | q <;> omega
  refine ss_iload h dX4_flies_41 43 rfl rfl ?_
  refine ss_if_eq h dX4_flies_43 46 313 rfl (by decide) (by omega) (fun c43 => ?_) (fun c43 => ?_)
  · skip
    rcases hfl with ⟨q, -⟩ | ⟨-, q⟩
    · exact absurd (c43.symm.trans q) (by decide)
    have fin313 := J313 (Y, x, y, u, st) ⟨q, oY, by dsimp only; omega⟩
    refine ss_kl_7 (ss_kl_8 (ss_kl_9 (ss_kl_10 ?_)))
    exact fin313
  · skip
    have hg : g = 1 := by omega
    subst hg
    replace hfl : flyS th s len hb (len - st).toNat (Y (m + 1)) x y u st = FIN := by
      rcases hfl with ⟨-, q⟩ | ⟨q, -⟩
      · exact q
      · exact absurd q (by decide)
    refine ss_iload h dX4_flies_46 48 rfl rfl ?_
    refine ss_aload_n (i := 0) h dX4_flies_48 49 rfl rfl rfl ?_
    refine ss_getS h kl4 0 0 rfl (by decide) rfl hM.ob q1087 dX4_flies_49 52 rfl hM.r_w ?_
    refine ss_iload_n (i := 2) h dX4_flies_52 53 rfl rfl rfl ?_
    refine ss_iconst h dX4_flies_53 54 rfl ?_
    refine ss_iadd h dX4_flies_54 55 rfl ?_
    refine ss_iald h hM.k_w (by decide) (by omega) dX4_flies_55 56 rfl ?_
    rw [lenY]
    refine ss_icmp_ge h dX4_flies_56 59 313 rfl (by decide) (by first | omega | exact sRg_b _) (by first | omega | exact sRg_b _) (fun c56 => ?_) (fun c56 => ?_)
    · skip
      rw [show (len - st).toNat = 0 by omega] at hfl
      have fin313 := J313 (Y, x, y, u, st) ⟨hfl, oY, by dsimp only; omega⟩
      refine ss_kl_7 (ss_kl_8 (ss_kl_9 (ss_kl_10 ?_)))
      exact fin313
    · skip
      obtain ⟨f, hfe⟩ : ∃ f, (len - st).toNat = f + 1 := ⟨(len - st).toNat - 1, by omega⟩
      have hfe2 : f = (len - (st + 1)).toNat := by omega
      rw [hfe] at hfl
      unfold flyS at hfl
      obtain ⟨T, hTe⟩ : ∃ T, T = toldS (Y (m + 1)) hb (fctS (Y (m + 1)) x y u st len s) := ⟨_, rfl⟩
      rw [← hTe] at hfl
      have hT4 : 0 ≤ T ∧ T ≤ 4 := by rw [hTe]; exact toldS_in _ (fY.2.2.2.2.2 hb s4.1 s4.2)
      refine ss_aload_n (i := 0) h dX4_flies_59 60 rfl rfl rfl ?_
      refine ss_iload_n (i := 3) h dX4_flies_60 61 rfl rfl rfl ?_
      refine ss_iload h dX4_flies_61 63 rfl rfl ?_
      refine ss_iload h dX4_flies_63 65 rfl rfl ?_
      refine ss_cVn h (m_laysFacts hM (d := d - 1) dY fY.2.2.2.1 pY hu (by omega)) (lw_V q1376 q1378 qs62 q87 q1379) kl4 hM.ob 3 rfl md_X4_laysFacts rfl (by omega) (by decide) rfl dX4_flies_65 68 rfl rfl (Nat.le_of_ble_eq_true rfl) (by omega) (by omega) (fun X65 x65 => ?_)
      have w65 : X65 (m + 1) = Y (m + 1) := by rw [x65]; exact sArr_n (by omega)
      have hn : m + 1 ≠ m + 9 := by omega
      refine ss_aload_n (i := 0) h dX4_flies_68 69 rfl rfl rfl ?_
      refine ss_getS h kl4 11 11 rfl (by decide) rfl hM.ob q1098 dX4_flies_69 72 rfl hM.r_facts ?_
      refine ss_bipush h dX4_flies_72 74 rfl (by decide +kernel) ?_
      refine ss_iload h dX4_flies_74 76 rfl rfl ?_
      refine ss_iast h hM.k_facts (by decide) (by omega) (by omega) dX4_flies_76 77 rfl ?_
      refine ss_aload_n (i := 0) h dX4_flies_77 78 rfl rfl rfl ?_
      refine ss_getS h kl4 11 11 rfl (by decide) rfl hM.ob q1098 dX4_flies_78 81 rfl hM.r_facts ?_
      refine ss_bipush h dX4_flies_81 83 rfl (by decide +kernel) ?_
      refine ss_aload_n (i := 0) h dX4_flies_83 84 rfl rfl rfl ?_
      refine ss_getS h kl4 0 0 rfl (by decide) rfl hM.ob q1087 dX4_flies_84 87 rfl hM.r_w ?_
      refine ss_iload_n (i := 2) h dX4_flies_87 88 rfl rfl rfl ?_
      refine ss_iconst h dX4_flies_88 89 rfl ?_
      refine ss_iadd h dX4_flies_89 90 rfl ?_
      refine ss_iald h hM.k_w (by decide) (by omega) dX4_flies_90 91 rfl ?_
      rw [sUp_ne hn, w65, lenY]
      refine ss_iload h dX4_flies_91 93 rfl rfl ?_
      refine ss_isub h dX4_flies_93 94 rfl ?_
      refine ss_iast h hM.k_facts (by decide) (by omega) (by omega) dX4_flies_94 95 rfl ?_
      refine ss_aload_n (i := 0) h dX4_flies_95 96 rfl rfl rfl ?_
      refine ss_getS h kl4 11 11 rfl (by decide) rfl hM.ob q1098 dX4_flies_96 99 rfl hM.r_facts ?_
      refine ss_bipush h dX4_flies_99 101 rfl (by decide +kernel) ?_
      refine ss_iload_n (i := 1) h dX4_flies_101 102 rfl rfl rfl ?_
      refine ss_iast h hM.k_facts (by decide) (by omega) (by omega) dX4_flies_102 103 rfl ?_
      refine ss_aload_n (i := 0) h dX4_flies_103 104 rfl rfl rfl ?_
      refine ss_aload_n (i := 0) h dX4_flies_104 105 rfl rfl rfl ?_
      refine ss_getS h kl4 0 0 rfl (by decide) rfl hM.ob q1087 dX4_flies_105 108 rfl hM.r_w ?_
      refine ss_iload_n (i := 2) h dX4_flies_108 109 rfl rfl rfl ?_
      refine ss_iconst h dX4_flies_109 110 rfl ?_
      refine ss_iadd h dX4_flies_110 111 rfl ?_
      refine ss_iald h hM.k_w (by decide) (by omega) dX4_flies_111 112 rfl ?_
      rw [sUp_ne hn, sUp_ne hn, sUp_ne hn, w65, hbY]
      refine ss_cVa h (m_told hM (d := d - 1) s4 (by rw [sUp_ne hn, sUp_ne hn, sUp_ne hn, w65]; exact fY.2.2.2.2.2 hb s4.1 s4.2) (by omega)) (lw_V q1397 q1399 qs65 q87 q1400) kl4 hM.ob 1 rfl md_X4_told rfl (by omega) (by decide) rfl dX4_flies_112 115 rfl rfl (Nat.le_of_ble_eq_true rfl) (by omega) (by omega) (fun X112 x112 => ?_)
      rw [show toldS (sUp (sUp (sUp X65 (m + 9) 7 st) (m + 9) 8 (len - st)) (m + 9) 9 s (m + 1)) hb (sUp (sUp (sUp X65 (m + 9) 7 st) (m + 9) 8 (len - st)) (m + 9) 9 s (m + 9)) = T from by
        rw [hTe, sUp_ne hn, sUp_ne hn, sUp_ne hn, w65]
        refine toldS_congr (fun i i1 i2 => ?_) (fY.2.2.2.2.2 hb s4.1 s4.2)
        rw [sUp_s, sUp_s, sUp_s, x65, sArr_s]
        unfold fctS
        dsimp only [upW]
        by_cases e9 : i = 9
        · subst e9; rfl
        by_cases e8 : i = 8
        · subst e8; rfl
        by_cases e7 : i = 7
        · subst e7; rfl
        rw [if_neg e9, if_neg e8, if_neg e7, if_neg e7, if_neg e8, if_neg e9]
        unfold layS
        by_cases z1 : i = 1
        · subst z1; rfl
        by_cases z2 : i = 2
        · subst z2; rfl
        by_cases z3 : i = 3
        · subst z3; rfl
        by_cases z4 : i = 4
        · subst z4; rfl
        by_cases z5 : i = 5
        · subst z5; rfl
        by_cases z6 : i = 6
        · subst z6; rfl
        omega]
      obtain ⟨g8, e112⟩ := x112
      have w112 : X112 (m + 1) = Y (m + 1) := by rw [e112, sArr_n (by omega), sUp_ne hn, sUp_ne hn, sUp_ne hn, w65]
      have o112 : sOff [1, 8, 9] m X X112 := by
        refine sOff_tr oY fun b hb => ?_
        rw [e112, sArr_n (hb 8 (by decide)), sUp_ne (hb 9 (by decide)), sUp_ne (hb 9 (by decide)), sUp_ne (hb 9 (by decide)), x65, sArr_n (hb 9 (by decide))]
      clear e112 x65 w65
      refine ss_ist_8 h dX4_flies_115 117 rfl ?_
      refine ss_iload h dX4_flies_117 119 rfl rfl ?_
      refine ss_iconst h dX4_flies_119 120 rfl ?_
      refine ss_icmp_ne h dX4_flies_120 123 126 rfl (by decide) (by first | omega | exact sRg_b _) (by first | omega | exact sRg_b _) (fun c120 => ?_) (fun c120 => ?_)
      · skip
        rw [if_neg c120] at hfl
        dsimp only at hfl
        refine ss_cut (σ := Int) (fun r => r = turnS (Y (m + 1)) x y T) 160 (fun r => X112) (fun r => [some (.ref m), some (vI s), some (vI (1855 + 5 * s)), some (vI x), some (vI y), some (vI u), some (vI st), some (vI 1), some (vI r), none, none]) (fun r => []) (fun r h160 => ?_) (fun J160 => ?_)
        · skip
          rw [← h160] at hfl
          have hr4 : 0 ≤ r ∧ r ≤ 4 := by rw [h160]; exact turn_in _ _ _ hT4
          have hu2 := head_in hu hr4
          refine ss_iload h dX4_flies_160 162 rfl rfl ?_
          refine ss_iload h dX4_flies_162 164 rfl rfl ?_
          refine ss_iadd h dX4_flies_164 165 rfl ?_
          refine ss_iconst h dX4_flies_165 166 rfl ?_
          refine ss_irem h dX4_flies_166 167 rfl (by omega) (by omega) (by omega) ?_
          obtain ⟨v, hv⟩ : ∃ v, v = (u + r).tmod 4 := ⟨_, rfl⟩
          rw [← hv] at hfl hu2 ⊢
          have ax := adX_in v
          have ay := adY_in v
          refine ss_ist_5 h dX4_flies_167 169 rfl ?_
          refine ss_aload_n (i := 0) h dX4_flies_169 170 rfl rfl rfl ?_
          refine ss_iload_n (i := 3) h dX4_flies_170 171 rfl rfl rfl ?_
          refine ss_iload h dX4_flies_171 173 rfl rfl ?_
          refine ss_cSv h (m_aheadX (d := d - 1) (by omega)) (lw_S q1380 q1381 q87 q1382) 1 rfl md_X4_aheadX (by omega) (by decide) rfl dX4_flies_173 176 rfl rfl (Nat.le_of_ble_eq_true rfl) (by omega) (by omega) ?_
          refine ss_iadd h dX4_flies_176 177 rfl ?_
          refine ss_iload h dX4_flies_177 179 rfl rfl ?_
          refine ss_iload h dX4_flies_179 181 rfl rfl ?_
          refine ss_cSv h (m_aheadY (d := d - 1) (by omega)) (lw_S q1383 q1384 q87 q1385) 1 rfl md_X4_aheadY (by omega) (by decide) rfl dX4_flies_181 184 rfl rfl (Nat.le_of_ble_eq_true rfl) (by omega) (by omega) ?_
          refine ss_iadd h dX4_flies_184 185 rfl ?_
          refine ss_cVv h (m_isPoint hM (d := d - 1) (by rw [w112]; exact dY) (by omega) (by omega) (by omega)) (lw_V q1246 q1248 qs43 q87 q1249) kl4 hM.ob 2 rfl md_X4_isPoint rfl (by omega) (by decide) rfl dX4_flies_185 188 rfl rfl (Nat.le_of_ble_eq_true rfl) (by omega) (by omega) ?_
          rw [w112]
          refine ss_if_ne h dX4_flies_188 191 194 rfl (by decide) (by first | omega | exact sRg_b _) (fun c188 => ?_) (fun c188 => ?_)
          · skip
            replace c188 := bI_1.mp c188
            rw [if_pos c188] at hfl
            have yd := yard_in dY hu2 pY c188
            have c188' := pointB_t.mp c188
            obtain ⟨mk1, mk2⟩ := mark_same (Y (m + 1)) s st yd
            have fW := flyOK_same mk1 (by rw [mk2]; exact fY.2.2.1) fY
            obtain ⟨W1, hW1⟩ : ∃ W, W = markS (Y (m + 1)) s (yardS x y v) st := ⟨_, rfl⟩
            rw [← hW1] at hfl mk1 mk2 fW
            have pW : pointB W1 (x + adX v) (y + adY v) = true := by rw [pointB_same mk1]; exact c188
            refine ss_iload_n (i := 3) h dX4_flies_194 195 rfl rfl rfl ?_
            refine ss_iload h dX4_flies_195 197 rfl rfl ?_
            refine ss_iload h dX4_flies_197 199 rfl rfl ?_
            refine ss_cSv h (m_yardBy (d := d - 1) hu2) (lw_S q1394 q1395 q87 q1396) 3 rfl md_X4_yardBy (by omega) (by decide) rfl dX4_flies_199 202 rfl rfl (Nat.le_of_ble_eq_true rfl) (by omega) (by omega) ?_
            refine ss_ist_9 h dX4_flies_202 204 rfl ?_
            refine ss_cut (σ := XT) (fun Z => Z (m + 1) = W1 ∧ sOff [1, 8, 9] m X Z) 244 (fun Z => Z) (fun Z => [some (.ref m), some (vI s), some (vI (1855 + 5 * s)), some (vI x), some (vI y), some (vI v), some (vI st), some (vI 1), some (vI r), some (vI (yardS x y v)), none]) (fun Z => []) (fun Z h244 => ?_) (fun J244 => ?_)
            · skip
              obtain ⟨z1, z2⟩ := h244
              refine ss_iload_n (i := 3) h dX4_flies_244 245 rfl rfl rfl ?_
              refine ss_iload h dX4_flies_245 247 rfl rfl ?_
              refine ss_cSv h (m_aheadX (d := d - 1) (by omega)) (lw_S q1380 q1381 q87 q1382) 1 rfl md_X4_aheadX (by omega) (by decide) rfl dX4_flies_247 250 rfl rfl (Nat.le_of_ble_eq_true rfl) (by omega) (by omega) ?_
              refine ss_iadd h dX4_flies_250 251 rfl ?_
              refine ss_ist_3 h dX4_flies_251 252 rfl ?_
              refine ss_iload h dX4_flies_252 254 rfl rfl ?_
              refine ss_iload h dX4_flies_254 256 rfl rfl ?_
              refine ss_cSv h (m_aheadY (d := d - 1) (by omega)) (lw_S q1383 q1384 q87 q1385) 1 rfl md_X4_aheadY (by omega) (by decide) rfl dX4_flies_256 259 rfl rfl (Nat.le_of_ble_eq_true rfl) (by omega) (by omega) ?_
              refine ss_iadd h dX4_flies_259 260 rfl ?_
              refine ss_ist_4 h dX4_flies_260 262 rfl ?_
              refine ss_aload_n (i := 0) h dX4_flies_262 263 rfl rfl rfl ?_
              refine ss_iload_n (i := 1) h dX4_flies_263 264 rfl rfl rfl ?_
              refine ss_iload_n (i := 3) h dX4_flies_264 265 rfl rfl rfl ?_
              refine ss_iload h dX4_flies_265 267 rfl rfl ?_
              refine ss_cVv h (m_otherAt hM (d := d - 1) (by rw [z1]; exact fW.1) (by omega) (by rw [z1]; exact pW) (by omega)) (lw_V q1408 q1410 qs67 q87 q1411) kl4 hM.ob 3 rfl md_X4_otherAt rfl (by omega) (by decide) rfl dX4_flies_267 270 rfl rfl (Nat.le_of_ble_eq_true rfl) (by omega) (by omega) ?_
              rw [z1]
              refine ss_ist_10 h dX4_flies_270 272 rfl ?_
              obtain ⟨O, hO⟩ : ∃ O, O = othS W1 s (x + adX v) (y + adY v) := ⟨_, rfl⟩
              rw [← hO] at hfl ⊢
              refine ss_rg fun hrZ => ?_
              have hOr : sRg O := by rw [hO]; exact othN_rg (fun i => by rw [← z1]; exact hrZ _ i) _ _ _ _
              obtain ⟨W2, hW2⟩ : ∃ W, W = (if O = -1 then W1 else sueS th W1 s O (x + adX v) (y + adY v) st) := ⟨_, rfl⟩
              rw [← hW2] at hfl
              have hs2 : sameL W1 W2 ∧ 0 ≤ W2 6 ∧ W2 6 ≤ 99 := by
                rw [hW2]
                split
                · exact ⟨sameL_rf _, fW.2.2.1⟩
                · exact sue_same th W1 s _ _ _ _ fW.2.2.1
              have fW2 := flyOK_same hs2.1 hs2.2 fW
              refine ss_cut (σ := XT) (fun Z2 => Z2 (m + 1) = W2 ∧ sOff [1, 8, 9] m X Z2) 290 (fun Z2 => Z2) (fun Z2 => [some (.ref m), some (vI s), some (vI (1855 + 5 * s)), some (vI (x + adX v)), some (vI (y + adY v)), some (vI v), some (vI st), some (vI 1), some (vI r), some (vI (yardS x y v)), some (vI O)]) (fun Z2 => []) (fun Z2 h290 => ?_) (fun J290 => ?_)
              · skip
                obtain ⟨y1, y2⟩ := h290
                refine ss_inc_6 h dX4_flies_290 293 rfl ?_
                refine ss_aload_n (i := 0) h dX4_flies_293 294 rfl rfl rfl ?_
                refine ss_iload_n (i := 3) h dX4_flies_294 295 rfl rfl rfl ?_
                refine ss_iload h dX4_flies_295 297 rfl rfl ?_
                refine ss_cVv h (m_hasCat hM (d := d - 1) (by rw [y1]; exact fW2.1) (by omega) (by omega) (by omega)) (lw_V q1416 q1418 qs69 q87 q1419) kl4 hM.ob 2 rfl md_X4_hasCat rfl (by omega) (by decide) rfl dX4_flies_297 300 rfl rfl (Nat.le_of_ble_eq_true rfl) (by omega) (by omega) ?_
                rw [y1]
                have J41 : ∀ g' : Int, ((g' = 1 ∧ flyS th s len hb (len - (st + 1)).toNat (Z2 (m + 1)) (x + adX v) (y + adY v) v (st + 1) = FIN) ∨ (g' = 0 ∧ (Z2 (m + 1), x + adX v, y + adY v, v, st + 1) = FIN)) → _ := fun g' hg' => ih (Z2, x + adX v, y + adY v, v, st + 1, g') ⟨by dsimp only; rw [y1]; exact fW2, by dsimp only; rw [y1]; exact sameL_tr sY (sameL_tr mk1 hs2.1), y2, by dsimp only; rw [y1, pointB_same hs2.1]; exact pW, hu2, by dsimp only; omega, hg'⟩ (by dsimp only; split <;> (simp <;> omega))
                refine ss_if_ne h dX4_flies_300 303 307 rfl (by decide) (by first | omega | exact sRg_b _) (fun c300 => ?_) (fun c300 => ?_)
                · skip
                  replace c300 := bI_1.mp c300
                  rw [if_pos c300] at hfl
                  have fin := J41 0 (Or.inr ⟨rfl, by rw [y1]; exact hfl⟩)
                  refine ss_iconst h dX4_flies_307 308 rfl ?_
                  refine ss_ist_7 h dX4_flies_308 310 rfl ?_
                  refine ss_goto h dX4_flies_310 41 (by decide) ?_
                  refine ss_kl_8 (ss_kl_9 (ss_kl_10 ?_))
                  exact fin
                · skip
                  replace c300 := bI_0.mp c300
                  rw [if_neg (by rw [c300]; decide), hfe2] at hfl
                  have fin := J41 1 (Or.inl ⟨rfl, by rw [y1]; exact hfl⟩)
                  refine ss_iconst h dX4_flies_303 304 rfl ?_
                  refine ss_goto h dX4_flies_304 308 (by decide) ?_
                  refine ss_ist_7 h dX4_flies_308 310 rfl ?_
                  refine ss_goto h dX4_flies_310 41 (by decide) ?_
                  refine ss_kl_8 (ss_kl_9 (ss_kl_10 ?_))
                  exact fin
              refine ss_iload h dX4_flies_272 274 rfl rfl ?_
              refine ss_iconst h dX4_flies_274 275 rfl ?_
              refine ss_icmp_eq h dX4_flies_275 278 290 rfl (by decide) (by first | omega | exact sRg_b _) (by first | omega | exact sRg_b _) (fun c275 => ?_) (fun c275 => ?_)
              · skip
                have e290 : Z (m + 1) = W2 ∧ sOff [1, 8, 9] m X Z := ⟨by rw [hW2, if_pos c275, z1], z2⟩
                exact J290 _ e290
              · skip
                refine ss_aload_n (i := 0) h dX4_flies_278 279 rfl rfl rfl ?_
                refine ss_iload_n (i := 1) h dX4_flies_279 280 rfl rfl rfl ?_
                refine ss_iload h dX4_flies_280 282 rfl rfl ?_
                refine ss_iload_n (i := 3) h dX4_flies_282 283 rfl rfl rfl ?_
                refine ss_iload h dX4_flies_283 285 rfl rfl ?_
                refine ss_iload h dX4_flies_285 287 rfl rfl ?_
                refine ss_cVn h (m_sues hM (d := d - 1) (th := th) (by rw [sOff_m z2 (by decide)]; exact hth) (by rw [z1]; exact fW.2.2.1) (by omega) hOr (by omega) (by omega) (by omega)) (lw_V q1412 q1414 qs68 q87 q1415) kl4 hM.ob 5 rfl md_X4_sues rfl (by omega) (by decide) rfl dX4_flies_287 290 rfl rfl (Nat.le_of_ble_eq_true rfl) (by omega) (by omega) (fun X287 x287 => ?_)
                have e290 : X287 (m + 1) = W2 ∧ sOff [1, 8, 9] m X X287 := ⟨by rw [x287, sArr_s, z1, hW2, if_neg c275], sOff_tr z2 (by rw [x287]; exact sOff_arr (by decide))⟩
                exact J290 _ e290
            refine ss_aload_n (i := 0) h dX4_flies_204 205 rfl rfl rfl ?_
            refine ss_getS h kl4 0 0 rfl (by decide) rfl hM.ob q1087 dX4_flies_205 208 rfl hM.r_w ?_
            refine ss_sipush h dX4_flies_208 211 rfl (by decide +kernel) ?_
            refine ss_iload h dX4_flies_211 213 rfl rfl ?_
            refine ss_iadd h dX4_flies_213 214 rfl ?_
            refine ss_iald h hM.k_w (by decide) (by omega) dX4_flies_214 215 rfl ?_
            rw [w112]
            refine ss_iconst h dX4_flies_215 216 rfl ?_
            refine ss_icmp_ne h dX4_flies_216 219 244 rfl (by decide) (hrY _ _) (by omega) (fun c216 => ?_) (fun c216 => ?_)
            · skip
              have e244 : X112 (m + 1) = W1 ∧ sOff [1, 8, 9] m X X112 := ⟨by rw [hW1]; unfold markS; rw [if_neg c216, w112], o112⟩
              exact J244 _ e244
            · skip
              have e244 : sUp (sUp X112 (m + 1) (850 + yardS x y v) s) (m + 1) (1092 + yardS x y v) st (m + 1) = W1 ∧ sOff [1, 8, 9] m X (sUp (sUp X112 (m + 1) (850 + yardS x y v) s) (m + 1) (1092 + yardS x y v) st) := ⟨by rw [hW1]; unfold markS; rw [if_pos c216, sUp_s, sUp_s, w112], sOff_tr o112 (sOff_tr (sOff_up (by decide)) (sOff_up (by decide)))⟩
              refine ss_aload_n (i := 0) h dX4_flies_219 220 rfl rfl rfl ?_
              refine ss_getS h kl4 0 0 rfl (by decide) rfl hM.ob q1087 dX4_flies_220 223 rfl hM.r_w ?_
              refine ss_sipush h dX4_flies_223 226 rfl (by decide +kernel) ?_
              refine ss_iload h dX4_flies_226 228 rfl rfl ?_
              refine ss_iadd h dX4_flies_228 229 rfl ?_
              refine ss_iload_n (i := 1) h dX4_flies_229 230 rfl rfl rfl ?_
              refine ss_iast h hM.k_w (by decide) (by omega) (by omega) dX4_flies_230 231 rfl ?_
              refine ss_aload_n (i := 0) h dX4_flies_231 232 rfl rfl rfl ?_
              refine ss_getS h kl4 0 0 rfl (by decide) rfl hM.ob q1087 dX4_flies_232 235 rfl hM.r_w ?_
              refine ss_sipush h dX4_flies_235 238 rfl (by decide +kernel) ?_
              refine ss_iload h dX4_flies_238 240 rfl rfl ?_
              refine ss_iadd h dX4_flies_240 241 rfl ?_
              refine ss_iload h dX4_flies_241 243 rfl rfl ?_
              refine ss_iast h hM.k_w (by decide) (by omega) (by omega) dX4_flies_243 244 rfl ?_
              exact J244 _ e244
          · skip
            replace c188 := bI_0.mp c188
            rw [if_neg (by rw [c188]; decide)] at hfl
            have fin313 := J313 (X112, x, y, v, st) ⟨by rw [← hfl]; dsimp only; rw [w112], o112, by dsimp only; omega⟩
            refine ss_goto h dX4_flies_191 313 (by decide) ?_
            refine ss_kl_7 (ss_kl_8 (ss_kl_9 (ss_kl_10 ?_)))
            exact fin313
        refine ss_aload_n (i := 0) h dX4_flies_126 127 rfl rfl rfl ?_
        refine ss_getS h kl4 0 0 rfl (by decide) rfl hM.ob q1087 dX4_flies_127 130 rfl hM.r_w ?_
        refine ss_sipush h dX4_flies_130 133 rfl (by decide +kernel) ?_
        refine ss_bipush h dX4_flies_133 135 rfl (by decide +kernel) ?_
        refine ss_iload h dX4_flies_135 137 rfl rfl ?_
        refine ss_imul h dX4_flies_137 138 rfl ?_
        refine ss_iadd h dX4_flies_138 139 rfl ?_
        refine ss_iload_n (i := 3) h dX4_flies_139 140 rfl rfl rfl ?_
        refine ss_iadd h dX4_flies_140 141 rfl ?_
        refine ss_iald h hM.k_w (by decide) (by omega) dX4_flies_141 142 rfl ?_
        rw [w112]
        refine ss_iconst h dX4_flies_142 143 rfl ?_
        refine ss_icmp_ne h dX4_flies_143 146 160 rfl (by decide) (hrY _ _) (by omega) (fun c143 => ?_) (fun c143 => ?_)
        · skip
          have e160 : T = turnS (Y (m + 1)) x y T := by unfold turnS; rw [if_neg (fun z => c143 z.1)]
          exact J160 _ e160
        · skip
          refine ss_iload h dX4_flies_146 148 rfl rfl ?_
          refine ss_iconst h dX4_flies_148 149 rfl ?_
          refine ss_irem h dX4_flies_149 150 rfl (by omega) (by omega) (by omega) ?_
          refine ss_iconst h dX4_flies_150 151 rfl ?_
          refine ss_icmp_ne h dX4_flies_151 154 160 rfl (by decide) (by rw [Int.tmod_eq_emod_of_nonneg hT4.1]; omega) (by omega) (fun c151 => ?_) (fun c151 => ?_)
          · skip
            have e160 : T = turnS (Y (m + 1)) x y T := by unfold turnS; rw [if_neg (fun z => c151 z.2)]
            exact J160 _ e160
          · skip
            have e160 : 4 - T = turnS (Y (m + 1)) x y T := by unfold turnS; rw [if_pos ⟨c143, c151⟩]
            refine ss_iconst h dX4_flies_154 155 rfl ?_
            refine ss_iload h dX4_flies_155 157 rfl rfl ?_
            refine ss_isub h dX4_flies_157 158 rfl ?_
            refine ss_ist_8 h dX4_flies_158 160 rfl ?_
            exact J160 _ e160
      · skip
        rw [if_pos c120] at hfl
        have fin313 := J313 (X112, x, y, u, st) ⟨by rw [← hfl]; dsimp only; rw [w112], o112, by dsimp only; omega⟩
        refine ss_goto h dX4_flies_123 313 (by decide) ?_
        refine ss_kl_7 (ss_kl_8 (ss_kl_9 (ss_kl_10 ?_)))
        exact fin313
theorem m_allFly (hM : MOk Ω n K R m) {th : Bool} (hf : flyOK (X (m + 1))) (hth : X m 6 = bI th) (hl : 6 ≤ d) : sCt Ω yX4_allFly cX4_allFly 2 none d 0 0 [.ref m] n K X R (pN n K R (fun X' => X' (m + 1) = allF th (X (m + 1)) ∧ (∀ i, 0 ≤ i → i < X (m + 1) 4 → X' (m + 10) i = (endS th (X (m + 1)) i).2.1 ∧ X' (m + 11) i = (endS th (X (m + 1)) i).2.2.1 ∧ X' (m + 13) i = (endS th (X (m + 1)) i).2.2.2.1 ∧ X' (m + 12) i = (endS th (X (m + 1)) i).2.2.2.2) ∧ sOff [1, 8, 9, 10, 11, 12, 13] m X X')) := by
  have h4 := hf.2.1
  refine sCt_of (by decide) (by simp [Value.category, vI, va_rf]) (Nat.le_of_ble_eq_true rfl) fun Γ P9 hP9 h => ?_
  show sG (_, _, _, _, _) Γ 0 0 _ _ _ _ 0 [some _, none] []
  refine ss_aload_n (i := 0) h dX4_allFly_0 1 rfl rfl rfl ?_
  refine ss_cVn h (m_clears hM (d := d - 1)) (lw_V q1083 q1085 qs39 q87 q1086) kl4 hM.ob 0 rfl md_X4_clears rfl (by omega) (by decide) rfl dX4_allFly_1 4 rfl rfl (Nat.le_of_ble_eq_true rfl) (by omega) (by omega) (fun X1 x1 => ?_)
  refine ss_iconst h dX4_allFly_4 5 rfl ?_
  refine ss_ist_1 h dX4_allFly_5 6 rfl ?_
  refine ss_loop (σ := Nat × XT) (Pp := fun z => sG _ Γ 0 0 n K z.2 R 6 [some (.ref m), some (vI z.1)] []) (I := fun z => (z.1 : Int) ≤ X (m + 1) 4 ∧ z.2 (m + 1) = flyN th (clrW (X (m + 1))) z.1 ∧ (∀ i : Int, 0 ≤ i → i < z.1 → z.2 (m + 10) i = (endS th (X (m + 1)) i).2.1 ∧ z.2 (m + 11) i = (endS th (X (m + 1)) i).2.2.1 ∧ z.2 (m + 13) i = (endS th (X (m + 1)) i).2.2.2.1 ∧ z.2 (m + 12) i = (endS th (X (m + 1)) i).2.2.2.2) ∧ sOff [1, 8, 9, 10, 11, 12, 13] m X z.2) (fun z => (X (m + 1) 4 - z.1).toNat) (fun z hz ih => ?_) (0, X1) ⟨by dsimp only; omega, by dsimp only; rw [x1, sArr_s]; rfl, fun i i1 i2 => by dsimp only at i2; omega, by dsimp only; rw [x1]; exact sOff_arr (by decide)⟩
  obtain ⟨j, Y⟩ := z
  dsimp only at hz ih ⊢
  obtain ⟨hj, hw, he, ho⟩ := hz
  have hc4 : clrW (X (m + 1)) 4 = X (m + 1) 4 := rfl
  obtain ⟨n1, n2⟩ := flyN_same th (clr_ok hf) j (by rw [hc4]; exact hj)
  have y4 : Y (m + 1) 4 = X (m + 1) 4 := by rw [hw, n1 4 (by unfold lndP; omega)]; exact hc4
  refine ss_iload_n (i := 1) h dX4_allFly_6 7 rfl rfl rfl ?_
  refine ss_aload_n (i := 0) h dX4_allFly_7 8 rfl rfl rfl ?_
  refine ss_getS h kl4 0 0 rfl (by decide) rfl hM.ob q1087 dX4_allFly_8 11 rfl hM.r_w ?_
  refine ss_iconst h dX4_allFly_11 12 rfl ?_
  refine ss_iald h hM.k_w (by decide) (by omega) dX4_allFly_12 13 rfl ?_
  rw [y4]
  refine ss_icmp_ge h dX4_allFly_13 16 27 rfl (by decide) (by first | omega | exact sRg_b _) (by first | omega | exact sRg_b _) (fun c13 => ?_) (fun c13 => ?_)
  · skip
    refine ss_vret h dX4_allFly_27 (by omega) (by omega) ?_
    rw [hP9]
    have hj4 : j = (X (m + 1) 4).toNat := by omega
    refine ⟨rfl, rfl, rfl, rfl, by rw [hw, hj4]; rfl, fun i i1 i2 => he i i1 (by omega), ho⟩
  · skip
    refine ss_aload_n (i := 0) h dX4_allFly_16 17 rfl rfl rfl ?_
    refine ss_iload_n (i := 1) h dX4_allFly_17 18 rfl rfl rfl ?_
    refine ss_cVn h (m_flies hM (d := d - 1) (th := th) (by rw [hw]; exact n2) (by rw [y4]; omega) (by rw [sOff_m ho (by decide)]; exact hth) (by omega)) (lw_V q1372 q1374 qs61 q87 q1375) kl4 hM.ob 1 rfl md_X4_flies rfl (by omega) (by decide) rfl dX4_allFly_18 21 rfl rfl (Nat.le_of_ble_eq_true rfl) (by omega) (by omega) (fun X18 x18 => ?_)
    obtain ⟨g1, g2, g3, g4, g5, g6⟩ := x18
    refine ss_inc_1 h dX4_allFly_21 24 rfl ?_
    refine ss_goto h dX4_allFly_24 6 (by decide) ?_
    refine ih (j + 1, X18) ⟨by dsimp only; omega, by dsimp only; rw [g1, hw]; rfl, fun i i1 i2 => ?_, sOff_tr ho g6⟩ (by dsimp only; omega)
    dsimp only at i2 ⊢
    rw [g2, g3, g4, g5]
    by_cases e : i = j
    · subst e
      rw [upW_s, upW_s, upW_s, upW_s, hw]
      unfold endS
      rw [Int.toNat_natCast]
      exact ⟨rfl, rfl, rfl, rfl⟩
    · rw [upW_n e, upW_n e, upW_n e, upW_n e]
      exact he i i1 (by omega)
end M6

