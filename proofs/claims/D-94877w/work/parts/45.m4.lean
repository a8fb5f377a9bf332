/-! ===== the twin: flights, what is told, others, cats, suits ===== -/
section M4
variable {Ω : OmT} {n : Nat} {K : KT} {X : XT} {R : RT} {m : Nat} {d : Nat}
theorem m_told (hM : MOk Ω n K R m) {k : Int} (h1 : 0 ≤ k ∧ k ≤ 3) (ht : textOK (X (m + 1)) k) (hl : 2 ≤ d) : sCt Ω yX4_told cX4_told 4 (some .int) d 0 0 [.ref m, vI k] n K X R (pA n K R (vI (toldS (X (m + 1)) k (X (m + 9)))) (fun X' => ∃ g, X' = sArr X (m + 8) g)) := by
  refine sCt_of (by decide) (by simp [Value.category, vI, va_rf]) (Nat.le_of_ble_eq_true rfl) fun Γ P9 hP9 h => ?_
  show sG (_, _, _, _, _) Γ 0 0 _ _ _ _ 0 [some _, some _, none, none] []
  refine ss_rg fun hrg => ?_
  have hmx := ht.1
  refine ss_iconst h dX4_told_0 1 rfl ?_
  refine ss_ist_2 h dX4_told_1 2 rfl ?_
  refine ss_X (X' := sArr X (m + 8) (X (m + 8))) sArr_id.symm ?_
  refine ss_loop (σ := Int × WT) (Pp := fun s => sG _ Γ 0 0 n K (sArr X (m + 8) s.2) R 2 [some (.ref m), some (vI k), some (vI s.1), none] []) (I := fun s => (0 ≤ s.1 ∧ s.1 ≤ X (m + 1) (1985 + k)) ∧ toldF (X (m + 1)) k (X (m + 9)) (X (m + 1) (1985 + k) - s.1).toNat s.1 = toldS (X (m + 1)) k (X (m + 9))) (fun s => (X (m + 1) (1985 + k) - s.1).toNat) (fun s hs ih => ?_) (0, X (m + 8)) ⟨⟨by dsimp only; omega, ht.1.1⟩, by dsimp only; unfold toldS; rw [Int.sub_zero]⟩
  obtain ⟨i, g⟩ := s
  dsimp only at hs ih ⊢
  obtain ⟨hi, hT⟩ := hs
  have e1 : sArr X (m + 8) g (m + 1) = X (m + 1) := sArr_n (by omega)
  have e9 : sArr X (m + 8) g (m + 9) = X (m + 9) := sArr_n (by omega)
  refine ss_iload_n (i := 2) h dX4_told_2 3 rfl rfl rfl ?_
  refine ss_aload_n (i := 0) h dX4_told_3 4 rfl rfl rfl ?_
  refine ss_getS h kl4 0 0 rfl (by decide) rfl hM.ob q1087 dX4_told_4 7 rfl hM.r_w ?_
  refine ss_sipush h dX4_told_7 10 rfl (by decide +kernel) ?_
  refine ss_iload_n (i := 1) h dX4_told_10 11 rfl rfl rfl ?_
  refine ss_iadd h dX4_told_11 12 rfl ?_
  refine ss_iald h hM.k_w (by decide) (by omega) dX4_told_12 13 rfl ?_
  rw [e1]
  refine ss_icmp_ge h dX4_told_13 16 92 rfl (by decide) (by omega) (hrg _ _) (fun c13 => ?_) (fun c13 => ?_)
  · skip
    refine ss_iconst h dX4_told_92 93 rfl ?_
    refine ss_iret h dX4_told_93 (by omega) (by omega) ?_
    rw [hP9]
    exact ⟨by rw [show (X (m + 1) (1985 + k) - i).toNat = 0 by omega] at hT; rw [← hT]; rfl, rfl, rfl, rfl, _, rfl⟩
  · skip
    obtain ⟨N, hN⟩ : ∃ N, (X (m + 1) (1985 + k) - i).toNat = N + 1 := ⟨(X (m + 1) (1985 + k) - i).toNat - 1, by omega⟩
    have hN2 : N = (X (m + 1) (1985 + k) - (i + 1)).toNat := by omega
    rw [hN] at hT
    unfold toldF at hT
    obtain ⟨w1, w2, w3⟩ := ht.2 i hi.1 (by omega)
    have a1 : (2130 : Int) + (16 * k + i) = 2130 + 16 * k + i := by omega
    have a2 : (2060 : Int) + (16 * k + i) = 2060 + 16 * k + i := by omega
    have a3 : (1990 : Int) + (16 * k + i) = 1990 + 16 * k + i := by omega
    refine ss_bipush h dX4_told_16 18 rfl (by decide +kernel) ?_
    refine ss_iload_n (i := 1) h dX4_told_18 19 rfl rfl rfl ?_
    refine ss_imul h dX4_told_19 20 rfl ?_
    refine ss_iload_n (i := 2) h dX4_told_20 21 rfl rfl rfl ?_
    refine ss_iadd h dX4_told_21 22 rfl ?_
    refine ss_ist_3 h dX4_told_22 23 rfl ?_
    refine ss_aload_n (i := 0) h dX4_told_23 24 rfl rfl rfl ?_
    refine ss_getS h kl4 0 0 rfl (by decide) rfl hM.ob q1087 dX4_told_24 27 rfl hM.r_w ?_
    refine ss_sipush h dX4_told_27 30 rfl (by decide +kernel) ?_
    refine ss_iload_n (i := 3) h dX4_told_30 31 rfl rfl rfl ?_
    refine ss_iadd h dX4_told_31 32 rfl ?_
    refine ss_iald h hM.k_w (by decide) (by omega) dX4_told_32 33 rfl ?_
    rw [e1, a1]
    refine ss_aload_n (i := 0) h dX4_told_33 34 rfl rfl rfl ?_
    refine ss_getS h kl4 0 0 rfl (by decide) rfl hM.ob q1087 dX4_told_34 37 rfl hM.r_w ?_
    refine ss_sipush h dX4_told_37 40 rfl (by decide +kernel) ?_
    refine ss_iload_n (i := 3) h dX4_told_40 41 rfl rfl rfl ?_
    refine ss_iadd h dX4_told_41 42 rfl ?_
    refine ss_iald h hM.k_w (by decide) (by omega) dX4_told_42 43 rfl ?_
    rw [e1, a2]
    refine ss_icmp_eq h dX4_told_43 46 75 rfl (by decide) (hrg _ _) (hrg _ _) (fun c43 => ?_) (fun c43 => ?_)
    · skip
      refine ss_aload_n (i := 0) h dX4_told_75 76 rfl rfl rfl ?_
      refine ss_getS h kl4 0 0 rfl (by decide) rfl hM.ob q1087 dX4_told_76 79 rfl hM.r_w ?_
      refine ss_sipush h dX4_told_79 82 rfl (by decide +kernel) ?_
      refine ss_iload_n (i := 3) h dX4_told_82 83 rfl rfl rfl ?_
      refine ss_iadd h dX4_told_83 84 rfl ?_
      refine ss_iald h hM.k_w (by decide) (by omega) dX4_told_84 85 rfl ?_
      refine ss_iret h dX4_told_85 (by omega) (by omega) ?_
      rw [hP9]
      exact ⟨by rw [sArr_n (by omega), a3, ← hT, if_pos]; unfold takesB; rw [decide_eq_true_eq]; first | exact Or.inl c43 | exact Or.inr c72, rfl, rfl, rfl, _, rfl⟩
    · skip
      refine ss_aload_n (i := 0) h dX4_told_46 47 rfl rfl rfl ?_
      refine ss_iload_n (i := 1) h dX4_told_47 48 rfl rfl rfl ?_
      refine ss_aload_n (i := 0) h dX4_told_48 49 rfl rfl rfl ?_
      refine ss_getS h kl4 0 0 rfl (by decide) rfl hM.ob q1087 dX4_told_49 52 rfl hM.r_w ?_
      refine ss_sipush h dX4_told_52 55 rfl (by decide +kernel) ?_
      refine ss_iload_n (i := 3) h dX4_told_55 56 rfl rfl rfl ?_
      refine ss_iadd h dX4_told_56 57 rfl ?_
      refine ss_iald h hM.k_w (by decide) (by omega) dX4_told_57 58 rfl ?_
      rw [e1, a2]
      refine ss_aload_n (i := 0) h dX4_told_58 59 rfl rfl rfl ?_
      refine ss_getS h kl4 0 0 rfl (by decide) rfl hM.ob q1087 dX4_told_59 62 rfl hM.r_w ?_
      refine ss_sipush h dX4_told_62 65 rfl (by decide +kernel) ?_
      refine ss_iload_n (i := 3) h dX4_told_65 66 rfl rfl rfl ?_
      refine ss_iadd h dX4_told_66 67 rfl ?_
      refine ss_iald h hM.k_w (by decide) (by omega) dX4_told_67 68 rfl ?_
      rw [e1, a1]
      have w4 := w3 c43
      refine ss_cVa h (m_comesTo (X := sArr X (m + 8) g) hM (d := d - 1) h1 w2 (by rw [e1]; exact w4.1) (by omega)) (lw_V q1401 q1403 qs66 q87 q1404) kl4 hM.ob 3 rfl md_X4_comesTo rfl (by omega) (by decide) rfl dX4_told_68 71 rfl rfl (Nat.le_of_ble_eq_true rfl) (by omega) (by omega) (fun X68 x68 => ?_)
      obtain ⟨g', rfl⟩ := x68
      rw [sArr_sArr, e1, e9]
      have e1' : sArr X (m + 8) g' (m + 1) = X (m + 1) := sArr_n (by omega)
      have hv := w4.2 (X (m + 9))
      refine ss_iconst h dX4_told_71 72 rfl ?_
      refine ss_icmp_ne h dX4_told_72 75 86 rfl (by decide) (by omega) (by omega) (fun c72 => ?_) (fun c72 => ?_)
      · skip
        rw [if_neg (by unfold takesB; rw [decide_eq_true_eq]; rintro (q | q); exact c43 q; exact c72 q)] at hT
        refine ss_inc_2 h dX4_told_86 89 rfl ?_
        refine ss_goto h dX4_told_89 2 (by decide) ?_
        refine ss_kl_3 ?_
        exact ih (i + 1, g') ⟨by dsimp only; omega, by dsimp only; rw [← hN2]; exact hT⟩ (by dsimp only; omega)
      · skip
        refine ss_aload_n (i := 0) h dX4_told_75 76 rfl rfl rfl ?_
        refine ss_getS h kl4 0 0 rfl (by decide) rfl hM.ob q1087 dX4_told_76 79 rfl hM.r_w ?_
        refine ss_sipush h dX4_told_79 82 rfl (by decide +kernel) ?_
        refine ss_iload_n (i := 3) h dX4_told_82 83 rfl rfl rfl ?_
        refine ss_iadd h dX4_told_83 84 rfl ?_
        refine ss_iald h hM.k_w (by decide) (by omega) dX4_told_84 85 rfl ?_
        refine ss_iret h dX4_told_85 (by omega) (by omega) ?_
        rw [hP9]
        exact ⟨by rw [sArr_n (by omega), a3, ← hT, if_pos]; unfold takesB; rw [decide_eq_true_eq]; first | exact Or.inl c43 | exact Or.inr c72, rfl, rfl, rfl, _, rfl⟩
theorem othN_rg {w : WT} (h : ∀ i, sRg (w i)) (s x y : Int) : ∀ k, sRg (othN w s x y k)
  | 0 => by unfold othN; omega
  | k + 1 => by
    unfold othN oth1
    have := othN_rg h s x y k
    have h2 := h (850 + yardS x y k)
    (repeat' split) <;> assumption
theorem m_otherAt (hM : MOk Ω n K R m) {s x y : Int} (hd : Dim (X (m + 1))) (h1 : sRg s) (h2 : pointB (X (m + 1)) x y = true) (hl : 2 ≤ d) : sCt Ω yX4_otherAt cX4_otherAt 7 (some .int) d 0 0 [.ref m, vI s, vI x, vI y] n K X R (pV n K X R (some (vI (othS (X (m + 1)) s x y)))) := by
  have hd' := hd
  unfold Dim at hd'
  have h2' := pointB_t.mp h2
  refine sCt_of (by decide) (by simp [Value.category, vI, va_rf]) (Nat.le_of_ble_eq_true rfl) fun Γ P9 hP9 h => ?_
  show sG (_, _, _, _, _) Γ 0 0 _ _ _ _ 0 [some _, some _, some _, some _, none, none, none] []
  refine ss_rg fun hrg => ?_
  have hor := othN_rg (w := X (m + 1)) (fun i => hrg _ i) s x y
  refine ss_iconst h dX4_otherAt_0 1 rfl ?_
  refine ss_ist_4 h dX4_otherAt_1 3 rfl ?_
  refine ss_iconst h dX4_otherAt_3 4 rfl ?_
  refine ss_ist_5 h dX4_otherAt_4 6 rfl ?_
  refine ss_loop (σ := Nat) (Pp := fun k => sG _ Γ 0 0 n K X R 6 [some (.ref m), some (vI s), some (vI x), some (vI y), some (vI (othN (X (m + 1)) s x y k)), some (vI k), none] []) (I := fun k => k ≤ 4) (fun k => 4 - k) (fun k hk ih => ?_) 0 (by omega)
  refine ss_iload h dX4_otherAt_6 8 rfl rfl ?_
  refine ss_iconst h dX4_otherAt_8 9 rfl ?_
  refine ss_icmp_ge h dX4_otherAt_9 12 89 rfl (by decide) (by first | omega | exact sRg_b _) (by first | omega | exact sRg_b _) (fun c9 => ?_) (fun c9 => ?_)
  · skip
    refine ss_iload h dX4_otherAt_89 91 rfl rfl ?_
    refine ss_iret h dX4_otherAt_91 (by omega) (by omega) ?_
    rw [hP9]
    exact ⟨by rw [show k = 4 by omega]; rfl, rfl, rfl, rfl, rfl⟩
  · skip
    have hx := adX_in k
    have hy := adY_in k
    have hk3 : (0 : Int) ≤ k ∧ (k : Int) ≤ 3 := by omega
    have fin := ih (k + 1) (by omega) (by omega)
    rw [show othN (X (m + 1)) s x y (k + 1) = oth1 (X (m + 1)) s x y k (othN (X (m + 1)) s x y k) from rfl] at fin
    unfold oth1 at fin
    refine ss_aload_n (i := 0) h dX4_otherAt_12 13 rfl rfl rfl ?_
    refine ss_iload_n (i := 2) h dX4_otherAt_13 14 rfl rfl rfl ?_
    refine ss_iload h dX4_otherAt_14 16 rfl rfl ?_
    refine ss_cSv h (m_aheadX (d := d - 1) (by omega)) (lw_S q1380 q1381 q87 q1382) 1 rfl md_X4_aheadX (by omega) (by decide) rfl dX4_otherAt_16 19 rfl rfl (Nat.le_of_ble_eq_true rfl) (by omega) (by omega) ?_
    refine ss_iadd h dX4_otherAt_19 20 rfl ?_
    refine ss_iload_n (i := 3) h dX4_otherAt_20 21 rfl rfl rfl ?_
    refine ss_iload h dX4_otherAt_21 23 rfl rfl ?_
    refine ss_cSv h (m_aheadY (d := d - 1) (by omega)) (lw_S q1383 q1384 q87 q1385) 1 rfl md_X4_aheadY (by omega) (by decide) rfl dX4_otherAt_23 26 rfl rfl (Nat.le_of_ble_eq_true rfl) (by omega) (by omega) ?_
    refine ss_iadd h dX4_otherAt_26 27 rfl ?_
    refine ss_cVv h (m_isPoint hM (d := d - 1) hd (by omega) (by omega) (by omega)) (lw_V q1246 q1248 qs43 q87 q1249) kl4 hM.ob 2 rfl md_X4_isPoint rfl (by omega) (by decide) rfl dX4_otherAt_27 30 rfl rfl (Nat.le_of_ble_eq_true rfl) (by omega) (by omega) ?_
    refine ss_if_ne h dX4_otherAt_30 33 36 rfl (by decide) (by first | omega | exact sRg_b _) (fun c30 => ?_) (fun c30 => ?_)
    · skip
      replace c30 := bI_1.mp c30
      have hyd := yard_in hd hk3 h2 c30
      refine ss_aload_n (i := 0) h dX4_otherAt_36 37 rfl rfl rfl ?_
      refine ss_getS h kl4 0 0 rfl (by decide) rfl hM.ob q1087 dX4_otherAt_37 40 rfl hM.r_w ?_
      refine ss_sipush h dX4_otherAt_40 43 rfl (by decide +kernel) ?_
      refine ss_iload_n (i := 2) h dX4_otherAt_43 44 rfl rfl rfl ?_
      refine ss_iload_n (i := 3) h dX4_otherAt_44 45 rfl rfl rfl ?_
      refine ss_iload h dX4_otherAt_45 47 rfl rfl ?_
      refine ss_cSv h (m_yardBy (d := d - 1) hk3) (lw_S q1394 q1395 q87 q1396) 3 rfl md_X4_yardBy (by omega) (by decide) rfl dX4_otherAt_47 50 rfl rfl (Nat.le_of_ble_eq_true rfl) (by omega) (by omega) ?_
      refine ss_iadd h dX4_otherAt_50 51 rfl ?_
      refine ss_iald h hM.k_w (by decide) (by omega) dX4_otherAt_51 52 rfl ?_
      refine ss_ist_6 h dX4_otherAt_52 54 rfl ?_
      refine ss_iload h dX4_otherAt_54 56 rfl rfl ?_
      refine ss_iconst h dX4_otherAt_56 57 rfl ?_
      refine ss_icmp_eq h dX4_otherAt_57 60 83 rfl (by decide) (hrg _ _) (by omega) (fun c57 => ?_) (fun c57 => ?_)
      · skip
        rw [if_pos c30, if_neg (fun hq => hq.1 c57)] at fin
        refine ss_inc_5 h dX4_otherAt_83 86 rfl ?_
        refine ss_goto h dX4_otherAt_86 6 (by decide) ?_
        refine ss_kl_6 ?_
        exact fin
      · skip
        refine ss_iload h dX4_otherAt_60 62 rfl rfl ?_
        refine ss_iload_n (i := 1) h dX4_otherAt_62 63 rfl rfl rfl ?_
        refine ss_icmp_eq h dX4_otherAt_63 66 83 rfl (by decide) (hrg _ _) (by omega) (fun c63 => ?_) (fun c63 => ?_)
        · skip
          rw [if_pos c30, if_neg (fun hq => hq.2.1 c63)] at fin
          refine ss_inc_5 h dX4_otherAt_83 86 rfl ?_
          refine ss_goto h dX4_otherAt_86 6 (by decide) ?_
          refine ss_kl_6 ?_
          exact fin
        · skip
          refine ss_iload h dX4_otherAt_66 68 rfl rfl ?_
          refine ss_iconst h dX4_otherAt_68 69 rfl ?_
          refine ss_icmp_eq h dX4_otherAt_69 72 79 rfl (by decide) (hor _) (by omega) (fun c69 => ?_) (fun c69 => ?_)
          · skip
            rw [if_pos c30, if_pos ⟨c57, c63, Or.inl c69⟩] at fin
            refine ss_iload h dX4_otherAt_79 81 rfl rfl ?_
            refine ss_ist_4 h dX4_otherAt_81 83 rfl ?_
            refine ss_inc_5 h dX4_otherAt_83 86 rfl ?_
            refine ss_goto h dX4_otherAt_86 6 (by decide) ?_
            refine ss_kl_6 ?_
            exact fin
          · skip
            refine ss_iload h dX4_otherAt_72 74 rfl rfl ?_
            refine ss_iload h dX4_otherAt_74 76 rfl rfl ?_
            refine ss_icmp_ge h dX4_otherAt_76 79 83 rfl (by decide) (hrg _ _) (hor _) (fun c76 => ?_) (fun c76 => ?_)
            · skip
              rw [if_pos c30, if_neg (fun hq => by rcases hq.2.2 with z | z; exact c69 z; omega)] at fin
              refine ss_inc_5 h dX4_otherAt_83 86 rfl ?_
              refine ss_goto h dX4_otherAt_86 6 (by decide) ?_
              refine ss_kl_6 ?_
              exact fin
            · skip
              rw [if_pos c30, if_pos ⟨c57, c63, Or.inr (by omega)⟩] at fin
              refine ss_iload h dX4_otherAt_79 81 rfl rfl ?_
              refine ss_ist_4 h dX4_otherAt_81 83 rfl ?_
              refine ss_inc_5 h dX4_otherAt_83 86 rfl ?_
              refine ss_goto h dX4_otherAt_86 6 (by decide) ?_
              refine ss_kl_6 ?_
              exact fin
    · skip
      replace c30 := bI_0.mp c30
      rw [if_neg (by rw [c30]; decide)] at fin
      refine ss_goto h dX4_otherAt_33 83 (by decide) ?_
      refine ss_inc_5 h dX4_otherAt_83 86 rfl ?_
      refine ss_goto h dX4_otherAt_86 6 (by decide) ?_
      refine ss_kl_6 ?_
      exact fin
theorem m_hasCat (hM : MOk Ω n K R m) {x y : Int} (hd : Dim (X (m + 1))) (h1 : -100 ≤ x ∧ x ≤ 100) (h2 : -100 ≤ y ∧ y ≤ 100) (hl : 2 ≤ d) : sCt Ω yX4_hasCat cX4_hasCat 5 (some .boolean) d 0 0 [.ref m, vI x, vI y] n K X R (pV n K X R (some (vI (bI (catS (X (m + 1)) x y))))) := by
  have hd' := hd
  unfold Dim at hd'
  refine sCt_of (by decide) (by simp [Value.category, vI, va_rf]) (Nat.le_of_ble_eq_true rfl) fun Γ P9 hP9 h => ?_
  show sG (_, _, _, _, _) Γ 0 0 _ _ _ _ 0 [some _, some _, some _, none, none] []
  refine ss_rg fun hrg => ?_
  refine ss_iload_n (i := 1) h dX4_hasCat_0 1 rfl rfl rfl ?_
  refine ss_iconst h dX4_hasCat_1 2 rfl ?_
  refine ss_isub h dX4_hasCat_2 3 rfl ?_
  refine ss_ist_3 h dX4_hasCat_3 4 rfl ?_
  refine ss_loop (σ := Int) (Pp := fun a => sG _ Γ 0 0 n K X R 4 [some (.ref m), some (vI x), some (vI y), some (vI a), none] []) (I := fun a => (x - 1 ≤ a ∧ a ≤ x + 1) ∧ ∀ p q, x - 1 ≤ p → p < a → y - 1 ≤ q → q ≤ y → catC (X (m + 1)) p q = false) (fun a => (x + 1 - a).toNat) (fun a ha ih => ?_) (x - 1) ⟨by omega, fun p q z1 z2 => by omega⟩
  refine ss_iload_n (i := 3) h dX4_hasCat_4 5 rfl rfl rfl ?_
  refine ss_iload_n (i := 1) h dX4_hasCat_5 6 rfl rfl rfl ?_
  refine ss_icmp_gt h dX4_hasCat_6 9 64 rfl (by decide) (by first | omega | exact sRg_b _) (by first | omega | exact sRg_b _) (fun c6 => ?_) (fun c6 => ?_)
  · skip
    refine ss_iconst h dX4_hasCat_64 65 rfl ?_
    refine ss_zret h (by first | omega | exact bI_z _) dX4_hasCat_65 (by omega) (by omega) ?_
    rw [hP9]
    refine ⟨vI_c (bI_f ?_), rfl, rfl, rfl, rfl⟩
    unfold catS
    rw [ha.2 (x - 1) (y - 1) (by omega) (by omega) (by omega) (by omega), ha.2 (x - 1) y (by omega) (by omega) (by omega) (by omega), ha.2 x (y - 1) (by omega) (by omega) (by omega) (by omega), ha.2 x y (by omega) (by omega) (by omega) (by omega)]
    rfl
  · skip
    refine ss_iload_n (i := 2) h dX4_hasCat_9 10 rfl rfl rfl ?_
    refine ss_iconst h dX4_hasCat_10 11 rfl ?_
    refine ss_isub h dX4_hasCat_11 12 rfl ?_
    refine ss_ist_4 h dX4_hasCat_12 14 rfl ?_
    refine ss_loop (σ := Int) (Pp := fun b => sG _ Γ 0 0 n K X R 14 [some (.ref m), some (vI x), some (vI y), some (vI a), some (vI b)] []) (I := fun b => (y - 1 ≤ b ∧ b ≤ y + 1) ∧ ∀ q, y - 1 ≤ q → q < b → catC (X (m + 1)) a q = false) (fun b => (y + 1 - b).toNat) (fun b hb il => ?_) (y - 1) ⟨by omega, fun q z1 z2 => by omega⟩
    refine ss_iload h dX4_hasCat_14 16 rfl rfl ?_
    refine ss_iload_n (i := 2) h dX4_hasCat_16 17 rfl rfl rfl ?_
    refine ss_icmp_gt h dX4_hasCat_17 20 58 rfl (by decide) (by first | omega | exact sRg_b _) (by first | omega | exact sRg_b _) (fun c17 => ?_) (fun c17 => ?_)
    · skip
      refine ss_inc_3 h dX4_hasCat_58 61 rfl ?_
      refine ss_goto h dX4_hasCat_61 4 (by decide) ?_
      refine ss_kl_4 (ih (a + 1) ⟨by omega, fun p q z1 z2 z3 z4 => ?_⟩ (by omega))
      by_cases e : p = a
      · subst e
        exact hb.2 q z3 (by omega)
      · exact ha.2 p q z1 (by omega) z3 z4
    · skip
      refine ss_aload_n (i := 0) h dX4_hasCat_20 21 rfl rfl rfl ?_
      refine ss_iload_n (i := 3) h dX4_hasCat_21 22 rfl rfl rfl ?_
      refine ss_iload h dX4_hasCat_22 24 rfl rfl ?_
      refine ss_cVv h (m_isPlace hM (d := d - 1) hd (by omega) (by omega) (by omega)) (lw_V q1218 q1220 qs41 q87 q1221) kl4 hM.ob 2 rfl md_X4_isPlace rfl (by omega) (by decide) rfl dX4_hasCat_24 27 rfl rfl (Nat.le_of_ble_eq_true rfl) (by omega) (by omega) ?_
      refine ss_if_eq h dX4_hasCat_27 30 52 rfl (by decide) (by first | omega | exact sRg_b _) (fun c27 => ?_) (fun c27 => ?_)
      · skip
        replace c27 := bI_0.mp c27
        have hcn : catC (X (m + 1)) a b = false := by unfold catC; rw [c27]; rfl
        refine ss_inc_4 h dX4_hasCat_52 55 rfl ?_
        refine ss_goto h dX4_hasCat_55 14 (by decide) ?_
        refine il (b + 1) ⟨by omega, fun q z1 z2 => ?_⟩ (by omega)
        by_cases e : q = b
        · subst e
          exact hcn
        · exact hb.2 q z1 (by omega)
      · skip
        replace c27 := bI_n.mp c27
        have hc := placeB_t.mp c27
        refine ss_aload_n (i := 0) h dX4_hasCat_30 31 rfl rfl rfl ?_
        refine ss_getS h kl4 0 0 rfl (by decide) rfl hM.ob q1087 dX4_hasCat_31 34 rfl hM.r_w ?_
        refine ss_sipush h dX4_hasCat_34 37 rfl (by decide +kernel) ?_
        refine ss_bipush h dX4_hasCat_37 39 rfl (by decide +kernel) ?_
        refine ss_iload h dX4_hasCat_39 41 rfl rfl ?_
        refine ss_imul h dX4_hasCat_41 42 rfl ?_
        refine ss_iadd h dX4_hasCat_42 43 rfl ?_
        refine ss_iload_n (i := 3) h dX4_hasCat_43 44 rfl rfl rfl ?_
        refine ss_iadd h dX4_hasCat_44 45 rfl ?_
        refine ss_iald h hM.k_w (by decide) (by omega) dX4_hasCat_45 46 rfl ?_
        refine ss_iconst h dX4_hasCat_46 47 rfl ?_
        refine ss_icmp_ne h dX4_hasCat_47 50 52 rfl (by decide) (hrg _ _) (by omega) (fun c47 => ?_) (fun c47 => ?_)
        · skip
          have hcn : catC (X (m + 1)) a b = false := by unfold catC; rw [decide_eq_false c47]; simp
          refine ss_inc_4 h dX4_hasCat_52 55 rfl ?_
          refine ss_goto h dX4_hasCat_55 14 (by decide) ?_
          refine il (b + 1) ⟨by omega, fun q z1 z2 => ?_⟩ (by omega)
          by_cases e : q = b
          · subst e
            exact hcn
          · exact hb.2 q z1 (by omega)
        · skip
          refine ss_iconst h dX4_hasCat_50 51 rfl ?_
          refine ss_zret h (by first | omega | exact bI_z _) dX4_hasCat_51 (by omega) (by omega) ?_
          rw [hP9]
          have hc1 : catC (X (m + 1)) a b = true := by simp [catC, c27, c47]
          refine ⟨vI_c (bI_t ?_), rfl, rfl, rfl, rfl⟩
          unfold catS
          have e1 : a = x - 1 ∨ a = x := by omega
          have e2 : b = y - 1 ∨ b = y := by omega
          rcases e1 with rfl | rfl <;> rcases e2 with rfl | rfl <;> simp [hc1]
theorem m_sues (hM : MOk Ω n K R m) {s o x y t : Int} {th : Bool} (hth : X m 6 = bI th) (h6 : 0 ≤ X (m + 1) 6 ∧ X (m + 1) 6 ≤ 99) (h1 : sRg s) (h2 : sRg o) (h3 : sRg x) (h4 : sRg y) (h5 : sRg t) : sCt Ω yX4_sues cX4_sues 7 none d 0 0 [.ref m, vI s, vI o, vI x, vI y, vI t] n K X R (pN n K R (fun X' => X' = sArr X (m + 1) (sueS th (X (m + 1)) s o x y t))) := by
  refine sCt_of (by decide) (by simp [Value.category, vI, va_rf]) (Nat.le_of_ble_eq_true rfl) fun Γ P9 hP9 h => ?_
  show sG (_, _, _, _, _) Γ 0 0 _ _ _ _ 0 [some _, some _, some _, some _, some _, some _, none] []
  refine ss_aload_n (i := 0) h dX4_sues_0 1 rfl rfl rfl ?_
  refine ss_getS h kl4 0 0 rfl (by decide) rfl hM.ob q1087 dX4_sues_1 4 rfl hM.r_w ?_
  refine ss_bipush h dX4_sues_4 6 rfl (by decide +kernel) ?_
  refine ss_iald h hM.k_w (by decide) (by omega) dX4_sues_6 7 rfl ?_
  refine ss_bipush h dX4_sues_7 9 rfl (by decide +kernel) ?_
  refine ss_icmp_ne h dX4_sues_9 12 13 rfl (by decide) (by first | omega | exact sRg_b _) (by first | omega | exact sRg_b _) (fun c9 => ?_) (fun c9 => ?_)
  · skip
    refine ss_sipush h dX4_sues_13 16 rfl (by decide +kernel) ?_
    refine ss_iconst h dX4_sues_16 17 rfl ?_
    refine ss_aload_n (i := 0) h dX4_sues_17 18 rfl rfl rfl ?_
    refine ss_getS h kl4 0 0 rfl (by decide) rfl hM.ob q1087 dX4_sues_18 21 rfl hM.r_w ?_
    refine ss_bipush h dX4_sues_21 23 rfl (by decide +kernel) ?_
    refine ss_iald h hM.k_w (by decide) (by omega) dX4_sues_23 24 rfl ?_
    refine ss_imul h dX4_sues_24 25 rfl ?_
    refine ss_iadd h dX4_sues_25 26 rfl ?_
    refine ss_ist_6 h dX4_sues_26 28 rfl ?_
    refine ss_aload_n (i := 0) h dX4_sues_28 29 rfl rfl rfl ?_
    refine ss_getI h kl4 6 6 rfl (by decide) rfl hM.ob q1093 dX4_sues_29 32 rfl ?_
    rw [hth]
    refine ss_if_ne h dX4_sues_32 35 85 rfl (by decide) (sRg_b _) (fun c32 => ?_) (fun c32 => ?_)
    · skip
      have e1 := bI_1.mp c32
      refine ss_aload_n (i := 0) h dX4_sues_85 86 rfl rfl rfl ?_
      refine ss_getS h kl4 0 0 rfl (by decide) rfl hM.ob q1087 dX4_sues_86 89 rfl hM.r_w ?_
      refine ss_bipush h dX4_sues_89 91 rfl (by decide +kernel) ?_
      refine ss_dup2 h dX4_sues_91 92 rfl rfl rfl ?_
      refine ss_iald h hM.k_w (by decide) (by omega) dX4_sues_92 93 rfl ?_
      try rw [sUp_sn (by omega), sUp_sn (by omega), sUp_sn (by omega), sUp_sn (by omega), sUp_sn (by omega)]
      refine ss_iconst h dX4_sues_93 94 rfl ?_
      refine ss_iadd h dX4_sues_94 95 rfl ?_
      refine ss_iast h hM.k_w (by decide) (by omega) (by omega) dX4_sues_95 96 rfl ?_
      refine ss_vret h dX4_sues_96 (by omega) (by omega) ?_
      rw [hP9]
      exact ⟨rfl, rfl, rfl, rfl, by rw [sueS, if_neg c9, suitW, e1]; simp [sUp_as, sArr_s, sArr_sArr]⟩
    · skip
      have e1 := bI_0.mp c32
      refine ss_aload_n (i := 0) h dX4_sues_35 36 rfl rfl rfl ?_
      refine ss_getS h kl4 0 0 rfl (by decide) rfl hM.ob q1087 dX4_sues_36 39 rfl hM.r_w ?_
      refine ss_iload h dX4_sues_39 41 rfl rfl ?_
      refine ss_iload_n (i := 1) h dX4_sues_41 42 rfl rfl rfl ?_
      refine ss_iast h hM.k_w (by decide) (by omega) (by omega) dX4_sues_42 43 rfl ?_
      refine ss_aload_n (i := 0) h dX4_sues_43 44 rfl rfl rfl ?_
      refine ss_getS h kl4 0 0 rfl (by decide) rfl hM.ob q1087 dX4_sues_44 47 rfl hM.r_w ?_
      refine ss_iload h dX4_sues_47 49 rfl rfl ?_
      refine ss_iconst h dX4_sues_49 50 rfl ?_
      refine ss_iadd h dX4_sues_50 51 rfl ?_
      refine ss_iload_n (i := 2) h dX4_sues_51 52 rfl rfl rfl ?_
      refine ss_iast h hM.k_w (by decide) (by omega) (by omega) dX4_sues_52 53 rfl ?_
      refine ss_aload_n (i := 0) h dX4_sues_53 54 rfl rfl rfl ?_
      refine ss_getS h kl4 0 0 rfl (by decide) rfl hM.ob q1087 dX4_sues_54 57 rfl hM.r_w ?_
      refine ss_iload h dX4_sues_57 59 rfl rfl ?_
      refine ss_iconst h dX4_sues_59 60 rfl ?_
      refine ss_iadd h dX4_sues_60 61 rfl ?_
      refine ss_iload_n (i := 3) h dX4_sues_61 62 rfl rfl rfl ?_
      refine ss_iast h hM.k_w (by decide) (by omega) (by omega) dX4_sues_62 63 rfl ?_
      refine ss_aload_n (i := 0) h dX4_sues_63 64 rfl rfl rfl ?_
      refine ss_getS h kl4 0 0 rfl (by decide) rfl hM.ob q1087 dX4_sues_64 67 rfl hM.r_w ?_
      refine ss_iload h dX4_sues_67 69 rfl rfl ?_
      refine ss_iconst h dX4_sues_69 70 rfl ?_
      refine ss_iadd h dX4_sues_70 71 rfl ?_
      refine ss_iload h dX4_sues_71 73 rfl rfl ?_
      refine ss_iast h hM.k_w (by decide) (by omega) (by omega) dX4_sues_73 74 rfl ?_
      refine ss_aload_n (i := 0) h dX4_sues_74 75 rfl rfl rfl ?_
      refine ss_getS h kl4 0 0 rfl (by decide) rfl hM.ob q1087 dX4_sues_75 78 rfl hM.r_w ?_
      refine ss_iload h dX4_sues_78 80 rfl rfl ?_
      refine ss_iconst h dX4_sues_80 81 rfl ?_
      refine ss_iadd h dX4_sues_81 82 rfl ?_
      refine ss_iload h dX4_sues_82 84 rfl rfl ?_
      refine ss_iast h hM.k_w (by decide) (by omega) (by omega) dX4_sues_84 85 rfl ?_
      refine ss_aload_n (i := 0) h dX4_sues_85 86 rfl rfl rfl ?_
      refine ss_getS h kl4 0 0 rfl (by decide) rfl hM.ob q1087 dX4_sues_86 89 rfl hM.r_w ?_
      refine ss_bipush h dX4_sues_89 91 rfl (by decide +kernel) ?_
      refine ss_dup2 h dX4_sues_91 92 rfl rfl rfl ?_
      refine ss_iald h hM.k_w (by decide) (by omega) dX4_sues_92 93 rfl ?_
      try rw [sUp_sn (by omega), sUp_sn (by omega), sUp_sn (by omega), sUp_sn (by omega), sUp_sn (by omega)]
      refine ss_iconst h dX4_sues_93 94 rfl ?_
      refine ss_iadd h dX4_sues_94 95 rfl ?_
      refine ss_iast h hM.k_w (by decide) (by omega) (by omega) dX4_sues_95 96 rfl ?_
      refine ss_vret h dX4_sues_96 (by omega) (by omega) ?_
      rw [hP9]
      exact ⟨rfl, rfl, rfl, rfl, by rw [sueS, if_neg c9, suitW, e1]; simp [sUp_as, sArr_s, sArr_sArr]⟩
  · skip
    refine ss_vret h dX4_sues_12 (by omega) (by omega) ?_
    rw [hP9]
    exact ⟨rfl, rfl, rfl, rfl, by rw [sueS, if_pos c9, sArr_id]⟩
end M4

