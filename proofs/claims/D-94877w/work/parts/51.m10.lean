/-! ===== the twin: images, hatchings, claims; in thought ===== -/
section M10
variable {Ω : OmT} {n : Nat} {K : KT} {X : XT} {R : RT} {m : Nat} {d : Nat}
theorem m_image (hM : MOk Ω n K R m) {b : Bool} (hi : X m 5 = 0 ∨ X m 5 = 1) : sCt Ω yX4_image cX4_image 3 (some .boolean) d 0 0 [.ref m, vI (bI b)] n K X R (pA n K R (vI (bI (b || decide (X m 5 = 1)))) (fun X' => X' = if b = true then sUp (sArr X (m + 2) (cpyW (X (m + 1)) (X (m + 2)) 5480)) m 5 1 else if X m 5 = 1 then sUp (sUp (sArr X (m + 1) (cpyW (X (m + 2)) (X (m + 1)) 5480)) m 4 0) m 5 1 else X)) := by
  refine sCt_of (by decide) (by simp [Value.category, vI, va_rf]) (Nat.le_of_ble_eq_true rfl) fun Γ P9 hP9 h => ?_
  show sG (_, _, _, _, _) Γ 0 0 _ _ _ _ 0 [some _, some _, none] []
  refine ss_rg fun hrg => ?_
  have key : b = true ∨ X m 5 = 1 → sG (Ω, d, 0, 0, P9) Γ 0 0 n K X R 13 [some (.ref m), some (vI (bI b)), none] [] := by
    intro hbi

    refine ss_iconst h dX4_image_13 14 rfl ?_
    refine ss_ist_2 h dX4_image_14 15 rfl ?_
    refine ss_X (X' := if b = true then sArr X (m + 2) (cpyW (X (m + 1)) (X (m + 2)) 0) else sArr X (m + 1) (cpyW (X (m + 2)) (X (m + 1)) 0)) ?_ ?_
    · have e0 : ∀ f g : WT, cpyW f g 0 = g := fun f g => by
        funext i
        unfold cpyW
        rw [if_neg (by omega)]
      rw [e0, e0, sArr_id, sArr_id]
      split <;> rfl
    refine ss_loop (σ := Int) (Pp := fun k => sG _ Γ 0 0 n K (if b = true then sArr X (m + 2) (cpyW (X (m + 1)) (X (m + 2)) k) else sArr X (m + 1) (cpyW (X (m + 2)) (X (m + 1)) k)) R 15 [some (.ref m), some (vI (bI b)), some (vI k)] []) (I := fun k => 0 ≤ k ∧ k ≤ 5480) (fun k => (5480 - k).toNat) (fun k hk ih => ?_) 0 (by omega)
    have st : ∀ f g : WT, upW (cpyW f g k) k (f k) = cpyW f g (k + 1) := fun f g => by
      funext i
      dsimp only [upW, cpyW]
      by_cases e : i = k
      · rw [if_pos e, if_pos (by omega), e]
      · rw [if_neg e]
        by_cases e2 : 0 ≤ i ∧ i < k
        · rw [if_pos e2, if_pos (by omega)]
        · rw [if_neg e2, if_neg (by omega)]
    refine ss_iload_n (i := 2) h dX4_image_15 16 rfl rfl rfl ?_
    refine ss_sipush h dX4_image_16 19 rfl (by decide +kernel) ?_
    refine ss_icmp_ge h dX4_image_19 22 59 rfl (by decide) (by first | omega | exact sRg_b _) (by first | omega | exact sRg_b _) (fun c19 => ?_) (fun c19 => ?_)
    · skip
      refine ss_iload_n (i := 1) h dX4_image_59 60 rfl rfl rfl ?_
      refine ss_if_ne h dX4_image_60 63 68 rfl (by decide) (sRg_b _) (fun c60 => ?_) (fun c60 => ?_)
      · skip
        replace c60 := bI_1.mp c60
        subst c60
        rw [if_pos rfl]
        refine ss_aload_n (i := 0) h dX4_image_68 69 rfl rfl rfl ?_
        refine ss_iconst h dX4_image_69 70 rfl ?_
        refine ss_putZ h kl4 5 5 rfl (by decide) rfl hM.ob q1092 (Or.inl rfl) (by omega) dX4_image_70 73 rfl ?_
        refine ss_iconst h dX4_image_73 74 rfl ?_
        refine ss_zret h (by first | omega | exact bI_z _) dX4_image_74 (by omega) (by omega) ?_
        rw [hP9]
        refine ⟨vI_c (bI_t (by rcases hbi with q | q <;> simp [q])), rfl, rfl, rfl, ?_⟩
        rw [show k = 5480 by omega]
        first
          | rfl
          | (rcases hbi with q | q; cases q; rw [if_neg (by decide), if_pos q])
      · skip
        replace c60 := bI_0.mp c60
        subst c60
        rw [if_neg (by decide)]
        refine ss_aload_n (i := 0) h dX4_image_63 64 rfl rfl rfl ?_
        refine ss_iconst h dX4_image_64 65 rfl ?_
        refine ss_putI h kl4 4 4 rfl (by decide) rfl hM.ob q1091 (Or.inl rfl) (by omega) dX4_image_65 68 rfl ?_
        refine ss_aload_n (i := 0) h dX4_image_68 69 rfl rfl rfl ?_
        refine ss_iconst h dX4_image_69 70 rfl ?_
        refine ss_putZ h kl4 5 5 rfl (by decide) rfl hM.ob q1092 (Or.inl rfl) (by omega) dX4_image_70 73 rfl ?_
        refine ss_iconst h dX4_image_73 74 rfl ?_
        refine ss_zret h (by first | omega | exact bI_z _) dX4_image_74 (by omega) (by omega) ?_
        rw [hP9]
        refine ⟨vI_c (bI_t (by rcases hbi with q | q <;> simp [q])), rfl, rfl, rfl, ?_⟩
        rw [show k = 5480 by omega]
        first
          | rfl
          | (rcases hbi with q | q; cases q; rw [if_neg (by decide), if_pos q])
    · skip
      refine ss_iload_n (i := 1) h dX4_image_22 23 rfl rfl rfl ?_
      refine ss_if_eq h dX4_image_23 26 41 rfl (by decide) (sRg_b _) (fun c23 => ?_) (fun c23 => ?_)
      · skip
        have hb0 := bI_0.mp c23
        subst hb0
        rw [if_neg (by decide)]
        refine ss_aload_n (i := 0) h dX4_image_41 42 rfl rfl rfl ?_
        refine ss_getS h kl4 0 0 rfl (by decide) rfl hM.ob q1087 dX4_image_42 45 rfl hM.r_w ?_
        refine ss_iload_n (i := 2) h dX4_image_45 46 rfl rfl rfl ?_
        refine ss_aload_n (i := 0) h dX4_image_46 47 rfl rfl rfl ?_
        refine ss_getS h kl4 1 1 rfl (by decide) rfl hM.ob q1088 dX4_image_47 50 rfl hM.r_kept ?_
        refine ss_iload_n (i := 2) h dX4_image_50 51 rfl rfl rfl ?_
        refine ss_iald h hM.k_kept (by decide) (by omega) dX4_image_51 52 rfl ?_
        rw [sArr_n (show m + 2 ≠ m + 1 by omega)]
        refine ss_iast h hM.k_w (by decide) (by omega) (hrg _ _) dX4_image_52 53 rfl ?_
        refine ss_inc_2 h dX4_image_53 56 rfl ?_
        refine ss_goto h dX4_image_56 15 (by decide) ?_
        refine ss_X ?_ (ih (k + 1) (by omega) (by omega))
        rw [sArr_sUp, st]
        rfl
      · skip
        have hb0 := bI_n.mp c23
        subst hb0
        rw [if_pos rfl]
        refine ss_aload_n (i := 0) h dX4_image_26 27 rfl rfl rfl ?_
        refine ss_getS h kl4 1 1 rfl (by decide) rfl hM.ob q1088 dX4_image_27 30 rfl hM.r_kept ?_
        refine ss_iload_n (i := 2) h dX4_image_30 31 rfl rfl rfl ?_
        refine ss_aload_n (i := 0) h dX4_image_31 32 rfl rfl rfl ?_
        refine ss_getS h kl4 0 0 rfl (by decide) rfl hM.ob q1087 dX4_image_32 35 rfl hM.r_w ?_
        refine ss_iload_n (i := 2) h dX4_image_35 36 rfl rfl rfl ?_
        refine ss_iald h hM.k_w (by decide) (by omega) dX4_image_36 37 rfl ?_
        rw [sArr_n (show m + 1 ≠ m + 2 by omega)]
        refine ss_iast h hM.k_kept (by decide) (by omega) (hrg _ _) dX4_image_37 38 rfl ?_
        refine ss_goto h dX4_image_38 53 (by decide) ?_
        refine ss_inc_2 h dX4_image_53 56 rfl ?_
        refine ss_goto h dX4_image_56 15 (by decide) ?_
        refine ss_X ?_ (ih (k + 1) (by omega) (by omega))
        rw [sArr_sUp, st]
        rfl
  refine ss_iload_n (i := 1) h dX4_image_0 1 rfl rfl rfl ?_
  refine ss_if_ne h dX4_image_1 4 13 rfl (by decide) (sRg_b _) (fun c1 => ?_) (fun c1 => ?_)
  · skip
    exact key (by first | exact Or.inl (bI_1.mp c1) | exact Or.inr (by omega))
  · skip
    refine ss_aload_n (i := 0) h dX4_image_4 5 rfl rfl rfl ?_
    refine ss_getI h kl4 5 5 rfl (by decide) rfl hM.ob q1092 dX4_image_5 8 rfl ?_
    refine ss_if_ne h dX4_image_8 11 13 rfl (by decide) (by first | omega | exact sRg_b _) (fun c8 => ?_) (fun c8 => ?_)
    · skip
      exact key (by first | exact Or.inl (bI_1.mp c1) | exact Or.inr (by omega))
    · skip
      refine ss_iconst h dX4_image_11 12 rfl ?_
      refine ss_zret h (by first | omega | exact bI_z _) dX4_image_12 (by omega) (by omega) ?_
      rw [hP9]
      exact ⟨vI_c (bI_f (by rw [bI_0.mp c1]; simp [c8])), rfl, rfl, rfl, by rw [if_neg (by rw [bI_0.mp c1]; decide), if_neg (by omega)]⟩
theorem m_hatch (hM : MOk Ω n K R m) {c f p : Int} (hd : Dim (X (m + 1))) (h1 : sRg c) (h2 : sRg f) (h3 : sRg p) (h7 : 0 ≤ X (m + 1) 7 ∧ X (m + 1) 7 ≤ 6) (hl : 3 ≤ d) : sCt Ω yX4_hatch cX4_hatch 5 (some .int) d 0 0 [.ref m, vI c, vI f, vI p] n K X R (pA n K R (vI (if hatB (X (m + 1)) c f p = true then X (m + 1) 7 else -1)) (fun X' => X' = if hatB (X (m + 1)) c f p = true then sArr X (m + 1) (hatW (X (m + 1)) c f p) else X)) := by
  refine sCt_of (by decide) (by simp [Value.category, vI, va_rf]) (Nat.le_of_ble_eq_true rfl) fun Γ P9 hP9 h => ?_
  show sG (_, _, _, _, _) Γ 0 0 _ _ _ _ 0 [some _, some _, some _, some _, none] []
  refine ss_rg fun hrg => ?_
  refine ss_aload_n (i := 0) h dX4_hatch_0 1 rfl rfl rfl ?_
  refine ss_iload_n (i := 1) h dX4_hatch_1 2 rfl rfl rfl ?_
  refine ss_cVv h (m_isCell hM (d := d - 1) hd h1 (by omega)) (lw_V q1214 q1216 qs40 q87 q1217) kl4 hM.ob 1 rfl md_X4_isCell rfl (by omega) (by decide) rfl dX4_hatch_2 5 rfl rfl (Nat.le_of_ble_eq_true rfl) (by omega) (by omega) ?_
  refine ss_if_eq h dX4_hatch_5 8 40 rfl (by decide) (by first | omega | exact sRg_b _) (fun c5 => ?_) (fun c5 => ?_)
  · skip
    replace c5 := bI_0.mp c5
    refine ss_iconst h dX4_hatch_40 41 rfl ?_
    refine ss_iret h dX4_hatch_41 (by omega) (by omega) ?_
    rw [hP9]
    exact ⟨by rw [if_neg (by simp [hatB, *])], rfl, rfl, rfl, by rw [if_neg (by simp [hatB, *])]⟩
  · skip
    replace c5 := bI_n.mp c5
    refine ss_iload_n (i := 2) h dX4_hatch_8 9 rfl rfl rfl ?_
    refine ss_iconst h dX4_hatch_9 10 rfl ?_
    refine ss_bipush h dX4_hatch_10 12 rfl (by decide +kernel) ?_
    refine ss_cSv h (m_isIn (d := d - 1) (by omega) (by omega) (by omega)) (lw_S q1207 q1208 q87 q1209) 3 rfl md_X4_isIn (by omega) (by decide) rfl dX4_hatch_12 15 rfl rfl (Nat.le_of_ble_eq_true rfl) (by omega) (by omega) ?_
    refine ss_if_eq h dX4_hatch_15 18 40 rfl (by decide) (by first | omega | exact sRg_b _) (fun c15 => ?_) (fun c15 => ?_)
    · skip
      replace c15 := bI_0.mp c15
      refine ss_iconst h dX4_hatch_40 41 rfl ?_
      refine ss_iret h dX4_hatch_41 (by omega) (by omega) ?_
      rw [hP9]
      exact ⟨by rw [if_neg (by simp [hatB, *])], rfl, rfl, rfl, by rw [if_neg (by simp [hatB, *])]⟩
    · skip
      replace c15 := bI_n.mp c15
      refine ss_iload_n (i := 3) h dX4_hatch_18 19 rfl rfl rfl ?_
      refine ss_iconst h dX4_hatch_19 20 rfl ?_
      refine ss_bipush h dX4_hatch_20 22 rfl (by decide +kernel) ?_
      refine ss_cSv h (m_isIn (d := d - 1) (by omega) (by omega) (by omega)) (lw_S q1207 q1208 q87 q1209) 3 rfl md_X4_isIn (by omega) (by decide) rfl dX4_hatch_22 25 rfl rfl (Nat.le_of_ble_eq_true rfl) (by omega) (by omega) ?_
      refine ss_if_eq h dX4_hatch_25 28 40 rfl (by decide) (by first | omega | exact sRg_b _) (fun c25 => ?_) (fun c25 => ?_)
      · skip
        replace c25 := bI_0.mp c25
        refine ss_iconst h dX4_hatch_40 41 rfl ?_
        refine ss_iret h dX4_hatch_41 (by omega) (by omega) ?_
        rw [hP9]
        exact ⟨by rw [if_neg (by simp [hatB, *])], rfl, rfl, rfl, by rw [if_neg (by simp [hatB, *])]⟩
      · skip
        replace c25 := bI_n.mp c25
        refine ss_aload_n (i := 0) h dX4_hatch_28 29 rfl rfl rfl ?_
        refine ss_getS h kl4 0 0 rfl (by decide) rfl hM.ob q1087 dX4_hatch_29 32 rfl hM.r_w ?_
        refine ss_bipush h dX4_hatch_32 34 rfl (by decide +kernel) ?_
        refine ss_iald h hM.k_w (by decide) (by omega) dX4_hatch_34 35 rfl ?_
        refine ss_bipush h dX4_hatch_35 37 rfl (by decide +kernel) ?_
        refine ss_icmp_ne h dX4_hatch_37 40 42 rfl (by decide) (by first | omega | exact sRg_b _) (by first | omega | exact sRg_b _) (fun c37 => ?_) (fun c37 => ?_)
        · skip
          refine ss_iconst h dX4_hatch_42 43 rfl ?_
          refine ss_ist_4 h dX4_hatch_43 45 rfl ?_
          refine ss_loop (σ := Nat) (Pp := fun k => sG _ Γ 0 0 n K X R 45 [some (.ref m), some (vI c), some (vI f), some (vI p), some (vI k)] []) (I := fun k => (k : Int) ≤ X (m + 1) 7 ∧ dupN (X (m + 1)) c k = false ∧ ∀ j, k ≤ j → dupN (X (m + 1)) c j = true ∨ dupN (X (m + 1)) c j = false) (fun k => (X (m + 1) 7 - k).toNat) (fun k hk ih => ?_) 0 ⟨by omega, rfl, fun j _ => by cases dupN (X (m + 1)) c j <;> simp⟩
          refine ss_iload h dX4_hatch_45 47 rfl rfl ?_
          refine ss_aload_n (i := 0) h dX4_hatch_47 48 rfl rfl rfl ?_
          refine ss_getS h kl4 0 0 rfl (by decide) rfl hM.ob q1087 dX4_hatch_48 51 rfl hM.r_w ?_
          refine ss_bipush h dX4_hatch_51 53 rfl (by decide +kernel) ?_
          refine ss_iald h hM.k_w (by decide) (by omega) dX4_hatch_53 54 rfl ?_
          refine ss_icmp_ge h dX4_hatch_54 57 82 rfl (by decide) (by first | omega | exact sRg_b _) (by first | omega | exact sRg_b _) (fun c54 => ?_) (fun c54 => ?_)
          · skip
            have hB : hatB (X (m + 1)) c f p = true := by
              have := hk.2.1
              rw [show k = (X (m + 1) 7).toNat by omega] at this
              simp [hatB, *]
            refine ss_sipush h dX4_hatch_82 85 rfl (by decide +kernel) ?_
            refine ss_iconst h dX4_hatch_85 86 rfl ?_
            refine ss_aload_n (i := 0) h dX4_hatch_86 87 rfl rfl rfl ?_
            refine ss_getS h kl4 0 0 rfl (by decide) rfl hM.ob q1087 dX4_hatch_87 90 rfl hM.r_w ?_
            refine ss_bipush h dX4_hatch_90 92 rfl (by decide +kernel) ?_
            refine ss_iald h hM.k_w (by decide) (by omega) dX4_hatch_92 93 rfl ?_
            refine ss_imul h dX4_hatch_93 94 rfl ?_
            refine ss_iadd h dX4_hatch_94 95 rfl ?_
            refine ss_ist_4 h dX4_hatch_95 97 rfl ?_
            refine ss_aload_n (i := 0) h dX4_hatch_97 98 rfl rfl rfl ?_
            refine ss_getS h kl4 0 0 rfl (by decide) rfl hM.ob q1087 dX4_hatch_98 101 rfl hM.r_w ?_
            refine ss_iload h dX4_hatch_101 103 rfl rfl ?_
            refine ss_iload_n (i := 1) h dX4_hatch_103 104 rfl rfl rfl ?_
            refine ss_iast h hM.k_w (by decide) (by omega) (by omega) dX4_hatch_104 105 rfl ?_
            refine ss_aload_n (i := 0) h dX4_hatch_105 106 rfl rfl rfl ?_
            refine ss_getS h kl4 0 0 rfl (by decide) rfl hM.ob q1087 dX4_hatch_106 109 rfl hM.r_w ?_
            refine ss_iload h dX4_hatch_109 111 rfl rfl ?_
            refine ss_iconst h dX4_hatch_111 112 rfl ?_
            refine ss_iadd h dX4_hatch_112 113 rfl ?_
            refine ss_iload_n (i := 2) h dX4_hatch_113 114 rfl rfl rfl ?_
            refine ss_iast h hM.k_w (by decide) (by omega) (by omega) dX4_hatch_114 115 rfl ?_
            refine ss_aload_n (i := 0) h dX4_hatch_115 116 rfl rfl rfl ?_
            refine ss_getS h kl4 0 0 rfl (by decide) rfl hM.ob q1087 dX4_hatch_116 119 rfl hM.r_w ?_
            refine ss_iload h dX4_hatch_119 121 rfl rfl ?_
            refine ss_iconst h dX4_hatch_121 122 rfl ?_
            refine ss_iadd h dX4_hatch_122 123 rfl ?_
            refine ss_iload_n (i := 3) h dX4_hatch_123 124 rfl rfl rfl ?_
            refine ss_iast h hM.k_w (by decide) (by omega) (by omega) dX4_hatch_124 125 rfl ?_
            refine ss_aload_n (i := 0) h dX4_hatch_125 126 rfl rfl rfl ?_
            refine ss_getS h kl4 0 0 rfl (by decide) rfl hM.ob q1087 dX4_hatch_126 129 rfl hM.r_w ?_
            refine ss_bipush h dX4_hatch_129 131 rfl (by decide +kernel) ?_
            refine ss_dup2 h dX4_hatch_131 132 rfl rfl rfl ?_
            refine ss_iald h hM.k_w (by decide) (by omega) dX4_hatch_132 133 rfl ?_
            rw [sUp_sn (by omega), sUp_sn (by omega), sUp_sn (by omega)]
            refine ss_iconst h dX4_hatch_133 134 rfl ?_
            refine ss_iadd h dX4_hatch_134 135 rfl ?_
            refine ss_iast h hM.k_w (by decide) (by omega) (by omega) dX4_hatch_135 136 rfl ?_
            refine ss_aload_n (i := 0) h dX4_hatch_136 137 rfl rfl rfl ?_
            refine ss_getS h kl4 0 0 rfl (by decide) rfl hM.ob q1087 dX4_hatch_137 140 rfl hM.r_w ?_
            refine ss_bipush h dX4_hatch_140 142 rfl (by decide +kernel) ?_
            refine ss_iald h hM.k_w (by decide) (by omega) dX4_hatch_142 143 rfl ?_
            rw [sUp_ss]
            refine ss_iconst h dX4_hatch_143 144 rfl ?_
            refine ss_isub h dX4_hatch_144 145 rfl ?_
            refine ss_iret h dX4_hatch_145 (by omega) (by omega) ?_
            rw [hP9]
            exact ⟨by rw [if_pos hB]; congr 2; omega, rfl, rfl, rfl, by rw [if_pos hB]; simp [hatW, sUp_as, sArr_s, sArr_sArr]⟩
          · skip
            refine ss_aload_n (i := 0) h dX4_hatch_57 58 rfl rfl rfl ?_
            refine ss_getS h kl4 0 0 rfl (by decide) rfl hM.ob q1087 dX4_hatch_58 61 rfl hM.r_w ?_
            refine ss_sipush h dX4_hatch_61 64 rfl (by decide +kernel) ?_
            refine ss_iconst h dX4_hatch_64 65 rfl ?_
            refine ss_iload h dX4_hatch_65 67 rfl rfl ?_
            refine ss_imul h dX4_hatch_67 68 rfl ?_
            refine ss_iadd h dX4_hatch_68 69 rfl ?_
            refine ss_iald h hM.k_w (by decide) (by omega) dX4_hatch_69 70 rfl ?_
            refine ss_iload_n (i := 1) h dX4_hatch_70 71 rfl rfl rfl ?_
            refine ss_icmp_ne h dX4_hatch_71 74 76 rfl (by decide) (hrg _ _) (by omega) (fun c71 => ?_) (fun c71 => ?_)
            · skip
              refine ss_inc_4 h dX4_hatch_76 79 rfl ?_
              refine ss_goto h dX4_hatch_79 45 (by decide) ?_
              exact ih (k + 1) ⟨by omega, by unfold dupN; rw [hk.2.1, decide_eq_false c71]; rfl, fun j hj => hk.2.2 j (by omega)⟩ (by omega)
            · skip
              refine ss_iconst h dX4_hatch_74 75 rfl ?_
              refine ss_iret h dX4_hatch_75 (by omega) (by omega) ?_
              rw [hP9]
              have hdt : dupN (X (m + 1)) c (X (m + 1) 7).toNat = true := dup_mono (k := k + 1) (by unfold dupN; rw [decide_eq_true c71]; simp) _ (by omega)
              exact ⟨by rw [if_neg (by simp [hatB, hdt])], rfl, rfl, rfl, by rw [if_neg (by simp [hatB, hdt])]⟩
        · skip
          refine ss_iconst h dX4_hatch_40 41 rfl ?_
          refine ss_iret h dX4_hatch_41 (by omega) (by omega) ?_
          rw [hP9]
          exact ⟨by rw [if_neg (by simp [hatB, *])], rfl, rfl, rfl, by rw [if_neg (by simp [hatB, *])]⟩
theorem m_claim (hM : MOk Ω n K R m) {a b : Int} {o : Bool} (hd : Dim (X (m + 1))) (h1 : sRg a) (h2 : sRg b) (h7 : 0 ≤ X (m + 1) 8 ∧ X (m + 1) 8 ≤ 20) (hl : 3 ≤ d) : sCt Ω yX4_claim cX4_claim 5 (some .boolean) d 0 0 [.ref m, vI a, vI b, vI (bI o)] n K X R (pA n K R (vI (bI (clmB (X (m + 1)) a b))) (fun X' => X' = if clmB (X (m + 1)) a b = true then sArr X (m + 1) (clmW (X (m + 1)) a b o) else X)) := by
  refine sCt_of (by decide) (by simp [Value.category, vI, va_rf]) (Nat.le_of_ble_eq_true rfl) fun Γ P9 hP9 h => ?_
  show sG (_, _, _, _, _) Γ 0 0 _ _ _ _ 0 [some _, some _, some _, some _, none] []
  refine ss_aload_n (i := 0) h dX4_claim_0 1 rfl rfl rfl ?_
  refine ss_iload_n (i := 1) h dX4_claim_1 2 rfl rfl rfl ?_
  refine ss_cVv h (m_isCell hM (d := d - 1) hd (by omega) (by omega)) (lw_V q1214 q1216 qs40 q87 q1217) kl4 hM.ob 1 rfl md_X4_isCell rfl (by omega) (by decide) rfl dX4_claim_2 5 rfl rfl (Nat.le_of_ble_eq_true rfl) (by omega) (by omega) ?_
  refine ss_if_eq h dX4_claim_5 8 33 rfl (by decide) (by first | omega | exact sRg_b _) (fun c5 => ?_) (fun c5 => ?_)
  · skip
    replace c5 := bI_0.mp c5
    refine ss_iconst h dX4_claim_33 34 rfl ?_
    refine ss_zret h (by first | omega | exact bI_z _) dX4_claim_34 (by omega) (by omega) ?_
    rw [hP9]
    exact ⟨vI_c (bI_f (by simp [clmB, *])), rfl, rfl, rfl, by rw [if_neg (by simp [clmB, *])]⟩
  · skip
    replace c5 := bI_n.mp c5
    refine ss_aload_n (i := 0) h dX4_claim_8 9 rfl rfl rfl ?_
    refine ss_iload_n (i := 2) h dX4_claim_9 10 rfl rfl rfl ?_
    refine ss_cVv h (m_isCell hM (d := d - 1) hd (by omega) (by omega)) (lw_V q1214 q1216 qs40 q87 q1217) kl4 hM.ob 1 rfl md_X4_isCell rfl (by omega) (by decide) rfl dX4_claim_10 13 rfl rfl (Nat.le_of_ble_eq_true rfl) (by omega) (by omega) ?_
    refine ss_if_eq h dX4_claim_13 16 33 rfl (by decide) (by first | omega | exact sRg_b _) (fun c13 => ?_) (fun c13 => ?_)
    · skip
      replace c13 := bI_0.mp c13
      refine ss_iconst h dX4_claim_33 34 rfl ?_
      refine ss_zret h (by first | omega | exact bI_z _) dX4_claim_34 (by omega) (by omega) ?_
      rw [hP9]
      exact ⟨vI_c (bI_f (by simp [clmB, *])), rfl, rfl, rfl, by rw [if_neg (by simp [clmB, *])]⟩
    · skip
      replace c13 := bI_n.mp c13
      refine ss_iload_n (i := 1) h dX4_claim_16 17 rfl rfl rfl ?_
      refine ss_iload_n (i := 2) h dX4_claim_17 18 rfl rfl rfl ?_
      refine ss_icmp_eq h dX4_claim_18 21 33 rfl (by decide) (by first | omega | exact sRg_b _) (by first | omega | exact sRg_b _) (fun c18 => ?_) (fun c18 => ?_)
      · skip
        refine ss_iconst h dX4_claim_33 34 rfl ?_
        refine ss_zret h (by first | omega | exact bI_z _) dX4_claim_34 (by omega) (by omega) ?_
        rw [hP9]
        exact ⟨vI_c (bI_f (by simp [clmB, *])), rfl, rfl, rfl, by rw [if_neg (by simp [clmB, *])]⟩
      · skip
        refine ss_aload_n (i := 0) h dX4_claim_21 22 rfl rfl rfl ?_
        refine ss_getS h kl4 0 0 rfl (by decide) rfl hM.ob q1087 dX4_claim_22 25 rfl hM.r_w ?_
        refine ss_bipush h dX4_claim_25 27 rfl (by decide +kernel) ?_
        refine ss_iald h hM.k_w (by decide) (by omega) dX4_claim_27 28 rfl ?_
        refine ss_bipush h dX4_claim_28 30 rfl (by decide +kernel) ?_
        refine ss_icmp_ne h dX4_claim_30 33 35 rfl (by decide) (by first | omega | exact sRg_b _) (by first | omega | exact sRg_b _) (fun c30 => ?_) (fun c30 => ?_)
        · skip
          have hB : clmB (X (m + 1)) a b = true := by simp [clmB, *]
          refine ss_sipush h dX4_claim_35 38 rfl (by decide +kernel) ?_
          refine ss_iconst h dX4_claim_38 39 rfl ?_
          refine ss_aload_n (i := 0) h dX4_claim_39 40 rfl rfl rfl ?_
          refine ss_getS h kl4 0 0 rfl (by decide) rfl hM.ob q1087 dX4_claim_40 43 rfl hM.r_w ?_
          refine ss_bipush h dX4_claim_43 45 rfl (by decide +kernel) ?_
          refine ss_iald h hM.k_w (by decide) (by omega) dX4_claim_45 46 rfl ?_
          refine ss_imul h dX4_claim_46 47 rfl ?_
          refine ss_iadd h dX4_claim_47 48 rfl ?_
          refine ss_ist_4 h dX4_claim_48 50 rfl ?_
          refine ss_aload_n (i := 0) h dX4_claim_50 51 rfl rfl rfl ?_
          refine ss_getS h kl4 0 0 rfl (by decide) rfl hM.ob q1087 dX4_claim_51 54 rfl hM.r_w ?_
          refine ss_iload h dX4_claim_54 56 rfl rfl ?_
          refine ss_iload_n (i := 1) h dX4_claim_56 57 rfl rfl rfl ?_
          refine ss_iast h hM.k_w (by decide) (by omega) (by omega) dX4_claim_57 58 rfl ?_
          refine ss_aload_n (i := 0) h dX4_claim_58 59 rfl rfl rfl ?_
          refine ss_getS h kl4 0 0 rfl (by decide) rfl hM.ob q1087 dX4_claim_59 62 rfl hM.r_w ?_
          refine ss_iload h dX4_claim_62 64 rfl rfl ?_
          refine ss_iconst h dX4_claim_64 65 rfl ?_
          refine ss_iadd h dX4_claim_65 66 rfl ?_
          refine ss_iload_n (i := 2) h dX4_claim_66 67 rfl rfl rfl ?_
          refine ss_iast h hM.k_w (by decide) (by omega) (by omega) dX4_claim_67 68 rfl ?_
          refine ss_aload_n (i := 0) h dX4_claim_68 69 rfl rfl rfl ?_
          refine ss_getS h kl4 0 0 rfl (by decide) rfl hM.ob q1087 dX4_claim_69 72 rfl hM.r_w ?_
          refine ss_iload h dX4_claim_72 74 rfl rfl ?_
          refine ss_iconst h dX4_claim_74 75 rfl ?_
          refine ss_iadd h dX4_claim_75 76 rfl ?_
          refine ss_iload_n (i := 3) h dX4_claim_76 77 rfl rfl rfl ?_
          refine ss_if_eq h dX4_claim_77 80 84 rfl (by decide) (sRg_b _) (fun c77 => ?_) (fun c77 => ?_)
          · skip
            have ho := bI_0.mp c77
            subst ho
            refine ss_iconst h dX4_claim_84 85 rfl ?_
            refine ss_iast h hM.k_w (by decide) (by omega) (by omega) dX4_claim_85 86 rfl ?_
            refine ss_aload_n (i := 0) h dX4_claim_86 87 rfl rfl rfl ?_
            refine ss_getS h kl4 0 0 rfl (by decide) rfl hM.ob q1087 dX4_claim_87 90 rfl hM.r_w ?_
            refine ss_bipush h dX4_claim_90 92 rfl (by decide +kernel) ?_
            refine ss_dup2 h dX4_claim_92 93 rfl rfl rfl ?_
            refine ss_iald h hM.k_w (by decide) (by omega) dX4_claim_93 94 rfl ?_
            rw [sUp_sn (by omega), sUp_sn (by omega), sUp_sn (by omega)]
            refine ss_iconst h dX4_claim_94 95 rfl ?_
            refine ss_iadd h dX4_claim_95 96 rfl ?_
            refine ss_iast h hM.k_w (by decide) (by omega) (by omega) dX4_claim_96 97 rfl ?_
            refine ss_iconst h dX4_claim_97 98 rfl ?_
            refine ss_zret h (by first | omega | exact bI_z _) dX4_claim_98 (by omega) (by omega) ?_
            rw [hP9]
            exact ⟨vI_c (bI_t hB), rfl, rfl, rfl, by rw [if_pos hB]; simp [clmW, sUp_as, sArr_s, sArr_sArr, bI]⟩
          · skip
            have ho := bI_n.mp c77
            subst ho
            refine ss_iconst h dX4_claim_80 81 rfl ?_
            refine ss_goto h dX4_claim_81 85 (by decide) ?_
            refine ss_iast h hM.k_w (by decide) (by omega) (by omega) dX4_claim_85 86 rfl ?_
            refine ss_aload_n (i := 0) h dX4_claim_86 87 rfl rfl rfl ?_
            refine ss_getS h kl4 0 0 rfl (by decide) rfl hM.ob q1087 dX4_claim_87 90 rfl hM.r_w ?_
            refine ss_bipush h dX4_claim_90 92 rfl (by decide +kernel) ?_
            refine ss_dup2 h dX4_claim_92 93 rfl rfl rfl ?_
            refine ss_iald h hM.k_w (by decide) (by omega) dX4_claim_93 94 rfl ?_
            rw [sUp_sn (by omega), sUp_sn (by omega), sUp_sn (by omega)]
            refine ss_iconst h dX4_claim_94 95 rfl ?_
            refine ss_iadd h dX4_claim_95 96 rfl ?_
            refine ss_iast h hM.k_w (by decide) (by omega) (by omega) dX4_claim_96 97 rfl ?_
            refine ss_iconst h dX4_claim_97 98 rfl ?_
            refine ss_zret h (by first | omega | exact bI_z _) dX4_claim_98 (by omega) (by omega) ?_
            rw [hP9]
            exact ⟨vI_c (bI_t hB), rfl, rfl, rfl, by rw [if_pos hB]; simp [clmW, sUp_as, sArr_s, sArr_sArr, bI]⟩
        · skip
          refine ss_iconst h dX4_claim_33 34 rfl ?_
          refine ss_zret h (by first | omega | exact bI_z _) dX4_claim_34 (by omega) (by omega) ?_
          rw [hP9]
          exact ⟨vI_c (bI_f (by simp [clmB, *])), rfl, rfl, rfl, by rw [if_neg (by simp [clmB, *])]⟩
theorem m_isFree (hM : MOk Ω n K R m) {c : Int} (hd : Dim (X (m + 1))) (h1 : sRg c) (hl : 3 ≤ d) : sCt Ω yX4_isFree cX4_isFree 2 (some .boolean) d 0 0 [.ref m, vI c] n K X R (pV n K X R (some (vI (bI (freeB (X (m + 1)) c))))) := by
  refine sCt_of (by decide) (by simp [Value.category, vI, va_rf]) (Nat.le_of_ble_eq_true rfl) fun Γ P9 hP9 h => ?_
  show sG (_, _, _, _, _) Γ 0 0 _ _ _ _ 0 [some _, some _] []
  refine ss_rg fun hrg => ?_
  refine ss_aload_n (i := 0) h dX4_isFree_0 1 rfl rfl rfl ?_
  refine ss_iload_n (i := 1) h dX4_isFree_1 2 rfl rfl rfl ?_
  refine ss_cVv h (m_isCell hM (d := d - 1) hd (by omega) (by omega)) (lw_V q1214 q1216 qs40 q87 q1217) kl4 hM.ob 1 rfl md_X4_isCell rfl (by omega) (by decide) rfl dX4_isFree_2 5 rfl rfl (Nat.le_of_ble_eq_true rfl) (by omega) (by omega) ?_
  refine ss_if_eq h dX4_isFree_5 8 24 rfl (by decide) (by first | omega | exact sRg_b _) (fun c5 => ?_) (fun c5 => ?_)
  · skip
    replace c5 := bI_0.mp c5
    refine ss_iconst h dX4_isFree_24 25 rfl ?_
    refine ss_zret h (by first | omega | exact bI_z _) dX4_isFree_25 (by omega) (by omega) ?_
    rw [hP9]
    exact ⟨vI_c (by first | exact bI_t (by simp [freeB, *]) | exact bI_f (by simp [freeB, *])), rfl, rfl, rfl, rfl⟩
  · skip
    replace c5 := bI_n.mp c5
    have cc := cellB_t hd c5
    refine ss_aload_n (i := 0) h dX4_isFree_8 9 rfl rfl rfl ?_
    refine ss_getS h kl4 0 0 rfl (by decide) rfl hM.ob q1087 dX4_isFree_9 12 rfl hM.r_w ?_
    refine ss_bipush h dX4_isFree_12 14 rfl (by decide +kernel) ?_
    refine ss_iload_n (i := 1) h dX4_isFree_14 15 rfl rfl rfl ?_
    refine ss_iadd h dX4_isFree_15 16 rfl ?_
    refine ss_iald h hM.k_w (by decide) (by omega) dX4_isFree_16 17 rfl ?_
    refine ss_if_ne h dX4_isFree_17 20 24 rfl (by decide) (hrg _ _) (fun c17 => ?_) (fun c17 => ?_)
    · skip
      refine ss_iconst h dX4_isFree_24 25 rfl ?_
      refine ss_zret h (by first | omega | exact bI_z _) dX4_isFree_25 (by omega) (by omega) ?_
      rw [hP9]
      exact ⟨vI_c (by first | exact bI_t (by simp [freeB, *]) | exact bI_f (by simp [freeB, *])), rfl, rfl, rfl, rfl⟩
    · skip
      refine ss_iconst h dX4_isFree_20 21 rfl ?_
      refine ss_goto h dX4_isFree_21 25 (by decide) ?_
      refine ss_zret h (by first | omega | exact bI_z _) dX4_isFree_25 (by omega) (by omega) ?_
      rw [hP9]
      exact ⟨vI_c (by first | exact bI_t (by simp [freeB, *]) | exact bI_f (by simp [freeB, *])), rfl, rfl, rfl, rfl⟩
theorem cpyW_0 (f g : WT) : cpyW f g 0 = g := by
  funext i
  unfold cpyW
  rw [if_neg (by omega)]
theorem cpyW_s {f g : WT} {k : Int} (h : 0 ≤ k) : upW (cpyW f g k) k (f k) = cpyW f g (k + 1) := by
  funext i
  dsimp only [upW, cpyW]
  by_cases e : i = k
  · rw [if_pos e, if_pos (by omega), e]
  · rw [if_neg e]
    by_cases e2 : 0 ≤ i ∧ i < k
    · rw [if_pos e2, if_pos (by omega)]
    · rw [if_neg e2, if_neg (by omega)]
theorem m_setsOut (hM : MOk Ω n K R m) : sCt Ω yX4_setsOut cX4_setsOut 2 none d 0 0 [.ref m] n K X R (pN n K R (fun X' => X' = sUp (sArr X (m + 3) (cpyW (X (m + 1)) (X (m + 3)) 1340)) m 6 1)) := by
  refine sCt_of (by decide) (by simp [Value.category, vI, va_rf]) (Nat.le_of_ble_eq_true rfl) fun Γ P9 hP9 h => ?_
  show sG (_, _, _, _, _) Γ 0 0 _ _ _ _ 0 [some _, none] []
  refine ss_rg fun hrg => ?_
  refine ss_iconst h dX4_setsOut_0 1 rfl ?_
  refine ss_ist_1 h dX4_setsOut_1 2 rfl ?_
  refine ss_X (X' := sArr X (m + 3) (cpyW (X (m + 1)) (X (m + 3)) 0)) (by rw [cpyW_0, sArr_id]) ?_
  refine ss_loop (σ := Int) (Pp := fun k => sG _ Γ 0 0 n K (sArr X (m + 3) (cpyW (X (m + 1)) (X (m + 3)) k)) R 2 [some (.ref m), some (vI k)] []) (I := fun k => 0 ≤ k ∧ k ≤ 1340) (fun k => (1340 - k).toNat) (fun k hk ih => ?_) 0 (by omega)
  refine ss_iload_n (i := 1) h dX4_setsOut_2 3 rfl rfl rfl ?_
  refine ss_sipush h dX4_setsOut_3 6 rfl (by decide +kernel) ?_
  refine ss_icmp_ge h dX4_setsOut_6 9 27 rfl (by decide) (by first | omega | exact sRg_b _) (by first | omega | exact sRg_b _) (fun c6 => ?_) (fun c6 => ?_)
  · skip
    refine ss_aload_n (i := 0) h dX4_setsOut_27 28 rfl rfl rfl ?_
    refine ss_iconst h dX4_setsOut_28 29 rfl ?_
    refine ss_putZ h kl4 6 6 rfl (by decide) rfl hM.ob q1093 (Or.inl rfl) (by omega) dX4_setsOut_29 32 rfl ?_
    refine ss_vret h dX4_setsOut_32 (by omega) (by omega) ?_
    rw [hP9]
    rw [show k = 1340 by omega]
    exact ⟨rfl, rfl, rfl, rfl, rfl⟩
  · skip
    refine ss_aload_n (i := 0) h dX4_setsOut_9 10 rfl rfl rfl ?_
    refine ss_getS h kl4 2 2 rfl (by decide) rfl hM.ob q1089 dX4_setsOut_10 13 rfl hM.r_before ?_
    refine ss_iload_n (i := 1) h dX4_setsOut_13 14 rfl rfl rfl ?_
    refine ss_aload_n (i := 0) h dX4_setsOut_14 15 rfl rfl rfl ?_
    refine ss_getS h kl4 0 0 rfl (by decide) rfl hM.ob q1087 dX4_setsOut_15 18 rfl hM.r_w ?_
    refine ss_iload_n (i := 1) h dX4_setsOut_18 19 rfl rfl rfl ?_
    refine ss_iald h hM.k_w (by decide) (by omega) dX4_setsOut_19 20 rfl ?_
    rw [sArr_n (show m + 1 ≠ m + 3 by omega)]
    refine ss_iast h hM.k_before (by decide) (by omega) (hrg _ _) dX4_setsOut_20 21 rfl ?_
    refine ss_inc_1 h dX4_setsOut_21 24 rfl ?_
    refine ss_goto h dX4_setsOut_24 2 (by decide) ?_
    refine ss_X ?_ (ih (k + 1) (by omega) (by omega))
    rw [sArr_sUp, cpyW_s hk.1]
theorem m_comesBack (hM : MOk Ω n K R m) : sCt Ω yX4_comesBack cX4_comesBack 2 none d 0 0 [.ref m] n K X R (pN n K R (fun X' => X' = sUp (sArr X (m + 1) (cpyW (X (m + 3)) (X (m + 1)) 1340)) m 6 0)) := by
  refine sCt_of (by decide) (by simp [Value.category, vI, va_rf]) (Nat.le_of_ble_eq_true rfl) fun Γ P9 hP9 h => ?_
  show sG (_, _, _, _, _) Γ 0 0 _ _ _ _ 0 [some _, none] []
  refine ss_rg fun hrg => ?_
  refine ss_iconst h dX4_comesBack_0 1 rfl ?_
  refine ss_ist_1 h dX4_comesBack_1 2 rfl ?_
  refine ss_X (X' := sArr X (m + 1) (cpyW (X (m + 3)) (X (m + 1)) 0)) (by rw [cpyW_0, sArr_id]) ?_
  refine ss_loop (σ := Int) (Pp := fun k => sG _ Γ 0 0 n K (sArr X (m + 1) (cpyW (X (m + 3)) (X (m + 1)) k)) R 2 [some (.ref m), some (vI k)] []) (I := fun k => 0 ≤ k ∧ k ≤ 1340) (fun k => (1340 - k).toNat) (fun k hk ih => ?_) 0 (by omega)
  refine ss_iload_n (i := 1) h dX4_comesBack_2 3 rfl rfl rfl ?_
  refine ss_sipush h dX4_comesBack_3 6 rfl (by decide +kernel) ?_
  refine ss_icmp_ge h dX4_comesBack_6 9 27 rfl (by decide) (by first | omega | exact sRg_b _) (by first | omega | exact sRg_b _) (fun c6 => ?_) (fun c6 => ?_)
  · skip
    refine ss_aload_n (i := 0) h dX4_comesBack_27 28 rfl rfl rfl ?_
    refine ss_iconst h dX4_comesBack_28 29 rfl ?_
    refine ss_putZ h kl4 6 6 rfl (by decide) rfl hM.ob q1093 (Or.inl rfl) (by omega) dX4_comesBack_29 32 rfl ?_
    refine ss_vret h dX4_comesBack_32 (by omega) (by omega) ?_
    rw [hP9]
    rw [show k = 1340 by omega]
    exact ⟨rfl, rfl, rfl, rfl, rfl⟩
  · skip
    refine ss_aload_n (i := 0) h dX4_comesBack_9 10 rfl rfl rfl ?_
    refine ss_getS h kl4 0 0 rfl (by decide) rfl hM.ob q1087 dX4_comesBack_10 13 rfl hM.r_w ?_
    refine ss_iload_n (i := 1) h dX4_comesBack_13 14 rfl rfl rfl ?_
    refine ss_aload_n (i := 0) h dX4_comesBack_14 15 rfl rfl rfl ?_
    refine ss_getS h kl4 2 2 rfl (by decide) rfl hM.ob q1089 dX4_comesBack_15 18 rfl hM.r_before ?_
    refine ss_iload_n (i := 1) h dX4_comesBack_18 19 rfl rfl rfl ?_
    refine ss_iald h hM.k_before (by decide) (by omega) dX4_comesBack_19 20 rfl ?_
    rw [sArr_n (show m + 3 ≠ m + 1 by omega)]
    refine ss_iast h hM.k_w (by decide) (by omega) (hrg _ _) dX4_comesBack_20 21 rfl ?_
    refine ss_inc_1 h dX4_comesBack_21 24 rfl ?_
    refine ss_goto h dX4_comesBack_24 2 (by decide) ?_
    refine ss_X ?_ (ih (k + 1) (by omega) (by omega))
    rw [sArr_sUp, cpyW_s hk.1]
theorem m_ends (hM : MOk Ω n K R m) {s t : Int} (hf : flyOK (X (m + 1))) (hth : X m 6 = 0) (h1 : sRg s) (h2 : sRg t) (hl : 7 ≤ d) : sCt Ω yX4_ends cX4_ends 3 (some .int) d 0 0 [.ref m, vI s, vI t] n K X R (pA n K R (vI (endV (X (m + 1)) s t)) (fun X' => X' (m + 1) = X (m + 1) ∧ X' m = X m ∧ sOff [0, 1, 3, 8, 9, 10, 11, 12, 13] m X X')) := by
  have h4 := hf.2.1
  refine sCt_of (by decide) (by simp [Value.category, vI, va_rf]) (Nat.le_of_ble_eq_true rfl) fun Γ P9 hP9 h => ?_
  show sG (_, _, _, _, _) Γ 0 0 _ _ _ _ 0 [some _, some _, some _] []
  refine ss_iload_n (i := 1) h dX4_ends_0 1 rfl rfl rfl ?_
  refine ss_iconst h dX4_ends_1 2 rfl ?_
  refine ss_aload_n (i := 0) h dX4_ends_2 3 rfl rfl rfl ?_
  refine ss_getS h kl4 0 0 rfl (by decide) rfl hM.ob q1087 dX4_ends_3 6 rfl hM.r_w ?_
  refine ss_iconst h dX4_ends_6 7 rfl ?_
  refine ss_iald h hM.k_w (by decide) (by omega) dX4_ends_7 8 rfl ?_
  refine ss_iconst h dX4_ends_8 9 rfl ?_
  refine ss_isub h dX4_ends_9 10 rfl ?_
  refine ss_cSv h (m_isIn (d := d - 1) (by omega) (by omega) (by omega)) (lw_S q1207 q1208 q87 q1209) 3 rfl md_X4_isIn (by omega) (by decide) rfl dX4_ends_10 13 rfl rfl (Nat.le_of_ble_eq_true rfl) (by omega) (by omega) ?_
  refine ss_if_eq h dX4_ends_13 16 25 rfl (by decide) (by first | omega | exact sRg_b _) (fun c13 => ?_) (fun c13 => ?_)
  · skip
    replace c13 := bI_0.mp c13
    refine ss_iconst h dX4_ends_25 26 rfl ?_
    refine ss_iret h dX4_ends_26 (by omega) (by omega) ?_
    rw [hP9]
    exact ⟨by unfold endV; rw [if_neg (by simp [*])], rfl, rfl, rfl, rfl, rfl, sOff_rf _ _ _⟩
  · skip
    replace c13 := bI_n.mp c13
    refine ss_iload_n (i := 2) h dX4_ends_16 17 rfl rfl rfl ?_
    refine ss_iconst h dX4_ends_17 18 rfl ?_
    refine ss_iconst h dX4_ends_18 19 rfl ?_
    refine ss_cSv h (m_isIn (d := d - 1) (by omega) (by omega) (by omega)) (lw_S q1207 q1208 q87 q1209) 3 rfl md_X4_isIn (by omega) (by decide) rfl dX4_ends_19 22 rfl rfl (Nat.le_of_ble_eq_true rfl) (by omega) (by omega) ?_
    refine ss_if_ne h dX4_ends_22 25 27 rfl (by decide) (by first | omega | exact sRg_b _) (fun c22 => ?_) (fun c22 => ?_)
    · skip
      replace c22 := bI_1.mp c22
      have p1 := inB_t.mp c13
      have p2 := inB_t.mp c22
      refine ss_aload_n (i := 0) h dX4_ends_27 28 rfl rfl rfl ?_
      refine ss_cVn h (m_setsOut hM (d := d - 1)) (lw_V q1466 q1468 qs74 q87 q1469) kl4 hM.ob 0 rfl md_X4_setsOut rfl (by omega) (by decide) rfl dX4_ends_28 31 rfl rfl (Nat.le_of_ble_eq_true rfl) (by omega) (by omega) (fun X28 x28 => ?_)
      have w28 : X28 (m + 1) = X (m + 1) := by rw [x28, sUp_ne (by omega), sArr_n (by omega)]
      have b28 : X28 (m + 3) = cpyW (X (m + 1)) (X (m + 3)) 1340 := by rw [x28, sUp_ne (by omega), sArr_s]
      refine ss_aload_n (i := 0) h dX4_ends_31 32 rfl rfl rfl ?_
      refine ss_cVn h (m_allFly (th := true) hM (d := d - 1) (by rw [w28]; exact hf) (by rw [x28, sUp_ss]; rfl) (by omega)) (lw_V q1368 q1370 qs60 q87 q1371) kl4 hM.ob 0 rfl md_X4_allFly rfl (by omega) (by decide) rfl dX4_ends_32 35 rfl rfl (Nat.le_of_ble_eq_true rfl) (by omega) (by omega) (fun X32 x32 => ?_)
      obtain ⟨g1, g2, g3⟩ := x32
      rw [w28] at g1 g2
      obtain ⟨e1, e2, e3, e4⟩ := g2 s p1.1 (by omega)
      refine ss_aload_n (i := 0) h dX4_ends_35 36 rfl rfl rfl ?_
      refine ss_cVn h (m_comesBack hM (d := d - 1)) (lw_V q1470 q1472 qs75 q87 q1473) kl4 hM.ob 0 rfl md_X4_comesBack rfl (by omega) (by decide) rfl dX4_ends_36 39 rfl rfl (Nat.le_of_ble_eq_true rfl) (by omega) (by omega) (fun X36 x36 => ?_)
      have w36 : X36 (m + 1) = X (m + 1) := by rw [x36, sUp_ne (by omega), sArr_s, sOff_at g3 3 (by decide), b28, g1]; exact thought_back hf (fun _ _ => rfl)
      have o36 : ∀ o, 10 ≤ o → X36 (m + o) = X32 (m + o) := fun o ho => by rw [x36, sUp_ne (by omega), sArr_n (by omega)]
      have f36 : X36 m = X m := by
        funext f
        by_cases e : f = 6
        · rw [e, x36, sUp_ss, hth]
        · rw [x36, sUp_sn e, sArr_n (by omega), sOff_m g3 (by decide), x28, sUp_sn e, sArr_n (by omega)]
      have oo : sOff [0, 1, 3, 8, 9, 10, 11, 12, 13] m X X36 := by
        refine sOff_tr (X' := X28) (by rw [x28]; exact sOff_tr (sOff_arr (by decide)) (sOff_up (o := 0) (by decide))) (sOff_tr (sOff_mono g3 (by decide)) ?_)
        rw [x36]
        exact sOff_tr (sOff_arr (by decide)) (sOff_up (o := 0) (by decide))
      refine ss_iload_n (i := 2) h dX4_ends_39 40 rfl rfl rfl ?_
      refine ss_if_ne h dX4_ends_40 43 52 rfl (by decide) (by first | omega | exact sRg_b _) (fun c40 => ?_) (fun c40 => ?_)
      · skip
        refine ss_iload_n (i := 2) h dX4_ends_52 53 rfl rfl rfl ?_
        refine ss_iconst h dX4_ends_53 54 rfl ?_
        refine ss_icmp_ne h dX4_ends_54 57 66 rfl (by decide) (by first | omega | exact sRg_b _) (by first | omega | exact sRg_b _) (fun c54 => ?_) (fun c54 => ?_)
        · skip
          refine ss_iload_n (i := 2) h dX4_ends_66 67 rfl rfl rfl ?_
          refine ss_iconst h dX4_ends_67 68 rfl ?_
          refine ss_icmp_ne h dX4_ends_68 71 80 rfl (by decide) (by first | omega | exact sRg_b _) (by first | omega | exact sRg_b _) (fun c68 => ?_) (fun c68 => ?_)
          · skip
            refine ss_aload_n (i := 0) h dX4_ends_80 81 rfl rfl rfl ?_
            refine ss_getS h kl4 27 27 rfl (by decide) rfl hM.ob q1114 dX4_ends_81 84 rfl hM.r_endHeading ?_
            refine ss_iload_n (i := 1) h dX4_ends_84 85 rfl rfl rfl ?_
            refine ss_iald h hM.k_endHeading (by decide) (by omega) dX4_ends_85 86 rfl ?_
            try rw [o36 13 (by omega), e3]
            refine ss_iret h dX4_ends_86 (by omega) (by omega) ?_
            rw [hP9]
            exact ⟨by unfold endV; rw [if_pos ⟨c13, c22⟩]; simp [*], rfl, rfl, rfl, w36, f36, oo⟩
          · skip
            refine ss_aload_n (i := 0) h dX4_ends_71 72 rfl rfl rfl ?_
            refine ss_getS h kl4 26 26 rfl (by decide) rfl hM.ob q1113 dX4_ends_72 75 rfl hM.r_endSteps ?_
            refine ss_iload_n (i := 1) h dX4_ends_75 76 rfl rfl rfl ?_
            refine ss_iald h hM.k_endSteps (by decide) (by omega) dX4_ends_76 77 rfl ?_
            rw [o36 12 (by omega), e4]
            refine ss_goto h dX4_ends_77 86 (by decide) ?_
            try rw [o36 13 (by omega), e3]
            refine ss_iret h dX4_ends_86 (by omega) (by omega) ?_
            rw [hP9]
            exact ⟨by unfold endV; rw [if_pos ⟨c13, c22⟩]; simp [*], rfl, rfl, rfl, w36, f36, oo⟩
        · skip
          refine ss_aload_n (i := 0) h dX4_ends_57 58 rfl rfl rfl ?_
          refine ss_getS h kl4 25 25 rfl (by decide) rfl hM.ob q1112 dX4_ends_58 61 rfl hM.r_endY ?_
          refine ss_iload_n (i := 1) h dX4_ends_61 62 rfl rfl rfl ?_
          refine ss_iald h hM.k_endY (by decide) (by omega) dX4_ends_62 63 rfl ?_
          rw [o36 11 (by omega), e2]
          refine ss_goto h dX4_ends_63 86 (by decide) ?_
          try rw [o36 13 (by omega), e3]
          refine ss_iret h dX4_ends_86 (by omega) (by omega) ?_
          rw [hP9]
          exact ⟨by unfold endV; rw [if_pos ⟨c13, c22⟩]; simp [*], rfl, rfl, rfl, w36, f36, oo⟩
      · skip
        refine ss_aload_n (i := 0) h dX4_ends_43 44 rfl rfl rfl ?_
        refine ss_getS h kl4 24 24 rfl (by decide) rfl hM.ob q1111 dX4_ends_44 47 rfl hM.r_endX ?_
        refine ss_iload_n (i := 1) h dX4_ends_47 48 rfl rfl rfl ?_
        refine ss_iald h hM.k_endX (by decide) (by omega) dX4_ends_48 49 rfl ?_
        rw [o36 10 (by omega), e1]
        refine ss_goto h dX4_ends_49 86 (by decide) ?_
        try rw [o36 13 (by omega), e3]
        refine ss_iret h dX4_ends_86 (by omega) (by omega) ?_
        rw [hP9]
        exact ⟨by unfold endV; rw [if_pos ⟨c13, c22⟩]; simp [*], rfl, rfl, rfl, w36, f36, oo⟩
    · skip
      replace c22 := bI_0.mp c22
      refine ss_iconst h dX4_ends_25 26 rfl ?_
      refine ss_iret h dX4_ends_26 (by omega) (by omega) ?_
      rw [hP9]
      exact ⟨by unfold endV; rw [if_neg (by simp [*])], rfl, rfl, rfl, rfl, rfl, sOff_rf _ _ _⟩
end M10

