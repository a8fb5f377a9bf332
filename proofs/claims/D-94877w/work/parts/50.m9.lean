/-! ===== the twin: cells, yards, suits, hatchings, claims, images ===== -/
section M9
variable {Ω : OmT} {n : Nat} {K : KT} {X : XT} {R : RT} {m : Nat} {d : Nat}
theorem m_of (hM : MOk Ω n K R m) {c t : Int} (hd : Dim (X (m + 1))) (h1 : sRg c) (h2 : sRg t) (hl : 5 ≤ d) : sCt Ω yX4_of cX4_of 5 (some .int) d 0 0 [.ref m, vI c, vI t] n K X R (pA n K R (vI (ofS (X (m + 1)) c t)) (fun X' => (∀ f, f ≠ 30 → X' m f = X m f) ∧ sOff [0, 14, 15] m X X')) := by
  refine sCt_of (by decide) (by simp [Value.category, vI, va_rf]) (Nat.le_of_ble_eq_true rfl) fun Γ P9 hP9 h => ?_
  show sG (_, _, _, _, _) Γ 0 0 _ _ _ _ 0 [some _, some _, some _, none, none] []
  refine ss_rg fun hrg => ?_
  refine ss_aload_n (i := 0) h dX4_of_0 1 rfl rfl rfl ?_
  refine ss_iload_n (i := 1) h dX4_of_1 2 rfl rfl rfl ?_
  refine ss_cVv h (m_isCell hM (d := d - 1) hd h1 (by omega)) (lw_V q1214 q1216 qs40 q87 q1217) kl4 hM.ob 1 rfl md_X4_isCell rfl (by omega) (by decide) rfl dX4_of_2 5 rfl rfl (Nat.le_of_ble_eq_true rfl) (by omega) (by omega) ?_
  refine ss_if_eq h dX4_of_5 8 18 rfl (by decide) (by first | omega | exact sRg_b _) (fun c5 => ?_) (fun c5 => ?_)
  · skip
    replace c5 := bI_0.mp c5
    refine ss_iconst h dX4_of_18 19 rfl ?_
    refine ss_iret h dX4_of_19 (by omega) (by omega) ?_
    rw [hP9]
    exact ⟨by unfold ofS; rw [if_neg (by simp [*])], rfl, rfl, rfl, fun _ _ => rfl, sOff_rf _ _ _⟩
  · skip
    replace c5 := bI_n.mp c5
    refine ss_iload_n (i := 2) h dX4_of_8 9 rfl rfl rfl ?_
    refine ss_iconst h dX4_of_9 10 rfl ?_
    refine ss_bipush h dX4_of_10 12 rfl (by decide +kernel) ?_
    refine ss_cSv h (m_isIn (d := d - 1) (by omega) (by omega) (by omega)) (lw_S q1207 q1208 q87 q1209) 3 rfl md_X4_isIn (by omega) (by decide) rfl dX4_of_12 15 rfl rfl (Nat.le_of_ble_eq_true rfl) (by omega) (by omega) ?_
    refine ss_if_ne h dX4_of_15 18 20 rfl (by decide) (by first | omega | exact sRg_b _) (fun c15 => ?_) (fun c15 => ?_)
    · skip
      replace c15 := bI_1.mp c15
      refine ss_iload_n (i := 2) h dX4_of_20 21 rfl rfl rfl ?_
      have cc := cellB_t hd c5
      have ct := inB_t.mp c15
      have e0 : ofS (X (m + 1)) c t = _ := if_pos ⟨c5, c15⟩
      have ht : t = 0 ∨ t = 1 ∨ t = 2 ∨ t = 3 ∨ t = 4 ∨ (t = 5 ∨ t = 6) ∨ t = 7 ∨ t = 8 := by omega
      have hval : ∀ v, ofS (X (m + 1)) c t = v → vI v = vI (ofS (X (m + 1)) c t) := fun v hv => by rw [hv]
      rcases ht with rfl | rfl | rfl | rfl | rfl | hq | rfl | rfl
      · refine ss_sw (off := 51) h dX4_of_21 72 (by omega) (by omega) (by omega) rfl (by decide) ?_
        refine ss_aload_n (i := 0) h dX4_of_72 73 rfl rfl rfl ?_
        refine ss_getS h kl4 0 0 rfl (by decide) rfl hM.ob q1087 dX4_of_73 76 rfl hM.r_w ?_
        refine ss_bipush h dX4_of_76 78 rfl (by decide +kernel) ?_
        refine ss_iload_n (i := 1) h dX4_of_78 79 rfl rfl rfl ?_
        refine ss_iadd h dX4_of_79 80 rfl ?_
        refine ss_iald h hM.k_w (by decide) (by omega) dX4_of_80 81 rfl ?_
        refine ss_iret h dX4_of_81 (by omega) (by omega) ?_
        rw [hP9]
        exact ⟨by rw [e0]; simp, rfl, rfl, rfl, fun _ _ => rfl, sOff_rf _ _ _⟩
      · refine ss_sw (off := 61) h dX4_of_21 82 (by omega) (by omega) (by omega) rfl (by decide) ?_
        refine ss_aload_n (i := 0) h dX4_of_82 83 rfl rfl rfl ?_
        refine ss_iload_n (i := 1) h dX4_of_83 84 rfl rfl rfl ?_
        refine ss_bipush h dX4_of_84 86 rfl (by decide +kernel) ?_
        refine ss_irem h dX4_of_86 87 rfl (by omega) (by omega) (by omega) ?_
        refine ss_iload_n (i := 1) h dX4_of_87 88 rfl rfl rfl ?_
        refine ss_bipush h dX4_of_88 90 rfl (by decide +kernel) ?_
        refine ss_idiv h dX4_of_90 91 rfl (by omega) (by omega) (by omega) ?_
        refine ss_cVv h (m_seenFlies hM (d := d - 1) hd (by rw [tmod10 c cc.1]; omega) (by rw [tdiv10 c cc.1]; omega) (by omega)) (lw_V q1386 q1388 qs63 q87 q1389) kl4 hM.ob 2 rfl md_X4_seenFlies rfl (by omega) (by decide) rfl dX4_of_91 94 rfl rfl (Nat.le_of_ble_eq_true rfl) (by omega) (by omega) ?_
        refine ss_iret h dX4_of_94 (by omega) (by omega) ?_
        rw [hP9]
        exact ⟨by rw [tmod10 c cc.1, tdiv10 c cc.1, e0]; simp, rfl, rfl, rfl, fun _ _ => rfl, sOff_rf _ _ _⟩
      · refine ss_sw (off := 74) h dX4_of_21 95 (by omega) (by omega) (by omega) rfl (by decide) ?_
        refine ss_aload_n (i := 0) h dX4_of_95 96 rfl rfl rfl ?_
        refine ss_getS h kl4 0 0 rfl (by decide) rfl hM.ob q1087 dX4_of_96 99 rfl hM.r_w ?_
        refine ss_bipush h dX4_of_99 101 rfl (by decide +kernel) ?_
        refine ss_iload_n (i := 1) h dX4_of_101 102 rfl rfl rfl ?_
        refine ss_iadd h dX4_of_102 103 rfl ?_
        refine ss_iald h hM.k_w (by decide) (by omega) dX4_of_103 104 rfl ?_
        refine ss_iret h dX4_of_104 (by omega) (by omega) ?_
        rw [hP9]
        exact ⟨by rw [e0]; simp, rfl, rfl, rfl, fun _ _ => rfl, sOff_rf _ _ _⟩
      · refine ss_sw (off := 84) h dX4_of_21 105 (by omega) (by omega) (by omega) rfl (by decide) ?_
        refine ss_aload_n (i := 0) h dX4_of_105 106 rfl rfl rfl ?_
        refine ss_getS h kl4 0 0 rfl (by decide) rfl hM.ob q1087 dX4_of_106 109 rfl hM.r_w ?_
        refine ss_sipush h dX4_of_109 112 rfl (by decide +kernel) ?_
        refine ss_iload_n (i := 1) h dX4_of_112 113 rfl rfl rfl ?_
        refine ss_iadd h dX4_of_113 114 rfl ?_
        refine ss_iald h hM.k_w (by decide) (by omega) dX4_of_114 115 rfl ?_
        refine ss_iret h dX4_of_115 (by omega) (by omega) ?_
        rw [hP9]
        exact ⟨by rw [e0]; simp, rfl, rfl, rfl, fun _ _ => rfl, sOff_rf _ _ _⟩
      · refine ss_sw (off := 95) h dX4_of_21 116 (by omega) (by omega) (by omega) rfl (by decide) ?_
        refine ss_aload_n (i := 0) h dX4_of_116 117 rfl rfl rfl ?_
        refine ss_getS h kl4 0 0 rfl (by decide) rfl hM.ob q1087 dX4_of_117 120 rfl hM.r_w ?_
        refine ss_sipush h dX4_of_120 123 rfl (by decide +kernel) ?_
        refine ss_iload_n (i := 1) h dX4_of_123 124 rfl rfl rfl ?_
        refine ss_iadd h dX4_of_124 125 rfl ?_
        refine ss_iald h hM.k_w (by decide) (by omega) dX4_of_125 126 rfl ?_
        refine ss_iret h dX4_of_126 (by omega) (by omega) ?_
        rw [hP9]
        exact ⟨by rw [e0]; simp, rfl, rfl, rfl, fun _ _ => rfl, sOff_rf _ _ _⟩
      · have ho : (#[51, 61, 74, 84, 95, 146, 146, 106, 135] : Array Int)[(t - 0).toNat]? = some 146 := by rcases hq with rfl | rfl <;> rfl
        refine ss_sw (off := 146) h dX4_of_21 167 h2 (by omega) (by omega) ho (by decide) ?_
        refine ss_aload_n (i := 0) h dX4_of_167 168 rfl rfl rfl ?_
        refine ss_cVn h (m_laysCounties hM (d := d - 1) hd (by omega)) (lw_V q1420 q1422 qs70 q87 q1423) kl4 hM.ob 0 rfl md_X4_laysCounties rfl (by omega) (by decide) rfl dX4_of_168 171 rfl rfl (Nat.le_of_ble_eq_true rfl) (by omega) (by omega) (fun X168 x168 => ?_)
        obtain ⟨k1, k2, k3⟩ := x168
        obtain ⟨n1, n2⟩ := ctyS_z hd (X (m + 15)) (X (m + 14))
        rw [← k1] at n1 n2
        dsimp only at n1 n2
        refine ss_rg fun hrN => ?_
        refine ss_iload_n (i := 2) h dX4_of_171 172 rfl rfl rfl ?_
        refine ss_iconst h dX4_of_172 173 rfl ?_
        refine ss_icmp_ne h dX4_of_173 176 183 rfl (by decide) (by first | omega | exact sRg_b _) (by first | omega | exact sRg_b _) (fun c173 => ?_) (fun c173 => ?_)
        · skip
          refine ss_iconst h dX4_of_183 184 rfl ?_
          refine ss_ist_3 h dX4_of_184 185 rfl ?_
          refine ss_iconst h dX4_of_185 186 rfl ?_
          refine ss_ist_4 h dX4_of_186 188 rfl ?_
          refine ss_loop (σ := Nat) (Pp := fun z => sG _ Γ 0 0 n K X168 R 188 [some (.ref m), some (vI c), some (vI t), some (vI (szN (nmS (X (m + 1))) (nmS (X (m + 1)) c) z)), some (vI z)] []) (I := fun z => z ≤ 100) (fun z => 100 - z) (fun z hz ih => ?_) 0 (by omega)
          refine ss_iload h dX4_of_188 190 rfl rfl ?_
          refine ss_bipush h dX4_of_190 192 rfl (by decide +kernel) ?_
          refine ss_icmp_ge h dX4_of_192 195 225 rfl (by decide) (by first | omega | exact sRg_b _) (by first | omega | exact sRg_b _) (fun c192 => ?_) (fun c192 => ?_)
          · skip
            refine ss_iload_n (i := 3) h dX4_of_225 226 rfl rfl rfl ?_
            refine ss_iret h dX4_of_226 (by omega) (by omega) ?_
            rw [hP9]
            exact ⟨by rw [e0, show z = 100 by omega, show t = 6 by omega]; simp, rfl, rfl, rfl, k2, k3⟩
          · skip
            refine ss_cut (σ := Int) (fun s => s = if nmS (X (m + 1)) z = nmS (X (m + 1)) c then 1 else 0) 217 (fun s => X168) (fun s => [some (.ref m), some (vI c), some (vI t), some (vI (szN (nmS (X (m + 1))) (nmS (X (m + 1)) c) z)), some (vI z)]) (fun s => [vI s, vI (szN (nmS (X (m + 1))) (nmS (X (m + 1)) c) z)]) (fun s h217 => ?_) (fun J217 => ?_)
            · skip
              subst h217
              refine ss_iadd h dX4_of_217 218 rfl ?_
              refine ss_ist_3 h dX4_of_218 219 rfl ?_
              refine ss_inc_4 h dX4_of_219 222 rfl ?_
              refine ss_goto h dX4_of_222 188 (by decide) ?_
              exact ih (z + 1) (by omega) (by omega)
            refine ss_iload_n (i := 3) h dX4_of_195 196 rfl rfl rfl ?_
            refine ss_aload_n (i := 0) h dX4_of_196 197 rfl rfl rfl ?_
            refine ss_getS h kl4 28 28 rfl (by decide) rfl hM.ob q1115 dX4_of_197 200 rfl hM.r_name ?_
            refine ss_iload h dX4_of_200 202 rfl rfl ?_
            refine ss_iald h hM.k_name (by decide) (by omega) dX4_of_202 203 rfl ?_
            refine ss_aload_n (i := 0) h dX4_of_203 204 rfl rfl rfl ?_
            refine ss_getS h kl4 28 28 rfl (by decide) rfl hM.ob q1115 dX4_of_204 207 rfl hM.r_name ?_
            refine ss_iload_n (i := 1) h dX4_of_207 208 rfl rfl rfl ?_
            refine ss_iald h hM.k_name (by decide) (by omega) dX4_of_208 209 rfl ?_
            rw [n2 c cc.1 (by omega), n2 z (by omega) (by omega)]
            refine ss_icmp_ne h dX4_of_209 212 216 rfl (by decide) (by rw [← n2 z (by omega) (by omega)]; exact hrN _ _) (by rw [← n2 c cc.1 (by omega)]; exact hrN _ _) (fun c209 => ?_) (fun c209 => ?_)
            · skip
              refine ss_iconst h dX4_of_216 217 rfl ?_
              exact J217 _ (by first | rw [if_pos c209] | rw [if_neg c209])
            · skip
              refine ss_iconst h dX4_of_212 213 rfl ?_
              refine ss_goto h dX4_of_213 217 (by decide) ?_
              exact J217 _ (by first | rw [if_pos c209] | rw [if_neg c209])
        · skip
          refine ss_aload_n (i := 0) h dX4_of_176 177 rfl rfl rfl ?_
          refine ss_getS h kl4 28 28 rfl (by decide) rfl hM.ob q1115 dX4_of_177 180 rfl hM.r_name ?_
          refine ss_iload_n (i := 1) h dX4_of_180 181 rfl rfl rfl ?_
          refine ss_iald h hM.k_name (by decide) (by omega) dX4_of_181 182 rfl ?_
          refine ss_iret h dX4_of_182 (by omega) (by omega) ?_
          rw [hP9]
          exact ⟨by rw [n2 c cc.1 (by omega), e0]; simp [c173], rfl, rfl, rfl, k2, k3⟩
      · refine ss_sw (off := 106) h dX4_of_21 127 (by omega) (by omega) (by omega) rfl (by decide) ?_
        refine ss_aload_n (i := 0) h dX4_of_127 128 rfl rfl rfl ?_
        refine ss_getS h kl4 0 0 rfl (by decide) rfl hM.ob q1087 dX4_of_128 131 rfl hM.r_w ?_
        refine ss_sipush h dX4_of_131 134 rfl (by decide +kernel) ?_
        refine ss_iload_n (i := 1) h dX4_of_134 135 rfl rfl rfl ?_
        refine ss_iadd h dX4_of_135 136 rfl ?_
        refine ss_iald h hM.k_w (by decide) (by omega) dX4_of_136 137 rfl ?_
        refine ss_iconst h dX4_of_137 138 rfl ?_
        refine ss_icmp_ne h dX4_of_138 141 154 rfl (by decide) (hrg _ _) (by omega) (fun c138 => ?_) (fun c138 => ?_)
        · skip
          refine ss_iconst h dX4_of_154 155 rfl ?_
          refine ss_iret h dX4_of_155 (by omega) (by omega) ?_
          rw [hP9]
          exact ⟨by rw [e0]; simp [c138], rfl, rfl, rfl, fun _ _ => rfl, sOff_rf _ _ _⟩
        · skip
          refine ss_aload_n (i := 0) h dX4_of_141 142 rfl rfl rfl ?_
          refine ss_getS h kl4 0 0 rfl (by decide) rfl hM.ob q1087 dX4_of_142 145 rfl hM.r_w ?_
          refine ss_sipush h dX4_of_145 148 rfl (by decide +kernel) ?_
          refine ss_iload_n (i := 1) h dX4_of_148 149 rfl rfl rfl ?_
          refine ss_iadd h dX4_of_149 150 rfl ?_
          refine ss_iald h hM.k_w (by decide) (by omega) dX4_of_150 151 rfl ?_
          refine ss_goto h dX4_of_151 155 (by decide) ?_
          refine ss_iret h dX4_of_155 (by omega) (by omega) ?_
          rw [hP9]
          exact ⟨by rw [e0]; simp [c138], rfl, rfl, rfl, fun _ _ => rfl, sOff_rf _ _ _⟩
      · refine ss_sw (off := 135) h dX4_of_21 156 (by omega) (by omega) (by omega) rfl (by decide) ?_
        refine ss_aload_n (i := 0) h dX4_of_156 157 rfl rfl rfl ?_
        refine ss_getS h kl4 0 0 rfl (by decide) rfl hM.ob q1087 dX4_of_157 160 rfl hM.r_w ?_
        refine ss_sipush h dX4_of_160 163 rfl (by decide +kernel) ?_
        refine ss_iload_n (i := 1) h dX4_of_163 164 rfl rfl rfl ?_
        refine ss_iadd h dX4_of_164 165 rfl ?_
        refine ss_iald h hM.k_w (by decide) (by omega) dX4_of_165 166 rfl ?_
        refine ss_iret h dX4_of_166 (by omega) (by omega) ?_
        rw [hP9]
        exact ⟨by rw [e0]; simp, rfl, rfl, rfl, fun _ _ => rfl, sOff_rf _ _ _⟩
    · skip
      replace c15 := bI_0.mp c15
      refine ss_iconst h dX4_of_18 19 rfl ?_
      refine ss_iret h dX4_of_19 (by omega) (by omega) ?_
      rw [hP9]
      exact ⟨by unfold ofS; rw [if_neg (by simp [*])], rfl, rfl, rfl, fun _ _ => rfl, sOff_rf _ _ _⟩
theorem m_yard (hM : MOk Ω n K R m) {x y u t : Int} (hd : Dim (X (m + 1))) (h1 : sRg x) (h2 : sRg y) (h3 : sRg u) (h4 : sRg t) (hl : 3 ≤ d) : sCt Ω yX4_yard cX4_yard 5 (some .int) d 0 0 [.ref m, vI x, vI y, vI u, vI t] n K X R (pV n K X R (some (vI (yardV (X (m + 1)) x y u t)))) := by
  have ax := adX_in u
  have ay := adY_in u
  have hd' := hd
  unfold Dim at hd'
  refine sCt_of (by decide) (by simp [Value.category, vI, va_rf]) (Nat.le_of_ble_eq_true rfl) fun Γ P9 hP9 h => ?_
  show sG (_, _, _, _, _) Γ 0 0 _ _ _ _ 0 [some _, some _, some _, some _, some _] []
  refine ss_aload_n (i := 0) h dX4_yard_0 1 rfl rfl rfl ?_
  refine ss_iload_n (i := 1) h dX4_yard_1 2 rfl rfl rfl ?_
  refine ss_iload_n (i := 2) h dX4_yard_2 3 rfl rfl rfl ?_
  refine ss_cVv h (m_isPoint hM (d := d - 1) hd (by omega) (by omega) (by omega)) (lw_V q1246 q1248 qs43 q87 q1249) kl4 hM.ob 2 rfl md_X4_isPoint rfl (by omega) (by decide) rfl dX4_yard_3 6 rfl rfl (Nat.le_of_ble_eq_true rfl) (by omega) (by omega) ?_
  refine ss_if_eq h dX4_yard_6 9 47 rfl (by decide) (by first | omega | exact sRg_b _) (fun c6 => ?_) (fun c6 => ?_)
  · skip
    replace c6 := bI_0.mp c6
    refine ss_bipush h dX4_yard_47 49 rfl (by decide +kernel) ?_
    refine ss_iret h dX4_yard_49 (by omega) (by omega) ?_
    rw [hP9]
    exact ⟨by unfold yardV; rw [if_neg (by simp [*])], rfl, rfl, rfl, rfl⟩
  · skip
    replace c6 := bI_n.mp c6
    have p1 := pointB_t.mp c6
    refine ss_iload_n (i := 3) h dX4_yard_9 10 rfl rfl rfl ?_
    refine ss_iconst h dX4_yard_10 11 rfl ?_
    refine ss_iconst h dX4_yard_11 12 rfl ?_
    refine ss_cSv h (m_isIn (d := d - 1) (by omega) (by omega) (by omega)) (lw_S q1207 q1208 q87 q1209) 3 rfl md_X4_isIn (by omega) (by decide) rfl dX4_yard_12 15 rfl rfl (Nat.le_of_ble_eq_true rfl) (by omega) (by omega) ?_
    refine ss_if_eq h dX4_yard_15 18 47 rfl (by decide) (by first | omega | exact sRg_b _) (fun c15 => ?_) (fun c15 => ?_)
    · skip
      replace c15 := bI_0.mp c15
      refine ss_bipush h dX4_yard_47 49 rfl (by decide +kernel) ?_
      refine ss_iret h dX4_yard_49 (by omega) (by omega) ?_
      rw [hP9]
      exact ⟨by unfold yardV; rw [if_neg (by simp [*])], rfl, rfl, rfl, rfl⟩
    · skip
      replace c15 := bI_n.mp c15
      have p2 := inB_t.mp c15
      refine ss_aload_n (i := 0) h dX4_yard_18 19 rfl rfl rfl ?_
      refine ss_iload_n (i := 1) h dX4_yard_19 20 rfl rfl rfl ?_
      refine ss_iload_n (i := 3) h dX4_yard_20 21 rfl rfl rfl ?_
      refine ss_cSv h (m_aheadX (d := d - 1) (by omega)) (lw_S q1380 q1381 q87 q1382) 1 rfl md_X4_aheadX (by omega) (by decide) rfl dX4_yard_21 24 rfl rfl (Nat.le_of_ble_eq_true rfl) (by omega) (by omega) ?_
      refine ss_iadd h dX4_yard_24 25 rfl ?_
      refine ss_iload_n (i := 2) h dX4_yard_25 26 rfl rfl rfl ?_
      refine ss_iload_n (i := 3) h dX4_yard_26 27 rfl rfl rfl ?_
      refine ss_cSv h (m_aheadY (d := d - 1) (by omega)) (lw_S q1383 q1384 q87 q1385) 1 rfl md_X4_aheadY (by omega) (by decide) rfl dX4_yard_27 30 rfl rfl (Nat.le_of_ble_eq_true rfl) (by omega) (by omega) ?_
      refine ss_iadd h dX4_yard_30 31 rfl ?_
      refine ss_cVv h (m_isPoint hM (d := d - 1) hd (by omega) (by omega) (by omega)) (lw_V q1246 q1248 qs43 q87 q1249) kl4 hM.ob 2 rfl md_X4_isPoint rfl (by omega) (by decide) rfl dX4_yard_31 34 rfl rfl (Nat.le_of_ble_eq_true rfl) (by omega) (by omega) ?_
      refine ss_if_eq h dX4_yard_34 37 47 rfl (by decide) (by first | omega | exact sRg_b _) (fun c34 => ?_) (fun c34 => ?_)
      · skip
        replace c34 := bI_0.mp c34
        refine ss_bipush h dX4_yard_47 49 rfl (by decide +kernel) ?_
        refine ss_iret h dX4_yard_49 (by omega) (by omega) ?_
        rw [hP9]
        exact ⟨by unfold yardV; rw [if_neg (by simp [*])], rfl, rfl, rfl, rfl⟩
      · skip
        replace c34 := bI_n.mp c34
        refine ss_iload h dX4_yard_37 39 rfl rfl ?_
        refine ss_iconst h dX4_yard_39 40 rfl ?_
        refine ss_iconst h dX4_yard_40 41 rfl ?_
        refine ss_cSv h (m_isIn (d := d - 1) (by omega) (by omega) (by omega)) (lw_S q1207 q1208 q87 q1209) 3 rfl md_X4_isIn (by omega) (by decide) rfl dX4_yard_41 44 rfl rfl (Nat.le_of_ble_eq_true rfl) (by omega) (by omega) ?_
        refine ss_if_ne h dX4_yard_44 47 50 rfl (by decide) (by first | omega | exact sRg_b _) (fun c44 => ?_) (fun c44 => ?_)
        · skip
          replace c44 := bI_1.mp c44
          have p3 := inB_t.mp c44
          have yd := yard_in hd p2 c6 c34
          refine ss_aload_n (i := 0) h dX4_yard_50 51 rfl rfl rfl ?_
          refine ss_getS h kl4 0 0 rfl (by decide) rfl hM.ob q1087 dX4_yard_51 54 rfl hM.r_w ?_
          refine ss_iload h dX4_yard_54 56 rfl rfl ?_
          refine ss_if_ne h dX4_yard_56 59 65 rfl (by decide) (by first | omega | exact sRg_b _) (fun c56 => ?_) (fun c56 => ?_)
          · skip
            refine ss_sipush h dX4_yard_65 68 rfl (by decide +kernel) ?_
            refine ss_iload_n (i := 1) h dX4_yard_68 69 rfl rfl rfl ?_
            refine ss_iload_n (i := 2) h dX4_yard_69 70 rfl rfl rfl ?_
            refine ss_iload_n (i := 3) h dX4_yard_70 71 rfl rfl rfl ?_
            refine ss_cSv h (m_yardBy (d := d - 1) p2) (lw_S q1394 q1395 q87 q1396) 3 rfl md_X4_yardBy (by omega) (by decide) rfl dX4_yard_71 74 rfl rfl (Nat.le_of_ble_eq_true rfl) (by omega) (by omega) ?_
            refine ss_iadd h dX4_yard_74 75 rfl ?_
            refine ss_iald h hM.k_w (by decide) (by omega) dX4_yard_75 76 rfl ?_
            refine ss_iret h dX4_yard_76 (by omega) (by omega) ?_
            rw [hP9]
            exact ⟨by unfold yardV; rw [if_pos ⟨c6, c15, c34, c44⟩]; first | rw [if_pos c56] | rw [if_neg c56], rfl, rfl, rfl, rfl⟩
          · skip
            refine ss_sipush h dX4_yard_59 62 rfl (by decide +kernel) ?_
            refine ss_goto h dX4_yard_62 68 (by decide) ?_
            refine ss_iload_n (i := 1) h dX4_yard_68 69 rfl rfl rfl ?_
            refine ss_iload_n (i := 2) h dX4_yard_69 70 rfl rfl rfl ?_
            refine ss_iload_n (i := 3) h dX4_yard_70 71 rfl rfl rfl ?_
            refine ss_cSv h (m_yardBy (d := d - 1) p2) (lw_S q1394 q1395 q87 q1396) 3 rfl md_X4_yardBy (by omega) (by decide) rfl dX4_yard_71 74 rfl rfl (Nat.le_of_ble_eq_true rfl) (by omega) (by omega) ?_
            refine ss_iadd h dX4_yard_74 75 rfl ?_
            refine ss_iald h hM.k_w (by decide) (by omega) dX4_yard_75 76 rfl ?_
            refine ss_iret h dX4_yard_76 (by omega) (by omega) ?_
            rw [hP9]
            exact ⟨by unfold yardV; rw [if_pos ⟨c6, c15, c34, c44⟩]; first | rw [if_pos c56] | rw [if_neg c56], rfl, rfl, rfl, rfl⟩
        · skip
          replace c44 := bI_0.mp c44
          refine ss_bipush h dX4_yard_47 49 rfl (by decide +kernel) ?_
          refine ss_iret h dX4_yard_49 (by omega) (by omega) ?_
          rw [hP9]
          exact ⟨by unfold yardV; rw [if_neg (by simp [*])], rfl, rfl, rfl, rfl⟩
theorem m_far {a b : Int} (h1 : sRg a) (h2 : sRg b) : sCt Ω yX4_far cX4_far 2 (some .int) d 0 0 [vI a, vI b] n K X R (pV n K X R (some (vI (farS a b)))) := by
  refine sCt_of (by decide) (by simp [Value.category, vI, va_rf]) (Nat.le_of_ble_eq_true rfl) fun Γ P9 hP9 h => ?_
  show sG (_, _, _, _, _) Γ 0 0 _ _ _ _ 0 [some _, some _] []
  refine ss_iload_n (i := 0) h dX4_far_0 1 rfl rfl rfl ?_
  refine ss_iload_n (i := 1) h dX4_far_1 2 rfl rfl rfl ?_
  refine ss_icmp_ge h dX4_far_2 5 11 rfl (by decide) (by first | omega | exact sRg_b _) (by first | omega | exact sRg_b _) (fun c2 => ?_) (fun c2 => ?_)
  · skip
    refine ss_iload_n (i := 0) h dX4_far_11 12 rfl rfl rfl ?_
    refine ss_iload_n (i := 1) h dX4_far_12 13 rfl rfl rfl ?_
    refine ss_isub h dX4_far_13 14 rfl ?_
    refine ss_iret h dX4_far_14 (by omega) (by omega) ?_
    rw [hP9]
    exact ⟨vI_c (by unfold farS; split <;> omega), rfl, rfl, rfl, rfl⟩
  · skip
    refine ss_iload_n (i := 1) h dX4_far_5 6 rfl rfl rfl ?_
    refine ss_iload_n (i := 0) h dX4_far_6 7 rfl rfl rfl ?_
    refine ss_isub h dX4_far_7 8 rfl ?_
    refine ss_goto h dX4_far_8 14 (by decide) ?_
    refine ss_iret h dX4_far_14 (by omega) (by omega) ?_
    rw [hP9]
    exact ⟨vI_c (by unfold farS; split <;> omega), rfl, rfl, rfl, rfl⟩
theorem judN_in {w : WT} {x y : Int} (hx : 0 ≤ x ∧ x ≤ 10) (hy : 0 ≤ y ∧ y ≤ 10) (hn : ∀ k, 0 ≤ k → k < w 5 → (0 ≤ w (1840 + 2 * k) ∧ w (1840 + 2 * k) ≤ 10) ∧ 0 ≤ w (1840 + 2 * k + 1) ∧ w (1840 + 2 * k + 1) ≤ 10) : ∀ k : Nat, (k : Int) ≤ w 5 → (-1 ≤ (judN w x y k).1 ∧ (judN w x y k).1 < k) ∧ 0 ≤ (judN w x y k).2 ∧ (judN w x y k).2 ≤ 20
  | 0, _ => by
    unfold judN
    dsimp only
    omega
  | k + 1, hk => by
    have ih := judN_in hx hy hn k (by omega)
    have hk2 := hn k (by omega) (by omega)
    unfold judN
    split
    · omega
    · dsimp only
      unfold farS
      (repeat' split) <;> omega
theorem m_suit (hM : MOk Ω n K R m) {i t : Int} (h1 : sRg i) (h2 : sRg t) (h5 : 0 ≤ X (m + 1) 5 ∧ X (m + 1) 5 ≤ 6) (h6 : 0 ≤ X (m + 1) 6 ∧ X (m + 1) 6 ≤ 99) (hn : ∀ k, 0 ≤ k → k < X (m + 1) 5 → (0 ≤ X (m + 1) (1840 + 2 * k) ∧ X (m + 1) (1840 + 2 * k) ≤ 10) ∧ 0 ≤ X (m + 1) (1840 + 2 * k + 1) ∧ X (m + 1) (1840 + 2 * k + 1) ≤ 10) (hs : ∀ k, 0 ≤ k → k < X (m + 1) 6 → (0 ≤ X (m + 1) (1340 + 5 * k + 2) ∧ X (m + 1) (1340 + 5 * k + 2) ≤ 10) ∧ 0 ≤ X (m + 1) (1340 + 5 * k + 3) ∧ X (m + 1) (1340 + 5 * k + 3) ≤ 10) (hl : 1 ≤ d) : sCt Ω yX4_suit cX4_suit 8 (some .int) d 0 0 [.ref m, vI i, vI t] n K X R (pV n K X R (some (vI (suitV (X (m + 1)) i t)))) := by
  refine sCt_of (by decide) (by simp [Value.category, vI, va_rf]) (Nat.le_of_ble_eq_true rfl) fun Γ P9 hP9 h => ?_
  show sG (_, _, _, _, _) Γ 0 0 _ _ _ _ 0 [some _, some _, some _, none, none, none, none, none] []
  refine ss_iload_n (i := 1) h dX4_suit_0 1 rfl rfl rfl ?_
  refine ss_iconst h dX4_suit_1 2 rfl ?_
  refine ss_aload_n (i := 0) h dX4_suit_2 3 rfl rfl rfl ?_
  refine ss_getS h kl4 0 0 rfl (by decide) rfl hM.ob q1087 dX4_suit_3 6 rfl hM.r_w ?_
  refine ss_bipush h dX4_suit_6 8 rfl (by decide +kernel) ?_
  refine ss_iald h hM.k_w (by decide) (by omega) dX4_suit_8 9 rfl ?_
  refine ss_iconst h dX4_suit_9 10 rfl ?_
  refine ss_isub h dX4_suit_10 11 rfl ?_
  refine ss_cSv h (m_isIn (d := d - 1) (by omega) (by omega) (by omega)) (lw_S q1207 q1208 q87 q1209) 3 rfl md_X4_isIn (by omega) (by decide) rfl dX4_suit_11 14 rfl rfl (Nat.le_of_ble_eq_true rfl) (by omega) (by omega) ?_
  refine ss_if_eq h dX4_suit_14 17 26 rfl (by decide) (by first | omega | exact sRg_b _) (fun c14 => ?_) (fun c14 => ?_)
  · skip
    replace c14 := bI_0.mp c14
    refine ss_iconst h dX4_suit_26 27 rfl ?_
    refine ss_iret h dX4_suit_27 (by omega) (by omega) ?_
    rw [hP9]
    exact ⟨by unfold suitV; rw [if_neg (by simp [*])], rfl, rfl, rfl, rfl⟩
  · skip
    replace c14 := bI_n.mp c14
    refine ss_iload_n (i := 2) h dX4_suit_17 18 rfl rfl rfl ?_
    refine ss_iconst h dX4_suit_18 19 rfl ?_
    refine ss_iconst h dX4_suit_19 20 rfl ?_
    refine ss_cSv h (m_isIn (d := d - 1) (by omega) (by omega) (by omega)) (lw_S q1207 q1208 q87 q1209) 3 rfl md_X4_isIn (by omega) (by decide) rfl dX4_suit_20 23 rfl rfl (Nat.le_of_ble_eq_true rfl) (by omega) (by omega) ?_
    refine ss_if_ne h dX4_suit_23 26 28 rfl (by decide) (by first | omega | exact sRg_b _) (fun c23 => ?_) (fun c23 => ?_)
    · skip
      replace c23 := bI_1.mp c23
      have p1 := inB_t.mp c14
      have p2 := inB_t.mp c23
      have hs2 := hs i p1.1 (by omega)
      refine ss_sipush h dX4_suit_28 31 rfl (by decide +kernel) ?_
      refine ss_iconst h dX4_suit_31 32 rfl ?_
      refine ss_iload_n (i := 1) h dX4_suit_32 33 rfl rfl rfl ?_
      refine ss_imul h dX4_suit_33 34 rfl ?_
      refine ss_iadd h dX4_suit_34 35 rfl ?_
      refine ss_ist_3 h dX4_suit_35 36 rfl ?_
      refine ss_iload_n (i := 2) h dX4_suit_36 37 rfl rfl rfl ?_
      refine ss_iconst h dX4_suit_37 38 rfl ?_
      refine ss_icmp_ge h dX4_suit_38 41 50 rfl (by decide) (by first | omega | exact sRg_b _) (by first | omega | exact sRg_b _) (fun c38 => ?_) (fun c38 => ?_)
      · skip
        refine ss_iconst h dX4_suit_50 51 rfl ?_
        refine ss_ist_4 h dX4_suit_51 53 rfl ?_
        refine ss_iconst h dX4_suit_53 54 rfl ?_
        refine ss_ist_5 h dX4_suit_54 56 rfl ?_
        refine ss_iconst h dX4_suit_56 57 rfl ?_
        refine ss_ist_6 h dX4_suit_57 59 rfl ?_
        refine ss_loop (σ := Nat) (Pp := fun k => sG _ Γ 0 0 n K X R 59 [some (.ref m), some (vI i), some (vI t), some (vI (1340 + 5 * i)), some (vI (judN (X (m + 1)) (X (m + 1) (1340 + 5 * i + 2)) (X (m + 1) (1340 + 5 * i + 3)) k).1), some (vI (judN (X (m + 1)) (X (m + 1) (1340 + 5 * i + 2)) (X (m + 1) (1340 + 5 * i + 3)) k).2), some (vI k), none] []) (I := fun k => (k : Int) ≤ X (m + 1) 5) (fun k => (X (m + 1) 5 - k).toNat) (fun k hk ih => ?_) 0 (by omega)
        have ji := judN_in hs2.1 hs2.2 hn k hk
        have hk2 := hn k (by omega)
        refine ss_iload h dX4_suit_59 61 rfl rfl ?_
        refine ss_aload_n (i := 0) h dX4_suit_61 62 rfl rfl rfl ?_
        refine ss_getS h kl4 0 0 rfl (by decide) rfl hM.ob q1087 dX4_suit_62 65 rfl hM.r_w ?_
        refine ss_iconst h dX4_suit_65 66 rfl ?_
        refine ss_iald h hM.k_w (by decide) (by omega) dX4_suit_66 67 rfl ?_
        refine ss_icmp_ge h dX4_suit_67 70 153 rfl (by decide) (by first | omega | exact sRg_b _) (by first | omega | exact sRg_b _) (fun c67 => ?_) (fun c67 => ?_)
        · skip
          refine ss_iload h dX4_suit_153 155 rfl rfl ?_
          refine ss_iret h dX4_suit_155 (by omega) (by omega) ?_
          rw [hP9]
          exact ⟨by unfold suitV; rw [if_pos ⟨c14, c23⟩, if_neg (by omega), show (X (m + 1) 5).toNat = k by omega], rfl, rfl, rfl, rfl⟩
        · skip
          have hk2 := hk2 (by omega)
          have s1 := judN_s (X (m + 1)) (X (m + 1) (1340 + 5 * i + 2)) (X (m + 1) (1340 + 5 * i + 3)) k
          refine ss_aload_n (i := 0) h dX4_suit_70 71 rfl rfl rfl ?_
          refine ss_getS h kl4 0 0 rfl (by decide) rfl hM.ob q1087 dX4_suit_71 74 rfl hM.r_w ?_
          refine ss_sipush h dX4_suit_74 77 rfl (by decide +kernel) ?_
          refine ss_iconst h dX4_suit_77 78 rfl ?_
          refine ss_iload h dX4_suit_78 80 rfl rfl ?_
          refine ss_imul h dX4_suit_80 81 rfl ?_
          refine ss_iadd h dX4_suit_81 82 rfl ?_
          refine ss_iald h hM.k_w (by decide) (by omega) dX4_suit_82 83 rfl ?_
          refine ss_aload_n (i := 0) h dX4_suit_83 84 rfl rfl rfl ?_
          refine ss_getS h kl4 0 0 rfl (by decide) rfl hM.ob q1087 dX4_suit_84 87 rfl hM.r_w ?_
          refine ss_iload_n (i := 3) h dX4_suit_87 88 rfl rfl rfl ?_
          refine ss_iconst h dX4_suit_88 89 rfl ?_
          refine ss_iadd h dX4_suit_89 90 rfl ?_
          refine ss_iald h hM.k_w (by decide) (by omega) dX4_suit_90 91 rfl ?_
          refine ss_cSv h (m_far (d := d - 1) (by omega) (by omega)) (lw_S q1455 q1456 q87 q1457) 2 rfl md_X4_far (by omega) (by decide) rfl dX4_suit_91 94 rfl rfl (Nat.le_of_ble_eq_true rfl) (by omega) (by omega) ?_
          refine ss_aload_n (i := 0) h dX4_suit_94 95 rfl rfl rfl ?_
          refine ss_getS h kl4 0 0 rfl (by decide) rfl hM.ob q1087 dX4_suit_95 98 rfl hM.r_w ?_
          refine ss_sipush h dX4_suit_98 101 rfl (by decide +kernel) ?_
          refine ss_iconst h dX4_suit_101 102 rfl ?_
          refine ss_iload h dX4_suit_102 104 rfl rfl ?_
          refine ss_imul h dX4_suit_104 105 rfl ?_
          refine ss_iadd h dX4_suit_105 106 rfl ?_
          refine ss_iconst h dX4_suit_106 107 rfl ?_
          refine ss_iadd h dX4_suit_107 108 rfl ?_
          refine ss_iald h hM.k_w (by decide) (by omega) dX4_suit_108 109 rfl ?_
          refine ss_aload_n (i := 0) h dX4_suit_109 110 rfl rfl rfl ?_
          refine ss_getS h kl4 0 0 rfl (by decide) rfl hM.ob q1087 dX4_suit_110 113 rfl hM.r_w ?_
          refine ss_iload_n (i := 3) h dX4_suit_113 114 rfl rfl rfl ?_
          refine ss_iconst h dX4_suit_114 115 rfl ?_
          refine ss_iadd h dX4_suit_115 116 rfl ?_
          refine ss_iald h hM.k_w (by decide) (by omega) dX4_suit_116 117 rfl ?_
          refine ss_cSv h (m_far (d := d - 1) (by omega) (by omega)) (lw_S q1455 q1456 q87 q1457) 2 rfl md_X4_far (by omega) (by decide) rfl dX4_suit_117 120 rfl rfl (Nat.le_of_ble_eq_true rfl) (by omega) (by omega) ?_
          refine ss_iadd h dX4_suit_120 121 rfl ?_
          obtain ⟨v, hv⟩ : ∃ v, v = farS (X (m + 1) (1840 + 2 * k)) (X (m + 1) (1340 + 5 * i + 2)) + farS (X (m + 1) (1840 + 2 * k + 1)) (X (m + 1) (1340 + 5 * i + 3)) := ⟨_, rfl⟩
          rw [← hv] at s1 ⊢
          have v1 : 0 ≤ v ∧ v ≤ 20 := by rw [hv]; unfold farS; (repeat' split) <;> omega
          refine ss_ist_7 h dX4_suit_121 123 rfl ?_
          refine ss_iload h dX4_suit_123 125 rfl rfl ?_
          refine ss_iconst h dX4_suit_125 126 rfl ?_
          refine ss_icmp_eq h dX4_suit_126 129 139 rfl (by decide) (by first | omega | exact sRg_b _) (by first | omega | exact sRg_b _) (fun c126 => ?_) (fun c126 => ?_)
          · skip
            rw [if_neg (fun z => z.1 c126)] at s1
            refine ss_iload h dX4_suit_139 141 rfl rfl ?_
            refine ss_ist_4 h dX4_suit_141 143 rfl ?_
            refine ss_iload h dX4_suit_143 145 rfl rfl ?_
            refine ss_ist_5 h dX4_suit_145 147 rfl ?_
            refine ss_inc_6 h dX4_suit_147 150 rfl ?_
            refine ss_goto h dX4_suit_150 59 (by decide) ?_
            refine ss_kl_7 ?_
            have fin := ih (k + 1) (by omega) (by omega)
            rw [s1] at fin
            exact fin
          · skip
            refine ss_iload h dX4_suit_129 131 rfl rfl ?_
            refine ss_iload h dX4_suit_131 133 rfl rfl ?_
            refine ss_icmp_lt h dX4_suit_133 136 139 rfl (by decide) (by first | omega | exact sRg_b _) (by first | omega | exact sRg_b _) (fun c133 => ?_) (fun c133 => ?_)
            · skip
              rw [if_neg (fun z => by have := z.2; omega)] at s1
              refine ss_iload h dX4_suit_139 141 rfl rfl ?_
              refine ss_ist_4 h dX4_suit_141 143 rfl ?_
              refine ss_iload h dX4_suit_143 145 rfl rfl ?_
              refine ss_ist_5 h dX4_suit_145 147 rfl ?_
              refine ss_inc_6 h dX4_suit_147 150 rfl ?_
              refine ss_goto h dX4_suit_150 59 (by decide) ?_
              refine ss_kl_7 ?_
              have fin := ih (k + 1) (by omega) (by omega)
              rw [s1] at fin
              exact fin
            · skip
              rw [if_pos ⟨c126, by omega⟩] at s1
              refine ss_goto h dX4_suit_136 147 (by decide) ?_
              refine ss_inc_6 h dX4_suit_147 150 rfl ?_
              refine ss_goto h dX4_suit_150 59 (by decide) ?_
              refine ss_kl_7 ?_
              have fin := ih (k + 1) (by omega) (by omega)
              rw [s1] at fin
              exact fin
      · skip
        refine ss_aload_n (i := 0) h dX4_suit_41 42 rfl rfl rfl ?_
        refine ss_getS h kl4 0 0 rfl (by decide) rfl hM.ob q1087 dX4_suit_42 45 rfl hM.r_w ?_
        refine ss_iload_n (i := 3) h dX4_suit_45 46 rfl rfl rfl ?_
        refine ss_iload_n (i := 2) h dX4_suit_46 47 rfl rfl rfl ?_
        refine ss_iadd h dX4_suit_47 48 rfl ?_
        refine ss_iald h hM.k_w (by decide) (by omega) dX4_suit_48 49 rfl ?_
        refine ss_iret h dX4_suit_49 (by omega) (by omega) ?_
        rw [hP9]
        exact ⟨by unfold suitV; rw [if_pos ⟨c14, c23⟩, if_pos (by omega)], rfl, rfl, rfl, rfl⟩
    · skip
      replace c23 := bI_0.mp c23
      refine ss_iconst h dX4_suit_26 27 rfl ?_
      refine ss_iret h dX4_suit_27 (by omega) (by omega) ?_
      rw [hP9]
      exact ⟨by unfold suitV; rw [if_neg (by simp [*])], rfl, rfl, rfl, rfl⟩
theorem stlP_0 (w : WT) (s a b : Int) : stlP w s a b 0 = w := by
  funext i
  unfold stlP
  rw [if_neg (by omega), if_neg (by omega)]
theorem stlP_off {w : WT} {s a b k i : Int} (h1 : i ≠ 850 + k) (h2 : i ≠ 1092 + k) : stlP w s a b (k + 1) i = stlP w s a b k i := by
  unfold stlP
  by_cases a1 : (850 ≤ i ∧ i < 850 + k) ∧ hitS w s a b (i - 850) = true
  · rw [if_pos a1, if_pos ⟨by omega, a1.2⟩]
  · rw [if_neg a1, if_neg (fun z => a1 ⟨by omega, z.2⟩)]
    by_cases a2 : (1092 ≤ i ∧ i < 1092 + k) ∧ hitS w s a b (i - 1092) = true
    · rw [if_pos a2, if_pos ⟨by omega, a2.2⟩]
    · rw [if_neg a2, if_neg (fun z => a2 ⟨by omega, z.2⟩)]
theorem stlP_skip {w : WT} {s a b k : Int} (h0 : 0 ≤ k ∧ k < 242) (h : hitS w s a b k = false) : stlP w s a b (k + 1) = stlP w s a b k := by
  funext i
  by_cases e1 : i = 850 + k
  · unfold stlP
    rw [if_neg (fun z => by have := z.2; rw [show i - 850 = k by omega, h] at this; cases this), if_neg (by omega), if_neg (by omega), if_neg (by omega)]
  · by_cases e2 : i = 1092 + k
    · unfold stlP
      rw [if_neg (by omega), if_neg (fun z => by have := z.2; rw [show i - 1092 = k by omega, h] at this; cases this), if_neg (by omega), if_neg (by omega)]
    · exact stlP_off e1 e2
theorem stlP_step {w : WT} {s a b k : Int} (h0 : 0 ≤ k ∧ k < 242) (h : hitS w s a b k = true) : upW (upW (stlP w s a b k) (850 + k) (-1)) (1092 + k) (-1) = stlP w s a b (k + 1) := by
  funext i
  by_cases e2 : i = 1092 + k
  · rw [e2, upW_s]
    unfold stlP
    rw [if_neg (by omega), if_pos ⟨by omega, by rw [show (1092 : Int) + k - 1092 = k by omega]; exact h⟩]
  · rw [upW_n e2]
    by_cases e1 : i = 850 + k
    · rw [e1, upW_s]
      unfold stlP
      rw [if_pos ⟨by omega, by rw [show (850 : Int) + k - 850 = k by omega]; exact h⟩]
    · rw [upW_n e1]
      exact (stlP_off e1 e2).symm
theorem m_steal (hM : MOk Ω n K R m) {s a b : Int} (h1 : sRg s) (h2 : sRg a) (h3 : sRg b) (h4 : 0 ≤ X (m + 1) 4 ∧ X (m + 1) 4 ≤ 8) (hl : 1 ≤ d) : sCt Ω yX4_steal cX4_steal 6 (some .int) d 0 0 [.ref m, vI s, vI a, vI b] n K X R (pA n K R (vI (if stlB (X (m + 1)) s a b = true then stlN (X (m + 1)) s a b 242 else -1)) (fun X' => X' = if stlB (X (m + 1)) s a b = true then sArr X (m + 1) (stlP (X (m + 1)) s a b 242) else X)) := by
  refine sCt_of (by decide) (by simp [Value.category, vI, va_rf]) (Nat.le_of_ble_eq_true rfl) fun Γ P9 hP9 h => ?_
  show sG (_, _, _, _, _) Γ 0 0 _ _ _ _ 0 [some _, some _, some _, some _, none, none] []
  refine ss_rg fun hrg => ?_
  refine ss_iload_n (i := 1) h dX4_steal_0 1 rfl rfl rfl ?_
  refine ss_iconst h dX4_steal_1 2 rfl ?_
  refine ss_aload_n (i := 0) h dX4_steal_2 3 rfl rfl rfl ?_
  refine ss_getS h kl4 0 0 rfl (by decide) rfl hM.ob q1087 dX4_steal_3 6 rfl hM.r_w ?_
  refine ss_iconst h dX4_steal_6 7 rfl ?_
  refine ss_iald h hM.k_w (by decide) (by omega) dX4_steal_7 8 rfl ?_
  refine ss_iconst h dX4_steal_8 9 rfl ?_
  refine ss_isub h dX4_steal_9 10 rfl ?_
  refine ss_cSv h (m_isIn (d := d - 1) (by omega) (by omega) (by omega)) (lw_S q1207 q1208 q87 q1209) 3 rfl md_X4_isIn (by omega) (by decide) rfl dX4_steal_10 13 rfl rfl (Nat.le_of_ble_eq_true rfl) (by omega) (by omega) ?_
  refine ss_if_eq h dX4_steal_13 16 25 rfl (by decide) (by first | omega | exact sRg_b _) (fun c13 => ?_) (fun c13 => ?_)
  · skip
    replace c13 := bI_0.mp c13
    refine ss_iconst h dX4_steal_25 26 rfl ?_
    refine ss_iret h dX4_steal_26 (by omega) (by omega) ?_
    rw [hP9]
    exact ⟨by rw [if_neg (by simp [stlB, *])], rfl, rfl, rfl, by rw [if_neg (by simp [stlB, *])]⟩
  · skip
    replace c13 := bI_n.mp c13
    refine ss_iload_n (i := 2) h dX4_steal_16 17 rfl rfl rfl ?_
    refine ss_iconst h dX4_steal_17 18 rfl ?_
    refine ss_iload_n (i := 3) h dX4_steal_18 19 rfl rfl rfl ?_
    refine ss_cSv h (m_isIn (d := d - 1) (by omega) (by omega) (by omega)) (lw_S q1207 q1208 q87 q1209) 3 rfl md_X4_isIn (by omega) (by decide) rfl dX4_steal_19 22 rfl rfl (Nat.le_of_ble_eq_true rfl) (by omega) (by omega) ?_
    refine ss_if_ne h dX4_steal_22 25 27 rfl (by decide) (by first | omega | exact sRg_b _) (fun c22 => ?_) (fun c22 => ?_)
    · skip
      replace c22 := bI_1.mp c22
      have p1 := inB_t.mp c13
      have p2 := inB_t.mp c22
      have hB : stlB (X (m + 1)) s a b = true := by simp [stlB, *]
      refine ss_iconst h dX4_steal_27 28 rfl ?_
      refine ss_ist_4 h dX4_steal_28 30 rfl ?_
      refine ss_iconst h dX4_steal_30 31 rfl ?_
      refine ss_ist_5 h dX4_steal_31 33 rfl ?_
      refine ss_X (X' := sArr X (m + 1) (stlP (X (m + 1)) s a b 0)) (by rw [stlP_0, sArr_id]) ?_
      refine ss_loop (σ := Nat) (Pp := fun k => sG _ Γ 0 0 n K (sArr X (m + 1) (stlP (X (m + 1)) s a b k)) R 33 [some (.ref m), some (vI s), some (vI a), some (vI b), some (vI (stlN (X (m + 1)) s a b k)), some (vI k)] []) (I := fun k => k ≤ 242) (fun k => 242 - k) (fun k hk ih => ?_) 0 (by omega)
      have e1 : sArr X (m + 1) (stlP (X (m + 1)) s a b k) (m + 1) = stlP (X (m + 1)) s a b k := sArr_s
      refine ss_iload h dX4_steal_33 35 rfl rfl ?_
      refine ss_sipush h dX4_steal_35 38 rfl (by decide +kernel) ?_
      refine ss_icmp_ge h dX4_steal_38 41 111 rfl (by decide) (by first | omega | exact sRg_b _) (by first | omega | exact sRg_b _) (fun c38 => ?_) (fun c38 => ?_)
      · skip
        refine ss_iload h dX4_steal_111 113 rfl rfl ?_
        refine ss_iret h dX4_steal_113 (by omega) (by omega) ?_
        rw [hP9]
        exact ⟨by rw [if_pos hB, show k = 242 by omega], rfl, rfl, rfl, by rw [if_pos hB, show k = 242 by omega]; rfl⟩
      · skip
        have t1 : stlP (X (m + 1)) s a b k (850 + k) = X (m + 1) (850 + k) := by unfold stlP; rw [if_neg (by omega), if_neg (by omega)]
        have t2 : stlP (X (m + 1)) s a b k (1092 + k) = X (m + 1) (1092 + k) := by unfold stlP; rw [if_neg (by omega), if_neg (by omega)]
        have s1 : stlN (X (m + 1)) s a b (k + 1) = stlN (X (m + 1)) s a b k + if hitS (X (m + 1)) s a b k = true then 1 else 0 := rfl
        have fin := ih (k + 1)
        refine ss_aload_n (i := 0) h dX4_steal_41 42 rfl rfl rfl ?_
        refine ss_getS h kl4 0 0 rfl (by decide) rfl hM.ob q1087 dX4_steal_42 45 rfl hM.r_w ?_
        refine ss_sipush h dX4_steal_45 48 rfl (by decide +kernel) ?_
        refine ss_iload h dX4_steal_48 50 rfl rfl ?_
        refine ss_iadd h dX4_steal_50 51 rfl ?_
        refine ss_iald h hM.k_w (by decide) (by omega) dX4_steal_51 52 rfl ?_
        rw [e1, t1]
        refine ss_iload_n (i := 1) h dX4_steal_52 53 rfl rfl rfl ?_
        refine ss_icmp_ne h dX4_steal_53 56 105 rfl (by decide) (hrg _ _) (by omega) (fun c53 => ?_) (fun c53 => ?_)
        · skip
          have hf : hitS (X (m + 1)) s a b k = false := by unfold hitS; rw [decide_eq_false c53]; rfl
          rw [s1, if_neg (by rw [hf]; decide), Int.add_zero, show ((k + 1 : Nat) : Int) = (k : Int) + 1 from rfl, stlP_skip (by omega) hf] at fin
          have fin2 := fin (by omega) (by omega)
          refine ss_inc_5 h dX4_steal_105 108 rfl ?_
          refine ss_goto h dX4_steal_108 33 (by decide) ?_
          refine ss_X ?_ fin2
          first
            | rw [sArr_sUp, sArr_sUp]
            | rfl
        · skip
          refine ss_aload_n (i := 0) h dX4_steal_56 57 rfl rfl rfl ?_
          refine ss_getS h kl4 0 0 rfl (by decide) rfl hM.ob q1087 dX4_steal_57 60 rfl hM.r_w ?_
          refine ss_sipush h dX4_steal_60 63 rfl (by decide +kernel) ?_
          refine ss_iload h dX4_steal_63 65 rfl rfl ?_
          refine ss_iadd h dX4_steal_65 66 rfl ?_
          refine ss_iald h hM.k_w (by decide) (by omega) dX4_steal_66 67 rfl ?_
          rw [e1, t2]
          refine ss_iload_n (i := 2) h dX4_steal_67 68 rfl rfl rfl ?_
          refine ss_iload_n (i := 3) h dX4_steal_68 69 rfl rfl rfl ?_
          refine ss_cSv h (m_isIn (d := d - 1) (hrg _ _) (by omega) (by omega)) (lw_S q1207 q1208 q87 q1209) 3 rfl md_X4_isIn (by omega) (by decide) rfl dX4_steal_69 72 rfl rfl (Nat.le_of_ble_eq_true rfl) (by omega) (by omega) ?_
          refine ss_if_ne h dX4_steal_72 75 78 rfl (by decide) (by first | omega | exact sRg_b _) (fun c72 => ?_) (fun c72 => ?_)
          · skip
            replace c72 := bI_1.mp c72
            have hf : hitS (X (m + 1)) s a b k = true := by unfold hitS; rw [decide_eq_true c53, c72]; rfl
            rw [s1, if_pos hf, show ((k + 1 : Nat) : Int) = (k : Int) + 1 from rfl, ← stlP_step (by omega) hf] at fin
            have fin2 := fin (by omega) (by omega)
            refine ss_aload_n (i := 0) h dX4_steal_78 79 rfl rfl rfl ?_
            refine ss_getS h kl4 0 0 rfl (by decide) rfl hM.ob q1087 dX4_steal_79 82 rfl hM.r_w ?_
            refine ss_sipush h dX4_steal_82 85 rfl (by decide +kernel) ?_
            refine ss_iload h dX4_steal_85 87 rfl rfl ?_
            refine ss_iadd h dX4_steal_87 88 rfl ?_
            refine ss_iconst h dX4_steal_88 89 rfl ?_
            refine ss_iast h hM.k_w (by decide) (by omega) (by omega) dX4_steal_89 90 rfl ?_
            refine ss_aload_n (i := 0) h dX4_steal_90 91 rfl rfl rfl ?_
            refine ss_getS h kl4 0 0 rfl (by decide) rfl hM.ob q1087 dX4_steal_91 94 rfl hM.r_w ?_
            refine ss_sipush h dX4_steal_94 97 rfl (by decide +kernel) ?_
            refine ss_iload h dX4_steal_97 99 rfl rfl ?_
            refine ss_iadd h dX4_steal_99 100 rfl ?_
            refine ss_iconst h dX4_steal_100 101 rfl ?_
            refine ss_iast h hM.k_w (by decide) (by omega) (by omega) dX4_steal_101 102 rfl ?_
            refine ss_inc_4 h dX4_steal_102 105 rfl ?_
            refine ss_inc_5 h dX4_steal_105 108 rfl ?_
            refine ss_goto h dX4_steal_108 33 (by decide) ?_
            refine ss_X ?_ fin2
            first
              | rw [sArr_sUp, sArr_sUp]
              | rfl
          · skip
            replace c72 := bI_0.mp c72
            have hf : hitS (X (m + 1)) s a b k = false := by unfold hitS; rw [c72]; simp
            rw [s1, if_neg (by rw [hf]; decide), Int.add_zero, show ((k + 1 : Nat) : Int) = (k : Int) + 1 from rfl, stlP_skip (by omega) hf] at fin
            have fin2 := fin (by omega) (by omega)
            refine ss_goto h dX4_steal_75 105 (by decide) ?_
            refine ss_inc_5 h dX4_steal_105 108 rfl ?_
            refine ss_goto h dX4_steal_108 33 (by decide) ?_
            refine ss_X ?_ fin2
            first
              | rw [sArr_sUp, sArr_sUp]
              | rfl
    · skip
      replace c22 := bI_0.mp c22
      refine ss_iconst h dX4_steal_25 26 rfl ?_
      refine ss_iret h dX4_steal_26 (by omega) (by omega) ?_
      rw [hP9]
      exact ⟨by rw [if_neg (by simp [stlB, *])], rfl, rfl, rfl, by rw [if_neg (by simp [stlB, *])]⟩
theorem m_threads (hM : MOk Ω n K R m) : sCt Ω yX4_threads cX4_threads 3 (some .int) d 0 0 [.ref m] n K X R (pV n K X R (some (vI (thrN (X (m + 1)) 242)))) := by
  refine sCt_of (by decide) (by simp [Value.category, vI, va_rf]) (Nat.le_of_ble_eq_true rfl) fun Γ P9 hP9 h => ?_
  show sG (_, _, _, _, _) Γ 0 0 _ _ _ _ 0 [some _, none, none] []
  refine ss_rg fun hrg => ?_
  refine ss_iconst h dX4_threads_0 1 rfl ?_
  refine ss_ist_1 h dX4_threads_1 2 rfl ?_
  refine ss_iconst h dX4_threads_2 3 rfl ?_
  refine ss_ist_2 h dX4_threads_3 4 rfl ?_
  refine ss_loop (σ := Nat) (Pp := fun k => sG _ Γ 0 0 n K X R 4 [some (.ref m), some (vI (thrN (X (m + 1)) k)), some (vI k)] []) (I := fun k => k ≤ 242) (fun k => 242 - k) (fun k hk ih => ?_) 0 (by omega)
  refine ss_iload_n (i := 2) h dX4_threads_4 5 rfl rfl rfl ?_
  refine ss_sipush h dX4_threads_5 8 rfl (by decide +kernel) ?_
  refine ss_icmp_ge h dX4_threads_8 11 39 rfl (by decide) (by first | omega | exact sRg_b _) (by first | omega | exact sRg_b _) (fun c8 => ?_) (fun c8 => ?_)
  · skip
    refine ss_iload_n (i := 1) h dX4_threads_39 40 rfl rfl rfl ?_
    refine ss_iret h dX4_threads_40 (by omega) (by omega) ?_
    rw [hP9]
    exact ⟨by rw [show k = 242 by omega], rfl, rfl, rfl, rfl⟩
  · skip
    have fin := ih (k + 1) (by omega) (by omega)
    rw [show thrN (X (m + 1)) (k + 1) = thrN (X (m + 1)) k + if X (m + 1) (850 + k) ≠ -1 then 1 else 0 from rfl] at fin
    refine ss_iload_n (i := 1) h dX4_threads_11 12 rfl rfl rfl ?_
    refine ss_aload_n (i := 0) h dX4_threads_12 13 rfl rfl rfl ?_
    refine ss_getS h kl4 0 0 rfl (by decide) rfl hM.ob q1087 dX4_threads_13 16 rfl hM.r_w ?_
    refine ss_sipush h dX4_threads_16 19 rfl (by decide +kernel) ?_
    refine ss_iload_n (i := 2) h dX4_threads_19 20 rfl rfl rfl ?_
    refine ss_iadd h dX4_threads_20 21 rfl ?_
    refine ss_iald h hM.k_w (by decide) (by omega) dX4_threads_21 22 rfl ?_
    refine ss_iconst h dX4_threads_22 23 rfl ?_
    refine ss_icmp_eq h dX4_threads_23 26 30 rfl (by decide) (hrg _ _) (by omega) (fun c23 => ?_) (fun c23 => ?_)
    · skip
      rw [if_neg (fun z => z c23)] at fin
      refine ss_iconst h dX4_threads_30 31 rfl ?_
      refine ss_iadd h dX4_threads_31 32 rfl ?_
      refine ss_ist_1 h dX4_threads_32 33 rfl ?_
      refine ss_inc_2 h dX4_threads_33 36 rfl ?_
      refine ss_goto h dX4_threads_36 4 (by decide) ?_
      exact fin
    · skip
      rw [if_pos c23] at fin
      refine ss_iconst h dX4_threads_26 27 rfl ?_
      refine ss_goto h dX4_threads_27 31 (by decide) ?_
      refine ss_iadd h dX4_threads_31 32 rfl ?_
      refine ss_ist_1 h dX4_threads_32 33 rfl ?_
      refine ss_inc_2 h dX4_threads_33 36 rfl ?_
      refine ss_goto h dX4_threads_36 4 (by decide) ?_
      exact fin
theorem m_look (hM : MOk Ω n K R m) {t : Int} (hd : Dim (X (m + 1))) (h1 : sRg t) (hl : 5 ≤ d) : sCt Ω yX4_look cX4_look 2 (some .int) d 0 0 [.ref m, vI t] n K X R (pA n K R (vI (lookS (X (m + 1)) (X m 4) t)) (fun X' => (∀ f, f ≠ 30 → X' m f = X m f) ∧ sOff [0, 14, 15] m X X')) := by
  refine sCt_of (by decide) (by simp [Value.category, vI, va_rf]) (Nat.le_of_ble_eq_true rfl) fun Γ P9 hP9 h => ?_
  show sG (_, _, _, _, _) Γ 0 0 _ _ _ _ 0 [some _, some _] []
  refine ss_iload_n (i := 1) h dX4_look_0 1 rfl rfl rfl ?_
  refine ss_cut (σ := Unit) (fun _ => ¬ (0 ≤ t ∧ t ≤ 9) ∧ t ≠ 20 ∧ t ≠ 21) 189 (fun _ => X) (fun _ => [some (.ref m), some (vI t)]) (fun _ => []) (fun _ h189 => ?_) (fun J189 => ?_)
  · skip
    refine ss_iload_n (i := 1) h dX4_look_189 190 rfl rfl rfl ?_
    refine ss_bipush h dX4_look_190 192 rfl (by decide +kernel) ?_
    refine ss_bipush h dX4_look_192 194 rfl (by decide +kernel) ?_
    refine ss_cSv h (m_isIn (d := d - 1) (by omega) (by omega) (by omega)) (lw_S q1207 q1208 q87 q1209) 3 rfl md_X4_isIn (by omega) (by decide) rfl dX4_look_194 197 rfl rfl (Nat.le_of_ble_eq_true rfl) (by omega) (by omega) ?_
    refine ss_if_eq h dX4_look_197 200 216 rfl (by decide) (by first | omega | exact sRg_b _) (fun c197 => ?_) (fun c197 => ?_)
    · skip
      replace c197 := bI_0.mp c197
      have p1 := inB_f.mp c197
      refine ss_iconst h dX4_look_216 217 rfl ?_
      refine ss_iret h dX4_look_217 (by omega) (by omega) ?_
      rw [hP9]
      exact ⟨by unfold lookS; rw [if_neg (by omega), if_neg (by omega), if_neg (by omega), if_neg (by omega), if_neg (by omega), if_neg (by omega), if_neg (by omega), if_neg (by omega), if_neg (by omega), if_neg (by omega), if_neg (by omega), if_neg (by omega)]; first | rw [if_pos p1] | rw [if_neg p1], rfl, rfl, rfl, fun _ _ => rfl, sOff_rf _ _ _⟩
    · skip
      replace c197 := bI_n.mp c197
      have p1 := inB_t.mp c197
      refine ss_aload_n (i := 0) h dX4_look_200 201 rfl rfl rfl ?_
      refine ss_getS h kl4 0 0 rfl (by decide) rfl hM.ob q1087 dX4_look_201 204 rfl hM.r_w ?_
      refine ss_sipush h dX4_look_204 207 rfl (by decide +kernel) ?_
      refine ss_iload_n (i := 1) h dX4_look_207 208 rfl rfl rfl ?_
      refine ss_iadd h dX4_look_208 209 rfl ?_
      refine ss_bipush h dX4_look_209 211 rfl (by decide +kernel) ?_
      refine ss_isub h dX4_look_211 212 rfl ?_
      refine ss_iald h hM.k_w (by decide) (by omega) dX4_look_212 213 rfl ?_
      refine ss_goto h dX4_look_213 217 (by decide) ?_
      refine ss_iret h dX4_look_217 (by omega) (by omega) ?_
      rw [hP9]
      exact ⟨by unfold lookS; rw [if_neg (by omega), if_neg (by omega), if_neg (by omega), if_neg (by omega), if_neg (by omega), if_neg (by omega), if_neg (by omega), if_neg (by omega), if_neg (by omega), if_neg (by omega), if_neg (by omega), if_neg (by omega)]; first | rw [if_pos p1] | rw [if_neg p1], rfl, rfl, rfl, fun _ _ => rfl, sOff_rf _ _ _⟩
  by_cases ht : 0 ≤ t ∧ t ≤ 21
  · have ht2 : t = 0 ∨ t = 1 ∨ t = 2 ∨ t = 3 ∨ t = 4 ∨ t = 5 ∨ t = 6 ∨ t = 7 ∨ t = 8 ∨ t = 9 ∨ t = 20 ∨ t = 21 ∨ (10 ≤ t ∧ t ≤ 19) := by omega
    rcases ht2 with rfl | rfl | rfl | rfl | rfl | rfl | rfl | rfl | rfl | rfl | rfl | rfl | hq
    · refine ss_sw (off := 103) h dX4_look_1 104 (by omega) (by omega) (by omega) rfl (by decide) ?_
      refine ss_aload_n (i := 0) h dX4_look_104 105 rfl rfl rfl ?_
      refine ss_getS h kl4 0 0 rfl (by decide) rfl hM.ob q1087 dX4_look_105 108 rfl hM.r_w ?_
      refine ss_iconst h dX4_look_108 109 rfl ?_
      refine ss_iald h hM.k_w (by decide) (by omega) dX4_look_109 110 rfl ?_
      refine ss_iret h dX4_look_110 (by omega) (by omega) ?_
      rw [hP9]
      exact ⟨rfl, rfl, rfl, rfl, fun _ _ => rfl, sOff_rf _ _ _⟩
    · refine ss_sw (off := 110) h dX4_look_1 111 (by omega) (by omega) (by omega) rfl (by decide) ?_
      refine ss_aload_n (i := 0) h dX4_look_111 112 rfl rfl rfl ?_
      refine ss_getS h kl4 0 0 rfl (by decide) rfl hM.ob q1087 dX4_look_112 115 rfl hM.r_w ?_
      refine ss_iconst h dX4_look_115 116 rfl ?_
      refine ss_iald h hM.k_w (by decide) (by omega) dX4_look_116 117 rfl ?_
      refine ss_iret h dX4_look_117 (by omega) (by omega) ?_
      rw [hP9]
      exact ⟨rfl, rfl, rfl, rfl, fun _ _ => rfl, sOff_rf _ _ _⟩
    · refine ss_sw (off := 117) h dX4_look_1 118 (by omega) (by omega) (by omega) rfl (by decide) ?_
      refine ss_aload_n (i := 0) h dX4_look_118 119 rfl rfl rfl ?_
      refine ss_getS h kl4 0 0 rfl (by decide) rfl hM.ob q1087 dX4_look_119 122 rfl hM.r_w ?_
      refine ss_iconst h dX4_look_122 123 rfl ?_
      refine ss_iald h hM.k_w (by decide) (by omega) dX4_look_123 124 rfl ?_
      refine ss_iret h dX4_look_124 (by omega) (by omega) ?_
      rw [hP9]
      exact ⟨rfl, rfl, rfl, rfl, fun _ _ => rfl, sOff_rf _ _ _⟩
    · refine ss_sw (off := 124) h dX4_look_1 125 (by omega) (by omega) (by omega) rfl (by decide) ?_
      refine ss_aload_n (i := 0) h dX4_look_125 126 rfl rfl rfl ?_
      refine ss_getS h kl4 0 0 rfl (by decide) rfl hM.ob q1087 dX4_look_126 129 rfl hM.r_w ?_
      refine ss_iconst h dX4_look_129 130 rfl ?_
      refine ss_iald h hM.k_w (by decide) (by omega) dX4_look_130 131 rfl ?_
      refine ss_iret h dX4_look_131 (by omega) (by omega) ?_
      rw [hP9]
      exact ⟨rfl, rfl, rfl, rfl, fun _ _ => rfl, sOff_rf _ _ _⟩
    · refine ss_sw (off := 131) h dX4_look_1 132 (by omega) (by omega) (by omega) rfl (by decide) ?_
      refine ss_aload_n (i := 0) h dX4_look_132 133 rfl rfl rfl ?_
      refine ss_getS h kl4 0 0 rfl (by decide) rfl hM.ob q1087 dX4_look_133 136 rfl hM.r_w ?_
      refine ss_iconst h dX4_look_136 137 rfl ?_
      refine ss_iald h hM.k_w (by decide) (by omega) dX4_look_137 138 rfl ?_
      refine ss_iret h dX4_look_138 (by omega) (by omega) ?_
      rw [hP9]
      exact ⟨rfl, rfl, rfl, rfl, fun _ _ => rfl, sOff_rf _ _ _⟩
    · refine ss_sw (off := 138) h dX4_look_1 139 (by omega) (by omega) (by omega) rfl (by decide) ?_
      refine ss_aload_n (i := 0) h dX4_look_139 140 rfl rfl rfl ?_
      refine ss_getS h kl4 0 0 rfl (by decide) rfl hM.ob q1087 dX4_look_140 143 rfl hM.r_w ?_
      refine ss_iconst h dX4_look_143 144 rfl ?_
      refine ss_iald h hM.k_w (by decide) (by omega) dX4_look_144 145 rfl ?_
      refine ss_iret h dX4_look_145 (by omega) (by omega) ?_
      rw [hP9]
      exact ⟨rfl, rfl, rfl, rfl, fun _ _ => rfl, sOff_rf _ _ _⟩
    · refine ss_sw (off := 145) h dX4_look_1 146 (by omega) (by omega) (by omega) rfl (by decide) ?_
      refine ss_aload_n (i := 0) h dX4_look_146 147 rfl rfl rfl ?_
      refine ss_cVn h (m_laysCounties hM (d := d - 1) hd (by omega)) (lw_V q1420 q1422 qs70 q87 q1423) kl4 hM.ob 0 rfl md_X4_laysCounties rfl (by omega) (by decide) rfl dX4_look_147 150 rfl rfl (Nat.le_of_ble_eq_true rfl) (by omega) (by omega) (fun X147 x147 => ?_)
      obtain ⟨k1, k2, k3⟩ := x147
      obtain ⟨n1, n2⟩ := ctyS_z hd (X (m + 15)) (X (m + 14))
      rw [← k1] at n1
      dsimp only at n1
      refine ss_aload_n (i := 0) h dX4_look_150 151 rfl rfl rfl ?_
      refine ss_getI h kl4 30 30 rfl (by decide) rfl hM.ob q1117 dX4_look_151 154 rfl ?_
      refine ss_iret h dX4_look_154 (by omega) (by omega) ?_
      rw [hP9]
      exact ⟨by rw [n1]; rfl, rfl, rfl, rfl, k2, k3⟩
    · refine ss_sw (off := 154) h dX4_look_1 155 (by omega) (by omega) (by omega) rfl (by decide) ?_
      refine ss_aload_n (i := 0) h dX4_look_155 156 rfl rfl rfl ?_
      refine ss_getS h kl4 0 0 rfl (by decide) rfl hM.ob q1087 dX4_look_156 159 rfl hM.r_w ?_
      refine ss_bipush h dX4_look_159 161 rfl (by decide +kernel) ?_
      refine ss_iald h hM.k_w (by decide) (by omega) dX4_look_161 162 rfl ?_
      refine ss_iret h dX4_look_162 (by omega) (by omega) ?_
      rw [hP9]
      exact ⟨rfl, rfl, rfl, rfl, fun _ _ => rfl, sOff_rf _ _ _⟩
    · refine ss_sw (off := 162) h dX4_look_1 163 (by omega) (by omega) (by omega) rfl (by decide) ?_
      refine ss_aload_n (i := 0) h dX4_look_163 164 rfl rfl rfl ?_
      refine ss_cVv h (m_threads hM (d := d - 1)) (lw_V q1522 q1524 qs80 q87 q1525) kl4 hM.ob 0 rfl md_X4_threads rfl (by omega) (by decide) rfl dX4_look_164 167 rfl rfl (Nat.le_of_ble_eq_true rfl) (by omega) (by omega) ?_
      refine ss_iret h dX4_look_167 (by omega) (by omega) ?_
      rw [hP9]
      exact ⟨rfl, rfl, rfl, rfl, fun _ _ => rfl, sOff_rf _ _ _⟩
    · refine ss_sw (off := 167) h dX4_look_1 168 (by omega) (by omega) (by omega) rfl (by decide) ?_
      refine ss_aload_n (i := 0) h dX4_look_168 169 rfl rfl rfl ?_
      refine ss_getI h kl4 4 4 rfl (by decide) rfl hM.ob q1091 dX4_look_169 172 rfl ?_
      refine ss_iret h dX4_look_172 (by omega) (by omega) ?_
      rw [hP9]
      exact ⟨rfl, rfl, rfl, rfl, fun _ _ => rfl, sOff_rf _ _ _⟩
    · refine ss_sw (off := 172) h dX4_look_1 173 (by omega) (by omega) (by omega) rfl (by decide) ?_
      refine ss_aload_n (i := 0) h dX4_look_173 174 rfl rfl rfl ?_
      refine ss_getS h kl4 0 0 rfl (by decide) rfl hM.ob q1087 dX4_look_174 177 rfl hM.r_w ?_
      refine ss_bipush h dX4_look_177 179 rfl (by decide +kernel) ?_
      refine ss_iald h hM.k_w (by decide) (by omega) dX4_look_179 180 rfl ?_
      refine ss_iret h dX4_look_180 (by omega) (by omega) ?_
      rw [hP9]
      exact ⟨rfl, rfl, rfl, rfl, fun _ _ => rfl, sOff_rf _ _ _⟩
    · refine ss_sw (off := 180) h dX4_look_1 181 (by omega) (by omega) (by omega) rfl (by decide) ?_
      refine ss_aload_n (i := 0) h dX4_look_181 182 rfl rfl rfl ?_
      refine ss_getS h kl4 0 0 rfl (by decide) rfl hM.ob q1087 dX4_look_182 185 rfl hM.r_w ?_
      refine ss_bipush h dX4_look_185 187 rfl (by decide +kernel) ?_
      refine ss_iald h hM.k_w (by decide) (by omega) dX4_look_187 188 rfl ?_
      refine ss_iret h dX4_look_188 (by omega) (by omega) ?_
      rw [hP9]
      exact ⟨rfl, rfl, rfl, rfl, fun _ _ => rfl, sOff_rf _ _ _⟩
    · have hq2 : t = 10 ∨ t = 11 ∨ t = 12 ∨ t = 13 ∨ t = 14 ∨ t = 15 ∨ t = 16 ∨ t = 17 ∨ t = 18 ∨ t = 19 := by omega
      have ho : (#[103, 110, 117, 124, 131, 138, 145, 154, 162, 167, 188, 188, 188, 188, 188, 188, 188, 188, 188, 188, 172, 180] : Array Int)[(t - 0).toNat]? = some 188 := by rcases hq2 with rfl | rfl | rfl | rfl | rfl | rfl | rfl | rfl | rfl | rfl <;> rfl
      exact ss_sw (off := 188) h dX4_look_1 189 h1 (by omega) (by omega) ho (by decide) (J189 () ⟨by omega, by omega, by omega⟩)
  · exact ss_swd h dX4_look_1 189 h1 (by omega) (by decide) (J189 () ⟨by omega, by omega, by omega⟩)
end M9

