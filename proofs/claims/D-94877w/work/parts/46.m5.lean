/-! ===== the twin: flights, the facts ===== -/
section M5
variable {Ω : OmT} {n : Nat} {K : KT} {X : XT} {R : RT} {m : Nat} {d : Nat}
theorem m_laysFacts (hM : MOk Ω n K R m) {x y u : Int} (hd : Dim (X (m + 1))) (hp : ∀ c, 0 ≤ c → c < 100 → (0 ≤ X (m + 1) (20 + c) ∧ X (m + 1) (20 + c) ≤ 1000) ∧ (X (m + 1) (120 + c) = 0 ∨ X (m + 1) (120 + c) = 1)) (h1 : pointB (X (m + 1)) x y = true) (h2 : 0 ≤ u ∧ u ≤ 3) (hl : 4 ≤ d) : sCt Ω yX4_laysFacts cX4_laysFacts 9 none d 0 0 [.ref m, vI x, vI y, vI u] n K X R (pN n K R (fun X' => X' = sArr X (m + 9) (layS (X (m + 1)) x y u (X (m + 9))))) := by
  have hd' := hd
  unfold Dim at hd'
  have h1' := pointB_t.mp h1
  have hx := adX_in u
  have hy := adY_in u
  have lx1 : -1 ≤ lxS x u ∧ lxS x u ≤ 10 := by unfold lxS; split <;> omega
  have ly1 : -1 ≤ lyS y u ∧ lyS y u ≤ 10 := by unfold lyS; split <;> omega
  have rx1 : -1 ≤ rxS x u ∧ rxS x u ≤ 10 := by unfold rxS; split <;> omega
  have ry1 : -1 ≤ ryS y u ∧ ryS y u ≤ 10 := by unfold ryS; split <;> omega
  have hq : ∀ c, 0 ≤ c → c < 100 → X (m + 1) (120 + c) = 0 ∨ X (m + 1) (120 + c) = 1 := fun c a b => (hp c a b).2
  have s1 := seen_in hd hp (lxS x u) (lyS y u)
  have s2 := seen_in hd hp (rxS x u) (ryS y u)
  have s3 := pond_in hd hq (lxS x u) (lyS y u)
  have s4 := pond_in hd hq (rxS x u) (ryS y u)
  have hn : m + 1 ≠ m + 9 := by omega
  refine sCt_of (by decide) (by simp [Value.category, vI, va_rf]) (Nat.le_of_ble_eq_true rfl) fun Γ P9 hP9 h => ?_
  show sG (_, _, _, _, _) Γ 0 0 _ _ _ _ 0 [some _, some _, some _, some _, none, none, none, none, none] []
  refine ss_rg fun hrg => ?_
  refine ss_cut (σ := Int) (fun s => s = bI (rimB (X (m + 1)) x y u)) 24 (fun s => X) (fun s => [some (.ref m), some (vI x), some (vI y), some (vI u), none, none, none, none, none]) (fun s => [vI s]) (fun s h24 => ?_) (fun J24 => ?_)
  · skip
    subst h24
    refine ss_ist_4 h dX4_laysFacts_24 26 rfl ?_
    refine ss_cut (σ := Int) (fun s => s = lxS x u) 42 (fun s => X) (fun s => [some (.ref m), some (vI x), some (vI y), some (vI u), some (vI (bI (rimB (X (m + 1)) x y u))), none, none, none, none]) (fun s => [vI s]) (fun s h42 => ?_) (fun J42 => ?_)
    · skip
      subst h42
      refine ss_ist_5 h dX4_laysFacts_42 44 rfl ?_
      refine ss_cut (σ := Int) (fun s => s = lyS y u) 60 (fun s => X) (fun s => [some (.ref m), some (vI x), some (vI y), some (vI u), some (vI (bI (rimB (X (m + 1)) x y u))), some (vI (lxS x u)), none, none, none]) (fun s => [vI s]) (fun s h60 => ?_) (fun J60 => ?_)
      · skip
        subst h60
        refine ss_ist_6 h dX4_laysFacts_60 62 rfl ?_
        refine ss_cut (σ := Int) (fun s => s = rxS x u) 79 (fun s => X) (fun s => [some (.ref m), some (vI x), some (vI y), some (vI u), some (vI (bI (rimB (X (m + 1)) x y u))), some (vI (lxS x u)), some (vI (lyS y u)), none, none]) (fun s => [vI s]) (fun s h79 => ?_) (fun J79 => ?_)
        · skip
          subst h79
          refine ss_ist_7 h dX4_laysFacts_79 81 rfl ?_
          refine ss_cut (σ := Int) (fun s => s = ryS y u) 97 (fun s => X) (fun s => [some (.ref m), some (vI x), some (vI y), some (vI u), some (vI (bI (rimB (X (m + 1)) x y u))), some (vI (lxS x u)), some (vI (lyS y u)), some (vI (rxS x u)), none]) (fun s => [vI s]) (fun s h97 => ?_) (fun J97 => ?_)
          · skip
            subst h97
            refine ss_ist_8 h dX4_laysFacts_97 99 rfl ?_
            refine ss_cut (σ := Int) (fun v1 => v1 = if rimB (X (m + 1)) x y u = true then 0 else seenS (X (m + 1)) (lxS x u) (lyS y u)) 121 (fun v1 => X) (fun v1 => [some (.ref m), some (vI x), some (vI y), some (vI u), some (vI (bI (rimB (X (m + 1)) x y u))), some (vI (lxS x u)), some (vI (lyS y u)), some (vI (rxS x u)), some (vI (ryS y u))]) (fun v1 => [vI v1, vI 1, .ref (m + 9)]) (fun v1 h121 => ?_) (fun J121 => ?_)
            · skip
              have r121 : sRg v1 := by rw [h121]; exact sRg_ite (by omega) (by omega)
              refine ss_iast h hM.k_facts (by decide) (by omega) (by omega) dX4_laysFacts_121 122 rfl ?_
              refine ss_cut (σ := Int) (fun v2 => v2 = if rimB (X (m + 1)) x y u = true then 0 else seenS (X (m + 1)) (rxS x u) (ryS y u)) 144 (fun v2 => (sUp X (m + 9) 1 v1)) (fun v2 => [some (.ref m), some (vI x), some (vI y), some (vI u), some (vI (bI (rimB (X (m + 1)) x y u))), some (vI (lxS x u)), some (vI (lyS y u)), some (vI (rxS x u)), some (vI (ryS y u))]) (fun v2 => [vI v2, vI 2, .ref (m + 9)]) (fun v2 h144 => ?_) (fun J144 => ?_)
              · skip
                have r144 : sRg v2 := by rw [h144]; exact sRg_ite (by omega) (by omega)
                refine ss_iast h hM.k_facts (by decide) (by omega) (by omega) dX4_laysFacts_144 145 rfl ?_
                refine ss_cut (σ := Int) (fun v3 => v3 = if rimB (X (m + 1)) x y u = true then 0 else pondS (X (m + 1)) (lxS x u) (lyS y u)) 167 (fun v3 => (sUp (sUp X (m + 9) 1 v1) (m + 9) 2 v2)) (fun v3 => [some (.ref m), some (vI x), some (vI y), some (vI u), some (vI (bI (rimB (X (m + 1)) x y u))), some (vI (lxS x u)), some (vI (lyS y u)), some (vI (rxS x u)), some (vI (ryS y u))]) (fun v3 => [vI v3, vI 3, .ref (m + 9)]) (fun v3 h167 => ?_) (fun J167 => ?_)
                · skip
                  have r167 : sRg v3 := by rw [h167]; exact sRg_ite (by omega) (by omega)
                  refine ss_iast h hM.k_facts (by decide) (by omega) (by omega) dX4_laysFacts_167 168 rfl ?_
                  refine ss_cut (σ := Int) (fun v4 => v4 = if rimB (X (m + 1)) x y u = true then 0 else pondS (X (m + 1)) (rxS x u) (ryS y u)) 190 (fun v4 => (sUp (sUp (sUp X (m + 9) 1 v1) (m + 9) 2 v2) (m + 9) 3 v3)) (fun v4 => [some (.ref m), some (vI x), some (vI y), some (vI u), some (vI (bI (rimB (X (m + 1)) x y u))), some (vI (lxS x u)), some (vI (lyS y u)), some (vI (rxS x u)), some (vI (ryS y u))]) (fun v4 => [vI v4, vI 4, .ref (m + 9)]) (fun v4 h190 => ?_) (fun J190 => ?_)
                  · skip
                    have r190 : sRg v4 := by rw [h190]; exact sRg_ite (by omega) (by omega)
                    refine ss_iast h hM.k_facts (by decide) (by omega) (by omega) dX4_laysFacts_190 191 rfl ?_
                    refine ss_cut (σ := Int) (fun v5 => v5 = if rimB (X (m + 1)) x y u = true ∨ X (m + 1) (850 + yardS x y u) = -1 then 0 else 1) 225 (fun v5 => (sUp (sUp (sUp (sUp X (m + 9) 1 v1) (m + 9) 2 v2) (m + 9) 3 v3) (m + 9) 4 v4)) (fun v5 => [some (.ref m), some (vI x), some (vI y), some (vI u), some (vI (bI (rimB (X (m + 1)) x y u))), some (vI (lxS x u)), some (vI (lyS y u)), some (vI (rxS x u)), some (vI (ryS y u))]) (fun v5 => [vI v5, vI 5, .ref (m + 9)]) (fun v5 h225 => ?_) (fun J225 => ?_)
                    · skip
                      have r225 : sRg v5 := by rw [h225]; exact sRg_ite (by omega) (by omega)
                      refine ss_iast h hM.k_facts (by decide) (by omega) (by omega) dX4_laysFacts_225 226 rfl ?_
                      refine ss_cut (σ := Int) (fun v6 => v6 = bI (rimB (X (m + 1)) x y u)) 242 (fun v6 => (sUp (sUp (sUp (sUp (sUp X (m + 9) 1 v1) (m + 9) 2 v2) (m + 9) 3 v3) (m + 9) 4 v4) (m + 9) 5 v5)) (fun v6 => [some (.ref m), some (vI x), some (vI y), some (vI u), some (vI (bI (rimB (X (m + 1)) x y u))), some (vI (lxS x u)), some (vI (lyS y u)), some (vI (rxS x u)), some (vI (ryS y u))]) (fun v6 => [vI v6, vI 6, .ref (m + 9)]) (fun v6 h242 => ?_) (fun J242 => ?_)
                      · skip
                        have r242 : sRg v6 := by rw [h242]; exact sRg_b _
                        refine ss_iast h hM.k_facts (by decide) (by omega) (by omega) dX4_laysFacts_242 243 rfl ?_
                        refine ss_vret h dX4_laysFacts_243 (by omega) (by omega) ?_
                        rw [hP9]
                        subst h121 h144 h167 h190 h225 h242
                        refine ⟨rfl, rfl, rfl, rfl, ?_⟩
                        simp only [sUp_as, sArr_s, sArr_sArr]
                        refine sArr_c ?_
                        funext i
                        dsimp only [upW]
                        unfold layS
                        by_cases e1 : i = 1
                        · subst e1; rfl
                        by_cases e2 : i = 2
                        · subst e2; rfl
                        by_cases e3 : i = 3
                        · subst e3; rfl
                        by_cases e4 : i = 4
                        · subst e4; rfl
                        by_cases e5 : i = 5
                        · subst e5; rfl
                        by_cases e6 : i = 6
                        · subst e6; rfl
                        simp only [e1, e2, e3, e4, e5, e6, if_false]
                      refine ss_aload_n (i := 0) h dX4_laysFacts_226 227 rfl rfl rfl ?_
                      refine ss_getS h kl4 11 11 rfl (by decide) rfl hM.ob q1098 dX4_laysFacts_227 230 rfl hM.r_facts ?_
                      refine ss_bipush h dX4_laysFacts_230 232 rfl (by decide +kernel) ?_
                      refine ss_iload h dX4_laysFacts_232 234 rfl rfl ?_
                      refine ss_if_eq h dX4_laysFacts_234 237 241 rfl (by decide) (sRg_b _) (fun c234 => ?_) (fun c234 => ?_)
                      · skip
                        replace c234 := bI_0.mp c234
                        refine ss_iconst h dX4_laysFacts_241 242 rfl ?_
                        exact J242 _ (by rw [c234]; rfl)
                      · skip
                        replace c234 := bI_n.mp c234
                        refine ss_iconst h dX4_laysFacts_237 238 rfl ?_
                        refine ss_goto h dX4_laysFacts_238 242 (by decide) ?_
                        exact J242 _ (by rw [c234]; rfl)
                    refine ss_aload_n (i := 0) h dX4_laysFacts_191 192 rfl rfl rfl ?_
                    refine ss_getS h kl4 11 11 rfl (by decide) rfl hM.ob q1098 dX4_laysFacts_192 195 rfl hM.r_facts ?_
                    refine ss_iconst h dX4_laysFacts_195 196 rfl ?_
                    refine ss_iload h dX4_laysFacts_196 198 rfl rfl ?_
                    refine ss_if_ne h dX4_laysFacts_198 201 220 rfl (by decide) (sRg_b _) (fun c198 => ?_) (fun c198 => ?_)
                    · skip
                      replace c198 := bI_1.mp c198
                      refine ss_iconst h dX4_laysFacts_220 221 rfl ?_
                      refine ss_goto h dX4_laysFacts_221 225 (by decide) ?_
                      exact J225 _ (by rw [if_pos (Or.inl c198)])
                    · skip
                      replace c198 := bI_0.mp c198
                      have hpt : pointB (X (m + 1)) (x + adX u) (y + adY u) = true := by simpa [rimB] using c198
                      have hyd := yard_in hd h2 h1 hpt
                      refine ss_aload_n (i := 0) h dX4_laysFacts_201 202 rfl rfl rfl ?_
                      refine ss_getS h kl4 0 0 rfl (by decide) rfl hM.ob q1087 dX4_laysFacts_202 205 rfl hM.r_w ?_
                      refine ss_sipush h dX4_laysFacts_205 208 rfl (by decide +kernel) ?_
                      refine ss_iload_n (i := 1) h dX4_laysFacts_208 209 rfl rfl rfl ?_
                      refine ss_iload_n (i := 2) h dX4_laysFacts_209 210 rfl rfl rfl ?_
                      refine ss_iload_n (i := 3) h dX4_laysFacts_210 211 rfl rfl rfl ?_
                      refine ss_cSv h (m_yardBy (d := d - 1) h2) (lw_S q1394 q1395 q87 q1396) 3 rfl md_X4_yardBy (by omega) (by decide) rfl dX4_laysFacts_211 214 rfl rfl (Nat.le_of_ble_eq_true rfl) (by omega) (by omega) ?_
                      refine ss_iadd h dX4_laysFacts_214 215 rfl ?_
                      refine ss_iald h hM.k_w (by decide) (by omega) dX4_laysFacts_215 216 rfl ?_
                      simp only [sUp_ne hn]
                      refine ss_iconst h dX4_laysFacts_216 217 rfl ?_
                      refine ss_icmp_ne h dX4_laysFacts_217 220 224 rfl (by decide) (hrg _ _) (by omega) (fun c217 => ?_) (fun c217 => ?_)
                      · skip
                        refine ss_iconst h dX4_laysFacts_224 225 rfl ?_
                        exact J225 _ (by rw [if_neg]; rintro (z | z); · rw [c198] at z; cases z
                                         · exact c217 z)
                      · skip
                        refine ss_iconst h dX4_laysFacts_220 221 rfl ?_
                        refine ss_goto h dX4_laysFacts_221 225 (by decide) ?_
                        exact J225 _ (by rw [if_pos (Or.inr c217)])
                  refine ss_aload_n (i := 0) h dX4_laysFacts_168 169 rfl rfl rfl ?_
                  refine ss_getS h kl4 11 11 rfl (by decide) rfl hM.ob q1098 dX4_laysFacts_169 172 rfl hM.r_facts ?_
                  refine ss_iconst h dX4_laysFacts_172 173 rfl ?_
                  refine ss_iload h dX4_laysFacts_173 175 rfl rfl ?_
                  refine ss_if_eq h dX4_laysFacts_175 178 182 rfl (by decide) (sRg_b _) (fun c175 => ?_) (fun c175 => ?_)
                  · skip
                    replace c175 := bI_0.mp c175
                    refine ss_aload_n (i := 0) h dX4_laysFacts_182 183 rfl rfl rfl ?_
                    refine ss_iload h dX4_laysFacts_183 185 rfl rfl ?_
                    refine ss_iload h dX4_laysFacts_185 187 rfl rfl ?_
                    refine ss_cVv h (m_pondAt hM (d := d - 1) (by simp only [sUp_ne hn]; exact hd) (by omega) (by omega) (by omega)) (lw_V q1390 q1392 qs64 q87 q1393) kl4 hM.ob 2 rfl md_X4_pondAt rfl (by omega) (by decide) rfl dX4_laysFacts_187 190 rfl rfl (Nat.le_of_ble_eq_true rfl) (by omega) (by omega) ?_
                    try simp only [sUp_ne hn]
                    exact J190 _ (by simp [c175])
                  · skip
                    replace c175 := bI_n.mp c175
                    refine ss_iconst h dX4_laysFacts_178 179 rfl ?_
                    refine ss_goto h dX4_laysFacts_179 190 (by decide) ?_
                    exact J190 _ (by simp [c175])
                refine ss_aload_n (i := 0) h dX4_laysFacts_145 146 rfl rfl rfl ?_
                refine ss_getS h kl4 11 11 rfl (by decide) rfl hM.ob q1098 dX4_laysFacts_146 149 rfl hM.r_facts ?_
                refine ss_iconst h dX4_laysFacts_149 150 rfl ?_
                refine ss_iload h dX4_laysFacts_150 152 rfl rfl ?_
                refine ss_if_eq h dX4_laysFacts_152 155 159 rfl (by decide) (sRg_b _) (fun c152 => ?_) (fun c152 => ?_)
                · skip
                  replace c152 := bI_0.mp c152
                  refine ss_aload_n (i := 0) h dX4_laysFacts_159 160 rfl rfl rfl ?_
                  refine ss_iload h dX4_laysFacts_160 162 rfl rfl ?_
                  refine ss_iload h dX4_laysFacts_162 164 rfl rfl ?_
                  refine ss_cVv h (m_pondAt hM (d := d - 1) (by simp only [sUp_ne hn]; exact hd) (by omega) (by omega) (by omega)) (lw_V q1390 q1392 qs64 q87 q1393) kl4 hM.ob 2 rfl md_X4_pondAt rfl (by omega) (by decide) rfl dX4_laysFacts_164 167 rfl rfl (Nat.le_of_ble_eq_true rfl) (by omega) (by omega) ?_
                  try simp only [sUp_ne hn]
                  exact J167 _ (by simp [c152])
                · skip
                  replace c152 := bI_n.mp c152
                  refine ss_iconst h dX4_laysFacts_155 156 rfl ?_
                  refine ss_goto h dX4_laysFacts_156 167 (by decide) ?_
                  exact J167 _ (by simp [c152])
              refine ss_aload_n (i := 0) h dX4_laysFacts_122 123 rfl rfl rfl ?_
              refine ss_getS h kl4 11 11 rfl (by decide) rfl hM.ob q1098 dX4_laysFacts_123 126 rfl hM.r_facts ?_
              refine ss_iconst h dX4_laysFacts_126 127 rfl ?_
              refine ss_iload h dX4_laysFacts_127 129 rfl rfl ?_
              refine ss_if_eq h dX4_laysFacts_129 132 136 rfl (by decide) (sRg_b _) (fun c129 => ?_) (fun c129 => ?_)
              · skip
                replace c129 := bI_0.mp c129
                refine ss_aload_n (i := 0) h dX4_laysFacts_136 137 rfl rfl rfl ?_
                refine ss_iload h dX4_laysFacts_137 139 rfl rfl ?_
                refine ss_iload h dX4_laysFacts_139 141 rfl rfl ?_
                refine ss_cVv h (m_seenFlies hM (d := d - 1) (by simp only [sUp_ne hn]; exact hd) (by omega) (by omega) (by omega)) (lw_V q1386 q1388 qs63 q87 q1389) kl4 hM.ob 2 rfl md_X4_seenFlies rfl (by omega) (by decide) rfl dX4_laysFacts_141 144 rfl rfl (Nat.le_of_ble_eq_true rfl) (by omega) (by omega) ?_
                try simp only [sUp_ne hn]
                exact J144 _ (by simp [c129])
              · skip
                replace c129 := bI_n.mp c129
                refine ss_iconst h dX4_laysFacts_132 133 rfl ?_
                refine ss_goto h dX4_laysFacts_133 144 (by decide) ?_
                exact J144 _ (by simp [c129])
            refine ss_aload_n (i := 0) h dX4_laysFacts_99 100 rfl rfl rfl ?_
            refine ss_getS h kl4 11 11 rfl (by decide) rfl hM.ob q1098 dX4_laysFacts_100 103 rfl hM.r_facts ?_
            refine ss_iconst h dX4_laysFacts_103 104 rfl ?_
            refine ss_iload h dX4_laysFacts_104 106 rfl rfl ?_
            refine ss_if_eq h dX4_laysFacts_106 109 113 rfl (by decide) (sRg_b _) (fun c106 => ?_) (fun c106 => ?_)
            · skip
              replace c106 := bI_0.mp c106
              refine ss_aload_n (i := 0) h dX4_laysFacts_113 114 rfl rfl rfl ?_
              refine ss_iload h dX4_laysFacts_114 116 rfl rfl ?_
              refine ss_iload h dX4_laysFacts_116 118 rfl rfl ?_
              refine ss_cVv h (m_seenFlies hM (d := d - 1) hd (by omega) (by omega) (by omega)) (lw_V q1386 q1388 qs63 q87 q1389) kl4 hM.ob 2 rfl md_X4_seenFlies rfl (by omega) (by decide) rfl dX4_laysFacts_118 121 rfl rfl (Nat.le_of_ble_eq_true rfl) (by omega) (by omega) ?_
              try simp only [sUp_ne hn]
              exact J121 _ (by simp [c106])
            · skip
              replace c106 := bI_n.mp c106
              refine ss_iconst h dX4_laysFacts_109 110 rfl ?_
              refine ss_goto h dX4_laysFacts_110 121 (by decide) ?_
              exact J121 _ (by simp [c106])
          refine ss_iload_n (i := 3) h dX4_laysFacts_81 82 rfl rfl rfl ?_
          refine ss_if_eq h dX4_laysFacts_82 85 90 rfl (by decide) (by first | omega | exact sRg_b _) (fun c82 => ?_) (fun c82 => ?_)
          · skip
            refine ss_iload_n (i := 2) h dX4_laysFacts_90 91 rfl rfl rfl ?_
            refine ss_iconst h dX4_laysFacts_91 92 rfl ?_
            refine ss_isub h dX4_laysFacts_92 93 rfl ?_
            refine ss_goto h dX4_laysFacts_93 97 (by decide) ?_
            refine J97 _ ?_
            unfold ryS
            first
              | rw [if_pos (by omega)]
              | rw [if_neg (by omega)]
          · skip
            refine ss_iload_n (i := 3) h dX4_laysFacts_85 86 rfl rfl rfl ?_
            refine ss_iconst h dX4_laysFacts_86 87 rfl ?_
            refine ss_icmp_ne h dX4_laysFacts_87 90 96 rfl (by decide) (by first | omega | exact sRg_b _) (by first | omega | exact sRg_b _) (fun c87 => ?_) (fun c87 => ?_)
            · skip
              refine ss_iload_n (i := 2) h dX4_laysFacts_96 97 rfl rfl rfl ?_
              refine J97 _ ?_
              unfold ryS
              first
                | rw [if_pos (by omega)]
                | rw [if_neg (by omega)]
            · skip
              refine ss_iload_n (i := 2) h dX4_laysFacts_90 91 rfl rfl rfl ?_
              refine ss_iconst h dX4_laysFacts_91 92 rfl ?_
              refine ss_isub h dX4_laysFacts_92 93 rfl ?_
              refine ss_goto h dX4_laysFacts_93 97 (by decide) ?_
              refine J97 _ ?_
              unfold ryS
              first
                | rw [if_pos (by omega)]
                | rw [if_neg (by omega)]
        refine ss_iload_n (i := 3) h dX4_laysFacts_62 63 rfl rfl rfl ?_
        refine ss_iconst h dX4_laysFacts_63 64 rfl ?_
        refine ss_icmp_eq h dX4_laysFacts_64 67 72 rfl (by decide) (by first | omega | exact sRg_b _) (by first | omega | exact sRg_b _) (fun c64 => ?_) (fun c64 => ?_)
        · skip
          refine ss_iload_n (i := 1) h dX4_laysFacts_72 73 rfl rfl rfl ?_
          refine ss_iconst h dX4_laysFacts_73 74 rfl ?_
          refine ss_isub h dX4_laysFacts_74 75 rfl ?_
          refine ss_goto h dX4_laysFacts_75 79 (by decide) ?_
          refine J79 _ ?_
          unfold rxS
          first
            | rw [if_pos (by omega)]
            | rw [if_neg (by omega)]
        · skip
          refine ss_iload_n (i := 3) h dX4_laysFacts_67 68 rfl rfl rfl ?_
          refine ss_iconst h dX4_laysFacts_68 69 rfl ?_
          refine ss_icmp_ne h dX4_laysFacts_69 72 78 rfl (by decide) (by first | omega | exact sRg_b _) (by first | omega | exact sRg_b _) (fun c69 => ?_) (fun c69 => ?_)
          · skip
            refine ss_iload_n (i := 1) h dX4_laysFacts_78 79 rfl rfl rfl ?_
            refine J79 _ ?_
            unfold rxS
            first
              | rw [if_pos (by omega)]
              | rw [if_neg (by omega)]
          · skip
            refine ss_iload_n (i := 1) h dX4_laysFacts_72 73 rfl rfl rfl ?_
            refine ss_iconst h dX4_laysFacts_73 74 rfl ?_
            refine ss_isub h dX4_laysFacts_74 75 rfl ?_
            refine ss_goto h dX4_laysFacts_75 79 (by decide) ?_
            refine J79 _ ?_
            unfold rxS
            first
              | rw [if_pos (by omega)]
              | rw [if_neg (by omega)]
      refine ss_iload_n (i := 3) h dX4_laysFacts_44 45 rfl rfl rfl ?_
      refine ss_if_eq h dX4_laysFacts_45 48 53 rfl (by decide) (by first | omega | exact sRg_b _) (fun c45 => ?_) (fun c45 => ?_)
      · skip
        refine ss_iload_n (i := 2) h dX4_laysFacts_53 54 rfl rfl rfl ?_
        refine ss_iconst h dX4_laysFacts_54 55 rfl ?_
        refine ss_isub h dX4_laysFacts_55 56 rfl ?_
        refine ss_goto h dX4_laysFacts_56 60 (by decide) ?_
        refine J60 _ ?_
        unfold lyS
        first
          | rw [if_pos (by omega)]
          | rw [if_neg (by omega)]
      · skip
        refine ss_iload_n (i := 3) h dX4_laysFacts_48 49 rfl rfl rfl ?_
        refine ss_iconst h dX4_laysFacts_49 50 rfl ?_
        refine ss_icmp_ne h dX4_laysFacts_50 53 59 rfl (by decide) (by first | omega | exact sRg_b _) (by first | omega | exact sRg_b _) (fun c50 => ?_) (fun c50 => ?_)
        · skip
          refine ss_iload_n (i := 2) h dX4_laysFacts_59 60 rfl rfl rfl ?_
          refine J60 _ ?_
          unfold lyS
          first
            | rw [if_pos (by omega)]
            | rw [if_neg (by omega)]
        · skip
          refine ss_iload_n (i := 2) h dX4_laysFacts_53 54 rfl rfl rfl ?_
          refine ss_iconst h dX4_laysFacts_54 55 rfl ?_
          refine ss_isub h dX4_laysFacts_55 56 rfl ?_
          refine ss_goto h dX4_laysFacts_56 60 (by decide) ?_
          refine J60 _ ?_
          unfold lyS
          first
            | rw [if_pos (by omega)]
            | rw [if_neg (by omega)]
    refine ss_iload_n (i := 3) h dX4_laysFacts_26 27 rfl rfl rfl ?_
    refine ss_if_eq h dX4_laysFacts_27 30 35 rfl (by decide) (by first | omega | exact sRg_b _) (fun c27 => ?_) (fun c27 => ?_)
    · skip
      refine ss_iload_n (i := 1) h dX4_laysFacts_35 36 rfl rfl rfl ?_
      refine ss_iconst h dX4_laysFacts_36 37 rfl ?_
      refine ss_isub h dX4_laysFacts_37 38 rfl ?_
      refine ss_goto h dX4_laysFacts_38 42 (by decide) ?_
      refine J42 _ ?_
      unfold lxS
      first
        | rw [if_pos (by omega)]
        | rw [if_neg (by omega)]
    · skip
      refine ss_iload_n (i := 3) h dX4_laysFacts_30 31 rfl rfl rfl ?_
      refine ss_iconst h dX4_laysFacts_31 32 rfl ?_
      refine ss_icmp_ne h dX4_laysFacts_32 35 41 rfl (by decide) (by first | omega | exact sRg_b _) (by first | omega | exact sRg_b _) (fun c32 => ?_) (fun c32 => ?_)
      · skip
        refine ss_iload_n (i := 1) h dX4_laysFacts_41 42 rfl rfl rfl ?_
        refine J42 _ ?_
        unfold lxS
        first
          | rw [if_pos (by omega)]
          | rw [if_neg (by omega)]
      · skip
        refine ss_iload_n (i := 1) h dX4_laysFacts_35 36 rfl rfl rfl ?_
        refine ss_iconst h dX4_laysFacts_36 37 rfl ?_
        refine ss_isub h dX4_laysFacts_37 38 rfl ?_
        refine ss_goto h dX4_laysFacts_38 42 (by decide) ?_
        refine J42 _ ?_
        unfold lxS
        first
          | rw [if_pos (by omega)]
          | rw [if_neg (by omega)]
  refine ss_aload_n (i := 0) h dX4_laysFacts_0 1 rfl rfl rfl ?_
  refine ss_iload_n (i := 1) h dX4_laysFacts_1 2 rfl rfl rfl ?_
  refine ss_iload_n (i := 3) h dX4_laysFacts_2 3 rfl rfl rfl ?_
  refine ss_cSv h (m_aheadX (d := d - 1) (by omega)) (lw_S q1380 q1381 q87 q1382) 1 rfl md_X4_aheadX (by omega) (by decide) rfl dX4_laysFacts_3 6 rfl rfl (Nat.le_of_ble_eq_true rfl) (by omega) (by omega) ?_
  refine ss_iadd h dX4_laysFacts_6 7 rfl ?_
  refine ss_iload_n (i := 2) h dX4_laysFacts_7 8 rfl rfl rfl ?_
  refine ss_iload_n (i := 3) h dX4_laysFacts_8 9 rfl rfl rfl ?_
  refine ss_cSv h (m_aheadY (d := d - 1) (by omega)) (lw_S q1383 q1384 q87 q1385) 1 rfl md_X4_aheadY (by omega) (by decide) rfl dX4_laysFacts_9 12 rfl rfl (Nat.le_of_ble_eq_true rfl) (by omega) (by omega) ?_
  refine ss_iadd h dX4_laysFacts_12 13 rfl ?_
  refine ss_cVv h (m_isPoint hM (d := d - 1) hd (by omega) (by omega) (by omega)) (lw_V q1246 q1248 qs43 q87 q1249) kl4 hM.ob 2 rfl md_X4_isPoint rfl (by omega) (by decide) rfl dX4_laysFacts_13 16 rfl rfl (Nat.le_of_ble_eq_true rfl) (by omega) (by omega) ?_
  refine ss_if_ne h dX4_laysFacts_16 19 23 rfl (by decide) (by first | omega | exact sRg_b _) (fun c16 => ?_) (fun c16 => ?_)
  · skip
    replace c16 := bI_1.mp c16
    refine ss_iconst h dX4_laysFacts_23 24 rfl ?_
    exact J24 _ (by unfold rimB; rw [c16]; rfl)
  · skip
    replace c16 := bI_0.mp c16
    refine ss_iconst h dX4_laysFacts_19 20 rfl ?_
    refine ss_goto h dX4_laysFacts_20 24 (by decide) ?_
    exact J24 _ (by unfold rimB; rw [c16]; rfl)
end M5

