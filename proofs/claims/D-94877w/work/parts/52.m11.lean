/-! ===== the twin: plans, hatchings in thought ===== -/
section M11
variable {Ω : OmT} {n : Nat} {K : KT} {X : XT} {R : RT} {m : Nat} {d : Nat}
/-- a run in thought: what was thought is gone again; the names of the counties are left -/
theorem thought_end {m : Nat} {X X1 X2 X3 X4 : XT} {w1 : WT} (hf : flyOK w1) (h0 : X m 6 = 0) (hw : ∀ i, (i < 0 ∨ 1340 ≤ i) → w1 i = X (m + 1) i)
    (e1 : X1 = sArr (sUp (sArr X (m + 3) (cpyW (X (m + 1)) (X (m + 3)) 1340)) m 6 1) (m + 1) w1)
    (e2 : X2 (m + 1) = allF true w1) (o2 : sOff [1, 8, 9, 10, 11, 12, 13] m X1 X2)
    (e3 : (X3 (m + 15), X3 (m + 14), X3 m 30) = ctyS (X2 (m + 1)) (X2 (m + 15)) (X2 (m + 14))) (f3 : ∀ f, f ≠ 30 → X3 m f = X2 m f) (o3 : sOff [0, 14, 15] m X2 X3)
    (e4 : X4 = sUp (sArr X3 (m + 1) (cpyW (X3 (m + 3)) (X3 (m + 1)) 1340)) m 6 0) :
    X4 (m + 1) = X (m + 1) ∧ (∀ c, 0 ≤ c → c < 100 → X4 (m + 14) c = nmS (allF true w1) c) ∧ (∀ f, f ≠ 30 → X4 m f = X m f) ∧ sOff [0, 1, 3, 8, 9, 10, 11, 12, 13, 14, 15] m X X4 := by
  have hd : Dim (allF true w1) := (allF_same true hf).2.1
  have b1 : X1 (m + 3) = cpyW (X (m + 1)) (X (m + 3)) 1340 := by rw [e1, sArr_n (by omega), sUp_ne (by omega), sArr_s]
  have b3 : X3 (m + 3) = cpyW (X (m + 1)) (X (m + 3)) 1340 := by rw [sOff_at o3 3 (by decide), sOff_at o2 3 (by decide), b1]
  have w3 : X3 (m + 1) = allF true w1 := by rw [sOff_at o3 1 (by decide), e2]
  obtain ⟨-, n2⟩ := ctyS_z hd (X2 (m + 15)) (X2 (m + 14))
  rw [← e2, ← e3] at n2
  dsimp only at n2
  refine ⟨?_, fun c c1 c2 => ?_, fun f hf => ?_, ?_⟩
  · rw [e4, sUp_ne (by omega), sArr_s, b3, w3]
    exact thought_back hf hw
  · rw [e4, sUp_ne (by omega), sArr_n (by omega), n2 c c1 c2, e2]
  · rw [e4]
    by_cases e : f = 6
    · rw [e, sUp_ss, h0]
    · rw [sUp_sn e, sArr_n (by omega), f3 f hf, sOff_m o2 (by decide), e1, sArr_n (by omega), sUp_sn e, sArr_n (by omega)]
  · refine sOff_tr (X' := X1) ?_ (sOff_tr (sOff_mono o2 (by decide)) (sOff_tr (sOff_mono o3 (by decide)) ?_))
    · rw [e1]
      exact sOff_tr (sOff_arr (by decide)) (sOff_tr (sOff_up (o := 0) (by decide)) (sOff_arr (by decide)))
    · rw [e4]
      exact sOff_tr (sOff_arr (by decide)) (sOff_up (o := 0) (by decide))
theorem pnd_ok {w : WT} (hf : flyOK w) {a b : Int} (ha : a = -1 ∨ (0 ≤ a ∧ a ≤ 99)) (hb : b = -1 ∨ (0 ≤ b ∧ b ≤ 99)) : flyOK (pndW w a b) ∧ ∀ i, (i < 0 ∨ 1340 ≤ i) → pndW w a b i = w i := by
  have key : ∀ (v : WT) (c : Int), 0 ≤ c → c ≤ 99 → flyOK v → flyOK (upW v (120 + c) 1) := by
    intro v c c1 c2 hv
    obtain ⟨a1, a2, a3, a4, a5, a6⟩ := hv
    have hhi : ∀ i, 1835 ≤ i → upW v (120 + c) 1 i = v i := fun i hi => upW_n (by omega)
    refine ⟨?_, by rw [upW_n (by omega)]; exact a2, by rw [upW_n (by omega)]; exact a3, fun q q1 q2 => ?_, fun s s1 s2 => ?_, fun k k1 k2 => textOK_same hhi k1 (a6 k k1 k2)⟩
    · unfold Dim at a1 ⊢
      rw [upW_n (by omega), upW_n (by omega)]
      exact a1
    · rw [upW_n (show 20 + q ≠ 120 + c by omega)]
      refine ⟨(a4 q q1 q2).1, ?_⟩
      by_cases e : q = c
      · rw [e, upW_s]
        exact Or.inr rfl
      · rw [upW_n (by omega)]
        exact (a4 q q1 q2).2
    · rw [upW_n (by omega)] at s2
      rw [upW_n (by omega), upW_n (by omega), upW_n (by omega), upW_n (by omega), upW_n (by omega)]
      obtain ⟨z1, z2⟩ := a5 s s1 s2
      refine ⟨?_, z2⟩
      unfold pointB at z1 ⊢
      rw [upW_n (by omega), upW_n (by omega)]
      exact z1
  have one : flyOK (if a = -1 then w else upW w (120 + a) 1) ∧ ∀ i, (i < 0 ∨ 1340 ≤ i) → (if a = -1 then w else upW w (120 + a) 1) i = w i := by
    split
    · exact ⟨hf, fun _ _ => rfl⟩
    · exact ⟨key w a (by omega) (by omega) hf, fun i hi => upW_n (by omega)⟩
  unfold pndW
  split
  · exact one
  · exact ⟨key _ b (by omega) (by omega) one.1, fun i hi => by rw [upW_n (by omega)]; exact one.2 i hi⟩
theorem m_triesPonds (hM : MOk Ω n K R m) {a b o t : Int} (hf : flyOK (X (m + 1))) (hth : X m 6 = 0) (hp : ∀ c, 0 ≤ c → c ≤ 99 → 0 ≤ X (m + 1) (420 + c) ∧ X (m + 1) (420 + c) ≤ 99) (h1 : 0 ≤ a ∧ a ≤ 99) (h2 : 0 ≤ b ∧ b ≤ 99) (h3 : o = -1 ∨ (0 ≤ o ∧ o ≤ 99)) (h4 : t = -1 ∨ (0 ≤ t ∧ t ≤ 99)) (hl : 7 ≤ d) : sCt Ω yX4_triesPonds cX4_triesPonds 8 none d 0 0 [.ref m, vI a, vI b, vI o, vI t] n K X R (pN n K R (fun X' => (X' m 31, X' m 32, X' m 33, X' m 34) = tryS (X (m + 1)) a b o t (X m 31, X m 32, X m 33, X m 34) ∧ X' (m + 1) = X (m + 1) ∧ (∀ f, f < 30 → X' m f = X m f) ∧ sOff [0, 1, 3, 8, 9, 10, 11, 12, 13, 14, 15] m X X')) := by
  obtain ⟨w, hw⟩ : ∃ w, w = X (m + 1) := ⟨_, rfl⟩
  rw [← hw] at hf hp ⊢
  have po : 0 ≤ prcS w o ∧ prcS w o ≤ 99 := by unfold prcS; split; omega; exact hp o (by omega) (by omega)
  have pt : 0 ≤ prcS w t ∧ prcS w t ≤ 99 := by unfold prcS; split; omega; exact hp t (by omega) (by omega)
  obtain ⟨k1, k2⟩ := pnd_ok hf h3 h4
  have mo : 0 ≤ mnyS o ∧ mnyS o ≤ 1 := by unfold mnyS; split <;> omega
  have mt : 0 ≤ mnyS t ∧ mnyS t ≤ 1 := by unfold mnyS; split <;> omega
  refine sCt_of (by decide) (by simp [Value.category, vI, va_rf]) (Nat.le_of_ble_eq_true rfl) fun Γ P9 hP9 h => ?_
  show sG (_, _, _, _, _) Γ 0 0 _ _ _ _ 0 [some _, some _, some _, some _, some _, none, none, none] []
  refine ss_rg fun hrg => ?_

  refine ss_cut (σ := Int) (fun s => s = mnyS o) 10 (fun s => X) (fun s => [some (.ref m), some (vI a), some (vI b), some (vI o), some (vI t), none, none, none]) (fun s => [vI s]) (fun s h10 => ?_) (fun J10 => ?_)
  · skip
    subst h10
    refine ss_cut (σ := Int) (fun s => s = mnyS t) 21 (fun s => X) (fun s => [some (.ref m), some (vI a), some (vI b), some (vI o), some (vI t), none, none, none]) (fun s => [vI s, vI (mnyS o)]) (fun s h21 => ?_) (fun J21 => ?_)
    · skip
      subst h21
      refine ss_iadd h dX4_triesPonds_21 22 rfl ?_
      refine ss_ist_5 h dX4_triesPonds_22 24 rfl ?_
      refine ss_cut (σ := Int) (fun s => s = prcS w o) 43 (fun s => X) (fun s => [some (.ref m), some (vI a), some (vI b), some (vI o), some (vI t), some (vI (mnyS o + mnyS t)), none, none]) (fun s => [vI s]) (fun s h43 => ?_) (fun J43 => ?_)
      · skip
        subst h43
        refine ss_cut (σ := Int) (fun s => s = prcS w t) 64 (fun s => X) (fun s => [some (.ref m), some (vI a), some (vI b), some (vI o), some (vI t), some (vI (mnyS o + mnyS t)), none, none]) (fun s => [vI s, vI (prcS w o)]) (fun s h64 => ?_) (fun J64 => ?_)
        · skip
          subst h64
          refine ss_iadd h dX4_triesPonds_64 65 rfl ?_
          refine ss_ist_6 h dX4_triesPonds_65 67 rfl ?_
          refine ss_cut (σ := Unit) (fun s => ¬ (X m 31 ≠ -1 ∧ (X m 31 < prcS w o + prcS w t ∨ (prcS w o + prcS w t = X m 31 ∧ X m 32 ≤ mnyS o + mnyS t)))) 103 (fun s => X) (fun s => [some (.ref m), some (vI a), some (vI b), some (vI o), some (vI t), some (vI (mnyS o + mnyS t)), some (vI (prcS w o + prcS w t)), none]) (fun s => []) (fun s h103 => ?_) (fun J103 => ?_)
          · skip
            refine ss_aload_n (i := 0) h dX4_triesPonds_103 104 rfl rfl rfl ?_
            refine ss_cVn h (m_setsOut hM (d := d - 1)) (lw_V q1466 q1468 qs74 q87 q1469) kl4 hM.ob 0 rfl md_X4_setsOut rfl (by omega) (by decide) rfl dX4_triesPonds_104 107 rfl rfl (Nat.le_of_ble_eq_true rfl) (by omega) (by omega) (fun X104 x104 => ?_)
            have w104 : X104 (m + 1) = w := by rw [x104, sUp_ne (by omega), sArr_n (by omega), hw]
            refine ss_cut (σ := XT) (fun Z => Z = sArr X104 (m + 1) (if o = -1 then w else upW w (120 + o) 1)) 122 (fun Z => Z) (fun Z => [some (.ref m), some (vI a), some (vI b), some (vI o), some (vI t), some (vI (mnyS o + mnyS t)), some (vI (prcS w o + prcS w t)), none]) (fun Z => []) (fun Z h122 => ?_) (fun J122 => ?_)
            · skip
              refine ss_cut (σ := XT) (fun Y => Y = sArr X104 (m + 1) (pndW w o t)) 139 (fun Y => Y) (fun Y => [some (.ref m), some (vI a), some (vI b), some (vI o), some (vI t), some (vI (mnyS o + mnyS t)), some (vI (prcS w o + prcS w t)), none]) (fun Y => []) (fun Y h139 => ?_) (fun J139 => ?_)
              · skip
                have y1 : Y (m + 1) = pndW w o t := by rw [h139, sArr_s]
                refine ss_aload_n (i := 0) h dX4_triesPonds_139 140 rfl rfl rfl ?_
                refine ss_cVn h (m_allFly (th := true) hM (d := d - 1) (by rw [y1]; exact k1) (by rw [h139, sArr_n (by omega), x104, sUp_ss]; rfl) (by omega)) (lw_V q1368 q1370 qs60 q87 q1371) kl4 hM.ob 0 rfl md_X4_allFly rfl (by omega) (by decide) rfl dX4_triesPonds_140 143 rfl rfl (Nat.le_of_ble_eq_true rfl) (by omega) (by omega) (fun X140 x140 => ?_)
                obtain ⟨g1, g2, g3⟩ := x140
                rw [y1] at g1
                refine ss_aload_n (i := 0) h dX4_triesPonds_143 144 rfl rfl rfl ?_
                refine ss_cVn h (m_laysCounties hM (d := d - 1) (by rw [g1]; exact (allF_same true k1).2.1) (by omega)) (lw_V q1420 q1422 qs70 q87 q1423) kl4 hM.ob 0 rfl md_X4_laysCounties rfl (by omega) (by decide) rfl dX4_triesPonds_144 147 rfl rfl (Nat.le_of_ble_eq_true rfl) (by omega) (by omega) (fun X144 x144 => ?_)
                obtain ⟨u1, u2, u3⟩ := x144
                refine ss_rg fun hrN => ?_
                refine ss_cut (σ := Bool) (fun s => s = decide (X144 (m + 14) a = X144 (m + 14) b)) 167 (fun s => X144) (fun s => [some (.ref m), some (vI a), some (vI b), some (vI o), some (vI t), some (vI (mnyS o + mnyS t)), some (vI (prcS w o + prcS w t)), none]) (fun s => [vI (bI s)]) (fun s h167 => ?_) (fun J167 => ?_)
                · skip
                  refine ss_ist_7 h dX4_triesPonds_167 169 rfl ?_
                  refine ss_aload_n (i := 0) h dX4_triesPonds_169 170 rfl rfl rfl ?_
                  refine ss_cVn h (m_comesBack hM (d := d - 1)) (lw_V q1470 q1472 qs75 q87 q1473) kl4 hM.ob 0 rfl md_X4_comesBack rfl (by omega) (by decide) rfl dX4_triesPonds_170 173 rfl rfl (Nat.le_of_ble_eq_true rfl) (by omega) (by omega) (fun X170 x170 => ?_)
                  obtain ⟨v1, v2, v3, v4⟩ := thought_end (X := X) (w1 := pndW w o t) k1 hth (by rw [← hw]; exact k2) (by rw [h139, x104]) g1 g3 u1 u2 u3 x170
                  have hs : s = oneS (pndW w o t) a b := by
                    rw [h167]
                    unfold oneS
                    have q1 := v2 a h1.1 (by omega)
                    have q2 := v2 b h2.1 (by omega)
                    rw [← q1, ← q2, x170, sUp_ne (by omega), sArr_n (by omega)]
                  refine ss_iload h dX4_triesPonds_173 175 rfl rfl ?_
                  refine ss_if_ne h dX4_triesPonds_175 178 179 rfl (by decide) (sRg_b _) (fun c175 => ?_) (fun c175 => ?_)
                  · skip
                    refine ss_aload_n (i := 0) h dX4_triesPonds_179 180 rfl rfl rfl ?_
                    refine ss_iload h dX4_triesPonds_180 182 rfl rfl ?_
                    refine ss_putI h kl4 31 31 rfl (by decide) rfl hM.ob q1118 (Or.inl rfl) (by omega) dX4_triesPonds_182 185 rfl ?_
                    refine ss_aload_n (i := 0) h dX4_triesPonds_185 186 rfl rfl rfl ?_
                    refine ss_iload h dX4_triesPonds_186 188 rfl rfl ?_
                    refine ss_putI h kl4 32 32 rfl (by decide) rfl hM.ob q1119 (Or.inl rfl) (by omega) dX4_triesPonds_188 191 rfl ?_
                    refine ss_aload_n (i := 0) h dX4_triesPonds_191 192 rfl rfl rfl ?_
                    refine ss_iload_n (i := 3) h dX4_triesPonds_192 193 rfl rfl rfl ?_
                    refine ss_putI h kl4 33 33 rfl (by decide) rfl hM.ob q1120 (Or.inl rfl) (by omega) dX4_triesPonds_193 196 rfl ?_
                    refine ss_aload_n (i := 0) h dX4_triesPonds_196 197 rfl rfl rfl ?_
                    refine ss_iload h dX4_triesPonds_197 199 rfl rfl ?_
                    refine ss_putI h kl4 34 34 rfl (by decide) rfl hM.ob q1121 (Or.inl rfl) (by omega) dX4_triesPonds_199 202 rfl ?_
                    refine ss_vret h dX4_triesPonds_202 (by omega) (by omega) ?_
                    rw [hP9]
                    refine ⟨rfl, rfl, rfl, rfl, ?_, ?_, fun f hf => ?_, ?_⟩
                    · unfold tryS
                      rw [if_neg h103, if_pos (by rw [← hs, bI_1.mp c175])]
                      rw [sUp_sn (show (31 : Int) ≠ 34 by omega), sUp_sn (show (31 : Int) ≠ 33 by omega), sUp_sn (show (31 : Int) ≠ 32 by omega), sUp_ss, sUp_sn (show (32 : Int) ≠ 34 by omega), sUp_sn (show (32 : Int) ≠ 33 by omega), sUp_ss, sUp_sn (show (33 : Int) ≠ 34 by omega), sUp_ss, sUp_ss]
                    · rw [sUp_ne (by omega), sUp_ne (by omega), sUp_ne (by omega), sUp_ne (by omega)]
                      exact v1.trans hw.symm
                    · rw [sUp_sn (by omega), sUp_sn (by omega), sUp_sn (by omega), sUp_sn (by omega)]
                      exact v3 f (by omega)
                    · exact sOff_tr v4 (sOff_tr (sOff_tr (sOff_tr (sOff_up (o := 0) (by decide)) (sOff_up (o := 0) (by decide))) (sOff_up (o := 0) (by decide))) (sOff_up (o := 0) (by decide)))
                  · skip
                    refine ss_vret h dX4_triesPonds_178 (by omega) (by omega) ?_
                    rw [hP9]
                    exact ⟨rfl, rfl, rfl, rfl, by unfold tryS; rw [if_neg h103, if_neg (by rw [← hs, bI_0.mp c175]; decide), v3 31 (by omega), v3 32 (by omega), v3 33 (by omega), v3 34 (by omega)], v1.trans hw.symm, fun f hf => v3 f (by omega), v4⟩
                refine ss_aload_n (i := 0) h dX4_triesPonds_147 148 rfl rfl rfl ?_
                refine ss_getS h kl4 28 28 rfl (by decide) rfl hM.ob q1115 dX4_triesPonds_148 151 rfl hM.r_name ?_
                refine ss_iload_n (i := 1) h dX4_triesPonds_151 152 rfl rfl rfl ?_
                refine ss_iald h hM.k_name (by decide) (by omega) dX4_triesPonds_152 153 rfl ?_
                refine ss_aload_n (i := 0) h dX4_triesPonds_153 154 rfl rfl rfl ?_
                refine ss_getS h kl4 28 28 rfl (by decide) rfl hM.ob q1115 dX4_triesPonds_154 157 rfl hM.r_name ?_
                refine ss_iload_n (i := 2) h dX4_triesPonds_157 158 rfl rfl rfl ?_
                refine ss_iald h hM.k_name (by decide) (by omega) dX4_triesPonds_158 159 rfl ?_
                refine ss_icmp_ne h dX4_triesPonds_159 162 166 rfl (by decide) (hrN _ _) (hrN _ _) (fun c159 => ?_) (fun c159 => ?_)
                · skip
                  refine ss_iconst h dX4_triesPonds_166 167 rfl ?_
                  refine ss_st ?_ (J167 _ rfl)
                  first
                    | (rw [decide_eq_true c159]; rfl)
                    | (rw [decide_eq_false c159]; rfl)
                · skip
                  refine ss_iconst h dX4_triesPonds_162 163 rfl ?_
                  refine ss_goto h dX4_triesPonds_163 167 (by decide) ?_
                  refine ss_st ?_ (J167 _ rfl)
                  first
                    | (rw [decide_eq_true c159]; rfl)
                    | (rw [decide_eq_false c159]; rfl)
              refine ss_iload h dX4_triesPonds_122 124 rfl rfl ?_
              refine ss_iconst h dX4_triesPonds_124 125 rfl ?_
              refine ss_icmp_eq h dX4_triesPonds_125 128 139 rfl (by decide) (by first | omega | exact sRg_b _) (by first | omega | exact sRg_b _) (fun c125 => ?_) (fun c125 => ?_)
              · skip
                have e139 : Z = sArr X104 (m + 1) (pndW w o t) := by unfold pndW; rw [if_pos c125, h122]
                exact J139 _ e139
              · skip
                have e139 : sUp Z (m + 1) (120 + t) 1 = sArr X104 (m + 1) (pndW w o t) := by unfold pndW; rw [if_neg c125, h122, sArr_sUp]
                refine ss_aload_n (i := 0) h dX4_triesPonds_128 129 rfl rfl rfl ?_
                refine ss_getS h kl4 0 0 rfl (by decide) rfl hM.ob q1087 dX4_triesPonds_129 132 rfl hM.r_w ?_
                refine ss_bipush h dX4_triesPonds_132 134 rfl (by decide +kernel) ?_
                refine ss_iload h dX4_triesPonds_134 136 rfl rfl ?_
                refine ss_iadd h dX4_triesPonds_136 137 rfl ?_
                refine ss_iconst h dX4_triesPonds_137 138 rfl ?_
                refine ss_iast h hM.k_w (by decide) (by omega) (by omega) dX4_triesPonds_138 139 rfl ?_
                exact J139 _ e139
            refine ss_iload_n (i := 3) h dX4_triesPonds_107 108 rfl rfl rfl ?_
            refine ss_iconst h dX4_triesPonds_108 109 rfl ?_
            refine ss_icmp_eq h dX4_triesPonds_109 112 122 rfl (by decide) (by first | omega | exact sRg_b _) (by first | omega | exact sRg_b _) (fun c109 => ?_) (fun c109 => ?_)
            · skip
              have e122 : X104 = sArr X104 (m + 1) (if o = -1 then w else upW w (120 + o) 1) := by rw [if_pos c109, ← w104, sArr_id]
              exact J122 _ e122
            · skip
              have e122 : sUp X104 (m + 1) (120 + o) 1 = sArr X104 (m + 1) (if o = -1 then w else upW w (120 + o) 1) := by rw [if_neg c109, sUp_as, w104]
              refine ss_aload_n (i := 0) h dX4_triesPonds_112 113 rfl rfl rfl ?_
              refine ss_getS h kl4 0 0 rfl (by decide) rfl hM.ob q1087 dX4_triesPonds_113 116 rfl hM.r_w ?_
              refine ss_bipush h dX4_triesPonds_116 118 rfl (by decide +kernel) ?_
              refine ss_iload_n (i := 3) h dX4_triesPonds_118 119 rfl rfl rfl ?_
              refine ss_iadd h dX4_triesPonds_119 120 rfl ?_
              refine ss_iconst h dX4_triesPonds_120 121 rfl ?_
              refine ss_iast h hM.k_w (by decide) (by omega) (by omega) dX4_triesPonds_121 122 rfl ?_
              exact J122 _ e122
          refine ss_aload_n (i := 0) h dX4_triesPonds_67 68 rfl rfl rfl ?_
          refine ss_getI h kl4 31 31 rfl (by decide) rfl hM.ob q1118 dX4_triesPonds_68 71 rfl ?_
          refine ss_iconst h dX4_triesPonds_71 72 rfl ?_
          refine ss_icmp_eq h dX4_triesPonds_72 75 103 rfl (by decide) (hrg _ _) (by omega) (fun c72 => ?_) (fun c72 => ?_)
          · skip
            exact J103 () (by omega)
          · skip
            refine ss_iload h dX4_triesPonds_75 77 rfl rfl ?_
            refine ss_aload_n (i := 0) h dX4_triesPonds_77 78 rfl rfl rfl ?_
            refine ss_getI h kl4 31 31 rfl (by decide) rfl hM.ob q1118 dX4_triesPonds_78 81 rfl ?_
            refine ss_icmp_gt h dX4_triesPonds_81 84 102 rfl (by decide) (by omega) (hrg _ _) (fun c81 => ?_) (fun c81 => ?_)
            · skip
              refine ss_vret h dX4_triesPonds_102 (by omega) (by omega) ?_
              rw [hP9]
              exact ⟨rfl, rfl, rfl, rfl, by unfold tryS; rw [if_pos (by dsimp only; omega)], hw.symm, fun _ _ => rfl, sOff_rf _ _ _⟩
            · skip
              refine ss_iload h dX4_triesPonds_84 86 rfl rfl ?_
              refine ss_aload_n (i := 0) h dX4_triesPonds_86 87 rfl rfl rfl ?_
              refine ss_getI h kl4 31 31 rfl (by decide) rfl hM.ob q1118 dX4_triesPonds_87 90 rfl ?_
              refine ss_icmp_ne h dX4_triesPonds_90 93 103 rfl (by decide) (by omega) (hrg _ _) (fun c90 => ?_) (fun c90 => ?_)
              · skip
                exact J103 () (by omega)
              · skip
                refine ss_iload h dX4_triesPonds_93 95 rfl rfl ?_
                refine ss_aload_n (i := 0) h dX4_triesPonds_95 96 rfl rfl rfl ?_
                refine ss_getI h kl4 32 32 rfl (by decide) rfl hM.ob q1119 dX4_triesPonds_96 99 rfl ?_
                refine ss_icmp_lt h dX4_triesPonds_99 102 103 rfl (by decide) (by omega) (hrg _ _) (fun c99 => ?_) (fun c99 => ?_)
                · skip
                  exact J103 () (by omega)
                · skip
                  refine ss_vret h dX4_triesPonds_102 (by omega) (by omega) ?_
                  rw [hP9]
                  exact ⟨rfl, rfl, rfl, rfl, by unfold tryS; rw [if_pos (by dsimp only; omega)], hw.symm, fun _ _ => rfl, sOff_rf _ _ _⟩
        refine ss_iload h dX4_triesPonds_43 45 rfl rfl ?_
        refine ss_iconst h dX4_triesPonds_45 46 rfl ?_
        refine ss_icmp_ne h dX4_triesPonds_46 49 53 rfl (by decide) (by first | omega | exact sRg_b _) (by first | omega | exact sRg_b _) (fun c46 => ?_) (fun c46 => ?_)
        · skip
          refine ss_aload_n (i := 0) h dX4_triesPonds_53 54 rfl rfl rfl ?_
          refine ss_getS h kl4 0 0 rfl (by decide) rfl hM.ob q1087 dX4_triesPonds_54 57 rfl hM.r_w ?_
          refine ss_sipush h dX4_triesPonds_57 60 rfl (by decide +kernel) ?_
          refine ss_iload h dX4_triesPonds_60 62 rfl rfl ?_
          refine ss_iadd h dX4_triesPonds_62 63 rfl ?_
          refine ss_iald h hM.k_w (by decide) (by omega) dX4_triesPonds_63 64 rfl ?_
          refine J64 _ ?_
          unfold prcS
          first
            | rw [if_pos (by omega)]
            | (rw [if_neg (by omega), hw])
        · skip
          refine ss_iconst h dX4_triesPonds_49 50 rfl ?_
          refine ss_goto h dX4_triesPonds_50 64 (by decide) ?_
          refine J64 _ ?_
          unfold prcS
          first
            | rw [if_pos (by omega)]
            | (rw [if_neg (by omega), hw])
      refine ss_iload_n (i := 3) h dX4_triesPonds_24 25 rfl rfl rfl ?_
      refine ss_iconst h dX4_triesPonds_25 26 rfl ?_
      refine ss_icmp_ne h dX4_triesPonds_26 29 33 rfl (by decide) (by first | omega | exact sRg_b _) (by first | omega | exact sRg_b _) (fun c26 => ?_) (fun c26 => ?_)
      · skip
        refine ss_aload_n (i := 0) h dX4_triesPonds_33 34 rfl rfl rfl ?_
        refine ss_getS h kl4 0 0 rfl (by decide) rfl hM.ob q1087 dX4_triesPonds_34 37 rfl hM.r_w ?_
        refine ss_sipush h dX4_triesPonds_37 40 rfl (by decide +kernel) ?_
        refine ss_iload_n (i := 3) h dX4_triesPonds_40 41 rfl rfl rfl ?_
        refine ss_iadd h dX4_triesPonds_41 42 rfl ?_
        refine ss_iald h hM.k_w (by decide) (by omega) dX4_triesPonds_42 43 rfl ?_
        refine J43 _ ?_
        unfold prcS
        first
          | rw [if_pos (by omega)]
          | (rw [if_neg (by omega), hw])
      · skip
        refine ss_iconst h dX4_triesPonds_29 30 rfl ?_
        refine ss_goto h dX4_triesPonds_30 43 (by decide) ?_
        refine J43 _ ?_
        unfold prcS
        first
          | rw [if_pos (by omega)]
          | (rw [if_neg (by omega), hw])
    refine ss_iload h dX4_triesPonds_10 12 rfl rfl ?_
    refine ss_iconst h dX4_triesPonds_12 13 rfl ?_
    refine ss_icmp_ne h dX4_triesPonds_13 16 20 rfl (by decide) (by first | omega | exact sRg_b _) (by first | omega | exact sRg_b _) (fun c13 => ?_) (fun c13 => ?_)
    · skip
      refine ss_iconst h dX4_triesPonds_20 21 rfl ?_
      refine J21 _ ?_
      unfold mnyS
      first
        | rw [if_pos (by omega)]
        | rw [if_neg (by omega)]
    · skip
      refine ss_iconst h dX4_triesPonds_16 17 rfl ?_
      refine ss_goto h dX4_triesPonds_17 21 (by decide) ?_
      refine J21 _ ?_
      unfold mnyS
      first
        | rw [if_pos (by omega)]
        | rw [if_neg (by omega)]
  refine ss_iload_n (i := 3) h dX4_triesPonds_0 1 rfl rfl rfl ?_
  refine ss_iconst h dX4_triesPonds_1 2 rfl ?_
  refine ss_icmp_ne h dX4_triesPonds_2 5 9 rfl (by decide) (by first | omega | exact sRg_b _) (by first | omega | exact sRg_b _) (fun c2 => ?_) (fun c2 => ?_)
  · skip
    refine ss_iconst h dX4_triesPonds_9 10 rfl ?_
    refine J10 _ ?_
    unfold mnyS
    first
      | rw [if_pos (by omega)]
      | rw [if_neg (by omega)]
  · skip
    refine ss_iconst h dX4_triesPonds_5 6 rfl ?_
    refine ss_goto h dX4_triesPonds_6 10 (by decide) ?_
    refine J10 _ ?_
    unfold mnyS
    first
      | rw [if_pos (by omega)]
      | rw [if_neg (by omega)]
/-- the plan's four numbers -/
def qM (X : XT) (m : Nat) : QT := (X m 31, X m 32, X m 33, X m 34)
theorem m_plan (hM : MOk Ω n K R m) {a b t : Int} (hf : flyOK (X (m + 1))) (hth : X m 6 = 0) (hp : ∀ c, 0 ≤ c → c ≤ 99 → 0 ≤ X (m + 1) (420 + c) ∧ X (m + 1) (420 + c) ≤ 99) (h1 : sRg a) (h2 : sRg b) (h3 : sRg t) (hl : 8 ≤ d) : sCt Ω yX4_plan cX4_plan 6 (some .int) d 0 0 [.ref m, vI a, vI b, vI t] n K X R (pA n K R (vI (if planB (X (m + 1)) a b t = true then planV (planQ (X (m + 1)) a b (-1, X m 32, X m 33, X m 34)) t else -1)) (fun X' => X' (m + 1) = X (m + 1) ∧ (∀ f, f < 30 → X' m f = X m f) ∧ sOff [0, 1, 3, 8, 9, 10, 11, 12, 13, 14, 15] m X X')) := by
  obtain ⟨w, hw⟩ : ∃ w, w = X (m + 1) := ⟨_, rfl⟩
  rw [← hw] at hf hp ⊢
  have hd : Dim (X (m + 1)) := by rw [← hw]; exact hf.1
  have hd' := hf.1
  unfold Dim at hd'
  have hxy : 0 ≤ w 0 * w 1 ∧ w 0 * w 1 ≤ 100 := by
    have q1 : w 0 * w 1 ≤ 10 * 10 := Int.mul_le_mul (by omega) (by omega) (by omega) (by omega)
    have q2 : 0 ≤ w 0 * w 1 := Int.mul_nonneg (by omega) (by omega)
    omega
  obtain ⟨q0, hq0⟩ : ∃ q, q = tryS w a b (-1) (-1) (-1, X m 32, X m 33, X m 34) := ⟨_, rfl⟩
  refine sCt_of (by decide) (by simp [Value.category, vI, va_rf]) (Nat.le_of_ble_eq_true rfl) fun Γ P9 hP9 h => ?_
  show sG (_, _, _, _, _) Γ 0 0 _ _ _ _ 0 [some _, some _, some _, some _, none, none] []
  refine ss_aload_n (i := 0) h dX4_plan_0 1 rfl rfl rfl ?_
  refine ss_iload_n (i := 1) h dX4_plan_1 2 rfl rfl rfl ?_
  refine ss_cVv h (m_isCell hM (d := d - 1) hd (by omega) (by omega)) (lw_V q1214 q1216 qs40 q87 q1217) kl4 hM.ob 1 rfl md_X4_isCell rfl (by omega) (by decide) rfl dX4_plan_2 5 rfl rfl (Nat.le_of_ble_eq_true rfl) (by omega) (by omega) ?_
  rw [← hw]
  refine ss_if_eq h dX4_plan_5 8 48 rfl (by decide) (by first | omega | exact sRg_b _) (fun c5 => ?_) (fun c5 => ?_)
  · skip
    replace c5 := bI_0.mp c5
    refine ss_iconst h dX4_plan_48 49 rfl ?_
    refine ss_iret h dX4_plan_49 (by omega) (by omega) ?_
    rw [hP9]
    exact ⟨by rw [if_neg (by simp [planB, *, -hw]; try (intro hq; omega))], rfl, rfl, rfl, hw.symm, fun _ _ => rfl, sOff_rf _ _ _⟩
  · skip
    replace c5 := bI_n.mp c5
    refine ss_aload_n (i := 0) h dX4_plan_8 9 rfl rfl rfl ?_
    refine ss_iload_n (i := 2) h dX4_plan_9 10 rfl rfl rfl ?_
    refine ss_cVv h (m_isCell hM (d := d - 1) hd (by omega) (by omega)) (lw_V q1214 q1216 qs40 q87 q1217) kl4 hM.ob 1 rfl md_X4_isCell rfl (by omega) (by decide) rfl dX4_plan_10 13 rfl rfl (Nat.le_of_ble_eq_true rfl) (by omega) (by omega) ?_
    rw [← hw]
    refine ss_if_eq h dX4_plan_13 16 48 rfl (by decide) (by first | omega | exact sRg_b _) (fun c13 => ?_) (fun c13 => ?_)
    · skip
      replace c13 := bI_0.mp c13
      refine ss_iconst h dX4_plan_48 49 rfl ?_
      refine ss_iret h dX4_plan_49 (by omega) (by omega) ?_
      rw [hP9]
      exact ⟨by rw [if_neg (by simp [planB, *, -hw]; try (intro hq; omega))], rfl, rfl, rfl, hw.symm, fun _ _ => rfl, sOff_rf _ _ _⟩
    · skip
      replace c13 := bI_n.mp c13
      refine ss_iload_n (i := 1) h dX4_plan_16 17 rfl rfl rfl ?_
      refine ss_iload_n (i := 2) h dX4_plan_17 18 rfl rfl rfl ?_
      refine ss_icmp_eq h dX4_plan_18 21 48 rfl (by decide) (by first | omega | exact sRg_b _) (by first | omega | exact sRg_b _) (fun c18 => ?_) (fun c18 => ?_)
      · skip
        refine ss_iconst h dX4_plan_48 49 rfl ?_
        refine ss_iret h dX4_plan_49 (by omega) (by omega) ?_
        rw [hP9]
        exact ⟨by rw [if_neg (by simp [planB, *, -hw]; try (intro hq; omega))], rfl, rfl, rfl, hw.symm, fun _ _ => rfl, sOff_rf _ _ _⟩
      · skip
        refine ss_aload_n (i := 0) h dX4_plan_21 22 rfl rfl rfl ?_
        refine ss_getS h kl4 0 0 rfl (by decide) rfl hM.ob q1087 dX4_plan_22 25 rfl hM.r_w ?_
        refine ss_iconst h dX4_plan_25 26 rfl ?_
        refine ss_iald h hM.k_w (by decide) (by omega) dX4_plan_26 27 rfl ?_
        refine ss_aload_n (i := 0) h dX4_plan_27 28 rfl rfl rfl ?_
        refine ss_getS h kl4 0 0 rfl (by decide) rfl hM.ob q1087 dX4_plan_28 31 rfl hM.r_w ?_
        refine ss_iconst h dX4_plan_31 32 rfl ?_
        refine ss_iald h hM.k_w (by decide) (by omega) dX4_plan_32 33 rfl ?_
        refine ss_imul h dX4_plan_33 34 rfl ?_
        refine ss_bipush h dX4_plan_34 36 rfl (by decide +kernel) ?_
        rw [← hw]
        refine ss_icmp_gt h dX4_plan_36 39 48 rfl (by decide) (by first | omega | exact sRg_b _) (by first | omega | exact sRg_b _) (fun c36 => ?_) (fun c36 => ?_)
        · skip
          refine ss_iconst h dX4_plan_48 49 rfl ?_
          refine ss_iret h dX4_plan_49 (by omega) (by omega) ?_
          rw [hP9]
          exact ⟨by rw [if_neg (by simp [planB, *, -hw]; try (intro hq; omega))], rfl, rfl, rfl, hw.symm, fun _ _ => rfl, sOff_rf _ _ _⟩
        · skip
          refine ss_iload_n (i := 3) h dX4_plan_39 40 rfl rfl rfl ?_
          refine ss_iconst h dX4_plan_40 41 rfl ?_
          refine ss_iconst h dX4_plan_41 42 rfl ?_
          refine ss_cSv h (m_isIn (d := d - 1) (by omega) (by omega) (by omega)) (lw_S q1207 q1208 q87 q1209) 3 rfl md_X4_isIn (by omega) (by decide) rfl dX4_plan_42 45 rfl rfl (Nat.le_of_ble_eq_true rfl) (by omega) (by omega) ?_
          refine ss_if_ne h dX4_plan_45 48 50 rfl (by decide) (by first | omega | exact sRg_b _) (fun c45 => ?_) (fun c45 => ?_)
          · skip
            replace c45 := bI_1.mp c45
            have hB : planB w a b t = true := by simp [planB, *, -hw]; try omega
            have ca := cellB_t hf.1 c5
            have cb := cellB_t hf.1 c13
            have ct := inB_t.mp c45
            refine ss_aload_n (i := 0) h dX4_plan_50 51 rfl rfl rfl ?_
            refine ss_iconst h dX4_plan_51 52 rfl ?_
            refine ss_putI h kl4 31 31 rfl (by decide) rfl hM.ob q1118 (Or.inl rfl) (by omega) dX4_plan_52 55 rfl ?_
            refine ss_aload_n (i := 0) h dX4_plan_55 56 rfl rfl rfl ?_
            refine ss_iload_n (i := 1) h dX4_plan_56 57 rfl rfl rfl ?_
            refine ss_iload_n (i := 2) h dX4_plan_57 58 rfl rfl rfl ?_
            refine ss_iconst h dX4_plan_58 59 rfl ?_
            refine ss_iconst h dX4_plan_59 60 rfl ?_
            refine ss_cVn h (m_triesPonds hM (d := d - 1) (by rw [sUp_ne (by omega), ← hw]; exact hf) (by rw [sUp_sn (by omega)]; exact hth) (by rw [sUp_ne (by omega), ← hw]; exact hp) (by omega) (by omega) (Or.inl rfl) (Or.inl rfl) (by omega)) (lw_V q1478 q1480 qs76 q87 q1481) kl4 hM.ob 4 rfl md_X4_triesPonds rfl (by omega) (by decide) rfl dX4_plan_60 63 rfl rfl (Nat.le_of_ble_eq_true rfl) (by omega) (by omega) (fun X60 x60 => ?_)
            obtain ⟨g1, g2, g3, g4⟩ := x60
            rw [sUp_ne (show m + 1 ≠ m by omega)] at g1 g2
            rw [← hw, sUp_ss, sUp_sn (show (32 : Int) ≠ 31 by omega), sUp_sn (show (33 : Int) ≠ 31 by omega), sUp_sn (show (34 : Int) ≠ 31 by omega), ← hq0] at g1
            rw [← hw] at g2
            have g3' : ∀ f, f < 30 → X60 m f = X m f := fun f hf => by rw [g3 f hf, sUp_sn (by omega)]
            have g4' : sOff [0, 1, 3, 8, 9, 10, 11, 12, 13, 14, 15] m X X60 := sOff_tr (sOff_up (o := 0) (by decide)) g4
            refine ss_rg fun hr60 => ?_
            have e31 : X60 m 31 = q0.1 := by rw [← g1]
            refine ss_cut (σ := XT) (fun Y => qM Y m = planQ w a b (-1, X m 32, X m 33, X m 34) ∧ Y (m + 1) = w ∧ (∀ f, f < 30 → Y m f = X m f) ∧ sOff [0, 1, 3, 8, 9, 10, 11, 12, 13, 14, 15] m X Y) 168 (fun Y => Y) (fun Y => [some (.ref m), some (vI a), some (vI b), some (vI t), none, none]) (fun Y => []) (fun Y h168 => ?_) (fun J168 => ?_)
            · skip
              obtain ⟨hQ, y1, y2, y3⟩ := h168
              refine ss_rg fun hrY => ?_
              obtain ⟨QQ, hQQ⟩ : ∃ q, q = planQ w a b (-1, X m 32, X m 33, X m 34) := ⟨_, rfl⟩
              rw [← hQQ] at hQ
              unfold qM at hQ
              refine ss_aload_n (i := 0) h dX4_plan_168 169 rfl rfl rfl ?_
              refine ss_getI h kl4 31 31 rfl (by decide) rfl hM.ob q1118 dX4_plan_169 172 rfl ?_
              refine ss_iconst h dX4_plan_172 173 rfl ?_
              refine ss_icmp_ne h dX4_plan_173 176 178 rfl (by decide) (hrY _ _) (by omega) (fun c173 => ?_) (fun c173 => ?_)
              · skip
                refine ss_iload_n (i := 3) h dX4_plan_178 179 rfl rfl rfl ?_
                refine ss_if_ne h dX4_plan_179 182 189 rfl (by decide) (by first | omega | exact sRg_b _) (fun c179 => ?_) (fun c179 => ?_)
                · skip
                  refine ss_iload_n (i := 3) h dX4_plan_189 190 rfl rfl rfl ?_
                  refine ss_iconst h dX4_plan_190 191 rfl ?_
                  refine ss_icmp_ne h dX4_plan_191 194 201 rfl (by decide) (by first | omega | exact sRg_b _) (by first | omega | exact sRg_b _) (fun c191 => ?_) (fun c191 => ?_)
                  · skip
                    refine ss_iload_n (i := 3) h dX4_plan_201 202 rfl rfl rfl ?_
                    refine ss_iconst h dX4_plan_202 203 rfl ?_
                    refine ss_icmp_ne h dX4_plan_203 206 213 rfl (by decide) (by first | omega | exact sRg_b _) (by first | omega | exact sRg_b _) (fun c203 => ?_) (fun c203 => ?_)
                    · skip
                      refine ss_aload_n (i := 0) h dX4_plan_213 214 rfl rfl rfl ?_
                      refine ss_getI h kl4 34 34 rfl (by decide) rfl hM.ob q1121 dX4_plan_214 217 rfl ?_
                      refine ss_iret h dX4_plan_217 (by omega) (by omega) ?_
                      rw [hP9]
                      exact ⟨by rw [if_pos hB, ← hQQ, ← hQ]; unfold planV; rw [if_neg c173]; simp [*], rfl, rfl, rfl, y1, y2, y3⟩
                    · skip
                      refine ss_aload_n (i := 0) h dX4_plan_206 207 rfl rfl rfl ?_
                      refine ss_getI h kl4 33 33 rfl (by decide) rfl hM.ob q1120 dX4_plan_207 210 rfl ?_
                      refine ss_goto h dX4_plan_210 217 (by decide) ?_
                      refine ss_iret h dX4_plan_217 (by omega) (by omega) ?_
                      rw [hP9]
                      exact ⟨by rw [if_pos hB, ← hQQ, ← hQ]; unfold planV; rw [if_neg c173]; simp [*], rfl, rfl, rfl, y1, y2, y3⟩
                  · skip
                    refine ss_aload_n (i := 0) h dX4_plan_194 195 rfl rfl rfl ?_
                    refine ss_getI h kl4 32 32 rfl (by decide) rfl hM.ob q1119 dX4_plan_195 198 rfl ?_
                    refine ss_goto h dX4_plan_198 217 (by decide) ?_
                    refine ss_iret h dX4_plan_217 (by omega) (by omega) ?_
                    rw [hP9]
                    exact ⟨by rw [if_pos hB, ← hQQ, ← hQ]; unfold planV; rw [if_neg c173]; simp [*], rfl, rfl, rfl, y1, y2, y3⟩
                · skip
                  refine ss_aload_n (i := 0) h dX4_plan_182 183 rfl rfl rfl ?_
                  refine ss_getI h kl4 31 31 rfl (by decide) rfl hM.ob q1118 dX4_plan_183 186 rfl ?_
                  refine ss_goto h dX4_plan_186 217 (by decide) ?_
                  refine ss_iret h dX4_plan_217 (by omega) (by omega) ?_
                  rw [hP9]
                  exact ⟨by rw [if_pos hB, ← hQQ, ← hQ]; unfold planV; rw [if_neg c173]; simp [*], rfl, rfl, rfl, y1, y2, y3⟩
              · skip
                refine ss_iconst h dX4_plan_176 177 rfl ?_
                refine ss_iret h dX4_plan_177 (by omega) (by omega) ?_
                rw [hP9]
                exact ⟨by rw [if_pos hB, ← hQQ, ← hQ]; unfold planV; rw [if_pos c173], rfl, rfl, rfl, y1, y2, y3⟩
            refine ss_aload_n (i := 0) h dX4_plan_63 64 rfl rfl rfl ?_
            refine ss_getI h kl4 31 31 rfl (by decide) rfl hM.ob q1118 dX4_plan_64 67 rfl ?_
            refine ss_iconst h dX4_plan_67 68 rfl ?_
            refine ss_icmp_ne h dX4_plan_68 71 168 rfl (by decide) (hr60 _ _) (by omega) (fun c68 => ?_) (fun c68 => ?_)
            · skip
              have fin168 := J168 X60 ⟨by show (X60 m 31, X60 m 32, X60 m 33, X60 m 34) = _; rw [g1]; unfold planQ; rw [← hq0, if_neg (by rw [← e31]; exact c68)], g2, g3', g4'⟩
              refine ss_kl_4 (ss_kl_5 ?_)
              exact fin168
            · skip
              refine ss_iconst h dX4_plan_71 72 rfl ?_
              refine ss_ist_4 h dX4_plan_72 74 rfl ?_
              refine ss_loop (σ := Nat × XT) (Pp := fun Y => sG _ Γ 0 0 n K Y.2 R 74 [some (.ref m), some (vI a), some (vI b), some (vI t), some (vI Y.1), none] []) (I := fun Y => (Y.1 ≤ 100 ∧ qM Y.2 m = pl1 w a b Y.1 q0) ∧ Y.2 (m + 1) = w ∧ (∀ f, f < 30 → Y.2 m f = X m f) ∧ sOff [0, 1, 3, 8, 9, 10, 11, 12, 13, 14, 15] m X Y.2) (fun Y => 100 - Y.1) (fun Y hY ih => ?_) (0, X60) ⟨⟨by dsimp only; omega, g1⟩, g2, g3', g4'⟩
              obtain ⟨k, Y⟩ := Y
              dsimp only at hY ih ⊢
              obtain ⟨⟨hk, hq⟩, y1, y2, y3⟩ := hY
              have s1 : pl1 w a b (k + 1) q0 = if freeB w k = true then tryS w a b k (-1) (pl1 w a b k q0) else pl1 w a b k q0 := rfl
              refine ss_iload h dX4_plan_74 76 rfl rfl ?_
              refine ss_bipush h dX4_plan_76 78 rfl (by decide +kernel) ?_
              refine ss_icmp_ge h dX4_plan_78 81 105 rfl (by decide) (by first | omega | exact sRg_b _) (by first | omega | exact sRg_b _) (fun c78 => ?_) (fun c78 => ?_)
              · skip
                refine ss_iconst h dX4_plan_105 106 rfl ?_
                refine ss_ist_4 h dX4_plan_106 108 rfl ?_
                have hk1 : k = 100 := by omega
                subst hk1
                obtain ⟨q1, hq1⟩ : ∃ q, q = pl1 w a b 100 q0 := ⟨_, rfl⟩
                rw [← hq1] at hq
                clear s1 ih
                refine ss_loop (σ := Nat × XT) (Pp := fun Y => sG _ Γ 0 0 n K Y.2 R 108 [some (.ref m), some (vI a), some (vI b), some (vI t), some (vI Y.1), none] []) (I := fun Y => (Y.1 ≤ 100 ∧ qM Y.2 m = pl3 w a b Y.1 q1) ∧ Y.2 (m + 1) = w ∧ (∀ f, f < 30 → Y.2 m f = X m f) ∧ sOff [0, 1, 3, 8, 9, 10, 11, 12, 13, 14, 15] m X Y.2) (fun Y => 100 - Y.1) (fun Y hY ih => ?_) (0, Y) ⟨⟨by dsimp only; omega, hq⟩, y1, y2, y3⟩
                clear hq y1 y2 y3
                obtain ⟨k, Y⟩ := Y
                dsimp only at hY ih ⊢
                obtain ⟨⟨hk, hq⟩, y1, y2, y3⟩ := hY
                refine ss_iload h dX4_plan_108 110 rfl rfl ?_
                refine ss_bipush h dX4_plan_110 112 rfl (by decide +kernel) ?_
                refine ss_icmp_ge h dX4_plan_112 115 168 rfl (by decide) (by first | omega | exact sRg_b _) (by first | omega | exact sRg_b _) (fun c112 => ?_) (fun c112 => ?_)
                · skip
                  have fin168 := J168 Y ⟨by rw [hq, show k = 100 by omega]; unfold planQ; rw [← hq0, if_pos (by rw [← e31]; exact c68), ← hq1], y1, y2, y3⟩
                  refine ss_kl_4 (ss_kl_5 ?_)
                  exact fin168
                · skip
                  refine ss_iload h dX4_plan_115 117 rfl rfl ?_
                  refine ss_iconst h dX4_plan_117 118 rfl ?_
                  refine ss_iadd h dX4_plan_118 119 rfl ?_
                  refine ss_ist_5 h dX4_plan_119 121 rfl ?_
                  refine ss_loop (σ := Nat × XT) (Pp := fun Z => sG _ Γ 0 0 n K Z.2 R 121 [some (.ref m), some (vI a), some (vI b), some (vI t), some (vI k), some (vI Z.1)] []) (I := fun Y => ((k + 1 ≤ Y.1 ∧ Y.1 ≤ 100) ∧ qM Y.2 m = pl2 w a b k Y.1 (pl3 w a b k q1)) ∧ Y.2 (m + 1) = w ∧ (∀ f, f < 30 → Y.2 m f = X m f) ∧ sOff [0, 1, 3, 8, 9, 10, 11, 12, 13, 14, 15] m X Y.2) (fun Y => 100 - Y.1) (fun Z hZ il => ?_) (k + 1, Y) ⟨⟨by dsimp only; omega, by dsimp only; rw [pl2_lo w a b _ (k + 1) (by omega)]; exact hq⟩, y1, y2, y3⟩
                  obtain ⟨j, Z⟩ := Z
                  dsimp only at hZ il ⊢
                  obtain ⟨⟨hj, hz⟩, z1, z2, z3⟩ := hZ
                  have s1 : pl2 w a b k (j + 1) (pl3 w a b k q1) = if (k : Int) < j ∧ freeB w k = true ∧ freeB w j = true then tryS w a b k j (pl2 w a b k j (pl3 w a b k q1)) else pl2 w a b k j (pl3 w a b k q1) := rfl
                  refine ss_iload h dX4_plan_121 123 rfl rfl ?_
                  refine ss_bipush h dX4_plan_123 125 rfl (by decide +kernel) ?_
                  refine ss_icmp_ge h dX4_plan_125 128 162 rfl (by decide) (by first | omega | exact sRg_b _) (by first | omega | exact sRg_b _) (fun c125 => ?_) (fun c125 => ?_)
                  · skip
                    have fin3 := ih (k + 1, Z) ⟨⟨by dsimp only; omega, by dsimp only; rw [hz, show j = 100 by omega]; rfl⟩, z1, z2, z3⟩ (by dsimp only; omega)
                    refine ss_inc_4 h dX4_plan_162 165 rfl ?_
                    refine ss_goto h dX4_plan_165 108 (by decide) ?_
                    refine ss_kl_5 ?_
                    exact fin3
                  · skip
                    refine ss_aload_n (i := 0) h dX4_plan_128 129 rfl rfl rfl ?_
                    refine ss_iload h dX4_plan_129 131 rfl rfl ?_
                    refine ss_cVv h (m_isFree hM (d := d - 1) (by rw [z1]; exact hf.1) (by omega) (by omega)) (lw_V q1482 q1484 qs77 q87 q1485) kl4 hM.ob 1 rfl md_X4_isFree rfl (by omega) (by decide) rfl dX4_plan_131 134 rfl rfl (Nat.le_of_ble_eq_true rfl) (by omega) (by omega) ?_
                    rw [z1]
                    refine ss_if_eq h dX4_plan_134 137 156 rfl (by decide) (by first | omega | exact sRg_b _) (fun c134 => ?_) (fun c134 => ?_)
                    · skip
                      replace c134 := bI_0.mp c134
                      rw [if_neg (fun q => by rw [c134] at q; exact absurd q.2.1 (by decide))] at s1
                      have fin2 := il (j + 1, Z) ⟨⟨by dsimp only; omega, by dsimp only; rw [s1]; exact hz⟩, z1, z2, z3⟩ (by dsimp only; omega)
                      refine ss_inc_5 h dX4_plan_156 159 rfl ?_
                      refine ss_goto h dX4_plan_159 121 (by decide) ?_
                      exact fin2
                    · skip
                      replace c134 := bI_n.mp c134
                      refine ss_aload_n (i := 0) h dX4_plan_137 138 rfl rfl rfl ?_
                      refine ss_iload h dX4_plan_138 140 rfl rfl ?_
                      refine ss_cVv h (m_isFree hM (d := d - 1) (by rw [z1]; exact hf.1) (by omega) (by omega)) (lw_V q1482 q1484 qs77 q87 q1485) kl4 hM.ob 1 rfl md_X4_isFree rfl (by omega) (by decide) rfl dX4_plan_140 143 rfl rfl (Nat.le_of_ble_eq_true rfl) (by omega) (by omega) ?_
                      rw [z1]
                      refine ss_if_eq h dX4_plan_143 146 156 rfl (by decide) (by first | omega | exact sRg_b _) (fun c143 => ?_) (fun c143 => ?_)
                      · skip
                        replace c143 := bI_0.mp c143
                        rw [if_neg (fun q => by rw [c143] at q; exact absurd q.2.2 (by decide))] at s1
                        have fin2 := il (j + 1, Z) ⟨⟨by dsimp only; omega, by dsimp only; rw [s1]; exact hz⟩, z1, z2, z3⟩ (by dsimp only; omega)
                        refine ss_inc_5 h dX4_plan_156 159 rfl ?_
                        refine ss_goto h dX4_plan_159 121 (by decide) ?_
                        exact fin2
                      · skip
                        replace c143 := bI_n.mp c143
                        refine ss_aload_n (i := 0) h dX4_plan_146 147 rfl rfl rfl ?_
                        refine ss_iload_n (i := 1) h dX4_plan_147 148 rfl rfl rfl ?_
                        refine ss_iload_n (i := 2) h dX4_plan_148 149 rfl rfl rfl ?_
                        refine ss_iload h dX4_plan_149 151 rfl rfl ?_
                        refine ss_iload h dX4_plan_151 153 rfl rfl ?_
                        refine ss_cVn h (m_triesPonds hM (d := d - 1) (by rw [z1]; exact hf) (by rw [z2 6 (by omega)]; exact hth) (by rw [z1]; exact hp) (by omega) (by omega) (by omega) (by omega) (by omega)) (lw_V q1478 q1480 qs76 q87 q1481) kl4 hM.ob 4 rfl md_X4_triesPonds rfl (by omega) (by decide) rfl dX4_plan_153 156 rfl rfl (Nat.le_of_ble_eq_true rfl) (by omega) (by omega) (fun X153 x153 => ?_)
                        obtain ⟨u1, u2, u3, u4⟩ := x153
                        rw [z1] at u1 u2
                        rw [if_pos ⟨by omega, c134, c143⟩] at s1
                        have fin2 := il (j + 1, X153) ⟨⟨by dsimp only; omega, by dsimp only; rw [s1, ← hz]; exact u1⟩, u2, fun f hf => (u3 f hf).trans (z2 f hf), sOff_tr z3 u4⟩ (by dsimp only; omega)
                        refine ss_inc_5 h dX4_plan_156 159 rfl ?_
                        refine ss_goto h dX4_plan_159 121 (by decide) ?_
                        exact fin2
              · skip
                refine ss_aload_n (i := 0) h dX4_plan_81 82 rfl rfl rfl ?_
                refine ss_iload h dX4_plan_82 84 rfl rfl ?_
                refine ss_cVv h (m_isFree hM (d := d - 1) (by rw [y1]; exact hf.1) (by omega) (by omega)) (lw_V q1482 q1484 qs77 q87 q1485) kl4 hM.ob 1 rfl md_X4_isFree rfl (by omega) (by decide) rfl dX4_plan_84 87 rfl rfl (Nat.le_of_ble_eq_true rfl) (by omega) (by omega) ?_
                rw [y1]
                refine ss_if_eq h dX4_plan_87 90 99 rfl (by decide) (by first | omega | exact sRg_b _) (fun c87 => ?_) (fun c87 => ?_)
                · skip
                  replace c87 := bI_0.mp c87
                  rw [if_neg (by rw [c87]; decide)] at s1
                  have fin := ih (k + 1, Y) ⟨⟨by dsimp only; omega, by dsimp only; rw [s1]; exact hq⟩, y1, y2, y3⟩ (by dsimp only; omega)
                  refine ss_inc_4 h dX4_plan_99 102 rfl ?_
                  refine ss_goto h dX4_plan_102 74 (by decide) ?_
                  exact fin
                · skip
                  replace c87 := bI_n.mp c87
                  rw [if_pos c87] at s1
                  refine ss_aload_n (i := 0) h dX4_plan_90 91 rfl rfl rfl ?_
                  refine ss_iload_n (i := 1) h dX4_plan_91 92 rfl rfl rfl ?_
                  refine ss_iload_n (i := 2) h dX4_plan_92 93 rfl rfl rfl ?_
                  refine ss_iload h dX4_plan_93 95 rfl rfl ?_
                  refine ss_iconst h dX4_plan_95 96 rfl ?_
                  refine ss_cVn h (m_triesPonds hM (d := d - 1) (by rw [y1]; exact hf) (by rw [y2 6 (by omega)]; exact hth) (by rw [y1]; exact hp) (by omega) (by omega) (by omega) (Or.inl rfl) (by omega)) (lw_V q1478 q1480 qs76 q87 q1481) kl4 hM.ob 4 rfl md_X4_triesPonds rfl (by omega) (by decide) rfl dX4_plan_96 99 rfl rfl (Nat.le_of_ble_eq_true rfl) (by omega) (by omega) (fun X96 x96 => ?_)
                  obtain ⟨u1, u2, u3, u4⟩ := x96
                  rw [y1] at u1 u2
                  have fin := ih (k + 1, X96) ⟨⟨by dsimp only; omega, by dsimp only; rw [s1, ← hq]; exact u1⟩, u2, fun f hf => (u3 f hf).trans (y2 f hf), sOff_tr y3 u4⟩ (by dsimp only; omega)
                  refine ss_inc_4 h dX4_plan_99 102 rfl ?_
                  refine ss_goto h dX4_plan_102 74 (by decide) ?_
                  exact fin
          · skip
            replace c45 := bI_0.mp c45
            refine ss_iconst h dX4_plan_48 49 rfl ?_
            refine ss_iret h dX4_plan_49 (by omega) (by omega) ?_
            rw [hP9]
            exact ⟨by rw [if_neg (by simp [planB, *, -hw]; try (intro hq; omega))], rfl, rfl, rfl, hw.symm, fun _ _ => rfl, sOff_rf _ _ _⟩
end M11

