/-! ===== the twin: ways, parts ===== -/
section M14
variable {Ω : OmT} {n : Nat} {K : KT} {X : XT} {R : RT} {m : Nat} {d : Nat}
set_option maxHeartbeats 2000000 in
theorem m_oneMore (hM : MOk Ω n K R m) {a b : Int} {fl : WT} (hfl : ∀ i, 0 ≤ i → i < 400 → X (m + 16) i = fl i) (hd : Dim (X (m + 1))) (h1 : cellB (X (m + 1)) a = true) (h2 : cellB (X (m + 1)) b = true) (hab : a ≠ b) (hl : 3 ≤ d) : sCt Ω yX4_oneMore cX4_oneMore 8 (some .boolean) d 0 0 [.ref m, vI a, vI b] n K X R (pA n K R (vI (bI (wayB (X (m + 1)) fl a b))) (fun X' => (∀ i, 0 ≤ i → i < 400 → X' (m + 16) i = wayR (X (m + 1)) fl a b i) ∧ sOff [15, 16, 17] m X X')) := by
  obtain ⟨w, hw⟩ : ∃ w, w = X (m + 1) := ⟨_, rfl⟩
  rw [← hw] at hd h1 h2 ⊢
  obtain ⟨a1, a2, -⟩ := cellB_t hd h1
  obtain ⟨b1, b2, -⟩ := cellB_t hd h2
  have hI0 := way0_I (fl := fl) h1 ⟨a1, a2⟩
  refine sCt_of (by decide) (by simp [Value.category, vI, va_rf]) (Nat.le_of_ble_eq_true rfl) fun Γ P9 hP9 h => ?_
  show sG (_, _, _, _, _) Γ 0 0 _ _ _ _ 0 [some _, some _, some _, none, none, none, none, none] []
  refine ss_iconst h dX4_oneMore_0 1 rfl ?_
  refine ss_ist_3 h dX4_oneMore_1 2 rfl ?_
  refine ss_X (X' := sArr X (m + 17) (fun i => if 0 ≤ i ∧ i < 0 then -1 else X (m + 17) i)) ?_ ?_
  · rw [← sArr_id (X := X) (a := m + 17)]
    rw [sArr_sArr]
    refine sArr_c ?_
    funext i
    rw [if_neg (by omega), sArr_s]
  refine ss_loop (σ := Int) (Pp := fun k => sG _ Γ 0 0 n K (sArr X (m + 17) (fun i => if 0 ≤ i ∧ i < k then -1 else X (m + 17) i)) R 2 [some (.ref m), some (vI a), some (vI b), some (vI k), none, none, none, none] []) (I := fun k => 0 ≤ k ∧ k ≤ 100) (fun k => (100 - k).toNat) (fun k hk ih => ?_) 0 (by omega)
  refine ss_iload_n (i := 3) h dX4_oneMore_2 3 rfl rfl rfl ?_
  refine ss_bipush h dX4_oneMore_3 5 rfl (by decide +kernel) ?_
  refine ss_icmp_ge h dX4_oneMore_5 8 21 rfl (by decide) (by first | omega | exact sRg_b _) (by first | omega | exact sRg_b _) (fun c5 => ?_) (fun c5 => ?_)
  · skip
    refine ss_iconst h dX4_oneMore_21 22 rfl ?_
    refine ss_ist_3 h dX4_oneMore_22 23 rfl ?_
    refine ss_aload_n (i := 0) h dX4_oneMore_23 24 rfl rfl rfl ?_
    refine ss_getS h kl4 29 29 rfl (by decide) rfl hM.ob q1116 dX4_oneMore_24 27 rfl hM.r_queue ?_
    refine ss_iload_n (i := 3) h dX4_oneMore_27 28 rfl rfl rfl ?_
    refine ss_iload_n (i := 1) h dX4_oneMore_28 29 rfl rfl rfl ?_
    refine ss_iast h hM.k_queue (by decide) (by omega) (by omega) dX4_oneMore_29 30 rfl ?_
    refine ss_inc_3 h dX4_oneMore_30 33 rfl ?_
    refine ss_aload_n (i := 0) h dX4_oneMore_33 34 rfl rfl rfl ?_
    refine ss_getS h kl4 36 36 rfl (by decide) rfl hM.ob q1123 dX4_oneMore_34 37 rfl hM.r_cameBy ?_
    refine ss_iload_n (i := 1) h dX4_oneMore_37 38 rfl rfl rfl ?_
    refine ss_iconst h dX4_oneMore_38 39 rfl ?_
    refine ss_iast h hM.k_cameBy (by decide) (by omega) (by omega) dX4_oneMore_39 40 rfl ?_
    refine ss_iconst h dX4_oneMore_40 41 rfl ?_
    refine ss_ist_4 h dX4_oneMore_41 43 rfl ?_
    have hk1 : k = 100 := by omega
    subst hk1
    clear ih hk
    obtain ⟨FIN, hFIN⟩ : ∃ F, F = wayS w fl a b := ⟨_, rfl⟩
    have hFI : wayI w fl a FIN := by rw [hFIN]; exact wayS_I hd h1 ⟨a1, a2⟩
    have hWB : wayB w fl a b = decide (FIN.1 b ≠ -1) := by rw [hFIN]; rfl
    have hWR : wayR w fl a b = if wayB w fl a b = true then rtr FIN.1 a 100 b fl else fl := by rw [hFIN]; rfl
    unfold wayS at hFIN
    refine ss_loop (σ := XT × Int × MT) (Pp := fun z => sG _ Γ 0 0 n K z.1 R 43 [some (.ref m), some (vI a), some (vI b), some (vI z.2.2.2.2), some (vI z.2.1), none, none, none] []) (I := fun z => sOff [15, 17] m X z.1 ∧ (0 ≤ z.2.1 ∧ z.2.1 ≤ z.2.2.2.2) ∧ wayI w fl a z.2.2 ∧ (∀ c : Int, 0 ≤ c → c < 100 → z.1 (m + 17) c = z.2.2.1 c) ∧ (∀ k : Int, 0 ≤ k → k < z.2.2.2.2 → z.1 (m + 15) k = z.2.2.2.1 k) ∧ wayF w fl b (100 - z.2.1).toNat z.2.1 z.2.2 = FIN) (fun z => (100 - z.2.1).toNat) (fun z hz ih => ?_) (sUp (sUp (sArr X (m + 17) (fun i => if 0 ≤ i ∧ i < 100 then -1 else X (m + 17) i)) (m + 15) 0 a) (m + 17) a 4, 0, way0 a) ⟨sOff_tr (sOff_arr (by decide)) (sOff_tr (sOff_up (by decide)) (sOff_up (by decide))), by dsimp only [way0]; omega, hI0, ?_, ?_, hFIN.symm⟩
    rotate_left
    · intro c c1 c2
      dsimp only [way0]
      rw [sUp_s, sUp_ne (show m + 17 ≠ m + 15 by omega), sArr_s]
      dsimp only [upW]
      split
      · rfl
      · rw [if_pos ⟨c1, c2⟩]
    · intro k k1 k2
      dsimp only [way0] at k2 ⊢
      rw [sUp_ne (show m + 15 ≠ m + 17 by omega), sUp_s, show k = 0 by omega, upW_s, upW_s]
    obtain ⟨Y, i, s⟩ := z
    dsimp only at hz ih ⊢
    obtain ⟨ho, hi, hI, hC, hQ, hF⟩ := hz
    have w1 : Y (m + 1) = w := by rw [sOff_at ho 1 (by decide), hw]
    have fl1 : ∀ i, 0 ≤ i → i < 400 → Y (m + 16) i = fl i := fun i i1 i2 => by rw [sOff_at ho 16 (by decide)]; exact hfl i i1 i2
    have he : 1 ≤ s.2.2 ∧ s.2.2 ≤ 100 := by have := hI.2.1; have := hI.1; omega
    refine ss_rg fun hrY => ?_
    refine ss_iload h dX4_oneMore_43 45 rfl rfl ?_
    refine ss_iload_n (i := 3) h dX4_oneMore_45 46 rfl rfl rfl ?_
    refine ss_icmp_ge h dX4_oneMore_46 49 180 rfl (by decide) (by first | omega | exact sRg_b _) (by first | omega | exact sRg_b _) (fun c46 => ?_) (fun c46 => ?_)
    · skip
      rw [wayF_end (fun z => absurd z.1 (by omega))] at hF
      refine ss_aload_n (i := 0) h dX4_oneMore_180 181 rfl rfl rfl ?_
      refine ss_getS h kl4 36 36 rfl (by decide) rfl hM.ob q1123 dX4_oneMore_181 184 rfl hM.r_cameBy ?_
      refine ss_iload_n (i := 2) h dX4_oneMore_184 185 rfl rfl rfl ?_
      refine ss_iald h hM.k_cameBy (by decide) (by omega) dX4_oneMore_185 186 rfl ?_
      refine ss_iconst h dX4_oneMore_186 187 rfl ?_
      rw [hC b b1 (by omega)]
      refine ss_icmp_ne h dX4_oneMore_187 190 192 rfl (by decide) (by rw [← hC b b1 (by omega)]; exact hrY _ _) (by omega) (fun c187 => ?_) (fun c187 => ?_)
      · skip
        have hB : wayB w fl a b = true := by rw [hWB, ← hF]; exact decide_eq_true c187
        rw [if_pos hB] at hWR
        rw [← hF] at hWR
        obtain ⟨j, j1, j2, j3⟩ := hI.2.2.2.2 b b1 (by omega) c187
        refine ss_iload_n (i := 2) h dX4_oneMore_192 193 rfl rfl rfl ?_
        refine ss_ist_4 h dX4_oneMore_193 195 rfl ?_
        rw [← j3]
        refine ss_loop (σ := XT × Int × Nat × WT) (Pp := fun z => sG _ Γ 0 0 n K z.1 R 195 [some (.ref m), some (vI a), some (vI (s.2.1 j)), some (vI s.2.2), some (vI (s.2.1 z.2.1)), none, none, none] []) (I := fun z => sOff [16] m Y z.1 ∧ (0 ≤ z.2.1 ∧ z.2.1 < s.2.2) ∧ z.2.1 < z.2.2.1 ∧ rtr s.1 a z.2.2.1 (s.2.1 z.2.1) z.2.2.2 = wayR w fl a b ∧ ∀ i : Int, 0 ≤ i → i < 400 → z.1 (m + 16) i = z.2.2.2 i) (fun z => z.2.1.toNat) (fun z hz ih => ?_) (Y, j, 100, fl) ⟨sOff_rf _ _ _, ⟨j1, j2⟩, by dsimp only; omega, by dsimp only; rw [j3]; exact hWR.symm, fl1⟩
        obtain ⟨Z, k, f, v⟩ := z
        dsimp only at hz ih ⊢
        obtain ⟨zo, hk, hkf, hF2, hv⟩ := hz
        obtain ⟨p1, p2, p3⟩ := hI.2.2.2.1 k hk.1 hk.2
        obtain ⟨q1, q2, -⟩ := cellB_t hd p1
        obtain ⟨f, rfl⟩ : ∃ g, f = g + 1 := ⟨f - 1, by omega⟩
        unfold rtr at hF2
        refine ss_iload h dX4_oneMore_195 197 rfl rfl ?_
        refine ss_iload_n (i := 1) h dX4_oneMore_197 198 rfl rfl rfl ?_
        refine ss_icmp_eq h dX4_oneMore_198 201 272 rfl (by decide) (by first | omega | exact sRg_b _) (by first | omega | exact sRg_b _) (fun c198 => ?_) (fun c198 => ?_)
        · skip
          rw [if_pos c198] at hF2
          refine ss_iconst h dX4_oneMore_272 273 rfl ?_
          refine ss_zret h (by first | omega | exact bI_z _) dX4_oneMore_273 (by omega) (by omega) ?_
          rw [hP9]
          exact ⟨by rw [hB]; rfl, rfl, rfl, rfl, by rw [← hF2]; exact hv, sOff_tr (sOff_mono ho (by decide)) (sOff_mono zo (by decide))⟩
        · skip
          rw [if_neg c198] at hF2
          obtain ⟨d1, -, g, g1, g2, g3⟩ := p3 c198
          obtain ⟨c, hc⟩ : ∃ c, c = s.2.1 k := ⟨_, rfl⟩
          rw [← hc] at d1 g3 hF2 q1 q2 ⊢
          obtain ⟨u, hu⟩ : ∃ u, u = s.1 c := ⟨_, rfl⟩
          rw [← hu] at d1 g3 hF2
          have hpc := cellB_t hd (hI.2.2.2.1 g g1 (by omega)).1
          rw [g3] at hpc
          obtain ⟨pp, hp⟩ : ∃ p, p = prvS c u := ⟨_, rfl⟩
          rw [← hp] at g3 hpc
          have ax := adX_in u
          have ay := adY_in u
          have hop := op_in u
          have hpn : 4 * c + (u + 2) % 4 ≠ 4 * pp + u := by omega
          refine ss_aload_n (i := 0) h dX4_oneMore_201 202 rfl rfl rfl ?_
          refine ss_getS h kl4 36 36 rfl (by decide) rfl hM.ob q1123 dX4_oneMore_202 205 rfl hM.r_cameBy ?_
          refine ss_iload h dX4_oneMore_205 207 rfl rfl ?_
          refine ss_iald h hM.k_cameBy (by decide) (by omega) dX4_oneMore_207 208 rfl ?_
          rw [sOff_at zo 17 (by decide), hC c q1 (by omega), ← hu]
          refine ss_ist_5 h dX4_oneMore_208 210 rfl ?_
          refine ss_iload h dX4_oneMore_210 212 rfl rfl ?_
          refine ss_bipush h dX4_oneMore_212 214 rfl (by decide +kernel) ?_
          refine ss_iload h dX4_oneMore_214 216 rfl rfl ?_
          refine ss_cSv h (m_aheadY (d := d - 1) (by omega)) (lw_S q1383 q1384 q87 q1385) 1 rfl md_X4_aheadY (by omega) (by decide) rfl dX4_oneMore_216 219 rfl rfl (Nat.le_of_ble_eq_true rfl) (by omega) (by omega) ?_
          refine ss_imul h dX4_oneMore_219 220 rfl ?_
          refine ss_isub h dX4_oneMore_220 221 rfl ?_
          refine ss_iload h dX4_oneMore_221 223 rfl rfl ?_
          refine ss_cSv h (m_aheadX (d := d - 1) (by omega)) (lw_S q1380 q1381 q87 q1382) 1 rfl md_X4_aheadX (by omega) (by decide) rfl dX4_oneMore_223 226 rfl rfl (Nat.le_of_ble_eq_true rfl) (by omega) (by omega) ?_
          refine ss_isub h dX4_oneMore_226 227 rfl ?_
          rw [show c - 10 * adY u - adX u = pp by rw [hp]; rfl]
          refine ss_ist_6 h dX4_oneMore_227 229 rfl ?_
          refine ss_aload_n (i := 0) h dX4_oneMore_229 230 rfl rfl rfl ?_
          refine ss_getS h kl4 35 35 rfl (by decide) rfl hM.ob q1122 dX4_oneMore_230 233 rfl hM.r_flow ?_
          refine ss_iconst h dX4_oneMore_233 234 rfl ?_
          refine ss_iload h dX4_oneMore_234 236 rfl rfl ?_
          refine ss_imul h dX4_oneMore_236 237 rfl ?_
          refine ss_iload h dX4_oneMore_237 239 rfl rfl ?_
          refine ss_iadd h dX4_oneMore_239 240 rfl ?_
          refine ss_dup2 h dX4_oneMore_240 241 rfl rfl rfl ?_
          refine ss_iald h hM.k_flow (by decide) (by omega) dX4_oneMore_241 242 rfl ?_
          rw [hv _ (by omega) (by omega)]
          refine ss_iconst h dX4_oneMore_242 243 rfl ?_
          refine ss_iadd h dX4_oneMore_243 244 rfl ?_
          refine ss_wr ?_
          refine ss_iast h hM.k_flow (by decide) (by omega) (sWr_rg _) dX4_oneMore_244 245 rfl ?_
          refine ss_aload_n (i := 0) h dX4_oneMore_245 246 rfl rfl rfl ?_
          refine ss_getS h kl4 35 35 rfl (by decide) rfl hM.ob q1122 dX4_oneMore_246 249 rfl hM.r_flow ?_
          refine ss_iconst h dX4_oneMore_249 250 rfl ?_
          refine ss_iload h dX4_oneMore_250 252 rfl rfl ?_
          refine ss_imul h dX4_oneMore_252 253 rfl ?_
          refine ss_iload h dX4_oneMore_253 255 rfl rfl ?_
          refine ss_iconst h dX4_oneMore_255 256 rfl ?_
          refine ss_iadd h dX4_oneMore_256 257 rfl ?_
          refine ss_iconst h dX4_oneMore_257 258 rfl ?_
          refine ss_irem h dX4_oneMore_258 259 rfl (by omega) (by omega) (by omega) ?_
          rw [show (u + 2).tmod 4 = (u + 2) % 4 from Int.tmod_eq_emod_of_nonneg (by omega)]
          refine ss_iadd h dX4_oneMore_259 260 rfl ?_
          refine ss_dup2 h dX4_oneMore_260 261 rfl rfl rfl ?_
          refine ss_iald h hM.k_flow (by decide) (by omega) dX4_oneMore_261 262 rfl ?_
          rw [sUp_sn hpn, hv _ (by omega) (by omega)]
          refine ss_iconst h dX4_oneMore_262 263 rfl ?_
          refine ss_isub h dX4_oneMore_263 264 rfl ?_
          refine ss_wr ?_
          refine ss_iast h hM.k_flow (by decide) (by omega) (sWr_rg _) dX4_oneMore_264 265 rfl ?_
          refine ss_iload h dX4_oneMore_265 267 rfl rfl ?_
          refine ss_ist_4 h dX4_oneMore_267 269 rfl ?_
          refine ss_goto h dX4_oneMore_269 195 (by decide) ?_
          refine ss_kl_5 (ss_kl_6 (ss_kl_7 ?_))
          have zz := ih (sUp (sUp Z (m + 16) (4 * pp + u) (sWr (v (4 * pp + u) + 1))) (m + 16) (4 * c + (u + 2) % 4) (sWr (v (4 * c + (u + 2) % 4) - 1)), g, f, rtr1 c u v) ⟨sOff_tr zo (sOff_tr (sOff_up (by decide)) (sOff_up (by decide))), by dsimp only; omega, by dsimp only; omega, by dsimp only; rw [g3, hp]; exact hF2, fun i i1 i2 => by dsimp only; unfold rtr1; rw [sUp_s, sUp_s, ← hp]; unfold upW; rw [hv i i1 i2]⟩ (by dsimp only; omega)
          dsimp only at zz
          rw [g3] at zz
          exact zz
      · skip
        have hB : wayB w fl a b = false := by rw [hWB, ← hF, c187]; rfl
        refine ss_iconst h dX4_oneMore_190 191 rfl ?_
        refine ss_zret h (by first | omega | exact bI_z _) dX4_oneMore_191 (by omega) (by omega) ?_
        rw [hP9]
        exact ⟨by rw [hB]; rfl, rfl, rfl, rfl, by rw [hWR, hB]; exact fl1, sOff_mono ho (by decide)⟩
    · skip
      refine ss_aload_n (i := 0) h dX4_oneMore_49 50 rfl rfl rfl ?_
      refine ss_getS h kl4 36 36 rfl (by decide) rfl hM.ob q1123 dX4_oneMore_50 53 rfl hM.r_cameBy ?_
      refine ss_iload_n (i := 2) h dX4_oneMore_53 54 rfl rfl rfl ?_
      refine ss_iald h hM.k_cameBy (by decide) (by omega) dX4_oneMore_54 55 rfl ?_
      refine ss_iconst h dX4_oneMore_55 56 rfl ?_
      refine ss_icmp_ne h dX4_oneMore_56 59 180 rfl (by decide) (hrY _ _) (by omega) (fun c56 => ?_) (fun c56 => ?_)
      · skip
        rw [hC b b1 (by omega)] at c56
        rw [wayF_end (fun z => c56 z.2)] at hF
        refine ss_aload_n (i := 0) h dX4_oneMore_180 181 rfl rfl rfl ?_
        refine ss_getS h kl4 36 36 rfl (by decide) rfl hM.ob q1123 dX4_oneMore_181 184 rfl hM.r_cameBy ?_
        refine ss_iload_n (i := 2) h dX4_oneMore_184 185 rfl rfl rfl ?_
        refine ss_iald h hM.k_cameBy (by decide) (by omega) dX4_oneMore_185 186 rfl ?_
        refine ss_iconst h dX4_oneMore_186 187 rfl ?_
        rw [hC b b1 (by omega)]
        refine ss_icmp_ne h dX4_oneMore_187 190 192 rfl (by decide) (by rw [← hC b b1 (by omega)]; exact hrY _ _) (by omega) (fun c187 => ?_) (fun c187 => ?_)
        · skip
          have hB : wayB w fl a b = true := by rw [hWB, ← hF]; exact decide_eq_true c187
          rw [if_pos hB] at hWR
          rw [← hF] at hWR
          obtain ⟨j, j1, j2, j3⟩ := hI.2.2.2.2 b b1 (by omega) c187
          refine ss_iload_n (i := 2) h dX4_oneMore_192 193 rfl rfl rfl ?_
          refine ss_ist_4 h dX4_oneMore_193 195 rfl ?_
          rw [← j3]
          refine ss_loop (σ := XT × Int × Nat × WT) (Pp := fun z => sG _ Γ 0 0 n K z.1 R 195 [some (.ref m), some (vI a), some (vI (s.2.1 j)), some (vI s.2.2), some (vI (s.2.1 z.2.1)), none, none, none] []) (I := fun z => sOff [16] m Y z.1 ∧ (0 ≤ z.2.1 ∧ z.2.1 < s.2.2) ∧ z.2.1 < z.2.2.1 ∧ rtr s.1 a z.2.2.1 (s.2.1 z.2.1) z.2.2.2 = wayR w fl a b ∧ ∀ i : Int, 0 ≤ i → i < 400 → z.1 (m + 16) i = z.2.2.2 i) (fun z => z.2.1.toNat) (fun z hz ih => ?_) (Y, j, 100, fl) ⟨sOff_rf _ _ _, ⟨j1, j2⟩, by dsimp only; omega, by dsimp only; rw [j3]; exact hWR.symm, fl1⟩
          obtain ⟨Z, k, f, v⟩ := z
          dsimp only at hz ih ⊢
          obtain ⟨zo, hk, hkf, hF2, hv⟩ := hz
          obtain ⟨p1, p2, p3⟩ := hI.2.2.2.1 k hk.1 hk.2
          obtain ⟨q1, q2, -⟩ := cellB_t hd p1
          obtain ⟨f, rfl⟩ : ∃ g, f = g + 1 := ⟨f - 1, by omega⟩
          unfold rtr at hF2
          refine ss_iload h dX4_oneMore_195 197 rfl rfl ?_
          refine ss_iload_n (i := 1) h dX4_oneMore_197 198 rfl rfl rfl ?_
          refine ss_icmp_eq h dX4_oneMore_198 201 272 rfl (by decide) (by first | omega | exact sRg_b _) (by first | omega | exact sRg_b _) (fun c198 => ?_) (fun c198 => ?_)
          · skip
            rw [if_pos c198] at hF2
            refine ss_iconst h dX4_oneMore_272 273 rfl ?_
            refine ss_zret h (by first | omega | exact bI_z _) dX4_oneMore_273 (by omega) (by omega) ?_
            rw [hP9]
            exact ⟨by rw [hB]; rfl, rfl, rfl, rfl, by rw [← hF2]; exact hv, sOff_tr (sOff_mono ho (by decide)) (sOff_mono zo (by decide))⟩
          · skip
            rw [if_neg c198] at hF2
            obtain ⟨d1, -, g, g1, g2, g3⟩ := p3 c198
            obtain ⟨c, hc⟩ : ∃ c, c = s.2.1 k := ⟨_, rfl⟩
            rw [← hc] at d1 g3 hF2 q1 q2 ⊢
            obtain ⟨u, hu⟩ : ∃ u, u = s.1 c := ⟨_, rfl⟩
            rw [← hu] at d1 g3 hF2
            have hpc := cellB_t hd (hI.2.2.2.1 g g1 (by omega)).1
            rw [g3] at hpc
            obtain ⟨pp, hp⟩ : ∃ p, p = prvS c u := ⟨_, rfl⟩
            rw [← hp] at g3 hpc
            have ax := adX_in u
            have ay := adY_in u
            have hop := op_in u
            have hpn : 4 * c + (u + 2) % 4 ≠ 4 * pp + u := by omega
            refine ss_aload_n (i := 0) h dX4_oneMore_201 202 rfl rfl rfl ?_
            refine ss_getS h kl4 36 36 rfl (by decide) rfl hM.ob q1123 dX4_oneMore_202 205 rfl hM.r_cameBy ?_
            refine ss_iload h dX4_oneMore_205 207 rfl rfl ?_
            refine ss_iald h hM.k_cameBy (by decide) (by omega) dX4_oneMore_207 208 rfl ?_
            rw [sOff_at zo 17 (by decide), hC c q1 (by omega), ← hu]
            refine ss_ist_5 h dX4_oneMore_208 210 rfl ?_
            refine ss_iload h dX4_oneMore_210 212 rfl rfl ?_
            refine ss_bipush h dX4_oneMore_212 214 rfl (by decide +kernel) ?_
            refine ss_iload h dX4_oneMore_214 216 rfl rfl ?_
            refine ss_cSv h (m_aheadY (d := d - 1) (by omega)) (lw_S q1383 q1384 q87 q1385) 1 rfl md_X4_aheadY (by omega) (by decide) rfl dX4_oneMore_216 219 rfl rfl (Nat.le_of_ble_eq_true rfl) (by omega) (by omega) ?_
            refine ss_imul h dX4_oneMore_219 220 rfl ?_
            refine ss_isub h dX4_oneMore_220 221 rfl ?_
            refine ss_iload h dX4_oneMore_221 223 rfl rfl ?_
            refine ss_cSv h (m_aheadX (d := d - 1) (by omega)) (lw_S q1380 q1381 q87 q1382) 1 rfl md_X4_aheadX (by omega) (by decide) rfl dX4_oneMore_223 226 rfl rfl (Nat.le_of_ble_eq_true rfl) (by omega) (by omega) ?_
            refine ss_isub h dX4_oneMore_226 227 rfl ?_
            rw [show c - 10 * adY u - adX u = pp by rw [hp]; rfl]
            refine ss_ist_6 h dX4_oneMore_227 229 rfl ?_
            refine ss_aload_n (i := 0) h dX4_oneMore_229 230 rfl rfl rfl ?_
            refine ss_getS h kl4 35 35 rfl (by decide) rfl hM.ob q1122 dX4_oneMore_230 233 rfl hM.r_flow ?_
            refine ss_iconst h dX4_oneMore_233 234 rfl ?_
            refine ss_iload h dX4_oneMore_234 236 rfl rfl ?_
            refine ss_imul h dX4_oneMore_236 237 rfl ?_
            refine ss_iload h dX4_oneMore_237 239 rfl rfl ?_
            refine ss_iadd h dX4_oneMore_239 240 rfl ?_
            refine ss_dup2 h dX4_oneMore_240 241 rfl rfl rfl ?_
            refine ss_iald h hM.k_flow (by decide) (by omega) dX4_oneMore_241 242 rfl ?_
            rw [hv _ (by omega) (by omega)]
            refine ss_iconst h dX4_oneMore_242 243 rfl ?_
            refine ss_iadd h dX4_oneMore_243 244 rfl ?_
            refine ss_wr ?_
            refine ss_iast h hM.k_flow (by decide) (by omega) (sWr_rg _) dX4_oneMore_244 245 rfl ?_
            refine ss_aload_n (i := 0) h dX4_oneMore_245 246 rfl rfl rfl ?_
            refine ss_getS h kl4 35 35 rfl (by decide) rfl hM.ob q1122 dX4_oneMore_246 249 rfl hM.r_flow ?_
            refine ss_iconst h dX4_oneMore_249 250 rfl ?_
            refine ss_iload h dX4_oneMore_250 252 rfl rfl ?_
            refine ss_imul h dX4_oneMore_252 253 rfl ?_
            refine ss_iload h dX4_oneMore_253 255 rfl rfl ?_
            refine ss_iconst h dX4_oneMore_255 256 rfl ?_
            refine ss_iadd h dX4_oneMore_256 257 rfl ?_
            refine ss_iconst h dX4_oneMore_257 258 rfl ?_
            refine ss_irem h dX4_oneMore_258 259 rfl (by omega) (by omega) (by omega) ?_
            rw [show (u + 2).tmod 4 = (u + 2) % 4 from Int.tmod_eq_emod_of_nonneg (by omega)]
            refine ss_iadd h dX4_oneMore_259 260 rfl ?_
            refine ss_dup2 h dX4_oneMore_260 261 rfl rfl rfl ?_
            refine ss_iald h hM.k_flow (by decide) (by omega) dX4_oneMore_261 262 rfl ?_
            rw [sUp_sn hpn, hv _ (by omega) (by omega)]
            refine ss_iconst h dX4_oneMore_262 263 rfl ?_
            refine ss_isub h dX4_oneMore_263 264 rfl ?_
            refine ss_wr ?_
            refine ss_iast h hM.k_flow (by decide) (by omega) (sWr_rg _) dX4_oneMore_264 265 rfl ?_
            refine ss_iload h dX4_oneMore_265 267 rfl rfl ?_
            refine ss_ist_4 h dX4_oneMore_267 269 rfl ?_
            refine ss_goto h dX4_oneMore_269 195 (by decide) ?_
            refine ss_kl_5 (ss_kl_6 (ss_kl_7 ?_))
            have zz := ih (sUp (sUp Z (m + 16) (4 * pp + u) (sWr (v (4 * pp + u) + 1))) (m + 16) (4 * c + (u + 2) % 4) (sWr (v (4 * c + (u + 2) % 4) - 1)), g, f, rtr1 c u v) ⟨sOff_tr zo (sOff_tr (sOff_up (by decide)) (sOff_up (by decide))), by dsimp only; omega, by dsimp only; omega, by dsimp only; rw [g3, hp]; exact hF2, fun i i1 i2 => by dsimp only; unfold rtr1; rw [sUp_s, sUp_s, ← hp]; unfold upW; rw [hv i i1 i2]⟩ (by dsimp only; omega)
            dsimp only at zz
            rw [g3] at zz
            exact zz
        · skip
          have hB : wayB w fl a b = false := by rw [hWB, ← hF, c187]; rfl
          refine ss_iconst h dX4_oneMore_190 191 rfl ?_
          refine ss_zret h (by first | omega | exact bI_z _) dX4_oneMore_191 (by omega) (by omega) ?_
          rw [hP9]
          exact ⟨by rw [hB]; rfl, rfl, rfl, rfl, by rw [hWR, hB]; exact fl1, sOff_mono ho (by decide)⟩
      · skip
        rw [hC b b1 (by omega)] at c56
        obtain ⟨f, hfe⟩ : ∃ f, (100 - i).toNat = f + 1 := ⟨(100 - i).toNat - 1, by omega⟩
        have hfe2 : f = (100 - (i + 1)).toNat := by omega
        rw [hfe] at hF
        unfold wayF at hF
        rw [if_pos ⟨by omega, c56⟩] at hF
        obtain ⟨c, hc⟩ : ∃ c, c = s.2.1 i := ⟨_, rfl⟩
        rw [← hc] at hF
        have hcc : cellB w c = true := by rw [hc]; exact (hI.2.2.2.1 i (by omega) (by omega)).1
        obtain ⟨k1, k2, k3, k4⟩ := cellB_t hd hcc
        obtain ⟨-, hpl⟩ := cell_place hcc
        refine ss_aload_n (i := 0) h dX4_oneMore_59 60 rfl rfl rfl ?_
        refine ss_getS h kl4 29 29 rfl (by decide) rfl hM.ob q1116 dX4_oneMore_60 63 rfl hM.r_queue ?_
        refine ss_iload h dX4_oneMore_63 65 rfl rfl ?_
        refine ss_iald h hM.k_queue (by decide) (by omega) dX4_oneMore_65 66 rfl ?_
        rw [hQ i (by omega) (by omega), ← hc]
        refine ss_ist_5 h dX4_oneMore_66 68 rfl ?_
        refine ss_iconst h dX4_oneMore_68 69 rfl ?_
        refine ss_ist_6 h dX4_oneMore_69 71 rfl ?_
        refine ss_loop (σ := XT × Nat × MT) (Pp := fun z => sG _ Γ 0 0 n K z.1 R 71 [some (.ref m), some (vI a), some (vI b), some (vI z.2.2.2.2), some (vI i), some (vI c), some (vI z.2.1), none] []) (I := fun z => sOff [15, 17] m X z.1 ∧ z.2.1 ≤ 4 ∧ (∀ c : Int, 0 ≤ c → c < 100 → z.1 (m + 17) c = z.2.2.1 c) ∧ (∀ k : Int, 0 ≤ k → k < z.2.2.2.2 → z.1 (m + 15) k = z.2.2.2.1 k) ∧ z.2.2 = way4 w fl c z.2.1 s) (fun z => 4 - z.2.1) (fun z hz il => ?_) (Y, 0, s) ⟨ho, by dsimp only; omega, hC, hQ, rfl⟩
        obtain ⟨Z, u, s2⟩ := z
        dsimp only at hz il ⊢
        obtain ⟨zo, hu, zC, zQ, hz⟩ := hz
        obtain ⟨zI, ze, zq⟩ : wayI w fl a s2 ∧ s.2.2 ≤ s2.2.2 ∧ s2.2.1 i = c := by rw [hz]; exact way4_I hd hcc ⟨hi.1, by omega⟩ hc.symm hI u hu
        have wz : Z (m + 1) = w := by rw [sOff_at zo 1 (by decide), hw]
        have flz : ∀ i, 0 ≤ i → i < 400 → Z (m + 16) i = fl i := fun i i1 i2 => by rw [sOff_at zo 16 (by decide)]; exact hfl i i1 i2
        have he2 : 1 ≤ s2.2.2 ∧ s2.2.2 ≤ 100 := by have := zI.2.1; have := zI.1; omega
        refine ss_iload h dX4_oneMore_71 73 rfl rfl ?_
        refine ss_iconst h dX4_oneMore_73 74 rfl ?_
        refine ss_icmp_ge h dX4_oneMore_74 77 174 rfl (by decide) (by first | omega | exact sRg_b _) (by first | omega | exact sRg_b _) (fun c74 => ?_) (fun c74 => ?_)
        · skip
          have hu4 : u = 4 := by omega
          subst hu4
          have fin2 := ih (Z, i + 1, s2) ⟨zo, by dsimp only; omega, zI, zC, zQ, by dsimp only; rw [← hfe2, hz]; exact hF⟩ (by dsimp only; omega)
          refine ss_inc_4 h dX4_oneMore_174 177 rfl ?_
          refine ss_goto h dX4_oneMore_177 43 (by decide) ?_
          refine ss_kl_5 (ss_kl_6 (ss_kl_7 ?_))
          exact fin2
        · skip
          have hu3 : (0 : Int) ≤ u ∧ (u : Int) ≤ 3 := by omega
          have s1 : way4 w fl c (u + 1) s = way1 w fl c u s2 := by rw [hz]; rfl
          unfold way1 at s1
          have ax := adX_in u
          have ay := adY_in u
          refine ss_rg fun hrZ => ?_
          refine ss_aload_n (i := 0) h dX4_oneMore_77 78 rfl rfl rfl ?_
          refine ss_iload h dX4_oneMore_78 80 rfl rfl ?_
          refine ss_bipush h dX4_oneMore_80 82 rfl (by decide +kernel) ?_
          refine ss_irem h dX4_oneMore_82 83 rfl (by omega) (by omega) (by omega) ?_
          rw [tmod10 c k1]
          refine ss_iload h dX4_oneMore_83 85 rfl rfl ?_
          refine ss_bipush h dX4_oneMore_85 87 rfl (by decide +kernel) ?_
          refine ss_idiv h dX4_oneMore_87 88 rfl (by omega) (by omega) (by omega) ?_
          rw [tdiv10 c k1]
          refine ss_iload h dX4_oneMore_88 90 rfl rfl ?_
          refine ss_cVv h (m_isOpen hM (d := d - 1) (by rw [wz]; exact hd) (by rw [wz]; exact hpl) hu3 (by omega)) (lw_V q1428 q1430 qs72 q87 q1431) kl4 hM.ob 3 rfl md_X4_isOpen rfl (by omega) (by decide) rfl dX4_oneMore_90 93 rfl rfl (Nat.le_of_ble_eq_true rfl) (by omega) (by omega) ?_
          rw [wz]
          refine ss_if_eq h dX4_oneMore_93 96 168 rfl (by decide) (by first | omega | exact sRg_b _) (fun c93 => ?_) (fun c93 => ?_)
          · skip
            replace c93 := bI_0.mp c93
            rw [if_neg (fun z => by rw [c93] at z; exact absurd z.1 (by decide))] at s1
            have fin := il (Z, u + 1, s2) ⟨zo, by dsimp only; omega, zC, zQ, s1.symm⟩ (by dsimp only; omega)
            refine ss_inc_6 h dX4_oneMore_168 171 rfl ?_
            refine ss_goto h dX4_oneMore_171 71 (by decide) ?_
            refine ss_kl_7 ?_
            exact fin
          · skip
            replace c93 := bI_n.mp c93
            have ho2 := c93
            unfold openB at ho2
            rw [Bool.and_eq_true] at ho2
            obtain ⟨n1, n2, n3, n4⟩ := open_next hd hcc hu3 ho2.1
            refine ss_aload_n (i := 0) h dX4_oneMore_96 97 rfl rfl rfl ?_
            refine ss_getS h kl4 35 35 rfl (by decide) rfl hM.ob q1122 dX4_oneMore_97 100 rfl hM.r_flow ?_
            refine ss_iconst h dX4_oneMore_100 101 rfl ?_
            refine ss_iload h dX4_oneMore_101 103 rfl rfl ?_
            refine ss_imul h dX4_oneMore_103 104 rfl ?_
            refine ss_iload h dX4_oneMore_104 106 rfl rfl ?_
            refine ss_iadd h dX4_oneMore_106 107 rfl ?_
            refine ss_iald h hM.k_flow (by decide) (by omega) dX4_oneMore_107 108 rfl ?_
            rw [flz _ (by omega) (by omega)]
            refine ss_iconst h dX4_oneMore_108 109 rfl ?_
            refine ss_icmp_ne h dX4_oneMore_109 112 115 rfl (by decide) (by rw [← flz _ (by omega) (by omega)]; exact hrZ _ _) (by omega) (fun c109 => ?_) (fun c109 => ?_)
            · skip
              refine ss_iload h dX4_oneMore_115 117 rfl rfl ?_
              refine ss_bipush h dX4_oneMore_117 119 rfl (by decide +kernel) ?_
              refine ss_iload h dX4_oneMore_119 121 rfl rfl ?_
              refine ss_cSv h (m_aheadY (d := d - 1) (by omega)) (lw_S q1383 q1384 q87 q1385) 1 rfl md_X4_aheadY (by omega) (by decide) rfl dX4_oneMore_121 124 rfl rfl (Nat.le_of_ble_eq_true rfl) (by omega) (by omega) ?_
              refine ss_imul h dX4_oneMore_124 125 rfl ?_
              refine ss_iadd h dX4_oneMore_125 126 rfl ?_
              refine ss_iload h dX4_oneMore_126 128 rfl rfl ?_
              refine ss_cSv h (m_aheadX (d := d - 1) (by omega)) (lw_S q1380 q1381 q87 q1382) 1 rfl md_X4_aheadX (by omega) (by decide) rfl dX4_oneMore_128 131 rfl rfl (Nat.le_of_ble_eq_true rfl) (by omega) (by omega) ?_
              refine ss_iadd h dX4_oneMore_131 132 rfl ?_
              rw [show c + 10 * adY u + adX u = nextS c u by unfold nextS; omega]
              refine ss_ist_7 h dX4_oneMore_132 134 rfl ?_
              refine ss_aload_n (i := 0) h dX4_oneMore_134 135 rfl rfl rfl ?_
              refine ss_getS h kl4 36 36 rfl (by decide) rfl hM.ob q1123 dX4_oneMore_135 138 rfl hM.r_cameBy ?_
              refine ss_iload h dX4_oneMore_138 140 rfl rfl ?_
              refine ss_iald h hM.k_cameBy (by decide) (by omega) dX4_oneMore_140 141 rfl ?_
              rw [zC _ n2 (by omega)]
              refine ss_iconst h dX4_oneMore_141 142 rfl ?_
              refine ss_icmp_eq h dX4_oneMore_142 145 148 rfl (by decide) (by rw [← zC _ n2 (by omega)]; exact hrZ _ _) (by omega) (fun c142 => ?_) (fun c142 => ?_)
              · skip
                rw [if_pos ⟨c93, c109, c142⟩] at s1
                have hcn := cntN_up (v := (u : Int)) n2 c142 (by omega) 100 (by omega)
                have hzI := zI.2.1
                have fin := il (sUp (sUp Z (m + 17) (nextS c u) u) (m + 15) s2.2.2 (nextS c u), u + 1, (upW s2.1 (nextS c u) u, upW s2.2.1 s2.2.2 (nextS c u), s2.2.2 + 1)) ⟨sOff_tr zo (sOff_tr (sOff_up (by decide)) (sOff_up (by decide))), by dsimp only; omega, ?_, ?_, s1.symm⟩ (by dsimp only; omega)
                rotate_left
                · intro x x1 x2
                  dsimp only
                  rw [sUp_ne (show m + 17 ≠ m + 15 by omega), sUp_s]
                  dsimp only [upW]
                  rw [zC x x1 x2]
                · intro x x1 x2
                  dsimp only at x2 ⊢
                  rw [sUp_s, sUp_ne (show m + 15 ≠ m + 17 by omega)]
                  dsimp only [upW]
                  split
                  · rfl
                  · exact zQ x x1 (by omega)
                refine ss_aload_n (i := 0) h dX4_oneMore_148 149 rfl rfl rfl ?_
                refine ss_getS h kl4 36 36 rfl (by decide) rfl hM.ob q1123 dX4_oneMore_149 152 rfl hM.r_cameBy ?_
                refine ss_iload h dX4_oneMore_152 154 rfl rfl ?_
                refine ss_iload h dX4_oneMore_154 156 rfl rfl ?_
                refine ss_iast h hM.k_cameBy (by decide) (by omega) (by omega) dX4_oneMore_156 157 rfl ?_
                refine ss_aload_n (i := 0) h dX4_oneMore_157 158 rfl rfl rfl ?_
                refine ss_getS h kl4 29 29 rfl (by decide) rfl hM.ob q1116 dX4_oneMore_158 161 rfl hM.r_queue ?_
                refine ss_iload_n (i := 3) h dX4_oneMore_161 162 rfl rfl rfl ?_
                refine ss_iload h dX4_oneMore_162 164 rfl rfl ?_
                refine ss_iast h hM.k_queue (by decide) (by omega) (by omega) dX4_oneMore_164 165 rfl ?_
                refine ss_inc_3 h dX4_oneMore_165 168 rfl ?_
                refine ss_inc_6 h dX4_oneMore_168 171 rfl ?_
                refine ss_goto h dX4_oneMore_171 71 (by decide) ?_
                refine ss_kl_7 ?_
                exact fin
              · skip
                rw [if_neg (fun z => c142 z.2.2)] at s1
                have fin := il (Z, u + 1, s2) ⟨zo, by dsimp only; omega, zC, zQ, s1.symm⟩ (by dsimp only; omega)
                refine ss_goto h dX4_oneMore_145 168 (by decide) ?_
                refine ss_inc_6 h dX4_oneMore_168 171 rfl ?_
                refine ss_goto h dX4_oneMore_171 71 (by decide) ?_
                refine ss_kl_7 ?_
                exact fin
            · skip
              rw [if_neg (fun z => z.2.1 c109)] at s1
              have fin := il (Z, u + 1, s2) ⟨zo, by dsimp only; omega, zC, zQ, s1.symm⟩ (by dsimp only; omega)
              refine ss_goto h dX4_oneMore_112 168 (by decide) ?_
              refine ss_inc_6 h dX4_oneMore_168 171 rfl ?_
              refine ss_goto h dX4_oneMore_171 71 (by decide) ?_
              refine ss_kl_7 ?_
              exact fin
  · skip
    refine ss_aload_n (i := 0) h dX4_oneMore_8 9 rfl rfl rfl ?_
    refine ss_getS h kl4 36 36 rfl (by decide) rfl hM.ob q1123 dX4_oneMore_9 12 rfl hM.r_cameBy ?_
    refine ss_iload_n (i := 3) h dX4_oneMore_12 13 rfl rfl rfl ?_
    refine ss_iconst h dX4_oneMore_13 14 rfl ?_
    refine ss_iast h hM.k_cameBy (by decide) (by omega) (by omega) dX4_oneMore_14 15 rfl ?_
    refine ss_inc_3 h dX4_oneMore_15 18 rfl ?_
    refine ss_goto h dX4_oneMore_18 2 (by decide) ?_
    refine ss_X ?_ (ih _ (by omega) (by omega))
    rw [sArr_sUp]
    refine sArr_c ?_
    funext i
    dsimp only [upW]
    (repeat' split) <;> omega
theorem m_part (hM : MOk Ω n K R m) {a b : Int} (hd : Dim (X (m + 1))) (h1 : sRg a) (h2 : sRg b) (hl : 4 ≤ d) : sCt Ω yX4_part cX4_part 4 (some .int) d 0 0 [.ref m, vI a, vI b] n K X R (pA n K R (vI (prtV (X (m + 1)) a b)) (fun X' => sOff [15, 16, 17] m X X')) := by
  obtain ⟨w, hw⟩ : ∃ w, w = X (m + 1) := ⟨_, rfl⟩
  rw [← hw] at hd ⊢
  refine sCt_of (by decide) (by simp [Value.category, vI, va_rf]) (Nat.le_of_ble_eq_true rfl) fun Γ P9 hP9 h => ?_
  show sG (_, _, _, _, _) Γ 0 0 _ _ _ _ 0 [some _, some _, some _, none] []
  refine ss_aload_n (i := 0) h dX4_part_0 1 rfl rfl rfl ?_
  refine ss_iload_n (i := 1) h dX4_part_1 2 rfl rfl rfl ?_
  refine ss_cVv h (m_isCell hM (d := d - 1) (by rw [← hw]; exact hd) (by omega) (by omega)) (lw_V q1214 q1216 qs40 q87 q1217) kl4 hM.ob 1 rfl md_X4_isCell rfl (by omega) (by decide) rfl dX4_part_2 5 rfl rfl (Nat.le_of_ble_eq_true rfl) (by omega) (by omega) ?_
  rw [← hw]
  refine ss_if_eq h dX4_part_5 8 21 rfl (by decide) (by first | omega | exact sRg_b _) (fun c5 => ?_) (fun c5 => ?_)
  · skip
    replace c5 := bI_0.mp c5
    refine ss_iconst h dX4_part_21 22 rfl ?_
    refine ss_iret h dX4_part_22 (by omega) (by omega) ?_
    rw [hP9]
    exact ⟨by unfold prtV; rw [if_neg (by simp [*, -hw])], rfl, rfl, rfl, sOff_rf _ _ _⟩
  · skip
    replace c5 := bI_n.mp c5
    refine ss_aload_n (i := 0) h dX4_part_8 9 rfl rfl rfl ?_
    refine ss_iload_n (i := 2) h dX4_part_9 10 rfl rfl rfl ?_
    refine ss_cVv h (m_isCell hM (d := d - 1) (by rw [← hw]; exact hd) (by omega) (by omega)) (lw_V q1214 q1216 qs40 q87 q1217) kl4 hM.ob 1 rfl md_X4_isCell rfl (by omega) (by decide) rfl dX4_part_10 13 rfl rfl (Nat.le_of_ble_eq_true rfl) (by omega) (by omega) ?_
    rw [← hw]
    refine ss_if_eq h dX4_part_13 16 21 rfl (by decide) (by first | omega | exact sRg_b _) (fun c13 => ?_) (fun c13 => ?_)
    · skip
      replace c13 := bI_0.mp c13
      refine ss_iconst h dX4_part_21 22 rfl ?_
      refine ss_iret h dX4_part_22 (by omega) (by omega) ?_
      rw [hP9]
      exact ⟨by unfold prtV; rw [if_neg (by simp [*, -hw])], rfl, rfl, rfl, sOff_rf _ _ _⟩
    · skip
      replace c13 := bI_n.mp c13
      refine ss_iload_n (i := 1) h dX4_part_16 17 rfl rfl rfl ?_
      refine ss_iload_n (i := 2) h dX4_part_17 18 rfl rfl rfl ?_
      refine ss_icmp_ne h dX4_part_18 21 23 rfl (by decide) (by first | omega | exact sRg_b _) (by first | omega | exact sRg_b _) (fun c18 => ?_) (fun c18 => ?_)
      · skip
        have ca := cellB_t hd c5
        have cb := cellB_t hd c13
        refine ss_iconst h dX4_part_23 24 rfl ?_
        refine ss_ist_3 h dX4_part_24 25 rfl ?_
        refine ss_X (X' := sArr X (m + 16) (fun i => if 0 ≤ i ∧ i < 0 then 0 else X (m + 16) i)) ?_ ?_
        · rw [← sArr_id (X := X) (a := m + 16)]
          rw [sArr_sArr]
          refine sArr_c ?_
          funext i
          rw [if_neg (by omega), sArr_s]
        refine ss_loop (σ := Int) (Pp := fun k => sG _ Γ 0 0 n K (sArr X (m + 16) (fun i => if 0 ≤ i ∧ i < k then 0 else X (m + 16) i)) R 25 [some (.ref m), some (vI a), some (vI b), some (vI k)] []) (I := fun k => 0 ≤ k ∧ k ≤ 400) (fun k => (400 - k).toNat) (fun k hk ih => ?_) 0 (by omega)
        refine ss_iload_n (i := 3) h dX4_part_25 26 rfl rfl rfl ?_
        refine ss_sipush h dX4_part_26 29 rfl (by decide +kernel) ?_
        refine ss_icmp_ge h dX4_part_29 32 45 rfl (by decide) (by first | omega | exact sRg_b _) (by first | omega | exact sRg_b _) (fun c29 => ?_) (fun c29 => ?_)
        · skip
          refine ss_iconst h dX4_part_45 46 rfl ?_
          refine ss_ist_3 h dX4_part_46 47 rfl ?_
          have hk1 : k = 400 := by omega
          subst hk1
          clear ih hk
          obtain ⟨P0, hP0⟩ : ∃ v, v = prtF w a b 5 0 (fun _ => 0) := ⟨_, rfl⟩
          refine ss_loop (σ := XT × Int × Nat × WT) (Pp := fun z => sG _ Γ 0 0 n K z.1 R 47 [some (.ref m), some (vI a), some (vI b), some (vI z.2.1)] []) (I := fun z => sOff [15, 16, 17] m X z.1 ∧ (0 ≤ z.2.1 ∧ z.2.1 + z.2.2.1 ≤ 5) ∧ ylds z.2.2.2 a ∧ zer z.2.2.2 a < z.2.2.1 ∧ prtF w a b z.2.2.1 z.2.1 z.2.2.2 = P0 ∧ ∀ i : Int, 0 ≤ i → i < 400 → z.1 (m + 16) i = z.2.2.2 i) (fun z => z.2.2.1) (fun z hz ih => ?_) (sArr X (m + 16) (fun i => if 0 ≤ i ∧ i < 400 then 0 else X (m + 16) i), 0, 5, fun _ => 0) ⟨sOff_arr (by decide), by dsimp only; omega, fun _ _ _ => Or.inl rfl, by dsimp only; have := zer_le (fun _ => 0) a; omega, hP0.symm, fun i i1 i2 => by dsimp only; rw [sArr_s, if_pos ⟨i1, i2⟩]⟩
          obtain ⟨Z, k, f, v⟩ := z
          dsimp only at hz ih ⊢
          obtain ⟨zo, hk, hy, hzr, hF, hv⟩ := hz
          have wz : Z (m + 1) = w := by rw [sOff_at zo 1 (by decide), hw]
          obtain ⟨f, rfl⟩ : ∃ g, f = g + 1 := ⟨f - 1, by omega⟩
          unfold prtF at hF
          refine ss_aload_n (i := 0) h dX4_part_47 48 rfl rfl rfl ?_
          refine ss_iload_n (i := 1) h dX4_part_48 49 rfl rfl rfl ?_
          refine ss_iload_n (i := 2) h dX4_part_49 50 rfl rfl rfl ?_
          refine ss_cVa h (m_oneMore hM (d := d - 1) hv (by rw [wz]; exact hd) (by rw [wz]; exact c5) (by rw [wz]; exact c13) c18 (by omega)) (lw_V q1510 q1512 qs79 q87 q1513) kl4 hM.ob 2 rfl md_X4_oneMore rfl (by omega) (by decide) rfl dX4_part_50 53 rfl rfl (Nat.le_of_ble_eq_true rfl) (by omega) (by omega) (fun X50 x50 => ?_)
          obtain ⟨g1, g2⟩ := x50
          rw [wz] at g1 ⊢
          refine ss_if_eq h dX4_part_53 56 62 rfl (by decide) (by first | omega | exact sRg_b _) (fun c53 => ?_) (fun c53 => ?_)
          · skip
            replace c53 := bI_0.mp c53
            rw [if_neg (by rw [c53]; decide)] at hF
            refine ss_iload_n (i := 3) h dX4_part_62 63 rfl rfl rfl ?_
            refine ss_iret h dX4_part_63 (by omega) (by omega) ?_
            rw [hP9]
            exact ⟨by unfold prtV; rw [if_pos ⟨c5, c13, c18⟩, ← hP0, ← hF], rfl, rfl, rfl, sOff_tr zo g2⟩
          · skip
            replace c53 := bI_n.mp c53
            rw [if_pos c53] at hF
            obtain ⟨y1, y2⟩ := wayR_z hd c5 ⟨ca.1, ca.2.1⟩ ⟨cb.1, cb.2.1⟩ c18 hy c53
            refine ss_inc_3 h dX4_part_56 59 rfl ?_
            refine ss_goto h dX4_part_59 47 (by decide) ?_
            exact ih (X50, k + 1, f, wayR w v a b) ⟨sOff_tr zo g2, by dsimp only; omega, y1, by dsimp only; omega, hF, g1⟩ (by dsimp only; omega)
        · skip
          refine ss_aload_n (i := 0) h dX4_part_32 33 rfl rfl rfl ?_
          refine ss_getS h kl4 35 35 rfl (by decide) rfl hM.ob q1122 dX4_part_33 36 rfl hM.r_flow ?_
          refine ss_iload_n (i := 3) h dX4_part_36 37 rfl rfl rfl ?_
          refine ss_iconst h dX4_part_37 38 rfl ?_
          refine ss_iast h hM.k_flow (by decide) (by omega) (by omega) dX4_part_38 39 rfl ?_
          refine ss_inc_3 h dX4_part_39 42 rfl ?_
          refine ss_goto h dX4_part_42 25 (by decide) ?_
          refine ss_X ?_ (ih _ (by omega) (by omega))
          rw [sArr_sUp]
          refine sArr_c ?_
          funext i
          dsimp only [upW]
          (repeat' split) <;> omega
      · skip
        refine ss_iconst h dX4_part_21 22 rfl ?_
        refine ss_iret h dX4_part_22 (by omega) (by omega) ?_
        rw [hP9]
        exact ⟨by unfold prtV; rw [if_neg (by simp [*, -hw])], rfl, rfl, rfl, sOff_rf _ _ _⟩
end M14

