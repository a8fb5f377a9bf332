/-! ===== the component: whole flights ===== -/
section XM5
variable {Ω : OmT} {n : Nat} {K : KT} {X : XT} {R : RT} {l b x : Nat} {z : WT} {d : Nat}
theorem x01_same {w : WT} (hs : sameL z w) (h : x01 z) : x01 w := by
  obtain ⟨h1, h2, h3⟩ := h
  refine ⟨fun c a e => ?_, fun p a e => ?_, fun i a e => ?_⟩
  · rw [hs _ (by unfold lndP; omega), hs (320 + c) (by unfold lndP; omega)]
    exact h1 c a e
  · rw [hs _ (by unfold lndP; omega)]
    exact h2 p a e
  · rw [hs _ (by unfold lndP; omega)]
    exact h3 i a e
theorem SW_sub {S : List Nat} (hs : ∀ a ∈ S, (∃ i, i ≤ 9 ∧ a = b + i) ∨ a = x + 72) {X X' : XT} (h : sO S X X') : sO (SWb b x) X X' := sO_mono h fun o ho => SWb_in.mpr (hs o ho)
set_option maxHeartbeats 4000000 in
theorem x_flies (hE : EW Ω n K R x l b) (hv : EVs Ω n K X R z x l) (vB : WV z X b) (hf : flyOK z) (h01 : x01 z) {s : Int} (hs : 0 ≤ s ∧ s < z 4) (hl : 415 ≤ d) : sCt Ω yX3_flies cX3_flies 11 none d 0 0 [.ref b, .ref l, vI s] n K X R (pN n K R (fun X' => WV (flyO false z s).1 X' b ∧ X' (b + 4) = upW (X (b + 4)) s (flyO false z s).2.1 ∧ X' (b + 5) = upW (X (b + 5)) s (flyO false z s).2.2.1 ∧ X' (b + 7) = upW (X (b + 7)) s (flyO false z s).2.2.2.1 ∧ X' (b + 6) = upW (X (b + 6)) s (flyO false z s).2.2.2.2 ∧ sO [b, b + 1, b + 2, b + 3, b + 4, b + 5, b + 6, b + 7, x + 72] X X')) := by
  obtain ⟨FIN, hFIN⟩ : ∃ F, F = flyO false z s := ⟨_, rfl⟩
  rw [← hFIN]
  unfold flyO at hFIN
  have h4 := hf.2.1
  obtain ⟨sa, hsr, hso, hsv0, hsv1, hsv2, hsv3, hsv4⟩ := hv.2.1 s hs
  obtain ⟨s1, s2, s3, s4⟩ := hf.2.2.2.2.1 s hs.1 hs.2
  have s1' := pointB_t.mp s1
  have hd0 := hf.1
  unfold Dim at hd0
  obtain ⟨len, hlen⟩ : ∃ a, a = z (1855 + 5 * s + 3) := ⟨_, rfl⟩
  obtain ⟨hb, hhb⟩ : ∃ a, a = z (1855 + 5 * s + 4) := ⟨_, rfl⟩
  rw [← hlen] at s3 hFIN hsv3
  rw [← hhb] at s4 hFIN
  refine sCt_of (by decide) (by simp [Value.category, vI, va_rf]) (Nat.le_of_ble_eq_true rfl) fun Γ P9 hP9 h => ?_
  show sG (_, _, _, _, _) Γ 0 0 _ _ _ _ 0 [some _, some _, some _, none, none, none, none, none, none, none, none] []
  obtain ⟨eA, eZ, eT⟩ := kz_EAST h.2.2.2.2.2.1.1
  obtain ⟨sA, sZ, sT⟩ := kz_SOUTH h.2.2.2.2.2.1.1
  have sw5 : ∀ a ∈ [b, b + 1, b + 2, b + 3, x + 72], (∃ i, i ≤ 9 ∧ a = b + i) ∨ a = x + 72 := by
    intro a ha
    simp only [List.mem_cons, List.not_mem_nil, or_false] at ha
    rcases ha with h | h | h | h | h
    · exact Or.inl ⟨0, by omega, h⟩
    · exact Or.inl ⟨1, by omega, h⟩
    · exact Or.inl ⟨2, by omega, h⟩
    · exact Or.inl ⟨3, by omega, h⟩
    · exact Or.inr h
  refine ss_aload_n (i := 1) h dX3_flies_0 1 rfl rfl rfl ?_
  refine ss_getS h kl2 24 24 rfl (by decide) rfl hE.2.1.ob q223 dX3_flies_1 4 rfl hE.2.1.r_swallow ?_
  refine ss_iload_n (i := 2) h dX3_flies_4 5 rfl rfl rfl ?_
  refine ss_aaldS h hE.2.1.k_swallow (by decide) (by decide) rfl (by decide) (by omega) dX3_flies_5 6 rfl (hsr) ?_
  refine ss_getIV h kl5 0 0 rfl (by decide) rfl hso q821 dX3_flies_6 9 rfl (hsv0) ?_
  refine ss_ist_3 h dX3_flies_9 10 rfl ?_
  refine ss_aload_n (i := 1) h dX3_flies_10 11 rfl rfl rfl ?_
  refine ss_getS h kl2 24 24 rfl (by decide) rfl hE.2.1.ob q223 dX3_flies_11 14 rfl hE.2.1.r_swallow ?_
  refine ss_iload_n (i := 2) h dX3_flies_14 15 rfl rfl rfl ?_
  refine ss_aaldS h hE.2.1.k_swallow (by decide) (by decide) rfl (by decide) (by omega) dX3_flies_15 16 rfl (hsr) ?_
  refine ss_getIV h kl5 1 1 rfl (by decide) rfl hso q823 dX3_flies_16 19 rfl (hsv1) ?_
  refine ss_ist_4 h dX3_flies_19 21 rfl ?_
  refine ss_aload_n (i := 1) h dX3_flies_21 22 rfl rfl rfl ?_
  refine ss_getS h kl2 24 24 rfl (by decide) rfl hE.2.1.ob q223 dX3_flies_22 25 rfl hE.2.1.r_swallow ?_
  refine ss_iload_n (i := 2) h dX3_flies_25 26 rfl rfl rfl ?_
  refine ss_aaldS h hE.2.1.k_swallow (by decide) (by decide) rfl (by decide) (by omega) dX3_flies_26 27 rfl (hsr) ?_
  refine ss_getIV h kl5 2 2 rfl (by decide) rfl hso q825 dX3_flies_27 30 rfl (hsv2) ?_
  refine ss_ist_5 h dX3_flies_30 32 rfl ?_
  refine ss_aload_n (i := 1) h dX3_flies_32 33 rfl rfl rfl ?_
  refine ss_getS h kl2 24 24 rfl (by decide) rfl hE.2.1.ob q223 dX3_flies_33 36 rfl hE.2.1.r_swallow ?_
  refine ss_iload_n (i := 2) h dX3_flies_36 37 rfl rfl rfl ?_
  refine ss_aaldS h hE.2.1.k_swallow (by decide) (by decide) rfl (by decide) (by omega) dX3_flies_37 38 rfl (hsr) ?_
  refine ss_getIV h kl5 3 3 rfl (by decide) rfl hso q827 dX3_flies_38 41 rfl (hsv3) ?_
  refine ss_ist_6 h dX3_flies_41 43 rfl ?_
  refine ss_cut (σ := XT × WT × Int × Int × Int × Int × Int) (fun s9 => (s9.2.1, s9.2.2.1, s9.2.2.2.1, s9.2.2.2.2.1, s9.2.2.2.2.2.1) = FIN ∧ WV s9.2.1 s9.1 b ∧ sO [b, b + 1, b + 2, b + 3, x + 72] X s9.1 ∧ (sRg s9.2.2.1 ∧ sRg s9.2.2.2.1 ∧ sRg s9.2.2.2.2.1 ∧ sRg s9.2.2.2.2.2.1)) 255 (fun s9 => s9.1) (fun s9 => [some (.ref b), some (.ref l), some (vI s), some (vI s9.2.2.1), some (vI s9.2.2.2.1), some (vI s9.2.2.2.2.1), some (vI s9.2.2.2.2.2.2), some (vI s9.2.2.2.2.2.1), none, none, none]) (fun s9 => []) (fun s9 h255 => ?_) (fun J255 => ?_)
  · skip
    obtain ⟨Y, w, p, q, u, st, rest⟩ := s9
    dsimp only at h255 ⊢
    obtain ⟨hF, vBF, hoff, hr1, hr2, hr3, hr4⟩ := h255
    refine ss_aload_n (i := 0) h dX3_flies_255 256 rfl rfl rfl ?_
    refine ss_getS h kl3 3 3 rfl (by decide) rfl hE.2.2.1.ob q290 dX3_flies_256 259 rfl hE.2.2.1.r_endX ?_
    refine ss_iload_n (i := 2) h dX3_flies_259 260 rfl rfl rfl ?_
    refine ss_iload_n (i := 3) h dX3_flies_260 261 rfl rfl rfl ?_
    refine ss_iast h hE.2.2.1.k_endX (by decide) (by omega) (by omega) dX3_flies_261 262 rfl ?_
    refine ss_aload_n (i := 0) h dX3_flies_262 263 rfl rfl rfl ?_
    refine ss_getS h kl3 4 4 rfl (by decide) rfl hE.2.2.1.ob q292 dX3_flies_263 266 rfl hE.2.2.1.r_endY ?_
    refine ss_iload_n (i := 2) h dX3_flies_266 267 rfl rfl rfl ?_
    refine ss_iload h dX3_flies_267 269 rfl rfl ?_
    refine ss_iast h hE.2.2.1.k_endY (by decide) (by omega) (by omega) dX3_flies_269 270 rfl ?_
    refine ss_aload_n (i := 0) h dX3_flies_270 271 rfl rfl rfl ?_
    refine ss_getS h kl3 5 5 rfl (by decide) rfl hE.2.2.1.ob q294 dX3_flies_271 274 rfl hE.2.2.1.r_endSteps ?_
    refine ss_iload_n (i := 2) h dX3_flies_274 275 rfl rfl rfl ?_
    refine ss_iload h dX3_flies_275 277 rfl rfl ?_
    refine ss_iast h hE.2.2.1.k_endSteps (by decide) (by omega) (by omega) dX3_flies_277 278 rfl ?_
    refine ss_aload_n (i := 0) h dX3_flies_278 279 rfl rfl rfl ?_
    refine ss_getS h kl3 6 6 rfl (by decide) rfl hE.2.2.1.ob q296 dX3_flies_279 282 rfl hE.2.2.1.r_endHeading ?_
    refine ss_iload_n (i := 2) h dX3_flies_282 283 rfl rfl rfl ?_
    refine ss_iload h dX3_flies_283 285 rfl rfl ?_
    refine ss_iast h hE.2.2.1.k_endHeading (by decide) (by omega) (by omega) dX3_flies_285 286 rfl ?_
    refine ss_vret h dX3_flies_286 (by omega) (by omega) ?_
    rw [hP9]
    have nb := fun i (hi : i ≤ 9) => hE.1.has_neb hE.2.2.1 hi
    have o4 := hoff (b + 4) (by simp; exact ⟨by omega, nb 4 (by omega)⟩)
    have o5 := hoff (b + 5) (by simp; exact ⟨by omega, nb 5 (by omega)⟩)
    have o6 := hoff (b + 6) (by simp; exact ⟨by omega, nb 6 (by omega)⟩)
    have o7 := hoff (b + 7) (by simp; exact ⟨by omega, nb 7 (by omega)⟩)
    subst hF
    refine ⟨rfl, rfl, rfl, rfl, ?_, ?_, ?_, ?_, ?_, ?_⟩
    · refine vBF.keep fun i hi => ?_
      rw [sUp_ne (by omega), sUp_ne (by omega), sUp_ne (by omega), sUp_ne (by omega)]
    · rw [sUp_ne (by omega), sUp_ne (by omega), sUp_ne (by omega), sUp_s, o4]
    · rw [sUp_ne (by omega), sUp_ne (by omega), sUp_s, sUp_ne (by omega), o5]
    · rw [sUp_s, sUp_ne (by omega), sUp_ne (by omega), sUp_ne (by omega), o7]
    · rw [sUp_ne (by omega), sUp_s, sUp_ne (by omega), sUp_ne (by omega), o6]
    · exact sO_tr (sO_mono hoff (by simp)) (sO_tr (sO_tr (sO_tr (sO_up (by simp)) (sO_up (by simp))) (sO_up (by simp))) (sO_up (by simp)))
  refine ss_iconst h dX3_flies_43 44 rfl ?_
  refine ss_ist_7 h dX3_flies_44 46 rfl ?_
  refine ss_loop (σ := XT × WT × Int × Int × Int × Int) (Pp := fun y => sG _ Γ 0 0 n K y.1 R 46 [some (.ref b), some (.ref l), some (vI s), some (vI y.2.2.1), some (vI y.2.2.2.1), some (vI y.2.2.2.2.1), some (vI (len - y.2.2.2.2.2)), some (vI y.2.2.2.2.2), none, none, none] []) (I := fun y => EVs Ω n K y.1 R y.2.1 x l ∧ WV y.2.1 y.1 b ∧ flyOK y.2.1 ∧ sameL z y.2.1 ∧ sO [b, b + 1, b + 2, b + 3, x + 72] X y.1 ∧ pointB y.2.1 y.2.2.1 y.2.2.2.1 = true ∧ (0 ≤ y.2.2.2.2.1 ∧ y.2.2.2.2.1 ≤ 3) ∧ (0 ≤ y.2.2.2.2.2 ∧ y.2.2.2.2.2 ≤ len) ∧ flyS false s len hb (len - y.2.2.2.2.2).toNat y.2.1 y.2.2.1 y.2.2.2.1 y.2.2.2.2.1 y.2.2.2.2.2 = FIN) (fun y => (len - y.2.2.2.2.2).toNat) (fun y hy ih => ?_) (X, z, z (1855 + 5 * s), z (1855 + 5 * s + 1), z (1855 + 5 * s + 2), 0) ⟨hv, vB, hf, sameL_rf _, sO_rf _ _, s1, s2, by dsimp only; omega, by dsimp only; rw [Int.sub_zero]; exact hFIN.symm⟩
  clear hFIN s1 s2 s1'
  obtain ⟨Y, w, p, q, u, st⟩ := y
  dsimp only at hy ih ⊢
  obtain ⟨evY, vBY, fY, sY, oY, pY, hu, hst, hfl⟩ := hy
  refine ss_rg fun hrY => ?_
  have pY' := pointB_t.mp pY
  have dY : Dim w := fY.1
  have dY' := dY
  unfold Dim at dY'
  have lenY : w (1855 + 5 * s + 3) = len := by rw [hlen]; exact sY _ (by unfold lndP; omega)
  have hbY : w (1855 + 5 * s + 4) = hb := by rw [hhb]; exact sY _ (by unfold lndP; omega)
  have w4 : w 4 = z 4 := sY _ (by unfold lndP; omega)
  have w01 := x01_same sY h01
  skip
  refine ss_iload h dX3_flies_46 48 rfl rfl ?_
  refine ss_if_le h dX3_flies_48 51 255 rfl (by decide) (by first | omega | exact sRg_b _) (fun c48 => ?_) (fun c48 => ?_)
  · skip
    rw [show (len - st).toNat = 0 by omega] at hfl
    have fin255 := J255 (Y, w, p, q, u, st, len - st) ⟨hfl, vBY, oY, by dsimp only; omega⟩
    refine ss_kl_8 (ss_kl_9 (ss_kl_10 ?_))
    exact fin255
  · skip
    obtain ⟨f, hfe⟩ : ∃ f, (len - st).toNat = f + 1 := ⟨(len - st).toNat - 1, by omega⟩
    have hfe2 : f = (len - (st + 1)).toNat := by omega
    rw [hfe] at hfl
    unfold flyS at hfl
    obtain ⟨T, hTe⟩ : ∃ T, T = toldS w hb (fctS w p q u st len s) := ⟨_, rfl⟩
    rw [← hTe] at hfl
    have hT4 : 0 ≤ T ∧ T ≤ 4 := by rw [hTe]; exact toldS_in _ (fY.2.2.2.2.2 hb s4.1 s4.2)
    refine ss_aload_n (i := 0) h dX3_flies_51 52 rfl rfl rfl ?_
    refine ss_aload_n (i := 1) h dX3_flies_52 53 rfl rfl rfl ?_
    refine ss_iload_n (i := 2) h dX3_flies_53 54 rfl rfl rfl ?_
    refine ss_iload_n (i := 3) h dX3_flies_54 55 rfl rfl rfl ?_
    refine ss_iload h dX3_flies_55 57 rfl rfl ?_
    refine ss_iload h dX3_flies_57 59 rfl rfl ?_
    refine ss_iload h dX3_flies_59 61 rfl rfl ?_
    refine ss_iload h dX3_flies_61 63 rfl rfl ?_
    refine ss_cVa h (x_wordFor hE evY vBY fY (d := d - 1) (len := len) (by omega) pY hu (by omega) rfl (by omega) (by omega)) (lw_V q853 q855 qs21 q86 q856) kl3 hE.2.2.1.ob 7 rfl md_X3_wordFor rfl (by omega) (by decide) rfl dX3_flies_63 66 rfl rfl (Nat.le_of_ble_eq_true rfl) (by omega) (by omega) (fun X63 x63 => ?_)
    rw [hbY, ← hTe]
    obtain ⟨gh, e63⟩ := x63
    obtain ⟨ev2, vB2⟩ := has_keep hE evY vBY gh
    rw [← e63] at ev2 vB2
    have o63 : sO [b, b + 1, b + 2, b + 3, x + 72] X X63 := sO_tr oY (fun a ha => by rw [e63]; exact sArr_n (fun e => ha (by simp [e])))
    clear e63
    refine ss_ist_8 h dX3_flies_66 68 rfl ?_
    refine ss_iload h dX3_flies_68 70 rfl rfl ?_
    refine ss_iconst h dX3_flies_70 71 rfl ?_
    refine ss_icmp_ne h dX3_flies_71 74 77 rfl (by decide) (by first | omega | exact sRg_b _) (by first | omega | exact sRg_b _) (fun c71 => ?_) (fun c71 => ?_)
    · skip
      rw [if_neg c71] at hfl
      dsimp only at hfl
      have hm01 := w01.2.1 (11 * q + p) (by omega) (by omega)
      have hme : w (720 + (11 * q + p)) = w (720 + 11 * q + p) := by rw [show (720 : Int) + (11 * q + p) = 720 + 11 * q + p by omega]
      rw [hme] at hm01
      refine ss_cut (σ := Int) (fun t => t = if w (720 + 11 * q + p) = 1 ∧ T.tmod 2 = 1 then 1 else 0) 105 (fun t => X63) (fun t => [some (.ref b), some (.ref l), some (vI s), some (vI p), some (vI q), some (vI u), some (vI (len - st)), some (vI st), some (vI T), none, none]) (fun t => [vI t]) (fun t h105 => ?_) (fun J105 => ?_)
      · skip
        refine ss_ist_9 h dX3_flies_105 107 rfl ?_
        have ht01 : t = 0 ∨ t = 1 := by rw [h105]; split <;> omega
        refine ss_cut (σ := Int) (fun r => r = turnS w p q T) 123 (fun r => X63) (fun r => [some (.ref b), some (.ref l), some (vI s), some (vI p), some (vI q), some (vI u), some (vI (len - st)), some (vI st), some (vI T), some (vI t), none]) (fun r => [vI r, vI u]) (fun r h123 => ?_) (fun J123 => ?_)
        · skip
          rw [← h123] at hfl
          have hr4 : 0 ≤ r ∧ r ≤ 4 := by rw [h123]; exact turn_in _ _ _ hT4
          have hu2 := head_in hu hr4
          refine ss_iadd h dX3_flies_123 124 rfl ?_
          refine ss_iconst h dX3_flies_124 125 rfl ?_
          refine ss_irem h dX3_flies_125 126 rfl (by omega) (by omega) (by omega) ?_
          obtain ⟨v, hv9⟩ : ∃ v, v = (u + r).tmod 4 := ⟨_, rfl⟩
          rw [← hv9] at hfl hu2 ⊢
          have ax := adX_in v
          have ay := adY_in v
          refine ss_ist_5 h dX3_flies_126 128 rfl ?_
          refine ss_aload_n (i := 1) h dX3_flies_128 129 rfl rfl rfl ?_
          refine ss_iload_n (i := 3) h dX3_flies_129 130 rfl rfl rfl ?_
          refine ss_getsN h eZ q857 dX3_flies_130 133 rfl ?_
          refine ss_iload h dX3_flies_133 135 rfl rfl ?_
          refine ss_ialdC h eT (by decide) (by omega) (east_at (by omega)) dX3_flies_135 136 rfl ?_
          refine ss_iadd h dX3_flies_136 137 rfl ?_
          refine ss_iload h dX3_flies_137 139 rfl rfl ?_
          refine ss_getsN h sZ q859 dX3_flies_139 142 rfl ?_
          refine ss_iload h dX3_flies_142 144 rfl rfl ?_
          refine ss_ialdC h sT (by decide) (by omega) (south_at (by omega)) dX3_flies_144 145 rfl ?_
          refine ss_iadd h dX3_flies_145 146 rfl ?_
          refine ss_cVv h (x_isPoint hE.2.1 ev2.1 (d := d - 1) dY (by omega) (by omega) (by omega)) (lw_V q861 q803 q804 q84 q805) kl2 hE.2.1.ob 2 rfl md_X2_isPoint rfl (by omega) (by decide) rfl dX3_flies_146 149 rfl rfl (Nat.le_of_ble_eq_true rfl) (by omega) (by omega) ?_
          refine ss_if_ne h dX3_flies_149 152 155 rfl (by decide) (by first | omega | exact sRg_b _) (fun c149 => ?_) (fun c149 => ?_)
          · skip
            replace c149 := bI_1.mp c149
            rw [if_pos c149] at hfl
            have yd := yard_in dY hu2 pY c149
            have c149' := pointB_t.mp c149
            obtain ⟨mk1, mk2⟩ := mark_same w s st yd
            have fW := flyOK_same mk1 (by rw [mk2]; exact fY.2.2.1) fY
            obtain ⟨W1, hW1⟩ : ∃ W, W = markS w s (yardS p q v) st := ⟨_, rfl⟩
            rw [← hW1] at hfl mk1 mk2 fW
            have pW : pointB W1 (p + adX v) (q + adY v) = true := by rw [pointB_same mk1]; exact c149
            refine ss_aload_n (i := 0) h dX3_flies_155 156 rfl rfl rfl ?_
            refine ss_iload_n (i := 3) h dX3_flies_156 157 rfl rfl rfl ?_
            refine ss_iload h dX3_flies_157 159 rfl rfl ?_
            refine ss_iload h dX3_flies_159 161 rfl rfl ?_
            refine ss_cVv h (x_yardOf (d := d - 1) hu2) (lw_V q886 q887 q888 q86 q889) kl3 hE.2.2.1.ob 3 rfl md_X3_yardOf rfl (by omega) (by decide) rfl dX3_flies_161 164 rfl rfl (Nat.le_of_ble_eq_true rfl) (by omega) (by omega) ?_
            refine ss_ist_10 h dX3_flies_164 166 rfl ?_
            refine ss_rg fun hr2 => ?_
            refine ss_cut (σ := XT) (fun Z => WV W1 Z b ∧ sO [b, b + 1, b + 2, b + 3, x + 72] X Z ∧ EVs Ω n K Z R W1 x l) 194 (fun Z => Z) (fun Z => [some (.ref b), some (.ref l), some (vI s), some (vI p), some (vI q), some (vI v), some (vI (len - st)), some (vI st), some (vI T), some (vI t), some (vI (yardS p q v))]) (fun Z => []) (fun Z h194 => ?_) (fun J194 => ?_)
            · skip
              obtain ⟨z1, z2, z3⟩ := h194
              refine ss_iload_n (i := 3) h dX3_flies_194 195 rfl rfl rfl ?_
              refine ss_getsN h eZ q857 dX3_flies_195 198 rfl ?_
              refine ss_iload h dX3_flies_198 200 rfl rfl ?_
              refine ss_ialdC h eT (by decide) (by omega) (east_at (by omega)) dX3_flies_200 201 rfl ?_
              refine ss_iadd h dX3_flies_201 202 rfl ?_
              refine ss_ist_3 h dX3_flies_202 203 rfl ?_
              refine ss_iload h dX3_flies_203 205 rfl rfl ?_
              refine ss_getsN h sZ q859 dX3_flies_205 208 rfl ?_
              refine ss_iload h dX3_flies_208 210 rfl rfl ?_
              refine ss_ialdC h sT (by decide) (by omega) (south_at (by omega)) dX3_flies_210 211 rfl ?_
              refine ss_iadd h dX3_flies_211 212 rfl ?_
              refine ss_ist_4 h dX3_flies_212 214 rfl ?_
              refine ss_aload_n (i := 0) h dX3_flies_214 215 rfl rfl rfl ?_
              refine ss_aload_n (i := 0) h dX3_flies_215 216 rfl rfl rfl ?_
              refine ss_aload_n (i := 1) h dX3_flies_216 217 rfl rfl rfl ?_
              refine ss_iload_n (i := 3) h dX3_flies_217 218 rfl rfl rfl ?_
              refine ss_iload h dX3_flies_218 220 rfl rfl ?_
              refine ss_iload_n (i := 2) h dX3_flies_220 221 rfl rfl rfl ?_
              refine ss_cVv h (x_otherAt hE.2.1 z3.1 hE.2.2.1 z1 (d := d - 1) fW.1 pW (by omega) (by omega)) (lw_V q911 q913 qs24 q86 q914) kl3 hE.2.2.1.ob 4 rfl md_X3_otherAt rfl (by omega) (by decide) rfl dX3_flies_221 224 rfl rfl (Nat.le_of_ble_eq_true rfl) (by omega) (by omega) ?_
              obtain ⟨O, hO⟩ : ∃ O, O = othS W1 s (p + adX v) (q + adY v) := ⟨_, rfl⟩
              rw [← hO] at hfl ⊢
              refine ss_rg fun hrZ => ?_
              have hOr : sRg O := by
                rw [hO]
                exact othN_rg2 fW.1 pW (fun c hc => by rw [← z1.v_owner hc]; exact hrZ _ _) 4 (by omega)
              obtain ⟨W2, hW2⟩ : ∃ W, W = (if O = -1 then W1 else sueS false W1 s O (p + adX v) (q + adY v) st) := ⟨_, rfl⟩
              rw [← hW2] at hfl
              have hs2 : sameL W1 W2 ∧ 0 ≤ W2 6 ∧ W2 6 ≤ 99 := by
                rw [hW2]
                split
                · exact ⟨sameL_rf _, fW.2.2.1⟩
                · exact sue_same false W1 s _ _ _ _ fW.2.2.1
              have fW2 := flyOK_same hs2.1 hs2.2 fW
              refine ss_iload_n (i := 2) h dX3_flies_224 225 rfl rfl rfl ?_
              refine ss_iload_n (i := 3) h dX3_flies_225 226 rfl rfl rfl ?_
              refine ss_iload h dX3_flies_226 228 rfl rfl ?_
              refine ss_iload h dX3_flies_228 230 rfl rfl ?_
              refine ss_cVn h (x_sues hE.2.2.1 z1 (d := d - 1) fW.2.2.1 hOr (by omega) (by omega) (by omega) (by omega)) (lw_V q915 q917 qs25 q86 q918) kl3 hE.2.2.1.ob 5 rfl md_X3_sues rfl (by omega) (by decide) rfl dX3_flies_230 233 rfl rfl (Nat.le_of_ble_eq_true rfl) (by omega) (by omega) (fun X230 x230 => ?_)
              obtain ⟨y1, y2⟩ := x230
              rw [← hW2] at y1
              have y2' : sO [b, b + 1, b + 2, b + 3, x + 72] Z X230 := sO_mono y2 (by simp)
              have y3 : EVs Ω n K X230 R W2 x l := EVs_keep hE (SW_sub sw5 y2') (EVs_same hs2.1 fW z3)
              have y4 : sO [b, b + 1, b + 2, b + 3, x + 72] X X230 := sO_tr z2 y2'
              refine ss_inc_7 h dX3_flies_233 236 rfl ?_
              refine ss_inc_6 h dX3_flies_236 239 rfl ?_
              refine ss_aload_n (i := 1) h dX3_flies_239 240 rfl rfl rfl ?_
              refine ss_iload_n (i := 3) h dX3_flies_240 241 rfl rfl rfl ?_
              refine ss_iload h dX3_flies_241 243 rfl rfl ?_
              refine ss_cVv h (x_hasCat hE.2.1 y3.1 (d := d - 1) fW2.1 (x01_same (sameL_tr mk1 hs2.1) w01) (by omega) (by omega) (by omega)) (lw_V q919 q920 q921 q84 q922) kl2 hE.2.1.ob 2 rfl md_X2_hasCat rfl (by omega) (by decide) rfl dX3_flies_243 246 rfl rfl (Nat.le_of_ble_eq_true rfl) (by omega) (by omega) ?_
              refine ss_if_eq h dX3_flies_246 249 252 rfl (by decide) (by first | omega | exact sRg_b _) (fun c246 => ?_) (fun c246 => ?_)
              · skip
                replace c246 := bI_0.mp c246
                rw [if_neg (by rw [c246]; decide), hfe2] at hfl
                refine ss_goto h dX3_flies_252 46 (by decide) ?_
                refine ss_kl_8 (ss_kl_9 (ss_kl_10 ?_))
                have fin := ih (X230, W2, p + adX v, q + adY v, v, st + 1) ⟨y3, y1, fW2, sameL_tr sY (sameL_tr mk1 hs2.1), y4, by dsimp only; rw [pointB_same hs2.1]; exact pW, hu2, by dsimp only; omega, hfl⟩ (by dsimp only; omega)
                rw [show len - (st + 1) = len - st + -1 by omega] at fin
                exact fin
              · skip
                replace c246 := bI_n.mp c246
                rw [if_pos c246] at hfl
                have fin255 := J255 (X230, W2, p + adX v, q + adY v, v, st + 1, len - st + -1) ⟨hfl, y1, y4, by dsimp only; omega⟩
                refine ss_goto h dX3_flies_249 255 (by decide) ?_
                refine ss_kl_8 (ss_kl_9 (ss_kl_10 ?_))
                exact fin255
            refine ss_aload_n (i := 0) h dX3_flies_166 167 rfl rfl rfl ?_
            refine ss_getS h kl3 0 0 rfl (by decide) rfl hE.2.2.1.ob q284 dX3_flies_167 170 rfl hE.2.2.1.r_owner ?_
            refine ss_iload h dX3_flies_170 172 rfl rfl ?_
            refine ss_ialdV h hE.2.2.1.k_owner (by decide) (by omega) dX3_flies_172 173 rfl (vB2.v_owner (by omega)) ?_
            refine ss_iconst h dX3_flies_173 174 rfl ?_
            refine ss_icmp_ne h dX3_flies_174 177 194 rfl (by decide) (by rw [← vB2.v_owner (c := yardS p q v) (by omega)]; exact hr2 _ _) (by omega) (fun c174 => ?_) (fun c174 => ?_)
            · skip
              have e194 : WV W1 X63 b ∧ sO [b, b + 1, b + 2, b + 3, x + 72] X X63 ∧ EVs Ω n K X63 R W1 x l := ⟨by rw [hW1]; unfold markS; rw [if_neg c174]; exact vB2, o63, EVs_same mk1 fY ev2⟩
              exact J194 _ e194
            · skip
              have e194 : WV W1 (sUp (sUp X63 (b + 1) (yardS p q v) s) (b + 2) (yardS p q v) st) b ∧ sO [b, b + 1, b + 2, b + 3, x + 72] X (sUp (sUp X63 (b + 1) (yardS p q v) s) (b + 2) (yardS p q v) st) ∧ EVs Ω n K (sUp (sUp X63 (b + 1) (yardS p q v) s) (b + 2) (yardS p q v) st) R W1 x l := by
                have o9 : sO [b, b + 1, b + 2, b + 3, x + 72] X63 (sUp (sUp X63 (b + 1) (yardS p q v) s) (b + 2) (yardS p q v) st) := sO_tr (sO_up (by simp)) (sO_up (by simp))
                refine ⟨?_, sO_tr o63 o9, EVs_keep hE (SW_sub sw5 o9) (EVs_same mk1 fY ev2)⟩
                rw [hW1]
                unfold markS
                rw [if_pos c174]
                exact (vB2.u_owner (by omega)).u_step (by omega)
              refine ss_aload_n (i := 0) h dX3_flies_177 178 rfl rfl rfl ?_
              refine ss_getS h kl3 0 0 rfl (by decide) rfl hE.2.2.1.ob q284 dX3_flies_178 181 rfl hE.2.2.1.r_owner ?_
              refine ss_iload h dX3_flies_181 183 rfl rfl ?_
              refine ss_iload_n (i := 2) h dX3_flies_183 184 rfl rfl rfl ?_
              refine ss_iast h hE.2.2.1.k_owner (by decide) (by omega) (by omega) dX3_flies_184 185 rfl ?_
              refine ss_aload_n (i := 0) h dX3_flies_185 186 rfl rfl rfl ?_
              refine ss_getS h kl3 1 1 rfl (by decide) rfl hE.2.2.1.ob q286 dX3_flies_186 189 rfl hE.2.2.1.r_step ?_
              refine ss_iload h dX3_flies_189 191 rfl rfl ?_
              refine ss_iload h dX3_flies_191 193 rfl rfl ?_
              refine ss_iast h hE.2.2.1.k_step (by decide) (by omega) (by omega) dX3_flies_193 194 rfl ?_
              exact J194 _ e194
          · skip
            replace c149 := bI_0.mp c149
            rw [if_neg (by rw [c149]; decide)] at hfl
            have fin255 := J255 (X63, w, p, q, v, st, len - st) ⟨hfl, vB2, o63, by dsimp only; omega⟩
            refine ss_goto h dX3_flies_152 255 (by decide) ?_
            refine ss_kl_8 (ss_kl_9 (ss_kl_10 ?_))
            exact fin255
        refine ss_iload h dX3_flies_107 109 rfl rfl ?_
        refine ss_iload h dX3_flies_109 111 rfl rfl ?_
        refine ss_if_eq h dX3_flies_111 114 121 rfl (by decide) (by first | omega | exact sRg_b _) (fun c111 => ?_) (fun c111 => ?_)
        · skip
          have e123 : T = turnS w p q T := by unfold turnS; rw [if_neg (fun g => by rw [if_pos g] at h105; omega)]
          refine ss_iload h dX3_flies_121 123 rfl rfl ?_
          exact J123 _ e123
        · skip
          have e123 : 4 - T = turnS w p q T := by
            unfold turnS
            by_cases g : w (720 + 11 * q + p) = 1 ∧ T.tmod 2 = 1
            · rw [if_pos g]
            · rw [if_neg g] at h105; omega
          refine ss_iconst h dX3_flies_114 115 rfl ?_
          refine ss_iload h dX3_flies_115 117 rfl rfl ?_
          refine ss_isub h dX3_flies_117 118 rfl ?_
          refine ss_goto h dX3_flies_118 123 (by decide) ?_
          exact J123 _ e123
      refine ss_aload_n (i := 1) h dX3_flies_77 78 rfl rfl rfl ?_
      refine ss_getS h kl2 22 22 rfl (by decide) rfl hE.2.1.ob q218 dX3_flies_78 81 rfl hE.2.1.r_mirror ?_
      refine ss_bipush h dX3_flies_81 83 rfl (by decide +kernel) ?_
      refine ss_iload h dX3_flies_83 85 rfl rfl ?_
      refine ss_imul h dX3_flies_85 86 rfl ?_
      refine ss_iload_n (i := 3) h dX3_flies_86 87 rfl rfl rfl ?_
      refine ss_iadd h dX3_flies_87 88 rfl ?_
      refine ss_zaldV h hE.2.1.k_mirror (by decide) (by omega) dX3_flies_88 89 rfl ((ev2.1.v_mirror (by omega)).trans hme) ?_
      refine ss_if_eq h dX3_flies_89 92 104 rfl (by decide) (by first | omega | exact sRg_b _) (fun c89 => ?_) (fun c89 => ?_)
      · skip
        have e105 : (0 : Int) = if w (720 + 11 * q + p) = 1 ∧ T.tmod 2 = 1 then 1 else 0 := (if_neg (by omega)).symm
        refine ss_iconst h dX3_flies_104 105 rfl ?_
        exact J105 _ e105
      · skip
        refine ss_iload h dX3_flies_92 94 rfl rfl ?_
        refine ss_iconst h dX3_flies_94 95 rfl ?_
        refine ss_irem h dX3_flies_95 96 rfl (by omega) (by omega) (by omega) ?_
        refine ss_iconst h dX3_flies_96 97 rfl ?_
        refine ss_icmp_ne h dX3_flies_97 100 104 rfl (by decide) (by rw [Int.tmod_eq_emod_of_nonneg hT4.1]; omega) (by omega) (fun c97 => ?_) (fun c97 => ?_)
        · skip
          have e105 : (0 : Int) = if w (720 + 11 * q + p) = 1 ∧ T.tmod 2 = 1 then 1 else 0 := (if_neg (fun g => c97 g.2)).symm
          refine ss_iconst h dX3_flies_104 105 rfl ?_
          exact J105 _ e105
        · skip
          have e105 : (1 : Int) = if w (720 + 11 * q + p) = 1 ∧ T.tmod 2 = 1 then 1 else 0 := (if_pos ⟨by omega, c97⟩).symm
          refine ss_iconst h dX3_flies_100 101 rfl ?_
          refine ss_goto h dX3_flies_101 105 (by decide) ?_
          exact J105 _ e105
    · skip
      rw [if_pos c71] at hfl
      have fin255 := J255 (X63, w, p, q, u, st, len - st) ⟨hfl, vB2, o63, by dsimp only; omega⟩
      refine ss_goto h dX3_flies_74 255 (by decide) ?_
      refine ss_kl_8 (ss_kl_9 (ss_kl_10 ?_))
      exact fin255
end XM5

