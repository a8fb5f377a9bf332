/-! ===== the twin: the land's small questions ===== -/
section M1
variable {Ω : OmT} {n : Nat} {K : KT} {X : XT} {R : RT} {m : Nat} {d : Nat}
theorem m_isIn {v lo hi : Int} (h1 : sRg v) (h2 : sRg lo) (h3 : sRg hi) : sCt Ω yX4_isIn cX4_isIn 3 (some .boolean) d 0 0 [vI v, vI lo, vI hi] n K X R (pV n K X R (some (vI (bI (inB v lo hi))))) := by
  refine sCt_of (by decide) (by simp [Value.category, vI, va_rf]) (Nat.le_of_ble_eq_true rfl) fun Γ P9 hP9 h => ?_
  show sG (_, _, _, _, _) Γ 0 0 _ _ _ _ 0 [some _, some _, some _] []
  refine ss_iload_n (i := 0) h dX4_isIn_0 1 rfl rfl rfl ?_
  refine ss_iload_n (i := 1) h dX4_isIn_1 2 rfl rfl rfl ?_
  refine ss_icmp_lt h dX4_isIn_2 5 14 rfl (by decide) (by first | omega | exact sRg_b _) (by first | omega | exact sRg_b _) (fun c2 => ?_) (fun c2 => ?_)
  · skip
    refine ss_iconst h dX4_isIn_14 15 rfl ?_
    refine ss_zret h (by first | omega | exact bI_z _) dX4_isIn_15 (by omega) (by omega) ?_
    rw [hP9]
    exact ⟨vI_c (by simp [bI, inB]; omega), rfl, rfl, rfl, rfl⟩
  · skip
    refine ss_iload_n (i := 0) h dX4_isIn_5 6 rfl rfl rfl ?_
    refine ss_iload_n (i := 2) h dX4_isIn_6 7 rfl rfl rfl ?_
    refine ss_icmp_gt h dX4_isIn_7 10 14 rfl (by decide) (by first | omega | exact sRg_b _) (by first | omega | exact sRg_b _) (fun c7 => ?_) (fun c7 => ?_)
    · skip
      refine ss_iconst h dX4_isIn_14 15 rfl ?_
      refine ss_zret h (by first | omega | exact bI_z _) dX4_isIn_15 (by omega) (by omega) ?_
      rw [hP9]
      exact ⟨vI_c (by simp [bI, inB]; omega), rfl, rfl, rfl, rfl⟩
    · skip
      refine ss_iconst h dX4_isIn_10 11 rfl ?_
      refine ss_goto h dX4_isIn_11 15 (by decide) ?_
      refine ss_zret h (by first | omega | exact bI_z _) dX4_isIn_15 (by omega) (by omega) ?_
      rw [hP9]
      exact ⟨vI_c (by simp [bI, inB]; omega), rfl, rfl, rfl, rfl⟩
theorem m_isPlace (hM : MOk Ω n K R m) {x y : Int} (hd : Dim (X (m + 1))) (h1 : sRg x) (h2 : sRg y) (hl : 1 ≤ d) : sCt Ω yX4_isPlace cX4_isPlace 3 (some .boolean) d 0 0 [.ref m, vI x, vI y] n K X R (pV n K X R (some (vI (bI (placeB (X (m + 1)) x y))))) := by
  have hd' := hd
  unfold Dim at hd'
  refine sCt_of (by decide) (by simp [Value.category, vI, va_rf]) (Nat.le_of_ble_eq_true rfl) fun Γ P9 hP9 h => ?_
  show sG (_, _, _, _, _) Γ 0 0 _ _ _ _ 0 [some _, some _, some _] []
  refine ss_iload_n (i := 1) h dX4_isPlace_0 1 rfl rfl rfl ?_
  refine ss_iconst h dX4_isPlace_1 2 rfl ?_
  refine ss_aload_n (i := 0) h dX4_isPlace_2 3 rfl rfl rfl ?_
  refine ss_getS h kl4 0 0 rfl (by decide) rfl hM.ob q1087 dX4_isPlace_3 6 rfl hM.r_w ?_
  refine ss_iconst h dX4_isPlace_6 7 rfl ?_
  refine ss_iald h hM.k_w (by decide) (by omega) dX4_isPlace_7 8 rfl ?_
  refine ss_iconst h dX4_isPlace_8 9 rfl ?_
  refine ss_isub h dX4_isPlace_9 10 rfl ?_
  refine ss_cSv h (m_isIn (d := d - 1) (by omega) (by omega) (by omega)) (lw_S q1207 q1208 q87 q1209) 3 rfl md_X4_isIn (by omega) (by decide) rfl dX4_isPlace_10 13 rfl rfl (Nat.le_of_ble_eq_true rfl) (by omega) (by omega) ?_
  refine ss_if_eq h dX4_isPlace_13 16 36 rfl (by decide) (by first | omega | exact sRg_b _) (fun c13 => ?_) (fun c13 => ?_)
  · skip
    replace c13 := bI_0.mp c13
    refine ss_iconst h dX4_isPlace_36 37 rfl ?_
    refine ss_zret h (by first | omega | exact bI_z _) dX4_isPlace_37 (by omega) (by omega) ?_
    rw [hP9]
    exact ⟨vI_c (by simp [bI, placeB, *]), rfl, rfl, rfl, rfl⟩
  · skip
    replace c13 := bI_n.mp c13
    refine ss_iload_n (i := 2) h dX4_isPlace_16 17 rfl rfl rfl ?_
    refine ss_iconst h dX4_isPlace_17 18 rfl ?_
    refine ss_aload_n (i := 0) h dX4_isPlace_18 19 rfl rfl rfl ?_
    refine ss_getS h kl4 0 0 rfl (by decide) rfl hM.ob q1087 dX4_isPlace_19 22 rfl hM.r_w ?_
    refine ss_iconst h dX4_isPlace_22 23 rfl ?_
    refine ss_iald h hM.k_w (by decide) (by omega) dX4_isPlace_23 24 rfl ?_
    refine ss_iconst h dX4_isPlace_24 25 rfl ?_
    refine ss_isub h dX4_isPlace_25 26 rfl ?_
    refine ss_cSv h (m_isIn (d := d - 1) (by omega) (by omega) (by omega)) (lw_S q1207 q1208 q87 q1209) 3 rfl md_X4_isIn (by omega) (by decide) rfl dX4_isPlace_26 29 rfl rfl (Nat.le_of_ble_eq_true rfl) (by omega) (by omega) ?_
    refine ss_if_eq h dX4_isPlace_29 32 36 rfl (by decide) (by first | omega | exact sRg_b _) (fun c29 => ?_) (fun c29 => ?_)
    · skip
      replace c29 := bI_0.mp c29
      refine ss_iconst h dX4_isPlace_36 37 rfl ?_
      refine ss_zret h (by first | omega | exact bI_z _) dX4_isPlace_37 (by omega) (by omega) ?_
      rw [hP9]
      exact ⟨vI_c (by simp [bI, placeB, *]), rfl, rfl, rfl, rfl⟩
    · skip
      replace c29 := bI_n.mp c29
      refine ss_iconst h dX4_isPlace_32 33 rfl ?_
      refine ss_goto h dX4_isPlace_33 37 (by decide) ?_
      refine ss_zret h (by first | omega | exact bI_z _) dX4_isPlace_37 (by omega) (by omega) ?_
      rw [hP9]
      exact ⟨vI_c (by simp [bI, placeB, *]), rfl, rfl, rfl, rfl⟩
theorem m_isCell (hM : MOk Ω n K R m) {c : Int} (hd : Dim (X (m + 1))) (h1 : sRg c) (hl : 2 ≤ d) : sCt Ω yX4_isCell cX4_isCell 2 (some .boolean) d 0 0 [.ref m, vI c] n K X R (pV n K X R (some (vI (bI (cellB (X (m + 1)) c))))) := by
  have ht : 0 ≤ c → 0 ≤ c.tmod 10 ∧ c.tmod 10 ≤ 9 ∧ 0 ≤ c.tdiv 10 ∧ c.tdiv 10 ≤ c := fun h0 => by rw [tmod10 c h0, tdiv10 c h0]; omega
  refine sCt_of (by decide) (by simp [Value.category, vI, va_rf]) (Nat.le_of_ble_eq_true rfl) fun Γ P9 hP9 h => ?_
  show sG (_, _, _, _, _) Γ 0 0 _ _ _ _ 0 [some _, some _] []
  refine ss_iload_n (i := 1) h dX4_isCell_0 1 rfl rfl rfl ?_
  refine ss_if_lt h dX4_isCell_1 4 23 rfl (by decide) (by first | omega | exact sRg_b _) (fun c1 => ?_) (fun c1 => ?_)
  · skip
    refine ss_iconst h dX4_isCell_23 24 rfl ?_
    refine ss_zret h (by first | omega | exact bI_z _) dX4_isCell_24 (by omega) (by omega) ?_
    rw [hP9]
    exact ⟨vI_c (by simp [bI, cellB, *]; try omega), rfl, rfl, rfl, rfl⟩
  · skip
    have ht := ht (by omega)
    refine ss_aload_n (i := 0) h dX4_isCell_4 5 rfl rfl rfl ?_
    refine ss_iload_n (i := 1) h dX4_isCell_5 6 rfl rfl rfl ?_
    refine ss_bipush h dX4_isCell_6 8 rfl (by decide +kernel) ?_
    refine ss_irem h dX4_isCell_8 9 rfl (by omega) (by omega) (by omega) ?_
    refine ss_iload_n (i := 1) h dX4_isCell_9 10 rfl rfl rfl ?_
    refine ss_bipush h dX4_isCell_10 12 rfl (by decide +kernel) ?_
    refine ss_idiv h dX4_isCell_12 13 rfl (by omega) (by omega) (by omega) ?_
    refine ss_cVv h (m_isPlace hM (d := d - 1) hd (by omega) (by omega) (by omega)) (lw_V q1218 q1220 qs41 q87 q1221) kl4 hM.ob 2 rfl md_X4_isPlace rfl (by omega) (by decide) rfl dX4_isCell_13 16 rfl rfl (Nat.le_of_ble_eq_true rfl) (by omega) (by omega) ?_
    refine ss_if_eq h dX4_isCell_16 19 23 rfl (by decide) (by first | omega | exact sRg_b _) (fun c16 => ?_) (fun c16 => ?_)
    · skip
      replace c16 := bI_0.mp c16
      refine ss_iconst h dX4_isCell_23 24 rfl ?_
      refine ss_zret h (by first | omega | exact bI_z _) dX4_isCell_24 (by omega) (by omega) ?_
      rw [hP9]
      exact ⟨vI_c (by simp [bI, cellB, *]; try omega), rfl, rfl, rfl, rfl⟩
    · skip
      replace c16 := bI_n.mp c16
      refine ss_iconst h dX4_isCell_19 20 rfl ?_
      refine ss_goto h dX4_isCell_20 24 (by decide) ?_
      refine ss_zret h (by first | omega | exact bI_z _) dX4_isCell_24 (by omega) (by omega) ?_
      rw [hP9]
      exact ⟨vI_c (by simp [bI, cellB, *]; try omega), rfl, rfl, rfl, rfl⟩
theorem m_isPoint (hM : MOk Ω n K R m) {x y : Int} (hd : Dim (X (m + 1))) (h1 : sRg x) (h2 : sRg y) (hl : 1 ≤ d) : sCt Ω yX4_isPoint cX4_isPoint 3 (some .boolean) d 0 0 [.ref m, vI x, vI y] n K X R (pV n K X R (some (vI (bI (pointB (X (m + 1)) x y))))) := by
  have hd' := hd
  unfold Dim at hd'
  refine sCt_of (by decide) (by simp [Value.category, vI, va_rf]) (Nat.le_of_ble_eq_true rfl) fun Γ P9 hP9 h => ?_
  show sG (_, _, _, _, _) Γ 0 0 _ _ _ _ 0 [some _, some _, some _] []
  refine ss_iload_n (i := 1) h dX4_isPoint_0 1 rfl rfl rfl ?_
  refine ss_iconst h dX4_isPoint_1 2 rfl ?_
  refine ss_aload_n (i := 0) h dX4_isPoint_2 3 rfl rfl rfl ?_
  refine ss_getS h kl4 0 0 rfl (by decide) rfl hM.ob q1087 dX4_isPoint_3 6 rfl hM.r_w ?_
  refine ss_iconst h dX4_isPoint_6 7 rfl ?_
  refine ss_iald h hM.k_w (by decide) (by omega) dX4_isPoint_7 8 rfl ?_
  refine ss_cSv h (m_isIn (d := d - 1) (by omega) (by omega) (by omega)) (lw_S q1207 q1208 q87 q1209) 3 rfl md_X4_isIn (by omega) (by decide) rfl dX4_isPoint_8 11 rfl rfl (Nat.le_of_ble_eq_true rfl) (by omega) (by omega) ?_
  refine ss_if_eq h dX4_isPoint_11 14 32 rfl (by decide) (by first | omega | exact sRg_b _) (fun c11 => ?_) (fun c11 => ?_)
  · skip
    replace c11 := bI_0.mp c11
    refine ss_iconst h dX4_isPoint_32 33 rfl ?_
    refine ss_zret h (by first | omega | exact bI_z _) dX4_isPoint_33 (by omega) (by omega) ?_
    rw [hP9]
    exact ⟨vI_c (by simp [bI, pointB, *]), rfl, rfl, rfl, rfl⟩
  · skip
    replace c11 := bI_n.mp c11
    refine ss_iload_n (i := 2) h dX4_isPoint_14 15 rfl rfl rfl ?_
    refine ss_iconst h dX4_isPoint_15 16 rfl ?_
    refine ss_aload_n (i := 0) h dX4_isPoint_16 17 rfl rfl rfl ?_
    refine ss_getS h kl4 0 0 rfl (by decide) rfl hM.ob q1087 dX4_isPoint_17 20 rfl hM.r_w ?_
    refine ss_iconst h dX4_isPoint_20 21 rfl ?_
    refine ss_iald h hM.k_w (by decide) (by omega) dX4_isPoint_21 22 rfl ?_
    refine ss_cSv h (m_isIn (d := d - 1) (by omega) (by omega) (by omega)) (lw_S q1207 q1208 q87 q1209) 3 rfl md_X4_isIn (by omega) (by decide) rfl dX4_isPoint_22 25 rfl rfl (Nat.le_of_ble_eq_true rfl) (by omega) (by omega) ?_
    refine ss_if_eq h dX4_isPoint_25 28 32 rfl (by decide) (by first | omega | exact sRg_b _) (fun c25 => ?_) (fun c25 => ?_)
    · skip
      replace c25 := bI_0.mp c25
      refine ss_iconst h dX4_isPoint_32 33 rfl ?_
      refine ss_zret h (by first | omega | exact bI_z _) dX4_isPoint_33 (by omega) (by omega) ?_
      rw [hP9]
      exact ⟨vI_c (by simp [bI, pointB, *]), rfl, rfl, rfl, rfl⟩
    · skip
      replace c25 := bI_n.mp c25
      refine ss_iconst h dX4_isPoint_28 29 rfl ?_
      refine ss_goto h dX4_isPoint_29 33 (by decide) ?_
      refine ss_zret h (by first | omega | exact bI_z _) dX4_isPoint_33 (by omega) (by omega) ?_
      rw [hP9]
      exact ⟨vI_c (by simp [bI, pointB, *]), rfl, rfl, rfl, rfl⟩
theorem m_state (hM : MOk Ω n K R m) {v : Int} (h1 : sRg v) : sCt Ω yX4_state cX4_state 3 (some .int) d 0 0 [.ref m, vI v] n K X R (pA n K R (vI (X (m + 1) 2)) (fun X' => X' = sArr X (m + 1) (upW (X (m + 1)) 2 v))) := by
  refine sCt_of (by decide) (by simp [Value.category, vI, va_rf]) (Nat.le_of_ble_eq_true rfl) fun Γ P9 hP9 h => ?_
  show sG (_, _, _, _, _) Γ 0 0 _ _ _ _ 0 [some _, some _, none] []
  refine ss_aload_n (i := 0) h dX4_state_0 1 rfl rfl rfl ?_
  refine ss_getS h kl4 0 0 rfl (by decide) rfl hM.ob q1087 dX4_state_1 4 rfl hM.r_w ?_
  refine ss_iconst h dX4_state_4 5 rfl ?_
  refine ss_iald h hM.k_w (by decide) (by omega) dX4_state_5 6 rfl ?_
  refine ss_ist_2 h dX4_state_6 7 rfl ?_
  refine ss_aload_n (i := 0) h dX4_state_7 8 rfl rfl rfl ?_
  refine ss_getS h kl4 0 0 rfl (by decide) rfl hM.ob q1087 dX4_state_8 11 rfl hM.r_w ?_
  refine ss_iconst h dX4_state_11 12 rfl ?_
  refine ss_iload_n (i := 1) h dX4_state_12 13 rfl rfl rfl ?_
  refine ss_iast h hM.k_w (by decide) (by omega) (by omega) dX4_state_13 14 rfl ?_
  refine ss_iload_n (i := 2) h dX4_state_14 15 rfl rfl rfl ?_
  refine ss_iret h dX4_state_15 (by omega) (by omega) ?_
  rw [hP9]
  exact ⟨rfl, rfl, rfl, rfl, sUp_as⟩
theorem m_draw (hM : MOk Ω n K R m) {q : Int} (h1 : 1 ≤ q ∧ q ≤ 100) : sCt Ω yX4_draw cX4_draw 2 (some .int) d 0 0 [.ref m, vI q] n K X R (pA n K R (vI ((ushS (nxtS (X (m + 1) 2)) 8).tmod q)) (fun X' => X' = sArr X (m + 1) (upW (X (m + 1)) 2 (nxtS (X (m + 1) 2))))) := by
  refine sCt_of (by decide) (by simp [Value.category, vI, va_rf]) (Nat.le_of_ble_eq_true rfl) fun Γ P9 hP9 h => ?_
  show sG (_, _, _, _, _) Γ 0 0 _ _ _ _ 0 [some _, some _] []
  refine ss_aload_n (i := 0) h dX4_draw_0 1 rfl rfl rfl ?_
  refine ss_getS h kl4 0 0 rfl (by decide) rfl hM.ob q1087 dX4_draw_1 4 rfl hM.r_w ?_
  refine ss_iconst h dX4_draw_4 5 rfl ?_
  refine ss_ldc (z := 1664525) h dX4_draw_5 7 rfl q1440 (by decide +kernel) ?_
  refine ss_aload_n (i := 0) h dX4_draw_7 8 rfl rfl rfl ?_
  refine ss_getS h kl4 0 0 rfl (by decide) rfl hM.ob q1087 dX4_draw_8 11 rfl hM.r_w ?_
  refine ss_iconst h dX4_draw_11 12 rfl ?_
  refine ss_iald h hM.k_w (by decide) (by omega) dX4_draw_12 13 rfl ?_
  refine ss_imul h dX4_draw_13 14 rfl ?_
  refine ss_ldc (z := 1013904223) h dX4_draw_14 16 rfl q1441 (by decide +kernel) ?_
  refine ss_iadd h dX4_draw_16 17 rfl ?_
  refine ss_wr ?_
  refine ss_iast h hM.k_w (by decide) (by omega) (sWr_rg _) dX4_draw_17 18 rfl ?_
  refine ss_aload_n (i := 0) h dX4_draw_18 19 rfl rfl rfl ?_
  refine ss_getS h kl4 0 0 rfl (by decide) rfl hM.ob q1087 dX4_draw_19 22 rfl hM.r_w ?_
  refine ss_iconst h dX4_draw_22 23 rfl ?_
  refine ss_iald h hM.k_w (by decide) (by omega) dX4_draw_23 24 rfl ?_
  refine ss_bipush h dX4_draw_24 26 rfl (by decide +kernel) ?_
  refine ss_iushr h dX4_draw_26 27 rfl (sI_of _).symm ?_
  refine ss_iload_n (i := 1) h dX4_draw_27 28 rfl rfl rfl ?_
  refine ss_irem h dX4_draw_28 29 rfl (sRg_of _) (by omega) (by omega) ?_
  refine ss_iret h dX4_draw_29 (by omega) (by omega) ?_
  rw [hP9]
  exact ⟨by rw [sUp_as, sArr_s, upW_s]; rfl, rfl, rfl, rfl, sUp_as⟩
theorem m_clears (hM : MOk Ω n K R m) : sCt Ω yX4_clears cX4_clears 2 none d 0 0 [.ref m] n K X R (pN n K R (fun X' => X' = sArr X (m + 1) (clrW (X (m + 1))))) := by
  refine sCt_of (by decide) (by simp [Value.category, vI, va_rf]) (Nat.le_of_ble_eq_true rfl) fun Γ P9 hP9 h => ?_
  show sG (_, _, _, _, _) Γ 0 0 _ _ _ _ 0 [some _, none] []
  refine ss_iconst h dX4_clears_0 1 rfl ?_
  refine ss_ist_1 h dX4_clears_1 2 rfl ?_
  refine ss_X (X' := sArr X (m + 1) (fun i => if 850 ≤ i ∧ i < 850 + 0 then -1 else if 1092 ≤ i ∧ i < 1092 + 0 then -1 else X (m + 1) i)) ?_ ?_
  · refine sArr_id.symm.trans (sArr_c ?_)
    funext i
    rw [if_neg (by omega), if_neg (by omega)]
  refine ss_loop (σ := Int) (Pp := fun k => sG _ Γ 0 0 n K (sArr X (m + 1) (fun i => if 850 ≤ i ∧ i < 850 + k then -1 else if 1092 ≤ i ∧ i < 1092 + k then -1 else X (m + 1) i)) R 2 [some (.ref m), some (vI k)] []) (I := fun k => 0 ≤ k ∧ k ≤ 242) (fun k => (242 - k).toNat) (fun k hk ih => ?_) 0 (by omega)
  refine ss_iload_n (i := 1) h dX4_clears_2 3 rfl rfl rfl ?_
  refine ss_sipush h dX4_clears_3 6 rfl (by decide +kernel) ?_
  refine ss_icmp_ge h dX4_clears_6 9 37 rfl (by decide) (by first | omega | exact sRg_b _) (by first | omega | exact sRg_b _) (fun c6 => ?_) (fun c6 => ?_)
  · skip
    refine ss_aload_n (i := 0) h dX4_clears_37 38 rfl rfl rfl ?_
    refine ss_getS h kl4 0 0 rfl (by decide) rfl hM.ob q1087 dX4_clears_38 41 rfl hM.r_w ?_
    refine ss_bipush h dX4_clears_41 43 rfl (by decide +kernel) ?_
    refine ss_iconst h dX4_clears_43 44 rfl ?_
    refine ss_iast h hM.k_w (by decide) (by omega) (by omega) dX4_clears_44 45 rfl ?_
    refine ss_vret h dX4_clears_45 (by omega) (by omega) ?_
    rw [hP9]
    exact ⟨rfl, rfl, rfl, rfl, by rw [sArr_sUp]; refine sArr_c ?_; funext i; dsimp only [upW, clrW]; (repeat' split) <;> omega⟩
  · skip
    refine ss_aload_n (i := 0) h dX4_clears_9 10 rfl rfl rfl ?_
    refine ss_getS h kl4 0 0 rfl (by decide) rfl hM.ob q1087 dX4_clears_10 13 rfl hM.r_w ?_
    refine ss_sipush h dX4_clears_13 16 rfl (by decide +kernel) ?_
    refine ss_iload_n (i := 1) h dX4_clears_16 17 rfl rfl rfl ?_
    refine ss_iadd h dX4_clears_17 18 rfl ?_
    refine ss_iconst h dX4_clears_18 19 rfl ?_
    refine ss_iast h hM.k_w (by decide) (by omega) (by omega) dX4_clears_19 20 rfl ?_
    refine ss_aload_n (i := 0) h dX4_clears_20 21 rfl rfl rfl ?_
    refine ss_getS h kl4 0 0 rfl (by decide) rfl hM.ob q1087 dX4_clears_21 24 rfl hM.r_w ?_
    refine ss_sipush h dX4_clears_24 27 rfl (by decide +kernel) ?_
    refine ss_iload_n (i := 1) h dX4_clears_27 28 rfl rfl rfl ?_
    refine ss_iadd h dX4_clears_28 29 rfl ?_
    refine ss_iconst h dX4_clears_29 30 rfl ?_
    refine ss_iast h hM.k_w (by decide) (by omega) (by omega) dX4_clears_30 31 rfl ?_
    refine ss_inc_1 h dX4_clears_31 34 rfl ?_
    refine ss_goto h dX4_clears_34 2 (by decide) ?_
    refine ss_X ?_ (ih _ (by omega) (by omega))
    rw [sArr_sUp, sArr_sUp]
    refine sArr_c ?_
    funext i
    dsimp only [upW]
    (repeat' split) <;> omega
end M1

