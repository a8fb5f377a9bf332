/-! ===== the twin: sums ===== -/
section M18
variable {Ω : OmT} {n : Nat} {K : KT} {X : XT} {R : RT} {m : Nat} {d : Nat}
theorem rd_m {s : PS} : rdX X m s m = s.1 := by unfold rdX; rw [sArr_n (by omega), sArr_s]
theorem rd_6 {s : PS} : rdX X m s (m + 6) = s.2 := sArr_s
theorem rd_o {s : PS} {b : Nat} (h1 : b ≠ m) (h2 : b ≠ m + 6) : rdX X m s b = X b := by unfold rdX; rw [sArr_n h2, sArr_n h1]
theorem sArr_com {X : XT} {a b : Nat} {f g : WT} (h : a ≠ b) : sArr (sArr X a f) b g = sArr (sArr X b g) a f := by
  funext c
  by_cases e1 : c = a
  · by_cases e2 : c = b
    · omega
    · rw [e1, sArr_n h, sArr_s, sArr_s]
  · by_cases e2 : c = b
    · rw [e2, sArr_s, sArr_n h.symm, sArr_s]
    · rw [sArr_n e2, sArr_n e1, sArr_n e1, sArr_n e2]
theorem rd_rd {s r : PS} : rdX (rdX X m s) m r = rdX X m r := by
  unfold rdX
  rw [sArr_com (show m + 6 ≠ m by omega), sArr_sArr, sArr_sArr]
theorem rd_id : rdX X m (psX X m) = X := by
  unfold rdX
  dsimp only
  rw [sArr_id, sArr_id]
theorem rd_put {s : PS} {f v : Int} : sUp (rdX X m s) m f v = rdX X m (putP s f v) := by
  rw [sUp_as, rd_m]
  unfold rdX putP
  rw [sArr_com (show m + 6 ≠ m by omega), sArr_sArr]
theorem rd_cod {s : PS} {i v : Int} : sUp (rdX X m s) (m + 6) i v = rdX X m (s.1, upW s.2 i v) := by
  rw [sUp_as, rd_6]
  unfold rdX
  rw [sArr_sArr]
theorem ps_rd {s : PS} : psX (rdX X m s) m = s := by
  unfold psX
  rw [rd_m, rd_6]
theorem m_next0R (hM : MOk Ω n K R m) {B : WT} {t : Int} {s : PS} (hB : X (m + 7) = B) (h14 : s.1 14 = t) (ht : TP B t) (h0 : 0 ≤ s.1 15 ∧ s.1 15 ≤ t) (hl : 7 ≤ d) : sCt Ω yX4_next0 cX4_next0 3 none d 0 0 [.ref m] n K (rdX X m s) R (pN n K R (fun X' => X' = rdX X m (nextP B t s))) := by
  have := m_next0 (X := rdX X m s) (d := d) hM (by rw [rd_o (by omega) (by omega), rd_m, hB, h14]; exact ht) (by rw [rd_m, h14]; exact h0) hl
  rw [rd_o (show m + 7 ≠ m by omega) (by omega), ps_rd, rd_m, hB, h14] at this
  simp only [rd_rd] at this
  exact this
theorem m_bad (hM : MOk Ω n K R m) {s : PS} {k : Int} (h1 : sRg k) (h2 : sRg (s.1 17)) : sCt Ω yX4_bad cX4_bad 2 (some .boolean) d 0 0 [.ref m, vI k] n K (rdX X m s) R (pA n K R (vI 0) (fun X' => X' = rdX X m (badP k s))) := by
  refine sCt_of (by decide) (by simp [Value.category, vI, va_rf]) (Nat.le_of_ble_eq_true rfl) fun Γ P9 hP9 h => ?_
  show sG (_, _, _, _, _) Γ 0 0 _ _ _ _ 0 [some _, some _] []
  refine ss_aload_n (i := 0) h dX4_bad_0 1 rfl rfl rfl ?_
  refine ss_iload_n (i := 1) h dX4_bad_1 2 rfl rfl rfl ?_
  refine ss_putI h kl4 19 19 rfl (by decide) rfl hM.ob q1106 (Or.inl rfl) (by omega) dX4_bad_2 5 rfl ?_
  try simp only [rd_put, rd_cod, rd_m, put_s, put_o, ne_eq, not_false_eq_true, Int.reduceEq]
  refine ss_aload_n (i := 0) h dX4_bad_5 6 rfl rfl rfl ?_
  refine ss_aload_n (i := 0) h dX4_bad_6 7 rfl rfl rfl ?_
  refine ss_getI h kl4 17 17 rfl (by decide) rfl hM.ob q1104 dX4_bad_7 10 rfl ?_
  try simp only [rd_put, rd_cod, rd_m, put_s, put_o, ne_eq, not_false_eq_true, Int.reduceEq]
  refine ss_putI h kl4 20 20 rfl (by decide) rfl hM.ob q1107 (Or.inl rfl) (by omega) dX4_bad_10 13 rfl ?_
  try simp only [rd_put, rd_cod, rd_m, put_s, put_o, ne_eq, not_false_eq_true, Int.reduceEq]
  refine ss_iconst h dX4_bad_13 14 rfl ?_
  refine ss_zret h (by first | omega | exact bI_z _) dX4_bad_14 (by omega) (by omega) ?_
  rw [hP9]
  exact ⟨rfl, rfl, rfl, rfl, rfl⟩
theorem m_lay (hM : MOk Ω n K R m) {s : PS} {k v : Int} (h1 : sRg k) (h2 : sRg v) (h3 : 0 ≤ s.1 13 ∧ s.1 13 ≤ 401) : sCt Ω yX4_lay cX4_lay 3 none d 0 0 [.ref m, vI k, vI v] n K (rdX X m s) R (pN n K R (fun X' => X' = rdX X m (layP k v s))) := by
  refine sCt_of (by decide) (by simp [Value.category, vI, va_rf]) (Nat.le_of_ble_eq_true rfl) fun Γ P9 hP9 h => ?_
  show sG (_, _, _, _, _) Γ 0 0 _ _ _ _ 0 [some _, some _, some _] []
  refine ss_aload_n (i := 0) h dX4_lay_0 1 rfl rfl rfl ?_
  refine ss_getS h kl4 8 8 rfl (by decide) rfl hM.ob q1095 dX4_lay_1 4 rfl hM.r_freshStep ?_
  try simp only [rd_put, rd_cod, rd_m, put_s, put_o, ne_eq, not_false_eq_true, Int.reduceEq]
  refine ss_iconst h dX4_lay_4 5 rfl ?_
  refine ss_aload_n (i := 0) h dX4_lay_5 6 rfl rfl rfl ?_
  refine ss_getI h kl4 13 13 rfl (by decide) rfl hM.ob q1100 dX4_lay_6 9 rfl ?_
  try simp only [rd_put, rd_cod, rd_m, put_s, put_o, ne_eq, not_false_eq_true, Int.reduceEq]
  refine ss_imul h dX4_lay_9 10 rfl ?_
  refine ss_iload_n (i := 1) h dX4_lay_10 11 rfl rfl rfl ?_
  refine ss_iast h hM.k_freshStep (by decide) (by omega) (by omega) dX4_lay_11 12 rfl ?_
  try simp only [rd_put, rd_cod, rd_m, put_s, put_o, ne_eq, not_false_eq_true, Int.reduceEq]
  refine ss_aload_n (i := 0) h dX4_lay_12 13 rfl rfl rfl ?_
  refine ss_getS h kl4 8 8 rfl (by decide) rfl hM.ob q1095 dX4_lay_13 16 rfl hM.r_freshStep ?_
  try simp only [rd_put, rd_cod, rd_m, put_s, put_o, ne_eq, not_false_eq_true, Int.reduceEq]
  refine ss_iconst h dX4_lay_16 17 rfl ?_
  refine ss_aload_n (i := 0) h dX4_lay_17 18 rfl rfl rfl ?_
  refine ss_getI h kl4 13 13 rfl (by decide) rfl hM.ob q1100 dX4_lay_18 21 rfl ?_
  try simp only [rd_put, rd_cod, rd_m, put_s, put_o, ne_eq, not_false_eq_true, Int.reduceEq]
  refine ss_imul h dX4_lay_21 22 rfl ?_
  refine ss_iconst h dX4_lay_22 23 rfl ?_
  refine ss_iadd h dX4_lay_23 24 rfl ?_
  refine ss_iload_n (i := 2) h dX4_lay_24 25 rfl rfl rfl ?_
  refine ss_iast h hM.k_freshStep (by decide) (by omega) (by omega) dX4_lay_25 26 rfl ?_
  try simp only [rd_put, rd_cod, rd_m, put_s, put_o, ne_eq, not_false_eq_true, Int.reduceEq]
  refine ss_aload_n (i := 0) h dX4_lay_26 27 rfl rfl rfl ?_
  refine ss_dup h dX4_lay_27 28 rfl rfl ?_
  refine ss_getI h kl4 13 13 rfl (by decide) rfl hM.ob q1100 dX4_lay_28 31 rfl ?_
  try simp only [rd_put, rd_cod, rd_m, put_s, put_o, ne_eq, not_false_eq_true, Int.reduceEq]
  refine ss_iconst h dX4_lay_31 32 rfl ?_
  refine ss_iadd h dX4_lay_32 33 rfl ?_
  refine ss_putI h kl4 13 13 rfl (by decide) rfl hM.ob q1100 (Or.inl rfl) (by omega) dX4_lay_33 36 rfl ?_
  try simp only [rd_put, rd_cod, rd_m, put_s, put_o, ne_eq, not_false_eq_true, Int.reduceEq]
  refine ss_vret h dX4_lay_36 (by omega) (by omega) ?_
  rw [hP9]
  exact ⟨rfl, rfl, rfl, rfl, rfl⟩
theorem m_need (hM : MOk Ω n K R m) {B : WT} {t : Int} {s : PS} {k : Int} (hB : X (m + 7) = B) (h14 : s.1 14 = t) (ht : TP B t) (hs : PI t s) (h1 : sRg k) (hl : 8 ≤ d) : sCt Ω yX4_need cX4_need 2 (some .boolean) d 0 0 [.ref m, vI k] n K (rdX X m s) R (pA n K R (vI (bI (ndP B t k s).1)) (fun X' => X' = rdX X m (ndP B t k s).2)) := by
  obtain ⟨a1, a2, a3, a4, a5, a6, a7, a8⟩ := hs
  have ht1 := ht.1
  refine sCt_of (by decide) (by simp [Value.category, vI, va_rf]) (Nat.le_of_ble_eq_true rfl) fun Γ P9 hP9 h => ?_
  show sG (_, _, _, _, _) Γ 0 0 _ _ _ _ 0 [some _, some _] []
  refine ss_aload_n (i := 0) h dX4_need_0 1 rfl rfl rfl ?_
  refine ss_getI h kl4 16 16 rfl (by decide) rfl hM.ob q1103 dX4_need_1 4 rfl ?_
  try simp only [rd_put, rd_cod, rd_m, put_s, put_o, ne_eq, not_false_eq_true, Int.reduceEq]
  refine ss_iload_n (i := 1) h dX4_need_4 5 rfl rfl rfl ?_
  refine ss_icmp_eq h dX4_need_5 8 14 rfl (by decide) (by first | omega | exact sRg_b _) (by first | omega | exact sRg_b _) (fun c5 => ?_) (fun c5 => ?_)
  · skip
    refine ss_aload_n (i := 0) h dX4_need_14 15 rfl rfl rfl ?_
    refine ss_cVn h (m_next0R (d := d - 1) (s := s) hM hB h14 ht (by omega) (by omega)) (lw_V q1270 q1272 qs44 q87 q1273) kl4 hM.ob 0 rfl md_X4_next0 rfl (by omega) (by decide) rfl dX4_need_15 18 rfl rfl (Nat.le_of_ble_eq_true rfl) (by omega) (by omega) (fun X15 x15 => ?_)
    refine ss_iconst h dX4_need_18 19 rfl ?_
    refine ss_zret h (by first | omega | exact bI_z _) dX4_need_19 (by omega) (by omega) ?_
    rw [hP9]
    exact ⟨by unfold ndP; rw [if_neg (by omega)]; rfl, rfl, rfl, rfl, by unfold ndP; rw [if_neg (by omega)]; exact x15⟩
  · skip
    refine ss_aload_n (i := 0) h dX4_need_8 9 rfl rfl rfl ?_
    refine ss_iconst h dX4_need_9 10 rfl ?_
    refine ss_cVa h (m_bad (d := d - 1) (s := s) hM (by omega) (by omega)) (lw_V q1320 q1322 qs50 q87 q1323) kl4 hM.ob 1 rfl md_X4_bad rfl (by omega) (by decide) rfl dX4_need_10 13 rfl rfl (Nat.le_of_ble_eq_true rfl) (by omega) (by omega) (fun X10 x10 => ?_)
    refine ss_zret h (by first | omega | exact bI_z _) dX4_need_13 (by omega) (by omega) ?_
    rw [hP9]
    exact ⟨by unfold ndP; rw [if_pos c5]; rfl, rfl, rfl, rfl, by unfold ndP; rw [if_pos c5]; exact x10⟩
theorem m_opens (hM : MOk Ω n K R m) {B : WT} {t : Int} {s : PS} (hB : X (m + 7) = B) (h14 : s.1 14 = t) (ht : TP B t) (hs : PI t s) (hl : 8 ≤ d) : sCt Ω yX4_opens cX4_opens 1 (some .boolean) d 0 0 [.ref m] n K (rdX X m s) R (pA n K R (vI (bI (opnP B t s).1)) (fun X' => X' = rdX X m (opnP B t s).2)) := by
  obtain ⟨a1, a2, a3, a4, a5, a6, a7, a8⟩ := hs
  have ht1 := ht.1
  refine sCt_of (by decide) (by simp [Value.category, vI, va_rf]) (Nat.le_of_ble_eq_true rfl) fun Γ P9 hP9 h => ?_
  show sG (_, _, _, _, _) Γ 0 0 _ _ _ _ 0 [some _] []
  refine ss_aload_n (i := 0) h dX4_opens_0 1 rfl rfl rfl ?_
  refine ss_getI h kl4 22 22 rfl (by decide) rfl hM.ob q1109 dX4_opens_1 4 rfl ?_
  try simp only [rd_put, rd_cod, rd_m, put_s, put_o, ne_eq, not_false_eq_true, Int.reduceEq]
  refine ss_bipush h dX4_opens_4 6 rfl (by decide +kernel) ?_
  refine ss_icmp_ne h dX4_opens_6 9 15 rfl (by decide) (by first | omega | exact sRg_b _) (by first | omega | exact sRg_b _) (fun c6 => ?_) (fun c6 => ?_)
  · skip
    refine ss_aload_n (i := 0) h dX4_opens_15 16 rfl rfl rfl ?_
    refine ss_dup h dX4_opens_16 17 rfl rfl ?_
    refine ss_getI h kl4 22 22 rfl (by decide) rfl hM.ob q1109 dX4_opens_17 20 rfl ?_
    try simp only [rd_put, rd_cod, rd_m, put_s, put_o, ne_eq, not_false_eq_true, Int.reduceEq]
    refine ss_iconst h dX4_opens_20 21 rfl ?_
    refine ss_iadd h dX4_opens_21 22 rfl ?_
    refine ss_putI h kl4 22 22 rfl (by decide) rfl hM.ob q1109 (Or.inl rfl) (by omega) dX4_opens_22 25 rfl ?_
    try simp only [rd_put, rd_cod, rd_m, put_s, put_o, ne_eq, not_false_eq_true, Int.reduceEq]
    refine ss_aload_n (i := 0) h dX4_opens_25 26 rfl rfl rfl ?_
    refine ss_cVn h (m_next0R (d := d - 1) (s := putP s 22 (s.1 22 + 1)) hM hB (by rw [put_o (by decide)]; exact h14) ht (by rw [put_o (by decide)]; omega) (by omega)) (lw_V q1270 q1272 qs44 q87 q1273) kl4 hM.ob 0 rfl md_X4_next0 rfl (by omega) (by decide) rfl dX4_opens_26 29 rfl rfl (Nat.le_of_ble_eq_true rfl) (by omega) (by omega) (fun X26 x26 => ?_)
    refine ss_iconst h dX4_opens_29 30 rfl ?_
    refine ss_zret h (by first | omega | exact bI_z _) dX4_opens_30 (by omega) (by omega) ?_
    rw [hP9]
    exact ⟨by unfold opnP; rw [if_neg c6]; rfl, rfl, rfl, rfl, by unfold opnP; rw [if_neg c6]; exact x26⟩
  · skip
    refine ss_aload_n (i := 0) h dX4_opens_9 10 rfl rfl rfl ?_
    refine ss_iconst h dX4_opens_10 11 rfl ?_
    refine ss_cVa h (m_bad (d := d - 1) (s := s) hM (by omega) (by omega)) (lw_V q1320 q1322 qs50 q87 q1323) kl4 hM.ob 1 rfl md_X4_bad rfl (by omega) (by decide) rfl dX4_opens_11 14 rfl rfl (Nat.le_of_ble_eq_true rfl) (by omega) (by omega) (fun X11 x11 => ?_)
    refine ss_zret h (by first | omega | exact bI_z _) dX4_opens_14 (by omega) (by omega) ?_
    rw [hP9]
    exact ⟨by unfold opnP; rw [if_pos (by omega)]; rfl, rfl, rfl, rfl, by unfold opnP; rw [if_pos (by omega)]; exact x11⟩
theorem m_unit (hM : MOk Ω n K R m) {B : WT} {t : Int} {s : PS} (hB : X (m + 7) = B) (h14 : s.1 14 = t) (ht : TP B t) (hs : PI t s) (hl : 8 ≤ d) : sCt Ω yX4_unit cX4_unit 2 (some .boolean) d 0 0 [.ref m] n K (rdX X m s) R (pA n K R (vI (bI (unitP B t s).1)) (fun X' => X' = rdX X m (unitP B t s).2)) := by
  obtain ⟨a1, a2, a3, a4, a5, a6, a7, a8⟩ := hs
  have ht1 := ht.1
  refine sCt_of (by decide) (by simp [Value.category, vI, va_rf]) (Nat.le_of_ble_eq_true rfl) fun Γ P9 hP9 h => ?_
  show sG (_, _, _, _, _) Γ 0 0 _ _ _ _ 0 [some _, none] []
  refine ss_aload_n (i := 0) h dX4_unit_0 1 rfl rfl rfl ?_
  refine ss_getI h kl4 16 16 rfl (by decide) rfl hM.ob q1103 dX4_unit_1 4 rfl ?_
  try simp only [rd_put, rd_cod, rd_m, put_s, put_o, ne_eq, not_false_eq_true, Int.reduceEq]
  refine ss_bipush h dX4_unit_4 6 rfl (by decide +kernel) ?_
  refine ss_bipush h dX4_unit_6 8 rfl (by decide +kernel) ?_
  refine ss_cSv h (m_isIn (d := d - 1) (by omega) (by omega) (by omega)) (lw_S q1207 q1208 q87 q1209) 3 rfl md_X4_isIn (by omega) (by decide) rfl dX4_unit_8 11 rfl rfl (Nat.le_of_ble_eq_true rfl) (by omega) (by omega) ?_
  refine ss_ist_1 h dX4_unit_11 12 rfl ?_
  refine ss_aload_n (i := 0) h dX4_unit_12 13 rfl rfl rfl ?_
  refine ss_getI h kl4 16 16 rfl (by decide) rfl hM.ob q1103 dX4_unit_13 16 rfl ?_
  try simp only [rd_put, rd_cod, rd_m, put_s, put_o, ne_eq, not_false_eq_true, Int.reduceEq]
  refine ss_iconst h dX4_unit_16 17 rfl ?_
  refine ss_icmp_eq h dX4_unit_17 20 30 rfl (by decide) (by first | omega | exact sRg_b _) (by first | omega | exact sRg_b _) (fun c17 => ?_) (fun c17 => ?_)
  · skip
    refine ss_aload_n (i := 0) h dX4_unit_30 31 rfl rfl rfl ?_
    refine ss_iload_n (i := 1) h dX4_unit_31 32 rfl rfl rfl ?_
    refine ss_if_eq h dX4_unit_32 35 45 rfl (by decide) (sRg_b _) (fun c32 => ?_) (fun c32 => ?_)
    · skip
      replace c32 := bI_0.mp c32
      have hU : unitP B t s = (true, nextP B t (layP 0 (s.1 18) s)) := by
        unfold unitP nameB
        rw [c32, if_neg (fun z => by first | exact z.1 c17 | (rw [c21] at c32; cases c32)), if_neg (by decide)]
      refine ss_iconst h dX4_unit_45 46 rfl ?_
      refine ss_aload_n (i := 0) h dX4_unit_46 47 rfl rfl rfl ?_
      refine ss_getI h kl4 18 18 rfl (by decide) rfl hM.ob q1105 dX4_unit_47 50 rfl ?_
      try simp only [rd_put, rd_cod, rd_m, put_s, put_o, ne_eq, not_false_eq_true, Int.reduceEq]
      refine ss_cVn h (m_lay (d := d - 1) (s := s) hM (by omega) (by omega) (by omega)) (lw_V q1340 q1342 qs55 q87 q1343) kl4 hM.ob 2 rfl md_X4_lay rfl (by omega) (by decide) rfl dX4_unit_50 53 rfl rfl (Nat.le_of_ble_eq_true rfl) (by omega) (by omega) (fun X50 x50 => ?_)
      subst x50
      refine ss_aload_n (i := 0) h dX4_unit_53 54 rfl rfl rfl ?_
      refine ss_cVn h (m_next0R (d := d - 1) hM hB (by rw [lay_o (by decide)]; exact h14) ht (by rw [lay_o (by decide)]; omega) (by omega)) (lw_V q1270 q1272 qs44 q87 q1273) kl4 hM.ob 0 rfl md_X4_next0 rfl (by omega) (by decide) rfl dX4_unit_54 57 rfl rfl (Nat.le_of_ble_eq_true rfl) (by omega) (by omega) (fun X54 x54 => ?_)
      refine ss_iconst h dX4_unit_57 58 rfl ?_
      refine ss_zret h (by first | omega | exact bI_z _) dX4_unit_58 (by omega) (by omega) ?_
      rw [hP9]
      exact ⟨by rw [hU]; rfl, rfl, rfl, rfl, by rw [hU]; exact x54⟩
    · skip
      replace c32 := bI_n.mp c32
      have hU : unitP B t s = (true, nextP B t (layP (s.1 16 - 40) (s.1 18) s)) := by
        unfold unitP nameB
        rw [c32, if_neg (fun z => by cases z.2), if_pos rfl]
      refine ss_aload_n (i := 0) h dX4_unit_35 36 rfl rfl rfl ?_
      refine ss_getI h kl4 16 16 rfl (by decide) rfl hM.ob q1103 dX4_unit_36 39 rfl ?_
      try simp only [rd_put, rd_cod, rd_m, put_s, put_o, ne_eq, not_false_eq_true, Int.reduceEq]
      refine ss_bipush h dX4_unit_39 41 rfl (by decide +kernel) ?_
      refine ss_isub h dX4_unit_41 42 rfl ?_
      refine ss_goto h dX4_unit_42 46 (by decide) ?_
      refine ss_aload_n (i := 0) h dX4_unit_46 47 rfl rfl rfl ?_
      refine ss_getI h kl4 18 18 rfl (by decide) rfl hM.ob q1105 dX4_unit_47 50 rfl ?_
      try simp only [rd_put, rd_cod, rd_m, put_s, put_o, ne_eq, not_false_eq_true, Int.reduceEq]
      refine ss_cVn h (m_lay (d := d - 1) (s := s) hM (by omega) (by omega) (by omega)) (lw_V q1340 q1342 qs55 q87 q1343) kl4 hM.ob 2 rfl md_X4_lay rfl (by omega) (by decide) rfl dX4_unit_50 53 rfl rfl (Nat.le_of_ble_eq_true rfl) (by omega) (by omega) (fun X50 x50 => ?_)
      subst x50
      refine ss_aload_n (i := 0) h dX4_unit_53 54 rfl rfl rfl ?_
      refine ss_cVn h (m_next0R (d := d - 1) hM hB (by rw [lay_o (by decide)]; exact h14) ht (by rw [lay_o (by decide)]; omega) (by omega)) (lw_V q1270 q1272 qs44 q87 q1273) kl4 hM.ob 0 rfl md_X4_next0 rfl (by omega) (by decide) rfl dX4_unit_54 57 rfl rfl (Nat.le_of_ble_eq_true rfl) (by omega) (by omega) (fun X54 x54 => ?_)
      refine ss_iconst h dX4_unit_57 58 rfl ?_
      refine ss_zret h (by first | omega | exact bI_z _) dX4_unit_58 (by omega) (by omega) ?_
      rw [hP9]
      exact ⟨by rw [hU]; rfl, rfl, rfl, rfl, by rw [hU]; exact x54⟩
  · skip
    refine ss_iload_n (i := 1) h dX4_unit_20 21 rfl rfl rfl ?_
    refine ss_if_ne h dX4_unit_21 24 30 rfl (by decide) (sRg_b _) (fun c21 => ?_) (fun c21 => ?_)
    · skip
      replace c21 := bI_1.mp c21
      refine ss_aload_n (i := 0) h dX4_unit_30 31 rfl rfl rfl ?_
      refine ss_iload_n (i := 1) h dX4_unit_31 32 rfl rfl rfl ?_
      refine ss_if_eq h dX4_unit_32 35 45 rfl (by decide) (sRg_b _) (fun c32 => ?_) (fun c32 => ?_)
      · skip
        replace c32 := bI_0.mp c32
        have hU : unitP B t s = (true, nextP B t (layP 0 (s.1 18) s)) := by
          unfold unitP nameB
          rw [c32, if_neg (fun z => by first | exact z.1 c17 | (rw [c21] at c32; cases c32)), if_neg (by decide)]
        refine ss_iconst h dX4_unit_45 46 rfl ?_
        refine ss_aload_n (i := 0) h dX4_unit_46 47 rfl rfl rfl ?_
        refine ss_getI h kl4 18 18 rfl (by decide) rfl hM.ob q1105 dX4_unit_47 50 rfl ?_
        try simp only [rd_put, rd_cod, rd_m, put_s, put_o, ne_eq, not_false_eq_true, Int.reduceEq]
        refine ss_cVn h (m_lay (d := d - 1) (s := s) hM (by omega) (by omega) (by omega)) (lw_V q1340 q1342 qs55 q87 q1343) kl4 hM.ob 2 rfl md_X4_lay rfl (by omega) (by decide) rfl dX4_unit_50 53 rfl rfl (Nat.le_of_ble_eq_true rfl) (by omega) (by omega) (fun X50 x50 => ?_)
        subst x50
        refine ss_aload_n (i := 0) h dX4_unit_53 54 rfl rfl rfl ?_
        refine ss_cVn h (m_next0R (d := d - 1) hM hB (by rw [lay_o (by decide)]; exact h14) ht (by rw [lay_o (by decide)]; omega) (by omega)) (lw_V q1270 q1272 qs44 q87 q1273) kl4 hM.ob 0 rfl md_X4_next0 rfl (by omega) (by decide) rfl dX4_unit_54 57 rfl rfl (Nat.le_of_ble_eq_true rfl) (by omega) (by omega) (fun X54 x54 => ?_)
        refine ss_iconst h dX4_unit_57 58 rfl ?_
        refine ss_zret h (by first | omega | exact bI_z _) dX4_unit_58 (by omega) (by omega) ?_
        rw [hP9]
        exact ⟨by rw [hU]; rfl, rfl, rfl, rfl, by rw [hU]; exact x54⟩
      · skip
        replace c32 := bI_n.mp c32
        have hU : unitP B t s = (true, nextP B t (layP (s.1 16 - 40) (s.1 18) s)) := by
          unfold unitP nameB
          rw [c32, if_neg (fun z => by cases z.2), if_pos rfl]
        refine ss_aload_n (i := 0) h dX4_unit_35 36 rfl rfl rfl ?_
        refine ss_getI h kl4 16 16 rfl (by decide) rfl hM.ob q1103 dX4_unit_36 39 rfl ?_
        try simp only [rd_put, rd_cod, rd_m, put_s, put_o, ne_eq, not_false_eq_true, Int.reduceEq]
        refine ss_bipush h dX4_unit_39 41 rfl (by decide +kernel) ?_
        refine ss_isub h dX4_unit_41 42 rfl ?_
        refine ss_goto h dX4_unit_42 46 (by decide) ?_
        refine ss_aload_n (i := 0) h dX4_unit_46 47 rfl rfl rfl ?_
        refine ss_getI h kl4 18 18 rfl (by decide) rfl hM.ob q1105 dX4_unit_47 50 rfl ?_
        try simp only [rd_put, rd_cod, rd_m, put_s, put_o, ne_eq, not_false_eq_true, Int.reduceEq]
        refine ss_cVn h (m_lay (d := d - 1) (s := s) hM (by omega) (by omega) (by omega)) (lw_V q1340 q1342 qs55 q87 q1343) kl4 hM.ob 2 rfl md_X4_lay rfl (by omega) (by decide) rfl dX4_unit_50 53 rfl rfl (Nat.le_of_ble_eq_true rfl) (by omega) (by omega) (fun X50 x50 => ?_)
        subst x50
        refine ss_aload_n (i := 0) h dX4_unit_53 54 rfl rfl rfl ?_
        refine ss_cVn h (m_next0R (d := d - 1) hM hB (by rw [lay_o (by decide)]; exact h14) ht (by rw [lay_o (by decide)]; omega) (by omega)) (lw_V q1270 q1272 qs44 q87 q1273) kl4 hM.ob 0 rfl md_X4_next0 rfl (by omega) (by decide) rfl dX4_unit_54 57 rfl rfl (Nat.le_of_ble_eq_true rfl) (by omega) (by omega) (fun X54 x54 => ?_)
        refine ss_iconst h dX4_unit_57 58 rfl ?_
        refine ss_zret h (by first | omega | exact bI_z _) dX4_unit_58 (by omega) (by omega) ?_
        rw [hP9]
        exact ⟨by rw [hU]; rfl, rfl, rfl, rfl, by rw [hU]; exact x54⟩
    · skip
      replace c21 := bI_0.mp c21
      have hU : unitP B t s = (false, badP 1 s) := by unfold unitP nameB; rw [if_pos ⟨c17, c21⟩]
      refine ss_aload_n (i := 0) h dX4_unit_24 25 rfl rfl rfl ?_
      refine ss_iconst h dX4_unit_25 26 rfl ?_
      refine ss_cVa h (m_bad (d := d - 1) (s := s) hM (by omega) (by omega)) (lw_V q1320 q1322 qs50 q87 q1323) kl4 hM.ob 1 rfl md_X4_bad rfl (by omega) (by decide) rfl dX4_unit_26 29 rfl rfl (Nat.le_of_ble_eq_true rfl) (by omega) (by omega) (fun X26 x26 => ?_)
      refine ss_zret h (by first | omega | exact bI_z _) dX4_unit_29 (by omega) (by omega) ?_
      rw [hP9]
      exact ⟨by rw [hU]; rfl, rfl, rfl, rfl, by rw [hU]; exact x26⟩
set_option maxHeartbeats 1000000 in
theorem m_product (hM : MOk Ω n K R m) {B : WT} {t : Int} {s : PS} (hB : X (m + 7) = B) (h14 : s.1 14 = t) (ht : TP B t) (hs : PI t s) (hl : 9 ≤ d) : sCt Ω yX4_product cX4_product 3 (some .boolean) d 0 0 [.ref m] n K (rdX X m s) R (pA n K R (vI (bI (prdP B t s).1)) (fun X' => X' = rdX X m (prdP B t s).2)) := by
  have ht1 := ht.1
  refine sCt_of (by decide) (by simp [Value.category, vI, va_rf]) (Nat.le_of_ble_eq_true rfl) fun Γ P9 hP9 h => ?_
  show sG (_, _, _, _, _) Γ 0 0 _ _ _ _ 0 [some _, none, none] []
  refine ss_aload_n (i := 0) h dX4_product_0 1 rfl rfl rfl ?_
  refine ss_cVa h (m_unit (d := d - 1) (s := s) hM hB h14 ht hs (by omega)) (lw_V q1356 q1358 qs59 q87 q1359) kl4 hM.ob 0 rfl md_X4_unit rfl (by omega) (by decide) rfl dX4_product_1 4 rfl rfl (Nat.le_of_ble_eq_true rfl) (by omega) (by omega) (fun X1 x1 => ?_)
  refine ss_if_ne h dX4_product_4 7 9 rfl (by decide) (by first | omega | exact sRg_b _) (fun c4 => ?_) (fun c4 => ?_)
  · skip
    replace c4 := bI_1.mp c4
    have hU : prdP B t s = lpP prdG (prdB B t) 402 (unitP B t s).2 := bnd_1 c4
    obtain ⟨FIN, hFIN⟩ : ∃ F, F = lpP prdG (prdB B t) 402 (unitP B t s).2 := ⟨_, rfl⟩
    rw [← hFIN] at hU
    have gu := unit_good ht s hs c4
    have hu14 := (frm_unit (B := B) (t := t) s 14 (by decide)).trans h14
    subst x1
    refine ss_loop (σ := PS × Nat) (Pp := fun z => sG _ Γ 0 0 n K (rdX X m z.1) R 9 [some (.ref m), none, none] []) (I := fun z => PI t z.1 ∧ z.1.1 14 = t ∧ t - z.1.1 17 < z.2 ∧ lpP prdG (prdB B t) z.2 z.1 = FIN) (fun z => (t - z.1.1 17).toNat) (fun z hz ih => ?_) ((unitP B t s).2, 402) ⟨gu.1, hu14, by have := gu.1.1; dsimp only; omega, hFIN.symm⟩
    obtain ⟨q, f⟩ := z
    dsimp only at hz ih ⊢
    obtain ⟨hq, hq14, hf, hF⟩ := hz
    obtain ⟨a1, a2, a3, a4, a5, a6, a7, a8⟩ := hq
    have hq : PI t q := ⟨a1, a2, a3, a4, a5, a6, a7, a8⟩
    obtain ⟨f, rfl⟩ : ∃ g, f = g + 1 := ⟨f - 1, by omega⟩
    unfold lpP at hF
    refine ss_cut (σ := Unit) (fun s => prdG q = true) 44 (fun s => (rdX X m q)) (fun s => [some (.ref m), none, none]) (fun s => [vI (bI (decide (q.1 16 = 147)))]) (fun s h44 => ?_) (fun J44 => ?_)
    · skip
      rw [if_pos h44] at hF
      have hk : q.1 16 ≠ 0 := by
        have := of_decide_eq_true h44
        omega
      obtain ⟨g1, g2⟩ := next_grow ht hq hk
      have n14 := (frm_next (B := B) (t := t) (s := q) 14 (by decide)).trans hq14
      obtain ⟨b1, b2, b3, b4, b5, b6, b7, b8⟩ := g1.1
      have hst := prdB_grow ht q hq h44
      refine ss_ist_1 h dX4_product_44 45 rfl ?_
      refine ss_aload_n (i := 0) h dX4_product_45 46 rfl rfl rfl ?_
      refine ss_cVn h (m_next0R (d := d - 1) (s := q) hM hB hq14 ht (by omega) (by omega)) (lw_V q1270 q1272 qs44 q87 q1273) kl4 hM.ob 0 rfl md_X4_next0 rfl (by omega) (by decide) rfl dX4_product_46 49 rfl rfl (Nat.le_of_ble_eq_true rfl) (by omega) (by omega) (fun X46 x46 => ?_)
      subst x46
      refine ss_iload_n (i := 1) h dX4_product_49 50 rfl rfl rfl ?_
      refine ss_if_eq h dX4_product_50 53 96 rfl (by decide) (sRg_b _) (fun c50 => ?_) (fun c50 => ?_)
      · skip
        replace c50 := of_decide_eq_false (bI_0.mp c50)
        refine ss_aload_n (i := 0) h dX4_product_96 97 rfl rfl rfl ?_
        refine ss_cVa h (m_unit (d := d - 1) (s := nextP B t q) hM hB n14 ht g1.1 (by omega)) (lw_V q1356 q1358 qs59 q87 q1359) kl4 hM.ob 0 rfl md_X4_unit rfl (by omega) (by decide) rfl dX4_product_97 100 rfl rfl (Nat.le_of_ble_eq_true rfl) (by omega) (by omega) (fun X97 x97 => ?_)
        refine ss_if_ne h dX4_product_100 103 105 rfl (by decide) (by first | omega | exact sRg_b _) (fun c100 => ?_) (fun c100 => ?_)
        · skip
          replace c100 := bI_1.mp c100
          have hPB : prdB B t q = (true, layP 15 0 (unitP B t (nextP B t q)).2) := by unfold prdB; rw [if_neg c50]; exact bnd_1 c100
          subst x97
          have w1 := unit_good ht _ g1.1 c100
          have w2 := w1.1.1
          have w3 := w1.1.2.2.1
          refine ss_aload_n (i := 0) h dX4_product_105 106 rfl rfl rfl ?_
          refine ss_bipush h dX4_product_106 108 rfl (by decide +kernel) ?_
          refine ss_iconst h dX4_product_108 109 rfl ?_
          refine ss_cVn h (m_lay (d := d - 1) (s := (unitP B t (nextP B t q)).2) hM (by omega) (by omega) (by omega)) (lw_V q1340 q1342 qs55 q87 q1343) kl4 hM.ob 2 rfl md_X4_lay rfl (by omega) (by decide) rfl dX4_product_109 112 rfl rfl (Nat.le_of_ble_eq_true rfl) (by omega) (by omega) (fun X109 x109 => ?_)
          subst x109
          have gg := hst (by rw [hPB])
          rw [hPB] at gg hF
          have gf := frm_prdB (B := B) (t := t) q 14 (by decide)
          rw [hPB] at gf
          have fin := ih (layP 15 0 (unitP B t (nextP B t q)).2, f) ⟨gg.1, gf.trans hq14, by have := gg.2.1; dsimp only at this ⊢; omega, hF⟩ (by have := gg.2.1; have := gg.1.1; dsimp only at *; omega)
          refine ss_goto h dX4_product_112 9 (by decide) ?_
          refine ss_kl_1 (ss_kl_2 ?_)
          exact fin
        · skip
          replace c100 := bI_0.mp c100
          have hPB : prdB B t q = unitP B t (nextP B t q) := by unfold prdB; rw [if_neg c50]; exact bnd_0 c100
          refine ss_iconst h dX4_product_103 104 rfl ?_
          refine ss_zret h (by first | omega | exact bI_z _) dX4_product_104 (by omega) (by omega) ?_
          rw [hP9]
          exact ⟨by rw [hU, ← hF, hPB, bnd_0 c100, c100]; rfl, rfl, rfl, rfl, by rw [hU, ← hF, hPB, bnd_0 c100]; exact x97⟩
      · skip
        replace c50 := of_decide_eq_true (bI_n.mp c50)
        refine ss_aload_n (i := 0) h dX4_product_53 54 rfl rfl rfl ?_
        refine ss_getI h kl4 18 18 rfl (by decide) rfl hM.ob q1105 dX4_product_54 57 rfl ?_
        try simp only [rd_put, rd_cod, rd_m, put_s, put_o, ne_eq, not_false_eq_true, Int.reduceEq]
        refine ss_ist_2 h dX4_product_57 58 rfl ?_
        refine ss_aload_n (i := 0) h dX4_product_58 59 rfl rfl rfl ?_
        refine ss_getI h kl4 16 16 rfl (by decide) rfl hM.ob q1103 dX4_product_59 62 rfl ?_
        try simp only [rd_put, rd_cod, rd_m, put_s, put_o, ne_eq, not_false_eq_true, Int.reduceEq]
        refine ss_iconst h dX4_product_62 63 rfl ?_
        refine ss_icmp_eq h dX4_product_63 66 72 rfl (by decide) (by first | omega | exact sRg_b _) (by first | omega | exact sRg_b _) (fun c63 => ?_) (fun c63 => ?_)
        · skip
          refine ss_iload_n (i := 2) h dX4_product_72 73 rfl rfl rfl ?_
          refine ss_if_ne h dX4_product_73 76 82 rfl (by decide) (by first | omega | exact sRg_b _) (fun c73 => ?_) (fun c73 => ?_)
          · skip
            have hPB : prdB B t q = (true, layP 16 ((nextP B t q).1 18) (nextP B t (nextP B t q))) := by unfold prdB; rw [if_pos c50, if_neg (by omega), if_neg c73]
            obtain ⟨w1, w2⟩ := next_grow ht g1.1 (show (nextP B t q).1 16 ≠ 0 by omega)
            refine ss_aload_n (i := 0) h dX4_product_82 83 rfl rfl rfl ?_
            refine ss_cVn h (m_next0R (d := d - 1) (s := nextP B t q) hM hB n14 ht (by omega) (by omega)) (lw_V q1270 q1272 qs44 q87 q1273) kl4 hM.ob 0 rfl md_X4_next0 rfl (by omega) (by decide) rfl dX4_product_83 86 rfl rfl (Nat.le_of_ble_eq_true rfl) (by omega) (by omega) (fun X83 x83 => ?_)
            subst x83
            refine ss_aload_n (i := 0) h dX4_product_86 87 rfl rfl rfl ?_
            refine ss_bipush h dX4_product_87 89 rfl (by decide +kernel) ?_
            refine ss_iload_n (i := 2) h dX4_product_89 90 rfl rfl rfl ?_
            refine ss_cVn h (m_lay (d := d - 1) (s := nextP B t (nextP B t q)) hM (by omega) (by omega) (by omega)) (lw_V q1340 q1342 qs55 q87 q1343) kl4 hM.ob 2 rfl md_X4_lay rfl (by omega) (by decide) rfl dX4_product_90 93 rfl rfl (Nat.le_of_ble_eq_true rfl) (by omega) (by omega) (fun X90 x90 => ?_)
            subst x90
            have gg := hst (by rw [hPB])
            rw [hPB] at gg hF
            have gf := frm_prdB (B := B) (t := t) q 14 (by decide)
            rw [hPB] at gf
            have fin := ih (layP 16 ((nextP B t q).1 18) (nextP B t (nextP B t q)), f) ⟨gg.1, gf.trans hq14, by have := gg.2.1; dsimp only at this ⊢; omega, hF⟩ (by have := gg.2.1; have := gg.1.1; dsimp only at *; omega)
            refine ss_goto h dX4_product_93 112 (by decide) ?_
            refine ss_goto h dX4_product_112 9 (by decide) ?_
            refine ss_kl_1 (ss_kl_2 ?_)
            exact fin
          · skip
            have hPB : prdB B t q = (false, badP 2 (nextP B t q)) := by unfold prdB; rw [if_pos c50, if_neg (by omega), if_pos (by omega)]
            refine ss_aload_n (i := 0) h dX4_product_76 77 rfl rfl rfl ?_
            refine ss_iconst h dX4_product_77 78 rfl ?_
            refine ss_cVa h (m_bad (d := d - 1) (s := nextP B t q) hM (by omega) (by omega)) (lw_V q1320 q1322 qs50 q87 q1323) kl4 hM.ob 1 rfl md_X4_bad rfl (by omega) (by decide) rfl dX4_product_78 81 rfl rfl (Nat.le_of_ble_eq_true rfl) (by omega) (by omega) (fun X78 x78 => ?_)
            refine ss_zret h (by first | omega | exact bI_z _) dX4_product_81 (by omega) (by omega) ?_
            rw [hP9]
            exact ⟨by rw [hU, ← hF, hPB]; rfl, rfl, rfl, rfl, by rw [hU, ← hF, hPB]; exact x78⟩
        · skip
          have hPB : prdB B t q = (false, badP 1 (nextP B t q)) := by unfold prdB; rw [if_pos c50, if_pos c63]
          refine ss_aload_n (i := 0) h dX4_product_66 67 rfl rfl rfl ?_
          refine ss_iconst h dX4_product_67 68 rfl ?_
          refine ss_cVa h (m_bad (d := d - 1) (s := nextP B t q) hM (by omega) (by omega)) (lw_V q1320 q1322 qs50 q87 q1323) kl4 hM.ob 1 rfl md_X4_bad rfl (by omega) (by decide) rfl dX4_product_68 71 rfl rfl (Nat.le_of_ble_eq_true rfl) (by omega) (by omega) (fun X68 x68 => ?_)
          refine ss_zret h (by first | omega | exact bI_z _) dX4_product_71 (by omega) (by omega) ?_
          rw [hP9]
          exact ⟨by rw [hU, ← hF, hPB]; rfl, rfl, rfl, rfl, by rw [hU, ← hF, hPB]; exact x68⟩
    refine ss_aload_n (i := 0) h dX4_product_9 10 rfl rfl rfl ?_
    refine ss_getI h kl4 16 16 rfl (by decide) rfl hM.ob q1103 dX4_product_10 13 rfl ?_
    try simp only [rd_put, rd_cod, rd_m, put_s, put_o, ne_eq, not_false_eq_true, Int.reduceEq]
    refine ss_sipush h dX4_product_13 16 rfl (by decide +kernel) ?_
    refine ss_icmp_eq h dX4_product_16 19 29 rfl (by decide) (by first | omega | exact sRg_b _) (by first | omega | exact sRg_b _) (fun c16 => ?_) (fun c16 => ?_)
    · skip
      refine ss_aload_n (i := 0) h dX4_product_29 30 rfl rfl rfl ?_
      refine ss_getI h kl4 16 16 rfl (by decide) rfl hM.ob q1103 dX4_product_30 33 rfl ?_
      try simp only [rd_put, rd_cod, rd_m, put_s, put_o, ne_eq, not_false_eq_true, Int.reduceEq]
      refine ss_sipush h dX4_product_33 36 rfl (by decide +kernel) ?_
      refine ss_icmp_ne h dX4_product_36 39 43 rfl (by decide) (by first | omega | exact sRg_b _) (by first | omega | exact sRg_b _) (fun c36 => ?_) (fun c36 => ?_)
      · skip
        refine ss_iconst h dX4_product_43 44 rfl ?_
        have z := J44 () (decide_eq_true (by omega))
        first
          | (rw [decide_eq_true (show q.1 16 = 147 by omega)] at z; exact z)
          | (rw [decide_eq_false (show ¬ q.1 16 = 147 by omega)] at z; exact z)
          | (exfalso; omega)
      · skip
        refine ss_iconst h dX4_product_39 40 rfl ?_
        refine ss_goto h dX4_product_40 44 (by decide) ?_
        have z := J44 () (decide_eq_true (by omega))
        first
          | (rw [decide_eq_true (show q.1 16 = 147 by omega)] at z; exact z)
          | (rw [decide_eq_false (show ¬ q.1 16 = 147 by omega)] at z; exact z)
          | (exfalso; omega)
    · skip
      refine ss_aload_n (i := 0) h dX4_product_19 20 rfl rfl rfl ?_
      refine ss_getI h kl4 16 16 rfl (by decide) rfl hM.ob q1103 dX4_product_20 23 rfl ?_
      try simp only [rd_put, rd_cod, rd_m, put_s, put_o, ne_eq, not_false_eq_true, Int.reduceEq]
      refine ss_sipush h dX4_product_23 26 rfl (by decide +kernel) ?_
      refine ss_icmp_ne h dX4_product_26 29 115 rfl (by decide) (by first | omega | exact sRg_b _) (by first | omega | exact sRg_b _) (fun c26 => ?_) (fun c26 => ?_)
      · skip
        have hg : prdG q = false := decide_eq_false (by omega)
        rw [if_neg (by rw [hg]; decide)] at hF
        refine ss_iconst h dX4_product_115 116 rfl ?_
        refine ss_zret h (by first | omega | exact bI_z _) dX4_product_116 (by omega) (by omega) ?_
        rw [hP9]
        exact ⟨by rw [hU, ← hF]; rfl, rfl, rfl, rfl, by rw [hU, ← hF]⟩
      · skip
        refine ss_aload_n (i := 0) h dX4_product_29 30 rfl rfl rfl ?_
        refine ss_getI h kl4 16 16 rfl (by decide) rfl hM.ob q1103 dX4_product_30 33 rfl ?_
        try simp only [rd_put, rd_cod, rd_m, put_s, put_o, ne_eq, not_false_eq_true, Int.reduceEq]
        refine ss_sipush h dX4_product_33 36 rfl (by decide +kernel) ?_
        refine ss_icmp_ne h dX4_product_36 39 43 rfl (by decide) (by first | omega | exact sRg_b _) (by first | omega | exact sRg_b _) (fun c36 => ?_) (fun c36 => ?_)
        · skip
          refine ss_iconst h dX4_product_43 44 rfl ?_
          have z := J44 () (decide_eq_true (by omega))
          first
            | (rw [decide_eq_true (show q.1 16 = 147 by omega)] at z; exact z)
            | (rw [decide_eq_false (show ¬ q.1 16 = 147 by omega)] at z; exact z)
            | (exfalso; omega)
        · skip
          refine ss_iconst h dX4_product_39 40 rfl ?_
          refine ss_goto h dX4_product_40 44 (by decide) ?_
          have z := J44 () (decide_eq_true (by omega))
          first
            | (rw [decide_eq_true (show q.1 16 = 147 by omega)] at z; exact z)
            | (rw [decide_eq_false (show ¬ q.1 16 = 147 by omega)] at z; exact z)
            | (exfalso; omega)
  · skip
    replace c4 := bI_0.mp c4
    have hU : prdP B t s = unitP B t s := bnd_0 c4
    refine ss_iconst h dX4_product_7 8 rfl ?_
    refine ss_zret h (by first | omega | exact bI_z _) dX4_product_8 (by omega) (by omega) ?_
    rw [hP9]
    exact ⟨by rw [hU, c4]; rfl, rfl, rfl, rfl, by rw [hU]; exact x1⟩
set_option maxHeartbeats 1000000 in
theorem m_sumUp (hM : MOk Ω n K R m) {B : WT} {t : Int} {s : PS} (hB : X (m + 7) = B) (h14 : s.1 14 = t) (ht : TP B t) (hs : PI t s) (hl : 10 ≤ d) : sCt Ω yX4_sumUp cX4_sumUp 2 (some .boolean) d 0 0 [.ref m] n K (rdX X m s) R (pA n K R (vI (bI (sumP B t s).1)) (fun X' => X' = rdX X m (sumP B t s).2)) := by
  have ht1 := ht.1
  refine sCt_of (by decide) (by simp [Value.category, vI, va_rf]) (Nat.le_of_ble_eq_true rfl) fun Γ P9 hP9 h => ?_
  show sG (_, _, _, _, _) Γ 0 0 _ _ _ _ 0 [some _, none] []
  refine ss_aload_n (i := 0) h dX4_sumUp_0 1 rfl rfl rfl ?_
  refine ss_cVa h (m_product (d := d - 1) (s := s) hM hB h14 ht hs (by omega)) (lw_V q1352 q1354 qs58 q87 q1355) kl4 hM.ob 0 rfl md_X4_product rfl (by omega) (by decide) rfl dX4_sumUp_1 4 rfl rfl (Nat.le_of_ble_eq_true rfl) (by omega) (by omega) (fun X1 x1 => ?_)
  refine ss_if_ne h dX4_sumUp_4 7 9 rfl (by decide) (by first | omega | exact sRg_b _) (fun c4 => ?_) (fun c4 => ?_)
  · skip
    replace c4 := bI_1.mp c4
    have hU : sumP B t s = lpP sumG (sumB B t) 402 (prdP B t s).2 := bnd_1 c4
    obtain ⟨FIN, hFIN⟩ : ∃ F, F = lpP sumG (sumB B t) 402 (prdP B t s).2 := ⟨_, rfl⟩
    rw [← hFIN] at hU
    have gu := prd_good ht s hs c4
    have hu14 := (frm_prd (B := B) (t := t) s 14 (by decide)).trans h14
    subst x1
    refine ss_loop (σ := PS × Nat) (Pp := fun z => sG _ Γ 0 0 n K (rdX X m z.1) R 9 [some (.ref m), none] []) (I := fun z => PI t z.1 ∧ z.1.1 14 = t ∧ t - z.1.1 17 < z.2 ∧ lpP sumG (sumB B t) z.2 z.1 = FIN) (fun z => (t - z.1.1 17).toNat) (fun z hz ih => ?_) ((prdP B t s).2, 402) ⟨gu.1, hu14, by have := gu.1.1; dsimp only; omega, hFIN.symm⟩
    obtain ⟨q, f⟩ := z
    dsimp only at hz ih ⊢
    obtain ⟨hq, hq14, hf, hF⟩ := hz
    obtain ⟨a1, a2, a3, a4, a5, a6, a7, a8⟩ := hq
    have hq : PI t q := ⟨a1, a2, a3, a4, a5, a6, a7, a8⟩
    obtain ⟨f, rfl⟩ : ∃ g, f = g + 1 := ⟨f - 1, by omega⟩
    unfold lpP at hF
    refine ss_cut (σ := Unit) (fun s => sumG q = true) 46 (fun s => (rdX X m q)) (fun s => [some (.ref m), none]) (fun s => [vI (if q.1 16 = 143 then 13 else 14)]) (fun s h46 => ?_) (fun J46 => ?_)
    · skip
      rw [if_pos h46] at hF
      have hk : q.1 16 ≠ 0 := by
        have := of_decide_eq_true h46
        omega
      obtain ⟨g1, g2⟩ := next_grow ht hq hk
      have n14 := (frm_next (B := B) (t := t) (s := q) 14 (by decide)).trans hq14
      obtain ⟨b1, b2, b3, b4, b5, b6, b7, b8⟩ := g1.1
      have hst := sumB_grow ht q hq h46
      have hh : sRg (if q.1 16 = 143 then 13 else 14) := by split <;> decide
      refine ss_ist_1 h dX4_sumUp_46 47 rfl ?_
      refine ss_aload_n (i := 0) h dX4_sumUp_47 48 rfl rfl rfl ?_
      refine ss_cVn h (m_next0R (d := d - 1) (s := q) hM hB hq14 ht (by omega) (by omega)) (lw_V q1270 q1272 qs44 q87 q1273) kl4 hM.ob 0 rfl md_X4_next0 rfl (by omega) (by decide) rfl dX4_sumUp_48 51 rfl rfl (Nat.le_of_ble_eq_true rfl) (by omega) (by omega) (fun X48 x48 => ?_)
      subst x48
      refine ss_aload_n (i := 0) h dX4_sumUp_51 52 rfl rfl rfl ?_
      refine ss_cVa h (m_product (d := d - 1) (s := nextP B t q) hM hB n14 ht g1.1 (by omega)) (lw_V q1352 q1354 qs58 q87 q1355) kl4 hM.ob 0 rfl md_X4_product rfl (by omega) (by decide) rfl dX4_sumUp_52 55 rfl rfl (Nat.le_of_ble_eq_true rfl) (by omega) (by omega) (fun X52 x52 => ?_)
      refine ss_if_ne h dX4_sumUp_55 58 60 rfl (by decide) (by first | omega | exact sRg_b _) (fun c55 => ?_) (fun c55 => ?_)
      · skip
        replace c55 := bI_1.mp c55
        have hPB : sumB B t q = (true, layP (if q.1 16 = 143 then 13 else 14) 0 (prdP B t (nextP B t q)).2) := bnd_1 c55
        subst x52
        have w1 := prd_good ht _ g1.1 c55
        have w2 := w1.1.1
        have w3 := w1.1.2.2.1
        refine ss_aload_n (i := 0) h dX4_sumUp_60 61 rfl rfl rfl ?_
        refine ss_iload_n (i := 1) h dX4_sumUp_61 62 rfl rfl rfl ?_
        refine ss_iconst h dX4_sumUp_62 63 rfl ?_
        refine ss_cVn h (m_lay (d := d - 1) (s := (prdP B t (nextP B t q)).2) hM hh (by omega) (by omega)) (lw_V q1340 q1342 qs55 q87 q1343) kl4 hM.ob 2 rfl md_X4_lay rfl (by omega) (by decide) rfl dX4_sumUp_63 66 rfl rfl (Nat.le_of_ble_eq_true rfl) (by omega) (by omega) (fun X63 x63 => ?_)
        subst x63
        have gg := hst (by rw [hPB])
        rw [hPB] at gg hF
        have gf := frm_sumB (B := B) (t := t) q 14 (by decide)
        rw [hPB] at gf
        have fin := ih (layP (if q.1 16 = 143 then 13 else 14) 0 (prdP B t (nextP B t q)).2, f) ⟨gg.1, gf.trans hq14, by have := gg.2.1; dsimp only at this ⊢; omega, hF⟩ (by have := gg.2.1; have := gg.1.1; dsimp only at *; omega)
        refine ss_goto h dX4_sumUp_66 9 (by decide) ?_
        refine ss_kl_1 ?_
        exact fin
      · skip
        replace c55 := bI_0.mp c55
        have hPB : sumB B t q = prdP B t (nextP B t q) := bnd_0 c55
        refine ss_iconst h dX4_sumUp_58 59 rfl ?_
        refine ss_zret h (by first | omega | exact bI_z _) dX4_sumUp_59 (by omega) (by omega) ?_
        rw [hP9]
        exact ⟨by rw [hU, ← hF, hPB, bnd_0 c55, c55]; rfl, rfl, rfl, rfl, by rw [hU, ← hF, hPB, bnd_0 c55]; exact x52⟩
    refine ss_aload_n (i := 0) h dX4_sumUp_9 10 rfl rfl rfl ?_
    refine ss_getI h kl4 16 16 rfl (by decide) rfl hM.ob q1103 dX4_sumUp_10 13 rfl ?_
    try simp only [rd_put, rd_cod, rd_m, put_s, put_o, ne_eq, not_false_eq_true, Int.reduceEq]
    refine ss_sipush h dX4_sumUp_13 16 rfl (by decide +kernel) ?_
    refine ss_icmp_eq h dX4_sumUp_16 19 29 rfl (by decide) (by first | omega | exact sRg_b _) (by first | omega | exact sRg_b _) (fun c16 => ?_) (fun c16 => ?_)
    · skip
      refine ss_aload_n (i := 0) h dX4_sumUp_29 30 rfl rfl rfl ?_
      refine ss_getI h kl4 16 16 rfl (by decide) rfl hM.ob q1103 dX4_sumUp_30 33 rfl ?_
      try simp only [rd_put, rd_cod, rd_m, put_s, put_o, ne_eq, not_false_eq_true, Int.reduceEq]
      refine ss_sipush h dX4_sumUp_33 36 rfl (by decide +kernel) ?_
      refine ss_icmp_ne h dX4_sumUp_36 39 44 rfl (by decide) (by first | omega | exact sRg_b _) (by first | omega | exact sRg_b _) (fun c36 => ?_) (fun c36 => ?_)
      · skip
        refine ss_bipush h dX4_sumUp_44 46 rfl (by decide +kernel) ?_
        have z := J46 () (decide_eq_true (by omega))
        first
          | (rw [if_pos (show q.1 16 = 143 by omega)] at z; exact z)
          | (rw [if_neg (show ¬ q.1 16 = 143 by omega)] at z; exact z)
          | (exfalso; omega)
      · skip
        refine ss_bipush h dX4_sumUp_39 41 rfl (by decide +kernel) ?_
        refine ss_goto h dX4_sumUp_41 46 (by decide) ?_
        have z := J46 () (decide_eq_true (by omega))
        first
          | (rw [if_pos (show q.1 16 = 143 by omega)] at z; exact z)
          | (rw [if_neg (show ¬ q.1 16 = 143 by omega)] at z; exact z)
          | (exfalso; omega)
    · skip
      refine ss_aload_n (i := 0) h dX4_sumUp_19 20 rfl rfl rfl ?_
      refine ss_getI h kl4 16 16 rfl (by decide) rfl hM.ob q1103 dX4_sumUp_20 23 rfl ?_
      try simp only [rd_put, rd_cod, rd_m, put_s, put_o, ne_eq, not_false_eq_true, Int.reduceEq]
      refine ss_sipush h dX4_sumUp_23 26 rfl (by decide +kernel) ?_
      refine ss_icmp_ne h dX4_sumUp_26 29 69 rfl (by decide) (by first | omega | exact sRg_b _) (by first | omega | exact sRg_b _) (fun c26 => ?_) (fun c26 => ?_)
      · skip
        have hg : sumG q = false := decide_eq_false (by omega)
        rw [if_neg (by rw [hg]; decide)] at hF
        refine ss_iconst h dX4_sumUp_69 70 rfl ?_
        refine ss_zret h (by first | omega | exact bI_z _) dX4_sumUp_70 (by omega) (by omega) ?_
        rw [hP9]
        exact ⟨by rw [hU, ← hF]; rfl, rfl, rfl, rfl, by rw [hU, ← hF]⟩
      · skip
        refine ss_aload_n (i := 0) h dX4_sumUp_29 30 rfl rfl rfl ?_
        refine ss_getI h kl4 16 16 rfl (by decide) rfl hM.ob q1103 dX4_sumUp_30 33 rfl ?_
        try simp only [rd_put, rd_cod, rd_m, put_s, put_o, ne_eq, not_false_eq_true, Int.reduceEq]
        refine ss_sipush h dX4_sumUp_33 36 rfl (by decide +kernel) ?_
        refine ss_icmp_ne h dX4_sumUp_36 39 44 rfl (by decide) (by first | omega | exact sRg_b _) (by first | omega | exact sRg_b _) (fun c36 => ?_) (fun c36 => ?_)
        · skip
          refine ss_bipush h dX4_sumUp_44 46 rfl (by decide +kernel) ?_
          have z := J46 () (decide_eq_true (by omega))
          first
            | (rw [if_pos (show q.1 16 = 143 by omega)] at z; exact z)
            | (rw [if_neg (show ¬ q.1 16 = 143 by omega)] at z; exact z)
            | (exfalso; omega)
        · skip
          refine ss_bipush h dX4_sumUp_39 41 rfl (by decide +kernel) ?_
          refine ss_goto h dX4_sumUp_41 46 (by decide) ?_
          have z := J46 () (decide_eq_true (by omega))
          first
            | (rw [if_pos (show q.1 16 = 143 by omega)] at z; exact z)
            | (rw [if_neg (show ¬ q.1 16 = 143 by omega)] at z; exact z)
            | (exfalso; omega)
  · skip
    replace c4 := bI_0.mp c4
    have hU : sumP B t s = prdP B t s := bnd_0 c4
    refine ss_iconst h dX4_sumUp_7 8 rfl ?_
    refine ss_zret h (by first | omega | exact bI_z _) dX4_sumUp_8 (by omega) (by omega) ?_
    rw [hP9]
    exact ⟨by rw [hU, c4]; rfl, rfl, rfl, rfl, by rw [hU]; exact x1⟩
end M18

