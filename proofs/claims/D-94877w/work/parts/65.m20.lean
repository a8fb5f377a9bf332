/-! ===== the twin: lines ===== -/
section M20
variable {Ω : OmT} {n : Nat} {K : KT} {X : XT} {R : RT} {m : Nat} {d : Nat}
theorem rd_up5 {X : XT} {m : Nat} {s : PS} {i v : Int} : sUp (rdX X m s) (m + 5) i v = rdX (sUp X (m + 5) i v) m s := by
  funext a l
  by_cases e1 : a = m + 5
  · rw [e1, sUp_s, rd_o (by omega) (by omega), rd_o (by omega) (by omega), sUp_s]
  · rw [sUp_ne e1]
    by_cases e2 : a = m
    · rw [e2, rd_m, rd_m]
    · by_cases e3 : a = m + 6
      · rw [e3, rd_6, rd_6]
      · rw [rd_o e2 e3, rd_o e2 e3, sUp_ne e1]
set_option maxHeartbeats 1000000 in
theorem m_aLine (hM : MOk Ω n K R m) {B F : WT} {t : Int} {s : PS} (hB : X (m + 7) = B) (h14 : s.1 14 = t) (ht : TP B t) (hs : PI t s) (h12 : 0 ≤ s.1 12 ∧ s.1 12 ≤ 16) (hl : 42 ≤ d) : sCt Ω yX4_aLine cX4_aLine 1 (some .boolean) d 0 0 [.ref m] n K (rdX (sArr X (m + 5) F) m s) R (pA n K R (vI (bI (linP B t s F).1)) (fun X' => X' = rdX (sArr X (m + 5) (linP B t s F).2.2) m (linP B t s F).2.1)) := by
  have ht1 := ht.1
  obtain ⟨a1, a2, a3, a4, a5, a6, a7, a8⟩ := hs
  have hs : PI t s := ⟨a1, a2, a3, a4, a5, a6, a7, a8⟩
  have hB' : ∀ G : WT, sArr X (m + 5) G (m + 7) = B := fun G => by rw [sArr_n (by omega), hB]
  obtain ⟨P0, hP⟩ : ∃ P, P = linP B t s F := ⟨_, rfl⟩
  rw [← hP]
  unfold linP at hP
  refine sCt_of (by decide) (by simp [Value.category, vI, va_rf]) (Nat.le_of_ble_eq_true rfl) fun Γ P9 hP9 h => ?_
  show sG (_, _, _, _, _) Γ 0 0 _ _ _ _ 0 [some _] []
  refine ss_aload_n (i := 0) h dX4_aLine_0 1 rfl rfl rfl ?_
  refine ss_getI h kl4 16 16 rfl (by decide) rfl hM.ob q1103 dX4_aLine_1 4 rfl ?_
  try simp only [rd_put, rd_cod, rd_m, rd_up5, sArr_sUp, put_s, put_o, ne_eq, not_false_eq_true, Int.reduceEq]
  refine ss_bipush h dX4_aLine_4 6 rfl (by decide +kernel) ?_
  refine ss_bipush h dX4_aLine_6 8 rfl (by decide +kernel) ?_
  refine ss_cSv h (m_isIn (d := d - 1) (by omega) (by omega) (by omega)) (lw_S q1207 q1208 q87 q1209) 3 rfl md_X4_isIn (by omega) (by decide) rfl dX4_aLine_8 11 rfl rfl (Nat.le_of_ble_eq_true rfl) (by omega) (by omega) ?_
  refine ss_if_ne h dX4_aLine_11 14 20 rfl (by decide) (by first | omega | exact sRg_b _) (fun c11 => ?_) (fun c11 => ?_)
  · skip
    replace c11 := bI_1.mp c11
    rw [if_neg (by rw [c11]; decide)] at hP
    have p1 := inB_t.mp c11
    refine ss_aload_n (i := 0) h dX4_aLine_20 21 rfl rfl rfl ?_
    refine ss_getI h kl4 12 12 rfl (by decide) rfl hM.ob q1099 dX4_aLine_21 24 rfl ?_
    try simp only [rd_put, rd_cod, rd_m, rd_up5, sArr_sUp, put_s, put_o, ne_eq, not_false_eq_true, Int.reduceEq]
    refine ss_bipush h dX4_aLine_24 26 rfl (by decide +kernel) ?_
    refine ss_icmp_ne h dX4_aLine_26 29 35 rfl (by decide) (by first | omega | exact sRg_b _) (by first | omega | exact sRg_b _) (fun c26 => ?_) (fun c26 => ?_)
    · skip
      rw [if_neg c26] at hP
      obtain ⟨g1, g2, g3, g4⟩ := lin_next ht hs (show s.1 16 ≠ 0 by omega)
      obtain ⟨S, hS⟩ : ∃ S, S = nextP B t (putP s 22 0) := ⟨_, rfl⟩
      rw [← hS] at hP g1 g2 g3 g4
      have f12 : S.1 12 = s.1 12 := by rw [hS]; exact (frm_next (B := B) (t := t) (s := putP s 22 0) 12 (by decide)).trans (put_o (by decide))
      have f14 : S.1 14 = t := by rw [hS]; exact ((frm_next (B := B) (t := t) (s := putP s 22 0) 14 (by decide)).trans (put_o (by decide))).trans h14
      obtain ⟨b1, b2, b3, b4, b5, b6, b7, b8⟩ := g1
      have g1 : PI t S := ⟨b1, b2, b3, b4, b5, b6, b7, b8⟩
      refine ss_aload_n (i := 0) h dX4_aLine_35 36 rfl rfl rfl ?_
      refine ss_getS h kl4 7 7 rfl (by decide) rfl hM.ob q1094 dX4_aLine_36 39 rfl hM.r_freshLine ?_
      try simp only [rd_put, rd_cod, rd_m, rd_up5, sArr_sUp, put_s, put_o, ne_eq, not_false_eq_true, Int.reduceEq]
      refine ss_iconst h dX4_aLine_39 40 rfl ?_
      refine ss_aload_n (i := 0) h dX4_aLine_40 41 rfl rfl rfl ?_
      refine ss_getI h kl4 12 12 rfl (by decide) rfl hM.ob q1099 dX4_aLine_41 44 rfl ?_
      try simp only [rd_put, rd_cod, rd_m, rd_up5, sArr_sUp, put_s, put_o, ne_eq, not_false_eq_true, Int.reduceEq]
      refine ss_imul h dX4_aLine_44 45 rfl ?_
      refine ss_aload_n (i := 0) h dX4_aLine_45 46 rfl rfl rfl ?_
      refine ss_getI h kl4 16 16 rfl (by decide) rfl hM.ob q1103 dX4_aLine_46 49 rfl ?_
      try simp only [rd_put, rd_cod, rd_m, rd_up5, sArr_sUp, put_s, put_o, ne_eq, not_false_eq_true, Int.reduceEq]
      refine ss_bipush h dX4_aLine_49 51 rfl (by decide +kernel) ?_
      refine ss_isub h dX4_aLine_51 52 rfl ?_
      refine ss_iast h hM.k_freshLine (by decide) (by omega) (by omega) dX4_aLine_52 53 rfl ?_
      try simp only [rd_put, rd_cod, rd_m, rd_up5, sArr_sUp, put_s, put_o, ne_eq, not_false_eq_true, Int.reduceEq]
      refine ss_aload_n (i := 0) h dX4_aLine_53 54 rfl rfl rfl ?_
      refine ss_iconst h dX4_aLine_54 55 rfl ?_
      refine ss_putI h kl4 22 22 rfl (by decide) rfl hM.ob q1109 (Or.inl rfl) (by omega) dX4_aLine_55 58 rfl ?_
      try simp only [rd_put, rd_cod, rd_m, rd_up5, sArr_sUp, put_s, put_o, ne_eq, not_false_eq_true, Int.reduceEq]
      refine ss_aload_n (i := 0) h dX4_aLine_58 59 rfl rfl rfl ?_
      refine ss_cVn h (m_next0R (d := d - 1) (s := putP s 22 0) hM (hB' _) (by rw [put_o (by decide)]; exact h14) ht (by rw [put_o (by decide)]; omega) (by omega)) (lw_V q1270 q1272 qs44 q87 q1273) kl4 hM.ob 0 rfl md_X4_next0 rfl (by omega) (by decide) rfl dX4_aLine_59 62 rfl rfl (Nat.le_of_ble_eq_true rfl) (by omega) (by omega) (fun X59 x59 => ?_)
      rw [← hS] at x59
      subst x59
      refine ss_aload_n (i := 0) h dX4_aLine_62 63 rfl rfl rfl ?_
      refine ss_getS h kl4 7 7 rfl (by decide) rfl hM.ob q1094 dX4_aLine_63 66 rfl hM.r_freshLine ?_
      try simp only [rd_put, rd_cod, rd_m, rd_up5, sArr_sUp, put_s, put_o, ne_eq, not_false_eq_true, Int.reduceEq]
      refine ss_iconst h dX4_aLine_66 67 rfl ?_
      refine ss_aload_n (i := 0) h dX4_aLine_67 68 rfl rfl rfl ?_
      refine ss_getI h kl4 12 12 rfl (by decide) rfl hM.ob q1099 dX4_aLine_68 71 rfl ?_
      try simp only [rd_put, rd_cod, rd_m, rd_up5, sArr_sUp, put_s, put_o, ne_eq, not_false_eq_true, Int.reduceEq]
      first | rw [f12] | rw [e12]
      refine ss_imul h dX4_aLine_71 72 rfl ?_
      refine ss_iconst h dX4_aLine_72 73 rfl ?_
      refine ss_iadd h dX4_aLine_73 74 rfl ?_
      refine ss_aload_n (i := 0) h dX4_aLine_74 75 rfl rfl rfl ?_
      refine ss_getI h kl4 13 13 rfl (by decide) rfl hM.ob q1100 dX4_aLine_75 78 rfl ?_
      try simp only [rd_put, rd_cod, rd_m, rd_up5, sArr_sUp, put_s, put_o, ne_eq, not_false_eq_true, Int.reduceEq]
      refine ss_iast h hM.k_freshLine (by decide) (by omega) (by omega) dX4_aLine_78 79 rfl ?_
      try simp only [rd_put, rd_cod, rd_m, rd_up5, sArr_sUp, put_s, put_o, ne_eq, not_false_eq_true, Int.reduceEq]
      refine ss_aload_n (i := 0) h dX4_aLine_79 80 rfl rfl rfl ?_
      refine ss_getI h kl4 16 16 rfl (by decide) rfl hM.ob q1103 dX4_aLine_80 83 rfl ?_
      try simp only [rd_put, rd_cod, rd_m, rd_up5, sArr_sUp, put_s, put_o, ne_eq, not_false_eq_true, Int.reduceEq]
      refine ss_iconst h dX4_aLine_83 84 rfl ?_
      refine ss_icmp_ne h dX4_aLine_84 87 100 rfl (by decide) (by first | omega | exact sRg_b _) (by first | omega | exact sRg_b _) (fun c84 => ?_) (fun c84 => ?_)
      · skip
        have hLM : linM B t S = (true, S) := if_neg c84
        have hL1 : (linM B t S).1 = true := by rw [hLM]
        have hL2 : (linM B t S).2 = S := by rw [hLM]
        rw [if_neg (by rw [hL1]; decide), hL2] at hP
        obtain ⟨V, hV⟩ : ∃ V, V = S := ⟨_, rfl⟩
        have e12 : V.1 12 = s.1 12 := by rw [hV]; exact f12
        have e14 : V.1 14 = t := by rw [hV]; exact f14
        have eI : PI t V := by rw [hV]; exact g1
        have hVp : S.1 13 = s.1 13 := g3
        rw [← hV]
        have hP2 : P0 = ((ndP B t 159 V).1, (ndP B t 159 V).2, upW (upW (upW F (3 * s.1 12) (s.1 16 - 20)) (3 * s.1 12 + 1) (V.1 13)) (3 * s.1 12 + 2) (V.1 13)) := by rw [hP, hV]
        refine ss_aload_n (i := 0) h dX4_aLine_100 101 rfl rfl rfl ?_
        refine ss_getS h kl4 7 7 rfl (by decide) rfl hM.ob q1094 dX4_aLine_101 104 rfl hM.r_freshLine ?_
        try simp only [rd_put, rd_cod, rd_m, rd_up5, sArr_sUp, put_s, put_o, ne_eq, not_false_eq_true, Int.reduceEq]
        refine ss_iconst h dX4_aLine_104 105 rfl ?_
        refine ss_aload_n (i := 0) h dX4_aLine_105 106 rfl rfl rfl ?_
        refine ss_getI h kl4 12 12 rfl (by decide) rfl hM.ob q1099 dX4_aLine_106 109 rfl ?_
        try simp only [rd_put, rd_cod, rd_m, rd_up5, sArr_sUp, put_s, put_o, ne_eq, not_false_eq_true, Int.reduceEq]
        first | rw [f12] | rw [e12]
        refine ss_imul h dX4_aLine_109 110 rfl ?_
        refine ss_iconst h dX4_aLine_110 111 rfl ?_
        refine ss_iadd h dX4_aLine_111 112 rfl ?_
        have eI3 := eI.2.2.1
        have eI1 := eI.1
        refine ss_aload_n (i := 0) h dX4_aLine_112 113 rfl rfl rfl ?_
        refine ss_getI h kl4 13 13 rfl (by decide) rfl hM.ob q1100 dX4_aLine_113 116 rfl ?_
        try simp only [rd_put, rd_cod, rd_m, rd_up5, sArr_sUp, put_s, put_o, ne_eq, not_false_eq_true, Int.reduceEq]
        refine ss_iast h hM.k_freshLine (by decide) (by omega) (by omega) dX4_aLine_116 117 rfl ?_
        try simp only [rd_put, rd_cod, rd_m, rd_up5, sArr_sUp, put_s, put_o, ne_eq, not_false_eq_true, Int.reduceEq]
        refine ss_aload_n (i := 0) h dX4_aLine_117 118 rfl rfl rfl ?_
        refine ss_sipush h dX4_aLine_118 121 rfl (by decide +kernel) ?_
        refine ss_cVa h (m_need (d := d - 1) (s := V) (k := 159) hM (hB' _) e14 ht eI (by omega) (by omega)) (lw_V q1344 q1346 qs56 q87 q1347) kl4 hM.ob 1 rfl md_X4_need rfl (by omega) (by decide) rfl dX4_aLine_121 124 rfl rfl (Nat.le_of_ble_eq_true rfl) (by omega) (by omega) (fun X121 x121 => ?_)
        refine ss_zret h (by first | omega | exact bI_z _) dX4_aLine_124 (by omega) (by omega) ?_
        rw [hP9]
        exact ⟨by rw [hP2], rfl, rfl, rfl, by rw [hP2]; exact x121⟩
      · skip
        have hLM : linM B t S = anyP B t (tstP B t 9) (nextP B t S) := if_pos (by omega)
        obtain ⟨n1, n2⟩ := next_grow ht g1 (show S.1 16 ≠ 0 by omega)
        have n14 := (frm_next (B := B) (t := t) (s := S) 14 (by decide)).trans f14
        refine ss_aload_n (i := 0) h dX4_aLine_87 88 rfl rfl rfl ?_
        refine ss_cVn h (m_next0R (d := d - 1) (s := S) hM (hB' _) f14 ht (by omega) (by omega)) (lw_V q1270 q1272 qs44 q87 q1273) kl4 hM.ob 0 rfl md_X4_next0 rfl (by omega) (by decide) rfl dX4_aLine_88 91 rfl rfl (Nat.le_of_ble_eq_true rfl) (by omega) (by omega) (fun X88 x88 => ?_)
        subst x88
        refine ss_aload_n (i := 0) h dX4_aLine_91 92 rfl rfl rfl ?_
        refine ss_cVa h (m_any hM (hB' _) ht (m_every hM (hB' _) ht (m_oneTest hM (hB' _) ht 9 (by omega))) (d - 1) (nextP B t S) n14 n1.1 (by rw [n1.2.2.2, g4]; rfl) (by omega)) (lw_V q1324 q1326 qs51 q87 q1327) kl4 hM.ob 0 rfl md_X4_any rfl (by omega) (by decide) rfl dX4_aLine_92 95 rfl rfl (Nat.le_of_ble_eq_true rfl) (by omega) (by omega) (fun X92 x92 => ?_)
        refine ss_if_ne h dX4_aLine_95 98 100 rfl (by decide) (by first | omega | exact sRg_b _) (fun c95 => ?_) (fun c95 => ?_)
        · skip
          replace c95 := bI_1.mp c95
          rw [hLM, if_neg (by rw [c95]; decide)] at hP
          have w1 := any_good ht (tst_good ht 9) _ n1.1 c95
          have w12 := ((frm_any (B := B) (t := t) (frm_tst (B := B) (t := t) 9) (nextP B t S) 12 (by decide)).trans (frm_next (B := B) (t := t) (s := S) 12 (by decide))).trans f12
          have w14 := (frm_any (B := B) (t := t) (frm_tst (B := B) (t := t) 9) (nextP B t S) 14 (by decide)).trans n14
          obtain ⟨V, hV⟩ : ∃ V, V = (anyP B t (tstP B t 9) (nextP B t S)).2 := ⟨_, rfl⟩
          rw [← hV] at hP w1 w12 w14 x92
          have e12 := w12
          have e14 := w14
          have eI := w1.1
          have hP2 := hP
          subst x92
          refine ss_aload_n (i := 0) h dX4_aLine_100 101 rfl rfl rfl ?_
          refine ss_getS h kl4 7 7 rfl (by decide) rfl hM.ob q1094 dX4_aLine_101 104 rfl hM.r_freshLine ?_
          try simp only [rd_put, rd_cod, rd_m, rd_up5, sArr_sUp, put_s, put_o, ne_eq, not_false_eq_true, Int.reduceEq]
          refine ss_iconst h dX4_aLine_104 105 rfl ?_
          refine ss_aload_n (i := 0) h dX4_aLine_105 106 rfl rfl rfl ?_
          refine ss_getI h kl4 12 12 rfl (by decide) rfl hM.ob q1099 dX4_aLine_106 109 rfl ?_
          try simp only [rd_put, rd_cod, rd_m, rd_up5, sArr_sUp, put_s, put_o, ne_eq, not_false_eq_true, Int.reduceEq]
          first | rw [f12] | rw [e12]
          refine ss_imul h dX4_aLine_109 110 rfl ?_
          refine ss_iconst h dX4_aLine_110 111 rfl ?_
          refine ss_iadd h dX4_aLine_111 112 rfl ?_
          have eI3 := eI.2.2.1
          have eI1 := eI.1
          refine ss_aload_n (i := 0) h dX4_aLine_112 113 rfl rfl rfl ?_
          refine ss_getI h kl4 13 13 rfl (by decide) rfl hM.ob q1100 dX4_aLine_113 116 rfl ?_
          try simp only [rd_put, rd_cod, rd_m, rd_up5, sArr_sUp, put_s, put_o, ne_eq, not_false_eq_true, Int.reduceEq]
          refine ss_iast h hM.k_freshLine (by decide) (by omega) (by omega) dX4_aLine_116 117 rfl ?_
          try simp only [rd_put, rd_cod, rd_m, rd_up5, sArr_sUp, put_s, put_o, ne_eq, not_false_eq_true, Int.reduceEq]
          refine ss_aload_n (i := 0) h dX4_aLine_117 118 rfl rfl rfl ?_
          refine ss_sipush h dX4_aLine_118 121 rfl (by decide +kernel) ?_
          refine ss_cVa h (m_need (d := d - 1) (s := V) (k := 159) hM (hB' _) e14 ht eI (by omega) (by omega)) (lw_V q1344 q1346 qs56 q87 q1347) kl4 hM.ob 1 rfl md_X4_need rfl (by omega) (by decide) rfl dX4_aLine_121 124 rfl rfl (Nat.le_of_ble_eq_true rfl) (by omega) (by omega) (fun X121 x121 => ?_)
          refine ss_zret h (by first | omega | exact bI_z _) dX4_aLine_124 (by omega) (by omega) ?_
          rw [hP9]
          exact ⟨by rw [hP2], rfl, rfl, rfl, by rw [hP2]; exact x121⟩
        · skip
          replace c95 := bI_0.mp c95
          rw [hLM, if_pos c95] at hP
          refine ss_iconst h dX4_aLine_98 99 rfl ?_
          refine ss_zret h (by first | omega | exact bI_z _) dX4_aLine_99 (by omega) (by omega) ?_
          rw [hP9]
          exact ⟨by rw [hP]; rfl, rfl, rfl, rfl, by rw [hP]; exact x92⟩
    · skip
      rw [if_pos (by omega)] at hP
      refine ss_aload_n (i := 0) h dX4_aLine_29 30 rfl rfl rfl ?_
      refine ss_iconst h dX4_aLine_30 31 rfl ?_
      refine ss_cVa h (m_bad (d := d - 1) (s := s) hM (by omega) (by omega)) (lw_V q1320 q1322 qs50 q87 q1323) kl4 hM.ob 1 rfl md_X4_bad rfl (by omega) (by decide) rfl dX4_aLine_31 34 rfl rfl (Nat.le_of_ble_eq_true rfl) (by omega) (by omega) (fun X31 x31 => ?_)
      refine ss_zret h (by first | omega | exact bI_z _) dX4_aLine_34 (by omega) (by omega) ?_
      rw [hP9]
      exact ⟨by rw [hP]; rfl, rfl, rfl, rfl, by rw [hP]; exact x31⟩
  · skip
    replace c11 := bI_0.mp c11
    rw [if_pos c11] at hP
    refine ss_aload_n (i := 0) h dX4_aLine_14 15 rfl rfl rfl ?_
    refine ss_iconst h dX4_aLine_15 16 rfl ?_
    refine ss_cVa h (m_bad (d := d - 1) (s := s) hM (by omega) (by omega)) (lw_V q1320 q1322 qs50 q87 q1323) kl4 hM.ob 1 rfl md_X4_bad rfl (by omega) (by decide) rfl dX4_aLine_16 19 rfl rfl (Nat.le_of_ble_eq_true rfl) (by omega) (by omega) (fun X16 x16 => ?_)
    refine ss_zret h (by first | omega | exact bI_z _) dX4_aLine_19 (by omega) (by omega) ?_
    rw [hP9]
    exact ⟨by rw [hP]; rfl, rfl, rfl, rfl, by rw [hP]; exact x16⟩
end M20

