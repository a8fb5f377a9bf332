/-! ===== the twin: texts ===== -/
section M21
variable {Ω : OmT} {n : Nat} {K : KT} {X : XT} {R : RT} {m : Nat} {d : Nat}
theorem rd_up1 {X : XT} {m : Nat} {s : PS} {i v : Int} : sUp (rdX X m s) (m + 1) i v = rdX (sUp X (m + 1) i v) m s := by
  funext a l
  by_cases e1 : a = m + 1
  · rw [e1, sUp_s, rd_o (by omega) (by omega), rd_o (by omega) (by omega), sUp_s]
  · rw [sUp_ne e1]
    by_cases e2 : a = m
    · rw [e2, rd_m, rd_m]
    · by_cases e3 : a = m + 6
      · rw [e3, rd_6, rd_6]
      · rw [rd_o e2 e3, rd_o e2 e3, sUp_ne e1]
/-- the object behind a text -/
def txtE (r : LnP) : PS := putP (putP (putP r.2.1 14 0) 21 (r.2.1.1 19)) 23 (if r.1 = true then -1 else r.2.1.1 20)
def txtG (B : WT) (t : Int) (s : PS) (F : WT) : LnP := txtF B t 402 (nextP B t (txt0 s)) F
def txtX (X : XT) (m : Nat) (B : WT) (t k : Int) : XT := rdX (sArr (if (txtG B t (psX X m) (X (m + 5))).1 = true then sArr X (m + 1) (txtW (X (m + 1)) (txtG B t (psX X m) (X (m + 5))).2.2 (txtG B t (psX X m) (X (m + 5))).2.1.2 k ((txtG B t (psX X m) (X (m + 5))).2.1.1 12) ((txtG B t (psX X m) (X (m + 5))).2.1.1 12) (2 * (txtG B t (psX X m) (X (m + 5))).2.1.1 13)) else X) (m + 5) (txtG B t (psX X m) (X (m + 5))).2.2) m (txtE (txtG B t (psX X m) (X (m + 5))))
theorem PI_12 {t v : Int} {s : PS} (h : PI t s) : PI t (putP s 12 v) := by
  unfold PI at h ⊢
  rw [put_o (by decide), put_o (by decide), put_o (by decide), put_o (by decide), put_o (by decide), put_o (by decide), put_o (by decide), put_o (by decide)]
  exact h
theorem lin_12 {B : WT} {t : Int} {s : PS} {F : WT} (h : (linP B t s F).1 = true) : s.1 12 ≠ 16 := by
  intro e
  unfold linP at h
  split at h
  · cases h
  · first
    | cases h
    | (rw [if_pos e] at h; cases h)
theorem m_text (hM : MOk Ω n K R m) {k : Int} (ht : TP (X (m + 7)) (X m 14)) (h18 : 0 ≤ X m 18 ∧ X m 18 ≤ 9999) (h22 : 0 ≤ X m 22 ∧ X m 22 ≤ 8) (h1 : sRg k) (hl : 43 ≤ d) : sCt Ω yX4_text cX4_text 4 (some .int) d 0 0 [.ref m, vI k] n K X R (pA n K R (vI (if inB k 0 3 = true ∧ (txtG (X (m + 7)) (X m 14) (psX X m) (X (m + 5))).1 = true then (txtG (X (m + 7)) (X m 14) (psX X m) (X (m + 5))).2.1.1 12 else -1)) (fun X' => X' = if inB k 0 3 = true then txtX X m (X (m + 7)) (X m 14) k else rdX X m (putP (putP (putP (putP (psX X m) 19 0) 14 0) 21 0) 23 (-1)))) := by
  obtain ⟨B, hB⟩ : ∃ B, B = X (m + 7) := ⟨_, rfl⟩
  obtain ⟨t, h14⟩ : ∃ t, t = X m 14 := ⟨_, rfl⟩
  obtain ⟨s, hs⟩ : ∃ s, s = psX X m := ⟨_, rfl⟩
  have s1 : X m = s.1 := by rw [hs]
  rw [s1] at h18 h22
  rw [← hB, ← h14] at ht ⊢
  rw [← hs]
  rw [s1] at h14
  refine sCt_of (by decide) (by simp [Value.category, vI, va_rf]) (Nat.le_of_ble_eq_true rfl) fun Γ P9 hP9 h => ?_
  show sG (_, _, _, _, _) Γ 0 0 _ _ _ _ 0 [some _, some _, none, none] []
  refine ss_rg fun hrg => ?_
  refine ss_X (X' := rdX X m s) (by rw [hs]; exact rd_id.symm) ?_
  refine ss_aload_n (i := 0) h dX4_text_0 1 rfl rfl rfl ?_
  refine ss_iconst h dX4_text_1 2 rfl ?_
  refine ss_putI h kl4 19 19 rfl (by decide) rfl hM.ob q1106 (Or.inl rfl) (by omega) dX4_text_2 5 rfl ?_
  try simp only [rd_put, rd_cod, rd_m, rd_up1, sArr_sUp, put_s, put_o, ne_eq, not_false_eq_true, Int.reduceEq]
  refine ss_iload_n (i := 1) h dX4_text_5 6 rfl rfl rfl ?_
  refine ss_iconst h dX4_text_6 7 rfl ?_
  refine ss_iconst h dX4_text_7 8 rfl ?_
  refine ss_cSv h (m_isIn (d := d - 1) (by omega) (by omega) (by omega)) (lw_S q1207 q1208 q87 q1209) 3 rfl md_X4_isIn (by omega) (by decide) rfl dX4_text_8 11 rfl rfl (Nat.le_of_ble_eq_true rfl) (by omega) (by omega) ?_
  refine ss_if_ne h dX4_text_11 14 31 rfl (by decide) (by first | omega | exact sRg_b _) (fun c11 => ?_) (fun c11 => ?_)
  · skip
    replace c11 := bI_1.mp c11
    refine ss_aload_n (i := 0) h dX4_text_31 32 rfl rfl rfl ?_
    refine ss_iconst h dX4_text_32 33 rfl ?_
    refine ss_putI h kl4 15 15 rfl (by decide) rfl hM.ob q1102 (Or.inl rfl) (by omega) dX4_text_33 36 rfl ?_
    try simp only [rd_put, rd_cod, rd_m, rd_up1, sArr_sUp, put_s, put_o, ne_eq, not_false_eq_true, Int.reduceEq]
    refine ss_aload_n (i := 0) h dX4_text_36 37 rfl rfl rfl ?_
    refine ss_iconst h dX4_text_37 38 rfl ?_
    refine ss_putI h kl4 12 12 rfl (by decide) rfl hM.ob q1099 (Or.inl rfl) (by omega) dX4_text_38 41 rfl ?_
    try simp only [rd_put, rd_cod, rd_m, rd_up1, sArr_sUp, put_s, put_o, ne_eq, not_false_eq_true, Int.reduceEq]
    refine ss_aload_n (i := 0) h dX4_text_41 42 rfl rfl rfl ?_
    refine ss_iconst h dX4_text_42 43 rfl ?_
    refine ss_putI h kl4 13 13 rfl (by decide) rfl hM.ob q1100 (Or.inl rfl) (by omega) dX4_text_43 46 rfl ?_
    try simp only [rd_put, rd_cod, rd_m, rd_up1, sArr_sUp, put_s, put_o, ne_eq, not_false_eq_true, Int.reduceEq]
    refine ss_aload_n (i := 0) h dX4_text_46 47 rfl rfl rfl ?_
    have z14 : (txt0 s).1 14 = t := by unfold txt0; simp only [put_o, ne_eq, not_false_eq_true, Int.reduceEq]; exact h14.symm
    have z15 : 0 ≤ (txt0 s).1 15 ∧ (txt0 s).1 15 ≤ t := by unfold txt0; simp only [put_o, put_s, ne_eq, not_false_eq_true, Int.reduceEq]; have := ht.1; omega
    have z13 : 0 ≤ (txt0 s).1 13 ∧ (txt0 s).1 13 ≤ (txt0 s).1 15 := by unfold txt0; simp only [put_o, put_s, ne_eq, not_false_eq_true, Int.reduceEq]; omega
    have z18 : 0 ≤ (txt0 s).1 18 ∧ (txt0 s).1 18 ≤ 9999 := by unfold txt0; simp only [put_o, put_s, ne_eq, not_false_eq_true, Int.reduceEq]; exact h18
    have z22 : 0 ≤ (txt0 s).1 22 ∧ (txt0 s).1 22 ≤ 8 := by unfold txt0; simp only [put_o, put_s, ne_eq, not_false_eq_true, Int.reduceEq]; exact h22
    have z12 : (txt0 s).1 12 = 0 := by unfold txt0; simp only [put_o, put_s, ne_eq, not_false_eq_true, Int.reduceEq]
    have z19 : sRg ((txt0 s).1 19) := by unfold txt0; simp only [put_o, put_s, ne_eq, not_false_eq_true, Int.reduceEq]; decide
    have z20 : sRg ((txt0 s).1 20) := by unfold txt0; simp only [put_o, put_s, ne_eq, not_false_eq_true, Int.reduceEq]; rw [← s1]; exact hrg _ _
    refine ss_cVn h (m_next0R (d := d - 1) (s := txt0 s) hM hB.symm z14 ht z15 (by omega)) (lw_V q1270 q1272 qs44 q87 q1273) kl4 hM.ob 0 rfl md_X4_next0 rfl (by omega) (by decide) rfl dX4_text_47 50 rfl rfl (Nat.le_of_ble_eq_true rfl) (by omega) (by omega) (fun X47 x47 => ?_)
    subst x47
    obtain ⟨p1, p2, p3, p4⟩ := next_PI ht z15 z18 z13 z22 z19 z20
    have p14 := (frm_next (B := B) (t := t) (s := txt0 s) 14 (by decide)).trans z14
    have p12 := (frm_next (B := B) (t := t) (s := txt0 s) 12 (by decide)).trans z12
    obtain ⟨FIN, hFIN⟩ : ∃ F, F = txtG B t s (X (m + 5)) := ⟨_, rfl⟩
    refine ss_cut (σ := LnP) (fun q9 => q9 = FIN ∧ PI t q9.2.1 ∧ q9.2.1.1 14 = t ∧ (0 ≤ q9.2.1.1 12 ∧ q9.2.1.1 12 ≤ 16)) 89 (fun q9 => (rdX (sArr X (m + 5) q9.2.2) m q9.2.1)) (fun q9 => [some (.ref m), some (vI k), some (vI (bI q9.1)), none]) (fun q9 => []) (fun q9 h89 => ?_) (fun J89 => ?_)
    · skip
      obtain ⟨hq9, u1, u14, u12⟩ := h89
      rw [← hq9] at hFIN
      clear hq9
      have u19 := u1.2.2.2.2.2.2.1
      have u20 := u1.2.2.2.2.2.2.2
      refine ss_aload_n (i := 0) h dX4_text_89 90 rfl rfl rfl ?_
      refine ss_iconst h dX4_text_90 91 rfl ?_
      refine ss_putI h kl4 14 14 rfl (by decide) rfl hM.ob q1101 (Or.inl rfl) (by omega) dX4_text_91 94 rfl ?_
      try simp only [rd_put, rd_cod, rd_m, rd_up1, sArr_sUp, put_s, put_o, ne_eq, not_false_eq_true, Int.reduceEq]
      refine ss_aload_n (i := 0) h dX4_text_94 95 rfl rfl rfl ?_
      refine ss_aload_n (i := 0) h dX4_text_95 96 rfl rfl rfl ?_
      refine ss_getI h kl4 19 19 rfl (by decide) rfl hM.ob q1106 dX4_text_96 99 rfl ?_
      try simp only [rd_put, rd_cod, rd_m, rd_up1, sArr_sUp, put_s, put_o, ne_eq, not_false_eq_true, Int.reduceEq]
      refine ss_putI h kl4 21 21 rfl (by decide) rfl hM.ob q1108 (Or.inl rfl) u19 dX4_text_99 102 rfl ?_
      try simp only [rd_put, rd_cod, rd_m, rd_up1, sArr_sUp, put_s, put_o, ne_eq, not_false_eq_true, Int.reduceEq]
      refine ss_cut (σ := Unit) (fun z9 => True) 115 (fun z9 => (rdX (sArr X (m + 5) q9.2.2) m (putP (putP q9.2.1 14 0) 21 (q9.2.1.1 19)))) (fun z9 => [some (.ref m), some (vI k), some (vI (bI q9.1)), none]) (fun z9 => [vI (if q9.1 = true then -1 else q9.2.1.1 20), .ref m]) (fun z9 h115 => ?_) (fun J115 => ?_)
      · skip
        refine ss_putI h kl4 23 23 rfl (by decide) rfl hM.ob q1110 (Or.inl rfl) (by split; decide; exact u20) dX4_text_115 118 rfl ?_
        try simp only [rd_put, rd_cod, rd_m, rd_up1, sArr_sUp, put_s, put_o, ne_eq, not_false_eq_true, Int.reduceEq]
        refine ss_iload_n (i := 2) h dX4_text_118 119 rfl rfl rfl ?_
        refine ss_if_ne h dX4_text_119 122 124 rfl (by decide) (sRg_b _) (fun c119 => ?_) (fun c119 => ?_)
        · skip
          replace c119 := bI_1.mp c119
          have kk := inB_t.mp c11
          obtain ⟨E, hE⟩ : ∃ E, E = putP (putP (putP q9.2.1 14 0) 21 (q9.2.1.1 19)) 23 (if q9.1 = true then -1 else q9.2.1.1 20) := ⟨_, rfl⟩
          rw [← hE]
          have e12 : E.1 12 = q9.2.1.1 12 := by rw [hE]; simp only [put_o, ne_eq, not_false_eq_true, Int.reduceEq]
          have e13 : E.1 13 = q9.2.1.1 13 := by rw [hE]; simp only [put_o, ne_eq, not_false_eq_true, Int.reduceEq]
          have e2 : E.2 = q9.2.1.2 := by rw [hE]; rfl
          have u13 := u1.2.2.1
          have u17 := u1.1
          have ht1 := ht.1
          have r5 : ∀ f, rdX (sArr (sArr X (m + 5) q9.2.2) (m + 1) f) m E (m + 5) = q9.2.2 := fun f => by rw [rd_o (by omega) (by omega), sArr_n (by omega), sArr_s]
          refine ss_aload_n (i := 0) h dX4_text_124 125 rfl rfl rfl ?_
          refine ss_getS h kl4 0 0 rfl (by decide) rfl hM.ob q1087 dX4_text_125 128 rfl hM.r_w ?_
          try simp only [rd_put, rd_cod, rd_m, rd_up1, sArr_sUp, put_s, put_o, ne_eq, not_false_eq_true, Int.reduceEq]
          refine ss_sipush h dX4_text_128 131 rfl (by decide +kernel) ?_
          refine ss_iload_n (i := 1) h dX4_text_131 132 rfl rfl rfl ?_
          refine ss_iadd h dX4_text_132 133 rfl ?_
          refine ss_aload_n (i := 0) h dX4_text_133 134 rfl rfl rfl ?_
          refine ss_getI h kl4 12 12 rfl (by decide) rfl hM.ob q1099 dX4_text_134 137 rfl ?_
          try simp only [rd_put, rd_cod, rd_m, rd_up1, sArr_sUp, put_s, put_o, ne_eq, not_false_eq_true, Int.reduceEq]
          refine ss_iast h hM.k_w (by decide) (by omega) (by omega) dX4_text_137 138 rfl ?_
          try simp only [rd_put, rd_cod, rd_m, rd_up1, sArr_sUp, put_s, put_o, ne_eq, not_false_eq_true, Int.reduceEq]
          refine ss_iconst h dX4_text_138 139 rfl ?_
          refine ss_ist_3 h dX4_text_139 140 rfl ?_
          refine ss_X (X' := rdX (sArr (sArr X (m + 5) q9.2.2) (m + 1) (txtW (X (m + 1)) q9.2.2 E.2 k (E.1 12) 0 0)) m E) (by rw [sUp_as, sArr_n (by omega), txtW_0]) ?_
          refine ss_loop (σ := Int) (Pp := fun a => sG _ Γ 0 0 n K (rdX (sArr (sArr X (m + 5) q9.2.2) (m + 1) (txtW (X (m + 1)) q9.2.2 E.2 k (E.1 12) a 0)) m E) R 140 [some (.ref m), some (vI k), some (vI (bI q9.1)), some (vI a)] []) (I := fun a => 0 ≤ a ∧ a ≤ E.1 12) (fun a => (E.1 12 - a).toNat) (fun a ha ih => ?_) 0 (by omega)
          refine ss_rg fun hr2 => ?_
          have hG : ∀ i, sRg (q9.2.2 i) := fun i => by have := hr2 (m + 5) i; rwa [r5] at this
          have hC : ∀ i, sRg (E.2 i) := fun i => by have := hr2 (m + 6) i; rwa [rd_6] at this
          refine ss_iload_n (i := 3) h dX4_text_140 141 rfl rfl rfl ?_
          refine ss_aload_n (i := 0) h dX4_text_141 142 rfl rfl rfl ?_
          refine ss_getI h kl4 12 12 rfl (by decide) rfl hM.ob q1099 dX4_text_142 145 rfl ?_
          try simp only [rd_put, rd_cod, rd_m, rd_up1, sArr_sUp, put_s, put_o, ne_eq, not_false_eq_true, Int.reduceEq]
          refine ss_icmp_ge h dX4_text_145 148 227 rfl (by decide) (by first | omega | exact sRg_b _) (by first | omega | exact sRg_b _) (fun c145 => ?_) (fun c145 => ?_)
          · skip
            refine ss_iconst h dX4_text_227 228 rfl ?_
            refine ss_ist_3 h dX4_text_228 229 rfl ?_
            obtain rfl : a = E.1 12 := by omega
            refine ss_loop (σ := Int) (Pp := fun b => sG _ Γ 0 0 n K (rdX (sArr (sArr X (m + 5) q9.2.2) (m + 1) (txtW (X (m + 1)) q9.2.2 E.2 k (E.1 12) (E.1 12) b)) m E) R 229 [some (.ref m), some (vI k), some (vI (bI q9.1)), some (vI b)] []) (I := fun b => 0 ≤ b ∧ b ≤ 2 * E.1 13) (fun b => (2 * E.1 13 - b).toNat) (fun b hb ih2 => ?_) 0 (by omega)
            refine ss_iload_n (i := 3) h dX4_text_229 230 rfl rfl rfl ?_
            refine ss_iconst h dX4_text_230 231 rfl ?_
            refine ss_aload_n (i := 0) h dX4_text_231 232 rfl rfl rfl ?_
            refine ss_getI h kl4 13 13 rfl (by decide) rfl hM.ob q1100 dX4_text_232 235 rfl ?_
            try simp only [rd_put, rd_cod, rd_m, rd_up1, sArr_sUp, put_s, put_o, ne_eq, not_false_eq_true, Int.reduceEq]
            refine ss_imul h dX4_text_235 236 rfl ?_
            refine ss_icmp_ge h dX4_text_236 239 267 rfl (by decide) (by first | omega | exact sRg_b _) (by first | omega | exact sRg_b _) (fun c236 => ?_) (fun c236 => ?_)
            · skip
              refine ss_aload_n (i := 0) h dX4_text_267 268 rfl rfl rfl ?_
              refine ss_getI h kl4 12 12 rfl (by decide) rfl hM.ob q1099 dX4_text_268 271 rfl ?_
              try simp only [rd_put, rd_cod, rd_m, rd_up1, sArr_sUp, put_s, put_o, ne_eq, not_false_eq_true, Int.reduceEq]
              refine ss_iret h dX4_text_271 (by omega) (by omega) ?_
              rw [hP9]
              exact ⟨by rw [← hFIN, if_pos ⟨c11, c119⟩, e12], rfl, rfl, rfl, by rw [if_pos c11]; unfold txtX; rw [← hs, ← hFIN, if_pos c119, show b = 2 * E.1 13 by omega, e12, e13, e2, hE, sArr_com (show m + 5 ≠ m + 1 by omega)]; rfl⟩
            · skip
              refine ss_aload_n (i := 0) h dX4_text_239 240 rfl rfl rfl ?_
              refine ss_getS h kl4 0 0 rfl (by decide) rfl hM.ob q1087 dX4_text_240 243 rfl hM.r_w ?_
              try simp only [rd_put, rd_cod, rd_m, rd_up1, sArr_sUp, put_s, put_o, ne_eq, not_false_eq_true, Int.reduceEq]
              refine ss_sipush h dX4_text_243 246 rfl (by decide +kernel) ?_
              refine ss_sipush h dX4_text_246 249 rfl (by decide +kernel) ?_
              refine ss_iload_n (i := 1) h dX4_text_249 250 rfl rfl rfl ?_
              refine ss_imul h dX4_text_250 251 rfl ?_
              refine ss_iadd h dX4_text_251 252 rfl ?_
              refine ss_iload_n (i := 3) h dX4_text_252 253 rfl rfl rfl ?_
              refine ss_iadd h dX4_text_253 254 rfl ?_
              refine ss_aload_n (i := 0) h dX4_text_254 255 rfl rfl rfl ?_
              refine ss_getS h kl4 8 8 rfl (by decide) rfl hM.ob q1095 dX4_text_255 258 rfl hM.r_freshStep ?_
              try simp only [rd_put, rd_cod, rd_m, rd_up1, sArr_sUp, put_s, put_o, ne_eq, not_false_eq_true, Int.reduceEq]
              refine ss_iload_n (i := 3) h dX4_text_258 259 rfl rfl rfl ?_
              refine ss_iald h hM.k_freshStep (by decide) (by omega) dX4_text_259 260 rfl ?_
              try simp only [rd_put, rd_cod, rd_m, rd_up1, sArr_sUp, put_s, put_o, ne_eq, not_false_eq_true, Int.reduceEq]
              rw [rd_6]
              refine ss_iast h hM.k_w (by decide) (by omega) (hC _) dX4_text_260 261 rfl ?_
              try simp only [rd_put, rd_cod, rd_m, rd_up1, sArr_sUp, put_s, put_o, ne_eq, not_false_eq_true, Int.reduceEq]
              refine ss_inc_3 h dX4_text_261 264 rfl ?_
              refine ss_goto h dX4_text_264 229 (by decide) ?_
              refine ss_X ?_ (ih2 (b + 1) (by omega) (by omega))
              rw [txtW_b kk (by omega) (by omega)]
          · skip
            refine ss_aload_n (i := 0) h dX4_text_148 149 rfl rfl rfl ?_
            refine ss_getS h kl4 0 0 rfl (by decide) rfl hM.ob q1087 dX4_text_149 152 rfl hM.r_w ?_
            try simp only [rd_put, rd_cod, rd_m, rd_up1, sArr_sUp, put_s, put_o, ne_eq, not_false_eq_true, Int.reduceEq]
            refine ss_sipush h dX4_text_152 155 rfl (by decide +kernel) ?_
            refine ss_bipush h dX4_text_155 157 rfl (by decide +kernel) ?_
            refine ss_iload_n (i := 1) h dX4_text_157 158 rfl rfl rfl ?_
            refine ss_imul h dX4_text_158 159 rfl ?_
            refine ss_iadd h dX4_text_159 160 rfl ?_
            refine ss_iload_n (i := 3) h dX4_text_160 161 rfl rfl rfl ?_
            refine ss_iadd h dX4_text_161 162 rfl ?_
            refine ss_aload_n (i := 0) h dX4_text_162 163 rfl rfl rfl ?_
            refine ss_getS h kl4 7 7 rfl (by decide) rfl hM.ob q1094 dX4_text_163 166 rfl hM.r_freshLine ?_
            try simp only [rd_put, rd_cod, rd_m, rd_up1, sArr_sUp, put_s, put_o, ne_eq, not_false_eq_true, Int.reduceEq]
            refine ss_iconst h dX4_text_166 167 rfl ?_
            refine ss_iload_n (i := 3) h dX4_text_167 168 rfl rfl rfl ?_
            refine ss_imul h dX4_text_168 169 rfl ?_
            refine ss_iald h hM.k_freshLine (by decide) (by omega) dX4_text_169 170 rfl ?_
            try simp only [rd_put, rd_cod, rd_m, rd_up1, sArr_sUp, put_s, put_o, ne_eq, not_false_eq_true, Int.reduceEq]
            rw [r5]
            refine ss_iast h hM.k_w (by decide) (by omega) (hG _) dX4_text_170 171 rfl ?_
            try simp only [rd_put, rd_cod, rd_m, rd_up1, sArr_sUp, put_s, put_o, ne_eq, not_false_eq_true, Int.reduceEq]
            refine ss_aload_n (i := 0) h dX4_text_171 172 rfl rfl rfl ?_
            refine ss_getS h kl4 0 0 rfl (by decide) rfl hM.ob q1087 dX4_text_172 175 rfl hM.r_w ?_
            try simp only [rd_put, rd_cod, rd_m, rd_up1, sArr_sUp, put_s, put_o, ne_eq, not_false_eq_true, Int.reduceEq]
            refine ss_sipush h dX4_text_175 178 rfl (by decide +kernel) ?_
            refine ss_bipush h dX4_text_178 180 rfl (by decide +kernel) ?_
            refine ss_iload_n (i := 1) h dX4_text_180 181 rfl rfl rfl ?_
            refine ss_imul h dX4_text_181 182 rfl ?_
            refine ss_iadd h dX4_text_182 183 rfl ?_
            refine ss_iload_n (i := 3) h dX4_text_183 184 rfl rfl rfl ?_
            refine ss_iadd h dX4_text_184 185 rfl ?_
            refine ss_aload_n (i := 0) h dX4_text_185 186 rfl rfl rfl ?_
            refine ss_getS h kl4 7 7 rfl (by decide) rfl hM.ob q1094 dX4_text_186 189 rfl hM.r_freshLine ?_
            try simp only [rd_put, rd_cod, rd_m, rd_up1, sArr_sUp, put_s, put_o, ne_eq, not_false_eq_true, Int.reduceEq]
            refine ss_iconst h dX4_text_189 190 rfl ?_
            refine ss_iload_n (i := 3) h dX4_text_190 191 rfl rfl rfl ?_
            refine ss_imul h dX4_text_191 192 rfl ?_
            refine ss_iconst h dX4_text_192 193 rfl ?_
            refine ss_iadd h dX4_text_193 194 rfl ?_
            refine ss_iald h hM.k_freshLine (by decide) (by omega) dX4_text_194 195 rfl ?_
            try simp only [rd_put, rd_cod, rd_m, rd_up1, sArr_sUp, put_s, put_o, ne_eq, not_false_eq_true, Int.reduceEq]
            rw [r5]
            refine ss_iast h hM.k_w (by decide) (by omega) (hG _) dX4_text_195 196 rfl ?_
            try simp only [rd_put, rd_cod, rd_m, rd_up1, sArr_sUp, put_s, put_o, ne_eq, not_false_eq_true, Int.reduceEq]
            refine ss_aload_n (i := 0) h dX4_text_196 197 rfl rfl rfl ?_
            refine ss_getS h kl4 0 0 rfl (by decide) rfl hM.ob q1087 dX4_text_197 200 rfl hM.r_w ?_
            try simp only [rd_put, rd_cod, rd_m, rd_up1, sArr_sUp, put_s, put_o, ne_eq, not_false_eq_true, Int.reduceEq]
            refine ss_sipush h dX4_text_200 203 rfl (by decide +kernel) ?_
            refine ss_bipush h dX4_text_203 205 rfl (by decide +kernel) ?_
            refine ss_iload_n (i := 1) h dX4_text_205 206 rfl rfl rfl ?_
            refine ss_imul h dX4_text_206 207 rfl ?_
            refine ss_iadd h dX4_text_207 208 rfl ?_
            refine ss_iload_n (i := 3) h dX4_text_208 209 rfl rfl rfl ?_
            refine ss_iadd h dX4_text_209 210 rfl ?_
            refine ss_aload_n (i := 0) h dX4_text_210 211 rfl rfl rfl ?_
            refine ss_getS h kl4 7 7 rfl (by decide) rfl hM.ob q1094 dX4_text_211 214 rfl hM.r_freshLine ?_
            try simp only [rd_put, rd_cod, rd_m, rd_up1, sArr_sUp, put_s, put_o, ne_eq, not_false_eq_true, Int.reduceEq]
            refine ss_iconst h dX4_text_214 215 rfl ?_
            refine ss_iload_n (i := 3) h dX4_text_215 216 rfl rfl rfl ?_
            refine ss_imul h dX4_text_216 217 rfl ?_
            refine ss_iconst h dX4_text_217 218 rfl ?_
            refine ss_iadd h dX4_text_218 219 rfl ?_
            refine ss_iald h hM.k_freshLine (by decide) (by omega) dX4_text_219 220 rfl ?_
            try simp only [rd_put, rd_cod, rd_m, rd_up1, sArr_sUp, put_s, put_o, ne_eq, not_false_eq_true, Int.reduceEq]
            rw [r5]
            refine ss_iast h hM.k_w (by decide) (by omega) (hG _) dX4_text_220 221 rfl ?_
            try simp only [rd_put, rd_cod, rd_m, rd_up1, sArr_sUp, put_s, put_o, ne_eq, not_false_eq_true, Int.reduceEq]
            refine ss_inc_3 h dX4_text_221 224 rfl ?_
            refine ss_goto h dX4_text_224 140 (by decide) ?_
            refine ss_X ?_ (ih (a + 1) (by omega) (by omega))
            rw [txtW_a kk (by omega)]
        · skip
          replace c119 := bI_0.mp c119
          refine ss_iconst h dX4_text_122 123 rfl ?_
          refine ss_iret h dX4_text_123 (by omega) (by omega) ?_
          rw [hP9]
          exact ⟨by rw [← hFIN, if_neg (fun z => by rw [c119] at z; cases z.2)], rfl, rfl, rfl, by rw [if_pos c11]; unfold txtX; rw [← hs, ← hFIN, if_neg (by rw [c119]; decide)]; rfl⟩
      refine ss_aload_n (i := 0) h dX4_text_102 103 rfl rfl rfl ?_
      refine ss_iload_n (i := 2) h dX4_text_103 104 rfl rfl rfl ?_
      refine ss_if_eq h dX4_text_104 107 111 rfl (by decide) (sRg_b _) (fun c104 => ?_) (fun c104 => ?_)
      · skip
        replace c104 := bI_0.mp c104
        refine ss_aload_n (i := 0) h dX4_text_111 112 rfl rfl rfl ?_
        refine ss_getI h kl4 20 20 rfl (by decide) rfl hM.ob q1107 dX4_text_112 115 rfl ?_
        try simp only [rd_put, rd_cod, rd_m, rd_up1, sArr_sUp, put_s, put_o, ne_eq, not_false_eq_true, Int.reduceEq]
        have z := J115 () trivial
        first
          | (rw [if_pos c104] at z; exact z)
          | (rw [if_neg (by rw [c104]; decide)] at z; exact z)
      · skip
        replace c104 := bI_n.mp c104
        refine ss_iconst h dX4_text_107 108 rfl ?_
        refine ss_goto h dX4_text_108 115 (by decide) ?_
        have z := J115 () trivial
        first
          | (rw [if_pos c104] at z; exact z)
          | (rw [if_neg (by rw [c104]; decide)] at z; exact z)
    refine ss_iconst h dX4_text_50 51 rfl ?_
    refine ss_ist_2 h dX4_text_51 52 rfl ?_
    refine ss_X (X' := rdX (sArr X (m + 5) (X (m + 5))) m (nextP B t (txt0 s))) (by rw [sArr_id]) ?_
    refine ss_loop (σ := Bool × PS × WT × Nat) (Pp := fun z => sG _ Γ 0 0 n K (rdX (sArr X (m + 5) z.2.2.1) m z.2.1) R 52 [some (.ref m), some (vI k), some (vI (bI z.1)), none] []) (I := fun z => PI t z.2.1 ∧ z.2.1.1 14 = t ∧ (0 ≤ z.2.1.1 12 ∧ z.2.1.1 12 ≤ 16) ∧ ((z.1 = true ∧ t - z.2.1.1 17 < z.2.2.2 ∧ txtF B t z.2.2.2 z.2.1 z.2.2.1 = FIN) ∨ (z.1 = false ∧ (false, z.2.1, z.2.2.1) = FIN))) (fun z => if z.1 = true then (t - z.2.1.1 17).toNat + 1 else 0) (fun z hz ih => ?_) (true, nextP B t (txt0 s), X (m + 5), 402) ⟨p1, p14, by dsimp only; omega, Or.inl ⟨rfl, by have := p1.1; have := ht.1; dsimp only; omega, hFIN.symm⟩⟩
    obtain ⟨g, q, G, f⟩ := z
    dsimp only at hz ih ⊢
    obtain ⟨hq, hq14, hq12, hc⟩ := hz
    refine ss_iload_n (i := 2) h dX4_text_52 53 rfl rfl rfl ?_
    refine ss_if_eq h dX4_text_53 56 89 rfl (by decide) (sRg_b _) (fun c53 => ?_) (fun c53 => ?_)
    · skip
      replace c53 := bI_0.mp c53
      have fin89 := J89 (g, q, G) ⟨by rcases hc with z | z; · rw [c53] at z; cases z.1
                                      · rw [c53]; exact z.2, hq, hq14, hq12⟩
      exact fin89
    · skip
      replace c53 := bI_n.mp c53
      subst c53
      obtain ⟨hf, hF⟩ : t - q.1 17 < f ∧ txtF B t f q G = FIN := by
        rcases hc with z | z
        · exact z.2
        · cases z.1
      clear hc
      obtain ⟨f, rfl⟩ : ∃ u, f = u + 1 := ⟨f - 1, by have := hq.1; omega⟩
      unfold txtF at hF
      refine ss_aload_n (i := 0) h dX4_text_56 57 rfl rfl rfl ?_
      refine ss_getI h kl4 16 16 rfl (by decide) rfl hM.ob q1103 dX4_text_57 60 rfl ?_
      try simp only [rd_put, rd_cod, rd_m, rd_up1, sArr_sUp, put_s, put_o, ne_eq, not_false_eq_true, Int.reduceEq]
      refine ss_if_eq h dX4_text_60 63 89 rfl (by decide) (by have := hq.2.2.2.2.2.1; omega) (fun c60 => ?_) (fun c60 => ?_)
      · skip
        have fin89 := J89 (true, q, G) ⟨by rw [if_pos c60] at hF; exact hF, hq, hq14, hq12⟩
        exact fin89
      · skip
        rw [if_neg c60] at hF
        refine ss_aload_n (i := 0) h dX4_text_63 64 rfl rfl rfl ?_
        refine ss_cVa h (m_aLine (d := d - 1) (s := q) (F := G) hM hB.symm hq14 ht hq hq12 (by omega)) (lw_V q1316 q1318 qs49 q87 q1319) kl4 hM.ob 0 rfl md_X4_aLine rfl (by omega) (by decide) rfl dX4_text_64 67 rfl rfl (Nat.le_of_ble_eq_true rfl) (by omega) (by omega) (fun X64 x64 => ?_)
        have l14 := (frm_lin (B := B) (t := t) q G 14 (by decide)).trans hq14
        have l12 := frm_lin (B := B) (t := t) q G 12 (by decide)
        have lg := lin_grow (F := G) ht hq
        have lf := linF (F := G) ht hq
        have l16 := lin_12 (B := B) (t := t) (s := q) (F := G)
        obtain ⟨r, hr⟩ : ∃ r, r = linP B t q G := ⟨_, rfl⟩
        rw [← hr] at hF l14 l12 x64 lg lf l16 ⊢
        subst x64
        refine ss_ist_2 h dX4_text_67 68 rfl ?_
        refine ss_aload_n (i := 0) h dX4_text_68 69 rfl rfl rfl ?_
        refine ss_dup h dX4_text_69 70 rfl rfl ?_
        refine ss_getI h kl4 12 12 rfl (by decide) rfl hM.ob q1099 dX4_text_70 73 rfl ?_
        try simp only [rd_put, rd_cod, rd_m, rd_up1, sArr_sUp, put_s, put_o, ne_eq, not_false_eq_true, Int.reduceEq]
        refine ss_iload_n (i := 2) h dX4_text_73 74 rfl rfl rfl ?_
        refine ss_if_eq h dX4_text_74 77 81 rfl (by decide) (sRg_b _) (fun c74 => ?_) (fun c74 => ?_)
        · skip
          replace c74 := bI_0.mp c74
          rw [if_neg (by rw [c74]; decide)] at hF
          have e0 : putP r.2.1 12 (r.2.1.1 12 + 0) = r.2.1 := by unfold putP; rw [Int.add_zero, upW_same]
          have fin := ih (false, r.2.1, r.2.2, 0) ⟨lf c74, l14, by dsimp only; omega, Or.inr ⟨rfl, by rw [← hF, ← c74]⟩⟩ (by simp)
          refine ss_iconst h dX4_text_81 82 rfl ?_
          refine ss_iadd h dX4_text_82 83 rfl ?_
          refine ss_putI h kl4 12 12 rfl (by decide) rfl hM.ob q1099 (Or.inl rfl) (by omega) dX4_text_83 86 rfl ?_
          try simp only [rd_put, rd_cod, rd_m, rd_up1, sArr_sUp, put_s, put_o, ne_eq, not_false_eq_true, Int.reduceEq]
          refine ss_goto h dX4_text_86 52 (by decide) ?_
          first
            | (rw [e0, c74]; exact fin)
            | (rw [c74]; exact fin)
        · skip
          replace c74 := bI_n.mp c74
          rw [if_pos c74] at hF
          have h16 := l16 c74
          obtain ⟨k1, k2⟩ := lg c74
          have fin := ih (true, putP r.2.1 12 (r.2.1.1 12 + 1), r.2.2, f) ⟨PI_12 k1, (put_o (by decide)).trans l14, by dsimp only; rw [put_s]; omega, Or.inl ⟨rfl, by dsimp only; rw [put_o (by decide)]; omega, hF⟩⟩ (by dsimp only; rw [put_o (by decide)]; have := k1.1; simp only [if_true]; omega)
          refine ss_iconst h dX4_text_77 78 rfl ?_
          refine ss_goto h dX4_text_78 82 (by decide) ?_
          refine ss_iadd h dX4_text_82 83 rfl ?_
          refine ss_putI h kl4 12 12 rfl (by decide) rfl hM.ob q1099 (Or.inl rfl) (by omega) dX4_text_83 86 rfl ?_
          try simp only [rd_put, rd_cod, rd_m, rd_up1, sArr_sUp, put_s, put_o, ne_eq, not_false_eq_true, Int.reduceEq]
          refine ss_goto h dX4_text_86 52 (by decide) ?_
          first
            | (rw [e0, c74]; exact fin)
            | (rw [c74]; exact fin)
  · skip
    replace c11 := bI_0.mp c11
    refine ss_aload_n (i := 0) h dX4_text_14 15 rfl rfl rfl ?_
    refine ss_iconst h dX4_text_15 16 rfl ?_
    refine ss_putI h kl4 14 14 rfl (by decide) rfl hM.ob q1101 (Or.inl rfl) (by omega) dX4_text_16 19 rfl ?_
    try simp only [rd_put, rd_cod, rd_m, rd_up1, sArr_sUp, put_s, put_o, ne_eq, not_false_eq_true, Int.reduceEq]
    refine ss_aload_n (i := 0) h dX4_text_19 20 rfl rfl rfl ?_
    refine ss_iconst h dX4_text_20 21 rfl ?_
    refine ss_putI h kl4 21 21 rfl (by decide) rfl hM.ob q1108 (Or.inl rfl) (by omega) dX4_text_21 24 rfl ?_
    try simp only [rd_put, rd_cod, rd_m, rd_up1, sArr_sUp, put_s, put_o, ne_eq, not_false_eq_true, Int.reduceEq]
    refine ss_aload_n (i := 0) h dX4_text_24 25 rfl rfl rfl ?_
    refine ss_iconst h dX4_text_25 26 rfl ?_
    refine ss_putI h kl4 23 23 rfl (by decide) rfl hM.ob q1110 (Or.inl rfl) (by omega) dX4_text_26 29 rfl ?_
    try simp only [rd_put, rd_cod, rd_m, rd_up1, sArr_sUp, put_s, put_o, ne_eq, not_false_eq_true, Int.reduceEq]
    refine ss_iconst h dX4_text_29 30 rfl ?_
    refine ss_iret h dX4_text_30 (by omega) (by omega) ?_
    rw [hP9]
    exact ⟨by rw [if_neg (fun z => by rw [c11] at z; cases z.1)], rfl, rfl, rfl, by rw [if_neg (by rw [c11]; decide)]⟩
end M21

