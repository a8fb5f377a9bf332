/-! ===== the twin: the next token ===== -/
section M17
variable {Ω : OmT} {n : Nat} {K : KT} {X : XT} {R : RT} {m : Nat} {d : Nat}
abbrev psX (X : XT) (m : Nat) : PS := (X m, X (m + 6))
def rdX (X : XT) (m : Nat) (s : PS) : XT := sArr (sArr X m s.1) (m + 6) s.2
theorem rdX_r {X : XT} {m : Nat} {r : WT} : rdX X m (r, X (m + 6)) = sArr X m r := by
  unfold rdX
  have : sArr X m r (m + 6) = X (m + 6) := sArr_n (by omega)
  dsimp only
  rw [← this, sArr_id]
theorem row_a {r : WT} {a b q : Int} : upW (upW (upW r 15 a) 17 b) 15 q = upW (upW r 15 q) 17 b := by rw [upW_comm (show (17 : Int) ≠ 15 by decide), upW_upW]
theorem row_b {r : WT} {a b v q : Int} : upW (upW (upW (upW r 15 a) 17 b) 18 v) 15 q = upW (upW (upW r 15 q) 17 b) 18 v := by rw [upW_comm (show (18 : Int) ≠ 15 by decide), row_a]
theorem row_c {r : WT} {a b v : Int} : upW (upW (upW r 15 a) 17 b) 18 v = upW (upW (upW r 18 v) 15 a) 17 b := by rw [upW_comm (show (17 : Int) ≠ 18 by decide), upW_comm (show (15 : Int) ≠ 18 by decide)]
theorem m_seeR (hM : MOk Ω n K R m) {B r : WT} {t p : Int} (ht : TP B t) (hB : X (m + 7) = B) (hr : r 14 = t) (h1 : 0 ≤ p ∧ p ≤ 1000) : sCt Ω yX4_see cX4_see 2 (some .int) d 0 0 [.ref m, vI p] n K (sArr X m r) R (pV n K (sArr X m r) R (some (vI (seeP B t p)))) := by
  have := m_see (X := sArr X m r) (d := d) hM (k := p) (by rw [sArr_s, hr]; exact ht.1) h1
  rw [sArr_s, sArr_n (show m + 7 ≠ m by omega), hr, hB] at this
  exact this
theorem m_wordR (hM : MOk Ω n K R m) {B r : WT} {a e : Int} (hB : X (m + 7) = B) (h17 : r 17 = a) (h15 : r 15 = e) (h1 : 0 ≤ a ∧ a ≤ e) (h2 : e ≤ 400) (hl : 6 ≤ d) : sCt Ω yX4_word cX4_word 1 (some .int) d 0 0 [.ref m] n K (sArr X m r) R (pV n K (sArr X m r) R (some (vI (wordT (slc B a e))))) := by
  have := m_word (X := sArr X m r) (d := d) hM (by rw [sArr_s, h17, h15]; exact h1) (by rw [sArr_s, h15]; exact h2) hl
  rw [sArr_s, sArr_n (show m + 7 ≠ m by omega), h17, h15, hB] at this
  exact this
set_option maxHeartbeats 2000000 in
theorem m_next0 (hM : MOk Ω n K R m) (ht : TP (X (m + 7)) (X m 14)) (h0 : 0 ≤ X m 15 ∧ X m 15 ≤ X m 14) (hl : 7 ≤ d) : sCt Ω yX4_next0 cX4_next0 3 none d 0 0 [.ref m] n K X R (pN n K R (fun X' => X' = rdX X m (nextP (X (m + 7)) (X m 14) (psX X m)))) := by
  obtain ⟨B, hB⟩ : ∃ B, B = X (m + 7) := ⟨_, rfl⟩
  obtain ⟨r0, hr0⟩ : ∃ r, r = X m := ⟨_, rfl⟩
  obtain ⟨t, htt⟩ : ∃ t, t = r0 14 := ⟨_, rfl⟩
  rw [show psX X m = (r0, X (m + 6)) by rw [hr0]]
  rw [← hB, ← hr0, ← htt] at ht ⊢
  rw [← hr0, ← htt] at h0
  obtain ⟨A, hA⟩ : ∃ A, A = skpF B t 402 (r0 15) := ⟨_, rfl⟩
  have hAi := skp_in ht 402 (r0 15) h0.1 h0.2
  rw [← hA] at hAi
  obtain ⟨FIN, hFIN⟩ : ∃ F, F = nextP B t (r0, X (m + 6)) := ⟨_, rfl⟩
  rw [← hFIN]
  unfold nextP at hFIN
  dsimp only at hFIN
  rw [← hA] at hFIN
  have ht1 := ht.1
  refine sCt_of (by decide) (by simp [Value.category, vI, va_rf]) (Nat.le_of_ble_eq_true rfl) fun Γ P9 hP9 h => ?_
  show sG (_, _, _, _, _) Γ 0 0 _ _ _ _ 0 [some _, none, none] []
  refine ss_rg fun hrg => ?_
  have hrB : ∀ p, sRg (seeP B t p) := fun p => by
    unfold seeP
    split
    · rw [hB]
      exact hrg _ _
    · decide
  refine ss_X (X' := sArr X m (upW r0 15 (r0 15))) (by rw [upW_same, hr0, sArr_id]) ?_
  refine ss_loop (σ := Int × Nat) (Pp := fun z => sG _ Γ 0 0 n K (sArr X m (upW r0 15 z.1)) R 0 [some (.ref m), none, none] []) (I := fun z => (0 ≤ z.1 ∧ z.1 ≤ t) ∧ t - z.1 < z.2 ∧ skpF B t z.2 z.1 = A) (fun z => (t - z.1).toNat) (fun z hz ih => ?_) (r0 15, 402) ⟨h0, by dsimp only; omega, hA.symm⟩
  obtain ⟨p, f⟩ := z
  dsimp only at hz ih ⊢
  obtain ⟨hp, hf, hs⟩ := hz
  obtain ⟨f, rfl⟩ : ∃ g, f = g + 1 := ⟨f - 1, by omega⟩
  unfold skpF at hs
  have hpi := seeP_in ht hp.1
  refine ss_aload_n (i := 0) h dX4_next0_0 1 rfl rfl rfl ?_
  refine ss_aload_n (i := 0) h dX4_next0_1 2 rfl rfl rfl ?_
  refine ss_getI h kl4 15 15 rfl (by decide) rfl hM.ob q1102 dX4_next0_2 5 rfl ?_
  try simp only [sArr_sUp, sArr_s, upW_s, upW_n, upW_upW, row_a, row_b, ne_eq, not_false_eq_true, Int.reduceEq]
  refine ss_cVv h (m_seeR (d := d - 1) (r := (upW r0 15 p)) (p := p) hM ht hB.symm (by simp [upW, htt]) (by omega)) (lw_V q1274 q1276 qs45 q87 q1277) kl4 hM.ob 1 rfl md_X4_see rfl (by omega) (by decide) rfl dX4_next0_5 8 rfl rfl (Nat.le_of_ble_eq_true rfl) (by omega) (by omega) ?_
  refine ss_bipush h dX4_next0_8 10 rfl (by decide +kernel) ?_
  refine ss_icmp_eq h dX4_next0_10 13 26 rfl (by decide) (hrB _) (by omega) (fun c10 => ?_) (fun c10 => ?_)
  · skip
    rw [if_pos (by omega)] at hs
    refine ss_aload_n (i := 0) h dX4_next0_26 27 rfl rfl rfl ?_
    refine ss_dup h dX4_next0_27 28 rfl rfl ?_
    refine ss_getI h kl4 15 15 rfl (by decide) rfl hM.ob q1102 dX4_next0_28 31 rfl ?_
    try simp only [sArr_sUp, sArr_s, upW_s, upW_n, upW_upW, row_a, row_b, ne_eq, not_false_eq_true, Int.reduceEq]
    refine ss_iconst h dX4_next0_31 32 rfl ?_
    refine ss_iadd h dX4_next0_32 33 rfl ?_
    refine ss_putI h kl4 15 15 rfl (by decide) rfl hM.ob q1102 (Or.inl rfl) (by omega) dX4_next0_33 36 rfl ?_
    try simp only [sArr_sUp, sArr_s, upW_s, upW_n, upW_upW, row_a, row_b, ne_eq, not_false_eq_true, Int.reduceEq]
    refine ss_goto h dX4_next0_36 0 (by decide) ?_
    exact ih (p + 1, f) ⟨by dsimp only; omega, by dsimp only; omega, hs⟩ (by dsimp only; omega)
  · skip
    refine ss_aload_n (i := 0) h dX4_next0_13 14 rfl rfl rfl ?_
    refine ss_aload_n (i := 0) h dX4_next0_14 15 rfl rfl rfl ?_
    refine ss_getI h kl4 15 15 rfl (by decide) rfl hM.ob q1102 dX4_next0_15 18 rfl ?_
    try simp only [sArr_sUp, sArr_s, upW_s, upW_n, upW_upW, row_a, row_b, ne_eq, not_false_eq_true, Int.reduceEq]
    refine ss_cVv h (m_seeR (d := d - 1) (r := (upW r0 15 p)) (p := p) hM ht hB.symm (by simp [upW, htt]) (by omega)) (lw_V q1274 q1276 qs45 q87 q1277) kl4 hM.ob 1 rfl md_X4_see rfl (by omega) (by decide) rfl dX4_next0_18 21 rfl rfl (Nat.le_of_ble_eq_true rfl) (by omega) (by omega) ?_
    refine ss_bipush h dX4_next0_21 23 rfl (by decide +kernel) ?_
    refine ss_icmp_ne h dX4_next0_23 26 39 rfl (by decide) (hrB _) (by omega) (fun c23 => ?_) (fun c23 => ?_)
    · skip
      rw [if_neg (by omega)] at hs
      have hs2 := hs.symm
      subst hs2
      clear ih
      refine ss_aload_n (i := 0) h dX4_next0_39 40 rfl rfl rfl ?_
      refine ss_aload_n (i := 0) h dX4_next0_40 41 rfl rfl rfl ?_
      refine ss_getI h kl4 15 15 rfl (by decide) rfl hM.ob q1102 dX4_next0_41 44 rfl ?_
      try simp only [sArr_sUp, sArr_s, upW_s, upW_n, upW_upW, row_a, row_b, ne_eq, not_false_eq_true, Int.reduceEq]
      refine ss_putI h kl4 17 17 rfl (by decide) rfl hM.ob q1104 (Or.inl rfl) (by omega) dX4_next0_44 47 rfl ?_
      try simp only [sArr_sUp, sArr_s, upW_s, upW_n, upW_upW, row_a, row_b, ne_eq, not_false_eq_true, Int.reduceEq]
      refine ss_aload_n (i := 0) h dX4_next0_47 48 rfl rfl rfl ?_
      refine ss_aload_n (i := 0) h dX4_next0_48 49 rfl rfl rfl ?_
      refine ss_getI h kl4 15 15 rfl (by decide) rfl hM.ob q1102 dX4_next0_49 52 rfl ?_
      try simp only [sArr_sUp, sArr_s, upW_s, upW_n, upW_upW, row_a, row_b, ne_eq, not_false_eq_true, Int.reduceEq]
      refine ss_cVv h (m_seeR (d := d - 1) (r := (upW (upW r0 15 A) 17 A)) (p := A) hM ht hB.symm (by simp [upW, htt]) (by omega)) (lw_V q1274 q1276 qs45 q87 q1277) kl4 hM.ob 1 rfl md_X4_see rfl (by omega) (by decide) rfl dX4_next0_52 55 rfl rfl (Nat.le_of_ble_eq_true rfl) (by omega) (by omega) ?_
      refine ss_ist_1 h dX4_next0_55 56 rfl ?_
      refine ss_iload_n (i := 1) h dX4_next0_56 57 rfl rfl rfl ?_
      refine ss_iconst h dX4_next0_57 58 rfl ?_
      refine ss_icmp_ne h dX4_next0_58 61 69 rfl (by decide) (hrB _) (by omega) (fun c58 => ?_) (fun c58 => ?_)
      · skip
        rw [if_neg c58] at hFIN
        refine ss_iload_n (i := 1) h dX4_next0_69 70 rfl rfl rfl ?_
        refine ss_cSv h (m_isLetter (d := d - 1) (hrB _) (by omega)) (lw_S q1278 q1279 q87 q1280) 1 rfl md_X4_isLetter (by omega) (by decide) rfl dX4_next0_70 73 rfl rfl (Nat.le_of_ble_eq_true rfl) (by omega) (by omega) ?_
        refine ss_if_eq h dX4_next0_73 76 114 rfl (by decide) (by first | omega | exact sRg_b _) (fun c73 => ?_) (fun c73 => ?_)
        · skip
          replace c73 := bI_0.mp c73
          rw [if_neg (by rw [c73]; decide)] at hFIN
          refine ss_iload_n (i := 1) h dX4_next0_114 115 rfl rfl rfl ?_
          refine ss_cSv h (m_isDigit (d := d - 1) (hrB _) (by omega)) (lw_S q1313 q1314 q87 q1315) 1 rfl md_X4_isDigit (by omega) (by decide) rfl dX4_next0_115 118 rfl rfl (Nat.le_of_ble_eq_true rfl) (by omega) (by omega) ?_
          refine ss_if_eq h dX4_next0_118 121 214 rfl (by decide) (by first | omega | exact sRg_b _) (fun c118 => ?_) (fun c118 => ?_)
          · skip
            replace c118 := bI_0.mp c118
            rw [if_neg (by rw [c118]; decide)] at hFIN
            refine ss_aload_n (i := 0) h dX4_next0_214 215 rfl rfl rfl ?_
            refine ss_dup h dX4_next0_215 216 rfl rfl ?_
            refine ss_getI h kl4 15 15 rfl (by decide) rfl hM.ob q1102 dX4_next0_216 219 rfl ?_
            try simp only [sArr_sUp, sArr_s, upW_s, upW_n, upW_upW, row_a, row_b, ne_eq, not_false_eq_true, Int.reduceEq]
            refine ss_iconst h dX4_next0_219 220 rfl ?_
            refine ss_iadd h dX4_next0_220 221 rfl ?_
            refine ss_putI h kl4 15 15 rfl (by decide) rfl hM.ob q1102 (Or.inl rfl) (by omega) dX4_next0_221 224 rfl ?_
            try simp only [sArr_sUp, sArr_s, upW_s, upW_n, upW_upW, row_a, row_b, ne_eq, not_false_eq_true, Int.reduceEq]
            refine ss_cut (σ := Unit) (fun s => True) 289 (fun s => (sArr X m (upW (upW r0 15 (A + 1)) 17 A))) (fun s => [some (.ref m), some (vI (seeP B t A)), none]) (fun s => [vI (bI (signB (seeP B t A)))]) (fun s h289 => ?_) (fun J289 => ?_)
            · skip
              refine ss_ist_2 h dX4_next0_289 290 rfl ?_
              refine ss_aload_n (i := 0) h dX4_next0_290 291 rfl rfl rfl ?_
              refine ss_iload_n (i := 2) h dX4_next0_291 292 rfl rfl rfl ?_
              refine ss_if_eq h dX4_next0_292 295 302 rfl (by decide) (sRg_b _) (fun c292 => ?_) (fun c292 => ?_)
              · skip
                replace c292 := bI_0.mp c292
                rw [if_neg (by rw [c292]; decide)] at hFIN
                refine ss_iconst h dX4_next0_302 303 rfl ?_
                refine ss_putI h kl4 16 16 rfl (by decide) rfl hM.ob q1103 (Or.inl rfl) (by omega) dX4_next0_303 306 rfl ?_
                try simp only [sArr_sUp, sArr_s, upW_s, upW_n, upW_upW, row_a, row_b, ne_eq, not_false_eq_true, Int.reduceEq]
                refine ss_vret h dX4_next0_306 (by omega) (by omega) ?_
                rw [hP9]
                exact ⟨rfl, rfl, rfl, rfl, by rw [hFIN, ← rdX_r]; unfold tokP; first | rfl | (unfold putP; dsimp only; rw [row_c]; rfl) | (unfold putP; dsimp only; rw [row_c])⟩
              · skip
                replace c292 := bI_n.mp c292
                rw [if_pos c292] at hFIN
                have hsg := signB_in c292
                refine ss_bipush h dX4_next0_295 297 rfl (by decide +kernel) ?_
                refine ss_iload_n (i := 1) h dX4_next0_297 298 rfl rfl rfl ?_
                refine ss_iadd h dX4_next0_298 299 rfl ?_
                refine ss_goto h dX4_next0_299 303 (by decide) ?_
                refine ss_putI h kl4 16 16 rfl (by decide) rfl hM.ob q1103 (Or.inl rfl) (by omega) dX4_next0_303 306 rfl ?_
                try simp only [sArr_sUp, sArr_s, upW_s, upW_n, upW_upW, row_a, row_b, ne_eq, not_false_eq_true, Int.reduceEq]
                refine ss_vret h dX4_next0_306 (by omega) (by omega) ?_
                rw [hP9]
                exact ⟨rfl, rfl, rfl, rfl, by rw [hFIN, ← rdX_r]; unfold tokP; first | rfl | (unfold putP; dsimp only; rw [row_c]; rfl) | (unfold putP; dsimp only; rw [row_c])⟩
            refine ss_iload_n (i := 1) h dX4_next0_224 225 rfl rfl rfl ?_
            refine ss_bipush h dX4_next0_225 227 rfl (by decide +kernel) ?_
            refine ss_icmp_eq h dX4_next0_227 230 284 rfl (by decide) (hrB _) (by omega) (fun c227 => ?_) (fun c227 => ?_)
            · skip
              refine ss_iconst h dX4_next0_284 285 rfl ?_
              refine ss_goto h dX4_next0_285 289 (by decide) ?_
              have z := J289 () trivial
              first
                | (rw [show signB (seeP B t A) = true by unfold signB; exact decide_eq_true (by omega)] at z; exact z)
                | (rw [show signB (seeP B t A) = false by unfold signB; exact decide_eq_false (by omega)] at z; exact z)
            · skip
              refine ss_iload_n (i := 1) h dX4_next0_230 231 rfl rfl rfl ?_
              refine ss_bipush h dX4_next0_231 233 rfl (by decide +kernel) ?_
              refine ss_icmp_eq h dX4_next0_233 236 284 rfl (by decide) (hrB _) (by omega) (fun c233 => ?_) (fun c233 => ?_)
              · skip
                refine ss_iconst h dX4_next0_284 285 rfl ?_
                refine ss_goto h dX4_next0_285 289 (by decide) ?_
                have z := J289 () trivial
                first
                  | (rw [show signB (seeP B t A) = true by unfold signB; exact decide_eq_true (by omega)] at z; exact z)
                  | (rw [show signB (seeP B t A) = false by unfold signB; exact decide_eq_false (by omega)] at z; exact z)
              · skip
                refine ss_iload_n (i := 1) h dX4_next0_236 237 rfl rfl rfl ?_
                refine ss_bipush h dX4_next0_237 239 rfl (by decide +kernel) ?_
                refine ss_icmp_eq h dX4_next0_239 242 284 rfl (by decide) (hrB _) (by omega) (fun c239 => ?_) (fun c239 => ?_)
                · skip
                  refine ss_iconst h dX4_next0_284 285 rfl ?_
                  refine ss_goto h dX4_next0_285 289 (by decide) ?_
                  have z := J289 () trivial
                  first
                    | (rw [show signB (seeP B t A) = true by unfold signB; exact decide_eq_true (by omega)] at z; exact z)
                    | (rw [show signB (seeP B t A) = false by unfold signB; exact decide_eq_false (by omega)] at z; exact z)
                · skip
                  refine ss_iload_n (i := 1) h dX4_next0_242 243 rfl rfl rfl ?_
                  refine ss_bipush h dX4_next0_243 245 rfl (by decide +kernel) ?_
                  refine ss_icmp_eq h dX4_next0_245 248 284 rfl (by decide) (hrB _) (by omega) (fun c245 => ?_) (fun c245 => ?_)
                  · skip
                    refine ss_iconst h dX4_next0_284 285 rfl ?_
                    refine ss_goto h dX4_next0_285 289 (by decide) ?_
                    have z := J289 () trivial
                    first
                      | (rw [show signB (seeP B t A) = true by unfold signB; exact decide_eq_true (by omega)] at z; exact z)
                      | (rw [show signB (seeP B t A) = false by unfold signB; exact decide_eq_false (by omega)] at z; exact z)
                  · skip
                    refine ss_iload_n (i := 1) h dX4_next0_248 249 rfl rfl rfl ?_
                    refine ss_bipush h dX4_next0_249 251 rfl (by decide +kernel) ?_
                    refine ss_icmp_eq h dX4_next0_251 254 284 rfl (by decide) (hrB _) (by omega) (fun c251 => ?_) (fun c251 => ?_)
                    · skip
                      refine ss_iconst h dX4_next0_284 285 rfl ?_
                      refine ss_goto h dX4_next0_285 289 (by decide) ?_
                      have z := J289 () trivial
                      first
                        | (rw [show signB (seeP B t A) = true by unfold signB; exact decide_eq_true (by omega)] at z; exact z)
                        | (rw [show signB (seeP B t A) = false by unfold signB; exact decide_eq_false (by omega)] at z; exact z)
                    · skip
                      refine ss_iload_n (i := 1) h dX4_next0_254 255 rfl rfl rfl ?_
                      refine ss_bipush h dX4_next0_255 257 rfl (by decide +kernel) ?_
                      refine ss_icmp_eq h dX4_next0_257 260 284 rfl (by decide) (hrB _) (by omega) (fun c257 => ?_) (fun c257 => ?_)
                      · skip
                        refine ss_iconst h dX4_next0_284 285 rfl ?_
                        refine ss_goto h dX4_next0_285 289 (by decide) ?_
                        have z := J289 () trivial
                        first
                          | (rw [show signB (seeP B t A) = true by unfold signB; exact decide_eq_true (by omega)] at z; exact z)
                          | (rw [show signB (seeP B t A) = false by unfold signB; exact decide_eq_false (by omega)] at z; exact z)
                      · skip
                        refine ss_iload_n (i := 1) h dX4_next0_260 261 rfl rfl rfl ?_
                        refine ss_bipush h dX4_next0_261 263 rfl (by decide +kernel) ?_
                        refine ss_icmp_eq h dX4_next0_263 266 284 rfl (by decide) (hrB _) (by omega) (fun c263 => ?_) (fun c263 => ?_)
                        · skip
                          refine ss_iconst h dX4_next0_284 285 rfl ?_
                          refine ss_goto h dX4_next0_285 289 (by decide) ?_
                          have z := J289 () trivial
                          first
                            | (rw [show signB (seeP B t A) = true by unfold signB; exact decide_eq_true (by omega)] at z; exact z)
                            | (rw [show signB (seeP B t A) = false by unfold signB; exact decide_eq_false (by omega)] at z; exact z)
                        · skip
                          refine ss_iload_n (i := 1) h dX4_next0_266 267 rfl rfl rfl ?_
                          refine ss_bipush h dX4_next0_267 269 rfl (by decide +kernel) ?_
                          refine ss_icmp_eq h dX4_next0_269 272 284 rfl (by decide) (hrB _) (by omega) (fun c269 => ?_) (fun c269 => ?_)
                          · skip
                            refine ss_iconst h dX4_next0_284 285 rfl ?_
                            refine ss_goto h dX4_next0_285 289 (by decide) ?_
                            have z := J289 () trivial
                            first
                              | (rw [show signB (seeP B t A) = true by unfold signB; exact decide_eq_true (by omega)] at z; exact z)
                              | (rw [show signB (seeP B t A) = false by unfold signB; exact decide_eq_false (by omega)] at z; exact z)
                          · skip
                            refine ss_iload_n (i := 1) h dX4_next0_272 273 rfl rfl rfl ?_
                            refine ss_bipush h dX4_next0_273 275 rfl (by decide +kernel) ?_
                            refine ss_icmp_eq h dX4_next0_275 278 284 rfl (by decide) (hrB _) (by omega) (fun c275 => ?_) (fun c275 => ?_)
                            · skip
                              refine ss_iconst h dX4_next0_284 285 rfl ?_
                              refine ss_goto h dX4_next0_285 289 (by decide) ?_
                              have z := J289 () trivial
                              first
                                | (rw [show signB (seeP B t A) = true by unfold signB; exact decide_eq_true (by omega)] at z; exact z)
                                | (rw [show signB (seeP B t A) = false by unfold signB; exact decide_eq_false (by omega)] at z; exact z)
                            · skip
                              refine ss_iload_n (i := 1) h dX4_next0_278 279 rfl rfl rfl ?_
                              refine ss_bipush h dX4_next0_279 281 rfl (by decide +kernel) ?_
                              refine ss_icmp_ne h dX4_next0_281 284 288 rfl (by decide) (hrB _) (by omega) (fun c281 => ?_) (fun c281 => ?_)
                              · skip
                                refine ss_iconst h dX4_next0_288 289 rfl ?_
                                have z := J289 () trivial
                                first
                                  | (rw [show signB (seeP B t A) = true by unfold signB; exact decide_eq_true (by omega)] at z; exact z)
                                  | (rw [show signB (seeP B t A) = false by unfold signB; exact decide_eq_false (by omega)] at z; exact z)
                              · skip
                                refine ss_iconst h dX4_next0_284 285 rfl ?_
                                refine ss_goto h dX4_next0_285 289 (by decide) ?_
                                have z := J289 () trivial
                                first
                                  | (rw [show signB (seeP B t A) = true by unfold signB; exact decide_eq_true (by omega)] at z; exact z)
                                  | (rw [show signB (seeP B t A) = false by unfold signB; exact decide_eq_false (by omega)] at z; exact z)
          · skip
            replace c118 := bI_n.mp c118
            rw [if_pos c118] at hFIN
            obtain ⟨DE, hDE⟩ : ∃ e, e = digF B t A 402 A 0 := ⟨_, rfl⟩
            rw [← hDE] at hFIN
            refine ss_aload_n (i := 0) h dX4_next0_121 122 rfl rfl rfl ?_
            refine ss_iconst h dX4_next0_122 123 rfl ?_
            refine ss_putI h kl4 18 18 rfl (by decide) rfl hM.ob q1105 (Or.inl rfl) (by omega) dX4_next0_123 126 rfl ?_
            try simp only [sArr_sUp, sArr_s, upW_s, upW_n, upW_upW, row_a, row_b, ne_eq, not_false_eq_true, Int.reduceEq]
            refine ss_loop (σ := Int × Int × Nat) (Pp := fun z => sG _ Γ 0 0 n K (sArr X m (upW (upW (upW r0 15 z.1) 17 A) 18 z.2.1)) R 126 [some (.ref m), some (vI (seeP B t A)), none] []) (I := fun z => (A ≤ z.1 ∧ z.1 ≤ t) ∧ t - z.1 < z.2.2 ∧ digI A z.1 z.2.1 ∧ digF B t A z.2.2 z.1 z.2.1 = DE) (fun z => (t - z.1).toNat) (fun z hz ih => ?_) (A, 0, 402) ⟨by dsimp only; omega, by dsimp only; omega, ⟨by dsimp only; omega, fun _ => rfl, fun _ => by dsimp only; omega, fun _ => by dsimp only; omega, fun _ => by dsimp only; omega⟩, hDE.symm⟩
            obtain ⟨q, v, f⟩ := z
            dsimp only at hz ih ⊢
            obtain ⟨hq, hf, hd, hs⟩ := hz
            obtain ⟨f, rfl⟩ : ∃ g, f = g + 1 := ⟨f - 1, by omega⟩
            unfold digF at hs
            have hqi := seeP_in ht (show 0 ≤ q by omega)
            refine ss_aload_n (i := 0) h dX4_next0_126 127 rfl rfl rfl ?_
            refine ss_aload_n (i := 0) h dX4_next0_127 128 rfl rfl rfl ?_
            refine ss_getI h kl4 15 15 rfl (by decide) rfl hM.ob q1102 dX4_next0_128 131 rfl ?_
            try simp only [sArr_sUp, sArr_s, upW_s, upW_n, upW_upW, row_a, row_b, ne_eq, not_false_eq_true, Int.reduceEq]
            refine ss_cVv h (m_seeR (d := d - 1) (r := (upW (upW (upW r0 15 q) 17 A) 18 v)) (p := q) hM ht hB.symm (by simp [upW, htt]) (by omega)) (lw_V q1274 q1276 qs45 q87 q1277) kl4 hM.ob 1 rfl md_X4_see rfl (by omega) (by decide) rfl dX4_next0_131 134 rfl rfl (Nat.le_of_ble_eq_true rfl) (by omega) (by omega) ?_
            refine ss_cSv h (m_isDigit (d := d - 1) (hrB _) (by omega)) (lw_S q1313 q1314 q87 q1315) 1 rfl md_X4_isDigit (by omega) (by decide) rfl dX4_next0_134 137 rfl rfl (Nat.le_of_ble_eq_true rfl) (by omega) (by omega) ?_
            refine ss_if_eq h dX4_next0_137 140 189 rfl (by decide) (by first | omega | exact sRg_b _) (fun c137 => ?_) (fun c137 => ?_)
            · skip
              replace c137 := bI_0.mp c137
              rw [if_neg (by rw [c137]; decide)] at hs
              rw [← hs] at hFIN
              dsimp only at hFIN
              refine ss_aload_n (i := 0) h dX4_next0_189 190 rfl rfl rfl ?_
              refine ss_aload_n (i := 0) h dX4_next0_190 191 rfl rfl rfl ?_
              refine ss_getI h kl4 15 15 rfl (by decide) rfl hM.ob q1102 dX4_next0_191 194 rfl ?_
              try simp only [sArr_sUp, sArr_s, upW_s, upW_n, upW_upW, row_a, row_b, ne_eq, not_false_eq_true, Int.reduceEq]
              refine ss_aload_n (i := 0) h dX4_next0_194 195 rfl rfl rfl ?_
              refine ss_getI h kl4 17 17 rfl (by decide) rfl hM.ob q1104 dX4_next0_195 198 rfl ?_
              try simp only [sArr_sUp, sArr_s, upW_s, upW_n, upW_upW, row_a, row_b, ne_eq, not_false_eq_true, Int.reduceEq]
              refine ss_isub h dX4_next0_198 199 rfl ?_
              refine ss_iconst h dX4_next0_199 200 rfl ?_
              refine ss_icmp_ge h dX4_next0_200 203 207 rfl (by decide) (by omega) (by omega) (fun c200 => ?_) (fun c200 => ?_)
              · skip
                rw [if_neg (by omega)] at hFIN
                refine ss_iconst h dX4_next0_207 208 rfl ?_
                refine ss_putI h kl4 16 16 rfl (by decide) rfl hM.ob q1103 (Or.inl rfl) (by omega) dX4_next0_208 211 rfl ?_
                try simp only [sArr_sUp, sArr_s, upW_s, upW_n, upW_upW, row_a, row_b, ne_eq, not_false_eq_true, Int.reduceEq]
                refine ss_goto h dX4_next0_211 306 (by decide) ?_
                refine ss_vret h dX4_next0_306 (by omega) (by omega) ?_
                rw [hP9]
                exact ⟨rfl, rfl, rfl, rfl, by rw [hFIN, ← rdX_r]; unfold tokP; first | rfl | (unfold putP; dsimp only; rw [row_c]; rfl) | (unfold putP; dsimp only; rw [row_c])⟩
              · skip
                rw [if_pos (by omega)] at hFIN
                refine ss_iconst h dX4_next0_203 204 rfl ?_
                refine ss_goto h dX4_next0_204 208 (by decide) ?_
                refine ss_putI h kl4 16 16 rfl (by decide) rfl hM.ob q1103 (Or.inl rfl) (by omega) dX4_next0_208 211 rfl ?_
                try simp only [sArr_sUp, sArr_s, upW_s, upW_n, upW_upW, row_a, row_b, ne_eq, not_false_eq_true, Int.reduceEq]
                refine ss_goto h dX4_next0_211 306 (by decide) ?_
                refine ss_vret h dX4_next0_306 (by omega) (by omega) ?_
                rw [hP9]
                exact ⟨rfl, rfl, rfl, rfl, by rw [hFIN, ← rdX_r]; unfold tokP; first | rfl | (unfold putP; dsimp only; rw [row_c]; rfl) | (unfold putP; dsimp only; rw [row_c])⟩
            · skip
              replace c137 := bI_n.mp c137
              rw [if_pos c137] at hs
              have hc := digitB_in c137
              have hqt : q < t := by
                rcases hqi with z | z
                · exact z.1
                · omega
              have hdn := digI_s hd hq.1 hc
              refine ss_aload_n (i := 0) h dX4_next0_140 141 rfl rfl rfl ?_
              refine ss_getI h kl4 15 15 rfl (by decide) rfl hM.ob q1102 dX4_next0_141 144 rfl ?_
              try simp only [sArr_sUp, sArr_s, upW_s, upW_n, upW_upW, row_a, row_b, ne_eq, not_false_eq_true, Int.reduceEq]
              refine ss_aload_n (i := 0) h dX4_next0_144 145 rfl rfl rfl ?_
              refine ss_getI h kl4 17 17 rfl (by decide) rfl hM.ob q1104 dX4_next0_145 148 rfl ?_
              try simp only [sArr_sUp, sArr_s, upW_s, upW_n, upW_upW, row_a, row_b, ne_eq, not_false_eq_true, Int.reduceEq]
              refine ss_iconst h dX4_next0_148 149 rfl ?_
              refine ss_iadd h dX4_next0_149 150 rfl ?_
              refine ss_icmp_ge h dX4_next0_150 153 176 rfl (by decide) (by first | omega | exact sRg_b _) (by first | omega | exact sRg_b _) (fun c150 => ?_) (fun c150 => ?_)
              · skip
                rw [if_neg (by omega)] at hs hdn
                have fin := ih (q + 1, v, f) ⟨by dsimp only; omega, by dsimp only; omega, hdn, hs⟩ (by dsimp only; omega)
                refine ss_aload_n (i := 0) h dX4_next0_176 177 rfl rfl rfl ?_
                refine ss_dup h dX4_next0_177 178 rfl rfl ?_
                refine ss_getI h kl4 15 15 rfl (by decide) rfl hM.ob q1102 dX4_next0_178 181 rfl ?_
                try simp only [sArr_sUp, sArr_s, upW_s, upW_n, upW_upW, row_a, row_b, ne_eq, not_false_eq_true, Int.reduceEq]
                refine ss_iconst h dX4_next0_181 182 rfl ?_
                refine ss_iadd h dX4_next0_182 183 rfl ?_
                refine ss_putI h kl4 15 15 rfl (by decide) rfl hM.ob q1102 (Or.inl rfl) (by omega) dX4_next0_183 186 rfl ?_
                try simp only [sArr_sUp, sArr_s, upW_s, upW_n, upW_upW, row_a, row_b, ne_eq, not_false_eq_true, Int.reduceEq]
                refine ss_goto h dX4_next0_186 126 (by decide) ?_
                exact fin
              · skip
                rw [if_pos (by omega)] at hs hdn
                have fin := ih (q + 1, 10 * v + seeP B t q - 48, f) ⟨by dsimp only; omega, by dsimp only; omega, hdn, hs⟩ (by dsimp only; omega)
                have hdn1 := hdn.1
                refine ss_aload_n (i := 0) h dX4_next0_153 154 rfl rfl rfl ?_
                refine ss_bipush h dX4_next0_154 156 rfl (by decide +kernel) ?_
                refine ss_aload_n (i := 0) h dX4_next0_156 157 rfl rfl rfl ?_
                refine ss_getI h kl4 18 18 rfl (by decide) rfl hM.ob q1105 dX4_next0_157 160 rfl ?_
                try simp only [sArr_sUp, sArr_s, upW_s, upW_n, upW_upW, row_a, row_b, ne_eq, not_false_eq_true, Int.reduceEq]
                refine ss_imul h dX4_next0_160 161 rfl ?_
                refine ss_aload_n (i := 0) h dX4_next0_161 162 rfl rfl rfl ?_
                refine ss_aload_n (i := 0) h dX4_next0_162 163 rfl rfl rfl ?_
                refine ss_getI h kl4 15 15 rfl (by decide) rfl hM.ob q1102 dX4_next0_163 166 rfl ?_
                try simp only [sArr_sUp, sArr_s, upW_s, upW_n, upW_upW, row_a, row_b, ne_eq, not_false_eq_true, Int.reduceEq]
                refine ss_cVv h (m_seeR (d := d - 1) (r := (upW (upW (upW r0 15 q) 17 A) 18 v)) (p := q) hM ht hB.symm (by simp [upW, htt]) (by omega)) (lw_V q1274 q1276 qs45 q87 q1277) kl4 hM.ob 1 rfl md_X4_see rfl (by omega) (by decide) rfl dX4_next0_166 169 rfl rfl (Nat.le_of_ble_eq_true rfl) (by omega) (by omega) ?_
                refine ss_iadd h dX4_next0_169 170 rfl ?_
                refine ss_bipush h dX4_next0_170 172 rfl (by decide +kernel) ?_
                refine ss_isub h dX4_next0_172 173 rfl ?_
                refine ss_putI h kl4 18 18 rfl (by decide) rfl hM.ob q1105 (Or.inl rfl) (by omega) dX4_next0_173 176 rfl ?_
                try simp only [sArr_sUp, sArr_s, upW_s, upW_n, upW_upW, row_a, row_b, ne_eq, not_false_eq_true, Int.reduceEq]
                refine ss_aload_n (i := 0) h dX4_next0_176 177 rfl rfl rfl ?_
                refine ss_dup h dX4_next0_177 178 rfl rfl ?_
                refine ss_getI h kl4 15 15 rfl (by decide) rfl hM.ob q1102 dX4_next0_178 181 rfl ?_
                try simp only [sArr_sUp, sArr_s, upW_s, upW_n, upW_upW, row_a, row_b, ne_eq, not_false_eq_true, Int.reduceEq]
                refine ss_iconst h dX4_next0_181 182 rfl ?_
                refine ss_iadd h dX4_next0_182 183 rfl ?_
                refine ss_putI h kl4 15 15 rfl (by decide) rfl hM.ob q1102 (Or.inl rfl) (by omega) dX4_next0_183 186 rfl ?_
                try simp only [sArr_sUp, sArr_s, upW_s, upW_n, upW_upW, row_a, row_b, ne_eq, not_false_eq_true, Int.reduceEq]
                refine ss_goto h dX4_next0_186 126 (by decide) ?_
                exact fin
        · skip
          replace c73 := bI_n.mp c73
          rw [if_pos c73] at hFIN
          obtain ⟨LE, hLE⟩ : ∃ e, e = letF B t 402 A := ⟨_, rfl⟩
          rw [← hLE] at hFIN
          refine ss_loop (σ := Int × Nat) (Pp := fun z => sG _ Γ 0 0 n K (sArr X m (upW (upW r0 15 z.1) 17 A)) R 76 [some (.ref m), some (vI (seeP B t A)), none] []) (I := fun z => (A ≤ z.1 ∧ z.1 ≤ t) ∧ t - z.1 < z.2 ∧ letF B t z.2 z.1 = LE) (fun z => (t - z.1).toNat) (fun z hz ih => ?_) (A, 402) ⟨by dsimp only; omega, by dsimp only; omega, hLE.symm⟩
          obtain ⟨q, f⟩ := z
          dsimp only at hz ih ⊢
          obtain ⟨hq, hf, hs⟩ := hz
          obtain ⟨f, rfl⟩ : ∃ g, f = g + 1 := ⟨f - 1, by omega⟩
          unfold letF at hs
          have hqi := seeP_in ht (show 0 ≤ q by omega)
          refine ss_aload_n (i := 0) h dX4_next0_76 77 rfl rfl rfl ?_
          refine ss_aload_n (i := 0) h dX4_next0_77 78 rfl rfl rfl ?_
          refine ss_getI h kl4 15 15 rfl (by decide) rfl hM.ob q1102 dX4_next0_78 81 rfl ?_
          try simp only [sArr_sUp, sArr_s, upW_s, upW_n, upW_upW, row_a, row_b, ne_eq, not_false_eq_true, Int.reduceEq]
          refine ss_cVv h (m_seeR (d := d - 1) (r := (upW (upW r0 15 q) 17 A)) (p := q) hM ht hB.symm (by simp [upW, htt]) (by omega)) (lw_V q1274 q1276 qs45 q87 q1277) kl4 hM.ob 1 rfl md_X4_see rfl (by omega) (by decide) rfl dX4_next0_81 84 rfl rfl (Nat.le_of_ble_eq_true rfl) (by omega) (by omega) ?_
          refine ss_cSv h (m_isLetter (d := d - 1) (hrB _) (by omega)) (lw_S q1278 q1279 q87 q1280) 1 rfl md_X4_isLetter (by omega) (by decide) rfl dX4_next0_84 87 rfl rfl (Nat.le_of_ble_eq_true rfl) (by omega) (by omega) ?_
          refine ss_if_eq h dX4_next0_87 90 103 rfl (by decide) (by first | omega | exact sRg_b _) (fun c87 => ?_) (fun c87 => ?_)
          · skip
            replace c87 := bI_0.mp c87
            rw [if_neg (by rw [c87]; decide)] at hs
            rw [← hs] at hFIN
            refine ss_aload_n (i := 0) h dX4_next0_103 104 rfl rfl rfl ?_
            refine ss_aload_n (i := 0) h dX4_next0_104 105 rfl rfl rfl ?_
            refine ss_cVv h (m_wordR (d := d - 1) (r := upW (upW r0 15 q) 17 A) (a := A) (e := q) hM hB.symm (by simp [upW]) (by simp [upW]) (by omega) (by omega) (by omega)) (lw_V q1281 q1283 qs46 q87 q1284) kl4 hM.ob 0 rfl md_X4_word rfl (by omega) (by decide) rfl dX4_next0_105 108 rfl rfl (Nat.le_of_ble_eq_true rfl) (by omega) (by omega) ?_
            have hwi := wordT_in (slc B A q)
            refine ss_putI h kl4 16 16 rfl (by decide) rfl hM.ob q1103 (Or.inl rfl) (by omega) dX4_next0_108 111 rfl ?_
            try simp only [sArr_sUp, sArr_s, upW_s, upW_n, upW_upW, row_a, row_b, ne_eq, not_false_eq_true, Int.reduceEq]
            refine ss_goto h dX4_next0_111 306 (by decide) ?_
            refine ss_vret h dX4_next0_306 (by omega) (by omega) ?_
            rw [hP9]
            exact ⟨rfl, rfl, rfl, rfl, by rw [hFIN, ← rdX_r]; unfold tokP; first | rfl | (unfold putP; dsimp only; rw [row_c]; rfl) | (unfold putP; dsimp only; rw [row_c])⟩
          · skip
            replace c87 := bI_n.mp c87
            rw [if_pos c87] at hs
            have hqt : q < t := by
              rcases hqi with z | z
              · exact z.1
              · rw [z.2, letB_n] at c87
                cases c87
            refine ss_aload_n (i := 0) h dX4_next0_90 91 rfl rfl rfl ?_
            refine ss_dup h dX4_next0_91 92 rfl rfl ?_
            refine ss_getI h kl4 15 15 rfl (by decide) rfl hM.ob q1102 dX4_next0_92 95 rfl ?_
            try simp only [sArr_sUp, sArr_s, upW_s, upW_n, upW_upW, row_a, row_b, ne_eq, not_false_eq_true, Int.reduceEq]
            refine ss_iconst h dX4_next0_95 96 rfl ?_
            refine ss_iadd h dX4_next0_96 97 rfl ?_
            refine ss_putI h kl4 15 15 rfl (by decide) rfl hM.ob q1102 (Or.inl rfl) (by omega) dX4_next0_97 100 rfl ?_
            try simp only [sArr_sUp, sArr_s, upW_s, upW_n, upW_upW, row_a, row_b, ne_eq, not_false_eq_true, Int.reduceEq]
            refine ss_goto h dX4_next0_100 76 (by decide) ?_
            exact ih (q + 1, f) ⟨by dsimp only; omega, by dsimp only; omega, hs⟩ (by dsimp only; omega)
      · skip
        rw [if_pos c58] at hFIN
        refine ss_aload_n (i := 0) h dX4_next0_61 62 rfl rfl rfl ?_
        refine ss_iconst h dX4_next0_62 63 rfl ?_
        refine ss_putI h kl4 16 16 rfl (by decide) rfl hM.ob q1103 (Or.inl rfl) (by omega) dX4_next0_63 66 rfl ?_
        try simp only [sArr_sUp, sArr_s, upW_s, upW_n, upW_upW, row_a, row_b, ne_eq, not_false_eq_true, Int.reduceEq]
        refine ss_goto h dX4_next0_66 306 (by decide) ?_
        refine ss_vret h dX4_next0_306 (by omega) (by omega) ?_
        rw [hP9]
        exact ⟨rfl, rfl, rfl, rfl, by rw [hFIN, ← rdX_r]; unfold tokP; first | rfl | (unfold putP; dsimp only; rw [row_c]; rfl) | (unfold putP; dsimp only; rw [row_c])⟩
    · skip
      rw [if_pos (by omega)] at hs
      refine ss_aload_n (i := 0) h dX4_next0_26 27 rfl rfl rfl ?_
      refine ss_dup h dX4_next0_27 28 rfl rfl ?_
      refine ss_getI h kl4 15 15 rfl (by decide) rfl hM.ob q1102 dX4_next0_28 31 rfl ?_
      try simp only [sArr_sUp, sArr_s, upW_s, upW_n, upW_upW, row_a, row_b, ne_eq, not_false_eq_true, Int.reduceEq]
      refine ss_iconst h dX4_next0_31 32 rfl ?_
      refine ss_iadd h dX4_next0_32 33 rfl ?_
      refine ss_putI h kl4 15 15 rfl (by decide) rfl hM.ob q1102 (Or.inl rfl) (by omega) dX4_next0_33 36 rfl ?_
      try simp only [sArr_sUp, sArr_s, upW_s, upW_n, upW_upW, row_a, row_b, ne_eq, not_false_eq_true, Int.reduceEq]
      refine ss_goto h dX4_next0_36 0 (by decide) ?_
      exact ih (p + 1, f) ⟨by dsimp only; omega, by dsimp only; omega, hs⟩ (by dsimp only; omega)
end M17

