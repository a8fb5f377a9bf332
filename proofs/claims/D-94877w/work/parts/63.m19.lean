/-! ===== the twin: tests ===== -/
section M19
variable {Ω : OmT} {n : Nat} {K : KT} {X : XT} {R : RT} {m : Nat} {d : Nat}
/-- a reader's contract, at any depth -/
def rdC (Ω : OmT) (n : Nat) (K : KT) (X : XT) (R : RT) (m : Nat) (y : MethodName) (c : ByteArray) (nL : Nat) (t : Int) (f : Nat) (e : Nat) (g : PS → BP) : Prop := ∀ (d : Nat) (s : PS), s.1 14 = t → PI t s → s.1 22 = 9 - (f : Int) → e + 3 * f ≤ d → sCt Ω y c nL (some .boolean) d 0 0 [.ref m] n K (rdX X m s) R (pA n K R (vI (bI (g s).1)) (fun X' => X' = rdX X m (g s).2))
set_option maxHeartbeats 1000000 in
theorem m_every (hM : MOk Ω n K R m) {B : WT} {t : Int} {f : Nat} (hB : X (m + 7) = B) (ht : TP B t) (hg : rdC Ω n K X R m yX4_oneTest cX4_oneTest 2 t f 11 (tstP B t f)) : rdC Ω n K X R m yX4_every cX4_every 1 t f 12 (evyP B t (tstP B t f)) := by
  intro d s h14 hs h22 hl
  have ht1 := ht.1
  refine sCt_of (by decide) (by simp [Value.category, vI, va_rf]) (Nat.le_of_ble_eq_true rfl) fun Γ P9 hP9 h => ?_
  show sG (_, _, _, _, _) Γ 0 0 _ _ _ _ 0 [some _] []
  refine ss_aload_n (i := 0) h dX4_every_0 1 rfl rfl rfl ?_
  refine ss_cVa h (hg (d - 1) s h14 hs h22 (by omega)) (lw_V q1332 q1334 qs53 q87 q1335) kl4 hM.ob 0 rfl md_X4_oneTest rfl (by omega) (by decide) rfl dX4_every_1 4 rfl rfl (Nat.le_of_ble_eq_true rfl) (by omega) (by omega) (fun X1 x1 => ?_)
  refine ss_if_ne h dX4_every_4 7 9 rfl (by decide) (by first | omega | exact sRg_b _) (fun c4 => ?_) (fun c4 => ?_)
  · skip
    replace c4 := bI_1.mp c4
    have hU : evyP B t (tstP B t f) s = lpP (fun s => decide (s.1 16 = 5)) (evyB B t (tstP B t f)) 402 (tstP B t f s).2 := bnd_1 c4
    obtain ⟨FIN, hFIN⟩ : ∃ F, F = lpP (fun s => decide (s.1 16 = 5)) (evyB B t (tstP B t f)) 402 (tstP B t f s).2 := ⟨_, rfl⟩
    rw [← hFIN] at hU
    have gu := tst_good ht f s hs c4
    have hu14 := (frm_tst (B := B) (t := t) f s 14 (by decide)).trans h14
    subst x1
    refine ss_loop (σ := PS × Nat) (Pp := fun z => sG _ Γ 0 0 n K (rdX X m z.1) R 9 [some (.ref m)] []) (I := fun z => PI t z.1 ∧ z.1.1 14 = t ∧ z.1.1 22 = 9 - (f : Int) ∧ t - z.1.1 17 < z.2 ∧ lpP (fun s => decide (s.1 16 = 5)) (evyB B t (tstP B t f)) z.2 z.1 = FIN) (fun z => (t - z.1.1 17).toNat) (fun z hz ih => ?_) ((tstP B t f s).2, 402) ⟨gu.1, hu14, gu.2.2.2.trans h22, by have := gu.1.1; dsimp only; omega, hFIN.symm⟩
    obtain ⟨q, u⟩ := z
    dsimp only at hz ih ⊢
    obtain ⟨hq, hq14, hq22, hf, hF⟩ := hz
    obtain ⟨a1, a2, a3, a4, a5, a6, a7, a8⟩ := hq
    have hq : PI t q := ⟨a1, a2, a3, a4, a5, a6, a7, a8⟩
    obtain ⟨u, rfl⟩ : ∃ g, u = g + 1 := ⟨u - 1, by omega⟩
    unfold lpP at hF
    refine ss_aload_n (i := 0) h dX4_every_9 10 rfl rfl rfl ?_
    refine ss_getI h kl4 16 16 rfl (by decide) rfl hM.ob q1103 dX4_every_10 13 rfl ?_
    try simp only [rd_put, rd_cod, rd_m, put_s, put_o, ne_eq, not_false_eq_true, Int.reduceEq]
    refine ss_iconst h dX4_every_13 14 rfl ?_
    refine ss_icmp_ne h dX4_every_14 17 40 rfl (by decide) (by first | omega | exact sRg_b _) (by first | omega | exact sRg_b _) (fun c14 => ?_) (fun c14 => ?_)
    · skip
      rw [if_neg (by rw [decide_eq_true_eq]; omega)] at hF
      refine ss_iconst h dX4_every_40 41 rfl ?_
      refine ss_zret h (by first | omega | exact bI_z _) dX4_every_41 (by omega) (by omega) ?_
      rw [hP9]
      exact ⟨by rw [hU, ← hF]; rfl, rfl, rfl, rfl, by rw [hU, ← hF]⟩
    · skip
      have hk5 : decide (q.1 16 = 5) = true := decide_eq_true (by omega)
      rw [if_pos hk5] at hF
      obtain ⟨g1, g2⟩ := next_grow ht hq (show q.1 16 ≠ 0 by omega)
      have n14 := (frm_next (B := B) (t := t) (s := q) 14 (by decide)).trans hq14
      obtain ⟨b1, b2, b3, b4, b5, b6, b7, b8⟩ := g1.1
      have hst := evyB_grow ht (tst_good ht f) q hq hk5
      refine ss_aload_n (i := 0) h dX4_every_17 18 rfl rfl rfl ?_
      refine ss_cVn h (m_next0R (d := d - 1) (s := q) hM hB hq14 ht (by omega) (by omega)) (lw_V q1270 q1272 qs44 q87 q1273) kl4 hM.ob 0 rfl md_X4_next0 rfl (by omega) (by decide) rfl dX4_every_18 21 rfl rfl (Nat.le_of_ble_eq_true rfl) (by omega) (by omega) (fun X18 x18 => ?_)
      subst x18
      refine ss_aload_n (i := 0) h dX4_every_21 22 rfl rfl rfl ?_
      refine ss_cVa h (hg (d - 1) (nextP B t q) n14 g1.1 (g1.2.2.2.trans hq22) (by omega)) (lw_V q1332 q1334 qs53 q87 q1335) kl4 hM.ob 0 rfl md_X4_oneTest rfl (by omega) (by decide) rfl dX4_every_22 25 rfl rfl (Nat.le_of_ble_eq_true rfl) (by omega) (by omega) (fun X22 x22 => ?_)
      refine ss_if_ne h dX4_every_25 28 30 rfl (by decide) (by first | omega | exact sRg_b _) (fun c25 => ?_) (fun c25 => ?_)
      · skip
        replace c25 := bI_1.mp c25
        have hPB : evyB B t (tstP B t f) q = (true, layP 21 0 (tstP B t f (nextP B t q)).2) := bnd_1 c25
        subst x22
        have w1 := tst_good ht f _ g1.1 c25
        have w2 := w1.1.1
        have w3 := w1.1.2.2.1
        refine ss_aload_n (i := 0) h dX4_every_30 31 rfl rfl rfl ?_
        refine ss_bipush h dX4_every_31 33 rfl (by decide +kernel) ?_
        refine ss_iconst h dX4_every_33 34 rfl ?_
        refine ss_cVn h (m_lay (d := d - 1) (s := (tstP B t f (nextP B t q)).2) hM (by omega) (by omega) (by omega)) (lw_V q1340 q1342 qs55 q87 q1343) kl4 hM.ob 2 rfl md_X4_lay rfl (by omega) (by decide) rfl dX4_every_34 37 rfl rfl (Nat.le_of_ble_eq_true rfl) (by omega) (by omega) (fun X34 x34 => ?_)
        subst x34
        have gg := hst (by rw [hPB])
        rw [hPB] at gg hF
        have gf := frm_evyB (B := B) (t := t) (frm_tst (B := B) (t := t) f) q 14 (by decide)
        rw [hPB] at gf
        have fin := ih (layP 21 0 (tstP B t f (nextP B t q)).2, u) ⟨gg.1, gf.trans hq14, gg.2.2.2.trans hq22, by have := gg.2.1; dsimp only at this ⊢; omega, hF⟩ (by have := gg.2.1; have := gg.1.1; dsimp only at *; omega)
        refine ss_goto h dX4_every_37 9 (by decide) ?_
        exact fin
      · skip
        replace c25 := bI_0.mp c25
        have hPB : evyB B t (tstP B t f) q = tstP B t f (nextP B t q) := bnd_0 c25
        refine ss_iconst h dX4_every_28 29 rfl ?_
        refine ss_zret h (by first | omega | exact bI_z _) dX4_every_29 (by omega) (by omega) ?_
        rw [hP9]
        exact ⟨by rw [hU, ← hF, hPB, bnd_0 c25, c25]; rfl, rfl, rfl, rfl, by rw [hU, ← hF, hPB, bnd_0 c25]; exact x22⟩
  · skip
    replace c4 := bI_0.mp c4
    have hU : evyP B t (tstP B t f) s = tstP B t f s := bnd_0 c4
    refine ss_iconst h dX4_every_7 8 rfl ?_
    refine ss_zret h (by first | omega | exact bI_z _) dX4_every_8 (by omega) (by omega) ?_
    rw [hP9]
    exact ⟨by rw [hU, c4]; rfl, rfl, rfl, rfl, by rw [hU]; exact x1⟩
set_option maxHeartbeats 1000000 in
theorem m_any (hM : MOk Ω n K R m) {B : WT} {t : Int} {f : Nat} (hB : X (m + 7) = B) (ht : TP B t) (hg : rdC Ω n K X R m yX4_every cX4_every 1 t f 12 (evyP B t (tstP B t f))) : rdC Ω n K X R m yX4_any cX4_any 1 t f 13 (anyP B t (tstP B t f)) := by
  intro d s h14 hs h22 hl
  have ht1 := ht.1
  refine sCt_of (by decide) (by simp [Value.category, vI, va_rf]) (Nat.le_of_ble_eq_true rfl) fun Γ P9 hP9 h => ?_
  show sG (_, _, _, _, _) Γ 0 0 _ _ _ _ 0 [some _] []
  refine ss_aload_n (i := 0) h dX4_any_0 1 rfl rfl rfl ?_
  refine ss_cVa h (hg (d - 1) s h14 hs h22 (by omega)) (lw_V q1328 q1330 qs52 q87 q1331) kl4 hM.ob 0 rfl md_X4_every rfl (by omega) (by decide) rfl dX4_any_1 4 rfl rfl (Nat.le_of_ble_eq_true rfl) (by omega) (by omega) (fun X1 x1 => ?_)
  refine ss_if_ne h dX4_any_4 7 9 rfl (by decide) (by first | omega | exact sRg_b _) (fun c4 => ?_) (fun c4 => ?_)
  · skip
    replace c4 := bI_1.mp c4
    have hU : anyP B t (tstP B t f) s = lpP (fun s => decide (s.1 16 = 4)) (anyB B t (tstP B t f)) 402 (evyP B t (tstP B t f) s).2 := bnd_1 c4
    obtain ⟨FIN, hFIN⟩ : ∃ F, F = lpP (fun s => decide (s.1 16 = 4)) (anyB B t (tstP B t f)) 402 (evyP B t (tstP B t f) s).2 := ⟨_, rfl⟩
    rw [← hFIN] at hU
    have gu := evy_good ht (tst_good ht f) s hs c4
    have hu14 := (frm_evy (B := B) (t := t) (frm_tst (B := B) (t := t) f) s 14 (by decide)).trans h14
    subst x1
    refine ss_loop (σ := PS × Nat) (Pp := fun z => sG _ Γ 0 0 n K (rdX X m z.1) R 9 [some (.ref m)] []) (I := fun z => PI t z.1 ∧ z.1.1 14 = t ∧ z.1.1 22 = 9 - (f : Int) ∧ t - z.1.1 17 < z.2 ∧ lpP (fun s => decide (s.1 16 = 4)) (anyB B t (tstP B t f)) z.2 z.1 = FIN) (fun z => (t - z.1.1 17).toNat) (fun z hz ih => ?_) ((evyP B t (tstP B t f) s).2, 402) ⟨gu.1, hu14, gu.2.2.2.trans h22, by have := gu.1.1; dsimp only; omega, hFIN.symm⟩
    obtain ⟨q, u⟩ := z
    dsimp only at hz ih ⊢
    obtain ⟨hq, hq14, hq22, hf, hF⟩ := hz
    obtain ⟨a1, a2, a3, a4, a5, a6, a7, a8⟩ := hq
    have hq : PI t q := ⟨a1, a2, a3, a4, a5, a6, a7, a8⟩
    obtain ⟨u, rfl⟩ : ∃ g, u = g + 1 := ⟨u - 1, by omega⟩
    unfold lpP at hF
    refine ss_aload_n (i := 0) h dX4_any_9 10 rfl rfl rfl ?_
    refine ss_getI h kl4 16 16 rfl (by decide) rfl hM.ob q1103 dX4_any_10 13 rfl ?_
    try simp only [rd_put, rd_cod, rd_m, put_s, put_o, ne_eq, not_false_eq_true, Int.reduceEq]
    refine ss_iconst h dX4_any_13 14 rfl ?_
    refine ss_icmp_ne h dX4_any_14 17 40 rfl (by decide) (by first | omega | exact sRg_b _) (by first | omega | exact sRg_b _) (fun c14 => ?_) (fun c14 => ?_)
    · skip
      rw [if_neg (by rw [decide_eq_true_eq]; omega)] at hF
      refine ss_iconst h dX4_any_40 41 rfl ?_
      refine ss_zret h (by first | omega | exact bI_z _) dX4_any_41 (by omega) (by omega) ?_
      rw [hP9]
      exact ⟨by rw [hU, ← hF]; rfl, rfl, rfl, rfl, by rw [hU, ← hF]⟩
    · skip
      have hk5 : decide (q.1 16 = 4) = true := decide_eq_true (by omega)
      rw [if_pos hk5] at hF
      obtain ⟨g1, g2⟩ := next_grow ht hq (show q.1 16 ≠ 0 by omega)
      have n14 := (frm_next (B := B) (t := t) (s := q) 14 (by decide)).trans hq14
      obtain ⟨b1, b2, b3, b4, b5, b6, b7, b8⟩ := g1.1
      have hst := anyB_grow ht (tst_good ht f) q hq hk5
      refine ss_aload_n (i := 0) h dX4_any_17 18 rfl rfl rfl ?_
      refine ss_cVn h (m_next0R (d := d - 1) (s := q) hM hB hq14 ht (by omega) (by omega)) (lw_V q1270 q1272 qs44 q87 q1273) kl4 hM.ob 0 rfl md_X4_next0 rfl (by omega) (by decide) rfl dX4_any_18 21 rfl rfl (Nat.le_of_ble_eq_true rfl) (by omega) (by omega) (fun X18 x18 => ?_)
      subst x18
      refine ss_aload_n (i := 0) h dX4_any_21 22 rfl rfl rfl ?_
      refine ss_cVa h (hg (d - 1) (nextP B t q) n14 g1.1 (g1.2.2.2.trans hq22) (by omega)) (lw_V q1328 q1330 qs52 q87 q1331) kl4 hM.ob 0 rfl md_X4_every rfl (by omega) (by decide) rfl dX4_any_22 25 rfl rfl (Nat.le_of_ble_eq_true rfl) (by omega) (by omega) (fun X22 x22 => ?_)
      refine ss_if_ne h dX4_any_25 28 30 rfl (by decide) (by first | omega | exact sRg_b _) (fun c25 => ?_) (fun c25 => ?_)
      · skip
        replace c25 := bI_1.mp c25
        have hPB : anyB B t (tstP B t f) q = (true, layP 22 0 (evyP B t (tstP B t f) (nextP B t q)).2) := bnd_1 c25
        subst x22
        have w1 := evy_good ht (tst_good ht f) _ g1.1 c25
        have w2 := w1.1.1
        have w3 := w1.1.2.2.1
        refine ss_aload_n (i := 0) h dX4_any_30 31 rfl rfl rfl ?_
        refine ss_bipush h dX4_any_31 33 rfl (by decide +kernel) ?_
        refine ss_iconst h dX4_any_33 34 rfl ?_
        refine ss_cVn h (m_lay (d := d - 1) (s := (evyP B t (tstP B t f) (nextP B t q)).2) hM (by omega) (by omega) (by omega)) (lw_V q1340 q1342 qs55 q87 q1343) kl4 hM.ob 2 rfl md_X4_lay rfl (by omega) (by decide) rfl dX4_any_34 37 rfl rfl (Nat.le_of_ble_eq_true rfl) (by omega) (by omega) (fun X34 x34 => ?_)
        subst x34
        have gg := hst (by rw [hPB])
        rw [hPB] at gg hF
        have gf := frm_anyB (B := B) (t := t) (frm_tst (B := B) (t := t) f) q 14 (by decide)
        rw [hPB] at gf
        have fin := ih (layP 22 0 (evyP B t (tstP B t f) (nextP B t q)).2, u) ⟨gg.1, gf.trans hq14, gg.2.2.2.trans hq22, by have := gg.2.1; dsimp only at this ⊢; omega, hF⟩ (by have := gg.2.1; have := gg.1.1; dsimp only at *; omega)
        refine ss_goto h dX4_any_37 9 (by decide) ?_
        exact fin
      · skip
        replace c25 := bI_0.mp c25
        have hPB : anyB B t (tstP B t f) q = evyP B t (tstP B t f) (nextP B t q) := bnd_0 c25
        refine ss_iconst h dX4_any_28 29 rfl ?_
        refine ss_zret h (by first | omega | exact bI_z _) dX4_any_29 (by omega) (by omega) ?_
        rw [hP9]
        exact ⟨by rw [hU, ← hF, hPB, bnd_0 c25, c25]; rfl, rfl, rfl, rfl, by rw [hU, ← hF, hPB, bnd_0 c25]; exact x22⟩
  · skip
    replace c4 := bI_0.mp c4
    have hU : anyP B t (tstP B t f) s = evyP B t (tstP B t f) s := bnd_0 c4
    refine ss_iconst h dX4_any_7 8 rfl ?_
    refine ss_zret h (by first | omega | exact bI_z _) dX4_any_8 (by omega) (by omega) ?_
    rw [hP9]
    exact ⟨by rw [hU, c4]; rfl, rfl, rfl, rfl, by rw [hU]; exact x1⟩
theorem tst_s (B : WT) (t : Int) (f : Nat) (s : PS) : tstP B t (f + 1) s = if s.1 16 = 6 then bnd (opnP B t s) fun s => bnd (tstP B t f s) fun s => (true, layP 20 0 (putP s 22 (s.1 22 - 1))) else if s.1 16 = 140 then bnd (opnP B t s) fun s => bnd (anyP B t (tstP B t f) s) fun s => bnd (ndP B t 141 s) fun s => (true, putP s 22 (s.1 22 - 1)) else cmpP B t s := rfl
set_option maxHeartbeats 1000000 in
theorem m_oneTest0 (hM : MOk Ω n K R m) {B : WT} {t : Int} {f : Nat} (hB : X (m + 7) = B) (ht : TP B t) (hg : rdC Ω n K X R m yX4_oneTest cX4_oneTest 2 t f 11 (tstP B t f)) (hf9 : (f : Int) + 1 ≤ 9) : rdC Ω n K X R m yX4_oneTest cX4_oneTest 2 t (f + 1) 11 (tstP B t (f + 1)) := by
  intro d s h14 hs h22 hl
  have ht1 := ht.1
  have hany := m_any hM hB ht (m_every hM hB ht hg)
  obtain ⟨a1, a2, a3, a4, a5, a6, a7, a8⟩ := hs
  have hs : PI t s := ⟨a1, a2, a3, a4, a5, a6, a7, a8⟩
  have hT := tst_s B t f s
  refine sCt_of (by decide) (by simp [Value.category, vI, va_rf]) (Nat.le_of_ble_eq_true rfl) fun Γ P9 hP9 h => ?_
  show sG (_, _, _, _, _) Γ 0 0 _ _ _ _ 0 [some _, none] []
  refine ss_aload_n (i := 0) h dX4_oneTest_0 1 rfl rfl rfl ?_
  refine ss_getI h kl4 16 16 rfl (by decide) rfl hM.ob q1103 dX4_oneTest_1 4 rfl ?_
  try simp only [rd_put, rd_cod, rd_m, put_s, put_o, ne_eq, not_false_eq_true, Int.reduceEq]
  refine ss_bipush h dX4_oneTest_4 6 rfl (by decide +kernel) ?_
  refine ss_icmp_ne h dX4_oneTest_6 9 44 rfl (by decide) (by first | omega | exact sRg_b _) (by first | omega | exact sRg_b _) (fun c6 => ?_) (fun c6 => ?_)
  · skip
    rw [if_neg c6] at hT
    refine ss_aload_n (i := 0) h dX4_oneTest_44 45 rfl rfl rfl ?_
    refine ss_getI h kl4 16 16 rfl (by decide) rfl hM.ob q1103 dX4_oneTest_45 48 rfl ?_
    try simp only [rd_put, rd_cod, rd_m, put_s, put_o, ne_eq, not_false_eq_true, Int.reduceEq]
    refine ss_sipush h dX4_oneTest_48 51 rfl (by decide +kernel) ?_
    refine ss_icmp_ne h dX4_oneTest_51 54 92 rfl (by decide) (by first | omega | exact sRg_b _) (by first | omega | exact sRg_b _) (fun c51 => ?_) (fun c51 => ?_)
    · skip
      rw [if_neg c51] at hT
      refine ss_aload_n (i := 0) h dX4_oneTest_92 93 rfl rfl rfl ?_
      have hT2 : tstP B t (f + 1) s = bnd (sumP B t s) fun s => if howP (s.1 16) = -1 then (false, badP 1 s) else bnd (sumP B t (nextP B t s)) fun r => (true, layP (howP (s.1 16)) 0 r) := hT
      refine ss_cVa h (m_sumUp (d := d - 1) (s := s) hM hB h14 ht hs (by omega)) (lw_V q1348 q1350 qs57 q87 q1351) kl4 hM.ob 0 rfl md_X4_sumUp rfl (by omega) (by decide) rfl dX4_oneTest_93 96 rfl rfl (Nat.le_of_ble_eq_true rfl) (by omega) (by omega) (fun X93 x93 => ?_)
      refine ss_if_ne h dX4_oneTest_96 99 101 rfl (by decide) (by first | omega | exact sRg_b _) (fun c96 => ?_) (fun c96 => ?_)
      · skip
        replace c96 := bI_1.mp c96
        rw [bnd_1 c96] at hT2
        have w1 := sum_good ht s hs c96
        have w14 := (frm_sum (B := B) (t := t) s 14 (by decide)).trans h14
        obtain ⟨S, hS⟩ : ∃ S, S = (sumP B t s).2 := ⟨_, rfl⟩
        rw [← hS] at hT2 w1 w14 x93
        subst x93
        obtain ⟨b1, b2, b3, b4, b5, b6, b7, b8⟩ := w1.1
        refine ss_cut (σ := Unit) (fun z9 => True) 147 (fun z9 => (rdX X m S)) (fun z9 => [some (.ref m), none]) (fun z9 => [vI (howP (S.1 16))]) (fun z9 h147 => ?_) (fun J147 => ?_)
        · skip
          have hhr : sRg (howP (S.1 16)) := by
            unfold howP
            (repeat' split) <;> decide
          refine ss_ist_1 h dX4_oneTest_147 148 rfl ?_
          refine ss_iload_n (i := 1) h dX4_oneTest_148 149 rfl rfl rfl ?_
          refine ss_iconst h dX4_oneTest_149 150 rfl ?_
          refine ss_icmp_ne h dX4_oneTest_150 153 159 rfl (by decide) hhr (by omega) (fun c150 => ?_) (fun c150 => ?_)
          · skip
            rw [if_neg c150] at hT2
            have hk := how_in c150
            obtain ⟨g1, g2⟩ := next_grow ht w1.1 (show S.1 16 ≠ 0 by omega)
            have n14 := (frm_next (B := B) (t := t) (s := S) 14 (by decide)).trans w14
            refine ss_aload_n (i := 0) h dX4_oneTest_159 160 rfl rfl rfl ?_
            refine ss_cVn h (m_next0R (d := d - 1) (s := S) hM hB w14 ht (by omega) (by omega)) (lw_V q1270 q1272 qs44 q87 q1273) kl4 hM.ob 0 rfl md_X4_next0 rfl (by omega) (by decide) rfl dX4_oneTest_160 163 rfl rfl (Nat.le_of_ble_eq_true rfl) (by omega) (by omega) (fun X160 x160 => ?_)
            subst x160
            refine ss_aload_n (i := 0) h dX4_oneTest_163 164 rfl rfl rfl ?_
            refine ss_cVa h (m_sumUp (d := d - 1) (s := nextP B t S) hM hB n14 ht g1.1 (by omega)) (lw_V q1348 q1350 qs57 q87 q1351) kl4 hM.ob 0 rfl md_X4_sumUp rfl (by omega) (by decide) rfl dX4_oneTest_164 167 rfl rfl (Nat.le_of_ble_eq_true rfl) (by omega) (by omega) (fun X164 x164 => ?_)
            refine ss_if_ne h dX4_oneTest_167 170 172 rfl (by decide) (by first | omega | exact sRg_b _) (fun c167 => ?_) (fun c167 => ?_)
            · skip
              replace c167 := bI_1.mp c167
              rw [bnd_1 c167] at hT2
              have u1 := sum_good ht _ g1.1 c167
              have u2 := u1.1.1
              have u3 := u1.1.2.2.1
              subst x164
              refine ss_aload_n (i := 0) h dX4_oneTest_172 173 rfl rfl rfl ?_
              refine ss_iload_n (i := 1) h dX4_oneTest_173 174 rfl rfl rfl ?_
              refine ss_iconst h dX4_oneTest_174 175 rfl ?_
              refine ss_cVn h (m_lay (d := d - 1) (s := (sumP B t (nextP B t S)).2) hM hhr (by omega) (by omega)) (lw_V q1340 q1342 qs55 q87 q1343) kl4 hM.ob 2 rfl md_X4_lay rfl (by omega) (by decide) rfl dX4_oneTest_175 178 rfl rfl (Nat.le_of_ble_eq_true rfl) (by omega) (by omega) (fun X175 x175 => ?_)
              refine ss_iconst h dX4_oneTest_178 179 rfl ?_
              refine ss_zret h (by first | omega | exact bI_z _) dX4_oneTest_179 (by omega) (by omega) ?_
              rw [hP9]
              exact ⟨by rw [hT2]; rfl, rfl, rfl, rfl, by rw [hT2]; exact x175⟩
            · skip
              replace c167 := bI_0.mp c167
              have hR1 : (tstP B t (f + 1) s).1 = false := by rw [hT2, bnd_0 c167]; exact c167
              have hR2 : X164 = rdX X m (tstP B t (f + 1) s).2 := by rw [hT2, bnd_0 c167]; exact x164
              refine ss_iconst h dX4_oneTest_170 171 rfl ?_
              refine ss_zret h (by first | omega | exact bI_z _) dX4_oneTest_171 (by omega) (by omega) ?_
              rw [hP9]
              exact ⟨by rw [hR1]; rfl, rfl, rfl, rfl, hR2⟩
          · skip
            rw [if_pos (show howP (S.1 16) = -1 by omega)] at hT2
            refine ss_aload_n (i := 0) h dX4_oneTest_153 154 rfl rfl rfl ?_
            refine ss_iconst h dX4_oneTest_154 155 rfl ?_
            refine ss_cVa h (m_bad (d := d - 1) (s := S) hM (by omega) (by omega)) (lw_V q1320 q1322 qs50 q87 q1323) kl4 hM.ob 1 rfl md_X4_bad rfl (by omega) (by decide) rfl dX4_oneTest_155 158 rfl rfl (Nat.le_of_ble_eq_true rfl) (by omega) (by omega) (fun X155 x155 => ?_)
            have hR1 : (tstP B t (f + 1) s).1 = false := by rw [hT2]
            have hR2 : X155 = rdX X m (tstP B t (f + 1) s).2 := by rw [hT2]; exact x155
            refine ss_zret h (by first | omega | exact bI_z _) dX4_oneTest_158 (by omega) (by omega) ?_
            rw [hP9]
            exact ⟨by rw [hR1]; rfl, rfl, rfl, rfl, hR2⟩
        refine ss_aload_n (i := 0) h dX4_oneTest_101 102 rfl rfl rfl ?_
        refine ss_getI h kl4 16 16 rfl (by decide) rfl hM.ob q1103 dX4_oneTest_102 105 rfl ?_
        try simp only [rd_put, rd_cod, rd_m, put_s, put_o, ne_eq, not_false_eq_true, Int.reduceEq]
        refine ss_sipush h dX4_oneTest_105 108 rfl (by decide +kernel) ?_
        refine ss_icmp_ne h dX4_oneTest_108 111 116 rfl (by decide) (by first | omega | exact sRg_b _) (by first | omega | exact sRg_b _) (fun c108 => ?_) (fun c108 => ?_)
        · skip
          refine ss_aload_n (i := 0) h dX4_oneTest_116 117 rfl rfl rfl ?_
          refine ss_getI h kl4 16 16 rfl (by decide) rfl hM.ob q1103 dX4_oneTest_117 120 rfl ?_
          try simp only [rd_put, rd_cod, rd_m, put_s, put_o, ne_eq, not_false_eq_true, Int.reduceEq]
          refine ss_sipush h dX4_oneTest_120 123 rfl (by decide +kernel) ?_
          refine ss_icmp_ne h dX4_oneTest_123 126 131 rfl (by decide) (by first | omega | exact sRg_b _) (by first | omega | exact sRg_b _) (fun c123 => ?_) (fun c123 => ?_)
          · skip
            refine ss_aload_n (i := 0) h dX4_oneTest_131 132 rfl rfl rfl ?_
            refine ss_getI h kl4 16 16 rfl (by decide) rfl hM.ob q1103 dX4_oneTest_132 135 rfl ?_
            try simp only [rd_put, rd_cod, rd_m, put_s, put_o, ne_eq, not_false_eq_true, Int.reduceEq]
            refine ss_sipush h dX4_oneTest_135 138 rfl (by decide +kernel) ?_
            refine ss_icmp_ne h dX4_oneTest_138 141 146 rfl (by decide) (by first | omega | exact sRg_b _) (by first | omega | exact sRg_b _) (fun c138 => ?_) (fun c138 => ?_)
            · skip
              refine ss_iconst h dX4_oneTest_146 147 rfl ?_
              have z := J147 () trivial
              first
                | (rw [show howP (S.1 16) = 17 by unfold howP; rw [if_pos (by omega)]] at z; exact z)
                | (rw [show howP (S.1 16) = 18 by unfold howP; rw [if_neg (by omega), if_pos (by omega)]] at z; exact z)
                | (rw [show howP (S.1 16) = 19 by unfold howP; rw [if_neg (by omega), if_neg (by omega), if_pos (by omega)]] at z; exact z)
                | (rw [show howP (S.1 16) = -1 by unfold howP; rw [if_neg (by omega), if_neg (by omega), if_neg (by omega)]] at z; exact z)
            · skip
              refine ss_bipush h dX4_oneTest_141 143 rfl (by decide +kernel) ?_
              refine ss_goto h dX4_oneTest_143 147 (by decide) ?_
              have z := J147 () trivial
              first
                | (rw [show howP (S.1 16) = 17 by unfold howP; rw [if_pos (by omega)]] at z; exact z)
                | (rw [show howP (S.1 16) = 18 by unfold howP; rw [if_neg (by omega), if_pos (by omega)]] at z; exact z)
                | (rw [show howP (S.1 16) = 19 by unfold howP; rw [if_neg (by omega), if_neg (by omega), if_pos (by omega)]] at z; exact z)
                | (rw [show howP (S.1 16) = -1 by unfold howP; rw [if_neg (by omega), if_neg (by omega), if_neg (by omega)]] at z; exact z)
          · skip
            refine ss_bipush h dX4_oneTest_126 128 rfl (by decide +kernel) ?_
            refine ss_goto h dX4_oneTest_128 147 (by decide) ?_
            have z := J147 () trivial
            first
              | (rw [show howP (S.1 16) = 17 by unfold howP; rw [if_pos (by omega)]] at z; exact z)
              | (rw [show howP (S.1 16) = 18 by unfold howP; rw [if_neg (by omega), if_pos (by omega)]] at z; exact z)
              | (rw [show howP (S.1 16) = 19 by unfold howP; rw [if_neg (by omega), if_neg (by omega), if_pos (by omega)]] at z; exact z)
              | (rw [show howP (S.1 16) = -1 by unfold howP; rw [if_neg (by omega), if_neg (by omega), if_neg (by omega)]] at z; exact z)
        · skip
          refine ss_bipush h dX4_oneTest_111 113 rfl (by decide +kernel) ?_
          refine ss_goto h dX4_oneTest_113 147 (by decide) ?_
          have z := J147 () trivial
          first
            | (rw [show howP (S.1 16) = 17 by unfold howP; rw [if_pos (by omega)]] at z; exact z)
            | (rw [show howP (S.1 16) = 18 by unfold howP; rw [if_neg (by omega), if_pos (by omega)]] at z; exact z)
            | (rw [show howP (S.1 16) = 19 by unfold howP; rw [if_neg (by omega), if_neg (by omega), if_pos (by omega)]] at z; exact z)
            | (rw [show howP (S.1 16) = -1 by unfold howP; rw [if_neg (by omega), if_neg (by omega), if_neg (by omega)]] at z; exact z)
      · skip
        replace c96 := bI_0.mp c96
        have hR1 : (tstP B t (f + 1) s).1 = false := by rw [hT2, bnd_0 c96]; exact c96
        have hR2 : X93 = rdX X m (tstP B t (f + 1) s).2 := by rw [hT2, bnd_0 c96]; exact x93
        refine ss_iconst h dX4_oneTest_99 100 rfl ?_
        refine ss_zret h (by first | omega | exact bI_z _) dX4_oneTest_100 (by omega) (by omega) ?_
        rw [hP9]
        exact ⟨by rw [hR1]; rfl, rfl, rfl, rfl, hR2⟩
    · skip
      rw [if_pos (show s.1 16 = 140 by omega)] at hT
      refine ss_aload_n (i := 0) h dX4_oneTest_54 55 rfl rfl rfl ?_
      refine ss_cVa h (m_opens (d := d - 1) (s := s) hM hB h14 ht hs (by omega)) (lw_V q1336 q1338 qs54 q87 q1339) kl4 hM.ob 0 rfl md_X4_opens rfl (by omega) (by decide) rfl dX4_oneTest_55 58 rfl rfl (Nat.le_of_ble_eq_true rfl) (by omega) (by omega) (fun X55 x55 => ?_)
      refine ss_if_eq h dX4_oneTest_58 61 78 rfl (by decide) (by first | omega | exact sRg_b _) (fun c58 => ?_) (fun c58 => ?_)
      · skip
        replace c58 := bI_0.mp c58
        have hR1 : (tstP B t (f + 1) s).1 = false := by rw [hT, bnd_0 c58]; exact c58
        have hR2 : X55 = rdX X m (tstP B t (f + 1) s).2 := by rw [hT, bnd_0 c58]; exact x55
        refine ss_iconst h dX4_oneTest_78 79 rfl ?_
        refine ss_zret h (by first | omega | exact bI_z _) dX4_oneTest_79 (by omega) (by omega) ?_
        rw [hP9]
        exact ⟨by rw [hR1]; rfl, rfl, rfl, rfl, hR2⟩
      · skip
        replace c58 := bI_n.mp c58
        rw [bnd_1 c58] at hT
        obtain ⟨o1, o2, o3, o4, o5⟩ := opn_grow ht hs (by omega) c58
        have o14 := (frm_opn (B := B) (t := t) s 14 (by decide)).trans h14
        subst x55
        refine ss_aload_n (i := 0) h dX4_oneTest_61 62 rfl rfl rfl ?_
        refine ss_cVa h (hany (d - 1) (opnP B t s).2 o14 o1 (by rw [o4, h22]; omega) (by omega)) (lw_V q1324 q1326 qs51 q87 q1327) kl4 hM.ob 0 rfl md_X4_any rfl (by omega) (by decide) rfl dX4_oneTest_62 65 rfl rfl (Nat.le_of_ble_eq_true rfl) (by omega) (by omega) (fun X62 x62 => ?_)
        refine ss_if_eq h dX4_oneTest_65 68 78 rfl (by decide) (by first | omega | exact sRg_b _) (fun c65 => ?_) (fun c65 => ?_)
        · skip
          replace c65 := bI_0.mp c65
          have hR1 : (tstP B t (f + 1) s).1 = false := by rw [hT, bnd_0 c65]; exact c65
          have hR2 : X62 = rdX X m (tstP B t (f + 1) s).2 := by rw [hT, bnd_0 c65]; exact x62
          refine ss_iconst h dX4_oneTest_78 79 rfl ?_
          refine ss_zret h (by first | omega | exact bI_z _) dX4_oneTest_79 (by omega) (by omega) ?_
          rw [hP9]
          exact ⟨by rw [hR1]; rfl, rfl, rfl, rfl, hR2⟩
        · skip
          replace c65 := bI_n.mp c65
          rw [bnd_1 c65] at hT
          have w1 := any_good ht (tst_good ht f) _ o1 c65
          have w14 := (frm_any (B := B) (t := t) (frm_tst (B := B) (t := t) f) (opnP B t s).2 14 (by decide)).trans o14
          obtain ⟨S, hS⟩ : ∃ S, S = (anyP B t (tstP B t f) (opnP B t s).2).2 := ⟨_, rfl⟩
          rw [← hS] at hT w1 w14 x62
          subst x62
          refine ss_aload_n (i := 0) h dX4_oneTest_68 69 rfl rfl rfl ?_
          refine ss_sipush h dX4_oneTest_69 72 rfl (by decide +kernel) ?_
          refine ss_cVa h (m_need (d := d - 1) (s := S) (k := 141) hM hB w14 ht w1.1 (by omega) (by omega)) (lw_V q1344 q1346 qs56 q87 q1347) kl4 hM.ob 1 rfl md_X4_need rfl (by omega) (by decide) rfl dX4_oneTest_72 75 rfl rfl (Nat.le_of_ble_eq_true rfl) (by omega) (by omega) (fun X72 x72 => ?_)
          refine ss_if_ne h dX4_oneTest_75 78 80 rfl (by decide) (by first | omega | exact sRg_b _) (fun c75 => ?_) (fun c75 => ?_)
          · skip
            replace c75 := bI_1.mp c75
            rw [bnd_1 c75] at hT
            have hnd : (ndP B t 141 S).2.1 22 = S.1 22 := by
              unfold ndP at c75 ⊢
              by_cases c3 : S.1 16 ≠ 141
              · rw [if_pos c3] at c75
                cases c75
              · rw [if_neg c3]
                exact (next_grow ht w1.1 (by omega)).1.2.2.2
            have w4 := w1.1.2.2.2.1
            subst x72
            refine ss_aload_n (i := 0) h dX4_oneTest_80 81 rfl rfl rfl ?_
            refine ss_dup h dX4_oneTest_81 82 rfl rfl ?_
            refine ss_getI h kl4 22 22 rfl (by decide) rfl hM.ob q1109 dX4_oneTest_82 85 rfl ?_
            try simp only [rd_put, rd_cod, rd_m, put_s, put_o, ne_eq, not_false_eq_true, Int.reduceEq]
            refine ss_iconst h dX4_oneTest_85 86 rfl ?_
            refine ss_isub h dX4_oneTest_86 87 rfl ?_
            refine ss_putI h kl4 22 22 rfl (by decide) rfl hM.ob q1109 (Or.inl rfl) (by omega) dX4_oneTest_87 90 rfl ?_
            try simp only [rd_put, rd_cod, rd_m, put_s, put_o, ne_eq, not_false_eq_true, Int.reduceEq]
            refine ss_iconst h dX4_oneTest_90 91 rfl ?_
            refine ss_zret h (by first | omega | exact bI_z _) dX4_oneTest_91 (by omega) (by omega) ?_
            rw [hP9]
            exact ⟨by rw [hT]; rfl, rfl, rfl, rfl, by rw [hT]⟩
          · skip
            replace c75 := bI_0.mp c75
            have hR1 : (tstP B t (f + 1) s).1 = false := by rw [hT, bnd_0 c75]; exact c75
            have hR2 : X72 = rdX X m (tstP B t (f + 1) s).2 := by rw [hT, bnd_0 c75]; exact x72
            refine ss_iconst h dX4_oneTest_78 79 rfl ?_
            refine ss_zret h (by first | omega | exact bI_z _) dX4_oneTest_79 (by omega) (by omega) ?_
            rw [hP9]
            exact ⟨by rw [hR1]; rfl, rfl, rfl, rfl, hR2⟩
  · skip
    rw [if_pos (show s.1 16 = 6 by omega)] at hT
    refine ss_aload_n (i := 0) h dX4_oneTest_9 10 rfl rfl rfl ?_
    refine ss_cVa h (m_opens (d := d - 1) (s := s) hM hB h14 ht hs (by omega)) (lw_V q1336 q1338 qs54 q87 q1339) kl4 hM.ob 0 rfl md_X4_opens rfl (by omega) (by decide) rfl dX4_oneTest_10 13 rfl rfl (Nat.le_of_ble_eq_true rfl) (by omega) (by omega) (fun X10 x10 => ?_)
    refine ss_if_eq h dX4_oneTest_13 16 23 rfl (by decide) (by first | omega | exact sRg_b _) (fun c13 => ?_) (fun c13 => ?_)
    · skip
      replace c13 := bI_0.mp c13
      have hR1 : (tstP B t (f + 1) s).1 = false := by rw [hT, bnd_0 c13]; exact c13
      have hR2 : X10 = rdX X m (tstP B t (f + 1) s).2 := by rw [hT, bnd_0 c13]; exact x10
      refine ss_iconst h dX4_oneTest_23 24 rfl ?_
      refine ss_zret h (by first | omega | exact bI_z _) dX4_oneTest_24 (by omega) (by omega) ?_
      rw [hP9]
      exact ⟨by rw [hR1]; rfl, rfl, rfl, rfl, hR2⟩
    · skip
      replace c13 := bI_n.mp c13
      rw [bnd_1 c13] at hT
      obtain ⟨o1, o2, o3, o4, o5⟩ := opn_grow ht hs (by omega) c13
      have o14 := (frm_opn (B := B) (t := t) s 14 (by decide)).trans h14
      subst x10
      refine ss_aload_n (i := 0) h dX4_oneTest_16 17 rfl rfl rfl ?_
      refine ss_cVa h (hg (d - 1) (opnP B t s).2 o14 o1 (by rw [o4, h22]; omega) (by omega)) (lw_V q1332 q1334 qs53 q87 q1335) kl4 hM.ob 0 rfl md_X4_oneTest rfl (by omega) (by decide) rfl dX4_oneTest_17 20 rfl rfl (Nat.le_of_ble_eq_true rfl) (by omega) (by omega) (fun X17 x17 => ?_)
      refine ss_if_ne h dX4_oneTest_20 23 25 rfl (by decide) (by first | omega | exact sRg_b _) (fun c20 => ?_) (fun c20 => ?_)
      · skip
        replace c20 := bI_1.mp c20
        rw [bnd_1 c20] at hT
        have w1 := tst_good ht f _ o1 c20
        have w2 := w1.1.1
        have w3 := w1.1.2.2.1
        have w4 := w1.1.2.2.2.1
        subst x17
        refine ss_aload_n (i := 0) h dX4_oneTest_25 26 rfl rfl rfl ?_
        refine ss_dup h dX4_oneTest_26 27 rfl rfl ?_
        refine ss_getI h kl4 22 22 rfl (by decide) rfl hM.ob q1109 dX4_oneTest_27 30 rfl ?_
        try simp only [rd_put, rd_cod, rd_m, put_s, put_o, ne_eq, not_false_eq_true, Int.reduceEq]
        refine ss_iconst h dX4_oneTest_30 31 rfl ?_
        refine ss_isub h dX4_oneTest_31 32 rfl ?_
        refine ss_putI h kl4 22 22 rfl (by decide) rfl hM.ob q1109 (Or.inl rfl) (by omega) dX4_oneTest_32 35 rfl ?_
        try simp only [rd_put, rd_cod, rd_m, put_s, put_o, ne_eq, not_false_eq_true, Int.reduceEq]
        refine ss_aload_n (i := 0) h dX4_oneTest_35 36 rfl rfl rfl ?_
        refine ss_bipush h dX4_oneTest_36 38 rfl (by decide +kernel) ?_
        refine ss_iconst h dX4_oneTest_38 39 rfl ?_
        refine ss_cVn h (m_lay (d := d - 1) (s := putP (tstP B t f (opnP B t s).2).2 22 ((tstP B t f (opnP B t s).2).2.1 22 - 1)) hM (by omega) (by omega) (by rw [put_o (by decide)]; omega)) (lw_V q1340 q1342 qs55 q87 q1343) kl4 hM.ob 2 rfl md_X4_lay rfl (by omega) (by decide) rfl dX4_oneTest_39 42 rfl rfl (Nat.le_of_ble_eq_true rfl) (by omega) (by omega) (fun X39 x39 => ?_)
        refine ss_iconst h dX4_oneTest_42 43 rfl ?_
        refine ss_zret h (by first | omega | exact bI_z _) dX4_oneTest_43 (by omega) (by omega) ?_
        rw [hP9]
        exact ⟨by rw [hT]; rfl, rfl, rfl, rfl, by rw [hT]; exact x39⟩
      · skip
        replace c20 := bI_0.mp c20
        have hR1 : (tstP B t (f + 1) s).1 = false := by rw [hT, bnd_0 c20]; exact c20
        have hR2 : X17 = rdX X m (tstP B t (f + 1) s).2 := by rw [hT, bnd_0 c20]; exact x17
        refine ss_iconst h dX4_oneTest_23 24 rfl ?_
        refine ss_zret h (by first | omega | exact bI_z _) dX4_oneTest_24 (by omega) (by omega) ?_
        rw [hP9]
        exact ⟨by rw [hR1]; rfl, rfl, rfl, rfl, hR2⟩
theorem m_oneTest (hM : MOk Ω n K R m) {B : WT} {t : Int} (hB : X (m + 7) = B) (ht : TP B t) : ∀ f : Nat, f ≤ 9 → rdC Ω n K X R m yX4_oneTest cX4_oneTest 2 t f 11 (tstP B t f)
  | 0, _ => fun d s h14 hs h22 hl => by
    exfalso
    have := hs.2.2.2.1
    omega
  | f + 1, h => m_oneTest0 hM hB ht (m_oneTest hM hB ht f (by omega)) (by omega)
end M19

