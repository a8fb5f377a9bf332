/-! ===== the twin: hatchings in thought ===== -/
section M12
variable {Ω : OmT} {n : Nat} {K : KT} {X : XT} {R : RT} {m : Nat} {d : Nat}
theorem and1_in (a : Int) : andS a 1 = 0 ∨ andS a 1 = 1 := by
  obtain ⟨j, hj, he⟩ := pk_andE (sI a) (m := sI 1) 1 (by decide +kernel)
  unfold andS
  rw [he, nI_toInt (by omega)]
  omega
theorem shl1_v {k : Int} (h : 0 ≤ k ∧ k ≤ 6) : shlS 1 k = 2 ^ k.toNat := by
  have : k = 0 ∨ k = 1 ∨ k = 2 ∨ k = 3 ∨ k = 4 ∨ k = 5 ∨ k = 6 := by omega
  rcases this with rfl | rfl | rfl | rfl | rfl | rfl | rfl <;> decide +kernel
theorem shl1_in {k : Int} (h : 0 ≤ k ∧ k ≤ 6) : 1 ≤ shlS 1 k ∧ shlS 1 k ≤ 64 := by
  rw [shl1_v h]
  have : k = 0 ∨ k = 1 ∨ k = 2 ∨ k = 3 ∨ k = 4 ∨ k = 5 ∨ k = 6 := by omega
  rcases this with rfl | rfl | rfl | rfl | rfl | rfl | rfl <;> decide
/-- what hatchings in thought need -/
def hatOK (w : WT) : Prop := (0 ≤ w 7 ∧ w 7 ≤ 6) ∧ (∀ c, 0 ≤ c → c < 100 → 0 ≤ w (20 + c) ∧ w (20 + c) ≤ 100) ∧ ∀ i, 0 ≤ i → i < w 7 → cellB w (w (1900 + 3 * i)) = true ∧ (0 ≤ w (1900 + 3 * i + 1) ∧ w (1900 + 3 * i + 1) ≤ 99) ∧ 0 ≤ w (1900 + 3 * i + 2) ∧ w (1900 + 3 * i + 2) ≤ 10
theorem hchN_in {w : WT} (hd : Dim w) (hh : hatOK w) (s : Int) : ∀ i : Nat, (i : Int) ≤ w 7 → (∀ l, (l < 20 ∨ 120 ≤ l) → hchN w s i l = w l) ∧ ∀ c, 0 ≤ c → c < 100 → 0 ≤ hchN w s i (20 + c) ∧ hchN w s i (20 + c) ≤ 100 + 100 * i
  | 0, _ => ⟨fun _ _ => rfl, fun c c1 c2 => by have := hh.2.1 c c1 c2; unfold hchN; omega⟩
  | i + 1, hi => by
    obtain ⟨h1, h2⟩ := hchN_in hd hh s i (by omega)
    obtain ⟨k1, k2, k3⟩ := hh.2.2 i (by omega) (by omega)
    obtain ⟨c1, c2, -⟩ := cellB_t hd k1
    have hb := and1_in (shrS s i)
    have hv : 0 ≤ bitS s i * w (1900 + 3 * i + 1) ∧ bitS s i * w (1900 + 3 * i + 1) ≤ 99 := by
      unfold bitS
      rcases hb with q | q <;> rw [q] <;> omega
    unfold hchN
    refine ⟨fun l hl => ?_, fun c c3 c4 => ?_⟩
    · rw [upW_n (by omega)]
      exact h1 l hl
    · by_cases e : 20 + c = 20 + w (1900 + 3 * i)
      · rw [e, upW_s]
        have := h2 (w (1900 + 3 * i)) c1 (by omega)
        omega
      · rw [upW_n e]
        have := h2 c c3 c4
        omega
theorem hch_ok {w : WT} (hf : flyOK w) (hh : hatOK w) (s : Int) : flyOK (hchW w s) ∧ ∀ i, (i < 0 ∨ 1340 ≤ i) → hchW w s i = w i := by
  obtain ⟨h1, h2⟩ := hchN_in hf.1 hh s (w 7).toNat (by have := hh.1; omega)
  have h7 := hh.1
  refine ⟨?_, fun i hi => h1 i (by omega)⟩
  obtain ⟨a1, a2, a3, a4, a5, a6⟩ := hf
  unfold hchW
  refine ⟨?_, by rw [h1 4 (by omega)]; exact a2, by rw [h1 6 (by omega)]; exact a3, fun c c1 c2 => ⟨?_, by rw [h1 _ (by omega)]; exact (a4 c c1 c2).2⟩, fun s' s1 s2 => ?_, fun k k1 k2 => textOK_same (fun i hi => h1 i (by omega)) k1 (a6 k k1 k2)⟩
  · unfold Dim at a1 ⊢
    rw [h1 0 (by omega), h1 1 (by omega)]
    exact a1
  · have := h2 c c1 c2
    omega
  · rw [h1 4 (by omega)] at s2
    rw [h1 _ (by omega), h1 _ (by omega), h1 _ (by omega), h1 _ (by omega), h1 _ (by omega)]
    obtain ⟨z1, z2⟩ := a5 s' s1 s2
    refine ⟨?_, z2⟩
    unfold pointB at z1 ⊢
    rw [h1 0 (by omega), h1 1 (by omega)]
    exact z1
theorem m_hatches (hM : MOk Ω n K R m) {s : Int} (hf : flyOK (X (m + 1))) (hh : hatOK (X (m + 1))) (hth : X m 6 = 0) (h1 : 0 ≤ s ∧ s ≤ 64) (hl : 7 ≤ d) : sCt Ω yX4_hatches cX4_hatches 3 none d 0 0 [.ref m, vI s] n K X R (pN n K R (fun X' => X' (m + 1) = X (m + 1) ∧ (∀ c, 0 ≤ c → c < 100 → X' (m + 14) c = nmS (allF true (hchW (X (m + 1)) s)) c) ∧ (∀ f, f ≠ 30 → X' m f = X m f) ∧ sOff [0, 1, 3, 8, 9, 10, 11, 12, 13, 14, 15] m X X')) := by
  obtain ⟨w, hw⟩ : ∃ w, w = X (m + 1) := ⟨_, rfl⟩
  rw [← hw] at hf hh ⊢
  obtain ⟨k1, k2⟩ := hch_ok hf hh s
  have h7 := hh.1
  refine sCt_of (by decide) (by simp [Value.category, vI, va_rf]) (Nat.le_of_ble_eq_true rfl) fun Γ P9 hP9 h => ?_
  show sG (_, _, _, _, _) Γ 0 0 _ _ _ _ 0 [some _, some _, none] []
  refine ss_aload_n (i := 0) h dX4_hatches_0 1 rfl rfl rfl ?_
  refine ss_cVn h (m_setsOut hM (d := d - 1)) (lw_V q1466 q1468 qs74 q87 q1469) kl4 hM.ob 0 rfl md_X4_setsOut rfl (by omega) (by decide) rfl dX4_hatches_1 4 rfl rfl (Nat.le_of_ble_eq_true rfl) (by omega) (by omega) (fun X1 x1 => ?_)
  have w1 : X1 (m + 1) = w := by rw [x1, sUp_ne (by omega), sArr_n (by omega), hw]
  refine ss_iconst h dX4_hatches_4 5 rfl ?_
  refine ss_ist_2 h dX4_hatches_5 6 rfl ?_
  refine ss_X (X' := sArr X1 (m + 1) (hchN w s 0)) (by show X1 = sArr X1 (m + 1) w; rw [← w1, sArr_id]) ?_
  refine ss_loop (σ := Nat) (Pp := fun k => sG _ Γ 0 0 n K (sArr X1 (m + 1) (hchN w s k)) R 6 [some (.ref m), some (vI s), some (vI k)] []) (I := fun k => (k : Int) ≤ w 7) (fun k => (w 7 - k).toNat) (fun k hk ih => ?_) 0 (by omega)
  obtain ⟨j1, j2⟩ := hchN_in hf.1 hh s k hk
  have e1 : sArr X1 (m + 1) (hchN w s k) (m + 1) = hchN w s k := sArr_s
  refine ss_iload_n (i := 2) h dX4_hatches_6 7 rfl rfl rfl ?_
  refine ss_aload_n (i := 0) h dX4_hatches_7 8 rfl rfl rfl ?_
  refine ss_getS h kl4 0 0 rfl (by decide) rfl hM.ob q1087 dX4_hatches_8 11 rfl hM.r_w ?_
  refine ss_bipush h dX4_hatches_11 13 rfl (by decide +kernel) ?_
  refine ss_iald h hM.k_w (by decide) (by omega) dX4_hatches_13 14 rfl ?_
  rw [e1, j1 7 (by omega)]
  refine ss_icmp_ge h dX4_hatches_14 17 66 rfl (by decide) (by first | omega | exact sRg_b _) (by first | omega | exact sRg_b _) (fun c14 => ?_) (fun c14 => ?_)
  · skip
    rw [show hchN w s k = hchW w s by unfold hchW; rw [show (w 7).toNat = k by omega]] at e1 ⊢
    refine ss_aload_n (i := 0) h dX4_hatches_66 67 rfl rfl rfl ?_
    refine ss_cVn h (m_allFly (th := true) hM (d := d - 1) (by rw [e1]; exact k1) (by rw [sArr_n (by omega), x1, sUp_ss]; rfl) (by omega)) (lw_V q1368 q1370 qs60 q87 q1371) kl4 hM.ob 0 rfl md_X4_allFly rfl (by omega) (by decide) rfl dX4_hatches_67 70 rfl rfl (Nat.le_of_ble_eq_true rfl) (by omega) (by omega) (fun X67 x67 => ?_)
    obtain ⟨g1, g2, g3⟩ := x67
    rw [e1] at g1
    refine ss_aload_n (i := 0) h dX4_hatches_70 71 rfl rfl rfl ?_
    refine ss_cVn h (m_laysCounties hM (d := d - 1) (by rw [g1]; exact (allF_same true k1).2.1) (by omega)) (lw_V q1420 q1422 qs70 q87 q1423) kl4 hM.ob 0 rfl md_X4_laysCounties rfl (by omega) (by decide) rfl dX4_hatches_71 74 rfl rfl (Nat.le_of_ble_eq_true rfl) (by omega) (by omega) (fun X71 x71 => ?_)
    obtain ⟨u1, u2, u3⟩ := x71
    refine ss_aload_n (i := 0) h dX4_hatches_74 75 rfl rfl rfl ?_
    refine ss_cVn h (m_comesBack hM (d := d - 1)) (lw_V q1470 q1472 qs75 q87 q1473) kl4 hM.ob 0 rfl md_X4_comesBack rfl (by omega) (by decide) rfl dX4_hatches_75 78 rfl rfl (Nat.le_of_ble_eq_true rfl) (by omega) (by omega) (fun X75 x75 => ?_)
    obtain ⟨v1, v2, v3, v4⟩ := thought_end (X := X) (w1 := hchW w s) k1 hth (by rw [← hw]; exact k2) (by rw [x1]) g1 g3 u1 u2 u3 x75
    refine ss_vret h dX4_hatches_78 (by omega) (by omega) ?_
    rw [hP9]
    exact ⟨rfl, rfl, rfl, rfl, v1.trans hw.symm, v2, v3, v4⟩
  · skip
    obtain ⟨l1, l2, l3⟩ := hh.2.2 k (by omega) (by omega)
    obtain ⟨c1, c2, -⟩ := cellB_t hf.1 l1
    have l4 := j2 _ c1 (by omega)
    have hb := and1_in (shrS s k)
    refine ss_aload_n (i := 0) h dX4_hatches_17 18 rfl rfl rfl ?_
    refine ss_getS h kl4 0 0 rfl (by decide) rfl hM.ob q1087 dX4_hatches_18 21 rfl hM.r_w ?_
    refine ss_bipush h dX4_hatches_21 23 rfl (by decide +kernel) ?_
    refine ss_aload_n (i := 0) h dX4_hatches_23 24 rfl rfl rfl ?_
    refine ss_getS h kl4 0 0 rfl (by decide) rfl hM.ob q1087 dX4_hatches_24 27 rfl hM.r_w ?_
    refine ss_sipush h dX4_hatches_27 30 rfl (by decide +kernel) ?_
    refine ss_iconst h dX4_hatches_30 31 rfl ?_
    refine ss_iload_n (i := 2) h dX4_hatches_31 32 rfl rfl rfl ?_
    refine ss_imul h dX4_hatches_32 33 rfl ?_
    refine ss_iadd h dX4_hatches_33 34 rfl ?_
    refine ss_iald h hM.k_w (by decide) (by omega) dX4_hatches_34 35 rfl ?_
    rw [e1, j1 _ (by omega)]
    refine ss_iadd h dX4_hatches_35 36 rfl ?_
    refine ss_dup2 h dX4_hatches_36 37 rfl rfl rfl ?_
    refine ss_iald h hM.k_w (by decide) (by omega) dX4_hatches_37 38 rfl ?_
    rw [e1]
    refine ss_iload_n (i := 1) h dX4_hatches_38 39 rfl rfl rfl ?_
    refine ss_iload_n (i := 2) h dX4_hatches_39 40 rfl rfl rfl ?_
    refine ss_ishr h dX4_hatches_40 41 rfl (sI_of _).symm ?_
    refine ss_iconst h dX4_hatches_41 42 rfl ?_
    refine ss_iand h dX4_hatches_42 43 rfl (sI_of _).symm ?_
    refine ss_aload_n (i := 0) h dX4_hatches_43 44 rfl rfl rfl ?_
    refine ss_getS h kl4 0 0 rfl (by decide) rfl hM.ob q1087 dX4_hatches_44 47 rfl hM.r_w ?_
    refine ss_sipush h dX4_hatches_47 50 rfl (by decide +kernel) ?_
    refine ss_iconst h dX4_hatches_50 51 rfl ?_
    refine ss_iload_n (i := 2) h dX4_hatches_51 52 rfl rfl rfl ?_
    refine ss_imul h dX4_hatches_52 53 rfl ?_
    refine ss_iadd h dX4_hatches_53 54 rfl ?_
    refine ss_iconst h dX4_hatches_54 55 rfl ?_
    refine ss_iadd h dX4_hatches_55 56 rfl ?_
    refine ss_iald h hM.k_w (by decide) (by omega) dX4_hatches_56 57 rfl ?_
    rw [e1, j1 _ (by omega)]
    refine ss_imul h dX4_hatches_57 58 rfl ?_
    refine ss_iadd h dX4_hatches_58 59 rfl ?_
    rw [show (sI (sI s >>> (sI (k : Int) &&& 31)).toInt &&& sI 1).toInt = bitS s k from rfl]
    have hv : 0 ≤ bitS s k * w (1900 + 3 * k + 1) ∧ bitS s k * w (1900 + 3 * k + 1) ≤ 99 := by
      unfold bitS
      rcases hb with q | q <;> rw [q] <;> omega
    refine ss_iast h hM.k_w (by decide) (by omega) (by omega) dX4_hatches_59 60 rfl ?_
    refine ss_inc_2 h dX4_hatches_60 63 rfl ?_
    refine ss_goto h dX4_hatches_63 6 (by decide) ?_
    refine ss_X ?_ (ih (k + 1) (by omega) (by omega))
    rw [sArr_sUp]
    rfl
end M12

