/-! ===== the twin: odds, back ===== -/
section M13
variable {Ω : OmT} {n : Nat} {K : KT} {X : XT} {R : RT} {m : Nat} {d : Nat}
theorem wgt_in {w : WT} (hh : hatOK w) (s : Int) : ∀ i : Nat, (i : Int) ≤ w 7 → (0 ≤ wgtN w s i ∧ wgtN w s i ≤ 10 ^ i)
  | 0, _ => by unfold wgtN; omega
  | i + 1, hi => by
    obtain ⟨h1, h2⟩ := wgt_in hh s i (by omega)
    obtain ⟨-, -, k3⟩ := hh.2.2 i (by omega) (by omega)
    have h7 := hh.1
    have hp : (10 : Int) ^ i ≤ 10 ^ 5 := by
      have : i = 0 ∨ i = 1 ∨ i = 2 ∨ i = 3 ∨ i = 4 ∨ i = 5 := by omega
      rcases this with rfl | rfl | rfl | rfl | rfl | rfl <;> decide
    have key : ∀ v : Int, 0 ≤ v → v ≤ 10 → 0 ≤ sWr (wgtN w s i * v) ∧ sWr (wgtN w s i * v) ≤ 10 ^ (i + 1) := fun v v1 v2 => by
      have q1 : wgtN w s i * v ≤ 10 ^ i * 10 := Int.mul_le_mul h2 v2 v1 (by omega)
      have q2 : 0 ≤ wgtN w s i * v := Int.mul_nonneg h1 v1
      rw [sWr_id (by omega), Int.pow_succ]
      exact ⟨q2, q1⟩
    unfold wgtN
    split
    · exact key _ k3.1 k3.2
    · exact key _ (by omega) (by omega)
theorem wgt_6 {w : WT} (hh : hatOK w) (s : Int) {i : Nat} (hi : (i : Int) ≤ w 7) : (0 ≤ wgtN w s i ∧ wgtN w s i ≤ 1000000) := by
  obtain ⟨h1, h2⟩ := wgt_in hh s i hi
  have h7 := hh.1
  refine ⟨h1, Int.le_trans h2 ?_⟩
  have : i = 0 ∨ i = 1 ∨ i = 2 ∨ i = 3 ∨ i = 4 ∨ i = 5 ∨ i = 6 := by omega
  rcases this with rfl | rfl | rfl | rfl | rfl | rfl | rfl <;> decide
theorem wgt_s {w : WT} (hh : hatOK w) (s : Int) {i : Nat} (hi : (i : Int) < w 7) : wgtN w s (i + 1) = wgtN w s i * (if bitS s i = 1 then w (1900 + 3 * i + 2) else 10 - w (1900 + 3 * i + 2)) := by
  obtain ⟨h1, h2⟩ := wgt_6 hh s (i := i) (by omega)
  obtain ⟨-, -, k3⟩ := hh.2.2 i (by omega) (by omega)
  have key : ∀ v : Int, 0 ≤ v → v ≤ 10 → sWr (wgtN w s i * v) = wgtN w s i * v := fun v v1 v2 => by
    have q1 : wgtN w s i * v ≤ 1000000 * 10 := Int.mul_le_mul h2 v2 v1 (by omega)
    have q2 : 0 ≤ wgtN w s i * v := Int.mul_nonneg h1 v1
    exact sWr_id (by omega)
  show sWr _ = _
  split
  · exact key _ k3.1 k3.2
  · exact key _ (by omega) (by omega)
theorem odd_s (w : WT) (a b : Int) (s : Nat) : oddN w a b (s + 1) = oddN w a b s + (if wgtN w s (w 7).toNat = 0 then 0 else if oneS (hchW w s) a b = true then wgtN w s (w 7).toNat else 0) := rfl
theorem odd_in {w : WT} (hh : hatOK w) (a b : Int) : ∀ s : Nat, 0 ≤ oddN w a b s ∧ oddN w a b s ≤ 1000000 * s
  | 0 => by unfold oddN; omega
  | s + 1 => by
    obtain ⟨h1, h2⟩ := odd_in hh a b s
    have h7 := hh.1
    obtain ⟨k1, k2⟩ := wgt_6 hh (s : Int) (i := (w 7).toNat) (by omega)
    rw [odd_s]
    split
    · omega
    · split <;> omega
theorem m_odds (hM : MOk Ω n K R m) {a b : Int} (hf : flyOK (X (m + 1))) (hh : hatOK (X (m + 1))) (hth : X m 6 = 0) (h1 : sRg a) (h2 : sRg b) (hl : 8 ≤ d) : sCt Ω yX4_odds cX4_odds 7 (some .int) d 0 0 [.ref m, vI a, vI b] n K X R (pA n K R (vI (oddV (X (m + 1)) a b)) (fun X' => X' (m + 1) = X (m + 1) ∧ (∀ f, f ≠ 30 → X' m f = X m f) ∧ sOff [0, 1, 3, 8, 9, 10, 11, 12, 13, 14, 15] m X X')) := by
  obtain ⟨w, hw⟩ : ∃ w, w = X (m + 1) := ⟨_, rfl⟩
  rw [← hw] at hf hh ⊢
  have h7 := hh.1
  have hsh := shl1_in h7
  refine sCt_of (by decide) (by simp [Value.category, vI, va_rf]) (Nat.le_of_ble_eq_true rfl) fun Γ P9 hP9 h => ?_
  show sG (_, _, _, _, _) Γ 0 0 _ _ _ _ 0 [some _, some _, some _, none, none, none, none] []
  refine ss_aload_n (i := 0) h dX4_odds_0 1 rfl rfl rfl ?_
  refine ss_iload_n (i := 1) h dX4_odds_1 2 rfl rfl rfl ?_
  refine ss_cVv h (m_isCell hM (d := d - 1) (by rw [← hw]; exact hf.1) (by omega) (by omega)) (lw_V q1214 q1216 qs40 q87 q1217) kl4 hM.ob 1 rfl md_X4_isCell rfl (by omega) (by decide) rfl dX4_odds_2 5 rfl rfl (Nat.le_of_ble_eq_true rfl) (by omega) (by omega) ?_
  rw [← hw]
  refine ss_if_eq h dX4_odds_5 8 16 rfl (by decide) (by first | omega | exact sRg_b _) (fun c5 => ?_) (fun c5 => ?_)
  · skip
    replace c5 := bI_0.mp c5
    refine ss_iconst h dX4_odds_16 17 rfl ?_
    refine ss_iret h dX4_odds_17 (by omega) (by omega) ?_
    rw [hP9]
    exact ⟨by unfold oddV; rw [if_neg (by simp [*, -hw])], rfl, rfl, rfl, hw.symm, fun _ _ => rfl, sOff_rf _ _ _⟩
  · skip
    replace c5 := bI_n.mp c5
    refine ss_aload_n (i := 0) h dX4_odds_8 9 rfl rfl rfl ?_
    refine ss_iload_n (i := 2) h dX4_odds_9 10 rfl rfl rfl ?_
    refine ss_cVv h (m_isCell hM (d := d - 1) (by rw [← hw]; exact hf.1) (by omega) (by omega)) (lw_V q1214 q1216 qs40 q87 q1217) kl4 hM.ob 1 rfl md_X4_isCell rfl (by omega) (by decide) rfl dX4_odds_10 13 rfl rfl (Nat.le_of_ble_eq_true rfl) (by omega) (by omega) ?_
    rw [← hw]
    refine ss_if_ne h dX4_odds_13 16 18 rfl (by decide) (by first | omega | exact sRg_b _) (fun c13 => ?_) (fun c13 => ?_)
    · skip
      replace c13 := bI_1.mp c13
      refine ss_iconst h dX4_odds_18 19 rfl ?_
      refine ss_ist_3 h dX4_odds_19 20 rfl ?_
      refine ss_iconst h dX4_odds_20 21 rfl ?_
      refine ss_ist_4 h dX4_odds_21 23 rfl ?_
      refine ss_loop (σ := XT × Nat) (Pp := fun z => sG _ Γ 0 0 n K z.1 R 23 [some (.ref m), some (vI a), some (vI b), some (vI (oddN w a b z.2)), some (vI z.2), none, none] []) (I := fun z => z.1 (m + 1) = w ∧ z.1 m 6 = 0 ∧ (z.2 : Int) ≤ shlS 1 (w 7) ∧ (∀ f, f ≠ 30 → z.1 m f = X m f) ∧ sOff [0, 1, 3, 8, 9, 10, 11, 12, 13, 14, 15] m X z.1) (fun z => (shlS 1 (w 7)).toNat - z.2) (fun z hz ih => ?_) (X, 0) ⟨hw.symm, hth, by dsimp only; omega, fun _ _ => rfl, sOff_rf _ _ _⟩
      obtain ⟨Y, s⟩ := z
      dsimp only at hz ih ⊢
      obtain ⟨z1, z2, z3, z4, z5⟩ := hz
      have ho := odd_in hh a b s
      have ca := cellB_t hf.1 c5
      have cb := cellB_t hf.1 c13
      refine ss_iload h dX4_odds_23 25 rfl rfl ?_
      refine ss_iconst h dX4_odds_25 26 rfl ?_
      refine ss_aload_n (i := 0) h dX4_odds_26 27 rfl rfl rfl ?_
      refine ss_getS h kl4 0 0 rfl (by decide) rfl hM.ob q1087 dX4_odds_27 30 rfl hM.r_w ?_
      refine ss_bipush h dX4_odds_30 32 rfl (by decide +kernel) ?_
      refine ss_iald h hM.k_w (by decide) (by omega) dX4_odds_32 33 rfl ?_
      rw [z1]
      refine ss_ishl h dX4_odds_33 34 rfl (sI_of _).symm ?_
      rw [show (sI 1 <<< (sI (w 7) &&& 31)).toInt = shlS 1 (w 7) from rfl]
      refine ss_icmp_ge h dX4_odds_34 37 157 rfl (by decide) (by first | omega | exact sRg_b _) (by first | omega | exact sRg_b _) (fun c34 => ?_) (fun c34 => ?_)
      · skip
        refine ss_iload_n (i := 3) h dX4_odds_157 158 rfl rfl rfl ?_
        refine ss_iret h dX4_odds_158 (by omega) (by omega) ?_
        rw [hP9]
        exact ⟨by unfold oddV; rw [if_pos ⟨c5, c13⟩, show (shlS 1 (w 7)).toNat = s by omega], rfl, rfl, rfl, z1, z4, z5⟩
      · skip
        refine ss_iconst h dX4_odds_37 38 rfl ?_
        refine ss_ist_5 h dX4_odds_38 40 rfl ?_
        refine ss_iconst h dX4_odds_40 41 rfl ?_
        refine ss_ist_6 h dX4_odds_41 43 rfl ?_
        refine ss_loop (σ := Nat) (Pp := fun i => sG _ Γ 0 0 n K Y R 43 [some (.ref m), some (vI a), some (vI b), some (vI (oddN w a b s)), some (vI s), some (vI (wgtN w s i)), some (vI i)] []) (I := fun i => (i : Int) ≤ w 7) (fun i => (w 7 - i).toNat) (fun i hi ih2 => ?_) 0 (by omega)
        have hg := wgt_6 hh s hi
        refine ss_iload h dX4_odds_43 45 rfl rfl ?_
        refine ss_aload_n (i := 0) h dX4_odds_45 46 rfl rfl rfl ?_
        refine ss_getS h kl4 0 0 rfl (by decide) rfl hM.ob q1087 dX4_odds_46 49 rfl hM.r_w ?_
        refine ss_bipush h dX4_odds_49 51 rfl (by decide +kernel) ?_
        refine ss_iald h hM.k_w (by decide) (by omega) dX4_odds_51 52 rfl ?_
        rw [z1]
        refine ss_icmp_ge h dX4_odds_52 55 113 rfl (by decide) (by first | omega | exact sRg_b _) (by first | omega | exact sRg_b _) (fun c52 => ?_) (fun c52 => ?_)
        · skip
          obtain rfl : i = (w 7).toNat := by omega
          refine ss_iload h dX4_odds_113 115 rfl rfl ?_
          refine ss_if_ne h dX4_odds_115 118 121 rfl (by decide) (by first | omega | exact sRg_b _) (fun c115 => ?_) (fun c115 => ?_)
          · skip
            refine ss_aload_n (i := 0) h dX4_odds_121 122 rfl rfl rfl ?_
            refine ss_iload h dX4_odds_122 124 rfl rfl ?_
            refine ss_cVn h (m_hatches hM (d := d - 1) (by rw [z1]; exact hf) (by rw [z1]; exact hh) z2 (by omega) (by omega)) (lw_V q1494 q1496 qs78 q87 q1497) kl4 hM.ob 1 rfl md_X4_hatches rfl (by omega) (by decide) rfl dX4_odds_124 127 rfl rfl (Nat.le_of_ble_eq_true rfl) (by omega) (by omega) (fun X124 x124 => ?_)
            obtain ⟨g1, g2, g3, g4⟩ := x124
            rw [z1] at g1 g2
            refine ss_rg fun hrg => ?_
            have hra := hrg (m + 14) a
            have hrb := hrg (m + 14) b
            rw [g2 _ (by omega) (by omega)] at hra hrb
            refine ss_iload_n (i := 3) h dX4_odds_127 128 rfl rfl rfl ?_
            refine ss_aload_n (i := 0) h dX4_odds_128 129 rfl rfl rfl ?_
            refine ss_getS h kl4 28 28 rfl (by decide) rfl hM.ob q1115 dX4_odds_129 132 rfl hM.r_name ?_
            refine ss_iload_n (i := 1) h dX4_odds_132 133 rfl rfl rfl ?_
            refine ss_iald h hM.k_name (by decide) (by omega) dX4_odds_133 134 rfl ?_
            rw [g2 _ (by omega) (by omega)]
            refine ss_aload_n (i := 0) h dX4_odds_134 135 rfl rfl rfl ?_
            refine ss_getS h kl4 28 28 rfl (by decide) rfl hM.ob q1115 dX4_odds_135 138 rfl hM.r_name ?_
            refine ss_iload_n (i := 2) h dX4_odds_138 139 rfl rfl rfl ?_
            refine ss_iald h hM.k_name (by decide) (by omega) dX4_odds_139 140 rfl ?_
            rw [g2 _ (by omega) (by omega)]
            refine ss_icmp_ne h dX4_odds_140 143 148 rfl (by decide) hra hrb (fun c140 => ?_) (fun c140 => ?_)
            · skip
              have hS : oddN w a b (s + 1) = oddN w a b s + 0 := by rw [odd_s, if_neg c115, if_neg (by unfold oneS; simpa using c140)]
              refine ss_iconst h dX4_odds_148 149 rfl ?_
              refine ss_iadd h dX4_odds_149 150 rfl ?_
              refine ss_ist_3 h dX4_odds_150 151 rfl ?_
              refine ss_inc_4 h dX4_odds_151 154 rfl ?_
              refine ss_goto h dX4_odds_154 23 (by decide) ?_
              refine ss_kl_5 (ss_kl_6 ?_)
              have z := ih (X124, s + 1) ⟨g1, (g3 6 (by decide)).trans z2, by dsimp only; omega, fun f hf => (g3 f hf).trans (z4 f hf), sOff_tr z5 g4⟩ (by dsimp only; omega)
              dsimp only at z
              rw [hS] at z
              exact z
            · skip
              have hS : oddN w a b (s + 1) = oddN w a b s + wgtN w s (w 7).toNat := by rw [odd_s, if_neg c115, if_pos (by unfold oneS; simpa using c140)]
              refine ss_iload h dX4_odds_143 145 rfl rfl ?_
              refine ss_goto h dX4_odds_145 149 (by decide) ?_
              refine ss_iadd h dX4_odds_149 150 rfl ?_
              refine ss_ist_3 h dX4_odds_150 151 rfl ?_
              refine ss_inc_4 h dX4_odds_151 154 rfl ?_
              refine ss_goto h dX4_odds_154 23 (by decide) ?_
              refine ss_kl_5 (ss_kl_6 ?_)
              have z := ih (X124, s + 1) ⟨g1, (g3 6 (by decide)).trans z2, by dsimp only; omega, fun f hf => (g3 f hf).trans (z4 f hf), sOff_tr z5 g4⟩ (by dsimp only; omega)
              dsimp only at z
              rw [hS] at z
              exact z
          · skip
            have hS : oddN w a b (s + 1) = oddN w a b s := by rw [odd_s, if_pos c115, Int.add_zero]
            refine ss_goto h dX4_odds_118 151 (by decide) ?_
            refine ss_inc_4 h dX4_odds_151 154 rfl ?_
            refine ss_goto h dX4_odds_154 23 (by decide) ?_
            refine ss_kl_5 (ss_kl_6 ?_)
            have z := ih (Y, s + 1) ⟨z1, z2, by dsimp only; omega, z4, z5⟩ (by dsimp only; omega)
            dsimp only at z
            rw [hS] at z
            exact z
        · skip
          have hgs := wgt_s hh s (i := i) (by omega)
          obtain ⟨-, -, l3⟩ := hh.2.2 i (by omega) (by omega)
          have hb := and1_in (shrS s i)
          refine ss_iload h dX4_odds_55 57 rfl rfl ?_
          refine ss_iload h dX4_odds_57 59 rfl rfl ?_
          refine ss_iload h dX4_odds_59 61 rfl rfl ?_
          refine ss_ishr h dX4_odds_61 62 rfl (sI_of _).symm ?_
          refine ss_iconst h dX4_odds_62 63 rfl ?_
          refine ss_iand h dX4_odds_63 64 rfl (sI_of _).symm ?_
          refine ss_iconst h dX4_odds_64 65 rfl ?_
          rw [show (sI (sI s >>> (sI (i : Int) &&& 31)).toInt &&& sI 1).toInt = bitS s i from rfl]
          have hbr : sRg (bitS s i) := by
            unfold bitS
            rcases hb with q | q <;> rw [q] <;> decide
          refine ss_icmp_ne h dX4_odds_65 68 86 rfl (by decide) (by first | omega | exact sRg_b _) (by first | omega | exact sRg_b _) (fun c65 => ?_) (fun c65 => ?_)
          · skip
            rw [if_neg c65] at hgs
            refine ss_bipush h dX4_odds_86 88 rfl (by decide +kernel) ?_
            refine ss_aload_n (i := 0) h dX4_odds_88 89 rfl rfl rfl ?_
            refine ss_getS h kl4 0 0 rfl (by decide) rfl hM.ob q1087 dX4_odds_89 92 rfl hM.r_w ?_
            refine ss_sipush h dX4_odds_92 95 rfl (by decide +kernel) ?_
            refine ss_iconst h dX4_odds_95 96 rfl ?_
            refine ss_iload h dX4_odds_96 98 rfl rfl ?_
            refine ss_imul h dX4_odds_98 99 rfl ?_
            refine ss_iadd h dX4_odds_99 100 rfl ?_
            refine ss_iconst h dX4_odds_100 101 rfl ?_
            refine ss_iadd h dX4_odds_101 102 rfl ?_
            refine ss_iald h hM.k_w (by decide) (by omega) dX4_odds_102 103 rfl ?_
            rw [z1]
            refine ss_isub h dX4_odds_103 104 rfl ?_
            refine ss_imul h dX4_odds_104 105 rfl ?_
            rw [← hgs]
            refine ss_ist_5 h dX4_odds_105 107 rfl ?_
            refine ss_inc_6 h dX4_odds_107 110 rfl ?_
            refine ss_goto h dX4_odds_110 43 (by decide) ?_
            exact ih2 (i + 1) (by omega) (by omega)
          · skip
            rw [if_pos c65] at hgs
            refine ss_aload_n (i := 0) h dX4_odds_68 69 rfl rfl rfl ?_
            refine ss_getS h kl4 0 0 rfl (by decide) rfl hM.ob q1087 dX4_odds_69 72 rfl hM.r_w ?_
            refine ss_sipush h dX4_odds_72 75 rfl (by decide +kernel) ?_
            refine ss_iconst h dX4_odds_75 76 rfl ?_
            refine ss_iload h dX4_odds_76 78 rfl rfl ?_
            refine ss_imul h dX4_odds_78 79 rfl ?_
            refine ss_iadd h dX4_odds_79 80 rfl ?_
            refine ss_iconst h dX4_odds_80 81 rfl ?_
            refine ss_iadd h dX4_odds_81 82 rfl ?_
            refine ss_iald h hM.k_w (by decide) (by omega) dX4_odds_82 83 rfl ?_
            rw [z1]
            refine ss_goto h dX4_odds_83 104 (by decide) ?_
            refine ss_imul h dX4_odds_104 105 rfl ?_
            rw [← hgs]
            refine ss_ist_5 h dX4_odds_105 107 rfl ?_
            refine ss_inc_6 h dX4_odds_107 110 rfl ?_
            refine ss_goto h dX4_odds_110 43 (by decide) ?_
            exact ih2 (i + 1) (by omega) (by omega)
    · skip
      replace c13 := bI_0.mp c13
      refine ss_iconst h dX4_odds_16 17 rfl ?_
      refine ss_iret h dX4_odds_17 (by omega) (by omega) ?_
      rw [hP9]
      exact ⟨by unfold oddV; rw [if_neg (by simp [*, -hw])], rfl, rfl, rfl, hw.symm, fun _ _ => rfl, sOff_rf _ _ _⟩
/-- what looking back needs -/
def bakOK (w : WT) : Prop := (0 ≤ w 8 ∧ w 8 ≤ 20) ∧ ∀ i, 0 ≤ i → i < w 8 → (0 ≤ w (1920 + 3 * i) ∧ w (1920 + 3 * i) ≤ 99) ∧ (0 ≤ w (1920 + 3 * i + 1) ∧ w (1920 + 3 * i + 1) ≤ 99) ∧ sRg (w (1920 + 3 * i + 2))
theorem bck_s (w : WT) (s : Nat) : bckN w (s + 1) = if goesN w (nmS (allF true (hchW w s))) (w 8).toNat = true then ((bckN w s).1 + 1, if (bckN w s).1 = 0 then (s : Int) else andS (bckN w s).2.1 s, if (bckN w s).1 = 0 then (s : Int) else (bckN w s).2.2) else bckN w s := rfl
theorem goes_s (w nm : WT) (i : Nat) : goesN w nm (i + 1) = (goesN w nm i && (decide (nm (w (1920 + 3 * i)) = nm (w (1920 + 3 * i + 1))) == decide (w (1920 + 3 * i + 2) = 1))) := rfl
theorem bck_in (w : WT) : ∀ s : Nat, 0 ≤ (bckN w s).1 ∧ (bckN w s).1 ≤ s
  | 0 => by unfold bckN; omega
  | s + 1 => by
    obtain ⟨h1, h2⟩ := bck_in w s
    rw [bck_s]
    split
    · dsimp only
      omega
    · omega
theorem m_back (hM : MOk Ω n K R m) {t : Int} (hf : flyOK (X (m + 1))) (hh : hatOK (X (m + 1))) (hb : bakOK (X (m + 1))) (hth : X m 6 = 0) (h1 : sRg t) (hl : 8 ≤ d) : sCt Ω yX4_back cX4_back 9 (some .int) d 0 0 [.ref m, vI t] n K X R (pA n K R (vI (bckV (X (m + 1)) t)) (fun X' => X' (m + 1) = X (m + 1) ∧ (∀ f, f ≠ 30 → X' m f = X m f) ∧ sOff [0, 1, 3, 8, 9, 10, 11, 12, 13, 14, 15] m X X')) := by
  obtain ⟨w, hw⟩ : ∃ w, w = X (m + 1) := ⟨_, rfl⟩
  rw [← hw] at hf hh hb ⊢
  have h7 := hh.1
  have h8 := hb.1
  have hsh := shl1_in h7
  refine sCt_of (by decide) (by simp [Value.category, vI, va_rf]) (Nat.le_of_ble_eq_true rfl) fun Γ P9 hP9 h => ?_
  show sG (_, _, _, _, _) Γ 0 0 _ _ _ _ 0 [some _, some _, none, none, none, none, none, none, none] []
  refine ss_iload_n (i := 1) h dX4_back_0 1 rfl rfl rfl ?_
  refine ss_iconst h dX4_back_1 2 rfl ?_
  refine ss_iconst h dX4_back_2 3 rfl ?_
  refine ss_cSv h (m_isIn (d := d - 1) (by omega) (by omega) (by omega)) (lw_S q1207 q1208 q87 q1209) 3 rfl md_X4_isIn (by omega) (by decide) rfl dX4_back_3 6 rfl rfl (Nat.le_of_ble_eq_true rfl) (by omega) (by omega) ?_
  refine ss_if_ne h dX4_back_6 9 11 rfl (by decide) (by first | omega | exact sRg_b _) (fun c6 => ?_) (fun c6 => ?_)
  · skip
    replace c6 := bI_1.mp c6
    refine ss_iconst h dX4_back_11 12 rfl ?_
    refine ss_ist_2 h dX4_back_12 13 rfl ?_
    refine ss_iconst h dX4_back_13 14 rfl ?_
    refine ss_ist_3 h dX4_back_14 15 rfl ?_
    refine ss_iconst h dX4_back_15 16 rfl ?_
    refine ss_ist_4 h dX4_back_16 18 rfl ?_
    refine ss_iconst h dX4_back_18 19 rfl ?_
    refine ss_ist_5 h dX4_back_19 21 rfl ?_
    refine ss_loop (σ := XT × Nat) (Pp := fun z => sG _ Γ 0 0 n K z.1 R 21 [some (.ref m), some (vI t), some (vI (bckN w z.2).1), some (vI (bckN w z.2).2.1), some (vI (bckN w z.2).2.2), some (vI z.2), none, none, none] []) (I := fun z => z.1 (m + 1) = w ∧ z.1 m 6 = 0 ∧ (z.2 : Int) ≤ shlS 1 (w 7) ∧ (∀ f, f ≠ 30 → z.1 m f = X m f) ∧ sOff [0, 1, 3, 8, 9, 10, 11, 12, 13, 14, 15] m X z.1) (fun z => (shlS 1 (w 7)).toNat - z.2) (fun z hz ih => ?_) (X, 0) ⟨hw.symm, hth, by dsimp only; omega, fun _ _ => rfl, sOff_rf _ _ _⟩
    obtain ⟨Y, s⟩ := z
    dsimp only at hz ih ⊢
    obtain ⟨z1, z2, z3, z4, z5⟩ := hz
    have ho := bck_in w s
    refine ss_iload h dX4_back_21 23 rfl rfl ?_
    refine ss_iconst h dX4_back_23 24 rfl ?_
    refine ss_aload_n (i := 0) h dX4_back_24 25 rfl rfl rfl ?_
    refine ss_getS h kl4 0 0 rfl (by decide) rfl hM.ob q1087 dX4_back_25 28 rfl hM.r_w ?_
    refine ss_bipush h dX4_back_28 30 rfl (by decide +kernel) ?_
    refine ss_iald h hM.k_w (by decide) (by omega) dX4_back_30 31 rfl ?_
    rw [z1]
    refine ss_ishl h dX4_back_31 32 rfl (sI_of _).symm ?_
    rw [show (sI 1 <<< (sI (w 7) &&& 31)).toInt = shlS 1 (w 7) from rfl]
    refine ss_icmp_ge h dX4_back_32 35 186 rfl (by decide) (by first | omega | exact sRg_b _) (by first | omega | exact sRg_b _) (fun c32 => ?_) (fun c32 => ?_)
    · skip
      have hB := show bckV w t = _ from if_pos c6
      rw [show (shlS 1 (w 7)).toNat = s by omega] at hB
      refine ss_iload_n (i := 1) h dX4_back_186 187 rfl rfl rfl ?_
      refine ss_if_ne h dX4_back_187 190 194 rfl (by decide) (by first | omega | exact sRg_b _) (fun c187 => ?_) (fun c187 => ?_)
      · skip
        refine ss_iload_n (i := 1) h dX4_back_194 195 rfl rfl rfl ?_
        refine ss_iconst h dX4_back_195 196 rfl ?_
        refine ss_icmp_ne h dX4_back_196 199 203 rfl (by decide) (by first | omega | exact sRg_b _) (by first | omega | exact sRg_b _) (fun c196 => ?_) (fun c196 => ?_)
        · skip
          refine ss_iload h dX4_back_203 205 rfl rfl ?_
          refine ss_iret h dX4_back_205 (by omega) (by omega) ?_
          rw [hP9]
          exact ⟨by rw [hB]; simp [*, -hw], rfl, rfl, rfl, z1, z4, z5⟩
        · skip
          refine ss_iload_n (i := 3) h dX4_back_199 200 rfl rfl rfl ?_
          refine ss_goto h dX4_back_200 205 (by decide) ?_
          refine ss_iret h dX4_back_205 (by omega) (by omega) ?_
          rw [hP9]
          exact ⟨by rw [hB]; simp [*, -hw], rfl, rfl, rfl, z1, z4, z5⟩
      · skip
        refine ss_iload_n (i := 2) h dX4_back_190 191 rfl rfl rfl ?_
        refine ss_goto h dX4_back_191 205 (by decide) ?_
        refine ss_iret h dX4_back_205 (by omega) (by omega) ?_
        rw [hP9]
        exact ⟨by rw [hB]; simp [*, -hw], rfl, rfl, rfl, z1, z4, z5⟩
    · skip
      refine ss_aload_n (i := 0) h dX4_back_35 36 rfl rfl rfl ?_
      refine ss_iload h dX4_back_36 38 rfl rfl ?_
      refine ss_cVn h (m_hatches hM (d := d - 1) (by rw [z1]; exact hf) (by rw [z1]; exact hh) z2 (by omega) (by omega)) (lw_V q1494 q1496 qs78 q87 q1497) kl4 hM.ob 1 rfl md_X4_hatches rfl (by omega) (by decide) rfl dX4_back_38 41 rfl rfl (Nat.le_of_ble_eq_true rfl) (by omega) (by omega) (fun X38 x38 => ?_)
      obtain ⟨g1, g2, g3, g4⟩ := x38
      rw [z1] at g1 g2
      refine ss_rg fun hrg => ?_
      have hS := bck_s w s
      obtain ⟨nm, hnm⟩ : ∃ nm, nm = nmS (allF true (hchW w s)) := ⟨_, rfl⟩
      rw [← hnm] at g2 hS
      have hrn : ∀ c : Int, 0 ≤ c → c < 100 → sRg (nm c) := fun c c1 c2 => by rw [← g2 c c1 c2]; exact hrg _ _
      have ihN := ih (X38, s + 1)
      dsimp only at ihN
      replace ihN := fun hq => ihN ⟨g1, (g3 6 (by decide)).trans z2, hq, fun f hf => (g3 f hf).trans (z4 f hf), sOff_tr z5 g4⟩
      refine ss_iconst h dX4_back_41 42 rfl ?_
      refine ss_ist_6 h dX4_back_42 44 rfl ?_
      refine ss_iconst h dX4_back_44 45 rfl ?_
      refine ss_ist_7 h dX4_back_45 47 rfl ?_
      refine ss_loop (σ := Nat) (Pp := fun i => sG _ Γ 0 0 n K X38 R 47 [some (.ref m), some (vI t), some (vI (bckN w s).1), some (vI (bckN w s).2.1), some (vI (bckN w s).2.2), some (vI s), some (vI (bI (goesN w nm i))), some (vI i), none] []) (I := fun i => (i : Int) ≤ w 8) (fun i => (w 8 - i).toNat) (fun i hi ih2 => ?_) 0 (by omega)
      have hgs := goes_s w nm i
      refine ss_iload h dX4_back_47 49 rfl rfl ?_
      refine ss_aload_n (i := 0) h dX4_back_49 50 rfl rfl rfl ?_
      refine ss_getS h kl4 0 0 rfl (by decide) rfl hM.ob q1087 dX4_back_50 53 rfl hM.r_w ?_
      refine ss_bipush h dX4_back_53 55 rfl (by decide +kernel) ?_
      refine ss_iald h hM.k_w (by decide) (by omega) dX4_back_55 56 rfl ?_
      rw [g1]
      refine ss_icmp_ge h dX4_back_56 59 142 rfl (by decide) (by first | omega | exact sRg_b _) (by first | omega | exact sRg_b _) (fun c56 => ?_) (fun c56 => ?_)
      · skip
        obtain rfl : i = (w 8).toNat := by omega
        refine ss_iload h dX4_back_142 144 rfl rfl ?_
        refine ss_if_ne h dX4_back_144 147 150 rfl (by decide) (sRg_b _) (fun c144 => ?_) (fun c144 => ?_)
        · skip
          replace c144 := bI_1.mp c144
          rw [if_pos c144] at hS
          refine ss_iload_n (i := 2) h dX4_back_150 151 rfl rfl rfl ?_
          refine ss_if_ne h dX4_back_151 154 159 rfl (by decide) (by first | omega | exact sRg_b _) (fun c151 => ?_) (fun c151 => ?_)
          · skip
            rw [if_neg c151, if_neg c151] at hS
            refine ss_iload_n (i := 3) h dX4_back_159 160 rfl rfl rfl ?_
            refine ss_iload h dX4_back_160 162 rfl rfl ?_
            refine ss_iand h dX4_back_162 163 rfl (sI_of _).symm ?_
            refine ss_ist_3 h dX4_back_163 164 rfl ?_
            refine ss_iload_n (i := 2) h dX4_back_164 165 rfl rfl rfl ?_
            refine ss_if_ne h dX4_back_165 168 173 rfl (by decide) (by first | omega | exact sRg_b _) (fun c165 => ?_) (fun c165 => ?_)
            · skip
              refine ss_iload h dX4_back_173 175 rfl rfl ?_
              refine ss_ist_4 h dX4_back_175 177 rfl ?_
              refine ss_inc_2 h dX4_back_177 180 rfl ?_
              refine ss_inc_5 h dX4_back_180 183 rfl ?_
              refine ss_goto h dX4_back_183 21 (by decide) ?_
              refine ss_kl_6 (ss_kl_7 (ss_kl_8 ?_))
              first
                | (exfalso; omega)
                | (have z := ihN (by omega) (by omega)
                   rw [hS] at z
                   exact z)
            · skip
              refine ss_iload h dX4_back_168 170 rfl rfl ?_
              refine ss_goto h dX4_back_170 175 (by decide) ?_
              refine ss_ist_4 h dX4_back_175 177 rfl ?_
              refine ss_inc_2 h dX4_back_177 180 rfl ?_
              refine ss_inc_5 h dX4_back_180 183 rfl ?_
              refine ss_goto h dX4_back_183 21 (by decide) ?_
              refine ss_kl_6 (ss_kl_7 (ss_kl_8 ?_))
              first
                | (exfalso; omega)
                | (have z := ihN (by omega) (by omega)
                   rw [hS] at z
                   exact z)
          · skip
            rw [if_pos c151, if_pos c151] at hS
            refine ss_iload h dX4_back_154 156 rfl rfl ?_
            refine ss_goto h dX4_back_156 163 (by decide) ?_
            refine ss_ist_3 h dX4_back_163 164 rfl ?_
            refine ss_iload_n (i := 2) h dX4_back_164 165 rfl rfl rfl ?_
            refine ss_if_ne h dX4_back_165 168 173 rfl (by decide) (by first | omega | exact sRg_b _) (fun c165 => ?_) (fun c165 => ?_)
            · skip
              refine ss_iload h dX4_back_173 175 rfl rfl ?_
              refine ss_ist_4 h dX4_back_175 177 rfl ?_
              refine ss_inc_2 h dX4_back_177 180 rfl ?_
              refine ss_inc_5 h dX4_back_180 183 rfl ?_
              refine ss_goto h dX4_back_183 21 (by decide) ?_
              refine ss_kl_6 (ss_kl_7 (ss_kl_8 ?_))
              first
                | (exfalso; omega)
                | (have z := ihN (by omega) (by omega)
                   rw [hS] at z
                   exact z)
            · skip
              refine ss_iload h dX4_back_168 170 rfl rfl ?_
              refine ss_goto h dX4_back_170 175 (by decide) ?_
              refine ss_ist_4 h dX4_back_175 177 rfl ?_
              refine ss_inc_2 h dX4_back_177 180 rfl ?_
              refine ss_inc_5 h dX4_back_180 183 rfl ?_
              refine ss_goto h dX4_back_183 21 (by decide) ?_
              refine ss_kl_6 (ss_kl_7 (ss_kl_8 ?_))
              first
                | (exfalso; omega)
                | (have z := ihN (by omega) (by omega)
                   rw [hS] at z
                   exact z)
        · skip
          replace c144 := bI_0.mp c144
          rw [if_neg (by rw [c144]; decide)] at hS
          refine ss_goto h dX4_back_147 180 (by decide) ?_
          refine ss_inc_5 h dX4_back_180 183 rfl ?_
          refine ss_goto h dX4_back_183 21 (by decide) ?_
          refine ss_kl_6 (ss_kl_7 (ss_kl_8 ?_))
          have z := ihN (by omega) (by omega)
          rw [hS] at z
          exact z
      · skip
        obtain ⟨l1, l2, l3⟩ := hb.2 i (by omega) (by omega)
        refine ss_sipush h dX4_back_59 62 rfl (by decide +kernel) ?_
        refine ss_iconst h dX4_back_62 63 rfl ?_
        refine ss_iload h dX4_back_63 65 rfl rfl ?_
        refine ss_imul h dX4_back_65 66 rfl ?_
        refine ss_iadd h dX4_back_66 67 rfl ?_
        refine ss_ist_8 h dX4_back_67 69 rfl ?_
        refine ss_iload h dX4_back_69 71 rfl rfl ?_
        refine ss_if_eq h dX4_back_71 74 133 rfl (by decide) (sRg_b _) (fun c71 => ?_) (fun c71 => ?_)
        · skip
          replace c71 := bI_0.mp c71
          rw [c71, Bool.false_and] at hgs
          refine ss_iconst h dX4_back_133 134 rfl ?_
          refine ss_ist_6 h dX4_back_134 136 rfl ?_
          refine ss_inc_7 h dX4_back_136 139 rfl ?_
          refine ss_goto h dX4_back_139 47 (by decide) ?_
          refine ss_kl_8 ?_
          first
            | (exfalso; omega)
            | (have z := ih2 (i + 1) (by omega) (by omega)
               rw [hgs] at z
               exact z)
        · skip
          replace c71 := bI_n.mp c71
          rw [c71, Bool.true_and] at hgs
          refine ss_aload_n (i := 0) h dX4_back_74 75 rfl rfl rfl ?_
          refine ss_getS h kl4 28 28 rfl (by decide) rfl hM.ob q1115 dX4_back_75 78 rfl hM.r_name ?_
          refine ss_aload_n (i := 0) h dX4_back_78 79 rfl rfl rfl ?_
          refine ss_getS h kl4 0 0 rfl (by decide) rfl hM.ob q1087 dX4_back_79 82 rfl hM.r_w ?_
          refine ss_iload h dX4_back_82 84 rfl rfl ?_
          refine ss_iald h hM.k_w (by decide) (by omega) dX4_back_84 85 rfl ?_
          rw [g1]
          refine ss_iald h hM.k_name (by decide) (by omega) dX4_back_85 86 rfl ?_
          rw [g2 _ l1.1 (by omega)]
          refine ss_aload_n (i := 0) h dX4_back_86 87 rfl rfl rfl ?_
          refine ss_getS h kl4 28 28 rfl (by decide) rfl hM.ob q1115 dX4_back_87 90 rfl hM.r_name ?_
          refine ss_aload_n (i := 0) h dX4_back_90 91 rfl rfl rfl ?_
          refine ss_getS h kl4 0 0 rfl (by decide) rfl hM.ob q1087 dX4_back_91 94 rfl hM.r_w ?_
          refine ss_iload h dX4_back_94 96 rfl rfl ?_
          refine ss_iconst h dX4_back_96 97 rfl ?_
          refine ss_iadd h dX4_back_97 98 rfl ?_
          refine ss_iald h hM.k_w (by decide) (by omega) dX4_back_98 99 rfl ?_
          rw [g1]
          refine ss_iald h hM.k_name (by decide) (by omega) dX4_back_99 100 rfl ?_
          rw [g2 _ l2.1 (by omega)]
          refine ss_icmp_ne h dX4_back_100 103 107 rfl (by decide) (hrn _ l1.1 (by omega)) (hrn _ l2.1 (by omega)) (fun c100 => ?_) (fun c100 => ?_)
          · skip
            rw [decide_eq_false c100] at hgs
            refine ss_iconst h dX4_back_107 108 rfl ?_
            refine ss_aload_n (i := 0) h dX4_back_108 109 rfl rfl rfl ?_
            refine ss_getS h kl4 0 0 rfl (by decide) rfl hM.ob q1087 dX4_back_109 112 rfl hM.r_w ?_
            refine ss_iload h dX4_back_112 114 rfl rfl ?_
            refine ss_iconst h dX4_back_114 115 rfl ?_
            refine ss_iadd h dX4_back_115 116 rfl ?_
            refine ss_iald h hM.k_w (by decide) (by omega) dX4_back_116 117 rfl ?_
            rw [g1]
            refine ss_iconst h dX4_back_117 118 rfl ?_
            refine ss_icmp_ne h dX4_back_118 121 125 rfl (by decide) l3 (by omega) (fun c118 => ?_) (fun c118 => ?_)
            · skip
              rw [decide_eq_false c118] at hgs
              refine ss_iconst h dX4_back_125 126 rfl ?_
              refine ss_icmp_ne h dX4_back_126 129 133 rfl (by decide) (by omega) (by omega) (fun c126 => ?_) (fun c126 => ?_)
              · skip
                first | rw [show ((false == true) = false) from rfl] at hgs | rw [show ((true == false) = false) from rfl] at hgs | skip
                refine ss_iconst h dX4_back_133 134 rfl ?_
                refine ss_ist_6 h dX4_back_134 136 rfl ?_
                refine ss_inc_7 h dX4_back_136 139 rfl ?_
                refine ss_goto h dX4_back_139 47 (by decide) ?_
                refine ss_kl_8 ?_
                first
                  | (exfalso; omega)
                  | (have z := ih2 (i + 1) (by omega) (by omega)
                     rw [hgs] at z
                     exact z)
              · skip
                first | rw [show ((true == true) = true) from rfl] at hgs | rw [show ((false == false) = true) from rfl] at hgs | skip
                refine ss_iconst h dX4_back_129 130 rfl ?_
                refine ss_goto h dX4_back_130 134 (by decide) ?_
                refine ss_ist_6 h dX4_back_134 136 rfl ?_
                refine ss_inc_7 h dX4_back_136 139 rfl ?_
                refine ss_goto h dX4_back_139 47 (by decide) ?_
                refine ss_kl_8 ?_
                first
                  | (exfalso; omega)
                  | (have z := ih2 (i + 1) (by omega) (by omega)
                     rw [hgs] at z
                     exact z)
            · skip
              rw [decide_eq_true c118] at hgs
              refine ss_iconst h dX4_back_121 122 rfl ?_
              refine ss_goto h dX4_back_122 126 (by decide) ?_
              refine ss_icmp_ne h dX4_back_126 129 133 rfl (by decide) (by omega) (by omega) (fun c126 => ?_) (fun c126 => ?_)
              · skip
                first | rw [show ((false == true) = false) from rfl] at hgs | rw [show ((true == false) = false) from rfl] at hgs | skip
                refine ss_iconst h dX4_back_133 134 rfl ?_
                refine ss_ist_6 h dX4_back_134 136 rfl ?_
                refine ss_inc_7 h dX4_back_136 139 rfl ?_
                refine ss_goto h dX4_back_139 47 (by decide) ?_
                refine ss_kl_8 ?_
                first
                  | (exfalso; omega)
                  | (have z := ih2 (i + 1) (by omega) (by omega)
                     rw [hgs] at z
                     exact z)
              · skip
                first | rw [show ((true == true) = true) from rfl] at hgs | rw [show ((false == false) = true) from rfl] at hgs | skip
                refine ss_iconst h dX4_back_129 130 rfl ?_
                refine ss_goto h dX4_back_130 134 (by decide) ?_
                refine ss_ist_6 h dX4_back_134 136 rfl ?_
                refine ss_inc_7 h dX4_back_136 139 rfl ?_
                refine ss_goto h dX4_back_139 47 (by decide) ?_
                refine ss_kl_8 ?_
                first
                  | (exfalso; omega)
                  | (have z := ih2 (i + 1) (by omega) (by omega)
                     rw [hgs] at z
                     exact z)
          · skip
            rw [decide_eq_true c100] at hgs
            refine ss_iconst h dX4_back_103 104 rfl ?_
            refine ss_goto h dX4_back_104 108 (by decide) ?_
            refine ss_aload_n (i := 0) h dX4_back_108 109 rfl rfl rfl ?_
            refine ss_getS h kl4 0 0 rfl (by decide) rfl hM.ob q1087 dX4_back_109 112 rfl hM.r_w ?_
            refine ss_iload h dX4_back_112 114 rfl rfl ?_
            refine ss_iconst h dX4_back_114 115 rfl ?_
            refine ss_iadd h dX4_back_115 116 rfl ?_
            refine ss_iald h hM.k_w (by decide) (by omega) dX4_back_116 117 rfl ?_
            rw [g1]
            refine ss_iconst h dX4_back_117 118 rfl ?_
            refine ss_icmp_ne h dX4_back_118 121 125 rfl (by decide) l3 (by omega) (fun c118 => ?_) (fun c118 => ?_)
            · skip
              rw [decide_eq_false c118] at hgs
              refine ss_iconst h dX4_back_125 126 rfl ?_
              refine ss_icmp_ne h dX4_back_126 129 133 rfl (by decide) (by omega) (by omega) (fun c126 => ?_) (fun c126 => ?_)
              · skip
                first | rw [show ((false == true) = false) from rfl] at hgs | rw [show ((true == false) = false) from rfl] at hgs | skip
                refine ss_iconst h dX4_back_133 134 rfl ?_
                refine ss_ist_6 h dX4_back_134 136 rfl ?_
                refine ss_inc_7 h dX4_back_136 139 rfl ?_
                refine ss_goto h dX4_back_139 47 (by decide) ?_
                refine ss_kl_8 ?_
                first
                  | (exfalso; omega)
                  | (have z := ih2 (i + 1) (by omega) (by omega)
                     rw [hgs] at z
                     exact z)
              · skip
                first | rw [show ((true == true) = true) from rfl] at hgs | rw [show ((false == false) = true) from rfl] at hgs | skip
                refine ss_iconst h dX4_back_129 130 rfl ?_
                refine ss_goto h dX4_back_130 134 (by decide) ?_
                refine ss_ist_6 h dX4_back_134 136 rfl ?_
                refine ss_inc_7 h dX4_back_136 139 rfl ?_
                refine ss_goto h dX4_back_139 47 (by decide) ?_
                refine ss_kl_8 ?_
                first
                  | (exfalso; omega)
                  | (have z := ih2 (i + 1) (by omega) (by omega)
                     rw [hgs] at z
                     exact z)
            · skip
              rw [decide_eq_true c118] at hgs
              refine ss_iconst h dX4_back_121 122 rfl ?_
              refine ss_goto h dX4_back_122 126 (by decide) ?_
              refine ss_icmp_ne h dX4_back_126 129 133 rfl (by decide) (by omega) (by omega) (fun c126 => ?_) (fun c126 => ?_)
              · skip
                first | rw [show ((false == true) = false) from rfl] at hgs | rw [show ((true == false) = false) from rfl] at hgs | skip
                refine ss_iconst h dX4_back_133 134 rfl ?_
                refine ss_ist_6 h dX4_back_134 136 rfl ?_
                refine ss_inc_7 h dX4_back_136 139 rfl ?_
                refine ss_goto h dX4_back_139 47 (by decide) ?_
                refine ss_kl_8 ?_
                first
                  | (exfalso; omega)
                  | (have z := ih2 (i + 1) (by omega) (by omega)
                     rw [hgs] at z
                     exact z)
              · skip
                first | rw [show ((true == true) = true) from rfl] at hgs | rw [show ((false == false) = true) from rfl] at hgs | skip
                refine ss_iconst h dX4_back_129 130 rfl ?_
                refine ss_goto h dX4_back_130 134 (by decide) ?_
                refine ss_ist_6 h dX4_back_134 136 rfl ?_
                refine ss_inc_7 h dX4_back_136 139 rfl ?_
                refine ss_goto h dX4_back_139 47 (by decide) ?_
                refine ss_kl_8 ?_
                first
                  | (exfalso; omega)
                  | (have z := ih2 (i + 1) (by omega) (by omega)
                     rw [hgs] at z
                     exact z)
  · skip
    replace c6 := bI_0.mp c6
    refine ss_iconst h dX4_back_9 10 rfl ?_
    refine ss_iret h dX4_back_10 (by omega) (by omega) ?_
    rw [hP9]
    exact ⟨by unfold bckV; rw [if_neg (by simp [*, -hw])], rfl, rfl, rfl, hw.symm, fun _ _ => rfl, sOff_rf _ _ _⟩
end M13

