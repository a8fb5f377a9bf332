/-! ===== the component: small things ===== -/
section XM1
variable {Ω : OmT} {n : Nat} {K : KT} {X : XT} {R : RT} {l b x : Nat} {z : WT} {d : Nat}
theorem x_isIn {v lo hi : Int} (h1 : sRg v) (h2 : sRg lo) (h3 : sRg hi) : sCt Ω yX0_isIn cX0_isIn 3 (some .boolean) d 0 0 [vI v, vI lo, vI hi] n K X R (pV n K X R (some (vI (bI (inB v lo hi))))) := by
  refine sCt_of (by decide) (by simp [Value.category, vI, va_rf]) (Nat.le_of_ble_eq_true rfl) fun Γ P9 hP9 h => ?_
  show sG (_, _, _, _, _) Γ 0 0 _ _ _ _ 0 [some _, some _, some _] []
  refine ss_iload_n (i := 0) h dX0_isIn_0 1 rfl rfl rfl ?_
  refine ss_iload_n (i := 1) h dX0_isIn_1 2 rfl rfl rfl ?_
  refine ss_icmp_lt h dX0_isIn_2 5 14 rfl (by decide) (by first | omega | exact sRg_b _) (by first | omega | exact sRg_b _) (fun c2 => ?_) (fun c2 => ?_)
  · skip
    refine ss_iconst h dX0_isIn_14 15 rfl ?_
    refine ss_zret h (by first | omega | exact bI_z _) dX0_isIn_15 (by omega) (by omega) ?_
    rw [hP9]
    exact ⟨vI_c (by simp [bI, inB]; omega), rfl, rfl, rfl, rfl⟩
  · skip
    refine ss_iload_n (i := 0) h dX0_isIn_5 6 rfl rfl rfl ?_
    refine ss_iload_n (i := 2) h dX0_isIn_6 7 rfl rfl rfl ?_
    refine ss_icmp_gt h dX0_isIn_7 10 14 rfl (by decide) (by first | omega | exact sRg_b _) (by first | omega | exact sRg_b _) (fun c7 => ?_) (fun c7 => ?_)
    · skip
      refine ss_iconst h dX0_isIn_14 15 rfl ?_
      refine ss_zret h (by first | omega | exact bI_z _) dX0_isIn_15 (by omega) (by omega) ?_
      rw [hP9]
      exact ⟨vI_c (by simp [bI, inB]; omega), rfl, rfl, rfl, rfl⟩
    · skip
      refine ss_iconst h dX0_isIn_10 11 rfl ?_
      refine ss_goto h dX0_isIn_11 15 (by decide) ?_
      refine ss_zret h (by first | omega | exact bI_z _) dX0_isIn_15 (by omega) (by omega) ?_
      rw [hP9]
      exact ⟨vI_c (by simp [bI, inB]; omega), rfl, rfl, rfl, rfl⟩
theorem x_isCellL (hL : LOk Ω n K R l) (vL : LV z X l) {p q : Int} (hd : Dim z) (h1 : sRg p) (h2 : sRg q) (hl : 1 ≤ d) : sCt Ω yX2_isCell cX2_isCell 3 (some .boolean) d 0 0 [.ref l, vI p, vI q] n K X R (pV n K X R (some (vI (bI (placeB z p q))))) := by
  have hd' := hd
  unfold Dim at hd'
  refine sCt_of (by decide) (by simp [Value.category, vI, va_rf]) (Nat.le_of_ble_eq_true rfl) fun Γ P9 hP9 h => ?_
  show sG (_, _, _, _, _) Γ 0 0 _ _ _ _ 0 [some _, some _, some _] []
  refine ss_iload_n (i := 1) h dX2_isCell_0 1 rfl rfl rfl ?_
  refine ss_iconst h dX2_isCell_1 2 rfl ?_
  refine ss_aload_n (i := 0) h dX2_isCell_2 3 rfl rfl rfl ?_
  refine ss_getIV h kl2 0 0 rfl (by decide) rfl hL.ob q170 dX2_isCell_3 6 rfl (vL.f_w) ?_
  refine ss_iconst h dX2_isCell_6 7 rfl ?_
  refine ss_isub h dX2_isCell_7 8 rfl ?_
  refine ss_cNv h (x_isIn (d := d - 1) (by omega) (by omega) (by omega)) (lw_meth q439) q774 q438 q82 3 rfl md_X0_isIn (by omega) (by decide) rfl dX2_isCell_8 11 rfl rfl (Nat.le_of_ble_eq_true rfl) (by omega) (by omega) ?_
  refine ss_if_eq h dX2_isCell_11 14 32 rfl (by decide) (by first | omega | exact sRg_b _) (fun c11 => ?_) (fun c11 => ?_)
  · skip
    replace c11 := bI_0.mp c11
    refine ss_iconst h dX2_isCell_32 33 rfl ?_
    refine ss_zret h (by first | omega | exact bI_z _) dX2_isCell_33 (by omega) (by omega) ?_
    rw [hP9]
    exact ⟨vI_c (by simp [bI, placeB, *]), rfl, rfl, rfl, rfl⟩
  · skip
    replace c11 := bI_n.mp c11
    refine ss_iload_n (i := 2) h dX2_isCell_14 15 rfl rfl rfl ?_
    refine ss_iconst h dX2_isCell_15 16 rfl ?_
    refine ss_aload_n (i := 0) h dX2_isCell_16 17 rfl rfl rfl ?_
    refine ss_getIV h kl2 1 1 rfl (by decide) rfl hL.ob q173 dX2_isCell_17 20 rfl (vL.f_h) ?_
    refine ss_iconst h dX2_isCell_20 21 rfl ?_
    refine ss_isub h dX2_isCell_21 22 rfl ?_
    refine ss_cNv h (x_isIn (d := d - 1) (by omega) (by omega) (by omega)) (lw_meth q439) q774 q438 q82 3 rfl md_X0_isIn (by omega) (by decide) rfl dX2_isCell_22 25 rfl rfl (Nat.le_of_ble_eq_true rfl) (by omega) (by omega) ?_
    refine ss_if_eq h dX2_isCell_25 28 32 rfl (by decide) (by first | omega | exact sRg_b _) (fun c25 => ?_) (fun c25 => ?_)
    · skip
      replace c25 := bI_0.mp c25
      refine ss_iconst h dX2_isCell_32 33 rfl ?_
      refine ss_zret h (by first | omega | exact bI_z _) dX2_isCell_33 (by omega) (by omega) ?_
      rw [hP9]
      exact ⟨vI_c (by simp [bI, placeB, *]), rfl, rfl, rfl, rfl⟩
    · skip
      replace c25 := bI_n.mp c25
      refine ss_iconst h dX2_isCell_28 29 rfl ?_
      refine ss_goto h dX2_isCell_29 33 (by decide) ?_
      refine ss_zret h (by first | omega | exact bI_z _) dX2_isCell_33 (by omega) (by omega) ?_
      rw [hP9]
      exact ⟨vI_c (by simp [bI, placeB, *]), rfl, rfl, rfl, rfl⟩
theorem x_isPoint (hL : LOk Ω n K R l) (vL : LV z X l) {p q : Int} (hd : Dim z) (h1 : sRg p) (h2 : sRg q) (hl : 1 ≤ d) : sCt Ω yX2_isPoint cX2_isPoint 3 (some .boolean) d 0 0 [.ref l, vI p, vI q] n K X R (pV n K X R (some (vI (bI (pointB z p q))))) := by
  have hd' := hd
  unfold Dim at hd'
  refine sCt_of (by decide) (by simp [Value.category, vI, va_rf]) (Nat.le_of_ble_eq_true rfl) fun Γ P9 hP9 h => ?_
  show sG (_, _, _, _, _) Γ 0 0 _ _ _ _ 0 [some _, some _, some _] []
  refine ss_iload_n (i := 1) h dX2_isPoint_0 1 rfl rfl rfl ?_
  refine ss_iconst h dX2_isPoint_1 2 rfl ?_
  refine ss_aload_n (i := 0) h dX2_isPoint_2 3 rfl rfl rfl ?_
  refine ss_getIV h kl2 0 0 rfl (by decide) rfl hL.ob q170 dX2_isPoint_3 6 rfl (vL.f_w) ?_
  refine ss_cNv h (x_isIn (d := d - 1) (by omega) (by omega) (by omega)) (lw_meth q439) q774 q438 q82 3 rfl md_X0_isIn (by omega) (by decide) rfl dX2_isPoint_6 9 rfl rfl (Nat.le_of_ble_eq_true rfl) (by omega) (by omega) ?_
  refine ss_if_eq h dX2_isPoint_9 12 28 rfl (by decide) (by first | omega | exact sRg_b _) (fun c9 => ?_) (fun c9 => ?_)
  · skip
    replace c9 := bI_0.mp c9
    refine ss_iconst h dX2_isPoint_28 29 rfl ?_
    refine ss_zret h (by first | omega | exact bI_z _) dX2_isPoint_29 (by omega) (by omega) ?_
    rw [hP9]
    exact ⟨vI_c (by simp [bI, pointB, *]), rfl, rfl, rfl, rfl⟩
  · skip
    replace c9 := bI_n.mp c9
    refine ss_iload_n (i := 2) h dX2_isPoint_12 13 rfl rfl rfl ?_
    refine ss_iconst h dX2_isPoint_13 14 rfl ?_
    refine ss_aload_n (i := 0) h dX2_isPoint_14 15 rfl rfl rfl ?_
    refine ss_getIV h kl2 1 1 rfl (by decide) rfl hL.ob q173 dX2_isPoint_15 18 rfl (vL.f_h) ?_
    refine ss_cNv h (x_isIn (d := d - 1) (by omega) (by omega) (by omega)) (lw_meth q439) q774 q438 q82 3 rfl md_X0_isIn (by omega) (by decide) rfl dX2_isPoint_18 21 rfl rfl (Nat.le_of_ble_eq_true rfl) (by omega) (by omega) ?_
    refine ss_if_eq h dX2_isPoint_21 24 28 rfl (by decide) (by first | omega | exact sRg_b _) (fun c21 => ?_) (fun c21 => ?_)
    · skip
      replace c21 := bI_0.mp c21
      refine ss_iconst h dX2_isPoint_28 29 rfl ?_
      refine ss_zret h (by first | omega | exact bI_z _) dX2_isPoint_29 (by omega) (by omega) ?_
      rw [hP9]
      exact ⟨vI_c (by simp [bI, pointB, *]), rfl, rfl, rfl, rfl⟩
    · skip
      replace c21 := bI_n.mp c21
      refine ss_iconst h dX2_isPoint_24 25 rfl ?_
      refine ss_goto h dX2_isPoint_25 29 (by decide) ?_
      refine ss_zret h (by first | omega | exact bI_z _) dX2_isPoint_29 (by omega) (by omega) ?_
      rw [hP9]
      exact ⟨vI_c (by simp [bI, pointB, *]), rfl, rfl, rfl, rfl⟩
theorem x_hasPond (hL : LOk Ω n K R l) (vL : LV z X l) {p q : Int} (hd : Dim z) (hp : ∀ c, 0 ≤ c → c < 100 → z (120 + c) = 0 ∨ z (120 + c) = 1) (h1 : sRg p) (h2 : sRg q) (hl : 2 ≤ d) : sCt Ω yX2_hasPond cX2_hasPond 3 (some .boolean) d 0 0 [.ref l, vI p, vI q] n K X R (pV n K X R (some (vI (pondS z p q)))) := by
  have hd' := hd
  unfold Dim at hd'
  refine sCt_of (by decide) (by simp [Value.category, vI, va_rf]) (Nat.le_of_ble_eq_true rfl) fun Γ P9 hP9 h => ?_
  show sG (_, _, _, _, _) Γ 0 0 _ _ _ _ 0 [some _, some _, some _] []
  refine ss_aload_n (i := 0) h dX2_hasPond_0 1 rfl rfl rfl ?_
  refine ss_iload_n (i := 1) h dX2_hasPond_1 2 rfl rfl rfl ?_
  refine ss_iload_n (i := 2) h dX2_hasPond_2 3 rfl rfl rfl ?_
  refine ss_cVv h (x_isCellL hL vL (d := d - 1) hd h1 h2 (by omega)) (lw_V q874 q771 q772 q84 q773) kl2 hL.ob 2 rfl md_X2_isCell rfl (by omega) (by decide) rfl dX2_hasPond_3 6 rfl rfl (Nat.le_of_ble_eq_true rfl) (by omega) (by omega) ?_
  refine ss_if_eq h dX2_hasPond_6 9 27 rfl (by decide) (by first | omega | exact sRg_b _) (fun c6 => ?_) (fun c6 => ?_)
  · skip
    replace c6 := bI_0.mp c6
    refine ss_iconst h dX2_hasPond_27 28 rfl ?_
    refine ss_zret h (by first | omega | exact bI_z _) dX2_hasPond_28 (by omega) (by omega) ?_
    rw [hP9]
    exact ⟨vI_c (by first | omega | (unfold pondS; rw [if_neg (by rw [c6]; decide)])), rfl, rfl, rfl, rfl⟩
  · skip
    replace c6 := bI_n.mp c6
    have hc := placeB_t.mp c6
    have hpc := hp (10 * q + p) (by omega) (by omega)
    have hpe : z (120 + (10 * q + p)) = pondS z p q := by unfold pondS; rw [if_pos c6]; congr 1; omega
    refine ss_aload_n (i := 0) h dX2_hasPond_9 10 rfl rfl rfl ?_
    refine ss_getS h kl2 19 19 rfl (by decide) rfl hL.ob q211 dX2_hasPond_10 13 rfl hL.r_pond ?_
    refine ss_bipush h dX2_hasPond_13 15 rfl (by decide +kernel) ?_
    refine ss_iload_n (i := 2) h dX2_hasPond_15 16 rfl rfl rfl ?_
    refine ss_imul h dX2_hasPond_16 17 rfl ?_
    refine ss_iload_n (i := 1) h dX2_hasPond_17 18 rfl rfl rfl ?_
    refine ss_iadd h dX2_hasPond_18 19 rfl ?_
    refine ss_zaldV h hL.k_pond (by decide) (by omega) dX2_hasPond_19 20 rfl (vL.v_pond (by omega)) ?_
    refine ss_if_eq h dX2_hasPond_20 23 27 rfl (by decide) (by first | omega | exact sRg_b _) (fun c20 => ?_) (fun c20 => ?_)
    · skip
      rw [hpe] at c20 hpc
      refine ss_iconst h dX2_hasPond_27 28 rfl ?_
      refine ss_zret h (by first | omega | exact bI_z _) dX2_hasPond_28 (by omega) (by omega) ?_
      rw [hP9]
      exact ⟨vI_c (by first | omega | (unfold pondS; rw [if_neg (by rw [c6]; decide)])), rfl, rfl, rfl, rfl⟩
    · skip
      rw [hpe] at c20 hpc
      refine ss_iconst h dX2_hasPond_23 24 rfl ?_
      refine ss_goto h dX2_hasPond_24 28 (by decide) ?_
      refine ss_zret h (by first | omega | exact bI_z _) dX2_hasPond_28 (by omega) (by omega) ?_
      rw [hP9]
      exact ⟨vI_c (by first | omega | (unfold pondS; rw [if_neg (by rw [c6]; decide)])), rfl, rfl, rfl, rfl⟩
theorem x_seenFlies (hL : LOk Ω n K R l) (vL : LV z X l) {p q : Int} (hd : Dim z) (hp : ∀ c, 0 ≤ c → c < 100 → (0 ≤ z (20 + c) ∧ z (20 + c) ≤ 1000) ∧ (z (120 + c) = 0 ∨ z (120 + c) = 1)) (h1 : sRg p) (h2 : sRg q) (hl : 3 ≤ d) : sCt Ω yX2_seenFlies cX2_seenFlies 5 (some .int) d 0 0 [.ref l, vI p, vI q] n K X R (pV n K X R (some (vI (seenS z p q)))) := by
  have hd' := hd
  unfold Dim at hd'
  have hp1 : ∀ c, 0 ≤ c → c < 100 → z (120 + c) = 0 ∨ z (120 + c) = 1 := fun c a b => (hp c a b).2
  have pin := fun u v => pond_in hd hp1 u v
  refine sCt_of (by decide) (by simp [Value.category, vI, va_rf]) (Nat.le_of_ble_eq_true rfl) fun Γ P9 hP9 h => ?_
  show sG (_, _, _, _, _) Γ 0 0 _ _ _ _ 0 [some _, some _, some _, none, none] []
  obtain ⟨eA, eZ, eT⟩ := kz_EAST h.2.2.2.2.2.1.1
  obtain ⟨sA, sZ, sT⟩ := kz_SOUTH h.2.2.2.2.2.1.1
  refine ss_aload_n (i := 0) h dX2_seenFlies_0 1 rfl rfl rfl ?_
  refine ss_iload_n (i := 1) h dX2_seenFlies_1 2 rfl rfl rfl ?_
  refine ss_iload_n (i := 2) h dX2_seenFlies_2 3 rfl rfl rfl ?_
  refine ss_cVv h (x_isCellL hL vL (d := d - 1) hd h1 h2 (by omega)) (lw_V q874 q771 q772 q84 q773) kl2 hL.ob 2 rfl md_X2_isCell rfl (by omega) (by decide) rfl dX2_seenFlies_3 6 rfl rfl (Nat.le_of_ble_eq_true rfl) (by omega) (by omega) ?_
  refine ss_if_ne h dX2_seenFlies_6 9 11 rfl (by decide) (by first | omega | exact sRg_b _) (fun c6 => ?_) (fun c6 => ?_)
  · skip
    replace c6 := bI_1.mp c6
    have hc := placeB_t.mp c6
    have hfl := (hp (10 * q + p) (by omega) (by omega)).1
    have hse : seenS z p q = z (20 + (10 * q + p)) + 20 * pondS z p q + 5 * (pondS z p (q - 1) + pondS z (p + 1) q + pondS z p (q + 1) + pondS z (p - 1) q) := by
      unfold seenS
      rw [if_pos c6, show (20 : Int) + 10 * q + p = 20 + (10 * q + p) by omega]
    refine ss_aload_n (i := 0) h dX2_seenFlies_11 12 rfl rfl rfl ?_
    refine ss_getS h kl2 8 8 rfl (by decide) rfl hL.ob q189 dX2_seenFlies_12 15 rfl hL.r_flies ?_
    refine ss_bipush h dX2_seenFlies_15 17 rfl (by decide +kernel) ?_
    refine ss_iload_n (i := 2) h dX2_seenFlies_17 18 rfl rfl rfl ?_
    refine ss_imul h dX2_seenFlies_18 19 rfl ?_
    refine ss_iload_n (i := 1) h dX2_seenFlies_19 20 rfl rfl rfl ?_
    refine ss_iadd h dX2_seenFlies_20 21 rfl ?_
    refine ss_ialdV h hL.k_flies (by decide) (by omega) dX2_seenFlies_21 22 rfl (vL.v_flies (by omega)) ?_
    refine ss_aload_n (i := 0) h dX2_seenFlies_22 23 rfl rfl rfl ?_
    refine ss_iload_n (i := 1) h dX2_seenFlies_23 24 rfl rfl rfl ?_
    refine ss_iload_n (i := 2) h dX2_seenFlies_24 25 rfl rfl rfl ?_
    refine ss_cVv h (x_hasPond hL vL (d := d - 1) hd hp1 (by omega) (by omega) (by omega)) (lw_V q875 q876 q877 q84 q878) kl2 hL.ob 2 rfl md_X2_hasPond rfl (by omega) (by decide) rfl dX2_seenFlies_25 28 rfl rfl (Nat.le_of_ble_eq_true rfl) (by omega) (by omega) ?_
    have p0 := pin p q
    refine ss_cut (σ := Int) (fun s => s = 20 * pondS z p q) 37 (fun s => X) (fun s => [some (.ref l), some (vI p), some (vI q), none, none]) (fun s => [vI s, vI (z (20 + (10 * q + p)))]) (fun s h37 => ?_) (fun J37 => ?_)
    · skip
      refine ss_iadd h dX2_seenFlies_37 38 rfl ?_
      refine ss_ist_3 h dX2_seenFlies_38 39 rfl ?_
      refine ss_iconst h dX2_seenFlies_39 40 rfl ?_
      refine ss_ist_4 h dX2_seenFlies_40 42 rfl ?_
      subst h37
      refine ss_loop (σ := Int × Int) (Pp := fun w => sG _ Γ 0 0 n K X R 42 [some (.ref l), some (vI p), some (vI q), some (vI w.2), some (vI w.1)] []) (I := fun w => (0 ≤ w.1 ∧ w.1 ≤ 4) ∧ w.2 = z (20 + (10 * q + p)) + 20 * pondS z p q + 5 * ((if 0 < w.1 then pondS z p (q - 1) else 0) + (if 1 < w.1 then pondS z (p + 1) q else 0) + (if 2 < w.1 then pondS z p (q + 1) else 0) + (if 3 < w.1 then pondS z (p - 1) q else 0))) (fun w => (4 - w.1).toNat) (fun w hw ih => ?_) (0, _) ⟨by dsimp only; omega, by simp⟩
      obtain ⟨k, v⟩ := w
      dsimp only at hw ih ⊢
      obtain ⟨hk, hv⟩ := hw
      have q1 := pin p (q - 1)
      have q2 := pin (p + 1) q
      have q3 := pin p (q + 1)
      have q4 := pin (p - 1) q
      have ax := adX_in k
      have ay := adY_in k
      refine ss_iload h dX2_seenFlies_42 44 rfl rfl ?_
      refine ss_iconst h dX2_seenFlies_44 45 rfl ?_
      refine ss_icmp_ge h dX2_seenFlies_45 48 85 rfl (by decide) (by first | omega | exact sRg_b _) (by first | omega | exact sRg_b _) (fun c45 => ?_) (fun c45 => ?_)
      · skip
        refine ss_iload_n (i := 3) h dX2_seenFlies_85 86 rfl rfl rfl ?_
        refine ss_iret h dX2_seenFlies_86 (by omega) (by omega) ?_
        rw [hP9]
        exact ⟨vI_c (by rw [hse, hv, show k = 4 by omega]; simp), rfl, rfl, rfl, rfl⟩
      · skip
        refine ss_iload_n (i := 3) h dX2_seenFlies_48 49 rfl rfl rfl ?_
        refine ss_aload_n (i := 0) h dX2_seenFlies_49 50 rfl rfl rfl ?_
        refine ss_iload_n (i := 1) h dX2_seenFlies_50 51 rfl rfl rfl ?_
        refine ss_getsN h eZ q879 dX2_seenFlies_51 54 rfl ?_
        refine ss_iload h dX2_seenFlies_54 56 rfl rfl ?_
        refine ss_ialdC h eT (by decide) (by omega) (east_at (by omega)) dX2_seenFlies_56 57 rfl ?_
        refine ss_iadd h dX2_seenFlies_57 58 rfl ?_
        refine ss_iload_n (i := 2) h dX2_seenFlies_58 59 rfl rfl rfl ?_
        refine ss_getsN h sZ q880 dX2_seenFlies_59 62 rfl ?_
        refine ss_iload h dX2_seenFlies_62 64 rfl rfl ?_
        refine ss_ialdC h sT (by decide) (by omega) (south_at (by omega)) dX2_seenFlies_64 65 rfl ?_
        refine ss_iadd h dX2_seenFlies_65 66 rfl ?_
        refine ss_cVv h (x_hasPond hL vL (d := d - 1) hd hp1 (by omega) (by omega) (by omega)) (lw_V q875 q876 q877 q84 q878) kl2 hL.ob 2 rfl md_X2_hasPond rfl (by omega) (by decide) rfl dX2_seenFlies_66 69 rfl rfl (Nat.le_of_ble_eq_true rfl) (by omega) (by omega) ?_
        have p1 := pin (p + adX k) (q + adY k)
        refine ss_cut (σ := Int) (fun s => s = 5 * pondS z (p + adX k) (q + adY k)) 77 (fun s => X) (fun s => [some (.ref l), some (vI p), some (vI q), some (vI v), some (vI k)]) (fun s => [vI s, vI v]) (fun s h77 => ?_) (fun J77 => ?_)
        · skip
          subst h77
          refine ss_iadd h dX2_seenFlies_77 78 rfl ?_
          refine ss_ist_3 h dX2_seenFlies_78 79 rfl ?_
          refine ss_inc_4 h dX2_seenFlies_79 82 rfl ?_
          refine ss_goto h dX2_seenFlies_82 42 (by decide) ?_
          refine ih (k + 1, _) ⟨by dsimp only; omega, ?_⟩ (by dsimp only; omega)
          dsimp only
          rw [hv]
          have hk4 : k = 0 ∨ k = 1 ∨ k = 2 ∨ k = 3 := by omega
          rcases hk4 with rfl | rfl | rfl | rfl
          · rw [show p + adX 0 = p from Int.add_zero p, show q + adY 0 = q - 1 from rfl]; simp; try omega
          · rw [show q + adY 1 = q from Int.add_zero q, show p + adX 1 = p + 1 from rfl]; simp; try omega
          · rw [show p + adX 2 = p from Int.add_zero p, show q + adY 2 = q + 1 from rfl]; simp; try omega
          · rw [show q + adY 3 = q from Int.add_zero q, show p + adX 3 = p - 1 from rfl]; simp; try omega
        refine ss_if_eq h dX2_seenFlies_69 72 76 rfl (by decide) (by first | omega | exact sRg_b _) (fun c69 => ?_) (fun c69 => ?_)
        · skip
          refine ss_iconst h dX2_seenFlies_76 77 rfl ?_
          exact J77 _ (by omega)
        · skip
          refine ss_iconst h dX2_seenFlies_72 73 rfl ?_
          refine ss_goto h dX2_seenFlies_73 77 (by decide) ?_
          exact J77 _ (by omega)
    refine ss_if_eq h dX2_seenFlies_28 31 36 rfl (by decide) (by first | omega | exact sRg_b _) (fun c28 => ?_) (fun c28 => ?_)
    · skip
      refine ss_iconst h dX2_seenFlies_36 37 rfl ?_
      exact J37 _ (by omega)
    · skip
      refine ss_bipush h dX2_seenFlies_31 33 rfl (by decide +kernel) ?_
      refine ss_goto h dX2_seenFlies_33 37 (by decide) ?_
      exact J37 _ (by omega)
  · skip
    replace c6 := bI_0.mp c6
    refine ss_iconst h dX2_seenFlies_9 10 rfl ?_
    refine ss_iret h dX2_seenFlies_10 (by omega) (by omega) ?_
    rw [hP9]
    exact ⟨by unfold seenS; rw [if_neg (by rw [c6]; decide)], rfl, rfl, rfl, rfl⟩
theorem x_draw (hL : LOk Ω n K R l) (vL : LV z X l) {q : Int} (h1 : 1 ≤ q ∧ q ≤ 100) (h2 : sRg (z 2)) : sCt Ω yX2_draw cX2_draw 2 (some .int) d 0 0 [.ref l, vI q] n K X R (pA n K R (vI ((ushS (nxtS (z 2)) 8).tmod q)) (fun X' => X' = sUp X l 2 (nxtS (z 2)))) := by
  refine sCt_of (by decide) (by simp [Value.category, vI, va_rf]) (Nat.le_of_ble_eq_true rfl) fun Γ P9 hP9 h => ?_
  show sG (_, _, _, _, _) Γ 0 0 _ _ _ _ 0 [some _, some _] []
  refine ss_aload_n (i := 0) h dX2_draw_0 1 rfl rfl rfl ?_
  refine ss_ldc (z := 1664525) h dX2_draw_1 3 rfl q945 (by decide +kernel) ?_
  refine ss_aload_n (i := 0) h dX2_draw_3 4 rfl rfl rfl ?_
  refine ss_getIV h kl2 2 2 rfl (by decide) rfl hL.ob q176 dX2_draw_4 7 rfl (vL.f_state) ?_
  refine ss_imul h dX2_draw_7 8 rfl ?_
  refine ss_ldc (z := 1013904223) h dX2_draw_8 10 rfl q946 (by decide +kernel) ?_
  refine ss_iadd h dX2_draw_10 11 rfl ?_
  refine ss_wr ?_
  refine ss_putI h kl2 2 2 rfl (by decide) rfl hL.ob q176 (Or.inl rfl) (sWr_rg _) dX2_draw_11 14 rfl ?_
  refine ss_aload_n (i := 0) h dX2_draw_14 15 rfl rfl rfl ?_
  refine ss_getIV h kl2 2 2 rfl (by decide) rfl hL.ob q176 dX2_draw_15 18 rfl (sUp_ss) ?_
  refine ss_bipush h dX2_draw_18 20 rfl (by decide +kernel) ?_
  refine ss_iushr h dX2_draw_20 21 rfl (sI_of _).symm ?_
  refine ss_iload_n (i := 1) h dX2_draw_21 22 rfl rfl rfl ?_
  refine ss_irem h dX2_draw_22 23 rfl (sRg_of _) (by omega) (by omega) ?_
  refine ss_iret h dX2_draw_23 (by omega) (by omega) ?_
  rw [hP9]
  exact ⟨rfl, rfl, rfl, rfl, rfl⟩
end XM1

