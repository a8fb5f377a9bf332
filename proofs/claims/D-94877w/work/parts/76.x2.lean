/-! ===== the component: cats, yards, suits ===== -/
section XM2
variable {Ω : OmT} {n : Nat} {K : KT} {X : XT} {R : RT} {l b x : Nat} {z : WT} {d : Nat}
/-- flags are flags -/
def x01 (z : WT) : Prop := (∀ c, 0 ≤ c → c < 100 → (z (220 + c) = 0 ∨ z (220 + c) = 1) ∧ (z (320 + c) = 0 ∨ z (320 + c) = 1)) ∧ (∀ p, 0 ≤ p → p < 121 → z (720 + p) = 0 ∨ z (720 + p) = 1) ∧ ∀ i, 0 ≤ i → i < 20 → z (1920 + 3 * i + 2) = 0 ∨ z (1920 + 3 * i + 2) = 1
theorem x_hasCat (hL : LOk Ω n K R l) (vL : LV z X l) {p q : Int} (hd : Dim z) (h01 : x01 z) (h1 : -100 ≤ p ∧ p ≤ 100) (h2 : -100 ≤ q ∧ q ≤ 100) (hl : 2 ≤ d) : sCt Ω yX2_hasCat cX2_hasCat 6 (some .boolean) d 0 0 [.ref l, vI p, vI q] n K X R (pV n K X R (some (vI (bI (catS z p q))))) := by
  have hd' := hd
  unfold Dim at hd'
  refine sCt_of (by decide) (by simp [Value.category, vI, va_rf]) (Nat.le_of_ble_eq_true rfl) fun Γ P9 hP9 h => ?_
  show sG (_, _, _, _, _) Γ 0 0 _ _ _ _ 0 [some _, some _, some _, none, none, none] []
  refine ss_iconst h dX2_hasCat_0 1 rfl ?_
  refine ss_ist_3 h dX2_hasCat_1 2 rfl ?_
  refine ss_loop (σ := Int) (Pp := fun k => sG _ Γ 0 0 n K X R 2 [some (.ref l), some (vI p), some (vI q), some (vI k), none, none] []) (I := fun k => (0 ≤ k ∧ k ≤ 4) ∧ (0 < k → catC z p q = false) ∧ (1 < k → catC z (p - 1) q = false) ∧ (2 < k → catC z p (q - 1) = false) ∧ (3 < k → catC z (p - 1) (q - 1) = false)) (fun k => (4 - k).toNat) (fun k hk ih => ?_) 0 ⟨by omega, by omega, by omega, by omega, by omega⟩
  refine ss_iload_n (i := 3) h dX2_hasCat_2 3 rfl rfl rfl ?_
  refine ss_iconst h dX2_hasCat_3 4 rfl ?_
  refine ss_icmp_ge h dX2_hasCat_4 7 56 rfl (by decide) (by first | omega | exact sRg_b _) (by first | omega | exact sRg_b _) (fun c4 => ?_) (fun c4 => ?_)
  · skip
    refine ss_iconst h dX2_hasCat_56 57 rfl ?_
    refine ss_zret h (by first | omega | exact bI_z _) dX2_hasCat_57 (by omega) (by omega) ?_
    rw [hP9]
    refine ⟨vI_c (bI_f ?_), rfl, rfl, rfl, rfl⟩
    obtain ⟨-, g1, g2, g3, g4⟩ := hk
    unfold catS
    rw [g1 (by omega), g2 (by omega), g3 (by omega), g4 (by omega)]
    rfl
  · skip
    refine ss_iload_n (i := 1) h dX2_hasCat_7 8 rfl rfl rfl ?_
    refine ss_iload_n (i := 3) h dX2_hasCat_8 9 rfl rfl rfl ?_
    refine ss_iconst h dX2_hasCat_9 10 rfl ?_
    refine ss_irem h dX2_hasCat_10 11 rfl (by omega) (by omega) (by omega) ?_
    rw [Int.tmod_eq_emod_of_nonneg hk.1.1]
    refine ss_isub h dX2_hasCat_11 12 rfl ?_
    refine ss_ist_4 h dX2_hasCat_12 14 rfl ?_
    refine ss_iload_n (i := 2) h dX2_hasCat_14 15 rfl rfl rfl ?_
    refine ss_iload_n (i := 3) h dX2_hasCat_15 16 rfl rfl rfl ?_
    refine ss_iconst h dX2_hasCat_16 17 rfl ?_
    refine ss_idiv h dX2_hasCat_17 18 rfl (by omega) (by omega) (by omega) ?_
    rw [Int.tdiv_eq_ediv_of_nonneg hk.1.1]
    refine ss_isub h dX2_hasCat_18 19 rfl ?_
    refine ss_ist_5 h dX2_hasCat_19 21 rfl ?_
    refine ss_aload_n (i := 0) h dX2_hasCat_21 22 rfl rfl rfl ?_
    refine ss_iload h dX2_hasCat_22 24 rfl rfl ?_
    refine ss_iload h dX2_hasCat_24 26 rfl rfl ?_
    refine ss_cVv h (x_isCellL hL vL (d := d - 1) hd (by omega) (by omega) (by omega)) (lw_V q874 q771 q772 q84 q773) kl2 hL.ob 2 rfl md_X2_isCell rfl (by omega) (by decide) rfl dX2_hasCat_26 29 rfl rfl (Nat.le_of_ble_eq_true rfl) (by omega) (by omega) ?_
    refine ss_if_eq h dX2_hasCat_29 32 50 rfl (by decide) (by first | omega | exact sRg_b _) (fun c29 => ?_) (fun c29 => ?_)
    · skip
      replace c29 := bI_0.mp c29
      have hcn : catC z (p - k % 2) (q - k / 2) = false := by unfold catC; rw [c29]; rfl
      refine ss_inc_3 h dX2_hasCat_50 53 rfl ?_
      refine ss_goto h dX2_hasCat_53 2 (by decide) ?_
      refine ss_kl_4 (ss_kl_5 (ih (k + 1) ?_ (by omega)))
      have hk4 : k = 0 ∨ k = 1 ∨ k = 2 ∨ k = 3 := by omega
      obtain ⟨-, g1, g2, g3, g4⟩ := hk
      rcases hk4 with rfl | rfl | rfl | rfl
      · simp at hcn; exact ⟨by omega, fun _ => hcn, by omega, by omega, by omega⟩
      · simp at hcn; exact ⟨by omega, fun _ => g1 (by omega), fun _ => hcn, by omega, by omega⟩
      · simp at hcn; exact ⟨by omega, fun _ => g1 (by omega), fun _ => g2 (by omega), fun _ => hcn, by omega⟩
      · simp at hcn; exact ⟨by omega, fun _ => g1 (by omega), fun _ => g2 (by omega), fun _ => g3 (by omega), fun _ => hcn⟩
    · skip
      replace c29 := bI_n.mp c29
      have hc := placeB_t.mp c29
      have hcc := (h01.1 (10 * (q - k / 2) + (p - k % 2)) (by omega) (by omega)).2
      refine ss_aload_n (i := 0) h dX2_hasCat_32 33 rfl rfl rfl ?_
      refine ss_getS h kl2 21 21 rfl (by decide) rfl hL.ob q215 dX2_hasCat_33 36 rfl hL.r_cat ?_
      refine ss_bipush h dX2_hasCat_36 38 rfl (by decide +kernel) ?_
      refine ss_iload h dX2_hasCat_38 40 rfl rfl ?_
      refine ss_imul h dX2_hasCat_40 41 rfl ?_
      refine ss_iload h dX2_hasCat_41 43 rfl rfl ?_
      refine ss_iadd h dX2_hasCat_43 44 rfl ?_
      refine ss_zaldV h hL.k_cat (by decide) (by omega) dX2_hasCat_44 45 rfl (vL.v_cat (by omega)) ?_
      refine ss_if_eq h dX2_hasCat_45 48 50 rfl (by decide) (by first | omega | exact sRg_b _) (fun c45 => ?_) (fun c45 => ?_)
      · skip
        have hcn : catC z (p - k % 2) (q - k / 2) = false := by unfold catC; rw [show (320 : Int) + 10 * (q - k / 2) + (p - k % 2) = 320 + (10 * (q - k / 2) + (p - k % 2)) by omega, c45]; simp
        refine ss_inc_3 h dX2_hasCat_50 53 rfl ?_
        refine ss_goto h dX2_hasCat_53 2 (by decide) ?_
        refine ss_kl_4 (ss_kl_5 (ih (k + 1) ?_ (by omega)))
        have hk4 : k = 0 ∨ k = 1 ∨ k = 2 ∨ k = 3 := by omega
        obtain ⟨-, g1, g2, g3, g4⟩ := hk
        rcases hk4 with rfl | rfl | rfl | rfl
        · simp at hcn; exact ⟨by omega, fun _ => hcn, by omega, by omega, by omega⟩
        · simp at hcn; exact ⟨by omega, fun _ => g1 (by omega), fun _ => hcn, by omega, by omega⟩
        · simp at hcn; exact ⟨by omega, fun _ => g1 (by omega), fun _ => g2 (by omega), fun _ => hcn, by omega⟩
        · simp at hcn; exact ⟨by omega, fun _ => g1 (by omega), fun _ => g2 (by omega), fun _ => g3 (by omega), fun _ => hcn⟩
      · skip
        refine ss_iconst h dX2_hasCat_48 49 rfl ?_
        refine ss_zret h (by first | omega | exact bI_z _) dX2_hasCat_49 (by omega) (by omega) ?_
        rw [hP9]
        have hc1 : catC z (p - k % 2) (q - k / 2) = true := by
          unfold catC
          rw [c29, show (320 : Int) + 10 * (q - k / 2) + (p - k % 2) = 320 + (10 * (q - k / 2) + (p - k % 2)) by omega, show z (320 + (10 * (q - k / 2) + (p - k % 2))) = 1 by omega]
          rfl
        refine ⟨vI_c (bI_t ?_), rfl, rfl, rfl, rfl⟩
        have hk4 : k = 0 ∨ k = 1 ∨ k = 2 ∨ k = 3 := by omega
        unfold catS
        rcases hk4 with rfl | rfl | rfl | rfl <;> simp at hc1 <;> simp [hc1]
theorem x_besideX {v dr lf : Int} (h1 : -100 ≤ v ∧ v ≤ 100) (h2 : 0 ≤ dr ∧ dr ≤ 3) (h3 : lf = 0 ∨ lf = 1) : sCt Ω yX3_besideX cX3_besideX 4 (some .int) d 0 0 [.ref b, vI v, vI dr, vI lf] n K X R (pV n K X R (some (vI (if lf = 1 then lxS v dr else rxS v dr)))) := by
  refine sCt_of (by decide) (by simp [Value.category, vI, va_rf]) (Nat.le_of_ble_eq_true rfl) fun Γ P9 hP9 h => ?_
  show sG (_, _, _, _, _) Γ 0 0 _ _ _ _ 0 [some _, some _, some _, some _] []
  refine ss_iload_n (i := 2) h dX3_besideX_0 1 rfl rfl rfl ?_
  refine ss_if_eq h dX3_besideX_1 4 9 rfl (by decide) (by first | omega | exact sRg_b _) (fun c1 => ?_) (fun c1 => ?_)
  · skip
    refine ss_iload_n (i := 3) h dX3_besideX_9 10 rfl rfl rfl ?_
    refine ss_iload_n (i := 2) h dX3_besideX_10 11 rfl rfl rfl ?_
    refine ss_if_ne h dX3_besideX_11 14 18 rfl (by decide) (by first | omega | exact sRg_b _) (fun c11 => ?_) (fun c11 => ?_)
    · skip
      refine ss_iconst h dX3_besideX_18 19 rfl ?_
      refine ss_icmp_ne h dX3_besideX_19 22 28 rfl (by decide) (by first | omega | exact sRg_b _) (by first | omega | exact sRg_b _) (fun c19 => ?_) (fun c19 => ?_)
      · skip
        refine ss_iload_n (i := 1) h dX3_besideX_28 29 rfl rfl rfl ?_
        refine ss_goto h dX3_besideX_29 44 (by decide) ?_
        refine ss_iret h dX3_besideX_44 (by omega) (by omega) ?_
        rw [hP9]
        exact ⟨vI_c (by unfold lxS rxS; rcases h3 with rfl | rfl <;> simp <;> (repeat' split) <;> omega), rfl, rfl, rfl, rfl⟩
      · skip
        refine ss_iload_n (i := 1) h dX3_besideX_22 23 rfl rfl rfl ?_
        refine ss_iconst h dX3_besideX_23 24 rfl ?_
        refine ss_isub h dX3_besideX_24 25 rfl ?_
        refine ss_goto h dX3_besideX_25 44 (by decide) ?_
        refine ss_iret h dX3_besideX_44 (by omega) (by omega) ?_
        rw [hP9]
        exact ⟨vI_c (by unfold lxS rxS; rcases h3 with rfl | rfl <;> simp <;> (repeat' split) <;> omega), rfl, rfl, rfl, rfl⟩
    · skip
      refine ss_iconst h dX3_besideX_14 15 rfl ?_
      refine ss_goto h dX3_besideX_15 19 (by decide) ?_
      refine ss_icmp_ne h dX3_besideX_19 22 28 rfl (by decide) (by first | omega | exact sRg_b _) (by first | omega | exact sRg_b _) (fun c19 => ?_) (fun c19 => ?_)
      · skip
        refine ss_iload_n (i := 1) h dX3_besideX_28 29 rfl rfl rfl ?_
        refine ss_goto h dX3_besideX_29 44 (by decide) ?_
        refine ss_iret h dX3_besideX_44 (by omega) (by omega) ?_
        rw [hP9]
        exact ⟨vI_c (by unfold lxS rxS; rcases h3 with rfl | rfl <;> simp <;> (repeat' split) <;> omega), rfl, rfl, rfl, rfl⟩
      · skip
        refine ss_iload_n (i := 1) h dX3_besideX_22 23 rfl rfl rfl ?_
        refine ss_iconst h dX3_besideX_23 24 rfl ?_
        refine ss_isub h dX3_besideX_24 25 rfl ?_
        refine ss_goto h dX3_besideX_25 44 (by decide) ?_
        refine ss_iret h dX3_besideX_44 (by omega) (by omega) ?_
        rw [hP9]
        exact ⟨vI_c (by unfold lxS rxS; rcases h3 with rfl | rfl <;> simp <;> (repeat' split) <;> omega), rfl, rfl, rfl, rfl⟩
  · skip
    refine ss_iload_n (i := 2) h dX3_besideX_4 5 rfl rfl rfl ?_
    refine ss_iconst h dX3_besideX_5 6 rfl ?_
    refine ss_icmp_ne h dX3_besideX_6 9 32 rfl (by decide) (by first | omega | exact sRg_b _) (by first | omega | exact sRg_b _) (fun c6 => ?_) (fun c6 => ?_)
    · skip
      refine ss_iload_n (i := 2) h dX3_besideX_32 33 rfl rfl rfl ?_
      refine ss_iconst h dX3_besideX_33 34 rfl ?_
      refine ss_icmp_ne h dX3_besideX_34 37 43 rfl (by decide) (by first | omega | exact sRg_b _) (by first | omega | exact sRg_b _) (fun c34 => ?_) (fun c34 => ?_)
      · skip
        refine ss_iload_n (i := 1) h dX3_besideX_43 44 rfl rfl rfl ?_
        refine ss_iret h dX3_besideX_44 (by omega) (by omega) ?_
        rw [hP9]
        exact ⟨vI_c (by unfold lxS rxS; rcases h3 with rfl | rfl <;> simp <;> (repeat' split) <;> omega), rfl, rfl, rfl, rfl⟩
      · skip
        refine ss_iload_n (i := 1) h dX3_besideX_37 38 rfl rfl rfl ?_
        refine ss_iconst h dX3_besideX_38 39 rfl ?_
        refine ss_isub h dX3_besideX_39 40 rfl ?_
        refine ss_goto h dX3_besideX_40 44 (by decide) ?_
        refine ss_iret h dX3_besideX_44 (by omega) (by omega) ?_
        rw [hP9]
        exact ⟨vI_c (by unfold lxS rxS; rcases h3 with rfl | rfl <;> simp <;> (repeat' split) <;> omega), rfl, rfl, rfl, rfl⟩
    · skip
      refine ss_iload_n (i := 3) h dX3_besideX_9 10 rfl rfl rfl ?_
      refine ss_iload_n (i := 2) h dX3_besideX_10 11 rfl rfl rfl ?_
      refine ss_if_ne h dX3_besideX_11 14 18 rfl (by decide) (by first | omega | exact sRg_b _) (fun c11 => ?_) (fun c11 => ?_)
      · skip
        refine ss_iconst h dX3_besideX_18 19 rfl ?_
        refine ss_icmp_ne h dX3_besideX_19 22 28 rfl (by decide) (by first | omega | exact sRg_b _) (by first | omega | exact sRg_b _) (fun c19 => ?_) (fun c19 => ?_)
        · skip
          refine ss_iload_n (i := 1) h dX3_besideX_28 29 rfl rfl rfl ?_
          refine ss_goto h dX3_besideX_29 44 (by decide) ?_
          refine ss_iret h dX3_besideX_44 (by omega) (by omega) ?_
          rw [hP9]
          exact ⟨vI_c (by unfold lxS rxS; rcases h3 with rfl | rfl <;> simp <;> (repeat' split) <;> omega), rfl, rfl, rfl, rfl⟩
        · skip
          refine ss_iload_n (i := 1) h dX3_besideX_22 23 rfl rfl rfl ?_
          refine ss_iconst h dX3_besideX_23 24 rfl ?_
          refine ss_isub h dX3_besideX_24 25 rfl ?_
          refine ss_goto h dX3_besideX_25 44 (by decide) ?_
          refine ss_iret h dX3_besideX_44 (by omega) (by omega) ?_
          rw [hP9]
          exact ⟨vI_c (by unfold lxS rxS; rcases h3 with rfl | rfl <;> simp <;> (repeat' split) <;> omega), rfl, rfl, rfl, rfl⟩
      · skip
        refine ss_iconst h dX3_besideX_14 15 rfl ?_
        refine ss_goto h dX3_besideX_15 19 (by decide) ?_
        refine ss_icmp_ne h dX3_besideX_19 22 28 rfl (by decide) (by first | omega | exact sRg_b _) (by first | omega | exact sRg_b _) (fun c19 => ?_) (fun c19 => ?_)
        · skip
          refine ss_iload_n (i := 1) h dX3_besideX_28 29 rfl rfl rfl ?_
          refine ss_goto h dX3_besideX_29 44 (by decide) ?_
          refine ss_iret h dX3_besideX_44 (by omega) (by omega) ?_
          rw [hP9]
          exact ⟨vI_c (by unfold lxS rxS; rcases h3 with rfl | rfl <;> simp <;> (repeat' split) <;> omega), rfl, rfl, rfl, rfl⟩
        · skip
          refine ss_iload_n (i := 1) h dX3_besideX_22 23 rfl rfl rfl ?_
          refine ss_iconst h dX3_besideX_23 24 rfl ?_
          refine ss_isub h dX3_besideX_24 25 rfl ?_
          refine ss_goto h dX3_besideX_25 44 (by decide) ?_
          refine ss_iret h dX3_besideX_44 (by omega) (by omega) ?_
          rw [hP9]
          exact ⟨vI_c (by unfold lxS rxS; rcases h3 with rfl | rfl <;> simp <;> (repeat' split) <;> omega), rfl, rfl, rfl, rfl⟩
theorem x_besideY {v dr lf : Int} (h1 : -100 ≤ v ∧ v ≤ 100) (h2 : 0 ≤ dr ∧ dr ≤ 3) (h3 : lf = 0 ∨ lf = 1) : sCt Ω yX3_besideY cX3_besideY 4 (some .int) d 0 0 [.ref b, vI v, vI dr, vI lf] n K X R (pV n K X R (some (vI (if lf = 1 then lyS v dr else ryS v dr)))) := by
  refine sCt_of (by decide) (by simp [Value.category, vI, va_rf]) (Nat.le_of_ble_eq_true rfl) fun Γ P9 hP9 h => ?_
  show sG (_, _, _, _, _) Γ 0 0 _ _ _ _ 0 [some _, some _, some _, some _] []
  refine ss_iload_n (i := 2) h dX3_besideY_0 1 rfl rfl rfl ?_
  refine ss_iconst h dX3_besideY_1 2 rfl ?_
  refine ss_icmp_eq h dX3_besideY_2 5 10 rfl (by decide) (by first | omega | exact sRg_b _) (by first | omega | exact sRg_b _) (fun c2 => ?_) (fun c2 => ?_)
  · skip
    refine ss_iload_n (i := 3) h dX3_besideY_10 11 rfl rfl rfl ?_
    refine ss_iload_n (i := 2) h dX3_besideY_11 12 rfl rfl rfl ?_
    refine ss_iconst h dX3_besideY_12 13 rfl ?_
    refine ss_icmp_ne h dX3_besideY_13 16 20 rfl (by decide) (by first | omega | exact sRg_b _) (by first | omega | exact sRg_b _) (fun c13 => ?_) (fun c13 => ?_)
    · skip
      refine ss_iconst h dX3_besideY_20 21 rfl ?_
      refine ss_icmp_ne h dX3_besideY_21 24 30 rfl (by decide) (by first | omega | exact sRg_b _) (by first | omega | exact sRg_b _) (fun c21 => ?_) (fun c21 => ?_)
      · skip
        refine ss_iload_n (i := 1) h dX3_besideY_30 31 rfl rfl rfl ?_
        refine ss_goto h dX3_besideY_31 45 (by decide) ?_
        refine ss_iret h dX3_besideY_45 (by omega) (by omega) ?_
        rw [hP9]
        exact ⟨vI_c (by unfold lyS ryS; rcases h3 with rfl | rfl <;> simp <;> (repeat' split) <;> omega), rfl, rfl, rfl, rfl⟩
      · skip
        refine ss_iload_n (i := 1) h dX3_besideY_24 25 rfl rfl rfl ?_
        refine ss_iconst h dX3_besideY_25 26 rfl ?_
        refine ss_isub h dX3_besideY_26 27 rfl ?_
        refine ss_goto h dX3_besideY_27 45 (by decide) ?_
        refine ss_iret h dX3_besideY_45 (by omega) (by omega) ?_
        rw [hP9]
        exact ⟨vI_c (by unfold lyS ryS; rcases h3 with rfl | rfl <;> simp <;> (repeat' split) <;> omega), rfl, rfl, rfl, rfl⟩
    · skip
      refine ss_iconst h dX3_besideY_16 17 rfl ?_
      refine ss_goto h dX3_besideY_17 21 (by decide) ?_
      refine ss_icmp_ne h dX3_besideY_21 24 30 rfl (by decide) (by first | omega | exact sRg_b _) (by first | omega | exact sRg_b _) (fun c21 => ?_) (fun c21 => ?_)
      · skip
        refine ss_iload_n (i := 1) h dX3_besideY_30 31 rfl rfl rfl ?_
        refine ss_goto h dX3_besideY_31 45 (by decide) ?_
        refine ss_iret h dX3_besideY_45 (by omega) (by omega) ?_
        rw [hP9]
        exact ⟨vI_c (by unfold lyS ryS; rcases h3 with rfl | rfl <;> simp <;> (repeat' split) <;> omega), rfl, rfl, rfl, rfl⟩
      · skip
        refine ss_iload_n (i := 1) h dX3_besideY_24 25 rfl rfl rfl ?_
        refine ss_iconst h dX3_besideY_25 26 rfl ?_
        refine ss_isub h dX3_besideY_26 27 rfl ?_
        refine ss_goto h dX3_besideY_27 45 (by decide) ?_
        refine ss_iret h dX3_besideY_45 (by omega) (by omega) ?_
        rw [hP9]
        exact ⟨vI_c (by unfold lyS ryS; rcases h3 with rfl | rfl <;> simp <;> (repeat' split) <;> omega), rfl, rfl, rfl, rfl⟩
  · skip
    refine ss_iload_n (i := 2) h dX3_besideY_5 6 rfl rfl rfl ?_
    refine ss_iconst h dX3_besideY_6 7 rfl ?_
    refine ss_icmp_ne h dX3_besideY_7 10 34 rfl (by decide) (by first | omega | exact sRg_b _) (by first | omega | exact sRg_b _) (fun c7 => ?_) (fun c7 => ?_)
    · skip
      refine ss_iload_n (i := 2) h dX3_besideY_34 35 rfl rfl rfl ?_
      refine ss_if_ne h dX3_besideY_35 38 44 rfl (by decide) (by first | omega | exact sRg_b _) (fun c35 => ?_) (fun c35 => ?_)
      · skip
        refine ss_iload_n (i := 1) h dX3_besideY_44 45 rfl rfl rfl ?_
        refine ss_iret h dX3_besideY_45 (by omega) (by omega) ?_
        rw [hP9]
        exact ⟨vI_c (by unfold lyS ryS; rcases h3 with rfl | rfl <;> simp <;> (repeat' split) <;> omega), rfl, rfl, rfl, rfl⟩
      · skip
        refine ss_iload_n (i := 1) h dX3_besideY_38 39 rfl rfl rfl ?_
        refine ss_iconst h dX3_besideY_39 40 rfl ?_
        refine ss_isub h dX3_besideY_40 41 rfl ?_
        refine ss_goto h dX3_besideY_41 45 (by decide) ?_
        refine ss_iret h dX3_besideY_45 (by omega) (by omega) ?_
        rw [hP9]
        exact ⟨vI_c (by unfold lyS ryS; rcases h3 with rfl | rfl <;> simp <;> (repeat' split) <;> omega), rfl, rfl, rfl, rfl⟩
    · skip
      refine ss_iload_n (i := 3) h dX3_besideY_10 11 rfl rfl rfl ?_
      refine ss_iload_n (i := 2) h dX3_besideY_11 12 rfl rfl rfl ?_
      refine ss_iconst h dX3_besideY_12 13 rfl ?_
      refine ss_icmp_ne h dX3_besideY_13 16 20 rfl (by decide) (by first | omega | exact sRg_b _) (by first | omega | exact sRg_b _) (fun c13 => ?_) (fun c13 => ?_)
      · skip
        refine ss_iconst h dX3_besideY_20 21 rfl ?_
        refine ss_icmp_ne h dX3_besideY_21 24 30 rfl (by decide) (by first | omega | exact sRg_b _) (by first | omega | exact sRg_b _) (fun c21 => ?_) (fun c21 => ?_)
        · skip
          refine ss_iload_n (i := 1) h dX3_besideY_30 31 rfl rfl rfl ?_
          refine ss_goto h dX3_besideY_31 45 (by decide) ?_
          refine ss_iret h dX3_besideY_45 (by omega) (by omega) ?_
          rw [hP9]
          exact ⟨vI_c (by unfold lyS ryS; rcases h3 with rfl | rfl <;> simp <;> (repeat' split) <;> omega), rfl, rfl, rfl, rfl⟩
        · skip
          refine ss_iload_n (i := 1) h dX3_besideY_24 25 rfl rfl rfl ?_
          refine ss_iconst h dX3_besideY_25 26 rfl ?_
          refine ss_isub h dX3_besideY_26 27 rfl ?_
          refine ss_goto h dX3_besideY_27 45 (by decide) ?_
          refine ss_iret h dX3_besideY_45 (by omega) (by omega) ?_
          rw [hP9]
          exact ⟨vI_c (by unfold lyS ryS; rcases h3 with rfl | rfl <;> simp <;> (repeat' split) <;> omega), rfl, rfl, rfl, rfl⟩
      · skip
        refine ss_iconst h dX3_besideY_16 17 rfl ?_
        refine ss_goto h dX3_besideY_17 21 (by decide) ?_
        refine ss_icmp_ne h dX3_besideY_21 24 30 rfl (by decide) (by first | omega | exact sRg_b _) (by first | omega | exact sRg_b _) (fun c21 => ?_) (fun c21 => ?_)
        · skip
          refine ss_iload_n (i := 1) h dX3_besideY_30 31 rfl rfl rfl ?_
          refine ss_goto h dX3_besideY_31 45 (by decide) ?_
          refine ss_iret h dX3_besideY_45 (by omega) (by omega) ?_
          rw [hP9]
          exact ⟨vI_c (by unfold lyS ryS; rcases h3 with rfl | rfl <;> simp <;> (repeat' split) <;> omega), rfl, rfl, rfl, rfl⟩
        · skip
          refine ss_iload_n (i := 1) h dX3_besideY_24 25 rfl rfl rfl ?_
          refine ss_iconst h dX3_besideY_25 26 rfl ?_
          refine ss_isub h dX3_besideY_26 27 rfl ?_
          refine ss_goto h dX3_besideY_27 45 (by decide) ?_
          refine ss_iret h dX3_besideY_45 (by omega) (by omega) ?_
          rw [hP9]
          exact ⟨vI_c (by unfold lyS ryS; rcases h3 with rfl | rfl <;> simp <;> (repeat' split) <;> omega), rfl, rfl, rfl, rfl⟩
theorem x_yardOf {p q dr : Int} (h1 : 0 ≤ dr ∧ dr ≤ 3) : sCt Ω yX3_yardOf cX3_yardOf 6 (some .int) d 0 0 [.ref b, vI p, vI q, vI dr] n K X R (pV n K X R (some (vI (yardS p q dr)))) := by
  refine sCt_of (by decide) (by simp [Value.category, vI, va_rf]) (Nat.le_of_ble_eq_true rfl) fun Γ P9 hP9 h => ?_
  show sG (_, _, _, _, _) Γ 0 0 _ _ _ _ 0 [some _, some _, some _, some _, none, none] []
  refine ss_iload_n (i := 3) h dX3_yardOf_0 1 rfl rfl rfl ?_
  refine ss_iconst h dX3_yardOf_1 2 rfl ?_
  refine ss_icmp_ne h dX3_yardOf_2 5 11 rfl (by decide) (by first | omega | exact sRg_b _) (by first | omega | exact sRg_b _) (fun c2 => ?_) (fun c2 => ?_)
  · skip
    refine ss_iload_n (i := 1) h dX3_yardOf_11 12 rfl rfl rfl ?_
    refine ss_ist_4 h dX3_yardOf_12 14 rfl ?_
    refine ss_iload_n (i := 3) h dX3_yardOf_14 15 rfl rfl rfl ?_
    refine ss_if_ne h dX3_yardOf_15 18 24 rfl (by decide) (by first | omega | exact sRg_b _) (fun c15 => ?_) (fun c15 => ?_)
    · skip
      refine ss_iload_n (i := 2) h dX3_yardOf_24 25 rfl rfl rfl ?_
      refine ss_ist_5 h dX3_yardOf_25 27 rfl ?_
      refine ss_iconst h dX3_yardOf_27 28 rfl ?_
      refine ss_bipush h dX3_yardOf_28 30 rfl (by decide +kernel) ?_
      refine ss_iload h dX3_yardOf_30 32 rfl rfl ?_
      refine ss_imul h dX3_yardOf_32 33 rfl ?_
      refine ss_iload h dX3_yardOf_33 35 rfl rfl ?_
      refine ss_iadd h dX3_yardOf_35 36 rfl ?_
      refine ss_imul h dX3_yardOf_36 37 rfl ?_
      refine ss_iload_n (i := 3) h dX3_yardOf_37 38 rfl rfl rfl ?_
      refine ss_if_eq h dX3_yardOf_38 41 46 rfl (by decide) (by first | omega | exact sRg_b _) (fun c38 => ?_) (fun c38 => ?_)
      · skip
        refine ss_iconst h dX3_yardOf_46 47 rfl ?_
        refine ss_goto h dX3_yardOf_47 51 (by decide) ?_
        refine ss_iadd h dX3_yardOf_51 52 rfl ?_
        refine ss_iret h dX3_yardOf_52 (by omega) (by omega) ?_
        rw [hP9]
        exact ⟨vI_c (by unfold yardS; (repeat' split) <;> omega), rfl, rfl, rfl, rfl⟩
      · skip
        refine ss_iload_n (i := 3) h dX3_yardOf_41 42 rfl rfl rfl ?_
        refine ss_iconst h dX3_yardOf_42 43 rfl ?_
        refine ss_icmp_ne h dX3_yardOf_43 46 50 rfl (by decide) (by first | omega | exact sRg_b _) (by first | omega | exact sRg_b _) (fun c43 => ?_) (fun c43 => ?_)
        · skip
          refine ss_iconst h dX3_yardOf_50 51 rfl ?_
          refine ss_iadd h dX3_yardOf_51 52 rfl ?_
          refine ss_iret h dX3_yardOf_52 (by omega) (by omega) ?_
          rw [hP9]
          exact ⟨vI_c (by unfold yardS; (repeat' split) <;> omega), rfl, rfl, rfl, rfl⟩
        · skip
          refine ss_iconst h dX3_yardOf_46 47 rfl ?_
          refine ss_goto h dX3_yardOf_47 51 (by decide) ?_
          refine ss_iadd h dX3_yardOf_51 52 rfl ?_
          refine ss_iret h dX3_yardOf_52 (by omega) (by omega) ?_
          rw [hP9]
          exact ⟨vI_c (by unfold yardS; (repeat' split) <;> omega), rfl, rfl, rfl, rfl⟩
    · skip
      refine ss_iload_n (i := 2) h dX3_yardOf_18 19 rfl rfl rfl ?_
      refine ss_iconst h dX3_yardOf_19 20 rfl ?_
      refine ss_isub h dX3_yardOf_20 21 rfl ?_
      refine ss_goto h dX3_yardOf_21 25 (by decide) ?_
      refine ss_ist_5 h dX3_yardOf_25 27 rfl ?_
      refine ss_iconst h dX3_yardOf_27 28 rfl ?_
      refine ss_bipush h dX3_yardOf_28 30 rfl (by decide +kernel) ?_
      refine ss_iload h dX3_yardOf_30 32 rfl rfl ?_
      refine ss_imul h dX3_yardOf_32 33 rfl ?_
      refine ss_iload h dX3_yardOf_33 35 rfl rfl ?_
      refine ss_iadd h dX3_yardOf_35 36 rfl ?_
      refine ss_imul h dX3_yardOf_36 37 rfl ?_
      refine ss_iload_n (i := 3) h dX3_yardOf_37 38 rfl rfl rfl ?_
      refine ss_if_eq h dX3_yardOf_38 41 46 rfl (by decide) (by first | omega | exact sRg_b _) (fun c38 => ?_) (fun c38 => ?_)
      · skip
        refine ss_iconst h dX3_yardOf_46 47 rfl ?_
        refine ss_goto h dX3_yardOf_47 51 (by decide) ?_
        refine ss_iadd h dX3_yardOf_51 52 rfl ?_
        refine ss_iret h dX3_yardOf_52 (by omega) (by omega) ?_
        rw [hP9]
        exact ⟨vI_c (by unfold yardS; (repeat' split) <;> omega), rfl, rfl, rfl, rfl⟩
      · skip
        refine ss_iload_n (i := 3) h dX3_yardOf_41 42 rfl rfl rfl ?_
        refine ss_iconst h dX3_yardOf_42 43 rfl ?_
        refine ss_icmp_ne h dX3_yardOf_43 46 50 rfl (by decide) (by first | omega | exact sRg_b _) (by first | omega | exact sRg_b _) (fun c43 => ?_) (fun c43 => ?_)
        · skip
          refine ss_iconst h dX3_yardOf_50 51 rfl ?_
          refine ss_iadd h dX3_yardOf_51 52 rfl ?_
          refine ss_iret h dX3_yardOf_52 (by omega) (by omega) ?_
          rw [hP9]
          exact ⟨vI_c (by unfold yardS; (repeat' split) <;> omega), rfl, rfl, rfl, rfl⟩
        · skip
          refine ss_iconst h dX3_yardOf_46 47 rfl ?_
          refine ss_goto h dX3_yardOf_47 51 (by decide) ?_
          refine ss_iadd h dX3_yardOf_51 52 rfl ?_
          refine ss_iret h dX3_yardOf_52 (by omega) (by omega) ?_
          rw [hP9]
          exact ⟨vI_c (by unfold yardS; (repeat' split) <;> omega), rfl, rfl, rfl, rfl⟩
  · skip
    refine ss_iload_n (i := 1) h dX3_yardOf_5 6 rfl rfl rfl ?_
    refine ss_iconst h dX3_yardOf_6 7 rfl ?_
    refine ss_isub h dX3_yardOf_7 8 rfl ?_
    refine ss_goto h dX3_yardOf_8 12 (by decide) ?_
    refine ss_ist_4 h dX3_yardOf_12 14 rfl ?_
    refine ss_iload_n (i := 3) h dX3_yardOf_14 15 rfl rfl rfl ?_
    refine ss_if_ne h dX3_yardOf_15 18 24 rfl (by decide) (by first | omega | exact sRg_b _) (fun c15 => ?_) (fun c15 => ?_)
    · skip
      refine ss_iload_n (i := 2) h dX3_yardOf_24 25 rfl rfl rfl ?_
      refine ss_ist_5 h dX3_yardOf_25 27 rfl ?_
      refine ss_iconst h dX3_yardOf_27 28 rfl ?_
      refine ss_bipush h dX3_yardOf_28 30 rfl (by decide +kernel) ?_
      refine ss_iload h dX3_yardOf_30 32 rfl rfl ?_
      refine ss_imul h dX3_yardOf_32 33 rfl ?_
      refine ss_iload h dX3_yardOf_33 35 rfl rfl ?_
      refine ss_iadd h dX3_yardOf_35 36 rfl ?_
      refine ss_imul h dX3_yardOf_36 37 rfl ?_
      refine ss_iload_n (i := 3) h dX3_yardOf_37 38 rfl rfl rfl ?_
      refine ss_if_eq h dX3_yardOf_38 41 46 rfl (by decide) (by first | omega | exact sRg_b _) (fun c38 => ?_) (fun c38 => ?_)
      · skip
        refine ss_iconst h dX3_yardOf_46 47 rfl ?_
        refine ss_goto h dX3_yardOf_47 51 (by decide) ?_
        refine ss_iadd h dX3_yardOf_51 52 rfl ?_
        refine ss_iret h dX3_yardOf_52 (by omega) (by omega) ?_
        rw [hP9]
        exact ⟨vI_c (by unfold yardS; (repeat' split) <;> omega), rfl, rfl, rfl, rfl⟩
      · skip
        refine ss_iload_n (i := 3) h dX3_yardOf_41 42 rfl rfl rfl ?_
        refine ss_iconst h dX3_yardOf_42 43 rfl ?_
        refine ss_icmp_ne h dX3_yardOf_43 46 50 rfl (by decide) (by first | omega | exact sRg_b _) (by first | omega | exact sRg_b _) (fun c43 => ?_) (fun c43 => ?_)
        · skip
          refine ss_iconst h dX3_yardOf_50 51 rfl ?_
          refine ss_iadd h dX3_yardOf_51 52 rfl ?_
          refine ss_iret h dX3_yardOf_52 (by omega) (by omega) ?_
          rw [hP9]
          exact ⟨vI_c (by unfold yardS; (repeat' split) <;> omega), rfl, rfl, rfl, rfl⟩
        · skip
          refine ss_iconst h dX3_yardOf_46 47 rfl ?_
          refine ss_goto h dX3_yardOf_47 51 (by decide) ?_
          refine ss_iadd h dX3_yardOf_51 52 rfl ?_
          refine ss_iret h dX3_yardOf_52 (by omega) (by omega) ?_
          rw [hP9]
          exact ⟨vI_c (by unfold yardS; (repeat' split) <;> omega), rfl, rfl, rfl, rfl⟩
    · skip
      refine ss_iload_n (i := 2) h dX3_yardOf_18 19 rfl rfl rfl ?_
      refine ss_iconst h dX3_yardOf_19 20 rfl ?_
      refine ss_isub h dX3_yardOf_20 21 rfl ?_
      refine ss_goto h dX3_yardOf_21 25 (by decide) ?_
      refine ss_ist_5 h dX3_yardOf_25 27 rfl ?_
      refine ss_iconst h dX3_yardOf_27 28 rfl ?_
      refine ss_bipush h dX3_yardOf_28 30 rfl (by decide +kernel) ?_
      refine ss_iload h dX3_yardOf_30 32 rfl rfl ?_
      refine ss_imul h dX3_yardOf_32 33 rfl ?_
      refine ss_iload h dX3_yardOf_33 35 rfl rfl ?_
      refine ss_iadd h dX3_yardOf_35 36 rfl ?_
      refine ss_imul h dX3_yardOf_36 37 rfl ?_
      refine ss_iload_n (i := 3) h dX3_yardOf_37 38 rfl rfl rfl ?_
      refine ss_if_eq h dX3_yardOf_38 41 46 rfl (by decide) (by first | omega | exact sRg_b _) (fun c38 => ?_) (fun c38 => ?_)
      · skip
        refine ss_iconst h dX3_yardOf_46 47 rfl ?_
        refine ss_goto h dX3_yardOf_47 51 (by decide) ?_
        refine ss_iadd h dX3_yardOf_51 52 rfl ?_
        refine ss_iret h dX3_yardOf_52 (by omega) (by omega) ?_
        rw [hP9]
        exact ⟨vI_c (by unfold yardS; (repeat' split) <;> omega), rfl, rfl, rfl, rfl⟩
      · skip
        refine ss_iload_n (i := 3) h dX3_yardOf_41 42 rfl rfl rfl ?_
        refine ss_iconst h dX3_yardOf_42 43 rfl ?_
        refine ss_icmp_ne h dX3_yardOf_43 46 50 rfl (by decide) (by first | omega | exact sRg_b _) (by first | omega | exact sRg_b _) (fun c43 => ?_) (fun c43 => ?_)
        · skip
          refine ss_iconst h dX3_yardOf_50 51 rfl ?_
          refine ss_iadd h dX3_yardOf_51 52 rfl ?_
          refine ss_iret h dX3_yardOf_52 (by omega) (by omega) ?_
          rw [hP9]
          exact ⟨vI_c (by unfold yardS; (repeat' split) <;> omega), rfl, rfl, rfl, rfl⟩
        · skip
          refine ss_iconst h dX3_yardOf_46 47 rfl ?_
          refine ss_goto h dX3_yardOf_47 51 (by decide) ?_
          refine ss_iadd h dX3_yardOf_51 52 rfl ?_
          refine ss_iret h dX3_yardOf_52 (by omega) (by omega) ?_
          rw [hP9]
          exact ⟨vI_c (by unfold yardS; (repeat' split) <;> omega), rfl, rfl, rfl, rfl⟩
def ownS (z : WT) (p q dr : Int) : Int := if pointB z p q = true ∧ pointB z (p + adX dr) (q + adY dr) = true then z (850 + yardS p q dr) else -1
theorem x_ownerAt (hL : LOk Ω n K R l) (vL : LV z X l) (hB : BOk Ω n K R b) (vB : WV z X b) {p q dr : Int} (hd : Dim z) (h0 : 0 ≤ dr ∧ dr ≤ 3) (h1 : -100 ≤ p ∧ p ≤ 100) (h2 : -100 ≤ q ∧ q ≤ 100) (hl : 3 ≤ d) : sCt Ω yX3_ownerAt cX3_ownerAt 5 (some .int) d 0 0 [.ref b, .ref l, vI p, vI q, vI dr] n K X R (pV n K X R (some (vI (ownS z p q dr)))) := by
  have hd' := hd
  unfold Dim at hd'
  have ax := adX_in dr
  have ay := adY_in dr
  refine sCt_of (by decide) (by simp [Value.category, vI, va_rf]) (Nat.le_of_ble_eq_true rfl) fun Γ P9 hP9 h => ?_
  show sG (_, _, _, _, _) Γ 0 0 _ _ _ _ 0 [some _, some _, some _, some _, some _] []
  obtain ⟨eA, eZ, eT⟩ := kz_EAST h.2.2.2.2.2.1.1
  obtain ⟨sA, sZ, sT⟩ := kz_SOUTH h.2.2.2.2.2.1.1
  refine ss_aload_n (i := 1) h dX3_ownerAt_0 1 rfl rfl rfl ?_
  refine ss_iload_n (i := 2) h dX3_ownerAt_1 2 rfl rfl rfl ?_
  refine ss_iload_n (i := 3) h dX3_ownerAt_2 3 rfl rfl rfl ?_
  refine ss_cVv h (x_isPoint hL vL (d := d - 1) hd (by omega) (by omega) (by omega)) (lw_V q861 q803 q804 q84 q805) kl2 hL.ob 2 rfl md_X2_isPoint rfl (by omega) (by decide) rfl dX3_ownerAt_3 6 rfl rfl (Nat.le_of_ble_eq_true rfl) (by omega) (by omega) ?_
  refine ss_if_eq h dX3_ownerAt_6 9 48 rfl (by decide) (by first | omega | exact sRg_b _) (fun c6 => ?_) (fun c6 => ?_)
  · skip
    replace c6 := bI_0.mp c6
    have e9 : ownS z p q dr = -1 := if_neg (fun w => by simp [*] at w)
    refine ss_iconst h dX3_ownerAt_48 49 rfl ?_
    refine ss_iret h dX3_ownerAt_49 (by omega) (by omega) ?_
    rw [hP9]
    exact ⟨by rw [e9], rfl, rfl, rfl, rfl⟩
  · skip
    replace c6 := bI_n.mp c6
    refine ss_aload_n (i := 1) h dX3_ownerAt_9 10 rfl rfl rfl ?_
    refine ss_iload_n (i := 2) h dX3_ownerAt_10 11 rfl rfl rfl ?_
    refine ss_getsN h eZ q857 dX3_ownerAt_11 14 rfl ?_
    refine ss_iload h dX3_ownerAt_14 16 rfl rfl ?_
    refine ss_ialdC h eT (by decide) (by omega) (east_at (by omega)) dX3_ownerAt_16 17 rfl ?_
    refine ss_iadd h dX3_ownerAt_17 18 rfl ?_
    refine ss_iload_n (i := 3) h dX3_ownerAt_18 19 rfl rfl rfl ?_
    refine ss_getsN h sZ q859 dX3_ownerAt_19 22 rfl ?_
    refine ss_iload h dX3_ownerAt_22 24 rfl rfl ?_
    refine ss_ialdC h sT (by decide) (by omega) (south_at (by omega)) dX3_ownerAt_24 25 rfl ?_
    refine ss_iadd h dX3_ownerAt_25 26 rfl ?_
    refine ss_cVv h (x_isPoint hL vL (d := d - 1) hd (by omega) (by omega) (by omega)) (lw_V q861 q803 q804 q84 q805) kl2 hL.ob 2 rfl md_X2_isPoint rfl (by omega) (by decide) rfl dX3_ownerAt_26 29 rfl rfl (Nat.le_of_ble_eq_true rfl) (by omega) (by omega) ?_
    refine ss_if_eq h dX3_ownerAt_29 32 48 rfl (by decide) (by first | omega | exact sRg_b _) (fun c29 => ?_) (fun c29 => ?_)
    · skip
      replace c29 := bI_0.mp c29
      have e9 : ownS z p q dr = -1 := if_neg (fun w => by simp [*] at w)
      refine ss_iconst h dX3_ownerAt_48 49 rfl ?_
      refine ss_iret h dX3_ownerAt_49 (by omega) (by omega) ?_
      rw [hP9]
      exact ⟨by rw [e9], rfl, rfl, rfl, rfl⟩
    · skip
      replace c29 := bI_n.mp c29
      refine ss_aload_n (i := 0) h dX3_ownerAt_32 33 rfl rfl rfl ?_
      refine ss_getS h kl3 0 0 rfl (by decide) rfl hB.ob q284 dX3_ownerAt_33 36 rfl hB.r_owner ?_
      refine ss_aload_n (i := 0) h dX3_ownerAt_36 37 rfl rfl rfl ?_
      refine ss_iload_n (i := 2) h dX3_ownerAt_37 38 rfl rfl rfl ?_
      refine ss_iload_n (i := 3) h dX3_ownerAt_38 39 rfl rfl rfl ?_
      refine ss_iload h dX3_ownerAt_39 41 rfl rfl ?_
      refine ss_cVv h (x_yardOf (d := d - 1) h0) (lw_V q886 q887 q888 q86 q889) kl3 hB.ob 3 rfl md_X3_yardOf rfl (by omega) (by decide) rfl dX3_ownerAt_41 44 rfl rfl (Nat.le_of_ble_eq_true rfl) (by omega) (by omega) ?_
      have hyd := yard_in hd h0 c6 c29
      have e9 : ownS z p q dr = z (850 + yardS p q dr) := if_pos ⟨c6, c29⟩
      refine ss_ialdV h hB.k_owner (by decide) (by omega) dX3_ownerAt_44 45 rfl (vB.v_owner (by omega)) ?_
      refine ss_goto h dX3_ownerAt_45 49 (by decide) ?_
      refine ss_iret h dX3_ownerAt_49 (by omega) (by omega) ?_
      rw [hP9]
      exact ⟨by rw [e9], rfl, rfl, rfl, rfl⟩
theorem othN_rg2 {z : WT} {s p q : Int} (hd : Dim z) (hp : pointB z p q = true) (hz : ∀ c, 0 ≤ c ∧ c < 242 → sRg (z (850 + c))) : ∀ k : Nat, k ≤ 4 → sRg (othN z s p q k)
  | 0, _ => by unfold othN; omega
  | k + 1, hk => by
    have ih := othN_rg2 (s := s) hd hp hz k (by omega)
    unfold othN oth1
    split
    · rename_i hq
      have := yard_in hd (h := k) (by omega) hp hq
      split
      · exact hz _ (by omega)
      · exact ih
    · exact ih
theorem x_otherAt (hL : LOk Ω n K R l) (vL : LV z X l) (hB : BOk Ω n K R b) (vB : WV z X b) {p q s : Int} (hd : Dim z) (hp : pointB z p q = true) (h3 : sRg s) (hl : 4 ≤ d) : sCt Ω yX3_otherAt cX3_otherAt 8 (some .int) d 0 0 [.ref b, .ref l, vI p, vI q, vI s] n K X R (pV n K X R (some (vI (othS z s p q)))) := by
  have hd' := hd
  unfold Dim at hd'
  have hp' := pointB_t.mp hp
  refine sCt_of (by decide) (by simp [Value.category, vI, va_rf]) (Nat.le_of_ble_eq_true rfl) fun Γ P9 hP9 h => ?_
  show sG (_, _, _, _, _) Γ 0 0 _ _ _ _ 0 [some _, some _, some _, some _, some _, none, none, none] []
  refine ss_rg fun hrg => ?_
  have hz : ∀ c, 0 ≤ c ∧ c < 242 → sRg (z (850 + c)) := fun c hc => by rw [← vB.v_owner hc]; exact hrg _ _
  refine ss_iconst h dX3_otherAt_0 1 rfl ?_
  refine ss_ist_5 h dX3_otherAt_1 3 rfl ?_
  refine ss_iconst h dX3_otherAt_3 4 rfl ?_
  refine ss_ist_6 h dX3_otherAt_4 6 rfl ?_
  refine ss_loop (σ := Nat) (Pp := fun k => sG _ Γ 0 0 n K X R 6 [some (.ref b), some (.ref l), some (vI p), some (vI q), some (vI s), some (vI (othN z s p q k)), some (vI k), none] []) (I := fun k => k ≤ 4 ∧ sRg (othN z s p q k)) (fun k => 4 - k) (fun k hk ih => ?_) 0 ⟨by omega, by unfold othN; omega⟩
  obtain ⟨hk, hor⟩ := hk
  refine ss_iload h dX3_otherAt_6 8 rfl rfl ?_
  refine ss_iconst h dX3_otherAt_8 9 rfl ?_
  refine ss_icmp_ge h dX3_otherAt_9 12 59 rfl (by decide) (by first | omega | exact sRg_b _) (by first | omega | exact sRg_b _) (fun c9 => ?_) (fun c9 => ?_)
  · skip
    refine ss_iload h dX3_otherAt_59 61 rfl rfl ?_
    refine ss_iret h dX3_otherAt_61 (by omega) (by omega) ?_
    rw [hP9]
    exact ⟨by unfold othS; rw [show k = 4 by omega], rfl, rfl, rfl, rfl⟩
  · skip
    refine ss_aload_n (i := 0) h dX3_otherAt_12 13 rfl rfl rfl ?_
    refine ss_aload_n (i := 1) h dX3_otherAt_13 14 rfl rfl rfl ?_
    refine ss_iload_n (i := 2) h dX3_otherAt_14 15 rfl rfl rfl ?_
    refine ss_iload_n (i := 3) h dX3_otherAt_15 16 rfl rfl rfl ?_
    refine ss_iload h dX3_otherAt_16 18 rfl rfl ?_
    refine ss_cVv h (x_ownerAt hL vL hB vB (d := d - 1) hd (by omega) (by omega) (by omega) (by omega)) (lw_V q882 q883 q884 q86 q885) kl3 hB.ob 4 rfl md_X3_ownerAt rfl (by omega) (by decide) rfl dX3_otherAt_18 21 rfl rfl (Nat.le_of_ble_eq_true rfl) (by omega) (by omega) ?_
    obtain ⟨o, ho⟩ : ∃ o, o = ownS z p q k := ⟨_, rfl⟩
    rw [← ho]
    have hos : sRg o := by
      rw [ho]
      unfold ownS
      split
      · rename_i hq
        have := yard_in hd (h := k) (by omega) hp hq.2
        exact hz _ (by omega)
      · omega
    have hst : othN z s p q (k + 1) = if o ≠ -1 ∧ o ≠ s ∧ (othN z s p q k = -1 ∨ o < othN z s p q k) then o else othN z s p q k := by
      show oth1 z s p q k (othN z s p q k) = _
      have ho2 : o = if pointB z (p + adX k) (q + adY k) = true then z (850 + yardS p q k) else -1 := by
        rw [ho]
        unfold ownS
        simp [hp]
      unfold oth1
      by_cases e : pointB z (p + adX k) (q + adY k) = true
      · rw [if_pos e] at ho2 ⊢
        rw [ho2]
      · rw [if_neg e] at ho2 ⊢
        rw [ho2, if_neg (fun w => w.1 rfl)]
    refine ss_ist_7 h dX3_otherAt_21 23 rfl ?_
    refine ss_iload h dX3_otherAt_23 25 rfl rfl ?_
    refine ss_iconst h dX3_otherAt_25 26 rfl ?_
    refine ss_icmp_eq h dX3_otherAt_26 29 53 rfl (by decide) (by first | omega | exact sRg_b _) (by first | omega | exact sRg_b _) (fun c26 => ?_) (fun c26 => ?_)
    · skip
      rw [if_neg (fun w => w.1 c26)] at hst
      refine ss_inc_6 h dX3_otherAt_53 56 rfl ?_
      refine ss_goto h dX3_otherAt_56 6 (by decide) ?_
      refine ss_kl_7 ?_
      have fin := ih (k + 1) ⟨by omega, by rw [hst]; omega⟩ (by omega)
      rw [hst] at fin
      exact fin
    · skip
      refine ss_iload h dX3_otherAt_29 31 rfl rfl ?_
      refine ss_iload h dX3_otherAt_31 33 rfl rfl ?_
      refine ss_icmp_eq h dX3_otherAt_33 36 53 rfl (by decide) (by first | omega | exact sRg_b _) (by first | omega | exact sRg_b _) (fun c33 => ?_) (fun c33 => ?_)
      · skip
        rw [if_neg (fun w => w.2.1 c33)] at hst
        refine ss_inc_6 h dX3_otherAt_53 56 rfl ?_
        refine ss_goto h dX3_otherAt_56 6 (by decide) ?_
        refine ss_kl_7 ?_
        have fin := ih (k + 1) ⟨by omega, by rw [hst]; omega⟩ (by omega)
        rw [hst] at fin
        exact fin
      · skip
        refine ss_iload h dX3_otherAt_36 38 rfl rfl ?_
        refine ss_iconst h dX3_otherAt_38 39 rfl ?_
        refine ss_icmp_eq h dX3_otherAt_39 42 49 rfl (by decide) (by first | omega | exact sRg_b _) (by first | omega | exact sRg_b _) (fun c39 => ?_) (fun c39 => ?_)
        · skip
          rw [if_pos (by omega)] at hst
          refine ss_iload h dX3_otherAt_49 51 rfl rfl ?_
          refine ss_ist_5 h dX3_otherAt_51 53 rfl ?_
          refine ss_inc_6 h dX3_otherAt_53 56 rfl ?_
          refine ss_goto h dX3_otherAt_56 6 (by decide) ?_
          refine ss_kl_7 ?_
          have fin := ih (k + 1) ⟨by omega, by rw [hst]; omega⟩ (by omega)
          rw [hst] at fin
          exact fin
        · skip
          refine ss_iload h dX3_otherAt_42 44 rfl rfl ?_
          refine ss_iload h dX3_otherAt_44 46 rfl rfl ?_
          refine ss_icmp_ge h dX3_otherAt_46 49 53 rfl (by decide) (by first | omega | exact sRg_b _) (by first | omega | exact sRg_b _) (fun c46 => ?_) (fun c46 => ?_)
          · skip
            rw [if_neg (by omega)] at hst
            refine ss_inc_6 h dX3_otherAt_53 56 rfl ?_
            refine ss_goto h dX3_otherAt_56 6 (by decide) ?_
            refine ss_kl_7 ?_
            have fin := ih (k + 1) ⟨by omega, by rw [hst]; omega⟩ (by omega)
            rw [hst] at fin
            exact fin
          · skip
            rw [if_pos (by omega)] at hst
            refine ss_iload h dX3_otherAt_49 51 rfl rfl ?_
            refine ss_ist_5 h dX3_otherAt_51 53 rfl ?_
            refine ss_inc_6 h dX3_otherAt_53 56 rfl ?_
            refine ss_goto h dX3_otherAt_56 6 (by decide) ?_
            refine ss_kl_7 ?_
            have fin := ih (k + 1) ⟨by omega, by rw [hst]; omega⟩ (by omega)
            rw [hst] at fin
            exact fin
theorem x_sues (hB : BOk Ω n K R b) (vB : WV z X b) {o s p q st : Int} (h6 : 0 ≤ z 6 ∧ z 6 ≤ 99) (h1 : sRg o) (h2 : sRg s) (h3 : sRg p) (h4 : sRg q) (h5 : sRg st) : sCt Ω yX3_sues cX3_sues 7 none d 0 0 [.ref b, vI o, vI s, vI p, vI q, vI st] n K X R (pN n K R (fun X' => WV (if o = -1 then z else sueS false z s o p q st) X' b ∧ sO [b, b + 3] X X')) := by
  refine sCt_of (by decide) (by simp [Value.category, vI, va_rf]) (Nat.le_of_ble_eq_true rfl) fun Γ P9 hP9 h => ?_
  show sG (_, _, _, _, _) Γ 0 0 _ _ _ _ 0 [some _, some _, some _, some _, some _, some _, none] []
  refine ss_iload_n (i := 1) h dX3_sues_0 1 rfl rfl rfl ?_
  refine ss_iconst h dX3_sues_1 2 rfl ?_
  refine ss_icmp_eq h dX3_sues_2 5 14 rfl (by decide) (by first | omega | exact sRg_b _) (by first | omega | exact sRg_b _) (fun c2 => ?_) (fun c2 => ?_)
  · skip
    refine ss_vret h dX3_sues_14 (by omega) (by omega) ?_
    rw [hP9]
    exact ⟨rfl, rfl, rfl, rfl, by first | (rw [if_pos c2]; exact vB) | (rw [if_neg c2]; unfold sueS; rw [if_pos c11]; exact vB), sO_rf _ _⟩
  · skip
    refine ss_aload_n (i := 0) h dX3_sues_5 6 rfl rfl rfl ?_
    refine ss_getIV h kl3 8 8 rfl (by decide) rfl hB.ob q300 dX3_sues_6 9 rfl (vB.f_suits) ?_
    refine ss_bipush h dX3_sues_9 11 rfl (by decide +kernel) ?_
    refine ss_icmp_ne h dX3_sues_11 14 15 rfl (by decide) (by first | omega | exact sRg_b _) (by first | omega | exact sRg_b _) (fun c11 => ?_) (fun c11 => ?_)
    · skip
      refine ss_iconst h dX3_sues_15 16 rfl ?_
      refine ss_aload_n (i := 0) h dX3_sues_16 17 rfl rfl rfl ?_
      refine ss_getIV h kl3 8 8 rfl (by decide) rfl hB.ob q300 dX3_sues_17 20 rfl (vB.f_suits) ?_
      refine ss_imul h dX3_sues_20 21 rfl ?_
      refine ss_ist_6 h dX3_sues_21 23 rfl ?_
      refine ss_aload_n (i := 0) h dX3_sues_23 24 rfl rfl rfl ?_
      refine ss_getS h kl3 2 2 rfl (by decide) rfl hB.ob q288 dX3_sues_24 27 rfl hB.r_suit ?_
      have c11' : z 6 ≠ 99 := c11
      refine ss_iload h dX3_sues_27 29 rfl rfl ?_
      refine ss_iload_n (i := 2) h dX3_sues_29 30 rfl rfl rfl ?_
      refine ss_iast h hB.k_suit (by decide) (by omega) (by omega) dX3_sues_30 31 rfl ?_
      refine ss_aload_n (i := 0) h dX3_sues_31 32 rfl rfl rfl ?_
      refine ss_getS h kl3 2 2 rfl (by decide) rfl hB.ob q288 dX3_sues_32 35 rfl hB.r_suit ?_
      refine ss_iload h dX3_sues_35 37 rfl rfl ?_
      refine ss_iconst h dX3_sues_37 38 rfl ?_
      refine ss_iadd h dX3_sues_38 39 rfl ?_
      refine ss_iload_n (i := 1) h dX3_sues_39 40 rfl rfl rfl ?_
      refine ss_iast h hB.k_suit (by decide) (by omega) (by omega) dX3_sues_40 41 rfl ?_
      refine ss_aload_n (i := 0) h dX3_sues_41 42 rfl rfl rfl ?_
      refine ss_getS h kl3 2 2 rfl (by decide) rfl hB.ob q288 dX3_sues_42 45 rfl hB.r_suit ?_
      refine ss_iload h dX3_sues_45 47 rfl rfl ?_
      refine ss_iconst h dX3_sues_47 48 rfl ?_
      refine ss_iadd h dX3_sues_48 49 rfl ?_
      refine ss_iload_n (i := 3) h dX3_sues_49 50 rfl rfl rfl ?_
      refine ss_iast h hB.k_suit (by decide) (by omega) (by omega) dX3_sues_50 51 rfl ?_
      refine ss_aload_n (i := 0) h dX3_sues_51 52 rfl rfl rfl ?_
      refine ss_getS h kl3 2 2 rfl (by decide) rfl hB.ob q288 dX3_sues_52 55 rfl hB.r_suit ?_
      refine ss_iload h dX3_sues_55 57 rfl rfl ?_
      refine ss_iconst h dX3_sues_57 58 rfl ?_
      refine ss_iadd h dX3_sues_58 59 rfl ?_
      refine ss_iload h dX3_sues_59 61 rfl rfl ?_
      refine ss_iast h hB.k_suit (by decide) (by omega) (by omega) dX3_sues_61 62 rfl ?_
      refine ss_aload_n (i := 0) h dX3_sues_62 63 rfl rfl rfl ?_
      refine ss_getS h kl3 2 2 rfl (by decide) rfl hB.ob q288 dX3_sues_63 66 rfl hB.r_suit ?_
      refine ss_iload h dX3_sues_66 68 rfl rfl ?_
      refine ss_iconst h dX3_sues_68 69 rfl ?_
      refine ss_iadd h dX3_sues_69 70 rfl ?_
      refine ss_iload h dX3_sues_70 72 rfl rfl ?_
      refine ss_iast h hB.k_suit (by decide) (by omega) (by omega) dX3_sues_72 73 rfl ?_
      refine ss_aload_n (i := 0) h dX3_sues_73 74 rfl rfl rfl ?_
      refine ss_dup h dX3_sues_74 75 rfl rfl ?_
      refine ss_getIV h kl3 8 8 rfl (by decide) rfl hB.ob q300 dX3_sues_75 78 rfl (show _ = z 6 by rw [sUp_o (by omega), sUp_o (by omega), sUp_o (by omega), sUp_o (by omega), sUp_o (by omega)]; exact vB.f_suits) ?_
      refine ss_iconst h dX3_sues_78 79 rfl ?_
      refine ss_iadd h dX3_sues_79 80 rfl ?_
      refine ss_putI h kl3 8 8 rfl (by decide) rfl hB.ob q300 (Or.inl rfl) (by omega) dX3_sues_80 83 rfl ?_
      refine ss_vret h dX3_sues_83 (by omega) (by omega) ?_
      rw [hP9]
      refine ⟨rfl, rfl, rfl, rfl, ?_, ?_⟩
      · rw [if_neg c2]
        unfold sueS suitW
        rw [if_neg c11, if_neg (by decide)]
        have g := ((((((vB.u_suit (i := 5 * z 6) (v := s) (by omega)).u_suit (i := 5 * z 6 + 1) (v := o) (by omega)).u_suit (i := 5 * z 6 + 2) (v := p) (by omega)).u_suit (i := 5 * z 6 + 3) (v := q) (by omega)).u_suit (i := 5 * z 6 + 4) (v := st) (by omega)).w_suits (v := z 6 + 1))
        rw [show (1340 : Int) + (5 * z 6 + 1) = 1340 + 5 * z 6 + 1 by omega, show (1340 : Int) + (5 * z 6 + 2) = 1340 + 5 * z 6 + 2 by omega, show (1340 : Int) + (5 * z 6 + 3) = 1340 + 5 * z 6 + 3 by omega, show (1340 : Int) + (5 * z 6 + 4) = 1340 + 5 * z 6 + 4 by omega] at g
        exact g
      · exact sO_tr (sO_tr (sO_tr (sO_tr (sO_tr (sO_up (by simp)) (sO_up (by simp))) (sO_up (by simp))) (sO_up (by simp))) (sO_up (by simp))) (sO_up (by simp))
    · skip
      refine ss_vret h dX3_sues_14 (by omega) (by omega) ?_
      rw [hP9]
      exact ⟨rfl, rfl, rfl, rfl, by first | (rw [if_pos c2]; exact vB) | (rw [if_neg c2]; unfold sueS; rw [if_pos c11]; exact vB), sO_rf _ _⟩
theorem x_areOne (hB : BOk Ω n K R b) {p q : Int} (h1 : 0 ≤ p ∧ p < 100) (h2 : 0 ≤ q ∧ q < 100) : sCt Ω yX3_areOne cX3_areOne 3 (some .boolean) d 0 0 [.ref b, vI p, vI q] n K X R (pV n K X R (some (vI (bI (decide (X (b + 8) p = X (b + 8) q)))))) := by
  refine sCt_of (by decide) (by simp [Value.category, vI, va_rf]) (Nat.le_of_ble_eq_true rfl) fun Γ P9 hP9 h => ?_
  show sG (_, _, _, _, _) Γ 0 0 _ _ _ _ 0 [some _, some _, some _] []
  refine ss_rg fun hrg => ?_
  refine ss_aload_n (i := 0) h dX3_areOne_0 1 rfl rfl rfl ?_
  refine ss_getS h kl3 7 7 rfl (by decide) rfl hB.ob q298 dX3_areOne_1 4 rfl hB.r_name ?_
  refine ss_iload_n (i := 1) h dX3_areOne_4 5 rfl rfl rfl ?_
  refine ss_iald h hB.k_name (by decide) (by omega) dX3_areOne_5 6 rfl ?_
  refine ss_aload_n (i := 0) h dX3_areOne_6 7 rfl rfl rfl ?_
  refine ss_getS h kl3 7 7 rfl (by decide) rfl hB.ob q298 dX3_areOne_7 10 rfl hB.r_name ?_
  refine ss_iload_n (i := 2) h dX3_areOne_10 11 rfl rfl rfl ?_
  refine ss_iald h hB.k_name (by decide) (by omega) dX3_areOne_11 12 rfl ?_
  refine ss_icmp_ne h dX3_areOne_12 15 19 rfl (by decide) (hrg _ _) (hrg _ _) (fun c12 => ?_) (fun c12 => ?_)
  · skip
    refine ss_iconst h dX3_areOne_19 20 rfl ?_
    refine ss_zret h (by first | omega | exact bI_z _) dX3_areOne_20 (by omega) (by omega) ?_
    rw [hP9]
    exact ⟨vI_c (by simp [bI, c12]), rfl, rfl, rfl, rfl⟩
  · skip
    refine ss_iconst h dX3_areOne_15 16 rfl ?_
    refine ss_goto h dX3_areOne_16 20 (by decide) ?_
    refine ss_zret h (by first | omega | exact bI_z _) dX3_areOne_20 (by omega) (by omega) ?_
    rw [hP9]
    exact ⟨vI_c (by simp [bI, c12]), rfl, rfl, rfl, rfl⟩
theorem x_isOpen (hL : LOk Ω n K R l) (vL : LV z X l) (hB : BOk Ω n K R b) (vB : WV z X b) {p q dr : Int} (hd : Dim z) (h0 : 0 ≤ dr ∧ dr ≤ 3) (hp : placeB z p q = true) (hl : 2 ≤ d) : sCt Ω yX3_isOpen cX3_isOpen 7 (some .boolean) d 0 0 [.ref b, .ref l, vI p, vI q, vI dr] n K X R (pV n K X R (some (vI (bI (openB z p q dr))))) := by
  have hd' := hd
  unfold Dim at hd'
  have hp' := placeB_t.mp hp
  have ax := adX_in dr
  have ay := adY_in dr
  have hsd := side_in hd h0 hp
  refine sCt_of (by decide) (by simp [Value.category, vI, va_rf]) (Nat.le_of_ble_eq_true rfl) fun Γ P9 hP9 h => ?_
  show sG (_, _, _, _, _) Γ 0 0 _ _ _ _ 0 [some _, some _, some _, some _, some _, none, none] []
  obtain ⟨eA, eZ, eT⟩ := kz_EAST h.2.2.2.2.2.1.1
  obtain ⟨sA, sZ, sT⟩ := kz_SOUTH h.2.2.2.2.2.1.1
  refine ss_rg fun hrg => ?_
  have hz : ∀ c, 0 ≤ c ∧ c < 242 → sRg (z (850 + c)) := fun c hc => by rw [← vB.v_owner hc]; exact hrg _ _
  refine ss_aload_n (i := 1) h dX3_isOpen_0 1 rfl rfl rfl ?_
  refine ss_iload_n (i := 2) h dX3_isOpen_1 2 rfl rfl rfl ?_
  refine ss_getsN h eZ q857 dX3_isOpen_2 5 rfl ?_
  refine ss_iload h dX3_isOpen_5 7 rfl rfl ?_
  refine ss_ialdC h eT (by decide) (by omega) (east_at (by omega)) dX3_isOpen_7 8 rfl ?_
  refine ss_iadd h dX3_isOpen_8 9 rfl ?_
  refine ss_iload_n (i := 3) h dX3_isOpen_9 10 rfl rfl rfl ?_
  refine ss_getsN h sZ q859 dX3_isOpen_10 13 rfl ?_
  refine ss_iload h dX3_isOpen_13 15 rfl rfl ?_
  refine ss_ialdC h sT (by decide) (by omega) (south_at (by omega)) dX3_isOpen_15 16 rfl ?_
  refine ss_iadd h dX3_isOpen_16 17 rfl ?_
  refine ss_cVv h (x_isCellL hL vL (d := d - 1) hd (by omega) (by omega) (by omega)) (lw_V q935 q771 q772 q84 q773) kl2 hL.ob 2 rfl md_X2_isCell rfl (by omega) (by decide) rfl dX3_isOpen_17 20 rfl rfl (Nat.le_of_ble_eq_true rfl) (by omega) (by omega) ?_
  refine ss_if_ne h dX3_isOpen_20 23 25 rfl (by decide) (by first | omega | exact sRg_b _) (fun c20 => ?_) (fun c20 => ?_)
  · skip
    replace c20 := bI_1.mp c20
    refine ss_cut (σ := Int) (fun s => s = if dr = 1 then p + 1 else p) 38 (fun s => X) (fun s => [some (.ref b), some (.ref l), some (vI p), some (vI q), some (vI dr), none, none]) (fun s => [vI s]) (fun s h38 => ?_) (fun J38 => ?_)
    · skip
      refine ss_ist_5 h dX3_isOpen_38 40 rfl ?_
      refine ss_cut (σ := Int) (fun t => t = if dr = 2 then q + 1 else q) 53 (fun t => X) (fun t => [some (.ref b), some (.ref l), some (vI p), some (vI q), some (vI dr), some (vI s), none]) (fun t => [vI t]) (fun t h53 => ?_) (fun J53 => ?_)
      · skip
        refine ss_ist_6 h dX3_isOpen_53 55 rfl ?_
        refine ss_cut (σ := Int) (fun u => u = if dr = 3 ∨ dr = 1 then 2 else 1) 81 (fun u => X) (fun u => [some (.ref b), some (.ref l), some (vI p), some (vI q), some (vI dr), some (vI s), some (vI t)]) (fun u => [vI u, vI t, vI s, .ref b, .ref (b + 1)]) (fun u h81 => ?_) (fun J81 => ?_)
        · skip
          have hu : 0 ≤ u ∧ u ≤ 3 := by rw [h81]; split <;> omega
          have hsi : yardS s t u = sideS p q dr := by
            rw [h81, h38, h53]
            have hh : dr = 0 ∨ dr = 1 ∨ dr = 2 ∨ dr = 3 := by omega
            rcases hh with rfl | rfl | rfl | rfl <;> rfl
          refine ss_cVv h (x_yardOf (d := d - 1) hu) (lw_V q886 q887 q888 q86 q889) kl3 hB.ob 3 rfl md_X3_yardOf rfl (by omega) (by decide) rfl dX3_isOpen_81 84 rfl rfl (Nat.le_of_ble_eq_true rfl) (by omega) (by omega) ?_
          rw [hsi]
          refine ss_ialdV h hB.k_owner (by decide) (by omega) dX3_isOpen_84 85 rfl (vB.v_owner (by omega)) ?_
          refine ss_iconst h dX3_isOpen_85 86 rfl ?_
          refine ss_icmp_ne h dX3_isOpen_86 89 93 rfl (by decide) (hz _ (by omega)) (by omega) (fun c86 => ?_) (fun c86 => ?_)
          · skip
            refine ss_iconst h dX3_isOpen_93 94 rfl ?_
            refine ss_zret h (by first | omega | exact bI_z _) dX3_isOpen_94 (by omega) (by omega) ?_
            rw [hP9]
            exact ⟨vI_c (by simp [bI, openB, *]), rfl, rfl, rfl, rfl⟩
          · skip
            refine ss_iconst h dX3_isOpen_89 90 rfl ?_
            refine ss_goto h dX3_isOpen_90 94 (by decide) ?_
            refine ss_zret h (by first | omega | exact bI_z _) dX3_isOpen_94 (by omega) (by omega) ?_
            rw [hP9]
            exact ⟨vI_c (by simp [bI, openB, *]), rfl, rfl, rfl, rfl⟩
        refine ss_aload_n (i := 0) h dX3_isOpen_55 56 rfl rfl rfl ?_
        refine ss_getS h kl3 0 0 rfl (by decide) rfl hB.ob q284 dX3_isOpen_56 59 rfl hB.r_owner ?_
        refine ss_aload_n (i := 0) h dX3_isOpen_59 60 rfl rfl rfl ?_
        refine ss_iload h dX3_isOpen_60 62 rfl rfl ?_
        refine ss_iload h dX3_isOpen_62 64 rfl rfl ?_
        refine ss_iload h dX3_isOpen_64 66 rfl rfl ?_
        refine ss_iconst h dX3_isOpen_66 67 rfl ?_
        refine ss_icmp_eq h dX3_isOpen_67 70 76 rfl (by decide) (by first | omega | exact sRg_b _) (by first | omega | exact sRg_b _) (fun c67 => ?_) (fun c67 => ?_)
        · skip
          refine ss_iconst h dX3_isOpen_76 77 rfl ?_
          refine ss_goto h dX3_isOpen_77 81 (by decide) ?_
          exact J81 _ (by first | rw [if_pos (by omega)] | rw [if_neg (by omega)])
        · skip
          refine ss_iload h dX3_isOpen_70 72 rfl rfl ?_
          refine ss_iconst h dX3_isOpen_72 73 rfl ?_
          refine ss_icmp_ne h dX3_isOpen_73 76 80 rfl (by decide) (by first | omega | exact sRg_b _) (by first | omega | exact sRg_b _) (fun c73 => ?_) (fun c73 => ?_)
          · skip
            refine ss_iconst h dX3_isOpen_80 81 rfl ?_
            exact J81 _ (by first | rw [if_pos (by omega)] | rw [if_neg (by omega)])
          · skip
            refine ss_iconst h dX3_isOpen_76 77 rfl ?_
            refine ss_goto h dX3_isOpen_77 81 (by decide) ?_
            exact J81 _ (by first | rw [if_pos (by omega)] | rw [if_neg (by omega)])
      refine ss_iload h dX3_isOpen_40 42 rfl rfl ?_
      refine ss_iconst h dX3_isOpen_42 43 rfl ?_
      refine ss_icmp_ne h dX3_isOpen_43 46 52 rfl (by decide) (by first | omega | exact sRg_b _) (by first | omega | exact sRg_b _) (fun c43 => ?_) (fun c43 => ?_)
      · skip
        refine ss_iload_n (i := 3) h dX3_isOpen_52 53 rfl rfl rfl ?_
        exact J53 _ (by first | rw [if_pos (by omega)] | rw [if_neg (by omega)])
      · skip
        refine ss_iload_n (i := 3) h dX3_isOpen_46 47 rfl rfl rfl ?_
        refine ss_iconst h dX3_isOpen_47 48 rfl ?_
        refine ss_iadd h dX3_isOpen_48 49 rfl ?_
        refine ss_goto h dX3_isOpen_49 53 (by decide) ?_
        exact J53 _ (by first | rw [if_pos (by omega)] | rw [if_neg (by omega)])
    refine ss_iload h dX3_isOpen_25 27 rfl rfl ?_
    refine ss_iconst h dX3_isOpen_27 28 rfl ?_
    refine ss_icmp_ne h dX3_isOpen_28 31 37 rfl (by decide) (by first | omega | exact sRg_b _) (by first | omega | exact sRg_b _) (fun c28 => ?_) (fun c28 => ?_)
    · skip
      refine ss_iload_n (i := 2) h dX3_isOpen_37 38 rfl rfl rfl ?_
      exact J38 _ (by first | rw [if_pos (by omega)] | rw [if_neg (by omega)])
    · skip
      refine ss_iload_n (i := 2) h dX3_isOpen_31 32 rfl rfl rfl ?_
      refine ss_iconst h dX3_isOpen_32 33 rfl ?_
      refine ss_iadd h dX3_isOpen_33 34 rfl ?_
      refine ss_goto h dX3_isOpen_34 38 (by decide) ?_
      exact J38 _ (by first | rw [if_pos (by omega)] | rw [if_neg (by omega)])
  · skip
    replace c20 := bI_0.mp c20
    refine ss_iconst h dX3_isOpen_23 24 rfl ?_
    refine ss_zret h (by first | omega | exact bI_z _) dX3_isOpen_24 (by omega) (by omega) ?_
    rw [hP9]
    exact ⟨vI_c (by simp [bI, openB, *]), rfl, rfl, rfl, rfl⟩
end XM2

