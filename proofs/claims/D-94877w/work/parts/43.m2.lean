/-! ===== the twin: land, telling, nests, swallows, the tape ===== -/
section M2
variable {Ω : OmT} {n : Nat} {K : KT} {X : XT} {R : RT} {m : Nat} {d : Nat}
theorem m_begins (hM : MOk Ω n K R m) {u v : Int} (h1 : sRg u) (h2 : sRg v) (hl : 1 ≤ d) : sCt Ω yX4_begins cX4_begins 5 none d 0 0 [.ref m, vI u, vI v] n K X R (pN n K R (fun X' => X' = sUp (sArr X (m + 1) (begW (X (m + 1)) u v)) m 4 0)) := by
  refine sCt_of (by decide) (by simp [Value.category, vI, va_rf]) (Nat.le_of_ble_eq_true rfl) fun Γ P9 hP9 h => ?_
  show sG (_, _, _, _, _) Γ 0 0 _ _ _ _ 0 [some _, some _, some _, none, none] []
  refine ss_rg fun hrg => ?_
  refine ss_aload_n (i := 0) h dX4_begins_0 1 rfl rfl rfl ?_
  refine ss_getS h kl4 0 0 rfl (by decide) rfl hM.ob q1087 dX4_begins_1 4 rfl hM.r_w ?_
  refine ss_iconst h dX4_begins_4 5 rfl ?_
  refine ss_iald h hM.k_w (by decide) (by omega) dX4_begins_5 6 rfl ?_
  refine ss_ist_3 h dX4_begins_6 7 rfl ?_
  refine ss_iconst h dX4_begins_7 8 rfl ?_
  refine ss_ist_4 h dX4_begins_8 10 rfl ?_
  refine ss_X (X' := sArr X (m + 1) (fun i => if 0 ≤ i ∧ i < 0 then 0 else X (m + 1) i)) ?_ ?_
  · refine sArr_id.symm.trans (sArr_c ?_)
    funext i
    rw [if_neg (by omega)]
  refine ss_loop (σ := Int) (Pp := fun k => sG _ Γ 0 0 n K (sArr X (m + 1) (fun i => if 0 ≤ i ∧ i < k then 0 else X (m + 1) i)) R 10 [some (.ref m), some (vI u), some (vI v), some (vI (X (m + 1) 2)), some (vI k)] []) (I := fun k => 0 ≤ k ∧ k ≤ 5480) (fun k => (5480 - k).toNat) (fun k hk ih => ?_) 0 (by omega)
  refine ss_iload h dX4_begins_10 12 rfl rfl ?_
  refine ss_sipush h dX4_begins_12 15 rfl (by decide +kernel) ?_
  refine ss_icmp_ge h dX4_begins_15 18 32 rfl (by decide) (by first | omega | exact sRg_b _) (by first | omega | exact sRg_b _) (fun c15 => ?_) (fun c15 => ?_)
  · skip
    refine ss_aload_n (i := 0) h dX4_begins_32 33 rfl rfl rfl ?_
    refine ss_getS h kl4 0 0 rfl (by decide) rfl hM.ob q1087 dX4_begins_33 36 rfl hM.r_w ?_
    refine ss_iconst h dX4_begins_36 37 rfl ?_
    refine ss_iload_n (i := 3) h dX4_begins_37 38 rfl rfl rfl ?_
    refine ss_iast h hM.k_w (by decide) (by omega) (hrg _ _) dX4_begins_38 39 rfl ?_
    refine ss_aload_n (i := 0) h dX4_begins_39 40 rfl rfl rfl ?_
    refine ss_getS h kl4 0 0 rfl (by decide) rfl hM.ob q1087 dX4_begins_40 43 rfl hM.r_w ?_
    refine ss_iconst h dX4_begins_43 44 rfl ?_
    refine ss_iload_n (i := 1) h dX4_begins_44 45 rfl rfl rfl ?_
    refine ss_iast h hM.k_w (by decide) (by omega) (by omega) dX4_begins_45 46 rfl ?_
    refine ss_aload_n (i := 0) h dX4_begins_46 47 rfl rfl rfl ?_
    refine ss_getS h kl4 0 0 rfl (by decide) rfl hM.ob q1087 dX4_begins_47 50 rfl hM.r_w ?_
    refine ss_iconst h dX4_begins_50 51 rfl ?_
    refine ss_iload_n (i := 2) h dX4_begins_51 52 rfl rfl rfl ?_
    refine ss_iast h hM.k_w (by decide) (by omega) (by omega) dX4_begins_52 53 rfl ?_
    refine ss_iconst h dX4_begins_53 54 rfl ?_
    refine ss_ist_4 h dX4_begins_54 56 rfl ?_
    refine ss_X (X' := sArr X (m + 1) (fun i => if 420 ≤ i ∧ i < 420 + 0 then 1 else if i = 1 then v else if i = 0 then u else if i = 2 then X (m + 1) 2 else if 0 ≤ i ∧ i < 5480 then 0 else X (m + 1) i)) ?_ ?_
    · rw [sArr_sUp, sArr_sUp, sArr_sUp]
      refine sArr_c ?_
      funext i
      dsimp only [upW]
      (repeat' split) <;> omega
    refine ss_loop (σ := Int) (Pp := fun k => sG _ Γ 0 0 n K (sArr X (m + 1) (fun i => if 420 ≤ i ∧ i < 420 + k then 1 else if i = 1 then v else if i = 0 then u else if i = 2 then X (m + 1) 2 else if 0 ≤ i ∧ i < 5480 then 0 else X (m + 1) i)) R 56 [some (.ref m), some (vI u), some (vI v), some (vI (X (m + 1) 2)), some (vI k)] []) (I := fun k => 0 ≤ k ∧ k ≤ 100) (fun k => (100 - k).toNat) (fun l hl' il => ?_) 0 (by omega)
    refine ss_iload h dX4_begins_56 58 rfl rfl ?_
    refine ss_bipush h dX4_begins_58 60 rfl (by decide +kernel) ?_
    refine ss_icmp_ge h dX4_begins_60 63 81 rfl (by decide) (by first | omega | exact sRg_b _) (by first | omega | exact sRg_b _) (fun c60 => ?_) (fun c60 => ?_)
    · skip
      refine ss_aload_n (i := 0) h dX4_begins_81 82 rfl rfl rfl ?_
      refine ss_cVn h (m_clears hM (d := d - 1)) (lw_V q1083 q1085 qs39 q87 q1086) kl4 hM.ob 0 rfl md_X4_clears rfl (by omega) (by decide) rfl dX4_begins_82 85 rfl rfl (Nat.le_of_ble_eq_true rfl) (by omega) (by omega) (fun X82 x82 => ?_)
      subst x82
      refine ss_aload_n (i := 0) h dX4_begins_85 86 rfl rfl rfl ?_
      refine ss_iconst h dX4_begins_86 87 rfl ?_
      refine ss_putI h kl4 4 4 rfl (by decide) rfl hM.ob q1091 (Or.inl rfl) (by omega) dX4_begins_87 90 rfl ?_
      refine ss_vret h dX4_begins_90 (by omega) (by omega) ?_
      rw [hP9]
      refine ⟨rfl, rfl, rfl, rfl, ?_⟩
      rw [sArr_sArr, sArr_s]
      refine congrArg (fun Y => sUp Y m 4 0) (sArr_c ?_)
      funext i
      dsimp only [clrW, begW]
      (repeat' split) <;> omega
    · skip
      refine ss_aload_n (i := 0) h dX4_begins_63 64 rfl rfl rfl ?_
      refine ss_getS h kl4 0 0 rfl (by decide) rfl hM.ob q1087 dX4_begins_64 67 rfl hM.r_w ?_
      refine ss_sipush h dX4_begins_67 70 rfl (by decide +kernel) ?_
      refine ss_iload h dX4_begins_70 72 rfl rfl ?_
      refine ss_iadd h dX4_begins_72 73 rfl ?_
      refine ss_iconst h dX4_begins_73 74 rfl ?_
      refine ss_iast h hM.k_w (by decide) (by omega) (by omega) dX4_begins_74 75 rfl ?_
      refine ss_inc_4 h dX4_begins_75 78 rfl ?_
      refine ss_goto h dX4_begins_78 56 (by decide) ?_
      refine ss_X ?_ (il _ (by omega) (by omega))
      rw [sArr_sUp]
      refine sArr_c ?_
      funext i
      dsimp only [upW]
      (repeat' split) <;> omega
  · skip
    refine ss_aload_n (i := 0) h dX4_begins_18 19 rfl rfl rfl ?_
    refine ss_getS h kl4 0 0 rfl (by decide) rfl hM.ob q1087 dX4_begins_19 22 rfl hM.r_w ?_
    refine ss_iload h dX4_begins_22 24 rfl rfl ?_
    refine ss_iconst h dX4_begins_24 25 rfl ?_
    refine ss_iast h hM.k_w (by decide) (by omega) (by omega) dX4_begins_25 26 rfl ?_
    refine ss_inc_4 h dX4_begins_26 29 rfl ?_
    refine ss_goto h dX4_begins_29 10 (by decide) ?_
    refine ss_X ?_ (ih _ (by omega) (by omega))
    rw [sArr_sUp]
    refine sArr_c ?_
    funext i
    dsimp only [upW]
    (repeat' split) <;> omega
theorem m_land (hM : MOk Ω n K R m) {u v : Int} (h1 : sRg u) (h2 : sRg v) (hl : 2 ≤ d) : sCt Ω yX4_land cX4_land 3 (some .boolean) d 0 0 [.ref m, vI u, vI v] n K X R (pA n K R (vI (bI (landB u v))) (fun X' => X' = if landB u v = true then sUp (sArr X (m + 1) (begW (X (m + 1)) u v)) m 4 0 else X)) := by
  refine sCt_of (by decide) (by simp [Value.category, vI, va_rf]) (Nat.le_of_ble_eq_true rfl) fun Γ P9 hP9 h => ?_
  show sG (_, _, _, _, _) Γ 0 0 _ _ _ _ 0 [some _, some _, some _] []
  refine ss_iload_n (i := 1) h dX4_land_0 1 rfl rfl rfl ?_
  refine ss_iconst h dX4_land_1 2 rfl ?_
  refine ss_bipush h dX4_land_2 4 rfl (by decide +kernel) ?_
  refine ss_cSv h (m_isIn (d := d - 1) (by omega) (by omega) (by omega)) (lw_S q1207 q1208 q87 q1209) 3 rfl md_X4_isIn (by omega) (by decide) rfl dX4_land_4 7 rfl rfl (Nat.le_of_ble_eq_true rfl) (by omega) (by omega) ?_
  refine ss_if_eq h dX4_land_7 10 20 rfl (by decide) (by first | omega | exact sRg_b _) (fun c7 => ?_) (fun c7 => ?_)
  · skip
    replace c7 := bI_0.mp c7
    refine ss_iconst h dX4_land_20 21 rfl ?_
    refine ss_zret h (by first | omega | exact bI_z _) dX4_land_21 (by omega) (by omega) ?_
    rw [hP9]
    exact ⟨vI_c (by simp [bI, landB, *]), rfl, rfl, rfl, by simp [landB, *]⟩
  · skip
    replace c7 := bI_n.mp c7
    refine ss_iload_n (i := 2) h dX4_land_10 11 rfl rfl rfl ?_
    refine ss_iconst h dX4_land_11 12 rfl ?_
    refine ss_bipush h dX4_land_12 14 rfl (by decide +kernel) ?_
    refine ss_cSv h (m_isIn (d := d - 1) (by omega) (by omega) (by omega)) (lw_S q1207 q1208 q87 q1209) 3 rfl md_X4_isIn (by omega) (by decide) rfl dX4_land_14 17 rfl rfl (Nat.le_of_ble_eq_true rfl) (by omega) (by omega) ?_
    refine ss_if_ne h dX4_land_17 20 22 rfl (by decide) (by first | omega | exact sRg_b _) (fun c17 => ?_) (fun c17 => ?_)
    · skip
      replace c17 := bI_1.mp c17
      refine ss_aload_n (i := 0) h dX4_land_22 23 rfl rfl rfl ?_
      refine ss_iload_n (i := 1) h dX4_land_23 24 rfl rfl rfl ?_
      refine ss_iload_n (i := 2) h dX4_land_24 25 rfl rfl rfl ?_
      refine ss_cVn h (m_begins hM (d := d - 1) h1 h2 (by omega)) (lw_V q1079 q1081 qs38 q87 q1082) kl4 hM.ob 2 rfl md_X4_begins rfl (by omega) (by decide) rfl dX4_land_25 28 rfl rfl (Nat.le_of_ble_eq_true rfl) (by omega) (by omega) (fun X25 x25 => ?_)
      refine ss_iconst h dX4_land_28 29 rfl ?_
      refine ss_zret h (by first | omega | exact bI_z _) dX4_land_29 (by omega) (by omega) ?_
      rw [hP9]
      exact ⟨vI_c (by simp [bI, landB, *]), rfl, rfl, rfl, by simp [landB, *]⟩
    · skip
      replace c17 := bI_0.mp c17
      refine ss_iconst h dX4_land_20 21 rfl ?_
      refine ss_zret h (by first | omega | exact bI_z _) dX4_land_21 (by omega) (by omega) ?_
      rw [hP9]
      exact ⟨vI_c (by simp [bI, landB, *]), rfl, rfl, rfl, by simp [landB, *]⟩
theorem m_tell (hM : MOk Ω n K R m) {c t v : Int} (hd : Dim (X (m + 1))) (h1 : sRg c) (h2 : sRg t) (h3 : sRg v) (hl : 3 ≤ d) : sCt Ω yX4_tell cX4_tell 4 (some .boolean) d 0 0 [.ref m, vI c, vI t, vI v] n K X R (pA n K R (vI (bI (tellB (X (m + 1)) c t v))) (fun X' => X' = if tellB (X (m + 1)) c t v = true then sArr X (m + 1) (upW (X (m + 1)) (tellI c t) v) else X)) := by
  refine sCt_of (by decide) (by simp [Value.category, vI, va_rf]) (Nat.le_of_ble_eq_true rfl) fun Γ P9 hP9 h => ?_
  show sG (_, _, _, _, _) Γ 0 0 _ _ _ _ 0 [some _, some _, some _, some _] []
  refine ss_aload_n (i := 0) h dX4_tell_0 1 rfl rfl rfl ?_
  refine ss_iload_n (i := 1) h dX4_tell_1 2 rfl rfl rfl ?_
  refine ss_cVv h (m_isCell hM (d := d - 1) hd h1 (by omega)) (lw_V q1214 q1216 qs40 q87 q1217) kl4 hM.ob 1 rfl md_X4_isCell rfl (by omega) (by decide) rfl dX4_tell_2 5 rfl rfl (Nat.le_of_ble_eq_true rfl) (by omega) (by omega) ?_
  refine ss_if_eq h dX4_tell_5 8 36 rfl (by decide) (by first | omega | exact sRg_b _) (fun c5 => ?_) (fun c5 => ?_)
  · skip
    replace c5 := bI_0.mp c5
    refine ss_iconst h dX4_tell_36 37 rfl ?_
    refine ss_zret h (by first | omega | exact bI_z _) dX4_tell_37 (by omega) (by omega) ?_
    rw [hP9]
    exact ⟨vI_c (by simp [bI, tellB, *]), rfl, rfl, rfl, by simp [tellB, *]⟩
  · skip
    replace c5 := bI_n.mp c5
    refine ss_iload_n (i := 2) h dX4_tell_8 9 rfl rfl rfl ?_
    refine ss_iconst h dX4_tell_9 10 rfl ?_
    refine ss_iconst h dX4_tell_10 11 rfl ?_
    refine ss_cSv h (m_isIn (d := d - 1) (by omega) (by omega) (by omega)) (lw_S q1207 q1208 q87 q1209) 3 rfl md_X4_isIn (by omega) (by decide) rfl dX4_tell_11 14 rfl rfl (Nat.le_of_ble_eq_true rfl) (by omega) (by omega) ?_
    refine ss_if_eq h dX4_tell_14 17 36 rfl (by decide) (by first | omega | exact sRg_b _) (fun c14 => ?_) (fun c14 => ?_)
    · skip
      replace c14 := bI_0.mp c14
      refine ss_iconst h dX4_tell_36 37 rfl ?_
      refine ss_zret h (by first | omega | exact bI_z _) dX4_tell_37 (by omega) (by omega) ?_
      rw [hP9]
      exact ⟨vI_c (by simp [bI, tellB, *]), rfl, rfl, rfl, by simp [tellB, *]⟩
    · skip
      replace c14 := bI_n.mp c14
      refine ss_iload_n (i := 3) h dX4_tell_17 18 rfl rfl rfl ?_
      refine ss_iconst h dX4_tell_18 19 rfl ?_
      refine ss_iload_n (i := 2) h dX4_tell_19 20 rfl rfl rfl ?_
      refine ss_iconst h dX4_tell_20 21 rfl ?_
      refine ss_icmp_ne h dX4_tell_21 24 28 rfl (by decide) (by first | omega | exact sRg_b _) (by first | omega | exact sRg_b _) (fun c21 => ?_) (fun c21 => ?_)
      · skip
        refine ss_bipush h dX4_tell_28 30 rfl (by decide +kernel) ?_
        refine ss_cSv h (m_isIn (d := d - 1) (by omega) (by omega) (by omega)) (lw_S q1207 q1208 q87 q1209) 3 rfl md_X4_isIn (by omega) (by decide) rfl dX4_tell_30 33 rfl rfl (Nat.le_of_ble_eq_true rfl) (by omega) (by omega) ?_
        refine ss_if_ne h dX4_tell_33 36 38 rfl (by decide) (by first | omega | exact sRg_b _) (fun c33 => ?_) (fun c33 => ?_)
        · skip
          replace c33 := bI_1.mp c33
          have hc := cellB_t hd c5
          have h11 := inB_t.mp c14
          refine ss_aload_n (i := 0) h dX4_tell_38 39 rfl rfl rfl ?_
          refine ss_getS h kl4 0 0 rfl (by decide) rfl hM.ob q1087 dX4_tell_39 42 rfl hM.r_w ?_
          refine ss_iload_n (i := 2) h dX4_tell_42 43 rfl rfl rfl ?_
          refine ss_if_ne h dX4_tell_43 46 51 rfl (by decide) (by first | omega | exact sRg_b _) (fun c43 => ?_) (fun c43 => ?_)
          · skip
            refine ss_iload_n (i := 2) h dX4_tell_51 52 rfl rfl rfl ?_
            refine ss_iconst h dX4_tell_52 53 rfl ?_
            refine ss_icmp_ne h dX4_tell_53 56 62 rfl (by decide) (by first | omega | exact sRg_b _) (by first | omega | exact sRg_b _) (fun c53 => ?_) (fun c53 => ?_)
            · skip
              refine ss_sipush h dX4_tell_62 65 rfl (by decide +kernel) ?_
              refine ss_iload_n (i := 1) h dX4_tell_65 66 rfl rfl rfl ?_
              refine ss_iadd h dX4_tell_66 67 rfl ?_
              refine ss_iload_n (i := 3) h dX4_tell_67 68 rfl rfl rfl ?_
              refine ss_iast h hM.k_w (by decide) (by omega) (by omega) dX4_tell_68 69 rfl ?_
              refine ss_iconst h dX4_tell_69 70 rfl ?_
              refine ss_zret h (by first | omega | exact bI_z _) dX4_tell_70 (by omega) (by omega) ?_
              rw [hP9]
              have e : tellB (X (m + 1)) c t v = true := by
                simp only [tellB, c5, c14, Bool.true_and]
                first | (rw [if_pos c21]; exact c33) | (rw [if_neg c21]; exact c33)
              exact ⟨vI_c (by rw [e]; rfl), rfl, rfl, rfl, by rw [if_pos e, sUp_as]; exact sArr_c (congrArg (fun i => upW (X (m + 1)) i v) (by unfold tellI; (repeat' split) <;> omega))⟩
            · skip
              refine ss_sipush h dX4_tell_56 59 rfl (by decide +kernel) ?_
              refine ss_goto h dX4_tell_59 65 (by decide) ?_
              refine ss_iload_n (i := 1) h dX4_tell_65 66 rfl rfl rfl ?_
              refine ss_iadd h dX4_tell_66 67 rfl ?_
              refine ss_iload_n (i := 3) h dX4_tell_67 68 rfl rfl rfl ?_
              refine ss_iast h hM.k_w (by decide) (by omega) (by omega) dX4_tell_68 69 rfl ?_
              refine ss_iconst h dX4_tell_69 70 rfl ?_
              refine ss_zret h (by first | omega | exact bI_z _) dX4_tell_70 (by omega) (by omega) ?_
              rw [hP9]
              have e : tellB (X (m + 1)) c t v = true := by
                simp only [tellB, c5, c14, Bool.true_and]
                first | (rw [if_pos c21]; exact c33) | (rw [if_neg c21]; exact c33)
              exact ⟨vI_c (by rw [e]; rfl), rfl, rfl, rfl, by rw [if_pos e, sUp_as]; exact sArr_c (congrArg (fun i => upW (X (m + 1)) i v) (by unfold tellI; (repeat' split) <;> omega))⟩
          · skip
            refine ss_bipush h dX4_tell_46 48 rfl (by decide +kernel) ?_
            refine ss_goto h dX4_tell_48 65 (by decide) ?_
            refine ss_iload_n (i := 1) h dX4_tell_65 66 rfl rfl rfl ?_
            refine ss_iadd h dX4_tell_66 67 rfl ?_
            refine ss_iload_n (i := 3) h dX4_tell_67 68 rfl rfl rfl ?_
            refine ss_iast h hM.k_w (by decide) (by omega) (by omega) dX4_tell_68 69 rfl ?_
            refine ss_iconst h dX4_tell_69 70 rfl ?_
            refine ss_zret h (by first | omega | exact bI_z _) dX4_tell_70 (by omega) (by omega) ?_
            rw [hP9]
            have e : tellB (X (m + 1)) c t v = true := by
              simp only [tellB, c5, c14, Bool.true_and]
              first | (rw [if_pos c21]; exact c33) | (rw [if_neg c21]; exact c33)
            exact ⟨vI_c (by rw [e]; rfl), rfl, rfl, rfl, by rw [if_pos e, sUp_as]; exact sArr_c (congrArg (fun i => upW (X (m + 1)) i v) (by unfold tellI; (repeat' split) <;> omega))⟩
        · skip
          replace c33 := bI_0.mp c33
          refine ss_iconst h dX4_tell_36 37 rfl ?_
          refine ss_zret h (by first | omega | exact bI_z _) dX4_tell_37 (by omega) (by omega) ?_
          rw [hP9]
          exact ⟨vI_c (by simp [bI, tellB, *]), rfl, rfl, rfl, by simp [tellB, *]⟩
      · skip
        refine ss_iconst h dX4_tell_24 25 rfl ?_
        refine ss_goto h dX4_tell_25 30 (by decide) ?_
        refine ss_cSv h (m_isIn (d := d - 1) (by omega) (by omega) (by omega)) (lw_S q1207 q1208 q87 q1209) 3 rfl md_X4_isIn (by omega) (by decide) rfl dX4_tell_30 33 rfl rfl (Nat.le_of_ble_eq_true rfl) (by omega) (by omega) ?_
        refine ss_if_ne h dX4_tell_33 36 38 rfl (by decide) (by first | omega | exact sRg_b _) (fun c33 => ?_) (fun c33 => ?_)
        · skip
          replace c33 := bI_1.mp c33
          have hc := cellB_t hd c5
          have h11 := inB_t.mp c14
          refine ss_aload_n (i := 0) h dX4_tell_38 39 rfl rfl rfl ?_
          refine ss_getS h kl4 0 0 rfl (by decide) rfl hM.ob q1087 dX4_tell_39 42 rfl hM.r_w ?_
          refine ss_iload_n (i := 2) h dX4_tell_42 43 rfl rfl rfl ?_
          refine ss_if_ne h dX4_tell_43 46 51 rfl (by decide) (by first | omega | exact sRg_b _) (fun c43 => ?_) (fun c43 => ?_)
          · skip
            refine ss_iload_n (i := 2) h dX4_tell_51 52 rfl rfl rfl ?_
            refine ss_iconst h dX4_tell_52 53 rfl ?_
            refine ss_icmp_ne h dX4_tell_53 56 62 rfl (by decide) (by first | omega | exact sRg_b _) (by first | omega | exact sRg_b _) (fun c53 => ?_) (fun c53 => ?_)
            · skip
              refine ss_sipush h dX4_tell_62 65 rfl (by decide +kernel) ?_
              refine ss_iload_n (i := 1) h dX4_tell_65 66 rfl rfl rfl ?_
              refine ss_iadd h dX4_tell_66 67 rfl ?_
              refine ss_iload_n (i := 3) h dX4_tell_67 68 rfl rfl rfl ?_
              refine ss_iast h hM.k_w (by decide) (by omega) (by omega) dX4_tell_68 69 rfl ?_
              refine ss_iconst h dX4_tell_69 70 rfl ?_
              refine ss_zret h (by first | omega | exact bI_z _) dX4_tell_70 (by omega) (by omega) ?_
              rw [hP9]
              have e : tellB (X (m + 1)) c t v = true := by
                simp only [tellB, c5, c14, Bool.true_and]
                first | (rw [if_pos c21]; exact c33) | (rw [if_neg c21]; exact c33)
              exact ⟨vI_c (by rw [e]; rfl), rfl, rfl, rfl, by rw [if_pos e, sUp_as]; exact sArr_c (congrArg (fun i => upW (X (m + 1)) i v) (by unfold tellI; (repeat' split) <;> omega))⟩
            · skip
              refine ss_sipush h dX4_tell_56 59 rfl (by decide +kernel) ?_
              refine ss_goto h dX4_tell_59 65 (by decide) ?_
              refine ss_iload_n (i := 1) h dX4_tell_65 66 rfl rfl rfl ?_
              refine ss_iadd h dX4_tell_66 67 rfl ?_
              refine ss_iload_n (i := 3) h dX4_tell_67 68 rfl rfl rfl ?_
              refine ss_iast h hM.k_w (by decide) (by omega) (by omega) dX4_tell_68 69 rfl ?_
              refine ss_iconst h dX4_tell_69 70 rfl ?_
              refine ss_zret h (by first | omega | exact bI_z _) dX4_tell_70 (by omega) (by omega) ?_
              rw [hP9]
              have e : tellB (X (m + 1)) c t v = true := by
                simp only [tellB, c5, c14, Bool.true_and]
                first | (rw [if_pos c21]; exact c33) | (rw [if_neg c21]; exact c33)
              exact ⟨vI_c (by rw [e]; rfl), rfl, rfl, rfl, by rw [if_pos e, sUp_as]; exact sArr_c (congrArg (fun i => upW (X (m + 1)) i v) (by unfold tellI; (repeat' split) <;> omega))⟩
          · skip
            refine ss_bipush h dX4_tell_46 48 rfl (by decide +kernel) ?_
            refine ss_goto h dX4_tell_48 65 (by decide) ?_
            refine ss_iload_n (i := 1) h dX4_tell_65 66 rfl rfl rfl ?_
            refine ss_iadd h dX4_tell_66 67 rfl ?_
            refine ss_iload_n (i := 3) h dX4_tell_67 68 rfl rfl rfl ?_
            refine ss_iast h hM.k_w (by decide) (by omega) (by omega) dX4_tell_68 69 rfl ?_
            refine ss_iconst h dX4_tell_69 70 rfl ?_
            refine ss_zret h (by first | omega | exact bI_z _) dX4_tell_70 (by omega) (by omega) ?_
            rw [hP9]
            have e : tellB (X (m + 1)) c t v = true := by
              simp only [tellB, c5, c14, Bool.true_and]
              first | (rw [if_pos c21]; exact c33) | (rw [if_neg c21]; exact c33)
            exact ⟨vI_c (by rw [e]; rfl), rfl, rfl, rfl, by rw [if_pos e, sUp_as]; exact sArr_c (congrArg (fun i => upW (X (m + 1)) i v) (by unfold tellI; (repeat' split) <;> omega))⟩
        · skip
          replace c33 := bI_0.mp c33
          refine ss_iconst h dX4_tell_36 37 rfl ?_
          refine ss_zret h (by first | omega | exact bI_z _) dX4_tell_37 (by omega) (by omega) ?_
          rw [hP9]
          exact ⟨vI_c (by simp [bI, tellB, *]), rfl, rfl, rfl, by simp [tellB, *]⟩
theorem m_keeps (hM : MOk Ω n K R m) {c : Int} (hb : 0 ≤ X m 4 ∧ X m 4 ≤ 10) (h1 : sRg c) : sCt Ω yX4_keeps cX4_keeps 3 none d 0 0 [.ref m, vI c] n K X R (pN n K R (fun X' => X' = sUp (sArr X (m + 4) (keepA (X (m + 4)) (X m 4) c)) m 4 (keepN (X m 4)))) := by
  refine sCt_of (by decide) (by simp [Value.category, vI, va_rf]) (Nat.le_of_ble_eq_true rfl) fun Γ P9 hP9 h => ?_
  show sG (_, _, _, _, _) Γ 0 0 _ _ _ _ 0 [some _, some _, none] []
  refine ss_rg fun hrg => ?_
  refine ss_aload_n (i := 0) h dX4_keeps_0 1 rfl rfl rfl ?_
  refine ss_getI h kl4 4 4 rfl (by decide) rfl hM.ob q1091 dX4_keeps_1 4 rfl ?_
  refine ss_bipush h dX4_keeps_4 6 rfl (by decide +kernel) ?_
  refine ss_icmp_ne h dX4_keeps_6 9 47 rfl (by decide) (by first | omega | exact sRg_b _) (by first | omega | exact sRg_b _) (fun c6 => ?_) (fun c6 => ?_)
  · skip
    refine ss_aload_n (i := 0) h dX4_keeps_47 48 rfl rfl rfl ?_
    refine ss_getS h kl4 3 3 rfl (by decide) rfl hM.ob q1090 dX4_keeps_48 51 rfl hM.r_back ?_
    refine ss_aload_n (i := 0) h dX4_keeps_51 52 rfl rfl rfl ?_
    refine ss_getI h kl4 4 4 rfl (by decide) rfl hM.ob q1091 dX4_keeps_52 55 rfl ?_
    try rw [sUp_ss]
    refine ss_iload_n (i := 1) h dX4_keeps_55 56 rfl rfl rfl ?_
    refine ss_iast h hM.k_back (by decide) (by omega) (by omega) dX4_keeps_56 57 rfl ?_
    refine ss_aload_n (i := 0) h dX4_keeps_57 58 rfl rfl rfl ?_
    refine ss_dup h dX4_keeps_58 59 rfl rfl ?_
    refine ss_getI h kl4 4 4 rfl (by decide) rfl hM.ob q1091 dX4_keeps_59 62 rfl ?_
    rw [sUp_o (show m ≠ m + 4 by omega)]
    try rw [sUp_ss]
    refine ss_iconst h dX4_keeps_62 63 rfl ?_
    refine ss_iadd h dX4_keeps_63 64 rfl ?_
    refine ss_putI h kl4 4 4 rfl (by decide) rfl hM.ob q1091 (Or.inl rfl) (by omega) dX4_keeps_64 67 rfl ?_
    refine ss_vret h dX4_keeps_67 (by omega) (by omega) ?_
    rw [hP9]
    refine ⟨rfl, rfl, rfl, rfl, ?_⟩
    funext b l
    dsimp only [sUp, sArr, keepA, keepN]
    (repeat' split) <;> (try dsimp only [upW]) <;> (repeat' split) <;> first | rfl | omega | (simp_all; done) | (simp_all; omega)
  · skip
    refine ss_iconst h dX4_keeps_9 10 rfl ?_
    refine ss_ist_2 h dX4_keeps_10 11 rfl ?_
    refine ss_X (X' := sArr X (m + 4) (fun i => if 0 ≤ i ∧ i < 1 - 1 then X (m + 4) (i + 1) else X (m + 4) i)) ?_ ?_
    · refine sArr_id.symm.trans (sArr_c ?_)
      funext i
      rw [if_neg (by omega)]
    refine ss_loop (σ := Int) (Pp := fun k => sG _ Γ 0 0 n K (sArr X (m + 4) (fun i => if 0 ≤ i ∧ i < k - 1 then X (m + 4) (i + 1) else X (m + 4) i)) R 11 [some (.ref m), some (vI c), some (vI k)] []) (I := fun k => 1 ≤ k ∧ k ≤ 10) (fun k => (10 - k).toNat) (fun k hk ih => ?_) 1 (by omega)
    refine ss_iload_n (i := 2) h dX4_keeps_11 12 rfl rfl rfl ?_
    refine ss_bipush h dX4_keeps_12 14 rfl (by decide +kernel) ?_
    refine ss_icmp_ge h dX4_keeps_14 17 37 rfl (by decide) (by first | omega | exact sRg_b _) (by first | omega | exact sRg_b _) (fun c14 => ?_) (fun c14 => ?_)
    · skip
      have hk' : k = 10 := by omega
      subst hk'
      refine ss_X (X' := sUp (sArr X (m + 4) (fun i => if 0 ≤ i ∧ i < 10 - 1 then X (m + 4) (i + 1) else X (m + 4) i)) m 4 10) ?_ ?_
      · rw [← c6]
        funext b l
        dsimp only [sUp, sArr]
        (repeat' split) <;> first | rfl | omega | (simp_all; done) | (simp_all; omega)
      refine ss_aload_n (i := 0) h dX4_keeps_37 38 rfl rfl rfl ?_
      refine ss_dup h dX4_keeps_38 39 rfl rfl ?_
      refine ss_getI h kl4 4 4 rfl (by decide) rfl hM.ob q1091 dX4_keeps_39 42 rfl ?_
      rw [sUp_ss]
      refine ss_iconst h dX4_keeps_42 43 rfl ?_
      refine ss_isub h dX4_keeps_43 44 rfl ?_
      refine ss_putI h kl4 4 4 rfl (by decide) rfl hM.ob q1091 (Or.inl rfl) (by omega) dX4_keeps_44 47 rfl ?_
      refine ss_aload_n (i := 0) h dX4_keeps_47 48 rfl rfl rfl ?_
      refine ss_getS h kl4 3 3 rfl (by decide) rfl hM.ob q1090 dX4_keeps_48 51 rfl hM.r_back ?_
      refine ss_aload_n (i := 0) h dX4_keeps_51 52 rfl rfl rfl ?_
      refine ss_getI h kl4 4 4 rfl (by decide) rfl hM.ob q1091 dX4_keeps_52 55 rfl ?_
      try rw [sUp_ss]
      refine ss_iload_n (i := 1) h dX4_keeps_55 56 rfl rfl rfl ?_
      refine ss_iast h hM.k_back (by decide) (by omega) (by omega) dX4_keeps_56 57 rfl ?_
      refine ss_aload_n (i := 0) h dX4_keeps_57 58 rfl rfl rfl ?_
      refine ss_dup h dX4_keeps_58 59 rfl rfl ?_
      refine ss_getI h kl4 4 4 rfl (by decide) rfl hM.ob q1091 dX4_keeps_59 62 rfl ?_
      rw [sUp_o (show m ≠ m + 4 by omega)]
      try rw [sUp_ss]
      refine ss_iconst h dX4_keeps_62 63 rfl ?_
      refine ss_iadd h dX4_keeps_63 64 rfl ?_
      refine ss_putI h kl4 4 4 rfl (by decide) rfl hM.ob q1091 (Or.inl rfl) (by omega) dX4_keeps_64 67 rfl ?_
      refine ss_vret h dX4_keeps_67 (by omega) (by omega) ?_
      rw [hP9]
      refine ⟨rfl, rfl, rfl, rfl, ?_⟩
      funext b l
      dsimp only [sUp, sArr, keepA, keepN]
      (repeat' split) <;> (try dsimp only [upW]) <;> (repeat' split) <;> first | rfl | omega | (simp_all; done) | (simp_all; omega)
    · skip
      refine ss_aload_n (i := 0) h dX4_keeps_17 18 rfl rfl rfl ?_
      refine ss_getS h kl4 3 3 rfl (by decide) rfl hM.ob q1090 dX4_keeps_18 21 rfl hM.r_back ?_
      refine ss_iload_n (i := 2) h dX4_keeps_21 22 rfl rfl rfl ?_
      refine ss_iconst h dX4_keeps_22 23 rfl ?_
      refine ss_isub h dX4_keeps_23 24 rfl ?_
      refine ss_aload_n (i := 0) h dX4_keeps_24 25 rfl rfl rfl ?_
      refine ss_getS h kl4 3 3 rfl (by decide) rfl hM.ob q1090 dX4_keeps_25 28 rfl hM.r_back ?_
      refine ss_iload_n (i := 2) h dX4_keeps_28 29 rfl rfl rfl ?_
      refine ss_iald h hM.k_back (by decide) (by omega) dX4_keeps_29 30 rfl ?_
      refine ss_iast h hM.k_back (by decide) (by omega) (by rw [sArr_s]; split <;> exact hrg _ _) dX4_keeps_30 31 rfl ?_
      refine ss_inc_2 h dX4_keeps_31 34 rfl ?_
      refine ss_goto h dX4_keeps_34 11 (by decide) ?_
      refine ss_X ?_ (ih _ (by omega) (by omega))
      rw [sArr_sUp]
      refine sArr_c ?_
      funext i
      dsimp only [upW]
      rw [sArr_s, if_neg (show ¬ (0 ≤ k ∧ k < k - 1) by omega)]
      (repeat' split) <;> first | rfl | omega | (congr 1; omega)
theorem m_dig (hM : MOk Ω n K R m) {c : Int} (hd : Dim (X (m + 1))) (hb : 0 ≤ X m 4 ∧ X m 4 ≤ 10) (h1 : sRg c) (hl : 3 ≤ d) : sCt Ω yX4_dig cX4_dig 2 (some .boolean) d 0 0 [.ref m, vI c] n K X R (pA n K R (vI (bI (digB (X (m + 1)) c))) (fun X' => X' = if digB (X (m + 1)) c = true then sUp (sArr (sArr X (m + 1) (upW (X (m + 1)) (120 + c) 1)) (m + 4) (keepA (X (m + 4)) (X m 4) c)) m 4 (keepN (X m 4)) else X)) := by
  refine sCt_of (by decide) (by simp [Value.category, vI, va_rf]) (Nat.le_of_ble_eq_true rfl) fun Γ P9 hP9 h => ?_
  show sG (_, _, _, _, _) Γ 0 0 _ _ _ _ 0 [some _, some _] []
  refine ss_rg fun hrg => ?_
  refine ss_aload_n (i := 0) h dX4_dig_0 1 rfl rfl rfl ?_
  refine ss_iload_n (i := 1) h dX4_dig_1 2 rfl rfl rfl ?_
  refine ss_cVv h (m_isCell hM (d := d - 1) hd h1 (by omega)) (lw_V q1214 q1216 qs40 q87 q1217) kl4 hM.ob 1 rfl md_X4_isCell rfl (by omega) (by decide) rfl dX4_dig_2 5 rfl rfl (Nat.le_of_ble_eq_true rfl) (by omega) (by omega) ?_
  refine ss_if_eq h dX4_dig_5 8 21 rfl (by decide) (by first | omega | exact sRg_b _) (fun c5 => ?_) (fun c5 => ?_)
  · skip
    replace c5 := bI_0.mp c5
    refine ss_iconst h dX4_dig_21 22 rfl ?_
    refine ss_zret h (by first | omega | exact bI_z _) dX4_dig_22 (by omega) (by omega) ?_
    rw [hP9]
    exact ⟨vI_c (by simp [bI, digB, *]), rfl, rfl, rfl, by simp [digB, *]⟩
  · skip
    replace c5 := bI_n.mp c5
    have hc := cellB_t hd c5
    refine ss_aload_n (i := 0) h dX4_dig_8 9 rfl rfl rfl ?_
    refine ss_getS h kl4 0 0 rfl (by decide) rfl hM.ob q1087 dX4_dig_9 12 rfl hM.r_w ?_
    refine ss_bipush h dX4_dig_12 14 rfl (by decide +kernel) ?_
    refine ss_iload_n (i := 1) h dX4_dig_14 15 rfl rfl rfl ?_
    refine ss_iadd h dX4_dig_15 16 rfl ?_
    refine ss_iald h hM.k_w (by decide) (by omega) dX4_dig_16 17 rfl ?_
    refine ss_iconst h dX4_dig_17 18 rfl ?_
    refine ss_icmp_ne h dX4_dig_18 21 23 rfl (by decide) (hrg _ _) (by omega) (fun c18 => ?_) (fun c18 => ?_)
    · skip
      refine ss_aload_n (i := 0) h dX4_dig_23 24 rfl rfl rfl ?_
      refine ss_getS h kl4 0 0 rfl (by decide) rfl hM.ob q1087 dX4_dig_24 27 rfl hM.r_w ?_
      refine ss_bipush h dX4_dig_27 29 rfl (by decide +kernel) ?_
      refine ss_iload_n (i := 1) h dX4_dig_29 30 rfl rfl rfl ?_
      refine ss_iadd h dX4_dig_30 31 rfl ?_
      refine ss_iconst h dX4_dig_31 32 rfl ?_
      refine ss_iast h hM.k_w (by decide) (by omega) (by omega) dX4_dig_32 33 rfl ?_
      refine ss_aload_n (i := 0) h dX4_dig_33 34 rfl rfl rfl ?_
      refine ss_iload_n (i := 1) h dX4_dig_34 35 rfl rfl rfl ?_
      refine ss_X sUp_as ?_
      refine ss_cVn h (m_keeps hM (d := d - 1) (by rw [sArr_n (by omega)]; exact hb) h1) (lw_V q1226 q1228 qs42 q87 q1229) kl4 hM.ob 1 rfl md_X4_keeps rfl (by omega) (by decide) rfl dX4_dig_35 38 rfl rfl (Nat.le_of_ble_eq_true rfl) (by omega) (by omega) (fun X35 x35 => ?_)
      subst x35
      refine ss_iconst h dX4_dig_38 39 rfl ?_
      refine ss_zret h (by first | omega | exact bI_z _) dX4_dig_39 (by omega) (by omega) ?_
      rw [hP9]
      exact ⟨vI_c (by simp [bI, digB, *]), rfl, rfl, rfl, by simp [digB, sArr_n, *]⟩
    · skip
      refine ss_iconst h dX4_dig_21 22 rfl ?_
      refine ss_zret h (by first | omega | exact bI_z _) dX4_dig_22 (by omega) (by omega) ?_
      rw [hP9]
      exact ⟨vI_c (by simp [bI, digB, *]), rfl, rfl, rfl, by simp [digB, *]⟩
theorem m_fill (hM : MOk Ω n K R m) {c : Int} (hd : Dim (X (m + 1))) (hb : 0 ≤ X m 4 ∧ X m 4 ≤ 10) (h1 : sRg c) (hl : 3 ≤ d) : sCt Ω yX4_fill cX4_fill 2 (some .boolean) d 0 0 [.ref m, vI c] n K X R (pA n K R (vI (bI (fillB' (X (m + 1)) c))) (fun X' => X' = if fillB' (X (m + 1)) c = true then sUp (sArr (sArr X (m + 1) (upW (X (m + 1)) (120 + c) 0)) (m + 4) (keepA (X (m + 4)) (X m 4) c)) m 4 (keepN (X m 4)) else X)) := by
  refine sCt_of (by decide) (by simp [Value.category, vI, va_rf]) (Nat.le_of_ble_eq_true rfl) fun Γ P9 hP9 h => ?_
  show sG (_, _, _, _, _) Γ 0 0 _ _ _ _ 0 [some _, some _] []
  refine ss_rg fun hrg => ?_
  refine ss_aload_n (i := 0) h dX4_fill_0 1 rfl rfl rfl ?_
  refine ss_iload_n (i := 1) h dX4_fill_1 2 rfl rfl rfl ?_
  refine ss_cVv h (m_isCell hM (d := d - 1) hd h1 (by omega)) (lw_V q1214 q1216 qs40 q87 q1217) kl4 hM.ob 1 rfl md_X4_isCell rfl (by omega) (by decide) rfl dX4_fill_2 5 rfl rfl (Nat.le_of_ble_eq_true rfl) (by omega) (by omega) ?_
  refine ss_if_eq h dX4_fill_5 8 20 rfl (by decide) (by first | omega | exact sRg_b _) (fun c5 => ?_) (fun c5 => ?_)
  · skip
    replace c5 := bI_0.mp c5
    refine ss_iconst h dX4_fill_20 21 rfl ?_
    refine ss_zret h (by first | omega | exact bI_z _) dX4_fill_21 (by omega) (by omega) ?_
    rw [hP9]
    exact ⟨vI_c (by simp [bI, fillB', *]), rfl, rfl, rfl, by simp [fillB', *]⟩
  · skip
    replace c5 := bI_n.mp c5
    have hc := cellB_t hd c5
    refine ss_aload_n (i := 0) h dX4_fill_8 9 rfl rfl rfl ?_
    refine ss_getS h kl4 0 0 rfl (by decide) rfl hM.ob q1087 dX4_fill_9 12 rfl hM.r_w ?_
    refine ss_bipush h dX4_fill_12 14 rfl (by decide +kernel) ?_
    refine ss_iload_n (i := 1) h dX4_fill_14 15 rfl rfl rfl ?_
    refine ss_iadd h dX4_fill_15 16 rfl ?_
    refine ss_iald h hM.k_w (by decide) (by omega) dX4_fill_16 17 rfl ?_
    refine ss_if_ne h dX4_fill_17 20 22 rfl (by decide) (hrg _ _) (fun c17 => ?_) (fun c17 => ?_)
    · skip
      refine ss_aload_n (i := 0) h dX4_fill_22 23 rfl rfl rfl ?_
      refine ss_getS h kl4 0 0 rfl (by decide) rfl hM.ob q1087 dX4_fill_23 26 rfl hM.r_w ?_
      refine ss_bipush h dX4_fill_26 28 rfl (by decide +kernel) ?_
      refine ss_iload_n (i := 1) h dX4_fill_28 29 rfl rfl rfl ?_
      refine ss_iadd h dX4_fill_29 30 rfl ?_
      refine ss_iconst h dX4_fill_30 31 rfl ?_
      refine ss_iast h hM.k_w (by decide) (by omega) (by omega) dX4_fill_31 32 rfl ?_
      refine ss_aload_n (i := 0) h dX4_fill_32 33 rfl rfl rfl ?_
      refine ss_iload_n (i := 1) h dX4_fill_33 34 rfl rfl rfl ?_
      refine ss_X sUp_as ?_
      refine ss_cVn h (m_keeps hM (d := d - 1) (by rw [sArr_n (by omega)]; exact hb) h1) (lw_V q1226 q1228 qs42 q87 q1229) kl4 hM.ob 1 rfl md_X4_keeps rfl (by omega) (by decide) rfl dX4_fill_34 37 rfl rfl (Nat.le_of_ble_eq_true rfl) (by omega) (by omega) (fun X34 x34 => ?_)
      subst x34
      refine ss_iconst h dX4_fill_37 38 rfl ?_
      refine ss_zret h (by first | omega | exact bI_z _) dX4_fill_38 (by omega) (by omega) ?_
      rw [hP9]
      exact ⟨vI_c (by simp [bI, fillB', *]), rfl, rfl, rfl, by simp [fillB', sArr_n, *]⟩
    · skip
      refine ss_iconst h dX4_fill_20 21 rfl ?_
      refine ss_zret h (by first | omega | exact bI_z _) dX4_fill_21 (by omega) (by omega) ?_
      rw [hP9]
      exact ⟨vI_c (by simp [bI, fillB', *]), rfl, rfl, rfl, by simp [fillB', *]⟩
theorem m_undo (hM : MOk Ω n K R m) (hb : 0 ≤ X m 4 ∧ X m 4 ≤ 10) (hk : ∀ i, 0 ≤ i → i < X m 4 → 0 ≤ X (m + 4) i ∧ X (m + 4) i ≤ 99) (hp : ∀ c, 0 ≤ c → c ≤ 99 → X (m + 1) (120 + c) = 0 ∨ X (m + 1) (120 + c) = 1) : sCt Ω yX4_undo cX4_undo 2 (some .boolean) d 0 0 [.ref m] n K X R (pA n K R (vI (bI (decide (X m 4 ≠ 0)))) (fun X' => X' = if X m 4 ≠ 0 then sArr (sUp X m 4 (X m 4 - 1)) (m + 1) (upW (X (m + 1)) (120 + X (m + 4) (X m 4 - 1)) (1 - X (m + 1) (120 + X (m + 4) (X m 4 - 1)))) else X)) := by
  refine sCt_of (by decide) (by simp [Value.category, vI, va_rf]) (Nat.le_of_ble_eq_true rfl) fun Γ P9 hP9 h => ?_
  show sG (_, _, _, _, _) Γ 0 0 _ _ _ _ 0 [some _, none] []
  refine ss_aload_n (i := 0) h dX4_undo_0 1 rfl rfl rfl ?_
  refine ss_getI h kl4 4 4 rfl (by decide) rfl hM.ob q1091 dX4_undo_1 4 rfl ?_
  refine ss_if_ne h dX4_undo_4 7 9 rfl (by decide) (by first | omega | exact sRg_b _) (fun c4 => ?_) (fun c4 => ?_)
  · skip
    have hk1 := hk (X m 4 - 1) (by omega) (by omega)
    have hp1 := hp _ hk1.1 hk1.2
    refine ss_aload_n (i := 0) h dX4_undo_9 10 rfl rfl rfl ?_
    refine ss_dup h dX4_undo_10 11 rfl rfl ?_
    refine ss_getI h kl4 4 4 rfl (by decide) rfl hM.ob q1091 dX4_undo_11 14 rfl ?_
    refine ss_iconst h dX4_undo_14 15 rfl ?_
    refine ss_isub h dX4_undo_15 16 rfl ?_
    refine ss_putI h kl4 4 4 rfl (by decide) rfl hM.ob q1091 (Or.inl rfl) (by omega) dX4_undo_16 19 rfl ?_
    refine ss_aload_n (i := 0) h dX4_undo_19 20 rfl rfl rfl ?_
    refine ss_getS h kl4 3 3 rfl (by decide) rfl hM.ob q1090 dX4_undo_20 23 rfl hM.r_back ?_
    refine ss_aload_n (i := 0) h dX4_undo_23 24 rfl rfl rfl ?_
    refine ss_getI h kl4 4 4 rfl (by decide) rfl hM.ob q1091 dX4_undo_24 27 rfl ?_
    rw [sUp_ss]
    refine ss_iald h hM.k_back (by decide) (by omega) dX4_undo_27 28 rfl ?_
    rw [sUp_o (show m + 4 ≠ m by omega)]
    refine ss_ist_1 h dX4_undo_28 29 rfl ?_
    refine ss_aload_n (i := 0) h dX4_undo_29 30 rfl rfl rfl ?_
    refine ss_getS h kl4 0 0 rfl (by decide) rfl hM.ob q1087 dX4_undo_30 33 rfl hM.r_w ?_
    refine ss_bipush h dX4_undo_33 35 rfl (by decide +kernel) ?_
    refine ss_iload_n (i := 1) h dX4_undo_35 36 rfl rfl rfl ?_
    refine ss_iadd h dX4_undo_36 37 rfl ?_
    refine ss_iconst h dX4_undo_37 38 rfl ?_
    refine ss_aload_n (i := 0) h dX4_undo_38 39 rfl rfl rfl ?_
    refine ss_getS h kl4 0 0 rfl (by decide) rfl hM.ob q1087 dX4_undo_39 42 rfl hM.r_w ?_
    refine ss_bipush h dX4_undo_42 44 rfl (by decide +kernel) ?_
    refine ss_iload_n (i := 1) h dX4_undo_44 45 rfl rfl rfl ?_
    refine ss_iadd h dX4_undo_45 46 rfl ?_
    refine ss_iald h hM.k_w (by decide) (by omega) dX4_undo_46 47 rfl ?_
    rw [sUp_o (show m + 1 ≠ m by omega)]
    refine ss_isub h dX4_undo_47 48 rfl ?_
    refine ss_iast h hM.k_w (by decide) (by omega) (by omega) dX4_undo_48 49 rfl ?_
    refine ss_iconst h dX4_undo_49 50 rfl ?_
    refine ss_zret h (by first | omega | exact bI_z _) dX4_undo_50 (by omega) (by omega) ?_
    rw [hP9]
    exact ⟨vI_c (by simp [bI, *]), rfl, rfl, rfl, by rw [if_pos c4, sUp_as (a := m + 1), show sUp X m 4 (X m 4 - 1) (m + 1) = X (m + 1) from sUp_ne (by omega)]⟩
  · skip
    refine ss_iconst h dX4_undo_7 8 rfl ?_
    refine ss_zret h (by first | omega | exact bI_z _) dX4_undo_8 (by omega) (by omega) ?_
    rw [hP9]
    exact ⟨vI_c (by simp [bI, *]), rfl, rfl, rfl, by simp [*]⟩
theorem m_barn (hM : MOk Ω n K R m) {c : Int} (hd : Dim (X (m + 1))) (h1 : sRg c) (hl : 3 ≤ d) : sCt Ω yX4_barn cX4_barn 2 (some .boolean) d 0 0 [.ref m, vI c] n K X R (pA n K R (vI (bI (barnB (X (m + 1)) c))) (fun X' => X' = if barnB (X (m + 1)) c = true then sArr X (m + 1) (barnW (X (m + 1)) c) else X)) := by
  refine sCt_of (by decide) (by simp [Value.category, vI, va_rf]) (Nat.le_of_ble_eq_true rfl) fun Γ P9 hP9 h => ?_
  show sG (_, _, _, _, _) Γ 0 0 _ _ _ _ 0 [some _, some _] []
  refine ss_rg fun hrg => ?_
  refine ss_aload_n (i := 0) h dX4_barn_0 1 rfl rfl rfl ?_
  refine ss_iload_n (i := 1) h dX4_barn_1 2 rfl rfl rfl ?_
  refine ss_cVv h (m_isCell hM (d := d - 1) hd h1 (by omega)) (lw_V q1214 q1216 qs40 q87 q1217) kl4 hM.ob 1 rfl md_X4_isCell rfl (by omega) (by decide) rfl dX4_barn_2 5 rfl rfl (Nat.le_of_ble_eq_true rfl) (by omega) (by omega) ?_
  refine ss_if_eq h dX4_barn_5 8 22 rfl (by decide) (by first | omega | exact sRg_b _) (fun c5 => ?_) (fun c5 => ?_)
  · skip
    replace c5 := bI_0.mp c5
    refine ss_iconst h dX4_barn_22 23 rfl ?_
    refine ss_zret h (by first | omega | exact bI_z _) dX4_barn_23 (by omega) (by omega) ?_
    rw [hP9]
    exact ⟨vI_c (by simp [bI, barnB, *]), rfl, rfl, rfl, by simp [barnB, *]⟩
  · skip
    replace c5 := bI_n.mp c5
    have hc := cellB_t hd c5
    refine ss_aload_n (i := 0) h dX4_barn_8 9 rfl rfl rfl ?_
    refine ss_getS h kl4 0 0 rfl (by decide) rfl hM.ob q1087 dX4_barn_9 12 rfl hM.r_w ?_
    refine ss_sipush h dX4_barn_12 15 rfl (by decide +kernel) ?_
    refine ss_iload_n (i := 1) h dX4_barn_15 16 rfl rfl rfl ?_
    refine ss_iadd h dX4_barn_16 17 rfl ?_
    refine ss_iald h hM.k_w (by decide) (by omega) dX4_barn_17 18 rfl ?_
    refine ss_iconst h dX4_barn_18 19 rfl ?_
    refine ss_icmp_ne h dX4_barn_19 22 24 rfl (by decide) (hrg _ _) (by omega) (fun c19 => ?_) (fun c19 => ?_)
    · skip
      refine ss_aload_n (i := 0) h dX4_barn_24 25 rfl rfl rfl ?_
      refine ss_getS h kl4 0 0 rfl (by decide) rfl hM.ob q1087 dX4_barn_25 28 rfl hM.r_w ?_
      refine ss_sipush h dX4_barn_28 31 rfl (by decide +kernel) ?_
      refine ss_iload_n (i := 1) h dX4_barn_31 32 rfl rfl rfl ?_
      refine ss_iadd h dX4_barn_32 33 rfl ?_
      refine ss_iconst h dX4_barn_33 34 rfl ?_
      refine ss_iast h hM.k_w (by decide) (by omega) (by omega) dX4_barn_34 35 rfl ?_
      refine ss_aload_n (i := 0) h dX4_barn_35 36 rfl rfl rfl ?_
      refine ss_getS h kl4 0 0 rfl (by decide) rfl hM.ob q1087 dX4_barn_36 39 rfl hM.r_w ?_
      refine ss_sipush h dX4_barn_39 42 rfl (by decide +kernel) ?_
      refine ss_iload_n (i := 1) h dX4_barn_42 43 rfl rfl rfl ?_
      refine ss_iadd h dX4_barn_43 44 rfl ?_
      refine ss_iconst h dX4_barn_44 45 rfl ?_
      refine ss_iast h hM.k_w (by decide) (by omega) (by omega) dX4_barn_45 46 rfl ?_
      refine ss_aload_n (i := 0) h dX4_barn_46 47 rfl rfl rfl ?_
      refine ss_getS h kl4 0 0 rfl (by decide) rfl hM.ob q1087 dX4_barn_47 50 rfl hM.r_w ?_
      refine ss_sipush h dX4_barn_50 53 rfl (by decide +kernel) ?_
      refine ss_iload_n (i := 1) h dX4_barn_53 54 rfl rfl rfl ?_
      refine ss_iadd h dX4_barn_54 55 rfl ?_
      refine ss_iconst h dX4_barn_55 56 rfl ?_
      refine ss_iast h hM.k_w (by decide) (by omega) (by omega) dX4_barn_56 57 rfl ?_
      refine ss_iconst h dX4_barn_57 58 rfl ?_
      refine ss_zret h (by first | omega | exact bI_z _) dX4_barn_58 (by omega) (by omega) ?_
      rw [hP9]
      exact ⟨vI_c (by simp [bI, barnB, *]), rfl, rfl, rfl, by simp [barnB, barnW, sUp_as, sArr_s, sArr_sArr, *]⟩
    · skip
      refine ss_iconst h dX4_barn_22 23 rfl ?_
      refine ss_zret h (by first | omega | exact bI_z _) dX4_barn_23 (by omega) (by omega) ?_
      rw [hP9]
      exact ⟨vI_c (by simp [bI, barnB, *]), rfl, rfl, rfl, by simp [barnB, *]⟩
theorem m_mirror (hM : MOk Ω n K R m) {x y : Int} {b : Bool} (hd : Dim (X (m + 1))) (h1 : sRg x) (h2 : sRg y) (hl : 2 ≤ d) : sCt Ω yX4_mirror cX4_mirror 4 (some .boolean) d 0 0 [.ref m, vI x, vI y, vI (bI b)] n K X R (pA n K R (vI (bI (pointB (X (m + 1)) x y))) (fun X' => X' = if pointB (X (m + 1)) x y = true then sArr X (m + 1) (upW (X (m + 1)) (720 + 11 * y + x) (bI b)) else X)) := by
  have hd' := hd
  unfold Dim at hd'
  refine sCt_of (by decide) (by simp [Value.category, vI, va_rf]) (Nat.le_of_ble_eq_true rfl) fun Γ P9 hP9 h => ?_
  show sG (_, _, _, _, _) Γ 0 0 _ _ _ _ 0 [some _, some _, some _, some _] []
  refine ss_aload_n (i := 0) h dX4_mirror_0 1 rfl rfl rfl ?_
  refine ss_iload_n (i := 1) h dX4_mirror_1 2 rfl rfl rfl ?_
  refine ss_iload_n (i := 2) h dX4_mirror_2 3 rfl rfl rfl ?_
  refine ss_cVv h (m_isPoint hM (d := d - 1) hd h1 h2 (by omega)) (lw_V q1246 q1248 qs43 q87 q1249) kl4 hM.ob 2 rfl md_X4_isPoint rfl (by omega) (by decide) rfl dX4_mirror_3 6 rfl rfl (Nat.le_of_ble_eq_true rfl) (by omega) (by omega) ?_
  refine ss_if_ne h dX4_mirror_6 9 11 rfl (by decide) (by first | omega | exact sRg_b _) (fun c6 => ?_) (fun c6 => ?_)
  · skip
    replace c6 := bI_1.mp c6
    have hc := pointB_t.mp c6
    refine ss_aload_n (i := 0) h dX4_mirror_11 12 rfl rfl rfl ?_
    refine ss_getS h kl4 0 0 rfl (by decide) rfl hM.ob q1087 dX4_mirror_12 15 rfl hM.r_w ?_
    refine ss_sipush h dX4_mirror_15 18 rfl (by decide +kernel) ?_
    refine ss_bipush h dX4_mirror_18 20 rfl (by decide +kernel) ?_
    refine ss_iload_n (i := 2) h dX4_mirror_20 21 rfl rfl rfl ?_
    refine ss_imul h dX4_mirror_21 22 rfl ?_
    refine ss_iadd h dX4_mirror_22 23 rfl ?_
    refine ss_iload_n (i := 1) h dX4_mirror_23 24 rfl rfl rfl ?_
    refine ss_iadd h dX4_mirror_24 25 rfl ?_
    refine ss_iload_n (i := 3) h dX4_mirror_25 26 rfl rfl rfl ?_
    refine ss_if_eq h dX4_mirror_26 29 33 rfl (by decide) (sRg_b _) (fun c26 => ?_) (fun c26 => ?_)
    · skip
      refine ss_iconst h dX4_mirror_33 34 rfl ?_
      refine ss_iast h hM.k_w (by decide) (by omega) (by omega) dX4_mirror_34 35 rfl ?_
      refine ss_iconst h dX4_mirror_35 36 rfl ?_
      refine ss_zret h (by first | omega | exact bI_z _) dX4_mirror_36 (by omega) (by omega) ?_
      rw [hP9]
      exact ⟨vI_c (by simp [bI, *]), rfl, rfl, rfl, by first | simp [bI_0.mp c26, bI, sUp_as, c6] | simp [bI_n.mp c26, bI, sUp_as, c6]⟩
    · skip
      refine ss_iconst h dX4_mirror_29 30 rfl ?_
      refine ss_goto h dX4_mirror_30 34 (by decide) ?_
      refine ss_iast h hM.k_w (by decide) (by omega) (by omega) dX4_mirror_34 35 rfl ?_
      refine ss_iconst h dX4_mirror_35 36 rfl ?_
      refine ss_zret h (by first | omega | exact bI_z _) dX4_mirror_36 (by omega) (by omega) ?_
      rw [hP9]
      exact ⟨vI_c (by simp [bI, *]), rfl, rfl, rfl, by first | simp [bI_0.mp c26, bI, sUp_as, c6] | simp [bI_n.mp c26, bI, sUp_as, c6]⟩
  · skip
    replace c6 := bI_0.mp c6
    refine ss_iconst h dX4_mirror_9 10 rfl ?_
    refine ss_zret h (by first | omega | exact bI_z _) dX4_mirror_10 (by omega) (by omega) ?_
    rw [hP9]
    exact ⟨vI_c (by simp [bI, *]), rfl, rfl, rfl, by simp [*]⟩
theorem m_nest (hM : MOk Ω n K R m) {x y : Int} (hd : Dim (X (m + 1))) (hn : 0 ≤ X (m + 1) 5 ∧ X (m + 1) 5 ≤ 6) (h1 : sRg x) (h2 : sRg y) (hl : 2 ≤ d) : sCt Ω yX4_nest cX4_nest 3 (some .int) d 0 0 [.ref m, vI x, vI y] n K X R (pA n K R (vI (if nestB (X (m + 1)) x y = true then X (m + 1) 5 else -1)) (fun X' => X' = if nestB (X (m + 1)) x y = true then sArr X (m + 1) (nestW (X (m + 1)) x y) else X)) := by
  refine sCt_of (by decide) (by simp [Value.category, vI, va_rf]) (Nat.le_of_ble_eq_true rfl) fun Γ P9 hP9 h => ?_
  show sG (_, _, _, _, _) Γ 0 0 _ _ _ _ 0 [some _, some _, some _] []
  refine ss_aload_n (i := 0) h dX4_nest_0 1 rfl rfl rfl ?_
  refine ss_iload_n (i := 1) h dX4_nest_1 2 rfl rfl rfl ?_
  refine ss_iload_n (i := 2) h dX4_nest_2 3 rfl rfl rfl ?_
  refine ss_cVv h (m_isPoint hM (d := d - 1) hd h1 h2 (by omega)) (lw_V q1246 q1248 qs43 q87 q1249) kl4 hM.ob 2 rfl md_X4_isPoint rfl (by omega) (by decide) rfl dX4_nest_3 6 rfl rfl (Nat.le_of_ble_eq_true rfl) (by omega) (by omega) ?_
  refine ss_if_eq h dX4_nest_6 9 20 rfl (by decide) (by first | omega | exact sRg_b _) (fun c6 => ?_) (fun c6 => ?_)
  · skip
    replace c6 := bI_0.mp c6
    refine ss_iconst h dX4_nest_20 21 rfl ?_
    refine ss_iret h dX4_nest_21 (by omega) (by omega) ?_
    rw [hP9]
    exact ⟨by simp [nestB, *], rfl, rfl, rfl, by simp [nestB, *]⟩
  · skip
    replace c6 := bI_n.mp c6
    refine ss_aload_n (i := 0) h dX4_nest_9 10 rfl rfl rfl ?_
    refine ss_getS h kl4 0 0 rfl (by decide) rfl hM.ob q1087 dX4_nest_10 13 rfl hM.r_w ?_
    refine ss_iconst h dX4_nest_13 14 rfl ?_
    refine ss_iald h hM.k_w (by decide) (by omega) dX4_nest_14 15 rfl ?_
    refine ss_bipush h dX4_nest_15 17 rfl (by decide +kernel) ?_
    refine ss_icmp_ne h dX4_nest_17 20 22 rfl (by decide) (by first | omega | exact sRg_b _) (by first | omega | exact sRg_b _) (fun c17 => ?_) (fun c17 => ?_)
    · skip
      refine ss_aload_n (i := 0) h dX4_nest_22 23 rfl rfl rfl ?_
      refine ss_getS h kl4 0 0 rfl (by decide) rfl hM.ob q1087 dX4_nest_23 26 rfl hM.r_w ?_
      refine ss_sipush h dX4_nest_26 29 rfl (by decide +kernel) ?_
      refine ss_iconst h dX4_nest_29 30 rfl ?_
      refine ss_aload_n (i := 0) h dX4_nest_30 31 rfl rfl rfl ?_
      refine ss_getS h kl4 0 0 rfl (by decide) rfl hM.ob q1087 dX4_nest_31 34 rfl hM.r_w ?_
      refine ss_iconst h dX4_nest_34 35 rfl ?_
      refine ss_iald h hM.k_w (by decide) (by omega) dX4_nest_35 36 rfl ?_
      try rw [sUp_sn (by omega)]
      refine ss_imul h dX4_nest_36 37 rfl ?_
      refine ss_iadd h dX4_nest_37 38 rfl ?_
      refine ss_iload_n (i := 1) h dX4_nest_38 39 rfl rfl rfl ?_
      refine ss_iast h hM.k_w (by decide) (by omega) (by omega) dX4_nest_39 40 rfl ?_
      refine ss_aload_n (i := 0) h dX4_nest_40 41 rfl rfl rfl ?_
      refine ss_getS h kl4 0 0 rfl (by decide) rfl hM.ob q1087 dX4_nest_41 44 rfl hM.r_w ?_
      refine ss_sipush h dX4_nest_44 47 rfl (by decide +kernel) ?_
      refine ss_iconst h dX4_nest_47 48 rfl ?_
      refine ss_aload_n (i := 0) h dX4_nest_48 49 rfl rfl rfl ?_
      refine ss_getS h kl4 0 0 rfl (by decide) rfl hM.ob q1087 dX4_nest_49 52 rfl hM.r_w ?_
      refine ss_iconst h dX4_nest_52 53 rfl ?_
      refine ss_iald h hM.k_w (by decide) (by omega) dX4_nest_53 54 rfl ?_
      try rw [sUp_sn (by omega)]
      refine ss_imul h dX4_nest_54 55 rfl ?_
      refine ss_iadd h dX4_nest_55 56 rfl ?_
      refine ss_iconst h dX4_nest_56 57 rfl ?_
      refine ss_iadd h dX4_nest_57 58 rfl ?_
      refine ss_iload_n (i := 2) h dX4_nest_58 59 rfl rfl rfl ?_
      refine ss_iast h hM.k_w (by decide) (by omega) (by omega) dX4_nest_59 60 rfl ?_
      refine ss_aload_n (i := 0) h dX4_nest_60 61 rfl rfl rfl ?_
      refine ss_getS h kl4 0 0 rfl (by decide) rfl hM.ob q1087 dX4_nest_61 64 rfl hM.r_w ?_
      refine ss_iconst h dX4_nest_64 65 rfl ?_
      refine ss_dup2 h dX4_nest_65 66 rfl rfl rfl ?_
      refine ss_iald h hM.k_w (by decide) (by omega) dX4_nest_66 67 rfl ?_
      rw [sUp_sn (by omega), sUp_sn (by omega)]
      refine ss_iconst h dX4_nest_67 68 rfl ?_
      refine ss_iadd h dX4_nest_68 69 rfl ?_
      refine ss_iast h hM.k_w (by decide) (by omega) (by omega) dX4_nest_69 70 rfl ?_
      refine ss_aload_n (i := 0) h dX4_nest_70 71 rfl rfl rfl ?_
      refine ss_getS h kl4 0 0 rfl (by decide) rfl hM.ob q1087 dX4_nest_71 74 rfl hM.r_w ?_
      refine ss_iconst h dX4_nest_74 75 rfl ?_
      refine ss_iald h hM.k_w (by decide) (by omega) dX4_nest_75 76 rfl ?_
      refine ss_iconst h dX4_nest_76 77 rfl ?_
      rw [sUp_ss]
      refine ss_isub h dX4_nest_77 78 rfl ?_
      refine ss_iret h dX4_nest_78 (by omega) (by omega) ?_
      rw [hP9]
      exact ⟨by simp [nestB, *], rfl, rfl, rfl, by simp [nestB, nestW, sUp_as, sArr_s, sArr_sArr, *]⟩
    · skip
      refine ss_iconst h dX4_nest_20 21 rfl ?_
      refine ss_iret h dX4_nest_21 (by omega) (by omega) ?_
      rw [hP9]
      exact ⟨by simp [nestB, *], rfl, rfl, rfl, by simp [nestB, *]⟩
theorem m_swallow (hM : MOk Ω n K R m) {x y u l b : Int} (hd : Dim (X (m + 1))) (hn : 0 ≤ X (m + 1) 4 ∧ X (m + 1) 4 ≤ 8) (h1 : sRg x) (h2 : sRg y) (h3 : sRg u) (h4 : sRg l) (h5 : sRg b) (hl : 2 ≤ d) : sCt Ω yX4_swallow cX4_swallow 7 (some .int) d 0 0 [.ref m, vI x, vI y, vI u, vI l, vI b] n K X R (pA n K R (vI (if swalB (X (m + 1)) x y u l b = true then X (m + 1) 4 else -1)) (fun X' => X' = if swalB (X (m + 1)) x y u l b = true then sArr X (m + 1) (swalW (X (m + 1)) x y u l b) else X)) := by
  refine sCt_of (by decide) (by simp [Value.category, vI, va_rf]) (Nat.le_of_ble_eq_true rfl) fun Γ P9 hP9 h => ?_
  show sG (_, _, _, _, _) Γ 0 0 _ _ _ _ 0 [some _, some _, some _, some _, some _, some _, none] []
  refine ss_aload_n (i := 0) h dX4_swallow_0 1 rfl rfl rfl ?_
  refine ss_iload_n (i := 1) h dX4_swallow_1 2 rfl rfl rfl ?_
  refine ss_iload_n (i := 2) h dX4_swallow_2 3 rfl rfl rfl ?_
  refine ss_cVv h (m_isPoint hM (d := d - 1) hd h1 h2 (by omega)) (lw_V q1246 q1248 qs43 q87 q1249) kl4 hM.ob 2 rfl md_X4_isPoint rfl (by omega) (by decide) rfl dX4_swallow_3 6 rfl rfl (Nat.le_of_ble_eq_true rfl) (by omega) (by omega) ?_
  refine ss_if_eq h dX4_swallow_6 9 50 rfl (by decide) (by first | omega | exact sRg_b _) (fun c6 => ?_) (fun c6 => ?_)
  · skip
    replace c6 := bI_0.mp c6
    refine ss_iconst h dX4_swallow_50 51 rfl ?_
    refine ss_iret h dX4_swallow_51 (by omega) (by omega) ?_
    rw [hP9]
    exact ⟨by simp [swalB, *], rfl, rfl, rfl, by simp [swalB, *]⟩
  · skip
    replace c6 := bI_n.mp c6
    refine ss_iload_n (i := 3) h dX4_swallow_9 10 rfl rfl rfl ?_
    refine ss_iconst h dX4_swallow_10 11 rfl ?_
    refine ss_iconst h dX4_swallow_11 12 rfl ?_
    refine ss_cSv h (m_isIn (d := d - 1) (by omega) (by omega) (by omega)) (lw_S q1207 q1208 q87 q1209) 3 rfl md_X4_isIn (by omega) (by decide) rfl dX4_swallow_12 15 rfl rfl (Nat.le_of_ble_eq_true rfl) (by omega) (by omega) ?_
    refine ss_if_eq h dX4_swallow_15 18 50 rfl (by decide) (by first | omega | exact sRg_b _) (fun c15 => ?_) (fun c15 => ?_)
    · skip
      replace c15 := bI_0.mp c15
      refine ss_iconst h dX4_swallow_50 51 rfl ?_
      refine ss_iret h dX4_swallow_51 (by omega) (by omega) ?_
      rw [hP9]
      exact ⟨by simp [swalB, *], rfl, rfl, rfl, by simp [swalB, *]⟩
    · skip
      replace c15 := bI_n.mp c15
      refine ss_iload h dX4_swallow_18 20 rfl rfl ?_
      refine ss_iconst h dX4_swallow_20 21 rfl ?_
      refine ss_bipush h dX4_swallow_21 23 rfl (by decide +kernel) ?_
      refine ss_cSv h (m_isIn (d := d - 1) (by omega) (by omega) (by omega)) (lw_S q1207 q1208 q87 q1209) 3 rfl md_X4_isIn (by omega) (by decide) rfl dX4_swallow_23 26 rfl rfl (Nat.le_of_ble_eq_true rfl) (by omega) (by omega) ?_
      refine ss_if_eq h dX4_swallow_26 29 50 rfl (by decide) (by first | omega | exact sRg_b _) (fun c26 => ?_) (fun c26 => ?_)
      · skip
        replace c26 := bI_0.mp c26
        refine ss_iconst h dX4_swallow_50 51 rfl ?_
        refine ss_iret h dX4_swallow_51 (by omega) (by omega) ?_
        rw [hP9]
        exact ⟨by simp [swalB, *], rfl, rfl, rfl, by simp [swalB, *]⟩
      · skip
        replace c26 := bI_n.mp c26
        refine ss_iload h dX4_swallow_29 31 rfl rfl ?_
        refine ss_iconst h dX4_swallow_31 32 rfl ?_
        refine ss_iconst h dX4_swallow_32 33 rfl ?_
        refine ss_cSv h (m_isIn (d := d - 1) (by omega) (by omega) (by omega)) (lw_S q1207 q1208 q87 q1209) 3 rfl md_X4_isIn (by omega) (by decide) rfl dX4_swallow_33 36 rfl rfl (Nat.le_of_ble_eq_true rfl) (by omega) (by omega) ?_
        refine ss_if_eq h dX4_swallow_36 39 50 rfl (by decide) (by first | omega | exact sRg_b _) (fun c36 => ?_) (fun c36 => ?_)
        · skip
          replace c36 := bI_0.mp c36
          refine ss_iconst h dX4_swallow_50 51 rfl ?_
          refine ss_iret h dX4_swallow_51 (by omega) (by omega) ?_
          rw [hP9]
          exact ⟨by simp [swalB, *], rfl, rfl, rfl, by simp [swalB, *]⟩
        · skip
          replace c36 := bI_n.mp c36
          refine ss_aload_n (i := 0) h dX4_swallow_39 40 rfl rfl rfl ?_
          refine ss_getS h kl4 0 0 rfl (by decide) rfl hM.ob q1087 dX4_swallow_40 43 rfl hM.r_w ?_
          refine ss_iconst h dX4_swallow_43 44 rfl ?_
          refine ss_iald h hM.k_w (by decide) (by omega) dX4_swallow_44 45 rfl ?_
          refine ss_bipush h dX4_swallow_45 47 rfl (by decide +kernel) ?_
          refine ss_icmp_ne h dX4_swallow_47 50 52 rfl (by decide) (by first | omega | exact sRg_b _) (by first | omega | exact sRg_b _) (fun c47 => ?_) (fun c47 => ?_)
          · skip
            refine ss_sipush h dX4_swallow_52 55 rfl (by decide +kernel) ?_
            refine ss_iconst h dX4_swallow_55 56 rfl ?_
            refine ss_aload_n (i := 0) h dX4_swallow_56 57 rfl rfl rfl ?_
            refine ss_getS h kl4 0 0 rfl (by decide) rfl hM.ob q1087 dX4_swallow_57 60 rfl hM.r_w ?_
            refine ss_iconst h dX4_swallow_60 61 rfl ?_
            refine ss_iald h hM.k_w (by decide) (by omega) dX4_swallow_61 62 rfl ?_
            refine ss_imul h dX4_swallow_62 63 rfl ?_
            refine ss_iadd h dX4_swallow_63 64 rfl ?_
            refine ss_ist_6 h dX4_swallow_64 66 rfl ?_
            refine ss_aload_n (i := 0) h dX4_swallow_66 67 rfl rfl rfl ?_
            refine ss_getS h kl4 0 0 rfl (by decide) rfl hM.ob q1087 dX4_swallow_67 70 rfl hM.r_w ?_
            refine ss_iload h dX4_swallow_70 72 rfl rfl ?_
            refine ss_iload_n (i := 1) h dX4_swallow_72 73 rfl rfl rfl ?_
            refine ss_iast h hM.k_w (by decide) (by omega) (by omega) dX4_swallow_73 74 rfl ?_
            refine ss_aload_n (i := 0) h dX4_swallow_74 75 rfl rfl rfl ?_
            refine ss_getS h kl4 0 0 rfl (by decide) rfl hM.ob q1087 dX4_swallow_75 78 rfl hM.r_w ?_
            refine ss_iload h dX4_swallow_78 80 rfl rfl ?_
            refine ss_iconst h dX4_swallow_80 81 rfl ?_
            refine ss_iadd h dX4_swallow_81 82 rfl ?_
            refine ss_iload_n (i := 2) h dX4_swallow_82 83 rfl rfl rfl ?_
            refine ss_iast h hM.k_w (by decide) (by omega) (by omega) dX4_swallow_83 84 rfl ?_
            refine ss_aload_n (i := 0) h dX4_swallow_84 85 rfl rfl rfl ?_
            refine ss_getS h kl4 0 0 rfl (by decide) rfl hM.ob q1087 dX4_swallow_85 88 rfl hM.r_w ?_
            refine ss_iload h dX4_swallow_88 90 rfl rfl ?_
            refine ss_iconst h dX4_swallow_90 91 rfl ?_
            refine ss_iadd h dX4_swallow_91 92 rfl ?_
            refine ss_iload_n (i := 3) h dX4_swallow_92 93 rfl rfl rfl ?_
            refine ss_iast h hM.k_w (by decide) (by omega) (by omega) dX4_swallow_93 94 rfl ?_
            refine ss_aload_n (i := 0) h dX4_swallow_94 95 rfl rfl rfl ?_
            refine ss_getS h kl4 0 0 rfl (by decide) rfl hM.ob q1087 dX4_swallow_95 98 rfl hM.r_w ?_
            refine ss_iload h dX4_swallow_98 100 rfl rfl ?_
            refine ss_iconst h dX4_swallow_100 101 rfl ?_
            refine ss_iadd h dX4_swallow_101 102 rfl ?_
            refine ss_iload h dX4_swallow_102 104 rfl rfl ?_
            refine ss_iast h hM.k_w (by decide) (by omega) (by omega) dX4_swallow_104 105 rfl ?_
            refine ss_aload_n (i := 0) h dX4_swallow_105 106 rfl rfl rfl ?_
            refine ss_getS h kl4 0 0 rfl (by decide) rfl hM.ob q1087 dX4_swallow_106 109 rfl hM.r_w ?_
            refine ss_iload h dX4_swallow_109 111 rfl rfl ?_
            refine ss_iconst h dX4_swallow_111 112 rfl ?_
            refine ss_iadd h dX4_swallow_112 113 rfl ?_
            refine ss_iload h dX4_swallow_113 115 rfl rfl ?_
            refine ss_iast h hM.k_w (by decide) (by omega) (by omega) dX4_swallow_115 116 rfl ?_
            refine ss_aload_n (i := 0) h dX4_swallow_116 117 rfl rfl rfl ?_
            refine ss_getS h kl4 0 0 rfl (by decide) rfl hM.ob q1087 dX4_swallow_117 120 rfl hM.r_w ?_
            refine ss_iconst h dX4_swallow_120 121 rfl ?_
            refine ss_dup2 h dX4_swallow_121 122 rfl rfl rfl ?_
            refine ss_iald h hM.k_w (by decide) (by omega) dX4_swallow_122 123 rfl ?_
            rw [sUp_sn (by omega), sUp_sn (by omega), sUp_sn (by omega), sUp_sn (by omega), sUp_sn (by omega)]
            refine ss_iconst h dX4_swallow_123 124 rfl ?_
            refine ss_iadd h dX4_swallow_124 125 rfl ?_
            refine ss_iast h hM.k_w (by decide) (by omega) (by omega) dX4_swallow_125 126 rfl ?_
            refine ss_aload_n (i := 0) h dX4_swallow_126 127 rfl rfl rfl ?_
            refine ss_getS h kl4 0 0 rfl (by decide) rfl hM.ob q1087 dX4_swallow_127 130 rfl hM.r_w ?_
            refine ss_iconst h dX4_swallow_130 131 rfl ?_
            refine ss_iald h hM.k_w (by decide) (by omega) dX4_swallow_131 132 rfl ?_
            refine ss_iconst h dX4_swallow_132 133 rfl ?_
            rw [sUp_ss]
            refine ss_isub h dX4_swallow_133 134 rfl ?_
            refine ss_iret h dX4_swallow_134 (by omega) (by omega) ?_
            rw [hP9]
            exact ⟨by simp [swalB, *], rfl, rfl, rfl, by simp [swalB, swalW, sUp_as, sArr_s, sArr_sArr, *]⟩
          · skip
            refine ss_iconst h dX4_swallow_50 51 rfl ?_
            refine ss_iret h dX4_swallow_51 (by omega) (by omega) ?_
            rw [hP9]
            exact ⟨by simp [swalB, *], rfl, rfl, rfl, by simp [swalB, *]⟩
theorem m_see (hM : MOk Ω n K R m) {k : Int} (hb : 0 ≤ X m 14 ∧ X m 14 ≤ 400) (h1 : 0 ≤ k ∧ k ≤ 1000) : sCt Ω yX4_see cX4_see 2 (some .int) d 0 0 [.ref m, vI k] n K X R (pV n K X R (some (vI (if k < X m 14 then X (m + 7) k else -1)))) := by
  refine sCt_of (by decide) (by simp [Value.category, vI, va_rf]) (Nat.le_of_ble_eq_true rfl) fun Γ P9 hP9 h => ?_
  show sG (_, _, _, _, _) Γ 0 0 _ _ _ _ 0 [some _, some _] []
  refine ss_iload_n (i := 1) h dX4_see_0 1 rfl rfl rfl ?_
  refine ss_aload_n (i := 0) h dX4_see_1 2 rfl rfl rfl ?_
  refine ss_getI h kl4 14 14 rfl (by decide) rfl hM.ob q1101 dX4_see_2 5 rfl ?_
  refine ss_icmp_ge h dX4_see_5 8 17 rfl (by decide) (by first | omega | exact sRg_b _) (by first | omega | exact sRg_b _) (fun c5 => ?_) (fun c5 => ?_)
  · skip
    refine ss_iconst h dX4_see_17 18 rfl ?_
    refine ss_iret h dX4_see_18 (by omega) (by omega) ?_
    rw [hP9]
    exact ⟨by first | rw [if_pos (by omega)] | rw [if_neg (by omega)], rfl, rfl, rfl, rfl⟩
  · skip
    refine ss_aload_n (i := 0) h dX4_see_8 9 rfl rfl rfl ?_
    refine ss_getS h kl4 9 9 rfl (by decide) rfl hM.ob q1096 dX4_see_9 12 rfl hM.r_tape ?_
    refine ss_iload_n (i := 1) h dX4_see_12 13 rfl rfl rfl ?_
    refine ss_iald h hM.k_tape (by decide) (by omega) dX4_see_13 14 rfl ?_
    refine ss_goto h dX4_see_14 18 (by decide) ?_
    refine ss_iret h dX4_see_18 (by omega) (by omega) ?_
    rw [hP9]
    exact ⟨by first | rw [if_pos (by omega)] | rw [if_neg (by omega)], rfl, rfl, rfl, rfl⟩
theorem m_isLetter {c : Int} (h1 : sRg c) (hl : 1 ≤ d) : sCt Ω yX4_isLetter cX4_isLetter 1 (some .boolean) d 0 0 [vI c] n K X R (pV n K X R (some (vI (bI (letB c))))) := by
  refine sCt_of (by decide) (by simp [Value.category, vI, va_rf]) (Nat.le_of_ble_eq_true rfl) fun Γ P9 hP9 h => ?_
  show sG (_, _, _, _, _) Γ 0 0 _ _ _ _ 0 [some _] []
  refine ss_iload_n (i := 0) h dX4_isLetter_0 1 rfl rfl rfl ?_
  refine ss_bipush h dX4_isLetter_1 3 rfl (by decide +kernel) ?_
  refine ss_bipush h dX4_isLetter_3 5 rfl (by decide +kernel) ?_
  refine ss_cSv h (m_isIn (d := d - 1) (by omega) (by omega) (by omega)) (lw_S q1207 q1208 q87 q1209) 3 rfl md_X4_isIn (by omega) (by decide) rfl dX4_isLetter_5 8 rfl rfl (Nat.le_of_ble_eq_true rfl) (by omega) (by omega) ?_
  refine ss_if_ne h dX4_isLetter_8 11 22 rfl (by decide) (by first | omega | exact sRg_b _) (fun c8 => ?_) (fun c8 => ?_)
  · skip
    replace c8 := bI_1.mp c8
    refine ss_iconst h dX4_isLetter_22 23 rfl ?_
    refine ss_goto h dX4_isLetter_23 27 (by decide) ?_
    refine ss_zret h (by first | omega | exact bI_z _) dX4_isLetter_27 (by omega) (by omega) ?_
    rw [hP9]
    exact ⟨vI_c (by simp [bI, letB, *]), rfl, rfl, rfl, rfl⟩
  · skip
    replace c8 := bI_0.mp c8
    refine ss_iload_n (i := 0) h dX4_isLetter_11 12 rfl rfl rfl ?_
    refine ss_bipush h dX4_isLetter_12 14 rfl (by decide +kernel) ?_
    refine ss_bipush h dX4_isLetter_14 16 rfl (by decide +kernel) ?_
    refine ss_cSv h (m_isIn (d := d - 1) (by omega) (by omega) (by omega)) (lw_S q1207 q1208 q87 q1209) 3 rfl md_X4_isIn (by omega) (by decide) rfl dX4_isLetter_16 19 rfl rfl (Nat.le_of_ble_eq_true rfl) (by omega) (by omega) ?_
    refine ss_if_eq h dX4_isLetter_19 22 26 rfl (by decide) (by first | omega | exact sRg_b _) (fun c19 => ?_) (fun c19 => ?_)
    · skip
      replace c19 := bI_0.mp c19
      refine ss_iconst h dX4_isLetter_26 27 rfl ?_
      refine ss_zret h (by first | omega | exact bI_z _) dX4_isLetter_27 (by omega) (by omega) ?_
      rw [hP9]
      exact ⟨vI_c (by simp [bI, letB, *]), rfl, rfl, rfl, rfl⟩
    · skip
      replace c19 := bI_n.mp c19
      refine ss_iconst h dX4_isLetter_22 23 rfl ?_
      refine ss_goto h dX4_isLetter_23 27 (by decide) ?_
      refine ss_zret h (by first | omega | exact bI_z _) dX4_isLetter_27 (by omega) (by omega) ?_
      rw [hP9]
      exact ⟨vI_c (by simp [bI, letB, *]), rfl, rfl, rfl, rfl⟩
theorem m_isDigit {c : Int} (h1 : sRg c) (hl : 1 ≤ d) : sCt Ω yX4_isDigit cX4_isDigit 1 (some .boolean) d 0 0 [vI c] n K X R (pV n K X R (some (vI (bI (digitB c))))) := by
  refine sCt_of (by decide) (by simp [Value.category, vI, va_rf]) (Nat.le_of_ble_eq_true rfl) fun Γ P9 hP9 h => ?_
  show sG (_, _, _, _, _) Γ 0 0 _ _ _ _ 0 [some _] []
  refine ss_iload_n (i := 0) h dX4_isDigit_0 1 rfl rfl rfl ?_
  refine ss_bipush h dX4_isDigit_1 3 rfl (by decide +kernel) ?_
  refine ss_bipush h dX4_isDigit_3 5 rfl (by decide +kernel) ?_
  refine ss_cSv h (m_isIn (d := d - 1) (by omega) (by omega) (by omega)) (lw_S q1207 q1208 q87 q1209) 3 rfl md_X4_isIn (by omega) (by decide) rfl dX4_isDigit_5 8 rfl rfl (Nat.le_of_ble_eq_true rfl) (by omega) (by omega) ?_
  refine ss_zret h (by first | omega | exact bI_z _) dX4_isDigit_8 (by omega) (by omega) ?_
  rw [hP9]
  exact ⟨rfl, rfl, rfl, rfl, rfl⟩
theorem m_end (hM : MOk Ω n K R m) {k : Int} (h1 : sRg k) (hl : 1 ≤ d) : sCt Ω yX4_end cX4_end 2 (some .boolean) d 0 0 [.ref m, vI k] n K X R (pA n K R (vI (bI (inB k 0 (X m 14)))) (fun X' => X' = if inB k 0 (X m 14) = true then sUp X m 14 k else X)) := by
  refine sCt_of (by decide) (by simp [Value.category, vI, va_rf]) (Nat.le_of_ble_eq_true rfl) fun Γ P9 hP9 h => ?_
  show sG (_, _, _, _, _) Γ 0 0 _ _ _ _ 0 [some _, some _] []
  refine ss_rg fun hrg => ?_
  refine ss_iload_n (i := 1) h dX4_end_0 1 rfl rfl rfl ?_
  refine ss_iconst h dX4_end_1 2 rfl ?_
  refine ss_aload_n (i := 0) h dX4_end_2 3 rfl rfl rfl ?_
  refine ss_getI h kl4 14 14 rfl (by decide) rfl hM.ob q1101 dX4_end_3 6 rfl ?_
  refine ss_cSv h (m_isIn (d := d - 1) (by omega) (by omega) (hrg _ _)) (lw_S q1207 q1208 q87 q1209) 3 rfl md_X4_isIn (by omega) (by decide) rfl dX4_end_6 9 rfl rfl (Nat.le_of_ble_eq_true rfl) (by omega) (by omega) ?_
  refine ss_if_ne h dX4_end_9 12 14 rfl (by decide) (by first | omega | exact sRg_b _) (fun c9 => ?_) (fun c9 => ?_)
  · skip
    replace c9 := bI_1.mp c9
    refine ss_aload_n (i := 0) h dX4_end_14 15 rfl rfl rfl ?_
    refine ss_iload_n (i := 1) h dX4_end_15 16 rfl rfl rfl ?_
    refine ss_putI h kl4 14 14 rfl (by decide) rfl hM.ob q1101 (Or.inl rfl) (by omega) dX4_end_16 19 rfl ?_
    refine ss_iconst h dX4_end_19 20 rfl ?_
    refine ss_zret h (by first | omega | exact bI_z _) dX4_end_20 (by omega) (by omega) ?_
    rw [hP9]
    exact ⟨vI_c (by simp [bI, *]), rfl, rfl, rfl, by simp [*]⟩
  · skip
    replace c9 := bI_0.mp c9
    refine ss_iconst h dX4_end_12 13 rfl ?_
    refine ss_zret h (by first | omega | exact bI_z _) dX4_end_13 (by omega) (by omega) ?_
    rw [hP9]
    exact ⟨vI_c (by simp [bI, *]), rfl, rfl, rfl, by simp [*]⟩
theorem m_fault (hM : MOk Ω n K R m) {k : Int} (h1 : sRg k) : sCt Ω yX4_fault cX4_fault 2 (some .int) d 0 0 [.ref m, vI k] n K X R (pV n K X R (some (vI (if k = 0 then X m 21 else if k = 1 then X m 23 else -1)))) := by
  refine sCt_of (by decide) (by simp [Value.category, vI, va_rf]) (Nat.le_of_ble_eq_true rfl) fun Γ P9 hP9 h => ?_
  show sG (_, _, _, _, _) Γ 0 0 _ _ _ _ 0 [some _, some _] []
  refine ss_iload_n (i := 1) h dX4_fault_0 1 rfl rfl rfl ?_
  refine ss_if_ne h dX4_fault_1 4 11 rfl (by decide) (by first | omega | exact sRg_b _) (fun c1 => ?_) (fun c1 => ?_)
  · skip
    refine ss_iload_n (i := 1) h dX4_fault_11 12 rfl rfl rfl ?_
    refine ss_iconst h dX4_fault_12 13 rfl ?_
    refine ss_icmp_ne h dX4_fault_13 16 23 rfl (by decide) (by first | omega | exact sRg_b _) (by first | omega | exact sRg_b _) (fun c13 => ?_) (fun c13 => ?_)
    · skip
      refine ss_iconst h dX4_fault_23 24 rfl ?_
      refine ss_iret h dX4_fault_24 (by omega) (by omega) ?_
      rw [hP9]
      exact ⟨by simp [*], rfl, rfl, rfl, rfl⟩
    · skip
      refine ss_aload_n (i := 0) h dX4_fault_16 17 rfl rfl rfl ?_
      refine ss_getI h kl4 23 23 rfl (by decide) rfl hM.ob q1110 dX4_fault_17 20 rfl ?_
      refine ss_goto h dX4_fault_20 24 (by decide) ?_
      refine ss_iret h dX4_fault_24 (by omega) (by omega) ?_
      rw [hP9]
      exact ⟨by simp [*], rfl, rfl, rfl, rfl⟩
  · skip
    refine ss_aload_n (i := 0) h dX4_fault_4 5 rfl rfl rfl ?_
    refine ss_getI h kl4 21 21 rfl (by decide) rfl hM.ob q1108 dX4_fault_5 8 rfl ?_
    refine ss_goto h dX4_fault_8 24 (by decide) ?_
    refine ss_iret h dX4_fault_24 (by omega) (by omega) ?_
    rw [hP9]
    exact ⟨by simp [*], rfl, rfl, rfl, rfl⟩
end M2

