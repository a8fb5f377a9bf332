/-! ===== the twin: words, tokens ===== -/
section M16
variable {Ω : OmT} {n : Nat} {K : KT} {X : XT} {R : RT} {m : Nat} {d : Nat}
abbrev nZ (bs : List Nat) : List Int := bs.map (fun b : Nat => (b : Int))
def isN (l : Bool) (B : WT) (a : Int) (bs : List Nat) : Nat → Bool
  | 0 => l
  | k + 1 => isN l B a bs k && decide (B (a + k) = ((bs.getD k 0 : Nat) : Int))
theorem isN_lo {l : Bool} {B : WT} {a : Int} {bs : List Nat} {k : Nat} (h : isN l B a bs k = false) : ∀ j, isN l B a bs (k + j) = false
  | 0 => h
  | j + 1 => by
    show (isN l B a bs (k + j) && _) = false
    rw [isN_lo h j]
    rfl
theorem isN_t {l : Bool} {B : WT} {a : Int} {bs : List Nat} : ∀ k, isN l B a bs k = true ↔ (l = true ∧ ∀ j : Nat, j < k → B (a + j) = ((bs.getD j 0 : Nat) : Int))
  | 0 => ⟨fun h => ⟨h, fun j hj => absurd hj (Nat.not_lt_zero _)⟩, fun h => h.1⟩
  | k + 1 => by
    show (isN l B a bs k && _) = true ↔ _
    rw [Bool.and_eq_true, isN_t k, decide_eq_true_eq]
    constructor
    · rintro ⟨⟨h1, h2⟩, h3⟩
      refine ⟨h1, fun j hj => ?_⟩
      by_cases e : j = k
      · rw [e]
        exact h3
      · exact h2 j (by omega)
    · rintro ⟨h1, h2⟩
      exact ⟨⟨h1, fun j hj => h2 j (by omega)⟩, h2 k (by omega)⟩
theorem isN_slc {B : WT} {a e : Int} {bs : List Nat} (h : a ≤ e) : isN (decide (e - a = (bs.length : Int))) B a bs bs.length = decide (slc B a e = nZ bs) := by
  rw [Bool.eq_iff_iff, isN_t, decide_eq_true_eq, decide_eq_true_eq]
  have hl : (slc B a e).length = (e - a).toNat := by simp [slc]
  constructor
  · rintro ⟨h1, h2⟩
    refine List.ext_getElem (by rw [hl, List.length_map]; omega) fun i i1 i2 => ?_
    rw [List.length_map] at i2
    have := h2 i i2
    simp only [slc, nZ, List.getElem_map, List.getElem_range]
    rw [this, List.getD_eq_getElem?_getD, List.getElem?_eq_getElem i2]
    rfl
  · intro h1
    have h3 := congrArg List.length h1
    rw [hl, List.length_map] at h3
    refine ⟨by omega, fun j hj => ?_⟩
    have h4 : (slc B a e)[j]? = (nZ bs)[j]? := by rw [h1]
    simp only [slc, nZ, List.getElem?_map] at h4
    rw [List.getElem?_range (by omega), List.getElem?_eq_getElem hj] at h4
    rw [List.getD_eq_getElem?_getD, List.getElem?_eq_getElem hj]
    exact Option.some.inj h4
theorem m_is (hM : MOk Ω n K R m) {a v : Nat} {bs : List Nat} (hs : sSt Ω a v bs) (h1 : 0 ≤ X m 17 ∧ X m 17 ≤ X m 15) (h2 : X m 15 ≤ 400) (hl : 4 ≤ d) : sCt Ω yX4_is cX4_is 4 (some .boolean) d 0 0 [.ref m, .ref a] n K X R (pV n K X R (some (vI (bI (decide (slc (X (m + 7)) (X m 17) (X m 15) = nZ bs)))))) := by
  have hn := hs.2.2.2.2.1
  obtain ⟨F, hF⟩ : ∃ F, F = decide (slc (X (m + 7)) (X m 17) (X m 15) = nZ bs) := ⟨_, rfl⟩
  rw [← hF]
  rw [← isN_slc h1.2] at hF
  obtain ⟨l, hl2⟩ : ∃ l, l = decide (X m 15 - X m 17 = (bs.length : Int)) := ⟨_, rfl⟩
  rw [← hl2] at hF
  refine sCt_of (by decide) (by simp [Value.category, vI, va_rf]) (Nat.le_of_ble_eq_true rfl) fun Γ P9 hP9 h => ?_
  show sG (_, _, _, _, _) Γ 0 0 _ _ _ _ 0 [some _, some _, none, none] []
  refine ss_rg fun hrg => ?_
  refine ss_cut (σ := Unit) (fun s => True) 21 (fun s => X) (fun s => [some (.ref m), some (.ref a), none, none]) (fun s => [vI (bI l)]) (fun s h21 => ?_) (fun J21 => ?_)
  · skip
    refine ss_ist_2 h dX4_is_21 22 rfl ?_
    refine ss_iconst h dX4_is_22 23 rfl ?_
    refine ss_ist_3 h dX4_is_23 24 rfl ?_
    refine ss_loop (σ := Nat) (Pp := fun k => sG _ Γ 0 0 n K X R 24 [some (.ref m), some (.ref a), some (vI (bI (isN l (X (m + 7)) (X m 17) bs k))), some (vI k)] []) (I := fun k => k ≤ bs.length) (fun k => bs.length - k) (fun k hk ih => ?_) 0 (Nat.zero_le _)
    have hst : isN l (X (m + 7)) (X m 17) bs (k + 1) = (isN l (X (m + 7)) (X m 17) bs k && decide (X (m + 7) (X m 17 + k) = ((bs.getD k 0 : Nat) : Int))) := rfl
    refine ss_iload_n (i := 3) h dX4_is_24 25 rfl rfl rfl ?_
    refine ss_aload_n (i := 1) h dX4_is_25 26 rfl rfl rfl ?_
    refine ss_cCv h (j_length (d := d - 1) hs (by omega)) (lw_V q1290 q475 q476 q92 q477) hs.1 0 rfl md_J1_length rfl (by omega) (by decide) rfl dX4_is_26 29 rfl rfl (Nat.le_of_ble_eq_true rfl) (by omega) (by omega) ?_
    refine ss_icmp_ge h dX4_is_29 32 67 rfl (by decide) (by first | omega | exact sRg_b _) (by first | omega | exact sRg_b _) (fun c29 => ?_) (fun c29 => ?_)
    · skip
      have hfin : bI (isN l (X (m + 7)) (X m 17) bs k) = bI F := by
        first
        | rw [c33, hz]
        | rw [hF, show k = bs.length by omega]
      refine ss_iload_n (i := 2) h dX4_is_67 68 rfl rfl rfl ?_
      refine ss_zret h (bI_z _) dX4_is_68 (by omega) (by omega) ?_
      rw [hP9]
      exact ⟨vI_c hfin, rfl, rfl, rfl, rfl⟩
    · skip
      refine ss_iload_n (i := 2) h dX4_is_32 33 rfl rfl rfl ?_
      refine ss_if_eq h dX4_is_33 36 67 rfl (by decide) (sRg_b _) (fun c33 => ?_) (fun c33 => ?_)
      · skip
        replace c33 := bI_0.mp c33
        have hz : F = false := by
          have := isN_lo c33 (bs.length - k)
          rw [Nat.add_sub_cancel' hk] at this
          rw [hF, this]
        have hfin : bI (isN l (X (m + 7)) (X m 17) bs k) = bI F := by
          first
          | rw [c33, hz]
          | rw [hF, show k = bs.length by omega]
        refine ss_iload_n (i := 2) h dX4_is_67 68 rfl rfl rfl ?_
        refine ss_zret h (bI_z _) dX4_is_68 (by omega) (by omega) ?_
        rw [hP9]
        exact ⟨vI_c hfin, rfl, rfl, rfl, rfl⟩
      · skip
        replace c33 := bI_n.mp c33
        have hlt : X m 15 - X m 17 = (bs.length : Int) := by
          have := ((isN_t k).mp c33).1
          rw [hl2] at this
          exact of_decide_eq_true this
        have hb := bs_in hs.2.2.2.2.2 k
        refine ss_aload_n (i := 0) h dX4_is_36 37 rfl rfl rfl ?_
        refine ss_getS h kl4 9 9 rfl (by decide) rfl hM.ob q1096 dX4_is_37 40 rfl hM.r_tape ?_
        refine ss_aload_n (i := 0) h dX4_is_40 41 rfl rfl rfl ?_
        refine ss_getI h kl4 17 17 rfl (by decide) rfl hM.ob q1104 dX4_is_41 44 rfl ?_
        refine ss_iload_n (i := 3) h dX4_is_44 45 rfl rfl rfl ?_
        refine ss_iadd h dX4_is_45 46 rfl ?_
        refine ss_iald h hM.k_tape (by decide) (by omega) dX4_is_46 47 rfl ?_
        refine ss_aload_n (i := 1) h dX4_is_47 48 rfl rfl rfl ?_
        refine ss_iload_n (i := 3) h dX4_is_48 49 rfl rfl rfl ?_
        refine ss_cCv h (j_charAt (d := d - 1) (i := k) hs (by omega) (by omega)) (lw_V q1291 q485 q486 q92 q487) hs.1 1 rfl md_J1_charAt rfl (by omega) (by decide) rfl dX4_is_49 52 rfl rfl (Nat.le_of_ble_eq_true rfl) (by omega) (by omega) ?_
        rw [Int.toNat_natCast]
        refine ss_icmp_ne h dX4_is_52 55 59 rfl (by decide) (hrg _ _) (by omega) (fun c52 => ?_) (fun c52 => ?_)
        · skip
          have hv : isN l (X (m + 7)) (X m 17) bs (k + 1) = false := by rw [hst, decide_eq_false c52, Bool.and_false]
          refine ss_iconst h dX4_is_59 60 rfl ?_
          refine ss_ist_2 h dX4_is_60 61 rfl ?_
          refine ss_inc_3 h dX4_is_61 64 rfl ?_
          refine ss_goto h dX4_is_64 24 (by decide) ?_
          have z := ih (k + 1) (by omega) (by omega)
          rw [hv] at z
          exact z
        · skip
          have hv : isN l (X (m + 7)) (X m 17) bs (k + 1) = true := by rw [hst, c33, decide_eq_true c52]; rfl
          refine ss_iconst h dX4_is_55 56 rfl ?_
          refine ss_goto h dX4_is_56 60 (by decide) ?_
          refine ss_ist_2 h dX4_is_60 61 rfl ?_
          refine ss_inc_3 h dX4_is_61 64 rfl ?_
          refine ss_goto h dX4_is_64 24 (by decide) ?_
          have z := ih (k + 1) (by omega) (by omega)
          rw [hv] at z
          exact z
  refine ss_aload_n (i := 0) h dX4_is_0 1 rfl rfl rfl ?_
  refine ss_getI h kl4 15 15 rfl (by decide) rfl hM.ob q1102 dX4_is_1 4 rfl ?_
  refine ss_aload_n (i := 0) h dX4_is_4 5 rfl rfl rfl ?_
  refine ss_getI h kl4 17 17 rfl (by decide) rfl hM.ob q1104 dX4_is_5 8 rfl ?_
  refine ss_isub h dX4_is_8 9 rfl ?_
  refine ss_aload_n (i := 1) h dX4_is_9 10 rfl rfl rfl ?_
  refine ss_cCv h (j_length (d := d - 1) hs (by omega)) (lw_V q1290 q475 q476 q92 q477) hs.1 0 rfl md_J1_length rfl (by omega) (by decide) rfl dX4_is_10 13 rfl rfl (Nat.le_of_ble_eq_true rfl) (by omega) (by omega) ?_
  refine ss_icmp_ne h dX4_is_13 16 20 rfl (by decide) (by first | omega | exact sRg_b _) (by first | omega | exact sRg_b _) (fun c13 => ?_) (fun c13 => ?_)
  · skip
    refine ss_iconst h dX4_is_20 21 rfl ?_
    have z := J21 () trivial
    first
      | (rw [show l = false by rw [hl2]; exact decide_eq_false (by omega)] at z; exact z)
      | (rw [show l = true by rw [hl2]; exact decide_eq_true (by omega)] at z; exact z)
  · skip
    refine ss_iconst h dX4_is_16 17 rfl ?_
    refine ss_goto h dX4_is_17 21 (by decide) ?_
    have z := J21 () trivial
    first
      | (rw [show l = false by rw [hl2]; exact decide_eq_false (by omega)] at z; exact z)
      | (rw [show l = true by rw [hl2]; exact decide_eq_true (by omega)] at z; exact z)
def namT (l : List Int) : Int := if l = [102, 108] then 41 else if l = [102, 114] then 42 else if l = [112, 108] then 43 else if l = [112, 114] then 44 else if l = [116, 104, 114, 101, 97, 100] then 45 else if l = [114, 105, 109] then 46 else if l = [115, 116, 101, 112] then 47 else if l = [114, 101, 115, 116] then 48 else if l = [115, 119, 97, 108, 108, 111, 119] then 49 else 1
theorem wordT_n (l : List Int) : wordT l = if l = [119, 104, 101, 110] then 3 else if l = [111, 114] then 4 else if l = [97, 110, 100] then 5 else if l = [110, 111, 116] then 6
  else if l = [97, 104, 101, 97, 100] then 20 else if l = [108, 101, 102, 116] then 23 else if l = [114, 105, 103, 104, 116] then 21 else if l = [98, 97, 99, 107] then 22 else if l = [115, 116, 111, 112] then 24 else namT l := rfl
theorem m_nameWord (hM : MOk Ω n K R m) (h1 : 0 ≤ X m 17 ∧ X m 17 ≤ X m 15) (h2 : X m 15 ≤ 400) (hl : 5 ≤ d) : sCt Ω yX4_nameWord cX4_nameWord 1 (some .int) d 0 0 [.ref m] n K X R (pV n K X R (some (vI (namT (slc (X (m + 7)) (X m 17) (X m 15)))))) := by
  obtain ⟨l, hl2⟩ : ∃ l, l = slc (X (m + 7)) (X m 17) (X m 15) := ⟨_, rfl⟩
  rw [← hl2]
  refine sCt_of (by decide) (by simp [Value.category, vI, va_rf]) (Nat.le_of_ble_eq_true rfl) fun Γ P9 hP9 h => ?_
  show sG (_, _, _, _, _) Γ 0 0 _ _ _ _ 0 [some _] []
  refine ss_aload_n (i := 0) h dX4_nameWord_0 1 rfl rfl rfl ?_
  obtain ⟨a1, v1, hr1, hs1⟩ := st_X4_115 h.2.2.2.2.2.1.1
  refine ss_ldcS h hr1 dX4_nameWord_1 3 rfl ?_
  refine ss_cVv h (m_is hM (d := d - 1) hs1 h1 h2 (by omega)) (lw_V q1286 q1288 qs47 q87 q1289) kl4 hM.ob 1 rfl md_X4_is rfl (by omega) (by decide) rfl dX4_nameWord_3 6 rfl rfl (Nat.le_of_ble_eq_true rfl) (by omega) (by omega) ?_
  rw [← hl2, show nZ [102, 108] = [102, 108] from rfl]
  refine ss_if_eq h dX4_nameWord_6 9 12 rfl (by decide) (by first | omega | exact sRg_b _) (fun c6 => ?_) (fun c6 => ?_)
  · skip
    replace c6 := bI_0.mp c6
    replace c6 := of_decide_eq_false c6
    refine ss_aload_n (i := 0) h dX4_nameWord_12 13 rfl rfl rfl ?_
    obtain ⟨a13, v13, hr13, hs13⟩ := st_X4_121 h.2.2.2.2.2.1.1
    refine ss_ldcS h hr13 dX4_nameWord_13 15 rfl ?_
    refine ss_cVv h (m_is hM (d := d - 1) hs13 h1 h2 (by omega)) (lw_V q1286 q1288 qs47 q87 q1289) kl4 hM.ob 1 rfl md_X4_is rfl (by omega) (by decide) rfl dX4_nameWord_15 18 rfl rfl (Nat.le_of_ble_eq_true rfl) (by omega) (by omega) ?_
    rw [← hl2, show nZ [102, 114] = [102, 114] from rfl]
    refine ss_if_eq h dX4_nameWord_18 21 24 rfl (by decide) (by first | omega | exact sRg_b _) (fun c18 => ?_) (fun c18 => ?_)
    · skip
      replace c18 := bI_0.mp c18
      replace c18 := of_decide_eq_false c18
      refine ss_aload_n (i := 0) h dX4_nameWord_24 25 rfl rfl rfl ?_
      obtain ⟨a25, v25, hr25, hs25⟩ := st_X4_123 h.2.2.2.2.2.1.1
      refine ss_ldcS h hr25 dX4_nameWord_25 27 rfl ?_
      refine ss_cVv h (m_is hM (d := d - 1) hs25 h1 h2 (by omega)) (lw_V q1286 q1288 qs47 q87 q1289) kl4 hM.ob 1 rfl md_X4_is rfl (by omega) (by decide) rfl dX4_nameWord_27 30 rfl rfl (Nat.le_of_ble_eq_true rfl) (by omega) (by omega) ?_
      rw [← hl2, show nZ [112, 108] = [112, 108] from rfl]
      refine ss_if_eq h dX4_nameWord_30 33 36 rfl (by decide) (by first | omega | exact sRg_b _) (fun c30 => ?_) (fun c30 => ?_)
      · skip
        replace c30 := bI_0.mp c30
        replace c30 := of_decide_eq_false c30
        refine ss_aload_n (i := 0) h dX4_nameWord_36 37 rfl rfl rfl ?_
        obtain ⟨a37, v37, hr37, hs37⟩ := st_X4_125 h.2.2.2.2.2.1.1
        refine ss_ldcS h hr37 dX4_nameWord_37 39 rfl ?_
        refine ss_cVv h (m_is hM (d := d - 1) hs37 h1 h2 (by omega)) (lw_V q1286 q1288 qs47 q87 q1289) kl4 hM.ob 1 rfl md_X4_is rfl (by omega) (by decide) rfl dX4_nameWord_39 42 rfl rfl (Nat.le_of_ble_eq_true rfl) (by omega) (by omega) ?_
        rw [← hl2, show nZ [112, 114] = [112, 114] from rfl]
        refine ss_if_eq h dX4_nameWord_42 45 48 rfl (by decide) (by first | omega | exact sRg_b _) (fun c42 => ?_) (fun c42 => ?_)
        · skip
          replace c42 := bI_0.mp c42
          replace c42 := of_decide_eq_false c42
          refine ss_aload_n (i := 0) h dX4_nameWord_48 49 rfl rfl rfl ?_
          obtain ⟨a49, v49, hr49, hs49⟩ := st_X4_127 h.2.2.2.2.2.1.1
          refine ss_ldcS h hr49 dX4_nameWord_49 51 rfl ?_
          refine ss_cVv h (m_is hM (d := d - 1) hs49 h1 h2 (by omega)) (lw_V q1286 q1288 qs47 q87 q1289) kl4 hM.ob 1 rfl md_X4_is rfl (by omega) (by decide) rfl dX4_nameWord_51 54 rfl rfl (Nat.le_of_ble_eq_true rfl) (by omega) (by omega) ?_
          rw [← hl2, show nZ [116, 104, 114, 101, 97, 100] = [116, 104, 114, 101, 97, 100] from rfl]
          refine ss_if_eq h dX4_nameWord_54 57 60 rfl (by decide) (by first | omega | exact sRg_b _) (fun c54 => ?_) (fun c54 => ?_)
          · skip
            replace c54 := bI_0.mp c54
            replace c54 := of_decide_eq_false c54
            refine ss_aload_n (i := 0) h dX4_nameWord_60 61 rfl rfl rfl ?_
            obtain ⟨a61, v61, hr61, hs61⟩ := st_X4_129 h.2.2.2.2.2.1.1
            refine ss_ldcS h hr61 dX4_nameWord_61 63 rfl ?_
            refine ss_cVv h (m_is hM (d := d - 1) hs61 h1 h2 (by omega)) (lw_V q1286 q1288 qs47 q87 q1289) kl4 hM.ob 1 rfl md_X4_is rfl (by omega) (by decide) rfl dX4_nameWord_63 66 rfl rfl (Nat.le_of_ble_eq_true rfl) (by omega) (by omega) ?_
            rw [← hl2, show nZ [114, 105, 109] = [114, 105, 109] from rfl]
            refine ss_if_eq h dX4_nameWord_66 69 72 rfl (by decide) (by first | omega | exact sRg_b _) (fun c66 => ?_) (fun c66 => ?_)
            · skip
              replace c66 := bI_0.mp c66
              replace c66 := of_decide_eq_false c66
              refine ss_aload_n (i := 0) h dX4_nameWord_72 73 rfl rfl rfl ?_
              obtain ⟨a73, v73, hr73, hs73⟩ := st_X4_131 h.2.2.2.2.2.1.1
              refine ss_ldcS h hr73 dX4_nameWord_73 75 rfl ?_
              refine ss_cVv h (m_is hM (d := d - 1) hs73 h1 h2 (by omega)) (lw_V q1286 q1288 qs47 q87 q1289) kl4 hM.ob 1 rfl md_X4_is rfl (by omega) (by decide) rfl dX4_nameWord_75 78 rfl rfl (Nat.le_of_ble_eq_true rfl) (by omega) (by omega) ?_
              rw [← hl2, show nZ [115, 116, 101, 112] = [115, 116, 101, 112] from rfl]
              refine ss_if_eq h dX4_nameWord_78 81 84 rfl (by decide) (by first | omega | exact sRg_b _) (fun c78 => ?_) (fun c78 => ?_)
              · skip
                replace c78 := bI_0.mp c78
                replace c78 := of_decide_eq_false c78
                refine ss_aload_n (i := 0) h dX4_nameWord_84 85 rfl rfl rfl ?_
                obtain ⟨a85, v85, hr85, hs85⟩ := st_X4_133 h.2.2.2.2.2.1.1
                refine ss_ldcS h hr85 dX4_nameWord_85 87 rfl ?_
                refine ss_cVv h (m_is hM (d := d - 1) hs85 h1 h2 (by omega)) (lw_V q1286 q1288 qs47 q87 q1289) kl4 hM.ob 1 rfl md_X4_is rfl (by omega) (by decide) rfl dX4_nameWord_87 90 rfl rfl (Nat.le_of_ble_eq_true rfl) (by omega) (by omega) ?_
                rw [← hl2, show nZ [114, 101, 115, 116] = [114, 101, 115, 116] from rfl]
                refine ss_if_eq h dX4_nameWord_90 93 96 rfl (by decide) (by first | omega | exact sRg_b _) (fun c90 => ?_) (fun c90 => ?_)
                · skip
                  replace c90 := bI_0.mp c90
                  replace c90 := of_decide_eq_false c90
                  refine ss_aload_n (i := 0) h dX4_nameWord_96 97 rfl rfl rfl ?_
                  obtain ⟨a97, v97, hr97, hs97⟩ := st_X4_135 h.2.2.2.2.2.1.1
                  refine ss_ldcS h hr97 dX4_nameWord_97 99 rfl ?_
                  refine ss_cVv h (m_is hM (d := d - 1) hs97 h1 h2 (by omega)) (lw_V q1286 q1288 qs47 q87 q1289) kl4 hM.ob 1 rfl md_X4_is rfl (by omega) (by decide) rfl dX4_nameWord_99 102 rfl rfl (Nat.le_of_ble_eq_true rfl) (by omega) (by omega) ?_
                  rw [← hl2, show nZ [115, 119, 97, 108, 108, 111, 119] = [115, 119, 97, 108, 108, 111, 119] from rfl]
                  refine ss_if_eq h dX4_nameWord_102 105 110 rfl (by decide) (by first | omega | exact sRg_b _) (fun c102 => ?_) (fun c102 => ?_)
                  · skip
                    replace c102 := bI_0.mp c102
                    replace c102 := of_decide_eq_false c102
                    refine ss_iconst h dX4_nameWord_110 111 rfl ?_
                    refine ss_iret h dX4_nameWord_111 (by omega) (by omega) ?_
                    rw [hP9]
                    exact ⟨vI_c (by unfold namT; (repeat first | rw [if_pos (by assumption)] | rw [if_neg (by assumption)])), rfl, rfl, rfl, rfl⟩
                  · skip
                    replace c102 := bI_n.mp c102
                    replace c102 := of_decide_eq_true c102
                    refine ss_bipush h dX4_nameWord_105 107 rfl (by decide +kernel) ?_
                    refine ss_goto h dX4_nameWord_107 111 (by decide) ?_
                    refine ss_iret h dX4_nameWord_111 (by omega) (by omega) ?_
                    rw [hP9]
                    exact ⟨vI_c (by unfold namT; (repeat first | rw [if_pos (by assumption)] | rw [if_neg (by assumption)])), rfl, rfl, rfl, rfl⟩
                · skip
                  replace c90 := bI_n.mp c90
                  replace c90 := of_decide_eq_true c90
                  refine ss_bipush h dX4_nameWord_93 95 rfl (by decide +kernel) ?_
                  refine ss_iret h dX4_nameWord_95 (by omega) (by omega) ?_
                  rw [hP9]
                  exact ⟨vI_c (by unfold namT; (repeat first | rw [if_pos (by assumption)] | rw [if_neg (by assumption)])), rfl, rfl, rfl, rfl⟩
              · skip
                replace c78 := bI_n.mp c78
                replace c78 := of_decide_eq_true c78
                refine ss_bipush h dX4_nameWord_81 83 rfl (by decide +kernel) ?_
                refine ss_iret h dX4_nameWord_83 (by omega) (by omega) ?_
                rw [hP9]
                exact ⟨vI_c (by unfold namT; (repeat first | rw [if_pos (by assumption)] | rw [if_neg (by assumption)])), rfl, rfl, rfl, rfl⟩
            · skip
              replace c66 := bI_n.mp c66
              replace c66 := of_decide_eq_true c66
              refine ss_bipush h dX4_nameWord_69 71 rfl (by decide +kernel) ?_
              refine ss_iret h dX4_nameWord_71 (by omega) (by omega) ?_
              rw [hP9]
              exact ⟨vI_c (by unfold namT; (repeat first | rw [if_pos (by assumption)] | rw [if_neg (by assumption)])), rfl, rfl, rfl, rfl⟩
          · skip
            replace c54 := bI_n.mp c54
            replace c54 := of_decide_eq_true c54
            refine ss_bipush h dX4_nameWord_57 59 rfl (by decide +kernel) ?_
            refine ss_iret h dX4_nameWord_59 (by omega) (by omega) ?_
            rw [hP9]
            exact ⟨vI_c (by unfold namT; (repeat first | rw [if_pos (by assumption)] | rw [if_neg (by assumption)])), rfl, rfl, rfl, rfl⟩
        · skip
          replace c42 := bI_n.mp c42
          replace c42 := of_decide_eq_true c42
          refine ss_bipush h dX4_nameWord_45 47 rfl (by decide +kernel) ?_
          refine ss_iret h dX4_nameWord_47 (by omega) (by omega) ?_
          rw [hP9]
          exact ⟨vI_c (by unfold namT; (repeat first | rw [if_pos (by assumption)] | rw [if_neg (by assumption)])), rfl, rfl, rfl, rfl⟩
      · skip
        replace c30 := bI_n.mp c30
        replace c30 := of_decide_eq_true c30
        refine ss_bipush h dX4_nameWord_33 35 rfl (by decide +kernel) ?_
        refine ss_iret h dX4_nameWord_35 (by omega) (by omega) ?_
        rw [hP9]
        exact ⟨vI_c (by unfold namT; (repeat first | rw [if_pos (by assumption)] | rw [if_neg (by assumption)])), rfl, rfl, rfl, rfl⟩
    · skip
      replace c18 := bI_n.mp c18
      replace c18 := of_decide_eq_true c18
      refine ss_bipush h dX4_nameWord_21 23 rfl (by decide +kernel) ?_
      refine ss_iret h dX4_nameWord_23 (by omega) (by omega) ?_
      rw [hP9]
      exact ⟨vI_c (by unfold namT; (repeat first | rw [if_pos (by assumption)] | rw [if_neg (by assumption)])), rfl, rfl, rfl, rfl⟩
  · skip
    replace c6 := bI_n.mp c6
    replace c6 := of_decide_eq_true c6
    refine ss_bipush h dX4_nameWord_9 11 rfl (by decide +kernel) ?_
    refine ss_iret h dX4_nameWord_11 (by omega) (by omega) ?_
    rw [hP9]
    exact ⟨vI_c (by unfold namT; (repeat first | rw [if_pos (by assumption)] | rw [if_neg (by assumption)])), rfl, rfl, rfl, rfl⟩
theorem m_word (hM : MOk Ω n K R m) (h1 : 0 ≤ X m 17 ∧ X m 17 ≤ X m 15) (h2 : X m 15 ≤ 400) (hl : 6 ≤ d) : sCt Ω yX4_word cX4_word 1 (some .int) d 0 0 [.ref m] n K X R (pV n K X R (some (vI (wordT (slc (X (m + 7)) (X m 17) (X m 15)))))) := by
  obtain ⟨l, hl2⟩ : ∃ l, l = slc (X (m + 7)) (X m 17) (X m 15) := ⟨_, rfl⟩
  rw [← hl2]
  refine sCt_of (by decide) (by simp [Value.category, vI, va_rf]) (Nat.le_of_ble_eq_true rfl) fun Γ P9 hP9 h => ?_
  show sG (_, _, _, _, _) Γ 0 0 _ _ _ _ 0 [some _] []
  refine ss_aload_n (i := 0) h dX4_word_0 1 rfl rfl rfl ?_
  obtain ⟨a1, v1, hr1, hs1⟩ := st_X4_137 h.2.2.2.2.2.1.1
  refine ss_ldcS h hr1 dX4_word_1 3 rfl ?_
  refine ss_cVv h (m_is hM (d := d - 1) hs1 h1 h2 (by omega)) (lw_V q1286 q1288 qs47 q87 q1289) kl4 hM.ob 1 rfl md_X4_is rfl (by omega) (by decide) rfl dX4_word_3 6 rfl rfl (Nat.le_of_ble_eq_true rfl) (by omega) (by omega) ?_
  rw [← hl2, show nZ [119, 104, 101, 110] = [119, 104, 101, 110] from rfl]
  refine ss_if_eq h dX4_word_6 9 11 rfl (by decide) (by first | omega | exact sRg_b _) (fun c6 => ?_) (fun c6 => ?_)
  · skip
    replace c6 := bI_0.mp c6
    replace c6 := of_decide_eq_false c6
    refine ss_aload_n (i := 0) h dX4_word_11 12 rfl rfl rfl ?_
    obtain ⟨a12, v12, hr12, hs12⟩ := st_X4_139 h.2.2.2.2.2.1.1
    refine ss_ldcS h hr12 dX4_word_12 14 rfl ?_
    refine ss_cVv h (m_is hM (d := d - 1) hs12 h1 h2 (by omega)) (lw_V q1286 q1288 qs47 q87 q1289) kl4 hM.ob 1 rfl md_X4_is rfl (by omega) (by decide) rfl dX4_word_14 17 rfl rfl (Nat.le_of_ble_eq_true rfl) (by omega) (by omega) ?_
    rw [← hl2, show nZ [111, 114] = [111, 114] from rfl]
    refine ss_if_eq h dX4_word_17 20 22 rfl (by decide) (by first | omega | exact sRg_b _) (fun c17 => ?_) (fun c17 => ?_)
    · skip
      replace c17 := bI_0.mp c17
      replace c17 := of_decide_eq_false c17
      refine ss_aload_n (i := 0) h dX4_word_22 23 rfl rfl rfl ?_
      obtain ⟨a23, v23, hr23, hs23⟩ := st_X4_141 h.2.2.2.2.2.1.1
      refine ss_ldcS h hr23 dX4_word_23 25 rfl ?_
      refine ss_cVv h (m_is hM (d := d - 1) hs23 h1 h2 (by omega)) (lw_V q1286 q1288 qs47 q87 q1289) kl4 hM.ob 1 rfl md_X4_is rfl (by omega) (by decide) rfl dX4_word_25 28 rfl rfl (Nat.le_of_ble_eq_true rfl) (by omega) (by omega) ?_
      rw [← hl2, show nZ [97, 110, 100] = [97, 110, 100] from rfl]
      refine ss_if_eq h dX4_word_28 31 33 rfl (by decide) (by first | omega | exact sRg_b _) (fun c28 => ?_) (fun c28 => ?_)
      · skip
        replace c28 := bI_0.mp c28
        replace c28 := of_decide_eq_false c28
        refine ss_aload_n (i := 0) h dX4_word_33 34 rfl rfl rfl ?_
        obtain ⟨a34, v34, hr34, hs34⟩ := st_X4_143 h.2.2.2.2.2.1.1
        refine ss_ldcS h hr34 dX4_word_34 36 rfl ?_
        refine ss_cVv h (m_is hM (d := d - 1) hs34 h1 h2 (by omega)) (lw_V q1286 q1288 qs47 q87 q1289) kl4 hM.ob 1 rfl md_X4_is rfl (by omega) (by decide) rfl dX4_word_36 39 rfl rfl (Nat.le_of_ble_eq_true rfl) (by omega) (by omega) ?_
        rw [← hl2, show nZ [110, 111, 116] = [110, 111, 116] from rfl]
        refine ss_if_eq h dX4_word_39 42 45 rfl (by decide) (by first | omega | exact sRg_b _) (fun c39 => ?_) (fun c39 => ?_)
        · skip
          replace c39 := bI_0.mp c39
          replace c39 := of_decide_eq_false c39
          refine ss_aload_n (i := 0) h dX4_word_45 46 rfl rfl rfl ?_
          obtain ⟨a46, v46, hr46, hs46⟩ := st_X4_145 h.2.2.2.2.2.1.1
          refine ss_ldcS h hr46 dX4_word_46 48 rfl ?_
          refine ss_cVv h (m_is hM (d := d - 1) hs46 h1 h2 (by omega)) (lw_V q1286 q1288 qs47 q87 q1289) kl4 hM.ob 1 rfl md_X4_is rfl (by omega) (by decide) rfl dX4_word_48 51 rfl rfl (Nat.le_of_ble_eq_true rfl) (by omega) (by omega) ?_
          rw [← hl2, show nZ [97, 104, 101, 97, 100] = [97, 104, 101, 97, 100] from rfl]
          refine ss_if_eq h dX4_word_51 54 57 rfl (by decide) (by first | omega | exact sRg_b _) (fun c51 => ?_) (fun c51 => ?_)
          · skip
            replace c51 := bI_0.mp c51
            replace c51 := of_decide_eq_false c51
            refine ss_aload_n (i := 0) h dX4_word_57 58 rfl rfl rfl ?_
            obtain ⟨a58, v58, hr58, hs58⟩ := st_X4_147 h.2.2.2.2.2.1.1
            refine ss_ldcS h hr58 dX4_word_58 60 rfl ?_
            refine ss_cVv h (m_is hM (d := d - 1) hs58 h1 h2 (by omega)) (lw_V q1286 q1288 qs47 q87 q1289) kl4 hM.ob 1 rfl md_X4_is rfl (by omega) (by decide) rfl dX4_word_60 63 rfl rfl (Nat.le_of_ble_eq_true rfl) (by omega) (by omega) ?_
            rw [← hl2, show nZ [108, 101, 102, 116] = [108, 101, 102, 116] from rfl]
            refine ss_if_eq h dX4_word_63 66 69 rfl (by decide) (by first | omega | exact sRg_b _) (fun c63 => ?_) (fun c63 => ?_)
            · skip
              replace c63 := bI_0.mp c63
              replace c63 := of_decide_eq_false c63
              refine ss_aload_n (i := 0) h dX4_word_69 70 rfl rfl rfl ?_
              obtain ⟨a70, v70, hr70, hs70⟩ := st_X4_149 h.2.2.2.2.2.1.1
              refine ss_ldcS h hr70 dX4_word_70 72 rfl ?_
              refine ss_cVv h (m_is hM (d := d - 1) hs70 h1 h2 (by omega)) (lw_V q1286 q1288 qs47 q87 q1289) kl4 hM.ob 1 rfl md_X4_is rfl (by omega) (by decide) rfl dX4_word_72 75 rfl rfl (Nat.le_of_ble_eq_true rfl) (by omega) (by omega) ?_
              rw [← hl2, show nZ [114, 105, 103, 104, 116] = [114, 105, 103, 104, 116] from rfl]
              refine ss_if_eq h dX4_word_75 78 81 rfl (by decide) (by first | omega | exact sRg_b _) (fun c75 => ?_) (fun c75 => ?_)
              · skip
                replace c75 := bI_0.mp c75
                replace c75 := of_decide_eq_false c75
                refine ss_aload_n (i := 0) h dX4_word_81 82 rfl rfl rfl ?_
                obtain ⟨a82, v82, hr82, hs82⟩ := st_X4_151 h.2.2.2.2.2.1.1
                refine ss_ldcS h hr82 dX4_word_82 84 rfl ?_
                refine ss_cVv h (m_is hM (d := d - 1) hs82 h1 h2 (by omega)) (lw_V q1286 q1288 qs47 q87 q1289) kl4 hM.ob 1 rfl md_X4_is rfl (by omega) (by decide) rfl dX4_word_84 87 rfl rfl (Nat.le_of_ble_eq_true rfl) (by omega) (by omega) ?_
                rw [← hl2, show nZ [98, 97, 99, 107] = [98, 97, 99, 107] from rfl]
                refine ss_if_eq h dX4_word_87 90 93 rfl (by decide) (by first | omega | exact sRg_b _) (fun c87 => ?_) (fun c87 => ?_)
                · skip
                  replace c87 := bI_0.mp c87
                  replace c87 := of_decide_eq_false c87
                  refine ss_aload_n (i := 0) h dX4_word_93 94 rfl rfl rfl ?_
                  obtain ⟨a94, v94, hr94, hs94⟩ := st_X4_152 h.2.2.2.2.2.1.1
                  refine ss_ldcS h hr94 dX4_word_94 96 rfl ?_
                  refine ss_cVv h (m_is hM (d := d - 1) hs94 h1 h2 (by omega)) (lw_V q1286 q1288 qs47 q87 q1289) kl4 hM.ob 1 rfl md_X4_is rfl (by omega) (by decide) rfl dX4_word_96 99 rfl rfl (Nat.le_of_ble_eq_true rfl) (by omega) (by omega) ?_
                  rw [← hl2, show nZ [115, 116, 111, 112] = [115, 116, 111, 112] from rfl]
                  refine ss_if_eq h dX4_word_99 102 107 rfl (by decide) (by first | omega | exact sRg_b _) (fun c99 => ?_) (fun c99 => ?_)
                  · skip
                    replace c99 := bI_0.mp c99
                    replace c99 := of_decide_eq_false c99
                    refine ss_aload_n (i := 0) h dX4_word_107 108 rfl rfl rfl ?_
                    refine ss_cVv h (m_nameWord hM (d := d - 1) h1 h2 (by omega)) (lw_V q1300 q1302 qs48 q87 q1303) kl4 hM.ob 0 rfl md_X4_nameWord rfl (by omega) (by decide) rfl dX4_word_108 111 rfl rfl (Nat.le_of_ble_eq_true rfl) (by omega) (by omega) ?_
                    rw [← hl2]
                    refine ss_iret h dX4_word_111 (by omega) (by omega) ?_
                    rw [hP9]
                    exact ⟨vI_c (by rw [wordT_n]; (repeat first | rw [if_pos (by assumption)] | rw [if_neg (by assumption)])), rfl, rfl, rfl, rfl⟩
                  · skip
                    replace c99 := bI_n.mp c99
                    replace c99 := of_decide_eq_true c99
                    refine ss_bipush h dX4_word_102 104 rfl (by decide +kernel) ?_
                    refine ss_goto h dX4_word_104 111 (by decide) ?_
                    refine ss_iret h dX4_word_111 (by omega) (by omega) ?_
                    rw [hP9]
                    exact ⟨vI_c (by rw [wordT_n]; (repeat first | rw [if_pos (by assumption)] | rw [if_neg (by assumption)])), rfl, rfl, rfl, rfl⟩
                · skip
                  replace c87 := bI_n.mp c87
                  replace c87 := of_decide_eq_true c87
                  refine ss_bipush h dX4_word_90 92 rfl (by decide +kernel) ?_
                  refine ss_iret h dX4_word_92 (by omega) (by omega) ?_
                  rw [hP9]
                  exact ⟨vI_c (by rw [wordT_n]; (repeat first | rw [if_pos (by assumption)] | rw [if_neg (by assumption)])), rfl, rfl, rfl, rfl⟩
              · skip
                replace c75 := bI_n.mp c75
                replace c75 := of_decide_eq_true c75
                refine ss_bipush h dX4_word_78 80 rfl (by decide +kernel) ?_
                refine ss_iret h dX4_word_80 (by omega) (by omega) ?_
                rw [hP9]
                exact ⟨vI_c (by rw [wordT_n]; (repeat first | rw [if_pos (by assumption)] | rw [if_neg (by assumption)])), rfl, rfl, rfl, rfl⟩
            · skip
              replace c63 := bI_n.mp c63
              replace c63 := of_decide_eq_true c63
              refine ss_bipush h dX4_word_66 68 rfl (by decide +kernel) ?_
              refine ss_iret h dX4_word_68 (by omega) (by omega) ?_
              rw [hP9]
              exact ⟨vI_c (by rw [wordT_n]; (repeat first | rw [if_pos (by assumption)] | rw [if_neg (by assumption)])), rfl, rfl, rfl, rfl⟩
          · skip
            replace c51 := bI_n.mp c51
            replace c51 := of_decide_eq_true c51
            refine ss_bipush h dX4_word_54 56 rfl (by decide +kernel) ?_
            refine ss_iret h dX4_word_56 (by omega) (by omega) ?_
            rw [hP9]
            exact ⟨vI_c (by rw [wordT_n]; (repeat first | rw [if_pos (by assumption)] | rw [if_neg (by assumption)])), rfl, rfl, rfl, rfl⟩
        · skip
          replace c39 := bI_n.mp c39
          replace c39 := of_decide_eq_true c39
          refine ss_bipush h dX4_word_42 44 rfl (by decide +kernel) ?_
          refine ss_iret h dX4_word_44 (by omega) (by omega) ?_
          rw [hP9]
          exact ⟨vI_c (by rw [wordT_n]; (repeat first | rw [if_pos (by assumption)] | rw [if_neg (by assumption)])), rfl, rfl, rfl, rfl⟩
      · skip
        replace c28 := bI_n.mp c28
        replace c28 := of_decide_eq_true c28
        refine ss_iconst h dX4_word_31 32 rfl ?_
        refine ss_iret h dX4_word_32 (by omega) (by omega) ?_
        rw [hP9]
        exact ⟨vI_c (by rw [wordT_n]; (repeat first | rw [if_pos (by assumption)] | rw [if_neg (by assumption)])), rfl, rfl, rfl, rfl⟩
    · skip
      replace c17 := bI_n.mp c17
      replace c17 := of_decide_eq_true c17
      refine ss_iconst h dX4_word_20 21 rfl ?_
      refine ss_iret h dX4_word_21 (by omega) (by omega) ?_
      rw [hP9]
      exact ⟨vI_c (by rw [wordT_n]; (repeat first | rw [if_pos (by assumption)] | rw [if_neg (by assumption)])), rfl, rfl, rfl, rfl⟩
  · skip
    replace c6 := bI_n.mp c6
    replace c6 := of_decide_eq_true c6
    refine ss_iconst h dX4_word_9 10 rfl ?_
    refine ss_iret h dX4_word_10 (by omega) (by omega) ?_
    rw [hP9]
    exact ⟨vI_c (by rw [wordT_n]; (repeat first | rw [if_pos (by assumption)] | rw [if_neg (by assumption)])), rfl, rfl, rfl, rfl⟩
end M16

