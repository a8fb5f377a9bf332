/-! ===== JDK: strings that are constants; small methods ===== -/
section J1W
variable {Ω : OmT} {n : Nat} {K : KT} {X : XT} {R : RT} {d : Nat}
theorem narB {b : Int} (h : 0 ≤ b ∧ b < 128) : narrow .byte (vI b) = vI b := by
  obtain ⟨m, rfl⟩ := Int.eq_ofNat_of_zero_le h.1
  have hm : m < 128 := by omega
  revert hm
  clear h
  have key : ∀ m : Fin 128, narrow .byte (vI ((m.1 : Nat) : Int)) = vI ((m.1 : Nat) : Int) := by decide +kernel
  intro hm
  exact key ⟨m, hm⟩
theorem narC {b : Int} (h : 0 ≤ b ∧ b < 128) : narrow .char (vI b) = vI b := by
  obtain ⟨m, rfl⟩ := Int.eq_ofNat_of_zero_le h.1
  have hm : m < 128 := by omega
  revert hm
  clear h
  have key : ∀ m : Fin 128, narrow .char (vI ((m.1 : Nat) : Int)) = vI ((m.1 : Nat) : Int) := by decide +kernel
  intro hm
  exact key ⟨m, hm⟩
theorem and255 {b : Int} (h : 0 ≤ b ∧ b < 128) : (sI b &&& sI 255).toInt = b := by
  obtain ⟨m, rfl⟩ := Int.eq_ofNat_of_zero_le h.1
  have hm : m < 128 := by omega
  revert hm
  clear h
  have key : ∀ m : Fin 128, (sI ((m.1 : Nat) : Int) &&& sI 255).toInt = ((m.1 : Nat) : Int) := by decide +kernel
  intro hm
  exact key ⟨m, hm⟩
theorem i2c128 {b : Int} (h : 0 ≤ b ∧ b < 128) : ((sI b).toUInt32 % 65536).toInt32 = sI b := by
  obtain ⟨m, rfl⟩ := Int.eq_ofNat_of_zero_le h.1
  have hm : m < 128 := by omega
  revert hm
  clear h
  have key : ∀ m : Fin 128, ((sI ((m.1 : Nat) : Int)).toUInt32 % 65536).toInt32 = sI ((m.1 : Nat) : Int) := by decide +kernel
  intro hm
  exact key ⟨m, hm⟩
theorem shr0 {z : Int} (h : sRg z) : (sI z >>> (sI 0 &&& 31)).toInt = z := by
  rw [show (sI 0 &&& 31) = (0 : Int32) by decide, Int32.shiftRight_zero, sI_toInt h]
theorem rf_cat (o : Option Nat) : (va_rf o).category = 1 := by cases o <;> rfl
theorem j_coder {a v : Nat} {bs : List Nat} (hs : sSt Ω a v bs) : sCt Ω yJ1_coder cJ1_coder 1 (some .byte) d 0 0 [.ref a] n K X R (pV n K X R (some (vI 0))) := by
  refine sCt_of (by decide) (by simp [Value.category, vI, va_rf]) (Nat.le_of_ble_eq_true rfl) fun Γ P9 hP9 h => ?_
  show sG (_, _, _, _, _) Γ 0 0 _ _ _ _ 0 [some _] []
  refine ss_gets h (kz_compact h.2.2.2.2.2.1.1) q482 dJ1_coder_0 3 rfl ?_
  refine ss_if_eq h dJ1_coder_3 6 13 rfl (by decide) (by first | omega | exact sRg_b _) (fun c3 => ?_) (fun c3 => ?_)
  · skip
    exact absurd c3 (by decide)
  · skip
    refine ss_aload_n (i := 0) h dJ1_coder_6 7 rfl rfl rfl ?_
    refine ss_getC h hs.2.1 q1532 dJ1_coder_7 10 rfl ?_
    refine ss_goto h dJ1_coder_10 14 (by decide) ?_
    refine ss_nret h (by decide +kernel) dJ1_coder_14 (by omega) (by omega) ?_
    rw [hP9]
    exact ⟨vI_c (by omega), rfl, rfl, rfl, rfl⟩
theorem j_isLatin1 {a v : Nat} {bs : List Nat} (hs : sSt Ω a v bs) : sCt Ω yJ1_isLatin1 cJ1_isLatin1 1 (some .boolean) d 0 0 [.ref a] n K X R (pV n K X R (some (vI 1))) := by
  refine sCt_of (by decide) (by simp [Value.category, vI, va_rf]) (Nat.le_of_ble_eq_true rfl) fun Γ P9 hP9 h => ?_
  show sG (_, _, _, _, _) Γ 0 0 _ _ _ _ 0 [some _] []
  refine ss_gets h (kz_compact h.2.2.2.2.2.1.1) q482 dJ1_isLatin1_0 3 rfl ?_
  refine ss_if_eq h dJ1_isLatin1_3 6 17 rfl (by decide) (by first | omega | exact sRg_b _) (fun c3 => ?_) (fun c3 => ?_)
  · skip
    exact absurd c3 (by decide)
  · skip
    refine ss_aload_n (i := 0) h dJ1_isLatin1_6 7 rfl rfl rfl ?_
    refine ss_getC h hs.2.1 q1532 dJ1_isLatin1_7 10 rfl ?_
    refine ss_if_ne h dJ1_isLatin1_10 13 17 rfl (by decide) (by first | omega | exact sRg_b _) (fun c10 => ?_) (fun c10 => ?_)
    · skip
      exact absurd rfl c10
    · skip
      refine ss_iconst h dJ1_isLatin1_13 14 rfl ?_
      refine ss_goto h dJ1_isLatin1_14 18 (by decide) ?_
      refine ss_zret h (by first | omega | exact bI_z _) dJ1_isLatin1_18 (by omega) (by omega) ?_
      rw [hP9]
      exact ⟨vI_c (by omega), rfl, rfl, rfl, rfl⟩
theorem j_length {a v : Nat} {bs : List Nat} (hs : sSt Ω a v bs) (hl : 1 ≤ d) : sCt Ω yJ1_length cJ1_length 1 (some .int) d 0 0 [.ref a] n K X R (pV n K X R (some (vI bs.length))) := by
  refine sCt_of (by decide) (by simp [Value.category, vI, va_rf]) (Nat.le_of_ble_eq_true rfl) fun Γ P9 hP9 h => ?_
  show sG (_, _, _, _, _) Γ 0 0 _ _ _ _ 0 [some _] []
  refine ss_aload_n (i := 0) h dJ1_length_0 1 rfl rfl rfl ?_
  refine ss_getC h hs.2.2.1 q1531 dJ1_length_1 4 rfl ?_
  refine ss_alenC h hs.2.2.2.1 dJ1_length_4 5 rfl ?_
  refine ss_aload_n (i := 0) h dJ1_length_5 6 rfl rfl rfl ?_
  refine ss_cCv h (j_coder (d := d - 1) hs) (lw_V q478 q479 q480 q92 q481) hs.1 0 rfl md_J1_coder rfl (by omega) (by decide) rfl dJ1_length_6 9 rfl rfl (Nat.le_of_ble_eq_true rfl) (by omega) (by omega) ?_
  refine ss_ishr h dJ1_length_9 10 rfl (sI_of _).symm ?_
  rw [shr0 (by have := hs.2.2.2.2.1; omega)]
  refine ss_iret h dJ1_length_10 (by omega) (by omega) ?_
  rw [hP9]
  exact ⟨rfl, rfl, rfl, rfl, rfl⟩
theorem j_checkIndex3 {i l : Int} {o : Option Nat} (hi : 0 ≤ i ∧ i < l) (hr : sRg l) : sCt Ω yJ3_checkIndex cJ3_checkIndex 3 (some .int) d 0 0 [vI i, vI l, va_rf o] n K X R (pV n K X R (some (vI i))) := by
  refine sCt_of (by decide) (fun v hv => by simp only [List.mem_cons, List.not_mem_nil, or_false] at hv; rcases hv with rfl | rfl | rfl <;> first | rfl | exact rf_cat _) (Nat.le_of_ble_eq_true rfl) fun Γ P9 hP9 h => ?_
  show sG (_, _, _, _, _) Γ 0 0 _ _ _ _ 0 [some _, some _, some _] []
  refine ss_iload_n (i := 0) h dJ3_checkIndex_0 1 rfl rfl rfl ?_
  refine ss_if_lt h dJ3_checkIndex_1 4 9 rfl (by decide) (by first | omega | exact sRg_b _) (fun c1 => ?_) (fun c1 => ?_)
  · skip
    omega
  · skip
    refine ss_iload_n (i := 0) h dJ3_checkIndex_4 5 rfl rfl rfl ?_
    refine ss_iload_n (i := 1) h dJ3_checkIndex_5 6 rfl rfl rfl ?_
    refine ss_icmp_lt h dJ3_checkIndex_6 9 16 rfl (by decide) (by first | omega | exact sRg_b _) (by first | omega | exact sRg_b _) (fun c6 => ?_) (fun c6 => ?_)
    · skip
      refine ss_iload_n (i := 0) h dJ3_checkIndex_16 17 rfl rfl rfl ?_
      refine ss_iret h dJ3_checkIndex_17 (by omega) (by omega) ?_
      rw [hP9]
      exact ⟨rfl, rfl, rfl, rfl, rfl⟩
    · skip
      omega
theorem j_checkIndex {i l : Int} (hi : 0 ≤ i ∧ i < l) (hr : sRg l) (hl : 1 ≤ d) : sCt Ω yJ1_checkIndex cJ1_checkIndex 2 none d 0 0 [vI i, vI l] n K X R (pN n K R (fun X' => X' = X)) := by
  refine sCt_of (by decide) (by simp [Value.category, vI, va_rf]) (Nat.le_of_ble_eq_true rfl) fun Γ P9 hP9 h => ?_
  show sG (_, _, _, _, _) Γ 0 0 _ _ _ _ 0 [some _, some _] []
  refine ss_iload_n (i := 0) h dJ1_checkIndex_0 1 rfl rfl rfl ?_
  refine ss_iload_n (i := 1) h dJ1_checkIndex_1 2 rfl rfl rfl ?_
  obtain ⟨o, ho⟩ := kz_sioobe h.2.2.2.2.2.1.1
  refine ss_gets h ho q498 dJ1_checkIndex_2 5 rfl ?_
  refine ss_cSv h (j_checkIndex3 (d := d - 1) hi hr) (lw_S q500 q501 q94 q502) 3 rfl md_J3_checkIndex (by omega) (by decide) rfl dJ1_checkIndex_5 8 rfl rfl (Nat.le_of_ble_eq_true rfl) (by omega) (by omega) ?_
  refine ss_pop h dJ1_checkIndex_8 9 rfl rfl ?_
  refine ss_vret h dJ1_checkIndex_9 (by omega) (by omega) ?_
  rw [hP9]
  exact ⟨rfl, rfl, rfl, rfl, rfl⟩
theorem bs_in {bs : List Nat} (h : ∀ b ∈ bs, b < 128) (i : Nat) : (0 : Int) ≤ ((bs.getD i 0 : Nat) : Int) ∧ ((bs.getD i 0 : Nat) : Int) < 128 := by
  rw [List.getD_eq_getElem?_getD]
  cases e : bs[i]? with
  | none => exact ⟨by decide, by decide⟩
  | some b =>
    have := h b (List.mem_of_getElem? e)
    show (0 : Int) ≤ (b : Int) ∧ (b : Int) < 128
    omega
theorem j_latCharAt {a v : Nat} {bs : List Nat} (hs : sSt Ω a v bs) {i : Int} (hi : 0 ≤ i ∧ i < (bs.length : Int)) (hl : 2 ≤ d) : sCt Ω yJ2_charAt cJ2_charAt 2 (some .char) d 0 0 [.ref v, vI i] n K X R (pV n K X R (some (vI (bs.getD i.toNat 0 : Nat)))) := by
  have hb := bs_in hs.2.2.2.2.2 i.toNat
  have hn := hs.2.2.2.2.1
  refine sCt_of (by decide) (by simp [Value.category, vI, va_rf]) (Nat.le_of_ble_eq_true rfl) fun Γ P9 hP9 h => ?_
  show sG (_, _, _, _, _) Γ 0 0 _ _ _ _ 0 [some _, some _] []
  refine ss_iload_n (i := 1) h dJ2_charAt_0 1 rfl rfl rfl ?_
  refine ss_aload_n (i := 0) h dJ2_charAt_1 2 rfl rfl rfl ?_
  refine ss_alenC h hs.2.2.2.1 dJ2_charAt_2 3 rfl ?_
  refine ss_cSn h (j_checkIndex (d := d - 1) hi (by omega) (by omega)) (lw_S q495 q496 q92 q497) 2 rfl md_J1_checkIndex (by omega) (by decide) rfl dJ2_charAt_3 6 rfl rfl (Nat.le_of_ble_eq_true rfl) (by omega) (by omega) (fun X3 x3 => ?_)
  subst x3
  refine ss_aload_n (i := 0) h dJ2_charAt_6 7 rfl rfl rfl ?_
  refine ss_iload_n (i := 1) h dJ2_charAt_7 8 rfl rfl rfl ?_
  refine ss_baldC h hs.2.2.2.1 hn hi rfl dJ2_charAt_8 9 rfl ?_
  refine ss_sipush h dJ2_charAt_9 12 rfl (by decide +kernel) ?_
  refine ss_iand h dJ2_charAt_12 13 rfl (sI_of _).symm ?_
  rw [and255 hb]
  refine ss_i2c h dJ2_charAt_13 14 rfl (i2c128 hb) ?_
  refine ss_nret h (narC hb) dJ2_charAt_14 (by omega) (by omega) ?_
  rw [hP9]
  exact ⟨rfl, rfl, rfl, rfl, rfl⟩
theorem j_charAt {a v : Nat} {bs : List Nat} (hs : sSt Ω a v bs) {i : Int} (hi : 0 ≤ i ∧ i < (bs.length : Int)) (hl : 3 ≤ d) : sCt Ω yJ1_charAt cJ1_charAt 2 (some .char) d 0 0 [.ref a, vI i] n K X R (pV n K X R (some (vI (bs.getD i.toNat 0 : Nat)))) := by
  have hb := bs_in hs.2.2.2.2.2 i.toNat
  refine sCt_of (by decide) (by simp [Value.category, vI, va_rf]) (Nat.le_of_ble_eq_true rfl) fun Γ P9 hP9 h => ?_
  show sG (_, _, _, _, _) Γ 0 0 _ _ _ _ 0 [some _, some _] []
  refine ss_aload_n (i := 0) h dJ1_charAt_0 1 rfl rfl rfl ?_
  refine ss_cCv h (j_isLatin1 (d := d - 1) hs) (lw_V q488 q489 q490 q92 q491) hs.1 0 rfl md_J1_isLatin1 rfl (by omega) (by decide) rfl dJ1_charAt_1 4 rfl rfl (Nat.le_of_ble_eq_true rfl) (by omega) (by omega) ?_
  refine ss_if_eq h dJ1_charAt_4 7 16 rfl (by decide) (by omega) (fun c4 => ?_) (fun c4 => ?_)
  · skip
    exact absurd c4 (by decide)
  · skip
    refine ss_aload_n (i := 0) h dJ1_charAt_7 8 rfl rfl rfl ?_
    refine ss_getC h hs.2.2.1 q1531 dJ1_charAt_8 11 rfl ?_
    refine ss_iload_n (i := 1) h dJ1_charAt_11 12 rfl rfl rfl ?_
    refine ss_cSv h (j_latCharAt (d := d - 1) hs hi (by omega)) (lw_S q492 q493 q93 q494) 2 rfl md_J2_charAt (by omega) (by decide) rfl dJ1_charAt_12 15 rfl rfl (Nat.le_of_ble_eq_true rfl) (by omega) (by omega) ?_
    refine ss_nret h (narC hb) dJ1_charAt_15 (by omega) (by omega) ?_
    rw [hP9]
    exact ⟨rfl, rfl, rfl, rfl, rfl⟩
end J1W

