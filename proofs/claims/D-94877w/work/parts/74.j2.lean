/-! ===== JDK: fill, min, max, abs, indexOf ===== -/
section J2W
variable {Ω : OmT} {n : Nat} {K : KT} {X : XT} {R : RT} {d : Nat}
def filA (f : WT) (m v : Int) : WT := fun i => if 0 ≤ i ∧ i < m then v else f i
theorem j_fill {a len : Nat} {v : Int} (hk : sAr Ω n K a 0 len) (hn : len < 2147483647) (hv : sRg v) : sCt Ω yJ0_fill cJ0_fill 4 none d 0 0 [.ref a, vI v] n K X R (pN n K R (fun X' => X' = sArr X a (filA (X a) len v))) := by
  refine sCt_of (by decide) (by simp [Value.category, vI, va_rf]) (Nat.le_of_ble_eq_true rfl) fun Γ P9 hP9 h => ?_
  show sG (_, _, _, _, _) Γ 0 0 _ _ _ _ 0 [some _, some _, none, none] []
  refine ss_iconst h dJ0_fill_0 1 rfl ?_
  refine ss_ist_2 h dJ0_fill_1 2 rfl ?_
  refine ss_aload_n (i := 0) h dJ0_fill_2 3 rfl rfl rfl ?_
  refine ss_alen h hk (by decide) dJ0_fill_3 4 rfl ?_
  refine ss_ist_3 h dJ0_fill_4 5 rfl ?_
  refine ss_X (X' := sArr X a (filA (X a) 0 v)) ?_ ?_
  · refine sArr_id.symm.trans (sArr_c ?_)
    funext i
    unfold filA
    rw [if_neg (by omega)]
  refine ss_loop (σ := Int) (Pp := fun k => sG _ Γ 0 0 n K (sArr X a (filA (X a) k v)) R 5 [some (.ref a), some (vI v), some (vI k), some (vI len)] []) (I := fun k => 0 ≤ k ∧ k ≤ len) (fun k => (len - k).toNat) (fun k hk2 ih => ?_) 0 (by omega)
  refine ss_iload_n (i := 2) h dJ0_fill_5 6 rfl rfl rfl ?_
  refine ss_iload_n (i := 3) h dJ0_fill_6 7 rfl rfl rfl ?_
  refine ss_icmp_ge h dJ0_fill_7 10 20 rfl (by decide) (by first | omega | exact sRg_b _) (by first | omega | exact sRg_b _) (fun c7 => ?_) (fun c7 => ?_)
  · skip
    refine ss_vret h dJ0_fill_20 (by omega) (by omega) ?_
    rw [hP9]
    exact ⟨rfl, rfl, rfl, rfl, by rw [show k = len by omega]⟩
  · skip
    refine ss_aload_n (i := 0) h dJ0_fill_10 11 rfl rfl rfl ?_
    refine ss_iload_n (i := 2) h dJ0_fill_11 12 rfl rfl rfl ?_
    refine ss_iload_n (i := 1) h dJ0_fill_12 13 rfl rfl rfl ?_
    refine ss_iast h hk (by omega) (by omega) (by omega) dJ0_fill_13 14 rfl ?_
    refine ss_inc_2 h dJ0_fill_14 17 rfl ?_
    refine ss_goto h dJ0_fill_17 5 (by decide) ?_
    refine ss_X ?_ (ih (k + 1) (by omega) (by omega))
    rw [sArr_sUp]
    refine sArr_c ?_
    funext i
    unfold upW filA
    (repeat' split) <;> first | rfl | omega
theorem j_canEncode {c : Int} (h1 : 0 ≤ c ∧ c ≤ 255) : sCt Ω yJ2_canEncode cJ2_canEncode 1 (some .boolean) d 0 0 [vI c] n K X R (pV n K X R (some (vI 1))) := by
  refine sCt_of (by decide) (by simp [Value.category, vI, va_rf]) (Nat.le_of_ble_eq_true rfl) fun Γ P9 hP9 h => ?_
  show sG (_, _, _, _, _) Γ 0 0 _ _ _ _ 0 [some _] []
  refine ss_iload_n (i := 0) h dJ2_canEncode_0 1 rfl rfl rfl ?_
  refine ss_if_lt h dJ2_canEncode_1 4 15 rfl (by decide) (by first | omega | exact sRg_b _) (fun c1 => ?_) (fun c1 => ?_)
  · skip
    refine ss_iconst h dJ2_canEncode_15 16 rfl ?_
    refine ss_zret h (by first | omega | exact bI_z _) dJ2_canEncode_16 (by omega) (by omega) ?_
    rw [hP9]
    exact ⟨vI_c (by omega), rfl, rfl, rfl, rfl⟩
  · skip
    refine ss_iload_n (i := 0) h dJ2_canEncode_4 5 rfl rfl rfl ?_
    refine ss_sipush h dJ2_canEncode_5 8 rfl (by decide +kernel) ?_
    refine ss_icmp_gt h dJ2_canEncode_8 11 15 rfl (by decide) (by first | omega | exact sRg_b _) (by first | omega | exact sRg_b _) (fun c8 => ?_) (fun c8 => ?_)
    · skip
      refine ss_iconst h dJ2_canEncode_15 16 rfl ?_
      refine ss_zret h (by first | omega | exact bI_z _) dJ2_canEncode_16 (by omega) (by omega) ?_
      rw [hP9]
      exact ⟨vI_c (by omega), rfl, rfl, rfl, rfl⟩
    · skip
      refine ss_iconst h dJ2_canEncode_11 12 rfl ?_
      refine ss_goto h dJ2_canEncode_12 16 (by decide) ?_
      refine ss_zret h (by first | omega | exact bI_z _) dJ2_canEncode_16 (by omega) (by omega) ?_
      rw [hP9]
      exact ⟨vI_c (by omega), rfl, rfl, rfl, rfl⟩
theorem i2b255 {c : Int} (h : 0 ≤ c ∧ c ≤ 255) : (sI c).toInt8.toInt32 = sI (if c < 128 then c else c - 256) := by
  obtain ⟨m, rfl⟩ := Int.eq_ofNat_of_zero_le h.1
  have hm : m < 256 := by omega
  revert hm
  clear h
  have key : ∀ m : Fin 256, (sI ((m.1 : Nat) : Int)).toInt8.toInt32 = sI (if ((m.1 : Nat) : Int) < 128 then ((m.1 : Nat) : Int) else ((m.1 : Nat) : Int) - 256) := by decide +kernel
  intro hm
  exact key ⟨m, hm⟩
def idxF (bs : List Nat) (c : Int) : Nat → Nat → Int
  | 0, _ => -1
  | f + 1, i => if ((bs.getD i 0 : Nat) : Int) = c then i else idxF bs c f (i + 1)
theorem j_indexOfChar {v a : Nat} {bs : List Nat} (hs : sSt Ω a v bs) {c : Int} (h1 : 0 ≤ c ∧ c ≤ 255) : sCt Ω yJ2_indexOfChar cJ2_indexOfChar 6 (some .int) d 0 0 [.ref v, vI c, vI 0, vI bs.length] n K X R (pV n K X R (some (vI (idxF bs (if c < 128 then c else c - 256) bs.length 0)))) := by
  have hn := hs.2.2.2.2.1
  refine sCt_of (by decide) (by simp [Value.category, vI, va_rf]) (Nat.le_of_ble_eq_true rfl) fun Γ P9 hP9 h => ?_
  show sG (_, _, _, _, _) Γ 0 0 _ _ _ _ 0 [some _, some _, some _, some _, none, none] []
  refine ss_iload_n (i := 1) h dJ2_indexOfChar_0 1 rfl rfl rfl ?_
  refine ss_i2b h dJ2_indexOfChar_1 2 rfl (i2b255 h1) ?_
  obtain ⟨cb, hcb⟩ : ∃ cb, cb = if c < 128 then c else c - 256 := ⟨_, rfl⟩
  have hcr : sRg cb := by rw [hcb]; split <;> omega
  rw [← hcb]
  rw [← hcb] at hP9
  refine ss_ist_4 h dJ2_indexOfChar_2 4 rfl ?_
  refine ss_iload_n (i := 2) h dJ2_indexOfChar_4 5 rfl rfl rfl ?_
  refine ss_ist_5 h dJ2_indexOfChar_5 7 rfl ?_
  obtain ⟨V, hV⟩ : ∃ V, V = idxF bs cb bs.length 0 := ⟨_, rfl⟩
  rw [← hV] at hP9
  refine ss_loop (σ := Nat) (Pp := fun i => sG _ Γ 0 0 n K X R 7 [some (.ref v), some (vI c), some (vI 0), some (vI bs.length), some (vI cb), some (vI i)] []) (I := fun i => i ≤ bs.length ∧ idxF bs cb (bs.length - i) i = V) (fun i => bs.length - i) (fun i hi ih => ?_) 0 ⟨by omega, by rw [hV]; rfl⟩
  obtain ⟨hi, he⟩ := hi
  refine ss_iload h dJ2_indexOfChar_7 9 rfl rfl ?_
  refine ss_iload_n (i := 3) h dJ2_indexOfChar_9 10 rfl rfl rfl ?_
  refine ss_icmp_ge h dJ2_indexOfChar_10 13 31 rfl (by decide) (by first | omega | exact sRg_b _) (by first | omega | exact sRg_b _) (fun c10 => ?_) (fun c10 => ?_)
  · skip
    rw [show bs.length - i = 0 by omega] at he
    refine ss_iconst h dJ2_indexOfChar_31 32 rfl ?_
    refine ss_iret h dJ2_indexOfChar_32 (by omega) (by omega) ?_
    rw [hP9]
    exact ⟨by rw [← he]; rfl, rfl, rfl, rfl, rfl⟩
  · skip
    have hu : bs.length - i = bs.length - (i + 1) + 1 := by omega
    rw [hu] at he
    unfold idxF at he
    have hb := bs_in hs.2.2.2.2.2 i
    refine ss_aload_n (i := 0) h dJ2_indexOfChar_13 14 rfl rfl rfl ?_
    refine ss_iload h dJ2_indexOfChar_14 16 rfl rfl ?_
    refine ss_baldC h hs.2.2.2.1 hn (by omega) rfl dJ2_indexOfChar_16 17 rfl ?_
    rw [Int.toNat_natCast]
    refine ss_iload h dJ2_indexOfChar_17 19 rfl rfl ?_
    refine ss_icmp_ne h dJ2_indexOfChar_19 22 25 rfl (by decide) (by first | omega | exact sRg_b _) (by first | omega | exact sRg_b _) (fun c19 => ?_) (fun c19 => ?_)
    · skip
      rw [if_neg c19] at he
      refine ss_inc_5 h dJ2_indexOfChar_25 28 rfl ?_
      refine ss_goto h dJ2_indexOfChar_28 7 (by decide) ?_
      exact ih (i + 1) ⟨by omega, he⟩ (by omega)
    · skip
      rw [if_pos c19] at he
      refine ss_iload h dJ2_indexOfChar_22 24 rfl rfl ?_
      refine ss_iret h dJ2_indexOfChar_24 (by omega) (by omega) ?_
      rw [hP9]
      exact ⟨by rw [← he], rfl, rfl, rfl, rfl⟩
theorem j_latIndexOf {v a : Nat} {bs : List Nat} (hs : sSt Ω a v bs) {c : Int} (h1 : 0 ≤ c ∧ c ≤ 255) (h0 : 0 < bs.length) (hl : 1 ≤ d) : sCt Ω yJ2_indexOf cJ2_indexOf 4 (some .int) d 0 0 [.ref v, vI c, vI 0, vI bs.length] n K X R (pV n K X R (some (vI (idxF bs (if c < 128 then c else c - 256) bs.length 0)))) := by
  have hn := hs.2.2.2.2.1
  refine sCt_of (by decide) (by simp [Value.category, vI, va_rf]) (Nat.le_of_ble_eq_true rfl) fun Γ P9 hP9 h => ?_
  show sG (_, _, _, _, _) Γ 0 0 _ _ _ _ 0 [some _, some _, some _, some _] []
  refine ss_iload_n (i := 1) h dJ2_indexOf_0 1 rfl rfl rfl ?_
  refine ss_cSv h (j_canEncode (d := d - 1) h1) (lw_S q544 q545 q93 q546) 1 rfl md_J2_canEncode (by omega) (by decide) rfl dJ2_indexOf_1 4 rfl rfl (Nat.le_of_ble_eq_true rfl) (by omega) (by omega) ?_
  refine ss_if_ne h dJ2_indexOf_4 7 9 rfl (by decide) (by first | omega | exact sRg_b _) (fun c4 => ?_) (fun c4 => ?_)
  · skip
    refine ss_iload_n (i := 2) h dJ2_indexOf_9 10 rfl rfl rfl ?_
    refine ss_iconst h dJ2_indexOf_10 11 rfl ?_
    refine ss_max h (by omega) (by omega) q547 (by omega) rfl (Nat.le_of_ble_eq_true rfl) (by omega) (by omega) dJ2_indexOf_11 14 rfl ?_
    rw [if_neg (by omega)]
    refine ss_ist_2 h dJ2_indexOf_14 15 rfl ?_
    refine ss_iload_n (i := 3) h dJ2_indexOf_15 16 rfl rfl rfl ?_
    refine ss_aload_n (i := 0) h dJ2_indexOf_16 17 rfl rfl rfl ?_
    refine ss_alenC h hs.2.2.2.1 dJ2_indexOf_17 18 rfl ?_
    refine ss_min h (by omega) (by omega) q550 (by omega) rfl (Nat.le_of_ble_eq_true rfl) (by omega) (by omega) dJ2_indexOf_18 21 rfl ?_
    rw [if_pos (by omega)]
    refine ss_ist_3 h dJ2_indexOf_21 22 rfl ?_
    refine ss_iload_n (i := 2) h dJ2_indexOf_22 23 rfl rfl rfl ?_
    refine ss_iload_n (i := 3) h dJ2_indexOf_23 24 rfl rfl rfl ?_
    refine ss_icmp_lt h dJ2_indexOf_24 27 29 rfl (by decide) (by first | omega | exact sRg_b _) (by first | omega | exact sRg_b _) (fun c24 => ?_) (fun c24 => ?_)
    · skip
      refine ss_aload_n (i := 0) h dJ2_indexOf_29 30 rfl rfl rfl ?_
      refine ss_iload_n (i := 1) h dJ2_indexOf_30 31 rfl rfl rfl ?_
      refine ss_iload_n (i := 2) h dJ2_indexOf_31 32 rfl rfl rfl ?_
      refine ss_iload_n (i := 3) h dJ2_indexOf_32 33 rfl rfl rfl ?_
      refine ss_cSv h (j_indexOfChar (d := d - 1) hs h1) (lw_S q551 q552 q93 q553) 4 rfl md_J2_indexOfChar (by omega) (by decide) rfl dJ2_indexOf_33 36 rfl rfl (Nat.le_of_ble_eq_true rfl) (by omega) (by omega) ?_
      refine ss_iret h dJ2_indexOf_36 (by omega) (by omega) ?_
      rw [hP9]
      exact ⟨rfl, rfl, rfl, rfl, rfl⟩
    · skip
      omega
  · skip
    exact absurd c4 (by decide)
theorem j_indexOf2 {v a : Nat} {bs : List Nat} (hs : sSt Ω a v bs) {c : Int} (h1 : 0 ≤ c ∧ c ≤ 255) (h0 : 0 < bs.length) (hl : 2 ≤ d) : sCt Ω yJ1_indexOf_2 cJ1_indexOf_2 3 (some .int) d 0 0 [.ref a, vI c, vI 0] n K X R (pV n K X R (some (vI (idxF bs (if c < 128 then c else c - 256) bs.length 0)))) := by
  refine sCt_of (by decide) (by simp [Value.category, vI, va_rf]) (Nat.le_of_ble_eq_true rfl) fun Γ P9 hP9 h => ?_
  show sG (_, _, _, _, _) Γ 0 0 _ _ _ _ 0 [some _, some _, some _] []
  refine ss_aload_n (i := 0) h dJ1_indexOf_2_0 1 rfl rfl rfl ?_
  refine ss_cCv h (j_isLatin1 (d := d - 1) hs) (lw_V q488 q489 q490 q92 q491) hs.1 0 rfl md_J1_isLatin1 rfl (by omega) (by decide) rfl dJ1_indexOf_2_1 4 rfl rfl (Nat.le_of_ble_eq_true rfl) (by omega) (by omega) ?_
  refine ss_if_eq h dJ1_indexOf_2_4 7 23 rfl (by decide) (by omega) (fun c4 => ?_) (fun c4 => ?_)
  · skip
    exact absurd c4 (by decide)
  · skip
    refine ss_aload_n (i := 0) h dJ1_indexOf_2_7 8 rfl rfl rfl ?_
    refine ss_getC h hs.2.2.1 q1531 dJ1_indexOf_2_8 11 rfl ?_
    refine ss_iload_n (i := 1) h dJ1_indexOf_2_11 12 rfl rfl rfl ?_
    refine ss_iload_n (i := 2) h dJ1_indexOf_2_12 13 rfl rfl rfl ?_
    refine ss_aload_n (i := 0) h dJ1_indexOf_2_13 14 rfl rfl rfl ?_
    refine ss_cCv h (j_length (d := d - 1) hs (by omega)) (lw_V q540 q475 q476 q92 q477) hs.1 0 rfl md_J1_length rfl (by omega) (by decide) rfl dJ1_indexOf_2_14 17 rfl rfl (Nat.le_of_ble_eq_true rfl) (by omega) (by omega) ?_
    refine ss_cSv h (j_latIndexOf (d := d - 1) hs h1 h0 (by omega)) (lw_S q541 q542 q93 q543) 4 rfl md_J2_indexOf (by omega) (by decide) rfl dJ1_indexOf_2_17 20 rfl rfl (Nat.le_of_ble_eq_true rfl) (by omega) (by omega) ?_
    refine ss_goto h dJ1_indexOf_2_20 36 (by decide) ?_
    refine ss_iret h dJ1_indexOf_2_36 (by omega) (by omega) ?_
    rw [hP9]
    exact ⟨rfl, rfl, rfl, rfl, rfl⟩
theorem j_indexOf {v a : Nat} {bs : List Nat} (hs : sSt Ω a v bs) {c : Int} (h1 : 0 ≤ c ∧ c ≤ 255) (h0 : 0 < bs.length) (hl : 3 ≤ d) : sCt Ω yJ1_indexOf cJ1_indexOf 2 (some .int) d 0 0 [.ref a, vI c] n K X R (pV n K X R (some (vI (idxF bs (if c < 128 then c else c - 256) bs.length 0)))) := by
  refine sCt_of (by decide) (by simp [Value.category, vI, va_rf]) (Nat.le_of_ble_eq_true rfl) fun Γ P9 hP9 h => ?_
  show sG (_, _, _, _, _) Γ 0 0 _ _ _ _ 0 [some _, some _] []
  refine ss_aload_n (i := 0) h dJ1_indexOf_0 1 rfl rfl rfl ?_
  refine ss_iload_n (i := 1) h dJ1_indexOf_1 2 rfl rfl rfl ?_
  refine ss_iconst h dJ1_indexOf_2 3 rfl ?_
  refine ss_cCv h (j_indexOf2 (d := d - 1) hs h1 h0 (by omega)) (lw_V q536 q537 q538 q92 q539) hs.1 2 rfl md_J1_indexOf_2 rfl (by omega) (by decide) rfl dJ1_indexOf_3 6 rfl rfl (Nat.le_of_ble_eq_true rfl) (by omega) (by omega) ?_
  refine ss_iret h dJ1_indexOf_6 (by omega) (by omega) ?_
  rw [hP9]
  exact ⟨rfl, rfl, rfl, rfl, rfl⟩
/-- the signs -/
theorem idx_sign {c : Int} (h1 : 0 ≤ c ∧ c ≤ 255) : (0 ≤ idxF [59, 43, 45, 42, 47, 40, 41, 60, 61, 62] (if c < 128 then c else c - 256) 10 0) ↔ signB c = true := by
  obtain ⟨m, rfl⟩ := Int.eq_ofNat_of_zero_le h1.1
  have hm : m < 256 := by omega
  revert hm
  clear h1
  have key : ∀ m : Fin 256, (0 ≤ idxF [59, 43, 45, 42, 47, 40, 41, 60, 61, 62] (if ((m.1 : Nat) : Int) < 128 then ((m.1 : Nat) : Int) else ((m.1 : Nat) : Int) - 256) 10 0) ↔ signB ((m.1 : Nat) : Int) = true := by decide +kernel
  intro hm
  exact key ⟨m, hm⟩
theorem idx_rg (bs : List Nat) (c : Int) : ∀ (f i : Nat), i + f ≤ 100000 → sRg (idxF bs c f i)
  | 0, _, _ => by unfold idxF; omega
  | f + 1, i, h => by
    unfold idxF
    split
    · omega
    · exact idx_rg bs c f (i + 1) (by omega)
end J2W

