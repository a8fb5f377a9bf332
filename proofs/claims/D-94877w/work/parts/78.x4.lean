/-! ===== the component: flights ===== -/
section XM4
variable {Ω : OmT} {n : Nat} {K : KT} {X : XT} {R : RT} {l b x : Nat} {z : WT} {d : Nat}
/-- a web's surroundings: shapes; values -/
def EW (Ω : OmT) (n : Nat) (K : KT) (R : RT) (x l b : Nat) : Prop := XOk Ω n K R x ∧ LOk Ω n K R l ∧ BOk Ω n K R b ∧ R b 10 = some x
def EVs (Ω : OmT) (n : Nat) (K : KT) (X : XT) (R : RT) (z : WT) (x l : Nat) : Prop := LV z X l ∧ SV Ω n K X R z l ∧ HV Ω n K X R z (x + 5)
def SWb (b x : Nat) : List Nat := [b, b + 1, b + 2, b + 3, b + 4, b + 5, b + 6, b + 7, b + 8, b + 9, x + 72]
theorem SWb_in {b x a : Nat} : a ∈ SWb b x ↔ (∃ i, i ≤ 9 ∧ a = b + i) ∨ a = x + 72 := by
  unfold SWb
  simp only [List.mem_cons, List.not_mem_nil, or_false]
  constructor
  · rintro (h | h | h | h | h | h | h | h | h | h | h)
    · exact Or.inl ⟨0, by omega, h⟩
    · exact Or.inl ⟨1, by omega, h⟩
    · exact Or.inl ⟨2, by omega, h⟩
    · exact Or.inl ⟨3, by omega, h⟩
    · exact Or.inl ⟨4, by omega, h⟩
    · exact Or.inl ⟨5, by omega, h⟩
    · exact Or.inl ⟨6, by omega, h⟩
    · exact Or.inl ⟨7, by omega, h⟩
    · exact Or.inl ⟨8, by omega, h⟩
    · exact Or.inl ⟨9, by omega, h⟩
    · exact Or.inr h
  · rintro (⟨i, hi, rfl⟩ | h)
    · have : i = 0 ∨ i = 1 ∨ i = 2 ∨ i = 3 ∨ i = 4 ∨ i = 5 ∨ i = 6 ∨ i = 7 ∨ i = 8 ∨ i = 9 := by omega
      rcases this with rfl | rfl | rfl | rfl | rfl | rfl | rfl | rfl | rfl | rfl <;> simp
    · simp [h]
theorem kpF_web (hE : EW Ω n K R x l b) {X X' : XT} (ho : sO (SWb b x) X X') : kpF Ω n K X R n K X' R := by
  refine kpF_of (fun a ha => ?_) ho
  rcases SWb_in.mp ha with ⟨i, hi, rfl⟩ | rfl
  · exact ⟨b, i, 9, rfl, hi, hE.2.2.1.blk, by rw [hE.2.2.1.2.2.1]; omega, by rw [hE.2.2.1.2.2.1]; omega⟩
  · exact ⟨x + 54, 18, 18, by omega, Nat.le_refl _, hE.1.blk_l, by rw [hE.1.l_kept.2.2.1]; omega, by rw [hE.1.l_kept.2.2.1]; omega⟩
theorem EVs_keep (hE : EW Ω n K R x l b) {X X' : XT} (ho : sO (SWb b x) X X') (hv : EVs Ω n K X R z x l) : EVs Ω n K X' R z x l := by
  have hk := kpF_web hE ho
  refine ⟨hv.1.keep fun i hi => ho _ fun hq => ?_, SV_kp hk rfl hv.2.1, HV_kp hk rfl hv.2.2⟩
  rcases SWb_in.mp hq with ⟨j, hj, e⟩ | e
  · exact LB_ne hE.2.1 hE.2.2.1 (by omega) hj e
  · exact hE.1.has_ne hE.2.1 (by omega) e
theorem EVs_same {z' : WT} (hs : sameL z z') (hf : flyOK z) (hv : EVs Ω n K X R z x l) : EVs Ω n K X R z' x l := by
  refine ⟨hv.1.to fun i hi => hs i (by unfold LVP at hi; unfold lndP; omega), SV_z (hs 4 (by unfold lndP; omega)) (fun i h1 h2 => hs i (by unfold lndP; omega)) hf.2.1.2 hv.2.1, fun k hk => ?_⟩
  obtain ⟨t, h1, h2⟩ := hv.2.2 k hk
  exact ⟨t, h1, TV_z (fun i hi => hs i (by unfold lndP; omega)) hk.1 (hf.2.2.2.2.2 k hk.1 hk.2) h2⟩
theorem has_keep (hE : EW Ω n K R x l b) (hv : EVs Ω n K X R z x l) (vB : WV z X b) (g : WT) : EVs Ω n K (sArr X (x + 72) g) R z x l ∧ WV z (sArr X (x + 72) g) b := by
  refine ⟨EVs_keep hE (fun a ha => sArr_n fun e => ha (SWb_in.mpr (Or.inr e))) hv, vB.keep fun i hi => sArr_n (hE.1.has_neb hE.2.2.1 (by omega))⟩
theorem own_at {z : WT} {p q dr : Int} (hp : pointB z p q = true) : (ownS z p q dr = -1) ↔ (rimB z p q dr = true ∨ z (850 + yardS p q dr) = -1) := by
  unfold ownS rimB
  by_cases e : pointB z (p + adX dr) (q + adY dr) = true
  · rw [if_pos ⟨hp, e⟩, e]
    simp
  · rw [if_neg (fun w => e w.2)]
    simp [e]
set_option maxHeartbeats 2000000 in
theorem x_wordFor (hE : EW Ω n K R x l b) (hv : EVs Ω n K X R z x l) (vB : WV z X b) (hf : flyOK z) {s p q dr st rest len : Int} (hs : 0 ≤ s ∧ s < z 4) (hp : pointB z p q = true) (h0 : 0 ≤ dr ∧ dr ≤ 3) (h1 : 0 ≤ st ∧ st ≤ 60) (h2 : rest = len - st) (h3 : 0 ≤ rest ∧ rest ≤ 60) (hl : 413 ≤ d) : sCt Ω yX3_wordFor cX3_wordFor 15 (some .int) d 0 0 [.ref b, .ref l, vI s, vI p, vI q, vI dr, vI st, vI rest] n K X R (pA n K R (vI (toldS z (z (1855 + 5 * s + 4)) (fctS z p q dr st len s))) (fun X' => ∃ g, X' = sArr X (x + 72) g)) := by
  have hd' := hf.1
  unfold Dim at hd'
  have hp' := pointB_t.mp hp
  have ax := adX_in dr
  have ay := adY_in dr
  have h4 := hf.2.1
  have hp1 : ∀ c, 0 ≤ c → c < 100 → z (120 + c) = 0 ∨ z (120 + c) = 1 := fun c a b => (hf.2.2.2.1 c a b).2
  obtain ⟨sa, hsr, hso, hsv0, hsv1, hsv2, hsv3, hsv4⟩ := hv.2.1 s hs
  obtain ⟨-, -, -, hhb⟩ := hf.2.2.2.2.1 s hs.1 hs.2
  obtain ⟨ta, htr, hT⟩ := hv.2.2 _ hhb
  have hg := fun g => has_keep hE hv vB g
  have pin := fun u v => pond_in hf.1 hp1 u v
  have sin := fun u v => seen_in hf.1 hf.2.2.2.1 u v
  refine sCt_of (by decide) (by simp [Value.category, vI, va_rf]) (Nat.le_of_ble_eq_true rfl) fun Γ P9 hP9 h => ?_
  show sG (_, _, _, _, _) Γ 0 0 _ _ _ _ 0 [some _, some _, some _, some _, some _, some _, some _, some _, none, none, none, none, none, none, none] []
  obtain ⟨eA, eZ, eT⟩ := kz_EAST h.2.2.2.2.2.1.1
  obtain ⟨sA, sZ, sT⟩ := kz_SOUTH h.2.2.2.2.2.1.1
  refine ss_X (X' := sArr X (x + 72) (X (x + 72))) sArr_id.symm ?_
  refine ss_aload_n (i := 1) h dX3_wordFor_0 1 rfl rfl rfl ?_
  refine ss_iload_n (i := 3) h dX3_wordFor_1 2 rfl rfl rfl ?_
  refine ss_getsN h eZ q857 dX3_wordFor_2 5 rfl ?_
  refine ss_iload h dX3_wordFor_5 7 rfl rfl ?_
  refine ss_ialdC h eT (by decide) (by omega) (east_at (by omega)) dX3_wordFor_7 8 rfl ?_
  refine ss_iadd h dX3_wordFor_8 9 rfl ?_
  refine ss_iload h dX3_wordFor_9 11 rfl rfl ?_
  refine ss_getsN h sZ q859 dX3_wordFor_11 14 rfl ?_
  refine ss_iload h dX3_wordFor_14 16 rfl rfl ?_
  refine ss_ialdC h sT (by decide) (by omega) (south_at (by omega)) dX3_wordFor_16 17 rfl ?_
  refine ss_iadd h dX3_wordFor_17 18 rfl ?_
  refine ss_cVv h (x_isPoint hE.2.1 (hg _).1.1 (d := d - 1) hf.1 (by omega) (by omega) (by omega)) (lw_V q861 q803 q804 q84 q805) kl2 hE.2.1.ob 2 rfl md_X2_isPoint rfl (by omega) (by decide) rfl dX3_wordFor_18 21 rfl rfl (Nat.le_of_ble_eq_true rfl) (by omega) (by omega) ?_
  refine ss_cut (σ := Int) (fun r => r = bI (rimB z p q dr)) 29 (fun r => (sArr X (x + 72) (X (x + 72)))) (fun r => [some (.ref b), some (.ref l), some (vI s), some (vI p), some (vI q), some (vI dr), some (vI st), some (vI rest), none, none, none, none, none, none, none]) (fun r => [vI r]) (fun r h29 => ?_) (fun J29 => ?_)
  · skip
    have hr01 : r = 0 ∨ r = 1 := by rw [h29]; exact bI_z _
    have lx : -100 ≤ lxS p dr ∧ lxS p dr ≤ 100 := by unfold lxS; split <;> omega
    have ly : -100 ≤ lyS q dr ∧ lyS q dr ≤ 100 := by unfold lyS; split <;> omega
    have rx : -100 ≤ rxS p dr ∧ rxS p dr ≤ 100 := by unfold rxS; split <;> omega
    have ry : -100 ≤ ryS q dr ∧ ryS q dr ≤ 100 := by unfold ryS; split <;> omega
    have hr1 : rimB z p q dr = true ↔ r = 1 := by rw [h29]; cases rimB z p q dr <;> simp [bI]
    refine ss_ist_8 h dX3_wordFor_29 31 rfl ?_
    refine ss_aload_n (i := 0) h dX3_wordFor_31 32 rfl rfl rfl ?_
    refine ss_iload_n (i := 3) h dX3_wordFor_32 33 rfl rfl rfl ?_
    refine ss_iload h dX3_wordFor_33 35 rfl rfl ?_
    refine ss_iconst h dX3_wordFor_35 36 rfl ?_
    refine ss_cVv h (x_besideX (d := d - 1) (lf := 1) (by omega) h0 (by omega)) (lw_V q862 q864 qs22 q86 q865) kl3 hE.2.2.1.ob 3 rfl md_X3_besideX rfl (by omega) (by decide) rfl dX3_wordFor_36 39 rfl rfl (Nat.le_of_ble_eq_true rfl) (by omega) (by omega) ?_
    rw [if_pos rfl]
    refine ss_ist_9 h dX3_wordFor_39 41 rfl ?_
    refine ss_aload_n (i := 0) h dX3_wordFor_41 42 rfl rfl rfl ?_
    refine ss_iload h dX3_wordFor_42 44 rfl rfl ?_
    refine ss_iload h dX3_wordFor_44 46 rfl rfl ?_
    refine ss_iconst h dX3_wordFor_46 47 rfl ?_
    refine ss_cVv h (x_besideY (d := d - 1) (lf := 1) (by omega) h0 (by omega)) (lw_V q866 q868 qs23 q86 q869) kl3 hE.2.2.1.ob 3 rfl md_X3_besideY rfl (by omega) (by decide) rfl dX3_wordFor_47 50 rfl rfl (Nat.le_of_ble_eq_true rfl) (by omega) (by omega) ?_
    rw [if_pos rfl]
    refine ss_ist_10 h dX3_wordFor_50 52 rfl ?_
    refine ss_aload_n (i := 0) h dX3_wordFor_52 53 rfl rfl rfl ?_
    refine ss_iload_n (i := 3) h dX3_wordFor_53 54 rfl rfl rfl ?_
    refine ss_iload h dX3_wordFor_54 56 rfl rfl ?_
    refine ss_iconst h dX3_wordFor_56 57 rfl ?_
    refine ss_cVv h (x_besideX (d := d - 1) (lf := 0) (by omega) h0 (by omega)) (lw_V q862 q864 qs22 q86 q865) kl3 hE.2.2.1.ob 3 rfl md_X3_besideX rfl (by omega) (by decide) rfl dX3_wordFor_57 60 rfl rfl (Nat.le_of_ble_eq_true rfl) (by omega) (by omega) ?_
    rw [if_neg (by decide)]
    refine ss_ist_11 h dX3_wordFor_60 62 rfl ?_
    refine ss_aload_n (i := 0) h dX3_wordFor_62 63 rfl rfl rfl ?_
    refine ss_iload h dX3_wordFor_63 65 rfl rfl ?_
    refine ss_iload h dX3_wordFor_65 67 rfl rfl ?_
    refine ss_iconst h dX3_wordFor_67 68 rfl ?_
    refine ss_cVv h (x_besideY (d := d - 1) (lf := 0) (by omega) h0 (by omega)) (lw_V q866 q868 qs23 q86 q869) kl3 hE.2.2.1.ob 3 rfl md_X3_besideY rfl (by omega) (by decide) rfl dX3_wordFor_68 71 rfl rfl (Nat.le_of_ble_eq_true rfl) (by omega) (by omega) ?_
    rw [if_neg (by decide)]
    refine ss_ist_12 h dX3_wordFor_71 73 rfl ?_
    refine ss_aload_n (i := 0) h dX3_wordFor_73 74 rfl rfl rfl ?_
    refine ss_getS h kl3 10 10 rfl (by decide) rfl hE.2.2.1.ob q303 dX3_wordFor_74 77 rfl hE.2.2.2 ?_
    refine ss_getN h kl0 16 16 rfl (by decide) rfl hE.1.ob q347 dX3_wordFor_77 80 rfl hE.1.r_has ?_
    refine ss_iconst h dX3_wordFor_80 81 rfl ?_
    refine ss_cut (σ := Int) (fun v0 => v0 = if rimB z p q dr = true then 0 else seenS z (lxS p dr) (lyS q dr)) 98 (fun v0 => (sArr X (x + 72) (X (x + 72)))) (fun v0 => [some (.ref b), some (.ref l), some (vI s), some (vI p), some (vI q), some (vI dr), some (vI st), some (vI rest), some (vI r), some (vI (lxS p dr)), some (vI (lyS q dr)), some (vI (rxS p dr)), some (vI (ryS q dr)), none, none]) (fun v0 => [vI v0, vI 0, .ref (x + 72)]) (fun v0 h98 => ?_) (fun J98 => ?_)
    · skip
      have hv0 : 0 ≤ v0 ∧ v0 ≤ 1040 := by rw [h98]; have := sin (lxS p dr) (lyS q dr); split <;> omega
      refine ss_iast h hE.1.k_has (by decide) (by omega) (by omega) dX3_wordFor_98 99 rfl ?_
      rw [sArr_sUp]
      obtain ⟨g1, hg1⟩ : ∃ g, g = upW (X (x + 72)) 0 v0 := ⟨_, rfl⟩
      rw [← hg1]
      refine ss_aload_n (i := 0) h dX3_wordFor_99 100 rfl rfl rfl ?_
      refine ss_getS h kl3 10 10 rfl (by decide) rfl hE.2.2.1.ob q303 dX3_wordFor_100 103 rfl hE.2.2.2 ?_
      refine ss_getN h kl0 16 16 rfl (by decide) rfl hE.1.ob q347 dX3_wordFor_103 106 rfl hE.1.r_has ?_
      refine ss_iconst h dX3_wordFor_106 107 rfl ?_
      refine ss_cut (σ := Int) (fun v1 => v1 = if rimB z p q dr = true then 0 else seenS z (rxS p dr) (ryS q dr)) 124 (fun v1 => (sArr X (x + 72) g1)) (fun v1 => [some (.ref b), some (.ref l), some (vI s), some (vI p), some (vI q), some (vI dr), some (vI st), some (vI rest), some (vI r), some (vI (lxS p dr)), some (vI (lyS q dr)), some (vI (rxS p dr)), some (vI (ryS q dr)), none, none]) (fun v1 => [vI v1, vI 1, .ref (x + 72)]) (fun v1 h124 => ?_) (fun J124 => ?_)
      · skip
        have hv1 : 0 ≤ v1 ∧ v1 ≤ 1040 := by rw [h124]; have := sin (rxS p dr) (ryS q dr); split <;> omega
        refine ss_iast h hE.1.k_has (by decide) (by omega) (by omega) dX3_wordFor_124 125 rfl ?_
        rw [sArr_sUp]
        obtain ⟨g2, hg2⟩ : ∃ g, g = upW g1 1 v1 := ⟨_, rfl⟩
        rw [← hg2]
        refine ss_aload_n (i := 0) h dX3_wordFor_125 126 rfl rfl rfl ?_
        refine ss_getS h kl3 10 10 rfl (by decide) rfl hE.2.2.1.ob q303 dX3_wordFor_126 129 rfl hE.2.2.2 ?_
        refine ss_getN h kl0 16 16 rfl (by decide) rfl hE.1.ob q347 dX3_wordFor_129 132 rfl hE.1.r_has ?_
        refine ss_iconst h dX3_wordFor_132 133 rfl ?_
        refine ss_cut (σ := Int) (fun v2 => v2 = if rimB z p q dr = true then 0 else pondS z (lxS p dr) (lyS q dr)) 154 (fun v2 => (sArr X (x + 72) g2)) (fun v2 => [some (.ref b), some (.ref l), some (vI s), some (vI p), some (vI q), some (vI dr), some (vI st), some (vI rest), some (vI r), some (vI (lxS p dr)), some (vI (lyS q dr)), some (vI (rxS p dr)), some (vI (ryS q dr)), none, none]) (fun v2 => [vI v2, vI 2, .ref (x + 72)]) (fun v2 h154 => ?_) (fun J154 => ?_)
        · skip
          have hv2 : 0 ≤ v2 ∧ v2 ≤ 1 := by rw [h154]; have := pin (lxS p dr) (lyS q dr); split <;> omega
          refine ss_iast h hE.1.k_has (by decide) (by omega) (by omega) dX3_wordFor_154 155 rfl ?_
          rw [sArr_sUp]
          obtain ⟨g3, hg3⟩ : ∃ g, g = upW g2 2 v2 := ⟨_, rfl⟩
          rw [← hg3]
          refine ss_aload_n (i := 0) h dX3_wordFor_155 156 rfl rfl rfl ?_
          refine ss_getS h kl3 10 10 rfl (by decide) rfl hE.2.2.1.ob q303 dX3_wordFor_156 159 rfl hE.2.2.2 ?_
          refine ss_getN h kl0 16 16 rfl (by decide) rfl hE.1.ob q347 dX3_wordFor_159 162 rfl hE.1.r_has ?_
          refine ss_iconst h dX3_wordFor_162 163 rfl ?_
          refine ss_cut (σ := Int) (fun v3 => v3 = if rimB z p q dr = true then 0 else pondS z (rxS p dr) (ryS q dr)) 184 (fun v3 => (sArr X (x + 72) g3)) (fun v3 => [some (.ref b), some (.ref l), some (vI s), some (vI p), some (vI q), some (vI dr), some (vI st), some (vI rest), some (vI r), some (vI (lxS p dr)), some (vI (lyS q dr)), some (vI (rxS p dr)), some (vI (ryS q dr)), none, none]) (fun v3 => [vI v3, vI 3, .ref (x + 72)]) (fun v3 h184 => ?_) (fun J184 => ?_)
          · skip
            have hv3 : 0 ≤ v3 ∧ v3 ≤ 1 := by rw [h184]; have := pin (rxS p dr) (ryS q dr); split <;> omega
            refine ss_iast h hE.1.k_has (by decide) (by omega) (by omega) dX3_wordFor_184 185 rfl ?_
            rw [sArr_sUp]
            obtain ⟨g4, hg4⟩ : ∃ g, g = upW g3 3 v3 := ⟨_, rfl⟩
            rw [← hg4]
            refine ss_aload_n (i := 0) h dX3_wordFor_185 186 rfl rfl rfl ?_
            refine ss_getS h kl3 10 10 rfl (by decide) rfl hE.2.2.1.ob q303 dX3_wordFor_186 189 rfl hE.2.2.2 ?_
            refine ss_getN h kl0 16 16 rfl (by decide) rfl hE.1.ob q347 dX3_wordFor_189 192 rfl hE.1.r_has ?_
            refine ss_iconst h dX3_wordFor_192 193 rfl ?_
            refine ss_rg fun hrg => ?_
            have hoS : sRg (ownS z p q dr) := by
              unfold ownS
              split
              · rename_i hq
                have := yard_in hf.1 h0 hp hq.2
                rw [← (hg _).2.v_owner (c := yardS p q dr) (by omega)]
                exact hrg _ _
              · omega
            refine ss_cut (σ := Int) (fun v4 => v4 = if rimB z p q dr = true ∨ z (850 + yardS p q dr) = -1 then 0 else 1) 212 (fun v4 => (sArr X (x + 72) g4)) (fun v4 => [some (.ref b), some (.ref l), some (vI s), some (vI p), some (vI q), some (vI dr), some (vI st), some (vI rest), some (vI r), some (vI (lxS p dr)), some (vI (lyS q dr)), some (vI (rxS p dr)), some (vI (ryS q dr)), none, none]) (fun v4 => [vI v4, vI 4, .ref (x + 72)]) (fun v4 h212 => ?_) (fun J212 => ?_)
            · skip
              have hv4 : 0 ≤ v4 ∧ v4 ≤ 1 := by rw [h212]; split <;> omega
              refine ss_iast h hE.1.k_has (by decide) (by omega) (by omega) dX3_wordFor_212 213 rfl ?_
              rw [sArr_sUp]
              obtain ⟨g5, hg5⟩ : ∃ g, g = upW g4 4 v4 := ⟨_, rfl⟩
              rw [← hg5]
              refine ss_aload_n (i := 0) h dX3_wordFor_213 214 rfl rfl rfl ?_
              refine ss_getS h kl3 10 10 rfl (by decide) rfl hE.2.2.1.ob q303 dX3_wordFor_214 217 rfl hE.2.2.2 ?_
              refine ss_getN h kl0 16 16 rfl (by decide) rfl hE.1.ob q347 dX3_wordFor_217 220 rfl hE.1.r_has ?_
              refine ss_iconst h dX3_wordFor_220 221 rfl ?_
              refine ss_cut (σ := Int) (fun v5 => v5 = bI (rimB z p q dr)) 231 (fun v5 => (sArr X (x + 72) g5)) (fun v5 => [some (.ref b), some (.ref l), some (vI s), some (vI p), some (vI q), some (vI dr), some (vI st), some (vI rest), some (vI r), some (vI (lxS p dr)), some (vI (lyS q dr)), some (vI (rxS p dr)), some (vI (ryS q dr)), none, none]) (fun v5 => [vI v5, vI 5, .ref (x + 72)]) (fun v5 h231 => ?_) (fun J231 => ?_)
              · skip
                have hv5 : 0 ≤ v5 ∧ v5 ≤ 1 := by rw [h231, ← h29]; omega
                refine ss_iast h hE.1.k_has (by decide) (by omega) (by omega) dX3_wordFor_231 232 rfl ?_
                rw [sArr_sUp]
                obtain ⟨g6, hg6⟩ : ∃ g, g = upW g5 5 v5 := ⟨_, rfl⟩
                rw [← hg6]
                refine ss_aload_n (i := 0) h dX3_wordFor_232 233 rfl rfl rfl ?_
                refine ss_getS h kl3 10 10 rfl (by decide) rfl hE.2.2.1.ob q303 dX3_wordFor_233 236 rfl hE.2.2.2 ?_
                refine ss_getN h kl0 16 16 rfl (by decide) rfl hE.1.ob q347 dX3_wordFor_236 239 rfl hE.1.r_has ?_
                refine ss_bipush h dX3_wordFor_239 241 rfl (by decide +kernel) ?_
                refine ss_iload h dX3_wordFor_241 243 rfl rfl ?_
                refine ss_iast h hE.1.k_has (by decide) (by omega) (by omega) dX3_wordFor_243 244 rfl ?_
                rw [sArr_sUp]
                obtain ⟨g7, hg7⟩ : ∃ g, g = upW g6 6 st := ⟨_, rfl⟩
                rw [← hg7]
                refine ss_aload_n (i := 0) h dX3_wordFor_244 245 rfl rfl rfl ?_
                refine ss_getS h kl3 10 10 rfl (by decide) rfl hE.2.2.1.ob q303 dX3_wordFor_245 248 rfl hE.2.2.2 ?_
                refine ss_getN h kl0 16 16 rfl (by decide) rfl hE.1.ob q347 dX3_wordFor_248 251 rfl hE.1.r_has ?_
                refine ss_bipush h dX3_wordFor_251 253 rfl (by decide +kernel) ?_
                refine ss_iload h dX3_wordFor_253 255 rfl rfl ?_
                refine ss_iast h hE.1.k_has (by decide) (by omega) (by omega) dX3_wordFor_255 256 rfl ?_
                rw [sArr_sUp]
                obtain ⟨g8, hg8⟩ : ∃ g, g = upW g7 7 rest := ⟨_, rfl⟩
                rw [← hg8]
                refine ss_aload_n (i := 0) h dX3_wordFor_256 257 rfl rfl rfl ?_
                refine ss_getS h kl3 10 10 rfl (by decide) rfl hE.2.2.1.ob q303 dX3_wordFor_257 260 rfl hE.2.2.2 ?_
                refine ss_getN h kl0 16 16 rfl (by decide) rfl hE.1.ob q347 dX3_wordFor_260 263 rfl hE.1.r_has ?_
                refine ss_bipush h dX3_wordFor_263 265 rfl (by decide +kernel) ?_
                refine ss_iload_n (i := 2) h dX3_wordFor_265 266 rfl rfl rfl ?_
                refine ss_iast h hE.1.k_has (by decide) (by omega) (by omega) dX3_wordFor_266 267 rfl ?_
                rw [sArr_sUp]
                obtain ⟨g9, hg9⟩ : ∃ g, g = upW g8 8 s := ⟨_, rfl⟩
                rw [← hg9]
                refine ss_aload_n (i := 0) h dX3_wordFor_267 268 rfl rfl rfl ?_
                refine ss_getS h kl3 10 10 rfl (by decide) rfl hE.2.2.1.ob q303 dX3_wordFor_268 271 rfl hE.2.2.2 ?_
                refine ss_getN h kl0 12 12 rfl (by decide) rfl hE.1.ob q342 dX3_wordFor_271 274 rfl hE.1.r_habits ?_
                refine ss_aload_n (i := 1) h dX3_wordFor_274 275 rfl rfl rfl ?_
                refine ss_getS h kl2 24 24 rfl (by decide) rfl hE.2.1.ob q223 dX3_wordFor_275 278 rfl hE.2.1.r_swallow ?_
                refine ss_iload_n (i := 2) h dX3_wordFor_278 279 rfl rfl rfl ?_
                refine ss_aaldS h hE.2.1.k_swallow (by decide) (by decide) rfl (by decide) (by omega) dX3_wordFor_279 280 rfl (hsr) ?_
                refine ss_getIV h kl5 4 4 rfl (by decide) rfl hso q829 dX3_wordFor_280 283 rfl (((hg _).1.2.1 s hs |> fun w => by obtain ⟨a, e1, e2, -, -, -, -, e3⟩ := w; rw [hsr] at e1; cases e1; exact e3)) ?_
                refine ss_aaldS h hE.1.k_habits (by decide) (by decide) rfl (by decide) (by omega) dX3_wordFor_283 284 rfl (htr) ?_
                obtain ⟨t9, e9, hT9⟩ := (hg g9).1.2.2 _ hhb
                cases htr.symm.trans e9
                refine ss_ast_13 h dX3_wordFor_284 286 rfl ?_
                refine ss_rg fun hr9 => ?_
                have hfa : ∀ k : Int, 0 ≤ k ∧ k ≤ 8 → sArr X (x + 72) g9 (x + 72) k = fctS z p q dr st len s (k + 1) := by
                  intro k hk
                  rw [sArr_s, hg9, hg8, hg7, hg6, hg5, hg4, hg3, hg2, hg1]
                  have hk9 : k = 0 ∨ k = 1 ∨ k = 2 ∨ k = 3 ∨ k = 4 ∨ k = 5 ∨ k = 6 ∨ k = 7 ∨ k = 8 := by omega
                  rcases hk9 with rfl | rfl | rfl | rfl | rfl | rfl | rfl | rfl | rfl
                  · rw [h98]; rfl
                  · rw [h124]; rfl
                  · rw [h154]; rfl
                  · rw [h184]; rfl
                  · rw [h212]; rfl
                  · rw [h231]; rfl
                  · rfl
                  · rw [h2]; rfl
                  · rfl
                have hf9 : ∀ i, sRg (fctS z p q dr st len s i) := by
                  intro i
                  by_cases hi : 1 ≤ i ∧ i ≤ 9
                  · have := hfa (i - 1) (by omega)
                    rw [show i - 1 + 1 = i by omega] at this
                    rw [← this]
                    exact hr9 _ _
                  · unfold fctS layS
                    rw [if_neg (by omega), if_neg (by omega), if_neg (by omega), if_neg (by omega), if_neg (by omega), if_neg (by omega), if_neg (by omega), if_neg (by omega), if_neg (by omega)]
                    omega
                refine ss_aload h dX3_wordFor_286 288 rfl rfl ?_
                refine ss_aload_n (i := 0) h dX3_wordFor_288 289 rfl rfl rfl ?_
                refine ss_getS h kl3 10 10 rfl (by decide) rfl hE.2.2.1.ob q303 dX3_wordFor_289 292 rfl hE.2.2.2 ?_
                refine ss_getN h kl0 16 16 rfl (by decide) rfl hE.1.ob q347 dX3_wordFor_292 295 rfl hE.1.r_has ?_
                refine ss_cVv h (x_first (d := d - 1) (f := fctS z p q dr st len s) hT9 (hf.2.2.2.2.2 _ hhb.1 hhb.2) hr9 hf9 hE.1.k_has hfa (by omega)) (lw_V q890 q891 q892 q83 q893) kl1 hT.1.1 1 rfl md_X1_first rfl (by omega) (by decide) rfl dX3_wordFor_295 298 rfl rfl (Nat.le_of_ble_eq_true rfl) (by omega) (by omega) ?_
                refine ss_ist_14 h dX3_wordFor_298 300 rfl ?_
                obtain ⟨fr, hfr⟩ : ∃ fr, fr = frsS z (z (1855 + 5 * s + 4)) (fctS z p q dr st len s) := ⟨_, rfl⟩
                rw [← hfr]
                have hfin := frsF_in z (z (1855 + 5 * s + 4)) (fctS z p q dr st len s) (z (1985 + z (1855 + 5 * s + 4))).toNat 0 (by omega)
                rw [show frsF z (z (1855 + 5 * s + 4)) (fctS z p q dr st len s) (z (1985 + z (1855 + 5 * s + 4))).toNat 0 = fr from hfr.symm, show toldF z (z (1855 + 5 * s + 4)) (fctS z p q dr st len s) (z (1985 + z (1855 + 5 * s + 4))).toNat 0 = toldS z (z (1855 + 5 * s + 4)) (fctS z p q dr st len s) from rfl] at hfin
                have htm := (hf.2.2.2.2.2 _ hhb.1 hhb.2).1
                refine ss_iload h dX3_wordFor_300 302 rfl rfl ?_
                refine ss_iconst h dX3_wordFor_302 303 rfl ?_
                refine ss_icmp_ne h dX3_wordFor_303 306 310 rfl (by decide) (by first | omega | exact sRg_b _) (by first | omega | exact sRg_b _) (fun c303 => ?_) (fun c303 => ?_)
                · skip
                  refine ss_aload h dX3_wordFor_310 312 rfl rfl ?_
                  refine ss_getS h kl1 0 0 rfl (by decide) rfl hT.1.1 q144 dX3_wordFor_312 315 rfl hT.1.2.1 ?_
                  refine ss_iload h dX3_wordFor_315 317 rfl rfl ?_
                  refine ss_ialdV h hT.1.2.2.1 (by decide) (by omega) dX3_wordFor_317 318 rfl ((hT9.2.2 fr (by omega)).1) ?_
                  refine ss_iret h dX3_wordFor_318 (by omega) (by omega) ?_
                  rw [hP9]
                  exact ⟨vI_c (by first | omega | (rcases hfin with w | w; · omega; · exact w.2.symm)), rfl, rfl, rfl, g9, rfl⟩
                · skip
                  refine ss_iconst h dX3_wordFor_306 307 rfl ?_
                  refine ss_goto h dX3_wordFor_307 318 (by decide) ?_
                  refine ss_iret h dX3_wordFor_318 (by omega) (by omega) ?_
                  rw [hP9]
                  exact ⟨vI_c (by first | omega | (rcases hfin with w | w; · omega; · exact w.2.symm)), rfl, rfl, rfl, g9, rfl⟩
              refine ss_iload h dX3_wordFor_221 223 rfl rfl ?_
              refine ss_if_eq h dX3_wordFor_223 226 230 rfl (by decide) (by first | omega | exact sRg_b _) (fun c223 => ?_) (fun c223 => ?_)
              · skip
                have e231 : (0 : Int) = bI (rimB z p q dr) := by rw [← h29]; omega
                refine ss_iconst h dX3_wordFor_230 231 rfl ?_
                exact J231 _ e231
              · skip
                have e231 : (1 : Int) = bI (rimB z p q dr) := by rw [← h29]; omega
                refine ss_iconst h dX3_wordFor_226 227 rfl ?_
                refine ss_goto h dX3_wordFor_227 231 (by decide) ?_
                exact J231 _ e231
            refine ss_aload_n (i := 0) h dX3_wordFor_193 194 rfl rfl rfl ?_
            refine ss_aload_n (i := 1) h dX3_wordFor_194 195 rfl rfl rfl ?_
            refine ss_iload_n (i := 3) h dX3_wordFor_195 196 rfl rfl rfl ?_
            refine ss_iload h dX3_wordFor_196 198 rfl rfl ?_
            refine ss_iload h dX3_wordFor_198 200 rfl rfl ?_
            refine ss_cVv h (x_ownerAt hE.2.1 (hg _).1.1 hE.2.2.1 (hg _).2 (d := d - 1) hf.1 h0 (by omega) (by omega) (by omega)) (lw_V q882 q883 q884 q86 q885) kl3 hE.2.2.1.ob 4 rfl md_X3_ownerAt rfl (by omega) (by decide) rfl dX3_wordFor_200 203 rfl rfl (Nat.le_of_ble_eq_true rfl) (by omega) (by omega) ?_
            refine ss_iconst h dX3_wordFor_203 204 rfl ?_
            refine ss_icmp_ne h dX3_wordFor_204 207 211 rfl (by decide) hoS (by omega) (fun c204 => ?_) (fun c204 => ?_)
            · skip
              have e212 : (1 : Int) = if rimB z p q dr = true ∨ z (850 + yardS p q dr) = -1 then 0 else 1 := (if_neg (fun w => c204 ((own_at hp).mpr w))).symm
              refine ss_iconst h dX3_wordFor_211 212 rfl ?_
              exact J212 _ e212
            · skip
              have e212 : (0 : Int) = if rimB z p q dr = true ∨ z (850 + yardS p q dr) = -1 then 0 else 1 := (if_pos ((own_at hp).mp c204)).symm
              refine ss_iconst h dX3_wordFor_207 208 rfl ?_
              refine ss_goto h dX3_wordFor_208 212 (by decide) ?_
              exact J212 _ e212
          refine ss_iload h dX3_wordFor_163 165 rfl rfl ?_
          refine ss_if_ne h dX3_wordFor_165 168 183 rfl (by decide) (by first | omega | exact sRg_b _) (fun c165 => ?_) (fun c165 => ?_)
          · skip
            have e184 : (0 : Int) = if rimB z p q dr = true then 0 else pondS z (rxS p h) (ryS q h) := (if_pos (hr1.mpr (by omega))).symm
            refine ss_iconst h dX3_wordFor_183 184 rfl ?_
            exact J184 _ e184
          · skip
            refine ss_aload_n (i := 1) h dX3_wordFor_168 169 rfl rfl rfl ?_
            refine ss_iload h dX3_wordFor_169 171 rfl rfl ?_
            refine ss_iload h dX3_wordFor_171 173 rfl rfl ?_
            refine ss_cVv h (x_hasPond hE.2.1 (hg _).1.1 (d := d - 1) hf.1 hp1 (by omega) (by omega) (by omega)) (lw_V q881 q876 q877 q84 q878) kl2 hE.2.1.ob 2 rfl md_X2_hasPond rfl (by omega) (by decide) rfl dX3_wordFor_173 176 rfl rfl (Nat.le_of_ble_eq_true rfl) (by omega) (by omega) ?_
            refine ss_if_eq h dX3_wordFor_176 179 183 rfl (by decide) (by have := pin (rxS p h) (ryS q h); omega) (fun c176 => ?_) (fun c176 => ?_)
            · skip
              have e184 : (0 : Int) = if rimB z p q dr = true then 0 else pondS z (rxS p h) (ryS q h) := by rw [if_neg (fun w => by have := hr1.mp w; omega), c176]
              refine ss_iconst h dX3_wordFor_183 184 rfl ?_
              exact J184 _ e184
            · skip
              have e184 : (1 : Int) = if rimB z p q dr = true then 0 else pondS z (rxS p h) (ryS q h) := by rw [if_neg (fun w => by have := hr1.mp w; omega)]; have := pin (rxS p h) (ryS q h); omega
              refine ss_iconst h dX3_wordFor_179 180 rfl ?_
              refine ss_goto h dX3_wordFor_180 184 (by decide) ?_
              exact J184 _ e184
        refine ss_iload h dX3_wordFor_133 135 rfl rfl ?_
        refine ss_if_ne h dX3_wordFor_135 138 153 rfl (by decide) (by first | omega | exact sRg_b _) (fun c135 => ?_) (fun c135 => ?_)
        · skip
          have e154 : (0 : Int) = if rimB z p q dr = true then 0 else pondS z (lxS p h) (lyS q h) := (if_pos (hr1.mpr (by omega))).symm
          refine ss_iconst h dX3_wordFor_153 154 rfl ?_
          exact J154 _ e154
        · skip
          refine ss_aload_n (i := 1) h dX3_wordFor_138 139 rfl rfl rfl ?_
          refine ss_iload h dX3_wordFor_139 141 rfl rfl ?_
          refine ss_iload h dX3_wordFor_141 143 rfl rfl ?_
          refine ss_cVv h (x_hasPond hE.2.1 (hg _).1.1 (d := d - 1) hf.1 hp1 (by omega) (by omega) (by omega)) (lw_V q881 q876 q877 q84 q878) kl2 hE.2.1.ob 2 rfl md_X2_hasPond rfl (by omega) (by decide) rfl dX3_wordFor_143 146 rfl rfl (Nat.le_of_ble_eq_true rfl) (by omega) (by omega) ?_
          refine ss_if_eq h dX3_wordFor_146 149 153 rfl (by decide) (by have := pin (lxS p h) (lyS q h); omega) (fun c146 => ?_) (fun c146 => ?_)
          · skip
            have e154 : (0 : Int) = if rimB z p q dr = true then 0 else pondS z (lxS p h) (lyS q h) := by rw [if_neg (fun w => by have := hr1.mp w; omega), c146]
            refine ss_iconst h dX3_wordFor_153 154 rfl ?_
            exact J154 _ e154
          · skip
            have e154 : (1 : Int) = if rimB z p q dr = true then 0 else pondS z (lxS p h) (lyS q h) := by rw [if_neg (fun w => by have := hr1.mp w; omega)]; have := pin (lxS p h) (lyS q h); omega
            refine ss_iconst h dX3_wordFor_149 150 rfl ?_
            refine ss_goto h dX3_wordFor_150 154 (by decide) ?_
            exact J154 _ e154
      refine ss_iload h dX3_wordFor_107 109 rfl rfl ?_
      refine ss_if_eq h dX3_wordFor_109 112 116 rfl (by decide) (by first | omega | exact sRg_b _) (fun c109 => ?_) (fun c109 => ?_)
      · skip
        skip
        refine ss_aload_n (i := 1) h dX3_wordFor_116 117 rfl rfl rfl ?_
        refine ss_iload h dX3_wordFor_117 119 rfl rfl ?_
        refine ss_iload h dX3_wordFor_119 121 rfl rfl ?_
        refine ss_cVv h (x_seenFlies hE.2.1 (hg _).1.1 (d := d - 1) hf.1 hf.2.2.2.1 (by omega) (by omega) (by omega)) (lw_V q870 q871 q872 q84 q873) kl2 hE.2.1.ob 2 rfl md_X2_seenFlies rfl (by omega) (by decide) rfl dX3_wordFor_121 124 rfl rfl (Nat.le_of_ble_eq_true rfl) (by omega) (by omega) ?_
        have e124 : seenS z (rxS p dr) (ryS q dr) = if rimB z p q dr = true then 0 else seenS z (rxS p dr) (ryS q dr) := (if_neg (fun w => by have := hr1.mp w; omega)).symm
        exact J124 _ e124
      · skip
        have e124 : (0 : Int) = if rimB z p q dr = true then 0 else seenS z (rxS p dr) (ryS q dr) := (if_pos (hr1.mpr (by omega))).symm
        refine ss_iconst h dX3_wordFor_112 113 rfl ?_
        refine ss_goto h dX3_wordFor_113 124 (by decide) ?_
        exact J124 _ e124
    refine ss_iload h dX3_wordFor_81 83 rfl rfl ?_
    refine ss_if_eq h dX3_wordFor_83 86 90 rfl (by decide) (by first | omega | exact sRg_b _) (fun c83 => ?_) (fun c83 => ?_)
    · skip
      skip
      refine ss_aload_n (i := 1) h dX3_wordFor_90 91 rfl rfl rfl ?_
      refine ss_iload h dX3_wordFor_91 93 rfl rfl ?_
      refine ss_iload h dX3_wordFor_93 95 rfl rfl ?_
      refine ss_cVv h (x_seenFlies hE.2.1 (hg _).1.1 (d := d - 1) hf.1 hf.2.2.2.1 (by omega) (by omega) (by omega)) (lw_V q870 q871 q872 q84 q873) kl2 hE.2.1.ob 2 rfl md_X2_seenFlies rfl (by omega) (by decide) rfl dX3_wordFor_95 98 rfl rfl (Nat.le_of_ble_eq_true rfl) (by omega) (by omega) ?_
      have e98 : seenS z (lxS p dr) (lyS q dr) = if rimB z p q dr = true then 0 else seenS z (lxS p dr) (lyS q dr) := (if_neg (fun w => by have := hr1.mp w; omega)).symm
      exact J98 _ e98
    · skip
      have e98 : (0 : Int) = if rimB z p q dr = true then 0 else seenS z (lxS p dr) (lyS q dr) := (if_pos (hr1.mpr (by omega))).symm
      refine ss_iconst h dX3_wordFor_86 87 rfl ?_
      refine ss_goto h dX3_wordFor_87 98 (by decide) ?_
      exact J98 _ e98
  refine ss_if_ne h dX3_wordFor_21 24 28 rfl (by decide) (by first | omega | exact sRg_b _) (fun c21 => ?_) (fun c21 => ?_)
  · skip
    replace c21 := bI_1.mp c21
    refine ss_iconst h dX3_wordFor_28 29 rfl ?_
    exact J29 _ (by unfold rimB; rw [c21]; rfl)
  · skip
    replace c21 := bI_0.mp c21
    refine ss_iconst h dX3_wordFor_24 25 rfl ?_
    refine ss_goto h dX3_wordFor_25 29 (by decide) ?_
    exact J29 _ (by unfold rimB; rw [c21]; rfl)
end XM4

