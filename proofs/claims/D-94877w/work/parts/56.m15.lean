/-! ===== the twin: feed ===== -/
section M15
variable {Ω : OmT} {n : Nat} {K : KT} {X : XT} {R : RT} {m : Nat} {d : Nat}
theorem feed_0 (t : WT) (n a b c d e : Int) : feedA t n 0 a b c d e = t := by
  funext i
  unfold feedA
  rw [if_neg (by omega)]
theorem feed_s (t : WT) {n k a b c d e : Int} (h : 0 ≤ k) : upW (feedA t n k a b c d e) (n + k) (byteS k a b c d e) = feedA t n (k + 1) a b c d e := by
  funext i
  dsimp only [upW, feedA]
  by_cases e1 : i = n + k
  · rw [if_pos e1, if_pos (by omega), e1, show n + k - n = k by omega]
  · rw [if_neg e1]
    by_cases e2 : n ≤ i ∧ i < n + k
    · rw [if_pos e2, if_pos (by omega)]
    · rw [if_neg e2, if_neg (by omega)]
theorem sUp_fed {X : XT} {a b : Nat} {f : WT} {i j u v z : Int} (h : a ≠ b) : sUp (sUp (sUp (sArr X a f) b i v) a j u) b i z = sUp (sArr X a (upW f j u)) b i z := by
  funext c l
  by_cases e1 : c = b
  · rw [e1]
    by_cases e2 : l = i
    · rw [e2, sUp_ss, sUp_ss]
    · rw [sUp_sn e2, sUp_o h.symm, sUp_sn e2, sUp_sn e2, sArr_n h.symm, sArr_n h.symm]
  · by_cases e2 : c = a
    · rw [e2, sUp_ne h, sUp_s, sUp_ne h, sArr_s, sUp_ne h, sArr_s]
    · rw [sUp_ne e1, sUp_ne e2, sUp_ne e1, sArr_n e2, sUp_ne e1, sArr_n e2]
theorem andS_rg (a b : Int) : sRg (andS a b) := sRg_of _
theorem m_feed (hM : MOk Ω n K R m) {a b c u v : Int} (h1 : sRg a) (h2 : sRg b) (h3 : sRg c) (h4 : sRg u) (h5 : sRg v) (ht : 0 ≤ X m 14 ∧ X m 14 ≤ 400) : sCt Ω yX4_feed cX4_feed 8 (some .int) d 0 0 [.ref m, vI a, vI b, vI c, vI u, vI v] n K X R (pA n K R (vI (if X m 14 + 20 > 400 then -1 else X m 14 + 20)) (fun X' => X' = if X m 14 + 20 > 400 then X else sUp (sArr X (m + 7) (feedA (X (m + 7)) (X m 14) 20 a b c u v)) m 14 (X m 14 + 20))) := by
  obtain ⟨t, htt⟩ : ∃ t, t = X m 14 := ⟨_, rfl⟩
  rw [← htt] at ht ⊢
  refine sCt_of (by decide) (by simp [Value.category, vI, va_rf]) (Nat.le_of_ble_eq_true rfl) fun Γ P9 hP9 h => ?_
  show sG (_, _, _, _, _) Γ 0 0 _ _ _ _ 0 [some _, some _, some _, some _, some _, some _, none, none] []
  refine ss_aload_n (i := 0) h dX4_feed_0 1 rfl rfl rfl ?_
  refine ss_getI h kl4 14 14 rfl (by decide) rfl hM.ob q1101 dX4_feed_1 4 rfl ?_
  rw [← htt]
  refine ss_bipush h dX4_feed_4 6 rfl (by decide +kernel) ?_
  refine ss_iadd h dX4_feed_6 7 rfl ?_
  refine ss_sipush h dX4_feed_7 10 rfl (by decide +kernel) ?_
  refine ss_icmp_le h dX4_feed_10 13 15 rfl (by decide) (by first | omega | exact sRg_b _) (by first | omega | exact sRg_b _) (fun c10 => ?_) (fun c10 => ?_)
  · skip
    refine ss_iconst h dX4_feed_15 16 rfl ?_
    refine ss_ist_6 h dX4_feed_16 18 rfl ?_
    refine ss_X (X' := sUp (sArr X (m + 7) (feedA (X (m + 7)) t 0 a b c u v)) m 14 (t + 0)) ?_ ?_
    · rw [feed_0, sArr_id, Int.add_zero, htt]
      funext q l
      by_cases e : q = m ∧ l = 14
      · rw [e.1, e.2, sUp_ss]
      · simp only [sUp, if_neg e]
    refine ss_loop (σ := Int) (Pp := fun k => sG _ Γ 0 0 n K (sUp (sArr X (m + 7) (feedA (X (m + 7)) t k a b c u v)) m 14 (t + k)) R 18 [some (.ref m), some (vI a), some (vI b), some (vI c), some (vI u), some (vI v), some (vI k), none] []) (I := fun k => 0 ≤ k ∧ k ≤ 20) (fun k => (20 - k).toNat) (fun k hk ih => ?_) 0 (by omega)
    refine ss_iload h dX4_feed_18 20 rfl rfl ?_
    refine ss_bipush h dX4_feed_20 22 rfl (by decide +kernel) ?_
    refine ss_icmp_ge h dX4_feed_22 25 115 rfl (by decide) (by first | omega | exact sRg_b _) (by first | omega | exact sRg_b _) (fun c22 => ?_) (fun c22 => ?_)
    · skip
      refine ss_aload_n (i := 0) h dX4_feed_115 116 rfl rfl rfl ?_
      refine ss_getI h kl4 14 14 rfl (by decide) rfl hM.ob q1101 dX4_feed_116 119 rfl ?_
      refine ss_iret h dX4_feed_119 (by omega) (by omega) ?_
      rw [hP9]
      rw [show k = 20 by omega]
      exact ⟨by rw [if_neg (by omega), sUp_ss], rfl, rfl, rfl, by rw [if_neg (by omega)]⟩
    · skip
      refine ss_cut (σ := Unit) (fun s => True) 71 (fun s => (sUp (sArr X (m + 7) (feedA (X (m + 7)) t k a b c u v)) m 14 (t + k))) (fun s => [some (.ref m), some (vI a), some (vI b), some (vI c), some (vI u), some (vI v), some (vI k), none]) (fun s => [vI (if k < 4 then a else if k < 8 then b else if k < 12 then c else if k < 16 then u else v)]) (fun s h71 => ?_) (fun J71 => ?_)
      · skip
        refine ss_ist_7 h dX4_feed_71 73 rfl ?_
        refine ss_aload_n (i := 0) h dX4_feed_73 74 rfl rfl rfl ?_
        refine ss_getS h kl4 9 9 rfl (by decide) rfl hM.ob q1096 dX4_feed_74 77 rfl hM.r_tape ?_
        refine ss_aload_n (i := 0) h dX4_feed_77 78 rfl rfl rfl ?_
        refine ss_getI h kl4 14 14 rfl (by decide) rfl hM.ob q1101 dX4_feed_78 81 rfl ?_
        rw [sUp_ss]
        refine ss_iload h dX4_feed_81 83 rfl rfl ?_
        refine ss_bipush h dX4_feed_83 85 rfl (by decide +kernel) ?_
        refine ss_bipush h dX4_feed_85 87 rfl (by decide +kernel) ?_
        refine ss_iload h dX4_feed_87 89 rfl rfl ?_
        refine ss_iconst h dX4_feed_89 90 rfl ?_
        refine ss_irem h dX4_feed_90 91 rfl (by omega) (by omega) (by omega) ?_
        refine ss_imul h dX4_feed_91 92 rfl ?_
        refine ss_isub h dX4_feed_92 93 rfl ?_
        refine ss_ishr h dX4_feed_93 94 rfl (sI_of _).symm ?_
        refine ss_sipush h dX4_feed_94 97 rfl (by decide +kernel) ?_
        refine ss_iand h dX4_feed_97 98 rfl (sI_of _).symm ?_
        rw [show (sI (sI (if k < 4 then a else if k < 8 then b else if k < 12 then c else if k < 16 then u else v) >>> (sI (24 - 8 * k.tmod 4) &&& 31)).toInt &&& sI 255).toInt = byteS k a b c u v from rfl]
        refine ss_iast h hM.k_tape (by decide) (by omega) (andS_rg _ _) dX4_feed_98 99 rfl ?_
        refine ss_aload_n (i := 0) h dX4_feed_99 100 rfl rfl rfl ?_
        refine ss_dup h dX4_feed_100 101 rfl rfl ?_
        refine ss_getI h kl4 14 14 rfl (by decide) rfl hM.ob q1101 dX4_feed_101 104 rfl ?_
        rw [sUp_ne (show m ≠ m + 7 by omega), sUp_ss]
        refine ss_iconst h dX4_feed_104 105 rfl ?_
        refine ss_iadd h dX4_feed_105 106 rfl ?_
        refine ss_putI h kl4 14 14 rfl (by decide) rfl hM.ob q1101 (Or.inl rfl) (by omega) dX4_feed_106 109 rfl ?_
        refine ss_inc_6 h dX4_feed_109 112 rfl ?_
        refine ss_goto h dX4_feed_112 18 (by decide) ?_
        refine ss_kl_7 ?_
        refine ss_X ?_ (ih (k + 1) (by omega) (by omega))
        rw [sUp_fed (by omega), feed_s _ hk.1, show t + k + 1 = t + (k + 1) by omega]
      refine ss_iload h dX4_feed_25 27 rfl rfl ?_
      refine ss_iconst h dX4_feed_27 28 rfl ?_
      refine ss_icmp_ge h dX4_feed_28 31 35 rfl (by decide) (by first | omega | exact sRg_b _) (by first | omega | exact sRg_b _) (fun c28 => ?_) (fun c28 => ?_)
      · skip
        refine ss_iload h dX4_feed_35 37 rfl rfl ?_
        refine ss_bipush h dX4_feed_37 39 rfl (by decide +kernel) ?_
        refine ss_icmp_ge h dX4_feed_39 42 46 rfl (by decide) (by first | omega | exact sRg_b _) (by first | omega | exact sRg_b _) (fun c39 => ?_) (fun c39 => ?_)
        · skip
          refine ss_iload h dX4_feed_46 48 rfl rfl ?_
          refine ss_bipush h dX4_feed_48 50 rfl (by decide +kernel) ?_
          refine ss_icmp_ge h dX4_feed_50 53 57 rfl (by decide) (by first | omega | exact sRg_b _) (by first | omega | exact sRg_b _) (fun c50 => ?_) (fun c50 => ?_)
          · skip
            refine ss_iload h dX4_feed_57 59 rfl rfl ?_
            refine ss_bipush h dX4_feed_59 61 rfl (by decide +kernel) ?_
            refine ss_icmp_ge h dX4_feed_61 64 69 rfl (by decide) (by first | omega | exact sRg_b _) (by first | omega | exact sRg_b _) (fun c61 => ?_) (fun c61 => ?_)
            · skip
              refine ss_iload h dX4_feed_69 71 rfl rfl ?_
              have z := J71 () trivial
              repeat first | rw [if_pos (show k < _ by omega)] at z | rw [if_neg (show ¬ k < _ by omega)] at z
              exact z
            · skip
              refine ss_iload h dX4_feed_64 66 rfl rfl ?_
              refine ss_goto h dX4_feed_66 71 (by decide) ?_
              have z := J71 () trivial
              repeat first | rw [if_pos (show k < _ by omega)] at z | rw [if_neg (show ¬ k < _ by omega)] at z
              exact z
          · skip
            refine ss_iload_n (i := 3) h dX4_feed_53 54 rfl rfl rfl ?_
            refine ss_goto h dX4_feed_54 71 (by decide) ?_
            have z := J71 () trivial
            repeat first | rw [if_pos (show k < _ by omega)] at z | rw [if_neg (show ¬ k < _ by omega)] at z
            exact z
        · skip
          refine ss_iload_n (i := 2) h dX4_feed_42 43 rfl rfl rfl ?_
          refine ss_goto h dX4_feed_43 71 (by decide) ?_
          have z := J71 () trivial
          repeat first | rw [if_pos (show k < _ by omega)] at z | rw [if_neg (show ¬ k < _ by omega)] at z
          exact z
      · skip
        refine ss_iload_n (i := 1) h dX4_feed_31 32 rfl rfl rfl ?_
        refine ss_goto h dX4_feed_32 71 (by decide) ?_
        have z := J71 () trivial
        repeat first | rw [if_pos (show k < _ by omega)] at z | rw [if_neg (show ¬ k < _ by omega)] at z
        exact z
  · skip
    refine ss_iconst h dX4_feed_13 14 rfl ?_
    refine ss_iret h dX4_feed_14 (by omega) (by omega) ?_
    rw [hP9]
    exact ⟨by rw [if_pos (by omega)], rfl, rfl, rfl, by rw [if_pos (by omega)]⟩
end M15

