/-! ===== the component: terms, texts ===== -/
section XM3
variable {Ω : OmT} {n : Nat} {K : KT} {X : XT} {R : RT} {l b x : Nat} {z : WT} {d : Nat}
/-- what a term's own method answers, whichever it is -/
def ofCt (Ω : OmT) (d : Nat) (n : Nat) (K : KT) (X : XT) (R : RT) (ha : Nat) (f : WT) (t : Nat) (c : List (Int × Int)) : Prop :=
  (sOb Ω n K t 8 → sCt Ω yX9_of cX9_of 2 (some .int) d 0 0 [.ref t, .ref ha] n K X R (pV n K X R (some (vI (evT c f))))) ∧
  (sOb Ω n K t 9 → sCt Ω yX10_of cX10_of 2 (some .int) d 0 0 [.ref t, .ref ha] n K X R (pV n K X R (some (vI (evT c f))))) ∧
  (sOb Ω n K t 7 → sCt Ω yX8_of cX8_of 2 (some .int) d 0 0 [.ref t, .ref ha] n K X R (pV n K X R (some (vI (evT c f))))) ∧
  (sOb Ω n K t 10 → sCt Ω yX11_of cX11_of 4 (some .int) d 0 0 [.ref t, .ref ha] n K X R (pV n K X R (some (vI (evT c f)))))
theorem trm_cls {D t : Nat} {c : List (Int × Int)} (h : trm Ω n K X R D t c) : sOb Ω n K t 8 ∨ sOb Ω n K t 9 ∨ sOb Ω n K t 7 ∨ sOb Ω n K t 10 := by
  cases D with
  | zero => exact False.elim h
  | succ D =>
    rcases h with ⟨h, -⟩ | ⟨h, -⟩ | ⟨h, -⟩ | ⟨h, -⟩
    · exact Or.inl h
    · exact Or.inr (Or.inl h)
    · exact Or.inr (Or.inr (Or.inl h))
    · exact Or.inr (Or.inr (Or.inr h))
/-- Term.of, called -/
theorem ss_of {d' mc ms : Nat} {P : PT} {Γ : GT} {cc : ByteArray} {nL : Nat} {own : String} {ret : Option FieldType} {nm : String} {k j : Nat} {pc : Nat} {L : List (Option Value)} {st : List Value} (h : sCx (Ω, d', mc, ms, P) Γ cc nL own ret nm) {D t ha : Nat} {f : WT} {c : List (Int × Int)} (ht : trm Ω n K X R D t c) (ct : ofCt Ω d n K X R ha f t c) {idx : Nat} (hlk : Cond.methodLink own idx yX7_of ∈ lw_all) (hd : d + 1 ≤ d') (hll : L.length = nL) (dd : decode cc pc = .ok (.invokevirtual idx, 3)) (q : Nat) (e : pc + 3 = q) (hcat : (st.map fun v => v.category).sum ≤ 8) (hkk : k ≤ mc) (hjj : j ≤ ms) (kk : sG (Ω, d', mc, ms, P) Γ k j n K X R q L (vI (evT c f) :: st)) : sG (Ω, d', mc, ms, P) Γ k j n K X R pc L (.ref ha :: .ref t :: st) := by
  have key : ∀ v n' K' X' R', pV n K X R (some (vI (evT c f))) v n' K' X' R' → n ≤ n' → sG (Ω, d', mc, ms, P) Γ k j n' K' X' R' q L (v.toList ++ st) := fun v n' K' X' R' hp hn => by
    obtain ⟨rfl, rfl, rfl, rfl, rfl⟩ := hp
    exact kk
  rcases trm_cls ht with ho | ho | ho | ho
  · exact ss_callU h (owner := "SwallowSurvey$Term") (As := [.ref ha]) (ct.1 ho) (lw_U hlk q896 q908 q901 q103 q902) q895 ⟨by decide, by decide⟩ kl8 ho 1 rfl (by decide +kernel) hd (by decide) hll dd q e rfl hcat k j rfl rfl hkk hjj key
  · exact ss_callU h (owner := "SwallowSurvey$Term") (As := [.ref ha]) (ct.2.1 ho) (lw_U hlk q896 q910 q906 q104 q907) q895 ⟨by decide, by decide⟩ kl9 ho 1 rfl (by decide +kernel) hd (by decide) hll dd q e rfl hcat k j rfl rfl hkk hjj key
  · exact ss_callU h (owner := "SwallowSurvey$Term") (As := [.ref ha]) (ct.2.2.1 ho) (lw_U hlk q896 q897 q898 q102 q899) q895 ⟨by decide, by decide⟩ kl7 ho 1 rfl (by decide +kernel) hd (by decide) hll dd q e rfl hcat k j rfl rfl hkk hjj key
  · exact ss_callU h (owner := "SwallowSurvey$Term") (As := [.ref ha]) (ct.2.2.2 ho) (lw_U hlk q896 q909 q903 q105 q904) q895 ⟨by decide, by decide⟩ kl10 ho 1 rfl (by decide +kernel) hd (by decide) hll dd q e rfl hcat k j rfl rfl hkk hjj key
theorem x_of_number {t ha : Nat} {f : WT} (ho : sOb Ω n K t 8) : sCt Ω yX9_of cX9_of 2 (some .int) d 0 0 [.ref t, .ref ha] n K X R (pV n K X R (some (vI (X t 0)))) := by
  refine sCt_of (by decide) (by simp [Value.category, vI, va_rf]) (Nat.le_of_ble_eq_true rfl) fun Γ P9 hP9 h => ?_
  show sG (_, _, _, _, _) Γ 0 0 _ _ _ _ 0 [some _, some _] []
  refine ss_aload_n (i := 0) h dX9_of_0 1 rfl rfl rfl ?_
  refine ss_getI h kl8 0 0 rfl (by decide) rfl ho q720 dX9_of_1 4 rfl ?_
  refine ss_iret h dX9_of_4 (by omega) (by omega) ?_
  rw [hP9]
  exact ⟨rfl, rfl, rfl, rfl, rfl⟩
theorem x_of_word {t ha : Nat} (ho : sOb Ω n K t 9) (hk : 0 ≤ X t 0 ∧ X t 0 ≤ 8) (hA : sAr Ω n K ha 0 9) : sCt Ω yX10_of cX10_of 2 (some .int) d 0 0 [.ref t, .ref ha] n K X R (pV n K X R (some (vI (X ha (X t 0))))) := by
  refine sCt_of (by decide) (by simp [Value.category, vI, va_rf]) (Nat.le_of_ble_eq_true rfl) fun Γ P9 hP9 h => ?_
  show sG (_, _, _, _, _) Γ 0 0 _ _ _ _ 0 [some _, some _] []
  refine ss_aload_n (i := 1) h dX10_of_0 1 rfl rfl rfl ?_
  refine ss_aload_n (i := 0) h dX10_of_1 2 rfl rfl rfl ?_
  refine ss_getI h kl9 0 0 rfl (by decide) rfl ho q730 dX10_of_2 5 rfl ?_
  refine ss_iald h hA (by decide) (by omega) dX10_of_5 6 rfl ?_
  refine ss_iret h dX10_of_6 (by omega) (by omega) ?_
  rw [hP9]
  exact ⟨rfl, rfl, rfl, rfl, rfl⟩
theorem sOb_ne {t c c' : Nat} {p : Prop} (hne : c ≠ c') (h1 : sOb Ω n K t c) (h2 : sOb Ω n K t c') : p := False.elim (hne (by have := h1.2.2.symm.trans h2.2.2; omega))
theorem x_of {ha : Nat} {f : WT} (hX : ∀ a i, sRg (X a i)) (hf : ∀ i, sRg (f i)) (hA : sAr Ω n K ha 0 9) (hfa : ∀ k : Int, 0 ≤ k ∧ k ≤ 8 → X ha k = f (k + 1)) : ∀ (D t : Nat) (c : List (Int × Int)) (d : Nat), D ≤ d → trm Ω n K X R D t c → ofCt Ω d n K X R ha f t c
  | 0, _, _, _, _, h => False.elim h
  | D + 1, t, c, d, hd, h => by
    have hrun := fun D t c h => trm_run (Ω := Ω) (n := n) (K := K) (R := R) (f := f) hX hf D t c h
    rcases h with ⟨ho, rfl⟩ | ⟨ho, hk, v, rfl⟩ | ⟨ho, a, c1, v, ha1, h1, rfl⟩ | ⟨ho, a, b, c1, v, ha1, hb1, h1, h2⟩
    · refine ⟨fun _ => x_of_number (f := f) ho, fun q => sOb_ne (by decide) ho q, fun q => sOb_ne (by decide) ho q, fun q => sOb_ne (by decide) ho q⟩
    · refine ⟨fun q => sOb_ne (by decide) ho q, fun _ => ?_, fun q => sOb_ne (by decide) ho q, fun q => sOb_ne (by decide) ho q⟩
      have e : evT [(X t 0 + 1, v)] f = X ha (X t 0) := by
        rw [hfa _ hk]
        show topC (stepC (X t 0 + 1) v f []) = _
        unfold stepC
        rw [if_pos (by omega), if_neg (by omega)]
        rfl
      rw [e]
      exact x_of_word ho hk hA
    · obtain ⟨e1, r1⟩ := hrun D a c1 h1
      have ih := x_of hX hf hA hfa D a c1 (d - 1) (by omega) h1
      refine ⟨fun q => sOb_ne (by decide) ho q, fun q => sOb_ne (by decide) ho q, fun _ => ?_, fun q => sOb_ne (by decide) ho q⟩
      rw [evT_not e1]
      refine sCt_of (by decide) (by simp [Value.category, vI, va_rf]) (Nat.le_of_ble_eq_true rfl) fun Γ P9 hP9 h => ?_
      show sG (_, _, _, _, _) Γ 0 0 _ _ _ _ 0 [some _, some _] []
      refine ss_iconst h dX8_of_0 1 rfl ?_
      refine ss_aload_n (i := 0) h dX8_of_1 2 rfl rfl rfl ?_
      refine ss_getS h kl7 0 0 rfl (by decide) rfl ho q690 dX8_of_2 5 rfl ha1 ?_
      refine ss_aload_n (i := 1) h dX8_of_5 6 rfl rfl rfl ?_
      refine ss_of h (d := d - 1) h1 ih q900 (by omega) rfl dX8_of_6 9 rfl (Nat.le_of_ble_eq_true rfl) (by omega) (by omega) ?_
      refine ss_isub h dX8_of_9 10 rfl ?_
      refine ss_wr ?_
      refine ss_iret h dX8_of_10 (by omega) (by omega) ?_
      rw [hP9]
      exact ⟨rfl, rfl, rfl, rfl, rfl⟩
    · obtain ⟨e1, r1⟩ := hrun D a c1 h1
      have ih := x_of hX hf hA hfa D a c1 (d - 1) (by omega) h1
      refine ⟨fun q => sOb_ne (by decide) ho q, fun q => sOb_ne (by decide) ho q, fun q => sOb_ne (by decide) ho q, fun _ => ?_⟩
      have hbt : ∃ c2, trm Ω n K X R (D + 1) b c2 ∧ sRg (evT c2 f) ∧ ofCt Ω (d - 1) n K X R ha f b c2 ∧ ((X t 0 = 47 ∧ v ≠ 0 ∧ evT c2 f = v ∧ c = c1 ++ [(16, v)]) ∨ ∃ s, opS s ∧ X t 0 = chS s ∧ (∀ st, runC c2 f st = evT c2 f :: st) ∧ c = c1 ++ c2 ++ [(s, v)]) := by
        rcases h2 with ⟨g1, g2, g3, g4, g5⟩ | ⟨s, c2, g1, g2, g3, g4⟩
        · refine ⟨[(0, X b 0)], Or.inl ⟨g3, rfl⟩, hX b 0, ⟨fun _ => x_of_number (f := f) g3, fun q => sOb_ne (by decide) g3 q, fun q => sOb_ne (by decide) g3 q, fun q => sOb_ne (by decide) g3 q⟩, Or.inl ⟨g1, g2, g4, g5⟩⟩
        · exact ⟨c2, trm_up D b c2 g3, (hrun D b c2 g3).2, x_of hX hf hA hfa D b c2 (d - 1) (by omega) g3, Or.inr ⟨s, g1, g2, (hrun D b c2 g3).1, g4⟩⟩
      obtain ⟨c2, h2t, r2, ih2, hc⟩ := hbt
      obtain ⟨v1, hv1⟩ : ∃ v1, v1 = evT c1 f := ⟨_, rfl⟩
      obtain ⟨v2, hv2⟩ : ∃ v2, v2 = evT c2 f := ⟨_, rfl⟩
      refine sCt_of (by decide) (by simp [Value.category, vI, va_rf]) (Nat.le_of_ble_eq_true rfl) fun Γ P9 hP9 h => ?_
      show sG (_, _, _, _, _) Γ 0 0 _ _ _ _ 0 [some _, some _, none, none] []
      refine ss_aload_n (i := 0) h dX11_of_0 1 rfl rfl rfl ?_
      refine ss_getS h kl10 1 1 rfl (by decide) rfl ho q741 dX11_of_1 4 rfl ha1 ?_
      refine ss_aload_n (i := 1) h dX11_of_4 5 rfl rfl rfl ?_
      refine ss_of h (d := d - 1) h1 ih q905 (by omega) rfl dX11_of_5 8 rfl (Nat.le_of_ble_eq_true rfl) (by omega) (by omega) ?_
      refine ss_ist_2 h dX11_of_8 9 rfl ?_
      refine ss_aload_n (i := 0) h dX11_of_9 10 rfl rfl rfl ?_
      refine ss_getS h kl10 2 2 rfl (by decide) rfl ho q742 dX11_of_10 13 rfl hb1 ?_
      refine ss_aload_n (i := 1) h dX11_of_13 14 rfl rfl rfl ?_
      refine ss_of h (d := d - 1) h2t ih2 q905 (by omega) rfl dX11_of_14 17 rfl (Nat.le_of_ble_eq_true rfl) (by omega) (by omega) ?_
      refine ss_ist_3 h dX11_of_17 18 rfl ?_
      refine ss_aload_n (i := 0) h dX11_of_18 19 rfl rfl rfl ?_
      refine ss_getI h kl10 0 0 rfl (by decide) rfl ho q740 dX11_of_19 22 rfl ?_
      rw [← hv1, ← hv2]
      rw [← hv1] at r1
      rw [← hv2] at r2
      rcases hc with ⟨hs, hv, hve, hcc⟩ | ⟨s, hs, hse, hru, hcc⟩
      · rw [hs]
        refine ss_sw (off := 126) h dX11_of_22 148 (by omega) (by omega) (by omega) rfl (by decide) ?_
        refine ss_iload_n (i := 2) h dX11_of_148 149 rfl rfl rfl ?_
        refine ss_iload_n (i := 3) h dX11_of_149 150 rfl rfl rfl ?_
        refine ss_idiv h dX11_of_150 151 rfl (by omega) (by omega) (by omega) ?_
        refine ss_iret h dX11_of_151 (by omega) (by omega) ?_
        rw [hP9]
        exact ⟨by rw [hcc, evT_div e1, ← hv1, vI_wr, hv2, hve], rfl, rfl, rfl, rfl⟩
      · have hfin : evT c f = bothS s v1 v2 := by rw [hcc, evT_op hs e1 hru, ← hv1, ← hv2]
        rw [hfin] at hP9
        rcases hs with rfl | rfl | rfl | rfl | rfl | rfl | rfl | rfl
        · rw [hse, show chS 13 = 43 from rfl]
          refine ss_sw (off := 114) h dX11_of_22 136 (by omega) (by omega) (by omega) rfl (by decide) ?_
          refine ss_iload_n (i := 2) h dX11_of_136 137 rfl rfl rfl ?_
          refine ss_iload_n (i := 3) h dX11_of_137 138 rfl rfl rfl ?_
          refine ss_iadd h dX11_of_138 139 rfl ?_
          refine ss_iret h dX11_of_139 (by omega) (by omega) ?_
          rw [hP9]
          exact ⟨by rw [show bothS 13 v1 v2 = sWr (v1 + v2) from rfl, vI_wr], rfl, rfl, rfl, rfl⟩
        · rw [hse, show chS 14 = 45 from rfl]
          refine ss_sw (off := 118) h dX11_of_22 140 (by omega) (by omega) (by omega) rfl (by decide) ?_
          refine ss_iload_n (i := 2) h dX11_of_140 141 rfl rfl rfl ?_
          refine ss_iload_n (i := 3) h dX11_of_141 142 rfl rfl rfl ?_
          refine ss_isub h dX11_of_142 143 rfl ?_
          refine ss_iret h dX11_of_143 (by omega) (by omega) ?_
          rw [hP9]
          exact ⟨by rw [show bothS 14 v1 v2 = sWr (v1 - v2) from rfl, vI_wr], rfl, rfl, rfl, rfl⟩
        · rw [hse, show chS 15 = 42 from rfl]
          refine ss_sw (off := 122) h dX11_of_22 144 (by omega) (by omega) (by omega) rfl (by decide) ?_
          refine ss_iload_n (i := 2) h dX11_of_144 145 rfl rfl rfl ?_
          refine ss_iload_n (i := 3) h dX11_of_145 146 rfl rfl rfl ?_
          refine ss_imul h dX11_of_146 147 rfl ?_
          refine ss_iret h dX11_of_147 (by omega) (by omega) ?_
          rw [hP9]
          exact ⟨by rw [show bothS 15 v1 v2 = sWr (v1 * v2) from rfl, vI_wr], rfl, rfl, rfl, rfl⟩
        · rw [hse, show chS 17 = 60 from rfl]
          refine ss_sw (off := 130) h dX11_of_22 152 (by omega) (by omega) (by omega) rfl (by decide) ?_
          refine ss_iload_n (i := 2) h dX11_of_152 153 rfl rfl rfl ?_
          refine ss_iload_n (i := 3) h dX11_of_153 154 rfl rfl rfl ?_
          refine ss_icmp_ge h dX11_of_154 157 161 rfl (by decide) (by first | omega | exact sRg_b _) (by first | omega | exact sRg_b _) (fun c154 => ?_) (fun c154 => ?_)
          · skip
            refine ss_iconst h dX11_of_161 162 rfl ?_
            refine ss_iret h dX11_of_162 (by omega) (by omega) ?_
            rw [hP9]
            exact ⟨vI_c (by unfold bothS; simp; try omega), rfl, rfl, rfl, rfl⟩
          · skip
            refine ss_iconst h dX11_of_157 158 rfl ?_
            refine ss_goto h dX11_of_158 162 (by decide) ?_
            refine ss_iret h dX11_of_162 (by omega) (by omega) ?_
            rw [hP9]
            exact ⟨vI_c (by unfold bothS; simp; try omega), rfl, rfl, rfl, rfl⟩
        · rw [hse, show chS 18 = 61 from rfl]
          refine ss_sw (off := 141) h dX11_of_22 163 (by omega) (by omega) (by omega) rfl (by decide) ?_
          refine ss_iload_n (i := 2) h dX11_of_163 164 rfl rfl rfl ?_
          refine ss_iload_n (i := 3) h dX11_of_164 165 rfl rfl rfl ?_
          refine ss_icmp_ne h dX11_of_165 168 172 rfl (by decide) (by first | omega | exact sRg_b _) (by first | omega | exact sRg_b _) (fun c165 => ?_) (fun c165 => ?_)
          · skip
            refine ss_iconst h dX11_of_172 173 rfl ?_
            refine ss_iret h dX11_of_173 (by omega) (by omega) ?_
            rw [hP9]
            exact ⟨vI_c (by unfold bothS; simp; try omega), rfl, rfl, rfl, rfl⟩
          · skip
            refine ss_iconst h dX11_of_168 169 rfl ?_
            refine ss_goto h dX11_of_169 173 (by decide) ?_
            refine ss_iret h dX11_of_173 (by omega) (by omega) ?_
            rw [hP9]
            exact ⟨vI_c (by unfold bothS; simp; try omega), rfl, rfl, rfl, rfl⟩
        · rw [hse, show chS 19 = 62 from rfl]
          refine ss_sw (off := 152) h dX11_of_22 174 (by omega) (by omega) (by omega) rfl (by decide) ?_
          refine ss_iload_n (i := 2) h dX11_of_174 175 rfl rfl rfl ?_
          refine ss_iload_n (i := 3) h dX11_of_175 176 rfl rfl rfl ?_
          refine ss_icmp_le h dX11_of_176 179 183 rfl (by decide) (by first | omega | exact sRg_b _) (by first | omega | exact sRg_b _) (fun c176 => ?_) (fun c176 => ?_)
          · skip
            refine ss_iconst h dX11_of_183 184 rfl ?_
            refine ss_iret h dX11_of_184 (by omega) (by omega) ?_
            rw [hP9]
            exact ⟨vI_c (by unfold bothS; simp; try omega), rfl, rfl, rfl, rfl⟩
          · skip
            refine ss_iconst h dX11_of_179 180 rfl ?_
            refine ss_goto h dX11_of_180 184 (by decide) ?_
            refine ss_iret h dX11_of_184 (by omega) (by omega) ?_
            rw [hP9]
            exact ⟨vI_c (by unfold bothS; simp; try omega), rfl, rfl, rfl, rfl⟩
        · rw [hse, show chS 21 = 38 from rfl]
          refine ss_sw (off := 163) h dX11_of_22 185 (by omega) (by omega) (by omega) rfl (by decide) ?_
          refine ss_iload_n (i := 2) h dX11_of_185 186 rfl rfl rfl ?_
          refine ss_iload_n (i := 3) h dX11_of_186 187 rfl rfl rfl ?_
          refine ss_iand h dX11_of_187 188 rfl (sI_of _).symm ?_
          refine ss_iret h dX11_of_188 (by omega) (by omega) ?_
          rw [hP9]
          exact ⟨rfl, rfl, rfl, rfl, rfl⟩
        · rw [hse, show chS 22 = 124 from rfl]
          refine ss_swd h dX11_of_22 189 (by omega) (by omega) (by decide) ?_
          refine ss_iload_n (i := 2) h dX11_of_189 190 rfl rfl rfl ?_
          refine ss_iload_n (i := 3) h dX11_of_190 191 rfl rfl rfl ?_
          refine ss_ior h dX11_of_191 192 rfl (sI_of _).symm ?_
          refine ss_iret h dX11_of_192 (by omega) (by omega) ?_
          rw [hP9]
          exact ⟨rfl, rfl, rfl, rfl, rfl⟩
def frsF (w : WT) (k : Int) (f : WT) : Nat → Int → Int
  | 0, _ => -1
  | n + 1, i => if takesB w k i f = true then i else frsF w k f n (i + 1)
def frsS (w : WT) (k : Int) (f : WT) : Int := frsF w k f (w (1985 + k)).toNat 0
theorem frsF_in (w : WT) (k : Int) (f : WT) : ∀ (m : Nat) (i : Int), 0 ≤ i → (frsF w k f m i = -1 ∧ toldF w k f m i = 0) ∨ ((i ≤ frsF w k f m i ∧ frsF w k f m i < i + m) ∧ toldF w k f m i = w (1990 + 16 * k + frsF w k f m i))
  | 0, i, _ => Or.inl ⟨rfl, rfl⟩
  | m + 1, i, hi => by
    unfold frsF toldF
    by_cases e : takesB w k i f = true
    · rw [if_pos e, if_pos e]
      exact Or.inr ⟨by omega, rfl⟩
    · rw [if_neg e, if_neg e]
      rcases frsF_in w k f m (i + 1) (by omega) with q | ⟨q1, q2⟩
      · exact Or.inl q
      · exact Or.inr ⟨by omega, q2⟩
theorem x_first {t ha : Nat} {k : Int} {f : WT} (hT : TV Ω n K X R z k t) (hl : textOK z k) (hX : ∀ a i, sRg (X a i)) (hf : ∀ i, sRg (f i)) (hA : sAr Ω n K ha 0 9) (hfa : ∀ k : Int, 0 ≤ k ∧ k ≤ 8 → X ha k = f (k + 1)) (hd : 411 ≤ d) : sCt Ω yX1_first cX1_first 3 (some .int) d 0 0 [.ref t, .ref ha] n K X R (pV n K X R (some (vI (frsS z k f)))) := by
  have hm := hl.1
  refine sCt_of (by decide) (by simp [Value.category, vI, va_rf]) (Nat.le_of_ble_eq_true rfl) fun Γ P9 hP9 h => ?_
  show sG (_, _, _, _, _) Γ 0 0 _ _ _ _ 0 [some _, some _, none] []
  refine ss_iconst h dX1_first_0 1 rfl ?_
  refine ss_ist_2 h dX1_first_1 2 rfl ?_
  refine ss_loop (σ := Int) (Pp := fun i => sG _ Γ 0 0 n K X R 2 [some (.ref t), some (.ref ha), some (vI i)] []) (I := fun i => (0 ≤ i ∧ i ≤ z (1985 + k)) ∧ frsF z k f (z (1985 + k) - i).toNat i = frsS z k f) (fun i => (z (1985 + k) - i).toNat) (fun i hi ih => ?_) 0 ⟨by omega, by unfold frsS; rw [Int.sub_zero]⟩
  obtain ⟨hi, he⟩ := hi
  refine ss_iload_n (i := 2) h dX1_first_2 3 rfl rfl rfl ?_
  refine ss_aload_n (i := 0) h dX1_first_3 4 rfl rfl rfl ?_
  refine ss_getIV h kl1 2 2 rfl (by decide) rfl hT.1.1 q148 dX1_first_4 7 rfl (hT.2.1) ?_
  refine ss_icmp_ge h dX1_first_7 10 40 rfl (by decide) (by first | omega | exact sRg_b _) (by first | omega | exact sRg_b _) (fun c7 => ?_) (fun c7 => ?_)
  · skip
    rw [show (z (1985 + k) - i).toNat = 0 by omega] at he
    refine ss_iconst h dX1_first_40 41 rfl ?_
    refine ss_iret h dX1_first_41 (by omega) (by omega) ?_
    rw [hP9]
    exact ⟨by rw [← he]; rfl, rfl, rfl, rfl, rfl⟩
  · skip
    rw [show (z (1985 + k) - i).toNat = (z (1985 + k) - (i + 1)).toNat + 1 by omega] at he
    unfold frsF at he
    obtain ⟨-, hwh⟩ := hT.2.2 i (by omega)
    have hval := (hl.2 i (by omega) (by omega)).2.2
    refine ss_aload_n (i := 0) h dX1_first_10 11 rfl rfl rfl ?_
    refine ss_getS h kl1 1 1 rfl (by decide) rfl hT.1.1 q146 dX1_first_11 14 rfl hT.1.2.2.2.1 ?_
    refine ss_iload_n (i := 2) h dX1_first_14 15 rfl rfl rfl ?_
    refine ss_aald h hT.1.2.2.2.2 (by decide) (by decide) rfl (by decide) (by omega) dX1_first_15 16 rfl ?_
    refine ss_ifnull h dX1_first_16 19 32 rfl (by decide) (fun c16 => ?_) (fun b16 c16 => ?_)
    · skip
      have htk : takesB z k i f = true := by
        rcases hwh with ⟨q, -⟩ | ⟨-, a, q, -⟩
        · unfold takesB
          rw [q]
          simp
        · rw [c16] at q
          cases q
      rw [if_pos htk] at he
      refine ss_iload_n (i := 2) h dX1_first_32 33 rfl rfl rfl ?_
      refine ss_iret h dX1_first_33 (by omega) (by omega) ?_
      rw [hP9]
      exact ⟨by rw [← he], rfl, rfl, rfl, rfl⟩
    · skip
      have hwh2 : z (2130 + 16 * k + i) ≠ z (2060 + 16 * k + i) ∧ trm Ω n K X R 410 b16 (codeL z k (z (2060 + 16 * k + i)) (z (2130 + 16 * k + i))) := by
        rcases hwh with ⟨-, q⟩ | ⟨q1, a, q, q2⟩
        · rw [c16] at q
          cases q
        · rw [c16] at q
          cases q
          exact ⟨q1, q2⟩
      have hv01 := (hval hwh2.1).2 f
      refine ss_aload_n (i := 0) h dX1_first_19 20 rfl rfl rfl ?_
      refine ss_getS h kl1 1 1 rfl (by decide) rfl hT.1.1 q146 dX1_first_20 23 rfl hT.1.2.2.2.1 ?_
      refine ss_iload_n (i := 2) h dX1_first_23 24 rfl rfl rfl ?_
      refine ss_aaldS h hT.1.2.2.2.2 (by decide) (by decide) rfl (by decide) (by omega) dX1_first_24 25 rfl (c16) ?_
      refine ss_aload_n (i := 1) h dX1_first_25 26 rfl rfl rfl ?_
      refine ss_of h (d := d - 1) hwh2.2 (x_of hX hf hA hfa 410 b16 _ (d - 1) (by omega) hwh2.2) q894 (by omega) rfl dX1_first_26 29 rfl (Nat.le_of_ble_eq_true rfl) (by omega) (by omega) ?_
      rw [show evT (codeL z k (z (2060 + 16 * k + i)) (z (2130 + 16 * k + i))) f = evL z k (z (2060 + 16 * k + i)) (z (2130 + 16 * k + i)) f from rfl]
      refine ss_if_eq h dX1_first_29 32 34 rfl (by decide) (by first | omega | exact sRg_b _) (fun c29 => ?_) (fun c29 => ?_)
      · skip
        have htk : takesB z k i f = false := by
          unfold takesB
          rw [c29]
          simp [hwh2.1]
        rw [htk, if_neg (by decide)] at he
        refine ss_inc_2 h dX1_first_34 37 rfl ?_
        refine ss_goto h dX1_first_37 2 (by decide) ?_
        exact ih (i + 1) ⟨by omega, he⟩ (by omega)
      · skip
        have htk : takesB z k i f = true := by
          unfold takesB
          rw [show evL z k (z (2060 + 16 * k + i)) (z (2130 + 16 * k + i)) f = 1 by omega]
          simp
        rw [if_pos htk] at he
        refine ss_iload_n (i := 2) h dX1_first_32 33 rfl rfl rfl ?_
        refine ss_iret h dX1_first_33 (by omega) (by omega) ?_
        rw [hP9]
        exact ⟨by rw [← he], rfl, rfl, rfl, rfl⟩
end XM3

