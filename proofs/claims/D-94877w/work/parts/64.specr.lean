/-! ===== reading texts: lines ===== -/
abbrev LnP : Type := Bool × PS × WT
def linM (B : WT) (t : Int) (s : PS) : BP := if s.1 16 = 3 then anyP B t (tstP B t 9) (nextP B t s) else (true, s)
def linP (B : WT) (t : Int) (s : PS) (F : WT) : LnP :=
  if inB (s.1 16) 20 24 = false then (false, badP 1 s, F)
  else if s.1 12 = 16 then (false, badP 3 s, F)
  else if (linM B t (nextP B t (putP s 22 0))).1 = false then (false, (linM B t (nextP B t (putP s 22 0))).2, upW (upW F (3 * s.1 12) (s.1 16 - 20)) (3 * s.1 12 + 1) ((nextP B t (putP s 22 0)).1 13))
  else ((ndP B t 159 (linM B t (nextP B t (putP s 22 0))).2).1, (ndP B t 159 (linM B t (nextP B t (putP s 22 0))).2).2, upW (upW (upW F (3 * s.1 12) (s.1 16 - 20)) (3 * s.1 12 + 1) ((nextP B t (putP s 22 0)).1 13)) (3 * s.1 12 + 2) ((linM B t (nextP B t (putP s 22 0))).2.1 13))
theorem frm_linM {B : WT} {t : Int} (s : PS) : frm s (linM B t s).2 := by
  unfold linM
  split
  · exact frm_tr frm_next (frm_any (frm_tst 9) _)
  · exact frm_rf s
theorem frm_lin {B : WT} {t : Int} (s : PS) (F : WT) : frm s (linP B t s F).2.1 := by
  unfold linP
  split
  · exact frm_bad
  · split
    · exact frm_bad
    · split
      · exact frm_tr (frm_put (by decide)) (frm_tr frm_next (frm_linM _))
      · exact frm_tr (frm_put (by decide)) (frm_tr frm_next (frm_tr (frm_linM _) (frm_nd _)))
theorem lin_next {B : WT} {t : Int} {s : PS} (h : TP B t) (hs : PI t s) (hk : s.1 16 ≠ 0) : PI t (nextP B t (putP s 22 0)) ∧ s.1 17 < (nextP B t (putP s 22 0)).1 17 ∧ (nextP B t (putP s 22 0)).1 13 = s.1 13 ∧ (nextP B t (putP s 22 0)).1 22 = 0 := by
  obtain ⟨a1, a2, a3, a4, a5, a6, a7, a8⟩ := hs
  have ro : ∀ f, f ≠ 22 → (putP s 22 0).1 f = s.1 f := fun f hf => put_o hf
  obtain ⟨g1, g2, g3, g4⟩ := next_PI (s := putP s 22 0) h (by rw [ro 15 (by decide)]; omega) (by rw [ro 18 (by decide)]; exact a5) (by rw [ro 13 (by decide), ro 15 (by decide)]; omega) (by rw [put_s]; omega) (by rw [ro 19 (by decide)]; exact a7) (by rw [ro 20 (by decide)]; exact a8)
  rw [ro 15 (by decide)] at g2
  rw [ro 13 (by decide)] at g3
  rw [put_s] at g4
  have := a2 hk
  exact ⟨g1, by omega, g3, g4⟩
theorem linM_grow {B : WT} {t : Int} {s : PS} (h : TP B t) (hs : PI t s) (hr : (linM B t s).1 = true) : grw0 t s (linM B t s).2 := by
  unfold linM at hr ⊢
  by_cases c : s.1 16 = 3
  · rw [if_pos c] at hr ⊢
    obtain ⟨g1, g2⟩ := next_grow h hs (by omega)
    exact grow_0 (grow_tr g1 (grow_0 (any_good h (tst_good h 9) _ g1.1 hr)))
  · rw [if_neg c]
    exact ⟨hs, Int.le_refl _, Int.le_refl _, rfl⟩
theorem lin_grow {B : WT} {t : Int} {s : PS} {F : WT} (h : TP B t) (hs : PI t s) (hr : (linP B t s F).1 = true) : PI t (linP B t s F).2.1 ∧ s.1 17 < (linP B t s F).2.1.1 17 := by
  unfold linP at hr ⊢
  by_cases c1 : inB (s.1 16) 20 24 = false
  · rw [if_pos c1] at hr
    cases hr
  · rw [if_neg c1] at hr ⊢
    have hk : s.1 16 ≠ 0 := by
      intro e
      rw [e] at c1
      exact c1 (by decide)
    by_cases c2 : s.1 12 = 16
    · rw [if_pos c2] at hr
      cases hr
    · rw [if_neg c2] at hr ⊢
      by_cases c3 : (linM B t (nextP B t (putP s 22 0))).1 = false
      · rw [if_pos c3] at hr
        cases hr
      · rw [if_neg c3] at hr ⊢
        obtain ⟨g1, g2, g3, g4⟩ := lin_next h hs hk
        have k1 := linM_grow h g1 (by simpa using c3)
        dsimp only at hr ⊢
        have k2 := k1.2.1
        unfold ndP at hr ⊢
        by_cases c4 : (linM B t (nextP B t (putP s 22 0))).2.1 16 ≠ 159
        · rw [if_pos c4] at hr
          cases hr
        · rw [if_neg c4]
          obtain ⟨n1, n2⟩ := next_grow h k1.1 (by omega)
          have := n1.2.1
          exact ⟨n1.1, by dsimp only; omega⟩
def txtF (B : WT) (t : Int) : Nat → PS → WT → LnP
  | 0, s, F => (true, s, F)
  | f + 1, s, F => if s.1 16 = 0 then (true, s, F) else if (linP B t s F).1 = true then txtF B t f (putP (linP B t s F).2.1 12 ((linP B t s F).2.1.1 12 + 1)) (linP B t s F).2.2 else linP B t s F
def txt0 (s : PS) : PS := putP (putP (putP (putP s 19 0) 15 0) 12 0) 13 0
/-- a text's lines and steps copied: lines so far, steps' numbers so far -/
def txtW (w F C : WT) (k L a b : Int) : WT := fun i => if i = 1985 + k then L else if 1990 + 16 * k ≤ i ∧ i < 1990 + 16 * k + a then F (3 * (i - (1990 + 16 * k))) else if 2060 + 16 * k ≤ i ∧ i < 2060 + 16 * k + a then F (3 * (i - (2060 + 16 * k)) + 1) else if 2130 + 16 * k ≤ i ∧ i < 2130 + 16 * k + a then F (3 * (i - (2130 + 16 * k)) + 2) else if 2200 + 820 * k ≤ i ∧ i < 2200 + 820 * k + b then C (i - (2200 + 820 * k)) else w i
theorem txtW_0 (w F C : WT) (k L : Int) : txtW w F C k L 0 0 = upW w (1985 + k) L := by
  funext i
  unfold txtW upW
  split
  · rfl
  · rw [if_neg (by omega), if_neg (by omega), if_neg (by omega), if_neg (by omega)]
theorem txtW_a {w F C : WT} {k L a : Int} (hk : 0 ≤ k ∧ k ≤ 3) (ha : 0 ≤ a ∧ a < 16) : upW (upW (upW (txtW w F C k L a 0) (1990 + 16 * k + a) (F (3 * a))) (2060 + 16 * k + a) (F (3 * a + 1))) (2130 + 16 * k + a) (F (3 * a + 2)) = txtW w F C k L (a + 1) 0 := by
  funext i
  by_cases e1 : i = 2130 + 16 * k + a
  · subst e1
    rw [upW_s]
    unfold txtW
    rw [if_neg (by omega), if_neg (by omega), if_neg (by omega), if_pos (by omega), show 2130 + 16 * k + a - (2130 + 16 * k) = a by omega]
  · rw [upW_n e1]
    by_cases e2 : i = 2060 + 16 * k + a
    · subst e2
      rw [upW_s]
      unfold txtW
      rw [if_neg (by omega), if_neg (by omega), if_pos (by omega), show 2060 + 16 * k + a - (2060 + 16 * k) = a by omega]
    · rw [upW_n e2]
      by_cases e3 : i = 1990 + 16 * k + a
      · subst e3
        rw [upW_s]
        unfold txtW
        rw [if_neg (by omega), if_pos (by omega), show 1990 + 16 * k + a - (1990 + 16 * k) = a by omega]
      · rw [upW_n e3]
        unfold txtW
        split
        · rfl
        · split
          · rw [if_pos (by omega)]
          · rw [if_neg (show ¬ (1990 + 16 * k ≤ i ∧ i < 1990 + 16 * k + (a + 1)) by omega)]
            split
            · rw [if_pos (by omega)]
            · rw [if_neg (show ¬ (2060 + 16 * k ≤ i ∧ i < 2060 + 16 * k + (a + 1)) by omega)]
              split
              · rw [if_pos (by omega)]
              · rw [if_neg (show ¬ (2130 + 16 * k ≤ i ∧ i < 2130 + 16 * k + (a + 1)) by omega), if_neg (by omega)]
theorem txtW_b {w F C : WT} {k L a b : Int} (hk : 0 ≤ k ∧ k ≤ 3) (ha : 0 ≤ a ∧ a ≤ 16) (hb : 0 ≤ b ∧ b < 820) : upW (txtW w F C k L a b) (2200 + 820 * k + b) (C b) = txtW w F C k L a (b + 1) := by
  funext i
  by_cases e1 : i = 2200 + 820 * k + b
  · subst e1
    rw [upW_s]
    unfold txtW
    rw [if_neg (by omega), if_neg (by omega), if_neg (by omega), if_neg (by omega), if_pos (by omega), show 2200 + 820 * k + b - (2200 + 820 * k) = b by omega]
  · rw [upW_n e1]
    unfold txtW
    split
    · rfl
    · split
      · rfl
      · split
        · rfl
        · split
          · rfl
          · split
            · rw [if_pos (by omega)]
            · rw [if_neg (show ¬ (2200 + 820 * k ≤ i ∧ i < 2200 + 820 * k + (b + 1)) by omega)]
