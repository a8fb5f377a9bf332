/-! ===== reading texts: what is kept ===== -/
theorem upW_same {w : WT} {i : Int} : upW w i (w i) = w := by
  funext l
  unfold upW
  split
  · rename_i e
    rw [e]
  · rfl
theorem upW_upW {w : WT} {i u v : Int} : upW (upW w i u) i v = upW w i v := by
  funext l
  unfold upW
  split <;> rfl
theorem upW_comm {w : WT} {i j u v : Int} (h : i ≠ j) : upW (upW w i u) j v = upW (upW w j v) i u := by
  funext l
  unfold upW
  by_cases e : l = i
  · by_cases e2 : l = j
    · omega
    · rw [if_neg e2, if_pos e, if_pos e]
  · by_cases e2 : l = j
    · rw [if_pos e2, if_neg e, if_pos e2]
    · rw [if_neg e2, if_neg e, if_neg e, if_neg e2]
theorem tok_16 {s : PS} {a e k : Int} : (tokP s a e k).1 16 = k := by unfold tokP; dsimp only; exact upW_s
theorem tok_17 {s : PS} {a e k : Int} : (tokP s a e k).1 17 = a := by unfold tokP; dsimp only; rw [upW_n (by decide), upW_s]
theorem tok_15 {s : PS} {a e k : Int} : (tokP s a e k).1 15 = e := by unfold tokP; dsimp only; rw [upW_n (by decide), upW_n (by decide), upW_s]
theorem tok_o {s : PS} {a e k f : Int} (h1 : f ≠ 15) (h2 : f ≠ 16) (h3 : f ≠ 17) : (tokP s a e k).1 f = s.1 f := by unfold tokP; dsimp only; rw [upW_n h2, upW_n h3, upW_n h1]
theorem put_s {s : PS} {f v : Int} : (putP s f v).1 f = v := by unfold putP; exact upW_s
theorem put_o {s : PS} {f v g : Int} (h : g ≠ f) : (putP s f v).1 g = s.1 g := by unfold putP; exact upW_n h
theorem lay_13 {s : PS} {k v : Int} : (layP k v s).1 13 = s.1 13 + 1 := by unfold layP; dsimp only; exact upW_s
theorem lay_o {s : PS} {k v f : Int} (h : f ≠ 13) : (layP k v s).1 f = s.1 f := by unfold layP; exact upW_n h
theorem signB_in {c : Int} (h : signB c = true) : 40 ≤ c ∧ c ≤ 62 := by
  unfold signB at h
  have := of_decide_eq_true h
  omega
theorem next_tok {B : WT} {t : Int} {s : PS} (h : TP B t) (h0 : 0 ≤ s.1 15 ∧ s.1 15 ≤ t) (hv : 0 ≤ s.1 18 ∧ s.1 18 ≤ 9999) : ∃ a e k v, nextP B t s = tokP (putP s 18 v) a e k ∧ s.1 15 ≤ a ∧ a ≤ e ∧ e ≤ t ∧ (k ≠ 0 → a < e) ∧ (0 ≤ k ∧ k ≤ 400) ∧ (0 ≤ v ∧ v ≤ 9999) := by
  have hid : putP s 18 (s.1 18) = s := by unfold putP; rw [upW_same]
  obtain ⟨a, ha⟩ : ∃ a, a = skpF B t 402 (s.1 15) := ⟨_, rfl⟩
  have hsk := skp_in h 402 (s.1 15) h0.1 h0.2
  unfold nextP
  rw [← ha] at hsk ⊢
  by_cases c1 : seeP B t a = -1
  · rw [if_pos c1]
    exact ⟨a, a, 0, s.1 18, by rw [hid], hsk.1, Int.le_refl _, hsk.2, fun z => absurd rfl z, by omega, hv⟩
  · rw [if_neg c1]
    have hat : a < t := by
      rcases seeP_in h (show 0 ≤ a by omega) with z | z
      · exact z.1
      · exact absurd z.2 c1
    by_cases c2 : letB (seeP B t a) = true
    · rw [if_pos c2]
      obtain ⟨e, he⟩ : ∃ e, e = letF B t 402 a := ⟨_, rfl⟩
      have h1 : letF B t 402 a = letF B t 401 (a + 1) := if_pos c2
      have h2 := let_in h 401 (a + 1) (by omega) (by omega)
      rw [← h1, ← he] at h2
      rw [← he]
      have := wordT_in (slc B a e)
      exact ⟨a, e, _, s.1 18, by rw [hid], hsk.1, by omega, h2.2, fun _ => by omega, by omega, hv⟩
    · rw [if_neg c2]
      by_cases c3 : digitB (seeP B t a) = true
      · rw [if_pos c3]
        obtain ⟨e, he⟩ : ∃ e, e = digF B t a 402 a 0 := ⟨_, rfl⟩
        have h1 : digF B t a 402 a 0 = digF B t a 401 (a + 1) (if a < a + 4 then 10 * 0 + seeP B t a - 48 else 0) := if_pos c3
        have h2 := dig_in h 401 (a + 1) _ (by omega) (by omega) (by omega) (digI_s (a := a) (p := a) (v := 0) ⟨by omega, fun _ => rfl, fun _ => by omega, fun _ => by omega, fun _ => by omega⟩ (Int.le_refl _) (digitB_in c3))
        rw [← h1, ← he] at h2
        rw [← he]
        exact ⟨a, e.1, _, e.2, rfl, hsk.1, by omega, h2.2.1, fun _ => by omega, by split <;> omega, h2.2.2⟩
      · rw [if_neg c3]
        refine ⟨a, a + 1, _, s.1 18, by rw [hid], hsk.1, by omega, by omega, fun _ => by omega, ?_, hv⟩
        split
        · rename_i q
          have := signB_in q
          omega
        · omega
theorem next_PI {B : WT} {t : Int} {s : PS} (h : TP B t) (h0 : 0 ≤ s.1 15 ∧ s.1 15 ≤ t) (hv : 0 ≤ s.1 18 ∧ s.1 18 ≤ 9999) (hs : 0 ≤ s.1 13 ∧ s.1 13 ≤ s.1 15) (hd : 0 ≤ s.1 22 ∧ s.1 22 ≤ 8) (h1 : sRg (s.1 19)) (h2 : sRg (s.1 20)) : PI t (nextP B t s) ∧ s.1 15 ≤ (nextP B t s).1 17 ∧ (nextP B t s).1 13 = s.1 13 ∧ (nextP B t s).1 22 = s.1 22 := by
  obtain ⟨a, e, k, v, hn, k1, k2, k3, k4, k5, k6⟩ := next_tok h h0 hv
  rw [hn]
  unfold PI
  have e13 : (tokP (putP s 18 v) a e k).1 13 = s.1 13 := by rw [tok_o (by decide) (by decide) (by decide), put_o (by decide)]
  have e22 : (tokP (putP s 18 v) a e k).1 22 = s.1 22 := by rw [tok_o (by decide) (by decide) (by decide), put_o (by decide)]
  have e18 : (tokP (putP s 18 v) a e k).1 18 = v := by rw [tok_o (by decide) (by decide) (by decide), put_s]
  have e19 : (tokP (putP s 18 v) a e k).1 19 = s.1 19 := by rw [tok_o (by decide) (by decide) (by decide), put_o (by decide)]
  have e20 : (tokP (putP s 18 v) a e k).1 20 = s.1 20 := by rw [tok_o (by decide) (by decide) (by decide), put_o (by decide)]
  rw [e13, e22, e18, e19, e20, tok_15, tok_16, tok_17]
  exact ⟨⟨⟨by omega, k2, k3⟩, k4, by omega, hd, k6, k5, h1, h2⟩, k1, rfl, rfl⟩
theorem next_grow {B : WT} {t : Int} {s : PS} (h : TP B t) (hs : PI t s) (hk : s.1 16 ≠ 0) : grow t s (nextP B t s) ∧ (nextP B t s).1 13 = s.1 13 := by
  obtain ⟨a1, a2, a3, a4, a5, a6, a7, a8⟩ := hs
  obtain ⟨g1, g2, g3, g4⟩ := next_PI h ⟨by omega, a1.2.2⟩ a5 ⟨a3.1, by omega⟩ a4 a7 a8
  have := a2 hk
  exact ⟨⟨g1, by omega, by omega, g4⟩, g3⟩
theorem PI_same {t : Int} {s r : PS} (hs : PI t s) (h : ∀ f, f ≠ 19 → f ≠ 20 → r.1 f = s.1 f) (h1 : sRg (r.1 19)) (h2 : sRg (r.1 20)) : PI t r := by
  unfold PI at hs ⊢
  rw [h 17 (by decide) (by decide), h 15 (by decide) (by decide), h 16 (by decide) (by decide), h 13 (by decide) (by decide), h 22 (by decide) (by decide), h 18 (by decide) (by decide)]
  exact ⟨hs.1, hs.2.1, hs.2.2.1, hs.2.2.2.1, hs.2.2.2.2.1, hs.2.2.2.2.2.1, h1, h2⟩
/-- a step laid behind a token -/
theorem lay_grow {t : Int} {s r : PS} {k v : Int} (h : PI t r) (h1 : s.1 17 < r.1 17) (h2 : r.1 13 + 1 + s.1 17 ≤ s.1 13 + r.1 17) (h3 : r.1 22 = s.1 22) (hs : PI t s) : grow t s (layP k v r) := by
  obtain ⟨a1, a2, a3, a4, a5, a6, a7, a8⟩ := h
  have b3 := hs.2.2.1
  unfold grow PI
  rw [lay_13, lay_o (by decide), lay_o (by decide), lay_o (by decide), lay_o (by decide), lay_o (by decide), lay_o (by decide), lay_o (by decide)]
  exact ⟨⟨a1, a2, by omega, a4, a5, a6, a7, a8⟩, h1, by omega, h3⟩
theorem bnd_t {r : BP} {k : PS → BP} (h : (bnd r k).1 = true) : r.1 = true ∧ bnd r k = k r.2 := by
  unfold bnd at h ⊢
  by_cases e : r.1 = true
  · rw [if_pos e]
    exact ⟨e, rfl⟩
  · rw [if_neg e] at h
    exact absurd h e
theorem bnd_1 {r : BP} {k : PS → BP} (h : r.1 = true) : bnd r k = k r.2 := if_pos h
theorem bnd_0 {r : BP} {k : PS → BP} (h : r.1 = false) : bnd r k = r := if_neg (by rw [h]; decide)
/-- a reader that takes at least one token if it succeeds -/
def good (t : Int) (g : PS → BP) : Prop := ∀ s, PI t s → (g s).1 = true → grow t s (g s).2
theorem lpP_grow {t : Int} {go : PS → Bool} {body : PS → BP} (hb : ∀ s, PI t s → go s = true → (body s).1 = true → grow t s (body s).2) : ∀ (f : Nat) (s : PS), PI t s → (lpP go body f s).1 = true → grw0 t s (lpP go body f s).2
  | 0, s, hs, h => by
    unfold lpP at h
    cases h
  | f + 1, s, hs, h => by
    unfold lpP at h ⊢
    by_cases e : go s = true
    · rw [if_pos e] at h ⊢
      obtain ⟨h1, h2⟩ := bnd_t h
      rw [h2] at h ⊢
      have g1 := hb s hs e h1
      exact grow_0 (grow_tr g1 (lpP_grow hb f _ g1.1 h))
    · rw [if_neg e]
      exact ⟨hs, Int.le_refl _, Int.le_refl _, rfl⟩
theorem bnd_good {t : Int} {g : PS → BP} {go : PS → Bool} {body : PS → BP} (hg : good t g) (hb : ∀ s, PI t s → go s = true → (body s).1 = true → grow t s (body s).2) (f : Nat) : good t (fun s => bnd (g s) (lpP go body f)) := by
  intro s hs h
  obtain ⟨h1, h2⟩ := bnd_t h
  dsimp only at h ⊢
  rw [h2] at h ⊢
  have g1 := hg s hs h1
  exact grow_tr g1 (lpP_grow hb f _ g1.1 h)
theorem unit_good {B : WT} {t : Int} (h : TP B t) : good t (unitP B t) := by
  intro s hs hr
  unfold unitP at hr ⊢
  by_cases c : s.1 16 ≠ 2 ∧ nameB (s.1 16) = false
  · rw [if_pos c] at hr
    cases hr
  · rw [if_neg c]
    dsimp only
    have hk : s.1 16 ≠ 0 := by
      intro e
      apply c
      rw [e]
      exact ⟨by decide, by decide⟩
    obtain ⟨a1, a2, a3, a4, a5, a6, a7, a8⟩ := hs
    have h17 := a2 hk
    obtain ⟨r, hr⟩ : ∃ r, r = layP (if nameB (s.1 16) = true then s.1 16 - 40 else 0) (s.1 18) s := ⟨_, rfl⟩
    have r13 : r.1 13 = s.1 13 + 1 := by rw [hr, lay_13]
    have ro : ∀ f, f ≠ 13 → r.1 f = s.1 f := fun f hf => by rw [hr, lay_o hf]
    rw [← hr]
    obtain ⟨g1, g2, g3, g4⟩ := next_PI (s := r) h (by rw [ro 15 (by decide)]; omega) (by rw [ro 18 (by decide)]; exact a5) (by rw [r13, ro 15 (by decide)]; omega) (by rw [ro 22 (by decide)]; exact a4) (by rw [ro 19 (by decide)]; exact a7) (by rw [ro 20 (by decide)]; exact a8)
    rw [ro 15 (by decide)] at g2
    rw [ro 22 (by decide)] at g4
    exact ⟨g1, by omega, by omega, g4⟩
theorem step_grow {B : WT} {t : Int} (h : TP B t) {g : PS → BP} (hg : good t g) {s : PS} {k v : Int} (hs : PI t s) (hk : s.1 16 ≠ 0) (hr : (bnd (g (nextP B t s)) fun r => (true, layP k v r)).1 = true) : grow t s (bnd (g (nextP B t s)) fun r => (true, layP k v r)).2 := by
  obtain ⟨h1, h2⟩ := bnd_t hr
  rw [h2]
  obtain ⟨g1, g2⟩ := next_grow h hs hk
  have k1 := hg _ g1.1 h1
  have l1 := g1.2.1
  have l2 := k1.2.1
  have l3 := k1.2.2.1
  exact lay_grow k1.1 (by omega) (by omega) (k1.2.2.2.trans g1.2.2.2) hs
theorem prdB_grow {B : WT} {t : Int} (h : TP B t) : ∀ s, PI t s → prdG s = true → (prdB B t s).1 = true → grow t s (prdB B t s).2 := by
  intro s hs hg hr
  have hk : s.1 16 ≠ 0 := by
    have := of_decide_eq_true hg
    omega
  unfold prdB at hr ⊢
  by_cases c : s.1 16 = 147
  · rw [if_pos c] at hr ⊢
    by_cases c2 : (nextP B t s).1 16 ≠ 2
    · rw [if_pos c2] at hr
      cases hr
    · rw [if_neg c2] at hr ⊢
      by_cases c3 : (nextP B t s).1 18 = 0
      · rw [if_pos c3] at hr
        cases hr
      · rw [if_neg c3]
        obtain ⟨g1, g2⟩ := next_grow h hs hk
        obtain ⟨k1, k2⟩ := next_grow h g1.1 (by omega)
        have l1 := g1.2.1
        have l2 := k1.2.1
        exact lay_grow k1.1 (by omega) (by omega) (k1.2.2.2.trans g1.2.2.2) hs
  · rw [if_neg c] at hr ⊢
    exact step_grow h (unit_good h) hs hk hr
theorem prd_good {B : WT} {t : Int} (h : TP B t) : good t (prdP B t) := bnd_good (unit_good h) (prdB_grow h) 402
theorem sumB_grow {B : WT} {t : Int} (h : TP B t) : ∀ s, PI t s → sumG s = true → (sumB B t s).1 = true → grow t s (sumB B t s).2 := by
  intro s hs hg hr
  have hk : s.1 16 ≠ 0 := by
    have := of_decide_eq_true hg
    omega
  exact step_grow h (prd_good h) hs hk hr
theorem sum_good {B : WT} {t : Int} (h : TP B t) : good t (sumP B t) := bnd_good (prd_good h) (sumB_grow h) 402
theorem evyB_grow {B : WT} {t : Int} (h : TP B t) {g : PS → BP} (hg : good t g) : ∀ s, PI t s → decide (s.1 16 = 5) = true → (evyB B t g s).1 = true → grow t s (evyB B t g s).2 := by
  intro s hs hq hr
  have hk : s.1 16 ≠ 0 := by
    have := of_decide_eq_true hq
    omega
  exact step_grow h hg hs hk hr
theorem evy_good {B : WT} {t : Int} (h : TP B t) {g : PS → BP} (hg : good t g) : good t (evyP B t g) := bnd_good hg (evyB_grow h hg) 402
theorem anyB_grow {B : WT} {t : Int} (h : TP B t) {g : PS → BP} (hg : good t g) : ∀ s, PI t s → decide (s.1 16 = 4) = true → (anyB B t g s).1 = true → grow t s (anyB B t g s).2 := by
  intro s hs hq hr
  have hk : s.1 16 ≠ 0 := by
    have := of_decide_eq_true hq
    omega
  exact step_grow h (evy_good h hg) hs hk hr
theorem any_good {B : WT} {t : Int} (h : TP B t) {g : PS → BP} (hg : good t g) : good t (anyP B t g) := bnd_good (evy_good h hg) (anyB_grow h hg) 402
theorem how_in {k : Int} (h : howP k ≠ -1) : k = 160 ∨ k = 161 ∨ k = 162 := by
  unfold howP at h
  by_cases e1 : k = 160
  · exact Or.inl e1
  · by_cases e2 : k = 161
    · exact Or.inr (Or.inl e2)
    · by_cases e3 : k = 162
      · exact Or.inr (Or.inr e3)
      · rw [if_neg e1, if_neg e2, if_neg e3] at h
        exact absurd rfl h
theorem cmp_good {B : WT} {t : Int} (h : TP B t) : good t (cmpP B t) := by
  intro s hs hr
  unfold cmpP at hr ⊢
  obtain ⟨h1, h2⟩ := bnd_t hr
  rw [h2] at hr ⊢
  have g1 := sum_good h s hs h1
  by_cases c : howP ((sumP B t s).2.1 16) = -1
  · rw [if_pos c] at hr
    cases hr
  · rw [if_neg c] at hr ⊢
    have hk := how_in c
    exact grow_tr g1 (grow_0 (step_grow h (sum_good h) g1.1 (by omega) hr))
theorem opn_grow {B : WT} {t : Int} (h : TP B t) {s : PS} (hs : PI t s) (hk : s.1 16 ≠ 0) (hr : (opnP B t s).1 = true) : PI t (opnP B t s).2 ∧ s.1 17 < (opnP B t s).2.1 17 ∧ (opnP B t s).2.1 13 = s.1 13 ∧ (opnP B t s).2.1 22 = s.1 22 + 1 ∧ s.1 22 ≠ 8 := by
  unfold opnP at hr ⊢
  by_cases c : s.1 22 = 8
  · rw [if_pos c] at hr
    cases hr
  · rw [if_neg c]
    dsimp only
    obtain ⟨a1, a2, a3, a4, a5, a6, a7, a8⟩ := hs
    obtain ⟨r, hr⟩ : ∃ r, r = putP s 22 (s.1 22 + 1) := ⟨_, rfl⟩
    have r22 : r.1 22 = s.1 22 + 1 := by rw [hr, put_s]
    have ro : ∀ f, f ≠ 22 → r.1 f = s.1 f := fun f hf => by rw [hr, put_o hf]
    rw [← hr]
    obtain ⟨g1, g2, g3, g4⟩ := next_PI (s := r) h (by rw [ro 15 (by decide)]; omega) (by rw [ro 18 (by decide)]; exact a5) (by rw [ro 13 (by decide), ro 15 (by decide)]; omega) (by rw [r22]; omega) (by rw [ro 19 (by decide)]; exact a7) (by rw [ro 20 (by decide)]; exact a8)
    rw [ro 15 (by decide)] at g2
    rw [ro 13 (by decide)] at g3
    have := a2 hk
    exact ⟨g1, by omega, g3, by omega, c⟩
theorem cls_PI {t : Int} {r : PS} (h : PI t r) (h2 : 1 ≤ r.1 22) : PI t (putP r 22 (r.1 22 - 1)) := by
  obtain ⟨a1, a2, a3, a4, a5, a6, a7, a8⟩ := h
  unfold PI
  rw [put_s, put_o (by decide), put_o (by decide), put_o (by decide), put_o (by decide), put_o (by decide), put_o (by decide), put_o (by decide)]
  exact ⟨a1, a2, a3, by omega, a5, a6, a7, a8⟩
theorem tst_good {B : WT} {t : Int} (h : TP B t) : ∀ f : Nat, good t (tstP B t f)
  | 0 => fun s hs hr => by
    unfold tstP at hr
    cases hr
  | f + 1 => fun s hs hr => by
    have ih := tst_good h f
    unfold tstP at hr ⊢
    by_cases c : s.1 16 = 6
    · rw [if_pos c] at hr ⊢
      obtain ⟨h1, h2⟩ := bnd_t hr
      rw [h2] at hr ⊢
      obtain ⟨o1, o2, o3, o4, -⟩ := opn_grow h hs (by omega) h1
      obtain ⟨h3, h4⟩ := bnd_t hr
      rw [h4]
      have g1 := ih _ o1 h3
      have l1 := g1.2.1
      have l2 := g1.2.2.1
      have l3 := g1.2.2.2
      have l4 := hs.2.2.2.1
      refine lay_grow (cls_PI g1.1 (by omega)) ?_ ?_ ?_ hs
      · rw [put_o (by decide)]
        omega
      · rw [put_o (by decide), put_o (by decide)]
        omega
      · rw [put_s]
        omega
    · rw [if_neg c] at hr ⊢
      by_cases c2 : s.1 16 = 140
      · rw [if_pos c2] at hr ⊢
        obtain ⟨h1, h2⟩ := bnd_t hr
        rw [h2] at hr ⊢
        obtain ⟨o1, o2, o3, o4, -⟩ := opn_grow h hs (by omega) h1
        obtain ⟨h3, h4⟩ := bnd_t hr
        rw [h4] at hr ⊢
        have g1 := any_good h ih _ o1 h3
        obtain ⟨h5, h6⟩ := bnd_t hr
        rw [h6]
        unfold ndP at h5 ⊢
        by_cases c3 : (anyP B t (tstP B t f) (opnP B t s).2).2.1 16 ≠ 141
        · rw [if_pos c3] at h5
          cases h5
        · rw [if_neg c3]
          dsimp only
          obtain ⟨n1, n2⟩ := next_grow h g1.1 (by omega)
          have l1 := g1.2.1
          have l2 := g1.2.2.1
          have l3 := g1.2.2.2
          have l4 := hs.2.2.2.1
          have l5 := n1.2.1
          have l6 := n1.2.2.2
          refine ⟨cls_PI n1.1 (by omega), ?_, ?_, ?_⟩
          · rw [put_o (by decide)]
            omega
          · rw [put_o (by decide), put_o (by decide)]
            omega
          · rw [put_s]
            omega
      · rw [if_neg c2] at hr ⊢
        exact cmp_good h s hs hr
/-- the fields that a reader changes; all others stay -/
def rdF : List Int := [13, 15, 16, 17, 18, 19, 20, 22]
def frm (s r : PS) : Prop := ∀ f, f ∉ rdF → r.1 f = s.1 f
theorem frm_rf (s : PS) : frm s s := fun _ _ => rfl
theorem frm_tr {s r q : PS} (h : frm s r) (h2 : frm r q) : frm s q := fun f hf => (h2 f hf).trans (h f hf)
theorem rdF_n {f g : Int} (h : f ∉ rdF) (hg : g ∈ rdF) : f ≠ g := fun e => h (by rw [e]; exact hg)
theorem frm_put {s : PS} {g v : Int} (hg : g ∈ rdF) : frm s (putP s g v) := fun f hf => put_o (rdF_n hf hg)
theorem frm_tok {s : PS} {a e k : Int} : frm s (tokP s a e k) := fun f hf => tok_o (rdF_n hf (by decide)) (rdF_n hf (by decide)) (rdF_n hf (by decide))
theorem frm_lay {s : PS} {k v : Int} : frm s (layP k v s) := fun f hf => lay_o (rdF_n hf (by decide))
theorem frm_bad {s : PS} {k : Int} : frm s (badP k s) := fun f hf => by
  unfold badP
  dsimp only
  rw [upW_n (rdF_n hf (by decide)), upW_n (rdF_n hf (by decide))]
theorem frm_next {B : WT} {t : Int} {s : PS} : frm s (nextP B t s) := by
  unfold nextP
  split
  · exact frm_tok
  · split
    · exact frm_tok
    · split
      · exact frm_tr (frm_put (by decide)) frm_tok
      · exact frm_tok
theorem frm_bnd {s : PS} {r : BP} {k : PS → BP} (h : frm s r.2) (hk : ∀ q, frm q (k q).2) : frm s (bnd r k).2 := by
  unfold bnd
  split
  · exact frm_tr h (hk _)
  · exact h
theorem frm_lp {go : PS → Bool} {body : PS → BP} (hb : ∀ q, frm q (body q).2) : ∀ (f : Nat) (s : PS), frm s (lpP go body f s).2
  | 0, s => frm_rf s
  | f + 1, s => by
    unfold lpP
    split
    · exact frm_bnd (hb s) fun q => frm_lp hb f q
    · exact frm_rf s
theorem frm_unit {B : WT} {t : Int} (s : PS) : frm s (unitP B t s).2 := by
  unfold unitP
  split
  · exact frm_bad
  · exact frm_tr frm_lay frm_next
theorem frm_prdB {B : WT} {t : Int} (s : PS) : frm s (prdB B t s).2 := by
  unfold prdB
  split
  · split
    · exact frm_tr frm_next frm_bad
    · split
      · exact frm_tr frm_next frm_bad
      · exact frm_tr (frm_tr frm_next frm_next) frm_lay
  · exact frm_tr frm_next (frm_bnd (frm_unit _) fun q => frm_lay)
theorem frm_prd {B : WT} {t : Int} (s : PS) : frm s (prdP B t s).2 := frm_bnd (frm_unit s) fun q => frm_lp frm_prdB 402 q
theorem frm_sumB {B : WT} {t : Int} (s : PS) : frm s (sumB B t s).2 := frm_tr frm_next (frm_bnd (frm_prd _) fun q => frm_lay)
theorem frm_sum {B : WT} {t : Int} (s : PS) : frm s (sumP B t s).2 := frm_bnd (frm_prd s) fun q => frm_lp frm_sumB 402 q
theorem frm_cmp {B : WT} {t : Int} (s : PS) : frm s (cmpP B t s).2 := by
  refine frm_bnd (frm_sum s) fun q => ?_
  split
  · exact frm_bad
  · exact frm_tr frm_next (frm_bnd (frm_sum _) fun q => frm_lay)
theorem frm_opn {B : WT} {t : Int} (s : PS) : frm s (opnP B t s).2 := by
  unfold opnP
  split
  · exact frm_bad
  · exact frm_tr (frm_put (by decide)) frm_next
theorem frm_nd {B : WT} {t k : Int} (s : PS) : frm s (ndP B t k s).2 := by
  unfold ndP
  split
  · exact frm_bad
  · exact frm_next
theorem frm_evyB {B : WT} {t : Int} {g : PS → BP} (hg : ∀ q, frm q (g q).2) (s : PS) : frm s (evyB B t g s).2 := frm_tr frm_next (frm_bnd (hg _) fun q => frm_lay)
theorem frm_evy {B : WT} {t : Int} {g : PS → BP} (hg : ∀ q, frm q (g q).2) (s : PS) : frm s (evyP B t g s).2 := frm_bnd (hg s) fun q => frm_lp (frm_evyB hg) 402 q
theorem frm_anyB {B : WT} {t : Int} {g : PS → BP} (hg : ∀ q, frm q (g q).2) (s : PS) : frm s (anyB B t g s).2 := frm_tr frm_next (frm_bnd (frm_evy hg _) fun q => frm_lay)
theorem frm_any {B : WT} {t : Int} {g : PS → BP} (hg : ∀ q, frm q (g q).2) (s : PS) : frm s (anyP B t g s).2 := frm_bnd (frm_evy hg s) fun q => frm_lp (frm_anyB hg) 402 q
theorem frm_tst {B : WT} {t : Int} : ∀ (f : Nat) (s : PS), frm s (tstP B t f s).2
  | 0, s => frm_rf s
  | f + 1, s => by
    unfold tstP
    split
    · exact frm_bnd (frm_opn s) fun q => frm_bnd (frm_tst f q) fun q => frm_tr (frm_put (by decide)) frm_lay
    · split
      · exact frm_bnd (frm_opn s) fun q => frm_bnd (frm_any (frm_tst f) q) fun q => frm_bnd (frm_nd q) fun q => frm_put (by decide)
      · exact frm_cmp s
