/-! ===== reading texts: what holds behind a failure ===== -/
def goodF (t : Int) (g : PS → BP) : Prop := ∀ s, PI t s → (g s).1 = false → PI t (g s).2
theorem bad_PI {t : Int} {s : PS} {k : Int} (ht : t ≤ 400) (hs : PI t s) (hk : sRg k) : PI t (badP k s) := by
  refine PI_same hs (fun f h1 h2 => ?_) ?_ ?_
  · unfold badP
    dsimp only
    rw [upW_n h2, upW_n h1]
  · unfold badP
    dsimp only
    rw [upW_n (by decide), upW_s]
    exact hk
  · unfold badP
    dsimp only
    rw [upW_s]
    have := hs.1
    omega
theorem bndF {t : Int} {r : BP} {k : PS → BP} (h1 : r.1 = false → PI t r.2) (h2 : r.1 = true → (k r.2).1 = false → PI t (k r.2).2) (h : (bnd r k).1 = false) : PI t (bnd r k).2 := by
  by_cases e : r.1 = true
  · rw [bnd_1 e] at h ⊢
    exact h2 e h
  · have e' : r.1 = false := by simpa using e
    rw [bnd_0 e']
    exact h1 e'
theorem lpF {t : Int} {go : PS → Bool} {body : PS → BP} (hb : ∀ s, PI t s → go s = true → (body s).1 = true → grow t s (body s).2) (hf : ∀ s, PI t s → go s = true → (body s).1 = false → PI t (body s).2) : ∀ (f : Nat) (s : PS), PI t s → (lpP go body f s).1 = false → PI t (lpP go body f s).2
  | 0, s, hs, _ => hs
  | f + 1, s, hs, h => by
    unfold lpP at h ⊢
    by_cases e : go s = true
    · rw [if_pos e] at h ⊢
      exact bndF (fun z => hf s hs e z) (fun z w => lpF hb hf f _ (hb s hs e z).1 w) h
    · rw [if_neg e] at h
      cases h
theorem unitF {B : WT} {t : Int} (h : TP B t) : goodF t (unitP B t) := by
  intro s hs hr
  unfold unitP at hr ⊢
  by_cases c : s.1 16 ≠ 2 ∧ nameB (s.1 16) = false
  · rw [if_pos c]
    exact bad_PI h.1.2 hs (by decide)
  · rw [if_neg c] at hr
    cases hr
theorem prdBF {B : WT} {t : Int} (h : TP B t) : ∀ s, PI t s → prdG s = true → (prdB B t s).1 = false → PI t (prdB B t s).2 := by
  intro s hs hg hr
  have hk : s.1 16 ≠ 0 := by
    have := of_decide_eq_true hg
    omega
  obtain ⟨g1, g2⟩ := next_grow h hs hk
  unfold prdB at hr ⊢
  by_cases c : s.1 16 = 147
  · rw [if_pos c] at hr ⊢
    by_cases c2 : (nextP B t s).1 16 ≠ 2
    · rw [if_pos c2]
      exact bad_PI h.1.2 g1.1 (by decide)
    · rw [if_neg c2] at hr ⊢
      by_cases c3 : (nextP B t s).1 18 = 0
      · rw [if_pos c3]
        exact bad_PI h.1.2 g1.1 (by decide)
      · rw [if_neg c3] at hr
        cases hr
  · rw [if_neg c] at hr ⊢
    exact bndF (fun z => unitF h _ g1.1 z) (fun _ w => by cases w) hr
theorem stepF {B : WT} {t : Int} (h : TP B t) {g : PS → BP} (hg : goodF t g) {s : PS} {k v : Int} (hs : PI t s) (hk : s.1 16 ≠ 0) (hr : (bnd (g (nextP B t s)) fun r => (true, layP k v r)).1 = false) : PI t (bnd (g (nextP B t s)) fun r => (true, layP k v r)).2 :=
  bndF (fun z => hg _ (next_grow h hs hk).1.1 z) (fun _ w => by cases w) hr
theorem prdF {B : WT} {t : Int} (h : TP B t) : goodF t (prdP B t) := fun s hs hr => bndF (fun z => unitF h s hs z) (fun z w => lpF (prdB_grow h) (prdBF h) 402 _ (unit_good h s hs z).1 w) hr
theorem sumBF {B : WT} {t : Int} (h : TP B t) : ∀ s, PI t s → sumG s = true → (sumB B t s).1 = false → PI t (sumB B t s).2 := by
  intro s hs hg hr
  have hk : s.1 16 ≠ 0 := by
    have := of_decide_eq_true hg
    omega
  exact stepF h (prdF h) hs hk hr
theorem sumF {B : WT} {t : Int} (h : TP B t) : goodF t (sumP B t) := fun s hs hr => bndF (fun z => prdF h s hs z) (fun z w => lpF (sumB_grow h) (sumBF h) 402 _ (prd_good h s hs z).1 w) hr
theorem evyBF {B : WT} {t : Int} (h : TP B t) {g : PS → BP} (hg : goodF t g) : ∀ s, PI t s → decide (s.1 16 = 5) = true → (evyB B t g s).1 = false → PI t (evyB B t g s).2 := by
  intro s hs hq hr
  have hk : s.1 16 ≠ 0 := by
    have := of_decide_eq_true hq
    omega
  exact stepF h hg hs hk hr
theorem evyF {B : WT} {t : Int} (h : TP B t) {g : PS → BP} (hg : good t g) (hf : goodF t g) : goodF t (evyP B t g) := fun s hs hr => bndF (fun z => hf s hs z) (fun z w => lpF (evyB_grow h hg) (evyBF h hf) 402 _ (hg s hs z).1 w) hr
theorem anyBF {B : WT} {t : Int} (h : TP B t) {g : PS → BP} (hg : good t g) (hf : goodF t g) : ∀ s, PI t s → decide (s.1 16 = 4) = true → (anyB B t g s).1 = false → PI t (anyB B t g s).2 := by
  intro s hs hq hr
  have hk : s.1 16 ≠ 0 := by
    have := of_decide_eq_true hq
    omega
  exact stepF h (evyF h hg hf) hs hk hr
theorem anyF {B : WT} {t : Int} (h : TP B t) {g : PS → BP} (hg : good t g) (hf : goodF t g) : goodF t (anyP B t g) := fun s hs hr => bndF (fun z => evyF h hg hf s hs z) (fun z w => lpF (anyB_grow h hg) (anyBF h hg hf) 402 _ (evy_good h hg s hs z).1 w) hr
theorem cmpF {B : WT} {t : Int} (h : TP B t) : goodF t (cmpP B t) := fun s hs hr => by
  refine bndF (fun z => sumF h s hs z) (fun z w => ?_) hr
  have g1 := sum_good h s hs z
  by_cases c : howP ((sumP B t s).2.1 16) = -1
  · rw [if_pos c]
    exact bad_PI h.1.2 g1.1 (by decide)
  · rw [if_neg c] at w ⊢
    have hk := how_in c
    exact stepF h (sumF h) g1.1 (by omega) w
theorem opnF {B : WT} {t : Int} (h : TP B t) {s : PS} (hs : PI t s) (hr : (opnP B t s).1 = false) : PI t (opnP B t s).2 := by
  unfold opnP at hr ⊢
  by_cases c : s.1 22 = 8
  · rw [if_pos c]
    exact bad_PI h.1.2 hs (by decide)
  · rw [if_neg c] at hr
    cases hr
theorem ndF {B : WT} {t k : Int} (h : TP B t) {s : PS} (hs : PI t s) (hr : (ndP B t k s).1 = false) : PI t (ndP B t k s).2 := by
  unfold ndP at hr ⊢
  by_cases c : s.1 16 ≠ k
  · rw [if_pos c]
    exact bad_PI h.1.2 hs (by decide)
  · rw [if_neg c] at hr
    cases hr
theorem tstF {B : WT} {t : Int} (h : TP B t) : ∀ f : Nat, goodF t (tstP B t f)
  | 0 => fun s hs _ => hs
  | f + 1 => fun s hs hr => by
    have ih := tstF h f
    unfold tstP at hr ⊢
    by_cases c : s.1 16 = 6
    · rw [if_pos c] at hr ⊢
      exact bndF (fun z => opnF h hs z) (fun z w => bndF (fun z2 => ih _ (opn_grow h hs (by omega) z).1 z2) (fun _ w2 => by cases w2) w) hr
    · rw [if_neg c] at hr ⊢
      by_cases c2 : s.1 16 = 140
      · rw [if_pos c2] at hr ⊢
        exact bndF (fun z => opnF h hs z) (fun z w => bndF (fun z2 => anyF h (tst_good h f) ih _ (opn_grow h hs (by omega) z).1 z2) (fun z2 w2 => bndF (fun z3 => ndF h (any_good h (tst_good h f) _ (opn_grow h hs (by omega) z).1 z2).1 z3) (fun _ w3 => by cases w3) w2) w) hr
      · rw [if_neg c2] at hr ⊢
        exact cmpF h s hs hr
theorem linMF {B : WT} {t : Int} {s : PS} (h : TP B t) (hs : PI t s) (hr : (linM B t s).1 = false) : PI t (linM B t s).2 := by
  unfold linM at hr ⊢
  by_cases c : s.1 16 = 3
  · rw [if_pos c] at hr ⊢
    exact anyF h (tst_good h 9) (tstF h 9) _ (next_grow h hs (by omega)).1.1 hr
  · rw [if_neg c] at hr
    cases hr
theorem linF {B : WT} {t : Int} {s : PS} {F : WT} (h : TP B t) (hs : PI t s) (hr : (linP B t s F).1 = false) : PI t (linP B t s F).2.1 := by
  unfold linP at hr ⊢
  by_cases c1 : inB (s.1 16) 20 24 = false
  · rw [if_pos c1]
    exact bad_PI h.1.2 hs (by decide)
  · rw [if_neg c1] at hr ⊢
    have hk : s.1 16 ≠ 0 := by
      intro e
      rw [e] at c1
      exact c1 (by decide)
    by_cases c2 : s.1 12 = 16
    · rw [if_pos c2]
      exact bad_PI h.1.2 hs (by decide)
    · rw [if_neg c2] at hr ⊢
      obtain ⟨g1, g2, g3, g4⟩ := lin_next h hs hk
      by_cases c3 : (linM B t (nextP B t (putP s 22 0))).1 = false
      · rw [if_pos c3]
        exact linMF h g1 c3
      · rw [if_neg c3] at hr ⊢
        exact ndF h (linM_grow h g1 (by simpa using c3)).1 hr
