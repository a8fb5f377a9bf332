/-! ===== the component's objects: swallows, terms, texts; what stays ===== -/
/-- a swallow -/
def SV (Ω : OmT) (n : Nat) (K : KT) (X : XT) (R : RT) (z : WT) (l : Nat) : Prop := ∀ s : Int, 0 ≤ s ∧ s < z 4 → ∃ a, R (l + 17) s = some a ∧ sOb Ω n K a 5 ∧ X a 0 = z (1855 + 5 * s) ∧ X a 1 = z (1855 + 5 * s + 1) ∧ X a 2 = z (1855 + 5 * s + 2) ∧ X a 3 = z (1855 + 5 * s + 3) ∧ X a 4 = z (1855 + 5 * s + 4)
def chS (s : Int) : Int := if s = 13 then 43 else if s = 14 then 45 else if s = 15 then 42 else if s = 17 then 60 else if s = 18 then 61 else if s = 19 then 62 else if s = 21 then 38 else 124
def opS (s : Int) : Prop := s = 13 ∨ s = 14 ∨ s = 15 ∨ s = 17 ∨ s = 18 ∨ s = 19 ∨ s = 21 ∨ s = 22
/-- the term at t stands for the code c -/
def trm (Ω : OmT) (n : Nat) (K : KT) (X : XT) (R : RT) : Nat → Nat → List (Int × Int) → Prop
  | 0, _, _ => False
  | D + 1, t, c => (sOb Ω n K t 8 ∧ c = [(0, X t 0)]) ∨ (sOb Ω n K t 9 ∧ (0 ≤ X t 0 ∧ X t 0 ≤ 8) ∧ ∃ v, c = [(X t 0 + 1, v)]) ∨
    (sOb Ω n K t 7 ∧ ∃ a c1 v, R t 0 = some a ∧ trm Ω n K X R D a c1 ∧ c = c1 ++ [(20, v)]) ∨
    (sOb Ω n K t 10 ∧ ∃ a b c1 v, R t 1 = some a ∧ R t 2 = some b ∧ trm Ω n K X R D a c1 ∧ ((X t 0 = 47 ∧ v ≠ 0 ∧ sOb Ω n K b 8 ∧ X b 0 = v ∧ c = c1 ++ [(16, v)]) ∨ ∃ s c2, opS s ∧ X t 0 = chS s ∧ trm Ω n K X R D b c2 ∧ c = c1 ++ c2 ++ [(s, v)]))
theorem runC_app {f : WT} : ∀ (c1 c2 : List (Int × Int)) (st : List Int), runC (c1 ++ c2) f st = runC c2 f (runC c1 f st)
  | [], _, _ => rfl
  | (s, v) :: c1, c2, st => by
    show runC (c1 ++ c2) f (stepC s v f st) = _
    rw [runC_app c1 c2]
    rfl
def evT (c : List (Int × Int)) (f : WT) : Int := topC (runC c f [])
theorem step_op {s v a b : Int} {f : WT} {st : List Int} (h : opS s) : stepC s v f (b :: a :: st) = bothS s a b :: st := by
  unfold opS at h
  rcases h with rfl | rfl | rfl | rfl | rfl | rfl | rfl | rfl <;> rfl
/-- a term's code lays one number -/
theorem trm_run {Ω : OmT} {n : Nat} {K : KT} {X : XT} {R : RT} {f : WT} (hX : ∀ a i, sRg (X a i)) (hf : ∀ i, sRg (f i)) : ∀ (D t : Nat) (c : List (Int × Int)), trm Ω n K X R D t c → (∀ st, runC c f st = evT c f :: st) ∧ sRg (evT c f)
  | 0, _, _, h => False.elim h
  | D + 1, t, c, h => by
    have key : ∀ v, (∀ st, runC c f st = v :: st) → sRg v → (∀ st, runC c f st = evT c f :: st) ∧ sRg (evT c f) := fun v hv hr => by
      have e : evT c f = v := by
        unfold evT
        rw [hv]
        rfl
      rw [e]
      exact ⟨hv, hr⟩
    rcases h with ⟨-, rfl⟩ | ⟨-, hk, v, rfl⟩ | ⟨-, a, c1, v, -, h1, rfl⟩ | ⟨-, a, b, c1, v, -, -, h1, h2⟩
    · exact key (X t 0) (fun st => rfl) (hX t 0)
    · refine key (f (X t 0 + 1)) (fun st => ?_) (hf _)
      show stepC (X t 0 + 1) v f st = _
      unfold stepC
      rw [if_pos (by omega), if_neg (by omega)]
    · obtain ⟨e1, r1⟩ := trm_run hX hf D a c1 h1
      refine key (sWr (1 - evT c1 f)) (fun st => ?_) (sWr_rg _)
      rw [runC_app, e1]
      rfl
    · obtain ⟨e1, r1⟩ := trm_run hX hf D a c1 h1
      rcases h2 with ⟨-, -, -, -, rfl⟩ | ⟨s, c2, ho, -, h2, rfl⟩
      · refine key (sWr ((evT c1 f).tdiv v)) (fun st => ?_) (sWr_rg _)
        rw [runC_app, e1]
        rfl
      · obtain ⟨e2, r2⟩ := trm_run hX hf D b c2 h2
        refine key (bothS s (evT c1 f) (evT c2 f)) (fun st => ?_) (bothS_rg _ _ _)
        rw [runC_app, runC_app, e1, e2]
        exact step_op ho
theorem evT_not {c1 : List (Int × Int)} {f : WT} {v : Int} (h : ∀ st, runC c1 f st = evT c1 f :: st) : evT (c1 ++ [(20, v)]) f = sWr (1 - evT c1 f) := by
  show topC (runC (c1 ++ [(20, v)]) f []) = _
  rw [runC_app, h]
  rfl
theorem evT_div {c1 : List (Int × Int)} {f : WT} {v : Int} (h : ∀ st, runC c1 f st = evT c1 f :: st) : evT (c1 ++ [(16, v)]) f = sWr ((evT c1 f).tdiv v) := by
  show topC (runC (c1 ++ [(16, v)]) f []) = _
  rw [runC_app, h]
  rfl
theorem evT_op {c1 c2 : List (Int × Int)} {f : WT} {s v : Int} (ho : opS s) (h1 : ∀ st, runC c1 f st = evT c1 f :: st) (h2 : ∀ st, runC c2 f st = evT c2 f :: st) : evT (c1 ++ c2 ++ [(s, v)]) f = bothS s (evT c1 f) (evT c2 f) := by
  show topC (runC (c1 ++ c2 ++ [(s, v)]) f []) = _
  have e1 : ∀ st, runC [(s, v)] f st = stepC s v f st := fun _ => rfl
  rw [runC_app, runC_app, h1, h2, e1, step_op ho]
  rfl
/-- what is frozen stays -/
def kpF (Ω : OmT) (n : Nat) (K : KT) (X : XT) (R : RT) (n' : Nat) (K' : KT) (X' : XT) (R' : RT) : Prop := n ≤ n' ∧ (∀ a, sBs Ω ≤ a → a < n → K' a = K a) ∧ (∀ a, sBs Ω ≤ a → a < n → 15 ≤ (K a).1 → X' a = X a ∧ R' a = R a) ∧ ∀ t, sBs Ω ≤ t → t + 3 ≤ n → (K t).1 = 11 → blk K t 2 → ∀ j, j ≤ 2 → X' (t + j) = X (t + j) ∧ R' (t + j) = R (t + j)
theorem kpF_rf (Ω : OmT) (n : Nat) (K : KT) (X : XT) (R : RT) : kpF Ω n K X R n K X R := ⟨Nat.le_refl _, fun _ _ _ => rfl, fun _ _ _ _ => ⟨rfl, rfl⟩, fun _ _ _ _ _ _ _ => ⟨rfl, rfl⟩⟩
theorem blk_K {Ω : OmT} {n : Nat} {K K' : KT} {t m : Nat} (hK : ∀ a, sBs Ω ≤ a → a < n → K' a = K a) (h0 : sBs Ω ≤ t) (h1 : t + m < n) (b : blk K t m) : blk K' t m := ⟨by rw [hK t h0 (by omega)]; exact b.1, fun i i1 i2 => by rw [hK (t + i) (by omega) (by omega)]; exact b.2 i i1 i2⟩
theorem kpF_tr {Ω : OmT} {n : Nat} {K : KT} {X : XT} {R : RT} {n1 : Nat} {K1 : KT} {X1 : XT} {R1 : RT} {n2 : Nat} {K2 : KT} {X2 : XT} {R2 : RT} (h1 : kpF Ω n K X R n1 K1 X1 R1) (h2 : kpF Ω n1 K1 X1 R1 n2 K2 X2 R2) : kpF Ω n K X R n2 K2 X2 R2 := by
  obtain ⟨a1, a2, a3, a4⟩ := h1
  obtain ⟨b1, b2, b3, b4⟩ := h2
  refine ⟨Nat.le_trans a1 b1, fun a h h' => (b2 a h (by omega)).trans (a2 a h h'), fun a h h' hk => ?_, fun t h h' hk hb j hj => ?_⟩
  · have e1 := a3 a h h' hk
    have e2 := b3 a h (by omega) (by rw [a2 a h h']; exact hk)
    exact ⟨e2.1.trans e1.1, e2.2.trans e1.2⟩
  · have e1 := a4 t h h' hk hb j hj
    have e2 := b4 t h (by omega) (by rw [a2 t h (by omega)]; exact hk) (blk_K a2 h (by omega) hb) j hj
    exact ⟨e2.1.trans e1.1, e2.2.trans e1.2⟩
theorem sOb_kp {Ω : OmT} {n n' : Nat} {K K' : KT} (hn : n ≤ n') (hK : ∀ a, sBs Ω ≤ a → a < n → K' a = K a) {a c : Nat} (h : sOb Ω n K a c) : sOb Ω n' K' a c := ⟨h.1, Nat.lt_of_lt_of_le h.2.1 hn, by rw [hK a h.1 h.2.1]; exact h.2.2⟩
theorem sAr_kp {Ω : OmT} {n n' : Nat} {K K' : KT} (hn : n ≤ n') (hK : ∀ a, sBs Ω ≤ a → a < n → K' a = K a) {a t l : Nat} (h : sAr Ω n K a t l) : sAr Ω n' K' a t l := ⟨h.1, Nat.lt_of_lt_of_le h.2.1 hn, by rw [hK a h.1 h.2.1]; exact h.2.2⟩
theorem trm_kp {Ω : OmT} {n : Nat} {K : KT} {X : XT} {R : RT} {n' : Nat} {K' : KT} {X' : XT} {R' : RT} (h : kpF Ω n K X R n' K' X' R') : ∀ (D t : Nat) (c : List (Int × Int)), trm Ω n K X R D t c → trm Ω n' K' X' R' D t c
  | 0, _, _, ht => ht
  | D + 1, t, c, ht => by
    obtain ⟨hn, hK, hF, -⟩ := (id h : kpF Ω n K X R n' K' X' R')
    have ob : ∀ {a k : Nat}, 5 ≤ k → sOb Ω n K a k → sOb Ω n' K' a k ∧ X' a = X a ∧ R' a = R a := fun hk ho => ⟨sOb_kp hn hK ho, hF _ ho.1 ho.2.1 (by rw [ho.2.2]; omega)⟩
    rcases ht with ⟨h1, rfl⟩ | ⟨h1, hk, v, rfl⟩ | ⟨h1, a, c1, v, h2, h3, rfl⟩ | ⟨h1, a, b, c1, v, h2, h3, h4, h5⟩
    · obtain ⟨o1, o2, o3⟩ := ob (by omega) h1
      exact Or.inl ⟨o1, by rw [o2]⟩
    · obtain ⟨o1, o2, o3⟩ := ob (by omega) h1
      exact Or.inr (Or.inl ⟨o1, by rw [o2]; exact hk, v, by rw [o2]⟩)
    · obtain ⟨o1, o2, o3⟩ := ob (by omega) h1
      exact Or.inr (Or.inr (Or.inl ⟨o1, a, c1, v, by rw [o3]; exact h2, trm_kp h D a c1 h3, rfl⟩))
    · obtain ⟨o1, o2, o3⟩ := ob (by omega) h1
      refine Or.inr (Or.inr (Or.inr ⟨o1, a, b, c1, v, by rw [o3]; exact h2, by rw [o3]; exact h3, trm_kp h D a c1 h4, ?_⟩))
      rcases h5 with ⟨q1, q2, q3, q4, q5⟩ | ⟨s, c2, q1, q2, q3, q4⟩
      · obtain ⟨p1, p2, p3⟩ := ob (by omega) q3
        exact Or.inl ⟨by rw [o2]; exact q1, q2, p1, by rw [p2]; exact q4, q5⟩
      · exact Or.inr ⟨s, c2, q1, by rw [o2]; exact q2, trm_kp h D b c2 q3, q4⟩
theorem trm_up {Ω : OmT} {n : Nat} {K : KT} {X : XT} {R : RT} : ∀ (D t : Nat) (c : List (Int × Int)), trm Ω n K X R D t c → trm Ω n K X R (D + 1) t c
  | 0, _, _, h => False.elim h
  | D + 1, t, c, h => by
    rcases h with h | h | ⟨h1, a, c1, v, h2, h3, h4⟩ | ⟨h1, a, b, c1, v, h2, h3, h4, h5⟩
    · exact Or.inl h
    · exact Or.inr (Or.inl h)
    · exact Or.inr (Or.inr (Or.inl ⟨h1, a, c1, v, h2, trm_up D a c1 h3, h4⟩))
    · refine Or.inr (Or.inr (Or.inr ⟨h1, a, b, c1, v, h2, h3, trm_up D a c1 h4, ?_⟩))
      rcases h5 with h5 | ⟨s, c2, q1, q2, q3, q4⟩
      · exact Or.inl h5
      · exact Or.inr ⟨s, c2, q1, q2, trm_up D b c2 q3, q4⟩
theorem trm_le {Ω : OmT} {n : Nat} {K : KT} {X : XT} {R : RT} {D D' t : Nat} {c : List (Int × Int)} (hd : D ≤ D') (h : trm Ω n K X R D t c) : trm Ω n K X R D' t c := by
  induction hd with
  | refl => exact h
  | step _ ih => exact trm_up _ t c ih
/-- a text's shape; its k-th of the row z -/
def TOk (Ω : OmT) (n : Nat) (K : KT) (R : RT) (t : Nat) : Prop := sOb Ω n K t 1 ∧ R t 0 = some (t + 1) ∧ sAr Ω n K (t + 1) 0 16 ∧ R t 1 = some (t + 2) ∧ sAr Ω n K (t + 2) 4 16
theorem TOk.blk {Ω : OmT} {n : Nat} {K : KT} {R : RT} {t : Nat} (h : TOk Ω n K R t) : blk K t 2 := by
  obtain ⟨h1, -, h2, -, h3⟩ := h
  refine ⟨by rw [h1.2.2]; omega, fun i i1 i2 => ?_⟩
  have : i = 1 ∨ i = 2 := by omega
  rcases this with rfl | rfl
  · rw [h2.2.2]; decide
  · rw [h3.2.2]; decide
def TLn (Ω : OmT) (n : Nat) (K : KT) (X : XT) (R : RT) (z : WT) (k : Int) (t : Nat) (i : Int) : Prop := X (t + 1) i = z (1990 + 16 * k + i) ∧ ((z (2130 + 16 * k + i) = z (2060 + 16 * k + i) ∧ R (t + 2) i = none) ∨ (z (2130 + 16 * k + i) ≠ z (2060 + 16 * k + i) ∧ ∃ a, R (t + 2) i = some a ∧ trm Ω n K X R 410 a (codeL z k (z (2060 + 16 * k + i)) (z (2130 + 16 * k + i)))))
def TV (Ω : OmT) (n : Nat) (K : KT) (X : XT) (R : RT) (z : WT) (k : Int) (t : Nat) : Prop := TOk Ω n K R t ∧ X t 2 = z (1985 + k) ∧ ∀ i : Int, 0 ≤ i ∧ i < z (1985 + k) → TLn Ω n K X R z k t i
theorem TOk_kp {Ω : OmT} {n : Nat} {K : KT} {X : XT} {R : RT} {n' : Nat} {K' : KT} {X' : XT} {R' : RT} (h : kpF Ω n K X R n' K' X' R') {t : Nat} (ht : TOk Ω n K R t) : TOk Ω n' K' R' t ∧ ∀ j, j ≤ 2 → X' (t + j) = X (t + j) ∧ R' (t + j) = R (t + j) := by
  have hb := ht.blk
  obtain ⟨h1, h2, h3, h4, h5⟩ := ht
  obtain ⟨hn, hK, hF, hT⟩ := h
  have e := hT t h1.1 (by have := h5.2.1; omega) h1.2.2 hb
  have e0 := (e 0 (by omega)).2
  rw [Nat.add_zero] at e0
  exact ⟨⟨sOb_kp hn hK h1, by rw [e0]; exact h2, sAr_kp hn hK h3, by rw [e0]; exact h4, sAr_kp hn hK h5⟩, e⟩
theorem TV_kp {Ω : OmT} {n : Nat} {K : KT} {X : XT} {R : RT} {n' : Nat} {K' : KT} {X' : XT} {R' : RT} (h : kpF Ω n K X R n' K' X' R') {z : WT} {k : Int} {t : Nat} (ht : TV Ω n K X R z k t) : TV Ω n' K' X' R' z k t := by
  obtain ⟨h0, h1, h2⟩ := ht
  obtain ⟨k0, e⟩ := TOk_kp h h0
  have e0 := (e 0 (by omega)).1
  rw [Nat.add_zero] at e0
  refine ⟨k0, by rw [e0]; exact h1, fun i hi => ?_⟩
  obtain ⟨g1, g2⟩ := h2 i hi
  unfold TLn
  rw [(e 1 (by omega)).1, (e 2 (by omega)).2]
  refine ⟨g1, ?_⟩
  rcases g2 with g2 | ⟨g2, a, g3, g4⟩
  · exact Or.inl g2
  · exact Or.inr ⟨g2, a, g3, trm_kp h _ _ _ g4⟩
theorem TV_z {Ω : OmT} {n : Nat} {K : KT} {X : XT} {R : RT} {z z' : WT} {k : Int} {t : Nat} (hz : ∀ i, 1985 ≤ i → z' i = z i) (hk : 0 ≤ k) (hl : textOK z k) (ht : TV Ω n K X R z k t) : TV Ω n K X R z' k t := by
  obtain ⟨h0, h1, h2⟩ := ht
  refine ⟨h0, by rw [hz _ (by omega)]; exact h1, fun i hi => ?_⟩
  rw [hz _ (by omega)] at hi
  have := h2 i hi
  unfold TLn at this ⊢
  rw [hz _ (by omega), hz (2130 + 16 * k + i) (by omega), hz (2060 + 16 * k + i) (by omega)]
  have e : codeL z' k (z (2060 + 16 * k + i)) (z (2130 + 16 * k + i)) = codeL z k (z (2060 + 16 * k + i)) (z (2130 + 16 * k + i)) := by
    unfold codeL
    have h0' : 0 ≤ z (2060 + 16 * k + i) := (hl.2 i hi.1 hi.2).2.1.1
    have key : ∀ (m : Nat) (b : Int), 0 ≤ b → codeF z' k m b = codeF z k m b := by
      intro m
      induction m with
      | zero => intro b _; rfl
      | succ m ih =>
        intro b hb
        unfold codeF
        rw [hz _ (by omega), hz _ (by omega), ih (b + 1) (by omega)]
    exact key _ _ h0'
  rw [e]
  exact this
/-- the habits: in the array at h -/
def HV (Ω : OmT) (n : Nat) (K : KT) (X : XT) (R : RT) (z : WT) (h : Nat) : Prop := ∀ k : Int, 0 ≤ k ∧ k ≤ 3 → ∃ t, R h k = some t ∧ TV Ω n K X R z k t
theorem HV_kp {Ω : OmT} {n : Nat} {K : KT} {X : XT} {R : RT} {n' : Nat} {K' : KT} {X' : XT} {R' : RT} (h : kpF Ω n K X R n' K' X' R') {z : WT} {b : Nat} (hb : R' b = R b) (ht : HV Ω n K X R z b) : HV Ω n' K' X' R' z b := fun k hk => by
  obtain ⟨t, h1, h2⟩ := ht k hk
  exact ⟨t, by rw [hb]; exact h1, TV_kp h h2⟩
theorem SV_kp {Ω : OmT} {n : Nat} {K : KT} {X : XT} {R : RT} {n' : Nat} {K' : KT} {X' : XT} {R' : RT} (h : kpF Ω n K X R n' K' X' R') {z : WT} {l : Nat} (hb : R' (l + 17) = R (l + 17)) (ht : SV Ω n K X R z l) : SV Ω n' K' X' R' z l := fun s hs => by
  obtain ⟨a, h1, h2, h3⟩ := ht s hs
  obtain ⟨e1, e2⟩ := h.2.2.1 a h2.1 h2.2.1 (by rw [h2.2.2]; decide)
  exact ⟨a, by rw [hb]; exact h1, sOb_kp h.1 h.2.1 h2, by rw [e1]; exact h3⟩
theorem SV_z {Ω : OmT} {n : Nat} {K : KT} {X : XT} {R : RT} {z z' : WT} {l : Nat} (h4 : z' 4 = z 4) (hz : ∀ i, 1855 ≤ i → i < 1895 → z' i = z i) (h8 : z 4 ≤ 8) (ht : SV Ω n K X R z l) : SV Ω n K X R z' l := fun s hs => by
  rw [h4] at hs
  rw [hz _ (by omega) (by omega), hz _ (by omega) (by omega), hz _ (by omega) (by omega), hz _ (by omega) (by omega), hz _ (by omega) (by omega)]
  exact ht s hs
/-- nothing but what lies at these addresses has changed -/
def sO (S : List Nat) (X X' : XT) : Prop := ∀ a, a ∉ S → X' a = X a
theorem sO_rf (S : List Nat) (X : XT) : sO S X X := fun _ _ => rfl
theorem sO_tr {S : List Nat} {X X' X'' : XT} (h1 : sO S X X') (h2 : sO S X' X'') : sO S X X'' := fun a h => (h2 a h).trans (h1 a h)
theorem sO_up {S : List Nat} {a : Nat} {X : XT} {i v : Int} (h : a ∈ S) : sO S X (sUp X a i v) := fun b hb => sUp_ne (fun e => hb (by rw [e]; exact h))
theorem sO_cp {S : List Nat} {a : Nat} {X : XT} {f : WT} (h : a ∈ S) : sO S X (sCpX X a f) := fun b hb => if_neg (fun e => hb (by rw [e]; exact h))
theorem sO_mono {S T : List Nat} {X X' : XT} (h : sO S X X') (hs : ∀ o ∈ S, o ∈ T) : sO T X X' := fun b hb => h b fun q => hb (hs b q)
/-- what changes lies in blocks of other kinds than texts: all that is frozen stays -/
theorem kpF_of {Ω : OmT} {n : Nat} {K : KT} {X X' : XT} {R : RT} {S : List Nat} (hS : ∀ a ∈ S, ∃ h j m, a = h + j ∧ j ≤ m ∧ blk K h m ∧ (K h).1 < 15 ∧ (K h).1 ≠ 11) (ho : sO S X X') : kpF Ω n K X R n K X' R := by
  refine ⟨Nat.le_refl _, fun _ _ _ => rfl, fun a h1 h2 hk => ⟨ho a fun hq => ?_, rfl⟩, fun t h1 h2 hk hb j hj => ⟨ho _ fun hq => ?_, rfl⟩⟩
  · obtain ⟨b, i, m, rfl, hi, hbl, h15, -⟩ := hS a hq
    by_cases e : i = 0
    · subst e
      rw [Nat.add_zero] at hk
      omega
    · have := hbl.2 i (by omega) hi
      omega
  · obtain ⟨b, i, m, e, hi, hbl, h15, h11⟩ := hS _ hq
    exact blk_ne hb hbl (fun q => h11 (by rw [← q]; exact hk)) hj hi e
