/-! ===== reading texts: tokens, steps ===== -/
/-- the reader's state: the object's row (13 steps, 15 at, 16 token, 17 tokenAt, 18 value, 19 wrong, 20 wrongAt, 22 depth), the steps laid -/
abbrev PS : Type := WT × WT
abbrev PS.pat (s : PS) : Int := s.1 15
abbrev PS.ptok (s : PS) : Int := s.1 16
abbrev PS.pfrm (s : PS) : Int := s.1 17
abbrev PS.pval (s : PS) : Int := s.1 18
abbrev PS.pwr (s : PS) : Int := s.1 19
abbrev PS.pwa (s : PS) : Int := s.1 20
abbrev PS.pdep (s : PS) : Int := s.1 22
abbrev PS.pstp (s : PS) : Int := s.1 13
def putP (s : PS) (f v : Int) : PS := (upW s.1 f v, s.2)
def seeP (B : WT) (t p : Int) : Int := if p < t then B p else -1
def slc (B : WT) (a b : Int) : List Int := (List.range (b - a).toNat).map (fun k : Nat => B (a + k))
def wordT (l : List Int) : Int :=
  if l = [119, 104, 101, 110] then 3 else if l = [111, 114] then 4 else if l = [97, 110, 100] then 5 else if l = [110, 111, 116] then 6
  else if l = [97, 104, 101, 97, 100] then 20 else if l = [108, 101, 102, 116] then 23 else if l = [114, 105, 103, 104, 116] then 21 else if l = [98, 97, 99, 107] then 22 else if l = [115, 116, 111, 112] then 24
  else if l = [102, 108] then 41 else if l = [102, 114] then 42 else if l = [112, 108] then 43 else if l = [112, 114] then 44 else if l = [116, 104, 114, 101, 97, 100] then 45 else if l = [114, 105, 109] then 46 else if l = [115, 116, 101, 112] then 47 else if l = [114, 101, 115, 116] then 48 else if l = [115, 119, 97, 108, 108, 111, 119] then 49 else 1
theorem wordT_in (l : List Int) : 1 ≤ wordT l ∧ wordT l ≤ 49 := by
  unfold wordT
  (repeat' split) <;> omega
def signB (c : Int) : Bool := decide (c = 59 ∨ c = 43 ∨ c = 45 ∨ c = 42 ∨ c = 47 ∨ c = 40 ∨ c = 41 ∨ c = 60 ∨ c = 61 ∨ c = 62)
def skpF (B : WT) (t : Int) : Nat → Int → Int
  | 0, p => p
  | f + 1, p => if seeP B t p = 32 ∨ seeP B t p = 10 then skpF B t f (p + 1) else p
def letF (B : WT) (t : Int) : Nat → Int → Int
  | 0, p => p
  | f + 1, p => if letB (seeP B t p) = true then letF B t f (p + 1) else p
def digF (B : WT) (t a : Int) : Nat → Int → Int → Int × Int
  | 0, p, v => (p, v)
  | f + 1, p, v => if digitB (seeP B t p) = true then digF B t a f (p + 1) (if p < a + 4 then 10 * v + seeP B t p - 48 else v) else (p, v)
def tokP (s : PS) (a e k : Int) : PS := (upW (upW (upW s.1 15 e) 17 a) 16 k, s.2)
def nextP (B : WT) (t : Int) (s : PS) : PS :=
  if seeP B t (skpF B t 402 (s.1 15)) = -1 then tokP s (skpF B t 402 (s.1 15)) (skpF B t 402 (s.1 15)) 0
  else if letB (seeP B t (skpF B t 402 (s.1 15))) = true then tokP s (skpF B t 402 (s.1 15)) (letF B t 402 (skpF B t 402 (s.1 15))) (wordT (slc B (skpF B t 402 (s.1 15)) (letF B t 402 (skpF B t 402 (s.1 15)))))
  else if digitB (seeP B t (skpF B t 402 (s.1 15))) = true then tokP (putP s 18 (digF B t (skpF B t 402 (s.1 15)) 402 (skpF B t 402 (s.1 15)) 0).2) (skpF B t 402 (s.1 15)) (digF B t (skpF B t 402 (s.1 15)) 402 (skpF B t 402 (s.1 15)) 0).1 (if (digF B t (skpF B t 402 (s.1 15)) 402 (skpF B t 402 (s.1 15)) 0).1 - skpF B t 402 (s.1 15) < 5 then 2 else 1)
  else tokP s (skpF B t 402 (s.1 15)) (skpF B t 402 (s.1 15) + 1) (if signB (seeP B t (skpF B t 402 (s.1 15))) = true then 100 + seeP B t (skpF B t 402 (s.1 15)) else 1)
def layP (k v : Int) (s : PS) : PS := (upW s.1 13 (s.1 13 + 1), upW (upW s.2 (2 * s.1 13) k) (2 * s.1 13 + 1) v)
def badP (k : Int) (s : PS) : PS := (upW (upW s.1 19 k) 20 (s.1 17), s.2)
abbrev BP : Type := Bool × PS
def bnd (r : BP) (k : PS → BP) : BP := if r.1 = true then k r.2 else r
def lpP (go : PS → Bool) (body : PS → BP) : Nat → PS → BP
  | 0, s => (false, s)
  | f + 1, s => if go s = true then bnd (body s) (lpP go body f) else (true, s)
def nameB (k : Int) : Bool := inB k 41 49
section PARSE
variable (B : WT) (t : Int)
def unitP (s : PS) : BP := if s.1 16 ≠ 2 ∧ nameB (s.1 16) = false then (false, badP 1 s) else (true, nextP B t (layP (if nameB (s.1 16) = true then s.1 16 - 40 else 0) (s.1 18) s))
def prdB (s : PS) : BP := if s.1 16 = 147 then (if (nextP B t s).1 16 ≠ 2 then (false, badP 1 (nextP B t s)) else if (nextP B t s).1 18 = 0 then (false, badP 2 (nextP B t s)) else (true, layP 16 ((nextP B t s).1 18) (nextP B t (nextP B t s)))) else bnd (unitP B t (nextP B t s)) fun s => (true, layP 15 0 s)
def prdG (s : PS) : Bool := decide (s.1 16 = 142 ∨ s.1 16 = 147)
def prdP (s : PS) : BP := bnd (unitP B t s) (lpP prdG (prdB B t) 402)
def sumB (s : PS) : BP := bnd (prdP B t (nextP B t s)) fun r => (true, layP (if s.1 16 = 143 then 13 else 14) 0 r)
def sumG (s : PS) : Bool := decide (s.1 16 = 143 ∨ s.1 16 = 145)
def sumP (s : PS) : BP := bnd (prdP B t s) (lpP sumG (sumB B t) 402)
def howP (k : Int) : Int := if k = 160 then 17 else if k = 161 then 18 else if k = 162 then 19 else -1
def cmpP (s : PS) : BP := bnd (sumP B t s) fun s => if howP (s.1 16) = -1 then (false, badP 1 s) else bnd (sumP B t (nextP B t s)) fun r => (true, layP (howP (s.1 16)) 0 r)
def opnP (s : PS) : BP := if s.1 22 = 8 then (false, badP 3 s) else (true, nextP B t (putP s 22 (s.1 22 + 1)))
def ndP (k : Int) (s : PS) : BP := if s.1 16 ≠ k then (false, badP 1 s) else (true, nextP B t s)
def evyB (g : PS → BP) (s : PS) : BP := bnd (g (nextP B t s)) fun s => (true, layP 21 0 s)
def evyP (g : PS → BP) (s : PS) : BP := bnd (g s) (lpP (fun s => decide (s.1 16 = 5)) (evyB B t g) 402)
def anyB (g : PS → BP) (s : PS) : BP := bnd (evyP B t g (nextP B t s)) fun s => (true, layP 22 0 s)
def anyP (g : PS → BP) (s : PS) : BP := bnd (evyP B t g s) (lpP (fun s => decide (s.1 16 = 4)) (anyB B t g) 402)
def tstP : Nat → PS → BP
  | 0, s => (false, s)
  | f + 1, s => if s.1 16 = 6 then bnd (opnP B t s) fun s => bnd (tstP f s) fun s => (true, layP 20 0 (putP s 22 (s.1 22 - 1)))
    else if s.1 16 = 140 then bnd (opnP B t s) fun s => bnd (anyP B t (tstP f) s) fun s => bnd (ndP B t 141 s) fun s => (true, (putP s 22 (s.1 22 - 1)))
    else cmpP B t s
end PARSE
/-- the tape -/
def TP (B : WT) (t : Int) : Prop := (0 ≤ t ∧ t ≤ 400) ∧ ∀ i, 0 ≤ i → i < t → 0 ≤ B i ∧ B i ≤ 255
/-- while a text is read -/
def PI (t : Int) (s : PS) : Prop := (0 ≤ s.1 17 ∧ s.1 17 ≤ s.1 15 ∧ s.1 15 ≤ t) ∧ (s.1 16 ≠ 0 → s.1 17 < s.1 15) ∧ (0 ≤ s.1 13 ∧ s.1 13 ≤ s.1 17) ∧ (0 ≤ s.1 22 ∧ s.1 22 ≤ 8) ∧ (0 ≤ s.1 18 ∧ s.1 18 ≤ 9999) ∧ (0 ≤ s.1 16 ∧ s.1 16 ≤ 400) ∧ sRg (s.1 19) ∧ sRg (s.1 20)
/-- at least one token is taken -/
def grow (t : Int) (s r : PS) : Prop := PI t r ∧ s.1 17 < r.1 17 ∧ r.1 13 + s.1 17 ≤ s.1 13 + r.1 17 ∧ r.1 22 = s.1 22
def grw0 (t : Int) (s r : PS) : Prop := PI t r ∧ s.1 17 ≤ r.1 17 ∧ r.1 13 + s.1 17 ≤ s.1 13 + r.1 17 ∧ r.1 22 = s.1 22
theorem grow_0 {t : Int} {s r : PS} (h : grow t s r) : grw0 t s r := ⟨h.1, by have := h.2.1; omega, h.2.2⟩
theorem grow_tr {t : Int} {s r q : PS} (h : grow t s r) (h2 : grw0 t r q) : grow t s q := ⟨h2.1, by have := h.2.1; have := h2.2.1; omega, by have := h.2.2.1; have := h2.2.2.1; omega, h2.2.2.2.trans h.2.2.2⟩
theorem grw0_tr {t : Int} {s r q : PS} (h : grw0 t s r) (h2 : grw0 t r q) : grw0 t s q := ⟨h2.1, by have := h.2.1; have := h2.2.1; omega, by have := h.2.2.1; have := h2.2.2.1; omega, h2.2.2.2.trans h.2.2.2⟩
theorem seeP_in {B : WT} {t p : Int} (h : TP B t) (hp : 0 ≤ p) : (p < t ∧ 0 ≤ seeP B t p ∧ seeP B t p ≤ 255) ∨ (t ≤ p ∧ seeP B t p = -1) := by
  unfold seeP
  split
  · rename_i q
    exact Or.inl ⟨q, h.2 p hp q⟩
  · exact Or.inr ⟨by omega, rfl⟩
theorem letB_n : letB (-1) = false := by decide
theorem digitB_n : digitB (-1) = false := by decide
theorem skp_in {B : WT} {t : Int} (h : TP B t) : ∀ (f : Nat) (p : Int), 0 ≤ p → p ≤ t → p ≤ skpF B t f p ∧ skpF B t f p ≤ t
  | 0, p, h1, h2 => ⟨Int.le_refl _, h2⟩
  | f + 1, p, h1, h2 => by
    unfold skpF
    split
    · rename_i q
      rcases seeP_in h h1 with z | z
      · have := skp_in h f (p + 1) (by omega) (by omega)
        omega
      · omega
    · exact ⟨Int.le_refl _, h2⟩
theorem let_in {B : WT} {t : Int} (h : TP B t) : ∀ (f : Nat) (p : Int), 0 ≤ p → p ≤ t → p ≤ letF B t f p ∧ letF B t f p ≤ t
  | 0, p, h1, h2 => ⟨Int.le_refl _, h2⟩
  | f + 1, p, h1, h2 => by
    unfold letF
    split
    · rename_i q
      rcases seeP_in h h1 with z | z
      · have := let_in h f (p + 1) (by omega) (by omega)
        omega
      · rw [z.2, letB_n] at q
        cases q
    · exact ⟨Int.le_refl _, h2⟩
theorem digitB_in {c : Int} (h : digitB c = true) : 48 ≤ c ∧ c ≤ 57 := by
  unfold digitB inB at h
  exact of_decide_eq_true h
/-- digits read so far -/
def digI (a p v : Int) : Prop := (0 ≤ v ∧ v ≤ 9999) ∧ (p = a → v = 0) ∧ (p = a + 1 → v ≤ 9) ∧ (p = a + 2 → v ≤ 99) ∧ (p = a + 3 → v ≤ 999)
theorem digI_s {a p v c : Int} (h : digI a p v) (hp : a ≤ p) (hc : 48 ≤ c ∧ c ≤ 57) : digI a (p + 1) (if p < a + 4 then 10 * v + c - 48 else v) := by
  obtain ⟨h1, h2, h3, h4, h5⟩ := h
  unfold digI
  split <;> omega
theorem dig_in {B : WT} {t a : Int} (h : TP B t) : ∀ (f : Nat) (p v : Int), 0 ≤ p → p ≤ t → a ≤ p → digI a p v → p ≤ (digF B t a f p v).1 ∧ (digF B t a f p v).1 ≤ t ∧ (0 ≤ (digF B t a f p v).2 ∧ (digF B t a f p v).2 ≤ 9999)
  | 0, p, v, h1, h2, h3, h4 => ⟨Int.le_refl _, h2, h4.1⟩
  | f + 1, p, v, h1, h2, h3, h4 => by
    unfold digF
    split
    · rename_i q
      rcases seeP_in h h1 with z | z
      · have := dig_in h f (p + 1) _ (by omega) (by omega) (by omega) (digI_s h4 h3 (digitB_in q))
        omega
      · rw [z.2, digitB_n] at q
        cases q
    · exact ⟨Int.le_refl _, h2, h4.1⟩
