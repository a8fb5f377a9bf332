/-! ===== what both sides compute, over one row of numbers: the land ===== -/
def inB (v lo hi : Int) : Bool := decide (lo ≤ v ∧ v ≤ hi)
theorem inB_t {v lo hi : Int} : inB v lo hi = true ↔ lo ≤ v ∧ v ≤ hi := by simp [inB]
theorem inB_f {v lo hi : Int} : inB v lo hi = false ↔ ¬ (lo ≤ v ∧ v ≤ hi) := by simp [inB]
abbrev WT : Type := Int → Int
/-- the land's measures -/
def Dim (w : WT) : Prop := 2 ≤ w 0 ∧ w 0 ≤ 10 ∧ 2 ≤ w 1 ∧ w 1 ≤ 10
def placeB (w : WT) (x y : Int) : Bool := inB x 0 (w 0 - 1) && inB y 0 (w 1 - 1)
theorem placeB_t {w : WT} {x y : Int} : placeB w x y = true ↔ (0 ≤ x ∧ x ≤ w 0 - 1) ∧ 0 ≤ y ∧ y ≤ w 1 - 1 := by simp [placeB, inB]
theorem placeB_f {w : WT} {x y : Int} : placeB w x y = false ↔ ¬ ((0 ≤ x ∧ x ≤ w 0 - 1) ∧ 0 ≤ y ∧ y ≤ w 1 - 1) := by
  rw [← placeB_t]
  simp
def pointB (w : WT) (x y : Int) : Bool := inB x 0 (w 0) && inB y 0 (w 1)
theorem pointB_t {w : WT} {x y : Int} : pointB w x y = true ↔ (0 ≤ x ∧ x ≤ w 0) ∧ 0 ≤ y ∧ y ≤ w 1 := by simp [pointB, inB]
theorem pointB_f {w : WT} {x y : Int} : pointB w x y = false ↔ ¬ ((0 ≤ x ∧ x ≤ w 0) ∧ 0 ≤ y ∧ y ≤ w 1) := by
  rw [← pointB_t]
  simp
def cellB (w : WT) (c : Int) : Bool := decide (0 ≤ c) && placeB w (c.tmod 10) (c.tdiv 10)
theorem tmod10 (c : Int) (h : 0 ≤ c) : c.tmod 10 = c % 10 := Int.tmod_eq_emod_of_nonneg h
theorem tdiv10 (c : Int) (h : 0 ≤ c) : c.tdiv 10 = c / 10 := Int.tdiv_eq_ediv_of_nonneg h
theorem cellB_t {w : WT} (hd : Dim w) {c : Int} (h : cellB w c = true) : 0 ≤ c ∧ c ≤ 99 ∧ c % 10 ≤ w 0 - 1 ∧ c / 10 ≤ w 1 - 1 := by
  unfold cellB at h
  rw [Bool.and_eq_true, decide_eq_true_eq, placeB_t] at h
  obtain ⟨h0, h1, h2⟩ := h
  rw [tmod10 c h0, tdiv10 c h0] at *
  unfold Dim at hd
  omega
/-- the pond in a cell, the flies seen there -/
def pondS (w : WT) (x y : Int) : Int := if placeB w x y = true then w (120 + 10 * y + x) else 0
def seenS (w : WT) (x y : Int) : Int := if placeB w x y = true then w (20 + 10 * y + x) + 20 * pondS w x y + 5 * (pondS w x (y - 1) + pondS w (x + 1) y + pondS w x (y + 1) + pondS w (x - 1) y) else 0
def adX (h : Int) : Int := if h = 1 then 1 else if h = 3 then -1 else 0
def adY (h : Int) : Int := if h = 0 then -1 else if h = 2 then 1 else 0
def yardS (x y h : Int) : Int := 2 * (11 * (if h = 0 then y - 1 else y) + (if h = 3 then x - 1 else x)) + (if h = 1 ∨ h = 3 then 0 else 1)
/-! rows of numbers, changed at a place; whole arrays set -/
def upW (w : WT) (i v : Int) : WT := fun l => if l = i then v else w l
theorem upW_s {w : WT} {i v : Int} : upW w i v i = v := by simp [upW]
theorem upW_n {w : WT} {i v l : Int} (h : l ≠ i) : upW w i v l = w l := by simp [upW, h]
def sArr (X : XT) (a : Nat) (f : WT) : XT := fun b => if b = a then f else X b
theorem sArr_s {X : XT} {a : Nat} {f : WT} : sArr X a f a = f := by simp [sArr]
theorem sArr_n {X : XT} {a b : Nat} {f : WT} (h : b ≠ a) : sArr X a f b = X b := by simp [sArr, h]
theorem sArr_id {X : XT} {a : Nat} : sArr X a (X a) = X := by
  funext b
  unfold sArr
  split
  · rename_i h
    rw [h]
  · rfl
theorem sArr_sArr {X : XT} {a : Nat} {f g : WT} : sArr (sArr X a f) a g = sArr X a g := by
  funext b
  unfold sArr
  split <;> rfl
theorem sUp_as {X : XT} {a : Nat} {i v : Int} : sUp X a i v = sArr X a (upW (X a) i v) := by
  funext b l
  unfold sUp sArr upW
  by_cases e : b = a
  · subst e
    simp
  · simp [e]
theorem sUp_s {X : XT} {a : Nat} {i v : Int} : sUp X a i v a = upW (X a) i v := by rw [sUp_as, sArr_s]
theorem sArr_sUp {X : XT} {a : Nat} {f : WT} {i v : Int} : sUp (sArr X a f) a i v = sArr X a (upW f i v) := by rw [sUp_as, sArr_sArr, sArr_s]
theorem sArr_c {X : XT} {a : Nat} {f g : WT} (h : f = g) : sArr X a f = sArr X a g := by rw [h]
def sWr (z : Int) : Int := (sI z).toInt
theorem vI_wr (z : Int) : vI (sWr z) = vI z := by
  unfold vI sWr
  rw [sI_of]
theorem sWr_rg (z : Int) : sRg (sWr z) := sRg_of _
theorem sWr_id {z : Int} (h : sRg z) : sWr z = z := sI_toInt h
theorem ss_wr {E : ET} {Γ : GT} {k j n : Nat} {K : KT} {X : XT} {R : RT} {pc : Nat} {L : List (Option Value)} {st : List Value} {z : Int} (kk : sG E Γ k j n K X R pc L (vI (sWr z) :: st)) : sG E Γ k j n K X R pc L (vI z :: st) := by
  rw [vI_wr] at kk
  exact kk
/-! the operations that only tell -/
def nxtS (s : Int) : Int := sWr (1664525 * s + 1013904223)
def ushS (a b : Int) : Int := (((sI a).toUInt32 >>> ((sI b).toUInt32 &&& Int32.toUInt32 31)).toInt32).toInt
def begW (w : WT) (wide high : Int) : WT := fun i => if i = 2 then w 2 else if i = 0 then wide else if i = 1 then high else if 420 ≤ i ∧ i < 520 then 1 else if 850 ≤ i ∧ i < 1334 then -1 else if 0 ≤ i ∧ i < 5480 then 0 else w i
def clrW (w : WT) : WT := fun i => if 850 ≤ i ∧ i < 1334 then -1 else if i = 6 then 0 else w i
def landB (wide high : Int) : Bool := inB wide 2 10 && inB high 2 10
def tellB (w : WT) (c what v : Int) : Bool := cellB w c && (inB what 0 2 && inB v 0 (if what = 2 then 1 else 99))
def tellI (c what : Int) : Int := (if what = 0 then 20 else if what = 1 then 420 else 320) + c
def keepA (b : WT) (m c : Int) : WT := upW (if m = 10 then (fun i => if 0 ≤ i ∧ i < 9 then b (i + 1) else b i) else b) (if m = 10 then 9 else m) c
def keepN (m : Int) : Int := if m = 10 then 10 else m + 1
def digB (w : WT) (c : Int) : Bool := cellB w c && decide (w (120 + c) ≠ 1)
def fillB (w : WT) (c : Int) : Bool := cellB w c && decide (w (120 + c) = 0)
def fillB' (w : WT) (c : Int) : Bool := cellB w c && decide (w (120 + c) ≠ 0)
def barnB (w : WT) (c : Int) : Bool := cellB w c && decide (w (220 + c) ≠ 1)
def barnW (w : WT) (c : Int) : WT := upW (upW (upW w (220 + c) 1) (520 + c) (-1)) (620 + c) 0
def nestB (w : WT) (x y : Int) : Bool := pointB w x y && decide (w 5 ≠ 6)
def nestW (w : WT) (x y : Int) : WT := upW (upW (upW w (1840 + 2 * w 5) x) (1840 + 2 * w 5 + 1) y) 5 (w 5 + 1)
def swalB (w : WT) (x y h l b : Int) : Bool := pointB w x y && (inB h 0 3 && (inB l 0 60 && (inB b 0 3 && decide (w 4 ≠ 8))))
def swalW (w : WT) (x y h l b : Int) : WT := upW (upW (upW (upW (upW (upW w (1855 + 5 * w 4) x) (1855 + 5 * w 4 + 1) y) (1855 + 5 * w 4 + 2) h) (1855 + 5 * w 4 + 3) l) (1855 + 5 * w 4 + 4) b) 4 (w 4 + 1)
def letB (c : Int) : Bool := inB c 97 122 || inB c 65 90
def digitB (c : Int) : Bool := inB c 48 57
theorem sUp_ss {X : XT} {a : Nat} {i v : Int} : sUp X a i v a i = v := by simp [sUp]
theorem sUp_sn {X : XT} {a : Nat} {i v l : Int} (h : l ≠ i) : sUp X a i v a l = X a l := by simp [sUp, h]
theorem sUp_o {X : XT} {a b : Nat} {i v l : Int} (h : b ≠ a) : sUp X a i v b l = X b l := by simp [sUp, h]
def shrS (a b : Int) : Int := (sI a >>> (sI b &&& 31)).toInt
def shlS (a b : Int) : Int := (sI a <<< (sI b &&& 31)).toInt
def andS (a b : Int) : Int := (sI a &&& sI b).toInt
def byteS (k a b c d e : Int) : Int := andS (shrS (if k < 4 then a else if k < 8 then b else if k < 12 then c else if k < 16 then d else e) (24 - 8 * k.tmod 4)) 255
def feedA (t : WT) (n j a b c d e : Int) : WT := fun i => if n ≤ i ∧ i < n + j then byteS (i - n) a b c d e else t i
/-! ===== flights: what both sides compute ===== -/
def orS (a b : Int) : Int := (sI a ||| sI b).toInt
def bothS (s a b : Int) : Int := if s = 13 then sWr (a + b) else if s = 14 then sWr (a - b) else if s = 15 then sWr (a * b) else if s = 17 then (if a < b then 1 else 0) else if s = 18 then (if a = b then 1 else 0) else if s = 19 then (if b < a then 1 else 0) else if s = 21 then andS a b else orS a b
def stepC (s v : Int) (f : WT) (st : List Int) : List Int :=
  if s < 13 then (if s = 0 then v else f s) :: st
  else if s = 16 then (match st with | a :: r => sWr (a.tdiv v) :: r | [] => [])
  else if s = 20 then (match st with | a :: r => sWr (1 - a) :: r | [] => [])
  else (match st with | b :: a :: r => bothS s a b :: r | _ => [])
def runC : List (Int × Int) → WT → List Int → List Int
  | [], _, st => st
  | (s, v) :: c, f, st => runC c f (stepC s v f st)
/-- a code from depth d to depth e -/
def okC : List (Int × Int) → Nat → Nat → Prop
  | [], d, e => d = e
  | (s, v) :: c, d, e =>
    if s < 13 then (0 ≤ s ∧ s ≤ 9) ∧ okC c (d + 1) e
    else if s = 16 then (1 ≤ d ∧ v ≠ 0) ∧ okC c d e
    else if s = 20 then 1 ≤ d ∧ okC c d e
    else (s ≤ 22 ∧ 2 ≤ d) ∧ okC c (d - 1) e
def topC (l : List Int) : Int := match l with | a :: _ => a | [] => 0
def codeF (w : WT) (k : Int) : Nat → Int → List (Int × Int)
  | 0, _ => []
  | n + 1, i => (w (2200 + 820 * k + 2 * i), w (2200 + 820 * k + 2 * i + 1)) :: codeF w k n (i + 1)
def codeL (w : WT) (k b e : Int) : List (Int × Int) := codeF w k (e - b).toNat b
def evL (w : WT) (k b e : Int) (f : WT) : Int := topC (runC (codeL w k b e) f [])
/-- a line of a text, as it is kept -/
def lineOK (w : WT) (k i : Int) : Prop := (0 ≤ w (1990 + 16 * k + i) ∧ w (1990 + 16 * k + i) ≤ 4) ∧ (0 ≤ w (2060 + 16 * k + i) ∧ w (2060 + 16 * k + i) ≤ w (2130 + 16 * k + i) ∧ w (2130 + 16 * k + i) ≤ 410) ∧
  (w (2130 + 16 * k + i) ≠ w (2060 + 16 * k + i) → okC (codeL w k (w (2060 + 16 * k + i)) (w (2130 + 16 * k + i))) 0 1 ∧ ∀ f : WT, evL w k (w (2060 + 16 * k + i)) (w (2130 + 16 * k + i)) f = 0 ∨ evL w k (w (2060 + 16 * k + i)) (w (2130 + 16 * k + i)) f = 1)
def textOK (w : WT) (k : Int) : Prop := (0 ≤ w (1985 + k) ∧ w (1985 + k) ≤ 16) ∧ ∀ i, 0 ≤ i → i < w (1985 + k) → lineOK w k i
def takesB (w : WT) (k i : Int) (f : WT) : Bool := decide (w (2130 + 16 * k + i) = w (2060 + 16 * k + i) ∨ evL w k (w (2060 + 16 * k + i)) (w (2130 + 16 * k + i)) f = 1)
/-- the word by which a swallow goes on: of the first line that is so, from line i on -/
def toldF (w : WT) (k : Int) (f : WT) : Nat → Int → Int
  | 0, _ => 0
  | n + 1, i => if takesB w k i f = true then w (1990 + 16 * k + i) else toldF w k f n (i + 1)
def toldS (w : WT) (k : Int) (f : WT) : Int := toldF w k f (w (1985 + k)).toNat 0
def rimB (w : WT) (x y h : Int) : Bool := !pointB w (x + adX h) (y + adY h)
def lxS (x h : Int) : Int := if h = 0 ∨ h = 3 then x - 1 else x
def lyS (y h : Int) : Int := if h = 0 ∨ h = 1 then y - 1 else y
def rxS (x h : Int) : Int := if h = 2 ∨ h = 3 then x - 1 else x
def ryS (y h : Int) : Int := if h = 0 ∨ h = 3 then y - 1 else y
/-- what is asked at a point with a heading; behind it what stood there -/
def layS (w : WT) (x y h : Int) (g : WT) : WT := fun i =>
  if i = 1 then (if rimB w x y h = true then 0 else seenS w (lxS x h) (lyS y h))
  else if i = 2 then (if rimB w x y h = true then 0 else seenS w (rxS x h) (ryS y h))
  else if i = 3 then (if rimB w x y h = true then 0 else pondS w (lxS x h) (lyS y h))
  else if i = 4 then (if rimB w x y h = true then 0 else pondS w (rxS x h) (ryS y h))
  else if i = 5 then (if rimB w x y h = true ∨ w (850 + yardS x y h) = -1 then 0 else 1)
  else if i = 6 then bI (rimB w x y h)
  else g i
def fctS (w : WT) (x y h st len s : Int) : WT := fun i => if i = 7 then st else if i = 8 then len - st else if i = 9 then s else layS w x y h (fun _ => 0) i
def oth1 (w : WT) (s x y k best : Int) : Int :=
  if pointB w (x + adX k) (y + adY k) = true then
    (if w (850 + yardS x y k) ≠ -1 ∧ w (850 + yardS x y k) ≠ s ∧ (best = -1 ∨ w (850 + yardS x y k) < best) then w (850 + yardS x y k) else best)
  else best
def othN (w : WT) (s x y : Int) : Nat → Int
  | 0 => -1
  | k + 1 => oth1 w s x y k (othN w s x y k)
def othS (w : WT) (s x y : Int) : Int := othN w s x y 4
def catC (w : WT) (x y : Int) : Bool := placeB w x y && decide (w (320 + 10 * y + x) = 1)
def catS (w : WT) (x y : Int) : Bool := catC w (x - 1) (y - 1) || (catC w (x - 1) y || (catC w x (y - 1) || catC w x y))
/-- a suit is laid; in thought the row of suits stays -/
def suitW (th : Bool) (w : WT) (s o x y st : Int) : WT := upW (if th = true then w else upW (upW (upW (upW (upW w (1340 + 5 * w 6) s) (1340 + 5 * w 6 + 1) o) (1340 + 5 * w 6 + 2) x) (1340 + 5 * w 6 + 3) y) (1340 + 5 * w 6 + 4) st) 6 (w 6 + 1)
def sueS (th : Bool) (w : WT) (s o x y st : Int) : WT := if w 6 = 99 then w else suitW th w s o x y st
def turnS (w : WT) (x y t : Int) : Int := if w (720 + 11 * y + x) = 1 ∧ t.tmod 2 = 1 then 4 - t else t
def markS (w : WT) (s yd st : Int) : WT := if w (850 + yd) = -1 then upW (upW w (850 + yd) s) (1092 + yd) st else w
abbrev FT : Type := WT × Int × Int × Int × Int
/-- a flight: at most so many steps more -/
def flyS (th : Bool) (s len hb : Int) : Nat → WT → Int → Int → Int → Int → FT
  | 0, w, x, y, h, st => (w, x, y, h, st)
  | f + 1, w, x, y, h, st =>
    if toldS w hb (fctS w x y h st len s) = 4 then (w, x, y, h, st)
    else
      let h' := (h + turnS w x y (toldS w hb (fctS w x y h st len s))).tmod 4
      if pointB w (x + adX h') (y + adY h') = true then
        let w1 := markS w s (yardS x y h') st
        let w2 := if othS w1 s (x + adX h') (y + adY h') = -1 then w1 else sueS th w1 s (othS w1 s (x + adX h') (y + adY h')) (x + adX h') (y + adY h') st
        if catS w2 (x + adX h') (y + adY h') = true then (w2, x + adX h', y + adY h', h', st + 1) else flyS th s len hb f w2 (x + adX h') (y + adY h') h' (st + 1)
      else (w, x, y, h', st)
def flyO (th : Bool) (w : WT) (s : Int) : FT := flyS th s (w (1855 + 5 * s + 3)) (w (1855 + 5 * s + 4)) (w (1855 + 5 * s + 3)).toNat w (w (1855 + 5 * s)) (w (1855 + 5 * s + 1)) (w (1855 + 5 * s + 2)) 0
def flyN (th : Bool) (w : WT) : Nat → WT
  | 0 => w
  | j + 1 => (flyO th (flyN th w j) j).1
def allF (th : Bool) (w : WT) : WT := flyN th (clrW w) (w 4).toNat
/-- what a flight needs of the row -/
def flyOK (w : WT) : Prop := Dim w ∧ (0 ≤ w 4 ∧ w 4 ≤ 8) ∧ (0 ≤ w 6 ∧ w 6 ≤ 99) ∧
  (∀ c, 0 ≤ c → c < 100 → (0 ≤ w (20 + c) ∧ w (20 + c) ≤ 1000) ∧ (w (120 + c) = 0 ∨ w (120 + c) = 1)) ∧
  (∀ s, 0 ≤ s → s < w 4 → pointB w (w (1855 + 5 * s)) (w (1855 + 5 * s + 1)) = true ∧ (0 ≤ w (1855 + 5 * s + 2) ∧ w (1855 + 5 * s + 2) ≤ 3) ∧ (0 ≤ w (1855 + 5 * s + 3) ∧ w (1855 + 5 * s + 3) ≤ 60) ∧ 0 ≤ w (1855 + 5 * s + 4) ∧ w (1855 + 5 * s + 4) ≤ 3) ∧
  ∀ k, 0 ≤ k → k ≤ 3 → textOK w k
theorem adX_in (h : Int) : -1 ≤ adX h ∧ adX h ≤ 1 := by
  unfold adX
  (repeat' split) <;> omega
theorem adY_in (h : Int) : -1 ≤ adY h ∧ adY h ≤ 1 := by
  unfold adY
  (repeat' split) <;> omega
theorem yard_in {w : WT} (hd : Dim w) {x y h : Int} (hh : 0 ≤ h ∧ h ≤ 3) (h1 : pointB w x y = true) (h2 : pointB w (x + adX h) (y + adY h) = true) : 0 ≤ yardS x y h ∧ yardS x y h ≤ 241 := by
  rw [pointB_t] at h1 h2
  unfold Dim at hd
  unfold adX adY at h2
  unfold yardS
  have : h = 0 ∨ h = 1 ∨ h = 2 ∨ h = 3 := by omega
  rcases this with rfl | rfl | rfl | rfl <;> simp at * <;> omega
theorem pond_in {w : WT} (hd : Dim w) (hp : ∀ c, 0 ≤ c → c < 100 → w (120 + c) = 0 ∨ w (120 + c) = 1) (x y : Int) : pondS w x y = 0 ∨ pondS w x y = 1 := by
  unfold pondS
  split
  · rename_i h
    rw [placeB_t] at h
    unfold Dim at hd
    have := hp (10 * y + x) (by omega) (by omega)
    rw [show (120 : Int) + 10 * y + x = 120 + (10 * y + x) by omega]
    exact this
  · exact Or.inl rfl
theorem seen_in {w : WT} (hd : Dim w) (hp : ∀ c, 0 ≤ c → c < 100 → (0 ≤ w (20 + c) ∧ w (20 + c) ≤ 1000) ∧ (w (120 + c) = 0 ∨ w (120 + c) = 1)) (x y : Int) : 0 ≤ seenS w x y ∧ seenS w x y ≤ 1040 := by
  unfold seenS
  split
  · rename_i h
    rw [placeB_t] at h
    have hq : ∀ c, 0 ≤ c → c < 100 → w (120 + c) = 0 ∨ w (120 + c) = 1 := fun c a b => (hp c a b).2
    have a1 := pond_in hd hq x y
    have a2 := pond_in hd hq x (y - 1)
    have a3 := pond_in hd hq (x + 1) y
    have a4 := pond_in hd hq x (y + 1)
    have a5 := pond_in hd hq (x - 1) y
    unfold Dim at hd
    have := (hp (10 * y + x) (by omega) (by omega)).1
    rw [show (20 : Int) + 10 * y + x = 20 + (10 * y + x) by omega]
    omega
  · omega
/-- the stack of a pile -/
def stk (g : WT) : Nat → List Int
  | 0 => []
  | t + 1 => g t :: stk g t
theorem stk_up {g : WT} {i v : Int} : ∀ (t : Nat), (t : Int) ≤ i → stk (upW g i v) t = stk g t
  | 0, _ => rfl
  | t + 1, h => by
    unfold stk
    rw [stk_up t (by omega), upW_n (by omega)]
theorem stk_push {g : WT} {v : Int} (t : Nat) : stk (upW g t v) (t + 1) = v :: stk g t := by
  show upW g t v t :: stk (upW g t v) t = _
  rw [upW_s, stk_up t (by omega)]
theorem codeL_cons {w : WT} {k b e : Int} (h : b < e) : codeL w k b e = (w (2200 + 820 * k + 2 * b), w (2200 + 820 * k + 2 * b + 1)) :: codeL w k (b + 1) e := by
  unfold codeL
  rw [show (e - b).toNat = (e - (b + 1)).toNat + 1 by omega]
  rfl
theorem codeL_nil {w : WT} {k b e : Int} (h : e ≤ b) : codeL w k b e = [] := by
  unfold codeL
  rw [show (e - b).toNat = 0 by omega]
  rfl
theorem bothS_rg (s a b : Int) : sRg (bothS s a b) := by
  unfold bothS
  (repeat' split) <;> first | exact sWr_rg _ | exact sRg_of _ | omega
theorem sRg_ite {c : Prop} [Decidable c] {a b : Int} (ha : sRg a) (hb : sRg b) : sRg (if c then a else b) := by
  split
  · exact ha
  · exact hb
/-! ===== flights keep the land ===== -/
/-- places that no flight writes -/
def lndP (i : Int) : Prop := ¬ i = 6 ∧ ¬ (850 ≤ i ∧ i < 1334) ∧ ¬ (1340 ≤ i ∧ i < 1835)
def sameL (w w' : WT) : Prop := ∀ i, lndP i → w' i = w i
theorem sameL_rf (w : WT) : sameL w w := fun _ _ => rfl
theorem sameL_tr {w1 w2 w3 : WT} (h1 : sameL w1 w2) (h2 : sameL w2 w3) : sameL w1 w3 := fun i h => (h2 i h).trans (h1 i h)
theorem sameL_up {w : WT} {i v : Int} (h : ¬ lndP i) : sameL w (upW w i v) := fun l hl => upW_n (fun q => h (by rw [← q]; exact hl))
theorem pointB_same {w w' : WT} (h : sameL w w') (x y : Int) : pointB w' x y = pointB w x y := by
  unfold pointB
  rw [h 0 (by unfold lndP; omega), h 1 (by unfold lndP; omega)]
theorem placeB_same {w w' : WT} (h : sameL w w') (x y : Int) : placeB w' x y = placeB w x y := by
  unfold placeB
  rw [h 0 (by unfold lndP; omega), h 1 (by unfold lndP; omega)]
theorem codeF_same {w w' : WT} (h : ∀ i, 1835 ≤ i → w' i = w i) (k : Int) (hk : 0 ≤ k) : ∀ (n : Nat) (i : Int), 0 ≤ i → codeF w' k n i = codeF w k n i
  | 0, _, _ => rfl
  | n + 1, i, hi => by
    unfold codeF
    rw [h _ (by omega), h _ (by omega), codeF_same h k hk n (i + 1) (by omega)]
theorem codeL_same {w w' : WT} (h : ∀ i, 1835 ≤ i → w' i = w i) {k b e : Int} (hk : 0 ≤ k) (hb : 0 ≤ b) : codeL w' k b e = codeL w k b e := codeF_same h k hk _ b hb
theorem lineOK_same {w w' : WT} (h : ∀ i, 1835 ≤ i → w' i = w i) {k i : Int} (hk : 0 ≤ k) (hi : 0 ≤ i) (hl : lineOK w k i) : lineOK w' k i := by
  unfold lineOK evL at hl ⊢
  rw [h (1990 + 16 * k + i) (by omega), h (2060 + 16 * k + i) (by omega), h (2130 + 16 * k + i) (by omega)]
  rw [codeL_same h hk hl.2.1.1]
  exact hl
theorem textOK_same {w w' : WT} (h : ∀ i, 1835 ≤ i → w' i = w i) {k : Int} (hk : 0 ≤ k) (hl : textOK w k) : textOK w' k := by
  unfold textOK at hl ⊢
  rw [h (1985 + k) (by omega)]
  exact ⟨hl.1, fun i h1 h2 => lineOK_same h hk h1 (hl.2 i h1 h2)⟩
theorem sameL_hi {w w' : WT} (h : sameL w w') : ∀ i, 1835 ≤ i → w' i = w i := fun i hi => h i (by unfold lndP; omega)
theorem Dim_same {w w' : WT} (h : sameL w w') (hd : Dim w) : Dim w' := by
  unfold Dim at hd ⊢
  rw [h 0 (by unfold lndP; omega), h 1 (by unfold lndP; omega)]
  exact hd
theorem flyOK_same {w w' : WT} (h : sameL w w') (h6 : 0 ≤ w' 6 ∧ w' 6 ≤ 99) (hf : flyOK w) : flyOK w' := by
  obtain ⟨a1, a2, a3, a4, a5, a6⟩ := hf
  refine ⟨Dim_same h a1, by rw [h 4 (by unfold lndP; omega)]; exact a2, h6, fun c h1 h2 => ?_, fun s h1 h2 => ?_, fun k h1 h2 => textOK_same (sameL_hi h) h1 (a6 k h1 h2)⟩
  · rw [h (20 + c) (by unfold lndP; omega), h (120 + c) (by unfold lndP; omega)]
    exact a4 c h1 h2
  · rw [h 4 (by unfold lndP; omega)] at h2
    rw [h _ (by unfold lndP; omega), h _ (by unfold lndP; omega), h _ (by unfold lndP; omega), h _ (by unfold lndP; omega), h _ (by unfold lndP; omega), pointB_same h]
    exact a5 s h1 h2
theorem mark_same (w : WT) (s st : Int) {yd : Int} (h : 0 ≤ yd ∧ yd ≤ 241) : sameL w (markS w s yd st) ∧ markS w s yd st 6 = w 6 := by
  unfold markS
  split
  · exact ⟨sameL_tr (sameL_up (by unfold lndP; omega)) (sameL_up (by unfold lndP; omega)), by rw [upW_n (by omega), upW_n (by omega)]⟩
  · exact ⟨sameL_rf w, rfl⟩
theorem sue_same (th : Bool) (w : WT) (s o x y st : Int) (h : 0 ≤ w 6 ∧ w 6 ≤ 99) : sameL w (sueS th w s o x y st) ∧ 0 ≤ sueS th w s o x y st 6 ∧ sueS th w s o x y st 6 ≤ 99 := by
  unfold sueS
  split
  · exact ⟨sameL_rf w, h⟩
  · unfold suitW
    refine ⟨?_, by rw [upW_s]; omega⟩
    split
    · exact sameL_up (by unfold lndP; omega)
    · exact sameL_tr (sameL_tr (sameL_tr (sameL_tr (sameL_tr (sameL_up (by unfold lndP; omega)) (sameL_up (by unfold lndP; omega))) (sameL_up (by unfold lndP; omega))) (sameL_up (by unfold lndP; omega))) (sameL_up (by unfold lndP; omega))) (sameL_up (by unfold lndP; omega))
theorem runC_congr {f f' : WT} (h : ∀ i, 1 ≤ i → i ≤ 9 → f i = f' i) : ∀ (c : List (Int × Int)) (d e : Nat) (st : List Int), okC c d e → runC c f st = runC c f' st
  | [], _, _, _, _ => rfl
  | (s, v) :: c, d, e, st, hc => by
    unfold okC at hc
    unfold runC
    have hs : stepC s v f st = stepC s v f' st := by
      unfold stepC
      by_cases h1 : s < 13
      · rw [if_pos h1, if_pos h1]
        rw [if_pos h1] at hc
        by_cases h2 : s = 0
        · rw [if_pos h2, if_pos h2]
        · rw [if_neg h2, if_neg h2, h s (by omega) (by omega)]
      · rw [if_neg h1, if_neg h1]
    rw [hs]
    by_cases h1 : s < 13
    · rw [if_pos h1] at hc
      exact runC_congr h c _ e _ hc.2
    · rw [if_neg h1] at hc
      by_cases h2 : s = 16
      · rw [if_pos h2] at hc
        exact runC_congr h c _ e _ hc.2
      · rw [if_neg h2] at hc
        by_cases h3 : s = 20
        · rw [if_pos h3] at hc
          exact runC_congr h c _ e _ hc.2
        · rw [if_neg h3] at hc
          exact runC_congr h c _ e _ hc.2
theorem takesB_congr {w : WT} {k i : Int} {f f' : WT} (h : ∀ i, 1 ≤ i → i ≤ 9 → f i = f' i) (hl : lineOK w k i) : takesB w k i f = takesB w k i f' := by
  unfold takesB
  by_cases e : w (2130 + 16 * k + i) = w (2060 + 16 * k + i)
  · simp [e]
  · unfold evL
    rw [runC_congr h _ 0 1 [] (hl.2.2 e).1]
theorem toldF_congr {w : WT} {k : Int} {f f' : WT} (h : ∀ i, 1 ≤ i → i ≤ 9 → f i = f' i) : ∀ (n : Nat) (i : Int), 0 ≤ i → i + n ≤ w (1985 + k) → (∀ j, 0 ≤ j → j < w (1985 + k) → lineOK w k j) → toldF w k f n i = toldF w k f' n i
  | 0, _, _, _, _ => rfl
  | n + 1, i, h0, h1, hl => by
    unfold toldF
    rw [takesB_congr h (hl i h0 (by omega)), toldF_congr h n (i + 1) (by omega) (by omega) hl]
theorem toldS_congr {w : WT} {k : Int} {f f' : WT} (h : ∀ i, 1 ≤ i → i ≤ 9 → f i = f' i) (ht : textOK w k) : toldS w k f = toldS w k f' :=
  toldF_congr h _ 0 (by omega) (by have := ht.1; omega) ht.2
theorem toldF_in {w : WT} {k : Int} {f : WT} : ∀ (n : Nat) (i : Int), 0 ≤ i → i + n ≤ w (1985 + k) → (∀ j, 0 ≤ j → j < w (1985 + k) → lineOK w k j) → 0 ≤ toldF w k f n i ∧ toldF w k f n i ≤ 4
  | 0, _, _, _, _ => by
    unfold toldF
    omega
  | n + 1, i, h0, h1, hl => by
    unfold toldF
    split
    · exact (hl i h0 (by omega)).1
    · exact toldF_in n (i + 1) (by omega) (by omega) hl
theorem toldS_in {w : WT} {k : Int} (f : WT) (ht : textOK w k) : 0 ≤ toldS w k f ∧ toldS w k f ≤ 4 := toldF_in _ 0 (by omega) (by have := ht.1; omega) ht.2
theorem turn_in (w : WT) (x y : Int) {t : Int} (h : 0 ≤ t ∧ t ≤ 4) : 0 ≤ turnS w x y t ∧ turnS w x y t ≤ 4 := by
  unfold turnS
  split <;> omega
/-- nothing but these of the twin's arrays has changed -/
def sOff (S : List Nat) (m : Nat) (X X' : XT) : Prop := ∀ b, (∀ o ∈ S, b ≠ m + o) → X' b = X b
theorem sOff_rf (S : List Nat) (m : Nat) (X : XT) : sOff S m X X := fun _ _ => rfl
theorem sOff_tr {S : List Nat} {m : Nat} {X X' X'' : XT} (h1 : sOff S m X X') (h2 : sOff S m X' X'') : sOff S m X X'' := fun b h => (h2 b h).trans (h1 b h)
theorem sOff_arr {S : List Nat} {m o : Nat} {X : XT} {f : WT} (h : o ∈ S) : sOff S m X (sArr X (m + o) f) := fun b hb => sArr_n (hb o h)
theorem sOff_up {S : List Nat} {m o : Nat} {X : XT} {i v : Int} (h : o ∈ S) : sOff S m X (sUp X (m + o) i v) := fun b hb => sUp_ne (hb o h)
theorem sOff_at {S : List Nat} {m : Nat} {X X' : XT} (h : sOff S m X X') (o : Nat) (ho : ∀ q ∈ S, o ≠ q) : X' (m + o) = X (m + o) := h _ fun q hq e => ho q hq (by omega)
theorem sOff_m {S : List Nat} {m : Nat} {X X' : XT} (h : sOff S m X X') (ho : ∀ q ∈ S, 0 ≠ q) : X' m = X m := h _ fun q hq e => ho q hq (by omega)
theorem sOff_mono {S T : List Nat} {m : Nat} {X X' : XT} (h : sOff S m X X') (hs : ∀ o ∈ S, o ∈ T) : sOff T m X X' := fun b hb => h b fun o ho => hb o (hs o ho)
/-! ===== flights keep the land: whole flights ===== -/
theorem head_in {a b : Int} (ha : 0 ≤ a ∧ a ≤ 3) (hb : 0 ≤ b ∧ b ≤ 4) : 0 ≤ (a + b).tmod 4 ∧ (a + b).tmod 4 ≤ 3 := by
  rw [Int.tmod_eq_emod_of_nonneg (by omega)]
  omega
theorem flyS_same (th : Bool) (s len hb : Int) (hk : 0 ≤ hb ∧ hb ≤ 3) : ∀ (f : Nat) (w : WT) (x y h st : Int), flyOK w → pointB w x y = true → 0 ≤ h ∧ h ≤ 3 →
    sameL w (flyS th s len hb f w x y h st).1 ∧ (0 ≤ (flyS th s len hb f w x y h st).1 6 ∧ (flyS th s len hb f w x y h st).1 6 ≤ 99) ∧ pointB w (flyS th s len hb f w x y h st).2.1 (flyS th s len hb f w x y h st).2.2.1 = true
  | 0, w, x, y, h, st, hf, hp, hh => ⟨sameL_rf w, hf.2.2.1, hp⟩
  | f + 1, w, x, y, h, st, hf, hp, hh => by
    have ht := toldS_in (fctS w x y h st len s) (hf.2.2.2.2.2 hb hk.1 hk.2)
    have hq := turn_in w x y ht
    have hh' := head_in hh hq
    unfold flyS
    split
    · exact ⟨sameL_rf w, hf.2.2.1, hp⟩
    · dsimp only
      split
      · rename_i hpt
        have hy := yard_in hf.1 hh' hp hpt
        obtain ⟨m1, m2⟩ := mark_same w s st hy
        have f1 : flyOK (markS w s (yardS x y ((h + turnS w x y (toldS w hb (fctS w x y h st len s))).tmod 4)) st) := flyOK_same m1 (by rw [m2]; exact hf.2.2.1) hf
        generalize markS w s (yardS x y ((h + turnS w x y (toldS w hb (fctS w x y h st len s))).tmod 4)) st = w1 at *
        generalize (h + turnS w x y (toldS w hb (fctS w x y h st len s))).tmod 4 = h' at *
        have key : ∀ w2 : WT, sameL w1 w2 ∧ (0 ≤ w2 6 ∧ w2 6 ≤ 99) → sameL w (if catS w2 (x + adX h') (y + adY h') = true then (w2, x + adX h', y + adY h', h', st + 1) else flyS th s len hb f w2 (x + adX h') (y + adY h') h' (st + 1) : FT).1 ∧ (0 ≤ (if catS w2 (x + adX h') (y + adY h') = true then (w2, x + adX h', y + adY h', h', st + 1) else flyS th s len hb f w2 (x + adX h') (y + adY h') h' (st + 1) : FT).1 6 ∧ (if catS w2 (x + adX h') (y + adY h') = true then (w2, x + adX h', y + adY h', h', st + 1) else flyS th s len hb f w2 (x + adX h') (y + adY h') h' (st + 1) : FT).1 6 ≤ 99) ∧ pointB w (if catS w2 (x + adX h') (y + adY h') = true then (w2, x + adX h', y + adY h', h', st + 1) else flyS th s len hb f w2 (x + adX h') (y + adY h') h' (st + 1) : FT).2.1 (if catS w2 (x + adX h') (y + adY h') = true then (w2, x + adX h', y + adY h', h', st + 1) else flyS th s len hb f w2 (x + adX h') (y + adY h') h' (st + 1) : FT).2.2.1 = true := by
          intro w2 ⟨k1, k2⟩
          have f2 : flyOK w2 := flyOK_same k1 k2 f1
          have hs2 := sameL_tr m1 k1
          split
          · exact ⟨hs2, k2, hpt⟩
          · obtain ⟨r1, r2, r3⟩ := flyS_same th s len hb hk f w2 (x + adX h') (y + adY h') h' (st + 1) f2 (by rw [pointB_same hs2]; exact hpt) hh'
            exact ⟨sameL_tr hs2 r1, r2, by rw [← pointB_same hs2]; exact r3⟩
        by_cases ho : othS w1 s (x + adX h') (y + adY h') = -1
        · rw [if_pos ho]
          exact key w1 ⟨sameL_rf w1, f1.2.2.1⟩
        · rw [if_neg ho]
          exact key _ (sue_same th w1 s _ _ _ st f1.2.2.1)
      · exact ⟨sameL_rf w, hf.2.2.1, hp⟩
theorem flyO_same (th : Bool) {w : WT} {s : Int} (hf : flyOK w) (hs : 0 ≤ s ∧ s < w 4) : sameL w (flyO th w s).1 ∧ (0 ≤ (flyO th w s).1 6 ∧ (flyO th w s).1 6 ≤ 99) ∧ pointB w (flyO th w s).2.1 (flyO th w s).2.2.1 = true := by
  obtain ⟨a1, a2, a3, a4⟩ := hf.2.2.2.2.1 s hs.1 hs.2
  exact flyS_same th s _ _ a4 _ w _ _ _ 0 hf a1 a2
theorem clr_same (w : WT) : sameL w (clrW w) := by
  intro i hi
  unfold lndP at hi
  unfold clrW
  rw [if_neg hi.2.1, if_neg hi.1]
theorem clr_ok {w : WT} (hf : flyOK w) : flyOK (clrW w) := flyOK_same (clr_same w) (by unfold clrW; simp) hf
theorem flyN_same (th : Bool) {w : WT} (hf : flyOK w) : ∀ j : Nat, (j : Int) ≤ w 4 → sameL w (flyN th w j) ∧ flyOK (flyN th w j)
  | 0, _ => ⟨sameL_rf w, hf⟩
  | j + 1, hj => by
    obtain ⟨h1, h2⟩ := flyN_same th hf j (by omega)
    have h4 : flyN th w j 4 = w 4 := h1 4 (by unfold lndP; omega)
    obtain ⟨k1, k2, -⟩ := flyO_same th (s := j) h2 ⟨by omega, by omega⟩
    exact ⟨sameL_tr h1 k1, flyOK_same k1 k2 h2⟩
def endS (th : Bool) (w : WT) (i : Int) : FT := flyO th (flyN th (clrW w) i.toNat) i
/-! ===== counties ===== -/
def sideS (x y h : Int) : Int := if h = 0 then yardS x y 1 else if h = 1 then yardS (x + 1) y 2 else if h = 2 then yardS x (y + 1) 1 else yardS x y 2
def openB (w : WT) (x y h : Int) : Bool := placeB w (x + adX h) (y + adY h) && decide (w (850 + sideS x y h) = -1)
def nextS (c h : Int) : Int := c + adX h + 10 * adY h
abbrev BT : Type := WT × WT × Int
def spr1 (w : WT) (cell c h : Int) (s : BT) : BT := if openB w (c % 10) (c / 10) h = true ∧ s.2.1 (nextS c h) = -1 then (upW s.1 s.2.2 (nextS c h), upW s.2.1 (nextS c h) cell, s.2.2 + 1) else s
def spr4 (w : WT) (cell c : Int) : Nat → BT → BT
  | 0, s => s
  | h + 1, s => spr1 w cell c h (spr4 w cell c h s)
def sprF (w : WT) (cell : Int) : Nat → Int → BT → BT
  | 0, _, s => s
  | f + 1, i, s => if i < s.2.2 then sprF w cell f (i + 1) (spr4 w cell (s.1 i) 4 s) else s
def sprS (w : WT) (cell : Int) (q nm : WT) : BT := sprF w cell 100 0 (upW q 0 cell, upW nm cell cell, 1)
def cty1 (w : WT) (c : Int) (s : BT) : BT := if cellB w c = true ∧ s.2.1 c = -1 then ((sprS w c s.1 s.2.1).1, (sprS w c s.1 s.2.1).2.1, s.2.2 + 1) else s
def ctyN (w : WT) : Nat → BT → BT
  | 0, s => s
  | c + 1, s => cty1 w c (ctyN w c s)
def nonA (g : WT) : WT := fun i => if 0 ≤ i ∧ i < 100 then -1 else g i
def ctyS (w : WT) (q nm : WT) : BT := ctyN w 100 (q, nonA nm, 0)
/-- how many of the first cells have no name -/
def cntN (nm : WT) : Nat → Nat
  | 0 => 0
  | k + 1 => cntN nm k + if nm k = -1 then 1 else 0
theorem cntN_le (nm : WT) : ∀ k, cntN nm k ≤ k
  | 0 => Nat.le_refl 0
  | k + 1 => by
    unfold cntN
    have := cntN_le nm k
    split <;> omega
theorem cntN_lo {nm : WT} {p v : Int} : ∀ k : Nat, (k : Int) ≤ p → cntN (upW nm p v) k = cntN nm k
  | 0, _ => rfl
  | k + 1, h => by
    unfold cntN
    rw [cntN_lo k (by omega), upW_n (by omega)]
theorem cntN_up {nm : WT} {p v : Int} (h0 : 0 ≤ p) (hp : nm p = -1) (hv : v ≠ -1) : ∀ k : Nat, p < k → cntN (upW nm p v) k + 1 = cntN nm k
  | 0, h => by omega
  | k + 1, h => by
    unfold cntN
    by_cases e : (k : Int) = p
    · rw [cntN_lo k (by omega), e, upW_s, hp, if_neg hv, if_pos rfl]
    · rw [upW_n e, ← cntN_up h0 hp hv k (by omega)]
      omega
theorem open_next {w : WT} (hd : Dim w) {c h : Int} (hc : cellB w c = true) (hh : 0 ≤ h ∧ h ≤ 3) (ho : placeB w (c % 10 + adX h) (c / 10 + adY h) = true) : cellB w (nextS c h) = true ∧ 0 ≤ nextS c h ∧ nextS c h ≤ 99 ∧ nextS c h = 10 * (c / 10 + adY h) + (c % 10 + adX h) := by
  obtain ⟨c1, c2, c3, c4⟩ := cellB_t hd hc
  have ho' := placeB_t.mp ho
  unfold Dim at hd
  have e : nextS c h = 10 * (c / 10 + adY h) + (c % 10 + adX h) := by unfold nextS; omega
  have e1 : 0 ≤ nextS c h := by omega
  have e2 : nextS c h % 10 = c % 10 + adX h := by omega
  have e3 : nextS c h / 10 = c / 10 + adY h := by omega
  refine ⟨?_, e1, by omega, e⟩
  unfold cellB
  rw [tmod10 _ e1, tdiv10 _ e1, e2, e3, ho, decide_eq_true e1]
  rfl
theorem side_in {w : WT} (hd : Dim w) {x y h : Int} (hh : 0 ≤ h ∧ h ≤ 3) (h1 : placeB w x y = true) : 0 ≤ sideS x y h ∧ sideS x y h ≤ 241 := by
  rw [placeB_t] at h1
  unfold Dim at hd
  unfold sideS yardS
  have : h = 0 ∨ h = 1 ∨ h = 2 ∨ h = 3 := by omega
  rcases this with rfl | rfl | rfl | rfl <;> simp at * <;> omega
theorem cell_place {w : WT} {c : Int} (h : cellB w c = true) : 0 ≤ c ∧ placeB w (c % 10) (c / 10) = true := by
  unfold cellB at h
  rw [Bool.and_eq_true, decide_eq_true_eq] at h
  rw [tmod10 c h.1, tdiv10 c h.1] at h
  exact h
/-- while a county spreads -/
def sprI (w : WT) (s : BT) : Prop := 1 ≤ s.2.2 ∧ s.2.2 + cntN s.2.1 100 ≤ 100 ∧ ∀ i, 0 ≤ i → i < s.2.2 → cellB w (s.1 i) = true
theorem spr1_I {w : WT} (hd : Dim w) {cell c h : Int} {s : BT} (h0 : 0 ≤ cell) (hc : cellB w c = true) (hh : 0 ≤ h ∧ h ≤ 3) (hs : sprI w s) : sprI w (spr1 w cell c h s) := by
  unfold spr1
  split
  · rename_i hq
    obtain ⟨h1, h2⟩ := hq
    unfold openB at h1
    rw [Bool.and_eq_true] at h1
    obtain ⟨k1, k2, k3, -⟩ := open_next hd hc hh h1.1
    have hcn := cntN_up (v := cell) k2 h2 (by omega) 100 (by omega)
    obtain ⟨a1, a2, a3⟩ := hs
    refine ⟨by dsimp only; omega, by dsimp only; omega, fun i i1 i2 => ?_⟩
    dsimp only at i2 ⊢
    by_cases e : i = s.2.2
    · rw [e, upW_s]
      exact k1
    · rw [upW_n e]
      exact a3 i i1 (by omega)
  · exact hs
theorem spr4_I {w : WT} (hd : Dim w) {cell c : Int} {s : BT} (h0 : 0 ≤ cell) (hc : cellB w c = true) (hs : sprI w s) : ∀ h : Nat, h ≤ 4 → sprI w (spr4 w cell c h s)
  | 0, _ => hs
  | h + 1, hh => spr1_I hd h0 hc (by omega) (spr4_I hd h0 hc hs h (by omega))
theorem spr4_e (w : WT) (cell c : Int) (s : BT) : ∀ h : Nat, s.2.2 ≤ (spr4 w cell c h s).2.2
  | 0 => Int.le_refl _
  | h + 1 => by
    have := spr4_e w cell c s h
    show s.2.2 ≤ (spr1 w cell c h (spr4 w cell c h s)).2.2
    unfold spr1
    split
    · dsimp only
      omega
    · exact this
theorem sprF_end {w : WT} {cell i : Int} {s : BT} (h : s.2.2 ≤ i) : ∀ f : Nat, sprF w cell f i s = s
  | 0 => rfl
  | f + 1 => by
    unfold sprF
    rw [if_neg (by omega)]
/-! ===== counties: what stood in the arrays before doesn't count ===== -/
def bEq (s t : BT) : Prop := s.2.2 = t.2.2 ∧ (∀ i, 0 ≤ i → i < s.2.2 → s.1 i = t.1 i) ∧ ∀ c, 0 ≤ c → c < 100 → s.2.1 c = t.2.1 c
theorem spr1_congr {w : WT} (hd : Dim w) {cell c h : Int} {s t : BT} (hc : cellB w c = true) (hh : 0 ≤ h ∧ h ≤ 3) (hs : bEq s t) : bEq (spr1 w cell c h s) (spr1 w cell c h t) := by
  obtain ⟨e1, e2, e3⟩ := hs
  unfold spr1
  by_cases ho : openB w (c % 10) (c / 10) h = true
  · have ho2 := ho
    unfold openB at ho2
    rw [Bool.and_eq_true] at ho2
    obtain ⟨-, k2, k3, -⟩ := open_next hd hc hh ho2.1
    rw [e3 (nextS c h) k2 (by omega)]
    by_cases hn : t.2.1 (nextS c h) = -1
    · rw [if_pos ⟨ho, hn⟩, if_pos ⟨ho, hn⟩]
      refine ⟨by dsimp only; omega, fun i i1 i2 => ?_, fun i i1 i2 => ?_⟩
      · dsimp only at i2 ⊢
        rw [e1]
        by_cases e : i = t.2.2
        · rw [e, upW_s, upW_s]
        · rw [upW_n e, upW_n e]
          exact e2 i i1 (by omega)
      · dsimp only
        by_cases e : i = nextS c h
        · rw [e, upW_s, upW_s]
        · rw [upW_n e, upW_n e]
          exact e3 i i1 i2
    · rw [if_neg (fun z => hn z.2), if_neg (fun z => hn z.2)]
      exact ⟨e1, e2, e3⟩
  · rw [if_neg (fun z => ho z.1), if_neg (fun z => ho z.1)]
    exact ⟨e1, e2, e3⟩
theorem spr4_congr {w : WT} (hd : Dim w) {cell c : Int} {s t : BT} (hc : cellB w c = true) (hs : bEq s t) : ∀ h : Nat, h ≤ 4 → bEq (spr4 w cell c h s) (spr4 w cell c h t)
  | 0, _ => hs
  | h + 1, hh => spr1_congr hd hc (by omega) (spr4_congr hd hc hs h (by omega))
theorem sprF_congr {w : WT} (hd : Dim w) {cell : Int} (h0 : 0 ≤ cell) : ∀ (f : Nat) (i : Int) (s t : BT), 0 ≤ i → sprI w s → bEq s t → bEq (sprF w cell f i s) (sprF w cell f i t)
  | 0, _, _, _, _, _, hs => hs
  | f + 1, i, s, t, hi, hI, hs => by
    unfold sprF
    rw [← hs.1]
    by_cases e : i < s.2.2
    · rw [if_pos e, if_pos e, ← hs.2.1 i hi e]
      have hc := hI.2.2 i hi e
      exact sprF_congr hd h0 f (i + 1) _ _ (by omega) (spr4_I hd h0 hc hI 4 (by omega)) (spr4_congr hd hc hs 4 (by omega))
    · rw [if_neg e, if_neg e]
      exact hs
theorem sprS_I {w : WT} {cell : Int} {q nm : WT} (hc : cellB w cell = true) (h0 : 0 ≤ cell ∧ cell ≤ 99) (hn : nm cell = -1) : sprI w (upW q 0 cell, upW nm cell cell, 1) := by
  have := cntN_up (v := cell) h0.1 hn (by omega) 100 (by omega)
  have := cntN_le nm 100
  refine ⟨by dsimp only; omega, by dsimp only; omega, fun i i1 i2 => ?_⟩
  dsimp only at i2 ⊢
  rw [show i = 0 by omega, upW_s]
  exact hc
theorem sprS_congr {w : WT} (hd : Dim w) {cell : Int} {q q' nm nm' : WT} (hc : cellB w cell = true) (hn : nm cell = -1) (h : ∀ c, 0 ≤ c → c < 100 → nm c = nm' c) : ∀ c, 0 ≤ c → c < 100 → (sprS w cell q nm).2.1 c = (sprS w cell q' nm').2.1 c := by
  obtain ⟨c1, c2, -⟩ := cellB_t hd hc
  refine (sprF_congr hd c1 100 0 (upW q 0 cell, upW nm cell cell, 1) (upW q' 0 cell, upW nm' cell cell, 1) (by omega) (sprS_I hc ⟨c1, c2⟩ hn) ⟨rfl, fun i i1 i2 => ?_, fun i i1 i2 => ?_⟩).2.2
  · dsimp only at i2 ⊢
    rw [show i = 0 by omega, upW_s, upW_s]
  · dsimp only
    by_cases e : i = cell
    · rw [e, upW_s, upW_s]
    · rw [upW_n e, upW_n e]
      exact h i i1 i2
def cEq (s t : BT) : Prop := s.2.2 = t.2.2 ∧ ∀ c, 0 ≤ c → c < 100 → s.2.1 c = t.2.1 c
theorem cty1_congr {w : WT} (hd : Dim w) {c : Int} {s t : BT} (hs : cEq s t) : cEq (cty1 w c s) (cty1 w c t) := by
  obtain ⟨e1, e2⟩ := hs
  unfold cty1
  by_cases hc : cellB w c = true
  · obtain ⟨c1, c2, -⟩ := cellB_t hd hc
    rw [e2 c c1 (by omega)]
    by_cases hn : t.2.1 c = -1
    · rw [if_pos ⟨hc, hn⟩, if_pos ⟨hc, hn⟩]
      exact ⟨by dsimp only; omega, sprS_congr hd hc (by rw [e2 c c1 (by omega)]; exact hn) e2⟩
    · rw [if_neg (fun z => hn z.2), if_neg (fun z => hn z.2)]
      exact ⟨e1, e2⟩
  · rw [if_neg (fun z => hc z.1), if_neg (fun z => hc z.1)]
    exact ⟨e1, e2⟩
theorem ctyN_congr {w : WT} (hd : Dim w) {s t : BT} (hs : cEq s t) : ∀ k : Nat, cEq (ctyN w k s) (ctyN w k t)
  | 0 => hs
  | k + 1 => cty1_congr hd (ctyN_congr hd hs k)
def ctyZ (w : WT) : BT := ctyS w (fun _ => 0) (fun _ => 0)
/-- the counties' names, and how many they are -/
def nmS (w : WT) : WT := (ctyZ w).2.1
def numS (w : WT) : Int := (ctyZ w).2.2
theorem ctyS_z {w : WT} (hd : Dim w) (q nm : WT) : (ctyS w q nm).2.2 = numS w ∧ ∀ c, 0 ≤ c → c < 100 → (ctyS w q nm).2.1 c = nmS w c :=
  ctyN_congr (s := (q, nonA nm, 0)) (t := (fun _ => 0, nonA (fun _ => 0), 0)) hd ⟨rfl, fun c c1 c2 => by dsimp only [nonA]; rw [if_pos ⟨c1, c2⟩, if_pos ⟨c1, c2⟩]⟩ 100
/-! surveys and what is told of them -/
def surP (w nm : WT) (k : Int) : WT := fun i => if (520 ≤ i ∧ i < 520 + k) ∧ w (i - 300) ≠ 0 then nm (i - 520) else if (620 ≤ i ∧ i < 620 + k) ∧ w (i - 400) ≠ 0 then sWr (w i + (if w (i - 100) ≠ -1 ∧ w (i - 100) ≠ nm (i - 620) then 1 else 0)) else w i
theorem surP_0 (w nm : WT) : surP w nm 0 = w := by
  funext i
  unfold surP
  rw [if_neg (by omega), if_neg (by omega)]
theorem surP_off {w nm : WT} {k i : Int} (h1 : i ≠ 520 + k) (h2 : i ≠ 620 + k) : surP w nm (k + 1) i = surP w nm k i := by
  unfold surP
  by_cases a1 : (520 ≤ i ∧ i < 520 + k) ∧ w (i - 300) ≠ 0
  · rw [if_pos a1, if_pos ⟨by omega, a1.2⟩]
  · rw [if_neg a1, if_neg (fun z => a1 ⟨by omega, z.2⟩)]
    by_cases a2 : (620 ≤ i ∧ i < 620 + k) ∧ w (i - 400) ≠ 0
    · rw [if_pos a2, if_pos ⟨by omega, a2.2⟩]
    · rw [if_neg a2, if_neg (fun z => a2 ⟨by omega, z.2⟩)]
theorem surP_skip {w nm : WT} {k : Int} (h0 : 0 ≤ k ∧ k < 100) (h : w (220 + k) = 0) : surP w nm (k + 1) = surP w nm k := by
  funext i
  by_cases e1 : i = 520 + k
  · unfold surP
    rw [if_neg (fun z => z.2 (by rw [show i - 300 = 220 + k by omega]; exact h)), if_neg (by omega), if_neg (by omega), if_neg (by omega)]
  · by_cases e2 : i = 620 + k
    · unfold surP
      rw [if_neg (by omega), if_neg (fun z => z.2 (by rw [show i - 400 = 220 + k by omega]; exact h)), if_neg (by omega), if_neg (by omega)]
    · exact surP_off e1 e2
theorem surP_step {w nm : WT} {k : Int} (h0 : 0 ≤ k ∧ k < 100) (h : w (220 + k) ≠ 0) : upW (upW (surP w nm k) (620 + k) (sWr (w (620 + k) + (if w (520 + k) ≠ -1 ∧ w (520 + k) ≠ nm k then 1 else 0)))) (520 + k) (nm k) = surP w nm (k + 1) := by
  funext i
  by_cases e1 : i = 520 + k
  · subst e1
    rw [upW_s]
    unfold surP
    rw [if_pos ⟨by omega, by rw [show (520 : Int) + k - 300 = 220 + k by omega]; exact h⟩, show (520 : Int) + k - 520 = k by omega]
  · rw [upW_n e1]
    by_cases e2 : i = 620 + k
    · subst e2
      rw [upW_s]
      have e : surP w nm (k + 1) (620 + k) = sWr (w (620 + k) + (if w (620 + k - 100) ≠ -1 ∧ w (620 + k - 100) ≠ nm (620 + k - 620) then 1 else 0)) := by
        unfold surP
        rw [if_neg (by omega), if_pos ⟨by omega, by rw [show (620 : Int) + k - 400 = 220 + k by omega]; exact h⟩]
      rw [e, show (620 : Int) + k - 100 = 520 + k by omega, show (620 : Int) + k - 620 = k by omega]
    · rw [upW_n e2]
      exact (surP_off e1 e2).symm
theorem surP_congr {w nm nm' : WT} (h : ∀ c, 0 ≤ c → c < 100 → nm c = nm' c) : surP w nm 100 = surP w nm' 100 := by
  funext i
  unfold surP
  by_cases e1 : (520 ≤ i ∧ i < 520 + 100) ∧ w (i - 300) ≠ 0
  · rw [if_pos e1, if_pos e1]
    exact h _ (by omega) (by omega)
  · rw [if_neg e1, if_neg e1]
    by_cases e2 : (620 ≤ i ∧ i < 620 + 100) ∧ w (i - 400) ≠ 0
    · rw [if_pos e2, if_pos e2, h _ (by omega) (by omega)]
    · rw [if_neg e2, if_neg e2]
/-- a survey: the threads, then the barns -/
def surW (w : WT) : WT := surP (allF false w) (nmS (allF false w)) 100
def surN (w : WT) : Int := numS (allF false w)
def drwW (w : WT) (c : Int) : WT := upW (upW w 2 (nxtS (w 2))) (20 + c) ((ushS (nxtS (w 2)) 8).tmod (if w (120 + c) = 1 then 40 else 10))
def sprN (w : WT) : Nat → WT
  | 0 => w
  | c + 1 => if cellB w c = true then drwW (sprN w c) c else sprN w c
def sprW (w : WT) : WT := upW (surW (sprN w 100)) 3 (w 3 + 1)
def szN (nm : WT) (a : Int) : Nat → Int
  | 0 => 0
  | k + 1 => szN nm a k + if nm k = a then 1 else 0
def ofS (w : WT) (c t : Int) : Int := if cellB w c = true ∧ inB t 0 8 = true then
    (if t = 0 then w (20 + c) else if t = 1 then seenS w (c % 10) (c / 10) else if t = 2 then w (120 + c) else if t = 3 then w (220 + c) else if t = 4 then w (320 + c) else if t = 5 then nmS w c else if t = 6 then szN (nmS w) (nmS w c) 100 else if t = 7 then (if w (220 + c) = 1 then w (620 + c) else 0) else w (420 + c))
  else -1
def yardV (w : WT) (x y h t : Int) : Int := if pointB w x y = true ∧ inB h 0 3 = true ∧ pointB w (x + adX h) (y + adY h) = true ∧ inB t 0 1 = true then w ((if t = 0 then 850 else 1092) + yardS x y h) else -2
def farS (a b : Int) : Int := if a < b then b - a else a - b
def judN (w : WT) (x y : Int) : Nat → Int × Int
  | 0 => (-1, 0)
  | k + 1 => if (judN w x y k).1 ≠ -1 ∧ (judN w x y k).2 ≤ farS (w (1840 + 2 * k)) x + farS (w (1840 + 2 * k + 1)) y then judN w x y k else ((k : Int), farS (w (1840 + 2 * k)) x + farS (w (1840 + 2 * k + 1)) y)
def suitV (w : WT) (i t : Int) : Int := if inB i 0 (w 6 - 1) = true ∧ inB t 0 5 = true then (if t < 5 then w (1340 + 5 * i + t) else (judN w (w (1340 + 5 * i + 2)) (w (1340 + 5 * i + 3)) (w 5).toNat).1) else -1
def hitS (w : WT) (s a b k : Int) : Bool := decide (w (850 + k) = s) && inB (w (1092 + k)) a b
def stlP (w : WT) (s a b k : Int) : WT := fun i => if (850 ≤ i ∧ i < 850 + k) ∧ hitS w s a b (i - 850) = true then -1 else if (1092 ≤ i ∧ i < 1092 + k) ∧ hitS w s a b (i - 1092) = true then -1 else w i
def stlN (w : WT) (s a b : Int) : Nat → Int
  | 0 => 0
  | k + 1 => stlN w s a b k + if hitS w s a b k = true then 1 else 0
def stlB (w : WT) (s a b : Int) : Bool := inB s 0 (w 4 - 1) && inB a 0 b
def thrN (w : WT) : Nat → Int
  | 0 => 0
  | k + 1 => thrN w k + if w (850 + k) ≠ -1 then 1 else 0
def lookS (w : WT) (bm t : Int) : Int := if t = 0 then w 0 else if t = 1 then w 1 else if t = 2 then w 2 else if t = 3 then w 3 else if t = 4 then w 4 else if t = 5 then w 5 else if t = 6 then numS w else if t = 7 then w 6 else if t = 8 then thrN w 242 else if t = 9 then bm else if t = 20 then w 7 else if t = 21 then w 8 else if 10 ≤ t ∧ t ≤ 13 then w (1985 + t - 10) else -1
def cpyW (f g : WT) (k : Int) : WT := fun i => if 0 ≤ i ∧ i < k then f i else g i
def dupN (w : WT) (c : Int) : Nat → Bool
  | 0 => false
  | k + 1 => dupN w c k || decide (w (1900 + 3 * k) = c)
def hatB (w : WT) (c f p : Int) : Bool := cellB w c && (inB f 0 99 && (inB p 0 10 && (decide (w 7 ≠ 6) && !dupN w c (w 7).toNat)))
def hatW (w : WT) (c f p : Int) : WT := upW (upW (upW (upW w (1900 + 3 * w 7) c) (1900 + 3 * w 7 + 1) f) (1900 + 3 * w 7 + 2) p) 7 (w 7 + 1)
def clmB (w : WT) (a b : Int) : Bool := cellB w a && (cellB w b && (decide (a ≠ b) && decide (w 8 ≠ 20)))
def clmW (w : WT) (a b : Int) (o : Bool) : WT := upW (upW (upW (upW w (1920 + 3 * w 8) a) (1920 + 3 * w 8 + 1) b) (1920 + 3 * w 8 + 2) (bI o)) 8 (w 8 + 1)
theorem ush8_rg (s : Int) : 0 ≤ ushS s 8 ∧ ushS s 8 ≤ 16777215 := by
  have h := pk_ushr (sI s) 8 8 (by decide +kernel)
  have h2 : (sI s).toBitVec.toNat < 2 ^ 32 := (sI s).toBitVec.isLt
  unfold ushS
  rw [show sI 8 = 8 from rfl]
  generalize ((sI s).toUInt32 >>> ((8 : Int32).toUInt32 &&& Int32.toUInt32 31)).toInt32 = z at h ⊢
  have h3 : z.toBitVec.toNat < 2 ^ 24 := by rw [h]; omega
  have h4 : z.toInt = z.toBitVec.toInt := rfl
  rw [h4, BitVec.toInt_eq_toNat_of_lt (by omega)]
  omega
theorem judN_s (w : WT) (x y : Int) (k : Nat) : judN w x y (k + 1) = if (judN w x y k).1 ≠ -1 ∧ (judN w x y k).2 ≤ farS (w (1840 + 2 * k)) x + farS (w (1840 + 2 * k + 1)) y then judN w x y k else ((k : Int), farS (w (1840 + 2 * k)) x + farS (w (1840 + 2 * k + 1)) y) := rfl
theorem dup_mono {w : WT} {c : Int} {k : Nat} (h : dupN w c k = true) : ∀ j, k ≤ j → dupN w c j = true
  | 0, hj => by
    rw [show k = 0 by omega] at h
    exact h
  | j + 1, hj => by
    by_cases e : k = j + 1
    · rw [← e]
      exact h
    · unfold dupN
      rw [dup_mono h j (by omega)]
      rfl
/-! ===== in thought ===== -/
theorem flyS_hi (s len hb : Int) (hk : 0 ≤ hb ∧ hb ≤ 3) : ∀ (f : Nat) (w : WT) (x y h st : Int), flyOK w → pointB w x y = true → 0 ≤ h ∧ h ≤ 3 → ∀ i, 1340 ≤ i → (flyS true s len hb f w x y h st).1 i = w i
  | 0, w, x, y, h, st, hf, hp, hh, i, hi => rfl
  | f + 1, w, x, y, h, st, hf, hp, hh, i, hi => by
    have ht := toldS_in (fctS w x y h st len s) (hf.2.2.2.2.2 hb hk.1 hk.2)
    have hq := turn_in w x y ht
    have hh' := head_in hh hq
    unfold flyS
    split
    · rfl
    · dsimp only
      split
      · rename_i hpt
        have hy := yard_in hf.1 hh' hp hpt
        obtain ⟨m1, m2⟩ := mark_same w s st hy
        have f1 : flyOK (markS w s (yardS x y ((h + turnS w x y (toldS w hb (fctS w x y h st len s))).tmod 4)) st) := flyOK_same m1 (by rw [m2]; exact hf.2.2.1) hf
        have m3 : markS w s (yardS x y ((h + turnS w x y (toldS w hb (fctS w x y h st len s))).tmod 4)) st i = w i := by
          unfold markS
          split
          · rw [upW_n (by omega), upW_n (by omega)]
          · rfl
        generalize markS w s (yardS x y ((h + turnS w x y (toldS w hb (fctS w x y h st len s))).tmod 4)) st = w1 at *
        generalize (h + turnS w x y (toldS w hb (fctS w x y h st len s))).tmod 4 = h' at *
        have key : ∀ w2 : WT, sameL w1 w2 ∧ (0 ≤ w2 6 ∧ w2 6 ≤ 99) → w2 i = w1 i → (if catS w2 (x + adX h') (y + adY h') = true then (w2, x + adX h', y + adY h', h', st + 1) else flyS true s len hb f w2 (x + adX h') (y + adY h') h' (st + 1) : FT).1 i = w i := by
          intro w2 ⟨k1, k2⟩ k3
          have f2 : flyOK w2 := flyOK_same k1 k2 f1
          have hs2 := sameL_tr m1 k1
          split
          · exact k3.trans m3
          · exact (flyS_hi s len hb hk f w2 _ _ h' (st + 1) f2 (by rw [pointB_same hs2]; exact hpt) hh' i hi).trans (k3.trans m3)
        by_cases ho : othS w1 s (x + adX h') (y + adY h') = -1
        · rw [if_pos ho]
          exact key w1 ⟨sameL_rf w1, f1.2.2.1⟩ rfl
        · rw [if_neg ho]
          refine key _ (sue_same true w1 s _ _ _ st f1.2.2.1) ?_
          unfold sueS suitW
          split
          · rfl
          · rw [upW_n (by omega), if_pos rfl]
      · rfl
theorem flyN_hi {w : WT} (hf : flyOK w) : ∀ j : Nat, (j : Int) ≤ w 4 → ∀ i, 1340 ≤ i → flyN true w j i = w i
  | 0, _, _, _ => rfl
  | j + 1, hj, i, hi => by
    obtain ⟨h1, h2⟩ := flyN_same true hf j (by omega)
    have h4 : flyN true w j 4 = w 4 := h1 4 (by unfold lndP; omega)
    obtain ⟨a1, a2, a3, a4⟩ := h2.2.2.2.2.1 j (by omega) (by omega)
    exact (flyS_hi j _ _ a4 _ _ _ _ _ 0 h2 a1 a2 i hi).trans (flyN_hi hf j (by omega) i hi)
theorem allF_hi {w : WT} (hf : flyOK w) : ∀ i, 1340 ≤ i → allF true w i = w i := fun i hi =>
  (flyN_hi (clr_ok hf) (w 4).toNat (by rw [show clrW w 4 = w 4 from rfl]; have := hf.2.1; omega) i hi).trans (by unfold clrW; rw [if_neg (by omega), if_neg (by omega)])
theorem thought_back {w0 w1 g : WT} (hf : flyOK w1) (h1 : ∀ i, (i < 0 ∨ 1340 ≤ i) → w1 i = w0 i) : cpyW (cpyW w0 g 1340) (allF true w1) 1340 = w0 := by
  funext i
  unfold cpyW
  by_cases e : 0 ≤ i ∧ i < 1340
  · rw [if_pos e, if_pos e]
  · rw [if_neg e]
    by_cases e2 : 1340 ≤ i
    · rw [allF_hi hf i e2, h1 i (Or.inr e2)]
    · obtain ⟨k1, -⟩ := flyN_same true (clr_ok hf) (w1 4).toNat (by rw [show clrW w1 4 = w1 4 from rfl]; have := hf.2.1; omega)
      have := sameL_tr (clr_same w1) k1 i (by unfold lndP; omega)
      exact this.trans (h1 i (Or.inl (by omega)))
def endV (w : WT) (s t : Int) : Int := if inB s 0 (w 4 - 1) = true ∧ inB t 0 3 = true then (if t = 0 then (endS true w s).2.1 else if t = 1 then (endS true w s).2.2.1 else if t = 2 then (endS true w s).2.2.2.2 else (endS true w s).2.2.2.1) else -1
def freeB (w : WT) (c : Int) : Bool := cellB w c && decide (w (120 + c) = 0)
/-- ponds in up to two cells -/
def pndW (w : WT) (a b : Int) : WT := if b = -1 then (if a = -1 then w else upW w (120 + a) 1) else upW (if a = -1 then w else upW w (120 + a) 1) (120 + b) 1
def oneS (w : WT) (a b : Int) : Bool := decide (nmS (allF true w) a = nmS (allF true w) b)
abbrev QT : Type := Int × Int × Int × Int
def prcS (w : WT) (c : Int) : Int := if c = -1 then 0 else w (420 + c)
def mnyS (c : Int) : Int := if c = -1 then 0 else 1
def tryS (w : WT) (a b o t : Int) (q : QT) : QT :=
  if q.1 ≠ -1 ∧ (q.1 < prcS w o + prcS w t ∨ (prcS w o + prcS w t = q.1 ∧ q.2.1 ≤ mnyS o + mnyS t)) then q
  else if oneS (pndW w o t) a b = true then (prcS w o + prcS w t, mnyS o + mnyS t, o, t) else q
def pl1 (w : WT) (a b : Int) : Nat → QT → QT
  | 0, q => q
  | c + 1, q => if freeB w c = true then tryS w a b c (-1) (pl1 w a b c q) else pl1 w a b c q
def pl2 (w : WT) (a b o : Int) : Nat → QT → QT
  | 0, q => q
  | c + 1, q => if o < c ∧ freeB w o = true ∧ freeB w c = true then tryS w a b o c (pl2 w a b o c q) else pl2 w a b o c q
def pl3 (w : WT) (a b : Int) : Nat → QT → QT
  | 0, q => q
  | c + 1, q => pl2 w a b c 100 (pl3 w a b c q)
def planQ (w : WT) (a b : Int) (q : QT) : QT := if (tryS w a b (-1) (-1) q).1 = -1 then pl3 w a b 100 (pl1 w a b 100 (tryS w a b (-1) (-1) q)) else tryS w a b (-1) (-1) q
def planB (w : WT) (a b t : Int) : Bool := cellB w a && (cellB w b && (decide (a ≠ b) && (decide (w 0 * w 1 ≤ 36) && inB t 0 3)))
def planV (q : QT) (t : Int) : Int := if q.1 = -1 then -1 else if t = 0 then q.1 else if t = 1 then q.2.1 else if t = 2 then q.2.2.1 else q.2.2.2
def bitS (s i : Int) : Int := andS (shrS s i) 1
def hchN (w : WT) (s : Int) : Nat → WT
  | 0 => w
  | i + 1 => upW (hchN w s i) (20 + w (1900 + 3 * i)) (hchN w s i (20 + w (1900 + 3 * i)) + bitS s i * w (1900 + 3 * i + 1))
def hchW (w : WT) (s : Int) : WT := hchN w s (w 7).toNat
def wgtN (w : WT) (s : Int) : Nat → Int
  | 0 => 1
  | i + 1 => sWr (wgtN w s i * (if bitS s i = 1 then w (1900 + 3 * i + 2) else 10 - w (1900 + 3 * i + 2)))
def oddN (w : WT) (a b : Int) : Nat → Int
  | 0 => 0
  | s + 1 => oddN w a b s + (if wgtN w s (w 7).toNat = 0 then 0 else if oneS (hchW w s) a b = true then wgtN w s (w 7).toNat else 0)
def oddV (w : WT) (a b : Int) : Int := if cellB w a = true ∧ cellB w b = true then oddN w a b (shlS 1 (w 7)).toNat else -1
def goesN (w nm : WT) : Nat → Bool
  | 0 => true
  | i + 1 => goesN w nm i && (decide (nm (w (1920 + 3 * i)) = nm (w (1920 + 3 * i + 1))) == decide (w (1920 + 3 * i + 2) = 1))
def bckN (w : WT) : Nat → Int × Int × Int
  | 0 => (0, 0, -1)
  | s + 1 => if goesN w (nmS (allF true (hchW w s))) (w 8).toNat = true then ((bckN w s).1 + 1, if (bckN w s).1 = 0 then (s : Int) else andS (bckN w s).2.1 s, if (bckN w s).1 = 0 then (s : Int) else (bckN w s).2.2) else bckN w s
def bckV (w : WT) (t : Int) : Int := if inB t 0 2 = true then (if t = 0 then (bckN w (shlS 1 (w 7)).toNat).1 else if t = 1 then (bckN w (shlS 1 (w 7)).toNat).2.1 else (bckN w (shlS 1 (w 7)).toNat).2.2) else -1
theorem pl2_lo (w : WT) (a b o : Int) {q : QT} : ∀ k : Nat, (k : Int) ≤ o + 1 → pl2 w a b o k q = q
  | 0, _ => rfl
  | k + 1, h => by
    unfold pl2
    rw [if_neg (by omega)]
    exact pl2_lo w a b o k (by omega)
/-! ===== ways from county to county ===== -/
def prvS (c h : Int) : Int := c - 10 * adY h - adX h
abbrev MT : Type := WT × WT × Int
def way1 (w fl : WT) (c h : Int) (s : MT) : MT := if openB w (c % 10) (c / 10) h = true ∧ fl (4 * c + h) ≠ 1 ∧ s.1 (nextS c h) = -1 then (upW s.1 (nextS c h) h, upW s.2.1 s.2.2 (nextS c h), s.2.2 + 1) else s
def way4 (w fl : WT) (c : Int) : Nat → MT → MT
  | 0, s => s
  | h + 1, s => way1 w fl c h (way4 w fl c h s)
def wayF (w fl : WT) (b : Int) : Nat → Int → MT → MT
  | 0, _, s => s
  | f + 1, i, s => if i < s.2.2 ∧ s.1 b = -1 then wayF w fl b f (i + 1) (way4 w fl (s.2.1 i) 4 s) else s
def way0 (a : Int) : MT := (upW (fun _ => -1) a 4, upW (fun _ => 0) 0 a, 1)
def wayS (w fl : WT) (a b : Int) : MT := wayF w fl b 100 0 (way0 a)
def rtr1 (c h : Int) (fl : WT) : WT := upW (upW fl (4 * prvS c h + h) (sWr (fl (4 * prvS c h + h) + 1))) (4 * c + (h + 2) % 4) (sWr (fl (4 * c + (h + 2) % 4) - 1))
def rtr (cam : WT) (a : Int) : Nat → Int → WT → WT
  | 0, _, fl => fl
  | f + 1, c, fl => if c = a then fl else rtr cam a f (prvS c (cam c)) (rtr1 c (cam c) fl)
def wayB (w fl : WT) (a b : Int) : Bool := decide ((wayS w fl a b).1 b ≠ -1)
def wayR (w fl : WT) (a b : Int) : WT := if wayB w fl a b = true then rtr (wayS w fl a b).1 a 100 b fl else fl
def prtF (w : WT) (a b : Int) : Nat → Int → WT → Int
  | 0, k, _ => k
  | f + 1, k, fl => if wayB w fl a b = true then prtF w a b f (k + 1) (wayR w fl a b) else k
def prtV (w : WT) (a b : Int) : Int := if cellB w a = true ∧ cellB w b = true ∧ a ≠ b then prtF w a b 5 0 (fun _ => 0) else -1
theorem adXY {h : Int} (hh : 0 ≤ h ∧ h ≤ 3) : (h = 0 ∨ h = 1 ∨ h = 2 ∨ h = 3) := by omega
theorem prv_next {c h : Int} : prvS (nextS c h) h = c := by unfold prvS nextS; omega
/-- while ways are looked for -/
def wayI (w fl : WT) (a : Int) (s : MT) : Prop := 1 ≤ s.2.2 ∧ s.2.2 + cntN s.1 100 ≤ 100 ∧ s.1 a = 4 ∧ (∀ i, 0 ≤ i → i < s.2.2 → cellB w (s.2.1 i) = true ∧ s.1 (s.2.1 i) ≠ -1 ∧ (s.2.1 i ≠ a → (0 ≤ s.1 (s.2.1 i) ∧ s.1 (s.2.1 i) ≤ 3) ∧ fl (4 * prvS (s.2.1 i) (s.1 (s.2.1 i)) + s.1 (s.2.1 i)) ≠ 1 ∧ ∃ j, 0 ≤ j ∧ j < i ∧ s.2.1 j = prvS (s.2.1 i) (s.1 (s.2.1 i)))) ∧ ∀ c, 0 ≤ c → c < 100 → s.1 c ≠ -1 → ∃ i, 0 ≤ i ∧ i < s.2.2 ∧ s.2.1 i = c
theorem way1_I {w fl : WT} (hd : Dim w) {a c h i : Int} {s : MT} (hc : cellB w c = true) (hh : 0 ≤ h ∧ h ≤ 3) (hi : 0 ≤ i ∧ i < s.2.2) (hq : s.2.1 i = c) (hs : wayI w fl a s) : wayI w fl a (way1 w fl c h s) ∧ s.2.2 ≤ (way1 w fl c h s).2.2 ∧ (way1 w fl c h s).2.1 i = c := by
  unfold way1
  split
  · rename_i hz
    obtain ⟨h1, h2, h3⟩ := hz
    unfold openB at h1
    rw [Bool.and_eq_true] at h1
    obtain ⟨k1, k2, k3, -⟩ := open_next hd hc hh h1.1
    have hcn := cntN_up (v := h) k2 h3 (by omega) 100 (by omega)
    obtain ⟨a1, a2, a3, a4, a5⟩ := hs
    have hna : a ≠ nextS c h := fun e => by rw [e, h3] at a3; omega
    refine ⟨⟨by dsimp only; omega, by dsimp only; omega, by dsimp only; rw [upW_n hna]; exact a3, fun k z1 z2 => ?_, fun x x1 x2 x3 => ?_⟩, by dsimp only; omega, by dsimp only; rw [upW_n (by omega)]; exact hq⟩
    · dsimp only at z2 ⊢
      by_cases e : k = s.2.2
      · rw [e, upW_s, upW_s]
        refine ⟨k1, by omega, fun _ => ⟨hh, by rw [prv_next]; exact h2, i, hi.1, hi.2, ?_⟩⟩
        rw [upW_n (by omega), prv_next, hq]
      · rw [upW_n e]
        obtain ⟨b1, b2, b3⟩ := a4 k z1 (by omega)
        have hne : s.2.1 k ≠ nextS c h := fun e => b2 (by rw [e]; exact h3)
        rw [upW_n hne]
        refine ⟨b1, b2, fun z => ?_⟩
        obtain ⟨d1, d2, j, d3, d4, d5⟩ := b3 z
        exact ⟨d1, d2, j, d3, d4, by rw [upW_n (by omega)]; exact d5⟩
    · dsimp only at x3 ⊢
      by_cases e : x = nextS c h
      · exact ⟨s.2.2, by omega, by omega, by rw [upW_s, e]⟩
      · rw [upW_n e] at x3
        obtain ⟨j, j1, j2, j3⟩ := a5 x x1 x2 x3
        exact ⟨j, j1, by omega, by rw [upW_n (by omega)]; exact j3⟩
  · exact ⟨hs, Int.le_refl _, hq⟩
theorem way4_I {w fl : WT} (hd : Dim w) {a c i : Int} {s : MT} (hc : cellB w c = true) (hi : 0 ≤ i ∧ i < s.2.2) (hq : s.2.1 i = c) (hs : wayI w fl a s) : ∀ h : Nat, h ≤ 4 → wayI w fl a (way4 w fl c h s) ∧ s.2.2 ≤ (way4 w fl c h s).2.2 ∧ (way4 w fl c h s).2.1 i = c
  | 0, _ => ⟨hs, Int.le_refl _, hq⟩
  | h + 1, hh => by
    obtain ⟨h1, h2, h3⟩ := way4_I hd hc hi hq hs h (by omega)
    obtain ⟨k1, k2, k3⟩ := way1_I hd (h := h) hc (by omega) ⟨hi.1, by omega⟩ h3 h1
    exact ⟨k1, Int.le_trans h2 k2, k3⟩
theorem way0_I {w fl : WT} {a : Int} (hc : cellB w a = true) (h99 : 0 ≤ a ∧ a ≤ 99) : wayI w fl a (way0 a) := by
  have hcn := cntN_up (nm := fun _ => -1) (v := 4) h99.1 rfl (by omega) 100 (by omega)
  have := cntN_le (fun _ => -1) 100
  unfold way0
  refine ⟨by dsimp only; omega, by dsimp only; omega, by dsimp only; exact upW_s, fun i i1 i2 => ?_, fun c c1 c2 c3 => ?_⟩
  · dsimp only at i2 ⊢
    rw [show i = 0 by omega, upW_s, upW_s]
    exact ⟨hc, by omega, fun z => absurd rfl z⟩
  · dsimp only at c3 ⊢
    refine ⟨0, by omega, by omega, ?_⟩
    by_cases e : c = a
    · rw [upW_s, e]
    · rw [upW_n e] at c3
      exact absurd rfl c3
theorem wayF_I {w fl : WT} (hd : Dim w) {a b : Int} : ∀ (f : Nat) (i : Int) (s : MT), 0 ≤ i → wayI w fl a s → wayI w fl a (wayF w fl b f i s)
  | 0, _, _, _, hs => hs
  | f + 1, i, s, hi, hs => by
    unfold wayF
    split
    · rename_i hz
      exact wayF_I hd f (i + 1) _ (by omega) (way4_I hd (hs.2.2.2.1 i hi hz.1).1 ⟨hi, hz.1⟩ rfl hs 4 (by omega)).1
    · exact hs
theorem wayF_end {w fl : WT} {b i : Int} {s : MT} (h : ¬(i < s.2.2 ∧ s.1 b = -1)) : ∀ f : Nat, wayF w fl b f i s = s
  | 0 => rfl
  | f + 1 => by
    unfold wayF
    rw [if_neg h]
theorem wayS_I {w fl : WT} (hd : Dim w) {a b : Int} (hc : cellB w a = true) (h99 : 0 ≤ a ∧ a ≤ 99) : wayI w fl a (wayS w fl a b) := wayF_I hd 100 0 _ (by omega) (way0_I hc h99)
/-- how many yards of a are not taken -/
def zer (fl : WT) (a : Int) : Nat := (if fl (4 * a) = 1 then 0 else 1) + (if fl (4 * a + 1) = 1 then 0 else 1) + (if fl (4 * a + 2) = 1 then 0 else 1) + (if fl (4 * a + 3) = 1 then 0 else 1)
def ylds (fl : WT) (a : Int) : Prop := ∀ h, 0 ≤ h → h ≤ 3 → fl (4 * a + h) = 0 ∨ fl (4 * a + h) = 1
theorem zer_le (fl : WT) (a : Int) : zer fl a ≤ 4 := by unfold zer; (repeat' split) <;> omega
theorem yar_ne {a c h g : Int} (hc : c ≠ a) (h1 : 0 ≤ h) (h2 : h ≤ 3) (g1 : 0 ≤ g ∧ g ≤ 3) : 4 * a + h ≠ 4 * c + g := by omega
theorem op_in (u : Int) : 0 ≤ (u + 2) % 4 ∧ (u + 2) % 4 ≤ 3 := by omega
/-- going back along a way: a's yards -/
theorem rtr_a {w fl0 : WT} {a : Int} {s : MT} (hs : wayI w fl0 a s) (ha : 0 ≤ a) : ∀ (f : Nat) (i : Int) (fl : WT), 0 ≤ i → i < s.2.2 → i < f → (∀ h, 0 ≤ h → h ≤ 3 → fl (4 * a + h) = fl0 (4 * a + h)) → (s.2.1 i = a → rtr s.1 a f (s.2.1 i) fl = fl) ∧ (s.2.1 i ≠ a → ∃ g, (0 ≤ g ∧ g ≤ 3) ∧ fl0 (4 * a + g) ≠ 1 ∧ ∀ h, 0 ≤ h → h ≤ 3 → rtr s.1 a f (s.2.1 i) fl (4 * a + h) = if h = g then sWr (fl0 (4 * a + g) + 1) else fl0 (4 * a + h))
  | 0, i, _, _, _, hf, _ => by omega
  | f + 1, i, fl, h1, h2, hf, he => by
    unfold rtr
    refine ⟨fun z => by rw [if_pos z], fun z => ?_⟩
    rw [if_neg z]
    obtain ⟨b1, b2, b3⟩ := hs.2.2.2.1 i h1 h2
    obtain ⟨d1, d2, j, d3, d4, d5⟩ := b3 z
    have hc0 : 0 ≤ s.2.1 i := (cell_place b1).1
    obtain ⟨c, hc⟩ : ∃ c, c = s.2.1 i := ⟨_, rfl⟩
    rw [← hc] at b1 b2 b3 z d1 d2 d5 hc0 ⊢
    obtain ⟨u, hu⟩ : ∃ u, u = s.1 c := ⟨_, rfl⟩
    rw [← hu] at b2 d1 d2 d5 ⊢
    rw [← d5]
    by_cases hj : s.2.1 j = a
    · rw [hj] at d5
      refine ⟨u, d1, by rw [d5]; exact d2, fun h h3 h4 => ?_⟩
      have e0 : rtr s.1 a f (s.2.1 j) (rtr1 c u fl) = rtr1 c u fl := by
        rw [hj]
        cases f with
        | zero => rfl
        | succ f => unfold rtr; rw [if_pos rfl]
      rw [e0]
      unfold rtr1
      rw [← d5, upW_n (yar_ne z h3 h4 (op_in u))]
      by_cases e : h = u
      · rw [if_pos e, e, upW_s, he u d1.1 d1.2]
      · rw [if_neg e, upW_n (fun q => e (by omega)), he h h3 h4]
    · have hj0 : 0 ≤ s.2.1 j := (cell_place (hs.2.2.2.1 j d3 (by omega)).1).1
      have := (rtr_a (fl0 := fl0) hs ha f j (rtr1 c u fl) d3 (by omega) (by omega) (fun h h3 h4 => ?_)).2 hj
      · exact this
      · unfold rtr1
        rw [← d5, upW_n (yar_ne z h3 h4 (op_in u)), upW_n (yar_ne hj h3 h4 d1)]
        exact he h h3 h4
theorem wayR_z {w fl : WT} (hd : Dim w) {a b : Int} (hc : cellB w a = true) (h99 : 0 ≤ a ∧ a ≤ 99) (hb : 0 ≤ b ∧ b ≤ 99) (hab : a ≠ b) (hy : ylds fl a) (hw : wayB w fl a b = true) : ylds (wayR w fl a b) a ∧ zer (wayR w fl a b) a + 1 = zer fl a := by
  have hI := wayS_I (fl := fl) hd (b := b) hc h99
  unfold wayR
  rw [if_pos hw]
  unfold wayB at hw
  rw [decide_eq_true_eq] at hw
  obtain ⟨i, i1, i2, i3⟩ := hI.2.2.2.2 b hb.1 (by omega) hw
  have hle := hI.2.1
  obtain ⟨g, g1, g2, g3⟩ := (rtr_a hI h99.1 100 i fl i1 i2 (by omega) (fun _ _ _ => rfl)).2 (by rw [i3]; exact hab.symm)
  rw [i3] at g3
  have g4 : fl (4 * a + g) = 0 := by have := hy g g1.1 g1.2; omega
  rw [g4, show sWr (0 + 1) = 1 by decide] at g3
  refine ⟨fun h h1 h2 => ?_, ?_⟩
  · rw [g3 h h1 h2]
    split
    · exact Or.inr rfl
    · exact hy h h1 h2
  · unfold zer
    have e0 := g3 0 (by omega) (by omega)
    rw [Int.add_zero] at e0
    rw [e0, g3 1 (by omega) (by omega), g3 2 (by omega) (by omega), g3 3 (by omega) (by omega)]
    have : g = 0 ∨ g = 1 ∨ g = 2 ∨ g = 3 := by omega
    rcases this with rfl | rfl | rfl | rfl <;> simp at g4 ⊢ <;> rw [g4] <;> simp <;> omega
