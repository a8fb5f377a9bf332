/-! ===== rows of the heap over the abstract heap ===== -/
def sUp (X : XT) (a : Nat) (i v : Int) : XT := fun b l => if b = a ∧ l = i then v else X b l
def sUpR (R : RT) (a : Nat) (i : Int) (v : Option Nat) : RT := fun b l => if b = a ∧ l = i then v else R b l
theorem sUp_ne {X : XT} {a b : Nat} {i v : Int} (h : b ≠ a) : sUp X a i v b = X b := by
  funext l
  simp [sUp, h]
theorem sUpR_ne {R : RT} {a b : Nat} {i : Int} {v : Option Nat} (h : b ≠ a) : sUpR R a i v b = R b := by
  funext l
  simp [sUpR, h]
theorem sUp_rg {X : XT} {a : Nat} {i v : Int} (h : ∀ b l, sRg (X b l)) (hv : sRg v) : ∀ b l, sRg (sUp X a i v b l) := by
  intro b l
  unfold sUp
  split
  · exact hv
  · exact h b l
abbrev sAr (Ω : OmT) (n : Nat) (K : KT) (a t len : Nat) : Prop := sBs Ω ≤ a ∧ a < n ∧ K a = (t, len)
abbrev sOb (Ω : OmT) (n : Nat) (K : KT) (a c : Nat) : Prop := sBs Ω ≤ a ∧ a < n ∧ (K a).1 = 10 + c
theorem sTb_ar {Ω : OmT} {U : State} (h : sTb Ω U) (t : Nat) (ht : t < 8) : ArrOfT U (oA Ω t) (sAt t) ∧ va_RA U (oA Ω t) (sAt t) := by
  refine h.2 t (oA Ω t, sAt t) ?_
  match t, ht with
  | 0, _ => rfl
  | 1, _ => rfl
  | 2, _ => rfl
  | 3, _ => rfl
  | 4, _ => rfl
  | 5, _ => rfl
  | 6, _ => rfl
  | 7, _ => rfl
  | t + 8, h => omega
theorem sW1_i {Ω : OmT} {n : Nat} {K : KT} {X : XT} {R : RT} {H : Heap} (hW : sWd Ω n K X R H) {a t len : Nat} (hk : sAr Ω n K a t len) (ht : t < 3) : H[a]? = some (arrV (oA Ω t) len (fun j => vI (X a j))) := by
  have h := hW.2.2.2 a hk.1 hk.2.1
  unfold sW1 at h
  rw [hk.2.2, if_pos (show (t, len).1 < 3 from ht)] at h
  exact h
theorem sW1_r {Ω : OmT} {n : Nat} {K : KT} {X : XT} {R : RT} {H : Heap} (hW : sWd Ω n K X R H) {a t len : Nat} (hk : sAr Ω n K a t len) (ht : ¬ t < 3) (ht2 : t < 10) : H[a]? = some (arrV (oA Ω t) len (fun j => va_rf (R a j))) := by
  have h := hW.2.2.2 a hk.1 hk.2.1
  unfold sW1 at h
  rw [hk.2.2, if_neg (show ¬ (t, len).1 < 3 from ht), if_pos (show (t, len).1 < 10 from ht2)] at h
  exact h
theorem sW1_o {Ω : OmT} {n : Nat} {K : KT} {X : XT} {R : RT} {H : Heap} (hW : sWd Ω n K X R H) {a c : Nat} (hk : sOb Ω n K a c) {q : vw_C} (hq : sCl[c]? = some q) : t_OB a (oC Ω c) q.2.2 (oI Ω c) H (fun k => sFv c k (X a k) (R a k)) := by
  have h := hW.2.2.2 a hk.1 hk.2.1
  unfold sW1 at h
  rw [hk.2.2, if_neg (by omega), if_neg (by omega), Nat.add_sub_cancel_left] at h
  obtain ⟨q', h1, h2⟩ := h
  cases hq.symm.trans h1
  exact h2
theorem sW1_to {Ω : OmT} {K : KT} {X X' : XT} {R R' : RT} {b : Nat} {H H1 : Heap} (h : sW1 Ω K X R b H) (hX : X' b = X b) (hR : R' b = R b) (hq : H1[b]? = H[b]?) : sW1 Ω K X' R' b H1 := by
  unfold sW1 at h ⊢
  rw [hX, hR]
  by_cases h1 : (K b).1 < 3
  · rw [if_pos h1] at h ⊢
    exact hq.trans h
  · rw [if_neg h1] at h ⊢
    by_cases h2 : (K b).1 < 10
    · rw [if_pos h2] at h ⊢
      exact hq.trans h
    · rw [if_neg h2] at h ⊢
      obtain ⟨q, e1, e2⟩ := h
      exact ⟨q, e1, e2.kept hq⟩
theorem sW1_K {Ω : OmT} {K K' : KT} {X : XT} {R : RT} {b : Nat} {H : Heap} (h : sW1 Ω K X R b H) (hK : K' b = K b) : sW1 Ω K' X R b H := by
  unfold sW1 at h ⊢
  rw [hK]
  exact h
theorem sWd_put {Ω : OmT} {n : Nat} {K : KT} {X X' : XT} {R R' : RT} {H H1 : Heap} {a : Nat} (hW : sWd Ω n K X R H) (z : H1.size = H.size) (oq : ∀ q : Nat, q ≠ a → H1[q]? = H[q]?) (hr : ∀ b i, sRg (X' b i)) (hne : ∀ b, b ≠ a → X' b = X b ∧ R' b = R b) (hc : sW1 Ω K X' R' a H1) : sWd Ω n K X' R' H1 := by
  refine ⟨z.trans hW.1, hW.2.1, hr, fun b hb hn => ?_⟩
  by_cases e : b = a
  · subst e
    exact hc
  · exact sW1_to (hW.2.2.2 b hb hn) (hne b e).1 (hne b e).2 (oq b e)
theorem sI_upd {X : XT} {R : RT} {a : Nat} {i v : Int} (hi : 0 ≤ i) : (updV (fun j => vI (X a j)) i.toNat (vI v)) = (fun j : Nat => vI (sUp X a i v a j)) := by
  funext j
  unfold updV sUp
  by_cases e : j = i.toNat
  · rw [if_pos e, if_pos ⟨rfl, by omega⟩]
  · rw [if_neg e, if_neg (fun q => e (by omega))]
theorem sR_upd {R : RT} {a : Nat} {i : Int} {v : Option Nat} (hi : 0 ≤ i) : (updV (fun j => va_rf (R a j)) i.toNat (va_rf v)) = (fun j : Nat => va_rf (sUpR R a i v a j)) := by
  funext j
  unfold updV sUpR
  by_cases e : j = i.toNat
  · rw [if_pos e, if_pos ⟨rfl, by omega⟩]
  · rw [if_neg e, if_neg (fun q => e (by omega))]
section SHEAP
variable {E : ET} {Γ : GT} {cc : ByteArray} {nL : Nat} {own : String} {ret : Option FieldType} {nm : String} {k j n : Nat} {K : KT} {X : XT} {R : RT} {pc : Nat} {L : List (Option Value)} {st : List Value}
/-- the range of what the heap holds -/
theorem ss_rg (kk : (∀ a i, sRg (X a i)) → sG E Γ k j n K X R pc L st) : sG E Γ k j n K X R pc L st := fun H locs ls hW hS hL => kk hW.2.2.1 H locs ls hW hS hL
theorem ss_bn (kk : sBs (eO E) ≤ n → sG E Γ k j n K X R pc L st) : sG E Γ k j n K X R pc L st := fun H locs ls hW hS hL => kk hW.2.1 H locs ls hW hS hL
theorem ss_X {X' : XT} (e : X = X') (kk : sG E Γ k j n K X' R pc L st) : sG E Γ k j n K X R pc L st := by
  subst e
  exact kk
theorem ss_st {st' : List Value} (e : st = st') (kk : sG E Γ k j n K X R pc L st') : sG E Γ k j n K X R pc L st := by
  subst e
  exact kk
theorem ss_iald (h : sCx E Γ cc nL own ret nm) {a len : Nat} {i : Int} (hk : sAr (eO E) n K a 0 len) (hn : len < 2147483648) (hi : 0 ≤ i ∧ i < (len : Int)) (d : decode cc pc = .ok (.iaload, 1)) (q : Nat) (e : pc + 1 = q) (kk : sG E Γ k j n K X R q L (vI (X a i) :: st)) : sG E Γ k j n K X R pc L (vI i :: .ref a :: st) := by
  subst e
  intro H locs ls hW hS hL
  have h1 := sW1_i hW hk (by decide)
  have hin := sI_in hi hn
  have hcl := sI_cl hi hn
  refine W.iald (j := sI i) (v := vI (X a i)) h.1 h.2.1 h1 ((sTb_ar h.2.2.2.2.2.1.tb 0 (by decide)).1 len _) (fun q => by cases q) (by show ¬ (_ ∨ (arrV _ _ _).slots.size ≤ _); rw [arrV_size]; exact hin) ?_ rfl rfl d (kk H locs ls hW hS hL)
  show (arrV _ _ _).slots[_]? = _
  rw [arrV_read _ _ (by rw [hcl]; omega), hcl, Int.toNat_of_nonneg hi.1]
theorem ss_bald (h : sCx E Γ cc nL own ret nm) {a len : Nat} {i : Int} (hk : sAr (eO E) n K a 1 len) (hn : len < 2147483648) (hi : 0 ≤ i ∧ i < (len : Int)) (d : decode cc pc = .ok (.baload, 1)) (q : Nat) (e : pc + 1 = q) (kk : sG E Γ k j n K X R q L (vI (X a i) :: st)) : sG E Γ k j n K X R pc L (vI i :: .ref a :: st) := by
  subst e
  intro H locs ls hW hS hL
  have h1 := sW1_i hW hk (by decide)
  have hin := sI_in hi hn
  have hcl := sI_cl hi hn
  refine W.bald (j := sI i) (v := vI (X a i)) h.1 h.2.1 h1 ((sTb_ar h.2.2.2.2.2.1.tb 1 (by decide)).1 len _) (fun q => by cases q) (by show ¬ (_ ∨ (arrV _ _ _).slots.size ≤ _); rw [arrV_size]; exact hin) ?_ rfl rfl d (kk H locs ls hW hS hL)
  show (arrV _ _ _).slots[_]? = _
  rw [arrV_read _ _ (by rw [hcl]; omega), hcl, Int.toNat_of_nonneg hi.1]
theorem ss_zald (h : sCx E Γ cc nL own ret nm) {a len : Nat} {i : Int} (hk : sAr (eO E) n K a 2 len) (hn : len < 2147483648) (hi : 0 ≤ i ∧ i < (len : Int)) (d : decode cc pc = .ok (.baload, 1)) (q : Nat) (e : pc + 1 = q) (kk : sG E Γ k j n K X R q L (vI (X a i) :: st)) : sG E Γ k j n K X R pc L (vI i :: .ref a :: st) := by
  subst e
  intro H locs ls hW hS hL
  have h1 := sW1_i hW hk (by decide)
  have hin := sI_in hi hn
  have hcl := sI_cl hi hn
  refine W.zald (j := sI i) (v := vI (X a i)) h.1 h.2.1 h1 ((sTb_ar h.2.2.2.2.2.1.tb 2 (by decide)).1 len _) (fun q => by cases q) (by show ¬ (_ ∨ (arrV _ _ _).slots.size ≤ _); rw [arrV_size]; exact hin) ?_ rfl rfl d (kk H locs ls hW hS hL)
  show (arrV _ _ _).slots[_]? = _
  rw [arrV_read _ _ (by rw [hcl]; omega), hcl, Int.toNat_of_nonneg hi.1]
theorem ss_aald (h : sCx E Γ cc nL own ret nm) {a t len : Nat} {i : Int} (hk : sAr (eO E) n K a t len) (ht : ¬ t < 3) (ht2 : t < 8) (hrf : (sAt t).isReference = true) (hn : len < 2147483648) (hi : 0 ≤ i ∧ i < (len : Int)) (d : decode cc pc = .ok (.aaload, 1)) (q : Nat) (e : pc + 1 = q) (kk : sG E Γ k j n K X R q L (va_rf (R a i) :: st)) : sG E Γ k j n K X R pc L (vI i :: .ref a :: st) := by
  subst e
  intro H locs ls hW hS hL
  have h1 := sW1_r hW hk ht (by omega)
  have hin := sI_in hi hn
  have hcl := sI_cl hi hn
  refine W.aald (j := sI i) (v := va_rf (R a i)) (ty := sAt t) h.1 h.2.1 h1 ((sTb_ar h.2.2.2.2.2.1.tb t ht2).1 len _) hrf (fun q => by cases q) (by show ¬ (_ ∨ (arrV _ _ _).slots.size ≤ _); rw [arrV_size]; exact hin) ?_ rfl rfl d (kk H locs ls hW hS hL)
  show (arrV _ _ _).slots[_]? = _
  rw [arrV_read _ _ (by rw [hcl]; omega), hcl, Int.toNat_of_nonneg hi.1]
theorem ss_alen (h : sCx E Γ cc nL own ret nm) {a t len : Nat} (hk : sAr (eO E) n K a t len) (ht2 : t < 8) (d : decode cc pc = .ok (.arraylength, 1)) (q : Nat) (e : pc + 1 = q) (kk : sG E Γ k j n K X R q L (vI len :: st)) : sG E Γ k j n K X R pc L (.ref a :: st) := by
  subst e
  intro H locs ls hW hS hL
  have hl : ∀ f : Nat → Value, (arrV (oA (eO E) t) len f).slots.size.toInt32 = sI len := fun f => by rw [arrV_size]; rfl
  by_cases ht : t < 3
  · exact W.alen h.1 h.2.1 (sW1_i hW hk ht) ((sTb_ar h.2.2.2.2.2.1.tb t ht2).1 len _) (hl _) rfl rfl d (kk H locs ls hW hS hL)
  · exact W.alen h.1 h.2.1 (sW1_r hW hk ht (by omega)) ((sTb_ar h.2.2.2.2.2.1.tb t ht2).1 len _) (hl _) rfl rfl d (kk H locs ls hW hS hL)
theorem sW1_ip {Ω : OmT} {K : KT} {X : XT} {R : RT} {H : Heap} {a t len : Nat} (hk : K a = (t, len)) (ht : t < 3) {f : Nat → Value} (e : H[a]? = some (arrV (oA Ω t) len f)) (hf : f = fun j : Nat => vI (X a j)) : sW1 Ω K X R a H := by
  unfold sW1
  rw [hk, if_pos (show (t, len).1 < 3 from ht), e, hf]
theorem sW1_rp {Ω : OmT} {K : KT} {X : XT} {R : RT} {H : Heap} {a t len : Nat} (hk : K a = (t, len)) (ht : ¬ t < 3) (ht2 : t < 10) {f : Nat → Value} (e : H[a]? = some (arrV (oA Ω t) len f)) (hf : f = fun j : Nat => va_rf (R a j)) : sW1 Ω K X R a H := by
  unfold sW1
  rw [hk, if_neg (show ¬ (t, len).1 < 3 from ht), if_pos (show (t, len).1 < 10 from ht2), e, hf]
theorem ss_iast (h : sCx E Γ cc nL own ret nm) {a len : Nat} {i v : Int} (hk : sAr (eO E) n K a 0 len) (hn : len < 2147483648) (hi : 0 ≤ i ∧ i < (len : Int)) (hv : sRg v) (d : decode cc pc = .ok (.iastore, 1)) (q : Nat) (e : pc + 1 = q) (kk : sG E Γ k j n K (sUp X a i v) R q L st) : sG E Γ k j n K X R pc L (vI v :: vI i :: .ref a :: st) := by
  subst e
  intro H locs ls hW hS hL
  have h1 := sW1_i hW hk (by decide)
  have hin := sI_in hi hn
  have hcl := sI_cl hi hn
  refine W.iast (j := sI i) (x := sI v) h.1 h.2.1 h1 ((sTb_ar h.2.2.2.2.2.1.tb 0 (by decide)).1 len _) (fun q => by cases q) (by show ¬ (_ ∨ (arrV _ _ _).slots.size ≤ _); rw [arrV_size]; exact hin) rfl rfl d fun H1 e1 z oq => ?_
  rw [arrV_store, hcl] at e1
  exact kk H1 _ ls (sWd_put hW z oq (sUp_rg hW.2.2.1 hv) (fun b hb => ⟨sUp_ne hb, rfl⟩) (sW1_ip hk.2.2 (by decide) e1 (sI_upd (R := R) hi.1))) (hS.put z oq hk.1) hL
theorem ss_bast (h : sCx E Γ cc nL own ret nm) {a len : Nat} {i v w : Int} (hk : sAr (eO E) n K a 1 len) (hn : len < 2147483648) (hi : 0 ≤ i ∧ i < (len : Int)) (hv : sRg w) (hz : narrow .byte (vI v) = vI w) (d : decode cc pc = .ok (.bastore, 1)) (q : Nat) (e : pc + 1 = q) (kk : sG E Γ k j n K (sUp X a i w) R q L st) : sG E Γ k j n K X R pc L (vI v :: vI i :: .ref a :: st) := by
  subst e
  intro H locs ls hW hS hL
  have h1 := sW1_i hW hk (by decide)
  have hin := sI_in hi hn
  have hcl := sI_cl hi hn
  refine W.bast (j := sI i) (x := sI v) h.1 h.2.1 h1 ((sTb_ar h.2.2.2.2.2.1.tb 1 (by decide)).1 len _) (fun q => by cases q) (by show ¬ (_ ∨ (arrV _ _ _).slots.size ≤ _); rw [arrV_size]; exact hin) rfl rfl d fun H1 e1 z oq => ?_
  rw [arrV_store, hcl, show narrow .byte (.int (sI v)) = vI w from hz] at e1
  exact kk H1 _ ls (sWd_put hW z oq (sUp_rg hW.2.2.1 hv) (fun b hb => ⟨sUp_ne hb, rfl⟩) (sW1_ip hk.2.2 (by decide) e1 (sI_upd (R := R) hi.1))) (hS.put z oq hk.1) hL
theorem s_nz {v : Int} (hv : v = 0 ∨ v = 1) : narrow .boolean (vI v) = vI v := by
  rcases hv with rfl | rfl
  · decide +kernel
  · decide +kernel
theorem ss_zast (h : sCx E Γ cc nL own ret nm) {a len : Nat} {i v : Int} (hk : sAr (eO E) n K a 2 len) (hn : len < 2147483648) (hi : 0 ≤ i ∧ i < (len : Int)) (hv : v = 0 ∨ v = 1) (d : decode cc pc = .ok (.bastore, 1)) (q : Nat) (e : pc + 1 = q) (kk : sG E Γ k j n K (sUp X a i v) R q L st) : sG E Γ k j n K X R pc L (vI v :: vI i :: .ref a :: st) := by
  subst e
  intro H locs ls hW hS hL
  have h1 := sW1_i hW hk (by decide)
  have hin := sI_in hi hn
  have hcl := sI_cl hi hn
  refine W.zast (j := sI i) (x := sI v) h.1 h.2.1 h1 ((sTb_ar h.2.2.2.2.2.1.tb 2 (by decide)).1 len _) (fun q => by cases q) (by show ¬ (_ ∨ (arrV _ _ _).slots.size ≤ _); rw [arrV_size]; exact hin) rfl rfl d fun H1 e1 z oq => ?_
  rw [arrV_store, hcl, show narrow .boolean (.int (sI v)) = vI v from s_nz hv] at e1
  exact kk H1 _ ls (sWd_put hW z oq (sUp_rg hW.2.2.1 (by omega)) (fun b hb => ⟨sUp_ne hb, rfl⟩) (sW1_ip hk.2.2 (by decide) e1 (sI_upd (R := R) hi.1))) (hS.put z oq hk.1) hL
/-- a class of the table: its place, its words, its fields' types, their names apart -/
def sOkT (t : FieldType) : Bool := match t with
  | .int => true
  | .boolean => true
  | .char => true
  | .array _ => true
  | .object _ => true
  | _ => false
theorem sOkT_d {t : FieldType} (h : sOkT t = true) : defaultValue t = if sRef t = true then va_rf none else vI 0 := by
  cases t <;> first | rfl | (simp [sOkT] at h)
def sKl (c : Nat) (C : String) (T : u_T) (N : Nat) : Prop := sCl[c]? = some (C, T, N) ∧ (∀ w ∈ u_ws C T N, w ∈ lw_all) ∧ (∀ k, k < N → parseFieldDescriptor (T k).2.2.1 = some (sFt c k)) ∧ (∀ a, a < N → ∀ b, b < N → a ≠ b → (T a).2.1 ≠ (T b).2.1) ∧ ∀ k, k < N → sOkT (sFt c k) = true
theorem ss_get (h : sCx E Γ cc nL own ret nm) {c N : Nat} {C : String} {T : u_T} (kl : sKl c C T N) (f : Nat) (hf : f < N) {a idx : Nat} (hk : sOb (eO E) n K a c) (hl : Cond.fieldLink own idx (T f).1 (T f).2.1 (T f).2.2.1 ∈ lw_all) (d : decode cc pc = .ok (.getfield idx, 3)) (kk : sG E Γ k j n K X R (pc + 3) L (sFv c f (X a f) (R a f) :: st)) : sG E Γ k j n K X R pc L (.ref a :: st) := by
  intro H locs ls hW hS hL
  obtain ⟨cell, q1, q2, q3, q4⟩ := sW1_o hW hk kl.1
  obtain ⟨hSl, hfc, kC, hkC, hkind⟩ := h.2.2.2.2.2.1.tb.1 c _ kl.1
  obtain ⟨cf, kf, fi, fd, hi, hsl⟩ := hSl f hf
  refine W.getf (v := sFv c f (X a f) (R a f)) h.1 h.2.1 h.2.2.2.1 (h.2.2.2.2.1 _ hl) hi (u_facts hfc hkC (u_lays h.2.2.2.2.1 kl.2.1 hf) hi).1 q1 (by rw [q3]; exact fun h => by cases h) ?_ rfl rfl d (kk H locs ls hW hS hL)
  rw [hsl]
  exact q4 f hf
theorem ss_getI (h : sCx E Γ cc nL own ret nm) {c N : Nat} {C : String} {T : u_T} (kl : sKl c C T N) (f : Nat) (z : Int) (hz : (f : Int) = z) (hf : f < N) (hs : sRef (sFt c f) = false) {a idx : Nat} (hk : sOb (eO E) n K a c) (hl : Cond.fieldLink own idx (T f).1 (T f).2.1 (T f).2.2.1 ∈ lw_all) (d : decode cc pc = .ok (.getfield idx, 3)) (q : Nat) (e : pc + 3 = q) (kk : sG E Γ k j n K X R q L (vI (X a z) :: st)) : sG E Γ k j n K X R pc L (.ref a :: st) := by
  subst e; subst hz
  refine ss_get h kl f hf hk hl d ?_
  unfold sFv
  rw [if_neg (by rw [hs]; decide)]
  exact kk
theorem ss_getR (h : sCx E Γ cc nL own ret nm) {c N : Nat} {C : String} {T : u_T} (kl : sKl c C T N) (f : Nat) (z : Int) (hz : (f : Int) = z) (hf : f < N) (hs : sRef (sFt c f) = true) {a idx : Nat} (hk : sOb (eO E) n K a c) (hl : Cond.fieldLink own idx (T f).1 (T f).2.1 (T f).2.2.1 ∈ lw_all) (d : decode cc pc = .ok (.getfield idx, 3)) (q : Nat) (e : pc + 3 = q) {o : Option Nat} (hr : R a z = o) (kk : sG E Γ k j n K X R q L (va_rf o :: st)) : sG E Γ k j n K X R pc L (.ref a :: st) := by
  subst e; subst hz; subst hr
  refine ss_get h kl f hf hk hl d ?_
  unfold sFv
  rw [if_pos hs]
  exact kk
theorem ss_getS (h : sCx E Γ cc nL own ret nm) {c N : Nat} {C : String} {T : u_T} (kl : sKl c C T N) (f : Nat) (z : Int) (hz : (f : Int) = z) (hf : f < N) (hs : sRef (sFt c f) = true) {a b idx : Nat} (hk : sOb (eO E) n K a c) (hl : Cond.fieldLink own idx (T f).1 (T f).2.1 (T f).2.2.1 ∈ lw_all) (d : decode cc pc = .ok (.getfield idx, 3)) (q : Nat) (e : pc + 3 = q) (hr : R a z = some b) (kk : sG E Γ k j n K X R q L (.ref b :: st)) : sG E Γ k j n K X R pc L (.ref a :: st) :=
  ss_getR h kl f z hz hf hs hk hl d q e hr kk
theorem ss_put (h : sCx E Γ cc nL own ret nm) {c N : Nat} {C : String} {T : u_T} (kl : sKl c C T N) (f : Nat) (hf : f < N) {a idx : Nat} (hk : sOb (eO E) n K a c) (hl : Cond.fieldLink own idx (T f).1 (T f).2.1 (T f).2.2.1 ∈ lw_all) (hfin : (T f).2.2.2 = false ∨ ((T f).2.2.2 = true ∧ nm = "<init>" ∧ (T f).1 = own)) {v : Value} (hn : narrow (sFt c f) v = v) (hfit : fits (sFt c f) v = true) {X' : XT} {R' : RT} (hr : (∀ b i, sRg (X b i)) → ∀ b i, sRg (X' b i)) (hne : ∀ b, b ≠ a → X' b = X b ∧ R' b = R b) (hV : ∀ i : Nat, i < N → updV (fun k : Nat => sFv c k (X a k) (R a k)) f v i = sFv c i (X' a i) (R' a i)) (d : decode cc pc = .ok (.putfield idx, 3)) (q : Nat) (e : pc + 3 = q) (kk : sG E Γ k j n K X' R' q L st) : sG E Γ k j n K X R pc L (v :: .ref a :: st) := by
  subst e
  intro H locs ls hW hS hL
  have hts := h.2.2.2.2.1
  have hcst := h.2.2.2.2.2.1
  have hap := va_apart (own := own) (D := (oC (eO E), oI (eO E))) hts kl.2.1 (sFt c) kl.2.2.1 kl.2.2.2.1 hcst.tb kl.1
  obtain ⟨cell, q1, q2, q3, q4⟩ := sW1_o hW hk kl.1
  obtain ⟨hSl, hfc, kC, hkC, hkind⟩ := hcst.tb.1 c _ kl.1
  obtain ⟨cf, kf, fi, fd, hi, hsl⟩ := hSl f hf
  have hlay := hts _ (kl.2.1 _ (u_in_lay hf))
  have hst := (u_facts hfc hkC (u_lays hts kl.2.1 hf) hi).1
  have fin : ∀ H' : Heap, H'[a]? = some (cell.setSlot fd.slot v) → H'.size = H.size → (∀ q, q ≠ a → H'[q]? = H[q]?) → W (gp Γ) (oL (eO E)) (ge Γ) (eR E) (gs Γ) (gm Γ) (ga Γ) (gb Γ) (gM Γ) (gc Γ) H' (locs ++ [⟨a, fd.slot⟩]) k j (gQ Γ) (F0 (gm Γ) (pc + 3) ls st) := by
    intro H' e1 e2 e3
    rw [hsl] at e1
    refine kk H' _ ls (sWd_put hW e2 e3 (hr hW.2.2.1) hne ?_) (hS.put e2 e3 hk.1) hL
    unfold sW1
    rw [hk.2.2, if_neg (by omega), if_neg (by omega), Nat.add_sub_cancel_left]
    exact ⟨_, kl.1, t_OB.to (V := updV (fun k : Nat => sFv c k (X a k) (R a k)) f v) ⟨_, e1, q2, q3, t_set q4 hap hf v⟩ hV⟩
  rcases hfin with hfin | ⟨hfin, hnm, hdecl⟩
  · unfold u_lay at hlay
    rw [if_neg (by rw [hfin]; decide)] at hlay
    have h6 := u_store hfc hkC hkind hlay hi (kl.2.2.1 f hf) hn hfit
    exact W.putK h.1 h.2.1 (f := fd) ⟨h.2.2.2.1, hts _ hl, ⟨_, _, _, hi⟩, hst⟩ (by rw [q2]; exact h6) q1 q3 (by rw [hsl]; exact k2_hasslot (q4 f hf)) rfl rfl d fin
  · unfold u_lay at hlay
    rw [if_pos hfin] at hlay
    have hcf : (gm Γ).cls = cf := by
      obtain ⟨_, _, c', _, _, _, -, -, hf', -, -, -, hown2, -⟩ := Cond.laysFinal_spec hlay
      have e1 : c' = cf := by have := hi.symm.trans hf'; simp at this; exact this.1.symm
      rw [hdecl] at hown2
      rw [← e1]
      exact Option.some.inj (h.2.2.2.1.symm.trans hown2)
    have h6 := u_fits hfc hkC hkind (Or.inr hlay) hi (kl.2.2.1 f hf) hn hfit
    exact W.putFinK h.1 h.2.1 h.2.2.2.1 (hts _ hl) hi hst hcf (h.2.2.2.2.2.2.2.2.1.trans hnm) (by rw [q2]; exact h6) q1 q3 (by rw [hsl]; exact k2_hasslot (q4 f hf)) rfl rfl d fin
theorem s_updI {c f : Nat} {X : XT} {R : RT} {a : Nat} {z v : Int} (hz : (f : Int) = z) (hs : sRef (sFt c f) = false) (i : Nat) : updV (fun k : Nat => sFv c k (X a k) (R a k)) f (vI v) i = sFv c i (sUp X a z v a i) (R a i) := by
  unfold updV sUp
  by_cases e : i = f
  · subst e
    rw [if_pos rfl, if_pos ⟨rfl, hz⟩]
    unfold sFv
    rw [if_neg (by rw [hs]; decide)]
  · rw [if_neg e, if_neg (fun q => e (by omega))]
theorem s_updR {c f : Nat} {X : XT} {R : RT} {a : Nat} {z : Int} {v : Option Nat} (hz : (f : Int) = z) (hs : sRef (sFt c f) = true) (i : Nat) : updV (fun k : Nat => sFv c k (X a k) (R a k)) f (va_rf v) i = sFv c i (X a i) (sUpR R a z v a i) := by
  unfold updV sUpR
  by_cases e : i = f
  · subst e
    rw [if_pos rfl, if_pos ⟨rfl, hz⟩]
    unfold sFv
    rw [if_pos hs]
  · rw [if_neg e, if_neg (fun q => e (by omega))]
/-- putfield of an int -/
theorem ss_putI (h : sCx E Γ cc nL own ret nm) {c N : Nat} {C : String} {T : u_T} (kl : sKl c C T N) (f : Nat) (z : Int) (hz : (f : Int) = z) (hf : f < N) (hs : sFt c f = .int) {a idx : Nat} (hk : sOb (eO E) n K a c) (hl : Cond.fieldLink own idx (T f).1 (T f).2.1 (T f).2.2.1 ∈ lw_all) (hfin : (T f).2.2.2 = false ∨ ((T f).2.2.2 = true ∧ nm = "<init>" ∧ (T f).1 = own)) {v : Int} (hv : sRg v) (d : decode cc pc = .ok (.putfield idx, 3)) (q : Nat) (e : pc + 3 = q) (kk : sG E Γ k j n K (sUp X a z v) R q L st) : sG E Γ k j n K X R pc L (vI v :: .ref a :: st) :=
  ss_put h kl f hf hk hl hfin (by rw [hs]; rfl) (by rw [hs]; rfl) (fun hr => sUp_rg hr hv) (fun b hb => ⟨sUp_ne hb, rfl⟩) (fun i _ => s_updI hz (by rw [hs]; rfl) i) d q e kk
/-- putfield of a boolean -/
theorem ss_putZ (h : sCx E Γ cc nL own ret nm) {c N : Nat} {C : String} {T : u_T} (kl : sKl c C T N) (f : Nat) (z : Int) (hz : (f : Int) = z) (hf : f < N) (hs : sFt c f = .boolean) {a idx : Nat} (hk : sOb (eO E) n K a c) (hl : Cond.fieldLink own idx (T f).1 (T f).2.1 (T f).2.2.1 ∈ lw_all) (hfin : (T f).2.2.2 = false ∨ ((T f).2.2.2 = true ∧ nm = "<init>" ∧ (T f).1 = own)) {v : Int} (hv : v = 0 ∨ v = 1) (d : decode cc pc = .ok (.putfield idx, 3)) (q : Nat) (e : pc + 3 = q) (kk : sG E Γ k j n K (sUp X a z v) R q L st) : sG E Γ k j n K X R pc L (vI v :: .ref a :: st) :=
  ss_put h kl f hf hk hl hfin (by rw [hs]; exact s_nz hv) (by rw [hs]; rcases hv with rfl | rfl <;> decide +kernel) (fun hr => sUp_rg hr (by omega)) (fun b hb => ⟨sUp_ne hb, rfl⟩) (fun i _ => s_updI hz (by rw [hs]; rfl) i) d q e kk
/-- putfield of a reference that isn't null -/
theorem ss_putR (h : sCx E Γ cc nL own ret nm) {c N : Nat} {C : String} {T : u_T} (kl : sKl c C T N) (f : Nat) (z : Int) (hz : (f : Int) = z) (hf : f < N) (hs : sRef (sFt c f) = true) {a idx : Nat} (hk : sOb (eO E) n K a c) (hl : Cond.fieldLink own idx (T f).1 (T f).2.1 (T f).2.2.1 ∈ lw_all) (hfin : (T f).2.2.2 = false ∨ ((T f).2.2.2 = true ∧ nm = "<init>" ∧ (T f).1 = own)) {v : Nat} (d : decode cc pc = .ok (.putfield idx, 3)) (q : Nat) (e : pc + 3 = q) (kk : sG E Γ k j n K X (sUpR R a z (some v)) q L st) : sG E Γ k j n K X R pc L (.ref v :: .ref a :: st) := by
  refine ss_put h kl f hf hk hl hfin (v := .ref v) ?_ ?_ (fun hr => hr) (fun b hb => ⟨rfl, sUpR_ne hb⟩) (fun i _ => s_updR (v := some v) hz hs i) d q e kk
  · cases ht : sFt c f <;> first | rfl | (rw [ht] at hs; cases hs)
  · cases ht : sFt c f <;> first | rfl | (rw [ht] at hs; cases hs)
end SHEAP
theorem kl0 : sKl 0 RX0 TX0 31 := ⟨rfl, in_X0, tyX0_ok, nmX0, by decide +kernel⟩
theorem kl1 : sKl 1 RX1 TX1 3 := ⟨rfl, in_X1, tyX1_ok, nmX1, by decide +kernel⟩
theorem kl2 : sKl 2 RX2 TX2 25 := ⟨rfl, in_X2, tyX2_ok, nmX2, by decide +kernel⟩
theorem kl3 : sKl 3 RX3 TX3 11 := ⟨rfl, in_X3, tyX3_ok, nmX3, by decide +kernel⟩
theorem kl4 : sKl 4 RX4 TX4 37 := ⟨rfl, in_X4, tyX4_ok, nmX4, by decide +kernel⟩
theorem kl5 : sKl 5 RX5 TX5 5 := ⟨rfl, in_X5, tyX5_ok, nmX5, by decide +kernel⟩
theorem kl6 : sKl 6 RX6 TX6 8 := ⟨rfl, in_X6, tyX6_ok, nmX6, by decide +kernel⟩
theorem kl7 : sKl 7 RX8 TX8 1 := ⟨rfl, in_X8, tyX8_ok, nmX8, by decide +kernel⟩
theorem kl8 : sKl 8 RX9 TX9 1 := ⟨rfl, in_X9, tyX9_ok, nmX9, by decide +kernel⟩
theorem kl9 : sKl 9 RX10 TX10 1 := ⟨rfl, in_X10, tyX10_ok, nmX10, by decide +kernel⟩
theorem kl10 : sKl 10 RX11 TX11 3 := ⟨rfl, in_X11, tyX11_ok, nmX11, by decide +kernel⟩
