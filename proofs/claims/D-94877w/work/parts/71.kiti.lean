/-! ===== reads with what is known of them ===== -/
section SREAD
variable {E : ET} {Γ : GT} {cc : ByteArray} {nL : Nat} {own : String} {ret : Option FieldType} {nm : String} {k j n : Nat} {K : KT} {X : XT} {R : RT} {pc : Nat} {L : List (Option Value)} {st : List Value}
theorem ss_getIV (h : sCx E Γ cc nL own ret nm) {c N : Nat} {C : String} {T : u_T} (kl : sKl c C T N) (f : Nat) (z : Int) (hz : (f : Int) = z) (hf : f < N) (hs : sRef (sFt c f) = false) {a idx : Nat} (hk : sOb (eO E) n K a c) (hl : Cond.fieldLink own idx (T f).1 (T f).2.1 (T f).2.2.1 ∈ lw_all) (d : decode cc pc = .ok (.getfield idx, 3)) (q : Nat) (e : pc + 3 = q) {v : Int} (hv : X a z = v) (kk : sG E Γ k j n K X R q L (vI v :: st)) : sG E Γ k j n K X R pc L (.ref a :: st) := by
  subst hv
  exact ss_getI h kl f z hz hf hs hk hl d q e kk
theorem ss_ialdV (h : sCx E Γ cc nL own ret nm) {a len : Nat} {i : Int} (hk : sAr (eO E) n K a 0 len) (hn : len < 2147483648) (hi : 0 ≤ i ∧ i < (len : Int)) (d : decode cc pc = .ok (.iaload, 1)) (q : Nat) (e : pc + 1 = q) {v : Int} (hv : X a i = v) (kk : sG E Γ k j n K X R q L (vI v :: st)) : sG E Γ k j n K X R pc L (vI i :: .ref a :: st) := by
  subst hv
  exact ss_iald h hk hn hi d q e kk
theorem ss_zaldV (h : sCx E Γ cc nL own ret nm) {a len : Nat} {i : Int} (hk : sAr (eO E) n K a 2 len) (hn : len < 2147483648) (hi : 0 ≤ i ∧ i < (len : Int)) (d : decode cc pc = .ok (.baload, 1)) (q : Nat) (e : pc + 1 = q) {v : Int} (hv : X a i = v) (kk : sG E Γ k j n K X R q L (vI v :: st)) : sG E Γ k j n K X R pc L (vI i :: .ref a :: st) := by
  subst hv
  exact ss_zald h hk hn hi d q e kk
theorem ss_baldV (h : sCx E Γ cc nL own ret nm) {a len : Nat} {i : Int} (hk : sAr (eO E) n K a 1 len) (hn : len < 2147483648) (hi : 0 ≤ i ∧ i < (len : Int)) (d : decode cc pc = .ok (.baload, 1)) (q : Nat) (e : pc + 1 = q) {v : Int} (hv : X a i = v) (kk : sG E Γ k j n K X R q L (vI v :: st)) : sG E Γ k j n K X R pc L (vI i :: .ref a :: st) := by
  subst hv
  exact ss_bald h hk hn hi d q e kk
theorem ss_aaldS (h : sCx E Γ cc nL own ret nm) {a t len b : Nat} {i : Int} (hk : sAr (eO E) n K a t len) (ht : ¬ t < 3) (ht2 : t < 8) (hrf : (sAt t).isReference = true) (hn : len < 2147483648) (hi : 0 ≤ i ∧ i < (len : Int)) (d : decode cc pc = .ok (.aaload, 1)) (q : Nat) (e : pc + 1 = q) (hv : R a i = some b) (kk : sG E Γ k j n K X R q L (.ref b :: st)) : sG E Γ k j n K X R pc L (vI i :: .ref a :: st) := by
  refine ss_aald h hk ht ht2 hrf hn hi d q e ?_
  rw [hv]
  exact kk
end SREAD
theorem east_at {u : Int} (h : 0 ≤ u ∧ u < 4) : (fun j => vI (([0, 1, 0, -1] : List Int).getD j 0)) u.toNat = vI (adX u) := by
  have : u = 0 ∨ u = 1 ∨ u = 2 ∨ u = 3 := by omega
  rcases this with rfl | rfl | rfl | rfl <;> rfl
theorem south_at {u : Int} (h : 0 ≤ u ∧ u < 4) : (fun j => vI (([-1, 0, 1, 0] : List Int).getD j 0)) u.toNat = vI (adY u) := by
  have : u = 0 ∨ u = 1 ∨ u = 2 ∨ u = 3 := by omega
  rcases this with rfl | rfl | rfl | rfl <;> rfl
section SMATH
variable {Ω : OmT} {d mc ms : Nat} {P : PT} {Γ : GT} {cc : ByteArray} {nL : Nat} {own : String} {ret : Option FieldType} {nm : String} {k j n : Nat} {K : KT} {X : XT} {R : RT} {pc : Nat} {L : List (Option Value)} {st : List Value}
theorem ss_min (h : sCx (Ω, d, mc, ms, P) Γ cc nL own ret nm) {a b : Int} (ha : sRg a) (hb : sRg b) {idx : Nat} (hl : Cond.methodLink own idx Lib.Math.min.name ∈ lw_all) (hd : 1 ≤ d) (hll : L.length = nL) (hcat : (st.map fun v => v.category).sum ≤ 8) (hk : k ≤ mc) (hj : j ≤ ms) (dd : decode cc pc = .ok (.invokestatic idx, 3)) (q : Nat) (e : pc + 3 = q) (kk : sG (Ω, d, mc, ms, P) Γ k j n K X R q L (vI (if a ≤ b then a else b) :: st)) : sG (Ω, d, mc, ms, P) Γ k j n K X R pc L (vI b :: vI a :: st) := by
  subst e
  intro H locs ls hW hS hL
  have hts := h.2.2.2.2.1
  refine va_mmin (x := sI a) (y := sI b) h.1 h.2.1 ((h.2.2.1.trans hll.symm).trans hL.1.symm) h.2.2.2.1 (hts _ hl) (hts _ (show Cond.static Lib.Math.min.name ∈ lw_all from q527)) (hts _ q96) (hts _ (show Cond.code Lib.Math.min.name Lib.Math.min.code 2 (some .int) ∈ lw_all from q528)) hd (by show _ ≤ 40 * d; omega) hk hj dd ?_
  have e2 : Value.int (if sI b < sI a then sI b else sI a) = vI (if a ≤ b then a else b) := by
    by_cases c : a ≤ b
    · rw [if_pos c, if_neg (fun w => by rw [sI_lt hb ha] at w; omega)]; rfl
    · rw [if_neg c, if_pos ((sI_lt hb ha).mpr (by omega))]; rfl
  rw [e2]
  exact kk H locs ls hW hS hL
theorem ss_max (h : sCx (Ω, d, mc, ms, P) Γ cc nL own ret nm) {a b : Int} (ha : sRg a) (hb : sRg b) {idx : Nat} (hl : Cond.methodLink own idx Lib.Math.max.name ∈ lw_all) (hd : 1 ≤ d) (hll : L.length = nL) (hcat : (st.map fun v => v.category).sum ≤ 8) (hk : k ≤ mc) (hj : j ≤ ms) (dd : decode cc pc = .ok (.invokestatic idx, 3)) (q : Nat) (e : pc + 3 = q) (kk : sG (Ω, d, mc, ms, P) Γ k j n K X R q L (vI (if a < b then b else a) :: st)) : sG (Ω, d, mc, ms, P) Γ k j n K X R pc L (vI b :: vI a :: st) := by
  subst e
  intro H locs ls hW hS hL
  have hts := h.2.2.2.2.1
  refine va_mmax (x := sI a) (y := sI b) h.1 h.2.1 ((h.2.2.1.trans hll.symm).trans hL.1.symm) h.2.2.2.1 (hts _ hl) (hts _ (show Cond.static Lib.Math.max.name ∈ lw_all from q548)) (hts _ q96) (hts _ (show Cond.code Lib.Math.max.name Lib.Math.max.code 2 (some .int) ∈ lw_all from q549)) hd (by show _ ≤ 40 * d; omega) hk hj dd ?_
  have e2 : Value.int (if sI a < sI b then sI b else sI a) = vI (if a < b then b else a) := by
    by_cases c : a < b
    · rw [if_pos c, if_pos ((sI_lt ha hb).mpr c)]; rfl
    · rw [if_neg c, if_neg (fun w => c ((sI_lt ha hb).mp w))]; rfl
  rw [e2]
  exact kk H locs ls hW hS hL
theorem ss_abs (h : sCx (Ω, d, mc, ms, P) Γ cc nL own ret nm) {a : Int} (ha : sRg a) {idx : Nat} (hl : Cond.methodLink own idx Lib.Math.abs.name ∈ lw_all) (hd : 1 ≤ d) (hll : L.length = nL) (hcat : (st.map fun v => v.category).sum ≤ 8) (hk : k ≤ mc) (hj : j ≤ ms) (dd : decode cc pc = .ok (.invokestatic idx, 3)) (q : Nat) (e : pc + 3 = q) (kk : sG (Ω, d, mc, ms, P) Γ k j n K X R q L (vI (if 0 ≤ a then a else -a) :: st)) : sG (Ω, d, mc, ms, P) Γ k j n K X R pc L (vI a :: st) := by
  subst e
  intro H locs ls hW hS hL
  have hts := h.2.2.2.2.1
  refine va_mabs (x := sI a) h.1 h.2.1 ((h.2.2.1.trans hll.symm).trans hL.1.symm) h.2.2.2.1 (hts _ hl) (hts _ (show Cond.static Lib.Math.abs.name ∈ lw_all from q973)) (hts _ q96) (hts _ (show Cond.code Lib.Math.abs.name Lib.Math.abs.code 1 (some .int) ∈ lw_all from q974)) hd (by show _ ≤ 40 * d; omega) hk hj dd ?_
  have e2 : Value.int (if 0 ≤ sI a then sI a else 0 - sI a) = vI (if 0 ≤ a then a else -a) := by
    have e3 : (0 ≤ sI a) ↔ 0 ≤ a := by
      rw [← sI_0]
      exact sI_le (by omega) ha
    by_cases c : 0 ≤ a
    · rw [if_pos c, if_pos (e3.mpr c)]; rfl
    · rw [if_neg c, if_neg (fun w => c (e3.mp w)), ← sI_0, sI_sub, Int.zero_sub]; rfl
  rw [e2]
  exact kk H locs ls hW hS hL
end SMATH
