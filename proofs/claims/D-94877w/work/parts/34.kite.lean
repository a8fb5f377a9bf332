/-! ===== calls of methods that make nothing: the answer alone; an answer and new ints; new ints alone (printed by tools/genkite.py) ===== -/
def bI (b : Bool) : Int := if b = true then 1 else 0
theorem bI_0 {b : Bool} : bI b = 0 ↔ b = false := by cases b <;> decide
theorem bI_1 {b : Bool} : bI b ≠ 0 ↔ b = true := by cases b <;> decide
theorem bI_n {b : Bool} : ¬ bI b = 0 ↔ b = true := by cases b <;> decide
theorem sRg_b (b : Bool) : sRg (bI b) := by cases b <;> decide
theorem bI_z (b : Bool) : bI b = 0 ∨ bI b = 1 := by cases b <;> decide
theorem bI_t {b : Bool} (h : b = true) : (1 : Int) = bI b := by subst h; rfl
theorem bI_f {b : Bool} (h : b = false) : (0 : Int) = bI b := by subst h; rfl
theorem vI_c {a b : Int} (h : a = b) : some (vI a) = some (vI b) := by rw [h]
/-- ends: an answer and new ints; new ints alone -/
abbrev pA (n : Nat) (K : KT) (R : RT) (v : Value) (f : XT → Prop) : PT := fun v' n' K' X' R' => v' = some v ∧ n' = n ∧ K' = K ∧ R' = R ∧ f X'
abbrev pN (n : Nat) (K : KT) (R : RT) (f : XT → Prop) : PT := fun v' n' K' X' R' => v' = none ∧ n' = n ∧ K' = K ∧ R' = R ∧ f X'
theorem ss_cVv {Ω : OmT} {d mc ms : Nat} {P : PT} {Γ : GT} {cc : ByteArray} {nL : Nat} {own : String} {ret : Option FieldType} {nm : String} {k j n : Nat} {K : KT} {X : XT} {R : RT} {pc : Nat} {L : List (Option Value)} {st : List Value} (h : sCx (Ω, d, mc, ms, P) Γ cc nL own ret nm) {y : MethodName} {bytes : ByteArray} {maxL : Nat} {ret' : Option FieldType} {d' : Nat} {b : Nat} {As : List Value} {v : Value} (ct : sCt Ω y bytes maxL ret' d' 0 0 (.ref b :: As) n K X R (pV n K X R (some v))) {idx : Nat} {C : String} (hg : GoodIn lw_all (wsV own idx C y (ws_ y bytes maxL ret'))) {c N : Nat} {T : u_T} (kl : sKl c C T N) (hk : sOb Ω n K b c) (na : Nat) (hna : As.length = na) (hm : sMd y na) (hC : y.cls = C) (hd : d' + 1 ≤ d) (hml : maxL ≤ 21) (hll : L.length = nL) (dd : decode cc pc = .ok (.invokevirtual idx, 3)) (q : Nat) (e : pc + 3 = q) {st0 : List Value} (hst : st0 = As.reverse ++ .ref b :: st) (hcat : (st.map fun v => v.category).sum ≤ 8) (hkk : k ≤ mc) (hjj : j ≤ ms) (kk : sG (Ω, d, mc, ms, P) Γ k j n K X R q L (v :: st)) : sG (Ω, d, mc, ms, P) Γ k j n K X R pc L st0 := by
  refine ss_callV h ct hg kl hk na hna hm hC hd hml hll dd q e hst hcat k j rfl rfl hkk hjj fun v' n' K' X' R' hp hn => ?_
  obtain ⟨rfl, rfl, rfl, rfl, rfl⟩ := hp
  exact kk
theorem ss_cVa {Ω : OmT} {d mc ms : Nat} {P : PT} {Γ : GT} {cc : ByteArray} {nL : Nat} {own : String} {ret : Option FieldType} {nm : String} {k j n : Nat} {K : KT} {X : XT} {R : RT} {pc : Nat} {L : List (Option Value)} {st : List Value} (h : sCx (Ω, d, mc, ms, P) Γ cc nL own ret nm) {y : MethodName} {bytes : ByteArray} {maxL : Nat} {ret' : Option FieldType} {d' : Nat} {b : Nat} {As : List Value} {v : Value} {f : XT → Prop} (ct : sCt Ω y bytes maxL ret' d' 0 0 (.ref b :: As) n K X R (pA n K R v f)) {idx : Nat} {C : String} (hg : GoodIn lw_all (wsV own idx C y (ws_ y bytes maxL ret'))) {c N : Nat} {T : u_T} (kl : sKl c C T N) (hk : sOb Ω n K b c) (na : Nat) (hna : As.length = na) (hm : sMd y na) (hC : y.cls = C) (hd : d' + 1 ≤ d) (hml : maxL ≤ 21) (hll : L.length = nL) (dd : decode cc pc = .ok (.invokevirtual idx, 3)) (q : Nat) (e : pc + 3 = q) {st0 : List Value} (hst : st0 = As.reverse ++ .ref b :: st) (hcat : (st.map fun v => v.category).sum ≤ 8) (hkk : k ≤ mc) (hjj : j ≤ ms) (kk : ∀ X', f X' → sG (Ω, d, mc, ms, P) Γ k j n K X' R q L (v :: st)) : sG (Ω, d, mc, ms, P) Γ k j n K X R pc L st0 := by
  refine ss_callV h ct hg kl hk na hna hm hC hd hml hll dd q e hst hcat k j rfl rfl hkk hjj fun v' n' K' X' R' hp hn => ?_
  obtain ⟨rfl, rfl, rfl, rfl, hf⟩ := hp
  exact kk X' hf
theorem ss_cVn {Ω : OmT} {d mc ms : Nat} {P : PT} {Γ : GT} {cc : ByteArray} {nL : Nat} {own : String} {ret : Option FieldType} {nm : String} {k j n : Nat} {K : KT} {X : XT} {R : RT} {pc : Nat} {L : List (Option Value)} {st : List Value} (h : sCx (Ω, d, mc, ms, P) Γ cc nL own ret nm) {y : MethodName} {bytes : ByteArray} {maxL : Nat} {ret' : Option FieldType} {d' : Nat} {b : Nat} {As : List Value} {f : XT → Prop} (ct : sCt Ω y bytes maxL ret' d' 0 0 (.ref b :: As) n K X R (pN n K R f)) {idx : Nat} {C : String} (hg : GoodIn lw_all (wsV own idx C y (ws_ y bytes maxL ret'))) {c N : Nat} {T : u_T} (kl : sKl c C T N) (hk : sOb Ω n K b c) (na : Nat) (hna : As.length = na) (hm : sMd y na) (hC : y.cls = C) (hd : d' + 1 ≤ d) (hml : maxL ≤ 21) (hll : L.length = nL) (dd : decode cc pc = .ok (.invokevirtual idx, 3)) (q : Nat) (e : pc + 3 = q) {st0 : List Value} (hst : st0 = As.reverse ++ .ref b :: st) (hcat : (st.map fun v => v.category).sum ≤ 8) (hkk : k ≤ mc) (hjj : j ≤ ms) (kk : ∀ X', f X' → sG (Ω, d, mc, ms, P) Γ k j n K X' R q L (st)) : sG (Ω, d, mc, ms, P) Γ k j n K X R pc L st0 := by
  refine ss_callV h ct hg kl hk na hna hm hC hd hml hll dd q e hst hcat k j rfl rfl hkk hjj fun v' n' K' X' R' hp hn => ?_
  obtain ⟨rfl, rfl, rfl, rfl, hf⟩ := hp
  exact kk X' hf
theorem ss_cSv {Ω : OmT} {d mc ms : Nat} {P : PT} {Γ : GT} {cc : ByteArray} {nL : Nat} {own : String} {ret : Option FieldType} {nm : String} {k j n : Nat} {K : KT} {X : XT} {R : RT} {pc : Nat} {L : List (Option Value)} {st : List Value} (h : sCx (Ω, d, mc, ms, P) Γ cc nL own ret nm) {y : MethodName} {bytes : ByteArray} {maxL : Nat} {ret' : Option FieldType} {d' : Nat} {As : List Value} {v : Value} (ct : sCt Ω y bytes maxL ret' d' 0 0 As n K X R (pV n K X R (some v))) {idx : Nat} (hg : GoodIn lw_all (va_wsS own idx y (ws_ y bytes maxL ret'))) (na : Nat) (hna : As.length = na) (hm : sMd y na) (hd : d' + 1 ≤ d) (hml : maxL ≤ 21) (hll : L.length = nL) (dd : decode cc pc = .ok (.invokestatic idx, 3)) (q : Nat) (e : pc + 3 = q) {st0 : List Value} (hst : st0 = As.reverse ++ st) (hcat : (st.map fun v => v.category).sum ≤ 8) (hkk : k ≤ mc) (hjj : j ≤ ms) (kk : sG (Ω, d, mc, ms, P) Γ k j n K X R q L (v :: st)) : sG (Ω, d, mc, ms, P) Γ k j n K X R pc L st0 := by
  refine ss_callS h ct hg na hna hm hd hml hll dd q e hst hcat k j rfl rfl hkk hjj fun v' n' K' X' R' hp hn => ?_
  obtain ⟨rfl, rfl, rfl, rfl, rfl⟩ := hp
  exact kk
theorem ss_cSa {Ω : OmT} {d mc ms : Nat} {P : PT} {Γ : GT} {cc : ByteArray} {nL : Nat} {own : String} {ret : Option FieldType} {nm : String} {k j n : Nat} {K : KT} {X : XT} {R : RT} {pc : Nat} {L : List (Option Value)} {st : List Value} (h : sCx (Ω, d, mc, ms, P) Γ cc nL own ret nm) {y : MethodName} {bytes : ByteArray} {maxL : Nat} {ret' : Option FieldType} {d' : Nat} {As : List Value} {v : Value} {f : XT → Prop} (ct : sCt Ω y bytes maxL ret' d' 0 0 As n K X R (pA n K R v f)) {idx : Nat} (hg : GoodIn lw_all (va_wsS own idx y (ws_ y bytes maxL ret'))) (na : Nat) (hna : As.length = na) (hm : sMd y na) (hd : d' + 1 ≤ d) (hml : maxL ≤ 21) (hll : L.length = nL) (dd : decode cc pc = .ok (.invokestatic idx, 3)) (q : Nat) (e : pc + 3 = q) {st0 : List Value} (hst : st0 = As.reverse ++ st) (hcat : (st.map fun v => v.category).sum ≤ 8) (hkk : k ≤ mc) (hjj : j ≤ ms) (kk : ∀ X', f X' → sG (Ω, d, mc, ms, P) Γ k j n K X' R q L (v :: st)) : sG (Ω, d, mc, ms, P) Γ k j n K X R pc L st0 := by
  refine ss_callS h ct hg na hna hm hd hml hll dd q e hst hcat k j rfl rfl hkk hjj fun v' n' K' X' R' hp hn => ?_
  obtain ⟨rfl, rfl, rfl, rfl, hf⟩ := hp
  exact kk X' hf
theorem ss_cSn {Ω : OmT} {d mc ms : Nat} {P : PT} {Γ : GT} {cc : ByteArray} {nL : Nat} {own : String} {ret : Option FieldType} {nm : String} {k j n : Nat} {K : KT} {X : XT} {R : RT} {pc : Nat} {L : List (Option Value)} {st : List Value} (h : sCx (Ω, d, mc, ms, P) Γ cc nL own ret nm) {y : MethodName} {bytes : ByteArray} {maxL : Nat} {ret' : Option FieldType} {d' : Nat} {As : List Value} {f : XT → Prop} (ct : sCt Ω y bytes maxL ret' d' 0 0 As n K X R (pN n K R f)) {idx : Nat} (hg : GoodIn lw_all (va_wsS own idx y (ws_ y bytes maxL ret'))) (na : Nat) (hna : As.length = na) (hm : sMd y na) (hd : d' + 1 ≤ d) (hml : maxL ≤ 21) (hll : L.length = nL) (dd : decode cc pc = .ok (.invokestatic idx, 3)) (q : Nat) (e : pc + 3 = q) {st0 : List Value} (hst : st0 = As.reverse ++ st) (hcat : (st.map fun v => v.category).sum ≤ 8) (hkk : k ≤ mc) (hjj : j ≤ ms) (kk : ∀ X', f X' → sG (Ω, d, mc, ms, P) Γ k j n K X' R q L (st)) : sG (Ω, d, mc, ms, P) Γ k j n K X R pc L st0 := by
  refine ss_callS h ct hg na hna hm hd hml hll dd q e hst hcat k j rfl rfl hkk hjj fun v' n' K' X' R' hp hn => ?_
  obtain ⟨rfl, rfl, rfl, rfl, hf⟩ := hp
  exact kk X' hf
/-- a counted loop: the head at i comes from the head at i + 1 -/
theorem ss_for {Pp : Int → Prop} (N a : Int) (ha : a ≤ N) (step : ∀ i, a ≤ i → i < N → Pp (i + 1) → Pp i) (last : Pp N) : Pp a := by
  have key : ∀ (m : Nat) (i : Int), a ≤ i → i ≤ N → N - i = m → Pp i := by
    intro m
    induction m with
    | zero =>
      intro i h1 h2 h3
      have : i = N := by omega
      subst this
      exact last
    | succ m ih =>
      intro i h1 h2 h3
      exact step i h1 (by omega) (ih (i + 1) (by omega) (by omega) (by omega))
  exact key (N - a).toNat a (Int.le_refl a) ha (by omega)
/-- any loop: a measure falls -/
theorem ss_loop {σ : Type} {Pp I : σ → Prop} (μ : σ → Nat) (step : ∀ s, I s → (∀ s', I s' → μ s' < μ s → Pp s') → Pp s) (s0 : σ) (h0 : I s0) : Pp s0 := by
  have key : ∀ (m : Nat) (s : σ), μ s < m → I s → Pp s := by
    intro m
    induction m with
    | zero =>
      intro s h
      exact absurd h (Nat.not_lt_zero _)
    | succ m ih =>
      intro s h1 h2
      exact step s h2 fun s' h3 h4 => ih s' (by omega) h3
  exact key (μ s0 + 1) s0 (Nat.lt_succ_self _) h0
/-- a cut: the rest of the run from another place, for all values with an invariant -/
theorem ss_cut {E : ET} {Γ : GT} {k j n : Nat} {K : KT} {X : XT} {R : RT} {pc : Nat} {L : List (Option Value)} {st : List Value} {σ : Type} (I : σ → Prop) (pc' : Nat) (X' : σ → XT) (L' : σ → List (Option Value)) (st' : σ → List Value) (J : ∀ s, I s → sG E Γ k j n K (X' s) R pc' (L' s) (st' s)) (kk : (∀ s, I s → sG E Γ k j n K (X' s) R pc' (L' s) (st' s)) → sG E Γ k j n K X R pc L st) : sG E Γ k j n K X R pc L st := kk J
