/-! ===== more rows: nest mates, copies, stores of references, calls by a superclass's name ===== -/
section SNEST
variable {Ω : OmT} {d mc ms : Nat} {P : PT} {Γ : GT} {cc : ByteArray} {nL : Nat} {own : String} {ret : Option FieldType} {nm : String} {k j n : Nat} {K : KT} {X : XT} {R : RT} {pc : Nat} {L : List (Option Value)} {st : List Value}
theorem s_nwF (h : sCx (Ω, d, mc, ms, P) Γ cc nL own ret nm) {a : String} {i : Nat} {b f t hh : String} (hw : Cond.fieldLinkNest a i b f t hh ∈ lw_tbl) : (Cond.fieldLinkNest a i b f t hh).before (ga Γ) (gs Γ) = true :=
  va_Nw.use rfl (va_Nw.warmF h.2.2.2.2.2.1.2.1 (va_Nw.of rfl (h.2.2.2.2.2.1.1.2.1 _ hw)))
theorem s_nwM (h : sCx (Ω, d, mc, ms, P) Γ cc nL own ret nm) {a : String} {i : Nat} {y : MethodName} {hh : String} (hw : Cond.methodLinkNest a i y hh ∈ lw_tbl) : va_Nw (.methodLinkNest a i y hh) (gs Γ) :=
  va_Nw.warmM h.2.2.2.2.2.1.2.1 (va_Nw.of rfl (h.2.2.2.2.2.1.1.2.1 _ hw))
theorem ss_getN (h : sCx (Ω, d, mc, ms, P) Γ cc nL own ret nm) {c N : Nat} {C : String} {T : u_T} (kl : sKl c C T N) (f : Nat) (z : Int) (hz : (f : Int) = z) (hf : f < N) (hs : sRef (sFt c f) = true) {a b idx : Nat} (hk : sOb Ω n K a c) {host : String} (hl : Cond.fieldLinkNest own idx (T f).1 (T f).2.1 (T f).2.2.1 host ∈ lw_tbl) (dd : decode cc pc = .ok (.getfield idx, 3)) (q : Nat) (e : pc + 3 = q) (hr : R a z = some b) (kk : sG (Ω, d, mc, ms, P) Γ k j n K X R q L (.ref b :: st)) : sG (Ω, d, mc, ms, P) Γ k j n K X R pc L (.ref a :: st) := by
  subst e; subst hz
  intro H locs ls hW hS hL
  obtain ⟨cell, q1, q2, q3, q4⟩ := sW1_o hW hk kl.1
  obtain ⟨hSl, hfc, kC, hkC, hkind⟩ := h.2.2.2.2.2.1.tb.1 c _ kl.1
  obtain ⟨cf, kf, fi, fd, hi, hsl⟩ := hSl f hf
  refine va_Wgetf h.1 h.2.1 h.2.2.2.1 (s_nwF h hl) hi (u_facts hfc hkC (u_lays h.2.2.2.2.1 kl.2.1 hf) hi).1 q1 (by rw [q3]; exact fun h => by cases h) (v := .ref b) ?_ rfl rfl dd (kk H locs ls hW hS hL)
  rw [hsl, q4 f hf]
  show some (sFv c f (X a f) (R a f)) = _
  unfold sFv
  rw [if_pos hs, hr]
  rfl
theorem ss_getsN (h : sCx (Ω, d, mc, ms, P) Γ cc nL own ret nm) {C fn fd host : String} {idx : Nat} {v : Value} (hZ : va_Z C fn fd v (sFr Ω) (oS Ω) (oS Ω).heap) (hl : Cond.fieldLinkNest own idx C fn fd host ∈ lw_tbl) (dd : decode cc pc = .ok (.getstatic idx, 3)) (q : Nat) (e : pc + 3 = q) (kk : sG (Ω, d, mc, ms, P) Γ k j n K X R q L (v :: st)) : sG (Ω, d, mc, ms, P) Γ k j n K X R pc L st := by
  subst e
  intro H locs ls hW hS hL
  have hcst : sCst Ω (gs Γ) := h.2.2.2.2.2.1
  exact va_getsN h.1 h.2.1 (hcst.Z hZ) hS h.2.2.2.1 (s_nwF h hl) (fun x hx => hx) dd (kk H locs ls hW hS hL)
/-- invokestatic of a nest mate's private method -/
theorem ss_callSN (h : sCx (Ω, d, mc, ms, P) Γ cc nL own ret nm) {y : MethodName} {bytes : ByteArray} {maxL : Nat} {ret' : Option FieldType} {d' mc' ms' : Nat} {As : List Value} {P' : PT} (ct : sCt Ω y bytes maxL ret' d' mc' ms' As n K X R P') {idx : Nat} {host : String} (hg : GoodIn lw_all (ws_ y bytes maxL ret')) (hlk : Cond.methodLinkNest own idx y host ∈ lw_tbl) (hsta : Cond.static y ∈ lw_all) (hini : Cond.initialized y.cls ∈ lw_all) (na : Nat) (hna : As.length = na) (hm : sMd y na) (hd : d' + 1 ≤ d) (hml : maxL ≤ 21) (hll : L.length = nL) (dd : decode cc pc = .ok (.invokestatic idx, 3)) (q : Nat) (e : pc + 3 = q) {st0 : List Value} (hst : st0 = As.reverse ++ st) (hcat : (st.map fun v => v.category).sum ≤ 8) (k' j' : Nat) (ek : k + mc' = k') (ej : j + ms' = j') (hkk : k' ≤ mc) (hjj : j' ≤ ms) (kk : ∀ v n' K' X' R', P' v n' K' X' R' → n ≤ n' → sG (Ω, d, mc, ms, P) Γ k' j' n' K' X' R' q L (v.toList ++ st)) : sG (Ω, d, mc, ms, P) Γ k j n K X R pc L st0 := by
  subst e; subst ek; subst ej
  intro H locs ls hW hS hL
  have hts := h.2.2.2.2.1
  have hcst : sCst Ω (gs Γ) := h.2.2.2.2.2.1
  have hr := va_runSN (H := H) (s := gs Γ) (args := ga Γ) (c := gc Γ) (m := gm Γ) (locs := locs) (cells := k) (slots := j) (R := sRm d mc ms) (p := gp Γ) (l := oL Ω) (e := ge Γ) (below := gb Γ) (meth := gM Γ) (As := As) (rest := st) (g := F0 (gm Γ) pc ls st0) (cc := cc) (nL := nL) (own := own) (index := idx) (y := y) (bytes := bytes) (maxL := maxL) ⟨h.1, h.2.1, h.2.2.1, h.2.2.2.1, h.2.2.2.2.1⟩ ct ⟨va_cnB na hts hg rfl rfl rfl (s_nwM h hlk) (hts _ hini) hm ⟨hd, by show 8 + (maxL + 11) + 40 * d' ≤ 40 * d; omega⟩, hts _ hsta, trivial⟩
    ⟨fun a U g mk q => ⟨q.1, q.2⟩, fun U hU hWU => ⟨rfl, by rw [hU]; exact hW, hcst.next hS hU hWU⟩⟩ rfl hna (hL.1.trans hll) hst (lv_room hcat) dd ⟨hkk, hjj⟩
  exact s_back hW.1 hr hS fun v n' K' X' R' H1 locs1 hp hle hW1 hS1 => kk v n' K' X' R' hp hle H1 locs1 ls hW1 hS1 hL
theorem ss_cNv (h : sCx (Ω, d, mc, ms, P) Γ cc nL own ret nm) {y : MethodName} {bytes : ByteArray} {maxL : Nat} {ret' : Option FieldType} {d' : Nat} {As : List Value} {v : Value} (ct : sCt Ω y bytes maxL ret' d' 0 0 As n K X R (pV n K X R (some v))) {idx : Nat} {host : String} (hg : GoodIn lw_all (ws_ y bytes maxL ret')) (hlk : Cond.methodLinkNest own idx y host ∈ lw_tbl) (hsta : Cond.static y ∈ lw_all) (hini : Cond.initialized y.cls ∈ lw_all) (na : Nat) (hna : As.length = na) (hm : sMd y na) (hd : d' + 1 ≤ d) (hml : maxL ≤ 21) (hll : L.length = nL) (dd : decode cc pc = .ok (.invokestatic idx, 3)) (q : Nat) (e : pc + 3 = q) {st0 : List Value} (hst : st0 = As.reverse ++ st) (hcat : (st.map fun v => v.category).sum ≤ 8) (hkk : k ≤ mc) (hjj : j ≤ ms) (kk : sG (Ω, d, mc, ms, P) Γ k j n K X R q L (v :: st)) : sG (Ω, d, mc, ms, P) Γ k j n K X R pc L st0 := by
  refine ss_callSN h ct hg hlk hsta hini na hna hm hd hml hll dd q e hst hcat k j rfl rfl hkk hjj fun v' n' K' X' R' hp hn => ?_
  obtain ⟨rfl, rfl, rfl, rfl, rfl⟩ := hp
  exact kk
theorem ss_cNn (h : sCx (Ω, d, mc, ms, P) Γ cc nL own ret nm) {y : MethodName} {bytes : ByteArray} {maxL : Nat} {ret' : Option FieldType} {d' : Nat} {As : List Value} {f : XT → Prop} (ct : sCt Ω y bytes maxL ret' d' 0 0 As n K X R (pN n K R f)) {idx : Nat} {host : String} (hg : GoodIn lw_all (ws_ y bytes maxL ret')) (hlk : Cond.methodLinkNest own idx y host ∈ lw_tbl) (hsta : Cond.static y ∈ lw_all) (hini : Cond.initialized y.cls ∈ lw_all) (na : Nat) (hna : As.length = na) (hm : sMd y na) (hd : d' + 1 ≤ d) (hml : maxL ≤ 21) (hll : L.length = nL) (dd : decode cc pc = .ok (.invokestatic idx, 3)) (q : Nat) (e : pc + 3 = q) {st0 : List Value} (hst : st0 = As.reverse ++ st) (hcat : (st.map fun v => v.category).sum ≤ 8) (hkk : k ≤ mc) (hjj : j ≤ ms) (kk : ∀ X', f X' → sG (Ω, d, mc, ms, P) Γ k j n K X' R q L st) : sG (Ω, d, mc, ms, P) Γ k j n K X R pc L st0 := by
  refine ss_callSN h ct hg hlk hsta hini na hna hm hd hml hll dd q e hst hcat k j rfl rfl hkk hjj fun v' n' K' X' R' hp hn => ?_
  obtain ⟨rfl, rfl, rfl, rfl, hf⟩ := hp
  exact kk X' hf
/-- invokespecial of a nest mate's private constructor -/
theorem ss_callIN (h : sCx (Ω, d, mc, ms, P) Γ cc nL own ret nm) {y : MethodName} {bytes : ByteArray} {maxL : Nat} {d' mc' ms' : Nat} {b : Nat} {As : List Value} {P' : PT} (ct : sCt Ω y bytes maxL none d' mc' ms' (.ref b :: As) n K X R P') {idx : Nat} {host : String} (hg : GoodIn lw_all (ws_ y bytes maxL none)) (hini : Cond.initialized y.cls ∈ lw_all) (hlk : Cond.methodLinkNest own idx y host ∈ lw_tbl) (hin : Cond.instanceMethod y ∈ lw_all) (hyn : y.name = "<init>") (na : Nat) (hna : As.length = na) (hm : sMd y na) (hd : d' + 1 ≤ d) (hml : maxL ≤ 21) (hll : L.length = nL) (dd : decode cc pc = .ok (.invokespecial idx, 3)) (q : Nat) (e : pc + 3 = q) {st0 : List Value} (hst : st0 = As.reverse ++ .ref b :: st) (hcat : (st.map fun v => v.category).sum ≤ 8) (k' j' : Nat) (ek : k + mc' = k') (ej : j + ms' = j') (hkk : k' ≤ mc) (hjj : j' ≤ ms) (kk : ∀ v n' K' X' R', P' v n' K' X' R' → n ≤ n' → sG (Ω, d, mc, ms, P) Γ k' j' n' K' X' R' q L (v.toList ++ st)) : sG (Ω, d, mc, ms, P) Γ k j n K X R pc L st0 := by
  subst e; subst ek; subst ej
  intro H locs ls hW hS hL
  have hts := h.2.2.2.2.1
  have hcst : sCst Ω (gs Γ) := h.2.2.2.2.2.1
  have hr := va_runIN (H := H) (s := gs Γ) (args := ga Γ) (c := gc Γ) (m := gm Γ) (locs := locs) (cells := k) (slots := j) (R := sRm d mc ms) (p := gp Γ) (l := oL Ω) (e := ge Γ) (below := gb Γ) (meth := gM Γ) (As := As) (rest := st) (g := F0 (gm Γ) pc ls st0) (cc := cc) (nL := nL) (own := own) (index := idx) (y := y) (bytes := bytes) (maxL := maxL) ⟨h.1, h.2.1, h.2.2.1, h.2.2.2.1, h.2.2.2.2.1⟩ ct ⟨va_cnB na hts hg rfl rfl rfl (s_nwM h hlk) (hts _ hini) hm ⟨hd, by show 8 + (maxL + 11) + 40 * d' ≤ 40 * d; omega⟩, hyn, hts _ hin⟩
    ⟨fun a U g mk q => ⟨q.1, q.2⟩, fun U hU hWU => ⟨rfl, by rw [hU]; exact hW, hcst.next hS hU hWU⟩⟩ rfl hna (hL.1.trans hll) hst (lv_room hcat) dd ⟨hkk, hjj⟩
  exact s_back hW.1 hr hS fun v n' K' X' R' H1 locs1 hp hle hW1 hS1 => kk v n' K' X' R' hp hle H1 locs1 ls hW1 hS1 hL
/-- a call by an abstract method's name: what runs is y, of the receiver's own class -/
theorem lw_U {own C owner : String} {idx : Nat} {x y : MethodName} {b : ByteArray} {l : Nat} {r : Option FieldType} (h1 : Cond.methodLink own idx x ∈ lw_all) (h2 : Cond.sameMethod x.cls owner x.name x.desc ∈ lw_all) (h3 : Cond.selects C x y ∈ lw_all) (h4 : Cond.instanceMethod y ∈ lw_all) (h5 : Cond.initialized y.cls ∈ lw_all) (h6 : Cond.code y b l r ∈ lw_all) : GoodIn lw_all (va_wsU own idx C owner x y (ws_ y b l r)) := by
  refine lw_app ?_ (lw_meth h6)
  intro w hw
  simp only [List.mem_cons, List.not_mem_nil, or_false] at hw
  rcases hw with e | e | e | e | e
  · rw [e]; exact h1
  · rw [e]; exact h2
  · rw [e]; exact h3
  · rw [e]; exact h4
  · rw [e]; exact h5
theorem ss_callU (h : sCx (Ω, d, mc, ms, P) Γ cc nL own ret nm) {x y : MethodName} {owner : String} {bytes : ByteArray} {maxL : Nat} {ret' : Option FieldType} {d' mc' ms' : Nat} {b : Nat} {As : List Value} {P' : PT} (ct : sCt Ω y bytes maxL ret' d' mc' ms' (.ref b :: As) n K X R P') {idx : Nat} {C : String} (hg : GoodIn lw_all (va_wsU own idx C owner x y (ws_ y bytes maxL ret'))) (hdc : Cond.declares ⟨owner, x.name, x.desc⟩ ∈ lw_tbl) (ho : owner ≠ "java/lang/invoke/MethodHandle" ∧ owner ≠ "java/lang/invoke/VarHandle") {c N : Nat} {T : u_T} (kl : sKl c C T N) (hk : sOb Ω n K b c) (na : Nat) (hna : As.length = na) (hm : (parseMethodDescriptor x.desc).map (fun d => d.parameters.length) = some na) (hd : d' + 1 ≤ d) (hml : maxL ≤ 21) (hll : L.length = nL) (dd : decode cc pc = .ok (.invokevirtual idx, 3)) (q : Nat) (e : pc + 3 = q) {st0 : List Value} (hst : st0 = As.reverse ++ .ref b :: st) (hcat : (st.map fun v => v.category).sum ≤ 8) (k' j' : Nat) (ek : k + mc' = k') (ej : j + ms' = j') (hkk : k' ≤ mc) (hjj : j' ≤ ms) (kk : ∀ v n' K' X' R', P' v n' K' X' R' → n ≤ n' → sG (Ω, d, mc, ms, P) Γ k' j' n' K' X' R' q L (v.toList ++ st)) : sG (Ω, d, mc, ms, P) Γ k j n K X R pc L st0 := by
  subst e; subst ek; subst ej
  intro H locs ls hW hS hL
  have hts := h.2.2.2.2.1
  have hcst : sCst Ω (gs Γ) := h.2.2.2.2.2.1
  obtain ⟨cell, q1, q2, q3, q4⟩ := sW1_o hW hk kl.1
  have hfc := (hcst.tb.1 c _ kl.1).2.1
  have hz : va_Nw (.declares ⟨owner, x.name, x.desc⟩) (gs Γ) := va_Nw.warmD hcst.2.1 (va_Nw.of rfl (hcst.1.2.1 _ hdc))
  have hr := va_runU (H := H) (s := gs Γ) (args := ga Γ) (c := gc Γ) (m := gm Γ) (locs := locs) (cells := k) (slots := j) (R := sRm d mc ms) (p := gp Γ) (l := oL Ω) (e := ge Γ) (below := gb Γ) (meth := gM Γ) (As := As) (rest := st) (g := F0 (gm Γ) pc ls st0) (cc := cc) (nL := nL) (own := own) (index := idx) (x := x) (y := y) (bytes := bytes) (maxL := maxL) ⟨h.1, h.2.1, h.2.2.1, h.2.2.2.1, h.2.2.2.2.1⟩ ct (va_cwA na hts hg rfl rfl rfl hz ⟨ho.1, ho.2, hm⟩ ⟨hd, by show 8 + (maxL + 11) + 40 * d' ≤ 40 * d; omega⟩)
    ⟨fun a U g mk q => ⟨q.1, q.2⟩, ⟨cell, q1, by rw [q3]; rfl, by rw [q2]; exact hfc⟩, fun U hU hWU => ⟨rfl, by rw [hU]; exact hW, hcst.next hS hU hWU⟩⟩ rfl hna (hL.1.trans hll) hst (lv_room hcat) dd ⟨hkk, hjj⟩
  exact s_back hW.1 hr hS fun v n' K' X' R' H1 locs1 hp hle hW1 hS1 => kk v n' K' X' R' hp hle H1 locs1 ls hW1 hS1 hL
/-- the object at v may lie in a row of E -/
def sAny (Ω : OmT) (E : String) (n : Nat) (K : KT) (v : Nat) : Prop := (∃ (c : Nat) (q : vw_C), sOb Ω n K v c ∧ sCl[c]? = some q ∧ (q.1 = E ∨ Cond.castable q.1 E ∈ lw_tbl)) ∨ va_O E v (sFr Ω) (oS Ω) (oS Ω).heap
theorem sAny.any {E0 : String} {v : Nat} {s : State} {H : Heap} {locs : List Loc} (h : sAny Ω E0 n K v) (hW : sWd Ω n K X R H) (hc : sCst Ω s) (hS : va_S (sFr Ω) s.heap H locs) : va_Any E0 s H v := by
  rcases h with ⟨c, q, hk, hq, he⟩ | hO
  · obtain ⟨cell, q1, q2, q3, q4⟩ := sW1_o hW hk hq
    have hcls := (hc.tb.1 c _ hq).2
    obtain ⟨kC, hkC, -⟩ := hcls.2
    refine ⟨cell, q1, by rw [q3]; rfl, ⟨kC, by rw [q2]; exact hkC⟩, fun comp hcm => ?_⟩
    rw [q2]
    rcases he with he | he
    · rw [← he] at hcm
      cases hcls.1.symm.trans hcm
      exact va_asg _ _
    · exact vb_asgC (va_Nw.warmC hc.2.1 (va_Nw.of rfl (hc.1.2.1 _ he))) comp _ hcm hcls.1
  · obtain ⟨cell, q1, q2, q3, -⟩ := (hc.O hO).kept hS.2.1
    obtain ⟨kC, hkC, -⟩ := Vm.findClass_spec q3
    refine ⟨cell, q1, q2, ⟨kC, hkC⟩, fun comp hcm => ?_⟩
    cases q3.symm.trans hcm
    exact va_asg _ _
theorem ss_aast (h : sCx (Ω, d, mc, ms, P) Γ cc nL own ret nm) {a t len v : Nat} {E0 : String} {i : Int} (hk : sAr Ω n K a t len) (ht : ¬ t < 3) (ht2 : t < 8) (hE : sAt t = .object E0) (hn : len < 2147483648) (hi : 0 ≤ i ∧ i < (len : Int)) (hv : sAny Ω E0 n K v) (dd : decode cc pc = .ok (.aastore, 1)) (q : Nat) (e : pc + 1 = q) (kk : sG (Ω, d, mc, ms, P) Γ k j n K X (sUpR R a i (some v)) q L st) : sG (Ω, d, mc, ms, P) Γ k j n K X R pc L (.ref v :: vI i :: .ref a :: st) := by
  subst e
  intro H locs ls hW hS hL
  have hcst : sCst Ω (gs Γ) := h.2.2.2.2.2.1
  have h1 := sW1_r hW hk ht (by omega)
  have hin := sI_in hi hn
  have hcl := sI_cl hi hn
  obtain ⟨cellV, g1, g3, ⟨kC, hkC⟩, hasg⟩ := hv.any hW hcst hS
  have hra := (sTb_ar hcst.tb t ht2).2
  rw [hE] at hra
  obtain ⟨kA, comp, k1, k2, k3, -⟩ := hra
  obtain ⟨kE, hkE, -⟩ := Vm.findClass_spec k3
  have hlt : (sI i).toNatClampNeg < len := by rw [hcl]; omega
  have h0 : ¬ sI i < 0 := fun q => hin (Or.inl q)
  refine W.aast h.1 h.2.1 h1 (fun q h => by cases h) (fun h => by cases h) k1 k2 rfl hkE ⟨h0, by show _ < (arrV _ _ _).slots.size; rw [arrV_size]; exact hlt⟩ g1 (fun q h => by rw [h] at g3; cases g3) hkC (hasg _ k3) rfl rfl dd fun H1 e1 z oq => ?_
  rw [arrV_store, hcl] at e1
  exact kk H1 _ ls (sWd_put hW z oq hW.2.2.1 (fun b hb => ⟨rfl, sUpR_ne hb⟩) (sW1_rp hk.2.2 ht (by omega) e1 (sR_upd (v := some v) hi.1))) (hS.put z oq hk.1) hL
/-- aastore of null isn't met; ineg -/
theorem ss_ineg (h : sCx (Ω, d, mc, ms, P) Γ cc nL own ret nm) {a : Int} (dd : decode cc pc = .ok (.ineg, 1)) (q : Nat) (e : pc + 1 = q) (kk : sG (Ω, d, mc, ms, P) Γ k j n K X R q L (vI (-a) :: st)) : sG (Ω, d, mc, ms, P) Γ k j n K X R pc L (vI a :: st) := by
  subst e
  intro H locs ls hW hS hL
  refine lv_ineg (x := sI a) h.1 h.2.1 dd ?_
  have e2 : (0 : Int32) - sI a = sI (-a) := by rw [← sI_0, sI_sub, Int.zero_sub]
  first
    | (rw [e2]; exact kk H locs ls hW hS hL)
    | (have e3 : -(sI a) = sI (-a) := by rw [← e2, Int32.zero_sub]
       rw [e3]; exact kk H locs ls hW hS hL)
/-! System.arraycopy -/
def cpyA (f g : Int → Int) (sp dp m : Int) : Int → Int := fun i => if dp ≤ i ∧ i < dp + m then f (sp + (i - dp)) else g i
def cpyR (f g : Int → Option Nat) (sp dp m : Int) : Int → Option Nat := fun i => if dp ≤ i ∧ i < dp + m then f (sp + (i - dp)) else g i
def sCpX (X : XT) (a : Nat) (f : Int → Int) : XT := fun b => if b = a then f else X b
def sCpR (R : RT) (a : Nat) (f : Int → Option Nat) : RT := fun b => if b = a then f else R b
theorem s_nnI (z : Int32) (hz : ¬ z < 0) : z.toInt = (z.toNatClampNeg : Int) := by
  have hz0 : (0 : Int) ≤ z.toInt := by
    have := Int32.not_lt.mp hz
    simpa using Int32.le_iff_toInt_le.mp this
  show z.toInt = ((z.toInt.toNat : Nat) : Int)
  omega
theorem s_setv {A : Nat → Prop} {H0 H : Heap} {locs : List Loc} {a : Nat} {c : Cell} {L' : List Loc} (hS : va_S A H0 H locs) (ha : A a) (hL' : ∀ z ∈ L', z.base = a) : va_S A H0 (H.setIfInBounds a c) (locs ++ L') :=
  ⟨by simp; exact hS.1, fun q g1 g2 => by
      rw [show (H.setIfInBounds a c)[q]? = H[q]? by simp [Array.getElem?_setIfInBounds, show a ≠ q from fun e => g2 (by rw [← e]; exact ha)]]
      exact hS.2.1 q g1 g2, fun q hq => by
      rcases List.mem_append.mp hq with h | h
      · exact hS.2.2 q h
      · rw [hL' q h]; exact ha⟩
theorem s_big {z : Int} (h : 0 ≤ z ∧ z < 2147483647) : ¬ sI z < 0 ∧ (sI z).toNatClampNeg = z.toNat := ⟨fun q => by rw [← sI_0, sI_lt (by omega) (by omega)] at q; omega, sI_cl (n := 2147483647) (by omega) (by omega)⟩
theorem ss_copyI (h : sCx (Ω, d, mc, ms, P) Γ cc nL own ret nm) {a0 a1 t n0 n1 : Nat} (ht : t < 3) (hk0 : sAr Ω n K a0 t n0) (hk1 : sAr Ω n K a1 t n1) (hl0 : n0 < 2147483647) (hl1 : n1 < 2147483647) {sp dp m : Int} (h1 : 0 ≤ sp) (h2 : 0 ≤ dp) (h3 : 0 ≤ m) (h4 : sp + m ≤ n0) (h5 : dp + m ≤ n1) (hfit : ∀ i : Int, 0 ≤ i → i < m → fits (sAt t) (vI (X a0 (sp + i))) = true) {idx : Nat} (hlk : Cond.methodLink own idx arraycopyName ∈ lw_all) (hnat : Cond.native arraycopyName ∈ lw_all) (hstat : Cond.static arraycopyName ∈ lw_all) (hini : Cond.initialized "java/lang/System" ∈ lw_all) (hd : 1 ≤ d) (hll : L.length = nL) (hcat : (st.map fun v => v.category).sum ≤ 8) (dd : decode cc pc = .ok (.invokestatic idx, 3)) (q : Nat) (e : pc + 3 = q) (kk : sG (Ω, d, mc, ms, P) Γ k j n K (sCpX X a1 (cpyA (X a0) (X a1) sp dp m)) R q L st) : sG (Ω, d, mc, ms, P) Γ k j n K X R pc L (vI m :: vI dp :: .ref a1 :: vI sp :: .ref a0 :: st) := by
  subst e
  intro H locs ls hW hS hL
  have hts := h.2.2.2.2.1
  have hcst : sCst Ω (gs Γ) := h.2.2.2.2.2.1
  have hc0 := sW1_i hW hk0 ht
  have hc1 := sW1_i hW hk1 ht
  obtain ⟨z1, y1⟩ := s_big (z := sp) (by omega)
  obtain ⟨z2, y2⟩ := s_big (z := dp) (by omega)
  obtain ⟨z3, y3⟩ := s_big (z := m) (by omega)
  have hty : refKind (sAt t) = false := by
    have : t = 0 ∨ t = 1 ∨ t = 2 := by omega
    rcases this with rfl | rfl | rfl <;> rfl
  intro T hT Xs
  obtain ⟨-, k0, hk0', cm0, hkk0⟩ := (sTb_ar hcst.tb t (by omega)).1 n0 (fun j => vI (X a0 j))
  obtain ⟨-, k1, hk1', cm1, hkk1⟩ := (sTb_ar hcst.tb t (by omega)).1 n1 (fun j => vI (X a1 j))
  have hml : ls.size = (gc Γ).maxLocals := (hL.1.trans hll).trans h.2.2.1.symm
  obtain ⟨vm', X', step⟩ := Xs.arraycopy h.1 h.2.2.2.1 (hts _ hlk) (hts _ hnat) (hts _ hstat) (hts _ hini) (src := a0) (dst := a1) (cs := arrV (oA Ω t) n0 (fun j => vI (X a0 j))) (cd := arrV (oA Ω t) n1 (fun j => vI (X a1 j))) (srcPos := sI sp) (destPos := sI dp) (n := sI m) (by rw [hT]; exact hc0) (by rw [hT]; exact hc1)
    (fun _ h => by cases h) (fun _ h => by cases h) (fun h => by cases h) (fun h => by cases h) hk0' hk1' hkk0 hkk1 (by simp [hty]) z1 z2 z3
    (by rw [s_nnI _ z1, s_nnI _ z3, y1, y3]; show ¬ _ > ((arrV _ n0 _).slots.size : Int); rw [arrV_size]; omega)
    (by rw [s_nnI _ z2, s_nnI _ z3, y2, y3]; show ¬ _ > ((arrV _ n1 _).slots.size : Int); rw [arrV_size]; omega)
    (fun vm₁ _ i hi => by
      rw [y3] at hi
      have e : (arrV (oA Ω t) n0 (fun j => vI (X a0 j))).slots.getD ((sI sp).toNatClampNeg + i) .null = vI (X a0 (sp + i)) := by
        rw [y1, Array.getD_eq_getD_getElem?, arrV_read _ _ (by omega)]
        show vI (X a0 ((sp.toNat + i : Nat) : Int)) = _
        rw [show ((sp.toNat + i : Nat) : Int) = sp + i by omega]
      refine ⟨?_, ?_⟩
      · rw [e]
        exact hfit i (by omega) (by omega)
      · rw [e]
        exact trivial)
    (g := F0 (gm Γ) pc ls (vI m :: vI dp :: .ref a1 :: vI sp :: .ref a0 :: st)) rfl hml (rest := st) rfl (by rw [h.2.1]; exact dd) hd (by
      have e9 : nativeFrameWords "java/lang/System" "arraycopy" 5 ≤ 7 := by decide
      show 2 * 0 + _ + _ ≤ 40 * d
      omega)
  have e1 : copied (arrV (oA Ω t) n0 (fun j => vI (X a0 j))) (arrV (oA Ω t) n1 (fun j => vI (X a1 j))) (sI sp) (sI dp) (sI m) = arrV (oA Ω t) n1 (fun j : Nat => vI (cpyA (X a0) (X a1) sp dp m j)) := by
    have e2 := va_copied (fun z : Int => vI z) (oA Ω t) (oA Ω t) (n0 := n0) (n1 := n1) (sp := (sI sp).toNatClampNeg) (dp := (sI dp).toNatClampNeg) (n := (sI m).toNatClampNeg) (fun j : Nat => X a0 j) (fun j : Nat => X a1 j) (by rw [y1, y3]; omega)
    refine Eq.trans (show copied _ _ _ _ _ = _ from e2) ?_
    congr 1
    funext i
    rw [y1, y2, y3]
    unfold va_cpy cpyA
    by_cases hq : dp.toNat ≤ i ∧ i < dp.toNat + m.toNat
    · rw [if_pos hq, if_pos (by omega)]
      show vI (X a0 ((sp.toNat + (i - dp.toNat) : Nat) : Int)) = _
      rw [show ((sp.toNat + (i - dp.toNat) : Nat) : Int) = sp + (i - dp) by omega]
    · rw [if_neg hq, if_neg (by omega)]
  rw [e1] at X' step
  have hl : a1 < H.size := (Array.getElem?_eq_some_iff.mp hc1).1
  have hheap : ((T.setVm vm').setCell a1 (arrV (oA Ω t) n1 (fun j : Nat => vI (cpyA (X a0) (X a1) sp dp m j)))).heap = H.setIfInBounds a1 (arrV (oA Ω t) n1 (fun j : Nat => vI (cpyA (X a0) (X a1) sp dp m j))) := by rw [← hT]; rfl
  have oq : ∀ q : Nat, q ≠ a1 → (H.setIfInBounds a1 (arrV (oA Ω t) n1 (fun j : Nat => vI (cpyA (X a0) (X a1) sp dp m j))))[q]? = H[q]? := fun q hq => by simp [Array.getElem?_setIfInBounds, Ne.symm hq]
  have hWn : sWd Ω n K (sCpX X a1 (cpyA (X a0) (X a1) sp dp m)) R (H.setIfInBounds a1 (arrV (oA Ω t) n1 (fun j : Nat => vI (cpyA (X a0) (X a1) sp dp m j)))) := by
    refine sWd_put hW (by simp) oq (fun b i => ?_) (fun b hb => ⟨if_neg hb, rfl⟩) (sW1_ip hk1.2.2 ht (show _ = some (arrV (oA Ω t) n1 _) by simp [hl]; rfl) ?_)
    · unfold sCpX
      by_cases e : b = a1
      · rw [if_pos e]
        unfold cpyA
        split <;> exact hW.2.2.1 _ _
      · rw [if_neg e]
        exact hW.2.2.1 _ _
    · funext i
      simp [sCpX]
  obtain ⟨t', a1', b1⟩ := kk _ _ ls hWn (s_setv hS hk1.1 fun z hz => by
    obtain ⟨y, -, hy⟩ := List.mem_map.mp hz
    rw [← hy]) hL _ hheap X'
  exact ⟨t', step t' a1', b1⟩
theorem ss_copyR (h : sCx (Ω, d, mc, ms, P) Γ cc nL own ret nm) {a0 a1 t n0 n1 : Nat} {E0 : String} (ht : ¬ t < 3) (ht2 : t < 8) (hE : sAt t = .object E0) (hk0 : sAr Ω n K a0 t n0) (hk1 : sAr Ω n K a1 t n1) (hl0 : n0 < 2147483647) (hl1 : n1 < 2147483647) {sp dp m : Int} (h1 : 0 ≤ sp) (h2 : 0 ≤ dp) (h3 : 0 ≤ m) (h4 : sp + m ≤ n0) (h5 : dp + m ≤ n1) (hel : ∀ (i : Int) (v : Nat), 0 ≤ i → i < m → R a0 (sp + i) = some v → sAny Ω E0 n K v) {idx : Nat} (hlk : Cond.methodLink own idx arraycopyName ∈ lw_all) (hnat : Cond.native arraycopyName ∈ lw_all) (hstat : Cond.static arraycopyName ∈ lw_all) (hini : Cond.initialized "java/lang/System" ∈ lw_all) (hd : 1 ≤ d) (hll : L.length = nL) (hcat : (st.map fun v => v.category).sum ≤ 8) (dd : decode cc pc = .ok (.invokestatic idx, 3)) (q : Nat) (e : pc + 3 = q) (kk : sG (Ω, d, mc, ms, P) Γ k j n K X (sCpR R a1 (cpyR (R a0) (R a1) sp dp m)) q L st) : sG (Ω, d, mc, ms, P) Γ k j n K X R pc L (vI m :: vI dp :: .ref a1 :: vI sp :: .ref a0 :: st) := by
  subst e
  intro H locs ls hW hS hL
  have hts := h.2.2.2.2.1
  have hcst : sCst Ω (gs Γ) := h.2.2.2.2.2.1
  have hc0 := sW1_r hW hk0 ht (by omega)
  have hc1 := sW1_r hW hk1 ht (by omega)
  obtain ⟨z1, y1⟩ := s_big (z := sp) (by omega)
  obtain ⟨z2, y2⟩ := s_big (z := dp) (by omega)
  obtain ⟨z3, y3⟩ := s_big (z := m) (by omega)
  have hra := (sTb_ar hcst.tb t ht2).2
  rw [hE] at hra
  obtain ⟨kA, comp, r1, r2, r3, -⟩ := hra
  intro T hT Xs
  obtain ⟨-, k0, hk0', cm0, hkk0⟩ := (sTb_ar hcst.tb t (by omega)).1 n0 (fun j => va_rf (R a0 j))
  obtain ⟨-, k1, hk1', cm1, hkk1⟩ := (sTb_ar hcst.tb t (by omega)).1 n1 (fun j => va_rf (R a1 j))
  have hml : ls.size = (gc Γ).maxLocals := (hL.1.trans hll).trans h.2.2.1.symm
  obtain ⟨vm', X', step⟩ := Xs.arraycopy h.1 h.2.2.2.1 (hts _ hlk) (hts _ hnat) (hts _ hstat) (hts _ hini) (src := a0) (dst := a1) (cs := arrV (oA Ω t) n0 (fun j => va_rf (R a0 j))) (cd := arrV (oA Ω t) n1 (fun j => va_rf (R a1 j))) (srcPos := sI sp) (destPos := sI dp) (n := sI m) (by rw [hT]; exact hc0) (by rw [hT]; exact hc1)
    (fun _ h => by cases h) (fun _ h => by cases h) (fun h => by cases h) (fun h => by cases h) hk0' hk1' hkk0 hkk1 (by rw [hE]; rfl) z1 z2 z3
    (by rw [s_nnI _ z1, s_nnI _ z3, y1, y3]; show ¬ _ > ((arrV _ n0 _).slots.size : Int); rw [arrV_size]; omega)
    (by rw [s_nnI _ z2, s_nnI _ z3, y2, y3]; show ¬ _ > ((arrV _ n1 _).slots.size : Int); rw [arrV_size]; omega)
    (fun vm₁ hal i hi => by
      rw [y3] at hi
      have e : (arrV (oA Ω t) n0 (fun j => va_rf (R a0 j))).slots.getD ((sI sp).toNatClampNeg + i) .null = va_rf (R a0 (sp + i)) := by
        rw [y1, Array.getD_eq_getD_getElem?, arrV_read _ _ (by omega)]
        show va_rf (R a0 ((sp.toNat + i : Nat) : Int)) = _
        rw [show ((sp.toNat + i : Nat) : Int) = sp + i by omega]
      rw [e]
      cases hy : R a0 (sp + i) with
      | none => exact ⟨by rw [hE]; rfl, trivial⟩
      | some y =>
        obtain ⟨cellV, g1, g2, ⟨kC, hkC⟩, hasg⟩ := (hel i y (by omega) (by omega) hy).any hW hcst hS
        cases hk1'.symm.trans r1
        have h9 := hkk1
        rw [hE] at h9
        cases h9.symm.trans r2
        obtain ⟨kE, hkE, -⟩ := Vm.findClass_spec r3
        obtain ⟨kC', hkC', -⟩ := hal.2.2 _ _ hkC
        obtain ⟨kE', hkE', -⟩ := hal.2.2 _ _ hkE
        refine ⟨by rw [hE]; rfl, cellV, (show T.heap[y]? = some cellV by rw [hT]; exact g1), (fun q h => by rw [h] at g2; cases g2), ⟨kC', hkC'⟩, ?_, ?_⟩
        · exact ⟨kE', hkE'⟩
        · show vm₁.assignable _ _ = true
          rw [hal.assignable]
          exact hasg _ r3)
    (g := F0 (gm Γ) pc ls (vI m :: vI dp :: .ref a1 :: vI sp :: .ref a0 :: st)) rfl hml (rest := st) rfl (by rw [h.2.1]; exact dd) hd (by
      have e9 : nativeFrameWords "java/lang/System" "arraycopy" 5 ≤ 7 := by decide
      show 2 * 0 + _ + _ ≤ 40 * d
      omega)
  have e1 : copied (arrV (oA Ω t) n0 (fun j => va_rf (R a0 j))) (arrV (oA Ω t) n1 (fun j => va_rf (R a1 j))) (sI sp) (sI dp) (sI m) = arrV (oA Ω t) n1 (fun j : Nat => va_rf (cpyR (R a0) (R a1) sp dp m j)) := by
    have e2 := va_copied (fun z : Option Nat => va_rf z) (oA Ω t) (oA Ω t) (n0 := n0) (n1 := n1) (sp := (sI sp).toNatClampNeg) (dp := (sI dp).toNatClampNeg) (n := (sI m).toNatClampNeg) (fun j : Nat => R a0 j) (fun j : Nat => R a1 j) (by rw [y1, y3]; omega)
    refine Eq.trans (show copied _ _ _ _ _ = _ from e2) ?_
    congr 1
    funext i
    rw [y1, y2, y3]
    unfold va_cpy cpyR
    by_cases hq : dp.toNat ≤ i ∧ i < dp.toNat + m.toNat
    · rw [if_pos hq, if_pos (by omega)]
      show va_rf (R a0 ((sp.toNat + (i - dp.toNat) : Nat) : Int)) = _
      rw [show ((sp.toNat + (i - dp.toNat) : Nat) : Int) = sp + (i - dp) by omega]
    · rw [if_neg hq, if_neg (by omega)]
  rw [e1] at X' step
  have hl : a1 < H.size := (Array.getElem?_eq_some_iff.mp hc1).1
  have hheap : ((T.setVm vm').setCell a1 (arrV (oA Ω t) n1 (fun j : Nat => va_rf (cpyR (R a0) (R a1) sp dp m j)))).heap = H.setIfInBounds a1 (arrV (oA Ω t) n1 (fun j : Nat => va_rf (cpyR (R a0) (R a1) sp dp m j))) := by rw [← hT]; rfl
  have oq : ∀ q : Nat, q ≠ a1 → (H.setIfInBounds a1 (arrV (oA Ω t) n1 (fun j : Nat => va_rf (cpyR (R a0) (R a1) sp dp m j))))[q]? = H[q]? := fun q hq => by simp [Array.getElem?_setIfInBounds, Ne.symm hq]
  have hWn : sWd Ω n K X (sCpR R a1 (cpyR (R a0) (R a1) sp dp m)) (H.setIfInBounds a1 (arrV (oA Ω t) n1 (fun j : Nat => va_rf (cpyR (R a0) (R a1) sp dp m j)))) := by
    refine sWd_put hW (by simp) oq hW.2.2.1 (fun b hb => ⟨rfl, if_neg hb⟩) (sW1_rp hk1.2.2 ht (by omega) (show _ = some (arrV (oA Ω t) n1 _) by simp [hl]; rfl) ?_)
    funext i
    simp [sCpR]
  obtain ⟨t', a1', b1⟩ := kk _ _ ls hWn (s_setv hS hk1.1 fun z hz => by
    obtain ⟨y, -, hy⟩ := List.mem_map.mp hz
    rw [← hy]) hL _ hheap X'
  exact ⟨t', step t' a1', b1⟩
end SNEST
