/-! ===== ends, new cells and calls over the abstract heap ===== -/
theorem sCst.next {Ω : OmT} {s U : State} {H : Heap} {locs : List Loc} (h : sCst Ω s) (hS : va_S (sFr Ω) s.heap H locs) (hU : U.heap = H) (hW : s.WarmedH U.vm) : sCst Ω U := by
  refine ⟨h.1, State.WarmedH.trans h.2.1 hW, by rw [hU]; exact Nat.le_trans h.2.2.1 hS.1, fun q hq => ?_⟩
  rw [hU, hS.2.1 q (Nat.lt_of_lt_of_le hq h.2.2.1) (fun z => Nat.not_le.mpr hq z)]
  exact h.2.2.2 q hq
def sNk (K : KT) (n : Nat) (v : Nat × Nat) : KT := fun b => if b = n then v else K b
def sNx (X : XT) (n : Nat) : XT := fun b l => if b = n then 0 else X b l
def sNr (R : RT) (n : Nat) : RT := fun b l => if b = n then none else R b l
theorem sWd_new {Ω : OmT} {n : Nat} {K : KT} {X : XT} {R : RT} {H H1 : Heap} {v : Nat × Nat} (hW : sWd Ω n K X R H) (z : H1.size = n + 1) (o : ∀ q, q < n → H1[q]? = H[q]?) (hc : sW1 Ω (sNk K n v) (sNx X n) (sNr R n) n H1) : sWd Ω (n + 1) (sNk K n v) (sNx X n) (sNr R n) H1 := by
  refine ⟨z, Nat.le_succ_of_le hW.2.1, fun a i => ?_, fun a h1 h2 => ?_⟩
  · unfold sNx
    split
    · omega
    · exact hW.2.2.1 a i
  · by_cases e : a = n
    · subst e
      exact hc
    · have hlt : a < n := by omega
      refine sW1_K (K := K) (sW1_to (hW.2.2.2 a h1 hlt) ?_ ?_ (o a hlt)) ?_
      · funext l
        simp [sNx, e]
      · funext l
        simp [sNr, e]
      · simp [sNk, e]
theorem va_S.new {A : Nat → Prop} {H0 H H1 : Heap} {locs : List Loc} {n : Nat} (h : va_S A H0 H locs) (hn : H.size = n) (z : H1.size = n + 1) (o : ∀ q, q < n → H1[q]? = H[q]?) : va_S A H0 H1 locs := by
  subst hn
  exact ⟨Nat.le_trans h.1 (by omega), fun x h1 h2 => (o x (Nat.lt_of_lt_of_le h1 h.1)).trans (h.2.1 x h1 h2), h.2.2⟩
section SCALL
variable {Ω : OmT} {d mc ms : Nat} {P : PT} {Γ : GT} {cc : ByteArray} {nL : Nat} {own : String} {ret : Option FieldType} {nm : String} {k j n : Nat} {K : KT} {X : XT} {R : RT} {pc : Nat} {L : List (Option Value)} {st : List Value}
theorem ss_iret (h : sCx (Ω, d, mc, ms, P) Γ cc nL own (some .int) nm) {z : Int} (dd : decode cc pc = .ok (.ireturn, 1)) (hk : k ≤ mc) (hj : j ≤ ms) (hp : P (some (vI z)) n K X R) : sG (Ω, d, mc, ms, P) Γ k j n K X R pc L [vI z] := by
  intro H locs ls hW hS hL
  refine W.widen hk hj ?_
  have hw := W.iret (p := gp Γ) (l := oL Ω) (e := ge Γ) (R := sRm d mc ms) (m := gm Γ) (below := gb Γ) (free := sFr Ω) (Qc := sQ Ω P) (v := sI z) (ls := ls) (cells := mc) (slots := ms) (args := ga Γ) h.1 h.2.1 h.2.2.2.2.2.2.2.1 (fun t ht hWt => ⟨_, n, K, X, R, rfl, hp, by rw [ht]; exact hW, hS.F ht⟩) hS.2.2 dd (hlocks := h.2.2.2.2.2.2.1)
  intro T hT Xs
  obtain ⟨t, a1, b1⟩ := hw T hT Xs
  exact ⟨t, a1, h.2.2.2.2.2.2.2.2.2 t b1⟩
theorem ss_zret (h : sCx (Ω, d, mc, ms, P) Γ cc nL own (some .boolean) nm) {z : Int} (hz : z = 0 ∨ z = 1) (dd : decode cc pc = .ok (.ireturn, 1)) (hk : k ≤ mc) (hj : j ≤ ms) (hp : P (some (vI z)) n K X R) : sG (Ω, d, mc, ms, P) Γ k j n K X R pc L [vI z] := by
  intro H locs ls hW hS hL
  refine W.widen hk hj ?_
  have hw := W.zret (p := gp Γ) (l := oL Ω) (e := ge Γ) (R := sRm d mc ms) (m := gm Γ) (below := gb Γ) (free := sFr Ω) (Qc := sQ Ω P) (v := sI z) (ls := ls) (cells := mc) (slots := ms) (args := ga Γ) h.1 h.2.1 h.2.2.2.2.2.2.2.1 (s_nz hz) (fun t ht hWt => ⟨_, n, K, X, R, rfl, hp, by rw [ht]; exact hW, hS.F ht⟩) hS.2.2 dd (hlocks := h.2.2.2.2.2.2.1)
  intro T hT Xs
  obtain ⟨t, a1, b1⟩ := hw T hT Xs
  exact ⟨t, a1, h.2.2.2.2.2.2.2.2.2 t b1⟩
theorem ss_vret (h : sCx (Ω, d, mc, ms, P) Γ cc nL own none nm) (dd : decode cc pc = .ok (.return_, 1)) (hk : k ≤ mc) (hj : j ≤ ms) (hp : P none n K X R) : sG (Ω, d, mc, ms, P) Γ k j n K X R pc L [] := by
  intro H locs ls hW hS hL
  refine W.widen hk hj ?_
  have hw := W.vret (p := gp Γ) (l := oL Ω) (e := ge Γ) (R := sRm d mc ms) (m := gm Γ) (below := gb Γ) (free := sFr Ω) (Qc := sQ Ω P) (ls := ls) (cells := mc) (slots := ms) (args := ga Γ) h.1 h.2.1 h.2.2.2.2.2.2.2.1 (fun t ht hWt => ⟨_, n, K, X, R, rfl, hp, by rw [ht]; exact hW, hS.F ht⟩) hS.2.2 dd (hlocks := h.2.2.2.2.2.2.1)
  intro T hT Xs
  obtain ⟨t, a1, b1⟩ := hw T hT Xs
  exact ⟨t, a1, h.2.2.2.2.2.2.2.2.2 t b1⟩
theorem ss_aret {C : String} (h : sCx (Ω, d, mc, ms, P) Γ cc nL own (some (.object C)) nm) {o : Option Nat} (dd : decode cc pc = .ok (.areturn, 1)) (hk : k ≤ mc) (hj : j ≤ ms) (hp : P (some (va_rf o)) n K X R) : sG (Ω, d, mc, ms, P) Γ k j n K X R pc L [va_rf o] := by
  intro H locs ls hW hS hL
  refine W.widen hk hj ?_
  have hw := W.aret (p := gp Γ) (l := oL Ω) (e := ge Γ) (R := sRm d mc ms) (m := gm Γ) (below := gb Γ) (free := sFr Ω) (Qc := sQ Ω P) (v := va_rf o) (ls := ls) (cells := mc) (slots := ms) (args := ga Γ) h.1 h.2.1 h.2.2.2.2.2.2.2.1 (Or.inl ⟨C, rfl⟩) (by cases o with | none => exact Or.inl rfl | some a => exact Or.inr ⟨a, rfl⟩) (fun t ht hWt => ⟨_, n, K, X, R, rfl, hp, by rw [ht]; exact hW, hS.F ht⟩) hS.2.2 dd (hlocks := h.2.2.2.2.2.2.1)
  intro T hT Xs
  obtain ⟨t, a1, b1⟩ := hw T hT Xs
  exact ⟨t, a1, h.2.2.2.2.2.2.2.2.2 t b1⟩
theorem ss_new (h : sCx (Ω, d, mc, ms, P) Γ cc nL own ret nm) {c N idx : Nat} {C : String} {T : u_T} (kl : sKl c C T N) (hl : Cond.classLink own idx C ∈ lw_all) (hi : Cond.instantiable C N ∈ lw_all) (hn : Cond.initialized C ∈ lw_all) (dd : decode cc pc = .ok (.new idx, 3)) (q : Nat) (e : pc + 3 = q) (k' j' : Nat) (ek : k + 1 = k') (ej : j + N = j') (hk : k' ≤ mc) (hj : j' ≤ ms) (kk : sG (Ω, d, mc, ms, P) Γ k' j' (n + 1) (sNk K n (10 + c, 0)) (sNx X n) (sNr R n) q L (.ref n :: st)) : sG (Ω, d, mc, ms, P) Γ k j n K X R pc L st := by
  subst e; subst ek; subst ej
  intro H locs ls hW hS hL
  have hts := h.2.2.2.2.1
  have hcst : sCst Ω (gs Γ) := h.2.2.2.2.2.1
  have hKn := hcst.tb.1 c _ kl.1
  refine W.newcK h.1 h.2.1 h.2.2.2.1 (hts _ hl) (hts _ hi) (hts _ hn) rfl dd hk hj hKn.2.1 hW.1 fun H1 kC hkC e1 z1 o1 => ?_
  refine kk H1 locs ls (sWd_new hW z1 o1 ?_) (hS.new hW.1 z1 o1) hL
  have hb := u_born (H := H1) (sFt c) hts kl.2.1 hKn hkC e1 kl.2.2.1
  unfold sW1
  have hkn : (sNk K n (10 + c, 0) n).1 = 10 + c := by simp [sNk]
  rw [hkn, if_neg (by omega), if_neg (by omega), Nat.add_sub_cancel_left]
  refine ⟨_, kl.1, hb.to fun i hi => ?_⟩
  rw [sOkT_d (kl.2.2.2.2 i hi)]
  unfold sFv
  simp [sNx, sNr]
theorem ss_newa (h : sCx (Ω, d, mc, ms, P) Γ cc nL own ret nm) {atype : ArrayType} {t : Nat} (ht : t < 3) (hty : newarray.typeOf atype = sAt t) (hr : ∀ U cA, va_RA U cA (sAt t) → U.vm.findClass ("[" ++ (newarray.typeOf atype).toString) = some cA) (hd0 : defaultValue (newarray.typeOf atype) = vI 0) (hw : Cond.arrayClass (newarray.typeOf atype) ∈ lw_all) {z : Int} {N : Nat} (hz : z = (N : Int)) (hN : N ≤ 100000) (hcb : componentBytes (newarray.typeOf atype) ≤ 4) (dd : decode cc pc = .ok (.newarray atype, 2)) (q : Nat) (e : pc + 2 = q) (k' j' : Nat) (ek : k + 1 = k') (ej : j + N = j') (hk : k' ≤ mc) (hj : j' ≤ ms) (kk : sG (Ω, d, mc, ms, P) Γ k' j' (n + 1) (sNk K n (t, N)) (sNx X n) (sNr R n) q L (.ref n :: st)) : sG (Ω, d, mc, ms, P) Γ k j n K X R pc L (vI z :: st) := by
  subst e; subst ek; subst ej; subst hz
  intro H locs ls hW hS hL
  have hts := h.2.2.2.2.1
  have hcst : sCst Ω (gs Γ) := h.2.2.2.2.2.1
  have hcl : (sI (N : Int)).toNatClampNeg = N := by rw [sI_cl (n := N + 1) (by omega) (by omega)]; omega
  have hbytes : N * componentBytes (newarray.typeOf atype) ≤ 536870912 := Nat.le_trans (Nat.mul_le_mul hN hcb) (by decide)
  refine va_newaK h.1 h.2.1 (hts _ hw) rfl dd (n := sI (N : Int)) rfl (by rw [← sI_0, sI_lt (by omega) (by omega)]; omega) hcl hbytes hk hj hW.1 fun H1 cA e1 z1 o1 hAr hNm => ?_
  refine kk H1 locs ls (sWd_new hW z1 o1 ?_) (hS.new hW.1 z1 o1) hL
  have hcA : cA = oA Ω t := Option.some.inj (hNm.symm.trans (hr _ _ (sTb_ar hcst.tb t (by omega)).2))
  subst hcA
  refine sW1_ip (t := t) (len := N) (by simp [sNk]) ht e1 ?_
  funext i
  rw [hd0]
  simp [sNx]
theorem ss_anewa (h : sCx (Ω, d, mc, ms, P) Γ cc nL own ret nm) {C : String} {t idx : Nat} (ht : ¬ t < 3) (ht2 : t < 8) (hty : sAt t = .object C) (hl : Cond.classLink own idx C ∈ lw_all) (hw : Cond.arrayOver (.object C) ∈ lw_tbl) {z : Int} {N : Nat} (hz : z = (N : Int)) (hN : N ≤ 100000) (dd : decode cc pc = .ok (.anewarray idx, 3)) (q : Nat) (e : pc + 3 = q) (k' j' : Nat) (ek : k + 1 = k') (ej : j + N = j') (hk : k' ≤ mc) (hj : j' ≤ ms) (kk : sG (Ω, d, mc, ms, P) Γ k' j' (n + 1) (sNk K n (t, N)) (sNx X n) (sNr R n) q L (.ref n :: st)) : sG (Ω, d, mc, ms, P) Γ k j n K X R pc L (vI z :: st) := by
  subst e; subst ek; subst ej; subst hz
  intro H locs ls hW hS hL
  have hts := h.2.2.2.2.1
  have hcst : sCst Ω (gs Γ) := h.2.2.2.2.2.1
  have hcl : (sI (N : Int)).toNatClampNeg = N := by rw [sI_cl (n := N + 1) (by omega) (by omega)]; omega
  have hov : va_AO C (gs Γ) := va_AO.moved hcst.2.1.alike (va_AO.of (hcst.1.2.1 _ hw))
  refine W.anew h.1 h.2.1 h.2.2.2.1 (hts _ hl) (va_AO.use hov) rfl dd (n := sI (N : Int)) rfl (by rw [← sI_0, sI_lt (by omega) (by omega)]; omega) (by rw [hcl]; omega) hk (by rw [hcl]; exact hj) fun cA kA comp f1 f2 f3 f4 => ?_
  rw [hcl]
  generalize hH1 : H.push ({ cls := cA, slots := Array.replicate N .null, vm := .none } : Cell) = H1
  have hsz := hW.1
  subst hsz
  have z1 : H1.size = H.size + 1 := by rw [← hH1, Array.size_push]
  have e1 : H1[H.size]? = some (arrV cA N (fun _ => .null)) := by rw [← hH1, Array.getElem?_push_size, ← arrV_new]
  have o1 : ∀ q : Nat, q < H.size → H1[q]? = H[q]? := fun q hq => by rw [← hH1, Array.getElem?_push, if_neg (Nat.ne_of_lt hq)]
  refine kk H1 locs ls (sWd_new hW z1 o1 ?_) (hS.new rfl z1 o1) hL
  have hra := (sTb_ar hcst.tb t ht2).2
  rw [hty] at hra
  obtain ⟨_, _, _, _, _, h4⟩ := hra
  have hcA : cA = oA Ω t := Option.some.inj (f1.symm.trans h4)
  subst hcA
  refine sW1_rp (t := t) (len := N) (by simp [sNk]) ht (by omega) e1 ?_
  funext i
  simp [sNr, va_rf]
theorem s_back {p : Program} {l : Launch} {e : Env} {Rm : Room} {s : State} {m : MethodId} {args : Array Value} {below : List Frame} {meth : Method} {c : Code} {Qg : State → Prop} {H : Heap} {locs : List Loc} {mc' ms' : Nat} {P' : PT} {av : Array Value} {ls : Array Slot} {st0 rest : List Value} {n : Nat} (hsz : H.size = n)
    (hr : va_Run p l e Rm s m args below meth c H locs k j mc' ms' (F0 m pc ls st0) rest (sQ Ω P' av) (sFr Ω)) (hS : va_S (sFr Ω) s.heap H locs)
    (kk : ∀ (v : Option Value) (n' : Nat) (K' : KT) (X' : XT) (R' : RT) (H1 : Heap) (locs1 : List Loc), P' v n' K' X' R' → n ≤ n' → sWd Ω n' K' X' R' H1 → va_S (sFr Ω) s.heap H1 locs1 → W p l e Rm s m args below meth c H1 locs1 (k + mc') (j + ms') Qg (F0 m (pc + 3) ls (v.toList ++ rest))) : W p l e Rm s m args below meth c H locs k j Qg (F0 m pc ls st0) := by
  intro T hT Xs
  obtain ⟨v, st₀, t, T', Lc, h0, X', hLc, e1, e2, ⟨⟨v', n', K', X1, R', hv, hp, hW1, hF1, hF2⟩, stp⟩⟩ := hr T hT Xs
  cases hv
  rw [h0] at hF1 hF2
  have hle : n ≤ n' := by rw [← hsz, ← hW1.1]; exact hF1
  obtain ⟨t2, a1, b1⟩ := kk v n' K' X1 R' T'.heap (locs ++ Lc) hp hle (by rw [e1]; exact hW1)
    ⟨Nat.le_trans hS.1 (by rw [e1]; exact hF1), fun q h1 h2 => by rw [e1, hF2 q (Nat.lt_of_lt_of_le h1 hS.1) h2]; exact hS.2.1 q h1 h2, fun q hq => by
      rcases List.mem_append.mp hq with h | h
      · exact hS.2.2 q h
      · exact hLc q h⟩ T' rfl X'
  exact ⟨t2, stp t2 a1, b1⟩
abbrev sMd (y : MethodName) (na : Nat) : Prop := y.cls ≠ "java/lang/invoke/MethodHandle" ∧ y.cls ≠ "java/lang/invoke/VarHandle" ∧ (parseMethodDescriptor y.desc).map (fun d => d.parameters.length) = some na
/-- invokevirtual, of a method of the receiver's own class -/
theorem ss_callV (h : sCx (Ω, d, mc, ms, P) Γ cc nL own ret nm) {y : MethodName} {bytes : ByteArray} {maxL : Nat} {ret' : Option FieldType} {d' mc' ms' : Nat} {b : Nat} {As : List Value} {P' : PT} (ct : sCt Ω y bytes maxL ret' d' mc' ms' (.ref b :: As) n K X R P') {idx : Nat} {C : String} (hg : GoodIn lw_all (wsV own idx C y (ws_ y bytes maxL ret'))) {c N : Nat} {T : u_T} (kl : sKl c C T N) (hk : sOb Ω n K b c) (na : Nat) (hna : As.length = na) (hm : sMd y na) (hC : y.cls = C) (hd : d' + 1 ≤ d) (hml : maxL ≤ 21) (hll : L.length = nL) (dd : decode cc pc = .ok (.invokevirtual idx, 3)) (q : Nat) (e : pc + 3 = q) {st0 : List Value} (hst : st0 = As.reverse ++ .ref b :: st) (hcat : (st.map fun v => v.category).sum ≤ 8) (k' j' : Nat) (ek : k + mc' = k') (ej : j + ms' = j') (hkk : k' ≤ mc) (hjj : j' ≤ ms) (kk : ∀ v n' K' X' R', P' v n' K' X' R' → n ≤ n' → sG (Ω, d, mc, ms, P) Γ k' j' n' K' X' R' q L (v.toList ++ st)) : sG (Ω, d, mc, ms, P) Γ k j n K X R pc L st0 := by
  subst e; subst ek; subst ej
  intro H locs ls hW hS hL
  have hcst : sCst Ω (gs Γ) := h.2.2.2.2.2.1
  obtain ⟨cell, q1, q2, q3, q4⟩ := sW1_o hW hk kl.1
  have hfc := (hcst.tb.1 c _ kl.1).2.1
  have hr := va_runV (H := H) (s := gs Γ) (args := ga Γ) (c := gc Γ) (m := gm Γ) (locs := locs) (cells := k) (slots := j) (R := sRm d mc ms) (p := gp Γ) (l := oL Ω) (e := ge Γ) (below := gb Γ) (meth := gM Γ) (As := As) (rest := st) (g := F0 (gm Γ) pc ls st0) (cc := cc) (nL := nL) (own := own) (index := idx) (y := y) (bytes := bytes) (maxL := maxL) ⟨h.1, h.2.1, h.2.2.1, h.2.2.2.1, h.2.2.2.2.1⟩ ct (cwV na h.2.2.2.2.1 hg rfl rfl rfl ⟨hC, hm⟩ ⟨hd, by show 8 + (maxL + 11) + 40 * d' ≤ 40 * d; omega⟩)
    ⟨fun a U g mk q => ⟨q.1, q.2⟩, ⟨cell, q1, by rw [q3]; rfl, by rw [q2]; exact hfc⟩, fun U hU hWU => ⟨rfl, by rw [hU]; exact hW, hcst.next hS hU hWU⟩⟩ rfl hna (hL.1.trans hll) hst (lv_room hcat) dd ⟨hkk, hjj⟩
  exact s_back hW.1 hr hS fun v n' K' X' R' H1 locs1 hp hle hW1 hS1 => kk v n' K' X' R' hp hle H1 locs1 ls hW1 hS1 hL
/-- invokestatic -/
theorem ss_callS (h : sCx (Ω, d, mc, ms, P) Γ cc nL own ret nm) {y : MethodName} {bytes : ByteArray} {maxL : Nat} {ret' : Option FieldType} {d' mc' ms' : Nat} {As : List Value} {P' : PT} (ct : sCt Ω y bytes maxL ret' d' mc' ms' As n K X R P') {idx : Nat} (hg : GoodIn lw_all (va_wsS own idx y (ws_ y bytes maxL ret'))) (na : Nat) (hna : As.length = na) (hm : sMd y na) (hd : d' + 1 ≤ d) (hml : maxL ≤ 21) (hll : L.length = nL) (dd : decode cc pc = .ok (.invokestatic idx, 3)) (q : Nat) (e : pc + 3 = q) {st0 : List Value} (hst : st0 = As.reverse ++ st) (hcat : (st.map fun v => v.category).sum ≤ 8) (k' j' : Nat) (ek : k + mc' = k') (ej : j + ms' = j') (hkk : k' ≤ mc) (hjj : j' ≤ ms) (kk : ∀ v n' K' X' R', P' v n' K' X' R' → n ≤ n' → sG (Ω, d, mc, ms, P) Γ k' j' n' K' X' R' q L (v.toList ++ st)) : sG (Ω, d, mc, ms, P) Γ k j n K X R pc L st0 := by
  subst e; subst ek; subst ej
  intro H locs ls hW hS hL
  have hcst : sCst Ω (gs Γ) := h.2.2.2.2.2.1
  have hr := va_runS (H := H) (s := gs Γ) (args := ga Γ) (c := gc Γ) (m := gm Γ) (locs := locs) (cells := k) (slots := j) (R := sRm d mc ms) (p := gp Γ) (l := oL Ω) (e := ge Γ) (below := gb Γ) (meth := gM Γ) (As := As) (rest := st) (g := F0 (gm Γ) pc ls st0) (cc := cc) (nL := nL) (own := own) (index := idx) (y := y) (bytes := bytes) (maxL := maxL) ⟨h.1, h.2.1, h.2.2.1, h.2.2.2.1, h.2.2.2.2.1⟩ ct (va_cwS na h.2.2.2.2.1 hg rfl rfl rfl hm ⟨hd, by show 8 + (maxL + 11) + 40 * d' ≤ 40 * d; omega⟩)
    ⟨fun a U g mk q => ⟨q.1, q.2⟩, fun U hU hWU => ⟨rfl, by rw [hU]; exact hW, hcst.next hS hU hWU⟩⟩ rfl hna (hL.1.trans hll) hst (lv_room hcat) dd ⟨hkk, hjj⟩
  exact s_back hW.1 hr hS fun v n' K' X' R' H1 locs1 hp hle hW1 hS1 => kk v n' K' X' R' hp hle H1 locs1 ls hW1 hS1 hL
/-- invokespecial of a constructor -/
theorem ss_callI (h : sCx (Ω, d, mc, ms, P) Γ cc nL own ret nm) {y : MethodName} {bytes : ByteArray} {maxL : Nat} {d' mc' ms' : Nat} {b : Nat} {As : List Value} {P' : PT} (ct : sCt Ω y bytes maxL none d' mc' ms' (.ref b :: As) n K X R P') {idx : Nat} (hg : GoodIn lw_all (ws_ y bytes maxL none)) (hini : Cond.initialized y.cls ∈ lw_all) (hlk : Cond.methodLink own idx y ∈ lw_all) (hin : Cond.instanceMethod y ∈ lw_all) (hyn : y.name = "<init>") (na : Nat) (hna : As.length = na) (hm : sMd y na) (hd : d' + 1 ≤ d) (hml : maxL ≤ 21) (hll : L.length = nL) (dd : decode cc pc = .ok (.invokespecial idx, 3)) (q : Nat) (e : pc + 3 = q) {st0 : List Value} (hst : st0 = As.reverse ++ .ref b :: st) (hcat : (st.map fun v => v.category).sum ≤ 8) (k' j' : Nat) (ek : k + mc' = k') (ej : j + ms' = j') (hkk : k' ≤ mc) (hjj : j' ≤ ms) (kk : ∀ v n' K' X' R', P' v n' K' X' R' → n ≤ n' → sG (Ω, d, mc, ms, P) Γ k' j' n' K' X' R' q L (v.toList ++ st)) : sG (Ω, d, mc, ms, P) Γ k j n K X R pc L st0 := by
  subst e; subst ek; subst ej
  intro H locs ls hW hS hL
  have hts := h.2.2.2.2.1
  have hcst : sCst Ω (gs Γ) := h.2.2.2.2.2.1
  have hr := va_runI (H := H) (s := gs Γ) (args := ga Γ) (c := gc Γ) (m := gm Γ) (locs := locs) (cells := k) (slots := j) (R := sRm d mc ms) (p := gp Γ) (l := oL Ω) (e := ge Γ) (below := gb Γ) (meth := gM Γ) (As := As) (rest := st) (g := F0 (gm Γ) pc ls st0) (cc := cc) (nL := nL) (own := own) (index := idx) (y := y) (bytes := bytes) (maxL := maxL) ⟨h.1, h.2.1, h.2.2.1, h.2.2.2.1, h.2.2.2.2.1⟩ ct (cwI na hts hg rfl rfl rfl (hts _ hini) (hts _ hlk) (hts _ hin) hyn hm ⟨hd, by show 8 + (maxL + 11) + 40 * d' ≤ 40 * d; omega⟩)
    ⟨fun a U g mk q => ⟨q.1, q.2⟩, fun U hU hWU => ⟨rfl, by rw [hU]; exact hW, hcst.next hS hU hWU⟩⟩ rfl hna (hL.1.trans hll) hst (lv_room hcat) dd ⟨hkk, hjj⟩
  exact s_back hW.1 hr hS fun v n' K' X' R' H1 locs1 hp hle hW1 hS1 => kk v n' K' X' R' hp hle H1 locs1 ls hW1 hS1 hL
theorem ss_oinit (h : sCx (Ω, d, mc, ms, P) Γ cc nL own ret nm) {idx a : Nat} (hl : Cond.methodLink own idx Lib.objectInit ∈ lw_all) (hi : Cond.instanceMethod Lib.objectInit ∈ lw_all) (hc : Cond.code Lib.objectInit ⟨#[0xb1]⟩ 1 none ∈ lw_all) (hd : 1 ≤ d) (hll : L.length = nL) (hcat : (st.map fun v => v.category).sum ≤ 8) (dd : decode cc pc = .ok (.invokespecial idx, 3)) (q : Nat) (e : pc + 3 = q) (kk : sG (Ω, d, mc, ms, P) Γ k j n K X R q L st) : sG (Ω, d, mc, ms, P) Γ k j n K X R pc L (.ref a :: st) := by
  subst e
  intro H locs ls hW hS hL
  have hts := h.2.2.2.2.1
  refine W.objInit h.1 h.2.1 h.2.2.2.1 (hts _ hl) (hts _ hi) (hts _ hc) rfl ((hL.1.trans hll).trans h.2.2.1.symm) rfl dd hd ?_ (kk H locs ls hW hS hL)
  have := lv_room (m := gm Γ) (pc := pc) (ls := ls) (rest := .ref a :: st) hcat
  show _ ≤ 40 * d
  omega
end SCALL
/-- ends of methods: nothing changed; ints alone changed -/
abbrev pV (n : Nat) (K : KT) (X : XT) (R : RT) (v : Option Value) : PT := fun v' n' K' X' R' => v' = v ∧ n' = n ∧ K' = K ∧ X' = X ∧ R' = R
abbrev pX (n : Nat) (K : KT) (R : RT) (f : Option Value → XT → Prop) : PT := fun v' n' K' X' R' => f v' X' ∧ n' = n ∧ K' = K ∧ R' = R
