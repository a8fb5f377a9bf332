/-! ===== what lies below the law's start: strings, statics, their arrays ===== -/
theorem sCst.O {Ω : OmT} {s : State} {C : String} {t : Nat} (hc : sCst Ω s) (h : va_O C t (sFr Ω) (oS Ω) (oS Ω).heap) : va_O C t (sFr Ω) s s.heap := (va_O.moved hc.2.1.alike h).kept fun a ha _ => hc.2.2.2 a ha
theorem sCst.OF {Ω : OmT} {s : State} {o fn fd : String} {v : Value} {t : Nat} (hc : sCst Ω s) (h : va_OF o fn fd v t (sFr Ω) (oS Ω) (oS Ω).heap) : va_OF o fn fd v t (sFr Ω) s s.heap := (va_OF.moved hc.2.1.alike h).kept fun a ha _ => hc.2.2.2 a ha
theorem sCst.T {Ω : OmT} {s : State} {ty : FieldType} {t N : Nat} {f : Nat → Value} (hc : sCst Ω s) (h : va_T ty t N f (sFr Ω) (oS Ω) (oS Ω).heap) : va_T ty t N f (sFr Ω) s s.heap := (va_T.moved hc.2.1.alike h).kept fun a ha _ => hc.2.2.2 a ha
theorem sCst.Z {Ω : OmT} {s : State} {C fn fd : String} {v : Value} (hc : sCst Ω s) (h : va_Z C fn fd v (sFr Ω) (oS Ω) (oS Ω).heap) : va_Z C fn fd v (sFr Ω) s s.heap := (va_Z.moved hc.2.1.alike h).kept fun a ha _ => hc.2.2.2 a ha
section SLOW
variable {Ω : OmT} {d mc ms : Nat} {P : PT} {Γ : GT} {cc : ByteArray} {nL : Nat} {own : String} {ret : Option FieldType} {nm : String} {k j n : Nat} {K : KT} {X : XT} {R : RT} {pc : Nat} {L : List (Option Value)} {st : List Value}
theorem ss_nret {ty : FieldType} (h : sCx (Ω, d, mc, ms, P) Γ cc nL own (some ty) nm) {z : Int} (hz : narrow ty (vI z) = vI z) (dd : decode cc pc = .ok (.ireturn, 1)) (hk : k ≤ mc) (hj : j ≤ ms) (hp : P (some (vI z)) n K X R) : sG (Ω, d, mc, ms, P) Γ k j n K X R pc L [vI z] := by
  intro H locs ls hW hS hL
  refine W.widen hk hj ?_
  have hw := W.zret (p := gp Γ) (l := oL Ω) (e := ge Γ) (R := sRm d mc ms) (m := gm Γ) (below := gb Γ) (free := sFr Ω) (Qc := sQ Ω P) (v := sI z) (ls := ls) (cells := mc) (slots := ms) (args := ga Γ) h.1 h.2.1 h.2.2.2.2.2.2.2.1 hz (fun t ht hWt => ⟨_, n, K, X, R, rfl, hp, by rw [ht]; exact hW, hS.F ht⟩) hS.2.2 dd (hlocks := h.2.2.2.2.2.2.1)
  intro T hT Xs
  obtain ⟨t, a1, b1⟩ := hw T hT Xs
  exact ⟨t, a1, h.2.2.2.2.2.2.2.2.2 t b1⟩
theorem ss_getC (h : sCx (Ω, d, mc, ms, P) Γ cc nL own ret nm) {o fn fd : String} {b idx : Nat} {v : Value} (hF : va_OF o fn fd v b (sFr Ω) (oS Ω) (oS Ω).heap) (hl : Cond.fieldLink own idx o fn fd ∈ lw_all) (dd : decode cc pc = .ok (.getfield idx, 3)) (q : Nat) (e : pc + 3 = q) (kk : sG (Ω, d, mc, ms, P) Γ k j n K X R q L (v :: st)) : sG (Ω, d, mc, ms, P) Γ k j n K X R pc L (.ref b :: st) := by
  subst e
  intro H locs ls hW hS hL
  have hcst : sCst Ω (gs Γ) := h.2.2.2.2.2.1
  exact vk_getf h.1 h.2.1 (hcst.OF hF) hS h.2.2.2.1 (h.2.2.2.2.1 _ hl) (fun x hx => hx) dd (kk H locs ls hW hS hL)
theorem ss_gets (h : sCx (Ω, d, mc, ms, P) Γ cc nL own ret nm) {C fn fd : String} {idx : Nat} {v : Value} (hZ : va_Z C fn fd v (sFr Ω) (oS Ω) (oS Ω).heap) (hl : Cond.fieldLink own idx C fn fd ∈ lw_all) (dd : decode cc pc = .ok (.getstatic idx, 3)) (q : Nat) (e : pc + 3 = q) (kk : sG (Ω, d, mc, ms, P) Γ k j n K X R q L (v :: st)) : sG (Ω, d, mc, ms, P) Γ k j n K X R pc L st := by
  subst e
  intro H locs ls hW hS hL
  have hcst : sCst Ω (gs Γ) := h.2.2.2.2.2.1
  exact va_gets h.1 h.2.1 (hcst.Z hZ) hS h.2.2.2.1 (h.2.2.2.2.1 _ hl) (fun x hx => hx) dd (kk H locs ls hW hS hL)
theorem ss_baldC (h : sCx (Ω, d, mc, ms, P) Γ cc nL own ret nm) {a len : Nat} {f : Nat → Value} {i : Int} {v : Value} (hT : va_T .byte a len f (sFr Ω) (oS Ω) (oS Ω).heap) (hn : len < 2147483648) (hi : 0 ≤ i ∧ i < (len : Int)) (hv : f i.toNat = v) (dd : decode cc pc = .ok (.baload, 1)) (q : Nat) (e : pc + 1 = q) (kk : sG (Ω, d, mc, ms, P) Γ k j n K X R q L (v :: st)) : sG (Ω, d, mc, ms, P) Γ k j n K X R pc L (vI i :: .ref a :: st) := by
  subst e
  intro H locs ls hW hS hL
  have hcst : sCst Ω (gs Γ) := h.2.2.2.2.2.1
  exact va_tb h.1 h.2.1 (hcst.T hT) hS (sI_in hi hn) (by rw [sI_cl hi hn]; exact hv) dd (kk H locs ls hW hS hL)
theorem ss_ialdC (h : sCx (Ω, d, mc, ms, P) Γ cc nL own ret nm) {a len : Nat} {f : Nat → Value} {i : Int} {v : Value} (hT : va_T .int a len f (sFr Ω) (oS Ω) (oS Ω).heap) (hn : len < 2147483648) (hi : 0 ≤ i ∧ i < (len : Int)) (hv : f i.toNat = v) (dd : decode cc pc = .ok (.iaload, 1)) (q : Nat) (e : pc + 1 = q) (kk : sG (Ω, d, mc, ms, P) Γ k j n K X R q L (v :: st)) : sG (Ω, d, mc, ms, P) Γ k j n K X R pc L (vI i :: .ref a :: st) := by
  subst e
  intro H locs ls hW hS hL
  have hcst : sCst Ω (gs Γ) := h.2.2.2.2.2.1
  exact va_ti h.1 h.2.1 (hcst.T hT) hS (sI_in hi hn) (by rw [sI_cl hi hn]; exact hv) dd (kk H locs ls hW hS hL)
theorem ss_alenC (h : sCx (Ω, d, mc, ms, P) Γ cc nL own ret nm) {ty : FieldType} {a len : Nat} {f : Nat → Value} (hT : va_T ty a len f (sFr Ω) (oS Ω) (oS Ω).heap) (dd : decode cc pc = .ok (.arraylength, 1)) (q : Nat) (e : pc + 1 = q) (kk : sG (Ω, d, mc, ms, P) Γ k j n K X R q L (vI len :: st)) : sG (Ω, d, mc, ms, P) Γ k j n K X R pc L (.ref a :: st) := by
  subst e
  intro H locs ls hW hS hL
  have hcst : sCst Ω (gs Γ) := h.2.2.2.2.2.1
  exact va_tlen h.1 h.2.1 (hcst.T hT) hS (v := sI len) rfl dd (kk H locs ls hW hS hL)
theorem ss_ldcS (h : sCx (Ω, d, mc, ms, P) Γ cc nL own ret nm) {tx : String} {a idx : Nat} (hZ : vk_R own idx tx a (oS Ω)) (dd : decode cc pc = .ok (.ldc idx, 2)) (q : Nat) (e : pc + 2 = q) (kk : sG (Ω, d, mc, ms, P) Γ k j n K X R q L (.ref a :: st)) : sG (Ω, d, mc, ms, P) Γ k j n K X R pc L st := by
  subst e
  intro H locs ls hW hS hL
  have hcst : sCst Ω (gs Γ) := h.2.2.2.2.2.1
  exact va_ldcS h.1 h.2.1 h.2.2.2.1 (vk_R.warm hcst.2.1 hZ) dd (kk H locs ls hW hS hL)
/-- invokevirtual, the receiver an object that lay there before -/
theorem ss_callC (h : sCx (Ω, d, mc, ms, P) Γ cc nL own ret nm) {y : MethodName} {bytes : ByteArray} {maxL : Nat} {ret' : Option FieldType} {d' mc' ms' : Nat} {b : Nat} {As : List Value} {P' : PT} (ct : sCt Ω y bytes maxL ret' d' mc' ms' (.ref b :: As) n K X R P') {idx : Nat} {C : String} (hg : GoodIn lw_all (wsV own idx C y (ws_ y bytes maxL ret'))) (hO : va_O C b (sFr Ω) (oS Ω) (oS Ω).heap) (na : Nat) (hna : As.length = na) (hm : sMd y na) (hC : y.cls = C) (hd : d' + 1 ≤ d) (hml : maxL ≤ 21) (hll : L.length = nL) (dd : decode cc pc = .ok (.invokevirtual idx, 3)) (q : Nat) (e : pc + 3 = q) {st0 : List Value} (hst : st0 = As.reverse ++ .ref b :: st) (hcat : (st.map fun v => v.category).sum ≤ 8) (k' j' : Nat) (ek : k + mc' = k') (ej : j + ms' = j') (hkk : k' ≤ mc) (hjj : j' ≤ ms) (kk : ∀ v n' K' X' R', P' v n' K' X' R' → n ≤ n' → sG (Ω, d, mc, ms, P) Γ k' j' n' K' X' R' q L (v.toList ++ st)) : sG (Ω, d, mc, ms, P) Γ k j n K X R pc L st0 := by
  subst e; subst ek; subst ej
  intro H locs ls hW hS hL
  have hcst : sCst Ω (gs Γ) := h.2.2.2.2.2.1
  obtain ⟨cell, q1, q2, q3, -⟩ := (hcst.O hO).kept hS.2.1
  have hr := va_runV (H := H) (s := gs Γ) (args := ga Γ) (c := gc Γ) (m := gm Γ) (locs := locs) (cells := k) (slots := j) (R := sRm d mc ms) (p := gp Γ) (l := oL Ω) (e := ge Γ) (below := gb Γ) (meth := gM Γ) (As := As) (rest := st) (g := F0 (gm Γ) pc ls st0) (cc := cc) (nL := nL) (own := own) (index := idx) (y := y) (bytes := bytes) (maxL := maxL) ⟨h.1, h.2.1, h.2.2.1, h.2.2.2.1, h.2.2.2.2.1⟩ ct (cwV na h.2.2.2.2.1 hg rfl rfl rfl ⟨hC, hm⟩ ⟨hd, by show 8 + (maxL + 11) + 40 * d' ≤ 40 * d; omega⟩)
    ⟨fun a U g mk q => ⟨q.1, q.2⟩, ⟨cell, q1, q2, q3⟩, fun U hU hWU => ⟨rfl, by rw [hU]; exact hW, hcst.next hS hU hWU⟩⟩ rfl hna (hL.1.trans hll) hst (lv_room hcat) dd ⟨hkk, hjj⟩
  exact s_back hW.1 hr hS fun v n' K' X' R' H1 locs1 hp hle hW1 hS1 => kk v n' K' X' R' hp hle H1 locs1 ls hW1 hS1 hL
theorem ss_cCv (h : sCx (Ω, d, mc, ms, P) Γ cc nL own ret nm) {y : MethodName} {bytes : ByteArray} {maxL : Nat} {ret' : Option FieldType} {d' : Nat} {b : Nat} {As : List Value} {v : Value} (ct : sCt Ω y bytes maxL ret' d' 0 0 (.ref b :: As) n K X R (pV n K X R (some v))) {idx : Nat} {C : String} (hg : GoodIn lw_all (wsV own idx C y (ws_ y bytes maxL ret'))) (hO : va_O C b (sFr Ω) (oS Ω) (oS Ω).heap) (na : Nat) (hna : As.length = na) (hm : sMd y na) (hC : y.cls = C) (hd : d' + 1 ≤ d) (hml : maxL ≤ 21) (hll : L.length = nL) (dd : decode cc pc = .ok (.invokevirtual idx, 3)) (q : Nat) (e : pc + 3 = q) {st0 : List Value} (hst : st0 = As.reverse ++ .ref b :: st) (hcat : (st.map fun v => v.category).sum ≤ 8) (hkk : k ≤ mc) (hjj : j ≤ ms) (kk : sG (Ω, d, mc, ms, P) Γ k j n K X R q L (v :: st)) : sG (Ω, d, mc, ms, P) Γ k j n K X R pc L st0 := by
  refine ss_callC h ct hg hO na hna hm hC hd hml hll dd q e hst hcat k j rfl rfl hkk hjj fun v' n' K' X' R' hp hn => ?_
  obtain ⟨rfl, rfl, rfl, rfl, rfl⟩ := hp
  exact kk
end SLOW
/-! what the start says of them -/
def nwL : Cond → List Cond
  | .and a b => nwL a ++ nwL b
  | c => [c]
theorem nwL_all {args : Array Value} {s : State} : ∀ (c : Cond), c.before args s = true → ∀ w ∈ nwL c, w.before args s = true := by
  intro c
  fun_induction nwL c with
  | case1 a b iha ihb =>
    intro h w hw
    rw [Cond.before_and, Bool.and_eq_true] at h
    rcases List.mem_append.mp hw with q | q
    · exact iha h.1 w q
    · exact ihb h.2 w q
  | case2 c _ =>
    intro h w hw
    rw [List.mem_singleton.mp hw]
    exact h
/-- a string constant: its object, its bytes' array, its bytes -/
def sSt (Ω : OmT) (a v : Nat) (bs : List Nat) : Prop := va_O "java/lang/String" a (sFr Ω) (oS Ω) (oS Ω).heap ∧ va_OF "java/lang/String" "coder" "B" (vI 0) a (sFr Ω) (oS Ω) (oS Ω).heap ∧ va_OF "java/lang/String" "value" "[B" (.ref v) a (sFr Ω) (oS Ω) (oS Ω).heap ∧ va_T .byte v bs.length (fun j => vI (bs.getD j 0)) (sFr Ω) (oS Ω) (oS Ω).heap ∧ bs.length < 2147483648 ∧ ∀ b ∈ bs, b < 128
def nwElt (own : String) (k : Nat) : Nat → List Nat → List Cond
  | _, [] => []
  | i, b :: l => Cond.eq (.elem (.field (.string own k) "java/lang/String" "value" "[B") (.int (Int32.ofNat i))) (.int (Int32.ofNat b)) :: nwElt own k (i + 1) l
def nwStr (own : String) (k : Nat) (bs : List Nat) : List Cond := Cond.exactly (.string own k) "java/lang/String" :: Cond.eq (.field (.string own k) "java/lang/String" "coder" "B") (.int 0) :: Cond.arrayOf (.field (.string own k) "java/lang/String" "value" "[B") .byte :: Cond.eq (.length (.field (.string own k) "java/lang/String" "value" "[B")) (.int (Int32.ofNat bs.length)) :: nwElt own k 0 bs
theorem nwElt_in {own : String} {k : Nat} : ∀ (l : List Nat) (i j : Nat), j < l.length → Cond.eq (.elem (.field (.string own k) "java/lang/String" "value" "[B") (.int (Int32.ofNat (i + j)))) (.int (Int32.ofNat (l.getD j 0))) ∈ nwElt own k i l
  | [], _, _, h => absurd h (Nat.not_lt_zero _)
  | b :: l, i, 0, _ => List.mem_cons_self
  | b :: l, i, j + 1, h => by
    have := nwElt_in (own := own) (k := k) l (i + 1) j (by simp at h; omega)
    rw [show i + (j + 1) = i + 1 + j by omega]
    exact List.mem_cons_of_mem _ this
theorem sStr_of {Ω : OmT} (h : sOm Ω) {own tx : String} {k : Nat} (bs : List Nat) (hr : Cond.stringRef own k tx ∈ lw_tbl) (i : Nat) (hn : ((nwL narrow_1).drop i).take (nwStr own k bs).length = nwStr own k bs) (hb : (bs.all (fun b => decide (b < 128)) && decide (bs.length < 2147483648)) = true) : ∃ a v, vk_R own k tx a (oS Ω) ∧ sSt Ω a v bs := by
  have hA : ∀ a : Nat, a < (oS Ω).heap.size → ¬ sFr Ω a := fun a ha hq => Nat.not_lt.mpr hq ha
  have hnw : ∀ w ∈ nwStr own k bs, w.before #[.ref (oB Ω)] (oS Ω) = true := fun w hw => by
    refine nwL_all narrow_1 ?_ w (List.mem_of_mem_drop (List.mem_of_mem_take (by rw [hn]; exact hw)))
    have := h.2.2.1
    rw [Cond.before_and, Bool.and_eq_true] at this
    exact this.2
  rw [Bool.and_eq_true, decide_eq_true_eq, List.all_eq_true] at hb
  obtain ⟨adK, adV, h1, h2⟩ := vk_Sof (args := #[.ref (oB Ω)]) (s := oS Ω) (N := 1) (tm := fun _ => .string own k) (len := [bs.length]) (byt := [bs.map Int32.ofNat]) (A := sFr Ω) (fun i hi => by
      have : i = 0 := by omega
      subst this
      exact hb.2) (fun i hi => hnw _ List.mem_cons_self) (fun i hi => hnw _ (List.mem_cons_of_mem _ List.mem_cons_self)) (fun i hi => hnw _ (List.mem_cons_of_mem _ (List.mem_cons_of_mem _ List.mem_cons_self))) (fun i hi => by
      have : i = 0 := by omega
      subst this
      exact hnw _ (List.mem_cons_of_mem _ (List.mem_cons_of_mem _ (List.mem_cons_of_mem _ List.mem_cons_self)))) (fun i hi j hj => by
      have : i = 0 := by omega
      subst this
      have hj' : j < bs.length := hj
      have := hnw _ (List.mem_cons_of_mem _ (List.mem_cons_of_mem _ (List.mem_cons_of_mem _ (List.mem_cons_of_mem _ (nwElt_in bs 0 j hj')))))
      rw [Nat.zero_add] at this
      simpa [hj'] using this) (fun i j hi hj hij => by omega) hA
  obtain ⟨g1, g2, g3, g4⟩ := h1.1 0 (by omega)
  refine ⟨adK 0, adV 0, vk_R.of (h.2.1 _ hr) (h2 0 (by omega)), g1, g2, g3, ?_, hb.2, fun b hq => of_decide_eq_true (hb.1 b hq)⟩
  have e : (fun j => vI ((bs.getD j 0 : Nat) : Int)) = fun j => Value.int (([bs.map Int32.ofNat].getD 0 []).getD j 0) := by
    funext j
    show Value.int (Int32.ofInt ((bs.getD j 0 : Nat) : Int)) = Value.int ((bs.map Int32.ofNat).getD j 0)
    rw [List.getD_eq_getElem?_getD, List.getD_eq_getElem?_getD, List.getElem?_map]
    cases bs[j]? <;> rfl
  rw [e]
  exact g4
