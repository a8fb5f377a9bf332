/-! ===== an own judgement over an abstract heap: integers, the world, the locals ===== -/
def sI (z : Int) : Int32 := Int32.ofInt z
def vI (z : Int) : Value := .int (sI z)
abbrev sRg (z : Int) : Prop := -2147483648 ≤ z ∧ z ≤ 2147483647
theorem sI_toInt {z : Int} (h : sRg z) : (sI z).toInt = z := Int32.toInt_ofInt_of_le (by omega) (by omega)
theorem sI_add (a b : Int) : sI a + sI b = sI (a + b) := (Int32.ofInt_add a b).symm
theorem sI_sub (a b : Int) : sI a - sI b = sI (a - b) := (Int32.ofInt_sub a b).symm
theorem sI_mul (a b : Int) : sI a * sI b = sI (a * b) := (Int32.ofInt_mul a b).symm
theorem sI_eq {a b : Int} (ha : sRg a) (hb : sRg b) : sI a = sI b ↔ a = b := ⟨fun h => by rw [← sI_toInt ha, ← sI_toInt hb, h], fun h => by rw [h]⟩
theorem sI_lt {a b : Int} (ha : sRg a) (hb : sRg b) : sI a < sI b ↔ a < b := by rw [Int32.lt_iff_toInt_lt, sI_toInt ha, sI_toInt hb]
theorem sI_le {a b : Int} (ha : sRg a) (hb : sRg b) : sI a ≤ sI b ↔ a ≤ b := by rw [Int32.le_iff_toInt_le, sI_toInt ha, sI_toInt hb]
theorem sI_of (x : Int32) : sI x.toInt = x := Int32.ofInt_toInt x
theorem vI_of (x : Int32) : Value.int x = vI x.toInt := by unfold vI; rw [sI_of]
theorem sRg_of (x : Int32) : sRg x.toInt := ⟨by have := x.le_toInt; omega, by have := x.toInt_lt; omega⟩
theorem sI_0 : sI 0 = 0 := by decide
theorem sI_cl {z : Int} {n : Nat} (h : 0 ≤ z ∧ z < (n : Int)) (hn : n < 2147483648) : (sI z).toNatClampNeg = z.toNat := Int32.toNatClampNeg_ofInt_of_le (by omega) (by omega)
theorem sI_in {z : Int} {n : Nat} (h : 0 ≤ z ∧ z < (n : Int)) (hn : n < 2147483648) : vp_in (sI z) n := by
  intro q
  rcases q with q | q
  · rw [← sI_0, sI_lt (by omega) (by omega)] at q
    omega
  · rw [sI_cl h hn] at q
    omega
theorem sI_div {a b : Int} (ha : sRg a) (hb : sRg b) : sI a / sI b = sI (a.tdiv b) :=
  (Int32.ofInt_tdiv (by rw [Int32.toInt_minValue]; omega) (by rw [Int32.toInt_maxValue]; omega) (by rw [Int32.toInt_minValue]; omega) (by rw [Int32.toInt_maxValue]; omega)).symm
theorem sI_rem {a b : Int} (ha : sRg a) (hb : sRg b) : sI a - sI a / sI b * sI b = sI (a.tmod b) := by
  rw [sI_div ha hb, sI_mul, sI_sub]
  rw [Int.tmod_def, Int.mul_comm (a.tdiv b) b]
theorem sI_ne0 {a : Int} (ha : sRg a) (h : a ≠ 0) : ¬ sI a = 0 := fun q => h ((sI_eq ha (by omega)).mp (q.trans sI_0.symm))

abbrev XT : Type := Nat → Int → Int
abbrev RT : Type := Nat → Int → Option Nat
abbrev KT : Type := Nat → Nat × Nat
/-- launch, classes, their slots, the array classes, the law's start, the script's cell -/
abbrev OmT : Type := Launch × (Nat → ClassId) × (Nat → Nat → Nat) × (Nat → ClassId) × State × Nat
abbrev oL (Ω : OmT) : Launch := Ω.1
abbrev oC (Ω : OmT) : Nat → ClassId := Ω.2.1
abbrev oI (Ω : OmT) : Nat → Nat → Nat := Ω.2.2.1
abbrev oA (Ω : OmT) : Nat → ClassId := Ω.2.2.2.1
abbrev oS (Ω : OmT) : State := Ω.2.2.2.2.1
abbrev oB (Ω : OmT) : Nat := Ω.2.2.2.2.2
def sBs (Ω : OmT) : Nat := (oS Ω).heap.size
/-- the classes of which objects are made -/
def sCl : List vw_C := [(RX0, TX0, 31), (RX1, TX1, 3), (RX2, TX2, 25), (RX3, TX3, 11), (RX4, TX4, 37), (RX5, TX5, 5), (RX6, TX6, 8), (RX8, TX8, 1), (RX9, TX9, 1), (RX10, TX10, 1), (RX11, TX11, 3)]
def sFt (c : Nat) : Nat → FieldType := match c with
  | 0 => tyX0
  | 1 => tyX1
  | 2 => tyX2
  | 3 => tyX3
  | 4 => tyX4
  | 5 => tyX5
  | 6 => tyX6
  | 7 => tyX8
  | 8 => tyX9
  | 9 => tyX10
  | _ => tyX11
def sRef (t : FieldType) : Bool := match t with
  | .array _ => true
  | .object _ => true
  | _ => false
def sFv (c k : Nat) (x : Int) (r : Option Nat) : Value := if sRef (sFt c k) = true then va_rf r else vI x
/-- the kinds of arrays -/
def sAt (i : Nat) : FieldType := match i with
  | 0 => .int
  | 1 => .byte
  | 2 => .boolean
  | 3 => .object "java/lang/String"
  | 4 => .object "SwallowSurvey$Term"
  | 5 => .object "SwallowSurvey$Text"
  | 6 => .object "SwallowSurvey$Swallow"
  | _ => .array .int
def sTys (Ω : OmT) : List (ClassId × FieldType) := [(oA Ω 0, sAt 0), (oA Ω 1, sAt 1), (oA Ω 2, sAt 2), (oA Ω 3, sAt 3), (oA Ω 4, sAt 4), (oA Ω 5, sAt 5), (oA Ω 6, sAt 6), (oA Ω 7, sAt 7)]
def sTb (Ω : OmT) (U : State) : Prop := va_K (oC Ω, oI Ω) sCl (sTys Ω) U
/-- one cell: an array of ints (kinds 0, 1, 2), of references (3 .. 9), an object of the class number kind - 10 -/
def sW1 (Ω : OmT) (K : KT) (X : XT) (R : RT) (a : Nat) (H : Heap) : Prop :=
  if (K a).1 < 3 then H[a]? = some (arrV (oA Ω (K a).1) (K a).2 (fun j => vI (X a j)))
  else if (K a).1 < 10 then H[a]? = some (arrV (oA Ω (K a).1) (K a).2 (fun j => va_rf (R a j)))
  else ∃ q : vw_C, sCl[(K a).1 - 10]? = some q ∧ t_OB a (oC Ω ((K a).1 - 10)) q.2.2 (oI Ω ((K a).1 - 10)) H (fun k => sFv ((K a).1 - 10) k (X a k) (R a k))
def sWd (Ω : OmT) (n : Nat) (K : KT) (X : XT) (R : RT) (H : Heap) : Prop := H.size = n ∧ sBs Ω ≤ n ∧ (∀ a i, sRg (X a i)) ∧ ∀ a, sBs Ω ≤ a → a < n → sW1 Ω K X R a H
/-- what the law's start gives -/
def sOm (Ω : OmT) : Prop := sTb Ω (oS Ω) ∧ (∀ w ∈ lw_tbl, w.before #[.ref (oB Ω)] (oS Ω) = true) ∧ (Jvm.Cond.and given_1 narrow_1).before #[.ref (oB Ω)] (oS Ω) = true ∧ (oL Ω).flags = flags0
def sCst (Ω : OmT) (U : State) : Prop := sOm Ω ∧ (oS Ω).WarmedH U.vm ∧ sBs Ω ≤ U.heap.size ∧ ∀ q, q < sBs Ω → U.heap[q]? = (oS Ω).heap[q]?
theorem sCst.tb {Ω : OmT} {U : State} (h : sCst Ω U) : sTb Ω U := va_K.moved h.2.1.alike h.1.1
abbrev sFr (Ω : OmT) : Nat → Prop := fun q => sBs Ω ≤ q
abbrev PT : Type := Option Value → Nat → KT → XT → RT → Prop
def sQ (Ω : OmT) (P : PT) : Array Value → State → Outcome → State → Prop := fun _ st oc t =>
  ∃ (v : Option Value) (n : Nat) (K : KT) (X : XT) (R : RT), oc = .returned v ∧ P v n K X R ∧ sWd Ω n K X R t.heap ∧ va_F (sFr Ω) st t
abbrev sRm (d mc ms : Nat) : Room := { frames := d, cells := mc, slots := ms, locals := 40 * d }
/-- a method's contract over the abstract heap -/
def sCt (Ω : OmT) (y : MethodName) (cc : ByteArray) (nL : Nat) (ret : Option FieldType) (d mc ms : Nat) (av : List Value) (n : Nat) (K : KT) (X : XT) (R : RT) (P : PT) : Prop :=
  Met (oL Ω) y (ws_ y cc nL ret) (sRm d mc ms) (va_Pc av (fun U => sWd Ω n K X R U.heap ∧ sCst Ω U)) (sQ Ω P) mc ms (sFr Ω)
/-- world, depth, cells, slots, end -/
abbrev ET : Type := OmT × Nat × Nat × Nat × PT
abbrev eO (E : ET) : OmT := E.1
abbrev eR (E : ET) : Room := sRm E.2.1 E.2.2.1 E.2.2.2.1
/-- program, machine's outside, start, method, arguments, frames below, method's row, code, goal -/
abbrev GT : Type := Program × Env × State × MethodId × Array Value × List Frame × Method × Code × (State → Prop)
abbrev gp (Γ : GT) : Program := Γ.1
abbrev ge (Γ : GT) : Env := Γ.2.1
abbrev gs (Γ : GT) : State := Γ.2.2.1
abbrev gm (Γ : GT) : MethodId := Γ.2.2.2.1
abbrev ga (Γ : GT) : Array Value := Γ.2.2.2.2.1
abbrev gb (Γ : GT) : List Frame := Γ.2.2.2.2.2.1
abbrev gM (Γ : GT) : Method := Γ.2.2.2.2.2.2.1
abbrev gc (Γ : GT) : Code := Γ.2.2.2.2.2.2.2.1
abbrev gQ (Γ : GT) : State → Prop := Γ.2.2.2.2.2.2.2.2
def sCx (E : ET) (Γ : GT) (cc : ByteArray) (nL : Nat) (own : String) (ret : Option FieldType) (nm : String) : Prop :=
  (gp Γ).tables.exec = Jvm.exec ∧ (gc Γ).code = cc ∧ (gc Γ).maxLocals = nL ∧ (gs Γ).vm.findClass own = some (gm Γ).cls ∧ (∀ w ∈ lw_all, w.before (ga Γ) (gs Γ) = true) ∧ sCst (eO E) (gs Γ) ∧ (gM Γ).locks = false ∧ (gM Γ).sig.returnType = ret ∧ (gM Γ).name = nm ∧
  ∀ t, MQ (gb Γ) (sQ (eO E) E.2.2.2.2) (ga Γ) (gs Γ) E.2.2.1 E.2.2.2.1 (sFr (eO E)) t → gQ Γ t
/-- the locals that are known: references and ints -/
def sLs (ls : Array Slot) (L : List (Option Value)) : Prop := ls.size = L.length ∧ lv_wf ls ∧ ∀ (i : Nat) (v : Value), L[i]? = some (some v) → ls[i]? = some (.val v) ∧ v.category = 1
def sLv (L : List (Option Value)) : List (Nat × Value) := (List.range L.length).filterMap fun i => (L[i]?.join).map (fun v => (i, v))
theorem sLv_mem {L : List (Option Value)} {q : Nat × Value} : q ∈ sLv L ↔ L[q.1]? = some (some q.2) := by
  unfold sLv
  rw [List.mem_filterMap]
  constructor
  · rintro ⟨i, -, hi⟩
    cases hL : L[i]? with
    | none => rw [hL] at hi; cases hi
    | some o =>
      cases o with
      | none => rw [hL] at hi; cases hi
      | some v =>
        rw [hL] at hi
        cases hi
        exact hL
  · intro h
    refine ⟨q.1, List.mem_range.mpr (List.getElem?_eq_some_iff.mp h).1, ?_⟩
    rw [h]
    rfl
theorem sLs_lv {ls : Array Slot} {L : List (Option Value)} (h : sLs ls L) : lv_has ls L.length (sLv L) := ⟨h.1, h.2.1, fun q hq => (h.2.2 q.1 q.2 (sLv_mem.mp hq)).1⟩
theorem sLs_store {ls ls' : Array Slot} {L : List (Option Value)} {i : Nat} {x : Value} (h : sLs ls L) (hi : i < L.length) (hx : x.category = 1) (h' : lv_has ls' L.length ((i, x) :: (sLv L).filter (fun q => !(q.1 == i) && !(q.1 + 1 == i && q.2.category == 2)))) : sLs ls' (L.set i (some x)) := by
  refine ⟨by rw [h'.1, List.length_set], h'.2.1, fun j v hj => ?_⟩
  by_cases e : j = i
  · subst e
    rw [List.getElem?_set_self hi] at hj
    cases hj
    exact ⟨h'.2.2 (j, _) List.mem_cons_self, hx⟩
  · rw [List.getElem?_set_ne (Ne.symm e)] at hj
    have hc := (h.2.2 j v hj).2
    exact ⟨h'.2.2 (j, v) (List.mem_cons_of_mem _ (List.mem_filter.mpr ⟨sLv_mem.mpr hj, by simp [e, hc]⟩)), hc⟩
theorem sLs_weak {ls : Array Slot} {L L' : List (Option Value)} (h : sLs ls L) (hl : L'.length = L.length) (hw : ∀ (i : Nat) (v : Value), L'[i]? = some (some v) → L[i]? = some (some v)) : sLs ls L' := ⟨by rw [h.1, hl], h.2.1, fun i v hv => h.2.2 i v (hw i v hv)⟩
theorem sLs_none {ls : Array Slot} {L : List (Option Value)} (i : Nat) (h : sLs ls L) : sLs ls (L.set i none) := by
  refine sLs_weak h (by rw [List.length_set]) fun j v hj => ?_
  by_cases e : j = i
  · subst e
    by_cases hl : j < L.length
    · rw [List.getElem?_set_self hl] at hj
      cases hj
    · rw [List.getElem?_eq_none (by rw [List.length_set]; omega)] at hj
      cases hj
  · rwa [List.getElem?_set_ne (Ne.symm e)] at hj
theorem sLs_args : ∀ (vs : List Value) (k : Nat), (∀ v ∈ vs, v.category = 1) → ∀ (i : Nat) (v : Value), vs[i]? = some v → (k + i, v) ∈ lv_args k vs
  | [], _, _, i, v, h => by simp at h
  | w :: vs, k, hc, i, v, h => by
    have h1 : w.category = 1 := hc w List.mem_cons_self
    unfold lv_args
    rw [if_neg (by omega)]
    cases i with
    | zero =>
      rw [List.getElem?_cons_zero] at h
      cases h
      exact List.mem_cons_self
    | succ i =>
      rw [List.getElem?_cons_succ] at h
      have := sLs_args vs (k + 1) (fun v hv => hc v (List.mem_cons_of_mem _ hv)) i v h
      rw [show k + (i + 1) = k + 1 + i by omega]
      exact List.mem_cons_of_mem _ this
theorem sLs_sl (vs : List Value) (hc : ∀ v ∈ vs, v.category = 1) : (lg_sl vs).length = vs.length := by
  induction vs with
  | nil => rfl
  | cons v vs ih =>
    have h1 : v.category = 1 := hc v List.mem_cons_self
    unfold lg_sl at ih ⊢
    rw [List.flatMap_cons, List.length_append, ih (fun v hv => hc v (List.mem_cons_of_mem _ hv)), if_neg (by omega)]
    simp
    omega
theorem sLs_entry (vs : List Value) (n : Nat) (hc : ∀ v ∈ vs, v.category = 1) (hn : vs.length ≤ n) : sLs ((lg_sl vs ++ List.replicate (n - (lg_sl vs).length) Slot.unset).toArray) (vs.map some ++ List.replicate (n - vs.length) none) := by
  have h := lv_entry vs (n := n) (by rw [sLs_sl vs hc]; exact hn)
  refine ⟨by rw [h.1]; simp; omega, h.2.1, fun i v hv => ?_⟩
  by_cases hi : i < vs.length
  · rw [List.getElem?_append_left (by simpa using hi), List.getElem?_map] at hv
    cases hq : vs[i]? with
    | none => rw [hq] at hv; cases hv
    | some w =>
      rw [hq] at hv
      cases hv
      have := sLs_args vs 0 hc i v hq
      rw [Nat.zero_add] at this
      exact ⟨h.2.2 _ this, hc v (List.mem_of_getElem? hq)⟩
  · rw [List.getElem?_append_right (by simpa using hi)] at hv
    have := List.mem_of_getElem? hv
    simp at this
/-- from here the run comes to its end, whatever heap the abstract heap describes -/
def sG (E : ET) (Γ : GT) (k j : Nat) (n : Nat) (K : KT) (X : XT) (R : RT) (pc : Nat) (L : List (Option Value)) (st : List Value) : Prop :=
  ∀ (H : Heap) (locs : List Loc) (ls : Array Slot), sWd (eO E) n K X R H → va_S (sFr (eO E)) (gs Γ).heap H locs → sLs ls L →
    W (gp Γ) (oL (eO E)) (ge Γ) (eR E) (gs Γ) (gm Γ) (ga Γ) (gb Γ) (gM Γ) (gc Γ) H locs k j (gQ Γ) (F0 (gm Γ) pc ls st)
theorem sCt_of {Ω : OmT} {y : MethodName} {cc : ByteArray} {nL : Nat} {ret : Option FieldType} {d mc ms : Nat} {av : List Value} {n : Nat} {K : KT} {X : XT} {R : RT} {P : PT} (hy : plainName y.cls = true) (hc : ∀ v ∈ av, v.category = 1) (hn : av.length ≤ nL)
    (body : ∀ (Γ : GT) (P9 : PT), P9 = P → sCx (Ω, d, mc, ms, P9) Γ cc nL y.cls ret y.name → sG (Ω, d, mc, ms, P9) Γ 0 0 n K X R 0 (av.map some ++ List.replicate (nL - av.length) none) []) : sCt Ω y cc nL ret d mc ms av n K X R P := by
  refine Met.ofW (cc := cc) (maxL := nL) (ret := ret) hy rfl ?_
  intro p e s m args below meth c s₁ B hml hv
  obtain ⟨rfl, hW, hC⟩ := hv
  have hts := atoms_spec (ws := ws_ y cc nL ret) B.pre
  have hts : ∀ w ∈ lw_all, w.before _ s = true := fun w h => hts w (List.mem_cons_of_mem _ h)
  have h := body (p, e, s, m, av.toArray, below, meth, c, MQ below (sQ Ω P) av.toArray s mc ms (sFr Ω)) P rfl ⟨B.exec, B.bytes, hml, findClass_of_methodNamed B.named, hts, hC, B.notSynchronized, B.returns, (name_of_methodNamed B.named B.method).1, fun t h => h⟩
  rw [lg_entry_eq]
  exact h s.heap [] _ hW va_S.rf (sLs_entry av nL hc hn)
