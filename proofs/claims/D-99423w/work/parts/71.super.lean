/-! super() OF AN EXCEPTION WITH FIELDS OF ITS OWN, up to Throwable (no traces kept): follows vx_ctorMade0 of the kit, the object's class apart from the constructor's -/
set_option maxRecDepth 100000
def ex_at (own : String) (ic : Nat) (sup cls : String) (n : Nat) : List Cond :=
  Bundle.throwableAtoms ++ Bundle.chain0Atoms sup [] ++
  [.methodLink own ic (Bundle.init0 sup), .instantiable cls n, .selects cls Bundle.tFill0 Bundle.tFill0, .selects cls Bundle.tFill Bundle.tFill,
   .lays cls Bundle.tN "cause" "Ljava/lang/Throwable;", .lays cls Bundle.tN "stackTrace" Bundle.steD, .lays cls Bundle.tN "suppressedExceptions" Bundle.listD, .lays cls Bundle.tN "detailMessage" "Ljava/lang/String;",
   .isRef (.static Bundle.tN "UNASSIGNED_STACK" Bundle.steD), .isRef (.static Bundle.tN "SUPPRESSED_SENTINEL" Bundle.listD),
   .fieldLink Bundle.tN 198 Bundle.tN "backtrace" "Ljava/lang/Object;", .lays Bundle.tN Bundle.tN "backtrace" "Ljava/lang/Object;", .lays cls Bundle.tN "backtrace" "Ljava/lang/Object;"]
section EXA
variable {p : Program} {l : Launch} {e : Env} {R : Room} {s : State} {m₀ : MethodId} {args : Array Value} {below : List Frame} {meth : Method} {c : Code} {W : State} {locs : List Loc} {cells slots : Nat}
theorem ex_slots {cls : ClassId} {k : Class} {a iC iS iP : Nat} {u0 sen : Value} {tC tS tP : FieldType} (hC : k.instanceTypes[iC]? = some tC) (hS : k.instanceTypes[iS]? = some tS) (hP : k.instanceTypes[iP]? = some tP) (nC : tC ≠ .int) (nS : tS ≠ .int) (nP : tP ≠ .int) (i : Nat) (ty : FieldType) (hi : k.instanceTypes[i]? = some ty) :
    (ty = .int → (((((freshCell cls k).setSlot iC (.ref a)).setSlot iS u0).setSlot iP sen).setSlot iS u0).slots[i]? = some (.int 0)) ∧
    (defaultValue ty = .null → ∃ v, (((((freshCell cls k).setSlot iC (.ref a)).setSlot iS u0).setSlot iP sen).setSlot iS u0).slots[i]? = some v ∧ (v = .null ∨ v = .ref a ∨ v = u0 ∨ v = sen)) := by
  have hf : (freshCell cls k).slots[i]? = some (defaultValue ty) := by simp [hi]
  have hlt : i < k.instanceTypes.size := (Array.getElem?_eq_some_iff.mp hi).1
  simp only [Cell.setSlot, Array.getElem?_setIfInBounds, Array.size_setIfInBounds]
  refine ⟨fun e => ?_, fun e => ?_⟩
  · subst e
    have c1 : iC ≠ i := fun z => nC (Option.some.inj ((z ▸ hC).symm.trans hi))
    have c2 : iS ≠ i := fun z => nS (Option.some.inj ((z ▸ hS).symm.trans hi))
    have c3 : iP ≠ i := fun z => nP (Option.some.inj ((z ▸ hP).symm.trans hi))
    rw [if_neg c2, if_neg c3, if_neg c2, if_neg c1]
    exact hf
  · by_cases c2 : iS = i
    · rw [if_pos c2]
      exact ⟨u0, by subst c2; simp [hlt], Or.inr (Or.inr (Or.inl rfl))⟩
    · rw [if_neg c2]
      by_cases c3 : iP = i
      · rw [if_pos c3]
        exact ⟨sen, by subst c3; simp [hlt], Or.inr (Or.inr (Or.inr rfl))⟩
      · rw [if_neg c3, if_neg c2]
        by_cases c1 : iC = i
        · rw [if_pos c1]
          exact ⟨.ref a, by subst c1; simp [hlt], Or.inr (Or.inl rfl)⟩
        · rw [if_neg c1]
          exact ⟨_, hf, Or.inl e⟩
theorem ex_static {C n d : String} {cT i aS : Nat} {kT : Class} {f : Field} {cell : Cell} {v w : Value} {A : Nat → Prop} (hf : s.fieldFound? C n d = some (cT, kT, i, f)) (hsta : kT.statics = some aS) (hcell : s.heap[aS]? = some cell) (hw : cell.slots[f.slot]? = some w) (h : va_Z C n d v A s s.heap) : w = v := by
  obtain ⟨cf, kf, fi, f', a, cell', h1, -, -, h4, h5, -, h7, -⟩ := h
  cases hf.symm.trans h1
  cases hsta.symm.trans h4
  cases hcell.symm.trans h5
  exact Option.some.inj (hw.symm.trans h7)
set_option maxHeartbeats 2000000 in
theorem ex_ctor (X : Stand p l e R s m₀ args below meth c W locs cells slots) (hexec : p.tables.exec = Jvm.exec) (htr : e.platform.stackTraces = false) {own sup cls : String} {n ic : Nat} {A : Nat → Prop} {vU vN : Value}
    (hown : s.vm.findClass own = some m₀.cls) (hsup : Bundle.fit sup = true)
    (h : ∀ a ∈ ex_at own ic sup cls n, a.before args s = true) (hU : va_Z Bundle.tN "UNASSIGNED_STACK" Bundle.steD vU A s s.heap) (hN : va_Z Bundle.tN "SUPPRESSED_SENTINEL" Bundle.listD vN A s s.heap)
    (hlocs : ∀ x ∈ locs, ∀ cell, s.heap[x.base]? = some cell → cell.vm.isStatics = false)
    {a : Addr} {cX : ClassId} {kX : Class} (hfoundX : s.vm.findClass cls = some cX) (hkX : s.vm.classes[cX]? = some kX) (hcell : W.heap[a]? = some (freshCell cX kX))
    {g : JFrame} (hg : g.method = m₀) (hsize : g.locals.size = c.maxLocals) {rest : List Value} (hstack : g.stack = .ref a :: rest)
    (hd6 : decode c.code g.pc = .ok (.invokespecial ic, 3))
    (hRframes : 3 < R.frames) (hRlocals : 2 * g.monitorRoom + (rest.map fun v => v.category).sum + 54 ≤ R.locals) :
    ∃ (vm' : Vm) (ce : Cell) (L : List Loc), Stand p l e R s m₀ args below meth c ((W.setVm vm').setCell a ce) (locs ++ L) cells slots ∧ (∀ y ∈ L, y.base = a) ∧ ce.cls = cX ∧ ce.vm = .none ∧
      (∀ (i : Nat) (ty : FieldType), kX.instanceTypes[i]? = some ty → (ty = .int → ce.slots[i]? = some (.int 0)) ∧ (defaultValue ty = .null → ∃ v, ce.slots[i]? = some v ∧ (v = .null ∨ v = .ref a ∨ v = vU ∨ v = vN))) ∧
      ∀ target, Steps p.tables e below (((W.setVm vm').setCell a ce).setTop { g with stack := rest, pc := g.pc + 3 }) target → Steps p.tables e below (W.setTop g) target := by
  have howns : e.platform.frameOwnsMonitors = true := by rw [X.admits.platform]
  have hfin : e.platform.finalization = false := by rw [X.admits.platform]
  have hpl : e.platform.magicAccessors = ({} : Platform).magicAccessors := by rw [X.admits.platform]
  have a' : ∀ x, x ∈ ex_at own ic sup cls n → x.holds args s none s [] = true := fun x hx => h x hx
  obtain ⟨T, Z, L, LZ, Y⟩ := ThrowableC.of_atoms (args := args) howns hfin hpl (fun x hx => h x (by simp [ex_at, hx]))
  obtain ⟨P1, Ps, hlen, L1, hL, hP1m, hlink1, hlink⟩ := Bundle.chain0 (args := args) hpl Y.init0 [] sup hsup (fun _ q => nomatch q) (fun x hx => h x (by simp [ex_at, hx]))
  obtain ⟨c1, kX', hc1, hk, hord, -, -, hn6⟩ := Cond.instantiable_spec (a' (.instantiable cls n) (by simp [ex_at]))
  cases Option.some.inj (hc1.symm.trans hfoundX)
  cases Option.some.inj (hkX.symm.trans hk)
  have hsel0 : selectMethod e.platform s.vm cX T.fill0 = .method T.fill0 := by
    obtain ⟨c2, r2, m2, q1, q2, q3, q4, -⟩ := Cond.selects_spec (a' (.selects cls Bundle.tFill0 Bundle.tFill0) (by simp [ex_at]))
    cases Option.some.inj (q1.symm.trans hfoundX)
    cases Option.some.inj (q2.symm.trans (State.methodFound?_of_named Y.fill0 (by decide)))
    cases Option.some.inj (q3.symm.trans Y.fill0)
    rw [Launch.admits_selectMethod X.admits]; exact q4
  have hselF : selectMethod e.platform s.vm cX T.fill = .method T.fill := by
    obtain ⟨c2, r2, m2, q1, q2, q3, q4, -⟩ := Cond.selects_spec (a' (.selects cls Bundle.tFill Bundle.tFill) (by simp [ex_at]))
    cases Option.some.inj (q1.symm.trans hfoundX)
    cases Option.some.inj (q2.symm.trans (State.methodFound?_of_named Y.fill (by decide)))
    cases Option.some.inj (q3.symm.trans Y.fill)
    rw [Launch.admits_selectMethod X.admits]; exact q4
  obtain ⟨cellS0, hcS0, hiss⟩ := Y.statics
  obtain ⟨u0, hu0⟩ := Cond.staticRefV Y.unassigned L.unassignedStatic L.statics hcS0 hiss (a' (.isRef (.static Bundle.tN "UNASSIGNED_STACK" Bundle.steD)) (by simp [ex_at]))
  obtain ⟨sen, hsen⟩ := Cond.staticRefV Y.sentinel L.sentinelStatic L.statics hcS0 hiss (a' (.isRef (.static Bundle.tN "SUPPRESSED_SENTINEL" Bundle.listD)) (by simp [ex_at]))
  have eU : u0.v = vU := ex_static Y.unassigned L.statics hcS0 hu0 hU
  have eN : sen.v = vN := ex_static Y.sentinel L.statics hcS0 hsen hN
  obtain ⟨ci198, i198, fB, hk198, hg198, ha198, hsB, -, hnB, htB, hffB⟩ := Cond.ownField (t := .object "java/lang/Object") Y.found L.cls (by decide +kernel) (a' (.fieldLink Bundle.tN 198 Bundle.tN "backtrace" "Ljava/lang/Object;") (by simp [ex_at])) (a' (.lays Bundle.tN Bundle.tN "backtrace" "Ljava/lang/Object;") (by simp [ex_at])) e.platform hpl
  obtain ⟨cellS, hcS', heS, -, hkeep⟩ := X.same.2.2.2.2.2 T.aS cellS0 hcS0
  have hcellS : W.heap[T.aS]? = some cellS := hcS'
  have hout' : ∀ i, (⟨T.aS, i⟩ : Loc) ∉ locs := fun i hmem => by
    have := hlocs _ hmem cellS0 hcS0
    rw [hiss] at this; cases this
  have hknownS : cellS.vm ≠ .unknown := by
    rw [heS]; intro hu
    rw [show cellS0.vm = .unknown from hu] at hiss
    cases hiss
  have hneS : T.aS ≠ a := fun z => by
    have h8 : cellS.vm = cellS0.vm := by rw [heS]
    rw [z, hcell] at hcellS
    have h9 : (freshCell cX kX).vm = cellS.vm := congrArg Cell.vm (Option.some.inj hcellS)
    rw [← h8, ← h9] at hiss
    cases hiss
  obtain ⟨iM, hffM⟩ := Y.msg
  obtain ⟨tyC, dC, hdC, hdnC⟩ := Cond.laysAt hfoundX hk Y.cause (a' (.lays cls Bundle.tN "cause" "Ljava/lang/Throwable;") (by simp [ex_at]))
  obtain ⟨tyS, dS, hdS, hdnS⟩ := Cond.laysAt hfoundX hk Y.stack (a' (.lays cls Bundle.tN "stackTrace" Bundle.steD) (by simp [ex_at]))
  obtain ⟨tyP, dP, hdP, hdnP⟩ := Cond.laysAt hfoundX hk Y.supp (a' (.lays cls Bundle.tN "suppressedExceptions" Bundle.listD) (by simp [ex_at]))
  obtain ⟨tyB, dB, hdB, hdnB⟩ := Cond.laysAt hfoundX hk hffB (a' (.lays cls Bundle.tN "backtrace" "Ljava/lang/Object;") (by simp [ex_at]))
  have bC := Cond.laysApart hdB hdC hdnB hdnC (by rw [hnB, Y.causeName]; decide)
  have bS := Cond.laysApart hdB hdS hdnB hdnS (by rw [hnB, Y.stackName]; decide)
  have bP := Cond.laysApart hdB hdP hdnB hdnP (by rw [hnB, Y.suppName]; decide)
  have hskip : SkipFacts T e.platform s (fun u => u) u0 ((preparedCellV T.toThrowableT (freshCell cX kX) a u0 sen).withEntry W.cur) :=
    ⟨{ ci198 := ci198, i198 := i198, fBack := fB }, ⟨hk198, hg198, ha198, hsB⟩, by
      have := fresh_default (c := cX) tyB
      rw [htB] at this
      simpa [preparedCellV, Cell.setSlot, Cell.withEntry, Array.getElem?_setIfInBounds, bC, bS, bP, bC.symm, bS.symm, bP.symm, defaultValue] using this, fun _ _ => rfl⟩
  obtain ⟨tm, methC, cdC, kC, vm₁, hnC, -, -, -, -, -, -, -, hW₁, st1⟩ := Steps.initCold (tb := p.tables) (e := e) (below := below) (s := s) (U := W) X.here hexec X.warmed hpl hown (t := Bundle.init0 sup) rfl rfl (Bundle.fit_spec hsup).2
    (a' (.methodLink own ic (Bundle.init0 sup)) (by simp [ex_at])) (h (.instanceMethod (Bundle.init0 sup)) (by simp [ex_at, Bundle.chain0Atoms, Bundle.passAtoms])) (bytes := Bundle.five) (maxL := 1) (h (.code (Bundle.init0 sup) Bundle.five 1 none) (by simp [ex_at, Bundle.chain0Atoms, Bundle.passAtoms]))
    (f := g) hg (a := a) (rest := rest) hstack hd6
  cases Option.some.inj (hnC.symm.trans hP1m)
  have X₁ := X.noted hW₁
  obtain ⟨vm₂, X₂, st2⟩ := X₁.ctorPlainOffV hexec (g := { g with stack := rest }) hg hsize T L Z LZ (P1 :: Ps)
    (fun P hP => by rcases List.mem_cons.mp hP with rfl | hP; exact L1; exact hL P hP) ⟨hlink1, hlink⟩ (u0 := u0) (sen := sen) (self := a) (cell := freshCell cX kX) (cellS := cellS)
    hcell (fun _ => by simp) (by simp) rfl rfl hsel0 hselF hcellS hneS hknownS (by rw [hkeep _ (hout' _)]; exact hu0) (by rw [hkeep _ (hout' _)]; exact hsen)
    (Takes.of_laid hk hord tyC (by rw [Y.causeType]; rfl)) (Takes.of_laid hk hord tyS (by rw [Y.stackType]; exact fits_refV_array _ u0)) (Takes.of_laid hk hord tyP (by rw [Y.suppType]; exact fits_refV_object _ sen)) Y.objLocals hskip htr [] hd6
    (by simp only [List.length_cons, hlen, List.length_nil]; omega) (by simp only [List.length_cons, hlen, List.length_nil]; omega)
  refine ⟨vm₂, _, _, X₂, fun y hy => ?_, rfl, rfl, fun i ty hi => ?_, fun target hwalk => st1 _ (fun acts => ?_)⟩
  · simp only [List.mem_cons, List.not_mem_nil, or_false] at hy
    rcases hy with rfl | rfl | rfl | rfl <;> rfl
  · rw [← eU, ← eN]
    exact ex_slots tyC tyS tyP (by rw [Y.causeType]; exact fun z => nomatch z) (by rw [Y.stackType]; exact fun z => nomatch z) (by rw [Y.suppType]; exact fun z => nomatch z) i ty hi
  · rw [doInvoke_state]
    exact st2 _ hwalk
end EXA
