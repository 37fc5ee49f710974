/-! the constructor of an exception with a message; need -/
set_option maxRecDepth 100000
section CTOR
variable {w : WE} {p : Program} {e : Env} {R : Room} {s : State} {m : MethodId} {args : Array Value} {below : List Frame} {meth : Method} {c : Code} {T' : State} {locs : List Loc} {k n : Nat}
set_option maxHeartbeats 2000000 in
theorem ctor_go (hexec : p.tables.exec = Jvm.exec) (hK : KW w s) (htr : e.platform.stackTraces = false) (hlow : ∀ q : Nat, q < wb w → T'.heap[q]? = (ws0 w).heap[q]?) (X : Stand p w.1 e R s m args below meth c T' locs k n) {g : JFrame} (hg : g.method = m) (hsize : g.locals.size = c.maxLocals)
    {xc : String} {names : List String} (hx : XW xc names) {self qa : Nat} {cX : ClassId} {kX0 : Class} (hcell : T'.heap[self]? = some (freshCell cX kX0)) (hcX : s.vm.findClass xc = some cX) (hkX0 : s.vm.classes[cX]? = some kX0) (hself : wb w ≤ self) {mk : MethodId} (hmk : s.methodNamed? (Jvm.Bundle.initS xc) = some mk) {ig : Instr} {len : Nat} (hdg : decode c.code g.pc = .ok (ig, len))
    (hRf : 7 < R.frames) (hRl : 2 * g.monitorRoom + (g.stack.map fun v => v.category).sum + 10240 ≤ R.locals) :
    ∃ (T2 : State) (L2 : List Loc), Stand p w.1 e R s m args below meth c T2 (locs ++ L2) k n ∧ (∀ q ∈ L2, wb w ≤ q.base) ∧ T2.heap.size = T'.heap.size ∧ (∀ q : Nat, q ≠ self → T2.heap[q]? = T'.heap[q]?) ∧ Tc w xc self T2.heap ∧
      ∀ target, Steps p.tables e below (T2.setTop { g with pc := g.pc + len }) target → ∀ acts, Steps p.tables e below (doInvoke e (T'.setTop g) acts mk #[.ref self, .ref qa]).1 target := by
  obtain ⟨hcls, hnames, hlen3, hsoe, hoom, hchain, hck, hrest⟩ := hx
  obtain ⟨wi, wn, w0, wF, wC, wS, wP, wM, wB, -⟩ := hrest
  have howns : e.platform.frameOwnsMonitors = true := by rw [X.admits.platform]
  have hfin : e.platform.finalization = false := by rw [X.admits.platform]
  have hpl : e.platform.magicAccessors = ({} : Platform).magicAccessors := by rw [X.admits.platform]
  obtain ⟨T, Z0, L, -, Y⟩ := Jvm.ThrowableC.of_atoms (args := a0 w) (s := sv w s) (pl := e.platform) howns hfin hpl (al_at hK at_thr rfl)
  obtain ⟨Z, M, LZ, LM, hnZ⟩ := Jvm.Init0T.ofS_atoms (args := a0 w) hpl L Y (al_at hK at_thS rfl)
  obtain ⟨P1, Ps, hlen, L1, hL, hP1m, hlink1, hlink⟩ := Jvm.Bundle.chainS (args := a0 w) hpl hnZ names xc hcls hnames (al_at hK hchain hck)
  have hfound : (sv w s).vm.findClass xc = some P1.m.cls := findClass_of_methodNamed hP1m
  obtain ⟨c1, kX, hc1, hk, hord, -, -, hn6⟩ := Jvm.Cond.instantiable_spec (wAt hK wn rfl)
  cases Option.some.inj (hc1.symm.trans hfound)
  have hsel0 : selectMethod e.platform (sv w s).vm P1.m.cls T.fill0 = .method T.fill0 := by
    obtain ⟨c2, r2, m2, q1, q2, q3, q4, -⟩ := Jvm.Cond.selects_spec (wAt hK w0 rfl)
    cases Option.some.inj (q1.symm.trans hfound)
    cases Option.some.inj (q2.symm.trans (State.methodFound?_of_named Y.fill0 (by decide)))
    cases Option.some.inj (q3.symm.trans Y.fill0)
    rw [Launch.admits_selectMethod X.admits]; exact q4
  have hselF : selectMethod e.platform (sv w s).vm P1.m.cls T.fill = .method T.fill := by
    obtain ⟨c2, r2, m2, q1, q2, q3, q4, -⟩ := Jvm.Cond.selects_spec (wAt hK wF rfl)
    cases Option.some.inj (q1.symm.trans hfound)
    cases Option.some.inj (q2.symm.trans (State.methodFound?_of_named Y.fill (by decide)))
    cases Option.some.inj (q3.symm.trans Y.fill)
    rw [Launch.admits_selectMethod X.admits]; exact q4
  obtain ⟨cellS, hcS0, hiss⟩ := Y.statics
  have hnU := Jvm.Cond.before_shiftedFace (Jvm.State.Shifted.of_warmed hK.2.2.2) _ rfl (nwU hK)
  have hnS := Jvm.Cond.before_shiftedFace (Jvm.State.Shifted.of_warmed hK.2.2.2) _ rfl (nwS hK)
  obtain ⟨u0, hu0⟩ := Jvm.Cond.staticRefV Y.unassigned L.unassignedStatic L.statics hcS0 hiss hnU
  obtain ⟨sen, hsen⟩ := Jvm.Cond.staticRefV Y.sentinel L.sentinelStatic L.statics hcS0 hiss hnS
  have haS : T.aS < wb w := (Array.getElem?_eq_some_iff.mp hcS0).1
  have hcellS : T'.heap[T.aS]? = some cellS := (hlow _ haS).trans hcS0
  have hknownS : cellS.vm ≠ .unknown := by
    intro hu
    rw [hu] at hiss
    cases hiss
  obtain ⟨ci198, i198, fB, hk198, hg198, ha198, hsB, -, hnB, htB, hffB⟩ := Jvm.Cond.ownField (t := .object "java/lang/Object") Y.found L.cls (by decide +kernel) (wAt (c := Jvm.Cond.fieldLink Jvm.Bundle.tN 198 Jvm.Bundle.tN "backtrace" "Ljava/lang/Object;") hK (lw_all_tbl q595) rfl) (wAt (c := Jvm.Cond.lays Jvm.Bundle.tN Jvm.Bundle.tN "backtrace" "Ljava/lang/Object;") hK (lw_all_tbl q625) rfl) e.platform hpl
  obtain ⟨iM, hffM⟩ := Y.msg
  obtain ⟨tyC, dC, hdC, hdnC⟩ := Jvm.Cond.laysAt hfound hk Y.cause (wAt hK wC rfl)
  obtain ⟨tyS, dS, hdS, hdnS⟩ := Jvm.Cond.laysAt hfound hk Y.stack (wAt hK wS rfl)
  obtain ⟨tyP, dP, hdP, hdnP⟩ := Jvm.Cond.laysAt hfound hk Y.supp (wAt hK wP rfl)
  obtain ⟨tyM, dM, hdM, hdnM⟩ := Jvm.Cond.laysAt hfound hk hffM (wAt hK wM rfl)
  obtain ⟨tyB, dB, hdB, hdnB⟩ := Jvm.Cond.laysAt hfound hk hffB (wAt hK wB rfl)
  have bC := Jvm.Cond.laysApart hdB hdC hdnB hdnC (by rw [hnB, Y.causeName]; decide)
  have bS := Jvm.Cond.laysApart hdB hdS hdnB hdnS (by rw [hnB, Y.stackName]; decide)
  have bP := Jvm.Cond.laysApart hdB hdP hdnB hdnP (by rw [hnB, Y.suppName]; decide)
  have hskip : SkipFacts T e.platform (sv w s) (fun u => u) u0 ((preparedCellV T.toThrowableT (freshCell P1.m.cls kX) self u0 sen).withEntry T'.cur) :=
    ⟨{ ci198 := ci198, i198 := i198, fBack := fB }, ⟨hk198, hg198, ha198, hsB⟩, by
      have := fresh_default (c := P1.m.cls) tyB
      rw [htB] at this
      simpa [preparedCellV, Cell.setSlot, Cell.withEntry, Array.getElem?_setIfInBounds, bC, bS, bP, bC.symm, bS.symm, bP.symm, defaultValue] using this, fun _ _ => rfl⟩
  have emk : mk = P1.m := Option.some.inj ((show (sv w s).methodNamed? (Jvm.Bundle.initS xc) = some mk from hmk).symm.trans hP1m)
  have ecX : cX = P1.m.cls := Option.some.inj ((show (sv w s).vm.findClass xc = some cX from hcX).symm.trans hfound)
  subst emk
  have ekX : kX0 = kX := by
    rw [ecX] at hkX0
    exact Option.some.inj ((show (sv w s).vm.classes[P1.m.cls]? = some kX0 from hkX0).symm.trans hk)
  subst ekX
  rw [ecX] at hcell
  have h : At T' g.method c below := by rw [hg]; exact X.here
  have hfr' : T'.frames.length + (P1 :: Ps).length + 2 < (e.platform.stackLimits T'.me).1 := by
    have := X.framesAbove hRf
    rw [List.length_cons]
    omega
  have hwd' : (stackUse (.java g :: T'.frames.tail)).2 + 13 * (P1 :: Ps).length + 42 ≤ (e.platform.stackLimits T'.me).2 := by
    have := X.stackAbove hsize (K := 13 * (P1 :: Ps).length + 42) (by rw [List.length_cons]; omega)
    omega
  have hlt : self < T'.heap.size := (Array.getElem?_eq_some_iff.mp hcell).1
  obtain ⟨vm', hW', st⟩ := Jvm.Steps.initThrowableSColdByV p (s₀ := sv w s) (V := T') (g := g) (self := self) h hexec T L Z LZ M LM (warm_sv X.warmed) (t := T'.cur) rfl
    (Nn := fun u => u) heapOnly_id (fun _ _ => rfl) (fun _ => rfl) (fun u x y => setCell_twice _ _ _ _) (fun _ => Nat.le_refl _) (msg := .ref qa) rfl (cN := ((preparedCellV T.toThrowableT (freshCell P1.m.cls kX0) self u0 sen).withEntry T'.cur)) hcell
    (by intro z hz; cases hz) (by intro hz; cases hz) rfl hsel0 hcellS (Nat.ne_of_lt (Nat.lt_of_lt_of_le haS hself)) hknownS hu0 (Takes.of_laid hk hord tyS (by rw [Y.stackType]; exact fits_refV_array _ u0)) (fun _ hu => hu) (fun _ hu => hu) rfl rfl rfl (by simp [preparedCellV, Cell.setSlot, Cell.withEntry]) hskip
    (fun _ _ hA hW _ hroom _ hrest => L.nativeOff p htr hA hW hroom hrest) hselF hsen (Takes.of_laid hk hord tyC (by rw [Y.causeType]; rfl)) (Takes.of_laid hk hord tyP (by rw [Y.suppType]; exact fits_refV_object _ sen)) (Takes.of_laid hk hord tyM (by rw [Y.msgType]; rfl)) Y.objLocals
    (P1 :: Ps) (fun P hP => by
      rcases List.mem_cons.mp hP with rfl | hP
      · exact L1
      · exact hL P hP) ⟨hlink1, hlink⟩ [] rfl hfr' hwd' hdg
  rw [plainBareV_eq T.toThrowableT self u0 sen (.ref qa) T'.cur rfl rfl] at st
  have X4 := X.noted (sv_warm hW')
  have X5 := ((((X4.stored hcell T.fCause.slot (.ref self)).storedAgain hlt T.fStack.slot u0.v).storedAgain hlt T.fSupp.slot sen.v).storedAgain hlt T.fStack.slot u0.v).storedAgain hlt T.fMsg.slot (.ref qa)
  simp only [List.append_assoc] at X5
  refine ⟨_, _, X5, ?_, size_setCell _ _ _, fun q hq => heapAt_setCell_ne _ (Ne.symm hq), ⟨_, heapAt_setCell_self _ hlt, by rw [← hK.2.2.2.alike.findClass]; exact hfound, rfl⟩, fun target ht acts => ?_⟩
  · intro q hq
    have hb : q.base = self := by
      simp only [List.cons_append, List.nil_append, List.mem_cons, List.not_mem_nil, or_false] at hq
      rcases hq with rfl | rfl | rfl | rfl | rfl <;> rfl
    rw [hb]
    exact hself
  · rw [doInvoke_state]
    exact st target ht
end CTOR
