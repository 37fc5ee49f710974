/-! System.arraycopy refuses: null; the rows -/
set_option maxRecDepth 100000
section NATN
variable {w : WE} {p : Program} {e : Env} {R : Room} {s : State} {m : MethodId} {args : Array Value} {below : List Frame} {meth : Method} {c : Code} {T' : State} {locs : List Loc} {k n : Nat} {A : Hp}
set_option maxHeartbeats 4000000 in
theorem npe_goN (hexec : p.tables.exec = Jvm.exec) (hK : KW w s) (htr : e.platform.stackTraces = false) (hR : Rp w A T'.heap) (X : Stand p w.1 e R s m args below meth c T' locs k n) {g : JFrame} (hg : g.method = m) (hsize : g.locals.size = c.maxLocals) {nf : NFrame} (hnw : nf.words = 0) (haw : nf.awaiting = false) (hnl : nf.locked = none)
    (hRf : 8 < R.frames) (hRl : 2 * g.monitorRoom + (g.stack.map fun v => v.category).sum + 10240 ≤ R.locals) (hRc : k + 1 ≤ R.cells) (hRs : n + 8 ≤ R.slots) :
    ∃ (T2 : State) (L2 : List Loc), Stand p w.1 e R s m args below meth c T2 (locs ++ L2) (k + 1) (n + 8) ∧ (∀ q ∈ L2, wb w ≤ q.base) ∧ Rp w (A.1, A.2 + 1) T2.heap ∧ Tc w "java/lang/NullPointerException" A.2 T2.heap ∧
      ∀ target, Steps p.tables e below ((T2.setTop g).pushFrame (.throwing A.2)) target → Steps p.tables e below (T'.setFrames (.throwNew "java/lang/NullPointerException" none none :: .native nf :: .java g :: below)) target := by
  have hKT : KW w T' := hK.warm X.warmed
  have howns : e.platform.frameOwnsMonitors = true := by rw [X.admits.platform]
  have hfin : e.platform.finalization = false := by rw [X.admits.platform]
  have hpl : e.platform.magicAccessors = ({} : Platform).magicAccessors := by rw [X.admits.platform]
  have hpl2 : e.platform.arrayCloneIsPublic = true := by rw [X.admits.platform]
  have hsz := hR.1
  obtain ⟨T, Z, L, LZ, Y⟩ := Jvm.ThrowableC.of_atoms (args := a0 w) (s := sv w T') (pl := e.platform) howns hfin hpl (al_at hKT at_thr rfl)
  obtain ⟨N, LN, hcN, hnNF, hordN, hffS⟩ := Jvm.NpeC.of_atoms (args := a0 w) hpl hpl2 L Y (al_at hKT at_npe rfl)
  obtain ⟨P1, L1, hP1m, hP1s⟩ := Jvm.PassC.of_atoms (args := a0 w) (s := sv w T') hpl (by decide) (by decide) Jvm.LibCode.NullPointerException.Init0.at_0 Jvm.LibCode.NullPointerException.Init0.at_1 Jvm.LibCode.NullPointerException.Init0.at_4 (al_at hKT at_p1 rfl)
  obtain ⟨P2, L2, hP2m, hP2s⟩ := Jvm.PassC.of_atoms (args := a0 w) (s := sv w T') hpl (by decide) (by decide) Jvm.LibCode.RuntimeException.Init0.at_0 Jvm.LibCode.RuntimeException.Init0.at_1 Jvm.LibCode.RuntimeException.Init0.at_4 (al_at hKT at_p2 rfl)
  obtain ⟨P3, L3, hP3m, hP3s⟩ := Jvm.PassC.of_atoms (args := a0 w) (s := sv w T') hpl (by decide) (by decide) Jvm.LibCode.Exception.Init0.at_0 Jvm.LibCode.Exception.Init0.at_1 Jvm.LibCode.Exception.Init0.at_4 (al_at hKT at_p3 rfl)
  have hfound : (sv w T').vm.findClass "java/lang/NullPointerException" = some P1.m.cls := findClass_of_methodNamed hP1m
  have ecls : N.cN = P1.m.cls := Option.some.inj (hcN.symm.trans hfound)
  have hk : (sv w T').vm.classes[P1.m.cls]? = some N.kN := by rw [← ecls]; exact LN.cls
  have hinit := Jvm.Cond.initialized_spec hfound hk (wAt hKT (lw_all_tbl q61) rfl)
  have hctor : N.kN.findMethod "<init>" "()V" = some P1.m.idx := findMethod_of_methodNamed hP1m hk
  obtain ⟨c1, k1, hc1, hk1, -, -, -, hn⟩ := Jvm.Cond.instantiable_spec (wAt (c := Jvm.Cond.instantiable "java/lang/NullPointerException" 8) hKT (lw_all_tbl q581) rfl)
  cases Option.some.inj (hc1.symm.trans hfound)
  cases Option.some.inj (hk1.symm.trans hk)
  have hlink1 : P1.sup = P2.m := Option.some.inj (hP1s.symm.trans hP2m)
  have hlink2 : P2.sup = P3.m := Option.some.inj (hP2s.symm.trans hP3m)
  have hlink3 : P3.sup = Z.m T.toThrowableT := Option.some.inj (hP3s.symm.trans Y.init0)
  have hsel0 : selectMethod e.platform (sv w T').vm P1.m.cls T.fill0 = .method T.fill0 := by
    obtain ⟨c2, r2, m2, q1, q2, q3, q4, -⟩ := Jvm.Cond.selects_spec (wAt (c := Jvm.Cond.selects "java/lang/NullPointerException" Jvm.Bundle.tFill0 Jvm.Bundle.tFill0) hKT (lw_all_tbl q693) rfl)
    cases Option.some.inj (q1.symm.trans hfound)
    cases Option.some.inj (q2.symm.trans (State.methodFound?_of_named Y.fill0 (by decide)))
    cases Option.some.inj (q3.symm.trans Y.fill0)
    rw [Launch.admits_selectMethod X.admits]; exact q4
  have hselF : selectMethod e.platform (sv w T').vm P1.m.cls T.fill = .method N.fill := by
    obtain ⟨c2, r2, m2, q1, q2, q3, q4, -⟩ := Jvm.Cond.selects_spec (wAt (c := Jvm.Cond.selects "java/lang/NullPointerException" Jvm.Bundle.tFill Jvm.Bundle.nFill) hKT (lw_all_tbl q575) rfl)
    cases Option.some.inj (q1.symm.trans hfound)
    cases Option.some.inj (q2.symm.trans (State.methodFound?_of_named Y.fill (by decide)))
    cases Option.some.inj (q3.symm.trans hnNF)
    rw [Launch.admits_selectMethod X.admits]; exact q4
  obtain ⟨cellS, hcS0, hiss⟩ := Y.statics
  have hnU := Jvm.Cond.before_shiftedFace (Jvm.State.Shifted.of_warmed hKT.2.2.2) _ rfl (nwU hKT)
  have hnS := Jvm.Cond.before_shiftedFace (Jvm.State.Shifted.of_warmed hKT.2.2.2) _ rfl (nwS hKT)
  obtain ⟨u0, hu0⟩ := Jvm.Cond.staticRefV Y.unassigned L.unassignedStatic L.statics hcS0 hiss hnU
  obtain ⟨sen, hsen⟩ := Jvm.Cond.staticRefV Y.sentinel L.sentinelStatic L.statics hcS0 hiss hnS
  have haS : T.aS < wb w := (Array.getElem?_eq_some_iff.mp hcS0).1
  have hcellS : T'.heap[T.aS]? = some cellS := (hR.2.2.2 _ haS).trans hcS0
  have hknownS : cellS.vm ≠ .unknown := by
    intro hu
    rw [hu] at hiss
    cases hiss
  obtain ⟨ci198, i198, fB, hk198, hg198, ha198, hsB, -, hnB, htB, hffB⟩ := Jvm.Cond.ownField (t := .object "java/lang/Object") Y.found L.cls (by decide +kernel) (wAt (c := Jvm.Cond.fieldLink Jvm.Bundle.tN 198 Jvm.Bundle.tN "backtrace" "Ljava/lang/Object;") hKT (lw_all_tbl q595) rfl) (wAt (c := Jvm.Cond.lays Jvm.Bundle.tN Jvm.Bundle.tN "backtrace" "Ljava/lang/Object;") hKT (lw_all_tbl q625) rfl) e.platform hpl
  obtain ⟨tyC, dC, hdC, hdnC⟩ := Jvm.Cond.laysAt hfound hk Y.cause (wAt (c := Jvm.Cond.lays "java/lang/NullPointerException" Jvm.Bundle.tN "cause" "Ljava/lang/Throwable;") hKT (lw_all_tbl q688) rfl)
  obtain ⟨tyS, dS, hdS, hdnS⟩ := Jvm.Cond.laysAt hfound hk Y.stack (wAt (c := Jvm.Cond.lays "java/lang/NullPointerException" Jvm.Bundle.tN "stackTrace" Jvm.Bundle.steD) hKT (lw_all_tbl q689) rfl)
  obtain ⟨tyP, dP, hdP, hdnP⟩ := Jvm.Cond.laysAt hfound hk Y.supp (wAt (c := Jvm.Cond.lays "java/lang/NullPointerException" Jvm.Bundle.tN "suppressedExceptions" Jvm.Bundle.listD) hKT (lw_all_tbl q691) rfl)
  obtain ⟨tyX, dX, hdX, hdnX⟩ := Jvm.Cond.laysAt hfound hk hffS (wAt (c := Jvm.Cond.lays "java/lang/NullPointerException" "java/lang/NullPointerException" "extendedMessageState" "I") hKT (lw_all_tbl q682) rfl)
  obtain ⟨tyB, dB, hdB, hdnB⟩ := Jvm.Cond.laysAt hfound hk hffB (wAt (c := Jvm.Cond.lays "java/lang/NullPointerException" Jvm.Bundle.tN "backtrace" "Ljava/lang/Object;") hKT (lw_all_tbl q686) rfl)
  have hnX : N.fState.name = "extendedMessageState" := (State.fieldFound?_type hffS (t := .int) (by decide +kernel)).1
  have bC := Jvm.Cond.laysApart hdB hdC hdnB hdnC (by rw [hnB, Y.causeName]; decide)
  have bS := Jvm.Cond.laysApart hdB hdS hdnB hdnS (by rw [hnB, Y.stackName]; decide)
  have bP := Jvm.Cond.laysApart hdB hdP hdnB hdnP (by rw [hnB, Y.suppName]; decide)
  have bX := Jvm.Cond.laysApart hdB hdX hdnB hdnX (by rw [hnB, hnX]; decide)
  have hskip : SkipFacts T e.platform (sv w T') (fun u => u) u0 ((npeCell N.toNpeT (preparedCellV T.toThrowableT (freshCell P1.m.cls N.kN) T'.heap.size u0 sen) T'.cur).withEntry T'.cur) :=
    ⟨{ ci198 := ci198, i198 := i198, fBack := fB }, ⟨hk198, hg198, ha198, hsB⟩, by
      have := fresh_default (c := P1.m.cls) tyB
      rw [htB] at this
      simpa [npeCell, preparedCellV, Cell.setSlot, Cell.withEntry, Array.getElem?_setIfInBounds, bC, bS, bP, bX, bC.symm, bS.symm, bP.symm, bX.symm, defaultValue] using this, fun _ _ => rfl⟩
  obtain ⟨g₀, hfr0⟩ := X.frames_eq
  have hcur : T'.cur < T'.threads.size := State.cur_lt_of_frames hfr0
  obtain ⟨huse, hbeyond, hfreeW⟩ := nat_may X hsize hnw (.throwNew "java/lang/NullPointerException" none none) (fun f hf => by cases hf) rfl hRl
  have hbl : (Frame.native nf :: .java g :: below).length + 7 < (e.platform.stackLimits T'.me).1 := by
    have := X.framesAbove hRf
    rw [hfr0] at this
    simp only [List.length_cons] at this ⊢
    omega
  have hbm : (Frame.native nf :: .java g :: below) = [Frame.native nf, .java g] ++ below := rfl
  generalize hB : (Frame.native nf :: Frame.java g :: below) = base at huse hbeyond hfreeW hbl hbm
  have X3 := X.pushed (freshCell P1.m.cls N.kN)
  have w1 : (T'.pushCell (freshCell P1.m.cls N.kN)).vm = T'.vm := rfl
  have w2 : (T'.pushCell (freshCell P1.m.cls N.kN)).frames = T'.frames := rfl
  have w3 : (T'.pushCell (freshCell P1.m.cls N.kN)).heap.size = T'.heap.size + 1 := State.heap_size_pushCell _ _
  have w4 : (T'.pushCell (freshCell P1.m.cls N.kN)).heap[T'.heap.size]? = some (freshCell P1.m.cls N.kN) := State.heap_pushCell_size T' (freshCell P1.m.cls N.kN)
  have w5 : ∀ q, q < T'.heap.size → (T'.pushCell (freshCell P1.m.cls N.kN)).heap[q]? = T'.heap[q]? := fun q hq => State.heap_pushCell_of_lt _ _ hq
  have w7 : e.platform.stackLimits (T'.pushCell (freshCell P1.m.cls N.kN)).me = e.platform.stackLimits T'.me := rfl
  have hWr : (T'.pushCell (freshCell P1.m.cls N.kN)).status = .running := X.here.running
  have hWn : (T'.pushCell (freshCell P1.m.cls N.kN)).curStatus? = some .runnable := X.here.runnable
  have hWa : (T'.pushCell (freshCell P1.m.cls N.kN)).alone = true := X.here.alone
  have hWc : (T'.pushCell (freshCell P1.m.cls N.kN)).cur = T'.cur := rfl
  have hWt : (T'.pushCell (freshCell P1.m.cls N.kN)).cur < (T'.pushCell (freshCell P1.m.cls N.kN)).threads.size := hcur
  have hS0 : ((T'.setFrames (.throwNew "java/lang/NullPointerException" none none :: base)).pushCell (freshCell P1.m.cls N.kN)).setFrames (.thenThrow T'.heap.size :: base) = (T'.pushCell (freshCell P1.m.cls N.kN)).setFrames (.thenThrow T'.heap.size :: base) := by rw [State.pushCell_setFrames, State.setFrames_setFrames]
  generalize hW0 : T'.pushCell (freshCell P1.m.cls N.kN) = W at w1 w2 w3 w4 w5 w7 hWr hWn hWa hWc hWt X3 hS0
  have hltS : T.aS < T'.heap.size := (Array.getElem?_eq_some_iff.mp hcellS).1
  have hWW : (sv w T').WarmedH W.vm := by rw [w1]; exact Jvm.State.WarmedH.refl _
  have hfN : (W.setFrames (.thenThrow T'.heap.size :: base)).frames = .thenThrow T'.heap.size :: base := State.frames_setFrames _ hWt
  have hcN : (W.setFrames (.thenThrow T'.heap.size :: base)).cur < (W.setFrames (.thenThrow T'.heap.size :: base)).threads.size := State.cur_lt_of_frames hfN
  have hmW := hWW.methodAt L1.method
  have hI : At ((W.setFrames (.thenThrow T'.heap.size :: base)).pushFrame (.java (pass0J P1.m T'.heap.size 0 []))) P1.m P1.code below := At.pushOn _ ⟨hWr, by simpa using hWn, by simpa using hWa⟩ hcN ⟨.thenThrow T'.heap.size :: [Frame.native nf, .java g], by rw [hfN, hbm]; rfl⟩ hmW L1.code (hWW.plainAt L1.plain)
  have hfI : ((W.setFrames (.thenThrow T'.heap.size :: base)).pushFrame (.java (pass0J P1.m T'.heap.size 0 []))).frames = .java (pass0J P1.m T'.heap.size 0 []) :: .thenThrow T'.heap.size :: base := by rw [State.pushFrame, State.frames_setFrames _ hcN, hfN]
  have hlimN : e.platform.stackLimits (W.setFrames (.thenThrow T'.heap.size :: base)).me = e.platform.stackLimits T'.me := by rw [State.stackLimits_setFrames]; exact w7
  have hroom := roomAbove (pl := e.platform) (u := W.setFrames (.thenThrow T'.heap.size :: base)) (vars := 1) (pushed := [.thenThrow T'.heap.size]) (base := base) (free := 10240) hfN hlimN (by simp only [List.length_cons, List.length_nil]; omega) huse (by rw [stackUse_light _ _ (fun f hf => by cases hf) rfl, stackUse_nil]; show 0 + 1 + 11 ≤ _; omega)
  have hdo := (doInvoke_java (s := W.setFrames (.thenThrow T'.heap.size :: base)) (e := e) (acts := []) (args := #[.ref T'.heap.size]) (meth := P1.meth) (code := P1.code) hmW L1.code L1.locks (by rw [L1.locals]; exact hroom)).1
  rw [L1.locals] at hdo
  have hdo : (doInvoke e (W.setFrames (.thenThrow T'.heap.size :: base)) [] P1.m #[.ref T'.heap.size]).1 = (W.setFrames (.thenThrow T'.heap.size :: base)).pushFrame (.java (pass0J P1.m T'.heap.size 0 [])) := hdo
  have hUlim : e.platform.stackLimits ((W.setFrames (.thenThrow T'.heap.size :: base)).pushFrame (.java (pass0J P1.m T'.heap.size 0 []))).me = e.platform.stackLimits T'.me := by rw [State.stackLimits_pushFrame]; exact hlimN
  have hUset : ∀ (v : Vm) (x : Cell) (F : List Frame), (((((W.setFrames (.thenThrow T'.heap.size :: base)).pushFrame (.java (pass0J P1.m T'.heap.size 0 []))).setVm v).setCell T'.heap.size x).setFrames F) = (((W.setVm v).setCell T'.heap.size x).setFrames F) := by
    intro v x F
    rw [State.pushFrame, State.setFrames_setFrames, State.setFrames_setVm, State.setCell_setFrames, State.setFrames_setFrames]
  have hUh : ((W.setFrames (.thenThrow T'.heap.size :: base)).pushFrame (.java (pass0J P1.m T'.heap.size 0 []))).heap = W.heap := rfl
  have hUv : ((W.setFrames (.thenThrow T'.heap.size :: base)).pushFrame (.java (pass0J P1.m T'.heap.size 0 []))).vm = W.vm := rfl
  have hUc : ((W.setFrames (.thenThrow T'.heap.size :: base)).pushFrame (.java (pass0J P1.m T'.heap.size 0 []))).cur = T'.cur := hWc
  generalize hU0 : (W.setFrames (.thenThrow T'.heap.size :: base)).pushFrame (.java (pass0J P1.m T'.heap.size 0 [])) = U at hI hfI hdo hUlim hUset hUh hUv hUc
  obtain ⟨vm1, hW1, st1⟩ := Steps.invokeInitCold (tb := p.tables) (e := e) (s₀ := sv w T') (U := U) (f := pass0J P1.m T'.heap.size 1 [.ref T'.heap.size]) (args := []) (rest := []) (a := T'.heap.size) hI hexec L1.at1 (by rw [hUv]; exact hWW) L1.links L1.right L1.notHandle L1.cls L1.file L1.pool
    L1.supClass L1.supMethod L1.supName L1.supStatic L1.supAbstract L1.supFound L1.supParams.symm rfl
  have hI1 : At (U.setVm vm1) P1.m P1.code below := hI.setVm (by rw [hUv]; exact hWW.alike.symm.trans hW1.alike)
  obtain ⟨vm', hW', st⟩ := Jvm.Steps.initNpe0ColdByV p (s₀ := sv w T') (V := U.setVm vm1) (g := pass0J P1.m T'.heap.size 1 []) (c := P1.code) (self := T'.heap.size) hI1 hexec T L Z LZ N LN hW1 (t := T'.cur) hUc
    (Nn := fun u => u) heapOnly_id (fun _ _ => rfl) (fun _ => rfl) (fun u x y => setCell_twice _ _ _ _) (fun _ => Nat.le_refl _) (cN := ((npeCell N.toNpeT (preparedCellV T.toThrowableT (freshCell P1.m.cls N.kN) T'.heap.size u0 sen) T'.cur).withEntry T'.cur)) (by show U.heap[_]? = _; rw [hUh]; exact w4)
    (by intro z hz; cases hz) (by intro hz; cases hz) rfl hk hsel0 (by show U.heap[_]? = _; rw [hUh]; exact (w5 _ hltS).trans hcellS) (Nat.ne_of_lt hltS) hknownS hu0 (by rw [fresh_default tyX, LN.stateInt]; rfl)
    (Jvm.Cond.laysApart hdC hdX hdnC hdnX (by rw [Y.causeName, hnX]; decide)) (Jvm.Cond.laysApart hdS hdX hdnS hdnX (by rw [Y.stackName, hnX]; decide)) (Jvm.Cond.laysApart hdP hdX hdnP hdnX (by rw [Y.suppName, hnX]; decide))
    (Takes.of_laid hk hordN tyS (by rw [Y.stackType]; exact fits_refV_array _ u0)) (Takes.of_laid hk hordN tyX (by rw [LN.stateInt]; rfl)) (fun _ hu => hu) (fun _ hu => hu) rfl rfl rfl (by simp [npeCell, preparedCellV, Cell.setSlot, Cell.withEntry]) hskip
    (fun _ _ hA hW _ hroom _ hrest => L.nativeOff p htr hA hW hroom hrest) hselF hsen (Takes.of_laid hk hordN tyC (by rw [Y.causeType]; rfl)) (Takes.of_laid hk hordN tyP (by rw [Y.suppType]; exact fits_refV_object _ sen)) Y.objLocals
    [P2, P3] (fun P hP => by
      simp only [List.mem_cons, List.not_mem_nil, or_false] at hP
      rcases hP with rfl | rfl
      · exact L2
      · exact L3) ⟨hlink2, hlink3, trivial⟩ (ig := .invokespecial P1.index) (len := 3) [] (lim := e.platform.stackLimits T'.me) hUlim
    (by show U.frames.length + 2 + 3 < _; rw [hfI]; simp only [List.length_cons]; omega)
    (by show (stackUse (.java _ :: U.frames.tail)).2 + 13 * 2 + 55 ≤ _
        rw [hfI, List.tail_cons, stackUse_java, stackUse_light _ _ (fun f hf => by cases hf) rfl]
        show (stackUse base).2 + (1 + 11 + 2 * 0 + operandWords []) + 13 * 2 + 55 ≤ _
        simp only [operandWords, List.foldl_nil]
        omega) L1.at1
  rw [npeBareV_eq T.toThrowableT N.toNpeT T'.heap.size u0 sen T'.cur rfl rfl] at st
  have X4 := X3.noted (Jvm.State.WarmedH.trans X.warmed (show T'.WarmedH vm' from hW'))
  have ha : T'.heap.size < (W.setVm vm').heap.size := by show _ < W.heap.size; rw [w3]; omega
  have hcell : (W.setVm vm').heap[T'.heap.size]? = some (freshCell P1.m.cls N.kN) := w4
  have X5 := ((((X4.stored hcell T.fCause.slot (.ref T'.heap.size)).storedAgain ha T.fStack.slot u0.v).storedAgain ha T.fSupp.slot sen.v).storedAgain ha N.fState.slot (.int 1)).storedAgain ha T.fStack.slot u0.v
  have hfs : (freshCell P1.m.cls N.kN).slots.size = 8 := by simp [hn]
  rw [hfs] at X5
  simp only [List.append_assoc] at X5
  refine ⟨_, _, X5, ?_, ?_, ?_, ?_⟩
  · intro q hq
    have hb : q.base = T'.heap.size := by
      simp only [List.cons_append, List.nil_append, List.mem_cons, List.not_mem_nil, or_false] at hq
      rcases hq with rfl | rfl | rfl | rfl | rfl <;> rfl
    rw [hb, hsz]
    exact hR.2.1
  · refine hR.two (j := 1) ?_ (fun q hq => ?_)
    · exact (size_setCell _ _ _).trans w3
    · exact (heapAt_setCell_ne _ (Nat.ne_of_gt hq)).trans (w5 q hq)
  · rw [← hsz]
    exact ⟨_, heapAt_setCell_self _ ha, by rw [← hKT.2.2.2.alike.findClass]; exact hfound, rfl⟩
  · intro target ht
    rw [← hsz] at ht
    obtain ⟨g₁, hfrM⟩ := X5.frames_eq
    rw [State.pushFrame, State.frames_setTop _ hfrM, State.setTop_of_frames _ hfrM, State.setFrames_setFrames] at ht
    have hf0 : (T'.setFrames (.throwNew "java/lang/NullPointerException" none none :: base)).frames = .throwNew "java/lang/NullPointerException" none none :: base := State.frames_setFrames _ hcur
    refine Steps.head ⟨X.here.running, by simpa using X.here.runnable, by simpa using X.here.alone⟩ ⟨.throwNew "java/lang/NullPointerException" none none :: [Frame.native nf, .java g], by rw [hf0, hbm]; rfl, by simp, by simp⟩ ?_
    rw [stepThread_throwNew hf0, stepThrowNew_plain (s := T'.setFrames (.throwNew "java/lang/NullPointerException" none none :: base)) (c := P1.m.cls) (k := N.kN) (i := P1.m.idx) (by decide) (by decide) hfound hk hinit hordN (Launch.admits_hotImplicitExceptions X.admits) hbeyond hfreeW hctor (X.cellsAbove hRc) (by rw [hn]; exact X.slotsAbove hRs)]
    show Steps p.tables e below (doInvoke e (((T'.setFrames (.throwNew "java/lang/NullPointerException" none none :: base)).pushCell (freshCell P1.m.cls N.kN)).setFrames (.thenThrow T'.heap.size :: base)) [] P1.m #[.ref T'.heap.size]).1 target
    rw [hS0, hdo, ← State.setTop_self (s := U) (State.topJava?_of_frames hfI)]
    jvm_step hI [hexec, L1.at0, Value.isRef]
    refine st1 target ?_
    rw [hlink1]
    refine st target ?_
    refine ctor_ret hexec (f := pass0J P1.m T'.heap.size 4 []) (f0 := pass0J P1.m T'.heap.size 0 []) (code := P1.code) (mt := P1.meth) (a := T'.heap.size) (base := base) (mid := [Frame.native nf, .java g]) ?_ ?_ hbm ?_ L1.locks rfl rfl L1.at4 ?_
    · exact (At.setCell_iff _ _).mpr (hI1.setVm (hW1.alike.symm.trans hW'.alike))
    · exact hfI
    · exact hW'.methodAt L1.method
    · rw [State.setVm_twice, hUset, ← hB]
      exact nat_out (mid := [Frame.java g]) ⟨hWr, hWn, hWa⟩ hWt rfl haw hnl ht
end NATN
