/-! System.arraycopy refuses: the native's note, the exception made over its frame, the way out -/
set_option maxRecDepth 100000
section NAT
variable {w : WE} {p : Program} {e : Env} {R : Room} {s : State} {m : MethodId} {args : Array Value} {below : List Frame} {meth : Method} {c : Code} {T' : State} {locs : List Loc} {k n : Nat} {A : Hp}
/-- the exception leaves a native's frame -/
theorem nat_out {tb : Tables} {u target : State} {a : Nat} {f : NFrame} {r mid : List Frame} (hgo : u.goesOn) (hcur : u.cur < u.threads.size) (hr : r = mid ++ below) (haw : f.awaiting = false) (hl : f.locked = none) (K : Steps tb e below (u.setFrames (.throwing a :: r)) target) : Steps tb e below (u.setFrames (.throwing a :: .native f :: r)) target := by
  have hf : (u.setFrames (.throwing a :: .native f :: r)).frames = .throwing a :: .native f :: r := State.frames_setFrames _ hcur
  refine Steps.head ⟨hgo.1, by simpa using hgo.2.1, by simpa using hgo.2.2⟩ ⟨.throwing a :: .native f :: mid, by rw [hf, hr]; rfl, by simp, by simp⟩ ?_
  have e1 : (stepThrowing e (u.setFrames (.throwing a :: .native f :: r)) a (.native f :: r)).1 = u.setFrames (.throwing a :: r) := by
    simp only [stepThrowing, haw, hl, vmDo, Bool.false_eq_true, if_false]
    generalize hq : Sem.go _ e false _ _ = res
    obtain ⟨as, rfl, -⟩ := Sem.eq_ok_of hq (a := true) (s' := u.setFrames (.throwing a :: .native f :: r)) (acts' := []) (by simp [leaveIfLocked, unmarked, Action.isMark])
    exact State.setFrames_setFrames _ _ _
  rw [stepThread_throwing hf, e1]
  exact K
/-- a constructor's return over the note that is to throw what it made -/
theorem ctor_ret {tb : Tables} [Ours tb] (hexec : tb.exec = Jvm.exec) {B target : State} {f f0 : JFrame} {code : Code} {mt : Method} {a : Nat} {base mid : List Frame} (hB : At B f.method code below) (hf : B.frames = .java f0 :: .thenThrow a :: base) (hbase : base = mid ++ below) (hm : B.vm.method? f.method = some mt) (hl : mt.locks = false) (h1 : f.locked = none) (h2 : f.entered = []) (hd : decode code.code f.pc = .ok (.return_, 1)) (K : Steps tb e below (B.setFrames (.throwing a :: base)) target) : Steps tb e below (B.setTop f) target := by
  jvm_step hB [hexec, hd, Jvm.Op.return_.wp_sem]
  intro acts2
  have hf1 : (B.setFrames (.thenThrow a :: base)).frames = .thenThrow a :: base := State.frames_setFrames _ (State.cur_lt_of_frames hf)
  rw [ret_to (t := B) (f := f) (f₀ := f0) (below := .thenThrow a :: base) (fs := .thenThrow a :: base) (meth := mt) hf hm hl h1 h2 rfl acts2]
  refine Steps.head ⟨hB.running, by simpa using hB.runnable, by simpa using hB.alone⟩ ⟨.thenThrow a :: mid, by rw [hf1, hbase]; rfl, by simp, by simp⟩ ?_
  rw [stepThread_thenThrow hf1]
  show Steps tb e below ((B.setFrames _).setFrames (.throwing a :: base)) target
  rw [State.setFrames_setFrames]
  exact K
/-- the native's own step: it throws -/
theorem nat_note {U target : State} {g : JFrame} (h : At U g.method c below) {mk : MethodId} {kS : Class} {methS : Method} {As : Array Value} (acts : List Action)
    (N : NativeOf U.vm mk kS methS "java/lang/System" "arraycopy" "(Ljava/lang/Object;ILjava/lang/Object;II)V" true [.object "java/lang/Object", .int, .object "java/lang/Object", .int, .int])
    (hroom : e.platform.stackFull (((U.setTop g).threads[(U.setTop g).cur]?).getD { frames := [] }) (U.setTop g).frames (nativeFrameWords "java/lang/System" "arraycopy" 5) = false)
    (hA : operandWords As.toList = 5) (hs : seenByNative methS As = As) {X : String} {msg : Option String}
    (hw : ∀ (F : List Frame) (E : CtlPost), (∀ acts', E (.throwNew X msg) acts' (U.setFrames F)) → wp (Jvm.Native.java_lang_System.arraycopy.sem As) (fun _ _ _ _ => False) E e false [] (U.setFrames F))
    (K : Steps p.tables e below (U.setFrames (.throwNew X msg none :: .native { method := mk, args := As, locked := none } :: .java g :: U.frames.tail)) target) :
    Steps p.tables e below (doInvoke e (U.setTop g) acts mk As).1 target := by
  obtain ⟨g₀, hg⟩ := Option.isSome_iff_exists.mp h.top
  obtain ⟨r, hr⟩ := State.topJava?_eq_some.mp hg
  obtain ⟨mid, hmid⟩ := h.above
  have hcur : U.cur < U.threads.size := State.cur_lt_of_frames hr
  have hm : (U.setTop g).vm.method? mk = some methS := by
    show U.vm.method? mk = some methS
    simp [Vm.method?, N.cls, N.meth]
  have hr2 : e.platform.stackFull (((U.setTop g).threads[(U.setTop g).cur]?).getD { frames := [] }) (U.setTop g).frames (nativeFrameWords ((((U.setTop g).vm.classes[mk.cls]?).map (·.name)).getD "") methS.name (operandWords As.toList)) = false := by
    have e1 : (((U.setTop g).vm.classes[mk.cls]?).map (·.name)).getD "" = "java/lang/System" := by
      show ((U.vm.classes[mk.cls]?).map (·.name)).getD "" = _
      rw [N.cls]
      exact N.className
    rw [e1, N.name, hA]
    exact hroom
  rw [(Fast.doInvoke_native (s := U.setTop g) (e := e) (acts := acts) (args := As) hm N.native N.noCode N.noLock hr2).1, hs]
  have hU : (U.setTop g).pushFrame (.native { method := mk, args := As, locked := none }) = U.setFrames (.native { method := mk, args := As, locked := none } :: .java g :: U.frames.tail) := by
    rw [State.pushFrame, State.frames_setTop _ hr, State.setTop_of_frames _ hr, State.setFrames_setFrames, hr]
    rfl
  rw [hU]
  have hf : (U.setFrames (.native { method := mk, args := As, locked := none } :: .java g :: U.frames.tail)).frames = .native { method := mk, args := As, locked := none } :: .java g :: U.frames.tail := State.frames_setFrames _ hcur
  refine Steps.head ⟨h.running, by simpa using h.runnable, by simpa using h.alone⟩ ⟨.native { method := mk, args := As, locked := none } :: .java g :: mid, by rw [hf, hmid]; rfl, by simp, by simp⟩ ?_
  rw [stepThread_native (f := { method := mk, args := As, locked := none }) (k := kS) (x := methS) (row := arraycopyRow) hf N.cls N.meth N.boot (by rw [N.className, N.name, N.desc]; exact arraycopy_row p) rfl, arraycopyRow_sem]
  have h2 := (Sem.wpRun_iff_run (Jvm.Native.java_lang_System.arraycopy.sem As) (fun _ _ _ => False) (fun x u _ => x = .throwNew X msg ∧ u = U.setFrames (.native { method := mk, args := As, locked := none } :: .java g :: U.frames.tail)) e (U.setFrames (.native { method := mk, args := As, locked := none } :: .java g :: U.frames.tail))).mp (hw _ _ fun _ => ⟨rfl, rfl⟩)
  revert h2
  cases (Jvm.Native.java_lang_System.arraycopy.sem As).run e (U.setFrames (.native { method := mk, args := As, locked := none } :: .java g :: U.frames.tail)) with
  | ok v u acts1 => exact fun h => h.elim
  | ctl x u acts1 =>
    intro h2
    have hx : x = .throwNew X msg ∧ u = U.setFrames (.native { method := mk, args := As, locked := none } :: .java g :: U.frames.tail) := by
      cases x <;> first | exact h2.elim | exact h2
    obtain ⟨rfl, rfl⟩ := hx
    have e2 : (U.setFrames (.native { method := mk, args := As, locked := none } :: .java g :: U.frames.tail)).pushFrame (.throwNew X msg none) = U.setFrames (.throwNew X msg none :: .native { method := mk, args := As, locked := none } :: .java g :: U.frames.tail) := by
      rw [State.pushFrame, hf, State.setFrames_setFrames]
    show Steps p.tables e below ((U.setFrames (.native { method := mk, args := As, locked := none } :: .java g :: U.frames.tail)).pushFrame (.throwNew X msg none)) target
    rw [e2]
    exact K
/-- what the machine asks of the stack before it throws, a native's frame on top -/
theorem nat_may (X : Stand p w.1 e R s m args below meth c T' locs k n) {g : JFrame} (hsize : g.locals.size = c.maxLocals) {nf : NFrame} (hnw : nf.words = 0) (note : Frame) (hnote : ∀ f, note ≠ .java f) (hw : note.words = 0) (hRl : 2 * g.monitorRoom + (g.stack.map fun v => v.category).sum + 10240 ≤ R.locals) :
    (stackUse (.native nf :: .java g :: below)).2 + 10240 ≤ (e.platform.stackLimits T'.me).2 ∧
    e.platform.stackBeyond ((((T'.setFrames (note :: .native nf :: .java g :: below)).threads[T'.cur]?).map (·.stackBytes)).getD 0) (T'.setFrames (note :: .native nf :: .java g :: below)).frames = false ∧
      e.platform.vmThrowRoom ≤ e.platform.stackFree ((((T'.setFrames (note :: .native nf :: .java g :: below)).threads[T'.cur]?).map (·.stackBytes)).getD 0) (T'.setFrames (note :: .native nf :: .java g :: below)).frames := by
  obtain ⟨g₀, hfr⟩ := X.frames_eq
  have hA := X.stackAbove hsize hRl
  rw [X.tail] at hA
  have hu : (stackUse (.native nf :: .java g :: below)).2 = (stackUse (.java g :: below)).2 := by rw [stackUse_light (.native nf) _ (fun f hf => by cases hf) hnw]
  have hb : ((((T'.setFrames (note :: .native nf :: .java g :: below)).threads[T'.cur]?).map (·.stackBytes)).getD 0) = T'.me.stackBytes := (State.stackBytes_me (T'.setFrames (note :: .native nf :: .java g :: below))).trans (State.stackBytes_setFrames T' (note :: .native nf :: .java g :: below))
  have hlimit : (e.platform.stackLimits T'.me).2 = (e.platform.limitsFor T'.me.stackBytes).2 := rfl
  refine ⟨by rw [hu]; exact hA, ?_⟩
  rw [hb, State.frames_setFrames _ (State.cur_lt_of_frames hfr), Launch.admits_vmThrowRoom X.admits]
  unfold Platform.stackBeyond Platform.stackFree
  rw [stackUse_light _ _ hnote hw, hu]
  exact ⟨decide_eq_false (by omega), by omega⟩
set_option maxHeartbeats 4000000 in
theorem msg_goN (hexec : p.tables.exec = Jvm.exec) (hK : KW w s) (htr : e.platform.stackTraces = false) (hR : Rp w A T'.heap) (X : Stand p w.1 e R s m args below meth c T' locs k n) {g : JFrame} (hg : g.method = m) (hsize : g.locals.size = c.maxLocals) {nf : NFrame} (hnw : nf.words = 0) (haw : nf.awaiting = false) (hnl : nf.locked = none)
    {xc text : String} {names : List String} {b : Nat} (hx : XW xc names) (htext : (text == notModelled) = false) (hb : (stringBytes (stringToUtf16 text)).size ≤ b) (hb2 : b ≤ 1000)
    (hRf : 8 < R.frames) (hRl : 2 * g.monitorRoom + (g.stack.map fun v => v.category).sum + 10240 ≤ R.locals) (hRc : k + 3 ≤ R.cells) (hRs : n + (b + 10) ≤ R.slots) :
    ∃ (T2 : State) (L2 : List Loc), Stand p w.1 e R s m args below meth c T2 (locs ++ L2) (k + 3) (n + (b + 10)) ∧ (∀ q ∈ L2, wb w ≤ q.base) ∧ Rp w (A.1, A.2 + 3) T2.heap ∧ Tc w xc (A.2 + 2) T2.heap ∧
      ∀ target, Steps p.tables e below ((T2.setTop g).pushFrame (.throwing (A.2 + 2))) target → Steps p.tables e below (T'.setFrames (.throwNew xc (some text) none :: .native nf :: .java g :: below)) target := by
  have hKT : KW w T' := hK.warm X.warmed
  obtain ⟨hcls, hnames, hlen3, hsoe, hoom, hchain, hck, hrest⟩ := hx
  obtain ⟨wi, wn, w0, wF, wC, wS, wP, wM, wB, -⟩ := hrest
  have howns : e.platform.frameOwnsMonitors = true := by rw [X.admits.platform]
  have hfin : e.platform.finalization = false := by rw [X.admits.platform]
  have hpl : e.platform.magicAccessors = ({} : Platform).magicAccessors := by rw [X.admits.platform]
  have hal : e.platform.arrayLengthLimit = ({} : Platform).arrayLengthLimit := by rw [X.admits.platform]
  have hmh : e.platform.maxHeapBytes = ({} : Platform).maxHeapBytes := by rw [X.admits.platform]
  have hsz := hR.1
  obtain ⟨T, Z0, L, -, Y⟩ := Jvm.ThrowableC.of_atoms (args := a0 w) (s := sv w T') (pl := e.platform) howns hfin hpl (al_at hKT at_thr rfl)
  obtain ⟨Z, M, LZ, LM, hnZ⟩ := Jvm.Init0T.ofS_atoms (args := a0 w) hpl L Y (al_at hKT at_thS rfl)
  obtain ⟨P1, Ps, hlen, L1, hL, hP1m, hlink1, hlink⟩ := Jvm.Bundle.chainS (args := a0 w) hpl hnZ names xc hcls hnames (al_at hKT hchain hck)
  obtain ⟨Zs, LZs, hn4, hfitv, hfitc⟩ := Jvm.StringT.of_atoms (args := a0 w) (s := sv w T') (al_at hKT at_str rfl)
  have hfound : (sv w T').vm.findClass xc = some P1.m.cls := findClass_of_methodNamed hP1m
  obtain ⟨c1, kX, hc1, hk, hord, -, -, hn6⟩ := Jvm.Cond.instantiable_spec (wAt hKT wn rfl)
  cases Option.some.inj (hc1.symm.trans hfound)
  have hinit := Jvm.Cond.initialized_spec hfound hk (wAt hKT wi rfl)
  have hctor : kX.findMethod "<init>" "(Ljava/lang/String;)V" = some P1.m.idx := findMethod_of_methodNamed hP1m hk
  have hsel0 : selectMethod e.platform (sv w T').vm P1.m.cls T.fill0 = .method T.fill0 := by
    obtain ⟨c2, r2, m2, q1, q2, q3, q4, -⟩ := Jvm.Cond.selects_spec (wAt hKT w0 rfl)
    cases Option.some.inj (q1.symm.trans hfound)
    cases Option.some.inj (q2.symm.trans (State.methodFound?_of_named Y.fill0 (by decide)))
    cases Option.some.inj (q3.symm.trans Y.fill0)
    rw [Launch.admits_selectMethod X.admits]; exact q4
  have hselF : selectMethod e.platform (sv w T').vm P1.m.cls T.fill = .method T.fill := by
    obtain ⟨c2, r2, m2, q1, q2, q3, q4, -⟩ := Jvm.Cond.selects_spec (wAt hKT wF rfl)
    cases Option.some.inj (q1.symm.trans hfound)
    cases Option.some.inj (q2.symm.trans (State.methodFound?_of_named Y.fill (by decide)))
    cases Option.some.inj (q3.symm.trans Y.fill)
    rw [Launch.admits_selectMethod X.admits]; exact q4
  obtain ⟨cellS, hcS0, hiss⟩ := Y.statics
  have hnU := Jvm.Cond.before_shiftedFace (Jvm.State.Shifted.of_warmed hKT.2.2.2) _ rfl (nwU hKT)
  have hnS := Jvm.Cond.before_shiftedFace (Jvm.State.Shifted.of_warmed hKT.2.2.2) _ rfl (nwS hKT)
  obtain ⟨u0, hu0⟩ := Jvm.Cond.staticRefV Y.unassigned L.unassignedStatic L.statics hcS0 hiss hnU
  obtain ⟨sen, hsen⟩ := Jvm.Cond.staticRefV Y.sentinel L.sentinelStatic L.statics hcS0 hiss hnS
  have haS : T.aS < wb w := (Array.getElem?_eq_some_iff.mp hcS0).1
  have hcellS : T'.heap[T.aS]? = some cellS := (hR.2.2.2 _ haS).trans hcS0
  have hknownS : cellS.vm ≠ .unknown := by
    intro hu
    rw [hu] at hiss
    cases hiss
  obtain ⟨ci198, i198, fB, hk198, hg198, ha198, hsB, -, hnB, htB, hffB⟩ := Jvm.Cond.ownField (t := .object "java/lang/Object") Y.found L.cls (by decide +kernel) (wAt (c := Jvm.Cond.fieldLink Jvm.Bundle.tN 198 Jvm.Bundle.tN "backtrace" "Ljava/lang/Object;") hKT (lw_all_tbl q595) rfl) (wAt (c := Jvm.Cond.lays Jvm.Bundle.tN Jvm.Bundle.tN "backtrace" "Ljava/lang/Object;") hKT (lw_all_tbl q625) rfl) e.platform hpl
  obtain ⟨iM, hffM⟩ := Y.msg
  obtain ⟨tyC, dC, hdC, hdnC⟩ := Jvm.Cond.laysAt hfound hk Y.cause (wAt hKT wC rfl)
  obtain ⟨tyS, dS, hdS, hdnS⟩ := Jvm.Cond.laysAt hfound hk Y.stack (wAt hKT wS rfl)
  obtain ⟨tyP, dP, hdP, hdnP⟩ := Jvm.Cond.laysAt hfound hk Y.supp (wAt hKT wP rfl)
  obtain ⟨tyM, dM, hdM, hdnM⟩ := Jvm.Cond.laysAt hfound hk hffM (wAt hKT wM rfl)
  obtain ⟨tyB, dB, hdB, hdnB⟩ := Jvm.Cond.laysAt hfound hk hffB (wAt hKT wB rfl)
  have bC := Jvm.Cond.laysApart hdB hdC hdnB hdnC (by rw [hnB, Y.causeName]; decide)
  have bS := Jvm.Cond.laysApart hdB hdS hdnB hdnS (by rw [hnB, Y.stackName]; decide)
  have bP := Jvm.Cond.laysApart hdB hdP hdnB hdnP (by rw [hnB, Y.suppName]; decide)
  have hskip : SkipFacts T e.platform (sv w T') (fun u => u) u0 ((preparedCellV T.toThrowableT (freshCell P1.m.cls kX) (T'.heap.size + 2) u0 sen).withEntry T'.cur) :=
    ⟨{ ci198 := ci198, i198 := i198, fBack := fB }, ⟨hk198, hg198, ha198, hsB⟩, by
      have := fresh_default (c := P1.m.cls) tyB
      rw [htB] at this
      simpa [preparedCellV, Cell.setSlot, Cell.withEntry, Array.getElem?_setIfInBounds, bC, bS, bP, bC.symm, bS.symm, bP.symm, defaultValue] using this, fun _ _ => rfl⟩
  obtain ⟨g₀, hfr0⟩ := X.frames_eq
  have hcur : T'.cur < T'.threads.size := State.cur_lt_of_frames hfr0
  obtain ⟨huse, hbeyond, hfreeW⟩ := nat_may X hsize hnw (.throwNew xc (some text) none) (fun f hf => by cases hf) rfl hRl
  have hbl : (Frame.native nf :: .java g :: below).length + 7 < (e.platform.stackLimits T'.me).1 := by
    have := X.framesAbove hRf
    rw [hfr0] at this
    simp only [List.length_cons] at this ⊢
    omega
  have hbm : (Frame.native nf :: .java g :: below) = [Frame.native nf, .java g] ++ below := rfl
  generalize hB : (Frame.native nf :: Frame.java g :: below) = base at huse hbeyond hfreeW hbl hbm
  have hslots : T'.slotsUsed + (stringBytes (stringToUtf16 text)).size + Zs.kS.instanceTypes.size + kX.instanceTypes.size ≤ e.platform.maxSlots := by have := X.slotsAbove hRs; omega
  obtain ⟨w1, w2, w3, w4, w5, -, w7⟩ := withThrown_facts e.platform T' Zs text P1.m.cls kX
  have hWr : (withThrown T' Zs text P1.m.cls kX).status = .running := X.here.running
  have hWn : (withThrown T' Zs text P1.m.cls kX).curStatus? = some .runnable := by simpa [withThrown, withString] using X.here.runnable
  have hWa : (withThrown T' Zs text P1.m.cls kX).alone = true := by simpa [withThrown, withString] using X.here.alone
  have hWc : (withThrown T' Zs text P1.m.cls kX).cur = T'.cur := by simp [withThrown, withString]
  have hWt : (withThrown T' Zs text P1.m.cls kX).cur < (withThrown T' Zs text P1.m.cls kX).threads.size := State.cur_lt_of_frames (w2.trans hfr0)
  have X3 := ((X.pushed (bytesOf Zs.cB (stringToUtf16 text))).pushed (stringAt Zs.cS Zs.kS Zs.fv Zs.fc (stringToUtf16 text) T'.heap.size)).pushed (freshCell P1.m.cls kX)
  rw [← withString_eq] at X3
  have hS0 : (withThrown (T'.setFrames (.throwNew xc (some text) none :: base)) Zs text P1.m.cls kX).setFrames (.thenThrow (T'.heap.size + 2) :: base) = (withThrown T' Zs text P1.m.cls kX).setFrames (.thenThrow (T'.heap.size + 2) :: base) := by rw [withThrown_setFrames, State.setFrames_setFrames]
  change Stand p w.1 e R s m args below meth c (withThrown T' Zs text P1.m.cls kX) _ _ _ at X3
  generalize hW0 : withThrown T' Zs text P1.m.cls kX = W at w1 w2 w3 w4 w5 w7 hWr hWn hWa hWc hWt X3 hS0
  have hltS : T.aS < T'.heap.size := (Array.getElem?_eq_some_iff.mp hcellS).1
  have hWW : (sv w T').WarmedH W.vm := by rw [w1]; exact Jvm.State.WarmedH.refl _
  have hfN : (W.setFrames (.thenThrow (T'.heap.size + 2) :: base)).frames = .thenThrow (T'.heap.size + 2) :: base := State.frames_setFrames _ hWt
  have hcN : (W.setFrames (.thenThrow (T'.heap.size + 2) :: base)).cur < (W.setFrames (.thenThrow (T'.heap.size + 2) :: base)).threads.size := State.cur_lt_of_frames hfN
  have hmW := hWW.methodAt L1.method
  have hI : At ((W.setFrames (.thenThrow (T'.heap.size + 2) :: base)).pushFrame (.java (passJ P1.m (T'.heap.size + 2) (.ref (T'.heap.size + 1)) 0 []))) P1.m P1.code below := At.pushOn _ ⟨hWr, by simpa using hWn, by simpa using hWa⟩ hcN ⟨.thenThrow (T'.heap.size + 2) :: [Frame.native nf, .java g], by rw [hfN, hbm]; rfl⟩ hmW L1.code (hWW.plainAt L1.plain)
  have hfI : ((W.setFrames (.thenThrow (T'.heap.size + 2) :: base)).pushFrame (.java (passJ P1.m (T'.heap.size + 2) (.ref (T'.heap.size + 1)) 0 []))).frames = .java (passJ P1.m (T'.heap.size + 2) (.ref (T'.heap.size + 1)) 0 []) :: .thenThrow (T'.heap.size + 2) :: base := by rw [State.pushFrame, State.frames_setFrames _ hcN, hfN]
  have hlimN : e.platform.stackLimits (W.setFrames (.thenThrow (T'.heap.size + 2) :: base)).me = e.platform.stackLimits T'.me := by rw [State.stackLimits_setFrames]; exact w7
  have hroom := roomAbove (pl := e.platform) (u := W.setFrames (.thenThrow (T'.heap.size + 2) :: base)) (vars := 2) (pushed := [.thenThrow (T'.heap.size + 2)]) (base := base) (free := 10240) hfN hlimN (by simp only [List.length_cons, List.length_nil]; omega) huse (by rw [stackUse_light _ _ (fun f hf => by cases hf) rfl, stackUse_nil]; show 0 + 2 + 11 ≤ _; omega)
  have hdo := (doInvoke_java (s := W.setFrames (.thenThrow (T'.heap.size + 2) :: base)) (e := e) (acts := []) (args := #[.ref (T'.heap.size + 2), .ref (T'.heap.size + 1)]) (meth := P1.meth) (code := P1.code) hmW L1.code L1.locks (by rw [L1.locals]; exact hroom)).1
  rw [L1.locals] at hdo
  have hdo : (doInvoke e (W.setFrames (.thenThrow (T'.heap.size + 2) :: base)) [] P1.m #[.ref (T'.heap.size + 2), .ref (T'.heap.size + 1)]).1 = (W.setFrames (.thenThrow (T'.heap.size + 2) :: base)).pushFrame (.java (passJ P1.m (T'.heap.size + 2) (.ref (T'.heap.size + 1)) 0 [])) := hdo
  have hUlim : e.platform.stackLimits ((W.setFrames (.thenThrow (T'.heap.size + 2) :: base)).pushFrame (.java (passJ P1.m (T'.heap.size + 2) (.ref (T'.heap.size + 1)) 0 []))).me = e.platform.stackLimits T'.me := by rw [State.stackLimits_pushFrame]; exact hlimN
  have hUset : ∀ (v : Vm) (x : Cell) (F : List Frame), (((((W.setFrames (.thenThrow (T'.heap.size + 2) :: base)).pushFrame (.java (passJ P1.m (T'.heap.size + 2) (.ref (T'.heap.size + 1)) 0 []))).setVm v).setCell (T'.heap.size + 2) x).setFrames F) = (((W.setVm v).setCell (T'.heap.size + 2) x).setFrames F) := by
    intro v x F
    rw [State.pushFrame, State.setFrames_setFrames, State.setFrames_setVm, State.setCell_setFrames, State.setFrames_setFrames]
  have hUh : ((W.setFrames (.thenThrow (T'.heap.size + 2) :: base)).pushFrame (.java (passJ P1.m (T'.heap.size + 2) (.ref (T'.heap.size + 1)) 0 []))).heap = W.heap := rfl
  have hUv : ((W.setFrames (.thenThrow (T'.heap.size + 2) :: base)).pushFrame (.java (passJ P1.m (T'.heap.size + 2) (.ref (T'.heap.size + 1)) 0 []))).vm = W.vm := rfl
  have hUc : ((W.setFrames (.thenThrow (T'.heap.size + 2) :: base)).pushFrame (.java (passJ P1.m (T'.heap.size + 2) (.ref (T'.heap.size + 1)) 0 []))).cur = T'.cur := hWc
  generalize hU0 : (W.setFrames (.thenThrow (T'.heap.size + 2) :: base)).pushFrame (.java (passJ P1.m (T'.heap.size + 2) (.ref (T'.heap.size + 1)) 0 [])) = U at hI hfI hdo hUlim hUset hUh hUv hUc
  obtain ⟨vm1, hW1, st1⟩ := Steps.invokeInitCold (tb := p.tables) (e := e) (s₀ := sv w T') (U := U) (f := passJ P1.m (T'.heap.size + 2) (.ref (T'.heap.size + 1)) 2 [.ref (T'.heap.size + 1), .ref (T'.heap.size + 2)]) (args := [.ref (T'.heap.size + 1)]) (rest := []) (a := T'.heap.size + 2) hI hexec L1.at2 (by rw [hUv]; exact hWW) L1.links L1.right L1.notHandle L1.cls L1.file L1.pool
    L1.supClass L1.supMethod L1.supName L1.supStatic L1.supAbstract L1.supFound L1.supParams.symm rfl
  have hI1 : At (U.setVm vm1) P1.m P1.code below := hI.setVm (by rw [hUv]; exact hWW.alike.symm.trans hW1.alike)
  obtain ⟨vm', hW', st⟩ := Jvm.Steps.initThrowableSColdByV p (s₀ := sv w T') (V := U.setVm vm1) (g := passJ P1.m (T'.heap.size + 2) (.ref (T'.heap.size + 1)) 2 []) (c := P1.code) (self := T'.heap.size + 2) hI1 hexec T L Z LZ M LM hW1 (t := T'.cur) hUc
    (Nn := fun u => u) heapOnly_id (fun _ _ => rfl) (fun _ => rfl) (fun u x y => setCell_twice _ _ _ _) (fun _ => Nat.le_refl _) (msg := .ref (T'.heap.size + 1)) rfl (cN := ((preparedCellV T.toThrowableT (freshCell P1.m.cls kX) (T'.heap.size + 2) u0 sen).withEntry T'.cur)) (by show U.heap[_]? = _; rw [hUh]; exact w4)
    (by intro z hz; cases hz) (by intro hz; cases hz) rfl hsel0 (by show U.heap[_]? = _; rw [hUh]; exact (w5 _ hltS).trans hcellS) (Nat.ne_of_lt (Nat.lt_of_lt_of_le hltS (Nat.le_add_right _ 2))) hknownS hu0 (Takes.of_laid hk hord tyS (by rw [Y.stackType]; exact fits_refV_array _ u0)) (fun _ hu => hu) (fun _ hu => hu) rfl rfl rfl (by simp [preparedCellV, Cell.setSlot, Cell.withEntry]) hskip
    (fun _ _ hA hW _ hroom _ hrest => L.nativeOff p htr hA hW hroom hrest) hselF hsen (Takes.of_laid hk hord tyC (by rw [Y.causeType]; rfl)) (Takes.of_laid hk hord tyP (by rw [Y.suppType]; exact fits_refV_object _ sen)) (Takes.of_laid hk hord tyM (by rw [Y.msgType]; rfl)) Y.objLocals
    Ps hL hlink (ig := .invokespecial P1.index) (len := 3) [] (lim := e.platform.stackLimits T'.me) hUlim
    (by show U.frames.length + _ + 2 < _; rw [hfI]; simp only [List.length_cons]; omega)
    (by show (stackUse (.java _ :: U.frames.tail)).2 + _ + 42 ≤ _
        rw [hfI, List.tail_cons, stackUse_java, stackUse_light _ _ (fun f hf => by cases hf) rfl]
        show (stackUse base).2 + (2 + 11 + 2 * 0 + operandWords []) + 13 * Ps.length + 42 ≤ _
        simp only [operandWords, List.foldl_nil]
        omega) L1.at2
  rw [plainBareV_eq T.toThrowableT (T'.heap.size + 2) u0 sen (.ref (T'.heap.size + 1)) T'.cur rfl rfl] at st
  have X4 := X3.noted (Jvm.State.WarmedH.trans X.warmed (show T'.WarmedH vm' from hW'))
  have ha : (T'.heap.size + 2) < (W.setVm vm').heap.size := by show _ < W.heap.size; rw [w3]; omega
  have hcell : (W.setVm vm').heap[(T'.heap.size + 2)]? = some (freshCell P1.m.cls kX) := w4
  have X5 := ((((X4.stored hcell T.fCause.slot (.ref (T'.heap.size + 2))).storedAgain ha T.fStack.slot u0.v).storedAgain ha T.fSupp.slot sen.v).storedAgain ha T.fStack.slot u0.v).storedAgain ha T.fMsg.slot (.ref (T'.heap.size + 1))
  have b1 : (bytesOf Zs.cB (stringToUtf16 text)).slots.size = (stringBytes (stringToUtf16 text)).size := by
    rw [(Cell.writeAll_facts _ _).2.2]; simp [bytes0]
  have b2 : (stringAt Zs.cS Zs.kS Zs.fv Zs.fc (stringToUtf16 text) T'.heap.size).slots.size = 4 := by simp [string0, Cell.setSlot, hn4]
  have b3 : (freshCell P1.m.cls kX).slots.size = 6 := by simp [hn6]
  rw [b1, b2, b3] at X5
  simp only [List.append_assoc] at X5
  have X6 := stand_widen (k := k + 3) (n := n + (b + 10)) X5 (Nat.le_refl _) (by omega)
  refine ⟨_, _, X6, ?_, ?_, ?_, ?_⟩
  · intro q hq
    have hb : q.base = T'.heap.size + 2 := by
      simp only [List.cons_append, List.nil_append, List.mem_cons, List.not_mem_nil, or_false] at hq
      rcases hq with rfl | rfl | rfl | rfl | rfl <;> rfl
    rw [hb, hsz]
    exact Nat.le_trans hR.2.1 (Nat.le_add_right _ _)
  · refine hR.two (j := 3) ?_ (fun q hq => ?_)
    · exact (size_setCell _ _ _).trans w3
    · refine (heapAt_setCell_ne _ (Nat.ne_of_gt (Nat.lt_of_lt_of_le hq (Nat.le_add_right _ 2)))).trans ?_
      exact w5 q hq
  · rw [← hsz]
    exact ⟨_, heapAt_setCell_self _ ha, by rw [← hKT.2.2.2.alike.findClass]; exact hfound, rfl⟩
  · intro target ht
    rw [← hsz] at ht
    obtain ⟨g₁, hfrM⟩ := X5.frames_eq
    rw [State.pushFrame, State.frames_setTop _ hfrM, State.setTop_of_frames _ hfrM, State.setFrames_setFrames] at ht
    have hf0 : (T'.setFrames (.throwNew xc (some text) none :: base)).frames = .throwNew xc (some text) none :: base := State.frames_setFrames _ hcur
    refine Steps.head ⟨X.here.running, by simpa using X.here.runnable, by simpa using X.here.alone⟩ ⟨.throwNew xc (some text) none :: [Frame.native nf, .java g], by rw [hf0, hbm]; rfl, by simp, by simp⟩ ?_
    rw [stepThread_throwNew hf0, stepThrowNew_message (s := T'.setFrames (.throwNew xc (some text) none :: base)) (c := P1.m.cls) (k := kX) (i := P1.m.idx) Zs LZs hsoe hoom hfound hk hinit hord (Launch.admits_hotImplicitExceptions X.admits) hbeyond hfreeW htext hctor (by rw [hal]; show ¬ _ > 2147483645; omega) (by rw [hmh]; show ¬ _ * 1 > 536870912; omega) (X.cellsAbove hRc) hslots (hfitv _) (hfitc _)]
    show Steps p.tables e below (doInvoke e ((withThrown (T'.setFrames (.throwNew xc (some text) none :: base)) Zs text P1.m.cls kX).setFrames (.thenThrow (T'.heap.size + 2) :: base)) [] P1.m #[.ref (T'.heap.size + 2), .ref (T'.heap.size + 1)]).1 target
    rw [hS0, hdo, ← State.setTop_self (s := U) (State.topJava?_of_frames hfI)]
    jvm_step hI [hexec, L1.at0, Value.isRef]
    jvm_step hI [hexec, L1.at1, Value.isRef]
    refine st1 target ?_
    rw [hlink1]
    refine st target ?_
    refine ctor_ret hexec (f := passJ P1.m (T'.heap.size + 2) (.ref (T'.heap.size + 1)) 5 []) (f0 := passJ P1.m (T'.heap.size + 2) (.ref (T'.heap.size + 1)) 0 []) (code := P1.code) (mt := P1.meth) (a := T'.heap.size + 2) (base := base) (mid := [Frame.native nf, .java g]) ?_ ?_ hbm ?_ L1.locks rfl rfl L1.at5 ?_
    · exact (At.setCell_iff _ _).mpr (hI1.setVm (hW1.alike.symm.trans hW'.alike))
    · exact hfI
    · exact hW'.methodAt L1.method
    · rw [State.setVm_twice, hUset, ← hB]
      exact nat_out (mid := [Frame.java g]) ⟨hWr, hWn, hWa⟩ hWt rfl haw hnl ht
end NAT
