/-! calls of methods that may throw (r_yS, r_yNS, r_yU, r_yV); catching (rt_catch) -/
set_option maxRecDepth 100000
def SiteY (own : String) (idx ci : Nat) (x : MethodName) (owner : String) (M' : MI) (hh : HT) (N : Nat) : Prop := ∃ (C : String) (T : u_T) (NN : Nat), clA[ci]? = some (C, T, NN) ∧ Jvm.Cond.methodLink own idx x ∈ lw_all ∧ Jvm.Cond.sameMethod x.cls owner x.name x.desc ∈ lw_all ∧ Jvm.Cond.declares ⟨owner, x.name, x.desc⟩ ∈ lw_tbl ∧ (owner ≠ "java/lang/invoke/MethodHandle" ∧ owner ≠ "java/lang/invoke/VarHandle") ∧ Jvm.Cond.selects C x M'.1 ∈ lw_all ∧ Jvm.Cond.instanceMethod M'.1 ∈ lw_all ∧ Jvm.Cond.initialized M'.1.cls ∈ lw_all ∧ GoodIn lw_all (cdK M' hh :: lw_all) ∧ (parseMethodDescriptor x.desc).map (fun d => d.parameters.length) = some N
def SiteYV (own : String) (idx ci : Nat) (M' : MI) (hh : HT) (N : Nat) : Prop := ∃ (C : String) (T : u_T) (NN : Nat), clA[ci]? = some (C, T, NN) ∧ Jvm.Cond.methodLink own idx M'.1 ∈ lw_all ∧ Jvm.Cond.instanceMethod M'.1 ∈ lw_all ∧ Jvm.Cond.selects C M'.1 M'.1 ∈ lw_all ∧ Jvm.Cond.initialized M'.1.cls ∈ lw_all ∧ GoodIn lw_all (cdK M' hh :: lw_all) ∧ (M'.1.cls ≠ "java/lang/invoke/MethodHandle" ∧ M'.1.cls ≠ "java/lang/invoke/VarHandle") ∧ (parseMethodDescriptor M'.1.desc).map (fun d => d.parameters.length) = some N
theorem len_of {d : String} {N : Nat} {sig : MethodDescriptor} (h : (parseMethodDescriptor d).map (fun d => d.parameters.length) = some N) (hs : parseMethodDescriptor d = some sig) : N = sig.parameters.length := by
  rw [hs] at h
  exact (Option.some.inj h).symm
section YROWS
variable {w : WE} {M : MI} {R : Room} {Z : ZT} {k n : Nat} {A : Hp} {pc : Nat} {lo : List (Option Value)} {st : List Value}
variable {M' : MI} {hh : HT} {d' mc' ms' : Nat} {Qo' : Option Value → Hp → Prop} {Qt' : String → Hp → Prop} {As : List Value} {idx N b ci : Nat} {fs : List Value}
theorem y_end {p : Program} {e : Env} {s : State} {m mk : MethodId} {args : Array Value} {below : List Frame} {meth : Method} {c : Code} {locs : List Loc} {ls : Array Slot} {st0 Bs : List Value} {T : State} {vm₁ : Vm} {ig : Instr} (nx : Nat) (hn : pc + 3 = nx) (C : Cx w M p s m args meth c) (hR : Rp w A T.heap) (hL : ∀ q ∈ locs, wb w ≤ q.base) (hl : lo_has ls M.2.2.1 lo) (X : Stand p w.1 e R s m args below meth c (T.setVm vm₁) locs k n) (hd : decode M.2.1 pc = .ok (ig, 3))
    (hG : GoodIn lw_all (cdK M' hh :: lw_all)) (hnm : s.methodNamed? M'.1 = some mk) (hini : Jvm.Cond.initialized M'.1.cls ∈ lw_all) (hok : cOk R M'.2.2.1 d' mc' ms' k n st = true) (hE : EvY w M' hh d' mc' ms' Bs A Qo' Qt')
    (hstep : ∀ target, (∀ acts, Steps p.tables e below (doInvoke e ((T.setVm vm₁).setTop (F0 m pc ls st)) acts mk Bs.toArray).1 target) → Steps p.tables e below (T.setTop (F0 m pc ls st0)) target)
    (K : ∀ (v : Option Value) (A' : Hp), Qo' v A' → Rn w M R Z (k + mc') (n + ms') A' nx lo (v.toList ++ st)) (Kt : ∀ (x : String) (A' : Hp), Qt' x A' → Rt w M R Z (k + mc') (n + ms') A' pc lo x) :
    ∃ t, Steps p.tables e below (T.setTop (F0 m pc ls st0)) t ∧ Z below args s t := by
  subst hn
  obtain ⟨⟨hr1, hr2⟩, ⟨hr3, hr4⟩, hrest⟩ := cOk_s hok
  obtain ⟨T2, L, A', X2, hL2, hR2, h⟩ := inv_go C X hR hG hnm hini hE (g := F0 m pc ls st) rfl (by rw [C.ml]; exact lo_size hl) (by rw [C.b]; exact hd) (by show 2 * 0 + (st.map fun v => v.category).sum ≤ 8; omega) hr1 hr2 hr3 hr4
  rcases h with ⟨v, hq, hst⟩ | ⟨a, x, htc, hq, hst⟩
  · obtain ⟨t, a1, b1⟩ := K v A' hq p e s m args below meth c T2.heap _ ls C hR2 (loc_app hL hL2) hl T2 rfl X2
    exact ⟨t, hstep t (fun acts => (hst acts).trans a1), b1⟩
  · obtain ⟨t, a1, b1⟩ := Kt x A' hq p e s m args below meth c T2.heap _ ls st a C hR2 (loc_app hL hL2) hl htc T2 rfl X2
    exact ⟨t, hstep t (fun acts => (hst acts).trans a1), b1⟩
theorem r_yS {st0 : List Value} (hst : st0 = As.reverse ++ st) (nx : Nat) (hd : decode M.2.1 pc = .ok (.invokestatic idx, 3)) (hn : pc + 3 = nx) (S : SiteS M.1.cls idx M' N) (hok : cOk R M'.2.2.1 d' mc' ms' k n st = true) (hN : As.length = N) (hE : EvY w M' none d' mc' ms' As A Qo' Qt') (K : ∀ (v : Option Value) (A' : Hp), Qo' v A' → Rn w M R Z (k + mc') (n + ms') A' nx lo (v.toList ++ st)) (Kt : ∀ (x : String) (A' : Hp), Qt' x A' → Rt w M R Z (k + mc') (n + ms') A' pc lo x) : Rn w M R Z k n A pc lo st0 := by
  subst hst
  intro p e s m args below meth c H locs ls C hR hL hl T hT X
  subst hT
  obtain ⟨hG, hy1, hy2, hNN⟩ := S
  have ok : ∀ q ∈ va_wsS M.1.cls idx M'.1 (wsM M'), q.before args s = true := fun q h => C.ts q (hG q h).1
  have hG2 : GoodIn lw_all (cdK M' none :: lw_all) := fun q h => hG q (by unfold va_wsS; exact List.mem_append_right _ h)
  have hini : Jvm.Cond.initialized M'.1.cls ∈ lw_all := (hG _ (by simp [va_wsS])).1
  have hcode := C.ts _ (hG2 _ List.mem_cons_self).1
  obtain ⟨mk, hnamed⟩ := Jvm.Cond.code_named hcode
  obtain ⟨methM, cM, hmethM, -, -, -, -, -, hsigM⟩ := cd_spec (hh := none) hcode hnamed
  have hstatic : methM.isStatic = true := Jvm.Cond.static_spec hnamed hmethM (ok _ (by simp [va_wsS]))
  obtain ⟨kP, hkP, -⟩ := className_of_methodNamed hnamed
  have hinitP : kP.init = .initialized := Jvm.Cond.initialized_spec (findClass_of_methodNamed hnamed) hkP (C.ts _ hini)
  obtain ⟨vm₁, X₁, hstep₁⟩ := X.invokestatic C.x C.own (ok (Jvm.Cond.methodLink M.1.cls idx M'.1) (by simp [va_wsS])) hnamed hmethM hstatic hkP hinitP ⟨hy1, hy2⟩ (g := F0 m pc ls (As.reverse ++ st)) rfl (argsL := As) (rest := st) (hN.trans (len_of hNN hsigM)) rfl (by rw [C.b]; exact hd)
  exact y_end nx hn C hR hL hl X₁ hd hG2 hnamed hini hok hE hstep₁ K Kt
theorem r_yNS {st0 : List Value} (hst : st0 = As.reverse ++ st) (nx : Nat) (hd : decode M.2.1 pc = .ok (.invokestatic idx, 3)) (hn : pc + 3 = nx) (S : SiteNS M.1.cls idx M' N) (hok : cOk R M'.2.2.1 d' mc' ms' k n st = true) (hN : As.length = N) (hE : EvY w M' none d' mc' ms' As A Qo' Qt') (K : ∀ (v : Option Value) (A' : Hp), Qo' v A' → Rn w M R Z (k + mc') (n + ms') A' nx lo (v.toList ++ st)) (Kt : ∀ (x : String) (A' : Hp), Qt' x A' → Rt w M R Z (k + mc') (n + ms') A' pc lo x) : Rn w M R Z k n A pc lo st0 := by
  subst hst
  intro p e s m args below meth c H locs ls C hR hL hl T hT X
  subst hT
  obtain ⟨⟨host, hG, hlk, hini, hy1, hy2, hNN⟩, hsta⟩ := S
  have hG2 : GoodIn lw_all (cdK M' none :: lw_all) := hG
  have hcode := C.ts _ (hG2 _ List.mem_cons_self).1
  obtain ⟨mk, hnamed⟩ := Jvm.Cond.code_named hcode
  obtain ⟨methM, cM, hmethM, -, -, -, -, -, hsigM⟩ := cd_spec (hh := none) hcode hnamed
  have hstatic : methM.isStatic = true := Jvm.Cond.static_spec hnamed hmethM (C.ts _ hsta)
  obtain ⟨kP, hkP, -⟩ := className_of_methodNamed hnamed
  have hinitP : kP.init = .initialized := Jvm.Cond.initialized_spec (findClass_of_methodNamed hnamed) hkP (C.ts _ hini)
  obtain ⟨vm₁, X₁, hstep₁⟩ := X.invokestaticNest C.x C.own ((C.k.nestM hlk).use rfl) hnamed hmethM hstatic hkP hinitP ⟨hy1, hy2⟩ (g := F0 m pc ls (As.reverse ++ st)) rfl (argsL := As) (rest := st) (hN.trans (len_of hNN hsigM)) rfl (by rw [C.b]; exact hd)
  exact y_end nx hn C hR hL hl X₁ hd hG2 hnamed hini hok hE hstep₁ K Kt
theorem r_yU {x : MethodName} {owner : String} {st0 : List Value} (hst : st0 = As.reverse ++ .ref b :: st) (nx : Nat) (hd : decode M.2.1 pc = .ok (.invokevirtual idx, 3)) (hn : pc + 3 = nx) (S : SiteY M.1.cls idx ci x owner M' hh N) (hA : A.1 b = some (.inr (ci, fs))) (hok : cOk R M'.2.2.1 d' mc' ms' k n st = true) (hN : As.length = N) (hE : EvY w M' hh d' mc' ms' (.ref b :: As) A Qo' Qt') (K : ∀ (v : Option Value) (A' : Hp), Qo' v A' → Rn w M R Z (k + mc') (n + ms') A' nx lo (v.toList ++ st)) (Kt : ∀ (x : String) (A' : Hp), Qt' x A' → Rt w M R Z (k + mc') (n + ms') A' pc lo x) : Rn w M R Z k n A pc lo st0 := by
  subst hst
  intro p e s m args below meth c H locs ls C hR hL hl T hT X
  subst hT
  obtain ⟨Cn, TT, NN, hc, h1, h2, h3, h4, h5, h6, hini, hG, hNN⟩ := S
  obtain ⟨cellB, hcB, hoB, hclB⟩ := va_recv C.k.K (rp_one hR hA) (ci := ci) (q0 := 0) hc rfl
  obtain ⟨r0, r, hn0, hrm, hstR, hsigR⟩ := Jvm.Cond.declares_spec (wAt C.k h3 rfl)
  obtain ⟨cn, ck, r1, hcn, hck, hni, hf, hn1⟩ := Jvm.Cond.sameMethod_found (C.ts _ h2)
  cases hn0.symm.trans hn1
  obtain ⟨mk, methM, hnamed, hmethM, -, habM⟩ := Jvm.Cond.instanceMethod_spec (C.ts _ h6)
  obtain ⟨c2, r2, m2, q1, q2, q3, q4, kP, hkP, hkPi⟩ := Jvm.Cond.selects_spec (C.ts _ h5)
  cases hclB.symm.trans q1
  cases hf.symm.trans q2
  cases hnamed.symm.trans q3
  have hselP : selectMethod e.platform s.vm cellB.cls r0 = .method mk := by rw [Launch.admits_selectMethod X.admits]; exact q4
  obtain ⟨vm₁, X₁, hstep₁⟩ := X.invokevirtualUp C.x C.own (C.ts _ h1) (C.ts _ h2) h4 hn0 hrm hstR (a := b) (cell := cellB) hcB
    (fun z h => by rw [h] at hoB; cases hoB) hselP hmethM habM hkP hkPi (g := F0 m pc ls (As.reverse ++ .ref b :: st)) rfl (argsL := As) (rest := st) (hN.trans (len_of hNN hsigR)) rfl (by rw [C.b]; exact hd)
  exact y_end nx hn C hR hL hl X₁ hd hG hnamed hini hok hE hstep₁ K Kt
theorem r_yV {st0 : List Value} (hst : st0 = As.reverse ++ .ref b :: st) (nx : Nat) (hd : decode M.2.1 pc = .ok (.invokevirtual idx, 3)) (hn : pc + 3 = nx) (S : SiteYV M.1.cls idx ci M' hh N) (hA : A.1 b = some (.inr (ci, fs))) (hok : cOk R M'.2.2.1 d' mc' ms' k n st = true) (hN : As.length = N) (hE : EvY w M' hh d' mc' ms' (.ref b :: As) A Qo' Qt') (K : ∀ (v : Option Value) (A' : Hp), Qo' v A' → Rn w M R Z (k + mc') (n + ms') A' nx lo (v.toList ++ st)) (Kt : ∀ (x : String) (A' : Hp), Qt' x A' → Rt w M R Z (k + mc') (n + ms') A' pc lo x) : Rn w M R Z k n A pc lo st0 := by
  subst hst
  intro p e s m args below meth c H locs ls C hR hL hl T hT X
  subst hT
  obtain ⟨Cn, TT, NN, hc, h1, h6, h5, hini, hG, hy, hNN⟩ := S
  obtain ⟨cellB, hcB, hoB, hclB⟩ := va_recv C.k.K (rp_one hR hA) (ci := ci) (q0 := 0) hc rfl
  obtain ⟨mk, methM, hnamed, hmethM, hstM, habM⟩ := Jvm.Cond.instanceMethod_spec (C.ts _ h6)
  obtain ⟨methM', cM, hmethM', -, -, -, -, -, hsigM⟩ := cd_spec (C.ts _ (hG _ List.mem_cons_self).1) hnamed
  cases hmethM.symm.trans hmethM'
  obtain ⟨c2, r2, m2, q1, q2, q3, q4, kP, hkP, hkPi⟩ := Jvm.Cond.selects_spec (C.ts _ h5)
  cases hclB.symm.trans q1
  cases (State.methodFound?_of_named hnamed hy).symm.trans q2
  cases hnamed.symm.trans q3
  have hselP : selectMethod e.platform s.vm cellB.cls mk = .method mk := by rw [Launch.admits_selectMethod X.admits]; exact q4
  obtain ⟨vm₁, X₁, hstep₁⟩ := X.invokevirtual C.x C.own (C.ts _ h1) hnamed hmethM hstM hkP hkPi hy (a := b) (cell := cellB) hcB
    (fun z h => by rw [h] at hoB; cases hoB) hselP hmethM habM hkP hkPi (g := F0 m pc ls (As.reverse ++ .ref b :: st)) rfl (argsL := As) (rest := st) (hN.trans (len_of hNN hsigM)) rfl (by rw [C.b]; exact hd)
  exact y_end nx hn C hR hL hl X₁ hd hG hnamed hini hok hE hstep₁ K Kt
end YROWS
/-! catching: the class of a catch clause may still have to be resolved -/
theorem go_cold {Q : Handler → Pre} {E : CtlPost} {e : Env} {d : Bool} {acts : List Action} {s : State} {f : JFrame} {a : Addr} {x : ExceptionTableEntry} {t : List ExceptionTableEntry} {c : ClassId} {cell : Cell} {vm' : Vm} (hx : covers x f.pc = true) (h0 : x.catchType ≠ 0) (hg : (Jvm.resolveClass f.method.cls x.catchType).Gives e.toSetting s.vm (.ok c) vm') (hsz : vm'.classes.size ≤ s.vm.classes.size) (hcell : s.heap[a]? = some cell) (hobj : ∀ k, cell.vm ≠ .statics k) (hk : ∃ k, vm'.classes[cell.cls]? = some k) (hc : ∃ k, vm'.classes[c]? = some k) :
    wp (findHandler.go f a (x :: t)) Q E e d acts s ↔ if vm'.assignable cell.cls c = true then Q (.found x.handlerPc) d acts (s.setVm vm') else wp (findHandler.go f a t) Q E e d acts (s.setVm vm') := by
  simp only [covers] at hx
  obtain ⟨ha, ht⟩ := hg.op (op := VmOp.resolveClass f.method.cls x.catchType) rfl
  cases hfit : vm'.assignable cell.cls c <;>
    simp [findHandler.go, hx, h0, ha, ht, hsz, hcell, hobj, hk, hc, hfit, VmOp.dirties, VmOp.acts]
theorem go_find {own : String} {args : Array Value} {s : State} {e : Env} {f : JFrame} {a : Addr} {cell : Cell} (hown : s.vm.findClass own = some f.method.cls) (hpl : e.platform.magicAccessors = ({} : Platform).magicAccessors) (hobj : ∀ k, cell.vm ≠ .statics k) (hkc : ∃ k, s.vm.classes[cell.cls]? = some k) {x : ExceptionTableEntry} {rest : List ExceptionTableEntry} (hx : covers x f.pc = true) (h0 : x.catchType ≠ 0) {xn : String} (hxl : (Jvm.Cond.classLink own x.catchType xn).before args s = true) {cx : ClassId} (hxc : s.vm.findClass xn = some cx) (hxa : s.vm.assignable cell.cls cx = true) :
    ∀ (pre : List ExceptionTableEntry) (T : State), s.WarmedH T.vm → T.heap[a]? = some cell → (∀ y ∈ pre, covers y f.pc = false ∨ (covers y f.pc = true ∧ y.catchType ≠ 0 ∧ ∃ (cn : String) (cy : ClassId), (Jvm.Cond.classLink own y.catchType cn).before args s = true ∧ s.vm.findClass cn = some cy ∧ s.vm.assignable cell.cls cy = false)) →
      ∃ vm', s.WarmedH vm' ∧ ∀ (Q : Handler → Pre) (E : CtlPost) (d : Bool) (acts : List Action), wp (findHandler.go f a (pre ++ x :: rest)) Q E e d acts T ↔ Q (.found x.handlerPc) d acts (T.setVm vm') := by
  have entry : ∀ (T : State) {y : ExceptionTableEntry} {cn : String} {cy : ClassId}, s.WarmedH T.vm → (Jvm.Cond.classLink own y.catchType cn).before args s = true → s.vm.findClass cn = some cy → ∃ vm', (Jvm.resolveClass f.method.cls y.catchType).Gives e.toSetting T.vm (.ok cy) vm' ∧ s.WarmedH vm' ∧ vm'.classes.size ≤ T.vm.classes.size ∧ (∃ k, vm'.classes[cell.cls]? = some k) ∧ (∃ k, vm'.classes[cy]? = some k) := by
    intro T y cn cy hW hl hc
    obtain ⟨cc, hfcc, hcl⟩ := Jvm.Cond.classLink_spec hown hl e.platform hpl
    cases hfcc.symm.trans hc
    obtain ⟨hg, hw, -⟩ := State.classEntry (e := e) hW hcl
    have hsz : (T.vm.noted f.method.cls y.catchType (.cls cy)).classes.size ≤ T.vm.classes.size := by no_record
    obtain ⟨k1, hk1⟩ := hkc
    obtain ⟨k2, hk2⟩ := Vm.classAt_of_findClass hc
    obtain ⟨k3, hk3, -⟩ := hw.alike.2.2 _ _ hk1
    obtain ⟨k4, hk4, -⟩ := hw.alike.2.2 _ _ hk2
    exact ⟨_, hg, hw, hsz, ⟨k3, hk3⟩, ⟨k4, hk4⟩⟩
  intro pre
  induction pre with
  | nil =>
    intro T hW hT _
    obtain ⟨vm', hg, hw, hsz, hk1, hk2⟩ := entry T hW hxl hxc
    refine ⟨vm', hw, fun Q E d acts => ?_⟩
    rw [List.nil_append, go_cold hx h0 hg hsz hT hobj hk1 hk2, if_pos (by rw [hw.alike.assignable]; exact hxa)]
  | cons y t ih =>
    intro T hW hT hp
    rcases hp y List.mem_cons_self with hs | ⟨hy, hy0, cn, cy, hl, hc, hna⟩
    · obtain ⟨vm', hw, h⟩ := ih T hW hT (fun z hz => hp z (List.mem_cons_of_mem _ hz))
      refine ⟨vm', hw, fun Q E d acts => ?_⟩
      rw [List.cons_append, W.findHandler_go_skip hs]
      exact h Q E d acts
    · obtain ⟨vm1, hg, hw1, hsz, hk1, hk2⟩ := entry T hW hl hc
      obtain ⟨vm', hw, h⟩ := ih (T.setVm vm1) hw1 hT (fun z hz => hp z (List.mem_cons_of_mem _ hz))
      refine ⟨vm', hw, fun Q E d acts => ?_⟩
      rw [List.cons_append, go_cold hy hy0 hg hsz hT hobj hk1 hk2, if_neg (by rw [hw1.alike.assignable, hna]; decide), h Q E d acts, State.setVm_twice]
theorem catch_step {e : Env} {s : State} {a : Addr} {f : JFrame} {r : List Frame} {pc : Nat} {vm' : Vm} (hfind : ∀ (Q : Handler → Pre) (E : CtlPost) (d : Bool) (acts : List Action), wp (findHandler f a) Q E e d acts s ↔ Q (.found pc) d acts (s.setVm vm')) :
    (stepThrowing e s a (.java f :: r)).Is ((s.setVm vm').setFrames (.java { f with pc := pc, stack := [.ref a] } :: r)) [] := by
  simp only [stepThrowing, searchFrame, vmDo]
  generalize hr : Sem.go _ e false [] s = res
  obtain ⟨as, rfl, ha⟩ := Sem.eq_ok_of hr (a := Handler.found pc) (s' := s.setVm vm') (acts' := []) (by simp [hfind _ _ _ _])
  exact ⟨rfl, ha⟩
theorem caught_to {tb : Tables} {e : Env} {s target : State} {g : JFrame} {c : Code} {below : List Frame} {a : Addr} {vm' : Vm} (h : At s g.method c below) {pc : Nat} (hfind : ∀ (Q : Handler → Pre) (E : CtlPost) (d : Bool) (acts : List Action), wp (findHandler g a) Q E e d acts ((s.setTop g).pushFrame (.throwing a)) ↔ Q (.found pc) d acts (((s.setTop g).pushFrame (.throwing a)).setVm vm'))
    (hrest : Steps tb e below ((s.setVm vm').setTop { g with pc := pc, stack := [.ref a] }) target) : Steps tb e below ((s.setTop g).pushFrame (.throwing a)) target := by
  obtain ⟨hgo, hw⟩ := h.throwing a
  refine Steps.head hgo hw ?_
  rw [stepThread_throwing (frames_entered h.top _), (catch_step (s := (s.setTop g).pushFrame (.throwing a)) hfind).1]
  obtain ⟨g₀, hg⟩ := Option.isSome_iff_exists.mp h.top
  obtain ⟨r, hr⟩ := State.topJava?_eq_some.mp hg
  have hr' : (s.setVm vm').frames = .java g₀ :: r := hr
  rw [State.setTop_of_frames _ hr'] at hrest
  rw [State.pushFrame, State.setFrames_setVm, State.setFrames_setFrames, State.setTop_of_frames _ hr, State.setFrames_setVm, State.setFrames_setFrames, hr]
  exact hrest
theorem ncast {X C : String} {args : Array Value} {s : State} (h : (Jvm.Cond.not (Jvm.Cond.castable X C)).before args s = true) {c1 c2 : ClassId} (h1 : s.vm.findClass X = some c1) (h2 : s.vm.findClass C = some c2) : s.vm.assignable c1 c2 = false := by
  simpa [Jvm.Cond.before, Jvm.Cond.holds, Jvm.Cond.value, h1, h2] using h
theorem rt_catch {w : WE} {M : MI} {R : Room} {Z : ZT} {k n : Nat} {A : Hp} {pc : Nat} {lo : List (Option Value)} {X xn : String} {b : ByteArray} {L : Nat} {r : Option FieldType} {pre post : List (Nat × Nat × Nat × Nat)} {x1 x2 hp ct : Nat} (hw : Jvm.Cond.codeWith M.1 b L r (pre ++ (x1, x2, hp, ct) :: post) ∈ lw_tbl) (hcov : (decide (x1 ≤ pc) && decide (pc < x2)) = true) (h0 : ct ≠ 0) (hxl : Jvm.Cond.classLink M.1.cls ct xn ∈ lw_all) (hca : ∀ (s : State), KW w s → (Jvm.Cond.castable X xn).before (a0 w) (ws0 w) = true)
    (hpre : ∀ (s : State), KW w s → ∀ y ∈ pre, y.2.2.2 ≠ 0 ∧ ∃ cn, Jvm.Cond.classLink M.1.cls y.2.2.2 cn ∈ lw_all ∧ (Jvm.Cond.not (Jvm.Cond.castable X cn)).before (a0 w) (ws0 w) = true) (K : ∀ a : Nat, Rn w M R Z k n A hp lo [.ref a]) : Rt w M R Z k n A pc lo X := by
  intro p e s m args below meth c H locs ls st a C hR hL hlo htc T hTH Y
  obtain ⟨ce, hcell, hcls, hvm⟩ := htc
  subst hTH
  have hpl : e.platform.magicAccessors = ({} : Platform).magicAccessors := by rw [Y.admits.platform]
  have htab := C.tab Y.method Y.code hw
  obtain ⟨l1, l2, e0, e1, e2⟩ := List.map_eq_append_iff.mp htab
  obtain ⟨xe, l3, rfl, e3, e4⟩ := List.map_eq_cons_iff.mp e2
  have ha := C.k.2.2.2.alike
  have hcs : s.vm.findClass X = some ce.cls := by rw [ha.findClass]; exact hcls
  have hobj : ∀ z, ce.vm ≠ .statics z := fun z h => by rw [hvm] at h; cases h
  have hxe : xe.startPc = x1 ∧ xe.endPc = x2 ∧ xe.handlerPc = hp ∧ xe.catchType = ct := by
    simpa using e3
  obtain ⟨e5, e6, e7, e8⟩ := hxe
  obtain ⟨z1, cx, hz1, hcx, hasg⟩ := Jvm.Cond.castable_spec (hca s C.k)
  cases hz1.symm.trans hcls
  obtain ⟨vm', hW, hf⟩ := go_find (own := M.1.cls) (args := args) (s := s) (e := e) (f := F0 m pc ls st) (a := a) (cell := ce) C.own hpl hobj (Vm.classAt_of_findClass hcs) (x := xe) (rest := l3) (by show (decide (xe.startPc ≤ pc) && decide (pc < xe.endPc)) = true; rw [e5, e6]; exact hcov) (by rw [e8]; exact h0) (xn := xn) (by rw [e8]; exact C.ts _ hxl) (cx := cx) (by rw [ha.findClass]; exact hcx) (by rw [ha.assignable]; exact hasg) l1 ((T.setTop (F0 m pc ls st)).pushFrame (.throwing a)) (by rw [Stand.throwing_vm]; exact Y.warmed) (by rw [Stand.throwing_heap]; exact hcell) (by
    intro y hy
    cases hcv : covers y (F0 m pc ls st).pc with
    | false => exact Or.inl rfl
    | true =>
      refine Or.inr ⟨rfl, ?_⟩
      have hmem : (y.startPc, y.endPc, y.handlerPc, y.catchType) ∈ pre := by
        rw [← e1]
        exact List.mem_map.mpr ⟨y, hy, rfl⟩
      obtain ⟨q0, cn, q1, q2⟩ := hpre s C.k _ hmem
      obtain ⟨cc, hfcc, -⟩ := Jvm.Cond.classLink_spec C.own (C.ts _ q1) e.platform hpl
      exact ⟨q0, cn, cc, C.ts _ q1, hfcc, by rw [ha.assignable]; exact ncast q2 hcls (by rw [← ha.findClass]; exact hfcc)⟩)
  have hfind : ∀ (Q : Handler → Pre) (E : CtlPost) (d : Bool) (acts : List Action), wp (findHandler (F0 m pc ls st) a) Q E e d acts ((T.setTop (F0 m pc ls st)).pushFrame (.throwing a)) ↔ Q (.found hp) d acts (((T.setTop (F0 m pc ls st)).pushFrame (.throwing a)).setVm vm') := by
    intro Q E d acts
    rw [W.findHandler_eq (meth := meth) (code := c) (by rw [Stand.throwing_vm]; exact Y.method') Y.code, e0, hf Q E d acts, e7]
  obtain ⟨t, a1, b1⟩ := K a p e s m args below meth c T.heap locs ls C hR hL hlo (T.setVm vm') rfl (Y.noted hW)
  exact ⟨t, caught_to (g := F0 m pc ls st) Y.here hfind a1, b1⟩

