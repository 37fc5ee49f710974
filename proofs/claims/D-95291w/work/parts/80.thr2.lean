/-! an exception under way: Rz, Rt; leaving, catching; contracts that may throw: EvY -/
set_option maxRecDepth 100000
def TR (w : WE) : Prop := ∀ e : Env, w.1.admits e → e.platform.stackTraces = false
def Rz (w : WE) (M : MI) (R : Room) (Z : ZT) (k n : Nat) (A : Hp) (pc : Nat) (lo : List (Option Value)) (st : List Value) (nt : Frame) : Prop :=
  ∀ (p : Program) (e : Env) (s : State) (m : MethodId) (args : Array Value) (below : List Frame) (meth : Method) (c : Code) (H : Heap) (locs : List Loc) (ls : Array Slot),
    Cx w M p s m args meth c → Rp w A H → (∀ q ∈ locs, wb w ≤ q.base) → lo_has ls M.2.2.1 lo →
    ∀ T : State, T.heap = H → Stand p w.1 e R s m args below meth c T locs k n → ∃ t, Steps p.tables e below ((T.setTop (F0 m pc ls st)).pushFrame nt) t ∧ Z below args s t
def Rt (w : WE) (M : MI) (R : Room) (Z : ZT) (k n : Nat) (A : Hp) (pc : Nat) (lo : List (Option Value)) (X : String) : Prop :=
  ∀ (p : Program) (e : Env) (s : State) (m : MethodId) (args : Array Value) (below : List Frame) (meth : Method) (c : Code) (H : Heap) (locs : List Loc) (ls : Array Slot) (st : List Value) (a : Nat),
    Cx w M p s m args meth c → Rp w A H → (∀ q ∈ locs, wb w ≤ q.base) → lo_has ls M.2.2.1 lo → Tc w X a H →
    ∀ T : State, T.heap = H → Stand p w.1 e R s m args below meth c T locs k n → ∃ t, Steps p.tables e below ((T.setTop (F0 m pc ls st)).pushFrame (.throwing a)) t ∧ Z below args s t
theorem loc_app {w : WE} {l l2 : List Loc} (h : ∀ q ∈ l, wb w ≤ q.base) (h2 : ∀ q ∈ l2, wb w ≤ q.base) : ∀ q ∈ l ++ l2, wb w ≤ q.base := fun q hq => (List.mem_append.mp hq).elim (h q) (h2 q)
section RZ
variable {w : WE} {M : MI} {R : Room} {Z : ZT} {k n : Nat} {A : Hp} {pc : Nat} {lo : List (Option Value)} {st : List Value}
theorem rz_npe (hT : TR w) (hf : 7 < R.frames) (hl : (st.map fun v => v.category).sum + 10240 ≤ R.locals) (hc : k + 1 ≤ R.cells) (hs : n + 8 ≤ R.slots) (K : Rt w M R Z (k + 1) (n + 8) (A.1, A.2 + 1) pc lo "java/lang/NullPointerException") : Rz w M R Z k n A pc lo st (.throwNew "java/lang/NullPointerException" none none) := by
  intro p e s m args below meth c H locs ls C hR hL hlo T hTH X
  subst hTH
  obtain ⟨T2, L2, X2, h1, h2, h3, h4⟩ := npe_go (g := F0 m pc ls st) C.x C.k (hT e X.admits) hR X rfl (by rw [C.ml]; exact lo_size hlo) hf (by show 2 * 0 + (st.map fun v => v.category).sum + _ ≤ _; omega) hc hs
  obtain ⟨t, a1, b1⟩ := K p e s m args below meth c _ _ ls st _ C h2 (loc_app hL h1) hlo h3 T2 rfl X2
  exact ⟨t, h4 t a1, b1⟩
theorem rz_msg {X text : String} {names : List String} (b : Nat) (hX : XW X names) (ht : (text == notModelled) = false) (hb : (stringBytes (stringToUtf16 text)).size ≤ b) (hb2 : b ≤ 1000) (hT : TR w) (hf : 7 < R.frames) (hl : (st.map fun v => v.category).sum + 10240 ≤ R.locals) (hc : k + 3 ≤ R.cells) (hs : n + (b + 10) ≤ R.slots)
    (K : Rt w M R Z (k + 3) (n + (b + 10)) (A.1, A.2 + 3) pc lo X) : Rz w M R Z k n A pc lo st (.throwNew X (some text) none) := by
  intro p e s m args below meth c H locs ls C hR hL hlo T hTH X
  subst hTH
  obtain ⟨T2, L2, X2, h1, h2, h3, h4⟩ := msg_go (g := F0 m pc ls st) C.x C.k (hT e X.admits) hR X rfl (by rw [C.ml]; exact lo_size hlo) hX ht hb hb2 hf (by show 2 * 0 + (st.map fun v => v.category).sum + _ ≤ _; omega) hc hs
  obtain ⟨t, a1, b1⟩ := K p e s m args below meth c _ _ ls st _ C h2 (loc_app hL h1) hlo h3 T2 rfl X2
  exact ⟨t, h4 t a1, b1⟩
theorem rt_wide (k' n' : Nat) {X : String} (h1 : k ≤ k') (h2 : n ≤ n') (K : Rt w M R Z k' n' A pc lo X) : Rt w M R Z k n A pc lo X := by
  intro p e s m args below meth c H locs ls st a C hR hL hlo ha T hTH X
  exact K p e s m args below meth c H locs ls st a C hR hL hlo ha T hTH (stand_widen X h1 h2)
theorem r_mono {Z' : ZT} (h : ∀ b a s t, Z' b a s t → Z b a s t) (K : Rn w M R Z' k n A pc lo st) : Rn w M R Z k n A pc lo st := by
  intro p e s m args below meth c H locs ls C hR hL hlo T hTH X
  obtain ⟨t, a1, b1⟩ := K p e s m args below meth c H locs ls C hR hL hlo T hTH X
  exact ⟨t, a1, h _ _ _ _ b1⟩
end RZ
/-! the method's table of handlers, out of its word -/
theorem Cx.tab {w : WE} {M : MI} {p : Program} {s : State} {m : MethodId} {args : Array Value} {meth : Method} {c : Code} (C : Cx w M p s m args meth c) (hm : s.vm.method? m = some meth) (hc : meth.code = some c) {b : ByteArray} {L : Nat} {r : Option FieldType} {hh : List (Nat × Nat × Nat × Nat)} (h : Jvm.Cond.codeWith M.1 b L r hh ∈ lw_tbl) :
    c.exceptionTable.toList.map (fun h => (h.startPc, h.endPc, h.handlerPc, h.catchType)) = hh := by
  obtain ⟨m', meth', c', h1, h2, h3, -, -, h4, -⟩ := Jvm.Cond.codeWith_spec (wAt C.k h rfl)
  have e1 : m = m' := Option.some.inj (C.2.2.2.2.1.symm.trans h1)
  subst e1
  have e2 : meth = meth' := Option.some.inj (hm.symm.trans h2)
  subst e2
  have e3 : c = c' := Option.some.inj (hc.symm.trans h3)
  subst e3
  exact h4
theorem Cx.tab0 {w : WE} {M : MI} {p : Program} {s : State} {m : MethodId} {args : Array Value} {meth : Method} {c : Code} (C : Cx w M p s m args meth c) (hm : s.vm.method? m = some meth) (hc : meth.code = some c) {b : ByteArray} {L : Nat} {r : Option FieldType} (h : Jvm.Cond.code M.1 b L r ∈ lw_tbl) :
    c.exceptionTable.toList.map (fun h => (h.startPc, h.endPc, h.handlerPc, h.catchType)) = [] := by
  have h0 := wAt C.k h rfl
  have h1 : (Jvm.Cond.codeWith M.1 b L r []).before (a0 w) (sv w s) = true := by
    unfold Jvm.Cond.before Jvm.Cond.holds at h0 ⊢
    rw [Jvm.Cond.code_iff_codeWith_nil] at h0
    exact h0
  obtain ⟨m', meth', c', h1, h2, h3, -, -, h4, -⟩ := Jvm.Cond.codeWith_spec h1
  have e1 : m = m' := Option.some.inj (C.2.2.2.2.1.symm.trans h1)
  subst e1
  have e2 : meth = meth' := Option.some.inj (hm.symm.trans h2)
  subst e2
  have e3 : c = c' := Option.some.inj (hc.symm.trans h3)
  subst e3
  exact h4
/-! contracts that may throw -/
def QcY (w : WE) (Qo : Option Value → Hp → Prop) (Qt : String → Hp → Prop) : Array Value → State → Outcome → State → Prop := fun _ _ o t =>
  (∃ (v : Option Value) (A' : Hp), o = .returned v ∧ Rp w A' t.heap ∧ Qo v A') ∨ (∃ (a : Nat) (X : String) (A' : Hp), o = .threw a ∧ Rp w A' t.heap ∧ Tc w X a t.heap ∧ Qt X A')
def FeY (s : State) (t : State) (L : List Loc) (k n : Nat) : Prop := s.WarmedH t.vm ∧ s.sameButNew ({ t with vm := s.vm } : State) L k n
def ZY (w : WE) (Qo : Option Value → Hp → Prop) (Qt : String → Hp → Prop) (mc ms : Nat) : ZT := fun below args s t =>
  ∃ o, t.status = .running ∧ Ended t below o ∧ QcY w Qo Qt args s o t ∧ ∃ L, FeY s t L mc ms ∧ ∀ q ∈ L, wb w ≤ q.base
theorem zx_zy {w : WE} {Qo : Option Value → Hp → Prop} {Qt : String → Hp → Prop} {mc ms : Nat} : ∀ b a s t, ZX w Qo mc ms b a s t → ZY w Qo Qt mc ms b a s t := by
  rintro b a s t ⟨o, h1, h2, ⟨v, A', h3, h4, h5⟩, L, ⟨-, h6, h7⟩, h8⟩
  exact ⟨o, h1, h2, Or.inl ⟨v, A', h3, h4, h5⟩, L, ⟨h6, h7⟩, h8⟩
section RT
variable {w : WE} {M : MI} {R : Room} {k n : Nat} {A : Hp} {pc : Nat} {lo : List (Option Value)} {st : List Value}
theorem r_ok {Qo : Option Value → Hp → Prop} {Qt : String → Hp → Prop} {mc ms : Nat} (K : Rn w M R (ZX w Qo mc ms) k n A pc lo st) : Rn w M R (ZY w Qo Qt mc ms) k n A pc lo st := r_mono zx_zy K
theorem rt_outT {Qo : Option Value → Hp → Prop} {Qt : String → Hp → Prop} {X : String} {hh : List (Nat × Nat × Nat × Nat)} (hw : ∀ (p : Program) (s : State) (m : MethodId) (args : Array Value) (meth : Method) (c : Code), Cx w M p s m args meth c → s.vm.method? m = some meth → meth.code = some c → c.exceptionTable.toList.map (fun h => (h.startPc, h.endPc, h.handlerPc, h.catchType)) = hh)
    (ho : (hh.all fun h => !(decide (h.1 ≤ pc) && decide (pc < h.2.1))) = true) (hq : Qt X A) : Rt w M R (ZY w Qo Qt k n) k n A pc lo X := by
  intro p e s m args below meth c H locs ls st a C hR hL hlo ha T hTH Y
  subst hTH
  have hout : ∀ x ∈ c.exceptionTable.toList, covers x (F0 m pc ls st).pc = false := by
    intro x hx
    have := List.all_eq_true.mp ho (x.startPc, x.endPc, x.handlerPc, x.catchType) (by rw [← hw p s m args meth c C Y.method Y.code]; exact List.mem_map.mpr ⟨x, hx, rfl⟩)
    exact (Bool.not_eq_true' _).mp this
  obtain ⟨h1, h2, h3, h4, h5⟩ := Y.leaveThrown a (g := F0 m pc ls st) rfl rfl rfl hout C.nl
  exact ⟨_, h1, _, h2, h3, Or.inr ⟨a, X, A, rfl, hR, ha, hq⟩, locs, ⟨h4, h5⟩, hL⟩
theorem rt_out {Qo : Option Value → Hp → Prop} {Qt : String → Hp → Prop} {X : String} {b : ByteArray} {L : Nat} {r : Option FieldType} (h : Jvm.Cond.code M.1 b L r ∈ lw_tbl) (hq : Qt X A) : Rt w M R (ZY w Qo Qt k n) k n A pc lo X :=
  rt_outT (hh := []) (fun p s m args meth c C hm hc => C.tab0 hm hc h) rfl hq
end RT
abbrev HT : Type := Option (List (Nat × Nat × Nat × Nat))
/-- the word of a method's code, with or without handlers -/
def cdK (M : MI) : HT → Cond
  | none => Jvm.Cond.code M.1 M.2.1 M.2.2.1 M.2.2.2
  | some hh => Jvm.Cond.codeWith M.1 M.2.1 M.2.2.1 M.2.2.2 hh
theorem cd_spec {M : MI} {hh : HT} {args : Array Value} {s : State} {m : MethodId} (h : (cdK M hh).before args s = true) (hn : s.methodNamed? M.1 = some m) : ∃ meth c, s.vm.method? m = some meth ∧ meth.code = some c ∧ c.code = M.2.1 ∧ c.maxLocals = M.2.2.1 ∧ meth.sig.returnType = M.2.2.2 ∧ meth.locks = false ∧ parseMethodDescriptor M.1.desc = some meth.sig := by
  cases hh with
  | none =>
    obtain ⟨meth, c, h1, h2, h3, h4, h5, h6, -, h7⟩ := Jvm.Cond.code_spec hn h
    exact ⟨meth, c, h1, h2, h3, h4, h5, h6, h7⟩
  | some hh =>
    obtain ⟨m', meth, c, h0, h1, h2, h3, h4, -, h5, h6, h7⟩ := Jvm.Cond.codeWith_spec h
    cases Option.some.inj (hn.symm.trans h0)
    exact ⟨meth, c, h1, h2, h3, h4, h5, h6, h7⟩
def EvY (w : WE) (M : MI) (hh : HT) (d mc ms : Nat) (As : List Value) (A : Hp) (Qo : Option Value → Hp → Prop) (Qt : String → Hp → Prop) : Prop :=
  MetFree w.1 M.1 (headSpec (cdK M hh :: lw_all) (rmX d mc ms)) (PcX w As A) (fun _ _ _ _ _ => True) (fun a s o t => QcY w Qo Qt a s o t ∧ ∃ L, FeY s t L mc ms ∧ ∀ q ∈ L, wb w ≤ q.base)
theorem EvY.mk {w : WE} {M : MI} {hh : HT} {d mc ms : Nat} {As : List Value} {A : Hp} {Qo : Option Value → Hp → Prop} {Qt : String → Hp → Prop} (kk : Nat) (lo : List (Option Value)) (hlo : loE As ++ List.replicate kk none = lo) (hy : plainName M.1.cls = true) (hlen : (lg_sl As).length ≤ M.2.2.1)
    (h : Rn w M (rmX d mc ms) (ZY w Qo Qt mc ms) 0 0 A 0 lo []) : EvY w M hh d mc ms As A Qo Qt := by
  refine MetFree.of_bodyS (code := M.2.1) (maxLocals := M.2.2.1) (ret := M.2.2.2) hy ?_ ?_
  · intro args s m h hn
    obtain ⟨meth, c, h1, h2, h3, h4, h5, h6, -⟩ := cd_spec (atoms_spec (ws := cdK M hh :: lw_all) h _ List.mem_cons_self) hn
    exact ⟨meth, c, h1, h2, h3, h4, h5, h6⟩
  · intro p e s m args below meth c s₁ B hml hv _
    obtain ⟨rfl, hR, hK⟩ := hv
    have hh0 : s₁.heap = s.heap := by rw [B.state]; rfl
    have hts := atoms_spec (ws := cdK M hh :: lw_all) B.pre
    have hts : ∀ w ∈ lw_all, w.before _ s = true := fun w h => hts w (List.mem_cons_of_mem _ h)
    have hl := lv_entry As (n := M.2.2.1) hlen
    rw [lg_entry_eq]
    obtain ⟨t, a1, o, b1, b2, b3, b4⟩ := h p e s m _ below meth c s.heap [] _ ⟨B.exec, B.bytes, B.returns, hml, B.named, hts, B.notSynchronized, (name_of_methodNamed B.named B.method).1, hK⟩ hR (fun q hq => by cases hq) ⟨_, hl, lo_entry hlo⟩ s₁ hh0 (Stand.of_body B)
    exact ⟨t, o, a1, b1, b2, b3, b4⟩
section INV
variable {w : WE} {M M' : MI} {hh : HT} {p : Program} {e : Env} {R : Room} {s : State} {m mk : MethodId} {args : Array Value} {below : List Frame} {meth : Method} {c : Code} {T : State} {locs : List Loc} {k n d' mc' ms' : Nat} {A : Hp} {As : List Value} {Qo' : Option Value → Hp → Prop} {Qt' : String → Hp → Prop}
set_option maxHeartbeats 1000000 in
/-- the invocation, behind the instruction's own step: it returns, or it throws -/
theorem inv_go (C : Cx w M p s m args meth c) (X : Stand p w.1 e R s m args below meth c T locs k n) (hR : Rp w A T.heap) (hG : GoodIn lw_all (cdK M' hh :: lw_all)) (hn : s.methodNamed? M'.1 = some mk) (hini : Jvm.Cond.initialized M'.1.cls ∈ lw_all) (hE : EvY w M' hh d' mc' ms' As A Qo' Qt')
    {g : JFrame} (hg : g.method = m) (hsize : g.locals.size = c.maxLocals) {ig : Instr} {len : Nat} (hdg : decode c.code g.pc = .ok (ig, len)) (hst : 2 * g.monitorRoom + (g.stack.map fun v => v.category).sum ≤ 8)
    (hfr : d' + 1 ≤ R.frames) (hlo : 8 + (M'.2.2.1 + 11) + (11000 + 64 * d') ≤ R.locals) (hc : k + mc' ≤ R.cells) (hs : n + ms' ≤ R.slots) :
    ∃ (T2 : State) (L : List Loc) (A' : Hp), Stand p w.1 e R s m args below meth c T2 (locs ++ L) (k + mc') (n + ms') ∧ (∀ q ∈ L, wb w ≤ q.base) ∧ Rp w A' T2.heap ∧
      ((∃ v, Qo' v A' ∧ ∀ acts, Steps p.tables e below (doInvoke e (T.setTop g) acts mk As.toArray).1 (T2.setTop { g with pc := g.pc + len, stack := v.toList ++ g.stack })) ∨
       (∃ a x, Tc w x a T2.heap ∧ Qt' x A' ∧ ∀ acts, Steps p.tables e below (doInvoke e (T.setTop g) acts mk As.toArray).1 ((T2.setTop g).pushFrame (.throwing a)))) := by
  subst hg
  have hws := pay_in C.ts hG
  have h : At T g.method c below := X.here
  have hnT := X.named hn
  obtain ⟨methY, cY, hmY, hcY, -, hlY, -, -, -⟩ := cd_spec (hws _ List.mem_cons_self As.toArray T X.warmed) hnT
  obtain ⟨kY, hkY, -⟩ := className_of_methodNamed hnT
  have hinitY : kY.init = .initialized := Jvm.Cond.initialized_spec (findClass_of_methodNamed hnT) hkY (hws (Jvm.Cond.initialized M'.1.cls) (List.mem_cons_of_mem _ hini) As.toArray T X.warmed)
  have happ : (headSpec (cdK M' hh :: lw_all) (rmX d' mc' ms')).appliesLoose M'.1 e.platform (T.calling g mk As.toArray) = true :=
    Spec.appliesLoose_calling (g := g) h hdg hnT hkY hinitY (X.room_calling (g := g) (R' := rmX d' mc' ms') hsize hmY hcY hfr (by rw [hlY]; show _ + (11000 + 64 * d') ≤ _; omega) hc hs) (atoms_intro fun w hw => hws w hw _ _ X.warmed)
  obtain ⟨mid, hmid⟩ := h.above
  have hfr2 : (T.setTop g).frames = (.java g :: mid) ++ below := by rw [State.frames_setTop' g h.top, hmid]; rfl
  obtain ⟨o, s₂, hsteps, -, hend, hq, L, ⟨hW2, hsame⟩, hL2⟩ := Jvm.Free.Steps.callFree hE p X.admits X.cas X.clock (acts := []) hfr2 happ ⟨rfl, hR, (C.k.warm X.warmed).call⟩ trivial
  rw [State.frames_setTop' g h.top] at hend
  have hW' : T.WarmedH s₂.vm := hW2
  have hsame : (T.calling g mk As.toArray).sameButNew ({ s₂ with vm := (T.calling g mk As.toArray).vm } : State) L mc' ms' := hsame
  have e3 : s₂ = ({ (T.calling g mk As.toArray).setFrames s₂.frames with heap := s₂.heap, slotsUsed := s₂.slotsUsed } : State).setVm s₂.vm := by
    have q : s₂ = ({ s₂ with vm := (T.calling g mk As.toArray).vm } : State).setVm s₂.vm := rfl
    rw [hsame.1] at q
    exact q
  obtain ⟨g₀, hg0⟩ := Option.isSome_iff_exists.mp h.top
  obtain ⟨r, hr⟩ := State.topJava?_eq_some.mp hg0
  have hr' : (({ T with heap := s₂.heap, slotsUsed := s₂.slotsUsed } : State).setVm s₂.vm).frames = .java g₀ :: r := hr
  have hsm : T.sameButNew ({ T with heap := s₂.heap, slotsUsed := s₂.slotsUsed } : State) L mc' ms' := by
    obtain ⟨-, q2, q3, q4, q5, q6⟩ := hsame
    refine ⟨?_, q2, q3, q4, q5, q6⟩
    obtain ⟨t, ht, -⟩ := State.frames_cons hr
    show ({ T with heap := s₂.heap, slotsUsed := s₂.slotsUsed } : State) = { T.setFrames T.frames with heap := s₂.heap, slotsUsed := s₂.slotsUsed }
    rw [State.setFrames_self ht]
  have X2 : Stand p w.1 e R s g.method args below meth c (({ T with heap := s₂.heap, slotsUsed := s₂.slotsUsed } : State).setVm s₂.vm) (locs ++ L) (k + mc') (n + ms') :=
    ⟨X.admits, X.cas, X.clock, X.frames, X.room, X.hears, X.method, X.code, (X.here.setHeapUsed s₂.heap s₂.slotsUsed).setVm hW'.alike, X.tail, State.WarmedH.trans X.warmed hW', X.limits, X.bytes, X.same.trans (hsm.setVm s.vm)⟩
  rcases hq with ⟨v, A', ho, hR', hqo⟩ | ⟨a, x, A', ho, hR', htc, hqt⟩
  · subst ho
    obtain ⟨c₂, i₂, len₂, hc₂, hd₂, hf₂⟩ := hend
    have hcc : c₂ = c := by
      have h1 : s₂.code? g.method = T.code? g.method := by
        rw [State.code?_eq, State.code?_eq, hW'.alike.method?]
      exact Option.some.inj (hc₂.symm.trans (h1.trans h.code))
    subst hcc
    have hlen : len₂ = len := by rw [hdg] at hd₂; cases hd₂; rfl
    subst hlen
    refine ⟨_, L, A', X2, hL2, hR', Or.inl ⟨v, hqo, fun acts => ?_⟩⟩
    have hs₂ : s₂ = (({ T with heap := s₂.heap, slotsUsed := s₂.slotsUsed } : State).setVm s₂.vm).setTop { g with pc := g.pc + len₂, stack := v.toList ++ g.stack } := by
      refine e3.trans ?_
      rw [hf₂, State.calling_eq h.top, State.setFrames_setFrames, State.setTop_of_frames _ hr', hr]
      rfl
    rw [← hs₂, doInvoke_state]
    exact hsteps
  · subst ho
    have hf₂ : s₂.frames = .throwing a :: .java g :: T.frames.tail := hend
    refine ⟨_, L, A', X2, hL2, hR', Or.inr ⟨a, x, htc, hqt, fun acts => ?_⟩⟩
    have hs₂ : s₂ = ((({ T with heap := s₂.heap, slotsUsed := s₂.slotsUsed } : State).setVm s₂.vm).setTop g).pushFrame (.throwing a) := by
      refine e3.trans ?_
      rw [hf₂, State.calling_eq h.top, State.setFrames_setFrames, State.pushFrame, State.frames_setTop _ hr', State.setTop_of_frames _ hr', State.setFrames_setFrames, hr]
      rfl
    rw [← hs₂, doInvoke_state]
    exact hsteps
end INV
