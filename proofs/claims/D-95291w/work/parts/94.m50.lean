/-! a contract that does not ask that the method's class is initialized (an interface's default method) -/
set_option maxRecDepth 100000
def EvN (w : WE) (M : MI) (d mc ms : Nat) (As : List Value) (A : Hp) (Qo : Option Value → Hp → Prop) (Qt : String → Hp → Prop) : Prop :=
  ∀ (p : Program) (e : Env), w.1.admits e → FairCas e.choices → FairClock e.choices → ∀ (s : State) (m : MethodId) (below : List Frame), s.frames = .invoking m As.toArray :: below → s.status = .running → s.curStatus? = some .runnable → s.alone = true → s.methodNamed? M.1 = some m → s.hears m below = true → s.hasRoom e.platform (rmX d mc ms) = true → (∀ c ∈ cdK M none :: lw_all, c.before As.toArray s = true) → PcX w As A As.toArray s →
    ∃ n o, (∀ k, k < n → Within (stepsAlone p.tables e k s) below) ∧ (stepsAlone p.tables e n s).status = .running ∧ Ended (stepsAlone p.tables e n s) below o ∧ QcY w Qo Qt As.toArray s o (stepsAlone p.tables e n s) ∧ ∃ L, FeY s (stepsAlone p.tables e n s) L mc ms ∧ ∀ q ∈ L, wb w ≤ q.base
theorem EvN.mk {w : WE} {M : MI} {d mc ms : Nat} {As : List Value} {A : Hp} {Qo : Option Value → Hp → Prop} {Qt : String → Hp → Prop} (kk : Nat) (lo : List (Option Value)) (hlo : loE As ++ List.replicate kk none = lo) (hy : plainName M.1.cls = true) (hlen : (lg_sl As).length ≤ M.2.2.1)
    (h : Rn w M (rmX d mc ms) (ZY w Qo Qt mc ms) 0 0 A 0 lo []) : EvN w M d mc ms As A Qo Qt := by
  intro p e ha hc hk s m below hf hrun hable halone hname hhears hroom hws hv
  obtain ⟨-, hR, hK⟩ := hv
  obtain ⟨meth, c, hmeth, hcode, hbytes, hlocals, hret, hlocks, -⟩ := cd_spec (hws _ List.mem_cons_self) hname
  have hcur := State.cur_lt_of_frames hf
  have hf1 : (s.setFrames (.java (entryFrame m As.toArray M.2.2.1) :: below)).frames = .java (entryFrame m As.toArray M.2.2.1) :: below := State.frames_setFrames _ hcur
  have ht1 := State.topJava?_of_frames hf1
  have hplain : (s.setFrames (.java (entryFrame m As.toArray M.2.2.1) :: below)).plainMethod m := State.plainMethod.of_named (s := s) (plainFor_of_name hy) hname hmeth
  have hAt : At (s.setFrames (.java (entryFrame m As.toArray M.2.2.1) :: below)) m c below :=
    ⟨by rw [ht1]; rfl, ⟨[], by rw [hf1]; rfl⟩, hrun, by simpa using hable, by simpa using halone, by rw [State.code?_eq]; simp [State.setFrames, hmeth, hcode], hplain⟩
  have hstep : (stepThread p.tables e s).1 = (s.setFrames (.java (entryFrame m As.toArray M.2.2.1) :: below)).setTop (entryFrame m As.toArray M.2.2.1) := by
    have hfull : e.platform.stackFull (s.setFrames below).me (s.setFrames below).frames c.maxLocals = false := by
      obtain ⟨-, h1, -, h2⟩ := State.hasRoom_stack hroom
      rw [hf, List.length_cons] at h1
      rw [State.localsInUse_invoking hf hmeth hcode] at h2
      have hw := stackUse_le_stackWeight below
      rw [State.frames_setFrames _ hcur]
      exact Platform.stackFull_eq_false (by rw [State.stackLimits_setFrames]; omega) (by rw [State.stackLimits_setFrames]; omega)
    rw [stepThread_invoking hf, (doInvoke_java (s := s.setFrames below) (e := e) (meth := meth) (code := c) hmeth hcode hlocks hfull).1, State.setTop_self ht1]
    simp only [State.pushFrame, State.frames_setFrames _ hcur, State.setFrames_setFrames, hlocals, entryFrame]
  obtain ⟨t, ht, -⟩ := State.frames_cons hf
  have X : Stand p w.1 e (rmX d mc ms) s m As.toArray below meth c (s.setFrames (.java (entryFrame m As.toArray M.2.2.1) :: below)) [] 0 0 :=
    ⟨ha, hc, hk, hf, hroom, hhears, hmeth, hcode, hAt, by rw [hf1]; rfl, State.WarmedH.refl s, by rw [State.stackLimits_setFrames], by rw [State.stackBytes_setFrames], (State.sameButNew.refl s ht).setFrames (.java (entryFrame m As.toArray M.2.2.1) :: below) hcur⟩
  have hl := lv_entry As (n := M.2.2.1) hlen
  obtain ⟨s₂, hs, o, hr, he, hq, hL⟩ := h p e s m As.toArray below meth c s.heap [] _ ⟨by cases p <;> rfl, hbytes, hret, hlocals, hname, fun x hx => hws x (List.mem_cons_of_mem _ hx), hlocks, (name_of_methodNamed hname hmeth).1, hK⟩ hR (fun q hq => by cases hq) ⟨_, hl, lo_entry hlo⟩ (s.setFrames (.java (entryFrame m As.toArray M.2.2.1) :: below)) rfl X
  rw [← lg_entry_eq] at hs
  obtain ⟨n, hn, hw⟩ := Steps.head (tb := p.tables) (e := e) ⟨hrun, hable, halone⟩ ⟨[.invoking m As.toArray], hf, by simp, by simp⟩ (hstep ▸ hs)
  exact ⟨n, o, hw, hn ▸ hr, hn ▸ he, hn ▸ hq, hn ▸ hL⟩
theorem call_n {w : WE} {M : MI} {d mc ms : Nat} {As : List Value} {A : Hp} {Qo : Option Value → Hp → Prop} {Qt : String → Hp → Prop} (hM : EvN w M d mc ms As A Qo Qt) (p : Program) {e : Env} (ha : w.1.admits e) (hc : FairCas e.choices) (hk : FairClock e.choices) {s : State} {m : MethodId} {acts : List Action} {mid below fs : List Frame} (hfr : s.frames = mid ++ below) (hf : (s.pushFrame (.invoking m As.toArray)).frames = .invoking m As.toArray :: fs) (hrun : (s.pushFrame (.invoking m As.toArray)).status = .running) (hable : (s.pushFrame (.invoking m As.toArray)).curStatus? = some .runnable) (halone : (s.pushFrame (.invoking m As.toArray)).alone = true) (hname : (s.pushFrame (.invoking m As.toArray)).methodNamed? M.1 = some m) (hhears : (s.pushFrame (.invoking m As.toArray)).hears m s.frames = true) (hroom : (s.pushFrame (.invoking m As.toArray)).hasRoom e.platform (rmX d mc ms) = true) (hws : ∀ c ∈ cdK M none :: lw_all, c.before As.toArray (s.pushFrame (.invoking m As.toArray)) = true) (hv : PcX w As A As.toArray (s.pushFrame (.invoking m As.toArray))) :
    ∃ o s₂, Steps p.tables e below (doInvoke e s acts m As.toArray).1 s₂ ∧ s₂.status = .running ∧ Ended s₂ s.frames o ∧ QcY w Qo Qt As.toArray (s.pushFrame (.invoking m As.toArray)) o s₂ ∧ ∃ L, FeY (s.pushFrame (.invoking m As.toArray)) s₂ L mc ms ∧ ∀ q ∈ L, wb w ≤ q.base := by
  obtain ⟨t, ht⟩ : ∃ t, s.threads[s.cur]? = some t := by
    cases h : s.threads[s.cur]? with
    | some t => exact ⟨t, rfl⟩
    | none =>
      have : (s.pushFrame (.invoking m As.toArray)).frames = [] := by
        simp [State.frames, State.pushFrame, State.setFrames, Array.getElem?_modify, h]
      rw [this] at hf
      cases hf
  have hlt : s.cur < s.threads.size := (Array.getElem?_eq_some_iff.mp ht).1
  have hf' : (s.pushFrame (.invoking m As.toArray)).frames = .invoking m As.toArray :: s.frames := State.frames_setFrames _ hlt
  have hgo : (s.pushFrame (.invoking m As.toArray)).goesOn := ⟨hrun, hable, halone⟩
  obtain ⟨n, o, hw, hr, he, hp⟩ := hM p e ha hc hk (s.pushFrame (.invoking m As.toArray)) m s.frames hf' hrun hable halone hname hhears hroom hws hv
  have hstep : (stepThread p.tables e (s.pushFrame (.invoking m As.toArray))).1 = (doInvoke e s acts m As.toArray).1 := by
    rw [stepThread_invoking hf', doInvoke_state e s acts, State.pushFrame, State.setFrames_setFrames, State.setFrames_self ht]
  cases n with
  | zero => exact absurd ⟨[.invoking m As.toArray], hf', by simp, by simp⟩ he.not_within
  | succ k =>
    rw [stepsAlone_succ _ hgo, hstep] at hr he hp
    refine ⟨o, _, ⟨k, rfl, fun j hj => ?_⟩, hr, he, hp⟩
    have := hw (j + 1) (by omega)
    rw [stepsAlone_succ _ hgo, hstep, hfr] at this
    exact this.weaken
section INVN
variable {w : WE} {M M' : MI} {p : Program} {e : Env} {R : Room} {s : State} {m mk : MethodId} {args : Array Value} {below : List Frame} {meth : Method} {c : Code} {T : State} {locs : List Loc} {k n d' mc' ms' : Nat} {A : Hp} {As : List Value} {Qo' : Option Value → Hp → Prop} {Qt' : String → Hp → Prop}
set_option maxHeartbeats 1000000 in
/-- the invocation, behind the instruction's own step: it returns, or it throws -/
theorem inv_goN (C : Cx w M p s m args meth c) (X : Stand p w.1 e R s m args below meth c T locs k n) (hR : Rp w A T.heap) (hG : GoodIn lw_all (cdK M' none :: lw_all)) (hn : s.methodNamed? M'.1 = some mk) (hE : EvN w M' d' mc' ms' As A Qo' Qt')
    {g : JFrame} (hg : g.method = m) (hsize : g.locals.size = c.maxLocals) {ig : Instr} {len : Nat} (hdg : decode c.code g.pc = .ok (ig, len)) (hst : 2 * g.monitorRoom + (g.stack.map fun v => v.category).sum ≤ 8)
    (hfr : d' + 1 ≤ R.frames) (hlo : 8 + (M'.2.2.1 + 11) + (11000 + 64 * d') ≤ R.locals) (hc : k + mc' ≤ R.cells) (hs : n + ms' ≤ R.slots) :
    ∃ (T2 : State) (L : List Loc) (A' : Hp), Stand p w.1 e R s m args below meth c T2 (locs ++ L) (k + mc') (n + ms') ∧ (∀ q ∈ L, wb w ≤ q.base) ∧ Rp w A' T2.heap ∧
      ((∃ v, Qo' v A' ∧ ∀ acts, Steps p.tables e below (doInvoke e (T.setTop g) acts mk As.toArray).1 (T2.setTop { g with pc := g.pc + len, stack := v.toList ++ g.stack })) ∨
       (∃ a x, Tc w x a T2.heap ∧ Qt' x A' ∧ ∀ acts, Steps p.tables e below (doInvoke e (T.setTop g) acts mk As.toArray).1 ((T2.setTop g).pushFrame (.throwing a)))) := by
  subst hg
  have hws := pay_in C.ts hG
  have h : At T g.method c below := X.here
  have hnT := X.named hn
  obtain ⟨methY, cY, hmY, hcY, -, hlY, -, -, -⟩ := cd_spec (hws _ List.mem_cons_self As.toArray T X.warmed) hnT
  obtain ⟨mid, hmid⟩ := h.above
  have hfr2 : (T.setTop g).frames = (.java g :: mid) ++ below := by rw [State.frames_setTop' g h.top, hmid]; rfl
  have hcode' : (T.calling g mk As.toArray).code? g.method = some c := by
    have := h.code
    rw [State.code?_eq] at this ⊢
    simpa [State.calling, State.pushFrame, State.setFrames] using this
  obtain ⟨o, s₂, hsteps, -, hend, hq, L, ⟨hW2, hsame⟩, hL2⟩ := call_n hE p X.admits X.cas X.clock (acts := []) hfr2 (State.frames_calling h.top g mk As.toArray) h.running (by simpa [State.calling] using h.runnable) (by simpa [State.calling] using h.alone) hnT (by rw [hfr2]; have hc2 : ((T.setTop g).pushFrame (.invoking mk As.toArray)).code? g.method = some c := hcode'; simp [State.hears, hc2, hdg, Except.toOption]) (X.room_calling (g := g) (R' := rmX d' mc' ms') hsize hmY hcY hfr (by rw [hlY]; show _ + (11000 + 64 * d') ≤ _; omega) hc hs) (fun q hq => by show q.before As.toArray (T.calling g mk As.toArray) = true; rw [State.calling_eq h.top, Jvm.Cond.before_setFrames]; exact hws q hq _ _ X.warmed) ⟨rfl, hR, (C.k.warm X.warmed).call⟩
  rw [State.frames_setTop' g h.top] at hend
  have hW' : T.WarmedH s₂.vm := hW2
  have hsame : (T.calling g mk As.toArray).sameButNew ({ s₂ with vm := (T.calling g mk As.toArray).vm } : State) L mc' ms' := hsame
  have e3 : s₂ = ({ (T.calling g mk As.toArray).setFrames s₂.frames with heap := s₂.heap, slotsUsed := s₂.slotsUsed } : State).setVm s₂.vm := by
    have q : s₂ = ({ s₂ with vm := (T.calling g mk As.toArray).vm } : State).setVm s₂.vm := rfl
    rw [hsame.1] at q
    exact q
  obtain ⟨g₀, hg0⟩ := Option.isSome_iff_exists.mp h.top
  obtain ⟨r, hr⟩ := State.topJava?_eq_some.mp hg0
  have hr' : (({ T with heap := s₂.heap, slotsUsed := s₂.slotsUsed } : State).setVm s₂.vm).frames = .java g₀ :: r := hr
  have hsm : T.sameButNew ({ T with heap := s₂.heap, slotsUsed := s₂.slotsUsed } : State) L mc' ms' := by
    obtain ⟨-, q2, q3, q4, q5, q6⟩ := hsame
    refine ⟨?_, q2, q3, q4, q5, q6⟩
    obtain ⟨t, ht, -⟩ := State.frames_cons hr
    show ({ T with heap := s₂.heap, slotsUsed := s₂.slotsUsed } : State) = { T.setFrames T.frames with heap := s₂.heap, slotsUsed := s₂.slotsUsed }
    rw [State.setFrames_self ht]
  have X2 : Stand p w.1 e R s g.method args below meth c (({ T with heap := s₂.heap, slotsUsed := s₂.slotsUsed } : State).setVm s₂.vm) (locs ++ L) (k + mc') (n + ms') :=
    ⟨X.admits, X.cas, X.clock, X.frames, X.room, X.hears, X.method, X.code, (X.here.setHeapUsed s₂.heap s₂.slotsUsed).setVm hW'.alike, X.tail, State.WarmedH.trans X.warmed hW', X.limits, X.bytes, X.same.trans (hsm.setVm s.vm)⟩
  rcases hq with ⟨v, A', ho, hR', hqo⟩ | ⟨a, x, A', ho, hR', htc, hqt⟩
  · subst ho
    obtain ⟨c₂, i₂, len₂, hc₂, hd₂, hf₂⟩ := hend
    have hcc : c₂ = c := by
      have h1 : s₂.code? g.method = T.code? g.method := by
        rw [State.code?_eq, State.code?_eq, hW'.alike.method?]
      exact Option.some.inj (hc₂.symm.trans (h1.trans h.code))
    subst hcc
    have hlen : len₂ = len := by rw [hdg] at hd₂; cases hd₂; rfl
    subst hlen
    refine ⟨_, L, A', X2, hL2, hR', Or.inl ⟨v, hqo, fun acts => ?_⟩⟩
    have hs₂ : s₂ = (({ T with heap := s₂.heap, slotsUsed := s₂.slotsUsed } : State).setVm s₂.vm).setTop { g with pc := g.pc + len₂, stack := v.toList ++ g.stack } := by
      refine e3.trans ?_
      rw [hf₂, State.calling_eq h.top, State.setFrames_setFrames, State.setTop_of_frames _ hr', hr]
      rfl
    rw [← hs₂, doInvoke_state]
    exact hsteps
  · subst ho
    have hf₂ : s₂.frames = .throwing a :: .java g :: T.frames.tail := hend
    refine ⟨_, L, A', X2, hL2, hR', Or.inr ⟨a, x, htc, hqt, fun acts => ?_⟩⟩
    have hs₂ : s₂ = ((({ T with heap := s₂.heap, slotsUsed := s₂.slotsUsed } : State).setVm s₂.vm).setTop g).pushFrame (.throwing a) := by
      refine e3.trans ?_
      rw [hf₂, State.calling_eq h.top, State.setFrames_setFrames, State.pushFrame, State.frames_setTop _ hr', State.setTop_of_frames _ hr', State.setFrames_setFrames, hr]
      rfl
    rw [← hs₂, doInvoke_state]
    exact hsteps
end INVN

