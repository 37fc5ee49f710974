/-! ROWS OF CALLS -/
set_option maxRecDepth 100000
abbrev wsM (M : MI) : List Cond := ws_ M.1 M.2.1 M.2.2.1 M.2.2.2
def cOk (R : Room) (nL d mc ms k n : Nat) (st : List Value) : Bool := decide (d + 1 ≤ R.frames) && decide (8 + (nL + 11) + (11000 + 64 * d) ≤ R.locals) && decide (k + mc ≤ R.cells) && decide (n + ms ≤ R.slots) && decide ((st.map fun v => v.category).sum ≤ 8)
theorem cOk_s {R : Room} {nL d mc ms k n : Nat} {st : List Value} (h : cOk R nL d mc ms k n st = true) : ((rmX d mc ms).frames + 1 ≤ R.frames ∧ 8 + (nL + 11) + (rmX d mc ms).locals ≤ R.locals) ∧ (k + mc ≤ R.cells ∧ n + ms ≤ R.slots) ∧ (st.map fun v => v.category).sum ≤ 8 := by
  unfold cOk at h
  simp only [Bool.and_eq_true, decide_eq_true_eq] at h
  exact ⟨⟨h.1.1.1.1, h.1.1.1.2⟩, ⟨h.1.1.2, h.1.2⟩, h.2⟩
theorem cOk_of {R : Room} {nL d mc ms k n : Nat} {st : List Value} (h1 : d + 1 ≤ R.frames) (h2 : 8 + (nL + 11) + (11000 + 64 * d) ≤ R.locals) (h3 : k + mc ≤ R.cells) (h4 : n + ms ≤ R.slots) (h5 : (st.map fun v => v.category).sum ≤ 8) : cOk R nL d mc ms k n st = true := by
  unfold cOk
  simp only [Bool.and_eq_true, decide_eq_true_eq]
  exact ⟨⟨⟨⟨h1, h2⟩, h3⟩, h4⟩, h5⟩
theorem PcX_blind {w : WE} {As : List Value} {A : Hp} : FrameBlind (PcX w As A) := fun a U g mk h => ⟨h.1, h.2.1, h.2.2.call⟩
/-- a static call -/
def SiteS (own : String) (idx : Nat) (M' : MI) (N : Nat) : Prop := GoodIn lw_all (va_wsS own idx M'.1 (wsM M')) ∧ M'.1.cls ≠ "java/lang/invoke/MethodHandle" ∧ M'.1.cls ≠ "java/lang/invoke/VarHandle" ∧ (parseMethodDescriptor M'.1.desc).map (fun d => d.parameters.length) = some N
/-- a constructor's call -/
def SiteI (own : String) (idx : Nat) (M' : MI) (N : Nat) : Prop := M'.2.2.2 = none ∧ GoodIn lw_all (wsM M') ∧ Cond.initialized M'.1.cls ∈ lw_all ∧ Cond.methodLink own idx M'.1 ∈ lw_all ∧ Cond.instanceMethod M'.1 ∈ lw_all ∧ M'.1.name = "<init>" ∧ M'.1.cls ≠ "java/lang/invoke/MethodHandle" ∧ M'.1.cls ≠ "java/lang/invoke/VarHandle" ∧ (parseMethodDescriptor M'.1.desc).map (fun d => d.parameters.length) = some N
/-- a call through an object of the class ci -/
def SiteV (own : String) (idx ci : Nat) (M' : MI) (N : Nat) : Prop := ∃ (C : String) (T : u_T) (NN : Nat), clA[ci]? = some (C, T, NN) ∧ GoodIn lw_all (wsV own idx C M'.1 (wsM M')) ∧ M'.1.cls = C ∧ M'.1.cls ≠ "java/lang/invoke/MethodHandle" ∧ M'.1.cls ≠ "java/lang/invoke/VarHandle" ∧ (parseMethodDescriptor M'.1.desc).map (fun d => d.parameters.length) = some N
/-- a call through an object of the class ci, of a method that it inherits or that stands in for the one named -/
def SiteU (own : String) (idx ci : Nat) (M' : MI) (N : Nat) : Prop := ∃ (C : String) (T : u_T) (NN : Nat) (owner : String) (x : MethodName), clA[ci]? = some (C, T, NN) ∧ ∀ (R : Room) (s : State) (args : Array Value) (rm : Room) (mc ms : Nat), (∀ c ∈ lw_all, c.before args s = true) → rm.cells = mc → rm.slots = ms → (rm.frames + 1 ≤ R.frames ∧ 8 + (M'.2.2.1 + 11) + rm.locals ≤ R.locals) → va_CU R s args own C owner idx x M'.1 M'.2.1 M'.2.2.1 M'.2.2.2 (wsM M') rm mc ms N
/-- an interface's call -/
def SiteF (own : String) (idx ci : Nat) (M' : MI) (N : Nat) : Prop := ∃ (C : String) (T : u_T) (NN : Nat) (x : MethodName), clA[ci]? = some (C, T, NN) ∧ GoodIn lw_all (va_wsF own idx C x M'.1 (wsM M')) ∧ (Cond.declares x ∈ lw_tbl ∧ Cond.interfaceMethod x.cls x.cls x.name x.desc ∈ lw_tbl ∧ Cond.publicMethod M'.1 ∈ lw_tbl ∧ Cond.unhidden C x.name x.desc ∈ lw_tbl ∧ Cond.castable C x.cls ∈ lw_tbl) ∧ x.cls ≠ "java/lang/invoke/MethodHandle" ∧ x.cls ≠ "java/lang/invoke/VarHandle" ∧ (parseMethodDescriptor x.desc).map (fun d => d.parameters.length) = some N
/-- super's method -/
def SiteP (own : String) (idx : Nat) (M' : MI) (N : Nat) : Prop := GoodIn lw_all (va_wsSU own idx M'.1 (wsM M')) ∧ M'.1.name ≠ "<init>" ∧ (parseMethodDescriptor M'.1.desc).map (fun d => d.parameters.length) = some N
/-- nest mates -/
def SiteNB (own : String) (idx : Nat) (M' : MI) (N : Nat) : Prop := ∃ host : String, GoodIn lw_all (wsM M') ∧ Cond.methodLinkNest own idx M'.1 host ∈ lw_tbl ∧ Cond.initialized M'.1.cls ∈ lw_all ∧ M'.1.cls ≠ "java/lang/invoke/MethodHandle" ∧ M'.1.cls ≠ "java/lang/invoke/VarHandle" ∧ (parseMethodDescriptor M'.1.desc).map (fun d => d.parameters.length) = some N
def SiteNS (own : String) (idx : Nat) (M' : MI) (N : Nat) : Prop := SiteNB own idx M' N ∧ Cond.static M'.1 ∈ lw_all
def SiteNI (own : String) (idx : Nat) (M' : MI) (N : Nat) : Prop := SiteNB own idx M' N ∧ M'.2.2.2 = none ∧ M'.1.name = "<init>" ∧ Cond.instanceMethod M'.1 ∈ lw_all
def SiteNV (own : String) (idx ci : Nat) (M' : MI) (N : Nat) : Prop := SiteNB own idx M' N ∧ ∃ (C : String) (T : u_T) (NN : Nat), clA[ci]? = some (C, T, NN) ∧ Cond.instanceMethod M'.1 ∈ lw_all ∧ Cond.selects C M'.1 M'.1 ∈ lw_all
section CROWS
variable {w : WE} {M : MI} {R : Room} {Z : ZT} {k n : Nat} {A : Hp} {pc : Nat} {lo : List (Option Value)} {st : List Value}
variable {M' : MI} {d' mc' ms' : Nat} {Qo' : Option Value → Hp → Prop} {As : List Value} {idx N b ci : Nat} {fs : List Value}
theorem rn_run {p : Program} {e : Env} {s : State} {m : MethodId} {args : Array Value} {below : List Frame} {meth : Method} {c : Code} {H : Heap} {locs : List Loc} {ls : Array Slot} {st0 : List Value} {a : Array Value} {Q : State → Prop} (hrun : va_Run p w.1 e R s m args below meth c H locs k n mc' ms' (F0 m pc ls st0) st (QcX w Qo' a) (fun q => wb w ≤ q)) (hL : ∀ q ∈ locs, wb w ≤ q.base)
    (K : ∀ (v : Option Value) (A' : Hp) (H' : Heap) (locs' : List Loc), Qo' v A' → Rp w A' H' → (∀ q ∈ locs', wb w ≤ q.base) → W p w.1 e R s m args below meth c H' locs' (k + mc') (n + ms') Q (F0 m (pc + 3) ls (v.toList ++ st))) : W p w.1 e R s m args below meth c H locs k n Q (F0 m pc ls st0) := by
  intro T hT X
  obtain ⟨v, st₀, t, T', L, h0, X', hLL, e1, e2, ⟨v', A', hv, hR', hq⟩, stp⟩ := hrun T hT X
  cases hv
  obtain ⟨t2, a1, b1⟩ := K v A' T'.heap (locs ++ L) hq (by rw [e1]; exact hR') (t_lL (free := fun q => wb w ≤ q) hL hLL) T' rfl X'
  exact ⟨t2, stp t2 a1, b1⟩
theorem rn_run5 {p : Program} {e : Env} {s : State} {m : MethodId} {args : Array Value} {below : List Frame} {meth : Method} {c : Code} {H : Heap} {locs : List Loc} {ls : Array Slot} {st0 : List Value} {a : Array Value} {Q : State → Prop} (hrun : va_Run5 p w.1 e R s m args below meth c H locs k n mc' ms' (F0 m pc ls st0) st (QcX w Qo' a) (fun q => wb w ≤ q)) (hL : ∀ q ∈ locs, wb w ≤ q.base)
    (K : ∀ (v : Option Value) (A' : Hp) (H' : Heap) (locs' : List Loc), Qo' v A' → Rp w A' H' → (∀ q ∈ locs', wb w ≤ q.base) → W p w.1 e R s m args below meth c H' locs' (k + mc') (n + ms') Q (F0 m (pc + 5) ls (v.toList ++ st))) : W p w.1 e R s m args below meth c H locs k n Q (F0 m pc ls st0) := by
  intro T hT X
  obtain ⟨v, st₀, t, T', L, h0, X', hLL, e1, e2, ⟨v', A', hv, hR', hq⟩, stp⟩ := hrun T hT X
  cases hv
  obtain ⟨t2, a1, b1⟩ := K v A' T'.heap (locs ++ L) hq (by rw [e1]; exact hR') (t_lL (free := fun q => wb w ≤ q) hL hLL) T' rfl X'
  exact ⟨t2, stp t2 a1, b1⟩
theorem r_callS {st0 : List Value} (hst : st0 = As.reverse ++ st) (nx : Nat) (hd : decode M.2.1 pc = .ok (.invokestatic idx, 3)) (hn : pc + 3 = nx) (S : SiteS M.1.cls idx M' N) (hok : cOk R M'.2.2.1 d' mc' ms' k n st = true) (hN : As.length = N) (hE : Ev w M' d' mc' ms' As A Qo') (K : ∀ (v : Option Value) (A' : Hp), Qo' v A' → Rn w M R Z (k + mc') (n + ms') A' nx lo (v.toList ++ st)) : Rn w M R Z k n A pc lo st0 := by
  subst hn
  subst hst
  intro p e s m args below meth c H locs ls C hR hL hl
  obtain ⟨hroom, hf, hrest⟩ := cOk_s hok
  exact rn_run (va_runS (As := As) (rest := st) ⟨C.x, C.b, C.ml, C.own, C.ts⟩ hE (va_cwS N C.ts S.1 rfl rfl rfl S.2 hroom) ⟨PcX_blind, fun U hU hW => ⟨rfl, by rw [hU]; exact hR, C.k.warm hW⟩⟩ rfl hN (lo_size hl) rfl (lv_room hrest) hd hf) hL (fun v A' H' locs' hq hR' hL' => K v A' hq p e s m args below meth c H' locs' ls C hR' hL' hl)
theorem r_callI {st0 : List Value} (hst : st0 = As.reverse ++ .ref b :: st) (nx : Nat) (hd : decode M.2.1 pc = .ok (.invokespecial idx, 3)) (hn : pc + 3 = nx) (S : SiteI M.1.cls idx M' N) (hok : cOk R M'.2.2.1 d' mc' ms' k n st = true) (hN : As.length = N) (hE : Ev w M' d' mc' ms' (.ref b :: As) A Qo') (K : ∀ (v : Option Value) (A' : Hp), Qo' v A' → Rn w M R Z (k + mc') (n + ms') A' nx lo (v.toList ++ st)) : Rn w M R Z k n A pc lo st0 := by
  subst hn
  subst hst
  intro p e s m args below meth c H locs ls C hR hL hl
  obtain ⟨hroom, hf, hrest⟩ := cOk_s hok
  obtain ⟨M1, M2, M3, M4⟩ := M'
  obtain ⟨h0, h1, h2, h3, h4, h5, h6⟩ := S
  dsimp only at h0
  subst h0
  exact rn_run (va_runI (As := As) (rest := st) ⟨C.x, C.b, C.ml, C.own, C.ts⟩ hE (cwI N C.ts h1 rfl rfl rfl (C.ts _ h2) (C.ts _ h3) (C.ts _ h4) h5 h6 hroom) ⟨PcX_blind, fun U hU hW => ⟨rfl, by rw [hU]; exact hR, C.k.warm hW⟩⟩ rfl hN (lo_size hl) rfl (lv_room hrest) hd hf) hL (fun v A' H' locs' hq hR' hL' => K v A' hq p e s m args below meth c H' locs' ls C hR' hL' hl)
theorem r_callV {st0 : List Value} (hst : st0 = As.reverse ++ .ref b :: st) (nx : Nat) (hd : decode M.2.1 pc = .ok (.invokevirtual idx, 3)) (hn : pc + 3 = nx) (S : SiteV M.1.cls idx ci M' N) (hA : A.1 b = some (.inr (ci, fs))) (hok : cOk R M'.2.2.1 d' mc' ms' k n st = true) (hN : As.length = N) (hE : Ev w M' d' mc' ms' (.ref b :: As) A Qo') (K : ∀ (v : Option Value) (A' : Hp), Qo' v A' → Rn w M R Z (k + mc') (n + ms') A' nx lo (v.toList ++ st)) : Rn w M R Z k n A pc lo st0 := by
  subst hn
  subst hst
  intro p e s m args below meth c H locs ls C hR hL hl
  obtain ⟨hroom, hf, hrest⟩ := cOk_s hok
  obtain ⟨Cn, T, NN, hc, h1, h2, h3⟩ := S
  exact rn_run (va_runV (As := As) (rest := st) ⟨C.x, C.b, C.ml, C.own, C.ts⟩ hE (cwV N C.ts h1 rfl rfl rfl ⟨h2, h3⟩ hroom) ⟨PcX_blind, va_recv C.k.K (rp_one hR hA) (ci := ci) (q0 := 0) hc rfl, fun U hU hW => ⟨rfl, by rw [hU]; exact hR, C.k.warm hW⟩⟩ rfl hN (lo_size hl) rfl (lv_room hrest) hd hf) hL (fun v A' H' locs' hq hR' hL' => K v A' hq p e s m args below meth c H' locs' ls C hR' hL' hl)
theorem r_callU {st0 : List Value} (hst : st0 = As.reverse ++ .ref b :: st) (nx : Nat) (hd : decode M.2.1 pc = .ok (.invokevirtual idx, 3)) (hn : pc + 3 = nx) (S : SiteU M.1.cls idx ci M' N) (hA : A.1 b = some (.inr (ci, fs))) (hok : cOk R M'.2.2.1 d' mc' ms' k n st = true) (hN : As.length = N) (hE : Ev w M' d' mc' ms' (.ref b :: As) A Qo') (K : ∀ (v : Option Value) (A' : Hp), Qo' v A' → Rn w M R Z (k + mc') (n + ms') A' nx lo (v.toList ++ st)) : Rn w M R Z k n A pc lo st0 := by
  subst hn
  subst hst
  intro p e s m args below meth c H locs ls C hR hL hl
  obtain ⟨hroom, hf, hrest⟩ := cOk_s hok
  obtain ⟨Cn, T, NN, owner, x, hc, h1⟩ := S
  exact rn_run (va_runU (As := As) (rest := st) ⟨C.x, C.b, C.ml, C.own, C.ts⟩ hE (h1 R s args _ _ _ C.ts rfl rfl hroom) ⟨PcX_blind, va_recv C.k.K (rp_one hR hA) (ci := ci) (q0 := 0) hc rfl, fun U hU hW => ⟨rfl, by rw [hU]; exact hR, C.k.warm hW⟩⟩ rfl hN (lo_size hl) rfl (lv_room hrest) hd hf) hL (fun v A' H' locs' hq hR' hL' => K v A' hq p e s m args below meth c H' locs' ls C hR' hL' hl)
theorem r_callF {cnt : Nat} {st0 : List Value} (hst : st0 = As.reverse ++ .ref b :: st) (nx : Nat) (hd : decode M.2.1 pc = .ok (.invokeinterface idx cnt, 5)) (hn : pc + 5 = nx) (S : SiteF M.1.cls idx ci M' N) (hA : A.1 b = some (.inr (ci, fs))) (hok : cOk R M'.2.2.1 d' mc' ms' k n st = true) (hN : As.length = N) (hE : Ev w M' d' mc' ms' (.ref b :: As) A Qo') (K : ∀ (v : Option Value) (A' : Hp), Qo' v A' → Rn w M R Z (k + mc') (n + ms') A' nx lo (v.toList ++ st)) : Rn w M R Z k n A pc lo st0 := by
  subst hn
  subst hst
  intro p e s m args below meth c H locs ls C hR hL hl
  obtain ⟨hroom, hf, hrest⟩ := cOk_s hok
  obtain ⟨Cn, T, NN, x, hc, h1, ⟨f1, f2, f3, f4, f5⟩, h2⟩ := S
  have hF : va_Fw Cn x M'.1 s := va_Fw.moved ⟨h2.1, h2.2.1⟩ C.k.2.2.2.alike (va_Fw.of (C.k.1 _ f1) (C.k.1 _ f2) (C.k.1 _ f3) (C.k.1 _ f4) (C.k.1 _ f5))
  exact rn_run5 (va_runF (C.k.K.1 ci _ hc).2 (As := As) (rest := st) ⟨C.x, C.b, C.ml, C.own, C.ts⟩ hE (va_cwF N C.ts h1 rfl rfl rfl hF h2 hroom) ⟨PcX_blind, va_recv C.k.K (rp_one hR hA) (ci := ci) (q0 := 0) hc rfl, fun U hU hW => ⟨rfl, by rw [hU]; exact hR, C.k.warm hW⟩⟩ rfl hN (lo_size hl) rfl (lv_room hrest) hd hf) hL (fun v A' H' locs' hq hR' hL' => K v A' hq p e s m args below meth c H' locs' ls C hR' hL' hl)
theorem r_callP {st0 : List Value} (hst : st0 = As.reverse ++ .ref b :: st) (nx : Nat) (hd : decode M.2.1 pc = .ok (.invokespecial idx, 3)) (hn : pc + 3 = nx) (S : SiteP M.1.cls idx M' N) (hA : A.1 b = some (.inr (ci, fs))) (hok : cOk R M'.2.2.1 d' mc' ms' k n st = true) (hN : As.length = N) (hE : Ev w M' d' mc' ms' (.ref b :: As) A Qo') (K : ∀ (v : Option Value) (A' : Hp), Qo' v A' → Rn w M R Z (k + mc') (n + ms') A' nx lo (v.toList ++ st)) : Rn w M R Z k n A pc lo st0 := by
  subst hn
  subst hst
  intro p e s m args below meth c H locs ls C hR hL hl
  obtain ⟨hroom, hf, hrest⟩ := cOk_s hok
  obtain ⟨r, hc, -⟩ := hR.at hA
  exact rn_run (va_runSU (C.k.K.1 ci _ hc).2 (As := As) (rest := st) ⟨C.x, C.b, C.ml, C.own, C.ts⟩ hE (va_cwSU N C.ts S.1 rfl rfl rfl S.2 hroom) ⟨PcX_blind, va_recv C.k.K (rp_one hR hA) (ci := ci) (q0 := 0) hc rfl, fun U hU hW => ⟨rfl, by rw [hU]; exact hR, C.k.warm hW⟩⟩ rfl hN (lo_size hl) rfl (lv_room hrest) hd hf) hL (fun v A' H' locs' hq hR' hL' => K v A' hq p e s m args below meth c H' locs' ls C hR' hL' hl)
theorem r_callNS {st0 : List Value} (hst : st0 = As.reverse ++ st) (nx : Nat) (hd : decode M.2.1 pc = .ok (.invokestatic idx, 3)) (hn : pc + 3 = nx) (S : SiteNS M.1.cls idx M' N) (hok : cOk R M'.2.2.1 d' mc' ms' k n st = true) (hN : As.length = N) (hE : Ev w M' d' mc' ms' As A Qo') (K : ∀ (v : Option Value) (A' : Hp), Qo' v A' → Rn w M R Z (k + mc') (n + ms') A' nx lo (v.toList ++ st)) : Rn w M R Z k n A pc lo st0 := by
  subst hn
  subst hst
  intro p e s m args below meth c H locs ls C hR hL hl
  obtain ⟨hroom, hf, hrest⟩ := cOk_s hok
  obtain ⟨⟨host, h1, h2, h3, h4⟩, h5⟩ := S
  exact rn_run (va_runSN (As := As) (rest := st) ⟨C.x, C.b, C.ml, C.own, C.ts⟩ hE ⟨va_cnB N C.ts h1 rfl rfl rfl (C.k.nestM h2) (C.ts _ h3) h4 hroom, C.ts _ h5, trivial⟩ ⟨PcX_blind, fun U hU hW => ⟨rfl, by rw [hU]; exact hR, C.k.warm hW⟩⟩ rfl hN (lo_size hl) rfl (lv_room hrest) hd hf) hL (fun v A' H' locs' hq hR' hL' => K v A' hq p e s m args below meth c H' locs' ls C hR' hL' hl)
theorem r_callNI {st0 : List Value} (hst : st0 = As.reverse ++ .ref b :: st) (nx : Nat) (hd : decode M.2.1 pc = .ok (.invokespecial idx, 3)) (hn : pc + 3 = nx) (S : SiteNI M.1.cls idx M' N) (hok : cOk R M'.2.2.1 d' mc' ms' k n st = true) (hN : As.length = N) (hE : Ev w M' d' mc' ms' (.ref b :: As) A Qo') (K : ∀ (v : Option Value) (A' : Hp), Qo' v A' → Rn w M R Z (k + mc') (n + ms') A' nx lo (v.toList ++ st)) : Rn w M R Z k n A pc lo st0 := by
  subst hn
  subst hst
  intro p e s m args below meth c H locs ls C hR hL hl
  obtain ⟨hroom, hf, hrest⟩ := cOk_s hok
  obtain ⟨M1, M2, M3, M4⟩ := M'
  obtain ⟨⟨host, h1, h2, h3, h4⟩, h0, h5, h6⟩ := S
  dsimp only at h0
  subst h0
  exact rn_run (va_runIN (As := As) (rest := st) ⟨C.x, C.b, C.ml, C.own, C.ts⟩ hE ⟨va_cnB N C.ts h1 rfl rfl rfl (C.k.nestM h2) (C.ts _ h3) h4 hroom, h5, C.ts _ h6⟩ ⟨PcX_blind, fun U hU hW => ⟨rfl, by rw [hU]; exact hR, C.k.warm hW⟩⟩ rfl hN (lo_size hl) rfl (lv_room hrest) hd hf) hL (fun v A' H' locs' hq hR' hL' => K v A' hq p e s m args below meth c H' locs' ls C hR' hL' hl)
theorem r_callNV {st0 : List Value} (hst : st0 = As.reverse ++ .ref b :: st) (nx : Nat) (hd : decode M.2.1 pc = .ok (.invokevirtual idx, 3)) (hn : pc + 3 = nx) (S : SiteNV M.1.cls idx ci M' N) (hA : A.1 b = some (.inr (ci, fs))) (hok : cOk R M'.2.2.1 d' mc' ms' k n st = true) (hN : As.length = N) (hE : Ev w M' d' mc' ms' (.ref b :: As) A Qo') (K : ∀ (v : Option Value) (A' : Hp), Qo' v A' → Rn w M R Z (k + mc') (n + ms') A' nx lo (v.toList ++ st)) : Rn w M R Z k n A pc lo st0 := by
  subst hn
  subst hst
  intro p e s m args below meth c H locs ls C hR hL hl
  obtain ⟨hroom, hf, hrest⟩ := cOk_s hok
  obtain ⟨⟨host, h1, h2, h3, h4⟩, Cn, T, NN, hc, h5, h6⟩ := S
  exact rn_run (va_runVN (As := As) (rest := st) ⟨C.x, C.b, C.ml, C.own, C.ts⟩ hE ⟨va_cnB N C.ts h1 rfl rfl rfl (C.k.nestM h2) (C.ts _ h3) h4 hroom, C.ts _ h5, C.ts _ h6⟩ ⟨PcX_blind, va_recv C.k.K (rp_one hR hA) (ci := ci) (q0 := 0) hc rfl, fun U hU hW => ⟨rfl, by rw [hU]; exact hR, C.k.warm hW⟩⟩ rfl hN (lo_size hl) rfl (lv_room hrest) hd hf) hL (fun v A' H' locs' hq hR' hL' => K v A' hq p e s m args below meth c H' locs' ls C hR' hL' hl)
end CROWS
/-! answers: a value, the heap as it was -/
abbrev QV (r : Value) (A : Hp) : Option Value → Hp → Prop := fun v A' => v = some r ∧ A' = A
abbrev EvV (w : WE) (M : MI) (d : Nat) (As : List Value) (A : Hp) (r : Value) : Prop := Ev w M d 0 0 As A (QV r A)
abbrev EvI (w : WE) (M : MI) (d : Nat) (As : List Value) (A : Hp) (r : Int32) : Prop := Ev w M d 0 0 As A (QV (.int r) A)
section CROWS2
variable {w : WE} {M : MI} {R : Room} {Z : ZT} {k n : Nat} {A : Hp} {pc : Nat} {lo : List (Option Value)} {st : List Value}
variable {M' : MI} {d' mc' ms' : Nat} {Qo' : Option Value → Hp → Prop} {As : List Value} {idx N b ci : Nat} {fs : List Value} {r : Value}
theorem r_cS0 (nx : Nat) (hd : decode M.2.1 pc = .ok (.invokestatic idx, 3)) (hn : pc + 3 = nx) (S : SiteS M.1.cls idx M' 0) (hok : cOk R M'.2.2.1 d' 0 0 k n st = true) (hE : EvV w M' d' [] A r) (K : Rn w M R Z k n A nx lo (r :: st)) : Rn w M R Z k n A pc lo (st) :=
  r_callS (As := []) (st := st) rfl nx hd hn S hok rfl hE (fun v A' h => by obtain ⟨rfl, rfl⟩ := h; exact K)
theorem r_cS1 {v0 : Value} (nx : Nat) (hd : decode M.2.1 pc = .ok (.invokestatic idx, 3)) (hn : pc + 3 = nx) (S : SiteS M.1.cls idx M' 1) (hok : cOk R M'.2.2.1 d' 0 0 k n st = true) (hE : EvV w M' d' [v0] A r) (K : Rn w M R Z k n A nx lo (r :: st)) : Rn w M R Z k n A pc lo (v0 :: st) :=
  r_callS (As := [v0]) (st := st) rfl nx hd hn S hok rfl hE (fun v A' h => by obtain ⟨rfl, rfl⟩ := h; exact K)
theorem r_cS2 {v0 v1 : Value} (nx : Nat) (hd : decode M.2.1 pc = .ok (.invokestatic idx, 3)) (hn : pc + 3 = nx) (S : SiteS M.1.cls idx M' 2) (hok : cOk R M'.2.2.1 d' 0 0 k n st = true) (hE : EvV w M' d' [v0, v1] A r) (K : Rn w M R Z k n A nx lo (r :: st)) : Rn w M R Z k n A pc lo (v1 :: v0 :: st) :=
  r_callS (As := [v0, v1]) (st := st) rfl nx hd hn S hok rfl hE (fun v A' h => by obtain ⟨rfl, rfl⟩ := h; exact K)
theorem r_cS3 {v0 v1 v2 : Value} (nx : Nat) (hd : decode M.2.1 pc = .ok (.invokestatic idx, 3)) (hn : pc + 3 = nx) (S : SiteS M.1.cls idx M' 3) (hok : cOk R M'.2.2.1 d' 0 0 k n st = true) (hE : EvV w M' d' [v0, v1, v2] A r) (K : Rn w M R Z k n A nx lo (r :: st)) : Rn w M R Z k n A pc lo (v2 :: v1 :: v0 :: st) :=
  r_callS (As := [v0, v1, v2]) (st := st) rfl nx hd hn S hok rfl hE (fun v A' h => by obtain ⟨rfl, rfl⟩ := h; exact K)
theorem r_cS4 {v0 v1 v2 v3 : Value} (nx : Nat) (hd : decode M.2.1 pc = .ok (.invokestatic idx, 3)) (hn : pc + 3 = nx) (S : SiteS M.1.cls idx M' 4) (hok : cOk R M'.2.2.1 d' 0 0 k n st = true) (hE : EvV w M' d' [v0, v1, v2, v3] A r) (K : Rn w M R Z k n A nx lo (r :: st)) : Rn w M R Z k n A pc lo (v3 :: v2 :: v1 :: v0 :: st) :=
  r_callS (As := [v0, v1, v2, v3]) (st := st) rfl nx hd hn S hok rfl hE (fun v A' h => by obtain ⟨rfl, rfl⟩ := h; exact K)
theorem r_cS5 {v0 v1 v2 v3 v4 : Value} (nx : Nat) (hd : decode M.2.1 pc = .ok (.invokestatic idx, 3)) (hn : pc + 3 = nx) (S : SiteS M.1.cls idx M' 5) (hok : cOk R M'.2.2.1 d' 0 0 k n st = true) (hE : EvV w M' d' [v0, v1, v2, v3, v4] A r) (K : Rn w M R Z k n A nx lo (r :: st)) : Rn w M R Z k n A pc lo (v4 :: v3 :: v2 :: v1 :: v0 :: st) :=
  r_callS (As := [v0, v1, v2, v3, v4]) (st := st) rfl nx hd hn S hok rfl hE (fun v A' h => by obtain ⟨rfl, rfl⟩ := h; exact K)
theorem r_cS6 {v0 v1 v2 v3 v4 v5 : Value} (nx : Nat) (hd : decode M.2.1 pc = .ok (.invokestatic idx, 3)) (hn : pc + 3 = nx) (S : SiteS M.1.cls idx M' 6) (hok : cOk R M'.2.2.1 d' 0 0 k n st = true) (hE : EvV w M' d' [v0, v1, v2, v3, v4, v5] A r) (K : Rn w M R Z k n A nx lo (r :: st)) : Rn w M R Z k n A pc lo (v5 :: v4 :: v3 :: v2 :: v1 :: v0 :: st) :=
  r_callS (As := [v0, v1, v2, v3, v4, v5]) (st := st) rfl nx hd hn S hok rfl hE (fun v A' h => by obtain ⟨rfl, rfl⟩ := h; exact K)
theorem r_cV0 (nx : Nat) (hd : decode M.2.1 pc = .ok (.invokevirtual idx, 3)) (hn : pc + 3 = nx) (S : SiteV M.1.cls idx ci M' 0) (hA : A.1 b = some (.inr (ci, fs))) (hok : cOk R M'.2.2.1 d' 0 0 k n st = true) (hE : EvV w M' d' [.ref b] A r) (K : Rn w M R Z k n A nx lo (r :: st)) : Rn w M R Z k n A pc lo (.ref b :: st) :=
  r_callV (As := []) (st := st) rfl nx hd hn S hA hok rfl hE (fun v A' h => by obtain ⟨rfl, rfl⟩ := h; exact K)
theorem r_cV1 {v0 : Value} (nx : Nat) (hd : decode M.2.1 pc = .ok (.invokevirtual idx, 3)) (hn : pc + 3 = nx) (S : SiteV M.1.cls idx ci M' 1) (hA : A.1 b = some (.inr (ci, fs))) (hok : cOk R M'.2.2.1 d' 0 0 k n st = true) (hE : EvV w M' d' [.ref b, v0] A r) (K : Rn w M R Z k n A nx lo (r :: st)) : Rn w M R Z k n A pc lo (v0 :: .ref b :: st) :=
  r_callV (As := [v0]) (st := st) rfl nx hd hn S hA hok rfl hE (fun v A' h => by obtain ⟨rfl, rfl⟩ := h; exact K)
theorem r_cV2 {v0 v1 : Value} (nx : Nat) (hd : decode M.2.1 pc = .ok (.invokevirtual idx, 3)) (hn : pc + 3 = nx) (S : SiteV M.1.cls idx ci M' 2) (hA : A.1 b = some (.inr (ci, fs))) (hok : cOk R M'.2.2.1 d' 0 0 k n st = true) (hE : EvV w M' d' [.ref b, v0, v1] A r) (K : Rn w M R Z k n A nx lo (r :: st)) : Rn w M R Z k n A pc lo (v1 :: v0 :: .ref b :: st) :=
  r_callV (As := [v0, v1]) (st := st) rfl nx hd hn S hA hok rfl hE (fun v A' h => by obtain ⟨rfl, rfl⟩ := h; exact K)
theorem r_cV3 {v0 v1 v2 : Value} (nx : Nat) (hd : decode M.2.1 pc = .ok (.invokevirtual idx, 3)) (hn : pc + 3 = nx) (S : SiteV M.1.cls idx ci M' 3) (hA : A.1 b = some (.inr (ci, fs))) (hok : cOk R M'.2.2.1 d' 0 0 k n st = true) (hE : EvV w M' d' [.ref b, v0, v1, v2] A r) (K : Rn w M R Z k n A nx lo (r :: st)) : Rn w M R Z k n A pc lo (v2 :: v1 :: v0 :: .ref b :: st) :=
  r_callV (As := [v0, v1, v2]) (st := st) rfl nx hd hn S hA hok rfl hE (fun v A' h => by obtain ⟨rfl, rfl⟩ := h; exact K)
theorem r_cV4 {v0 v1 v2 v3 : Value} (nx : Nat) (hd : decode M.2.1 pc = .ok (.invokevirtual idx, 3)) (hn : pc + 3 = nx) (S : SiteV M.1.cls idx ci M' 4) (hA : A.1 b = some (.inr (ci, fs))) (hok : cOk R M'.2.2.1 d' 0 0 k n st = true) (hE : EvV w M' d' [.ref b, v0, v1, v2, v3] A r) (K : Rn w M R Z k n A nx lo (r :: st)) : Rn w M R Z k n A pc lo (v3 :: v2 :: v1 :: v0 :: .ref b :: st) :=
  r_callV (As := [v0, v1, v2, v3]) (st := st) rfl nx hd hn S hA hok rfl hE (fun v A' h => by obtain ⟨rfl, rfl⟩ := h; exact K)
theorem r_cV5 {v0 v1 v2 v3 v4 : Value} (nx : Nat) (hd : decode M.2.1 pc = .ok (.invokevirtual idx, 3)) (hn : pc + 3 = nx) (S : SiteV M.1.cls idx ci M' 5) (hA : A.1 b = some (.inr (ci, fs))) (hok : cOk R M'.2.2.1 d' 0 0 k n st = true) (hE : EvV w M' d' [.ref b, v0, v1, v2, v3, v4] A r) (K : Rn w M R Z k n A nx lo (r :: st)) : Rn w M R Z k n A pc lo (v4 :: v3 :: v2 :: v1 :: v0 :: .ref b :: st) :=
  r_callV (As := [v0, v1, v2, v3, v4]) (st := st) rfl nx hd hn S hA hok rfl hE (fun v A' h => by obtain ⟨rfl, rfl⟩ := h; exact K)
theorem r_cV6 {v0 v1 v2 v3 v4 v5 : Value} (nx : Nat) (hd : decode M.2.1 pc = .ok (.invokevirtual idx, 3)) (hn : pc + 3 = nx) (S : SiteV M.1.cls idx ci M' 6) (hA : A.1 b = some (.inr (ci, fs))) (hok : cOk R M'.2.2.1 d' 0 0 k n st = true) (hE : EvV w M' d' [.ref b, v0, v1, v2, v3, v4, v5] A r) (K : Rn w M R Z k n A nx lo (r :: st)) : Rn w M R Z k n A pc lo (v5 :: v4 :: v3 :: v2 :: v1 :: v0 :: .ref b :: st) :=
  r_callV (As := [v0, v1, v2, v3, v4, v5]) (st := st) rfl nx hd hn S hA hok rfl hE (fun v A' h => by obtain ⟨rfl, rfl⟩ := h; exact K)
theorem r_cU0 (nx : Nat) (hd : decode M.2.1 pc = .ok (.invokevirtual idx, 3)) (hn : pc + 3 = nx) (S : SiteU M.1.cls idx ci M' 0) (hA : A.1 b = some (.inr (ci, fs))) (hok : cOk R M'.2.2.1 d' 0 0 k n st = true) (hE : EvV w M' d' [.ref b] A r) (K : Rn w M R Z k n A nx lo (r :: st)) : Rn w M R Z k n A pc lo (.ref b :: st) :=
  r_callU (As := []) (st := st) rfl nx hd hn S hA hok rfl hE (fun v A' h => by obtain ⟨rfl, rfl⟩ := h; exact K)
theorem r_cU1 {v0 : Value} (nx : Nat) (hd : decode M.2.1 pc = .ok (.invokevirtual idx, 3)) (hn : pc + 3 = nx) (S : SiteU M.1.cls idx ci M' 1) (hA : A.1 b = some (.inr (ci, fs))) (hok : cOk R M'.2.2.1 d' 0 0 k n st = true) (hE : EvV w M' d' [.ref b, v0] A r) (K : Rn w M R Z k n A nx lo (r :: st)) : Rn w M R Z k n A pc lo (v0 :: .ref b :: st) :=
  r_callU (As := [v0]) (st := st) rfl nx hd hn S hA hok rfl hE (fun v A' h => by obtain ⟨rfl, rfl⟩ := h; exact K)
theorem r_cU2 {v0 v1 : Value} (nx : Nat) (hd : decode M.2.1 pc = .ok (.invokevirtual idx, 3)) (hn : pc + 3 = nx) (S : SiteU M.1.cls idx ci M' 2) (hA : A.1 b = some (.inr (ci, fs))) (hok : cOk R M'.2.2.1 d' 0 0 k n st = true) (hE : EvV w M' d' [.ref b, v0, v1] A r) (K : Rn w M R Z k n A nx lo (r :: st)) : Rn w M R Z k n A pc lo (v1 :: v0 :: .ref b :: st) :=
  r_callU (As := [v0, v1]) (st := st) rfl nx hd hn S hA hok rfl hE (fun v A' h => by obtain ⟨rfl, rfl⟩ := h; exact K)
theorem r_cU3 {v0 v1 v2 : Value} (nx : Nat) (hd : decode M.2.1 pc = .ok (.invokevirtual idx, 3)) (hn : pc + 3 = nx) (S : SiteU M.1.cls idx ci M' 3) (hA : A.1 b = some (.inr (ci, fs))) (hok : cOk R M'.2.2.1 d' 0 0 k n st = true) (hE : EvV w M' d' [.ref b, v0, v1, v2] A r) (K : Rn w M R Z k n A nx lo (r :: st)) : Rn w M R Z k n A pc lo (v2 :: v1 :: v0 :: .ref b :: st) :=
  r_callU (As := [v0, v1, v2]) (st := st) rfl nx hd hn S hA hok rfl hE (fun v A' h => by obtain ⟨rfl, rfl⟩ := h; exact K)
theorem r_cU4 {v0 v1 v2 v3 : Value} (nx : Nat) (hd : decode M.2.1 pc = .ok (.invokevirtual idx, 3)) (hn : pc + 3 = nx) (S : SiteU M.1.cls idx ci M' 4) (hA : A.1 b = some (.inr (ci, fs))) (hok : cOk R M'.2.2.1 d' 0 0 k n st = true) (hE : EvV w M' d' [.ref b, v0, v1, v2, v3] A r) (K : Rn w M R Z k n A nx lo (r :: st)) : Rn w M R Z k n A pc lo (v3 :: v2 :: v1 :: v0 :: .ref b :: st) :=
  r_callU (As := [v0, v1, v2, v3]) (st := st) rfl nx hd hn S hA hok rfl hE (fun v A' h => by obtain ⟨rfl, rfl⟩ := h; exact K)
theorem r_cU5 {v0 v1 v2 v3 v4 : Value} (nx : Nat) (hd : decode M.2.1 pc = .ok (.invokevirtual idx, 3)) (hn : pc + 3 = nx) (S : SiteU M.1.cls idx ci M' 5) (hA : A.1 b = some (.inr (ci, fs))) (hok : cOk R M'.2.2.1 d' 0 0 k n st = true) (hE : EvV w M' d' [.ref b, v0, v1, v2, v3, v4] A r) (K : Rn w M R Z k n A nx lo (r :: st)) : Rn w M R Z k n A pc lo (v4 :: v3 :: v2 :: v1 :: v0 :: .ref b :: st) :=
  r_callU (As := [v0, v1, v2, v3, v4]) (st := st) rfl nx hd hn S hA hok rfl hE (fun v A' h => by obtain ⟨rfl, rfl⟩ := h; exact K)
theorem r_cU6 {v0 v1 v2 v3 v4 v5 : Value} (nx : Nat) (hd : decode M.2.1 pc = .ok (.invokevirtual idx, 3)) (hn : pc + 3 = nx) (S : SiteU M.1.cls idx ci M' 6) (hA : A.1 b = some (.inr (ci, fs))) (hok : cOk R M'.2.2.1 d' 0 0 k n st = true) (hE : EvV w M' d' [.ref b, v0, v1, v2, v3, v4, v5] A r) (K : Rn w M R Z k n A nx lo (r :: st)) : Rn w M R Z k n A pc lo (v5 :: v4 :: v3 :: v2 :: v1 :: v0 :: .ref b :: st) :=
  r_callU (As := [v0, v1, v2, v3, v4, v5]) (st := st) rfl nx hd hn S hA hok rfl hE (fun v A' h => by obtain ⟨rfl, rfl⟩ := h; exact K)
theorem r_cF0 {cnt : Nat} (nx : Nat) (hd : decode M.2.1 pc = .ok (.invokeinterface idx cnt, 5)) (hn : pc + 5 = nx) (S : SiteF M.1.cls idx ci M' 0) (hA : A.1 b = some (.inr (ci, fs))) (hok : cOk R M'.2.2.1 d' 0 0 k n st = true) (hE : EvV w M' d' [.ref b] A r) (K : Rn w M R Z k n A nx lo (r :: st)) : Rn w M R Z k n A pc lo (.ref b :: st) :=
  r_callF (As := []) (st := st) rfl nx hd hn S hA hok rfl hE (fun v A' h => by obtain ⟨rfl, rfl⟩ := h; exact K)
theorem r_cF1 {cnt : Nat} {v0 : Value} (nx : Nat) (hd : decode M.2.1 pc = .ok (.invokeinterface idx cnt, 5)) (hn : pc + 5 = nx) (S : SiteF M.1.cls idx ci M' 1) (hA : A.1 b = some (.inr (ci, fs))) (hok : cOk R M'.2.2.1 d' 0 0 k n st = true) (hE : EvV w M' d' [.ref b, v0] A r) (K : Rn w M R Z k n A nx lo (r :: st)) : Rn w M R Z k n A pc lo (v0 :: .ref b :: st) :=
  r_callF (As := [v0]) (st := st) rfl nx hd hn S hA hok rfl hE (fun v A' h => by obtain ⟨rfl, rfl⟩ := h; exact K)
theorem r_cF2 {cnt : Nat} {v0 v1 : Value} (nx : Nat) (hd : decode M.2.1 pc = .ok (.invokeinterface idx cnt, 5)) (hn : pc + 5 = nx) (S : SiteF M.1.cls idx ci M' 2) (hA : A.1 b = some (.inr (ci, fs))) (hok : cOk R M'.2.2.1 d' 0 0 k n st = true) (hE : EvV w M' d' [.ref b, v0, v1] A r) (K : Rn w M R Z k n A nx lo (r :: st)) : Rn w M R Z k n A pc lo (v1 :: v0 :: .ref b :: st) :=
  r_callF (As := [v0, v1]) (st := st) rfl nx hd hn S hA hok rfl hE (fun v A' h => by obtain ⟨rfl, rfl⟩ := h; exact K)
theorem r_cF3 {cnt : Nat} {v0 v1 v2 : Value} (nx : Nat) (hd : decode M.2.1 pc = .ok (.invokeinterface idx cnt, 5)) (hn : pc + 5 = nx) (S : SiteF M.1.cls idx ci M' 3) (hA : A.1 b = some (.inr (ci, fs))) (hok : cOk R M'.2.2.1 d' 0 0 k n st = true) (hE : EvV w M' d' [.ref b, v0, v1, v2] A r) (K : Rn w M R Z k n A nx lo (r :: st)) : Rn w M R Z k n A pc lo (v2 :: v1 :: v0 :: .ref b :: st) :=
  r_callF (As := [v0, v1, v2]) (st := st) rfl nx hd hn S hA hok rfl hE (fun v A' h => by obtain ⟨rfl, rfl⟩ := h; exact K)
theorem r_cF4 {cnt : Nat} {v0 v1 v2 v3 : Value} (nx : Nat) (hd : decode M.2.1 pc = .ok (.invokeinterface idx cnt, 5)) (hn : pc + 5 = nx) (S : SiteF M.1.cls idx ci M' 4) (hA : A.1 b = some (.inr (ci, fs))) (hok : cOk R M'.2.2.1 d' 0 0 k n st = true) (hE : EvV w M' d' [.ref b, v0, v1, v2, v3] A r) (K : Rn w M R Z k n A nx lo (r :: st)) : Rn w M R Z k n A pc lo (v3 :: v2 :: v1 :: v0 :: .ref b :: st) :=
  r_callF (As := [v0, v1, v2, v3]) (st := st) rfl nx hd hn S hA hok rfl hE (fun v A' h => by obtain ⟨rfl, rfl⟩ := h; exact K)
theorem r_cF5 {cnt : Nat} {v0 v1 v2 v3 v4 : Value} (nx : Nat) (hd : decode M.2.1 pc = .ok (.invokeinterface idx cnt, 5)) (hn : pc + 5 = nx) (S : SiteF M.1.cls idx ci M' 5) (hA : A.1 b = some (.inr (ci, fs))) (hok : cOk R M'.2.2.1 d' 0 0 k n st = true) (hE : EvV w M' d' [.ref b, v0, v1, v2, v3, v4] A r) (K : Rn w M R Z k n A nx lo (r :: st)) : Rn w M R Z k n A pc lo (v4 :: v3 :: v2 :: v1 :: v0 :: .ref b :: st) :=
  r_callF (As := [v0, v1, v2, v3, v4]) (st := st) rfl nx hd hn S hA hok rfl hE (fun v A' h => by obtain ⟨rfl, rfl⟩ := h; exact K)
theorem r_cF6 {cnt : Nat} {v0 v1 v2 v3 v4 v5 : Value} (nx : Nat) (hd : decode M.2.1 pc = .ok (.invokeinterface idx cnt, 5)) (hn : pc + 5 = nx) (S : SiteF M.1.cls idx ci M' 6) (hA : A.1 b = some (.inr (ci, fs))) (hok : cOk R M'.2.2.1 d' 0 0 k n st = true) (hE : EvV w M' d' [.ref b, v0, v1, v2, v3, v4, v5] A r) (K : Rn w M R Z k n A nx lo (r :: st)) : Rn w M R Z k n A pc lo (v5 :: v4 :: v3 :: v2 :: v1 :: v0 :: .ref b :: st) :=
  r_callF (As := [v0, v1, v2, v3, v4, v5]) (st := st) rfl nx hd hn S hA hok rfl hE (fun v A' h => by obtain ⟨rfl, rfl⟩ := h; exact K)
theorem r_cP0 (nx : Nat) (hd : decode M.2.1 pc = .ok (.invokespecial idx, 3)) (hn : pc + 3 = nx) (S : SiteP M.1.cls idx M' 0) (hA : A.1 b = some (.inr (ci, fs))) (hok : cOk R M'.2.2.1 d' 0 0 k n st = true) (hE : EvV w M' d' [.ref b] A r) (K : Rn w M R Z k n A nx lo (r :: st)) : Rn w M R Z k n A pc lo (.ref b :: st) :=
  r_callP (As := []) (st := st) rfl nx hd hn S hA hok rfl hE (fun v A' h => by obtain ⟨rfl, rfl⟩ := h; exact K)
theorem r_cP1 {v0 : Value} (nx : Nat) (hd : decode M.2.1 pc = .ok (.invokespecial idx, 3)) (hn : pc + 3 = nx) (S : SiteP M.1.cls idx M' 1) (hA : A.1 b = some (.inr (ci, fs))) (hok : cOk R M'.2.2.1 d' 0 0 k n st = true) (hE : EvV w M' d' [.ref b, v0] A r) (K : Rn w M R Z k n A nx lo (r :: st)) : Rn w M R Z k n A pc lo (v0 :: .ref b :: st) :=
  r_callP (As := [v0]) (st := st) rfl nx hd hn S hA hok rfl hE (fun v A' h => by obtain ⟨rfl, rfl⟩ := h; exact K)
theorem r_cP2 {v0 v1 : Value} (nx : Nat) (hd : decode M.2.1 pc = .ok (.invokespecial idx, 3)) (hn : pc + 3 = nx) (S : SiteP M.1.cls idx M' 2) (hA : A.1 b = some (.inr (ci, fs))) (hok : cOk R M'.2.2.1 d' 0 0 k n st = true) (hE : EvV w M' d' [.ref b, v0, v1] A r) (K : Rn w M R Z k n A nx lo (r :: st)) : Rn w M R Z k n A pc lo (v1 :: v0 :: .ref b :: st) :=
  r_callP (As := [v0, v1]) (st := st) rfl nx hd hn S hA hok rfl hE (fun v A' h => by obtain ⟨rfl, rfl⟩ := h; exact K)
theorem r_cP3 {v0 v1 v2 : Value} (nx : Nat) (hd : decode M.2.1 pc = .ok (.invokespecial idx, 3)) (hn : pc + 3 = nx) (S : SiteP M.1.cls idx M' 3) (hA : A.1 b = some (.inr (ci, fs))) (hok : cOk R M'.2.2.1 d' 0 0 k n st = true) (hE : EvV w M' d' [.ref b, v0, v1, v2] A r) (K : Rn w M R Z k n A nx lo (r :: st)) : Rn w M R Z k n A pc lo (v2 :: v1 :: v0 :: .ref b :: st) :=
  r_callP (As := [v0, v1, v2]) (st := st) rfl nx hd hn S hA hok rfl hE (fun v A' h => by obtain ⟨rfl, rfl⟩ := h; exact K)
theorem r_cP4 {v0 v1 v2 v3 : Value} (nx : Nat) (hd : decode M.2.1 pc = .ok (.invokespecial idx, 3)) (hn : pc + 3 = nx) (S : SiteP M.1.cls idx M' 4) (hA : A.1 b = some (.inr (ci, fs))) (hok : cOk R M'.2.2.1 d' 0 0 k n st = true) (hE : EvV w M' d' [.ref b, v0, v1, v2, v3] A r) (K : Rn w M R Z k n A nx lo (r :: st)) : Rn w M R Z k n A pc lo (v3 :: v2 :: v1 :: v0 :: .ref b :: st) :=
  r_callP (As := [v0, v1, v2, v3]) (st := st) rfl nx hd hn S hA hok rfl hE (fun v A' h => by obtain ⟨rfl, rfl⟩ := h; exact K)
theorem r_cP5 {v0 v1 v2 v3 v4 : Value} (nx : Nat) (hd : decode M.2.1 pc = .ok (.invokespecial idx, 3)) (hn : pc + 3 = nx) (S : SiteP M.1.cls idx M' 5) (hA : A.1 b = some (.inr (ci, fs))) (hok : cOk R M'.2.2.1 d' 0 0 k n st = true) (hE : EvV w M' d' [.ref b, v0, v1, v2, v3, v4] A r) (K : Rn w M R Z k n A nx lo (r :: st)) : Rn w M R Z k n A pc lo (v4 :: v3 :: v2 :: v1 :: v0 :: .ref b :: st) :=
  r_callP (As := [v0, v1, v2, v3, v4]) (st := st) rfl nx hd hn S hA hok rfl hE (fun v A' h => by obtain ⟨rfl, rfl⟩ := h; exact K)
theorem r_cP6 {v0 v1 v2 v3 v4 v5 : Value} (nx : Nat) (hd : decode M.2.1 pc = .ok (.invokespecial idx, 3)) (hn : pc + 3 = nx) (S : SiteP M.1.cls idx M' 6) (hA : A.1 b = some (.inr (ci, fs))) (hok : cOk R M'.2.2.1 d' 0 0 k n st = true) (hE : EvV w M' d' [.ref b, v0, v1, v2, v3, v4, v5] A r) (K : Rn w M R Z k n A nx lo (r :: st)) : Rn w M R Z k n A pc lo (v5 :: v4 :: v3 :: v2 :: v1 :: v0 :: .ref b :: st) :=
  r_callP (As := [v0, v1, v2, v3, v4, v5]) (st := st) rfl nx hd hn S hA hok rfl hE (fun v A' h => by obtain ⟨rfl, rfl⟩ := h; exact K)
theorem r_cNS0 (nx : Nat) (hd : decode M.2.1 pc = .ok (.invokestatic idx, 3)) (hn : pc + 3 = nx) (S : SiteNS M.1.cls idx M' 0) (hok : cOk R M'.2.2.1 d' 0 0 k n st = true) (hE : EvV w M' d' [] A r) (K : Rn w M R Z k n A nx lo (r :: st)) : Rn w M R Z k n A pc lo (st) :=
  r_callNS (As := []) (st := st) rfl nx hd hn S hok rfl hE (fun v A' h => by obtain ⟨rfl, rfl⟩ := h; exact K)
theorem r_cNS1 {v0 : Value} (nx : Nat) (hd : decode M.2.1 pc = .ok (.invokestatic idx, 3)) (hn : pc + 3 = nx) (S : SiteNS M.1.cls idx M' 1) (hok : cOk R M'.2.2.1 d' 0 0 k n st = true) (hE : EvV w M' d' [v0] A r) (K : Rn w M R Z k n A nx lo (r :: st)) : Rn w M R Z k n A pc lo (v0 :: st) :=
  r_callNS (As := [v0]) (st := st) rfl nx hd hn S hok rfl hE (fun v A' h => by obtain ⟨rfl, rfl⟩ := h; exact K)
theorem r_cNS2 {v0 v1 : Value} (nx : Nat) (hd : decode M.2.1 pc = .ok (.invokestatic idx, 3)) (hn : pc + 3 = nx) (S : SiteNS M.1.cls idx M' 2) (hok : cOk R M'.2.2.1 d' 0 0 k n st = true) (hE : EvV w M' d' [v0, v1] A r) (K : Rn w M R Z k n A nx lo (r :: st)) : Rn w M R Z k n A pc lo (v1 :: v0 :: st) :=
  r_callNS (As := [v0, v1]) (st := st) rfl nx hd hn S hok rfl hE (fun v A' h => by obtain ⟨rfl, rfl⟩ := h; exact K)
theorem r_cNS3 {v0 v1 v2 : Value} (nx : Nat) (hd : decode M.2.1 pc = .ok (.invokestatic idx, 3)) (hn : pc + 3 = nx) (S : SiteNS M.1.cls idx M' 3) (hok : cOk R M'.2.2.1 d' 0 0 k n st = true) (hE : EvV w M' d' [v0, v1, v2] A r) (K : Rn w M R Z k n A nx lo (r :: st)) : Rn w M R Z k n A pc lo (v2 :: v1 :: v0 :: st) :=
  r_callNS (As := [v0, v1, v2]) (st := st) rfl nx hd hn S hok rfl hE (fun v A' h => by obtain ⟨rfl, rfl⟩ := h; exact K)
theorem r_cNS4 {v0 v1 v2 v3 : Value} (nx : Nat) (hd : decode M.2.1 pc = .ok (.invokestatic idx, 3)) (hn : pc + 3 = nx) (S : SiteNS M.1.cls idx M' 4) (hok : cOk R M'.2.2.1 d' 0 0 k n st = true) (hE : EvV w M' d' [v0, v1, v2, v3] A r) (K : Rn w M R Z k n A nx lo (r :: st)) : Rn w M R Z k n A pc lo (v3 :: v2 :: v1 :: v0 :: st) :=
  r_callNS (As := [v0, v1, v2, v3]) (st := st) rfl nx hd hn S hok rfl hE (fun v A' h => by obtain ⟨rfl, rfl⟩ := h; exact K)
theorem r_cNS5 {v0 v1 v2 v3 v4 : Value} (nx : Nat) (hd : decode M.2.1 pc = .ok (.invokestatic idx, 3)) (hn : pc + 3 = nx) (S : SiteNS M.1.cls idx M' 5) (hok : cOk R M'.2.2.1 d' 0 0 k n st = true) (hE : EvV w M' d' [v0, v1, v2, v3, v4] A r) (K : Rn w M R Z k n A nx lo (r :: st)) : Rn w M R Z k n A pc lo (v4 :: v3 :: v2 :: v1 :: v0 :: st) :=
  r_callNS (As := [v0, v1, v2, v3, v4]) (st := st) rfl nx hd hn S hok rfl hE (fun v A' h => by obtain ⟨rfl, rfl⟩ := h; exact K)
theorem r_cNS6 {v0 v1 v2 v3 v4 v5 : Value} (nx : Nat) (hd : decode M.2.1 pc = .ok (.invokestatic idx, 3)) (hn : pc + 3 = nx) (S : SiteNS M.1.cls idx M' 6) (hok : cOk R M'.2.2.1 d' 0 0 k n st = true) (hE : EvV w M' d' [v0, v1, v2, v3, v4, v5] A r) (K : Rn w M R Z k n A nx lo (r :: st)) : Rn w M R Z k n A pc lo (v5 :: v4 :: v3 :: v2 :: v1 :: v0 :: st) :=
  r_callNS (As := [v0, v1, v2, v3, v4, v5]) (st := st) rfl nx hd hn S hok rfl hE (fun v A' h => by obtain ⟨rfl, rfl⟩ := h; exact K)
theorem r_cNV0 (nx : Nat) (hd : decode M.2.1 pc = .ok (.invokevirtual idx, 3)) (hn : pc + 3 = nx) (S : SiteNV M.1.cls idx ci M' 0) (hA : A.1 b = some (.inr (ci, fs))) (hok : cOk R M'.2.2.1 d' 0 0 k n st = true) (hE : EvV w M' d' [.ref b] A r) (K : Rn w M R Z k n A nx lo (r :: st)) : Rn w M R Z k n A pc lo (.ref b :: st) :=
  r_callNV (As := []) (st := st) rfl nx hd hn S hA hok rfl hE (fun v A' h => by obtain ⟨rfl, rfl⟩ := h; exact K)
theorem r_cNV1 {v0 : Value} (nx : Nat) (hd : decode M.2.1 pc = .ok (.invokevirtual idx, 3)) (hn : pc + 3 = nx) (S : SiteNV M.1.cls idx ci M' 1) (hA : A.1 b = some (.inr (ci, fs))) (hok : cOk R M'.2.2.1 d' 0 0 k n st = true) (hE : EvV w M' d' [.ref b, v0] A r) (K : Rn w M R Z k n A nx lo (r :: st)) : Rn w M R Z k n A pc lo (v0 :: .ref b :: st) :=
  r_callNV (As := [v0]) (st := st) rfl nx hd hn S hA hok rfl hE (fun v A' h => by obtain ⟨rfl, rfl⟩ := h; exact K)
theorem r_cNV2 {v0 v1 : Value} (nx : Nat) (hd : decode M.2.1 pc = .ok (.invokevirtual idx, 3)) (hn : pc + 3 = nx) (S : SiteNV M.1.cls idx ci M' 2) (hA : A.1 b = some (.inr (ci, fs))) (hok : cOk R M'.2.2.1 d' 0 0 k n st = true) (hE : EvV w M' d' [.ref b, v0, v1] A r) (K : Rn w M R Z k n A nx lo (r :: st)) : Rn w M R Z k n A pc lo (v1 :: v0 :: .ref b :: st) :=
  r_callNV (As := [v0, v1]) (st := st) rfl nx hd hn S hA hok rfl hE (fun v A' h => by obtain ⟨rfl, rfl⟩ := h; exact K)
theorem r_cNV3 {v0 v1 v2 : Value} (nx : Nat) (hd : decode M.2.1 pc = .ok (.invokevirtual idx, 3)) (hn : pc + 3 = nx) (S : SiteNV M.1.cls idx ci M' 3) (hA : A.1 b = some (.inr (ci, fs))) (hok : cOk R M'.2.2.1 d' 0 0 k n st = true) (hE : EvV w M' d' [.ref b, v0, v1, v2] A r) (K : Rn w M R Z k n A nx lo (r :: st)) : Rn w M R Z k n A pc lo (v2 :: v1 :: v0 :: .ref b :: st) :=
  r_callNV (As := [v0, v1, v2]) (st := st) rfl nx hd hn S hA hok rfl hE (fun v A' h => by obtain ⟨rfl, rfl⟩ := h; exact K)
theorem r_cNV4 {v0 v1 v2 v3 : Value} (nx : Nat) (hd : decode M.2.1 pc = .ok (.invokevirtual idx, 3)) (hn : pc + 3 = nx) (S : SiteNV M.1.cls idx ci M' 4) (hA : A.1 b = some (.inr (ci, fs))) (hok : cOk R M'.2.2.1 d' 0 0 k n st = true) (hE : EvV w M' d' [.ref b, v0, v1, v2, v3] A r) (K : Rn w M R Z k n A nx lo (r :: st)) : Rn w M R Z k n A pc lo (v3 :: v2 :: v1 :: v0 :: .ref b :: st) :=
  r_callNV (As := [v0, v1, v2, v3]) (st := st) rfl nx hd hn S hA hok rfl hE (fun v A' h => by obtain ⟨rfl, rfl⟩ := h; exact K)
theorem r_cNV5 {v0 v1 v2 v3 v4 : Value} (nx : Nat) (hd : decode M.2.1 pc = .ok (.invokevirtual idx, 3)) (hn : pc + 3 = nx) (S : SiteNV M.1.cls idx ci M' 5) (hA : A.1 b = some (.inr (ci, fs))) (hok : cOk R M'.2.2.1 d' 0 0 k n st = true) (hE : EvV w M' d' [.ref b, v0, v1, v2, v3, v4] A r) (K : Rn w M R Z k n A nx lo (r :: st)) : Rn w M R Z k n A pc lo (v4 :: v3 :: v2 :: v1 :: v0 :: .ref b :: st) :=
  r_callNV (As := [v0, v1, v2, v3, v4]) (st := st) rfl nx hd hn S hA hok rfl hE (fun v A' h => by obtain ⟨rfl, rfl⟩ := h; exact K)
theorem r_cNV6 {v0 v1 v2 v3 v4 v5 : Value} (nx : Nat) (hd : decode M.2.1 pc = .ok (.invokevirtual idx, 3)) (hn : pc + 3 = nx) (S : SiteNV M.1.cls idx ci M' 6) (hA : A.1 b = some (.inr (ci, fs))) (hok : cOk R M'.2.2.1 d' 0 0 k n st = true) (hE : EvV w M' d' [.ref b, v0, v1, v2, v3, v4, v5] A r) (K : Rn w M R Z k n A nx lo (r :: st)) : Rn w M R Z k n A pc lo (v5 :: v4 :: v3 :: v2 :: v1 :: v0 :: .ref b :: st) :=
  r_callNV (As := [v0, v1, v2, v3, v4, v5]) (st := st) rfl nx hd hn S hA hok rfl hE (fun v A' h => by obtain ⟨rfl, rfl⟩ := h; exact K)
end CROWS2
