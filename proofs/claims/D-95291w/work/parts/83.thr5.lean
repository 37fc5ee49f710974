/-! a cast that fails: the message's length, the row -/
set_option maxRecDepth 100000
def MRi (w : WE) : Prop := modulesRight_1 (ws0 w) = true
theorem mod_nm {vm : Vm} (hm : (vm.modules.all fun m => m.loader.isSome || m.name == "java.base" || !(castPackages_1.any fun p => m.packages.contains p)) = true) {k : Class} (hl : k.loader = none) (hp : packageOf k.name ∈ castPackages_1) {m : ModuleInfo} (h : vm.moduleOf k = some m) : m.name = "java.base" := by
  unfold Vm.moduleOf at h
  split at h
  · have := List.find?_some h
    simpa using this
  · have h1 := List.find?_some h
    have h2 := List.mem_of_find?_eq_some h
    rw [hl] at h1
    have h3 := List.all_eq_true.mp hm m h2
    simp only [Bool.and_eq_true, beq_iff_eq] at h1
    rw [h1.1] at h3
    have h4 : (castPackages_1.any fun p => m.packages.contains p) = true := List.any_eq_true.mpr ⟨_, hp, h1.2⟩
    rw [h4] at h3
    simpa using h3
theorem home_len {vm : Vm} (hm : (vm.modules.all fun m => m.loader.isSome || m.name == "java.base" || !(castPackages_1.any fun p => m.packages.contains p)) = true) {k : Class} (hl : k.loader = none) (hp : packageOf k.name ∈ castPackages_1) : (vm.home k).toList.length ≤ 38 := by
  unfold Vm.home
  rw [hl]
  cases h : vm.moduleOf k with
  | none =>
    show ("unnamed module" ++ " of loader " ++ "'bootstrap'").toList.length ≤ 38
    decide
  | some m =>
    show ("module " ++ m.name ++ " of loader " ++ "'bootstrap'").toList.length ≤ 38
    rw [mod_nm hm hl hp h]
    decide
theorem shown_len {k : Class} (hh : k.hidden = none) : k.shown.toList.length = k.name.toList.length := by
  unfold Class.shown
  rw [hh]
  simp [dotted, turned]
theorem homes_len {vm : Vm} (hm : (vm.modules.all fun m => m.loader.isSome || m.name == "java.base" || !(castPackages_1.any fun p => m.packages.contains p)) = true) {a b : Class} (ha : a.loader = none) (hb : b.loader = none) (pa : packageOf a.name ∈ castPackages_1) (pb : packageOf b.name ∈ castPackages_1) (hha : a.hidden = none) (hhb : b.hidden = none) : (vm.homes a b).toList.length ≤ a.name.toList.length + b.name.toList.length + 100 := by
  have h1 := home_len hm ha pa
  have h2 := home_len hm hb pb
  have h3 := shown_len hha
  have h4 := shown_len hhb
  unfold Vm.homes
  split
  · show (toString a.shown ++ toString " and " ++ toString b.shown ++ toString " are in " ++ toString (vm.home a)).toList.length ≤ _
    simp only [String.toList_append, List.length_append]
    have e1 : (toString " and ").toList.length = 5 := by decide
    have e2 : (toString " are in ").toList.length = 8 := by decide
    have e3 : (toString a.shown).toList.length = a.shown.toList.length := rfl
    have e4 : (toString b.shown).toList.length = b.shown.toList.length := rfl
    have e5 : (toString (vm.home a)).toList.length = (vm.home a).toList.length := rfl
    omega
  · show (toString a.shown ++ toString " is in " ++ toString (vm.home a) ++ toString "; " ++ toString b.shown ++ toString " is in " ++ toString (vm.home b)).toList.length ≤ _
    simp only [String.toList_append, List.length_append]
    have e1 : (toString " is in ").toList.length = 7 := by decide
    have e2 : (toString "; ").toList.length = 2 := by decide
    have e3 : (toString a.shown).toList.length = a.shown.toList.length := rfl
    have e4 : (toString b.shown).toList.length = b.shown.toList.length := rfl
    have e5 : (toString (vm.home a)).toList.length = (vm.home a).toList.length := rfl
    have e6 : (toString (vm.home b)).toList.length = (vm.home b).toList.length := rfl
    omega
theorem cce_len {vm : Vm} (hm : (vm.modules.all fun m => m.loader.isSome || m.name == "java.base" || !(castPackages_1.any fun p => m.packages.contains p)) = true) {a b : Class} (ha : a.loader = none) (hb : b.loader = none) (pa : packageOf a.name ∈ castPackages_1) (pb : packageOf b.name ∈ castPackages_1) (hha : a.hidden = none) (hhb : b.hidden = none) (la : a.name.toList.length ≤ 25) (lb : b.name.toList.length ≤ 25) :
    (stringBytes (stringToUtf16 (Jvm.Op.checkcast.message vm a b))).size ≤ 960 ∧ (Jvm.Op.checkcast.message vm a b == notModelled) = false := by
  have hs : Jvm.Op.checkcast.message vm a b = toString "class " ++ toString a.shown ++ toString " cannot be cast to class " ++ toString b.shown ++ toString " (" ++ toString (vm.homes a b) ++ toString ")" := rfl
  constructor
  · have b1 := stringBytes_size_le (stringToUtf16 (Jvm.Op.checkcast.message vm a b))
    have b2 := utf16_size_le (Jvm.Op.checkcast.message vm a b)
    have h0 := homes_len hm ha hb pa pb hha hhb
    have h3 := shown_len hha
    have h4 := shown_len hhb
    have b3 : (Jvm.Op.checkcast.message vm a b).toList.length ≤ 240 := by
      rw [hs]
      simp only [String.toList_append, List.length_append]
      have e1 : (toString "class ").toList.length = 6 := by decide
      have e2 : (toString " cannot be cast to class ").toList.length = 25 := by decide
      have e3 : (toString " (").toList.length = 2 := by decide
      have e4 : (toString ")").toList.length = 1 := by decide
      have e5 : (toString a.shown).toList.length = a.shown.toList.length := rfl
      have e6 : (toString b.shown).toList.length = b.shown.toList.length := rfl
      have e7 : (toString (vm.homes a b)).toList.length = (vm.homes a b).toList.length := rfl
      omega
    omega
  · rw [beq_eq_false_iff_ne]
    intro h
    have h2 := congrArg String.toList h
    have h3 : (Jvm.Op.checkcast.message vm a b).toList = 'c' :: ("lass ".toList ++ a.shown.toList ++ " cannot be cast to class ".toList ++ b.shown.toList ++ " (".toList ++ (vm.homes a b).toList ++ ")".toList) := by
      rw [hs]
      simp only [String.toList_append]
      rfl
    rw [h3] at h2
    have h4 : notModelled.toList = '\u0000' :: " a message that is not modelled".toList := by decide
    rw [h4] at h2
    simp at h2
theorem fc_facts {vm : Vm} {nm : String} {c : ClassId} {k : Class} (h : vm.findClass nm = some c) (hk : vm.classes[c]? = some k) : k.name = nm ∧ k.loader = none ∧ k.hidden = none := by
  obtain ⟨hlt, hp, _⟩ := Array.findIdx?_eq_some_iff_getElem.mp h
  have e1 : vm.classes[c] = k := by simpa [hlt] using hk
  rw [e1] at hp
  simp only [Bool.and_eq_true, beq_iff_eq, Option.isNone_iff_eq_none] at hp
  exact ⟨hp.1.1.1, hp.2, hp.1.1.2⟩
def nmOk (s : String) : Bool := decide (packageOf s ∈ castPackages_1) && decide (s.toList.length ≤ 25)
section CASTX
variable {w : WE} {M : MI} {R : Room} {Z : ZT} {k n : Nat} {A : Hp} {pc : Nat} {lo : List (Option Value)} {st : List Value}
theorem cast_core {n0 nm : String} {a : Nat} {c0 cT : ClassId} {idx : Nat} (hd : decode M.2.1 pc = .ok (.checkcast idx, 3)) (hl : Jvm.Cond.classLink M.1.cls idx nm ∈ lw_all) (h0 : nmOk n0 = true) (h1 : nmOk nm = true) (hw : MRi w) (hT : TR w) (hr : rOk R k n 3 970 (.ref a :: st) = true) (K : Rt w M R Z (k + 3) (n + 970) (A.1, A.2 + 3) pc lo "java/lang/ClassCastException")
    {p : Program} {e : Env} {s : State} {m : MethodId} {args : Array Value} {below : List Frame} {meth : Method} {c : Code} {locs : List Loc} {ls : Array Slot} {T : State} {cell : Cell} (C : Cx w M p s m args meth c) (hR : Rp w A T.heap) (hL : ∀ q ∈ locs, wb w ≤ q.base) (hlo : lo_has ls M.2.2.1 lo) (X : Stand p w.1 e R s m args below meth c T locs k n)
    (hcell : T.heap[a]? = some cell) (hcc : cell.cls = c0) (hobj : ∀ z, cell.vm ≠ .statics z) (hf0 : s.vm.findClass n0 = some c0) (hfT : s.vm.findClass nm = some cT) (hna : s.vm.assignable c0 cT = false) : ∃ t, Steps p.tables e below (T.setTop (F0 m pc ls (.ref a :: st))) t ∧ Z below args s t := by
  have hpl : e.platform.magicAccessors = ({} : Platform).magicAccessors := by rw [X.admits.platform]
  obtain ⟨c9, hfcc, hcl⟩ := Jvm.Cond.classLink_spec C.own (C.ts _ hl) e.platform hpl
  cases hfcc.symm.trans hfT
  obtain ⟨hg, hw1, hready⟩ := State.classEntry (e := e) X.warmed hcl
  have hsz : (T.vm.noted m.cls idx (.cls cT)).classes.size ≤ T.vm.classes.size := by no_record
  have halT : (ws0 w).vm.Alike (T.vm.noted m.cls idx (.cls cT)) := (Jvm.State.WarmedH.trans C.k.2.2.2 hw1).alike
  have hmods : ((T.vm.noted m.cls idx (.cls cT)).modules.all fun m => m.loader.isSome || m.name == "java.base" || !(castPackages_1.any fun p => m.packages.contains p)) = true := by
    have e1 : (T.vm.noted m.cls idx (.cls cT)).modules = (ws0 w).vm.modules := by have q := congrArg Vm.modules halT.1; exact q
    rw [e1]
    exact hw
  have hfa : (T.vm.noted m.cls idx (.cls cT)).findClass n0 = some c0 := by rw [hw1.alike.findClass]; exact hf0
  have hfb : (T.vm.noted m.cls idx (.cls cT)).findClass nm = some cT := by rw [hw1.alike.findClass]; exact hfT
  obtain ⟨ka, hka⟩ := Vm.classAt_of_findClass hfa
  obtain ⟨kb, hkb⟩ := Vm.classAt_of_findClass hfb
  obtain ⟨a1, a2, a3⟩ := fc_facts hfa hka
  obtain ⟨b1, b2, b3⟩ := fc_facts hfb hkb
  unfold nmOk at h0 h1
  simp only [Bool.and_eq_true, decide_eq_true_eq] at h0 h1
  obtain ⟨t1, t2⟩ := cce_len hmods a2 b2 (by rw [a1]; exact h0.1) (by rw [b1]; exact h1.1) a3 b3 (by rw [a1]; exact h0.2) (by rw [b1]; exact h1.2)
  generalize hvm : T.vm.noted m.cls idx (.cls cT) = vm' at *
  obtain ⟨t, x1, x2⟩ := rz_msg 960 xwCC t2 t1 (by decide) hT (rOk_s hr).1 (rOk_s hr).2.1 (rOk_s hr).2.2.1 (rOk_s hr).2.2.2 K p e s m args below meth c T.heap locs ls C hR hL hlo (T.setVm vm') rfl (X.noted hw1)
  refine ⟨t, ?_, x2⟩
  have hexec := C.x
  have hd' : decode c.code pc = .ok (.checkcast idx, 3) := by rw [C.b]; exact hd
  jvm_step X.here [hexec, hd', Jvm.Op.checkcast.wp_cold (e := e) (s := T) (f := F0 m pc ls (.ref a :: st)) X.here.top rfl hg hready hsz,
    Jvm.Op.checkcast.wp_ready (e := e) (s := T.setVm vm') (f := F0 m pc ls (.ref a :: st)) X.here.top hready rfl]
  refine ⟨cell, hcell, hobj, ka, by rw [hcc]; exact hka, kb, hkb, ?_⟩
  have h4 : vm'.assignable cell.cls cT = false := by rw [hcc, hw1.alike.assignable]; exact hna
  rw [if_neg (by show ¬ vm'.assignable cell.cls cT = true; rw [h4]; decide)]
  exact x1
theorem r_castXA {idx u v a N : Nat} {f : Nat → Int32} (hd : decode M.2.1 pc = .ok (.checkcast idx, 3)) (hu : u ≤ 2) (hv : v ≤ 2) (hne : v ≠ u) (hl : Jvm.Cond.classLink M.1.cls idx (laN u) ∈ lw_all) (hA : A.1 a = some (eI w v N f)) (hw : MRi w) (hT : TR w) (hr : rOk R k n 3 970 (.ref a :: st) = true) (K : Rt w M R Z (k + 3) (n + 970) (A.1, A.2 + 3) pc lo "java/lang/ClassCastException") : Rn w M R Z k n A pc lo (.ref a :: st) := by
  intro p e s m args below meth c H locs ls C hR hL hlo T hTH X
  subst hTH
  have hat : T.heap[a]? = some (vp_cell (w.2.2.1 v) (N, .inl f)) := hR.at hA
  have hok : ∀ t, t ≤ 2 → nmOk (laN t) = true := by
    intro t ht
    match t, ht with
    | 0, _ => decide +kernel
    | 1, _ => decide +kernel
    | 2, _ => decide +kernel
  exact cast_core hd hl (hok v hv) (hok u hu) hw hT hr K C hR hL hlo X hat rfl (fun z h => by cases h) (laF C.k hv) (laF C.k hu) (laX C.k hv hu hne)
end CASTX
