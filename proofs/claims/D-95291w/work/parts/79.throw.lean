/-! WHAT IS THROWN: the words of the exceptions' classes; the machine throws (npe_go, msg_go); Rt, leaving, catching -/
set_option maxRecDepth 100000
abbrev sv (w : WE) (s : State) : State := (ws0 w).setVm s.vm
abbrev a0 (w : WE) : Array Value := #[Value.ref (w.2.2.2.2 0)]
def al (Q : Cond → Prop) : List Cond → Prop
  | [] => True
  | c :: l => Q c ∧ al Q l
theorem al_c {Q : Cond → Prop} {c : Cond} {l : List Cond} (h : Q c) (t : al Q l) : al Q (c :: l) := ⟨h, t⟩
theorem al_n {Q : Cond → Prop} : al Q [] := trivial
theorem al_mem {Q : Cond → Prop} : ∀ {l : List Cond}, al Q l → ∀ c ∈ l, Q c
  | [], _, c, h => by cases h
  | a :: l, ht, c, h => by
    rcases List.mem_cons.mp h with rfl | h
    · exact ht.1
    · exact al_mem ht.2 c h
abbrev inT (c : Cond) : Prop := c ∈ lw_tbl
theorem wAt {w : WE} {s : State} (hK : KW w s) {c : Cond} (hc : c ∈ lw_tbl) (hk : c.keepsFace = true) : c.before (a0 w) (sv w s) = true := Jvm.Cond.before_shiftedFace (Jvm.State.Shifted.of_warmed hK.2.2.2) c hk (hK.1 c hc)
theorem al_at {w : WE} {s : State} (hK : KW w s) {l : List Cond} (h : al inT l) (hk : l.all Jvm.Cond.keepsFace = true) : ∀ c ∈ l, c.before (a0 w) (sv w s) = true := fun c hc => wAt hK (al_mem h c hc) (List.all_eq_true.mp hk c hc)
theorem an1 {a b : Cond} {args : Array Value} {s : State} (h : (Jvm.Cond.and a b).before args s = true) : a.before args s = true := by
  rw [Jvm.Cond.before_and, Bool.and_eq_true] at h
  exact h.1
theorem an2 {a b : Cond} {args : Array Value} {s : State} (h : (Jvm.Cond.and a b).before args s = true) : b.before args s = true := by
  rw [Jvm.Cond.before_and, Bool.and_eq_true] at h
  exact h.2
theorem at_thr : al inT Jvm.Bundle.throwableAtoms := (al_c (lw_all_tbl q58) (al_c (lw_all_tbl q627) (al_c (lw_all_tbl q568) (al_c (lw_all_tbl q589) (al_c (lw_all_tbl q592) (al_c (lw_all_tbl q594) (al_c (lw_all_tbl q628) (al_c (lw_all_tbl q629) (al_c (lw_all_tbl q89) (al_c (lw_all_tbl q90) (al_c (lw_all_tbl q562) (al_c (lw_all_tbl q567) (al_c (lw_all_tbl q590) (al_c (lw_all_tbl q597) (al_c (lw_all_tbl q621) (al_c (lw_all_tbl q598) (al_c (lw_all_tbl q622) (al_c (lw_all_tbl q599) (al_c (lw_all_tbl q623) (al_c (lw_all_tbl q563) (al_c (q564) (al_c (lw_all_tbl q565) (al_c (q566) (al_c (lw_all_tbl q624) al_n))))))))))))))))))))))))
theorem at_npe : al inT Jvm.Bundle.npeAtoms := (al_c (lw_all_tbl q586) (al_c (lw_all_tbl q576) (al_c (lw_all_tbl q577) (al_c (lw_all_tbl q680) (al_c (lw_all_tbl q682) (al_c (lw_all_tbl q583) (al_c (lw_all_tbl q584) (al_c (q694) al_n))))))))
theorem at_p1 : al inT (Jvm.Bundle.passAtoms "java/lang/NullPointerException" "java/lang/RuntimeException" 1 Jvm.LibCode.NullPointerException.Init0.code) := (al_c (lw_all_tbl q671) (al_c (lw_all_tbl q672) (al_c (lw_all_tbl q673) (al_c (lw_all_tbl q674) (al_c (q614) al_n)))))
theorem at_p2 : al inT (Jvm.Bundle.passAtoms "java/lang/RuntimeException" "java/lang/Exception" 1 Jvm.LibCode.RuntimeException.Init0.code) := (al_c (lw_all_tbl q674) (al_c (lw_all_tbl q675) (al_c (lw_all_tbl q676) (al_c (lw_all_tbl q677) (al_c (q616) al_n)))))
theorem at_p3 : al inT (Jvm.Bundle.passAtoms "java/lang/Exception" "java/lang/Throwable" 1 Jvm.LibCode.Exception.Init0.code) := (al_c (lw_all_tbl q677) (al_c (lw_all_tbl q678) (al_c (lw_all_tbl q679) (al_c (lw_all_tbl q628) (al_c (q618) al_n)))))
theorem at_str : al inT Jvm.Bundle.stringAtoms := (al_c (lw_all_tbl q63) (al_c (lw_all_tbl q630) (al_c (lw_all_tbl q631) (al_c (lw_all_tbl q632) (al_c (lw_all_tbl q634) (al_c (lw_all_tbl q633) (al_c (lw_all_tbl q635) al_n)))))))
theorem at_thS : al inT Jvm.Bundle.throwableSAtoms := (al_c (lw_all_tbl q560) (al_c (lw_all_tbl q561) (al_c (lw_all_tbl q596) (al_c (lw_all_tbl q624) al_n))))
theorem at_cIO : al inT (Jvm.Bundle.chainSAtoms "java/lang/IndexOutOfBoundsException" ["java/lang/RuntimeException", "java/lang/Exception"]) := (al_c (lw_all_tbl q700) (al_c (lw_all_tbl q701) (al_c (lw_all_tbl q702) (al_c (lw_all_tbl q554) (al_c (q615) (al_c (lw_all_tbl q554) (al_c (lw_all_tbl q555) (al_c (lw_all_tbl q556) (al_c (lw_all_tbl q557) (al_c (q617) (al_c (lw_all_tbl q557) (al_c (lw_all_tbl q558) (al_c (lw_all_tbl q559) (al_c (lw_all_tbl q560) (al_c (q619) al_n)))))))))))))))
theorem at_cAI : al inT (Jvm.Bundle.chainSAtoms "java/lang/ArrayIndexOutOfBoundsException" ["java/lang/IndexOutOfBoundsException", "java/lang/RuntimeException", "java/lang/Exception"]) := (al_c (lw_all_tbl q697) (al_c (lw_all_tbl q698) (al_c (lw_all_tbl q699) (al_c (lw_all_tbl q700) (al_c (q712) (al_c (lw_all_tbl q700) (al_c (lw_all_tbl q701) (al_c (lw_all_tbl q702) (al_c (lw_all_tbl q554) (al_c (q615) (al_c (lw_all_tbl q554) (al_c (lw_all_tbl q555) (al_c (lw_all_tbl q556) (al_c (lw_all_tbl q557) (al_c (q617) (al_c (lw_all_tbl q557) (al_c (lw_all_tbl q558) (al_c (lw_all_tbl q559) (al_c (lw_all_tbl q560) (al_c (q619) al_n))))))))))))))))))))
theorem at_cCC : al inT (Jvm.Bundle.chainSAtoms "java/lang/ClassCastException" ["java/lang/RuntimeException", "java/lang/Exception"]) := (al_c (lw_all_tbl q726) (al_c (lw_all_tbl q727) (al_c (lw_all_tbl q728) (al_c (lw_all_tbl q554) (al_c (q615) (al_c (lw_all_tbl q554) (al_c (lw_all_tbl q555) (al_c (lw_all_tbl q556) (al_c (lw_all_tbl q557) (al_c (q617) (al_c (lw_all_tbl q557) (al_c (lw_all_tbl q558) (al_c (lw_all_tbl q559) (al_c (lw_all_tbl q560) (al_c (q619) al_n)))))))))))))))
theorem at_cAS : al inT (Jvm.Bundle.chainSAtoms "java/lang/ArrayStoreException" ["java/lang/RuntimeException", "java/lang/Exception"]) := (al_c (lw_all_tbl q805) (al_c (lw_all_tbl q806) (al_c (lw_all_tbl q807) (al_c (lw_all_tbl q554) (al_c (q615) (al_c (lw_all_tbl q554) (al_c (lw_all_tbl q555) (al_c (lw_all_tbl q556) (al_c (lw_all_tbl q557) (al_c (q617) (al_c (lw_all_tbl q557) (al_c (lw_all_tbl q558) (al_c (lw_all_tbl q559) (al_c (lw_all_tbl q560) (al_c (q619) al_n)))))))))))))))
theorem at_cNA : al inT (Jvm.Bundle.chainSAtoms "java/lang/NegativeArraySizeException" ["java/lang/RuntimeException", "java/lang/Exception"]) := (al_c (lw_all_tbl q551) (al_c (lw_all_tbl q552) (al_c (lw_all_tbl q553) (al_c (lw_all_tbl q554) (al_c (q615) (al_c (lw_all_tbl q554) (al_c (lw_all_tbl q555) (al_c (lw_all_tbl q556) (al_c (lw_all_tbl q557) (al_c (q617) (al_c (lw_all_tbl q557) (al_c (lw_all_tbl q558) (al_c (lw_all_tbl q559) (al_c (lw_all_tbl q560) (al_c (q619) al_n)))))))))))))))
theorem nwU {w : WE} {s : State} (hK : KW w s) : (Jvm.Cond.isRef (Jvm.Term.static Jvm.Bundle.tN "UNASSIGNED_STACK" Jvm.Bundle.steD)).before (a0 w) (ws0 w) = true := (an2 (an1 (an2 (an1 (an1 (an1 (an1 (an1 (an2 hK.2.1)))))))))
theorem nwS {w : WE} {s : State} (hK : KW w s) : (Jvm.Cond.isRef (Jvm.Term.static Jvm.Bundle.tN "SUPPRESSED_SENTINEL" Jvm.Bundle.listD)).before (a0 w) (ws0 w) = true := (an1 (an2 (an2 (an1 (an1 (an1 (an1 (an1 (an2 hK.2.1)))))))))
def Tc (w : WE) (X : String) (a : Nat) (H : Heap) : Prop := ∃ cell : Cell, H[a]? = some cell ∧ (ws0 w).vm.findClass X = some cell.cls ∧ cell.vm = .none
theorem Rp.two {w : WE} {A : Hp} {H H' : Heap} {j : Nat} (h : Rp w A H) (hz : H'.size = H.size + j) (ho : ∀ q : Nat, q < H.size → H'[q]? = H[q]?) : Rp w (A.1, A.2 + j) H' := by
  have hA := h.1
  refine ⟨by rw [hz, hA], Nat.le_trans h.2.1 (Nat.le_add_right _ _), fun q x hx => ?_, fun q hq => ?_⟩
  · exact (h.2.2.1 q x hx).kept (ho q (h.2.2.1 q x hx).lt)
  · rw [ho q (by have := h.2.1; omega)]
    exact h.2.2.2 q hq
theorem sv_warm {w : WE} {s : State} {v : Vm} (h : (sv w s).WarmedH v) : s.WarmedH v := h
theorem warm_sv {w : WE} {s : State} {v : Vm} (h : s.WarmedH v) : (sv w s).WarmedH v := h
def xrest (X : String) : List Cond := [.initialized X, .instantiable X 6, .selects X Jvm.Bundle.tFill0 Jvm.Bundle.tFill0, .selects X Jvm.Bundle.tFill Jvm.Bundle.tFill, .lays X Jvm.Bundle.tN "cause" "Ljava/lang/Throwable;", .lays X Jvm.Bundle.tN "stackTrace" Jvm.Bundle.steD, .lays X Jvm.Bundle.tN "suppressedExceptions" Jvm.Bundle.listD, .lays X Jvm.Bundle.tN "detailMessage" "Ljava/lang/String;", .lays X Jvm.Bundle.tN "backtrace" "Ljava/lang/Object;"]
def XW (X : String) (names : List String) : Prop := Jvm.Bundle.fit X = true ∧ (∀ n ∈ names, Jvm.Bundle.fit n = true) ∧ names.length ≤ 3 ∧ (X == "java/lang/StackOverflowError") = false ∧ (X == "java/lang/OutOfMemoryError") = false ∧ al inT (Jvm.Bundle.chainSAtoms X names) ∧ (Jvm.Bundle.chainSAtoms X names).all Jvm.Cond.keepsFace = true ∧ al inT (xrest X)
theorem xwIO : XW "java/lang/IndexOutOfBoundsException" ["java/lang/RuntimeException", "java/lang/Exception"] := ⟨by decide, by decide, by decide, by decide, by decide, at_cIO, rfl, (al_c (lw_all_tbl q66) (al_c (lw_all_tbl q835) (al_c (lw_all_tbl q837) (al_c (lw_all_tbl q573) (al_c (lw_all_tbl q838) (al_c (lw_all_tbl q839) (al_c (lw_all_tbl q840) (al_c (lw_all_tbl q841) (al_c (lw_all_tbl q842) al_n)))))))))⟩
theorem xwAI : XW "java/lang/ArrayIndexOutOfBoundsException" ["java/lang/IndexOutOfBoundsException", "java/lang/RuntimeException", "java/lang/Exception"] := ⟨by decide, by decide, by decide, by decide, by decide, at_cAI, rfl, (al_c (lw_all_tbl q67) (al_c (lw_all_tbl q696) (al_c (lw_all_tbl q713) (al_c (lw_all_tbl q570) (al_c (lw_all_tbl q705) (al_c (lw_all_tbl q706) (al_c (lw_all_tbl q708) (al_c (lw_all_tbl q704) (al_c (lw_all_tbl q703) al_n)))))))))⟩
theorem xwCC : XW "java/lang/ClassCastException" ["java/lang/RuntimeException", "java/lang/Exception"] := ⟨by decide, by decide, by decide, by decide, by decide, at_cCC, rfl, (al_c (lw_all_tbl q62) (al_c (lw_all_tbl q725) (al_c (lw_all_tbl q737) (al_c (lw_all_tbl q572) (al_c (lw_all_tbl q731) (al_c (lw_all_tbl q732) (al_c (lw_all_tbl q734) (al_c (lw_all_tbl q730) (al_c (lw_all_tbl q729) al_n)))))))))⟩
theorem xwAS : XW "java/lang/ArrayStoreException" ["java/lang/RuntimeException", "java/lang/Exception"] := ⟨by decide, by decide, by decide, by decide, by decide, at_cAS, rfl, (al_c (lw_all_tbl q64) (al_c (lw_all_tbl q804) (al_c (lw_all_tbl q816) (al_c (lw_all_tbl q571) (al_c (lw_all_tbl q810) (al_c (lw_all_tbl q811) (al_c (lw_all_tbl q813) (al_c (lw_all_tbl q809) (al_c (lw_all_tbl q808) al_n)))))))))⟩
theorem xwNA : XW "java/lang/NegativeArraySizeException" ["java/lang/RuntimeException", "java/lang/Exception"] := ⟨by decide, by decide, by decide, by decide, by decide, at_cNA, rfl, (al_c (lw_all_tbl q65) (al_c (lw_all_tbl q550) (al_c (lw_all_tbl q620) (al_c (lw_all_tbl q574) (al_c (lw_all_tbl q604) (al_c (lw_all_tbl q606) (al_c (lw_all_tbl q610) (al_c (lw_all_tbl q602) (al_c (lw_all_tbl q600) al_n)))))))))⟩
section THROW
variable {w : WE} {p : Program} {e : Env} {R : Room} {s : State} {m : MethodId} {args : Array Value} {below : List Frame} {meth : Method} {c : Code} {T' : State} {locs : List Loc} {k n : Nat} {A : Hp}
set_option maxHeartbeats 2000000 in
theorem npe_go (hexec : p.tables.exec = Jvm.exec) (hK : KW w s) (htr : e.platform.stackTraces = false) (hR : Rp w A T'.heap) (X : Stand p w.1 e R s m args below meth c T' locs k n) {g : JFrame} (hg : g.method = m) (hsize : g.locals.size = c.maxLocals)
    (hRf : 7 < R.frames) (hRl : 2 * g.monitorRoom + (g.stack.map fun v => v.category).sum + 10240 ≤ R.locals) (hRc : k + 1 ≤ R.cells) (hRs : n + 8 ≤ R.slots) :
    ∃ (T2 : State) (L2 : List Loc), Stand p w.1 e R s m args below meth c T2 (locs ++ L2) (k + 1) (n + 8) ∧ (∀ q ∈ L2, wb w ≤ q.base) ∧ Rp w (A.1, A.2 + 1) T2.heap ∧ Tc w "java/lang/NullPointerException" A.2 T2.heap ∧
      ∀ target, Steps p.tables e below ((T2.setTop g).pushFrame (.throwing A.2)) target → Steps p.tables e below ((T'.setTop g).pushFrame (.throwNew "java/lang/NullPointerException" none none)) target := by
  have howns : e.platform.frameOwnsMonitors = true := by rw [X.admits.platform]
  have hfin : e.platform.finalization = false := by rw [X.admits.platform]
  have hpl : e.platform.magicAccessors = ({} : Platform).magicAccessors := by rw [X.admits.platform]
  have hpl2 : e.platform.arrayCloneIsPublic = true := by rw [X.admits.platform]
  have hsz := hR.1
  obtain ⟨T, Z, L, LZ, Y⟩ := Jvm.ThrowableC.of_atoms (args := a0 w) (s := sv w s) (pl := e.platform) howns hfin hpl (al_at hK at_thr rfl)
  obtain ⟨N, LN, hcN, hnNF, hordN, hffS⟩ := Jvm.NpeC.of_atoms (args := a0 w) hpl hpl2 L Y (al_at hK at_npe rfl)
  obtain ⟨P1, L1, hP1m, hP1s⟩ := Jvm.PassC.of_atoms (args := a0 w) (s := sv w s) hpl (by decide) (by decide) Jvm.LibCode.NullPointerException.Init0.at_0 Jvm.LibCode.NullPointerException.Init0.at_1 Jvm.LibCode.NullPointerException.Init0.at_4 (al_at hK at_p1 rfl)
  obtain ⟨P2, L2, hP2m, hP2s⟩ := Jvm.PassC.of_atoms (args := a0 w) (s := sv w s) hpl (by decide) (by decide) Jvm.LibCode.RuntimeException.Init0.at_0 Jvm.LibCode.RuntimeException.Init0.at_1 Jvm.LibCode.RuntimeException.Init0.at_4 (al_at hK at_p2 rfl)
  obtain ⟨P3, L3, hP3m, hP3s⟩ := Jvm.PassC.of_atoms (args := a0 w) (s := sv w s) hpl (by decide) (by decide) Jvm.LibCode.Exception.Init0.at_0 Jvm.LibCode.Exception.Init0.at_1 Jvm.LibCode.Exception.Init0.at_4 (al_at hK at_p3 rfl)
  have hfound : (sv w s).vm.findClass "java/lang/NullPointerException" = some P1.m.cls := findClass_of_methodNamed hP1m
  have ecls : N.cN = P1.m.cls := Option.some.inj (hcN.symm.trans hfound)
  have hk : (sv w s).vm.classes[P1.m.cls]? = some N.kN := by rw [← ecls]; exact LN.cls
  have hinit := Jvm.Cond.initialized_spec hfound hk (wAt hK (lw_all_tbl q61) rfl)
  have hctor : N.kN.findMethod "<init>" "()V" = some P1.m.idx := findMethod_of_methodNamed hP1m hk
  obtain ⟨c1, k1, hc1, hk1, -, -, -, hn⟩ := Jvm.Cond.instantiable_spec (wAt (c := Jvm.Cond.instantiable "java/lang/NullPointerException" 8) hK (lw_all_tbl q581) rfl)
  cases Option.some.inj (hc1.symm.trans hfound)
  cases Option.some.inj (hk1.symm.trans hk)
  have hlink1 : P1.sup = P2.m := Option.some.inj (hP1s.symm.trans hP2m)
  have hlink2 : P2.sup = P3.m := Option.some.inj (hP2s.symm.trans hP3m)
  have hlink3 : P3.sup = Z.m T.toThrowableT := Option.some.inj (hP3s.symm.trans Y.init0)
  have hsel0 : selectMethod e.platform (sv w s).vm P1.m.cls T.fill0 = .method T.fill0 := by
    obtain ⟨c2, r2, m2, q1, q2, q3, q4, -⟩ := Jvm.Cond.selects_spec (wAt (c := Jvm.Cond.selects "java/lang/NullPointerException" Jvm.Bundle.tFill0 Jvm.Bundle.tFill0) hK (lw_all_tbl q693) rfl)
    cases Option.some.inj (q1.symm.trans hfound)
    cases Option.some.inj (q2.symm.trans (State.methodFound?_of_named Y.fill0 (by decide)))
    cases Option.some.inj (q3.symm.trans Y.fill0)
    rw [Launch.admits_selectMethod X.admits]; exact q4
  have hselF : selectMethod e.platform (sv w s).vm P1.m.cls T.fill = .method N.fill := by
    obtain ⟨c2, r2, m2, q1, q2, q3, q4, -⟩ := Jvm.Cond.selects_spec (wAt (c := Jvm.Cond.selects "java/lang/NullPointerException" Jvm.Bundle.tFill Jvm.Bundle.nFill) hK (lw_all_tbl q575) rfl)
    cases Option.some.inj (q1.symm.trans hfound)
    cases Option.some.inj (q2.symm.trans (State.methodFound?_of_named Y.fill (by decide)))
    cases Option.some.inj (q3.symm.trans hnNF)
    rw [Launch.admits_selectMethod X.admits]; exact q4
  obtain ⟨cellS, hcS0, hiss⟩ := Y.statics
  have hnU := Jvm.Cond.before_shiftedFace (Jvm.State.Shifted.of_warmed hK.2.2.2) _ rfl (nwU hK)
  have hnS := Jvm.Cond.before_shiftedFace (Jvm.State.Shifted.of_warmed hK.2.2.2) _ rfl (nwS hK)
  obtain ⟨u0, hu0⟩ := Jvm.Cond.staticRefV Y.unassigned L.unassignedStatic L.statics hcS0 hiss hnU
  obtain ⟨sen, hsen⟩ := Jvm.Cond.staticRefV Y.sentinel L.sentinelStatic L.statics hcS0 hiss hnS
  have haS : T.aS < wb w := (Array.getElem?_eq_some_iff.mp hcS0).1
  have hcellS : T'.heap[T.aS]? = some cellS := (hR.2.2.2 _ haS).trans hcS0
  have hknownS : cellS.vm ≠ .unknown := by
    intro hu
    rw [hu] at hiss
    cases hiss
  obtain ⟨ci198, i198, fB, hk198, hg198, ha198, hsB, -, hnB, htB, hffB⟩ := Jvm.Cond.ownField (t := .object "java/lang/Object") Y.found L.cls (by decide +kernel) (wAt (c := Jvm.Cond.fieldLink Jvm.Bundle.tN 198 Jvm.Bundle.tN "backtrace" "Ljava/lang/Object;") hK (lw_all_tbl q595) rfl) (wAt (c := Jvm.Cond.lays Jvm.Bundle.tN Jvm.Bundle.tN "backtrace" "Ljava/lang/Object;") hK (lw_all_tbl q625) rfl) e.platform hpl
  obtain ⟨tyC, dC, hdC, hdnC⟩ := Jvm.Cond.laysAt hfound hk Y.cause (wAt (c := Jvm.Cond.lays "java/lang/NullPointerException" Jvm.Bundle.tN "cause" "Ljava/lang/Throwable;") hK (lw_all_tbl q688) rfl)
  obtain ⟨tyS, dS, hdS, hdnS⟩ := Jvm.Cond.laysAt hfound hk Y.stack (wAt (c := Jvm.Cond.lays "java/lang/NullPointerException" Jvm.Bundle.tN "stackTrace" Jvm.Bundle.steD) hK (lw_all_tbl q689) rfl)
  obtain ⟨tyP, dP, hdP, hdnP⟩ := Jvm.Cond.laysAt hfound hk Y.supp (wAt (c := Jvm.Cond.lays "java/lang/NullPointerException" Jvm.Bundle.tN "suppressedExceptions" Jvm.Bundle.listD) hK (lw_all_tbl q691) rfl)
  obtain ⟨tyX, dX, hdX, hdnX⟩ := Jvm.Cond.laysAt hfound hk hffS (wAt (c := Jvm.Cond.lays "java/lang/NullPointerException" "java/lang/NullPointerException" "extendedMessageState" "I") hK (lw_all_tbl q682) rfl)
  obtain ⟨tyB, dB, hdB, hdnB⟩ := Jvm.Cond.laysAt hfound hk hffB (wAt (c := Jvm.Cond.lays "java/lang/NullPointerException" Jvm.Bundle.tN "backtrace" "Ljava/lang/Object;") hK (lw_all_tbl q686) rfl)
  have hnX : N.fState.name = "extendedMessageState" := (State.fieldFound?_type hffS (t := .int) (by decide +kernel)).1
  have bC := Jvm.Cond.laysApart hdB hdC hdnB hdnC (by rw [hnB, Y.causeName]; decide)
  have bS := Jvm.Cond.laysApart hdB hdS hdnB hdnS (by rw [hnB, Y.stackName]; decide)
  have bP := Jvm.Cond.laysApart hdB hdP hdnB hdnP (by rw [hnB, Y.suppName]; decide)
  have bX := Jvm.Cond.laysApart hdB hdX hdnB hdnX (by rw [hnB, hnX]; decide)
  have hskip : SkipFacts T e.platform (sv w s) (fun u => u) u0 ((npeCell N.toNpeT (preparedCellV T.toThrowableT (freshCell P1.m.cls N.kN) T'.heap.size u0 sen) T'.cur).withEntry T'.cur) :=
    ⟨{ ci198 := ci198, i198 := i198, fBack := fB }, ⟨hk198, hg198, ha198, hsB⟩, by
      have := fresh_default (c := P1.m.cls) tyB
      rw [htB] at this
      simpa [npeCell, preparedCellV, Cell.setSlot, Cell.withEntry, Array.getElem?_setIfInBounds, bC, bS, bP, bX, bC.symm, bS.symm, bP.symm, bX.symm, defaultValue] using this, fun _ _ => rfl⟩
  have h : At T' g.method c below := by rw [hg]; exact X.here
  obtain ⟨hbeyond, hfreeW⟩ := X.vmMayThrow hsize (.throwNew "java/lang/NullPointerException" none none) (fun f hf => by cases hf) rfl hRl
  have hfr' : T'.frames.length + 2 + 5 < (e.platform.stackLimits T'.me).1 := by have := X.framesAbove hRf; omega
  have hwd' : (stackUse (.java g :: T'.frames.tail)).2 + 13 * 2 + 68 ≤ (e.platform.stackLimits T'.me).2 := by have := X.stackAbove hsize (K := 13 * 2 + 68) (by omega); omega
  obtain ⟨vm', hW', st⟩ := Jvm.Steps.vmThrowsNpeColdByV p (s₀ := sv w s) (S := T') (g := g) h hexec T L Z LZ N LN (warm_sv X.warmed) (t := T'.cur) rfl P1 L1 [P2, P3] (fun P hP => by
      simp only [List.mem_cons, List.not_mem_nil, or_false] at hP
      rcases hP with rfl | rfl
      · exact L2
      · exact L3) hlink1 ⟨hlink2, hlink3, trivial⟩ hfound hk hinit hordN hctor
    (Launch.admits_hotImplicitExceptions X.admits) hbeyond hfreeW (X.cellsAbove hRc) (by rw [hn]; exact X.slotsAbove hRs)
    (Nn := fun u => u) heapOnly_id (fun _ _ => rfl) (fun _ => rfl) (fun u x y => setCell_twice _ _ _ _) (fun _ => Nat.le_refl _) (cN := ((npeCell N.toNpeT (preparedCellV T.toThrowableT (freshCell P1.m.cls N.kN) T'.heap.size u0 sen) T'.cur).withEntry T'.cur))
    hsel0 hcellS hknownS hu0 (by rw [fresh_default tyX, LN.stateInt]; rfl)
    (Jvm.Cond.laysApart hdC hdX hdnC hdnX (by rw [Y.causeName, hnX]; decide)) (Jvm.Cond.laysApart hdS hdX hdnS hdnX (by rw [Y.stackName, hnX]; decide)) (Jvm.Cond.laysApart hdP hdX hdnP hdnX (by rw [Y.suppName, hnX]; decide))
    (Takes.of_laid hk hordN tyS (by rw [Y.stackType]; exact fits_refV_array _ u0)) (Takes.of_laid hk hordN tyX (by rw [LN.stateInt]; rfl)) (fun _ hu => hu) (fun _ hu => hu) rfl rfl rfl (by simp [npeCell, preparedCellV, Cell.setSlot, Cell.withEntry]) hskip
    (fun _ _ hA hW _ hroom _ hrest => L.nativeOff p htr hA hW hroom hrest) hselF hsen (Takes.of_laid hk hordN tyC (by rw [Y.causeType]; rfl)) (Takes.of_laid hk hordN tyP (by rw [Y.suppType]; exact fits_refV_object _ sen)) Y.objLocals rfl hfr' hwd'
  rw [npeBareV_eq T.toThrowableT N.toNpeT T'.heap.size u0 sen T'.cur rfl rfl] at st
  have X2 := (X.pushed (freshCell P1.m.cls N.kN)).noted (sv_warm hW')
  have hz2 : ((T'.pushCell (freshCell P1.m.cls N.kN)).setVm vm').heap.size = T'.heap.size + 1 := State.heap_size_pushCell _ _
  have ha : T'.heap.size < ((T'.pushCell (freshCell P1.m.cls N.kN)).setVm vm').heap.size := by rw [hz2]; omega
  have hcell : ((T'.pushCell (freshCell P1.m.cls N.kN)).setVm vm').heap[T'.heap.size]? = some (freshCell P1.m.cls N.kN) := State.heap_pushCell_size T' (freshCell P1.m.cls N.kN)
  have X3 := ((((X2.stored hcell T.fCause.slot (.ref T'.heap.size)).storedAgain ha T.fStack.slot u0.v).storedAgain ha T.fSupp.slot sen.v).storedAgain ha N.fState.slot (.int 1)).storedAgain ha T.fStack.slot u0.v
  have hfs : (freshCell P1.m.cls N.kN).slots.size = 8 := by simp [hn]
  rw [hfs] at X3
  simp only [List.append_assoc] at X3
  refine ⟨_, _, X3, ?_, ?_, ?_, ?_⟩
  · intro q hq
    have hb : q.base = T'.heap.size := by
      simp only [List.cons_append, List.nil_append, List.mem_cons, List.not_mem_nil, or_false] at hq
      rcases hq with rfl | rfl | rfl | rfl | rfl <;> rfl
    rw [hb, hsz]
    exact hR.2.1
  · refine hR.two (j := 1) ?_ (fun q hq => ?_)
    · exact (size_setCell _ _ _).trans hz2
    · refine (heapAt_setCell_ne _ (Nat.ne_of_gt hq)).trans ?_
      exact State.heap_pushCell_of_lt _ _ hq
  · rw [← hsz]
    exact ⟨_, heapAt_setCell_self _ ha, by rw [← hK.2.2.2.alike.findClass]; exact hfound, rfl⟩
  · intro target ht
    rw [← hsz] at ht
    refine st target ?_
    obtain ⟨g₁, hfrM⟩ := X3.frames_eq
    rw [X.tail]
    rw [State.pushFrame, State.frames_setTop _ hfrM, State.setTop_of_frames _ hfrM, State.setFrames_setFrames] at ht
    exact ht
set_option maxHeartbeats 2000000 in
theorem msg_go (hexec : p.tables.exec = Jvm.exec) (hK : KW w s) (htr : e.platform.stackTraces = false) (hR : Rp w A T'.heap) (X : Stand p w.1 e R s m args below meth c T' locs k n) {g : JFrame} (hg : g.method = m) (hsize : g.locals.size = c.maxLocals)
    {xc text : String} {names : List String} {b : Nat} (hx : XW xc names) (htext : (text == notModelled) = false) (hb : (stringBytes (stringToUtf16 text)).size ≤ b) (hb2 : b ≤ 1000)
    (hRf : 7 < R.frames) (hRl : 2 * g.monitorRoom + (g.stack.map fun v => v.category).sum + 10240 ≤ R.locals) (hRc : k + 3 ≤ R.cells) (hRs : n + (b + 10) ≤ R.slots) :
    ∃ (T2 : State) (L2 : List Loc), Stand p w.1 e R s m args below meth c T2 (locs ++ L2) (k + 3) (n + (b + 10)) ∧ (∀ q ∈ L2, wb w ≤ q.base) ∧ Rp w (A.1, A.2 + 3) T2.heap ∧ Tc w xc (A.2 + 2) T2.heap ∧
      ∀ target, Steps p.tables e below ((T2.setTop g).pushFrame (.throwing (A.2 + 2))) target → Steps p.tables e below ((T'.setTop g).pushFrame (.throwNew xc (some text) none)) target := by
  obtain ⟨hcls, hnames, hlen3, hsoe, hoom, hchain, hck, hrest⟩ := hx
  obtain ⟨wi, wn, w0, wF, wC, wS, wP, wM, wB, -⟩ := hrest
  have howns : e.platform.frameOwnsMonitors = true := by rw [X.admits.platform]
  have hfin : e.platform.finalization = false := by rw [X.admits.platform]
  have hpl : e.platform.magicAccessors = ({} : Platform).magicAccessors := by rw [X.admits.platform]
  have hal : e.platform.arrayLengthLimit = ({} : Platform).arrayLengthLimit := by rw [X.admits.platform]
  have hmh : e.platform.maxHeapBytes = ({} : Platform).maxHeapBytes := by rw [X.admits.platform]
  have hsz := hR.1
  obtain ⟨T, Z0, L, -, Y⟩ := Jvm.ThrowableC.of_atoms (args := a0 w) (s := sv w s) (pl := e.platform) howns hfin hpl (al_at hK at_thr rfl)
  obtain ⟨Z, M, LZ, LM, hnZ⟩ := Jvm.Init0T.ofS_atoms (args := a0 w) hpl L Y (al_at hK at_thS rfl)
  obtain ⟨P1, Ps, hlen, L1, hL, hP1m, hlink1, hlink⟩ := Jvm.Bundle.chainS (args := a0 w) hpl hnZ names xc hcls hnames (al_at hK hchain hck)
  obtain ⟨Zs, LZs, hn4, hfitv, hfitc⟩ := Jvm.StringT.of_atoms (args := a0 w) (s := sv w s) (al_at hK at_str rfl)
  have hfound : (sv w s).vm.findClass xc = some P1.m.cls := findClass_of_methodNamed hP1m
  obtain ⟨c1, kX, hc1, hk, hord, -, -, hn6⟩ := Jvm.Cond.instantiable_spec (wAt hK wn rfl)
  cases Option.some.inj (hc1.symm.trans hfound)
  have hinit := Jvm.Cond.initialized_spec hfound hk (wAt hK wi rfl)
  have hctor : kX.findMethod "<init>" "(Ljava/lang/String;)V" = some P1.m.idx := findMethod_of_methodNamed hP1m hk
  have hsel0 : selectMethod e.platform (sv w s).vm P1.m.cls T.fill0 = .method T.fill0 := by
    obtain ⟨c2, r2, m2, q1, q2, q3, q4, -⟩ := Jvm.Cond.selects_spec (wAt hK w0 rfl)
    cases Option.some.inj (q1.symm.trans hfound)
    cases Option.some.inj (q2.symm.trans (State.methodFound?_of_named Y.fill0 (by decide)))
    cases Option.some.inj (q3.symm.trans Y.fill0)
    rw [Launch.admits_selectMethod X.admits]; exact q4
  have hselF : selectMethod e.platform (sv w s).vm P1.m.cls T.fill = .method T.fill := by
    obtain ⟨c2, r2, m2, q1, q2, q3, q4, -⟩ := Jvm.Cond.selects_spec (wAt hK wF rfl)
    cases Option.some.inj (q1.symm.trans hfound)
    cases Option.some.inj (q2.symm.trans (State.methodFound?_of_named Y.fill (by decide)))
    cases Option.some.inj (q3.symm.trans Y.fill)
    rw [Launch.admits_selectMethod X.admits]; exact q4
  obtain ⟨cellS, hcS0, hiss⟩ := Y.statics
  have hnU := Jvm.Cond.before_shiftedFace (Jvm.State.Shifted.of_warmed hK.2.2.2) _ rfl (nwU hK)
  have hnS := Jvm.Cond.before_shiftedFace (Jvm.State.Shifted.of_warmed hK.2.2.2) _ rfl (nwS hK)
  obtain ⟨u0, hu0⟩ := Jvm.Cond.staticRefV Y.unassigned L.unassignedStatic L.statics hcS0 hiss hnU
  obtain ⟨sen, hsen⟩ := Jvm.Cond.staticRefV Y.sentinel L.sentinelStatic L.statics hcS0 hiss hnS
  have haS : T.aS < wb w := (Array.getElem?_eq_some_iff.mp hcS0).1
  have hcellS : T'.heap[T.aS]? = some cellS := (hR.2.2.2 _ haS).trans hcS0
  have hknownS : cellS.vm ≠ .unknown := by
    intro hu
    rw [hu] at hiss
    cases hiss
  obtain ⟨ci198, i198, fB, hk198, hg198, ha198, hsB, -, hnB, htB, hffB⟩ := Jvm.Cond.ownField (t := .object "java/lang/Object") Y.found L.cls (by decide +kernel) (wAt (c := Jvm.Cond.fieldLink Jvm.Bundle.tN 198 Jvm.Bundle.tN "backtrace" "Ljava/lang/Object;") hK (lw_all_tbl q595) rfl) (wAt (c := Jvm.Cond.lays Jvm.Bundle.tN Jvm.Bundle.tN "backtrace" "Ljava/lang/Object;") hK (lw_all_tbl q625) rfl) e.platform hpl
  obtain ⟨iM, hffM⟩ := Y.msg
  obtain ⟨tyC, dC, hdC, hdnC⟩ := Jvm.Cond.laysAt hfound hk Y.cause (wAt hK wC rfl)
  obtain ⟨tyS, dS, hdS, hdnS⟩ := Jvm.Cond.laysAt hfound hk Y.stack (wAt hK wS rfl)
  obtain ⟨tyP, dP, hdP, hdnP⟩ := Jvm.Cond.laysAt hfound hk Y.supp (wAt hK wP rfl)
  obtain ⟨tyM, dM, hdM, hdnM⟩ := Jvm.Cond.laysAt hfound hk hffM (wAt hK wM rfl)
  obtain ⟨tyB, dB, hdB, hdnB⟩ := Jvm.Cond.laysAt hfound hk hffB (wAt hK wB rfl)
  have bC := Jvm.Cond.laysApart hdB hdC hdnB hdnC (by rw [hnB, Y.causeName]; decide)
  have bS := Jvm.Cond.laysApart hdB hdS hdnB hdnS (by rw [hnB, Y.stackName]; decide)
  have bP := Jvm.Cond.laysApart hdB hdP hdnB hdnP (by rw [hnB, Y.suppName]; decide)
  have hskip : SkipFacts T e.platform (sv w s) (fun u => u) u0 ((preparedCellV T.toThrowableT (freshCell P1.m.cls kX) (T'.heap.size + 2) u0 sen).withEntry T'.cur) :=
    ⟨{ ci198 := ci198, i198 := i198, fBack := fB }, ⟨hk198, hg198, ha198, hsB⟩, by
      have := fresh_default (c := P1.m.cls) tyB
      rw [htB] at this
      simpa [preparedCellV, Cell.setSlot, Cell.withEntry, Array.getElem?_setIfInBounds, bC, bS, bP, bC.symm, bS.symm, bP.symm, defaultValue] using this, fun _ _ => rfl⟩
  have h : At T' g.method c below := by rw [hg]; exact X.here
  obtain ⟨hbeyond, hfreeW⟩ := X.vmMayThrow hsize (.throwNew xc (some text) none) (fun f hf => by cases hf) rfl hRl
  have hfr' : T'.frames.length + Ps.length + 4 < (e.platform.stackLimits T'.me).1 := by have := X.framesAbove hRf; omega
  have hwd' : (stackUse (.java g :: T'.frames.tail)).2 + 13 * Ps.length + 55 ≤ (e.platform.stackLimits T'.me).2 := by have := X.stackAbove hsize (K := 13 * Ps.length + 55) (by omega); omega
  have hslots : T'.slotsUsed + (stringBytes (stringToUtf16 text)).size + Zs.kS.instanceTypes.size + kX.instanceTypes.size ≤ e.platform.maxSlots := by have := X.slotsAbove hRs; omega
  obtain ⟨vm', hW', st⟩ := Jvm.Steps.vmThrowsMessageColdByV p (s₀ := sv w s) (S := T') (g := g) h hexec T L Z LZ M LM (warm_sv X.warmed) (t := T'.cur) rfl Zs LZs P1 L1 Ps hL hlink1 hlink hsoe hoom hfound hk hinit hord hctor
    (Launch.admits_hotImplicitExceptions X.admits) hbeyond hfreeW htext (by rw [hal]; show ¬ _ > 2147483645; omega) (by rw [hmh]; show ¬ _ * 1 > 536870912; omega) (X.cellsAbove hRc) hslots (hfitv _) (hfitc _)
    (Nn := fun u => u) heapOnly_id (fun _ _ => rfl) (fun _ => rfl) (fun u x y => setCell_twice _ _ _ _) (fun _ => Nat.le_refl _) (cN := ((preparedCellV T.toThrowableT (freshCell P1.m.cls kX) (T'.heap.size + 2) u0 sen).withEntry T'.cur))
    hsel0 hcellS hknownS hu0 (Takes.of_laid hk hord tyS (by rw [Y.stackType]; exact fits_refV_array _ u0)) (fun _ hu => hu) (fun _ hu => hu) rfl rfl rfl (by simp [preparedCellV, Cell.setSlot, Cell.withEntry]) hskip
    (fun _ _ hA hW _ hroom _ hrest => L.nativeOff p htr hA hW hroom hrest) hselF hsen (Takes.of_laid hk hord tyC (by rw [Y.causeType]; rfl)) (Takes.of_laid hk hord tyP (by rw [Y.suppType]; exact fits_refV_object _ sen)) (Takes.of_laid hk hord tyM (by rw [Y.msgType]; rfl)) Y.objLocals rfl hfr' hwd'
  rw [plainBareV_eq T.toThrowableT (T'.heap.size + 2) u0 sen (.ref (T'.heap.size + 1)) T'.cur rfl rfl] at st
  obtain ⟨-, -, w3, w4, w5, -, -⟩ := withThrown_facts e.platform T' Zs text P1.m.cls kX
  have X3 := ((X.pushed (bytesOf Zs.cB (stringToUtf16 text))).pushed (stringAt Zs.cS Zs.kS Zs.fv Zs.fc (stringToUtf16 text) T'.heap.size)).pushed (freshCell P1.m.cls kX)
  rw [← withString_eq] at X3
  have X4 := X3.noted (sv_warm hW')
  have ha : (T'.heap.size + 2) < ((withThrown T' Zs text P1.m.cls kX).setVm vm').heap.size := by show _ < (withThrown T' Zs text P1.m.cls kX).heap.size; rw [w3]; omega
  have hcell : ((withThrown T' Zs text P1.m.cls kX).setVm vm').heap[(T'.heap.size + 2)]? = some (freshCell P1.m.cls kX) := w4
  have X5 := ((((X4.stored hcell T.fCause.slot (.ref (T'.heap.size + 2))).storedAgain ha T.fStack.slot u0.v).storedAgain ha T.fSupp.slot sen.v).storedAgain ha T.fStack.slot u0.v).storedAgain ha T.fMsg.slot (.ref (T'.heap.size + 1))
  have b1 : (bytesOf Zs.cB (stringToUtf16 text)).slots.size = (stringBytes (stringToUtf16 text)).size := by
    rw [(Cell.writeAll_facts _ _).2.2]; simp [bytes0]
  have b2 : (stringAt Zs.cS Zs.kS Zs.fv Zs.fc (stringToUtf16 text) T'.heap.size).slots.size = 4 := by simp [string0, Cell.setSlot, hn4]
  have b3 : (freshCell P1.m.cls kX).slots.size = 6 := by simp [hn6]
  rw [b1, b2, b3] at X5
  simp only [List.append_assoc] at X5
  have X6 := stand_widen (k := k + 3) (n := n + (b + 10)) X5 (Nat.le_refl _) (by omega)
  refine ⟨_, _, X6, ?_, ?_, ?_, ?_⟩
  · intro q hq
    have hb : q.base = T'.heap.size + 2 := by
      simp only [List.cons_append, List.nil_append, List.mem_cons, List.not_mem_nil, or_false] at hq
      rcases hq with rfl | rfl | rfl | rfl | rfl <;> rfl
    rw [hb, hsz]
    exact Nat.le_trans hR.2.1 (Nat.le_add_right _ _)
  · refine hR.two (j := 3) ?_ (fun q hq => ?_)
    · exact (size_setCell _ _ _).trans w3
    · refine (heapAt_setCell_ne _ (Nat.ne_of_gt (Nat.lt_of_lt_of_le hq (Nat.le_add_right _ 2)))).trans ?_
      exact w5 q hq
  · rw [← hsz]
    exact ⟨_, heapAt_setCell_self _ ha, by rw [← hK.2.2.2.alike.findClass]; exact hfound, rfl⟩
  · intro target ht
    rw [← hsz] at ht
    refine st target ?_
    obtain ⟨g₁, hfrM⟩ := X5.frames_eq
    rw [X.tail]
    rw [State.pushFrame, State.frames_setTop _ hfrM, State.setTop_of_frames _ hfrM, State.setFrames_setFrames] at ht
    exact ht
end THROW
