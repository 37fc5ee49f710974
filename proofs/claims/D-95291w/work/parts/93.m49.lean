/-! an interface's default method -/
set_option maxRecDepth 100000
theorem lands {C : String} {x y : MethodName} {args : Array Value} {s : State} {c : ClassId} {r m : MethodId} (h : (Jvm.Cond.landsInDefault C x y).before args s = true) (hc : s.vm.findClass C = some c) (hr : s.methodFound? x.cls x.name x.desc = some r) (hm : s.methodNamed? y = some m) : selectMethod {} s.vm c r = .method m := by
  simp only [Jvm.Cond.before, Jvm.Cond.holds, Jvm.Cond.value, hc, hr, hm] at h
  cases h1 : s.vm.method? r with
  | none => simp [h1] at h
  | some rm =>
    simp only [h1, Option.map_some] at h
    cases h2 : selectMethod {} s.vm c r with
    | method m' =>
      rw [h2] at h
      simp at h
      rw [h.1.1.1.1]
    | _ => rw [h2] at h; simp at h
theorem r_yD {w : WE} {M : MI} {R : Room} {Z : ZT} {k n : Nat} {A : Hp} {pc : Nat} {lo : List (Option Value)} {st : List Value} {M' : MI} {d' mc' ms' : Nat} {Qo' : Option Value → Hp → Prop} {Qt' : String → Hp → Prop} {idx cnt b ci NN : Nat} {fs : List Value} {C0 : String} {TT : u_T} (nx : Nat) (hd : decode M.2.1 pc = .ok (.invokeinterface idx cnt, 5)) (hn : pc + 5 = nx) (hc : clA[ci]? = some (C0, TT, NN)) (hlk : Jvm.Cond.methodLink M.1.cls idx M'.1 ∈ lw_all) (hde : Jvm.Cond.declares M'.1 ∈ lw_tbl) (hif : Jvm.Cond.interfaceMethod M'.1.cls M'.1.cls M'.1.name M'.1.desc ∈ lw_tbl) (hin : Jvm.Cond.instanceMethod M'.1 ∈ lw_all) (hpu : Jvm.Cond.publicMethod M'.1 ∈ lw_tbl) (hun : Jvm.Cond.unhidden C0 M'.1.name M'.1.desc ∈ lw_tbl) (hca : Jvm.Cond.castable C0 M'.1.cls ∈ lw_tbl) (hld : ∀ s, KW w s → (Jvm.Cond.landsInDefault C0 M'.1 M'.1).before (a0 w) (ws0 w) = true) (hG : GoodIn lw_all (cdK M' none :: lw_all)) (hini : Jvm.Cond.initialized M'.1.cls ∈ lw_all) (hy : M'.1.cls ≠ "java/lang/invoke/MethodHandle" ∧ M'.1.cls ≠ "java/lang/invoke/VarHandle") (hN : (parseMethodDescriptor M'.1.desc).map (fun d => d.parameters.length) = some 0) (hA : A.1 b = some (.inr (ci, fs))) (hok : cOk R M'.2.2.1 d' mc' ms' k n st = true) (hE : EvY w M' none d' mc' ms' [.ref b] A Qo' Qt') (K : ∀ (v : Option Value) (A' : Hp), Qo' v A' → Rn w M R Z (k + mc') (n + ms') A' nx lo (v.toList ++ st)) (Kt : ∀ (x : String) (A' : Hp), Qt' x A' → Rt w M R Z (k + mc') (n + ms') A' pc lo x) : Rn w M R Z k n A pc lo (.ref b :: st) := by
  subst hn
  intro p e s m args below meth c H locs ls C hR hL hl T hT X
  subst hT
  have ha := C.k.2.2.2.alike
  obtain ⟨cellB, hcB, hoB, hclB⟩ := va_recv C.k.K (rp_one hR hA) (ci := ci) (q0 := 0) hc rfl
  obtain ⟨r0, r, hn0, hrm, hstR, hsigR⟩ := Jvm.Cond.declares_spec (wAt C.k hde rfl)
  obtain ⟨cL, kL, r1, hcL, hkL, hiL, hfoundL, hn1⟩ := Jvm.Cond.interfaceMethod_spec (C.k.1 _ hif)
  have hn0' : (ws0 w).methodNamed? M'.1 = some r0 := by
    have q : ((ws0 w).setVm s.vm).methodNamed? M'.1 = some r0 := hn0
    rw [State.methodNamed?_setVm ha] at q
    exact q
  cases hn0'.symm.trans hn1
  have hclB0 : (ws0 w).vm.findClass C0 = some cellB.cls := by rw [← ha.findClass]; exact hclB
  have hsel0 := lands (hld s C.k) hclB0 hfoundL hn0'
  have hselP : selectMethod e.platform s.vm cellB.cls r0 = .method r0 := by rw [Launch.admits_selectMethod X.admits, ha.selectMethod]; exact hsel0
  have hnS : s.methodNamed? M'.1 = some r0 := hn0
  have hr0cls : r0.cls = cL := Option.some.inj ((findClass_of_methodNamed hn0').symm.trans hcL)
  obtain ⟨kL', hkL', he'⟩ := ha.2.2 _ _ hkL
  obtain ⟨mk, methM, hnamed, hmethM, -, habM⟩ := Jvm.Cond.instanceMethod_spec (C.ts _ hin)
  cases hnS.symm.trans hnamed
  cases (show s.vm.method? r0 = some r from hrm).symm.trans hmethM
  obtain ⟨hnameR, hdescR⟩ := name_of_methodNamed hnS hmethM
  have hpubM := Jvm.Cond.publicMethod_spec hn0 hrm (wAt C.k hpu rfl)
  have hway : ((cellB.cls :: s.vm.superclasses cellB.cls).any fun k => (declaredIn s.vm r.name r.desc k).any fun (_, z) => z.isPrivate || z.isStatic) = false := by
    rw [hnameR, hdescR]; exact Jvm.Cond.unhidden_spec (s := sv w s) hclB (wAt C.k hun rfl)
  obtain ⟨c3, t3, w1, w2, w3⟩ := Jvm.Cond.castable_spec (wAt C.k hca rfl)
  cases (show s.vm.findClass C0 = some c3 from w1).symm.trans hclB
  have w2' : (ws0 w).vm.findClass M'.1.cls = some t3 := by
    rw [← ha.findClass]; exact w2
  cases hcL.symm.trans w2'
  obtain ⟨kB, hkB⟩ := Vm.classAt_of_findClass hclB
  obtain ⟨vm₁, X₁, hstep₁⟩ := X.invokeinterface C.x C.own (C.ts _ hlk) hnS hmethM hstR (ki := kL') (by rw [hr0cls]; exact hkL') (by rw [he']; exact hiL) hy (a := b) (cell := cellB) (kcell := kB) hcB
    (fun z h => by rw [h] at hoB; cases hoB) hkB (by rw [hr0cls]; exact w3) hselP hmethM hway hpubM habM (g := F0 m pc ls (.ref b :: st)) rfl (argsL := []) (rest := st) (len_of hN hsigR) rfl (by rw [C.b]; exact hd)
  obtain ⟨⟨hr1, hr2⟩, ⟨hr3, hr4⟩, hrest⟩ := cOk_s hok
  obtain ⟨T2, L, A', X2, hL2, hR2, h⟩ := inv_go C X₁ hR hG hnS hini hE (g := F0 m pc ls st) rfl (by rw [C.ml]; exact lo_size hl) (by rw [C.b]; exact hd) (by show 2 * 0 + (st.map fun v => v.category).sum ≤ 8; omega) hr1 hr2 hr3 hr4
  rcases h with ⟨v, hq, hst⟩ | ⟨a, x, htc, hq, hst⟩
  · obtain ⟨t, a1, b1⟩ := K v A' hq p e s m args below meth c T2.heap _ ls C hR2 (loc_app hL hL2) hl T2 rfl X2
    exact ⟨t, hstep₁ t (fun acts => (hst acts).trans a1), b1⟩
  · obtain ⟨t, a1, b1⟩ := Kt x A' hq p e s m args below meth c T2.heap _ ls st a C hR2 (loc_app hL hL2) hl htc T2 rfl X2
    exact ⟨t, hstep₁ t (fun acts => (hst acts).trans a1), b1⟩
