/-! THE CLASS: need -/
set_option maxRecDepth 100000
theorem r_ldcwS {w : WE} {M : MI} {R : Room} {Z : ZT} {k n : Nat} {A : Hp} {pc : Nat} {lo : List (Option Value)} {st : List Value} {idx : Nat} {tx : String} (nx : Nat) (hd : decode M.2.1 pc = .ok (.ldc_w idx, 3)) (hn : pc + 3 = nx) (hs : Jvm.Cond.stringRef M.1.cls idx tx ∈ lw_tbl) (K : ∀ a : Nat, Rn w M R Z k n A nx lo (.ref a :: st)) : Rn w M R Z k n A pc lo st := by
  subst hn
  intro p e s m args below meth c H locs ls C hR hL hl T hTH X
  have ha := C.k.2.2.2.alike
  have hown0 : (ws0 w).vm.findClass M.1.cls = some m.cls := by rw [← ha.findClass]; exact C.own
  obtain ⟨kc, cf, i, a, hk, hcf, hcp, -, hr, -⟩ := Jvm.Cond.stringRef_spec hown0 (C.k.1 _ hs)
  have hW := Jvm.State.WarmedH.trans C.k.2.2.2 X.warmed
  obtain ⟨k', hk', he⟩ := hW.alike.2.2 _ _ hk
  have hr' : k'.resolved[idx]? = some (some (.string a)) := by
    rcases hW.entry hk hk' idx with h | ⟨h, -⟩
    · rw [h]; exact hr
    · rw [hr] at h; cases h
  obtain ⟨t, a1, b1⟩ := K a p e s m args below meth c H locs ls C hR hL hl T hTH X
  refine ⟨t, ?_, b1⟩
  have hexec := C.x
  have hd' : decode c.code pc = .ok (.ldc_w idx, 3) := by rw [C.b]; exact hd
  jvm_step X.here [hexec, hd', Jvm.Op.ldc_w.wp_string (e := e) (s := T) (f := F0 m pc ls st) X.here.top hk' (by rw [he]; exact hcf) hcp hr']
  exact a1
theorem lw_ldcwS {w : WE} {M : MI} {R : Room} {p : Program} {e : Env} {s : State} {m : MethodId} {args : Array Value} {below : List Frame} {meth : Method} {c : Code} {H : Heap} {locs : List Loc} {k n pc : Nat} {ls : Array Slot} {st : List Value} {Q : State → Prop} {idx : Nat} {tx : String} (C : Cx w M p s m args meth c) (hd : decode M.2.1 pc = .ok (.ldc_w idx, 3)) (hs : Jvm.Cond.stringRef M.1.cls idx tx ∈ lw_tbl) (K : ∀ a : Nat, W p w.1 e R s m args below meth c H locs k n Q (F0 m (pc + 3) ls (.ref a :: st))) : W p w.1 e R s m args below meth c H locs k n Q (F0 m pc ls st) := by
  intro T hTH X
  have ha := C.k.2.2.2.alike
  have hown0 : (ws0 w).vm.findClass M.1.cls = some m.cls := by rw [← ha.findClass]; exact C.own
  obtain ⟨kc, cf, i, a, hk, hcf, hcp, -, hr, -⟩ := Jvm.Cond.stringRef_spec hown0 (C.k.1 _ hs)
  have hW := Jvm.State.WarmedH.trans C.k.2.2.2 X.warmed
  obtain ⟨k', hk', he⟩ := hW.alike.2.2 _ _ hk
  have hr' : k'.resolved[idx]? = some (some (.string a)) := by
    rcases hW.entry hk hk' idx with h | ⟨h, -⟩
    · rw [h]; exact hr
    · rw [hr] at h; cases h
  obtain ⟨t, a1, b1⟩ := K a T hTH X
  refine ⟨t, ?_, b1⟩
  have hexec := C.x
  have hd' : decode c.code pc = .ok (.ldc_w idx, 3) := by rw [C.b]; exact hd
  jvm_step X.here [hexec, hd', Jvm.Op.ldc_w.wp_string (e := e) (s := T) (f := F0 m pc ls st) X.here.top hk' (by rw [he]; exact hcf) hcp hr']
  exact a1
