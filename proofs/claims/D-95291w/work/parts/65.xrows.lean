/-! ROWS FOR THE CLASS: rows of references, casts, statics, min, max -/
set_option maxRecDepth 100000
def SiteC (own : String) (idx ci : Nat) : Prop := ∃ (C : String) (T : u_T) (N : Nat) (nm : String), clA[ci]? = some (C, T, N) ∧ Cond.classLink own idx nm ∈ lw_all ∧ (nm = C ∨ Cond.castable C nm ∈ lw_tbl)
/-- an object of the class ci may lie in a row of objects -/
def CaO (ci : Nat) (E : String) : Prop := ∃ (C : String) (T : u_T) (N : Nat), clA[ci]? = some (C, T, N) ∧ (E = C ∨ Cond.castable C E ∈ lw_tbl)
section XROWS
variable {w : WE} {M : MI} {R : Room} {Z : ZT} {k n : Nat} {A : Hp} {pc : Nat} {lo : List (Option Value)} {st : List Value}
theorem r_castY {idx a ci : Nat} {fs : List Value} (nx : Nat) (hd : decode M.2.1 pc = .ok (.checkcast idx, 3)) (hn : pc + 3 = nx) (S : SiteC M.1.cls idx ci) (hA : A.1 a = some (.inr (ci, fs))) (K : Rn w M R Z k n A nx lo (.ref a :: st)) : Rn w M R Z k n A pc lo (.ref a :: st) := by
  subst hn
  intro p e s m args below meth c H locs ls C hR hL hl
  obtain ⟨Cn, T, N, nm, hc, hlink, hca⟩ := S
  have hr := va_recv C.k.K (rp_one hR hA) (ci := ci) (q0 := 0) hc rfl
  rcases hca with rfl | hca
  · exact va_castS C.x C.b C.own (C.ts _ hlink) (C.k.K.1 ci _ hc).2 hr hd (K p e s m args below meth c H locs ls C hR hL hl)
  · exact va_castY C.x C.b C.own (C.ts _ hlink) (C.k.cast hca) hr hd (K p e s m args below meth c H locs ls C hR hL hl)
theorem r_aaldT {t a N : Nat} {g : Nat → Option Nat} {ty : FieldType} {i : Int32} {v : Nat} (nx : Nat) (hd : decode M.2.1 pc = .ok (.aaload, 1)) (hn : pc + 1 = nx) (ht : (tyA w)[t]? = some (w.2.2.1 t, ty)) (hty : ty.isReference = true) (hA : A.1 a = some (eR w t N g)) (j : Nat) (hi : i = nI j) (hj : j < N) (hN : N < 2 ^ 31) (hv : g j = some v) (K : Rn w M R Z k n A nx lo (.ref v :: st)) : Rn w M R Z k n A pc lo (.int i :: .ref a :: st) := by
  subst hn
  subst hi
  intro p e s m args below meth c H locs ls C hR hL hl
  have hin := vp_in_nI hj hN
  have hcl := nI_clamp (n := j) (by omega)
  refine W.aald (v := .ref v) (ty := ty) C.x C.b (hR.at hA (ex0R hj)) ((C.k.K.2 t _ ht).1 N (fun j => va_rf (g j))) hty (fun q => by cases q) (by show ¬ (nI j < 0 ∨ (arrV _ _ _).slots.size ≤ _); rw [arrV_size]; exact hin) (by show (arrV _ _ _).slots[_]? = _; rw [hcl, arrV_read _ _ hj, hv]; rfl) rfl rfl hd (K p e s m args below meth c H locs ls C hR hL hl)
theorem r_aaldN {t a N : Nat} {g : Nat → Option Nat} {ty : FieldType} {i : Int32} (nx : Nat) (hd : decode M.2.1 pc = .ok (.aaload, 1)) (hn : pc + 1 = nx) (ht : (tyA w)[t]? = some (w.2.2.1 t, ty)) (hty : ty.isReference = true) (hA : A.1 a = some (eR w t N g)) (j : Nat) (hi : i = nI j) (hj : j < N) (hN : N < 2 ^ 31) (hv : g j = none) (K : Rn w M R Z k n A nx lo (.null :: st)) : Rn w M R Z k n A pc lo (.int i :: .ref a :: st) := by
  subst hn
  subst hi
  intro p e s m args below meth c H locs ls C hR hL hl
  have hin := vp_in_nI hj hN
  have hcl := nI_clamp (n := j) (by omega)
  refine W.aald (v := .null) (ty := ty) C.x C.b (hR.at hA (ex0R hj)) ((C.k.K.2 t _ ht).1 N (fun j => va_rf (g j))) hty (fun q => by cases q) (by show ¬ (nI j < 0 ∨ (arrV _ _ _).slots.size ≤ _); rw [arrV_size]; exact hin) (by show (arrV _ _ _).slots[_]? = _; rw [hcl, arrV_read _ _ hj, hv]; rfl) rfl rfl hd (K p e s m args below meth c H locs ls C hR hL hl)
theorem r_aastO {t a N ci v : Nat} {g : Nat → Option Nat} {E : String} {i : Int32} {fs : List Value} (nx : Nat) (hd : decode M.2.1 pc = .ok (.aastore, 1)) (hn : pc + 1 = nx) (ht : (tyA w)[t]? = some (w.2.2.1 t, .object E)) (S : CaO ci E) (hA : A.1 a = some (eR w t N g)) (hv : A.1 v = some (.inr (ci, fs))) (hb : wb w ≤ a) (j : Nat) (hi : i = nI j) (hj : j < N) (hN : N < 2 ^ 31) (K : Rn w M R Z k n (hp_up A a (eR w t N (va_up g j (some v)))) nx lo st) : Rn w M R Z k n A pc lo (.ref v :: .int i :: .ref a :: st) := by
  subst hn
  subst hi
  intro p e s m args below meth c H locs ls C hR hL hl
  obtain ⟨Cn, T, NN, hc, hca⟩ := S
  have hcl := nI_clamp (n := j) (by omega)
  obtain ⟨r', hr', cellV, g1, g2, g3, -⟩ := hR.at hv
  have hcls := (C.k.K.1 ci _ hc).2
  obtain ⟨kA, comp, k1, k2, k3, -⟩ := (C.k.K.2 t _ ht).2
  obtain ⟨kE, hkE, -⟩ := Vm.findClass_spec k3
  obtain ⟨kC, hkC, -⟩ := hcls.2
  have hasg : s.vm.assignable (w.2.1.1 ci) comp = true := by
    rcases hca with rfl | hca
    · have hcomp : comp = w.2.1.1 ci := Option.some.inj (k3.symm.trans hcls.1)
      rw [hcomp]
      exact va_assign hcls
    · obtain ⟨c0, t1, f1, f2, f3⟩ := Cond.castable_spec (va_Nw.use (A := args) rfl (C.k.cast hca))
      cases hcls.1.symm.trans f1
      cases k3.symm.trans f2
      exact f3
  refine W.aast C.x C.b (hR.at hA (ex0R hj)) (fun q h => by cases h) (fun h => by cases h) k1 k2 rfl hkE ⟨nI_pos (by omega), by rw [hcl]; show _ < (arrV _ _ _).slots.size; rw [arrV_size]; exact hj⟩ g1 (fun q h => by rw [g3] at h; cases h) (by rw [g2]; exact hkC) (by rw [g2]; exact hasg) rfl rfl hd fun H1 e1 z oq => ?_
  rw [hcl] at e1 ⊢
  refine K p e s m args below meth c H1 _ ls C (hR.up hb ?_ z oq) (lc_app hL hb) hl
  show H1[a]? = some (vp_cell _ _)
  rw [e1, vp_cell_q, vp_cell_q, arrV_store]
  congr 2
  funext q
  by_cases hq : q = j
  · subst hq
    simp [updV, va_up, va_rf]
  · simp [updV, va_up, hq]
theorem r_aastN {t a N : Nat} {g : Nat → Option Nat} {E : String} {i : Int32} (nx : Nat) (hd : decode M.2.1 pc = .ok (.aastore, 1)) (hn : pc + 1 = nx) (ht : (tyA w)[t]? = some (w.2.2.1 t, .object E)) (hA : A.1 a = some (eR w t N g)) (hb : wb w ≤ a) (j : Nat) (hi : i = nI j) (hj : j < N) (hN : N < 2 ^ 31) (K : Rn w M R Z k n (hp_up A a (eR w t N (va_up g j none))) nx lo st) : Rn w M R Z k n A pc lo (.null :: .int i :: .ref a :: st) := by
  subst hn
  subst hi
  intro p e s m args below meth c H locs ls C hR hL hl
  have hcl := nI_clamp (n := j) (by omega)
  have hin := vp_in_nI hj hN
  refine va_WaastN (C := E) C.x C.b (hR.at hA (ex0R hj)) ((C.k.K.2 t _ ht).1 N (fun j => va_rf (g j))) (fun h => by cases h) (by show ¬ (nI j < 0 ∨ (arrV _ _ _).slots.size ≤ _); rw [arrV_size]; exact hin) rfl rfl hd fun H1 e1 z oq => ?_
  rw [hcl] at e1 ⊢
  refine K p e s m args below meth c H1 _ ls C (hR.up hb ?_ z oq) (lc_app hL hb) hl
  show H1[a]? = some (vp_cell _ _)
  rw [e1, vp_cell_q, vp_cell_q, arrV_store]
  congr 2
  funext q
  by_cases hq : q = j
  · subst hq
    simp [updV, va_up, va_rf]
  · simp [updV, va_up, hq]
theorem r_anew {t N idx : Nat} {C0 : String} {i : Int32} (nx : Nat) (hd : decode M.2.1 pc = .ok (.anewarray idx, 3)) (hn : pc + 3 = nx) (hlink : Cond.classLink M.1.cls idx C0 ∈ lw_all) (hov : Cond.arrayOver (.object C0) ∈ lw_tbl) (ht : (tyA w)[t]? = some (w.2.2.1 t, .object C0)) (hi : i = nI N) (hN : N < 2 ^ 26) (h1 : k + 1 ≤ R.cells) (h2 : n + N ≤ R.slots)
    (K : (∀ (q : Nat) (e : va_E), A.1 q = some e → q < A.2) → wb w ≤ A.2 → Rn w M R Z (k + 1) (n + N) (hp_new A (eR w t N (fun _ => none))) nx lo (.ref A.2 :: st)) : Rn w M R Z k n A pc lo (.int i :: st) := by
  subst hn
  subst hi
  intro p e s m args below meth c H locs ls C hR hL hl
  have hcl := nI_clamp (n := N) (by omega)
  have hAO : va_AO C0 s := va_AO.moved C.k.2.2.2.alike (va_AO.of (C.k.1 _ hov))
  refine W.anew C.x C.b C.own (C.ts _ hlink) (va_AO.use hAO) rfl hd rfl (nI_pos (by omega)) (by rw [hcl]; omega) h1 (by rw [hcl]; exact h2) fun cA kA comp f1 f2 f3 f4 => ?_
  rw [hcl]
  have hlt := hR.lt
  have h0 := hR.2.1
  have hsz := hR.1
  have hcA : cA = w.2.2.1 t := by
    obtain ⟨-, -, -, -, -, h4⟩ := (C.k.K.2 t _ ht).2
    exact Option.some.inj (f1.symm.trans h4)
  subst hcA
  generalize hH1 : H.push ({ cls := w.2.2.1 t, slots := Array.replicate N .null, vm := .none } : Cell) = H1
  have z1 : H1.size = H.size + 1 := by rw [← hH1, Array.size_push]
  have e1 : H1[H.size]? = some (arrV (w.2.2.1 t) N (fun _ => .null)) := by rw [← hH1, Array.getElem?_push_size, ← arrV_new]
  have o1 : ∀ q : Nat, q < H.size → H1[q]? = H[q]? := fun q hq => by rw [← hH1, Array.getElem?_push, if_neg (Nat.ne_of_lt hq)]
  have hR' : Rp w (hp_new A (eR w t N (fun _ => none))) H1 := hR.new (by
    show H1[H.size]? = some (vp_cell _ _)
    rw [e1]
    rfl) z1 o1
  rw [hsz]
  exact K hlt h0 p e s m args below meth c H1 locs ls C hR' hL hl
/-- a static that nobody writes holds v at the claim's start -/
abbrev KZ (w : WE) (C n d : String) (v : Value) : Prop := va_Z C n d v (fun q => wb w ≤ q) (ws0 w) (ws0 w).heap
theorem r_gets {idx : Nat} {C0 n0 d0 : String} {v : Value} (nx : Nat) (hd : decode M.2.1 pc = .ok (.getstatic idx, 3)) (hn : pc + 3 = nx) (hlink : Cond.fieldLink M.1.cls idx C0 n0 d0 ∈ lw_all) (hZ : KZ w C0 n0 d0 v) (K : Rn w M R Z k n A nx lo (v :: st)) : Rn w M R Z k n A pc lo st := by
  subst hn
  intro p e s m args below meth c H locs ls C hR hL hl
  obtain ⟨cf, kf, fi, f, a, cell, h1, h2, h3, h4, h5, h6, h7, h8⟩ := va_Z.moved C.k.2.2.2.alike hZ
  have ha : a < wb w := (Array.getElem?_eq_some_iff.mp h5).1
  exact W.gets C.x C.b C.own (C.ts _ hlink) h1 h2 h3 h4 (by rw [hR.2.2.2 a ha]; exact h5) (fun e => by rw [e] at h6; cases h6) h7 rfl hd (K p e s m args below meth c H locs ls C hR hL hl)
theorem r_acmp_eq {x y : Nat} {off : Int} (tgt nx : Nat) (hd : decode M.2.1 pc = .ok (.if_acmp .eq off, 3)) (hn : pc + 3 = nx) (ht : (pc : Int) + off = (tgt : Int)) (K1 : x = y → Rn w M R Z k n A tgt lo st) (K2 : ¬ x = y → Rn w M R Z k n A nx lo st) : Rn w M R Z k n A pc lo (.ref y :: .ref x :: st) := by
  subst hn
  intro p e s m args below meth c H locs ls C hR hL hl
  exact lv_acmp_eq (rx := some x) (ry := some y) C.x C.b hd ht (fun h => K1 (Option.some.inj h) p e s m args below meth c H locs ls C hR hL hl) (fun h => K2 (fun q => h (by rw [q])) p e s m args below meth c H locs ls C hR hL hl)
theorem r_acmp_ne {x y : Nat} {off : Int} (tgt nx : Nat) (hd : decode M.2.1 pc = .ok (.if_acmp .ne off, 3)) (hn : pc + 3 = nx) (ht : (pc : Int) + off = (tgt : Int)) (K1 : ¬ x = y → Rn w M R Z k n A tgt lo st) (K2 : x = y → Rn w M R Z k n A nx lo st) : Rn w M R Z k n A pc lo (.ref y :: .ref x :: st) := by
  subst hn
  intro p e s m args below meth c H locs ls C hR hL hl
  exact lv_acmp_ne (rx := some x) (ry := some y) C.x C.b hd ht (fun h => K1 (fun q => h (by rw [q])) p e s m args below meth c H locs ls C hR hL hl) (fun h => K2 (Option.some.inj h) p e s m args below meth c H locs ls C hR hL hl)
theorem r_mmin {idx : Nat} {x y : Int32} (nx : Nat) (hd : decode M.2.1 pc = .ok (.invokestatic idx, 3)) (hn : pc + 3 = nx) (hlink : Cond.methodLink M.1.cls idx Lib.Math.min.name ∈ lw_all) (hok : decide (1 ≤ R.frames) && decide ((st.map fun v => v.category).sum + 13 ≤ R.locals) && decide (k ≤ R.cells) && decide (n ≤ R.slots) = true) (K : Rn w M R Z k n A nx lo (.int (if y < x then y else x) :: st)) : Rn w M R Z k n A pc lo (.int y :: .int x :: st) := by
  subst hn
  simp only [Bool.and_eq_true, decide_eq_true_eq] at hok
  intro p e s m args below meth c H locs ls C hR hL hl
  exact va_mmin C.x C.b (by rw [C.ml]; exact (lo_size hl).symm) C.own (C.ts _ hlink) (C.ts _ q234) (C.ts _ q68) (C.ts _ q235) hok.1.1.1 hok.1.1.2 hok.1.2 hok.2 hd (K p e s m args below meth c H locs ls C hR hL hl)
theorem r_mmax {idx : Nat} {x y : Int32} (nx : Nat) (hd : decode M.2.1 pc = .ok (.invokestatic idx, 3)) (hn : pc + 3 = nx) (hlink : Cond.methodLink M.1.cls idx Lib.Math.max.name ∈ lw_all) (hok : decide (1 ≤ R.frames) && decide ((st.map fun v => v.category).sum + 13 ≤ R.locals) && decide (k ≤ R.cells) && decide (n ≤ R.slots) = true) (K : Rn w M R Z k n A nx lo (.int (if x < y then y else x) :: st)) : Rn w M R Z k n A pc lo (.int y :: .int x :: st) := by
  subst hn
  simp only [Bool.and_eq_true, decide_eq_true_eq] at hok
  intro p e s m args below meth c H locs ls C hR hL hl
  exact va_mmax C.x C.b (by rw [C.ml]; exact (lo_size hl).symm) C.own (C.ts _ hlink) (C.ts _ q355) (C.ts _ q68) (C.ts _ q356) hok.1.1.1 hok.1.1.2 hok.1.2 hok.2 hd (K p e s m args below meth c H locs ls C hR hL hl)
theorem r_mminN {idx : Nat} {x y : Nat} (nx : Nat) (hd : decode M.2.1 pc = .ok (.invokestatic idx, 3)) (hn : pc + 3 = nx) (hlink : Cond.methodLink M.1.cls idx Lib.Math.min.name ∈ lw_all) (hok : decide (1 ≤ R.frames) && decide ((st.map fun v => v.category).sum + 13 ≤ R.locals) && decide (k ≤ R.cells) && decide (n ≤ R.slots) = true) (hx : x < 2 ^ 31) (hy : y < 2 ^ 31) (K : Rn w M R Z k n A nx lo (.int (nI (min x y)) :: st)) : Rn w M R Z k n A pc lo (.int (nI y) :: .int (nI x) :: st) := by
  refine r_mmin nx hd hn hlink hok ?_
  have e : (if nI y < nI x then nI y else nI x) = nI (min x y) := by
    by_cases h : y < x
    · rw [if_pos ((nI_ltI hy hx).mpr h), Nat.min_eq_right (by omega)]
    · rw [if_neg (fun q => h ((nI_ltI hy hx).mp q)), Nat.min_eq_left (by omega)]
  rw [e]
  exact K
theorem r_mmaxN {idx : Nat} {x y : Nat} (nx : Nat) (hd : decode M.2.1 pc = .ok (.invokestatic idx, 3)) (hn : pc + 3 = nx) (hlink : Cond.methodLink M.1.cls idx Lib.Math.max.name ∈ lw_all) (hok : decide (1 ≤ R.frames) && decide ((st.map fun v => v.category).sum + 13 ≤ R.locals) && decide (k ≤ R.cells) && decide (n ≤ R.slots) = true) (hx : x < 2 ^ 31) (hy : y < 2 ^ 31) (K : Rn w M R Z k n A nx lo (.int (nI (max x y)) :: st)) : Rn w M R Z k n A pc lo (.int (nI y) :: .int (nI x) :: st) := by
  refine r_mmax nx hd hn hlink hok ?_
  have e : (if nI x < nI y then nI y else nI x) = nI (max x y) := by
    by_cases h : x < y
    · rw [if_pos ((nI_ltI hx hy).mpr h), Nat.max_eq_right (by omega)]
    · rw [if_neg (fun q => h ((nI_ltI hx hy).mp q)), Nat.max_eq_left (by omega)]
  rw [e]
  exact K
end XROWS
