/-! ROWS OF THE HEAP: fields, arrays, new things -/
set_option maxRecDepth 100000
theorem rp_of {w : WE} {H : Heap} {a : Nat} {e : va_E} (h : va_at w.2.1 clA (a, e) H) : va_P w.2.1 clA [(a, e)] H := by
  intro k q hk
  match k, hk with
  | 0, hk => cases hk; exact h
  | k + 1, hk => simp at hk
theorem rp_one {w : WE} {A : Hp} {H : Heap} {a : Nat} {e : va_E} (hR : Rp w A H) (hA : A.1 a = some e) (hne : Ex0 e = false := by rfl) : va_P w.2.1 clA [(a, e)] H := rp_of (hR.at hA hne)
theorem lc_app {w : WE} {locs : List Loc} {a i : Nat} (h : ∀ q ∈ locs, wb w ≤ q.base) (ha : wb w ≤ a) : ∀ q ∈ locs ++ [(⟨a, i⟩ : Loc)], wb w ≤ q.base := t_lc (free := fun q => wb w ≤ q) h ha
/-- a field's entry of a pool, an object of the class ci: the field kf of its table -/
def SiteG (own : String) (idx ci kf : Nat) : Prop := ∃ (C : String) (T : u_T) (N : Nat) (ref : String), clA[ci]? = some (C, T, N) ∧ kf < N ∧ (∀ c ∈ u_ws C T N, c ∈ lw_all) ∧ Cond.fieldLink own idx ref (T kf).2.1 (T kf).2.2.1 ∈ lw_all ∧ (ref = (T kf).1 ∨ Cond.sameField ref (T kf).1 (T kf).2.1 (T kf).2.2.1 ∈ lw_all)
def SiteGN (own : String) (idx ci kf : Nat) : Prop := ∃ (C : String) (T : u_T) (N : Nat) (ref host : String), clA[ci]? = some (C, T, N) ∧ kf < N ∧ (∀ c ∈ u_ws C T N, c ∈ lw_all) ∧ Cond.fieldLinkNest own idx ref (T kf).2.1 (T kf).2.2.1 host ∈ lw_tbl ∧ (ref = (T kf).1 ∨ Cond.sameField ref (T kf).1 (T kf).2.1 (T kf).2.2.1 ∈ lw_all)
/-- a class's table: its types, its fields apart -/
def ClsW (ci : Nat) : Prop := ∃ (C : String) (T : u_T) (N : Nat) (ty : Nat → FieldType), clA[ci]? = some (C, T, N) ∧ (∀ c ∈ u_ws C T N, c ∈ lw_all) ∧ (∀ k, k < N → parseFieldDescriptor (T k).2.2.1 = some (ty k)) ∧ (∀ a, a < N → ∀ b, b < N → a ≠ b → (T a).2.1 ≠ (T b).2.1 ∨ ((T a).2.2.2 = true ∧ (T b).2.2.2 = true ∧ (T a).1 ≠ (T b).1))
def FldW (ci kf : Nat) (fin : Bool) (ty : FieldType) : Prop := ∃ (C : String) (T : u_T) (N : Nat), clA[ci]? = some (C, T, N) ∧ (T kf).2.2.2 = fin ∧ parseFieldDescriptor (T kf).2.2.1 = some ty
def FldO (ci kf : Nat) (own : String) : Prop := ∃ (C : String) (T : u_T) (N : Nat), clA[ci]? = some (C, T, N) ∧ (T kf).1 = own
theorem u_decl {args : Array Value} {s : State} {C O f d : String} (h : (Cond.lays C O f d).before args s = true ∨ (Cond.laysFinal C O f d).before args s = true) {cf fi : Nat} {kf : Class} {fd : Field} (hi : s.fieldFound? O f d = some (cf, kf, fi, fd)) : ∃ a e, s.vm.findClass C = some a ∧ Jmm.declares? s.vm fd.slot (a + 1) a = some e ∧ e.1.name = kf.name ∧ e.2.name = fd.name := by
  rcases h with h | h
  · obtain ⟨a, _, _, _, _, g, ha, _, hg, _, _, _, _, d, hd, h1, hn, _⟩ := Cond.lays_spec h
    cases hi.symm.trans hg
    exact ⟨a, d, ha, hd, h1, hn⟩
  · obtain ⟨a, _, _, _, _, g, ha, _, hg, _, _, _, _, _, d, hd, h1, hn, _⟩ := Cond.laysFinal_spec h
    cases hi.symm.trans hg
    exact ⟨a, d, ha, hd, h1, hn⟩
theorem u_ownN {args : Array Value} {s : State} {C O f d : String} (h : (Cond.laysFinal C O f d).before args s = true) {cf fi : Nat} {kf : Class} {fd : Field} (hi : s.fieldFound? O f d = some (cf, kf, fi, fd)) : kf.name = O := by
  obtain ⟨a, _, _, _, _, g, ha, _, hg, _, _, _, ho, _, d, hd, h1, hn, _⟩ := Cond.laysFinal_spec h
  cases hi.symm.trans hg
  obtain ⟨k, hk, hkn⟩ := Vm.findClass_spec ho
  have h2 := State.fieldFound?_class hi
  rw [h2] at hk
  cases hk
  exact hkn
theorem cls_apart {w : WE} {s : State} {args : Array Value} {ci : Nat} {C : String} {T : u_T} {N : Nat} (hts : ∀ x ∈ lw_all, x.before args s = true) (hK : va_K w.2.1 clA (tyA w) s) (S : ClsW ci) (hc : clA[ci]? = some (C, T, N)) : ∀ x y, x < N → y < N → x ≠ y → w.2.1.2 ci x ≠ w.2.1.2 ci y := by
  obtain ⟨C', T', N', ty, hc', hin, hty, hap⟩ := S
  rw [hc] at hc'
  cases hc'
  intro x y hx hy hne
  obtain ⟨hS, -⟩ := hK.1 ci _ hc
  obtain ⟨_, ka, _, fa, hia, ea⟩ := hS x hx
  obtain ⟨_, kb, _, fb, hib, eb⟩ := hS y hy
  dsimp only at hia hib ea eb
  rw [← ea, ← eb]
  have lx := u_lays hts hin hx
  have ly := u_lays hts hin hy
  obtain ⟨a1, e1, f1, g1, n1, m1⟩ := u_decl lx hia
  obtain ⟨a2, e2, f2, g2, n2, m2⟩ := u_decl ly hib
  cases f1.symm.trans f2
  intro hs
  rw [hs] at g1
  cases g1.symm.trans g2
  rcases hap x hx y hy hne with h | ⟨h1, h2, h3⟩
  · apply h
    rw [← (State.fieldFound?_type hia (hty x hx)).1, ← (State.fieldFound?_type hib (hty y hy)).1, ← m1, ← m2]
  · have lx' := hts _ (hin _ (u_in_lay hx))
    have ly' := hts _ (hin _ (u_in_lay hy))
    unfold u_lay at lx' ly'
    rw [if_pos h1] at lx'
    rw [if_pos h2] at ly'
    apply h3
    rw [← u_ownN lx' hia, ← u_ownN ly' hib, ← n1, ← n2]
section HROWS
variable {w : WE} {M : MI} {R : Room} {Z : ZT} {k n : Nat} {A : Hp} {pc : Nat} {lo : List (Option Value)} {st : List Value}
theorem r_get {idx ci kf a : Nat} {fs : List Value} {v : Value} (nx : Nat) (hd : decode M.2.1 pc = .ok (.getfield idx, 3)) (hn : pc + 3 = nx) (S : SiteG M.1.cls idx ci kf) (hA : A.1 a = some (.inr (ci, fs))) (hv : fs[kf]? = some v) (K : Rn w M R Z k n A nx lo (v :: st)) : Rn w M R Z k n A pc lo (.ref a :: st) := by
  subst hn
  intro p e s m args below meth c H locs ls C hR hL hl
  obtain ⟨Cn, T, N, ref, hc, hk, hin, hlink, hsame⟩ := S
  refine va_get C.x C.b C.ts hin C.own C.k.K (rp_one hR hA) 0 rfl hc kf hk (C.ts _ hlink) (fun x hx => ?_) hv hd (K p e s m args below meth c H locs ls C hR hL hl)
  rcases hsame with h | h
  · rw [h]; exact hx
  · exact u_same (C.ts _ h) x hx
theorem KW.nest {s : State} {args : Array Value} {a b nm d h : String} {i : Nat} (hK : KW w s) (hm : Cond.fieldLinkNest a i b nm d h ∈ lw_tbl) : (Cond.fieldLinkNest a i b nm d h).before args s = true := va_Nw.use rfl (va_Nw.warmF hK.2.2.2 (va_Nw.of rfl (hK.1 _ hm)))
theorem KW.nestM {s : State} {a h : String} {x : MethodName} {i : Nat} (hK : KW w s) (hm : Cond.methodLinkNest a i x h ∈ lw_tbl) : va_Nw (.methodLinkNest a i x h) s := va_Nw.warmM hK.2.2.2 (va_Nw.of rfl (hK.1 _ hm))
theorem KW.cast {s : State} {a b : String} (hK : KW w s) (hm : Cond.castable a b ∈ lw_tbl) : va_Nw (.castable a b) s := va_Nw.warmC hK.2.2.2 (va_Nw.of rfl (hK.1 _ hm))
theorem r_getN {idx ci kf a : Nat} {fs : List Value} {v : Value} (nx : Nat) (hd : decode M.2.1 pc = .ok (.getfield idx, 3)) (hn : pc + 3 = nx) (S : SiteGN M.1.cls idx ci kf) (hA : A.1 a = some (.inr (ci, fs))) (hv : fs[kf]? = some v) (K : Rn w M R Z k n A nx lo (v :: st)) : Rn w M R Z k n A pc lo (.ref a :: st) := by
  subst hn
  intro p e s m args below meth c H locs ls C hR hL hl
  obtain ⟨Cn, T, N, ref, host, hc, hk, hin, hlink, hsame⟩ := S
  refine va_getN C.x C.b C.ts hin C.own C.k.K (rp_one hR hA) 0 rfl hc kf hk (C.k.nest hlink) (fun x hx => ?_) hv hd (K p e s m args below meth c H locs ls C hR hL hl)
  rcases hsame with h | h
  · rw [h]; exact hx
  · exact u_same (C.ts _ h) x hx
theorem r_put {idx ci kf a : Nat} {fs fs' : List Value} {v : Value} {ty : FieldType} (nx : Nat) (hd : decode M.2.1 pc = .ok (.putfield idx, 3)) (hn : pc + 3 = nx) (S : SiteG M.1.cls idx ci kf) (SC : ClsW ci) (SF : FldW ci kf false ty) (hA : A.1 a = some (.inr (ci, fs))) (hb : wb w ≤ a) (hs : fs.set kf v = fs') (hl0 : kf < fs.length) (hnar : narrow ty v = v) (hfit : fits ty v = true) (K : Rn w M R Z k n (hp_up A a (.inr (ci, fs'))) nx lo st) : Rn w M R Z k n A pc lo (v :: .ref a :: st) := by
  subst hn
  subst hs
  intro p e s m args below meth c H locs ls C hR hL hl
  obtain ⟨Cn, T, N, ref, hc, hk, hin, hlink, hsame⟩ := S
  obtain ⟨Cn', T', N', hc', hfin, hpd⟩ := SF
  rw [hc] at hc'
  cases hc'
  have hap := cls_apart C.ts C.k.K SC hc
  obtain ⟨r, h1, cell, q1, q2, q3, q4⟩ := hR.at hA
  have hr : r = (Cn, T, N) := Option.some.inj (h1.symm.trans hc)
  subst hr
  obtain ⟨hS, hfc, kC, hkC, hkind⟩ := C.k.K.1 ci _ hc
  obtain ⟨cf, kff, fi, f, hi, hsl⟩ := hS kf hk
  have hlay := C.ts _ (hin _ (u_in_lay hk))
  unfold u_lay at hlay
  rw [if_neg (by rw [hfin]; decide)] at hlay
  have hst := (u_facts hfc hkC (u_lays C.ts hin hk) hi).1
  have h6 := u_store hfc hkC hkind hlay hi hpd hnar hfit
  have hsm : s.fieldFound? ref (T kf).2.1 (T kf).2.2.1 = some (cf, kff, fi, f) := by
    rcases hsame with h | h
    · rw [h]; exact hi
    · exact u_same (C.ts _ h) _ hi
  refine W.putK C.x C.b (f := f) ⟨C.own, C.ts _ hlink, ⟨_, _, _, hsm⟩, hst⟩ (by rw [q2]; exact h6) q1 q3 (by rw [hsl]; exact k2_hasslot (q4 kf hk)) rfl rfl hd fun H' e1 e2 e3 => ?_
  rw [hsl] at e1 ⊢
  exact K p e s m args below meth c H' _ ls C (hR.up hb ⟨_, hc, t_OB.to (V := updV (vp_V fs) kf v) ⟨_, e1, q2, q3, t_set q4 hap hk v⟩ (fun j _ => vp_updV_set hl0 v j)⟩ e2 e3) (lc_app hL hb) hl
theorem r_putF {idx ci kf a : Nat} {fs fs' : List Value} {v : Value} {ty : FieldType} (nx : Nat) (hd : decode M.2.1 pc = .ok (.putfield idx, 3)) (hn : pc + 3 = nx) (S : SiteG M.1.cls idx ci kf) (SC : ClsW ci) (SF : FldW ci kf true ty) (SO : FldO ci kf M.1.cls) (hnm : M.1.name = "<init>") (hA : A.1 a = some (.inr (ci, fs))) (hb : wb w ≤ a) (hs : fs.set kf v = fs') (hl0 : kf < fs.length) (hnar : narrow ty v = v) (hfit : fits ty v = true) (K : Rn w M R Z k n (hp_up A a (.inr (ci, fs'))) nx lo st) : Rn w M R Z k n A pc lo (v :: .ref a :: st) := by
  subst hn
  subst hs
  intro p e s m args below meth c H locs ls C hR hL hl
  obtain ⟨Cn, T, N, ref, hc, hk, hin, hlink, hsame⟩ := S
  obtain ⟨Cn', T', N', hc', hfin, hpd⟩ := SF
  rw [hc] at hc'
  cases hc'
  obtain ⟨Cn', T', N', hc', hown'⟩ := SO
  rw [hc] at hc'
  cases hc'
  have hap := cls_apart C.ts C.k.K SC hc
  obtain ⟨r, h1, cell, q1, q2, q3, q4⟩ := hR.at hA
  have hr : r = (Cn, T, N) := Option.some.inj (h1.symm.trans hc)
  subst hr
  obtain ⟨hS, hfc, kC, hkC, hkind⟩ := C.k.K.1 ci _ hc
  obtain ⟨cf, kff, fi, f, hi, hsl⟩ := hS kf hk
  have hlay := C.ts _ (hin _ (u_in_lay hk))
  unfold u_lay at hlay
  rw [if_pos hfin] at hlay
  have hst := (u_facts hfc hkC (u_lays C.ts hin hk) hi).1
  have h6 := u_fits hfc hkC hkind (u_lays C.ts hin hk) hi hpd hnar hfit
  have hsm : s.fieldFound? ref (T kf).2.1 (T kf).2.2.1 = some (cf, kff, fi, f) := by
    rcases hsame with h | h
    · rw [h]; exact hi
    · exact u_same (C.ts _ h) _ hi
  have hcf : m.cls = cf := by
    obtain ⟨_, _, _, _, _, g, _, _, hg, _, _, _, ho, _⟩ := Cond.laysFinal_spec hlay
    cases hi.symm.trans hg
    rw [hown'] at ho
    exact Option.some.inj (C.own.symm.trans ho)
  refine W.putFinK C.x C.b C.own (C.ts _ hlink) hsm hst hcf (C.nm.trans hnm) (by rw [q2]; exact h6) q1 q3 (by rw [hsl]; exact k2_hasslot (q4 kf hk)) rfl rfl hd fun H' e1 e2 e3 => ?_
  rw [hsl] at e1 ⊢
  exact K p e s m args below meth c H' _ ls C (hR.up hb ⟨_, hc, t_OB.to (V := updV (vp_V fs) kf v) ⟨_, e1, q2, q3, t_set q4 hap hk v⟩ (fun j _ => vp_updV_set hl0 v j)⟩ e2 e3) (lc_app hL hb) hl
/-- arrays: eI w t n f: n ints (t = 0), bytes (1), shorts (2); eR w t n g: references (t = 3: int arrays, 4: sheets, 5: objects) -/
abbrev eI (w : WE) (t n : Nat) (f : Nat → Int32) : va_E := .inl (w.2.2.1 t, n, .inl f)
abbrev eR (w : WE) (t n : Nat) (g : Nat → Option Nat) : va_E := .inl (w.2.2.1 t, n, .inr (.inr (.inr (.inr g))))
theorem ex0R {w : WE} {t N j : Nat} {g : Nat → Option Nat} (h : j < N) : Ex0 (eR w t N g) = false := by
  show (N == 0) = false
  rw [beq_eq_false_iff_ne]
  omega
theorem r_alen {t a : Nat} {x : vp_A} {ty : FieldType} (nx : Nat) (hd : decode M.2.1 pc = .ok (.arraylength, 1)) (hn : pc + 1 = nx) (ht : (tyA w)[t]? = some (w.2.2.1 t, ty)) (hA : A.1 a = some (.inl (w.2.2.1 t, x))) (K : Rn w M R Z k n A nx lo (.int (nI x.1) :: st)) : Rn w M R Z k n A pc lo (.ref a :: st) := by
  subst hn
  intro p e s m args below meth c H locs ls C hR hL hl
  rcases hR.2.2.1 a _ hA with h | ⟨-, h2, cell, h3, h4, h5⟩
  · exact va_alen C.x C.b C.k.K (rp_of h) 0 t rfl ht rfl hd (K p e s m args below meth c H locs ls C hR hL hl)
  · have h2 : x = (0, .inr (.inr (.inr (.inr (fun _ => none))))) := (Prod.mk.inj (Sum.inl.inj h2)).2
    subst h2
    exact W.alen (n := Int32.ofNat 0) C.x C.b h3 (State.isArrayOf_alike C.k.2.2.2.alike h5) (by rw [h4] <;> rfl) rfl rfl hd (K p e s m args below meth c H locs ls C hR hL hl)
theorem r_iald {a N : Nat} {f : Nat → Int32} {i : Int32} (nx : Nat) (hd : decode M.2.1 pc = .ok (.iaload, 1)) (hn : pc + 1 = nx) (hA : A.1 a = some (eI w 0 N f)) (j : Nat) (hi : i = nI j) (hj : j < N) (hN : N < 2 ^ 31) (K : Rn w M R Z k n A nx lo (.int (f j) :: st)) : Rn w M R Z k n A pc lo (.int i :: .ref a :: st) := by
  subst hn
  subst hi
  intro p e s m args below meth c H locs ls C hR hL hl
  refine va_iald C.x C.b C.k.K (rp_one hR hA) 0 0 rfl rfl (vp_in_nI hj hN) hd ?_
  rw [nI_clamp (by omega)]
  exact K p e s m args below meth c H locs ls C hR hL hl
theorem r_bald {a N : Nat} {f : Nat → Int32} {i : Int32} (nx : Nat) (hd : decode M.2.1 pc = .ok (.baload, 1)) (hn : pc + 1 = nx) (hA : A.1 a = some (eI w 1 N f)) (j : Nat) (hi : i = nI j) (hj : j < N) (hN : N < 2 ^ 31) (K : Rn w M R Z k n A nx lo (.int (f j) :: st)) : Rn w M R Z k n A pc lo (.int i :: .ref a :: st) := by
  subst hn
  subst hi
  intro p e s m args below meth c H locs ls C hR hL hl
  refine va_bald C.x C.b C.k.K (rp_one hR hA) 0 1 rfl rfl (vp_in_nI hj hN) hd ?_
  rw [nI_clamp (by omega)]
  exact K p e s m args below meth c H locs ls C hR hL hl
theorem r_sald {a N : Nat} {f : Nat → Int32} {i : Int32} (nx : Nat) (hd : decode M.2.1 pc = .ok (.saload, 1)) (hn : pc + 1 = nx) (hA : A.1 a = some (eI w 2 N f)) (j : Nat) (hi : i = nI j) (hj : j < N) (hN : N < 2 ^ 31) (K : Rn w M R Z k n A nx lo (.int (f j) :: st)) : Rn w M R Z k n A pc lo (.int i :: .ref a :: st) := by
  subst hn
  subst hi
  intro p e s m args below meth c H locs ls C hR hL hl
  refine va_sald C.x C.b C.k.K (rp_one hR hA) 0 2 rfl rfl (vp_in_nI hj hN) hd ?_
  rw [nI_clamp (by omega)]
  exact K p e s m args below meth c H locs ls C hR hL hl
theorem va_D1 {w : WE} {a : Nat} {e : va_E} : va_D (fun q => q = a) [(a, e)] := ⟨fun i j p q h1 h2 _ => by
    have := (List.getElem?_eq_some_iff.mp h1).1
    have := (List.getElem?_eq_some_iff.mp h2).1
    simp at *
    omega, fun k q hk => by
    have := (List.getElem?_eq_some_iff.mp hk).1
    have e0 : k = 0 := by simp at this; exact this
    subst e0
    cases hk
    rfl⟩
theorem r_iast {a N : Nat} {f : Nat → Int32} {i x : Int32} (nx : Nat) (hd : decode M.2.1 pc = .ok (.iastore, 1)) (hn : pc + 1 = nx) (hA : A.1 a = some (eI w 0 N f)) (hb : wb w ≤ a) (j : Nat) (hi : i = nI j) (hj : j < N) (hN : N < 2 ^ 31) (K : Rn w M R Z k n (hp_up A a (eI w 0 N (upd f j x))) nx lo st) : Rn w M R Z k n A pc lo (.int x :: .int i :: .ref a :: st) := by
  subst hn
  subst hi
  intro p e s m args below meth c H locs ls C hR hL hl
  have hat : H[a]? = some (vp_cell (w.2.2.1 0) (N, .inl f)) := hR.at hA
  have hcl := nI_clamp (n := j) (by omega)
  refine W.iast C.x C.b hat ((C.k.K.2 0 _ rfl).1 N (fun j => .int (f j))) (fun q => by cases q) (by show ¬ (nI j < 0 ∨ (arrV _ _ _).slots.size ≤ _); rw [arrV_size]; exact vp_in_nI hj hN) rfl rfl hd fun H1 e1 z oq => ?_
  rw [hcl] at e1 ⊢
  refine K p e s m args below meth c H1 _ ls C (hR.up hb ?_ z oq) (lc_app hL hb) hl
  show H1[a]? = some (vp_cell _ _)
  rw [e1, vp_cell_i, vp_cell_i, arrV_store]
  congr 2
  funext q
  by_cases hq : q = j
  · subst hq
    simp [updV, upd]
  · simp [updV, upd, hq]
theorem r_aald {t a N : Nat} {g : Nat → Option Nat} {ty : String} {i : Int32} (nx : Nat) (hd : decode M.2.1 pc = .ok (.aaload, 1)) (hn : pc + 1 = nx) (ht : (tyA w)[t]? = some (w.2.2.1 t, .object ty)) (hA : A.1 a = some (eR w t N g)) (j : Nat) (hi : i = nI j) (hj : j < N) (hN : N < 2 ^ 31) (K : Rn w M R Z k n A nx lo (va_rf (g j) :: st)) : Rn w M R Z k n A pc lo (.int i :: .ref a :: st) := by
  subst hn
  subst hi
  intro p e s m args below meth c H locs ls C hR hL hl
  refine va_aldq C.x C.b C.k.K (rp_one hR hA (ex0R hj)) 0 t rfl ht (vp_in_nI hj hN) hd ?_
  rw [nI_clamp (by omega)]
  exact K p e s m args below meth c H locs ls C hR hL hl
/-- new of a class of the table -/
def SiteN (own : String) (idx ci N : Nat) : Prop := ∃ (C : String) (T : u_T) (ty : Nat → FieldType), clA[ci]? = some (C, T, N) ∧ (∀ c ∈ u_ws C T N, c ∈ lw_all) ∧ (∀ k, k < N → parseFieldDescriptor (T k).2.2.1 = some (ty k)) ∧ Cond.classLink own idx C ∈ lw_all ∧ Cond.instantiable C N ∈ lw_all ∧ Cond.initialized C ∈ lw_all
def DefV (ci N : Nat) (fs : List Value) : Prop := ∃ (C : String) (T : u_T), clA[ci]? = some (C, T, N) ∧ ∀ j, j < N → ∀ ty, parseFieldDescriptor (T j).2.2.1 = some ty → defaultValue ty = vp_V fs j
theorem r_new {idx ci N : Nat} {fs : List Value} (nx : Nat) (hd : decode M.2.1 pc = .ok (.new idx, 3)) (hn : pc + 3 = nx) (S : SiteN M.1.cls idx ci N) (SD : DefV ci N fs) (h1 : k + 1 ≤ R.cells) (h2 : n + N ≤ R.slots) (K : (∀ (q : Nat) (e : va_E), A.1 q = some e → q < A.2) → wb w ≤ A.2 → Rn w M R Z (k + 1) (n + N) (hp_new A (.inr (ci, fs))) nx lo (.ref A.2 :: st)) : Rn w M R Z k n A pc lo st := by
  subst hn
  intro p e s m args below meth c H locs ls C hR hL hl
  obtain ⟨Cn, T, ty, hc, hin, hty, hcl, hinst, hini⟩ := S
  obtain ⟨Cn', T', hc', hdef⟩ := SD
  rw [hc] at hc'
  cases hc'
  have hKn := C.k.K.1 ci _ hc
  refine W.newcK C.x C.b C.own (C.ts _ hcl) (C.ts _ hinst) (C.ts _ hini) rfl hd h1 h2 hKn.2.1 rfl fun H1 kC hkC e1 z1 o1 => ?_
  have hlt := hR.lt
  have h0 := hR.2.1
  have hsz := hR.1
  have hR' : Rp w (hp_new A (.inr (ci, fs))) H1 := hR.new ⟨_, hc, (u_born ty C.ts hin hKn hkC e1 hty).to (fun j hj => hdef j hj _ (hty j hj))⟩ z1 o1
  rw [hsz]
  exact K hlt h0 p e s m args below meth c H1 locs ls C hR' hL hl
theorem r_newI {t N : Nat} {atype : ArrayType} {ty : FieldType} {i : Int32} (nx : Nat) (hd : decode M.2.1 pc = .ok (.newarray atype, 2)) (hn : pc + 2 = nx) (hty : newarray.typeOf atype = ty) (hw : Cond.arrayClass ty ∈ lw_all) (ht : (tyA w)[t]? = some (w.2.2.1 t, ty)) (hra : ∀ U cA, va_RA U cA ty → U.vm.findClass ("[" ++ ty.toString) = some cA) (hdef : defaultValue ty = .int 0) (hi : i = nI N) (hN : N < 2 ^ 26) (hbytes : componentBytes ty ≤ 8) (h1 : k + 1 ≤ R.cells) (h2 : n + N ≤ R.slots)
    (K : (∀ (q : Nat) (e : va_E), A.1 q = some e → q < A.2) → wb w ≤ A.2 → Rn w M R Z (k + 1) (n + N) (hp_new A (eI w t N (fun _ => 0))) nx lo (.ref A.2 :: st)) : Rn w M R Z k n A pc lo (.int i :: st) := by
  subst hn
  subst hi
  subst hty
  intro p e s m args below meth c H locs ls C hR hL hl
  refine va_newaK C.x C.b (C.ts _ hw) rfl hd rfl (nI_pos (by omega)) (nI_clamp (by omega)) ?_ h1 h2 rfl fun H1 cA e1 z1 o1 hAr hNm => ?_
  · exact Nat.le_trans (Nat.mul_le_mul_left N hbytes) (by omega)
  have hlt := hR.lt
  have h0 := hR.2.1
  have hsz := hR.1
  have hcA : cA = w.2.2.1 t := by
    have := hra _ _ (C.k.K.2 t _ ht).2
    exact Option.some.inj (hNm.symm.trans this)
  subst hcA
  have hR' : Rp w (hp_new A (eI w t N (fun _ => 0))) H1 := hR.new (by
    show H1[H.size]? = some (vp_cell _ _)
    rw [e1, hdef]
    rfl) z1 o1
  rw [hsz]
  exact K hlt h0 p e s m args below meth c H1 locs ls C hR' hL hl
theorem r_ifnonnull {a : Nat} {off : Int} (tgt : Nat) (hd : decode M.2.1 pc = .ok (.ifnonnull off, 3)) (ht : (pc : Int) + off = (tgt : Int)) (K : Rn w M R Z k n A tgt lo st) : Rn w M R Z k n A pc lo (.ref a :: st) := by
  intro p e s m args below meth c H locs ls C hR hL hl
  exact lv_ifnonnull C.x C.b hd ht (K p e s m args below meth c H locs ls C hR hL hl)
theorem r_ifnonnullN {off : Int} (nx : Nat) (hd : decode M.2.1 pc = .ok (.ifnonnull off, 3)) (hn : pc + 3 = nx) (K : Rn w M R Z k n A nx lo st) : Rn w M R Z k n A pc lo (.null :: st) := by
  subst hn
  intro p e s m args below meth c H locs ls C hR hL hl
  exact lv_ifnonnullN C.x C.b hd (K p e s m args below meth c H locs ls C hR hL hl)
theorem r_objInit {idx a : Nat} (nx : Nat) (hd : decode M.2.1 pc = .ok (.invokespecial idx, 3)) (hn : pc + 3 = nx) (h1 : Cond.methodLink M.1.cls idx objectInit ∈ lw_all) (h2 : Cond.instanceMethod objectInit ∈ lw_all) (h3 : Cond.code objectInit ⟨#[0xb1]⟩ 1 none ∈ lw_all) (hf : 1 ≤ R.frames) (hL0 : (st.map fun v => v.category).sum + 12 ≤ R.locals) (K : Rn w M R Z k n A nx lo st) : Rn w M R Z k n A pc lo (.ref a :: st) := by
  subst hn
  intro p e s m args below meth c H locs ls C hR hL hl
  refine W.objInit C.x C.b C.own (C.ts _ h1) (C.ts _ h2) (C.ts _ h3) rfl (by rw [C.ml]; exact lo_size hl) rfl hd hf ?_ (K p e s m args below meth c H locs ls C hR hL hl)
  have : (F0 m pc ls (.ref a :: st)).monitorRoom = 0 := by rfl
  rw [this]
  omega
end HROWS
