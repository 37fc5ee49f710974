/-! THE START: what it gives; the law's head; the claim -/
set_option maxRecDepth 100000
theorem cl_one {s0 : State} {b0 : Nat} (ht0 : ∀ w ∈ lw_tbl, w.before #[Value.ref b0] s0 = true) (k : Nat) (q : vw_C) (hq : clA[k]? = some q) : ∃ (cC : ClassId) (iS : Nat → Nat), u_Kn s0 q.1 q.2.1 q.2.2 cC iS := by
  match k, hq with
  | 0, hq => cases hq; exact u_known (n := 14) ht0 (fun w h => lw_all_tbl (in_X0 w h)) (ht0 _ (lw_all_tbl q84))
  | 1, hq => cases hq; exact u_known (n := 31) ht0 (fun w h => lw_all_tbl (in_X1 w h)) (ht0 _ (lw_all_tbl q1144))
  | 2, hq => cases hq; exact u_known (n := 3) ht0 (fun w h => lw_all_tbl (in_X5 w h)) (ht0 _ (lw_all_tbl q891))
  | 3, hq => cases hq; exact u_known (n := 7) ht0 (fun w h => lw_all_tbl (in_X6 w h)) (ht0 _ (lw_all_tbl q259))
  | 4, hq => cases hq; exact u_known (n := 8) ht0 (fun w h => lw_all_tbl (in_X7 w h)) (ht0 _ (lw_all_tbl q296))
  | 5, hq => cases hq; exact u_known (n := 9) ht0 (fun w h => lw_all_tbl (in_X8 w h)) (ht0 _ (lw_all_tbl q313))
  | 6, hq => cases hq; exact u_known (n := 1) ht0 (fun w h => lw_all_tbl (in_X11 w h)) (ht0 _ (lw_all_tbl q644))
  | 7, hq => cases hq; exact u_known (n := 3) ht0 (fun w h => lw_all_tbl (in_J2 w h)) (ht0 _ (lw_all_tbl q92))
  | 8, hq => cases hq; exact u_known (n := 7) ht0 (fun w h => lw_all_tbl (in_X4 w h)) (ht0 _ (lw_all_tbl q754))
  | 9, hq => cases hq; exact u_known (n := 8) ht0 (fun w h => lw_all_tbl (in_X9 w h)) (ht0 _ (lw_all_tbl q956))
  | 10, hq => cases hq; exact u_known (n := 7) ht0 (fun w h => lw_all_tbl (in_X10 w h)) (ht0 _ (lw_all_tbl q979))
  | 11, hq => cases hq; exact u_known (n := 7) ht0 (fun w h => lw_all_tbl (in_X12 w h)) (ht0 _ (lw_all_tbl q999))
  | 12, hq => cases hq; exact u_known (n := 4) ht0 (fun w h => lw_all_tbl (in_X13 w h)) (ht0 _ (lw_all_tbl q1112))
  | 13, hq => cases hq; exact u_known (n := 8) ht0 (fun w h => absurd h List.not_mem_nil) (ht0 _ (lw_all_tbl q581))
  | 14, hq => cases hq; exact u_known (n := 6) ht0 (fun w h => absurd h List.not_mem_nil) (ht0 _ (lw_all_tbl q725))
  | 15, hq => cases hq; exact u_known (n := 6) ht0 (fun w h => absurd h List.not_mem_nil) (ht0 _ (lw_all_tbl q804))
  | 16, hq => cases hq; exact u_known (n := 6) ht0 (fun w h => absurd h List.not_mem_nil) (ht0 _ (lw_all_tbl q550))
  | 17, hq => cases hq; exact u_known (n := 6) ht0 (fun w h => absurd h List.not_mem_nil) (ht0 _ (lw_all_tbl q835))
  | 18, hq => cases hq; exact u_known (n := 6) ht0 (fun w h => absurd h List.not_mem_nil) (ht0 _ (lw_all_tbl q696))
  | k + 19, hq => cases hq
theorem cl_all {s0 : State} {b0 : Nat} (ht0 : ∀ w ∈ lw_tbl, w.before #[Value.ref b0] s0 = true) : ∃ (dC : Nat → ClassId) (dI : Nat → Nat → Nat), ∀ (k : Nat) (q : vw_C), clA[k]? = some q → u_Kn s0 q.1 q.2.1 q.2.2 (dC k) (dI k) := by
  have h2 : ∀ k : Nat, ∃ z : ClassId × (Nat → Nat), ∀ q : vw_C, clA[k]? = some q → u_Kn s0 q.1 q.2.1 q.2.2 z.1 z.2 := fun k => by
    cases hk : clA[k]? with
    | none => exact ⟨((0 : Nat), fun _ => 0), fun q hq => by cases hq⟩
    | some q =>
      obtain ⟨c, i, h⟩ := cl_one ht0 k q hk
      exact ⟨(c, i), fun q' hq' => by cases hq'; exact h⟩
  exact ⟨fun k => (Classical.choose (h2 k)).1, fun k => (Classical.choose (h2 k)).2, fun k q hq => Classical.choose_spec (h2 k) q hq⟩
theorem ar_ints {s0 : State} {b0 : Nat} (ht0 : ∀ w ∈ lw_tbl, w.before #[Value.ref b0] s0 = true) {cI : ClassId} (h0 : s0.vm.findClass ("[" ++ FieldType.int.toString) = some cI) : ∃ (c : ClassId) (k : Class) (comp : ClassId), s0.vm.findClass ("[" ++ (FieldType.array .int).toString) = some c ∧ s0.vm.classes[c]? = some k ∧ k.kind = .array comp (.array .int) := by
  have h := ht0 _ q118
  have hs : (FieldType.array .int).toString = "[" ++ FieldType.int.toString := by decide
  simp only [Cond.before, Cond.holds, Cond.value, beq_iff_eq] at h
  rw [hs, h0] at h
  simp only [Option.bind_some, Option.bind_eq_some_iff, Option.map_eq_some_iff] at h
  obtain ⟨c, hi, k, hk, hb⟩ := h
  cases hkind : k.kind with
  | array component ty =>
    rw [hkind] at hb
    simp at hb
    exact ⟨c, k, component, by rw [hs]; exact hb.2, hk, by rw [hkind, hb.1]⟩
  | _ => rw [hkind] at hb; simp at hb
abbrev stC (cI cB cS cII cSh cO : ClassId) : Nat → ClassId
  | 0 => cI
  | 1 => cB
  | 2 => cS
  | 3 => cII
  | 4 => cSh
  | _ => cO
abbrev stN (b d mi : Nat) : Nat → Nat
  | 0 => b
  | 1 => d
  | _ => mi
theorem st_w (l : Launch) {s : State} {b : Nat} (hts : ∀ w ∈ lw_tbl, w.before #[Value.ref b] s = true) (hgv : (Jvm.Cond.and given_1 narrow_1).before #[Value.ref b] s = true) :
    ∃ w : WE, w.1 = l ∧ ws0 w = s ∧ w.2.2.2.2 0 = b ∧ KW w s ∧ KD w ∧ KM w ∧ de w < wb w ∧ va_d w (de w, eR w 5 0 (fun _ => none)) s.heap := by
  obtain ⟨dC, dI, hcl⟩ := cl_all hts
  obtain ⟨cI, kI, mI, i1, i2, i3⟩ := Cond.arrayClass_spec (hts _ (lw_all_tbl q166))
  obtain ⟨cB, kB, mB, j1, j2, j3⟩ := Cond.arrayClass_spec (hts _ (lw_all_tbl q631))
  obtain ⟨cS, kS, mS, l1, l2, l3⟩ := Cond.arrayClass_spec (hts _ (lw_all_tbl q657))
  obtain ⟨cII, kII, mII, m1, m2, m3⟩ := ar_ints hts i1
  obtain ⟨mSh, cSh, kSh, n1, -, n3, n4, n5⟩ := Cond.arrayOver_spec (hts _ q120)
  obtain ⟨mO, cO, kO, o1, -, o3, o4, o5⟩ := Cond.arrayOver_spec (hts _ q391)
  have hs := flat_of_before _ hgv
  have a1 : (Cond.arrayOf (.static "java/util/ArrayList" "DEFAULTCAPACITY_EMPTY_ELEMENTDATA" "[Ljava/lang/Object;") (.object "java/lang/Object")).before #[Value.ref b] s = true := hs _ (by decide +kernel)
  have a2 : (Cond.eq (.length (.static "java/util/ArrayList" "DEFAULTCAPACITY_EMPTY_ELEMENTDATA" "[Ljava/lang/Object;")) (.int 0)).before #[Value.ref b] s = true := hs _ (by decide +kernel)
  have a3 : (Cond.isRef (.mirror "[Ljava/lang/Object;")).before #[Value.ref b] s = true := hs _ (by decide +kernel)
  have hlen := va_eqt a2
  obtain ⟨d, cell, hd, hat, -⟩ := Term.length_spec hlen
  have hz : cell.slots.size = 0 := by
    simp only [Term.eval, Option.bind_eq_bind] at hlen hd
    rw [hd] at hlen
    simp only [hat, Option.bind_some] at hlen
    by_cases hlt : cell.slots.size < 2147483648
    · simp [hlt] at hlen
      have := congrArg Int32.toInt hlen
      rw [show cell.slots.size.toInt32 = nI cell.slots.size from rfl, nI_toInt hlt] at this
      have e0 : (0 : Int32).toInt = 0 := by decide
      rw [e0] at this
      omega
    · simp [hlt] at hlen
  obtain ⟨hcell, -, -, -⟩ := State.arrayAt?_spec hat
  obtain ⟨hof, -⟩ := Cond.arrayOf_spec a1 hd hcell
  obtain ⟨mi, hmi⟩ := va_Mi.of a3
  have hdlt : d < s.heap.size := (Array.getElem?_eq_some_iff.mp hcell).1
  refine ⟨(l, (dC, dI), stC cI cB cS cII cSh cO, s, stN b d mi), rfl, rfl, rfl, ⟨hts, hgv, ⟨hcl, ?_⟩, Jvm.State.WarmedH.refl _⟩, ?_, hmi, hdlt, rfl, rfl, cell, hcell, hz, hof⟩
  · intro k q hq
    match k, hq with
    | 0, hq => cases hq; exact ⟨fun N z => ⟨(fun k h => by cases h), kI, i2, mI, i3⟩, i1⟩
    | 1, hq => cases hq; exact ⟨fun N z => ⟨(fun k h => by cases h), kB, j2, mB, j3⟩, j1⟩
    | 2, hq => cases hq; exact ⟨fun N z => ⟨(fun k h => by cases h), kS, l2, mS, l3⟩, l1⟩
    | 3, hq => cases hq; exact ⟨fun N z => ⟨(fun k h => by cases h), kII, m2, mII, m3⟩, m1⟩
    | 4, hq => cases hq; exact ⟨fun N z => ⟨(fun k h => by cases h), kSh, n3, mSh, n4⟩, kSh, mSh, n3, n4, n1, n5⟩
    | 5, hq => cases hq; exact ⟨fun N z => ⟨(fun k h => by cases h), kO, o3, mO, o4⟩, kO, mO, o3, o4, o1, o5⟩
    | k + 6, hq => cases hq
  · exact va_Zof (hts _ q104) (hts _ (lw_all_tbl q53)) hd (fun a ha h => Nat.lt_irrefl _ (Nat.lt_of_lt_of_le ha h))
/-- the heap of the start: of what lay there, the empty row alone is spoken of -/
abbrev A00 (w : WE) : Hp := (fun q => if q = de w then some (eR w 5 0 (fun _ => none)) else none, wb w)
theorem rp_00 {w : WE} (hd : va_d w (de w, eR w 5 0 (fun _ => none)) (ws0 w).heap) : Rp w (A00 w) (ws0 w).heap := by
  refine ⟨rfl, Nat.le_refl _, fun q e he => ?_, fun q _ => rfl⟩
  by_cases h : q = de w
  · subst h
    have he : (if de w = de w then some (eR w 5 0 (fun _ => none)) else none) = some e := he
    rw [if_pos rfl] at he
    cases he
    exact Or.inr hd
  · have he : (if q = de w then some (eR w 5 0 (fun _ => none)) else none) = some e := he
    rw [if_neg h] at he
    cases he
theorem s9_0 : S9 S0 := ⟨fun q hq => (by cases hq), fun k q hq => by cases hq⟩
set_option maxHeartbeats 4000000 in
theorem lw_head {w : WE} {L : Nat} {f : Nat → Int32} (hK : LK w L f) (hD : KD w) (hdw : de w < wb w) : Rn w mLw room_1 (ZL w) 0 0 (A00 w) 0 [some (.ref (w.2.2.2.2 0)), none, none, none] [] := by
  have hm : mb w = wb w + 21 := rfl
  refine r_new 3 dL_law_0 rfl sN_L_7 dv_0 (by decide) (by decide) (fun hlt hwb => ?_)
  refine r_dup 4 dL_law_3 rfl rfl ?_
  have hde : (hp_new (A00 w) (.inr (0, [.int 0, .null, .int 0, .null, .null, .null, .null, .null, .null, .null, .int 0, .null, .int 0, .null]))).1 (de w) = some (eR w 5 0 (fun _ => none)) := (hp_new_n (Nat.ne_of_lt hdw)).trans (if_pos rfl)
  refine rx_I0v 7 dL_law_4 rfl sI_L_9 (cOk_of (by decide) (by decide) (by decide) (by decide) (Nat.le_of_ble_eq_true rfl)) (ev_X0_init hp_new_s rfl hD hdw hde) (fun A1 hP => ?_)
  obtain ⟨x1, hx1, h1, -⟩ := hP
  refine r_fresh (fun hlt1 hwb1 => ?_)
  refine r_astore_n 8 dL_law_7 rfl rfl rfl (by rfl) ?_
  refine r_new 11 dL_law_8 rfl sN_L_10 dv_1 (by decide) (by decide) (fun _ _ => ?_)
  rw [h1]
  refine r_dup 12 dL_law_11 rfl rfl ?_
  refine rx_I0v 15 dL_law_12 rfl sI_L_12 (cOk_of (by decide) (by decide) (by decide) (by decide) (Nat.le_of_ble_eq_true rfl)) (ev_X1_init (by rw [show mb w = A1.2 from h1.symm]; exact hp_new_s) (by show A1.2 + 1 = _; rw [h1])) (fun A2 hP => ?_)
  obtain ⟨m', hm', hS', h2, hk2⟩ := hP
  have hx2 : XS w A2 x1 S0 := hx1.keep (fun q _ y hy => by
    have hq := hlt1 q y hy
    rw [h1] at hq
    rw [hk2 q hq, hp_new_n (by omega)]
    exact hy)
  refine r_astore_n 16 dL_law_15 rfl rfl rfl (by rfl) ?_
  refine r_iconst 17 dL_law_16 rfl ic_0 ?_
  refine r_istore_n 18 dL_law_17 rfl rfl rfl (by rfl) ?_
  exact lp_law hK (fun A x S k i q j n a b c => ev_X0_copy a b c hK.2.2.1) 64 0 A2 (by decide) ⟨m', S0, x1, hm', hS', hx2, s9_0, by omega⟩
def R_law : String := "ThirdEbbLaw"
def lw_P (b : Addr) (xs : List Int32) (args : Array Value) (s : State) : Prop := args = #[.ref b] ∧ s.IntsAt b xs ∧ xs.length ≤ 384 ∧ (Jvm.Cond.and given_1 narrow_1).before args s = true ∧ modulesRight_1 s = true
/-- what holds at the law's entry: the machine, the code, the tables' words (any of lw_tbl by 'hts w (by decide +kernel)'), the script of L ints xs at the cell b, what the Statement gives of the start (any of its parts by flat_of_before) -/
def lw_At (p : Program) (s : State) (m : MethodId) (meth : Method) (c : Code) (b L : Nat) (xs : Nat → Int32) : Prop :=
  p.tables.exec = Jvm.exec ∧ c.code = code ∧ meth.sig.returnType = ret ∧ c.maxLocals = 4 ∧ s.vm.findClass R_law = some m.cls ∧ (∀ w ∈ lw_tbl, w.before #[Value.ref b] s = true) ∧ va_X b L xs s s.heap ∧ b < s.heap.size ∧ meth.locks = false ∧ (Jvm.Cond.and given_1 narrow_1).before #[Value.ref b] s = true ∧ modulesRight_1 s = true ∧ s.methodNamed? x = some m ∧ meth.name = x.name
theorem lw_args {b : Nat} : loE [Value.ref b] ++ List.replicate 3 none = [some (.ref b), none, none, none] := rfl
theorem whole_start {p : Program} {e : Env} {s : State} {m : MethodId} {below : List Frame} {meth : Method} {c : Code} (l : Launch) (hl : l.flags = flags0) {b L : Nat} {xs : Nat → Int32} (hL : L ≤ 384) (C0 : lw_At p s m meth c b L xs) : W p l e room_1 s m #[Value.ref b] below meth c s.heap [] 0 0 (lw_Z below #[Value.ref b] s) (entryFrame m ([Value.ref b] : List Value).toArray 4) := by
  obtain ⟨c1, c2, c3, c4, c5, c6, c7, c8, c9, c10, c11, c12, c13⟩ := C0
  obtain ⟨w, e1, e2, e3, hKW, hD, hM, hdw, hvd⟩ := st_w l c6 c10
  subst e1
  subst e2
  subst e3
  have hT : TR w := fun e he => by
    have h1 := he.2.2.2.2.1
    have h2 : w.1.stackTraces = false := by
      unfold Launch.stackTraces
      rw [hl]
      decide +kernel
    rw [h1]
    exact h2
  have hK : LK w L xs := ⟨⟨hL, c8, c7⟩, c11, hT, hM⟩
  have hent := lv_entry [Value.ref (w.2.2.2.2 0)] (n := 4) (Nat.le_of_ble_eq_true rfl)
  rw [lg_entry_eq]
  have h := lw_head hK hD hdw p e (ws0 w) m #[Value.ref (w.2.2.2.2 0)] below meth c (ws0 w).heap [] _ ⟨c1, c2, c3, c4, c12, fun y hy => c6 y (lw_all_tbl hy), c9, c13, hKW⟩ (rp_00 hvd) (fun q hq => by cases hq) ⟨_, hent, lo_entry lw_args⟩
  intro T hTH X
  obtain ⟨t, a1, b1⟩ := h T hTH X
  exact ⟨t, a1, b1 rfl⟩
set_option maxHeartbeats 4000000 in
theorem lw_walk (l : Launch) (hl : l.flags = flags0) (b : Addr) (xs : List Int32) : MetFree l x (headSpec (Jvm.Cond.code x code maxLocals ret :: tables_1) room_1) (lw_P b xs) (fun _ _ _ _ _ => True) lw_Q := by
  refine MetFree.of_bodyS (code := code) (maxLocals := maxLocals) (ret := ret) (by decide) ?_ ?_
  · intro args s m h hn
    obtain ⟨meth, c, h1, h2, h3, h4, h5, h6, -, -⟩ := Cond.code_spec hn (atoms_spec (ws := Jvm.Cond.code x code maxLocals ret :: tables_1) h _ List.mem_cons_self)
    exact ⟨meth, c, h1, h2, h3, h4, h5, h6⟩
  · intro p e s m args below meth c s₁ B hml0 hP _
    obtain ⟨rfl, hx, hbd, hgv, hmr⟩ := hP
    obtain ⟨scr, harrAt, hlist, hof, hsmall⟩ := hx
    obtain ⟨hcb, hkn, -, -⟩ := State.arrayAt?_spec harrAt
    have hown : s.vm.findClass R_law = some m.cls := findClass_of_methodNamed B.named
    have hts0 : ∀ c ∈ (Jvm.Cond.code x code maxLocals ret :: tables_1), c.before #[Value.ref b] s = true := atoms_spec (ws := Jvm.Cond.code x code maxLocals ret :: tables_1) B.pre
    have hts : ∀ w ∈ lw_tbl, w.before #[Value.ref b] s = true := k2_hts_sels lw_privs (fun w hw => hts0 w (List.mem_cons_of_mem _ hw)) lw_privs_ok
    have hml : c.maxLocals = 4 := B.maxLocals_eq (hts0 _ List.mem_cons_self)
    have X₀ : Stand p l e room_1 s m #[Value.ref b] below meth c s₁ [] 0 0 := Stand.of_body B
    have hh0 : s₁.heap = s.heap := by rw [B.state]; rfl
    have hsz : scr.slots.size = xs.length := by rw [← Array.length_toList, hlist, List.length_map]
    have hval : ∀ j : Nat, j < xs.length → scr.slots[j]? = some (.int (xs.getD j 0)) := fun j hj => by
      rw [← Array.getElem?_toList, hlist]
      simp [hj]
    have hbl : b < s.heap.size := (Array.getElem?_eq_some_iff.mp hcb).1
    have hX : va_X b xs.length (fun j => xs.getD j 0) s s.heap := ⟨scr, hcb, hof, hkn, hsz, hval⟩
    have K : W p l e room_1 s m #[Value.ref b] below meth c s₁.heap [] 0 0 (lw_Z below #[Value.ref b] s) (entryFrame m ([Value.ref b] : List Value).toArray 4) := by
      rw [hh0]
      exact whole_start l hl hbd ⟨B.exec, B.bytes, B.returns, hml, hown, hts, hX, hbl, B.notSynchronized, hgv, hmr, B.named, (name_of_methodNamed B.named B.method).1⟩
    obtain ⟨t, a1, o, b1, b2, b3⟩ := K s₁ rfl X₀
    exact ⟨t, o, a1, b1, b2, b3⟩
theorem lw_pre_spec {args : Array Value} {s : State} (h : (Jvm.Cond.and given_1 narrow_1).before args s = true) (hr : rest_1_c.before args s = true) (hmr : modulesRight_1 s = true) : ∃ (b : Addr) (xs : List Int32), lw_P b xs args s := by
  have hs := flat_of_before _ h
  have hq := flat_of_before _ hr
  have hc : (Cond.count 1).before args s = true := hs _ (by decide +kernel)
  have harr : (Cond.arrayOf (.arg 0) .int).before args s = true := hs _ (by decide +kernel)
  have hle : (Cond.le (.length (.arg 0)) (.int 384)).before args s = true := hs _ (by decide +kernel)
  have hlen : (Cond.isInt (.length (.arg 0))).before args s = true := hq _ (by decide +kernel)
  have hall : (Cond.all (.arg 0) (.isInt (.elem (.arg 0) (.index 0)))).before args s = true := hq _ (by decide +kernel)
  obtain ⟨b, xs, hb, hx⟩ := State.ints_of_pre rfl harr hlen hall
  have hsm : xs.length < 2 ^ 31 := hx.choose_spec.2.2.2
  have hev : (Term.length (.arg 0)).eval args s none [] s = some (.int xs.length.toInt32) := hx.length_eval hb
  have hv := Cond.le_ints hev (show (Term.int 384).eval args s none [] s = some (.int 384) from rfl)
  have hd : xs.length.toInt32 ≤ 384 := by
    simpa [Cond.before, Cond.holds, hv] using hle
  have hN : xs.length ≤ 384 := (Int32.ofNat_le_ofNat hsm (by decide)).mp (show Int32.ofNat xs.length ≤ Int32.ofNat 384 from hd)
  exact ⟨b, xs, Cond.one_arg hc (show args[0]? = some (.ref b) from hb), hx, hN, h, hmr⟩
theorem lw_comes (l : Launch) (hl : l.flags = flags0) : Comes l x (Jvm.Cond.code x code maxLocals ret :: tables_1) room_1 (fun tb e args s => Calls_1 tb e args s ∧ rest_1 tb e args s ∧ Pre_1 tb e args s)
    (fun _ _ args s o t => lw_Q args s o t) := by
  intro p e ha hc hk s m args below hf hfit hheap happ hpre
  obtain ⟨b, xs, hP⟩ := lw_pre_spec hpre.2.2 hpre.2.1.1 hpre.2.1.2
  obtain ⟨k, o, h1, h2, h3, hQ⟩ := lw_walk l hl b xs p e ha hc hk s m args below hf ((Spec.applies_iff_loose hf).mp happ).1 hP trivial
  exact ⟨k, o, h1, h2, h3, hQ⟩
theorem lw_frame {s t : State} {o : Outcome} {args : Array Value} (h : Framed s o t [] 603072 7262314) :
    Framed s o t (fieldLocs frame_1_writes args s ++ arrayLocs frame_1_arrays args s ++ staticLocs frame_1_statics s) 603072 7262314 := h
theorem lw_limb (L : Cond) (hL : ∀ (args : Array Value) (s t : State), L.after args s (.returned (some (.int 1))) t = true) :
    ArmFor flags0 classFile x code maxLocals ret World_1 tables_1 room_1 Calls_1 rest_1 Pre_1
      (fun tb e a s o t => postC L tb e a s o t ∧ Framed s o t (fieldLocs frame_1_writes a s ++ arrayLocs frame_1_arrays a s ++ staticLocs frame_1_statics s) 603072 7262314) := by
  intro l hl _ _ p e ha hc hk s m args below hf hfit hheap happ hpre
  obtain ⟨k, o, h1, h2, h3, rfl, hF⟩ := lw_comes l hl p e ha hc hk s m args below hf hfit hheap happ hpre
  exact ⟨k, _, h1, h2, h3, hL args s _, lw_frame hF⟩
theorem i_vc : Claimed_1_1 ∧ Claimed_1_2 := ⟨lw_limb limb_1_1 (fun args s t => by simp [limb_1_1, Cond.after, Cond.holds, Cond.value]), lw_limb limb_1_2 (fun args s t => Cond.after_iff.mpr (by
  first | (rw [show limb_1_2 = Cond.eq .result (.int 1) from rfl, Cond.eq_ints (x := 1) (y := 1) rfl rfl]; simp; done) | (simp [limb_1_2, Cond.value, Term.eval]; done)))⟩
