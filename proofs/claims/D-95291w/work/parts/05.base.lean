/-! THE BASE: an abstract heap (Hp), what the machine's heap holds of it (Rp), contracts over it (Ev), the judgement in a method's body (Rn), a row an instruction (r_..) -/
set_option maxRecDepth 100000
abbrev Hp : Type := (Nat → Option va_E) × Nat
def hp_up (A : Hp) (a : Nat) (e : va_E) : Hp := (fun q => if q = a then some e else A.1 q, A.2)
def hp_new (A : Hp) (e : va_E) : Hp := (fun q => if q = A.2 then some e else A.1 q, A.2 + 1)
theorem hp_up_s {A : Hp} {a : Nat} {e : va_E} : (hp_up A a e).1 a = some e := if_pos rfl
theorem hp_up_n {A : Hp} {a q : Nat} {e : va_E} (h : q ≠ a) : (hp_up A a e).1 q = A.1 q := if_neg h
theorem hp_new_s {A : Hp} {e : va_E} : (hp_new A e).1 A.2 = some e := if_pos rfl
theorem hp_new_n {A : Hp} {q : Nat} {e : va_E} (h : q ≠ A.2) : (hp_new A e).1 q = A.1 q := if_neg h
abbrev WE : Type := Launch × va_G × (Nat → ClassId) × State × (Nat → Nat)
abbrev MI : Type := MethodName × ByteArray × Nat × Option FieldType
abbrev ws0 (w : WE) : State := w.2.2.2.1
abbrev wb (w : WE) : Nat := w.2.2.2.1.heap.size
abbrev clA : List vw_C := [(RX0, TX0, 14), (RX1, TX1, 31), (RX5, TX5, 3), (RX6, TX6, 7), (RX7, TX7, 8), (RX8, TX8, 9), (RX11, TX11, 1), (RJ2, TJ2, 3), (RX4, TX4, 7), (RX9, TX9, 8), (RX10, TX10, 7), (RX12, TX12, 7), (RX13, TX13, 4), (RJ6, TJ6, 0), (RJ7, TJ7, 0), (RJ9, TJ9, 0), (RJ10, TJ10, 0), (RJ11, TJ11, 0), (RJ12, TJ12, 0)]
abbrev tyA (w : WE) : List (ClassId × FieldType) := [(w.2.2.1 0, .int), (w.2.2.1 1, .byte), (w.2.2.1 2, .short), (w.2.2.1 3, .array .int), (w.2.2.1 4, .object "ThirdEbb$Sheet"), (w.2.2.1 5, .object "java/lang/Object")]
/-- what is known of the claim's start, and that the tables have only been warmed since -/
def KW (w : WE) (U : State) : Prop := (∀ c ∈ lw_tbl, c.before #[Value.ref (w.2.2.2.2 0)] (ws0 w) = true) ∧ (Jvm.Cond.and given_1 narrow_1).before #[Value.ref (w.2.2.2.2 0)] (ws0 w) = true ∧ va_K w.2.1 clA (tyA w) (ws0 w) ∧ (ws0 w).WarmedH U.vm
theorem KW.warm {w : WE} {s U : State} (h : KW w s) (hW : s.WarmedH U.vm) : KW w U := ⟨h.1, h.2.1, h.2.2.1, State.WarmedH.trans h.2.2.2 hW⟩
theorem KW.K {w : WE} {s : State} (h : KW w s) : va_K w.2.1 clA (tyA w) s := va_K.moved h.2.2.2.alike h.2.2.1
theorem KW.call {w : WE} {U : State} {g : JFrame} {mk : MethodId} {a : Array Value} (h : KW w U) : KW w (U.calling g mk a) := ⟨h.1, h.2.1, h.2.2.1, (h.2.2.2 : (ws0 w).WarmedH (U.calling g mk a).vm)⟩
/-- a row of references without members -/
def Ex0 : va_E → Bool
  | .inl (_, n, .inr (.inr (.inr (.inr _)))) => n == 0
  | _ => false
/-- the row of a list that never had a member: of its cell the start tells its kind and its length alone -/
def va_d (w : WE) (q : Nat × va_E) (H : Heap) : Prop := q.1 = w.2.2.2.2 1 ∧ q.2 = .inl (w.2.2.1 5, 0, .inr (.inr (.inr (.inr (fun _ => none))))) ∧ ∃ cell : Cell, H[q.1]? = some cell ∧ cell.slots.size = 0 ∧ (ws0 w).isArrayOf cell (.object "java/lang/Object")
def Hat (w : WE) (q : Nat × va_E) (H : Heap) : Prop := va_at w.2.1 clA q H ∨ va_d w q H
theorem Hat.lt {w : WE} {q : Nat × va_E} {H : Heap} (h : Hat w q H) : q.1 < H.size := by
  rcases h with h | ⟨-, -, cell, h, -⟩
  · exact h.lt
  · exact (Array.getElem?_eq_some_iff.mp h).1
theorem Hat.kept {w : WE} {q : Nat × va_E} {H H1 : Heap} (h : Hat w q H) (hq : H1[q.1]? = H[q.1]?) : Hat w q H1 := by
  rcases h with h | ⟨h1, h2, cell, h3, h4⟩
  · exact Or.inl (h.kept hq)
  · exact Or.inr ⟨h1, h2, cell, hq.trans h3, h4⟩
/-- the machine's heap holds the abstract heap; what was there at the claim's start is as it was -/
def Rp (w : WE) (A : Hp) (H : Heap) : Prop := H.size = A.2 ∧ wb w ≤ A.2 ∧ (∀ (q : Nat) (e : va_E), A.1 q = some e → Hat w (q, e) H) ∧ ∀ q : Nat, q < wb w → H[q]? = (ws0 w).heap[q]?
theorem Rp.at {w : WE} {A : Hp} {H : Heap} (h : Rp w A H) {q : Nat} {e : va_E} (hA : A.1 q = some e) (hne : Ex0 e = false := by rfl) : va_at w.2.1 clA (q, e) H := by
  rcases h.2.2.1 q e hA with h | ⟨-, h2, -⟩
  · exact h
  · have h2 : e = .inl (w.2.2.1 5, 0, .inr (.inr (.inr (.inr (fun _ => none))))) := h2
    subst h2
    cases hne
theorem Rp.lt {w : WE} {A : Hp} {H : Heap} (h : Rp w A H) : ∀ (q : Nat) (e : va_E), A.1 q = some e → q < A.2 := fun q e he => by
  have := (h.2.2.1 q e he).lt
  rw [h.1] at this
  exact this
theorem Rp.up {w : WE} {A : Hp} {H H' : Heap} {a : Nat} {e : va_E} (h : Rp w A H) (hb : wb w ≤ a) (he : va_at w.2.1 clA (a, e) H') (hz : H'.size = H.size) (ho : ∀ q : Nat, q ≠ a → H'[q]? = H[q]?) : Rp w (hp_up A a e) H' := by
  refine ⟨hz.trans h.1, h.2.1, fun q x hx => ?_, fun q hq => ?_⟩
  · by_cases hqa : q = a
    · subst hqa
      rw [hp_up_s] at hx
      cases hx
      exact Or.inl he
    · rw [hp_up_n hqa] at hx
      exact (h.2.2.1 q x hx).kept (ho q hqa)
  · rw [ho q (by omega)]
    exact h.2.2.2 q hq
theorem Rp.new {w : WE} {A : Hp} {H H' : Heap} {e : va_E} (h : Rp w A H) (he : va_at w.2.1 clA (H.size, e) H') (hz : H'.size = H.size + 1) (ho : ∀ q : Nat, q < H.size → H'[q]? = H[q]?) : Rp w (hp_new A e) H' := by
  have hA := h.1
  refine ⟨by rw [hz, hA]; rfl, Nat.le_succ_of_le h.2.1, fun q x hx => ?_, fun q hq => ?_⟩
  · by_cases hqa : q = A.2
    · subst hqa
      rw [hp_new_s] at hx
      cases hx
      rw [← hA]
      exact Or.inl he
    · rw [hp_new_n hqa] at hx
      exact (h.2.2.1 q x hx).kept (ho q (h.2.2.1 q x hx).lt)
  · rw [ho q (by have := h.2.1; omega)]
    exact h.2.2.2 q hq
/-! the locals by their places; none: not known -/
def lo_has (ls : Array Slot) (nL : Nat) (lo : List (Option Value)) : Prop := ∃ l, lv_has ls nL l ∧ ∀ (i : Nat) (v : Value), lo[i]? = some (some v) → (i, v) ∈ l
theorem lo_at {ls : Array Slot} {nL : Nat} {lo : List (Option Value)} (h : lo_has ls nL lo) {i : Nat} {v : Value} (hi : lo[i]? = some (some v)) : ls[i]? = some (.val v) := by
  obtain ⟨l, h1, h2⟩ := h
  exact h1.2.2 (i, v) (h2 i v hi)
theorem lo_size {ls : Array Slot} {nL : Nat} {lo : List (Option Value)} (h : lo_has ls nL lo) : ls.size = nL := by
  obtain ⟨l, h1, h2⟩ := h
  exact h1.1
def lo_ok (nL : Nat) (lo : List (Option Value)) (i : Nat) : Bool := decide (i < nL) && match i with
  | 0 => true
  | j + 1 => match lo[j]? with
    | some (some u) => decide (u.category = 1)
    | _ => true
theorem lo_ok_lt {nL : Nat} {lo : List (Option Value)} {i : Nat} (h : lo_ok nL lo i = true) : i < nL := by
  unfold lo_ok at h
  rw [Bool.and_eq_true] at h
  exact of_decide_eq_true h.1
theorem lo_ok_pr {nL : Nat} {lo : List (Option Value)} {j : Nat} (h : lo_ok nL lo (j + 1) = true) {u : Value} (hu : lo[j]? = some (some u)) : ¬ u.category = 2 := by
  unfold lo_ok at h
  rw [Bool.and_eq_true] at h
  have h2 := h.2
  dsimp only at h2
  rw [hu] at h2
  have h3 : u.category = 1 := of_decide_eq_true h2
  omega
theorem lo_set1 {nL : Nat} {lo : List (Option Value)} {l : List (Nat × Value)} {i : Nat} {v : Value} (h2 : ∀ (i : Nat) (v : Value), lo[i]? = some (some v) → (i, v) ∈ l) (hok : lo_ok nL lo i = true) :
    ∀ (j : Nat) (u : Value), (lo.set i (some v))[j]? = some (some u) → (j, u) ∈ (i, v) :: l.filter (fun q => !(q.1 == i) && !(q.1 + 1 == i && q.2.category == 2)) := by
  intro j u hj
  rw [List.getElem?_set] at hj
  by_cases e : i = j
  · rw [if_pos e] at hj
    split at hj
    · cases hj
      rw [e]
      exact List.mem_cons_self
    · cases hj
  · rw [if_neg e] at hj
    refine List.mem_cons_of_mem _ (List.mem_filter.mpr ⟨h2 j u hj, ?_⟩)
    have e1 : (j == i) = false := by simpa using fun h : j = i => e h.symm
    by_cases e2 : j + 1 = i
    · subst e2
      have hc := lo_ok_pr hok hj
      simp [hc]
    · simp [e1, e2]
theorem lo_set2 {nL : Nat} {lo : List (Option Value)} {l : List (Nat × Value)} {i : Nat} {v : Value} (h2 : ∀ (i : Nat) (v : Value), lo[i]? = some (some v) → (i, v) ∈ l) (hok : lo_ok nL lo i = true) :
    ∀ (j : Nat) (u : Value), ((lo.set i (some v)).set (i + 1) none)[j]? = some (some u) → (j, u) ∈ (i, v) :: l.filter (fun q => !(q.1 == i) && (!(q.1 == i + 1) && !(q.1 + 1 == i && q.2.category == 2))) := by
  intro j u hj
  rw [List.getElem?_set] at hj
  by_cases e0 : i + 1 = j
  · rw [if_pos e0] at hj
    split at hj <;> cases hj
  · rw [if_neg e0, List.getElem?_set] at hj
    by_cases e : i = j
    · rw [if_pos e] at hj
      split at hj
      · cases hj
        rw [e]
        exact List.mem_cons_self
      · cases hj
    · rw [if_neg e] at hj
      refine List.mem_cons_of_mem _ (List.mem_filter.mpr ⟨h2 j u hj, ?_⟩)
      by_cases e2 : j + 1 = i
      · subst e2
        have hc := lo_ok_pr hok hj
        simp [hc]
        omega
      · simp [e2]
        exact ⟨fun h => e h.symm, fun h => e0 h.symm⟩
theorem lo_less {ls : Array Slot} {nL : Nat} {lo lo' : List (Option Value)} (h : lo_has ls nL lo) (hs : ∀ (i : Nat) (v : Value), lo'[i]? = some (some v) → lo[i]? = some (some v)) : lo_has ls nL lo' := by
  obtain ⟨l, h1, h2⟩ := h
  exact ⟨l, h1, fun i v hi => h2 i v (hs i v hi)⟩
def loE : List Value → List (Option Value)
  | [] => []
  | v :: vs => if v.category = 2 then some v :: none :: loE vs else some v :: loE vs
theorem loE_args : ∀ (vs : List Value) (j i : Nat) (v : Value), (loE vs)[i]? = some (some v) → (j + i, v) ∈ lv_args j vs
  | [], j, i, v, h => by simp [loE] at h
  | a :: vs, j, i, v, h => by
    unfold loE at h
    unfold lv_args
    by_cases ha : a.category = 2
    · rw [if_pos ha] at h ⊢
      match i, h with
      | 0, h =>
        simp at h
        subst h
        exact List.mem_cons_self
      | 1, h => simp at h
      | i + 2, h =>
        have h' : (loE vs)[i]? = some (some v) := by simpa using h
        have := loE_args vs (j + 2) i v h'
        rw [show j + (i + 2) = j + 2 + i by omega]
        exact List.mem_cons_of_mem _ this
    · rw [if_neg ha] at h ⊢
      match i, h with
      | 0, h =>
        simp at h
        subst h
        exact List.mem_cons_self
      | i + 1, h =>
        have h' : (loE vs)[i]? = some (some v) := by simpa using h
        have := loE_args vs (j + 1) i v h'
        rw [show j + (i + 1) = j + 1 + i by omega]
        exact List.mem_cons_of_mem _ this
theorem lo_entry {vs : List Value} {kk : Nat} {lo : List (Option Value)} (hlo : loE vs ++ List.replicate kk none = lo) : ∀ (i : Nat) (v : Value), lo[i]? = some (some v) → (i, v) ∈ lv_args 0 vs := by
  subst hlo
  intro i v h
  have h' : (loE vs)[i]? = some (some v) := by
    rw [List.getElem?_append] at h
    split at h
    · exact h
    · rw [List.getElem?_replicate] at h
      split at h <;> cases h
  have := loE_args vs 0 i v h'
  rwa [Nat.zero_add] at this
/-! the judgement -/
def Cx (w : WE) (M : MI) (p : Program) (s : State) (m : MethodId) (args : Array Value) (meth : Method) (c : Code) : Prop :=
  p.tables.exec = Jvm.exec ∧ c.code = M.2.1 ∧ meth.sig.returnType = M.2.2.2 ∧ c.maxLocals = M.2.2.1 ∧ s.methodNamed? M.1 = some m ∧ (∀ x ∈ lw_all, x.before args s = true) ∧ meth.locks = false ∧ meth.name = M.1.name ∧ KW w s
theorem Cx.x {w : WE} {M : MI} {p : Program} {s : State} {m : MethodId} {args : Array Value} {meth : Method} {c : Code} (C : Cx w M p s m args meth c) : p.tables.exec = Jvm.exec := C.1
theorem Cx.b {w : WE} {M : MI} {p : Program} {s : State} {m : MethodId} {args : Array Value} {meth : Method} {c : Code} (C : Cx w M p s m args meth c) : c.code = M.2.1 := C.2.1
theorem Cx.r {w : WE} {M : MI} {p : Program} {s : State} {m : MethodId} {args : Array Value} {meth : Method} {c : Code} (C : Cx w M p s m args meth c) : meth.sig.returnType = M.2.2.2 := C.2.2.1
theorem Cx.ml {w : WE} {M : MI} {p : Program} {s : State} {m : MethodId} {args : Array Value} {meth : Method} {c : Code} (C : Cx w M p s m args meth c) : c.maxLocals = M.2.2.1 := C.2.2.2.1
theorem Cx.own {w : WE} {M : MI} {p : Program} {s : State} {m : MethodId} {args : Array Value} {meth : Method} {c : Code} (C : Cx w M p s m args meth c) : s.vm.findClass M.1.cls = some m.cls := findClass_of_methodNamed C.2.2.2.2.1
theorem Cx.ts {w : WE} {M : MI} {p : Program} {s : State} {m : MethodId} {args : Array Value} {meth : Method} {c : Code} (C : Cx w M p s m args meth c) : ∀ x ∈ lw_all, x.before args s = true := C.2.2.2.2.2.1
theorem Cx.nl {w : WE} {M : MI} {p : Program} {s : State} {m : MethodId} {args : Array Value} {meth : Method} {c : Code} (C : Cx w M p s m args meth c) : meth.locks = false := C.2.2.2.2.2.2.1
theorem Cx.nm {w : WE} {M : MI} {p : Program} {s : State} {m : MethodId} {args : Array Value} {meth : Method} {c : Code} (C : Cx w M p s m args meth c) : meth.name = M.1.name := C.2.2.2.2.2.2.2.1
theorem Cx.k {w : WE} {M : MI} {p : Program} {s : State} {m : MethodId} {args : Array Value} {meth : Method} {c : Code} (C : Cx w M p s m args meth c) : KW w s := C.2.2.2.2.2.2.2.2
abbrev ZT : Type := List Frame → Array Value → State → State → Prop
def Rn (w : WE) (M : MI) (R : Room) (Z : ZT) (k n : Nat) (A : Hp) (pc : Nat) (lo : List (Option Value)) (st : List Value) : Prop :=
  ∀ (p : Program) (e : Env) (s : State) (m : MethodId) (args : Array Value) (below : List Frame) (meth : Method) (c : Code) (H : Heap) (locs : List Loc) (ls : Array Slot),
    Cx w M p s m args meth c → Rp w A H → (∀ q ∈ locs, wb w ≤ q.base) → lo_has ls M.2.2.1 lo →
    W p w.1 e R s m args below meth c H locs k n (Z below args s) (F0 m pc ls st)
def QcX (w : WE) (Qo : Option Value → Hp → Prop) : Array Value → State → Outcome → State → Prop := fun _ _ o t => ∃ (v : Option Value) (A' : Hp), o = .returned v ∧ Rp w A' t.heap ∧ Qo v A'
def ZX (w : WE) (Qo : Option Value → Hp → Prop) (mc ms : Nat) : ZT := fun below args s => MQ below (QcX w Qo) args s mc ms (fun q => wb w ≤ q)
abbrev rmX (d mc ms : Nat) : Room := { frames := d, cells := mc, slots := ms, locals := 11000 + 64 * d }
abbrev PcX (w : WE) (As : List Value) (A : Hp) : Array Value → State → Prop := fun a U => a = As.toArray ∧ Rp w A U.heap ∧ KW w U
/-- a method's contract: called with As in the abstract heap A it returns, with Qo of the answer and the heap behind it -/
def Ev (w : WE) (M : MI) (d mc ms : Nat) (As : List Value) (A : Hp) (Qo : Option Value → Hp → Prop) : Prop :=
  Met w.1 M.1 (ws_ M.1 M.2.1 M.2.2.1 M.2.2.2) (rmX d mc ms) (PcX w As A) (QcX w Qo) mc ms (fun q => wb w ≤ q)
theorem Ev.mk {w : WE} {M : MI} {d mc ms : Nat} {As : List Value} {A : Hp} {Qo : Option Value → Hp → Prop} (kk : Nat) (lo : List (Option Value)) (hlo : loE As ++ List.replicate kk none = lo) (hy : plainName M.1.cls = true) (hlen : (lg_sl As).length ≤ M.2.2.1)
    (h : Rn w M (rmX d mc ms) (ZX w Qo mc ms) 0 0 A 0 lo []) : Ev w M d mc ms As A Qo := by
  refine Met.ofW (cc := M.2.1) (maxL := M.2.2.1) (ret := M.2.2.2) hy rfl ?_
  intro p e s m args below meth c s₁ B hml hv
  obtain ⟨rfl, hR, hK⟩ := hv
  have hts := atoms_spec (ws := ws_ M.1 M.2.1 M.2.2.1 M.2.2.2) B.pre
  have hts : ∀ w ∈ lw_all, w.before _ s = true := fun w h => hts w (List.mem_cons_of_mem _ h)
  have hl := lv_entry As (n := M.2.2.1) hlen
  rw [lg_entry_eq]
  exact h p e s m _ below meth c s.heap [] _ ⟨B.exec, B.bytes, B.returns, hml, B.named, hts, B.notSynchronized, (name_of_methodNamed B.named B.method).1, hK⟩ hR (fun q hq => by cases hq) ⟨_, hl, lo_entry hlo⟩
theorem so0 {α : Type} {x a : α} {l : List α} : (a :: l).set 0 x = x :: l := rfl
theorem so1 {α : Type} {x a0 a1 : α} {l : List α} : (a0 :: a1 :: l).set 1 x = a0 :: x :: l := rfl
theorem so2 {α : Type} {x a0 a1 a2 : α} {l : List α} : (a0 :: a1 :: a2 :: l).set 2 x = a0 :: a1 :: x :: l := rfl
theorem so3 {α : Type} {x a0 a1 a2 a3 : α} {l : List α} : (a0 :: a1 :: a2 :: a3 :: l).set 3 x = a0 :: a1 :: a2 :: x :: l := rfl
theorem so4 {α : Type} {x a0 a1 a2 a3 a4 : α} {l : List α} : (a0 :: a1 :: a2 :: a3 :: a4 :: l).set 4 x = a0 :: a1 :: a2 :: a3 :: x :: l := rfl
theorem so5 {α : Type} {x a0 a1 a2 a3 a4 a5 : α} {l : List α} : (a0 :: a1 :: a2 :: a3 :: a4 :: a5 :: l).set 5 x = a0 :: a1 :: a2 :: a3 :: a4 :: x :: l := rfl
theorem so6 {α : Type} {x a0 a1 a2 a3 a4 a5 a6 : α} {l : List α} : (a0 :: a1 :: a2 :: a3 :: a4 :: a5 :: a6 :: l).set 6 x = a0 :: a1 :: a2 :: a3 :: a4 :: a5 :: x :: l := rfl
theorem so7 {α : Type} {x a0 a1 a2 a3 a4 a5 a6 a7 : α} {l : List α} : (a0 :: a1 :: a2 :: a3 :: a4 :: a5 :: a6 :: a7 :: l).set 7 x = a0 :: a1 :: a2 :: a3 :: a4 :: a5 :: a6 :: x :: l := rfl
theorem so8 {α : Type} {x a0 a1 a2 a3 a4 a5 a6 a7 a8 : α} {l : List α} : (a0 :: a1 :: a2 :: a3 :: a4 :: a5 :: a6 :: a7 :: a8 :: l).set 8 x = a0 :: a1 :: a2 :: a3 :: a4 :: a5 :: a6 :: a7 :: x :: l := rfl
theorem so9 {α : Type} {x a0 a1 a2 a3 a4 a5 a6 a7 a8 a9 : α} {l : List α} : (a0 :: a1 :: a2 :: a3 :: a4 :: a5 :: a6 :: a7 :: a8 :: a9 :: l).set 9 x = a0 :: a1 :: a2 :: a3 :: a4 :: a5 :: a6 :: a7 :: a8 :: x :: l := rfl
theorem so10 {α : Type} {x a0 a1 a2 a3 a4 a5 a6 a7 a8 a9 a10 : α} {l : List α} : (a0 :: a1 :: a2 :: a3 :: a4 :: a5 :: a6 :: a7 :: a8 :: a9 :: a10 :: l).set 10 x = a0 :: a1 :: a2 :: a3 :: a4 :: a5 :: a6 :: a7 :: a8 :: a9 :: x :: l := rfl
theorem so11 {α : Type} {x a0 a1 a2 a3 a4 a5 a6 a7 a8 a9 a10 a11 : α} {l : List α} : (a0 :: a1 :: a2 :: a3 :: a4 :: a5 :: a6 :: a7 :: a8 :: a9 :: a10 :: a11 :: l).set 11 x = a0 :: a1 :: a2 :: a3 :: a4 :: a5 :: a6 :: a7 :: a8 :: a9 :: a10 :: x :: l := rfl
theorem so12 {α : Type} {x a0 a1 a2 a3 a4 a5 a6 a7 a8 a9 a10 a11 a12 : α} {l : List α} : (a0 :: a1 :: a2 :: a3 :: a4 :: a5 :: a6 :: a7 :: a8 :: a9 :: a10 :: a11 :: a12 :: l).set 12 x = a0 :: a1 :: a2 :: a3 :: a4 :: a5 :: a6 :: a7 :: a8 :: a9 :: a10 :: a11 :: x :: l := rfl
theorem so13 {α : Type} {x a0 a1 a2 a3 a4 a5 a6 a7 a8 a9 a10 a11 a12 a13 : α} {l : List α} : (a0 :: a1 :: a2 :: a3 :: a4 :: a5 :: a6 :: a7 :: a8 :: a9 :: a10 :: a11 :: a12 :: a13 :: l).set 13 x = a0 :: a1 :: a2 :: a3 :: a4 :: a5 :: a6 :: a7 :: a8 :: a9 :: a10 :: a11 :: a12 :: x :: l := rfl
theorem so14 {α : Type} {x a0 a1 a2 a3 a4 a5 a6 a7 a8 a9 a10 a11 a12 a13 a14 : α} {l : List α} : (a0 :: a1 :: a2 :: a3 :: a4 :: a5 :: a6 :: a7 :: a8 :: a9 :: a10 :: a11 :: a12 :: a13 :: a14 :: l).set 14 x = a0 :: a1 :: a2 :: a3 :: a4 :: a5 :: a6 :: a7 :: a8 :: a9 :: a10 :: a11 :: a12 :: a13 :: x :: l := rfl
theorem so15 {α : Type} {x a0 a1 a2 a3 a4 a5 a6 a7 a8 a9 a10 a11 a12 a13 a14 a15 : α} {l : List α} : (a0 :: a1 :: a2 :: a3 :: a4 :: a5 :: a6 :: a7 :: a8 :: a9 :: a10 :: a11 :: a12 :: a13 :: a14 :: a15 :: l).set 15 x = a0 :: a1 :: a2 :: a3 :: a4 :: a5 :: a6 :: a7 :: a8 :: a9 :: a10 :: a11 :: a12 :: a13 :: a14 :: x :: l := rfl
theorem lo0 {α : Type} {a0 : α} {l : List α} : (a0 :: l)[0]? = some a0 := rfl
theorem lo1 {α : Type} {a0 a1 : α} {l : List α} : (a0 :: a1 :: l)[1]? = some a1 := rfl
theorem lo2 {α : Type} {a0 a1 a2 : α} {l : List α} : (a0 :: a1 :: a2 :: l)[2]? = some a2 := rfl
theorem lo3 {α : Type} {a0 a1 a2 a3 : α} {l : List α} : (a0 :: a1 :: a2 :: a3 :: l)[3]? = some a3 := rfl
theorem lo4 {α : Type} {a0 a1 a2 a3 a4 : α} {l : List α} : (a0 :: a1 :: a2 :: a3 :: a4 :: l)[4]? = some a4 := rfl
theorem lo5 {α : Type} {a0 a1 a2 a3 a4 a5 : α} {l : List α} : (a0 :: a1 :: a2 :: a3 :: a4 :: a5 :: l)[5]? = some a5 := rfl
theorem lo6 {α : Type} {a0 a1 a2 a3 a4 a5 a6 : α} {l : List α} : (a0 :: a1 :: a2 :: a3 :: a4 :: a5 :: a6 :: l)[6]? = some a6 := rfl
theorem lo7 {α : Type} {a0 a1 a2 a3 a4 a5 a6 a7 : α} {l : List α} : (a0 :: a1 :: a2 :: a3 :: a4 :: a5 :: a6 :: a7 :: l)[7]? = some a7 := rfl
theorem lo8 {α : Type} {a0 a1 a2 a3 a4 a5 a6 a7 a8 : α} {l : List α} : (a0 :: a1 :: a2 :: a3 :: a4 :: a5 :: a6 :: a7 :: a8 :: l)[8]? = some a8 := rfl
theorem lo9 {α : Type} {a0 a1 a2 a3 a4 a5 a6 a7 a8 a9 : α} {l : List α} : (a0 :: a1 :: a2 :: a3 :: a4 :: a5 :: a6 :: a7 :: a8 :: a9 :: l)[9]? = some a9 := rfl
theorem lo10 {α : Type} {a0 a1 a2 a3 a4 a5 a6 a7 a8 a9 a10 : α} {l : List α} : (a0 :: a1 :: a2 :: a3 :: a4 :: a5 :: a6 :: a7 :: a8 :: a9 :: a10 :: l)[10]? = some a10 := rfl
theorem lo11 {α : Type} {a0 a1 a2 a3 a4 a5 a6 a7 a8 a9 a10 a11 : α} {l : List α} : (a0 :: a1 :: a2 :: a3 :: a4 :: a5 :: a6 :: a7 :: a8 :: a9 :: a10 :: a11 :: l)[11]? = some a11 := rfl
theorem lo12 {α : Type} {a0 a1 a2 a3 a4 a5 a6 a7 a8 a9 a10 a11 a12 : α} {l : List α} : (a0 :: a1 :: a2 :: a3 :: a4 :: a5 :: a6 :: a7 :: a8 :: a9 :: a10 :: a11 :: a12 :: l)[12]? = some a12 := rfl
theorem lo13 {α : Type} {a0 a1 a2 a3 a4 a5 a6 a7 a8 a9 a10 a11 a12 a13 : α} {l : List α} : (a0 :: a1 :: a2 :: a3 :: a4 :: a5 :: a6 :: a7 :: a8 :: a9 :: a10 :: a11 :: a12 :: a13 :: l)[13]? = some a13 := rfl
theorem lo14 {α : Type} {a0 a1 a2 a3 a4 a5 a6 a7 a8 a9 a10 a11 a12 a13 a14 : α} {l : List α} : (a0 :: a1 :: a2 :: a3 :: a4 :: a5 :: a6 :: a7 :: a8 :: a9 :: a10 :: a11 :: a12 :: a13 :: a14 :: l)[14]? = some a14 := rfl
theorem lo15 {α : Type} {a0 a1 a2 a3 a4 a5 a6 a7 a8 a9 a10 a11 a12 a13 a14 a15 : α} {l : List α} : (a0 :: a1 :: a2 :: a3 :: a4 :: a5 :: a6 :: a7 :: a8 :: a9 :: a10 :: a11 :: a12 :: a13 :: a14 :: a15 :: l)[15]? = some a15 := rfl
section ROWS
variable {w : WE} {M : MI} {R : Room} {Z : ZT} {k n : Nat} {A : Hp} {pc : Nat} {lo : List (Option Value)} {st : List Value}
theorem r_less {lo' : List (Option Value)} (K : Rn w M R Z k n A pc lo' st) (hs : ∀ (i : Nat) (v : Value), lo'[i]? = some (some v) → lo[i]? = some (some v)) : Rn w M R Z k n A pc lo st := by
  intro p e s m args below meth c H locs ls C hR hL hl
  exact K p e s m args below meth c H locs ls C hR hL (lo_less hl hs)
theorem r_wide (k' n' : Nat) (h1 : k ≤ k') (h2 : n ≤ n') (K : Rn w M R Z k' n' A pc lo st) : Rn w M R Z k n A pc lo st := by
  intro p e s m args below meth c H locs ls C hR hL hl
  exact W.widen h1 h2 (K p e s m args below meth c H locs ls C hR hL hl)
theorem r_fresh (K : (∀ (q : Nat) (e : va_E), A.1 q = some e → q < A.2) → wb w ≤ A.2 → Rn w M R Z k n A pc lo st) : Rn w M R Z k n A pc lo st := by
  intro p e s m args below meth c H locs ls C hR hL hl
  exact K hR.lt hR.2.1 p e s m args below meth c H locs ls C hR hL hl
theorem r_eqA {A' : Hp} (h : A = A') (K : Rn w M R Z k n A' pc lo st) : Rn w M R Z k n A pc lo st := h ▸ K
theorem r_top {v v' : Value} (h : v = v') (K : Rn w M R Z k n A pc lo (v' :: st)) : Rn w M R Z k n A pc lo (v :: st) := h ▸ K
theorem r_iconst {i : Int} {v : Int32} (nx : Nat) (hd : decode M.2.1 pc = .ok (.iconst i, 1)) (hn : pc + 1 = nx) (hv : Int32.ofInt i = v) (K : Rn w M R Z k n A nx lo (.int v :: st)) : Rn w M R Z k n A pc lo (st) := by
  subst hn
  intro p e s m args below meth c H locs ls C hR hL hl
  exact lv_iconst C.x C.b hd hv (K p e s m args below meth c H locs ls C hR hL hl)
theorem r_bipush {i : Int} {v : Int32} (nx : Nat) (hd : decode M.2.1 pc = .ok (.bipush i, 2)) (hn : pc + 2 = nx) (hv : (Int8.ofInt i).toInt32 = v) (K : Rn w M R Z k n A nx lo (.int v :: st)) : Rn w M R Z k n A pc lo (st) := by
  subst hn
  intro p e s m args below meth c H locs ls C hR hL hl
  exact lv_bipush C.x C.b hd hv (K p e s m args below meth c H locs ls C hR hL hl)
theorem r_sipush {i : Int} {v : Int32} (nx : Nat) (hd : decode M.2.1 pc = .ok (.sipush i, 3)) (hn : pc + 3 = nx) (hv : (Int16.ofInt i).toInt32 = v) (K : Rn w M R Z k n A nx lo (.int v :: st)) : Rn w M R Z k n A pc lo (st) := by
  subst hn
  intro p e s m args below meth c H locs ls C hR hL hl
  exact lv_sipush C.x C.b hd hv (K p e s m args below meth c H locs ls C hR hL hl)
theorem r_lconst {i : Fin 2} {v : Int64} (nx : Nat) (hd : decode M.2.1 pc = .ok (.lconst i, 1)) (hn : pc + 1 = nx) (hv : Int64.ofNat (i : Nat) = v) (K : Rn w M R Z k n A nx lo (.long v :: st)) : Rn w M R Z k n A pc lo (st) := by
  subst hn
  intro p e s m args below meth c H locs ls C hR hL hl
  exact lv_lconst C.x C.b hd hv (K p e s m args below meth c H locs ls C hR hL hl)
theorem r_null  (nx : Nat) (hd : decode M.2.1 pc = .ok (.aconst_null, 1)) (hn : pc + 1 = nx) (K : Rn w M R Z k n A nx lo (.null :: st)) : Rn w M R Z k n A pc lo (st) := by
  subst hn
  intro p e s m args below meth c H locs ls C hR hL hl
  exact lv_null C.x C.b hd (K p e s m args below meth c H locs ls C hR hL hl)
theorem r_iload_n {q : Fin 4} {i : Nat} {x : Int32} (nx : Nat) (hd : decode M.2.1 pc = .ok (.iload_n q, 1)) (hn : pc + 1 = nx) (hi : (q : Nat) = i) (hx : lo[i]? = some (some (.int x))) (K : Rn w M R Z k n A nx lo (.int x :: st)) : Rn w M R Z k n A pc lo (st) := by
  subst hn
  intro p e s m args below meth c H locs ls C hR hL hl
  exact lv_iload_n C.x C.b hd hi (lo_at hl hx) (K p e s m args below meth c H locs ls C hR hL hl)
theorem r_iload {i : Nat} {x : Int32} (nx : Nat) (hd : decode M.2.1 pc = .ok (.iload i, 2)) (hn : pc + 2 = nx) (hx : lo[i]? = some (some (.int x))) (K : Rn w M R Z k n A nx lo (.int x :: st)) : Rn w M R Z k n A pc lo (st) := by
  subst hn
  intro p e s m args below meth c H locs ls C hR hL hl
  exact lv_iload C.x C.b hd (lo_at hl hx) (K p e s m args below meth c H locs ls C hR hL hl)
theorem r_lload_n {q : Fin 4} {i : Nat} {x : Int64} (nx : Nat) (hd : decode M.2.1 pc = .ok (.lload_n q, 1)) (hn : pc + 1 = nx) (hi : (q : Nat) = i) (hx : lo[i]? = some (some (.long x))) (K : Rn w M R Z k n A nx lo (.long x :: st)) : Rn w M R Z k n A pc lo (st) := by
  subst hn
  intro p e s m args below meth c H locs ls C hR hL hl
  exact lv_lload_n C.x C.b hd hi (lo_at hl hx) (K p e s m args below meth c H locs ls C hR hL hl)
theorem r_lload {i : Nat} {x : Int64} (nx : Nat) (hd : decode M.2.1 pc = .ok (.lload i, 2)) (hn : pc + 2 = nx) (hx : lo[i]? = some (some (.long x))) (K : Rn w M R Z k n A nx lo (.long x :: st)) : Rn w M R Z k n A pc lo (st) := by
  subst hn
  intro p e s m args below meth c H locs ls C hR hL hl
  exact lv_lload C.x C.b hd (lo_at hl hx) (K p e s m args below meth c H locs ls C hR hL hl)
theorem r_aload_n {q : Fin 4} {i : Nat} {x : Nat} (nx : Nat) (hd : decode M.2.1 pc = .ok (.aload_n q, 1)) (hn : pc + 1 = nx) (hi : (q : Nat) = i) (hx : lo[i]? = some (some (.ref x))) (K : Rn w M R Z k n A nx lo (.ref x :: st)) : Rn w M R Z k n A pc lo (st) := by
  subst hn
  intro p e s m args below meth c H locs ls C hR hL hl
  exact lv_aload_n C.x C.b hd hi (lo_at hl hx) (K p e s m args below meth c H locs ls C hR hL hl)
theorem r_aload {i : Nat} {x : Nat} (nx : Nat) (hd : decode M.2.1 pc = .ok (.aload i, 2)) (hn : pc + 2 = nx) (hx : lo[i]? = some (some (.ref x))) (K : Rn w M R Z k n A nx lo (.ref x :: st)) : Rn w M R Z k n A pc lo (st) := by
  subst hn
  intro p e s m args below meth c H locs ls C hR hL hl
  exact lv_aload C.x C.b hd (lo_at hl hx) (K p e s m args below meth c H locs ls C hR hL hl)
theorem r_istore_n {q : Fin 4} {i : Nat} {x : Int32} {lo' : List (Option Value)} (nx : Nat) (hd : decode M.2.1 pc = .ok (.istore_n q, 1)) (hn : pc + 1 = nx) (hi : (q : Nat) = i) (hs : lo.set i (some (.int x)) = lo') (hok : lo_ok M.2.2.1 lo i = true) (K : Rn w M R Z k n A nx lo' st) : Rn w M R Z k n A pc lo (.int x :: st) := by
  subst hn
  subst hs
  intro p e s m args below meth c H locs ls C hR hL hl
  obtain ⟨l, h1, h2⟩ := hl
  exact lv_istore_n C.x C.b hd hi h1 (lo_ok_lt hok) rfl (fun ls' hl' => K p e s m args below meth c H locs ls' C hR hL ⟨_, hl', lo_set1 h2 hok⟩)
theorem r_istore {i : Nat} {x : Int32} {lo' : List (Option Value)} (nx : Nat) (hd : decode M.2.1 pc = .ok (.istore i, 2)) (hn : pc + 2 = nx) (hs : lo.set i (some (.int x)) = lo') (hok : lo_ok M.2.2.1 lo i = true) (K : Rn w M R Z k n A nx lo' st) : Rn w M R Z k n A pc lo (.int x :: st) := by
  subst hn
  subst hs
  intro p e s m args below meth c H locs ls C hR hL hl
  obtain ⟨l, h1, h2⟩ := hl
  exact lv_istore C.x C.b hd h1 (lo_ok_lt hok) rfl (fun ls' hl' => K p e s m args below meth c H locs ls' C hR hL ⟨_, hl', lo_set1 h2 hok⟩)
theorem r_astore_n {q : Fin 4} {i : Nat} {x : Nat} {lo' : List (Option Value)} (nx : Nat) (hd : decode M.2.1 pc = .ok (.astore_n q, 1)) (hn : pc + 1 = nx) (hi : (q : Nat) = i) (hs : lo.set i (some (.ref x)) = lo') (hok : lo_ok M.2.2.1 lo i = true) (K : Rn w M R Z k n A nx lo' st) : Rn w M R Z k n A pc lo (.ref x :: st) := by
  subst hn
  subst hs
  intro p e s m args below meth c H locs ls C hR hL hl
  obtain ⟨l, h1, h2⟩ := hl
  exact lv_astore_n C.x C.b hd hi h1 (lo_ok_lt hok) rfl (fun ls' hl' => K p e s m args below meth c H locs ls' C hR hL ⟨_, hl', lo_set1 h2 hok⟩)
theorem r_astore {i : Nat} {x : Nat} {lo' : List (Option Value)} (nx : Nat) (hd : decode M.2.1 pc = .ok (.astore i, 2)) (hn : pc + 2 = nx) (hs : lo.set i (some (.ref x)) = lo') (hok : lo_ok M.2.2.1 lo i = true) (K : Rn w M R Z k n A nx lo' st) : Rn w M R Z k n A pc lo (.ref x :: st) := by
  subst hn
  subst hs
  intro p e s m args below meth c H locs ls C hR hL hl
  obtain ⟨l, h1, h2⟩ := hl
  exact lv_astore C.x C.b hd h1 (lo_ok_lt hok) rfl (fun ls' hl' => K p e s m args below meth c H locs ls' C hR hL ⟨_, hl', lo_set1 h2 hok⟩)
theorem r_lstore_n {q : Fin 4} {i : Nat} {x : Int64} {lo' : List (Option Value)} (nx : Nat) (hd : decode M.2.1 pc = .ok (.lstore_n q, 1)) (hn : pc + 1 = nx) (hi : (q : Nat) = i) (hs : (lo.set i (some (.long x))).set (i + 1) none = lo') (hok : lo_ok M.2.2.1 lo i = true) (hlt : i + 1 < M.2.2.1) (K : Rn w M R Z k n A nx lo' st) : Rn w M R Z k n A pc lo (.long x :: st) := by
  subst hn
  subst hs
  intro p e s m args below meth c H locs ls C hR hL hl
  obtain ⟨l, h1, h2⟩ := hl
  exact lv_lstore_n C.x C.b hd hi h1 hlt rfl (fun ls' hl' => K p e s m args below meth c H locs ls' C hR hL ⟨_, hl', lo_set2 h2 hok⟩)
theorem r_lstore {i : Nat} {x : Int64} {lo' : List (Option Value)} (nx : Nat) (hd : decode M.2.1 pc = .ok (.lstore i, 2)) (hn : pc + 2 = nx) (hs : (lo.set i (some (.long x))).set (i + 1) none = lo') (hok : lo_ok M.2.2.1 lo i = true) (hlt : i + 1 < M.2.2.1) (K : Rn w M R Z k n A nx lo' st) : Rn w M R Z k n A pc lo (.long x :: st) := by
  subst hn
  subst hs
  intro p e s m args below meth c H locs ls C hR hL hl
  obtain ⟨l, h1, h2⟩ := hl
  exact lv_lstore C.x C.b hd h1 hlt rfl (fun ls' hl' => K p e s m args below meth c H locs ls' C hR hL ⟨_, hl', lo_set2 h2 hok⟩)
theorem r_iinc {i : Nat} {j : Int} {x v : Int32} {lo' : List (Option Value)} (nx : Nat) (hd : decode M.2.1 pc = .ok (.iinc i j, 3)) (hn : pc + 3 = nx) (hx : lo[i]? = some (some (.int x))) (hv : x + Int32.ofInt j = v) (hs : lo.set i (some (.int v)) = lo') (hok : lo_ok M.2.2.1 lo i = true) (K : Rn w M R Z k n A nx lo' st) : Rn w M R Z k n A pc lo st := by
  subst hn
  subst hs
  intro p e s m args below meth c H locs ls C hR hL hl
  obtain ⟨l, h1, h2⟩ := hl
  obtain ⟨kk, hk⟩ := List.getElem?_of_mem (h2 i _ hx)
  exact lv_iinc C.x C.b hd h1 hk hv (lo_ok_lt hok) rfl (fun ls' hl' => K p e s m args below meth c H locs ls' C hR hL ⟨_, hl', lo_set1 h2 hok⟩)
theorem r_iadd {x y : Int32} (nx : Nat) (hd : decode M.2.1 pc = .ok (.iadd, 1)) (hn : pc + 1 = nx) (K : Rn w M R Z k n A nx lo (.int (x + y) :: st)) : Rn w M R Z k n A pc lo (.int y :: .int x :: st) := by
  subst hn
  intro p e s m args below meth c H locs ls C hR hL hl
  exact lv_iadd C.x C.b hd (K p e s m args below meth c H locs ls C hR hL hl)
theorem r_isub {x y : Int32} (nx : Nat) (hd : decode M.2.1 pc = .ok (.isub, 1)) (hn : pc + 1 = nx) (K : Rn w M R Z k n A nx lo (.int (x - y) :: st)) : Rn w M R Z k n A pc lo (.int y :: .int x :: st) := by
  subst hn
  intro p e s m args below meth c H locs ls C hR hL hl
  exact lv_isub C.x C.b hd (K p e s m args below meth c H locs ls C hR hL hl)
theorem r_imul {x y : Int32} (nx : Nat) (hd : decode M.2.1 pc = .ok (.imul, 1)) (hn : pc + 1 = nx) (K : Rn w M R Z k n A nx lo (.int (x * y) :: st)) : Rn w M R Z k n A pc lo (.int y :: .int x :: st) := by
  subst hn
  intro p e s m args below meth c H locs ls C hR hL hl
  exact lv_imul C.x C.b hd (K p e s m args below meth c H locs ls C hR hL hl)
theorem r_iand {x y : Int32} (nx : Nat) (hd : decode M.2.1 pc = .ok (.iand, 1)) (hn : pc + 1 = nx) (K : Rn w M R Z k n A nx lo (.int (x &&& y) :: st)) : Rn w M R Z k n A pc lo (.int y :: .int x :: st) := by
  subst hn
  intro p e s m args below meth c H locs ls C hR hL hl
  exact lv_iand C.x C.b hd (K p e s m args below meth c H locs ls C hR hL hl)
theorem r_ior {x y : Int32} (nx : Nat) (hd : decode M.2.1 pc = .ok (.ior, 1)) (hn : pc + 1 = nx) (K : Rn w M R Z k n A nx lo (.int (x ||| y) :: st)) : Rn w M R Z k n A pc lo (.int y :: .int x :: st) := by
  subst hn
  intro p e s m args below meth c H locs ls C hR hL hl
  exact lv_ior C.x C.b hd (K p e s m args below meth c H locs ls C hR hL hl)
theorem r_ishl {x y : Int32} (nx : Nat) (hd : decode M.2.1 pc = .ok (.ishl, 1)) (hn : pc + 1 = nx) (K : Rn w M R Z k n A nx lo (.int (x <<< (y &&& 31)) :: st)) : Rn w M R Z k n A pc lo (.int y :: .int x :: st) := by
  subst hn
  intro p e s m args below meth c H locs ls C hR hL hl
  exact lv_ishl C.x C.b hd (K p e s m args below meth c H locs ls C hR hL hl)
theorem r_ishr {x y : Int32} (nx : Nat) (hd : decode M.2.1 pc = .ok (.ishr, 1)) (hn : pc + 1 = nx) (K : Rn w M R Z k n A nx lo (.int (x >>> (y &&& 31)) :: st)) : Rn w M R Z k n A pc lo (.int y :: .int x :: st) := by
  subst hn
  intro p e s m args below meth c H locs ls C hR hL hl
  exact lv_ishr C.x C.b hd (K p e s m args below meth c H locs ls C hR hL hl)
theorem r_idiv {x y : Int32} (nx : Nat) (hd : decode M.2.1 pc = .ok (.idiv, 1)) (hn : pc + 1 = nx) (hne : ¬ y = 0) (K : Rn w M R Z k n A nx lo (.int (x / y) :: st)) : Rn w M R Z k n A pc lo (.int y :: .int x :: st) := by
  subst hn
  intro p e s m args below meth c H locs ls C hR hL hl
  exact lv_idiv C.x C.b hd hne (K p e s m args below meth c H locs ls C hR hL hl)
theorem r_irem {x y : Int32} (nx : Nat) (hd : decode M.2.1 pc = .ok (.irem, 1)) (hn : pc + 1 = nx) (hne : ¬ y = 0) (K : Rn w M R Z k n A nx lo (.int (x - x / y * y) :: st)) : Rn w M R Z k n A pc lo (.int y :: .int x :: st) := by
  subst hn
  intro p e s m args below meth c H locs ls C hR hL hl
  exact lv_irem C.x C.b hd hne (K p e s m args below meth c H locs ls C hR hL hl)
theorem r_ladd {x y : Int64} (nx : Nat) (hd : decode M.2.1 pc = .ok (.ladd, 1)) (hn : pc + 1 = nx) (K : Rn w M R Z k n A nx lo (.long (x + y) :: st)) : Rn w M R Z k n A pc lo (.long y :: .long x :: st) := by
  subst hn
  intro p e s m args below meth c H locs ls C hR hL hl
  exact lv_ladd C.x C.b hd (K p e s m args below meth c H locs ls C hR hL hl)
theorem r_lsub {x y : Int64} (nx : Nat) (hd : decode M.2.1 pc = .ok (.lsub, 1)) (hn : pc + 1 = nx) (K : Rn w M R Z k n A nx lo (.long (x - y) :: st)) : Rn w M R Z k n A pc lo (.long y :: .long x :: st) := by
  subst hn
  intro p e s m args below meth c H locs ls C hR hL hl
  exact lv_lsub C.x C.b hd (K p e s m args below meth c H locs ls C hR hL hl)
theorem r_ldiv {x y : Int64} (nx : Nat) (hd : decode M.2.1 pc = .ok (.ldiv, 1)) (hn : pc + 1 = nx) (hne : ¬ y = 0) (K : Rn w M R Z k n A nx lo (.long (x / y) :: st)) : Rn w M R Z k n A pc lo (.long y :: .long x :: st) := by
  subst hn
  intro p e s m args below meth c H locs ls C hR hL hl
  exact lv_ldiv C.x C.b hd hne (K p e s m args below meth c H locs ls C hR hL hl)
theorem r_lrem {x y : Int64} (nx : Nat) (hd : decode M.2.1 pc = .ok (.lrem, 1)) (hn : pc + 1 = nx) (hne : ¬ y = 0) (K : Rn w M R Z k n A nx lo (.long (x - x / y * y) :: st)) : Rn w M R Z k n A pc lo (.long y :: .long x :: st) := by
  subst hn
  intro p e s m args below meth c H locs ls C hR hL hl
  exact lv_lrem C.x C.b hd hne (K p e s m args below meth c H locs ls C hR hL hl)
theorem r_i2l {x : Int32} {v : Int64} (nx : Nat) (hd : decode M.2.1 pc = .ok (.i2l, 1)) (hn : pc + 1 = nx) (hv : x.toInt64 = v) (K : Rn w M R Z k n A nx lo (.long v :: st)) : Rn w M R Z k n A pc lo (.int x :: st) := by
  subst hn
  intro p e s m args below meth c H locs ls C hR hL hl
  exact lv_i2l C.x C.b hd hv (K p e s m args below meth c H locs ls C hR hL hl)
theorem r_i2b {x v : Int32} (nx : Nat) (hd : decode M.2.1 pc = .ok (.i2b, 1)) (hn : pc + 1 = nx) (hv : x.toInt8.toInt32 = v) (K : Rn w M R Z k n A nx lo (.int v :: st)) : Rn w M R Z k n A pc lo (.int x :: st) := by
  subst hn
  intro p e s m args below meth c H locs ls C hR hL hl
  exact lv_i2b C.x C.b hd hv (K p e s m args below meth c H locs ls C hR hL hl)
theorem r_i2s {x v : Int32} (nx : Nat) (hd : decode M.2.1 pc = .ok (.i2s, 1)) (hn : pc + 1 = nx) (hv : x.toInt16.toInt32 = v) (K : Rn w M R Z k n A nx lo (.int v :: st)) : Rn w M R Z k n A pc lo (.int x :: st) := by
  subst hn
  intro p e s m args below meth c H locs ls C hR hL hl
  exact lv_i2s C.x C.b hd hv (K p e s m args below meth c H locs ls C hR hL hl)
theorem r_dup {v : Value} (nx : Nat) (hd : decode M.2.1 pc = .ok (.dup, 1)) (hn : pc + 1 = nx) (hc : v.category = 1) (K : Rn w M R Z k n A nx lo (v :: v :: st)) : Rn w M R Z k n A pc lo (v :: st) := by
  subst hn
  intro p e s m args below meth c H locs ls C hR hL hl
  exact lv_dup C.x C.b hd hc (K p e s m args below meth c H locs ls C hR hL hl)
theorem r_pop {v : Value} (nx : Nat) (hd : decode M.2.1 pc = .ok (.pop, 1)) (hn : pc + 1 = nx) (hc : v.category = 1) (K : Rn w M R Z k n A nx lo (st)) : Rn w M R Z k n A pc lo (v :: st) := by
  subst hn
  intro p e s m args below meth c H locs ls C hR hL hl
  exact lv_pop C.x C.b hd hc (K p e s m args below meth c H locs ls C hR hL hl)
theorem r_dup_x1 {v u : Value} (nx : Nat) (hd : decode M.2.1 pc = .ok (.dup_x1, 1)) (hn : pc + 1 = nx) (hc : v.category = 1) (hc2 : u.category = 1) (K : Rn w M R Z k n A nx lo (v :: u :: v :: st)) : Rn w M R Z k n A pc lo (v :: u :: st) := by
  subst hn
  intro p e s m args below meth c H locs ls C hR hL hl
  exact lv_dup_x1 C.x C.b hd hc hc2 (K p e s m args below meth c H locs ls C hR hL hl)
theorem r_dup2 {v u : Value} (nx : Nat) (hd : decode M.2.1 pc = .ok (.dup2, 1)) (hn : pc + 1 = nx) (hc : v.category = 1) (hc2 : u.category = 1) (K : Rn w M R Z k n A nx lo (v :: u :: v :: u :: st)) : Rn w M R Z k n A pc lo (v :: u :: st) := by
  subst hn
  intro p e s m args below meth c H locs ls C hR hL hl
  exact lv_dup2_11 C.x C.b hd hc hc2 (K p e s m args below meth c H locs ls C hR hL hl)
theorem r_if_eq {x : Int32} {off : Int} (tgt nx : Nat) (hd : decode M.2.1 pc = .ok (.ifCond .eq off, 3)) (hn : pc + 3 = nx) (ht : (pc : Int) + off = (tgt : Int)) (K1 : x = 0 → Rn w M R Z k n A tgt lo st) (K2 : ¬ x = 0 → Rn w M R Z k n A nx lo st) : Rn w M R Z k n A pc lo (.int x :: st) := by
  subst hn
  intro p e s m args below meth c H locs ls C hR hL hl
  exact lv_if_eq C.x C.b hd ht (fun h => K1 h p e s m args below meth c H locs ls C hR hL hl) (fun h => K2 h p e s m args below meth c H locs ls C hR hL hl)
theorem r_icmp_eq {x y : Int32} {off : Int} (tgt nx : Nat) (hd : decode M.2.1 pc = .ok (.if_icmp .eq off, 3)) (hn : pc + 3 = nx) (ht : (pc : Int) + off = (tgt : Int)) (K1 : x = y → Rn w M R Z k n A tgt lo st) (K2 : ¬ x = y → Rn w M R Z k n A nx lo st) : Rn w M R Z k n A pc lo (.int y :: .int x :: st) := by
  subst hn
  intro p e s m args below meth c H locs ls C hR hL hl
  exact lv_icmp_eq C.x C.b hd ht (fun h => K1 h p e s m args below meth c H locs ls C hR hL hl) (fun h => K2 h p e s m args below meth c H locs ls C hR hL hl)
theorem r_if_ne {x : Int32} {off : Int} (tgt nx : Nat) (hd : decode M.2.1 pc = .ok (.ifCond .ne off, 3)) (hn : pc + 3 = nx) (ht : (pc : Int) + off = (tgt : Int)) (K1 : ¬ x = 0 → Rn w M R Z k n A tgt lo st) (K2 : x = 0 → Rn w M R Z k n A nx lo st) : Rn w M R Z k n A pc lo (.int x :: st) := by
  subst hn
  intro p e s m args below meth c H locs ls C hR hL hl
  exact lv_if_ne C.x C.b hd ht (fun h => K1 h p e s m args below meth c H locs ls C hR hL hl) (fun h => K2 h p e s m args below meth c H locs ls C hR hL hl)
theorem r_icmp_ne {x y : Int32} {off : Int} (tgt nx : Nat) (hd : decode M.2.1 pc = .ok (.if_icmp .ne off, 3)) (hn : pc + 3 = nx) (ht : (pc : Int) + off = (tgt : Int)) (K1 : ¬ x = y → Rn w M R Z k n A tgt lo st) (K2 : x = y → Rn w M R Z k n A nx lo st) : Rn w M R Z k n A pc lo (.int y :: .int x :: st) := by
  subst hn
  intro p e s m args below meth c H locs ls C hR hL hl
  exact lv_icmp_ne C.x C.b hd ht (fun h => K1 h p e s m args below meth c H locs ls C hR hL hl) (fun h => K2 h p e s m args below meth c H locs ls C hR hL hl)
theorem r_if_lt {x : Int32} {off : Int} (tgt nx : Nat) (hd : decode M.2.1 pc = .ok (.ifCond .lt off, 3)) (hn : pc + 3 = nx) (ht : (pc : Int) + off = (tgt : Int)) (K1 : x < 0 → Rn w M R Z k n A tgt lo st) (K2 : ¬ x < 0 → Rn w M R Z k n A nx lo st) : Rn w M R Z k n A pc lo (.int x :: st) := by
  subst hn
  intro p e s m args below meth c H locs ls C hR hL hl
  exact lv_if_lt C.x C.b hd ht (fun h => K1 h p e s m args below meth c H locs ls C hR hL hl) (fun h => K2 h p e s m args below meth c H locs ls C hR hL hl)
theorem r_icmp_lt {x y : Int32} {off : Int} (tgt nx : Nat) (hd : decode M.2.1 pc = .ok (.if_icmp .lt off, 3)) (hn : pc + 3 = nx) (ht : (pc : Int) + off = (tgt : Int)) (K1 : x < y → Rn w M R Z k n A tgt lo st) (K2 : ¬ x < y → Rn w M R Z k n A nx lo st) : Rn w M R Z k n A pc lo (.int y :: .int x :: st) := by
  subst hn
  intro p e s m args below meth c H locs ls C hR hL hl
  exact lv_icmp_lt C.x C.b hd ht (fun h => K1 h p e s m args below meth c H locs ls C hR hL hl) (fun h => K2 h p e s m args below meth c H locs ls C hR hL hl)
theorem r_if_ge {x : Int32} {off : Int} (tgt nx : Nat) (hd : decode M.2.1 pc = .ok (.ifCond .ge off, 3)) (hn : pc + 3 = nx) (ht : (pc : Int) + off = (tgt : Int)) (K1 : 0 ≤ x → Rn w M R Z k n A tgt lo st) (K2 : ¬ 0 ≤ x → Rn w M R Z k n A nx lo st) : Rn w M R Z k n A pc lo (.int x :: st) := by
  subst hn
  intro p e s m args below meth c H locs ls C hR hL hl
  exact lv_if_ge C.x C.b hd ht (fun h => K1 h p e s m args below meth c H locs ls C hR hL hl) (fun h => K2 h p e s m args below meth c H locs ls C hR hL hl)
theorem r_icmp_ge {x y : Int32} {off : Int} (tgt nx : Nat) (hd : decode M.2.1 pc = .ok (.if_icmp .ge off, 3)) (hn : pc + 3 = nx) (ht : (pc : Int) + off = (tgt : Int)) (K1 : y ≤ x → Rn w M R Z k n A tgt lo st) (K2 : ¬ y ≤ x → Rn w M R Z k n A nx lo st) : Rn w M R Z k n A pc lo (.int y :: .int x :: st) := by
  subst hn
  intro p e s m args below meth c H locs ls C hR hL hl
  exact lv_icmp_ge C.x C.b hd ht (fun h => K1 h p e s m args below meth c H locs ls C hR hL hl) (fun h => K2 h p e s m args below meth c H locs ls C hR hL hl)
theorem r_if_gt {x : Int32} {off : Int} (tgt nx : Nat) (hd : decode M.2.1 pc = .ok (.ifCond .gt off, 3)) (hn : pc + 3 = nx) (ht : (pc : Int) + off = (tgt : Int)) (K1 : 0 < x → Rn w M R Z k n A tgt lo st) (K2 : ¬ 0 < x → Rn w M R Z k n A nx lo st) : Rn w M R Z k n A pc lo (.int x :: st) := by
  subst hn
  intro p e s m args below meth c H locs ls C hR hL hl
  exact lv_if_gt C.x C.b hd ht (fun h => K1 h p e s m args below meth c H locs ls C hR hL hl) (fun h => K2 h p e s m args below meth c H locs ls C hR hL hl)
theorem r_icmp_gt {x y : Int32} {off : Int} (tgt nx : Nat) (hd : decode M.2.1 pc = .ok (.if_icmp .gt off, 3)) (hn : pc + 3 = nx) (ht : (pc : Int) + off = (tgt : Int)) (K1 : y < x → Rn w M R Z k n A tgt lo st) (K2 : ¬ y < x → Rn w M R Z k n A nx lo st) : Rn w M R Z k n A pc lo (.int y :: .int x :: st) := by
  subst hn
  intro p e s m args below meth c H locs ls C hR hL hl
  exact lv_icmp_gt C.x C.b hd ht (fun h => K1 h p e s m args below meth c H locs ls C hR hL hl) (fun h => K2 h p e s m args below meth c H locs ls C hR hL hl)
theorem r_if_le {x : Int32} {off : Int} (tgt nx : Nat) (hd : decode M.2.1 pc = .ok (.ifCond .le off, 3)) (hn : pc + 3 = nx) (ht : (pc : Int) + off = (tgt : Int)) (K1 : x ≤ 0 → Rn w M R Z k n A tgt lo st) (K2 : ¬ x ≤ 0 → Rn w M R Z k n A nx lo st) : Rn w M R Z k n A pc lo (.int x :: st) := by
  subst hn
  intro p e s m args below meth c H locs ls C hR hL hl
  exact lv_if_le C.x C.b hd ht (fun h => K1 h p e s m args below meth c H locs ls C hR hL hl) (fun h => K2 h p e s m args below meth c H locs ls C hR hL hl)
theorem r_icmp_le {x y : Int32} {off : Int} (tgt nx : Nat) (hd : decode M.2.1 pc = .ok (.if_icmp .le off, 3)) (hn : pc + 3 = nx) (ht : (pc : Int) + off = (tgt : Int)) (K1 : x ≤ y → Rn w M R Z k n A tgt lo st) (K2 : ¬ x ≤ y → Rn w M R Z k n A nx lo st) : Rn w M R Z k n A pc lo (.int y :: .int x :: st) := by
  subst hn
  intro p e s m args below meth c H locs ls C hR hL hl
  exact lv_icmp_le C.x C.b hd ht (fun h => K1 h p e s m args below meth c H locs ls C hR hL hl) (fun h => K2 h p e s m args below meth c H locs ls C hR hL hl)
theorem r_goto {off : Int} (tgt : Nat) (hd : decode M.2.1 pc = .ok (.goto off, 3)) (ht : (pc : Int) + off = (tgt : Int)) (K : Rn w M R Z k n A tgt lo st) : Rn w M R Z k n A pc lo st := by
  intro p e s m args below meth c H locs ls C hR hL hl
  exact lv_goto C.x C.b hd ht (K p e s m args below meth c H locs ls C hR hL hl)
theorem r_ldc2 {idx : Nat} {v : Int64} (nx : Nat) (hd : decode M.2.1 pc = .ok (.ldc2_w idx, 3)) (hn : pc + 3 = nx) (hc : Cond.constantLong M.1.cls idx v ∈ lw_all) (K : Rn w M R Z k n A nx lo (.long v :: st)) : Rn w M R Z k n A pc lo st := by
  subst hn
  intro p e s m args below meth c H locs ls C hR hL hl
  exact W.ldc2 C.x C.b C.own (C.ts _ hc) rfl hd (K p e s m args below meth c H locs ls C hR hL hl)
theorem r_lcmp {x y : Int64} (nx : Nat) (hd : decode M.2.1 pc = .ok (.lcmp, 1)) (hn : pc + 1 = nx) (K : Rn w M R Z k n A nx lo (.int (lg_cmp x y) :: st)) : Rn w M R Z k n A pc lo (.long y :: .long x :: st) := by
  subst hn
  intro p e s m args below meth c H locs ls C hR hL hl
  exact W.lcmp C.x C.b hd (K p e s m args below meth c H locs ls C hR hL hl)
/-! returns -/
theorem r_iret {Qo : Option Value → Hp → Prop} {mc ms : Nat} {v : Int32} (hd : decode M.2.1 pc = .ok (.ireturn, 1)) (hr : M.2.2.2 = some .int) (h1 : k ≤ mc) (h2 : n ≤ ms) (hq : Qo (some (.int v)) A) : Rn w M R (ZX w Qo mc ms) k n A pc lo [.int v] := by
  intro p e s m args below meth c H locs ls C hR hL hl
  exact W.widen h1 h2 (W.iret C.x C.b (C.r.trans hr) (fun t ht hW => ⟨_, A, rfl, by rw [ht]; exact hR, hq⟩) hL hd C.nl)
theorem r_zret {Qo : Option Value → Hp → Prop} {mc ms : Nat} {v : Int32} {ty : FieldType} (hd : decode M.2.1 pc = .ok (.ireturn, 1)) (hr : M.2.2.2 = some ty) (hnar : narrow ty (.int v) = .int v) (h1 : k ≤ mc) (h2 : n ≤ ms) (hq : Qo (some (.int v)) A) : Rn w M R (ZX w Qo mc ms) k n A pc lo [.int v] := by
  intro p e s m args below meth c H locs ls C hR hL hl
  exact W.widen h1 h2 (W.zret C.x C.b (C.r.trans hr) hnar (fun t ht hW => ⟨_, A, rfl, by rw [ht]; exact hR, hq⟩) hL hd C.nl)
theorem r_lret {Qo : Option Value → Hp → Prop} {mc ms : Nat} {v : Int64} (hd : decode M.2.1 pc = .ok (.lreturn, 1)) (hr : M.2.2.2 = some .long) (h1 : k ≤ mc) (h2 : n ≤ ms) (hq : Qo (some (.long v)) A) : Rn w M R (ZX w Qo mc ms) k n A pc lo [.long v] := by
  intro p e s m args below meth c H locs ls C hR hL hl
  exact W.widen h1 h2 (W.lret C.x C.b (C.r.trans hr) (fun t ht hW => ⟨_, A, rfl, by rw [ht]; exact hR, hq⟩) hL hd C.nl)
theorem r_vret {Qo : Option Value → Hp → Prop} {mc ms : Nat} (hd : decode M.2.1 pc = .ok (.return_, 1)) (hr : M.2.2.2 = none) (h1 : k ≤ mc) (h2 : n ≤ ms) (hq : Qo none A) : Rn w M R (ZX w Qo mc ms) k n A pc lo [] := by
  intro p e s m args below meth c H locs ls C hR hL hl
  exact W.widen h1 h2 (W.vret C.x C.b (C.r.trans hr) (fun t ht hW => ⟨_, A, rfl, by rw [ht]; exact hR, hq⟩) hL hd C.nl)
theorem r_aret {Qo : Option Value → Hp → Prop} {mc ms : Nat} {v : Value} {rt : FieldType} (hd : decode M.2.1 pc = .ok (.areturn, 1)) (hr : M.2.2.2 = some rt) (hrt : (∃ n, rt = .object n) ∨ ∃ t, rt = .array t) (hv : v = .null ∨ ∃ a, v = .ref a) (h1 : k ≤ mc) (h2 : n ≤ ms) (hq : Qo (some v) A) : Rn w M R (ZX w Qo mc ms) k n A pc lo [v] := by
  intro p e s m args below meth c H locs ls C hR hL hl
  exact W.widen h1 h2 (W.aret C.x C.b (C.r.trans hr) hrt hv (fun t ht hW => ⟨_, A, rfl, by rw [ht]; exact hR, hq⟩) hL hd C.nl)
end ROWS
