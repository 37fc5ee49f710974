/-! multianewarray: a row of rows of ints -/
set_option maxRecDepth 100000
section MULTI
/-- the outer row with i rows laid into it -/
abbrev mzO (c : ClassId) (N h i : Nat) : Cell := arrV c N (fun j => if j < i then .ref (h + (1 + j)) else .null)
abbrev mzI (c : ClassId) (M : Nat) : Cell := arrV c M (fun _ => .int 0)
def mzS (T : State) (c d : ClassId) (N M : Nat) : Nat → State
  | 0 => T.pushCell (mzO c N T.heap.size 0)
  | i + 1 => ((mzS T c d N M i).pushCell (mzI d M)).setCell T.heap.size (mzO c N T.heap.size (i + 1))
theorem mzO_s {c : ClassId} {N h i : Nat} : (mzO c N h i).setSlot i (.ref (h + (1 + i))) = mzO c N h (i + 1) := by
  unfold mzO
  rw [arrV_store]
  congr 1
  funext j
  by_cases e : j = i
  · subst e
    simp [updV]
  · simp only [updV, e, if_false]
    by_cases h2 : j < i
    · rw [if_pos h2, if_pos (by omega)]
    · rw [if_neg h2, if_neg (by omega)]
theorem mzS_f {T : State} {c d : ClassId} {N M : Nat} : ∀ i, (mzS T c d N M i).heap.size = T.heap.size + 1 + i ∧ (mzS T c d N M i).heap[T.heap.size]? = some (mzO c N T.heap.size i) ∧ (mzS T c d N M i).vm = T.vm ∧ (mzS T c d N M i).slotsUsed = T.slotsUsed + N + i * M ∧ (∀ q : Nat, q < T.heap.size → (mzS T c d N M i).heap[q]? = T.heap[q]?) ∧ ∀ j, j < i → (mzS T c d N M i).heap[T.heap.size + (1 + j)]? = some (mzI d M)
  | 0 => by
    refine ⟨by simp [mzS], by simp [mzS], rfl, ?_, fun q hq => State.heap_pushCell_of_lt _ _ hq, fun j hj => absurd hj (Nat.not_lt_zero _)⟩
    show T.slotsUsed + (mzO c N T.heap.size 0).slots.size = _
    rw [arrV_size]
    omega
  | i + 1 => by
    obtain ⟨a1, a2, a3, a4, a5, a6⟩ := mzS_f (T := T) (c := c) (d := d) (N := N) (M := M) i
    have hlt : T.heap.size < (mzS T c d N M i).heap.size := by omega
    have hb : ((mzS T c d N M i).pushCell (mzI d M)).heap[T.heap.size]? = some (mzO c N T.heap.size i) := (State.heap_pushCell_of_lt _ _ hlt).trans a2
    refine ⟨?_, State.heap_setCell_self hb, a3, ?_, fun q hq => ?_, fun j hj => ?_⟩
    · simp [mzS, State.setCell, a1]
      omega
    · have e1 : (((mzS T c d N M i).pushCell (mzI d M)).setCell T.heap.size (mzO c N T.heap.size (i + 1))).slotsUsed = (mzS T c d N M i).slotsUsed + M := by
        have : (mzI d M).slots.size = M := arrV_size _ _ _
        show (mzS T c d N M i).slotsUsed + (mzI d M).slots.size = _
        rw [this]
      show (((mzS T c d N M i).pushCell (mzI d M)).setCell T.heap.size (mzO c N T.heap.size (i + 1))).slotsUsed = _
      rw [e1, a4, Nat.succ_mul]
      omega
    · show (((mzS T c d N M i).pushCell (mzI d M)).setCell T.heap.size _).heap[q]? = _
      rw [State.heap_setCell_other (Nat.ne_of_gt hq), State.heap_pushCell_of_lt _ _ (show q < (mzS T c d N M i).heap.size by omega)]
      exact a5 q hq
    · show (((mzS T c d N M i).pushCell (mzI d M)).setCell T.heap.size _).heap[T.heap.size + (1 + j)]? = _
      rw [State.heap_setCell_other (show T.heap.size ≠ T.heap.size + (1 + j) by omega)]
      by_cases e : j < i
      · rw [State.heap_pushCell_of_lt _ _ (show T.heap.size + (1 + j) < (mzS T c d N M i).heap.size by omega)]
        exact a6 j e
      · have e2 : T.heap.size + (1 + j) = (mzS T c d N M i).heap.size := by omega
        rw [e2]
        exact State.heap_pushCell_size _ _
theorem mzS_top (T : State) (f : JFrame) (c d : ClassId) (N M : Nat) : ∀ i, mzS (T.setTop f) c d N M i = (mzS T c d N M i).setTop f
  | 0 => rfl
  | i + 1 => by simp only [mzS, mzS_top T f c d N M i, State.heap_setTop, State.pushCell_setTop, State.setCell_setTop]
section MW
variable {E : CtlPost} {e : Env} {dd : Bool} {acts : List Action} {U : State}
theorem mz_in {d d2 : ClassId} {kd : Class} {m : Int32} {M : Nat} (hk : U.vm.classes[d]? = some kd) (hkind : kd.kind = .array d2 .int) (hm : ¬ m < 0) (hM : m.toNatClampNeg = M) (hl : ¬ M > e.platform.arrayLengthLimit) (hh : ¬ M * componentBytes .int > e.platform.maxHeapBytes) (h1 : U.heap.size < e.platform.maxCells) (h2 : U.slotsUsed + M ≤ e.platform.maxSlots)
    {Q : Addr → Pre} (hq : ∀ acts', Q U.heap.size dd acts' (U.pushCell (mzI d M))) : wp (Jvm.Op.multianewarray.make d [m]) Q E e dd acts U := by
  rw [Jvm.Op.multianewarray.make]
  simp only [wp_bind', W.ite, hm, if_false, wp_pure', W.theClass, hk, hkind, Option.some.injEq, exists_eq_left', hM]
  exact W.newArray_of hk hkind hl hh h1 h2 rfl (fun acts' => by rw [show defaultValue .int = .int 0 from rfl, arrV_new]; exact hq acts')
theorem mz_out {c d d2 : ClassId} {kc kd : Class} {n m : Int32} {N M : Nat} (hkc : U.vm.classes[c]? = some kc) (hkindc : kc.kind = .array d (.array .int)) (hk : U.vm.classes[d]? = some kd) (hkind : kd.kind = .array d2 .int) (hn : ¬ n < 0) (hm : ¬ m < 0) (hN : n.toNatClampNeg = N) (hM : m.toNatClampNeg = M)
    (hl1 : ¬ N > e.platform.arrayLengthLimit) (hh1 : ¬ N * componentBytes (.array .int) > e.platform.maxHeapBytes) (hl : ¬ M > e.platform.arrayLengthLimit) (hh : ¬ M * componentBytes .int > e.platform.maxHeapBytes) (h1 : U.heap.size + 1 + N ≤ e.platform.maxCells) (h2 : U.slotsUsed + N + N * M ≤ e.platform.maxSlots)
    {Q : Addr → Pre} (hq : ∀ d' acts', Q U.heap.size d' acts' (mzS U c d N M N)) : wp (Jvm.Op.multianewarray.make c [n, m]) Q E e dd acts U := by
  have hfind : ([m].find? (· < 0)) = none := by simp [hm]
  rw [Jvm.Op.multianewarray.make]
  simp only [wp_bind', W.ite, hn, if_false, wp_pure', W.theClass, hkc, hkindc, Option.some.injEq, exists_eq_left', hN]
  refine W.newArray_of hkc hkindc hl1 hh1 (by omega) (by have := Nat.zero_le (N * M); omega) rfl (fun acts1 => ?_)
  simp only [hfind]
  rw [ite_self, wp_bind', Std.Legacy.Range.forIn_eq_forIn_range']
  have hsz : ([:N] : Std.Legacy.Range).size = N := by simp [Std.Legacy.Range.size]
  rw [hsz]
  have hz : U.pushCell { cls := c, slots := Array.replicate N .null } = mzS U c d N M 0 := by
    show _ = U.pushCell (mzO c N U.heap.size 0)
    rw [arrV_new]
    congr 2
  rw [hz]
  show wp (forIn (List.range' 0 N 1) PUnit.unit _) _ E e _ _ _
  refine wp_forIn_inv (fun rest s' => ∃ i, i ≤ N ∧ rest = List.range' i (N - i) ∧ s' = mzS U c d N M i) _ _ ⟨0, Nat.zero_le _, rfl, rfl⟩ ?_ ?_
  · rintro x rest s' d' acts' Q' ⟨i, hi, hl0, rfl⟩ hnext
    by_cases hlt : i < N
    · rw [show N - i = (N - (i + 1)) + 1 by omega, List.range'_succ] at hl0
      obtain ⟨rfl, hrest⟩ := List.cons.inj hl0
      obtain ⟨f1, f2, f3, f4, -, -⟩ := mzS_f (T := U) (c := c) (d := d) (N := N) (M := M) x
      have hmul : x * M + M ≤ N * M := by
        have := Nat.mul_le_mul_right M (show x + 1 ≤ N from hlt)
        rw [Nat.succ_mul] at this
        exact this
      simp only [wp_bind']
      refine mz_in (by rw [f3]; exact hk) hkind hm hM hl hh (by rw [f1]; omega) (by rw [f4]; omega) (fun acts2 => ?_)
      have hlt0 : U.heap.size < (mzS U c d N M x).heap.size := by omega
      simp only [wp_bind', W.writeLoc, wp_pure']
      refine ⟨mzO c N U.heap.size x, (State.heap_pushCell_of_lt _ _ hlt0).trans f2, by simp [mzO, arrV], by rw [arrV_size]; exact hlt, ?_, hnext _ _ _ ⟨x + 1, hlt, hrest, ?_⟩⟩
      · simp [mzO, arrV, State.fitsSlot, State.slotType?, f3, hkc, hkindc, fits]
      · rw [f1, show U.heap.size + 1 + x = U.heap.size + (1 + x) by omega, mzO_s]
        rfl
    · rw [show N - i = 0 by omega] at hl0
      cases hl0
  · rintro s' d' acts' ⟨i, hi, hl0, rfl⟩
    have hiN : i = N := by
      by_cases h : i < N
      · rw [show N - i = (N - (i + 1)) + 1 by omega, List.range'_succ] at hl0
        cases hl0
      · omega
    subst hiN
    simp only [wp_pure']
    exact hq _ _
end MW
theorem stand_mz {p : Program} {l : Launch} {e : Env} {R : Room} {s : State} {m : MethodId} {args : Array Value} {below : List Frame} {meth : Method} {c : Code} {T : State} {locs : List Loc} {k n : Nat} (X : Stand p l e R s m args below meth c T locs k n) (cA d : ClassId) (N M : Nat) :
    ∀ i, Stand p l e R s m args below meth c (mzS T cA d N M i) (locs ++ (List.range i).map fun j => ⟨T.heap.size, j⟩) (k + 1 + i) (n + N + i * M)
  | 0 => by
    have h := X.pushed (mzO cA N T.heap.size 0)
    rw [show (mzO cA N T.heap.size 0).slots.size = N from arrV_size _ _ _] at h
    simpa [mzS] using h
  | i + 1 => by
    have Xi := stand_mz X cA d N M i
    obtain ⟨f1, f2, -, -, -, -⟩ := mzS_f (T := T) (c := cA) (d := d) (N := N) (M := M) i
    have hlt0 : T.heap.size < (mzS T cA d N M i).heap.size := by omega
    have hcell : ((mzS T cA d N M i).pushCell (mzI d M)).heap[T.heap.size]? = some (mzO cA N T.heap.size i) := (State.heap_pushCell_of_lt _ _ hlt0).trans f2
    have h := (Xi.pushed (mzI d M)).stored hcell i (.ref (T.heap.size + (1 + i)))
    rw [show (mzI d M).slots.size = M from arrV_size _ _ _, mzO_s] at h
    have e2 : (locs ++ (List.range (i + 1)).map fun j => (⟨T.heap.size, j⟩ : Loc)) = (locs ++ (List.range i).map fun j => (⟨T.heap.size, j⟩ : Loc)) ++ [⟨T.heap.size, i⟩] := by simp [List.range_succ, List.append_assoc]
    have e3 : n + N + (i + 1) * M = n + N + i * M + M := by rw [Nat.succ_mul]; omega
    rw [e2, e3]
    exact h
theorem aoI {w : WE} {s : State} (hK : KW w s) : ∃ kA : Class, s.vm.classes[w.2.2.1 3]? = some kA ∧ kA.kind = .array (w.2.2.1 0) (.array .int) := by
  have h := hK.1 _ q118
  have h3 : (ws0 w).vm.findClass ("[" ++ (FieldType.array .int).toString) = some (w.2.2.1 3) := (hK.2.2.1.2 3 _ rfl).2
  have h0 : (ws0 w).vm.findClass ("[" ++ FieldType.int.toString) = some (w.2.2.1 0) := (hK.2.2.1.2 0 _ rfl).2
  have hs : (FieldType.array .int).toString = "[" ++ FieldType.int.toString := by decide
  simp only [Cond.before, Cond.holds, Cond.value, beq_iff_eq] at h
  rw [hs, h0] at h
  simp only [Option.bind_some, Option.bind_eq_some_iff, Option.map_eq_some_iff] at h
  obtain ⟨c, hi, k, hk, hb⟩ := h
  obtain ⟨hlt, hp, -⟩ := Array.findIdx?_eq_some_iff_getElem.mp hi
  have hkk : (ws0 w).vm.classes[c] = k := (Array.getElem?_eq_some_iff.mp hk).2
  rw [hkk] at hp
  cases hkind : k.kind with
  | array component ty =>
    rw [hkind] at hb hp
    simp at hb hp
    have hc : c = w.2.2.1 3 := Option.some.inj (hb.2.symm.trans (by rw [← hs]; exact h3))
    subst hc
    obtain ⟨k', hk', he⟩ := hK.2.2.2.alike.2.2 _ _ hk
    exact ⟨k', hk', by rw [he, hkind, hp, hb.1]⟩
  | _ => rw [hkind] at hb; simp at hb
/-- the heap behind it -/
def hpM (w : WE) (A : Hp) (N M : Nat) : Hp := (fun q => if q = A.2 then some (eR w 3 N (fun i => some (A.2 + (1 + i)))) else if A.2 < q ∧ q < A.2 + (1 + N) then some (eI w 0 M (fun _ => 0)) else A.1 q, A.2 + (1 + N))
theorem r_multi {w : WE} {M : MI} {R : Room} {Z : ZT} {k n : Nat} {A : Hp} {pc : Nat} {lo : List (Option Value)} {st : List Value} {idx N L : Nat} (nx : Nat) (hd : decode M.2.1 pc = .ok (.multianewarray idx 2, 4)) (hn : pc + 4 = nx) (hlink : Cond.classLink M.1.cls idx "[[I" ∈ lw_all) (hN : N < 2 ^ 20) (hL : L < 2 ^ 20) (h1 : k + (1 + N) ≤ R.cells) (h2 : n + (N + N * L) ≤ R.slots)
    (K : (∀ (q : Nat) (e : va_E), A.1 q = some e → q < A.2) → wb w ≤ A.2 → Rn w M R Z (k + 1 + N) (n + N + N * L) (hpM w A N L) nx lo (.ref A.2 :: st)) : Rn w M R Z k n A pc lo (.int (nI L) :: .int (nI N) :: st) := by
  subst hn
  intro p e s m args below meth c H locs ls C hR hLc hl T hT X
  subst hT
  have hpl : e.platform.magicAccessors = ({} : Platform).magicAccessors := by rw [X.admits.platform]
  obtain ⟨kA, hkA, hkindA⟩ := aoI C.k
  obtain ⟨-, kC, hkC, cc, hkindC⟩ := (C.k.K.2 0 _ rfl).1 0 (fun _ => .int 0)
  have hnm : s.vm.findClass "[[I" = some (w.2.2.1 3) := (C.k.K.2 3 _ rfl).2
  obtain ⟨c0, hfc0, hcl⟩ := Cond.classLink_spec C.own (C.ts _ hlink) e.platform hpl
  cases hnm.symm.trans hfc0
  obtain ⟨hg₁, hwarm₁, hready₁⟩ := State.classEntry (e := e) X.warmed hcl
  generalize T.vm.noted m.cls idx (.cls (w.2.2.1 3)) = vm₁ at hg₁ hwarm₁ hready₁
  obtain ⟨kA₁, hkA₁, heA⟩ := hwarm₁.alike.2.2 _ _ hkA
  obtain ⟨kC₁, hkC₁, heC⟩ := hwarm₁.alike.2.2 _ _ hkC
  have X₁ := X.noted hwarm₁
  obtain ⟨hr1, hr2⟩ := X.roomAbove h1 h2
  have XF := stand_mz X₁ (w.2.2.1 3) (w.2.2.1 0) N L N
  obtain ⟨f1, f2, f3, f4, f5, f6⟩ := mzS_f (T := T.setVm vm₁) (c := w.2.2.1 3) (d := w.2.2.1 0) (N := N) (M := L) N
  have hlt := hR.lt
  have hR' : Rp w (hpM w A N L) (mzS (T.setVm vm₁) (w.2.2.1 3) (w.2.2.1 0) N L N).heap := by
    refine ⟨?_, ?_, fun q y hy => ?_, fun q hq => (f5 q (by show q < T.heap.size; rw [hR.1]; have := hR.2.1; omega)).trans (hR.2.2.2 q hq)⟩
    · rw [f1]
      show T.heap.size + 1 + N = A.2 + (1 + N)
      rw [hR.1]
      omega
    · have := hR.2.1
      show wb w ≤ A.2 + (1 + N)
      omega
    · have hy' : (if q = A.2 then some (eR w 3 N (fun i => some (A.2 + (1 + i)))) else if A.2 < q ∧ q < A.2 + (1 + N) then some (eI w 0 L (fun _ => 0)) else A.1 q) = some y := hy
      have hsz : (T.setVm vm₁).heap.size = A.2 := hR.1
      split at hy'
      · rename_i e0
        cases hy'
        subst e0
        refine Or.inl ?_
        show (mzS (T.setVm vm₁) (w.2.2.1 3) (w.2.2.1 0) N L N).heap[A.2]? = some (vp_cell _ _)
        rw [← hsz, f2, vp_cell_q]
        exact congrArg some (arrV_ext (fun j hj => by rw [if_pos hj]; rfl))
      · rename_i e0
        split at hy'
        · rename_i e1
          cases hy'
          have e2 : q = (T.setVm vm₁).heap.size + (1 + (q - A.2 - 1)) := by omega
          refine Or.inl ?_
          show (mzS (T.setVm vm₁) (w.2.2.1 3) (w.2.2.1 0) N L N).heap[q]? = some (vp_cell _ _)
          rw [e2, f6 _ (by omega)]
          rfl
        · have hq := hlt _ _ hy'
          exact (hR.2.2.1 q y hy').kept (f5 q (by omega))
  have hcl1 : (nI N).toNatClampNeg = N := nI_clamp (by omega)
  have hcl2 : (nI L).toNatClampNeg = L := nI_clamp (by omega)
  have hsz : T.heap.size = A.2 := hR.1
  obtain ⟨t, a1, b1⟩ := K hlt hR.2.1 p e s m args below meth c _ _ ls C hR' (loc_app hLc (fun q hq => by
      obtain ⟨z, -, hz⟩ := List.mem_map.mp hq
      rw [← hz]
      show wb w ≤ T.heap.size
      rw [hsz]
      exact hR.2.1)) hl _ rfl XF
  refine ⟨t, ?_, b1⟩
  have hexec := C.x
  have hd' : decode c.code pc = .ok (.multianewarray idx 2, 4) := by rw [C.b]; exact hd
  jvm_step X.here [hexec, hd']
  simp only [Jvm.Op.multianewarray.sem, wp_bind', W.resolveClassAt_links (State.method?_setTop (F0 m pc ls (.int (nI L) :: .int (nI N) :: st)) X.here.top) hg₁]
  rw [W.popN, if_neg (by decide)]
  refine ⟨F0 m pc ls (.int (nI L) :: .int (nI N) :: st), State.topJava?_setTop' (s := T.setVm vm₁) _ X.here.top, [.int (nI N), .int (nI L)], st, rfl, rfl, ?_⟩
  simp only [List.mapM_cons, List.mapM_nil, wp_bind', wp_pure']
  refine mz_out (kc := kA₁) (kd := kC₁) (d := w.2.2.1 0) (d2 := cc) (N := N) (M := L) hkA₁ (by rw [heA]; exact hkindA) hkC₁ (by rw [heC]; exact hkindC) (nI_pos (by omega)) (nI_pos (by omega)) hcl1 hcl2 (by rw [Launch.admits_arrayLengthLimit X.admits]; omega) (by rw [Launch.admits_maxHeapBytes X.admits]; show ¬ N * 4 > 536870912; omega) (by rw [Launch.admits_arrayLengthLimit X.admits]; omega) (by rw [Launch.admits_maxHeapBytes X.admits]; show ¬ L * 4 > 536870912; omega) (by show T.heap.size + 1 + N ≤ _; omega) (by show T.slotsUsed + N + N * L ≤ _; omega) (fun d' acts' => ?_)
  have eS : ((T.setTop (F0 m pc ls (.int (nI L) :: .int (nI N) :: st))).setVm vm₁).setTop { F0 m pc ls (.int (nI L) :: .int (nI N) :: st) with stack := st } = (T.setVm vm₁).setTop { F0 m pc ls (.int (nI L) :: .int (nI N) :: st) with stack := st } := by
    show ((T.setVm vm₁).setTop (F0 m pc ls (.int (nI L) :: .int (nI N) :: st))).setTop _ = _
    rw [State.setTop_setTop]
  rw [eS, mzS_top]
  simp only [wp_bind', W.mark, W.pushRef, State.topJava?_setTop' _ XF.here.top, Option.some.injEq, exists_eq_left', State.setTop_setTop, State.heap_setTop]
  intro acts
  simp [jvm, XF.here.top]
  rw [← hsz] at a1
  exact a1
end MULTI
