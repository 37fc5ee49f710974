/-! THE CLASS: need -/
set_option maxRecDepth 100000
set_option maxHeartbeats 4000000 in
theorem ev_X0_needT {w : WE} {A : Hp} : EvP w mX0_need 0 0 0 [.int (nI 1)] A none (fun A' => A' = A) := by
  refine Ev.mk 0 [some (.int (nI 1))] rfl plX0 (Nat.le_of_ble_eq_true rfl) ?_
  refine r_iload_n 1 dX0_need_0 rfl rfl lo0 ?_
  refine r_if_ne 15 4 dX0_need_1 rfl (by decide) (fun _ => ?_) (fun h => absurd h (by decide))
  exact r_vret dX0_need_15 rfl (Nat.le_refl _) (Nat.le_refl _) ⟨rfl, rfl⟩

set_option maxHeartbeats 4000000 in
theorem ev_X0_needF {w : WE} {A : Hp} (hT : TR w) : EvY w mX0_need none 8 1 6 [.int (nI 0)] A noR (thr "java/lang/IndexOutOfBoundsException" A 1) := by
  refine EvY.mk 0 [some (.int (nI 0))] rfl plX0 (Nat.le_of_ble_eq_true rfl) ?_
  refine r_iload_n 1 dX0_need_0 rfl rfl lo0 ?_
  refine r_if_ne 15 4 dX0_need_1 rfl (by decide) (fun h => absurd rfl h) (fun _ => ?_)
  intro p e s m args below meth c H locs ls C hR hL hl T hTH X
  subst hTH
  have hls : ls.size = c.maxLocals := by rw [C.ml]; exact lo_size hl
  obtain ⟨vm1, cX, kX, hfX, hkX, -, hsz, X1, st1⟩ := X.newCold C.x C.own (C.ts _ q695) (C.ts _ q835) (C.ts _ q66) (g := F0 m 4 ls []) rfl (by rw [C.b]; exact dX0_need_4) (by decide) (by decide)
  have hw7 : W p w.1 e (rmX 8 1 6) s m args below meth c ((T.setVm vm1).pushCell (freshCell cX kX)).heap locs (0 + 1) (0 + 6) (ZY w noR (thr "java/lang/IndexOutOfBoundsException" A 1) 1 6 below args s) (F0 m 7 ls [.ref T.heap.size]) := by
    refine lv_dup C.x C.b dX0_need_7 rfl ?_
    refine lw_ldcwS C dX0_need_8 q843 (fun qa => ?_)
    intro T2 hT2 X2
    obtain ⟨tm, methI, cI, kI, vm3, hn, -, -, -, -, -, -, -, hW3, st3⟩ := Steps.initColdArgs (e := e) X2.here C.x X2.warmed X2.magic C.own (t := Jvm.Bundle.initS "java/lang/IndexOutOfBoundsException") rfl (by decide) (C.ts _ q844) (C.ts _ q700) (C.ts _ q701) (f := F0 m 11 ls [.ref qa, .ref T.heap.size, .ref T.heap.size]) rfl (a := T.heap.size) (argsL := [.ref qa]) (rest := [.ref T.heap.size]) (fun sig hs => len_of (N := 1) (by decide +kernel) hs) rfl (by rw [C.b]; exact dX0_need_11)
    have X3 := X2.noted hW3
    have hh : (T2.setVm vm3).heap = ((T.setVm vm1).pushCell (freshCell cX kX)).heap := hT2
    have hz1 : ((T.setVm vm1).pushCell (freshCell cX kX)).heap.size = T.heap.size + 1 := State.heap_size_pushCell _ _
    have hlt1 : ∀ q : Nat, q < T.heap.size → ((T.setVm vm1).pushCell (freshCell cX kX)).heap[q]? = T.heap[q]? := fun q hq => State.heap_pushCell_of_lt (T.setVm vm1) _ hq
    have hwz : wb w ≤ T.heap.size := by rw [hR.1]; exact hR.2.1
    obtain ⟨T4, L4, X4, g1, g2, g3, g4, g5⟩ := ctor_go (g := F0 m 11 ls [.ref T.heap.size]) (self := T.heap.size) (qa := qa) (cX := cX) (kX0 := kX) (mk := tm) C.x C.k (hT e X.admits) (fun q hq => by rw [hh, hlt1 q (by omega)]; exact hR.2.2.2 q hq) X3 rfl hls xwIO (by rw [hh]; exact State.heap_pushCell_size (T.setVm vm1) _) hfX hkX hwz hn (ig := .invokespecial 297) (len := 3) (by rw [C.b]; exact dX0_need_11) (by decide) (by show 2 * 0 + 1 + 10240 ≤ 11000 + 64 * 8; decide)
    have hR4 : Rp w (A.1, A.2 + 1) T4.heap := Rp.two hR (j := 1) (by rw [g2, hh, hz1]) (fun q hq => by rw [g3 q (by omega), hh, hlt1 q hq])
    obtain ⟨t, a1, b1⟩ := (rt_out (lw_all_tbl q834) ⟨rfl, rfl⟩ : Rt w mX0_need (rmX 8 1 6) (ZY w noR (thr "java/lang/IndexOutOfBoundsException" A 1) 1 6) 1 6 (A.1, A.2 + 1) 14 [some (.int (nI 0))] "java/lang/IndexOutOfBoundsException") p e s m args below meth c T4.heap (locs ++ L4) ls [] T.heap.size C hR4 (loc_app hL g1) hl g4 T4 rfl X4
    refine ⟨t, st3 t (fun acts => g5 t ?_ acts), b1⟩
    have hexec := C.x
    have hd' : decode c.code 14 = .ok (.athrow, 1) := by rw [C.b]; exact dX0_need_14
    jvm_step X4.here [hexec, hd', Jvm.Op.athrow.wp_sem]
    exact a1
  obtain ⟨t, a1, b1⟩ := hw7 _ rfl X1
  exact ⟨t, st1 t a1, b1⟩

