/-! THE CLASS: setIn cellOf sizeOf rowOf -/
set_option maxRecDepth 100000
theorem b8 (x : Int32) : (x.toInt8.toInt32).toInt8.toInt32 = x.toInt8.toInt32 := by rw [Int8.toInt8_toInt32]
theorem b16 (x : Int32) : (x.toInt16.toInt32).toInt16.toInt32 = x.toInt16.toInt32 := by rw [Int16.toInt16_toInt32]
theorem fits8 (x : Int32) : fits .byte (.int x.toInt8.toInt32) = true := by
  have h1 := Int8.le_toInt x.toInt8
  have h2 := Int8.toInt_lt x.toInt8
  have h3 := Int8.toInt_toInt32 x.toInt8
  simp only [fits, Bool.and_eq_true, decide_eq_true_eq, Int32.le_iff_toInt_le]
  rw [h3]
  have e1 : (-128 : Int32).toInt = -128 := by decide
  have e2 : (127 : Int32).toInt = 127 := by decide
  rw [e1, e2]
  omega
theorem fits16 (x : Int32) : fits .short (.int x.toInt16.toInt32) = true := by
  have h1 := Int16.le_toInt x.toInt16
  have h2 := Int16.toInt_lt x.toInt16
  have h3 := Int16.toInt_toInt32 x.toInt16
  simp only [fits, Bool.and_eq_true, decide_eq_true_eq, Int32.le_iff_toInt_le]
  rw [h3]
  have e1 : (-32768 : Int32).toInt = -32768 := by decide
  have e2 : (32767 : Int32).toInt = 32767 := by decide
  rw [e1, e2]
  omega
/-- what a lane of arrays keeps -/
def narU (u : Nat) (x : Int32) : Int32 := if u = 1 then x.toInt8.toInt32 else if u = 2 then x.toInt16.toInt32 else x
abbrev thr (X : String) (A : Hp) (j : Nat) : String → Hp → Prop := fun x A' => x = X ∧ A' = (A.1, A.2 + j)
abbrev noT : String → Hp → Prop := fun _ _ => False
abbrev noR : Option Value → Hp → Prop := fun _ _ => False
theorem r_aload_nN {w : WE} {M : MI} {R : Room} {Z : ZT} {k n : Nat} {A : Hp} {pc : Nat} {lo : List (Option Value)} {st : List Value} {q : Fin 4} {i : Nat} (nx : Nat) (hd : decode M.2.1 pc = .ok (.aload_n q, 1)) (hn : pc + 1 = nx) (hi : (q : Nat) = i) (hx : lo[i]? = some (some .null)) (K : Rn w M R Z k n A nx lo (.null :: st)) : Rn w M R Z k n A pc lo (st) := by
  subst hn
  intro p e s m args below meth c H locs ls C hR hL hl
  exact lv_aload_nN C.x C.b hd hi (lo_at hl hx) (K p e s m args below meth c H locs ls C hR hL hl)
set_option maxHeartbeats 4000000 in
theorem ev_X0_setInN {w : WE} {A : Hp} {i x : Int32} (hT : TR w) : EvY w mX0_setIn none 8 1 8 [.null, .int i, .int x] A noR (thr "java/lang/NullPointerException" A 1) := by
  refine EvY.mk 0 [some (.null), some (.int i), some (.int x)] rfl plX0 (Nat.le_of_ble_eq_true rfl) ?_
  refine r_aload_nN 1 dX0_setIn_0 rfl rfl lo0 ?_
  refine r_instN0 4 dX0_setIn_1 rfl ?_
  refine r_if_eq 18 7 dX0_setIn_4 rfl rfl (fun _ => ?_) (fun h => absurd rfl h)
  refine r_aload_nN 19 dX0_setIn_18 rfl rfl lo0 ?_
  refine r_instN0 22 dX0_setIn_19 rfl ?_
  refine r_if_eq 36 25 dX0_setIn_22 rfl rfl (fun _ => ?_) (fun h => absurd rfl h)
  refine r_aload_nN 37 dX0_setIn_36 rfl rfl lo0 ?_
  refine r_castN 40 dX0_setIn_37 rfl ?_
  refine r_iload_n 41 dX0_setIn_40 rfl rfl lo1 ?_
  refine r_iload_n 42 dX0_setIn_41 rfl rfl lo2 ?_
  exact r_iastoreX dX0_setIn_42 hT rfl (rt_out (lw_all_tbl q716) ⟨rfl, rfl⟩)

set_option maxHeartbeats 4000000 in
theorem ev_X0_setInO1 {w : WE} {A : Hp} {i x : Int32} {a N : Nat} {f : Nat → Int32} (hA : A.1 a = some (eI w 1 N f)) (hN : N < 2 ^ 31) (ho : i < 0 ∨ N ≤ i.toNatClampNeg) (hT : TR w) : EvY w mX0_setIn none 8 3 222 [.ref a, .int i, .int x] A noR (thr "java/lang/ArrayIndexOutOfBoundsException" A 3) := by
  refine EvY.mk 0 [some (.ref a), some (.int i), some (.int x)] rfl plX0 (Nat.le_of_ble_eq_true rfl) ?_
  refine r_aload_n 1 dX0_setIn_0 rfl rfl lo0 ?_
  refine r_instA (u := 1) (v := 1) 4 dX0_setIn_1 rfl (by decide) (by decide) q717 hA ?_
  refine r_if_eq 18 7 dX0_setIn_4 rfl rfl (fun h => absurd h (by decide)) (fun _ => ?_)
  refine r_aload_n 8 dX0_setIn_7 rfl rfl lo0 ?_
  refine r_castA (u := 1) 11 dX0_setIn_8 rfl (by decide) q717 hA ?_
  refine r_iload_n 12 dX0_setIn_11 rfl rfl lo1 ?_
  refine r_iload_n 13 dX0_setIn_12 rfl rfl lo2 ?_
  refine r_i2b 14 dX0_setIn_13 rfl rfl ?_
  exact r_bastoreO (u := 1) dX0_setIn_14 (by decide) hA hN ho hT rfl (rt_out (lw_all_tbl q716) ⟨rfl, rfl⟩)

set_option maxHeartbeats 4000000 in
theorem ev_X0_setIn1 {w : WE} {A : Hp} {i x : Int32} {a N : Nat} {f : Nat → Int32} (hA : A.1 a = some (eI w 1 N f)) (hb : wb w ≤ a) (j : Nat) (hi : i = nI j) (hj : j < N) (hN : N < 2 ^ 31) : EvY w mX0_setIn none 8 3 222 [.ref a, .int i, .int x] A (fun v A' => v = none ∧ A' = hp_up A a (eI w 1 N (upd f j (narU 1 x)))) noT := by
  refine EvY.mk 0 [some (.ref a), some (.int i), some (.int x)] rfl plX0 (Nat.le_of_ble_eq_true rfl) ?_
  refine r_aload_n 1 dX0_setIn_0 rfl rfl lo0 ?_
  refine r_instA (u := 1) (v := 1) 4 dX0_setIn_1 rfl (by decide) (by decide) q717 hA ?_
  refine r_if_eq 18 7 dX0_setIn_4 rfl rfl (fun h => absurd h (by decide)) (fun _ => ?_)
  refine r_aload_n 8 dX0_setIn_7 rfl rfl lo0 ?_
  refine r_castA (u := 1) 11 dX0_setIn_8 rfl (by decide) q717 hA ?_
  refine r_iload_n 12 dX0_setIn_11 rfl rfl lo1 ?_
  refine r_iload_n 13 dX0_setIn_12 rfl rfl lo2 ?_
  refine r_i2b 14 dX0_setIn_13 rfl rfl ?_
  refine r_bast 15 dX0_setIn_14 rfl hA hb j hi hj hN (by show Value.int _ = _; rw [b8]) (fits8 x) ?_
  refine r_goto 43 dX0_setIn_15 rfl ?_
  exact r_ok (r_vret dX0_setIn_43 rfl (Nat.zero_le _) (Nat.zero_le _) ⟨rfl, rfl⟩)

set_option maxHeartbeats 4000000 in
theorem ev_X0_setInO2 {w : WE} {A : Hp} {i x : Int32} {a N : Nat} {f : Nat → Int32} (hA : A.1 a = some (eI w 2 N f)) (hN : N < 2 ^ 31) (ho : i < 0 ∨ N ≤ i.toNatClampNeg) (hT : TR w) : EvY w mX0_setIn none 8 3 222 [.ref a, .int i, .int x] A noR (thr "java/lang/ArrayIndexOutOfBoundsException" A 3) := by
  refine EvY.mk 0 [some (.ref a), some (.int i), some (.int x)] rfl plX0 (Nat.le_of_ble_eq_true rfl) ?_
  refine r_aload_n 1 dX0_setIn_0 rfl rfl lo0 ?_
  refine r_instA (u := 1) (v := 2) 4 dX0_setIn_1 rfl (by decide) (by decide) q717 hA ?_
  refine r_if_eq 18 7 dX0_setIn_4 rfl rfl (fun _ => ?_) (fun h => absurd rfl h)
  refine r_aload_n 19 dX0_setIn_18 rfl rfl lo0 ?_
  refine r_instA (u := 2) (v := 2) 22 dX0_setIn_19 rfl (by decide) (by decide) q718 hA ?_
  refine r_if_eq 36 25 dX0_setIn_22 rfl rfl (fun h => absurd h (by decide)) (fun _ => ?_)
  refine r_aload_n 26 dX0_setIn_25 rfl rfl lo0 ?_
  refine r_castA (u := 2) 29 dX0_setIn_26 rfl (by decide) q718 hA ?_
  refine r_iload_n 30 dX0_setIn_29 rfl rfl lo1 ?_
  refine r_iload_n 31 dX0_setIn_30 rfl rfl lo2 ?_
  refine r_i2s 32 dX0_setIn_31 rfl rfl ?_
  exact r_sastoreO (u := 2) dX0_setIn_32 (by decide) hA hN ho hT rfl (rt_out (lw_all_tbl q716) ⟨rfl, rfl⟩)

set_option maxHeartbeats 4000000 in
theorem ev_X0_setIn2 {w : WE} {A : Hp} {i x : Int32} {a N : Nat} {f : Nat → Int32} (hA : A.1 a = some (eI w 2 N f)) (hb : wb w ≤ a) (j : Nat) (hi : i = nI j) (hj : j < N) (hN : N < 2 ^ 31) : EvY w mX0_setIn none 8 3 222 [.ref a, .int i, .int x] A (fun v A' => v = none ∧ A' = hp_up A a (eI w 2 N (upd f j (narU 2 x)))) noT := by
  refine EvY.mk 0 [some (.ref a), some (.int i), some (.int x)] rfl plX0 (Nat.le_of_ble_eq_true rfl) ?_
  refine r_aload_n 1 dX0_setIn_0 rfl rfl lo0 ?_
  refine r_instA (u := 1) (v := 2) 4 dX0_setIn_1 rfl (by decide) (by decide) q717 hA ?_
  refine r_if_eq 18 7 dX0_setIn_4 rfl rfl (fun _ => ?_) (fun h => absurd rfl h)
  refine r_aload_n 19 dX0_setIn_18 rfl rfl lo0 ?_
  refine r_instA (u := 2) (v := 2) 22 dX0_setIn_19 rfl (by decide) (by decide) q718 hA ?_
  refine r_if_eq 36 25 dX0_setIn_22 rfl rfl (fun h => absurd h (by decide)) (fun _ => ?_)
  refine r_aload_n 26 dX0_setIn_25 rfl rfl lo0 ?_
  refine r_castA (u := 2) 29 dX0_setIn_26 rfl (by decide) q718 hA ?_
  refine r_iload_n 30 dX0_setIn_29 rfl rfl lo1 ?_
  refine r_iload_n 31 dX0_setIn_30 rfl rfl lo2 ?_
  refine r_i2s 32 dX0_setIn_31 rfl rfl ?_
  refine r_sast 33 dX0_setIn_32 rfl hA hb j hi hj hN (by show Value.int _ = _; rw [b16]) (fits16 x) ?_
  refine r_goto 43 dX0_setIn_33 rfl ?_
  exact r_ok (r_vret dX0_setIn_43 rfl (Nat.zero_le _) (Nat.zero_le _) ⟨rfl, rfl⟩)

set_option maxHeartbeats 4000000 in
theorem ev_X0_setInO0 {w : WE} {A : Hp} {i x : Int32} {a N : Nat} {f : Nat → Int32} (hA : A.1 a = some (eI w 0 N f)) (hN : N < 2 ^ 31) (ho : i < 0 ∨ N ≤ i.toNatClampNeg) (hT : TR w) : EvY w mX0_setIn none 8 3 222 [.ref a, .int i, .int x] A noR (thr "java/lang/ArrayIndexOutOfBoundsException" A 3) := by
  refine EvY.mk 0 [some (.ref a), some (.int i), some (.int x)] rfl plX0 (Nat.le_of_ble_eq_true rfl) ?_
  refine r_aload_n 1 dX0_setIn_0 rfl rfl lo0 ?_
  refine r_instA (u := 1) (v := 0) 4 dX0_setIn_1 rfl (by decide) (by decide) q717 hA ?_
  refine r_if_eq 18 7 dX0_setIn_4 rfl rfl (fun _ => ?_) (fun h => absurd rfl h)
  refine r_aload_n 19 dX0_setIn_18 rfl rfl lo0 ?_
  refine r_instA (u := 2) (v := 0) 22 dX0_setIn_19 rfl (by decide) (by decide) q718 hA ?_
  refine r_if_eq 36 25 dX0_setIn_22 rfl rfl (fun _ => ?_) (fun h => absurd rfl h)
  refine r_aload_n 37 dX0_setIn_36 rfl rfl lo0 ?_
  refine r_castA (u := 0) 40 dX0_setIn_37 rfl (by decide) q719 hA ?_
  refine r_iload_n 41 dX0_setIn_40 rfl rfl lo1 ?_
  refine r_iload_n 42 dX0_setIn_41 rfl rfl lo2 ?_
  exact r_iastoreO (u := 0) dX0_setIn_42 (by decide) hA hN ho hT rfl (rt_out (lw_all_tbl q716) ⟨rfl, rfl⟩)

set_option maxHeartbeats 4000000 in
theorem ev_X0_setIn0 {w : WE} {A : Hp} {i x : Int32} {a N : Nat} {f : Nat → Int32} (hA : A.1 a = some (eI w 0 N f)) (hb : wb w ≤ a) (j : Nat) (hi : i = nI j) (hj : j < N) (hN : N < 2 ^ 31) : EvY w mX0_setIn none 8 3 222 [.ref a, .int i, .int x] A (fun v A' => v = none ∧ A' = hp_up A a (eI w 0 N (upd f j (narU 0 x)))) noT := by
  refine EvY.mk 0 [some (.ref a), some (.int i), some (.int x)] rfl plX0 (Nat.le_of_ble_eq_true rfl) ?_
  refine r_aload_n 1 dX0_setIn_0 rfl rfl lo0 ?_
  refine r_instA (u := 1) (v := 0) 4 dX0_setIn_1 rfl (by decide) (by decide) q717 hA ?_
  refine r_if_eq 18 7 dX0_setIn_4 rfl rfl (fun _ => ?_) (fun h => absurd rfl h)
  refine r_aload_n 19 dX0_setIn_18 rfl rfl lo0 ?_
  refine r_instA (u := 2) (v := 0) 22 dX0_setIn_19 rfl (by decide) (by decide) q718 hA ?_
  refine r_if_eq 36 25 dX0_setIn_22 rfl rfl (fun _ => ?_) (fun h => absurd rfl h)
  refine r_aload_n 37 dX0_setIn_36 rfl rfl lo0 ?_
  refine r_castA (u := 0) 40 dX0_setIn_37 rfl (by decide) q719 hA ?_
  refine r_iload_n 41 dX0_setIn_40 rfl rfl lo1 ?_
  refine r_iload_n 42 dX0_setIn_41 rfl rfl lo2 ?_
  refine r_iast 43 dX0_setIn_42 rfl hA hb j hi hj hN ?_
  exact r_ok (r_vret dX0_setIn_43 rfl (Nat.zero_le _) (Nat.zero_le _) ⟨rfl, rfl⟩)

set_option maxHeartbeats 4000000 in
theorem ev_X0_cellOfN0 {w : WE} {A : Hp} {i : Int32} (hT : TR w) : EvY w mX0_cellOf none 8 1 8 [.null, .int (nI 0), .int i] A noR (thr "java/lang/NullPointerException" A 1) := by
  refine EvY.mk 0 [some (.null), some (.int (nI 0)), some (.int i)] rfl plX0 (Nat.le_of_ble_eq_true rfl) ?_
  refine r_iload_n 1 dX0_cellOf_0 rfl rfl lo1 ?_
  refine r_if_ne 13 4 dX0_cellOf_1 rfl rfl (fun h => absurd rfl h) (fun _ => ?_)
  refine r_aload_nN 5 dX0_cellOf_4 rfl rfl lo0 ?_
  refine r_castN 8 dX0_cellOf_5 rfl ?_
  refine r_iload_n 9 dX0_cellOf_8 rfl rfl lo2 ?_
  exact r_baloadX dX0_cellOf_9 hT rfl (rt_out (lw_all_tbl q744) ⟨rfl, rfl⟩)

set_option maxHeartbeats 4000000 in
theorem ev_X0_cellOfC00 {w : WE} {A : Hp} {i : Int32} {a N : Nat} {f : Nat → Int32} (hA : A.1 a = some (eI w 0 N f)) (hw : MRi w) (hT : TR w) : EvY w mX0_cellOf none 8 3 970 [.ref a, .int (nI 0), .int i] A noR (thr "java/lang/ClassCastException" A 3) := by
  refine EvY.mk 0 [some (.ref a), some (.int (nI 0)), some (.int i)] rfl plX0 (Nat.le_of_ble_eq_true rfl) ?_
  refine r_iload_n 1 dX0_cellOf_0 rfl rfl lo1 ?_
  refine r_if_ne 13 4 dX0_cellOf_1 rfl rfl (fun h => absurd rfl h) (fun _ => ?_)
  refine r_aload_n 5 dX0_cellOf_4 rfl rfl lo0 ?_
  exact r_castXA (u := 1) (v := 0) dX0_cellOf_5 (by decide) (by decide) (by decide) q717 hA hw hT rfl (rt_out (lw_all_tbl q744) ⟨rfl, rfl⟩)

set_option maxHeartbeats 4000000 in
theorem ev_X0_cellOfC02 {w : WE} {A : Hp} {i : Int32} {a N : Nat} {f : Nat → Int32} (hA : A.1 a = some (eI w 2 N f)) (hw : MRi w) (hT : TR w) : EvY w mX0_cellOf none 8 3 970 [.ref a, .int (nI 0), .int i] A noR (thr "java/lang/ClassCastException" A 3) := by
  refine EvY.mk 0 [some (.ref a), some (.int (nI 0)), some (.int i)] rfl plX0 (Nat.le_of_ble_eq_true rfl) ?_
  refine r_iload_n 1 dX0_cellOf_0 rfl rfl lo1 ?_
  refine r_if_ne 13 4 dX0_cellOf_1 rfl rfl (fun h => absurd rfl h) (fun _ => ?_)
  refine r_aload_n 5 dX0_cellOf_4 rfl rfl lo0 ?_
  exact r_castXA (u := 1) (v := 2) dX0_cellOf_5 (by decide) (by decide) (by decide) q717 hA hw hT rfl (rt_out (lw_all_tbl q744) ⟨rfl, rfl⟩)

set_option maxHeartbeats 4000000 in
theorem ev_X0_cellOfO0 {w : WE} {A : Hp} {i : Int32} {a N : Nat} {f : Nat → Int32} (hA : A.1 a = some (eI w 1 N f)) (hN : N < 2 ^ 31) (ho : i < 0 ∨ N ≤ i.toNatClampNeg) (hT : TR w) : EvY w mX0_cellOf none 8 3 222 [.ref a, .int (nI 0), .int i] A noR (thr "java/lang/ArrayIndexOutOfBoundsException" A 3) := by
  refine EvY.mk 0 [some (.ref a), some (.int (nI 0)), some (.int i)] rfl plX0 (Nat.le_of_ble_eq_true rfl) ?_
  refine r_iload_n 1 dX0_cellOf_0 rfl rfl lo1 ?_
  refine r_if_ne 13 4 dX0_cellOf_1 rfl rfl (fun h => absurd rfl h) (fun _ => ?_)
  refine r_aload_n 5 dX0_cellOf_4 rfl rfl lo0 ?_
  refine r_castA (u := 1) 8 dX0_cellOf_5 rfl (by decide) q717 hA ?_
  refine r_iload_n 9 dX0_cellOf_8 rfl rfl lo2 ?_
  exact r_baloadO (u := 1) dX0_cellOf_9 (by decide) hA hN ho hT rfl (rt_out (lw_all_tbl q744) ⟨rfl, rfl⟩)

set_option maxHeartbeats 4000000 in
theorem ev_X0_cellOf0 {w : WE} {A : Hp} {i : Int32} {a N : Nat} {f : Nat → Int32} (hA : A.1 a = some (eI w 1 N f)) (j : Nat) (hi : i = nI j) (hj : j < N) (hN : N < 2 ^ 31) : EvY w mX0_cellOf none 8 3 222 [.ref a, .int (nI 0), .int i] A (fun v A' => v = some (.int (f j)) ∧ A' = A) noT := by
  refine EvY.mk 0 [some (.ref a), some (.int (nI 0)), some (.int i)] rfl plX0 (Nat.le_of_ble_eq_true rfl) ?_
  refine r_iload_n 1 dX0_cellOf_0 rfl rfl lo1 ?_
  refine r_if_ne 13 4 dX0_cellOf_1 rfl rfl (fun h => absurd rfl h) (fun _ => ?_)
  refine r_aload_n 5 dX0_cellOf_4 rfl rfl lo0 ?_
  refine r_castA (u := 1) 8 dX0_cellOf_5 rfl (by decide) q717 hA ?_
  refine r_iload_n 9 dX0_cellOf_8 rfl rfl lo2 ?_
  refine r_bald 10 dX0_cellOf_9 rfl hA j hi hj hN ?_
  refine r_goto 33 dX0_cellOf_10 rfl ?_
  exact r_ok (r_iret dX0_cellOf_33 rfl (Nat.zero_le _) (Nat.zero_le _) ⟨rfl, rfl⟩)

set_option maxHeartbeats 4000000 in
theorem ev_X0_cellOfN1 {w : WE} {A : Hp} {i : Int32} (hT : TR w) : EvY w mX0_cellOf none 8 1 8 [.null, .int (nI 1), .int i] A noR (thr "java/lang/NullPointerException" A 1) := by
  refine EvY.mk 0 [some (.null), some (.int (nI 1)), some (.int i)] rfl plX0 (Nat.le_of_ble_eq_true rfl) ?_
  refine r_iload_n 1 dX0_cellOf_0 rfl rfl lo1 ?_
  refine r_if_ne 13 4 dX0_cellOf_1 rfl rfl (fun _ => ?_) (fun h => absurd h (by decide))
  refine r_iload_n 14 dX0_cellOf_13 rfl rfl lo1 ?_
  refine r_iconst 15 dX0_cellOf_14 rfl ic_1 ?_
  refine r_icmp_ne 27 18 dX0_cellOf_15 rfl rfl (fun h => absurd rfl h) (fun _ => ?_)
  refine r_aload_nN 19 dX0_cellOf_18 rfl rfl lo0 ?_
  refine r_castN 22 dX0_cellOf_19 rfl ?_
  refine r_iload_n 23 dX0_cellOf_22 rfl rfl lo2 ?_
  exact r_saloadX dX0_cellOf_23 hT rfl (rt_out (lw_all_tbl q744) ⟨rfl, rfl⟩)

set_option maxHeartbeats 4000000 in
theorem ev_X0_cellOfC10 {w : WE} {A : Hp} {i : Int32} {a N : Nat} {f : Nat → Int32} (hA : A.1 a = some (eI w 0 N f)) (hw : MRi w) (hT : TR w) : EvY w mX0_cellOf none 8 3 970 [.ref a, .int (nI 1), .int i] A noR (thr "java/lang/ClassCastException" A 3) := by
  refine EvY.mk 0 [some (.ref a), some (.int (nI 1)), some (.int i)] rfl plX0 (Nat.le_of_ble_eq_true rfl) ?_
  refine r_iload_n 1 dX0_cellOf_0 rfl rfl lo1 ?_
  refine r_if_ne 13 4 dX0_cellOf_1 rfl rfl (fun _ => ?_) (fun h => absurd h (by decide))
  refine r_iload_n 14 dX0_cellOf_13 rfl rfl lo1 ?_
  refine r_iconst 15 dX0_cellOf_14 rfl ic_1 ?_
  refine r_icmp_ne 27 18 dX0_cellOf_15 rfl rfl (fun h => absurd rfl h) (fun _ => ?_)
  refine r_aload_n 19 dX0_cellOf_18 rfl rfl lo0 ?_
  exact r_castXA (u := 2) (v := 0) dX0_cellOf_19 (by decide) (by decide) (by decide) q718 hA hw hT rfl (rt_out (lw_all_tbl q744) ⟨rfl, rfl⟩)

set_option maxHeartbeats 4000000 in
theorem ev_X0_cellOfC11 {w : WE} {A : Hp} {i : Int32} {a N : Nat} {f : Nat → Int32} (hA : A.1 a = some (eI w 1 N f)) (hw : MRi w) (hT : TR w) : EvY w mX0_cellOf none 8 3 970 [.ref a, .int (nI 1), .int i] A noR (thr "java/lang/ClassCastException" A 3) := by
  refine EvY.mk 0 [some (.ref a), some (.int (nI 1)), some (.int i)] rfl plX0 (Nat.le_of_ble_eq_true rfl) ?_
  refine r_iload_n 1 dX0_cellOf_0 rfl rfl lo1 ?_
  refine r_if_ne 13 4 dX0_cellOf_1 rfl rfl (fun _ => ?_) (fun h => absurd h (by decide))
  refine r_iload_n 14 dX0_cellOf_13 rfl rfl lo1 ?_
  refine r_iconst 15 dX0_cellOf_14 rfl ic_1 ?_
  refine r_icmp_ne 27 18 dX0_cellOf_15 rfl rfl (fun h => absurd rfl h) (fun _ => ?_)
  refine r_aload_n 19 dX0_cellOf_18 rfl rfl lo0 ?_
  exact r_castXA (u := 2) (v := 1) dX0_cellOf_19 (by decide) (by decide) (by decide) q718 hA hw hT rfl (rt_out (lw_all_tbl q744) ⟨rfl, rfl⟩)

set_option maxHeartbeats 4000000 in
theorem ev_X0_cellOfO1 {w : WE} {A : Hp} {i : Int32} {a N : Nat} {f : Nat → Int32} (hA : A.1 a = some (eI w 2 N f)) (hN : N < 2 ^ 31) (ho : i < 0 ∨ N ≤ i.toNatClampNeg) (hT : TR w) : EvY w mX0_cellOf none 8 3 222 [.ref a, .int (nI 1), .int i] A noR (thr "java/lang/ArrayIndexOutOfBoundsException" A 3) := by
  refine EvY.mk 0 [some (.ref a), some (.int (nI 1)), some (.int i)] rfl plX0 (Nat.le_of_ble_eq_true rfl) ?_
  refine r_iload_n 1 dX0_cellOf_0 rfl rfl lo1 ?_
  refine r_if_ne 13 4 dX0_cellOf_1 rfl rfl (fun _ => ?_) (fun h => absurd h (by decide))
  refine r_iload_n 14 dX0_cellOf_13 rfl rfl lo1 ?_
  refine r_iconst 15 dX0_cellOf_14 rfl ic_1 ?_
  refine r_icmp_ne 27 18 dX0_cellOf_15 rfl rfl (fun h => absurd rfl h) (fun _ => ?_)
  refine r_aload_n 19 dX0_cellOf_18 rfl rfl lo0 ?_
  refine r_castA (u := 2) 22 dX0_cellOf_19 rfl (by decide) q718 hA ?_
  refine r_iload_n 23 dX0_cellOf_22 rfl rfl lo2 ?_
  exact r_saloadO (u := 2) dX0_cellOf_23 (by decide) hA hN ho hT rfl (rt_out (lw_all_tbl q744) ⟨rfl, rfl⟩)

set_option maxHeartbeats 4000000 in
theorem ev_X0_cellOf1 {w : WE} {A : Hp} {i : Int32} {a N : Nat} {f : Nat → Int32} (hA : A.1 a = some (eI w 2 N f)) (j : Nat) (hi : i = nI j) (hj : j < N) (hN : N < 2 ^ 31) : EvY w mX0_cellOf none 8 3 222 [.ref a, .int (nI 1), .int i] A (fun v A' => v = some (.int (f j)) ∧ A' = A) noT := by
  refine EvY.mk 0 [some (.ref a), some (.int (nI 1)), some (.int i)] rfl plX0 (Nat.le_of_ble_eq_true rfl) ?_
  refine r_iload_n 1 dX0_cellOf_0 rfl rfl lo1 ?_
  refine r_if_ne 13 4 dX0_cellOf_1 rfl rfl (fun _ => ?_) (fun h => absurd h (by decide))
  refine r_iload_n 14 dX0_cellOf_13 rfl rfl lo1 ?_
  refine r_iconst 15 dX0_cellOf_14 rfl ic_1 ?_
  refine r_icmp_ne 27 18 dX0_cellOf_15 rfl rfl (fun h => absurd rfl h) (fun _ => ?_)
  refine r_aload_n 19 dX0_cellOf_18 rfl rfl lo0 ?_
  refine r_castA (u := 2) 22 dX0_cellOf_19 rfl (by decide) q718 hA ?_
  refine r_iload_n 23 dX0_cellOf_22 rfl rfl lo2 ?_
  refine r_sald 24 dX0_cellOf_23 rfl hA j hi hj hN ?_
  refine r_goto 33 dX0_cellOf_24 rfl ?_
  exact r_ok (r_iret dX0_cellOf_33 rfl (Nat.zero_le _) (Nat.zero_le _) ⟨rfl, rfl⟩)

set_option maxHeartbeats 4000000 in
theorem ev_X0_cellOfN2 {w : WE} {A : Hp} {i : Int32} (hT : TR w) : EvY w mX0_cellOf none 8 1 8 [.null, .int (nI 2), .int i] A noR (thr "java/lang/NullPointerException" A 1) := by
  refine EvY.mk 0 [some (.null), some (.int (nI 2)), some (.int i)] rfl plX0 (Nat.le_of_ble_eq_true rfl) ?_
  refine r_iload_n 1 dX0_cellOf_0 rfl rfl lo1 ?_
  refine r_if_ne 13 4 dX0_cellOf_1 rfl rfl (fun _ => ?_) (fun h => absurd h (by decide))
  refine r_iload_n 14 dX0_cellOf_13 rfl rfl lo1 ?_
  refine r_iconst 15 dX0_cellOf_14 rfl ic_1 ?_
  refine r_icmp_ne 27 18 dX0_cellOf_15 rfl rfl (fun _ => ?_) (fun h => absurd h (by decide))
  refine r_aload_nN 28 dX0_cellOf_27 rfl rfl lo0 ?_
  refine r_castN 31 dX0_cellOf_28 rfl ?_
  refine r_iload_n 32 dX0_cellOf_31 rfl rfl lo2 ?_
  exact r_ialoadX dX0_cellOf_32 hT rfl (rt_out (lw_all_tbl q744) ⟨rfl, rfl⟩)

set_option maxHeartbeats 4000000 in
theorem ev_X0_cellOfC21 {w : WE} {A : Hp} {i : Int32} {a N : Nat} {f : Nat → Int32} (hA : A.1 a = some (eI w 1 N f)) (hw : MRi w) (hT : TR w) : EvY w mX0_cellOf none 8 3 970 [.ref a, .int (nI 2), .int i] A noR (thr "java/lang/ClassCastException" A 3) := by
  refine EvY.mk 0 [some (.ref a), some (.int (nI 2)), some (.int i)] rfl plX0 (Nat.le_of_ble_eq_true rfl) ?_
  refine r_iload_n 1 dX0_cellOf_0 rfl rfl lo1 ?_
  refine r_if_ne 13 4 dX0_cellOf_1 rfl rfl (fun _ => ?_) (fun h => absurd h (by decide))
  refine r_iload_n 14 dX0_cellOf_13 rfl rfl lo1 ?_
  refine r_iconst 15 dX0_cellOf_14 rfl ic_1 ?_
  refine r_icmp_ne 27 18 dX0_cellOf_15 rfl rfl (fun _ => ?_) (fun h => absurd h (by decide))
  refine r_aload_n 28 dX0_cellOf_27 rfl rfl lo0 ?_
  exact r_castXA (u := 0) (v := 1) dX0_cellOf_28 (by decide) (by decide) (by decide) q719 hA hw hT rfl (rt_out (lw_all_tbl q744) ⟨rfl, rfl⟩)

set_option maxHeartbeats 4000000 in
theorem ev_X0_cellOfC22 {w : WE} {A : Hp} {i : Int32} {a N : Nat} {f : Nat → Int32} (hA : A.1 a = some (eI w 2 N f)) (hw : MRi w) (hT : TR w) : EvY w mX0_cellOf none 8 3 970 [.ref a, .int (nI 2), .int i] A noR (thr "java/lang/ClassCastException" A 3) := by
  refine EvY.mk 0 [some (.ref a), some (.int (nI 2)), some (.int i)] rfl plX0 (Nat.le_of_ble_eq_true rfl) ?_
  refine r_iload_n 1 dX0_cellOf_0 rfl rfl lo1 ?_
  refine r_if_ne 13 4 dX0_cellOf_1 rfl rfl (fun _ => ?_) (fun h => absurd h (by decide))
  refine r_iload_n 14 dX0_cellOf_13 rfl rfl lo1 ?_
  refine r_iconst 15 dX0_cellOf_14 rfl ic_1 ?_
  refine r_icmp_ne 27 18 dX0_cellOf_15 rfl rfl (fun _ => ?_) (fun h => absurd h (by decide))
  refine r_aload_n 28 dX0_cellOf_27 rfl rfl lo0 ?_
  exact r_castXA (u := 0) (v := 2) dX0_cellOf_28 (by decide) (by decide) (by decide) q719 hA hw hT rfl (rt_out (lw_all_tbl q744) ⟨rfl, rfl⟩)

set_option maxHeartbeats 4000000 in
theorem ev_X0_cellOfO2 {w : WE} {A : Hp} {i : Int32} {a N : Nat} {f : Nat → Int32} (hA : A.1 a = some (eI w 0 N f)) (hN : N < 2 ^ 31) (ho : i < 0 ∨ N ≤ i.toNatClampNeg) (hT : TR w) : EvY w mX0_cellOf none 8 3 222 [.ref a, .int (nI 2), .int i] A noR (thr "java/lang/ArrayIndexOutOfBoundsException" A 3) := by
  refine EvY.mk 0 [some (.ref a), some (.int (nI 2)), some (.int i)] rfl plX0 (Nat.le_of_ble_eq_true rfl) ?_
  refine r_iload_n 1 dX0_cellOf_0 rfl rfl lo1 ?_
  refine r_if_ne 13 4 dX0_cellOf_1 rfl rfl (fun _ => ?_) (fun h => absurd h (by decide))
  refine r_iload_n 14 dX0_cellOf_13 rfl rfl lo1 ?_
  refine r_iconst 15 dX0_cellOf_14 rfl ic_1 ?_
  refine r_icmp_ne 27 18 dX0_cellOf_15 rfl rfl (fun _ => ?_) (fun h => absurd h (by decide))
  refine r_aload_n 28 dX0_cellOf_27 rfl rfl lo0 ?_
  refine r_castA (u := 0) 31 dX0_cellOf_28 rfl (by decide) q719 hA ?_
  refine r_iload_n 32 dX0_cellOf_31 rfl rfl lo2 ?_
  exact r_ialoadO (u := 0) dX0_cellOf_32 (by decide) hA hN ho hT rfl (rt_out (lw_all_tbl q744) ⟨rfl, rfl⟩)

set_option maxHeartbeats 4000000 in
theorem ev_X0_cellOf2 {w : WE} {A : Hp} {i : Int32} {a N : Nat} {f : Nat → Int32} (hA : A.1 a = some (eI w 0 N f)) (j : Nat) (hi : i = nI j) (hj : j < N) (hN : N < 2 ^ 31) : EvY w mX0_cellOf none 8 3 222 [.ref a, .int (nI 2), .int i] A (fun v A' => v = some (.int (f j)) ∧ A' = A) noT := by
  refine EvY.mk 0 [some (.ref a), some (.int (nI 2)), some (.int i)] rfl plX0 (Nat.le_of_ble_eq_true rfl) ?_
  refine r_iload_n 1 dX0_cellOf_0 rfl rfl lo1 ?_
  refine r_if_ne 13 4 dX0_cellOf_1 rfl rfl (fun _ => ?_) (fun h => absurd h (by decide))
  refine r_iload_n 14 dX0_cellOf_13 rfl rfl lo1 ?_
  refine r_iconst 15 dX0_cellOf_14 rfl ic_1 ?_
  refine r_icmp_ne 27 18 dX0_cellOf_15 rfl rfl (fun _ => ?_) (fun h => absurd h (by decide))
  refine r_aload_n 28 dX0_cellOf_27 rfl rfl lo0 ?_
  refine r_castA (u := 0) 31 dX0_cellOf_28 rfl (by decide) q719 hA ?_
  refine r_iload_n 32 dX0_cellOf_31 rfl rfl lo2 ?_
  refine r_iald 33 dX0_cellOf_32 rfl hA j hi hj hN ?_
  exact r_ok (r_iret dX0_cellOf_33 rfl (Nat.zero_le _) (Nat.zero_le _) ⟨rfl, rfl⟩)

set_option maxHeartbeats 4000000 in
theorem ev_X0_sizeOfN0 {w : WE} {A : Hp} (hT : TR w) : EvY w mX0_sizeOf none 8 1 8 [.null, .int (nI 0)] A noR (thr "java/lang/NullPointerException" A 1) := by
  refine EvY.mk 0 [some (.null), some (.int (nI 0))] rfl plX0 (Nat.le_of_ble_eq_true rfl) ?_
  refine r_iload_n 1 dX0_sizeOf_0 rfl rfl lo1 ?_
  refine r_if_ne 12 4 dX0_sizeOf_1 rfl rfl (fun h => absurd rfl h) (fun _ => ?_)
  refine r_aload_nN 5 dX0_sizeOf_4 rfl rfl lo0 ?_
  refine r_castN 8 dX0_sizeOf_5 rfl ?_
  exact r_alenX dX0_sizeOf_8 hT rfl (rt_out (lw_all_tbl q831) ⟨rfl, rfl⟩)

set_option maxHeartbeats 4000000 in
theorem ev_X0_sizeOfC00 {w : WE} {A : Hp} {a N : Nat} {f : Nat → Int32} (hA : A.1 a = some (eI w 0 N f)) (hw : MRi w) (hT : TR w) : EvY w mX0_sizeOf none 8 3 970 [.ref a, .int (nI 0)] A noR (thr "java/lang/ClassCastException" A 3) := by
  refine EvY.mk 0 [some (.ref a), some (.int (nI 0))] rfl plX0 (Nat.le_of_ble_eq_true rfl) ?_
  refine r_iload_n 1 dX0_sizeOf_0 rfl rfl lo1 ?_
  refine r_if_ne 12 4 dX0_sizeOf_1 rfl rfl (fun h => absurd rfl h) (fun _ => ?_)
  refine r_aload_n 5 dX0_sizeOf_4 rfl rfl lo0 ?_
  exact r_castXA (u := 1) (v := 0) dX0_sizeOf_5 (by decide) (by decide) (by decide) q717 hA hw hT rfl (rt_out (lw_all_tbl q831) ⟨rfl, rfl⟩)

set_option maxHeartbeats 4000000 in
theorem ev_X0_sizeOfC02 {w : WE} {A : Hp} {a N : Nat} {f : Nat → Int32} (hA : A.1 a = some (eI w 2 N f)) (hw : MRi w) (hT : TR w) : EvY w mX0_sizeOf none 8 3 970 [.ref a, .int (nI 0)] A noR (thr "java/lang/ClassCastException" A 3) := by
  refine EvY.mk 0 [some (.ref a), some (.int (nI 0))] rfl plX0 (Nat.le_of_ble_eq_true rfl) ?_
  refine r_iload_n 1 dX0_sizeOf_0 rfl rfl lo1 ?_
  refine r_if_ne 12 4 dX0_sizeOf_1 rfl rfl (fun h => absurd rfl h) (fun _ => ?_)
  refine r_aload_n 5 dX0_sizeOf_4 rfl rfl lo0 ?_
  exact r_castXA (u := 1) (v := 2) dX0_sizeOf_5 (by decide) (by decide) (by decide) q717 hA hw hT rfl (rt_out (lw_all_tbl q831) ⟨rfl, rfl⟩)

set_option maxHeartbeats 4000000 in
theorem ev_X0_sizeOf0 {w : WE} {A : Hp} {a N : Nat} {f : Nat → Int32} (hA : A.1 a = some (eI w 1 N f)) : EvY w mX0_sizeOf none 8 3 222 [.ref a, .int (nI 0)] A (fun v A' => v = some (.int (nI N)) ∧ A' = A) noT := by
  refine EvY.mk 0 [some (.ref a), some (.int (nI 0))] rfl plX0 (Nat.le_of_ble_eq_true rfl) ?_
  refine r_iload_n 1 dX0_sizeOf_0 rfl rfl lo1 ?_
  refine r_if_ne 12 4 dX0_sizeOf_1 rfl rfl (fun h => absurd rfl h) (fun _ => ?_)
  refine r_aload_n 5 dX0_sizeOf_4 rfl rfl lo0 ?_
  refine r_castA (u := 1) 8 dX0_sizeOf_5 rfl (by decide) q717 hA ?_
  refine r_alen 9 dX0_sizeOf_8 rfl (laA (t := 1) (by decide)) hA ?_
  refine r_goto 30 dX0_sizeOf_9 rfl ?_
  exact r_ok (r_iret dX0_sizeOf_30 rfl (Nat.zero_le _) (Nat.zero_le _) ⟨rfl, rfl⟩)

set_option maxHeartbeats 4000000 in
theorem ev_X0_sizeOfN1 {w : WE} {A : Hp} (hT : TR w) : EvY w mX0_sizeOf none 8 1 8 [.null, .int (nI 1)] A noR (thr "java/lang/NullPointerException" A 1) := by
  refine EvY.mk 0 [some (.null), some (.int (nI 1))] rfl plX0 (Nat.le_of_ble_eq_true rfl) ?_
  refine r_iload_n 1 dX0_sizeOf_0 rfl rfl lo1 ?_
  refine r_if_ne 12 4 dX0_sizeOf_1 rfl rfl (fun _ => ?_) (fun h => absurd h (by decide))
  refine r_iload_n 13 dX0_sizeOf_12 rfl rfl lo1 ?_
  refine r_iconst 14 dX0_sizeOf_13 rfl ic_1 ?_
  refine r_icmp_ne 25 17 dX0_sizeOf_14 rfl rfl (fun h => absurd rfl h) (fun _ => ?_)
  refine r_aload_nN 18 dX0_sizeOf_17 rfl rfl lo0 ?_
  refine r_castN 21 dX0_sizeOf_18 rfl ?_
  exact r_alenX dX0_sizeOf_21 hT rfl (rt_out (lw_all_tbl q831) ⟨rfl, rfl⟩)

set_option maxHeartbeats 4000000 in
theorem ev_X0_sizeOfC10 {w : WE} {A : Hp} {a N : Nat} {f : Nat → Int32} (hA : A.1 a = some (eI w 0 N f)) (hw : MRi w) (hT : TR w) : EvY w mX0_sizeOf none 8 3 970 [.ref a, .int (nI 1)] A noR (thr "java/lang/ClassCastException" A 3) := by
  refine EvY.mk 0 [some (.ref a), some (.int (nI 1))] rfl plX0 (Nat.le_of_ble_eq_true rfl) ?_
  refine r_iload_n 1 dX0_sizeOf_0 rfl rfl lo1 ?_
  refine r_if_ne 12 4 dX0_sizeOf_1 rfl rfl (fun _ => ?_) (fun h => absurd h (by decide))
  refine r_iload_n 13 dX0_sizeOf_12 rfl rfl lo1 ?_
  refine r_iconst 14 dX0_sizeOf_13 rfl ic_1 ?_
  refine r_icmp_ne 25 17 dX0_sizeOf_14 rfl rfl (fun h => absurd rfl h) (fun _ => ?_)
  refine r_aload_n 18 dX0_sizeOf_17 rfl rfl lo0 ?_
  exact r_castXA (u := 2) (v := 0) dX0_sizeOf_18 (by decide) (by decide) (by decide) q718 hA hw hT rfl (rt_out (lw_all_tbl q831) ⟨rfl, rfl⟩)

set_option maxHeartbeats 4000000 in
theorem ev_X0_sizeOfC11 {w : WE} {A : Hp} {a N : Nat} {f : Nat → Int32} (hA : A.1 a = some (eI w 1 N f)) (hw : MRi w) (hT : TR w) : EvY w mX0_sizeOf none 8 3 970 [.ref a, .int (nI 1)] A noR (thr "java/lang/ClassCastException" A 3) := by
  refine EvY.mk 0 [some (.ref a), some (.int (nI 1))] rfl plX0 (Nat.le_of_ble_eq_true rfl) ?_
  refine r_iload_n 1 dX0_sizeOf_0 rfl rfl lo1 ?_
  refine r_if_ne 12 4 dX0_sizeOf_1 rfl rfl (fun _ => ?_) (fun h => absurd h (by decide))
  refine r_iload_n 13 dX0_sizeOf_12 rfl rfl lo1 ?_
  refine r_iconst 14 dX0_sizeOf_13 rfl ic_1 ?_
  refine r_icmp_ne 25 17 dX0_sizeOf_14 rfl rfl (fun h => absurd rfl h) (fun _ => ?_)
  refine r_aload_n 18 dX0_sizeOf_17 rfl rfl lo0 ?_
  exact r_castXA (u := 2) (v := 1) dX0_sizeOf_18 (by decide) (by decide) (by decide) q718 hA hw hT rfl (rt_out (lw_all_tbl q831) ⟨rfl, rfl⟩)

set_option maxHeartbeats 4000000 in
theorem ev_X0_sizeOf1 {w : WE} {A : Hp} {a N : Nat} {f : Nat → Int32} (hA : A.1 a = some (eI w 2 N f)) : EvY w mX0_sizeOf none 8 3 222 [.ref a, .int (nI 1)] A (fun v A' => v = some (.int (nI N)) ∧ A' = A) noT := by
  refine EvY.mk 0 [some (.ref a), some (.int (nI 1))] rfl plX0 (Nat.le_of_ble_eq_true rfl) ?_
  refine r_iload_n 1 dX0_sizeOf_0 rfl rfl lo1 ?_
  refine r_if_ne 12 4 dX0_sizeOf_1 rfl rfl (fun _ => ?_) (fun h => absurd h (by decide))
  refine r_iload_n 13 dX0_sizeOf_12 rfl rfl lo1 ?_
  refine r_iconst 14 dX0_sizeOf_13 rfl ic_1 ?_
  refine r_icmp_ne 25 17 dX0_sizeOf_14 rfl rfl (fun h => absurd rfl h) (fun _ => ?_)
  refine r_aload_n 18 dX0_sizeOf_17 rfl rfl lo0 ?_
  refine r_castA (u := 2) 21 dX0_sizeOf_18 rfl (by decide) q718 hA ?_
  refine r_alen 22 dX0_sizeOf_21 rfl (laA (t := 2) (by decide)) hA ?_
  refine r_goto 30 dX0_sizeOf_22 rfl ?_
  exact r_ok (r_iret dX0_sizeOf_30 rfl (Nat.zero_le _) (Nat.zero_le _) ⟨rfl, rfl⟩)

set_option maxHeartbeats 4000000 in
theorem ev_X0_sizeOfN2 {w : WE} {A : Hp} (hT : TR w) : EvY w mX0_sizeOf none 8 1 8 [.null, .int (nI 2)] A noR (thr "java/lang/NullPointerException" A 1) := by
  refine EvY.mk 0 [some (.null), some (.int (nI 2))] rfl plX0 (Nat.le_of_ble_eq_true rfl) ?_
  refine r_iload_n 1 dX0_sizeOf_0 rfl rfl lo1 ?_
  refine r_if_ne 12 4 dX0_sizeOf_1 rfl rfl (fun _ => ?_) (fun h => absurd h (by decide))
  refine r_iload_n 13 dX0_sizeOf_12 rfl rfl lo1 ?_
  refine r_iconst 14 dX0_sizeOf_13 rfl ic_1 ?_
  refine r_icmp_ne 25 17 dX0_sizeOf_14 rfl rfl (fun _ => ?_) (fun h => absurd h (by decide))
  refine r_aload_nN 26 dX0_sizeOf_25 rfl rfl lo0 ?_
  refine r_castN 29 dX0_sizeOf_26 rfl ?_
  exact r_alenX dX0_sizeOf_29 hT rfl (rt_out (lw_all_tbl q831) ⟨rfl, rfl⟩)

set_option maxHeartbeats 4000000 in
theorem ev_X0_sizeOfC21 {w : WE} {A : Hp} {a N : Nat} {f : Nat → Int32} (hA : A.1 a = some (eI w 1 N f)) (hw : MRi w) (hT : TR w) : EvY w mX0_sizeOf none 8 3 970 [.ref a, .int (nI 2)] A noR (thr "java/lang/ClassCastException" A 3) := by
  refine EvY.mk 0 [some (.ref a), some (.int (nI 2))] rfl plX0 (Nat.le_of_ble_eq_true rfl) ?_
  refine r_iload_n 1 dX0_sizeOf_0 rfl rfl lo1 ?_
  refine r_if_ne 12 4 dX0_sizeOf_1 rfl rfl (fun _ => ?_) (fun h => absurd h (by decide))
  refine r_iload_n 13 dX0_sizeOf_12 rfl rfl lo1 ?_
  refine r_iconst 14 dX0_sizeOf_13 rfl ic_1 ?_
  refine r_icmp_ne 25 17 dX0_sizeOf_14 rfl rfl (fun _ => ?_) (fun h => absurd h (by decide))
  refine r_aload_n 26 dX0_sizeOf_25 rfl rfl lo0 ?_
  exact r_castXA (u := 0) (v := 1) dX0_sizeOf_26 (by decide) (by decide) (by decide) q719 hA hw hT rfl (rt_out (lw_all_tbl q831) ⟨rfl, rfl⟩)

set_option maxHeartbeats 4000000 in
theorem ev_X0_sizeOfC22 {w : WE} {A : Hp} {a N : Nat} {f : Nat → Int32} (hA : A.1 a = some (eI w 2 N f)) (hw : MRi w) (hT : TR w) : EvY w mX0_sizeOf none 8 3 970 [.ref a, .int (nI 2)] A noR (thr "java/lang/ClassCastException" A 3) := by
  refine EvY.mk 0 [some (.ref a), some (.int (nI 2))] rfl plX0 (Nat.le_of_ble_eq_true rfl) ?_
  refine r_iload_n 1 dX0_sizeOf_0 rfl rfl lo1 ?_
  refine r_if_ne 12 4 dX0_sizeOf_1 rfl rfl (fun _ => ?_) (fun h => absurd h (by decide))
  refine r_iload_n 13 dX0_sizeOf_12 rfl rfl lo1 ?_
  refine r_iconst 14 dX0_sizeOf_13 rfl ic_1 ?_
  refine r_icmp_ne 25 17 dX0_sizeOf_14 rfl rfl (fun _ => ?_) (fun h => absurd h (by decide))
  refine r_aload_n 26 dX0_sizeOf_25 rfl rfl lo0 ?_
  exact r_castXA (u := 0) (v := 2) dX0_sizeOf_26 (by decide) (by decide) (by decide) q719 hA hw hT rfl (rt_out (lw_all_tbl q831) ⟨rfl, rfl⟩)

set_option maxHeartbeats 4000000 in
theorem ev_X0_sizeOf2 {w : WE} {A : Hp} {a N : Nat} {f : Nat → Int32} (hA : A.1 a = some (eI w 0 N f)) : EvY w mX0_sizeOf none 8 3 222 [.ref a, .int (nI 2)] A (fun v A' => v = some (.int (nI N)) ∧ A' = A) noT := by
  refine EvY.mk 0 [some (.ref a), some (.int (nI 2))] rfl plX0 (Nat.le_of_ble_eq_true rfl) ?_
  refine r_iload_n 1 dX0_sizeOf_0 rfl rfl lo1 ?_
  refine r_if_ne 12 4 dX0_sizeOf_1 rfl rfl (fun _ => ?_) (fun h => absurd h (by decide))
  refine r_iload_n 13 dX0_sizeOf_12 rfl rfl lo1 ?_
  refine r_iconst 14 dX0_sizeOf_13 rfl ic_1 ?_
  refine r_icmp_ne 25 17 dX0_sizeOf_14 rfl rfl (fun _ => ?_) (fun h => absurd h (by decide))
  refine r_aload_n 26 dX0_sizeOf_25 rfl rfl lo0 ?_
  refine r_castA (u := 0) 29 dX0_sizeOf_26 rfl (by decide) q719 hA ?_
  refine r_alen 30 dX0_sizeOf_29 rfl (laA (t := 0) (by decide)) hA ?_
  exact r_ok (r_iret dX0_sizeOf_30 rfl (Nat.zero_le _) (Nat.zero_le _) ⟨rfl, rfl⟩)

