/-! THE CLASS: Taking -/
set_option maxRecDepth 100000
theorem r_castXO {w : WE} {M : MI} {R : Room} {Z : ZT} {k n : Nat} {A : Hp} {pc : Nat} {lo : List (Option Value)} {st : List Value} {idx ci a N : Nat} {fs : List Value} {C0 nm : String} {TT : u_T} (hd : decode M.2.1 pc = .ok (.checkcast idx, 3)) (hc : clA[ci]? = some (C0, TT, N)) (hl : Jvm.Cond.classLink M.1.cls idx nm ∈ lw_all) (h0 : nmOk C0 = true) (h1 : nmOk nm = true) (hnc : ∀ s, KW w s → (Jvm.Cond.not (Jvm.Cond.castable C0 nm)).before (a0 w) (ws0 w) = true) (hA : A.1 a = some (.inr (ci, fs))) (hw : MRi w) (hT : TR w) (hr : rOk R k n 3 970 (.ref a :: st) = true) (K : Rt w M R Z (k + 3) (n + 970) (A.1, A.2 + 3) pc lo "java/lang/ClassCastException") : Rn w M R Z k n A pc lo (.ref a :: st) := by
  intro p e s m args below meth c H locs ls C hR hL hlo T hTH X
  subst hTH
  obtain ⟨cellB, hcB, hoB, hclB⟩ := va_recv C.k.K (rp_one hR hA) (ci := ci) (q0 := 0) hc rfl
  obtain ⟨cT, hfT, -⟩ := Jvm.Cond.classLink_spec C.own (C.ts _ hl) e.platform (by rw [X.admits.platform])
  have ha := C.k.2.2.2.alike
  exact cast_core hd hl h0 h1 hw hT hr K C hR hL hlo X hcB rfl (fun z h => by rw [h] at hoB; cases hoB) hclB hfT (by rw [ha.assignable]; exact ncast (hnc s C.k) (by rw [← ha.findClass]; exact hclB) (by rw [← ha.findClass]; exact hfT))
set_option maxHeartbeats 4000000 in
theorem ev_X2_init_12 {w : WE} {A : Hp} {a b : Nat} {f0 : Value} {l : List Value} (hA : A.1 a = some (.inr (12, f0 :: l))) (hba : wb w ≤ a) : EvP w mX2_init 1 0 0 [.ref a, .ref b] A none (fun A' => A' = hp_up A a (.inr (12, .ref b :: l))) := by
  refine Ev.mk 0 [some (.ref a), some (.ref b)] rfl plX2 (Nat.le_of_ble_eq_true rfl) ?_
  refine r_aload_n 1 dX2_init_0 rfl rfl lo0 ?_
  refine r_aload_n 2 dX2_init_1 rfl rfl lo1 ?_
  refine r_putF 5 dX2_init_2 rfl g_X2_3_12 cw_12 fw_12_0 fo_12_0 rfl hA hba so0 (Nat.le_of_ble_eq_true rfl) rfl rfl ?_
  refine r_aload_n 6 dX2_init_5 rfl rfl lo0 ?_
  refine r_objInit 9 dX2_init_6 rfl q764 q89 q90 (by decide) (by decide) ?_
  exact r_vret dX2_init_9 rfl (Nat.le_refl _) (Nat.le_refl _) ⟨rfl, rfl⟩

set_option maxHeartbeats 4000000 in
theorem ev_X13_init {w : WE} {A : Hp} {a b s : Nat} {kd : Int32} {f0 f1 f2 f3 : Value} (hA : A.1 a = some (.inr (12, [f0, f1, f2, f3]))) (hba : wb w ≤ a) : EvP w mX13_init 2 0 0 [.ref a, .ref b, .ref s, .int kd] A none (fun A' => A'.1 a = some (.inr (12, [.ref b, .ref s, .int kd, .ref b])) ∧ A'.2 = A.2 ∧ ∀ q, q ≠ a → A'.1 q = A.1 q) := by
  refine Ev.mk 0 [some (.ref a), some (.ref b), some (.ref s), some (.int kd)] rfl plX13 (Nat.le_of_ble_eq_true rfl) ?_
  refine r_aload_n 1 dX13_init_0 rfl rfl lo0 ?_
  refine r_aload_n 2 dX13_init_1 rfl rfl lo1 ?_
  refine r_putF 5 dX13_init_2 rfl g_X13_1_12 cw_12 fw_12_3 fo_12_3 rfl hA hba so3 (Nat.le_of_ble_eq_true rfl) rfl rfl ?_
  refine r_aload_n 6 dX13_init_5 rfl rfl lo0 ?_
  refine r_aload_n 7 dX13_init_6 rfl rfl lo1 ?_
  refine rx_NI1v 10 dX13_init_7 rfl sNI_X13_7 (by rfl) (ev_X2_init_12 hp_up_s hba) (fun A4 hP => ?_)
  subst hP
  refine r_aload_n 11 dX13_init_10 rfl rfl lo0 ?_
  refine r_aload_n 12 dX13_init_11 rfl rfl lo2 ?_
  refine r_putF 15 dX13_init_12 rfl g_X13_13_12 cw_12 fw_12_1 fo_12_1 rfl hp_up_s hba so1 (Nat.le_of_ble_eq_true rfl) rfl rfl ?_
  refine r_aload_n 16 dX13_init_15 rfl rfl lo0 ?_
  refine r_iload_n 17 dX13_init_16 rfl rfl lo3 ?_
  refine r_putF 20 dX13_init_17 rfl g_X13_17_12 cw_12 fw_12_2 fo_12_2 rfl hp_up_s hba so2 (Nat.le_of_ble_eq_true rfl) rfl rfl ?_
  exact r_vret dX13_init_20 rfl (Nat.le_refl _) (Nat.le_refl _) ⟨rfl, hp_up_s, rfl, fun q hq => (hp_up_n hq).trans ((hp_up_n hq).trans ((hp_up_n hq).trans (hp_up_n hq)))⟩

set_option maxHeartbeats 4000000 in
theorem ev_X13_done00 {w : WE} {A : Hp} {a bb i s : Nat} {q : Rd} {f3 : Value} (hA : A.1 a = some (.inr (12, [.ref bb, .ref s, .int (nI 0), f3]))) (hq : q.1 = 0) (hs0 : A.1 s = some (rdE (wb w) i q)) (hi : i < 2 ^ 31) : EvY w mX13_done none 8 3 970 [.ref a] A (fun v A' => v = some (.int (nI 1)) ∧ A' = A) noT := by
  refine EvY.mk 1 [some (.ref a), none] rfl plX13 (Nat.le_of_ble_eq_true rfl) ?_
  obtain ⟨q0, q1⟩ := q
  dsimp only at hq
  subst hq
  have hs : A.1 s = some (.inr (3, rdF (wb w) i (0, q1))) := hs0
  refine r_aload_n 1 dX13_done_0 rfl rfl lo0 ?_
  refine r_get 4 dX13_done_1 rfl g_X13_17_12 hA rfl ?_
  refine r_if_ne 17 7 dX13_done_4 rfl rfl (fun h => absurd rfl h) (fun _ => ?_)
  refine r_aload_n 8 dX13_done_7 rfl rfl lo0 ?_
  refine r_get 11 dX13_done_8 rfl g_X13_13_12 hA rfl ?_
  refine r_get 14 dX13_done_11 rfl g_X13_21_3 hs rfl ?_
  refine r_goto 48 dX13_done_14 rfl ?_
  refine r_istore_n 49 dX13_done_48 rfl rfl rfl (by rfl) ?_
  refine r_iload_n 50 dX13_done_49 rfl rfl lo1 ?_
  refine r_if_geN 57 53 dX13_done_50 rfl rfl hi (fun _ => ?_) (fun h => absurd h (Nat.not_lt_zero _))
  refine r_iconst 58 dX13_done_57 rfl ic_1 ?_
  exact r_ok (r_iret dX13_done_58 rfl (by decide) (by decide) ⟨rfl, rfl⟩)
set_option maxHeartbeats 4000000 in
theorem ev_X13_done01 {w : WE} {A : Hp} {a bb i s : Nat} {q : Rd} {f3 : Value} (hA : A.1 a = some (.inr (12, [.ref bb, .ref s, .int (nI 0), f3]))) (hq : q.1 = 1) (hs0 : A.1 s = some (rdE (wb w) i q)) (hi : i < 2 ^ 31) : EvY w mX13_done none 8 3 970 [.ref a] A (fun v A' => v = some (.int (nI 1)) ∧ A' = A) noT := by
  refine EvY.mk 1 [some (.ref a), none] rfl plX13 (Nat.le_of_ble_eq_true rfl) ?_
  obtain ⟨q0, q1⟩ := q
  dsimp only at hq
  subst hq
  have hs : A.1 s = some (.inr (4, rdF (wb w) i (1, q1))) := hs0
  refine r_aload_n 1 dX13_done_0 rfl rfl lo0 ?_
  refine r_get 4 dX13_done_1 rfl g_X13_17_12 hA rfl ?_
  refine r_if_ne 17 7 dX13_done_4 rfl rfl (fun h => absurd rfl h) (fun _ => ?_)
  refine r_aload_n 8 dX13_done_7 rfl rfl lo0 ?_
  refine r_get 11 dX13_done_8 rfl g_X13_13_12 hA rfl ?_
  refine r_get 14 dX13_done_11 rfl g_X13_21_4 hs rfl ?_
  refine r_goto 48 dX13_done_14 rfl ?_
  refine r_istore_n 49 dX13_done_48 rfl rfl rfl (by rfl) ?_
  refine r_iload_n 50 dX13_done_49 rfl rfl lo1 ?_
  refine r_if_geN 57 53 dX13_done_50 rfl rfl hi (fun _ => ?_) (fun h => absurd h (Nat.not_lt_zero _))
  refine r_iconst 58 dX13_done_57 rfl ic_1 ?_
  exact r_ok (r_iret dX13_done_58 rfl (by decide) (by decide) ⟨rfl, rfl⟩)
set_option maxHeartbeats 4000000 in
theorem ev_X13_done02 {w : WE} {A : Hp} {a bb i s : Nat} {q : Rd} {f3 : Value} (hA : A.1 a = some (.inr (12, [.ref bb, .ref s, .int (nI 0), f3]))) (hq : q.1 = 2) (hs0 : A.1 s = some (rdE (wb w) i q)) (hi : i < 2 ^ 31) : EvY w mX13_done none 8 3 970 [.ref a] A (fun v A' => v = some (.int (nI 1)) ∧ A' = A) noT := by
  refine EvY.mk 1 [some (.ref a), none] rfl plX13 (Nat.le_of_ble_eq_true rfl) ?_
  obtain ⟨q0, q1⟩ := q
  dsimp only at hq
  subst hq
  have hs : A.1 s = some (.inr (5, rdF (wb w) i (2, q1))) := hs0
  refine r_aload_n 1 dX13_done_0 rfl rfl lo0 ?_
  refine r_get 4 dX13_done_1 rfl g_X13_17_12 hA rfl ?_
  refine r_if_ne 17 7 dX13_done_4 rfl rfl (fun h => absurd rfl h) (fun _ => ?_)
  refine r_aload_n 8 dX13_done_7 rfl rfl lo0 ?_
  refine r_get 11 dX13_done_8 rfl g_X13_13_12 hA rfl ?_
  refine r_get 14 dX13_done_11 rfl g_X13_21_5 hs rfl ?_
  refine r_goto 48 dX13_done_14 rfl ?_
  refine r_istore_n 49 dX13_done_48 rfl rfl rfl (by rfl) ?_
  refine r_iload_n 50 dX13_done_49 rfl rfl lo1 ?_
  refine r_if_geN 57 53 dX13_done_50 rfl rfl hi (fun _ => ?_) (fun h => absurd h (Nat.not_lt_zero _))
  refine r_iconst 58 dX13_done_57 rfl ic_1 ?_
  exact r_ok (r_iret dX13_done_58 rfl (by decide) (by decide) ⟨rfl, rfl⟩)
set_option maxHeartbeats 4000000 in
theorem ev_X13_done10 {w : WE} {A : Hp} {a bb i s : Nat} {q : Rd} {f3 : Value} (hA : A.1 a = some (.inr (12, [.ref bb, .ref s, .int (nI 1), f3]))) (hq : q.1 = 0) (hs0 : A.1 s = some (rdE (wb w) i q)) (hw : MRi w) (hT : TR w) : EvY w mX13_done none 8 3 970 [.ref a] A noR (fun x A' => x = "java/lang/ClassCastException" ∧ A' = (A.1, A.2 + 3)) := by
  refine EvY.mk 1 [some (.ref a), none] rfl plX13 (Nat.le_of_ble_eq_true rfl) ?_
  obtain ⟨q0, q1⟩ := q
  dsimp only at hq
  subst hq
  have hs : A.1 s = some (.inr (3, rdF (wb w) i (0, q1))) := hs0
  refine r_aload_n 1 dX13_done_0 rfl rfl lo0 ?_
  refine r_get 4 dX13_done_1 rfl g_X13_17_12 hA rfl ?_
  refine r_if_ne 17 7 dX13_done_4 rfl rfl (fun _ => ?_) (fun h => absurd h (by decide))
  refine r_aload_n 18 dX13_done_17 rfl rfl lo0 ?_
  refine r_get 21 dX13_done_18 rfl g_X13_17_12 hA rfl ?_
  refine r_iconst 22 dX13_done_21 rfl ic_1 ?_
  refine r_icmp_ne 38 25 dX13_done_22 rfl rfl (fun h => absurd rfl h) (fun _ => ?_)
  refine r_aload_n 26 dX13_done_25 rfl rfl lo0 ?_
  refine r_get 29 dX13_done_26 rfl g_X13_13_12 hA rfl ?_
  exact r_castXO (ci := 3) dX13_done_29 rfl q948 (by decide +kernel) (by decide +kernel) (fun s hK => (an1 (an1 (an2 (an2 (an1 (an2 (an2 (an1 (an2 hK.2.1)))))))))) hs hw hT rfl (rt_out (lw_all_tbl q947) ⟨rfl, rfl⟩)
set_option maxHeartbeats 4000000 in
theorem ev_X13_done11 {w : WE} {A : Hp} {a bb i s : Nat} {q : Rd} {f3 : Value} (hA : A.1 a = some (.inr (12, [.ref bb, .ref s, .int (nI 1), f3]))) (hq : q.1 = 1) (hs0 : A.1 s = some (rdE (wb w) i q)) (hi : i < 2 ^ 31) : EvY w mX13_done none 8 3 970 [.ref a] A (fun v A' => v = some (.int (nI 1)) ∧ A' = A) noT := by
  refine EvY.mk 1 [some (.ref a), none] rfl plX13 (Nat.le_of_ble_eq_true rfl) ?_
  obtain ⟨q0, q1⟩ := q
  dsimp only at hq
  subst hq
  have hs : A.1 s = some (.inr (4, rdF (wb w) i (1, q1))) := hs0
  refine r_aload_n 1 dX13_done_0 rfl rfl lo0 ?_
  refine r_get 4 dX13_done_1 rfl g_X13_17_12 hA rfl ?_
  refine r_if_ne 17 7 dX13_done_4 rfl rfl (fun _ => ?_) (fun h => absurd h (by decide))
  refine r_aload_n 18 dX13_done_17 rfl rfl lo0 ?_
  refine r_get 21 dX13_done_18 rfl g_X13_17_12 hA rfl ?_
  refine r_iconst 22 dX13_done_21 rfl ic_1 ?_
  refine r_icmp_ne 38 25 dX13_done_22 rfl rfl (fun h => absurd rfl h) (fun _ => ?_)
  refine r_aload_n 26 dX13_done_25 rfl rfl lo0 ?_
  refine r_get 29 dX13_done_26 rfl g_X13_13_12 hA rfl ?_
  refine r_castY (ci := 4) 32 dX13_done_29 rfl ⟨RX7, TX7, 8, "ThirdEbb$Bridged", rfl, q948, Or.inl rfl⟩ hs ?_
  refine r_get 35 dX13_done_32 rfl g_X13_28_4 hs rfl ?_
  refine r_goto 48 dX13_done_35 rfl ?_
  refine r_istore_n 49 dX13_done_48 rfl rfl rfl (by rfl) ?_
  refine r_iload_n 50 dX13_done_49 rfl rfl lo1 ?_
  refine r_if_geN 57 53 dX13_done_50 rfl rfl hi (fun _ => ?_) (fun h => absurd h (Nat.not_lt_zero _))
  refine r_iconst 58 dX13_done_57 rfl ic_1 ?_
  exact r_ok (r_iret dX13_done_58 rfl (by decide) (by decide) ⟨rfl, rfl⟩)
set_option maxHeartbeats 4000000 in
theorem ev_X13_done12 {w : WE} {A : Hp} {a bb i s : Nat} {q : Rd} {f3 : Value} (hA : A.1 a = some (.inr (12, [.ref bb, .ref s, .int (nI 1), f3]))) (hq : q.1 = 2) (hs0 : A.1 s = some (rdE (wb w) i q)) (hi : i < 2 ^ 31) : EvY w mX13_done none 8 3 970 [.ref a] A (fun v A' => v = some (.int (nI 1)) ∧ A' = A) noT := by
  refine EvY.mk 1 [some (.ref a), none] rfl plX13 (Nat.le_of_ble_eq_true rfl) ?_
  obtain ⟨q0, q1⟩ := q
  dsimp only at hq
  subst hq
  have hs : A.1 s = some (.inr (5, rdF (wb w) i (2, q1))) := hs0
  refine r_aload_n 1 dX13_done_0 rfl rfl lo0 ?_
  refine r_get 4 dX13_done_1 rfl g_X13_17_12 hA rfl ?_
  refine r_if_ne 17 7 dX13_done_4 rfl rfl (fun _ => ?_) (fun h => absurd h (by decide))
  refine r_aload_n 18 dX13_done_17 rfl rfl lo0 ?_
  refine r_get 21 dX13_done_18 rfl g_X13_17_12 hA rfl ?_
  refine r_iconst 22 dX13_done_21 rfl ic_1 ?_
  refine r_icmp_ne 38 25 dX13_done_22 rfl rfl (fun h => absurd rfl h) (fun _ => ?_)
  refine r_aload_n 26 dX13_done_25 rfl rfl lo0 ?_
  refine r_get 29 dX13_done_26 rfl g_X13_13_12 hA rfl ?_
  refine r_castY (ci := 5) 32 dX13_done_29 rfl ⟨RX8, TX8, 9, "ThirdEbb$Bridged", rfl, q948, Or.inr q1499⟩ hs ?_
  refine r_get 35 dX13_done_32 rfl g_X13_28_5 hs rfl ?_
  refine r_goto 48 dX13_done_35 rfl ?_
  refine r_istore_n 49 dX13_done_48 rfl rfl rfl (by rfl) ?_
  refine r_iload_n 50 dX13_done_49 rfl rfl lo1 ?_
  refine r_if_geN 57 53 dX13_done_50 rfl rfl hi (fun _ => ?_) (fun h => absurd h (Nat.not_lt_zero _))
  refine r_iconst 58 dX13_done_57 rfl ic_1 ?_
  exact r_ok (r_iret dX13_done_58 rfl (by decide) (by decide) ⟨rfl, rfl⟩)
set_option maxHeartbeats 4000000 in
theorem ev_X13_done20 {w : WE} {A : Hp} {a bb i s : Nat} {q : Rd} {f3 : Value} (hA : A.1 a = some (.inr (12, [.ref bb, .ref s, .int (nI 2), f3]))) (hq : q.1 = 0) (hs0 : A.1 s = some (rdE (wb w) i q)) (hw : MRi w) (hT : TR w) : EvY w mX13_done none 8 3 970 [.ref a] A noR (fun x A' => x = "java/lang/ClassCastException" ∧ A' = (A.1, A.2 + 3)) := by
  refine EvY.mk 1 [some (.ref a), none] rfl plX13 (Nat.le_of_ble_eq_true rfl) ?_
  obtain ⟨q0, q1⟩ := q
  dsimp only at hq
  subst hq
  have hs : A.1 s = some (.inr (3, rdF (wb w) i (0, q1))) := hs0
  refine r_aload_n 1 dX13_done_0 rfl rfl lo0 ?_
  refine r_get 4 dX13_done_1 rfl g_X13_17_12 hA rfl ?_
  refine r_if_ne 17 7 dX13_done_4 rfl rfl (fun _ => ?_) (fun h => absurd h (by decide))
  refine r_aload_n 18 dX13_done_17 rfl rfl lo0 ?_
  refine r_get 21 dX13_done_18 rfl g_X13_17_12 hA rfl ?_
  refine r_iconst 22 dX13_done_21 rfl ic_1 ?_
  refine r_icmp_ne 38 25 dX13_done_22 rfl rfl (fun _ => ?_) (fun h => absurd h (by decide))
  refine r_aload_n 39 dX13_done_38 rfl rfl lo0 ?_
  refine r_get 42 dX13_done_39 rfl g_X13_13_12 hA rfl ?_
  exact r_castXO (ci := 3) dX13_done_42 rfl q949 (by decide +kernel) (by decide +kernel) (fun s hK => (an1 (an1 (an1 (an2 (an2 (an2 (an2 (an1 (an2 hK.2.1)))))))))) hs hw hT rfl (rt_out (lw_all_tbl q947) ⟨rfl, rfl⟩)
set_option maxHeartbeats 4000000 in
theorem ev_X13_done21 {w : WE} {A : Hp} {a bb i s : Nat} {q : Rd} {f3 : Value} (hA : A.1 a = some (.inr (12, [.ref bb, .ref s, .int (nI 2), f3]))) (hq : q.1 = 1) (hs0 : A.1 s = some (rdE (wb w) i q)) (hw : MRi w) (hT : TR w) : EvY w mX13_done none 8 3 970 [.ref a] A noR (fun x A' => x = "java/lang/ClassCastException" ∧ A' = (A.1, A.2 + 3)) := by
  refine EvY.mk 1 [some (.ref a), none] rfl plX13 (Nat.le_of_ble_eq_true rfl) ?_
  obtain ⟨q0, q1⟩ := q
  dsimp only at hq
  subst hq
  have hs : A.1 s = some (.inr (4, rdF (wb w) i (1, q1))) := hs0
  refine r_aload_n 1 dX13_done_0 rfl rfl lo0 ?_
  refine r_get 4 dX13_done_1 rfl g_X13_17_12 hA rfl ?_
  refine r_if_ne 17 7 dX13_done_4 rfl rfl (fun _ => ?_) (fun h => absurd h (by decide))
  refine r_aload_n 18 dX13_done_17 rfl rfl lo0 ?_
  refine r_get 21 dX13_done_18 rfl g_X13_17_12 hA rfl ?_
  refine r_iconst 22 dX13_done_21 rfl ic_1 ?_
  refine r_icmp_ne 38 25 dX13_done_22 rfl rfl (fun _ => ?_) (fun h => absurd h (by decide))
  refine r_aload_n 39 dX13_done_38 rfl rfl lo0 ?_
  refine r_get 42 dX13_done_39 rfl g_X13_13_12 hA rfl ?_
  exact r_castXO (ci := 4) dX13_done_42 rfl q949 (by decide +kernel) (by decide +kernel) (fun s hK => (an2 (an1 (an1 (an2 (an2 (an2 (an2 (an1 (an2 hK.2.1)))))))))) hs hw hT rfl (rt_out (lw_all_tbl q947) ⟨rfl, rfl⟩)
set_option maxHeartbeats 4000000 in
theorem ev_X13_done22 {w : WE} {A : Hp} {a bb i s : Nat} {q : Rd} {f3 : Value} (hA : A.1 a = some (.inr (12, [.ref bb, .ref s, .int (nI 2), f3]))) (hq : q.1 = 2) (hs0 : A.1 s = some (rdE (wb w) i q)) (hi : i < 2 ^ 31) : EvY w mX13_done none 8 3 970 [.ref a] A (fun v A' => v = some (.int (nI 1)) ∧ A' = A) noT := by
  refine EvY.mk 1 [some (.ref a), none] rfl plX13 (Nat.le_of_ble_eq_true rfl) ?_
  obtain ⟨q0, q1⟩ := q
  dsimp only at hq
  subst hq
  have hs : A.1 s = some (.inr (5, rdF (wb w) i (2, q1))) := hs0
  refine r_aload_n 1 dX13_done_0 rfl rfl lo0 ?_
  refine r_get 4 dX13_done_1 rfl g_X13_17_12 hA rfl ?_
  refine r_if_ne 17 7 dX13_done_4 rfl rfl (fun _ => ?_) (fun h => absurd h (by decide))
  refine r_aload_n 18 dX13_done_17 rfl rfl lo0 ?_
  refine r_get 21 dX13_done_18 rfl g_X13_17_12 hA rfl ?_
  refine r_iconst 22 dX13_done_21 rfl ic_1 ?_
  refine r_icmp_ne 38 25 dX13_done_22 rfl rfl (fun _ => ?_) (fun h => absurd h (by decide))
  refine r_aload_n 39 dX13_done_38 rfl rfl lo0 ?_
  refine r_get 42 dX13_done_39 rfl g_X13_13_12 hA rfl ?_
  refine r_castY (ci := 5) 45 dX13_done_42 rfl ⟨RX8, TX8, 9, "ThirdEbb$Shifting", rfl, q949, Or.inl rfl⟩ hs ?_
  refine r_get 48 dX13_done_45 rfl g_X13_31_5 hs rfl ?_
  refine r_istore_n 49 dX13_done_48 rfl rfl rfl (by rfl) ?_
  refine r_iload_n 50 dX13_done_49 rfl rfl lo1 ?_
  refine r_if_geN 57 53 dX13_done_50 rfl rfl hi (fun _ => ?_) (fun h => absurd h (Nat.not_lt_zero _))
  refine r_iconst 58 dX13_done_57 rfl ic_1 ?_
  exact r_ok (r_iret dX13_done_58 rfl (by decide) (by decide) ⟨rfl, rfl⟩)
