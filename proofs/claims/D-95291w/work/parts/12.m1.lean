/-! THE REFERENCE: its small methods -/
set_option maxRecDepth 100000
set_option maxHeartbeats 4000000 in
theorem ev_X1_within {w : WE} {A : Hp} {v a b : Int32} (a' b' : Int) (ha : a.toInt = a') (hb : b.toInt = b') : EvI w mX1_within 1 [.int v, .int a, .int b] A (bI (btw v.toInt a' b')) := by
  refine Ev.mk 0 [some (.int v), some (.int a), some (.int b)] rfl plX1 (Nat.le_of_ble_eq_true rfl) ?_
  subst ha
  subst hb
  refine r_iload_n 1 dX1_within_0 rfl rfl lo0 ?_
  refine r_iload_n 2 dX1_within_1 rfl rfl lo1 ?_
  refine r_icmp_lt 14 5 dX1_within_2 rfl (by decide) (fun hc2 => ?_) (fun hc2 => ?_)
  · refine r_iconst 15 dX1_within_14 rfl ic_0 ?_
    exact r_zret dX1_within_15 rfl (by first | exact nb_b _ | exact nb_0 | exact nb_1) (Nat.le_refl _) (Nat.le_refl _) (rv (by first | exact bt_1 (by simp only [i_lt, i_le, i_eq, nI_om, ad_om, sb_om, z_om, im1, im2, im3, im4, im9, im10] at *; omega) | exact bt_0 (by simp only [i_lt, i_le, i_eq, nI_om, ad_om, sb_om, z_om, im1, im2, im3, im4, im9, im10] at *; omega)))
  · refine r_iload_n 6 dX1_within_5 rfl rfl lo0 ?_
    refine r_iload_n 7 dX1_within_6 rfl rfl lo2 ?_
    refine r_icmp_gt 14 10 dX1_within_7 rfl (by decide) (fun hc7 => ?_) (fun hc7 => ?_)
    · refine r_iconst 15 dX1_within_14 rfl ic_0 ?_
      exact r_zret dX1_within_15 rfl (by first | exact nb_b _ | exact nb_0 | exact nb_1) (Nat.le_refl _) (Nat.le_refl _) (rv (by first | exact bt_1 (by simp only [i_lt, i_le, i_eq, nI_om, ad_om, sb_om, z_om, im1, im2, im3, im4, im9, im10] at *; omega) | exact bt_0 (by simp only [i_lt, i_le, i_eq, nI_om, ad_om, sb_om, z_om, im1, im2, im3, im4, im9, im10] at *; omega)))
    · refine r_iconst 11 dX1_within_10 rfl ic_1 ?_
      refine r_goto 15 dX1_within_11 (by decide) ?_
      exact r_zret dX1_within_15 rfl (by first | exact nb_b _ | exact nb_0 | exact nb_1) (Nat.le_refl _) (Nat.le_refl _) (rv (by first | exact bt_1 (by simp only [i_lt, i_le, i_eq, nI_om, ad_om, sb_om, z_om, im1, im2, im3, im4, im9, im10] at *; omega) | exact bt_0 (by simp only [i_lt, i_le, i_eq, nI_om, ad_om, sb_om, z_om, im1, im2, im3, im4, im9, im10] at *; omega)))

set_option maxHeartbeats 4000000 in
theorem ev_X1_isSheet {w : WE} {A : Hp} {v : Int32} : EvI w mX1_isSheet 2 [.int v] A (bI (btw v.toInt 0 3)) := by
  refine Ev.mk 0 [some (.int v)] rfl plX1 (Nat.le_of_ble_eq_true rfl) ?_
  refine r_iload_n 1 dX1_isSheet_0 rfl rfl lo0 ?_
  refine r_iconst 2 dX1_isSheet_1 rfl ic_0 ?_
  refine r_iconst 3 dX1_isSheet_2 rfl ic_3 ?_
  refine r_cS3 6 dX1_isSheet_3 rfl sS_X1_82 (by rfl) (ev_X1_within 0 3 (by decide) (by decide)) ?_
  exact r_zret dX1_isSheet_6 rfl (by first | exact nb_b _ | exact nb_0 | exact nb_1) (Nat.le_refl _) (Nat.le_refl _) ⟨rfl, rfl⟩

set_option maxHeartbeats 4000000 in
theorem ev_X1_isSort {w : WE} {A : Hp} {v : Int32} : EvI w mX1_isSort 2 [.int v] A (bI (btw v.toInt 0 2)) := by
  refine Ev.mk 0 [some (.int v)] rfl plX1 (Nat.le_of_ble_eq_true rfl) ?_
  refine r_iload_n 1 dX1_isSort_0 rfl rfl lo0 ?_
  refine r_iconst 2 dX1_isSort_1 rfl ic_0 ?_
  refine r_iconst 3 dX1_isSort_2 rfl ic_2 ?_
  refine r_cS3 6 dX1_isSort_3 rfl sS_X1_82 (by rfl) (ev_X1_within 0 2 (by decide) (by decide)) ?_
  exact r_zret dX1_isSort_6 rfl (by first | exact nb_b _ | exact nb_0 | exact nb_1) (Nat.le_refl _) (Nat.le_refl _) ⟨rfl, rfl⟩

set_option maxHeartbeats 4000000 in
theorem ev_X1_isHour {w : WE} {A : Hp} {v : Int32} : EvI w mX1_isHour 2 [.int v] A (bI (btw v.toInt 0 1999)) := by
  refine Ev.mk 0 [some (.int v)] rfl plX1 (Nat.le_of_ble_eq_true rfl) ?_
  refine r_iload_n 1 dX1_isHour_0 rfl rfl lo0 ?_
  refine r_iconst 2 dX1_isHour_1 rfl ic_0 ?_
  refine r_sipush 5 dX1_isHour_2 rfl si_1999 ?_
  refine r_cS3 8 dX1_isHour_5 rfl sS_X1_82 (by rfl) (ev_X1_within 0 1999 (by decide) (by decide)) ?_
  exact r_zret dX1_isHour_8 rfl (by first | exact nb_b _ | exact nb_0 | exact nb_1) (Nat.le_refl _) (Nat.le_refl _) ⟨rfl, rfl⟩

set_option maxHeartbeats 4000000 in
theorem ev_X1_isSea {w : WE} {A : Hp} {m : MT} (hm : MR w A m) : EvI w mX1_isSea 1 [.ref (mb w)] A (bI (btw (m.1 5).toInt 1 2147483647)) := by
  refine Ev.mk 0 [some (.ref (mb w))] rfl plX1 (Nat.le_of_ble_eq_true rfl) ?_
  have hh := i_hi (m.1 5)
  refine r_aload_n 1 dX1_isSea_0 rfl rfl lo0 ?_
  refine r_get 4 dX1_isSea_1 rfl g_X1_86_1 hm.t lo5 ?_
  refine r_if_le 11 7 dX1_isSea_4 rfl (by decide) (fun hc4 => ?_) (fun hc4 => ?_)
  · refine r_iconst 12 dX1_isSea_11 rfl ic_0 ?_
    exact r_zret dX1_isSea_12 rfl (by first | exact nb_b _ | exact nb_0 | exact nb_1) (Nat.le_refl _) (Nat.le_refl _) (rv (by first | exact bt_1 (by simp only [i_lt, i_le, i_eq, nI_om, ad_om, sb_om, z_om, im1, im2, im3, im4, im9, im10] at *; omega) | exact bt_0 (by simp only [i_lt, i_le, i_eq, nI_om, ad_om, sb_om, z_om, im1, im2, im3, im4, im9, im10] at *; omega)))
  · refine r_iconst 8 dX1_isSea_7 rfl ic_1 ?_
    refine r_goto 12 dX1_isSea_8 (by decide) ?_
    exact r_zret dX1_isSea_12 rfl (by first | exact nb_b _ | exact nb_0 | exact nb_1) (Nat.le_refl _) (Nat.le_refl _) (rv (by first | exact bt_1 (by simp only [i_lt, i_le, i_eq, nI_om, ad_om, sb_om, z_om, im1, im2, im3, im4, im9, im10] at *; omega) | exact bt_0 (by simp only [i_lt, i_le, i_eq, nI_om, ad_om, sb_om, z_om, im1, im2, im3, im4, im9, im10] at *; omega)))

set_option maxHeartbeats 4000000 in
theorem ev_X1_isIsland {w : WE} {A : Hp} {m : MT} {v : Int32} (hm : MR w A m) : EvI w mX1_isIsland 1 [.ref (mb w), .int v] A (bI (btw v.toInt 0 ((m.1 5).toInt - 1))) := by
  refine Ev.mk 0 [some (.ref (mb w)), some (.int v)] rfl plX1 (Nat.le_of_ble_eq_true rfl) ?_
  refine r_iload_n 1 dX1_isIsland_0 rfl rfl lo1 ?_
  refine r_if_lt 16 4 dX1_isIsland_1 rfl (by decide) (fun hc1 => ?_) (fun hc1 => ?_)
  · refine r_iconst 17 dX1_isIsland_16 rfl ic_0 ?_
    exact r_zret dX1_isIsland_17 rfl (by first | exact nb_b _ | exact nb_0 | exact nb_1) (Nat.le_refl _) (Nat.le_refl _) (rv (by first | exact bt_1 (by simp only [i_lt, i_le, i_eq, nI_om, ad_om, sb_om, z_om, im1, im2, im3, im4, im9, im10] at *; omega) | exact bt_0 (by simp only [i_lt, i_le, i_eq, nI_om, ad_om, sb_om, z_om, im1, im2, im3, im4, im9, im10] at *; omega)))
  · refine r_iload_n 5 dX1_isIsland_4 rfl rfl lo1 ?_
    refine r_aload_n 6 dX1_isIsland_5 rfl rfl lo0 ?_
    refine r_get 9 dX1_isIsland_6 rfl g_X1_86_1 hm.t lo5 ?_
    refine r_icmp_ge 16 12 dX1_isIsland_9 rfl (by decide) (fun hc9 => ?_) (fun hc9 => ?_)
    · refine r_iconst 17 dX1_isIsland_16 rfl ic_0 ?_
      exact r_zret dX1_isIsland_17 rfl (by first | exact nb_b _ | exact nb_0 | exact nb_1) (Nat.le_refl _) (Nat.le_refl _) (rv (by first | exact bt_1 (by simp only [i_lt, i_le, i_eq, nI_om, ad_om, sb_om, z_om, im1, im2, im3, im4, im9, im10] at *; omega) | exact bt_0 (by simp only [i_lt, i_le, i_eq, nI_om, ad_om, sb_om, z_om, im1, im2, im3, im4, im9, im10] at *; omega)))
    · refine r_iconst 13 dX1_isIsland_12 rfl ic_1 ?_
      refine r_goto 17 dX1_isIsland_13 (by decide) ?_
      exact r_zret dX1_isIsland_17 rfl (by first | exact nb_b _ | exact nb_0 | exact nb_1) (Nat.le_refl _) (Nat.le_refl _) (rv (by first | exact bt_1 (by simp only [i_lt, i_le, i_eq, nI_om, ad_om, sb_om, z_om, im1, im2, im3, im4, im9, im10] at *; omega) | exact bt_0 (by simp only [i_lt, i_le, i_eq, nI_om, ad_om, sb_om, z_om, im1, im2, im3, im4, im9, im10] at *; omega)))

set_option maxHeartbeats 4000000 in
theorem ev_X1_isRoad {w : WE} {A : Hp} {m : MT} {v : Int32} (hm : MR w A m) : EvI w mX1_isRoad 1 [.ref (mb w), .int v] A (bI (btw v.toInt 0 ((m.1 16).toInt - 1))) := by
  refine Ev.mk 0 [some (.ref (mb w)), some (.int v)] rfl plX1 (Nat.le_of_ble_eq_true rfl) ?_
  refine r_iload_n 1 dX1_isRoad_0 rfl rfl lo1 ?_
  refine r_if_lt 16 4 dX1_isRoad_1 rfl (by decide) (fun hc1 => ?_) (fun hc1 => ?_)
  · refine r_iconst 17 dX1_isRoad_16 rfl ic_0 ?_
    exact r_zret dX1_isRoad_17 rfl (by first | exact nb_b _ | exact nb_0 | exact nb_1) (Nat.le_refl _) (Nat.le_refl _) (rv (by first | exact bt_1 (by simp only [i_lt, i_le, i_eq, nI_om, ad_om, sb_om, z_om, im1, im2, im3, im4, im9, im10] at *; omega) | exact bt_0 (by simp only [i_lt, i_le, i_eq, nI_om, ad_om, sb_om, z_om, im1, im2, im3, im4, im9, im10] at *; omega)))
  · refine r_iload_n 5 dX1_isRoad_4 rfl rfl lo1 ?_
    refine r_aload_n 6 dX1_isRoad_5 rfl rfl lo0 ?_
    refine r_get 9 dX1_isRoad_6 rfl g_X1_123_1 hm.t lo16 ?_
    refine r_icmp_ge 16 12 dX1_isRoad_9 rfl (by decide) (fun hc9 => ?_) (fun hc9 => ?_)
    · refine r_iconst 17 dX1_isRoad_16 rfl ic_0 ?_
      exact r_zret dX1_isRoad_17 rfl (by first | exact nb_b _ | exact nb_0 | exact nb_1) (Nat.le_refl _) (Nat.le_refl _) (rv (by first | exact bt_1 (by simp only [i_lt, i_le, i_eq, nI_om, ad_om, sb_om, z_om, im1, im2, im3, im4, im9, im10] at *; omega) | exact bt_0 (by simp only [i_lt, i_le, i_eq, nI_om, ad_om, sb_om, z_om, im1, im2, im3, im4, im9, im10] at *; omega)))
    · refine r_iconst 13 dX1_isRoad_12 rfl ic_1 ?_
      refine r_goto 17 dX1_isRoad_13 (by decide) ?_
      exact r_zret dX1_isRoad_17 rfl (by first | exact nb_b _ | exact nb_0 | exact nb_1) (Nat.le_refl _) (Nat.le_refl _) (rv (by first | exact bt_1 (by simp only [i_lt, i_le, i_eq, nI_om, ad_om, sb_om, z_om, im1, im2, im3, im4, im9, im10] at *; omega) | exact bt_0 (by simp only [i_lt, i_le, i_eq, nI_om, ad_om, sb_om, z_om, im1, im2, im3, im4, im9, im10] at *; omega)))

set_option maxHeartbeats 4000000 in
theorem ev_X1_toldHour {w : WE} {A : Hp} {v : Int32} : EvI w mX1_toldHour 1 [.int v] A (if 2000 < v.toInt then -9 else v) := by
  refine Ev.mk 0 [some (.int v)] rfl plX1 (Nat.le_of_ble_eq_true rfl) ?_
  refine r_iload_n 1 dX1_toldHour_0 rfl rfl lo0 ?_
  refine r_sipush 4 dX1_toldHour_1 rfl si_2000 ?_
  refine r_icmp_le 12 7 dX1_toldHour_4 rfl (by decide) (fun hc4 => ?_) (fun hc4 => ?_)
  · refine r_iload_n 13 dX1_toldHour_12 rfl rfl lo0 ?_
    exact r_iret dX1_toldHour_13 rfl (Nat.le_refl _) (Nat.le_refl _) (rv (by first | rw [if_pos (by simp only [i_lt, i_le, i_eq, nI_om, ad_om, sb_om, z_om, im1, im2, im3, im4, im9, im10] at *; omega)] | rw [if_neg (by simp only [i_lt, i_le, i_eq, nI_om, ad_om, sb_om, z_om, im1, im2, im3, im4, im9, im10] at *; omega)]))
  · refine r_bipush 9 dX1_toldHour_7 rfl bi_m9 ?_
    refine r_goto 13 dX1_toldHour_9 (by decide) ?_
    exact r_iret dX1_toldHour_13 rfl (Nat.le_refl _) (Nat.le_refl _) (rv (by first | rw [if_pos (by simp only [i_lt, i_le, i_eq, nI_om, ad_om, sb_om, z_om, im1, im2, im3, im4, im9, im10] at *; omega)] | rw [if_neg (by simp only [i_lt, i_le, i_eq, nI_om, ad_om, sb_om, z_om, im1, im2, im3, im4, im9, im10] at *; omega)]))

set_option maxHeartbeats 4000000 in
theorem ev_X1_trace {w : WE} {A : Hp} {m : MT} (hm : MR w A m) : EvI w mX1_trace 1 [.ref (mb w)] A (m.1 1) := by
  refine Ev.mk 0 [some (.ref (mb w))] rfl plX1 (Nat.le_of_ble_eq_true rfl) ?_
  refine r_aload_n 1 dX1_trace_0 rfl rfl lo0 ?_
  refine r_get 4 dX1_trace_1 rfl g_X1_211_1 hm.t lo1 ?_
  exact r_iret dX1_trace_4 rfl (Nat.le_refl _) (Nat.le_refl _) ⟨rfl, rfl⟩

set_option maxHeartbeats 4000000 in
theorem ev_X1_fault {w : WE} {A : Hp} {m : MT} (hm : MR w A m) : EvI w mX1_fault 1 [.ref (mb w)] A (m.1 0) := by
  refine Ev.mk 0 [some (.ref (mb w))] rfl plX1 (Nat.le_of_ble_eq_true rfl) ?_
  refine r_aload_n 1 dX1_fault_0 rfl rfl lo0 ?_
  refine r_get 4 dX1_fault_1 rfl g_X1_76_1 hm.t lo0 ?_
  exact r_iret dX1_fault_4 rfl (Nat.le_refl _) (Nat.le_refl _) ⟨rfl, rfl⟩

set_option maxHeartbeats 4000000 in
theorem ev_X1_many {w : WE} {A : Hp} {m : MT} {v : Int32} (hm : MR w A m) : EvI w mX1_many 1 [.ref (mb w), .int v] A (if v.toInt = 0 then m.1 5 else if v.toInt = 1 then m.1 6 else if v.toInt = 2 then m.1 16 else -2) := by
  refine Ev.mk 0 [some (.ref (mb w)), some (.int v)] rfl plX1 (Nat.le_of_ble_eq_true rfl) ?_
  refine r_iload_n 1 dX1_many_0 rfl rfl lo1 ?_
  first | refine r_if_neB 11 4 dX1_many_1 rfl (by decide) (fun hc1 => ?_) (fun hc1 => ?_) | refine r_if_ne 11 4 dX1_many_1 rfl (by decide) (fun hc1 => ?_) (fun hc1 => ?_)
  · refine r_iload_n 12 dX1_many_11 rfl rfl lo1 ?_
    refine r_iconst 13 dX1_many_12 rfl ic_1 ?_
    refine r_icmp_ne 23 16 dX1_many_13 rfl (by decide) (fun hc13 => ?_) (fun hc13 => ?_)
    · refine r_iload_n 24 dX1_many_23 rfl rfl lo1 ?_
      refine r_iconst 25 dX1_many_24 rfl ic_2 ?_
      refine r_icmp_ne 35 28 dX1_many_25 rfl (by decide) (fun hc25 => ?_) (fun hc25 => ?_)
      · refine r_bipush 37 dX1_many_35 rfl bi_m2 ?_
        exact r_iret dX1_many_37 rfl (Nat.le_refl _) (Nat.le_refl _) (rv (by simp only [i_lt, i_le, i_eq, nI_om, z_om] at *; (repeat first | rw [if_pos (by omega)] | rw [if_neg (by omega)])))
      · refine r_aload_n 29 dX1_many_28 rfl rfl lo0 ?_
        refine r_get 32 dX1_many_29 rfl g_X1_123_1 hm.t lo16 ?_
        refine r_goto 37 dX1_many_32 (by decide) ?_
        exact r_iret dX1_many_37 rfl (Nat.le_refl _) (Nat.le_refl _) (rv (by simp only [i_lt, i_le, i_eq, nI_om, z_om] at *; (repeat first | rw [if_pos (by omega)] | rw [if_neg (by omega)])))
    · refine r_aload_n 17 dX1_many_16 rfl rfl lo0 ?_
      refine r_get 20 dX1_many_17 rfl g_X1_120_1 hm.t lo6 ?_
      refine r_goto 37 dX1_many_20 (by decide) ?_
      exact r_iret dX1_many_37 rfl (Nat.le_refl _) (Nat.le_refl _) (rv (by simp only [i_lt, i_le, i_eq, nI_om, z_om] at *; (repeat first | rw [if_pos (by omega)] | rw [if_neg (by omega)])))
  · refine r_aload_n 5 dX1_many_4 rfl rfl lo0 ?_
    refine r_get 8 dX1_many_5 rfl g_X1_86_1 hm.t lo5 ?_
    refine r_goto 37 dX1_many_8 (by decide) ?_
    exact r_iret dX1_many_37 rfl (Nat.le_refl _) (Nat.le_refl _) (rv (by simp only [i_lt, i_le, i_eq, nI_om, z_om] at *; (repeat first | rw [if_pos (by omega)] | rw [if_neg (by omega)])))

set_option maxHeartbeats 4000000 in
theorem ev_X1_fails {w : WE} {A : Hp} {m : MT} {v : Int32} (hm : MR w A m) : Ev w mX1_fails 1 0 0 [.ref (mb w), .int v] A (QM w A (fun r m' => r = some (.int (-10 - v)) ∧ m' = (va_up m.1 0 v, m.2))) := by
  refine Ev.mk 0 [some (.ref (mb w)), some (.int v)] rfl plX1 (Nat.le_of_ble_eq_true rfl) ?_
  have hF : Fm w A A := Fm.rf
  refine r_aload_n 1 dX1_fails_0 rfl rfl lo0 ?_
  refine r_iload_n 2 dX1_fails_1 rfl rfl lo1 ?_
  refine rm_put 5 dX1_fails_2 rfl hm hF g_X1_76_1 fw_1_0 rfl (by decide) (fun A hm hF => ?_)
  refine r_bipush 7 dX1_fails_5 rfl bi_m10 ?_
  refine r_iload_n 8 dX1_fails_7 rfl rfl lo1 ?_
  refine r_isub 9 dX1_fails_8 rfl ?_
  exact r_iret dX1_fails_9 rfl (Nat.le_refl _) (Nat.le_refl _) ⟨_, ⟨rfl, rfl⟩, hm, hF⟩

