/-! THE REFERENCE: moons, roads, one by one -/
set_option maxRecDepth 100000
set_option maxHeartbeats 4000000 in
theorem ev_X1_ofMoon {w : WE} {A : Hp} {m : MT} {S : ST} {x what : Int32} (hm : MR w A m) (hS : MS m S) : EvI w mX1_ofMoon 1 [.ref (mb w), .int x, .int what] A (sp_ofMoon S x what) := by
  refine Ev.mk 0 [some (.ref (mb w)), some (.int x), some (.int what)] rfl plX1 (Nat.le_of_ble_eq_true rfl) ?_
  have hl3 := hS.mo.2.1
  refine r_iload_n 1 dX1_ofMoon_0 rfl rfl lo1 ?_
  refine r_if_lt 12 4 dX1_ofMoon_1 rfl (by decide) (fun hc1 => ?_) (fun hc1 => ?_)
  · refine r_iconst 13 dX1_ofMoon_12 rfl ic_m1 ?_
    exact r_iret dX1_ofMoon_13 rfl (Nat.le_refl _) (Nat.le_refl _) (rv (by unfold sp_ofMoon; rw [ix_no (by simp only [i_lt, i_le, nI_om, z_om] at *; omega)]))
  · refine r_iload_n 5 dX1_ofMoon_4 rfl rfl lo1 ?_
    refine r_aload_n 6 dX1_ofMoon_5 rfl rfl lo0 ?_
    refine r_getv 9 dX1_ofMoon_6 rfl g_X1_120_1 hm.t lo6 hS.mo.1 ?_
    refine r_icmp_lt 14 12 dX1_ofMoon_9 rfl (by decide) (fun hc9 => ?_) (fun hc9 => ?_)
    · have hl3 := hS.mo.2.1
      obtain ⟨j, q, hj, rfl, hq, hix⟩ := ix_ok (l := S.2.1) (x := x) (by simp only [i_lt, i_le, nI_om, z_om] at hc1 hc9; omega)
      obtain ⟨h4, h5, h6, hok⟩ := hS.mo.2.2 j q hq
      obtain ⟨o1, o2, o3, o4, o5⟩ := hok
      refine r_iload_n 15 dX1_ofMoon_14 rfl rfl lo2 ?_
      refine r_if_ne 27 18 dX1_ofMoon_15 rfl (by decide) (fun hc15 => ?_) (fun hc15 => ?_)
      · refine r_iload_n 28 dX1_ofMoon_27 rfl rfl lo2 ?_
        refine r_iconst 29 dX1_ofMoon_28 rfl ic_1 ?_
        refine r_icmp_ne 41 32 dX1_ofMoon_29 rfl (by decide) (fun hc29 => ?_) (fun hc29 => ?_)
        · refine r_iload_n 42 dX1_ofMoon_41 rfl rfl lo2 ?_
          refine r_iconst 43 dX1_ofMoon_42 rfl ic_2 ?_
          refine r_icmp_ne 55 46 dX1_ofMoon_43 rfl (by decide) (fun hc43 => ?_) (fun hc43 => ?_)
          · refine r_bipush 57 dX1_ofMoon_55 rfl bi_m2 ?_
            exact r_iret dX1_ofMoon_57 rfl (Nat.le_refl _) (Nat.le_refl _) (rv (by unfold sp_ofMoon; rw [hix]; dsimp only; first | rw [if_pos hc15] | rw [if_neg hc15, if_pos hc29] | rw [if_neg hc15, if_neg hc29, if_pos hc43] | rw [if_neg hc15, if_neg hc29, if_neg hc43]))
          · refine r_aload_n 47 dX1_ofMoon_46 rfl rfl lo0 ?_
            refine r_get 50 dX1_ofMoon_47 rfl g_X1_25_1 hm.t lo9 ?_
            refine r_iload_n 51 dX1_ofMoon_50 rfl rfl lo1 ?_
            refine r_ialdv 52 dX1_ofMoon_51 rfl hm.a6 _ rfl h6 (by omega) (by decide) ?_
            refine r_goto 57 dX1_ofMoon_52 (by decide) ?_
            exact r_iret dX1_ofMoon_57 rfl (Nat.le_refl _) (Nat.le_refl _) (rv (by unfold sp_ofMoon; rw [hix]; dsimp only; first | rw [if_pos hc15] | rw [if_neg hc15, if_pos hc29] | rw [if_neg hc15, if_neg hc29, if_pos hc43] | rw [if_neg hc15, if_neg hc29, if_neg hc43]))
        · refine r_aload_n 33 dX1_ofMoon_32 rfl rfl lo0 ?_
          refine r_get 36 dX1_ofMoon_33 rfl g_X1_22_1 hm.t lo8 ?_
          refine r_iload_n 37 dX1_ofMoon_36 rfl rfl lo1 ?_
          refine r_ialdv 38 dX1_ofMoon_37 rfl hm.a5 _ rfl h5 (by omega) (by decide) ?_
          refine r_goto 57 dX1_ofMoon_38 (by decide) ?_
          exact r_iret dX1_ofMoon_57 rfl (Nat.le_refl _) (Nat.le_refl _) (rv (by unfold sp_ofMoon; rw [hix]; dsimp only; first | rw [if_pos hc15] | rw [if_neg hc15, if_pos hc29] | rw [if_neg hc15, if_neg hc29, if_pos hc43] | rw [if_neg hc15, if_neg hc29, if_neg hc43]))
      · refine r_aload_n 19 dX1_ofMoon_18 rfl rfl lo0 ?_
        refine r_get 22 dX1_ofMoon_19 rfl g_X1_19_1 hm.t lo7 ?_
        refine r_iload_n 23 dX1_ofMoon_22 rfl rfl lo1 ?_
        refine r_ialdv 24 dX1_ofMoon_23 rfl hm.a4 _ rfl h4 (by omega) (by decide) ?_
        refine r_goto 57 dX1_ofMoon_24 (by decide) ?_
        exact r_iret dX1_ofMoon_57 rfl (Nat.le_refl _) (Nat.le_refl _) (rv (by unfold sp_ofMoon; rw [hix]; dsimp only; first | rw [if_pos hc15] | rw [if_neg hc15, if_pos hc29] | rw [if_neg hc15, if_neg hc29, if_pos hc43] | rw [if_neg hc15, if_neg hc29, if_neg hc43]))
    · refine r_iconst 13 dX1_ofMoon_12 rfl ic_m1 ?_
      exact r_iret dX1_ofMoon_13 rfl (Nat.le_refl _) (Nat.le_refl _) (rv (by unfold sp_ofMoon; rw [ix_no (by simp only [i_lt, i_le, nI_om, z_om] at *; omega)]))

set_option maxHeartbeats 4000000 in
theorem ev_X1_phase {w : WE} {A : Hp} {m : MT} {S : ST} {x hour : Int32} (hm : MR w A m) (hS : MS m S) : EvI w mX1_phase 3 [.ref (mb w), .int x, .int hour] A (sp_phase S x hour) := by
  refine Ev.mk 0 [some (.ref (mb w)), some (.int x), some (.int hour)] rfl plX1 (Nat.le_of_ble_eq_true rfl) ?_
  have hl3 := hS.mo.2.1
  refine r_iload_n 1 dX1_phase_0 rfl rfl lo1 ?_
  refine r_if_lt 12 4 dX1_phase_1 rfl (by decide) (fun hc1 => ?_) (fun hc1 => ?_)
  · refine r_iconst 13 dX1_phase_12 rfl ic_m1 ?_
    exact r_iret dX1_phase_13 rfl (Nat.le_refl _) (Nat.le_refl _) (rv (by unfold sp_phase; rw [ix_no (by simp only [i_lt, i_le, nI_om, z_om] at *; omega)]))
  · refine r_iload_n 5 dX1_phase_4 rfl rfl lo1 ?_
    refine r_aload_n 6 dX1_phase_5 rfl rfl lo0 ?_
    refine r_getv 9 dX1_phase_6 rfl g_X1_120_1 hm.t lo6 hS.mo.1 ?_
    refine r_icmp_lt 14 12 dX1_phase_9 rfl (by decide) (fun hc9 => ?_) (fun hc9 => ?_)
    · have hl3 := hS.mo.2.1
      obtain ⟨j, q, hj, rfl, hq, hix⟩ := ix_ok (l := S.2.1) (x := x) (by simp only [i_lt, i_le, nI_om, z_om] at hc1 hc9; omega)
      obtain ⟨h4, h5, h6, hok⟩ := hS.mo.2.2 j q hq
      obtain ⟨o1, o2, o3, o4, o5⟩ := hok
      refine r_iload_n 15 dX1_phase_14 rfl rfl lo2 ?_
      refine r_cS1 18 dX1_phase_15 rfl sS_X1_137 (by rfl) ev_X1_isHour ?_
      refine r_if_eqB 39 21 dX1_phase_18 rfl (by decide) (fun hc18 => ?_) (fun hc18 => ?_)
      · refine r_bipush 41 dX1_phase_39 rfl bi_m2 ?_
        exact r_iret dX1_phase_41 rfl (Nat.le_refl _) (Nat.le_refl _) (rv (by unfold sp_phase; rw [hix]; first | simp [hc18, nI_nat (show h < 2 ^ 31 by omega)] | simp [hc18]))
      · obtain ⟨h, hh, rfl⟩ := hr_ok hc18
        refine r_iload_n 22 dX1_phase_21 rfl rfl lo2 ?_
        refine r_aload_n 23 dX1_phase_22 rfl rfl lo0 ?_
        refine r_get 26 dX1_phase_23 rfl g_X1_25_1 hm.t lo9 ?_
        refine r_iload_n 27 dX1_phase_26 rfl rfl lo1 ?_
        refine r_ialdv 28 dX1_phase_27 rfl hm.a6 _ rfl h6 (by omega) (by decide) ?_
        first | refine r_iaddN 29 dX1_phase_28 rfl ?_ | refine r_iadd 29 dX1_phase_28 rfl ?_
        refine r_aload_n 30 dX1_phase_29 rfl rfl lo0 ?_
        refine r_get 33 dX1_phase_30 rfl g_X1_19_1 hm.t lo7 ?_
        refine r_iload_n 34 dX1_phase_33 rfl rfl lo1 ?_
        refine r_ialdv 35 dX1_phase_34 rfl hm.a4 _ rfl h4 (by omega) (by decide) ?_
        first | refine r_iremN 36 dX1_phase_35 rfl (by omega) (by omega) (by omega) ?_ | refine r_irem 36 dX1_phase_35 rfl (by assumption) ?_
        refine r_goto 41 dX1_phase_36 (by decide) ?_
        exact r_iret dX1_phase_41 rfl (Nat.le_refl _) (Nat.le_refl _) (rv (by unfold sp_phase; rw [hix]; first | simp [hc18, nI_nat (show h < 2 ^ 31 by omega)] | simp [hc18]))
    · refine r_iconst 13 dX1_phase_12 rfl ic_m1 ?_
      exact r_iret dX1_phase_13 rfl (Nat.le_refl _) (Nat.le_refl _) (rv (by unfold sp_phase; rw [ix_no (by simp only [i_lt, i_le, nI_om, z_om] at *; omega)]))

set_option maxHeartbeats 4000000 in
theorem ev_X1_level {w : WE} {A : Hp} {m : MT} {S : ST} {hour : Int32} (hm : MR w A m) (hS : MS m S) : EvI w mX1_level 3 [.ref (mb w), .int hour] A (sp_level S hour) := by
  refine Ev.mk 0 [some (.ref (mb w)), some (.int hour)] rfl plX1 (Nat.le_of_ble_eq_true rfl) ?_
  have hi6 := hS.ok.le
  have hz : (m.1 5).toInt = (S.1 : Int) := by rw [hS.il, nI_toInt (by omega)]
  refine r_iload_n 1 dX1_level_0 rfl rfl lo1 ?_
  refine r_cS1 4 dX1_level_1 rfl sS_X1_137 (by rfl) ev_X1_isHour ?_
  refine r_if_neB 10 7 dX1_level_4 rfl (by decide) (fun hc4 => ?_) (fun hc4 => ?_)
  · obtain ⟨h, hh, rfl⟩ := hr_ok hc4
    refine r_aload_n 11 dX1_level_10 rfl rfl lo0 ?_
    refine r_cV0 14 dX1_level_11 rfl sV_X1_140_1 hm.t (by rfl) (ev_X1_isSea hm) ?_
    refine r_if_eqB 25 17 dX1_level_14 rfl (by decide) (fun hc14 => ?_) (fun hc14 => ?_)
    · refine r_bipush 27 dX1_level_25 rfl bi_m3 ?_
      exact r_iret dX1_level_27 rfl (Nat.le_refl _) (Nat.le_refl _) (rv (by unfold sp_level; rw [if_pos hc4]; first | rw [if_pos (by have := btw_f.mp hc14; omega)] | (rw [if_neg (by have := btw_t.mp hc14; omega), nI_nat (by omega)])))
    · refine r_aload_n 18 dX1_level_17 rfl rfl lo0 ?_
      refine r_iload_n 19 dX1_level_18 rfl rfl lo1 ?_
      refine r_cV1 22 dX1_level_19 rfl sV_X1_144_1 hm.t (by rfl) (ev_X1_levelAt hm hS.mo (by omega)) ?_
      refine r_goto 27 dX1_level_22 (by decide) ?_
      exact r_iret dX1_level_27 rfl (Nat.le_refl _) (Nat.le_refl _) (rv (by unfold sp_level; rw [if_pos hc4]; first | rw [if_pos (by have := btw_f.mp hc14; omega)] | (rw [if_neg (by have := btw_t.mp hc14; omega), nI_nat (by omega)])))
  · refine r_bipush 9 dX1_level_7 rfl bi_m2 ?_
    exact r_iret dX1_level_9 rfl (Nat.le_refl _) (Nat.le_refl _) (rv (by unfold sp_level; simp [hc4]))

set_option maxHeartbeats 4000000 in
theorem ev_X1_many2 {w : WE} {A : Hp} {m : MT} {S : ST} {what : Int32} (hm : MR w A m) (hS : MS m S) : EvI w mX1_many 1 [.ref (mb w), .int what] A (sp_many S what) := by
  refine Ev.mk 0 [some (.ref (mb w)), some (.int what)] rfl plX1 (Nat.le_of_ble_eq_true rfl) ?_
  refine r_iload_n 1 dX1_many_0 rfl rfl lo1 ?_
  refine r_if_ne 11 4 dX1_many_1 rfl (by decide) (fun hc1 => ?_) (fun hc1 => ?_)
  · refine r_iload_n 12 dX1_many_11 rfl rfl lo1 ?_
    refine r_iconst 13 dX1_many_12 rfl ic_1 ?_
    refine r_icmp_ne 23 16 dX1_many_13 rfl (by decide) (fun hc13 => ?_) (fun hc13 => ?_)
    · refine r_iload_n 24 dX1_many_23 rfl rfl lo1 ?_
      refine r_iconst 25 dX1_many_24 rfl ic_2 ?_
      refine r_icmp_ne 35 28 dX1_many_25 rfl (by decide) (fun hc25 => ?_) (fun hc25 => ?_)
      · refine r_bipush 37 dX1_many_35 rfl bi_m2 ?_
        exact r_iret dX1_many_37 rfl (Nat.le_refl _) (Nat.le_refl _) (rv (by unfold sp_many; first | rw [if_pos hc1] | rw [if_neg hc1, if_pos hc13] | rw [if_neg hc1, if_neg hc13, if_pos hc25] | rw [if_neg hc1, if_neg hc13, if_neg hc25]))
      · refine r_aload_n 29 dX1_many_28 rfl rfl lo0 ?_
        refine r_getv 32 dX1_many_29 rfl g_X1_123_1 hm.t lo16 hS.rd.1 ?_
        refine r_goto 37 dX1_many_32 (by decide) ?_
        exact r_iret dX1_many_37 rfl (Nat.le_refl _) (Nat.le_refl _) (rv (by unfold sp_many; first | rw [if_pos hc1] | rw [if_neg hc1, if_pos hc13] | rw [if_neg hc1, if_neg hc13, if_pos hc25] | rw [if_neg hc1, if_neg hc13, if_neg hc25]))
    · refine r_aload_n 17 dX1_many_16 rfl rfl lo0 ?_
      refine r_getv 20 dX1_many_17 rfl g_X1_120_1 hm.t lo6 hS.mo.1 ?_
      refine r_goto 37 dX1_many_20 (by decide) ?_
      exact r_iret dX1_many_37 rfl (Nat.le_refl _) (Nat.le_refl _) (rv (by unfold sp_many; first | rw [if_pos hc1] | rw [if_neg hc1, if_pos hc13] | rw [if_neg hc1, if_neg hc13, if_pos hc25] | rw [if_neg hc1, if_neg hc13, if_neg hc25]))
  · refine r_aload_n 5 dX1_many_4 rfl rfl lo0 ?_
    refine r_getv 8 dX1_many_5 rfl g_X1_86_1 hm.t lo5 hS.il ?_
    refine r_goto 37 dX1_many_8 (by decide) ?_
    exact r_iret dX1_many_37 rfl (Nat.le_refl _) (Nat.le_refl _) (rv (by unfold sp_many; first | rw [if_pos hc1] | rw [if_neg hc1, if_pos hc13] | rw [if_neg hc1, if_neg hc13, if_pos hc25] | rw [if_neg hc1, if_neg hc13, if_neg hc25]))

set_option maxHeartbeats 4000000 in
theorem ev_X1_height {w : WE} {A : Hp} {m : MT} {S : ST} {x hour : Int32} (hm : MR w A m) (hS : MS m S) : EvI w mX1_height 3 [.ref (mb w), .int x, .int hour] A (sp_height S x hour) := by
  refine Ev.mk 0 [some (.ref (mb w)), some (.int x), some (.int hour)] rfl plX1 (Nat.le_of_ble_eq_true rfl) ?_
  have hl10 := hS.rd.2.1
  have hz : (m.1 16).toInt = (S.2.2.1.length : Int) := by rw [hS.rd.1, nI_toInt (by omega)]
  refine r_aload_n 1 dX1_height_0 rfl rfl lo0 ?_
  refine r_iload_n 2 dX1_height_1 rfl rfl lo1 ?_
  refine r_cV1 5 dX1_height_2 rfl sV_X1_153_1 hm.t (by rfl) (ev_X1_isRoad hm) ?_
  refine r_if_neB 10 8 dX1_height_5 rfl (by decide) (fun hc5 => ?_) (fun hc5 => ?_)
  · obtain ⟨j, q, hj, rfl, hq, hix⟩ := ix_ok (l := S.2.2.1) (x := x) (by rw [hz] at hc5; have := btw_t.mp hc5; omega)
    obtain ⟨h10, h11, h12, h13, h14, h15, hok⟩ := hS.rd.2.2 j q hq
    obtain ⟨o1, o2, o3, o4, o5, o6, o7, o8⟩ := hok
    refine r_iload_n 11 dX1_height_10 rfl rfl lo2 ?_
    refine r_cS1 14 dX1_height_11 rfl sS_X1_137 (by rfl) ev_X1_isHour ?_
    refine r_if_eqB 26 17 dX1_height_14 rfl (by decide) (fun hc14 => ?_) (fun hc14 => ?_)
    · refine r_bipush 28 dX1_height_26 rfl bi_m2 ?_
      exact r_iret dX1_height_28 rfl (Nat.le_refl _) (Nat.le_refl _) (rv (by unfold sp_height; rw [hix]; first | simp [hc14, nI_nat (show h < 2 ^ 31 by omega)] | simp [hc14]))
    · obtain ⟨h, hh, rfl⟩ := hr_ok hc14
      refine r_aload_n 18 dX1_height_17 rfl rfl lo0 ?_
      refine r_iload_n 19 dX1_height_18 rfl rfl lo1 ?_
      refine r_iload_n 20 dX1_height_19 rfl rfl lo2 ?_
      refine r_cV2 23 dX1_height_20 rfl sV_X1_156_1 hm.t (by rfl) (ev_X1_heightAt hm hS.rd hq (by omega)) ?_
      refine r_goto 28 dX1_height_23 (by decide) ?_
      exact r_iret dX1_height_28 rfl (Nat.le_refl _) (Nat.le_refl _) (rv (by unfold sp_height; rw [hix]; first | simp [hc14, nI_nat (show h < 2 ^ 31 by omega)] | simp [hc14]))
  · refine r_iconst 9 dX1_height_8 rfl ic_m1 ?_
    exact r_iret dX1_height_9 rfl (Nat.le_refl _) (Nat.le_refl _) (rv (by unfold sp_height; rw [ix_no (by rw [hz] at hc5; exact btw_f.mp hc5)]))

set_option maxHeartbeats 4000000 in
theorem ev_X1_dry {w : WE} {A : Hp} {m : MT} {S : ST} {x hour : Int32} (hm : MR w A m) (hS : MS m S) : EvI w mX1_dry 3 [.ref (mb w), .int x, .int hour] A (sp_dry S x hour) := by
  refine Ev.mk 0 [some (.ref (mb w)), some (.int x), some (.int hour)] rfl plX1 (Nat.le_of_ble_eq_true rfl) ?_
  have hl10 := hS.rd.2.1
  have hz : (m.1 16).toInt = (S.2.2.1.length : Int) := by rw [hS.rd.1, nI_toInt (by omega)]
  refine r_aload_n 1 dX1_dry_0 rfl rfl lo0 ?_
  refine r_iload_n 2 dX1_dry_1 rfl rfl lo1 ?_
  refine r_cV1 5 dX1_dry_2 rfl sV_X1_153_1 hm.t (by rfl) (ev_X1_isRoad hm) ?_
  refine r_if_neB 10 8 dX1_dry_5 rfl (by decide) (fun hc5 => ?_) (fun hc5 => ?_)
  · obtain ⟨j, q, hj, rfl, hq, hix⟩ := ix_ok (l := S.2.2.1) (x := x) (by rw [hz] at hc5; have := btw_t.mp hc5; omega)
    obtain ⟨h10, h11, h12, h13, h14, h15, hok⟩ := hS.rd.2.2 j q hq
    obtain ⟨o1, o2, o3, o4, o5, o6, o7, o8⟩ := hok
    refine r_iload_n 11 dX1_dry_10 rfl rfl lo2 ?_
    refine r_cS1 14 dX1_dry_11 rfl sS_X1_137 (by rfl) ev_X1_isHour ?_
    refine r_if_neB 22 17 dX1_dry_14 rfl (by decide) (fun hc14 => ?_) (fun hc14 => ?_)
    · obtain ⟨h, hh, rfl⟩ := hr_ok hc14
      refine r_aload_n 23 dX1_dry_22 rfl rfl lo0 ?_
      refine r_iload_n 24 dX1_dry_23 rfl rfl lo1 ?_
      refine r_iload_n 25 dX1_dry_24 rfl rfl lo2 ?_
      refine r_cV2 28 dX1_dry_25 rfl sV_X1_159_1 hm.t (by rfl) (ev_X1_isDry hm hS.mo hS.rd hq (by omega)) ?_
      refine r_if_eqB 35 31 dX1_dry_28 rfl (by decide) (fun hc28 => ?_) (fun hc28 => ?_)
      · refine r_iconst 36 dX1_dry_35 rfl ic_0 ?_
        exact r_iret dX1_dry_36 rfl (Nat.le_refl _) (Nat.le_refl _) (rv (by unfold sp_dry; rw [hix]; first | (simp [hc14, nI_nat (show h < 2 ^ 31 by omega)]; first | rw [bI_t hc28] | rw [bI_f hc28]) | simp [hc14]))
      · refine r_iconst 32 dX1_dry_31 rfl ic_1 ?_
        refine r_goto 36 dX1_dry_32 (by decide) ?_
        exact r_iret dX1_dry_36 rfl (Nat.le_refl _) (Nat.le_refl _) (rv (by unfold sp_dry; rw [hix]; first | (simp [hc14, nI_nat (show h < 2 ^ 31 by omega)]; first | rw [bI_t hc28] | rw [bI_f hc28]) | simp [hc14]))
    · refine r_bipush 19 dX1_dry_17 rfl bi_m2 ?_
      refine r_goto 36 dX1_dry_19 (by decide) ?_
      exact r_iret dX1_dry_36 rfl (Nat.le_refl _) (Nat.le_refl _) (rv (by unfold sp_dry; rw [hix]; first | (simp [hc14, nI_nat (show h < 2 ^ 31 by omega)]; first | rw [bI_t hc28] | rw [bI_f hc28]) | simp [hc14]))
  · refine r_iconst 9 dX1_dry_8 rfl ic_m1 ?_
    exact r_iret dX1_dry_9 rfl (Nat.le_refl _) (Nat.le_refl _) (rv (by unfold sp_dry; rw [ix_no (by rw [hz] at hc5; exact btw_f.mp hc5)]))

