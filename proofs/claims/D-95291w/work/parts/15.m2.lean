/-! THE REFERENCE: level, heights, dry -/
set_option maxRecDepth 100000
set_option maxHeartbeats 4000000 in
theorem lp_X1_levelAt {w : WE} {A : Hp} {m : MT} {ms : List Mo} {h : Nat} (hm : MR w A m) (hM : MoR m ms) (hh : h < 100000) : ∀ (j i s : Nat) (x4 : Option Value), i + j = ms.length → s = lvl (ms.take i) h → Rn w mX1_levelAt (rmX 1 0 0) (ZX w (QV (.int (nI (lvl ms h))) A) 0 0) 0 0 A 4 [some (.ref (mb w)), some (.int (nI h)), some (.int (nI s)), some (.int (nI i)), x4] [] := by
  have hl3 := hM.2.1
  intro j
  induction j with
  | zero =>
    intro i s x4 hij hs
    have hi : i = ms.length := by omega
    refine r_iload_n 5 dX1_levelAt_4 rfl rfl lo3 ?_
    refine r_aload_n 6 dX1_levelAt_5 rfl rfl lo0 ?_
    refine r_getv 9 dX1_levelAt_6 rfl g_X1_120_1 hm.t lo6 hM.1 ?_
    first | refine r_icmp_geN 73 12 dX1_levelAt_9 rfl (by decide) (by omega) (by omega) (fun hc9 => ?_) (fun hc9 => ?_) | refine r_icmp_ge 73 12 dX1_levelAt_9 rfl (by decide) (fun hc9 => ?_) (fun hc9 => ?_)
    · refine r_iload_n 74 dX1_levelAt_73 rfl rfl lo2 ?_
      exact r_iret dX1_levelAt_74 rfl (Nat.le_refl _) (Nat.le_refl _) (rv (by rw [hs, lvl_all (by omega)]))
    · exact absurd hc9 (by omega)
  | succ j ih =>
    intro i s x4 hij hs
    refine r_iload_n 5 dX1_levelAt_4 rfl rfl lo3 ?_
    refine r_aload_n 6 dX1_levelAt_5 rfl rfl lo0 ?_
    refine r_getv 9 dX1_levelAt_6 rfl g_X1_120_1 hm.t lo6 hM.1 ?_
    first | refine r_icmp_geN 73 12 dX1_levelAt_9 rfl (by decide) (by omega) (by omega) (fun hc9 => ?_) (fun hc9 => ?_) | refine r_icmp_ge 73 12 dX1_levelAt_9 rfl (by decide) (fun hc9 => ?_) (fun hc9 => ?_)
    · exact absurd hc9 (by omega)
    · obtain ⟨q, hq⟩ := get_of_lt hc9
      obtain ⟨h4, h5, h6, hok⟩ := hM.2.2 i q hq
      obtain ⟨o1, o2, o3, o4, o5⟩ := hok
      have hlt := Nat.mod_lt (h + q.2.2) (show 0 < q.1 by omega)
      refine r_iload_n 13 dX1_levelAt_12 rfl rfl lo1 ?_
      refine r_aload_n 14 dX1_levelAt_13 rfl rfl lo0 ?_
      refine r_get 17 dX1_levelAt_14 rfl g_X1_25_1 hm.t lo9 ?_
      refine r_iload_n 18 dX1_levelAt_17 rfl rfl lo3 ?_
      refine r_ialdv 19 dX1_levelAt_18 rfl hm.a6 _ rfl h6 (by omega) (by decide) ?_
      first | refine r_iaddN 20 dX1_levelAt_19 rfl ?_ | refine r_iadd 20 dX1_levelAt_19 rfl ?_
      refine r_aload_n 21 dX1_levelAt_20 rfl rfl lo0 ?_
      refine r_get 24 dX1_levelAt_21 rfl g_X1_19_1 hm.t lo7 ?_
      refine r_iload_n 25 dX1_levelAt_24 rfl rfl lo3 ?_
      refine r_ialdv 26 dX1_levelAt_25 rfl hm.a4 _ rfl h4 (by omega) (by decide) ?_
      first | refine r_iremN 27 dX1_levelAt_26 rfl (by omega) (by omega) (by omega) ?_ | refine r_irem 27 dX1_levelAt_26 rfl (by assumption) ?_
      refine r_istore 29 dX1_levelAt_27 rfl so4 rfl ?_
      refine r_iload_n 30 dX1_levelAt_29 rfl rfl lo2 ?_
      refine r_aload_n 31 dX1_levelAt_30 rfl rfl lo0 ?_
      refine r_get 34 dX1_levelAt_31 rfl g_X1_22_1 hm.t lo8 ?_
      refine r_iload_n 35 dX1_levelAt_34 rfl rfl lo3 ?_
      refine r_ialdv 36 dX1_levelAt_35 rfl hm.a5 _ rfl h5 (by omega) (by decide) ?_
      refine r_iload 38 dX1_levelAt_36 rfl lo4 ?_
      refine r_aload_n 39 dX1_levelAt_38 rfl rfl lo0 ?_
      refine r_get 42 dX1_levelAt_39 rfl g_X1_19_1 hm.t lo7 ?_
      refine r_iload_n 43 dX1_levelAt_42 rfl rfl lo3 ?_
      refine r_ialdv 44 dX1_levelAt_43 rfl hm.a4 _ rfl h4 (by omega) (by decide) ?_
      refine r_iload 46 dX1_levelAt_44 rfl lo4 ?_
      first | refine r_isubN 47 dX1_levelAt_46 rfl (by omega) ?_ | refine r_isub 47 dX1_levelAt_46 rfl ?_
      first | refine r_icmp_geN 55 50 dX1_levelAt_47 rfl (by decide) (by omega) (by omega) (fun hc47 => ?_) (fun hc47 => ?_) | refine r_icmp_ge 55 50 dX1_levelAt_47 rfl (by decide) (fun hc47 => ?_) (fun hc47 => ?_)
      · refine r_aload_n 56 dX1_levelAt_55 rfl rfl lo0 ?_
        refine r_get 59 dX1_levelAt_56 rfl g_X1_19_1 hm.t lo7 ?_
        refine r_iload_n 60 dX1_levelAt_59 rfl rfl lo3 ?_
        refine r_ialdv 61 dX1_levelAt_60 rfl hm.a4 _ rfl h4 (by omega) (by decide) ?_
        refine r_iload 63 dX1_levelAt_61 rfl lo4 ?_
        first | refine r_isubN 64 dX1_levelAt_63 rfl (by omega) ?_ | refine r_isub 64 dX1_levelAt_63 rfl ?_
        first | refine r_imulN 65 dX1_levelAt_64 rfl ?_ | refine r_imul 65 dX1_levelAt_64 rfl ?_
        first | refine r_iaddN 66 dX1_levelAt_65 rfl ?_ | refine r_iadd 66 dX1_levelAt_65 rfl ?_
        refine r_istore_n 67 dX1_levelAt_66 rfl rfl so2 rfl ?_
        refine r_iinc 70 dX1_levelAt_67 rfl lo3 inc1 so3 rfl ?_
        refine r_goto 4 dX1_levelAt_70 (by decide) ?_
        exact ih (i + 1) _ _ (by omega) (by rw [lvl_take hq, hs]; unfold dr; first | rw [Nat.min_eq_left (by omega)] | rw [Nat.min_eq_right (by omega)])
      · refine r_iload 52 dX1_levelAt_50 rfl lo4 ?_
        refine r_goto 64 dX1_levelAt_52 (by decide) ?_
        first | refine r_imulN 65 dX1_levelAt_64 rfl ?_ | refine r_imul 65 dX1_levelAt_64 rfl ?_
        first | refine r_iaddN 66 dX1_levelAt_65 rfl ?_ | refine r_iadd 66 dX1_levelAt_65 rfl ?_
        refine r_istore_n 67 dX1_levelAt_66 rfl rfl so2 rfl ?_
        refine r_iinc 70 dX1_levelAt_67 rfl lo3 inc1 so3 rfl ?_
        refine r_goto 4 dX1_levelAt_70 (by decide) ?_
        exact ih (i + 1) _ _ (by omega) (by rw [lvl_take hq, hs]; unfold dr; first | rw [Nat.min_eq_left (by omega)] | rw [Nat.min_eq_right (by omega)])

set_option maxHeartbeats 4000000 in
theorem ev_X1_levelAt {w : WE} {A : Hp} {m : MT} {ms : List Mo} {h : Nat} (hm : MR w A m) (hM : MoR m ms) (hh : h < 100000) : EvI w mX1_levelAt 1 [.ref (mb w), .int (nI h)] A (nI (lvl ms h)) := by
  refine Ev.mk 3 [some (.ref (mb w)), some (.int (nI h)), none, none, none] rfl plX1 (Nat.le_of_ble_eq_true rfl) ?_
  refine r_iconst 1 dX1_levelAt_0 rfl ic_0 ?_
  refine r_istore_n 2 dX1_levelAt_1 rfl rfl so2 rfl ?_
  refine r_iconst 3 dX1_levelAt_2 rfl ic_0 ?_
  refine r_istore_n 4 dX1_levelAt_3 rfl rfl so3 rfl ?_
  exact lp_X1_levelAt hm hM hh ms.length 0 0 none (by omega) (by simp [lvl])

set_option maxHeartbeats 4000000 in
theorem ev_X1_heightAt {w : WE} {A : Hp} {m : MT} {isl r h : Nat} {rs : List Rd} {q : Rd} (hm : MR w A m) (hR : RdR m isl rs) (hq : rs[r]? = some q) (hh : h < 100000) : EvI w mX1_heightAt 1 [.ref (mb w), .int (nI r), .int (nI h)] A (nI (hgt q h)) := by
  refine Ev.mk 1 [some (.ref (mb w)), some (.int (nI r)), some (.int (nI h)), none] rfl plX1 (Nat.le_of_ble_eq_true rfl) ?_
  obtain ⟨h10, h11, h12, h13, h14, h15, hok⟩ := hR.2.2 r q hq
  obtain ⟨o1, o2, o3, o4, o5, o6, o7, o8⟩ := hok
  have hr10 : r < 10 := by
    have := (List.getElem?_eq_some_iff.mp hq).1
    have := hR.2.1
    omega
  refine r_aload_n 1 dX1_heightAt_0 rfl rfl lo0 ?_
  refine r_get 4 dX1_heightAt_1 rfl g_X1_46_1 hm.t lo20 ?_
  refine r_iload_n 5 dX1_heightAt_4 rfl rfl lo1 ?_
  refine r_ialdv 6 dX1_heightAt_5 rfl hm.a13 _ rfl h13 (by omega) (by decide) ?_
  refine r_iconst 7 dX1_heightAt_6 rfl ic_2 ?_
  refine r_aload_n 8 dX1_heightAt_7 rfl rfl lo0 ?_
  refine r_get 11 dX1_heightAt_8 rfl g_X1_52_1 hm.t lo22 ?_
  refine r_iload_n 12 dX1_heightAt_11 rfl rfl lo1 ?_
  refine r_ialdv 13 dX1_heightAt_12 rfl hm.a15 _ rfl h15 (by omega) (by decide) ?_
  first | refine r_imulN 14 dX1_heightAt_13 rfl ?_ | refine r_imul 14 dX1_heightAt_13 rfl ?_
  first | refine r_iaddN 15 dX1_heightAt_14 rfl ?_ | refine r_iadd 15 dX1_heightAt_14 rfl ?_
  refine r_aload_n 16 dX1_heightAt_15 rfl rfl lo0 ?_
  refine r_get 19 dX1_heightAt_16 rfl g_X1_37_1 hm.t lo17 ?_
  refine r_iload_n 20 dX1_heightAt_19 rfl rfl lo1 ?_
  refine r_ialdv 21 dX1_heightAt_20 rfl hm.a10 _ rfl h10 (by omega) (by decide) ?_
  refine r_iconst 22 dX1_heightAt_21 rfl ic_2 ?_
  first | refine r_icmp_neN 32 25 dX1_heightAt_22 rfl (by decide) (by omega) (by omega) (fun hc22 => ?_) (fun hc22 => ?_) | refine r_icmp_ne 32 25 dX1_heightAt_22 rfl (by decide) (fun hc22 => ?_) (fun hc22 => ?_)
  · refine r_iconst 33 dX1_heightAt_32 rfl ic_0 ?_
    refine r_isub 34 dX1_heightAt_33 rfl ?_
    refine r_istore_n 35 dX1_heightAt_34 rfl rfl so3 rfl ?_
    refine r_iload_n 36 dX1_heightAt_35 rfl rfl lo3 ?_
    refine r_if_ge 43 39 dX1_heightAt_36 rfl (by decide) (fun hc36 => ?_) (fun hc36 => ?_)
    · refine r_iload_n 44 dX1_heightAt_43 rfl rfl lo3 ?_
      exact r_iret dX1_heightAt_44 rfl (Nat.le_refl _) (Nat.le_refl _) (rv (by unfold hgt; first | (rw [if_pos hc22]; first | exact sm1 (by omega) (by omega) hc36 | (rw [sm2 (by omega) (by omega) hc36])) | (rw [if_neg hc22]; first | exact sm1 (by omega) (by omega) hc36 | (have := sm2 (by omega) (by omega) hc36; rw [show q.2.2.2.1 + 2 * q.2.2.2.2.2 = 0 by omega]))))
    · refine r_iconst 40 dX1_heightAt_39 rfl ic_0 ?_
      refine r_goto 44 dX1_heightAt_40 (by decide) ?_
      exact r_iret dX1_heightAt_44 rfl (Nat.le_refl _) (Nat.le_refl _) (rv (by unfold hgt; first | (rw [if_pos hc22]; first | exact sm1 (by omega) (by omega) hc36 | (rw [sm2 (by omega) (by omega) hc36])) | (rw [if_neg hc22]; first | exact sm1 (by omega) (by omega) hc36 | (have := sm2 (by omega) (by omega) hc36; rw [show q.2.2.2.1 + 2 * q.2.2.2.2.2 = 0 by omega]))))
  · refine r_iload_n 26 dX1_heightAt_25 rfl rfl lo2 ?_
    refine r_bipush 28 dX1_heightAt_26 rfl bi_100 ?_
    first | refine r_idivN 29 dX1_heightAt_28 rfl (by omega) (by omega) (by omega) ?_ | refine r_idiv 29 dX1_heightAt_28 rfl (by assumption) ?_
    refine r_goto 33 dX1_heightAt_29 (by decide) ?_
    refine r_isub 34 dX1_heightAt_33 rfl ?_
    refine r_istore_n 35 dX1_heightAt_34 rfl rfl so3 rfl ?_
    refine r_iload_n 36 dX1_heightAt_35 rfl rfl lo3 ?_
    refine r_if_ge 43 39 dX1_heightAt_36 rfl (by decide) (fun hc36 => ?_) (fun hc36 => ?_)
    · refine r_iload_n 44 dX1_heightAt_43 rfl rfl lo3 ?_
      exact r_iret dX1_heightAt_44 rfl (Nat.le_refl _) (Nat.le_refl _) (rv (by unfold hgt; first | (rw [if_pos hc22]; first | exact sm1 (by omega) (by omega) hc36 | (rw [sm2 (by omega) (by omega) hc36])) | (rw [if_neg hc22]; first | exact sm1 (by omega) (by omega) hc36 | (have := sm2 (by omega) (by omega) hc36; rw [show q.2.2.2.1 + 2 * q.2.2.2.2.2 = 0 by omega]))))
    · refine r_iconst 40 dX1_heightAt_39 rfl ic_0 ?_
      refine r_goto 44 dX1_heightAt_40 (by decide) ?_
      exact r_iret dX1_heightAt_44 rfl (Nat.le_refl _) (Nat.le_refl _) (rv (by unfold hgt; first | (rw [if_pos hc22]; first | exact sm1 (by omega) (by omega) hc36 | (rw [sm2 (by omega) (by omega) hc36])) | (rw [if_neg hc22]; first | exact sm1 (by omega) (by omega) hc36 | (have := sm2 (by omega) (by omega) hc36; rw [show q.2.2.2.1 + 2 * q.2.2.2.2.2 = 0 by omega]))))

set_option maxHeartbeats 4000000 in
theorem ev_X1_isDry {w : WE} {A : Hp} {m : MT} {isl r h : Nat} {ms : List Mo} {rs : List Rd} {q : Rd} (hm : MR w A m) (hM : MoR m ms) (hR : RdR m isl rs) (hq : rs[r]? = some q) (hh : h < 100000) : EvI w mX1_isDry 2 [.ref (mb w), .int (nI r), .int (nI h)] A (bI (isD ms q h)) := by
  refine Ev.mk 0 [some (.ref (mb w)), some (.int (nI r)), some (.int (nI h))] rfl plX1 (Nat.le_of_ble_eq_true rfl) ?_
  have b1 := hM.lt h
  have b2 := hgt_le (hR.2.2 r q hq).2.2.2.2.2.2 h
  refine r_aload_n 1 dX1_isDry_0 rfl rfl lo0 ?_
  refine r_iload_n 2 dX1_isDry_1 rfl rfl lo2 ?_
  refine r_cV1 5 dX1_isDry_2 rfl sV_X1_144_1 hm.t (by rfl) (ev_X1_levelAt hm hM hh) ?_
  refine r_aload_n 6 dX1_isDry_5 rfl rfl lo0 ?_
  refine r_iload_n 7 dX1_isDry_6 rfl rfl lo1 ?_
  refine r_iload_n 8 dX1_isDry_7 rfl rfl lo2 ?_
  refine r_cV2 11 dX1_isDry_8 rfl sV_X1_156_1 hm.t (by rfl) (ev_X1_heightAt hm hR hq hh) ?_
  first | refine r_icmp_gtN 18 14 dX1_isDry_11 rfl (by decide) (by omega) (by omega) (fun hc11 => ?_) (fun hc11 => ?_) | refine r_icmp_gt 18 14 dX1_isDry_11 rfl (by decide) (fun hc11 => ?_) (fun hc11 => ?_)
  · refine r_iconst 19 dX1_isDry_18 rfl ic_0 ?_
    exact r_zret dX1_isDry_19 rfl (by first | exact nb_b _ | exact nb_0 | exact nb_1) (Nat.le_refl _) (Nat.le_refl _) (rv (by unfold isD; first | rw [bd_t _ (by omega)] | rw [bd_f _ (by omega)]))
  · refine r_iconst 15 dX1_isDry_14 rfl ic_1 ?_
    refine r_goto 19 dX1_isDry_15 (by decide) ?_
    exact r_zret dX1_isDry_19 rfl (by first | exact nb_b _ | exact nb_0 | exact nb_1) (Nat.le_refl _) (Nat.le_refl _) (rv (by unfold isD; first | rw [bd_t _ (by omega)] | rw [bd_f _ (by omega)]))

