/-! THE CLASS: its small methods -/
set_option maxRecDepth 100000
theorem sC_X0_92 : SiteC "ThirdEbb" 92 2 := ⟨RX5, TX5, 3, "ThirdEbb$Moon", rfl, q207, Or.inl rfl⟩
theorem sC_X0_147 {kd : Nat} (hk : kd ≤ 2) : SiteC "ThirdEbb" 147 (3 + kd) := by
  match kd, hk with
  | 0, _ => exact ⟨RX6, TX6, 7, "ThirdEbb$Soft", rfl, q258, Or.inl rfl⟩
  | 1, _ => exact ⟨RX7, TX7, 8, "ThirdEbb$Soft", rfl, q258, Or.inr q1497⟩
  | 2, _ => exact ⟨RX8, TX8, 9, "ThirdEbb$Soft", rfl, q258, Or.inr q1498⟩
theorem LsR.use {w : WE} {A : Hp} {a e n : Nat} {ad : Nat → Nat} (h : LsR w A a e n ad) : ∃ (c : Int32) (cap : Nat) (g : Nat → Option Nat), A.1 a = some (.inr (7, alF c e n)) ∧ A.1 e = some (eR w 5 cap g) ∧ n ≤ cap ∧ cap ≤ 10 ∧ ∀ i, i < n → g i = some (ad i) := by
  obtain ⟨c, cap, g, a1, a2, a3, a4, a5⟩ := h
  exact ⟨c, cap, g, a1, a2, a4, by rcases a3 with h | h <;> omega, a5⟩
theorem tl_c1 {t : Nat} (h : cp t = 2001) : -9 = tl t := by
  unfold cp at h
  unfold tl
  split at h
  · rename_i h2
    rw [if_pos h2]
  · omega
theorem tl_c2 {t : Nat} (h : ¬ cp t = 2001) : nI (cp t) = tl t := by
  unfold cp at h ⊢
  unfold tl
  split at h
  · omega
  · rename_i h2
    rw [if_neg h2, if_neg h2]
set_option maxHeartbeats 4000000 in
theorem ev_X0_in {w : WE} {A : Hp} {v a b : Int64} (v' a' b' : Int) (hv : v.toInt = v') (ha : a.toInt = a') (hb : b.toInt = b') : EvI w mX0_in 0 [.long v, .long a, .long b] A (bI (btw v' a' b')) := by
  refine Ev.mk 0 [some (.long v), none, some (.long a), none, some (.long b), none] rfl plX0 (Nat.le_of_ble_eq_true rfl) ?_
  subst hv
  subst ha
  subst hb
  refine r_lload_n 1 dX0_in_0 rfl rfl lo0 ?_
  refine r_lload_n 2 dX0_in_1 rfl rfl lo2 ?_
  refine r_lcmp 3 dX0_in_2 rfl ?_
  refine r_if_lt 17 6 dX0_in_3 rfl (by decide) (fun hc3 => ?_) (fun hc3 => ?_)
  · refine r_iconst 18 dX0_in_17 rfl ic_0 ?_
    exact r_zret dX0_in_18 rfl (by first | exact nb_b _ | exact nb_0 | exact nb_1) (Nat.le_refl _) (Nat.le_refl _) (rv (by first | exact bt_1 (by simp only [lg_lt, lg_gt] at *; omega) | exact bt_0 (by simp only [lg_lt, lg_gt] at *; omega)))
  · refine r_lload_n 7 dX0_in_6 rfl rfl lo0 ?_
    refine r_lload 9 dX0_in_7 rfl lo4 ?_
    refine r_lcmp 10 dX0_in_9 rfl ?_
    refine r_if_gt 17 13 dX0_in_10 rfl (by decide) (fun hc10 => ?_) (fun hc10 => ?_)
    · refine r_iconst 18 dX0_in_17 rfl ic_0 ?_
      exact r_zret dX0_in_18 rfl (by first | exact nb_b _ | exact nb_0 | exact nb_1) (Nat.le_refl _) (Nat.le_refl _) (rv (by first | exact bt_1 (by simp only [lg_lt, lg_gt] at *; omega) | exact bt_0 (by simp only [lg_lt, lg_gt] at *; omega)))
    · refine r_iconst 14 dX0_in_13 rfl ic_1 ?_
      refine r_goto 18 dX0_in_14 (by decide) ?_
      exact r_zret dX0_in_18 rfl (by first | exact nb_b _ | exact nb_0 | exact nb_1) (Nat.le_refl _) (Nat.le_refl _) (rv (by first | exact bt_1 (by simp only [lg_lt, lg_gt] at *; omega) | exact bt_0 (by simp only [lg_lt, lg_gt] at *; omega)))

set_option maxHeartbeats 4000000 in
theorem ev_X0_isHour {w : WE} {A : Hp} {v : Int32} : EvI w mX0_isHour 1 [.int v] A (bI (btw v.toInt 0 1999)) := by
  refine Ev.mk 0 [some (.int v)] rfl plX0 (Nat.le_of_ble_eq_true rfl) ?_
  refine r_iload_n 1 dX0_isHour_0 rfl rfl lo0 ?_
  refine r_i2l 2 dX0_isHour_1 rfl rfl ?_
  refine r_lconst 3 dX0_isHour_2 rfl lc_0 ?_
  refine r_ldc2 6 dX0_isHour_3 rfl q215 ?_
  refine r_cS3 9 dX0_isHour_6 rfl sS_X0_11 (by rfl) (ev_X0_in _ 0 1999 (Int32.toInt_toInt64 _) (by decide) (by decide)) ?_
  exact r_zret dX0_isHour_9 rfl (by first | exact nb_b _ | exact nb_0 | exact nb_1) (Nat.le_refl _) (Nat.le_refl _) ⟨rfl, rfl⟩

set_option maxHeartbeats 4000000 in
theorem ev_X0_noSheet {w : WE} {A : Hp} {v : Int32} : EvI w mX0_noSheet 1 [.int v] A (bI (!btw v.toInt 0 3)) := by
  refine Ev.mk 0 [some (.int v)] rfl plX0 (Nat.le_of_ble_eq_true rfl) ?_
  refine r_iload_n 1 dX0_noSheet_0 rfl rfl lo0 ?_
  refine r_i2l 2 dX0_noSheet_1 rfl rfl ?_
  refine r_lconst 3 dX0_noSheet_2 rfl lc_0 ?_
  refine r_ldc2 6 dX0_noSheet_3 rfl q639 ?_
  refine r_cS3 9 dX0_noSheet_6 rfl sS_X0_11 (by rfl) (ev_X0_in _ 0 3 (Int32.toInt_toInt64 _) (by decide) (by decide)) ?_
  refine r_if_neB 16 12 dX0_noSheet_9 rfl (by decide) (fun hc9 => ?_) (fun hc9 => ?_)
  · refine r_iconst 17 dX0_noSheet_16 rfl ic_0 ?_
    exact r_zret dX0_noSheet_17 rfl (by first | exact nb_b _ | exact nb_0 | exact nb_1) (Nat.le_refl _) (Nat.le_refl _) (rv (by rw [hc9]; rfl))
  · refine r_iconst 13 dX0_noSheet_12 rfl ic_1 ?_
    refine r_goto 17 dX0_noSheet_13 (by decide) ?_
    exact r_zret dX0_noSheet_17 rfl (by first | exact nb_b _ | exact nb_0 | exact nb_1) (Nat.le_refl _) (Nat.le_refl _) (rv (by rw [hc9]; rfl))

set_option maxHeartbeats 4000000 in
theorem ev_X0_noIsland {w : WE} {A : Hp} {x : XT} {S : ST} {v : Int32} (hx : XS w A x S) : EvI w mX0_noIsland 1 [.ref (wb w), .int v] A (bI (!isI S v)) := by
  refine Ev.mk 0 [some (.ref (wb w)), some (.int v)] rfl plX0 (Nat.le_of_ble_eq_true rfl) ?_
  have hi6 := hx.le
  refine r_iload_n 1 dX0_noIsland_0 rfl rfl lo1 ?_
  refine r_i2l 2 dX0_noIsland_1 rfl rfl ?_
  refine r_lconst 3 dX0_noIsland_2 rfl lc_0 ?_
  refine r_aload_n 4 dX0_noIsland_3 rfl rfl lo0 ?_
  refine r_getv 7 dX0_noIsland_4 rfl g_X0_61_0 hx.t lo0 hx.il ?_
  refine r_iconst 8 dX0_noIsland_7 rfl ic_1 ?_
  refine r_isub 9 dX0_noIsland_8 rfl ?_
  refine r_i2l 10 dX0_noIsland_9 rfl rfl ?_
  refine r_cS3 13 dX0_noIsland_10 rfl sS_X0_11 (by rfl) (ev_X0_in _ 0 ((S.1 : Int) - 1) (Int32.toInt_toInt64 _) (by decide) (by rw [Int32.toInt_toInt64, sub1_toInt (by omega)])) ?_
  refine r_if_neB 20 16 dX0_noIsland_13 rfl (by decide) (fun hc13 => ?_) (fun hc13 => ?_)
  · refine r_iconst 21 dX0_noIsland_20 rfl ic_0 ?_
    exact r_zret dX0_noIsland_21 rfl (by first | exact nb_b _ | exact nb_0 | exact nb_1) (Nat.le_refl _) (Nat.le_refl _) (rv (by unfold isI; rw [hc13]; rfl))
  · refine r_iconst 17 dX0_noIsland_16 rfl ic_1 ?_
    refine r_goto 21 dX0_noIsland_17 (by decide) ?_
    exact r_zret dX0_noIsland_21 rfl (by first | exact nb_b _ | exact nb_0 | exact nb_1) (Nat.le_refl _) (Nat.le_refl _) (rv (by unfold isI; rw [hc13]; rfl))

set_option maxHeartbeats 4000000 in
theorem ev_X0_noMoon {w : WE} {A : Hp} {x : XT} {S : ST} {v : Int32} (hx : XS w A x S) : EvI w mX0_noMoon 1 [.ref (wb w), .int v] A (bI (!btw v.toInt 0 ((S.2.1.length : Int) - 1))) := by
  refine Ev.mk 0 [some (.ref (wb w)), some (.int v)] rfl plX0 (Nat.le_of_ble_eq_true rfl) ?_
  obtain ⟨cm, pm, gm, m1, m2, m3, m4, m5⟩ := hx.ml.use
  have hl3 := hx.ok.2.1
  refine r_iload_n 1 dX0_noMoon_0 rfl rfl lo1 ?_
  refine r_i2l 2 dX0_noMoon_1 rfl rfl ?_
  refine r_lconst 3 dX0_noMoon_2 rfl lc_0 ?_
  refine r_aload_n 4 dX0_noMoon_3 rfl rfl lo0 ?_
  refine r_get 7 dX0_noMoon_4 rfl g_X0_24_0 hx.t lo1 ?_
  refine r_cF0 12 dX0_noMoon_7 rfl sF_X0_65_7 m1 (by rfl) (ev_J2_size m1) ?_
  refine r_iconst 13 dX0_noMoon_12 rfl ic_1 ?_
  refine r_isub 14 dX0_noMoon_13 rfl ?_
  refine r_i2l 15 dX0_noMoon_14 rfl rfl ?_
  refine r_cS3 18 dX0_noMoon_15 rfl sS_X0_11 (by rfl) (ev_X0_in _ 0 ((S.2.1.length : Int) - 1) (Int32.toInt_toInt64 _) (by decide) (by rw [Int32.toInt_toInt64, sub1_toInt (by omega)])) ?_
  refine r_if_neB 25 21 dX0_noMoon_18 rfl (by decide) (fun hc18 => ?_) (fun hc18 => ?_)
  · refine r_iconst 26 dX0_noMoon_25 rfl ic_0 ?_
    exact r_zret dX0_noMoon_26 rfl (by first | exact nb_b _ | exact nb_0 | exact nb_1) (Nat.le_refl _) (Nat.le_refl _) (rv (by rw [hc18]; rfl))
  · refine r_iconst 22 dX0_noMoon_21 rfl ic_1 ?_
    refine r_goto 26 dX0_noMoon_22 (by decide) ?_
    exact r_zret dX0_noMoon_26 rfl (by first | exact nb_b _ | exact nb_0 | exact nb_1) (Nat.le_refl _) (Nat.le_refl _) (rv (by rw [hc18]; rfl))

set_option maxHeartbeats 4000000 in
theorem ev_X0_noRoad {w : WE} {A : Hp} {x : XT} {S : ST} {v : Int32} (hx : XS w A x S) : EvI w mX0_noRoad 1 [.ref (wb w), .int v] A (bI (!btw v.toInt 0 ((S.2.2.1.length : Int) - 1))) := by
  refine Ev.mk 0 [some (.ref (wb w)), some (.int v)] rfl plX0 (Nat.le_of_ble_eq_true rfl) ?_
  obtain ⟨cr, pr, gr, r1, r2, r3, r4, r5⟩ := hx.rl.use
  have hl10 := hx.ok.2.2.2.1
  refine r_iload_n 1 dX0_noRoad_0 rfl rfl lo1 ?_
  refine r_i2l 2 dX0_noRoad_1 rfl rfl ?_
  refine r_lconst 3 dX0_noRoad_2 rfl lc_0 ?_
  refine r_aload_n 4 dX0_noRoad_3 rfl rfl lo0 ?_
  refine r_get 7 dX0_noRoad_4 rfl g_X0_28_0 hx.t lo3 ?_
  refine r_cF0 12 dX0_noRoad_7 rfl sF_X0_65_7 r1 (by rfl) (ev_J2_size r1) ?_
  refine r_iconst 13 dX0_noRoad_12 rfl ic_1 ?_
  refine r_isub 14 dX0_noRoad_13 rfl ?_
  refine r_i2l 15 dX0_noRoad_14 rfl rfl ?_
  refine r_cS3 18 dX0_noRoad_15 rfl sS_X0_11 (by rfl) (ev_X0_in _ 0 ((S.2.2.1.length : Int) - 1) (Int32.toInt_toInt64 _) (by decide) (by rw [Int32.toInt_toInt64, sub1_toInt (by omega)])) ?_
  refine r_if_neB 25 21 dX0_noRoad_18 rfl (by decide) (fun hc18 => ?_) (fun hc18 => ?_)
  · refine r_iconst 26 dX0_noRoad_25 rfl ic_0 ?_
    exact r_zret dX0_noRoad_26 rfl (by first | exact nb_b _ | exact nb_0 | exact nb_1) (Nat.le_refl _) (Nat.le_refl _) (rv (by rw [hc18]; rfl))
  · refine r_iconst 22 dX0_noRoad_21 rfl ic_1 ?_
    refine r_goto 26 dX0_noRoad_22 (by decide) ?_
    exact r_zret dX0_noRoad_26 rfl (by first | exact nb_b _ | exact nb_0 | exact nb_1) (Nat.le_refl _) (Nat.le_refl _) (rv (by rw [hc18]; rfl))

set_option maxHeartbeats 4000000 in
theorem ev_X0_told {w : WE} {A : Hp} {t : Nat} (ht : t ≤ 9999) : EvI w mX0_told 0 [.int (nI (cp t))] A (tl t) := by
  refine Ev.mk 0 [some (.int (nI (cp t)))] rfl plX0 (Nat.le_of_ble_eq_true rfl) ?_
  have hc : cp t ≤ 2001 := by unfold cp; split <;> omega
  refine r_iload_n 1 dX0_told_0 rfl rfl lo0 ?_
  refine r_sipush 4 dX0_told_1 rfl si_2001 ?_
  first | refine r_icmp_neN 12 7 dX0_told_4 rfl (by decide) (by omega) (by omega) (fun hc4 => ?_) (fun hc4 => ?_) | refine r_icmp_ne 12 7 dX0_told_4 rfl (by decide) (fun hc4 => ?_) (fun hc4 => ?_)
  · refine r_iload_n 13 dX0_told_12 rfl rfl lo0 ?_
    exact r_iret dX0_told_13 rfl (Nat.le_refl _) (Nat.le_refl _) (rv (by first | exact tl_c1 hc4 | exact tl_c2 hc4))
  · refine r_bipush 9 dX0_told_7 rfl bi_m9 ?_
    refine r_goto 13 dX0_told_9 (by decide) ?_
    exact r_iret dX0_told_13 rfl (Nat.le_refl _) (Nat.le_refl _) (rv (by first | exact tl_c1 hc4 | exact tl_c2 hc4))

set_option maxHeartbeats 4000000 in
theorem ev_X0_ofMoon {w : WE} {A : Hp} {x : XT} {S : ST} {v : Int32} (hx : XS w A x S) {what : Int32} : EvI w mX0_ofMoon 3 [.ref (wb w), .int v, .int what] A (sp_ofMoon S v what) := by
  refine Ev.mk 1 [some (.ref (wb w)), some (.int v), some (.int what), none] rfl plX0 (Nat.le_of_ble_eq_true rfl) ?_
  obtain ⟨cm, pm, gm, m1, m2, m3, m4, m5⟩ := hx.ml.use
  have hl3 := hx.ok.2.1
  refine r_aload_n 1 dX0_ofMoon_0 rfl rfl lo0 ?_
  refine r_iload_n 2 dX0_ofMoon_1 rfl rfl lo1 ?_
  refine r_cV1 5 dX0_ofMoon_2 rfl sV_X0_108_0 hx.t (by rfl) (ev_X0_noMoon hx) ?_
  refine r_if_eqB 10 8 dX0_ofMoon_5 rfl (by decide) (fun hc5 => ?_) (fun hc5 => ?_)
  · obtain ⟨j, q, hj, rfl, hq, hix⟩ := ix_ok (l := S.2.1) (x := v) (by have := btw_t.mp (by simpa using hc5); omega)
    have hmo := hx.mo j q hq
    have hmk := hx.mok hq
    refine r_aload_n 11 dX0_ofMoon_10 rfl rfl lo0 ?_
    refine r_get 14 dX0_ofMoon_11 rfl g_X0_24_0 hx.t lo1 ?_
    refine r_iload_n 15 dX0_ofMoon_14 rfl rfl lo1 ?_
    refine r_cF1 20 dX0_ofMoon_15 rfl sF_X0_112_7 m1 (by rfl) (ev_J2_get m1 m2 hj m3 (by omega) (m5 j hj)) ?_
    refine r_castY 23 dX0_ofMoon_20 rfl sC_X0_92 hmo.2 ?_
    refine r_astore_n 24 dX0_ofMoon_23 rfl rfl so3 rfl ?_
    refine r_iload_n 25 dX0_ofMoon_24 rfl rfl lo2 ?_
    refine r_if_ne 35 28 dX0_ofMoon_25 rfl (by decide) (fun hc25 => ?_) (fun hc25 => ?_)
    · refine r_iload_n 36 dX0_ofMoon_35 rfl rfl lo2 ?_
      refine r_iconst 37 dX0_ofMoon_36 rfl ic_1 ?_
      refine r_icmp_ne 47 40 dX0_ofMoon_37 rfl (by decide) (fun hc37 => ?_) (fun hc37 => ?_)
      · refine r_iload_n 48 dX0_ofMoon_47 rfl rfl lo2 ?_
        refine r_iconst 49 dX0_ofMoon_48 rfl ic_2 ?_
        refine r_icmp_ne 59 52 dX0_ofMoon_49 rfl (by decide) (fun hc49 => ?_) (fun hc49 => ?_)
        · refine r_bipush 61 dX0_ofMoon_59 rfl bi_m2 ?_
          exact r_iret dX0_ofMoon_61 rfl (Nat.le_refl _) (Nat.le_refl _) (rv (by unfold sp_ofMoon; rw [hix]; dsimp only; first | rw [if_pos hc25] | rw [if_neg hc25, if_pos hc37] | rw [if_neg hc25, if_neg hc37, if_pos hc49] | rw [if_neg hc25, if_neg hc37, if_neg hc49]))
        · refine r_aload_n 53 dX0_ofMoon_52 rfl rfl lo3 ?_
          refine r_getN 56 dX0_ofMoon_53 rfl gN_X0_122_2 hmo.2 lo2 ?_
          refine r_goto 61 dX0_ofMoon_56 (by decide) ?_
          exact r_iret dX0_ofMoon_61 rfl (Nat.le_refl _) (Nat.le_refl _) (rv (by unfold sp_ofMoon; rw [hix]; dsimp only; first | rw [if_pos hc25] | rw [if_neg hc25, if_pos hc37] | rw [if_neg hc25, if_neg hc37, if_pos hc49] | rw [if_neg hc25, if_neg hc37, if_neg hc49]))
      · refine r_aload_n 41 dX0_ofMoon_40 rfl rfl lo3 ?_
        refine r_getN 44 dX0_ofMoon_41 rfl gN_X0_119_2 hmo.2 lo1 ?_
        refine r_goto 61 dX0_ofMoon_44 (by decide) ?_
        exact r_iret dX0_ofMoon_61 rfl (Nat.le_refl _) (Nat.le_refl _) (rv (by unfold sp_ofMoon; rw [hix]; dsimp only; first | rw [if_pos hc25] | rw [if_neg hc25, if_pos hc37] | rw [if_neg hc25, if_neg hc37, if_pos hc49] | rw [if_neg hc25, if_neg hc37, if_neg hc49]))
    · refine r_aload_n 29 dX0_ofMoon_28 rfl rfl lo3 ?_
      refine r_getN 32 dX0_ofMoon_29 rfl gN_X0_116_2 hmo.2 lo0 ?_
      refine r_goto 61 dX0_ofMoon_32 (by decide) ?_
      exact r_iret dX0_ofMoon_61 rfl (Nat.le_refl _) (Nat.le_refl _) (rv (by unfold sp_ofMoon; rw [hix]; dsimp only; first | rw [if_pos hc25] | rw [if_neg hc25, if_pos hc37] | rw [if_neg hc25, if_neg hc37, if_pos hc49] | rw [if_neg hc25, if_neg hc37, if_neg hc49]))
  · refine r_iconst 9 dX0_ofMoon_8 rfl ic_m1 ?_
    exact r_iret dX0_ofMoon_9 rfl (Nat.le_refl _) (Nat.le_refl _) (rv (by unfold sp_ofMoon; rw [ix_no (by exact btw_f.mp (by simpa using hc5))]))

set_option maxHeartbeats 4000000 in
theorem ev_X0_phase {w : WE} {A : Hp} {x : XT} {S : ST} {v : Int32} (hx : XS w A x S) {hour : Int32} : EvI w mX0_phase 3 [.ref (wb w), .int v, .int hour] A (sp_phase S v hour) := by
  refine Ev.mk 0 [some (.ref (wb w)), some (.int v), some (.int hour)] rfl plX0 (Nat.le_of_ble_eq_true rfl) ?_
  obtain ⟨cm, pm, gm, m1, m2, m3, m4, m5⟩ := hx.ml.use
  have hl3 := hx.ok.2.1
  refine r_aload_n 1 dX0_phase_0 rfl rfl lo0 ?_
  refine r_iload_n 2 dX0_phase_1 rfl rfl lo1 ?_
  refine r_cV1 5 dX0_phase_2 rfl sV_X0_108_0 hx.t (by rfl) (ev_X0_noMoon hx) ?_
  refine r_if_eqB 10 8 dX0_phase_5 rfl (by decide) (fun hc5 => ?_) (fun hc5 => ?_)
  · obtain ⟨j, q, hj, rfl, hq, hix⟩ := ix_ok (l := S.2.1) (x := v) (by have := btw_t.mp (by simpa using hc5); omega)
    have hmo := hx.mo j q hq
    have hmk := hx.mok hq
    refine r_iload_n 11 dX0_phase_10 rfl rfl lo2 ?_
    refine r_cS1 14 dX0_phase_11 rfl sS_X0_125 (by rfl) ev_X0_isHour ?_
    refine r_if_eqB 37 17 dX0_phase_14 rfl (by decide) (fun hc14 => ?_) (fun hc14 => ?_)
    · refine r_bipush 39 dX0_phase_37 rfl bi_m2 ?_
      exact r_iret dX0_phase_39 rfl (Nat.le_refl _) (Nat.le_refl _) (rv (by unfold sp_phase; rw [hix]; first | simp [hc14, nI_nat (show h < 2 ^ 31 by omega)] | simp [hc14]))
    · obtain ⟨h, hh, rfl⟩ := hr_ok hc14
      refine r_aload_n 18 dX0_phase_17 rfl rfl lo0 ?_
      refine r_get 21 dX0_phase_18 rfl g_X0_24_0 hx.t lo1 ?_
      refine r_iload_n 22 dX0_phase_21 rfl rfl lo1 ?_
      refine r_cF1 27 dX0_phase_22 rfl sF_X0_112_7 m1 (by rfl) (ev_J2_get m1 m2 hj m3 (by omega) (m5 j hj)) ?_
      refine r_castY 30 dX0_phase_27 rfl sC_X0_92 hmo.2 ?_
      refine r_iload_n 31 dX0_phase_30 rfl rfl lo2 ?_
      refine r_cV1 34 dX0_phase_31 rfl sV_X0_128_2 hmo.2 (by rfl) (ev_X5_phase hmo.2 hmk (by omega)) ?_
      refine r_goto 39 dX0_phase_34 (by decide) ?_
      exact r_iret dX0_phase_39 rfl (Nat.le_refl _) (Nat.le_refl _) (rv (by unfold sp_phase; rw [hix]; first | simp [hc14, nI_nat (show h < 2 ^ 31 by omega)] | simp [hc14]))
  · refine r_iconst 9 dX0_phase_8 rfl ic_m1 ?_
    exact r_iret dX0_phase_9 rfl (Nat.le_refl _) (Nat.le_refl _) (rv (by unfold sp_phase; rw [ix_no (by exact btw_f.mp (by simpa using hc5))]))

set_option maxHeartbeats 4000000 in
theorem lp_X0_levelIn {w : WE} {A : Hp} {x : XT} {S : ST} {h : Nat} (hx : XS w A x S) (hh : h ≤ 60000) : ∀ (j i s : Nat), i + j = S.2.1.length → s = lvl (S.2.1.take i) h → Rn w mX0_levelIn (rmX 3 0 0) (ZX w (QV (.int (nI (lvl S.2.1 h))) A) 0 0) 0 0 A 4 [some (.ref (wb w)), some (.int (nI h)), some (.int (nI s)), some (.int (nI i))] [] := by
  obtain ⟨cm, pm, gm, m1, m2, m3, m4, m5⟩ := hx.ml.use
  have hl3 := hx.ok.2.1
  intro j
  induction j with
  | zero =>
    intro i s hij hs
    refine r_iload_n 5 dX0_levelIn_4 rfl rfl lo3 ?_
    refine r_aload_n 6 dX0_levelIn_5 rfl rfl lo0 ?_
    refine r_get 9 dX0_levelIn_6 rfl g_X0_24_0 hx.t lo1 ?_
    refine r_cF0 14 dX0_levelIn_9 rfl sF_X0_65_7 m1 (by rfl) (ev_J2_size m1) ?_
    first | refine r_icmp_geN 43 17 dX0_levelIn_14 rfl (by decide) (by omega) (by omega) (fun hc14 => ?_) (fun hc14 => ?_) | refine r_icmp_ge 43 17 dX0_levelIn_14 rfl (by decide) (fun hc14 => ?_) (fun hc14 => ?_)
    · refine r_iload_n 44 dX0_levelIn_43 rfl rfl lo2 ?_
      exact r_iret dX0_levelIn_44 rfl (Nat.le_refl _) (Nat.le_refl _) (rv (by rw [hs, lvl_all (by omega)]))
    · exact absurd hc14 (by omega)
  | succ j ih =>
    intro i s hij hs
    obtain ⟨q, hq⟩ := get_of_lt (l := S.2.1) (i := i) (by omega)
    have hmo := hx.mo i q hq
    have hmk := hx.mok hq
    refine r_iload_n 5 dX0_levelIn_4 rfl rfl lo3 ?_
    refine r_aload_n 6 dX0_levelIn_5 rfl rfl lo0 ?_
    refine r_get 9 dX0_levelIn_6 rfl g_X0_24_0 hx.t lo1 ?_
    refine r_cF0 14 dX0_levelIn_9 rfl sF_X0_65_7 m1 (by rfl) (ev_J2_size m1) ?_
    first | refine r_icmp_geN 43 17 dX0_levelIn_14 rfl (by decide) (by omega) (by omega) (fun hc14 => ?_) (fun hc14 => ?_) | refine r_icmp_ge 43 17 dX0_levelIn_14 rfl (by decide) (fun hc14 => ?_) (fun hc14 => ?_)
    · exact absurd hc14 (by omega)
    · refine r_iload_n 18 dX0_levelIn_17 rfl rfl lo2 ?_
      refine r_aload_n 19 dX0_levelIn_18 rfl rfl lo0 ?_
      refine r_get 22 dX0_levelIn_19 rfl g_X0_24_0 hx.t lo1 ?_
      refine r_iload_n 23 dX0_levelIn_22 rfl rfl lo3 ?_
      refine r_cF1 28 dX0_levelIn_23 rfl sF_X0_112_7 m1 (by rfl) (ev_J2_get m1 m2 (show i < S.2.1.length by omega) m3 (by omega) (m5 i (by omega))) ?_
      refine r_castY 31 dX0_levelIn_28 rfl sC_X0_92 hmo.2 ?_
      refine r_iload_n 32 dX0_levelIn_31 rfl rfl lo1 ?_
      refine r_cV1 35 dX0_levelIn_32 rfl sV_X0_132_2 hmo.2 (by rfl) (ev_X5_draws hmo.2 hmk (by omega)) ?_
      first | refine r_iaddN 36 dX0_levelIn_35 rfl ?_ | refine r_iadd 36 dX0_levelIn_35 rfl ?_
      refine r_istore_n 37 dX0_levelIn_36 rfl rfl so2 rfl ?_
      refine r_iinc 40 dX0_levelIn_37 rfl lo3 inc1 so3 rfl ?_
      refine r_goto 4 dX0_levelIn_40 (by decide) ?_
      exact ih (i + 1) _ (by omega) (by rw [lvl_take hq, hs])

set_option maxHeartbeats 4000000 in
theorem ev_X0_levelIn {w : WE} {A : Hp} {x : XT} {S : ST} {h : Nat} (hx : XS w A x S) (hh : h ≤ 60000) : EvI w mX0_levelIn 3 [.ref (wb w), .int (nI h)] A (nI (lvl S.2.1 h)) := by
  refine Ev.mk 2 [some (.ref (wb w)), some (.int (nI h)), none, none] rfl plX0 (Nat.le_of_ble_eq_true rfl) ?_
  refine r_iconst 1 dX0_levelIn_0 rfl ic_0 ?_
  refine r_istore_n 2 dX0_levelIn_1 rfl rfl so2 rfl ?_
  refine r_iconst 3 dX0_levelIn_2 rfl ic_0 ?_
  refine r_istore_n 4 dX0_levelIn_3 rfl rfl so3 rfl ?_
  exact lp_X0_levelIn hx hh S.2.1.length 0 0 (by omega) rfl

set_option maxHeartbeats 4000000 in
theorem ev_X0_level {w : WE} {A : Hp} {x : XT} {S : ST} {v : Int32} (hx : XS w A x S) : EvI w mX0_level 4 [.ref (wb w), .int v] A (sp_level S v) := by
  refine Ev.mk 0 [some (.ref (wb w)), some (.int v)] rfl plX0 (Nat.le_of_ble_eq_true rfl) ?_
  have hi6 := hx.le
  refine r_iload_n 1 dX0_level_0 rfl rfl lo1 ?_
  refine r_cS1 4 dX0_level_1 rfl sS_X0_125 (by rfl) ev_X0_isHour ?_
  refine r_if_neB 10 7 dX0_level_4 rfl (by decide) (fun hc4 => ?_) (fun hc4 => ?_)
  · obtain ⟨h, hh, rfl⟩ := hr_ok hc4
    refine r_aload_n 11 dX0_level_10 rfl rfl lo0 ?_
    refine r_getv 14 dX0_level_11 rfl g_X0_61_0 hx.t lo0 hx.il ?_
    first | refine r_if_neN 22 17 dX0_level_14 rfl (by decide) (by omega) (fun hc14 => ?_) (fun hc14 => ?_) | refine r_if_ne 22 17 dX0_level_14 rfl (by decide) (fun hc14 => ?_) (fun hc14 => ?_)
    · refine r_aload_n 23 dX0_level_22 rfl rfl lo0 ?_
      refine r_iload_n 24 dX0_level_23 rfl rfl lo1 ?_
      refine r_cV1 27 dX0_level_24 rfl sV_X0_135_0 hx.t (by rfl) (ev_X0_levelIn hx (by omega)) ?_
      exact r_iret dX0_level_27 rfl (Nat.le_refl _) (Nat.le_refl _) (rv (by unfold sp_level; rw [if_pos hc4]; first | rw [if_pos hc14] | rw [if_neg hc14, nI_nat (by omega)]))
    · refine r_bipush 19 dX0_level_17 rfl bi_m3 ?_
      refine r_goto 27 dX0_level_19 (by decide) ?_
      exact r_iret dX0_level_27 rfl (Nat.le_refl _) (Nat.le_refl _) (rv (by unfold sp_level; rw [if_pos hc4]; first | rw [if_pos hc14] | rw [if_neg hc14, nI_nat (by omega)]))
  · refine r_bipush 9 dX0_level_7 rfl bi_m2 ?_
    exact r_iret dX0_level_9 rfl (Nat.le_refl _) (Nat.le_refl _) (rv (by unfold sp_level; simp [hc4]))

set_option maxHeartbeats 4000000 in
theorem ev_X0_many {w : WE} {A : Hp} {x : XT} {S : ST} {v : Int32} (hx : XS w A x S) : EvI w mX0_many 1 [.ref (wb w), .int v] A (sp_many S v) := by
  refine Ev.mk 0 [some (.ref (wb w)), some (.int v)] rfl plX0 (Nat.le_of_ble_eq_true rfl) ?_
  obtain ⟨cm, pm, gm, m1, m2, m3, m4, m5⟩ := hx.ml.use
  have hl3 := hx.ok.2.1
  obtain ⟨cr, pr, gr, r1, r2, r3, r4, r5⟩ := hx.rl.use
  have hl10 := hx.ok.2.2.2.1
  refine r_iload_n 1 dX0_many_0 rfl rfl lo1 ?_
  refine r_if_ne 11 4 dX0_many_1 rfl (by decide) (fun hc1 => ?_) (fun hc1 => ?_)
  · refine r_iload_n 12 dX0_many_11 rfl rfl lo1 ?_
    refine r_iconst 13 dX0_many_12 rfl ic_1 ?_
    refine r_icmp_ne 28 16 dX0_many_13 rfl (by decide) (fun hc13 => ?_) (fun hc13 => ?_)
    · refine r_iload_n 29 dX0_many_28 rfl rfl lo1 ?_
      refine r_iconst 30 dX0_many_29 rfl ic_2 ?_
      refine r_icmp_ne 45 33 dX0_many_30 rfl (by decide) (fun hc30 => ?_) (fun hc30 => ?_)
      · refine r_bipush 47 dX0_many_45 rfl bi_m2 ?_
        exact r_iret dX0_many_47 rfl (Nat.le_refl _) (Nat.le_refl _) (rv (by unfold sp_many; first | rw [if_pos hc1] | rw [if_neg hc1, if_pos hc13] | rw [if_neg hc1, if_neg hc13, if_pos hc30] | rw [if_neg hc1, if_neg hc13, if_neg hc30]))
      · refine r_aload_n 34 dX0_many_33 rfl rfl lo0 ?_
        refine r_get 37 dX0_many_34 rfl g_X0_28_0 hx.t lo3 ?_
        refine r_cF0 42 dX0_many_37 rfl sF_X0_65_7 r1 (by rfl) (ev_J2_size r1) ?_
        refine r_goto 47 dX0_many_42 (by decide) ?_
        exact r_iret dX0_many_47 rfl (Nat.le_refl _) (Nat.le_refl _) (rv (by unfold sp_many; first | rw [if_pos hc1] | rw [if_neg hc1, if_pos hc13] | rw [if_neg hc1, if_neg hc13, if_pos hc30] | rw [if_neg hc1, if_neg hc13, if_neg hc30]))
    · refine r_aload_n 17 dX0_many_16 rfl rfl lo0 ?_
      refine r_get 20 dX0_many_17 rfl g_X0_24_0 hx.t lo1 ?_
      refine r_cF0 25 dX0_many_20 rfl sF_X0_65_7 m1 (by rfl) (ev_J2_size m1) ?_
      refine r_goto 47 dX0_many_25 (by decide) ?_
      exact r_iret dX0_many_47 rfl (Nat.le_refl _) (Nat.le_refl _) (rv (by unfold sp_many; first | rw [if_pos hc1] | rw [if_neg hc1, if_pos hc13] | rw [if_neg hc1, if_neg hc13, if_pos hc30] | rw [if_neg hc1, if_neg hc13, if_neg hc30]))
  · refine r_aload_n 5 dX0_many_4 rfl rfl lo0 ?_
    refine r_getv 8 dX0_many_5 rfl g_X0_61_0 hx.t lo0 hx.il ?_
    refine r_goto 47 dX0_many_8 (by decide) ?_
    exact r_iret dX0_many_47 rfl (Nat.le_refl _) (Nat.le_refl _) (rv (by unfold sp_many; first | rw [if_pos hc1] | rw [if_neg hc1, if_pos hc13] | rw [if_neg hc1, if_neg hc13, if_pos hc30] | rw [if_neg hc1, if_neg hc13, if_neg hc30]))

set_option maxHeartbeats 4000000 in
theorem ev_X0_trace {w : WE} {A : Hp} {x : XT} {S : ST} (hx : XS w A x S) : EvI w mX0_trace 1 [.ref (wb w)] A S.2.2.2.1 := by
  refine Ev.mk 0 [some (.ref (wb w))] rfl plX0 (Nat.le_of_ble_eq_true rfl) ?_
  refine r_aload_n 1 dX0_trace_0 rfl rfl lo0 ?_
  refine r_getv 4 dX0_trace_1 rfl g_X0_351_0 hx.t lo2 hx.tr ?_
  exact r_iret dX0_trace_4 rfl (Nat.le_refl _) (Nat.le_refl _) ⟨rfl, rfl⟩

set_option maxHeartbeats 4000000 in
theorem ev_X0_fault {w : WE} {A : Hp} {x : XT} {S : ST} (hx : XS w A x S) : EvI w mX0_fault 1 [.ref (wb w)] A S.2.2.2.2.1 := by
  refine Ev.mk 0 [some (.ref (wb w))] rfl plX0 (Nat.le_of_ble_eq_true rfl) ?_
  refine r_aload_n 1 dX0_fault_0 rfl rfl lo0 ?_
  refine r_getv 4 dX0_fault_1 rfl g_X0_242_0 hx.t lo12 hx.fa ?_
  exact r_iret dX0_fault_4 rfl (Nat.le_refl _) (Nat.le_refl _) ⟨rfl, rfl⟩

set_option maxHeartbeats 4000000 in
theorem ev_X0_ofRoad {w : WE} {A : Hp} {x : XT} {S : ST} {v : Int32} (hx : XS w A x S) {what : Int32} : EvI w mX0_ofRoad 3 [.ref (wb w), .int v, .int what] A (sp_ofRoad S v what) := by
  refine Ev.mk 0 [some (.ref (wb w)), some (.int v), some (.int what)] rfl plX0 (Nat.le_of_ble_eq_true rfl) ?_
  obtain ⟨cr, pr, gr, r1, r2, r3, r4, r5⟩ := hx.rl.use
  have hl10 := hx.ok.2.2.2.1
  refine r_aload_n 1 dX0_ofRoad_0 rfl rfl lo0 ?_
  refine r_iload_n 2 dX0_ofRoad_1 rfl rfl lo1 ?_
  refine r_cV1 5 dX0_ofRoad_2 rfl sV_X0_158_0 hx.t (by rfl) (ev_X0_noRoad hx) ?_
  refine r_if_eqB 12 8 dX0_ofRoad_5 rfl (by decide) (fun hc5 => ?_) (fun hc5 => ?_)
  · obtain ⟨j, q, hj, rfl, hq, hix⟩ := ix_ok (l := S.2.2.1) (x := v) (by have := btw_t.mp (by simpa using hc5); omega)
    have hrd := hx.rd j q hq
    have hrk := hx.rok hq
    have hk := hrk.1
    have h0 : (q.1 = 0 → q.2.2.2.2.2 = 0) ∧ RdOk S.1 q := ⟨(hx.ok.1.2 q (List.mem_of_getElem? hq)).2, hrk⟩
    refine r_aload_n 13 dX0_ofRoad_12 rfl rfl lo0 ?_
    refine r_get 16 dX0_ofRoad_13 rfl g_X0_28_0 hx.t lo3 ?_
    refine r_iload_n 17 dX0_ofRoad_16 rfl rfl lo1 ?_
    refine r_cF1 22 dX0_ofRoad_17 rfl sF_X0_112_7 r1 (by rfl) (ev_J2_get r1 r2 hj r3 (by omega) (r5 j hj)) ?_
    refine r_castY 25 dX0_ofRoad_22 rfl (sC_X0_147 hk) hrd.2 ?_
    refine r_iload_n 26 dX0_ofRoad_25 rfl rfl lo2 ?_
    refine rR1 29 dX0_ofRoad_26 rfl sV_X0_161_3 sU_X0_161_4 sU_X0_161_5 hrd.2 hk (by rfl) (by rfl) (by rfl) (fun _ => ev_X6_asked hrd.2 hk) (fun _ => ev_X6_asked hrd.2 hk) (fun _ => ev_X6_asked hrd.2 hk) ?_
    exact r_iret dX0_ofRoad_29 rfl (Nat.le_refl _) (Nat.le_refl _) (rv (by first | (unfold sp_ofRoad; rw [hix]) | (unfold sp_ofRoad; rw [ix_no (by exact btw_f.mp (by simpa using hc5))])))
  · refine r_iconst 9 dX0_ofRoad_8 rfl ic_m1 ?_
    refine r_goto 29 dX0_ofRoad_9 (by decide) ?_
    exact r_iret dX0_ofRoad_29 rfl (Nat.le_refl _) (Nat.le_refl _) (rv (by first | (unfold sp_ofRoad; rw [hix]) | (unfold sp_ofRoad; rw [ix_no (by exact btw_f.mp (by simpa using hc5))])))

set_option maxHeartbeats 4000000 in
theorem ev_X0_height {w : WE} {A : Hp} {x : XT} {S : ST} {v : Int32} (hx : XS w A x S) {hour : Int32} : EvI w mX0_height 3 [.ref (wb w), .int v, .int hour] A (sp_height S v hour) := by
  refine Ev.mk 0 [some (.ref (wb w)), some (.int v), some (.int hour)] rfl plX0 (Nat.le_of_ble_eq_true rfl) ?_
  obtain ⟨cr, pr, gr, r1, r2, r3, r4, r5⟩ := hx.rl.use
  have hl10 := hx.ok.2.2.2.1
  refine r_aload_n 1 dX0_height_0 rfl rfl lo0 ?_
  refine r_iload_n 2 dX0_height_1 rfl rfl lo1 ?_
  refine r_cV1 5 dX0_height_2 rfl sV_X0_158_0 hx.t (by rfl) (ev_X0_noRoad hx) ?_
  refine r_if_eqB 10 8 dX0_height_5 rfl (by decide) (fun hc5 => ?_) (fun hc5 => ?_)
  · obtain ⟨j, q, hj, rfl, hq, hix⟩ := ix_ok (l := S.2.2.1) (x := v) (by have := btw_t.mp (by simpa using hc5); omega)
    have hrd := hx.rd j q hq
    have hrk := hx.rok hq
    have hk := hrk.1
    have h0 : (q.1 = 0 → q.2.2.2.2.2 = 0) ∧ RdOk S.1 q := ⟨(hx.ok.1.2 q (List.mem_of_getElem? hq)).2, hrk⟩
    refine r_iload_n 11 dX0_height_10 rfl rfl lo2 ?_
    refine r_cS1 14 dX0_height_11 rfl sS_X0_125 (by rfl) ev_X0_isHour ?_
    refine r_if_eqB 37 17 dX0_height_14 rfl (by decide) (fun hc14 => ?_) (fun hc14 => ?_)
    · refine r_bipush 39 dX0_height_37 rfl bi_m2 ?_
      exact r_iret dX0_height_39 rfl (Nat.le_refl _) (Nat.le_refl _) (rv (by unfold sp_height; rw [hix]; first | simp [hc14, nI_nat (show h < 2 ^ 31 by omega)] | simp [hc14]))
    · obtain ⟨h, hh, rfl⟩ := hr_ok hc14
      refine r_aload_n 18 dX0_height_17 rfl rfl lo0 ?_
      refine r_get 21 dX0_height_18 rfl g_X0_28_0 hx.t lo3 ?_
      refine r_iload_n 22 dX0_height_21 rfl rfl lo1 ?_
      refine r_cF1 27 dX0_height_22 rfl sF_X0_112_7 r1 (by rfl) (ev_J2_get r1 r2 hj r3 (by omega) (r5 j hj)) ?_
      refine r_castY 30 dX0_height_27 rfl (sC_X0_147 hk) hrd.2 ?_
      refine r_iload_n 31 dX0_height_30 rfl rfl lo2 ?_
      refine rR1 34 dX0_height_31 rfl sV_X0_170_3 sU_X0_170_4 sU_X0_170_5 hrd.2 hk (by rfl) (by rfl) (by rfl) (ev_R_h0 hrd.2 h0 (by omega)) (ev_R_h1 hrd.2 (by omega)) (ev_R_h2 hrd.2 h0 (by omega)) ?_
      refine r_goto 39 dX0_height_34 (by decide) ?_
      exact r_iret dX0_height_39 rfl (Nat.le_refl _) (Nat.le_refl _) (rv (by unfold sp_height; rw [hix]; first | simp [hc14, nI_nat (show h < 2 ^ 31 by omega)] | simp [hc14]))
  · refine r_iconst 9 dX0_height_8 rfl ic_m1 ?_
    exact r_iret dX0_height_9 rfl (Nat.le_refl _) (Nat.le_refl _) (rv (by unfold sp_height; rw [ix_no (by exact btw_f.mp (by simpa using hc5))]))

set_option maxHeartbeats 4000000 in
theorem ev_X0_isDry {w : WE} {A : Hp} {x : XT} {S : ST} {j h : Nat} {q : Rd} (hx : XS w A x S) (hq : S.2.2.1[j]? = some q) (hh : h ≤ 60000) : EvI w mX0_isDry 4 [.ref (wb w), .ref (x.2.2.2.2.1 j), .int (nI h)] A (bI (isD S.2.1 q h)) := by
  refine Ev.mk 0 [some (.ref (wb w)), some (.ref (x.2.2.2.2.1 j)), some (.int (nI h))] rfl plX0 (Nat.le_of_ble_eq_true rfl) ?_
  have hrd := hx.rd j q hq
  have hrk := hx.rok hq
  have hk := hrk.1
  have h0 : (q.1 = 0 → q.2.2.2.2.2 = 0) ∧ RdOk S.1 q := ⟨(hx.ok.1.2 q (List.mem_of_getElem? hq)).2, hrk⟩
  have hl := hx.lvl h
  have hg := hgt_le hrk h
  refine r_aload_n 1 dX0_isDry_0 rfl rfl lo0 ?_
  refine r_iload_n 2 dX0_isDry_1 rfl rfl lo2 ?_
  refine r_cV1 5 dX0_isDry_2 rfl sV_X0_135_0 hx.t (by rfl) (ev_X0_levelIn hx hh) ?_
  refine r_aload_n 6 dX0_isDry_5 rfl rfl lo1 ?_
  refine r_iload_n 7 dX0_isDry_6 rfl rfl lo2 ?_
  refine rR1 10 dX0_isDry_7 rfl sV_X0_170_3 sU_X0_170_4 sU_X0_170_5 hrd.2 hk (by rfl) (by rfl) (by rfl) (ev_R_h0 hrd.2 h0 (by omega)) (ev_R_h1 hrd.2 (by omega)) (ev_R_h2 hrd.2 h0 (by omega)) ?_
  first | refine r_icmp_gtN 17 13 dX0_isDry_10 rfl (by decide) (by omega) (by omega) (fun hc10 => ?_) (fun hc10 => ?_) | refine r_icmp_gt 17 13 dX0_isDry_10 rfl (by decide) (fun hc10 => ?_) (fun hc10 => ?_)
  · refine r_iconst 18 dX0_isDry_17 rfl ic_0 ?_
    exact r_zret dX0_isDry_18 rfl (by first | exact nb_b _ | exact nb_0 | exact nb_1) (Nat.le_refl _) (Nat.le_refl _) (rv (by unfold isD; first | exact (bd_t _ hc10).symm | exact (bd_f _ (by omega)).symm))
  · refine r_iconst 14 dX0_isDry_13 rfl ic_1 ?_
    refine r_goto 18 dX0_isDry_14 (by decide) ?_
    exact r_zret dX0_isDry_18 rfl (by first | exact nb_b _ | exact nb_0 | exact nb_1) (Nat.le_refl _) (Nat.le_refl _) (rv (by unfold isD; first | exact (bd_t _ hc10).symm | exact (bd_f _ (by omega)).symm))

set_option maxHeartbeats 4000000 in
theorem ev_X0_dry {w : WE} {A : Hp} {x : XT} {S : ST} {v : Int32} (hx : XS w A x S) {hour : Int32} : EvI w mX0_dry 5 [.ref (wb w), .int v, .int hour] A (sp_dry S v hour) := by
  refine Ev.mk 0 [some (.ref (wb w)), some (.int v), some (.int hour)] rfl plX0 (Nat.le_of_ble_eq_true rfl) ?_
  obtain ⟨cr, pr, gr, r1, r2, r3, r4, r5⟩ := hx.rl.use
  have hl10 := hx.ok.2.2.2.1
  refine r_aload_n 1 dX0_dry_0 rfl rfl lo0 ?_
  refine r_iload_n 2 dX0_dry_1 rfl rfl lo1 ?_
  refine r_cV1 5 dX0_dry_2 rfl sV_X0_158_0 hx.t (by rfl) (ev_X0_noRoad hx) ?_
  refine r_if_eqB 10 8 dX0_dry_5 rfl (by decide) (fun hc5 => ?_) (fun hc5 => ?_)
  · obtain ⟨j, q, hj, rfl, hq, hix⟩ := ix_ok (l := S.2.2.1) (x := v) (by have := btw_t.mp (by simpa using hc5); omega)
    have hrd := hx.rd j q hq
    have hrk := hx.rok hq
    have hk := hrk.1
    have h0 : (q.1 = 0 → q.2.2.2.2.2 = 0) ∧ RdOk S.1 q := ⟨(hx.ok.1.2 q (List.mem_of_getElem? hq)).2, hrk⟩
    refine r_iload_n 11 dX0_dry_10 rfl rfl lo2 ?_
    refine r_cS1 14 dX0_dry_11 rfl sS_X0_125 (by rfl) ev_X0_isHour ?_
    refine r_if_eqB 46 17 dX0_dry_14 rfl (by decide) (fun hc14 => ?_) (fun hc14 => ?_)
    · refine r_bipush 48 dX0_dry_46 rfl bi_m2 ?_
      exact r_iret dX0_dry_48 rfl (Nat.le_refl _) (Nat.le_refl _) (rv (by unfold sp_dry; rw [hix]; first | (simp [hc14, nI_nat (show h < 2 ^ 31 by omega)]; first | rw [bI_t hc35] | rw [bI_f hc35]) | simp [hc14]))
    · obtain ⟨h, hh, rfl⟩ := hr_ok hc14
      refine r_aload_n 18 dX0_dry_17 rfl rfl lo0 ?_
      refine r_aload_n 19 dX0_dry_18 rfl rfl lo0 ?_
      refine r_get 22 dX0_dry_19 rfl g_X0_28_0 hx.t lo3 ?_
      refine r_iload_n 23 dX0_dry_22 rfl rfl lo1 ?_
      refine r_cF1 28 dX0_dry_23 rfl sF_X0_112_7 r1 (by rfl) (ev_J2_get r1 r2 hj r3 (by omega) (r5 j hj)) ?_
      refine r_castY 31 dX0_dry_28 rfl (sC_X0_147 hk) hrd.2 ?_
      refine r_iload_n 32 dX0_dry_31 rfl rfl lo2 ?_
      refine r_cV2 35 dX0_dry_32 rfl sV_X0_173_0 hx.t (by rfl) (ev_X0_isDry hx hq (by omega)) ?_
      refine r_if_eqB 42 38 dX0_dry_35 rfl (by decide) (fun hc35 => ?_) (fun hc35 => ?_)
      · refine r_iconst 43 dX0_dry_42 rfl ic_0 ?_
        refine r_goto 48 dX0_dry_43 (by decide) ?_
        exact r_iret dX0_dry_48 rfl (Nat.le_refl _) (Nat.le_refl _) (rv (by unfold sp_dry; rw [hix]; first | (simp [hc14, nI_nat (show h < 2 ^ 31 by omega)]; first | rw [bI_t hc35] | rw [bI_f hc35]) | simp [hc14]))
      · refine r_iconst 39 dX0_dry_38 rfl ic_1 ?_
        refine r_goto 48 dX0_dry_39 (by decide) ?_
        exact r_iret dX0_dry_48 rfl (Nat.le_refl _) (Nat.le_refl _) (rv (by unfold sp_dry; rw [hix]; first | (simp [hc14, nI_nat (show h < 2 ^ 31 by omega)]; first | rw [bI_t hc35] | rw [bI_f hc35]) | simp [hc14]))
  · refine r_iconst 9 dX0_dry_8 rfl ic_m1 ?_
    exact r_iret dX0_dry_9 rfl (Nat.le_refl _) (Nat.le_refl _) (rv (by unfold sp_dry; rw [ix_no (by exact btw_f.mp (by simpa using hc5))]))

