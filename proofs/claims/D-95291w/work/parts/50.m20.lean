/-! THE REFERENCE: reading a sea -/
set_option maxRecDepth 100000
set_option maxHeartbeats 4000000 in
theorem ev_X1_digitAt {w : WE} {A : Hp} {m : MT} {p e : Nat} (hm : MR w A m) (he : e ≤ 240) (hp : p ≤ 1000) : EvI w mX1_digitAt 2 [.ref (mb w), .int (nI p), .int (nI e)] A (dgI (dg (m.2 3) e p)) := by
  refine Ev.mk 0 [some (.ref (mb w)), some (.int (nI p)), some (.int (nI e))] rfl plX1 (Nat.le_of_ble_eq_true rfl) ?_
  refine r_iload_n 1 dX1_digitAt_0 rfl rfl lo1 ?_
  refine r_iload_n 2 dX1_digitAt_1 rfl rfl lo2 ?_
  first | refine r_icmp_geN 33 5 dX1_digitAt_2 rfl (by decide) (by omega) (by omega) (fun hc2 => ?_) (fun hc2 => ?_) | refine r_icmp_ge 33 5 dX1_digitAt_2 rfl (by decide) (fun hc2 => ?_) (fun hc2 => ?_)
  · refine r_bipush 35 dX1_digitAt_33 rfl bi_m9 ?_
    exact r_iret dX1_digitAt_35 rfl (Nat.le_refl _) (Nat.le_refl _) (rv (by first | exact dgI_no (fun z => absurd z.1 (by omega)) | exact dgI_no (fun z => by rw [hc18] at z; cases z.2) | exact dgI_yes hc2 hc18))
  · refine r_aload_n 6 dX1_digitAt_5 rfl rfl lo0 ?_
    refine r_get 9 dX1_digitAt_6 rfl g_X1_16_1 hm.t lo4 ?_
    refine r_iload_n 10 dX1_digitAt_9 rfl rfl lo1 ?_
    refine r_iald 11 dX1_digitAt_10 rfl hm.a3 _ rfl (by omega) (by decide) ?_
    refine r_bipush 13 dX1_digitAt_11 rfl bi_48 ?_
    refine r_bipush 15 dX1_digitAt_13 rfl bi_57 ?_
    refine r_cS3 18 dX1_digitAt_15 rfl sS_X1_82 (by rfl) (ev_X1_within 48 57 (by decide) (by decide)) ?_
    refine r_if_eqB 33 21 dX1_digitAt_18 rfl (by decide) (fun hc18 => ?_) (fun hc18 => ?_)
    · refine r_bipush 35 dX1_digitAt_33 rfl bi_m9 ?_
      exact r_iret dX1_digitAt_35 rfl (Nat.le_refl _) (Nat.le_refl _) (rv (by first | exact dgI_no (fun z => absurd z.1 (by omega)) | exact dgI_no (fun z => by rw [hc18] at z; cases z.2) | exact dgI_yes hc2 hc18))
    · refine r_aload_n 22 dX1_digitAt_21 rfl rfl lo0 ?_
      refine r_get 25 dX1_digitAt_22 rfl g_X1_16_1 hm.t lo4 ?_
      refine r_iload_n 26 dX1_digitAt_25 rfl rfl lo1 ?_
      refine r_iald 27 dX1_digitAt_26 rfl hm.a3 _ rfl (by omega) (by decide) ?_
      refine r_bipush 29 dX1_digitAt_27 rfl bi_48 ?_
      refine r_isub 30 dX1_digitAt_29 rfl ?_
      refine r_goto 35 dX1_digitAt_30 (by decide) ?_
      exact r_iret dX1_digitAt_35 rfl (Nat.le_refl _) (Nat.le_refl _) (rv (by first | exact dgI_no (fun z => absurd z.1 (by omega)) | exact dgI_no (fun z => by rw [hc18] at z; cases z.2) | exact dgI_yes hc2 hc18))

set_option maxHeartbeats 4000000 in
theorem ev_X1_isCode {w : WE} {A : Hp} {m : MT} {p e : Nat} {x : Int32} (hm : MR w A m) (hp : m.1 10 = nI p) (he : e ≤ 240) (hp2 : p ≤ 1000) : EvI w mX1_isCode 1 [.ref (mb w), .int x, .int (nI e)] A (bI (decide (p < e ∧ m.2 3 p = x))) := by
  refine Ev.mk 0 [some (.ref (mb w)), some (.int x), some (.int (nI e))] rfl plX1 (Nat.le_of_ble_eq_true rfl) ?_
  refine r_aload_n 1 dX1_isCode_0 rfl rfl lo0 ?_
  refine r_getv 4 dX1_isCode_1 rfl g_X1_89_1 hm.t lo10 hp ?_
  refine r_iload_n 5 dX1_isCode_4 rfl rfl lo2 ?_
  first | refine r_icmp_geN 25 8 dX1_isCode_5 rfl (by decide) (by omega) (by omega) (fun hc5 => ?_) (fun hc5 => ?_) | refine r_icmp_ge 25 8 dX1_isCode_5 rfl (by decide) (fun hc5 => ?_) (fun hc5 => ?_)
  · refine r_iconst 26 dX1_isCode_25 rfl ic_0 ?_
    exact r_zret dX1_isCode_26 rfl (by first | exact nb_b _ | exact nb_0 | exact nb_1) (Nat.le_refl _) (Nat.le_refl _) (rv (by first | rw [decide_eq_true ⟨hc5, hc18⟩]; rfl | rw [decide_eq_false (fun z => hc18 z.2)]; rfl | rw [decide_eq_false (fun z => absurd z.1 (by omega))]; rfl))
  · refine r_aload_n 9 dX1_isCode_8 rfl rfl lo0 ?_
    refine r_get 12 dX1_isCode_9 rfl g_X1_16_1 hm.t lo4 ?_
    refine r_aload_n 13 dX1_isCode_12 rfl rfl lo0 ?_
    refine r_getv 16 dX1_isCode_13 rfl g_X1_89_1 hm.t lo10 hp ?_
    refine r_iald 17 dX1_isCode_16 rfl hm.a3 _ rfl (by omega) (by decide) ?_
    refine r_iload_n 18 dX1_isCode_17 rfl rfl lo1 ?_
    refine r_icmp_ne 25 21 dX1_isCode_18 rfl (by decide) (fun hc18 => ?_) (fun hc18 => ?_)
    · refine r_iconst 26 dX1_isCode_25 rfl ic_0 ?_
      exact r_zret dX1_isCode_26 rfl (by first | exact nb_b _ | exact nb_0 | exact nb_1) (Nat.le_refl _) (Nat.le_refl _) (rv (by first | rw [decide_eq_true ⟨hc5, hc18⟩]; rfl | rw [decide_eq_false (fun z => hc18 z.2)]; rfl | rw [decide_eq_false (fun z => absurd z.1 (by omega))]; rfl))
    · refine r_iconst 22 dX1_isCode_21 rfl ic_1 ?_
      refine r_goto 26 dX1_isCode_22 (by decide) ?_
      exact r_zret dX1_isCode_26 rfl (by first | exact nb_b _ | exact nb_0 | exact nb_1) (Nat.le_refl _) (Nat.le_refl _) (rv (by first | rw [decide_eq_true ⟨hc5, hc18⟩]; rfl | rw [decide_eq_false (fun z => hc18 z.2)]; rfl | rw [decide_eq_false (fun z => absurd z.1 (by omega))]; rfl))

theorem ev_dig_none {w : WE} {A : Hp} {m : MT} {p e : Nat} (hm : MR w A m) (he : e ≤ 240) (hp : p ≤ 1000) (h : dg (m.2 3) e p = none) : EvI w mX1_digitAt 2 [.ref (mb w), .int (nI p), .int (nI e)] A (-9) := by
  have z := ev_X1_digitAt hm he hp
  rw [h] at z
  exact z
theorem ev_dig_some {w : WE} {A : Hp} {m : MT} {p e t : Nat} (hm : MR w A m) (he : e ≤ 240) (hp : p ≤ 1000) (h : dg (m.2 3) e p = some t) : EvI w mX1_digitAt 2 [.ref (mb w), .int (nI p), .int (nI e)] A (nI t) := by
  have z := ev_X1_digitAt hm he hp
  rw [h] at z
  exact z
set_option maxHeartbeats 4000000 in
theorem ev_X1_twoDigits {w : WE} {A : Hp} {m : MT} {p e l h : Nat} (hm : MR w A m) (hp : m.1 10 = nI p) (he : e ≤ 240) (hp2 : p ≤ 900) (hl : l ≤ 100) (hh : h ≤ 100) : Ev w mX1_twoDigits 3 0 0 [.ref (mb w), .int (nI e), .int (nI l), .int (nI h)] A (QM w A (fun r m' => r = some (.int (tdV (td (m.2 3) e p l h))) ∧ m' = atS m (tdP p (td (m.2 3) e p l h)))) := by
  refine Ev.mk 3 [some (.ref (mb w)), some (.int (nI e)), some (.int (nI l)), some (.int (nI h)), none, none, none] rfl plX1 (Nat.le_of_ble_eq_true rfl) ?_
  have hF : Fm w A A := Fm.rf
  rcases h1 : dg (m.2 3) e p with _ | t
  · skip
    refine r_aload_n 1 dX1_twoDigits_0 rfl rfl lo0 ?_
    refine r_aload_n 2 dX1_twoDigits_1 rfl rfl lo0 ?_
    refine r_getv 5 dX1_twoDigits_2 rfl g_X1_89_1 hm.t lo10 hp ?_
    refine r_iload_n 6 dX1_twoDigits_5 rfl rfl lo1 ?_
    refine r_cV2 9 dX1_twoDigits_6 rfl sV_X1_92_1 hm.t (by rfl) (ev_dig_none hm he (by omega) h1) ?_
    refine r_istore 11 dX1_twoDigits_9 rfl so4 rfl ?_
    refine r_iload 13 dX1_twoDigits_11 rfl lo4 ?_
    refine r_bipush 15 dX1_twoDigits_13 rfl bi_m9 ?_
    refine r_icmp_eq 39 18 dX1_twoDigits_15 rfl (by decide) (fun hc15 => ?_) (fun hc15 => ?_)
    · refine r_bipush 41 dX1_twoDigits_39 rfl bi_m9 ?_
      exact r_iret dX1_twoDigits_41 rfl (Nat.le_refl _) (Nat.le_refl _) (qm hm hF (by rw [td_0 h1]; exact ⟨rfl, atS_eq hp⟩))
    · exact absurd rfl hc15
  · have t9 := dg_lt h1
    rcases h3 : dg (m.2 3) e (p + 1) with _ | u
    · skip
      refine r_aload_n 1 dX1_twoDigits_0 rfl rfl lo0 ?_
      refine r_aload_n 2 dX1_twoDigits_1 rfl rfl lo0 ?_
      refine r_getv 5 dX1_twoDigits_2 rfl g_X1_89_1 hm.t lo10 hp ?_
      refine r_iload_n 6 dX1_twoDigits_5 rfl rfl lo1 ?_
      refine r_cV2 9 dX1_twoDigits_6 rfl sV_X1_92_1 hm.t (by rfl) (ev_dig_some hm he (by omega) h1) ?_
      refine r_istore 11 dX1_twoDigits_9 rfl so4 rfl ?_
      refine r_iload 13 dX1_twoDigits_11 rfl lo4 ?_
      refine r_bipush 15 dX1_twoDigits_13 rfl bi_m9 ?_
      refine r_icmp_eq 39 18 dX1_twoDigits_15 rfl (by decide) (fun hc15 => ?_) (fun hc15 => ?_)
      · exact absurd hc15 (nI_m9 (by omega))
      · refine r_bipush 20 dX1_twoDigits_18 rfl bi_10 ?_
        refine r_iload 22 dX1_twoDigits_20 rfl lo4 ?_
        first | refine r_imulN 23 dX1_twoDigits_22 rfl ?_ | refine r_imul 23 dX1_twoDigits_22 rfl ?_
        refine r_bipush 25 dX1_twoDigits_23 rfl bi_9 ?_
        first | refine r_iaddN 26 dX1_twoDigits_25 rfl ?_ | refine r_iadd 26 dX1_twoDigits_25 rfl ?_
        refine r_iload_n 27 dX1_twoDigits_26 rfl rfl lo2 ?_
        first | refine r_icmp_ltN 39 30 dX1_twoDigits_27 rfl (by decide) (by omega) (by omega) (fun hc27 => ?_) (fun hc27 => ?_) | refine r_icmp_lt 39 30 dX1_twoDigits_27 rfl (by decide) (fun hc27 => ?_) (fun hc27 => ?_)
        · refine r_bipush 41 dX1_twoDigits_39 rfl bi_m9 ?_
          exact r_iret dX1_twoDigits_41 rfl (Nat.le_refl _) (Nat.le_refl _) (qm hm hF (by rw [td_1 h1 (by omega)]; exact ⟨rfl, atS_eq hp⟩))
        · refine r_bipush 32 dX1_twoDigits_30 rfl bi_10 ?_
          refine r_iload 34 dX1_twoDigits_32 rfl lo4 ?_
          first | refine r_imulN 35 dX1_twoDigits_34 rfl ?_ | refine r_imul 35 dX1_twoDigits_34 rfl ?_
          refine r_iload_n 36 dX1_twoDigits_35 rfl rfl lo3 ?_
          first | refine r_icmp_leN 42 39 dX1_twoDigits_36 rfl (by decide) (by omega) (by omega) (fun hc36 => ?_) (fun hc36 => ?_) | refine r_icmp_le 42 39 dX1_twoDigits_36 rfl (by decide) (fun hc36 => ?_) (fun hc36 => ?_)
          · refine r_aload_n 43 dX1_twoDigits_42 rfl rfl lo0 ?_
            refine r_aload_n 44 dX1_twoDigits_43 rfl rfl lo0 ?_
            refine r_getv 47 dX1_twoDigits_44 rfl g_X1_89_1 hm.t lo10 hp ?_
            refine r_iconst 48 dX1_twoDigits_47 rfl ic_1 ?_
            first | refine r_iaddN 49 dX1_twoDigits_48 rfl ?_ | refine r_iadd 49 dX1_twoDigits_48 rfl ?_
            refine r_iload_n 50 dX1_twoDigits_49 rfl rfl lo1 ?_
            refine r_cV2 53 dX1_twoDigits_50 rfl sV_X1_92_1 hm.t (by rfl) (ev_dig_none hm he (by omega) h3) ?_
            refine r_istore 55 dX1_twoDigits_53 rfl so5 rfl ?_
            refine r_iload 57 dX1_twoDigits_55 rfl lo5 ?_
            refine r_bipush 59 dX1_twoDigits_57 rfl bi_m9 ?_
            refine r_icmp_ne 75 62 dX1_twoDigits_59 rfl (by decide) (fun hc59 => ?_) (fun hc59 => ?_)
            · exact absurd rfl hc59
            · refine r_aload_n 63 dX1_twoDigits_62 rfl rfl lo0 ?_
              refine r_dup 64 dX1_twoDigits_63 rfl rfl ?_
              refine r_getv 67 dX1_twoDigits_64 rfl g_X1_89_1 hm.t lo10 hp ?_
              refine r_iconst 68 dX1_twoDigits_67 rfl ic_1 ?_
              first | refine r_iaddN 69 dX1_twoDigits_68 rfl ?_ | refine r_iadd 69 dX1_twoDigits_68 rfl ?_
              refine rm_put 72 dX1_twoDigits_69 rfl hm hF g_X1_89_1 fw_1_10 rfl (by decide) (fun A hm hF => ?_)
              refine r_bipush 74 dX1_twoDigits_72 rfl bi_m9 ?_
              exact r_iret dX1_twoDigits_74 rfl (Nat.le_refl _) (Nat.le_refl _) (qm hm hF (by rw [td_2 h1 (by omega) h3]; exact ⟨rfl, rfl⟩))
          · refine r_bipush 41 dX1_twoDigits_39 rfl bi_m9 ?_
            exact r_iret dX1_twoDigits_41 rfl (Nat.le_refl _) (Nat.le_refl _) (qm hm hF (by rw [td_1 h1 (by omega)]; exact ⟨rfl, atS_eq hp⟩))
    · have u9 := dg_lt h3
      refine r_aload_n 1 dX1_twoDigits_0 rfl rfl lo0 ?_
      refine r_aload_n 2 dX1_twoDigits_1 rfl rfl lo0 ?_
      refine r_getv 5 dX1_twoDigits_2 rfl g_X1_89_1 hm.t lo10 hp ?_
      refine r_iload_n 6 dX1_twoDigits_5 rfl rfl lo1 ?_
      refine r_cV2 9 dX1_twoDigits_6 rfl sV_X1_92_1 hm.t (by rfl) (ev_dig_some hm he (by omega) h1) ?_
      refine r_istore 11 dX1_twoDigits_9 rfl so4 rfl ?_
      refine r_iload 13 dX1_twoDigits_11 rfl lo4 ?_
      refine r_bipush 15 dX1_twoDigits_13 rfl bi_m9 ?_
      refine r_icmp_eq 39 18 dX1_twoDigits_15 rfl (by decide) (fun hc15 => ?_) (fun hc15 => ?_)
      · exact absurd hc15 (nI_m9 (by omega))
      · refine r_bipush 20 dX1_twoDigits_18 rfl bi_10 ?_
        refine r_iload 22 dX1_twoDigits_20 rfl lo4 ?_
        first | refine r_imulN 23 dX1_twoDigits_22 rfl ?_ | refine r_imul 23 dX1_twoDigits_22 rfl ?_
        refine r_bipush 25 dX1_twoDigits_23 rfl bi_9 ?_
        first | refine r_iaddN 26 dX1_twoDigits_25 rfl ?_ | refine r_iadd 26 dX1_twoDigits_25 rfl ?_
        refine r_iload_n 27 dX1_twoDigits_26 rfl rfl lo2 ?_
        first | refine r_icmp_ltN 39 30 dX1_twoDigits_27 rfl (by decide) (by omega) (by omega) (fun hc27 => ?_) (fun hc27 => ?_) | refine r_icmp_lt 39 30 dX1_twoDigits_27 rfl (by decide) (fun hc27 => ?_) (fun hc27 => ?_)
        · refine r_bipush 41 dX1_twoDigits_39 rfl bi_m9 ?_
          exact r_iret dX1_twoDigits_41 rfl (Nat.le_refl _) (Nat.le_refl _) (qm hm hF (by rw [td_1 h1 (by omega)]; exact ⟨rfl, atS_eq hp⟩))
        · refine r_bipush 32 dX1_twoDigits_30 rfl bi_10 ?_
          refine r_iload 34 dX1_twoDigits_32 rfl lo4 ?_
          first | refine r_imulN 35 dX1_twoDigits_34 rfl ?_ | refine r_imul 35 dX1_twoDigits_34 rfl ?_
          refine r_iload_n 36 dX1_twoDigits_35 rfl rfl lo3 ?_
          first | refine r_icmp_leN 42 39 dX1_twoDigits_36 rfl (by decide) (by omega) (by omega) (fun hc36 => ?_) (fun hc36 => ?_) | refine r_icmp_le 42 39 dX1_twoDigits_36 rfl (by decide) (fun hc36 => ?_) (fun hc36 => ?_)
          · refine r_aload_n 43 dX1_twoDigits_42 rfl rfl lo0 ?_
            refine r_aload_n 44 dX1_twoDigits_43 rfl rfl lo0 ?_
            refine r_getv 47 dX1_twoDigits_44 rfl g_X1_89_1 hm.t lo10 hp ?_
            refine r_iconst 48 dX1_twoDigits_47 rfl ic_1 ?_
            first | refine r_iaddN 49 dX1_twoDigits_48 rfl ?_ | refine r_iadd 49 dX1_twoDigits_48 rfl ?_
            refine r_iload_n 50 dX1_twoDigits_49 rfl rfl lo1 ?_
            refine r_cV2 53 dX1_twoDigits_50 rfl sV_X1_92_1 hm.t (by rfl) (ev_dig_some hm he (by omega) h3) ?_
            refine r_istore 55 dX1_twoDigits_53 rfl so5 rfl ?_
            refine r_iload 57 dX1_twoDigits_55 rfl lo5 ?_
            refine r_bipush 59 dX1_twoDigits_57 rfl bi_m9 ?_
            refine r_icmp_ne 75 62 dX1_twoDigits_59 rfl (by decide) (fun hc59 => ?_) (fun hc59 => ?_)
            · refine r_bipush 77 dX1_twoDigits_75 rfl bi_10 ?_
              refine r_iload 79 dX1_twoDigits_77 rfl lo4 ?_
              first | refine r_imulN 80 dX1_twoDigits_79 rfl ?_ | refine r_imul 80 dX1_twoDigits_79 rfl ?_
              refine r_iload 82 dX1_twoDigits_80 rfl lo5 ?_
              first | refine r_iaddN 83 dX1_twoDigits_82 rfl ?_ | refine r_iadd 83 dX1_twoDigits_82 rfl ?_
              refine r_istore 85 dX1_twoDigits_83 rfl so6 rfl ?_
              refine r_iload 87 dX1_twoDigits_85 rfl lo6 ?_
              refine r_iload_n 88 dX1_twoDigits_87 rfl rfl lo2 ?_
              refine r_iload_n 89 dX1_twoDigits_88 rfl rfl lo3 ?_
              refine r_cS3 92 dX1_twoDigits_89 rfl sS_X1_82 (by rfl) (ev_X1_within (l : Int) (h : Int) (nI_toInt (by omega)) (nI_toInt (by omega))) ?_
              refine r_if_neB 98 95 dX1_twoDigits_92 rfl (by decide) (fun hc92 => ?_) (fun hc92 => ?_)
              · refine r_aload_n 99 dX1_twoDigits_98 rfl rfl lo0 ?_
                refine r_dup 100 dX1_twoDigits_99 rfl rfl ?_
                refine r_getv 103 dX1_twoDigits_100 rfl g_X1_89_1 hm.t lo10 hp ?_
                refine r_iconst 104 dX1_twoDigits_103 rfl ic_2 ?_
                first | refine r_iaddN 105 dX1_twoDigits_104 rfl ?_ | refine r_iadd 105 dX1_twoDigits_104 rfl ?_
                refine rm_put 108 dX1_twoDigits_105 rfl hm hF g_X1_89_1 fw_1_10 rfl (by decide) (fun A hm hF => ?_)
                refine r_iload 110 dX1_twoDigits_108 rfl lo6 ?_
                exact r_iret dX1_twoDigits_110 rfl (Nat.le_refl _) (Nat.le_refl _) (qm hm hF (by rw [td_3 h1 (by omega) h3, if_pos (by have z2 := btw_t.mp hc92; rw [nI_toInt (by omega)] at z2; omega)]; exact ⟨rfl, rfl⟩))
              · refine r_bipush 97 dX1_twoDigits_95 rfl bi_m9 ?_
                exact r_iret dX1_twoDigits_97 rfl (Nat.le_refl _) (Nat.le_refl _) (qm hm hF (by rw [td_3 h1 (by omega) h3, if_neg (fun z => by have z2 := btw_f.mp hc92; rw [nI_toInt (by omega)] at z2; omega)]; exact ⟨rfl, atS_eq hp⟩))
            · exact absurd hc59 (nI_m9 (by omega))
          · refine r_bipush 41 dX1_twoDigits_39 rfl bi_m9 ?_
            exact r_iret dX1_twoDigits_41 rfl (Nat.le_refl _) (Nat.le_refl _) (qm hm hF (by rw [td_1 h1 (by omega)]; exact ⟨rfl, atS_eq hp⟩))

