/-! THE REFERENCE: parts, sheets -/
set_option maxRecDepth 100000
set_option maxHeartbeats 4000000 in
theorem ev_X1_begins {w : WE} {A : Hp} {m : MT} {v : Int32} (hm : MR w A m) : EvMv w mX1_begins 1 [.ref (mb w), .int v] A (fun m' => m' = (va_up m.1 1 (nI 31 * m.1 1 + v), m.2)) := by
  refine Ev.mk 0 [some (.ref (mb w)), some (.int v)] rfl plX1 (Nat.le_of_ble_eq_true rfl) ?_
  have hF : Fm w A A := Fm.rf
  refine r_aload_n 1 dX1_begins_0 rfl rfl lo0 ?_
  refine r_bipush 3 dX1_begins_1 rfl bi_31 ?_
  refine r_aload_n 4 dX1_begins_3 rfl rfl lo0 ?_
  refine r_get 7 dX1_begins_4 rfl g_X1_211_1 hm.t lo1 ?_
  refine r_imul 8 dX1_begins_7 rfl ?_
  refine r_iload_n 9 dX1_begins_8 rfl rfl lo1 ?_
  refine r_iadd 10 dX1_begins_9 rfl ?_
  refine rm_put 13 dX1_begins_10 rfl hm hF g_X1_211_1 fw_1_1 rfl (by decide) (fun A hm hF => ?_)
  exact r_vret dX1_begins_13 rfl (Nat.le_refl _) (Nat.le_refl _) (qm hm hF ⟨rfl, rfl⟩)

set_option maxHeartbeats 4000000 in
theorem ev_X1_tell {w : WE} {A : Hp} {m : MT} {S : ST} {x : Int32} (hm : MR w A m) (hS : MS m S) : Ev w mX1_tell 2 0 0 [.ref (mb w), .int x] A (QM w A (fun v m' => v = some (.int (sp_tell S x).1) ∧ MS m' (sp_tell S x).2)) := by
  refine Ev.mk 1 [some (.ref (mb w)), some (.int x), none] rfl plX1 (Nat.le_of_ble_eq_true rfl) ?_
  have hF : Fm w A A := Fm.rf
  have hl10 := hS.rd.2.1
  have hz : (m.1 16).toInt = (S.2.2.1.length : Int) := by rw [hS.rd.1, nI_toInt (by omega)]
  refine r_aload_n 1 dX1_tell_0 rfl rfl lo0 ?_
  refine r_iload_n 2 dX1_tell_1 rfl rfl lo1 ?_
  refine r_cV1 5 dX1_tell_2 rfl sV_X1_153_1 hm.t (by rfl) (ev_X1_isRoad hm) ?_
  refine r_if_neB 10 8 dX1_tell_5 rfl (by decide) (fun hc5 => ?_) (fun hc5 => ?_)
  · obtain ⟨j, q, hj, rfl, hq, hix⟩ := ix_ok (l := S.2.2.1) (x := x) (by rw [hz] at hc5; have := btw_t.mp hc5; omega)
    obtain ⟨h10, h11, h12, h13, h14, h15, hok⟩ := hS.rd.2.2 j q hq
    obtain ⟨o1, o2, o3, o4, o5, o6, o7, o8⟩ := hok
    refine r_aload_n 11 dX1_tell_10 rfl rfl lo0 ?_
    refine r_get 14 dX1_tell_11 rfl g_X1_49_1 hm.t lo21 ?_
    refine r_iload_n 15 dX1_tell_14 rfl rfl lo1 ?_
    refine r_ialdv 16 dX1_tell_15 rfl hm.a14 _ rfl h14 (by omega) (by decide) ?_
    refine r_istore_n 17 dX1_tell_16 rfl rfl so2 rfl ?_
    refine r_aload_n 18 dX1_tell_17 rfl rfl lo0 ?_
    refine r_get 21 dX1_tell_18 rfl g_X1_37_1 hm.t lo17 ?_
    refine r_iload_n 22 dX1_tell_21 rfl rfl lo1 ?_
    refine r_ialdv 23 dX1_tell_22 rfl hm.a10 _ rfl h10 (by omega) (by decide) ?_
    by_cases hk1 : q.1 = 1
    · refine r_look (off := 25) 48 dX1_tell_23 rfl (by rw [hk1]; decide) (by decide) ?_
      refine r_aload_n 49 dX1_tell_48 rfl rfl lo0 ?_
      refine r_iconst 50 dX1_tell_49 rfl ic_2 ?_
      refine rm_v1 53 dX1_tell_50 rfl sV_X1_214_1 hm hF (by rfl) (ev_X1_begins hm) (fun A m' hP hm hF => ?_)
      subst hP
      refine r_aload_n 54 dX1_tell_53 rfl rfl lo0 ?_
      refine r_iconst 55 dX1_tell_54 rfl ic_1 ?_
      refine rm_v1 58 dX1_tell_55 rfl sV_X1_214_1 hm hF (by rfl) (ev_X1_begins hm) (fun A m' hP hm hF => ?_)
      subst hP
      refine r_iload_n 59 dX1_tell_58 rfl rfl lo2 ?_
      refine r_bipush 61 dX1_tell_59 rfl bi_100 ?_
      first | refine r_iaddN 62 dX1_tell_61 rfl ?_ | refine r_iadd 62 dX1_tell_61 rfl ?_
      exact r_iret dX1_tell_62 rfl (Nat.le_refl _) (Nat.le_refl _) (qm hm hF (by
            have e : sp_tell S (nI j) = (nI (q.2.2.2.2.1 + 100), sT S (tb (tb (S.2.2.2.1) 2) 1)) := by
              unfold sp_tell
              rw [hix]
              dsimp only
              rw [if_pos hk1]
            rw [e]
            exact ⟨rfl, hS.1, hS.mo, hS.rd, (by show nI 31 * (nI 31 * (m.1 1) + nI 2) + nI 1 = _; rw [hS.tr]; rfl), hS.fa, hS.sh, hS.ok⟩))
    by_cases hk2 : q.1 = 2
    · refine r_look (off := 40) 63 dX1_tell_23 rfl (by rw [hk2]; decide) (by decide) ?_
      refine r_aload_n 64 dX1_tell_63 rfl rfl lo0 ?_
      refine r_iconst 65 dX1_tell_64 rfl ic_3 ?_
      refine rm_v1 68 dX1_tell_65 rfl sV_X1_214_1 hm hF (by rfl) (ev_X1_begins hm) (fun A m' hP hm hF => ?_)
      subst hP
      refine r_aload_n 69 dX1_tell_68 rfl rfl lo0 ?_
      refine r_iconst 70 dX1_tell_69 rfl ic_2 ?_
      refine rm_v1 73 dX1_tell_70 rfl sV_X1_214_1 hm hF (by rfl) (ev_X1_begins hm) (fun A m' hP hm hF => ?_)
      subst hP
      refine r_aload_n 74 dX1_tell_73 rfl rfl lo0 ?_
      refine r_iconst 75 dX1_tell_74 rfl ic_1 ?_
      refine rm_v1 78 dX1_tell_75 rfl sV_X1_214_1 hm hF (by rfl) (ev_X1_begins hm) (fun A m' hP hm hF => ?_)
      subst hP
      refine r_aload_n 79 dX1_tell_78 rfl rfl lo0 ?_
      refine r_iconst 80 dX1_tell_79 rfl ic_1 ?_
      refine rm_v1 83 dX1_tell_80 rfl sV_X1_214_1 hm hF (by rfl) (ev_X1_begins hm) (fun A m' hP hm hF => ?_)
      subst hP
      refine r_iconst 84 dX1_tell_83 rfl ic_2 ?_
      refine r_iload_n 85 dX1_tell_84 rfl rfl lo2 ?_
      first | refine r_imulN 86 dX1_tell_85 rfl ?_ | refine r_imul 86 dX1_tell_85 rfl ?_
      refine r_bipush 88 dX1_tell_86 rfl bi_100 ?_
      first | refine r_iaddN 89 dX1_tell_88 rfl ?_ | refine r_iadd 89 dX1_tell_88 rfl ?_
      exact r_iret dX1_tell_89 rfl (Nat.le_refl _) (Nat.le_refl _) (qm hm hF (by
            have e : sp_tell S (nI j) = (nI (2 * q.2.2.2.2.1 + 100), sT S (tb (tb (tb (tb (S.2.2.2.1) 3) 2) 1) 1)) := by
              unfold sp_tell
              rw [hix]
              dsimp only
              rw [if_neg hk1, if_pos hk2]
            rw [e]
            exact ⟨rfl, hS.1, hS.mo, hS.rd, (by show nI 31 * (nI 31 * (nI 31 * (nI 31 * (m.1 1) + nI 3) + nI 2) + nI 1) + nI 1 = _; rw [hS.tr]; rfl), hS.fa, hS.sh, hS.ok⟩))
    refine r_look (off := 67) 90 dX1_tell_23 rfl (by rw [show q.1 = 0 by omega]; decide) (by decide) ?_
    refine r_aload_n 91 dX1_tell_90 rfl rfl lo0 ?_
    refine r_iconst 92 dX1_tell_91 rfl ic_1 ?_
    refine rm_v1 95 dX1_tell_92 rfl sV_X1_214_1 hm hF (by rfl) (ev_X1_begins hm) (fun A m' hP hm hF => ?_)
    subst hP
    refine r_iload_n 96 dX1_tell_95 rfl rfl lo2 ?_
    exact r_iret dX1_tell_96 rfl (Nat.le_refl _) (Nat.le_refl _) (qm hm hF (by
          have e : sp_tell S (nI j) = (nI q.2.2.2.2.1, sT S (tb (S.2.2.2.1) 1)) := by
            unfold sp_tell
            rw [hix]
            dsimp only
            rw [if_neg hk1, if_neg hk2]
          rw [e]
          exact ⟨rfl, hS.1, hS.mo, hS.rd, (by show nI 31 * (m.1 1) + nI 1 = _; rw [hS.tr]; rfl), hS.fa, hS.sh, hS.ok⟩))
  · refine r_iconst 9 dX1_tell_8 rfl ic_m1 ?_
    exact r_iret dX1_tell_9 rfl (Nat.le_refl _) (Nat.le_refl _) (qm hm hF (by have e : sp_tell S x = (-1, S) := by { unfold sp_tell; rw [ix_no (by rw [hz] at hc5; exact btw_f.mp hc5)] }; rw [e]; exact ⟨rfl, hS⟩))

set_option maxHeartbeats 4000000 in
theorem ev_X1_stake {w : WE} {A : Hp} {m : MT} {S : ST} {x : Int32} (hm : MR w A m) (hS : MS m S) : Ev w mX1_stake 2 0 0 [.ref (mb w), .int x] A (QM w A (fun v m' => v = some (.int (sp_stake S x).1) ∧ MS m' (sp_stake S x).2)) := by
  refine Ev.mk 0 [some (.ref (mb w)), some (.int x)] rfl plX1 (Nat.le_of_ble_eq_true rfl) ?_
  have hF : Fm w A A := Fm.rf
  have hl10 := hS.rd.2.1
  have hz : (m.1 16).toInt = (S.2.2.1.length : Int) := by rw [hS.rd.1, nI_toInt (by omega)]
  refine r_aload_n 1 dX1_stake_0 rfl rfl lo0 ?_
  refine r_iload_n 2 dX1_stake_1 rfl rfl lo1 ?_
  refine r_cV1 5 dX1_stake_2 rfl sV_X1_153_1 hm.t (by rfl) (ev_X1_isRoad hm) ?_
  refine r_if_neB 10 8 dX1_stake_5 rfl (by decide) (fun hc5 => ?_) (fun hc5 => ?_)
  · obtain ⟨j, q, hj, rfl, hq, hix⟩ := ix_ok (l := S.2.2.1) (x := x) (by rw [hz] at hc5; have := btw_t.mp hc5; omega)
    obtain ⟨h10, h11, h12, h13, h14, h15, hok⟩ := hS.rd.2.2 j q hq
    obtain ⟨o1, o2, o3, o4, o5, o6, o7, o8⟩ := hok
    refine r_aload_n 11 dX1_stake_10 rfl rfl lo0 ?_
    refine r_aload_n 12 dX1_stake_11 rfl rfl lo0 ?_
    refine r_get 15 dX1_stake_12 rfl g_X1_37_1 hm.t lo17 ?_
    refine r_iload_n 16 dX1_stake_15 rfl rfl lo1 ?_
    refine r_ialdv 17 dX1_stake_16 rfl hm.a10 _ rfl h10 (by omega) (by decide) ?_
    refine r_iconst 18 dX1_stake_17 rfl ic_2 ?_
    first | refine r_icmp_neN 25 21 dX1_stake_18 rfl (by decide) (by omega) (by omega) (fun hc18 => ?_) (fun hc18 => ?_) | refine r_icmp_ne 25 21 dX1_stake_18 rfl (by decide) (fun hc18 => ?_) (fun hc18 => ?_)
    · refine r_iconst 26 dX1_stake_25 rfl ic_4 ?_
      refine rm_v1 29 dX1_stake_26 rfl sV_X1_214_1 hm hF (by rfl) (ev_X1_begins hm) (fun A m' hP hm hF => ?_)
      subst hP
      refine r_aload_n 30 dX1_stake_29 rfl rfl lo0 ?_
      refine r_get 33 dX1_stake_30 rfl g_X1_37_1 hm.t lo17 ?_
      refine r_iload_n 34 dX1_stake_33 rfl rfl lo1 ?_
      refine r_ialdv 35 dX1_stake_34 rfl hm.a10 _ rfl h10 (by omega) (by decide) ?_
      refine r_iconst 36 dX1_stake_35 rfl ic_2 ?_
      first | refine r_icmp_neN 44 39 dX1_stake_36 rfl (by decide) (by omega) (by omega) (fun hc36 => ?_) (fun hc36 => ?_) | refine r_icmp_ne 44 39 dX1_stake_36 rfl (by decide) (fun hc36 => ?_) (fun hc36 => ?_)
      · refine r_iload_n 45 dX1_stake_44 rfl rfl lo1 ?_
        exact r_iret dX1_stake_45 rfl (Nat.le_refl _) (Nat.le_refl _) (by first | exact absurd hc18 hc36 | exact absurd hc36 hc18 | exact (qm hm hF (by
              have e : sp_stake S (nI j) = (nI j, sT S (tb S.2.2.2.1 4)) := by
                unfold sp_stake
                rw [hix]
                dsimp only
                rw [if_neg hc18]
              rw [e]
              exact ⟨rfl, hS.1, hS.mo, hS.rd, (by show nI 31 * (m.1 1) + nI 4 = _; rw [hS.tr]; rfl), hS.fa, hS.sh, hS.ok⟩)) | exact (qm hm hF (by
              have e : sp_stake S (nI j) = (nI 40, sT S (tb S.2.2.2.1 5)) := by
                unfold sp_stake
                rw [hix]
                dsimp only
                rw [if_pos hc18]
              rw [e]
              exact ⟨rfl, hS.1, hS.mo, hS.rd, (by show nI 31 * (m.1 1) + nI 5 = _; rw [hS.tr]; rfl), hS.fa, hS.sh, hS.ok⟩)))
      · refine r_bipush 41 dX1_stake_39 rfl bi_40 ?_
        refine r_goto 45 dX1_stake_41 (by decide) ?_
        exact r_iret dX1_stake_45 rfl (Nat.le_refl _) (Nat.le_refl _) (by first | exact absurd hc18 hc36 | exact absurd hc36 hc18 | exact (qm hm hF (by
              have e : sp_stake S (nI j) = (nI j, sT S (tb S.2.2.2.1 4)) := by
                unfold sp_stake
                rw [hix]
                dsimp only
                rw [if_neg hc18]
              rw [e]
              exact ⟨rfl, hS.1, hS.mo, hS.rd, (by show nI 31 * (m.1 1) + nI 4 = _; rw [hS.tr]; rfl), hS.fa, hS.sh, hS.ok⟩)) | exact (qm hm hF (by
              have e : sp_stake S (nI j) = (nI 40, sT S (tb S.2.2.2.1 5)) := by
                unfold sp_stake
                rw [hix]
                dsimp only
                rw [if_pos hc18]
              rw [e]
              exact ⟨rfl, hS.1, hS.mo, hS.rd, (by show nI 31 * (m.1 1) + nI 5 = _; rw [hS.tr]; rfl), hS.fa, hS.sh, hS.ok⟩)))
    · refine r_iconst 22 dX1_stake_21 rfl ic_5 ?_
      refine r_goto 26 dX1_stake_22 (by decide) ?_
      refine rm_v1 29 dX1_stake_26 rfl sV_X1_214_1 hm hF (by rfl) (ev_X1_begins hm) (fun A m' hP hm hF => ?_)
      subst hP
      refine r_aload_n 30 dX1_stake_29 rfl rfl lo0 ?_
      refine r_get 33 dX1_stake_30 rfl g_X1_37_1 hm.t lo17 ?_
      refine r_iload_n 34 dX1_stake_33 rfl rfl lo1 ?_
      refine r_ialdv 35 dX1_stake_34 rfl hm.a10 _ rfl h10 (by omega) (by decide) ?_
      refine r_iconst 36 dX1_stake_35 rfl ic_2 ?_
      first | refine r_icmp_neN 44 39 dX1_stake_36 rfl (by decide) (by omega) (by omega) (fun hc36 => ?_) (fun hc36 => ?_) | refine r_icmp_ne 44 39 dX1_stake_36 rfl (by decide) (fun hc36 => ?_) (fun hc36 => ?_)
      · refine r_iload_n 45 dX1_stake_44 rfl rfl lo1 ?_
        exact r_iret dX1_stake_45 rfl (Nat.le_refl _) (Nat.le_refl _) (by first | exact absurd hc18 hc36 | exact absurd hc36 hc18 | exact (qm hm hF (by
              have e : sp_stake S (nI j) = (nI j, sT S (tb S.2.2.2.1 4)) := by
                unfold sp_stake
                rw [hix]
                dsimp only
                rw [if_neg hc18]
              rw [e]
              exact ⟨rfl, hS.1, hS.mo, hS.rd, (by show nI 31 * (m.1 1) + nI 4 = _; rw [hS.tr]; rfl), hS.fa, hS.sh, hS.ok⟩)) | exact (qm hm hF (by
              have e : sp_stake S (nI j) = (nI 40, sT S (tb S.2.2.2.1 5)) := by
                unfold sp_stake
                rw [hix]
                dsimp only
                rw [if_pos hc18]
              rw [e]
              exact ⟨rfl, hS.1, hS.mo, hS.rd, (by show nI 31 * (m.1 1) + nI 5 = _; rw [hS.tr]; rfl), hS.fa, hS.sh, hS.ok⟩)))
      · refine r_bipush 41 dX1_stake_39 rfl bi_40 ?_
        refine r_goto 45 dX1_stake_41 (by decide) ?_
        exact r_iret dX1_stake_45 rfl (Nat.le_refl _) (Nat.le_refl _) (by first | exact absurd hc18 hc36 | exact absurd hc36 hc18 | exact (qm hm hF (by
              have e : sp_stake S (nI j) = (nI j, sT S (tb S.2.2.2.1 4)) := by
                unfold sp_stake
                rw [hix]
                dsimp only
                rw [if_neg hc18]
              rw [e]
              exact ⟨rfl, hS.1, hS.mo, hS.rd, (by show nI 31 * (m.1 1) + nI 4 = _; rw [hS.tr]; rfl), hS.fa, hS.sh, hS.ok⟩)) | exact (qm hm hF (by
              have e : sp_stake S (nI j) = (nI 40, sT S (tb S.2.2.2.1 5)) := by
                unfold sp_stake
                rw [hix]
                dsimp only
                rw [if_pos hc18]
              rw [e]
              exact ⟨rfl, hS.1, hS.mo, hS.rd, (by show nI 31 * (m.1 1) + nI 5 = _; rw [hS.tr]; rfl), hS.fa, hS.sh, hS.ok⟩)))
  · refine r_iconst 9 dX1_stake_8 rfl ic_m1 ?_
    exact r_iret dX1_stake_9 rfl (Nat.le_refl _) (Nat.le_refl _) (qm hm hF (by have e : sp_stake S x = (-1, S) := by { unfold sp_stake; rw [ix_no (by rw [hz] at hc5; exact btw_f.mp hc5)] }; rw [e]; exact ⟨rfl, hS⟩))

set_option maxHeartbeats 4000000 in
theorem ev_X1_as {w : WE} {A : Hp} {m : MT} {S : ST} {x sort : Int32} (hm : MR w A m) (hS : MS m S) : Ev w mX1_as 2 0 0 [.ref (mb w), .int x, .int sort] A (QM w A (fun v m' => v = some (.int (sp_as S x sort).1) ∧ MS m' (sp_as S x sort).2)) := by
  refine Ev.mk 0 [some (.ref (mb w)), some (.int x), some (.int sort)] rfl plX1 (Nat.le_of_ble_eq_true rfl) ?_
  have hF : Fm w A A := Fm.rf
  have hl10 := hS.rd.2.1
  have hz : (m.1 16).toInt = (S.2.2.1.length : Int) := by rw [hS.rd.1, nI_toInt (by omega)]
  refine r_aload_n 1 dX1_as_0 rfl rfl lo0 ?_
  refine r_iconst 2 dX1_as_1 rfl ic_0 ?_
  refine rm_put 5 dX1_as_2 rfl hm hF g_X1_76_1 fw_1_0 rfl (by decide) (fun A hm hF => ?_)
  refine r_aload_n 6 dX1_as_5 rfl rfl lo0 ?_
  refine r_iload_n 7 dX1_as_6 rfl rfl lo1 ?_
  refine r_cV1 10 dX1_as_7 rfl sV_X1_153_1 hm.t (by rfl) (ev_X1_isRoad hm) ?_
  refine r_if_neB 15 13 dX1_as_10 rfl (by decide) (fun hc10 => ?_) (fun hc10 => ?_)
  · replace hc10 : btw x.toInt 0 ((m.1 16).toInt - 1) = true := hc10
    obtain ⟨j, q, hj, rfl, hq, hix⟩ := ix_ok (l := S.2.2.1) (x := x) (by rw [hz] at hc10; have := btw_t.mp hc10; omega)
    obtain ⟨h10, h11, h12, h13, h14, h15, hok⟩ := hS.rd.2.2 j q hq
    obtain ⟨o1, o2, o3, o4, o5, o6, o7, o8⟩ := hok
    refine r_iload_n 16 dX1_as_15 rfl rfl lo2 ?_
    refine r_iconst 17 dX1_as_16 rfl ic_0 ?_
    refine r_iconst 18 dX1_as_17 rfl ic_2 ?_
    refine r_cS3 21 dX1_as_18 rfl sS_X1_82 (by rfl) (ev_X1_within 0 2 (by decide) (by decide)) ?_
    refine r_if_neB 27 24 dX1_as_21 rfl (by decide) (fun hc21 => ?_) (fun hc21 => ?_)
    · refine r_aload_n 28 dX1_as_27 rfl rfl lo0 ?_
      refine r_get 31 dX1_as_28 rfl g_X1_37_1 hm.t lo17 ?_
      refine r_iload_n 32 dX1_as_31 rfl rfl lo1 ?_
      refine r_ialdv 33 dX1_as_32 rfl hm.a10 _ rfl h10 (by omega) (by decide) ?_
      refine r_iload_n 34 dX1_as_33 rfl rfl lo2 ?_
      refine r_icmp_lt 41 37 dX1_as_34 rfl (by decide) (fun hc34 => ?_) (fun hc34 => ?_)
      · refine r_aload_n 42 dX1_as_41 rfl rfl lo0 ?_
        refine r_iconst 43 dX1_as_42 rfl ic_2 ?_
        refine rm_i1 46 dX1_as_43 rfl sV_X1_107_1 hm hF (by rfl) (ev_X1_fails hm) (fun A m' hP hm hF => ?_)
        subst hP
        exact r_iret dX1_as_46 rfl (Nat.le_refl _) (Nat.le_refl _) (by have ht := nI_toInt (n := q.1) (by omega); first | exact (qm hm hF (by have e : sp_as S (nI j) sort = (nI 1, sF S (nI 0)) := by { unfold sp_as; rw [hix]; dsimp only; rw [if_pos hc21, if_pos (by have : ¬ (nI q.1).toInt < sort.toInt := fun h => hc34 (i_lt.mpr h); omega)] }; rw [e]; exact ⟨rfl, hS.fault (nI 0)⟩)) | exact (qm hm hF (by have e : sp_as S (nI j) sort = (fl 2, sF S (nI 2)) := by { unfold sp_as; rw [hix]; dsimp only; rw [if_pos hc21, if_neg (by have := i_lt.mp hc34; omega)] }; rw [e]; exact ⟨rfl, hS.fault (nI 2)⟩)))
      · refine r_iconst 38 dX1_as_37 rfl ic_1 ?_
        refine r_goto 46 dX1_as_38 (by decide) ?_
        exact r_iret dX1_as_46 rfl (Nat.le_refl _) (Nat.le_refl _) (by have ht := nI_toInt (n := q.1) (by omega); first | exact (qm hm hF (by have e : sp_as S (nI j) sort = (nI 1, sF S (nI 0)) := by { unfold sp_as; rw [hix]; dsimp only; rw [if_pos hc21, if_pos (by have : ¬ (nI q.1).toInt < sort.toInt := fun h => hc34 (i_lt.mpr h); omega)] }; rw [e]; exact ⟨rfl, hS.fault (nI 0)⟩)) | exact (qm hm hF (by have e : sp_as S (nI j) sort = (fl 2, sF S (nI 2)) := by { unfold sp_as; rw [hix]; dsimp only; rw [if_pos hc21, if_neg (by have := i_lt.mp hc34; omega)] }; rw [e]; exact ⟨rfl, hS.fault (nI 2)⟩)))
    · refine r_bipush 26 dX1_as_24 rfl bi_m2 ?_
      exact r_iret dX1_as_26 rfl (Nat.le_refl _) (Nat.le_refl _) (qm hm hF (by have e : sp_as S (nI j) sort = (-2, sF S (nI 0)) := by { unfold sp_as; rw [hix]; dsimp only; rw [if_neg (by rw [hc21]; decide)] }; rw [e]; exact ⟨rfl, hS.fault (nI 0)⟩))
  · refine r_iconst 14 dX1_as_13 rfl ic_m1 ?_
    exact r_iret dX1_as_14 rfl (Nat.le_refl _) (Nat.le_refl _) (qm hm hF (by have e : sp_as S x sort = (-1, sF S (nI 0)) := by { unfold sp_as; rw [ix_no (by replace hc10 : btw x.toInt 0 ((m.1 16).toInt - 1) = false := hc10; rw [hz] at hc10; exact btw_f.mp hc10)] }; rw [e]; exact ⟨rfl, hS.fault (nI 0)⟩))

