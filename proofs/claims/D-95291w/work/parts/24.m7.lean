/-! THE REFERENCE: put, cell, sheet -/
set_option maxRecDepth 100000
set_option maxHeartbeats 4000000 in
theorem ev_X1_put {w : WE} {A : Hp} {m : MT} {S : ST} {k i v : Int32} (hm : MR w A m) (hS : MS m S) : Ev w mX1_put 3 0 0 [.ref (mb w), .int k, .int i, .int v] A (QM w A (fun r m' => r = some (.int (sp_put S k i v).1) ∧ MS m' (sp_put S k i v).2)) := by
  refine Ev.mk 0 [some (.ref (mb w)), some (.int k), some (.int i), some (.int v)] rfl plX1 (Nat.le_of_ble_eq_true rfl) ?_
  have hF : Fm w A A := Fm.rf
  refine r_aload_n 1 dX1_put_0 rfl rfl lo0 ?_
  refine r_iconst 2 dX1_put_1 rfl ic_0 ?_
  refine rm_put 5 dX1_put_2 rfl hm hF g_X1_76_1 fw_1_0 rfl (by decide) (fun A hm hF => ?_)
  refine r_iload_n 6 dX1_put_5 rfl rfl lo1 ?_
  refine r_cS1 9 dX1_put_6 rfl sS_X1_96 (by rfl) ev_X1_isSheet ?_
  refine r_if_neB 14 12 dX1_put_9 rfl (by decide) (fun hc9 => ?_) (fun hc9 => ?_)
  · obtain ⟨k, hk, rfl⟩ := sheet_ok hc9
    obtain ⟨sn, ss⟩ := hS.sh k hk
    rcases hq : S.2.2.2.2.2 k with _ | q
    · have h1 := sn hq
      refine r_aload_n 15 dX1_put_14 rfl rfl lo0 ?_
      refine r_get 18 dX1_put_15 rfl g_X1_9_1 hm.t lo2 ?_
      refine r_iload_n 19 dX1_put_18 rfl rfl lo1 ?_
      refine r_ialdv 20 dX1_put_19 rfl hm.a1 _ rfl h1 (by omega) (by decide) ?_
      refine r_bipush 22 dX1_put_20 rfl bi_m9 ?_
      refine r_icmp_ne 31 25 dX1_put_22 rfl (by decide) (fun hc22 => ?_) (fun hc22 => ?_)
      · exact absurd rfl hc22
      · refine r_aload_n 26 dX1_put_25 rfl rfl lo0 ?_
        refine r_iconst 27 dX1_put_26 rfl ic_1 ?_
        refine rm_i1 30 dX1_put_27 rfl sV_X1_107_1 hm hF (by rfl) (ev_X1_fails hm) (fun A m' hP hm hF => ?_)
        subst hP
        exact r_iret dX1_put_30 rfl (Nat.le_refl _) (Nat.le_refl _) (qm hm hF (by have e : sp_put S (nI k) i v = (fl 1, sF S (nI 1)) := by { unfold sp_put; rw [if_neg (fun h => h hc9), nI_nat (by omega), hq] }; rw [e]; exact ⟨rfl, hS.fault (nI 1)⟩))
    · obtain ⟨h1, l1, h2, l2, h3⟩ := ss q hq
      refine r_aload_n 15 dX1_put_14 rfl rfl lo0 ?_
      refine r_get 18 dX1_put_15 rfl g_X1_9_1 hm.t lo2 ?_
      refine r_iload_n 19 dX1_put_18 rfl rfl lo1 ?_
      refine r_ialdv 20 dX1_put_19 rfl hm.a1 _ rfl h1 (by omega) (by decide) ?_
      refine r_bipush 22 dX1_put_20 rfl bi_m9 ?_
      refine r_icmp_ne 31 25 dX1_put_22 rfl (by decide) (fun hc22 => ?_) (fun hc22 => ?_)
      · refine r_iload_n 32 dX1_put_31 rfl rfl lo2 ?_
        refine r_iconst 33 dX1_put_32 rfl ic_0 ?_
        refine r_aload_n 34 dX1_put_33 rfl rfl lo0 ?_
        refine r_get 37 dX1_put_34 rfl g_X1_13_1 hm.t lo3 ?_
        refine r_iload_n 38 dX1_put_37 rfl rfl lo1 ?_
        refine r_ialdv 39 dX1_put_38 rfl hm.a2 _ rfl h2 (by omega) (by decide) ?_
        refine r_iconst 40 dX1_put_39 rfl ic_1 ?_
        refine r_isub 41 dX1_put_40 rfl ?_
        refine r_cS3 44 dX1_put_41 rfl sS_X1_82 (by rfl) (ev_X1_within 0 ((q.2.1 : Int) - 1) (by decide) (sub1_toInt (by omega))) ?_
        refine r_if_neB 53 47 dX1_put_44 rfl (by decide) (fun hc44 => ?_) (fun hc44 => ?_)
        · obtain ⟨j, j1, j2, rfl⟩ := btw_nat hc44 (by decide) (by omega)
          refine r_aload_n 54 dX1_put_53 rfl rfl lo0 ?_
          refine r_get 57 dX1_put_54 rfl g_X1_16_1 hm.t lo4 ?_
          refine r_bipush 59 dX1_put_57 rfl bi_60 ?_
          refine r_iload_n 60 dX1_put_59 rfl rfl lo1 ?_
          first | refine r_imulN 61 dX1_put_60 rfl ?_ | refine r_imul 61 dX1_put_60 rfl ?_
          refine r_iload_n 62 dX1_put_61 rfl rfl lo2 ?_
          first | refine r_iaddN 63 dX1_put_62 rfl ?_ | refine r_iadd 63 dX1_put_62 rfl ?_
          refine r_aload_n 64 dX1_put_63 rfl rfl lo0 ?_
          refine r_get 67 dX1_put_64 rfl g_X1_9_1 hm.t lo2 ?_
          refine r_iload_n 68 dX1_put_67 rfl rfl lo1 ?_
          refine r_ialdv 69 dX1_put_68 rfl hm.a1 _ rfl h1 (by omega) (by decide) ?_
          first | refine r_if_neN 77 72 dX1_put_69 rfl (by decide) (by omega) (fun hc69 => ?_) (fun hc69 => ?_) | refine r_if_ne 77 72 dX1_put_69 rfl (by decide) (fun hc69 => ?_) (fun hc69 => ?_)
          · refine r_aload_n 78 dX1_put_77 rfl rfl lo0 ?_
            refine r_get 81 dX1_put_78 rfl g_X1_9_1 hm.t lo2 ?_
            refine r_iload_n 82 dX1_put_81 rfl rfl lo1 ?_
            refine r_ialdv 83 dX1_put_82 rfl hm.a1 _ rfl h1 (by omega) (by decide) ?_
            refine r_iconst 84 dX1_put_83 rfl ic_1 ?_
            first | refine r_icmp_neN 92 87 dX1_put_84 rfl (by decide) (by omega) (by omega) (fun hc84 => ?_) (fun hc84 => ?_) | refine r_icmp_ne 92 87 dX1_put_84 rfl (by decide) (fun hc84 => ?_) (fun hc84 => ?_)
            · refine r_iload_n 93 dX1_put_92 rfl rfl lo3 ?_
              refine rm_iast (N := 240) 94 dX1_put_93 rfl hm hF (by decide) (by decide) _ rfl rfl (by omega) (by decide) (fun A hm hF => ?_)
              refine r_iconst 95 dX1_put_94 rfl ic_1 ?_
              exact r_iret dX1_put_95 rfl (Nat.le_refl _) (Nat.le_refl _) (qm hm hF (by
                    have e : sp_put S (nI k) (nI j) v = (nI 1, sF (sH S k (some (q.1, q.2.1, upd q.2.2 j (nar q.1 v)))) (nI 0)) := by
                      unfold sp_put
                      rw [if_neg (fun h => h hc9), nI_nat (j := k) (by omega), hq]
                      dsimp only
                      rw [if_pos hc44, nI_nat (j := j) (by omega)]
                    rw [e]
                    refine ⟨rfl, (hS.fault (nI 0)).arr (m' := (va_up m.1 0 (nI 0), _)) rfl (fun a h1 h2 => by simp [va_up]; omega) (hS.sh.put hk hq (by omega) rfl rfl ?_)⟩
                    first | rw [nar_0 hc69] | rw [nar_1 hc69 hc84] | rw [nar_2 hc69 hc84]
                    all_goals rfl))
            · refine r_iload_n 88 dX1_put_87 rfl rfl lo3 ?_
              refine r_i2s 89 dX1_put_88 rfl rfl ?_
              refine r_goto 93 dX1_put_89 (by decide) ?_
              refine rm_iast (N := 240) 94 dX1_put_93 rfl hm hF (by decide) (by decide) _ rfl rfl (by omega) (by decide) (fun A hm hF => ?_)
              refine r_iconst 95 dX1_put_94 rfl ic_1 ?_
              exact r_iret dX1_put_95 rfl (Nat.le_refl _) (Nat.le_refl _) (qm hm hF (by
                    have e : sp_put S (nI k) (nI j) v = (nI 1, sF (sH S k (some (q.1, q.2.1, upd q.2.2 j (nar q.1 v)))) (nI 0)) := by
                      unfold sp_put
                      rw [if_neg (fun h => h hc9), nI_nat (j := k) (by omega), hq]
                      dsimp only
                      rw [if_pos hc44, nI_nat (j := j) (by omega)]
                    rw [e]
                    refine ⟨rfl, (hS.fault (nI 0)).arr (m' := (va_up m.1 0 (nI 0), _)) rfl (fun a h1 h2 => by simp [va_up]; omega) (hS.sh.put hk hq (by omega) rfl rfl ?_)⟩
                    first | rw [nar_0 hc69] | rw [nar_1 hc69 hc84] | rw [nar_2 hc69 hc84]
                    all_goals rfl))
          · refine r_iload_n 73 dX1_put_72 rfl rfl lo3 ?_
            refine r_i2b 74 dX1_put_73 rfl rfl ?_
            refine r_goto 93 dX1_put_74 (by decide) ?_
            refine rm_iast (N := 240) 94 dX1_put_93 rfl hm hF (by decide) (by decide) _ rfl rfl (by omega) (by decide) (fun A hm hF => ?_)
            refine r_iconst 95 dX1_put_94 rfl ic_1 ?_
            exact r_iret dX1_put_95 rfl (Nat.le_refl _) (Nat.le_refl _) (qm hm hF (by
                  have e : sp_put S (nI k) (nI j) v = (nI 1, sF (sH S k (some (q.1, q.2.1, upd q.2.2 j (nar q.1 v)))) (nI 0)) := by
                    unfold sp_put
                    rw [if_neg (fun h => h hc9), nI_nat (j := k) (by omega), hq]
                    dsimp only
                    rw [if_pos hc44, nI_nat (j := j) (by omega)]
                  rw [e]
                  refine ⟨rfl, (hS.fault (nI 0)).arr (m' := (va_up m.1 0 (nI 0), _)) rfl (fun a h1 h2 => by simp [va_up]; omega) (hS.sh.put hk hq (by omega) rfl rfl ?_)⟩
                  first | rw [nar_0 hc69] | rw [nar_1 hc69 hc84] | rw [nar_2 hc69 hc84]
                  all_goals rfl))
        · refine r_aload_n 48 dX1_put_47 rfl rfl lo0 ?_
          refine r_iconst 49 dX1_put_48 rfl ic_3 ?_
          refine rm_i1 52 dX1_put_49 rfl sV_X1_107_1 hm hF (by rfl) (ev_X1_fails hm) (fun A m' hP hm hF => ?_)
          subst hP
          exact r_iret dX1_put_52 rfl (Nat.le_refl _) (Nat.le_refl _) (qm hm hF (by have e : sp_put S (nI k) i v = (fl 3, sF S (nI 3)) := by { unfold sp_put; rw [if_neg (fun h => h hc9), nI_nat (by omega), hq]; dsimp only; rw [if_neg (by rw [hc44]; decide)] }; rw [e]; exact ⟨rfl, hS.fault (nI 3)⟩))
      · exact absurd hc22 (nI_m9 (by omega))
  · refine r_iconst 13 dX1_put_12 rfl ic_m1 ?_
    exact r_iret dX1_put_13 rfl (Nat.le_refl _) (Nat.le_refl _) (qm hm hF (by have e : sp_put S k i v = (-1, sF S (nI 0)) := by { unfold sp_put; rw [if_pos (by rw [hc9]; decide)] }; rw [e]; exact ⟨rfl, hS.fault (nI 0)⟩))

set_option maxHeartbeats 4000000 in
theorem ev_X1_cell {w : WE} {A : Hp} {m : MT} {S : ST} {k i sort : Int32} (hm : MR w A m) (hS : MS m S) : Ev w mX1_cell 3 0 0 [.ref (mb w), .int k, .int i, .int sort] A (QM w A (fun r m' => r = some (.long (sp_cell S k i sort).1) ∧ MS m' (sp_cell S k i sort).2)) := by
  refine Ev.mk 0 [some (.ref (mb w)), some (.int k), some (.int i), some (.int sort)] rfl plX1 (Nat.le_of_ble_eq_true rfl) ?_
  have hF : Fm w A A := Fm.rf
  refine r_aload_n 1 dX1_cell_0 rfl rfl lo0 ?_
  refine r_iconst 2 dX1_cell_1 rfl ic_0 ?_
  refine rm_put 5 dX1_cell_2 rfl hm hF g_X1_76_1 fw_1_0 rfl (by decide) (fun A hm hF => ?_)
  refine r_iload_n 6 dX1_cell_5 rfl rfl lo1 ?_
  refine r_cS1 9 dX1_cell_6 rfl sS_X1_96 (by rfl) ev_X1_isSheet ?_
  refine r_if_eqB 19 12 dX1_cell_9 rfl (by decide) (fun hc9 => ?_) (fun hc9 => ?_)
  · refine r_ldc2 22 dX1_cell_19 rfl q1355 ?_
    exact r_lret dX1_cell_22 rfl (Nat.le_refl _) (Nat.le_refl _) (qm hm hF (by have e : sp_cell S k i sort = (LOST, sF S (nI 0)) := by { unfold sp_cell; rw [if_pos (by first | exact Or.inl (by rw [hc9]; decide) | exact Or.inr (by rw [hc16]; decide))] }; rw [e]; exact ⟨rfl, hS.fault (nI 0)⟩))
  · refine r_iload_n 13 dX1_cell_12 rfl rfl lo3 ?_
    refine r_cS1 16 dX1_cell_13 rfl sS_X1_100 (by rfl) ev_X1_isSort ?_
    refine r_if_neB 23 19 dX1_cell_16 rfl (by decide) (fun hc16 => ?_) (fun hc16 => ?_)
    · obtain ⟨k, hk, rfl⟩ := sheet_ok hc9
      obtain ⟨sn, ss⟩ := hS.sh k hk
      rcases hq : S.2.2.2.2.2 k with _ | q
      · have h1 := sn hq
        refine r_aload_n 24 dX1_cell_23 rfl rfl lo0 ?_
        refine r_get 27 dX1_cell_24 rfl g_X1_9_1 hm.t lo2 ?_
        refine r_iload_n 28 dX1_cell_27 rfl rfl lo1 ?_
        refine r_ialdv 29 dX1_cell_28 rfl hm.a1 _ rfl h1 (by omega) (by decide) ?_
        refine r_bipush 31 dX1_cell_29 rfl bi_m9 ?_
        refine r_icmp_eq 50 34 dX1_cell_31 rfl (by decide) (fun hc31 => ?_) (fun hc31 => ?_)
        · refine r_aload_n 51 dX1_cell_50 rfl rfl lo0 ?_
          refine r_get 54 dX1_cell_51 rfl g_X1_9_1 hm.t lo2 ?_
          refine r_iload_n 55 dX1_cell_54 rfl rfl lo1 ?_
          refine r_ialdv 56 dX1_cell_55 rfl hm.a1 _ rfl h1 (by omega) (by decide) ?_
          refine r_bipush 58 dX1_cell_56 rfl bi_m9 ?_
          refine r_icmp_ne 67 61 dX1_cell_58 rfl (by decide) (fun hc58 => ?_) (fun hc58 => ?_)
          · exact absurd rfl hc58
          · refine r_aload_n 62 dX1_cell_61 rfl rfl lo0 ?_
            refine r_iconst 63 dX1_cell_62 rfl ic_1 ?_
            refine rm_l1 66 dX1_cell_63 rfl sV_X1_207_1 hm hF (by rfl) (ev_X1_lost hm) (fun A m' hP hm hF => ?_)
            subst hP
            exact r_lret dX1_cell_66 rfl (Nat.le_refl _) (Nat.le_refl _) (qm hm hF (by have e : sp_cell S (nI k) i sort = (LOST, sF S (nI 1)) := by { unfold sp_cell; rw [if_neg (fun h => h.elim (fun a => a hc9) (fun a => a hc16)), nI_nat (j := k) (by omega), hq] }; rw [e]; exact ⟨rfl, hS.fault (nI 1)⟩))
        · exact absurd rfl hc31
      · obtain ⟨h1, l1, h2, l2, h3⟩ := ss q hq
        refine r_aload_n 24 dX1_cell_23 rfl rfl lo0 ?_
        refine r_get 27 dX1_cell_24 rfl g_X1_9_1 hm.t lo2 ?_
        refine r_iload_n 28 dX1_cell_27 rfl rfl lo1 ?_
        refine r_ialdv 29 dX1_cell_28 rfl hm.a1 _ rfl h1 (by omega) (by decide) ?_
        refine r_bipush 31 dX1_cell_29 rfl bi_m9 ?_
        refine r_icmp_eq 50 34 dX1_cell_31 rfl (by decide) (fun hc31 => ?_) (fun hc31 => ?_)
        · exact absurd hc31 (nI_m9 (by omega))
        · refine r_aload_n 35 dX1_cell_34 rfl rfl lo0 ?_
          refine r_get 38 dX1_cell_35 rfl g_X1_9_1 hm.t lo2 ?_
          refine r_iload_n 39 dX1_cell_38 rfl rfl lo1 ?_
          refine r_ialdv 40 dX1_cell_39 rfl hm.a1 _ rfl h1 (by omega) (by decide) ?_
          refine r_iload_n 41 dX1_cell_40 rfl rfl lo3 ?_
          refine r_icmp_eq 50 44 dX1_cell_41 rfl (by decide) (fun hc41 => ?_) (fun hc41 => ?_)
          · refine r_aload_n 51 dX1_cell_50 rfl rfl lo0 ?_
            refine r_get 54 dX1_cell_51 rfl g_X1_9_1 hm.t lo2 ?_
            refine r_iload_n 55 dX1_cell_54 rfl rfl lo1 ?_
            refine r_ialdv 56 dX1_cell_55 rfl hm.a1 _ rfl h1 (by omega) (by decide) ?_
            refine r_bipush 58 dX1_cell_56 rfl bi_m9 ?_
            refine r_icmp_ne 67 61 dX1_cell_58 rfl (by decide) (fun hc58 => ?_) (fun hc58 => ?_)
            · refine r_iload_n 68 dX1_cell_67 rfl rfl lo2 ?_
              refine r_iconst 69 dX1_cell_68 rfl ic_0 ?_
              refine r_aload_n 70 dX1_cell_69 rfl rfl lo0 ?_
              refine r_get 73 dX1_cell_70 rfl g_X1_13_1 hm.t lo3 ?_
              refine r_iload_n 74 dX1_cell_73 rfl rfl lo1 ?_
              refine r_ialdv 75 dX1_cell_74 rfl hm.a2 _ rfl h2 (by omega) (by decide) ?_
              refine r_iconst 76 dX1_cell_75 rfl ic_1 ?_
              refine r_isub 77 dX1_cell_76 rfl ?_
              refine r_cS3 80 dX1_cell_77 rfl sS_X1_82 (by rfl) (ev_X1_within 0 ((q.2.1 : Int) - 1) (by decide) (sub1_toInt (by omega))) ?_
              refine r_if_neB 89 83 dX1_cell_80 rfl (by decide) (fun hc80 => ?_) (fun hc80 => ?_)
              · obtain ⟨j, j1, j2, rfl⟩ := btw_nat hc80 (by decide) (by omega)
                refine r_aload_n 90 dX1_cell_89 rfl rfl lo0 ?_
                refine r_get 93 dX1_cell_90 rfl g_X1_16_1 hm.t lo4 ?_
                refine r_bipush 95 dX1_cell_93 rfl bi_60 ?_
                refine r_iload_n 96 dX1_cell_95 rfl rfl lo1 ?_
                first | refine r_imulN 97 dX1_cell_96 rfl ?_ | refine r_imul 97 dX1_cell_96 rfl ?_
                refine r_iload_n 98 dX1_cell_97 rfl rfl lo2 ?_
                first | refine r_iaddN 99 dX1_cell_98 rfl ?_ | refine r_iadd 99 dX1_cell_98 rfl ?_
                refine r_ialdv 100 dX1_cell_99 rfl hm.a3 _ rfl (h3 j (by omega)) (by omega) (by decide) ?_
                refine r_i2l 101 dX1_cell_100 rfl rfl ?_
                exact r_lret dX1_cell_101 rfl (Nat.le_refl _) (Nat.le_refl _) (qm hm hF (by
                      have e : sp_cell S (nI k) (nI j) sort = ((q.2.2 j).toInt64, sF S (nI 0)) := by
                        unfold sp_cell
                        rw [if_neg (fun h => h.elim (fun a => a hc9) (fun a => a hc16)), nI_nat (j := k) (by omega), hq]
                        dsimp only
                        rw [if_neg (fun h => h (by rw [← hc41, nI_toInt (by omega)])), if_pos hc80, nI_nat (j := j) (by omega)]
                      rw [e]
                      exact ⟨rfl, hS.fault (nI 0)⟩))
              · refine r_aload_n 84 dX1_cell_83 rfl rfl lo0 ?_
                refine r_iconst 85 dX1_cell_84 rfl ic_3 ?_
                refine rm_l1 88 dX1_cell_85 rfl sV_X1_207_1 hm hF (by rfl) (ev_X1_lost hm) (fun A m' hP hm hF => ?_)
                subst hP
                exact r_lret dX1_cell_88 rfl (Nat.le_refl _) (Nat.le_refl _) (qm hm hF (by have e : sp_cell S (nI k) i sort = (LOST, sF S (nI 3)) := by { unfold sp_cell; rw [if_neg (fun h => h.elim (fun a => a hc9) (fun a => a hc16)), nI_nat (j := k) (by omega), hq]; dsimp only; rw [if_neg (fun h => h (by rw [← hc41, nI_toInt (by omega)])), if_neg (by rw [hc80]; decide)] }; rw [e]; exact ⟨rfl, hS.fault (nI 3)⟩))
            · exact absurd hc58 (nI_m9 (by omega))
          · refine r_aload_n 45 dX1_cell_44 rfl rfl lo0 ?_
            refine r_iconst 46 dX1_cell_45 rfl ic_2 ?_
            refine rm_l1 49 dX1_cell_46 rfl sV_X1_207_1 hm hF (by rfl) (ev_X1_lost hm) (fun A m' hP hm hF => ?_)
            subst hP
            exact r_lret dX1_cell_49 rfl (Nat.le_refl _) (Nat.le_refl _) (qm hm hF (by have e : sp_cell S (nI k) i sort = (LOST, sF S (nI 2)) := by { unfold sp_cell; rw [if_neg (fun h => h.elim (fun a => a hc9) (fun a => a hc16)), nI_nat (j := k) (by omega), hq]; dsimp only; rw [if_pos (by intro h; apply hc41; exact i_eq.mpr (by rw [nI_toInt (by omega)]; exact h))] }; rw [e]; exact ⟨rfl, hS.fault (nI 2)⟩))
    · refine r_ldc2 22 dX1_cell_19 rfl q1355 ?_
      exact r_lret dX1_cell_22 rfl (Nat.le_refl _) (Nat.le_refl _) (qm hm hF (by have e : sp_cell S k i sort = (LOST, sF S (nI 0)) := by { unfold sp_cell; rw [if_pos (by first | exact Or.inl (by rw [hc9]; decide) | exact Or.inr (by rw [hc16]; decide))] }; rw [e]; exact ⟨rfl, hS.fault (nI 0)⟩))

set_option maxHeartbeats 4000000 in
theorem lp_X1_sheet {w : WE} {A0 : Hp} {m : MT} {S : ST} {k sort n : Nat} (hS : MS m S) (hk : k < 4) (hs : sort ≤ 2) (hn : n ≤ 60) : ∀ (j t : Nat) (A : Hp) (f : Nat → Int32), t + j = 60 → (∀ p, f p = if 60 * k ≤ p ∧ p < 60 * k + t then nI 0 else m.2 3 p) → MR w A (va_up m.1 0 (nI 0), va_up (va_up (va_up m.2 1 (upd (m.2 1) k (nI sort))) 2 (upd (m.2 2) k (nI n))) 3 f) → Fm w A0 A → Rn w mX1_sheet (rmX 3 0 0) (ZX w (QM w A0 (fun v m' => v = some (.int (nI 1)) ∧ MS m' (sF (sH S k (some (sort, n, fun _ => 0))) (nI 0)))) 0 0) 0 0 A 57 [some (.ref (mb w)), some (.int (nI k)), some (.int (nI sort)), some (.int (nI n)), some (.int (nI t))] [] := by
  intro j
  induction j with
  | zero =>
    intro t A f htj hf hm hF
    have ht : t = 60 := by omega
    subst ht
    refine r_iload 59 dX1_sheet_57 rfl lo4 ?_
    refine r_bipush 61 dX1_sheet_59 rfl bi_60 ?_
    first | refine r_icmp_geN 83 64 dX1_sheet_61 rfl (by decide) (by omega) (by omega) (fun hc61 => ?_) (fun hc61 => ?_) | refine r_icmp_ge 83 64 dX1_sheet_61 rfl (by decide) (fun hc61 => ?_) (fun hc61 => ?_)
    · refine r_iconst 84 dX1_sheet_83 rfl ic_1 ?_
      exact r_iret dX1_sheet_84 rfl (Nat.le_refl _) (Nat.le_refl _) (qm hm hF ⟨rfl, (hS.fault (nI 0)).arr (m' := (va_up m.1 0 (nI 0), _)) rfl (fun a h1 h2 => by simp [va_up, show a ≠ 1 by omega, show a ≠ 2 by omega, show a ≠ 3 by omega]) (hS.sh.new hs hn rfl rfl rfl hf)⟩)
    · exact absurd hc61 (by omega)
  | succ j ih =>
    intro t A f htj hf hm hF
    refine r_iload 59 dX1_sheet_57 rfl lo4 ?_
    refine r_bipush 61 dX1_sheet_59 rfl bi_60 ?_
    first | refine r_icmp_geN 83 64 dX1_sheet_61 rfl (by decide) (by omega) (by omega) (fun hc61 => ?_) (fun hc61 => ?_) | refine r_icmp_ge 83 64 dX1_sheet_61 rfl (by decide) (fun hc61 => ?_) (fun hc61 => ?_)
    · exact absurd hc61 (by omega)
    · refine r_aload_n 65 dX1_sheet_64 rfl rfl lo0 ?_
      refine r_get 68 dX1_sheet_65 rfl g_X1_16_1 hm.t lo4 ?_
      refine r_bipush 70 dX1_sheet_68 rfl bi_60 ?_
      refine r_iload_n 71 dX1_sheet_70 rfl rfl lo1 ?_
      first | refine r_imulN 72 dX1_sheet_71 rfl ?_ | refine r_imul 72 dX1_sheet_71 rfl ?_
      refine r_iload 74 dX1_sheet_72 rfl lo4 ?_
      first | refine r_iaddN 75 dX1_sheet_74 rfl ?_ | refine r_iadd 75 dX1_sheet_74 rfl ?_
      refine r_iconst 76 dX1_sheet_75 rfl ic_0 ?_
      refine rm_iast (N := 240) 77 dX1_sheet_76 rfl hm hF (by decide) (by decide) _ rfl rfl (by omega) (by decide) (fun A hm hF => ?_)
      rw [bx_uu] at hm
      refine r_iinc 80 dX1_sheet_77 rfl lo4 inc1 so4 rfl ?_
      refine r_goto 57 dX1_sheet_80 (by decide) ?_
      refine ih (t + 1) A _ (by omega) (fun p => ?_) hm hF
      show upd f (60 * k + t) (nI 0) p = _
      by_cases e : p = 60 * k + t
      · subst e
        rw [upd_s, if_pos (by omega)]
      · rw [upd_n e, hf]
        by_cases h : 60 * k ≤ p ∧ p < 60 * k + t
        · rw [if_pos h, if_pos (by omega)]
        · rw [if_neg h, if_neg (by omega)]

set_option maxHeartbeats 4000000 in
theorem ev_X1_sheet {w : WE} {A : Hp} {m : MT} {S : ST} {k sort n : Int32} (hm : MR w A m) (hS : MS m S) : Ev w mX1_sheet 3 0 0 [.ref (mb w), .int k, .int sort, .int n] A (QM w A (fun r m' => r = some (.int (sp_sheet S k sort n).1) ∧ MS m' (sp_sheet S k sort n).2)) := by
  refine Ev.mk 1 [some (.ref (mb w)), some (.int k), some (.int sort), some (.int n), none] rfl plX1 (Nat.le_of_ble_eq_true rfl) ?_
  have hF : Fm w A A := Fm.rf
  refine r_aload_n 1 dX1_sheet_0 rfl rfl lo0 ?_
  refine r_iconst 2 dX1_sheet_1 rfl ic_0 ?_
  refine rm_put 5 dX1_sheet_2 rfl hm hF g_X1_76_1 fw_1_0 rfl (by decide) (fun A hm hF => ?_)
  refine r_iload_n 6 dX1_sheet_5 rfl rfl lo1 ?_
  refine r_cS1 9 dX1_sheet_6 rfl sS_X1_96 (by rfl) ev_X1_isSheet ?_
  refine r_if_neB 14 12 dX1_sheet_9 rfl (by decide) (fun hc9 => ?_) (fun hc9 => ?_)
  · refine r_iload_n 15 dX1_sheet_14 rfl rfl lo2 ?_
    refine r_cS1 18 dX1_sheet_15 rfl sS_X1_100 (by rfl) ev_X1_isSort ?_
    refine r_if_eqB 27 21 dX1_sheet_18 rfl (by decide) (fun hc18 => ?_) (fun hc18 => ?_)
    · refine r_bipush 29 dX1_sheet_27 rfl bi_m2 ?_
      exact r_iret dX1_sheet_29 rfl (Nat.le_refl _) (Nat.le_refl _) (qm hm hF (by have e : sp_sheet S k sort n = (-2, sF S (nI 0)) := by { unfold sp_sheet; rw [if_neg (fun h => h hc9), if_pos (by first | exact Or.inl (by rw [hc18]; decide) | exact Or.inr (by have h : ¬ n.toInt ≤ (nI 60).toInt := fun h => hc24 (i_le.mpr h); rw [nI_toInt (by decide)] at h; omega))] }; rw [e]; exact ⟨rfl, hS.fault (nI 0)⟩))
    · refine r_iload_n 22 dX1_sheet_21 rfl rfl lo3 ?_
      refine r_bipush 24 dX1_sheet_22 rfl bi_60 ?_
      refine r_icmp_le 30 27 dX1_sheet_24 rfl (by decide) (fun hc24 => ?_) (fun hc24 => ?_)
      · refine r_iload_n 31 dX1_sheet_30 rfl rfl lo3 ?_
        refine r_if_ge 40 34 dX1_sheet_31 rfl (by decide) (fun hc31 => ?_) (fun hc31 => ?_)
        · obtain ⟨k, hk, rfl⟩ := sheet_ok hc9
          obtain ⟨sort, s1, s2, rfl⟩ := btw_nat hc18 (by decide) (by decide)
          obtain ⟨n, n1, rfl, n3⟩ := i_nat (x := n) (by have := i_le.mp hc31; rw [z_om] at this; exact this)
          have n2 : n ≤ 60 := by
            have := i_le.mp hc24
            rw [nI_toInt n1, nI_toInt (by decide)] at this
            omega
          refine r_aload_n 41 dX1_sheet_40 rfl rfl lo0 ?_
          refine r_get 44 dX1_sheet_41 rfl g_X1_9_1 hm.t lo2 ?_
          refine r_iload_n 45 dX1_sheet_44 rfl rfl lo1 ?_
          refine r_iload_n 46 dX1_sheet_45 rfl rfl lo2 ?_
          refine rm_iast (N := 4) 47 dX1_sheet_46 rfl hm hF (by decide) (by decide) _ rfl rfl (by omega) (by decide) (fun A hm hF => ?_)
          refine r_aload_n 48 dX1_sheet_47 rfl rfl lo0 ?_
          refine r_get 51 dX1_sheet_48 rfl g_X1_13_1 hm.t lo3 ?_
          refine r_iload_n 52 dX1_sheet_51 rfl rfl lo1 ?_
          refine r_iload_n 53 dX1_sheet_52 rfl rfl lo3 ?_
          refine rm_iast (N := 4) 54 dX1_sheet_53 rfl hm hF (by decide) (by decide) _ rfl rfl (by omega) (by decide) (fun A hm hF => ?_)
          refine r_iconst 55 dX1_sheet_54 rfl ic_0 ?_
          refine r_istore 57 dX1_sheet_55 rfl so4 rfl ?_
          have e : sp_sheet S (nI k) (nI sort) (nI n) = (nI 1, sF (sH S k (some (sort, n, fun _ => 0))) (nI 0)) := by
            unfold sp_sheet
            rw [if_neg (fun h => h hc9), if_neg (fun h => h.elim (fun a => a hc18) (fun a => by omega)), if_neg (by omega), nI_nat (j := k) (by omega), nI_nat (j := sort) (by omega), nI_nat (j := n) (by omega)]
          rw [e]
          exact lp_X1_sheet hS hk (by omega) n2 60 0 A _ (by omega) (fun p => by rw [if_neg (by omega)]; rfl) (hm.eta 3) hF
        · refine r_aload_n 35 dX1_sheet_34 rfl rfl lo0 ?_
          refine r_iconst 36 dX1_sheet_35 rfl ic_4 ?_
          refine rm_i1 39 dX1_sheet_36 rfl sV_X1_107_1 hm hF (by rfl) (ev_X1_fails hm) (fun A m' hP hm hF => ?_)
          subst hP
          exact r_iret dX1_sheet_39 rfl (Nat.le_refl _) (Nat.le_refl _) (qm hm hF (by have hlt : n.toInt < 0 := by { have h : ¬ (0 : Int32).toInt ≤ n.toInt := fun h => hc31 (i_le.mpr h); rw [z_om] at h; omega }; have e : sp_sheet S k sort n = (fl 4, sF S (nI 4)) := by { unfold sp_sheet; rw [if_neg (fun h => h hc9), if_neg (fun h => h.elim (fun a => a hc18) (fun a => by omega)), if_pos hlt] }; rw [e]; exact ⟨rfl, hS.fault (nI 4)⟩))
      · refine r_bipush 29 dX1_sheet_27 rfl bi_m2 ?_
        exact r_iret dX1_sheet_29 rfl (Nat.le_refl _) (Nat.le_refl _) (qm hm hF (by have e : sp_sheet S k sort n = (-2, sF S (nI 0)) := by { unfold sp_sheet; rw [if_neg (fun h => h hc9), if_pos (by first | exact Or.inl (by rw [hc18]; decide) | exact Or.inr (by have h : ¬ n.toInt ≤ (nI 60).toInt := fun h => hc24 (i_le.mpr h); rw [nI_toInt (by decide)] at h; omega))] }; rw [e]; exact ⟨rfl, hS.fault (nI 0)⟩))
  · refine r_iconst 13 dX1_sheet_12 rfl ic_m1 ?_
    exact r_iret dX1_sheet_13 rfl (Nat.le_refl _) (Nat.le_refl _) (qm hm hF (by have e : sp_sheet S k sort n = (-1, sF S (nI 0)) := by { unfold sp_sheet; rw [if_pos (by rw [hc9]; decide)] }; rw [e]; exact ⟨rfl, hS.fault (nI 0)⟩))

