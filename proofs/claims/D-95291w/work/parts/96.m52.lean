/-! THE CLASS: stake -/
set_option maxRecDepth 100000
set_option maxHeartbeats 4000000 in
theorem ev_X0_stake {w : WE} {A : Hp} {x : XT} {S : ST} {v : Int32} (hx : XS w A x S) : EvP w mX0_stake 3 0 0 [.ref (wb w), .int v] A (some (.int (sp_stake S v).1)) (fun A' => ∃ x' : XT, XS w A' x' (sp_stake S v).2 ∧ Fx w A A') := by
  refine Ev.mk 1 [some (.ref (wb w)), some (.int v), none] rfl plX0 (Nat.le_of_ble_eq_true rfl) ?_
  have hl10 := hx.ok.2.2.2.1
  obtain ⟨cr, pr, gr, r1, r2, r3, r4, r5⟩ := hx.rl.use
  refine r_aload_n 1 dX0_stake_0 rfl rfl lo0 ?_
  refine r_iload_n 2 dX0_stake_1 rfl rfl lo1 ?_
  refine r_cV1 5 dX0_stake_2 rfl sV_X0_158_0 hx.t (by rfl) (ev_X0_noRoad hx) ?_
  refine r_if_eqB 10 8 dX0_stake_5 rfl (by decide) (fun hc5 => ?_) (fun hc5 => ?_)
  rotate_left
  · have e : sp_stake S v = (-1, S) := by
      unfold sp_stake
      rw [ix_no (l := S.2.2.1) (x := v) (by exact btw_f.mp (by simpa using hc5))]
    refine r_iconst 9 dX0_stake_8 rfl ic_m1 ?_
    refine r_iret dX0_stake_9 rfl (by decide) (by decide) ?_
    rw [e]
    exact ⟨rfl, x, hx, Fx.rf⟩
  obtain ⟨j, q, hj, rfl, hq, hix⟩ := ix_ok (l := S.2.2.1) (x := v) (by have := btw_t.mp (by simpa using hc5); omega)
  have hrd := hx.rd j q hq
  have hk := (hx.rok hq).1
  have hql : q.1 = 0 ∨ q.1 = 1 ∨ q.1 = 2 := by omega
  refine r_aload_n 11 dX0_stake_10 rfl rfl lo0 ?_
  refine r_get 14 dX0_stake_11 rfl g_X0_28_0 hx.t lo3 ?_
  refine r_iload_n 15 dX0_stake_14 rfl rfl lo1 ?_
  refine r_cF1 20 dX0_stake_15 rfl sF_X0_112_7 r1 (by rfl) (ev_J2_get r1 r2 hj r3 (by omega) (r5 j hj)) ?_
  rcases hql with hq0 | hq0 | hq0
  · have hs : A.1 (x.2.2.2.2.1 j) = some (.inr (3, rdF (wb w) j q)) := by
      rw [hrd.2]
      show some (Sum.inr (3 + q.1, rdF (wb w) j q)) = _
      rw [hq0]
    have e : sp_stake S (nI j) = (nI j, sT S (tb S.2.2.2.1 4)) := by
      unfold sp_stake
      rw [hix]
      dsimp only
      rw [if_neg (by omega)]
    refine r_castY (ci := 3) 23 dX0_stake_20 rfl ⟨RX6, TX6, 7, "ThirdEbb$Staked", rfl, q1065, Or.inr q1085⟩ hs ?_
    refine r_astore_n 24 dX0_stake_23 rfl rfl rfl (by rfl) ?_
    refine r_aload_n 25 dX0_stake_24 rfl rfl lo2 ?_
    refine r_nD (M' := mX14_staked) (ci := 3) 30 dX0_stake_25 rfl rfl q1067 q1069 q1068 q1072 q1073 q1106 q1085 (fun s hK => (an2 (an2 (an2 (an2 (an2 (an2 (an2 (an2 (an2 (an2 hK.2.1))))))))))) (lw_meth q1074) (by decide) (by decide +kernel) hs (by rfl) (ev_X14_staked0 hrd.2 hq0 hx (by omega)) (fun v A1 hP => ?_) (fun _ _ h => h.elim)
    obtain ⟨rfl, x1, hx1, hF1, -⟩ := hP
    refine r_iret dX0_stake_30 rfl (by decide) (by decide) ?_
    rw [e]
    exact ⟨rfl, x1, hx1, hF1⟩
  · have hs : A.1 (x.2.2.2.2.1 j) = some (.inr (4, rdF (wb w) j q)) := by
      rw [hrd.2]
      show some (Sum.inr (3 + q.1, rdF (wb w) j q)) = _
      rw [hq0]
    have e : sp_stake S (nI j) = (nI j, sT S (tb S.2.2.2.1 4)) := by
      unfold sp_stake
      rw [hix]
      dsimp only
      rw [if_neg (by omega)]
    refine r_castY (ci := 4) 23 dX0_stake_20 rfl ⟨RX7, TX7, 8, "ThirdEbb$Staked", rfl, q1065, Or.inr q1070⟩ hs ?_
    refine r_astore_n 24 dX0_stake_23 rfl rfl rfl (by rfl) ?_
    refine r_aload_n 25 dX0_stake_24 rfl rfl lo2 ?_
    refine r_nD (M' := mX14_staked) (ci := 4) 30 dX0_stake_25 rfl rfl q1067 q1069 q1068 q1072 q1073 q1071 q1070 (fun s hK => (an1 (an2 (an2 (an2 (an2 (an2 (an2 (an2 (an2 (an2 hK.2.1))))))))))) (lw_meth q1074) (by decide) (by decide +kernel) hs (by rfl) (ev_X14_staked1 hrd.2 hq0 hx (by omega)) (fun v A1 hP => ?_) (fun _ _ h => h.elim)
    obtain ⟨rfl, x1, hx1, hF1, -⟩ := hP
    refine r_iret dX0_stake_30 rfl (by decide) (by decide) ?_
    rw [e]
    exact ⟨rfl, x1, hx1, hF1⟩
  · have hs : A.1 (x.2.2.2.2.1 j) = some (.inr (5, rdF (wb w) j q)) := by
      rw [hrd.2]
      show some (Sum.inr (3 + q.1, rdF (wb w) j q)) = _
      rw [hq0]
    have e : sp_stake S (nI j) = (nI 40, sT S (tb S.2.2.2.1 5)) := by
      unfold sp_stake
      rw [hix]
      dsimp only
      rw [if_pos hq0]
    refine r_castY (ci := 5) 23 dX0_stake_20 rfl ⟨RX8, TX8, 9, "ThirdEbb$Staked", rfl, q1065, Or.inr q1082⟩ hs ?_
    refine r_astore_n 24 dX0_stake_23 rfl rfl rfl (by rfl) ?_
    refine r_aload_n 25 dX0_stake_24 rfl rfl lo2 ?_
    refine rx_F0x 30 dX0_stake_25 rfl sF_X0_342_5 hs (by rfl) (ev_X8_staked hrd.2 hk hx hq0) (fun A1 hP => ?_)
    obtain ⟨x1, hx1, hF1, -⟩ := hP
    refine r_iret dX0_stake_30 rfl (by decide) (by decide) ?_
    rw [e]
    exact ⟨rfl, x1, hx1, hF1⟩


