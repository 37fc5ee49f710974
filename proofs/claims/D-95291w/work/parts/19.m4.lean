/-! THE REFERENCE: roads, parts -/
set_option maxRecDepth 100000
set_option maxHeartbeats 4000000 in
theorem ev_X1_ofRoad {w : WE} {A : Hp} {m : MT} {S : ST} {x what : Int32} (hm : MR w A m) (hS : MS m S) : EvI w mX1_ofRoad 3 [.ref (mb w), .int x, .int what] A (sp_ofRoad S x what) := by
  refine Ev.mk 0 [some (.ref (mb w)), some (.int x), some (.int what)] rfl plX1 (Nat.le_of_ble_eq_true rfl) ?_
  have hl10 := hS.rd.2.1
  have hz : (m.1 16).toInt = (S.2.2.1.length : Int) := by rw [hS.rd.1, nI_toInt (by omega)]
  refine r_aload_n 1 dX1_ofRoad_0 rfl rfl lo0 ?_
  refine r_iload_n 2 dX1_ofRoad_1 rfl rfl lo1 ?_
  refine r_cV1 5 dX1_ofRoad_2 rfl sV_X1_153_1 hm.t (by rfl) (ev_X1_isRoad hm) ?_
  refine r_if_neB 10 8 dX1_ofRoad_5 rfl (by decide) (fun hc5 => ?_) (fun hc5 => ?_)
  · obtain ⟨j, q, hj, rfl, hq, hix⟩ := ix_ok (l := S.2.2.1) (x := x) (by rw [hz] at hc5; have := btw_t.mp hc5; omega)
    obtain ⟨h10, h11, h12, h13, h14, h15, hok⟩ := hS.rd.2.2 j q hq
    obtain ⟨o1, o2, o3, o4, o5, o6, o7, o8⟩ := hok
    refine r_iload_n 11 dX1_ofRoad_10 rfl rfl lo2 ?_
    by_cases hw0 : what.toInt = 0
    · refine r_tin (off := 37) 0 48 dX1_ofRoad_11 hw0 (by decide) (by decide) rfl (by decide) ?_
      refine r_aload_n 49 dX1_ofRoad_48 rfl rfl lo0 ?_
      refine r_get 52 dX1_ofRoad_49 rfl g_X1_37_1 hm.t lo17 ?_
      refine r_iload_n 53 dX1_ofRoad_52 rfl rfl lo1 ?_
      refine r_ialdv 54 dX1_ofRoad_53 rfl hm.a10 _ rfl h10 (by omega) (by decide) ?_
      exact r_iret dX1_ofRoad_54 rfl (Nat.le_refl _) (Nat.le_refl _) (rv (by unfold sp_ofRoad; rw [hix]; dsimp only; first | rw [if_pos hw0] | rw [if_neg hw0, if_pos hw1] | rw [if_neg hw0, if_neg hw1, if_pos hw2] | rw [if_neg hw0, if_neg hw1, if_neg hw2, if_pos hw3] | rw [if_neg hw0, if_neg hw1, if_neg hw2, if_neg hw3, if_pos hw4] | rw [if_neg hw0, if_neg hw1, if_neg hw2, if_neg hw3, if_neg hw4, if_pos hw5] | rw [if_neg hw0, if_neg hw1, if_neg hw2, if_neg hw3, if_neg hw4, if_neg hw5]))
    by_cases hw1 : what.toInt = 1
    · refine r_tin (off := 44) 1 55 dX1_ofRoad_11 hw1 (by decide) (by decide) rfl (by decide) ?_
      refine r_aload_n 56 dX1_ofRoad_55 rfl rfl lo0 ?_
      refine r_get 59 dX1_ofRoad_56 rfl g_X1_40_1 hm.t lo18 ?_
      refine r_iload_n 60 dX1_ofRoad_59 rfl rfl lo1 ?_
      refine r_ialdv 61 dX1_ofRoad_60 rfl hm.a11 _ rfl h11 (by omega) (by decide) ?_
      exact r_iret dX1_ofRoad_61 rfl (Nat.le_refl _) (Nat.le_refl _) (rv (by unfold sp_ofRoad; rw [hix]; dsimp only; first | rw [if_pos hw0] | rw [if_neg hw0, if_pos hw1] | rw [if_neg hw0, if_neg hw1, if_pos hw2] | rw [if_neg hw0, if_neg hw1, if_neg hw2, if_pos hw3] | rw [if_neg hw0, if_neg hw1, if_neg hw2, if_neg hw3, if_pos hw4] | rw [if_neg hw0, if_neg hw1, if_neg hw2, if_neg hw3, if_neg hw4, if_pos hw5] | rw [if_neg hw0, if_neg hw1, if_neg hw2, if_neg hw3, if_neg hw4, if_neg hw5]))
    by_cases hw2 : what.toInt = 2
    · refine r_tin (off := 51) 2 62 dX1_ofRoad_11 hw2 (by decide) (by decide) rfl (by decide) ?_
      refine r_aload_n 63 dX1_ofRoad_62 rfl rfl lo0 ?_
      refine r_get 66 dX1_ofRoad_63 rfl g_X1_43_1 hm.t lo19 ?_
      refine r_iload_n 67 dX1_ofRoad_66 rfl rfl lo1 ?_
      refine r_ialdv 68 dX1_ofRoad_67 rfl hm.a12 _ rfl h12 (by omega) (by decide) ?_
      exact r_iret dX1_ofRoad_68 rfl (Nat.le_refl _) (Nat.le_refl _) (rv (by unfold sp_ofRoad; rw [hix]; dsimp only; first | rw [if_pos hw0] | rw [if_neg hw0, if_pos hw1] | rw [if_neg hw0, if_neg hw1, if_pos hw2] | rw [if_neg hw0, if_neg hw1, if_neg hw2, if_pos hw3] | rw [if_neg hw0, if_neg hw1, if_neg hw2, if_neg hw3, if_pos hw4] | rw [if_neg hw0, if_neg hw1, if_neg hw2, if_neg hw3, if_neg hw4, if_pos hw5] | rw [if_neg hw0, if_neg hw1, if_neg hw2, if_neg hw3, if_neg hw4, if_neg hw5]))
    by_cases hw3 : what.toInt = 3
    · refine r_tin (off := 58) 3 69 dX1_ofRoad_11 hw3 (by decide) (by decide) rfl (by decide) ?_
      refine r_aload_n 70 dX1_ofRoad_69 rfl rfl lo0 ?_
      refine r_get 73 dX1_ofRoad_70 rfl g_X1_46_1 hm.t lo20 ?_
      refine r_iload_n 74 dX1_ofRoad_73 rfl rfl lo1 ?_
      refine r_ialdv 75 dX1_ofRoad_74 rfl hm.a13 _ rfl h13 (by omega) (by decide) ?_
      exact r_iret dX1_ofRoad_75 rfl (Nat.le_refl _) (Nat.le_refl _) (rv (by unfold sp_ofRoad; rw [hix]; dsimp only; first | rw [if_pos hw0] | rw [if_neg hw0, if_pos hw1] | rw [if_neg hw0, if_neg hw1, if_pos hw2] | rw [if_neg hw0, if_neg hw1, if_neg hw2, if_pos hw3] | rw [if_neg hw0, if_neg hw1, if_neg hw2, if_neg hw3, if_pos hw4] | rw [if_neg hw0, if_neg hw1, if_neg hw2, if_neg hw3, if_neg hw4, if_pos hw5] | rw [if_neg hw0, if_neg hw1, if_neg hw2, if_neg hw3, if_neg hw4, if_neg hw5]))
    by_cases hw4 : what.toInt = 4
    · refine r_tin (off := 65) 4 76 dX1_ofRoad_11 hw4 (by decide) (by decide) rfl (by decide) ?_
      refine r_aload_n 77 dX1_ofRoad_76 rfl rfl lo0 ?_
      refine r_get 80 dX1_ofRoad_77 rfl g_X1_49_1 hm.t lo21 ?_
      refine r_iload_n 81 dX1_ofRoad_80 rfl rfl lo1 ?_
      refine r_ialdv 82 dX1_ofRoad_81 rfl hm.a14 _ rfl h14 (by omega) (by decide) ?_
      exact r_iret dX1_ofRoad_82 rfl (Nat.le_refl _) (Nat.le_refl _) (rv (by unfold sp_ofRoad; rw [hix]; dsimp only; first | rw [if_pos hw0] | rw [if_neg hw0, if_pos hw1] | rw [if_neg hw0, if_neg hw1, if_pos hw2] | rw [if_neg hw0, if_neg hw1, if_neg hw2, if_pos hw3] | rw [if_neg hw0, if_neg hw1, if_neg hw2, if_neg hw3, if_pos hw4] | rw [if_neg hw0, if_neg hw1, if_neg hw2, if_neg hw3, if_neg hw4, if_pos hw5] | rw [if_neg hw0, if_neg hw1, if_neg hw2, if_neg hw3, if_neg hw4, if_neg hw5]))
    by_cases hw5 : what.toInt = 5
    · refine r_tin (off := 72) 5 83 dX1_ofRoad_11 hw5 (by decide) (by decide) rfl (by decide) ?_
      refine r_aload_n 84 dX1_ofRoad_83 rfl rfl lo0 ?_
      refine r_get 87 dX1_ofRoad_84 rfl g_X1_52_1 hm.t lo22 ?_
      refine r_iload_n 88 dX1_ofRoad_87 rfl rfl lo1 ?_
      refine r_ialdv 89 dX1_ofRoad_88 rfl hm.a15 _ rfl h15 (by omega) (by decide) ?_
      exact r_iret dX1_ofRoad_89 rfl (Nat.le_refl _) (Nat.le_refl _) (rv (by unfold sp_ofRoad; rw [hix]; dsimp only; first | rw [if_pos hw0] | rw [if_neg hw0, if_pos hw1] | rw [if_neg hw0, if_neg hw1, if_pos hw2] | rw [if_neg hw0, if_neg hw1, if_neg hw2, if_pos hw3] | rw [if_neg hw0, if_neg hw1, if_neg hw2, if_neg hw3, if_pos hw4] | rw [if_neg hw0, if_neg hw1, if_neg hw2, if_neg hw3, if_neg hw4, if_pos hw5] | rw [if_neg hw0, if_neg hw1, if_neg hw2, if_neg hw3, if_neg hw4, if_neg hw5]))
    refine r_tout 90 dX1_ofRoad_11 (by have := trivial; omega) (by decide) ?_
    refine r_bipush 92 dX1_ofRoad_90 rfl bi_m2 ?_
    exact r_iret dX1_ofRoad_92 rfl (Nat.le_refl _) (Nat.le_refl _) (rv (by unfold sp_ofRoad; rw [hix]; dsimp only; first | rw [if_pos hw0] | rw [if_neg hw0, if_pos hw1] | rw [if_neg hw0, if_neg hw1, if_pos hw2] | rw [if_neg hw0, if_neg hw1, if_neg hw2, if_pos hw3] | rw [if_neg hw0, if_neg hw1, if_neg hw2, if_neg hw3, if_pos hw4] | rw [if_neg hw0, if_neg hw1, if_neg hw2, if_neg hw3, if_neg hw4, if_pos hw5] | rw [if_neg hw0, if_neg hw1, if_neg hw2, if_neg hw3, if_neg hw4, if_neg hw5]))
  · refine r_iconst 9 dX1_ofRoad_8 rfl ic_m1 ?_
    exact r_iret dX1_ofRoad_9 rfl (Nat.le_refl _) (Nat.le_refl _) (rv (by unfold sp_ofRoad; rw [ix_no (by rw [hz] at hc5; exact btw_f.mp hc5)]))

set_option maxHeartbeats 4000000 in
theorem ev_X1_mend {w : WE} {A : Hp} {m : MT} {S : ST} {x : Int32} (hm : MR w A m) (hS : MS m S) (h9 : ∀ q ∈ S.2.2.1, q.2.2.2.2.2 ≤ 9) : Ev w mX1_mend 2 0 0 [.ref (mb w), .int x] A (QM w A (fun v m' => v = some (.int (sp_mend S x).1) ∧ MS m' (sp_mend S x).2)) := by
  refine Ev.mk 0 [some (.ref (mb w)), some (.int x)] rfl plX1 (Nat.le_of_ble_eq_true rfl) ?_
  have hF : Fm w A A := Fm.rf
  have hl10 := hS.rd.2.1
  have hz : (m.1 16).toInt = (S.2.2.1.length : Int) := by rw [hS.rd.1, nI_toInt (by omega)]
  refine r_aload_n 1 dX1_mend_0 rfl rfl lo0 ?_
  refine r_iload_n 2 dX1_mend_1 rfl rfl lo1 ?_
  refine r_cV1 5 dX1_mend_2 rfl sV_X1_153_1 hm.t (by rfl) (ev_X1_isRoad hm) ?_
  refine r_if_neB 10 8 dX1_mend_5 rfl (by decide) (fun hc5 => ?_) (fun hc5 => ?_)
  · obtain ⟨j, q, hj, rfl, hq, hix⟩ := ix_ok (l := S.2.2.1) (x := x) (by rw [hz] at hc5; have := btw_t.mp hc5; omega)
    obtain ⟨h10, h11, h12, h13, h14, h15, hok⟩ := hS.rd.2.2 j q hq
    obtain ⟨o1, o2, o3, o4, o5, o6, o7, o8⟩ := hok
    have k1 := h9 q (List.mem_of_getElem? hq)
    refine r_aload_n 11 dX1_mend_10 rfl rfl lo0 ?_
    refine r_get 14 dX1_mend_11 rfl g_X1_37_1 hm.t lo17 ?_
    refine r_iload_n 15 dX1_mend_14 rfl rfl lo1 ?_
    refine r_ialdv 16 dX1_mend_15 rfl hm.a10 _ rfl h10 (by omega) (by decide) ?_
    first | refine r_if_neN 22 19 dX1_mend_16 rfl (by decide) (by omega) (fun hc16 => ?_) (fun hc16 => ?_) | refine r_if_ne 22 19 dX1_mend_16 rfl (by decide) (fun hc16 => ?_) (fun hc16 => ?_)
    · refine r_aload_n 23 dX1_mend_22 rfl rfl lo0 ?_
      refine r_get 26 dX1_mend_23 rfl g_X1_52_1 hm.t lo22 ?_
      refine r_iload_n 27 dX1_mend_26 rfl rfl lo1 ?_
      refine r_ialdv 28 dX1_mend_27 rfl hm.a15 _ rfl h15 (by omega) (by decide) ?_
      refine r_bipush 30 dX1_mend_28 rfl bi_9 ?_
      first | refine r_icmp_neN 36 33 dX1_mend_30 rfl (by decide) (by omega) (by omega) (fun hc30 => ?_) (fun hc30 => ?_) | refine r_icmp_ne 36 33 dX1_mend_30 rfl (by decide) (fun hc30 => ?_) (fun hc30 => ?_)
      · refine r_aload_n 37 dX1_mend_36 rfl rfl lo0 ?_
        refine r_get 40 dX1_mend_37 rfl g_X1_52_1 hm.t lo22 ?_
        refine r_iload_n 41 dX1_mend_40 rfl rfl lo1 ?_
        refine r_dup2 42 dX1_mend_41 rfl rfl rfl ?_
        refine r_ialdv 43 dX1_mend_42 rfl hm.a15 _ rfl h15 (by omega) (by decide) ?_
        refine r_iconst 44 dX1_mend_43 rfl ic_1 ?_
        first | refine r_iaddN 45 dX1_mend_44 rfl ?_ | refine r_iadd 45 dX1_mend_44 rfl ?_
        refine rm_iast (N := 10) 46 dX1_mend_45 rfl hm hF (by decide) (by decide) _ rfl rfl (by omega) (by decide) (fun A hm hF => ?_)
        refine r_aload_n 47 dX1_mend_46 rfl rfl lo0 ?_
        refine r_get 50 dX1_mend_47 rfl g_X1_52_1 hm.t lo22 ?_
        refine r_iload_n 51 dX1_mend_50 rfl rfl lo1 ?_
        refine r_ialdv 52 dX1_mend_51 rfl hm.a15 _ rfl (show upd (m.2 15) j (nI (q.2.2.2.2.2 + 1)) j = nI (q.2.2.2.2.2 + 1) from upd_s) (by omega) (by decide) ?_
        exact r_iret dX1_mend_52 rfl (Nat.le_refl _) (Nat.le_refl _) ⟨_, by
              have e : sp_mend S (nI j) = (nI (q.2.2.2.2.2 + 1), sR S (S.2.2.1.set j (md q))) := by
                unfold sp_mend
                rw [hix]
                dsimp only
                rw [if_neg hc16, if_neg hc30, nI_nat (by omega)]
              rw [e]
              refine ⟨rfl, hS.1, hS.mo, hS.rd.mend hq (by omega), hS.tr, hS.fa, hS.sh, hS.ok.1.imp (fun h => ⟨h.1, h.2.1, by dsimp only; rw [h.2.2]; rfl⟩) id, fun p hp => ?_⟩
              rcases List.mem_or_eq_of_mem_set hp with h | h
              · exact hS.ok.2 p h
              · subst h
                exact ⟨by dsimp only; omega, fun h => absurd h hc16⟩, hm, hF⟩
      · refine r_bipush 35 dX1_mend_33 rfl bi_m4 ?_
        exact r_iret dX1_mend_35 rfl (Nat.le_refl _) (Nat.le_refl _) ⟨m, by have e : sp_mend S (nI j) = (-4, S) := by { unfold sp_mend; rw [hix]; dsimp only; rw [if_neg hc16, if_pos hc30] }; rw [e]; exact ⟨rfl, hS⟩, hm, hF⟩
    · refine r_bipush 21 dX1_mend_19 rfl bi_m3 ?_
      exact r_iret dX1_mend_21 rfl (Nat.le_refl _) (Nat.le_refl _) ⟨m, by have e : sp_mend S (nI j) = (-3, S) := by { unfold sp_mend; rw [hix]; dsimp only; rw [if_pos hc16] }; rw [e]; exact ⟨rfl, hS⟩, hm, hF⟩
  · refine r_iconst 9 dX1_mend_8 rfl ic_m1 ?_
    exact r_iret dX1_mend_9 rfl (Nat.le_refl _) (Nat.le_refl _) ⟨m, by have e : sp_mend S x = (-1, S) := by { unfold sp_mend; rw [ix_no (by rw [hz] at hc5; exact btw_f.mp hc5)] }; rw [e]; exact ⟨rfl, hS⟩, hm, hF⟩

set_option maxHeartbeats 4000000 in
theorem ev_X1_road {w : WE} {A : Hp} {m : MT} {S : ST} {kd a b bed len : Int32} (hm : MR w A m) (hS : MS m S) : Ev w mX1_road 3 0 0 [.ref (mb w), .int kd, .int a, .int b, .int bed, .int len] A (QM w A (fun v m' => v = some (.int (sp_road S kd a b bed len).1) ∧ MS m' (sp_road S kd a b bed len).2)) := by
  refine Ev.mk 0 [some (.ref (mb w)), some (.int kd), some (.int a), some (.int b), some (.int bed), some (.int len)] rfl plX1 (Nat.le_of_ble_eq_true rfl) ?_
  have hF : Fm w A A := Fm.rf
  have hl10 := hS.rd.2.1
  have hi6 := hS.ok.le
  have hz : (m.1 5).toInt = (S.1 : Int) := by rw [hS.il, nI_toInt (by omega)]
  refine r_aload_n 1 dX1_road_0 rfl rfl lo0 ?_
  refine r_iload_n 2 dX1_road_1 rfl rfl lo2 ?_
  refine r_cV1 5 dX1_road_2 rfl sV_X1_150_1 hm.t (by rfl) (ev_X1_isIsland hm) ?_
  refine r_if_eqB 21 8 dX1_road_5 rfl (by decide) (fun hc5 => ?_) (fun hc5 => ?_)
  · refine r_iconst 22 dX1_road_21 rfl ic_m1 ?_
    exact r_iret dX1_road_22 rfl (Nat.le_refl _) (Nat.le_refl _) ⟨m, by have e : sp_road S kd a b bed len = (-1, S) := by { unfold sp_road isI; rw [← hz]; simp [hc5] }; rw [e]; exact ⟨rfl, hS⟩, hm, hF⟩
  · refine r_aload_n 9 dX1_road_8 rfl rfl lo0 ?_
    refine r_iload_n 10 dX1_road_9 rfl rfl lo3 ?_
    refine r_cV1 13 dX1_road_10 rfl sV_X1_150_1 hm.t (by rfl) (ev_X1_isIsland hm) ?_
    refine r_if_eqB 21 16 dX1_road_13 rfl (by decide) (fun hc13 => ?_) (fun hc13 => ?_)
    · refine r_iconst 22 dX1_road_21 rfl ic_m1 ?_
      exact r_iret dX1_road_22 rfl (Nat.le_refl _) (Nat.le_refl _) ⟨m, by have e : sp_road S kd a b bed len = (-1, S) := by { unfold sp_road isI; rw [← hz]; simp [hc5, hc13] }; rw [e]; exact ⟨rfl, hS⟩, hm, hF⟩
    · refine r_iload_n 17 dX1_road_16 rfl rfl lo2 ?_
      refine r_iload_n 18 dX1_road_17 rfl rfl lo3 ?_
      refine r_icmp_ne 23 21 dX1_road_18 rfl (by decide) (fun hc18 => ?_) (fun hc18 => ?_)
      · refine r_iload_n 24 dX1_road_23 rfl rfl lo1 ?_
        refine r_iconst 25 dX1_road_24 rfl ic_0 ?_
        refine r_iconst 26 dX1_road_25 rfl ic_2 ?_
        refine r_cS3 29 dX1_road_26 rfl sS_X1_82 (by rfl) (ev_X1_within 0 2 (by decide) (by decide)) ?_
        refine r_if_eqB 55 32 dX1_road_29 rfl (by decide) (fun hc29 => ?_) (fun hc29 => ?_)
        · refine r_bipush 57 dX1_road_55 rfl bi_m2 ?_
          exact r_iret dX1_road_57 rfl (Nat.le_refl _) (Nat.le_refl _) ⟨m, by have e : sp_road S kd a b bed len = (-2, S) := by { unfold sp_road isI; rw [← hz]; simp [hc5, hc13, hc18, hc29] }; rw [e]; exact ⟨rfl, hS⟩, hm, hF⟩
        · refine r_iload 34 dX1_road_32 rfl lo4 ?_
          refine r_iconst 35 dX1_road_34 rfl ic_0 ?_
          refine r_sipush 38 dX1_road_35 rfl si_400 ?_
          refine r_cS3 41 dX1_road_38 rfl sS_X1_82 (by rfl) (ev_X1_within 0 400 (by decide) (by decide)) ?_
          refine r_if_eqB 55 44 dX1_road_41 rfl (by decide) (fun hc41 => ?_) (fun hc41 => ?_)
          · refine r_bipush 57 dX1_road_55 rfl bi_m2 ?_
            exact r_iret dX1_road_57 rfl (Nat.le_refl _) (Nat.le_refl _) ⟨m, by have e : sp_road S kd a b bed len = (-2, S) := by { unfold sp_road isI; rw [← hz]; simp [hc5, hc13, hc18, hc29, hc41] }; rw [e]; exact ⟨rfl, hS⟩, hm, hF⟩
          · refine r_iload 46 dX1_road_44 rfl lo5 ?_
            refine r_iconst 47 dX1_road_46 rfl ic_1 ?_
            refine r_bipush 49 dX1_road_47 rfl bi_6 ?_
            refine r_cS3 52 dX1_road_49 rfl sS_X1_82 (by rfl) (ev_X1_within 1 6 (by decide) (by decide)) ?_
            refine r_if_neB 58 55 dX1_road_52 rfl (by decide) (fun hc52 => ?_) (fun hc52 => ?_)
            · refine r_aload_n 59 dX1_road_58 rfl rfl lo0 ?_
              refine r_getv 62 dX1_road_59 rfl g_X1_123_1 hm.t lo16 hS.rd.1 ?_
              refine r_bipush 64 dX1_road_62 rfl bi_10 ?_
              first | refine r_icmp_neN 70 67 dX1_road_64 rfl (by decide) (by omega) (by omega) (fun hc64 => ?_) (fun hc64 => ?_) | refine r_icmp_ne 70 67 dX1_road_64 rfl (by decide) (fun hc64 => ?_) (fun hc64 => ?_)
              · rw [hz] at hc5 hc13
                obtain ⟨kd, a1, b1, rfl⟩ := btw_nat hc29 (by decide) (by decide)
                obtain ⟨a, a2, b2, rfl⟩ := btw_nat hc5 (by decide) (by omega)
                obtain ⟨b, a3, b3, rfl⟩ := btw_nat hc13 (by decide) (by omega)
                obtain ⟨bed, a4, b4, rfl⟩ := btw_nat hc41 (by decide) (by decide)
                obtain ⟨len, a5, b5, rfl⟩ := btw_nat hc52 (by decide) (by decide)
                refine r_aload_n 71 dX1_road_70 rfl rfl lo0 ?_
                refine r_get 74 dX1_road_71 rfl g_X1_37_1 hm.t lo17 ?_
                refine r_aload_n 75 dX1_road_74 rfl rfl lo0 ?_
                refine r_getv 78 dX1_road_75 rfl g_X1_123_1 hm.t lo16 hS.rd.1 ?_
                refine r_iload_n 79 dX1_road_78 rfl rfl lo1 ?_
                refine rm_iast (N := 10) 80 dX1_road_79 rfl hm hF (by decide) (by decide) _ rfl rfl (by omega) (by decide) (fun A hm hF => ?_)
                refine r_aload_n 81 dX1_road_80 rfl rfl lo0 ?_
                refine r_get 84 dX1_road_81 rfl g_X1_40_1 hm.t lo18 ?_
                refine r_aload_n 85 dX1_road_84 rfl rfl lo0 ?_
                refine r_getv 88 dX1_road_85 rfl g_X1_123_1 hm.t lo16 hS.rd.1 ?_
                refine r_iload_n 89 dX1_road_88 rfl rfl lo2 ?_
                refine rm_iast (N := 10) 90 dX1_road_89 rfl hm hF (by decide) (by decide) _ rfl rfl (by omega) (by decide) (fun A hm hF => ?_)
                refine r_aload_n 91 dX1_road_90 rfl rfl lo0 ?_
                refine r_get 94 dX1_road_91 rfl g_X1_43_1 hm.t lo19 ?_
                refine r_aload_n 95 dX1_road_94 rfl rfl lo0 ?_
                refine r_getv 98 dX1_road_95 rfl g_X1_123_1 hm.t lo16 hS.rd.1 ?_
                refine r_iload_n 99 dX1_road_98 rfl rfl lo3 ?_
                refine rm_iast (N := 10) 100 dX1_road_99 rfl hm hF (by decide) (by decide) _ rfl rfl (by omega) (by decide) (fun A hm hF => ?_)
                refine r_aload_n 101 dX1_road_100 rfl rfl lo0 ?_
                refine r_get 104 dX1_road_101 rfl g_X1_46_1 hm.t lo20 ?_
                refine r_aload_n 105 dX1_road_104 rfl rfl lo0 ?_
                refine r_getv 108 dX1_road_105 rfl g_X1_123_1 hm.t lo16 hS.rd.1 ?_
                refine r_iload 110 dX1_road_108 rfl lo4 ?_
                refine rm_iast (N := 10) 111 dX1_road_110 rfl hm hF (by decide) (by decide) _ rfl rfl (by omega) (by decide) (fun A hm hF => ?_)
                refine r_aload_n 112 dX1_road_111 rfl rfl lo0 ?_
                refine r_get 115 dX1_road_112 rfl g_X1_49_1 hm.t lo21 ?_
                refine r_aload_n 116 dX1_road_115 rfl rfl lo0 ?_
                refine r_getv 119 dX1_road_116 rfl g_X1_123_1 hm.t lo16 hS.rd.1 ?_
                refine r_iload 121 dX1_road_119 rfl lo5 ?_
                refine rm_iast (N := 10) 122 dX1_road_121 rfl hm hF (by decide) (by decide) _ rfl rfl (by omega) (by decide) (fun A hm hF => ?_)
                refine r_aload_n 123 dX1_road_122 rfl rfl lo0 ?_
                refine r_get 126 dX1_road_123 rfl g_X1_52_1 hm.t lo22 ?_
                refine r_aload_n 127 dX1_road_126 rfl rfl lo0 ?_
                refine r_getv 130 dX1_road_127 rfl g_X1_123_1 hm.t lo16 hS.rd.1 ?_
                refine r_iconst 131 dX1_road_130 rfl ic_0 ?_
                refine rm_iast (N := 10) 132 dX1_road_131 rfl hm hF (by decide) (by decide) _ rfl rfl (by omega) (by decide) (fun A hm hF => ?_)
                refine r_aload_n 133 dX1_road_132 rfl rfl lo0 ?_
                refine r_dup 134 dX1_road_133 rfl rfl ?_
                refine r_getv 137 dX1_road_134 rfl g_X1_123_1 hm.t lo16 hS.rd.1 ?_
                refine r_iconst 138 dX1_road_137 rfl ic_1 ?_
                first | refine r_iaddN 139 dX1_road_138 rfl ?_ | refine r_iadd 139 dX1_road_138 rfl ?_
                refine rm_put 142 dX1_road_139 rfl hm hF g_X1_123_1 fw_1_16 rfl (by decide) (fun A hm hF => ?_)
                refine r_aload_n 143 dX1_road_142 rfl rfl lo0 ?_
                refine r_getv 146 dX1_road_143 rfl g_X1_123_1 hm.t lo16 (show nI (S.2.2.1.length + 1) = nI (S.2.2.1.length + 1) from rfl) ?_
                refine r_iconst 147 dX1_road_146 rfl ic_1 ?_
                first | refine r_isubN 148 dX1_road_147 rfl (by omega) ?_ | refine r_isub 148 dX1_road_147 rfl ?_
                exact r_iret dX1_road_148 rfl (Nat.le_refl _) (Nat.le_refl _) ⟨_, by
                      have e : sp_road S (nI kd) (nI a) (nI b) (nI bed) (nI len) = (nI S.2.2.1.length, sR S (S.2.2.1 ++ [(kd, a, b, bed, len, 0)])) := by
                        unfold sp_road isI
                        rw [nI_nat (j := kd) (by omega), nI_nat (j := a) (by omega), nI_nat (j := b) (by omega), nI_nat (j := bed) (by omega), nI_nat (j := len) (by omega)]
                        simp [hc5, hc13, hc18, hc29, hc41, hc52, hc64]
                      rw [e]
                      have hab : ¬ a = b := fun h => hc18 (by rw [h])
                      refine ⟨rfl, hS.1, hS.mo, hS.rd.add (by omega) ⟨by dsimp only; omega, by dsimp only; omega, by dsimp only; omega, hab, by dsimp only; omega, by dsimp only; omega, by dsimp only; omega, Nat.zero_le _⟩, hS.tr, hS.fa, hS.sh, Or.inr (hS.ok.pos (by omega)), fun p hp => ?_⟩
                      rcases List.mem_append.mp hp with h | h
                      · exact hS.ok.2 p h
                      · simp at h
                        subst h
                        exact ⟨Nat.zero_le _, fun _ => rfl⟩, hm, hF⟩
              · refine r_bipush 69 dX1_road_67 rfl bi_m4 ?_
                exact r_iret dX1_road_69 rfl (Nat.le_refl _) (Nat.le_refl _) ⟨m, by have e : sp_road S kd a b bed len = (-4, S) := by { unfold sp_road isI; rw [← hz]; simp [hc5, hc13, hc18, hc29, hc41, hc52, hc64] }; rw [e]; exact ⟨rfl, hS⟩, hm, hF⟩
            · refine r_bipush 57 dX1_road_55 rfl bi_m2 ?_
              exact r_iret dX1_road_57 rfl (Nat.le_refl _) (Nat.le_refl _) ⟨m, by have e : sp_road S kd a b bed len = (-2, S) := by { unfold sp_road isI; rw [← hz]; simp [hc5, hc13, hc18, hc29, hc41, hc52] }; rw [e]; exact ⟨rfl, hS⟩, hm, hF⟩
      · refine r_iconst 22 dX1_road_21 rfl ic_m1 ?_
        exact r_iret dX1_road_22 rfl (Nat.le_refl _) (Nat.le_refl _) ⟨m, by have e : sp_road S kd a b bed len = (-1, S) := by { unfold sp_road isI; rw [← hz]; simp [hc5, hc13, hc18] }; rw [e]; exact ⟨rfl, hS⟩, hm, hF⟩

