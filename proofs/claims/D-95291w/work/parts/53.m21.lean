/-! THE REFERENCE: readMoon -/
set_option maxRecDepth 100000
def rmoQ (m0 : MT) (e p r : Nat) (g7 g8 g9 : Nat → Int32) (v : Option Value) (m' : MT) : Prop := match rmo (m0.2 3) e p with
  | .inl x => v = some (.int (nI 0)) ∧ ∃ r' g7' g8' g9', RdM m0 m' x r' g7' g8' g9'
  | .inr q => v = some (.int (nI 1)) ∧ RdM m0 m' (p + 6) (r + 1) (upd g7 r (nI q.1)) (upd g8 r (nI q.2.1)) (upd g9 r (nI q.2.2))
set_option maxHeartbeats 4000000 in
theorem ev_X1_readMoon {w : WE} {A : Hp} {m0 m : MT} {p r e : Nat} {g7 g8 g9 : Nat → Int32} (hm : MR w A m) (J : RdM m0 m p r g7 g8 g9) (he : e ≤ 240) (hp2 : p ≤ 800) (hr : r < 3) : Ev w mX1_readMoon 4 0 0 [.ref (mb w), .int (nI e)] A (QM w A (rmoQ m0 e p r g7 g8 g9)) := by
  refine Ev.mk 1 [some (.ref (mb w)), some (.int (nI e)), none] rfl plX1 (Nat.le_of_ble_eq_true rfl) ?_
  have hF : Fm w A A := Fm.rf
  rcases h1 : td (m0.2 3) e (p + 1) 2 30 with x | mo
  · skip
    refine r_aload_n 1 dX1_readMoon_0 rfl rfl lo0 ?_
    refine r_bipush 3 dX1_readMoon_1 rfl bi_109 ?_
    refine r_iload_n 4 dX1_readMoon_3 rfl rfl lo1 ?_
    refine r_cV2 7 dX1_readMoon_4 rfl sV_X1_126_1 hm.t (by rfl) (ev_rd_code J hm he (by omega)) ?_
    refine r_if_neB 12 10 dX1_readMoon_7 rfl (by decide) (fun hc7 => ?_) (fun hc7 => ?_)
    · refine r_aload_n 13 dX1_readMoon_12 rfl rfl lo0 ?_
      refine r_dup 14 dX1_readMoon_13 rfl rfl ?_
      refine r_getv 17 dX1_readMoon_14 rfl g_X1_89_1 hm.t lo10 J.hp ?_
      refine r_iconst 18 dX1_readMoon_17 rfl ic_1 ?_
      first | refine r_iaddN 19 dX1_readMoon_18 rfl ?_ | refine r_iadd 19 dX1_readMoon_18 rfl ?_
      refine rm_put 22 dX1_readMoon_19 rfl hm hF g_X1_89_1 fw_1_10 rfl (by decide) (fun A hm hF => ?_)
      replace hm := hm
      obtain ⟨m, J, hm⟩ : ∃ m', RdM m0 m' _ _ _ _ _ ∧ MR w A m' := ⟨_, J.wat (p + 1), hm⟩
      refine r_aload_n 23 dX1_readMoon_22 rfl rfl lo0 ?_
      refine r_getv 26 dX1_readMoon_23 rfl g_X1_117_1 hm.t lo12 J.hr ?_
      refine r_istore_n 27 dX1_readMoon_26 rfl rfl so2 rfl ?_
      refine r_aload_n 28 dX1_readMoon_27 rfl rfl lo0 ?_
      refine r_get 31 dX1_readMoon_28 rfl g_X1_28_1 hm.t lo13 ?_
      refine r_iload_n 32 dX1_readMoon_31 rfl rfl lo2 ?_
      refine r_aload_n 33 dX1_readMoon_32 rfl rfl lo0 ?_
      refine r_iload_n 34 dX1_readMoon_33 rfl rfl lo1 ?_
      refine r_iconst 35 dX1_readMoon_34 rfl ic_2 ?_
      refine r_bipush 37 dX1_readMoon_35 rfl bi_30 ?_
      refine rm_i3 40 dX1_readMoon_37 rfl sV_X1_133_1 hm hF (by rfl) (ev_rd_td (l := 2) (t := 30) J hm he (by omega) (by omega) (by omega) h1) (fun A m' hP hm hF => ?_)
      have J := hP
      refine rm_iast (N := 3) 41 dX1_readMoon_40 rfl hm hF (by decide) (by decide) _ rfl rfl (by omega) (by decide) (fun A hm hF => ?_)
      replace hm := hm
      obtain ⟨m, J, hm⟩ : ∃ m', RdM m0 m' _ _ _ _ _ ∧ MR w A m' := ⟨_, J.w7 r _, hm⟩
      refine r_aload_n 42 dX1_readMoon_41 rfl rfl lo0 ?_
      refine r_get 45 dX1_readMoon_42 rfl g_X1_28_1 hm.t lo13 ?_
      refine r_iload_n 46 dX1_readMoon_45 rfl rfl lo2 ?_
      refine r_ialdv 47 dX1_readMoon_46 rfl hm.a7 _ rfl J.v7 (by omega) (by decide) ?_
      refine r_bipush 49 dX1_readMoon_47 rfl bi_m9 ?_
      refine r_icmp_ne 54 52 dX1_readMoon_49 rfl (by decide) (fun hc49 => ?_) (fun hc49 => ?_)
      · exact absurd rfl hc49
      · refine r_iconst 53 dX1_readMoon_52 rfl ic_0 ?_
        exact r_zret dX1_readMoon_53 rfl (by first | exact nb_b _ | exact nb_0 | exact nb_1) (Nat.le_refl _) (Nat.le_refl _) (qm hm hF (by unfold rmoQ; rw [rmo_1 (of_decide_eq_true hc7) h1]; exact ⟨rfl, _, _, _, _, J⟩))
    · refine r_iconst 11 dX1_readMoon_10 rfl ic_0 ?_
      exact r_zret dX1_readMoon_11 rfl (by first | exact nb_b _ | exact nb_0 | exact nb_1) (Nat.le_refl _) (Nat.le_refl _) (qm hm hF (by unfold rmoQ; rw [rmo_0 (of_decide_eq_false hc7)]; exact ⟨rfl, _, _, _, _, J⟩))
  · have mo9 := td_le h1
    rcases h2 : dg (m0.2 3) e (p + 3) with _ | pl
    · skip
      refine r_aload_n 1 dX1_readMoon_0 rfl rfl lo0 ?_
      refine r_bipush 3 dX1_readMoon_1 rfl bi_109 ?_
      refine r_iload_n 4 dX1_readMoon_3 rfl rfl lo1 ?_
      refine r_cV2 7 dX1_readMoon_4 rfl sV_X1_126_1 hm.t (by rfl) (ev_rd_code J hm he (by omega)) ?_
      refine r_if_neB 12 10 dX1_readMoon_7 rfl (by decide) (fun hc7 => ?_) (fun hc7 => ?_)
      · refine r_aload_n 13 dX1_readMoon_12 rfl rfl lo0 ?_
        refine r_dup 14 dX1_readMoon_13 rfl rfl ?_
        refine r_getv 17 dX1_readMoon_14 rfl g_X1_89_1 hm.t lo10 J.hp ?_
        refine r_iconst 18 dX1_readMoon_17 rfl ic_1 ?_
        first | refine r_iaddN 19 dX1_readMoon_18 rfl ?_ | refine r_iadd 19 dX1_readMoon_18 rfl ?_
        refine rm_put 22 dX1_readMoon_19 rfl hm hF g_X1_89_1 fw_1_10 rfl (by decide) (fun A hm hF => ?_)
        replace hm := hm
        obtain ⟨m, J, hm⟩ : ∃ m', RdM m0 m' _ _ _ _ _ ∧ MR w A m' := ⟨_, J.wat (p + 1), hm⟩
        refine r_aload_n 23 dX1_readMoon_22 rfl rfl lo0 ?_
        refine r_getv 26 dX1_readMoon_23 rfl g_X1_117_1 hm.t lo12 J.hr ?_
        refine r_istore_n 27 dX1_readMoon_26 rfl rfl so2 rfl ?_
        refine r_aload_n 28 dX1_readMoon_27 rfl rfl lo0 ?_
        refine r_get 31 dX1_readMoon_28 rfl g_X1_28_1 hm.t lo13 ?_
        refine r_iload_n 32 dX1_readMoon_31 rfl rfl lo2 ?_
        refine r_aload_n 33 dX1_readMoon_32 rfl rfl lo0 ?_
        refine r_iload_n 34 dX1_readMoon_33 rfl rfl lo1 ?_
        refine r_iconst 35 dX1_readMoon_34 rfl ic_2 ?_
        refine r_bipush 37 dX1_readMoon_35 rfl bi_30 ?_
        refine rm_i3 40 dX1_readMoon_37 rfl sV_X1_133_1 hm hF (by rfl) (ev_rd_td (l := 2) (t := 30) J hm he (by omega) (by omega) (by omega) h1) (fun A m' hP hm hF => ?_)
        have J := hP
        refine rm_iast (N := 3) 41 dX1_readMoon_40 rfl hm hF (by decide) (by decide) _ rfl rfl (by omega) (by decide) (fun A hm hF => ?_)
        obtain ⟨m, J, hm⟩ : ∃ m', RdM m0 m' (p + 3) (r) (upd g7 r (nI mo)) (g8) (g9) ∧ MR w A m' := ⟨_, J.w7 r _, hm⟩
        refine r_aload_n 42 dX1_readMoon_41 rfl rfl lo0 ?_
        refine r_get 45 dX1_readMoon_42 rfl g_X1_28_1 hm.t lo13 ?_
        refine r_iload_n 46 dX1_readMoon_45 rfl rfl lo2 ?_
        refine r_ialdv 47 dX1_readMoon_46 rfl hm.a7 _ rfl J.v7 (by omega) (by decide) ?_
        refine r_bipush 49 dX1_readMoon_47 rfl bi_m9 ?_
        refine r_icmp_ne 54 52 dX1_readMoon_49 rfl (by decide) (fun hc49 => ?_) (fun hc49 => ?_)
        · refine r_aload_n 55 dX1_readMoon_54 rfl rfl lo0 ?_
          refine r_get 58 dX1_readMoon_55 rfl g_X1_31_1 hm.t lo14 ?_
          refine r_iload_n 59 dX1_readMoon_58 rfl rfl lo2 ?_
          refine r_aload_n 60 dX1_readMoon_59 rfl rfl lo0 ?_
          refine r_aload_n 61 dX1_readMoon_60 rfl rfl lo0 ?_
          refine r_getv 64 dX1_readMoon_61 rfl g_X1_89_1 hm.t lo10 J.hp ?_
          refine r_iload_n 65 dX1_readMoon_64 rfl rfl lo1 ?_
          refine r_cV2 68 dX1_readMoon_65 rfl sV_X1_92_1 hm.t (by rfl) (ev_rd_dig J hm he (by omega) h2) ?_
          refine rm_iast (N := 3) 69 dX1_readMoon_68 rfl hm hF (by decide) (by decide) _ rfl rfl (by omega) (by decide) (fun A hm hF => ?_)
          replace hm := hm
          obtain ⟨m, J, hm⟩ : ∃ m', RdM m0 m' _ _ _ _ _ ∧ MR w A m' := ⟨_, J.w8 r _, hm⟩
          refine r_aload_n 70 dX1_readMoon_69 rfl rfl lo0 ?_
          refine r_get 73 dX1_readMoon_70 rfl g_X1_31_1 hm.t lo14 ?_
          refine r_iload_n 74 dX1_readMoon_73 rfl rfl lo2 ?_
          refine r_ialdv 75 dX1_readMoon_74 rfl hm.a8 _ rfl J.v8 (by omega) (by decide) ?_
          refine r_iconst 76 dX1_readMoon_75 rfl ic_1 ?_
          refine r_icmp_ge 81 79 dX1_readMoon_76 rfl (by decide) (fun hc76 => ?_) (fun hc76 => ?_)
          · exact absurd hc76 (by decide)
          · refine r_iconst 80 dX1_readMoon_79 rfl ic_0 ?_
            exact r_zret dX1_readMoon_80 rfl (by first | exact nb_b _ | exact nb_0 | exact nb_1) (Nat.le_refl _) (Nat.le_refl _) (qm hm hF (by unfold rmoQ; rw [rmo_2 (of_decide_eq_true hc7) h1 (Or.inl h2)]; exact ⟨rfl, _, _, _, _, J⟩))
        · exact absurd hc49 (nI_m9 (by omega))
      · refine r_iconst 11 dX1_readMoon_10 rfl ic_0 ?_
        exact r_zret dX1_readMoon_11 rfl (by first | exact nb_b _ | exact nb_0 | exact nb_1) (Nat.le_refl _) (Nat.le_refl _) (qm hm hF (by unfold rmoQ; rw [rmo_0 (of_decide_eq_false hc7)]; exact ⟨rfl, _, _, _, _, J⟩))
    · have pl9 := dg_lt h2
      rcases pl with _ | pl
      · skip
        refine r_aload_n 1 dX1_readMoon_0 rfl rfl lo0 ?_
        refine r_bipush 3 dX1_readMoon_1 rfl bi_109 ?_
        refine r_iload_n 4 dX1_readMoon_3 rfl rfl lo1 ?_
        refine r_cV2 7 dX1_readMoon_4 rfl sV_X1_126_1 hm.t (by rfl) (ev_rd_code J hm he (by omega)) ?_
        refine r_if_neB 12 10 dX1_readMoon_7 rfl (by decide) (fun hc7 => ?_) (fun hc7 => ?_)
        · refine r_aload_n 13 dX1_readMoon_12 rfl rfl lo0 ?_
          refine r_dup 14 dX1_readMoon_13 rfl rfl ?_
          refine r_getv 17 dX1_readMoon_14 rfl g_X1_89_1 hm.t lo10 J.hp ?_
          refine r_iconst 18 dX1_readMoon_17 rfl ic_1 ?_
          first | refine r_iaddN 19 dX1_readMoon_18 rfl ?_ | refine r_iadd 19 dX1_readMoon_18 rfl ?_
          refine rm_put 22 dX1_readMoon_19 rfl hm hF g_X1_89_1 fw_1_10 rfl (by decide) (fun A hm hF => ?_)
          replace hm := hm
          obtain ⟨m, J, hm⟩ : ∃ m', RdM m0 m' _ _ _ _ _ ∧ MR w A m' := ⟨_, J.wat (p + 1), hm⟩
          refine r_aload_n 23 dX1_readMoon_22 rfl rfl lo0 ?_
          refine r_getv 26 dX1_readMoon_23 rfl g_X1_117_1 hm.t lo12 J.hr ?_
          refine r_istore_n 27 dX1_readMoon_26 rfl rfl so2 rfl ?_
          refine r_aload_n 28 dX1_readMoon_27 rfl rfl lo0 ?_
          refine r_get 31 dX1_readMoon_28 rfl g_X1_28_1 hm.t lo13 ?_
          refine r_iload_n 32 dX1_readMoon_31 rfl rfl lo2 ?_
          refine r_aload_n 33 dX1_readMoon_32 rfl rfl lo0 ?_
          refine r_iload_n 34 dX1_readMoon_33 rfl rfl lo1 ?_
          refine r_iconst 35 dX1_readMoon_34 rfl ic_2 ?_
          refine r_bipush 37 dX1_readMoon_35 rfl bi_30 ?_
          refine rm_i3 40 dX1_readMoon_37 rfl sV_X1_133_1 hm hF (by rfl) (ev_rd_td (l := 2) (t := 30) J hm he (by omega) (by omega) (by omega) h1) (fun A m' hP hm hF => ?_)
          have J := hP
          refine rm_iast (N := 3) 41 dX1_readMoon_40 rfl hm hF (by decide) (by decide) _ rfl rfl (by omega) (by decide) (fun A hm hF => ?_)
          obtain ⟨m, J, hm⟩ : ∃ m', RdM m0 m' (p + 3) (r) (upd g7 r (nI mo)) (g8) (g9) ∧ MR w A m' := ⟨_, J.w7 r _, hm⟩
          refine r_aload_n 42 dX1_readMoon_41 rfl rfl lo0 ?_
          refine r_get 45 dX1_readMoon_42 rfl g_X1_28_1 hm.t lo13 ?_
          refine r_iload_n 46 dX1_readMoon_45 rfl rfl lo2 ?_
          refine r_ialdv 47 dX1_readMoon_46 rfl hm.a7 _ rfl J.v7 (by omega) (by decide) ?_
          refine r_bipush 49 dX1_readMoon_47 rfl bi_m9 ?_
          refine r_icmp_ne 54 52 dX1_readMoon_49 rfl (by decide) (fun hc49 => ?_) (fun hc49 => ?_)
          · refine r_aload_n 55 dX1_readMoon_54 rfl rfl lo0 ?_
            refine r_get 58 dX1_readMoon_55 rfl g_X1_31_1 hm.t lo14 ?_
            refine r_iload_n 59 dX1_readMoon_58 rfl rfl lo2 ?_
            refine r_aload_n 60 dX1_readMoon_59 rfl rfl lo0 ?_
            refine r_aload_n 61 dX1_readMoon_60 rfl rfl lo0 ?_
            refine r_getv 64 dX1_readMoon_61 rfl g_X1_89_1 hm.t lo10 J.hp ?_
            refine r_iload_n 65 dX1_readMoon_64 rfl rfl lo1 ?_
            refine r_cV2 68 dX1_readMoon_65 rfl sV_X1_92_1 hm.t (by rfl) (ev_rd_dig J hm he (by omega) h2) ?_
            refine rm_iast (N := 3) 69 dX1_readMoon_68 rfl hm hF (by decide) (by decide) _ rfl rfl (by omega) (by decide) (fun A hm hF => ?_)
            obtain ⟨m, J, hm⟩ : ∃ m', RdM m0 m' (p + 3) (r) (upd g7 r (nI mo)) (upd g8 r (nI 0)) (g9) ∧ MR w A m' := ⟨_, J.w8 r _, hm⟩
            refine r_aload_n 70 dX1_readMoon_69 rfl rfl lo0 ?_
            refine r_get 73 dX1_readMoon_70 rfl g_X1_31_1 hm.t lo14 ?_
            refine r_iload_n 74 dX1_readMoon_73 rfl rfl lo2 ?_
            refine r_ialdv 75 dX1_readMoon_74 rfl hm.a8 _ rfl J.v8 (by omega) (by decide) ?_
            refine r_iconst 76 dX1_readMoon_75 rfl ic_1 ?_
            refine r_icmp_ge 81 79 dX1_readMoon_76 rfl (by decide) (fun hc76 => ?_) (fun hc76 => ?_)
            · exact absurd hc76 (by decide)
            · refine r_iconst 80 dX1_readMoon_79 rfl ic_0 ?_
              exact r_zret dX1_readMoon_80 rfl (by first | exact nb_b _ | exact nb_0 | exact nb_1) (Nat.le_refl _) (Nat.le_refl _) (qm hm hF (by unfold rmoQ; rw [rmo_2 (of_decide_eq_true hc7) h1 (Or.inr h2)]; exact ⟨rfl, _, _, _, _, J⟩))
          · exact absurd hc49 (nI_m9 (by omega))
        · refine r_iconst 11 dX1_readMoon_10 rfl ic_0 ?_
          exact r_zret dX1_readMoon_11 rfl (by first | exact nb_b _ | exact nb_0 | exact nb_1) (Nat.le_refl _) (Nat.le_refl _) (qm hm hF (by unfold rmoQ; rw [rmo_0 (of_decide_eq_false hc7)]; exact ⟨rfl, _, _, _, _, J⟩))
      · rcases h4 : td (m0.2 3) e (p + 4) 0 (mo - 1) with x | ag
        · skip
          refine r_aload_n 1 dX1_readMoon_0 rfl rfl lo0 ?_
          refine r_bipush 3 dX1_readMoon_1 rfl bi_109 ?_
          refine r_iload_n 4 dX1_readMoon_3 rfl rfl lo1 ?_
          refine r_cV2 7 dX1_readMoon_4 rfl sV_X1_126_1 hm.t (by rfl) (ev_rd_code J hm he (by omega)) ?_
          refine r_if_neB 12 10 dX1_readMoon_7 rfl (by decide) (fun hc7 => ?_) (fun hc7 => ?_)
          · refine r_aload_n 13 dX1_readMoon_12 rfl rfl lo0 ?_
            refine r_dup 14 dX1_readMoon_13 rfl rfl ?_
            refine r_getv 17 dX1_readMoon_14 rfl g_X1_89_1 hm.t lo10 J.hp ?_
            refine r_iconst 18 dX1_readMoon_17 rfl ic_1 ?_
            first | refine r_iaddN 19 dX1_readMoon_18 rfl ?_ | refine r_iadd 19 dX1_readMoon_18 rfl ?_
            refine rm_put 22 dX1_readMoon_19 rfl hm hF g_X1_89_1 fw_1_10 rfl (by decide) (fun A hm hF => ?_)
            replace hm := hm
            obtain ⟨m, J, hm⟩ : ∃ m', RdM m0 m' _ _ _ _ _ ∧ MR w A m' := ⟨_, J.wat (p + 1), hm⟩
            refine r_aload_n 23 dX1_readMoon_22 rfl rfl lo0 ?_
            refine r_getv 26 dX1_readMoon_23 rfl g_X1_117_1 hm.t lo12 J.hr ?_
            refine r_istore_n 27 dX1_readMoon_26 rfl rfl so2 rfl ?_
            refine r_aload_n 28 dX1_readMoon_27 rfl rfl lo0 ?_
            refine r_get 31 dX1_readMoon_28 rfl g_X1_28_1 hm.t lo13 ?_
            refine r_iload_n 32 dX1_readMoon_31 rfl rfl lo2 ?_
            refine r_aload_n 33 dX1_readMoon_32 rfl rfl lo0 ?_
            refine r_iload_n 34 dX1_readMoon_33 rfl rfl lo1 ?_
            refine r_iconst 35 dX1_readMoon_34 rfl ic_2 ?_
            refine r_bipush 37 dX1_readMoon_35 rfl bi_30 ?_
            refine rm_i3 40 dX1_readMoon_37 rfl sV_X1_133_1 hm hF (by rfl) (ev_rd_td (l := 2) (t := 30) J hm he (by omega) (by omega) (by omega) h1) (fun A m' hP hm hF => ?_)
            have J := hP
            refine rm_iast (N := 3) 41 dX1_readMoon_40 rfl hm hF (by decide) (by decide) _ rfl rfl (by omega) (by decide) (fun A hm hF => ?_)
            obtain ⟨m, J, hm⟩ : ∃ m', RdM m0 m' (p + 3) (r) (upd g7 r (nI mo)) (g8) (g9) ∧ MR w A m' := ⟨_, J.w7 r _, hm⟩
            refine r_aload_n 42 dX1_readMoon_41 rfl rfl lo0 ?_
            refine r_get 45 dX1_readMoon_42 rfl g_X1_28_1 hm.t lo13 ?_
            refine r_iload_n 46 dX1_readMoon_45 rfl rfl lo2 ?_
            refine r_ialdv 47 dX1_readMoon_46 rfl hm.a7 _ rfl J.v7 (by omega) (by decide) ?_
            refine r_bipush 49 dX1_readMoon_47 rfl bi_m9 ?_
            refine r_icmp_ne 54 52 dX1_readMoon_49 rfl (by decide) (fun hc49 => ?_) (fun hc49 => ?_)
            · refine r_aload_n 55 dX1_readMoon_54 rfl rfl lo0 ?_
              refine r_get 58 dX1_readMoon_55 rfl g_X1_31_1 hm.t lo14 ?_
              refine r_iload_n 59 dX1_readMoon_58 rfl rfl lo2 ?_
              refine r_aload_n 60 dX1_readMoon_59 rfl rfl lo0 ?_
              refine r_aload_n 61 dX1_readMoon_60 rfl rfl lo0 ?_
              refine r_getv 64 dX1_readMoon_61 rfl g_X1_89_1 hm.t lo10 J.hp ?_
              refine r_iload_n 65 dX1_readMoon_64 rfl rfl lo1 ?_
              refine r_cV2 68 dX1_readMoon_65 rfl sV_X1_92_1 hm.t (by rfl) (ev_rd_dig J hm he (by omega) h2) ?_
              refine rm_iast (N := 3) 69 dX1_readMoon_68 rfl hm hF (by decide) (by decide) _ rfl rfl (by omega) (by decide) (fun A hm hF => ?_)
              obtain ⟨m, J, hm⟩ : ∃ m', RdM m0 m' (p + 3) (r) (upd g7 r (nI mo)) (upd g8 r (nI (pl + 1))) (g9) ∧ MR w A m' := ⟨_, J.w8 r _, hm⟩
              refine r_aload_n 70 dX1_readMoon_69 rfl rfl lo0 ?_
              refine r_get 73 dX1_readMoon_70 rfl g_X1_31_1 hm.t lo14 ?_
              refine r_iload_n 74 dX1_readMoon_73 rfl rfl lo2 ?_
              refine r_ialdv 75 dX1_readMoon_74 rfl hm.a8 _ rfl J.v8 (by omega) (by decide) ?_
              refine r_iconst 76 dX1_readMoon_75 rfl ic_1 ?_
              refine r_icmp_ge 81 79 dX1_readMoon_76 rfl (by decide) (fun hc76 => ?_) (fun hc76 => ?_)
              · refine r_aload_n 82 dX1_readMoon_81 rfl rfl lo0 ?_
                refine r_dup 83 dX1_readMoon_82 rfl rfl ?_
                refine r_getv 86 dX1_readMoon_83 rfl g_X1_89_1 hm.t lo10 J.hp ?_
                refine r_iconst 87 dX1_readMoon_86 rfl ic_1 ?_
                first | refine r_iaddN 88 dX1_readMoon_87 rfl ?_ | refine r_iadd 88 dX1_readMoon_87 rfl ?_
                refine rm_put 91 dX1_readMoon_88 rfl hm hF g_X1_89_1 fw_1_10 rfl (by decide) (fun A hm hF => ?_)
                obtain ⟨m, J, hm⟩ : ∃ m', RdM m0 m' (p + 4) (r) (upd g7 r (nI mo)) (upd g8 r (nI (pl + 1))) (g9) ∧ MR w A m' := ⟨_, J.wat (p + 4), hm⟩
                refine r_aload_n 92 dX1_readMoon_91 rfl rfl lo0 ?_
                refine r_get 95 dX1_readMoon_92 rfl g_X1_34_1 hm.t lo15 ?_
                refine r_iload_n 96 dX1_readMoon_95 rfl rfl lo2 ?_
                refine r_aload_n 97 dX1_readMoon_96 rfl rfl lo0 ?_
                refine r_iload_n 98 dX1_readMoon_97 rfl rfl lo1 ?_
                refine r_iconst 99 dX1_readMoon_98 rfl ic_0 ?_
                refine r_aload_n 100 dX1_readMoon_99 rfl rfl lo0 ?_
                refine r_get 103 dX1_readMoon_100 rfl g_X1_28_1 hm.t lo13 ?_
                refine r_iload_n 104 dX1_readMoon_103 rfl rfl lo2 ?_
                refine r_ialdv 105 dX1_readMoon_104 rfl hm.a7 _ rfl J.v7 (by omega) (by decide) ?_
                refine r_iconst 106 dX1_readMoon_105 rfl ic_1 ?_
                first | refine r_isubN 107 dX1_readMoon_106 rfl (by omega) ?_ | refine r_isub 107 dX1_readMoon_106 rfl ?_
                refine rm_i3 110 dX1_readMoon_107 rfl sV_X1_133_1 hm hF (by rfl) (ev_rd_td (l := 0) (t := mo - 1) J hm he (by omega) (by omega) (by omega) h4) (fun A m' hP hm hF => ?_)
                have J := hP
                refine rm_iast (N := 3) 111 dX1_readMoon_110 rfl hm hF (by decide) (by decide) _ rfl rfl (by omega) (by decide) (fun A hm hF => ?_)
                obtain ⟨m, J, hm⟩ : ∃ m', RdM m0 m' (x) (r) (upd g7 r (nI mo)) (upd g8 r (nI (pl + 1))) (upd g9 r (-9)) ∧ MR w A m' := ⟨_, J.w9 r _, hm⟩
                refine r_aload_n 112 dX1_readMoon_111 rfl rfl lo0 ?_
                refine r_dup 113 dX1_readMoon_112 rfl rfl ?_
                refine r_getv 116 dX1_readMoon_113 rfl g_X1_117_1 hm.t lo12 J.hr ?_
                refine r_iconst 117 dX1_readMoon_116 rfl ic_1 ?_
                first | refine r_iaddN 118 dX1_readMoon_117 rfl ?_ | refine r_iadd 118 dX1_readMoon_117 rfl ?_
                refine rm_put 121 dX1_readMoon_118 rfl hm hF g_X1_117_1 fw_1_12 rfl (by decide) (fun A hm hF => ?_)
                obtain ⟨m, J, hm⟩ : ∃ m', RdM m0 m' (x) (r + 1) (upd g7 r (nI mo)) (upd g8 r (nI (pl + 1))) (upd g9 r (-9)) ∧ MR w A m' := ⟨_, J.wrm (r + 1), hm⟩
                refine r_aload_n 122 dX1_readMoon_121 rfl rfl lo0 ?_
                refine r_get 125 dX1_readMoon_122 rfl g_X1_34_1 hm.t lo15 ?_
                refine r_iload_n 126 dX1_readMoon_125 rfl rfl lo2 ?_
                refine r_ialdv 127 dX1_readMoon_126 rfl hm.a9 _ rfl J.v9 (by omega) (by decide) ?_
                refine r_bipush 129 dX1_readMoon_127 rfl bi_m9 ?_
                refine r_icmp_eq 136 132 dX1_readMoon_129 rfl (by decide) (fun hc129 => ?_) (fun hc129 => ?_)
                · refine r_iconst 137 dX1_readMoon_136 rfl ic_0 ?_
                  exact r_zret dX1_readMoon_137 rfl (by first | exact nb_b _ | exact nb_0 | exact nb_1) (Nat.le_refl _) (Nat.le_refl _) (qm hm hF (by unfold rmoQ; rw [rmo_3 (of_decide_eq_true hc7) h1 h2 (by omega) h4]; exact ⟨rfl, _, _, _, _, J⟩))
                · exact absurd rfl hc129
              · exact absurd (i_le.mpr (by rw [nI_toInt (by omega), nI_toInt (by omega)]; omega)) hc76
            · exact absurd hc49 (nI_m9 (by omega))
          · refine r_iconst 11 dX1_readMoon_10 rfl ic_0 ?_
            exact r_zret dX1_readMoon_11 rfl (by first | exact nb_b _ | exact nb_0 | exact nb_1) (Nat.le_refl _) (Nat.le_refl _) (qm hm hF (by unfold rmoQ; rw [rmo_0 (of_decide_eq_false hc7)]; exact ⟨rfl, _, _, _, _, J⟩))
        · have ag9 := td_le h4
          refine r_aload_n 1 dX1_readMoon_0 rfl rfl lo0 ?_
          refine r_bipush 3 dX1_readMoon_1 rfl bi_109 ?_
          refine r_iload_n 4 dX1_readMoon_3 rfl rfl lo1 ?_
          refine r_cV2 7 dX1_readMoon_4 rfl sV_X1_126_1 hm.t (by rfl) (ev_rd_code J hm he (by omega)) ?_
          refine r_if_neB 12 10 dX1_readMoon_7 rfl (by decide) (fun hc7 => ?_) (fun hc7 => ?_)
          · refine r_aload_n 13 dX1_readMoon_12 rfl rfl lo0 ?_
            refine r_dup 14 dX1_readMoon_13 rfl rfl ?_
            refine r_getv 17 dX1_readMoon_14 rfl g_X1_89_1 hm.t lo10 J.hp ?_
            refine r_iconst 18 dX1_readMoon_17 rfl ic_1 ?_
            first | refine r_iaddN 19 dX1_readMoon_18 rfl ?_ | refine r_iadd 19 dX1_readMoon_18 rfl ?_
            refine rm_put 22 dX1_readMoon_19 rfl hm hF g_X1_89_1 fw_1_10 rfl (by decide) (fun A hm hF => ?_)
            replace hm := hm
            obtain ⟨m, J, hm⟩ : ∃ m', RdM m0 m' _ _ _ _ _ ∧ MR w A m' := ⟨_, J.wat (p + 1), hm⟩
            refine r_aload_n 23 dX1_readMoon_22 rfl rfl lo0 ?_
            refine r_getv 26 dX1_readMoon_23 rfl g_X1_117_1 hm.t lo12 J.hr ?_
            refine r_istore_n 27 dX1_readMoon_26 rfl rfl so2 rfl ?_
            refine r_aload_n 28 dX1_readMoon_27 rfl rfl lo0 ?_
            refine r_get 31 dX1_readMoon_28 rfl g_X1_28_1 hm.t lo13 ?_
            refine r_iload_n 32 dX1_readMoon_31 rfl rfl lo2 ?_
            refine r_aload_n 33 dX1_readMoon_32 rfl rfl lo0 ?_
            refine r_iload_n 34 dX1_readMoon_33 rfl rfl lo1 ?_
            refine r_iconst 35 dX1_readMoon_34 rfl ic_2 ?_
            refine r_bipush 37 dX1_readMoon_35 rfl bi_30 ?_
            refine rm_i3 40 dX1_readMoon_37 rfl sV_X1_133_1 hm hF (by rfl) (ev_rd_td (l := 2) (t := 30) J hm he (by omega) (by omega) (by omega) h1) (fun A m' hP hm hF => ?_)
            have J := hP
            refine rm_iast (N := 3) 41 dX1_readMoon_40 rfl hm hF (by decide) (by decide) _ rfl rfl (by omega) (by decide) (fun A hm hF => ?_)
            obtain ⟨m, J, hm⟩ : ∃ m', RdM m0 m' (p + 3) (r) (upd g7 r (nI mo)) (g8) (g9) ∧ MR w A m' := ⟨_, J.w7 r _, hm⟩
            refine r_aload_n 42 dX1_readMoon_41 rfl rfl lo0 ?_
            refine r_get 45 dX1_readMoon_42 rfl g_X1_28_1 hm.t lo13 ?_
            refine r_iload_n 46 dX1_readMoon_45 rfl rfl lo2 ?_
            refine r_ialdv 47 dX1_readMoon_46 rfl hm.a7 _ rfl J.v7 (by omega) (by decide) ?_
            refine r_bipush 49 dX1_readMoon_47 rfl bi_m9 ?_
            refine r_icmp_ne 54 52 dX1_readMoon_49 rfl (by decide) (fun hc49 => ?_) (fun hc49 => ?_)
            · refine r_aload_n 55 dX1_readMoon_54 rfl rfl lo0 ?_
              refine r_get 58 dX1_readMoon_55 rfl g_X1_31_1 hm.t lo14 ?_
              refine r_iload_n 59 dX1_readMoon_58 rfl rfl lo2 ?_
              refine r_aload_n 60 dX1_readMoon_59 rfl rfl lo0 ?_
              refine r_aload_n 61 dX1_readMoon_60 rfl rfl lo0 ?_
              refine r_getv 64 dX1_readMoon_61 rfl g_X1_89_1 hm.t lo10 J.hp ?_
              refine r_iload_n 65 dX1_readMoon_64 rfl rfl lo1 ?_
              refine r_cV2 68 dX1_readMoon_65 rfl sV_X1_92_1 hm.t (by rfl) (ev_rd_dig J hm he (by omega) h2) ?_
              refine rm_iast (N := 3) 69 dX1_readMoon_68 rfl hm hF (by decide) (by decide) _ rfl rfl (by omega) (by decide) (fun A hm hF => ?_)
              obtain ⟨m, J, hm⟩ : ∃ m', RdM m0 m' (p + 3) (r) (upd g7 r (nI mo)) (upd g8 r (nI (pl + 1))) (g9) ∧ MR w A m' := ⟨_, J.w8 r _, hm⟩
              refine r_aload_n 70 dX1_readMoon_69 rfl rfl lo0 ?_
              refine r_get 73 dX1_readMoon_70 rfl g_X1_31_1 hm.t lo14 ?_
              refine r_iload_n 74 dX1_readMoon_73 rfl rfl lo2 ?_
              refine r_ialdv 75 dX1_readMoon_74 rfl hm.a8 _ rfl J.v8 (by omega) (by decide) ?_
              refine r_iconst 76 dX1_readMoon_75 rfl ic_1 ?_
              refine r_icmp_ge 81 79 dX1_readMoon_76 rfl (by decide) (fun hc76 => ?_) (fun hc76 => ?_)
              · refine r_aload_n 82 dX1_readMoon_81 rfl rfl lo0 ?_
                refine r_dup 83 dX1_readMoon_82 rfl rfl ?_
                refine r_getv 86 dX1_readMoon_83 rfl g_X1_89_1 hm.t lo10 J.hp ?_
                refine r_iconst 87 dX1_readMoon_86 rfl ic_1 ?_
                first | refine r_iaddN 88 dX1_readMoon_87 rfl ?_ | refine r_iadd 88 dX1_readMoon_87 rfl ?_
                refine rm_put 91 dX1_readMoon_88 rfl hm hF g_X1_89_1 fw_1_10 rfl (by decide) (fun A hm hF => ?_)
                obtain ⟨m, J, hm⟩ : ∃ m', RdM m0 m' (p + 4) (r) (upd g7 r (nI mo)) (upd g8 r (nI (pl + 1))) (g9) ∧ MR w A m' := ⟨_, J.wat (p + 4), hm⟩
                refine r_aload_n 92 dX1_readMoon_91 rfl rfl lo0 ?_
                refine r_get 95 dX1_readMoon_92 rfl g_X1_34_1 hm.t lo15 ?_
                refine r_iload_n 96 dX1_readMoon_95 rfl rfl lo2 ?_
                refine r_aload_n 97 dX1_readMoon_96 rfl rfl lo0 ?_
                refine r_iload_n 98 dX1_readMoon_97 rfl rfl lo1 ?_
                refine r_iconst 99 dX1_readMoon_98 rfl ic_0 ?_
                refine r_aload_n 100 dX1_readMoon_99 rfl rfl lo0 ?_
                refine r_get 103 dX1_readMoon_100 rfl g_X1_28_1 hm.t lo13 ?_
                refine r_iload_n 104 dX1_readMoon_103 rfl rfl lo2 ?_
                refine r_ialdv 105 dX1_readMoon_104 rfl hm.a7 _ rfl J.v7 (by omega) (by decide) ?_
                refine r_iconst 106 dX1_readMoon_105 rfl ic_1 ?_
                first | refine r_isubN 107 dX1_readMoon_106 rfl (by omega) ?_ | refine r_isub 107 dX1_readMoon_106 rfl ?_
                refine rm_i3 110 dX1_readMoon_107 rfl sV_X1_133_1 hm hF (by rfl) (ev_rd_td (l := 0) (t := mo - 1) J hm he (by omega) (by omega) (by omega) h4) (fun A m' hP hm hF => ?_)
                have J := hP
                refine rm_iast (N := 3) 111 dX1_readMoon_110 rfl hm hF (by decide) (by decide) _ rfl rfl (by omega) (by decide) (fun A hm hF => ?_)
                obtain ⟨m, J, hm⟩ : ∃ m', RdM m0 m' (p + 6) (r) (upd g7 r (nI mo)) (upd g8 r (nI (pl + 1))) (upd g9 r (nI ag)) ∧ MR w A m' := ⟨_, J.w9 r _, hm⟩
                refine r_aload_n 112 dX1_readMoon_111 rfl rfl lo0 ?_
                refine r_dup 113 dX1_readMoon_112 rfl rfl ?_
                refine r_getv 116 dX1_readMoon_113 rfl g_X1_117_1 hm.t lo12 J.hr ?_
                refine r_iconst 117 dX1_readMoon_116 rfl ic_1 ?_
                first | refine r_iaddN 118 dX1_readMoon_117 rfl ?_ | refine r_iadd 118 dX1_readMoon_117 rfl ?_
                refine rm_put 121 dX1_readMoon_118 rfl hm hF g_X1_117_1 fw_1_12 rfl (by decide) (fun A hm hF => ?_)
                obtain ⟨m, J, hm⟩ : ∃ m', RdM m0 m' (p + 6) (r + 1) (upd g7 r (nI mo)) (upd g8 r (nI (pl + 1))) (upd g9 r (nI ag)) ∧ MR w A m' := ⟨_, J.wrm (r + 1), hm⟩
                refine r_aload_n 122 dX1_readMoon_121 rfl rfl lo0 ?_
                refine r_get 125 dX1_readMoon_122 rfl g_X1_34_1 hm.t lo15 ?_
                refine r_iload_n 126 dX1_readMoon_125 rfl rfl lo2 ?_
                refine r_ialdv 127 dX1_readMoon_126 rfl hm.a9 _ rfl J.v9 (by omega) (by decide) ?_
                refine r_bipush 129 dX1_readMoon_127 rfl bi_m9 ?_
                refine r_icmp_eq 136 132 dX1_readMoon_129 rfl (by decide) (fun hc129 => ?_) (fun hc129 => ?_)
                · exact absurd hc129 (nI_m9 (by omega))
                · refine r_iconst 133 dX1_readMoon_132 rfl ic_1 ?_
                  refine r_goto 137 dX1_readMoon_133 (by decide) ?_
                  exact r_zret dX1_readMoon_137 rfl (by first | exact nb_b _ | exact nb_0 | exact nb_1) (Nat.le_refl _) (Nat.le_refl _) (qm hm hF (by unfold rmoQ; rw [rmo_4 (of_decide_eq_true hc7) h1 h2 (by omega) h4]; exact ⟨rfl, J⟩))
              · exact absurd (i_le.mpr (by rw [nI_toInt (by omega), nI_toInt (by omega)]; omega)) hc76
            · exact absurd hc49 (nI_m9 (by omega))
          · refine r_iconst 11 dX1_readMoon_10 rfl ic_0 ?_
            exact r_zret dX1_readMoon_11 rfl (by first | exact nb_b _ | exact nb_0 | exact nb_1) (Nat.le_refl _) (Nat.le_refl _) (qm hm hF (by unfold rmoQ; rw [rmo_0 (of_decide_eq_false hc7)]; exact ⟨rfl, _, _, _, _, J⟩))

