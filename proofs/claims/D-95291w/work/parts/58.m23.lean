/-! THE REFERENCE: readSea, sea -/
set_option maxRecDepth 100000
set_option maxHeartbeats 4000000 in
theorem r_zx {w : WE} {M : MI} {R : Room} {k n : Nat} {A A0 : Hp} {pc : Nat} {lo : List (Option Value)} {st : List Value} {P P' : Option Value → MT → Prop} (hq : ∀ v m', P v m' → P' v m') (K : Rn w M R (ZX w (QM w A0 P) 0 0) k n A pc lo st) : Rn w M R (ZX w (QM w A0 P') 0 0) k n A pc lo st := by
  intro p e s m args below meth c H locs ls C hR hL hl T hT X
  obtain ⟨t, a1, o, b1, b2, b3, b4⟩ := K p e s m args below meth c H locs ls C hR hL hl T hT X
  obtain ⟨v, A', d1, d2, m', d3, d4⟩ := b3
  exact ⟨t, a1, o, b1, b2, ⟨v, A', d1, d2, m', hq v m' d3, d4⟩, b4⟩
set_option maxHeartbeats 4000000 in
theorem ev_X1_readSea {w : WE} {A : Hp} {m0 m : MT} {F n r : Nat} {g7 g8 g9 : Nat → Int32} (hm : MR w A m) (J : RdM m0 m (F + 0) r g7 g8 g9) (he : F + n ≤ 240) : Ev w mX1_readSea 5 0 0 [.ref (mb w), .int (nI (F + n))] A (QM w A (rseaQ m0 F (rsea (fun t => m0.2 3 (F + t)) n))) := by
  refine Ev.mk 0 [some (.ref (mb w)), some (.int (nI (F + n)))] rfl plX1 (Nat.le_of_ble_eq_true rfl) ?_
  have hF : Fm w A A := Fm.rf
  rcases h2 : dg (fun t => m0.2 3 (F + t)) n 1 with _ | k
  · skip
    refine r_aload_n 1 dX1_readSea_0 rfl rfl lo0 ?_
    refine r_bipush 3 dX1_readSea_1 rfl bi_115 ?_
    refine r_iload_n 4 dX1_readSea_3 rfl rfl lo1 ?_
    refine r_cV2 7 dX1_readSea_4 rfl sV_X1_126_1 hm.t (by rfl) (ev_rd_code (p := F + 0) J hm he (by omega)) ?_
    refine r_if_neB 12 10 dX1_readSea_7 rfl (by decide) (fun hc7 => ?_) (fun hc7 => ?_)
    · refine r_aload_n 13 dX1_readSea_12 rfl rfl lo0 ?_
      refine r_dup 14 dX1_readSea_13 rfl rfl ?_
      refine r_getv 17 dX1_readSea_14 rfl g_X1_89_1 hm.t lo10 J.hp ?_
      refine r_iconst 18 dX1_readSea_17 rfl ic_1 ?_
      first | refine r_iaddN 19 dX1_readSea_18 rfl ?_ | refine r_iadd 19 dX1_readSea_18 rfl ?_
      refine rm_put 22 dX1_readSea_19 rfl hm hF g_X1_89_1 fw_1_10 rfl (by decide) (fun A hm hF => ?_)
      obtain ⟨m, J, hm⟩ : ∃ m', RdM m0 m' (F + 1) (r) g7 g8 g9 ∧ MR w A m' := ⟨_, J.wat (F + 1), hm⟩
      refine r_aload_n 23 dX1_readSea_22 rfl rfl lo0 ?_
      refine r_aload_n 24 dX1_readSea_23 rfl rfl lo0 ?_
      refine r_aload_n 25 dX1_readSea_24 rfl rfl lo0 ?_
      refine r_getv 28 dX1_readSea_25 rfl g_X1_89_1 hm.t lo10 J.hp ?_
      refine r_iload_n 29 dX1_readSea_28 rfl rfl lo1 ?_
      refine r_cV2 32 dX1_readSea_29 rfl sV_X1_92_1 hm.t (by rfl) (ev_rd_dig (p := F + 1) J hm he (by omega) (dg_sh.symm.trans h2)) ?_
      refine rm_put 35 dX1_readSea_32 rfl hm hF g_X1_114_1 fw_1_11 rfl (by decide) (fun A hm hF => ?_)
      obtain ⟨m, J, hm⟩ : ∃ m', RdM (va_up m0.1 11 (-9), m0.2) m' (F + 1) (r) g7 g8 g9 ∧ MR w A m' := ⟨_, J.wil _, hm⟩
      have hI : m.1 11 = (-9) := (J.2.2.2.2.2.1 11 (by decide) (by decide)).trans (by simp [va_up])
      refine r_aload_n 36 dX1_readSea_35 rfl rfl lo0 ?_
      refine r_getv 39 dX1_readSea_36 rfl g_X1_114_1 hm.t lo11 hI ?_
      refine r_iconst 40 dX1_readSea_39 rfl ic_2 ?_
      refine r_bipush 42 dX1_readSea_40 rfl bi_6 ?_
      refine r_cS3 45 dX1_readSea_42 rfl sS_X1_82 (by rfl) (ev_X1_within 2 6 (by decide) (by decide)) ?_
      refine r_if_neB 50 48 dX1_readSea_45 rfl (by decide) (fun hc45 => ?_) (fun hc45 => ?_)
      · exact absurd hc45 (by decide)
      · refine r_iconst 49 dX1_readSea_48 rfl ic_0 ?_
        exact r_zret dX1_readSea_49 rfl (by first | exact nb_b _ | exact nb_0 | exact nb_1) (Nat.le_refl _) (Nat.le_refl _) (qm hm hF (by rw [rsea_1 (c := (fun t => m0.2 3 (F + t))) (n := n) (cod_t hc7) h2]; exact ⟨rfl, _, _, _, _, _, J⟩))
    · refine r_iconst 11 dX1_readSea_10 rfl ic_0 ?_
      exact r_zret dX1_readSea_11 rfl (by first | exact nb_b _ | exact nb_0 | exact nb_1) (Nat.le_refl _) (Nat.le_refl _) (qm hm hF (by rw [rsea_0 (c := (fun t => m0.2 3 (F + t))) (n := n) (cod_f hc7)]; exact ⟨rfl, _, _, _, _, _, J.il⟩))
  · have k9 := dg_lt h2
    refine r_aload_n 1 dX1_readSea_0 rfl rfl lo0 ?_
    refine r_bipush 3 dX1_readSea_1 rfl bi_115 ?_
    refine r_iload_n 4 dX1_readSea_3 rfl rfl lo1 ?_
    refine r_cV2 7 dX1_readSea_4 rfl sV_X1_126_1 hm.t (by rfl) (ev_rd_code (p := F + 0) J hm he (by omega)) ?_
    refine r_if_neB 12 10 dX1_readSea_7 rfl (by decide) (fun hc7 => ?_) (fun hc7 => ?_)
    · refine r_aload_n 13 dX1_readSea_12 rfl rfl lo0 ?_
      refine r_dup 14 dX1_readSea_13 rfl rfl ?_
      refine r_getv 17 dX1_readSea_14 rfl g_X1_89_1 hm.t lo10 J.hp ?_
      refine r_iconst 18 dX1_readSea_17 rfl ic_1 ?_
      first | refine r_iaddN 19 dX1_readSea_18 rfl ?_ | refine r_iadd 19 dX1_readSea_18 rfl ?_
      refine rm_put 22 dX1_readSea_19 rfl hm hF g_X1_89_1 fw_1_10 rfl (by decide) (fun A hm hF => ?_)
      obtain ⟨m, J, hm⟩ : ∃ m', RdM m0 m' (F + 1) (r) g7 g8 g9 ∧ MR w A m' := ⟨_, J.wat (F + 1), hm⟩
      refine r_aload_n 23 dX1_readSea_22 rfl rfl lo0 ?_
      refine r_aload_n 24 dX1_readSea_23 rfl rfl lo0 ?_
      refine r_aload_n 25 dX1_readSea_24 rfl rfl lo0 ?_
      refine r_getv 28 dX1_readSea_25 rfl g_X1_89_1 hm.t lo10 J.hp ?_
      refine r_iload_n 29 dX1_readSea_28 rfl rfl lo1 ?_
      refine r_cV2 32 dX1_readSea_29 rfl sV_X1_92_1 hm.t (by rfl) (ev_rd_dig (p := F + 1) J hm he (by omega) (dg_sh.symm.trans h2)) ?_
      refine rm_put 35 dX1_readSea_32 rfl hm hF g_X1_114_1 fw_1_11 rfl (by decide) (fun A hm hF => ?_)
      obtain ⟨m, J, hm⟩ : ∃ m', RdM (va_up m0.1 11 (nI k), m0.2) m' (F + 1) (r) g7 g8 g9 ∧ MR w A m' := ⟨_, J.wil _, hm⟩
      have hI : m.1 11 = (nI k) := (J.2.2.2.2.2.1 11 (by decide) (by decide)).trans (by simp [va_up])
      refine r_aload_n 36 dX1_readSea_35 rfl rfl lo0 ?_
      refine r_getv 39 dX1_readSea_36 rfl g_X1_114_1 hm.t lo11 hI ?_
      refine r_iconst 40 dX1_readSea_39 rfl ic_2 ?_
      refine r_bipush 42 dX1_readSea_40 rfl bi_6 ?_
      refine r_cS3 45 dX1_readSea_42 rfl sS_X1_82 (by rfl) (ev_X1_within 2 6 (by decide) (by decide)) ?_
      refine r_if_neB 50 48 dX1_readSea_45 rfl (by decide) (fun hc45 => ?_) (fun hc45 => ?_)
      · refine r_aload_n 51 dX1_readSea_50 rfl rfl lo0 ?_
        refine r_dup 52 dX1_readSea_51 rfl rfl ?_
        refine r_getv 55 dX1_readSea_52 rfl g_X1_89_1 hm.t lo10 J.hp ?_
        refine r_iconst 56 dX1_readSea_55 rfl ic_1 ?_
        first | refine r_iaddN 57 dX1_readSea_56 rfl ?_ | refine r_iadd 57 dX1_readSea_56 rfl ?_
        refine rm_put 60 dX1_readSea_57 rfl hm hF g_X1_89_1 fw_1_10 rfl (by decide) (fun A hm hF => ?_)
        obtain ⟨m, J, hm⟩ : ∃ m', RdM (va_up m0.1 11 (nI k), m0.2) m' (F + 2) (r) g7 g8 g9 ∧ MR w A m' := ⟨_, J.wat (F + 2), hm⟩
        refine r_aload_n 61 dX1_readSea_60 rfl rfl lo0 ?_
        refine r_iconst 62 dX1_readSea_61 rfl ic_0 ?_
        refine rm_put 65 dX1_readSea_62 rfl hm hF g_X1_117_1 fw_1_12 rfl (by decide) (fun A hm hF => ?_)
        obtain ⟨m, J, hm⟩ : ∃ m', RdM (va_up m0.1 11 (nI k), m0.2) m' (F + 2) (0) g7 g8 g9 ∧ MR w A m' := ⟨_, J.wrm 0, hm⟩
        have hk := btw_t.mp hc45
        rw [nI_toInt (by omega)] at hk
        refine r_zx ?_ (lp_X1_readSea (m1 := (va_up m0.1 11 (nI k), m0.2)) (n := n) he 4 2 [] A m g7 g8 g9 (by rfl) (by decide) (by rfl) J MoA.nil hm hF)
        intro v m' hq
        rcases h4 : rms (fun t => m0.2 3 (F + t)) n 4 2 [] with x | l
        · rw [rsea_3 (c := (fun t => m0.2 3 (F + t))) (n := n) (cod_t hc7) h2 (by omega) h4]
          rw [h4] at hq
          obtain ⟨q1, r', k7, k8, k9, q2⟩ := hq
          exact ⟨q1, _, _, _, _, _, q2⟩
        · rw [rsea_4 (c := (fun t => m0.2 3 (F + t))) (n := n) (cod_t hc7) h2 (by omega) h4]
          rw [h4] at hq
          exact hq
      · refine r_iconst 49 dX1_readSea_48 rfl ic_0 ?_
        exact r_zret dX1_readSea_49 rfl (by first | exact nb_b _ | exact nb_0 | exact nb_1) (Nat.le_refl _) (Nat.le_refl _) (qm hm hF (by rw [rsea_2 (c := (fun t => m0.2 3 (F + t))) (n := n) (cod_t hc7) h2 (fun z => btw_f.mp hc45 (by rw [nI_toInt (by omega)]; omega))]; exact ⟨rfl, _, _, _, _, _, J⟩))
    · refine r_iconst 11 dX1_readSea_10 rfl ic_0 ?_
      exact r_zret dX1_readSea_11 rfl (by first | exact nb_b _ | exact nb_0 | exact nb_1) (Nat.le_refl _) (Nat.le_refl _) (qm hm hF (by rw [rsea_0 (c := (fun t => m0.2 3 (F + t))) (n := n) (cod_f hc7)]; exact ⟨rfl, _, _, _, _, _, J.il⟩))

