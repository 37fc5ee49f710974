/-! THE REFERENCE: readSea -/
set_option maxRecDepth 100000
theorem ev_moon_no {w : WE} {A : Hp} {m0 m : MT} {p r e x : Nat} {g7 g8 g9 : Nat → Int32} (hm : MR w A m) (J : RdM m0 m p r g7 g8 g9) (he : e ≤ 240) (hp2 : p ≤ 800) (hr : r < 3) (hx : rmo (m0.2 3) e p = .inl x) : EvMi w mX1_readMoon 4 [.ref (mb w), .int (nI e)] A (bI false) (fun m' => ∃ r' g7' g8' g9', RdM m0 m' x r' g7' g8' g9') :=
  (ev_X1_readMoon hm J he hp2 hr).post (fun v A' q => by
    obtain ⟨m', q1, q3, q4⟩ := q
    unfold rmoQ at q1
    rw [hx] at q1
    exact ⟨m', q1, q3, q4⟩)
theorem ev_moon_ok {w : WE} {A : Hp} {m0 m : MT} {p r e : Nat} {q : Mo} {g7 g8 g9 : Nat → Int32} (hm : MR w A m) (J : RdM m0 m p r g7 g8 g9) (he : e ≤ 240) (hp2 : p ≤ 800) (hr : r < 3) (hx : rmo (m0.2 3) e p = .inr q) : EvMi w mX1_readMoon 4 [.ref (mb w), .int (nI e)] A (bI true) (fun m' => RdM m0 m' (p + 6) (r + 1) (upd g7 r (nI q.1)) (upd g8 r (nI q.2.1)) (upd g9 r (nI q.2.2))) :=
  (ev_X1_readMoon hm J he hp2 hr).post (fun v A' q => by
    obtain ⟨m', q1, q3, q4⟩ := q
    unfold rmoQ at q1
    rw [hx] at q1
    exact ⟨m', q1, q3, q4⟩)
set_option maxHeartbeats 4000000 in
theorem lp_X1_readSea {w : WE} {A0 : Hp} {m1 : MT} {F n : Nat} (he : F + n ≤ 240) : ∀ (j p : Nat) (acc : List Mo) (A : Hp) (m : MT) (g7 g8 g9 : Nat → Int32), acc.length + j = 4 → acc.length ≤ 3 → p = 2 + 7 * acc.length → RdM m1 m (F + p) acc.length g7 g8 g9 → MoA g7 g8 g9 acc → MR w A m → Fm w A0 A → Rn w mX1_readSea (rmX 5 0 0) (ZX w (QM w A0 (rsQ m1 F (rms (fun t => m1.2 3 (F + t)) n j p acc))) 0 0) 0 0 A 65 [some (.ref (mb w)), some (.int (nI (F + n)))] [] := by
  intro j
  induction j with
  | zero =>
    intro p acc A m g7 g8 g9 h1 h3 h4 J hM hm hF
    omega
  | succ j ih =>
    intro p acc A m g7 g8 g9 h1 h3 h4 J hM hm hF
    rcases hz : rmo (fun t => m1.2 3 (F + t)) n (p + 1) with x | q
    · skip
      refine r_aload_n 66 dX1_readSea_65 rfl rfl lo0 ?_
      refine r_getv 69 dX1_readSea_66 rfl g_X1_117_1 hm.t lo12 J.hr ?_
      refine r_iconst 70 dX1_readSea_69 rfl ic_1 ?_
      first | refine r_icmp_ltN 81 73 dX1_readSea_70 rfl (by decide) (by omega) (by omega) (fun hc70 => ?_) (fun hc70 => ?_) | refine r_icmp_lt 81 73 dX1_readSea_70 rfl (by decide) (fun hc70 => ?_) (fun hc70 => ?_)
      · refine r_aload_n 82 dX1_readSea_81 rfl rfl lo0 ?_
        refine r_getv 85 dX1_readSea_82 rfl g_X1_117_1 hm.t lo12 J.hr ?_
        refine r_iconst 86 dX1_readSea_85 rfl ic_3 ?_
        first | refine r_icmp_eqN 99 89 dX1_readSea_86 rfl (by decide) (by omega) (by omega) (fun hc86 => ?_) (fun hc86 => ?_) | refine r_icmp_eq 99 89 dX1_readSea_86 rfl (by decide) (fun hc86 => ?_) (fun hc86 => ?_)
        · refine r_iconst 100 dX1_readSea_99 rfl ic_0 ?_
          exact r_zret dX1_readSea_100 rfl (by first | exact nb_b _ | exact nb_0 | exact nb_1) (Nat.le_refl _) (Nat.le_refl _) (qm hm hF (by rw [rms_bad (c := (fun t => m1.2 3 (F + t))) (n := n) (p := p) (acc := acc) (by omega) (by first | exact Or.inl (by omega) | exact Or.inr (cod_f hc96))]; exact ⟨rfl, _, _, _, _, J⟩))
        · refine r_aload_n 90 dX1_readSea_89 rfl rfl lo0 ?_
          refine r_bipush 92 dX1_readSea_90 rfl bi_59 ?_
          refine r_iload_n 93 dX1_readSea_92 rfl rfl lo1 ?_
          refine r_cV2 96 dX1_readSea_93 rfl sV_X1_126_1 hm.t (by rfl) (ev_rd_code J hm he (by omega)) ?_
          refine r_if_neB 101 99 dX1_readSea_96 rfl (by decide) (fun hc96 => ?_) (fun hc96 => ?_)
          · refine r_aload_n 102 dX1_readSea_101 rfl rfl lo0 ?_
            refine r_dup 103 dX1_readSea_102 rfl rfl ?_
            refine r_getv 106 dX1_readSea_103 rfl g_X1_89_1 hm.t lo10 J.hp ?_
            refine r_iconst 107 dX1_readSea_106 rfl ic_1 ?_
            first | refine r_iaddN 108 dX1_readSea_107 rfl ?_ | refine r_iadd 108 dX1_readSea_107 rfl ?_
            refine rm_put 111 dX1_readSea_108 rfl hm hF g_X1_89_1 fw_1_10 rfl (by decide) (fun A hm hF => ?_)
            obtain ⟨m, J, hm⟩ : ∃ m', RdM m1 m' (F + (p + 1)) acc.length g7 g8 g9 ∧ MR w A m' := ⟨_, J.wat (F + (p + 1)), hm⟩
            refine r_aload_n 112 dX1_readSea_111 rfl rfl lo0 ?_
            refine r_iload_n 113 dX1_readSea_112 rfl rfl lo1 ?_
            refine rm_i1 116 dX1_readSea_113 rfl sV_X1_130_1 hm hF (by rfl) (ev_moon_no hm J he (by omega) (by omega) (rmo_sh.trans (by rw [hz]; rfl))) (fun A m' hP hm hF => ?_)
            obtain ⟨r2, k7, k8, k9, J⟩ := hP
            refine r_if_neB 65 119 dX1_readSea_116 rfl (by decide) (fun hc116 => ?_) (fun hc116 => ?_)
            · exact absurd hc116 (by decide)
            · refine r_iconst 120 dX1_readSea_119 rfl ic_0 ?_
              exact r_zret dX1_readSea_120 rfl (by first | exact nb_b _ | exact nb_0 | exact nb_1) (Nat.le_refl _) (Nat.le_refl _) (qm hm hF (by rw [rms_no (c := (fun t => m1.2 3 (F + t))) (n := n) (p := p) (acc := acc) (by omega) (by omega) (cod_t hc96) hz]; exact ⟨rfl, _, _, _, _, J⟩))
          · refine r_iconst 100 dX1_readSea_99 rfl ic_0 ?_
            exact r_zret dX1_readSea_100 rfl (by first | exact nb_b _ | exact nb_0 | exact nb_1) (Nat.le_refl _) (Nat.le_refl _) (qm hm hF (by rw [rms_bad (c := (fun t => m1.2 3 (F + t))) (n := n) (p := p) (acc := acc) (by omega) (by first | exact Or.inl (by omega) | exact Or.inr (cod_f hc96))]; exact ⟨rfl, _, _, _, _, J⟩))
      · refine r_aload_n 74 dX1_readSea_73 rfl rfl lo0 ?_
        refine r_getv 77 dX1_readSea_74 rfl g_X1_89_1 hm.t lo10 J.hp ?_
        refine r_iload_n 78 dX1_readSea_77 rfl rfl lo1 ?_
        first | refine r_icmp_geN 121 81 dX1_readSea_78 rfl (by decide) (by omega) (by omega) (fun hc78 => ?_) (fun hc78 => ?_) | refine r_icmp_ge 121 81 dX1_readSea_78 rfl (by decide) (fun hc78 => ?_) (fun hc78 => ?_)
        · refine r_iconst 122 dX1_readSea_121 rfl ic_1 ?_
          exact r_zret dX1_readSea_122 rfl (by first | exact nb_b _ | exact nb_0 | exact nb_1) (Nat.le_refl _) (Nat.le_refl _) (qm hm hF (by rw [rms_end (c := (fun t => m1.2 3 (F + t))) (n := n) (p := p) (acc := acc) (by omega)]; exact ⟨rfl, h3, _, _, _, _, J, hM⟩))
        · refine r_aload_n 82 dX1_readSea_81 rfl rfl lo0 ?_
          refine r_getv 85 dX1_readSea_82 rfl g_X1_117_1 hm.t lo12 J.hr ?_
          refine r_iconst 86 dX1_readSea_85 rfl ic_3 ?_
          first | refine r_icmp_eqN 99 89 dX1_readSea_86 rfl (by decide) (by omega) (by omega) (fun hc86 => ?_) (fun hc86 => ?_) | refine r_icmp_eq 99 89 dX1_readSea_86 rfl (by decide) (fun hc86 => ?_) (fun hc86 => ?_)
          · refine r_iconst 100 dX1_readSea_99 rfl ic_0 ?_
            exact r_zret dX1_readSea_100 rfl (by first | exact nb_b _ | exact nb_0 | exact nb_1) (Nat.le_refl _) (Nat.le_refl _) (qm hm hF (by rw [rms_bad (c := (fun t => m1.2 3 (F + t))) (n := n) (p := p) (acc := acc) (by omega) (by first | exact Or.inl (by omega) | exact Or.inr (cod_f hc96))]; exact ⟨rfl, _, _, _, _, J⟩))
          · refine r_aload_n 90 dX1_readSea_89 rfl rfl lo0 ?_
            refine r_bipush 92 dX1_readSea_90 rfl bi_59 ?_
            refine r_iload_n 93 dX1_readSea_92 rfl rfl lo1 ?_
            refine r_cV2 96 dX1_readSea_93 rfl sV_X1_126_1 hm.t (by rfl) (ev_rd_code J hm he (by omega)) ?_
            refine r_if_neB 101 99 dX1_readSea_96 rfl (by decide) (fun hc96 => ?_) (fun hc96 => ?_)
            · refine r_aload_n 102 dX1_readSea_101 rfl rfl lo0 ?_
              refine r_dup 103 dX1_readSea_102 rfl rfl ?_
              refine r_getv 106 dX1_readSea_103 rfl g_X1_89_1 hm.t lo10 J.hp ?_
              refine r_iconst 107 dX1_readSea_106 rfl ic_1 ?_
              first | refine r_iaddN 108 dX1_readSea_107 rfl ?_ | refine r_iadd 108 dX1_readSea_107 rfl ?_
              refine rm_put 111 dX1_readSea_108 rfl hm hF g_X1_89_1 fw_1_10 rfl (by decide) (fun A hm hF => ?_)
              obtain ⟨m, J, hm⟩ : ∃ m', RdM m1 m' (F + (p + 1)) acc.length g7 g8 g9 ∧ MR w A m' := ⟨_, J.wat (F + (p + 1)), hm⟩
              refine r_aload_n 112 dX1_readSea_111 rfl rfl lo0 ?_
              refine r_iload_n 113 dX1_readSea_112 rfl rfl lo1 ?_
              refine rm_i1 116 dX1_readSea_113 rfl sV_X1_130_1 hm hF (by rfl) (ev_moon_no hm J he (by omega) (by omega) (rmo_sh.trans (by rw [hz]; rfl))) (fun A m' hP hm hF => ?_)
              obtain ⟨r2, k7, k8, k9, J⟩ := hP
              refine r_if_neB 65 119 dX1_readSea_116 rfl (by decide) (fun hc116 => ?_) (fun hc116 => ?_)
              · exact absurd hc116 (by decide)
              · refine r_iconst 120 dX1_readSea_119 rfl ic_0 ?_
                exact r_zret dX1_readSea_120 rfl (by first | exact nb_b _ | exact nb_0 | exact nb_1) (Nat.le_refl _) (Nat.le_refl _) (qm hm hF (by rw [rms_no (c := (fun t => m1.2 3 (F + t))) (n := n) (p := p) (acc := acc) (by omega) (by omega) (cod_t hc96) hz]; exact ⟨rfl, _, _, _, _, J⟩))
            · refine r_iconst 100 dX1_readSea_99 rfl ic_0 ?_
              exact r_zret dX1_readSea_100 rfl (by first | exact nb_b _ | exact nb_0 | exact nb_1) (Nat.le_refl _) (Nat.le_refl _) (qm hm hF (by rw [rms_bad (c := (fun t => m1.2 3 (F + t))) (n := n) (p := p) (acc := acc) (by omega) (by first | exact Or.inl (by omega) | exact Or.inr (cod_f hc96))]; exact ⟨rfl, _, _, _, _, J⟩))
    · skip
      refine r_aload_n 66 dX1_readSea_65 rfl rfl lo0 ?_
      refine r_getv 69 dX1_readSea_66 rfl g_X1_117_1 hm.t lo12 J.hr ?_
      refine r_iconst 70 dX1_readSea_69 rfl ic_1 ?_
      first | refine r_icmp_ltN 81 73 dX1_readSea_70 rfl (by decide) (by omega) (by omega) (fun hc70 => ?_) (fun hc70 => ?_) | refine r_icmp_lt 81 73 dX1_readSea_70 rfl (by decide) (fun hc70 => ?_) (fun hc70 => ?_)
      · refine r_aload_n 82 dX1_readSea_81 rfl rfl lo0 ?_
        refine r_getv 85 dX1_readSea_82 rfl g_X1_117_1 hm.t lo12 J.hr ?_
        refine r_iconst 86 dX1_readSea_85 rfl ic_3 ?_
        first | refine r_icmp_eqN 99 89 dX1_readSea_86 rfl (by decide) (by omega) (by omega) (fun hc86 => ?_) (fun hc86 => ?_) | refine r_icmp_eq 99 89 dX1_readSea_86 rfl (by decide) (fun hc86 => ?_) (fun hc86 => ?_)
        · refine r_iconst 100 dX1_readSea_99 rfl ic_0 ?_
          exact r_zret dX1_readSea_100 rfl (by first | exact nb_b _ | exact nb_0 | exact nb_1) (Nat.le_refl _) (Nat.le_refl _) (qm hm hF (by rw [rms_bad (c := (fun t => m1.2 3 (F + t))) (n := n) (p := p) (acc := acc) (by omega) (by first | exact Or.inl (by omega) | exact Or.inr (cod_f hc96))]; exact ⟨rfl, _, _, _, _, J⟩))
        · refine r_aload_n 90 dX1_readSea_89 rfl rfl lo0 ?_
          refine r_bipush 92 dX1_readSea_90 rfl bi_59 ?_
          refine r_iload_n 93 dX1_readSea_92 rfl rfl lo1 ?_
          refine r_cV2 96 dX1_readSea_93 rfl sV_X1_126_1 hm.t (by rfl) (ev_rd_code J hm he (by omega)) ?_
          refine r_if_neB 101 99 dX1_readSea_96 rfl (by decide) (fun hc96 => ?_) (fun hc96 => ?_)
          · refine r_aload_n 102 dX1_readSea_101 rfl rfl lo0 ?_
            refine r_dup 103 dX1_readSea_102 rfl rfl ?_
            refine r_getv 106 dX1_readSea_103 rfl g_X1_89_1 hm.t lo10 J.hp ?_
            refine r_iconst 107 dX1_readSea_106 rfl ic_1 ?_
            first | refine r_iaddN 108 dX1_readSea_107 rfl ?_ | refine r_iadd 108 dX1_readSea_107 rfl ?_
            refine rm_put 111 dX1_readSea_108 rfl hm hF g_X1_89_1 fw_1_10 rfl (by decide) (fun A hm hF => ?_)
            obtain ⟨m, J, hm⟩ : ∃ m', RdM m1 m' (F + (p + 1)) acc.length g7 g8 g9 ∧ MR w A m' := ⟨_, J.wat (F + (p + 1)), hm⟩
            refine r_aload_n 112 dX1_readSea_111 rfl rfl lo0 ?_
            refine r_iload_n 113 dX1_readSea_112 rfl rfl lo1 ?_
            refine rm_i1 116 dX1_readSea_113 rfl sV_X1_130_1 hm hF (by rfl) (ev_moon_ok hm J he (by omega) (by omega) (rmo_sh.trans (by rw [hz]; rfl))) (fun A m' hP hm hF => ?_)
            have J := hP
            refine r_if_neB 65 119 dX1_readSea_116 rfl (by decide) (fun hc116 => ?_) (fun hc116 => ?_)
            · rw [rms_ok (c := (fun t => m1.2 3 (F + t))) (n := n) (p := p) (acc := acc) (by omega) (by omega) (cod_t hc96) hz]
              have hk := rmo_ok hz
              exact ih (p + 7) (acc ++ [q]) A m' _ _ _ (by simp; omega) (by simp; omega) (by simp; omega) (by simp only [List.length_append, List.length_cons, List.length_nil]; exact J) (hM.snoc hk.1) hm hF
            · exact absurd hc116 (by decide)
          · refine r_iconst 100 dX1_readSea_99 rfl ic_0 ?_
            exact r_zret dX1_readSea_100 rfl (by first | exact nb_b _ | exact nb_0 | exact nb_1) (Nat.le_refl _) (Nat.le_refl _) (qm hm hF (by rw [rms_bad (c := (fun t => m1.2 3 (F + t))) (n := n) (p := p) (acc := acc) (by omega) (by first | exact Or.inl (by omega) | exact Or.inr (cod_f hc96))]; exact ⟨rfl, _, _, _, _, J⟩))
      · refine r_aload_n 74 dX1_readSea_73 rfl rfl lo0 ?_
        refine r_getv 77 dX1_readSea_74 rfl g_X1_89_1 hm.t lo10 J.hp ?_
        refine r_iload_n 78 dX1_readSea_77 rfl rfl lo1 ?_
        first | refine r_icmp_geN 121 81 dX1_readSea_78 rfl (by decide) (by omega) (by omega) (fun hc78 => ?_) (fun hc78 => ?_) | refine r_icmp_ge 121 81 dX1_readSea_78 rfl (by decide) (fun hc78 => ?_) (fun hc78 => ?_)
        · refine r_iconst 122 dX1_readSea_121 rfl ic_1 ?_
          exact r_zret dX1_readSea_122 rfl (by first | exact nb_b _ | exact nb_0 | exact nb_1) (Nat.le_refl _) (Nat.le_refl _) (qm hm hF (by rw [rms_end (c := (fun t => m1.2 3 (F + t))) (n := n) (p := p) (acc := acc) (by omega)]; exact ⟨rfl, h3, _, _, _, _, J, hM⟩))
        · refine r_aload_n 82 dX1_readSea_81 rfl rfl lo0 ?_
          refine r_getv 85 dX1_readSea_82 rfl g_X1_117_1 hm.t lo12 J.hr ?_
          refine r_iconst 86 dX1_readSea_85 rfl ic_3 ?_
          first | refine r_icmp_eqN 99 89 dX1_readSea_86 rfl (by decide) (by omega) (by omega) (fun hc86 => ?_) (fun hc86 => ?_) | refine r_icmp_eq 99 89 dX1_readSea_86 rfl (by decide) (fun hc86 => ?_) (fun hc86 => ?_)
          · refine r_iconst 100 dX1_readSea_99 rfl ic_0 ?_
            exact r_zret dX1_readSea_100 rfl (by first | exact nb_b _ | exact nb_0 | exact nb_1) (Nat.le_refl _) (Nat.le_refl _) (qm hm hF (by rw [rms_bad (c := (fun t => m1.2 3 (F + t))) (n := n) (p := p) (acc := acc) (by omega) (by first | exact Or.inl (by omega) | exact Or.inr (cod_f hc96))]; exact ⟨rfl, _, _, _, _, J⟩))
          · refine r_aload_n 90 dX1_readSea_89 rfl rfl lo0 ?_
            refine r_bipush 92 dX1_readSea_90 rfl bi_59 ?_
            refine r_iload_n 93 dX1_readSea_92 rfl rfl lo1 ?_
            refine r_cV2 96 dX1_readSea_93 rfl sV_X1_126_1 hm.t (by rfl) (ev_rd_code J hm he (by omega)) ?_
            refine r_if_neB 101 99 dX1_readSea_96 rfl (by decide) (fun hc96 => ?_) (fun hc96 => ?_)
            · refine r_aload_n 102 dX1_readSea_101 rfl rfl lo0 ?_
              refine r_dup 103 dX1_readSea_102 rfl rfl ?_
              refine r_getv 106 dX1_readSea_103 rfl g_X1_89_1 hm.t lo10 J.hp ?_
              refine r_iconst 107 dX1_readSea_106 rfl ic_1 ?_
              first | refine r_iaddN 108 dX1_readSea_107 rfl ?_ | refine r_iadd 108 dX1_readSea_107 rfl ?_
              refine rm_put 111 dX1_readSea_108 rfl hm hF g_X1_89_1 fw_1_10 rfl (by decide) (fun A hm hF => ?_)
              obtain ⟨m, J, hm⟩ : ∃ m', RdM m1 m' (F + (p + 1)) acc.length g7 g8 g9 ∧ MR w A m' := ⟨_, J.wat (F + (p + 1)), hm⟩
              refine r_aload_n 112 dX1_readSea_111 rfl rfl lo0 ?_
              refine r_iload_n 113 dX1_readSea_112 rfl rfl lo1 ?_
              refine rm_i1 116 dX1_readSea_113 rfl sV_X1_130_1 hm hF (by rfl) (ev_moon_ok hm J he (by omega) (by omega) (rmo_sh.trans (by rw [hz]; rfl))) (fun A m' hP hm hF => ?_)
              have J := hP
              refine r_if_neB 65 119 dX1_readSea_116 rfl (by decide) (fun hc116 => ?_) (fun hc116 => ?_)
              · rw [rms_ok (c := (fun t => m1.2 3 (F + t))) (n := n) (p := p) (acc := acc) (by omega) (by omega) (cod_t hc96) hz]
                have hk := rmo_ok hz
                exact ih (p + 7) (acc ++ [q]) A m' _ _ _ (by simp; omega) (by simp; omega) (by simp; omega) (by simp only [List.length_append, List.length_cons, List.length_nil]; exact J) (hM.snoc hk.1) hm hF
              · exact absurd hc116 (by decide)
            · refine r_iconst 100 dX1_readSea_99 rfl ic_0 ?_
              exact r_zret dX1_readSea_100 rfl (by first | exact nb_b _ | exact nb_0 | exact nb_1) (Nat.le_refl _) (Nat.le_refl _) (qm hm hF (by rw [rms_bad (c := (fun t => m1.2 3 (F + t))) (n := n) (p := p) (acc := acc) (by omega) (by first | exact Or.inl (by omega) | exact Or.inr (cod_f hc96))]; exact ⟨rfl, _, _, _, _, J⟩))
