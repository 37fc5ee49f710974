/-! THE REFERENCE: nextOrder -/
set_option maxRecDepth 100000
set_option maxHeartbeats 4000000 in
theorem lr_X1_nextOrder {w : WE} {A0 : Hp} {m : MT} {n : Nat} {x2 : Option Value} {v3 : Int32} {R0 : Nat → Nat} (hn : n ≤ 5) : ∀ (j lo hi : Nat) (A : Hp) (g : Nat → Int32) (od : Nat → Nat), hi ≤ lo + j → lo ≤ n → hi < n → (∀ k, k < n → g k = nI (od k)) → R0 = rvs j od lo hi → MR w A (m.1, va_up m.2 20 g) → Fm w A0 A → Rn w mX1_nextOrder (rmX 2 0 0) (ZX w (QM w A0 (fun v m' => v = some (.int (bI true)) ∧ ∃ g : Nat → Int32, m' = (m.1, va_up m.2 20 g) ∧ ∀ k, k < n → g k = nI (R0 k))) 0 0) 0 0 A 78 [some (.ref (mb w)), some (.int (nI n)), x2, some (.int v3), some (.int (nI lo)), some (.int (nI hi))] [] := by
  intro j
  induction j with
  | zero =>
    intro lo hi A g od h1 h2 hh hg hR hm hF
    rw [rvs_f (by omega)] at hR
    subst hR
    refine r_iload 80 dX1_nextOrder_78 rfl lo4 ?_
    refine r_iload 82 dX1_nextOrder_80 rfl lo5 ?_
    first | refine r_icmp_geN 102 85 dX1_nextOrder_82 rfl (by decide) (by omega) (by omega) (fun hc82 => ?_) (fun hc82 => ?_) | refine r_icmp_ge 102 85 dX1_nextOrder_82 rfl (by decide) (fun hc82 => ?_) (fun hc82 => ?_)
    · refine r_iconst 103 dX1_nextOrder_102 rfl ic_1 ?_
      exact r_zret dX1_nextOrder_103 rfl (by first | exact nb_b _ | exact nb_0 | exact nb_1) (Nat.le_refl _) (Nat.le_refl _) (qm hm hF ⟨rfl, g, rfl, hg⟩)
    · exact absurd hc82 (by omega)
  | succ j ih =>
    intro lo hi A g od h1 h2 hh hg hR hm hF
    refine r_iload 80 dX1_nextOrder_78 rfl lo4 ?_
    refine r_iload 82 dX1_nextOrder_80 rfl lo5 ?_
    first | refine r_icmp_geN 102 85 dX1_nextOrder_82 rfl (by decide) (by omega) (by omega) (fun hc82 => ?_) (fun hc82 => ?_) | refine r_icmp_ge 102 85 dX1_nextOrder_82 rfl (by decide) (fun hc82 => ?_) (fun hc82 => ?_)
    · rw [rvs_f (by omega)] at hR
      subst hR
      refine r_iconst 103 dX1_nextOrder_102 rfl ic_1 ?_
      exact r_zret dX1_nextOrder_103 rfl (by first | exact nb_b _ | exact nb_0 | exact nb_1) (Nat.le_refl _) (Nat.le_refl _) (qm hm hF ⟨rfl, g, rfl, hg⟩)
    · rw [rvs_t hc82] at hR
      obtain ⟨hi, rfl⟩ : ∃ z, hi = z + 1 := ⟨hi - 1, by omega⟩
      refine r_aload_n 86 dX1_nextOrder_85 rfl rfl lo0 ?_
      refine r_iload 88 dX1_nextOrder_86 rfl lo4 ?_
      refine r_iload 90 dX1_nextOrder_88 rfl lo5 ?_
      refine rm_v2 93 dX1_nextOrder_90 rfl sV_X1_194_1 hm hF (by rfl) (ev_X1_exchange (n := n) (od := od) hm hg hn (by omega) hh) (fun A m' hP hm hF => ?_)
      obtain ⟨g2, rfl, hg2⟩ := hP
      rw [bx_uu] at hm
      refine r_iinc 96 dX1_nextOrder_93 rfl lo4 inc1 so4 rfl ?_
      refine r_iinc 99 dX1_nextOrder_96 rfl lo5 incm1 so5 rfl ?_
      refine r_goto 78 dX1_nextOrder_99 (by decide) ?_
      exact ih (lo + 1) hi A g2 (swp od lo (hi + 1)) (by omega) (by omega) (by omega) hg2 hR hm hF

set_option maxHeartbeats 4000000 in
theorem lq_X1_nextOrder {w : WE} {A A0 : Hp} {m : MT} {n F : Nat} {x4 x5 : Option Value} {od : Nat → Nat} {Z : ZT} (hm : MR w A m) (hF : Fm w A0 A) (hn : n ≤ 5) (hO : ∀ k, k < n → m.2 20 k = nI (od k) ∧ od k < 6) (hF0 : F + 1 < n) (hFo : ¬ od (F + 1) < od F) (K : ∀ G : Nat, G < n → fq od (od F) (n - 1) = G → Rn w mX1_nextOrder (rmX 2 0 0) Z 0 0 A 62 [some (.ref (mb w)), some (.int (nI n)), some (.int (nI F)), some (.int (nI G)), x4, x5] []) : ∀ q, F + 1 ≤ q → q < n → fq od (od F) (n - 1) = fq od (od F) q → Rn w mX1_nextOrder (rmX 2 0 0) Z 0 0 A 41 [some (.ref (mb w)), some (.int (nI n)), some (.int (nI F)), some (.int (nI q)), x4, x5] [] := by
  obtain ⟨p1, p2⟩ := hO F (by omega)
  intro q
  induction q with
  | zero => intro h; exact absurd h (by omega)
  | succ q ih =>
    intro h1 h2 hG
    obtain ⟨q1, q2⟩ := hO (q + 1) h2
    refine r_aload_n 42 dX1_nextOrder_41 rfl rfl lo0 ?_
    refine r_get 45 dX1_nextOrder_42 rfl g_X1_67_1 hm.t lo28 ?_
    refine r_iload_n 46 dX1_nextOrder_45 rfl rfl lo3 ?_
    refine r_ialdv 47 dX1_nextOrder_46 rfl hm.a20 _ rfl q1 (by omega) (by decide) ?_
    refine r_aload_n 48 dX1_nextOrder_47 rfl rfl lo0 ?_
    refine r_get 51 dX1_nextOrder_48 rfl g_X1_67_1 hm.t lo28 ?_
    refine r_iload_n 52 dX1_nextOrder_51 rfl rfl lo2 ?_
    refine r_ialdv 53 dX1_nextOrder_52 rfl hm.a20 _ rfl p1 (by omega) (by decide) ?_
    first | refine r_icmp_geN 62 56 dX1_nextOrder_53 rfl (by decide) (by omega) (by omega) (fun hc53 => ?_) (fun hc53 => ?_) | refine r_icmp_ge 62 56 dX1_nextOrder_53 rfl (by decide) (fun hc53 => ?_) (fun hc53 => ?_)
    · exact K (q + 1) h2 (by rw [hG, fq_f (Nat.not_lt.mpr hc53)])
    · refine r_iinc 59 dX1_nextOrder_56 rfl lo3 incm1 so3 rfl ?_
      refine r_goto 41 dX1_nextOrder_59 (by decide) ?_
      exact ih (by have : q ≠ F := fun e => hFo (by rw [e] at hc53; exact hc53); omega) (by omega) (by rw [hG, fq_t hc53])

set_option maxHeartbeats 4000000 in
theorem lp_X1_nextOrder {w : WE} {A A0 : Hp} {m : MT} {n : Nat} {x3 x4 x5 : Option Value} {od : Nat → Nat} {Z : ZT} (hm : MR w A m) (hF : Fm w A0 A) (hn : n ≤ 5) (hO : ∀ k, k < n → m.2 20 k = nI (od k) ∧ od k < 6) (K : Rn w mX1_nextOrder (rmX 2 0 0) Z 0 0 A 31 [some (.ref (mb w)), some (.int (nI n)), some (.int (nI (fp od (n - 1)) + Int32.ofInt (-1))), x3, x4, x5] []) : ∀ p, p < n → fp od (n - 1) = fp od p → Rn w mX1_nextOrder (rmX 2 0 0) Z 0 0 A 4 [some (.ref (mb w)), some (.int (nI n)), some (.int (nI p + Int32.ofInt (-1))), x3, x4, x5] [] := by
  intro p
  induction p with
  | zero =>
    intro hp hG
    rw [hG] at K
    refine r_iload_n 5 dX1_nextOrder_4 rfl rfl lo2 ?_
    refine r_if_lt 31 8 dX1_nextOrder_5 rfl (by decide) (fun hc5 => ?_) (fun hc5 => ?_)
    · exact K
    · exact absurd (by decide) hc5
  | succ p ih =>
    intro hp hG
    obtain ⟨p1, p2⟩ := hO p (by omega)
    obtain ⟨q1, q2⟩ := hO (p + 1) hp
    by_cases hc : od (p + 1) < od p
    · rw [fp_t hc] at hG
      have ih := ih (by omega) hG
      rw [show nI (p + 1) + Int32.ofInt (-1) = nI p from incm1]
      refine r_iload_n 5 dX1_nextOrder_4 rfl rfl lo2 ?_
      first | refine r_if_ltN 31 8 dX1_nextOrder_5 rfl (by decide) (by omega) (fun hc5 => ?_) (fun hc5 => ?_) | refine r_if_lt 31 8 dX1_nextOrder_5 rfl (by decide) (fun hc5 => ?_) (fun hc5 => ?_)
      · exact absurd hc5 (by omega)
      · refine r_aload_n 9 dX1_nextOrder_8 rfl rfl lo0 ?_
        refine r_get 12 dX1_nextOrder_9 rfl g_X1_67_1 hm.t lo28 ?_
        refine r_iload_n 13 dX1_nextOrder_12 rfl rfl lo2 ?_
        refine r_ialdv 14 dX1_nextOrder_13 rfl hm.a20 _ rfl p1 (by omega) (by decide) ?_
        refine r_aload_n 15 dX1_nextOrder_14 rfl rfl lo0 ?_
        refine r_get 18 dX1_nextOrder_15 rfl g_X1_67_1 hm.t lo28 ?_
        refine r_iload_n 19 dX1_nextOrder_18 rfl rfl lo2 ?_
        refine r_iconst 20 dX1_nextOrder_19 rfl ic_1 ?_
        first | refine r_iaddN 21 dX1_nextOrder_20 rfl ?_ | refine r_iadd 21 dX1_nextOrder_20 rfl ?_
        refine r_ialdv 22 dX1_nextOrder_21 rfl hm.a20 _ rfl q1 (by omega) (by decide) ?_
        first | refine r_icmp_leN 31 25 dX1_nextOrder_22 rfl (by decide) (by omega) (by omega) (fun hc22 => ?_) (fun hc22 => ?_) | refine r_icmp_le 31 25 dX1_nextOrder_22 rfl (by decide) (fun hc22 => ?_) (fun hc22 => ?_)
        · exact absurd hc22 (by omega)
        · refine r_iinc 28 dX1_nextOrder_25 rfl lo2 rfl so2 rfl ?_
          refine r_goto 4 dX1_nextOrder_28 (by decide) ?_
          exact ih
    · rw [fp_f hc] at hG
      rw [hG, show nI (p + 1) + Int32.ofInt (-1) = nI p from incm1] at K
      rw [show nI (p + 1) + Int32.ofInt (-1) = nI p from incm1]
      refine r_iload_n 5 dX1_nextOrder_4 rfl rfl lo2 ?_
      first | refine r_if_ltN 31 8 dX1_nextOrder_5 rfl (by decide) (by omega) (fun hc5 => ?_) (fun hc5 => ?_) | refine r_if_lt 31 8 dX1_nextOrder_5 rfl (by decide) (fun hc5 => ?_) (fun hc5 => ?_)
      · exact absurd hc5 (by omega)
      · refine r_aload_n 9 dX1_nextOrder_8 rfl rfl lo0 ?_
        refine r_get 12 dX1_nextOrder_9 rfl g_X1_67_1 hm.t lo28 ?_
        refine r_iload_n 13 dX1_nextOrder_12 rfl rfl lo2 ?_
        refine r_ialdv 14 dX1_nextOrder_13 rfl hm.a20 _ rfl p1 (by omega) (by decide) ?_
        refine r_aload_n 15 dX1_nextOrder_14 rfl rfl lo0 ?_
        refine r_get 18 dX1_nextOrder_15 rfl g_X1_67_1 hm.t lo28 ?_
        refine r_iload_n 19 dX1_nextOrder_18 rfl rfl lo2 ?_
        refine r_iconst 20 dX1_nextOrder_19 rfl ic_1 ?_
        first | refine r_iaddN 21 dX1_nextOrder_20 rfl ?_ | refine r_iadd 21 dX1_nextOrder_20 rfl ?_
        refine r_ialdv 22 dX1_nextOrder_21 rfl hm.a20 _ rfl q1 (by omega) (by decide) ?_
        first | refine r_icmp_leN 31 25 dX1_nextOrder_22 rfl (by decide) (by omega) (by omega) (fun hc22 => ?_) (fun hc22 => ?_) | refine r_icmp_le 31 25 dX1_nextOrder_22 rfl (by decide) (fun hc22 => ?_) (fun hc22 => ?_)
        · exact K
        · exact absurd hc22 (by omega)

set_option maxHeartbeats 4000000 in
theorem ev_X1_nextOrder {w : WE} {A : Hp} {m : MT} {n : Nat} {od : Nat → Nat} (hm : MR w A m) (hn : n ≤ 5) (hn1 : 1 ≤ n) (hO : ∀ k, k < n → m.2 20 k = nI (od k) ∧ od k < 6) : EvMi w mX1_nextOrder 2 [.ref (mb w), .int (nI n)] A (bI (decide (0 < fp od (n - 1)))) (fun m' => ∃ g : Nat → Int32, m' = (m.1, va_up m.2 20 g) ∧ ∀ k, k < n → g k = nI ((if 0 < fp od (n - 1) then nxo n od else od) k)) := by
  refine Ev.mk 4 [some (.ref (mb w)), some (.int (nI n)), none, none, none, none] rfl plX1 (Nat.le_of_ble_eq_true rfl) ?_
  have hF : Fm w A A := Fm.rf
  have hle := fp_le od (n - 1)
  refine r_iload_n 1 dX1_nextOrder_0 rfl rfl lo1 ?_
  refine r_iconst 2 dX1_nextOrder_1 rfl ic_2 ?_
  refine r_isub 3 dX1_nextOrder_2 rfl ?_
  rw [n_m2 n hn hn1]
  refine r_istore_n 4 dX1_nextOrder_3 rfl rfl so2 rfl ?_
  refine lp_X1_nextOrder hm hF hn hO ?_ (n - 1) (by omega) rfl
  by_cases h0 : fp od (n - 1) = 0
  · rw [show decide (0 < fp od (n - 1)) = false from decide_eq_false (by omega)]
    simp only [show ¬ 0 < fp od (n - 1) by omega, if_false]
    rw [h0]
    refine r_iload_n 32 dX1_nextOrder_31 rfl rfl lo2 ?_
    refine r_if_ge 37 35 dX1_nextOrder_32 rfl (by decide) (fun hc32 => ?_) (fun hc32 => ?_)
    · exact absurd hc32 (by decide)
    · refine r_iconst 36 dX1_nextOrder_35 rfl ic_0 ?_
      exact r_zret dX1_nextOrder_36 rfl (by first | exact nb_b _ | exact nb_0 | exact nb_1) (Nat.le_refl _) (Nat.le_refl _) (qm hm hF ⟨rfl, m.2 20, by rw [vu_self], fun k hk => (hO k hk).1⟩)
  · obtain ⟨F, hFF⟩ : ∃ F, fp od (n - 1) = F + 1 := ⟨fp od (n - 1) - 1, by omega⟩
    have hfo := fp_ok od (n - 1) (by omega)
    rw [show decide (0 < fp od (n - 1)) = true from decide_eq_true (by omega)]
    simp only [show 0 < fp od (n - 1) by omega, if_true]
    have hR : nxo n od = rvs n (swp od F (fq od (od F) (n - 1))) (F + 1) (n - 1) := by unfold nxo; rw [hFF]; rfl
    rw [hFF] at hfo ⊢
    rw [show nI (F + 1) + Int32.ofInt (-1) = nI F from incm1]
    refine r_iload_n 32 dX1_nextOrder_31 rfl rfl lo2 ?_
    first | refine r_if_geN 37 35 dX1_nextOrder_32 rfl (by decide) (by omega) (fun hc32 => ?_) (fun hc32 => ?_) | refine r_if_ge 37 35 dX1_nextOrder_32 rfl (by decide) (fun hc32 => ?_) (fun hc32 => ?_)
    · refine r_iload_n 38 dX1_nextOrder_37 rfl rfl lo1 ?_
      refine r_iconst 39 dX1_nextOrder_38 rfl ic_1 ?_
      first | refine r_isubN 40 dX1_nextOrder_39 rfl (by omega) ?_ | refine r_isub 40 dX1_nextOrder_39 rfl ?_
      refine r_istore_n 41 dX1_nextOrder_40 rfl rfl so3 rfl ?_
      refine lq_X1_nextOrder hm hF hn hO (by omega) hfo (fun G hG1 hG2 => ?_) (n - 1) (by omega) (by omega) rfl
      refine r_aload_n 63 dX1_nextOrder_62 rfl rfl lo0 ?_
      refine r_iload_n 64 dX1_nextOrder_63 rfl rfl lo2 ?_
      refine r_iload_n 65 dX1_nextOrder_64 rfl rfl lo3 ?_
      refine rm_v2 68 dX1_nextOrder_65 rfl sV_X1_194_1 hm hF (by rfl) (ev_X1_exchange (n := n) (od := od) hm (fun k hk => (hO k hk).1) hn (by omega) hG1) (fun A m' hP hm hF => ?_)
      obtain ⟨g2, rfl, hg2⟩ := hP
      refine r_iload_n 69 dX1_nextOrder_68 rfl rfl lo2 ?_
      refine r_iconst 70 dX1_nextOrder_69 rfl ic_1 ?_
      first | refine r_iaddN 71 dX1_nextOrder_70 rfl ?_ | refine r_iadd 71 dX1_nextOrder_70 rfl ?_
      refine r_istore 73 dX1_nextOrder_71 rfl so4 rfl ?_
      refine r_iload_n 74 dX1_nextOrder_73 rfl rfl lo1 ?_
      refine r_iconst 75 dX1_nextOrder_74 rfl ic_1 ?_
      first | refine r_isubN 76 dX1_nextOrder_75 rfl (by omega) ?_ | refine r_isub 76 dX1_nextOrder_75 rfl ?_
      refine r_istore 78 dX1_nextOrder_76 rfl so5 rfl ?_
      exact lr_X1_nextOrder hn n (F + 1) (n - 1) A g2 (swp od F G) (by omega) (by omega) (by omega) hg2 (by rw [hR, hG2]) hm hF
    · exact absurd hc32 (by omega)

