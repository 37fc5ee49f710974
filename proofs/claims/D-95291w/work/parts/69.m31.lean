/-! MOONS AND ROADS of the class -/
set_option maxRecDepth 100000
set_option maxHeartbeats 4000000 in
theorem ev_X5_phase {w : WE} {A : Hp} {a h : Nat} {q : Mo} (hA : A.1 a = some (.inr (2, moF q))) (hq : MoOk q) (hh : h ≤ 100000) : EvI w mX5_phase 0 [.ref a, .int (nI h)] A (nI ((h + q.2.2) % q.1)) := by
  refine Ev.mk 0 [some (.ref a), some (.int (nI h))] rfl plX5 (Nat.le_of_ble_eq_true rfl) ?_
  obtain ⟨h1, h2, h3, h4, h5⟩ := hq
  refine r_iload_n 1 dX5_phase_0 rfl rfl lo1 ?_
  refine r_aload_n 2 dX5_phase_1 rfl rfl lo0 ?_
  refine r_get 5 dX5_phase_2 rfl g_X5_16_2 hA lo2 ?_
  first | refine r_iaddN 6 dX5_phase_5 rfl ?_ | refine r_iadd 6 dX5_phase_5 rfl ?_
  refine r_aload_n 7 dX5_phase_6 rfl rfl lo0 ?_
  refine r_get 10 dX5_phase_7 rfl g_X5_7_2 hA lo0 ?_
  first | refine r_iremN 11 dX5_phase_10 rfl (by omega) (by omega) (by omega) ?_ | refine r_irem 11 dX5_phase_10 rfl (by assumption) ?_
  exact r_iret dX5_phase_11 rfl (Nat.le_refl _) (Nat.le_refl _) ⟨rfl, rfl⟩

set_option maxHeartbeats 4000000 in
theorem ev_X5_draws {w : WE} {A : Hp} {a h : Nat} {q : Mo} (hA : A.1 a = some (.inr (2, moF q))) (hq : MoOk q) (hh : h ≤ 100000) : EvI w mX5_draws 1 [.ref a, .int (nI h)] A (nI (dr q h)) := by
  refine Ev.mk 1 [some (.ref a), some (.int (nI h)), none] rfl plX5 (Nat.le_of_ble_eq_true rfl) ?_
  have hq' := hq
  obtain ⟨h1, h2, h3, h4, h5⟩ := hq
  have hm := Nat.mod_lt (h + q.2.2) (show 0 < q.1 by omega)
  refine r_aload_n 1 dX5_draws_0 rfl rfl lo0 ?_
  refine r_iload_n 2 dX5_draws_1 rfl rfl lo1 ?_
  refine r_cV1 5 dX5_draws_2 rfl sV_X5_19_2 hA (by rfl) (ev_X5_phase hA hq' hh) ?_
  refine r_istore_n 6 dX5_draws_5 rfl rfl so2 rfl ?_
  refine r_aload_n 7 dX5_draws_6 rfl rfl lo0 ?_
  refine r_get 10 dX5_draws_7 rfl g_X5_13_2 hA lo1 ?_
  refine r_iload_n 11 dX5_draws_10 rfl rfl lo2 ?_
  refine r_aload_n 12 dX5_draws_11 rfl rfl lo0 ?_
  refine r_get 15 dX5_draws_12 rfl g_X5_7_2 hA lo0 ?_
  refine r_iload_n 16 dX5_draws_15 rfl rfl lo2 ?_
  first | refine r_isubN 17 dX5_draws_16 rfl (by omega) ?_ | refine r_isub 17 dX5_draws_16 rfl ?_
  refine r_mminN 20 dX5_draws_17 rfl q233 (by rfl) (by omega) (by omega) ?_
  first | refine r_imulN 21 dX5_draws_20 rfl ?_ | refine r_imul 21 dX5_draws_20 rfl ?_
  exact r_iret dX5_draws_21 rfl (Nat.le_refl _) (Nat.le_refl _) ⟨rfl, rfl⟩

theorem gR_X0_181 {kd : Nat} (hk : kd ≤ 2) : SiteG "ThirdEbb" 181 (3 + kd) 0 := by
  match kd, hk with
  | 0, _ => exact g_X0_181_3
  | 1, _ => exact g_X0_181_4
  | 2, _ => exact g_X0_181_5
theorem gR_X0_167 {kd : Nat} (hk : kd ≤ 2) : SiteG "ThirdEbb" 167 (3 + kd) 5 := by
  match kd, hk with
  | 0, _ => exact g_X0_167_3
  | 1, _ => exact g_X0_167_4
  | 2, _ => exact g_X0_167_5
theorem gR_X13_21 {kd : Nat} (hk : kd ≤ 2) : SiteG "ThirdEbb$Taking" 21 (3 + kd) 0 := by
  match kd, hk with
  | 0, _ => exact g_X13_21_3
  | 1, _ => exact g_X13_21_4
  | 2, _ => exact g_X13_21_5
theorem gR_X13_28 {kd : Nat} (hk : kd ≤ 2) : SiteG "ThirdEbb$Taking" 28 (3 + kd) 0 := by
  match kd, hk with
  | 0, _ => exact g_X13_28_3
  | 1, _ => exact g_X13_28_4
  | 2, _ => exact g_X13_28_5
theorem gR_X13_31 {kd : Nat} (hk : kd ≤ 2) : SiteG "ThirdEbb$Taking" 31 (3 + kd) 0 := by
  match kd, hk with
  | 0, _ => exact g_X13_31_3
  | 1, _ => exact g_X13_31_4
  | 2, _ => exact g_X13_31_5
theorem gR_X6_15 {kd : Nat} (hk : kd ≤ 2) : SiteG "ThirdEbb$Soft" 15 (3 + kd) 0 := by
  match kd, hk with
  | 0, _ => exact g_X6_15_3
  | 1, _ => exact g_X6_15_4
  | 2, _ => exact g_X6_15_5
theorem gR_X6_19 {kd : Nat} (hk : kd ≤ 2) : SiteG "ThirdEbb$Soft" 19 (3 + kd) 1 := by
  match kd, hk with
  | 0, _ => exact g_X6_19_3
  | 1, _ => exact g_X6_19_4
  | 2, _ => exact g_X6_19_5
theorem gR_X6_22 {kd : Nat} (hk : kd ≤ 2) : SiteG "ThirdEbb$Soft" 22 (3 + kd) 2 := by
  match kd, hk with
  | 0, _ => exact g_X6_22_3
  | 1, _ => exact g_X6_22_4
  | 2, _ => exact g_X6_22_5
theorem gR_X6_25 {kd : Nat} (hk : kd ≤ 2) : SiteG "ThirdEbb$Soft" 25 (3 + kd) 3 := by
  match kd, hk with
  | 0, _ => exact g_X6_25_3
  | 1, _ => exact g_X6_25_4
  | 2, _ => exact g_X6_25_5
theorem gR_X6_28 {kd : Nat} (hk : kd ≤ 2) : SiteG "ThirdEbb$Soft" 28 (3 + kd) 4 := by
  match kd, hk with
  | 0, _ => exact g_X6_28_3
  | 1, _ => exact g_X6_28_4
  | 2, _ => exact g_X6_28_5
theorem gR_X6_35 {kd : Nat} (hk : kd ≤ 2) : SiteG "ThirdEbb$Soft" 35 (3 + kd) 5 := by
  match kd, hk with
  | 0, _ => exact g_X6_35_3
  | 1, _ => exact g_X6_35_4
  | 2, _ => exact g_X6_35_5
theorem gR_X6_3 {kd : Nat} (hk : kd ≤ 2) : SiteG "ThirdEbb$Soft" 3 (3 + kd) 6 := by
  match kd, hk with
  | 0, _ => exact g_X6_3_3
  | 1, _ => exact g_X6_3_4
  | 2, _ => exact g_X6_3_5
theorem gR_X7_17 {kd : Nat} (hk : kd ≤ 2) : SiteG "ThirdEbb$Bridged" 17 (3 + kd) 5 := by
  match kd, hk with
  | 0, _ => exact g_X7_17_3
  | 1, _ => exact g_X7_17_4
  | 2, _ => exact g_X7_17_5
theorem rdE_c {bb kk c : Nat} {q : Rd} (e : q.1 = c) : rdE bb kk q = .inr (3 + c, rdF bb kk q) := by
  subst e
  rfl
section RR
variable {w : WE} {M : MI} {R : Room} {Z : ZT} {k n : Nat} {A : Hp} {pc : Nat} {lo : List (Option Value)} {st : List Value}
variable {M3 M4 M5 : MI} {d3 d4 d5 idx b bb kk : Nat} {q : Rd} {r : Value}
theorem rR0 (nx : Nat) (hd : decode M.2.1 pc = .ok (.invokevirtual idx, 3)) (hn : pc + 3 = nx) (S3 : SiteV M.1.cls idx 3 M3 0) (S4 : SiteU M.1.cls idx 4 M4 0) (S5 : SiteU M.1.cls idx 5 M5 0) (hA : A.1 b = some (rdE bb kk q)) (hk : q.1 ≤ 2) (o3 : cOk R M3.2.2.1 d3 0 0 k n st = true) (o4 : cOk R M4.2.2.1 d4 0 0 k n st = true) (o5 : cOk R M5.2.2.1 d5 0 0 k n st = true) (E3 : q.1 = 0 → EvV w M3 d3 [.ref b] A r) (E4 : q.1 = 1 → EvV w M4 d4 [.ref b] A r) (E5 : q.1 = 2 → EvV w M5 d5 [.ref b] A r) (K : Rn w M R Z k n A nx lo (r :: st)) : Rn w M R Z k n A pc lo (.ref b :: st) := by
  rcases (show q.1 = 0 ∨ q.1 = 1 ∨ q.1 = 2 by omega) with e | e | e
  · have hA' : A.1 b = some (.inr (3, rdF bb kk q)) := hA.trans (congrArg some (rdE_c e))
    exact r_cV0 nx hd hn S3 hA' o3 (E3 e) K
  · have hA' : A.1 b = some (.inr (4, rdF bb kk q)) := hA.trans (congrArg some (rdE_c e))
    exact r_cU0 nx hd hn S4 hA' o4 (E4 e) K
  · have hA' : A.1 b = some (.inr (5, rdF bb kk q)) := hA.trans (congrArg some (rdE_c e))
    exact r_cU0 nx hd hn S5 hA' o5 (E5 e) K
theorem rR1 {v0 : Value} (nx : Nat) (hd : decode M.2.1 pc = .ok (.invokevirtual idx, 3)) (hn : pc + 3 = nx) (S3 : SiteV M.1.cls idx 3 M3 1) (S4 : SiteU M.1.cls idx 4 M4 1) (S5 : SiteU M.1.cls idx 5 M5 1) (hA : A.1 b = some (rdE bb kk q)) (hk : q.1 ≤ 2) (o3 : cOk R M3.2.2.1 d3 0 0 k n st = true) (o4 : cOk R M4.2.2.1 d4 0 0 k n st = true) (o5 : cOk R M5.2.2.1 d5 0 0 k n st = true) (E3 : q.1 = 0 → EvV w M3 d3 [.ref b, v0] A r) (E4 : q.1 = 1 → EvV w M4 d4 [.ref b, v0] A r) (E5 : q.1 = 2 → EvV w M5 d5 [.ref b, v0] A r) (K : Rn w M R Z k n A nx lo (r :: st)) : Rn w M R Z k n A pc lo (v0 :: .ref b :: st) := by
  rcases (show q.1 = 0 ∨ q.1 = 1 ∨ q.1 = 2 by omega) with e | e | e
  · have hA' : A.1 b = some (.inr (3, rdF bb kk q)) := hA.trans (congrArg some (rdE_c e))
    exact r_cV1 nx hd hn S3 hA' o3 (E3 e) K
  · have hA' : A.1 b = some (.inr (4, rdF bb kk q)) := hA.trans (congrArg some (rdE_c e))
    exact r_cU1 nx hd hn S4 hA' o4 (E4 e) K
  · have hA' : A.1 b = some (.inr (5, rdF bb kk q)) := hA.trans (congrArg some (rdE_c e))
    exact r_cU1 nx hd hn S5 hA' o5 (E5 e) K
end RR
set_option maxHeartbeats 4000000 in
theorem ev_X6_kind {w : WE} {A : Hp} {a : Nat} : EvI w mX6_kind 0 [.ref a] A (nI 0) := by
  refine Ev.mk 0 [some (.ref a)] rfl plX6 (Nat.le_of_ble_eq_true rfl) ?_
  refine r_iconst 1 dX6_kind_0 rfl ic_0 ?_
  exact r_iret dX6_kind_1 rfl (Nat.le_refl _) (Nat.le_refl _) ⟨rfl, rfl⟩

theorem ev_R_kind0 {w : WE} {A : Hp} {a : Nat} {q : Rd} (e : q.1 = 0) : EvI w mX6_kind 0 [.ref a] A (nI q.1) := by
  rw [e]
  exact ev_X6_kind
set_option maxHeartbeats 4000000 in
theorem ev_X7_kind {w : WE} {A : Hp} {a : Nat} : EvI w mX7_kind 0 [.ref a] A (nI 1) := by
  refine Ev.mk 0 [some (.ref a)] rfl plX7 (Nat.le_of_ble_eq_true rfl) ?_
  refine r_iconst 1 dX7_kind_0 rfl ic_1 ?_
  exact r_iret dX7_kind_1 rfl (Nat.le_refl _) (Nat.le_refl _) ⟨rfl, rfl⟩

theorem ev_R_kind1 {w : WE} {A : Hp} {a : Nat} {q : Rd} (e : q.1 = 1) : EvI w mX7_kind 0 [.ref a] A (nI q.1) := by
  rw [e]
  exact ev_X7_kind
set_option maxHeartbeats 4000000 in
theorem ev_X8_kind {w : WE} {A : Hp} {a : Nat} : EvI w mX8_kind 0 [.ref a] A (nI 2) := by
  refine Ev.mk 0 [some (.ref a)] rfl plX8 (Nat.le_of_ble_eq_true rfl) ?_
  refine r_iconst 1 dX8_kind_0 rfl ic_2 ?_
  exact r_iret dX8_kind_1 rfl (Nat.le_refl _) (Nat.le_refl _) ⟨rfl, rfl⟩

theorem ev_R_kind2 {w : WE} {A : Hp} {a : Nat} {q : Rd} (e : q.1 = 2) : EvI w mX8_kind 0 [.ref a] A (nI q.1) := by
  rw [e]
  exact ev_X8_kind
set_option maxHeartbeats 4000000 in
theorem ev_X6_number {w : WE} {A : Hp} {a b k : Nat} {q : Rd} (hA : A.1 a = some (rdE b k q)) (hk : q.1 ≤ 2) : EvI w mX6_number 0 [.ref a] A (nI k) := by
  refine Ev.mk 0 [some (.ref a)] rfl plX6 (Nat.le_of_ble_eq_true rfl) ?_
  refine r_aload_n 1 dX6_number_0 rfl rfl lo0 ?_
  refine r_get 4 dX6_number_1 rfl (gR_X6_15 hk) hA lo0 ?_
  exact r_iret dX6_number_4 rfl (Nat.le_refl _) (Nat.le_refl _) ⟨rfl, rfl⟩

set_option maxHeartbeats 4000000 in
theorem ev_X6_joins {w : WE} {A : Hp} {a b k : Nat} {q : Rd} (hA : A.1 a = some (rdE b k q)) (hk : q.1 ≤ 2) {x : Nat} (hx : x < 2 ^ 31) (h2 : q.2.1 < 2 ^ 31 ∧ q.2.2.1 < 2 ^ 31) : EvI w mX6_joins 0 [.ref a, .int (nI x)] A (bI (decide (q.2.1 = x ∨ q.2.2.1 = x))) := by
  refine Ev.mk 0 [some (.ref a), some (.int (nI x))] rfl plX6 (Nat.le_of_ble_eq_true rfl) ?_
  refine r_aload_n 1 dX6_joins_0 rfl rfl lo0 ?_
  refine r_get 4 dX6_joins_1 rfl (gR_X6_19 hk) hA lo1 ?_
  refine r_iload_n 5 dX6_joins_4 rfl rfl lo1 ?_
  first | refine r_icmp_eqN 16 8 dX6_joins_5 rfl (by decide) (by omega) (by omega) (fun hc5 => ?_) (fun hc5 => ?_) | refine r_icmp_eq 16 8 dX6_joins_5 rfl (by decide) (fun hc5 => ?_) (fun hc5 => ?_)
  · refine r_iconst 17 dX6_joins_16 rfl ic_1 ?_
    refine r_goto 21 dX6_joins_17 (by decide) ?_
    exact r_zret dX6_joins_21 rfl (by first | exact nb_b _ | exact nb_0 | exact nb_1) (Nat.le_refl _) (Nat.le_refl _) (rv (by first | exact (bd_t _ (Or.inl hc5)).symm | exact (bd_t _ (Or.inr hc13)).symm | exact (bd_f _ (fun z => z.elim hc5 hc13)).symm))
  · refine r_aload_n 9 dX6_joins_8 rfl rfl lo0 ?_
    refine r_get 12 dX6_joins_9 rfl (gR_X6_22 hk) hA lo2 ?_
    refine r_iload_n 13 dX6_joins_12 rfl rfl lo1 ?_
    first | refine r_icmp_neN 20 16 dX6_joins_13 rfl (by decide) (by omega) (by omega) (fun hc13 => ?_) (fun hc13 => ?_) | refine r_icmp_ne 20 16 dX6_joins_13 rfl (by decide) (fun hc13 => ?_) (fun hc13 => ?_)
    · refine r_iconst 21 dX6_joins_20 rfl ic_0 ?_
      exact r_zret dX6_joins_21 rfl (by first | exact nb_b _ | exact nb_0 | exact nb_1) (Nat.le_refl _) (Nat.le_refl _) (rv (by first | exact (bd_t _ (Or.inl hc5)).symm | exact (bd_t _ (Or.inr hc13)).symm | exact (bd_f _ (fun z => z.elim hc5 hc13)).symm))
    · refine r_iconst 17 dX6_joins_16 rfl ic_1 ?_
      refine r_goto 21 dX6_joins_17 (by decide) ?_
      exact r_zret dX6_joins_21 rfl (by first | exact nb_b _ | exact nb_0 | exact nb_1) (Nat.le_refl _) (Nat.le_refl _) (rv (by first | exact (bd_t _ (Or.inl hc5)).symm | exact (bd_t _ (Or.inr hc13)).symm | exact (bd_f _ (fun z => z.elim hc5 hc13)).symm))

set_option maxHeartbeats 4000000 in
theorem ev_X6_other {w : WE} {A : Hp} {a b k : Nat} {q : Rd} (hA : A.1 a = some (rdE b k q)) (hk : q.1 ≤ 2) {x : Nat} (hx : x < 2 ^ 31) (h2 : q.2.1 < 2 ^ 31) : EvI w mX6_other 0 [.ref a, .int (nI x)] A (nI (othr q x)) := by
  refine Ev.mk 0 [some (.ref a), some (.int (nI x))] rfl plX6 (Nat.le_of_ble_eq_true rfl) ?_
  refine r_aload_n 1 dX6_other_0 rfl rfl lo0 ?_
  refine r_get 4 dX6_other_1 rfl (gR_X6_19 hk) hA lo1 ?_
  refine r_iload_n 5 dX6_other_4 rfl rfl lo1 ?_
  first | refine r_icmp_neN 15 8 dX6_other_5 rfl (by decide) (by omega) (by omega) (fun hc5 => ?_) (fun hc5 => ?_) | refine r_icmp_ne 15 8 dX6_other_5 rfl (by decide) (fun hc5 => ?_) (fun hc5 => ?_)
  · refine r_aload_n 16 dX6_other_15 rfl rfl lo0 ?_
    refine r_get 19 dX6_other_16 rfl (gR_X6_19 hk) hA lo1 ?_
    exact r_iret dX6_other_19 rfl (Nat.le_refl _) (Nat.le_refl _) (rv (by unfold othr; first | rw [if_neg hc5] | rw [if_pos hc5]))
  · refine r_aload_n 9 dX6_other_8 rfl rfl lo0 ?_
    refine r_get 12 dX6_other_9 rfl (gR_X6_22 hk) hA lo2 ?_
    refine r_goto 19 dX6_other_12 (by decide) ?_
    exact r_iret dX6_other_19 rfl (Nat.le_refl _) (Nat.le_refl _) (rv (by unfold othr; first | rw [if_neg hc5] | rw [if_pos hc5]))

set_option maxHeartbeats 4000000 in
theorem ev_X6_takes {w : WE} {A : Hp} {a b k : Nat} {q : Rd} (hA : A.1 a = some (rdE b k q)) (hk : q.1 ≤ 2) {herd : Bool} : EvI w mX6_takes 0 [.ref a, .int (bI herd)] A (nI (tkO herd q)) := by
  refine Ev.mk 0 [some (.ref a), some (.int (bI herd))] rfl plX6 (Nat.le_of_ble_eq_true rfl) ?_
  refine r_iload_n 1 dX6_takes_0 rfl rfl lo1 ?_
  refine r_if_eqB 13 4 dX6_takes_1 rfl (by decide) (fun hc1 => ?_) (fun hc1 => ?_)
  · refine r_aload_n 14 dX6_takes_13 rfl rfl lo0 ?_
    refine r_get 17 dX6_takes_14 rfl (gR_X6_28 hk) hA lo4 ?_
    exact r_iret dX6_takes_17 rfl (Nat.le_refl _) (Nat.le_refl _) (rv (by unfold tkO; first | rw [if_neg (by rw [hc1]; decide)] | rw [if_pos hc1]))
  · refine r_iconst 5 dX6_takes_4 rfl ic_2 ?_
    refine r_aload_n 6 dX6_takes_5 rfl rfl lo0 ?_
    refine r_get 9 dX6_takes_6 rfl (gR_X6_28 hk) hA lo4 ?_
    first | refine r_imulN 10 dX6_takes_9 rfl ?_ | refine r_imul 10 dX6_takes_9 rfl ?_
    refine r_goto 17 dX6_takes_10 (by decide) ?_
    exact r_iret dX6_takes_17 rfl (Nat.le_refl _) (Nat.le_refl _) (rv (by unfold tkO; first | rw [if_neg (by rw [hc1]; decide)] | rw [if_pos hc1]))

set_option maxHeartbeats 4000000 in
theorem ev_X6_asked {w : WE} {A : Hp} {a b k : Nat} {q : Rd} (hA : A.1 a = some (rdE b k q)) (hk : q.1 ≤ 2) {what : Int32} : EvI w mX6_asked 1 [.ref a, .int what] A (if what.toInt = 0 then nI q.1 else if what.toInt = 1 then nI q.2.1 else if what.toInt = 2 then nI q.2.2.1 else if what.toInt = 3 then nI q.2.2.2.1 else if what.toInt = 4 then nI q.2.2.2.2.1 else if what.toInt = 5 then nI q.2.2.2.2.2 else -2) := by
  refine Ev.mk 0 [some (.ref a), some (.int what)] rfl plX6 (Nat.le_of_ble_eq_true rfl) ?_
  refine r_iload_n 1 dX6_asked_0 rfl rfl lo1 ?_
  by_cases hw0 : what.toInt = 0
  · refine r_tin (off := 39) 0 40 dX6_asked_1 hw0 (by decide) (by decide) rfl (by decide) ?_
    refine r_aload_n 41 dX6_asked_40 rfl rfl lo0 ?_
    refine rR0 44 dX6_asked_41 rfl sV_X6_31_3 sU_X6_31_4 sU_X6_31_5 hA hk (by rfl) (by rfl) (by rfl) ev_R_kind0 ev_R_kind1 ev_R_kind2 ?_
    exact r_iret dX6_asked_44 rfl (Nat.le_refl _) (Nat.le_refl _) (rv (by first | rw [if_pos hw0] | rw [if_neg hw0, if_pos hw1] | rw [if_neg hw0, if_neg hw1, if_pos hw2] | rw [if_neg hw0, if_neg hw1, if_neg hw2, if_pos hw3] | rw [if_neg hw0, if_neg hw1, if_neg hw2, if_neg hw3, if_pos hw4] | rw [if_neg hw0, if_neg hw1, if_neg hw2, if_neg hw3, if_neg hw4, if_pos hw5] | rw [if_neg hw0, if_neg hw1, if_neg hw2, if_neg hw3, if_neg hw4, if_neg hw5]))
  by_cases hw1 : what.toInt = 1
  · refine r_tin (off := 44) 1 45 dX6_asked_1 hw1 (by decide) (by decide) rfl (by decide) ?_
    refine r_aload_n 46 dX6_asked_45 rfl rfl lo0 ?_
    refine r_get 49 dX6_asked_46 rfl (gR_X6_19 hk) hA lo1 ?_
    exact r_iret dX6_asked_49 rfl (Nat.le_refl _) (Nat.le_refl _) (rv (by first | rw [if_pos hw0] | rw [if_neg hw0, if_pos hw1] | rw [if_neg hw0, if_neg hw1, if_pos hw2] | rw [if_neg hw0, if_neg hw1, if_neg hw2, if_pos hw3] | rw [if_neg hw0, if_neg hw1, if_neg hw2, if_neg hw3, if_pos hw4] | rw [if_neg hw0, if_neg hw1, if_neg hw2, if_neg hw3, if_neg hw4, if_pos hw5] | rw [if_neg hw0, if_neg hw1, if_neg hw2, if_neg hw3, if_neg hw4, if_neg hw5]))
  by_cases hw2 : what.toInt = 2
  · refine r_tin (off := 49) 2 50 dX6_asked_1 hw2 (by decide) (by decide) rfl (by decide) ?_
    refine r_aload_n 51 dX6_asked_50 rfl rfl lo0 ?_
    refine r_get 54 dX6_asked_51 rfl (gR_X6_22 hk) hA lo2 ?_
    exact r_iret dX6_asked_54 rfl (Nat.le_refl _) (Nat.le_refl _) (rv (by first | rw [if_pos hw0] | rw [if_neg hw0, if_pos hw1] | rw [if_neg hw0, if_neg hw1, if_pos hw2] | rw [if_neg hw0, if_neg hw1, if_neg hw2, if_pos hw3] | rw [if_neg hw0, if_neg hw1, if_neg hw2, if_neg hw3, if_pos hw4] | rw [if_neg hw0, if_neg hw1, if_neg hw2, if_neg hw3, if_neg hw4, if_pos hw5] | rw [if_neg hw0, if_neg hw1, if_neg hw2, if_neg hw3, if_neg hw4, if_neg hw5]))
  by_cases hw3 : what.toInt = 3
  · refine r_tin (off := 54) 3 55 dX6_asked_1 hw3 (by decide) (by decide) rfl (by decide) ?_
    refine r_aload_n 56 dX6_asked_55 rfl rfl lo0 ?_
    refine r_get 59 dX6_asked_56 rfl (gR_X6_25 hk) hA lo3 ?_
    exact r_iret dX6_asked_59 rfl (Nat.le_refl _) (Nat.le_refl _) (rv (by first | rw [if_pos hw0] | rw [if_neg hw0, if_pos hw1] | rw [if_neg hw0, if_neg hw1, if_pos hw2] | rw [if_neg hw0, if_neg hw1, if_neg hw2, if_pos hw3] | rw [if_neg hw0, if_neg hw1, if_neg hw2, if_neg hw3, if_pos hw4] | rw [if_neg hw0, if_neg hw1, if_neg hw2, if_neg hw3, if_neg hw4, if_pos hw5] | rw [if_neg hw0, if_neg hw1, if_neg hw2, if_neg hw3, if_neg hw4, if_neg hw5]))
  by_cases hw4 : what.toInt = 4
  · refine r_tin (off := 59) 4 60 dX6_asked_1 hw4 (by decide) (by decide) rfl (by decide) ?_
    refine r_aload_n 61 dX6_asked_60 rfl rfl lo0 ?_
    refine r_get 64 dX6_asked_61 rfl (gR_X6_28 hk) hA lo4 ?_
    exact r_iret dX6_asked_64 rfl (Nat.le_refl _) (Nat.le_refl _) (rv (by first | rw [if_pos hw0] | rw [if_neg hw0, if_pos hw1] | rw [if_neg hw0, if_neg hw1, if_pos hw2] | rw [if_neg hw0, if_neg hw1, if_neg hw2, if_pos hw3] | rw [if_neg hw0, if_neg hw1, if_neg hw2, if_neg hw3, if_pos hw4] | rw [if_neg hw0, if_neg hw1, if_neg hw2, if_neg hw3, if_neg hw4, if_pos hw5] | rw [if_neg hw0, if_neg hw1, if_neg hw2, if_neg hw3, if_neg hw4, if_neg hw5]))
  by_cases hw5 : what.toInt = 5
  · refine r_tin (off := 64) 5 65 dX6_asked_1 hw5 (by decide) (by decide) rfl (by decide) ?_
    refine r_aload_n 66 dX6_asked_65 rfl rfl lo0 ?_
    refine r_get 69 dX6_asked_66 rfl (gR_X6_35 hk) hA lo5 ?_
    exact r_iret dX6_asked_69 rfl (Nat.le_refl _) (Nat.le_refl _) (rv (by first | rw [if_pos hw0] | rw [if_neg hw0, if_pos hw1] | rw [if_neg hw0, if_neg hw1, if_pos hw2] | rw [if_neg hw0, if_neg hw1, if_neg hw2, if_pos hw3] | rw [if_neg hw0, if_neg hw1, if_neg hw2, if_neg hw3, if_pos hw4] | rw [if_neg hw0, if_neg hw1, if_neg hw2, if_neg hw3, if_neg hw4, if_pos hw5] | rw [if_neg hw0, if_neg hw1, if_neg hw2, if_neg hw3, if_neg hw4, if_neg hw5]))
  refine r_tout 70 dX6_asked_1 (by have := trivial; omega) (by decide) ?_
  refine r_bipush 72 dX6_asked_70 rfl bi_m2 ?_
  exact r_iret dX6_asked_72 rfl (Nat.le_refl _) (Nat.le_refl _) (rv (by first | rw [if_pos hw0] | rw [if_neg hw0, if_pos hw1] | rw [if_neg hw0, if_neg hw1, if_pos hw2] | rw [if_neg hw0, if_neg hw1, if_neg hw2, if_pos hw3] | rw [if_neg hw0, if_neg hw1, if_neg hw2, if_neg hw3, if_pos hw4] | rw [if_neg hw0, if_neg hw1, if_neg hw2, if_neg hw3, if_neg hw4, if_pos hw5] | rw [if_neg hw0, if_neg hw1, if_neg hw2, if_neg hw3, if_neg hw4, if_neg hw5]))

set_option maxHeartbeats 4000000 in
theorem ev_X6_heightIn {w : WE} {A : Hp} {a b k : Nat} {q : Rd} (hA : A.1 a = some (rdE b k q)) (hk : q.1 ≤ 2) {h : Nat} : EvI w mX6_heightIn 0 [.ref a, .int (nI h)] A (nI q.2.2.2.1) := by
  refine Ev.mk 0 [some (.ref a), some (.int (nI h))] rfl plX6 (Nat.le_of_ble_eq_true rfl) ?_
  refine r_aload_n 1 dX6_heightIn_0 rfl rfl lo0 ?_
  refine r_get 4 dX6_heightIn_1 rfl (gR_X6_25 hk) hA lo3 ?_
  exact r_iret dX6_heightIn_4 rfl (Nat.le_refl _) (Nat.le_refl _) ⟨rfl, rfl⟩

set_option maxHeartbeats 4000000 in
theorem ev_X7_heightIn {w : WE} {A : Hp} {a b k : Nat} {q : Rd} (hA : A.1 a = some (rdE b k q)) (hk : q.1 ≤ 2) {h : Nat} : EvI w mX7_heightIn 1 [.ref a, .int (nI h)] A (nI (q.2.2.2.1 + 2 * q.2.2.2.2.2)) := by
  refine Ev.mk 0 [some (.ref a), some (.int (nI h))] rfl plX7 (Nat.le_of_ble_eq_true rfl) ?_
  refine r_aload_n 1 dX7_heightIn_0 rfl rfl lo0 ?_
  refine r_iload_n 2 dX7_heightIn_1 rfl rfl lo1 ?_
  refine r_cP1 5 dX7_heightIn_2 rfl sP_X7_13 hA (by rfl) (ev_X6_heightIn hA hk) ?_
  refine r_iconst 6 dX7_heightIn_5 rfl ic_2 ?_
  refine r_aload_n 7 dX7_heightIn_6 rfl rfl lo0 ?_
  refine r_get 10 dX7_heightIn_7 rfl (gR_X7_17 hk) hA lo5 ?_
  first | refine r_imulN 11 dX7_heightIn_10 rfl ?_ | refine r_imul 11 dX7_heightIn_10 rfl ?_
  first | refine r_iaddN 12 dX7_heightIn_11 rfl ?_ | refine r_iadd 12 dX7_heightIn_11 rfl ?_
  exact r_iret dX7_heightIn_12 rfl (Nat.le_refl _) (Nat.le_refl _) ⟨rfl, rfl⟩

set_option maxHeartbeats 4000000 in
theorem ev_X8_heightIn {w : WE} {A : Hp} {a b k : Nat} {q : Rd} (hA : A.1 a = some (rdE b k q)) (hk : q.1 ≤ 2) {h : Nat} (hh : h ≤ 100000) (hb : q.2.2.2.1 ≤ 400) (hm : q.2.2.2.2.2 ≤ 10) : EvI w mX8_heightIn 2 [.ref a, .int (nI h)] A (nI (q.2.2.2.1 + 2 * q.2.2.2.2.2 - h / 100)) := by
  refine Ev.mk 0 [some (.ref a), some (.int (nI h))] rfl plX8 (Nat.le_of_ble_eq_true rfl) ?_
  refine r_iconst 1 dX8_heightIn_0 rfl ic_0 ?_
  refine r_aload_n 2 dX8_heightIn_1 rfl rfl lo0 ?_
  refine r_iload_n 3 dX8_heightIn_2 rfl rfl lo1 ?_
  refine r_cP1 6 dX8_heightIn_3 rfl sP_X8_13 hA (by rfl) (ev_X7_heightIn hA hk) ?_
  refine r_iload_n 7 dX8_heightIn_6 rfl rfl lo1 ?_
  refine r_bipush 9 dX8_heightIn_7 rfl bi_100 ?_
  first | refine r_idivN 10 dX8_heightIn_9 rfl (by omega) (by omega) (by omega) ?_ | refine r_idiv 10 dX8_heightIn_9 rfl (by assumption) ?_
  refine r_isub 11 dX8_heightIn_10 rfl ?_
  refine r_mmax 14 dX8_heightIn_11 rfl q446 (by rfl) ?_
  exact r_iret dX8_heightIn_14 rfl (Nat.le_refl _) (Nat.le_refl _) (rv (by
      by_cases hc : 0 ≤ nI (q.2.2.2.1 + 2 * q.2.2.2.2.2) - nI (h / 100)
      · have e := sm1 (by omega) (by omega) hc
        rw [e]
        split
        · rfl
        · rename_i hn
          have hz : ¬ 0 < q.2.2.2.1 + 2 * q.2.2.2.2.2 - h / 100 := fun z => hn ((nI_ltI (by decide) (by omega)).mpr z)
          congr 1
          omega
      · have e := sm2 (by omega) (by omega) hc
        rw [e, if_neg (fun z => hc (i_le.mpr (by have := i_lt.mp z; rw [nI_toInt (by decide)] at this; rw [z_om]; omega)))]))

theorem ev_R_h0 {w : WE} {A : Hp} {a b k h isl : Nat} {q : Rd} (hA : A.1 a = some (rdE b k q)) (h0 : (q.1 = 0 → q.2.2.2.2.2 = 0) ∧ RdOk isl q) (hh : h ≤ 100000) (e : q.1 = 0) : EvI w mX6_heightIn 0 [.ref a, .int (nI h)] A (nI (hgt q h)) := by
  have z := ev_X6_heightIn (w := w) (h := h) hA (by omega)
  unfold hgt
  rw [if_neg (by omega), h0.1 e]
  exact z
theorem ev_R_h1 {w : WE} {A : Hp} {a b k h : Nat} {q : Rd} (hA : A.1 a = some (rdE b k q)) (hh : h ≤ 100000) (e : q.1 = 1) : EvI w mX7_heightIn 1 [.ref a, .int (nI h)] A (nI (hgt q h)) := by
  have z := ev_X7_heightIn (w := w) (h := h) hA (by omega)
  unfold hgt
  rw [if_neg (by omega)]
  exact z
theorem ev_R_h2 {w : WE} {A : Hp} {a b k h isl : Nat} {q : Rd} (hA : A.1 a = some (rdE b k q)) (h0 : (q.1 = 0 → q.2.2.2.2.2 = 0) ∧ RdOk isl q) (hh : h ≤ 100000) (e : q.1 = 2) : EvI w mX8_heightIn 2 [.ref a, .int (nI h)] A (nI (hgt q h)) := by
  obtain ⟨-, o1, o2, o3, o4, o5, o6, o7, o8⟩ := h0
  have z := ev_X8_heightIn (w := w) (h := h) hA (by omega) hh o5 o8
  unfold hgt
  rw [if_pos e]
  exact z
