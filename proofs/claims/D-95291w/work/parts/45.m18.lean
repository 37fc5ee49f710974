/-! THE REFERENCE: round (ht, that its orders end, is to be shown by the table of orders) -/
set_option maxRecDepth 100000
theorem qm2_toInt {a : Nat} (h : a < 2 ^ 30) : (nI a - nI 2).toInt = (a : Int) - 2 := pk_sub_toInt h (by decide)
set_option maxHeartbeats 4000000 in
theorem ev_X1_round_open {w : WE} {A : Hp} {m : MT} {S : ST} {f hour q : Int32} (ht : ∀ n, 1 ≤ n → n ≤ 5 → ∀ f, f ≤ n → trm n 130 (od0 f)) (hm : MR w A m) (hS : MS m S) : Ev w mX1_round 5 0 0 [.ref (mb w), .int f, .int hour, .int q] A (QM w A (fun v m' => v = some (.int (sp_round S f hour q)) ∧ MS m' S)) := by
  refine Ev.mk 4 [some (.ref (mb w)), some (.int f), some (.int hour), some (.int q), none, none, none, none] rfl plX1 (Nat.le_of_ble_eq_true rfl) ?_
  have hF : Fm w A A := Fm.rf
  have hi6 := hS.ok.le
  have hz : (m.1 5).toInt = (S.1 : Int) := by rw [hS.il, nI_toInt (by omega)]
  refine r_aload_n 1 dX1_round_0 rfl rfl lo0 ?_
  refine r_iload_n 2 dX1_round_1 rfl rfl lo1 ?_
  refine r_cV1 5 dX1_round_2 rfl sV_X1_150_1 hm.t (by rfl) (ev_X1_isIsland hm) ?_
  refine r_if_eqB 22 8 dX1_round_5 rfl (by decide) (fun hc5 => ?_) (fun hc5 => ?_)
  · refine r_iconst 23 dX1_round_22 rfl ic_m1 ?_
    exact r_iret dX1_round_23 rfl (Nat.le_refl _) (Nat.le_refl _) (qm hm hF ⟨rq (by unfold sp_round; rw [if_pos (by first | exact Or.inl (by unfold isI; rw [← hz, hc5]; decide) | exact Or.inr (by rw [hc19]; decide))]), hS⟩)
  · refine r_iload_n 9 dX1_round_8 rfl rfl lo3 ?_
    refine r_iconst 10 dX1_round_9 rfl ic_m1 ?_
    refine r_aload_n 11 dX1_round_10 rfl rfl lo0 ?_
    refine r_getv 14 dX1_round_11 rfl g_X1_86_1 hm.t lo5 hS.il ?_
    refine r_iconst 15 dX1_round_14 rfl ic_2 ?_
    refine r_isub 16 dX1_round_15 rfl ?_
    refine r_cS3 19 dX1_round_16 rfl sS_X1_82 (by rfl) (ev_X1_within (-1) ((S.1 : Int) - 2) (by decide) (qm2_toInt (by omega))) ?_
    refine r_if_neB 24 22 dX1_round_19 rfl (by decide) (fun hc19 => ?_) (fun hc19 => ?_)
    · refine r_iload_n 25 dX1_round_24 rfl rfl lo2 ?_
      refine r_cS1 28 dX1_round_25 rfl sS_X1_137 (by rfl) ev_X1_isHour ?_
      refine r_if_neB 34 31 dX1_round_28 rfl (by decide) (fun hc28 => ?_) (fun hc28 => ?_)
      · replace hc5 : isI S f = true := by rw [hz] at hc5; exact hc5
        obtain ⟨f, hf0, rfl⟩ := isI_nat hc5 hi6
        obtain ⟨h, hh, rfl⟩ := hr_ok hc28
        have hs2 := (hS.ok.pos (by omega)).1
        refine r_aload_n 35 dX1_round_34 rfl rfl lo0 ?_
        refine r_iconst 36 dX1_round_35 rfl ic_0 ?_
        refine rm_v1 39 dX1_round_36 rfl sV_X1_174_1 hm hF (by rfl) (ev_X1_layRoads (herd := false) hm hS) (fun A m' hP hm hF => ?_)
        obtain ⟨he, h18, h1e, hJ⟩ := hP
        have hS1 := hS.eqm he
        refine r_iconst 40 dX1_round_39 rfl ic_0 ?_
        refine r_istore 42 dX1_round_40 rfl so4 rfl ?_
        have e : sp_round S (nI f) (nI h) q = if (rdS S f h).1 = 9999 then -9 else if q.toInt = -1 then nI (rdS S f h).1 else nI ((rdS S f h).2 q.toInt.toNat) := by
          unfold sp_round
          rw [if_neg (fun z => z.elim (fun a => a hc5) (fun a => a hc19)), if_neg (fun z => z hc28), nI_nat (j := f) (by omega), nI_nat (j := h) (by omega)]
        rw [e]
        exact l0_X1_round hS1 hJ hs2 hf0 (by omega) hc19 (ht (S.1 - 1) (by omega) (by omega) f (by omega)) (fun od h => nxo_lt (by omega) h) rfl (S.1 - 1) 0 A m' (by omega) Eqk.rf (fun k hk => absurd hk (by omega)) hm hF
      · refine r_bipush 33 dX1_round_31 rfl bi_m2 ?_
        exact r_iret dX1_round_33 rfl (Nat.le_refl _) (Nat.le_refl _) (qm hm hF ⟨rq (by unfold sp_round; rw [if_neg (fun z => z.elim (fun a => a (by unfold isI; rw [← hz]; exact hc5)) (fun a => a hc19)), if_pos (by rw [hc28]; decide)]), hS⟩)
    · refine r_iconst 23 dX1_round_22 rfl ic_m1 ?_
      exact r_iret dX1_round_23 rfl (Nat.le_refl _) (Nat.le_refl _) (qm hm hF ⟨rq (by unfold sp_round; rw [if_pos (by first | exact Or.inl (by unfold isI; rw [← hz, hc5]; decide) | exact Or.inr (by rw [hc19]; decide))]), hS⟩)

