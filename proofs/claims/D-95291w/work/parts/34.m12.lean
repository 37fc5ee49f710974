/-! THE REFERENCE: soonest, latest, saves -/
set_option maxRecDepth 100000
set_option maxHeartbeats 4000000 in
theorem ev_X1_soonest {w : WE} {A : Hp} {m : MT} {S : ST} {f t hour : Int32} {herd : Bool} (hm : MR w A m) (hS : MS m S) : Ev w mX1_soonest 5 0 0 [.ref (mb w), .int f, .int t, .int hour, .int (bI herd)] A (QM w A (fun v m' => v = some (.int (sp_soonest S f t hour herd)) ∧ MS m' S)) := by
  refine Ev.mk 0 [some (.ref (mb w)), some (.int f), some (.int t), some (.int hour), some (.int (bI herd))] rfl plX1 (Nat.le_of_ble_eq_true rfl) ?_
  have hF : Fm w A A := Fm.rf
  have hi6 := hS.ok.le
  have hz : (m.1 5).toInt = (S.1 : Int) := by rw [hS.il, nI_toInt (by omega)]
  refine r_aload_n 1 dX1_soonest_0 rfl rfl lo0 ?_
  refine r_iload_n 2 dX1_soonest_1 rfl rfl lo1 ?_
  refine r_cV1 5 dX1_soonest_2 rfl sV_X1_150_1 hm.t (by rfl) (ev_X1_isIsland hm) ?_
  refine r_if_eqB 16 8 dX1_soonest_5 rfl (by decide) (fun hc5 => ?_) (fun hc5 => ?_)
  · refine r_iconst 17 dX1_soonest_16 rfl ic_m1 ?_
    exact r_iret dX1_soonest_17 rfl (Nat.le_refl _) (Nat.le_refl _) (qm hm hF ⟨rq (by unfold sp_soonest; rw [if_pos (by unfold isI; rw [← hz]; first | exact Or.inl (by rw [hc5]; decide) | exact Or.inr (by rw [hc13]; decide))]), hS⟩)
  · refine r_aload_n 9 dX1_soonest_8 rfl rfl lo0 ?_
    refine r_iload_n 10 dX1_soonest_9 rfl rfl lo2 ?_
    refine r_cV1 13 dX1_soonest_10 rfl sV_X1_150_1 hm.t (by rfl) (ev_X1_isIsland hm) ?_
    refine r_if_neB 18 16 dX1_soonest_13 rfl (by decide) (fun hc13 => ?_) (fun hc13 => ?_)
    · refine r_iload_n 19 dX1_soonest_18 rfl rfl lo3 ?_
      refine r_cS1 22 dX1_soonest_19 rfl sS_X1_137 (by rfl) ev_X1_isHour ?_
      refine r_if_neB 28 25 dX1_soonest_22 rfl (by decide) (fun hc22 => ?_) (fun hc22 => ?_)
      · replace hc5 : isI S f = true := by rw [hz] at hc5; exact hc5
        replace hc13 : isI S t = true := by rw [hz] at hc13; exact hc13
        obtain ⟨f, hf0, rfl⟩ := isI_nat hc5 hi6
        obtain ⟨t, ht0, rfl⟩ := isI_nat hc13 hi6
        obtain ⟨h, hh, rfl⟩ := hr_ok hc22
        refine r_aload_n 29 dX1_soonest_28 rfl rfl lo0 ?_
        refine r_iload 31 dX1_soonest_29 rfl lo4 ?_
        refine rm_v1 34 dX1_soonest_31 rfl sV_X1_174_1 hm hF (by rfl) (ev_X1_layRoads (herd := herd) hm hS) (fun A m' hP hm hF => ?_)
        obtain ⟨he, h18, h1e, hJ⟩ := hP
        have hS1 := hS.eqm he
        refine r_aload_n 35 dX1_soonest_34 rfl rfl lo0 ?_
        refine r_iload_n 36 dX1_soonest_35 rfl rfl lo1 ?_
        refine r_iload_n 37 dX1_soonest_36 rfl rfl lo3 ?_
        refine rm_v2 40 dX1_soonest_37 rfl sV_X1_178_1 hm hF (by rfl) (ev_X1_findThere (S := S) (herd := herd) (f0 := f) (h0 := h) hm hS1 hJ (by omega) (by omega)) (fun A m' hP hm hF => ?_)
        obtain ⟨g, rfl, hg⟩ := hP
        have hb := bf_le (isl := S.1) (ms := S.2.1) (herd := herd) (rs := S.2.2.1) (f := f) (x := t) (show h ≤ 2000 by omega)
        refine r_aload_n 41 dX1_soonest_40 rfl rfl lo0 ?_
        refine r_get 44 dX1_soonest_41 rfl g_X1_61_1 hm.t lo25 ?_
        refine r_iload_n 45 dX1_soonest_44 rfl rfl lo2 ?_
        refine r_ialdv 46 dX1_soonest_45 rfl hm.a18 _ rfl (show g t = _ from hg t ht0) (by omega) (by decide) ?_
        refine r_cS1 49 dX1_soonest_46 rfl sS_X1_182 (by rfl) ev_X1_toldHour ?_
        exact r_iret dX1_soonest_49 rfl (Nat.le_refl _) (Nat.le_refl _) (qm hm hF ⟨rq (by unfold sp_soonest; rw [if_neg (fun h => h.elim (fun a => a hc5) (fun a => a hc13)), if_neg (fun h => h hc22), nI_nat (j := f) (by omega), nI_nat (j := h) (by omega), nI_nat (j := t) (by omega), nI_toInt (by omega), tl_i]), hS1.eqm (Eqm.arr (by decide))⟩)
      · refine r_bipush 27 dX1_soonest_25 rfl bi_m2 ?_
        exact r_iret dX1_soonest_27 rfl (Nat.le_refl _) (Nat.le_refl _) (qm hm hF ⟨rq (by unfold sp_soonest; rw [hz] at hc5 hc13; rw [if_neg (fun h => h.elim (fun a => a hc5) (fun a => a hc13)), if_pos (by rw [hc22]; decide)]), hS⟩)
    · refine r_iconst 17 dX1_soonest_16 rfl ic_m1 ?_
      exact r_iret dX1_soonest_17 rfl (Nat.le_refl _) (Nat.le_refl _) (qm hm hF ⟨rq (by unfold sp_soonest; rw [if_pos (by unfold isI; rw [← hz]; first | exact Or.inl (by rw [hc5]; decide) | exact Or.inr (by rw [hc13]; decide))]), hS⟩)

set_option maxHeartbeats 4000000 in
theorem lp_X1_latest {w : WE} {A0 : Hp} {m : MT} {S : ST} {herd : Bool} {f t b : Nat} {r : Int32} (hS : MS m S) (hf0 : f < S.1) (ht0 : t < S.1) (hb : b ≤ 2000) : ∀ (j lo hi : Nat) (A : Hp) (m1 : MT) (x7 : Option Value), hi ≤ lo + j → lo ≤ hi → hi ≤ 2000 → (r = let z := bsr (fun h => decide (bfS S herd f h t ≤ b)) j lo hi; if z = 0 then -9 else nI (z - 1)) → MS m1 S → JR m1 S.2.1 S.2.2.1 herd → MR w A m1 → Fm w A0 A → Rn w mX1_latest (rmX 5 0 0) (ZX w (QM w A0 (fun v m' => v = some (.int r) ∧ MS m' S)) 0 0) 0 0 A 46 [some (.ref (mb w)), some (.int (nI f)), some (.int (nI t)), some (.int (nI b)), some (.int (bI herd)), some (.int (nI lo + Int32.ofInt (-1))), some (.int (nI hi)), x7] [] := by
  have hi6 := hS.ok.le
  intro j
  induction j with
  | zero =>
    intro lo hi A m1 x7 h1 h2 h3 hr hS1 hJ hm hF
    have e : hi = lo := by omega
    subst e
    have hr : r = if hi = 0 then -9 else nI (hi - 1) := hr
    refine r_iload 48 dX1_latest_46 rfl lo6 ?_
    refine r_iload 50 dX1_latest_48 rfl lo5 ?_
    refine r_isub 51 dX1_latest_50 rfl ?_
    refine r_iconst 52 dX1_latest_51 rfl ic_1 ?_
    refine r_icmp_le 95 55 dX1_latest_52 rfl (by decide) (fun hc52 => ?_) (fun hc52 => ?_)
    · refine r_iload 97 dX1_latest_95 rfl lo5 ?_
      refine r_if_ge 105 100 dX1_latest_97 rfl (by decide) (fun hc97 => ?_) (fun hc97 => ?_)
      · refine r_iload 107 dX1_latest_105 rfl lo5 ?_
        exact r_iret dX1_latest_107 rfl (Nat.le_refl _) (Nat.le_refl _) (qm hm hF ⟨rq (by first | (have hx := lt_end (by omega) hr hc97; exact hx) | (have hx := lt_end2 (by omega) hr hc97; exact hx)), hS1⟩)
      · refine r_bipush 102 dX1_latest_100 rfl bi_m9 ?_
        refine r_goto 107 dX1_latest_102 (by decide) ?_
        exact r_iret dX1_latest_107 rfl (Nat.le_refl _) (Nat.le_refl _) (qm hm hF ⟨rq (by first | (have hx := lt_end (by omega) hr hc97; exact hx) | (have hx := lt_end2 (by omega) hr hc97; exact hx)), hS1⟩)
    · exact absurd ((lh_le (by omega) (by omega)).mpr (Nat.le_refl _)) hc52
  | succ j ih =>
    intro lo hi A m1 x7 h1 h2 h3 hr hS1 hJ hm hF
    refine r_iload 48 dX1_latest_46 rfl lo6 ?_
    refine r_iload 50 dX1_latest_48 rfl lo5 ?_
    refine r_isub 51 dX1_latest_50 rfl ?_
    refine r_iconst 52 dX1_latest_51 rfl ic_1 ?_
    refine r_icmp_le 95 55 dX1_latest_52 rfl (by decide) (fun hc52 => ?_) (fun hc52 => ?_)
    · have hlo : hi ≤ lo := (lh_le (by omega) (by omega)).mp hc52
      have hr : r = if lo = 0 then -9 else nI (lo - 1) := by rw [hr, bsr_e (by omega)]
      refine r_iload 97 dX1_latest_95 rfl lo5 ?_
      refine r_if_ge 105 100 dX1_latest_97 rfl (by decide) (fun hc97 => ?_) (fun hc97 => ?_)
      · refine r_iload 107 dX1_latest_105 rfl lo5 ?_
        exact r_iret dX1_latest_107 rfl (Nat.le_refl _) (Nat.le_refl _) (qm hm hF ⟨rq (by first | (have hx := lt_end (by omega) hr hc97; exact hx) | (have hx := lt_end2 (by omega) hr hc97; exact hx)), hS1⟩)
      · refine r_bipush 102 dX1_latest_100 rfl bi_m9 ?_
        refine r_goto 107 dX1_latest_102 (by decide) ?_
        exact r_iret dX1_latest_107 rfl (Nat.le_refl _) (Nat.le_refl _) (qm hm hF ⟨rq (by first | (have hx := lt_end (by omega) hr hc97; exact hx) | (have hx := lt_end2 (by omega) hr hc97; exact hx)), hS1⟩)
    · have hlo : lo < hi := by have : ¬ hi ≤ lo := fun h => hc52 ((lh_le (by omega) (by omega)).mpr h); omega
      refine r_iload 57 dX1_latest_55 rfl lo5 ?_
      refine r_iload 59 dX1_latest_57 rfl lo6 ?_
      refine r_iadd 60 dX1_latest_59 rfl ?_
      refine r_top (congrArg Value.int (lh_sum (a := lo) (b := hi) (by omega) (by omega) (by omega))) ?_
      refine r_iconst 61 dX1_latest_60 rfl ic_2 ?_
      first | refine r_idivN 62 dX1_latest_61 rfl (by omega) (by omega) (by omega) ?_ | refine r_idiv 62 dX1_latest_61 rfl (by assumption) ?_
      refine r_istore 64 dX1_latest_62 rfl so7 rfl ?_
      refine r_aload_n 65 dX1_latest_64 rfl rfl lo0 ?_
      refine r_iload_n 66 dX1_latest_65 rfl rfl lo1 ?_
      refine r_iload 68 dX1_latest_66 rfl lo7 ?_
      refine rm_v2 71 dX1_latest_68 rfl sV_X1_178_1 hm hF (by rfl) (ev_X1_findThere (S := S) (herd := herd) (f0 := f) (h0 := (lo + hi - 1) / 2) hm hS1 hJ hf0 (by omega)) (fun A m' hP hm hF => ?_)
      obtain ⟨g, rfl, hg⟩ := hP
      have hbl := bf_le (isl := S.1) (ms := S.2.1) (herd := herd) (rs := S.2.2.1) (f := f) (x := t) (show (lo + hi - 1) / 2 ≤ 2000 by omega)
      refine r_aload_n 72 dX1_latest_71 rfl rfl lo0 ?_
      refine r_get 75 dX1_latest_72 rfl g_X1_61_1 hm.t lo25 ?_
      refine r_iload_n 76 dX1_latest_75 rfl rfl lo2 ?_
      refine r_ialdv 77 dX1_latest_76 rfl hm.a18 _ rfl (show g t = _ from hg t ht0) (by omega) (by decide) ?_
      refine r_iload_n 78 dX1_latest_77 rfl rfl lo3 ?_
      first | refine r_icmp_gtN 88 81 dX1_latest_78 rfl (by decide) (by omega) (by omega) (fun hc78 => ?_) (fun hc78 => ?_) | refine r_icmp_gt 88 81 dX1_latest_78 rfl (by decide) (fun hc78 => ?_) (fun hc78 => ?_)
      · refine r_iload 90 dX1_latest_88 rfl lo7 ?_
        refine r_istore 92 dX1_latest_90 rfl so6 rfl ?_
        refine r_goto 46 dX1_latest_92 (by decide) ?_
        first
          | (have hd : bfS S herd f ((lo + hi - 1) / 2) t ≤ b := hc78
             rw [show nI ((lo + hi - 1) / 2) = nI ((lo + hi - 1) / 2 + 1) + Int32.ofInt (-1) from incm1.symm]
             exact ih ((lo + hi - 1) / 2 + 1) hi A _ _ (by omega) (by omega) h3 (by rw [hr, bsr_t hlo (decide_eq_true hc78)]) (hS1.eqm (Eqm.arr (by decide))) (hJ.eq rfl rfl) hm hF)
          | (have hd : b < bfS S herd f ((lo + hi - 1) / 2) t := hc78
             exact ih lo ((lo + hi - 1) / 2) A _ _ (by omega) (by omega) (by omega) (by rw [hr, bsr_f hlo (decide_eq_false (Nat.not_le.mpr hc78))]) (hS1.eqm (Eqm.arr (by decide))) (hJ.eq rfl rfl) hm hF)
      · refine r_iload 83 dX1_latest_81 rfl lo7 ?_
        refine r_istore 85 dX1_latest_83 rfl so5 rfl ?_
        refine r_goto 92 dX1_latest_85 (by decide) ?_
        refine r_goto 46 dX1_latest_92 (by decide) ?_
        first
          | (have hd : bfS S herd f ((lo + hi - 1) / 2) t ≤ b := hc78
             rw [show nI ((lo + hi - 1) / 2) = nI ((lo + hi - 1) / 2 + 1) + Int32.ofInt (-1) from incm1.symm]
             exact ih ((lo + hi - 1) / 2 + 1) hi A _ _ (by omega) (by omega) h3 (by rw [hr, bsr_t hlo (decide_eq_true hc78)]) (hS1.eqm (Eqm.arr (by decide))) (hJ.eq rfl rfl) hm hF)
          | (have hd : b < bfS S herd f ((lo + hi - 1) / 2) t := hc78
             exact ih lo ((lo + hi - 1) / 2) A _ _ (by omega) (by omega) (by omega) (by rw [hr, bsr_f hlo (decide_eq_false (Nat.not_le.mpr hc78))]) (hS1.eqm (Eqm.arr (by decide))) (hJ.eq rfl rfl) hm hF)

set_option maxHeartbeats 4000000 in
theorem ev_X1_latest {w : WE} {A : Hp} {m : MT} {S : ST} {f t b : Int32} {herd : Bool} (hm : MR w A m) (hS : MS m S) : Ev w mX1_latest 5 0 0 [.ref (mb w), .int f, .int t, .int b, .int (bI herd)] A (QM w A (fun v m' => v = some (.int (sp_latest S f t b herd)) ∧ MS m' S)) := by
  refine Ev.mk 3 [some (.ref (mb w)), some (.int f), some (.int t), some (.int b), some (.int (bI herd)), none, none, none] rfl plX1 (Nat.le_of_ble_eq_true rfl) ?_
  have hF : Fm w A A := Fm.rf
  have hi6 := hS.ok.le
  have hz : (m.1 5).toInt = (S.1 : Int) := by rw [hS.il, nI_toInt (by omega)]
  refine r_aload_n 1 dX1_latest_0 rfl rfl lo0 ?_
  refine r_iload_n 2 dX1_latest_1 rfl rfl lo1 ?_
  refine r_cV1 5 dX1_latest_2 rfl sV_X1_150_1 hm.t (by rfl) (ev_X1_isIsland hm) ?_
  refine r_if_eqB 16 8 dX1_latest_5 rfl (by decide) (fun hc5 => ?_) (fun hc5 => ?_)
  · refine r_iconst 17 dX1_latest_16 rfl ic_m1 ?_
    exact r_iret dX1_latest_17 rfl (Nat.le_refl _) (Nat.le_refl _) (qm hm hF ⟨rq (by unfold sp_latest; rw [if_pos (by unfold isI; rw [← hz]; first | exact Or.inl (by rw [hc5]; decide) | exact Or.inr (by rw [hc13]; decide))]), hS⟩)
  · refine r_aload_n 9 dX1_latest_8 rfl rfl lo0 ?_
    refine r_iload_n 10 dX1_latest_9 rfl rfl lo2 ?_
    refine r_cV1 13 dX1_latest_10 rfl sV_X1_150_1 hm.t (by rfl) (ev_X1_isIsland hm) ?_
    refine r_if_neB 18 16 dX1_latest_13 rfl (by decide) (fun hc13 => ?_) (fun hc13 => ?_)
    · refine r_iload_n 19 dX1_latest_18 rfl rfl lo3 ?_
      refine r_iconst 20 dX1_latest_19 rfl ic_0 ?_
      refine r_sipush 23 dX1_latest_20 rfl si_2000 ?_
      refine r_cS3 26 dX1_latest_23 rfl sS_X1_82 (by rfl) (ev_X1_within 0 2000 (by decide) (by decide)) ?_
      refine r_if_neB 32 29 dX1_latest_26 rfl (by decide) (fun hc26 => ?_) (fun hc26 => ?_)
      · replace hc5 : isI S f = true := by rw [hz] at hc5; exact hc5
        replace hc13 : isI S t = true := by rw [hz] at hc13; exact hc13
        obtain ⟨f, hf0, rfl⟩ := isI_nat hc5 hi6
        obtain ⟨t, ht0, rfl⟩ := isI_nat hc13 hi6
        obtain ⟨b, b1, b2, rfl⟩ := btw_nat hc26 (by decide) (by decide)
        refine r_aload_n 33 dX1_latest_32 rfl rfl lo0 ?_
        refine r_iload 35 dX1_latest_33 rfl lo4 ?_
        refine rm_v1 38 dX1_latest_35 rfl sV_X1_174_1 hm hF (by rfl) (ev_X1_layRoads (herd := herd) hm hS) (fun A m' hP hm hF => ?_)
        obtain ⟨he, h18, h1e, hJ⟩ := hP
        have hS1 := hS.eqm he
        refine r_iconst 39 dX1_latest_38 rfl ic_m1 ?_
        refine r_istore 41 dX1_latest_39 rfl so5 rfl ?_
        refine r_sipush 44 dX1_latest_41 rfl si_2000 ?_
        refine r_istore 46 dX1_latest_44 rfl so6 rfl ?_
        have e : sp_latest S (nI f) (nI t) (nI b) herd = (let z := bsr (fun h => decide (bfS S herd f h t ≤ b)) 2000 0 2000; if z = 0 then -9 else nI (z - 1)) := by
          unfold sp_latest
          rw [if_neg (fun h => h.elim (fun a => a hc5) (fun a => a hc13)), if_neg (fun h => h hc26), nI_nat (j := f) (by omega), nI_nat (j := t) (by omega), nI_nat (j := b) (by omega)]
        rw [e, show (-1 : Int32) = nI 0 + Int32.ofInt (-1) by decide]
        exact lp_X1_latest hS hf0 ht0 (by omega) 2000 0 2000 A m' none (by omega) (by omega) (by omega) rfl hS1 hJ hm hF
      · refine r_bipush 31 dX1_latest_29 rfl bi_m2 ?_
        exact r_iret dX1_latest_31 rfl (Nat.le_refl _) (Nat.le_refl _) (qm hm hF ⟨rq (by unfold sp_latest; rw [hz] at hc5 hc13; rw [if_neg (fun h => h.elim (fun a => a hc5) (fun a => a hc13)), if_pos (by rw [hc26]; decide)]), hS⟩)
    · refine r_iconst 17 dX1_latest_16 rfl ic_m1 ?_
      exact r_iret dX1_latest_17 rfl (Nat.le_refl _) (Nat.le_refl _) (qm hm hF ⟨rq (by unfold sp_latest; rw [if_pos (by unfold isI; rw [← hz]; first | exact Or.inl (by rw [hc5]; decide) | exact Or.inr (by rw [hc13]; decide))]), hS⟩)

